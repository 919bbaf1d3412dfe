section
-- ===== PART A: goes FIRST, ahead of the names: the tables' words, and 'selects' of the private methods out of them =====
/-- a private method of a class that the tables say can be made, by its rows of tables_1 -/
def lw_okq (q : MethodName × Nat) : Prop := (q.1.cls ≠ "java/lang/invoke/MethodHandle" ∧ q.1.cls ≠ "java/lang/invoke/VarHandle") ∧ Cond.instantiable q.1.cls q.2 ∈ tables_1 ∧ Cond.privateMethod q.1 ∈ tables_1 ∧ Cond.instanceMethod q.1 ∈ tables_1
set_option maxRecDepth 100000
theorem lw_p0 : lw_okq (⟨"KnownBits", "add", "(II)V"⟩, 4) := ⟨⟨by decide +kernel, by decide +kernel⟩, List.mem_of_getElem? (i := 4) rfl, List.mem_of_getElem? (i := 37) rfl, List.mem_of_getElem? (i := 38) rfl⟩
theorem lw_p1 : lw_okq (⟨"KnownBits", "subtract", "(II)V"⟩, 4) := ⟨⟨by decide +kernel, by decide +kernel⟩, List.mem_of_getElem? (i := 4) rfl, List.mem_of_getElem? (i := 41) rfl, List.mem_of_getElem? (i := 42) rfl⟩
theorem lw_p2 : lw_okq (⟨"KnownBits", "bitwise", "(III)V"⟩, 4) := ⟨⟨by decide +kernel, by decide +kernel⟩, List.mem_of_getElem? (i := 4) rfl, List.mem_of_getElem? (i := 45) rfl, List.mem_of_getElem? (i := 46) rfl⟩
theorem lw_p3 : lw_okq (⟨"KnownBits", "keep", "(I)V"⟩, 4) := ⟨⟨by decide +kernel, by decide +kernel⟩, List.mem_of_getElem? (i := 4) rfl, List.mem_of_getElem? (i := 49) rfl, List.mem_of_getElem? (i := 50) rfl⟩
theorem lw_p4 : lw_okq (⟨"KnownBits", "narrowed", "(III)Z"⟩, 4) := ⟨⟨by decide +kernel, by decide +kernel⟩, List.mem_of_getElem? (i := 4) rfl, List.mem_of_getElem? (i := 61) rfl, List.mem_of_getElem? (i := 62) rfl⟩
theorem lw_p5 : lw_okq (⟨"KnownBits", "supposeOrder", "(III)I"⟩, 4) := ⟨⟨by decide +kernel, by decide +kernel⟩, List.mem_of_getElem? (i := 4) rfl, List.mem_of_getElem? (i := 73) rfl, List.mem_of_getElem? (i := 74) rfl⟩
theorem lw_p6 : lw_okq (⟨"KnownBits", "greatest", "(I)I"⟩, 4) := ⟨⟨by decide +kernel, by decide +kernel⟩, List.mem_of_getElem? (i := 4) rfl, List.mem_of_getElem? (i := 77) rfl, List.mem_of_getElem? (i := 78) rfl⟩
theorem lw_p7 : lw_okq (⟨"KnownBits", "supposeDifferent", "(II)I"⟩, 4) := ⟨⟨by decide +kernel, by decide +kernel⟩, List.mem_of_getElem? (i := 4) rfl, List.mem_of_getElem? (i := 81) rfl, List.mem_of_getElem? (i := 82) rfl⟩
theorem lw_p8 : lw_okq (⟨"KnownBits", "takeOut", "(II)V"⟩, 4) := ⟨⟨by decide +kernel, by decide +kernel⟩, List.mem_of_getElem? (i := 4) rfl, List.mem_of_getElem? (i := 85) rfl, List.mem_of_getElem? (i := 86) rfl⟩
theorem lw_p9 : lw_okq (⟨"KnownBits", "compareEqual", "(II)I"⟩, 4) := ⟨⟨by decide +kernel, by decide +kernel⟩, List.mem_of_getElem? (i := 4) rfl, List.mem_of_getElem? (i := 93) rfl, List.mem_of_getElem? (i := 94) rfl⟩
theorem lw_p10 : lw_okq (⟨"KnownBits", "compareLess", "(II)I"⟩, 4) := ⟨⟨by decide +kernel, by decide +kernel⟩, List.mem_of_getElem? (i := 4) rfl, List.mem_of_getElem? (i := 97) rfl, List.mem_of_getElem? (i := 98) rfl⟩
theorem lw_p11 : lw_okq (⟨"KnownBits", "rank", "(II)I"⟩, 4) := ⟨⟨by decide +kernel, by decide +kernel⟩, List.mem_of_getElem? (i := 4) rfl, List.mem_of_getElem? (i := 117) rfl, List.mem_of_getElem? (i := 118) rfl⟩
theorem lw_p12 : lw_okq (⟨"KnownBitsModel", "stands", "(II)Z"⟩, 2) := ⟨⟨by decide +kernel, by decide +kernel⟩, List.mem_of_getElem? (i := 124) rfl, List.mem_of_getElem? (i := 148) rfl, List.mem_of_getElem? (i := 149) rfl⟩
theorem lw_p13 : lw_okq (⟨"KnownBitsModel", "results", "(IIII)J"⟩, 2) := ⟨⟨by decide +kernel, by decide +kernel⟩, List.mem_of_getElem? (i := 124) rfl, List.mem_of_getElem? (i := 152) rfl, List.mem_of_getElem? (i := 153) rfl⟩
theorem lw_p14 : lw_okq (⟨"KnownBitsModel", "keep", "(IJ)I"⟩, 2) := ⟨⟨by decide +kernel, by decide +kernel⟩, List.mem_of_getElem? (i := 124) rfl, List.mem_of_getElem? (i := 156) rfl, List.mem_of_getElem? (i := 157) rfl⟩
def lw_privs_1 : List (MethodName × Nat) := [(⟨"KnownBits", "add", "(II)V"⟩, 4), (⟨"KnownBits", "subtract", "(II)V"⟩, 4), (⟨"KnownBits", "bitwise", "(III)V"⟩, 4), (⟨"KnownBits", "keep", "(I)V"⟩, 4), (⟨"KnownBits", "narrowed", "(III)Z"⟩, 4), (⟨"KnownBits", "supposeOrder", "(III)I"⟩, 4), (⟨"KnownBits", "greatest", "(I)I"⟩, 4), (⟨"KnownBits", "supposeDifferent", "(II)I"⟩, 4), (⟨"KnownBits", "takeOut", "(II)V"⟩, 4), (⟨"KnownBits", "compareEqual", "(II)I"⟩, 4), (⟨"KnownBits", "compareLess", "(II)I"⟩, 4), (⟨"KnownBits", "rank", "(II)I"⟩, 4), (⟨"KnownBitsModel", "stands", "(II)Z"⟩, 2), (⟨"KnownBitsModel", "results", "(IIII)J"⟩, 2), (⟨"KnownBitsModel", "keep", "(IJ)I"⟩, 2)]
theorem lw_r1 : ∀ q ∈ lw_privs_1, lw_okq q := List.forall_mem_cons.mpr ⟨lw_p0, List.forall_mem_cons.mpr ⟨lw_p1, List.forall_mem_cons.mpr ⟨lw_p2, List.forall_mem_cons.mpr ⟨lw_p3, List.forall_mem_cons.mpr ⟨lw_p4, List.forall_mem_cons.mpr ⟨lw_p5, List.forall_mem_cons.mpr ⟨lw_p6, List.forall_mem_cons.mpr ⟨lw_p7, List.forall_mem_cons.mpr ⟨lw_p8, List.forall_mem_cons.mpr ⟨lw_p9, List.forall_mem_cons.mpr ⟨lw_p10, List.forall_mem_cons.mpr ⟨lw_p11, List.forall_mem_cons.mpr ⟨lw_p12, List.forall_mem_cons.mpr ⟨lw_p13, List.forall_mem_cons.mpr ⟨lw_p14, fun _ h => absurd h List.not_mem_nil⟩⟩⟩⟩⟩⟩⟩⟩⟩⟩⟩⟩⟩⟩⟩
def lw_privs : List (MethodName × Nat) := lw_privs_1
def lw_tbl : List Cond := k2_sels lw_privs ++ tables_1
theorem lw_privs_ok : ∀ q ∈ lw_privs, lw_okq q := lw_r1
-- ===== ONE list of words for every method: the tables' words that hold all through a run =====
def lw_all : List Cond := lw_tbl.filter goodWord
/-- a word of the tables by its place: claim/WORDS.tsv -/
theorem lw_w {w : Cond} (i : Nat) (h : lw_tbl[i]? = some w) (g : goodWord w = true) : w ∈ lw_all := List.mem_filter.mpr ⟨List.mem_of_getElem? h, g⟩
theorem lw_all_tbl {w : Cond} (h : w ∈ lw_all) : w ∈ lw_tbl := (List.mem_filter.mp h).1
theorem lw_self : GoodIn lw_all lw_all := fun w h => ⟨h, good_of_word (List.mem_filter.mp h).2⟩
/-- a class's field words, by their places -/
theorem lw_in (ws : List Cond) (ps : List Nat) (hp : ws = ps.filterMap (fun i => lw_tbl[i]?)) (hg : ws.all goodWord = true) : ∀ w ∈ ws, w ∈ lw_all := by
  intro w h
  have h1 := List.all_eq_true.mp hg w h
  rw [hp] at h
  obtain ⟨i, -, hi⟩ := List.mem_filterMap.mp h
  exact lw_w i hi h1
/-- the words of a contract for the method y with code b, L locals, answer r -/
abbrev ws_ (y : MethodName) (b : ByteArray) (L : Nat) (r : Option FieldType) : List Cond := Cond.code y b L r :: lw_all
theorem lw_meth {y : MethodName} {b : ByteArray} {L : Nat} {r : Option FieldType} (h : Cond.code y b L r ∈ lw_all) : GoodIn lw_all (ws_ y b L r) := by
  intro w hw
  rcases List.mem_cons.mp hw with e | e
  · rw [e]
    exact lw_self _ h
  · exact lw_self _ e
theorem lw_app {a c : List Cond} (ha : ∀ w ∈ a, w ∈ lw_all) (hc : GoodIn lw_all c) : GoodIn lw_all (a ++ c) := by
  intro w hw
  rcases List.mem_append.mp hw with e | e
  · exact lw_self w (ha w e)
  · exact hc w e
/-- what a call through an object asks: cwV n hts (lw_V ..) -/
theorem lw_V {own : String} {idx : Nat} {C : String} {y : MethodName} {b : ByteArray} {L : Nat} {r : Option FieldType} (h1 : Cond.methodLink own idx y ∈ lw_all) (h2 : Cond.instanceMethod y ∈ lw_all) (h3 : Cond.selects C y y ∈ lw_all) (h4 : Cond.initialized C ∈ lw_all) (h5 : Cond.code y b L r ∈ lw_all) : GoodIn lw_all (wsV own idx C y (ws_ y b L r)) := by
  refine lw_app ?_ (lw_meth h5)
  intro w hw
  simp only [List.mem_cons, List.not_mem_nil, or_false] at hw
  rcases hw with e | e | e | e
  · rw [e]; exact h1
  · rw [e]; exact h2
  · rw [e]; exact h3
  · rw [e]; exact h4
/-- what a static call asks: va_cwS n hts (lw_S ..) -/
theorem lw_S {own : String} {idx : Nat} {y : MethodName} {b : ByteArray} {L : Nat} {r : Option FieldType} (h1 : Cond.methodLink own idx y ∈ lw_all) (h2 : Cond.static y ∈ lw_all) (h3 : Cond.initialized y.cls ∈ lw_all) (h4 : Cond.code y b L r ∈ lw_all) : GoodIn lw_all (va_wsS own idx y (ws_ y b L r)) := by
  refine lw_app ?_ (lw_meth h4)
  intro w hw
  simp only [List.mem_cons, List.not_mem_nil, or_false] at hw
  rcases hw with e | e | e
  · rw [e]; exact h1
  · rw [e]; exact h2
  · rw [e]; exact h3
/-- the words of a contract for a method WITH HANDLERS (hh: its table) -/
abbrev wsW_ (y : MethodName) (b : ByteArray) (L : Nat) (r : Option FieldType) (hh : List (Nat × Nat × Nat × Nat)) : List Cond := Cond.codeWith y b L r hh :: lw_all
theorem lw_methW {y : MethodName} {b : ByteArray} {L : Nat} {r : Option FieldType} {hh : List (Nat × Nat × Nat × Nat)} (h : Cond.codeWith y b L r hh ∈ lw_all) : GoodIn lw_all (wsW_ y b L r hh) := by
  intro w hw
  rcases List.mem_cons.mp hw with e | e
  · rw [e]
    exact lw_self _ h
  · exact lw_self _ e
/-- any list of words by their places (lw_in), good -/
theorem lw_good {ws : List Cond} (h : ∀ w ∈ ws, w ∈ lw_all) : GoodIn lw_all ws := fun w hw => lw_self w (h w hw)
/-- what a call of a method with handlers asks: vx_cwVW n hts (lw_VW ..), vx_cwSW n hts (lw_SW ..) -/
theorem lw_VW {own : String} {idx : Nat} {C : String} {y : MethodName} {b : ByteArray} {L : Nat} {r : Option FieldType} {hh : List (Nat × Nat × Nat × Nat)} (h1 : Cond.methodLink own idx y ∈ lw_all) (h2 : Cond.instanceMethod y ∈ lw_all) (h3 : Cond.selects C y y ∈ lw_all) (h4 : Cond.initialized C ∈ lw_all) (h5 : Cond.codeWith y b L r hh ∈ lw_all) : GoodIn lw_all (wsV own idx C y (wsW_ y b L r hh)) := by
  refine lw_app ?_ (lw_methW h5)
  intro w hw
  simp only [List.mem_cons, List.not_mem_nil, or_false] at hw
  rcases hw with e | e | e | e
  · rw [e]; exact h1
  · rw [e]; exact h2
  · rw [e]; exact h3
  · rw [e]; exact h4
theorem lw_SW {own : String} {idx : Nat} {y : MethodName} {b : ByteArray} {L : Nat} {r : Option FieldType} {hh : List (Nat × Nat × Nat × Nat)} (h1 : Cond.methodLink own idx y ∈ lw_all) (h2 : Cond.static y ∈ lw_all) (h3 : Cond.initialized y.cls ∈ lw_all) (h4 : Cond.codeWith y b L r hh ∈ lw_all) : GoodIn lw_all (va_wsS own idx y (wsW_ y b L r hh)) := by
  refine lw_app ?_ (lw_methW h4)
  intro w hw
  simp only [List.mem_cons, List.not_mem_nil, or_false] at hw
  rcases hw with e | e | e
  · rw [e]; exact h1
  · rw [e]; exact h2
  · rw [e]; exact h3
/-- a word by its place in its run of the tables -/
theorem lw_at {r : List Cond} (hr : ∀ w ∈ r, w ∈ lw_tbl) {w : Cond} (i : Nat) (h : r[i]? = some w) : w ∈ lw_tbl := hr w (List.mem_of_getElem? h)
theorem lw_g {w : Cond} (h : w ∈ lw_tbl) (g : goodWord w = true) : w ∈ lw_all := List.mem_filter.mpr ⟨h, g⟩
theorem lw_ms : ∀ w ∈ k2_sels lw_privs, w ∈ lw_tbl := fun w h => show w ∈ k2_sels lw_privs ++ tables_1 from List.mem_append_left _ h
theorem lw_m0 : ∀ w ∈ tables_1, w ∈ lw_tbl := fun w h => show w ∈ k2_sels lw_privs ++ tables_1 from List.mem_append_right (k2_sels lw_privs) h
theorem qs0 : (Cond.selects "KnownBits" ⟨"KnownBits", "add", "(II)V"⟩ ⟨"KnownBits", "add", "(II)V"⟩) ∈ lw_all := lw_g (lw_at lw_ms 0 rfl) rfl
theorem qs1 : (Cond.selects "KnownBits" ⟨"KnownBits", "subtract", "(II)V"⟩ ⟨"KnownBits", "subtract", "(II)V"⟩) ∈ lw_all := lw_g (lw_at lw_ms 1 rfl) rfl
theorem qs2 : (Cond.selects "KnownBits" ⟨"KnownBits", "bitwise", "(III)V"⟩ ⟨"KnownBits", "bitwise", "(III)V"⟩) ∈ lw_all := lw_g (lw_at lw_ms 2 rfl) rfl
theorem qs3 : (Cond.selects "KnownBits" ⟨"KnownBits", "keep", "(I)V"⟩ ⟨"KnownBits", "keep", "(I)V"⟩) ∈ lw_all := lw_g (lw_at lw_ms 3 rfl) rfl
theorem qs4 : (Cond.selects "KnownBits" ⟨"KnownBits", "narrowed", "(III)Z"⟩ ⟨"KnownBits", "narrowed", "(III)Z"⟩) ∈ lw_all := lw_g (lw_at lw_ms 4 rfl) rfl
theorem qs5 : (Cond.selects "KnownBits" ⟨"KnownBits", "supposeOrder", "(III)I"⟩ ⟨"KnownBits", "supposeOrder", "(III)I"⟩) ∈ lw_all := lw_g (lw_at lw_ms 5 rfl) rfl
theorem qs6 : (Cond.selects "KnownBits" ⟨"KnownBits", "greatest", "(I)I"⟩ ⟨"KnownBits", "greatest", "(I)I"⟩) ∈ lw_all := lw_g (lw_at lw_ms 6 rfl) rfl
theorem qs7 : (Cond.selects "KnownBits" ⟨"KnownBits", "supposeDifferent", "(II)I"⟩ ⟨"KnownBits", "supposeDifferent", "(II)I"⟩) ∈ lw_all := lw_g (lw_at lw_ms 7 rfl) rfl
theorem qs8 : (Cond.selects "KnownBits" ⟨"KnownBits", "takeOut", "(II)V"⟩ ⟨"KnownBits", "takeOut", "(II)V"⟩) ∈ lw_all := lw_g (lw_at lw_ms 8 rfl) rfl
theorem qs9 : (Cond.selects "KnownBits" ⟨"KnownBits", "compareEqual", "(II)I"⟩ ⟨"KnownBits", "compareEqual", "(II)I"⟩) ∈ lw_all := lw_g (lw_at lw_ms 9 rfl) rfl
theorem qs10 : (Cond.selects "KnownBits" ⟨"KnownBits", "compareLess", "(II)I"⟩ ⟨"KnownBits", "compareLess", "(II)I"⟩) ∈ lw_all := lw_g (lw_at lw_ms 10 rfl) rfl
theorem qs11 : (Cond.selects "KnownBits" ⟨"KnownBits", "rank", "(II)I"⟩ ⟨"KnownBits", "rank", "(II)I"⟩) ∈ lw_all := lw_g (lw_at lw_ms 11 rfl) rfl
theorem qs12 : (Cond.selects "KnownBitsModel" ⟨"KnownBitsModel", "stands", "(II)Z"⟩ ⟨"KnownBitsModel", "stands", "(II)Z"⟩) ∈ lw_all := lw_g (lw_at lw_ms 12 rfl) rfl
theorem qs13 : (Cond.selects "KnownBitsModel" ⟨"KnownBitsModel", "results", "(IIII)J"⟩ ⟨"KnownBitsModel", "results", "(IIII)J"⟩) ∈ lw_all := lw_g (lw_at lw_ms 13 rfl) rfl
theorem qs14 : (Cond.selects "KnownBitsModel" ⟨"KnownBitsModel", "keep", "(IJ)I"⟩ ⟨"KnownBitsModel", "keep", "(IJ)I"⟩) ∈ lw_all := lw_g (lw_at lw_ms 14 rfl) rfl
end
section
/-! KnownBits -/
set_option maxRecDepth 100000
def RX0 : String := "KnownBits"
def TX0 : u_T := fun k => match k with
  | 0 => ("KnownBits", "value", "[I", true)
  | 1 => ("KnownBits", "mask", "[I", true)
  | 2 => ("KnownBits", "newValue", "I", false)
  | _ => ("KnownBits", "newMask", "I", false)
def tyX0 : Nat → FieldType := fun k => match k with
  | 0 => .array .int
  | 1 => .array .int
  | 2 => .int
  | _ => .int
abbrev wsX00 : List Cond := u_ws RX0 TX0 4
theorem nmX0 : ∀ a, a < 4 → ∀ b, b < 4 → a ≠ b → (TX0 a).2.1 ≠ (TX0 b).2.1 := by decide +kernel
theorem tyX0_ok : ∀ k, k < 4 → parseFieldDescriptor (TX0 k).2.2.1 = some (tyX0 k) := by decide +kernel
abbrev cX0_init : ByteArray := prog_1_method_1_code
def yX0_init : MethodName := ⟨RX0, "<init>", "()V"⟩
abbrev cX0_set : ByteArray := prog_1_method_2_code
def yX0_set : MethodName := ⟨RX0, "set", "(III)I"⟩
abbrev cX0_isRegister : ByteArray := prog_1_method_12_code
def yX0_isRegister : MethodName := ⟨RX0, "isRegister", "(I)Z"⟩
abbrev cX0_combine : ByteArray := prog_1_method_3_code
def yX0_combine : MethodName := ⟨RX0, "combine", "(IIII)I"⟩
abbrev cX0_add : ByteArray := prog_1_method_14_code
def yX0_add : MethodName := ⟨RX0, "add", "(II)V"⟩
abbrev cX0_subtract : ByteArray := prog_1_method_15_code
def yX0_subtract : MethodName := ⟨RX0, "subtract", "(II)V"⟩
abbrev cX0_bitwise : ByteArray := prog_1_method_16_code
def yX0_bitwise : MethodName := ⟨RX0, "bitwise", "(III)V"⟩
abbrev cX0_keep : ByteArray := prog_1_method_13_code
def yX0_keep : MethodName := ⟨RX0, "keep", "(I)V"⟩
abbrev cX0_shift : ByteArray := prog_1_method_4_code
def yX0_shift : MethodName := ⟨RX0, "shift", "(III)I"⟩
abbrev cX0_narrow : ByteArray := prog_1_method_5_code
def yX0_narrow : MethodName := ⟨RX0, "narrow", "(III)I"⟩
abbrev cX0_narrowed : ByteArray := prog_1_method_21_code
def yX0_narrowed : MethodName := ⟨RX0, "narrowed", "(III)Z"⟩
abbrev cX0_leastFrom : ByteArray := prog_1_method_17_code
def yX0_leastFrom : MethodName := ⟨RX0, "leastFrom", "(III)I"⟩
abbrev cX0_suppose : ByteArray := prog_1_method_6_code
def yX0_suppose : MethodName := ⟨RX0, "suppose", "(III)I"⟩
abbrev cX0_supposeOrder : ByteArray := prog_1_method_22_code
def yX0_supposeOrder : MethodName := ⟨RX0, "supposeOrder", "(III)I"⟩
abbrev cX0_greatest : ByteArray := prog_1_method_20_code
def yX0_greatest : MethodName := ⟨RX0, "greatest", "(I)I"⟩
abbrev cX0_supposeDifferent : ByteArray := prog_1_method_23_code
def yX0_supposeDifferent : MethodName := ⟨RX0, "supposeDifferent", "(II)I"⟩
abbrev cX0_takeOut : ByteArray := prog_1_method_24_code
def yX0_takeOut : MethodName := ⟨RX0, "takeOut", "(II)V"⟩
abbrev cX0_compare : ByteArray := prog_1_method_7_code
def yX0_compare : MethodName := ⟨RX0, "compare", "(III)I"⟩
abbrev cX0_compareEqual : ByteArray := prog_1_method_25_code
def yX0_compareEqual : MethodName := ⟨RX0, "compareEqual", "(II)I"⟩
abbrev cX0_compareLess : ByteArray := prog_1_method_26_code
def yX0_compareLess : MethodName := ⟨RX0, "compareLess", "(II)I"⟩
abbrev cX0_value : ByteArray := prog_1_method_8_code
def yX0_value : MethodName := ⟨RX0, "value", "(I)I"⟩
abbrev cX0_mask : ByteArray := prog_1_method_9_code
def yX0_mask : MethodName := ⟨RX0, "mask", "(I)I"⟩
abbrev cX0_least : ByteArray := prog_1_method_10_code
def yX0_least : MethodName := ⟨RX0, "least", "(II)I"⟩
abbrev cX0_count : ByteArray := prog_1_method_11_code
def yX0_count : MethodName := ⟨RX0, "count", "(III)I"⟩
abbrev cX0_rank : ByteArray := prog_1_method_18_code
def yX0_rank : MethodName := ⟨RX0, "rank", "(II)I"⟩
abbrev cX0_bits : ByteArray := prog_1_method_19_code
def yX0_bits : MethodName := ⟨RX0, "bits", "(I)I"⟩
theorem q16 : (Jvm.Cond.initialized "KnownBits") ∈ lw_all := lw_g (lw_at lw_m0 1 rfl) rfl
theorem q19 : (Jvm.Cond.instantiable "KnownBits" (4 : Nat)) ∈ lw_all := lw_g (lw_at lw_m0 4 rfl) rfl
theorem q21 : (Jvm.Cond.instanceMethod ({ cls := "KnownBits", name := "<init>", desc := "()V" } : Jvm.MethodName)) ∈ lw_all := lw_g (lw_at lw_m0 6 rfl) rfl
theorem q22 : (Jvm.Cond.code ({ cls := "KnownBits", name := "<init>", desc := "()V" } : Jvm.MethodName) prog_1_method_1_code (1 : Nat) (Option.none : Option Jvm.ClassFile.FieldType)) ∈ lw_all := lw_g (lw_at lw_m0 7 rfl) rfl
theorem q23 : (Jvm.Cond.methodLink "KnownBits" (1 : Nat) ({ cls := "java/lang/Object", name := "<init>", desc := "()V" } : Jvm.MethodName)) ∈ lw_all := lw_g (lw_at lw_m0 8 rfl) rfl
theorem q26 : (Jvm.Cond.fieldLink "KnownBits" (7 : Nat) "KnownBits" "value" "[I") ∈ lw_all := lw_g (lw_at lw_m0 11 rfl) rfl
theorem q27 : (Jvm.Cond.fieldLink "KnownBits" (13 : Nat) "KnownBits" "mask" "[I") ∈ lw_all := lw_g (lw_at lw_m0 12 rfl) rfl
theorem q28 : (Jvm.Cond.fieldLink "KnownBits" (35 : Nat) "KnownBits" "newValue" "I") ∈ lw_all := lw_g (lw_at lw_m0 13 rfl) rfl
theorem q29 : (Jvm.Cond.fieldLink "KnownBits" (31 : Nat) "KnownBits" "newMask" "I") ∈ lw_all := lw_g (lw_at lw_m0 14 rfl) rfl
theorem q30 : (Jvm.Cond.laysFinal "KnownBits" "KnownBits" "value" "[I") ∈ lw_all := lw_g (lw_at lw_m0 15 rfl) rfl
theorem q31 : (Jvm.Cond.soleField "KnownBits" "value") ∈ lw_all := lw_g (lw_at lw_m0 16 rfl) rfl
theorem q32 : (Jvm.Cond.laysFinal "KnownBits" "KnownBits" "mask" "[I") ∈ lw_all := lw_g (lw_at lw_m0 17 rfl) rfl
theorem q33 : (Jvm.Cond.soleField "KnownBits" "mask") ∈ lw_all := lw_g (lw_at lw_m0 18 rfl) rfl
theorem q34 : (Jvm.Cond.lays "KnownBits" "KnownBits" "newValue" "I") ∈ lw_all := lw_g (lw_at lw_m0 19 rfl) rfl
theorem q35 : (Jvm.Cond.soleField "KnownBits" "newValue") ∈ lw_all := lw_g (lw_at lw_m0 20 rfl) rfl
theorem q36 : (Jvm.Cond.lays "KnownBits" "KnownBits" "newMask" "I") ∈ lw_all := lw_g (lw_at lw_m0 21 rfl) rfl
theorem q37 : (Jvm.Cond.soleField "KnownBits" "newMask") ∈ lw_all := lw_g (lw_at lw_m0 22 rfl) rfl
theorem q38 : (Jvm.Cond.superclass "KnownBits" "java/lang/Object") ∈ lw_all := lw_g (lw_at lw_m0 23 rfl) rfl
theorem q41 : (Jvm.Cond.instanceMethod ({ cls := "KnownBits", name := "set", desc := "(III)I" } : Jvm.MethodName)) ∈ lw_all := lw_g (lw_at lw_m0 26 rfl) rfl
theorem q42 : (Jvm.Cond.selects "KnownBits" ({ cls := "KnownBits", name := "set", desc := "(III)I" } : Jvm.MethodName) ({ cls := "KnownBits", name := "set", desc := "(III)I" } : Jvm.MethodName)) ∈ lw_all := lw_g (lw_at lw_m0 27 rfl) rfl
theorem q43 : (Jvm.Cond.code ({ cls := "KnownBits", name := "set", desc := "(III)I" } : Jvm.MethodName) prog_1_method_2_code (4 : Nat) (Option.some Jvm.ClassFile.FieldType.int)) ∈ lw_all := lw_g (lw_at lw_m0 28 rfl) rfl
theorem q44 : (Jvm.Cond.methodLink "KnownBits" (16 : Nat) ({ cls := "KnownBits", name := "isRegister", desc := "(I)Z" } : Jvm.MethodName)) ∈ lw_all := lw_g (lw_at lw_m0 29 rfl) rfl
theorem q45 : (Jvm.Cond.static ({ cls := "KnownBits", name := "isRegister", desc := "(I)Z" } : Jvm.MethodName)) ∈ lw_all := lw_g (lw_at lw_m0 30 rfl) rfl
theorem q46 : (Jvm.Cond.code ({ cls := "KnownBits", name := "isRegister", desc := "(I)Z" } : Jvm.MethodName) prog_1_method_12_code (1 : Nat) (Option.some Jvm.ClassFile.FieldType.boolean)) ∈ lw_all := lw_g (lw_at lw_m0 31 rfl) rfl
theorem q48 : (Jvm.Cond.instanceMethod ({ cls := "KnownBits", name := "combine", desc := "(IIII)I" } : Jvm.MethodName)) ∈ lw_all := lw_g (lw_at lw_m0 33 rfl) rfl
theorem q49 : (Jvm.Cond.selects "KnownBits" ({ cls := "KnownBits", name := "combine", desc := "(IIII)I" } : Jvm.MethodName) ({ cls := "KnownBits", name := "combine", desc := "(IIII)I" } : Jvm.MethodName)) ∈ lw_all := lw_g (lw_at lw_m0 34 rfl) rfl
theorem q50 : (Jvm.Cond.code ({ cls := "KnownBits", name := "combine", desc := "(IIII)I" } : Jvm.MethodName) prog_1_method_3_code (5 : Nat) (Option.some Jvm.ClassFile.FieldType.int)) ∈ lw_all := lw_g (lw_at lw_m0 35 rfl) rfl
theorem q51 : (Jvm.Cond.methodLink "KnownBits" (20 : Nat) ({ cls := "KnownBits", name := "add", desc := "(II)V" } : Jvm.MethodName)) ∈ lw_all := lw_g (lw_at lw_m0 36 rfl) rfl
theorem q52 : (Jvm.Cond.privateMethod ({ cls := "KnownBits", name := "add", desc := "(II)V" } : Jvm.MethodName)) ∈ lw_tbl := lw_at lw_m0 37 rfl
theorem q53 : (Jvm.Cond.instanceMethod ({ cls := "KnownBits", name := "add", desc := "(II)V" } : Jvm.MethodName)) ∈ lw_all := lw_g (lw_at lw_m0 38 rfl) rfl
theorem q54 : (Jvm.Cond.code ({ cls := "KnownBits", name := "add", desc := "(II)V" } : Jvm.MethodName) prog_1_method_14_code (5 : Nat) (Option.none : Option Jvm.ClassFile.FieldType)) ∈ lw_all := lw_g (lw_at lw_m0 39 rfl) rfl
theorem q55 : (Jvm.Cond.methodLink "KnownBits" (24 : Nat) ({ cls := "KnownBits", name := "subtract", desc := "(II)V" } : Jvm.MethodName)) ∈ lw_all := lw_g (lw_at lw_m0 40 rfl) rfl
theorem q56 : (Jvm.Cond.privateMethod ({ cls := "KnownBits", name := "subtract", desc := "(II)V" } : Jvm.MethodName)) ∈ lw_tbl := lw_at lw_m0 41 rfl
theorem q57 : (Jvm.Cond.instanceMethod ({ cls := "KnownBits", name := "subtract", desc := "(II)V" } : Jvm.MethodName)) ∈ lw_all := lw_g (lw_at lw_m0 42 rfl) rfl
theorem q58 : (Jvm.Cond.code ({ cls := "KnownBits", name := "subtract", desc := "(II)V" } : Jvm.MethodName) prog_1_method_15_code (6 : Nat) (Option.none : Option Jvm.ClassFile.FieldType)) ∈ lw_all := lw_g (lw_at lw_m0 43 rfl) rfl
theorem q59 : (Jvm.Cond.methodLink "KnownBits" (27 : Nat) ({ cls := "KnownBits", name := "bitwise", desc := "(III)V" } : Jvm.MethodName)) ∈ lw_all := lw_g (lw_at lw_m0 44 rfl) rfl
theorem q60 : (Jvm.Cond.privateMethod ({ cls := "KnownBits", name := "bitwise", desc := "(III)V" } : Jvm.MethodName)) ∈ lw_tbl := lw_at lw_m0 45 rfl
theorem q61 : (Jvm.Cond.instanceMethod ({ cls := "KnownBits", name := "bitwise", desc := "(III)V" } : Jvm.MethodName)) ∈ lw_all := lw_g (lw_at lw_m0 46 rfl) rfl
theorem q62 : (Jvm.Cond.code ({ cls := "KnownBits", name := "bitwise", desc := "(III)V" } : Jvm.MethodName) prog_1_method_16_code (4 : Nat) (Option.none : Option Jvm.ClassFile.FieldType)) ∈ lw_all := lw_g (lw_at lw_m0 47 rfl) rfl
theorem q63 : (Jvm.Cond.methodLink "KnownBits" (38 : Nat) ({ cls := "KnownBits", name := "keep", desc := "(I)V" } : Jvm.MethodName)) ∈ lw_all := lw_g (lw_at lw_m0 48 rfl) rfl
theorem q64 : (Jvm.Cond.privateMethod ({ cls := "KnownBits", name := "keep", desc := "(I)V" } : Jvm.MethodName)) ∈ lw_tbl := lw_at lw_m0 49 rfl
theorem q65 : (Jvm.Cond.instanceMethod ({ cls := "KnownBits", name := "keep", desc := "(I)V" } : Jvm.MethodName)) ∈ lw_all := lw_g (lw_at lw_m0 50 rfl) rfl
theorem q66 : (Jvm.Cond.code ({ cls := "KnownBits", name := "keep", desc := "(I)V" } : Jvm.MethodName) prog_1_method_13_code (2 : Nat) (Option.none : Option Jvm.ClassFile.FieldType)) ∈ lw_all := lw_g (lw_at lw_m0 51 rfl) rfl
theorem q68 : (Jvm.Cond.instanceMethod ({ cls := "KnownBits", name := "shift", desc := "(III)I" } : Jvm.MethodName)) ∈ lw_all := lw_g (lw_at lw_m0 53 rfl) rfl
theorem q69 : (Jvm.Cond.selects "KnownBits" ({ cls := "KnownBits", name := "shift", desc := "(III)I" } : Jvm.MethodName) ({ cls := "KnownBits", name := "shift", desc := "(III)I" } : Jvm.MethodName)) ∈ lw_all := lw_g (lw_at lw_m0 54 rfl) rfl
theorem q70 : (Jvm.Cond.code ({ cls := "KnownBits", name := "shift", desc := "(III)I" } : Jvm.MethodName) prog_1_method_4_code (4 : Nat) (Option.some Jvm.ClassFile.FieldType.int)) ∈ lw_all := lw_g (lw_at lw_m0 55 rfl) rfl
theorem q72 : (Jvm.Cond.instanceMethod ({ cls := "KnownBits", name := "narrow", desc := "(III)I" } : Jvm.MethodName)) ∈ lw_all := lw_g (lw_at lw_m0 57 rfl) rfl
theorem q73 : (Jvm.Cond.selects "KnownBits" ({ cls := "KnownBits", name := "narrow", desc := "(III)I" } : Jvm.MethodName) ({ cls := "KnownBits", name := "narrow", desc := "(III)I" } : Jvm.MethodName)) ∈ lw_all := lw_g (lw_at lw_m0 58 rfl) rfl
theorem q74 : (Jvm.Cond.code ({ cls := "KnownBits", name := "narrow", desc := "(III)I" } : Jvm.MethodName) prog_1_method_5_code (5 : Nat) (Option.some Jvm.ClassFile.FieldType.int)) ∈ lw_all := lw_g (lw_at lw_m0 59 rfl) rfl
theorem q75 : (Jvm.Cond.methodLink "KnownBits" (42 : Nat) ({ cls := "KnownBits", name := "narrowed", desc := "(III)Z" } : Jvm.MethodName)) ∈ lw_all := lw_g (lw_at lw_m0 60 rfl) rfl
theorem q76 : (Jvm.Cond.privateMethod ({ cls := "KnownBits", name := "narrowed", desc := "(III)Z" } : Jvm.MethodName)) ∈ lw_tbl := lw_at lw_m0 61 rfl
theorem q77 : (Jvm.Cond.instanceMethod ({ cls := "KnownBits", name := "narrowed", desc := "(III)Z" } : Jvm.MethodName)) ∈ lw_all := lw_g (lw_at lw_m0 62 rfl) rfl
theorem q78 : (Jvm.Cond.code ({ cls := "KnownBits", name := "narrowed", desc := "(III)Z" } : Jvm.MethodName) prog_1_method_21_code (13 : Nat) (Option.some Jvm.ClassFile.FieldType.boolean)) ∈ lw_all := lw_g (lw_at lw_m0 63 rfl) rfl
theorem q79 : (Jvm.Cond.methodLink "KnownBits" (64 : Nat) ({ cls := "KnownBits", name := "leastFrom", desc := "(III)I" } : Jvm.MethodName)) ∈ lw_all := lw_g (lw_at lw_m0 64 rfl) rfl
theorem q80 : (Jvm.Cond.static ({ cls := "KnownBits", name := "leastFrom", desc := "(III)I" } : Jvm.MethodName)) ∈ lw_all := lw_g (lw_at lw_m0 65 rfl) rfl
theorem q81 : (Jvm.Cond.code ({ cls := "KnownBits", name := "leastFrom", desc := "(III)I" } : Jvm.MethodName) prog_1_method_17_code (6 : Nat) (Option.some Jvm.ClassFile.FieldType.int)) ∈ lw_all := lw_g (lw_at lw_m0 66 rfl) rfl
theorem q83 : (Jvm.Cond.instanceMethod ({ cls := "KnownBits", name := "suppose", desc := "(III)I" } : Jvm.MethodName)) ∈ lw_all := lw_g (lw_at lw_m0 68 rfl) rfl
theorem q84 : (Jvm.Cond.selects "KnownBits" ({ cls := "KnownBits", name := "suppose", desc := "(III)I" } : Jvm.MethodName) ({ cls := "KnownBits", name := "suppose", desc := "(III)I" } : Jvm.MethodName)) ∈ lw_all := lw_g (lw_at lw_m0 69 rfl) rfl
theorem q85 : (Jvm.Cond.code ({ cls := "KnownBits", name := "suppose", desc := "(III)I" } : Jvm.MethodName) prog_1_method_6_code (5 : Nat) (Option.some Jvm.ClassFile.FieldType.int)) ∈ lw_all := lw_g (lw_at lw_m0 70 rfl) rfl
theorem q86 : (Jvm.Cond.methodLink "KnownBits" (46 : Nat) ({ cls := "KnownBits", name := "combine", desc := "(IIII)I" } : Jvm.MethodName)) ∈ lw_all := lw_g (lw_at lw_m0 71 rfl) rfl
theorem q87 : (Jvm.Cond.methodLink "KnownBits" (50 : Nat) ({ cls := "KnownBits", name := "supposeOrder", desc := "(III)I" } : Jvm.MethodName)) ∈ lw_all := lw_g (lw_at lw_m0 72 rfl) rfl
theorem q88 : (Jvm.Cond.privateMethod ({ cls := "KnownBits", name := "supposeOrder", desc := "(III)I" } : Jvm.MethodName)) ∈ lw_tbl := lw_at lw_m0 73 rfl
theorem q89 : (Jvm.Cond.instanceMethod ({ cls := "KnownBits", name := "supposeOrder", desc := "(III)I" } : Jvm.MethodName)) ∈ lw_all := lw_g (lw_at lw_m0 74 rfl) rfl
theorem q90 : (Jvm.Cond.code ({ cls := "KnownBits", name := "supposeOrder", desc := "(III)I" } : Jvm.MethodName) prog_1_method_22_code (9 : Nat) (Option.some Jvm.ClassFile.FieldType.int)) ∈ lw_all := lw_g (lw_at lw_m0 75 rfl) rfl
theorem q91 : (Jvm.Cond.methodLink "KnownBits" (74 : Nat) ({ cls := "KnownBits", name := "greatest", desc := "(I)I" } : Jvm.MethodName)) ∈ lw_all := lw_g (lw_at lw_m0 76 rfl) rfl
theorem q92 : (Jvm.Cond.privateMethod ({ cls := "KnownBits", name := "greatest", desc := "(I)I" } : Jvm.MethodName)) ∈ lw_tbl := lw_at lw_m0 77 rfl
theorem q93 : (Jvm.Cond.instanceMethod ({ cls := "KnownBits", name := "greatest", desc := "(I)I" } : Jvm.MethodName)) ∈ lw_all := lw_g (lw_at lw_m0 78 rfl) rfl
theorem q94 : (Jvm.Cond.code ({ cls := "KnownBits", name := "greatest", desc := "(I)I" } : Jvm.MethodName) prog_1_method_20_code (2 : Nat) (Option.some Jvm.ClassFile.FieldType.int)) ∈ lw_all := lw_g (lw_at lw_m0 79 rfl) rfl
theorem q95 : (Jvm.Cond.methodLink "KnownBits" (54 : Nat) ({ cls := "KnownBits", name := "supposeDifferent", desc := "(II)I" } : Jvm.MethodName)) ∈ lw_all := lw_g (lw_at lw_m0 80 rfl) rfl
theorem q96 : (Jvm.Cond.privateMethod ({ cls := "KnownBits", name := "supposeDifferent", desc := "(II)I" } : Jvm.MethodName)) ∈ lw_tbl := lw_at lw_m0 81 rfl
theorem q97 : (Jvm.Cond.instanceMethod ({ cls := "KnownBits", name := "supposeDifferent", desc := "(II)I" } : Jvm.MethodName)) ∈ lw_all := lw_g (lw_at lw_m0 82 rfl) rfl
theorem q98 : (Jvm.Cond.code ({ cls := "KnownBits", name := "supposeDifferent", desc := "(II)I" } : Jvm.MethodName) prog_1_method_23_code (3 : Nat) (Option.some Jvm.ClassFile.FieldType.int)) ∈ lw_all := lw_g (lw_at lw_m0 83 rfl) rfl
theorem q99 : (Jvm.Cond.methodLink "KnownBits" (77 : Nat) ({ cls := "KnownBits", name := "takeOut", desc := "(II)V" } : Jvm.MethodName)) ∈ lw_all := lw_g (lw_at lw_m0 84 rfl) rfl
theorem q100 : (Jvm.Cond.privateMethod ({ cls := "KnownBits", name := "takeOut", desc := "(II)V" } : Jvm.MethodName)) ∈ lw_tbl := lw_at lw_m0 85 rfl
theorem q101 : (Jvm.Cond.instanceMethod ({ cls := "KnownBits", name := "takeOut", desc := "(II)V" } : Jvm.MethodName)) ∈ lw_all := lw_g (lw_at lw_m0 86 rfl) rfl
theorem q102 : (Jvm.Cond.code ({ cls := "KnownBits", name := "takeOut", desc := "(II)V" } : Jvm.MethodName) prog_1_method_24_code (5 : Nat) (Option.none : Option Jvm.ClassFile.FieldType)) ∈ lw_all := lw_g (lw_at lw_m0 87 rfl) rfl
theorem q104 : (Jvm.Cond.instanceMethod ({ cls := "KnownBits", name := "compare", desc := "(III)I" } : Jvm.MethodName)) ∈ lw_all := lw_g (lw_at lw_m0 89 rfl) rfl
theorem q105 : (Jvm.Cond.selects "KnownBits" ({ cls := "KnownBits", name := "compare", desc := "(III)I" } : Jvm.MethodName) ({ cls := "KnownBits", name := "compare", desc := "(III)I" } : Jvm.MethodName)) ∈ lw_all := lw_g (lw_at lw_m0 90 rfl) rfl
theorem q106 : (Jvm.Cond.code ({ cls := "KnownBits", name := "compare", desc := "(III)I" } : Jvm.MethodName) prog_1_method_7_code (5 : Nat) (Option.some Jvm.ClassFile.FieldType.int)) ∈ lw_all := lw_g (lw_at lw_m0 91 rfl) rfl
theorem q107 : (Jvm.Cond.methodLink "KnownBits" (58 : Nat) ({ cls := "KnownBits", name := "compareEqual", desc := "(II)I" } : Jvm.MethodName)) ∈ lw_all := lw_g (lw_at lw_m0 92 rfl) rfl
theorem q108 : (Jvm.Cond.privateMethod ({ cls := "KnownBits", name := "compareEqual", desc := "(II)I" } : Jvm.MethodName)) ∈ lw_tbl := lw_at lw_m0 93 rfl
theorem q109 : (Jvm.Cond.instanceMethod ({ cls := "KnownBits", name := "compareEqual", desc := "(II)I" } : Jvm.MethodName)) ∈ lw_all := lw_g (lw_at lw_m0 94 rfl) rfl
theorem q110 : (Jvm.Cond.code ({ cls := "KnownBits", name := "compareEqual", desc := "(II)I" } : Jvm.MethodName) prog_1_method_25_code (3 : Nat) (Option.some Jvm.ClassFile.FieldType.int)) ∈ lw_all := lw_g (lw_at lw_m0 95 rfl) rfl
theorem q111 : (Jvm.Cond.methodLink "KnownBits" (61 : Nat) ({ cls := "KnownBits", name := "compareLess", desc := "(II)I" } : Jvm.MethodName)) ∈ lw_all := lw_g (lw_at lw_m0 96 rfl) rfl
theorem q112 : (Jvm.Cond.privateMethod ({ cls := "KnownBits", name := "compareLess", desc := "(II)I" } : Jvm.MethodName)) ∈ lw_tbl := lw_at lw_m0 97 rfl
theorem q113 : (Jvm.Cond.instanceMethod ({ cls := "KnownBits", name := "compareLess", desc := "(II)I" } : Jvm.MethodName)) ∈ lw_all := lw_g (lw_at lw_m0 98 rfl) rfl
theorem q114 : (Jvm.Cond.code ({ cls := "KnownBits", name := "compareLess", desc := "(II)I" } : Jvm.MethodName) prog_1_method_26_code (3 : Nat) (Option.some Jvm.ClassFile.FieldType.int)) ∈ lw_all := lw_g (lw_at lw_m0 99 rfl) rfl
theorem q116 : (Jvm.Cond.instanceMethod ({ cls := "KnownBits", name := "value", desc := "(I)I" } : Jvm.MethodName)) ∈ lw_all := lw_g (lw_at lw_m0 101 rfl) rfl
theorem q117 : (Jvm.Cond.selects "KnownBits" ({ cls := "KnownBits", name := "value", desc := "(I)I" } : Jvm.MethodName) ({ cls := "KnownBits", name := "value", desc := "(I)I" } : Jvm.MethodName)) ∈ lw_all := lw_g (lw_at lw_m0 102 rfl) rfl
theorem q118 : (Jvm.Cond.code ({ cls := "KnownBits", name := "value", desc := "(I)I" } : Jvm.MethodName) prog_1_method_8_code (2 : Nat) (Option.some Jvm.ClassFile.FieldType.int)) ∈ lw_all := lw_g (lw_at lw_m0 103 rfl) rfl
theorem q120 : (Jvm.Cond.instanceMethod ({ cls := "KnownBits", name := "mask", desc := "(I)I" } : Jvm.MethodName)) ∈ lw_all := lw_g (lw_at lw_m0 105 rfl) rfl
theorem q121 : (Jvm.Cond.selects "KnownBits" ({ cls := "KnownBits", name := "mask", desc := "(I)I" } : Jvm.MethodName) ({ cls := "KnownBits", name := "mask", desc := "(I)I" } : Jvm.MethodName)) ∈ lw_all := lw_g (lw_at lw_m0 106 rfl) rfl
theorem q122 : (Jvm.Cond.code ({ cls := "KnownBits", name := "mask", desc := "(I)I" } : Jvm.MethodName) prog_1_method_9_code (2 : Nat) (Option.some Jvm.ClassFile.FieldType.int)) ∈ lw_all := lw_g (lw_at lw_m0 107 rfl) rfl
theorem q124 : (Jvm.Cond.instanceMethod ({ cls := "KnownBits", name := "least", desc := "(II)I" } : Jvm.MethodName)) ∈ lw_all := lw_g (lw_at lw_m0 109 rfl) rfl
theorem q125 : (Jvm.Cond.selects "KnownBits" ({ cls := "KnownBits", name := "least", desc := "(II)I" } : Jvm.MethodName) ({ cls := "KnownBits", name := "least", desc := "(II)I" } : Jvm.MethodName)) ∈ lw_all := lw_g (lw_at lw_m0 110 rfl) rfl
theorem q126 : (Jvm.Cond.code ({ cls := "KnownBits", name := "least", desc := "(II)I" } : Jvm.MethodName) prog_1_method_10_code (3 : Nat) (Option.some Jvm.ClassFile.FieldType.int)) ∈ lw_all := lw_g (lw_at lw_m0 111 rfl) rfl
theorem q128 : (Jvm.Cond.instanceMethod ({ cls := "KnownBits", name := "count", desc := "(III)I" } : Jvm.MethodName)) ∈ lw_all := lw_g (lw_at lw_m0 113 rfl) rfl
theorem q129 : (Jvm.Cond.selects "KnownBits" ({ cls := "KnownBits", name := "count", desc := "(III)I" } : Jvm.MethodName) ({ cls := "KnownBits", name := "count", desc := "(III)I" } : Jvm.MethodName)) ∈ lw_all := lw_g (lw_at lw_m0 114 rfl) rfl
theorem q130 : (Jvm.Cond.code ({ cls := "KnownBits", name := "count", desc := "(III)I" } : Jvm.MethodName) prog_1_method_11_code (5 : Nat) (Option.some Jvm.ClassFile.FieldType.int)) ∈ lw_all := lw_g (lw_at lw_m0 115 rfl) rfl
theorem q131 : (Jvm.Cond.methodLink "KnownBits" (67 : Nat) ({ cls := "KnownBits", name := "rank", desc := "(II)I" } : Jvm.MethodName)) ∈ lw_all := lw_g (lw_at lw_m0 116 rfl) rfl
theorem q132 : (Jvm.Cond.privateMethod ({ cls := "KnownBits", name := "rank", desc := "(II)I" } : Jvm.MethodName)) ∈ lw_tbl := lw_at lw_m0 117 rfl
theorem q133 : (Jvm.Cond.instanceMethod ({ cls := "KnownBits", name := "rank", desc := "(II)I" } : Jvm.MethodName)) ∈ lw_all := lw_g (lw_at lw_m0 118 rfl) rfl
theorem q134 : (Jvm.Cond.code ({ cls := "KnownBits", name := "rank", desc := "(II)I" } : Jvm.MethodName) prog_1_method_18_code (7 : Nat) (Option.some Jvm.ClassFile.FieldType.int)) ∈ lw_all := lw_g (lw_at lw_m0 119 rfl) rfl
theorem q135 : (Jvm.Cond.methodLink "KnownBits" (70 : Nat) ({ cls := "KnownBits", name := "bits", desc := "(I)I" } : Jvm.MethodName)) ∈ lw_all := lw_g (lw_at lw_m0 120 rfl) rfl
theorem q136 : (Jvm.Cond.static ({ cls := "KnownBits", name := "bits", desc := "(I)I" } : Jvm.MethodName)) ∈ lw_all := lw_g (lw_at lw_m0 121 rfl) rfl
theorem q137 : (Jvm.Cond.code ({ cls := "KnownBits", name := "bits", desc := "(I)I" } : Jvm.MethodName) prog_1_method_19_code (3 : Nat) (Option.some Jvm.ClassFile.FieldType.int)) ∈ lw_all := lw_g (lw_at lw_m0 122 rfl) rfl
theorem in_X0 : ∀ w ∈ wsX00, w ∈ lw_all := lw_in wsX00 [30, 32, 34, 36] (by decide +kernel) (by decide +kernel)

theorem dX0_init_0 : decode cX0_init 0 = .ok (.aload_n 0, 1) := by decide +kernel
theorem dX0_init_1 : decode cX0_init 1 = .ok (.invokespecial 1, 3) := by decide +kernel
theorem dX0_init_4 : decode cX0_init 4 = .ok (.aload_n 0, 1) := by decide +kernel
theorem dX0_init_5 : decode cX0_init 5 = .ok (.bipush 6, 2) := by decide +kernel
theorem dX0_init_7 : decode cX0_init 7 = .ok (.newarray .int, 2) := by decide +kernel
theorem dX0_init_9 : decode cX0_init 9 = .ok (.putfield 7, 3) := by decide +kernel
theorem dX0_init_12 : decode cX0_init 12 = .ok (.aload_n 0, 1) := by decide +kernel
theorem dX0_init_13 : decode cX0_init 13 = .ok (.bipush 6, 2) := by decide +kernel
theorem dX0_init_15 : decode cX0_init 15 = .ok (.newarray .int, 2) := by decide +kernel
theorem dX0_init_17 : decode cX0_init 17 = .ok (.putfield 13, 3) := by decide +kernel
theorem dX0_init_20 : decode cX0_init 20 = .ok (.return_, 1) := by decide +kernel
theorem dX0_set_0 : decode cX0_set 0 = .ok (.iload_n 1, 1) := by decide +kernel
theorem dX0_set_1 : decode cX0_set 1 = .ok (.invokestatic 16, 3) := by decide +kernel
theorem dX0_set_4 : decode cX0_set 4 = .ok (.ifCond .ne 5, 3) := by decide +kernel
theorem dX0_set_7 : decode cX0_set 7 = .ok (.iconst (-1), 1) := by decide +kernel
theorem dX0_set_8 : decode cX0_set 8 = .ok (.ireturn, 1) := by decide +kernel
theorem dX0_set_9 : decode cX0_set 9 = .ok (.aload_n 0, 1) := by decide +kernel
theorem dX0_set_10 : decode cX0_set 10 = .ok (.getfield 13, 3) := by decide +kernel
theorem dX0_set_13 : decode cX0_set 13 = .ok (.iload_n 1, 1) := by decide +kernel
theorem dX0_set_14 : decode cX0_set 14 = .ok (.iload_n 3, 1) := by decide +kernel
theorem dX0_set_15 : decode cX0_set 15 = .ok (.bipush 63, 2) := by decide +kernel
theorem dX0_set_17 : decode cX0_set 17 = .ok (.iand, 1) := by decide +kernel
theorem dX0_set_18 : decode cX0_set 18 = .ok (.iastore, 1) := by decide +kernel
theorem dX0_set_19 : decode cX0_set 19 = .ok (.aload_n 0, 1) := by decide +kernel
theorem dX0_set_20 : decode cX0_set 20 = .ok (.getfield 7, 3) := by decide +kernel
theorem dX0_set_23 : decode cX0_set 23 = .ok (.iload_n 1, 1) := by decide +kernel
theorem dX0_set_24 : decode cX0_set 24 = .ok (.iload_n 2, 1) := by decide +kernel
theorem dX0_set_25 : decode cX0_set 25 = .ok (.bipush 63, 2) := by decide +kernel
theorem dX0_set_27 : decode cX0_set 27 = .ok (.iand, 1) := by decide +kernel
theorem dX0_set_28 : decode cX0_set 28 = .ok (.iload_n 3, 1) := by decide +kernel
theorem dX0_set_29 : decode cX0_set 29 = .ok (.iconst (-1), 1) := by decide +kernel
theorem dX0_set_30 : decode cX0_set 30 = .ok (.ixor, 1) := by decide +kernel
theorem dX0_set_31 : decode cX0_set 31 = .ok (.iand, 1) := by decide +kernel
theorem dX0_set_32 : decode cX0_set 32 = .ok (.iastore, 1) := by decide +kernel
theorem dX0_set_33 : decode cX0_set 33 = .ok (.iconst 0, 1) := by decide +kernel
theorem dX0_set_34 : decode cX0_set 34 = .ok (.ireturn, 1) := by decide +kernel
theorem dX0_isRegister_0 : decode cX0_isRegister 0 = .ok (.iload_n 0, 1) := by decide +kernel
theorem dX0_isRegister_1 : decode cX0_isRegister 1 = .ok (.ifCond .lt 12, 3) := by decide +kernel
theorem dX0_isRegister_4 : decode cX0_isRegister 4 = .ok (.iload_n 0, 1) := by decide +kernel
theorem dX0_isRegister_5 : decode cX0_isRegister 5 = .ok (.iconst 5, 1) := by decide +kernel
theorem dX0_isRegister_6 : decode cX0_isRegister 6 = .ok (.if_icmp .gt 7, 3) := by decide +kernel
theorem dX0_isRegister_9 : decode cX0_isRegister 9 = .ok (.iconst 1, 1) := by decide +kernel
theorem dX0_isRegister_10 : decode cX0_isRegister 10 = .ok (.goto 4, 3) := by decide +kernel
theorem dX0_isRegister_13 : decode cX0_isRegister 13 = .ok (.iconst 0, 1) := by decide +kernel
theorem dX0_isRegister_14 : decode cX0_isRegister 14 = .ok (.ireturn, 1) := by decide +kernel
theorem dX0_combine_0 : decode cX0_combine 0 = .ok (.iload_n 1, 1) := by decide +kernel
theorem dX0_combine_1 : decode cX0_combine 1 = .ok (.invokestatic 16, 3) := by decide +kernel
theorem dX0_combine_4 : decode cX0_combine 4 = .ok (.ifCond .eq 28, 3) := by decide +kernel
theorem dX0_combine_7 : decode cX0_combine 7 = .ok (.iload_n 3, 1) := by decide +kernel
theorem dX0_combine_8 : decode cX0_combine 8 = .ok (.invokestatic 16, 3) := by decide +kernel
theorem dX0_combine_11 : decode cX0_combine 11 = .ok (.ifCond .eq 21, 3) := by decide +kernel
theorem dX0_combine_14 : decode cX0_combine 14 = .ok (.iload 4, 2) := by decide +kernel
theorem dX0_combine_16 : decode cX0_combine 16 = .ok (.invokestatic 16, 3) := by decide +kernel
theorem dX0_combine_19 : decode cX0_combine 19 = .ok (.ifCond .eq 13, 3) := by decide +kernel
theorem dX0_combine_22 : decode cX0_combine 22 = .ok (.iload_n 2, 1) := by decide +kernel
theorem dX0_combine_23 : decode cX0_combine 23 = .ok (.ifCond .lt 9, 3) := by decide +kernel
theorem dX0_combine_26 : decode cX0_combine 26 = .ok (.iload_n 2, 1) := by decide +kernel
theorem dX0_combine_27 : decode cX0_combine 27 = .ok (.bipush 6, 2) := by decide +kernel
theorem dX0_combine_29 : decode cX0_combine 29 = .ok (.if_icmp .le 5, 3) := by decide +kernel
theorem dX0_combine_32 : decode cX0_combine 32 = .ok (.iconst (-1), 1) := by decide +kernel
theorem dX0_combine_33 : decode cX0_combine 33 = .ok (.ireturn, 1) := by decide +kernel
theorem dX0_combine_34 : decode cX0_combine 34 = .ok (.iload_n 2, 1) := by decide +kernel
theorem dX0_combine_35 : decode cX0_combine 35 = .ok (.bipush 6, 2) := by decide +kernel
theorem dX0_combine_37 : decode cX0_combine 37 = .ok (.if_icmp .ne 42, 3) := by decide +kernel
theorem dX0_combine_40 : decode cX0_combine 40 = .ok (.aload_n 0, 1) := by decide +kernel
theorem dX0_combine_41 : decode cX0_combine 41 = .ok (.getfield 7, 3) := by decide +kernel
theorem dX0_combine_44 : decode cX0_combine 44 = .ok (.iload_n 3, 1) := by decide +kernel
theorem dX0_combine_45 : decode cX0_combine 45 = .ok (.iaload, 1) := by decide +kernel
theorem dX0_combine_46 : decode cX0_combine 46 = .ok (.aload_n 0, 1) := by decide +kernel
theorem dX0_combine_47 : decode cX0_combine 47 = .ok (.getfield 7, 3) := by decide +kernel
theorem dX0_combine_50 : decode cX0_combine 50 = .ok (.iload 4, 2) := by decide +kernel
theorem dX0_combine_52 : decode cX0_combine 52 = .ok (.iaload, 1) := by decide +kernel
theorem dX0_combine_53 : decode cX0_combine 53 = .ok (.ixor, 1) := by decide +kernel
theorem dX0_combine_54 : decode cX0_combine 54 = .ok (.aload_n 0, 1) := by decide +kernel
theorem dX0_combine_55 : decode cX0_combine 55 = .ok (.getfield 13, 3) := by decide +kernel
theorem dX0_combine_58 : decode cX0_combine 58 = .ok (.iload_n 3, 1) := by decide +kernel
theorem dX0_combine_59 : decode cX0_combine 59 = .ok (.iaload, 1) := by decide +kernel
theorem dX0_combine_60 : decode cX0_combine 60 = .ok (.iconst (-1), 1) := by decide +kernel
theorem dX0_combine_61 : decode cX0_combine 61 = .ok (.ixor, 1) := by decide +kernel
theorem dX0_combine_62 : decode cX0_combine 62 = .ok (.iand, 1) := by decide +kernel
theorem dX0_combine_63 : decode cX0_combine 63 = .ok (.aload_n 0, 1) := by decide +kernel
theorem dX0_combine_64 : decode cX0_combine 64 = .ok (.getfield 13, 3) := by decide +kernel
theorem dX0_combine_67 : decode cX0_combine 67 = .ok (.iload 4, 2) := by decide +kernel
theorem dX0_combine_69 : decode cX0_combine 69 = .ok (.iaload, 1) := by decide +kernel
theorem dX0_combine_70 : decode cX0_combine 70 = .ok (.iconst (-1), 1) := by decide +kernel
theorem dX0_combine_71 : decode cX0_combine 71 = .ok (.ixor, 1) := by decide +kernel
theorem dX0_combine_72 : decode cX0_combine 72 = .ok (.iand, 1) := by decide +kernel
theorem dX0_combine_73 : decode cX0_combine 73 = .ok (.ifCond .eq 6, 3) := by decide +kernel
theorem dX0_combine_76 : decode cX0_combine 76 = .ok (.bipush (-2), 2) := by decide +kernel
theorem dX0_combine_78 : decode cX0_combine 78 = .ok (.ireturn, 1) := by decide +kernel
theorem dX0_combine_79 : decode cX0_combine 79 = .ok (.iload_n 2, 1) := by decide +kernel
theorem dX0_combine_80 : decode cX0_combine 80 = .ok (.ifCond .ne 13, 3) := by decide +kernel
theorem dX0_combine_83 : decode cX0_combine 83 = .ok (.aload_n 0, 1) := by decide +kernel
theorem dX0_combine_84 : decode cX0_combine 84 = .ok (.iload_n 3, 1) := by decide +kernel
theorem dX0_combine_85 : decode cX0_combine 85 = .ok (.iload 4, 2) := by decide +kernel
theorem dX0_combine_87 : decode cX0_combine 87 = .ok (.invokevirtual 20, 3) := by decide +kernel
theorem dX0_combine_90 : decode cX0_combine 90 = .ok (.goto 128, 3) := by decide +kernel
theorem dX0_combine_93 : decode cX0_combine 93 = .ok (.iload_n 2, 1) := by decide +kernel
theorem dX0_combine_94 : decode cX0_combine 94 = .ok (.iconst 1, 1) := by decide +kernel
theorem dX0_combine_95 : decode cX0_combine 95 = .ok (.if_icmp .ne 13, 3) := by decide +kernel
theorem dX0_combine_98 : decode cX0_combine 98 = .ok (.aload_n 0, 1) := by decide +kernel
theorem dX0_combine_99 : decode cX0_combine 99 = .ok (.iload_n 3, 1) := by decide +kernel
theorem dX0_combine_100 : decode cX0_combine 100 = .ok (.iload 4, 2) := by decide +kernel
theorem dX0_combine_102 : decode cX0_combine 102 = .ok (.invokevirtual 24, 3) := by decide +kernel
theorem dX0_combine_105 : decode cX0_combine 105 = .ok (.goto 113, 3) := by decide +kernel
theorem dX0_combine_108 : decode cX0_combine 108 = .ok (.iload_n 2, 1) := by decide +kernel
theorem dX0_combine_109 : decode cX0_combine 109 = .ok (.iconst 4, 1) := by decide +kernel
theorem dX0_combine_110 : decode cX0_combine 110 = .ok (.if_icmp .gt 14, 3) := by decide +kernel
theorem dX0_combine_113 : decode cX0_combine 113 = .ok (.aload_n 0, 1) := by decide +kernel
theorem dX0_combine_114 : decode cX0_combine 114 = .ok (.iload_n 2, 1) := by decide +kernel
theorem dX0_combine_115 : decode cX0_combine 115 = .ok (.iload_n 3, 1) := by decide +kernel
theorem dX0_combine_116 : decode cX0_combine 116 = .ok (.iload 4, 2) := by decide +kernel
theorem dX0_combine_118 : decode cX0_combine 118 = .ok (.invokevirtual 27, 3) := by decide +kernel
theorem dX0_combine_121 : decode cX0_combine 121 = .ok (.goto 97, 3) := by decide +kernel
theorem dX0_combine_124 : decode cX0_combine 124 = .ok (.iload_n 2, 1) := by decide +kernel
theorem dX0_combine_125 : decode cX0_combine 125 = .ok (.iconst 5, 1) := by decide +kernel
theorem dX0_combine_126 : decode cX0_combine 126 = .ok (.if_icmp .ne 56, 3) := by decide +kernel
theorem dX0_combine_129 : decode cX0_combine 129 = .ok (.aload_n 0, 1) := by decide +kernel
theorem dX0_combine_130 : decode cX0_combine 130 = .ok (.aload_n 0, 1) := by decide +kernel
theorem dX0_combine_131 : decode cX0_combine 131 = .ok (.getfield 13, 3) := by decide +kernel
theorem dX0_combine_134 : decode cX0_combine 134 = .ok (.iload_n 3, 1) := by decide +kernel
theorem dX0_combine_135 : decode cX0_combine 135 = .ok (.iaload, 1) := by decide +kernel
theorem dX0_combine_136 : decode cX0_combine 136 = .ok (.aload_n 0, 1) := by decide +kernel
theorem dX0_combine_137 : decode cX0_combine 137 = .ok (.getfield 13, 3) := by decide +kernel
theorem dX0_combine_140 : decode cX0_combine 140 = .ok (.iload 4, 2) := by decide +kernel
theorem dX0_combine_142 : decode cX0_combine 142 = .ok (.iaload, 1) := by decide +kernel
theorem dX0_combine_143 : decode cX0_combine 143 = .ok (.ior, 1) := by decide +kernel
theorem dX0_combine_144 : decode cX0_combine 144 = .ok (.aload_n 0, 1) := by decide +kernel
theorem dX0_combine_145 : decode cX0_combine 145 = .ok (.getfield 7, 3) := by decide +kernel
theorem dX0_combine_148 : decode cX0_combine 148 = .ok (.iload_n 3, 1) := by decide +kernel
theorem dX0_combine_149 : decode cX0_combine 149 = .ok (.iaload, 1) := by decide +kernel
theorem dX0_combine_150 : decode cX0_combine 150 = .ok (.aload_n 0, 1) := by decide +kernel
theorem dX0_combine_151 : decode cX0_combine 151 = .ok (.getfield 7, 3) := by decide +kernel
theorem dX0_combine_154 : decode cX0_combine 154 = .ok (.iload 4, 2) := by decide +kernel
theorem dX0_combine_156 : decode cX0_combine 156 = .ok (.iaload, 1) := by decide +kernel
theorem dX0_combine_157 : decode cX0_combine 157 = .ok (.ixor, 1) := by decide +kernel
theorem dX0_combine_158 : decode cX0_combine 158 = .ok (.ior, 1) := by decide +kernel
theorem dX0_combine_159 : decode cX0_combine 159 = .ok (.putfield 31, 3) := by decide +kernel
theorem dX0_combine_162 : decode cX0_combine 162 = .ok (.aload_n 0, 1) := by decide +kernel
theorem dX0_combine_163 : decode cX0_combine 163 = .ok (.aload_n 0, 1) := by decide +kernel
theorem dX0_combine_164 : decode cX0_combine 164 = .ok (.getfield 7, 3) := by decide +kernel
theorem dX0_combine_167 : decode cX0_combine 167 = .ok (.iload_n 3, 1) := by decide +kernel
theorem dX0_combine_168 : decode cX0_combine 168 = .ok (.iaload, 1) := by decide +kernel
theorem dX0_combine_169 : decode cX0_combine 169 = .ok (.aload_n 0, 1) := by decide +kernel
theorem dX0_combine_170 : decode cX0_combine 170 = .ok (.getfield 31, 3) := by decide +kernel
theorem dX0_combine_173 : decode cX0_combine 173 = .ok (.iconst (-1), 1) := by decide +kernel
theorem dX0_combine_174 : decode cX0_combine 174 = .ok (.ixor, 1) := by decide +kernel
theorem dX0_combine_175 : decode cX0_combine 175 = .ok (.iand, 1) := by decide +kernel
theorem dX0_combine_176 : decode cX0_combine 176 = .ok (.putfield 35, 3) := by decide +kernel
theorem dX0_combine_179 : decode cX0_combine 179 = .ok (.goto 39, 3) := by decide +kernel
theorem dX0_combine_182 : decode cX0_combine 182 = .ok (.aload_n 0, 1) := by decide +kernel
theorem dX0_combine_183 : decode cX0_combine 183 = .ok (.aload_n 0, 1) := by decide +kernel
theorem dX0_combine_184 : decode cX0_combine 184 = .ok (.getfield 13, 3) := by decide +kernel
theorem dX0_combine_187 : decode cX0_combine 187 = .ok (.iload_n 3, 1) := by decide +kernel
theorem dX0_combine_188 : decode cX0_combine 188 = .ok (.iaload, 1) := by decide +kernel
theorem dX0_combine_189 : decode cX0_combine 189 = .ok (.aload_n 0, 1) := by decide +kernel
theorem dX0_combine_190 : decode cX0_combine 190 = .ok (.getfield 13, 3) := by decide +kernel
theorem dX0_combine_193 : decode cX0_combine 193 = .ok (.iload 4, 2) := by decide +kernel
theorem dX0_combine_195 : decode cX0_combine 195 = .ok (.iaload, 1) := by decide +kernel
theorem dX0_combine_196 : decode cX0_combine 196 = .ok (.iand, 1) := by decide +kernel
theorem dX0_combine_197 : decode cX0_combine 197 = .ok (.putfield 31, 3) := by decide +kernel
theorem dX0_combine_200 : decode cX0_combine 200 = .ok (.aload_n 0, 1) := by decide +kernel
theorem dX0_combine_201 : decode cX0_combine 201 = .ok (.aload_n 0, 1) := by decide +kernel
theorem dX0_combine_202 : decode cX0_combine 202 = .ok (.getfield 7, 3) := by decide +kernel
theorem dX0_combine_205 : decode cX0_combine 205 = .ok (.iload_n 3, 1) := by decide +kernel
theorem dX0_combine_206 : decode cX0_combine 206 = .ok (.iaload, 1) := by decide +kernel
theorem dX0_combine_207 : decode cX0_combine 207 = .ok (.aload_n 0, 1) := by decide +kernel
theorem dX0_combine_208 : decode cX0_combine 208 = .ok (.getfield 7, 3) := by decide +kernel
theorem dX0_combine_211 : decode cX0_combine 211 = .ok (.iload 4, 2) := by decide +kernel
theorem dX0_combine_213 : decode cX0_combine 213 = .ok (.iaload, 1) := by decide +kernel
theorem dX0_combine_214 : decode cX0_combine 214 = .ok (.ior, 1) := by decide +kernel
theorem dX0_combine_215 : decode cX0_combine 215 = .ok (.putfield 35, 3) := by decide +kernel
theorem dX0_combine_218 : decode cX0_combine 218 = .ok (.aload_n 0, 1) := by decide +kernel
theorem dX0_combine_219 : decode cX0_combine 219 = .ok (.iload_n 1, 1) := by decide +kernel
theorem dX0_combine_220 : decode cX0_combine 220 = .ok (.invokevirtual 38, 3) := by decide +kernel
theorem dX0_combine_223 : decode cX0_combine 223 = .ok (.iconst 0, 1) := by decide +kernel
theorem dX0_combine_224 : decode cX0_combine 224 = .ok (.ireturn, 1) := by decide +kernel
theorem dX0_add_0 : decode cX0_add 0 = .ok (.aload_n 0, 1) := by decide +kernel
theorem dX0_add_1 : decode cX0_add 1 = .ok (.getfield 7, 3) := by decide +kernel
theorem dX0_add_4 : decode cX0_add 4 = .ok (.iload_n 1, 1) := by decide +kernel
theorem dX0_add_5 : decode cX0_add 5 = .ok (.iaload, 1) := by decide +kernel
theorem dX0_add_6 : decode cX0_add 6 = .ok (.aload_n 0, 1) := by decide +kernel
theorem dX0_add_7 : decode cX0_add 7 = .ok (.getfield 7, 3) := by decide +kernel
theorem dX0_add_10 : decode cX0_add 10 = .ok (.iload_n 2, 1) := by decide +kernel
theorem dX0_add_11 : decode cX0_add 11 = .ok (.iaload, 1) := by decide +kernel
theorem dX0_add_12 : decode cX0_add 12 = .ok (.iadd, 1) := by decide +kernel
theorem dX0_add_13 : decode cX0_add 13 = .ok (.istore_n 3, 1) := by decide +kernel
theorem dX0_add_14 : decode cX0_add 14 = .ok (.iload_n 3, 1) := by decide +kernel
theorem dX0_add_15 : decode cX0_add 15 = .ok (.aload_n 0, 1) := by decide +kernel
theorem dX0_add_16 : decode cX0_add 16 = .ok (.getfield 13, 3) := by decide +kernel
theorem dX0_add_19 : decode cX0_add 19 = .ok (.iload_n 1, 1) := by decide +kernel
theorem dX0_add_20 : decode cX0_add 20 = .ok (.iaload, 1) := by decide +kernel
theorem dX0_add_21 : decode cX0_add 21 = .ok (.iadd, 1) := by decide +kernel
theorem dX0_add_22 : decode cX0_add 22 = .ok (.aload_n 0, 1) := by decide +kernel
theorem dX0_add_23 : decode cX0_add 23 = .ok (.getfield 13, 3) := by decide +kernel
theorem dX0_add_26 : decode cX0_add 26 = .ok (.iload_n 2, 1) := by decide +kernel
theorem dX0_add_27 : decode cX0_add 27 = .ok (.iaload, 1) := by decide +kernel
theorem dX0_add_28 : decode cX0_add 28 = .ok (.iadd, 1) := by decide +kernel
theorem dX0_add_29 : decode cX0_add 29 = .ok (.istore 4, 2) := by decide +kernel
theorem dX0_add_31 : decode cX0_add 31 = .ok (.aload_n 0, 1) := by decide +kernel
theorem dX0_add_32 : decode cX0_add 32 = .ok (.iload_n 3, 1) := by decide +kernel
theorem dX0_add_33 : decode cX0_add 33 = .ok (.iload 4, 2) := by decide +kernel
theorem dX0_add_35 : decode cX0_add 35 = .ok (.ixor, 1) := by decide +kernel
theorem dX0_add_36 : decode cX0_add 36 = .ok (.aload_n 0, 1) := by decide +kernel
theorem dX0_add_37 : decode cX0_add 37 = .ok (.getfield 13, 3) := by decide +kernel
theorem dX0_add_40 : decode cX0_add 40 = .ok (.iload_n 1, 1) := by decide +kernel
theorem dX0_add_41 : decode cX0_add 41 = .ok (.iaload, 1) := by decide +kernel
theorem dX0_add_42 : decode cX0_add 42 = .ok (.ior, 1) := by decide +kernel
theorem dX0_add_43 : decode cX0_add 43 = .ok (.aload_n 0, 1) := by decide +kernel
theorem dX0_add_44 : decode cX0_add 44 = .ok (.getfield 13, 3) := by decide +kernel
theorem dX0_add_47 : decode cX0_add 47 = .ok (.iload_n 2, 1) := by decide +kernel
theorem dX0_add_48 : decode cX0_add 48 = .ok (.iaload, 1) := by decide +kernel
theorem dX0_add_49 : decode cX0_add 49 = .ok (.ior, 1) := by decide +kernel
theorem dX0_add_50 : decode cX0_add 50 = .ok (.bipush 63, 2) := by decide +kernel
theorem dX0_add_52 : decode cX0_add 52 = .ok (.iand, 1) := by decide +kernel
theorem dX0_add_53 : decode cX0_add 53 = .ok (.putfield 31, 3) := by decide +kernel
theorem dX0_add_56 : decode cX0_add 56 = .ok (.aload_n 0, 1) := by decide +kernel
theorem dX0_add_57 : decode cX0_add 57 = .ok (.iload_n 3, 1) := by decide +kernel
theorem dX0_add_58 : decode cX0_add 58 = .ok (.aload_n 0, 1) := by decide +kernel
theorem dX0_add_59 : decode cX0_add 59 = .ok (.getfield 31, 3) := by decide +kernel
theorem dX0_add_62 : decode cX0_add 62 = .ok (.iconst (-1), 1) := by decide +kernel
theorem dX0_add_63 : decode cX0_add 63 = .ok (.ixor, 1) := by decide +kernel
theorem dX0_add_64 : decode cX0_add 64 = .ok (.iand, 1) := by decide +kernel
theorem dX0_add_65 : decode cX0_add 65 = .ok (.bipush 63, 2) := by decide +kernel
theorem dX0_add_67 : decode cX0_add 67 = .ok (.iand, 1) := by decide +kernel
theorem dX0_add_68 : decode cX0_add 68 = .ok (.putfield 35, 3) := by decide +kernel
theorem dX0_add_71 : decode cX0_add 71 = .ok (.return_, 1) := by decide +kernel
theorem dX0_subtract_0 : decode cX0_subtract 0 = .ok (.aload_n 0, 1) := by decide +kernel
theorem dX0_subtract_1 : decode cX0_subtract 1 = .ok (.getfield 7, 3) := by decide +kernel
theorem dX0_subtract_4 : decode cX0_subtract 4 = .ok (.iload_n 1, 1) := by decide +kernel
theorem dX0_subtract_5 : decode cX0_subtract 5 = .ok (.iaload, 1) := by decide +kernel
theorem dX0_subtract_6 : decode cX0_subtract 6 = .ok (.aload_n 0, 1) := by decide +kernel
theorem dX0_subtract_7 : decode cX0_subtract 7 = .ok (.getfield 7, 3) := by decide +kernel
theorem dX0_subtract_10 : decode cX0_subtract 10 = .ok (.iload_n 2, 1) := by decide +kernel
theorem dX0_subtract_11 : decode cX0_subtract 11 = .ok (.iaload, 1) := by decide +kernel
theorem dX0_subtract_12 : decode cX0_subtract 12 = .ok (.isub, 1) := by decide +kernel
theorem dX0_subtract_13 : decode cX0_subtract 13 = .ok (.istore_n 3, 1) := by decide +kernel
theorem dX0_subtract_14 : decode cX0_subtract 14 = .ok (.iload_n 3, 1) := by decide +kernel
theorem dX0_subtract_15 : decode cX0_subtract 15 = .ok (.aload_n 0, 1) := by decide +kernel
theorem dX0_subtract_16 : decode cX0_subtract 16 = .ok (.getfield 13, 3) := by decide +kernel
theorem dX0_subtract_19 : decode cX0_subtract 19 = .ok (.iload_n 1, 1) := by decide +kernel
theorem dX0_subtract_20 : decode cX0_subtract 20 = .ok (.iaload, 1) := by decide +kernel
theorem dX0_subtract_21 : decode cX0_subtract 21 = .ok (.iadd, 1) := by decide +kernel
theorem dX0_subtract_22 : decode cX0_subtract 22 = .ok (.istore 4, 2) := by decide +kernel
theorem dX0_subtract_24 : decode cX0_subtract 24 = .ok (.iload_n 3, 1) := by decide +kernel
theorem dX0_subtract_25 : decode cX0_subtract 25 = .ok (.aload_n 0, 1) := by decide +kernel
theorem dX0_subtract_26 : decode cX0_subtract 26 = .ok (.getfield 13, 3) := by decide +kernel
theorem dX0_subtract_29 : decode cX0_subtract 29 = .ok (.iload_n 2, 1) := by decide +kernel
theorem dX0_subtract_30 : decode cX0_subtract 30 = .ok (.iaload, 1) := by decide +kernel
theorem dX0_subtract_31 : decode cX0_subtract 31 = .ok (.isub, 1) := by decide +kernel
theorem dX0_subtract_32 : decode cX0_subtract 32 = .ok (.istore 5, 2) := by decide +kernel
theorem dX0_subtract_34 : decode cX0_subtract 34 = .ok (.aload_n 0, 1) := by decide +kernel
theorem dX0_subtract_35 : decode cX0_subtract 35 = .ok (.iload 4, 2) := by decide +kernel
theorem dX0_subtract_37 : decode cX0_subtract 37 = .ok (.iload 5, 2) := by decide +kernel
theorem dX0_subtract_39 : decode cX0_subtract 39 = .ok (.ixor, 1) := by decide +kernel
theorem dX0_subtract_40 : decode cX0_subtract 40 = .ok (.aload_n 0, 1) := by decide +kernel
theorem dX0_subtract_41 : decode cX0_subtract 41 = .ok (.getfield 13, 3) := by decide +kernel
theorem dX0_subtract_44 : decode cX0_subtract 44 = .ok (.iload_n 1, 1) := by decide +kernel
theorem dX0_subtract_45 : decode cX0_subtract 45 = .ok (.iaload, 1) := by decide +kernel
theorem dX0_subtract_46 : decode cX0_subtract 46 = .ok (.ior, 1) := by decide +kernel
theorem dX0_subtract_47 : decode cX0_subtract 47 = .ok (.aload_n 0, 1) := by decide +kernel
theorem dX0_subtract_48 : decode cX0_subtract 48 = .ok (.getfield 13, 3) := by decide +kernel
theorem dX0_subtract_51 : decode cX0_subtract 51 = .ok (.iload_n 2, 1) := by decide +kernel
theorem dX0_subtract_52 : decode cX0_subtract 52 = .ok (.iaload, 1) := by decide +kernel
theorem dX0_subtract_53 : decode cX0_subtract 53 = .ok (.ior, 1) := by decide +kernel
theorem dX0_subtract_54 : decode cX0_subtract 54 = .ok (.bipush 63, 2) := by decide +kernel
theorem dX0_subtract_56 : decode cX0_subtract 56 = .ok (.iand, 1) := by decide +kernel
theorem dX0_subtract_57 : decode cX0_subtract 57 = .ok (.putfield 31, 3) := by decide +kernel
theorem dX0_subtract_60 : decode cX0_subtract 60 = .ok (.aload_n 0, 1) := by decide +kernel
theorem dX0_subtract_61 : decode cX0_subtract 61 = .ok (.iload_n 3, 1) := by decide +kernel
theorem dX0_subtract_62 : decode cX0_subtract 62 = .ok (.aload_n 0, 1) := by decide +kernel
theorem dX0_subtract_63 : decode cX0_subtract 63 = .ok (.getfield 31, 3) := by decide +kernel
theorem dX0_subtract_66 : decode cX0_subtract 66 = .ok (.iconst (-1), 1) := by decide +kernel
theorem dX0_subtract_67 : decode cX0_subtract 67 = .ok (.ixor, 1) := by decide +kernel
theorem dX0_subtract_68 : decode cX0_subtract 68 = .ok (.iand, 1) := by decide +kernel
theorem dX0_subtract_69 : decode cX0_subtract 69 = .ok (.bipush 63, 2) := by decide +kernel
theorem dX0_subtract_71 : decode cX0_subtract 71 = .ok (.iand, 1) := by decide +kernel
theorem dX0_subtract_72 : decode cX0_subtract 72 = .ok (.putfield 35, 3) := by decide +kernel
theorem dX0_subtract_75 : decode cX0_subtract 75 = .ok (.return_, 1) := by decide +kernel
theorem dX0_bitwise_0 : decode cX0_bitwise 0 = .ok (.iload_n 1, 1) := by decide +kernel
theorem dX0_bitwise_1 : decode cX0_bitwise 1 = .ok (.iconst 2, 1) := by decide +kernel
theorem dX0_bitwise_2 : decode cX0_bitwise 2 = .ok (.if_icmp .ne 61, 3) := by decide +kernel
theorem dX0_bitwise_5 : decode cX0_bitwise 5 = .ok (.aload_n 0, 1) := by decide +kernel
theorem dX0_bitwise_6 : decode cX0_bitwise 6 = .ok (.aload_n 0, 1) := by decide +kernel
theorem dX0_bitwise_7 : decode cX0_bitwise 7 = .ok (.getfield 7, 3) := by decide +kernel
theorem dX0_bitwise_10 : decode cX0_bitwise 10 = .ok (.iload_n 2, 1) := by decide +kernel
theorem dX0_bitwise_11 : decode cX0_bitwise 11 = .ok (.iaload, 1) := by decide +kernel
theorem dX0_bitwise_12 : decode cX0_bitwise 12 = .ok (.aload_n 0, 1) := by decide +kernel
theorem dX0_bitwise_13 : decode cX0_bitwise 13 = .ok (.getfield 7, 3) := by decide +kernel
theorem dX0_bitwise_16 : decode cX0_bitwise 16 = .ok (.iload_n 3, 1) := by decide +kernel
theorem dX0_bitwise_17 : decode cX0_bitwise 17 = .ok (.iaload, 1) := by decide +kernel
theorem dX0_bitwise_18 : decode cX0_bitwise 18 = .ok (.iand, 1) := by decide +kernel
theorem dX0_bitwise_19 : decode cX0_bitwise 19 = .ok (.putfield 35, 3) := by decide +kernel
theorem dX0_bitwise_22 : decode cX0_bitwise 22 = .ok (.aload_n 0, 1) := by decide +kernel
theorem dX0_bitwise_23 : decode cX0_bitwise 23 = .ok (.aload_n 0, 1) := by decide +kernel
theorem dX0_bitwise_24 : decode cX0_bitwise 24 = .ok (.getfield 7, 3) := by decide +kernel
theorem dX0_bitwise_27 : decode cX0_bitwise 27 = .ok (.iload_n 2, 1) := by decide +kernel
theorem dX0_bitwise_28 : decode cX0_bitwise 28 = .ok (.iaload, 1) := by decide +kernel
theorem dX0_bitwise_29 : decode cX0_bitwise 29 = .ok (.aload_n 0, 1) := by decide +kernel
theorem dX0_bitwise_30 : decode cX0_bitwise 30 = .ok (.getfield 13, 3) := by decide +kernel
theorem dX0_bitwise_33 : decode cX0_bitwise 33 = .ok (.iload_n 2, 1) := by decide +kernel
theorem dX0_bitwise_34 : decode cX0_bitwise 34 = .ok (.iaload, 1) := by decide +kernel
theorem dX0_bitwise_35 : decode cX0_bitwise 35 = .ok (.ior, 1) := by decide +kernel
theorem dX0_bitwise_36 : decode cX0_bitwise 36 = .ok (.aload_n 0, 1) := by decide +kernel
theorem dX0_bitwise_37 : decode cX0_bitwise 37 = .ok (.getfield 7, 3) := by decide +kernel
theorem dX0_bitwise_40 : decode cX0_bitwise 40 = .ok (.iload_n 3, 1) := by decide +kernel
theorem dX0_bitwise_41 : decode cX0_bitwise 41 = .ok (.iaload, 1) := by decide +kernel
theorem dX0_bitwise_42 : decode cX0_bitwise 42 = .ok (.aload_n 0, 1) := by decide +kernel
theorem dX0_bitwise_43 : decode cX0_bitwise 43 = .ok (.getfield 13, 3) := by decide +kernel
theorem dX0_bitwise_46 : decode cX0_bitwise 46 = .ok (.iload_n 3, 1) := by decide +kernel
theorem dX0_bitwise_47 : decode cX0_bitwise 47 = .ok (.iaload, 1) := by decide +kernel
theorem dX0_bitwise_48 : decode cX0_bitwise 48 = .ok (.ior, 1) := by decide +kernel
theorem dX0_bitwise_49 : decode cX0_bitwise 49 = .ok (.iand, 1) := by decide +kernel
theorem dX0_bitwise_50 : decode cX0_bitwise 50 = .ok (.aload_n 0, 1) := by decide +kernel
theorem dX0_bitwise_51 : decode cX0_bitwise 51 = .ok (.getfield 35, 3) := by decide +kernel
theorem dX0_bitwise_54 : decode cX0_bitwise 54 = .ok (.iconst (-1), 1) := by decide +kernel
theorem dX0_bitwise_55 : decode cX0_bitwise 55 = .ok (.ixor, 1) := by decide +kernel
theorem dX0_bitwise_56 : decode cX0_bitwise 56 = .ok (.iand, 1) := by decide +kernel
theorem dX0_bitwise_57 : decode cX0_bitwise 57 = .ok (.putfield 31, 3) := by decide +kernel
theorem dX0_bitwise_60 : decode cX0_bitwise 60 = .ok (.goto 93, 3) := by decide +kernel
theorem dX0_bitwise_63 : decode cX0_bitwise 63 = .ok (.iload_n 1, 1) := by decide +kernel
theorem dX0_bitwise_64 : decode cX0_bitwise 64 = .ok (.iconst 3, 1) := by decide +kernel
theorem dX0_bitwise_65 : decode cX0_bitwise 65 = .ok (.if_icmp .ne 47, 3) := by decide +kernel
theorem dX0_bitwise_68 : decode cX0_bitwise 68 = .ok (.aload_n 0, 1) := by decide +kernel
theorem dX0_bitwise_69 : decode cX0_bitwise 69 = .ok (.aload_n 0, 1) := by decide +kernel
theorem dX0_bitwise_70 : decode cX0_bitwise 70 = .ok (.getfield 7, 3) := by decide +kernel
theorem dX0_bitwise_73 : decode cX0_bitwise 73 = .ok (.iload_n 2, 1) := by decide +kernel
theorem dX0_bitwise_74 : decode cX0_bitwise 74 = .ok (.iaload, 1) := by decide +kernel
theorem dX0_bitwise_75 : decode cX0_bitwise 75 = .ok (.aload_n 0, 1) := by decide +kernel
theorem dX0_bitwise_76 : decode cX0_bitwise 76 = .ok (.getfield 7, 3) := by decide +kernel
theorem dX0_bitwise_79 : decode cX0_bitwise 79 = .ok (.iload_n 3, 1) := by decide +kernel
theorem dX0_bitwise_80 : decode cX0_bitwise 80 = .ok (.iaload, 1) := by decide +kernel
theorem dX0_bitwise_81 : decode cX0_bitwise 81 = .ok (.ior, 1) := by decide +kernel
theorem dX0_bitwise_82 : decode cX0_bitwise 82 = .ok (.putfield 35, 3) := by decide +kernel
theorem dX0_bitwise_85 : decode cX0_bitwise 85 = .ok (.aload_n 0, 1) := by decide +kernel
theorem dX0_bitwise_86 : decode cX0_bitwise 86 = .ok (.aload_n 0, 1) := by decide +kernel
theorem dX0_bitwise_87 : decode cX0_bitwise 87 = .ok (.getfield 13, 3) := by decide +kernel
theorem dX0_bitwise_90 : decode cX0_bitwise 90 = .ok (.iload_n 2, 1) := by decide +kernel
theorem dX0_bitwise_91 : decode cX0_bitwise 91 = .ok (.iaload, 1) := by decide +kernel
theorem dX0_bitwise_92 : decode cX0_bitwise 92 = .ok (.aload_n 0, 1) := by decide +kernel
theorem dX0_bitwise_93 : decode cX0_bitwise 93 = .ok (.getfield 13, 3) := by decide +kernel
theorem dX0_bitwise_96 : decode cX0_bitwise 96 = .ok (.iload_n 3, 1) := by decide +kernel
theorem dX0_bitwise_97 : decode cX0_bitwise 97 = .ok (.iaload, 1) := by decide +kernel
theorem dX0_bitwise_98 : decode cX0_bitwise 98 = .ok (.ior, 1) := by decide +kernel
theorem dX0_bitwise_99 : decode cX0_bitwise 99 = .ok (.aload_n 0, 1) := by decide +kernel
theorem dX0_bitwise_100 : decode cX0_bitwise 100 = .ok (.getfield 35, 3) := by decide +kernel
theorem dX0_bitwise_103 : decode cX0_bitwise 103 = .ok (.iconst (-1), 1) := by decide +kernel
theorem dX0_bitwise_104 : decode cX0_bitwise 104 = .ok (.ixor, 1) := by decide +kernel
theorem dX0_bitwise_105 : decode cX0_bitwise 105 = .ok (.iand, 1) := by decide +kernel
theorem dX0_bitwise_106 : decode cX0_bitwise 106 = .ok (.putfield 31, 3) := by decide +kernel
theorem dX0_bitwise_109 : decode cX0_bitwise 109 = .ok (.goto 44, 3) := by decide +kernel
theorem dX0_bitwise_112 : decode cX0_bitwise 112 = .ok (.aload_n 0, 1) := by decide +kernel
theorem dX0_bitwise_113 : decode cX0_bitwise 113 = .ok (.aload_n 0, 1) := by decide +kernel
theorem dX0_bitwise_114 : decode cX0_bitwise 114 = .ok (.getfield 13, 3) := by decide +kernel
theorem dX0_bitwise_117 : decode cX0_bitwise 117 = .ok (.iload_n 2, 1) := by decide +kernel
theorem dX0_bitwise_118 : decode cX0_bitwise 118 = .ok (.iaload, 1) := by decide +kernel
theorem dX0_bitwise_119 : decode cX0_bitwise 119 = .ok (.aload_n 0, 1) := by decide +kernel
theorem dX0_bitwise_120 : decode cX0_bitwise 120 = .ok (.getfield 13, 3) := by decide +kernel
theorem dX0_bitwise_123 : decode cX0_bitwise 123 = .ok (.iload_n 3, 1) := by decide +kernel
theorem dX0_bitwise_124 : decode cX0_bitwise 124 = .ok (.iaload, 1) := by decide +kernel
theorem dX0_bitwise_125 : decode cX0_bitwise 125 = .ok (.ior, 1) := by decide +kernel
theorem dX0_bitwise_126 : decode cX0_bitwise 126 = .ok (.putfield 31, 3) := by decide +kernel
theorem dX0_bitwise_129 : decode cX0_bitwise 129 = .ok (.aload_n 0, 1) := by decide +kernel
theorem dX0_bitwise_130 : decode cX0_bitwise 130 = .ok (.aload_n 0, 1) := by decide +kernel
theorem dX0_bitwise_131 : decode cX0_bitwise 131 = .ok (.getfield 7, 3) := by decide +kernel
theorem dX0_bitwise_134 : decode cX0_bitwise 134 = .ok (.iload_n 2, 1) := by decide +kernel
theorem dX0_bitwise_135 : decode cX0_bitwise 135 = .ok (.iaload, 1) := by decide +kernel
theorem dX0_bitwise_136 : decode cX0_bitwise 136 = .ok (.aload_n 0, 1) := by decide +kernel
theorem dX0_bitwise_137 : decode cX0_bitwise 137 = .ok (.getfield 7, 3) := by decide +kernel
theorem dX0_bitwise_140 : decode cX0_bitwise 140 = .ok (.iload_n 3, 1) := by decide +kernel
theorem dX0_bitwise_141 : decode cX0_bitwise 141 = .ok (.iaload, 1) := by decide +kernel
theorem dX0_bitwise_142 : decode cX0_bitwise 142 = .ok (.ixor, 1) := by decide +kernel
theorem dX0_bitwise_143 : decode cX0_bitwise 143 = .ok (.aload_n 0, 1) := by decide +kernel
theorem dX0_bitwise_144 : decode cX0_bitwise 144 = .ok (.getfield 31, 3) := by decide +kernel
theorem dX0_bitwise_147 : decode cX0_bitwise 147 = .ok (.iconst (-1), 1) := by decide +kernel
theorem dX0_bitwise_148 : decode cX0_bitwise 148 = .ok (.ixor, 1) := by decide +kernel
theorem dX0_bitwise_149 : decode cX0_bitwise 149 = .ok (.iand, 1) := by decide +kernel
theorem dX0_bitwise_150 : decode cX0_bitwise 150 = .ok (.putfield 35, 3) := by decide +kernel
theorem dX0_bitwise_153 : decode cX0_bitwise 153 = .ok (.return_, 1) := by decide +kernel
theorem dX0_keep_0 : decode cX0_keep 0 = .ok (.aload_n 0, 1) := by decide +kernel
theorem dX0_keep_1 : decode cX0_keep 1 = .ok (.getfield 7, 3) := by decide +kernel
theorem dX0_keep_4 : decode cX0_keep 4 = .ok (.iload_n 1, 1) := by decide +kernel
theorem dX0_keep_5 : decode cX0_keep 5 = .ok (.aload_n 0, 1) := by decide +kernel
theorem dX0_keep_6 : decode cX0_keep 6 = .ok (.getfield 35, 3) := by decide +kernel
theorem dX0_keep_9 : decode cX0_keep 9 = .ok (.iastore, 1) := by decide +kernel
theorem dX0_keep_10 : decode cX0_keep 10 = .ok (.aload_n 0, 1) := by decide +kernel
theorem dX0_keep_11 : decode cX0_keep 11 = .ok (.getfield 13, 3) := by decide +kernel
theorem dX0_keep_14 : decode cX0_keep 14 = .ok (.iload_n 1, 1) := by decide +kernel
theorem dX0_keep_15 : decode cX0_keep 15 = .ok (.aload_n 0, 1) := by decide +kernel
theorem dX0_keep_16 : decode cX0_keep 16 = .ok (.getfield 31, 3) := by decide +kernel
theorem dX0_keep_19 : decode cX0_keep 19 = .ok (.iastore, 1) := by decide +kernel
theorem dX0_keep_20 : decode cX0_keep 20 = .ok (.return_, 1) := by decide +kernel
theorem dX0_shift_0 : decode cX0_shift 0 = .ok (.iload_n 1, 1) := by decide +kernel
theorem dX0_shift_1 : decode cX0_shift 1 = .ok (.invokestatic 16, 3) := by decide +kernel
theorem dX0_shift_4 : decode cX0_shift 4 = .ok (.ifCond .eq 22, 3) := by decide +kernel
theorem dX0_shift_7 : decode cX0_shift 7 = .ok (.iload_n 2, 1) := by decide +kernel
theorem dX0_shift_8 : decode cX0_shift 8 = .ok (.invokestatic 16, 3) := by decide +kernel
theorem dX0_shift_11 : decode cX0_shift 11 = .ok (.ifCond .eq 15, 3) := by decide +kernel
theorem dX0_shift_14 : decode cX0_shift 14 = .ok (.iload_n 3, 1) := by decide +kernel
theorem dX0_shift_15 : decode cX0_shift 15 = .ok (.bipush (-6), 2) := by decide +kernel
end
section
set_option maxRecDepth 100000
theorem dX0_shift_17 : decode cX0_shift 17 = .ok (.if_icmp .lt 9, 3) := by decide +kernel
theorem dX0_shift_20 : decode cX0_shift 20 = .ok (.iload_n 3, 1) := by decide +kernel
theorem dX0_shift_21 : decode cX0_shift 21 = .ok (.bipush 6, 2) := by decide +kernel
theorem dX0_shift_23 : decode cX0_shift 23 = .ok (.if_icmp .le 5, 3) := by decide +kernel
theorem dX0_shift_26 : decode cX0_shift 26 = .ok (.iconst (-1), 1) := by decide +kernel
theorem dX0_shift_27 : decode cX0_shift 27 = .ok (.ireturn, 1) := by decide +kernel
theorem dX0_shift_28 : decode cX0_shift 28 = .ok (.aload_n 0, 1) := by decide +kernel
theorem dX0_shift_29 : decode cX0_shift 29 = .ok (.iload_n 3, 1) := by decide +kernel
theorem dX0_shift_30 : decode cX0_shift 30 = .ok (.ifCond .lt 17, 3) := by decide +kernel
theorem dX0_shift_33 : decode cX0_shift 33 = .ok (.aload_n 0, 1) := by decide +kernel
theorem dX0_shift_34 : decode cX0_shift 34 = .ok (.getfield 7, 3) := by decide +kernel
theorem dX0_shift_37 : decode cX0_shift 37 = .ok (.iload_n 2, 1) := by decide +kernel
theorem dX0_shift_38 : decode cX0_shift 38 = .ok (.iaload, 1) := by decide +kernel
theorem dX0_shift_39 : decode cX0_shift 39 = .ok (.iload_n 3, 1) := by decide +kernel
theorem dX0_shift_40 : decode cX0_shift 40 = .ok (.ishl, 1) := by decide +kernel
theorem dX0_shift_41 : decode cX0_shift 41 = .ok (.bipush 63, 2) := by decide +kernel
theorem dX0_shift_43 : decode cX0_shift 43 = .ok (.iand, 1) := by decide +kernel
theorem dX0_shift_44 : decode cX0_shift 44 = .ok (.goto 12, 3) := by decide +kernel
theorem dX0_shift_47 : decode cX0_shift 47 = .ok (.aload_n 0, 1) := by decide +kernel
theorem dX0_shift_48 : decode cX0_shift 48 = .ok (.getfield 7, 3) := by decide +kernel
theorem dX0_shift_51 : decode cX0_shift 51 = .ok (.iload_n 2, 1) := by decide +kernel
theorem dX0_shift_52 : decode cX0_shift 52 = .ok (.iaload, 1) := by decide +kernel
theorem dX0_shift_53 : decode cX0_shift 53 = .ok (.iload_n 3, 1) := by decide +kernel
theorem dX0_shift_54 : decode cX0_shift 54 = .ok (.ineg, 1) := by decide +kernel
theorem dX0_shift_55 : decode cX0_shift 55 = .ok (.ishr, 1) := by decide +kernel
theorem dX0_shift_56 : decode cX0_shift 56 = .ok (.putfield 35, 3) := by decide +kernel
theorem dX0_shift_59 : decode cX0_shift 59 = .ok (.aload_n 0, 1) := by decide +kernel
theorem dX0_shift_60 : decode cX0_shift 60 = .ok (.iload_n 3, 1) := by decide +kernel
theorem dX0_shift_61 : decode cX0_shift 61 = .ok (.ifCond .lt 17, 3) := by decide +kernel
theorem dX0_shift_64 : decode cX0_shift 64 = .ok (.aload_n 0, 1) := by decide +kernel
theorem dX0_shift_65 : decode cX0_shift 65 = .ok (.getfield 13, 3) := by decide +kernel
theorem dX0_shift_68 : decode cX0_shift 68 = .ok (.iload_n 2, 1) := by decide +kernel
theorem dX0_shift_69 : decode cX0_shift 69 = .ok (.iaload, 1) := by decide +kernel
theorem dX0_shift_70 : decode cX0_shift 70 = .ok (.iload_n 3, 1) := by decide +kernel
theorem dX0_shift_71 : decode cX0_shift 71 = .ok (.ishl, 1) := by decide +kernel
theorem dX0_shift_72 : decode cX0_shift 72 = .ok (.bipush 63, 2) := by decide +kernel
theorem dX0_shift_74 : decode cX0_shift 74 = .ok (.iand, 1) := by decide +kernel
theorem dX0_shift_75 : decode cX0_shift 75 = .ok (.goto 12, 3) := by decide +kernel
theorem dX0_shift_78 : decode cX0_shift 78 = .ok (.aload_n 0, 1) := by decide +kernel
theorem dX0_shift_79 : decode cX0_shift 79 = .ok (.getfield 13, 3) := by decide +kernel
theorem dX0_shift_82 : decode cX0_shift 82 = .ok (.iload_n 2, 1) := by decide +kernel
theorem dX0_shift_83 : decode cX0_shift 83 = .ok (.iaload, 1) := by decide +kernel
theorem dX0_shift_84 : decode cX0_shift 84 = .ok (.iload_n 3, 1) := by decide +kernel
theorem dX0_shift_85 : decode cX0_shift 85 = .ok (.ineg, 1) := by decide +kernel
theorem dX0_shift_86 : decode cX0_shift 86 = .ok (.ishr, 1) := by decide +kernel
theorem dX0_shift_87 : decode cX0_shift 87 = .ok (.putfield 31, 3) := by decide +kernel
theorem dX0_shift_90 : decode cX0_shift 90 = .ok (.aload_n 0, 1) := by decide +kernel
theorem dX0_shift_91 : decode cX0_shift 91 = .ok (.iload_n 1, 1) := by decide +kernel
theorem dX0_shift_92 : decode cX0_shift 92 = .ok (.invokevirtual 38, 3) := by decide +kernel
theorem dX0_shift_95 : decode cX0_shift 95 = .ok (.iconst 0, 1) := by decide +kernel
theorem dX0_shift_96 : decode cX0_shift 96 = .ok (.ireturn, 1) := by decide +kernel
theorem dX0_narrow_0 : decode cX0_narrow 0 = .ok (.iload_n 1, 1) := by decide +kernel
theorem dX0_narrow_1 : decode cX0_narrow 1 = .ok (.invokestatic 16, 3) := by decide +kernel
theorem dX0_narrow_4 : decode cX0_narrow 4 = .ok (.ifCond .ne 5, 3) := by decide +kernel
theorem dX0_narrow_7 : decode cX0_narrow 7 = .ok (.iconst (-1), 1) := by decide +kernel
theorem dX0_narrow_8 : decode cX0_narrow 8 = .ok (.ireturn, 1) := by decide +kernel
theorem dX0_narrow_9 : decode cX0_narrow 9 = .ok (.aload_n 0, 1) := by decide +kernel
theorem dX0_narrow_10 : decode cX0_narrow 10 = .ok (.iload_n 1, 1) := by decide +kernel
theorem dX0_narrow_11 : decode cX0_narrow 11 = .ok (.iload_n 2, 1) := by decide +kernel
theorem dX0_narrow_12 : decode cX0_narrow 12 = .ok (.iload_n 3, 1) := by decide +kernel
theorem dX0_narrow_13 : decode cX0_narrow 13 = .ok (.invokevirtual 42, 3) := by decide +kernel
theorem dX0_narrow_16 : decode cX0_narrow 16 = .ok (.istore 4, 2) := by decide +kernel
theorem dX0_narrow_18 : decode cX0_narrow 18 = .ok (.iload 4, 2) := by decide +kernel
theorem dX0_narrow_20 : decode cX0_narrow 20 = .ok (.ifCond .ne 6, 3) := by decide +kernel
theorem dX0_narrow_23 : decode cX0_narrow 23 = .ok (.bipush (-2), 2) := by decide +kernel
theorem dX0_narrow_25 : decode cX0_narrow 25 = .ok (.ireturn, 1) := by decide +kernel
theorem dX0_narrow_26 : decode cX0_narrow 26 = .ok (.aload_n 0, 1) := by decide +kernel
theorem dX0_narrow_27 : decode cX0_narrow 27 = .ok (.iload_n 1, 1) := by decide +kernel
theorem dX0_narrow_28 : decode cX0_narrow 28 = .ok (.invokevirtual 38, 3) := by decide +kernel
theorem dX0_narrow_31 : decode cX0_narrow 31 = .ok (.iconst 0, 1) := by decide +kernel
theorem dX0_narrow_32 : decode cX0_narrow 32 = .ok (.ireturn, 1) := by decide +kernel
theorem dX0_narrowed_0 : decode cX0_narrowed 0 = .ok (.aload_n 0, 1) := by decide +kernel
theorem dX0_narrowed_1 : decode cX0_narrowed 1 = .ok (.getfield 7, 3) := by decide +kernel
theorem dX0_narrowed_4 : decode cX0_narrowed 4 = .ok (.iload_n 1, 1) := by decide +kernel
theorem dX0_narrowed_5 : decode cX0_narrowed 5 = .ok (.iaload, 1) := by decide +kernel
theorem dX0_narrowed_6 : decode cX0_narrowed 6 = .ok (.istore 4, 2) := by decide +kernel
theorem dX0_narrowed_8 : decode cX0_narrowed 8 = .ok (.aload_n 0, 1) := by decide +kernel
theorem dX0_narrowed_9 : decode cX0_narrowed 9 = .ok (.getfield 13, 3) := by decide +kernel
theorem dX0_narrowed_12 : decode cX0_narrowed 12 = .ok (.iload_n 1, 1) := by decide +kernel
theorem dX0_narrowed_13 : decode cX0_narrowed 13 = .ok (.iaload, 1) := by decide +kernel
theorem dX0_narrowed_14 : decode cX0_narrowed 14 = .ok (.istore 5, 2) := by decide +kernel
theorem dX0_narrowed_16 : decode cX0_narrowed 16 = .ok (.iload_n 2, 1) := by decide +kernel
theorem dX0_narrowed_17 : decode cX0_narrowed 17 = .ok (.ifCond .ge 7, 3) := by decide +kernel
theorem dX0_narrowed_20 : decode cX0_narrowed 20 = .ok (.iconst 0, 1) := by decide +kernel
theorem dX0_narrowed_21 : decode cX0_narrowed 21 = .ok (.goto 4, 3) := by decide +kernel
theorem dX0_narrowed_24 : decode cX0_narrowed 24 = .ok (.iload_n 2, 1) := by decide +kernel
theorem dX0_narrowed_25 : decode cX0_narrowed 25 = .ok (.istore 6, 2) := by decide +kernel
theorem dX0_narrowed_27 : decode cX0_narrowed 27 = .ok (.iload 4, 2) := by decide +kernel
theorem dX0_narrowed_29 : decode cX0_narrowed 29 = .ok (.iload 5, 2) := by decide +kernel
theorem dX0_narrowed_31 : decode cX0_narrowed 31 = .ok (.iload 6, 2) := by decide +kernel
theorem dX0_narrowed_33 : decode cX0_narrowed 33 = .ok (.invokestatic 64, 3) := by decide +kernel
theorem dX0_narrowed_36 : decode cX0_narrowed 36 = .ok (.iload_n 3, 1) := by decide +kernel
theorem dX0_narrowed_37 : decode cX0_narrowed 37 = .ok (.bipush 63, 2) := by decide +kernel
theorem dX0_narrowed_39 : decode cX0_narrowed 39 = .ok (.if_icmp .le 8, 3) := by decide +kernel
theorem dX0_narrowed_42 : decode cX0_narrowed 42 = .ok (.bipush 63, 2) := by decide +kernel
theorem dX0_narrowed_44 : decode cX0_narrowed 44 = .ok (.goto 4, 3) := by decide +kernel
theorem dX0_narrowed_47 : decode cX0_narrowed 47 = .ok (.iload_n 3, 1) := by decide +kernel
theorem dX0_narrowed_48 : decode cX0_narrowed 48 = .ok (.if_icmp .le 5, 3) := by decide +kernel
theorem dX0_narrowed_51 : decode cX0_narrowed 51 = .ok (.iconst 0, 1) := by decide +kernel
theorem dX0_narrowed_52 : decode cX0_narrowed 52 = .ok (.ireturn, 1) := by decide +kernel
theorem dX0_narrowed_53 : decode cX0_narrowed 53 = .ok (.aload_n 0, 1) := by decide +kernel
theorem dX0_narrowed_54 : decode cX0_narrowed 54 = .ok (.iload 4, 2) := by decide +kernel
theorem dX0_narrowed_56 : decode cX0_narrowed 56 = .ok (.putfield 35, 3) := by decide +kernel
theorem dX0_narrowed_59 : decode cX0_narrowed 59 = .ok (.aload_n 0, 1) := by decide +kernel
theorem dX0_narrowed_60 : decode cX0_narrowed 60 = .ok (.iload 5, 2) := by decide +kernel
theorem dX0_narrowed_62 : decode cX0_narrowed 62 = .ok (.putfield 31, 3) := by decide +kernel
theorem dX0_narrowed_65 : decode cX0_narrowed 65 = .ok (.iconst 0, 1) := by decide +kernel
theorem dX0_narrowed_66 : decode cX0_narrowed 66 = .ok (.istore 7, 2) := by decide +kernel
theorem dX0_narrowed_68 : decode cX0_narrowed 68 = .ok (.iload 7, 2) := by decide +kernel
theorem dX0_narrowed_70 : decode cX0_narrowed 70 = .ok (.bipush 6, 2) := by decide +kernel
theorem dX0_narrowed_72 : decode cX0_narrowed 72 = .ok (.if_icmp .ge 156, 3) := by decide +kernel
theorem dX0_narrowed_75 : decode cX0_narrowed 75 = .ok (.iconst 1, 1) := by decide +kernel
theorem dX0_narrowed_76 : decode cX0_narrowed 76 = .ok (.iload 7, 2) := by decide +kernel
theorem dX0_narrowed_78 : decode cX0_narrowed 78 = .ok (.ishl, 1) := by decide +kernel
theorem dX0_narrowed_79 : decode cX0_narrowed 79 = .ok (.istore 8, 2) := by decide +kernel
theorem dX0_narrowed_81 : decode cX0_narrowed 81 = .ok (.iload 5, 2) := by decide +kernel
theorem dX0_narrowed_83 : decode cX0_narrowed 83 = .ok (.iload 8, 2) := by decide +kernel
theorem dX0_narrowed_85 : decode cX0_narrowed 85 = .ok (.iand, 1) := by decide +kernel
theorem dX0_narrowed_86 : decode cX0_narrowed 86 = .ok (.ifCond .eq 136, 3) := by decide +kernel
theorem dX0_narrowed_89 : decode cX0_narrowed 89 = .ok (.iload 4, 2) := by decide +kernel
theorem dX0_narrowed_91 : decode cX0_narrowed 91 = .ok (.iload 5, 2) := by decide +kernel
theorem dX0_narrowed_93 : decode cX0_narrowed 93 = .ok (.iload 8, 2) := by decide +kernel
theorem dX0_narrowed_95 : decode cX0_narrowed 95 = .ok (.iconst (-1), 1) := by decide +kernel
theorem dX0_narrowed_96 : decode cX0_narrowed 96 = .ok (.ixor, 1) := by decide +kernel
theorem dX0_narrowed_97 : decode cX0_narrowed 97 = .ok (.iand, 1) := by decide +kernel
theorem dX0_narrowed_98 : decode cX0_narrowed 98 = .ok (.iload 6, 2) := by decide +kernel
theorem dX0_narrowed_100 : decode cX0_narrowed 100 = .ok (.invokestatic 64, 3) := by decide +kernel
theorem dX0_narrowed_103 : decode cX0_narrowed 103 = .ok (.istore 9, 2) := by decide +kernel
theorem dX0_narrowed_105 : decode cX0_narrowed 105 = .ok (.iload 4, 2) := by decide +kernel
theorem dX0_narrowed_107 : decode cX0_narrowed 107 = .ok (.iload 8, 2) := by decide +kernel
theorem dX0_narrowed_109 : decode cX0_narrowed 109 = .ok (.ior, 1) := by decide +kernel
theorem dX0_narrowed_110 : decode cX0_narrowed 110 = .ok (.iload 5, 2) := by decide +kernel
theorem dX0_narrowed_112 : decode cX0_narrowed 112 = .ok (.iload 8, 2) := by decide +kernel
theorem dX0_narrowed_114 : decode cX0_narrowed 114 = .ok (.iconst (-1), 1) := by decide +kernel
theorem dX0_narrowed_115 : decode cX0_narrowed 115 = .ok (.ixor, 1) := by decide +kernel
theorem dX0_narrowed_116 : decode cX0_narrowed 116 = .ok (.iand, 1) := by decide +kernel
theorem dX0_narrowed_117 : decode cX0_narrowed 117 = .ok (.iload 6, 2) := by decide +kernel
theorem dX0_narrowed_119 : decode cX0_narrowed 119 = .ok (.invokestatic 64, 3) := by decide +kernel
theorem dX0_narrowed_122 : decode cX0_narrowed 122 = .ok (.istore 10, 2) := by decide +kernel
theorem dX0_narrowed_124 : decode cX0_narrowed 124 = .ok (.iload 9, 2) := by decide +kernel
theorem dX0_narrowed_126 : decode cX0_narrowed 126 = .ok (.bipush 64, 2) := by decide +kernel
theorem dX0_narrowed_128 : decode cX0_narrowed 128 = .ok (.if_icmp .ge 13, 3) := by decide +kernel
theorem dX0_narrowed_131 : decode cX0_narrowed 131 = .ok (.iload 9, 2) := by decide +kernel
theorem dX0_narrowed_133 : decode cX0_narrowed 133 = .ok (.iload_n 3, 1) := by decide +kernel
theorem dX0_narrowed_134 : decode cX0_narrowed 134 = .ok (.if_icmp .gt 7, 3) := by decide +kernel
theorem dX0_narrowed_137 : decode cX0_narrowed 137 = .ok (.iconst 1, 1) := by decide +kernel
theorem dX0_narrowed_138 : decode cX0_narrowed 138 = .ok (.goto 4, 3) := by decide +kernel
theorem dX0_narrowed_141 : decode cX0_narrowed 141 = .ok (.iconst 0, 1) := by decide +kernel
theorem dX0_narrowed_142 : decode cX0_narrowed 142 = .ok (.istore 11, 2) := by decide +kernel
theorem dX0_narrowed_144 : decode cX0_narrowed 144 = .ok (.iload 10, 2) := by decide +kernel
theorem dX0_narrowed_146 : decode cX0_narrowed 146 = .ok (.bipush 64, 2) := by decide +kernel
theorem dX0_narrowed_148 : decode cX0_narrowed 148 = .ok (.if_icmp .ge 13, 3) := by decide +kernel
theorem dX0_narrowed_151 : decode cX0_narrowed 151 = .ok (.iload 10, 2) := by decide +kernel
theorem dX0_narrowed_153 : decode cX0_narrowed 153 = .ok (.iload_n 3, 1) := by decide +kernel
theorem dX0_narrowed_154 : decode cX0_narrowed 154 = .ok (.if_icmp .gt 7, 3) := by decide +kernel
theorem dX0_narrowed_157 : decode cX0_narrowed 157 = .ok (.iconst 1, 1) := by decide +kernel
theorem dX0_narrowed_158 : decode cX0_narrowed 158 = .ok (.goto 4, 3) := by decide +kernel
theorem dX0_narrowed_161 : decode cX0_narrowed 161 = .ok (.iconst 0, 1) := by decide +kernel
theorem dX0_narrowed_162 : decode cX0_narrowed 162 = .ok (.istore 12, 2) := by decide +kernel
theorem dX0_narrowed_164 : decode cX0_narrowed 164 = .ok (.aload_n 0, 1) := by decide +kernel
theorem dX0_narrowed_165 : decode cX0_narrowed 165 = .ok (.iload 11, 2) := by decide +kernel
theorem dX0_narrowed_167 : decode cX0_narrowed 167 = .ok (.ifCond .eq 15, 3) := by decide +kernel
theorem dX0_narrowed_170 : decode cX0_narrowed 170 = .ok (.iload 12, 2) := by decide +kernel
theorem dX0_narrowed_172 : decode cX0_narrowed 172 = .ok (.ifCond .eq 10, 3) := by decide +kernel
theorem dX0_narrowed_175 : decode cX0_narrowed 175 = .ok (.aload_n 0, 1) := by decide +kernel
theorem dX0_narrowed_176 : decode cX0_narrowed 176 = .ok (.getfield 31, 3) := by decide +kernel
theorem dX0_narrowed_179 : decode cX0_narrowed 179 = .ok (.goto 12, 3) := by decide +kernel
theorem dX0_narrowed_182 : decode cX0_narrowed 182 = .ok (.aload_n 0, 1) := by decide +kernel
theorem dX0_narrowed_183 : decode cX0_narrowed 183 = .ok (.getfield 31, 3) := by decide +kernel
theorem dX0_narrowed_186 : decode cX0_narrowed 186 = .ok (.iload 8, 2) := by decide +kernel
theorem dX0_narrowed_188 : decode cX0_narrowed 188 = .ok (.iconst (-1), 1) := by decide +kernel
theorem dX0_narrowed_189 : decode cX0_narrowed 189 = .ok (.ixor, 1) := by decide +kernel
theorem dX0_narrowed_190 : decode cX0_narrowed 190 = .ok (.iand, 1) := by decide +kernel
theorem dX0_narrowed_191 : decode cX0_narrowed 191 = .ok (.putfield 31, 3) := by decide +kernel
theorem dX0_narrowed_194 : decode cX0_narrowed 194 = .ok (.aload_n 0, 1) := by decide +kernel
theorem dX0_narrowed_195 : decode cX0_narrowed 195 = .ok (.iload 12, 2) := by decide +kernel
theorem dX0_narrowed_197 : decode cX0_narrowed 197 = .ok (.ifCond .eq 18, 3) := by decide +kernel
theorem dX0_narrowed_200 : decode cX0_narrowed 200 = .ok (.iload 11, 2) := by decide +kernel
theorem dX0_narrowed_202 : decode cX0_narrowed 202 = .ok (.ifCond .ne 13, 3) := by decide +kernel
theorem dX0_narrowed_205 : decode cX0_narrowed 205 = .ok (.aload_n 0, 1) := by decide +kernel
theorem dX0_narrowed_206 : decode cX0_narrowed 206 = .ok (.getfield 35, 3) := by decide +kernel
theorem dX0_narrowed_209 : decode cX0_narrowed 209 = .ok (.iload 8, 2) := by decide +kernel
theorem dX0_narrowed_211 : decode cX0_narrowed 211 = .ok (.ior, 1) := by decide +kernel
theorem dX0_narrowed_212 : decode cX0_narrowed 212 = .ok (.goto 7, 3) := by decide +kernel
theorem dX0_narrowed_215 : decode cX0_narrowed 215 = .ok (.aload_n 0, 1) := by decide +kernel
theorem dX0_narrowed_216 : decode cX0_narrowed 216 = .ok (.getfield 35, 3) := by decide +kernel
theorem dX0_narrowed_219 : decode cX0_narrowed 219 = .ok (.putfield 35, 3) := by decide +kernel
theorem dX0_narrowed_222 : decode cX0_narrowed 222 = .ok (.iinc 7 1, 3) := by decide +kernel
theorem dX0_narrowed_225 : decode cX0_narrowed 225 = .ok (.goto (-157), 3) := by decide +kernel
theorem dX0_narrowed_228 : decode cX0_narrowed 228 = .ok (.iconst 1, 1) := by decide +kernel
theorem dX0_narrowed_229 : decode cX0_narrowed 229 = .ok (.ireturn, 1) := by decide +kernel
theorem dX0_leastFrom_0 : decode cX0_leastFrom 0 = .ok (.iload_n 0, 1) := by decide +kernel
theorem dX0_leastFrom_1 : decode cX0_leastFrom 1 = .ok (.iload_n 1, 1) := by decide +kernel
theorem dX0_leastFrom_2 : decode cX0_leastFrom 2 = .ok (.ior, 1) := by decide +kernel
theorem dX0_leastFrom_3 : decode cX0_leastFrom 3 = .ok (.iload_n 2, 1) := by decide +kernel
theorem dX0_leastFrom_4 : decode cX0_leastFrom 4 = .ok (.if_icmp .ge 6, 3) := by decide +kernel
theorem dX0_leastFrom_7 : decode cX0_leastFrom 7 = .ok (.bipush 64, 2) := by decide +kernel
theorem dX0_leastFrom_9 : decode cX0_leastFrom 9 = .ok (.ireturn, 1) := by decide +kernel
theorem dX0_leastFrom_10 : decode cX0_leastFrom 10 = .ok (.iload_n 1, 1) := by decide +kernel
theorem dX0_leastFrom_11 : decode cX0_leastFrom 11 = .ok (.istore_n 3, 1) := by decide +kernel
theorem dX0_leastFrom_12 : decode cX0_leastFrom 12 = .ok (.iconst 5, 1) := by decide +kernel
theorem dX0_leastFrom_13 : decode cX0_leastFrom 13 = .ok (.istore 4, 2) := by decide +kernel
theorem dX0_leastFrom_15 : decode cX0_leastFrom 15 = .ok (.iload 4, 2) := by decide +kernel
theorem dX0_leastFrom_17 : decode cX0_leastFrom 17 = .ok (.ifCond .lt 34, 3) := by decide +kernel
theorem dX0_leastFrom_20 : decode cX0_leastFrom 20 = .ok (.iload_n 3, 1) := by decide +kernel
theorem dX0_leastFrom_21 : decode cX0_leastFrom 21 = .ok (.iconst 1, 1) := by decide +kernel
theorem dX0_leastFrom_22 : decode cX0_leastFrom 22 = .ok (.iload 4, 2) := by decide +kernel
theorem dX0_leastFrom_24 : decode cX0_leastFrom 24 = .ok (.ishl, 1) := by decide +kernel
theorem dX0_leastFrom_25 : decode cX0_leastFrom 25 = .ok (.iconst (-1), 1) := by decide +kernel
theorem dX0_leastFrom_26 : decode cX0_leastFrom 26 = .ok (.ixor, 1) := by decide +kernel
theorem dX0_leastFrom_27 : decode cX0_leastFrom 27 = .ok (.iand, 1) := by decide +kernel
theorem dX0_leastFrom_28 : decode cX0_leastFrom 28 = .ok (.istore 5, 2) := by decide +kernel
theorem dX0_leastFrom_30 : decode cX0_leastFrom 30 = .ok (.iload_n 0, 1) := by decide +kernel
theorem dX0_leastFrom_31 : decode cX0_leastFrom 31 = .ok (.iload 5, 2) := by decide +kernel
theorem dX0_leastFrom_33 : decode cX0_leastFrom 33 = .ok (.ior, 1) := by decide +kernel
theorem dX0_leastFrom_34 : decode cX0_leastFrom 34 = .ok (.iload_n 2, 1) := by decide +kernel
theorem dX0_leastFrom_35 : decode cX0_leastFrom 35 = .ok (.if_icmp .lt 8, 3) := by decide +kernel
theorem dX0_leastFrom_38 : decode cX0_leastFrom 38 = .ok (.iload 5, 2) := by decide +kernel
theorem dX0_leastFrom_40 : decode cX0_leastFrom 40 = .ok (.goto 4, 3) := by decide +kernel
theorem dX0_leastFrom_43 : decode cX0_leastFrom 43 = .ok (.iload_n 3, 1) := by decide +kernel
theorem dX0_leastFrom_44 : decode cX0_leastFrom 44 = .ok (.istore_n 3, 1) := by decide +kernel
theorem dX0_leastFrom_45 : decode cX0_leastFrom 45 = .ok (.iinc 4 (-1), 3) := by decide +kernel
theorem dX0_leastFrom_48 : decode cX0_leastFrom 48 = .ok (.goto (-33), 3) := by decide +kernel
theorem dX0_leastFrom_51 : decode cX0_leastFrom 51 = .ok (.iload_n 0, 1) := by decide +kernel
theorem dX0_leastFrom_52 : decode cX0_leastFrom 52 = .ok (.iload_n 3, 1) := by decide +kernel
theorem dX0_leastFrom_53 : decode cX0_leastFrom 53 = .ok (.ior, 1) := by decide +kernel
theorem dX0_leastFrom_54 : decode cX0_leastFrom 54 = .ok (.ireturn, 1) := by decide +kernel
theorem dX0_suppose_0 : decode cX0_suppose 0 = .ok (.iload_n 1, 1) := by decide +kernel
theorem dX0_suppose_1 : decode cX0_suppose 1 = .ok (.invokestatic 16, 3) := by decide +kernel
theorem dX0_suppose_4 : decode cX0_suppose 4 = .ok (.ifCond .eq 24, 3) := by decide +kernel
theorem dX0_suppose_7 : decode cX0_suppose 7 = .ok (.iload_n 3, 1) := by decide +kernel
theorem dX0_suppose_8 : decode cX0_suppose 8 = .ok (.invokestatic 16, 3) := by decide +kernel
theorem dX0_suppose_11 : decode cX0_suppose 11 = .ok (.ifCond .eq 17, 3) := by decide +kernel
theorem dX0_suppose_14 : decode cX0_suppose 14 = .ok (.iload_n 2, 1) := by decide +kernel
theorem dX0_suppose_15 : decode cX0_suppose 15 = .ok (.ifCond .lt 13, 3) := by decide +kernel
theorem dX0_suppose_18 : decode cX0_suppose 18 = .ok (.iload_n 2, 1) := by decide +kernel
theorem dX0_suppose_19 : decode cX0_suppose 19 = .ok (.iconst 5, 1) := by decide +kernel
theorem dX0_suppose_20 : decode cX0_suppose 20 = .ok (.if_icmp .gt 8, 3) := by decide +kernel
theorem dX0_suppose_23 : decode cX0_suppose 23 = .ok (.iload_n 1, 1) := by decide +kernel
theorem dX0_suppose_24 : decode cX0_suppose 24 = .ok (.iload_n 3, 1) := by decide +kernel
theorem dX0_suppose_25 : decode cX0_suppose 25 = .ok (.if_icmp .ne 5, 3) := by decide +kernel
theorem dX0_suppose_28 : decode cX0_suppose 28 = .ok (.iconst (-1), 1) := by decide +kernel
theorem dX0_suppose_29 : decode cX0_suppose 29 = .ok (.ireturn, 1) := by decide +kernel
theorem dX0_suppose_30 : decode cX0_suppose 30 = .ok (.iload_n 2, 1) := by decide +kernel
theorem dX0_suppose_31 : decode cX0_suppose 31 = .ok (.ifCond .ne 46, 3) := by decide +kernel
theorem dX0_suppose_34 : decode cX0_suppose 34 = .ok (.aload_n 0, 1) := by decide +kernel
theorem dX0_suppose_35 : decode cX0_suppose 35 = .ok (.iload_n 1, 1) := by decide +kernel
theorem dX0_suppose_36 : decode cX0_suppose 36 = .ok (.bipush 6, 2) := by decide +kernel
theorem dX0_suppose_38 : decode cX0_suppose 38 = .ok (.iload_n 1, 1) := by decide +kernel
theorem dX0_suppose_39 : decode cX0_suppose 39 = .ok (.iload_n 3, 1) := by decide +kernel
theorem dX0_suppose_40 : decode cX0_suppose 40 = .ok (.invokevirtual 46, 3) := by decide +kernel
theorem dX0_suppose_43 : decode cX0_suppose 43 = .ok (.istore 4, 2) := by decide +kernel
theorem dX0_suppose_45 : decode cX0_suppose 45 = .ok (.iload 4, 2) := by decide +kernel
theorem dX0_suppose_47 : decode cX0_suppose 47 = .ok (.ifCond .ne 27, 3) := by decide +kernel
theorem dX0_suppose_50 : decode cX0_suppose 50 = .ok (.aload_n 0, 1) := by decide +kernel
theorem dX0_suppose_51 : decode cX0_suppose 51 = .ok (.getfield 7, 3) := by decide +kernel
theorem dX0_suppose_54 : decode cX0_suppose 54 = .ok (.iload_n 3, 1) := by decide +kernel
theorem dX0_suppose_55 : decode cX0_suppose 55 = .ok (.aload_n 0, 1) := by decide +kernel
theorem dX0_suppose_56 : decode cX0_suppose 56 = .ok (.getfield 7, 3) := by decide +kernel
theorem dX0_suppose_59 : decode cX0_suppose 59 = .ok (.iload_n 1, 1) := by decide +kernel
theorem dX0_suppose_60 : decode cX0_suppose 60 = .ok (.iaload, 1) := by decide +kernel
theorem dX0_suppose_61 : decode cX0_suppose 61 = .ok (.iastore, 1) := by decide +kernel
theorem dX0_suppose_62 : decode cX0_suppose 62 = .ok (.aload_n 0, 1) := by decide +kernel
theorem dX0_suppose_63 : decode cX0_suppose 63 = .ok (.getfield 13, 3) := by decide +kernel
theorem dX0_suppose_66 : decode cX0_suppose 66 = .ok (.iload_n 3, 1) := by decide +kernel
theorem dX0_suppose_67 : decode cX0_suppose 67 = .ok (.aload_n 0, 1) := by decide +kernel
theorem dX0_suppose_68 : decode cX0_suppose 68 = .ok (.getfield 13, 3) := by decide +kernel
theorem dX0_suppose_71 : decode cX0_suppose 71 = .ok (.iload_n 1, 1) := by decide +kernel
theorem dX0_suppose_72 : decode cX0_suppose 72 = .ok (.iaload, 1) := by decide +kernel
theorem dX0_suppose_73 : decode cX0_suppose 73 = .ok (.iastore, 1) := by decide +kernel
theorem dX0_suppose_74 : decode cX0_suppose 74 = .ok (.iload 4, 2) := by decide +kernel
theorem dX0_suppose_76 : decode cX0_suppose 76 = .ok (.ireturn, 1) := by decide +kernel
theorem dX0_suppose_77 : decode cX0_suppose 77 = .ok (.iload_n 2, 1) := by decide +kernel
theorem dX0_suppose_78 : decode cX0_suppose 78 = .ok (.iconst 1, 1) := by decide +kernel
theorem dX0_suppose_79 : decode cX0_suppose 79 = .ok (.if_icmp .eq 8, 3) := by decide +kernel
theorem dX0_suppose_82 : decode cX0_suppose 82 = .ok (.iload_n 2, 1) := by decide +kernel
theorem dX0_suppose_83 : decode cX0_suppose 83 = .ok (.iconst 2, 1) := by decide +kernel
theorem dX0_suppose_84 : decode cX0_suppose 84 = .ok (.if_icmp .ne 20, 3) := by decide +kernel
theorem dX0_suppose_87 : decode cX0_suppose 87 = .ok (.aload_n 0, 1) := by decide +kernel
theorem dX0_suppose_88 : decode cX0_suppose 88 = .ok (.iload_n 1, 1) := by decide +kernel
theorem dX0_suppose_89 : decode cX0_suppose 89 = .ok (.iload_n 3, 1) := by decide +kernel
theorem dX0_suppose_90 : decode cX0_suppose 90 = .ok (.iload_n 2, 1) := by decide +kernel
theorem dX0_suppose_91 : decode cX0_suppose 91 = .ok (.iconst 1, 1) := by decide +kernel
theorem dX0_suppose_92 : decode cX0_suppose 92 = .ok (.if_icmp .ne 7, 3) := by decide +kernel
theorem dX0_suppose_95 : decode cX0_suppose 95 = .ok (.iconst 1, 1) := by decide +kernel
theorem dX0_suppose_96 : decode cX0_suppose 96 = .ok (.goto 4, 3) := by decide +kernel
theorem dX0_suppose_99 : decode cX0_suppose 99 = .ok (.iconst 0, 1) := by decide +kernel
theorem dX0_suppose_100 : decode cX0_suppose 100 = .ok (.invokevirtual 50, 3) := by decide +kernel
theorem dX0_suppose_103 : decode cX0_suppose 103 = .ok (.ireturn, 1) := by decide +kernel
theorem dX0_suppose_104 : decode cX0_suppose 104 = .ok (.iload_n 2, 1) := by decide +kernel
theorem dX0_suppose_105 : decode cX0_suppose 105 = .ok (.iconst 3, 1) := by decide +kernel
theorem dX0_suppose_106 : decode cX0_suppose 106 = .ok (.if_icmp .ne 10, 3) := by decide +kernel
theorem dX0_suppose_109 : decode cX0_suppose 109 = .ok (.aload_n 0, 1) := by decide +kernel
theorem dX0_suppose_110 : decode cX0_suppose 110 = .ok (.iload_n 1, 1) := by decide +kernel
theorem dX0_suppose_111 : decode cX0_suppose 111 = .ok (.iload_n 3, 1) := by decide +kernel
theorem dX0_suppose_112 : decode cX0_suppose 112 = .ok (.invokevirtual 54, 3) := by decide +kernel
theorem dX0_suppose_115 : decode cX0_suppose 115 = .ok (.ireturn, 1) := by decide +kernel
theorem dX0_suppose_116 : decode cX0_suppose 116 = .ok (.aload_n 0, 1) := by decide +kernel
theorem dX0_suppose_117 : decode cX0_suppose 117 = .ok (.iload_n 3, 1) := by decide +kernel
theorem dX0_suppose_118 : decode cX0_suppose 118 = .ok (.iload_n 1, 1) := by decide +kernel
theorem dX0_suppose_119 : decode cX0_suppose 119 = .ok (.iload_n 2, 1) := by decide +kernel
theorem dX0_suppose_120 : decode cX0_suppose 120 = .ok (.iconst 5, 1) := by decide +kernel
theorem dX0_suppose_121 : decode cX0_suppose 121 = .ok (.if_icmp .ne 7, 3) := by decide +kernel
theorem dX0_suppose_124 : decode cX0_suppose 124 = .ok (.iconst 1, 1) := by decide +kernel
theorem dX0_suppose_125 : decode cX0_suppose 125 = .ok (.goto 4, 3) := by decide +kernel
theorem dX0_suppose_128 : decode cX0_suppose 128 = .ok (.iconst 0, 1) := by decide +kernel
theorem dX0_suppose_129 : decode cX0_suppose 129 = .ok (.invokevirtual 50, 3) := by decide +kernel
theorem dX0_suppose_132 : decode cX0_suppose 132 = .ok (.ireturn, 1) := by decide +kernel
theorem dX0_supposeOrder_0 : decode cX0_supposeOrder 0 = .ok (.aload_n 0, 1) := by decide +kernel
theorem dX0_supposeOrder_1 : decode cX0_supposeOrder 1 = .ok (.iload_n 2, 1) := by decide +kernel
theorem dX0_supposeOrder_2 : decode cX0_supposeOrder 2 = .ok (.invokevirtual 74, 3) := by decide +kernel
theorem dX0_supposeOrder_5 : decode cX0_supposeOrder 5 = .ok (.iload_n 3, 1) := by decide +kernel
theorem dX0_supposeOrder_6 : decode cX0_supposeOrder 6 = .ok (.isub, 1) := by decide +kernel
theorem dX0_supposeOrder_7 : decode cX0_supposeOrder 7 = .ok (.istore 4, 2) := by decide +kernel
theorem dX0_supposeOrder_9 : decode cX0_supposeOrder 9 = .ok (.aload_n 0, 1) := by decide +kernel
theorem dX0_supposeOrder_10 : decode cX0_supposeOrder 10 = .ok (.getfield 7, 3) := by decide +kernel
theorem dX0_supposeOrder_13 : decode cX0_supposeOrder 13 = .ok (.iload_n 1, 1) := by decide +kernel
theorem dX0_supposeOrder_14 : decode cX0_supposeOrder 14 = .ok (.iaload, 1) := by decide +kernel
theorem dX0_supposeOrder_15 : decode cX0_supposeOrder 15 = .ok (.iload_n 3, 1) := by decide +kernel
theorem dX0_supposeOrder_16 : decode cX0_supposeOrder 16 = .ok (.iadd, 1) := by decide +kernel
theorem dX0_supposeOrder_17 : decode cX0_supposeOrder 17 = .ok (.istore 5, 2) := by decide +kernel
theorem dX0_supposeOrder_19 : decode cX0_supposeOrder 19 = .ok (.aload_n 0, 1) := by decide +kernel
theorem dX0_supposeOrder_20 : decode cX0_supposeOrder 20 = .ok (.iload_n 1, 1) := by decide +kernel
theorem dX0_supposeOrder_21 : decode cX0_supposeOrder 21 = .ok (.iconst 0, 1) := by decide +kernel
theorem dX0_supposeOrder_22 : decode cX0_supposeOrder 22 = .ok (.iload 4, 2) := by decide +kernel
theorem dX0_supposeOrder_24 : decode cX0_supposeOrder 24 = .ok (.invokevirtual 42, 3) := by decide +kernel
theorem dX0_supposeOrder_27 : decode cX0_supposeOrder 27 = .ok (.istore 6, 2) := by decide +kernel
theorem dX0_supposeOrder_29 : decode cX0_supposeOrder 29 = .ok (.iload 6, 2) := by decide +kernel
theorem dX0_supposeOrder_31 : decode cX0_supposeOrder 31 = .ok (.ifCond .ne 6, 3) := by decide +kernel
theorem dX0_supposeOrder_34 : decode cX0_supposeOrder 34 = .ok (.bipush (-2), 2) := by decide +kernel
theorem dX0_supposeOrder_36 : decode cX0_supposeOrder 36 = .ok (.ireturn, 1) := by decide +kernel
theorem dX0_supposeOrder_37 : decode cX0_supposeOrder 37 = .ok (.aload_n 0, 1) := by decide +kernel
theorem dX0_supposeOrder_38 : decode cX0_supposeOrder 38 = .ok (.getfield 35, 3) := by decide +kernel
theorem dX0_supposeOrder_41 : decode cX0_supposeOrder 41 = .ok (.istore 7, 2) := by decide +kernel
theorem dX0_supposeOrder_43 : decode cX0_supposeOrder 43 = .ok (.aload_n 0, 1) := by decide +kernel
theorem dX0_supposeOrder_44 : decode cX0_supposeOrder 44 = .ok (.getfield 31, 3) := by decide +kernel
theorem dX0_supposeOrder_47 : decode cX0_supposeOrder 47 = .ok (.istore 8, 2) := by decide +kernel
theorem dX0_supposeOrder_49 : decode cX0_supposeOrder 49 = .ok (.aload_n 0, 1) := by decide +kernel
theorem dX0_supposeOrder_50 : decode cX0_supposeOrder 50 = .ok (.iload_n 2, 1) := by decide +kernel
theorem dX0_supposeOrder_51 : decode cX0_supposeOrder 51 = .ok (.iload 5, 2) := by decide +kernel
theorem dX0_supposeOrder_53 : decode cX0_supposeOrder 53 = .ok (.bipush 63, 2) := by decide +kernel
theorem dX0_supposeOrder_55 : decode cX0_supposeOrder 55 = .ok (.invokevirtual 42, 3) := by decide +kernel
theorem dX0_supposeOrder_58 : decode cX0_supposeOrder 58 = .ok (.pop, 1) := by decide +kernel
theorem dX0_supposeOrder_59 : decode cX0_supposeOrder 59 = .ok (.aload_n 0, 1) := by decide +kernel
theorem dX0_supposeOrder_60 : decode cX0_supposeOrder 60 = .ok (.iload_n 2, 1) := by decide +kernel
theorem dX0_supposeOrder_61 : decode cX0_supposeOrder 61 = .ok (.invokevirtual 38, 3) := by decide +kernel
theorem dX0_supposeOrder_64 : decode cX0_supposeOrder 64 = .ok (.aload_n 0, 1) := by decide +kernel
theorem dX0_supposeOrder_65 : decode cX0_supposeOrder 65 = .ok (.getfield 7, 3) := by decide +kernel
theorem dX0_supposeOrder_68 : decode cX0_supposeOrder 68 = .ok (.iload_n 1, 1) := by decide +kernel
theorem dX0_supposeOrder_69 : decode cX0_supposeOrder 69 = .ok (.iload 7, 2) := by decide +kernel
theorem dX0_supposeOrder_71 : decode cX0_supposeOrder 71 = .ok (.iastore, 1) := by decide +kernel
theorem dX0_supposeOrder_72 : decode cX0_supposeOrder 72 = .ok (.aload_n 0, 1) := by decide +kernel
theorem dX0_supposeOrder_73 : decode cX0_supposeOrder 73 = .ok (.getfield 13, 3) := by decide +kernel
theorem dX0_supposeOrder_76 : decode cX0_supposeOrder 76 = .ok (.iload_n 1, 1) := by decide +kernel
theorem dX0_supposeOrder_77 : decode cX0_supposeOrder 77 = .ok (.iload 8, 2) := by decide +kernel
theorem dX0_supposeOrder_79 : decode cX0_supposeOrder 79 = .ok (.iastore, 1) := by decide +kernel
theorem dX0_supposeOrder_80 : decode cX0_supposeOrder 80 = .ok (.iconst 0, 1) := by decide +kernel
theorem dX0_supposeOrder_81 : decode cX0_supposeOrder 81 = .ok (.ireturn, 1) := by decide +kernel
theorem dX0_greatest_0 : decode cX0_greatest 0 = .ok (.aload_n 0, 1) := by decide +kernel
theorem dX0_greatest_1 : decode cX0_greatest 1 = .ok (.getfield 7, 3) := by decide +kernel
theorem dX0_greatest_4 : decode cX0_greatest 4 = .ok (.iload_n 1, 1) := by decide +kernel
theorem dX0_greatest_5 : decode cX0_greatest 5 = .ok (.iaload, 1) := by decide +kernel
theorem dX0_greatest_6 : decode cX0_greatest 6 = .ok (.aload_n 0, 1) := by decide +kernel
theorem dX0_greatest_7 : decode cX0_greatest 7 = .ok (.getfield 13, 3) := by decide +kernel
theorem dX0_greatest_10 : decode cX0_greatest 10 = .ok (.iload_n 1, 1) := by decide +kernel
theorem dX0_greatest_11 : decode cX0_greatest 11 = .ok (.iaload, 1) := by decide +kernel
theorem dX0_greatest_12 : decode cX0_greatest 12 = .ok (.ior, 1) := by decide +kernel
theorem dX0_greatest_13 : decode cX0_greatest 13 = .ok (.ireturn, 1) := by decide +kernel
theorem dX0_supposeDifferent_0 : decode cX0_supposeDifferent 0 = .ok (.aload_n 0, 1) := by decide +kernel
theorem dX0_supposeDifferent_1 : decode cX0_supposeDifferent 1 = .ok (.getfield 13, 3) := by decide +kernel
theorem dX0_supposeDifferent_4 : decode cX0_supposeDifferent 4 = .ok (.iload_n 1, 1) := by decide +kernel
theorem dX0_supposeDifferent_5 : decode cX0_supposeDifferent 5 = .ok (.iaload, 1) := by decide +kernel
theorem dX0_supposeDifferent_6 : decode cX0_supposeDifferent 6 = .ok (.ifCond .ne 34, 3) := by decide +kernel
theorem dX0_supposeDifferent_9 : decode cX0_supposeDifferent 9 = .ok (.aload_n 0, 1) := by decide +kernel
theorem dX0_supposeDifferent_10 : decode cX0_supposeDifferent 10 = .ok (.getfield 13, 3) := by decide +kernel
theorem dX0_supposeDifferent_13 : decode cX0_supposeDifferent 13 = .ok (.iload_n 2, 1) := by decide +kernel
theorem dX0_supposeDifferent_14 : decode cX0_supposeDifferent 14 = .ok (.iaload, 1) := by decide +kernel
theorem dX0_supposeDifferent_15 : decode cX0_supposeDifferent 15 = .ok (.ifCond .ne 25, 3) := by decide +kernel
theorem dX0_supposeDifferent_18 : decode cX0_supposeDifferent 18 = .ok (.aload_n 0, 1) := by decide +kernel
theorem dX0_supposeDifferent_19 : decode cX0_supposeDifferent 19 = .ok (.getfield 7, 3) := by decide +kernel
theorem dX0_supposeDifferent_22 : decode cX0_supposeDifferent 22 = .ok (.iload_n 1, 1) := by decide +kernel
theorem dX0_supposeDifferent_23 : decode cX0_supposeDifferent 23 = .ok (.iaload, 1) := by decide +kernel
theorem dX0_supposeDifferent_24 : decode cX0_supposeDifferent 24 = .ok (.aload_n 0, 1) := by decide +kernel
theorem dX0_supposeDifferent_25 : decode cX0_supposeDifferent 25 = .ok (.getfield 7, 3) := by decide +kernel
theorem dX0_supposeDifferent_28 : decode cX0_supposeDifferent 28 = .ok (.iload_n 2, 1) := by decide +kernel
theorem dX0_supposeDifferent_29 : decode cX0_supposeDifferent 29 = .ok (.iaload, 1) := by decide +kernel
theorem dX0_supposeDifferent_30 : decode cX0_supposeDifferent 30 = .ok (.if_icmp .ne 8, 3) := by decide +kernel
theorem dX0_supposeDifferent_33 : decode cX0_supposeDifferent 33 = .ok (.bipush (-2), 2) := by decide +kernel
theorem dX0_supposeDifferent_35 : decode cX0_supposeDifferent 35 = .ok (.goto 4, 3) := by decide +kernel
theorem dX0_supposeDifferent_38 : decode cX0_supposeDifferent 38 = .ok (.iconst 0, 1) := by decide +kernel
theorem dX0_supposeDifferent_39 : decode cX0_supposeDifferent 39 = .ok (.ireturn, 1) := by decide +kernel
theorem dX0_supposeDifferent_40 : decode cX0_supposeDifferent 40 = .ok (.aload_n 0, 1) := by decide +kernel
theorem dX0_supposeDifferent_41 : decode cX0_supposeDifferent 41 = .ok (.getfield 13, 3) := by decide +kernel
theorem dX0_supposeDifferent_44 : decode cX0_supposeDifferent 44 = .ok (.iload_n 2, 1) := by decide +kernel
theorem dX0_supposeDifferent_45 : decode cX0_supposeDifferent 45 = .ok (.iaload, 1) := by decide +kernel
theorem dX0_supposeDifferent_46 : decode cX0_supposeDifferent 46 = .ok (.ifCond .ne 17, 3) := by decide +kernel
theorem dX0_supposeDifferent_49 : decode cX0_supposeDifferent 49 = .ok (.aload_n 0, 1) := by decide +kernel
theorem dX0_supposeDifferent_50 : decode cX0_supposeDifferent 50 = .ok (.iload_n 1, 1) := by decide +kernel
theorem dX0_supposeDifferent_51 : decode cX0_supposeDifferent 51 = .ok (.aload_n 0, 1) := by decide +kernel
theorem dX0_supposeDifferent_52 : decode cX0_supposeDifferent 52 = .ok (.getfield 7, 3) := by decide +kernel
end
section
set_option maxRecDepth 100000
theorem dX0_supposeDifferent_55 : decode cX0_supposeDifferent 55 = .ok (.iload_n 2, 1) := by decide +kernel
theorem dX0_supposeDifferent_56 : decode cX0_supposeDifferent 56 = .ok (.iaload, 1) := by decide +kernel
theorem dX0_supposeDifferent_57 : decode cX0_supposeDifferent 57 = .ok (.invokevirtual 77, 3) := by decide +kernel
theorem dX0_supposeDifferent_60 : decode cX0_supposeDifferent 60 = .ok (.goto 23, 3) := by decide +kernel
theorem dX0_supposeDifferent_63 : decode cX0_supposeDifferent 63 = .ok (.aload_n 0, 1) := by decide +kernel
theorem dX0_supposeDifferent_64 : decode cX0_supposeDifferent 64 = .ok (.getfield 13, 3) := by decide +kernel
theorem dX0_supposeDifferent_67 : decode cX0_supposeDifferent 67 = .ok (.iload_n 1, 1) := by decide +kernel
theorem dX0_supposeDifferent_68 : decode cX0_supposeDifferent 68 = .ok (.iaload, 1) := by decide +kernel
theorem dX0_supposeDifferent_69 : decode cX0_supposeDifferent 69 = .ok (.ifCond .ne 14, 3) := by decide +kernel
theorem dX0_supposeDifferent_72 : decode cX0_supposeDifferent 72 = .ok (.aload_n 0, 1) := by decide +kernel
theorem dX0_supposeDifferent_73 : decode cX0_supposeDifferent 73 = .ok (.iload_n 2, 1) := by decide +kernel
theorem dX0_supposeDifferent_74 : decode cX0_supposeDifferent 74 = .ok (.aload_n 0, 1) := by decide +kernel
theorem dX0_supposeDifferent_75 : decode cX0_supposeDifferent 75 = .ok (.getfield 7, 3) := by decide +kernel
theorem dX0_supposeDifferent_78 : decode cX0_supposeDifferent 78 = .ok (.iload_n 1, 1) := by decide +kernel
theorem dX0_supposeDifferent_79 : decode cX0_supposeDifferent 79 = .ok (.iaload, 1) := by decide +kernel
theorem dX0_supposeDifferent_80 : decode cX0_supposeDifferent 80 = .ok (.invokevirtual 77, 3) := by decide +kernel
theorem dX0_supposeDifferent_83 : decode cX0_supposeDifferent 83 = .ok (.iconst 0, 1) := by decide +kernel
theorem dX0_supposeDifferent_84 : decode cX0_supposeDifferent 84 = .ok (.ireturn, 1) := by decide +kernel
theorem dX0_takeOut_0 : decode cX0_takeOut 0 = .ok (.aload_n 0, 1) := by decide +kernel
theorem dX0_takeOut_1 : decode cX0_takeOut 1 = .ok (.getfield 13, 3) := by decide +kernel
theorem dX0_takeOut_4 : decode cX0_takeOut 4 = .ok (.iload_n 1, 1) := by decide +kernel
theorem dX0_takeOut_5 : decode cX0_takeOut 5 = .ok (.iaload, 1) := by decide +kernel
theorem dX0_takeOut_6 : decode cX0_takeOut 6 = .ok (.istore_n 3, 1) := by decide +kernel
theorem dX0_takeOut_7 : decode cX0_takeOut 7 = .ok (.iload_n 3, 1) := by decide +kernel
theorem dX0_takeOut_8 : decode cX0_takeOut 8 = .ok (.iload_n 3, 1) := by decide +kernel
theorem dX0_takeOut_9 : decode cX0_takeOut 9 = .ok (.iconst 1, 1) := by decide +kernel
theorem dX0_takeOut_10 : decode cX0_takeOut 10 = .ok (.isub, 1) := by decide +kernel
theorem dX0_takeOut_11 : decode cX0_takeOut 11 = .ok (.iand, 1) := by decide +kernel
theorem dX0_takeOut_12 : decode cX0_takeOut 12 = .ok (.ifCond .ne 7, 3) := by decide +kernel
theorem dX0_takeOut_15 : decode cX0_takeOut 15 = .ok (.iconst 1, 1) := by decide +kernel
theorem dX0_takeOut_16 : decode cX0_takeOut 16 = .ok (.goto 4, 3) := by decide +kernel
theorem dX0_takeOut_19 : decode cX0_takeOut 19 = .ok (.iconst 0, 1) := by decide +kernel
theorem dX0_takeOut_20 : decode cX0_takeOut 20 = .ok (.istore 4, 2) := by decide +kernel
theorem dX0_takeOut_22 : decode cX0_takeOut 22 = .ok (.iload 4, 2) := by decide +kernel
theorem dX0_takeOut_24 : decode cX0_takeOut 24 = .ok (.ifCond .eq 34, 3) := by decide +kernel
theorem dX0_takeOut_27 : decode cX0_takeOut 27 = .ok (.iload_n 2, 1) := by decide +kernel
theorem dX0_takeOut_28 : decode cX0_takeOut 28 = .ok (.aload_n 0, 1) := by decide +kernel
theorem dX0_takeOut_29 : decode cX0_takeOut 29 = .ok (.getfield 7, 3) := by decide +kernel
theorem dX0_takeOut_32 : decode cX0_takeOut 32 = .ok (.iload_n 1, 1) := by decide +kernel
theorem dX0_takeOut_33 : decode cX0_takeOut 33 = .ok (.iaload, 1) := by decide +kernel
theorem dX0_takeOut_34 : decode cX0_takeOut 34 = .ok (.ixor, 1) := by decide +kernel
theorem dX0_takeOut_35 : decode cX0_takeOut 35 = .ok (.iload_n 3, 1) := by decide +kernel
theorem dX0_takeOut_36 : decode cX0_takeOut 36 = .ok (.iconst (-1), 1) := by decide +kernel
theorem dX0_takeOut_37 : decode cX0_takeOut 37 = .ok (.ixor, 1) := by decide +kernel
theorem dX0_takeOut_38 : decode cX0_takeOut 38 = .ok (.iand, 1) := by decide +kernel
theorem dX0_takeOut_39 : decode cX0_takeOut 39 = .ok (.ifCond .ne 19, 3) := by decide +kernel
theorem dX0_takeOut_42 : decode cX0_takeOut 42 = .ok (.aload_n 0, 1) := by decide +kernel
theorem dX0_takeOut_43 : decode cX0_takeOut 43 = .ok (.getfield 7, 3) := by decide +kernel
theorem dX0_takeOut_46 : decode cX0_takeOut 46 = .ok (.iload_n 1, 1) := by decide +kernel
theorem dX0_takeOut_47 : decode cX0_takeOut 47 = .ok (.iload_n 2, 1) := by decide +kernel
theorem dX0_takeOut_48 : decode cX0_takeOut 48 = .ok (.iload_n 3, 1) := by decide +kernel
theorem dX0_takeOut_49 : decode cX0_takeOut 49 = .ok (.ixor, 1) := by decide +kernel
theorem dX0_takeOut_50 : decode cX0_takeOut 50 = .ok (.iastore, 1) := by decide +kernel
theorem dX0_takeOut_51 : decode cX0_takeOut 51 = .ok (.aload_n 0, 1) := by decide +kernel
theorem dX0_takeOut_52 : decode cX0_takeOut 52 = .ok (.getfield 13, 3) := by decide +kernel
theorem dX0_takeOut_55 : decode cX0_takeOut 55 = .ok (.iload_n 1, 1) := by decide +kernel
theorem dX0_takeOut_56 : decode cX0_takeOut 56 = .ok (.iconst 0, 1) := by decide +kernel
theorem dX0_takeOut_57 : decode cX0_takeOut 57 = .ok (.iastore, 1) := by decide +kernel
theorem dX0_takeOut_58 : decode cX0_takeOut 58 = .ok (.return_, 1) := by decide +kernel
theorem dX0_compare_0 : decode cX0_compare 0 = .ok (.iload_n 1, 1) := by decide +kernel
theorem dX0_compare_1 : decode cX0_compare 1 = .ok (.invokestatic 16, 3) := by decide +kernel
theorem dX0_compare_4 : decode cX0_compare 4 = .ok (.ifCond .eq 19, 3) := by decide +kernel
theorem dX0_compare_7 : decode cX0_compare 7 = .ok (.iload_n 3, 1) := by decide +kernel
theorem dX0_compare_8 : decode cX0_compare 8 = .ok (.invokestatic 16, 3) := by decide +kernel
theorem dX0_compare_11 : decode cX0_compare 11 = .ok (.ifCond .eq 12, 3) := by decide +kernel
theorem dX0_compare_14 : decode cX0_compare 14 = .ok (.iload_n 2, 1) := by decide +kernel
theorem dX0_compare_15 : decode cX0_compare 15 = .ok (.ifCond .lt 8, 3) := by decide +kernel
theorem dX0_compare_18 : decode cX0_compare 18 = .ok (.iload_n 2, 1) := by decide +kernel
theorem dX0_compare_19 : decode cX0_compare 19 = .ok (.iconst 5, 1) := by decide +kernel
theorem dX0_compare_20 : decode cX0_compare 20 = .ok (.if_icmp .le 5, 3) := by decide +kernel
theorem dX0_compare_23 : decode cX0_compare 23 = .ok (.iconst (-1), 1) := by decide +kernel
theorem dX0_compare_24 : decode cX0_compare 24 = .ok (.ireturn, 1) := by decide +kernel
theorem dX0_compare_25 : decode cX0_compare 25 = .ok (.iload_n 2, 1) := by decide +kernel
theorem dX0_compare_26 : decode cX0_compare 26 = .ok (.ifCond .eq 8, 3) := by decide +kernel
theorem dX0_compare_29 : decode cX0_compare 29 = .ok (.iload_n 2, 1) := by decide +kernel
theorem dX0_compare_30 : decode cX0_compare 30 = .ok (.iconst 3, 1) := by decide +kernel
theorem dX0_compare_31 : decode cX0_compare 31 = .ok (.if_icmp .ne 31, 3) := by decide +kernel
theorem dX0_compare_34 : decode cX0_compare 34 = .ok (.aload_n 0, 1) := by decide +kernel
theorem dX0_compare_35 : decode cX0_compare 35 = .ok (.iload_n 1, 1) := by decide +kernel
theorem dX0_compare_36 : decode cX0_compare 36 = .ok (.iload_n 3, 1) := by decide +kernel
theorem dX0_compare_37 : decode cX0_compare 37 = .ok (.invokevirtual 58, 3) := by decide +kernel
theorem dX0_compare_40 : decode cX0_compare 40 = .ok (.istore 4, 2) := by decide +kernel
theorem dX0_compare_42 : decode cX0_compare 42 = .ok (.iload_n 2, 1) := by decide +kernel
theorem dX0_compare_43 : decode cX0_compare 43 = .ok (.ifCond .eq 9, 3) := by decide +kernel
theorem dX0_compare_46 : decode cX0_compare 46 = .ok (.iload 4, 2) := by decide +kernel
theorem dX0_compare_48 : decode cX0_compare 48 = .ok (.iconst 2, 1) := by decide +kernel
theorem dX0_compare_49 : decode cX0_compare 49 = .ok (.if_icmp .ne 8, 3) := by decide +kernel
theorem dX0_compare_52 : decode cX0_compare 52 = .ok (.iload 4, 2) := by decide +kernel
theorem dX0_compare_54 : decode cX0_compare 54 = .ok (.goto 7, 3) := by decide +kernel
theorem dX0_compare_57 : decode cX0_compare 57 = .ok (.iconst 1, 1) := by decide +kernel
theorem dX0_compare_58 : decode cX0_compare 58 = .ok (.iload 4, 2) := by decide +kernel
theorem dX0_compare_60 : decode cX0_compare 60 = .ok (.isub, 1) := by decide +kernel
theorem dX0_compare_61 : decode cX0_compare 61 = .ok (.ireturn, 1) := by decide +kernel
theorem dX0_compare_62 : decode cX0_compare 62 = .ok (.iload_n 2, 1) := by decide +kernel
theorem dX0_compare_63 : decode cX0_compare 63 = .ok (.iconst 1, 1) := by decide +kernel
theorem dX0_compare_64 : decode cX0_compare 64 = .ok (.if_icmp .eq 8, 3) := by decide +kernel
theorem dX0_compare_67 : decode cX0_compare 67 = .ok (.iload_n 2, 1) := by decide +kernel
theorem dX0_compare_68 : decode cX0_compare 68 = .ok (.iconst 4, 1) := by decide +kernel
theorem dX0_compare_69 : decode cX0_compare 69 = .ok (.if_icmp .ne 32, 3) := by decide +kernel
theorem dX0_compare_72 : decode cX0_compare 72 = .ok (.aload_n 0, 1) := by decide +kernel
theorem dX0_compare_73 : decode cX0_compare 73 = .ok (.iload_n 1, 1) := by decide +kernel
theorem dX0_compare_74 : decode cX0_compare 74 = .ok (.iload_n 3, 1) := by decide +kernel
theorem dX0_compare_75 : decode cX0_compare 75 = .ok (.invokevirtual 61, 3) := by decide +kernel
theorem dX0_compare_78 : decode cX0_compare 78 = .ok (.istore 4, 2) := by decide +kernel
theorem dX0_compare_80 : decode cX0_compare 80 = .ok (.iload_n 2, 1) := by decide +kernel
theorem dX0_compare_81 : decode cX0_compare 81 = .ok (.iconst 1, 1) := by decide +kernel
theorem dX0_compare_82 : decode cX0_compare 82 = .ok (.if_icmp .eq 9, 3) := by decide +kernel
theorem dX0_compare_85 : decode cX0_compare 85 = .ok (.iload 4, 2) := by decide +kernel
theorem dX0_compare_87 : decode cX0_compare 87 = .ok (.iconst 2, 1) := by decide +kernel
theorem dX0_compare_88 : decode cX0_compare 88 = .ok (.if_icmp .ne 8, 3) := by decide +kernel
theorem dX0_compare_91 : decode cX0_compare 91 = .ok (.iload 4, 2) := by decide +kernel
theorem dX0_compare_93 : decode cX0_compare 93 = .ok (.goto 7, 3) := by decide +kernel
theorem dX0_compare_96 : decode cX0_compare 96 = .ok (.iconst 1, 1) := by decide +kernel
theorem dX0_compare_97 : decode cX0_compare 97 = .ok (.iload 4, 2) := by decide +kernel
theorem dX0_compare_99 : decode cX0_compare 99 = .ok (.isub, 1) := by decide +kernel
theorem dX0_compare_100 : decode cX0_compare 100 = .ok (.ireturn, 1) := by decide +kernel
theorem dX0_compare_101 : decode cX0_compare 101 = .ok (.aload_n 0, 1) := by decide +kernel
theorem dX0_compare_102 : decode cX0_compare 102 = .ok (.iload_n 3, 1) := by decide +kernel
theorem dX0_compare_103 : decode cX0_compare 103 = .ok (.iload_n 1, 1) := by decide +kernel
theorem dX0_compare_104 : decode cX0_compare 104 = .ok (.invokevirtual 61, 3) := by decide +kernel
theorem dX0_compare_107 : decode cX0_compare 107 = .ok (.istore 4, 2) := by decide +kernel
theorem dX0_compare_109 : decode cX0_compare 109 = .ok (.iload_n 2, 1) := by decide +kernel
theorem dX0_compare_110 : decode cX0_compare 110 = .ok (.iconst 5, 1) := by decide +kernel
theorem dX0_compare_111 : decode cX0_compare 111 = .ok (.if_icmp .eq 9, 3) := by decide +kernel
theorem dX0_compare_114 : decode cX0_compare 114 = .ok (.iload 4, 2) := by decide +kernel
theorem dX0_compare_116 : decode cX0_compare 116 = .ok (.iconst 2, 1) := by decide +kernel
theorem dX0_compare_117 : decode cX0_compare 117 = .ok (.if_icmp .ne 8, 3) := by decide +kernel
theorem dX0_compare_120 : decode cX0_compare 120 = .ok (.iload 4, 2) := by decide +kernel
theorem dX0_compare_122 : decode cX0_compare 122 = .ok (.goto 7, 3) := by decide +kernel
theorem dX0_compare_125 : decode cX0_compare 125 = .ok (.iconst 1, 1) := by decide +kernel
theorem dX0_compare_126 : decode cX0_compare 126 = .ok (.iload 4, 2) := by decide +kernel
theorem dX0_compare_128 : decode cX0_compare 128 = .ok (.isub, 1) := by decide +kernel
theorem dX0_compare_129 : decode cX0_compare 129 = .ok (.ireturn, 1) := by decide +kernel
theorem dX0_compareEqual_0 : decode cX0_compareEqual 0 = .ok (.aload_n 0, 1) := by decide +kernel
theorem dX0_compareEqual_1 : decode cX0_compareEqual 1 = .ok (.getfield 7, 3) := by decide +kernel
theorem dX0_compareEqual_4 : decode cX0_compareEqual 4 = .ok (.iload_n 1, 1) := by decide +kernel
theorem dX0_compareEqual_5 : decode cX0_compareEqual 5 = .ok (.iaload, 1) := by decide +kernel
theorem dX0_compareEqual_6 : decode cX0_compareEqual 6 = .ok (.aload_n 0, 1) := by decide +kernel
theorem dX0_compareEqual_7 : decode cX0_compareEqual 7 = .ok (.getfield 7, 3) := by decide +kernel
theorem dX0_compareEqual_10 : decode cX0_compareEqual 10 = .ok (.iload_n 2, 1) := by decide +kernel
theorem dX0_compareEqual_11 : decode cX0_compareEqual 11 = .ok (.iaload, 1) := by decide +kernel
theorem dX0_compareEqual_12 : decode cX0_compareEqual 12 = .ok (.ixor, 1) := by decide +kernel
theorem dX0_compareEqual_13 : decode cX0_compareEqual 13 = .ok (.aload_n 0, 1) := by decide +kernel
theorem dX0_compareEqual_14 : decode cX0_compareEqual 14 = .ok (.getfield 13, 3) := by decide +kernel
theorem dX0_compareEqual_17 : decode cX0_compareEqual 17 = .ok (.iload_n 1, 1) := by decide +kernel
theorem dX0_compareEqual_18 : decode cX0_compareEqual 18 = .ok (.iaload, 1) := by decide +kernel
theorem dX0_compareEqual_19 : decode cX0_compareEqual 19 = .ok (.iconst (-1), 1) := by decide +kernel
theorem dX0_compareEqual_20 : decode cX0_compareEqual 20 = .ok (.ixor, 1) := by decide +kernel
theorem dX0_compareEqual_21 : decode cX0_compareEqual 21 = .ok (.iand, 1) := by decide +kernel
theorem dX0_compareEqual_22 : decode cX0_compareEqual 22 = .ok (.aload_n 0, 1) := by decide +kernel
theorem dX0_compareEqual_23 : decode cX0_compareEqual 23 = .ok (.getfield 13, 3) := by decide +kernel
theorem dX0_compareEqual_26 : decode cX0_compareEqual 26 = .ok (.iload_n 2, 1) := by decide +kernel
theorem dX0_compareEqual_27 : decode cX0_compareEqual 27 = .ok (.iaload, 1) := by decide +kernel
theorem dX0_compareEqual_28 : decode cX0_compareEqual 28 = .ok (.iconst (-1), 1) := by decide +kernel
theorem dX0_compareEqual_29 : decode cX0_compareEqual 29 = .ok (.ixor, 1) := by decide +kernel
theorem dX0_compareEqual_30 : decode cX0_compareEqual 30 = .ok (.iand, 1) := by decide +kernel
theorem dX0_compareEqual_31 : decode cX0_compareEqual 31 = .ok (.ifCond .eq 5, 3) := by decide +kernel
theorem dX0_compareEqual_34 : decode cX0_compareEqual 34 = .ok (.iconst 0, 1) := by decide +kernel
theorem dX0_compareEqual_35 : decode cX0_compareEqual 35 = .ok (.ireturn, 1) := by decide +kernel
theorem dX0_compareEqual_36 : decode cX0_compareEqual 36 = .ok (.aload_n 0, 1) := by decide +kernel
theorem dX0_compareEqual_37 : decode cX0_compareEqual 37 = .ok (.getfield 13, 3) := by decide +kernel
theorem dX0_compareEqual_40 : decode cX0_compareEqual 40 = .ok (.iload_n 1, 1) := by decide +kernel
theorem dX0_compareEqual_41 : decode cX0_compareEqual 41 = .ok (.iaload, 1) := by decide +kernel
theorem dX0_compareEqual_42 : decode cX0_compareEqual 42 = .ok (.ifCond .ne 16, 3) := by decide +kernel
theorem dX0_compareEqual_45 : decode cX0_compareEqual 45 = .ok (.aload_n 0, 1) := by decide +kernel
theorem dX0_compareEqual_46 : decode cX0_compareEqual 46 = .ok (.getfield 13, 3) := by decide +kernel
theorem dX0_compareEqual_49 : decode cX0_compareEqual 49 = .ok (.iload_n 2, 1) := by decide +kernel
theorem dX0_compareEqual_50 : decode cX0_compareEqual 50 = .ok (.iaload, 1) := by decide +kernel
theorem dX0_compareEqual_51 : decode cX0_compareEqual 51 = .ok (.ifCond .ne 7, 3) := by decide +kernel
theorem dX0_compareEqual_54 : decode cX0_compareEqual 54 = .ok (.iconst 1, 1) := by decide +kernel
theorem dX0_compareEqual_55 : decode cX0_compareEqual 55 = .ok (.goto 4, 3) := by decide +kernel
theorem dX0_compareEqual_58 : decode cX0_compareEqual 58 = .ok (.iconst 2, 1) := by decide +kernel
theorem dX0_compareEqual_59 : decode cX0_compareEqual 59 = .ok (.ireturn, 1) := by decide +kernel
theorem dX0_compareLess_0 : decode cX0_compareLess 0 = .ok (.aload_n 0, 1) := by decide +kernel
theorem dX0_compareLess_1 : decode cX0_compareLess 1 = .ok (.iload_n 1, 1) := by decide +kernel
theorem dX0_compareLess_2 : decode cX0_compareLess 2 = .ok (.invokevirtual 74, 3) := by decide +kernel
theorem dX0_compareLess_5 : decode cX0_compareLess 5 = .ok (.aload_n 0, 1) := by decide +kernel
theorem dX0_compareLess_6 : decode cX0_compareLess 6 = .ok (.getfield 7, 3) := by decide +kernel
theorem dX0_compareLess_9 : decode cX0_compareLess 9 = .ok (.iload_n 2, 1) := by decide +kernel
theorem dX0_compareLess_10 : decode cX0_compareLess 10 = .ok (.iaload, 1) := by decide +kernel
theorem dX0_compareLess_11 : decode cX0_compareLess 11 = .ok (.if_icmp .ge 5, 3) := by decide +kernel
theorem dX0_compareLess_14 : decode cX0_compareLess 14 = .ok (.iconst 1, 1) := by decide +kernel
theorem dX0_compareLess_15 : decode cX0_compareLess 15 = .ok (.ireturn, 1) := by decide +kernel
theorem dX0_compareLess_16 : decode cX0_compareLess 16 = .ok (.aload_n 0, 1) := by decide +kernel
theorem dX0_compareLess_17 : decode cX0_compareLess 17 = .ok (.getfield 7, 3) := by decide +kernel
theorem dX0_compareLess_20 : decode cX0_compareLess 20 = .ok (.iload_n 1, 1) := by decide +kernel
theorem dX0_compareLess_21 : decode cX0_compareLess 21 = .ok (.iaload, 1) := by decide +kernel
theorem dX0_compareLess_22 : decode cX0_compareLess 22 = .ok (.aload_n 0, 1) := by decide +kernel
theorem dX0_compareLess_23 : decode cX0_compareLess 23 = .ok (.iload_n 2, 1) := by decide +kernel
theorem dX0_compareLess_24 : decode cX0_compareLess 24 = .ok (.invokevirtual 74, 3) := by decide +kernel
theorem dX0_compareLess_27 : decode cX0_compareLess 27 = .ok (.if_icmp .lt 7, 3) := by decide +kernel
theorem dX0_compareLess_30 : decode cX0_compareLess 30 = .ok (.iconst 0, 1) := by decide +kernel
theorem dX0_compareLess_31 : decode cX0_compareLess 31 = .ok (.goto 4, 3) := by decide +kernel
theorem dX0_compareLess_34 : decode cX0_compareLess 34 = .ok (.iconst 2, 1) := by decide +kernel
theorem dX0_compareLess_35 : decode cX0_compareLess 35 = .ok (.ireturn, 1) := by decide +kernel
theorem dX0_value_0 : decode cX0_value 0 = .ok (.iload_n 1, 1) := by decide +kernel
theorem dX0_value_1 : decode cX0_value 1 = .ok (.invokestatic 16, 3) := by decide +kernel
theorem dX0_value_4 : decode cX0_value 4 = .ok (.ifCond .eq 12, 3) := by decide +kernel
theorem dX0_value_7 : decode cX0_value 7 = .ok (.aload_n 0, 1) := by decide +kernel
theorem dX0_value_8 : decode cX0_value 8 = .ok (.getfield 7, 3) := by decide +kernel
theorem dX0_value_11 : decode cX0_value 11 = .ok (.iload_n 1, 1) := by decide +kernel
theorem dX0_value_12 : decode cX0_value 12 = .ok (.iaload, 1) := by decide +kernel
theorem dX0_value_13 : decode cX0_value 13 = .ok (.goto 4, 3) := by decide +kernel
theorem dX0_value_16 : decode cX0_value 16 = .ok (.iconst (-1), 1) := by decide +kernel
theorem dX0_value_17 : decode cX0_value 17 = .ok (.ireturn, 1) := by decide +kernel
theorem dX0_mask_0 : decode cX0_mask 0 = .ok (.iload_n 1, 1) := by decide +kernel
theorem dX0_mask_1 : decode cX0_mask 1 = .ok (.invokestatic 16, 3) := by decide +kernel
theorem dX0_mask_4 : decode cX0_mask 4 = .ok (.ifCond .eq 12, 3) := by decide +kernel
theorem dX0_mask_7 : decode cX0_mask 7 = .ok (.aload_n 0, 1) := by decide +kernel
theorem dX0_mask_8 : decode cX0_mask 8 = .ok (.getfield 13, 3) := by decide +kernel
theorem dX0_mask_11 : decode cX0_mask 11 = .ok (.iload_n 1, 1) := by decide +kernel
theorem dX0_mask_12 : decode cX0_mask 12 = .ok (.iaload, 1) := by decide +kernel
theorem dX0_mask_13 : decode cX0_mask 13 = .ok (.goto 4, 3) := by decide +kernel
theorem dX0_mask_16 : decode cX0_mask 16 = .ok (.iconst (-1), 1) := by decide +kernel
theorem dX0_mask_17 : decode cX0_mask 17 = .ok (.ireturn, 1) := by decide +kernel
theorem dX0_least_0 : decode cX0_least 0 = .ok (.iload_n 1, 1) := by decide +kernel
theorem dX0_least_1 : decode cX0_least 1 = .ok (.invokestatic 16, 3) := by decide +kernel
theorem dX0_least_4 : decode cX0_least 4 = .ok (.ifCond .eq 22, 3) := by decide +kernel
theorem dX0_least_7 : decode cX0_least 7 = .ok (.aload_n 0, 1) := by decide +kernel
theorem dX0_least_8 : decode cX0_least 8 = .ok (.getfield 7, 3) := by decide +kernel
theorem dX0_least_11 : decode cX0_least 11 = .ok (.iload_n 1, 1) := by decide +kernel
theorem dX0_least_12 : decode cX0_least 12 = .ok (.iaload, 1) := by decide +kernel
theorem dX0_least_13 : decode cX0_least 13 = .ok (.aload_n 0, 1) := by decide +kernel
theorem dX0_least_14 : decode cX0_least 14 = .ok (.getfield 13, 3) := by decide +kernel
theorem dX0_least_17 : decode cX0_least 17 = .ok (.iload_n 1, 1) := by decide +kernel
theorem dX0_least_18 : decode cX0_least 18 = .ok (.iaload, 1) := by decide +kernel
theorem dX0_least_19 : decode cX0_least 19 = .ok (.iload_n 2, 1) := by decide +kernel
theorem dX0_least_20 : decode cX0_least 20 = .ok (.invokestatic 64, 3) := by decide +kernel
theorem dX0_least_23 : decode cX0_least 23 = .ok (.goto 4, 3) := by decide +kernel
theorem dX0_least_26 : decode cX0_least 26 = .ok (.iconst (-1), 1) := by decide +kernel
theorem dX0_least_27 : decode cX0_least 27 = .ok (.ireturn, 1) := by decide +kernel
theorem dX0_count_0 : decode cX0_count 0 = .ok (.iload_n 1, 1) := by decide +kernel
theorem dX0_count_1 : decode cX0_count 1 = .ok (.invokestatic 16, 3) := by decide +kernel
theorem dX0_count_4 : decode cX0_count 4 = .ok (.ifCond .ne 5, 3) := by decide +kernel
theorem dX0_count_7 : decode cX0_count 7 = .ok (.iconst (-1), 1) := by decide +kernel
theorem dX0_count_8 : decode cX0_count 8 = .ok (.ireturn, 1) := by decide +kernel
theorem dX0_count_9 : decode cX0_count 9 = .ok (.iload_n 2, 1) := by decide +kernel
theorem dX0_count_10 : decode cX0_count 10 = .ok (.iload_n 3, 1) := by decide +kernel
theorem dX0_count_11 : decode cX0_count 11 = .ok (.if_icmp .le 5, 3) := by decide +kernel
theorem dX0_count_14 : decode cX0_count 14 = .ok (.iconst 0, 1) := by decide +kernel
theorem dX0_count_15 : decode cX0_count 15 = .ok (.ireturn, 1) := by decide +kernel
theorem dX0_count_16 : decode cX0_count 16 = .ok (.aload_n 0, 1) := by decide +kernel
theorem dX0_count_17 : decode cX0_count 17 = .ok (.iload_n 1, 1) := by decide +kernel
theorem dX0_count_18 : decode cX0_count 18 = .ok (.iload_n 3, 1) := by decide +kernel
theorem dX0_count_19 : decode cX0_count 19 = .ok (.invokevirtual 67, 3) := by decide +kernel
theorem dX0_count_22 : decode cX0_count 22 = .ok (.istore 4, 2) := by decide +kernel
theorem dX0_count_24 : decode cX0_count 24 = .ok (.iload_n 2, 1) := by decide +kernel
theorem dX0_count_25 : decode cX0_count 25 = .ok (.ifCond .gt 8, 3) := by decide +kernel
theorem dX0_count_28 : decode cX0_count 28 = .ok (.iload 4, 2) := by decide +kernel
theorem dX0_count_30 : decode cX0_count 30 = .ok (.goto 14, 3) := by decide +kernel
theorem dX0_count_33 : decode cX0_count 33 = .ok (.iload 4, 2) := by decide +kernel
theorem dX0_count_35 : decode cX0_count 35 = .ok (.aload_n 0, 1) := by decide +kernel
theorem dX0_count_36 : decode cX0_count 36 = .ok (.iload_n 1, 1) := by decide +kernel
theorem dX0_count_37 : decode cX0_count 37 = .ok (.iload_n 2, 1) := by decide +kernel
theorem dX0_count_38 : decode cX0_count 38 = .ok (.iconst 1, 1) := by decide +kernel
theorem dX0_count_39 : decode cX0_count 39 = .ok (.isub, 1) := by decide +kernel
theorem dX0_count_40 : decode cX0_count 40 = .ok (.invokevirtual 67, 3) := by decide +kernel
theorem dX0_count_43 : decode cX0_count 43 = .ok (.isub, 1) := by decide +kernel
theorem dX0_count_44 : decode cX0_count 44 = .ok (.ireturn, 1) := by decide +kernel
theorem dX0_rank_0 : decode cX0_rank 0 = .ok (.iload_n 2, 1) := by decide +kernel
theorem dX0_rank_1 : decode cX0_rank 1 = .ok (.ifCond .ge 5, 3) := by decide +kernel
theorem dX0_rank_4 : decode cX0_rank 4 = .ok (.iconst 0, 1) := by decide +kernel
theorem dX0_rank_5 : decode cX0_rank 5 = .ok (.ireturn, 1) := by decide +kernel
theorem dX0_rank_6 : decode cX0_rank 6 = .ok (.iload_n 2, 1) := by decide +kernel
theorem dX0_rank_7 : decode cX0_rank 7 = .ok (.bipush 63, 2) := by decide +kernel
theorem dX0_rank_9 : decode cX0_rank 9 = .ok (.if_icmp .le 15, 3) := by decide +kernel
theorem dX0_rank_12 : decode cX0_rank 12 = .ok (.iconst 1, 1) := by decide +kernel
theorem dX0_rank_13 : decode cX0_rank 13 = .ok (.aload_n 0, 1) := by decide +kernel
theorem dX0_rank_14 : decode cX0_rank 14 = .ok (.getfield 13, 3) := by decide +kernel
theorem dX0_rank_17 : decode cX0_rank 17 = .ok (.iload_n 1, 1) := by decide +kernel
theorem dX0_rank_18 : decode cX0_rank 18 = .ok (.iaload, 1) := by decide +kernel
theorem dX0_rank_19 : decode cX0_rank 19 = .ok (.invokestatic 70, 3) := by decide +kernel
theorem dX0_rank_22 : decode cX0_rank 22 = .ok (.ishl, 1) := by decide +kernel
theorem dX0_rank_23 : decode cX0_rank 23 = .ok (.ireturn, 1) := by decide +kernel
theorem dX0_rank_24 : decode cX0_rank 24 = .ok (.iconst 0, 1) := by decide +kernel
theorem dX0_rank_25 : decode cX0_rank 25 = .ok (.istore_n 3, 1) := by decide +kernel
theorem dX0_rank_26 : decode cX0_rank 26 = .ok (.iconst 5, 1) := by decide +kernel
theorem dX0_rank_27 : decode cX0_rank 27 = .ok (.istore 4, 2) := by decide +kernel
theorem dX0_rank_29 : decode cX0_rank 29 = .ok (.iload 4, 2) := by decide +kernel
theorem dX0_rank_31 : decode cX0_rank 31 = .ok (.ifCond .lt 114, 3) := by decide +kernel
theorem dX0_rank_34 : decode cX0_rank 34 = .ok (.iconst 1, 1) := by decide +kernel
theorem dX0_rank_35 : decode cX0_rank 35 = .ok (.aload_n 0, 1) := by decide +kernel
theorem dX0_rank_36 : decode cX0_rank 36 = .ok (.getfield 13, 3) := by decide +kernel
theorem dX0_rank_39 : decode cX0_rank 39 = .ok (.iload_n 1, 1) := by decide +kernel
theorem dX0_rank_40 : decode cX0_rank 40 = .ok (.iaload, 1) := by decide +kernel
theorem dX0_rank_41 : decode cX0_rank 41 = .ok (.iconst 1, 1) := by decide +kernel
theorem dX0_rank_42 : decode cX0_rank 42 = .ok (.iload 4, 2) := by decide +kernel
theorem dX0_rank_44 : decode cX0_rank 44 = .ok (.ishl, 1) := by decide +kernel
theorem dX0_rank_45 : decode cX0_rank 45 = .ok (.iconst 1, 1) := by decide +kernel
theorem dX0_rank_46 : decode cX0_rank 46 = .ok (.isub, 1) := by decide +kernel
theorem dX0_rank_47 : decode cX0_rank 47 = .ok (.iand, 1) := by decide +kernel
theorem dX0_rank_48 : decode cX0_rank 48 = .ok (.invokestatic 70, 3) := by decide +kernel
theorem dX0_rank_51 : decode cX0_rank 51 = .ok (.ishl, 1) := by decide +kernel
theorem dX0_rank_52 : decode cX0_rank 52 = .ok (.istore 5, 2) := by decide +kernel
theorem dX0_rank_54 : decode cX0_rank 54 = .ok (.iload_n 2, 1) := by decide +kernel
theorem dX0_rank_55 : decode cX0_rank 55 = .ok (.iload 4, 2) := by decide +kernel
theorem dX0_rank_57 : decode cX0_rank 57 = .ok (.ishr, 1) := by decide +kernel
theorem dX0_rank_58 : decode cX0_rank 58 = .ok (.iconst 1, 1) := by decide +kernel
theorem dX0_rank_59 : decode cX0_rank 59 = .ok (.iand, 1) := by decide +kernel
theorem dX0_rank_60 : decode cX0_rank 60 = .ok (.ifCond .eq 7, 3) := by decide +kernel
theorem dX0_rank_63 : decode cX0_rank 63 = .ok (.iconst 1, 1) := by decide +kernel
theorem dX0_rank_64 : decode cX0_rank 64 = .ok (.goto 4, 3) := by decide +kernel
theorem dX0_rank_67 : decode cX0_rank 67 = .ok (.iconst 0, 1) := by decide +kernel
theorem dX0_rank_68 : decode cX0_rank 68 = .ok (.istore 6, 2) := by decide +kernel
theorem dX0_rank_70 : decode cX0_rank 70 = .ok (.aload_n 0, 1) := by decide +kernel
theorem dX0_rank_71 : decode cX0_rank 71 = .ok (.getfield 13, 3) := by decide +kernel
theorem dX0_rank_74 : decode cX0_rank 74 = .ok (.iload_n 1, 1) := by decide +kernel
theorem dX0_rank_75 : decode cX0_rank 75 = .ok (.iaload, 1) := by decide +kernel
theorem dX0_rank_76 : decode cX0_rank 76 = .ok (.iload 4, 2) := by decide +kernel
theorem dX0_rank_78 : decode cX0_rank 78 = .ok (.ishr, 1) := by decide +kernel
theorem dX0_rank_79 : decode cX0_rank 79 = .ok (.iconst 1, 1) := by decide +kernel
theorem dX0_rank_80 : decode cX0_rank 80 = .ok (.iand, 1) := by decide +kernel
theorem dX0_rank_81 : decode cX0_rank 81 = .ok (.ifCond .eq 20, 3) := by decide +kernel
theorem dX0_rank_84 : decode cX0_rank 84 = .ok (.iload_n 3, 1) := by decide +kernel
theorem dX0_rank_85 : decode cX0_rank 85 = .ok (.iload 6, 2) := by decide +kernel
theorem dX0_rank_87 : decode cX0_rank 87 = .ok (.ifCond .eq 8, 3) := by decide +kernel
theorem dX0_rank_90 : decode cX0_rank 90 = .ok (.iload 5, 2) := by decide +kernel
theorem dX0_rank_92 : decode cX0_rank 92 = .ok (.goto 4, 3) := by decide +kernel
theorem dX0_rank_95 : decode cX0_rank 95 = .ok (.iconst 0, 1) := by decide +kernel
theorem dX0_rank_96 : decode cX0_rank 96 = .ok (.iadd, 1) := by decide +kernel
theorem dX0_rank_97 : decode cX0_rank 97 = .ok (.istore_n 3, 1) := by decide +kernel
theorem dX0_rank_98 : decode cX0_rank 98 = .ok (.goto 41, 3) := by decide +kernel
theorem dX0_rank_101 : decode cX0_rank 101 = .ok (.aload_n 0, 1) := by decide +kernel
theorem dX0_rank_102 : decode cX0_rank 102 = .ok (.getfield 7, 3) := by decide +kernel
theorem dX0_rank_105 : decode cX0_rank 105 = .ok (.iload_n 1, 1) := by decide +kernel
theorem dX0_rank_106 : decode cX0_rank 106 = .ok (.iaload, 1) := by decide +kernel
theorem dX0_rank_107 : decode cX0_rank 107 = .ok (.iload 4, 2) := by decide +kernel
theorem dX0_rank_109 : decode cX0_rank 109 = .ok (.ishr, 1) := by decide +kernel
theorem dX0_rank_110 : decode cX0_rank 110 = .ok (.iconst 1, 1) := by decide +kernel
theorem dX0_rank_111 : decode cX0_rank 111 = .ok (.iand, 1) := by decide +kernel
theorem dX0_rank_112 : decode cX0_rank 112 = .ok (.iload 6, 2) := by decide +kernel
theorem dX0_rank_114 : decode cX0_rank 114 = .ok (.ifCond .eq 7, 3) := by decide +kernel
theorem dX0_rank_117 : decode cX0_rank 117 = .ok (.iconst 1, 1) := by decide +kernel
theorem dX0_rank_118 : decode cX0_rank 118 = .ok (.goto 4, 3) := by decide +kernel
theorem dX0_rank_121 : decode cX0_rank 121 = .ok (.iconst 0, 1) := by decide +kernel
theorem dX0_rank_122 : decode cX0_rank 122 = .ok (.if_icmp .eq 17, 3) := by decide +kernel
theorem dX0_rank_125 : decode cX0_rank 125 = .ok (.iload 6, 2) := by decide +kernel
theorem dX0_rank_127 : decode cX0_rank 127 = .ok (.ifCond .eq 10, 3) := by decide +kernel
theorem dX0_rank_130 : decode cX0_rank 130 = .ok (.iload_n 3, 1) := by decide +kernel
theorem dX0_rank_131 : decode cX0_rank 131 = .ok (.iload 5, 2) := by decide +kernel
theorem dX0_rank_133 : decode cX0_rank 133 = .ok (.iadd, 1) := by decide +kernel
theorem dX0_rank_134 : decode cX0_rank 134 = .ok (.goto 4, 3) := by decide +kernel
theorem dX0_rank_137 : decode cX0_rank 137 = .ok (.iload_n 3, 1) := by decide +kernel
theorem dX0_rank_138 : decode cX0_rank 138 = .ok (.ireturn, 1) := by decide +kernel
theorem dX0_rank_139 : decode cX0_rank 139 = .ok (.iinc 4 (-1), 3) := by decide +kernel
theorem dX0_rank_142 : decode cX0_rank 142 = .ok (.goto (-113), 3) := by decide +kernel
theorem dX0_rank_145 : decode cX0_rank 145 = .ok (.iload_n 3, 1) := by decide +kernel
theorem dX0_rank_146 : decode cX0_rank 146 = .ok (.iconst 1, 1) := by decide +kernel
theorem dX0_rank_147 : decode cX0_rank 147 = .ok (.iadd, 1) := by decide +kernel
theorem dX0_rank_148 : decode cX0_rank 148 = .ok (.ireturn, 1) := by decide +kernel
theorem dX0_bits_0 : decode cX0_bits 0 = .ok (.iconst 0, 1) := by decide +kernel
theorem dX0_bits_1 : decode cX0_bits 1 = .ok (.istore_n 1, 1) := by decide +kernel
theorem dX0_bits_2 : decode cX0_bits 2 = .ok (.iconst 0, 1) := by decide +kernel
theorem dX0_bits_3 : decode cX0_bits 3 = .ok (.istore_n 2, 1) := by decide +kernel
theorem dX0_bits_4 : decode cX0_bits 4 = .ok (.iload_n 2, 1) := by decide +kernel
theorem dX0_bits_5 : decode cX0_bits 5 = .ok (.bipush 6, 2) := by decide +kernel
theorem dX0_bits_7 : decode cX0_bits 7 = .ok (.if_icmp .ge 17, 3) := by decide +kernel
theorem dX0_bits_10 : decode cX0_bits 10 = .ok (.iload_n 1, 1) := by decide +kernel
theorem dX0_bits_11 : decode cX0_bits 11 = .ok (.iload_n 0, 1) := by decide +kernel
theorem dX0_bits_12 : decode cX0_bits 12 = .ok (.iload_n 2, 1) := by decide +kernel
theorem dX0_bits_13 : decode cX0_bits 13 = .ok (.ishr, 1) := by decide +kernel
theorem dX0_bits_14 : decode cX0_bits 14 = .ok (.iconst 1, 1) := by decide +kernel
theorem dX0_bits_15 : decode cX0_bits 15 = .ok (.iand, 1) := by decide +kernel
theorem dX0_bits_16 : decode cX0_bits 16 = .ok (.iadd, 1) := by decide +kernel
theorem dX0_bits_17 : decode cX0_bits 17 = .ok (.istore_n 1, 1) := by decide +kernel
theorem dX0_bits_18 : decode cX0_bits 18 = .ok (.iinc 2 1, 3) := by decide +kernel
theorem dX0_bits_21 : decode cX0_bits 21 = .ok (.goto (-17), 3) := by decide +kernel
theorem dX0_bits_24 : decode cX0_bits 24 = .ok (.iload_n 1, 1) := by decide +kernel
theorem dX0_bits_25 : decode cX0_bits 25 = .ok (.ireturn, 1) := by decide +kernel
end
section
/-! KnownBitsModel -/
set_option maxRecDepth 100000
def RX1 : String := "KnownBitsModel"
def TX1 : u_T := fun k => match k with
  | 0 => ("KnownBitsModel", "values", "[I", true)
  | _ => ("KnownBitsModel", "masks", "[I", true)
def tyX1 : Nat → FieldType := fun k => match k with
  | 0 => .array .int
  | _ => .array .int
abbrev wsX10 : List Cond := u_ws RX1 TX1 2
theorem nmX1 : ∀ a, a < 2 → ∀ b, b < 2 → a ≠ b → (TX1 a).2.1 ≠ (TX1 b).2.1 := by decide +kernel
theorem tyX1_ok : ∀ k, k < 2 → parseFieldDescriptor (TX1 k).2.2.1 = some (tyX1 k) := by decide +kernel
abbrev cX1_init : ByteArray := prog_3_method_1_code
def yX1_init : MethodName := ⟨RX1, "<init>", "()V"⟩
abbrev cX1_set : ByteArray := prog_3_method_4_code
def yX1_set : MethodName := ⟨RX1, "set", "(III)I"⟩
abbrev cX1_bad : ByteArray := prog_3_method_2_code
def yX1_bad : MethodName := ⟨RX1, "bad", "(I)Z"⟩
abbrev cX1_combine : ByteArray := prog_3_method_7_code
def yX1_combine : MethodName := ⟨RX1, "combine", "(IIII)I"⟩
abbrev cX1_stands : ByteArray := prog_3_method_3_code
def yX1_stands : MethodName := ⟨RX1, "stands", "(II)Z"⟩
abbrev cX1_results : ByteArray := prog_3_method_6_code
def yX1_results : MethodName := ⟨RX1, "results", "(IIII)J"⟩
abbrev cX1_keep : ByteArray := prog_3_method_5_code
def yX1_keep : MethodName := ⟨RX1, "keep", "(IJ)I"⟩
abbrev cX1_shift : ByteArray := prog_3_method_9_code
def yX1_shift : MethodName := ⟨RX1, "shift", "(III)I"⟩
abbrev cX1_power : ByteArray := prog_3_method_8_code
def yX1_power : MethodName := ⟨RX1, "power", "(I)I"⟩
abbrev cX1_narrow : ByteArray := prog_3_method_10_code
def yX1_narrow : MethodName := ⟨RX1, "narrow", "(III)I"⟩
abbrev cX1_suppose : ByteArray := prog_3_method_12_code
def yX1_suppose : MethodName := ⟨RX1, "suppose", "(III)I"⟩
abbrev cX1_holds : ByteArray := prog_3_method_11_code
def yX1_holds : MethodName := ⟨RX1, "holds", "(III)Z"⟩
abbrev cX1_compare : ByteArray := prog_3_method_13_code
def yX1_compare : MethodName := ⟨RX1, "compare", "(III)I"⟩
abbrev cX1_value : ByteArray := prog_3_method_14_code
def yX1_value : MethodName := ⟨RX1, "value", "(I)I"⟩
abbrev cX1_mask : ByteArray := prog_3_method_15_code
def yX1_mask : MethodName := ⟨RX1, "mask", "(I)I"⟩
abbrev cX1_least : ByteArray := prog_3_method_16_code
def yX1_least : MethodName := ⟨RX1, "least", "(II)I"⟩
abbrev cX1_count : ByteArray := prog_3_method_17_code
def yX1_count : MethodName := ⟨RX1, "count", "(III)I"⟩
theorem q17 : (Jvm.Cond.initialized "KnownBitsModel") ∈ lw_all := lw_g (lw_at lw_m0 2 rfl) rfl
theorem q139 : (Jvm.Cond.instantiable "KnownBitsModel" (2 : Nat)) ∈ lw_all := lw_g (lw_at lw_m0 124 rfl) rfl
theorem q141 : (Jvm.Cond.instanceMethod ({ cls := "KnownBitsModel", name := "<init>", desc := "()V" } : Jvm.MethodName)) ∈ lw_all := lw_g (lw_at lw_m0 126 rfl) rfl
theorem q142 : (Jvm.Cond.code ({ cls := "KnownBitsModel", name := "<init>", desc := "()V" } : Jvm.MethodName) prog_3_method_1_code (1 : Nat) (Option.none : Option Jvm.ClassFile.FieldType)) ∈ lw_all := lw_g (lw_at lw_m0 127 rfl) rfl
theorem q143 : (Jvm.Cond.methodLink "KnownBitsModel" (1 : Nat) ({ cls := "java/lang/Object", name := "<init>", desc := "()V" } : Jvm.MethodName)) ∈ lw_all := lw_g (lw_at lw_m0 128 rfl) rfl
theorem q144 : (Jvm.Cond.fieldLink "KnownBitsModel" (7 : Nat) "KnownBitsModel" "values" "[I") ∈ lw_all := lw_g (lw_at lw_m0 129 rfl) rfl
theorem q145 : (Jvm.Cond.fieldLink "KnownBitsModel" (13 : Nat) "KnownBitsModel" "masks" "[I") ∈ lw_all := lw_g (lw_at lw_m0 130 rfl) rfl
theorem q146 : (Jvm.Cond.laysFinal "KnownBitsModel" "KnownBitsModel" "values" "[I") ∈ lw_all := lw_g (lw_at lw_m0 131 rfl) rfl
theorem q147 : (Jvm.Cond.soleField "KnownBitsModel" "values") ∈ lw_all := lw_g (lw_at lw_m0 132 rfl) rfl
theorem q148 : (Jvm.Cond.laysFinal "KnownBitsModel" "KnownBitsModel" "masks" "[I") ∈ lw_all := lw_g (lw_at lw_m0 133 rfl) rfl
theorem q149 : (Jvm.Cond.soleField "KnownBitsModel" "masks") ∈ lw_all := lw_g (lw_at lw_m0 134 rfl) rfl
theorem q150 : (Jvm.Cond.superclass "KnownBitsModel" "java/lang/Object") ∈ lw_all := lw_g (lw_at lw_m0 135 rfl) rfl
theorem q152 : (Jvm.Cond.instanceMethod ({ cls := "KnownBitsModel", name := "set", desc := "(III)I" } : Jvm.MethodName)) ∈ lw_all := lw_g (lw_at lw_m0 137 rfl) rfl
theorem q153 : (Jvm.Cond.selects "KnownBitsModel" ({ cls := "KnownBitsModel", name := "set", desc := "(III)I" } : Jvm.MethodName) ({ cls := "KnownBitsModel", name := "set", desc := "(III)I" } : Jvm.MethodName)) ∈ lw_all := lw_g (lw_at lw_m0 138 rfl) rfl
theorem q154 : (Jvm.Cond.code ({ cls := "KnownBitsModel", name := "set", desc := "(III)I" } : Jvm.MethodName) prog_3_method_4_code (4 : Nat) (Option.some Jvm.ClassFile.FieldType.int)) ∈ lw_all := lw_g (lw_at lw_m0 139 rfl) rfl
theorem q155 : (Jvm.Cond.methodLink "KnownBitsModel" (16 : Nat) ({ cls := "KnownBitsModel", name := "bad", desc := "(I)Z" } : Jvm.MethodName)) ∈ lw_all := lw_g (lw_at lw_m0 140 rfl) rfl
theorem q156 : (Jvm.Cond.static ({ cls := "KnownBitsModel", name := "bad", desc := "(I)Z" } : Jvm.MethodName)) ∈ lw_all := lw_g (lw_at lw_m0 141 rfl) rfl
theorem q157 : (Jvm.Cond.code ({ cls := "KnownBitsModel", name := "bad", desc := "(I)Z" } : Jvm.MethodName) prog_3_method_2_code (1 : Nat) (Option.some Jvm.ClassFile.FieldType.boolean)) ∈ lw_all := lw_g (lw_at lw_m0 142 rfl) rfl
theorem q159 : (Jvm.Cond.instanceMethod ({ cls := "KnownBitsModel", name := "combine", desc := "(IIII)I" } : Jvm.MethodName)) ∈ lw_all := lw_g (lw_at lw_m0 144 rfl) rfl
theorem q160 : (Jvm.Cond.selects "KnownBitsModel" ({ cls := "KnownBitsModel", name := "combine", desc := "(IIII)I" } : Jvm.MethodName) ({ cls := "KnownBitsModel", name := "combine", desc := "(IIII)I" } : Jvm.MethodName)) ∈ lw_all := lw_g (lw_at lw_m0 145 rfl) rfl
theorem q161 : (Jvm.Cond.code ({ cls := "KnownBitsModel", name := "combine", desc := "(IIII)I" } : Jvm.MethodName) prog_3_method_7_code (9 : Nat) (Option.some Jvm.ClassFile.FieldType.int)) ∈ lw_all := lw_g (lw_at lw_m0 146 rfl) rfl
theorem q162 : (Jvm.Cond.methodLink "KnownBitsModel" (20 : Nat) ({ cls := "KnownBitsModel", name := "stands", desc := "(II)Z" } : Jvm.MethodName)) ∈ lw_all := lw_g (lw_at lw_m0 147 rfl) rfl
theorem q163 : (Jvm.Cond.privateMethod ({ cls := "KnownBitsModel", name := "stands", desc := "(II)Z" } : Jvm.MethodName)) ∈ lw_tbl := lw_at lw_m0 148 rfl
theorem q164 : (Jvm.Cond.instanceMethod ({ cls := "KnownBitsModel", name := "stands", desc := "(II)Z" } : Jvm.MethodName)) ∈ lw_all := lw_g (lw_at lw_m0 149 rfl) rfl
theorem q165 : (Jvm.Cond.code ({ cls := "KnownBitsModel", name := "stands", desc := "(II)Z" } : Jvm.MethodName) prog_3_method_3_code (3 : Nat) (Option.some Jvm.ClassFile.FieldType.boolean)) ∈ lw_all := lw_g (lw_at lw_m0 150 rfl) rfl
theorem q166 : (Jvm.Cond.methodLink "KnownBitsModel" (24 : Nat) ({ cls := "KnownBitsModel", name := "results", desc := "(IIII)J" } : Jvm.MethodName)) ∈ lw_all := lw_g (lw_at lw_m0 151 rfl) rfl
theorem q167 : (Jvm.Cond.privateMethod ({ cls := "KnownBitsModel", name := "results", desc := "(IIII)J" } : Jvm.MethodName)) ∈ lw_tbl := lw_at lw_m0 152 rfl
theorem q168 : (Jvm.Cond.instanceMethod ({ cls := "KnownBitsModel", name := "results", desc := "(IIII)J" } : Jvm.MethodName)) ∈ lw_all := lw_g (lw_at lw_m0 153 rfl) rfl
theorem q169 : (Jvm.Cond.code ({ cls := "KnownBitsModel", name := "results", desc := "(IIII)J" } : Jvm.MethodName) prog_3_method_6_code (5 : Nat) (Option.some Jvm.ClassFile.FieldType.long)) ∈ lw_all := lw_g (lw_at lw_m0 154 rfl) rfl
theorem q170 : (Jvm.Cond.methodLink "KnownBitsModel" (28 : Nat) ({ cls := "KnownBitsModel", name := "keep", desc := "(IJ)I" } : Jvm.MethodName)) ∈ lw_all := lw_g (lw_at lw_m0 155 rfl) rfl
theorem q171 : (Jvm.Cond.privateMethod ({ cls := "KnownBitsModel", name := "keep", desc := "(IJ)I" } : Jvm.MethodName)) ∈ lw_tbl := lw_at lw_m0 156 rfl
theorem q172 : (Jvm.Cond.instanceMethod ({ cls := "KnownBitsModel", name := "keep", desc := "(IJ)I" } : Jvm.MethodName)) ∈ lw_all := lw_g (lw_at lw_m0 157 rfl) rfl
theorem q173 : (Jvm.Cond.code ({ cls := "KnownBitsModel", name := "keep", desc := "(IJ)I" } : Jvm.MethodName) prog_3_method_5_code (7 : Nat) (Option.some Jvm.ClassFile.FieldType.int)) ∈ lw_all := lw_g (lw_at lw_m0 158 rfl) rfl
theorem q175 : (Jvm.Cond.instanceMethod ({ cls := "KnownBitsModel", name := "shift", desc := "(III)I" } : Jvm.MethodName)) ∈ lw_all := lw_g (lw_at lw_m0 160 rfl) rfl
theorem q176 : (Jvm.Cond.selects "KnownBitsModel" ({ cls := "KnownBitsModel", name := "shift", desc := "(III)I" } : Jvm.MethodName) ({ cls := "KnownBitsModel", name := "shift", desc := "(III)I" } : Jvm.MethodName)) ∈ lw_all := lw_g (lw_at lw_m0 161 rfl) rfl
theorem q177 : (Jvm.Cond.code ({ cls := "KnownBitsModel", name := "shift", desc := "(III)I" } : Jvm.MethodName) prog_3_method_9_code (10 : Nat) (Option.some Jvm.ClassFile.FieldType.int)) ∈ lw_all := lw_g (lw_at lw_m0 162 rfl) rfl
theorem q178 : (Jvm.Cond.methodLink "KnownBitsModel" (32 : Nat) ({ cls := "KnownBitsModel", name := "power", desc := "(I)I" } : Jvm.MethodName)) ∈ lw_all := lw_g (lw_at lw_m0 163 rfl) rfl
theorem q179 : (Jvm.Cond.static ({ cls := "KnownBitsModel", name := "power", desc := "(I)I" } : Jvm.MethodName)) ∈ lw_all := lw_g (lw_at lw_m0 164 rfl) rfl
theorem q180 : (Jvm.Cond.code ({ cls := "KnownBitsModel", name := "power", desc := "(I)I" } : Jvm.MethodName) prog_3_method_8_code (3 : Nat) (Option.some Jvm.ClassFile.FieldType.int)) ∈ lw_all := lw_g (lw_at lw_m0 165 rfl) rfl
theorem q182 : (Jvm.Cond.instanceMethod ({ cls := "KnownBitsModel", name := "narrow", desc := "(III)I" } : Jvm.MethodName)) ∈ lw_all := lw_g (lw_at lw_m0 167 rfl) rfl
theorem q183 : (Jvm.Cond.selects "KnownBitsModel" ({ cls := "KnownBitsModel", name := "narrow", desc := "(III)I" } : Jvm.MethodName) ({ cls := "KnownBitsModel", name := "narrow", desc := "(III)I" } : Jvm.MethodName)) ∈ lw_all := lw_g (lw_at lw_m0 168 rfl) rfl
theorem q184 : (Jvm.Cond.code ({ cls := "KnownBitsModel", name := "narrow", desc := "(III)I" } : Jvm.MethodName) prog_3_method_10_code (7 : Nat) (Option.some Jvm.ClassFile.FieldType.int)) ∈ lw_all := lw_g (lw_at lw_m0 169 rfl) rfl
theorem q186 : (Jvm.Cond.instanceMethod ({ cls := "KnownBitsModel", name := "suppose", desc := "(III)I" } : Jvm.MethodName)) ∈ lw_all := lw_g (lw_at lw_m0 171 rfl) rfl
theorem q187 : (Jvm.Cond.selects "KnownBitsModel" ({ cls := "KnownBitsModel", name := "suppose", desc := "(III)I" } : Jvm.MethodName) ({ cls := "KnownBitsModel", name := "suppose", desc := "(III)I" } : Jvm.MethodName)) ∈ lw_all := lw_g (lw_at lw_m0 172 rfl) rfl
theorem q188 : (Jvm.Cond.code ({ cls := "KnownBitsModel", name := "suppose", desc := "(III)I" } : Jvm.MethodName) prog_3_method_12_code (10 : Nat) (Option.some Jvm.ClassFile.FieldType.int)) ∈ lw_all := lw_g (lw_at lw_m0 173 rfl) rfl
theorem q189 : (Jvm.Cond.methodLink "KnownBitsModel" (36 : Nat) ({ cls := "KnownBitsModel", name := "holds", desc := "(III)Z" } : Jvm.MethodName)) ∈ lw_all := lw_g (lw_at lw_m0 174 rfl) rfl
theorem q190 : (Jvm.Cond.static ({ cls := "KnownBitsModel", name := "holds", desc := "(III)Z" } : Jvm.MethodName)) ∈ lw_all := lw_g (lw_at lw_m0 175 rfl) rfl
theorem q191 : (Jvm.Cond.code ({ cls := "KnownBitsModel", name := "holds", desc := "(III)Z" } : Jvm.MethodName) prog_3_method_11_code (3 : Nat) (Option.some Jvm.ClassFile.FieldType.boolean)) ∈ lw_all := lw_g (lw_at lw_m0 176 rfl) rfl
theorem q193 : (Jvm.Cond.instanceMethod ({ cls := "KnownBitsModel", name := "compare", desc := "(III)I" } : Jvm.MethodName)) ∈ lw_all := lw_g (lw_at lw_m0 178 rfl) rfl
theorem q194 : (Jvm.Cond.selects "KnownBitsModel" ({ cls := "KnownBitsModel", name := "compare", desc := "(III)I" } : Jvm.MethodName) ({ cls := "KnownBitsModel", name := "compare", desc := "(III)I" } : Jvm.MethodName)) ∈ lw_all := lw_g (lw_at lw_m0 179 rfl) rfl
theorem q195 : (Jvm.Cond.code ({ cls := "KnownBitsModel", name := "compare", desc := "(III)I" } : Jvm.MethodName) prog_3_method_13_code (8 : Nat) (Option.some Jvm.ClassFile.FieldType.int)) ∈ lw_all := lw_g (lw_at lw_m0 180 rfl) rfl
theorem q197 : (Jvm.Cond.instanceMethod ({ cls := "KnownBitsModel", name := "value", desc := "(I)I" } : Jvm.MethodName)) ∈ lw_all := lw_g (lw_at lw_m0 182 rfl) rfl
theorem q198 : (Jvm.Cond.selects "KnownBitsModel" ({ cls := "KnownBitsModel", name := "value", desc := "(I)I" } : Jvm.MethodName) ({ cls := "KnownBitsModel", name := "value", desc := "(I)I" } : Jvm.MethodName)) ∈ lw_all := lw_g (lw_at lw_m0 183 rfl) rfl
theorem q199 : (Jvm.Cond.code ({ cls := "KnownBitsModel", name := "value", desc := "(I)I" } : Jvm.MethodName) prog_3_method_14_code (2 : Nat) (Option.some Jvm.ClassFile.FieldType.int)) ∈ lw_all := lw_g (lw_at lw_m0 184 rfl) rfl
theorem q201 : (Jvm.Cond.instanceMethod ({ cls := "KnownBitsModel", name := "mask", desc := "(I)I" } : Jvm.MethodName)) ∈ lw_all := lw_g (lw_at lw_m0 186 rfl) rfl
theorem q202 : (Jvm.Cond.selects "KnownBitsModel" ({ cls := "KnownBitsModel", name := "mask", desc := "(I)I" } : Jvm.MethodName) ({ cls := "KnownBitsModel", name := "mask", desc := "(I)I" } : Jvm.MethodName)) ∈ lw_all := lw_g (lw_at lw_m0 187 rfl) rfl
theorem q203 : (Jvm.Cond.code ({ cls := "KnownBitsModel", name := "mask", desc := "(I)I" } : Jvm.MethodName) prog_3_method_15_code (2 : Nat) (Option.some Jvm.ClassFile.FieldType.int)) ∈ lw_all := lw_g (lw_at lw_m0 188 rfl) rfl
theorem q205 : (Jvm.Cond.instanceMethod ({ cls := "KnownBitsModel", name := "least", desc := "(II)I" } : Jvm.MethodName)) ∈ lw_all := lw_g (lw_at lw_m0 190 rfl) rfl
theorem q206 : (Jvm.Cond.selects "KnownBitsModel" ({ cls := "KnownBitsModel", name := "least", desc := "(II)I" } : Jvm.MethodName) ({ cls := "KnownBitsModel", name := "least", desc := "(II)I" } : Jvm.MethodName)) ∈ lw_all := lw_g (lw_at lw_m0 191 rfl) rfl
theorem q207 : (Jvm.Cond.code ({ cls := "KnownBitsModel", name := "least", desc := "(II)I" } : Jvm.MethodName) prog_3_method_16_code (4 : Nat) (Option.some Jvm.ClassFile.FieldType.int)) ∈ lw_all := lw_g (lw_at lw_m0 192 rfl) rfl
theorem q209 : (Jvm.Cond.instanceMethod ({ cls := "KnownBitsModel", name := "count", desc := "(III)I" } : Jvm.MethodName)) ∈ lw_all := lw_g (lw_at lw_m0 194 rfl) rfl
theorem q210 : (Jvm.Cond.selects "KnownBitsModel" ({ cls := "KnownBitsModel", name := "count", desc := "(III)I" } : Jvm.MethodName) ({ cls := "KnownBitsModel", name := "count", desc := "(III)I" } : Jvm.MethodName)) ∈ lw_all := lw_g (lw_at lw_m0 195 rfl) rfl
theorem q211 : (Jvm.Cond.code ({ cls := "KnownBitsModel", name := "count", desc := "(III)I" } : Jvm.MethodName) prog_3_method_17_code (6 : Nat) (Option.some Jvm.ClassFile.FieldType.int)) ∈ lw_all := lw_g (lw_at lw_m0 196 rfl) rfl
theorem in_X1 : ∀ w ∈ wsX10, w ∈ lw_all := lw_in wsX10 [146, 148] (by decide +kernel) (by decide +kernel)

theorem dX1_init_0 : decode cX1_init 0 = .ok (.aload_n 0, 1) := by decide +kernel
theorem dX1_init_1 : decode cX1_init 1 = .ok (.invokespecial 1, 3) := by decide +kernel
theorem dX1_init_4 : decode cX1_init 4 = .ok (.aload_n 0, 1) := by decide +kernel
theorem dX1_init_5 : decode cX1_init 5 = .ok (.bipush 6, 2) := by decide +kernel
theorem dX1_init_7 : decode cX1_init 7 = .ok (.newarray .int, 2) := by decide +kernel
theorem dX1_init_9 : decode cX1_init 9 = .ok (.putfield 7, 3) := by decide +kernel
theorem dX1_init_12 : decode cX1_init 12 = .ok (.aload_n 0, 1) := by decide +kernel
theorem dX1_init_13 : decode cX1_init 13 = .ok (.bipush 6, 2) := by decide +kernel
theorem dX1_init_15 : decode cX1_init 15 = .ok (.newarray .int, 2) := by decide +kernel
theorem dX1_init_17 : decode cX1_init 17 = .ok (.putfield 13, 3) := by decide +kernel
theorem dX1_init_20 : decode cX1_init 20 = .ok (.return_, 1) := by decide +kernel
theorem dX1_set_0 : decode cX1_set 0 = .ok (.iload_n 1, 1) := by decide +kernel
theorem dX1_set_1 : decode cX1_set 1 = .ok (.invokestatic 16, 3) := by decide +kernel
theorem dX1_set_4 : decode cX1_set 4 = .ok (.ifCond .eq 5, 3) := by decide +kernel
theorem dX1_set_7 : decode cX1_set 7 = .ok (.iconst (-1), 1) := by decide +kernel
theorem dX1_set_8 : decode cX1_set 8 = .ok (.ireturn, 1) := by decide +kernel
theorem dX1_set_9 : decode cX1_set 9 = .ok (.aload_n 0, 1) := by decide +kernel
theorem dX1_set_10 : decode cX1_set 10 = .ok (.getfield 13, 3) := by decide +kernel
theorem dX1_set_13 : decode cX1_set 13 = .ok (.iload_n 1, 1) := by decide +kernel
theorem dX1_set_14 : decode cX1_set 14 = .ok (.iload_n 3, 1) := by decide +kernel
theorem dX1_set_15 : decode cX1_set 15 = .ok (.bipush 63, 2) := by decide +kernel
theorem dX1_set_17 : decode cX1_set 17 = .ok (.iand, 1) := by decide +kernel
theorem dX1_set_18 : decode cX1_set 18 = .ok (.iastore, 1) := by decide +kernel
theorem dX1_set_19 : decode cX1_set 19 = .ok (.aload_n 0, 1) := by decide +kernel
theorem dX1_set_20 : decode cX1_set 20 = .ok (.getfield 7, 3) := by decide +kernel
theorem dX1_set_23 : decode cX1_set 23 = .ok (.iload_n 1, 1) := by decide +kernel
theorem dX1_set_24 : decode cX1_set 24 = .ok (.iload_n 2, 1) := by decide +kernel
theorem dX1_set_25 : decode cX1_set 25 = .ok (.bipush 63, 2) := by decide +kernel
theorem dX1_set_27 : decode cX1_set 27 = .ok (.iand, 1) := by decide +kernel
theorem dX1_set_28 : decode cX1_set 28 = .ok (.aload_n 0, 1) := by decide +kernel
theorem dX1_set_29 : decode cX1_set 29 = .ok (.getfield 13, 3) := by decide +kernel
theorem dX1_set_32 : decode cX1_set 32 = .ok (.iload_n 1, 1) := by decide +kernel
theorem dX1_set_33 : decode cX1_set 33 = .ok (.iaload, 1) := by decide +kernel
theorem dX1_set_34 : decode cX1_set 34 = .ok (.iconst (-1), 1) := by decide +kernel
theorem dX1_set_35 : decode cX1_set 35 = .ok (.ixor, 1) := by decide +kernel
theorem dX1_set_36 : decode cX1_set 36 = .ok (.iand, 1) := by decide +kernel
theorem dX1_set_37 : decode cX1_set 37 = .ok (.iastore, 1) := by decide +kernel
theorem dX1_set_38 : decode cX1_set 38 = .ok (.iconst 0, 1) := by decide +kernel
theorem dX1_set_39 : decode cX1_set 39 = .ok (.ireturn, 1) := by decide +kernel
theorem dX1_bad_0 : decode cX1_bad 0 = .ok (.iload_n 0, 1) := by decide +kernel
theorem dX1_bad_1 : decode cX1_bad 1 = .ok (.ifCond .lt 8, 3) := by decide +kernel
theorem dX1_bad_4 : decode cX1_bad 4 = .ok (.iload_n 0, 1) := by decide +kernel
theorem dX1_bad_5 : decode cX1_bad 5 = .ok (.iconst 5, 1) := by decide +kernel
theorem dX1_bad_6 : decode cX1_bad 6 = .ok (.if_icmp .le 7, 3) := by decide +kernel
theorem dX1_bad_9 : decode cX1_bad 9 = .ok (.iconst 1, 1) := by decide +kernel
theorem dX1_bad_10 : decode cX1_bad 10 = .ok (.goto 4, 3) := by decide +kernel
theorem dX1_bad_13 : decode cX1_bad 13 = .ok (.iconst 0, 1) := by decide +kernel
theorem dX1_bad_14 : decode cX1_bad 14 = .ok (.ireturn, 1) := by decide +kernel
theorem dX1_combine_0 : decode cX1_combine 0 = .ok (.iload_n 1, 1) := by decide +kernel
theorem dX1_combine_1 : decode cX1_combine 1 = .ok (.invokestatic 16, 3) := by decide +kernel
theorem dX1_combine_4 : decode cX1_combine 4 = .ok (.ifCond .ne 28, 3) := by decide +kernel
theorem dX1_combine_7 : decode cX1_combine 7 = .ok (.iload_n 3, 1) := by decide +kernel
theorem dX1_combine_8 : decode cX1_combine 8 = .ok (.invokestatic 16, 3) := by decide +kernel
theorem dX1_combine_11 : decode cX1_combine 11 = .ok (.ifCond .ne 21, 3) := by decide +kernel
theorem dX1_combine_14 : decode cX1_combine 14 = .ok (.iload 4, 2) := by decide +kernel
theorem dX1_combine_16 : decode cX1_combine 16 = .ok (.invokestatic 16, 3) := by decide +kernel
theorem dX1_combine_19 : decode cX1_combine 19 = .ok (.ifCond .ne 13, 3) := by decide +kernel
theorem dX1_combine_22 : decode cX1_combine 22 = .ok (.iload_n 2, 1) := by decide +kernel
theorem dX1_combine_23 : decode cX1_combine 23 = .ok (.ifCond .lt 9, 3) := by decide +kernel
theorem dX1_combine_26 : decode cX1_combine 26 = .ok (.iload_n 2, 1) := by decide +kernel
theorem dX1_combine_27 : decode cX1_combine 27 = .ok (.bipush 6, 2) := by decide +kernel
theorem dX1_combine_29 : decode cX1_combine 29 = .ok (.if_icmp .le 5, 3) := by decide +kernel
theorem dX1_combine_32 : decode cX1_combine 32 = .ok (.iconst (-1), 1) := by decide +kernel
theorem dX1_combine_33 : decode cX1_combine 33 = .ok (.ireturn, 1) := by decide +kernel
theorem dX1_combine_34 : decode cX1_combine 34 = .ok (.lconst 0, 1) := by decide +kernel
theorem dX1_combine_35 : decode cX1_combine 35 = .ok (.lstore 5, 2) := by decide +kernel
theorem dX1_combine_37 : decode cX1_combine 37 = .ok (.iconst 0, 1) := by decide +kernel
theorem dX1_combine_38 : decode cX1_combine 38 = .ok (.istore 7, 2) := by decide +kernel
theorem dX1_combine_40 : decode cX1_combine 40 = .ok (.iload 7, 2) := by decide +kernel
theorem dX1_combine_42 : decode cX1_combine 42 = .ok (.bipush 64, 2) := by decide +kernel
theorem dX1_combine_44 : decode cX1_combine 44 = .ok (.if_icmp .ge 62, 3) := by decide +kernel
theorem dX1_combine_47 : decode cX1_combine 47 = .ok (.iconst 0, 1) := by decide +kernel
theorem dX1_combine_48 : decode cX1_combine 48 = .ok (.istore 8, 2) := by decide +kernel
theorem dX1_combine_50 : decode cX1_combine 50 = .ok (.iload 8, 2) := by decide +kernel
theorem dX1_combine_52 : decode cX1_combine 52 = .ok (.bipush 64, 2) := by decide +kernel
theorem dX1_combine_54 : decode cX1_combine 54 = .ok (.if_icmp .ge 46, 3) := by decide +kernel
theorem dX1_combine_57 : decode cX1_combine 57 = .ok (.aload_n 0, 1) := by decide +kernel
theorem dX1_combine_58 : decode cX1_combine 58 = .ok (.iload_n 3, 1) := by decide +kernel
theorem dX1_combine_59 : decode cX1_combine 59 = .ok (.iload 7, 2) := by decide +kernel
theorem dX1_combine_61 : decode cX1_combine 61 = .ok (.invokevirtual 20, 3) := by decide +kernel
theorem dX1_combine_64 : decode cX1_combine 64 = .ok (.ifCond .eq 30, 3) := by decide +kernel
theorem dX1_combine_67 : decode cX1_combine 67 = .ok (.aload_n 0, 1) := by decide +kernel
theorem dX1_combine_68 : decode cX1_combine 68 = .ok (.iload 4, 2) := by decide +kernel
theorem dX1_combine_70 : decode cX1_combine 70 = .ok (.iload 8, 2) := by decide +kernel
theorem dX1_combine_72 : decode cX1_combine 72 = .ok (.invokevirtual 20, 3) := by decide +kernel
theorem dX1_combine_75 : decode cX1_combine 75 = .ok (.ifCond .eq 19, 3) := by decide +kernel
theorem dX1_combine_78 : decode cX1_combine 78 = .ok (.lload 5, 2) := by decide +kernel
theorem dX1_combine_80 : decode cX1_combine 80 = .ok (.aload_n 0, 1) := by decide +kernel
theorem dX1_combine_81 : decode cX1_combine 81 = .ok (.iload_n 2, 1) := by decide +kernel
theorem dX1_combine_82 : decode cX1_combine 82 = .ok (.iload 7, 2) := by decide +kernel
theorem dX1_combine_84 : decode cX1_combine 84 = .ok (.iload 8, 2) := by decide +kernel
theorem dX1_combine_86 : decode cX1_combine 86 = .ok (.iload 4, 2) := by decide +kernel
theorem dX1_combine_88 : decode cX1_combine 88 = .ok (.invokevirtual 24, 3) := by decide +kernel
theorem dX1_combine_91 : decode cX1_combine 91 = .ok (.lor, 1) := by decide +kernel
theorem dX1_combine_92 : decode cX1_combine 92 = .ok (.lstore 5, 2) := by decide +kernel
theorem dX1_combine_94 : decode cX1_combine 94 = .ok (.iinc 8 1, 3) := by decide +kernel
theorem dX1_combine_97 : decode cX1_combine 97 = .ok (.goto (-47), 3) := by decide +kernel
theorem dX1_combine_100 : decode cX1_combine 100 = .ok (.iinc 7 1, 3) := by decide +kernel
theorem dX1_combine_103 : decode cX1_combine 103 = .ok (.goto (-63), 3) := by decide +kernel
theorem dX1_combine_106 : decode cX1_combine 106 = .ok (.aload_n 0, 1) := by decide +kernel
theorem dX1_combine_107 : decode cX1_combine 107 = .ok (.iload_n 1, 1) := by decide +kernel
theorem dX1_combine_108 : decode cX1_combine 108 = .ok (.lload 5, 2) := by decide +kernel
theorem dX1_combine_110 : decode cX1_combine 110 = .ok (.invokevirtual 28, 3) := by decide +kernel
theorem dX1_combine_113 : decode cX1_combine 113 = .ok (.ireturn, 1) := by decide +kernel
theorem dX1_stands_0 : decode cX1_stands 0 = .ok (.iload_n 2, 1) := by decide +kernel
theorem dX1_stands_1 : decode cX1_stands 1 = .ok (.aload_n 0, 1) := by decide +kernel
theorem dX1_stands_2 : decode cX1_stands 2 = .ok (.getfield 13, 3) := by decide +kernel
theorem dX1_stands_5 : decode cX1_stands 5 = .ok (.iload_n 1, 1) := by decide +kernel
theorem dX1_stands_6 : decode cX1_stands 6 = .ok (.iaload, 1) := by decide +kernel
theorem dX1_stands_7 : decode cX1_stands 7 = .ok (.iconst (-1), 1) := by decide +kernel
theorem dX1_stands_8 : decode cX1_stands 8 = .ok (.ixor, 1) := by decide +kernel
theorem dX1_stands_9 : decode cX1_stands 9 = .ok (.iand, 1) := by decide +kernel
theorem dX1_stands_10 : decode cX1_stands 10 = .ok (.aload_n 0, 1) := by decide +kernel
theorem dX1_stands_11 : decode cX1_stands 11 = .ok (.getfield 7, 3) := by decide +kernel
theorem dX1_stands_14 : decode cX1_stands 14 = .ok (.iload_n 1, 1) := by decide +kernel
theorem dX1_stands_15 : decode cX1_stands 15 = .ok (.iaload, 1) := by decide +kernel
theorem dX1_stands_16 : decode cX1_stands 16 = .ok (.if_icmp .ne 7, 3) := by decide +kernel
theorem dX1_stands_19 : decode cX1_stands 19 = .ok (.iconst 1, 1) := by decide +kernel
theorem dX1_stands_20 : decode cX1_stands 20 = .ok (.goto 4, 3) := by decide +kernel
theorem dX1_stands_23 : decode cX1_stands 23 = .ok (.iconst 0, 1) := by decide +kernel
theorem dX1_stands_24 : decode cX1_stands 24 = .ok (.ireturn, 1) := by decide +kernel
theorem dX1_results_0 : decode cX1_results 0 = .ok (.iload_n 1, 1) := by decide +kernel
theorem dX1_results_1 : decode cX1_results 1 = .ok (.ifCond .ne 12, 3) := by decide +kernel
theorem dX1_results_4 : decode cX1_results 4 = .ok (.lconst 1, 1) := by decide +kernel
theorem dX1_results_5 : decode cX1_results 5 = .ok (.iload_n 2, 1) := by decide +kernel
theorem dX1_results_6 : decode cX1_results 6 = .ok (.iload_n 3, 1) := by decide +kernel
theorem dX1_results_7 : decode cX1_results 7 = .ok (.iadd, 1) := by decide +kernel
theorem dX1_results_8 : decode cX1_results 8 = .ok (.bipush 63, 2) := by decide +kernel
theorem dX1_results_10 : decode cX1_results 10 = .ok (.iand, 1) := by decide +kernel
theorem dX1_results_11 : decode cX1_results 11 = .ok (.lshl, 1) := by decide +kernel
theorem dX1_results_12 : decode cX1_results 12 = .ok (.lreturn, 1) := by decide +kernel
theorem dX1_results_13 : decode cX1_results 13 = .ok (.iload_n 1, 1) := by decide +kernel
theorem dX1_results_14 : decode cX1_results 14 = .ok (.iconst 1, 1) := by decide +kernel
theorem dX1_results_15 : decode cX1_results 15 = .ok (.if_icmp .ne 12, 3) := by decide +kernel
theorem dX1_results_18 : decode cX1_results 18 = .ok (.lconst 1, 1) := by decide +kernel
theorem dX1_results_19 : decode cX1_results 19 = .ok (.iload_n 2, 1) := by decide +kernel
theorem dX1_results_20 : decode cX1_results 20 = .ok (.iload_n 3, 1) := by decide +kernel
theorem dX1_results_21 : decode cX1_results 21 = .ok (.isub, 1) := by decide +kernel
theorem dX1_results_22 : decode cX1_results 22 = .ok (.bipush 63, 2) := by decide +kernel
theorem dX1_results_24 : decode cX1_results 24 = .ok (.iand, 1) := by decide +kernel
theorem dX1_results_25 : decode cX1_results 25 = .ok (.lshl, 1) := by decide +kernel
theorem dX1_results_26 : decode cX1_results 26 = .ok (.lreturn, 1) := by decide +kernel
theorem dX1_results_27 : decode cX1_results 27 = .ok (.iload_n 1, 1) := by decide +kernel
theorem dX1_results_28 : decode cX1_results 28 = .ok (.iconst 2, 1) := by decide +kernel
theorem dX1_results_29 : decode cX1_results 29 = .ok (.if_icmp .ne 9, 3) := by decide +kernel
theorem dX1_results_32 : decode cX1_results 32 = .ok (.lconst 1, 1) := by decide +kernel
theorem dX1_results_33 : decode cX1_results 33 = .ok (.iload_n 2, 1) := by decide +kernel
theorem dX1_results_34 : decode cX1_results 34 = .ok (.iload_n 3, 1) := by decide +kernel
theorem dX1_results_35 : decode cX1_results 35 = .ok (.iand, 1) := by decide +kernel
theorem dX1_results_36 : decode cX1_results 36 = .ok (.lshl, 1) := by decide +kernel
theorem dX1_results_37 : decode cX1_results 37 = .ok (.lreturn, 1) := by decide +kernel
theorem dX1_results_38 : decode cX1_results 38 = .ok (.iload_n 1, 1) := by decide +kernel
theorem dX1_results_39 : decode cX1_results 39 = .ok (.iconst 3, 1) := by decide +kernel
theorem dX1_results_40 : decode cX1_results 40 = .ok (.if_icmp .ne 9, 3) := by decide +kernel
theorem dX1_results_43 : decode cX1_results 43 = .ok (.lconst 1, 1) := by decide +kernel
theorem dX1_results_44 : decode cX1_results 44 = .ok (.iload_n 2, 1) := by decide +kernel
theorem dX1_results_45 : decode cX1_results 45 = .ok (.iload_n 3, 1) := by decide +kernel
theorem dX1_results_46 : decode cX1_results 46 = .ok (.ior, 1) := by decide +kernel
theorem dX1_results_47 : decode cX1_results 47 = .ok (.lshl, 1) := by decide +kernel
theorem dX1_results_48 : decode cX1_results 48 = .ok (.lreturn, 1) := by decide +kernel
theorem dX1_results_49 : decode cX1_results 49 = .ok (.iload_n 1, 1) := by decide +kernel
theorem dX1_results_50 : decode cX1_results 50 = .ok (.iconst 4, 1) := by decide +kernel
theorem dX1_results_51 : decode cX1_results 51 = .ok (.if_icmp .ne 9, 3) := by decide +kernel
theorem dX1_results_54 : decode cX1_results 54 = .ok (.lconst 1, 1) := by decide +kernel
theorem dX1_results_55 : decode cX1_results 55 = .ok (.iload_n 2, 1) := by decide +kernel
theorem dX1_results_56 : decode cX1_results 56 = .ok (.iload_n 3, 1) := by decide +kernel
theorem dX1_results_57 : decode cX1_results 57 = .ok (.ixor, 1) := by decide +kernel
theorem dX1_results_58 : decode cX1_results 58 = .ok (.lshl, 1) := by decide +kernel
theorem dX1_results_59 : decode cX1_results 59 = .ok (.lreturn, 1) := by decide +kernel
theorem dX1_results_60 : decode cX1_results 60 = .ok (.iload_n 1, 1) := by decide +kernel
theorem dX1_results_61 : decode cX1_results 61 = .ok (.iconst 5, 1) := by decide +kernel
theorem dX1_results_62 : decode cX1_results 62 = .ok (.if_icmp .ne 11, 3) := by decide +kernel
theorem dX1_results_65 : decode cX1_results 65 = .ok (.lconst 1, 1) := by decide +kernel
theorem dX1_results_66 : decode cX1_results 66 = .ok (.iload_n 2, 1) := by decide +kernel
theorem dX1_results_67 : decode cX1_results 67 = .ok (.lshl, 1) := by decide +kernel
theorem dX1_results_68 : decode cX1_results 68 = .ok (.lconst 1, 1) := by decide +kernel
theorem dX1_results_69 : decode cX1_results 69 = .ok (.iload_n 3, 1) := by decide +kernel
theorem dX1_results_70 : decode cX1_results 70 = .ok (.lshl, 1) := by decide +kernel
theorem dX1_results_71 : decode cX1_results 71 = .ok (.lor, 1) := by decide +kernel
theorem dX1_results_72 : decode cX1_results 72 = .ok (.lreturn, 1) := by decide +kernel
theorem dX1_results_73 : decode cX1_results 73 = .ok (.aload_n 0, 1) := by decide +kernel
theorem dX1_results_74 : decode cX1_results 74 = .ok (.iload 4, 2) := by decide +kernel
theorem dX1_results_76 : decode cX1_results 76 = .ok (.iload_n 2, 1) := by decide +kernel
theorem dX1_results_77 : decode cX1_results 77 = .ok (.invokevirtual 20, 3) := by decide +kernel
theorem dX1_results_80 : decode cX1_results 80 = .ok (.ifCond .eq 9, 3) := by decide +kernel
theorem dX1_results_83 : decode cX1_results 83 = .ok (.lconst 1, 1) := by decide +kernel
theorem dX1_results_84 : decode cX1_results 84 = .ok (.iload_n 2, 1) := by decide +kernel
theorem dX1_results_85 : decode cX1_results 85 = .ok (.lshl, 1) := by decide +kernel
theorem dX1_results_86 : decode cX1_results 86 = .ok (.goto 4, 3) := by decide +kernel
theorem dX1_results_89 : decode cX1_results 89 = .ok (.lconst 0, 1) := by decide +kernel
theorem dX1_results_90 : decode cX1_results 90 = .ok (.lreturn, 1) := by decide +kernel
theorem dX1_keep_0 : decode cX1_keep 0 = .ok (.iconst (-1), 1) := by decide +kernel
theorem dX1_keep_1 : decode cX1_keep 1 = .ok (.istore 4, 2) := by decide +kernel
theorem dX1_keep_3 : decode cX1_keep 3 = .ok (.iconst 0, 1) := by decide +kernel
theorem dX1_keep_4 : decode cX1_keep 4 = .ok (.istore 5, 2) := by decide +kernel
theorem dX1_keep_6 : decode cX1_keep 6 = .ok (.iconst 0, 1) := by decide +kernel
theorem dX1_keep_7 : decode cX1_keep 7 = .ok (.istore 6, 2) := by decide +kernel
theorem dX1_keep_9 : decode cX1_keep 9 = .ok (.iload 6, 2) := by decide +kernel
theorem dX1_keep_11 : decode cX1_keep 11 = .ok (.bipush 64, 2) := by decide +kernel
theorem dX1_keep_13 : decode cX1_keep 13 = .ok (.if_icmp .ge 39, 3) := by decide +kernel
theorem dX1_keep_16 : decode cX1_keep 16 = .ok (.lload_n 2, 1) := by decide +kernel
theorem dX1_keep_17 : decode cX1_keep 17 = .ok (.iload 6, 2) := by decide +kernel
theorem dX1_keep_19 : decode cX1_keep 19 = .ok (.lshr, 1) := by decide +kernel
theorem dX1_keep_20 : decode cX1_keep 20 = .ok (.lconst 1, 1) := by decide +kernel
theorem dX1_keep_21 : decode cX1_keep 21 = .ok (.land, 1) := by decide +kernel
theorem dX1_keep_22 : decode cX1_keep 22 = .ok (.lconst 1, 1) := by decide +kernel
theorem dX1_keep_23 : decode cX1_keep 23 = .ok (.lcmp, 1) := by decide +kernel
theorem dX1_keep_24 : decode cX1_keep 24 = .ok (.ifCond .ne 22, 3) := by decide +kernel
theorem dX1_keep_27 : decode cX1_keep 27 = .ok (.iload 4, 2) := by decide +kernel
theorem dX1_keep_29 : decode cX1_keep 29 = .ok (.ifCond .ge 7, 3) := by decide +kernel
theorem dX1_keep_32 : decode cX1_keep 32 = .ok (.iload 6, 2) := by decide +kernel
theorem dX1_keep_34 : decode cX1_keep 34 = .ok (.istore 4, 2) := by decide +kernel
theorem dX1_keep_36 : decode cX1_keep 36 = .ok (.iload 5, 2) := by decide +kernel
theorem dX1_keep_38 : decode cX1_keep 38 = .ok (.iload 6, 2) := by decide +kernel
theorem dX1_keep_40 : decode cX1_keep 40 = .ok (.iload 4, 2) := by decide +kernel
theorem dX1_keep_42 : decode cX1_keep 42 = .ok (.ixor, 1) := by decide +kernel
theorem dX1_keep_43 : decode cX1_keep 43 = .ok (.ior, 1) := by decide +kernel
theorem dX1_keep_44 : decode cX1_keep 44 = .ok (.istore 5, 2) := by decide +kernel
theorem dX1_keep_46 : decode cX1_keep 46 = .ok (.iinc 6 1, 3) := by decide +kernel
theorem dX1_keep_49 : decode cX1_keep 49 = .ok (.goto (-40), 3) := by decide +kernel
theorem dX1_keep_52 : decode cX1_keep 52 = .ok (.iload 4, 2) := by decide +kernel
theorem dX1_keep_54 : decode cX1_keep 54 = .ok (.ifCond .ge 6, 3) := by decide +kernel
theorem dX1_keep_57 : decode cX1_keep 57 = .ok (.bipush (-2), 2) := by decide +kernel
theorem dX1_keep_59 : decode cX1_keep 59 = .ok (.ireturn, 1) := by decide +kernel
theorem dX1_keep_60 : decode cX1_keep 60 = .ok (.aload_n 0, 1) := by decide +kernel
theorem dX1_keep_61 : decode cX1_keep 61 = .ok (.getfield 13, 3) := by decide +kernel
theorem dX1_keep_64 : decode cX1_keep 64 = .ok (.iload_n 1, 1) := by decide +kernel
theorem dX1_keep_65 : decode cX1_keep 65 = .ok (.iload 5, 2) := by decide +kernel
theorem dX1_keep_67 : decode cX1_keep 67 = .ok (.iastore, 1) := by decide +kernel
theorem dX1_keep_68 : decode cX1_keep 68 = .ok (.aload_n 0, 1) := by decide +kernel
theorem dX1_keep_69 : decode cX1_keep 69 = .ok (.getfield 7, 3) := by decide +kernel
theorem dX1_keep_72 : decode cX1_keep 72 = .ok (.iload_n 1, 1) := by decide +kernel
theorem dX1_keep_73 : decode cX1_keep 73 = .ok (.iload 4, 2) := by decide +kernel
theorem dX1_keep_75 : decode cX1_keep 75 = .ok (.iload 5, 2) := by decide +kernel
theorem dX1_keep_77 : decode cX1_keep 77 = .ok (.iconst (-1), 1) := by decide +kernel
theorem dX1_keep_78 : decode cX1_keep 78 = .ok (.ixor, 1) := by decide +kernel
theorem dX1_keep_79 : decode cX1_keep 79 = .ok (.iand, 1) := by decide +kernel
theorem dX1_keep_80 : decode cX1_keep 80 = .ok (.iastore, 1) := by decide +kernel
theorem dX1_keep_81 : decode cX1_keep 81 = .ok (.iconst 0, 1) := by decide +kernel
theorem dX1_keep_82 : decode cX1_keep 82 = .ok (.ireturn, 1) := by decide +kernel
theorem dX1_shift_0 : decode cX1_shift 0 = .ok (.iload_n 1, 1) := by decide +kernel
theorem dX1_shift_1 : decode cX1_shift 1 = .ok (.invokestatic 16, 3) := by decide +kernel
theorem dX1_shift_4 : decode cX1_shift 4 = .ok (.ifCond .ne 22, 3) := by decide +kernel
theorem dX1_shift_7 : decode cX1_shift 7 = .ok (.iload_n 2, 1) := by decide +kernel
theorem dX1_shift_8 : decode cX1_shift 8 = .ok (.invokestatic 16, 3) := by decide +kernel
theorem dX1_shift_11 : decode cX1_shift 11 = .ok (.ifCond .ne 15, 3) := by decide +kernel
theorem dX1_shift_14 : decode cX1_shift 14 = .ok (.iload_n 3, 1) := by decide +kernel
theorem dX1_shift_15 : decode cX1_shift 15 = .ok (.bipush (-6), 2) := by decide +kernel
theorem dX1_shift_17 : decode cX1_shift 17 = .ok (.if_icmp .lt 9, 3) := by decide +kernel
theorem dX1_shift_20 : decode cX1_shift 20 = .ok (.iload_n 3, 1) := by decide +kernel
theorem dX1_shift_21 : decode cX1_shift 21 = .ok (.bipush 6, 2) := by decide +kernel
theorem dX1_shift_23 : decode cX1_shift 23 = .ok (.if_icmp .le 5, 3) := by decide +kernel
theorem dX1_shift_26 : decode cX1_shift 26 = .ok (.iconst (-1), 1) := by decide +kernel
theorem dX1_shift_27 : decode cX1_shift 27 = .ok (.ireturn, 1) := by decide +kernel
theorem dX1_shift_28 : decode cX1_shift 28 = .ok (.iload_n 3, 1) := by decide +kernel
theorem dX1_shift_29 : decode cX1_shift 29 = .ok (.invokestatic 32, 3) := by decide +kernel
theorem dX1_shift_32 : decode cX1_shift 32 = .ok (.istore 4, 2) := by decide +kernel
theorem dX1_shift_34 : decode cX1_shift 34 = .ok (.iload_n 3, 1) := by decide +kernel
theorem dX1_shift_35 : decode cX1_shift 35 = .ok (.ineg, 1) := by decide +kernel
theorem dX1_shift_36 : decode cX1_shift 36 = .ok (.invokestatic 32, 3) := by decide +kernel
theorem dX1_shift_39 : decode cX1_shift 39 = .ok (.istore 5, 2) := by decide +kernel
theorem dX1_shift_41 : decode cX1_shift 41 = .ok (.lconst 0, 1) := by decide +kernel
theorem dX1_shift_42 : decode cX1_shift 42 = .ok (.lstore 6, 2) := by decide +kernel
theorem dX1_shift_44 : decode cX1_shift 44 = .ok (.iconst 0, 1) := by decide +kernel
theorem dX1_shift_45 : decode cX1_shift 45 = .ok (.istore 8, 2) := by decide +kernel
theorem dX1_shift_47 : decode cX1_shift 47 = .ok (.iload 8, 2) := by decide +kernel
theorem dX1_shift_49 : decode cX1_shift 49 = .ok (.bipush 64, 2) := by decide +kernel
theorem dX1_shift_51 : decode cX1_shift 51 = .ok (.if_icmp .ge 59, 3) := by decide +kernel
theorem dX1_shift_54 : decode cX1_shift 54 = .ok (.iload_n 3, 1) := by decide +kernel
theorem dX1_shift_55 : decode cX1_shift 55 = .ok (.ifCond .lt 14, 3) := by decide +kernel
theorem dX1_shift_58 : decode cX1_shift 58 = .ok (.iload 8, 2) := by decide +kernel
theorem dX1_shift_60 : decode cX1_shift 60 = .ok (.iload 4, 2) := by decide +kernel
theorem dX1_shift_62 : decode cX1_shift 62 = .ok (.imul, 1) := by decide +kernel
theorem dX1_shift_63 : decode cX1_shift 63 = .ok (.bipush 64, 2) := by decide +kernel
theorem dX1_shift_65 : decode cX1_shift 65 = .ok (.irem, 1) := by decide +kernel
theorem dX1_shift_66 : decode cX1_shift 66 = .ok (.goto 17, 3) := by decide +kernel
theorem dX1_shift_69 : decode cX1_shift 69 = .ok (.iload 5, 2) := by decide +kernel
theorem dX1_shift_71 : decode cX1_shift 71 = .ok (.ifCond .le 11, 3) := by decide +kernel
theorem dX1_shift_74 : decode cX1_shift 74 = .ok (.iload 8, 2) := by decide +kernel
theorem dX1_shift_76 : decode cX1_shift 76 = .ok (.iload 5, 2) := by decide +kernel
theorem dX1_shift_78 : decode cX1_shift 78 = .ok (.idiv, 1) := by decide +kernel
theorem dX1_shift_79 : decode cX1_shift 79 = .ok (.goto 4, 3) := by decide +kernel
theorem dX1_shift_82 : decode cX1_shift 82 = .ok (.iconst 0, 1) := by decide +kernel
theorem dX1_shift_83 : decode cX1_shift 83 = .ok (.istore 9, 2) := by decide +kernel
theorem dX1_shift_85 : decode cX1_shift 85 = .ok (.aload_n 0, 1) := by decide +kernel
theorem dX1_shift_86 : decode cX1_shift 86 = .ok (.iload_n 2, 1) := by decide +kernel
theorem dX1_shift_87 : decode cX1_shift 87 = .ok (.iload 8, 2) := by decide +kernel
theorem dX1_shift_89 : decode cX1_shift 89 = .ok (.invokevirtual 20, 3) := by decide +kernel
theorem dX1_shift_92 : decode cX1_shift 92 = .ok (.ifCond .eq 12, 3) := by decide +kernel
theorem dX1_shift_95 : decode cX1_shift 95 = .ok (.lload 6, 2) := by decide +kernel
theorem dX1_shift_97 : decode cX1_shift 97 = .ok (.lconst 1, 1) := by decide +kernel
theorem dX1_shift_98 : decode cX1_shift 98 = .ok (.iload 9, 2) := by decide +kernel
theorem dX1_shift_100 : decode cX1_shift 100 = .ok (.lshl, 1) := by decide +kernel
theorem dX1_shift_101 : decode cX1_shift 101 = .ok (.lor, 1) := by decide +kernel
theorem dX1_shift_102 : decode cX1_shift 102 = .ok (.lstore 6, 2) := by decide +kernel
theorem dX1_shift_104 : decode cX1_shift 104 = .ok (.iinc 8 1, 3) := by decide +kernel
theorem dX1_shift_107 : decode cX1_shift 107 = .ok (.goto (-60), 3) := by decide +kernel
theorem dX1_shift_110 : decode cX1_shift 110 = .ok (.aload_n 0, 1) := by decide +kernel
theorem dX1_shift_111 : decode cX1_shift 111 = .ok (.iload_n 1, 1) := by decide +kernel
theorem dX1_shift_112 : decode cX1_shift 112 = .ok (.lload 6, 2) := by decide +kernel
theorem dX1_shift_114 : decode cX1_shift 114 = .ok (.invokevirtual 28, 3) := by decide +kernel
theorem dX1_shift_117 : decode cX1_shift 117 = .ok (.ireturn, 1) := by decide +kernel
theorem dX1_power_0 : decode cX1_power 0 = .ok (.iconst 1, 1) := by decide +kernel
theorem dX1_power_1 : decode cX1_power 1 = .ok (.istore_n 1, 1) := by decide +kernel
theorem dX1_power_2 : decode cX1_power 2 = .ok (.iconst 0, 1) := by decide +kernel
theorem dX1_power_3 : decode cX1_power 3 = .ok (.istore_n 2, 1) := by decide +kernel
theorem dX1_power_4 : decode cX1_power 4 = .ok (.iload_n 2, 1) := by decide +kernel
theorem dX1_power_5 : decode cX1_power 5 = .ok (.iload_n 0, 1) := by decide +kernel
theorem dX1_power_6 : decode cX1_power 6 = .ok (.if_icmp .ge 19, 3) := by decide +kernel
theorem dX1_power_9 : decode cX1_power 9 = .ok (.iload_n 2, 1) := by decide +kernel
theorem dX1_power_10 : decode cX1_power 10 = .ok (.bipush 6, 2) := by decide +kernel
theorem dX1_power_12 : decode cX1_power 12 = .ok (.if_icmp .ge 13, 3) := by decide +kernel
theorem dX1_power_15 : decode cX1_power 15 = .ok (.iload_n 1, 1) := by decide +kernel
theorem dX1_power_16 : decode cX1_power 16 = .ok (.iconst 2, 1) := by decide +kernel
theorem dX1_power_17 : decode cX1_power 17 = .ok (.imul, 1) := by decide +kernel
theorem dX1_power_18 : decode cX1_power 18 = .ok (.istore_n 1, 1) := by decide +kernel
theorem dX1_power_19 : decode cX1_power 19 = .ok (.iinc 2 1, 3) := by decide +kernel
theorem dX1_power_22 : decode cX1_power 22 = .ok (.goto (-18), 3) := by decide +kernel
theorem dX1_power_25 : decode cX1_power 25 = .ok (.iload_n 1, 1) := by decide +kernel
theorem dX1_power_26 : decode cX1_power 26 = .ok (.ireturn, 1) := by decide +kernel
end
section
set_option maxRecDepth 100000
theorem dX1_narrow_0 : decode cX1_narrow 0 = .ok (.iload_n 1, 1) := by decide +kernel
theorem dX1_narrow_1 : decode cX1_narrow 1 = .ok (.invokestatic 16, 3) := by decide +kernel
theorem dX1_narrow_4 : decode cX1_narrow 4 = .ok (.ifCond .eq 5, 3) := by decide +kernel
theorem dX1_narrow_7 : decode cX1_narrow 7 = .ok (.iconst (-1), 1) := by decide +kernel
theorem dX1_narrow_8 : decode cX1_narrow 8 = .ok (.ireturn, 1) := by decide +kernel
theorem dX1_narrow_9 : decode cX1_narrow 9 = .ok (.lconst 0, 1) := by decide +kernel
theorem dX1_narrow_10 : decode cX1_narrow 10 = .ok (.lstore 4, 2) := by decide +kernel
theorem dX1_narrow_12 : decode cX1_narrow 12 = .ok (.iconst 0, 1) := by decide +kernel
theorem dX1_narrow_13 : decode cX1_narrow 13 = .ok (.istore 6, 2) := by decide +kernel
theorem dX1_narrow_15 : decode cX1_narrow 15 = .ok (.iload 6, 2) := by decide +kernel
theorem dX1_narrow_17 : decode cX1_narrow 17 = .ok (.bipush 64, 2) := by decide +kernel
theorem dX1_narrow_19 : decode cX1_narrow 19 = .ok (.if_icmp .ge 40, 3) := by decide +kernel
theorem dX1_narrow_22 : decode cX1_narrow 22 = .ok (.aload_n 0, 1) := by decide +kernel
theorem dX1_narrow_23 : decode cX1_narrow 23 = .ok (.iload_n 1, 1) := by decide +kernel
theorem dX1_narrow_24 : decode cX1_narrow 24 = .ok (.iload 6, 2) := by decide +kernel
theorem dX1_narrow_26 : decode cX1_narrow 26 = .ok (.invokevirtual 20, 3) := by decide +kernel
theorem dX1_narrow_29 : decode cX1_narrow 29 = .ok (.ifCond .eq 24, 3) := by decide +kernel
theorem dX1_narrow_32 : decode cX1_narrow 32 = .ok (.iload_n 2, 1) := by decide +kernel
theorem dX1_narrow_33 : decode cX1_narrow 33 = .ok (.iload 6, 2) := by decide +kernel
theorem dX1_narrow_35 : decode cX1_narrow 35 = .ok (.if_icmp .gt 18, 3) := by decide +kernel
theorem dX1_narrow_38 : decode cX1_narrow 38 = .ok (.iload 6, 2) := by decide +kernel
theorem dX1_narrow_40 : decode cX1_narrow 40 = .ok (.iload_n 3, 1) := by decide +kernel
theorem dX1_narrow_41 : decode cX1_narrow 41 = .ok (.if_icmp .gt 12, 3) := by decide +kernel
theorem dX1_narrow_44 : decode cX1_narrow 44 = .ok (.lload 4, 2) := by decide +kernel
theorem dX1_narrow_46 : decode cX1_narrow 46 = .ok (.lconst 1, 1) := by decide +kernel
theorem dX1_narrow_47 : decode cX1_narrow 47 = .ok (.iload 6, 2) := by decide +kernel
theorem dX1_narrow_49 : decode cX1_narrow 49 = .ok (.lshl, 1) := by decide +kernel
theorem dX1_narrow_50 : decode cX1_narrow 50 = .ok (.lor, 1) := by decide +kernel
theorem dX1_narrow_51 : decode cX1_narrow 51 = .ok (.lstore 4, 2) := by decide +kernel
theorem dX1_narrow_53 : decode cX1_narrow 53 = .ok (.iinc 6 1, 3) := by decide +kernel
theorem dX1_narrow_56 : decode cX1_narrow 56 = .ok (.goto (-41), 3) := by decide +kernel
theorem dX1_narrow_59 : decode cX1_narrow 59 = .ok (.aload_n 0, 1) := by decide +kernel
theorem dX1_narrow_60 : decode cX1_narrow 60 = .ok (.iload_n 1, 1) := by decide +kernel
theorem dX1_narrow_61 : decode cX1_narrow 61 = .ok (.lload 4, 2) := by decide +kernel
theorem dX1_narrow_63 : decode cX1_narrow 63 = .ok (.invokevirtual 28, 3) := by decide +kernel
theorem dX1_narrow_66 : decode cX1_narrow 66 = .ok (.ireturn, 1) := by decide +kernel
theorem dX1_suppose_0 : decode cX1_suppose 0 = .ok (.iload_n 1, 1) := by decide +kernel
theorem dX1_suppose_1 : decode cX1_suppose 1 = .ok (.invokestatic 16, 3) := by decide +kernel
theorem dX1_suppose_4 : decode cX1_suppose 4 = .ok (.ifCond .ne 24, 3) := by decide +kernel
theorem dX1_suppose_7 : decode cX1_suppose 7 = .ok (.iload_n 3, 1) := by decide +kernel
theorem dX1_suppose_8 : decode cX1_suppose 8 = .ok (.invokestatic 16, 3) := by decide +kernel
theorem dX1_suppose_11 : decode cX1_suppose 11 = .ok (.ifCond .ne 17, 3) := by decide +kernel
theorem dX1_suppose_14 : decode cX1_suppose 14 = .ok (.iload_n 2, 1) := by decide +kernel
theorem dX1_suppose_15 : decode cX1_suppose 15 = .ok (.ifCond .lt 13, 3) := by decide +kernel
theorem dX1_suppose_18 : decode cX1_suppose 18 = .ok (.iload_n 2, 1) := by decide +kernel
theorem dX1_suppose_19 : decode cX1_suppose 19 = .ok (.iconst 5, 1) := by decide +kernel
theorem dX1_suppose_20 : decode cX1_suppose 20 = .ok (.if_icmp .gt 8, 3) := by decide +kernel
theorem dX1_suppose_23 : decode cX1_suppose 23 = .ok (.iload_n 1, 1) := by decide +kernel
theorem dX1_suppose_24 : decode cX1_suppose 24 = .ok (.iload_n 3, 1) := by decide +kernel
theorem dX1_suppose_25 : decode cX1_suppose 25 = .ok (.if_icmp .ne 5, 3) := by decide +kernel
theorem dX1_suppose_28 : decode cX1_suppose 28 = .ok (.iconst (-1), 1) := by decide +kernel
theorem dX1_suppose_29 : decode cX1_suppose 29 = .ok (.ireturn, 1) := by decide +kernel
theorem dX1_suppose_30 : decode cX1_suppose 30 = .ok (.lconst 0, 1) := by decide +kernel
theorem dX1_suppose_31 : decode cX1_suppose 31 = .ok (.lstore 4, 2) := by decide +kernel
theorem dX1_suppose_33 : decode cX1_suppose 33 = .ok (.lconst 0, 1) := by decide +kernel
theorem dX1_suppose_34 : decode cX1_suppose 34 = .ok (.lstore 6, 2) := by decide +kernel
theorem dX1_suppose_36 : decode cX1_suppose 36 = .ok (.iconst 0, 1) := by decide +kernel
theorem dX1_suppose_37 : decode cX1_suppose 37 = .ok (.istore 8, 2) := by decide +kernel
theorem dX1_suppose_39 : decode cX1_suppose 39 = .ok (.iload 8, 2) := by decide +kernel
theorem dX1_suppose_41 : decode cX1_suppose 41 = .ok (.bipush 64, 2) := by decide +kernel
theorem dX1_suppose_43 : decode cX1_suppose 43 = .ok (.if_icmp .ge 74, 3) := by decide +kernel
theorem dX1_suppose_46 : decode cX1_suppose 46 = .ok (.iconst 0, 1) := by decide +kernel
theorem dX1_suppose_47 : decode cX1_suppose 47 = .ok (.istore 9, 2) := by decide +kernel
theorem dX1_suppose_49 : decode cX1_suppose 49 = .ok (.iload 9, 2) := by decide +kernel
theorem dX1_suppose_51 : decode cX1_suppose 51 = .ok (.bipush 64, 2) := by decide +kernel
theorem dX1_suppose_53 : decode cX1_suppose 53 = .ok (.if_icmp .ge 58, 3) := by decide +kernel
theorem dX1_suppose_56 : decode cX1_suppose 56 = .ok (.aload_n 0, 1) := by decide +kernel
theorem dX1_suppose_57 : decode cX1_suppose 57 = .ok (.iload_n 1, 1) := by decide +kernel
theorem dX1_suppose_58 : decode cX1_suppose 58 = .ok (.iload 8, 2) := by decide +kernel
theorem dX1_suppose_60 : decode cX1_suppose 60 = .ok (.invokevirtual 20, 3) := by decide +kernel
theorem dX1_suppose_63 : decode cX1_suppose 63 = .ok (.ifCond .eq 42, 3) := by decide +kernel
theorem dX1_suppose_66 : decode cX1_suppose 66 = .ok (.aload_n 0, 1) := by decide +kernel
theorem dX1_suppose_67 : decode cX1_suppose 67 = .ok (.iload_n 3, 1) := by decide +kernel
theorem dX1_suppose_68 : decode cX1_suppose 68 = .ok (.iload 9, 2) := by decide +kernel
theorem dX1_suppose_70 : decode cX1_suppose 70 = .ok (.invokevirtual 20, 3) := by decide +kernel
theorem dX1_suppose_73 : decode cX1_suppose 73 = .ok (.ifCond .eq 32, 3) := by decide +kernel
theorem dX1_suppose_76 : decode cX1_suppose 76 = .ok (.iload 8, 2) := by decide +kernel
theorem dX1_suppose_78 : decode cX1_suppose 78 = .ok (.iload_n 2, 1) := by decide +kernel
theorem dX1_suppose_79 : decode cX1_suppose 79 = .ok (.iload 9, 2) := by decide +kernel
theorem dX1_suppose_81 : decode cX1_suppose 81 = .ok (.invokestatic 36, 3) := by decide +kernel
theorem dX1_suppose_84 : decode cX1_suppose 84 = .ok (.ifCond .eq 21, 3) := by decide +kernel
theorem dX1_suppose_87 : decode cX1_suppose 87 = .ok (.lload 4, 2) := by decide +kernel
theorem dX1_suppose_89 : decode cX1_suppose 89 = .ok (.lconst 1, 1) := by decide +kernel
theorem dX1_suppose_90 : decode cX1_suppose 90 = .ok (.iload 8, 2) := by decide +kernel
theorem dX1_suppose_92 : decode cX1_suppose 92 = .ok (.lshl, 1) := by decide +kernel
theorem dX1_suppose_93 : decode cX1_suppose 93 = .ok (.lor, 1) := by decide +kernel
theorem dX1_suppose_94 : decode cX1_suppose 94 = .ok (.lstore 4, 2) := by decide +kernel
theorem dX1_suppose_96 : decode cX1_suppose 96 = .ok (.lload 6, 2) := by decide +kernel
theorem dX1_suppose_98 : decode cX1_suppose 98 = .ok (.lconst 1, 1) := by decide +kernel
theorem dX1_suppose_99 : decode cX1_suppose 99 = .ok (.iload 9, 2) := by decide +kernel
theorem dX1_suppose_101 : decode cX1_suppose 101 = .ok (.lshl, 1) := by decide +kernel
theorem dX1_suppose_102 : decode cX1_suppose 102 = .ok (.lor, 1) := by decide +kernel
theorem dX1_suppose_103 : decode cX1_suppose 103 = .ok (.lstore 6, 2) := by decide +kernel
theorem dX1_suppose_105 : decode cX1_suppose 105 = .ok (.iinc 9 1, 3) := by decide +kernel
theorem dX1_suppose_108 : decode cX1_suppose 108 = .ok (.goto (-59), 3) := by decide +kernel
theorem dX1_suppose_111 : decode cX1_suppose 111 = .ok (.iinc 8 1, 3) := by decide +kernel
theorem dX1_suppose_114 : decode cX1_suppose 114 = .ok (.goto (-75), 3) := by decide +kernel
theorem dX1_suppose_117 : decode cX1_suppose 117 = .ok (.aload_n 0, 1) := by decide +kernel
theorem dX1_suppose_118 : decode cX1_suppose 118 = .ok (.iload_n 1, 1) := by decide +kernel
theorem dX1_suppose_119 : decode cX1_suppose 119 = .ok (.lload 4, 2) := by decide +kernel
theorem dX1_suppose_121 : decode cX1_suppose 121 = .ok (.invokevirtual 28, 3) := by decide +kernel
theorem dX1_suppose_124 : decode cX1_suppose 124 = .ok (.pop, 1) := by decide +kernel
theorem dX1_suppose_125 : decode cX1_suppose 125 = .ok (.aload_n 0, 1) := by decide +kernel
theorem dX1_suppose_126 : decode cX1_suppose 126 = .ok (.iload_n 3, 1) := by decide +kernel
theorem dX1_suppose_127 : decode cX1_suppose 127 = .ok (.lload 6, 2) := by decide +kernel
theorem dX1_suppose_129 : decode cX1_suppose 129 = .ok (.invokevirtual 28, 3) := by decide +kernel
theorem dX1_suppose_132 : decode cX1_suppose 132 = .ok (.ireturn, 1) := by decide +kernel
theorem dX1_holds_0 : decode cX1_holds 0 = .ok (.iload_n 1, 1) := by decide +kernel
theorem dX1_holds_1 : decode cX1_holds 1 = .ok (.ifCond .ne 14, 3) := by decide +kernel
theorem dX1_holds_4 : decode cX1_holds 4 = .ok (.iload_n 0, 1) := by decide +kernel
theorem dX1_holds_5 : decode cX1_holds 5 = .ok (.iload_n 2, 1) := by decide +kernel
theorem dX1_holds_6 : decode cX1_holds 6 = .ok (.if_icmp .ne 7, 3) := by decide +kernel
theorem dX1_holds_9 : decode cX1_holds 9 = .ok (.iconst 1, 1) := by decide +kernel
theorem dX1_holds_10 : decode cX1_holds 10 = .ok (.goto 4, 3) := by decide +kernel
theorem dX1_holds_13 : decode cX1_holds 13 = .ok (.iconst 0, 1) := by decide +kernel
theorem dX1_holds_14 : decode cX1_holds 14 = .ok (.ireturn, 1) := by decide +kernel
theorem dX1_holds_15 : decode cX1_holds 15 = .ok (.iload_n 1, 1) := by decide +kernel
theorem dX1_holds_16 : decode cX1_holds 16 = .ok (.iconst 1, 1) := by decide +kernel
theorem dX1_holds_17 : decode cX1_holds 17 = .ok (.if_icmp .ne 14, 3) := by decide +kernel
theorem dX1_holds_20 : decode cX1_holds 20 = .ok (.iload_n 0, 1) := by decide +kernel
theorem dX1_holds_21 : decode cX1_holds 21 = .ok (.iload_n 2, 1) := by decide +kernel
theorem dX1_holds_22 : decode cX1_holds 22 = .ok (.if_icmp .ge 7, 3) := by decide +kernel
theorem dX1_holds_25 : decode cX1_holds 25 = .ok (.iconst 1, 1) := by decide +kernel
theorem dX1_holds_26 : decode cX1_holds 26 = .ok (.goto 4, 3) := by decide +kernel
theorem dX1_holds_29 : decode cX1_holds 29 = .ok (.iconst 0, 1) := by decide +kernel
theorem dX1_holds_30 : decode cX1_holds 30 = .ok (.ireturn, 1) := by decide +kernel
theorem dX1_holds_31 : decode cX1_holds 31 = .ok (.iload_n 1, 1) := by decide +kernel
theorem dX1_holds_32 : decode cX1_holds 32 = .ok (.iconst 2, 1) := by decide +kernel
theorem dX1_holds_33 : decode cX1_holds 33 = .ok (.if_icmp .ne 14, 3) := by decide +kernel
theorem dX1_holds_36 : decode cX1_holds 36 = .ok (.iload_n 0, 1) := by decide +kernel
theorem dX1_holds_37 : decode cX1_holds 37 = .ok (.iload_n 2, 1) := by decide +kernel
theorem dX1_holds_38 : decode cX1_holds 38 = .ok (.if_icmp .gt 7, 3) := by decide +kernel
theorem dX1_holds_41 : decode cX1_holds 41 = .ok (.iconst 1, 1) := by decide +kernel
theorem dX1_holds_42 : decode cX1_holds 42 = .ok (.goto 4, 3) := by decide +kernel
theorem dX1_holds_45 : decode cX1_holds 45 = .ok (.iconst 0, 1) := by decide +kernel
theorem dX1_holds_46 : decode cX1_holds 46 = .ok (.ireturn, 1) := by decide +kernel
theorem dX1_holds_47 : decode cX1_holds 47 = .ok (.iload_n 1, 1) := by decide +kernel
theorem dX1_holds_48 : decode cX1_holds 48 = .ok (.iconst 3, 1) := by decide +kernel
theorem dX1_holds_49 : decode cX1_holds 49 = .ok (.if_icmp .ne 14, 3) := by decide +kernel
theorem dX1_holds_52 : decode cX1_holds 52 = .ok (.iload_n 0, 1) := by decide +kernel
theorem dX1_holds_53 : decode cX1_holds 53 = .ok (.iload_n 2, 1) := by decide +kernel
theorem dX1_holds_54 : decode cX1_holds 54 = .ok (.if_icmp .eq 7, 3) := by decide +kernel
theorem dX1_holds_57 : decode cX1_holds 57 = .ok (.iconst 1, 1) := by decide +kernel
theorem dX1_holds_58 : decode cX1_holds 58 = .ok (.goto 4, 3) := by decide +kernel
theorem dX1_holds_61 : decode cX1_holds 61 = .ok (.iconst 0, 1) := by decide +kernel
theorem dX1_holds_62 : decode cX1_holds 62 = .ok (.ireturn, 1) := by decide +kernel
theorem dX1_holds_63 : decode cX1_holds 63 = .ok (.iload_n 1, 1) := by decide +kernel
theorem dX1_holds_64 : decode cX1_holds 64 = .ok (.iconst 4, 1) := by decide +kernel
theorem dX1_holds_65 : decode cX1_holds 65 = .ok (.if_icmp .ne 14, 3) := by decide +kernel
theorem dX1_holds_68 : decode cX1_holds 68 = .ok (.iload_n 0, 1) := by decide +kernel
theorem dX1_holds_69 : decode cX1_holds 69 = .ok (.iload_n 2, 1) := by decide +kernel
theorem dX1_holds_70 : decode cX1_holds 70 = .ok (.if_icmp .lt 7, 3) := by decide +kernel
theorem dX1_holds_73 : decode cX1_holds 73 = .ok (.iconst 1, 1) := by decide +kernel
theorem dX1_holds_74 : decode cX1_holds 74 = .ok (.goto 4, 3) := by decide +kernel
theorem dX1_holds_77 : decode cX1_holds 77 = .ok (.iconst 0, 1) := by decide +kernel
theorem dX1_holds_78 : decode cX1_holds 78 = .ok (.ireturn, 1) := by decide +kernel
theorem dX1_holds_79 : decode cX1_holds 79 = .ok (.iload_n 0, 1) := by decide +kernel
theorem dX1_holds_80 : decode cX1_holds 80 = .ok (.iload_n 2, 1) := by decide +kernel
theorem dX1_holds_81 : decode cX1_holds 81 = .ok (.if_icmp .le 7, 3) := by decide +kernel
theorem dX1_holds_84 : decode cX1_holds 84 = .ok (.iconst 1, 1) := by decide +kernel
theorem dX1_holds_85 : decode cX1_holds 85 = .ok (.goto 4, 3) := by decide +kernel
theorem dX1_holds_88 : decode cX1_holds 88 = .ok (.iconst 0, 1) := by decide +kernel
theorem dX1_holds_89 : decode cX1_holds 89 = .ok (.ireturn, 1) := by decide +kernel
theorem dX1_compare_0 : decode cX1_compare 0 = .ok (.iload_n 1, 1) := by decide +kernel
theorem dX1_compare_1 : decode cX1_compare 1 = .ok (.invokestatic 16, 3) := by decide +kernel
theorem dX1_compare_4 : decode cX1_compare 4 = .ok (.ifCond .ne 19, 3) := by decide +kernel
theorem dX1_compare_7 : decode cX1_compare 7 = .ok (.iload_n 3, 1) := by decide +kernel
theorem dX1_compare_8 : decode cX1_compare 8 = .ok (.invokestatic 16, 3) := by decide +kernel
theorem dX1_compare_11 : decode cX1_compare 11 = .ok (.ifCond .ne 12, 3) := by decide +kernel
theorem dX1_compare_14 : decode cX1_compare 14 = .ok (.iload_n 2, 1) := by decide +kernel
theorem dX1_compare_15 : decode cX1_compare 15 = .ok (.ifCond .lt 8, 3) := by decide +kernel
theorem dX1_compare_18 : decode cX1_compare 18 = .ok (.iload_n 2, 1) := by decide +kernel
theorem dX1_compare_19 : decode cX1_compare 19 = .ok (.iconst 5, 1) := by decide +kernel
theorem dX1_compare_20 : decode cX1_compare 20 = .ok (.if_icmp .le 5, 3) := by decide +kernel
theorem dX1_compare_23 : decode cX1_compare 23 = .ok (.iconst (-1), 1) := by decide +kernel
theorem dX1_compare_24 : decode cX1_compare 24 = .ok (.ireturn, 1) := by decide +kernel
theorem dX1_compare_25 : decode cX1_compare 25 = .ok (.iconst 0, 1) := by decide +kernel
theorem dX1_compare_26 : decode cX1_compare 26 = .ok (.istore 4, 2) := by decide +kernel
theorem dX1_compare_28 : decode cX1_compare 28 = .ok (.iconst 1, 1) := by decide +kernel
theorem dX1_compare_29 : decode cX1_compare 29 = .ok (.istore 5, 2) := by decide +kernel
theorem dX1_compare_31 : decode cX1_compare 31 = .ok (.iconst 0, 1) := by decide +kernel
theorem dX1_compare_32 : decode cX1_compare 32 = .ok (.istore 6, 2) := by decide +kernel
theorem dX1_compare_34 : decode cX1_compare 34 = .ok (.iload 6, 2) := by decide +kernel
theorem dX1_compare_36 : decode cX1_compare 36 = .ok (.bipush 64, 2) := by decide +kernel
theorem dX1_compare_38 : decode cX1_compare 38 = .ok (.if_icmp .ge 65, 3) := by decide +kernel
theorem dX1_compare_41 : decode cX1_compare 41 = .ok (.iconst 0, 1) := by decide +kernel
theorem dX1_compare_42 : decode cX1_compare 42 = .ok (.istore 7, 2) := by decide +kernel
theorem dX1_compare_44 : decode cX1_compare 44 = .ok (.iload 7, 2) := by decide +kernel
theorem dX1_compare_46 : decode cX1_compare 46 = .ok (.bipush 64, 2) := by decide +kernel
theorem dX1_compare_48 : decode cX1_compare 48 = .ok (.if_icmp .ge 49, 3) := by decide +kernel
theorem dX1_compare_51 : decode cX1_compare 51 = .ok (.aload_n 0, 1) := by decide +kernel
theorem dX1_compare_52 : decode cX1_compare 52 = .ok (.iload_n 1, 1) := by decide +kernel
theorem dX1_compare_53 : decode cX1_compare 53 = .ok (.iload 6, 2) := by decide +kernel
theorem dX1_compare_55 : decode cX1_compare 55 = .ok (.invokevirtual 20, 3) := by decide +kernel
theorem dX1_compare_58 : decode cX1_compare 58 = .ok (.ifCond .eq 33, 3) := by decide +kernel
theorem dX1_compare_61 : decode cX1_compare 61 = .ok (.aload_n 0, 1) := by decide +kernel
theorem dX1_compare_62 : decode cX1_compare 62 = .ok (.iload_n 3, 1) := by decide +kernel
theorem dX1_compare_63 : decode cX1_compare 63 = .ok (.iload 7, 2) := by decide +kernel
theorem dX1_compare_65 : decode cX1_compare 65 = .ok (.invokevirtual 20, 3) := by decide +kernel
theorem dX1_compare_68 : decode cX1_compare 68 = .ok (.ifCond .eq 23, 3) := by decide +kernel
theorem dX1_compare_71 : decode cX1_compare 71 = .ok (.iload 6, 2) := by decide +kernel
theorem dX1_compare_73 : decode cX1_compare 73 = .ok (.iload_n 2, 1) := by decide +kernel
theorem dX1_compare_74 : decode cX1_compare 74 = .ok (.iload 7, 2) := by decide +kernel
theorem dX1_compare_76 : decode cX1_compare 76 = .ok (.invokestatic 36, 3) := by decide +kernel
theorem dX1_compare_79 : decode cX1_compare 79 = .ok (.ifCond .eq 9, 3) := by decide +kernel
theorem dX1_compare_82 : decode cX1_compare 82 = .ok (.iconst 1, 1) := by decide +kernel
theorem dX1_compare_83 : decode cX1_compare 83 = .ok (.istore 4, 2) := by decide +kernel
theorem dX1_compare_85 : decode cX1_compare 85 = .ok (.goto 6, 3) := by decide +kernel
theorem dX1_compare_88 : decode cX1_compare 88 = .ok (.iconst 0, 1) := by decide +kernel
theorem dX1_compare_89 : decode cX1_compare 89 = .ok (.istore 5, 2) := by decide +kernel
theorem dX1_compare_91 : decode cX1_compare 91 = .ok (.iinc 7 1, 3) := by decide +kernel
theorem dX1_compare_94 : decode cX1_compare 94 = .ok (.goto (-50), 3) := by decide +kernel
theorem dX1_compare_97 : decode cX1_compare 97 = .ok (.iinc 6 1, 3) := by decide +kernel
theorem dX1_compare_100 : decode cX1_compare 100 = .ok (.goto (-66), 3) := by decide +kernel
theorem dX1_compare_103 : decode cX1_compare 103 = .ok (.iload 5, 2) := by decide +kernel
theorem dX1_compare_105 : decode cX1_compare 105 = .ok (.ifCond .eq 7, 3) := by decide +kernel
theorem dX1_compare_108 : decode cX1_compare 108 = .ok (.iconst 1, 1) := by decide +kernel
theorem dX1_compare_109 : decode cX1_compare 109 = .ok (.goto 13, 3) := by decide +kernel
theorem dX1_compare_112 : decode cX1_compare 112 = .ok (.iload 4, 2) := by decide +kernel
theorem dX1_compare_114 : decode cX1_compare 114 = .ok (.ifCond .eq 7, 3) := by decide +kernel
theorem dX1_compare_117 : decode cX1_compare 117 = .ok (.iconst 2, 1) := by decide +kernel
theorem dX1_compare_118 : decode cX1_compare 118 = .ok (.goto 4, 3) := by decide +kernel
theorem dX1_compare_121 : decode cX1_compare 121 = .ok (.iconst 0, 1) := by decide +kernel
theorem dX1_compare_122 : decode cX1_compare 122 = .ok (.ireturn, 1) := by decide +kernel
theorem dX1_value_0 : decode cX1_value 0 = .ok (.iload_n 1, 1) := by decide +kernel
theorem dX1_value_1 : decode cX1_value 1 = .ok (.invokestatic 16, 3) := by decide +kernel
theorem dX1_value_4 : decode cX1_value 4 = .ok (.ifCond .eq 7, 3) := by decide +kernel
theorem dX1_value_7 : decode cX1_value 7 = .ok (.iconst (-1), 1) := by decide +kernel
theorem dX1_value_8 : decode cX1_value 8 = .ok (.goto 9, 3) := by decide +kernel
theorem dX1_value_11 : decode cX1_value 11 = .ok (.aload_n 0, 1) := by decide +kernel
theorem dX1_value_12 : decode cX1_value 12 = .ok (.getfield 7, 3) := by decide +kernel
theorem dX1_value_15 : decode cX1_value 15 = .ok (.iload_n 1, 1) := by decide +kernel
theorem dX1_value_16 : decode cX1_value 16 = .ok (.iaload, 1) := by decide +kernel
theorem dX1_value_17 : decode cX1_value 17 = .ok (.ireturn, 1) := by decide +kernel
theorem dX1_mask_0 : decode cX1_mask 0 = .ok (.iload_n 1, 1) := by decide +kernel
theorem dX1_mask_1 : decode cX1_mask 1 = .ok (.invokestatic 16, 3) := by decide +kernel
theorem dX1_mask_4 : decode cX1_mask 4 = .ok (.ifCond .eq 7, 3) := by decide +kernel
theorem dX1_mask_7 : decode cX1_mask 7 = .ok (.iconst (-1), 1) := by decide +kernel
theorem dX1_mask_8 : decode cX1_mask 8 = .ok (.goto 9, 3) := by decide +kernel
theorem dX1_mask_11 : decode cX1_mask 11 = .ok (.aload_n 0, 1) := by decide +kernel
theorem dX1_mask_12 : decode cX1_mask 12 = .ok (.getfield 13, 3) := by decide +kernel
theorem dX1_mask_15 : decode cX1_mask 15 = .ok (.iload_n 1, 1) := by decide +kernel
theorem dX1_mask_16 : decode cX1_mask 16 = .ok (.iaload, 1) := by decide +kernel
theorem dX1_mask_17 : decode cX1_mask 17 = .ok (.ireturn, 1) := by decide +kernel
theorem dX1_least_0 : decode cX1_least 0 = .ok (.iload_n 1, 1) := by decide +kernel
theorem dX1_least_1 : decode cX1_least 1 = .ok (.invokestatic 16, 3) := by decide +kernel
theorem dX1_least_4 : decode cX1_least 4 = .ok (.ifCond .eq 5, 3) := by decide +kernel
theorem dX1_least_7 : decode cX1_least 7 = .ok (.iconst (-1), 1) := by decide +kernel
theorem dX1_least_8 : decode cX1_least 8 = .ok (.ireturn, 1) := by decide +kernel
theorem dX1_least_9 : decode cX1_least 9 = .ok (.iconst 0, 1) := by decide +kernel
theorem dX1_least_10 : decode cX1_least 10 = .ok (.istore_n 3, 1) := by decide +kernel
theorem dX1_least_11 : decode cX1_least 11 = .ok (.iload_n 3, 1) := by decide +kernel
theorem dX1_least_12 : decode cX1_least 12 = .ok (.bipush 64, 2) := by decide +kernel
theorem dX1_least_14 : decode cX1_least 14 = .ok (.if_icmp .ge 25, 3) := by decide +kernel
theorem dX1_least_17 : decode cX1_least 17 = .ok (.iload_n 3, 1) := by decide +kernel
theorem dX1_least_18 : decode cX1_least 18 = .ok (.iload_n 2, 1) := by decide +kernel
theorem dX1_least_19 : decode cX1_least 19 = .ok (.if_icmp .lt 14, 3) := by decide +kernel
theorem dX1_least_22 : decode cX1_least 22 = .ok (.aload_n 0, 1) := by decide +kernel
theorem dX1_least_23 : decode cX1_least 23 = .ok (.iload_n 1, 1) := by decide +kernel
theorem dX1_least_24 : decode cX1_least 24 = .ok (.iload_n 3, 1) := by decide +kernel
theorem dX1_least_25 : decode cX1_least 25 = .ok (.invokevirtual 20, 3) := by decide +kernel
theorem dX1_least_28 : decode cX1_least 28 = .ok (.ifCond .eq 5, 3) := by decide +kernel
theorem dX1_least_31 : decode cX1_least 31 = .ok (.iload_n 3, 1) := by decide +kernel
theorem dX1_least_32 : decode cX1_least 32 = .ok (.ireturn, 1) := by decide +kernel
theorem dX1_least_33 : decode cX1_least 33 = .ok (.iinc 3 1, 3) := by decide +kernel
theorem dX1_least_36 : decode cX1_least 36 = .ok (.goto (-25), 3) := by decide +kernel
theorem dX1_least_39 : decode cX1_least 39 = .ok (.bipush 64, 2) := by decide +kernel
theorem dX1_least_41 : decode cX1_least 41 = .ok (.ireturn, 1) := by decide +kernel
theorem dX1_count_0 : decode cX1_count 0 = .ok (.iload_n 1, 1) := by decide +kernel
theorem dX1_count_1 : decode cX1_count 1 = .ok (.invokestatic 16, 3) := by decide +kernel
theorem dX1_count_4 : decode cX1_count 4 = .ok (.ifCond .eq 5, 3) := by decide +kernel
theorem dX1_count_7 : decode cX1_count 7 = .ok (.iconst (-1), 1) := by decide +kernel
theorem dX1_count_8 : decode cX1_count 8 = .ok (.ireturn, 1) := by decide +kernel
theorem dX1_count_9 : decode cX1_count 9 = .ok (.iconst 0, 1) := by decide +kernel
theorem dX1_count_10 : decode cX1_count 10 = .ok (.istore 4, 2) := by decide +kernel
theorem dX1_count_12 : decode cX1_count 12 = .ok (.iconst 0, 1) := by decide +kernel
theorem dX1_count_13 : decode cX1_count 13 = .ok (.istore 5, 2) := by decide +kernel
theorem dX1_count_15 : decode cX1_count 15 = .ok (.iload 5, 2) := by decide +kernel
theorem dX1_count_17 : decode cX1_count 17 = .ok (.bipush 64, 2) := by decide +kernel
theorem dX1_count_19 : decode cX1_count 19 = .ok (.if_icmp .ge 34, 3) := by decide +kernel
theorem dX1_count_22 : decode cX1_count 22 = .ok (.aload_n 0, 1) := by decide +kernel
theorem dX1_count_23 : decode cX1_count 23 = .ok (.iload_n 1, 1) := by decide +kernel
theorem dX1_count_24 : decode cX1_count 24 = .ok (.iload 5, 2) := by decide +kernel
theorem dX1_count_26 : decode cX1_count 26 = .ok (.invokevirtual 20, 3) := by decide +kernel
theorem dX1_count_29 : decode cX1_count 29 = .ok (.ifCond .eq 18, 3) := by decide +kernel
theorem dX1_count_32 : decode cX1_count 32 = .ok (.iload_n 2, 1) := by decide +kernel
theorem dX1_count_33 : decode cX1_count 33 = .ok (.iload 5, 2) := by decide +kernel
theorem dX1_count_35 : decode cX1_count 35 = .ok (.if_icmp .gt 12, 3) := by decide +kernel
theorem dX1_count_38 : decode cX1_count 38 = .ok (.iload 5, 2) := by decide +kernel
theorem dX1_count_40 : decode cX1_count 40 = .ok (.iload_n 3, 1) := by decide +kernel
theorem dX1_count_41 : decode cX1_count 41 = .ok (.if_icmp .gt 6, 3) := by decide +kernel
theorem dX1_count_44 : decode cX1_count 44 = .ok (.iinc 4 1, 3) := by decide +kernel
theorem dX1_count_47 : decode cX1_count 47 = .ok (.iinc 5 1, 3) := by decide +kernel
theorem dX1_count_50 : decode cX1_count 50 = .ok (.goto (-35), 3) := by decide +kernel
theorem dX1_count_53 : decode cX1_count 53 = .ok (.iload 4, 2) := by decide +kernel
theorem dX1_count_55 : decode cX1_count 55 = .ok (.ireturn, 1) := by decide +kernel
end
section
/-! java/lang/Object -/
set_option maxRecDepth 100000
def RJ0 : String := "java/lang/Object"
abbrev cJ0_init : ByteArray := object_method_1_code
def yJ0_init : MethodName := ⟨RJ0, "<init>", "()V"⟩
theorem dJ0_init_0 : decode cJ0_init 0 = .ok (.return_, 1) := by decide +kernel
theorem q24 : (Jvm.Cond.instanceMethod ({ cls := "java/lang/Object", name := "<init>", desc := "()V" } : Jvm.MethodName)) ∈ lw_all := lw_g (lw_at lw_m0 9 rfl) rfl
theorem q25 : (Jvm.Cond.code ({ cls := "java/lang/Object", name := "<init>", desc := "()V" } : Jvm.MethodName) object_method_1_code (1 : Nat) (Option.none : Option Jvm.ClassFile.FieldType)) ∈ lw_all := lw_g (lw_at lw_m0 10 rfl) rfl
theorem q15 : (Jvm.Cond.initialized "KnownBitsLaw") ∈ lw_all := lw_g (lw_at lw_m0 0 rfl) rfl
set_option maxRecDepth 100000
theorem q18 : (Jvm.Cond.classLink "KnownBitsLaw" (7 : Nat) "KnownBits") ∈ lw_all := lw_g (lw_at lw_m0 3 rfl) rfl
theorem q20 : (Jvm.Cond.methodLink "KnownBitsLaw" (9 : Nat) ({ cls := "KnownBits", name := "<init>", desc := "()V" } : Jvm.MethodName)) ∈ lw_all := lw_g (lw_at lw_m0 5 rfl) rfl
theorem q40 : (Jvm.Cond.methodLink "KnownBitsLaw" (13 : Nat) ({ cls := "KnownBits", name := "set", desc := "(III)I" } : Jvm.MethodName)) ∈ lw_all := lw_g (lw_at lw_m0 25 rfl) rfl
theorem q47 : (Jvm.Cond.methodLink "KnownBitsLaw" (18 : Nat) ({ cls := "KnownBits", name := "combine", desc := "(IIII)I" } : Jvm.MethodName)) ∈ lw_all := lw_g (lw_at lw_m0 32 rfl) rfl
theorem q67 : (Jvm.Cond.methodLink "KnownBitsLaw" (23 : Nat) ({ cls := "KnownBits", name := "shift", desc := "(III)I" } : Jvm.MethodName)) ∈ lw_all := lw_g (lw_at lw_m0 52 rfl) rfl
theorem q71 : (Jvm.Cond.methodLink "KnownBitsLaw" (27 : Nat) ({ cls := "KnownBits", name := "narrow", desc := "(III)I" } : Jvm.MethodName)) ∈ lw_all := lw_g (lw_at lw_m0 56 rfl) rfl
theorem q82 : (Jvm.Cond.methodLink "KnownBitsLaw" (31 : Nat) ({ cls := "KnownBits", name := "suppose", desc := "(III)I" } : Jvm.MethodName)) ∈ lw_all := lw_g (lw_at lw_m0 67 rfl) rfl
theorem q103 : (Jvm.Cond.methodLink "KnownBitsLaw" (35 : Nat) ({ cls := "KnownBits", name := "compare", desc := "(III)I" } : Jvm.MethodName)) ∈ lw_all := lw_g (lw_at lw_m0 88 rfl) rfl
theorem q115 : (Jvm.Cond.methodLink "KnownBitsLaw" (39 : Nat) ({ cls := "KnownBits", name := "value", desc := "(I)I" } : Jvm.MethodName)) ∈ lw_all := lw_g (lw_at lw_m0 100 rfl) rfl
theorem q119 : (Jvm.Cond.methodLink "KnownBitsLaw" (44 : Nat) ({ cls := "KnownBits", name := "mask", desc := "(I)I" } : Jvm.MethodName)) ∈ lw_all := lw_g (lw_at lw_m0 104 rfl) rfl
theorem q123 : (Jvm.Cond.methodLink "KnownBitsLaw" (48 : Nat) ({ cls := "KnownBits", name := "least", desc := "(II)I" } : Jvm.MethodName)) ∈ lw_all := lw_g (lw_at lw_m0 108 rfl) rfl
theorem q127 : (Jvm.Cond.methodLink "KnownBitsLaw" (53 : Nat) ({ cls := "KnownBits", name := "count", desc := "(III)I" } : Jvm.MethodName)) ∈ lw_all := lw_g (lw_at lw_m0 112 rfl) rfl
theorem q138 : (Jvm.Cond.classLink "KnownBitsLaw" (10 : Nat) "KnownBitsModel") ∈ lw_all := lw_g (lw_at lw_m0 123 rfl) rfl
theorem q140 : (Jvm.Cond.methodLink "KnownBitsLaw" (12 : Nat) ({ cls := "KnownBitsModel", name := "<init>", desc := "()V" } : Jvm.MethodName)) ∈ lw_all := lw_g (lw_at lw_m0 125 rfl) rfl
theorem q151 : (Jvm.Cond.methodLink "KnownBitsLaw" (17 : Nat) ({ cls := "KnownBitsModel", name := "set", desc := "(III)I" } : Jvm.MethodName)) ∈ lw_all := lw_g (lw_at lw_m0 136 rfl) rfl
theorem q158 : (Jvm.Cond.methodLink "KnownBitsLaw" (22 : Nat) ({ cls := "KnownBitsModel", name := "combine", desc := "(IIII)I" } : Jvm.MethodName)) ∈ lw_all := lw_g (lw_at lw_m0 143 rfl) rfl
theorem q174 : (Jvm.Cond.methodLink "KnownBitsLaw" (26 : Nat) ({ cls := "KnownBitsModel", name := "shift", desc := "(III)I" } : Jvm.MethodName)) ∈ lw_all := lw_g (lw_at lw_m0 159 rfl) rfl
theorem q181 : (Jvm.Cond.methodLink "KnownBitsLaw" (30 : Nat) ({ cls := "KnownBitsModel", name := "narrow", desc := "(III)I" } : Jvm.MethodName)) ∈ lw_all := lw_g (lw_at lw_m0 166 rfl) rfl
theorem q185 : (Jvm.Cond.methodLink "KnownBitsLaw" (34 : Nat) ({ cls := "KnownBitsModel", name := "suppose", desc := "(III)I" } : Jvm.MethodName)) ∈ lw_all := lw_g (lw_at lw_m0 170 rfl) rfl
theorem q192 : (Jvm.Cond.methodLink "KnownBitsLaw" (38 : Nat) ({ cls := "KnownBitsModel", name := "compare", desc := "(III)I" } : Jvm.MethodName)) ∈ lw_all := lw_g (lw_at lw_m0 177 rfl) rfl
theorem q196 : (Jvm.Cond.methodLink "KnownBitsLaw" (43 : Nat) ({ cls := "KnownBitsModel", name := "value", desc := "(I)I" } : Jvm.MethodName)) ∈ lw_all := lw_g (lw_at lw_m0 181 rfl) rfl
theorem q200 : (Jvm.Cond.methodLink "KnownBitsLaw" (47 : Nat) ({ cls := "KnownBitsModel", name := "mask", desc := "(I)I" } : Jvm.MethodName)) ∈ lw_all := lw_g (lw_at lw_m0 185 rfl) rfl
theorem q204 : (Jvm.Cond.methodLink "KnownBitsLaw" (52 : Nat) ({ cls := "KnownBitsModel", name := "least", desc := "(II)I" } : Jvm.MethodName)) ∈ lw_all := lw_g (lw_at lw_m0 189 rfl) rfl
theorem q208 : (Jvm.Cond.methodLink "KnownBitsLaw" (56 : Nat) ({ cls := "KnownBitsModel", name := "count", desc := "(III)I" } : Jvm.MethodName)) ∈ lw_all := lw_g (lw_at lw_m0 193 rfl) rfl
theorem q39 : (Jvm.Cond.arrayClass Jvm.ClassFile.FieldType.int) ∈ lw_all := lw_g (lw_at lw_m0 24 rfl) rfl
set_option maxRecDepth 100000
/-! the law's own entry -/
set_option maxRecDepth 100000
abbrev cL_law : ByteArray := code
theorem dL_law_0 : decode cL_law 0 = .ok (.new 7, 3) := by decide +kernel
theorem dL_law_3 : decode cL_law 3 = .ok (.dup, 1) := by decide +kernel
theorem dL_law_4 : decode cL_law 4 = .ok (.invokespecial 9, 3) := by decide +kernel
theorem dL_law_7 : decode cL_law 7 = .ok (.astore_n 1, 1) := by decide +kernel
theorem dL_law_8 : decode cL_law 8 = .ok (.new 10, 3) := by decide +kernel
theorem dL_law_11 : decode cL_law 11 = .ok (.dup, 1) := by decide +kernel
theorem dL_law_12 : decode cL_law 12 = .ok (.invokespecial 12, 3) := by decide +kernel
theorem dL_law_15 : decode cL_law 15 = .ok (.astore_n 2, 1) := by decide +kernel
theorem dL_law_16 : decode cL_law 16 = .ok (.iconst 0, 1) := by decide +kernel
theorem dL_law_17 : decode cL_law 17 = .ok (.istore_n 3, 1) := by decide +kernel
theorem dL_law_18 : decode cL_law 18 = .ok (.iload_n 3, 1) := by decide +kernel
theorem dL_law_19 : decode cL_law 19 = .ok (.aload_n 0, 1) := by decide +kernel
theorem dL_law_20 : decode cL_law 20 = .ok (.arraylength, 1) := by decide +kernel
theorem dL_law_21 : decode cL_law 21 = .ok (.iconst 5, 1) := by decide +kernel
theorem dL_law_22 : decode cL_law 22 = .ok (.isub, 1) := by decide +kernel
theorem dL_law_23 : decode cL_law 23 = .ok (.if_icmp .gt 461, 3) := by decide +kernel
theorem dL_law_26 : decode cL_law 26 = .ok (.aload_n 0, 1) := by decide +kernel
theorem dL_law_27 : decode cL_law 27 = .ok (.iload_n 3, 1) := by decide +kernel
theorem dL_law_28 : decode cL_law 28 = .ok (.iaload, 1) := by decide +kernel
theorem dL_law_29 : decode cL_law 29 = .ok (.bipush 15, 2) := by decide +kernel
theorem dL_law_31 : decode cL_law 31 = .ok (.iand, 1) := by decide +kernel
theorem dL_law_32 : decode cL_law 32 = .ok (.tableswitch 446 0 9 #[56, 99, 152, 195, 238, 281, 324, 347, 370, 403], 56) := by decide +kernel
theorem dL_law_88 : decode cL_law 88 = .ok (.aload_n 1, 1) := by decide +kernel
theorem dL_law_89 : decode cL_law 89 = .ok (.aload_n 0, 1) := by decide +kernel
theorem dL_law_90 : decode cL_law 90 = .ok (.iload_n 3, 1) := by decide +kernel
theorem dL_law_91 : decode cL_law 91 = .ok (.iconst 1, 1) := by decide +kernel
theorem dL_law_92 : decode cL_law 92 = .ok (.iadd, 1) := by decide +kernel
theorem dL_law_93 : decode cL_law 93 = .ok (.iaload, 1) := by decide +kernel
theorem dL_law_94 : decode cL_law 94 = .ok (.aload_n 0, 1) := by decide +kernel
theorem dL_law_95 : decode cL_law 95 = .ok (.iload_n 3, 1) := by decide +kernel
theorem dL_law_96 : decode cL_law 96 = .ok (.iconst 2, 1) := by decide +kernel
theorem dL_law_97 : decode cL_law 97 = .ok (.iadd, 1) := by decide +kernel
theorem dL_law_98 : decode cL_law 98 = .ok (.iaload, 1) := by decide +kernel
theorem dL_law_99 : decode cL_law 99 = .ok (.aload_n 0, 1) := by decide +kernel
theorem dL_law_100 : decode cL_law 100 = .ok (.iload_n 3, 1) := by decide +kernel
theorem dL_law_101 : decode cL_law 101 = .ok (.iconst 3, 1) := by decide +kernel
theorem dL_law_102 : decode cL_law 102 = .ok (.iadd, 1) := by decide +kernel
theorem dL_law_103 : decode cL_law 103 = .ok (.iaload, 1) := by decide +kernel
theorem dL_law_104 : decode cL_law 104 = .ok (.invokevirtual 13, 3) := by decide +kernel
theorem dL_law_107 : decode cL_law 107 = .ok (.aload_n 2, 1) := by decide +kernel
theorem dL_law_108 : decode cL_law 108 = .ok (.aload_n 0, 1) := by decide +kernel
theorem dL_law_109 : decode cL_law 109 = .ok (.iload_n 3, 1) := by decide +kernel
theorem dL_law_110 : decode cL_law 110 = .ok (.iconst 1, 1) := by decide +kernel
theorem dL_law_111 : decode cL_law 111 = .ok (.iadd, 1) := by decide +kernel
theorem dL_law_112 : decode cL_law 112 = .ok (.iaload, 1) := by decide +kernel
theorem dL_law_113 : decode cL_law 113 = .ok (.aload_n 0, 1) := by decide +kernel
theorem dL_law_114 : decode cL_law 114 = .ok (.iload_n 3, 1) := by decide +kernel
theorem dL_law_115 : decode cL_law 115 = .ok (.iconst 2, 1) := by decide +kernel
theorem dL_law_116 : decode cL_law 116 = .ok (.iadd, 1) := by decide +kernel
theorem dL_law_117 : decode cL_law 117 = .ok (.iaload, 1) := by decide +kernel
theorem dL_law_118 : decode cL_law 118 = .ok (.aload_n 0, 1) := by decide +kernel
theorem dL_law_119 : decode cL_law 119 = .ok (.iload_n 3, 1) := by decide +kernel
theorem dL_law_120 : decode cL_law 120 = .ok (.iconst 3, 1) := by decide +kernel
theorem dL_law_121 : decode cL_law 121 = .ok (.iadd, 1) := by decide +kernel
theorem dL_law_122 : decode cL_law 122 = .ok (.iaload, 1) := by decide +kernel
theorem dL_law_123 : decode cL_law 123 = .ok (.invokevirtual 17, 3) := by decide +kernel
theorem dL_law_126 : decode cL_law 126 = .ok (.if_icmp .eq 352, 3) := by decide +kernel
theorem dL_law_129 : decode cL_law 129 = .ok (.iconst 0, 1) := by decide +kernel
theorem dL_law_130 : decode cL_law 130 = .ok (.ireturn, 1) := by decide +kernel
theorem dL_law_131 : decode cL_law 131 = .ok (.aload_n 1, 1) := by decide +kernel
theorem dL_law_132 : decode cL_law 132 = .ok (.aload_n 0, 1) := by decide +kernel
theorem dL_law_133 : decode cL_law 133 = .ok (.iload_n 3, 1) := by decide +kernel
theorem dL_law_134 : decode cL_law 134 = .ok (.iconst 1, 1) := by decide +kernel
theorem dL_law_135 : decode cL_law 135 = .ok (.iadd, 1) := by decide +kernel
theorem dL_law_136 : decode cL_law 136 = .ok (.iaload, 1) := by decide +kernel
theorem dL_law_137 : decode cL_law 137 = .ok (.aload_n 0, 1) := by decide +kernel
theorem dL_law_138 : decode cL_law 138 = .ok (.iload_n 3, 1) := by decide +kernel
theorem dL_law_139 : decode cL_law 139 = .ok (.iconst 2, 1) := by decide +kernel
theorem dL_law_140 : decode cL_law 140 = .ok (.iadd, 1) := by decide +kernel
theorem dL_law_141 : decode cL_law 141 = .ok (.iaload, 1) := by decide +kernel
theorem dL_law_142 : decode cL_law 142 = .ok (.aload_n 0, 1) := by decide +kernel
theorem dL_law_143 : decode cL_law 143 = .ok (.iload_n 3, 1) := by decide +kernel
theorem dL_law_144 : decode cL_law 144 = .ok (.iconst 3, 1) := by decide +kernel
theorem dL_law_145 : decode cL_law 145 = .ok (.iadd, 1) := by decide +kernel
theorem dL_law_146 : decode cL_law 146 = .ok (.iaload, 1) := by decide +kernel
theorem dL_law_147 : decode cL_law 147 = .ok (.aload_n 0, 1) := by decide +kernel
theorem dL_law_148 : decode cL_law 148 = .ok (.iload_n 3, 1) := by decide +kernel
theorem dL_law_149 : decode cL_law 149 = .ok (.iconst 4, 1) := by decide +kernel
theorem dL_law_150 : decode cL_law 150 = .ok (.iadd, 1) := by decide +kernel
theorem dL_law_151 : decode cL_law 151 = .ok (.iaload, 1) := by decide +kernel
theorem dL_law_152 : decode cL_law 152 = .ok (.invokevirtual 18, 3) := by decide +kernel
theorem dL_law_155 : decode cL_law 155 = .ok (.aload_n 2, 1) := by decide +kernel
theorem dL_law_156 : decode cL_law 156 = .ok (.aload_n 0, 1) := by decide +kernel
theorem dL_law_157 : decode cL_law 157 = .ok (.iload_n 3, 1) := by decide +kernel
theorem dL_law_158 : decode cL_law 158 = .ok (.iconst 1, 1) := by decide +kernel
theorem dL_law_159 : decode cL_law 159 = .ok (.iadd, 1) := by decide +kernel
theorem dL_law_160 : decode cL_law 160 = .ok (.iaload, 1) := by decide +kernel
theorem dL_law_161 : decode cL_law 161 = .ok (.aload_n 0, 1) := by decide +kernel
theorem dL_law_162 : decode cL_law 162 = .ok (.iload_n 3, 1) := by decide +kernel
theorem dL_law_163 : decode cL_law 163 = .ok (.iconst 2, 1) := by decide +kernel
theorem dL_law_164 : decode cL_law 164 = .ok (.iadd, 1) := by decide +kernel
theorem dL_law_165 : decode cL_law 165 = .ok (.iaload, 1) := by decide +kernel
theorem dL_law_166 : decode cL_law 166 = .ok (.aload_n 0, 1) := by decide +kernel
theorem dL_law_167 : decode cL_law 167 = .ok (.iload_n 3, 1) := by decide +kernel
theorem dL_law_168 : decode cL_law 168 = .ok (.iconst 3, 1) := by decide +kernel
theorem dL_law_169 : decode cL_law 169 = .ok (.iadd, 1) := by decide +kernel
theorem dL_law_170 : decode cL_law 170 = .ok (.iaload, 1) := by decide +kernel
theorem dL_law_171 : decode cL_law 171 = .ok (.aload_n 0, 1) := by decide +kernel
theorem dL_law_172 : decode cL_law 172 = .ok (.iload_n 3, 1) := by decide +kernel
theorem dL_law_173 : decode cL_law 173 = .ok (.iconst 4, 1) := by decide +kernel
theorem dL_law_174 : decode cL_law 174 = .ok (.iadd, 1) := by decide +kernel
theorem dL_law_175 : decode cL_law 175 = .ok (.iaload, 1) := by decide +kernel
theorem dL_law_176 : decode cL_law 176 = .ok (.invokevirtual 22, 3) := by decide +kernel
theorem dL_law_179 : decode cL_law 179 = .ok (.if_icmp .eq 299, 3) := by decide +kernel
theorem dL_law_182 : decode cL_law 182 = .ok (.iconst 0, 1) := by decide +kernel
theorem dL_law_183 : decode cL_law 183 = .ok (.ireturn, 1) := by decide +kernel
theorem dL_law_184 : decode cL_law 184 = .ok (.aload_n 1, 1) := by decide +kernel
theorem dL_law_185 : decode cL_law 185 = .ok (.aload_n 0, 1) := by decide +kernel
theorem dL_law_186 : decode cL_law 186 = .ok (.iload_n 3, 1) := by decide +kernel
theorem dL_law_187 : decode cL_law 187 = .ok (.iconst 1, 1) := by decide +kernel
theorem dL_law_188 : decode cL_law 188 = .ok (.iadd, 1) := by decide +kernel
theorem dL_law_189 : decode cL_law 189 = .ok (.iaload, 1) := by decide +kernel
theorem dL_law_190 : decode cL_law 190 = .ok (.aload_n 0, 1) := by decide +kernel
theorem dL_law_191 : decode cL_law 191 = .ok (.iload_n 3, 1) := by decide +kernel
theorem dL_law_192 : decode cL_law 192 = .ok (.iconst 2, 1) := by decide +kernel
theorem dL_law_193 : decode cL_law 193 = .ok (.iadd, 1) := by decide +kernel
theorem dL_law_194 : decode cL_law 194 = .ok (.iaload, 1) := by decide +kernel
theorem dL_law_195 : decode cL_law 195 = .ok (.aload_n 0, 1) := by decide +kernel
theorem dL_law_196 : decode cL_law 196 = .ok (.iload_n 3, 1) := by decide +kernel
theorem dL_law_197 : decode cL_law 197 = .ok (.iconst 3, 1) := by decide +kernel
theorem dL_law_198 : decode cL_law 198 = .ok (.iadd, 1) := by decide +kernel
theorem dL_law_199 : decode cL_law 199 = .ok (.iaload, 1) := by decide +kernel
theorem dL_law_200 : decode cL_law 200 = .ok (.invokevirtual 23, 3) := by decide +kernel
theorem dL_law_203 : decode cL_law 203 = .ok (.aload_n 2, 1) := by decide +kernel
theorem dL_law_204 : decode cL_law 204 = .ok (.aload_n 0, 1) := by decide +kernel
theorem dL_law_205 : decode cL_law 205 = .ok (.iload_n 3, 1) := by decide +kernel
theorem dL_law_206 : decode cL_law 206 = .ok (.iconst 1, 1) := by decide +kernel
theorem dL_law_207 : decode cL_law 207 = .ok (.iadd, 1) := by decide +kernel
theorem dL_law_208 : decode cL_law 208 = .ok (.iaload, 1) := by decide +kernel
theorem dL_law_209 : decode cL_law 209 = .ok (.aload_n 0, 1) := by decide +kernel
theorem dL_law_210 : decode cL_law 210 = .ok (.iload_n 3, 1) := by decide +kernel
theorem dL_law_211 : decode cL_law 211 = .ok (.iconst 2, 1) := by decide +kernel
theorem dL_law_212 : decode cL_law 212 = .ok (.iadd, 1) := by decide +kernel
theorem dL_law_213 : decode cL_law 213 = .ok (.iaload, 1) := by decide +kernel
theorem dL_law_214 : decode cL_law 214 = .ok (.aload_n 0, 1) := by decide +kernel
theorem dL_law_215 : decode cL_law 215 = .ok (.iload_n 3, 1) := by decide +kernel
theorem dL_law_216 : decode cL_law 216 = .ok (.iconst 3, 1) := by decide +kernel
theorem dL_law_217 : decode cL_law 217 = .ok (.iadd, 1) := by decide +kernel
theorem dL_law_218 : decode cL_law 218 = .ok (.iaload, 1) := by decide +kernel
theorem dL_law_219 : decode cL_law 219 = .ok (.invokevirtual 26, 3) := by decide +kernel
theorem dL_law_222 : decode cL_law 222 = .ok (.if_icmp .eq 256, 3) := by decide +kernel
theorem dL_law_225 : decode cL_law 225 = .ok (.iconst 0, 1) := by decide +kernel
theorem dL_law_226 : decode cL_law 226 = .ok (.ireturn, 1) := by decide +kernel
theorem dL_law_227 : decode cL_law 227 = .ok (.aload_n 1, 1) := by decide +kernel
theorem dL_law_228 : decode cL_law 228 = .ok (.aload_n 0, 1) := by decide +kernel
theorem dL_law_229 : decode cL_law 229 = .ok (.iload_n 3, 1) := by decide +kernel
theorem dL_law_230 : decode cL_law 230 = .ok (.iconst 1, 1) := by decide +kernel
theorem dL_law_231 : decode cL_law 231 = .ok (.iadd, 1) := by decide +kernel
theorem dL_law_232 : decode cL_law 232 = .ok (.iaload, 1) := by decide +kernel
theorem dL_law_233 : decode cL_law 233 = .ok (.aload_n 0, 1) := by decide +kernel
theorem dL_law_234 : decode cL_law 234 = .ok (.iload_n 3, 1) := by decide +kernel
theorem dL_law_235 : decode cL_law 235 = .ok (.iconst 2, 1) := by decide +kernel
theorem dL_law_236 : decode cL_law 236 = .ok (.iadd, 1) := by decide +kernel
theorem dL_law_237 : decode cL_law 237 = .ok (.iaload, 1) := by decide +kernel
theorem dL_law_238 : decode cL_law 238 = .ok (.aload_n 0, 1) := by decide +kernel
theorem dL_law_239 : decode cL_law 239 = .ok (.iload_n 3, 1) := by decide +kernel
theorem dL_law_240 : decode cL_law 240 = .ok (.iconst 3, 1) := by decide +kernel
theorem dL_law_241 : decode cL_law 241 = .ok (.iadd, 1) := by decide +kernel
theorem dL_law_242 : decode cL_law 242 = .ok (.iaload, 1) := by decide +kernel
theorem dL_law_243 : decode cL_law 243 = .ok (.invokevirtual 27, 3) := by decide +kernel
theorem dL_law_246 : decode cL_law 246 = .ok (.aload_n 2, 1) := by decide +kernel
theorem dL_law_247 : decode cL_law 247 = .ok (.aload_n 0, 1) := by decide +kernel
theorem dL_law_248 : decode cL_law 248 = .ok (.iload_n 3, 1) := by decide +kernel
theorem dL_law_249 : decode cL_law 249 = .ok (.iconst 1, 1) := by decide +kernel
theorem dL_law_250 : decode cL_law 250 = .ok (.iadd, 1) := by decide +kernel
theorem dL_law_251 : decode cL_law 251 = .ok (.iaload, 1) := by decide +kernel
theorem dL_law_252 : decode cL_law 252 = .ok (.aload_n 0, 1) := by decide +kernel
theorem dL_law_253 : decode cL_law 253 = .ok (.iload_n 3, 1) := by decide +kernel
theorem dL_law_254 : decode cL_law 254 = .ok (.iconst 2, 1) := by decide +kernel
theorem dL_law_255 : decode cL_law 255 = .ok (.iadd, 1) := by decide +kernel
theorem dL_law_256 : decode cL_law 256 = .ok (.iaload, 1) := by decide +kernel
theorem dL_law_257 : decode cL_law 257 = .ok (.aload_n 0, 1) := by decide +kernel
theorem dL_law_258 : decode cL_law 258 = .ok (.iload_n 3, 1) := by decide +kernel
theorem dL_law_259 : decode cL_law 259 = .ok (.iconst 3, 1) := by decide +kernel
theorem dL_law_260 : decode cL_law 260 = .ok (.iadd, 1) := by decide +kernel
theorem dL_law_261 : decode cL_law 261 = .ok (.iaload, 1) := by decide +kernel
theorem dL_law_262 : decode cL_law 262 = .ok (.invokevirtual 30, 3) := by decide +kernel
theorem dL_law_265 : decode cL_law 265 = .ok (.if_icmp .eq 213, 3) := by decide +kernel
theorem dL_law_268 : decode cL_law 268 = .ok (.iconst 0, 1) := by decide +kernel
theorem dL_law_269 : decode cL_law 269 = .ok (.ireturn, 1) := by decide +kernel
theorem dL_law_270 : decode cL_law 270 = .ok (.aload_n 1, 1) := by decide +kernel
theorem dL_law_271 : decode cL_law 271 = .ok (.aload_n 0, 1) := by decide +kernel
theorem dL_law_272 : decode cL_law 272 = .ok (.iload_n 3, 1) := by decide +kernel
theorem dL_law_273 : decode cL_law 273 = .ok (.iconst 1, 1) := by decide +kernel
theorem dL_law_274 : decode cL_law 274 = .ok (.iadd, 1) := by decide +kernel
theorem dL_law_275 : decode cL_law 275 = .ok (.iaload, 1) := by decide +kernel
theorem dL_law_276 : decode cL_law 276 = .ok (.aload_n 0, 1) := by decide +kernel
theorem dL_law_277 : decode cL_law 277 = .ok (.iload_n 3, 1) := by decide +kernel
theorem dL_law_278 : decode cL_law 278 = .ok (.iconst 2, 1) := by decide +kernel
theorem dL_law_279 : decode cL_law 279 = .ok (.iadd, 1) := by decide +kernel
theorem dL_law_280 : decode cL_law 280 = .ok (.iaload, 1) := by decide +kernel
theorem dL_law_281 : decode cL_law 281 = .ok (.aload_n 0, 1) := by decide +kernel
theorem dL_law_282 : decode cL_law 282 = .ok (.iload_n 3, 1) := by decide +kernel
theorem dL_law_283 : decode cL_law 283 = .ok (.iconst 3, 1) := by decide +kernel
theorem dL_law_284 : decode cL_law 284 = .ok (.iadd, 1) := by decide +kernel
theorem dL_law_285 : decode cL_law 285 = .ok (.iaload, 1) := by decide +kernel
theorem dL_law_286 : decode cL_law 286 = .ok (.invokevirtual 31, 3) := by decide +kernel
theorem dL_law_289 : decode cL_law 289 = .ok (.aload_n 2, 1) := by decide +kernel
theorem dL_law_290 : decode cL_law 290 = .ok (.aload_n 0, 1) := by decide +kernel
theorem dL_law_291 : decode cL_law 291 = .ok (.iload_n 3, 1) := by decide +kernel
theorem dL_law_292 : decode cL_law 292 = .ok (.iconst 1, 1) := by decide +kernel
theorem dL_law_293 : decode cL_law 293 = .ok (.iadd, 1) := by decide +kernel
theorem dL_law_294 : decode cL_law 294 = .ok (.iaload, 1) := by decide +kernel
theorem dL_law_295 : decode cL_law 295 = .ok (.aload_n 0, 1) := by decide +kernel
theorem dL_law_296 : decode cL_law 296 = .ok (.iload_n 3, 1) := by decide +kernel
theorem dL_law_297 : decode cL_law 297 = .ok (.iconst 2, 1) := by decide +kernel
theorem dL_law_298 : decode cL_law 298 = .ok (.iadd, 1) := by decide +kernel
theorem dL_law_299 : decode cL_law 299 = .ok (.iaload, 1) := by decide +kernel
theorem dL_law_300 : decode cL_law 300 = .ok (.aload_n 0, 1) := by decide +kernel
theorem dL_law_301 : decode cL_law 301 = .ok (.iload_n 3, 1) := by decide +kernel
theorem dL_law_302 : decode cL_law 302 = .ok (.iconst 3, 1) := by decide +kernel
theorem dL_law_303 : decode cL_law 303 = .ok (.iadd, 1) := by decide +kernel
theorem dL_law_304 : decode cL_law 304 = .ok (.iaload, 1) := by decide +kernel
theorem dL_law_305 : decode cL_law 305 = .ok (.invokevirtual 34, 3) := by decide +kernel
theorem dL_law_308 : decode cL_law 308 = .ok (.if_icmp .eq 170, 3) := by decide +kernel
theorem dL_law_311 : decode cL_law 311 = .ok (.iconst 0, 1) := by decide +kernel
theorem dL_law_312 : decode cL_law 312 = .ok (.ireturn, 1) := by decide +kernel
theorem dL_law_313 : decode cL_law 313 = .ok (.aload_n 1, 1) := by decide +kernel
theorem dL_law_314 : decode cL_law 314 = .ok (.aload_n 0, 1) := by decide +kernel
theorem dL_law_315 : decode cL_law 315 = .ok (.iload_n 3, 1) := by decide +kernel
theorem dL_law_316 : decode cL_law 316 = .ok (.iconst 1, 1) := by decide +kernel
theorem dL_law_317 : decode cL_law 317 = .ok (.iadd, 1) := by decide +kernel
theorem dL_law_318 : decode cL_law 318 = .ok (.iaload, 1) := by decide +kernel
theorem dL_law_319 : decode cL_law 319 = .ok (.aload_n 0, 1) := by decide +kernel
theorem dL_law_320 : decode cL_law 320 = .ok (.iload_n 3, 1) := by decide +kernel
theorem dL_law_321 : decode cL_law 321 = .ok (.iconst 2, 1) := by decide +kernel
theorem dL_law_322 : decode cL_law 322 = .ok (.iadd, 1) := by decide +kernel
theorem dL_law_323 : decode cL_law 323 = .ok (.iaload, 1) := by decide +kernel
theorem dL_law_324 : decode cL_law 324 = .ok (.aload_n 0, 1) := by decide +kernel
theorem dL_law_325 : decode cL_law 325 = .ok (.iload_n 3, 1) := by decide +kernel
theorem dL_law_326 : decode cL_law 326 = .ok (.iconst 3, 1) := by decide +kernel
theorem dL_law_327 : decode cL_law 327 = .ok (.iadd, 1) := by decide +kernel
theorem dL_law_328 : decode cL_law 328 = .ok (.iaload, 1) := by decide +kernel
theorem dL_law_329 : decode cL_law 329 = .ok (.invokevirtual 35, 3) := by decide +kernel
theorem dL_law_332 : decode cL_law 332 = .ok (.aload_n 2, 1) := by decide +kernel
theorem dL_law_333 : decode cL_law 333 = .ok (.aload_n 0, 1) := by decide +kernel
theorem dL_law_334 : decode cL_law 334 = .ok (.iload_n 3, 1) := by decide +kernel
theorem dL_law_335 : decode cL_law 335 = .ok (.iconst 1, 1) := by decide +kernel
theorem dL_law_336 : decode cL_law 336 = .ok (.iadd, 1) := by decide +kernel
theorem dL_law_337 : decode cL_law 337 = .ok (.iaload, 1) := by decide +kernel
theorem dL_law_338 : decode cL_law 338 = .ok (.aload_n 0, 1) := by decide +kernel
theorem dL_law_339 : decode cL_law 339 = .ok (.iload_n 3, 1) := by decide +kernel
theorem dL_law_340 : decode cL_law 340 = .ok (.iconst 2, 1) := by decide +kernel
theorem dL_law_341 : decode cL_law 341 = .ok (.iadd, 1) := by decide +kernel
theorem dL_law_342 : decode cL_law 342 = .ok (.iaload, 1) := by decide +kernel
theorem dL_law_343 : decode cL_law 343 = .ok (.aload_n 0, 1) := by decide +kernel
theorem dL_law_344 : decode cL_law 344 = .ok (.iload_n 3, 1) := by decide +kernel
theorem dL_law_345 : decode cL_law 345 = .ok (.iconst 3, 1) := by decide +kernel
theorem dL_law_346 : decode cL_law 346 = .ok (.iadd, 1) := by decide +kernel
theorem dL_law_347 : decode cL_law 347 = .ok (.iaload, 1) := by decide +kernel
theorem dL_law_348 : decode cL_law 348 = .ok (.invokevirtual 38, 3) := by decide +kernel
theorem dL_law_351 : decode cL_law 351 = .ok (.if_icmp .eq 127, 3) := by decide +kernel
theorem dL_law_354 : decode cL_law 354 = .ok (.iconst 0, 1) := by decide +kernel
theorem dL_law_355 : decode cL_law 355 = .ok (.ireturn, 1) := by decide +kernel
theorem dL_law_356 : decode cL_law 356 = .ok (.aload_n 1, 1) := by decide +kernel
theorem dL_law_357 : decode cL_law 357 = .ok (.aload_n 0, 1) := by decide +kernel
theorem dL_law_358 : decode cL_law 358 = .ok (.iload_n 3, 1) := by decide +kernel
theorem dL_law_359 : decode cL_law 359 = .ok (.iconst 1, 1) := by decide +kernel
theorem dL_law_360 : decode cL_law 360 = .ok (.iadd, 1) := by decide +kernel
theorem dL_law_361 : decode cL_law 361 = .ok (.iaload, 1) := by decide +kernel
theorem dL_law_362 : decode cL_law 362 = .ok (.invokevirtual 39, 3) := by decide +kernel
theorem dL_law_365 : decode cL_law 365 = .ok (.aload_n 2, 1) := by decide +kernel
theorem dL_law_366 : decode cL_law 366 = .ok (.aload_n 0, 1) := by decide +kernel
theorem dL_law_367 : decode cL_law 367 = .ok (.iload_n 3, 1) := by decide +kernel
theorem dL_law_368 : decode cL_law 368 = .ok (.iconst 1, 1) := by decide +kernel
theorem dL_law_369 : decode cL_law 369 = .ok (.iadd, 1) := by decide +kernel
theorem dL_law_370 : decode cL_law 370 = .ok (.iaload, 1) := by decide +kernel
theorem dL_law_371 : decode cL_law 371 = .ok (.invokevirtual 43, 3) := by decide +kernel
theorem dL_law_374 : decode cL_law 374 = .ok (.if_icmp .eq 104, 3) := by decide +kernel
theorem dL_law_377 : decode cL_law 377 = .ok (.iconst 0, 1) := by decide +kernel
theorem dL_law_378 : decode cL_law 378 = .ok (.ireturn, 1) := by decide +kernel
theorem dL_law_379 : decode cL_law 379 = .ok (.aload_n 1, 1) := by decide +kernel
theorem dL_law_380 : decode cL_law 380 = .ok (.aload_n 0, 1) := by decide +kernel
theorem dL_law_381 : decode cL_law 381 = .ok (.iload_n 3, 1) := by decide +kernel
theorem dL_law_382 : decode cL_law 382 = .ok (.iconst 1, 1) := by decide +kernel
theorem dL_law_383 : decode cL_law 383 = .ok (.iadd, 1) := by decide +kernel
theorem dL_law_384 : decode cL_law 384 = .ok (.iaload, 1) := by decide +kernel
theorem dL_law_385 : decode cL_law 385 = .ok (.invokevirtual 44, 3) := by decide +kernel
theorem dL_law_388 : decode cL_law 388 = .ok (.aload_n 2, 1) := by decide +kernel
theorem dL_law_389 : decode cL_law 389 = .ok (.aload_n 0, 1) := by decide +kernel
theorem dL_law_390 : decode cL_law 390 = .ok (.iload_n 3, 1) := by decide +kernel
theorem dL_law_391 : decode cL_law 391 = .ok (.iconst 1, 1) := by decide +kernel
theorem dL_law_392 : decode cL_law 392 = .ok (.iadd, 1) := by decide +kernel
theorem dL_law_393 : decode cL_law 393 = .ok (.iaload, 1) := by decide +kernel
theorem dL_law_394 : decode cL_law 394 = .ok (.invokevirtual 47, 3) := by decide +kernel
theorem dL_law_397 : decode cL_law 397 = .ok (.if_icmp .eq 81, 3) := by decide +kernel
theorem dL_law_400 : decode cL_law 400 = .ok (.iconst 0, 1) := by decide +kernel
theorem dL_law_401 : decode cL_law 401 = .ok (.ireturn, 1) := by decide +kernel
theorem dL_law_402 : decode cL_law 402 = .ok (.aload_n 1, 1) := by decide +kernel
theorem dL_law_403 : decode cL_law 403 = .ok (.aload_n 0, 1) := by decide +kernel
theorem dL_law_404 : decode cL_law 404 = .ok (.iload_n 3, 1) := by decide +kernel
theorem dL_law_405 : decode cL_law 405 = .ok (.iconst 1, 1) := by decide +kernel
theorem dL_law_406 : decode cL_law 406 = .ok (.iadd, 1) := by decide +kernel
theorem dL_law_407 : decode cL_law 407 = .ok (.iaload, 1) := by decide +kernel
theorem dL_law_408 : decode cL_law 408 = .ok (.aload_n 0, 1) := by decide +kernel
theorem dL_law_409 : decode cL_law 409 = .ok (.iload_n 3, 1) := by decide +kernel
theorem dL_law_410 : decode cL_law 410 = .ok (.iconst 2, 1) := by decide +kernel
theorem dL_law_411 : decode cL_law 411 = .ok (.iadd, 1) := by decide +kernel
theorem dL_law_412 : decode cL_law 412 = .ok (.iaload, 1) := by decide +kernel
theorem dL_law_413 : decode cL_law 413 = .ok (.invokevirtual 48, 3) := by decide +kernel
theorem dL_law_416 : decode cL_law 416 = .ok (.aload_n 2, 1) := by decide +kernel
theorem dL_law_417 : decode cL_law 417 = .ok (.aload_n 0, 1) := by decide +kernel
theorem dL_law_418 : decode cL_law 418 = .ok (.iload_n 3, 1) := by decide +kernel
theorem dL_law_419 : decode cL_law 419 = .ok (.iconst 1, 1) := by decide +kernel
theorem dL_law_420 : decode cL_law 420 = .ok (.iadd, 1) := by decide +kernel
theorem dL_law_421 : decode cL_law 421 = .ok (.iaload, 1) := by decide +kernel
theorem dL_law_422 : decode cL_law 422 = .ok (.aload_n 0, 1) := by decide +kernel
theorem dL_law_423 : decode cL_law 423 = .ok (.iload_n 3, 1) := by decide +kernel
theorem dL_law_424 : decode cL_law 424 = .ok (.iconst 2, 1) := by decide +kernel
theorem dL_law_425 : decode cL_law 425 = .ok (.iadd, 1) := by decide +kernel
theorem dL_law_426 : decode cL_law 426 = .ok (.iaload, 1) := by decide +kernel
theorem dL_law_427 : decode cL_law 427 = .ok (.invokevirtual 52, 3) := by decide +kernel
theorem dL_law_430 : decode cL_law 430 = .ok (.if_icmp .eq 48, 3) := by decide +kernel
theorem dL_law_433 : decode cL_law 433 = .ok (.iconst 0, 1) := by decide +kernel
theorem dL_law_434 : decode cL_law 434 = .ok (.ireturn, 1) := by decide +kernel
theorem dL_law_435 : decode cL_law 435 = .ok (.aload_n 1, 1) := by decide +kernel
theorem dL_law_436 : decode cL_law 436 = .ok (.aload_n 0, 1) := by decide +kernel
theorem dL_law_437 : decode cL_law 437 = .ok (.iload_n 3, 1) := by decide +kernel
theorem dL_law_438 : decode cL_law 438 = .ok (.iconst 1, 1) := by decide +kernel
theorem dL_law_439 : decode cL_law 439 = .ok (.iadd, 1) := by decide +kernel
theorem dL_law_440 : decode cL_law 440 = .ok (.iaload, 1) := by decide +kernel
theorem dL_law_441 : decode cL_law 441 = .ok (.aload_n 0, 1) := by decide +kernel
theorem dL_law_442 : decode cL_law 442 = .ok (.iload_n 3, 1) := by decide +kernel
theorem dL_law_443 : decode cL_law 443 = .ok (.iconst 2, 1) := by decide +kernel
theorem dL_law_444 : decode cL_law 444 = .ok (.iadd, 1) := by decide +kernel
theorem dL_law_445 : decode cL_law 445 = .ok (.iaload, 1) := by decide +kernel
theorem dL_law_446 : decode cL_law 446 = .ok (.aload_n 0, 1) := by decide +kernel
theorem dL_law_447 : decode cL_law 447 = .ok (.iload_n 3, 1) := by decide +kernel
theorem dL_law_448 : decode cL_law 448 = .ok (.iconst 3, 1) := by decide +kernel
theorem dL_law_449 : decode cL_law 449 = .ok (.iadd, 1) := by decide +kernel
theorem dL_law_450 : decode cL_law 450 = .ok (.iaload, 1) := by decide +kernel
theorem dL_law_451 : decode cL_law 451 = .ok (.invokevirtual 53, 3) := by decide +kernel
theorem dL_law_454 : decode cL_law 454 = .ok (.aload_n 2, 1) := by decide +kernel
theorem dL_law_455 : decode cL_law 455 = .ok (.aload_n 0, 1) := by decide +kernel
theorem dL_law_456 : decode cL_law 456 = .ok (.iload_n 3, 1) := by decide +kernel
theorem dL_law_457 : decode cL_law 457 = .ok (.iconst 1, 1) := by decide +kernel
theorem dL_law_458 : decode cL_law 458 = .ok (.iadd, 1) := by decide +kernel
theorem dL_law_459 : decode cL_law 459 = .ok (.iaload, 1) := by decide +kernel
theorem dL_law_460 : decode cL_law 460 = .ok (.aload_n 0, 1) := by decide +kernel
theorem dL_law_461 : decode cL_law 461 = .ok (.iload_n 3, 1) := by decide +kernel
theorem dL_law_462 : decode cL_law 462 = .ok (.iconst 2, 1) := by decide +kernel
theorem dL_law_463 : decode cL_law 463 = .ok (.iadd, 1) := by decide +kernel
theorem dL_law_464 : decode cL_law 464 = .ok (.iaload, 1) := by decide +kernel
theorem dL_law_465 : decode cL_law 465 = .ok (.aload_n 0, 1) := by decide +kernel
theorem dL_law_466 : decode cL_law 466 = .ok (.iload_n 3, 1) := by decide +kernel
theorem dL_law_467 : decode cL_law 467 = .ok (.iconst 3, 1) := by decide +kernel
theorem dL_law_468 : decode cL_law 468 = .ok (.iadd, 1) := by decide +kernel
theorem dL_law_469 : decode cL_law 469 = .ok (.iaload, 1) := by decide +kernel
theorem dL_law_470 : decode cL_law 470 = .ok (.invokevirtual 56, 3) := by decide +kernel
theorem dL_law_473 : decode cL_law 473 = .ok (.if_icmp .eq 5, 3) := by decide +kernel
theorem dL_law_476 : decode cL_law 476 = .ok (.iconst 0, 1) := by decide +kernel
theorem dL_law_477 : decode cL_law 477 = .ok (.ireturn, 1) := by decide +kernel
theorem dL_law_478 : decode cL_law 478 = .ok (.iinc 3 5, 3) := by decide +kernel
theorem dL_law_481 : decode cL_law 481 = .ok (.goto (-463), 3) := by decide +kernel
theorem dL_law_484 : decode cL_law 484 = .ok (.iconst 1, 1) := by decide +kernel
theorem dL_law_485 : decode cL_law 485 = .ok (.ireturn, 1) := by decide +kernel
end
section
/-! ===== the walks' common words: worlds, blind starts, joins, loops ===== -/
abbrev vwCl : List vw_C := [(RX0, TX0, 4), (RX1, TX1, 2)]
abbrev kF : Type := Nat → Int32
abbrev kSt : Type := kF × kF × Int32 × Int32
abbrev kTy (d1 d2 : ClassId) : List (ClassId × FieldType) := [(d1, .int), (d2, .int)]
abbrev kbW (h0 hv hm : Nat) (d1 d2 : ClassId) (V M : kF) (nv nm : Int32) : va_W := [(h0, .inr (0, [.ref hv, .ref hm, .int nv, .int nm])), (hv, .inl (d1, 6, .inl V)), (hm, .inl (d2, 6, .inl M))]
abbrev mdW (h0 hv hm : Nat) (d1 d2 : ClassId) (V M : kF) : va_W := [(h0, .inr (1, [.ref hv, .ref hm])), (hv, .inl (d1, 6, .inl V)), (hm, .inl (d2, 6, .inl M))]
def kA (h0 hv hm sz : Nat) : Nat → Prop := fun q => q = h0 ∨ q = hv ∨ q = hm ∨ sz ≤ q
def kbR (D : va_G) (tys : List (ClassId × FieldType)) (ws : va_W) (U : State) : Prop := va_P D vwCl ws U.heap ∧ va_K D vwCl tys U
def kbP (D : va_G) (tys : List (ClassId × FieldType)) (ws : va_W) (sz : Nat) (U : State) : Prop := U.heap.size = sz ∧ va_P D vwCl ws U.heap ∧ va_K D vwCl tys U ∧ va_D (fun _ => True) ws
def kbB (dC : Nat → ClassId) (dI : Nat → Nat → Nat) (A : Nat → Prop) (h0 hv hm : Nat) (d1 d2 : ClassId) (u : kSt) (t : State) : Prop := va_P (dC, dI) vwCl (kbW h0 hv hm d1 d2 u.1 u.2.1 u.2.2.1 u.2.2.2) t.heap ∧ va_K (dC, dI) vwCl (kTy d1 d2) t ∧ va_D A (kbW h0 hv hm d1 d2 u.1 u.2.1 u.2.2.1 u.2.2.2)
def mdB (dC : Nat → ClassId) (dI : Nat → Nat → Nat) (A : Nat → Prop) (h0 hv hm : Nat) (d1 d2 : ClassId) (u : kF × kF) (t : State) : Prop := va_P (dC, dI) vwCl (mdW h0 hv hm d1 d2 u.1 u.2) t.heap ∧ va_K (dC, dI) vwCl (kTy d1 d2) t ∧ va_D A (mdW h0 hv hm d1 d2 u.1 u.2)
theorem kb_blindR {av : List Value} {D : va_G} {tys : List (ClassId × FieldType)} {ws : va_W} : FrameBlind (va_Pc av (kbR D tys ws)) := fun a U g mk q => by
  obtain ⟨q0, qP, qK⟩ := q
  exact ⟨q0, qP, va_K.moved (u := U) (U := U.calling g mk a) (Vm.Alike.refl U.vm) qK⟩
theorem kb_blindW {av : List Value} {D : va_G} {tys : List (ClassId × FieldType)} {ws : va_W} {sz : Nat} : FrameBlind (va_Pc av (kbP D tys ws sz)) := fun a U g mk q => by
  obtain ⟨q0, q1, qP, qK, qD⟩ := q
  exact ⟨q0, q1, qP, va_K.moved (u := U) (U := U.calling g mk a) (Vm.Alike.refl U.vm) qK, qD⟩
theorem kA_kb {h0 hv hm sz : Nat} {d1 d2 : ClassId} {V M : kF} {nv nm : Int32} (h : va_D (fun _ => True) (kbW h0 hv hm d1 d2 V M nv nm)) : va_D (kA h0 hv hm sz) (kbW h0 hv hm d1 d2 V M nv nm) := by
  refine ⟨h.1, fun k q hk => ?_⟩
  match k, hk with
  | 0, hk => cases hk; exact Or.inl rfl
  | 1, hk => cases hk; exact Or.inr (Or.inl rfl)
  | 2, hk => cases hk; exact Or.inr (Or.inr (Or.inl rfl))
  | k + 3, hk => simp [kbW] at hk
theorem kA_md {h0 hv hm sz : Nat} {d1 d2 : ClassId} {V M : kF} (h : va_D (fun _ => True) (mdW h0 hv hm d1 d2 V M)) : va_D (kA h0 hv hm sz) (mdW h0 hv hm d1 d2 V M) := by
  refine ⟨h.1, fun k q hk => ?_⟩
  match k, hk with
  | 0, hk => cases hk; exact Or.inl rfl
  | 1, hk => cases hk; exact Or.inr (Or.inl rfl)
  | 2, hk => cases hk; exact Or.inr (Or.inr (Or.inl rfl))
  | k + 3, hk => simp [mdW] at hk
theorem kA_vb {h0 hv hm sz : Nat} {d1 d2 : ClassId} {V M : kF} {nv nm : Int32} (q : Nat) : va_A (kbW h0 hv hm d1 d2 V M nv nm) sz q ↔ kA h0 hv hm sz q := by
  constructor
  · rintro (⟨k, e, hk⟩ | h)
    · match k, hk with
      | 0, hk => cases hk; exact Or.inl rfl
      | 1, hk => cases hk; exact Or.inr (Or.inl rfl)
      | 2, hk => cases hk; exact Or.inr (Or.inr (Or.inl rfl))
      | k + 3, hk => simp [kbW] at hk
    · exact Or.inr (Or.inr (Or.inr h))
  · rintro (h | h | h | h)
    · subst h; exact Or.inl ⟨0, _, rfl⟩
    · subst h; exact Or.inl ⟨1, _, rfl⟩
    · subst h; exact Or.inl ⟨2, _, rfl⟩
    · exact Or.inr h
theorem kA_vm {h0 hv hm sz : Nat} {d1 d2 : ClassId} {V M : kF} (q : Nat) : va_A (mdW h0 hv hm d1 d2 V M) sz q ↔ kA h0 hv hm sz q := by
  constructor
  · rintro (⟨k, e, hk⟩ | h)
    · match k, hk with
      | 0, hk => cases hk; exact Or.inl rfl
      | 1, hk => cases hk; exact Or.inr (Or.inl rfl)
      | 2, hk => cases hk; exact Or.inr (Or.inr (Or.inl rfl))
      | k + 3, hk => simp [mdW] at hk
    · exact Or.inr (Or.inr (Or.inr h))
  · rintro (h | h | h | h)
    · subst h; exact Or.inl ⟨0, _, rfl⟩
    · subst h; exact Or.inl ⟨1, _, rfl⟩
    · subst h; exact Or.inl ⟨2, _, rfl⟩
    · exact Or.inr h
theorem kb_free {h0 hv hm : Nat} {A : Nat → Prop} {H0 H : Heap} {locs : List Loc} (hA : ∀ q, kA h0 hv hm H0.size q → A q) (hS : va_S A H0 H locs) : ∀ q, kA h0 hv hm H.size q → A q := by
  intro q h
  apply hA
  rcases h with h | h | h | h
  · exact Or.inl h
  · exact Or.inr (Or.inl h)
  · exact Or.inr (Or.inr (Or.inl h))
  · exact Or.inr (Or.inr (Or.inr (Nat.le_trans hS.1 h)))
section KL
variable {p : Program} {l : Launch} {e : Env} {R : Room} {s : State} {m : MethodId} {args : Array Value} {below : List Frame} {meth : Method} {c : Code} {cells slots : Nat} {Q : State → Prop}
/-- a join: what holds behind it is shown once -/
theorem kj {α : Type} {H : Heap} {locs : List Loc} {g : α → JFrame} {g0 : JFrame} (P : α → Prop) (h1 : (∀ z, P z → W p l e R s m args below meth c H locs cells slots Q (g z)) → W p l e R s m args below meth c H locs cells slots Q g0) (h2 : ∀ z, P z → W p l e R s m args below meth c H locs cells slots Q (g z)) : W p l e R s m args below meth c H locs cells slots Q g0 := h1 h2
/-- a loop that counts up to N, the heap as it is -/
theorem kup {α : Type} {H : Heap} {locs : List Loc} (N : Nat) (I : Nat → α → Prop) (lv : Nat → α → List (Nat × Value)) {pc nL : Nat}
    (hx : ∀ (a : α) (ls : Array Slot), I N a → lv_has ls nL (lv N a) → W p l e R s m args below meth c H locs cells slots Q (F0 m pc ls []))
    (hs : ∀ (i : Nat) (a : α) (ls : Array Slot), i < N → I i a → lv_has ls nL (lv i a) → (∀ (a' : α) (ls' : Array Slot), I (i + 1) a' → lv_has ls' nL (lv (i + 1) a') → W p l e R s m args below meth c H locs cells slots Q (F0 m pc ls' [])) → W p l e R s m args below meth c H locs cells slots Q (F0 m pc ls [])) :
    ∀ (i : Nat) (a : α) (ls : Array Slot), i ≤ N → I i a → lv_has ls nL (lv i a) → W p l e R s m args below meth c H locs cells slots Q (F0 m pc ls []) := by
  have key : ∀ (k i : Nat) (a : α) (ls : Array Slot), i + k = N → I i a → lv_has ls nL (lv i a) → W p l e R s m args below meth c H locs cells slots Q (F0 m pc ls []) := by
    intro k
    induction k with
    | zero =>
      intro i a ls h hI hl
      have h2 : i = N := by omega
      rw [h2] at hI hl
      exact hx a ls hI hl
    | succ k ih =>
      intro i a ls h hI hl
      exact hs i a ls (by omega) hI hl (fun a' ls' h1 h2 => ih (i + 1) a' ls' (by omega) h1 h2)
  intro i a ls h
  exact key (N - i) i a ls (by omega)
/-- a loop that counts down to 0, the heap as it is -/
theorem kdn {α : Type} {H : Heap} {locs : List Loc} (I : Nat → α → Prop) (lv : Nat → α → List (Nat × Value)) {pc nL : Nat}
    (hx : ∀ (a : α) (ls : Array Slot), I 0 a → lv_has ls nL (lv 0 a) → W p l e R s m args below meth c H locs cells slots Q (F0 m pc ls []))
    (hs : ∀ (r : Nat) (a : α) (ls : Array Slot), I (r + 1) a → lv_has ls nL (lv (r + 1) a) → (∀ (a' : α) (ls' : Array Slot), I r a' → lv_has ls' nL (lv r a') → W p l e R s m args below meth c H locs cells slots Q (F0 m pc ls' [])) → W p l e R s m args below meth c H locs cells slots Q (F0 m pc ls [])) :
    ∀ (r : Nat) (a : α) (ls : Array Slot), I r a → lv_has ls nL (lv r a) → W p l e R s m args below meth c H locs cells slots Q (F0 m pc ls []) := by
  intro r
  induction r with
  | zero => intro a ls hI hl; exact hx a ls hI hl
  | succ r ih => intro a ls hI hl; exact hs r a ls hI hl ih
/-- a loop that counts up to N and writes cells of its world -/
theorem kupH {α : Type} (N : Nat) (I : Nat → α → Prop) (lv : Nat → α → List (Nat × Value)) (ws : α → va_W) {D : va_G} {cl : List vw_C} {A : Nat → Prop} {H0 : Heap} {pc nL : Nat}
    (hx : ∀ (a : α) (ls : Array Slot) (H : Heap) (locs : List Loc), I N a → lv_has ls nL (lv N a) → va_P D cl (ws a) H → va_D A (ws a) → va_S A H0 H locs → W p l e R s m args below meth c H locs cells slots Q (F0 m pc ls []))
    (hs : ∀ (i : Nat) (a : α) (ls : Array Slot) (H : Heap) (locs : List Loc), i < N → I i a → lv_has ls nL (lv i a) → va_P D cl (ws a) H → va_D A (ws a) → va_S A H0 H locs → (∀ (a' : α) (ls' : Array Slot) (H : Heap) (locs : List Loc), I (i + 1) a' → lv_has ls' nL (lv (i + 1) a') → va_P D cl (ws a') H → va_D A (ws a') → va_S A H0 H locs → W p l e R s m args below meth c H locs cells slots Q (F0 m pc ls' [])) → W p l e R s m args below meth c H locs cells slots Q (F0 m pc ls [])) :
    ∀ (i : Nat) (a : α) (ls : Array Slot) (H : Heap) (locs : List Loc), i ≤ N → I i a → lv_has ls nL (lv i a) → va_P D cl (ws a) H → va_D A (ws a) → va_S A H0 H locs → W p l e R s m args below meth c H locs cells slots Q (F0 m pc ls []) := by
  have key : ∀ (k i : Nat) (a : α) (ls : Array Slot) (H : Heap) (locs : List Loc), i + k = N → I i a → lv_has ls nL (lv i a) → va_P D cl (ws a) H → va_D A (ws a) → va_S A H0 H locs → W p l e R s m args below meth c H locs cells slots Q (F0 m pc ls []) := by
    intro k
    induction k with
    | zero =>
      intro i a ls H locs h hI hl hP hD hS
      have h2 : i = N := by omega
      rw [h2] at hI hl
      exact hx a ls H locs hI hl hP hD hS
    | succ k ih =>
      intro i a ls H locs h hI hl hP hD hS
      exact hs i a ls H locs (by omega) hI hl hP hD hS (fun a' ls' H' locs' h1 h2 h3 h4 h5 => ih (i + 1) a' ls' H' locs' (by omega) h1 h2 h3 h4 h5)
  intro i a ls H locs h
  exact key (N - i) i a ls H locs (by omega)
end KL
/-! ===== counters, bools, registers ===== -/
theorem k_inc (i : Nat) : nI i + Int32.ofInt 1 = nI (i + 1) := nI_1 i
/-- a counter that falls: r + 1 stands for nI r, 0 for -1 -/
def kc : Nat → Int32
  | 0 => -1
  | r + 1 => nI r
theorem k_dec (r : Nat) : nI r + Int32.ofInt (-1) = kc r := by
  cases r with
  | zero => decide +kernel
  | succ r => exact pk_m1 r
theorem k_nn {r : Nat} (h : r < 64) : ¬ nI r < 0 := nI_pos (by omega)
theorem k_nn' {r : Nat} (h : r < 64) : (0 : Int32) ≤ nI r := nI_pos' (by omega)
theorem k64 {i : Nat} (h : i < 64) : ¬ (64 : Int32) ≤ nI i := nI_ge h (by decide)
theorem k64e : (64 : Int32) ≤ nI 64 := by decide +kernel
theorem k6 {i : Nat} (h : i < 6) : ¬ (6 : Int32) ≤ nI i := nI_ge h (by decide)
theorem k6e : (6 : Int32) ≤ nI 6 := by decide +kernel
theorem kb_tt {P : Prop} [Decidable P] {r : Int32} (h : r = if P then 1 else 0) (c : ¬ r = 0) : P := by
  by_cases hp : P
  · exact hp
  · rw [if_neg hp] at h; exact absurd h c
theorem kb_tf {P : Prop} [Decidable P] {r : Int32} (h : r = if P then 1 else 0) (c : r = 0) : ¬ P := by
  intro hp
  rw [if_pos hp, c] at h
  exact absurd h (by decide)
theorem kb_ft {P : Prop} [Decidable P] {r : Int32} (h : r = if P then 0 else 1) (c : r = 0) : P := by
  by_cases hp : P
  · exact hp
  · rw [if_neg hp, c] at h; exact absurd h (by decide)
theorem kb_ff {P : Prop} [Decidable P] {r : Int32} (h : r = if P then 0 else 1) (c : ¬ r = 0) : ¬ P := by
  intro hp
  rw [if_pos hp] at h
  exact absurd h c
/-- a register's number -/
abbrev kR (x : Int32) : Prop := ¬ x < 0 ∧ ¬ 5 < x
theorem kR_nI {x : Int32} (h : kR x) : ∃ j : Nat, j < 6 ∧ x = nI j := by
  obtain ⟨j, h1, h2⟩ := nI_of2 (x := x) (M := 5) (n := 5) (by decide +kernel) h.1 (Int32.not_lt.mp h.2)
  exact ⟨j, by omega, h2⟩
theorem kR_in {x : Int32} (h : kR x) : vp_in x 6 := by
  obtain ⟨j, h1, h2⟩ := kR_nI h
  rw [h2]
  exact vp_in_nI h1 (by decide)
end
section
/-! ===== what the methods compute, in plain words over Int32 (mirrors of the code, no machine) ===== -/
def kAddM (va ma vb mb : Int32) : Int32 := ((((va + vb) ^^^ ((va + vb) + ma + mb)) ||| ma) ||| mb) &&& 63
def kAddV (va ma vb mb : Int32) : Int32 := ((va + vb) &&& (kAddM va ma vb mb ^^^ (-1))) &&& 63
def kSubM (va ma vb mb : Int32) : Int32 := (((((va - vb) + ma) ^^^ ((va - vb) - mb)) ||| ma) ||| mb) &&& 63
def kSubV (va ma vb mb : Int32) : Int32 := ((va - vb) &&& (kSubM va ma vb mb ^^^ (-1))) &&& 63
def kBitV (k va ma vb mb : Int32) : Int32 := if k = 2 then va &&& vb else if k = 3 then va ||| vb else (va ^^^ vb) &&& ((ma ||| mb) ^^^ (-1))
def kBitM (k va ma vb mb : Int32) : Int32 := if k = 2 then ((va ||| ma) &&& (vb ||| mb)) &&& ((va &&& vb) ^^^ (-1)) else if k = 3 then (ma ||| mb) &&& ((va ||| vb) ^^^ (-1)) else ma ||| mb
def kConf (va ma vb mb : Int32) : Int32 := ((va ^^^ vb) &&& (ma ^^^ (-1))) &&& (mb ^^^ (-1))
def kCmV (k va ma vb mb : Int32) : Int32 := if k = 0 then kAddV va ma vb mb else if k = 1 then kSubV va ma vb mb else if 4 < k then (if k = 5 then va &&& (((ma ||| mb) ||| (va ^^^ vb)) ^^^ (-1)) else va ||| vb) else kBitV k va ma vb mb
def kCmM (k va ma vb mb : Int32) : Int32 := if k = 0 then kAddM va ma vb mb else if k = 1 then kSubM va ma vb mb else if 4 < k then (if k = 5 then (ma ||| mb) ||| (va ^^^ vb) else ma &&& mb) else kBitM k va ma vb mb
abbrev kOut : Type := Int32 × kF × kF
def kOpC (V M : kF) (d k a b : Int32) : kOut :=
  if kR d then (if kR a then (if kR b then (if k < 0 then (-1, V, M) else if k ≤ 6 then (if k = 6 then (if kConf (V a.toNatClampNeg) (M a.toNatClampNeg) (V b.toNatClampNeg) (M b.toNatClampNeg) = 0 then (0, upd V d.toNatClampNeg (kCmV k (V a.toNatClampNeg) (M a.toNatClampNeg) (V b.toNatClampNeg) (M b.toNatClampNeg)), upd M d.toNatClampNeg (kCmM k (V a.toNatClampNeg) (M a.toNatClampNeg) (V b.toNatClampNeg) (M b.toNatClampNeg))) else (-2, V, M)) else (0, upd V d.toNatClampNeg (kCmV k (V a.toNatClampNeg) (M a.toNatClampNeg) (V b.toNatClampNeg) (M b.toNatClampNeg)), upd M d.toNatClampNeg (kCmM k (V a.toNatClampNeg) (M a.toNatClampNeg) (V b.toNatClampNeg) (M b.toNatClampNeg)))) else (-1, V, M)) else (-1, V, M)) else (-1, V, M)) else (-1, V, M)
def kShV (v n : Int32) : Int32 := if n < 0 then v >>> ((-n) &&& 31) else (v <<< (n &&& 31)) &&& 63
def kOpS (V M : kF) (d a n : Int32) : kOut :=
  if kR d then (if kR a then (if n < (-6) then (-1, V, M) else if n ≤ 6 then (0, upd V d.toNatClampNeg (kShV (V a.toNatClampNeg) n), upd M d.toNatClampNeg (kShV (M a.toNatClampNeg) n)) else (-1, V, M)) else (-1, V, M)) else (-1, V, M)
def kOpSet (V M : kF) (r v m : Int32) : kOut := if kR r then (0, upd V r.toNatClampNeg ((v &&& 63) &&& (m ^^^ (-1))), upd M r.toNatClampNeg (m &&& 63)) else (-1, V, M)
/-- leastFrom -/
def lfS (v f p : Int32) (r : Nat) : Int32 := if (v ||| (p &&& (((1 : Int32) <<< (nI r &&& 31)) ^^^ (-1)))) < f then p else p &&& (((1 : Int32) <<< (nI r &&& 31)) ^^^ (-1))
def lfF (v f : Int32) : Nat → Int32 → Int32
  | 0, p => p
  | r + 1, p => lfF v f r (lfS v f p r)
def kLf (v m f : Int32) : Int32 := if f ≤ (v ||| m) then v ||| lfF v f 6 m else 64
/-- bits -/
def btF (s : Int32) : Nat → Int32
  | 0 => 0
  | i + 1 => btF s i + ((s >>> (nI i &&& 31)) &&& 1)
/-- rank -/
def kBelow (m : Int32) (r : Nat) : Int32 := (1 : Int32) <<< (btF (m &&& (((1 : Int32) <<< (nI r &&& 31)) - 1)) 6 &&& 31)
def kOne (L : Int32) (r : Nat) : Int32 := if (L >>> (nI r &&& 31)) &&& 1 = 0 then 0 else 1
def rkL (v m L : Int32) : Nat → Int32 → Int32
  | 0, n => n + 1
  | r + 1, n => if (m >>> (nI r &&& 31)) &&& 1 = 0 then (if (v >>> (nI r &&& 31)) &&& 1 = (if kOne L r = 0 then 0 else 1) then rkL v m L r n else (if kOne L r = 0 then n else n + kBelow m r)) else rkL v m L r (n + (if kOne L r = 0 then 0 else kBelow m r))
theorem rkL_m {v m L n : Int32} {r : Nat} (h : ¬ (m >>> (nI r &&& 31)) &&& 1 = 0) : rkL v m L (r + 1) n = rkL v m L r (n + (if kOne L r = 0 then 0 else kBelow m r)) := by rw [rkL, if_neg h]
theorem rkL_e {v m L n : Int32} {r : Nat} (h : (m >>> (nI r &&& 31)) &&& 1 = 0) (h2 : (v >>> (nI r &&& 31)) &&& 1 = (if kOne L r = 0 then 0 else 1)) : rkL v m L (r + 1) n = rkL v m L r n := by rw [rkL, if_pos h, if_pos h2]
theorem rkL_n {v m L n : Int32} {r : Nat} (h : (m >>> (nI r &&& 31)) &&& 1 = 0) (h2 : ¬ (v >>> (nI r &&& 31)) &&& 1 = (if kOne L r = 0 then 0 else 1)) : rkL v m L (r + 1) n = if kOne L r = 0 then n else n + kBelow m r := by rw [rkL, if_pos h, if_neg h2]
def kRk (v m L : Int32) : Int32 := if 0 ≤ L then (if L ≤ 63 then rkL v m L 6 0 else (1 : Int32) <<< (btF m 6 &&& 31)) else 0
/-- narrowed -/
abbrev nrF (low : Int32) : Int32 := if 0 ≤ low then low else 0
abbrev nrH (high : Int32) : Int32 := if high ≤ 63 then high else 63
abbrev nrC (v m low high : Int32) : Prop := kLf v m (nrF low) ≤ nrH high
def nrB (r : Nat) : Int32 := (1 : Int32) <<< (nI r &&& 31)
def nrZ (w h : Int32) : Int32 := if 64 ≤ w then 0 else if h < w then 0 else 1
def nrM (z o nm b : Int32) : Int32 := if z = 0 then nm &&& (b ^^^ (-1)) else if o = 0 then nm &&& (b ^^^ (-1)) else nm
def nrV (z o nv b : Int32) : Int32 := if o = 0 then nv else if z = 0 then nv ||| b else nv
def nrZ0 (v m f h : Int32) (r : Nat) : Int32 := nrZ (kLf v (m &&& (nrB r ^^^ (-1))) f) h
def nrZ1 (v m f h : Int32) (r : Nat) : Int32 := nrZ (kLf (v ||| nrB r) (m &&& (nrB r ^^^ (-1))) f) h
def nrL (v m f h : Int32) : Nat → Int32 × Int32
  | 0 => (v, m)
  | r + 1 => if m &&& nrB r = 0 then nrL v m f h r else (nrV (nrZ0 v m f h r) (nrZ1 v m f h r) (nrL v m f h r).1 (nrB r), nrM (nrZ0 v m f h r) (nrZ1 v m f h r) (nrL v m f h r).2 (nrB r))
theorem nrL_0 {v m f h : Int32} {r : Nat} (c : m &&& nrB r = 0) : nrL v m f h (r + 1) = nrL v m f h r := by rw [nrL, if_pos c]
theorem nrL_1 {v m f h : Int32} {r : Nat} (c : ¬ m &&& nrB r = 0) : nrL v m f h (r + 1) = (nrV (nrZ0 v m f h r) (nrZ1 v m f h r) (nrL v m f h r).1 (nrB r), nrM (nrZ0 v m f h r) (nrZ1 v m f h r) (nrL v m f h r).2 (nrB r)) := by rw [nrL, if_neg c]
def kOpN (V M : kF) (r low high : Int32) : kOut := if kR r then (if nrC (V r.toNatClampNeg) (M r.toNatClampNeg) low high then (0, upd V r.toNatClampNeg (nrL (V r.toNatClampNeg) (M r.toNatClampNeg) (nrF low) high 6).1, upd M r.toNatClampNeg (nrL (V r.toNatClampNeg) (M r.toNatClampNeg) (nrF low) high 6).2) else (-2, V, M)) else (-1, V, M)
/-- suppose -/
def kSoV (V M : kF) (a b d : Int32) : Int32 := (nrL (V a.toNatClampNeg) (M a.toNatClampNeg) (nrF 0) ((V b.toNatClampNeg ||| M b.toNatClampNeg) - d) 6).1
def kSoM (V M : kF) (a b d : Int32) : Int32 := (nrL (V a.toNatClampNeg) (M a.toNatClampNeg) (nrF 0) ((V b.toNatClampNeg ||| M b.toNatClampNeg) - d) 6).2
def kSo (V M : kF) (a b d : Int32) : kOut :=
  if nrC (V a.toNatClampNeg) (M a.toNatClampNeg) 0 ((V b.toNatClampNeg ||| M b.toNatClampNeg) - d) then
    (0, upd (upd V b.toNatClampNeg (if nrC (V b.toNatClampNeg) (M b.toNatClampNeg) (V a.toNatClampNeg + d) 63 then (nrL (V b.toNatClampNeg) (M b.toNatClampNeg) (nrF (V a.toNatClampNeg + d)) 63 6).1 else kSoV V M a b d)) a.toNatClampNeg (kSoV V M a b d),
        upd (upd M b.toNatClampNeg (if nrC (V b.toNatClampNeg) (M b.toNatClampNeg) (V a.toNatClampNeg + d) 63 then (nrL (V b.toNatClampNeg) (M b.toNatClampNeg) (nrF (V a.toNatClampNeg + d)) 63 6).2 else kSoM V M a b d)) a.toNatClampNeg (kSoM V M a b d))
  else (-2, V, M)
def kTkV (V M : kF) (r n : Int32) : kF := if M r.toNatClampNeg &&& (M r.toNatClampNeg - 1) = 0 then (if (n ^^^ V r.toNatClampNeg) &&& (M r.toNatClampNeg ^^^ (-1)) = 0 then upd V r.toNatClampNeg (n ^^^ M r.toNatClampNeg) else V) else V
def kTkM (V M : kF) (r n : Int32) : kF := if M r.toNatClampNeg &&& (M r.toNatClampNeg - 1) = 0 then (if (n ^^^ V r.toNatClampNeg) &&& (M r.toNatClampNeg ^^^ (-1)) = 0 then upd M r.toNatClampNeg 0 else M) else M
def kSd2 (V M : kF) (a b : Int32) : kOut := if M b.toNatClampNeg = 0 then (0, kTkV V M a (V b.toNatClampNeg), kTkM V M a (V b.toNatClampNeg)) else if M a.toNatClampNeg = 0 then (0, kTkV V M b (V a.toNatClampNeg), kTkM V M b (V a.toNatClampNeg)) else (0, V, M)
def kSd (V M : kF) (a b : Int32) : kOut := if M a.toNatClampNeg = 0 then (if M b.toNatClampNeg = 0 then (if V a.toNatClampNeg = V b.toNatClampNeg then (-2, V, M) else (0, V, M)) else kSd2 V M a b) else kSd2 V M a b
def kSe (V M : kF) (a b : Int32) : kOut := if (kOpC V M a 6 a b).1 = 0 then ((kOpC V M a 6 a b).1, upd (kOpC V M a 6 a b).2.1 b.toNatClampNeg ((kOpC V M a 6 a b).2.1 a.toNatClampNeg), upd (kOpC V M a 6 a b).2.2 b.toNatClampNeg ((kOpC V M a 6 a b).2.2 a.toNatClampNeg)) else kOpC V M a 6 a b
def kOpU (V M : kF) (a how b : Int32) : kOut :=
  if kR a then (if kR b then (if how < 0 then (-1, V, M) else if 5 < how then (-1, V, M) else if a = b then (-1, V, M) else
    if how = 0 then kSe V M a b else if how = 1 then kSo V M a b 1 else if how = 2 then kSo V M a b 0 else if how = 3 then kSd V M a b else if how = 5 then kSo V M b a 1 else kSo V M b a 0) else (-1, V, M)) else (-1, V, M)
/-- compare -/
def kCe (va ma vb mb : Int32) : Int32 := if kConf va ma vb mb = 0 then (if ma = 0 then (if mb = 0 then 1 else 2) else 2) else 0
def kCl (va ma vb mb : Int32) : Int32 := if vb ≤ (va ||| ma) then (if va < (vb ||| mb) then 2 else 0) else 1
def kCp (how va ma vb mb : Int32) : Int32 := if how = 0 then kCe va ma vb mb else if how = 3 then (if kCe va ma vb mb = 2 then kCe va ma vb mb else 1 - kCe va ma vb mb) else if how = 1 then kCl va ma vb mb else if how = 4 then (if kCl va ma vb mb = 2 then kCl va ma vb mb else 1 - kCl va ma vb mb) else if how = 5 then kCl vb mb va ma else if kCl vb mb va ma = 2 then kCl vb mb va ma else 1 - kCl vb mb va ma
def kOpQ (V M : kF) (a how b : Int32) : Int32 := if kR a then (if kR b then (if how < 0 then -1 else if how ≤ 5 then kCp how (V a.toNatClampNeg) (M a.toNatClampNeg) (V b.toNatClampNeg) (M b.toNatClampNeg) else -1) else -1) else -1
def kOpL (V M : kF) (r f : Int32) : Int32 := if kR r then kLf (V r.toNatClampNeg) (M r.toNatClampNeg) f else -1
def kOpK (V M : kF) (r low high : Int32) : Int32 := if kR r then (if low ≤ high then (if 0 < low then kRk (V r.toNatClampNeg) (M r.toNatClampNeg) high - kRk (V r.toNatClampNeg) (M r.toNatClampNeg) (low - 1) else kRk (V r.toNatClampNeg) (M r.toNatClampNeg) high) else 0) else -1
/-! ===== the reference: sets of numbers as bits ===== -/
def lb (s : Int64) (k : Nat) : Bool := s.toBitVec.getLsbD k
abbrev kIn (v m n : Int32) : Prop := n &&& (m ^^^ (-1)) = v
def kBi (x : Int32) : Int64 := (1 : Int64) <<< (x.toInt64 &&& 63)
def kRes (k x y vb mb : Int32) : Int64 := if k = 0 then kBi ((x + y) &&& 63) else if k = 1 then kBi ((x - y) &&& 63) else if k = 2 then kBi (x &&& y) else if k = 3 then kBi (x ||| y) else if k = 4 then kBi (x ^^^ y) else if k = 5 then kBi x ||| kBi y else if kIn vb mb x then kBi x else 0
/-- keep: the first number of the set, and where the others differ from it -/
def kpF (S : Nat → Bool) : Nat → Option Nat × Nat
  | 0 => (none, 0)
  | n + 1 => if S n = true then (some ((kpF S n).1.getD n), (kpF S n).2 ||| (n ^^^ (kpF S n).1.getD n)) else kpF S n
def kpI (o : Option Nat) : Int32 := match o with
  | none => -1
  | some f => nI f
def kK (V M : kF) (r : Int32) (s : Int64) : kOut := if (kpF (lb s) 64).1 = none then (-2, V, M) else (0, upd V r.toNatClampNeg (kpI (kpF (lb s) 64).1 &&& (nI (kpF (lb s) 64).2 ^^^ (-1))), upd M r.toNatClampNeg (nI (kpF (lb s) 64).2))
def sbI (s : Int64) (A : Nat → Prop) : Prop := ∀ k, lb s k = true ↔ A k
def sbO (Q : Nat → Nat → Nat → Prop) (x k : Nat) : Prop := ∃ i, i < x ∧ ∃ j, j < 64 ∧ Q i j k
def sbN (Q : Nat → Nat → Nat → Prop) (x y k : Nat) : Prop := sbO Q x k ∨ ∃ j, j < y ∧ Q x j k
def sbL (Q : Nat → Nat → Prop) (x k : Nat) : Prop := ∃ i, i < x ∧ Q i k
theorem lb_or (a b : Int64) (k : Nat) : lb (a ||| b) k = (lb a k || lb b k) := by unfold lb; rw [Int64.toBitVec_or, BitVec.getLsbD_or]
theorem lb_0 (k : Nat) : lb 0 k = false := BitVec.getLsbD_zero
theorem sb0 {Q : Nat → Nat → Nat → Prop} : sbI 0 (sbO Q 0) := by
  intro k
  rw [lb_0]
  constructor
  · intro h; exact absurd h (by decide)
  · rintro ⟨i, h, -⟩; exact absurd h (Nat.not_lt_zero i)
theorem sbL0 {Q : Nat → Nat → Prop} : sbI 0 (sbL Q 0) := by
  intro k
  rw [lb_0]
  constructor
  · intro h; exact absurd h (by decide)
  · rintro ⟨i, h, -⟩; exact absurd h (Nat.not_lt_zero i)
theorem sbN0 {Q : Nat → Nat → Nat → Prop} {x k : Nat} : sbN Q x 0 k ↔ sbO Q x k := by
  constructor
  · rintro (h | ⟨j, h, -⟩)
    · exact h
    · exact absurd h (Nat.not_lt_zero j)
  · exact Or.inl
theorem sbN64 {Q : Nat → Nat → Nat → Prop} {x k : Nat} : sbN Q x 64 k ↔ sbO Q (x + 1) k := by
  constructor
  · rintro (⟨i, hi, h⟩ | ⟨j, hj, h⟩)
    · exact ⟨i, by omega, h⟩
    · exact ⟨x, by omega, j, hj, h⟩
  · rintro ⟨i, hi, j, hj, h⟩
    by_cases e : i = x
    · subst e; exact Or.inr ⟨j, hj, h⟩
    · exact Or.inl ⟨i, by omega, j, hj, h⟩
theorem sbNs {Q : Nat → Nat → Nat → Prop} {x y k : Nat} : sbN Q x (y + 1) k ↔ sbN Q x y k ∨ Q x y k := by
  constructor
  · rintro (h | ⟨j, hj, h⟩)
    · exact Or.inl (Or.inl h)
    · by_cases e : j = y
      · subst e; exact Or.inr h
      · exact Or.inl (Or.inr ⟨j, by omega, h⟩)
  · rintro ((h | ⟨j, hj, h⟩) | h)
    · exact Or.inl h
    · exact Or.inr ⟨j, by omega, h⟩
    · exact Or.inr ⟨y, by omega, h⟩
theorem sbLs {Q : Nat → Nat → Prop} {x k : Nat} : sbL Q (x + 1) k ↔ sbL Q x k ∨ Q x k := by
  constructor
  · rintro ⟨i, hi, h⟩
    by_cases e : i = x
    · subst e; exact Or.inr h
    · exact Or.inl ⟨i, by omega, h⟩
  · rintro (⟨i, hi, h⟩ | h)
    · exact ⟨i, by omega, h⟩
    · exact ⟨x, by omega, h⟩
theorem sbIn {Q : Nat → Nat → Nat → Prop} {s : Int64} {x : Nat} (h : sbI s (sbO Q x)) : sbI s (sbN Q x 0) := fun k => (h k).trans sbN0.symm
theorem sbOut {Q : Nat → Nat → Nat → Prop} {s : Int64} {x : Nat} (h : sbI s (sbN Q x 64)) : sbI s (sbO Q (x + 1)) := fun k => (h k).trans sbN64
theorem sbYes {Q : Nat → Nat → Nat → Prop} {s g : Int64} {x y : Nat} (h : sbI s (sbN Q x y)) (hg : ∀ k, Q x y k ↔ lb g k = true) : sbI (s ||| g) (sbN Q x (y + 1)) := by
  intro k
  rw [lb_or, sbNs, Bool.or_eq_true, h k, hg k]
theorem sbNo {Q : Nat → Nat → Nat → Prop} {s : Int64} {x y : Nat} (h : sbI s (sbN Q x y)) (hg : ∀ k, ¬ Q x y k) : sbI s (sbN Q x (y + 1)) := by
  intro k
  rw [sbNs, h k]
  exact ⟨Or.inl, fun q => q.elim id (fun z => absurd z (hg k))⟩
theorem sbLYes {Q : Nat → Nat → Prop} {s g : Int64} {x : Nat} (h : sbI s (sbL Q x)) (hg : ∀ k, Q x k ↔ lb g k = true) : sbI (s ||| g) (sbL Q (x + 1)) := by
  intro k
  rw [lb_or, sbLs, Bool.or_eq_true, h k, hg k]
theorem sbLNo {Q : Nat → Nat → Prop} {s : Int64} {x : Nat} (h : sbI s (sbL Q x)) (hg : ∀ k, ¬ Q x k) : sbI s (sbL Q (x + 1)) := by
  intro k
  rw [sbLs, h k]
  exact ⟨Or.inl, fun q => q.elim id (fun z => absurd z (hg k))⟩
/-- a bool that says A -/
def cpI (b : Int32) (A : Prop) : Prop := (b = 1 ∧ A) ∨ (b = 0 ∧ ¬ A)
theorem cpI_iff {b : Int32} {A B : Prop} (h : cpI b A) (e : A ↔ B) : cpI b B := h.elim (fun q => Or.inl ⟨q.1, e.mp q.2⟩) (fun q => Or.inr ⟨q.1, fun z => q.2 (e.mpr z)⟩)
def kHo (x how y : Int32) : Int32 := if how = 0 then (if x = y then 1 else 0) else if how = 1 then (if y ≤ x then 0 else 1) else if how = 2 then (if y < x then 0 else 1) else if how = 3 then (if x = y then 0 else 1) else if how = 4 then (if x < y then 0 else 1) else (if x ≤ y then 0 else 1)
/-- the least number of a pattern from f on -/
def lsP (v m f r : Int32) : Prop := (∃ n, n < 64 ∧ r = nI n ∧ ¬ nI n < f ∧ kIn v m (nI n) ∧ ∀ j, j < n → nI j < f ∨ ¬ kIn v m (nI j)) ∨ (r = 64 ∧ ∀ j, j < 64 → nI j < f ∨ ¬ kIn v m (nI j))
def ctF (v m lo hi : Int32) : Nat → Nat
  | 0 => 0
  | n + 1 => if kIn v m (nI n) then (if nI n < lo then ctF v m lo hi n else if hi < nI n then ctF v m lo hi n else ctF v m lo hi n + 1) else ctF v m lo hi n
def kShR (x n up dn : Int32) : Int32 := if n < 0 then (if dn ≤ 0 then 0 else x / dn) else x * up - x * up / 64 * 64
def kPw (n : Int32) : Nat := 2 ^ (min n.toNatClampNeg 6)
def cmQ (k va ma vb mb : Int32) (i j n : Nat) : Prop := kIn va ma (nI i) ∧ kIn vb mb (nI j) ∧ lb (kRes k (nI i) (nI j) vb mb) n = true
def spL (how va ma vb mb : Int32) (i j n : Nat) : Prop := (kIn va ma (nI i) ∧ kIn vb mb (nI j) ∧ ¬ kHo (nI i) how (nI j) = 0) ∧ lb (kBi (nI i)) n = true
def spR (how va ma vb mb : Int32) (i j n : Nat) : Prop := (kIn va ma (nI i) ∧ kIn vb mb (nI j) ∧ ¬ kHo (nI i) how (nI j) = 0) ∧ lb (kBi (nI j)) n = true
def cqS (how va ma vb mb : Int32) (i j _k : Nat) : Prop := kIn va ma (nI i) ∧ kIn vb mb (nI j) ∧ ¬ kHo (nI i) how (nI j) = 0
def cqA (how va ma vb mb : Int32) (i j _k : Nat) : Prop := kIn va ma (nI i) ∧ kIn vb mb (nI j) ∧ kHo (nI i) how (nI j) = 0
def shQ (va ma n up dn : Int32) (i k : Nat) : Prop := kIn va ma (nI i) ∧ lb (kBi (kShR (nI i) n up dn)) k = true
def nwQ (v m lo hi : Int32) (i k : Nat) : Prop := kIn v m (nI i) ∧ (¬ nI i < lo ∧ ¬ hi < nI i) ∧ lb (kBi (nI i)) k = true
theorem cpI0 {Q : Nat → Nat → Nat → Prop} : cpI 0 (sbO Q 0 0) := Or.inr ⟨rfl, fun ⟨i, h, _⟩ => absurd h (Nat.not_lt_zero i)⟩
theorem cpN0 {Q : Nat → Nat → Nat → Prop} : cpI 1 (¬ sbO Q 0 0) := Or.inl ⟨rfl, fun ⟨i, h, _⟩ => absurd h (Nat.not_lt_zero i)⟩
theorem cpNo {Q : Nat → Nat → Nat → Prop} {b : Int32} {x y : Nat} (h : cpI b (sbN Q x y 0)) (n : ¬ Q x y 0) : cpI b (sbN Q x (y + 1) 0) := cpI_iff h ⟨fun z => sbNs.mpr (Or.inl z), fun z => (sbNs.mp z).elim id (fun q => absurd q n)⟩
theorem cpNn {Q : Nat → Nat → Nat → Prop} {b : Int32} {x y : Nat} (h : cpI b (¬ sbN Q x y 0)) (n : ¬ Q x y 0) : cpI b (¬ sbN Q x (y + 1) 0) := cpI_iff h ⟨fun z q => z ((sbNs.mp q).elim id (fun q => absurd q n)), fun z q => z (sbNs.mpr (Or.inl q))⟩
theorem cpYes {Q : Nat → Nat → Nat → Prop} {x y : Nat} (n : Q x y 0) : cpI 1 (sbN Q x (y + 1) 0) := Or.inl ⟨rfl, sbNs.mpr (Or.inr n)⟩
theorem cpYn {Q : Nat → Nat → Nat → Prop} {x y : Nat} (n : Q x y 0) : cpI 0 (¬ sbN Q x (y + 1) 0) := Or.inr ⟨rfl, fun h => h (sbNs.mpr (Or.inr n))⟩
end
section
/-! ===== Int32 and Int64 by their bits (rows of kit/laws/BITS.to-paste and NUMBERS.to-paste, turned to this claim) ===== -/
def bt (x : Int32) (i : Nat) : Bool := x.toBitVec.getLsbD i
theorem b_ext {x y : Int32} (h : ∀ i, i < 32 → bt x i = bt y i) : x = y := Int32.toBitVec_inj.mp (BitVec.eq_of_getLsbD_eq (fun i hi => h i hi))
theorem b_or (x y : Int32) (i : Nat) : bt (x ||| y) i = (bt x i || bt y i) := by unfold bt; rw [Int32.toBitVec_or, BitVec.getLsbD_or]
theorem b_and (x y : Int32) (i : Nat) : bt (x &&& y) i = (bt x i && bt y i) := by unfold bt; rw [Int32.toBitVec_and, BitVec.getLsbD_and]
theorem b_xor (x y : Int32) (i : Nat) : bt (x ^^^ y) i = (bt x i ^^ bt y i) := by unfold bt; rw [Int32.toBitVec_xor, BitVec.getLsbD_xor]
theorem b_m1 : ∀ i, i < 32 → bt (-1) i = true := by decide +kernel
theorem b_0 (i : Nat) : bt 0 i = false := BitVec.getLsbD_zero
theorem s_l : ∀ n, n < 32 → ((nI n &&& 31).toBitVec.smod 32).toNat = n := by decide +kernel
theorem b_shl (n : Nat) (hn : n < 32) (x : Int32) {i : Nat} (hi : i < 32) : bt (x <<< (nI n &&& 31)) i = (decide (n ≤ i) && bt x (i - n)) := by
  unfold bt
  rw [Int32.toBitVec_shiftLeft]
  show (x.toBitVec <<< ((nI n &&& 31).toBitVec.smod 32).toNat).getLsbD i = _
  rw [s_l n hn, BitVec.getLsbD_shiftLeft]
  rcases Nat.lt_or_ge i n with h | h
  · simp [h, Nat.not_le.mpr h]
  · simp [hi, h, Nat.not_lt.mpr h]
theorem b_sshr (n : Nat) (hn : n < 32) (x : Int32) {i : Nat} (hi : i < 32) : bt (x >>> (nI n &&& 31)) i = if n + i < 32 then bt x (n + i) else bt x 31 := by
  unfold bt
  rw [Int32.toBitVec_shiftRight]
  show (x.toBitVec.sshiftRight ((nI n &&& 31).toBitVec.smod 32).toNat).getLsbD i = _
  rw [s_l n hn, BitVec.getLsbD_sshiftRight, BitVec.msb_eq_getLsbD_last]
  simp [hi]
theorem nx_and (a b : Nat) : nI a &&& nI b = nI (a &&& b) := by
  apply Int32.toBitVec_inj.1
  show BitVec.ofNat 32 a &&& BitVec.ofNat 32 b = BitVec.ofNat 32 (a &&& b)
  apply BitVec.eq_of_getLsbD_eq
  intro i hi
  simp [hi]
theorem nx_or (a b : Nat) : nI a ||| nI b = nI (a ||| b) := by
  apply Int32.toBitVec_inj.1
  show BitVec.ofNat 32 a ||| BitVec.ofNat 32 b = BitVec.ofNat 32 (a ||| b)
  apply BitVec.eq_of_getLsbD_eq
  intro i hi
  simp [hi]
theorem nx_xor (a b : Nat) : nI a ^^^ nI b = nI (a ^^^ b) := by
  apply Int32.toBitVec_inj.1
  show BitVec.ofNat 32 a ^^^ BitVec.ofNat 32 b = BitVec.ofNat 32 (a ^^^ b)
  apply BitVec.eq_of_getLsbD_eq
  intro i hi
  simp [hi]
theorem b_nI {n i : Nat} (hi : i < 32) : bt (nI n) i = n.testBit i := by
  unfold bt
  show (BitVec.ofNat 32 n).getLsbD i = _
  rw [BitVec.getLsbD_ofNat, decide_eq_true hi, Bool.true_and]
theorem b_63 : ∀ i, i < 32 → bt 63 i = decide (i < 6) := by decide +kernel
theorem m_and_not (v m : Int32) : (v &&& 63) &&& ((m &&& 63) ^^^ (-1)) = (v &&& 63) &&& (m ^^^ (-1)) := by
  apply b_ext
  intro i hi
  simp only [b_and, b_xor, b_m1 i hi]
  cases bt 63 i <;> cases bt v i <;> cases bt m i <;> rfl
/-! ===== the reference's posts ===== -/
def mCm (V M : kF) (d k a b : Int32) (o : kOut) : Prop :=
  if kR d then (if kR a then (if kR b then (if k < 0 then o = (-1, V, M) else if k ≤ 6 then (∃ s, sbI s (sbO (cmQ k (V a.toNatClampNeg) (M a.toNatClampNeg) (V b.toNatClampNeg) (M b.toNatClampNeg)) 64) ∧ o = kK V M d s) else o = (-1, V, M)) else o = (-1, V, M)) else o = (-1, V, M)) else o = (-1, V, M)
def mSh (V M : kF) (d a n : Int32) (o : kOut) : Prop :=
  if kR d then (if kR a then (if n < (-6) then o = (-1, V, M) else if n ≤ 6 then (∃ s, sbI s (sbL (shQ (V a.toNatClampNeg) (M a.toNatClampNeg) n (nI (kPw n)) (nI (kPw (-n)))) 64) ∧ o = kK V M d s) else o = (-1, V, M)) else o = (-1, V, M)) else o = (-1, V, M)
def mNw (V M : kF) (r lo hi : Int32) (o : kOut) : Prop := if kR r then (∃ s, sbI s (sbL (nwQ (V r.toNatClampNeg) (M r.toNatClampNeg) lo hi) 64) ∧ o = kK V M r s) else o = (-1, V, M)
def mSp (V M : kF) (a how b : Int32) (o : kOut) : Prop :=
  if kR a then (if kR b then (if how < 0 then o = (-1, V, M) else if 5 < how then o = (-1, V, M) else if a = b then o = (-1, V, M) else
    ∃ s1 s2 r1 V1 M1, sbI s1 (sbO (spL how (V a.toNatClampNeg) (M a.toNatClampNeg) (V b.toNatClampNeg) (M b.toNatClampNeg)) 64) ∧ sbI s2 (sbO (spR how (V a.toNatClampNeg) (M a.toNatClampNeg) (V b.toNatClampNeg) (M b.toNatClampNeg)) 64) ∧ (r1, V1, M1) = kK V M a s1 ∧ o = kK V1 M1 b s2) else o = (-1, V, M)) else o = (-1, V, M)
def mCp (V M : kF) (a how b : Int32) (r : Int32) : Prop :=
  if kR a then (if kR b then (if how < 0 then r = -1 else if how ≤ 5 then
    (∃ sm al, cpI sm (sbO (cqS how (V a.toNatClampNeg) (M a.toNatClampNeg) (V b.toNatClampNeg) (M b.toNatClampNeg)) 64 0) ∧ cpI al (¬ sbO (cqA how (V a.toNatClampNeg) (M a.toNatClampNeg) (V b.toNatClampNeg) (M b.toNatClampNeg)) 64 0) ∧ r = (if al = 0 then (if sm = 0 then 0 else 2) else 1)) else r = -1) else r = -1) else r = -1
/-! ===== keep's loop ===== -/
theorem s_L : ∀ n, n < 64 → (((nI n).toInt64 &&& 63).toBitVec.smod 64).toNat = n := by decide +kernel
theorem lb_shr (s : Int64) {i : Nat} (hi : i < 64) : ((s >>> ((nI i).toInt64 &&& 63)) &&& 1) = 1 ↔ lb s i = true := by
  rw [← Int64.toBitVec_inj, Int64.toBitVec_and, Int64.toBitVec_shiftRight]
  show (s.toBitVec.sshiftRight (((nI i).toInt64 &&& 63).toBitVec.smod 64).toNat &&& 1#64) = 1#64 ↔ _
  rw [s_L i hi, BitVec.and_one_eq_setWidth_ofBool_getLsbD, BitVec.getLsbD_sshiftRight]
  have e : (!decide (64 ≤ 0) && if i + 0 < 64 then s.toBitVec.getLsbD (i + 0) else s.toBitVec.msb) = lb s i := by
    unfold lb
    simp [hi]
  rw [e]
  cases lb s i
  · exact ⟨fun z => absurd z (by decide), fun z => absurd z (by decide)⟩
  · exact ⟨fun _ => rfl, fun _ => by decide⟩
theorem lg_cmp1 (x : Int64) : lg_cmp x 1 = 0 ↔ x = 1 := by
  unfold lg_cmp
  by_cases h : x = 1
  · subst h
    exact ⟨fun _ => rfl, fun _ => by decide⟩
  · by_cases h2 : x > 1
    · rw [if_pos h2]; exact ⟨fun z => absurd z (by decide), fun z => absurd z h⟩
    · rw [if_neg h2, if_neg h]; exact ⟨fun z => absurd z (by decide), fun z => absurd z h⟩
theorem kpF_lt (S : Nat → Bool) : ∀ n f, (kpF S n).1 = some f → f < n := by
  intro n
  induction n with
  | zero => intro f h; exact absurd h (by simp [kpF])
  | succ n ih =>
    intro f h
    rw [kpF] at h
    by_cases hs : S n = true
    · rw [if_pos hs] at h
      cases hk : (kpF S n).1 with
      | none => rw [hk] at h; simp at h; omega
      | some g => rw [hk] at h; simp at h; have := ih g hk; omega
    · rw [if_neg hs] at h
      have := ih f h
      omega
theorem kpI_ge {S : Nat → Bool} {n : Nat} (hn : n ≤ 64) (h : ¬ (0 : Int32) ≤ kpI (kpF S n).1) : (kpF S n).1 = none := by
  cases hk : (kpF S n).1 with
  | none => rfl
  | some f =>
    rw [hk] at h
    have hf := kpF_lt S n f hk
    exact absurd (nI_pos' (n := f) (by omega)) h
theorem kpI_ge' {S : Nat → Bool} {n : Nat} (h : (0 : Int32) ≤ kpI (kpF S n).1) : ∃ f, (kpF S n).1 = some f := by
  cases hk : (kpF S n).1 with
  | none => rw [hk] at h; exact absurd h (by decide)
  | some f => exact ⟨f, rfl⟩
theorem kp_no {s : Int64} {i : Nat} {a : Option Nat × Nat} (hi : i < 64) (hI : a = kpF (lb s) i) (c : ¬ lg_cmp ((s >>> ((nI i).toInt64 &&& 63)) &&& 1) 1 = 0) : a = kpF (lb s) (i + 1) := by
  rw [lg_cmp1, lb_shr s hi] at c
  rw [kpF, if_neg c, hI]
theorem kp_y0 {s : Int64} {i : Nat} {a : Option Nat × Nat} (hi : i < 64) (hI : a = kpF (lb s) i) (c : lg_cmp ((s >>> ((nI i).toInt64 &&& 63)) &&& 1) 1 = 0) (c2 : ¬ (0 : Int32) ≤ kpI a.1) : ∃ y : Option Nat × Nat, y = kpF (lb s) (i + 1) ∧ nI y.2 = nI a.2 ||| (nI i ^^^ nI i) ∧ kpI y.1 = nI i := by
  rw [lg_cmp1, lb_shr s hi] at c
  subst hI
  have h := kpI_ge (by omega) c2
  refine ⟨_, rfl, ?_, ?_⟩
  · rw [kpF, if_pos c, h, nx_xor, nx_or]; rfl
  · rw [kpF, if_pos c, h]; rfl
theorem kp_y1 {s : Int64} {i : Nat} {a : Option Nat × Nat} (hi : i < 64) (hI : a = kpF (lb s) i) (c : lg_cmp ((s >>> ((nI i).toInt64 &&& 63)) &&& 1) 1 = 0) (c2 : (0 : Int32) ≤ kpI a.1) : ∃ y : Option Nat × Nat, y = kpF (lb s) (i + 1) ∧ nI y.2 = nI a.2 ||| (nI i ^^^ kpI a.1) ∧ kpI y.1 = kpI a.1 := by
  rw [lg_cmp1, lb_shr s hi] at c
  subst hI
  obtain ⟨f, h⟩ := kpI_ge' c2
  refine ⟨_, rfl, ?_, ?_⟩
  · rw [kpF, if_pos c, h]
    show nI ((kpF (lb s) i).2 ||| (i ^^^ f)) = nI (kpF (lb s) i).2 ||| (nI i ^^^ nI f)
    rw [nx_xor, nx_or]
  · rw [kpF, if_pos c, h]; rfl
theorem kp_some {V M : kF} {p0 : Int32} {s : Int64} {a : Option Nat × Nat} (hI : a = kpF (lb s) 64) (c : (0 : Int32) ≤ kpI a.1) : ((0 : Int32), upd V p0.toNatClampNeg (kpI a.1 &&& (nI a.2 ^^^ (-1))), upd M p0.toNatClampNeg (nI a.2)) = kK V M p0 s := by
  subst hI
  obtain ⟨f, h⟩ := kpI_ge' c
  rw [kK, if_neg (by rw [h]; exact fun z => by cases z)]
theorem kp_none {V M : kF} {p0 : Int32} {s : Int64} {a : Option Nat × Nat} (hI : a = kpF (lb s) 64) (c : ¬ (0 : Int32) ≤ kpI a.1) : ((-2 : Int32), V, M) = kK V M p0 s := by
  subst hI
  rw [kK, if_pos (kpI_ge (Nat.le_refl 64) c)]
/-! ===== power, least, shift ===== -/
theorem cl_toInt (n : Int32) : n.toNatClampNeg = n.toInt.toNat := rfl
theorem pw_le {n a : Int32} {i : Nat} (hi : i ≤ 6) (h : a = nI (2 ^ i) ∧ (i = 0 ∨ nI (i - 1) < n)) (c : n ≤ nI i) : a = nI (kPw n) := by
  rw [h.1, kPw]
  rw [Int32.le_iff_toInt_le, nI_toInt (by omega)] at c
  have e : n.toNatClampNeg = i := by
    rw [cl_toInt]
    rcases h.2 with h2 | h2
    · omega
    · rw [Int32.lt_iff_toInt_lt, nI_toInt (by omega)] at h2
      omega
  rw [e, Nat.min_eq_left hi]
theorem pw_six {n a : Int32} (h : a = nI (2 ^ 6) ∧ (6 = 0 ∨ nI (6 - 1) < n)) (c : ¬ n ≤ nI 6) : a = nI (kPw n) := by
  rw [h.1, kPw]
  rw [Int32.le_iff_toInt_le, nI_toInt (by omega)] at c
  rw [cl_toInt, Nat.min_eq_right (by omega)]
theorem pw_step {n a : Int32} {i : Nat} (h : a = nI (2 ^ i) ∧ (i = 0 ∨ nI (i - 1) < n)) (c : ¬ n ≤ nI i) : a * 2 = nI (2 ^ (i + 1)) ∧ (i + 1 = 0 ∨ nI (i + 1 - 1) < n) := by
  refine ⟨?_, Or.inr (Int32.not_le.mp c)⟩
  rw [h.1, show (2 : Int32) = nI 2 from rfl, pk_mul, Nat.pow_succ]
theorem ls_s {A : Nat → Prop} {i : Nat} (h : ∀ j, j < i → A j) (a : A i) : ∀ j, j < i + 1 → A j := lt_s h a
theorem m_nle_ne {x : Int32} (h : ¬ x ≤ 0) : ¬ x = 0 := fun e => h (by rw [e]; decide)
end
section
set_option maxHeartbeats 4000000 in
set_option maxRecDepth 100000 in
/-- isRegister: 0..5 -/
theorem metX0_isRegister (l : Launch) (p0 : Int32) : Met l yX0_isRegister (ws_ yX0_isRegister cX0_isRegister 1 (some .boolean)) ({ frames := 0, cells := 0, slots := 0, locals := 0 }) (va_Pc [.int p0] (fun _ => True)) (vp_Si (fun r => r = if kR p0 then 1 else 0)) 0 0 (fun _ => False) := by
  refine Met.ofW (cc := cX0_isRegister) (maxL := 1) (ret := (some .boolean)) (by decide) rfl ?_
  intro p e s m args below meth c s₁ B hml hv_
  obtain ⟨rfl, -⟩ := hv_
  have hx := B.exec
  have hb := B.bytes
  have hr := B.returns
  have hts := atoms_spec (ws := ws_ yX0_isRegister cX0_isRegister 1 (some .boolean)) B.pre
  have hts : ∀ w ∈ lw_all, w.before _ s = true := fun w h => hts w (List.mem_cons_of_mem _ h)
  have hown : s.vm.findClass RX0 = some m.cls := findClass_of_methodNamed B.named
  have hlocks := B.notSynchronized
  have hl := lv_entry ([.int p0]) (n := 1) (Nat.le_of_ble_eq_true rfl)
  rw [lg_entry_eq]
  generalize (lg_sl ([.int p0]) ++ List.replicate (1 - (lg_sl ([.int p0])).length) Slot.unset).toArray = ls at hl ⊢
  have hl : lv_has ls 1 [(0, .int p0)] := hl
  refine lv_iload_n hx hb dX0_isRegister_0 rfl (lv_at hl 0 rfl) ?_
  refine lv_if_lt (tgt := 13) hx hb dX0_isRegister_1 (by decide) (fun c_1 => ?_) (fun c_1 => ?_)
  · refine lv_iconst (v := 0) hx hb dX0_isRegister_13 (by decide +kernel) ?_
    exact W.zret (v := 0) hx hb hr rfl (fun t ht hW => ⟨0, rfl, (if_neg (fun h => h.1 c_1)).symm, ht⟩) (fun _ h => by cases h) dX0_isRegister_14
  · refine lv_iload_n hx hb dX0_isRegister_4 rfl (lv_at hl 0 rfl) ?_
    refine lv_iconst (v := 5) hx hb dX0_isRegister_5 (by decide +kernel) ?_
    refine lv_icmp_gt (tgt := 13) hx hb dX0_isRegister_6 (by decide) (fun c_2 => ?_) (fun c_2 => ?_)
    · refine lv_iconst (v := 0) hx hb dX0_isRegister_13 (by decide +kernel) ?_
      exact W.zret (v := 0) hx hb hr rfl (fun t ht hW => ⟨0, rfl, (if_neg (fun h => h.2 c_2)).symm, ht⟩) (fun _ h => by cases h) dX0_isRegister_14
    · refine lv_iconst (v := 1) hx hb dX0_isRegister_9 (by decide +kernel) ?_
      refine lv_goto (tgt := 14) hx hb dX0_isRegister_10 (by decide) ?_
      exact W.zret (v := 1) hx hb hr rfl (fun t ht hW => ⟨1, rfl, (if_pos ⟨c_1, c_2⟩).symm, ht⟩) (fun _ h => by cases h) dX0_isRegister_14

set_option maxHeartbeats 4000000 in
set_option maxRecDepth 100000 in
/-- keep: the last working becomes the register -/
theorem metX0_keep (l : Launch) (dC : Nat → ClassId) (dI : Nat → Nat → Nat) (h0 hv hm : Nat) (d1 d2 : ClassId) (sz : Nat) (V M : kF) (nv nm : Int32) (p0 : Int32) (g0 : vp_in p0 6) : Met l yX0_keep (ws_ yX0_keep cX0_keep 2 none) ({ frames := 0, cells := 0, slots := 0, locals := 0 }) (va_Pc [.ref h0, .int p0] (kbP (dC, dI) (kTy d1 d2) (kbW h0 hv hm d1 d2 V M nv nm) sz)) (va_Qv (fun u => u = (upd V p0.toNatClampNeg nv, upd M p0.toNatClampNeg nm, nv, nm)) (kbB dC dI (kA h0 hv hm sz) h0 hv hm d1 d2) (kA h0 hv hm sz)) 0 0 (kA h0 hv hm sz) := by
  refine Met.ofW (cc := cX0_keep) (maxL := 2) (ret := none) (by decide) rfl ?_
  intro p e s m args below meth c s₁ B hml hv_
  obtain ⟨rfl, hsz, hP, hK, hD0⟩ := hv_
  have hx := B.exec
  have hb := B.bytes
  have hr := B.returns
  have hts := atoms_spec (ws := ws_ yX0_keep cX0_keep 2 none) B.pre
  have hts : ∀ w ∈ lw_all, w.before _ s = true := fun w h => hts w (List.mem_cons_of_mem _ h)
  have hown : s.vm.findClass RX0 = some m.cls := findClass_of_methodNamed B.named
  have hlocks := B.notSynchronized
  subst hsz
  have hD := kA_kb (sz := s.heap.size) hD0
  have hA : ∀ q : Nat, kA h0 hv hm s.heap.size q → kA h0 hv hm s.heap.size q := fun _ h => h
  generalize hAe : kA h0 hv hm s.heap.size = A at hD ⊢
  have hA : ∀ q : Nat, kA h0 hv hm s.heap.size q → A q := fun q h => by rw [← hAe]; exact h
  have hS : va_S A s.heap s.heap [] := va_S.rf
  have hP : va_P (dC, dI) vwCl (kbW h0 hv hm d1 d2 V M nv nm) s.heap := hP
  have hl := lv_entry ([.ref h0, .int p0]) (n := 2) (Nat.le_of_ble_eq_true rfl)
  rw [lg_entry_eq]
  generalize (lg_sl ([.ref h0, .int p0]) ++ List.replicate (2 - (lg_sl ([.ref h0, .int p0])).length) Slot.unset).toArray = ls at hl ⊢
  have hl : lv_has ls 2 [(0, .ref h0), (1, .int p0)] := hl
  refine lv_aload_n hx hb dX0_keep_0 rfl (lv_at hl 0 rfl) ?_
  refine va_get (D := (dC, dI)) (ci := 0) (v := .ref hv) (C := RX0) (T := TX0) (N := 4) hx hb hts in_X0 hown hK hP 0 rfl rfl 0 (by decide) (hts _ q26) (fun _ h9 => h9) rfl dX0_keep_1 ?_
  refine lv_iload_n hx hb dX0_keep_4 rfl (lv_at hl 1 rfl) ?_
  refine lv_aload_n hx hb dX0_keep_5 rfl (lv_at hl 0 rfl) ?_
  refine va_get (D := (dC, dI)) (ci := 0) (v := .int nv) (C := RX0) (T := TX0) (N := 4) hx hb hts in_X0 hown hK hP 0 rfl rfl 2 (by decide) (hts _ q28) (fun _ h9 => h9) rfl dX0_keep_6 ?_
  refine va_iast hx hb hK hP hD hS 1 0 rfl rfl g0 dX0_keep_9 (fun H locs hP hD hS => ?_)
  have hP : va_P (dC, dI) vwCl (kbW h0 hv hm d1 d2 (upd V p0.toNatClampNeg nv) M nv nm) H := hP
  have hD : va_D A (kbW h0 hv hm d1 d2 (upd V p0.toNatClampNeg nv) M nv nm) := hD
  refine lv_aload_n hx hb dX0_keep_10 rfl (lv_at hl 0 rfl) ?_
  refine va_get (D := (dC, dI)) (ci := 0) (v := .ref hm) (C := RX0) (T := TX0) (N := 4) hx hb hts in_X0 hown hK hP 0 rfl rfl 1 (by decide) (hts _ q27) (fun _ h9 => h9) rfl dX0_keep_11 ?_
  refine lv_iload_n hx hb dX0_keep_14 rfl (lv_at hl 1 rfl) ?_
  refine lv_aload_n hx hb dX0_keep_15 rfl (lv_at hl 0 rfl) ?_
  refine va_get (D := (dC, dI)) (ci := 0) (v := .int nm) (C := RX0) (T := TX0) (N := 4) hx hb hts in_X0 hown hK hP 0 rfl rfl 3 (by decide) (hts _ q29) (fun _ h9 => h9) rfl dX0_keep_16 ?_
  refine va_iast hx hb hK hP hD hS 2 1 rfl rfl g0 dX0_keep_19 (fun H locs hP hD hS => ?_)
  have hP : va_P (dC, dI) vwCl (kbW h0 hv hm d1 d2 (upd V p0.toNatClampNeg nv) (upd M p0.toNatClampNeg nm) nv nm) H := hP
  have hD : va_D A (kbW h0 hv hm d1 d2 (upd V p0.toNatClampNeg nv) (upd M p0.toNatClampNeg nm) nv nm) := hD
  exact W.vret hx hb hr (fun t ht hW => ⟨⟨(upd V p0.toNatClampNeg nv, upd M p0.toNatClampNeg nm, nv, nm), rfl, (by rfl), by rw [ht]; exact hP, va_K.moved hW.alike hK, hD⟩, hS.F ht⟩) hS.2.2 dX0_keep_20

set_option maxHeartbeats 4000000 in
set_option maxRecDepth 100000 in
/-- add: the sums -/
theorem metX0_add (l : Launch) (dC : Nat → ClassId) (dI : Nat → Nat → Nat) (h0 hv hm : Nat) (d1 d2 : ClassId) (sz : Nat) (V M : kF) (nv nm : Int32) (p0 : Int32) (p1 : Int32) (g0 : vp_in p0 6) (g1 : vp_in p1 6) : Met l yX0_add (ws_ yX0_add cX0_add 5 none) ({ frames := 0, cells := 0, slots := 0, locals := 0 }) (va_Pc [.ref h0, .int p0, .int p1] (kbP (dC, dI) (kTy d1 d2) (kbW h0 hv hm d1 d2 V M nv nm) sz)) (va_Qv (fun u => u = (V, M, kAddV (V p0.toNatClampNeg) (M p0.toNatClampNeg) (V p1.toNatClampNeg) (M p1.toNatClampNeg), kAddM (V p0.toNatClampNeg) (M p0.toNatClampNeg) (V p1.toNatClampNeg) (M p1.toNatClampNeg))) (kbB dC dI (kA h0 hv hm sz) h0 hv hm d1 d2) (kA h0 hv hm sz)) 0 0 (kA h0 hv hm sz) := by
  refine Met.ofW (cc := cX0_add) (maxL := 5) (ret := none) (by decide) rfl ?_
  intro p e s m args below meth c s₁ B hml hv_
  obtain ⟨rfl, hsz, hP, hK, hD0⟩ := hv_
  have hx := B.exec
  have hb := B.bytes
  have hr := B.returns
  have hts := atoms_spec (ws := ws_ yX0_add cX0_add 5 none) B.pre
  have hts : ∀ w ∈ lw_all, w.before _ s = true := fun w h => hts w (List.mem_cons_of_mem _ h)
  have hown : s.vm.findClass RX0 = some m.cls := findClass_of_methodNamed B.named
  have hlocks := B.notSynchronized
  subst hsz
  have hD := kA_kb (sz := s.heap.size) hD0
  have hA : ∀ q : Nat, kA h0 hv hm s.heap.size q → kA h0 hv hm s.heap.size q := fun _ h => h
  generalize hAe : kA h0 hv hm s.heap.size = A at hD ⊢
  have hA : ∀ q : Nat, kA h0 hv hm s.heap.size q → A q := fun q h => by rw [← hAe]; exact h
  have hS : va_S A s.heap s.heap [] := va_S.rf
  have hP : va_P (dC, dI) vwCl (kbW h0 hv hm d1 d2 V M nv nm) s.heap := hP
  have hl := lv_entry ([.ref h0, .int p0, .int p1]) (n := 5) (Nat.le_of_ble_eq_true rfl)
  rw [lg_entry_eq]
  generalize (lg_sl ([.ref h0, .int p0, .int p1]) ++ List.replicate (5 - (lg_sl ([.ref h0, .int p0, .int p1])).length) Slot.unset).toArray = ls at hl ⊢
  have hl : lv_has ls 5 [(0, .ref h0), (1, .int p0), (2, .int p1)] := hl
  refine lv_aload_n hx hb dX0_add_0 rfl (lv_at hl 0 rfl) ?_
  refine va_get (D := (dC, dI)) (ci := 0) (v := .ref hv) (C := RX0) (T := TX0) (N := 4) hx hb hts in_X0 hown hK hP 0 rfl rfl 0 (by decide) (hts _ q26) (fun _ h9 => h9) rfl dX0_add_1 ?_
  refine lv_iload_n hx hb dX0_add_4 rfl (lv_at hl 1 rfl) ?_
  refine va_iald hx hb hK hP 1 0 rfl rfl g0 dX0_add_5 ?_
  refine lv_aload_n hx hb dX0_add_6 rfl (lv_at hl 0 rfl) ?_
  refine va_get (D := (dC, dI)) (ci := 0) (v := .ref hv) (C := RX0) (T := TX0) (N := 4) hx hb hts in_X0 hown hK hP 0 rfl rfl 0 (by decide) (hts _ q26) (fun _ h9 => h9) rfl dX0_add_7 ?_
  refine lv_iload_n hx hb dX0_add_10 rfl (lv_at hl 2 rfl) ?_
  refine va_iald hx hb hK hP 1 0 rfl rfl g1 dX0_add_11 ?_
  refine lv_iadd hx hb dX0_add_12 ?_
  refine lv_topi (fun z_1 e_2 => ?_)
  refine lv_istore_n (lv' := [(3, .int z_1), (0, .ref h0), (1, .int p0), (2, .int p1)]) hx hb dX0_add_13 rfl hl (by decide) rfl (fun ls hl => ?_)
  refine lv_iload_n hx hb dX0_add_14 rfl (lv_at hl 0 rfl) ?_
  refine lv_aload_n hx hb dX0_add_15 rfl (lv_at hl 1 rfl) ?_
  refine va_get (D := (dC, dI)) (ci := 0) (v := .ref hm) (C := RX0) (T := TX0) (N := 4) hx hb hts in_X0 hown hK hP 0 rfl rfl 1 (by decide) (hts _ q27) (fun _ h9 => h9) rfl dX0_add_16 ?_
  refine lv_iload_n hx hb dX0_add_19 rfl (lv_at hl 2 rfl) ?_
  refine va_iald hx hb hK hP 2 1 rfl rfl g0 dX0_add_20 ?_
  refine lv_iadd hx hb dX0_add_21 ?_
  refine lv_aload_n hx hb dX0_add_22 rfl (lv_at hl 1 rfl) ?_
  refine va_get (D := (dC, dI)) (ci := 0) (v := .ref hm) (C := RX0) (T := TX0) (N := 4) hx hb hts in_X0 hown hK hP 0 rfl rfl 1 (by decide) (hts _ q27) (fun _ h9 => h9) rfl dX0_add_23 ?_
  refine lv_iload_n hx hb dX0_add_26 rfl (lv_at hl 3 rfl) ?_
  refine va_iald hx hb hK hP 2 1 rfl rfl g1 dX0_add_27 ?_
  refine lv_iadd hx hb dX0_add_28 ?_
  refine lv_topi (fun z_3 e_4 => ?_)
  refine lv_istore (lv' := [(4, .int z_3), (3, .int z_1), (0, .ref h0), (1, .int p0), (2, .int p1)]) hx hb dX0_add_29 hl (by decide) rfl (fun ls hl => ?_)
  refine lv_aload_n hx hb dX0_add_31 rfl (lv_at hl 2 rfl) ?_
  refine lv_iload_n hx hb dX0_add_32 rfl (lv_at hl 1 rfl) ?_
  refine lv_iload hx hb dX0_add_33 (lv_at hl 0 rfl) ?_
  refine lv_ixor hx hb dX0_add_35 ?_
  refine lv_aload_n hx hb dX0_add_36 rfl (lv_at hl 2 rfl) ?_
  refine va_get (D := (dC, dI)) (ci := 0) (v := .ref hm) (C := RX0) (T := TX0) (N := 4) hx hb hts in_X0 hown hK hP 0 rfl rfl 1 (by decide) (hts _ q27) (fun _ h9 => h9) rfl dX0_add_37 ?_
  refine lv_iload_n hx hb dX0_add_40 rfl (lv_at hl 3 rfl) ?_
  refine va_iald hx hb hK hP 2 1 rfl rfl g0 dX0_add_41 ?_
  refine lv_ior hx hb dX0_add_42 ?_
  refine lv_aload_n hx hb dX0_add_43 rfl (lv_at hl 2 rfl) ?_
  refine va_get (D := (dC, dI)) (ci := 0) (v := .ref hm) (C := RX0) (T := TX0) (N := 4) hx hb hts in_X0 hown hK hP 0 rfl rfl 1 (by decide) (hts _ q27) (fun _ h9 => h9) rfl dX0_add_44 ?_
  refine lv_iload_n hx hb dX0_add_47 rfl (lv_at hl 4 rfl) ?_
  refine va_iald hx hb hK hP 2 1 rfl rfl g1 dX0_add_48 ?_
  refine lv_ior hx hb dX0_add_49 ?_
  refine lv_bipush (v := 63) hx hb dX0_add_50 (by decide +kernel) ?_
  refine lv_iand hx hb dX0_add_52 ?_
  refine lv_topi (fun z_5 e_6 => ?_)
  refine va_put (D := (dC, dI)) (ci := 0) (v := .int z_5) (ty := .int) (C := RX0) (T := TX0) (N := 4) hx hb hts in_X0 tyX0 tyX0_ok nmX0 hown hK hP hD hS 0 rfl rfl 3 (by decide) (hts _ q29) (fun _ h9 => h9) rfl (by decide +kernel) rfl rfl (Nat.le_of_ble_eq_true rfl) dX0_add_53 (fun H locs hP hD hS => ?_)
  have hP : va_P (dC, dI) vwCl (kbW h0 hv hm d1 d2 V M nv z_5) H := hP
  have hD : va_D A (kbW h0 hv hm d1 d2 V M nv z_5) := hD
  refine lv_aload_n hx hb dX0_add_56 rfl (lv_at hl 2 rfl) ?_
  refine lv_iload_n hx hb dX0_add_57 rfl (lv_at hl 1 rfl) ?_
  refine lv_aload_n hx hb dX0_add_58 rfl (lv_at hl 2 rfl) ?_
  refine va_get (D := (dC, dI)) (ci := 0) (v := .int z_5) (C := RX0) (T := TX0) (N := 4) hx hb hts in_X0 hown hK hP 0 rfl rfl 3 (by decide) (hts _ q29) (fun _ h9 => h9) rfl dX0_add_59 ?_
  refine lv_iconst (v := (-1)) hx hb dX0_add_62 (by decide +kernel) ?_
  refine lv_ixor hx hb dX0_add_63 ?_
  refine lv_iand hx hb dX0_add_64 ?_
  refine lv_bipush (v := 63) hx hb dX0_add_65 (by decide +kernel) ?_
  refine lv_iand hx hb dX0_add_67 ?_
  refine lv_topi (fun z_7 e_8 => ?_)
  refine va_put (D := (dC, dI)) (ci := 0) (v := .int z_7) (ty := .int) (C := RX0) (T := TX0) (N := 4) hx hb hts in_X0 tyX0 tyX0_ok nmX0 hown hK hP hD hS 0 rfl rfl 2 (by decide) (hts _ q28) (fun _ h9 => h9) rfl (by decide +kernel) rfl rfl (Nat.le_of_ble_eq_true rfl) dX0_add_68 (fun H locs hP hD hS => ?_)
  have hP : va_P (dC, dI) vwCl (kbW h0 hv hm d1 d2 V M z_7 z_5) H := hP
  have hD : va_D A (kbW h0 hv hm d1 d2 V M z_7 z_5) := hD
  exact W.vret hx hb hr (fun t ht hW => ⟨⟨(V, M, z_7, z_5), rfl, (by subst e_2 e_4 e_6 e_8; rfl), by rw [ht]; exact hP, va_K.moved hW.alike hK, hD⟩, hS.F ht⟩) hS.2.2 dX0_add_71

set_option maxHeartbeats 4000000 in
set_option maxRecDepth 100000 in
/-- subtract: the differences -/
theorem metX0_subtract (l : Launch) (dC : Nat → ClassId) (dI : Nat → Nat → Nat) (h0 hv hm : Nat) (d1 d2 : ClassId) (sz : Nat) (V M : kF) (nv nm : Int32) (p0 : Int32) (p1 : Int32) (g0 : vp_in p0 6) (g1 : vp_in p1 6) : Met l yX0_subtract (ws_ yX0_subtract cX0_subtract 6 none) ({ frames := 0, cells := 0, slots := 0, locals := 0 }) (va_Pc [.ref h0, .int p0, .int p1] (kbP (dC, dI) (kTy d1 d2) (kbW h0 hv hm d1 d2 V M nv nm) sz)) (va_Qv (fun u => u = (V, M, kSubV (V p0.toNatClampNeg) (M p0.toNatClampNeg) (V p1.toNatClampNeg) (M p1.toNatClampNeg), kSubM (V p0.toNatClampNeg) (M p0.toNatClampNeg) (V p1.toNatClampNeg) (M p1.toNatClampNeg))) (kbB dC dI (kA h0 hv hm sz) h0 hv hm d1 d2) (kA h0 hv hm sz)) 0 0 (kA h0 hv hm sz) := by
  refine Met.ofW (cc := cX0_subtract) (maxL := 6) (ret := none) (by decide) rfl ?_
  intro p e s m args below meth c s₁ B hml hv_
  obtain ⟨rfl, hsz, hP, hK, hD0⟩ := hv_
  have hx := B.exec
  have hb := B.bytes
  have hr := B.returns
  have hts := atoms_spec (ws := ws_ yX0_subtract cX0_subtract 6 none) B.pre
  have hts : ∀ w ∈ lw_all, w.before _ s = true := fun w h => hts w (List.mem_cons_of_mem _ h)
  have hown : s.vm.findClass RX0 = some m.cls := findClass_of_methodNamed B.named
  have hlocks := B.notSynchronized
  subst hsz
  have hD := kA_kb (sz := s.heap.size) hD0
  have hA : ∀ q : Nat, kA h0 hv hm s.heap.size q → kA h0 hv hm s.heap.size q := fun _ h => h
  generalize hAe : kA h0 hv hm s.heap.size = A at hD ⊢
  have hA : ∀ q : Nat, kA h0 hv hm s.heap.size q → A q := fun q h => by rw [← hAe]; exact h
  have hS : va_S A s.heap s.heap [] := va_S.rf
  have hP : va_P (dC, dI) vwCl (kbW h0 hv hm d1 d2 V M nv nm) s.heap := hP
  have hl := lv_entry ([.ref h0, .int p0, .int p1]) (n := 6) (Nat.le_of_ble_eq_true rfl)
  rw [lg_entry_eq]
  generalize (lg_sl ([.ref h0, .int p0, .int p1]) ++ List.replicate (6 - (lg_sl ([.ref h0, .int p0, .int p1])).length) Slot.unset).toArray = ls at hl ⊢
  have hl : lv_has ls 6 [(0, .ref h0), (1, .int p0), (2, .int p1)] := hl
  refine lv_aload_n hx hb dX0_subtract_0 rfl (lv_at hl 0 rfl) ?_
  refine va_get (D := (dC, dI)) (ci := 0) (v := .ref hv) (C := RX0) (T := TX0) (N := 4) hx hb hts in_X0 hown hK hP 0 rfl rfl 0 (by decide) (hts _ q26) (fun _ h9 => h9) rfl dX0_subtract_1 ?_
  refine lv_iload_n hx hb dX0_subtract_4 rfl (lv_at hl 1 rfl) ?_
  refine va_iald hx hb hK hP 1 0 rfl rfl g0 dX0_subtract_5 ?_
  refine lv_aload_n hx hb dX0_subtract_6 rfl (lv_at hl 0 rfl) ?_
  refine va_get (D := (dC, dI)) (ci := 0) (v := .ref hv) (C := RX0) (T := TX0) (N := 4) hx hb hts in_X0 hown hK hP 0 rfl rfl 0 (by decide) (hts _ q26) (fun _ h9 => h9) rfl dX0_subtract_7 ?_
  refine lv_iload_n hx hb dX0_subtract_10 rfl (lv_at hl 2 rfl) ?_
  refine va_iald hx hb hK hP 1 0 rfl rfl g1 dX0_subtract_11 ?_
  refine lv_isub hx hb dX0_subtract_12 ?_
  refine lv_topi (fun z_1 e_2 => ?_)
  refine lv_istore_n (lv' := [(3, .int z_1), (0, .ref h0), (1, .int p0), (2, .int p1)]) hx hb dX0_subtract_13 rfl hl (by decide) rfl (fun ls hl => ?_)
  refine lv_iload_n hx hb dX0_subtract_14 rfl (lv_at hl 0 rfl) ?_
  refine lv_aload_n hx hb dX0_subtract_15 rfl (lv_at hl 1 rfl) ?_
  refine va_get (D := (dC, dI)) (ci := 0) (v := .ref hm) (C := RX0) (T := TX0) (N := 4) hx hb hts in_X0 hown hK hP 0 rfl rfl 1 (by decide) (hts _ q27) (fun _ h9 => h9) rfl dX0_subtract_16 ?_
  refine lv_iload_n hx hb dX0_subtract_19 rfl (lv_at hl 2 rfl) ?_
  refine va_iald hx hb hK hP 2 1 rfl rfl g0 dX0_subtract_20 ?_
  refine lv_iadd hx hb dX0_subtract_21 ?_
  refine lv_topi (fun z_3 e_4 => ?_)
  refine lv_istore (lv' := [(4, .int z_3), (3, .int z_1), (0, .ref h0), (1, .int p0), (2, .int p1)]) hx hb dX0_subtract_22 hl (by decide) rfl (fun ls hl => ?_)
  refine lv_iload_n hx hb dX0_subtract_24 rfl (lv_at hl 1 rfl) ?_
  refine lv_aload_n hx hb dX0_subtract_25 rfl (lv_at hl 2 rfl) ?_
  refine va_get (D := (dC, dI)) (ci := 0) (v := .ref hm) (C := RX0) (T := TX0) (N := 4) hx hb hts in_X0 hown hK hP 0 rfl rfl 1 (by decide) (hts _ q27) (fun _ h9 => h9) rfl dX0_subtract_26 ?_
  refine lv_iload_n hx hb dX0_subtract_29 rfl (lv_at hl 4 rfl) ?_
  refine va_iald hx hb hK hP 2 1 rfl rfl g1 dX0_subtract_30 ?_
  refine lv_isub hx hb dX0_subtract_31 ?_
  refine lv_topi (fun z_5 e_6 => ?_)
  refine lv_istore (lv' := [(5, .int z_5), (4, .int z_3), (3, .int z_1), (0, .ref h0), (1, .int p0), (2, .int p1)]) hx hb dX0_subtract_32 hl (by decide) rfl (fun ls hl => ?_)
  refine lv_aload_n hx hb dX0_subtract_34 rfl (lv_at hl 3 rfl) ?_
  refine lv_iload hx hb dX0_subtract_35 (lv_at hl 1 rfl) ?_
  refine lv_iload hx hb dX0_subtract_37 (lv_at hl 0 rfl) ?_
  refine lv_ixor hx hb dX0_subtract_39 ?_
  refine lv_aload_n hx hb dX0_subtract_40 rfl (lv_at hl 3 rfl) ?_
  refine va_get (D := (dC, dI)) (ci := 0) (v := .ref hm) (C := RX0) (T := TX0) (N := 4) hx hb hts in_X0 hown hK hP 0 rfl rfl 1 (by decide) (hts _ q27) (fun _ h9 => h9) rfl dX0_subtract_41 ?_
  refine lv_iload_n hx hb dX0_subtract_44 rfl (lv_at hl 4 rfl) ?_
  refine va_iald hx hb hK hP 2 1 rfl rfl g0 dX0_subtract_45 ?_
  refine lv_ior hx hb dX0_subtract_46 ?_
  refine lv_aload_n hx hb dX0_subtract_47 rfl (lv_at hl 3 rfl) ?_
  refine va_get (D := (dC, dI)) (ci := 0) (v := .ref hm) (C := RX0) (T := TX0) (N := 4) hx hb hts in_X0 hown hK hP 0 rfl rfl 1 (by decide) (hts _ q27) (fun _ h9 => h9) rfl dX0_subtract_48 ?_
  refine lv_iload_n hx hb dX0_subtract_51 rfl (lv_at hl 5 rfl) ?_
  refine va_iald hx hb hK hP 2 1 rfl rfl g1 dX0_subtract_52 ?_
  refine lv_ior hx hb dX0_subtract_53 ?_
  refine lv_bipush (v := 63) hx hb dX0_subtract_54 (by decide +kernel) ?_
  refine lv_iand hx hb dX0_subtract_56 ?_
  refine lv_topi (fun z_7 e_8 => ?_)
  refine va_put (D := (dC, dI)) (ci := 0) (v := .int z_7) (ty := .int) (C := RX0) (T := TX0) (N := 4) hx hb hts in_X0 tyX0 tyX0_ok nmX0 hown hK hP hD hS 0 rfl rfl 3 (by decide) (hts _ q29) (fun _ h9 => h9) rfl (by decide +kernel) rfl rfl (Nat.le_of_ble_eq_true rfl) dX0_subtract_57 (fun H locs hP hD hS => ?_)
  have hP : va_P (dC, dI) vwCl (kbW h0 hv hm d1 d2 V M nv z_7) H := hP
  have hD : va_D A (kbW h0 hv hm d1 d2 V M nv z_7) := hD
  refine lv_aload_n hx hb dX0_subtract_60 rfl (lv_at hl 3 rfl) ?_
  refine lv_iload_n hx hb dX0_subtract_61 rfl (lv_at hl 2 rfl) ?_
  refine lv_aload_n hx hb dX0_subtract_62 rfl (lv_at hl 3 rfl) ?_
  refine va_get (D := (dC, dI)) (ci := 0) (v := .int z_7) (C := RX0) (T := TX0) (N := 4) hx hb hts in_X0 hown hK hP 0 rfl rfl 3 (by decide) (hts _ q29) (fun _ h9 => h9) rfl dX0_subtract_63 ?_
  refine lv_iconst (v := (-1)) hx hb dX0_subtract_66 (by decide +kernel) ?_
  refine lv_ixor hx hb dX0_subtract_67 ?_
  refine lv_iand hx hb dX0_subtract_68 ?_
  refine lv_bipush (v := 63) hx hb dX0_subtract_69 (by decide +kernel) ?_
  refine lv_iand hx hb dX0_subtract_71 ?_
  refine lv_topi (fun z_9 e_10 => ?_)
  refine va_put (D := (dC, dI)) (ci := 0) (v := .int z_9) (ty := .int) (C := RX0) (T := TX0) (N := 4) hx hb hts in_X0 tyX0 tyX0_ok nmX0 hown hK hP hD hS 0 rfl rfl 2 (by decide) (hts _ q28) (fun _ h9 => h9) rfl (by decide +kernel) rfl rfl (Nat.le_of_ble_eq_true rfl) dX0_subtract_72 (fun H locs hP hD hS => ?_)
  have hP : va_P (dC, dI) vwCl (kbW h0 hv hm d1 d2 V M z_9 z_7) H := hP
  have hD : va_D A (kbW h0 hv hm d1 d2 V M z_9 z_7) := hD
  exact W.vret hx hb hr (fun t ht hW => ⟨⟨(V, M, z_9, z_7), rfl, (by subst e_2 e_4 e_6 e_8 e_10; rfl), by rw [ht]; exact hP, va_K.moved hW.alike hK, hD⟩, hS.F ht⟩) hS.2.2 dX0_subtract_75

set_option maxHeartbeats 4000000 in
set_option maxRecDepth 100000 in
/-- bitwise: and, or, xor -/
theorem metX0_bitwise (l : Launch) (dC : Nat → ClassId) (dI : Nat → Nat → Nat) (h0 hv hm : Nat) (d1 d2 : ClassId) (sz : Nat) (V M : kF) (nv nm : Int32) (p0 : Int32) (p1 : Int32) (p2 : Int32) (g1 : vp_in p1 6) (g2 : vp_in p2 6) : Met l yX0_bitwise (ws_ yX0_bitwise cX0_bitwise 4 none) ({ frames := 0, cells := 0, slots := 0, locals := 0 }) (va_Pc [.ref h0, .int p0, .int p1, .int p2] (kbP (dC, dI) (kTy d1 d2) (kbW h0 hv hm d1 d2 V M nv nm) sz)) (va_Qv (fun u => u = (V, M, kBitV p0 (V p1.toNatClampNeg) (M p1.toNatClampNeg) (V p2.toNatClampNeg) (M p2.toNatClampNeg), kBitM p0 (V p1.toNatClampNeg) (M p1.toNatClampNeg) (V p2.toNatClampNeg) (M p2.toNatClampNeg))) (kbB dC dI (kA h0 hv hm sz) h0 hv hm d1 d2) (kA h0 hv hm sz)) 0 0 (kA h0 hv hm sz) := by
  refine Met.ofW (cc := cX0_bitwise) (maxL := 4) (ret := none) (by decide) rfl ?_
  intro p e s m args below meth c s₁ B hml hv_
  obtain ⟨rfl, hsz, hP, hK, hD0⟩ := hv_
  have hx := B.exec
  have hb := B.bytes
  have hr := B.returns
  have hts := atoms_spec (ws := ws_ yX0_bitwise cX0_bitwise 4 none) B.pre
  have hts : ∀ w ∈ lw_all, w.before _ s = true := fun w h => hts w (List.mem_cons_of_mem _ h)
  have hown : s.vm.findClass RX0 = some m.cls := findClass_of_methodNamed B.named
  have hlocks := B.notSynchronized
  subst hsz
  have hD := kA_kb (sz := s.heap.size) hD0
  have hA : ∀ q : Nat, kA h0 hv hm s.heap.size q → kA h0 hv hm s.heap.size q := fun _ h => h
  generalize hAe : kA h0 hv hm s.heap.size = A at hD ⊢
  have hA : ∀ q : Nat, kA h0 hv hm s.heap.size q → A q := fun q h => by rw [← hAe]; exact h
  have hS : va_S A s.heap s.heap [] := va_S.rf
  have hP : va_P (dC, dI) vwCl (kbW h0 hv hm d1 d2 V M nv nm) s.heap := hP
  have hl := lv_entry ([.ref h0, .int p0, .int p1, .int p2]) (n := 4) (Nat.le_of_ble_eq_true rfl)
  rw [lg_entry_eq]
  generalize (lg_sl ([.ref h0, .int p0, .int p1, .int p2]) ++ List.replicate (4 - (lg_sl ([.ref h0, .int p0, .int p1, .int p2])).length) Slot.unset).toArray = ls at hl ⊢
  have hl : lv_has ls 4 [(0, .ref h0), (1, .int p0), (2, .int p1), (3, .int p2)] := hl
  refine lv_iload_n hx hb dX0_bitwise_0 rfl (lv_at hl 1 rfl) ?_
  refine lv_iconst (v := 2) hx hb dX0_bitwise_1 (by decide +kernel) ?_
  refine lv_icmp_ne (tgt := 63) hx hb dX0_bitwise_2 (by decide) (fun c_1 => ?_) (fun c_1 => ?_)
  · refine lv_iload_n hx hb dX0_bitwise_63 rfl (lv_at hl 1 rfl) ?_
    refine lv_iconst (v := 3) hx hb dX0_bitwise_64 (by decide +kernel) ?_
    refine lv_icmp_ne (tgt := 112) hx hb dX0_bitwise_65 (by decide) (fun c_2 => ?_) (fun c_2 => ?_)
    · refine lv_aload_n hx hb dX0_bitwise_112 rfl (lv_at hl 0 rfl) ?_
      refine lv_aload_n hx hb dX0_bitwise_113 rfl (lv_at hl 0 rfl) ?_
      refine va_get (D := (dC, dI)) (ci := 0) (v := .ref hm) (C := RX0) (T := TX0) (N := 4) hx hb hts in_X0 hown hK hP 0 rfl rfl 1 (by decide) (hts _ q27) (fun _ h9 => h9) rfl dX0_bitwise_114 ?_
      refine lv_iload_n hx hb dX0_bitwise_117 rfl (lv_at hl 2 rfl) ?_
      refine va_iald hx hb hK hP 2 1 rfl rfl g1 dX0_bitwise_118 ?_
      refine lv_aload_n hx hb dX0_bitwise_119 rfl (lv_at hl 0 rfl) ?_
      refine va_get (D := (dC, dI)) (ci := 0) (v := .ref hm) (C := RX0) (T := TX0) (N := 4) hx hb hts in_X0 hown hK hP 0 rfl rfl 1 (by decide) (hts _ q27) (fun _ h9 => h9) rfl dX0_bitwise_120 ?_
      refine lv_iload_n hx hb dX0_bitwise_123 rfl (lv_at hl 3 rfl) ?_
      refine va_iald hx hb hK hP 2 1 rfl rfl g2 dX0_bitwise_124 ?_
      refine lv_ior hx hb dX0_bitwise_125 ?_
      refine lv_topi (fun z_3 e_4 => ?_)
      refine va_put (D := (dC, dI)) (ci := 0) (v := .int z_3) (ty := .int) (C := RX0) (T := TX0) (N := 4) hx hb hts in_X0 tyX0 tyX0_ok nmX0 hown hK hP hD hS 0 rfl rfl 3 (by decide) (hts _ q29) (fun _ h9 => h9) rfl (by decide +kernel) rfl rfl (Nat.le_of_ble_eq_true rfl) dX0_bitwise_126 (fun H locs hP hD hS => ?_)
      have hP : va_P (dC, dI) vwCl (kbW h0 hv hm d1 d2 V M nv z_3) H := hP
      have hD : va_D A (kbW h0 hv hm d1 d2 V M nv z_3) := hD
      refine lv_aload_n hx hb dX0_bitwise_129 rfl (lv_at hl 0 rfl) ?_
      refine lv_aload_n hx hb dX0_bitwise_130 rfl (lv_at hl 0 rfl) ?_
      refine va_get (D := (dC, dI)) (ci := 0) (v := .ref hv) (C := RX0) (T := TX0) (N := 4) hx hb hts in_X0 hown hK hP 0 rfl rfl 0 (by decide) (hts _ q26) (fun _ h9 => h9) rfl dX0_bitwise_131 ?_
      refine lv_iload_n hx hb dX0_bitwise_134 rfl (lv_at hl 2 rfl) ?_
      refine va_iald hx hb hK hP 1 0 rfl rfl g1 dX0_bitwise_135 ?_
      refine lv_aload_n hx hb dX0_bitwise_136 rfl (lv_at hl 0 rfl) ?_
      refine va_get (D := (dC, dI)) (ci := 0) (v := .ref hv) (C := RX0) (T := TX0) (N := 4) hx hb hts in_X0 hown hK hP 0 rfl rfl 0 (by decide) (hts _ q26) (fun _ h9 => h9) rfl dX0_bitwise_137 ?_
      refine lv_iload_n hx hb dX0_bitwise_140 rfl (lv_at hl 3 rfl) ?_
      refine va_iald hx hb hK hP 1 0 rfl rfl g2 dX0_bitwise_141 ?_
      refine lv_ixor hx hb dX0_bitwise_142 ?_
      refine lv_aload_n hx hb dX0_bitwise_143 rfl (lv_at hl 0 rfl) ?_
      refine va_get (D := (dC, dI)) (ci := 0) (v := .int z_3) (C := RX0) (T := TX0) (N := 4) hx hb hts in_X0 hown hK hP 0 rfl rfl 3 (by decide) (hts _ q29) (fun _ h9 => h9) rfl dX0_bitwise_144 ?_
      refine lv_iconst (v := (-1)) hx hb dX0_bitwise_147 (by decide +kernel) ?_
      refine lv_ixor hx hb dX0_bitwise_148 ?_
      refine lv_iand hx hb dX0_bitwise_149 ?_
      refine lv_topi (fun z_5 e_6 => ?_)
      refine va_put (D := (dC, dI)) (ci := 0) (v := .int z_5) (ty := .int) (C := RX0) (T := TX0) (N := 4) hx hb hts in_X0 tyX0 tyX0_ok nmX0 hown hK hP hD hS 0 rfl rfl 2 (by decide) (hts _ q28) (fun _ h9 => h9) rfl (by decide +kernel) rfl rfl (Nat.le_of_ble_eq_true rfl) dX0_bitwise_150 (fun H locs hP hD hS => ?_)
      have hP : va_P (dC, dI) vwCl (kbW h0 hv hm d1 d2 V M z_5 z_3) H := hP
      have hD : va_D A (kbW h0 hv hm d1 d2 V M z_5 z_3) := hD
      exact W.vret hx hb hr (fun t ht hW => ⟨⟨(V, M, z_5, z_3), rfl, (by subst e_4 e_6; first | rfl | (simp only [kBitV, kBitM, if_neg c_1, if_neg c_2]; done) | (simp only [kBitV, kBitM, if_neg c_1, if_neg c_2]; rfl)), by rw [ht]; exact hP, va_K.moved hW.alike hK, hD⟩, hS.F ht⟩) hS.2.2 dX0_bitwise_153
    · refine lv_aload_n hx hb dX0_bitwise_68 rfl (lv_at hl 0 rfl) ?_
      refine lv_aload_n hx hb dX0_bitwise_69 rfl (lv_at hl 0 rfl) ?_
      refine va_get (D := (dC, dI)) (ci := 0) (v := .ref hv) (C := RX0) (T := TX0) (N := 4) hx hb hts in_X0 hown hK hP 0 rfl rfl 0 (by decide) (hts _ q26) (fun _ h9 => h9) rfl dX0_bitwise_70 ?_
      refine lv_iload_n hx hb dX0_bitwise_73 rfl (lv_at hl 2 rfl) ?_
      refine va_iald hx hb hK hP 1 0 rfl rfl g1 dX0_bitwise_74 ?_
      refine lv_aload_n hx hb dX0_bitwise_75 rfl (lv_at hl 0 rfl) ?_
      refine va_get (D := (dC, dI)) (ci := 0) (v := .ref hv) (C := RX0) (T := TX0) (N := 4) hx hb hts in_X0 hown hK hP 0 rfl rfl 0 (by decide) (hts _ q26) (fun _ h9 => h9) rfl dX0_bitwise_76 ?_
      refine lv_iload_n hx hb dX0_bitwise_79 rfl (lv_at hl 3 rfl) ?_
      refine va_iald hx hb hK hP 1 0 rfl rfl g2 dX0_bitwise_80 ?_
      refine lv_ior hx hb dX0_bitwise_81 ?_
      refine lv_topi (fun z_7 e_8 => ?_)
      refine va_put (D := (dC, dI)) (ci := 0) (v := .int z_7) (ty := .int) (C := RX0) (T := TX0) (N := 4) hx hb hts in_X0 tyX0 tyX0_ok nmX0 hown hK hP hD hS 0 rfl rfl 2 (by decide) (hts _ q28) (fun _ h9 => h9) rfl (by decide +kernel) rfl rfl (Nat.le_of_ble_eq_true rfl) dX0_bitwise_82 (fun H locs hP hD hS => ?_)
      have hP : va_P (dC, dI) vwCl (kbW h0 hv hm d1 d2 V M z_7 nm) H := hP
      have hD : va_D A (kbW h0 hv hm d1 d2 V M z_7 nm) := hD
      refine lv_aload_n hx hb dX0_bitwise_85 rfl (lv_at hl 0 rfl) ?_
      refine lv_aload_n hx hb dX0_bitwise_86 rfl (lv_at hl 0 rfl) ?_
      refine va_get (D := (dC, dI)) (ci := 0) (v := .ref hm) (C := RX0) (T := TX0) (N := 4) hx hb hts in_X0 hown hK hP 0 rfl rfl 1 (by decide) (hts _ q27) (fun _ h9 => h9) rfl dX0_bitwise_87 ?_
      refine lv_iload_n hx hb dX0_bitwise_90 rfl (lv_at hl 2 rfl) ?_
      refine va_iald hx hb hK hP 2 1 rfl rfl g1 dX0_bitwise_91 ?_
      refine lv_aload_n hx hb dX0_bitwise_92 rfl (lv_at hl 0 rfl) ?_
      refine va_get (D := (dC, dI)) (ci := 0) (v := .ref hm) (C := RX0) (T := TX0) (N := 4) hx hb hts in_X0 hown hK hP 0 rfl rfl 1 (by decide) (hts _ q27) (fun _ h9 => h9) rfl dX0_bitwise_93 ?_
      refine lv_iload_n hx hb dX0_bitwise_96 rfl (lv_at hl 3 rfl) ?_
      refine va_iald hx hb hK hP 2 1 rfl rfl g2 dX0_bitwise_97 ?_
      refine lv_ior hx hb dX0_bitwise_98 ?_
      refine lv_aload_n hx hb dX0_bitwise_99 rfl (lv_at hl 0 rfl) ?_
      refine va_get (D := (dC, dI)) (ci := 0) (v := .int z_7) (C := RX0) (T := TX0) (N := 4) hx hb hts in_X0 hown hK hP 0 rfl rfl 2 (by decide) (hts _ q28) (fun _ h9 => h9) rfl dX0_bitwise_100 ?_
      refine lv_iconst (v := (-1)) hx hb dX0_bitwise_103 (by decide +kernel) ?_
      refine lv_ixor hx hb dX0_bitwise_104 ?_
      refine lv_iand hx hb dX0_bitwise_105 ?_
      refine lv_topi (fun z_9 e_10 => ?_)
      refine va_put (D := (dC, dI)) (ci := 0) (v := .int z_9) (ty := .int) (C := RX0) (T := TX0) (N := 4) hx hb hts in_X0 tyX0 tyX0_ok nmX0 hown hK hP hD hS 0 rfl rfl 3 (by decide) (hts _ q29) (fun _ h9 => h9) rfl (by decide +kernel) rfl rfl (Nat.le_of_ble_eq_true rfl) dX0_bitwise_106 (fun H locs hP hD hS => ?_)
      have hP : va_P (dC, dI) vwCl (kbW h0 hv hm d1 d2 V M z_7 z_9) H := hP
      have hD : va_D A (kbW h0 hv hm d1 d2 V M z_7 z_9) := hD
      refine lv_goto (tgt := 153) hx hb dX0_bitwise_109 (by decide) ?_
      exact W.vret hx hb hr (fun t ht hW => ⟨⟨(V, M, z_7, z_9), rfl, (by subst e_8 e_10; first | rfl | (simp only [kBitV, kBitM, if_neg c_1, if_pos c_2]; done) | (simp only [kBitV, kBitM, if_neg c_1, if_pos c_2]; rfl)), by rw [ht]; exact hP, va_K.moved hW.alike hK, hD⟩, hS.F ht⟩) hS.2.2 dX0_bitwise_153
  · refine lv_aload_n hx hb dX0_bitwise_5 rfl (lv_at hl 0 rfl) ?_
    refine lv_aload_n hx hb dX0_bitwise_6 rfl (lv_at hl 0 rfl) ?_
    refine va_get (D := (dC, dI)) (ci := 0) (v := .ref hv) (C := RX0) (T := TX0) (N := 4) hx hb hts in_X0 hown hK hP 0 rfl rfl 0 (by decide) (hts _ q26) (fun _ h9 => h9) rfl dX0_bitwise_7 ?_
    refine lv_iload_n hx hb dX0_bitwise_10 rfl (lv_at hl 2 rfl) ?_
    refine va_iald hx hb hK hP 1 0 rfl rfl g1 dX0_bitwise_11 ?_
    refine lv_aload_n hx hb dX0_bitwise_12 rfl (lv_at hl 0 rfl) ?_
    refine va_get (D := (dC, dI)) (ci := 0) (v := .ref hv) (C := RX0) (T := TX0) (N := 4) hx hb hts in_X0 hown hK hP 0 rfl rfl 0 (by decide) (hts _ q26) (fun _ h9 => h9) rfl dX0_bitwise_13 ?_
    refine lv_iload_n hx hb dX0_bitwise_16 rfl (lv_at hl 3 rfl) ?_
    refine va_iald hx hb hK hP 1 0 rfl rfl g2 dX0_bitwise_17 ?_
    refine lv_iand hx hb dX0_bitwise_18 ?_
    refine lv_topi (fun z_11 e_12 => ?_)
    refine va_put (D := (dC, dI)) (ci := 0) (v := .int z_11) (ty := .int) (C := RX0) (T := TX0) (N := 4) hx hb hts in_X0 tyX0 tyX0_ok nmX0 hown hK hP hD hS 0 rfl rfl 2 (by decide) (hts _ q28) (fun _ h9 => h9) rfl (by decide +kernel) rfl rfl (Nat.le_of_ble_eq_true rfl) dX0_bitwise_19 (fun H locs hP hD hS => ?_)
    have hP : va_P (dC, dI) vwCl (kbW h0 hv hm d1 d2 V M z_11 nm) H := hP
    have hD : va_D A (kbW h0 hv hm d1 d2 V M z_11 nm) := hD
    refine lv_aload_n hx hb dX0_bitwise_22 rfl (lv_at hl 0 rfl) ?_
    refine lv_aload_n hx hb dX0_bitwise_23 rfl (lv_at hl 0 rfl) ?_
    refine va_get (D := (dC, dI)) (ci := 0) (v := .ref hv) (C := RX0) (T := TX0) (N := 4) hx hb hts in_X0 hown hK hP 0 rfl rfl 0 (by decide) (hts _ q26) (fun _ h9 => h9) rfl dX0_bitwise_24 ?_
    refine lv_iload_n hx hb dX0_bitwise_27 rfl (lv_at hl 2 rfl) ?_
    refine va_iald hx hb hK hP 1 0 rfl rfl g1 dX0_bitwise_28 ?_
    refine lv_aload_n hx hb dX0_bitwise_29 rfl (lv_at hl 0 rfl) ?_
    refine va_get (D := (dC, dI)) (ci := 0) (v := .ref hm) (C := RX0) (T := TX0) (N := 4) hx hb hts in_X0 hown hK hP 0 rfl rfl 1 (by decide) (hts _ q27) (fun _ h9 => h9) rfl dX0_bitwise_30 ?_
    refine lv_iload_n hx hb dX0_bitwise_33 rfl (lv_at hl 2 rfl) ?_
    refine va_iald hx hb hK hP 2 1 rfl rfl g1 dX0_bitwise_34 ?_
    refine lv_ior hx hb dX0_bitwise_35 ?_
    refine lv_aload_n hx hb dX0_bitwise_36 rfl (lv_at hl 0 rfl) ?_
    refine va_get (D := (dC, dI)) (ci := 0) (v := .ref hv) (C := RX0) (T := TX0) (N := 4) hx hb hts in_X0 hown hK hP 0 rfl rfl 0 (by decide) (hts _ q26) (fun _ h9 => h9) rfl dX0_bitwise_37 ?_
    refine lv_iload_n hx hb dX0_bitwise_40 rfl (lv_at hl 3 rfl) ?_
    refine va_iald hx hb hK hP 1 0 rfl rfl g2 dX0_bitwise_41 ?_
    refine lv_aload_n hx hb dX0_bitwise_42 rfl (lv_at hl 0 rfl) ?_
    refine va_get (D := (dC, dI)) (ci := 0) (v := .ref hm) (C := RX0) (T := TX0) (N := 4) hx hb hts in_X0 hown hK hP 0 rfl rfl 1 (by decide) (hts _ q27) (fun _ h9 => h9) rfl dX0_bitwise_43 ?_
    refine lv_iload_n hx hb dX0_bitwise_46 rfl (lv_at hl 3 rfl) ?_
    refine va_iald hx hb hK hP 2 1 rfl rfl g2 dX0_bitwise_47 ?_
    refine lv_ior hx hb dX0_bitwise_48 ?_
    refine lv_iand hx hb dX0_bitwise_49 ?_
    refine lv_aload_n hx hb dX0_bitwise_50 rfl (lv_at hl 0 rfl) ?_
    refine va_get (D := (dC, dI)) (ci := 0) (v := .int z_11) (C := RX0) (T := TX0) (N := 4) hx hb hts in_X0 hown hK hP 0 rfl rfl 2 (by decide) (hts _ q28) (fun _ h9 => h9) rfl dX0_bitwise_51 ?_
    refine lv_iconst (v := (-1)) hx hb dX0_bitwise_54 (by decide +kernel) ?_
    refine lv_ixor hx hb dX0_bitwise_55 ?_
    refine lv_iand hx hb dX0_bitwise_56 ?_
    refine lv_topi (fun z_13 e_14 => ?_)
    refine va_put (D := (dC, dI)) (ci := 0) (v := .int z_13) (ty := .int) (C := RX0) (T := TX0) (N := 4) hx hb hts in_X0 tyX0 tyX0_ok nmX0 hown hK hP hD hS 0 rfl rfl 3 (by decide) (hts _ q29) (fun _ h9 => h9) rfl (by decide +kernel) rfl rfl (Nat.le_of_ble_eq_true rfl) dX0_bitwise_57 (fun H locs hP hD hS => ?_)
    have hP : va_P (dC, dI) vwCl (kbW h0 hv hm d1 d2 V M z_11 z_13) H := hP
    have hD : va_D A (kbW h0 hv hm d1 d2 V M z_11 z_13) := hD
    refine lv_goto (tgt := 153) hx hb dX0_bitwise_60 (by decide) ?_
    exact W.vret hx hb hr (fun t ht hW => ⟨⟨(V, M, z_11, z_13), rfl, (by subst e_12 e_14; first | rfl | (simp only [kBitV, kBitM, if_pos c_1]; done) | (simp only [kBitV, kBitM, if_pos c_1]; rfl)), by rw [ht]; exact hP, va_K.moved hW.alike hK, hD⟩, hS.F ht⟩) hS.2.2 dX0_bitwise_153

set_option maxHeartbeats 4000000 in
set_option maxRecDepth 100000 in
/-- set -/
theorem metX0_set (l : Launch) (dC : Nat → ClassId) (dI : Nat → Nat → Nat) (h0 hv hm : Nat) (d1 d2 : ClassId) (sz : Nat) (V M : kF) (nv nm : Int32) (p0 : Int32) (p1 : Int32) (p2 : Int32) : Met l yX0_set (ws_ yX0_set cX0_set 4 (some .int)) ({ frames := 1, cells := 0, slots := 0, locals := 20 }) (va_Pc [.ref h0, .int p0, .int p1, .int p2] (kbP (dC, dI) (kTy d1 d2) (kbW h0 hv hm d1 d2 V M nv nm) sz)) (va_Qi (fun (r : Int32) (u : kSt) => (r, u.1, u.2.1) = kOpSet V M p0 p1 p2) (kbB dC dI (kA h0 hv hm sz) h0 hv hm d1 d2) (kA h0 hv hm sz)) 0 0 (kA h0 hv hm sz) := by
  refine Met.ofW (cc := cX0_set) (maxL := 4) (ret := (some .int)) (by decide) rfl ?_
  intro p e s m args below meth c s₁ B hml hv_
  obtain ⟨rfl, hsz, hP, hK, hD0⟩ := hv_
  have hx := B.exec
  have hb := B.bytes
  have hr := B.returns
  have hts := atoms_spec (ws := ws_ yX0_set cX0_set 4 (some .int)) B.pre
  have hts : ∀ w ∈ lw_all, w.before _ s = true := fun w h => hts w (List.mem_cons_of_mem _ h)
  have hown : s.vm.findClass RX0 = some m.cls := findClass_of_methodNamed B.named
  have hlocks := B.notSynchronized
  subst hsz
  have hD := kA_kb (sz := s.heap.size) hD0
  have hA : ∀ q : Nat, kA h0 hv hm s.heap.size q → kA h0 hv hm s.heap.size q := fun _ h => h
  generalize hAe : kA h0 hv hm s.heap.size = A at hD ⊢
  have hA : ∀ q : Nat, kA h0 hv hm s.heap.size q → A q := fun q h => by rw [← hAe]; exact h
  have hS : va_S A s.heap s.heap [] := va_S.rf
  have hP : va_P (dC, dI) vwCl (kbW h0 hv hm d1 d2 V M nv nm) s.heap := hP
  have hl := lv_entry ([.ref h0, .int p0, .int p1, .int p2]) (n := 4) (Nat.le_of_ble_eq_true rfl)
  rw [lg_entry_eq]
  generalize (lg_sl ([.ref h0, .int p0, .int p1, .int p2]) ++ List.replicate (4 - (lg_sl ([.ref h0, .int p0, .int p1, .int p2])).length) Slot.unset).toArray = ls at hl ⊢
  have hl : lv_has ls 4 [(0, .ref h0), (1, .int p0), (2, .int p1), (3, .int p2)] := hl
  refine lv_iload_n hx hb dX0_set_0 rfl (lv_at hl 1 rfl) ?_
  refine vp_callSi (W.runS (As := [.int p0]) (rest := []) ⟨hx, hb, hml, hown, hts⟩ (metX0_isRegister l p0) (va_cwS 1 hts (lw_S q44 q45 q16 q46) rfl rfl rfl (by decide +kernel) ⟨Nat.le_of_ble_eq_true rfl, Nat.le_of_ble_eq_true rfl⟩) ⟨fun _ _ _ _ q => q, fun U hU hW => ⟨rfl, trivial⟩⟩ rfl rfl hl.1 rfl (lv_room (Nat.le_of_ble_eq_true rfl)) dX0_set_1 ⟨Nat.le_of_ble_eq_true rfl, Nat.le_of_ble_eq_true rfl⟩) (fun r_1 hr_2 => ?_)
  refine lv_if_ne (tgt := 9) hx hb dX0_set_4 (by decide) (fun c_3 => ?_) (fun c_3 => ?_)
  · have g_4 := kb_tt hr_2 c_3
    refine lv_aload_n hx hb dX0_set_9 rfl (lv_at hl 0 rfl) ?_
    refine va_get (D := (dC, dI)) (ci := 0) (v := .ref hm) (C := RX0) (T := TX0) (N := 4) hx hb hts in_X0 hown hK hP 0 rfl rfl 1 (by decide) (hts _ q27) (fun _ h9 => h9) rfl dX0_set_10 ?_
    refine lv_iload_n hx hb dX0_set_13 rfl (lv_at hl 1 rfl) ?_
    refine lv_iload_n hx hb dX0_set_14 rfl (lv_at hl 3 rfl) ?_
    refine lv_bipush (v := 63) hx hb dX0_set_15 (by decide +kernel) ?_
    refine lv_iand hx hb dX0_set_17 ?_
    refine lv_topi (fun z_5 e_6 => ?_)
    refine va_iast hx hb hK hP hD hS 2 1 rfl rfl (kR_in g_4) dX0_set_18 (fun H locs hP hD hS => ?_)
    have hP : va_P (dC, dI) vwCl (kbW h0 hv hm d1 d2 V (upd M p0.toNatClampNeg z_5) nv nm) H := hP
    have hD : va_D A (kbW h0 hv hm d1 d2 V (upd M p0.toNatClampNeg z_5) nv nm) := hD
    refine lv_aload_n hx hb dX0_set_19 rfl (lv_at hl 0 rfl) ?_
    refine va_get (D := (dC, dI)) (ci := 0) (v := .ref hv) (C := RX0) (T := TX0) (N := 4) hx hb hts in_X0 hown hK hP 0 rfl rfl 0 (by decide) (hts _ q26) (fun _ h9 => h9) rfl dX0_set_20 ?_
    refine lv_iload_n hx hb dX0_set_23 rfl (lv_at hl 1 rfl) ?_
    refine lv_iload_n hx hb dX0_set_24 rfl (lv_at hl 2 rfl) ?_
    refine lv_bipush (v := 63) hx hb dX0_set_25 (by decide +kernel) ?_
    refine lv_iand hx hb dX0_set_27 ?_
    refine lv_iload_n hx hb dX0_set_28 rfl (lv_at hl 3 rfl) ?_
    refine lv_iconst (v := (-1)) hx hb dX0_set_29 (by decide +kernel) ?_
    refine lv_ixor hx hb dX0_set_30 ?_
    refine lv_iand hx hb dX0_set_31 ?_
    refine lv_topi (fun z_7 e_8 => ?_)
    refine va_iast hx hb hK hP hD hS 1 0 rfl rfl (kR_in g_4) dX0_set_32 (fun H locs hP hD hS => ?_)
    have hP : va_P (dC, dI) vwCl (kbW h0 hv hm d1 d2 (upd V p0.toNatClampNeg z_7) (upd M p0.toNatClampNeg z_5) nv nm) H := hP
    have hD : va_D A (kbW h0 hv hm d1 d2 (upd V p0.toNatClampNeg z_7) (upd M p0.toNatClampNeg z_5) nv nm) := hD
    refine lv_iconst (v := 0) hx hb dX0_set_33 (by decide +kernel) ?_
    exact W.iret (v := 0) hx hb hr (fun t ht hW => ⟨⟨0, (upd V p0.toNatClampNeg z_7, upd M p0.toNatClampNeg z_5, nv, nm), rfl, (by subst e_6 e_8; first | rfl | (simp only [kOpSet, if_pos g_4]; done) | (simp only [kOpSet, if_pos g_4]; rfl)), by rw [ht]; exact hP, va_K.moved hW.alike hK, hD⟩, hS.F ht⟩) hS.2.2 dX0_set_34
  · have g_9 := kb_tf hr_2 c_3
    refine lv_iconst (v := (-1)) hx hb dX0_set_7 (by decide +kernel) ?_
    exact W.iret (v := (-1)) hx hb hr (fun t ht hW => ⟨⟨(-1), (V, M, nv, nm), rfl, (by first | rfl | (simp only [kOpSet, if_neg g_9]; done) | (simp only [kOpSet, if_neg g_9]; rfl)), by rw [ht]; exact hP, va_K.moved hW.alike hK, hD⟩, hS.F ht⟩) hS.2.2 dX0_set_8

set_option maxHeartbeats 4000000 in
set_option maxRecDepth 100000 in
/-- value -/
theorem metX0_value (l : Launch) (dC : Nat → ClassId) (dI : Nat → Nat → Nat) (h0 hv hm : Nat) (d1 d2 : ClassId) (V M : kF) (nv nm : Int32) (p0 : Int32) : Met l yX0_value (ws_ yX0_value cX0_value 2 (some .int)) ({ frames := 1, cells := 0, slots := 0, locals := 20 }) (va_Pc [.ref h0, .int p0] (kbR (dC, dI) (kTy d1 d2) (kbW h0 hv hm d1 d2 V M nv nm))) (vp_Si (fun r => r = if kR p0 then V p0.toNatClampNeg else -1)) 0 0 (fun _ => False) := by
  refine Met.ofW (cc := cX0_value) (maxL := 2) (ret := (some .int)) (by decide) rfl ?_
  intro p e s m args below meth c s₁ B hml hv_
  obtain ⟨rfl, hP, hK⟩ := hv_
  have hx := B.exec
  have hb := B.bytes
  have hr := B.returns
  have hts := atoms_spec (ws := ws_ yX0_value cX0_value 2 (some .int)) B.pre
  have hts : ∀ w ∈ lw_all, w.before _ s = true := fun w h => hts w (List.mem_cons_of_mem _ h)
  have hown : s.vm.findClass RX0 = some m.cls := findClass_of_methodNamed B.named
  have hlocks := B.notSynchronized
  have hP : va_P (dC, dI) vwCl (kbW h0 hv hm d1 d2 V M nv nm) s.heap := hP
  have hl := lv_entry ([.ref h0, .int p0]) (n := 2) (Nat.le_of_ble_eq_true rfl)
  rw [lg_entry_eq]
  generalize (lg_sl ([.ref h0, .int p0]) ++ List.replicate (2 - (lg_sl ([.ref h0, .int p0])).length) Slot.unset).toArray = ls at hl ⊢
  have hl : lv_has ls 2 [(0, .ref h0), (1, .int p0)] := hl
  refine lv_iload_n hx hb dX0_value_0 rfl (lv_at hl 1 rfl) ?_
  refine vp_callSi (W.runS (As := [.int p0]) (rest := []) ⟨hx, hb, hml, hown, hts⟩ (metX0_isRegister l p0) (va_cwS 1 hts (lw_S q44 q45 q16 q46) rfl rfl rfl (by decide +kernel) ⟨Nat.le_of_ble_eq_true rfl, Nat.le_of_ble_eq_true rfl⟩) ⟨fun _ _ _ _ q => q, fun U hU hW => ⟨rfl, trivial⟩⟩ rfl rfl hl.1 rfl (lv_room (Nat.le_of_ble_eq_true rfl)) dX0_value_1 ⟨Nat.le_of_ble_eq_true rfl, Nat.le_of_ble_eq_true rfl⟩) (fun r_1 hr_2 => ?_)
  refine lv_if_eq (tgt := 16) hx hb dX0_value_4 (by decide) (fun c_3 => ?_) (fun c_3 => ?_)
  · have g_4 := kb_tf hr_2 c_3
    refine lv_iconst (v := (-1)) hx hb dX0_value_16 (by decide +kernel) ?_
    exact W.iret (v := (-1)) hx hb hr (fun t ht hW => ⟨(-1), rfl, (by first | rfl | (simp only [if_neg g_4]; done) | (simp only [if_neg g_4]; rfl)), ht⟩) (fun _ h => by cases h) dX0_value_17
  · have g_5 := kb_tt hr_2 c_3
    refine lv_aload_n hx hb dX0_value_7 rfl (lv_at hl 0 rfl) ?_
    refine va_get (D := (dC, dI)) (ci := 0) (v := .ref hv) (C := RX0) (T := TX0) (N := 4) hx hb hts in_X0 hown hK hP 0 rfl rfl 0 (by decide) (hts _ q26) (fun _ h9 => h9) rfl dX0_value_8 ?_
    refine lv_iload_n hx hb dX0_value_11 rfl (lv_at hl 1 rfl) ?_
    refine va_iald hx hb hK hP 1 0 rfl rfl (kR_in g_5) dX0_value_12 ?_
    refine lv_goto (tgt := 17) hx hb dX0_value_13 (by decide) ?_
    exact W.iret (v := V p0.toNatClampNeg) hx hb hr (fun t ht hW => ⟨V p0.toNatClampNeg, rfl, (by first | rfl | (simp only [if_pos g_5]; done) | (simp only [if_pos g_5]; rfl)), ht⟩) (fun _ h => by cases h) dX0_value_17

set_option maxHeartbeats 4000000 in
set_option maxRecDepth 100000 in
/-- mask -/
theorem metX0_mask (l : Launch) (dC : Nat → ClassId) (dI : Nat → Nat → Nat) (h0 hv hm : Nat) (d1 d2 : ClassId) (V M : kF) (nv nm : Int32) (p0 : Int32) : Met l yX0_mask (ws_ yX0_mask cX0_mask 2 (some .int)) ({ frames := 1, cells := 0, slots := 0, locals := 20 }) (va_Pc [.ref h0, .int p0] (kbR (dC, dI) (kTy d1 d2) (kbW h0 hv hm d1 d2 V M nv nm))) (vp_Si (fun r => r = if kR p0 then M p0.toNatClampNeg else -1)) 0 0 (fun _ => False) := by
  refine Met.ofW (cc := cX0_mask) (maxL := 2) (ret := (some .int)) (by decide) rfl ?_
  intro p e s m args below meth c s₁ B hml hv_
  obtain ⟨rfl, hP, hK⟩ := hv_
  have hx := B.exec
  have hb := B.bytes
  have hr := B.returns
  have hts := atoms_spec (ws := ws_ yX0_mask cX0_mask 2 (some .int)) B.pre
  have hts : ∀ w ∈ lw_all, w.before _ s = true := fun w h => hts w (List.mem_cons_of_mem _ h)
  have hown : s.vm.findClass RX0 = some m.cls := findClass_of_methodNamed B.named
  have hlocks := B.notSynchronized
  have hP : va_P (dC, dI) vwCl (kbW h0 hv hm d1 d2 V M nv nm) s.heap := hP
  have hl := lv_entry ([.ref h0, .int p0]) (n := 2) (Nat.le_of_ble_eq_true rfl)
  rw [lg_entry_eq]
  generalize (lg_sl ([.ref h0, .int p0]) ++ List.replicate (2 - (lg_sl ([.ref h0, .int p0])).length) Slot.unset).toArray = ls at hl ⊢
  have hl : lv_has ls 2 [(0, .ref h0), (1, .int p0)] := hl
  refine lv_iload_n hx hb dX0_mask_0 rfl (lv_at hl 1 rfl) ?_
  refine vp_callSi (W.runS (As := [.int p0]) (rest := []) ⟨hx, hb, hml, hown, hts⟩ (metX0_isRegister l p0) (va_cwS 1 hts (lw_S q44 q45 q16 q46) rfl rfl rfl (by decide +kernel) ⟨Nat.le_of_ble_eq_true rfl, Nat.le_of_ble_eq_true rfl⟩) ⟨fun _ _ _ _ q => q, fun U hU hW => ⟨rfl, trivial⟩⟩ rfl rfl hl.1 rfl (lv_room (Nat.le_of_ble_eq_true rfl)) dX0_mask_1 ⟨Nat.le_of_ble_eq_true rfl, Nat.le_of_ble_eq_true rfl⟩) (fun r_1 hr_2 => ?_)
  refine lv_if_eq (tgt := 16) hx hb dX0_mask_4 (by decide) (fun c_3 => ?_) (fun c_3 => ?_)
  · have g_4 := kb_tf hr_2 c_3
    refine lv_iconst (v := (-1)) hx hb dX0_mask_16 (by decide +kernel) ?_
    exact W.iret (v := (-1)) hx hb hr (fun t ht hW => ⟨(-1), rfl, (by first | rfl | (simp only [if_neg g_4]; done) | (simp only [if_neg g_4]; rfl)), ht⟩) (fun _ h => by cases h) dX0_mask_17
  · have g_5 := kb_tt hr_2 c_3
    refine lv_aload_n hx hb dX0_mask_7 rfl (lv_at hl 0 rfl) ?_
    refine va_get (D := (dC, dI)) (ci := 0) (v := .ref hm) (C := RX0) (T := TX0) (N := 4) hx hb hts in_X0 hown hK hP 0 rfl rfl 1 (by decide) (hts _ q27) (fun _ h9 => h9) rfl dX0_mask_8 ?_
    refine lv_iload_n hx hb dX0_mask_11 rfl (lv_at hl 1 rfl) ?_
    refine va_iald hx hb hK hP 2 1 rfl rfl (kR_in g_5) dX0_mask_12 ?_
    refine lv_goto (tgt := 17) hx hb dX0_mask_13 (by decide) ?_
    exact W.iret (v := M p0.toNatClampNeg) hx hb hr (fun t ht hW => ⟨M p0.toNatClampNeg, rfl, (by first | rfl | (simp only [if_pos g_5]; done) | (simp only [if_pos g_5]; rfl)), ht⟩) (fun _ h => by cases h) dX0_mask_17

set_option maxHeartbeats 4000000 in
set_option maxRecDepth 100000 in
/-- greatest -/
theorem metX0_greatest (l : Launch) (dC : Nat → ClassId) (dI : Nat → Nat → Nat) (h0 hv hm : Nat) (d1 d2 : ClassId) (V M : kF) (nv nm : Int32) (p0 : Int32) (g0 : vp_in p0 6) : Met l yX0_greatest (ws_ yX0_greatest cX0_greatest 2 (some .int)) ({ frames := 0, cells := 0, slots := 0, locals := 0 }) (va_Pc [.ref h0, .int p0] (kbR (dC, dI) (kTy d1 d2) (kbW h0 hv hm d1 d2 V M nv nm))) (vp_Si (fun r => r = V p0.toNatClampNeg ||| M p0.toNatClampNeg)) 0 0 (fun _ => False) := by
  refine Met.ofW (cc := cX0_greatest) (maxL := 2) (ret := (some .int)) (by decide) rfl ?_
  intro p e s m args below meth c s₁ B hml hv_
  obtain ⟨rfl, hP, hK⟩ := hv_
  have hx := B.exec
  have hb := B.bytes
  have hr := B.returns
  have hts := atoms_spec (ws := ws_ yX0_greatest cX0_greatest 2 (some .int)) B.pre
  have hts : ∀ w ∈ lw_all, w.before _ s = true := fun w h => hts w (List.mem_cons_of_mem _ h)
  have hown : s.vm.findClass RX0 = some m.cls := findClass_of_methodNamed B.named
  have hlocks := B.notSynchronized
  have hP : va_P (dC, dI) vwCl (kbW h0 hv hm d1 d2 V M nv nm) s.heap := hP
  have hl := lv_entry ([.ref h0, .int p0]) (n := 2) (Nat.le_of_ble_eq_true rfl)
  rw [lg_entry_eq]
  generalize (lg_sl ([.ref h0, .int p0]) ++ List.replicate (2 - (lg_sl ([.ref h0, .int p0])).length) Slot.unset).toArray = ls at hl ⊢
  have hl : lv_has ls 2 [(0, .ref h0), (1, .int p0)] := hl
  refine lv_aload_n hx hb dX0_greatest_0 rfl (lv_at hl 0 rfl) ?_
  refine va_get (D := (dC, dI)) (ci := 0) (v := .ref hv) (C := RX0) (T := TX0) (N := 4) hx hb hts in_X0 hown hK hP 0 rfl rfl 0 (by decide) (hts _ q26) (fun _ h9 => h9) rfl dX0_greatest_1 ?_
  refine lv_iload_n hx hb dX0_greatest_4 rfl (lv_at hl 1 rfl) ?_
  refine va_iald hx hb hK hP 1 0 rfl rfl g0 dX0_greatest_5 ?_
  refine lv_aload_n hx hb dX0_greatest_6 rfl (lv_at hl 0 rfl) ?_
  refine va_get (D := (dC, dI)) (ci := 0) (v := .ref hm) (C := RX0) (T := TX0) (N := 4) hx hb hts in_X0 hown hK hP 0 rfl rfl 1 (by decide) (hts _ q27) (fun _ h9 => h9) rfl dX0_greatest_7 ?_
  refine lv_iload_n hx hb dX0_greatest_10 rfl (lv_at hl 1 rfl) ?_
  refine va_iald hx hb hK hP 2 1 rfl rfl g0 dX0_greatest_11 ?_
  refine lv_ior hx hb dX0_greatest_12 ?_
  exact W.iret (v := (V p0.toNatClampNeg) ||| (M p0.toNatClampNeg)) hx hb hr (fun t ht hW => ⟨(V p0.toNatClampNeg) ||| (M p0.toNatClampNeg), rfl, (by rfl), ht⟩) (fun _ h => by cases h) dX0_greatest_13
end
section
set_option maxHeartbeats 4000000 in
set_option maxRecDepth 100000 in
/-- combine -/
theorem metX0_combine (l : Launch) (dC : Nat → ClassId) (dI : Nat → Nat → Nat) (h0 hv hm : Nat) (d1 d2 : ClassId) (sz : Nat) (V M : kF) (nv nm : Int32) (p0 : Int32) (p1 : Int32) (p2 : Int32) (p3 : Int32) : Met l yX0_combine (ws_ yX0_combine cX0_combine 5 (some .int)) ({ frames := 1, cells := 0, slots := 0, locals := 25 }) (va_Pc [.ref h0, .int p0, .int p1, .int p2, .int p3] (kbP (dC, dI) (kTy d1 d2) (kbW h0 hv hm d1 d2 V M nv nm) sz)) (va_Qi (fun (r : Int32) (u : kSt) => (r, u.1, u.2.1) = kOpC V M p0 p1 p2 p3) (kbB dC dI (kA h0 hv hm sz) h0 hv hm d1 d2) (kA h0 hv hm sz)) 0 0 (kA h0 hv hm sz) := by
  refine Met.ofW (cc := cX0_combine) (maxL := 5) (ret := (some .int)) (by decide) rfl ?_
  intro p e s m args below meth c s₁ B hml hv_
  obtain ⟨rfl, hsz, hP, hK, hD0⟩ := hv_
  have hx := B.exec
  have hb := B.bytes
  have hr := B.returns
  have hts := atoms_spec (ws := ws_ yX0_combine cX0_combine 5 (some .int)) B.pre
  have hts : ∀ w ∈ lw_all, w.before _ s = true := fun w h => hts w (List.mem_cons_of_mem _ h)
  have hown : s.vm.findClass RX0 = some m.cls := findClass_of_methodNamed B.named
  have hlocks := B.notSynchronized
  subst hsz
  have hD := kA_kb (sz := s.heap.size) hD0
  have hA : ∀ q : Nat, kA h0 hv hm s.heap.size q → kA h0 hv hm s.heap.size q := fun _ h => h
  generalize hAe : kA h0 hv hm s.heap.size = A at hD ⊢
  have hA : ∀ q : Nat, kA h0 hv hm s.heap.size q → A q := fun q h => by rw [← hAe]; exact h
  have hS : va_S A s.heap s.heap [] := va_S.rf
  have hP : va_P (dC, dI) vwCl (kbW h0 hv hm d1 d2 V M nv nm) s.heap := hP
  have hl := lv_entry ([.ref h0, .int p0, .int p1, .int p2, .int p3]) (n := 5) (Nat.le_of_ble_eq_true rfl)
  rw [lg_entry_eq]
  generalize (lg_sl ([.ref h0, .int p0, .int p1, .int p2, .int p3]) ++ List.replicate (5 - (lg_sl ([.ref h0, .int p0, .int p1, .int p2, .int p3])).length) Slot.unset).toArray = ls at hl ⊢
  have hl : lv_has ls 5 [(0, .ref h0), (1, .int p0), (2, .int p1), (3, .int p2), (4, .int p3)] := hl
  refine lv_iload_n hx hb dX0_combine_0 rfl (lv_at hl 1 rfl) ?_
  refine vp_callSi (W.runS (As := [.int p0]) (rest := []) ⟨hx, hb, hml, hown, hts⟩ (metX0_isRegister l p0) (va_cwS 1 hts (lw_S q44 q45 q16 q46) rfl rfl rfl (by decide +kernel) ⟨Nat.le_of_ble_eq_true rfl, Nat.le_of_ble_eq_true rfl⟩) ⟨fun _ _ _ _ q => q, fun U hU hW => ⟨rfl, trivial⟩⟩ rfl rfl hl.1 rfl (lv_room (Nat.le_of_ble_eq_true rfl)) dX0_combine_1 ⟨Nat.le_of_ble_eq_true rfl, Nat.le_of_ble_eq_true rfl⟩) (fun r_1 hr_2 => ?_)
  refine lv_if_eq (tgt := 32) hx hb dX0_combine_4 (by decide) (fun c_3 => ?_) (fun c_3 => ?_)
  · have g_4 := kb_tf hr_2 c_3
    refine lv_iconst (v := (-1)) hx hb dX0_combine_32 (by decide +kernel) ?_
    exact W.iret (v := (-1)) hx hb hr (fun t ht hW => ⟨⟨(-1), (V, M, nv, nm), rfl, (by first | rfl | (simp only [kOpC, kCmV, kCmM, if_neg g_4]; done) | (simp only [kOpC, kCmV, kCmM, if_neg g_4]; rfl)), by rw [ht]; exact hP, va_K.moved hW.alike hK, hD⟩, hS.F ht⟩) hS.2.2 dX0_combine_33
  · have g_5 := kb_tt hr_2 c_3
    refine lv_iload_n hx hb dX0_combine_7 rfl (lv_at hl 3 rfl) ?_
    refine vp_callSi (W.runS (As := [.int p2]) (rest := []) ⟨hx, hb, hml, hown, hts⟩ (metX0_isRegister l p2) (va_cwS 1 hts (lw_S q44 q45 q16 q46) rfl rfl rfl (by decide +kernel) ⟨Nat.le_of_ble_eq_true rfl, Nat.le_of_ble_eq_true rfl⟩) ⟨fun _ _ _ _ q => q, fun U hU hW => ⟨rfl, trivial⟩⟩ rfl rfl hl.1 rfl (lv_room (Nat.le_of_ble_eq_true rfl)) dX0_combine_8 ⟨Nat.le_of_ble_eq_true rfl, Nat.le_of_ble_eq_true rfl⟩) (fun r_6 hr_7 => ?_)
    refine lv_if_eq (tgt := 32) hx hb dX0_combine_11 (by decide) (fun c_8 => ?_) (fun c_8 => ?_)
    · have g_9 := kb_tf hr_7 c_8
      refine lv_iconst (v := (-1)) hx hb dX0_combine_32 (by decide +kernel) ?_
      exact W.iret (v := (-1)) hx hb hr (fun t ht hW => ⟨⟨(-1), (V, M, nv, nm), rfl, (by first | rfl | (simp only [kOpC, kCmV, kCmM, if_pos g_5, if_neg g_9]; done) | (simp only [kOpC, kCmV, kCmM, if_pos g_5, if_neg g_9]; rfl)), by rw [ht]; exact hP, va_K.moved hW.alike hK, hD⟩, hS.F ht⟩) hS.2.2 dX0_combine_33
    · have g_10 := kb_tt hr_7 c_8
      refine lv_iload hx hb dX0_combine_14 (lv_at hl 4 rfl) ?_
      refine vp_callSi (W.runS (As := [.int p3]) (rest := []) ⟨hx, hb, hml, hown, hts⟩ (metX0_isRegister l p3) (va_cwS 1 hts (lw_S q44 q45 q16 q46) rfl rfl rfl (by decide +kernel) ⟨Nat.le_of_ble_eq_true rfl, Nat.le_of_ble_eq_true rfl⟩) ⟨fun _ _ _ _ q => q, fun U hU hW => ⟨rfl, trivial⟩⟩ rfl rfl hl.1 rfl (lv_room (Nat.le_of_ble_eq_true rfl)) dX0_combine_16 ⟨Nat.le_of_ble_eq_true rfl, Nat.le_of_ble_eq_true rfl⟩) (fun r_11 hr_12 => ?_)
      refine lv_if_eq (tgt := 32) hx hb dX0_combine_19 (by decide) (fun c_13 => ?_) (fun c_13 => ?_)
      · have g_14 := kb_tf hr_12 c_13
        refine lv_iconst (v := (-1)) hx hb dX0_combine_32 (by decide +kernel) ?_
        exact W.iret (v := (-1)) hx hb hr (fun t ht hW => ⟨⟨(-1), (V, M, nv, nm), rfl, (by first | rfl | (simp only [kOpC, kCmV, kCmM, if_pos g_5, if_pos g_10, if_neg g_14]; done) | (simp only [kOpC, kCmV, kCmM, if_pos g_5, if_pos g_10, if_neg g_14]; rfl)), by rw [ht]; exact hP, va_K.moved hW.alike hK, hD⟩, hS.F ht⟩) hS.2.2 dX0_combine_33
      · have g_15 := kb_tt hr_12 c_13
        refine lv_iload_n hx hb dX0_combine_22 rfl (lv_at hl 2 rfl) ?_
        refine lv_if_lt (tgt := 32) hx hb dX0_combine_23 (by decide) (fun c_16 => ?_) (fun c_16 => ?_)
        · refine lv_iconst (v := (-1)) hx hb dX0_combine_32 (by decide +kernel) ?_
          exact W.iret (v := (-1)) hx hb hr (fun t ht hW => ⟨⟨(-1), (V, M, nv, nm), rfl, (by first | rfl | (simp only [kOpC, kCmV, kCmM, if_pos g_5, if_pos g_10, if_pos g_15, if_pos c_16]; done) | (simp only [kOpC, kCmV, kCmM, if_pos g_5, if_pos g_10, if_pos g_15, if_pos c_16]; rfl)), by rw [ht]; exact hP, va_K.moved hW.alike hK, hD⟩, hS.F ht⟩) hS.2.2 dX0_combine_33
        · refine lv_iload_n hx hb dX0_combine_26 rfl (lv_at hl 2 rfl) ?_
          refine lv_bipush (v := 6) hx hb dX0_combine_27 (by decide +kernel) ?_
          refine lv_icmp_le (tgt := 34) hx hb dX0_combine_29 (by decide) (fun c_17 => ?_) (fun c_17 => ?_)
          · refine lv_iload_n hx hb dX0_combine_34 rfl (lv_at hl 2 rfl) ?_
            refine lv_bipush (v := 6) hx hb dX0_combine_35 (by decide +kernel) ?_
            refine lv_icmp_ne (tgt := 79) hx hb dX0_combine_37 (by decide) (fun c_18 => ?_) (fun c_18 => ?_)
            · refine lv_iload_n hx hb dX0_combine_79 rfl (lv_at hl 2 rfl) ?_
              refine lv_if_ne (tgt := 93) hx hb dX0_combine_80 (by decide) (fun c_19 => ?_) (fun c_19 => ?_)
              · refine lv_iload_n hx hb dX0_combine_93 rfl (lv_at hl 2 rfl) ?_
                refine lv_iconst (v := 1) hx hb dX0_combine_94 (by decide +kernel) ?_
                refine lv_icmp_ne (tgt := 108) hx hb dX0_combine_95 (by decide) (fun c_20 => ?_) (fun c_20 => ?_)
                · refine lv_iload_n hx hb dX0_combine_108 rfl (lv_at hl 2 rfl) ?_
                  refine lv_iconst (v := 4) hx hb dX0_combine_109 (by decide +kernel) ?_
                  refine lv_icmp_gt (tgt := 124) hx hb dX0_combine_110 (by decide) (fun c_21 => ?_) (fun c_21 => ?_)
                  · refine lv_iload_n hx hb dX0_combine_124 rfl (lv_at hl 2 rfl) ?_
                    refine lv_iconst (v := 5) hx hb dX0_combine_125 (by decide +kernel) ?_
                    refine lv_icmp_ne (tgt := 182) hx hb dX0_combine_126 (by decide) (fun c_22 => ?_) (fun c_22 => ?_)
                    · refine lv_aload_n hx hb dX0_combine_182 rfl (lv_at hl 0 rfl) ?_
                      refine lv_aload_n hx hb dX0_combine_183 rfl (lv_at hl 0 rfl) ?_
                      refine va_get (D := (dC, dI)) (ci := 0) (v := .ref hm) (C := RX0) (T := TX0) (N := 4) hx hb hts in_X0 hown hK hP 0 rfl rfl 1 (by decide) (hts _ q27) (fun _ h9 => h9) rfl dX0_combine_184 ?_
                      refine lv_iload_n hx hb dX0_combine_187 rfl (lv_at hl 3 rfl) ?_
                      refine va_iald hx hb hK hP 2 1 rfl rfl (kR_in g_10) dX0_combine_188 ?_
                      refine lv_aload_n hx hb dX0_combine_189 rfl (lv_at hl 0 rfl) ?_
                      refine va_get (D := (dC, dI)) (ci := 0) (v := .ref hm) (C := RX0) (T := TX0) (N := 4) hx hb hts in_X0 hown hK hP 0 rfl rfl 1 (by decide) (hts _ q27) (fun _ h9 => h9) rfl dX0_combine_190 ?_
                      refine lv_iload hx hb dX0_combine_193 (lv_at hl 4 rfl) ?_
                      refine va_iald hx hb hK hP 2 1 rfl rfl (kR_in g_15) dX0_combine_195 ?_
                      refine lv_iand hx hb dX0_combine_196 ?_
                      refine lv_topi (fun z_23 e_24 => ?_)
                      refine va_put (D := (dC, dI)) (ci := 0) (v := .int z_23) (ty := .int) (C := RX0) (T := TX0) (N := 4) hx hb hts in_X0 tyX0 tyX0_ok nmX0 hown hK hP hD hS 0 rfl rfl 3 (by decide) (hts _ q29) (fun _ h9 => h9) rfl (by decide +kernel) rfl rfl (Nat.le_of_ble_eq_true rfl) dX0_combine_197 (fun H locs hP hD hS => ?_)
                      have hP : va_P (dC, dI) vwCl (kbW h0 hv hm d1 d2 V M nv z_23) H := hP
                      have hD : va_D A (kbW h0 hv hm d1 d2 V M nv z_23) := hD
                      refine lv_aload_n hx hb dX0_combine_200 rfl (lv_at hl 0 rfl) ?_
                      refine lv_aload_n hx hb dX0_combine_201 rfl (lv_at hl 0 rfl) ?_
                      refine va_get (D := (dC, dI)) (ci := 0) (v := .ref hv) (C := RX0) (T := TX0) (N := 4) hx hb hts in_X0 hown hK hP 0 rfl rfl 0 (by decide) (hts _ q26) (fun _ h9 => h9) rfl dX0_combine_202 ?_
                      refine lv_iload_n hx hb dX0_combine_205 rfl (lv_at hl 3 rfl) ?_
                      refine va_iald hx hb hK hP 1 0 rfl rfl (kR_in g_10) dX0_combine_206 ?_
                      refine lv_aload_n hx hb dX0_combine_207 rfl (lv_at hl 0 rfl) ?_
                      refine va_get (D := (dC, dI)) (ci := 0) (v := .ref hv) (C := RX0) (T := TX0) (N := 4) hx hb hts in_X0 hown hK hP 0 rfl rfl 0 (by decide) (hts _ q26) (fun _ h9 => h9) rfl dX0_combine_208 ?_
                      refine lv_iload hx hb dX0_combine_211 (lv_at hl 4 rfl) ?_
                      refine va_iald hx hb hK hP 1 0 rfl rfl (kR_in g_15) dX0_combine_213 ?_
                      refine lv_ior hx hb dX0_combine_214 ?_
                      refine lv_topi (fun z_25 e_26 => ?_)
                      refine va_put (D := (dC, dI)) (ci := 0) (v := .int z_25) (ty := .int) (C := RX0) (T := TX0) (N := 4) hx hb hts in_X0 tyX0 tyX0_ok nmX0 hown hK hP hD hS 0 rfl rfl 2 (by decide) (hts _ q28) (fun _ h9 => h9) rfl (by decide +kernel) rfl rfl (Nat.le_of_ble_eq_true rfl) dX0_combine_215 (fun H locs hP hD hS => ?_)
                      have hP : va_P (dC, dI) vwCl (kbW h0 hv hm d1 d2 V M z_25 z_23) H := hP
                      have hD : va_D A (kbW h0 hv hm d1 d2 V M z_25 z_23) := hD
                      refine lv_aload_n hx hb dX0_combine_218 rfl (lv_at hl 0 rfl) ?_
                      refine lv_iload_n hx hb dX0_combine_219 rfl (lv_at hl 1 rfl) ?_
                      have hFc := kb_free hA hS
                      refine va_callv (va_runV (As := [.int p0]) (rest := []) ⟨hx, hb, hml, hown, hts⟩ (metX0_keep l dC dI h0 hv hm d1 d2 H.size V M z_25 z_23 p0 (kR_in g_5)) (cwV 1 hts (lw_V q63 q65 qs3 q16 q66) rfl rfl rfl (by decide +kernel) ⟨Nat.le_of_ble_eq_true rfl, Nat.le_of_ble_eq_true rfl⟩) ⟨kb_blindW, va_recv hK hP (ci := 0) (q0 := 0) rfl rfl, fun U hU hW => ⟨rfl, by rw [hU], by rw [hU]; exact hP, va_K.moved hW.alike hK, hD.weaken (fun _ _ _ _ => trivial)⟩⟩ rfl rfl hl.1 rfl (lv_room (Nat.le_of_ble_eq_true rfl)) dX0_combine_220 ⟨Nat.le_of_ble_eq_true rfl, Nat.le_of_ble_eq_true rfl⟩) hS (fun q _ h => hFc q h) hFc (fun u t H locs ht hvm hw_27 hB hz1 hk1 hS => ?_)
                      subst hw_27
                      obtain ⟨hP, hK1, hD1⟩ := hB
                      rw [ht] at hP
                      have hP : va_P (dC, dI) vwCl (kbW h0 hv hm d1 d2 (upd V p0.toNatClampNeg z_25) (upd M p0.toNatClampNeg z_23) z_25 z_23) H := hP
                      have hD : va_D A (kbW h0 hv hm d1 d2 (upd V p0.toNatClampNeg z_25) (upd M p0.toNatClampNeg z_23) z_25 z_23) := hD1.weaken (fun _ _ _ h => hFc _ h)
                      refine lv_iconst (v := 0) hx hb dX0_combine_223 (by decide +kernel) ?_
                      exact W.iret (v := 0) hx hb hr (fun t ht hW => ⟨⟨0, (upd V p0.toNatClampNeg z_25, upd M p0.toNatClampNeg z_23, z_25, z_23), rfl, (by subst e_24 e_26; first | rfl | (simp only [kOpC, kCmV, kCmM, if_pos g_5, if_pos g_10, if_pos g_15, if_neg c_16, if_pos c_17, if_neg c_18, if_neg c_19, if_neg c_20, if_pos c_21, if_neg c_22]; done) | (simp only [kOpC, kCmV, kCmM, if_pos g_5, if_pos g_10, if_pos g_15, if_neg c_16, if_pos c_17, if_neg c_18, if_neg c_19, if_neg c_20, if_pos c_21, if_neg c_22]; rfl)), by rw [ht]; exact hP, va_K.moved hW.alike hK, hD⟩, hS.F ht⟩) hS.2.2 dX0_combine_224
                    · refine lv_aload_n hx hb dX0_combine_129 rfl (lv_at hl 0 rfl) ?_
                      refine lv_aload_n hx hb dX0_combine_130 rfl (lv_at hl 0 rfl) ?_
                      refine va_get (D := (dC, dI)) (ci := 0) (v := .ref hm) (C := RX0) (T := TX0) (N := 4) hx hb hts in_X0 hown hK hP 0 rfl rfl 1 (by decide) (hts _ q27) (fun _ h9 => h9) rfl dX0_combine_131 ?_
                      refine lv_iload_n hx hb dX0_combine_134 rfl (lv_at hl 3 rfl) ?_
                      refine va_iald hx hb hK hP 2 1 rfl rfl (kR_in g_10) dX0_combine_135 ?_
                      refine lv_aload_n hx hb dX0_combine_136 rfl (lv_at hl 0 rfl) ?_
                      refine va_get (D := (dC, dI)) (ci := 0) (v := .ref hm) (C := RX0) (T := TX0) (N := 4) hx hb hts in_X0 hown hK hP 0 rfl rfl 1 (by decide) (hts _ q27) (fun _ h9 => h9) rfl dX0_combine_137 ?_
                      refine lv_iload hx hb dX0_combine_140 (lv_at hl 4 rfl) ?_
                      refine va_iald hx hb hK hP 2 1 rfl rfl (kR_in g_15) dX0_combine_142 ?_
                      refine lv_ior hx hb dX0_combine_143 ?_
                      refine lv_aload_n hx hb dX0_combine_144 rfl (lv_at hl 0 rfl) ?_
                      refine va_get (D := (dC, dI)) (ci := 0) (v := .ref hv) (C := RX0) (T := TX0) (N := 4) hx hb hts in_X0 hown hK hP 0 rfl rfl 0 (by decide) (hts _ q26) (fun _ h9 => h9) rfl dX0_combine_145 ?_
                      refine lv_iload_n hx hb dX0_combine_148 rfl (lv_at hl 3 rfl) ?_
                      refine va_iald hx hb hK hP 1 0 rfl rfl (kR_in g_10) dX0_combine_149 ?_
                      refine lv_aload_n hx hb dX0_combine_150 rfl (lv_at hl 0 rfl) ?_
                      refine va_get (D := (dC, dI)) (ci := 0) (v := .ref hv) (C := RX0) (T := TX0) (N := 4) hx hb hts in_X0 hown hK hP 0 rfl rfl 0 (by decide) (hts _ q26) (fun _ h9 => h9) rfl dX0_combine_151 ?_
                      refine lv_iload hx hb dX0_combine_154 (lv_at hl 4 rfl) ?_
                      refine va_iald hx hb hK hP 1 0 rfl rfl (kR_in g_15) dX0_combine_156 ?_
                      refine lv_ixor hx hb dX0_combine_157 ?_
                      refine lv_ior hx hb dX0_combine_158 ?_
                      refine lv_topi (fun z_28 e_29 => ?_)
                      refine va_put (D := (dC, dI)) (ci := 0) (v := .int z_28) (ty := .int) (C := RX0) (T := TX0) (N := 4) hx hb hts in_X0 tyX0 tyX0_ok nmX0 hown hK hP hD hS 0 rfl rfl 3 (by decide) (hts _ q29) (fun _ h9 => h9) rfl (by decide +kernel) rfl rfl (Nat.le_of_ble_eq_true rfl) dX0_combine_159 (fun H locs hP hD hS => ?_)
                      have hP : va_P (dC, dI) vwCl (kbW h0 hv hm d1 d2 V M nv z_28) H := hP
                      have hD : va_D A (kbW h0 hv hm d1 d2 V M nv z_28) := hD
                      refine lv_aload_n hx hb dX0_combine_162 rfl (lv_at hl 0 rfl) ?_
                      refine lv_aload_n hx hb dX0_combine_163 rfl (lv_at hl 0 rfl) ?_
                      refine va_get (D := (dC, dI)) (ci := 0) (v := .ref hv) (C := RX0) (T := TX0) (N := 4) hx hb hts in_X0 hown hK hP 0 rfl rfl 0 (by decide) (hts _ q26) (fun _ h9 => h9) rfl dX0_combine_164 ?_
                      refine lv_iload_n hx hb dX0_combine_167 rfl (lv_at hl 3 rfl) ?_
                      refine va_iald hx hb hK hP 1 0 rfl rfl (kR_in g_10) dX0_combine_168 ?_
                      refine lv_aload_n hx hb dX0_combine_169 rfl (lv_at hl 0 rfl) ?_
                      refine va_get (D := (dC, dI)) (ci := 0) (v := .int z_28) (C := RX0) (T := TX0) (N := 4) hx hb hts in_X0 hown hK hP 0 rfl rfl 3 (by decide) (hts _ q29) (fun _ h9 => h9) rfl dX0_combine_170 ?_
                      refine lv_iconst (v := (-1)) hx hb dX0_combine_173 (by decide +kernel) ?_
                      refine lv_ixor hx hb dX0_combine_174 ?_
                      refine lv_iand hx hb dX0_combine_175 ?_
                      refine lv_topi (fun z_30 e_31 => ?_)
                      refine va_put (D := (dC, dI)) (ci := 0) (v := .int z_30) (ty := .int) (C := RX0) (T := TX0) (N := 4) hx hb hts in_X0 tyX0 tyX0_ok nmX0 hown hK hP hD hS 0 rfl rfl 2 (by decide) (hts _ q28) (fun _ h9 => h9) rfl (by decide +kernel) rfl rfl (Nat.le_of_ble_eq_true rfl) dX0_combine_176 (fun H locs hP hD hS => ?_)
                      have hP : va_P (dC, dI) vwCl (kbW h0 hv hm d1 d2 V M z_30 z_28) H := hP
                      have hD : va_D A (kbW h0 hv hm d1 d2 V M z_30 z_28) := hD
                      refine lv_goto (tgt := 218) hx hb dX0_combine_179 (by decide) ?_
                      refine lv_aload_n hx hb dX0_combine_218 rfl (lv_at hl 0 rfl) ?_
                      refine lv_iload_n hx hb dX0_combine_219 rfl (lv_at hl 1 rfl) ?_
                      have hFc := kb_free hA hS
                      refine va_callv (va_runV (As := [.int p0]) (rest := []) ⟨hx, hb, hml, hown, hts⟩ (metX0_keep l dC dI h0 hv hm d1 d2 H.size V M z_30 z_28 p0 (kR_in g_5)) (cwV 1 hts (lw_V q63 q65 qs3 q16 q66) rfl rfl rfl (by decide +kernel) ⟨Nat.le_of_ble_eq_true rfl, Nat.le_of_ble_eq_true rfl⟩) ⟨kb_blindW, va_recv hK hP (ci := 0) (q0 := 0) rfl rfl, fun U hU hW => ⟨rfl, by rw [hU], by rw [hU]; exact hP, va_K.moved hW.alike hK, hD.weaken (fun _ _ _ _ => trivial)⟩⟩ rfl rfl hl.1 rfl (lv_room (Nat.le_of_ble_eq_true rfl)) dX0_combine_220 ⟨Nat.le_of_ble_eq_true rfl, Nat.le_of_ble_eq_true rfl⟩) hS (fun q _ h => hFc q h) hFc (fun u t H locs ht hvm hw_32 hB hz1 hk1 hS => ?_)
                      subst hw_32
                      obtain ⟨hP, hK1, hD1⟩ := hB
                      rw [ht] at hP
                      have hP : va_P (dC, dI) vwCl (kbW h0 hv hm d1 d2 (upd V p0.toNatClampNeg z_30) (upd M p0.toNatClampNeg z_28) z_30 z_28) H := hP
                      have hD : va_D A (kbW h0 hv hm d1 d2 (upd V p0.toNatClampNeg z_30) (upd M p0.toNatClampNeg z_28) z_30 z_28) := hD1.weaken (fun _ _ _ h => hFc _ h)
                      refine lv_iconst (v := 0) hx hb dX0_combine_223 (by decide +kernel) ?_
                      exact W.iret (v := 0) hx hb hr (fun t ht hW => ⟨⟨0, (upd V p0.toNatClampNeg z_30, upd M p0.toNatClampNeg z_28, z_30, z_28), rfl, (by subst e_29 e_31; first | rfl | (simp only [kOpC, kCmV, kCmM, if_pos g_5, if_pos g_10, if_pos g_15, if_neg c_16, if_pos c_17, if_neg c_18, if_neg c_19, if_neg c_20, if_pos c_21, if_pos c_22]; done) | (simp only [kOpC, kCmV, kCmM, if_pos g_5, if_pos g_10, if_pos g_15, if_neg c_16, if_pos c_17, if_neg c_18, if_neg c_19, if_neg c_20, if_pos c_21, if_pos c_22]; rfl)), by rw [ht]; exact hP, va_K.moved hW.alike hK, hD⟩, hS.F ht⟩) hS.2.2 dX0_combine_224
                  · refine lv_aload_n hx hb dX0_combine_113 rfl (lv_at hl 0 rfl) ?_
                    refine lv_iload_n hx hb dX0_combine_114 rfl (lv_at hl 2 rfl) ?_
                    refine lv_iload_n hx hb dX0_combine_115 rfl (lv_at hl 3 rfl) ?_
                    refine lv_iload hx hb dX0_combine_116 (lv_at hl 4 rfl) ?_
                    have hFc := kb_free hA hS
                    refine va_callv (va_runV (As := [.int p1, .int p2, .int p3]) (rest := []) ⟨hx, hb, hml, hown, hts⟩ (metX0_bitwise l dC dI h0 hv hm d1 d2 s.heap.size V M nv nm p1 p2 p3 (kR_in g_10) (kR_in g_15)) (cwV 3 hts (lw_V q59 q61 qs2 q16 q62) rfl rfl rfl (by decide +kernel) ⟨Nat.le_of_ble_eq_true rfl, Nat.le_of_ble_eq_true rfl⟩) ⟨kb_blindW, va_recv hK hP (ci := 0) (q0 := 0) rfl rfl, fun U hU hW => ⟨rfl, by rw [hU], by rw [hU]; exact hP, va_K.moved hW.alike hK, hD.weaken (fun _ _ _ _ => trivial)⟩⟩ rfl rfl hl.1 rfl (lv_room (Nat.le_of_ble_eq_true rfl)) dX0_combine_118 ⟨Nat.le_of_ble_eq_true rfl, Nat.le_of_ble_eq_true rfl⟩) hS (fun q _ h => hFc q h) hFc (fun u t H locs ht hvm hw_33 hB hz1 hk1 hS => ?_)
                    subst hw_33
                    obtain ⟨hP, hK1, hD1⟩ := hB
                    rw [ht] at hP
                    have hP : va_P (dC, dI) vwCl (kbW h0 hv hm d1 d2 V M (kBitV p1 (V p2.toNatClampNeg) (M p2.toNatClampNeg) (V p3.toNatClampNeg) (M p3.toNatClampNeg)) (kBitM p1 (V p2.toNatClampNeg) (M p2.toNatClampNeg) (V p3.toNatClampNeg) (M p3.toNatClampNeg))) H := hP
                    have hD : va_D A (kbW h0 hv hm d1 d2 V M (kBitV p1 (V p2.toNatClampNeg) (M p2.toNatClampNeg) (V p3.toNatClampNeg) (M p3.toNatClampNeg)) (kBitM p1 (V p2.toNatClampNeg) (M p2.toNatClampNeg) (V p3.toNatClampNeg) (M p3.toNatClampNeg))) := hD1.weaken (fun _ _ _ h => hFc _ h)
                    refine lv_goto (tgt := 218) hx hb dX0_combine_121 (by decide) ?_
                    refine lv_aload_n hx hb dX0_combine_218 rfl (lv_at hl 0 rfl) ?_
                    refine lv_iload_n hx hb dX0_combine_219 rfl (lv_at hl 1 rfl) ?_
                    have hFc := kb_free hA hS
                    refine va_callv (va_runV (As := [.int p0]) (rest := []) ⟨hx, hb, hml, hown, hts⟩ (metX0_keep l dC dI h0 hv hm d1 d2 H.size V M (kBitV p1 (V p2.toNatClampNeg) (M p2.toNatClampNeg) (V p3.toNatClampNeg) (M p3.toNatClampNeg)) (kBitM p1 (V p2.toNatClampNeg) (M p2.toNatClampNeg) (V p3.toNatClampNeg) (M p3.toNatClampNeg)) p0 (kR_in g_5)) (cwV 1 hts (lw_V q63 q65 qs3 q16 q66) rfl rfl rfl (by decide +kernel) ⟨Nat.le_of_ble_eq_true rfl, Nat.le_of_ble_eq_true rfl⟩) ⟨kb_blindW, va_recv hK hP (ci := 0) (q0 := 0) rfl rfl, fun U hU hW => ⟨rfl, by rw [hU], by rw [hU]; exact hP, va_K.moved hW.alike hK, hD.weaken (fun _ _ _ _ => trivial)⟩⟩ rfl rfl hl.1 rfl (lv_room (Nat.le_of_ble_eq_true rfl)) dX0_combine_220 ⟨Nat.le_of_ble_eq_true rfl, Nat.le_of_ble_eq_true rfl⟩) hS (fun q _ h => hFc q h) hFc (fun u t H locs ht hvm hw_34 hB hz1 hk1 hS => ?_)
                    subst hw_34
                    obtain ⟨hP, hK1, hD1⟩ := hB
                    rw [ht] at hP
                    have hP : va_P (dC, dI) vwCl (kbW h0 hv hm d1 d2 (upd V p0.toNatClampNeg (kBitV p1 (V p2.toNatClampNeg) (M p2.toNatClampNeg) (V p3.toNatClampNeg) (M p3.toNatClampNeg))) (upd M p0.toNatClampNeg (kBitM p1 (V p2.toNatClampNeg) (M p2.toNatClampNeg) (V p3.toNatClampNeg) (M p3.toNatClampNeg))) (kBitV p1 (V p2.toNatClampNeg) (M p2.toNatClampNeg) (V p3.toNatClampNeg) (M p3.toNatClampNeg)) (kBitM p1 (V p2.toNatClampNeg) (M p2.toNatClampNeg) (V p3.toNatClampNeg) (M p3.toNatClampNeg))) H := hP
                    have hD : va_D A (kbW h0 hv hm d1 d2 (upd V p0.toNatClampNeg (kBitV p1 (V p2.toNatClampNeg) (M p2.toNatClampNeg) (V p3.toNatClampNeg) (M p3.toNatClampNeg))) (upd M p0.toNatClampNeg (kBitM p1 (V p2.toNatClampNeg) (M p2.toNatClampNeg) (V p3.toNatClampNeg) (M p3.toNatClampNeg))) (kBitV p1 (V p2.toNatClampNeg) (M p2.toNatClampNeg) (V p3.toNatClampNeg) (M p3.toNatClampNeg)) (kBitM p1 (V p2.toNatClampNeg) (M p2.toNatClampNeg) (V p3.toNatClampNeg) (M p3.toNatClampNeg))) := hD1.weaken (fun _ _ _ h => hFc _ h)
                    refine lv_iconst (v := 0) hx hb dX0_combine_223 (by decide +kernel) ?_
                    exact W.iret (v := 0) hx hb hr (fun t ht hW => ⟨⟨0, (upd V p0.toNatClampNeg (kBitV p1 (V p2.toNatClampNeg) (M p2.toNatClampNeg) (V p3.toNatClampNeg) (M p3.toNatClampNeg)), upd M p0.toNatClampNeg (kBitM p1 (V p2.toNatClampNeg) (M p2.toNatClampNeg) (V p3.toNatClampNeg) (M p3.toNatClampNeg)), kBitV p1 (V p2.toNatClampNeg) (M p2.toNatClampNeg) (V p3.toNatClampNeg) (M p3.toNatClampNeg), kBitM p1 (V p2.toNatClampNeg) (M p2.toNatClampNeg) (V p3.toNatClampNeg) (M p3.toNatClampNeg)), rfl, (by first | rfl | (simp only [kOpC, kCmV, kCmM, if_pos g_5, if_pos g_10, if_pos g_15, if_neg c_16, if_pos c_17, if_neg c_18, if_neg c_19, if_neg c_20, if_neg c_21]; done) | (simp only [kOpC, kCmV, kCmM, if_pos g_5, if_pos g_10, if_pos g_15, if_neg c_16, if_pos c_17, if_neg c_18, if_neg c_19, if_neg c_20, if_neg c_21]; rfl)), by rw [ht]; exact hP, va_K.moved hW.alike hK, hD⟩, hS.F ht⟩) hS.2.2 dX0_combine_224
                · refine lv_aload_n hx hb dX0_combine_98 rfl (lv_at hl 0 rfl) ?_
                  refine lv_iload_n hx hb dX0_combine_99 rfl (lv_at hl 3 rfl) ?_
                  refine lv_iload hx hb dX0_combine_100 (lv_at hl 4 rfl) ?_
                  have hFc := kb_free hA hS
                  refine va_callv (va_runV (As := [.int p2, .int p3]) (rest := []) ⟨hx, hb, hml, hown, hts⟩ (metX0_subtract l dC dI h0 hv hm d1 d2 s.heap.size V M nv nm p2 p3 (kR_in g_10) (kR_in g_15)) (cwV 2 hts (lw_V q55 q57 qs1 q16 q58) rfl rfl rfl (by decide +kernel) ⟨Nat.le_of_ble_eq_true rfl, Nat.le_of_ble_eq_true rfl⟩) ⟨kb_blindW, va_recv hK hP (ci := 0) (q0 := 0) rfl rfl, fun U hU hW => ⟨rfl, by rw [hU], by rw [hU]; exact hP, va_K.moved hW.alike hK, hD.weaken (fun _ _ _ _ => trivial)⟩⟩ rfl rfl hl.1 rfl (lv_room (Nat.le_of_ble_eq_true rfl)) dX0_combine_102 ⟨Nat.le_of_ble_eq_true rfl, Nat.le_of_ble_eq_true rfl⟩) hS (fun q _ h => hFc q h) hFc (fun u t H locs ht hvm hw_35 hB hz1 hk1 hS => ?_)
                  subst hw_35
                  obtain ⟨hP, hK1, hD1⟩ := hB
                  rw [ht] at hP
                  have hP : va_P (dC, dI) vwCl (kbW h0 hv hm d1 d2 V M (kSubV (V p2.toNatClampNeg) (M p2.toNatClampNeg) (V p3.toNatClampNeg) (M p3.toNatClampNeg)) (kSubM (V p2.toNatClampNeg) (M p2.toNatClampNeg) (V p3.toNatClampNeg) (M p3.toNatClampNeg))) H := hP
                  have hD : va_D A (kbW h0 hv hm d1 d2 V M (kSubV (V p2.toNatClampNeg) (M p2.toNatClampNeg) (V p3.toNatClampNeg) (M p3.toNatClampNeg)) (kSubM (V p2.toNatClampNeg) (M p2.toNatClampNeg) (V p3.toNatClampNeg) (M p3.toNatClampNeg))) := hD1.weaken (fun _ _ _ h => hFc _ h)
                  refine lv_goto (tgt := 218) hx hb dX0_combine_105 (by decide) ?_
                  refine lv_aload_n hx hb dX0_combine_218 rfl (lv_at hl 0 rfl) ?_
                  refine lv_iload_n hx hb dX0_combine_219 rfl (lv_at hl 1 rfl) ?_
                  have hFc := kb_free hA hS
                  refine va_callv (va_runV (As := [.int p0]) (rest := []) ⟨hx, hb, hml, hown, hts⟩ (metX0_keep l dC dI h0 hv hm d1 d2 H.size V M (kSubV (V p2.toNatClampNeg) (M p2.toNatClampNeg) (V p3.toNatClampNeg) (M p3.toNatClampNeg)) (kSubM (V p2.toNatClampNeg) (M p2.toNatClampNeg) (V p3.toNatClampNeg) (M p3.toNatClampNeg)) p0 (kR_in g_5)) (cwV 1 hts (lw_V q63 q65 qs3 q16 q66) rfl rfl rfl (by decide +kernel) ⟨Nat.le_of_ble_eq_true rfl, Nat.le_of_ble_eq_true rfl⟩) ⟨kb_blindW, va_recv hK hP (ci := 0) (q0 := 0) rfl rfl, fun U hU hW => ⟨rfl, by rw [hU], by rw [hU]; exact hP, va_K.moved hW.alike hK, hD.weaken (fun _ _ _ _ => trivial)⟩⟩ rfl rfl hl.1 rfl (lv_room (Nat.le_of_ble_eq_true rfl)) dX0_combine_220 ⟨Nat.le_of_ble_eq_true rfl, Nat.le_of_ble_eq_true rfl⟩) hS (fun q _ h => hFc q h) hFc (fun u t H locs ht hvm hw_36 hB hz1 hk1 hS => ?_)
                  subst hw_36
                  obtain ⟨hP, hK1, hD1⟩ := hB
                  rw [ht] at hP
                  have hP : va_P (dC, dI) vwCl (kbW h0 hv hm d1 d2 (upd V p0.toNatClampNeg (kSubV (V p2.toNatClampNeg) (M p2.toNatClampNeg) (V p3.toNatClampNeg) (M p3.toNatClampNeg))) (upd M p0.toNatClampNeg (kSubM (V p2.toNatClampNeg) (M p2.toNatClampNeg) (V p3.toNatClampNeg) (M p3.toNatClampNeg))) (kSubV (V p2.toNatClampNeg) (M p2.toNatClampNeg) (V p3.toNatClampNeg) (M p3.toNatClampNeg)) (kSubM (V p2.toNatClampNeg) (M p2.toNatClampNeg) (V p3.toNatClampNeg) (M p3.toNatClampNeg))) H := hP
                  have hD : va_D A (kbW h0 hv hm d1 d2 (upd V p0.toNatClampNeg (kSubV (V p2.toNatClampNeg) (M p2.toNatClampNeg) (V p3.toNatClampNeg) (M p3.toNatClampNeg))) (upd M p0.toNatClampNeg (kSubM (V p2.toNatClampNeg) (M p2.toNatClampNeg) (V p3.toNatClampNeg) (M p3.toNatClampNeg))) (kSubV (V p2.toNatClampNeg) (M p2.toNatClampNeg) (V p3.toNatClampNeg) (M p3.toNatClampNeg)) (kSubM (V p2.toNatClampNeg) (M p2.toNatClampNeg) (V p3.toNatClampNeg) (M p3.toNatClampNeg))) := hD1.weaken (fun _ _ _ h => hFc _ h)
                  refine lv_iconst (v := 0) hx hb dX0_combine_223 (by decide +kernel) ?_
                  exact W.iret (v := 0) hx hb hr (fun t ht hW => ⟨⟨0, (upd V p0.toNatClampNeg (kSubV (V p2.toNatClampNeg) (M p2.toNatClampNeg) (V p3.toNatClampNeg) (M p3.toNatClampNeg)), upd M p0.toNatClampNeg (kSubM (V p2.toNatClampNeg) (M p2.toNatClampNeg) (V p3.toNatClampNeg) (M p3.toNatClampNeg)), kSubV (V p2.toNatClampNeg) (M p2.toNatClampNeg) (V p3.toNatClampNeg) (M p3.toNatClampNeg), kSubM (V p2.toNatClampNeg) (M p2.toNatClampNeg) (V p3.toNatClampNeg) (M p3.toNatClampNeg)), rfl, (by first | rfl | (simp only [kOpC, kCmV, kCmM, if_pos g_5, if_pos g_10, if_pos g_15, if_neg c_16, if_pos c_17, if_neg c_18, if_neg c_19, if_pos c_20]; done) | (simp only [kOpC, kCmV, kCmM, if_pos g_5, if_pos g_10, if_pos g_15, if_neg c_16, if_pos c_17, if_neg c_18, if_neg c_19, if_pos c_20]; rfl)), by rw [ht]; exact hP, va_K.moved hW.alike hK, hD⟩, hS.F ht⟩) hS.2.2 dX0_combine_224
              · refine lv_aload_n hx hb dX0_combine_83 rfl (lv_at hl 0 rfl) ?_
                refine lv_iload_n hx hb dX0_combine_84 rfl (lv_at hl 3 rfl) ?_
                refine lv_iload hx hb dX0_combine_85 (lv_at hl 4 rfl) ?_
                have hFc := kb_free hA hS
                refine va_callv (va_runV (As := [.int p2, .int p3]) (rest := []) ⟨hx, hb, hml, hown, hts⟩ (metX0_add l dC dI h0 hv hm d1 d2 s.heap.size V M nv nm p2 p3 (kR_in g_10) (kR_in g_15)) (cwV 2 hts (lw_V q51 q53 qs0 q16 q54) rfl rfl rfl (by decide +kernel) ⟨Nat.le_of_ble_eq_true rfl, Nat.le_of_ble_eq_true rfl⟩) ⟨kb_blindW, va_recv hK hP (ci := 0) (q0 := 0) rfl rfl, fun U hU hW => ⟨rfl, by rw [hU], by rw [hU]; exact hP, va_K.moved hW.alike hK, hD.weaken (fun _ _ _ _ => trivial)⟩⟩ rfl rfl hl.1 rfl (lv_room (Nat.le_of_ble_eq_true rfl)) dX0_combine_87 ⟨Nat.le_of_ble_eq_true rfl, Nat.le_of_ble_eq_true rfl⟩) hS (fun q _ h => hFc q h) hFc (fun u t H locs ht hvm hw_37 hB hz1 hk1 hS => ?_)
                subst hw_37
                obtain ⟨hP, hK1, hD1⟩ := hB
                rw [ht] at hP
                have hP : va_P (dC, dI) vwCl (kbW h0 hv hm d1 d2 V M (kAddV (V p2.toNatClampNeg) (M p2.toNatClampNeg) (V p3.toNatClampNeg) (M p3.toNatClampNeg)) (kAddM (V p2.toNatClampNeg) (M p2.toNatClampNeg) (V p3.toNatClampNeg) (M p3.toNatClampNeg))) H := hP
                have hD : va_D A (kbW h0 hv hm d1 d2 V M (kAddV (V p2.toNatClampNeg) (M p2.toNatClampNeg) (V p3.toNatClampNeg) (M p3.toNatClampNeg)) (kAddM (V p2.toNatClampNeg) (M p2.toNatClampNeg) (V p3.toNatClampNeg) (M p3.toNatClampNeg))) := hD1.weaken (fun _ _ _ h => hFc _ h)
                refine lv_goto (tgt := 218) hx hb dX0_combine_90 (by decide) ?_
                refine lv_aload_n hx hb dX0_combine_218 rfl (lv_at hl 0 rfl) ?_
                refine lv_iload_n hx hb dX0_combine_219 rfl (lv_at hl 1 rfl) ?_
                have hFc := kb_free hA hS
                refine va_callv (va_runV (As := [.int p0]) (rest := []) ⟨hx, hb, hml, hown, hts⟩ (metX0_keep l dC dI h0 hv hm d1 d2 H.size V M (kAddV (V p2.toNatClampNeg) (M p2.toNatClampNeg) (V p3.toNatClampNeg) (M p3.toNatClampNeg)) (kAddM (V p2.toNatClampNeg) (M p2.toNatClampNeg) (V p3.toNatClampNeg) (M p3.toNatClampNeg)) p0 (kR_in g_5)) (cwV 1 hts (lw_V q63 q65 qs3 q16 q66) rfl rfl rfl (by decide +kernel) ⟨Nat.le_of_ble_eq_true rfl, Nat.le_of_ble_eq_true rfl⟩) ⟨kb_blindW, va_recv hK hP (ci := 0) (q0 := 0) rfl rfl, fun U hU hW => ⟨rfl, by rw [hU], by rw [hU]; exact hP, va_K.moved hW.alike hK, hD.weaken (fun _ _ _ _ => trivial)⟩⟩ rfl rfl hl.1 rfl (lv_room (Nat.le_of_ble_eq_true rfl)) dX0_combine_220 ⟨Nat.le_of_ble_eq_true rfl, Nat.le_of_ble_eq_true rfl⟩) hS (fun q _ h => hFc q h) hFc (fun u t H locs ht hvm hw_38 hB hz1 hk1 hS => ?_)
                subst hw_38
                obtain ⟨hP, hK1, hD1⟩ := hB
                rw [ht] at hP
                have hP : va_P (dC, dI) vwCl (kbW h0 hv hm d1 d2 (upd V p0.toNatClampNeg (kAddV (V p2.toNatClampNeg) (M p2.toNatClampNeg) (V p3.toNatClampNeg) (M p3.toNatClampNeg))) (upd M p0.toNatClampNeg (kAddM (V p2.toNatClampNeg) (M p2.toNatClampNeg) (V p3.toNatClampNeg) (M p3.toNatClampNeg))) (kAddV (V p2.toNatClampNeg) (M p2.toNatClampNeg) (V p3.toNatClampNeg) (M p3.toNatClampNeg)) (kAddM (V p2.toNatClampNeg) (M p2.toNatClampNeg) (V p3.toNatClampNeg) (M p3.toNatClampNeg))) H := hP
                have hD : va_D A (kbW h0 hv hm d1 d2 (upd V p0.toNatClampNeg (kAddV (V p2.toNatClampNeg) (M p2.toNatClampNeg) (V p3.toNatClampNeg) (M p3.toNatClampNeg))) (upd M p0.toNatClampNeg (kAddM (V p2.toNatClampNeg) (M p2.toNatClampNeg) (V p3.toNatClampNeg) (M p3.toNatClampNeg))) (kAddV (V p2.toNatClampNeg) (M p2.toNatClampNeg) (V p3.toNatClampNeg) (M p3.toNatClampNeg)) (kAddM (V p2.toNatClampNeg) (M p2.toNatClampNeg) (V p3.toNatClampNeg) (M p3.toNatClampNeg))) := hD1.weaken (fun _ _ _ h => hFc _ h)
                refine lv_iconst (v := 0) hx hb dX0_combine_223 (by decide +kernel) ?_
                exact W.iret (v := 0) hx hb hr (fun t ht hW => ⟨⟨0, (upd V p0.toNatClampNeg (kAddV (V p2.toNatClampNeg) (M p2.toNatClampNeg) (V p3.toNatClampNeg) (M p3.toNatClampNeg)), upd M p0.toNatClampNeg (kAddM (V p2.toNatClampNeg) (M p2.toNatClampNeg) (V p3.toNatClampNeg) (M p3.toNatClampNeg)), kAddV (V p2.toNatClampNeg) (M p2.toNatClampNeg) (V p3.toNatClampNeg) (M p3.toNatClampNeg), kAddM (V p2.toNatClampNeg) (M p2.toNatClampNeg) (V p3.toNatClampNeg) (M p3.toNatClampNeg)), rfl, (by first | rfl | (simp only [kOpC, kCmV, kCmM, if_pos g_5, if_pos g_10, if_pos g_15, if_neg c_16, if_pos c_17, if_neg c_18, if_pos c_19]; done) | (simp only [kOpC, kCmV, kCmM, if_pos g_5, if_pos g_10, if_pos g_15, if_neg c_16, if_pos c_17, if_neg c_18, if_pos c_19]; rfl)), by rw [ht]; exact hP, va_K.moved hW.alike hK, hD⟩, hS.F ht⟩) hS.2.2 dX0_combine_224
            · refine lv_aload_n hx hb dX0_combine_40 rfl (lv_at hl 0 rfl) ?_
              refine va_get (D := (dC, dI)) (ci := 0) (v := .ref hv) (C := RX0) (T := TX0) (N := 4) hx hb hts in_X0 hown hK hP 0 rfl rfl 0 (by decide) (hts _ q26) (fun _ h9 => h9) rfl dX0_combine_41 ?_
              refine lv_iload_n hx hb dX0_combine_44 rfl (lv_at hl 3 rfl) ?_
              refine va_iald hx hb hK hP 1 0 rfl rfl (kR_in g_10) dX0_combine_45 ?_
              refine lv_aload_n hx hb dX0_combine_46 rfl (lv_at hl 0 rfl) ?_
              refine va_get (D := (dC, dI)) (ci := 0) (v := .ref hv) (C := RX0) (T := TX0) (N := 4) hx hb hts in_X0 hown hK hP 0 rfl rfl 0 (by decide) (hts _ q26) (fun _ h9 => h9) rfl dX0_combine_47 ?_
              refine lv_iload hx hb dX0_combine_50 (lv_at hl 4 rfl) ?_
              refine va_iald hx hb hK hP 1 0 rfl rfl (kR_in g_15) dX0_combine_52 ?_
              refine lv_ixor hx hb dX0_combine_53 ?_
              refine lv_aload_n hx hb dX0_combine_54 rfl (lv_at hl 0 rfl) ?_
              refine va_get (D := (dC, dI)) (ci := 0) (v := .ref hm) (C := RX0) (T := TX0) (N := 4) hx hb hts in_X0 hown hK hP 0 rfl rfl 1 (by decide) (hts _ q27) (fun _ h9 => h9) rfl dX0_combine_55 ?_
              refine lv_iload_n hx hb dX0_combine_58 rfl (lv_at hl 3 rfl) ?_
              refine va_iald hx hb hK hP 2 1 rfl rfl (kR_in g_10) dX0_combine_59 ?_
              refine lv_iconst (v := (-1)) hx hb dX0_combine_60 (by decide +kernel) ?_
              refine lv_ixor hx hb dX0_combine_61 ?_
              refine lv_iand hx hb dX0_combine_62 ?_
              refine lv_aload_n hx hb dX0_combine_63 rfl (lv_at hl 0 rfl) ?_
              refine va_get (D := (dC, dI)) (ci := 0) (v := .ref hm) (C := RX0) (T := TX0) (N := 4) hx hb hts in_X0 hown hK hP 0 rfl rfl 1 (by decide) (hts _ q27) (fun _ h9 => h9) rfl dX0_combine_64 ?_
              refine lv_iload hx hb dX0_combine_67 (lv_at hl 4 rfl) ?_
              refine va_iald hx hb hK hP 2 1 rfl rfl (kR_in g_15) dX0_combine_69 ?_
              refine lv_iconst (v := (-1)) hx hb dX0_combine_70 (by decide +kernel) ?_
              refine lv_ixor hx hb dX0_combine_71 ?_
              refine lv_iand hx hb dX0_combine_72 ?_
              refine lv_if_eq (tgt := 79) hx hb dX0_combine_73 (by decide) (fun c_39 => ?_) (fun c_39 => ?_)
              · have c_39 : kConf (V p2.toNatClampNeg) (M p2.toNatClampNeg) (V p3.toNatClampNeg) (M p3.toNatClampNeg) = 0 := c_39
                refine lv_iload_n hx hb dX0_combine_79 rfl (lv_at hl 2 rfl) ?_
                refine lv_if_ne (tgt := 93) hx hb dX0_combine_80 (by decide) (fun c_40 => ?_) (fun c_40 => ?_)
                · refine lv_iload_n hx hb dX0_combine_93 rfl (lv_at hl 2 rfl) ?_
                  refine lv_iconst (v := 1) hx hb dX0_combine_94 (by decide +kernel) ?_
                  refine lv_icmp_ne (tgt := 108) hx hb dX0_combine_95 (by decide) (fun c_41 => ?_) (fun c_41 => ?_)
                  · refine lv_iload_n hx hb dX0_combine_108 rfl (lv_at hl 2 rfl) ?_
                    refine lv_iconst (v := 4) hx hb dX0_combine_109 (by decide +kernel) ?_
                    refine lv_icmp_gt (tgt := 124) hx hb dX0_combine_110 (by decide) (fun c_42 => ?_) (fun c_42 => ?_)
                    · refine lv_iload_n hx hb dX0_combine_124 rfl (lv_at hl 2 rfl) ?_
                      refine lv_iconst (v := 5) hx hb dX0_combine_125 (by decide +kernel) ?_
                      refine lv_icmp_ne (tgt := 182) hx hb dX0_combine_126 (by decide) (fun c_43 => ?_) (fun c_43 => ?_)
                      · refine lv_aload_n hx hb dX0_combine_182 rfl (lv_at hl 0 rfl) ?_
                        refine lv_aload_n hx hb dX0_combine_183 rfl (lv_at hl 0 rfl) ?_
                        refine va_get (D := (dC, dI)) (ci := 0) (v := .ref hm) (C := RX0) (T := TX0) (N := 4) hx hb hts in_X0 hown hK hP 0 rfl rfl 1 (by decide) (hts _ q27) (fun _ h9 => h9) rfl dX0_combine_184 ?_
                        refine lv_iload_n hx hb dX0_combine_187 rfl (lv_at hl 3 rfl) ?_
                        refine va_iald hx hb hK hP 2 1 rfl rfl (kR_in g_10) dX0_combine_188 ?_
                        refine lv_aload_n hx hb dX0_combine_189 rfl (lv_at hl 0 rfl) ?_
                        refine va_get (D := (dC, dI)) (ci := 0) (v := .ref hm) (C := RX0) (T := TX0) (N := 4) hx hb hts in_X0 hown hK hP 0 rfl rfl 1 (by decide) (hts _ q27) (fun _ h9 => h9) rfl dX0_combine_190 ?_
                        refine lv_iload hx hb dX0_combine_193 (lv_at hl 4 rfl) ?_
                        refine va_iald hx hb hK hP 2 1 rfl rfl (kR_in g_15) dX0_combine_195 ?_
                        refine lv_iand hx hb dX0_combine_196 ?_
                        refine lv_topi (fun z_44 e_45 => ?_)
                        refine va_put (D := (dC, dI)) (ci := 0) (v := .int z_44) (ty := .int) (C := RX0) (T := TX0) (N := 4) hx hb hts in_X0 tyX0 tyX0_ok nmX0 hown hK hP hD hS 0 rfl rfl 3 (by decide) (hts _ q29) (fun _ h9 => h9) rfl (by decide +kernel) rfl rfl (Nat.le_of_ble_eq_true rfl) dX0_combine_197 (fun H locs hP hD hS => ?_)
                        have hP : va_P (dC, dI) vwCl (kbW h0 hv hm d1 d2 V M nv z_44) H := hP
                        have hD : va_D A (kbW h0 hv hm d1 d2 V M nv z_44) := hD
                        refine lv_aload_n hx hb dX0_combine_200 rfl (lv_at hl 0 rfl) ?_
                        refine lv_aload_n hx hb dX0_combine_201 rfl (lv_at hl 0 rfl) ?_
                        refine va_get (D := (dC, dI)) (ci := 0) (v := .ref hv) (C := RX0) (T := TX0) (N := 4) hx hb hts in_X0 hown hK hP 0 rfl rfl 0 (by decide) (hts _ q26) (fun _ h9 => h9) rfl dX0_combine_202 ?_
                        refine lv_iload_n hx hb dX0_combine_205 rfl (lv_at hl 3 rfl) ?_
                        refine va_iald hx hb hK hP 1 0 rfl rfl (kR_in g_10) dX0_combine_206 ?_
                        refine lv_aload_n hx hb dX0_combine_207 rfl (lv_at hl 0 rfl) ?_
                        refine va_get (D := (dC, dI)) (ci := 0) (v := .ref hv) (C := RX0) (T := TX0) (N := 4) hx hb hts in_X0 hown hK hP 0 rfl rfl 0 (by decide) (hts _ q26) (fun _ h9 => h9) rfl dX0_combine_208 ?_
                        refine lv_iload hx hb dX0_combine_211 (lv_at hl 4 rfl) ?_
                        refine va_iald hx hb hK hP 1 0 rfl rfl (kR_in g_15) dX0_combine_213 ?_
                        refine lv_ior hx hb dX0_combine_214 ?_
                        refine lv_topi (fun z_46 e_47 => ?_)
                        refine va_put (D := (dC, dI)) (ci := 0) (v := .int z_46) (ty := .int) (C := RX0) (T := TX0) (N := 4) hx hb hts in_X0 tyX0 tyX0_ok nmX0 hown hK hP hD hS 0 rfl rfl 2 (by decide) (hts _ q28) (fun _ h9 => h9) rfl (by decide +kernel) rfl rfl (Nat.le_of_ble_eq_true rfl) dX0_combine_215 (fun H locs hP hD hS => ?_)
                        have hP : va_P (dC, dI) vwCl (kbW h0 hv hm d1 d2 V M z_46 z_44) H := hP
                        have hD : va_D A (kbW h0 hv hm d1 d2 V M z_46 z_44) := hD
                        refine lv_aload_n hx hb dX0_combine_218 rfl (lv_at hl 0 rfl) ?_
                        refine lv_iload_n hx hb dX0_combine_219 rfl (lv_at hl 1 rfl) ?_
                        have hFc := kb_free hA hS
                        refine va_callv (va_runV (As := [.int p0]) (rest := []) ⟨hx, hb, hml, hown, hts⟩ (metX0_keep l dC dI h0 hv hm d1 d2 H.size V M z_46 z_44 p0 (kR_in g_5)) (cwV 1 hts (lw_V q63 q65 qs3 q16 q66) rfl rfl rfl (by decide +kernel) ⟨Nat.le_of_ble_eq_true rfl, Nat.le_of_ble_eq_true rfl⟩) ⟨kb_blindW, va_recv hK hP (ci := 0) (q0 := 0) rfl rfl, fun U hU hW => ⟨rfl, by rw [hU], by rw [hU]; exact hP, va_K.moved hW.alike hK, hD.weaken (fun _ _ _ _ => trivial)⟩⟩ rfl rfl hl.1 rfl (lv_room (Nat.le_of_ble_eq_true rfl)) dX0_combine_220 ⟨Nat.le_of_ble_eq_true rfl, Nat.le_of_ble_eq_true rfl⟩) hS (fun q _ h => hFc q h) hFc (fun u t H locs ht hvm hw_48 hB hz1 hk1 hS => ?_)
                        subst hw_48
                        obtain ⟨hP, hK1, hD1⟩ := hB
                        rw [ht] at hP
                        have hP : va_P (dC, dI) vwCl (kbW h0 hv hm d1 d2 (upd V p0.toNatClampNeg z_46) (upd M p0.toNatClampNeg z_44) z_46 z_44) H := hP
                        have hD : va_D A (kbW h0 hv hm d1 d2 (upd V p0.toNatClampNeg z_46) (upd M p0.toNatClampNeg z_44) z_46 z_44) := hD1.weaken (fun _ _ _ h => hFc _ h)
                        refine lv_iconst (v := 0) hx hb dX0_combine_223 (by decide +kernel) ?_
                        exact W.iret (v := 0) hx hb hr (fun t ht hW => ⟨⟨0, (upd V p0.toNatClampNeg z_46, upd M p0.toNatClampNeg z_44, z_46, z_44), rfl, (by subst e_45 e_47; first | rfl | (simp only [kOpC, kCmV, kCmM, if_pos g_5, if_pos g_10, if_pos g_15, if_neg c_16, if_pos c_17, if_pos c_18, if_pos c_39, if_neg c_40, if_neg c_41, if_pos c_42, if_neg c_43]; done) | (simp only [kOpC, kCmV, kCmM, if_pos g_5, if_pos g_10, if_pos g_15, if_neg c_16, if_pos c_17, if_pos c_18, if_pos c_39, if_neg c_40, if_neg c_41, if_pos c_42, if_neg c_43]; rfl)), by rw [ht]; exact hP, va_K.moved hW.alike hK, hD⟩, hS.F ht⟩) hS.2.2 dX0_combine_224
                      · refine lv_aload_n hx hb dX0_combine_129 rfl (lv_at hl 0 rfl) ?_
                        refine lv_aload_n hx hb dX0_combine_130 rfl (lv_at hl 0 rfl) ?_
                        refine va_get (D := (dC, dI)) (ci := 0) (v := .ref hm) (C := RX0) (T := TX0) (N := 4) hx hb hts in_X0 hown hK hP 0 rfl rfl 1 (by decide) (hts _ q27) (fun _ h9 => h9) rfl dX0_combine_131 ?_
                        refine lv_iload_n hx hb dX0_combine_134 rfl (lv_at hl 3 rfl) ?_
                        refine va_iald hx hb hK hP 2 1 rfl rfl (kR_in g_10) dX0_combine_135 ?_
                        refine lv_aload_n hx hb dX0_combine_136 rfl (lv_at hl 0 rfl) ?_
                        refine va_get (D := (dC, dI)) (ci := 0) (v := .ref hm) (C := RX0) (T := TX0) (N := 4) hx hb hts in_X0 hown hK hP 0 rfl rfl 1 (by decide) (hts _ q27) (fun _ h9 => h9) rfl dX0_combine_137 ?_
                        refine lv_iload hx hb dX0_combine_140 (lv_at hl 4 rfl) ?_
                        refine va_iald hx hb hK hP 2 1 rfl rfl (kR_in g_15) dX0_combine_142 ?_
                        refine lv_ior hx hb dX0_combine_143 ?_
                        refine lv_aload_n hx hb dX0_combine_144 rfl (lv_at hl 0 rfl) ?_
                        refine va_get (D := (dC, dI)) (ci := 0) (v := .ref hv) (C := RX0) (T := TX0) (N := 4) hx hb hts in_X0 hown hK hP 0 rfl rfl 0 (by decide) (hts _ q26) (fun _ h9 => h9) rfl dX0_combine_145 ?_
                        refine lv_iload_n hx hb dX0_combine_148 rfl (lv_at hl 3 rfl) ?_
                        refine va_iald hx hb hK hP 1 0 rfl rfl (kR_in g_10) dX0_combine_149 ?_
                        refine lv_aload_n hx hb dX0_combine_150 rfl (lv_at hl 0 rfl) ?_
                        refine va_get (D := (dC, dI)) (ci := 0) (v := .ref hv) (C := RX0) (T := TX0) (N := 4) hx hb hts in_X0 hown hK hP 0 rfl rfl 0 (by decide) (hts _ q26) (fun _ h9 => h9) rfl dX0_combine_151 ?_
                        refine lv_iload hx hb dX0_combine_154 (lv_at hl 4 rfl) ?_
                        refine va_iald hx hb hK hP 1 0 rfl rfl (kR_in g_15) dX0_combine_156 ?_
                        refine lv_ixor hx hb dX0_combine_157 ?_
                        refine lv_ior hx hb dX0_combine_158 ?_
                        refine lv_topi (fun z_49 e_50 => ?_)
                        refine va_put (D := (dC, dI)) (ci := 0) (v := .int z_49) (ty := .int) (C := RX0) (T := TX0) (N := 4) hx hb hts in_X0 tyX0 tyX0_ok nmX0 hown hK hP hD hS 0 rfl rfl 3 (by decide) (hts _ q29) (fun _ h9 => h9) rfl (by decide +kernel) rfl rfl (Nat.le_of_ble_eq_true rfl) dX0_combine_159 (fun H locs hP hD hS => ?_)
                        have hP : va_P (dC, dI) vwCl (kbW h0 hv hm d1 d2 V M nv z_49) H := hP
                        have hD : va_D A (kbW h0 hv hm d1 d2 V M nv z_49) := hD
                        refine lv_aload_n hx hb dX0_combine_162 rfl (lv_at hl 0 rfl) ?_
                        refine lv_aload_n hx hb dX0_combine_163 rfl (lv_at hl 0 rfl) ?_
                        refine va_get (D := (dC, dI)) (ci := 0) (v := .ref hv) (C := RX0) (T := TX0) (N := 4) hx hb hts in_X0 hown hK hP 0 rfl rfl 0 (by decide) (hts _ q26) (fun _ h9 => h9) rfl dX0_combine_164 ?_
                        refine lv_iload_n hx hb dX0_combine_167 rfl (lv_at hl 3 rfl) ?_
                        refine va_iald hx hb hK hP 1 0 rfl rfl (kR_in g_10) dX0_combine_168 ?_
                        refine lv_aload_n hx hb dX0_combine_169 rfl (lv_at hl 0 rfl) ?_
                        refine va_get (D := (dC, dI)) (ci := 0) (v := .int z_49) (C := RX0) (T := TX0) (N := 4) hx hb hts in_X0 hown hK hP 0 rfl rfl 3 (by decide) (hts _ q29) (fun _ h9 => h9) rfl dX0_combine_170 ?_
                        refine lv_iconst (v := (-1)) hx hb dX0_combine_173 (by decide +kernel) ?_
                        refine lv_ixor hx hb dX0_combine_174 ?_
                        refine lv_iand hx hb dX0_combine_175 ?_
                        refine lv_topi (fun z_51 e_52 => ?_)
                        refine va_put (D := (dC, dI)) (ci := 0) (v := .int z_51) (ty := .int) (C := RX0) (T := TX0) (N := 4) hx hb hts in_X0 tyX0 tyX0_ok nmX0 hown hK hP hD hS 0 rfl rfl 2 (by decide) (hts _ q28) (fun _ h9 => h9) rfl (by decide +kernel) rfl rfl (Nat.le_of_ble_eq_true rfl) dX0_combine_176 (fun H locs hP hD hS => ?_)
                        have hP : va_P (dC, dI) vwCl (kbW h0 hv hm d1 d2 V M z_51 z_49) H := hP
                        have hD : va_D A (kbW h0 hv hm d1 d2 V M z_51 z_49) := hD
                        refine lv_goto (tgt := 218) hx hb dX0_combine_179 (by decide) ?_
                        refine lv_aload_n hx hb dX0_combine_218 rfl (lv_at hl 0 rfl) ?_
                        refine lv_iload_n hx hb dX0_combine_219 rfl (lv_at hl 1 rfl) ?_
                        have hFc := kb_free hA hS
                        refine va_callv (va_runV (As := [.int p0]) (rest := []) ⟨hx, hb, hml, hown, hts⟩ (metX0_keep l dC dI h0 hv hm d1 d2 H.size V M z_51 z_49 p0 (kR_in g_5)) (cwV 1 hts (lw_V q63 q65 qs3 q16 q66) rfl rfl rfl (by decide +kernel) ⟨Nat.le_of_ble_eq_true rfl, Nat.le_of_ble_eq_true rfl⟩) ⟨kb_blindW, va_recv hK hP (ci := 0) (q0 := 0) rfl rfl, fun U hU hW => ⟨rfl, by rw [hU], by rw [hU]; exact hP, va_K.moved hW.alike hK, hD.weaken (fun _ _ _ _ => trivial)⟩⟩ rfl rfl hl.1 rfl (lv_room (Nat.le_of_ble_eq_true rfl)) dX0_combine_220 ⟨Nat.le_of_ble_eq_true rfl, Nat.le_of_ble_eq_true rfl⟩) hS (fun q _ h => hFc q h) hFc (fun u t H locs ht hvm hw_53 hB hz1 hk1 hS => ?_)
                        subst hw_53
                        obtain ⟨hP, hK1, hD1⟩ := hB
                        rw [ht] at hP
                        have hP : va_P (dC, dI) vwCl (kbW h0 hv hm d1 d2 (upd V p0.toNatClampNeg z_51) (upd M p0.toNatClampNeg z_49) z_51 z_49) H := hP
                        have hD : va_D A (kbW h0 hv hm d1 d2 (upd V p0.toNatClampNeg z_51) (upd M p0.toNatClampNeg z_49) z_51 z_49) := hD1.weaken (fun _ _ _ h => hFc _ h)
                        refine lv_iconst (v := 0) hx hb dX0_combine_223 (by decide +kernel) ?_
                        exact W.iret (v := 0) hx hb hr (fun t ht hW => ⟨⟨0, (upd V p0.toNatClampNeg z_51, upd M p0.toNatClampNeg z_49, z_51, z_49), rfl, (by subst e_50 e_52; first | rfl | (simp only [kOpC, kCmV, kCmM, if_pos g_5, if_pos g_10, if_pos g_15, if_neg c_16, if_pos c_17, if_pos c_18, if_pos c_39, if_neg c_40, if_neg c_41, if_pos c_42, if_pos c_43]; done) | (simp only [kOpC, kCmV, kCmM, if_pos g_5, if_pos g_10, if_pos g_15, if_neg c_16, if_pos c_17, if_pos c_18, if_pos c_39, if_neg c_40, if_neg c_41, if_pos c_42, if_pos c_43]; rfl)), by rw [ht]; exact hP, va_K.moved hW.alike hK, hD⟩, hS.F ht⟩) hS.2.2 dX0_combine_224
                    · refine lv_aload_n hx hb dX0_combine_113 rfl (lv_at hl 0 rfl) ?_
                      refine lv_iload_n hx hb dX0_combine_114 rfl (lv_at hl 2 rfl) ?_
                      refine lv_iload_n hx hb dX0_combine_115 rfl (lv_at hl 3 rfl) ?_
                      refine lv_iload hx hb dX0_combine_116 (lv_at hl 4 rfl) ?_
                      have hFc := kb_free hA hS
                      refine va_callv (va_runV (As := [.int p1, .int p2, .int p3]) (rest := []) ⟨hx, hb, hml, hown, hts⟩ (metX0_bitwise l dC dI h0 hv hm d1 d2 s.heap.size V M nv nm p1 p2 p3 (kR_in g_10) (kR_in g_15)) (cwV 3 hts (lw_V q59 q61 qs2 q16 q62) rfl rfl rfl (by decide +kernel) ⟨Nat.le_of_ble_eq_true rfl, Nat.le_of_ble_eq_true rfl⟩) ⟨kb_blindW, va_recv hK hP (ci := 0) (q0 := 0) rfl rfl, fun U hU hW => ⟨rfl, by rw [hU], by rw [hU]; exact hP, va_K.moved hW.alike hK, hD.weaken (fun _ _ _ _ => trivial)⟩⟩ rfl rfl hl.1 rfl (lv_room (Nat.le_of_ble_eq_true rfl)) dX0_combine_118 ⟨Nat.le_of_ble_eq_true rfl, Nat.le_of_ble_eq_true rfl⟩) hS (fun q _ h => hFc q h) hFc (fun u t H locs ht hvm hw_54 hB hz1 hk1 hS => ?_)
                      subst hw_54
                      obtain ⟨hP, hK1, hD1⟩ := hB
                      rw [ht] at hP
                      have hP : va_P (dC, dI) vwCl (kbW h0 hv hm d1 d2 V M (kBitV p1 (V p2.toNatClampNeg) (M p2.toNatClampNeg) (V p3.toNatClampNeg) (M p3.toNatClampNeg)) (kBitM p1 (V p2.toNatClampNeg) (M p2.toNatClampNeg) (V p3.toNatClampNeg) (M p3.toNatClampNeg))) H := hP
                      have hD : va_D A (kbW h0 hv hm d1 d2 V M (kBitV p1 (V p2.toNatClampNeg) (M p2.toNatClampNeg) (V p3.toNatClampNeg) (M p3.toNatClampNeg)) (kBitM p1 (V p2.toNatClampNeg) (M p2.toNatClampNeg) (V p3.toNatClampNeg) (M p3.toNatClampNeg))) := hD1.weaken (fun _ _ _ h => hFc _ h)
                      refine lv_goto (tgt := 218) hx hb dX0_combine_121 (by decide) ?_
                      refine lv_aload_n hx hb dX0_combine_218 rfl (lv_at hl 0 rfl) ?_
                      refine lv_iload_n hx hb dX0_combine_219 rfl (lv_at hl 1 rfl) ?_
                      have hFc := kb_free hA hS
                      refine va_callv (va_runV (As := [.int p0]) (rest := []) ⟨hx, hb, hml, hown, hts⟩ (metX0_keep l dC dI h0 hv hm d1 d2 H.size V M (kBitV p1 (V p2.toNatClampNeg) (M p2.toNatClampNeg) (V p3.toNatClampNeg) (M p3.toNatClampNeg)) (kBitM p1 (V p2.toNatClampNeg) (M p2.toNatClampNeg) (V p3.toNatClampNeg) (M p3.toNatClampNeg)) p0 (kR_in g_5)) (cwV 1 hts (lw_V q63 q65 qs3 q16 q66) rfl rfl rfl (by decide +kernel) ⟨Nat.le_of_ble_eq_true rfl, Nat.le_of_ble_eq_true rfl⟩) ⟨kb_blindW, va_recv hK hP (ci := 0) (q0 := 0) rfl rfl, fun U hU hW => ⟨rfl, by rw [hU], by rw [hU]; exact hP, va_K.moved hW.alike hK, hD.weaken (fun _ _ _ _ => trivial)⟩⟩ rfl rfl hl.1 rfl (lv_room (Nat.le_of_ble_eq_true rfl)) dX0_combine_220 ⟨Nat.le_of_ble_eq_true rfl, Nat.le_of_ble_eq_true rfl⟩) hS (fun q _ h => hFc q h) hFc (fun u t H locs ht hvm hw_55 hB hz1 hk1 hS => ?_)
                      subst hw_55
                      obtain ⟨hP, hK1, hD1⟩ := hB
                      rw [ht] at hP
                      have hP : va_P (dC, dI) vwCl (kbW h0 hv hm d1 d2 (upd V p0.toNatClampNeg (kBitV p1 (V p2.toNatClampNeg) (M p2.toNatClampNeg) (V p3.toNatClampNeg) (M p3.toNatClampNeg))) (upd M p0.toNatClampNeg (kBitM p1 (V p2.toNatClampNeg) (M p2.toNatClampNeg) (V p3.toNatClampNeg) (M p3.toNatClampNeg))) (kBitV p1 (V p2.toNatClampNeg) (M p2.toNatClampNeg) (V p3.toNatClampNeg) (M p3.toNatClampNeg)) (kBitM p1 (V p2.toNatClampNeg) (M p2.toNatClampNeg) (V p3.toNatClampNeg) (M p3.toNatClampNeg))) H := hP
                      have hD : va_D A (kbW h0 hv hm d1 d2 (upd V p0.toNatClampNeg (kBitV p1 (V p2.toNatClampNeg) (M p2.toNatClampNeg) (V p3.toNatClampNeg) (M p3.toNatClampNeg))) (upd M p0.toNatClampNeg (kBitM p1 (V p2.toNatClampNeg) (M p2.toNatClampNeg) (V p3.toNatClampNeg) (M p3.toNatClampNeg))) (kBitV p1 (V p2.toNatClampNeg) (M p2.toNatClampNeg) (V p3.toNatClampNeg) (M p3.toNatClampNeg)) (kBitM p1 (V p2.toNatClampNeg) (M p2.toNatClampNeg) (V p3.toNatClampNeg) (M p3.toNatClampNeg))) := hD1.weaken (fun _ _ _ h => hFc _ h)
                      refine lv_iconst (v := 0) hx hb dX0_combine_223 (by decide +kernel) ?_
                      exact W.iret (v := 0) hx hb hr (fun t ht hW => ⟨⟨0, (upd V p0.toNatClampNeg (kBitV p1 (V p2.toNatClampNeg) (M p2.toNatClampNeg) (V p3.toNatClampNeg) (M p3.toNatClampNeg)), upd M p0.toNatClampNeg (kBitM p1 (V p2.toNatClampNeg) (M p2.toNatClampNeg) (V p3.toNatClampNeg) (M p3.toNatClampNeg)), kBitV p1 (V p2.toNatClampNeg) (M p2.toNatClampNeg) (V p3.toNatClampNeg) (M p3.toNatClampNeg), kBitM p1 (V p2.toNatClampNeg) (M p2.toNatClampNeg) (V p3.toNatClampNeg) (M p3.toNatClampNeg)), rfl, (by first | rfl | (simp only [kOpC, kCmV, kCmM, if_pos g_5, if_pos g_10, if_pos g_15, if_neg c_16, if_pos c_17, if_pos c_18, if_pos c_39, if_neg c_40, if_neg c_41, if_neg c_42]; done) | (simp only [kOpC, kCmV, kCmM, if_pos g_5, if_pos g_10, if_pos g_15, if_neg c_16, if_pos c_17, if_pos c_18, if_pos c_39, if_neg c_40, if_neg c_41, if_neg c_42]; rfl)), by rw [ht]; exact hP, va_K.moved hW.alike hK, hD⟩, hS.F ht⟩) hS.2.2 dX0_combine_224
                  · refine lv_aload_n hx hb dX0_combine_98 rfl (lv_at hl 0 rfl) ?_
                    refine lv_iload_n hx hb dX0_combine_99 rfl (lv_at hl 3 rfl) ?_
                    refine lv_iload hx hb dX0_combine_100 (lv_at hl 4 rfl) ?_
                    have hFc := kb_free hA hS
                    refine va_callv (va_runV (As := [.int p2, .int p3]) (rest := []) ⟨hx, hb, hml, hown, hts⟩ (metX0_subtract l dC dI h0 hv hm d1 d2 s.heap.size V M nv nm p2 p3 (kR_in g_10) (kR_in g_15)) (cwV 2 hts (lw_V q55 q57 qs1 q16 q58) rfl rfl rfl (by decide +kernel) ⟨Nat.le_of_ble_eq_true rfl, Nat.le_of_ble_eq_true rfl⟩) ⟨kb_blindW, va_recv hK hP (ci := 0) (q0 := 0) rfl rfl, fun U hU hW => ⟨rfl, by rw [hU], by rw [hU]; exact hP, va_K.moved hW.alike hK, hD.weaken (fun _ _ _ _ => trivial)⟩⟩ rfl rfl hl.1 rfl (lv_room (Nat.le_of_ble_eq_true rfl)) dX0_combine_102 ⟨Nat.le_of_ble_eq_true rfl, Nat.le_of_ble_eq_true rfl⟩) hS (fun q _ h => hFc q h) hFc (fun u t H locs ht hvm hw_56 hB hz1 hk1 hS => ?_)
                    subst hw_56
                    obtain ⟨hP, hK1, hD1⟩ := hB
                    rw [ht] at hP
                    have hP : va_P (dC, dI) vwCl (kbW h0 hv hm d1 d2 V M (kSubV (V p2.toNatClampNeg) (M p2.toNatClampNeg) (V p3.toNatClampNeg) (M p3.toNatClampNeg)) (kSubM (V p2.toNatClampNeg) (M p2.toNatClampNeg) (V p3.toNatClampNeg) (M p3.toNatClampNeg))) H := hP
                    have hD : va_D A (kbW h0 hv hm d1 d2 V M (kSubV (V p2.toNatClampNeg) (M p2.toNatClampNeg) (V p3.toNatClampNeg) (M p3.toNatClampNeg)) (kSubM (V p2.toNatClampNeg) (M p2.toNatClampNeg) (V p3.toNatClampNeg) (M p3.toNatClampNeg))) := hD1.weaken (fun _ _ _ h => hFc _ h)
                    refine lv_goto (tgt := 218) hx hb dX0_combine_105 (by decide) ?_
                    refine lv_aload_n hx hb dX0_combine_218 rfl (lv_at hl 0 rfl) ?_
                    refine lv_iload_n hx hb dX0_combine_219 rfl (lv_at hl 1 rfl) ?_
                    have hFc := kb_free hA hS
                    refine va_callv (va_runV (As := [.int p0]) (rest := []) ⟨hx, hb, hml, hown, hts⟩ (metX0_keep l dC dI h0 hv hm d1 d2 H.size V M (kSubV (V p2.toNatClampNeg) (M p2.toNatClampNeg) (V p3.toNatClampNeg) (M p3.toNatClampNeg)) (kSubM (V p2.toNatClampNeg) (M p2.toNatClampNeg) (V p3.toNatClampNeg) (M p3.toNatClampNeg)) p0 (kR_in g_5)) (cwV 1 hts (lw_V q63 q65 qs3 q16 q66) rfl rfl rfl (by decide +kernel) ⟨Nat.le_of_ble_eq_true rfl, Nat.le_of_ble_eq_true rfl⟩) ⟨kb_blindW, va_recv hK hP (ci := 0) (q0 := 0) rfl rfl, fun U hU hW => ⟨rfl, by rw [hU], by rw [hU]; exact hP, va_K.moved hW.alike hK, hD.weaken (fun _ _ _ _ => trivial)⟩⟩ rfl rfl hl.1 rfl (lv_room (Nat.le_of_ble_eq_true rfl)) dX0_combine_220 ⟨Nat.le_of_ble_eq_true rfl, Nat.le_of_ble_eq_true rfl⟩) hS (fun q _ h => hFc q h) hFc (fun u t H locs ht hvm hw_57 hB hz1 hk1 hS => ?_)
                    subst hw_57
                    obtain ⟨hP, hK1, hD1⟩ := hB
                    rw [ht] at hP
                    have hP : va_P (dC, dI) vwCl (kbW h0 hv hm d1 d2 (upd V p0.toNatClampNeg (kSubV (V p2.toNatClampNeg) (M p2.toNatClampNeg) (V p3.toNatClampNeg) (M p3.toNatClampNeg))) (upd M p0.toNatClampNeg (kSubM (V p2.toNatClampNeg) (M p2.toNatClampNeg) (V p3.toNatClampNeg) (M p3.toNatClampNeg))) (kSubV (V p2.toNatClampNeg) (M p2.toNatClampNeg) (V p3.toNatClampNeg) (M p3.toNatClampNeg)) (kSubM (V p2.toNatClampNeg) (M p2.toNatClampNeg) (V p3.toNatClampNeg) (M p3.toNatClampNeg))) H := hP
                    have hD : va_D A (kbW h0 hv hm d1 d2 (upd V p0.toNatClampNeg (kSubV (V p2.toNatClampNeg) (M p2.toNatClampNeg) (V p3.toNatClampNeg) (M p3.toNatClampNeg))) (upd M p0.toNatClampNeg (kSubM (V p2.toNatClampNeg) (M p2.toNatClampNeg) (V p3.toNatClampNeg) (M p3.toNatClampNeg))) (kSubV (V p2.toNatClampNeg) (M p2.toNatClampNeg) (V p3.toNatClampNeg) (M p3.toNatClampNeg)) (kSubM (V p2.toNatClampNeg) (M p2.toNatClampNeg) (V p3.toNatClampNeg) (M p3.toNatClampNeg))) := hD1.weaken (fun _ _ _ h => hFc _ h)
                    refine lv_iconst (v := 0) hx hb dX0_combine_223 (by decide +kernel) ?_
                    exact W.iret (v := 0) hx hb hr (fun t ht hW => ⟨⟨0, (upd V p0.toNatClampNeg (kSubV (V p2.toNatClampNeg) (M p2.toNatClampNeg) (V p3.toNatClampNeg) (M p3.toNatClampNeg)), upd M p0.toNatClampNeg (kSubM (V p2.toNatClampNeg) (M p2.toNatClampNeg) (V p3.toNatClampNeg) (M p3.toNatClampNeg)), kSubV (V p2.toNatClampNeg) (M p2.toNatClampNeg) (V p3.toNatClampNeg) (M p3.toNatClampNeg), kSubM (V p2.toNatClampNeg) (M p2.toNatClampNeg) (V p3.toNatClampNeg) (M p3.toNatClampNeg)), rfl, (by first | rfl | (simp only [kOpC, kCmV, kCmM, if_pos g_5, if_pos g_10, if_pos g_15, if_neg c_16, if_pos c_17, if_pos c_18, if_pos c_39, if_neg c_40, if_pos c_41]; done) | (simp only [kOpC, kCmV, kCmM, if_pos g_5, if_pos g_10, if_pos g_15, if_neg c_16, if_pos c_17, if_pos c_18, if_pos c_39, if_neg c_40, if_pos c_41]; rfl)), by rw [ht]; exact hP, va_K.moved hW.alike hK, hD⟩, hS.F ht⟩) hS.2.2 dX0_combine_224
                · refine lv_aload_n hx hb dX0_combine_83 rfl (lv_at hl 0 rfl) ?_
                  refine lv_iload_n hx hb dX0_combine_84 rfl (lv_at hl 3 rfl) ?_
                  refine lv_iload hx hb dX0_combine_85 (lv_at hl 4 rfl) ?_
                  have hFc := kb_free hA hS
                  refine va_callv (va_runV (As := [.int p2, .int p3]) (rest := []) ⟨hx, hb, hml, hown, hts⟩ (metX0_add l dC dI h0 hv hm d1 d2 s.heap.size V M nv nm p2 p3 (kR_in g_10) (kR_in g_15)) (cwV 2 hts (lw_V q51 q53 qs0 q16 q54) rfl rfl rfl (by decide +kernel) ⟨Nat.le_of_ble_eq_true rfl, Nat.le_of_ble_eq_true rfl⟩) ⟨kb_blindW, va_recv hK hP (ci := 0) (q0 := 0) rfl rfl, fun U hU hW => ⟨rfl, by rw [hU], by rw [hU]; exact hP, va_K.moved hW.alike hK, hD.weaken (fun _ _ _ _ => trivial)⟩⟩ rfl rfl hl.1 rfl (lv_room (Nat.le_of_ble_eq_true rfl)) dX0_combine_87 ⟨Nat.le_of_ble_eq_true rfl, Nat.le_of_ble_eq_true rfl⟩) hS (fun q _ h => hFc q h) hFc (fun u t H locs ht hvm hw_58 hB hz1 hk1 hS => ?_)
                  subst hw_58
                  obtain ⟨hP, hK1, hD1⟩ := hB
                  rw [ht] at hP
                  have hP : va_P (dC, dI) vwCl (kbW h0 hv hm d1 d2 V M (kAddV (V p2.toNatClampNeg) (M p2.toNatClampNeg) (V p3.toNatClampNeg) (M p3.toNatClampNeg)) (kAddM (V p2.toNatClampNeg) (M p2.toNatClampNeg) (V p3.toNatClampNeg) (M p3.toNatClampNeg))) H := hP
                  have hD : va_D A (kbW h0 hv hm d1 d2 V M (kAddV (V p2.toNatClampNeg) (M p2.toNatClampNeg) (V p3.toNatClampNeg) (M p3.toNatClampNeg)) (kAddM (V p2.toNatClampNeg) (M p2.toNatClampNeg) (V p3.toNatClampNeg) (M p3.toNatClampNeg))) := hD1.weaken (fun _ _ _ h => hFc _ h)
                  refine lv_goto (tgt := 218) hx hb dX0_combine_90 (by decide) ?_
                  refine lv_aload_n hx hb dX0_combine_218 rfl (lv_at hl 0 rfl) ?_
                  refine lv_iload_n hx hb dX0_combine_219 rfl (lv_at hl 1 rfl) ?_
                  have hFc := kb_free hA hS
                  refine va_callv (va_runV (As := [.int p0]) (rest := []) ⟨hx, hb, hml, hown, hts⟩ (metX0_keep l dC dI h0 hv hm d1 d2 H.size V M (kAddV (V p2.toNatClampNeg) (M p2.toNatClampNeg) (V p3.toNatClampNeg) (M p3.toNatClampNeg)) (kAddM (V p2.toNatClampNeg) (M p2.toNatClampNeg) (V p3.toNatClampNeg) (M p3.toNatClampNeg)) p0 (kR_in g_5)) (cwV 1 hts (lw_V q63 q65 qs3 q16 q66) rfl rfl rfl (by decide +kernel) ⟨Nat.le_of_ble_eq_true rfl, Nat.le_of_ble_eq_true rfl⟩) ⟨kb_blindW, va_recv hK hP (ci := 0) (q0 := 0) rfl rfl, fun U hU hW => ⟨rfl, by rw [hU], by rw [hU]; exact hP, va_K.moved hW.alike hK, hD.weaken (fun _ _ _ _ => trivial)⟩⟩ rfl rfl hl.1 rfl (lv_room (Nat.le_of_ble_eq_true rfl)) dX0_combine_220 ⟨Nat.le_of_ble_eq_true rfl, Nat.le_of_ble_eq_true rfl⟩) hS (fun q _ h => hFc q h) hFc (fun u t H locs ht hvm hw_59 hB hz1 hk1 hS => ?_)
                  subst hw_59
                  obtain ⟨hP, hK1, hD1⟩ := hB
                  rw [ht] at hP
                  have hP : va_P (dC, dI) vwCl (kbW h0 hv hm d1 d2 (upd V p0.toNatClampNeg (kAddV (V p2.toNatClampNeg) (M p2.toNatClampNeg) (V p3.toNatClampNeg) (M p3.toNatClampNeg))) (upd M p0.toNatClampNeg (kAddM (V p2.toNatClampNeg) (M p2.toNatClampNeg) (V p3.toNatClampNeg) (M p3.toNatClampNeg))) (kAddV (V p2.toNatClampNeg) (M p2.toNatClampNeg) (V p3.toNatClampNeg) (M p3.toNatClampNeg)) (kAddM (V p2.toNatClampNeg) (M p2.toNatClampNeg) (V p3.toNatClampNeg) (M p3.toNatClampNeg))) H := hP
                  have hD : va_D A (kbW h0 hv hm d1 d2 (upd V p0.toNatClampNeg (kAddV (V p2.toNatClampNeg) (M p2.toNatClampNeg) (V p3.toNatClampNeg) (M p3.toNatClampNeg))) (upd M p0.toNatClampNeg (kAddM (V p2.toNatClampNeg) (M p2.toNatClampNeg) (V p3.toNatClampNeg) (M p3.toNatClampNeg))) (kAddV (V p2.toNatClampNeg) (M p2.toNatClampNeg) (V p3.toNatClampNeg) (M p3.toNatClampNeg)) (kAddM (V p2.toNatClampNeg) (M p2.toNatClampNeg) (V p3.toNatClampNeg) (M p3.toNatClampNeg))) := hD1.weaken (fun _ _ _ h => hFc _ h)
                  refine lv_iconst (v := 0) hx hb dX0_combine_223 (by decide +kernel) ?_
                  exact W.iret (v := 0) hx hb hr (fun t ht hW => ⟨⟨0, (upd V p0.toNatClampNeg (kAddV (V p2.toNatClampNeg) (M p2.toNatClampNeg) (V p3.toNatClampNeg) (M p3.toNatClampNeg)), upd M p0.toNatClampNeg (kAddM (V p2.toNatClampNeg) (M p2.toNatClampNeg) (V p3.toNatClampNeg) (M p3.toNatClampNeg)), kAddV (V p2.toNatClampNeg) (M p2.toNatClampNeg) (V p3.toNatClampNeg) (M p3.toNatClampNeg), kAddM (V p2.toNatClampNeg) (M p2.toNatClampNeg) (V p3.toNatClampNeg) (M p3.toNatClampNeg)), rfl, (by first | rfl | (simp only [kOpC, kCmV, kCmM, if_pos g_5, if_pos g_10, if_pos g_15, if_neg c_16, if_pos c_17, if_pos c_18, if_pos c_39, if_pos c_40]; done) | (simp only [kOpC, kCmV, kCmM, if_pos g_5, if_pos g_10, if_pos g_15, if_neg c_16, if_pos c_17, if_pos c_18, if_pos c_39, if_pos c_40]; rfl)), by rw [ht]; exact hP, va_K.moved hW.alike hK, hD⟩, hS.F ht⟩) hS.2.2 dX0_combine_224
              · have c_39 : ¬ kConf (V p2.toNatClampNeg) (M p2.toNatClampNeg) (V p3.toNatClampNeg) (M p3.toNatClampNeg) = 0 := c_39
                refine lv_bipush (v := (-2)) hx hb dX0_combine_76 (by decide +kernel) ?_
                exact W.iret (v := (-2)) hx hb hr (fun t ht hW => ⟨⟨(-2), (V, M, nv, nm), rfl, (by first | rfl | (simp only [kOpC, kCmV, kCmM, if_pos g_5, if_pos g_10, if_pos g_15, if_neg c_16, if_pos c_17, if_pos c_18, if_neg c_39]; done) | (simp only [kOpC, kCmV, kCmM, if_pos g_5, if_pos g_10, if_pos g_15, if_neg c_16, if_pos c_17, if_pos c_18, if_neg c_39]; rfl)), by rw [ht]; exact hP, va_K.moved hW.alike hK, hD⟩, hS.F ht⟩) hS.2.2 dX0_combine_78
          · refine lv_iconst (v := (-1)) hx hb dX0_combine_32 (by decide +kernel) ?_
            exact W.iret (v := (-1)) hx hb hr (fun t ht hW => ⟨⟨(-1), (V, M, nv, nm), rfl, (by first | rfl | (simp only [kOpC, kCmV, kCmM, if_pos g_5, if_pos g_10, if_pos g_15, if_neg c_16, if_neg c_17]; done) | (simp only [kOpC, kCmV, kCmM, if_pos g_5, if_pos g_10, if_pos g_15, if_neg c_16, if_neg c_17]; rfl)), by rw [ht]; exact hP, va_K.moved hW.alike hK, hD⟩, hS.F ht⟩) hS.2.2 dX0_combine_33

set_option maxHeartbeats 4000000 in
set_option maxRecDepth 100000 in
/-- shift -/
theorem metX0_shift (l : Launch) (dC : Nat → ClassId) (dI : Nat → Nat → Nat) (h0 hv hm : Nat) (d1 d2 : ClassId) (sz : Nat) (V M : kF) (nv nm : Int32) (p0 : Int32) (p1 : Int32) (p2 : Int32) : Met l yX0_shift (ws_ yX0_shift cX0_shift 4 (some .int)) ({ frames := 1, cells := 0, slots := 0, locals := 21 }) (va_Pc [.ref h0, .int p0, .int p1, .int p2] (kbP (dC, dI) (kTy d1 d2) (kbW h0 hv hm d1 d2 V M nv nm) sz)) (va_Qi (fun (r : Int32) (u : kSt) => (r, u.1, u.2.1) = kOpS V M p0 p1 p2) (kbB dC dI (kA h0 hv hm sz) h0 hv hm d1 d2) (kA h0 hv hm sz)) 0 0 (kA h0 hv hm sz) := by
  refine Met.ofW (cc := cX0_shift) (maxL := 4) (ret := (some .int)) (by decide) rfl ?_
  intro p e s m args below meth c s₁ B hml hv_
  obtain ⟨rfl, hsz, hP, hK, hD0⟩ := hv_
  have hx := B.exec
  have hb := B.bytes
  have hr := B.returns
  have hts := atoms_spec (ws := ws_ yX0_shift cX0_shift 4 (some .int)) B.pre
  have hts : ∀ w ∈ lw_all, w.before _ s = true := fun w h => hts w (List.mem_cons_of_mem _ h)
  have hown : s.vm.findClass RX0 = some m.cls := findClass_of_methodNamed B.named
  have hlocks := B.notSynchronized
  subst hsz
  have hD := kA_kb (sz := s.heap.size) hD0
  have hA : ∀ q : Nat, kA h0 hv hm s.heap.size q → kA h0 hv hm s.heap.size q := fun _ h => h
  generalize hAe : kA h0 hv hm s.heap.size = A at hD ⊢
  have hA : ∀ q : Nat, kA h0 hv hm s.heap.size q → A q := fun q h => by rw [← hAe]; exact h
  have hS : va_S A s.heap s.heap [] := va_S.rf
  have hP : va_P (dC, dI) vwCl (kbW h0 hv hm d1 d2 V M nv nm) s.heap := hP
  have hl := lv_entry ([.ref h0, .int p0, .int p1, .int p2]) (n := 4) (Nat.le_of_ble_eq_true rfl)
  rw [lg_entry_eq]
  generalize (lg_sl ([.ref h0, .int p0, .int p1, .int p2]) ++ List.replicate (4 - (lg_sl ([.ref h0, .int p0, .int p1, .int p2])).length) Slot.unset).toArray = ls at hl ⊢
  have hl : lv_has ls 4 [(0, .ref h0), (1, .int p0), (2, .int p1), (3, .int p2)] := hl
  refine lv_iload_n hx hb dX0_shift_0 rfl (lv_at hl 1 rfl) ?_
  refine vp_callSi (W.runS (As := [.int p0]) (rest := []) ⟨hx, hb, hml, hown, hts⟩ (metX0_isRegister l p0) (va_cwS 1 hts (lw_S q44 q45 q16 q46) rfl rfl rfl (by decide +kernel) ⟨Nat.le_of_ble_eq_true rfl, Nat.le_of_ble_eq_true rfl⟩) ⟨fun _ _ _ _ q => q, fun U hU hW => ⟨rfl, trivial⟩⟩ rfl rfl hl.1 rfl (lv_room (Nat.le_of_ble_eq_true rfl)) dX0_shift_1 ⟨Nat.le_of_ble_eq_true rfl, Nat.le_of_ble_eq_true rfl⟩) (fun r_1 hr_2 => ?_)
  refine lv_if_eq (tgt := 26) hx hb dX0_shift_4 (by decide) (fun c_3 => ?_) (fun c_3 => ?_)
  · have g_4 := kb_tf hr_2 c_3
    refine lv_iconst (v := (-1)) hx hb dX0_shift_26 (by decide +kernel) ?_
    exact W.iret (v := (-1)) hx hb hr (fun t ht hW => ⟨⟨(-1), (V, M, nv, nm), rfl, (by first | rfl | (simp only [kOpS, kShV, if_neg g_4]; done) | (simp only [kOpS, kShV, if_neg g_4]; rfl)), by rw [ht]; exact hP, va_K.moved hW.alike hK, hD⟩, hS.F ht⟩) hS.2.2 dX0_shift_27
  · have g_5 := kb_tt hr_2 c_3
    refine lv_iload_n hx hb dX0_shift_7 rfl (lv_at hl 2 rfl) ?_
    refine vp_callSi (W.runS (As := [.int p1]) (rest := []) ⟨hx, hb, hml, hown, hts⟩ (metX0_isRegister l p1) (va_cwS 1 hts (lw_S q44 q45 q16 q46) rfl rfl rfl (by decide +kernel) ⟨Nat.le_of_ble_eq_true rfl, Nat.le_of_ble_eq_true rfl⟩) ⟨fun _ _ _ _ q => q, fun U hU hW => ⟨rfl, trivial⟩⟩ rfl rfl hl.1 rfl (lv_room (Nat.le_of_ble_eq_true rfl)) dX0_shift_8 ⟨Nat.le_of_ble_eq_true rfl, Nat.le_of_ble_eq_true rfl⟩) (fun r_6 hr_7 => ?_)
    refine lv_if_eq (tgt := 26) hx hb dX0_shift_11 (by decide) (fun c_8 => ?_) (fun c_8 => ?_)
    · have g_9 := kb_tf hr_7 c_8
      refine lv_iconst (v := (-1)) hx hb dX0_shift_26 (by decide +kernel) ?_
      exact W.iret (v := (-1)) hx hb hr (fun t ht hW => ⟨⟨(-1), (V, M, nv, nm), rfl, (by first | rfl | (simp only [kOpS, kShV, if_pos g_5, if_neg g_9]; done) | (simp only [kOpS, kShV, if_pos g_5, if_neg g_9]; rfl)), by rw [ht]; exact hP, va_K.moved hW.alike hK, hD⟩, hS.F ht⟩) hS.2.2 dX0_shift_27
    · have g_10 := kb_tt hr_7 c_8
      refine lv_iload_n hx hb dX0_shift_14 rfl (lv_at hl 3 rfl) ?_
      refine lv_bipush (v := (-6)) hx hb dX0_shift_15 (by decide +kernel) ?_
      refine lv_icmp_lt (tgt := 26) hx hb dX0_shift_17 (by decide) (fun c_11 => ?_) (fun c_11 => ?_)
      · refine lv_iconst (v := (-1)) hx hb dX0_shift_26 (by decide +kernel) ?_
        exact W.iret (v := (-1)) hx hb hr (fun t ht hW => ⟨⟨(-1), (V, M, nv, nm), rfl, (by first | rfl | (simp only [kOpS, kShV, if_pos g_5, if_pos g_10, if_pos c_11]; done) | (simp only [kOpS, kShV, if_pos g_5, if_pos g_10, if_pos c_11]; rfl)), by rw [ht]; exact hP, va_K.moved hW.alike hK, hD⟩, hS.F ht⟩) hS.2.2 dX0_shift_27
      · refine lv_iload_n hx hb dX0_shift_20 rfl (lv_at hl 3 rfl) ?_
        refine lv_bipush (v := 6) hx hb dX0_shift_21 (by decide +kernel) ?_
        refine lv_icmp_le (tgt := 28) hx hb dX0_shift_23 (by decide) (fun c_12 => ?_) (fun c_12 => ?_)
        · refine lv_aload_n hx hb dX0_shift_28 rfl (lv_at hl 0 rfl) ?_
          refine lv_iload_n hx hb dX0_shift_29 rfl (lv_at hl 3 rfl) ?_
          refine lv_if_lt (tgt := 47) hx hb dX0_shift_30 (by decide) (fun c_13 => ?_) (fun c_13 => ?_)
          · refine lv_aload_n hx hb dX0_shift_47 rfl (lv_at hl 0 rfl) ?_
            refine va_get (D := (dC, dI)) (ci := 0) (v := .ref hv) (C := RX0) (T := TX0) (N := 4) hx hb hts in_X0 hown hK hP 0 rfl rfl 0 (by decide) (hts _ q26) (fun _ h9 => h9) rfl dX0_shift_48 ?_
            refine lv_iload_n hx hb dX0_shift_51 rfl (lv_at hl 2 rfl) ?_
            refine va_iald hx hb hK hP 1 0 rfl rfl (kR_in g_10) dX0_shift_52 ?_
            refine lv_iload_n hx hb dX0_shift_53 rfl (lv_at hl 3 rfl) ?_
            refine lv_ineg hx hb dX0_shift_54 ?_
            refine lv_ishr hx hb dX0_shift_55 ?_
            refine lv_topi (fun z_14 e_15 => ?_)
            refine va_put (D := (dC, dI)) (ci := 0) (v := .int z_14) (ty := .int) (C := RX0) (T := TX0) (N := 4) hx hb hts in_X0 tyX0 tyX0_ok nmX0 hown hK hP hD hS 0 rfl rfl 2 (by decide) (hts _ q28) (fun _ h9 => h9) rfl (by decide +kernel) rfl rfl (Nat.le_of_ble_eq_true rfl) dX0_shift_56 (fun H locs hP hD hS => ?_)
            have hP : va_P (dC, dI) vwCl (kbW h0 hv hm d1 d2 V M z_14 nm) H := hP
            have hD : va_D A (kbW h0 hv hm d1 d2 V M z_14 nm) := hD
            refine lv_aload_n hx hb dX0_shift_59 rfl (lv_at hl 0 rfl) ?_
            refine lv_iload_n hx hb dX0_shift_60 rfl (lv_at hl 3 rfl) ?_
            refine lv_if_lt (tgt := 78) hx hb dX0_shift_61 (by decide) (fun c_16 => ?_) (fun c_16 => absurd c_13 c_16)
            refine lv_aload_n hx hb dX0_shift_78 rfl (lv_at hl 0 rfl) ?_
            refine va_get (D := (dC, dI)) (ci := 0) (v := .ref hm) (C := RX0) (T := TX0) (N := 4) hx hb hts in_X0 hown hK hP 0 rfl rfl 1 (by decide) (hts _ q27) (fun _ h9 => h9) rfl dX0_shift_79 ?_
            refine lv_iload_n hx hb dX0_shift_82 rfl (lv_at hl 2 rfl) ?_
            refine va_iald hx hb hK hP 2 1 rfl rfl (kR_in g_10) dX0_shift_83 ?_
            refine lv_iload_n hx hb dX0_shift_84 rfl (lv_at hl 3 rfl) ?_
            refine lv_ineg hx hb dX0_shift_85 ?_
            refine lv_ishr hx hb dX0_shift_86 ?_
            refine lv_topi (fun z_17 e_18 => ?_)
            refine va_put (D := (dC, dI)) (ci := 0) (v := .int z_17) (ty := .int) (C := RX0) (T := TX0) (N := 4) hx hb hts in_X0 tyX0 tyX0_ok nmX0 hown hK hP hD hS 0 rfl rfl 3 (by decide) (hts _ q29) (fun _ h9 => h9) rfl (by decide +kernel) rfl rfl (Nat.le_of_ble_eq_true rfl) dX0_shift_87 (fun H locs hP hD hS => ?_)
            have hP : va_P (dC, dI) vwCl (kbW h0 hv hm d1 d2 V M z_14 z_17) H := hP
            have hD : va_D A (kbW h0 hv hm d1 d2 V M z_14 z_17) := hD
            refine lv_aload_n hx hb dX0_shift_90 rfl (lv_at hl 0 rfl) ?_
            refine lv_iload_n hx hb dX0_shift_91 rfl (lv_at hl 1 rfl) ?_
            have hFc := kb_free hA hS
            refine va_callv (va_runV (As := [.int p0]) (rest := []) ⟨hx, hb, hml, hown, hts⟩ (metX0_keep l dC dI h0 hv hm d1 d2 H.size V M z_14 z_17 p0 (kR_in g_5)) (cwV 1 hts (lw_V q63 q65 qs3 q16 q66) rfl rfl rfl (by decide +kernel) ⟨Nat.le_of_ble_eq_true rfl, Nat.le_of_ble_eq_true rfl⟩) ⟨kb_blindW, va_recv hK hP (ci := 0) (q0 := 0) rfl rfl, fun U hU hW => ⟨rfl, by rw [hU], by rw [hU]; exact hP, va_K.moved hW.alike hK, hD.weaken (fun _ _ _ _ => trivial)⟩⟩ rfl rfl hl.1 rfl (lv_room (Nat.le_of_ble_eq_true rfl)) dX0_shift_92 ⟨Nat.le_of_ble_eq_true rfl, Nat.le_of_ble_eq_true rfl⟩) hS (fun q _ h => hFc q h) hFc (fun u t H locs ht hvm hw_19 hB hz1 hk1 hS => ?_)
            subst hw_19
            obtain ⟨hP, hK1, hD1⟩ := hB
            rw [ht] at hP
            have hP : va_P (dC, dI) vwCl (kbW h0 hv hm d1 d2 (upd V p0.toNatClampNeg z_14) (upd M p0.toNatClampNeg z_17) z_14 z_17) H := hP
            have hD : va_D A (kbW h0 hv hm d1 d2 (upd V p0.toNatClampNeg z_14) (upd M p0.toNatClampNeg z_17) z_14 z_17) := hD1.weaken (fun _ _ _ h => hFc _ h)
            refine lv_iconst (v := 0) hx hb dX0_shift_95 (by decide +kernel) ?_
            exact W.iret (v := 0) hx hb hr (fun t ht hW => ⟨⟨0, (upd V p0.toNatClampNeg z_14, upd M p0.toNatClampNeg z_17, z_14, z_17), rfl, (by subst e_15 e_18; first | rfl | (simp only [kOpS, kShV, if_pos g_5, if_pos g_10, if_neg c_11, if_pos c_12, if_pos c_13]; done) | (simp only [kOpS, kShV, if_pos g_5, if_pos g_10, if_neg c_11, if_pos c_12, if_pos c_13]; rfl)), by rw [ht]; exact hP, va_K.moved hW.alike hK, hD⟩, hS.F ht⟩) hS.2.2 dX0_shift_96
          · refine lv_aload_n hx hb dX0_shift_33 rfl (lv_at hl 0 rfl) ?_
            refine va_get (D := (dC, dI)) (ci := 0) (v := .ref hv) (C := RX0) (T := TX0) (N := 4) hx hb hts in_X0 hown hK hP 0 rfl rfl 0 (by decide) (hts _ q26) (fun _ h9 => h9) rfl dX0_shift_34 ?_
            refine lv_iload_n hx hb dX0_shift_37 rfl (lv_at hl 2 rfl) ?_
            refine va_iald hx hb hK hP 1 0 rfl rfl (kR_in g_10) dX0_shift_38 ?_
            refine lv_iload_n hx hb dX0_shift_39 rfl (lv_at hl 3 rfl) ?_
            refine lv_ishl hx hb dX0_shift_40 ?_
            refine lv_bipush (v := 63) hx hb dX0_shift_41 (by decide +kernel) ?_
            refine lv_iand hx hb dX0_shift_43 ?_
            refine lv_goto (tgt := 56) hx hb dX0_shift_44 (by decide) ?_
            refine lv_topi (fun z_20 e_21 => ?_)
            refine va_put (D := (dC, dI)) (ci := 0) (v := .int z_20) (ty := .int) (C := RX0) (T := TX0) (N := 4) hx hb hts in_X0 tyX0 tyX0_ok nmX0 hown hK hP hD hS 0 rfl rfl 2 (by decide) (hts _ q28) (fun _ h9 => h9) rfl (by decide +kernel) rfl rfl (Nat.le_of_ble_eq_true rfl) dX0_shift_56 (fun H locs hP hD hS => ?_)
            have hP : va_P (dC, dI) vwCl (kbW h0 hv hm d1 d2 V M z_20 nm) H := hP
            have hD : va_D A (kbW h0 hv hm d1 d2 V M z_20 nm) := hD
            refine lv_aload_n hx hb dX0_shift_59 rfl (lv_at hl 0 rfl) ?_
            refine lv_iload_n hx hb dX0_shift_60 rfl (lv_at hl 3 rfl) ?_
            refine lv_if_lt (tgt := 78) hx hb dX0_shift_61 (by decide) (fun c_22 => absurd c_22 c_13) (fun c_22 => ?_)
            refine lv_aload_n hx hb dX0_shift_64 rfl (lv_at hl 0 rfl) ?_
            refine va_get (D := (dC, dI)) (ci := 0) (v := .ref hm) (C := RX0) (T := TX0) (N := 4) hx hb hts in_X0 hown hK hP 0 rfl rfl 1 (by decide) (hts _ q27) (fun _ h9 => h9) rfl dX0_shift_65 ?_
            refine lv_iload_n hx hb dX0_shift_68 rfl (lv_at hl 2 rfl) ?_
            refine va_iald hx hb hK hP 2 1 rfl rfl (kR_in g_10) dX0_shift_69 ?_
            refine lv_iload_n hx hb dX0_shift_70 rfl (lv_at hl 3 rfl) ?_
            refine lv_ishl hx hb dX0_shift_71 ?_
            refine lv_bipush (v := 63) hx hb dX0_shift_72 (by decide +kernel) ?_
            refine lv_iand hx hb dX0_shift_74 ?_
            refine lv_goto (tgt := 87) hx hb dX0_shift_75 (by decide) ?_
            refine lv_topi (fun z_23 e_24 => ?_)
            refine va_put (D := (dC, dI)) (ci := 0) (v := .int z_23) (ty := .int) (C := RX0) (T := TX0) (N := 4) hx hb hts in_X0 tyX0 tyX0_ok nmX0 hown hK hP hD hS 0 rfl rfl 3 (by decide) (hts _ q29) (fun _ h9 => h9) rfl (by decide +kernel) rfl rfl (Nat.le_of_ble_eq_true rfl) dX0_shift_87 (fun H locs hP hD hS => ?_)
            have hP : va_P (dC, dI) vwCl (kbW h0 hv hm d1 d2 V M z_20 z_23) H := hP
            have hD : va_D A (kbW h0 hv hm d1 d2 V M z_20 z_23) := hD
            refine lv_aload_n hx hb dX0_shift_90 rfl (lv_at hl 0 rfl) ?_
            refine lv_iload_n hx hb dX0_shift_91 rfl (lv_at hl 1 rfl) ?_
            have hFc := kb_free hA hS
            refine va_callv (va_runV (As := [.int p0]) (rest := []) ⟨hx, hb, hml, hown, hts⟩ (metX0_keep l dC dI h0 hv hm d1 d2 H.size V M z_20 z_23 p0 (kR_in g_5)) (cwV 1 hts (lw_V q63 q65 qs3 q16 q66) rfl rfl rfl (by decide +kernel) ⟨Nat.le_of_ble_eq_true rfl, Nat.le_of_ble_eq_true rfl⟩) ⟨kb_blindW, va_recv hK hP (ci := 0) (q0 := 0) rfl rfl, fun U hU hW => ⟨rfl, by rw [hU], by rw [hU]; exact hP, va_K.moved hW.alike hK, hD.weaken (fun _ _ _ _ => trivial)⟩⟩ rfl rfl hl.1 rfl (lv_room (Nat.le_of_ble_eq_true rfl)) dX0_shift_92 ⟨Nat.le_of_ble_eq_true rfl, Nat.le_of_ble_eq_true rfl⟩) hS (fun q _ h => hFc q h) hFc (fun u t H locs ht hvm hw_25 hB hz1 hk1 hS => ?_)
            subst hw_25
            obtain ⟨hP, hK1, hD1⟩ := hB
            rw [ht] at hP
            have hP : va_P (dC, dI) vwCl (kbW h0 hv hm d1 d2 (upd V p0.toNatClampNeg z_20) (upd M p0.toNatClampNeg z_23) z_20 z_23) H := hP
            have hD : va_D A (kbW h0 hv hm d1 d2 (upd V p0.toNatClampNeg z_20) (upd M p0.toNatClampNeg z_23) z_20 z_23) := hD1.weaken (fun _ _ _ h => hFc _ h)
            refine lv_iconst (v := 0) hx hb dX0_shift_95 (by decide +kernel) ?_
            exact W.iret (v := 0) hx hb hr (fun t ht hW => ⟨⟨0, (upd V p0.toNatClampNeg z_20, upd M p0.toNatClampNeg z_23, z_20, z_23), rfl, (by subst e_21 e_24; first | rfl | (simp only [kOpS, kShV, if_pos g_5, if_pos g_10, if_neg c_11, if_pos c_12, if_neg c_13]; done) | (simp only [kOpS, kShV, if_pos g_5, if_pos g_10, if_neg c_11, if_pos c_12, if_neg c_13]; rfl)), by rw [ht]; exact hP, va_K.moved hW.alike hK, hD⟩, hS.F ht⟩) hS.2.2 dX0_shift_96
        · refine lv_iconst (v := (-1)) hx hb dX0_shift_26 (by decide +kernel) ?_
          exact W.iret (v := (-1)) hx hb hr (fun t ht hW => ⟨⟨(-1), (V, M, nv, nm), rfl, (by first | rfl | (simp only [kOpS, kShV, if_pos g_5, if_pos g_10, if_neg c_11, if_neg c_12]; done) | (simp only [kOpS, kShV, if_pos g_5, if_pos g_10, if_neg c_11, if_neg c_12]; rfl)), by rw [ht]; exact hP, va_K.moved hW.alike hK, hD⟩, hS.F ht⟩) hS.2.2 dX0_shift_27

set_option maxHeartbeats 4000000 in
set_option maxRecDepth 100000 in
/-- leastFrom -/
theorem metX0_leastFrom (l : Launch) (p0 : Int32) (p1 : Int32) (p2 : Int32) : Met l yX0_leastFrom (ws_ yX0_leastFrom cX0_leastFrom 6 (some .int)) ({ frames := 0, cells := 0, slots := 0, locals := 0 }) (va_Pc [.int p0, .int p1, .int p2] (fun _ => True)) (vp_Si (fun r => r = kLf p0 p1 p2)) 0 0 (fun _ => False) := by
  refine Met.ofW (cc := cX0_leastFrom) (maxL := 6) (ret := (some .int)) (by decide) rfl ?_
  intro p e s m args below meth c s₁ B hml hv_
  obtain ⟨rfl, -⟩ := hv_
  have hx := B.exec
  have hb := B.bytes
  have hr := B.returns
  have hts := atoms_spec (ws := ws_ yX0_leastFrom cX0_leastFrom 6 (some .int)) B.pre
  have hts : ∀ w ∈ lw_all, w.before _ s = true := fun w h => hts w (List.mem_cons_of_mem _ h)
  have hown : s.vm.findClass RX0 = some m.cls := findClass_of_methodNamed B.named
  have hlocks := B.notSynchronized
  have hl := lv_entry ([.int p0, .int p1, .int p2]) (n := 6) (Nat.le_of_ble_eq_true rfl)
  rw [lg_entry_eq]
  generalize (lg_sl ([.int p0, .int p1, .int p2]) ++ List.replicate (6 - (lg_sl ([.int p0, .int p1, .int p2])).length) Slot.unset).toArray = ls at hl ⊢
  have hl : lv_has ls 6 [(0, .int p0), (1, .int p1), (2, .int p2)] := hl
  refine lv_iload_n hx hb dX0_leastFrom_0 rfl (lv_at hl 0 rfl) ?_
  refine lv_iload_n hx hb dX0_leastFrom_1 rfl (lv_at hl 1 rfl) ?_
  refine lv_ior hx hb dX0_leastFrom_2 ?_
  refine lv_iload_n hx hb dX0_leastFrom_3 rfl (lv_at hl 2 rfl) ?_
  refine lv_icmp_ge (tgt := 10) hx hb dX0_leastFrom_4 (by decide) (fun c_1 => ?_) (fun c_1 => ?_)
  · refine lv_iload_n hx hb dX0_leastFrom_10 rfl (lv_at hl 1 rfl) ?_
    refine lv_istore_n (lv' := [(3, .int p1), (0, .int p0), (1, .int p1), (2, .int p2)]) hx hb dX0_leastFrom_11 rfl hl (by decide) rfl (fun ls hl => ?_)
    refine lv_iconst (v := nI 5) hx hb dX0_leastFrom_12 (by decide +kernel) ?_
    refine lv_istore (lv' := [(4, .int (nI 5)), (3, .int p1), (0, .int p0), (1, .int p1), (2, .int p2)]) hx hb dX0_leastFrom_13 hl (by decide) rfl (fun ls hl => ?_)
    refine kdn (α := Int32) (fun r_ a_ => r_ ≤ 6 ∧ lfF p0 p2 r_ a_ = lfF p0 p2 6 p1) (fun r_ a_ => [(4, .int (kc r_)), (3, .int a_), (0, .int p0), (1, .int p1), (2, .int p2)]) (fun a_ ls hI_ hl => ?_) (fun r_ a_ ls hI_ hl K_ => ?_) 6 p1 ls ⟨Nat.le_refl 6, rfl⟩ hl
    · have hl : lv_has ls 6 [(4, .int (-1)), (3, .int a_), (0, .int p0), (1, .int p1), (2, .int p2)] := hl
      refine lv_iload hx hb dX0_leastFrom_15 (lv_at hl 0 rfl) ?_
      refine lv_if_lt (tgt := 51) hx hb dX0_leastFrom_17 (by decide) (fun c_2 => ?_) (fun c_2 => absurd (by decide) c_2)
      refine lv_iload_n hx hb dX0_leastFrom_51 rfl (lv_at hl 2 rfl) ?_
      refine lv_iload_n hx hb dX0_leastFrom_52 rfl (lv_at hl 1 rfl) ?_
      refine lv_ior hx hb dX0_leastFrom_53 ?_
      exact W.iret (v := p0 ||| a_) hx hb hr (fun t ht hW => ⟨p0 ||| a_, rfl, (by rw [kLf, if_pos c_1, ← hI_.2]; rfl), ht⟩) (fun _ h => by cases h) dX0_leastFrom_54
    · have hl : lv_has ls 6 [(4, .int (nI r_)), (3, .int a_), (0, .int p0), (1, .int p1), (2, .int p2)] := hl
      refine lv_iload hx hb dX0_leastFrom_15 (lv_at hl 0 rfl) ?_
      refine lv_if_lt (tgt := 51) hx hb dX0_leastFrom_17 (by decide) (fun c_3 => absurd c_3 (k_nn (by have := hI_.1; omega))) (fun c_3 => ?_)
      refine lv_iload_n hx hb dX0_leastFrom_20 rfl (lv_at hl 1 rfl) ?_
      refine lv_iconst (v := 1) hx hb dX0_leastFrom_21 (by decide +kernel) ?_
      refine lv_iload hx hb dX0_leastFrom_22 (lv_at hl 0 rfl) ?_
      refine lv_ishl hx hb dX0_leastFrom_24 ?_
      refine lv_iconst (v := (-1)) hx hb dX0_leastFrom_25 (by decide +kernel) ?_
      refine lv_ixor hx hb dX0_leastFrom_26 ?_
      refine lv_iand hx hb dX0_leastFrom_27 ?_
      refine lv_topi (fun z_4 e_5 => ?_)
      refine lv_istore (lv' := [(5, .int z_4), (4, .int (nI r_)), (3, .int a_), (0, .int p0), (1, .int p1), (2, .int p2)]) hx hb dX0_leastFrom_28 hl (by decide) rfl (fun ls hl => ?_)
      refine kj (g := fun z_ => F0 m 44 ls (.int z_ :: [])) (fun z_ => z_ = if (p0 ||| z_4) < p2 then a_ else z_4) (fun J_ => ?_) (fun z_6 e_7 => ?_)
      · refine lv_iload_n hx hb dX0_leastFrom_30 rfl (lv_at hl 3 rfl) ?_
        refine lv_iload hx hb dX0_leastFrom_31 (lv_at hl 0 rfl) ?_
        refine lv_ior hx hb dX0_leastFrom_33 ?_
        refine lv_iload_n hx hb dX0_leastFrom_34 rfl (lv_at hl 5 rfl) ?_
        refine lv_icmp_lt (tgt := 43) hx hb dX0_leastFrom_35 (by decide) (fun c_8 => ?_) (fun c_8 => ?_)
        · refine lv_iload_n hx hb dX0_leastFrom_43 rfl (lv_at hl 2 rfl) ?_
          exact J_ _ (by rw [if_pos c_8])
        · refine lv_iload hx hb dX0_leastFrom_38 (lv_at hl 0 rfl) ?_
          refine lv_goto (tgt := 44) hx hb dX0_leastFrom_40 (by decide) ?_
          exact J_ _ (by rw [if_neg c_8])
      · refine lv_istore_n (lv' := [(3, .int z_6), (5, .int z_4), (4, .int (nI r_)), (0, .int p0), (1, .int p1), (2, .int p2)]) hx hb dX0_leastFrom_44 rfl hl (by decide) rfl (fun ls hl => ?_)
        refine lv_iinc (v := kc r_) (lv' := [(4, .int (kc r_)), (3, .int z_6), (5, .int z_4), (0, .int p0), (1, .int p1), (2, .int p2)]) hx hb dX0_leastFrom_45 hl (k := 2) rfl (k_dec r_) (by decide) rfl (fun ls hl => ?_)
        refine lv_goto (tgt := 15) hx hb dX0_leastFrom_48 (by decide) ?_
        exact K_ _ _ ⟨by have := hI_.1; omega, (by rw [← hI_.2]; subst e_5 e_7; rfl)⟩ (lv_sub hl [0, 1, 3, 4, 5] rfl)
  · refine lv_bipush (v := 64) hx hb dX0_leastFrom_7 (by decide +kernel) ?_
    exact W.iret (v := 64) hx hb hr (fun t ht hW => ⟨64, rfl, (by rw [kLf, if_neg c_1]), ht⟩) (fun _ h => by cases h) dX0_leastFrom_9

set_option maxHeartbeats 4000000 in
set_option maxRecDepth 100000 in
/-- bits -/
theorem metX0_bits (l : Launch) (p0 : Int32) : Met l yX0_bits (ws_ yX0_bits cX0_bits 3 (some .int)) ({ frames := 0, cells := 0, slots := 0, locals := 0 }) (va_Pc [.int p0] (fun _ => True)) (vp_Si (fun r => r = btF p0 6)) 0 0 (fun _ => False) := by
  refine Met.ofW (cc := cX0_bits) (maxL := 3) (ret := (some .int)) (by decide) rfl ?_
  intro p e s m args below meth c s₁ B hml hv_
  obtain ⟨rfl, -⟩ := hv_
  have hx := B.exec
  have hb := B.bytes
  have hr := B.returns
  have hts := atoms_spec (ws := ws_ yX0_bits cX0_bits 3 (some .int)) B.pre
  have hts : ∀ w ∈ lw_all, w.before _ s = true := fun w h => hts w (List.mem_cons_of_mem _ h)
  have hown : s.vm.findClass RX0 = some m.cls := findClass_of_methodNamed B.named
  have hlocks := B.notSynchronized
  have hl := lv_entry ([.int p0]) (n := 3) (Nat.le_of_ble_eq_true rfl)
  rw [lg_entry_eq]
  generalize (lg_sl ([.int p0]) ++ List.replicate (3 - (lg_sl ([.int p0])).length) Slot.unset).toArray = ls at hl ⊢
  have hl : lv_has ls 3 [(0, .int p0)] := hl
  refine lv_iconst (v := 0) hx hb dX0_bits_0 (by decide +kernel) ?_
  refine lv_istore_n (lv' := [(1, .int 0), (0, .int p0)]) hx hb dX0_bits_1 rfl hl (by decide) rfl (fun ls hl => ?_)
  refine lv_iconst (v := nI 0) hx hb dX0_bits_2 (by decide +kernel) ?_
  refine lv_istore_n (lv' := [(2, .int (nI 0)), (1, .int 0), (0, .int p0)]) hx hb dX0_bits_3 rfl hl (by decide) rfl (fun ls hl => ?_)
  refine kup (α := Int32) 6 (fun i_ a_ => a_ = btF p0 i_) (fun i_ a_ => [(2, .int (nI i_)), (1, .int a_), (0, .int p0)]) (fun a_ ls hI_ hl => ?_) (fun i_ a_ ls hi_ hI_ hl K_ => ?_) 0 0 ls (Nat.zero_le 6) rfl hl
  · have hl : lv_has ls 3 [(2, .int (nI 6)), (1, .int a_), (0, .int p0)] := hl
    refine lv_iload_n hx hb dX0_bits_4 rfl (lv_at hl 0 rfl) ?_
    refine lv_bipush (v := 6) hx hb dX0_bits_5 (by decide +kernel) ?_
    refine lv_icmp_ge (tgt := 24) hx hb dX0_bits_7 (by decide) (fun c_1 => ?_) (fun c_1 => absurd k6e c_1)
    refine lv_iload_n hx hb dX0_bits_24 rfl (lv_at hl 1 rfl) ?_
    exact W.iret (v := a_) hx hb hr (fun t ht hW => ⟨a_, rfl, hI_, ht⟩) (fun _ h => by cases h) dX0_bits_25
  · have hl : lv_has ls 3 [(2, .int (nI i_)), (1, .int a_), (0, .int p0)] := hl
    refine lv_iload_n hx hb dX0_bits_4 rfl (lv_at hl 0 rfl) ?_
    refine lv_bipush (v := 6) hx hb dX0_bits_5 (by decide +kernel) ?_
    refine lv_icmp_ge (tgt := 24) hx hb dX0_bits_7 (by decide) (fun c_2 => absurd c_2 (k6 hi_)) (fun c_2 => ?_)
    refine lv_iload_n hx hb dX0_bits_10 rfl (lv_at hl 1 rfl) ?_
    refine lv_iload_n hx hb dX0_bits_11 rfl (lv_at hl 2 rfl) ?_
    refine lv_iload_n hx hb dX0_bits_12 rfl (lv_at hl 0 rfl) ?_
    refine lv_ishr hx hb dX0_bits_13 ?_
    refine lv_iconst (v := 1) hx hb dX0_bits_14 (by decide +kernel) ?_
    refine lv_iand hx hb dX0_bits_15 ?_
    refine lv_iadd hx hb dX0_bits_16 ?_
    refine lv_topi (fun z_3 e_4 => ?_)
    refine lv_istore_n (lv' := [(1, .int z_3), (2, .int (nI i_)), (0, .int p0)]) hx hb dX0_bits_17 rfl hl (by decide) rfl (fun ls hl => ?_)
    refine lv_iinc (v := nI (i_ + 1)) (lv' := [(2, .int (nI (i_ + 1))), (1, .int z_3), (0, .int p0)]) hx hb dX0_bits_18 hl (k := 1) rfl (k_inc i_) (by decide) rfl (fun ls hl => ?_)
    refine lv_goto (tgt := 4) hx hb dX0_bits_21 (by decide) ?_
    exact K_ _ _ (by rw [btF, ← hI_]; subst e_4; rfl) (lv_sub hl [0, 1, 2] rfl)

set_option maxHeartbeats 4000000 in
set_option maxRecDepth 100000 in
/-- rank -/
theorem metX0_rank (l : Launch) (dC : Nat → ClassId) (dI : Nat → Nat → Nat) (h0 hv hm : Nat) (d1 d2 : ClassId) (V M : kF) (nv nm : Int32) (p0 : Int32) (p1 : Int32) (g0 : vp_in p0 6) : Met l yX0_rank (ws_ yX0_rank cX0_rank 7 (some .int)) ({ frames := 1, cells := 0, slots := 0, locals := 22 }) (va_Pc [.ref h0, .int p0, .int p1] (kbR (dC, dI) (kTy d1 d2) (kbW h0 hv hm d1 d2 V M nv nm))) (vp_Si (fun r => r = kRk (V p0.toNatClampNeg) (M p0.toNatClampNeg) p1)) 0 0 (fun _ => False) := by
  refine Met.ofW (cc := cX0_rank) (maxL := 7) (ret := (some .int)) (by decide) rfl ?_
  intro p e s m args below meth c s₁ B hml hv_
  obtain ⟨rfl, hP, hK⟩ := hv_
  have hx := B.exec
  have hb := B.bytes
  have hr := B.returns
  have hts := atoms_spec (ws := ws_ yX0_rank cX0_rank 7 (some .int)) B.pre
  have hts : ∀ w ∈ lw_all, w.before _ s = true := fun w h => hts w (List.mem_cons_of_mem _ h)
  have hown : s.vm.findClass RX0 = some m.cls := findClass_of_methodNamed B.named
  have hlocks := B.notSynchronized
  have hP : va_P (dC, dI) vwCl (kbW h0 hv hm d1 d2 V M nv nm) s.heap := hP
  have hl := lv_entry ([.ref h0, .int p0, .int p1]) (n := 7) (Nat.le_of_ble_eq_true rfl)
  rw [lg_entry_eq]
  generalize (lg_sl ([.ref h0, .int p0, .int p1]) ++ List.replicate (7 - (lg_sl ([.ref h0, .int p0, .int p1])).length) Slot.unset).toArray = ls at hl ⊢
  have hl : lv_has ls 7 [(0, .ref h0), (1, .int p0), (2, .int p1)] := hl
  refine lv_iload_n hx hb dX0_rank_0 rfl (lv_at hl 2 rfl) ?_
  refine lv_if_ge (tgt := 6) hx hb dX0_rank_1 (by decide) (fun c_1 => ?_) (fun c_1 => ?_)
  · refine lv_iload_n hx hb dX0_rank_6 rfl (lv_at hl 2 rfl) ?_
    refine lv_bipush (v := 63) hx hb dX0_rank_7 (by decide +kernel) ?_
    refine lv_icmp_le (tgt := 24) hx hb dX0_rank_9 (by decide) (fun c_2 => ?_) (fun c_2 => ?_)
    · refine lv_iconst (v := 0) hx hb dX0_rank_24 (by decide +kernel) ?_
      refine lv_istore_n (lv' := [(3, .int 0), (0, .ref h0), (1, .int p0), (2, .int p1)]) hx hb dX0_rank_25 rfl hl (by decide) rfl (fun ls hl => ?_)
      refine lv_iconst (v := nI 5) hx hb dX0_rank_26 (by decide +kernel) ?_
      refine lv_istore (lv' := [(4, .int (nI 5)), (3, .int 0), (0, .ref h0), (1, .int p0), (2, .int p1)]) hx hb dX0_rank_27 hl (by decide) rfl (fun ls hl => ?_)
      refine kdn (α := Int32) (fun r_ a_ => r_ ≤ 6 ∧ rkL (V p0.toNatClampNeg) (M p0.toNatClampNeg) p1 r_ a_ = rkL (V p0.toNatClampNeg) (M p0.toNatClampNeg) p1 6 0) (fun r_ a_ => [(4, .int (kc r_)), (3, .int a_), (0, .ref h0), (1, .int p0), (2, .int p1)]) (fun a_ ls hI_ hl => ?_) (fun r_ a_ ls hI_ hl K_ => ?_) 6 0 ls ⟨Nat.le_refl 6, rfl⟩ hl
      · have hl : lv_has ls 7 [(4, .int (-1)), (3, .int a_), (0, .ref h0), (1, .int p0), (2, .int p1)] := hl
        refine lv_iload hx hb dX0_rank_29 (lv_at hl 0 rfl) ?_
        refine lv_if_lt (tgt := 145) hx hb dX0_rank_31 (by decide) (fun c_3 => ?_) (fun c_3 => absurd (by decide) c_3)
        refine lv_iload_n hx hb dX0_rank_145 rfl (lv_at hl 1 rfl) ?_
        refine lv_iconst (v := 1) hx hb dX0_rank_146 (by decide +kernel) ?_
        refine lv_iadd hx hb dX0_rank_147 ?_
        exact W.iret (v := a_ + 1) hx hb hr (fun t ht hW => ⟨a_ + 1, rfl, (by rw [kRk, if_pos c_1, if_pos c_2, ← hI_.2]; rfl), ht⟩) (fun _ h => by cases h) dX0_rank_148
      · have hl : lv_has ls 7 [(4, .int (nI r_)), (3, .int a_), (0, .ref h0), (1, .int p0), (2, .int p1)] := hl
        refine lv_iload hx hb dX0_rank_29 (lv_at hl 0 rfl) ?_
        refine lv_if_lt (tgt := 145) hx hb dX0_rank_31 (by decide) (fun c_4 => absurd c_4 (k_nn (by have := hI_.1; omega))) (fun c_4 => ?_)
        refine lv_iconst (v := 1) hx hb dX0_rank_34 (by decide +kernel) ?_
        refine lv_aload_n hx hb dX0_rank_35 rfl (lv_at hl 2 rfl) ?_
        refine va_get (D := (dC, dI)) (ci := 0) (v := .ref hm) (C := RX0) (T := TX0) (N := 4) hx hb hts in_X0 hown hK hP 0 rfl rfl 1 (by decide) (hts _ q27) (fun _ h9 => h9) rfl dX0_rank_36 ?_
        refine lv_iload_n hx hb dX0_rank_39 rfl (lv_at hl 3 rfl) ?_
        refine va_iald hx hb hK hP 2 1 rfl rfl g0 dX0_rank_40 ?_
        refine lv_iconst (v := 1) hx hb dX0_rank_41 (by decide +kernel) ?_
        refine lv_iload hx hb dX0_rank_42 (lv_at hl 0 rfl) ?_
        refine lv_ishl hx hb dX0_rank_44 ?_
        refine lv_iconst (v := 1) hx hb dX0_rank_45 (by decide +kernel) ?_
        refine lv_isub hx hb dX0_rank_46 ?_
        refine lv_iand hx hb dX0_rank_47 ?_
        refine vp_callSi (W.runS (As := [.int ((M p0.toNatClampNeg) &&& ((1 <<< ((nI r_) &&& 31)) - 1))]) (rest := [.int 1]) ⟨hx, hb, hml, hown, hts⟩ (metX0_bits l ((M p0.toNatClampNeg) &&& ((1 <<< ((nI r_) &&& 31)) - 1))) (va_cwS 1 hts (lw_S q135 q136 q16 q137) rfl rfl rfl (by decide +kernel) ⟨Nat.le_of_ble_eq_true rfl, Nat.le_of_ble_eq_true rfl⟩) ⟨fun _ _ _ _ q => q, fun U hU hW => ⟨rfl, trivial⟩⟩ rfl rfl hl.1 rfl (lv_room (Nat.le_of_ble_eq_true rfl)) dX0_rank_48 ⟨Nat.le_of_ble_eq_true rfl, Nat.le_of_ble_eq_true rfl⟩) (fun r_5 hr_6 => ?_)
        refine lv_ishl hx hb dX0_rank_51 ?_
        refine lv_topi (fun z_7 e_8 => ?_)
        refine lv_istore (lv' := [(5, .int z_7), (4, .int (nI r_)), (3, .int a_), (0, .ref h0), (1, .int p0), (2, .int p1)]) hx hb dX0_rank_52 hl (by decide) rfl (fun ls hl => ?_)
        refine kj (g := fun z_ => F0 m 68 ls (.int z_ :: [])) (fun z_ => z_ = if (p1 >>> (nI r_ &&& 31)) &&& 1 = 0 then 0 else 1) (fun J_ => ?_) (fun z_9 e_10 => ?_)
        · refine lv_iload_n hx hb dX0_rank_54 rfl (lv_at hl 5 rfl) ?_
          refine lv_iload hx hb dX0_rank_55 (lv_at hl 1 rfl) ?_
          refine lv_ishr hx hb dX0_rank_57 ?_
          refine lv_iconst (v := 1) hx hb dX0_rank_58 (by decide +kernel) ?_
          refine lv_iand hx hb dX0_rank_59 ?_
          refine lv_if_eq (tgt := 67) hx hb dX0_rank_60 (by decide) (fun c_11 => ?_) (fun c_11 => ?_)
          · refine lv_iconst (v := 0) hx hb dX0_rank_67 (by decide +kernel) ?_
            exact J_ _ (by rw [if_pos c_11])
          · refine lv_iconst (v := 1) hx hb dX0_rank_63 (by decide +kernel) ?_
            refine lv_goto (tgt := 68) hx hb dX0_rank_64 (by decide) ?_
            exact J_ _ (by rw [if_neg c_11])
        · refine lv_istore (lv' := [(6, .int z_9), (5, .int z_7), (4, .int (nI r_)), (3, .int a_), (0, .ref h0), (1, .int p0), (2, .int p1)]) hx hb dX0_rank_68 hl (by decide) rfl (fun ls hl => ?_)
          refine lv_aload_n hx hb dX0_rank_70 rfl (lv_at hl 4 rfl) ?_
          refine va_get (D := (dC, dI)) (ci := 0) (v := .ref hm) (C := RX0) (T := TX0) (N := 4) hx hb hts in_X0 hown hK hP 0 rfl rfl 1 (by decide) (hts _ q27) (fun _ h9 => h9) rfl dX0_rank_71 ?_
          refine lv_iload_n hx hb dX0_rank_74 rfl (lv_at hl 5 rfl) ?_
          refine va_iald hx hb hK hP 2 1 rfl rfl g0 dX0_rank_75 ?_
          refine lv_iload hx hb dX0_rank_76 (lv_at hl 2 rfl) ?_
          refine lv_ishr hx hb dX0_rank_78 ?_
          refine lv_iconst (v := 1) hx hb dX0_rank_79 (by decide +kernel) ?_
          refine lv_iand hx hb dX0_rank_80 ?_
          refine lv_if_eq (tgt := 101) hx hb dX0_rank_81 (by decide) (fun c_12 => ?_) (fun c_12 => ?_)
          · refine lv_aload_n hx hb dX0_rank_101 rfl (lv_at hl 4 rfl) ?_
            refine va_get (D := (dC, dI)) (ci := 0) (v := .ref hv) (C := RX0) (T := TX0) (N := 4) hx hb hts in_X0 hown hK hP 0 rfl rfl 0 (by decide) (hts _ q26) (fun _ h9 => h9) rfl dX0_rank_102 ?_
            refine lv_iload_n hx hb dX0_rank_105 rfl (lv_at hl 5 rfl) ?_
            refine va_iald hx hb hK hP 1 0 rfl rfl g0 dX0_rank_106 ?_
            refine lv_iload hx hb dX0_rank_107 (lv_at hl 2 rfl) ?_
            refine lv_ishr hx hb dX0_rank_109 ?_
            refine lv_iconst (v := 1) hx hb dX0_rank_110 (by decide +kernel) ?_
            refine lv_iand hx hb dX0_rank_111 ?_
            refine kj (g := fun z_ => F0 m 122 ls (.int z_ :: [.int (((V p0.toNatClampNeg) >>> ((nI r_) &&& 31)) &&& 1)])) (fun z_ => z_ = if z_9 = 0 then 0 else 1) (fun J_ => ?_) (fun z_13 e_14 => ?_)
            · refine lv_iload hx hb dX0_rank_112 (lv_at hl 0 rfl) ?_
              refine lv_if_eq (tgt := 121) hx hb dX0_rank_114 (by decide) (fun c_15 => ?_) (fun c_15 => ?_)
              · refine lv_iconst (v := 0) hx hb dX0_rank_121 (by decide +kernel) ?_
                exact J_ _ (by rw [if_pos c_15])
              · refine lv_iconst (v := 1) hx hb dX0_rank_117 (by decide +kernel) ?_
                refine lv_goto (tgt := 122) hx hb dX0_rank_118 (by decide) ?_
                exact J_ _ (by rw [if_neg c_15])
            · refine lv_icmp_eq (tgt := 139) hx hb dX0_rank_122 (by decide) (fun c_16 => ?_) (fun c_16 => ?_)
              · refine lv_iinc (v := kc r_) (lv' := [(4, .int (kc r_)), (6, .int z_9), (5, .int z_7), (3, .int a_), (0, .ref h0), (1, .int p0), (2, .int p1)]) hx hb dX0_rank_139 hl (k := 2) rfl (k_dec r_) (by decide) rfl (fun ls hl => ?_)
                refine lv_goto (tgt := 29) hx hb dX0_rank_142 (by decide) ?_
                exact K_ _ _ ⟨by have := hI_.1; omega, (by rw [← hI_.2]; subst hr_6 e_8 e_10 e_14; exact (rkL_e c_12 c_16).symm)⟩ (lv_sub hl [0, 3, 4, 5, 6] rfl)
              · refine lv_iload hx hb dX0_rank_125 (lv_at hl 0 rfl) ?_
                refine lv_if_eq (tgt := 137) hx hb dX0_rank_127 (by decide) (fun c_17 => ?_) (fun c_17 => ?_)
                · refine lv_iload_n hx hb dX0_rank_137 rfl (lv_at hl 3 rfl) ?_
                  exact W.iret (v := a_) hx hb hr (fun t ht hW => ⟨a_, rfl, (by rw [kRk, if_pos c_1, if_pos c_2, ← hI_.2]; subst hr_6 e_8 e_10 e_14; exact ((rkL_n c_12 c_16).trans (if_pos c_17)).symm), ht⟩) (fun _ h => by cases h) dX0_rank_138
                · refine lv_iload_n hx hb dX0_rank_130 rfl (lv_at hl 3 rfl) ?_
                  refine lv_iload hx hb dX0_rank_131 (lv_at hl 1 rfl) ?_
                  refine lv_iadd hx hb dX0_rank_133 ?_
                  refine lv_goto (tgt := 138) hx hb dX0_rank_134 (by decide) ?_
                  exact W.iret (v := a_ + z_7) hx hb hr (fun t ht hW => ⟨a_ + z_7, rfl, (by rw [kRk, if_pos c_1, if_pos c_2, ← hI_.2]; subst hr_6 e_8 e_10 e_14; exact ((rkL_n c_12 c_16).trans (if_neg c_17)).symm), ht⟩) (fun _ h => by cases h) dX0_rank_138
          · refine lv_iload_n hx hb dX0_rank_84 rfl (lv_at hl 3 rfl) ?_
            refine kj (g := fun z_ => F0 m 96 ls (.int z_ :: [.int a_])) (fun z_ => z_ = if z_9 = 0 then 0 else z_7) (fun J_ => ?_) (fun z_18 e_19 => ?_)
            · refine lv_iload hx hb dX0_rank_85 (lv_at hl 0 rfl) ?_
              refine lv_if_eq (tgt := 95) hx hb dX0_rank_87 (by decide) (fun c_20 => ?_) (fun c_20 => ?_)
              · refine lv_iconst (v := 0) hx hb dX0_rank_95 (by decide +kernel) ?_
                exact J_ _ (by rw [if_pos c_20])
              · refine lv_iload hx hb dX0_rank_90 (lv_at hl 1 rfl) ?_
                refine lv_goto (tgt := 96) hx hb dX0_rank_92 (by decide) ?_
                exact J_ _ (by rw [if_neg c_20])
            · refine lv_iadd hx hb dX0_rank_96 ?_
              refine lv_topi (fun z_21 e_22 => ?_)
              refine lv_istore_n (lv' := [(3, .int z_21), (6, .int z_9), (5, .int z_7), (4, .int (nI r_)), (0, .ref h0), (1, .int p0), (2, .int p1)]) hx hb dX0_rank_97 rfl hl (by decide) rfl (fun ls hl => ?_)
              refine lv_goto (tgt := 139) hx hb dX0_rank_98 (by decide) ?_
              refine lv_iinc (v := kc r_) (lv' := [(4, .int (kc r_)), (3, .int z_21), (6, .int z_9), (5, .int z_7), (0, .ref h0), (1, .int p0), (2, .int p1)]) hx hb dX0_rank_139 hl (k := 3) rfl (k_dec r_) (by decide) rfl (fun ls hl => ?_)
              refine lv_goto (tgt := 29) hx hb dX0_rank_142 (by decide) ?_
              exact K_ _ _ ⟨by have := hI_.1; omega, (by rw [← hI_.2]; subst hr_6 e_8 e_10 e_19 e_22; exact (rkL_m c_12).symm)⟩ (lv_sub hl [0, 1, 4, 5, 6] rfl)
    · refine lv_iconst (v := 1) hx hb dX0_rank_12 (by decide +kernel) ?_
      refine lv_aload_n hx hb dX0_rank_13 rfl (lv_at hl 0 rfl) ?_
      refine va_get (D := (dC, dI)) (ci := 0) (v := .ref hm) (C := RX0) (T := TX0) (N := 4) hx hb hts in_X0 hown hK hP 0 rfl rfl 1 (by decide) (hts _ q27) (fun _ h9 => h9) rfl dX0_rank_14 ?_
      refine lv_iload_n hx hb dX0_rank_17 rfl (lv_at hl 1 rfl) ?_
      refine va_iald hx hb hK hP 2 1 rfl rfl g0 dX0_rank_18 ?_
      refine vp_callSi (W.runS (As := [.int (M p0.toNatClampNeg)]) (rest := [.int 1]) ⟨hx, hb, hml, hown, hts⟩ (metX0_bits l (M p0.toNatClampNeg)) (va_cwS 1 hts (lw_S q135 q136 q16 q137) rfl rfl rfl (by decide +kernel) ⟨Nat.le_of_ble_eq_true rfl, Nat.le_of_ble_eq_true rfl⟩) ⟨fun _ _ _ _ q => q, fun U hU hW => ⟨rfl, trivial⟩⟩ rfl rfl hl.1 rfl (lv_room (Nat.le_of_ble_eq_true rfl)) dX0_rank_19 ⟨Nat.le_of_ble_eq_true rfl, Nat.le_of_ble_eq_true rfl⟩) (fun r_23 hr_24 => ?_)
      refine lv_ishl hx hb dX0_rank_22 ?_
      exact W.iret (v := 1 <<< (r_23 &&& 31)) hx hb hr (fun t ht hW => ⟨1 <<< (r_23 &&& 31), rfl, (by subst hr_24; first | rfl | (simp only [kRk, if_pos c_1, if_neg c_2]; done) | (simp only [kRk, if_pos c_1, if_neg c_2]; rfl)), ht⟩) (fun _ h => by cases h) dX0_rank_23
  · refine lv_iconst (v := 0) hx hb dX0_rank_4 (by decide +kernel) ?_
    exact W.iret (v := 0) hx hb hr (fun t ht hW => ⟨0, rfl, (by first | rfl | (simp only [kRk, if_neg c_1]; done) | (simp only [kRk, if_neg c_1]; rfl)), ht⟩) (fun _ h => by cases h) dX0_rank_5
end
section
set_option maxHeartbeats 4000000 in
set_option maxRecDepth 100000 in
/-- narrowed -/
theorem metX0_narrowed (l : Launch) (dC : Nat → ClassId) (dI : Nat → Nat → Nat) (h0 hv hm : Nat) (d1 d2 : ClassId) (sz : Nat) (V M : kF) (nv nm : Int32) (p0 : Int32) (p1 : Int32) (p2 : Int32) (g0 : vp_in p0 6) : Met l yX0_narrowed (ws_ yX0_narrowed cX0_narrowed 13 (some .boolean)) ({ frames := 1, cells := 0, slots := 0, locals := 25 }) (va_Pc [.ref h0, .int p0, .int p1, .int p2] (kbP (dC, dI) (kTy d1 d2) (kbW h0 hv hm d1 d2 V M nv nm) sz)) (va_Qi (fun (r : Int32) (u : kSt) => V = u.1 ∧ M = u.2.1 ∧ r = (if nrC (V p0.toNatClampNeg) (M p0.toNatClampNeg) p1 p2 then 1 else 0) ∧ u.2.2.1 = (if nrC (V p0.toNatClampNeg) (M p0.toNatClampNeg) p1 p2 then (nrL (V p0.toNatClampNeg) (M p0.toNatClampNeg) (nrF p1) p2 6).1 else nv) ∧ u.2.2.2 = (if nrC (V p0.toNatClampNeg) (M p0.toNatClampNeg) p1 p2 then (nrL (V p0.toNatClampNeg) (M p0.toNatClampNeg) (nrF p1) p2 6).2 else nm)) (kbB dC dI (kA h0 hv hm sz) h0 hv hm d1 d2) (kA h0 hv hm sz)) 0 0 (kA h0 hv hm sz) := by
  refine Met.ofW (cc := cX0_narrowed) (maxL := 13) (ret := (some .boolean)) (by decide) rfl ?_
  intro p e s m args below meth c s₁ B hml hv_
  obtain ⟨rfl, hsz, hP, hK, hD0⟩ := hv_
  have hx := B.exec
  have hb := B.bytes
  have hr := B.returns
  have hts := atoms_spec (ws := ws_ yX0_narrowed cX0_narrowed 13 (some .boolean)) B.pre
  have hts : ∀ w ∈ lw_all, w.before _ s = true := fun w h => hts w (List.mem_cons_of_mem _ h)
  have hown : s.vm.findClass RX0 = some m.cls := findClass_of_methodNamed B.named
  have hlocks := B.notSynchronized
  subst hsz
  have hD := kA_kb (sz := s.heap.size) hD0
  have hA : ∀ q : Nat, kA h0 hv hm s.heap.size q → kA h0 hv hm s.heap.size q := fun _ h => h
  generalize hAe : kA h0 hv hm s.heap.size = A at hD ⊢
  have hA : ∀ q : Nat, kA h0 hv hm s.heap.size q → A q := fun q h => by rw [← hAe]; exact h
  have hS : va_S A s.heap s.heap [] := va_S.rf
  have hP : va_P (dC, dI) vwCl (kbW h0 hv hm d1 d2 V M nv nm) s.heap := hP
  have hl := lv_entry ([.ref h0, .int p0, .int p1, .int p2]) (n := 13) (Nat.le_of_ble_eq_true rfl)
  rw [lg_entry_eq]
  generalize (lg_sl ([.ref h0, .int p0, .int p1, .int p2]) ++ List.replicate (13 - (lg_sl ([.ref h0, .int p0, .int p1, .int p2])).length) Slot.unset).toArray = ls at hl ⊢
  have hl : lv_has ls 13 [(0, .ref h0), (1, .int p0), (2, .int p1), (3, .int p2)] := hl
  refine lv_aload_n hx hb dX0_narrowed_0 rfl (lv_at hl 0 rfl) ?_
  refine va_get (D := (dC, dI)) (ci := 0) (v := .ref hv) (C := RX0) (T := TX0) (N := 4) hx hb hts in_X0 hown hK hP 0 rfl rfl 0 (by decide) (hts _ q26) (fun _ h9 => h9) rfl dX0_narrowed_1 ?_
  refine lv_iload_n hx hb dX0_narrowed_4 rfl (lv_at hl 1 rfl) ?_
  refine va_iald hx hb hK hP 1 0 rfl rfl g0 dX0_narrowed_5 ?_
  refine lv_topi (fun z_1 e_2 => ?_)
  refine lv_istore (lv' := [(4, .int z_1), (0, .ref h0), (1, .int p0), (2, .int p1), (3, .int p2)]) hx hb dX0_narrowed_6 hl (by decide) rfl (fun ls hl => ?_)
  refine lv_aload_n hx hb dX0_narrowed_8 rfl (lv_at hl 1 rfl) ?_
  refine va_get (D := (dC, dI)) (ci := 0) (v := .ref hm) (C := RX0) (T := TX0) (N := 4) hx hb hts in_X0 hown hK hP 0 rfl rfl 1 (by decide) (hts _ q27) (fun _ h9 => h9) rfl dX0_narrowed_9 ?_
  refine lv_iload_n hx hb dX0_narrowed_12 rfl (lv_at hl 2 rfl) ?_
  refine va_iald hx hb hK hP 2 1 rfl rfl g0 dX0_narrowed_13 ?_
  refine lv_topi (fun z_3 e_4 => ?_)
  refine lv_istore (lv' := [(5, .int z_3), (4, .int z_1), (0, .ref h0), (1, .int p0), (2, .int p1), (3, .int p2)]) hx hb dX0_narrowed_14 hl (by decide) rfl (fun ls hl => ?_)
  refine kj (g := fun z_ => F0 m 25 ls (.int z_ :: [])) (fun z_ => z_ = if 0 ≤ p1 then p1 else 0) (fun J_ => ?_) (fun z_5 e_6 => ?_)
  · refine lv_iload_n hx hb dX0_narrowed_16 rfl (lv_at hl 4 rfl) ?_
    refine lv_if_ge (tgt := 24) hx hb dX0_narrowed_17 (by decide) (fun c_7 => ?_) (fun c_7 => ?_)
    · refine lv_iload_n hx hb dX0_narrowed_24 rfl (lv_at hl 4 rfl) ?_
      exact J_ _ (by rw [if_pos c_7])
    · refine lv_iconst (v := 0) hx hb dX0_narrowed_20 (by decide +kernel) ?_
      refine lv_goto (tgt := 25) hx hb dX0_narrowed_21 (by decide) ?_
      exact J_ _ (by rw [if_neg c_7])
  · refine lv_istore (lv' := [(6, .int z_5), (5, .int z_3), (4, .int z_1), (0, .ref h0), (1, .int p0), (2, .int p1), (3, .int p2)]) hx hb dX0_narrowed_25 hl (by decide) rfl (fun ls hl => ?_)
    refine lv_iload hx hb dX0_narrowed_27 (lv_at hl 2 rfl) ?_
    refine lv_iload hx hb dX0_narrowed_29 (lv_at hl 1 rfl) ?_
    refine lv_iload hx hb dX0_narrowed_31 (lv_at hl 0 rfl) ?_
    refine vp_callSi (W.runS (As := [.int z_1, .int z_3, .int z_5]) (rest := []) ⟨hx, hb, hml, hown, hts⟩ (metX0_leastFrom l z_1 z_3 z_5) (va_cwS 3 hts (lw_S q79 q80 q16 q81) rfl rfl rfl (by decide +kernel) ⟨Nat.le_of_ble_eq_true rfl, Nat.le_of_ble_eq_true rfl⟩) ⟨fun _ _ _ _ q => q, fun U hU hW => ⟨rfl, trivial⟩⟩ rfl rfl hl.1 rfl (lv_room (Nat.le_of_ble_eq_true rfl)) dX0_narrowed_33 ⟨Nat.le_of_ble_eq_true rfl, Nat.le_of_ble_eq_true rfl⟩) (fun r_8 hr_9 => ?_)
    refine kj (g := fun z_ => F0 m 48 ls (.int z_ :: [.int r_8])) (fun z_ => z_ = if p2 ≤ 63 then p2 else 63) (fun J_ => ?_) (fun z_10 e_11 => ?_)
    · refine lv_iload_n hx hb dX0_narrowed_36 rfl (lv_at hl 6 rfl) ?_
      refine lv_bipush (v := 63) hx hb dX0_narrowed_37 (by decide +kernel) ?_
      refine lv_icmp_le (tgt := 47) hx hb dX0_narrowed_39 (by decide) (fun c_12 => ?_) (fun c_12 => ?_)
      · refine lv_iload_n hx hb dX0_narrowed_47 rfl (lv_at hl 6 rfl) ?_
        exact J_ _ (by rw [if_pos c_12])
      · refine lv_bipush (v := 63) hx hb dX0_narrowed_42 (by decide +kernel) ?_
        refine lv_goto (tgt := 48) hx hb dX0_narrowed_44 (by decide) ?_
        exact J_ _ (by rw [if_neg c_12])
    · refine lv_icmp_le (tgt := 53) hx hb dX0_narrowed_48 (by decide) (fun c_13 => ?_) (fun c_13 => ?_)
      · refine lv_aload_n hx hb dX0_narrowed_53 rfl (lv_at hl 3 rfl) ?_
        refine lv_iload hx hb dX0_narrowed_54 (lv_at hl 2 rfl) ?_
        refine va_put (D := (dC, dI)) (ci := 0) (v := .int z_1) (ty := .int) (C := RX0) (T := TX0) (N := 4) hx hb hts in_X0 tyX0 tyX0_ok nmX0 hown hK hP hD hS 0 rfl rfl 2 (by decide) (hts _ q28) (fun _ h9 => h9) rfl (by decide +kernel) rfl rfl (Nat.le_of_ble_eq_true rfl) dX0_narrowed_56 (fun H locs hP hD hS => ?_)
        have hP : va_P (dC, dI) vwCl (kbW h0 hv hm d1 d2 V M z_1 nm) H := hP
        have hD : va_D A (kbW h0 hv hm d1 d2 V M z_1 nm) := hD
        refine lv_aload_n hx hb dX0_narrowed_59 rfl (lv_at hl 3 rfl) ?_
        refine lv_iload hx hb dX0_narrowed_60 (lv_at hl 1 rfl) ?_
        refine va_put (D := (dC, dI)) (ci := 0) (v := .int z_3) (ty := .int) (C := RX0) (T := TX0) (N := 4) hx hb hts in_X0 tyX0 tyX0_ok nmX0 hown hK hP hD hS 0 rfl rfl 3 (by decide) (hts _ q29) (fun _ h9 => h9) rfl (by decide +kernel) rfl rfl (Nat.le_of_ble_eq_true rfl) dX0_narrowed_62 (fun H locs hP hD hS => ?_)
        have hP : va_P (dC, dI) vwCl (kbW h0 hv hm d1 d2 V M z_1 z_3) H := hP
        have hD : va_D A (kbW h0 hv hm d1 d2 V M z_1 z_3) := hD
        refine lv_iconst (v := nI 0) hx hb dX0_narrowed_65 (by decide +kernel) ?_
        refine lv_istore (lv' := [(7, .int (nI 0)), (6, .int z_5), (5, .int z_3), (4, .int z_1), (0, .ref h0), (1, .int p0), (2, .int p1), (3, .int p2)]) hx hb dX0_narrowed_66 hl (by decide) rfl (fun ls hl => ?_)
        refine kupH (α := Int32 × Int32) 6 (fun i_ a_ => a_ = nrL z_1 z_3 z_5 p2 i_) (fun i_ a_ => [(7, .int (nI i_)), (6, .int z_5), (5, .int z_3), (4, .int z_1), (0, .ref h0), (1, .int p0), (2, .int p1), (3, .int p2)]) (fun a_ => kbW h0 hv hm d1 d2 V M a_.1 a_.2) (fun a_ ls H locs hI_ hl hP hD hS => ?_) (fun i_ a_ ls H locs hi_ hI_ hl hP hD hS K_ => ?_) 0 (z_1, z_3) ls _ _ (Nat.zero_le 6) rfl hl hP hD hS
        · have hl : lv_has ls 13 [(7, .int (nI 6)), (6, .int z_5), (5, .int z_3), (4, .int z_1), (0, .ref h0), (1, .int p0), (2, .int p1), (3, .int p2)] := hl
          have hP : va_P (dC, dI) vwCl (kbW h0 hv hm d1 d2 V M a_.1 a_.2) H := hP
          have hD : va_D A (kbW h0 hv hm d1 d2 V M a_.1 a_.2) := hD
          refine lv_iload hx hb dX0_narrowed_68 (lv_at hl 0 rfl) ?_
          refine lv_bipush (v := 6) hx hb dX0_narrowed_70 (by decide +kernel) ?_
          refine lv_icmp_ge (tgt := 228) hx hb dX0_narrowed_72 (by decide) (fun c_14 => ?_) (fun c_14 => absurd k6e c_14)
          refine lv_iconst (v := 1) hx hb dX0_narrowed_228 (by decide +kernel) ?_
          exact W.zret (v := 1) hx hb hr rfl (fun t ht hW => ⟨⟨1, (V, M, a_.1, a_.2), rfl, ⟨rfl, rfl, (by subst e_2 e_4 e_6 hr_9 e_11; exact (if_pos c_13).symm), (by subst e_2 e_4 e_6 hr_9 e_11; rw [if_pos c_13, hI_]), (by subst e_2 e_4 e_6 hr_9 e_11; rw [if_pos c_13, hI_])⟩, by rw [ht]; exact hP, va_K.moved hW.alike hK, hD⟩, hS.F ht⟩) hS.2.2 dX0_narrowed_229
        · have hl : lv_has ls 13 [(7, .int (nI i_)), (6, .int z_5), (5, .int z_3), (4, .int z_1), (0, .ref h0), (1, .int p0), (2, .int p1), (3, .int p2)] := hl
          have hP : va_P (dC, dI) vwCl (kbW h0 hv hm d1 d2 V M a_.1 a_.2) H := hP
          have hD : va_D A (kbW h0 hv hm d1 d2 V M a_.1 a_.2) := hD
          refine lv_iload hx hb dX0_narrowed_68 (lv_at hl 0 rfl) ?_
          refine lv_bipush (v := 6) hx hb dX0_narrowed_70 (by decide +kernel) ?_
          refine lv_icmp_ge (tgt := 228) hx hb dX0_narrowed_72 (by decide) (fun c_15 => absurd c_15 (k6 hi_)) (fun c_15 => ?_)
          refine lv_iconst (v := 1) hx hb dX0_narrowed_75 (by decide +kernel) ?_
          refine lv_iload hx hb dX0_narrowed_76 (lv_at hl 0 rfl) ?_
          refine lv_ishl hx hb dX0_narrowed_78 ?_
          refine lv_topi (fun z_16 e_17 => ?_)
          refine lv_istore (lv' := [(8, .int z_16), (7, .int (nI i_)), (6, .int z_5), (5, .int z_3), (4, .int z_1), (0, .ref h0), (1, .int p0), (2, .int p1), (3, .int p2)]) hx hb dX0_narrowed_79 hl (by decide) rfl (fun ls hl => ?_)
          refine lv_iload hx hb dX0_narrowed_81 (lv_at hl 3 rfl) ?_
          refine lv_iload hx hb dX0_narrowed_83 (lv_at hl 0 rfl) ?_
          refine lv_iand hx hb dX0_narrowed_85 ?_
          refine lv_if_eq (tgt := 222) hx hb dX0_narrowed_86 (by decide) (fun c_18 => ?_) (fun c_18 => ?_)
          · refine lv_iinc (v := nI (i_ + 1)) (lv' := [(7, .int (nI (i_ + 1))), (8, .int z_16), (6, .int z_5), (5, .int z_3), (4, .int z_1), (0, .ref h0), (1, .int p0), (2, .int p1), (3, .int p2)]) hx hb dX0_narrowed_222 hl (k := 1) rfl (k_inc i_) (by decide) rfl (fun ls hl => ?_)
            refine lv_goto (tgt := 68) hx hb dX0_narrowed_225 (by decide) ?_
            exact K_ (a_.1, a_.2) _ _ _ (by subst e_17; rw [nrL_0 (r := i_) c_18, ← hI_]) (lv_sub hl [0, 2, 3, 4, 5, 6, 7, 8] rfl) hP hD hS
          · refine lv_iload hx hb dX0_narrowed_89 (lv_at hl 4 rfl) ?_
            refine lv_iload hx hb dX0_narrowed_91 (lv_at hl 3 rfl) ?_
            refine lv_iload hx hb dX0_narrowed_93 (lv_at hl 0 rfl) ?_
            refine lv_iconst (v := (-1)) hx hb dX0_narrowed_95 (by decide +kernel) ?_
            refine lv_ixor hx hb dX0_narrowed_96 ?_
            refine lv_iand hx hb dX0_narrowed_97 ?_
            refine lv_iload hx hb dX0_narrowed_98 (lv_at hl 2 rfl) ?_
            refine vp_callSi (W.runS (As := [.int z_1, .int (z_3 &&& (z_16 ^^^ (-1))), .int z_5]) (rest := []) ⟨hx, hb, hml, hown, hts⟩ (metX0_leastFrom l z_1 (z_3 &&& (z_16 ^^^ (-1))) z_5) (va_cwS 3 hts (lw_S q79 q80 q16 q81) rfl rfl rfl (by decide +kernel) ⟨Nat.le_of_ble_eq_true rfl, Nat.le_of_ble_eq_true rfl⟩) ⟨fun _ _ _ _ q => q, fun U hU hW => ⟨rfl, trivial⟩⟩ rfl rfl hl.1 rfl (lv_room (Nat.le_of_ble_eq_true rfl)) dX0_narrowed_100 ⟨Nat.le_of_ble_eq_true rfl, Nat.le_of_ble_eq_true rfl⟩) (fun r_19 hr_20 => ?_)
            refine lv_istore (lv' := [(9, .int r_19), (8, .int z_16), (7, .int (nI i_)), (6, .int z_5), (5, .int z_3), (4, .int z_1), (0, .ref h0), (1, .int p0), (2, .int p1), (3, .int p2)]) hx hb dX0_narrowed_103 hl (by decide) rfl (fun ls hl => ?_)
            refine lv_iload hx hb dX0_narrowed_105 (lv_at hl 5 rfl) ?_
            refine lv_iload hx hb dX0_narrowed_107 (lv_at hl 1 rfl) ?_
            refine lv_ior hx hb dX0_narrowed_109 ?_
            refine lv_iload hx hb dX0_narrowed_110 (lv_at hl 4 rfl) ?_
            refine lv_iload hx hb dX0_narrowed_112 (lv_at hl 1 rfl) ?_
            refine lv_iconst (v := (-1)) hx hb dX0_narrowed_114 (by decide +kernel) ?_
            refine lv_ixor hx hb dX0_narrowed_115 ?_
            refine lv_iand hx hb dX0_narrowed_116 ?_
            refine lv_iload hx hb dX0_narrowed_117 (lv_at hl 3 rfl) ?_
            refine vp_callSi (W.runS (As := [.int (z_1 ||| z_16), .int (z_3 &&& (z_16 ^^^ (-1))), .int z_5]) (rest := []) ⟨hx, hb, hml, hown, hts⟩ (metX0_leastFrom l (z_1 ||| z_16) (z_3 &&& (z_16 ^^^ (-1))) z_5) (va_cwS 3 hts (lw_S q79 q80 q16 q81) rfl rfl rfl (by decide +kernel) ⟨Nat.le_of_ble_eq_true rfl, Nat.le_of_ble_eq_true rfl⟩) ⟨fun _ _ _ _ q => q, fun U hU hW => ⟨rfl, trivial⟩⟩ rfl rfl hl.1 rfl (lv_room (Nat.le_of_ble_eq_true rfl)) dX0_narrowed_119 ⟨Nat.le_of_ble_eq_true rfl, Nat.le_of_ble_eq_true rfl⟩) (fun r_21 hr_22 => ?_)
            refine lv_istore (lv' := [(10, .int r_21), (9, .int r_19), (8, .int z_16), (7, .int (nI i_)), (6, .int z_5), (5, .int z_3), (4, .int z_1), (0, .ref h0), (1, .int p0), (2, .int p1), (3, .int p2)]) hx hb dX0_narrowed_122 hl (by decide) rfl (fun ls hl => ?_)
            refine kj (g := fun z_ => F0 m 142 ls (.int z_ :: [])) (fun z_ => z_ = if 64 ≤ r_19 then 0 else if p2 < r_19 then 0 else 1) (fun J_ => ?_) (fun z_23 e_24 => ?_)
            · refine lv_iload hx hb dX0_narrowed_124 (lv_at hl 1 rfl) ?_
              refine lv_bipush (v := 64) hx hb dX0_narrowed_126 (by decide +kernel) ?_
              refine lv_icmp_ge (tgt := 141) hx hb dX0_narrowed_128 (by decide) (fun c_25 => ?_) (fun c_25 => ?_)
              · refine lv_iconst (v := 0) hx hb dX0_narrowed_141 (by decide +kernel) ?_
                exact J_ _ (by rw [if_pos c_25])
              · refine lv_iload hx hb dX0_narrowed_131 (lv_at hl 1 rfl) ?_
                refine lv_iload_n hx hb dX0_narrowed_133 rfl (lv_at hl 10 rfl) ?_
                refine lv_icmp_gt (tgt := 141) hx hb dX0_narrowed_134 (by decide) (fun c_26 => ?_) (fun c_26 => ?_)
                · refine lv_iconst (v := 0) hx hb dX0_narrowed_141 (by decide +kernel) ?_
                  exact J_ _ (by rw [if_neg c_25, if_pos c_26])
                · refine lv_iconst (v := 1) hx hb dX0_narrowed_137 (by decide +kernel) ?_
                  refine lv_goto (tgt := 142) hx hb dX0_narrowed_138 (by decide) ?_
                  exact J_ _ (by rw [if_neg c_25, if_neg c_26])
            · refine lv_istore (lv' := [(11, .int z_23), (10, .int r_21), (9, .int r_19), (8, .int z_16), (7, .int (nI i_)), (6, .int z_5), (5, .int z_3), (4, .int z_1), (0, .ref h0), (1, .int p0), (2, .int p1), (3, .int p2)]) hx hb dX0_narrowed_142 hl (by decide) rfl (fun ls hl => ?_)
              refine kj (g := fun z_ => F0 m 162 ls (.int z_ :: [])) (fun z_ => z_ = if 64 ≤ r_21 then 0 else if p2 < r_21 then 0 else 1) (fun J_ => ?_) (fun z_27 e_28 => ?_)
              · refine lv_iload hx hb dX0_narrowed_144 (lv_at hl 1 rfl) ?_
                refine lv_bipush (v := 64) hx hb dX0_narrowed_146 (by decide +kernel) ?_
                refine lv_icmp_ge (tgt := 161) hx hb dX0_narrowed_148 (by decide) (fun c_29 => ?_) (fun c_29 => ?_)
                · refine lv_iconst (v := 0) hx hb dX0_narrowed_161 (by decide +kernel) ?_
                  exact J_ _ (by rw [if_pos c_29])
                · refine lv_iload hx hb dX0_narrowed_151 (lv_at hl 1 rfl) ?_
                  refine lv_iload_n hx hb dX0_narrowed_153 rfl (lv_at hl 11 rfl) ?_
                  refine lv_icmp_gt (tgt := 161) hx hb dX0_narrowed_154 (by decide) (fun c_30 => ?_) (fun c_30 => ?_)
                  · refine lv_iconst (v := 0) hx hb dX0_narrowed_161 (by decide +kernel) ?_
                    exact J_ _ (by rw [if_neg c_29, if_pos c_30])
                  · refine lv_iconst (v := 1) hx hb dX0_narrowed_157 (by decide +kernel) ?_
                    refine lv_goto (tgt := 162) hx hb dX0_narrowed_158 (by decide) ?_
                    exact J_ _ (by rw [if_neg c_29, if_neg c_30])
              · refine lv_istore (lv' := [(12, .int z_27), (11, .int z_23), (10, .int r_21), (9, .int r_19), (8, .int z_16), (7, .int (nI i_)), (6, .int z_5), (5, .int z_3), (4, .int z_1), (0, .ref h0), (1, .int p0), (2, .int p1), (3, .int p2)]) hx hb dX0_narrowed_162 hl (by decide) rfl (fun ls hl => ?_)
                refine lv_aload_n hx hb dX0_narrowed_164 rfl (lv_at hl 9 rfl) ?_
                refine kj (g := fun z_ => F0 m 191 ls (.int z_ :: [.ref h0])) (fun z_ => z_ = if z_23 = 0 then a_.2 &&& (z_16 ^^^ (-1)) else if z_27 = 0 then a_.2 &&& (z_16 ^^^ (-1)) else a_.2) (fun J_ => ?_) (fun z_31 e_32 => ?_)
                · refine lv_iload hx hb dX0_narrowed_165 (lv_at hl 1 rfl) ?_
                  refine lv_if_eq (tgt := 182) hx hb dX0_narrowed_167 (by decide) (fun c_33 => ?_) (fun c_33 => ?_)
                  · refine lv_aload_n hx hb dX0_narrowed_182 rfl (lv_at hl 9 rfl) ?_
                    refine va_get (D := (dC, dI)) (ci := 0) (v := .int a_.2) (C := RX0) (T := TX0) (N := 4) hx hb hts in_X0 hown hK hP 0 rfl rfl 3 (by decide) (hts _ q29) (fun _ h9 => h9) rfl dX0_narrowed_183 ?_
                    refine lv_iload hx hb dX0_narrowed_186 (lv_at hl 4 rfl) ?_
                    refine lv_iconst (v := (-1)) hx hb dX0_narrowed_188 (by decide +kernel) ?_
                    refine lv_ixor hx hb dX0_narrowed_189 ?_
                    refine lv_iand hx hb dX0_narrowed_190 ?_
                    exact J_ _ (by rw [if_pos c_33])
                  · refine lv_iload hx hb dX0_narrowed_170 (lv_at hl 0 rfl) ?_
                    refine lv_if_eq (tgt := 182) hx hb dX0_narrowed_172 (by decide) (fun c_34 => ?_) (fun c_34 => ?_)
                    · refine lv_aload_n hx hb dX0_narrowed_182 rfl (lv_at hl 9 rfl) ?_
                      refine va_get (D := (dC, dI)) (ci := 0) (v := .int a_.2) (C := RX0) (T := TX0) (N := 4) hx hb hts in_X0 hown hK hP 0 rfl rfl 3 (by decide) (hts _ q29) (fun _ h9 => h9) rfl dX0_narrowed_183 ?_
                      refine lv_iload hx hb dX0_narrowed_186 (lv_at hl 4 rfl) ?_
                      refine lv_iconst (v := (-1)) hx hb dX0_narrowed_188 (by decide +kernel) ?_
                      refine lv_ixor hx hb dX0_narrowed_189 ?_
                      refine lv_iand hx hb dX0_narrowed_190 ?_
                      exact J_ _ (by rw [if_neg c_33, if_pos c_34])
                    · refine lv_aload_n hx hb dX0_narrowed_175 rfl (lv_at hl 9 rfl) ?_
                      refine va_get (D := (dC, dI)) (ci := 0) (v := .int a_.2) (C := RX0) (T := TX0) (N := 4) hx hb hts in_X0 hown hK hP 0 rfl rfl 3 (by decide) (hts _ q29) (fun _ h9 => h9) rfl dX0_narrowed_176 ?_
                      refine lv_goto (tgt := 191) hx hb dX0_narrowed_179 (by decide) ?_
                      exact J_ _ (by rw [if_neg c_33, if_neg c_34])
                · refine va_put (D := (dC, dI)) (ci := 0) (v := .int z_31) (ty := .int) (C := RX0) (T := TX0) (N := 4) hx hb hts in_X0 tyX0 tyX0_ok nmX0 hown hK hP hD hS 0 rfl rfl 3 (by decide) (hts _ q29) (fun _ h9 => h9) rfl (by decide +kernel) rfl rfl (Nat.le_of_ble_eq_true rfl) dX0_narrowed_191 (fun H locs hP hD hS => ?_)
                  have hP : va_P (dC, dI) vwCl (kbW h0 hv hm d1 d2 V M a_.1 z_31) H := hP
                  have hD : va_D A (kbW h0 hv hm d1 d2 V M a_.1 z_31) := hD
                  refine lv_aload_n hx hb dX0_narrowed_194 rfl (lv_at hl 9 rfl) ?_
                  refine kj (g := fun z_ => F0 m 219 ls (.int z_ :: [.ref h0])) (fun z_ => z_ = if z_27 = 0 then a_.1 else if z_23 = 0 then a_.1 ||| z_16 else a_.1) (fun J_ => ?_) (fun z_35 e_36 => ?_)
                  · refine lv_iload hx hb dX0_narrowed_195 (lv_at hl 0 rfl) ?_
                    refine lv_if_eq (tgt := 215) hx hb dX0_narrowed_197 (by decide) (fun c_37 => ?_) (fun c_37 => ?_)
                    · refine lv_aload_n hx hb dX0_narrowed_215 rfl (lv_at hl 9 rfl) ?_
                      refine va_get (D := (dC, dI)) (ci := 0) (v := .int a_.1) (C := RX0) (T := TX0) (N := 4) hx hb hts in_X0 hown hK hP 0 rfl rfl 2 (by decide) (hts _ q28) (fun _ h9 => h9) rfl dX0_narrowed_216 ?_
                      exact J_ _ (by rw [if_pos c_37])
                    · refine lv_iload hx hb dX0_narrowed_200 (lv_at hl 1 rfl) ?_
                      refine lv_if_ne (tgt := 215) hx hb dX0_narrowed_202 (by decide) (fun c_38 => ?_) (fun c_38 => ?_)
                      · refine lv_aload_n hx hb dX0_narrowed_215 rfl (lv_at hl 9 rfl) ?_
                        refine va_get (D := (dC, dI)) (ci := 0) (v := .int a_.1) (C := RX0) (T := TX0) (N := 4) hx hb hts in_X0 hown hK hP 0 rfl rfl 2 (by decide) (hts _ q28) (fun _ h9 => h9) rfl dX0_narrowed_216 ?_
                        exact J_ _ (by rw [if_neg c_37, if_neg c_38])
                      · refine lv_aload_n hx hb dX0_narrowed_205 rfl (lv_at hl 9 rfl) ?_
                        refine va_get (D := (dC, dI)) (ci := 0) (v := .int a_.1) (C := RX0) (T := TX0) (N := 4) hx hb hts in_X0 hown hK hP 0 rfl rfl 2 (by decide) (hts _ q28) (fun _ h9 => h9) rfl dX0_narrowed_206 ?_
                        refine lv_iload hx hb dX0_narrowed_209 (lv_at hl 4 rfl) ?_
                        refine lv_ior hx hb dX0_narrowed_211 ?_
                        refine lv_goto (tgt := 219) hx hb dX0_narrowed_212 (by decide) ?_
                        exact J_ _ (by rw [if_neg c_37, if_pos c_38])
                  · refine va_put (D := (dC, dI)) (ci := 0) (v := .int z_35) (ty := .int) (C := RX0) (T := TX0) (N := 4) hx hb hts in_X0 tyX0 tyX0_ok nmX0 hown hK hP hD hS 0 rfl rfl 2 (by decide) (hts _ q28) (fun _ h9 => h9) rfl (by decide +kernel) rfl rfl (Nat.le_of_ble_eq_true rfl) dX0_narrowed_219 (fun H locs hP hD hS => ?_)
                    have hP : va_P (dC, dI) vwCl (kbW h0 hv hm d1 d2 V M z_35 z_31) H := hP
                    have hD : va_D A (kbW h0 hv hm d1 d2 V M z_35 z_31) := hD
                    refine lv_iinc (v := nI (i_ + 1)) (lv' := [(7, .int (nI (i_ + 1))), (12, .int z_27), (11, .int z_23), (10, .int r_21), (9, .int r_19), (8, .int z_16), (6, .int z_5), (5, .int z_3), (4, .int z_1), (0, .ref h0), (1, .int p0), (2, .int p1), (3, .int p2)]) hx hb dX0_narrowed_222 hl (k := 5) rfl (k_inc i_) (by decide) rfl (fun ls hl => ?_)
                    refine lv_goto (tgt := 68) hx hb dX0_narrowed_225 (by decide) ?_
                    exact K_ (z_35, z_31) _ _ _ (by subst e_17 hr_20 hr_22 e_24 e_28 e_32 e_36; rw [nrL_1 (r := i_) c_18, ← hI_]; rfl) (lv_sub hl [0, 6, 7, 8, 9, 10, 11, 12] rfl) hP hD hS
      · refine lv_iconst (v := 0) hx hb dX0_narrowed_51 (by decide +kernel) ?_
        exact W.zret (v := 0) hx hb hr rfl (fun t ht hW => ⟨⟨0, (V, M, nv, nm), rfl, ⟨rfl, rfl, (by subst e_2 e_4 e_6 hr_9 e_11; exact (if_neg c_13).symm), (by subst e_2 e_4 e_6 hr_9 e_11; exact (if_neg c_13).symm), (by subst e_2 e_4 e_6 hr_9 e_11; exact (if_neg c_13).symm)⟩, by rw [ht]; exact hP, va_K.moved hW.alike hK, hD⟩, hS.F ht⟩) hS.2.2 dX0_narrowed_52

set_option maxHeartbeats 4000000 in
set_option maxRecDepth 100000 in
/-- narrow -/
theorem metX0_narrow (l : Launch) (dC : Nat → ClassId) (dI : Nat → Nat → Nat) (h0 hv hm : Nat) (d1 d2 : ClassId) (sz : Nat) (V M : kF) (nv nm : Int32) (p0 : Int32) (p1 : Int32) (p2 : Int32) : Met l yX0_narrow (ws_ yX0_narrow cX0_narrow 5 (some .int)) ({ frames := 2, cells := 0, slots := 0, locals := 57 }) (va_Pc [.ref h0, .int p0, .int p1, .int p2] (kbP (dC, dI) (kTy d1 d2) (kbW h0 hv hm d1 d2 V M nv nm) sz)) (va_Qi (fun (r : Int32) (u : kSt) => (r, u.1, u.2.1) = kOpN V M p0 p1 p2) (kbB dC dI (kA h0 hv hm sz) h0 hv hm d1 d2) (kA h0 hv hm sz)) 0 0 (kA h0 hv hm sz) := by
  refine Met.ofW (cc := cX0_narrow) (maxL := 5) (ret := (some .int)) (by decide) rfl ?_
  intro p e s m args below meth c s₁ B hml hv_
  obtain ⟨rfl, hsz, hP, hK, hD0⟩ := hv_
  have hx := B.exec
  have hb := B.bytes
  have hr := B.returns
  have hts := atoms_spec (ws := ws_ yX0_narrow cX0_narrow 5 (some .int)) B.pre
  have hts : ∀ w ∈ lw_all, w.before _ s = true := fun w h => hts w (List.mem_cons_of_mem _ h)
  have hown : s.vm.findClass RX0 = some m.cls := findClass_of_methodNamed B.named
  have hlocks := B.notSynchronized
  subst hsz
  have hD := kA_kb (sz := s.heap.size) hD0
  have hA : ∀ q : Nat, kA h0 hv hm s.heap.size q → kA h0 hv hm s.heap.size q := fun _ h => h
  generalize hAe : kA h0 hv hm s.heap.size = A at hD ⊢
  have hA : ∀ q : Nat, kA h0 hv hm s.heap.size q → A q := fun q h => by rw [← hAe]; exact h
  have hS : va_S A s.heap s.heap [] := va_S.rf
  have hP : va_P (dC, dI) vwCl (kbW h0 hv hm d1 d2 V M nv nm) s.heap := hP
  have hl := lv_entry ([.ref h0, .int p0, .int p1, .int p2]) (n := 5) (Nat.le_of_ble_eq_true rfl)
  rw [lg_entry_eq]
  generalize (lg_sl ([.ref h0, .int p0, .int p1, .int p2]) ++ List.replicate (5 - (lg_sl ([.ref h0, .int p0, .int p1, .int p2])).length) Slot.unset).toArray = ls at hl ⊢
  have hl : lv_has ls 5 [(0, .ref h0), (1, .int p0), (2, .int p1), (3, .int p2)] := hl
  refine lv_iload_n hx hb dX0_narrow_0 rfl (lv_at hl 1 rfl) ?_
  refine vp_callSi (W.runS (As := [.int p0]) (rest := []) ⟨hx, hb, hml, hown, hts⟩ (metX0_isRegister l p0) (va_cwS 1 hts (lw_S q44 q45 q16 q46) rfl rfl rfl (by decide +kernel) ⟨Nat.le_of_ble_eq_true rfl, Nat.le_of_ble_eq_true rfl⟩) ⟨fun _ _ _ _ q => q, fun U hU hW => ⟨rfl, trivial⟩⟩ rfl rfl hl.1 rfl (lv_room (Nat.le_of_ble_eq_true rfl)) dX0_narrow_1 ⟨Nat.le_of_ble_eq_true rfl, Nat.le_of_ble_eq_true rfl⟩) (fun r_1 hr_2 => ?_)
  refine lv_if_ne (tgt := 9) hx hb dX0_narrow_4 (by decide) (fun c_3 => ?_) (fun c_3 => ?_)
  · have g_4 := kb_tt hr_2 c_3
    refine lv_aload_n hx hb dX0_narrow_9 rfl (lv_at hl 0 rfl) ?_
    refine lv_iload_n hx hb dX0_narrow_10 rfl (lv_at hl 1 rfl) ?_
    refine lv_iload_n hx hb dX0_narrow_11 rfl (lv_at hl 2 rfl) ?_
    refine lv_iload_n hx hb dX0_narrow_12 rfl (lv_at hl 3 rfl) ?_
    have hFc := kb_free hA hS
    refine va_calli (va_runV (As := [.int p0, .int p1, .int p2]) (rest := []) ⟨hx, hb, hml, hown, hts⟩ (metX0_narrowed l dC dI h0 hv hm d1 d2 s.heap.size V M nv nm p0 p1 p2 (kR_in g_4)) (cwV 3 hts (lw_V q75 q77 qs4 q16 q78) rfl rfl rfl (by decide +kernel) ⟨Nat.le_of_ble_eq_true rfl, Nat.le_of_ble_eq_true rfl⟩) ⟨kb_blindW, va_recv hK hP (ci := 0) (q0 := 0) rfl rfl, fun U hU hW => ⟨rfl, by rw [hU], by rw [hU]; exact hP, va_K.moved hW.alike hK, hD.weaken (fun _ _ _ _ => trivial)⟩⟩ rfl rfl hl.1 rfl (lv_room (Nat.le_of_ble_eq_true rfl)) dX0_narrow_13 ⟨Nat.le_of_ble_eq_true rfl, Nat.le_of_ble_eq_true rfl⟩) hS (fun q _ h => hFc q h) hFc (fun r_5 u t H locs ht hvm hw_6 hB hz1 hk1 hS => ?_)
    obtain ⟨V_7, M_7, nv_7, nm_7⟩ := u
    obtain ⟨e1_7, e2_7, er_7, ev_7, em_7⟩ := hw_6
    subst e1_7 e2_7
    have ev_7 : nv_7 = (if nrC (V p0.toNatClampNeg) (M p0.toNatClampNeg) p1 p2 then (nrL (V p0.toNatClampNeg) (M p0.toNatClampNeg) (nrF p1) p2 6).1 else nv) := ev_7
    have em_7 : nm_7 = (if nrC (V p0.toNatClampNeg) (M p0.toNatClampNeg) p1 p2 then (nrL (V p0.toNatClampNeg) (M p0.toNatClampNeg) (nrF p1) p2 6).2 else nm) := em_7
    obtain ⟨hP, hK1, hD1⟩ := hB
    rw [ht] at hP
    have hP : va_P (dC, dI) vwCl (kbW h0 hv hm d1 d2 V M nv_7 nm_7) H := hP
    have hD : va_D A (kbW h0 hv hm d1 d2 V M nv_7 nm_7) := hD1.weaken (fun _ _ _ h => hFc _ h)
    refine lv_istore (lv' := [(4, .int r_5), (0, .ref h0), (1, .int p0), (2, .int p1), (3, .int p2)]) hx hb dX0_narrow_16 hl (by decide) rfl (fun ls hl => ?_)
    refine lv_iload hx hb dX0_narrow_18 (lv_at hl 0 rfl) ?_
    refine lv_if_ne (tgt := 26) hx hb dX0_narrow_20 (by decide) (fun c_8 => ?_) (fun c_8 => ?_)
    · have g_9 := kb_tt er_7 c_8
      refine lv_aload_n hx hb dX0_narrow_26 rfl (lv_at hl 1 rfl) ?_
      refine lv_iload_n hx hb dX0_narrow_27 rfl (lv_at hl 2 rfl) ?_
      have hFc := kb_free hA hS
      refine va_callv (va_runV (As := [.int p0]) (rest := []) ⟨hx, hb, hml, hown, hts⟩ (metX0_keep l dC dI h0 hv hm d1 d2 H.size V M nv_7 nm_7 p0 (kR_in g_4)) (cwV 1 hts (lw_V q63 q65 qs3 q16 q66) rfl rfl rfl (by decide +kernel) ⟨Nat.le_of_ble_eq_true rfl, Nat.le_of_ble_eq_true rfl⟩) ⟨kb_blindW, va_recv hK hP (ci := 0) (q0 := 0) rfl rfl, fun U hU hW => ⟨rfl, by rw [hU], by rw [hU]; exact hP, va_K.moved hW.alike hK, hD.weaken (fun _ _ _ _ => trivial)⟩⟩ rfl rfl hl.1 rfl (lv_room (Nat.le_of_ble_eq_true rfl)) dX0_narrow_28 ⟨Nat.le_of_ble_eq_true rfl, Nat.le_of_ble_eq_true rfl⟩) hS (fun q _ h => hFc q h) hFc (fun u t H locs ht hvm hw_10 hB hz1 hk1 hS => ?_)
      subst hw_10
      obtain ⟨hP, hK1, hD1⟩ := hB
      rw [ht] at hP
      have hP : va_P (dC, dI) vwCl (kbW h0 hv hm d1 d2 (upd V p0.toNatClampNeg nv_7) (upd M p0.toNatClampNeg nm_7) nv_7 nm_7) H := hP
      have hD : va_D A (kbW h0 hv hm d1 d2 (upd V p0.toNatClampNeg nv_7) (upd M p0.toNatClampNeg nm_7) nv_7 nm_7) := hD1.weaken (fun _ _ _ h => hFc _ h)
      refine lv_iconst (v := 0) hx hb dX0_narrow_31 (by decide +kernel) ?_
      exact W.iret (v := 0) hx hb hr (fun t ht hW => ⟨⟨0, (upd V p0.toNatClampNeg nv_7, upd M p0.toNatClampNeg nm_7, nv_7, nm_7), rfl, (by subst ev_7 em_7; first | rfl | (simp only [kOpN, if_pos g_4, if_pos g_9]; done) | (simp only [kOpN, if_pos g_4, if_pos g_9]; rfl)), by rw [ht]; exact hP, va_K.moved hW.alike hK, hD⟩, hS.F ht⟩) hS.2.2 dX0_narrow_32
    · have g_11 := kb_tf er_7 c_8
      refine lv_bipush (v := (-2)) hx hb dX0_narrow_23 (by decide +kernel) ?_
      exact W.iret (v := (-2)) hx hb hr (fun t ht hW => ⟨⟨(-2), (V, M, nv_7, nm_7), rfl, (by subst ev_7 em_7; first | rfl | (simp only [kOpN, if_pos g_4, if_neg g_11]; done) | (simp only [kOpN, if_pos g_4, if_neg g_11]; rfl)), by rw [ht]; exact hP, va_K.moved hW.alike hK, hD⟩, hS.F ht⟩) hS.2.2 dX0_narrow_25
  · have g_12 := kb_tf hr_2 c_3
    refine lv_iconst (v := (-1)) hx hb dX0_narrow_7 (by decide +kernel) ?_
    exact W.iret (v := (-1)) hx hb hr (fun t ht hW => ⟨⟨(-1), (V, M, nv, nm), rfl, (by first | rfl | (simp only [kOpN, if_neg g_12]; done) | (simp only [kOpN, if_neg g_12]; rfl)), by rw [ht]; exact hP, va_K.moved hW.alike hK, hD⟩, hS.F ht⟩) hS.2.2 dX0_narrow_8

set_option maxHeartbeats 4000000 in
set_option maxRecDepth 100000 in
/-- supposeOrder -/
theorem metX0_supposeOrder (l : Launch) (dC : Nat → ClassId) (dI : Nat → Nat → Nat) (h0 hv hm : Nat) (d1 d2 : ClassId) (sz : Nat) (V M : kF) (nv nm : Int32) (p0 : Int32) (p1 : Int32) (p2 : Int32) (g0 : vp_in p0 6) (g1 : vp_in p1 6) : Met l yX0_supposeOrder (ws_ yX0_supposeOrder cX0_supposeOrder 9 (some .int)) ({ frames := 2, cells := 0, slots := 0, locals := 57 }) (va_Pc [.ref h0, .int p0, .int p1, .int p2] (kbP (dC, dI) (kTy d1 d2) (kbW h0 hv hm d1 d2 V M nv nm) sz)) (va_Qi (fun (r : Int32) (u : kSt) => (r, u.1, u.2.1) = kSo V M p0 p1 p2) (kbB dC dI (kA h0 hv hm sz) h0 hv hm d1 d2) (kA h0 hv hm sz)) 0 0 (kA h0 hv hm sz) := by
  refine Met.ofW (cc := cX0_supposeOrder) (maxL := 9) (ret := (some .int)) (by decide) rfl ?_
  intro p e s m args below meth c s₁ B hml hv_
  obtain ⟨rfl, hsz, hP, hK, hD0⟩ := hv_
  have hx := B.exec
  have hb := B.bytes
  have hr := B.returns
  have hts := atoms_spec (ws := ws_ yX0_supposeOrder cX0_supposeOrder 9 (some .int)) B.pre
  have hts : ∀ w ∈ lw_all, w.before _ s = true := fun w h => hts w (List.mem_cons_of_mem _ h)
  have hown : s.vm.findClass RX0 = some m.cls := findClass_of_methodNamed B.named
  have hlocks := B.notSynchronized
  subst hsz
  have hD := kA_kb (sz := s.heap.size) hD0
  have hA : ∀ q : Nat, kA h0 hv hm s.heap.size q → kA h0 hv hm s.heap.size q := fun _ h => h
  generalize hAe : kA h0 hv hm s.heap.size = A at hD ⊢
  have hA : ∀ q : Nat, kA h0 hv hm s.heap.size q → A q := fun q h => by rw [← hAe]; exact h
  have hS : va_S A s.heap s.heap [] := va_S.rf
  have hP : va_P (dC, dI) vwCl (kbW h0 hv hm d1 d2 V M nv nm) s.heap := hP
  have hl := lv_entry ([.ref h0, .int p0, .int p1, .int p2]) (n := 9) (Nat.le_of_ble_eq_true rfl)
  rw [lg_entry_eq]
  generalize (lg_sl ([.ref h0, .int p0, .int p1, .int p2]) ++ List.replicate (9 - (lg_sl ([.ref h0, .int p0, .int p1, .int p2])).length) Slot.unset).toArray = ls at hl ⊢
  have hl : lv_has ls 9 [(0, .ref h0), (1, .int p0), (2, .int p1), (3, .int p2)] := hl
  refine lv_aload_n hx hb dX0_supposeOrder_0 rfl (lv_at hl 0 rfl) ?_
  refine lv_iload_n hx hb dX0_supposeOrder_1 rfl (lv_at hl 2 rfl) ?_
  refine vp_callSi (W.runV (As := [.int p1]) (rest := []) ⟨hx, hb, hml, hown, hts⟩ (metX0_greatest l dC dI h0 hv hm d1 d2 V M nv nm p1 g1) (cwV 1 hts (lw_V q91 q93 qs6 q16 q94) rfl rfl rfl (by decide +kernel) ⟨Nat.le_of_ble_eq_true rfl, Nat.le_of_ble_eq_true rfl⟩) ⟨kb_blindR, va_recv hK hP (ci := 0) (q0 := 0) rfl rfl, fun U hU hW => ⟨rfl, by rw [hU]; exact hP, va_K.moved hW.alike hK⟩⟩ rfl rfl hl.1 rfl (lv_room (Nat.le_of_ble_eq_true rfl)) dX0_supposeOrder_2 ⟨Nat.le_of_ble_eq_true rfl, Nat.le_of_ble_eq_true rfl⟩) (fun r_1 hr_2 => ?_)
  refine lv_iload_n hx hb dX0_supposeOrder_5 rfl (lv_at hl 3 rfl) ?_
  refine lv_isub hx hb dX0_supposeOrder_6 ?_
  refine lv_topi (fun z_3 e_4 => ?_)
  refine lv_istore (lv' := [(4, .int z_3), (0, .ref h0), (1, .int p0), (2, .int p1), (3, .int p2)]) hx hb dX0_supposeOrder_7 hl (by decide) rfl (fun ls hl => ?_)
  refine lv_aload_n hx hb dX0_supposeOrder_9 rfl (lv_at hl 1 rfl) ?_
  refine va_get (D := (dC, dI)) (ci := 0) (v := .ref hv) (C := RX0) (T := TX0) (N := 4) hx hb hts in_X0 hown hK hP 0 rfl rfl 0 (by decide) (hts _ q26) (fun _ h9 => h9) rfl dX0_supposeOrder_10 ?_
  refine lv_iload_n hx hb dX0_supposeOrder_13 rfl (lv_at hl 2 rfl) ?_
  refine va_iald hx hb hK hP 1 0 rfl rfl g0 dX0_supposeOrder_14 ?_
  refine lv_iload_n hx hb dX0_supposeOrder_15 rfl (lv_at hl 4 rfl) ?_
  refine lv_iadd hx hb dX0_supposeOrder_16 ?_
  refine lv_topi (fun z_5 e_6 => ?_)
  refine lv_istore (lv' := [(5, .int z_5), (4, .int z_3), (0, .ref h0), (1, .int p0), (2, .int p1), (3, .int p2)]) hx hb dX0_supposeOrder_17 hl (by decide) rfl (fun ls hl => ?_)
  refine lv_aload_n hx hb dX0_supposeOrder_19 rfl (lv_at hl 2 rfl) ?_
  refine lv_iload_n hx hb dX0_supposeOrder_20 rfl (lv_at hl 3 rfl) ?_
  refine lv_iconst (v := 0) hx hb dX0_supposeOrder_21 (by decide +kernel) ?_
  refine lv_iload hx hb dX0_supposeOrder_22 (lv_at hl 1 rfl) ?_
  have hFc := kb_free hA hS
  refine va_calli (va_runV (As := [.int p0, .int 0, .int z_3]) (rest := []) ⟨hx, hb, hml, hown, hts⟩ (metX0_narrowed l dC dI h0 hv hm d1 d2 s.heap.size V M nv nm p0 0 z_3 g0) (cwV 3 hts (lw_V q75 q77 qs4 q16 q78) rfl rfl rfl (by decide +kernel) ⟨Nat.le_of_ble_eq_true rfl, Nat.le_of_ble_eq_true rfl⟩) ⟨kb_blindW, va_recv hK hP (ci := 0) (q0 := 0) rfl rfl, fun U hU hW => ⟨rfl, by rw [hU], by rw [hU]; exact hP, va_K.moved hW.alike hK, hD.weaken (fun _ _ _ _ => trivial)⟩⟩ rfl rfl hl.1 rfl (lv_room (Nat.le_of_ble_eq_true rfl)) dX0_supposeOrder_24 ⟨Nat.le_of_ble_eq_true rfl, Nat.le_of_ble_eq_true rfl⟩) hS (fun q _ h => hFc q h) hFc (fun r_7 u t H locs ht hvm hw_8 hB hz1 hk1 hS => ?_)
  obtain ⟨V_9, M_9, nv_9, nm_9⟩ := u
  obtain ⟨e1_9, e2_9, er_9, ev_9, em_9⟩ := hw_8
  subst e1_9 e2_9
  have ev_9 : nv_9 = (if nrC (V p0.toNatClampNeg) (M p0.toNatClampNeg) 0 z_3 then (nrL (V p0.toNatClampNeg) (M p0.toNatClampNeg) (nrF 0) z_3 6).1 else nv) := ev_9
  have em_9 : nm_9 = (if nrC (V p0.toNatClampNeg) (M p0.toNatClampNeg) 0 z_3 then (nrL (V p0.toNatClampNeg) (M p0.toNatClampNeg) (nrF 0) z_3 6).2 else nm) := em_9
  obtain ⟨hP, hK1, hD1⟩ := hB
  rw [ht] at hP
  have hP : va_P (dC, dI) vwCl (kbW h0 hv hm d1 d2 V M nv_9 nm_9) H := hP
  have hD : va_D A (kbW h0 hv hm d1 d2 V M nv_9 nm_9) := hD1.weaken (fun _ _ _ h => hFc _ h)
  refine lv_istore (lv' := [(6, .int r_7), (5, .int z_5), (4, .int z_3), (0, .ref h0), (1, .int p0), (2, .int p1), (3, .int p2)]) hx hb dX0_supposeOrder_27 hl (by decide) rfl (fun ls hl => ?_)
  refine lv_iload hx hb dX0_supposeOrder_29 (lv_at hl 0 rfl) ?_
  refine lv_if_ne (tgt := 37) hx hb dX0_supposeOrder_31 (by decide) (fun c_10 => ?_) (fun c_10 => ?_)
  · have g_11 := kb_tt er_9 c_10
    refine lv_aload_n hx hb dX0_supposeOrder_37 rfl (lv_at hl 3 rfl) ?_
    refine va_get (D := (dC, dI)) (ci := 0) (v := .int nv_9) (C := RX0) (T := TX0) (N := 4) hx hb hts in_X0 hown hK hP 0 rfl rfl 2 (by decide) (hts _ q28) (fun _ h9 => h9) rfl dX0_supposeOrder_38 ?_
    refine lv_istore (lv' := [(7, .int nv_9), (6, .int r_7), (5, .int z_5), (4, .int z_3), (0, .ref h0), (1, .int p0), (2, .int p1), (3, .int p2)]) hx hb dX0_supposeOrder_41 hl (by decide) rfl (fun ls hl => ?_)
    refine lv_aload_n hx hb dX0_supposeOrder_43 rfl (lv_at hl 4 rfl) ?_
    refine va_get (D := (dC, dI)) (ci := 0) (v := .int nm_9) (C := RX0) (T := TX0) (N := 4) hx hb hts in_X0 hown hK hP 0 rfl rfl 3 (by decide) (hts _ q29) (fun _ h9 => h9) rfl dX0_supposeOrder_44 ?_
    refine lv_istore (lv' := [(8, .int nm_9), (7, .int nv_9), (6, .int r_7), (5, .int z_5), (4, .int z_3), (0, .ref h0), (1, .int p0), (2, .int p1), (3, .int p2)]) hx hb dX0_supposeOrder_47 hl (by decide) rfl (fun ls hl => ?_)
    refine lv_aload_n hx hb dX0_supposeOrder_49 rfl (lv_at hl 5 rfl) ?_
    refine lv_iload_n hx hb dX0_supposeOrder_50 rfl (lv_at hl 7 rfl) ?_
    refine lv_iload hx hb dX0_supposeOrder_51 (lv_at hl 3 rfl) ?_
    refine lv_bipush (v := 63) hx hb dX0_supposeOrder_53 (by decide +kernel) ?_
    have hFc := kb_free hA hS
    refine va_calli (va_runV (As := [.int p1, .int z_5, .int 63]) (rest := []) ⟨hx, hb, hml, hown, hts⟩ (metX0_narrowed l dC dI h0 hv hm d1 d2 H.size V M nv_9 nm_9 p1 z_5 63 g1) (cwV 3 hts (lw_V q75 q77 qs4 q16 q78) rfl rfl rfl (by decide +kernel) ⟨Nat.le_of_ble_eq_true rfl, Nat.le_of_ble_eq_true rfl⟩) ⟨kb_blindW, va_recv hK hP (ci := 0) (q0 := 0) rfl rfl, fun U hU hW => ⟨rfl, by rw [hU], by rw [hU]; exact hP, va_K.moved hW.alike hK, hD.weaken (fun _ _ _ _ => trivial)⟩⟩ rfl rfl hl.1 rfl (lv_room (Nat.le_of_ble_eq_true rfl)) dX0_supposeOrder_55 ⟨Nat.le_of_ble_eq_true rfl, Nat.le_of_ble_eq_true rfl⟩) hS (fun q _ h => hFc q h) hFc (fun r_12 u t H locs ht hvm hw_13 hB hz1 hk1 hS => ?_)
    obtain ⟨V_14, M_14, nv_14, nm_14⟩ := u
    obtain ⟨e1_14, e2_14, er_14, ev_14, em_14⟩ := hw_13
    subst e1_14 e2_14
    have ev_14 : nv_14 = (if nrC (V p1.toNatClampNeg) (M p1.toNatClampNeg) z_5 63 then (nrL (V p1.toNatClampNeg) (M p1.toNatClampNeg) (nrF z_5) 63 6).1 else nv_9) := ev_14
    have em_14 : nm_14 = (if nrC (V p1.toNatClampNeg) (M p1.toNatClampNeg) z_5 63 then (nrL (V p1.toNatClampNeg) (M p1.toNatClampNeg) (nrF z_5) 63 6).2 else nm_9) := em_14
    obtain ⟨hP, hK1, hD1⟩ := hB
    rw [ht] at hP
    have hP : va_P (dC, dI) vwCl (kbW h0 hv hm d1 d2 V M nv_14 nm_14) H := hP
    have hD : va_D A (kbW h0 hv hm d1 d2 V M nv_14 nm_14) := hD1.weaken (fun _ _ _ h => hFc _ h)
    refine lv_pop hx hb dX0_supposeOrder_58 rfl ?_
    refine lv_aload_n hx hb dX0_supposeOrder_59 rfl (lv_at hl 5 rfl) ?_
    refine lv_iload_n hx hb dX0_supposeOrder_60 rfl (lv_at hl 7 rfl) ?_
    have hFc := kb_free hA hS
    refine va_callv (va_runV (As := [.int p1]) (rest := []) ⟨hx, hb, hml, hown, hts⟩ (metX0_keep l dC dI h0 hv hm d1 d2 H.size V M nv_14 nm_14 p1 g1) (cwV 1 hts (lw_V q63 q65 qs3 q16 q66) rfl rfl rfl (by decide +kernel) ⟨Nat.le_of_ble_eq_true rfl, Nat.le_of_ble_eq_true rfl⟩) ⟨kb_blindW, va_recv hK hP (ci := 0) (q0 := 0) rfl rfl, fun U hU hW => ⟨rfl, by rw [hU], by rw [hU]; exact hP, va_K.moved hW.alike hK, hD.weaken (fun _ _ _ _ => trivial)⟩⟩ rfl rfl hl.1 rfl (lv_room (Nat.le_of_ble_eq_true rfl)) dX0_supposeOrder_61 ⟨Nat.le_of_ble_eq_true rfl, Nat.le_of_ble_eq_true rfl⟩) hS (fun q _ h => hFc q h) hFc (fun u t H locs ht hvm hw_15 hB hz1 hk1 hS => ?_)
    subst hw_15
    obtain ⟨hP, hK1, hD1⟩ := hB
    rw [ht] at hP
    have hP : va_P (dC, dI) vwCl (kbW h0 hv hm d1 d2 (upd V p1.toNatClampNeg nv_14) (upd M p1.toNatClampNeg nm_14) nv_14 nm_14) H := hP
    have hD : va_D A (kbW h0 hv hm d1 d2 (upd V p1.toNatClampNeg nv_14) (upd M p1.toNatClampNeg nm_14) nv_14 nm_14) := hD1.weaken (fun _ _ _ h => hFc _ h)
    refine lv_aload_n hx hb dX0_supposeOrder_64 rfl (lv_at hl 5 rfl) ?_
    refine va_get (D := (dC, dI)) (ci := 0) (v := .ref hv) (C := RX0) (T := TX0) (N := 4) hx hb hts in_X0 hown hK hP 0 rfl rfl 0 (by decide) (hts _ q26) (fun _ h9 => h9) rfl dX0_supposeOrder_65 ?_
    refine lv_iload_n hx hb dX0_supposeOrder_68 rfl (lv_at hl 6 rfl) ?_
    refine lv_iload hx hb dX0_supposeOrder_69 (lv_at hl 1 rfl) ?_
    refine va_iast hx hb hK hP hD hS 1 0 rfl rfl g0 dX0_supposeOrder_71 (fun H locs hP hD hS => ?_)
    have hP : va_P (dC, dI) vwCl (kbW h0 hv hm d1 d2 (upd (upd V p1.toNatClampNeg nv_14) p0.toNatClampNeg nv_9) (upd M p1.toNatClampNeg nm_14) nv_14 nm_14) H := hP
    have hD : va_D A (kbW h0 hv hm d1 d2 (upd (upd V p1.toNatClampNeg nv_14) p0.toNatClampNeg nv_9) (upd M p1.toNatClampNeg nm_14) nv_14 nm_14) := hD
    refine lv_aload_n hx hb dX0_supposeOrder_72 rfl (lv_at hl 5 rfl) ?_
    refine va_get (D := (dC, dI)) (ci := 0) (v := .ref hm) (C := RX0) (T := TX0) (N := 4) hx hb hts in_X0 hown hK hP 0 rfl rfl 1 (by decide) (hts _ q27) (fun _ h9 => h9) rfl dX0_supposeOrder_73 ?_
    refine lv_iload_n hx hb dX0_supposeOrder_76 rfl (lv_at hl 6 rfl) ?_
    refine lv_iload hx hb dX0_supposeOrder_77 (lv_at hl 0 rfl) ?_
    refine va_iast hx hb hK hP hD hS 2 1 rfl rfl g0 dX0_supposeOrder_79 (fun H locs hP hD hS => ?_)
    have hP : va_P (dC, dI) vwCl (kbW h0 hv hm d1 d2 (upd (upd V p1.toNatClampNeg nv_14) p0.toNatClampNeg nv_9) (upd (upd M p1.toNatClampNeg nm_14) p0.toNatClampNeg nm_9) nv_14 nm_14) H := hP
    have hD : va_D A (kbW h0 hv hm d1 d2 (upd (upd V p1.toNatClampNeg nv_14) p0.toNatClampNeg nv_9) (upd (upd M p1.toNatClampNeg nm_14) p0.toNatClampNeg nm_9) nv_14 nm_14) := hD
    refine lv_iconst (v := 0) hx hb dX0_supposeOrder_80 (by decide +kernel) ?_
    exact W.iret (v := 0) hx hb hr (fun t ht hW => ⟨⟨0, (upd (upd V p1.toNatClampNeg nv_14) p0.toNatClampNeg nv_9, upd (upd M p1.toNatClampNeg nm_14) p0.toNatClampNeg nm_9, nv_14, nm_14), rfl, (by subst hr_2 e_4 e_6 ev_9 em_9 ev_14 em_14; first | rfl | (simp only [kSo, kSoV, kSoM, if_pos g_11]; done) | (simp only [kSo, kSoV, kSoM, if_pos g_11]; rfl)), by rw [ht]; exact hP, va_K.moved hW.alike hK, hD⟩, hS.F ht⟩) hS.2.2 dX0_supposeOrder_81
  · have g_16 := kb_tf er_9 c_10
    refine lv_bipush (v := (-2)) hx hb dX0_supposeOrder_34 (by decide +kernel) ?_
    exact W.iret (v := (-2)) hx hb hr (fun t ht hW => ⟨⟨(-2), (V, M, nv_9, nm_9), rfl, (by subst hr_2 e_4 e_6 ev_9 em_9; first | rfl | (simp only [kSo, kSoV, kSoM, if_neg g_16]; done) | (simp only [kSo, kSoV, kSoM, if_neg g_16]; rfl)), by rw [ht]; exact hP, va_K.moved hW.alike hK, hD⟩, hS.F ht⟩) hS.2.2 dX0_supposeOrder_36

set_option maxHeartbeats 4000000 in
set_option maxRecDepth 100000 in
/-- takeOut -/
theorem metX0_takeOut (l : Launch) (dC : Nat → ClassId) (dI : Nat → Nat → Nat) (h0 hv hm : Nat) (d1 d2 : ClassId) (sz : Nat) (V M : kF) (nv nm : Int32) (p0 : Int32) (p1 : Int32) (g0 : vp_in p0 6) : Met l yX0_takeOut (ws_ yX0_takeOut cX0_takeOut 5 none) ({ frames := 0, cells := 0, slots := 0, locals := 0 }) (va_Pc [.ref h0, .int p0, .int p1] (kbP (dC, dI) (kTy d1 d2) (kbW h0 hv hm d1 d2 V M nv nm) sz)) (va_Qv (fun u => u = (kTkV V M p0 p1, kTkM V M p0 p1, nv, nm)) (kbB dC dI (kA h0 hv hm sz) h0 hv hm d1 d2) (kA h0 hv hm sz)) 0 0 (kA h0 hv hm sz) := by
  refine Met.ofW (cc := cX0_takeOut) (maxL := 5) (ret := none) (by decide) rfl ?_
  intro p e s m args below meth c s₁ B hml hv_
  obtain ⟨rfl, hsz, hP, hK, hD0⟩ := hv_
  have hx := B.exec
  have hb := B.bytes
  have hr := B.returns
  have hts := atoms_spec (ws := ws_ yX0_takeOut cX0_takeOut 5 none) B.pre
  have hts : ∀ w ∈ lw_all, w.before _ s = true := fun w h => hts w (List.mem_cons_of_mem _ h)
  have hown : s.vm.findClass RX0 = some m.cls := findClass_of_methodNamed B.named
  have hlocks := B.notSynchronized
  subst hsz
  have hD := kA_kb (sz := s.heap.size) hD0
  have hA : ∀ q : Nat, kA h0 hv hm s.heap.size q → kA h0 hv hm s.heap.size q := fun _ h => h
  generalize hAe : kA h0 hv hm s.heap.size = A at hD ⊢
  have hA : ∀ q : Nat, kA h0 hv hm s.heap.size q → A q := fun q h => by rw [← hAe]; exact h
  have hS : va_S A s.heap s.heap [] := va_S.rf
  have hP : va_P (dC, dI) vwCl (kbW h0 hv hm d1 d2 V M nv nm) s.heap := hP
  have hl := lv_entry ([.ref h0, .int p0, .int p1]) (n := 5) (Nat.le_of_ble_eq_true rfl)
  rw [lg_entry_eq]
  generalize (lg_sl ([.ref h0, .int p0, .int p1]) ++ List.replicate (5 - (lg_sl ([.ref h0, .int p0, .int p1])).length) Slot.unset).toArray = ls at hl ⊢
  have hl : lv_has ls 5 [(0, .ref h0), (1, .int p0), (2, .int p1)] := hl
  refine lv_aload_n hx hb dX0_takeOut_0 rfl (lv_at hl 0 rfl) ?_
  refine va_get (D := (dC, dI)) (ci := 0) (v := .ref hm) (C := RX0) (T := TX0) (N := 4) hx hb hts in_X0 hown hK hP 0 rfl rfl 1 (by decide) (hts _ q27) (fun _ h9 => h9) rfl dX0_takeOut_1 ?_
  refine lv_iload_n hx hb dX0_takeOut_4 rfl (lv_at hl 1 rfl) ?_
  refine va_iald hx hb hK hP 2 1 rfl rfl g0 dX0_takeOut_5 ?_
  refine lv_topi (fun z_1 e_2 => ?_)
  refine lv_istore_n (lv' := [(3, .int z_1), (0, .ref h0), (1, .int p0), (2, .int p1)]) hx hb dX0_takeOut_6 rfl hl (by decide) rfl (fun ls hl => ?_)
  refine lv_iload_n hx hb dX0_takeOut_7 rfl (lv_at hl 0 rfl) ?_
  refine lv_iload_n hx hb dX0_takeOut_8 rfl (lv_at hl 0 rfl) ?_
  refine lv_iconst (v := 1) hx hb dX0_takeOut_9 (by decide +kernel) ?_
  refine lv_isub hx hb dX0_takeOut_10 ?_
  refine lv_iand hx hb dX0_takeOut_11 ?_
  refine lv_if_ne (tgt := 19) hx hb dX0_takeOut_12 (by decide) (fun c_3 => ?_) (fun c_3 => ?_)
  · refine lv_iconst (v := 0) hx hb dX0_takeOut_19 (by decide +kernel) ?_
    refine lv_istore (lv' := [(4, .int 0), (3, .int z_1), (0, .ref h0), (1, .int p0), (2, .int p1)]) hx hb dX0_takeOut_20 hl (by decide) rfl (fun ls hl => ?_)
    refine lv_iload hx hb dX0_takeOut_22 (lv_at hl 0 rfl) ?_
    refine lv_if_eq (tgt := 58) hx hb dX0_takeOut_24 (by decide) (fun c_4 => ?_) (fun c_4 => absurd (by decide) c_4)
    exact W.vret hx hb hr (fun t ht hW => ⟨⟨(V, M, nv, nm), rfl, (by subst e_2; first | rfl | (simp only [kTkV, kTkM, if_neg c_3]; done) | (simp only [kTkV, kTkM, if_neg c_3]; rfl)), by rw [ht]; exact hP, va_K.moved hW.alike hK, hD⟩, hS.F ht⟩) hS.2.2 dX0_takeOut_58
  · refine lv_iconst (v := 1) hx hb dX0_takeOut_15 (by decide +kernel) ?_
    refine lv_goto (tgt := 20) hx hb dX0_takeOut_16 (by decide) ?_
    refine lv_istore (lv' := [(4, .int 1), (3, .int z_1), (0, .ref h0), (1, .int p0), (2, .int p1)]) hx hb dX0_takeOut_20 hl (by decide) rfl (fun ls hl => ?_)
    refine lv_iload hx hb dX0_takeOut_22 (lv_at hl 0 rfl) ?_
    refine lv_if_eq (tgt := 58) hx hb dX0_takeOut_24 (by decide) (fun c_5 => absurd c_5 (by decide)) (fun c_5 => ?_)
    refine lv_iload_n hx hb dX0_takeOut_27 rfl (lv_at hl 4 rfl) ?_
    refine lv_aload_n hx hb dX0_takeOut_28 rfl (lv_at hl 2 rfl) ?_
    refine va_get (D := (dC, dI)) (ci := 0) (v := .ref hv) (C := RX0) (T := TX0) (N := 4) hx hb hts in_X0 hown hK hP 0 rfl rfl 0 (by decide) (hts _ q26) (fun _ h9 => h9) rfl dX0_takeOut_29 ?_
    refine lv_iload_n hx hb dX0_takeOut_32 rfl (lv_at hl 3 rfl) ?_
    refine va_iald hx hb hK hP 1 0 rfl rfl g0 dX0_takeOut_33 ?_
    refine lv_ixor hx hb dX0_takeOut_34 ?_
    refine lv_iload_n hx hb dX0_takeOut_35 rfl (lv_at hl 1 rfl) ?_
    refine lv_iconst (v := (-1)) hx hb dX0_takeOut_36 (by decide +kernel) ?_
    refine lv_ixor hx hb dX0_takeOut_37 ?_
    refine lv_iand hx hb dX0_takeOut_38 ?_
    refine lv_if_ne (tgt := 58) hx hb dX0_takeOut_39 (by decide) (fun c_6 => ?_) (fun c_6 => ?_)
    · exact W.vret hx hb hr (fun t ht hW => ⟨⟨(V, M, nv, nm), rfl, (by subst e_2; first | rfl | (simp only [kTkV, kTkM, if_pos c_3, if_neg c_6]; done) | (simp only [kTkV, kTkM, if_pos c_3, if_neg c_6]; rfl)), by rw [ht]; exact hP, va_K.moved hW.alike hK, hD⟩, hS.F ht⟩) hS.2.2 dX0_takeOut_58
    · refine lv_aload_n hx hb dX0_takeOut_42 rfl (lv_at hl 2 rfl) ?_
      refine va_get (D := (dC, dI)) (ci := 0) (v := .ref hv) (C := RX0) (T := TX0) (N := 4) hx hb hts in_X0 hown hK hP 0 rfl rfl 0 (by decide) (hts _ q26) (fun _ h9 => h9) rfl dX0_takeOut_43 ?_
      refine lv_iload_n hx hb dX0_takeOut_46 rfl (lv_at hl 3 rfl) ?_
      refine lv_iload_n hx hb dX0_takeOut_47 rfl (lv_at hl 4 rfl) ?_
      refine lv_iload_n hx hb dX0_takeOut_48 rfl (lv_at hl 1 rfl) ?_
      refine lv_ixor hx hb dX0_takeOut_49 ?_
      refine lv_topi (fun z_7 e_8 => ?_)
      refine va_iast hx hb hK hP hD hS 1 0 rfl rfl g0 dX0_takeOut_50 (fun H locs hP hD hS => ?_)
      have hP : va_P (dC, dI) vwCl (kbW h0 hv hm d1 d2 (upd V p0.toNatClampNeg z_7) M nv nm) H := hP
      have hD : va_D A (kbW h0 hv hm d1 d2 (upd V p0.toNatClampNeg z_7) M nv nm) := hD
      refine lv_aload_n hx hb dX0_takeOut_51 rfl (lv_at hl 2 rfl) ?_
      refine va_get (D := (dC, dI)) (ci := 0) (v := .ref hm) (C := RX0) (T := TX0) (N := 4) hx hb hts in_X0 hown hK hP 0 rfl rfl 1 (by decide) (hts _ q27) (fun _ h9 => h9) rfl dX0_takeOut_52 ?_
      refine lv_iload_n hx hb dX0_takeOut_55 rfl (lv_at hl 3 rfl) ?_
      refine lv_iconst (v := 0) hx hb dX0_takeOut_56 (by decide +kernel) ?_
      refine va_iast hx hb hK hP hD hS 2 1 rfl rfl g0 dX0_takeOut_57 (fun H locs hP hD hS => ?_)
      have hP : va_P (dC, dI) vwCl (kbW h0 hv hm d1 d2 (upd V p0.toNatClampNeg z_7) (upd M p0.toNatClampNeg 0) nv nm) H := hP
      have hD : va_D A (kbW h0 hv hm d1 d2 (upd V p0.toNatClampNeg z_7) (upd M p0.toNatClampNeg 0) nv nm) := hD
      exact W.vret hx hb hr (fun t ht hW => ⟨⟨(upd V p0.toNatClampNeg z_7, upd M p0.toNatClampNeg 0, nv, nm), rfl, (by subst e_2 e_8; first | rfl | (simp only [kTkV, kTkM, if_pos c_3, if_pos c_6]; done) | (simp only [kTkV, kTkM, if_pos c_3, if_pos c_6]; rfl)), by rw [ht]; exact hP, va_K.moved hW.alike hK, hD⟩, hS.F ht⟩) hS.2.2 dX0_takeOut_58

set_option maxHeartbeats 4000000 in
set_option maxRecDepth 100000 in
/-- supposeDifferent -/
theorem metX0_supposeDifferent (l : Launch) (dC : Nat → ClassId) (dI : Nat → Nat → Nat) (h0 hv hm : Nat) (d1 d2 : ClassId) (sz : Nat) (V M : kF) (nv nm : Int32) (p0 : Int32) (p1 : Int32) (g0 : vp_in p0 6) (g1 : vp_in p1 6) : Met l yX0_supposeDifferent (ws_ yX0_supposeDifferent cX0_supposeDifferent 3 (some .int)) ({ frames := 1, cells := 0, slots := 0, locals := 24 }) (va_Pc [.ref h0, .int p0, .int p1] (kbP (dC, dI) (kTy d1 d2) (kbW h0 hv hm d1 d2 V M nv nm) sz)) (va_Qi (fun (r : Int32) (u : kSt) => (r, u.1, u.2.1) = kSd V M p0 p1) (kbB dC dI (kA h0 hv hm sz) h0 hv hm d1 d2) (kA h0 hv hm sz)) 0 0 (kA h0 hv hm sz) := by
  refine Met.ofW (cc := cX0_supposeDifferent) (maxL := 3) (ret := (some .int)) (by decide) rfl ?_
  intro p e s m args below meth c s₁ B hml hv_
  obtain ⟨rfl, hsz, hP, hK, hD0⟩ := hv_
  have hx := B.exec
  have hb := B.bytes
  have hr := B.returns
  have hts := atoms_spec (ws := ws_ yX0_supposeDifferent cX0_supposeDifferent 3 (some .int)) B.pre
  have hts : ∀ w ∈ lw_all, w.before _ s = true := fun w h => hts w (List.mem_cons_of_mem _ h)
  have hown : s.vm.findClass RX0 = some m.cls := findClass_of_methodNamed B.named
  have hlocks := B.notSynchronized
  subst hsz
  have hD := kA_kb (sz := s.heap.size) hD0
  have hA : ∀ q : Nat, kA h0 hv hm s.heap.size q → kA h0 hv hm s.heap.size q := fun _ h => h
  generalize hAe : kA h0 hv hm s.heap.size = A at hD ⊢
  have hA : ∀ q : Nat, kA h0 hv hm s.heap.size q → A q := fun q h => by rw [← hAe]; exact h
  have hS : va_S A s.heap s.heap [] := va_S.rf
  have hP : va_P (dC, dI) vwCl (kbW h0 hv hm d1 d2 V M nv nm) s.heap := hP
  have hl := lv_entry ([.ref h0, .int p0, .int p1]) (n := 3) (Nat.le_of_ble_eq_true rfl)
  rw [lg_entry_eq]
  generalize (lg_sl ([.ref h0, .int p0, .int p1]) ++ List.replicate (3 - (lg_sl ([.ref h0, .int p0, .int p1])).length) Slot.unset).toArray = ls at hl ⊢
  have hl : lv_has ls 3 [(0, .ref h0), (1, .int p0), (2, .int p1)] := hl
  refine lv_aload_n hx hb dX0_supposeDifferent_0 rfl (lv_at hl 0 rfl) ?_
  refine va_get (D := (dC, dI)) (ci := 0) (v := .ref hm) (C := RX0) (T := TX0) (N := 4) hx hb hts in_X0 hown hK hP 0 rfl rfl 1 (by decide) (hts _ q27) (fun _ h9 => h9) rfl dX0_supposeDifferent_1 ?_
  refine lv_iload_n hx hb dX0_supposeDifferent_4 rfl (lv_at hl 1 rfl) ?_
  refine va_iald hx hb hK hP 2 1 rfl rfl g0 dX0_supposeDifferent_5 ?_
  refine lv_if_ne (tgt := 40) hx hb dX0_supposeDifferent_6 (by decide) (fun c_1 => ?_) (fun c_1 => ?_)
  · refine lv_aload_n hx hb dX0_supposeDifferent_40 rfl (lv_at hl 0 rfl) ?_
    refine va_get (D := (dC, dI)) (ci := 0) (v := .ref hm) (C := RX0) (T := TX0) (N := 4) hx hb hts in_X0 hown hK hP 0 rfl rfl 1 (by decide) (hts _ q27) (fun _ h9 => h9) rfl dX0_supposeDifferent_41 ?_
    refine lv_iload_n hx hb dX0_supposeDifferent_44 rfl (lv_at hl 2 rfl) ?_
    refine va_iald hx hb hK hP 2 1 rfl rfl g1 dX0_supposeDifferent_45 ?_
    refine lv_if_ne (tgt := 63) hx hb dX0_supposeDifferent_46 (by decide) (fun c_2 => ?_) (fun c_2 => ?_)
    · refine lv_aload_n hx hb dX0_supposeDifferent_63 rfl (lv_at hl 0 rfl) ?_
      refine va_get (D := (dC, dI)) (ci := 0) (v := .ref hm) (C := RX0) (T := TX0) (N := 4) hx hb hts in_X0 hown hK hP 0 rfl rfl 1 (by decide) (hts _ q27) (fun _ h9 => h9) rfl dX0_supposeDifferent_64 ?_
      refine lv_iload_n hx hb dX0_supposeDifferent_67 rfl (lv_at hl 1 rfl) ?_
      refine va_iald hx hb hK hP 2 1 rfl rfl g0 dX0_supposeDifferent_68 ?_
      refine lv_if_ne (tgt := 83) hx hb dX0_supposeDifferent_69 (by decide) (fun c_3 => ?_) (fun c_3 => absurd c_3 c_1)
      refine lv_iconst (v := 0) hx hb dX0_supposeDifferent_83 (by decide +kernel) ?_
      exact W.iret (v := 0) hx hb hr (fun t ht hW => ⟨⟨0, (V, M, nv, nm), rfl, (by first | rfl | (simp only [kSd, kSd2, if_neg c_1, if_neg c_2]; done) | (simp only [kSd, kSd2, if_neg c_1, if_neg c_2]; rfl)), by rw [ht]; exact hP, va_K.moved hW.alike hK, hD⟩, hS.F ht⟩) hS.2.2 dX0_supposeDifferent_84
    · refine lv_aload_n hx hb dX0_supposeDifferent_49 rfl (lv_at hl 0 rfl) ?_
      refine lv_iload_n hx hb dX0_supposeDifferent_50 rfl (lv_at hl 1 rfl) ?_
      refine lv_aload_n hx hb dX0_supposeDifferent_51 rfl (lv_at hl 0 rfl) ?_
      refine va_get (D := (dC, dI)) (ci := 0) (v := .ref hv) (C := RX0) (T := TX0) (N := 4) hx hb hts in_X0 hown hK hP 0 rfl rfl 0 (by decide) (hts _ q26) (fun _ h9 => h9) rfl dX0_supposeDifferent_52 ?_
      refine lv_iload_n hx hb dX0_supposeDifferent_55 rfl (lv_at hl 2 rfl) ?_
      refine va_iald hx hb hK hP 1 0 rfl rfl g1 dX0_supposeDifferent_56 ?_
      have hFc := kb_free hA hS
      refine va_callv (va_runV (As := [.int p0, .int (V p1.toNatClampNeg)]) (rest := []) ⟨hx, hb, hml, hown, hts⟩ (metX0_takeOut l dC dI h0 hv hm d1 d2 s.heap.size V M nv nm p0 (V p1.toNatClampNeg) g0) (cwV 2 hts (lw_V q99 q101 qs8 q16 q102) rfl rfl rfl (by decide +kernel) ⟨Nat.le_of_ble_eq_true rfl, Nat.le_of_ble_eq_true rfl⟩) ⟨kb_blindW, va_recv hK hP (ci := 0) (q0 := 0) rfl rfl, fun U hU hW => ⟨rfl, by rw [hU], by rw [hU]; exact hP, va_K.moved hW.alike hK, hD.weaken (fun _ _ _ _ => trivial)⟩⟩ rfl rfl hl.1 rfl (lv_room (Nat.le_of_ble_eq_true rfl)) dX0_supposeDifferent_57 ⟨Nat.le_of_ble_eq_true rfl, Nat.le_of_ble_eq_true rfl⟩) hS (fun q _ h => hFc q h) hFc (fun u t H locs ht hvm hw_4 hB hz1 hk1 hS => ?_)
      subst hw_4
      obtain ⟨hP, hK1, hD1⟩ := hB
      rw [ht] at hP
      have hP : va_P (dC, dI) vwCl (kbW h0 hv hm d1 d2 (kTkV V M p0 (V p1.toNatClampNeg)) (kTkM V M p0 (V p1.toNatClampNeg)) nv nm) H := hP
      have hD : va_D A (kbW h0 hv hm d1 d2 (kTkV V M p0 (V p1.toNatClampNeg)) (kTkM V M p0 (V p1.toNatClampNeg)) nv nm) := hD1.weaken (fun _ _ _ h => hFc _ h)
      refine lv_goto (tgt := 83) hx hb dX0_supposeDifferent_60 (by decide) ?_
      refine lv_iconst (v := 0) hx hb dX0_supposeDifferent_83 (by decide +kernel) ?_
      exact W.iret (v := 0) hx hb hr (fun t ht hW => ⟨⟨0, (kTkV V M p0 (V p1.toNatClampNeg), kTkM V M p0 (V p1.toNatClampNeg), nv, nm), rfl, (by first | rfl | (simp only [kSd, kSd2, if_neg c_1, if_pos c_2]; done) | (simp only [kSd, kSd2, if_neg c_1, if_pos c_2]; rfl)), by rw [ht]; exact hP, va_K.moved hW.alike hK, hD⟩, hS.F ht⟩) hS.2.2 dX0_supposeDifferent_84
  · refine lv_aload_n hx hb dX0_supposeDifferent_9 rfl (lv_at hl 0 rfl) ?_
    refine va_get (D := (dC, dI)) (ci := 0) (v := .ref hm) (C := RX0) (T := TX0) (N := 4) hx hb hts in_X0 hown hK hP 0 rfl rfl 1 (by decide) (hts _ q27) (fun _ h9 => h9) rfl dX0_supposeDifferent_10 ?_
    refine lv_iload_n hx hb dX0_supposeDifferent_13 rfl (lv_at hl 2 rfl) ?_
    refine va_iald hx hb hK hP 2 1 rfl rfl g1 dX0_supposeDifferent_14 ?_
    refine lv_if_ne (tgt := 40) hx hb dX0_supposeDifferent_15 (by decide) (fun c_5 => ?_) (fun c_5 => ?_)
    · refine lv_aload_n hx hb dX0_supposeDifferent_40 rfl (lv_at hl 0 rfl) ?_
      refine va_get (D := (dC, dI)) (ci := 0) (v := .ref hm) (C := RX0) (T := TX0) (N := 4) hx hb hts in_X0 hown hK hP 0 rfl rfl 1 (by decide) (hts _ q27) (fun _ h9 => h9) rfl dX0_supposeDifferent_41 ?_
      refine lv_iload_n hx hb dX0_supposeDifferent_44 rfl (lv_at hl 2 rfl) ?_
      refine va_iald hx hb hK hP 2 1 rfl rfl g1 dX0_supposeDifferent_45 ?_
      refine lv_if_ne (tgt := 63) hx hb dX0_supposeDifferent_46 (by decide) (fun c_6 => ?_) (fun c_6 => absurd c_6 c_5)
      refine lv_aload_n hx hb dX0_supposeDifferent_63 rfl (lv_at hl 0 rfl) ?_
      refine va_get (D := (dC, dI)) (ci := 0) (v := .ref hm) (C := RX0) (T := TX0) (N := 4) hx hb hts in_X0 hown hK hP 0 rfl rfl 1 (by decide) (hts _ q27) (fun _ h9 => h9) rfl dX0_supposeDifferent_64 ?_
      refine lv_iload_n hx hb dX0_supposeDifferent_67 rfl (lv_at hl 1 rfl) ?_
      refine va_iald hx hb hK hP 2 1 rfl rfl g0 dX0_supposeDifferent_68 ?_
      refine lv_if_ne (tgt := 83) hx hb dX0_supposeDifferent_69 (by decide) (fun c_7 => absurd c_1 c_7) (fun c_7 => ?_)
      refine lv_aload_n hx hb dX0_supposeDifferent_72 rfl (lv_at hl 0 rfl) ?_
      refine lv_iload_n hx hb dX0_supposeDifferent_73 rfl (lv_at hl 2 rfl) ?_
      refine lv_aload_n hx hb dX0_supposeDifferent_74 rfl (lv_at hl 0 rfl) ?_
      refine va_get (D := (dC, dI)) (ci := 0) (v := .ref hv) (C := RX0) (T := TX0) (N := 4) hx hb hts in_X0 hown hK hP 0 rfl rfl 0 (by decide) (hts _ q26) (fun _ h9 => h9) rfl dX0_supposeDifferent_75 ?_
      refine lv_iload_n hx hb dX0_supposeDifferent_78 rfl (lv_at hl 1 rfl) ?_
      refine va_iald hx hb hK hP 1 0 rfl rfl g0 dX0_supposeDifferent_79 ?_
      have hFc := kb_free hA hS
      refine va_callv (va_runV (As := [.int p1, .int (V p0.toNatClampNeg)]) (rest := []) ⟨hx, hb, hml, hown, hts⟩ (metX0_takeOut l dC dI h0 hv hm d1 d2 s.heap.size V M nv nm p1 (V p0.toNatClampNeg) g1) (cwV 2 hts (lw_V q99 q101 qs8 q16 q102) rfl rfl rfl (by decide +kernel) ⟨Nat.le_of_ble_eq_true rfl, Nat.le_of_ble_eq_true rfl⟩) ⟨kb_blindW, va_recv hK hP (ci := 0) (q0 := 0) rfl rfl, fun U hU hW => ⟨rfl, by rw [hU], by rw [hU]; exact hP, va_K.moved hW.alike hK, hD.weaken (fun _ _ _ _ => trivial)⟩⟩ rfl rfl hl.1 rfl (lv_room (Nat.le_of_ble_eq_true rfl)) dX0_supposeDifferent_80 ⟨Nat.le_of_ble_eq_true rfl, Nat.le_of_ble_eq_true rfl⟩) hS (fun q _ h => hFc q h) hFc (fun u t H locs ht hvm hw_8 hB hz1 hk1 hS => ?_)
      subst hw_8
      obtain ⟨hP, hK1, hD1⟩ := hB
      rw [ht] at hP
      have hP : va_P (dC, dI) vwCl (kbW h0 hv hm d1 d2 (kTkV V M p1 (V p0.toNatClampNeg)) (kTkM V M p1 (V p0.toNatClampNeg)) nv nm) H := hP
      have hD : va_D A (kbW h0 hv hm d1 d2 (kTkV V M p1 (V p0.toNatClampNeg)) (kTkM V M p1 (V p0.toNatClampNeg)) nv nm) := hD1.weaken (fun _ _ _ h => hFc _ h)
      refine lv_iconst (v := 0) hx hb dX0_supposeDifferent_83 (by decide +kernel) ?_
      exact W.iret (v := 0) hx hb hr (fun t ht hW => ⟨⟨0, (kTkV V M p1 (V p0.toNatClampNeg), kTkM V M p1 (V p0.toNatClampNeg), nv, nm), rfl, (by first | rfl | (simp only [kSd, kSd2, if_pos c_1, if_neg c_5]; done) | (simp only [kSd, kSd2, if_pos c_1, if_neg c_5]; rfl)), by rw [ht]; exact hP, va_K.moved hW.alike hK, hD⟩, hS.F ht⟩) hS.2.2 dX0_supposeDifferent_84
    · refine lv_aload_n hx hb dX0_supposeDifferent_18 rfl (lv_at hl 0 rfl) ?_
      refine va_get (D := (dC, dI)) (ci := 0) (v := .ref hv) (C := RX0) (T := TX0) (N := 4) hx hb hts in_X0 hown hK hP 0 rfl rfl 0 (by decide) (hts _ q26) (fun _ h9 => h9) rfl dX0_supposeDifferent_19 ?_
      refine lv_iload_n hx hb dX0_supposeDifferent_22 rfl (lv_at hl 1 rfl) ?_
      refine va_iald hx hb hK hP 1 0 rfl rfl g0 dX0_supposeDifferent_23 ?_
      refine lv_aload_n hx hb dX0_supposeDifferent_24 rfl (lv_at hl 0 rfl) ?_
      refine va_get (D := (dC, dI)) (ci := 0) (v := .ref hv) (C := RX0) (T := TX0) (N := 4) hx hb hts in_X0 hown hK hP 0 rfl rfl 0 (by decide) (hts _ q26) (fun _ h9 => h9) rfl dX0_supposeDifferent_25 ?_
      refine lv_iload_n hx hb dX0_supposeDifferent_28 rfl (lv_at hl 2 rfl) ?_
      refine va_iald hx hb hK hP 1 0 rfl rfl g1 dX0_supposeDifferent_29 ?_
      refine lv_icmp_ne (tgt := 38) hx hb dX0_supposeDifferent_30 (by decide) (fun c_9 => ?_) (fun c_9 => ?_)
      · refine lv_iconst (v := 0) hx hb dX0_supposeDifferent_38 (by decide +kernel) ?_
        exact W.iret (v := 0) hx hb hr (fun t ht hW => ⟨⟨0, (V, M, nv, nm), rfl, (by first | rfl | (simp only [kSd, kSd2, if_pos c_1, if_pos c_5, if_neg c_9]; done) | (simp only [kSd, kSd2, if_pos c_1, if_pos c_5, if_neg c_9]; rfl)), by rw [ht]; exact hP, va_K.moved hW.alike hK, hD⟩, hS.F ht⟩) hS.2.2 dX0_supposeDifferent_39
      · refine lv_bipush (v := (-2)) hx hb dX0_supposeDifferent_33 (by decide +kernel) ?_
        refine lv_goto (tgt := 39) hx hb dX0_supposeDifferent_35 (by decide) ?_
        exact W.iret (v := (-2)) hx hb hr (fun t ht hW => ⟨⟨(-2), (V, M, nv, nm), rfl, (by first | rfl | (simp only [kSd, kSd2, if_pos c_1, if_pos c_5, if_pos c_9]; done) | (simp only [kSd, kSd2, if_pos c_1, if_pos c_5, if_pos c_9]; rfl)), by rw [ht]; exact hP, va_K.moved hW.alike hK, hD⟩, hS.F ht⟩) hS.2.2 dX0_supposeDifferent_39

set_option maxHeartbeats 4000000 in
set_option maxRecDepth 100000 in
/-- suppose -/
theorem metX0_suppose (l : Launch) (dC : Nat → ClassId) (dI : Nat → Nat → Nat) (h0 hv hm : Nat) (d1 d2 : ClassId) (sz : Nat) (V M : kF) (nv nm : Int32) (p0 : Int32) (p1 : Int32) (p2 : Int32) : Met l yX0_suppose (ws_ yX0_suppose cX0_suppose 5 (some .int)) ({ frames := 3, cells := 0, slots := 0, locals := 85 }) (va_Pc [.ref h0, .int p0, .int p1, .int p2] (kbP (dC, dI) (kTy d1 d2) (kbW h0 hv hm d1 d2 V M nv nm) sz)) (va_Qi (fun (r : Int32) (u : kSt) => (r, u.1, u.2.1) = kOpU V M p0 p1 p2) (kbB dC dI (kA h0 hv hm sz) h0 hv hm d1 d2) (kA h0 hv hm sz)) 0 0 (kA h0 hv hm sz) := by
  refine Met.ofW (cc := cX0_suppose) (maxL := 5) (ret := (some .int)) (by decide) rfl ?_
  intro p e s m args below meth c s₁ B hml hv_
  obtain ⟨rfl, hsz, hP, hK, hD0⟩ := hv_
  have hx := B.exec
  have hb := B.bytes
  have hr := B.returns
  have hts := atoms_spec (ws := ws_ yX0_suppose cX0_suppose 5 (some .int)) B.pre
  have hts : ∀ w ∈ lw_all, w.before _ s = true := fun w h => hts w (List.mem_cons_of_mem _ h)
  have hown : s.vm.findClass RX0 = some m.cls := findClass_of_methodNamed B.named
  have hlocks := B.notSynchronized
  subst hsz
  have hD := kA_kb (sz := s.heap.size) hD0
  have hA : ∀ q : Nat, kA h0 hv hm s.heap.size q → kA h0 hv hm s.heap.size q := fun _ h => h
  generalize hAe : kA h0 hv hm s.heap.size = A at hD ⊢
  have hA : ∀ q : Nat, kA h0 hv hm s.heap.size q → A q := fun q h => by rw [← hAe]; exact h
  have hS : va_S A s.heap s.heap [] := va_S.rf
  have hP : va_P (dC, dI) vwCl (kbW h0 hv hm d1 d2 V M nv nm) s.heap := hP
  have hl := lv_entry ([.ref h0, .int p0, .int p1, .int p2]) (n := 5) (Nat.le_of_ble_eq_true rfl)
  rw [lg_entry_eq]
  generalize (lg_sl ([.ref h0, .int p0, .int p1, .int p2]) ++ List.replicate (5 - (lg_sl ([.ref h0, .int p0, .int p1, .int p2])).length) Slot.unset).toArray = ls at hl ⊢
  have hl : lv_has ls 5 [(0, .ref h0), (1, .int p0), (2, .int p1), (3, .int p2)] := hl
  refine lv_iload_n hx hb dX0_suppose_0 rfl (lv_at hl 1 rfl) ?_
  refine vp_callSi (W.runS (As := [.int p0]) (rest := []) ⟨hx, hb, hml, hown, hts⟩ (metX0_isRegister l p0) (va_cwS 1 hts (lw_S q44 q45 q16 q46) rfl rfl rfl (by decide +kernel) ⟨Nat.le_of_ble_eq_true rfl, Nat.le_of_ble_eq_true rfl⟩) ⟨fun _ _ _ _ q => q, fun U hU hW => ⟨rfl, trivial⟩⟩ rfl rfl hl.1 rfl (lv_room (Nat.le_of_ble_eq_true rfl)) dX0_suppose_1 ⟨Nat.le_of_ble_eq_true rfl, Nat.le_of_ble_eq_true rfl⟩) (fun r_1 hr_2 => ?_)
  refine lv_if_eq (tgt := 28) hx hb dX0_suppose_4 (by decide) (fun c_3 => ?_) (fun c_3 => ?_)
  · have g_4 := kb_tf hr_2 c_3
    refine lv_iconst (v := (-1)) hx hb dX0_suppose_28 (by decide +kernel) ?_
    exact W.iret (v := (-1)) hx hb hr (fun t ht hW => ⟨⟨(-1), (V, M, nv, nm), rfl, (by first | rfl | (simp only [kOpU, if_neg g_4]; done) | (simp only [kOpU, if_neg g_4]; rfl)), by rw [ht]; exact hP, va_K.moved hW.alike hK, hD⟩, hS.F ht⟩) hS.2.2 dX0_suppose_29
  · have g_5 := kb_tt hr_2 c_3
    refine lv_iload_n hx hb dX0_suppose_7 rfl (lv_at hl 3 rfl) ?_
    refine vp_callSi (W.runS (As := [.int p2]) (rest := []) ⟨hx, hb, hml, hown, hts⟩ (metX0_isRegister l p2) (va_cwS 1 hts (lw_S q44 q45 q16 q46) rfl rfl rfl (by decide +kernel) ⟨Nat.le_of_ble_eq_true rfl, Nat.le_of_ble_eq_true rfl⟩) ⟨fun _ _ _ _ q => q, fun U hU hW => ⟨rfl, trivial⟩⟩ rfl rfl hl.1 rfl (lv_room (Nat.le_of_ble_eq_true rfl)) dX0_suppose_8 ⟨Nat.le_of_ble_eq_true rfl, Nat.le_of_ble_eq_true rfl⟩) (fun r_6 hr_7 => ?_)
    refine lv_if_eq (tgt := 28) hx hb dX0_suppose_11 (by decide) (fun c_8 => ?_) (fun c_8 => ?_)
    · have g_9 := kb_tf hr_7 c_8
      refine lv_iconst (v := (-1)) hx hb dX0_suppose_28 (by decide +kernel) ?_
      exact W.iret (v := (-1)) hx hb hr (fun t ht hW => ⟨⟨(-1), (V, M, nv, nm), rfl, (by first | rfl | (simp only [kOpU, if_pos g_5, if_neg g_9]; done) | (simp only [kOpU, if_pos g_5, if_neg g_9]; rfl)), by rw [ht]; exact hP, va_K.moved hW.alike hK, hD⟩, hS.F ht⟩) hS.2.2 dX0_suppose_29
    · have g_10 := kb_tt hr_7 c_8
      refine lv_iload_n hx hb dX0_suppose_14 rfl (lv_at hl 2 rfl) ?_
      refine lv_if_lt (tgt := 28) hx hb dX0_suppose_15 (by decide) (fun c_11 => ?_) (fun c_11 => ?_)
      · refine lv_iconst (v := (-1)) hx hb dX0_suppose_28 (by decide +kernel) ?_
        exact W.iret (v := (-1)) hx hb hr (fun t ht hW => ⟨⟨(-1), (V, M, nv, nm), rfl, (by first | rfl | (simp only [kOpU, if_pos g_5, if_pos g_10, if_pos c_11]; done) | (simp only [kOpU, if_pos g_5, if_pos g_10, if_pos c_11]; rfl)), by rw [ht]; exact hP, va_K.moved hW.alike hK, hD⟩, hS.F ht⟩) hS.2.2 dX0_suppose_29
      · refine lv_iload_n hx hb dX0_suppose_18 rfl (lv_at hl 2 rfl) ?_
        refine lv_iconst (v := 5) hx hb dX0_suppose_19 (by decide +kernel) ?_
        refine lv_icmp_gt (tgt := 28) hx hb dX0_suppose_20 (by decide) (fun c_12 => ?_) (fun c_12 => ?_)
        · refine lv_iconst (v := (-1)) hx hb dX0_suppose_28 (by decide +kernel) ?_
          exact W.iret (v := (-1)) hx hb hr (fun t ht hW => ⟨⟨(-1), (V, M, nv, nm), rfl, (by first | rfl | (simp only [kOpU, if_pos g_5, if_pos g_10, if_neg c_11, if_pos c_12]; done) | (simp only [kOpU, if_pos g_5, if_pos g_10, if_neg c_11, if_pos c_12]; rfl)), by rw [ht]; exact hP, va_K.moved hW.alike hK, hD⟩, hS.F ht⟩) hS.2.2 dX0_suppose_29
        · refine lv_iload_n hx hb dX0_suppose_23 rfl (lv_at hl 1 rfl) ?_
          refine lv_iload_n hx hb dX0_suppose_24 rfl (lv_at hl 3 rfl) ?_
          refine lv_icmp_ne (tgt := 30) hx hb dX0_suppose_25 (by decide) (fun c_13 => ?_) (fun c_13 => ?_)
          · refine lv_iload_n hx hb dX0_suppose_30 rfl (lv_at hl 2 rfl) ?_
            refine lv_if_ne (tgt := 77) hx hb dX0_suppose_31 (by decide) (fun c_14 => ?_) (fun c_14 => ?_)
            · refine lv_iload_n hx hb dX0_suppose_77 rfl (lv_at hl 2 rfl) ?_
              refine lv_iconst (v := 1) hx hb dX0_suppose_78 (by decide +kernel) ?_
              refine lv_icmp_eq (tgt := 87) hx hb dX0_suppose_79 (by decide) (fun c_15 => ?_) (fun c_15 => ?_)
              · refine lv_aload_n hx hb dX0_suppose_87 rfl (lv_at hl 0 rfl) ?_
                refine lv_iload_n hx hb dX0_suppose_88 rfl (lv_at hl 1 rfl) ?_
                refine lv_iload_n hx hb dX0_suppose_89 rfl (lv_at hl 3 rfl) ?_
                refine lv_iload_n hx hb dX0_suppose_90 rfl (lv_at hl 2 rfl) ?_
                refine lv_iconst (v := 1) hx hb dX0_suppose_91 (by decide +kernel) ?_
                refine lv_icmp_ne (tgt := 99) hx hb dX0_suppose_92 (by decide) (fun c_16 => absurd c_15 c_16) (fun c_16 => ?_)
                refine lv_iconst (v := 1) hx hb dX0_suppose_95 (by decide +kernel) ?_
                refine lv_goto (tgt := 100) hx hb dX0_suppose_96 (by decide) ?_
                have hFc := kb_free hA hS
                refine va_calli (va_runV (As := [.int p0, .int p2, .int 1]) (rest := []) ⟨hx, hb, hml, hown, hts⟩ (metX0_supposeOrder l dC dI h0 hv hm d1 d2 s.heap.size V M nv nm p0 p2 1 (kR_in g_5) (kR_in g_10)) (cwV 3 hts (lw_V q87 q89 qs5 q16 q90) rfl rfl rfl (by decide +kernel) ⟨Nat.le_of_ble_eq_true rfl, Nat.le_of_ble_eq_true rfl⟩) ⟨kb_blindW, va_recv hK hP (ci := 0) (q0 := 0) rfl rfl, fun U hU hW => ⟨rfl, by rw [hU], by rw [hU]; exact hP, va_K.moved hW.alike hK, hD.weaken (fun _ _ _ _ => trivial)⟩⟩ rfl rfl hl.1 rfl (lv_room (Nat.le_of_ble_eq_true rfl)) dX0_suppose_100 ⟨Nat.le_of_ble_eq_true rfl, Nat.le_of_ble_eq_true rfl⟩) hS (fun q _ h => hFc q h) hFc (fun r_17 u t H locs ht hvm hw_18 hB hz1 hk1 hS => ?_)
                obtain ⟨V_19, M_19, nv_19, nm_19⟩ := u
                obtain ⟨hP, hK1, hD1⟩ := hB
                rw [ht] at hP
                have hP : va_P (dC, dI) vwCl (kbW h0 hv hm d1 d2 V_19 M_19 nv_19 nm_19) H := hP
                have hD : va_D A (kbW h0 hv hm d1 d2 V_19 M_19 nv_19 nm_19) := hD1.weaken (fun _ _ _ h => hFc _ h)
                exact W.iret (v := r_17) hx hb hr (fun t ht hW => ⟨⟨r_17, (V_19, M_19, nv_19, nm_19), rfl, (by simp only [kOpU, if_pos g_5, if_pos g_10, if_neg c_11, if_neg c_12, if_neg c_13, if_neg c_14, if_pos c_15]; exact hw_18), by rw [ht]; exact hP, va_K.moved hW.alike hK, hD⟩, hS.F ht⟩) hS.2.2 dX0_suppose_103
              · refine lv_iload_n hx hb dX0_suppose_82 rfl (lv_at hl 2 rfl) ?_
                refine lv_iconst (v := 2) hx hb dX0_suppose_83 (by decide +kernel) ?_
                refine lv_icmp_ne (tgt := 104) hx hb dX0_suppose_84 (by decide) (fun c_20 => ?_) (fun c_20 => ?_)
                · refine lv_iload_n hx hb dX0_suppose_104 rfl (lv_at hl 2 rfl) ?_
                  refine lv_iconst (v := 3) hx hb dX0_suppose_105 (by decide +kernel) ?_
                  refine lv_icmp_ne (tgt := 116) hx hb dX0_suppose_106 (by decide) (fun c_21 => ?_) (fun c_21 => ?_)
                  · refine lv_aload_n hx hb dX0_suppose_116 rfl (lv_at hl 0 rfl) ?_
                    refine lv_iload_n hx hb dX0_suppose_117 rfl (lv_at hl 3 rfl) ?_
                    refine lv_iload_n hx hb dX0_suppose_118 rfl (lv_at hl 1 rfl) ?_
                    refine lv_iload_n hx hb dX0_suppose_119 rfl (lv_at hl 2 rfl) ?_
                    refine lv_iconst (v := 5) hx hb dX0_suppose_120 (by decide +kernel) ?_
                    refine lv_icmp_ne (tgt := 128) hx hb dX0_suppose_121 (by decide) (fun c_22 => ?_) (fun c_22 => ?_)
                    · refine lv_iconst (v := 0) hx hb dX0_suppose_128 (by decide +kernel) ?_
                      have hFc := kb_free hA hS
                      refine va_calli (va_runV (As := [.int p2, .int p0, .int 0]) (rest := []) ⟨hx, hb, hml, hown, hts⟩ (metX0_supposeOrder l dC dI h0 hv hm d1 d2 s.heap.size V M nv nm p2 p0 0 (kR_in g_10) (kR_in g_5)) (cwV 3 hts (lw_V q87 q89 qs5 q16 q90) rfl rfl rfl (by decide +kernel) ⟨Nat.le_of_ble_eq_true rfl, Nat.le_of_ble_eq_true rfl⟩) ⟨kb_blindW, va_recv hK hP (ci := 0) (q0 := 0) rfl rfl, fun U hU hW => ⟨rfl, by rw [hU], by rw [hU]; exact hP, va_K.moved hW.alike hK, hD.weaken (fun _ _ _ _ => trivial)⟩⟩ rfl rfl hl.1 rfl (lv_room (Nat.le_of_ble_eq_true rfl)) dX0_suppose_129 ⟨Nat.le_of_ble_eq_true rfl, Nat.le_of_ble_eq_true rfl⟩) hS (fun q _ h => hFc q h) hFc (fun r_23 u t H locs ht hvm hw_24 hB hz1 hk1 hS => ?_)
                      obtain ⟨V_25, M_25, nv_25, nm_25⟩ := u
                      obtain ⟨hP, hK1, hD1⟩ := hB
                      rw [ht] at hP
                      have hP : va_P (dC, dI) vwCl (kbW h0 hv hm d1 d2 V_25 M_25 nv_25 nm_25) H := hP
                      have hD : va_D A (kbW h0 hv hm d1 d2 V_25 M_25 nv_25 nm_25) := hD1.weaken (fun _ _ _ h => hFc _ h)
                      exact W.iret (v := r_23) hx hb hr (fun t ht hW => ⟨⟨r_23, (V_25, M_25, nv_25, nm_25), rfl, (by simp only [kOpU, if_pos g_5, if_pos g_10, if_neg c_11, if_neg c_12, if_neg c_13, if_neg c_14, if_neg c_15, if_neg c_20, if_neg c_21, if_neg c_22]; exact hw_24), by rw [ht]; exact hP, va_K.moved hW.alike hK, hD⟩, hS.F ht⟩) hS.2.2 dX0_suppose_132
                    · refine lv_iconst (v := 1) hx hb dX0_suppose_124 (by decide +kernel) ?_
                      refine lv_goto (tgt := 129) hx hb dX0_suppose_125 (by decide) ?_
                      have hFc := kb_free hA hS
                      refine va_calli (va_runV (As := [.int p2, .int p0, .int 1]) (rest := []) ⟨hx, hb, hml, hown, hts⟩ (metX0_supposeOrder l dC dI h0 hv hm d1 d2 s.heap.size V M nv nm p2 p0 1 (kR_in g_10) (kR_in g_5)) (cwV 3 hts (lw_V q87 q89 qs5 q16 q90) rfl rfl rfl (by decide +kernel) ⟨Nat.le_of_ble_eq_true rfl, Nat.le_of_ble_eq_true rfl⟩) ⟨kb_blindW, va_recv hK hP (ci := 0) (q0 := 0) rfl rfl, fun U hU hW => ⟨rfl, by rw [hU], by rw [hU]; exact hP, va_K.moved hW.alike hK, hD.weaken (fun _ _ _ _ => trivial)⟩⟩ rfl rfl hl.1 rfl (lv_room (Nat.le_of_ble_eq_true rfl)) dX0_suppose_129 ⟨Nat.le_of_ble_eq_true rfl, Nat.le_of_ble_eq_true rfl⟩) hS (fun q _ h => hFc q h) hFc (fun r_26 u t H locs ht hvm hw_27 hB hz1 hk1 hS => ?_)
                      obtain ⟨V_28, M_28, nv_28, nm_28⟩ := u
                      obtain ⟨hP, hK1, hD1⟩ := hB
                      rw [ht] at hP
                      have hP : va_P (dC, dI) vwCl (kbW h0 hv hm d1 d2 V_28 M_28 nv_28 nm_28) H := hP
                      have hD : va_D A (kbW h0 hv hm d1 d2 V_28 M_28 nv_28 nm_28) := hD1.weaken (fun _ _ _ h => hFc _ h)
                      exact W.iret (v := r_26) hx hb hr (fun t ht hW => ⟨⟨r_26, (V_28, M_28, nv_28, nm_28), rfl, (by simp only [kOpU, if_pos g_5, if_pos g_10, if_neg c_11, if_neg c_12, if_neg c_13, if_neg c_14, if_neg c_15, if_neg c_20, if_neg c_21, if_pos c_22]; exact hw_27), by rw [ht]; exact hP, va_K.moved hW.alike hK, hD⟩, hS.F ht⟩) hS.2.2 dX0_suppose_132
                  · refine lv_aload_n hx hb dX0_suppose_109 rfl (lv_at hl 0 rfl) ?_
                    refine lv_iload_n hx hb dX0_suppose_110 rfl (lv_at hl 1 rfl) ?_
                    refine lv_iload_n hx hb dX0_suppose_111 rfl (lv_at hl 3 rfl) ?_
                    have hFc := kb_free hA hS
                    refine va_calli (va_runV (As := [.int p0, .int p2]) (rest := []) ⟨hx, hb, hml, hown, hts⟩ (metX0_supposeDifferent l dC dI h0 hv hm d1 d2 s.heap.size V M nv nm p0 p2 (kR_in g_5) (kR_in g_10)) (cwV 2 hts (lw_V q95 q97 qs7 q16 q98) rfl rfl rfl (by decide +kernel) ⟨Nat.le_of_ble_eq_true rfl, Nat.le_of_ble_eq_true rfl⟩) ⟨kb_blindW, va_recv hK hP (ci := 0) (q0 := 0) rfl rfl, fun U hU hW => ⟨rfl, by rw [hU], by rw [hU]; exact hP, va_K.moved hW.alike hK, hD.weaken (fun _ _ _ _ => trivial)⟩⟩ rfl rfl hl.1 rfl (lv_room (Nat.le_of_ble_eq_true rfl)) dX0_suppose_112 ⟨Nat.le_of_ble_eq_true rfl, Nat.le_of_ble_eq_true rfl⟩) hS (fun q _ h => hFc q h) hFc (fun r_29 u t H locs ht hvm hw_30 hB hz1 hk1 hS => ?_)
                    obtain ⟨V_31, M_31, nv_31, nm_31⟩ := u
                    obtain ⟨hP, hK1, hD1⟩ := hB
                    rw [ht] at hP
                    have hP : va_P (dC, dI) vwCl (kbW h0 hv hm d1 d2 V_31 M_31 nv_31 nm_31) H := hP
                    have hD : va_D A (kbW h0 hv hm d1 d2 V_31 M_31 nv_31 nm_31) := hD1.weaken (fun _ _ _ h => hFc _ h)
                    exact W.iret (v := r_29) hx hb hr (fun t ht hW => ⟨⟨r_29, (V_31, M_31, nv_31, nm_31), rfl, (by simp only [kOpU, if_pos g_5, if_pos g_10, if_neg c_11, if_neg c_12, if_neg c_13, if_neg c_14, if_neg c_15, if_neg c_20, if_pos c_21]; exact hw_30), by rw [ht]; exact hP, va_K.moved hW.alike hK, hD⟩, hS.F ht⟩) hS.2.2 dX0_suppose_115
                · refine lv_aload_n hx hb dX0_suppose_87 rfl (lv_at hl 0 rfl) ?_
                  refine lv_iload_n hx hb dX0_suppose_88 rfl (lv_at hl 1 rfl) ?_
                  refine lv_iload_n hx hb dX0_suppose_89 rfl (lv_at hl 3 rfl) ?_
                  refine lv_iload_n hx hb dX0_suppose_90 rfl (lv_at hl 2 rfl) ?_
                  refine lv_iconst (v := 1) hx hb dX0_suppose_91 (by decide +kernel) ?_
                  refine lv_icmp_ne (tgt := 99) hx hb dX0_suppose_92 (by decide) (fun c_32 => ?_) (fun c_32 => absurd c_32 c_15)
                  refine lv_iconst (v := 0) hx hb dX0_suppose_99 (by decide +kernel) ?_
                  have hFc := kb_free hA hS
                  refine va_calli (va_runV (As := [.int p0, .int p2, .int 0]) (rest := []) ⟨hx, hb, hml, hown, hts⟩ (metX0_supposeOrder l dC dI h0 hv hm d1 d2 s.heap.size V M nv nm p0 p2 0 (kR_in g_5) (kR_in g_10)) (cwV 3 hts (lw_V q87 q89 qs5 q16 q90) rfl rfl rfl (by decide +kernel) ⟨Nat.le_of_ble_eq_true rfl, Nat.le_of_ble_eq_true rfl⟩) ⟨kb_blindW, va_recv hK hP (ci := 0) (q0 := 0) rfl rfl, fun U hU hW => ⟨rfl, by rw [hU], by rw [hU]; exact hP, va_K.moved hW.alike hK, hD.weaken (fun _ _ _ _ => trivial)⟩⟩ rfl rfl hl.1 rfl (lv_room (Nat.le_of_ble_eq_true rfl)) dX0_suppose_100 ⟨Nat.le_of_ble_eq_true rfl, Nat.le_of_ble_eq_true rfl⟩) hS (fun q _ h => hFc q h) hFc (fun r_33 u t H locs ht hvm hw_34 hB hz1 hk1 hS => ?_)
                  obtain ⟨V_35, M_35, nv_35, nm_35⟩ := u
                  obtain ⟨hP, hK1, hD1⟩ := hB
                  rw [ht] at hP
                  have hP : va_P (dC, dI) vwCl (kbW h0 hv hm d1 d2 V_35 M_35 nv_35 nm_35) H := hP
                  have hD : va_D A (kbW h0 hv hm d1 d2 V_35 M_35 nv_35 nm_35) := hD1.weaken (fun _ _ _ h => hFc _ h)
                  exact W.iret (v := r_33) hx hb hr (fun t ht hW => ⟨⟨r_33, (V_35, M_35, nv_35, nm_35), rfl, (by simp only [kOpU, if_pos g_5, if_pos g_10, if_neg c_11, if_neg c_12, if_neg c_13, if_neg c_14, if_neg c_15, if_pos c_20]; exact hw_34), by rw [ht]; exact hP, va_K.moved hW.alike hK, hD⟩, hS.F ht⟩) hS.2.2 dX0_suppose_103
            · refine lv_aload_n hx hb dX0_suppose_34 rfl (lv_at hl 0 rfl) ?_
              refine lv_iload_n hx hb dX0_suppose_35 rfl (lv_at hl 1 rfl) ?_
              refine lv_bipush (v := 6) hx hb dX0_suppose_36 (by decide +kernel) ?_
              refine lv_iload_n hx hb dX0_suppose_38 rfl (lv_at hl 1 rfl) ?_
              refine lv_iload_n hx hb dX0_suppose_39 rfl (lv_at hl 3 rfl) ?_
              have hFc := kb_free hA hS
              refine va_calli (va_runV (As := [.int p0, .int 6, .int p0, .int p2]) (rest := []) ⟨hx, hb, hml, hown, hts⟩ (metX0_combine l dC dI h0 hv hm d1 d2 s.heap.size V M nv nm p0 6 p0 p2) (cwV 4 hts (lw_V q86 q48 q49 q16 q50) rfl rfl rfl (by decide +kernel) ⟨Nat.le_of_ble_eq_true rfl, Nat.le_of_ble_eq_true rfl⟩) ⟨kb_blindW, va_recv hK hP (ci := 0) (q0 := 0) rfl rfl, fun U hU hW => ⟨rfl, by rw [hU], by rw [hU]; exact hP, va_K.moved hW.alike hK, hD.weaken (fun _ _ _ _ => trivial)⟩⟩ rfl rfl hl.1 rfl (lv_room (Nat.le_of_ble_eq_true rfl)) dX0_suppose_40 ⟨Nat.le_of_ble_eq_true rfl, Nat.le_of_ble_eq_true rfl⟩) hS (fun q _ h => hFc q h) hFc (fun r_36 u t H locs ht hvm hw_37 hB hz1 hk1 hS => ?_)
              obtain ⟨V_38, M_38, nv_38, nm_38⟩ := u
              obtain ⟨hP, hK1, hD1⟩ := hB
              rw [ht] at hP
              have hP : va_P (dC, dI) vwCl (kbW h0 hv hm d1 d2 V_38 M_38 nv_38 nm_38) H := hP
              have hD : va_D A (kbW h0 hv hm d1 d2 V_38 M_38 nv_38 nm_38) := hD1.weaken (fun _ _ _ h => hFc _ h)
              refine lv_istore (lv' := [(4, .int r_36), (0, .ref h0), (1, .int p0), (2, .int p1), (3, .int p2)]) hx hb dX0_suppose_43 hl (by decide) rfl (fun ls hl => ?_)
              refine lv_iload hx hb dX0_suppose_45 (lv_at hl 0 rfl) ?_
              refine lv_if_ne (tgt := 74) hx hb dX0_suppose_47 (by decide) (fun c_39 => ?_) (fun c_39 => ?_)
              · refine lv_iload hx hb dX0_suppose_74 (lv_at hl 0 rfl) ?_
                exact W.iret (v := r_36) hx hb hr (fun t ht hW => ⟨⟨r_36, (V_38, M_38, nv_38, nm_38), rfl, (by have q_ : (r_36, V_38, M_38) = kOpC V M p0 6 p0 p2 := hw_37; simp only [kOpU, if_pos g_5, if_pos g_10, if_neg c_11, if_neg c_12, if_neg c_13, if_pos c_14]; rw [kSe, ← q_]; exact (if_neg c_39).symm), by rw [ht]; exact hP, va_K.moved hW.alike hK, hD⟩, hS.F ht⟩) hS.2.2 dX0_suppose_76
              · refine lv_aload_n hx hb dX0_suppose_50 rfl (lv_at hl 1 rfl) ?_
                refine va_get (D := (dC, dI)) (ci := 0) (v := .ref hv) (C := RX0) (T := TX0) (N := 4) hx hb hts in_X0 hown hK hP 0 rfl rfl 0 (by decide) (hts _ q26) (fun _ h9 => h9) rfl dX0_suppose_51 ?_
                refine lv_iload_n hx hb dX0_suppose_54 rfl (lv_at hl 4 rfl) ?_
                refine lv_aload_n hx hb dX0_suppose_55 rfl (lv_at hl 1 rfl) ?_
                refine va_get (D := (dC, dI)) (ci := 0) (v := .ref hv) (C := RX0) (T := TX0) (N := 4) hx hb hts in_X0 hown hK hP 0 rfl rfl 0 (by decide) (hts _ q26) (fun _ h9 => h9) rfl dX0_suppose_56 ?_
                refine lv_iload_n hx hb dX0_suppose_59 rfl (lv_at hl 2 rfl) ?_
                refine va_iald hx hb hK hP 1 0 rfl rfl (kR_in g_5) dX0_suppose_60 ?_
                refine lv_topi (fun z_40 e_41 => ?_)
                refine va_iast hx hb hK hP hD hS 1 0 rfl rfl (kR_in g_10) dX0_suppose_61 (fun H locs hP hD hS => ?_)
                have hP : va_P (dC, dI) vwCl (kbW h0 hv hm d1 d2 (upd V_38 p2.toNatClampNeg z_40) M_38 nv_38 nm_38) H := hP
                have hD : va_D A (kbW h0 hv hm d1 d2 (upd V_38 p2.toNatClampNeg z_40) M_38 nv_38 nm_38) := hD
                refine lv_aload_n hx hb dX0_suppose_62 rfl (lv_at hl 1 rfl) ?_
                refine va_get (D := (dC, dI)) (ci := 0) (v := .ref hm) (C := RX0) (T := TX0) (N := 4) hx hb hts in_X0 hown hK hP 0 rfl rfl 1 (by decide) (hts _ q27) (fun _ h9 => h9) rfl dX0_suppose_63 ?_
                refine lv_iload_n hx hb dX0_suppose_66 rfl (lv_at hl 4 rfl) ?_
                refine lv_aload_n hx hb dX0_suppose_67 rfl (lv_at hl 1 rfl) ?_
                refine va_get (D := (dC, dI)) (ci := 0) (v := .ref hm) (C := RX0) (T := TX0) (N := 4) hx hb hts in_X0 hown hK hP 0 rfl rfl 1 (by decide) (hts _ q27) (fun _ h9 => h9) rfl dX0_suppose_68 ?_
                refine lv_iload_n hx hb dX0_suppose_71 rfl (lv_at hl 2 rfl) ?_
                refine va_iald hx hb hK hP 2 1 rfl rfl (kR_in g_5) dX0_suppose_72 ?_
                refine lv_topi (fun z_42 e_43 => ?_)
                refine va_iast hx hb hK hP hD hS 2 1 rfl rfl (kR_in g_10) dX0_suppose_73 (fun H locs hP hD hS => ?_)
                have hP : va_P (dC, dI) vwCl (kbW h0 hv hm d1 d2 (upd V_38 p2.toNatClampNeg z_40) (upd M_38 p2.toNatClampNeg z_42) nv_38 nm_38) H := hP
                have hD : va_D A (kbW h0 hv hm d1 d2 (upd V_38 p2.toNatClampNeg z_40) (upd M_38 p2.toNatClampNeg z_42) nv_38 nm_38) := hD
                refine lv_iload hx hb dX0_suppose_74 (lv_at hl 0 rfl) ?_
                exact W.iret (v := r_36) hx hb hr (fun t ht hW => ⟨⟨r_36, (upd V_38 p2.toNatClampNeg z_40, upd M_38 p2.toNatClampNeg z_42, nv_38, nm_38), rfl, (by subst e_41 e_43; have q_ : (r_36, V_38, M_38) = kOpC V M p0 6 p0 p2 := hw_37; simp only [kOpU, if_pos g_5, if_pos g_10, if_neg c_11, if_neg c_12, if_neg c_13, if_pos c_14]; rw [kSe, ← q_]; exact (if_pos c_39).symm), by rw [ht]; exact hP, va_K.moved hW.alike hK, hD⟩, hS.F ht⟩) hS.2.2 dX0_suppose_76
          · refine lv_iconst (v := (-1)) hx hb dX0_suppose_28 (by decide +kernel) ?_
            exact W.iret (v := (-1)) hx hb hr (fun t ht hW => ⟨⟨(-1), (V, M, nv, nm), rfl, (by first | rfl | (simp only [kOpU, if_pos g_5, if_pos g_10, if_neg c_11, if_neg c_12, if_pos c_13]; done) | (simp only [kOpU, if_pos g_5, if_pos g_10, if_neg c_11, if_neg c_12, if_pos c_13]; rfl)), by rw [ht]; exact hP, va_K.moved hW.alike hK, hD⟩, hS.F ht⟩) hS.2.2 dX0_suppose_29
end
section
set_option maxHeartbeats 4000000 in
set_option maxRecDepth 100000 in
/-- compareEqual -/
theorem metX0_compareEqual (l : Launch) (dC : Nat → ClassId) (dI : Nat → Nat → Nat) (h0 hv hm : Nat) (d1 d2 : ClassId) (V M : kF) (nv nm : Int32) (p0 : Int32) (p1 : Int32) (g0 : vp_in p0 6) (g1 : vp_in p1 6) : Met l yX0_compareEqual (ws_ yX0_compareEqual cX0_compareEqual 3 (some .int)) ({ frames := 0, cells := 0, slots := 0, locals := 0 }) (va_Pc [.ref h0, .int p0, .int p1] (kbR (dC, dI) (kTy d1 d2) (kbW h0 hv hm d1 d2 V M nv nm))) (vp_Si (fun r => r = kCe (V p0.toNatClampNeg) (M p0.toNatClampNeg) (V p1.toNatClampNeg) (M p1.toNatClampNeg))) 0 0 (fun _ => False) := by
  refine Met.ofW (cc := cX0_compareEqual) (maxL := 3) (ret := (some .int)) (by decide) rfl ?_
  intro p e s m args below meth c s₁ B hml hv_
  obtain ⟨rfl, hP, hK⟩ := hv_
  have hx := B.exec
  have hb := B.bytes
  have hr := B.returns
  have hts := atoms_spec (ws := ws_ yX0_compareEqual cX0_compareEqual 3 (some .int)) B.pre
  have hts : ∀ w ∈ lw_all, w.before _ s = true := fun w h => hts w (List.mem_cons_of_mem _ h)
  have hown : s.vm.findClass RX0 = some m.cls := findClass_of_methodNamed B.named
  have hlocks := B.notSynchronized
  have hP : va_P (dC, dI) vwCl (kbW h0 hv hm d1 d2 V M nv nm) s.heap := hP
  have hl := lv_entry ([.ref h0, .int p0, .int p1]) (n := 3) (Nat.le_of_ble_eq_true rfl)
  rw [lg_entry_eq]
  generalize (lg_sl ([.ref h0, .int p0, .int p1]) ++ List.replicate (3 - (lg_sl ([.ref h0, .int p0, .int p1])).length) Slot.unset).toArray = ls at hl ⊢
  have hl : lv_has ls 3 [(0, .ref h0), (1, .int p0), (2, .int p1)] := hl
  refine lv_aload_n hx hb dX0_compareEqual_0 rfl (lv_at hl 0 rfl) ?_
  refine va_get (D := (dC, dI)) (ci := 0) (v := .ref hv) (C := RX0) (T := TX0) (N := 4) hx hb hts in_X0 hown hK hP 0 rfl rfl 0 (by decide) (hts _ q26) (fun _ h9 => h9) rfl dX0_compareEqual_1 ?_
  refine lv_iload_n hx hb dX0_compareEqual_4 rfl (lv_at hl 1 rfl) ?_
  refine va_iald hx hb hK hP 1 0 rfl rfl g0 dX0_compareEqual_5 ?_
  refine lv_aload_n hx hb dX0_compareEqual_6 rfl (lv_at hl 0 rfl) ?_
  refine va_get (D := (dC, dI)) (ci := 0) (v := .ref hv) (C := RX0) (T := TX0) (N := 4) hx hb hts in_X0 hown hK hP 0 rfl rfl 0 (by decide) (hts _ q26) (fun _ h9 => h9) rfl dX0_compareEqual_7 ?_
  refine lv_iload_n hx hb dX0_compareEqual_10 rfl (lv_at hl 2 rfl) ?_
  refine va_iald hx hb hK hP 1 0 rfl rfl g1 dX0_compareEqual_11 ?_
  refine lv_ixor hx hb dX0_compareEqual_12 ?_
  refine lv_aload_n hx hb dX0_compareEqual_13 rfl (lv_at hl 0 rfl) ?_
  refine va_get (D := (dC, dI)) (ci := 0) (v := .ref hm) (C := RX0) (T := TX0) (N := 4) hx hb hts in_X0 hown hK hP 0 rfl rfl 1 (by decide) (hts _ q27) (fun _ h9 => h9) rfl dX0_compareEqual_14 ?_
  refine lv_iload_n hx hb dX0_compareEqual_17 rfl (lv_at hl 1 rfl) ?_
  refine va_iald hx hb hK hP 2 1 rfl rfl g0 dX0_compareEqual_18 ?_
  refine lv_iconst (v := (-1)) hx hb dX0_compareEqual_19 (by decide +kernel) ?_
  refine lv_ixor hx hb dX0_compareEqual_20 ?_
  refine lv_iand hx hb dX0_compareEqual_21 ?_
  refine lv_aload_n hx hb dX0_compareEqual_22 rfl (lv_at hl 0 rfl) ?_
  refine va_get (D := (dC, dI)) (ci := 0) (v := .ref hm) (C := RX0) (T := TX0) (N := 4) hx hb hts in_X0 hown hK hP 0 rfl rfl 1 (by decide) (hts _ q27) (fun _ h9 => h9) rfl dX0_compareEqual_23 ?_
  refine lv_iload_n hx hb dX0_compareEqual_26 rfl (lv_at hl 2 rfl) ?_
  refine va_iald hx hb hK hP 2 1 rfl rfl g1 dX0_compareEqual_27 ?_
  refine lv_iconst (v := (-1)) hx hb dX0_compareEqual_28 (by decide +kernel) ?_
  refine lv_ixor hx hb dX0_compareEqual_29 ?_
  refine lv_iand hx hb dX0_compareEqual_30 ?_
  refine lv_if_eq (tgt := 36) hx hb dX0_compareEqual_31 (by decide) (fun c_1 => ?_) (fun c_1 => ?_)
  · have c_1 : kConf (V p0.toNatClampNeg) (M p0.toNatClampNeg) (V p1.toNatClampNeg) (M p1.toNatClampNeg) = 0 := c_1
    refine lv_aload_n hx hb dX0_compareEqual_36 rfl (lv_at hl 0 rfl) ?_
    refine va_get (D := (dC, dI)) (ci := 0) (v := .ref hm) (C := RX0) (T := TX0) (N := 4) hx hb hts in_X0 hown hK hP 0 rfl rfl 1 (by decide) (hts _ q27) (fun _ h9 => h9) rfl dX0_compareEqual_37 ?_
    refine lv_iload_n hx hb dX0_compareEqual_40 rfl (lv_at hl 1 rfl) ?_
    refine va_iald hx hb hK hP 2 1 rfl rfl g0 dX0_compareEqual_41 ?_
    refine lv_if_ne (tgt := 58) hx hb dX0_compareEqual_42 (by decide) (fun c_2 => ?_) (fun c_2 => ?_)
    · refine lv_iconst (v := 2) hx hb dX0_compareEqual_58 (by decide +kernel) ?_
      exact W.iret (v := 2) hx hb hr (fun t ht hW => ⟨2, rfl, (by first | rfl | (simp only [kCe, if_pos c_1, if_neg c_2]; done) | (simp only [kCe, if_pos c_1, if_neg c_2]; rfl)), ht⟩) (fun _ h => by cases h) dX0_compareEqual_59
    · refine lv_aload_n hx hb dX0_compareEqual_45 rfl (lv_at hl 0 rfl) ?_
      refine va_get (D := (dC, dI)) (ci := 0) (v := .ref hm) (C := RX0) (T := TX0) (N := 4) hx hb hts in_X0 hown hK hP 0 rfl rfl 1 (by decide) (hts _ q27) (fun _ h9 => h9) rfl dX0_compareEqual_46 ?_
      refine lv_iload_n hx hb dX0_compareEqual_49 rfl (lv_at hl 2 rfl) ?_
      refine va_iald hx hb hK hP 2 1 rfl rfl g1 dX0_compareEqual_50 ?_
      refine lv_if_ne (tgt := 58) hx hb dX0_compareEqual_51 (by decide) (fun c_3 => ?_) (fun c_3 => ?_)
      · refine lv_iconst (v := 2) hx hb dX0_compareEqual_58 (by decide +kernel) ?_
        exact W.iret (v := 2) hx hb hr (fun t ht hW => ⟨2, rfl, (by first | rfl | (simp only [kCe, if_pos c_1, if_pos c_2, if_neg c_3]; done) | (simp only [kCe, if_pos c_1, if_pos c_2, if_neg c_3]; rfl)), ht⟩) (fun _ h => by cases h) dX0_compareEqual_59
      · refine lv_iconst (v := 1) hx hb dX0_compareEqual_54 (by decide +kernel) ?_
        refine lv_goto (tgt := 59) hx hb dX0_compareEqual_55 (by decide) ?_
        exact W.iret (v := 1) hx hb hr (fun t ht hW => ⟨1, rfl, (by first | rfl | (simp only [kCe, if_pos c_1, if_pos c_2, if_pos c_3]; done) | (simp only [kCe, if_pos c_1, if_pos c_2, if_pos c_3]; rfl)), ht⟩) (fun _ h => by cases h) dX0_compareEqual_59
  · have c_1 : ¬ kConf (V p0.toNatClampNeg) (M p0.toNatClampNeg) (V p1.toNatClampNeg) (M p1.toNatClampNeg) = 0 := c_1
    refine lv_iconst (v := 0) hx hb dX0_compareEqual_34 (by decide +kernel) ?_
    exact W.iret (v := 0) hx hb hr (fun t ht hW => ⟨0, rfl, (by first | rfl | (simp only [kCe, if_neg c_1]; done) | (simp only [kCe, if_neg c_1]; rfl)), ht⟩) (fun _ h => by cases h) dX0_compareEqual_35

set_option maxHeartbeats 4000000 in
set_option maxRecDepth 100000 in
/-- compareLess -/
theorem metX0_compareLess (l : Launch) (dC : Nat → ClassId) (dI : Nat → Nat → Nat) (h0 hv hm : Nat) (d1 d2 : ClassId) (V M : kF) (nv nm : Int32) (p0 : Int32) (p1 : Int32) (g0 : vp_in p0 6) (g1 : vp_in p1 6) : Met l yX0_compareLess (ws_ yX0_compareLess cX0_compareLess 3 (some .int)) ({ frames := 1, cells := 0, slots := 0, locals := 21 }) (va_Pc [.ref h0, .int p0, .int p1] (kbR (dC, dI) (kTy d1 d2) (kbW h0 hv hm d1 d2 V M nv nm))) (vp_Si (fun r => r = kCl (V p0.toNatClampNeg) (M p0.toNatClampNeg) (V p1.toNatClampNeg) (M p1.toNatClampNeg))) 0 0 (fun _ => False) := by
  refine Met.ofW (cc := cX0_compareLess) (maxL := 3) (ret := (some .int)) (by decide) rfl ?_
  intro p e s m args below meth c s₁ B hml hv_
  obtain ⟨rfl, hP, hK⟩ := hv_
  have hx := B.exec
  have hb := B.bytes
  have hr := B.returns
  have hts := atoms_spec (ws := ws_ yX0_compareLess cX0_compareLess 3 (some .int)) B.pre
  have hts : ∀ w ∈ lw_all, w.before _ s = true := fun w h => hts w (List.mem_cons_of_mem _ h)
  have hown : s.vm.findClass RX0 = some m.cls := findClass_of_methodNamed B.named
  have hlocks := B.notSynchronized
  have hP : va_P (dC, dI) vwCl (kbW h0 hv hm d1 d2 V M nv nm) s.heap := hP
  have hl := lv_entry ([.ref h0, .int p0, .int p1]) (n := 3) (Nat.le_of_ble_eq_true rfl)
  rw [lg_entry_eq]
  generalize (lg_sl ([.ref h0, .int p0, .int p1]) ++ List.replicate (3 - (lg_sl ([.ref h0, .int p0, .int p1])).length) Slot.unset).toArray = ls at hl ⊢
  have hl : lv_has ls 3 [(0, .ref h0), (1, .int p0), (2, .int p1)] := hl
  refine lv_aload_n hx hb dX0_compareLess_0 rfl (lv_at hl 0 rfl) ?_
  refine lv_iload_n hx hb dX0_compareLess_1 rfl (lv_at hl 1 rfl) ?_
  refine vp_callSi (W.runV (As := [.int p0]) (rest := []) ⟨hx, hb, hml, hown, hts⟩ (metX0_greatest l dC dI h0 hv hm d1 d2 V M nv nm p0 g0) (cwV 1 hts (lw_V q91 q93 qs6 q16 q94) rfl rfl rfl (by decide +kernel) ⟨Nat.le_of_ble_eq_true rfl, Nat.le_of_ble_eq_true rfl⟩) ⟨kb_blindR, va_recv hK hP (ci := 0) (q0 := 0) rfl rfl, fun U hU hW => ⟨rfl, by rw [hU]; exact hP, va_K.moved hW.alike hK⟩⟩ rfl rfl hl.1 rfl (lv_room (Nat.le_of_ble_eq_true rfl)) dX0_compareLess_2 ⟨Nat.le_of_ble_eq_true rfl, Nat.le_of_ble_eq_true rfl⟩) (fun r_1 hr_2 => ?_)
  refine lv_aload_n hx hb dX0_compareLess_5 rfl (lv_at hl 0 rfl) ?_
  refine va_get (D := (dC, dI)) (ci := 0) (v := .ref hv) (C := RX0) (T := TX0) (N := 4) hx hb hts in_X0 hown hK hP 0 rfl rfl 0 (by decide) (hts _ q26) (fun _ h9 => h9) rfl dX0_compareLess_6 ?_
  refine lv_iload_n hx hb dX0_compareLess_9 rfl (lv_at hl 2 rfl) ?_
  refine va_iald hx hb hK hP 1 0 rfl rfl g1 dX0_compareLess_10 ?_
  refine lv_icmp_ge (tgt := 16) hx hb dX0_compareLess_11 (by decide) (fun c_3 => ?_) (fun c_3 => ?_)
  · refine lv_aload_n hx hb dX0_compareLess_16 rfl (lv_at hl 0 rfl) ?_
    refine va_get (D := (dC, dI)) (ci := 0) (v := .ref hv) (C := RX0) (T := TX0) (N := 4) hx hb hts in_X0 hown hK hP 0 rfl rfl 0 (by decide) (hts _ q26) (fun _ h9 => h9) rfl dX0_compareLess_17 ?_
    refine lv_iload_n hx hb dX0_compareLess_20 rfl (lv_at hl 1 rfl) ?_
    refine va_iald hx hb hK hP 1 0 rfl rfl g0 dX0_compareLess_21 ?_
    refine lv_aload_n hx hb dX0_compareLess_22 rfl (lv_at hl 0 rfl) ?_
    refine lv_iload_n hx hb dX0_compareLess_23 rfl (lv_at hl 2 rfl) ?_
    refine vp_callSi (W.runV (As := [.int p1]) (rest := [.int (V p0.toNatClampNeg)]) ⟨hx, hb, hml, hown, hts⟩ (metX0_greatest l dC dI h0 hv hm d1 d2 V M nv nm p1 g1) (cwV 1 hts (lw_V q91 q93 qs6 q16 q94) rfl rfl rfl (by decide +kernel) ⟨Nat.le_of_ble_eq_true rfl, Nat.le_of_ble_eq_true rfl⟩) ⟨kb_blindR, va_recv hK hP (ci := 0) (q0 := 0) rfl rfl, fun U hU hW => ⟨rfl, by rw [hU]; exact hP, va_K.moved hW.alike hK⟩⟩ rfl rfl hl.1 rfl (lv_room (Nat.le_of_ble_eq_true rfl)) dX0_compareLess_24 ⟨Nat.le_of_ble_eq_true rfl, Nat.le_of_ble_eq_true rfl⟩) (fun r_4 hr_5 => ?_)
    refine lv_icmp_lt (tgt := 34) hx hb dX0_compareLess_27 (by decide) (fun c_6 => ?_) (fun c_6 => ?_)
    · refine lv_iconst (v := 2) hx hb dX0_compareLess_34 (by decide +kernel) ?_
      exact W.iret (v := 2) hx hb hr (fun t ht hW => ⟨2, rfl, (by subst hr_2 hr_5; first | rfl | (simp only [kCl, if_pos c_3, if_pos c_6]; done) | (simp only [kCl, if_pos c_3, if_pos c_6]; rfl)), ht⟩) (fun _ h => by cases h) dX0_compareLess_35
    · refine lv_iconst (v := 0) hx hb dX0_compareLess_30 (by decide +kernel) ?_
      refine lv_goto (tgt := 35) hx hb dX0_compareLess_31 (by decide) ?_
      exact W.iret (v := 0) hx hb hr (fun t ht hW => ⟨0, rfl, (by subst hr_2 hr_5; first | rfl | (simp only [kCl, if_pos c_3, if_neg c_6]; done) | (simp only [kCl, if_pos c_3, if_neg c_6]; rfl)), ht⟩) (fun _ h => by cases h) dX0_compareLess_35
  · refine lv_iconst (v := 1) hx hb dX0_compareLess_14 (by decide +kernel) ?_
    exact W.iret (v := 1) hx hb hr (fun t ht hW => ⟨1, rfl, (by subst hr_2; first | rfl | (simp only [kCl, if_neg c_3]; done) | (simp only [kCl, if_neg c_3]; rfl)), ht⟩) (fun _ h => by cases h) dX0_compareLess_15

set_option maxHeartbeats 4000000 in
set_option maxRecDepth 100000 in
/-- compare -/
theorem metX0_compare (l : Launch) (dC : Nat → ClassId) (dI : Nat → Nat → Nat) (h0 hv hm : Nat) (d1 d2 : ClassId) (V M : kF) (nv nm : Int32) (p0 : Int32) (p1 : Int32) (p2 : Int32) : Met l yX0_compare (ws_ yX0_compare cX0_compare 5 (some .int)) ({ frames := 2, cells := 0, slots := 0, locals := 43 }) (va_Pc [.ref h0, .int p0, .int p1, .int p2] (kbR (dC, dI) (kTy d1 d2) (kbW h0 hv hm d1 d2 V M nv nm))) (vp_Si (fun r => r = kOpQ V M p0 p1 p2)) 0 0 (fun _ => False) := by
  refine Met.ofW (cc := cX0_compare) (maxL := 5) (ret := (some .int)) (by decide) rfl ?_
  intro p e s m args below meth c s₁ B hml hv_
  obtain ⟨rfl, hP, hK⟩ := hv_
  have hx := B.exec
  have hb := B.bytes
  have hr := B.returns
  have hts := atoms_spec (ws := ws_ yX0_compare cX0_compare 5 (some .int)) B.pre
  have hts : ∀ w ∈ lw_all, w.before _ s = true := fun w h => hts w (List.mem_cons_of_mem _ h)
  have hown : s.vm.findClass RX0 = some m.cls := findClass_of_methodNamed B.named
  have hlocks := B.notSynchronized
  have hP : va_P (dC, dI) vwCl (kbW h0 hv hm d1 d2 V M nv nm) s.heap := hP
  have hl := lv_entry ([.ref h0, .int p0, .int p1, .int p2]) (n := 5) (Nat.le_of_ble_eq_true rfl)
  rw [lg_entry_eq]
  generalize (lg_sl ([.ref h0, .int p0, .int p1, .int p2]) ++ List.replicate (5 - (lg_sl ([.ref h0, .int p0, .int p1, .int p2])).length) Slot.unset).toArray = ls at hl ⊢
  have hl : lv_has ls 5 [(0, .ref h0), (1, .int p0), (2, .int p1), (3, .int p2)] := hl
  refine lv_iload_n hx hb dX0_compare_0 rfl (lv_at hl 1 rfl) ?_
  refine vp_callSi (W.runS (As := [.int p0]) (rest := []) ⟨hx, hb, hml, hown, hts⟩ (metX0_isRegister l p0) (va_cwS 1 hts (lw_S q44 q45 q16 q46) rfl rfl rfl (by decide +kernel) ⟨Nat.le_of_ble_eq_true rfl, Nat.le_of_ble_eq_true rfl⟩) ⟨fun _ _ _ _ q => q, fun U hU hW => ⟨rfl, trivial⟩⟩ rfl rfl hl.1 rfl (lv_room (Nat.le_of_ble_eq_true rfl)) dX0_compare_1 ⟨Nat.le_of_ble_eq_true rfl, Nat.le_of_ble_eq_true rfl⟩) (fun r_1 hr_2 => ?_)
  refine lv_if_eq (tgt := 23) hx hb dX0_compare_4 (by decide) (fun c_3 => ?_) (fun c_3 => ?_)
  · have g_4 := kb_tf hr_2 c_3
    refine lv_iconst (v := (-1)) hx hb dX0_compare_23 (by decide +kernel) ?_
    exact W.iret (v := (-1)) hx hb hr (fun t ht hW => ⟨(-1), rfl, (by first | rfl | (simp only [kOpQ, kCp, if_neg g_4]; done) | (simp only [kOpQ, kCp, if_neg g_4]; rfl)), ht⟩) (fun _ h => by cases h) dX0_compare_24
  · have g_5 := kb_tt hr_2 c_3
    refine lv_iload_n hx hb dX0_compare_7 rfl (lv_at hl 3 rfl) ?_
    refine vp_callSi (W.runS (As := [.int p2]) (rest := []) ⟨hx, hb, hml, hown, hts⟩ (metX0_isRegister l p2) (va_cwS 1 hts (lw_S q44 q45 q16 q46) rfl rfl rfl (by decide +kernel) ⟨Nat.le_of_ble_eq_true rfl, Nat.le_of_ble_eq_true rfl⟩) ⟨fun _ _ _ _ q => q, fun U hU hW => ⟨rfl, trivial⟩⟩ rfl rfl hl.1 rfl (lv_room (Nat.le_of_ble_eq_true rfl)) dX0_compare_8 ⟨Nat.le_of_ble_eq_true rfl, Nat.le_of_ble_eq_true rfl⟩) (fun r_6 hr_7 => ?_)
    refine lv_if_eq (tgt := 23) hx hb dX0_compare_11 (by decide) (fun c_8 => ?_) (fun c_8 => ?_)
    · have g_9 := kb_tf hr_7 c_8
      refine lv_iconst (v := (-1)) hx hb dX0_compare_23 (by decide +kernel) ?_
      exact W.iret (v := (-1)) hx hb hr (fun t ht hW => ⟨(-1), rfl, (by first | rfl | (simp only [kOpQ, kCp, if_pos g_5, if_neg g_9]; done) | (simp only [kOpQ, kCp, if_pos g_5, if_neg g_9]; rfl)), ht⟩) (fun _ h => by cases h) dX0_compare_24
    · have g_10 := kb_tt hr_7 c_8
      refine lv_iload_n hx hb dX0_compare_14 rfl (lv_at hl 2 rfl) ?_
      refine lv_if_lt (tgt := 23) hx hb dX0_compare_15 (by decide) (fun c_11 => ?_) (fun c_11 => ?_)
      · refine lv_iconst (v := (-1)) hx hb dX0_compare_23 (by decide +kernel) ?_
        exact W.iret (v := (-1)) hx hb hr (fun t ht hW => ⟨(-1), rfl, (by first | rfl | (simp only [kOpQ, kCp, if_pos g_5, if_pos g_10, if_pos c_11]; done) | (simp only [kOpQ, kCp, if_pos g_5, if_pos g_10, if_pos c_11]; rfl)), ht⟩) (fun _ h => by cases h) dX0_compare_24
      · refine lv_iload_n hx hb dX0_compare_18 rfl (lv_at hl 2 rfl) ?_
        refine lv_iconst (v := 5) hx hb dX0_compare_19 (by decide +kernel) ?_
        refine lv_icmp_le (tgt := 25) hx hb dX0_compare_20 (by decide) (fun c_12 => ?_) (fun c_12 => ?_)
        · refine lv_iload_n hx hb dX0_compare_25 rfl (lv_at hl 2 rfl) ?_
          refine lv_if_eq (tgt := 34) hx hb dX0_compare_26 (by decide) (fun c_13 => ?_) (fun c_13 => ?_)
          · refine lv_aload_n hx hb dX0_compare_34 rfl (lv_at hl 0 rfl) ?_
            refine lv_iload_n hx hb dX0_compare_35 rfl (lv_at hl 1 rfl) ?_
            refine lv_iload_n hx hb dX0_compare_36 rfl (lv_at hl 3 rfl) ?_
            refine vp_callSi (W.runV (As := [.int p0, .int p2]) (rest := []) ⟨hx, hb, hml, hown, hts⟩ (metX0_compareEqual l dC dI h0 hv hm d1 d2 V M nv nm p0 p2 (kR_in g_5) (kR_in g_10)) (cwV 2 hts (lw_V q107 q109 qs9 q16 q110) rfl rfl rfl (by decide +kernel) ⟨Nat.le_of_ble_eq_true rfl, Nat.le_of_ble_eq_true rfl⟩) ⟨kb_blindR, va_recv hK hP (ci := 0) (q0 := 0) rfl rfl, fun U hU hW => ⟨rfl, by rw [hU]; exact hP, va_K.moved hW.alike hK⟩⟩ rfl rfl hl.1 rfl (lv_room (Nat.le_of_ble_eq_true rfl)) dX0_compare_37 ⟨Nat.le_of_ble_eq_true rfl, Nat.le_of_ble_eq_true rfl⟩) (fun r_14 hr_15 => ?_)
            refine lv_istore (lv' := [(4, .int r_14), (0, .ref h0), (1, .int p0), (2, .int p1), (3, .int p2)]) hx hb dX0_compare_40 hl (by decide) rfl (fun ls hl => ?_)
            refine lv_iload_n hx hb dX0_compare_42 rfl (lv_at hl 3 rfl) ?_
            refine lv_if_eq (tgt := 52) hx hb dX0_compare_43 (by decide) (fun c_16 => ?_) (fun c_16 => absurd c_13 c_16)
            refine lv_iload hx hb dX0_compare_52 (lv_at hl 0 rfl) ?_
            refine lv_goto (tgt := 61) hx hb dX0_compare_54 (by decide) ?_
            exact W.iret (v := r_14) hx hb hr (fun t ht hW => ⟨r_14, rfl, (by subst hr_15; first | rfl | (simp only [kOpQ, kCp, if_pos g_5, if_pos g_10, if_neg c_11, if_pos c_12, if_pos c_13]; done) | (simp only [kOpQ, kCp, if_pos g_5, if_pos g_10, if_neg c_11, if_pos c_12, if_pos c_13]; rfl)), ht⟩) (fun _ h => by cases h) dX0_compare_61
          · refine lv_iload_n hx hb dX0_compare_29 rfl (lv_at hl 2 rfl) ?_
            refine lv_iconst (v := 3) hx hb dX0_compare_30 (by decide +kernel) ?_
            refine lv_icmp_ne (tgt := 62) hx hb dX0_compare_31 (by decide) (fun c_17 => ?_) (fun c_17 => ?_)
            · refine lv_iload_n hx hb dX0_compare_62 rfl (lv_at hl 2 rfl) ?_
              refine lv_iconst (v := 1) hx hb dX0_compare_63 (by decide +kernel) ?_
              refine lv_icmp_eq (tgt := 72) hx hb dX0_compare_64 (by decide) (fun c_18 => ?_) (fun c_18 => ?_)
              · refine lv_aload_n hx hb dX0_compare_72 rfl (lv_at hl 0 rfl) ?_
                refine lv_iload_n hx hb dX0_compare_73 rfl (lv_at hl 1 rfl) ?_
                refine lv_iload_n hx hb dX0_compare_74 rfl (lv_at hl 3 rfl) ?_
                refine vp_callSi (W.runV (As := [.int p0, .int p2]) (rest := []) ⟨hx, hb, hml, hown, hts⟩ (metX0_compareLess l dC dI h0 hv hm d1 d2 V M nv nm p0 p2 (kR_in g_5) (kR_in g_10)) (cwV 2 hts (lw_V q111 q113 qs10 q16 q114) rfl rfl rfl (by decide +kernel) ⟨Nat.le_of_ble_eq_true rfl, Nat.le_of_ble_eq_true rfl⟩) ⟨kb_blindR, va_recv hK hP (ci := 0) (q0 := 0) rfl rfl, fun U hU hW => ⟨rfl, by rw [hU]; exact hP, va_K.moved hW.alike hK⟩⟩ rfl rfl hl.1 rfl (lv_room (Nat.le_of_ble_eq_true rfl)) dX0_compare_75 ⟨Nat.le_of_ble_eq_true rfl, Nat.le_of_ble_eq_true rfl⟩) (fun r_19 hr_20 => ?_)
                refine lv_istore (lv' := [(4, .int r_19), (0, .ref h0), (1, .int p0), (2, .int p1), (3, .int p2)]) hx hb dX0_compare_78 hl (by decide) rfl (fun ls hl => ?_)
                refine lv_iload_n hx hb dX0_compare_80 rfl (lv_at hl 3 rfl) ?_
                refine lv_iconst (v := 1) hx hb dX0_compare_81 (by decide +kernel) ?_
                refine lv_icmp_eq (tgt := 91) hx hb dX0_compare_82 (by decide) (fun c_21 => ?_) (fun c_21 => absurd c_18 c_21)
                refine lv_iload hx hb dX0_compare_91 (lv_at hl 0 rfl) ?_
                refine lv_goto (tgt := 100) hx hb dX0_compare_93 (by decide) ?_
                exact W.iret (v := r_19) hx hb hr (fun t ht hW => ⟨r_19, rfl, (by subst hr_20; first | rfl | (simp only [kOpQ, kCp, if_pos g_5, if_pos g_10, if_neg c_11, if_pos c_12, if_neg c_13, if_neg c_17, if_pos c_18]; done) | (simp only [kOpQ, kCp, if_pos g_5, if_pos g_10, if_neg c_11, if_pos c_12, if_neg c_13, if_neg c_17, if_pos c_18]; rfl)), ht⟩) (fun _ h => by cases h) dX0_compare_100
              · refine lv_iload_n hx hb dX0_compare_67 rfl (lv_at hl 2 rfl) ?_
                refine lv_iconst (v := 4) hx hb dX0_compare_68 (by decide +kernel) ?_
                refine lv_icmp_ne (tgt := 101) hx hb dX0_compare_69 (by decide) (fun c_22 => ?_) (fun c_22 => ?_)
                · refine lv_aload_n hx hb dX0_compare_101 rfl (lv_at hl 0 rfl) ?_
                  refine lv_iload_n hx hb dX0_compare_102 rfl (lv_at hl 3 rfl) ?_
                  refine lv_iload_n hx hb dX0_compare_103 rfl (lv_at hl 1 rfl) ?_
                  refine vp_callSi (W.runV (As := [.int p2, .int p0]) (rest := []) ⟨hx, hb, hml, hown, hts⟩ (metX0_compareLess l dC dI h0 hv hm d1 d2 V M nv nm p2 p0 (kR_in g_10) (kR_in g_5)) (cwV 2 hts (lw_V q111 q113 qs10 q16 q114) rfl rfl rfl (by decide +kernel) ⟨Nat.le_of_ble_eq_true rfl, Nat.le_of_ble_eq_true rfl⟩) ⟨kb_blindR, va_recv hK hP (ci := 0) (q0 := 0) rfl rfl, fun U hU hW => ⟨rfl, by rw [hU]; exact hP, va_K.moved hW.alike hK⟩⟩ rfl rfl hl.1 rfl (lv_room (Nat.le_of_ble_eq_true rfl)) dX0_compare_104 ⟨Nat.le_of_ble_eq_true rfl, Nat.le_of_ble_eq_true rfl⟩) (fun r_23 hr_24 => ?_)
                  refine lv_istore (lv' := [(4, .int r_23), (0, .ref h0), (1, .int p0), (2, .int p1), (3, .int p2)]) hx hb dX0_compare_107 hl (by decide) rfl (fun ls hl => ?_)
                  refine lv_iload_n hx hb dX0_compare_109 rfl (lv_at hl 3 rfl) ?_
                  refine lv_iconst (v := 5) hx hb dX0_compare_110 (by decide +kernel) ?_
                  refine lv_icmp_eq (tgt := 120) hx hb dX0_compare_111 (by decide) (fun c_25 => ?_) (fun c_25 => ?_)
                  · refine lv_iload hx hb dX0_compare_120 (lv_at hl 0 rfl) ?_
                    refine lv_goto (tgt := 129) hx hb dX0_compare_122 (by decide) ?_
                    exact W.iret (v := r_23) hx hb hr (fun t ht hW => ⟨r_23, rfl, (by subst hr_24; first | rfl | (simp only [kOpQ, kCp, if_pos g_5, if_pos g_10, if_neg c_11, if_pos c_12, if_neg c_13, if_neg c_17, if_neg c_18, if_neg c_22, if_pos c_25]; done) | (simp only [kOpQ, kCp, if_pos g_5, if_pos g_10, if_neg c_11, if_pos c_12, if_neg c_13, if_neg c_17, if_neg c_18, if_neg c_22, if_pos c_25]; rfl)), ht⟩) (fun _ h => by cases h) dX0_compare_129
                  · refine lv_iload hx hb dX0_compare_114 (lv_at hl 0 rfl) ?_
                    refine lv_iconst (v := 2) hx hb dX0_compare_116 (by decide +kernel) ?_
                    refine lv_icmp_ne (tgt := 125) hx hb dX0_compare_117 (by decide) (fun c_26 => ?_) (fun c_26 => ?_)
                    · refine lv_iconst (v := 1) hx hb dX0_compare_125 (by decide +kernel) ?_
                      refine lv_iload hx hb dX0_compare_126 (lv_at hl 0 rfl) ?_
                      refine lv_isub hx hb dX0_compare_128 ?_
                      exact W.iret (v := 1 - r_23) hx hb hr (fun t ht hW => ⟨1 - r_23, rfl, (by subst hr_24; first | rfl | (simp only [kOpQ, kCp, if_pos g_5, if_pos g_10, if_neg c_11, if_pos c_12, if_neg c_13, if_neg c_17, if_neg c_18, if_neg c_22, if_neg c_25, if_neg c_26]; done) | (simp only [kOpQ, kCp, if_pos g_5, if_pos g_10, if_neg c_11, if_pos c_12, if_neg c_13, if_neg c_17, if_neg c_18, if_neg c_22, if_neg c_25, if_neg c_26]; rfl)), ht⟩) (fun _ h => by cases h) dX0_compare_129
                    · refine lv_iload hx hb dX0_compare_120 (lv_at hl 0 rfl) ?_
                      refine lv_goto (tgt := 129) hx hb dX0_compare_122 (by decide) ?_
                      exact W.iret (v := r_23) hx hb hr (fun t ht hW => ⟨r_23, rfl, (by subst hr_24; first | rfl | (simp only [kOpQ, kCp, if_pos g_5, if_pos g_10, if_neg c_11, if_pos c_12, if_neg c_13, if_neg c_17, if_neg c_18, if_neg c_22, if_neg c_25, if_pos c_26]; done) | (simp only [kOpQ, kCp, if_pos g_5, if_pos g_10, if_neg c_11, if_pos c_12, if_neg c_13, if_neg c_17, if_neg c_18, if_neg c_22, if_neg c_25, if_pos c_26]; rfl)), ht⟩) (fun _ h => by cases h) dX0_compare_129
                · refine lv_aload_n hx hb dX0_compare_72 rfl (lv_at hl 0 rfl) ?_
                  refine lv_iload_n hx hb dX0_compare_73 rfl (lv_at hl 1 rfl) ?_
                  refine lv_iload_n hx hb dX0_compare_74 rfl (lv_at hl 3 rfl) ?_
                  refine vp_callSi (W.runV (As := [.int p0, .int p2]) (rest := []) ⟨hx, hb, hml, hown, hts⟩ (metX0_compareLess l dC dI h0 hv hm d1 d2 V M nv nm p0 p2 (kR_in g_5) (kR_in g_10)) (cwV 2 hts (lw_V q111 q113 qs10 q16 q114) rfl rfl rfl (by decide +kernel) ⟨Nat.le_of_ble_eq_true rfl, Nat.le_of_ble_eq_true rfl⟩) ⟨kb_blindR, va_recv hK hP (ci := 0) (q0 := 0) rfl rfl, fun U hU hW => ⟨rfl, by rw [hU]; exact hP, va_K.moved hW.alike hK⟩⟩ rfl rfl hl.1 rfl (lv_room (Nat.le_of_ble_eq_true rfl)) dX0_compare_75 ⟨Nat.le_of_ble_eq_true rfl, Nat.le_of_ble_eq_true rfl⟩) (fun r_27 hr_28 => ?_)
                  refine lv_istore (lv' := [(4, .int r_27), (0, .ref h0), (1, .int p0), (2, .int p1), (3, .int p2)]) hx hb dX0_compare_78 hl (by decide) rfl (fun ls hl => ?_)
                  refine lv_iload_n hx hb dX0_compare_80 rfl (lv_at hl 3 rfl) ?_
                  refine lv_iconst (v := 1) hx hb dX0_compare_81 (by decide +kernel) ?_
                  refine lv_icmp_eq (tgt := 91) hx hb dX0_compare_82 (by decide) (fun c_29 => absurd c_29 c_18) (fun c_29 => ?_)
                  refine lv_iload hx hb dX0_compare_85 (lv_at hl 0 rfl) ?_
                  refine lv_iconst (v := 2) hx hb dX0_compare_87 (by decide +kernel) ?_
                  refine lv_icmp_ne (tgt := 96) hx hb dX0_compare_88 (by decide) (fun c_30 => ?_) (fun c_30 => ?_)
                  · refine lv_iconst (v := 1) hx hb dX0_compare_96 (by decide +kernel) ?_
                    refine lv_iload hx hb dX0_compare_97 (lv_at hl 0 rfl) ?_
                    refine lv_isub hx hb dX0_compare_99 ?_
                    exact W.iret (v := 1 - r_27) hx hb hr (fun t ht hW => ⟨1 - r_27, rfl, (by subst hr_28; first | rfl | (simp only [kOpQ, kCp, if_pos g_5, if_pos g_10, if_neg c_11, if_pos c_12, if_neg c_13, if_neg c_17, if_neg c_18, if_pos c_22, if_neg c_30]; done) | (simp only [kOpQ, kCp, if_pos g_5, if_pos g_10, if_neg c_11, if_pos c_12, if_neg c_13, if_neg c_17, if_neg c_18, if_pos c_22, if_neg c_30]; rfl)), ht⟩) (fun _ h => by cases h) dX0_compare_100
                  · refine lv_iload hx hb dX0_compare_91 (lv_at hl 0 rfl) ?_
                    refine lv_goto (tgt := 100) hx hb dX0_compare_93 (by decide) ?_
                    exact W.iret (v := r_27) hx hb hr (fun t ht hW => ⟨r_27, rfl, (by subst hr_28; first | rfl | (simp only [kOpQ, kCp, if_pos g_5, if_pos g_10, if_neg c_11, if_pos c_12, if_neg c_13, if_neg c_17, if_neg c_18, if_pos c_22, if_pos c_30]; done) | (simp only [kOpQ, kCp, if_pos g_5, if_pos g_10, if_neg c_11, if_pos c_12, if_neg c_13, if_neg c_17, if_neg c_18, if_pos c_22, if_pos c_30]; rfl)), ht⟩) (fun _ h => by cases h) dX0_compare_100
            · refine lv_aload_n hx hb dX0_compare_34 rfl (lv_at hl 0 rfl) ?_
              refine lv_iload_n hx hb dX0_compare_35 rfl (lv_at hl 1 rfl) ?_
              refine lv_iload_n hx hb dX0_compare_36 rfl (lv_at hl 3 rfl) ?_
              refine vp_callSi (W.runV (As := [.int p0, .int p2]) (rest := []) ⟨hx, hb, hml, hown, hts⟩ (metX0_compareEqual l dC dI h0 hv hm d1 d2 V M nv nm p0 p2 (kR_in g_5) (kR_in g_10)) (cwV 2 hts (lw_V q107 q109 qs9 q16 q110) rfl rfl rfl (by decide +kernel) ⟨Nat.le_of_ble_eq_true rfl, Nat.le_of_ble_eq_true rfl⟩) ⟨kb_blindR, va_recv hK hP (ci := 0) (q0 := 0) rfl rfl, fun U hU hW => ⟨rfl, by rw [hU]; exact hP, va_K.moved hW.alike hK⟩⟩ rfl rfl hl.1 rfl (lv_room (Nat.le_of_ble_eq_true rfl)) dX0_compare_37 ⟨Nat.le_of_ble_eq_true rfl, Nat.le_of_ble_eq_true rfl⟩) (fun r_31 hr_32 => ?_)
              refine lv_istore (lv' := [(4, .int r_31), (0, .ref h0), (1, .int p0), (2, .int p1), (3, .int p2)]) hx hb dX0_compare_40 hl (by decide) rfl (fun ls hl => ?_)
              refine lv_iload_n hx hb dX0_compare_42 rfl (lv_at hl 3 rfl) ?_
              refine lv_if_eq (tgt := 52) hx hb dX0_compare_43 (by decide) (fun c_33 => absurd c_33 c_13) (fun c_33 => ?_)
              refine lv_iload hx hb dX0_compare_46 (lv_at hl 0 rfl) ?_
              refine lv_iconst (v := 2) hx hb dX0_compare_48 (by decide +kernel) ?_
              refine lv_icmp_ne (tgt := 57) hx hb dX0_compare_49 (by decide) (fun c_34 => ?_) (fun c_34 => ?_)
              · refine lv_iconst (v := 1) hx hb dX0_compare_57 (by decide +kernel) ?_
                refine lv_iload hx hb dX0_compare_58 (lv_at hl 0 rfl) ?_
                refine lv_isub hx hb dX0_compare_60 ?_
                exact W.iret (v := 1 - r_31) hx hb hr (fun t ht hW => ⟨1 - r_31, rfl, (by subst hr_32; first | rfl | (simp only [kOpQ, kCp, if_pos g_5, if_pos g_10, if_neg c_11, if_pos c_12, if_neg c_13, if_pos c_17, if_neg c_34]; done) | (simp only [kOpQ, kCp, if_pos g_5, if_pos g_10, if_neg c_11, if_pos c_12, if_neg c_13, if_pos c_17, if_neg c_34]; rfl)), ht⟩) (fun _ h => by cases h) dX0_compare_61
              · refine lv_iload hx hb dX0_compare_52 (lv_at hl 0 rfl) ?_
                refine lv_goto (tgt := 61) hx hb dX0_compare_54 (by decide) ?_
                exact W.iret (v := r_31) hx hb hr (fun t ht hW => ⟨r_31, rfl, (by subst hr_32; first | rfl | (simp only [kOpQ, kCp, if_pos g_5, if_pos g_10, if_neg c_11, if_pos c_12, if_neg c_13, if_pos c_17, if_pos c_34]; done) | (simp only [kOpQ, kCp, if_pos g_5, if_pos g_10, if_neg c_11, if_pos c_12, if_neg c_13, if_pos c_17, if_pos c_34]; rfl)), ht⟩) (fun _ h => by cases h) dX0_compare_61
        · refine lv_iconst (v := (-1)) hx hb dX0_compare_23 (by decide +kernel) ?_
          exact W.iret (v := (-1)) hx hb hr (fun t ht hW => ⟨(-1), rfl, (by first | rfl | (simp only [kOpQ, kCp, if_pos g_5, if_pos g_10, if_neg c_11, if_neg c_12]; done) | (simp only [kOpQ, kCp, if_pos g_5, if_pos g_10, if_neg c_11, if_neg c_12]; rfl)), ht⟩) (fun _ h => by cases h) dX0_compare_24

set_option maxHeartbeats 4000000 in
set_option maxRecDepth 100000 in
/-- least -/
theorem metX0_least (l : Launch) (dC : Nat → ClassId) (dI : Nat → Nat → Nat) (h0 hv hm : Nat) (d1 d2 : ClassId) (V M : kF) (nv nm : Int32) (p0 : Int32) (p1 : Int32) : Met l yX0_least (ws_ yX0_least cX0_least 3 (some .int)) ({ frames := 1, cells := 0, slots := 0, locals := 25 }) (va_Pc [.ref h0, .int p0, .int p1] (kbR (dC, dI) (kTy d1 d2) (kbW h0 hv hm d1 d2 V M nv nm))) (vp_Si (fun r => r = kOpL V M p0 p1)) 0 0 (fun _ => False) := by
  refine Met.ofW (cc := cX0_least) (maxL := 3) (ret := (some .int)) (by decide) rfl ?_
  intro p e s m args below meth c s₁ B hml hv_
  obtain ⟨rfl, hP, hK⟩ := hv_
  have hx := B.exec
  have hb := B.bytes
  have hr := B.returns
  have hts := atoms_spec (ws := ws_ yX0_least cX0_least 3 (some .int)) B.pre
  have hts : ∀ w ∈ lw_all, w.before _ s = true := fun w h => hts w (List.mem_cons_of_mem _ h)
  have hown : s.vm.findClass RX0 = some m.cls := findClass_of_methodNamed B.named
  have hlocks := B.notSynchronized
  have hP : va_P (dC, dI) vwCl (kbW h0 hv hm d1 d2 V M nv nm) s.heap := hP
  have hl := lv_entry ([.ref h0, .int p0, .int p1]) (n := 3) (Nat.le_of_ble_eq_true rfl)
  rw [lg_entry_eq]
  generalize (lg_sl ([.ref h0, .int p0, .int p1]) ++ List.replicate (3 - (lg_sl ([.ref h0, .int p0, .int p1])).length) Slot.unset).toArray = ls at hl ⊢
  have hl : lv_has ls 3 [(0, .ref h0), (1, .int p0), (2, .int p1)] := hl
  refine lv_iload_n hx hb dX0_least_0 rfl (lv_at hl 1 rfl) ?_
  refine vp_callSi (W.runS (As := [.int p0]) (rest := []) ⟨hx, hb, hml, hown, hts⟩ (metX0_isRegister l p0) (va_cwS 1 hts (lw_S q44 q45 q16 q46) rfl rfl rfl (by decide +kernel) ⟨Nat.le_of_ble_eq_true rfl, Nat.le_of_ble_eq_true rfl⟩) ⟨fun _ _ _ _ q => q, fun U hU hW => ⟨rfl, trivial⟩⟩ rfl rfl hl.1 rfl (lv_room (Nat.le_of_ble_eq_true rfl)) dX0_least_1 ⟨Nat.le_of_ble_eq_true rfl, Nat.le_of_ble_eq_true rfl⟩) (fun r_1 hr_2 => ?_)
  refine lv_if_eq (tgt := 26) hx hb dX0_least_4 (by decide) (fun c_3 => ?_) (fun c_3 => ?_)
  · have g_4 := kb_tf hr_2 c_3
    refine lv_iconst (v := (-1)) hx hb dX0_least_26 (by decide +kernel) ?_
    exact W.iret (v := (-1)) hx hb hr (fun t ht hW => ⟨(-1), rfl, (by first | rfl | (simp only [kOpL, if_neg g_4]; done) | (simp only [kOpL, if_neg g_4]; rfl)), ht⟩) (fun _ h => by cases h) dX0_least_27
  · have g_5 := kb_tt hr_2 c_3
    refine lv_aload_n hx hb dX0_least_7 rfl (lv_at hl 0 rfl) ?_
    refine va_get (D := (dC, dI)) (ci := 0) (v := .ref hv) (C := RX0) (T := TX0) (N := 4) hx hb hts in_X0 hown hK hP 0 rfl rfl 0 (by decide) (hts _ q26) (fun _ h9 => h9) rfl dX0_least_8 ?_
    refine lv_iload_n hx hb dX0_least_11 rfl (lv_at hl 1 rfl) ?_
    refine va_iald hx hb hK hP 1 0 rfl rfl (kR_in g_5) dX0_least_12 ?_
    refine lv_aload_n hx hb dX0_least_13 rfl (lv_at hl 0 rfl) ?_
    refine va_get (D := (dC, dI)) (ci := 0) (v := .ref hm) (C := RX0) (T := TX0) (N := 4) hx hb hts in_X0 hown hK hP 0 rfl rfl 1 (by decide) (hts _ q27) (fun _ h9 => h9) rfl dX0_least_14 ?_
    refine lv_iload_n hx hb dX0_least_17 rfl (lv_at hl 1 rfl) ?_
    refine va_iald hx hb hK hP 2 1 rfl rfl (kR_in g_5) dX0_least_18 ?_
    refine lv_iload_n hx hb dX0_least_19 rfl (lv_at hl 2 rfl) ?_
    refine vp_callSi (W.runS (As := [.int (V p0.toNatClampNeg), .int (M p0.toNatClampNeg), .int p1]) (rest := []) ⟨hx, hb, hml, hown, hts⟩ (metX0_leastFrom l (V p0.toNatClampNeg) (M p0.toNatClampNeg) p1) (va_cwS 3 hts (lw_S q79 q80 q16 q81) rfl rfl rfl (by decide +kernel) ⟨Nat.le_of_ble_eq_true rfl, Nat.le_of_ble_eq_true rfl⟩) ⟨fun _ _ _ _ q => q, fun U hU hW => ⟨rfl, trivial⟩⟩ rfl rfl hl.1 rfl (lv_room (Nat.le_of_ble_eq_true rfl)) dX0_least_20 ⟨Nat.le_of_ble_eq_true rfl, Nat.le_of_ble_eq_true rfl⟩) (fun r_6 hr_7 => ?_)
    refine lv_goto (tgt := 27) hx hb dX0_least_23 (by decide) ?_
    exact W.iret (v := r_6) hx hb hr (fun t ht hW => ⟨r_6, rfl, (by subst hr_7; first | rfl | (simp only [kOpL, if_pos g_5]; done) | (simp only [kOpL, if_pos g_5]; rfl)), ht⟩) (fun _ h => by cases h) dX0_least_27

set_option maxHeartbeats 4000000 in
set_option maxRecDepth 100000 in
/-- count -/
theorem metX0_count (l : Launch) (dC : Nat → ClassId) (dI : Nat → Nat → Nat) (h0 hv hm : Nat) (d1 d2 : ClassId) (V M : kF) (nv nm : Int32) (p0 : Int32) (p1 : Int32) (p2 : Int32) : Met l yX0_count (ws_ yX0_count cX0_count 5 (some .int)) ({ frames := 2, cells := 0, slots := 0, locals := 48 }) (va_Pc [.ref h0, .int p0, .int p1, .int p2] (kbR (dC, dI) (kTy d1 d2) (kbW h0 hv hm d1 d2 V M nv nm))) (vp_Si (fun r => r = kOpK V M p0 p1 p2)) 0 0 (fun _ => False) := by
  refine Met.ofW (cc := cX0_count) (maxL := 5) (ret := (some .int)) (by decide) rfl ?_
  intro p e s m args below meth c s₁ B hml hv_
  obtain ⟨rfl, hP, hK⟩ := hv_
  have hx := B.exec
  have hb := B.bytes
  have hr := B.returns
  have hts := atoms_spec (ws := ws_ yX0_count cX0_count 5 (some .int)) B.pre
  have hts : ∀ w ∈ lw_all, w.before _ s = true := fun w h => hts w (List.mem_cons_of_mem _ h)
  have hown : s.vm.findClass RX0 = some m.cls := findClass_of_methodNamed B.named
  have hlocks := B.notSynchronized
  have hP : va_P (dC, dI) vwCl (kbW h0 hv hm d1 d2 V M nv nm) s.heap := hP
  have hl := lv_entry ([.ref h0, .int p0, .int p1, .int p2]) (n := 5) (Nat.le_of_ble_eq_true rfl)
  rw [lg_entry_eq]
  generalize (lg_sl ([.ref h0, .int p0, .int p1, .int p2]) ++ List.replicate (5 - (lg_sl ([.ref h0, .int p0, .int p1, .int p2])).length) Slot.unset).toArray = ls at hl ⊢
  have hl : lv_has ls 5 [(0, .ref h0), (1, .int p0), (2, .int p1), (3, .int p2)] := hl
  refine lv_iload_n hx hb dX0_count_0 rfl (lv_at hl 1 rfl) ?_
  refine vp_callSi (W.runS (As := [.int p0]) (rest := []) ⟨hx, hb, hml, hown, hts⟩ (metX0_isRegister l p0) (va_cwS 1 hts (lw_S q44 q45 q16 q46) rfl rfl rfl (by decide +kernel) ⟨Nat.le_of_ble_eq_true rfl, Nat.le_of_ble_eq_true rfl⟩) ⟨fun _ _ _ _ q => q, fun U hU hW => ⟨rfl, trivial⟩⟩ rfl rfl hl.1 rfl (lv_room (Nat.le_of_ble_eq_true rfl)) dX0_count_1 ⟨Nat.le_of_ble_eq_true rfl, Nat.le_of_ble_eq_true rfl⟩) (fun r_1 hr_2 => ?_)
  refine lv_if_ne (tgt := 9) hx hb dX0_count_4 (by decide) (fun c_3 => ?_) (fun c_3 => ?_)
  · have g_4 := kb_tt hr_2 c_3
    refine lv_iload_n hx hb dX0_count_9 rfl (lv_at hl 2 rfl) ?_
    refine lv_iload_n hx hb dX0_count_10 rfl (lv_at hl 3 rfl) ?_
    refine lv_icmp_le (tgt := 16) hx hb dX0_count_11 (by decide) (fun c_5 => ?_) (fun c_5 => ?_)
    · refine lv_aload_n hx hb dX0_count_16 rfl (lv_at hl 0 rfl) ?_
      refine lv_iload_n hx hb dX0_count_17 rfl (lv_at hl 1 rfl) ?_
      refine lv_iload_n hx hb dX0_count_18 rfl (lv_at hl 3 rfl) ?_
      refine vp_callSi (W.runV (As := [.int p0, .int p2]) (rest := []) ⟨hx, hb, hml, hown, hts⟩ (metX0_rank l dC dI h0 hv hm d1 d2 V M nv nm p0 p2 (kR_in g_4)) (cwV 2 hts (lw_V q131 q133 qs11 q16 q134) rfl rfl rfl (by decide +kernel) ⟨Nat.le_of_ble_eq_true rfl, Nat.le_of_ble_eq_true rfl⟩) ⟨kb_blindR, va_recv hK hP (ci := 0) (q0 := 0) rfl rfl, fun U hU hW => ⟨rfl, by rw [hU]; exact hP, va_K.moved hW.alike hK⟩⟩ rfl rfl hl.1 rfl (lv_room (Nat.le_of_ble_eq_true rfl)) dX0_count_19 ⟨Nat.le_of_ble_eq_true rfl, Nat.le_of_ble_eq_true rfl⟩) (fun r_6 hr_7 => ?_)
      refine lv_istore (lv' := [(4, .int r_6), (0, .ref h0), (1, .int p0), (2, .int p1), (3, .int p2)]) hx hb dX0_count_22 hl (by decide) rfl (fun ls hl => ?_)
      refine lv_iload_n hx hb dX0_count_24 rfl (lv_at hl 3 rfl) ?_
      refine lv_if_gt (tgt := 33) hx hb dX0_count_25 (by decide) (fun c_8 => ?_) (fun c_8 => ?_)
      · refine lv_iload hx hb dX0_count_33 (lv_at hl 0 rfl) ?_
        refine lv_aload_n hx hb dX0_count_35 rfl (lv_at hl 1 rfl) ?_
        refine lv_iload_n hx hb dX0_count_36 rfl (lv_at hl 2 rfl) ?_
        refine lv_iload_n hx hb dX0_count_37 rfl (lv_at hl 3 rfl) ?_
        refine lv_iconst (v := 1) hx hb dX0_count_38 (by decide +kernel) ?_
        refine lv_isub hx hb dX0_count_39 ?_
        refine vp_callSi (W.runV (As := [.int p0, .int (p1 - 1)]) (rest := [.int r_6]) ⟨hx, hb, hml, hown, hts⟩ (metX0_rank l dC dI h0 hv hm d1 d2 V M nv nm p0 (p1 - 1) (kR_in g_4)) (cwV 2 hts (lw_V q131 q133 qs11 q16 q134) rfl rfl rfl (by decide +kernel) ⟨Nat.le_of_ble_eq_true rfl, Nat.le_of_ble_eq_true rfl⟩) ⟨kb_blindR, va_recv hK hP (ci := 0) (q0 := 0) rfl rfl, fun U hU hW => ⟨rfl, by rw [hU]; exact hP, va_K.moved hW.alike hK⟩⟩ rfl rfl hl.1 rfl (lv_room (Nat.le_of_ble_eq_true rfl)) dX0_count_40 ⟨Nat.le_of_ble_eq_true rfl, Nat.le_of_ble_eq_true rfl⟩) (fun r_9 hr_10 => ?_)
        refine lv_isub hx hb dX0_count_43 ?_
        exact W.iret (v := r_6 - r_9) hx hb hr (fun t ht hW => ⟨r_6 - r_9, rfl, (by subst hr_7 hr_10; first | rfl | (simp only [kOpK, if_pos g_4, if_pos c_5, if_pos c_8]; done) | (simp only [kOpK, if_pos g_4, if_pos c_5, if_pos c_8]; rfl)), ht⟩) (fun _ h => by cases h) dX0_count_44
      · refine lv_iload hx hb dX0_count_28 (lv_at hl 0 rfl) ?_
        refine lv_goto (tgt := 44) hx hb dX0_count_30 (by decide) ?_
        exact W.iret (v := r_6) hx hb hr (fun t ht hW => ⟨r_6, rfl, (by subst hr_7; first | rfl | (simp only [kOpK, if_pos g_4, if_pos c_5, if_neg c_8]; done) | (simp only [kOpK, if_pos g_4, if_pos c_5, if_neg c_8]; rfl)), ht⟩) (fun _ h => by cases h) dX0_count_44
    · refine lv_iconst (v := 0) hx hb dX0_count_14 (by decide +kernel) ?_
      exact W.iret (v := 0) hx hb hr (fun t ht hW => ⟨0, rfl, (by first | rfl | (simp only [kOpK, if_pos g_4, if_neg c_5]; done) | (simp only [kOpK, if_pos g_4, if_neg c_5]; rfl)), ht⟩) (fun _ h => by cases h) dX0_count_15
  · have g_11 := kb_tf hr_2 c_3
    refine lv_iconst (v := (-1)) hx hb dX0_count_7 (by decide +kernel) ?_
    exact W.iret (v := (-1)) hx hb hr (fun t ht hW => ⟨(-1), rfl, (by first | rfl | (simp only [kOpK, if_neg g_11]; done) | (simp only [kOpK, if_neg g_11]; rfl)), ht⟩) (fun _ h => by cases h) dX0_count_8
end
section
set_option maxHeartbeats 4000000 in
set_option maxRecDepth 100000 in
/-- bad: not 0..5 -/
theorem metX1_bad (l : Launch) (p0 : Int32) : Met l yX1_bad (ws_ yX1_bad cX1_bad 1 (some .boolean)) ({ frames := 0, cells := 0, slots := 0, locals := 0 }) (va_Pc [.int p0] (fun _ => True)) (vp_Si (fun r => r = if kR p0 then 0 else 1)) 0 0 (fun _ => False) := by
  refine Met.ofW (cc := cX1_bad) (maxL := 1) (ret := (some .boolean)) (by decide) rfl ?_
  intro p e s m args below meth c s₁ B hml hv_
  obtain ⟨rfl, -⟩ := hv_
  have hx := B.exec
  have hb := B.bytes
  have hr := B.returns
  have hts := atoms_spec (ws := ws_ yX1_bad cX1_bad 1 (some .boolean)) B.pre
  have hts : ∀ w ∈ lw_all, w.before _ s = true := fun w h => hts w (List.mem_cons_of_mem _ h)
  have hown : s.vm.findClass RX1 = some m.cls := findClass_of_methodNamed B.named
  have hlocks := B.notSynchronized
  have hl := lv_entry ([.int p0]) (n := 1) (Nat.le_of_ble_eq_true rfl)
  rw [lg_entry_eq]
  generalize (lg_sl ([.int p0]) ++ List.replicate (1 - (lg_sl ([.int p0])).length) Slot.unset).toArray = ls at hl ⊢
  have hl : lv_has ls 1 [(0, .int p0)] := hl
  refine lv_iload_n hx hb dX1_bad_0 rfl (lv_at hl 0 rfl) ?_
  refine lv_if_lt (tgt := 9) hx hb dX1_bad_1 (by decide) (fun c_1 => ?_) (fun c_1 => ?_)
  · refine lv_iconst (v := 1) hx hb dX1_bad_9 (by decide +kernel) ?_
    refine lv_goto (tgt := 14) hx hb dX1_bad_10 (by decide) ?_
    exact W.zret (v := 1) hx hb hr rfl (fun t ht hW => ⟨1, rfl, (if_neg (fun h => h.1 c_1)).symm, ht⟩) (fun _ h => by cases h) dX1_bad_14
  · refine lv_iload_n hx hb dX1_bad_4 rfl (lv_at hl 0 rfl) ?_
    refine lv_iconst (v := 5) hx hb dX1_bad_5 (by decide +kernel) ?_
    refine lv_icmp_le (tgt := 13) hx hb dX1_bad_6 (by decide) (fun c_2 => ?_) (fun c_2 => ?_)
    · refine lv_iconst (v := 0) hx hb dX1_bad_13 (by decide +kernel) ?_
      exact W.zret (v := 0) hx hb hr rfl (fun t ht hW => ⟨0, rfl, (if_pos ⟨c_1, Int32.not_lt.mpr c_2⟩).symm, ht⟩) (fun _ h => by cases h) dX1_bad_14
    · refine lv_iconst (v := 1) hx hb dX1_bad_9 (by decide +kernel) ?_
      refine lv_goto (tgt := 14) hx hb dX1_bad_10 (by decide) ?_
      exact W.zret (v := 1) hx hb hr rfl (fun t ht hW => ⟨1, rfl, (if_neg (fun h => c_2 (Int32.not_lt.mp h.2))).symm, ht⟩) (fun _ h => by cases h) dX1_bad_14

set_option maxHeartbeats 4000000 in
set_option maxRecDepth 100000 in
/-- stands -/
theorem metX1_stands (l : Launch) (dC : Nat → ClassId) (dI : Nat → Nat → Nat) (h0 hv hm : Nat) (d1 d2 : ClassId) (V M : kF) (p0 : Int32) (p1 : Int32) (g0 : vp_in p0 6) : Met l yX1_stands (ws_ yX1_stands cX1_stands 3 (some .boolean)) ({ frames := 0, cells := 0, slots := 0, locals := 0 }) (va_Pc [.ref h0, .int p0, .int p1] (kbR (dC, dI) (kTy d1 d2) (mdW h0 hv hm d1 d2 V M))) (vp_Si (fun r => r = if kIn (V p0.toNatClampNeg) (M p0.toNatClampNeg) p1 then 1 else 0)) 0 0 (fun _ => False) := by
  refine Met.ofW (cc := cX1_stands) (maxL := 3) (ret := (some .boolean)) (by decide) rfl ?_
  intro p e s m args below meth c s₁ B hml hv_
  obtain ⟨rfl, hP, hK⟩ := hv_
  have hx := B.exec
  have hb := B.bytes
  have hr := B.returns
  have hts := atoms_spec (ws := ws_ yX1_stands cX1_stands 3 (some .boolean)) B.pre
  have hts : ∀ w ∈ lw_all, w.before _ s = true := fun w h => hts w (List.mem_cons_of_mem _ h)
  have hown : s.vm.findClass RX1 = some m.cls := findClass_of_methodNamed B.named
  have hlocks := B.notSynchronized
  have hP : va_P (dC, dI) vwCl (mdW h0 hv hm d1 d2 V M) s.heap := hP
  have hl := lv_entry ([.ref h0, .int p0, .int p1]) (n := 3) (Nat.le_of_ble_eq_true rfl)
  rw [lg_entry_eq]
  generalize (lg_sl ([.ref h0, .int p0, .int p1]) ++ List.replicate (3 - (lg_sl ([.ref h0, .int p0, .int p1])).length) Slot.unset).toArray = ls at hl ⊢
  have hl : lv_has ls 3 [(0, .ref h0), (1, .int p0), (2, .int p1)] := hl
  refine lv_iload_n hx hb dX1_stands_0 rfl (lv_at hl 2 rfl) ?_
  refine lv_aload_n hx hb dX1_stands_1 rfl (lv_at hl 0 rfl) ?_
  refine va_get (D := (dC, dI)) (ci := 1) (v := .ref hm) (C := RX1) (T := TX1) (N := 2) hx hb hts in_X1 hown hK hP 0 rfl rfl 1 (by decide) (hts _ q145) (fun _ h9 => h9) rfl dX1_stands_2 ?_
  refine lv_iload_n hx hb dX1_stands_5 rfl (lv_at hl 1 rfl) ?_
  refine va_iald hx hb hK hP 2 1 rfl rfl g0 dX1_stands_6 ?_
  refine lv_iconst (v := (-1)) hx hb dX1_stands_7 (by decide +kernel) ?_
  refine lv_ixor hx hb dX1_stands_8 ?_
  refine lv_iand hx hb dX1_stands_9 ?_
  refine lv_aload_n hx hb dX1_stands_10 rfl (lv_at hl 0 rfl) ?_
  refine va_get (D := (dC, dI)) (ci := 1) (v := .ref hv) (C := RX1) (T := TX1) (N := 2) hx hb hts in_X1 hown hK hP 0 rfl rfl 0 (by decide) (hts _ q144) (fun _ h9 => h9) rfl dX1_stands_11 ?_
  refine lv_iload_n hx hb dX1_stands_14 rfl (lv_at hl 1 rfl) ?_
  refine va_iald hx hb hK hP 1 0 rfl rfl g0 dX1_stands_15 ?_
  refine lv_icmp_ne (tgt := 23) hx hb dX1_stands_16 (by decide) (fun c_1 => ?_) (fun c_1 => ?_)
  · refine lv_iconst (v := 0) hx hb dX1_stands_23 (by decide +kernel) ?_
    exact W.zret (v := 0) hx hb hr rfl (fun t ht hW => ⟨0, rfl, (by first | rfl | (simp only [if_neg c_1]; done) | (simp only [if_neg c_1]; rfl)), ht⟩) (fun _ h => by cases h) dX1_stands_24
  · refine lv_iconst (v := 1) hx hb dX1_stands_19 (by decide +kernel) ?_
    refine lv_goto (tgt := 24) hx hb dX1_stands_20 (by decide) ?_
    exact W.zret (v := 1) hx hb hr rfl (fun t ht hW => ⟨1, rfl, (by first | rfl | (simp only [if_pos c_1]; done) | (simp only [if_pos c_1]; rfl)), ht⟩) (fun _ h => by cases h) dX1_stands_24

set_option maxHeartbeats 4000000 in
set_option maxRecDepth 100000 in
/-- set -/
theorem metX1_set (l : Launch) (dC : Nat → ClassId) (dI : Nat → Nat → Nat) (h0 hv hm : Nat) (d1 d2 : ClassId) (sz : Nat) (V M : kF) (p0 : Int32) (p1 : Int32) (p2 : Int32) : Met l yX1_set (ws_ yX1_set cX1_set 4 (some .int)) ({ frames := 1, cells := 0, slots := 0, locals := 20 }) (va_Pc [.ref h0, .int p0, .int p1, .int p2] (kbP (dC, dI) (kTy d1 d2) (mdW h0 hv hm d1 d2 V M) sz)) (va_Qi (fun (r : Int32) (u : kF × kF) => (r, u.1, u.2) = kOpSet V M p0 p1 p2) (mdB dC dI (kA h0 hv hm sz) h0 hv hm d1 d2) (kA h0 hv hm sz)) 0 0 (kA h0 hv hm sz) := by
  refine Met.ofW (cc := cX1_set) (maxL := 4) (ret := (some .int)) (by decide) rfl ?_
  intro p e s m args below meth c s₁ B hml hv_
  obtain ⟨rfl, hsz, hP, hK, hD0⟩ := hv_
  have hx := B.exec
  have hb := B.bytes
  have hr := B.returns
  have hts := atoms_spec (ws := ws_ yX1_set cX1_set 4 (some .int)) B.pre
  have hts : ∀ w ∈ lw_all, w.before _ s = true := fun w h => hts w (List.mem_cons_of_mem _ h)
  have hown : s.vm.findClass RX1 = some m.cls := findClass_of_methodNamed B.named
  have hlocks := B.notSynchronized
  subst hsz
  have hD := kA_md (sz := s.heap.size) hD0
  have hA : ∀ q : Nat, kA h0 hv hm s.heap.size q → kA h0 hv hm s.heap.size q := fun _ h => h
  generalize hAe : kA h0 hv hm s.heap.size = A at hD ⊢
  have hA : ∀ q : Nat, kA h0 hv hm s.heap.size q → A q := fun q h => by rw [← hAe]; exact h
  have hS : va_S A s.heap s.heap [] := va_S.rf
  have hP : va_P (dC, dI) vwCl (mdW h0 hv hm d1 d2 V M) s.heap := hP
  have hl := lv_entry ([.ref h0, .int p0, .int p1, .int p2]) (n := 4) (Nat.le_of_ble_eq_true rfl)
  rw [lg_entry_eq]
  generalize (lg_sl ([.ref h0, .int p0, .int p1, .int p2]) ++ List.replicate (4 - (lg_sl ([.ref h0, .int p0, .int p1, .int p2])).length) Slot.unset).toArray = ls at hl ⊢
  have hl : lv_has ls 4 [(0, .ref h0), (1, .int p0), (2, .int p1), (3, .int p2)] := hl
  refine lv_iload_n hx hb dX1_set_0 rfl (lv_at hl 1 rfl) ?_
  refine vp_callSi (W.runS (As := [.int p0]) (rest := []) ⟨hx, hb, hml, hown, hts⟩ (metX1_bad l p0) (va_cwS 1 hts (lw_S q155 q156 q17 q157) rfl rfl rfl (by decide +kernel) ⟨Nat.le_of_ble_eq_true rfl, Nat.le_of_ble_eq_true rfl⟩) ⟨fun _ _ _ _ q => q, fun U hU hW => ⟨rfl, trivial⟩⟩ rfl rfl hl.1 rfl (lv_room (Nat.le_of_ble_eq_true rfl)) dX1_set_1 ⟨Nat.le_of_ble_eq_true rfl, Nat.le_of_ble_eq_true rfl⟩) (fun r_1 hr_2 => ?_)
  refine lv_if_eq (tgt := 9) hx hb dX1_set_4 (by decide) (fun c_3 => ?_) (fun c_3 => ?_)
  · have g_4 := kb_ft hr_2 c_3
    refine lv_aload_n hx hb dX1_set_9 rfl (lv_at hl 0 rfl) ?_
    refine va_get (D := (dC, dI)) (ci := 1) (v := .ref hm) (C := RX1) (T := TX1) (N := 2) hx hb hts in_X1 hown hK hP 0 rfl rfl 1 (by decide) (hts _ q145) (fun _ h9 => h9) rfl dX1_set_10 ?_
    refine lv_iload_n hx hb dX1_set_13 rfl (lv_at hl 1 rfl) ?_
    refine lv_iload_n hx hb dX1_set_14 rfl (lv_at hl 3 rfl) ?_
    refine lv_bipush (v := 63) hx hb dX1_set_15 (by decide +kernel) ?_
    refine lv_iand hx hb dX1_set_17 ?_
    refine lv_topi (fun z_5 e_6 => ?_)
    refine va_iast hx hb hK hP hD hS 2 1 rfl rfl (kR_in g_4) dX1_set_18 (fun H locs hP hD hS => ?_)
    have hP : va_P (dC, dI) vwCl (mdW h0 hv hm d1 d2 V (upd M p0.toNatClampNeg z_5)) H := hP
    have hD : va_D A (mdW h0 hv hm d1 d2 V (upd M p0.toNatClampNeg z_5)) := hD
    refine lv_aload_n hx hb dX1_set_19 rfl (lv_at hl 0 rfl) ?_
    refine va_get (D := (dC, dI)) (ci := 1) (v := .ref hv) (C := RX1) (T := TX1) (N := 2) hx hb hts in_X1 hown hK hP 0 rfl rfl 0 (by decide) (hts _ q144) (fun _ h9 => h9) rfl dX1_set_20 ?_
    refine lv_iload_n hx hb dX1_set_23 rfl (lv_at hl 1 rfl) ?_
    refine lv_iload_n hx hb dX1_set_24 rfl (lv_at hl 2 rfl) ?_
    refine lv_bipush (v := 63) hx hb dX1_set_25 (by decide +kernel) ?_
    refine lv_iand hx hb dX1_set_27 ?_
    refine lv_aload_n hx hb dX1_set_28 rfl (lv_at hl 0 rfl) ?_
    refine va_get (D := (dC, dI)) (ci := 1) (v := .ref hm) (C := RX1) (T := TX1) (N := 2) hx hb hts in_X1 hown hK hP 0 rfl rfl 1 (by decide) (hts _ q145) (fun _ h9 => h9) rfl dX1_set_29 ?_
    refine lv_iload_n hx hb dX1_set_32 rfl (lv_at hl 1 rfl) ?_
    refine va_iald hx hb hK hP 2 1 rfl rfl (kR_in g_4) dX1_set_33 ?_
    refine lv_iconst (v := (-1)) hx hb dX1_set_34 (by decide +kernel) ?_
    refine lv_ixor hx hb dX1_set_35 ?_
    refine lv_iand hx hb dX1_set_36 ?_
    refine lv_topi (fun z_7 e_8 => ?_)
    refine va_iast hx hb hK hP hD hS 1 0 rfl rfl (kR_in g_4) dX1_set_37 (fun H locs hP hD hS => ?_)
    have hP : va_P (dC, dI) vwCl (mdW h0 hv hm d1 d2 (upd V p0.toNatClampNeg z_7) (upd M p0.toNatClampNeg z_5)) H := hP
    have hD : va_D A (mdW h0 hv hm d1 d2 (upd V p0.toNatClampNeg z_7) (upd M p0.toNatClampNeg z_5)) := hD
    refine lv_iconst (v := 0) hx hb dX1_set_38 (by decide +kernel) ?_
    exact W.iret (v := 0) hx hb hr (fun t ht hW => ⟨⟨0, (upd V p0.toNatClampNeg z_7, upd M p0.toNatClampNeg z_5), rfl, (by subst e_6 e_8; rw [kOpSet, if_pos g_4]; simp only [pk_us, m_and_not]), by rw [ht]; exact hP, va_K.moved hW.alike hK, hD⟩, hS.F ht⟩) hS.2.2 dX1_set_39
  · have g_9 := kb_ff hr_2 c_3
    refine lv_iconst (v := (-1)) hx hb dX1_set_7 (by decide +kernel) ?_
    exact W.iret (v := (-1)) hx hb hr (fun t ht hW => ⟨⟨(-1), (V, M), rfl, (by first | rfl | (simp only [kOpSet, if_neg g_9]; done) | (simp only [kOpSet, if_neg g_9]; rfl)), by rw [ht]; exact hP, va_K.moved hW.alike hK, hD⟩, hS.F ht⟩) hS.2.2 dX1_set_8

set_option maxHeartbeats 4000000 in
set_option maxRecDepth 100000 in
/-- value -/
theorem metX1_value (l : Launch) (dC : Nat → ClassId) (dI : Nat → Nat → Nat) (h0 hv hm : Nat) (d1 d2 : ClassId) (V M : kF) (p0 : Int32) : Met l yX1_value (ws_ yX1_value cX1_value 2 (some .int)) ({ frames := 1, cells := 0, slots := 0, locals := 20 }) (va_Pc [.ref h0, .int p0] (kbR (dC, dI) (kTy d1 d2) (mdW h0 hv hm d1 d2 V M))) (vp_Si (fun r => r = if kR p0 then V p0.toNatClampNeg else -1)) 0 0 (fun _ => False) := by
  refine Met.ofW (cc := cX1_value) (maxL := 2) (ret := (some .int)) (by decide) rfl ?_
  intro p e s m args below meth c s₁ B hml hv_
  obtain ⟨rfl, hP, hK⟩ := hv_
  have hx := B.exec
  have hb := B.bytes
  have hr := B.returns
  have hts := atoms_spec (ws := ws_ yX1_value cX1_value 2 (some .int)) B.pre
  have hts : ∀ w ∈ lw_all, w.before _ s = true := fun w h => hts w (List.mem_cons_of_mem _ h)
  have hown : s.vm.findClass RX1 = some m.cls := findClass_of_methodNamed B.named
  have hlocks := B.notSynchronized
  have hP : va_P (dC, dI) vwCl (mdW h0 hv hm d1 d2 V M) s.heap := hP
  have hl := lv_entry ([.ref h0, .int p0]) (n := 2) (Nat.le_of_ble_eq_true rfl)
  rw [lg_entry_eq]
  generalize (lg_sl ([.ref h0, .int p0]) ++ List.replicate (2 - (lg_sl ([.ref h0, .int p0])).length) Slot.unset).toArray = ls at hl ⊢
  have hl : lv_has ls 2 [(0, .ref h0), (1, .int p0)] := hl
  refine lv_iload_n hx hb dX1_value_0 rfl (lv_at hl 1 rfl) ?_
  refine vp_callSi (W.runS (As := [.int p0]) (rest := []) ⟨hx, hb, hml, hown, hts⟩ (metX1_bad l p0) (va_cwS 1 hts (lw_S q155 q156 q17 q157) rfl rfl rfl (by decide +kernel) ⟨Nat.le_of_ble_eq_true rfl, Nat.le_of_ble_eq_true rfl⟩) ⟨fun _ _ _ _ q => q, fun U hU hW => ⟨rfl, trivial⟩⟩ rfl rfl hl.1 rfl (lv_room (Nat.le_of_ble_eq_true rfl)) dX1_value_1 ⟨Nat.le_of_ble_eq_true rfl, Nat.le_of_ble_eq_true rfl⟩) (fun r_1 hr_2 => ?_)
  refine lv_if_eq (tgt := 11) hx hb dX1_value_4 (by decide) (fun c_3 => ?_) (fun c_3 => ?_)
  · have g_4 := kb_ft hr_2 c_3
    refine lv_aload_n hx hb dX1_value_11 rfl (lv_at hl 0 rfl) ?_
    refine va_get (D := (dC, dI)) (ci := 1) (v := .ref hv) (C := RX1) (T := TX1) (N := 2) hx hb hts in_X1 hown hK hP 0 rfl rfl 0 (by decide) (hts _ q144) (fun _ h9 => h9) rfl dX1_value_12 ?_
    refine lv_iload_n hx hb dX1_value_15 rfl (lv_at hl 1 rfl) ?_
    refine va_iald hx hb hK hP 1 0 rfl rfl (kR_in g_4) dX1_value_16 ?_
    exact W.iret (v := V p0.toNatClampNeg) hx hb hr (fun t ht hW => ⟨V p0.toNatClampNeg, rfl, (by first | rfl | (simp only [if_pos g_4]; done) | (simp only [if_pos g_4]; rfl)), ht⟩) (fun _ h => by cases h) dX1_value_17
  · have g_5 := kb_ff hr_2 c_3
    refine lv_iconst (v := (-1)) hx hb dX1_value_7 (by decide +kernel) ?_
    refine lv_goto (tgt := 17) hx hb dX1_value_8 (by decide) ?_
    exact W.iret (v := (-1)) hx hb hr (fun t ht hW => ⟨(-1), rfl, (by first | rfl | (simp only [if_neg g_5]; done) | (simp only [if_neg g_5]; rfl)), ht⟩) (fun _ h => by cases h) dX1_value_17

set_option maxHeartbeats 4000000 in
set_option maxRecDepth 100000 in
/-- mask -/
theorem metX1_mask (l : Launch) (dC : Nat → ClassId) (dI : Nat → Nat → Nat) (h0 hv hm : Nat) (d1 d2 : ClassId) (V M : kF) (p0 : Int32) : Met l yX1_mask (ws_ yX1_mask cX1_mask 2 (some .int)) ({ frames := 1, cells := 0, slots := 0, locals := 20 }) (va_Pc [.ref h0, .int p0] (kbR (dC, dI) (kTy d1 d2) (mdW h0 hv hm d1 d2 V M))) (vp_Si (fun r => r = if kR p0 then M p0.toNatClampNeg else -1)) 0 0 (fun _ => False) := by
  refine Met.ofW (cc := cX1_mask) (maxL := 2) (ret := (some .int)) (by decide) rfl ?_
  intro p e s m args below meth c s₁ B hml hv_
  obtain ⟨rfl, hP, hK⟩ := hv_
  have hx := B.exec
  have hb := B.bytes
  have hr := B.returns
  have hts := atoms_spec (ws := ws_ yX1_mask cX1_mask 2 (some .int)) B.pre
  have hts : ∀ w ∈ lw_all, w.before _ s = true := fun w h => hts w (List.mem_cons_of_mem _ h)
  have hown : s.vm.findClass RX1 = some m.cls := findClass_of_methodNamed B.named
  have hlocks := B.notSynchronized
  have hP : va_P (dC, dI) vwCl (mdW h0 hv hm d1 d2 V M) s.heap := hP
  have hl := lv_entry ([.ref h0, .int p0]) (n := 2) (Nat.le_of_ble_eq_true rfl)
  rw [lg_entry_eq]
  generalize (lg_sl ([.ref h0, .int p0]) ++ List.replicate (2 - (lg_sl ([.ref h0, .int p0])).length) Slot.unset).toArray = ls at hl ⊢
  have hl : lv_has ls 2 [(0, .ref h0), (1, .int p0)] := hl
  refine lv_iload_n hx hb dX1_mask_0 rfl (lv_at hl 1 rfl) ?_
  refine vp_callSi (W.runS (As := [.int p0]) (rest := []) ⟨hx, hb, hml, hown, hts⟩ (metX1_bad l p0) (va_cwS 1 hts (lw_S q155 q156 q17 q157) rfl rfl rfl (by decide +kernel) ⟨Nat.le_of_ble_eq_true rfl, Nat.le_of_ble_eq_true rfl⟩) ⟨fun _ _ _ _ q => q, fun U hU hW => ⟨rfl, trivial⟩⟩ rfl rfl hl.1 rfl (lv_room (Nat.le_of_ble_eq_true rfl)) dX1_mask_1 ⟨Nat.le_of_ble_eq_true rfl, Nat.le_of_ble_eq_true rfl⟩) (fun r_1 hr_2 => ?_)
  refine lv_if_eq (tgt := 11) hx hb dX1_mask_4 (by decide) (fun c_3 => ?_) (fun c_3 => ?_)
  · have g_4 := kb_ft hr_2 c_3
    refine lv_aload_n hx hb dX1_mask_11 rfl (lv_at hl 0 rfl) ?_
    refine va_get (D := (dC, dI)) (ci := 1) (v := .ref hm) (C := RX1) (T := TX1) (N := 2) hx hb hts in_X1 hown hK hP 0 rfl rfl 1 (by decide) (hts _ q145) (fun _ h9 => h9) rfl dX1_mask_12 ?_
    refine lv_iload_n hx hb dX1_mask_15 rfl (lv_at hl 1 rfl) ?_
    refine va_iald hx hb hK hP 2 1 rfl rfl (kR_in g_4) dX1_mask_16 ?_
    exact W.iret (v := M p0.toNatClampNeg) hx hb hr (fun t ht hW => ⟨M p0.toNatClampNeg, rfl, (by first | rfl | (simp only [if_pos g_4]; done) | (simp only [if_pos g_4]; rfl)), ht⟩) (fun _ h => by cases h) dX1_mask_17
  · have g_5 := kb_ff hr_2 c_3
    refine lv_iconst (v := (-1)) hx hb dX1_mask_7 (by decide +kernel) ?_
    refine lv_goto (tgt := 17) hx hb dX1_mask_8 (by decide) ?_
    exact W.iret (v := (-1)) hx hb hr (fun t ht hW => ⟨(-1), rfl, (by first | rfl | (simp only [if_neg g_5]; done) | (simp only [if_neg g_5]; rfl)), ht⟩) (fun _ h => by cases h) dX1_mask_17

set_option maxHeartbeats 4000000 in
set_option maxRecDepth 100000 in
/-- holds -/
theorem metX1_holds (l : Launch) (p0 : Int32) (p1 : Int32) (p2 : Int32) : Met l yX1_holds (ws_ yX1_holds cX1_holds 3 (some .boolean)) ({ frames := 0, cells := 0, slots := 0, locals := 0 }) (va_Pc [.int p0, .int p1, .int p2] (fun _ => True)) (vp_Si (fun r => r = kHo p0 p1 p2)) 0 0 (fun _ => False) := by
  refine Met.ofW (cc := cX1_holds) (maxL := 3) (ret := (some .boolean)) (by decide) rfl ?_
  intro p e s m args below meth c s₁ B hml hv_
  obtain ⟨rfl, -⟩ := hv_
  have hx := B.exec
  have hb := B.bytes
  have hr := B.returns
  have hts := atoms_spec (ws := ws_ yX1_holds cX1_holds 3 (some .boolean)) B.pre
  have hts : ∀ w ∈ lw_all, w.before _ s = true := fun w h => hts w (List.mem_cons_of_mem _ h)
  have hown : s.vm.findClass RX1 = some m.cls := findClass_of_methodNamed B.named
  have hlocks := B.notSynchronized
  have hl := lv_entry ([.int p0, .int p1, .int p2]) (n := 3) (Nat.le_of_ble_eq_true rfl)
  rw [lg_entry_eq]
  generalize (lg_sl ([.int p0, .int p1, .int p2]) ++ List.replicate (3 - (lg_sl ([.int p0, .int p1, .int p2])).length) Slot.unset).toArray = ls at hl ⊢
  have hl : lv_has ls 3 [(0, .int p0), (1, .int p1), (2, .int p2)] := hl
  refine lv_iload_n hx hb dX1_holds_0 rfl (lv_at hl 1 rfl) ?_
  refine lv_if_ne (tgt := 15) hx hb dX1_holds_1 (by decide) (fun c_1 => ?_) (fun c_1 => ?_)
  · refine lv_iload_n hx hb dX1_holds_15 rfl (lv_at hl 1 rfl) ?_
    refine lv_iconst (v := 1) hx hb dX1_holds_16 (by decide +kernel) ?_
    refine lv_icmp_ne (tgt := 31) hx hb dX1_holds_17 (by decide) (fun c_2 => ?_) (fun c_2 => ?_)
    · refine lv_iload_n hx hb dX1_holds_31 rfl (lv_at hl 1 rfl) ?_
      refine lv_iconst (v := 2) hx hb dX1_holds_32 (by decide +kernel) ?_
      refine lv_icmp_ne (tgt := 47) hx hb dX1_holds_33 (by decide) (fun c_3 => ?_) (fun c_3 => ?_)
      · refine lv_iload_n hx hb dX1_holds_47 rfl (lv_at hl 1 rfl) ?_
        refine lv_iconst (v := 3) hx hb dX1_holds_48 (by decide +kernel) ?_
        refine lv_icmp_ne (tgt := 63) hx hb dX1_holds_49 (by decide) (fun c_4 => ?_) (fun c_4 => ?_)
        · refine lv_iload_n hx hb dX1_holds_63 rfl (lv_at hl 1 rfl) ?_
          refine lv_iconst (v := 4) hx hb dX1_holds_64 (by decide +kernel) ?_
          refine lv_icmp_ne (tgt := 79) hx hb dX1_holds_65 (by decide) (fun c_5 => ?_) (fun c_5 => ?_)
          · refine lv_iload_n hx hb dX1_holds_79 rfl (lv_at hl 0 rfl) ?_
            refine lv_iload_n hx hb dX1_holds_80 rfl (lv_at hl 2 rfl) ?_
            refine lv_icmp_le (tgt := 88) hx hb dX1_holds_81 (by decide) (fun c_6 => ?_) (fun c_6 => ?_)
            · refine lv_iconst (v := 0) hx hb dX1_holds_88 (by decide +kernel) ?_
              exact W.zret (v := 0) hx hb hr rfl (fun t ht hW => ⟨0, rfl, (by first | rfl | (simp only [kHo, if_neg c_1, if_neg c_2, if_neg c_3, if_neg c_4, if_neg c_5, if_pos c_6]; done) | (simp only [kHo, if_neg c_1, if_neg c_2, if_neg c_3, if_neg c_4, if_neg c_5, if_pos c_6]; rfl)), ht⟩) (fun _ h => by cases h) dX1_holds_89
            · refine lv_iconst (v := 1) hx hb dX1_holds_84 (by decide +kernel) ?_
              refine lv_goto (tgt := 89) hx hb dX1_holds_85 (by decide) ?_
              exact W.zret (v := 1) hx hb hr rfl (fun t ht hW => ⟨1, rfl, (by first | rfl | (simp only [kHo, if_neg c_1, if_neg c_2, if_neg c_3, if_neg c_4, if_neg c_5, if_neg c_6]; done) | (simp only [kHo, if_neg c_1, if_neg c_2, if_neg c_3, if_neg c_4, if_neg c_5, if_neg c_6]; rfl)), ht⟩) (fun _ h => by cases h) dX1_holds_89
          · refine lv_iload_n hx hb dX1_holds_68 rfl (lv_at hl 0 rfl) ?_
            refine lv_iload_n hx hb dX1_holds_69 rfl (lv_at hl 2 rfl) ?_
            refine lv_icmp_lt (tgt := 77) hx hb dX1_holds_70 (by decide) (fun c_7 => ?_) (fun c_7 => ?_)
            · refine lv_iconst (v := 0) hx hb dX1_holds_77 (by decide +kernel) ?_
              exact W.zret (v := 0) hx hb hr rfl (fun t ht hW => ⟨0, rfl, (by first | rfl | (simp only [kHo, if_neg c_1, if_neg c_2, if_neg c_3, if_neg c_4, if_pos c_5, if_pos c_7]; done) | (simp only [kHo, if_neg c_1, if_neg c_2, if_neg c_3, if_neg c_4, if_pos c_5, if_pos c_7]; rfl)), ht⟩) (fun _ h => by cases h) dX1_holds_78
            · refine lv_iconst (v := 1) hx hb dX1_holds_73 (by decide +kernel) ?_
              refine lv_goto (tgt := 78) hx hb dX1_holds_74 (by decide) ?_
              exact W.zret (v := 1) hx hb hr rfl (fun t ht hW => ⟨1, rfl, (by first | rfl | (simp only [kHo, if_neg c_1, if_neg c_2, if_neg c_3, if_neg c_4, if_pos c_5, if_neg c_7]; done) | (simp only [kHo, if_neg c_1, if_neg c_2, if_neg c_3, if_neg c_4, if_pos c_5, if_neg c_7]; rfl)), ht⟩) (fun _ h => by cases h) dX1_holds_78
        · refine lv_iload_n hx hb dX1_holds_52 rfl (lv_at hl 0 rfl) ?_
          refine lv_iload_n hx hb dX1_holds_53 rfl (lv_at hl 2 rfl) ?_
          refine lv_icmp_eq (tgt := 61) hx hb dX1_holds_54 (by decide) (fun c_8 => ?_) (fun c_8 => ?_)
          · refine lv_iconst (v := 0) hx hb dX1_holds_61 (by decide +kernel) ?_
            exact W.zret (v := 0) hx hb hr rfl (fun t ht hW => ⟨0, rfl, (by first | rfl | (simp only [kHo, if_neg c_1, if_neg c_2, if_neg c_3, if_pos c_4, if_pos c_8]; done) | (simp only [kHo, if_neg c_1, if_neg c_2, if_neg c_3, if_pos c_4, if_pos c_8]; rfl)), ht⟩) (fun _ h => by cases h) dX1_holds_62
          · refine lv_iconst (v := 1) hx hb dX1_holds_57 (by decide +kernel) ?_
            refine lv_goto (tgt := 62) hx hb dX1_holds_58 (by decide) ?_
            exact W.zret (v := 1) hx hb hr rfl (fun t ht hW => ⟨1, rfl, (by first | rfl | (simp only [kHo, if_neg c_1, if_neg c_2, if_neg c_3, if_pos c_4, if_neg c_8]; done) | (simp only [kHo, if_neg c_1, if_neg c_2, if_neg c_3, if_pos c_4, if_neg c_8]; rfl)), ht⟩) (fun _ h => by cases h) dX1_holds_62
      · refine lv_iload_n hx hb dX1_holds_36 rfl (lv_at hl 0 rfl) ?_
        refine lv_iload_n hx hb dX1_holds_37 rfl (lv_at hl 2 rfl) ?_
        refine lv_icmp_gt (tgt := 45) hx hb dX1_holds_38 (by decide) (fun c_9 => ?_) (fun c_9 => ?_)
        · refine lv_iconst (v := 0) hx hb dX1_holds_45 (by decide +kernel) ?_
          exact W.zret (v := 0) hx hb hr rfl (fun t ht hW => ⟨0, rfl, (by first | rfl | (simp only [kHo, if_neg c_1, if_neg c_2, if_pos c_3, if_pos c_9]; done) | (simp only [kHo, if_neg c_1, if_neg c_2, if_pos c_3, if_pos c_9]; rfl)), ht⟩) (fun _ h => by cases h) dX1_holds_46
        · refine lv_iconst (v := 1) hx hb dX1_holds_41 (by decide +kernel) ?_
          refine lv_goto (tgt := 46) hx hb dX1_holds_42 (by decide) ?_
          exact W.zret (v := 1) hx hb hr rfl (fun t ht hW => ⟨1, rfl, (by first | rfl | (simp only [kHo, if_neg c_1, if_neg c_2, if_pos c_3, if_neg c_9]; done) | (simp only [kHo, if_neg c_1, if_neg c_2, if_pos c_3, if_neg c_9]; rfl)), ht⟩) (fun _ h => by cases h) dX1_holds_46
    · refine lv_iload_n hx hb dX1_holds_20 rfl (lv_at hl 0 rfl) ?_
      refine lv_iload_n hx hb dX1_holds_21 rfl (lv_at hl 2 rfl) ?_
      refine lv_icmp_ge (tgt := 29) hx hb dX1_holds_22 (by decide) (fun c_10 => ?_) (fun c_10 => ?_)
      · refine lv_iconst (v := 0) hx hb dX1_holds_29 (by decide +kernel) ?_
        exact W.zret (v := 0) hx hb hr rfl (fun t ht hW => ⟨0, rfl, (by first | rfl | (simp only [kHo, if_neg c_1, if_pos c_2, if_pos c_10]; done) | (simp only [kHo, if_neg c_1, if_pos c_2, if_pos c_10]; rfl)), ht⟩) (fun _ h => by cases h) dX1_holds_30
      · refine lv_iconst (v := 1) hx hb dX1_holds_25 (by decide +kernel) ?_
        refine lv_goto (tgt := 30) hx hb dX1_holds_26 (by decide) ?_
        exact W.zret (v := 1) hx hb hr rfl (fun t ht hW => ⟨1, rfl, (by first | rfl | (simp only [kHo, if_neg c_1, if_pos c_2, if_neg c_10]; done) | (simp only [kHo, if_neg c_1, if_pos c_2, if_neg c_10]; rfl)), ht⟩) (fun _ h => by cases h) dX1_holds_30
  · refine lv_iload_n hx hb dX1_holds_4 rfl (lv_at hl 0 rfl) ?_
    refine lv_iload_n hx hb dX1_holds_5 rfl (lv_at hl 2 rfl) ?_
    refine lv_icmp_ne (tgt := 13) hx hb dX1_holds_6 (by decide) (fun c_11 => ?_) (fun c_11 => ?_)
    · refine lv_iconst (v := 0) hx hb dX1_holds_13 (by decide +kernel) ?_
      exact W.zret (v := 0) hx hb hr rfl (fun t ht hW => ⟨0, rfl, (by first | rfl | (simp only [kHo, if_pos c_1, if_neg c_11]; done) | (simp only [kHo, if_pos c_1, if_neg c_11]; rfl)), ht⟩) (fun _ h => by cases h) dX1_holds_14
    · refine lv_iconst (v := 1) hx hb dX1_holds_9 (by decide +kernel) ?_
      refine lv_goto (tgt := 14) hx hb dX1_holds_10 (by decide) ?_
      exact W.zret (v := 1) hx hb hr rfl (fun t ht hW => ⟨1, rfl, (by first | rfl | (simp only [kHo, if_pos c_1, if_pos c_11]; done) | (simp only [kHo, if_pos c_1, if_pos c_11]; rfl)), ht⟩) (fun _ h => by cases h) dX1_holds_14

set_option maxHeartbeats 4000000 in
set_option maxRecDepth 100000 in
/-- results -/
theorem metX1_results (l : Launch) (dC : Nat → ClassId) (dI : Nat → Nat → Nat) (h0 hv hm : Nat) (d1 d2 : ClassId) (V M : kF) (p0 : Int32) (p1 : Int32) (p2 : Int32) (p3 : Int32) (g3 : vp_in p3 6) : Met l yX1_results (ws_ yX1_results cX1_results 5 (some .long)) ({ frames := 1, cells := 0, slots := 0, locals := 22 }) (va_Pc [.ref h0, .int p0, .int p1, .int p2, .int p3] (kbR (dC, dI) (kTy d1 d2) (mdW h0 hv hm d1 d2 V M))) (vp_Sl (fun r => r = kRes p0 p1 p2 (V p3.toNatClampNeg) (M p3.toNatClampNeg))) 0 0 (fun _ => False) := by
  refine Met.ofW (cc := cX1_results) (maxL := 5) (ret := (some .long)) (by decide) rfl ?_
  intro p e s m args below meth c s₁ B hml hv_
  obtain ⟨rfl, hP, hK⟩ := hv_
  have hx := B.exec
  have hb := B.bytes
  have hr := B.returns
  have hts := atoms_spec (ws := ws_ yX1_results cX1_results 5 (some .long)) B.pre
  have hts : ∀ w ∈ lw_all, w.before _ s = true := fun w h => hts w (List.mem_cons_of_mem _ h)
  have hown : s.vm.findClass RX1 = some m.cls := findClass_of_methodNamed B.named
  have hlocks := B.notSynchronized
  have hP : va_P (dC, dI) vwCl (mdW h0 hv hm d1 d2 V M) s.heap := hP
  have hl := lv_entry ([.ref h0, .int p0, .int p1, .int p2, .int p3]) (n := 5) (Nat.le_of_ble_eq_true rfl)
  rw [lg_entry_eq]
  generalize (lg_sl ([.ref h0, .int p0, .int p1, .int p2, .int p3]) ++ List.replicate (5 - (lg_sl ([.ref h0, .int p0, .int p1, .int p2, .int p3])).length) Slot.unset).toArray = ls at hl ⊢
  have hl : lv_has ls 5 [(0, .ref h0), (1, .int p0), (2, .int p1), (3, .int p2), (4, .int p3)] := hl
  refine lv_iload_n hx hb dX1_results_0 rfl (lv_at hl 1 rfl) ?_
  refine lv_if_ne (tgt := 13) hx hb dX1_results_1 (by decide) (fun c_1 => ?_) (fun c_1 => ?_)
  · refine lv_iload_n hx hb dX1_results_13 rfl (lv_at hl 1 rfl) ?_
    refine lv_iconst (v := 1) hx hb dX1_results_14 (by decide +kernel) ?_
    refine lv_icmp_ne (tgt := 27) hx hb dX1_results_15 (by decide) (fun c_2 => ?_) (fun c_2 => ?_)
    · refine lv_iload_n hx hb dX1_results_27 rfl (lv_at hl 1 rfl) ?_
      refine lv_iconst (v := 2) hx hb dX1_results_28 (by decide +kernel) ?_
      refine lv_icmp_ne (tgt := 38) hx hb dX1_results_29 (by decide) (fun c_3 => ?_) (fun c_3 => ?_)
      · refine lv_iload_n hx hb dX1_results_38 rfl (lv_at hl 1 rfl) ?_
        refine lv_iconst (v := 3) hx hb dX1_results_39 (by decide +kernel) ?_
        refine lv_icmp_ne (tgt := 49) hx hb dX1_results_40 (by decide) (fun c_4 => ?_) (fun c_4 => ?_)
        · refine lv_iload_n hx hb dX1_results_49 rfl (lv_at hl 1 rfl) ?_
          refine lv_iconst (v := 4) hx hb dX1_results_50 (by decide +kernel) ?_
          refine lv_icmp_ne (tgt := 60) hx hb dX1_results_51 (by decide) (fun c_5 => ?_) (fun c_5 => ?_)
          · refine lv_iload_n hx hb dX1_results_60 rfl (lv_at hl 1 rfl) ?_
            refine lv_iconst (v := 5) hx hb dX1_results_61 (by decide +kernel) ?_
            refine lv_icmp_ne (tgt := 73) hx hb dX1_results_62 (by decide) (fun c_6 => ?_) (fun c_6 => ?_)
            · refine lv_aload_n hx hb dX1_results_73 rfl (lv_at hl 0 rfl) ?_
              refine lv_iload hx hb dX1_results_74 (lv_at hl 4 rfl) ?_
              refine lv_iload_n hx hb dX1_results_76 rfl (lv_at hl 2 rfl) ?_
              refine vp_callSi (W.runV (As := [.int p3, .int p1]) (rest := []) ⟨hx, hb, hml, hown, hts⟩ (metX1_stands l dC dI h0 hv hm d1 d2 V M p3 p1 g3) (cwV 2 hts (lw_V q162 q164 qs12 q17 q165) rfl rfl rfl (by decide +kernel) ⟨Nat.le_of_ble_eq_true rfl, Nat.le_of_ble_eq_true rfl⟩) ⟨kb_blindR, va_recv hK hP (ci := 1) (q0 := 0) rfl rfl, fun U hU hW => ⟨rfl, by rw [hU]; exact hP, va_K.moved hW.alike hK⟩⟩ rfl rfl hl.1 rfl (lv_room (Nat.le_of_ble_eq_true rfl)) dX1_results_77 ⟨Nat.le_of_ble_eq_true rfl, Nat.le_of_ble_eq_true rfl⟩) (fun r_7 hr_8 => ?_)
              refine lv_if_eq (tgt := 89) hx hb dX1_results_80 (by decide) (fun c_9 => ?_) (fun c_9 => ?_)
              · have g_10 := kb_tf hr_8 c_9
                refine lv_lconst (v := 0) hx hb dX1_results_89 (by decide +kernel) ?_
                exact W.lret (v := 0) hx hb hr (fun t ht hW => ⟨0, rfl, (by first | rfl | (simp only [kRes, kBi, if_neg c_1, if_neg c_2, if_neg c_3, if_neg c_4, if_neg c_5, if_neg c_6, if_neg g_10]; done) | (simp only [kRes, kBi, if_neg c_1, if_neg c_2, if_neg c_3, if_neg c_4, if_neg c_5, if_neg c_6, if_neg g_10]; rfl)), ht⟩) (fun _ h => by cases h) dX1_results_90
              · have g_11 := kb_tt hr_8 c_9
                refine lv_lconst (v := 1) hx hb dX1_results_83 (by decide +kernel) ?_
                refine lv_iload_n hx hb dX1_results_84 rfl (lv_at hl 2 rfl) ?_
                refine lv_lshl (v := 1 <<< (p1.toInt64 &&& 63)) hx hb dX1_results_85 rfl ?_
                refine lv_goto (tgt := 90) hx hb dX1_results_86 (by decide) ?_
                exact W.lret (v := 1 <<< (p1.toInt64 &&& 63)) hx hb hr (fun t ht hW => ⟨1 <<< (p1.toInt64 &&& 63), rfl, (by first | rfl | (simp only [kRes, kBi, if_neg c_1, if_neg c_2, if_neg c_3, if_neg c_4, if_neg c_5, if_neg c_6, if_pos g_11]; done) | (simp only [kRes, kBi, if_neg c_1, if_neg c_2, if_neg c_3, if_neg c_4, if_neg c_5, if_neg c_6, if_pos g_11]; rfl)), ht⟩) (fun _ h => by cases h) dX1_results_90
            · refine lv_lconst (v := 1) hx hb dX1_results_65 (by decide +kernel) ?_
              refine lv_iload_n hx hb dX1_results_66 rfl (lv_at hl 2 rfl) ?_
              refine lv_lshl (v := 1 <<< (p1.toInt64 &&& 63)) hx hb dX1_results_67 rfl ?_
              refine lv_lconst (v := 1) hx hb dX1_results_68 (by decide +kernel) ?_
              refine lv_iload_n hx hb dX1_results_69 rfl (lv_at hl 3 rfl) ?_
              refine lv_lshl (v := 1 <<< (p2.toInt64 &&& 63)) hx hb dX1_results_70 rfl ?_
              refine lv_lor hx hb dX1_results_71 ?_
              exact W.lret (v := (1 <<< (p1.toInt64 &&& 63)) ||| (1 <<< (p2.toInt64 &&& 63))) hx hb hr (fun t ht hW => ⟨(1 <<< (p1.toInt64 &&& 63)) ||| (1 <<< (p2.toInt64 &&& 63)), rfl, (by first | rfl | (simp only [kRes, kBi, if_neg c_1, if_neg c_2, if_neg c_3, if_neg c_4, if_neg c_5, if_pos c_6]; done) | (simp only [kRes, kBi, if_neg c_1, if_neg c_2, if_neg c_3, if_neg c_4, if_neg c_5, if_pos c_6]; rfl)), ht⟩) (fun _ h => by cases h) dX1_results_72
          · refine lv_lconst (v := 1) hx hb dX1_results_54 (by decide +kernel) ?_
            refine lv_iload_n hx hb dX1_results_55 rfl (lv_at hl 2 rfl) ?_
            refine lv_iload_n hx hb dX1_results_56 rfl (lv_at hl 3 rfl) ?_
            refine lv_ixor hx hb dX1_results_57 ?_
            refine lv_lshl (v := 1 <<< ((p1 ^^^ p2).toInt64 &&& 63)) hx hb dX1_results_58 rfl ?_
            exact W.lret (v := 1 <<< ((p1 ^^^ p2).toInt64 &&& 63)) hx hb hr (fun t ht hW => ⟨1 <<< ((p1 ^^^ p2).toInt64 &&& 63), rfl, (by first | rfl | (simp only [kRes, kBi, if_neg c_1, if_neg c_2, if_neg c_3, if_neg c_4, if_pos c_5]; done) | (simp only [kRes, kBi, if_neg c_1, if_neg c_2, if_neg c_3, if_neg c_4, if_pos c_5]; rfl)), ht⟩) (fun _ h => by cases h) dX1_results_59
        · refine lv_lconst (v := 1) hx hb dX1_results_43 (by decide +kernel) ?_
          refine lv_iload_n hx hb dX1_results_44 rfl (lv_at hl 2 rfl) ?_
          refine lv_iload_n hx hb dX1_results_45 rfl (lv_at hl 3 rfl) ?_
          refine lv_ior hx hb dX1_results_46 ?_
          refine lv_lshl (v := 1 <<< ((p1 ||| p2).toInt64 &&& 63)) hx hb dX1_results_47 rfl ?_
          exact W.lret (v := 1 <<< ((p1 ||| p2).toInt64 &&& 63)) hx hb hr (fun t ht hW => ⟨1 <<< ((p1 ||| p2).toInt64 &&& 63), rfl, (by first | rfl | (simp only [kRes, kBi, if_neg c_1, if_neg c_2, if_neg c_3, if_pos c_4]; done) | (simp only [kRes, kBi, if_neg c_1, if_neg c_2, if_neg c_3, if_pos c_4]; rfl)), ht⟩) (fun _ h => by cases h) dX1_results_48
      · refine lv_lconst (v := 1) hx hb dX1_results_32 (by decide +kernel) ?_
        refine lv_iload_n hx hb dX1_results_33 rfl (lv_at hl 2 rfl) ?_
        refine lv_iload_n hx hb dX1_results_34 rfl (lv_at hl 3 rfl) ?_
        refine lv_iand hx hb dX1_results_35 ?_
        refine lv_lshl (v := 1 <<< ((p1 &&& p2).toInt64 &&& 63)) hx hb dX1_results_36 rfl ?_
        exact W.lret (v := 1 <<< ((p1 &&& p2).toInt64 &&& 63)) hx hb hr (fun t ht hW => ⟨1 <<< ((p1 &&& p2).toInt64 &&& 63), rfl, (by first | rfl | (simp only [kRes, kBi, if_neg c_1, if_neg c_2, if_pos c_3]; done) | (simp only [kRes, kBi, if_neg c_1, if_neg c_2, if_pos c_3]; rfl)), ht⟩) (fun _ h => by cases h) dX1_results_37
    · refine lv_lconst (v := 1) hx hb dX1_results_18 (by decide +kernel) ?_
      refine lv_iload_n hx hb dX1_results_19 rfl (lv_at hl 2 rfl) ?_
      refine lv_iload_n hx hb dX1_results_20 rfl (lv_at hl 3 rfl) ?_
      refine lv_isub hx hb dX1_results_21 ?_
      refine lv_bipush (v := 63) hx hb dX1_results_22 (by decide +kernel) ?_
      refine lv_iand hx hb dX1_results_24 ?_
      refine lv_lshl (v := 1 <<< (((p1 - p2) &&& 63).toInt64 &&& 63)) hx hb dX1_results_25 rfl ?_
      exact W.lret (v := 1 <<< (((p1 - p2) &&& 63).toInt64 &&& 63)) hx hb hr (fun t ht hW => ⟨1 <<< (((p1 - p2) &&& 63).toInt64 &&& 63), rfl, (by first | rfl | (simp only [kRes, kBi, if_neg c_1, if_pos c_2]; done) | (simp only [kRes, kBi, if_neg c_1, if_pos c_2]; rfl)), ht⟩) (fun _ h => by cases h) dX1_results_26
  · refine lv_lconst (v := 1) hx hb dX1_results_4 (by decide +kernel) ?_
    refine lv_iload_n hx hb dX1_results_5 rfl (lv_at hl 2 rfl) ?_
    refine lv_iload_n hx hb dX1_results_6 rfl (lv_at hl 3 rfl) ?_
    refine lv_iadd hx hb dX1_results_7 ?_
    refine lv_bipush (v := 63) hx hb dX1_results_8 (by decide +kernel) ?_
    refine lv_iand hx hb dX1_results_10 ?_
    refine lv_lshl (v := 1 <<< (((p1 + p2) &&& 63).toInt64 &&& 63)) hx hb dX1_results_11 rfl ?_
    exact W.lret (v := 1 <<< (((p1 + p2) &&& 63).toInt64 &&& 63)) hx hb hr (fun t ht hW => ⟨1 <<< (((p1 + p2) &&& 63).toInt64 &&& 63), rfl, (by first | rfl | (simp only [kRes, kBi, if_pos c_1]; done) | (simp only [kRes, kBi, if_pos c_1]; rfl)), ht⟩) (fun _ h => by cases h) dX1_results_12

set_option maxHeartbeats 4000000 in
set_option maxRecDepth 100000 in
/-- keep: the least pattern of the set -/
theorem metX1_keep (l : Launch) (dC : Nat → ClassId) (dI : Nat → Nat → Nat) (h0 hv hm : Nat) (d1 d2 : ClassId) (sz : Nat) (V M : kF) (p0 : Int32) (p1 : Int64) (g0 : vp_in p0 6) : Met l yX1_keep (ws_ yX1_keep cX1_keep 7 (some .int)) ({ frames := 0, cells := 0, slots := 0, locals := 0 }) (va_Pc [.ref h0, .int p0, .long p1] (kbP (dC, dI) (kTy d1 d2) (mdW h0 hv hm d1 d2 V M) sz)) (va_Qi (fun (r : Int32) (u : kF × kF) => (r, u.1, u.2) = kK V M p0 p1) (mdB dC dI (kA h0 hv hm sz) h0 hv hm d1 d2) (kA h0 hv hm sz)) 0 0 (kA h0 hv hm sz) := by
  refine Met.ofW (cc := cX1_keep) (maxL := 7) (ret := (some .int)) (by decide) rfl ?_
  intro p e s m args below meth c s₁ B hml hv_
  obtain ⟨rfl, hsz, hP, hK, hD0⟩ := hv_
  have hx := B.exec
  have hb := B.bytes
  have hr := B.returns
  have hts := atoms_spec (ws := ws_ yX1_keep cX1_keep 7 (some .int)) B.pre
  have hts : ∀ w ∈ lw_all, w.before _ s = true := fun w h => hts w (List.mem_cons_of_mem _ h)
  have hown : s.vm.findClass RX1 = some m.cls := findClass_of_methodNamed B.named
  have hlocks := B.notSynchronized
  subst hsz
  have hD := kA_md (sz := s.heap.size) hD0
  have hA : ∀ q : Nat, kA h0 hv hm s.heap.size q → kA h0 hv hm s.heap.size q := fun _ h => h
  generalize hAe : kA h0 hv hm s.heap.size = A at hD ⊢
  have hA : ∀ q : Nat, kA h0 hv hm s.heap.size q → A q := fun q h => by rw [← hAe]; exact h
  have hS : va_S A s.heap s.heap [] := va_S.rf
  have hP : va_P (dC, dI) vwCl (mdW h0 hv hm d1 d2 V M) s.heap := hP
  have hl := lv_entry ([.ref h0, .int p0, .long p1]) (n := 7) (Nat.le_of_ble_eq_true rfl)
  rw [lg_entry_eq]
  generalize (lg_sl ([.ref h0, .int p0, .long p1]) ++ List.replicate (7 - (lg_sl ([.ref h0, .int p0, .long p1])).length) Slot.unset).toArray = ls at hl ⊢
  have hl : lv_has ls 7 [(0, .ref h0), (1, .int p0), (2, .long p1)] := hl
  refine lv_iconst (v := kpI none) hx hb dX1_keep_0 (by decide +kernel) ?_
  refine lv_istore (lv' := [(4, .int (kpI none)), (0, .ref h0), (1, .int p0), (2, .long p1)]) hx hb dX1_keep_1 hl (by decide) rfl (fun ls hl => ?_)
  refine lv_iconst (v := nI 0) hx hb dX1_keep_3 (by decide +kernel) ?_
  refine lv_istore (lv' := [(5, .int (nI 0)), (4, .int (kpI none)), (0, .ref h0), (1, .int p0), (2, .long p1)]) hx hb dX1_keep_4 hl (by decide) rfl (fun ls hl => ?_)
  refine lv_iconst (v := nI 0) hx hb dX1_keep_6 (by decide +kernel) ?_
  refine lv_istore (lv' := [(6, .int (nI 0)), (5, .int (nI 0)), (4, .int (kpI none)), (0, .ref h0), (1, .int p0), (2, .long p1)]) hx hb dX1_keep_7 hl (by decide) rfl (fun ls hl => ?_)
  refine kup (α := Option Nat × Nat) 64 (fun ikp_ akp_ => akp_ = kpF (lb p1) ikp_) (fun ikp_ akp_ => [(6, .int (nI ikp_)), (5, .int (nI akp_.2)), (4, .int (kpI akp_.1)), (0, .ref h0), (1, .int p0), (2, .long p1)]) (fun akp_ ls hIkp_ hl => ?_) (fun ikp_ akp_ ls hikp_ hIkp_ hl Kkp_ => ?_) 0 (none, 0) ls (Nat.zero_le 64) rfl (lv_sub hl [0, 1, 2, 3, 4, 5] rfl)
  · have hl : lv_has ls 7 [(6, .int (nI 64)), (5, .int (nI akp_.2)), (4, .int (kpI akp_.1)), (0, .ref h0), (1, .int p0), (2, .long p1)] := hl
    refine lv_iload hx hb dX1_keep_9 (lv_at hl 0 rfl) ?_
    refine lv_bipush (v := 64) hx hb dX1_keep_11 (by decide +kernel) ?_
    refine lv_icmp_ge (tgt := 52) hx hb dX1_keep_13 (by decide) (fun c_1 => ?_) (fun c_1 => absurd k64e c_1)
    refine lv_iload hx hb dX1_keep_52 (lv_at hl 2 rfl) ?_
    refine lv_if_ge (tgt := 60) hx hb dX1_keep_54 (by decide) (fun c_2 => ?_) (fun c_2 => ?_)
    · refine lv_aload_n hx hb dX1_keep_60 rfl (lv_at hl 3 rfl) ?_
      refine va_get (D := (dC, dI)) (ci := 1) (v := .ref hm) (C := RX1) (T := TX1) (N := 2) hx hb hts in_X1 hown hK hP 0 rfl rfl 1 (by decide) (hts _ q145) (fun _ h9 => h9) rfl dX1_keep_61 ?_
      refine lv_iload_n hx hb dX1_keep_64 rfl (lv_at hl 4 rfl) ?_
      refine lv_iload hx hb dX1_keep_65 (lv_at hl 1 rfl) ?_
      refine lv_topi (fun z_3 e_4 => ?_)
      refine va_iast hx hb hK hP hD hS 2 1 rfl rfl g0 dX1_keep_67 (fun H locs hP hD hS => ?_)
      have hP : va_P (dC, dI) vwCl (mdW h0 hv hm d1 d2 V (upd M p0.toNatClampNeg z_3)) H := hP
      have hD : va_D A (mdW h0 hv hm d1 d2 V (upd M p0.toNatClampNeg z_3)) := hD
      refine lv_aload_n hx hb dX1_keep_68 rfl (lv_at hl 3 rfl) ?_
      refine va_get (D := (dC, dI)) (ci := 1) (v := .ref hv) (C := RX1) (T := TX1) (N := 2) hx hb hts in_X1 hown hK hP 0 rfl rfl 0 (by decide) (hts _ q144) (fun _ h9 => h9) rfl dX1_keep_69 ?_
      refine lv_iload_n hx hb dX1_keep_72 rfl (lv_at hl 4 rfl) ?_
      refine lv_iload hx hb dX1_keep_73 (lv_at hl 2 rfl) ?_
      refine lv_iload hx hb dX1_keep_75 (lv_at hl 1 rfl) ?_
      refine lv_iconst (v := (-1)) hx hb dX1_keep_77 (by decide +kernel) ?_
      refine lv_ixor hx hb dX1_keep_78 ?_
      refine lv_iand hx hb dX1_keep_79 ?_
      refine lv_topi (fun z_5 e_6 => ?_)
      refine va_iast hx hb hK hP hD hS 1 0 rfl rfl g0 dX1_keep_80 (fun H locs hP hD hS => ?_)
      have hP : va_P (dC, dI) vwCl (mdW h0 hv hm d1 d2 (upd V p0.toNatClampNeg z_5) (upd M p0.toNatClampNeg z_3)) H := hP
      have hD : va_D A (mdW h0 hv hm d1 d2 (upd V p0.toNatClampNeg z_5) (upd M p0.toNatClampNeg z_3)) := hD
      refine lv_iconst (v := 0) hx hb dX1_keep_81 (by decide +kernel) ?_
      exact W.iret (v := 0) hx hb hr (fun t ht hW => ⟨⟨0, (upd V p0.toNatClampNeg z_5, upd M p0.toNatClampNeg z_3), rfl, (by subst e_4 e_6; exact kp_some hIkp_ c_2), by rw [ht]; exact hP, va_K.moved hW.alike hK, hD⟩, hS.F ht⟩) hS.2.2 dX1_keep_82
    · refine lv_bipush (v := (-2)) hx hb dX1_keep_57 (by decide +kernel) ?_
      exact W.iret (v := (-2)) hx hb hr (fun t ht hW => ⟨⟨(-2), (V, M), rfl, (kp_none hIkp_ c_2), by rw [ht]; exact hP, va_K.moved hW.alike hK, hD⟩, hS.F ht⟩) hS.2.2 dX1_keep_59
  · have hl : lv_has ls 7 [(6, .int (nI ikp_)), (5, .int (nI akp_.2)), (4, .int (kpI akp_.1)), (0, .ref h0), (1, .int p0), (2, .long p1)] := hl
    refine lv_iload hx hb dX1_keep_9 (lv_at hl 0 rfl) ?_
    refine lv_bipush (v := 64) hx hb dX1_keep_11 (by decide +kernel) ?_
    refine lv_icmp_ge (tgt := 52) hx hb dX1_keep_13 (by decide) (fun c_7 => absurd c_7 (k64 hikp_)) (fun c_7 => ?_)
    refine lv_lload_n hx hb dX1_keep_16 rfl (lv_at hl 5 rfl) ?_
    refine lv_iload hx hb dX1_keep_17 (lv_at hl 0 rfl) ?_
    refine lv_lshr (v := p1 >>> ((nI ikp_).toInt64 &&& 63)) hx hb dX1_keep_19 rfl ?_
    refine lv_lconst (v := 1) hx hb dX1_keep_20 (by decide +kernel) ?_
    refine lv_land hx hb dX1_keep_21 ?_
    refine lv_lconst (v := 1) hx hb dX1_keep_22 (by decide +kernel) ?_
    refine W.lcmp hx hb dX1_keep_23 ?_
    refine lv_if_ne (tgt := 46) hx hb dX1_keep_24 (by decide) (fun c_8 => ?_) (fun c_8 => ?_)
    · refine lv_iinc (v := nI (ikp_ + 1)) (lv' := [(6, .int (nI (ikp_ + 1))), (5, .int (nI akp_.2)), (4, .int (kpI akp_.1)), (0, .ref h0), (1, .int p0), (2, .long p1)]) hx hb dX1_keep_46 hl (k := 0) rfl (k_inc ikp_) (by decide) rfl (fun ls hl => ?_)
      refine lv_goto (tgt := 9) hx hb dX1_keep_49 (by decide) ?_
      exact Kkp_ akp_ _ (kp_no hikp_ hIkp_ c_8) (lv_sub hl [0, 1, 2, 3, 4, 5] rfl)
    · refine lv_iload hx hb dX1_keep_27 (lv_at hl 2 rfl) ?_
      refine lv_if_ge (tgt := 36) hx hb dX1_keep_29 (by decide) (fun c_9 => ?_) (fun c_9 => ?_)
      · refine lv_iload hx hb dX1_keep_36 (lv_at hl 1 rfl) ?_
        refine lv_iload hx hb dX1_keep_38 (lv_at hl 0 rfl) ?_
        refine lv_iload hx hb dX1_keep_40 (lv_at hl 2 rfl) ?_
        refine lv_ixor hx hb dX1_keep_42 ?_
        refine lv_ior hx hb dX1_keep_43 ?_
        refine lv_topi (fun z_10 e_11 => ?_)
        refine lv_istore (lv' := [(5, .int z_10), (6, .int (nI ikp_)), (4, .int (kpI akp_.1)), (0, .ref h0), (1, .int p0), (2, .long p1)]) hx hb dX1_keep_44 hl (by decide) rfl (fun ls hl => ?_)
        refine lv_iinc (v := nI (ikp_ + 1)) (lv' := [(6, .int (nI (ikp_ + 1))), (5, .int z_10), (4, .int (kpI akp_.1)), (0, .ref h0), (1, .int p0), (2, .long p1)]) hx hb dX1_keep_46 hl (k := 1) rfl (k_inc ikp_) (by decide) rfl (fun ls hl => ?_)
        refine lv_goto (tgt := 9) hx hb dX1_keep_49 (by decide) ?_
        obtain ⟨ykp_, e1kp_, e2kp_, e3kp_⟩ := kp_y1 hikp_ hIkp_ c_8 c_9
        have hl2 : lv_has ls 7 [(6, .int (nI (ikp_ + 1))), (5, .int (nI ykp_.2)), (4, .int (kpI ykp_.1)), (0, .ref h0), (1, .int p0), (2, .long p1)] := by subst e_11; rw [e2kp_, e3kp_]; exact lv_sub hl [0, 1, 2, 3, 4, 5] rfl
        exact Kkp_ ykp_ _ e1kp_ hl2
      · refine lv_iload hx hb dX1_keep_32 (lv_at hl 0 rfl) ?_
        refine lv_istore (lv' := [(4, .int (nI ikp_)), (6, .int (nI ikp_)), (5, .int (nI akp_.2)), (0, .ref h0), (1, .int p0), (2, .long p1)]) hx hb dX1_keep_34 hl (by decide) rfl (fun ls hl => ?_)
        refine lv_iload hx hb dX1_keep_36 (lv_at hl 2 rfl) ?_
        refine lv_iload hx hb dX1_keep_38 (lv_at hl 1 rfl) ?_
        refine lv_iload hx hb dX1_keep_40 (lv_at hl 0 rfl) ?_
        refine lv_ixor hx hb dX1_keep_42 ?_
        refine lv_ior hx hb dX1_keep_43 ?_
        refine lv_topi (fun z_12 e_13 => ?_)
        refine lv_istore (lv' := [(5, .int z_12), (4, .int (nI ikp_)), (6, .int (nI ikp_)), (0, .ref h0), (1, .int p0), (2, .long p1)]) hx hb dX1_keep_44 hl (by decide) rfl (fun ls hl => ?_)
        refine lv_iinc (v := nI (ikp_ + 1)) (lv' := [(6, .int (nI (ikp_ + 1))), (5, .int z_12), (4, .int (nI ikp_)), (0, .ref h0), (1, .int p0), (2, .long p1)]) hx hb dX1_keep_46 hl (k := 2) rfl (k_inc ikp_) (by decide) rfl (fun ls hl => ?_)
        refine lv_goto (tgt := 9) hx hb dX1_keep_49 (by decide) ?_
        obtain ⟨ykp_, e1kp_, e2kp_, e3kp_⟩ := kp_y0 hikp_ hIkp_ c_8 c_9
        have hl2 : lv_has ls 7 [(6, .int (nI (ikp_ + 1))), (5, .int (nI ykp_.2)), (4, .int (kpI ykp_.1)), (0, .ref h0), (1, .int p0), (2, .long p1)] := by subst e_13; rw [e2kp_, e3kp_]; exact lv_sub hl [0, 1, 2, 3, 4, 5] rfl
        exact Kkp_ ykp_ _ e1kp_ hl2
end
section
set_option maxHeartbeats 4000000 in
set_option maxRecDepth 100000 in
/-- combine -/
theorem metX1_combine (l : Launch) (dC : Nat → ClassId) (dI : Nat → Nat → Nat) (h0 hv hm : Nat) (d1 d2 : ClassId) (sz : Nat) (V M : kF) (p0 : Int32) (p1 : Int32) (p2 : Int32) (p3 : Int32) : Met l yX1_combine (ws_ yX1_combine cX1_combine 9 (some .int)) ({ frames := 2, cells := 0, slots := 0, locals := 46 }) (va_Pc [.ref h0, .int p0, .int p1, .int p2, .int p3] (kbP (dC, dI) (kTy d1 d2) (mdW h0 hv hm d1 d2 V M) sz)) (va_Qi (fun (r : Int32) (u : kF × kF) => mCm V M p0 p1 p2 p3 (r, u.1, u.2)) (mdB dC dI (kA h0 hv hm sz) h0 hv hm d1 d2) (kA h0 hv hm sz)) 0 0 (kA h0 hv hm sz) := by
  refine Met.ofW (cc := cX1_combine) (maxL := 9) (ret := (some .int)) (by decide) rfl ?_
  intro p e s m args below meth c s₁ B hml hv_
  obtain ⟨rfl, hsz, hP, hK, hD0⟩ := hv_
  have hx := B.exec
  have hb := B.bytes
  have hr := B.returns
  have hts := atoms_spec (ws := ws_ yX1_combine cX1_combine 9 (some .int)) B.pre
  have hts : ∀ w ∈ lw_all, w.before _ s = true := fun w h => hts w (List.mem_cons_of_mem _ h)
  have hown : s.vm.findClass RX1 = some m.cls := findClass_of_methodNamed B.named
  have hlocks := B.notSynchronized
  subst hsz
  have hD := kA_md (sz := s.heap.size) hD0
  have hA : ∀ q : Nat, kA h0 hv hm s.heap.size q → kA h0 hv hm s.heap.size q := fun _ h => h
  generalize hAe : kA h0 hv hm s.heap.size = A at hD ⊢
  have hA : ∀ q : Nat, kA h0 hv hm s.heap.size q → A q := fun q h => by rw [← hAe]; exact h
  have hS : va_S A s.heap s.heap [] := va_S.rf
  have hP : va_P (dC, dI) vwCl (mdW h0 hv hm d1 d2 V M) s.heap := hP
  have hl := lv_entry ([.ref h0, .int p0, .int p1, .int p2, .int p3]) (n := 9) (Nat.le_of_ble_eq_true rfl)
  rw [lg_entry_eq]
  generalize (lg_sl ([.ref h0, .int p0, .int p1, .int p2, .int p3]) ++ List.replicate (9 - (lg_sl ([.ref h0, .int p0, .int p1, .int p2, .int p3])).length) Slot.unset).toArray = ls at hl ⊢
  have hl : lv_has ls 9 [(0, .ref h0), (1, .int p0), (2, .int p1), (3, .int p2), (4, .int p3)] := hl
  refine lv_iload_n hx hb dX1_combine_0 rfl (lv_at hl 1 rfl) ?_
  refine vp_callSi (W.runS (As := [.int p0]) (rest := []) ⟨hx, hb, hml, hown, hts⟩ (metX1_bad l p0) (va_cwS 1 hts (lw_S q155 q156 q17 q157) rfl rfl rfl (by decide +kernel) ⟨Nat.le_of_ble_eq_true rfl, Nat.le_of_ble_eq_true rfl⟩) ⟨fun _ _ _ _ q => q, fun U hU hW => ⟨rfl, trivial⟩⟩ rfl rfl hl.1 rfl (lv_room (Nat.le_of_ble_eq_true rfl)) dX1_combine_1 ⟨Nat.le_of_ble_eq_true rfl, Nat.le_of_ble_eq_true rfl⟩) (fun r_1 hr_2 => ?_)
  refine lv_if_ne (tgt := 32) hx hb dX1_combine_4 (by decide) (fun c_3 => ?_) (fun c_3 => ?_)
  · have g_4 := kb_ff hr_2 c_3
    refine lv_iconst (v := (-1)) hx hb dX1_combine_32 (by decide +kernel) ?_
    exact W.iret (v := (-1)) hx hb hr (fun t ht hW => ⟨⟨(-1), (V, M), rfl, (by simp only [mCm, if_neg g_4]), by rw [ht]; exact hP, va_K.moved hW.alike hK, hD⟩, hS.F ht⟩) hS.2.2 dX1_combine_33
  · have g_5 := kb_ft hr_2 c_3
    refine lv_iload_n hx hb dX1_combine_7 rfl (lv_at hl 3 rfl) ?_
    refine vp_callSi (W.runS (As := [.int p2]) (rest := []) ⟨hx, hb, hml, hown, hts⟩ (metX1_bad l p2) (va_cwS 1 hts (lw_S q155 q156 q17 q157) rfl rfl rfl (by decide +kernel) ⟨Nat.le_of_ble_eq_true rfl, Nat.le_of_ble_eq_true rfl⟩) ⟨fun _ _ _ _ q => q, fun U hU hW => ⟨rfl, trivial⟩⟩ rfl rfl hl.1 rfl (lv_room (Nat.le_of_ble_eq_true rfl)) dX1_combine_8 ⟨Nat.le_of_ble_eq_true rfl, Nat.le_of_ble_eq_true rfl⟩) (fun r_6 hr_7 => ?_)
    refine lv_if_ne (tgt := 32) hx hb dX1_combine_11 (by decide) (fun c_8 => ?_) (fun c_8 => ?_)
    · have g_9 := kb_ff hr_7 c_8
      refine lv_iconst (v := (-1)) hx hb dX1_combine_32 (by decide +kernel) ?_
      exact W.iret (v := (-1)) hx hb hr (fun t ht hW => ⟨⟨(-1), (V, M), rfl, (by simp only [mCm, if_pos g_5, if_neg g_9]), by rw [ht]; exact hP, va_K.moved hW.alike hK, hD⟩, hS.F ht⟩) hS.2.2 dX1_combine_33
    · have g_10 := kb_ft hr_7 c_8
      refine lv_iload hx hb dX1_combine_14 (lv_at hl 4 rfl) ?_
      refine vp_callSi (W.runS (As := [.int p3]) (rest := []) ⟨hx, hb, hml, hown, hts⟩ (metX1_bad l p3) (va_cwS 1 hts (lw_S q155 q156 q17 q157) rfl rfl rfl (by decide +kernel) ⟨Nat.le_of_ble_eq_true rfl, Nat.le_of_ble_eq_true rfl⟩) ⟨fun _ _ _ _ q => q, fun U hU hW => ⟨rfl, trivial⟩⟩ rfl rfl hl.1 rfl (lv_room (Nat.le_of_ble_eq_true rfl)) dX1_combine_16 ⟨Nat.le_of_ble_eq_true rfl, Nat.le_of_ble_eq_true rfl⟩) (fun r_11 hr_12 => ?_)
      refine lv_if_ne (tgt := 32) hx hb dX1_combine_19 (by decide) (fun c_13 => ?_) (fun c_13 => ?_)
      · have g_14 := kb_ff hr_12 c_13
        refine lv_iconst (v := (-1)) hx hb dX1_combine_32 (by decide +kernel) ?_
        exact W.iret (v := (-1)) hx hb hr (fun t ht hW => ⟨⟨(-1), (V, M), rfl, (by simp only [mCm, if_pos g_5, if_pos g_10, if_neg g_14]), by rw [ht]; exact hP, va_K.moved hW.alike hK, hD⟩, hS.F ht⟩) hS.2.2 dX1_combine_33
      · have g_15 := kb_ft hr_12 c_13
        refine lv_iload_n hx hb dX1_combine_22 rfl (lv_at hl 2 rfl) ?_
        refine lv_if_lt (tgt := 32) hx hb dX1_combine_23 (by decide) (fun c_16 => ?_) (fun c_16 => ?_)
        · refine lv_iconst (v := (-1)) hx hb dX1_combine_32 (by decide +kernel) ?_
          exact W.iret (v := (-1)) hx hb hr (fun t ht hW => ⟨⟨(-1), (V, M), rfl, (by simp only [mCm, if_pos g_5, if_pos g_10, if_pos g_15, if_pos c_16]), by rw [ht]; exact hP, va_K.moved hW.alike hK, hD⟩, hS.F ht⟩) hS.2.2 dX1_combine_33
        · refine lv_iload_n hx hb dX1_combine_26 rfl (lv_at hl 2 rfl) ?_
          refine lv_bipush (v := 6) hx hb dX1_combine_27 (by decide +kernel) ?_
          refine lv_icmp_le (tgt := 34) hx hb dX1_combine_29 (by decide) (fun c_17 => ?_) (fun c_17 => ?_)
          · refine lv_lconst (v := 0) hx hb dX1_combine_34 (by decide +kernel) ?_
            refine lv_lstore (lv' := [(5, .long 0), (0, .ref h0), (1, .int p0), (2, .int p1), (3, .int p2), (4, .int p3)]) hx hb dX1_combine_35 hl (by decide) rfl (fun ls hl => ?_)
            refine lv_iconst (v := nI 0) hx hb dX1_combine_37 (by decide +kernel) ?_
            refine lv_istore (lv' := [(7, .int (nI 0)), (5, .long 0), (0, .ref h0), (1, .int p0), (2, .int p1), (3, .int p2), (4, .int p3)]) hx hb dX1_combine_38 hl (by decide) rfl (fun ls hl => ?_)
            refine kup (α := Int64) 64 (fun ix_ ax_ => sbI ax_ (sbO (cmQ p1 (V p2.toNatClampNeg) (M p2.toNatClampNeg) (V p3.toNatClampNeg) (M p3.toNatClampNeg)) ix_)) (fun ix_ ax_ => [(7, .int (nI ix_)), (5, .long ax_), (0, .ref h0), (1, .int p0), (2, .int p1), (3, .int p2), (4, .int p3)]) (fun ax_ ls hIx_ hl => ?_) (fun ix_ ax_ ls hix_ hIx_ hl Kx_ => ?_) 0 0 ls (Nat.zero_le 64) sb0 (lv_sub hl [0, 1, 2, 3, 4, 5, 6] rfl)
            · have hl : lv_has ls 9 [(7, .int (nI 64)), (5, .long ax_), (0, .ref h0), (1, .int p0), (2, .int p1), (3, .int p2), (4, .int p3)] := hl
              refine lv_iload hx hb dX1_combine_40 (lv_at hl 0 rfl) ?_
              refine lv_bipush (v := 64) hx hb dX1_combine_42 (by decide +kernel) ?_
              refine lv_icmp_ge (tgt := 106) hx hb dX1_combine_44 (by decide) (fun c_18 => ?_) (fun c_18 => absurd k64e c_18)
              refine lv_aload_n hx hb dX1_combine_106 rfl (lv_at hl 2 rfl) ?_
              refine lv_iload_n hx hb dX1_combine_107 rfl (lv_at hl 3 rfl) ?_
              refine lv_lload hx hb dX1_combine_108 (lv_at hl 1 rfl) ?_
              have hFc := kb_free hA hS
              refine va_calli (va_runV (As := [.int p0, .long ax_]) (rest := []) ⟨hx, hb, hml, hown, hts⟩ (metX1_keep l dC dI h0 hv hm d1 d2 s.heap.size V M p0 ax_ (kR_in g_5)) (cwV 2 hts (lw_V q170 q172 qs14 q17 q173) rfl rfl rfl (by decide +kernel) ⟨Nat.le_of_ble_eq_true rfl, Nat.le_of_ble_eq_true rfl⟩) ⟨kb_blindW, va_recv hK hP (ci := 1) (q0 := 0) rfl rfl, fun U hU hW => ⟨rfl, by rw [hU], by rw [hU]; exact hP, va_K.moved hW.alike hK, hD.weaken (fun _ _ _ _ => trivial)⟩⟩ rfl rfl hl.1 rfl (lv_room (Nat.le_of_ble_eq_true rfl)) dX1_combine_110 ⟨Nat.le_of_ble_eq_true rfl, Nat.le_of_ble_eq_true rfl⟩) hS (fun q _ h => hFc q h) hFc (fun r_19 u t H locs ht hvm hw_20 hB hz1 hk1 hS => ?_)
              obtain ⟨V_21, M_21⟩ := u
              obtain ⟨hP, hK1, hD1⟩ := hB
              rw [ht] at hP
              have hP : va_P (dC, dI) vwCl (mdW h0 hv hm d1 d2 V_21 M_21) H := hP
              have hD : va_D A (mdW h0 hv hm d1 d2 V_21 M_21) := hD1.weaken (fun _ _ _ h => hFc _ h)
              exact W.iret (v := r_19) hx hb hr (fun t ht hW => ⟨⟨r_19, (V_21, M_21), rfl, (by simp only [mCm, if_pos g_5, if_pos g_10, if_pos g_15, if_neg c_16, if_pos c_17, if_pos c_18]; exact ⟨ax_, hIx_, hw_20⟩), by rw [ht]; exact hP, va_K.moved hW.alike hK, hD⟩, hS.F ht⟩) hS.2.2 dX1_combine_113
            · have hl : lv_has ls 9 [(7, .int (nI ix_)), (5, .long ax_), (0, .ref h0), (1, .int p0), (2, .int p1), (3, .int p2), (4, .int p3)] := hl
              refine lv_iload hx hb dX1_combine_40 (lv_at hl 0 rfl) ?_
              refine lv_bipush (v := 64) hx hb dX1_combine_42 (by decide +kernel) ?_
              refine lv_icmp_ge (tgt := 106) hx hb dX1_combine_44 (by decide) (fun c_22 => absurd c_22 (k64 hix_)) (fun c_22 => ?_)
              refine lv_iconst (v := nI 0) hx hb dX1_combine_47 (by decide +kernel) ?_
              refine lv_istore (lv' := [(8, .int (nI 0)), (7, .int (nI ix_)), (5, .long ax_), (0, .ref h0), (1, .int p0), (2, .int p1), (3, .int p2), (4, .int p3)]) hx hb dX1_combine_48 hl (by decide) rfl (fun ls hl => ?_)
              refine kup (α := Int64) 64 (fun iy_ ay_ => sbI ay_ (sbN (cmQ p1 (V p2.toNatClampNeg) (M p2.toNatClampNeg) (V p3.toNatClampNeg) (M p3.toNatClampNeg)) ix_ iy_)) (fun iy_ ay_ => [(8, .int (nI iy_)), (7, .int (nI ix_)), (5, .long ay_), (0, .ref h0), (1, .int p0), (2, .int p1), (3, .int p2), (4, .int p3)]) (fun ay_ ls hIy_ hl => ?_) (fun iy_ ay_ ls hiy_ hIy_ hl Ky_ => ?_) 0 ax_ ls (Nat.zero_le 64) (sbIn hIx_) (lv_sub hl [0, 1, 2, 3, 4, 5, 6, 7] rfl)
              · have hl : lv_has ls 9 [(8, .int (nI 64)), (7, .int (nI ix_)), (5, .long ay_), (0, .ref h0), (1, .int p0), (2, .int p1), (3, .int p2), (4, .int p3)] := hl
                refine lv_iload hx hb dX1_combine_50 (lv_at hl 0 rfl) ?_
                refine lv_bipush (v := 64) hx hb dX1_combine_52 (by decide +kernel) ?_
                refine lv_icmp_ge (tgt := 100) hx hb dX1_combine_54 (by decide) (fun c_23 => ?_) (fun c_23 => absurd k64e c_23)
                refine lv_iinc (v := nI (ix_ + 1)) (lv' := [(7, .int (nI (ix_ + 1))), (8, .int (nI 64)), (5, .long ay_), (0, .ref h0), (1, .int p0), (2, .int p1), (3, .int p2), (4, .int p3)]) hx hb dX1_combine_100 hl (k := 1) rfl (k_inc ix_) (by decide) rfl (fun ls hl => ?_)
                refine lv_goto (tgt := 40) hx hb dX1_combine_103 (by decide) ?_
                exact Kx_ _ _ (sbOut hIy_) (lv_sub hl [0, 2, 3, 4, 5, 6, 7] rfl)
              · have hl : lv_has ls 9 [(8, .int (nI iy_)), (7, .int (nI ix_)), (5, .long ay_), (0, .ref h0), (1, .int p0), (2, .int p1), (3, .int p2), (4, .int p3)] := hl
                refine lv_iload hx hb dX1_combine_50 (lv_at hl 0 rfl) ?_
                refine lv_bipush (v := 64) hx hb dX1_combine_52 (by decide +kernel) ?_
                refine lv_icmp_ge (tgt := 100) hx hb dX1_combine_54 (by decide) (fun c_24 => absurd c_24 (k64 hiy_)) (fun c_24 => ?_)
                refine lv_aload_n hx hb dX1_combine_57 rfl (lv_at hl 3 rfl) ?_
                refine lv_iload_n hx hb dX1_combine_58 rfl (lv_at hl 6 rfl) ?_
                refine lv_iload hx hb dX1_combine_59 (lv_at hl 1 rfl) ?_
                refine vp_callSi (W.runV (As := [.int p2, .int (nI ix_)]) (rest := []) ⟨hx, hb, hml, hown, hts⟩ (metX1_stands l dC dI h0 hv hm d1 d2 V M p2 (nI ix_) (kR_in g_10)) (cwV 2 hts (lw_V q162 q164 qs12 q17 q165) rfl rfl rfl (by decide +kernel) ⟨Nat.le_of_ble_eq_true rfl, Nat.le_of_ble_eq_true rfl⟩) ⟨kb_blindR, va_recv hK hP (ci := 1) (q0 := 0) rfl rfl, fun U hU hW => ⟨rfl, by rw [hU]; exact hP, va_K.moved hW.alike hK⟩⟩ rfl rfl hl.1 rfl (lv_room (Nat.le_of_ble_eq_true rfl)) dX1_combine_61 ⟨Nat.le_of_ble_eq_true rfl, Nat.le_of_ble_eq_true rfl⟩) (fun r_25 hr_26 => ?_)
                refine lv_if_eq (tgt := 94) hx hb dX1_combine_64 (by decide) (fun c_27 => ?_) (fun c_27 => ?_)
                · have g_28 := kb_tf hr_26 c_27
                  refine lv_iinc (v := nI (iy_ + 1)) (lv' := [(8, .int (nI (iy_ + 1))), (7, .int (nI ix_)), (5, .long ay_), (0, .ref h0), (1, .int p0), (2, .int p1), (3, .int p2), (4, .int p3)]) hx hb dX1_combine_94 hl (k := 0) rfl (k_inc iy_) (by decide) rfl (fun ls hl => ?_)
                  refine lv_goto (tgt := 50) hx hb dX1_combine_97 (by decide) ?_
                  exact Ky_ _ _ (sbNo hIy_ (fun _ q => g_28 q.1)) (lv_sub hl [0, 1, 2, 3, 4, 5, 6, 7] rfl)
                · have g_29 := kb_tt hr_26 c_27
                  refine lv_aload_n hx hb dX1_combine_67 rfl (lv_at hl 3 rfl) ?_
                  refine lv_iload hx hb dX1_combine_68 (lv_at hl 7 rfl) ?_
                  refine lv_iload hx hb dX1_combine_70 (lv_at hl 0 rfl) ?_
                  refine vp_callSi (W.runV (As := [.int p3, .int (nI iy_)]) (rest := []) ⟨hx, hb, hml, hown, hts⟩ (metX1_stands l dC dI h0 hv hm d1 d2 V M p3 (nI iy_) (kR_in g_15)) (cwV 2 hts (lw_V q162 q164 qs12 q17 q165) rfl rfl rfl (by decide +kernel) ⟨Nat.le_of_ble_eq_true rfl, Nat.le_of_ble_eq_true rfl⟩) ⟨kb_blindR, va_recv hK hP (ci := 1) (q0 := 0) rfl rfl, fun U hU hW => ⟨rfl, by rw [hU]; exact hP, va_K.moved hW.alike hK⟩⟩ rfl rfl hl.1 rfl (lv_room (Nat.le_of_ble_eq_true rfl)) dX1_combine_72 ⟨Nat.le_of_ble_eq_true rfl, Nat.le_of_ble_eq_true rfl⟩) (fun r_30 hr_31 => ?_)
                  refine lv_if_eq (tgt := 94) hx hb dX1_combine_75 (by decide) (fun c_32 => ?_) (fun c_32 => ?_)
                  · have g_33 := kb_tf hr_31 c_32
                    refine lv_iinc (v := nI (iy_ + 1)) (lv' := [(8, .int (nI (iy_ + 1))), (7, .int (nI ix_)), (5, .long ay_), (0, .ref h0), (1, .int p0), (2, .int p1), (3, .int p2), (4, .int p3)]) hx hb dX1_combine_94 hl (k := 0) rfl (k_inc iy_) (by decide) rfl (fun ls hl => ?_)
                    refine lv_goto (tgt := 50) hx hb dX1_combine_97 (by decide) ?_
                    exact Ky_ _ _ (sbNo hIy_ (fun _ q => g_33 q.2.1)) (lv_sub hl [0, 1, 2, 3, 4, 5, 6, 7] rfl)
                  · have g_34 := kb_tt hr_31 c_32
                    refine lv_lload hx hb dX1_combine_78 (lv_at hl 2 rfl) ?_
                    refine lv_aload_n hx hb dX1_combine_80 rfl (lv_at hl 3 rfl) ?_
                    refine lv_iload_n hx hb dX1_combine_81 rfl (lv_at hl 5 rfl) ?_
                    refine lv_iload hx hb dX1_combine_82 (lv_at hl 1 rfl) ?_
                    refine lv_iload hx hb dX1_combine_84 (lv_at hl 0 rfl) ?_
                    refine lv_iload hx hb dX1_combine_86 (lv_at hl 7 rfl) ?_
                    refine vp_callSl (W.runV (As := [.int p1, .int (nI ix_), .int (nI iy_), .int p3]) (rest := [.long ay_]) ⟨hx, hb, hml, hown, hts⟩ (metX1_results l dC dI h0 hv hm d1 d2 V M p1 (nI ix_) (nI iy_) p3 (kR_in g_15)) (cwV 4 hts (lw_V q166 q168 qs13 q17 q169) rfl rfl rfl (by decide +kernel) ⟨Nat.le_of_ble_eq_true rfl, Nat.le_of_ble_eq_true rfl⟩) ⟨kb_blindR, va_recv hK hP (ci := 1) (q0 := 0) rfl rfl, fun U hU hW => ⟨rfl, by rw [hU]; exact hP, va_K.moved hW.alike hK⟩⟩ rfl rfl hl.1 rfl (lv_room (Nat.le_of_ble_eq_true rfl)) dX1_combine_88 ⟨Nat.le_of_ble_eq_true rfl, Nat.le_of_ble_eq_true rfl⟩) (fun r_35 hr_36 => ?_)
                    refine lv_lor hx hb dX1_combine_91 ?_
                    refine lv_topl (fun z_37 e_38 => ?_)
                    refine lv_lstore (lv' := [(5, .long z_37), (8, .int (nI iy_)), (7, .int (nI ix_)), (0, .ref h0), (1, .int p0), (2, .int p1), (3, .int p2), (4, .int p3)]) hx hb dX1_combine_92 hl (by decide) rfl (fun ls hl => ?_)
                    refine lv_iinc (v := nI (iy_ + 1)) (lv' := [(8, .int (nI (iy_ + 1))), (5, .long z_37), (7, .int (nI ix_)), (0, .ref h0), (1, .int p0), (2, .int p1), (3, .int p2), (4, .int p3)]) hx hb dX1_combine_94 hl (k := 1) rfl (k_inc iy_) (by decide) rfl (fun ls hl => ?_)
                    refine lv_goto (tgt := 50) hx hb dX1_combine_97 (by decide) ?_
                    exact Ky_ _ _ (by subst hr_36 e_38; exact sbYes hIy_ (fun _ => ⟨fun q => q.2.2, fun q => ⟨g_29, g_34, q⟩⟩)) (lv_sub hl [0, 2, 1, 3, 4, 5, 6, 7] rfl)
          · refine lv_iconst (v := (-1)) hx hb dX1_combine_32 (by decide +kernel) ?_
            exact W.iret (v := (-1)) hx hb hr (fun t ht hW => ⟨⟨(-1), (V, M), rfl, (by simp only [mCm, if_pos g_5, if_pos g_10, if_pos g_15, if_neg c_16, if_neg c_17]), by rw [ht]; exact hP, va_K.moved hW.alike hK, hD⟩, hS.F ht⟩) hS.2.2 dX1_combine_33

set_option maxHeartbeats 4000000 in
set_option maxRecDepth 100000 in
/-- power -/
theorem metX1_power (l : Launch) (p0 : Int32) : Met l yX1_power (ws_ yX1_power cX1_power 3 (some .int)) ({ frames := 0, cells := 0, slots := 0, locals := 0 }) (va_Pc [.int p0] (fun _ => True)) (vp_Si (fun r => r = nI (kPw p0))) 0 0 (fun _ => False) := by
  refine Met.ofW (cc := cX1_power) (maxL := 3) (ret := (some .int)) (by decide) rfl ?_
  intro p e s m args below meth c s₁ B hml hv_
  obtain ⟨rfl, -⟩ := hv_
  have hx := B.exec
  have hb := B.bytes
  have hr := B.returns
  have hts := atoms_spec (ws := ws_ yX1_power cX1_power 3 (some .int)) B.pre
  have hts : ∀ w ∈ lw_all, w.before _ s = true := fun w h => hts w (List.mem_cons_of_mem _ h)
  have hown : s.vm.findClass RX1 = some m.cls := findClass_of_methodNamed B.named
  have hlocks := B.notSynchronized
  have hl := lv_entry ([.int p0]) (n := 3) (Nat.le_of_ble_eq_true rfl)
  rw [lg_entry_eq]
  generalize (lg_sl ([.int p0]) ++ List.replicate (3 - (lg_sl ([.int p0])).length) Slot.unset).toArray = ls at hl ⊢
  have hl : lv_has ls 3 [(0, .int p0)] := hl
  refine lv_iconst (v := 1) hx hb dX1_power_0 (by decide +kernel) ?_
  refine lv_istore_n (lv' := [(1, .int 1), (0, .int p0)]) hx hb dX1_power_1 rfl hl (by decide) rfl (fun ls hl => ?_)
  refine lv_iconst (v := nI 0) hx hb dX1_power_2 (by decide +kernel) ?_
  refine lv_istore_n (lv' := [(2, .int (nI 0)), (1, .int 1), (0, .int p0)]) hx hb dX1_power_3 rfl hl (by decide) rfl (fun ls hl => ?_)
  refine kup (α := Int32) 6 (fun ipw_ apw_ => apw_ = nI (2 ^ ipw_) ∧ (ipw_ = 0 ∨ nI (ipw_ - 1) < p0)) (fun ipw_ apw_ => [(2, .int (nI ipw_)), (1, .int apw_), (0, .int p0)]) (fun apw_ ls hIpw_ hl => ?_) (fun ipw_ apw_ ls hipw_ hIpw_ hl Kpw_ => ?_) 0 1 ls (Nat.zero_le 6) ⟨by decide +kernel, Or.inl rfl⟩ (lv_sub hl [0, 1, 2] rfl)
  · have hl : lv_has ls 3 [(2, .int (nI 6)), (1, .int apw_), (0, .int p0)] := hl
    refine lv_iload_n hx hb dX1_power_4 rfl (lv_at hl 0 rfl) ?_
    refine lv_iload_n hx hb dX1_power_5 rfl (lv_at hl 2 rfl) ?_
    refine lv_icmp_ge (tgt := 25) hx hb dX1_power_6 (by decide) (fun c_1 => ?_) (fun c_1 => ?_)
    · refine lv_iload_n hx hb dX1_power_25 rfl (lv_at hl 1 rfl) ?_
      exact W.iret (v := apw_) hx hb hr (fun t ht hW => ⟨apw_, rfl, (pw_le (Nat.le_refl 6) hIpw_ c_1), ht⟩) (fun _ h => by cases h) dX1_power_26
    · refine lv_iload_n hx hb dX1_power_9 rfl (lv_at hl 0 rfl) ?_
      refine lv_bipush (v := 6) hx hb dX1_power_10 (by decide +kernel) ?_
      refine lv_icmp_ge (tgt := 25) hx hb dX1_power_12 (by decide) (fun c_2 => ?_) (fun c_2 => absurd k6e c_2)
      refine lv_iload_n hx hb dX1_power_25 rfl (lv_at hl 1 rfl) ?_
      exact W.iret (v := apw_) hx hb hr (fun t ht hW => ⟨apw_, rfl, (pw_six hIpw_ c_1), ht⟩) (fun _ h => by cases h) dX1_power_26
  · have hl : lv_has ls 3 [(2, .int (nI ipw_)), (1, .int apw_), (0, .int p0)] := hl
    refine lv_iload_n hx hb dX1_power_4 rfl (lv_at hl 0 rfl) ?_
    refine lv_iload_n hx hb dX1_power_5 rfl (lv_at hl 2 rfl) ?_
    refine lv_icmp_ge (tgt := 25) hx hb dX1_power_6 (by decide) (fun c_3 => ?_) (fun c_3 => ?_)
    · refine lv_iload_n hx hb dX1_power_25 rfl (lv_at hl 1 rfl) ?_
      exact W.iret (v := apw_) hx hb hr (fun t ht hW => ⟨apw_, rfl, (pw_le (Nat.le_of_lt hipw_) hIpw_ c_3), ht⟩) (fun _ h => by cases h) dX1_power_26
    · refine lv_iload_n hx hb dX1_power_9 rfl (lv_at hl 0 rfl) ?_
      refine lv_bipush (v := 6) hx hb dX1_power_10 (by decide +kernel) ?_
      refine lv_icmp_ge (tgt := 25) hx hb dX1_power_12 (by decide) (fun c_4 => absurd c_4 (k6 hipw_)) (fun c_4 => ?_)
      refine lv_iload_n hx hb dX1_power_15 rfl (lv_at hl 1 rfl) ?_
      refine lv_iconst (v := 2) hx hb dX1_power_16 (by decide +kernel) ?_
      refine lv_imul hx hb dX1_power_17 ?_
      refine lv_topi (fun z_5 e_6 => ?_)
      refine lv_istore_n (lv' := [(1, .int z_5), (2, .int (nI ipw_)), (0, .int p0)]) hx hb dX1_power_18 rfl hl (by decide) rfl (fun ls hl => ?_)
      refine lv_iinc (v := nI (ipw_ + 1)) (lv' := [(2, .int (nI (ipw_ + 1))), (1, .int z_5), (0, .int p0)]) hx hb dX1_power_19 hl (k := 1) rfl (k_inc ipw_) (by decide) rfl (fun ls hl => ?_)
      refine lv_goto (tgt := 4) hx hb dX1_power_22 (by decide) ?_
      exact Kpw_ _ _ (by subst e_6; exact pw_step hIpw_ c_3) (lv_sub hl [0, 1, 2] rfl)

set_option maxHeartbeats 4000000 in
set_option maxRecDepth 100000 in
/-- shift -/
theorem metX1_shift (l : Launch) (dC : Nat → ClassId) (dI : Nat → Nat → Nat) (h0 hv hm : Nat) (d1 d2 : ClassId) (sz : Nat) (V M : kF) (p0 : Int32) (p1 : Int32) (p2 : Int32) : Met l yX1_shift (ws_ yX1_shift cX1_shift 10 (some .int)) ({ frames := 1, cells := 0, slots := 0, locals := 26 }) (va_Pc [.ref h0, .int p0, .int p1, .int p2] (kbP (dC, dI) (kTy d1 d2) (mdW h0 hv hm d1 d2 V M) sz)) (va_Qi (fun (r : Int32) (u : kF × kF) => mSh V M p0 p1 p2 (r, u.1, u.2)) (mdB dC dI (kA h0 hv hm sz) h0 hv hm d1 d2) (kA h0 hv hm sz)) 0 0 (kA h0 hv hm sz) := by
  refine Met.ofW (cc := cX1_shift) (maxL := 10) (ret := (some .int)) (by decide) rfl ?_
  intro p e s m args below meth c s₁ B hml hv_
  obtain ⟨rfl, hsz, hP, hK, hD0⟩ := hv_
  have hx := B.exec
  have hb := B.bytes
  have hr := B.returns
  have hts := atoms_spec (ws := ws_ yX1_shift cX1_shift 10 (some .int)) B.pre
  have hts : ∀ w ∈ lw_all, w.before _ s = true := fun w h => hts w (List.mem_cons_of_mem _ h)
  have hown : s.vm.findClass RX1 = some m.cls := findClass_of_methodNamed B.named
  have hlocks := B.notSynchronized
  subst hsz
  have hD := kA_md (sz := s.heap.size) hD0
  have hA : ∀ q : Nat, kA h0 hv hm s.heap.size q → kA h0 hv hm s.heap.size q := fun _ h => h
  generalize hAe : kA h0 hv hm s.heap.size = A at hD ⊢
  have hA : ∀ q : Nat, kA h0 hv hm s.heap.size q → A q := fun q h => by rw [← hAe]; exact h
  have hS : va_S A s.heap s.heap [] := va_S.rf
  have hP : va_P (dC, dI) vwCl (mdW h0 hv hm d1 d2 V M) s.heap := hP
  have hl := lv_entry ([.ref h0, .int p0, .int p1, .int p2]) (n := 10) (Nat.le_of_ble_eq_true rfl)
  rw [lg_entry_eq]
  generalize (lg_sl ([.ref h0, .int p0, .int p1, .int p2]) ++ List.replicate (10 - (lg_sl ([.ref h0, .int p0, .int p1, .int p2])).length) Slot.unset).toArray = ls at hl ⊢
  have hl : lv_has ls 10 [(0, .ref h0), (1, .int p0), (2, .int p1), (3, .int p2)] := hl
  refine lv_iload_n hx hb dX1_shift_0 rfl (lv_at hl 1 rfl) ?_
  refine vp_callSi (W.runS (As := [.int p0]) (rest := []) ⟨hx, hb, hml, hown, hts⟩ (metX1_bad l p0) (va_cwS 1 hts (lw_S q155 q156 q17 q157) rfl rfl rfl (by decide +kernel) ⟨Nat.le_of_ble_eq_true rfl, Nat.le_of_ble_eq_true rfl⟩) ⟨fun _ _ _ _ q => q, fun U hU hW => ⟨rfl, trivial⟩⟩ rfl rfl hl.1 rfl (lv_room (Nat.le_of_ble_eq_true rfl)) dX1_shift_1 ⟨Nat.le_of_ble_eq_true rfl, Nat.le_of_ble_eq_true rfl⟩) (fun r_1 hr_2 => ?_)
  refine lv_if_ne (tgt := 26) hx hb dX1_shift_4 (by decide) (fun c_3 => ?_) (fun c_3 => ?_)
  · have g_4 := kb_ff hr_2 c_3
    refine lv_iconst (v := (-1)) hx hb dX1_shift_26 (by decide +kernel) ?_
    exact W.iret (v := (-1)) hx hb hr (fun t ht hW => ⟨⟨(-1), (V, M), rfl, (by simp only [mSh, if_neg g_4]), by rw [ht]; exact hP, va_K.moved hW.alike hK, hD⟩, hS.F ht⟩) hS.2.2 dX1_shift_27
  · have g_5 := kb_ft hr_2 c_3
    refine lv_iload_n hx hb dX1_shift_7 rfl (lv_at hl 2 rfl) ?_
    refine vp_callSi (W.runS (As := [.int p1]) (rest := []) ⟨hx, hb, hml, hown, hts⟩ (metX1_bad l p1) (va_cwS 1 hts (lw_S q155 q156 q17 q157) rfl rfl rfl (by decide +kernel) ⟨Nat.le_of_ble_eq_true rfl, Nat.le_of_ble_eq_true rfl⟩) ⟨fun _ _ _ _ q => q, fun U hU hW => ⟨rfl, trivial⟩⟩ rfl rfl hl.1 rfl (lv_room (Nat.le_of_ble_eq_true rfl)) dX1_shift_8 ⟨Nat.le_of_ble_eq_true rfl, Nat.le_of_ble_eq_true rfl⟩) (fun r_6 hr_7 => ?_)
    refine lv_if_ne (tgt := 26) hx hb dX1_shift_11 (by decide) (fun c_8 => ?_) (fun c_8 => ?_)
    · have g_9 := kb_ff hr_7 c_8
      refine lv_iconst (v := (-1)) hx hb dX1_shift_26 (by decide +kernel) ?_
      exact W.iret (v := (-1)) hx hb hr (fun t ht hW => ⟨⟨(-1), (V, M), rfl, (by simp only [mSh, if_pos g_5, if_neg g_9]), by rw [ht]; exact hP, va_K.moved hW.alike hK, hD⟩, hS.F ht⟩) hS.2.2 dX1_shift_27
    · have g_10 := kb_ft hr_7 c_8
      refine lv_iload_n hx hb dX1_shift_14 rfl (lv_at hl 3 rfl) ?_
      refine lv_bipush (v := (-6)) hx hb dX1_shift_15 (by decide +kernel) ?_
      refine lv_icmp_lt (tgt := 26) hx hb dX1_shift_17 (by decide) (fun c_11 => ?_) (fun c_11 => ?_)
      · refine lv_iconst (v := (-1)) hx hb dX1_shift_26 (by decide +kernel) ?_
        exact W.iret (v := (-1)) hx hb hr (fun t ht hW => ⟨⟨(-1), (V, M), rfl, (by simp only [mSh, if_pos g_5, if_pos g_10, if_pos c_11]), by rw [ht]; exact hP, va_K.moved hW.alike hK, hD⟩, hS.F ht⟩) hS.2.2 dX1_shift_27
      · refine lv_iload_n hx hb dX1_shift_20 rfl (lv_at hl 3 rfl) ?_
        refine lv_bipush (v := 6) hx hb dX1_shift_21 (by decide +kernel) ?_
        refine lv_icmp_le (tgt := 28) hx hb dX1_shift_23 (by decide) (fun c_12 => ?_) (fun c_12 => ?_)
        · refine lv_iload_n hx hb dX1_shift_28 rfl (lv_at hl 3 rfl) ?_
          refine vp_callSi (W.runS (As := [.int p2]) (rest := []) ⟨hx, hb, hml, hown, hts⟩ (metX1_power l p2) (va_cwS 1 hts (lw_S q178 q179 q17 q180) rfl rfl rfl (by decide +kernel) ⟨Nat.le_of_ble_eq_true rfl, Nat.le_of_ble_eq_true rfl⟩) ⟨fun _ _ _ _ q => q, fun U hU hW => ⟨rfl, trivial⟩⟩ rfl rfl hl.1 rfl (lv_room (Nat.le_of_ble_eq_true rfl)) dX1_shift_29 ⟨Nat.le_of_ble_eq_true rfl, Nat.le_of_ble_eq_true rfl⟩) (fun r_13 hr_14 => ?_)
          subst hr_14
          refine lv_istore (lv' := [(4, .int (nI (kPw p2))), (0, .ref h0), (1, .int p0), (2, .int p1), (3, .int p2)]) hx hb dX1_shift_32 hl (by decide) rfl (fun ls hl => ?_)
          refine lv_iload_n hx hb dX1_shift_34 rfl (lv_at hl 4 rfl) ?_
          refine lv_ineg hx hb dX1_shift_35 ?_
          refine vp_callSi (W.runS (As := [.int (-p2)]) (rest := []) ⟨hx, hb, hml, hown, hts⟩ (metX1_power l (-p2)) (va_cwS 1 hts (lw_S q178 q179 q17 q180) rfl rfl rfl (by decide +kernel) ⟨Nat.le_of_ble_eq_true rfl, Nat.le_of_ble_eq_true rfl⟩) ⟨fun _ _ _ _ q => q, fun U hU hW => ⟨rfl, trivial⟩⟩ rfl rfl hl.1 rfl (lv_room (Nat.le_of_ble_eq_true rfl)) dX1_shift_36 ⟨Nat.le_of_ble_eq_true rfl, Nat.le_of_ble_eq_true rfl⟩) (fun r_15 hr_16 => ?_)
          subst hr_16
          refine lv_istore (lv' := [(5, .int (nI (kPw (-p2)))), (4, .int (nI (kPw p2))), (0, .ref h0), (1, .int p0), (2, .int p1), (3, .int p2)]) hx hb dX1_shift_39 hl (by decide) rfl (fun ls hl => ?_)
          refine lv_lconst (v := 0) hx hb dX1_shift_41 (by decide +kernel) ?_
          refine lv_lstore (lv' := [(6, .long 0), (5, .int (nI (kPw (-p2)))), (4, .int (nI (kPw p2))), (0, .ref h0), (1, .int p0), (2, .int p1), (3, .int p2)]) hx hb dX1_shift_42 hl (by decide) rfl (fun ls hl => ?_)
          refine lv_iconst (v := nI 0) hx hb dX1_shift_44 (by decide +kernel) ?_
          refine lv_istore (lv' := [(8, .int (nI 0)), (6, .long 0), (5, .int (nI (kPw (-p2)))), (4, .int (nI (kPw p2))), (0, .ref h0), (1, .int p0), (2, .int p1), (3, .int p2)]) hx hb dX1_shift_45 hl (by decide) rfl (fun ls hl => ?_)
          refine kup (α := Int64) 64 (fun ix_ ax_ => sbI ax_ (sbL (shQ (V p1.toNatClampNeg) (M p1.toNatClampNeg) p2 (nI (kPw p2)) (nI (kPw (-p2)))) ix_)) (fun ix_ ax_ => [(8, .int (nI ix_)), (6, .long ax_), (5, .int (nI (kPw (-p2)))), (4, .int (nI (kPw p2))), (0, .ref h0), (1, .int p0), (2, .int p1), (3, .int p2)]) (fun ax_ ls hIx_ hl => ?_) (fun ix_ ax_ ls hix_ hIx_ hl Kx_ => ?_) 0 0 ls (Nat.zero_le 64) sbL0 (lv_sub hl [0, 1, 2, 3, 4, 5, 6, 7] rfl)
          · have hl : lv_has ls 10 [(8, .int (nI 64)), (6, .long ax_), (5, .int (nI (kPw (-p2)))), (4, .int (nI (kPw p2))), (0, .ref h0), (1, .int p0), (2, .int p1), (3, .int p2)] := hl
            refine lv_iload hx hb dX1_shift_47 (lv_at hl 0 rfl) ?_
            refine lv_bipush (v := 64) hx hb dX1_shift_49 (by decide +kernel) ?_
            refine lv_icmp_ge (tgt := 110) hx hb dX1_shift_51 (by decide) (fun c_17 => ?_) (fun c_17 => absurd k64e c_17)
            refine lv_aload_n hx hb dX1_shift_110 rfl (lv_at hl 4 rfl) ?_
            refine lv_iload_n hx hb dX1_shift_111 rfl (lv_at hl 5 rfl) ?_
            refine lv_lload hx hb dX1_shift_112 (lv_at hl 1 rfl) ?_
            have hFc := kb_free hA hS
            refine va_calli (va_runV (As := [.int p0, .long ax_]) (rest := []) ⟨hx, hb, hml, hown, hts⟩ (metX1_keep l dC dI h0 hv hm d1 d2 s.heap.size V M p0 ax_ (kR_in g_5)) (cwV 2 hts (lw_V q170 q172 qs14 q17 q173) rfl rfl rfl (by decide +kernel) ⟨Nat.le_of_ble_eq_true rfl, Nat.le_of_ble_eq_true rfl⟩) ⟨kb_blindW, va_recv hK hP (ci := 1) (q0 := 0) rfl rfl, fun U hU hW => ⟨rfl, by rw [hU], by rw [hU]; exact hP, va_K.moved hW.alike hK, hD.weaken (fun _ _ _ _ => trivial)⟩⟩ rfl rfl hl.1 rfl (lv_room (Nat.le_of_ble_eq_true rfl)) dX1_shift_114 ⟨Nat.le_of_ble_eq_true rfl, Nat.le_of_ble_eq_true rfl⟩) hS (fun q _ h => hFc q h) hFc (fun r_18 u t H locs ht hvm hw_19 hB hz1 hk1 hS => ?_)
            obtain ⟨V_20, M_20⟩ := u
            obtain ⟨hP, hK1, hD1⟩ := hB
            rw [ht] at hP
            have hP : va_P (dC, dI) vwCl (mdW h0 hv hm d1 d2 V_20 M_20) H := hP
            have hD : va_D A (mdW h0 hv hm d1 d2 V_20 M_20) := hD1.weaken (fun _ _ _ h => hFc _ h)
            exact W.iret (v := r_18) hx hb hr (fun t ht hW => ⟨⟨r_18, (V_20, M_20), rfl, (by simp only [mSh, if_pos g_5, if_pos g_10, if_neg c_11, if_pos c_12, if_pos c_17]; exact ⟨ax_, hIx_, hw_19⟩), by rw [ht]; exact hP, va_K.moved hW.alike hK, hD⟩, hS.F ht⟩) hS.2.2 dX1_shift_117
          · have hl : lv_has ls 10 [(8, .int (nI ix_)), (6, .long ax_), (5, .int (nI (kPw (-p2)))), (4, .int (nI (kPw p2))), (0, .ref h0), (1, .int p0), (2, .int p1), (3, .int p2)] := hl
            refine lv_iload hx hb dX1_shift_47 (lv_at hl 0 rfl) ?_
            refine lv_bipush (v := 64) hx hb dX1_shift_49 (by decide +kernel) ?_
            refine lv_icmp_ge (tgt := 110) hx hb dX1_shift_51 (by decide) (fun c_21 => absurd c_21 (k64 hix_)) (fun c_21 => ?_)
            refine kj (g := fun z_ => F0 m 83 ls (.int z_ :: [])) (fun z_ => z_ = kShR (nI ix_) p2 (nI (kPw p2)) (nI (kPw (-p2)))) (fun J_ => ?_) (fun z_22 e_23 => ?_)
            · refine lv_iload_n hx hb dX1_shift_54 rfl (lv_at hl 7 rfl) ?_
              refine lv_if_lt (tgt := 69) hx hb dX1_shift_55 (by decide) (fun c_24 => ?_) (fun c_24 => ?_)
              · refine lv_iload hx hb dX1_shift_69 (lv_at hl 2 rfl) ?_
                refine lv_if_le (tgt := 82) hx hb dX1_shift_71 (by decide) (fun c_25 => ?_) (fun c_25 => ?_)
                · refine lv_iconst (v := 0) hx hb dX1_shift_82 (by decide +kernel) ?_
                  exact J_ _ (by simp only [kShR, if_pos c_24, if_pos c_25])
                · refine lv_iload hx hb dX1_shift_74 (lv_at hl 0 rfl) ?_
                  refine lv_iload hx hb dX1_shift_76 (lv_at hl 2 rfl) ?_
                  refine lv_idiv hx hb dX1_shift_78 (m_nle_ne c_25) ?_
                  refine lv_goto (tgt := 83) hx hb dX1_shift_79 (by decide) ?_
                  exact J_ _ (by simp only [kShR, if_pos c_24, if_neg c_25])
              · refine lv_iload hx hb dX1_shift_58 (lv_at hl 0 rfl) ?_
                refine lv_iload hx hb dX1_shift_60 (lv_at hl 3 rfl) ?_
                refine lv_imul hx hb dX1_shift_62 ?_
                refine lv_bipush (v := 64) hx hb dX1_shift_63 (by decide +kernel) ?_
                refine lv_irem hx hb dX1_shift_65 (by decide) ?_
                refine lv_goto (tgt := 83) hx hb dX1_shift_66 (by decide) ?_
                exact J_ _ (by simp only [kShR, if_neg c_24])
            · refine lv_istore (lv' := [(9, .int z_22), (8, .int (nI ix_)), (6, .long ax_), (5, .int (nI (kPw (-p2)))), (4, .int (nI (kPw p2))), (0, .ref h0), (1, .int p0), (2, .int p1), (3, .int p2)]) hx hb dX1_shift_83 hl (by decide) rfl (fun ls hl => ?_)
              refine lv_aload_n hx hb dX1_shift_85 rfl (lv_at hl 5 rfl) ?_
              refine lv_iload_n hx hb dX1_shift_86 rfl (lv_at hl 7 rfl) ?_
              refine lv_iload hx hb dX1_shift_87 (lv_at hl 1 rfl) ?_
              refine vp_callSi (W.runV (As := [.int p1, .int (nI ix_)]) (rest := []) ⟨hx, hb, hml, hown, hts⟩ (metX1_stands l dC dI h0 hv hm d1 d2 V M p1 (nI ix_) (kR_in g_10)) (cwV 2 hts (lw_V q162 q164 qs12 q17 q165) rfl rfl rfl (by decide +kernel) ⟨Nat.le_of_ble_eq_true rfl, Nat.le_of_ble_eq_true rfl⟩) ⟨kb_blindR, va_recv hK hP (ci := 1) (q0 := 0) rfl rfl, fun U hU hW => ⟨rfl, by rw [hU]; exact hP, va_K.moved hW.alike hK⟩⟩ rfl rfl hl.1 rfl (lv_room (Nat.le_of_ble_eq_true rfl)) dX1_shift_89 ⟨Nat.le_of_ble_eq_true rfl, Nat.le_of_ble_eq_true rfl⟩) (fun r_26 hr_27 => ?_)
              refine lv_if_eq (tgt := 104) hx hb dX1_shift_92 (by decide) (fun c_28 => ?_) (fun c_28 => ?_)
              · have g_29 := kb_tf hr_27 c_28
                refine lv_iinc (v := nI (ix_ + 1)) (lv' := [(8, .int (nI (ix_ + 1))), (9, .int z_22), (6, .long ax_), (5, .int (nI (kPw (-p2)))), (4, .int (nI (kPw p2))), (0, .ref h0), (1, .int p0), (2, .int p1), (3, .int p2)]) hx hb dX1_shift_104 hl (k := 1) rfl (k_inc ix_) (by decide) rfl (fun ls hl => ?_)
                refine lv_goto (tgt := 47) hx hb dX1_shift_107 (by decide) ?_
                exact Kx_ _ _ (sbLNo hIx_ (fun _ q => g_29 q.1)) (lv_sub hl [0, 2, 3, 4, 5, 6, 7, 8] rfl)
              · have g_30 := kb_tt hr_27 c_28
                refine lv_lload hx hb dX1_shift_95 (lv_at hl 2 rfl) ?_
                refine lv_lconst (v := 1) hx hb dX1_shift_97 (by decide +kernel) ?_
                refine lv_iload hx hb dX1_shift_98 (lv_at hl 0 rfl) ?_
                refine lv_lshl (v := 1 <<< (z_22.toInt64 &&& 63)) hx hb dX1_shift_100 rfl ?_
                refine lv_lor hx hb dX1_shift_101 ?_
                refine lv_topl (fun z_31 e_32 => ?_)
                refine lv_lstore (lv' := [(6, .long z_31), (9, .int z_22), (8, .int (nI ix_)), (5, .int (nI (kPw (-p2)))), (4, .int (nI (kPw p2))), (0, .ref h0), (1, .int p0), (2, .int p1), (3, .int p2)]) hx hb dX1_shift_102 hl (by decide) rfl (fun ls hl => ?_)
                refine lv_iinc (v := nI (ix_ + 1)) (lv' := [(8, .int (nI (ix_ + 1))), (6, .long z_31), (9, .int z_22), (5, .int (nI (kPw (-p2)))), (4, .int (nI (kPw p2))), (0, .ref h0), (1, .int p0), (2, .int p1), (3, .int p2)]) hx hb dX1_shift_104 hl (k := 2) rfl (k_inc ix_) (by decide) rfl (fun ls hl => ?_)
                refine lv_goto (tgt := 47) hx hb dX1_shift_107 (by decide) ?_
                exact Kx_ _ _ (by subst e_23 e_32; exact sbLYes hIx_ (fun _ => ⟨fun q => q.2, fun q => ⟨g_30, q⟩⟩)) (lv_sub hl [0, 1, 3, 4, 5, 6, 7, 8] rfl)
        · refine lv_iconst (v := (-1)) hx hb dX1_shift_26 (by decide +kernel) ?_
          exact W.iret (v := (-1)) hx hb hr (fun t ht hW => ⟨⟨(-1), (V, M), rfl, (by simp only [mSh, if_pos g_5, if_pos g_10, if_neg c_11, if_neg c_12]), by rw [ht]; exact hP, va_K.moved hW.alike hK, hD⟩, hS.F ht⟩) hS.2.2 dX1_shift_27

set_option maxHeartbeats 4000000 in
set_option maxRecDepth 100000 in
/-- narrow -/
theorem metX1_narrow (l : Launch) (dC : Nat → ClassId) (dI : Nat → Nat → Nat) (h0 hv hm : Nat) (d1 d2 : ClassId) (sz : Nat) (V M : kF) (p0 : Int32) (p1 : Int32) (p2 : Int32) : Met l yX1_narrow (ws_ yX1_narrow cX1_narrow 7 (some .int)) ({ frames := 1, cells := 0, slots := 0, locals := 26 }) (va_Pc [.ref h0, .int p0, .int p1, .int p2] (kbP (dC, dI) (kTy d1 d2) (mdW h0 hv hm d1 d2 V M) sz)) (va_Qi (fun (r : Int32) (u : kF × kF) => mNw V M p0 p1 p2 (r, u.1, u.2)) (mdB dC dI (kA h0 hv hm sz) h0 hv hm d1 d2) (kA h0 hv hm sz)) 0 0 (kA h0 hv hm sz) := by
  refine Met.ofW (cc := cX1_narrow) (maxL := 7) (ret := (some .int)) (by decide) rfl ?_
  intro p e s m args below meth c s₁ B hml hv_
  obtain ⟨rfl, hsz, hP, hK, hD0⟩ := hv_
  have hx := B.exec
  have hb := B.bytes
  have hr := B.returns
  have hts := atoms_spec (ws := ws_ yX1_narrow cX1_narrow 7 (some .int)) B.pre
  have hts : ∀ w ∈ lw_all, w.before _ s = true := fun w h => hts w (List.mem_cons_of_mem _ h)
  have hown : s.vm.findClass RX1 = some m.cls := findClass_of_methodNamed B.named
  have hlocks := B.notSynchronized
  subst hsz
  have hD := kA_md (sz := s.heap.size) hD0
  have hA : ∀ q : Nat, kA h0 hv hm s.heap.size q → kA h0 hv hm s.heap.size q := fun _ h => h
  generalize hAe : kA h0 hv hm s.heap.size = A at hD ⊢
  have hA : ∀ q : Nat, kA h0 hv hm s.heap.size q → A q := fun q h => by rw [← hAe]; exact h
  have hS : va_S A s.heap s.heap [] := va_S.rf
  have hP : va_P (dC, dI) vwCl (mdW h0 hv hm d1 d2 V M) s.heap := hP
  have hl := lv_entry ([.ref h0, .int p0, .int p1, .int p2]) (n := 7) (Nat.le_of_ble_eq_true rfl)
  rw [lg_entry_eq]
  generalize (lg_sl ([.ref h0, .int p0, .int p1, .int p2]) ++ List.replicate (7 - (lg_sl ([.ref h0, .int p0, .int p1, .int p2])).length) Slot.unset).toArray = ls at hl ⊢
  have hl : lv_has ls 7 [(0, .ref h0), (1, .int p0), (2, .int p1), (3, .int p2)] := hl
  refine lv_iload_n hx hb dX1_narrow_0 rfl (lv_at hl 1 rfl) ?_
  refine vp_callSi (W.runS (As := [.int p0]) (rest := []) ⟨hx, hb, hml, hown, hts⟩ (metX1_bad l p0) (va_cwS 1 hts (lw_S q155 q156 q17 q157) rfl rfl rfl (by decide +kernel) ⟨Nat.le_of_ble_eq_true rfl, Nat.le_of_ble_eq_true rfl⟩) ⟨fun _ _ _ _ q => q, fun U hU hW => ⟨rfl, trivial⟩⟩ rfl rfl hl.1 rfl (lv_room (Nat.le_of_ble_eq_true rfl)) dX1_narrow_1 ⟨Nat.le_of_ble_eq_true rfl, Nat.le_of_ble_eq_true rfl⟩) (fun r_1 hr_2 => ?_)
  refine lv_if_eq (tgt := 9) hx hb dX1_narrow_4 (by decide) (fun c_3 => ?_) (fun c_3 => ?_)
  · have g_4 := kb_ft hr_2 c_3
    refine lv_lconst (v := 0) hx hb dX1_narrow_9 (by decide +kernel) ?_
    refine lv_lstore (lv' := [(4, .long 0), (0, .ref h0), (1, .int p0), (2, .int p1), (3, .int p2)]) hx hb dX1_narrow_10 hl (by decide) rfl (fun ls hl => ?_)
    refine lv_iconst (v := nI 0) hx hb dX1_narrow_12 (by decide +kernel) ?_
    refine lv_istore (lv' := [(6, .int (nI 0)), (4, .long 0), (0, .ref h0), (1, .int p0), (2, .int p1), (3, .int p2)]) hx hb dX1_narrow_13 hl (by decide) rfl (fun ls hl => ?_)
    refine kup (α := Int64) 64 (fun ix_ ax_ => sbI ax_ (sbL (nwQ (V p0.toNatClampNeg) (M p0.toNatClampNeg) p1 p2) ix_)) (fun ix_ ax_ => [(6, .int (nI ix_)), (4, .long ax_), (0, .ref h0), (1, .int p0), (2, .int p1), (3, .int p2)]) (fun ax_ ls hIx_ hl => ?_) (fun ix_ ax_ ls hix_ hIx_ hl Kx_ => ?_) 0 0 ls (Nat.zero_le 64) sbL0 (lv_sub hl [0, 1, 2, 3, 4, 5] rfl)
    · have hl : lv_has ls 7 [(6, .int (nI 64)), (4, .long ax_), (0, .ref h0), (1, .int p0), (2, .int p1), (3, .int p2)] := hl
      refine lv_iload hx hb dX1_narrow_15 (lv_at hl 0 rfl) ?_
      refine lv_bipush (v := 64) hx hb dX1_narrow_17 (by decide +kernel) ?_
      refine lv_icmp_ge (tgt := 59) hx hb dX1_narrow_19 (by decide) (fun c_5 => ?_) (fun c_5 => absurd k64e c_5)
      refine lv_aload_n hx hb dX1_narrow_59 rfl (lv_at hl 2 rfl) ?_
      refine lv_iload_n hx hb dX1_narrow_60 rfl (lv_at hl 3 rfl) ?_
      refine lv_lload hx hb dX1_narrow_61 (lv_at hl 1 rfl) ?_
      have hFc := kb_free hA hS
      refine va_calli (va_runV (As := [.int p0, .long ax_]) (rest := []) ⟨hx, hb, hml, hown, hts⟩ (metX1_keep l dC dI h0 hv hm d1 d2 s.heap.size V M p0 ax_ (kR_in g_4)) (cwV 2 hts (lw_V q170 q172 qs14 q17 q173) rfl rfl rfl (by decide +kernel) ⟨Nat.le_of_ble_eq_true rfl, Nat.le_of_ble_eq_true rfl⟩) ⟨kb_blindW, va_recv hK hP (ci := 1) (q0 := 0) rfl rfl, fun U hU hW => ⟨rfl, by rw [hU], by rw [hU]; exact hP, va_K.moved hW.alike hK, hD.weaken (fun _ _ _ _ => trivial)⟩⟩ rfl rfl hl.1 rfl (lv_room (Nat.le_of_ble_eq_true rfl)) dX1_narrow_63 ⟨Nat.le_of_ble_eq_true rfl, Nat.le_of_ble_eq_true rfl⟩) hS (fun q _ h => hFc q h) hFc (fun r_6 u t H locs ht hvm hw_7 hB hz1 hk1 hS => ?_)
      obtain ⟨V_8, M_8⟩ := u
      obtain ⟨hP, hK1, hD1⟩ := hB
      rw [ht] at hP
      have hP : va_P (dC, dI) vwCl (mdW h0 hv hm d1 d2 V_8 M_8) H := hP
      have hD : va_D A (mdW h0 hv hm d1 d2 V_8 M_8) := hD1.weaken (fun _ _ _ h => hFc _ h)
      exact W.iret (v := r_6) hx hb hr (fun t ht hW => ⟨⟨r_6, (V_8, M_8), rfl, (by simp only [mNw, if_pos g_4, if_pos c_5]; exact ⟨ax_, hIx_, hw_7⟩), by rw [ht]; exact hP, va_K.moved hW.alike hK, hD⟩, hS.F ht⟩) hS.2.2 dX1_narrow_66
    · have hl : lv_has ls 7 [(6, .int (nI ix_)), (4, .long ax_), (0, .ref h0), (1, .int p0), (2, .int p1), (3, .int p2)] := hl
      refine lv_iload hx hb dX1_narrow_15 (lv_at hl 0 rfl) ?_
      refine lv_bipush (v := 64) hx hb dX1_narrow_17 (by decide +kernel) ?_
      refine lv_icmp_ge (tgt := 59) hx hb dX1_narrow_19 (by decide) (fun c_9 => absurd c_9 (k64 hix_)) (fun c_9 => ?_)
      refine lv_aload_n hx hb dX1_narrow_22 rfl (lv_at hl 2 rfl) ?_
      refine lv_iload_n hx hb dX1_narrow_23 rfl (lv_at hl 3 rfl) ?_
      refine lv_iload hx hb dX1_narrow_24 (lv_at hl 0 rfl) ?_
      refine vp_callSi (W.runV (As := [.int p0, .int (nI ix_)]) (rest := []) ⟨hx, hb, hml, hown, hts⟩ (metX1_stands l dC dI h0 hv hm d1 d2 V M p0 (nI ix_) (kR_in g_4)) (cwV 2 hts (lw_V q162 q164 qs12 q17 q165) rfl rfl rfl (by decide +kernel) ⟨Nat.le_of_ble_eq_true rfl, Nat.le_of_ble_eq_true rfl⟩) ⟨kb_blindR, va_recv hK hP (ci := 1) (q0 := 0) rfl rfl, fun U hU hW => ⟨rfl, by rw [hU]; exact hP, va_K.moved hW.alike hK⟩⟩ rfl rfl hl.1 rfl (lv_room (Nat.le_of_ble_eq_true rfl)) dX1_narrow_26 ⟨Nat.le_of_ble_eq_true rfl, Nat.le_of_ble_eq_true rfl⟩) (fun r_10 hr_11 => ?_)
      refine lv_if_eq (tgt := 53) hx hb dX1_narrow_29 (by decide) (fun c_12 => ?_) (fun c_12 => ?_)
      · have g_13 := kb_tf hr_11 c_12
        refine lv_iinc (v := nI (ix_ + 1)) (lv' := [(6, .int (nI (ix_ + 1))), (4, .long ax_), (0, .ref h0), (1, .int p0), (2, .int p1), (3, .int p2)]) hx hb dX1_narrow_53 hl (k := 0) rfl (k_inc ix_) (by decide) rfl (fun ls hl => ?_)
        refine lv_goto (tgt := 15) hx hb dX1_narrow_56 (by decide) ?_
        exact Kx_ _ _ (sbLNo hIx_ (fun _ q => g_13 q.1)) (lv_sub hl [0, 1, 2, 3, 4, 5] rfl)
      · have g_14 := kb_tt hr_11 c_12
        refine lv_iload_n hx hb dX1_narrow_32 rfl (lv_at hl 4 rfl) ?_
        refine lv_iload hx hb dX1_narrow_33 (lv_at hl 0 rfl) ?_
        refine lv_icmp_gt (tgt := 53) hx hb dX1_narrow_35 (by decide) (fun c_15 => ?_) (fun c_15 => ?_)
        · refine lv_iinc (v := nI (ix_ + 1)) (lv' := [(6, .int (nI (ix_ + 1))), (4, .long ax_), (0, .ref h0), (1, .int p0), (2, .int p1), (3, .int p2)]) hx hb dX1_narrow_53 hl (k := 0) rfl (k_inc ix_) (by decide) rfl (fun ls hl => ?_)
          refine lv_goto (tgt := 15) hx hb dX1_narrow_56 (by decide) ?_
          exact Kx_ _ _ (sbLNo hIx_ (fun _ q => q.2.1.1 c_15)) (lv_sub hl [0, 1, 2, 3, 4, 5] rfl)
        · refine lv_iload hx hb dX1_narrow_38 (lv_at hl 0 rfl) ?_
          refine lv_iload_n hx hb dX1_narrow_40 rfl (lv_at hl 5 rfl) ?_
          refine lv_icmp_gt (tgt := 53) hx hb dX1_narrow_41 (by decide) (fun c_16 => ?_) (fun c_16 => ?_)
          · refine lv_iinc (v := nI (ix_ + 1)) (lv' := [(6, .int (nI (ix_ + 1))), (4, .long ax_), (0, .ref h0), (1, .int p0), (2, .int p1), (3, .int p2)]) hx hb dX1_narrow_53 hl (k := 0) rfl (k_inc ix_) (by decide) rfl (fun ls hl => ?_)
            refine lv_goto (tgt := 15) hx hb dX1_narrow_56 (by decide) ?_
            exact Kx_ _ _ (sbLNo hIx_ (fun _ q => q.2.1.2 c_16)) (lv_sub hl [0, 1, 2, 3, 4, 5] rfl)
          · refine lv_lload hx hb dX1_narrow_44 (lv_at hl 1 rfl) ?_
            refine lv_lconst (v := 1) hx hb dX1_narrow_46 (by decide +kernel) ?_
            refine lv_iload hx hb dX1_narrow_47 (lv_at hl 0 rfl) ?_
            refine lv_lshl (v := 1 <<< ((nI ix_).toInt64 &&& 63)) hx hb dX1_narrow_49 rfl ?_
            refine lv_lor hx hb dX1_narrow_50 ?_
            refine lv_topl (fun z_17 e_18 => ?_)
            refine lv_lstore (lv' := [(4, .long z_17), (6, .int (nI ix_)), (0, .ref h0), (1, .int p0), (2, .int p1), (3, .int p2)]) hx hb dX1_narrow_51 hl (by decide) rfl (fun ls hl => ?_)
            refine lv_iinc (v := nI (ix_ + 1)) (lv' := [(6, .int (nI (ix_ + 1))), (4, .long z_17), (0, .ref h0), (1, .int p0), (2, .int p1), (3, .int p2)]) hx hb dX1_narrow_53 hl (k := 1) rfl (k_inc ix_) (by decide) rfl (fun ls hl => ?_)
            refine lv_goto (tgt := 15) hx hb dX1_narrow_56 (by decide) ?_
            exact Kx_ _ _ (by subst e_18; exact sbLYes hIx_ (fun _ => ⟨fun q => q.2.2, fun q => ⟨g_14, ⟨c_15, c_16⟩, q⟩⟩)) (lv_sub hl [0, 1, 2, 3, 4, 5] rfl)
  · have g_19 := kb_ff hr_2 c_3
    refine lv_iconst (v := (-1)) hx hb dX1_narrow_7 (by decide +kernel) ?_
    exact W.iret (v := (-1)) hx hb hr (fun t ht hW => ⟨⟨(-1), (V, M), rfl, (by simp only [mNw, if_neg g_19]), by rw [ht]; exact hP, va_K.moved hW.alike hK, hD⟩, hS.F ht⟩) hS.2.2 dX1_narrow_8
end
section
set_option maxHeartbeats 4000000 in
set_option maxRecDepth 100000 in
/-- suppose -/
theorem metX1_suppose (l : Launch) (dC : Nat → ClassId) (dI : Nat → Nat → Nat) (h0 hv hm : Nat) (d1 d2 : ClassId) (sz : Nat) (V M : kF) (p0 : Int32) (p1 : Int32) (p2 : Int32) : Met l yX1_suppose (ws_ yX1_suppose cX1_suppose 10 (some .int)) ({ frames := 1, cells := 0, slots := 0, locals := 26 }) (va_Pc [.ref h0, .int p0, .int p1, .int p2] (kbP (dC, dI) (kTy d1 d2) (mdW h0 hv hm d1 d2 V M) sz)) (va_Qi (fun (r : Int32) (u : kF × kF) => mSp V M p0 p1 p2 (r, u.1, u.2)) (mdB dC dI (kA h0 hv hm sz) h0 hv hm d1 d2) (kA h0 hv hm sz)) 0 0 (kA h0 hv hm sz) := by
  refine Met.ofW (cc := cX1_suppose) (maxL := 10) (ret := (some .int)) (by decide) rfl ?_
  intro p e s m args below meth c s₁ B hml hv_
  obtain ⟨rfl, hsz, hP, hK, hD0⟩ := hv_
  have hx := B.exec
  have hb := B.bytes
  have hr := B.returns
  have hts := atoms_spec (ws := ws_ yX1_suppose cX1_suppose 10 (some .int)) B.pre
  have hts : ∀ w ∈ lw_all, w.before _ s = true := fun w h => hts w (List.mem_cons_of_mem _ h)
  have hown : s.vm.findClass RX1 = some m.cls := findClass_of_methodNamed B.named
  have hlocks := B.notSynchronized
  subst hsz
  have hD := kA_md (sz := s.heap.size) hD0
  have hA : ∀ q : Nat, kA h0 hv hm s.heap.size q → kA h0 hv hm s.heap.size q := fun _ h => h
  generalize hAe : kA h0 hv hm s.heap.size = A at hD ⊢
  have hA : ∀ q : Nat, kA h0 hv hm s.heap.size q → A q := fun q h => by rw [← hAe]; exact h
  have hS : va_S A s.heap s.heap [] := va_S.rf
  have hP : va_P (dC, dI) vwCl (mdW h0 hv hm d1 d2 V M) s.heap := hP
  have hl := lv_entry ([.ref h0, .int p0, .int p1, .int p2]) (n := 10) (Nat.le_of_ble_eq_true rfl)
  rw [lg_entry_eq]
  generalize (lg_sl ([.ref h0, .int p0, .int p1, .int p2]) ++ List.replicate (10 - (lg_sl ([.ref h0, .int p0, .int p1, .int p2])).length) Slot.unset).toArray = ls at hl ⊢
  have hl : lv_has ls 10 [(0, .ref h0), (1, .int p0), (2, .int p1), (3, .int p2)] := hl
  refine lv_iload_n hx hb dX1_suppose_0 rfl (lv_at hl 1 rfl) ?_
  refine vp_callSi (W.runS (As := [.int p0]) (rest := []) ⟨hx, hb, hml, hown, hts⟩ (metX1_bad l p0) (va_cwS 1 hts (lw_S q155 q156 q17 q157) rfl rfl rfl (by decide +kernel) ⟨Nat.le_of_ble_eq_true rfl, Nat.le_of_ble_eq_true rfl⟩) ⟨fun _ _ _ _ q => q, fun U hU hW => ⟨rfl, trivial⟩⟩ rfl rfl hl.1 rfl (lv_room (Nat.le_of_ble_eq_true rfl)) dX1_suppose_1 ⟨Nat.le_of_ble_eq_true rfl, Nat.le_of_ble_eq_true rfl⟩) (fun r_1 hr_2 => ?_)
  refine lv_if_ne (tgt := 28) hx hb dX1_suppose_4 (by decide) (fun c_3 => ?_) (fun c_3 => ?_)
  · have g_4 := kb_ff hr_2 c_3
    refine lv_iconst (v := (-1)) hx hb dX1_suppose_28 (by decide +kernel) ?_
    exact W.iret (v := (-1)) hx hb hr (fun t ht hW => ⟨⟨(-1), (V, M), rfl, (by simp only [mSp, if_neg g_4]), by rw [ht]; exact hP, va_K.moved hW.alike hK, hD⟩, hS.F ht⟩) hS.2.2 dX1_suppose_29
  · have g_5 := kb_ft hr_2 c_3
    refine lv_iload_n hx hb dX1_suppose_7 rfl (lv_at hl 3 rfl) ?_
    refine vp_callSi (W.runS (As := [.int p2]) (rest := []) ⟨hx, hb, hml, hown, hts⟩ (metX1_bad l p2) (va_cwS 1 hts (lw_S q155 q156 q17 q157) rfl rfl rfl (by decide +kernel) ⟨Nat.le_of_ble_eq_true rfl, Nat.le_of_ble_eq_true rfl⟩) ⟨fun _ _ _ _ q => q, fun U hU hW => ⟨rfl, trivial⟩⟩ rfl rfl hl.1 rfl (lv_room (Nat.le_of_ble_eq_true rfl)) dX1_suppose_8 ⟨Nat.le_of_ble_eq_true rfl, Nat.le_of_ble_eq_true rfl⟩) (fun r_6 hr_7 => ?_)
    refine lv_if_ne (tgt := 28) hx hb dX1_suppose_11 (by decide) (fun c_8 => ?_) (fun c_8 => ?_)
    · have g_9 := kb_ff hr_7 c_8
      refine lv_iconst (v := (-1)) hx hb dX1_suppose_28 (by decide +kernel) ?_
      exact W.iret (v := (-1)) hx hb hr (fun t ht hW => ⟨⟨(-1), (V, M), rfl, (by simp only [mSp, if_pos g_5, if_neg g_9]), by rw [ht]; exact hP, va_K.moved hW.alike hK, hD⟩, hS.F ht⟩) hS.2.2 dX1_suppose_29
    · have g_10 := kb_ft hr_7 c_8
      refine lv_iload_n hx hb dX1_suppose_14 rfl (lv_at hl 2 rfl) ?_
      refine lv_if_lt (tgt := 28) hx hb dX1_suppose_15 (by decide) (fun c_11 => ?_) (fun c_11 => ?_)
      · refine lv_iconst (v := (-1)) hx hb dX1_suppose_28 (by decide +kernel) ?_
        exact W.iret (v := (-1)) hx hb hr (fun t ht hW => ⟨⟨(-1), (V, M), rfl, (by simp only [mSp, if_pos g_5, if_pos g_10, if_pos c_11]), by rw [ht]; exact hP, va_K.moved hW.alike hK, hD⟩, hS.F ht⟩) hS.2.2 dX1_suppose_29
      · refine lv_iload_n hx hb dX1_suppose_18 rfl (lv_at hl 2 rfl) ?_
        refine lv_iconst (v := 5) hx hb dX1_suppose_19 (by decide +kernel) ?_
        refine lv_icmp_gt (tgt := 28) hx hb dX1_suppose_20 (by decide) (fun c_12 => ?_) (fun c_12 => ?_)
        · refine lv_iconst (v := (-1)) hx hb dX1_suppose_28 (by decide +kernel) ?_
          exact W.iret (v := (-1)) hx hb hr (fun t ht hW => ⟨⟨(-1), (V, M), rfl, (by simp only [mSp, if_pos g_5, if_pos g_10, if_neg c_11, if_pos c_12]), by rw [ht]; exact hP, va_K.moved hW.alike hK, hD⟩, hS.F ht⟩) hS.2.2 dX1_suppose_29
        · refine lv_iload_n hx hb dX1_suppose_23 rfl (lv_at hl 1 rfl) ?_
          refine lv_iload_n hx hb dX1_suppose_24 rfl (lv_at hl 3 rfl) ?_
          refine lv_icmp_ne (tgt := 30) hx hb dX1_suppose_25 (by decide) (fun c_13 => ?_) (fun c_13 => ?_)
          · refine lv_lconst (v := 0) hx hb dX1_suppose_30 (by decide +kernel) ?_
            refine lv_lstore (lv' := [(4, .long 0), (0, .ref h0), (1, .int p0), (2, .int p1), (3, .int p2)]) hx hb dX1_suppose_31 hl (by decide) rfl (fun ls hl => ?_)
            refine lv_lconst (v := 0) hx hb dX1_suppose_33 (by decide +kernel) ?_
            refine lv_lstore (lv' := [(6, .long 0), (4, .long 0), (0, .ref h0), (1, .int p0), (2, .int p1), (3, .int p2)]) hx hb dX1_suppose_34 hl (by decide) rfl (fun ls hl => ?_)
            refine lv_iconst (v := nI 0) hx hb dX1_suppose_36 (by decide +kernel) ?_
            refine lv_istore (lv' := [(8, .int (nI 0)), (6, .long 0), (4, .long 0), (0, .ref h0), (1, .int p0), (2, .int p1), (3, .int p2)]) hx hb dX1_suppose_37 hl (by decide) rfl (fun ls hl => ?_)
            refine kup (α := Int64 × Int64) 64 (fun ix_ ax_ => sbI ax_.1 (sbO (spL p1 (V p0.toNatClampNeg) (M p0.toNatClampNeg) (V p2.toNatClampNeg) (M p2.toNatClampNeg)) ix_) ∧ sbI ax_.2 (sbO (spR p1 (V p0.toNatClampNeg) (M p0.toNatClampNeg) (V p2.toNatClampNeg) (M p2.toNatClampNeg)) ix_)) (fun ix_ ax_ => [(8, .int (nI ix_)), (6, .long ax_.2), (4, .long ax_.1), (0, .ref h0), (1, .int p0), (2, .int p1), (3, .int p2)]) (fun ax_ ls hIx_ hl => ?_) (fun ix_ ax_ ls hix_ hIx_ hl Kx_ => ?_) 0 (0, 0) ls (Nat.zero_le 64) ⟨sb0, sb0⟩ (lv_sub hl [0, 1, 2, 3, 4, 5, 6] rfl)
            · have hl : lv_has ls 10 [(8, .int (nI 64)), (6, .long ax_.2), (4, .long ax_.1), (0, .ref h0), (1, .int p0), (2, .int p1), (3, .int p2)] := hl
              refine lv_iload hx hb dX1_suppose_39 (lv_at hl 0 rfl) ?_
              refine lv_bipush (v := 64) hx hb dX1_suppose_41 (by decide +kernel) ?_
              refine lv_icmp_ge (tgt := 117) hx hb dX1_suppose_43 (by decide) (fun c_14 => ?_) (fun c_14 => absurd k64e c_14)
              refine lv_aload_n hx hb dX1_suppose_117 rfl (lv_at hl 3 rfl) ?_
              refine lv_iload_n hx hb dX1_suppose_118 rfl (lv_at hl 4 rfl) ?_
              refine lv_lload hx hb dX1_suppose_119 (lv_at hl 2 rfl) ?_
              have hFc := kb_free hA hS
              refine va_calli (va_runV (As := [.int p0, .long ax_.1]) (rest := []) ⟨hx, hb, hml, hown, hts⟩ (metX1_keep l dC dI h0 hv hm d1 d2 s.heap.size V M p0 ax_.1 (kR_in g_5)) (cwV 2 hts (lw_V q170 q172 qs14 q17 q173) rfl rfl rfl (by decide +kernel) ⟨Nat.le_of_ble_eq_true rfl, Nat.le_of_ble_eq_true rfl⟩) ⟨kb_blindW, va_recv hK hP (ci := 1) (q0 := 0) rfl rfl, fun U hU hW => ⟨rfl, by rw [hU], by rw [hU]; exact hP, va_K.moved hW.alike hK, hD.weaken (fun _ _ _ _ => trivial)⟩⟩ rfl rfl hl.1 rfl (lv_room (Nat.le_of_ble_eq_true rfl)) dX1_suppose_121 ⟨Nat.le_of_ble_eq_true rfl, Nat.le_of_ble_eq_true rfl⟩) hS (fun q _ h => hFc q h) hFc (fun r_15 u t H locs ht hvm hw_16 hB hz1 hk1 hS => ?_)
              obtain ⟨V_17, M_17⟩ := u
              obtain ⟨hP, hK1, hD1⟩ := hB
              rw [ht] at hP
              have hP : va_P (dC, dI) vwCl (mdW h0 hv hm d1 d2 V_17 M_17) H := hP
              have hD : va_D A (mdW h0 hv hm d1 d2 V_17 M_17) := hD1.weaken (fun _ _ _ h => hFc _ h)
              refine lv_pop hx hb dX1_suppose_124 rfl ?_
              refine lv_aload_n hx hb dX1_suppose_125 rfl (lv_at hl 3 rfl) ?_
              refine lv_iload_n hx hb dX1_suppose_126 rfl (lv_at hl 6 rfl) ?_
              refine lv_lload hx hb dX1_suppose_127 (lv_at hl 1 rfl) ?_
              have hFc := kb_free hA hS
              refine va_calli (va_runV (As := [.int p2, .long ax_.2]) (rest := []) ⟨hx, hb, hml, hown, hts⟩ (metX1_keep l dC dI h0 hv hm d1 d2 H.size V_17 M_17 p2 ax_.2 (kR_in g_10)) (cwV 2 hts (lw_V q170 q172 qs14 q17 q173) rfl rfl rfl (by decide +kernel) ⟨Nat.le_of_ble_eq_true rfl, Nat.le_of_ble_eq_true rfl⟩) ⟨kb_blindW, va_recv hK hP (ci := 1) (q0 := 0) rfl rfl, fun U hU hW => ⟨rfl, by rw [hU], by rw [hU]; exact hP, va_K.moved hW.alike hK, hD.weaken (fun _ _ _ _ => trivial)⟩⟩ rfl rfl hl.1 rfl (lv_room (Nat.le_of_ble_eq_true rfl)) dX1_suppose_129 ⟨Nat.le_of_ble_eq_true rfl, Nat.le_of_ble_eq_true rfl⟩) hS (fun q _ h => hFc q h) hFc (fun r_18 u t H locs ht hvm hw_19 hB hz1 hk1 hS => ?_)
              obtain ⟨V_20, M_20⟩ := u
              obtain ⟨hP, hK1, hD1⟩ := hB
              rw [ht] at hP
              have hP : va_P (dC, dI) vwCl (mdW h0 hv hm d1 d2 V_20 M_20) H := hP
              have hD : va_D A (mdW h0 hv hm d1 d2 V_20 M_20) := hD1.weaken (fun _ _ _ h => hFc _ h)
              exact W.iret (v := r_18) hx hb hr (fun t ht hW => ⟨⟨r_18, (V_20, M_20), rfl, (by simp only [mSp, if_pos g_5, if_pos g_10, if_neg c_11, if_neg c_12, if_neg c_13, if_pos c_14]; exact ⟨ax_.1, ax_.2, r_15, V_17, M_17, hIx_.1, hIx_.2, hw_16, hw_19⟩), by rw [ht]; exact hP, va_K.moved hW.alike hK, hD⟩, hS.F ht⟩) hS.2.2 dX1_suppose_132
            · have hl : lv_has ls 10 [(8, .int (nI ix_)), (6, .long ax_.2), (4, .long ax_.1), (0, .ref h0), (1, .int p0), (2, .int p1), (3, .int p2)] := hl
              refine lv_iload hx hb dX1_suppose_39 (lv_at hl 0 rfl) ?_
              refine lv_bipush (v := 64) hx hb dX1_suppose_41 (by decide +kernel) ?_
              refine lv_icmp_ge (tgt := 117) hx hb dX1_suppose_43 (by decide) (fun c_21 => absurd c_21 (k64 hix_)) (fun c_21 => ?_)
              refine lv_iconst (v := nI 0) hx hb dX1_suppose_46 (by decide +kernel) ?_
              refine lv_istore (lv' := [(9, .int (nI 0)), (8, .int (nI ix_)), (6, .long ax_.2), (4, .long ax_.1), (0, .ref h0), (1, .int p0), (2, .int p1), (3, .int p2)]) hx hb dX1_suppose_47 hl (by decide) rfl (fun ls hl => ?_)
              refine kup (α := Int64 × Int64) 64 (fun iy_ ay_ => sbI ay_.1 (sbN (spL p1 (V p0.toNatClampNeg) (M p0.toNatClampNeg) (V p2.toNatClampNeg) (M p2.toNatClampNeg)) ix_ iy_) ∧ sbI ay_.2 (sbN (spR p1 (V p0.toNatClampNeg) (M p0.toNatClampNeg) (V p2.toNatClampNeg) (M p2.toNatClampNeg)) ix_ iy_)) (fun iy_ ay_ => [(9, .int (nI iy_)), (8, .int (nI ix_)), (6, .long ay_.2), (4, .long ay_.1), (0, .ref h0), (1, .int p0), (2, .int p1), (3, .int p2)]) (fun ay_ ls hIy_ hl => ?_) (fun iy_ ay_ ls hiy_ hIy_ hl Ky_ => ?_) 0 ax_ ls (Nat.zero_le 64) ⟨sbIn hIx_.1, sbIn hIx_.2⟩ (lv_sub hl [0, 1, 2, 3, 4, 5, 6, 7] rfl)
              · have hl : lv_has ls 10 [(9, .int (nI 64)), (8, .int (nI ix_)), (6, .long ay_.2), (4, .long ay_.1), (0, .ref h0), (1, .int p0), (2, .int p1), (3, .int p2)] := hl
                refine lv_iload hx hb dX1_suppose_49 (lv_at hl 0 rfl) ?_
                refine lv_bipush (v := 64) hx hb dX1_suppose_51 (by decide +kernel) ?_
                refine lv_icmp_ge (tgt := 111) hx hb dX1_suppose_53 (by decide) (fun c_22 => ?_) (fun c_22 => absurd k64e c_22)
                refine lv_iinc (v := nI (ix_ + 1)) (lv' := [(8, .int (nI (ix_ + 1))), (9, .int (nI 64)), (6, .long ay_.2), (4, .long ay_.1), (0, .ref h0), (1, .int p0), (2, .int p1), (3, .int p2)]) hx hb dX1_suppose_111 hl (k := 1) rfl (k_inc ix_) (by decide) rfl (fun ls hl => ?_)
                refine lv_goto (tgt := 39) hx hb dX1_suppose_114 (by decide) ?_
                exact Kx_ ay_ _ ⟨sbOut hIy_.1, sbOut hIy_.2⟩ (lv_sub hl [0, 2, 3, 4, 5, 6, 7] rfl)
              · have hl : lv_has ls 10 [(9, .int (nI iy_)), (8, .int (nI ix_)), (6, .long ay_.2), (4, .long ay_.1), (0, .ref h0), (1, .int p0), (2, .int p1), (3, .int p2)] := hl
                refine lv_iload hx hb dX1_suppose_49 (lv_at hl 0 rfl) ?_
                refine lv_bipush (v := 64) hx hb dX1_suppose_51 (by decide +kernel) ?_
                refine lv_icmp_ge (tgt := 111) hx hb dX1_suppose_53 (by decide) (fun c_23 => absurd c_23 (k64 hiy_)) (fun c_23 => ?_)
                refine lv_aload_n hx hb dX1_suppose_56 rfl (lv_at hl 4 rfl) ?_
                refine lv_iload_n hx hb dX1_suppose_57 rfl (lv_at hl 5 rfl) ?_
                refine lv_iload hx hb dX1_suppose_58 (lv_at hl 1 rfl) ?_
                refine vp_callSi (W.runV (As := [.int p0, .int (nI ix_)]) (rest := []) ⟨hx, hb, hml, hown, hts⟩ (metX1_stands l dC dI h0 hv hm d1 d2 V M p0 (nI ix_) (kR_in g_5)) (cwV 2 hts (lw_V q162 q164 qs12 q17 q165) rfl rfl rfl (by decide +kernel) ⟨Nat.le_of_ble_eq_true rfl, Nat.le_of_ble_eq_true rfl⟩) ⟨kb_blindR, va_recv hK hP (ci := 1) (q0 := 0) rfl rfl, fun U hU hW => ⟨rfl, by rw [hU]; exact hP, va_K.moved hW.alike hK⟩⟩ rfl rfl hl.1 rfl (lv_room (Nat.le_of_ble_eq_true rfl)) dX1_suppose_60 ⟨Nat.le_of_ble_eq_true rfl, Nat.le_of_ble_eq_true rfl⟩) (fun r_24 hr_25 => ?_)
                refine lv_if_eq (tgt := 105) hx hb dX1_suppose_63 (by decide) (fun c_26 => ?_) (fun c_26 => ?_)
                · have g_27 := kb_tf hr_25 c_26
                  refine lv_iinc (v := nI (iy_ + 1)) (lv' := [(9, .int (nI (iy_ + 1))), (8, .int (nI ix_)), (6, .long ay_.2), (4, .long ay_.1), (0, .ref h0), (1, .int p0), (2, .int p1), (3, .int p2)]) hx hb dX1_suppose_105 hl (k := 0) rfl (k_inc iy_) (by decide) rfl (fun ls hl => ?_)
                  refine lv_goto (tgt := 49) hx hb dX1_suppose_108 (by decide) ?_
                  exact Ky_ ay_ _ ⟨sbNo hIy_.1 (fun _ q => g_27 q.1.1), sbNo hIy_.2 (fun _ q => g_27 q.1.1)⟩ (lv_sub hl [0, 1, 2, 3, 4, 5, 6, 7] rfl)
                · have g_28 := kb_tt hr_25 c_26
                  refine lv_aload_n hx hb dX1_suppose_66 rfl (lv_at hl 4 rfl) ?_
                  refine lv_iload_n hx hb dX1_suppose_67 rfl (lv_at hl 7 rfl) ?_
                  refine lv_iload hx hb dX1_suppose_68 (lv_at hl 0 rfl) ?_
                  refine vp_callSi (W.runV (As := [.int p2, .int (nI iy_)]) (rest := []) ⟨hx, hb, hml, hown, hts⟩ (metX1_stands l dC dI h0 hv hm d1 d2 V M p2 (nI iy_) (kR_in g_10)) (cwV 2 hts (lw_V q162 q164 qs12 q17 q165) rfl rfl rfl (by decide +kernel) ⟨Nat.le_of_ble_eq_true rfl, Nat.le_of_ble_eq_true rfl⟩) ⟨kb_blindR, va_recv hK hP (ci := 1) (q0 := 0) rfl rfl, fun U hU hW => ⟨rfl, by rw [hU]; exact hP, va_K.moved hW.alike hK⟩⟩ rfl rfl hl.1 rfl (lv_room (Nat.le_of_ble_eq_true rfl)) dX1_suppose_70 ⟨Nat.le_of_ble_eq_true rfl, Nat.le_of_ble_eq_true rfl⟩) (fun r_29 hr_30 => ?_)
                  refine lv_if_eq (tgt := 105) hx hb dX1_suppose_73 (by decide) (fun c_31 => ?_) (fun c_31 => ?_)
                  · have g_32 := kb_tf hr_30 c_31
                    refine lv_iinc (v := nI (iy_ + 1)) (lv' := [(9, .int (nI (iy_ + 1))), (8, .int (nI ix_)), (6, .long ay_.2), (4, .long ay_.1), (0, .ref h0), (1, .int p0), (2, .int p1), (3, .int p2)]) hx hb dX1_suppose_105 hl (k := 0) rfl (k_inc iy_) (by decide) rfl (fun ls hl => ?_)
                    refine lv_goto (tgt := 49) hx hb dX1_suppose_108 (by decide) ?_
                    exact Ky_ ay_ _ ⟨sbNo hIy_.1 (fun _ q => g_32 q.1.2.1), sbNo hIy_.2 (fun _ q => g_32 q.1.2.1)⟩ (lv_sub hl [0, 1, 2, 3, 4, 5, 6, 7] rfl)
                  · have g_33 := kb_tt hr_30 c_31
                    refine lv_iload hx hb dX1_suppose_76 (lv_at hl 1 rfl) ?_
                    refine lv_iload_n hx hb dX1_suppose_78 rfl (lv_at hl 6 rfl) ?_
                    refine lv_iload hx hb dX1_suppose_79 (lv_at hl 0 rfl) ?_
                    refine vp_callSi (W.runS (As := [.int (nI ix_), .int p1, .int (nI iy_)]) (rest := []) ⟨hx, hb, hml, hown, hts⟩ (metX1_holds l (nI ix_) p1 (nI iy_)) (va_cwS 3 hts (lw_S q189 q190 q17 q191) rfl rfl rfl (by decide +kernel) ⟨Nat.le_of_ble_eq_true rfl, Nat.le_of_ble_eq_true rfl⟩) ⟨fun _ _ _ _ q => q, fun U hU hW => ⟨rfl, trivial⟩⟩ rfl rfl hl.1 rfl (lv_room (Nat.le_of_ble_eq_true rfl)) dX1_suppose_81 ⟨Nat.le_of_ble_eq_true rfl, Nat.le_of_ble_eq_true rfl⟩) (fun r_34 hr_35 => ?_)
                    refine lv_if_eq (tgt := 105) hx hb dX1_suppose_84 (by decide) (fun c_36 => ?_) (fun c_36 => ?_)
                    · refine lv_iinc (v := nI (iy_ + 1)) (lv' := [(9, .int (nI (iy_ + 1))), (8, .int (nI ix_)), (6, .long ay_.2), (4, .long ay_.1), (0, .ref h0), (1, .int p0), (2, .int p1), (3, .int p2)]) hx hb dX1_suppose_105 hl (k := 0) rfl (k_inc iy_) (by decide) rfl (fun ls hl => ?_)
                      refine lv_goto (tgt := 49) hx hb dX1_suppose_108 (by decide) ?_
                      exact Ky_ ay_ _ ⟨sbNo hIy_.1 (fun _ q => q.1.2.2 (by subst hr_35; exact c_36)), sbNo hIy_.2 (fun _ q => q.1.2.2 (by subst hr_35; exact c_36))⟩ (lv_sub hl [0, 1, 2, 3, 4, 5, 6, 7] rfl)
                    · refine lv_lload hx hb dX1_suppose_87 (lv_at hl 3 rfl) ?_
                      refine lv_lconst (v := 1) hx hb dX1_suppose_89 (by decide +kernel) ?_
                      refine lv_iload hx hb dX1_suppose_90 (lv_at hl 1 rfl) ?_
                      refine lv_lshl (v := 1 <<< ((nI ix_).toInt64 &&& 63)) hx hb dX1_suppose_92 rfl ?_
                      refine lv_lor hx hb dX1_suppose_93 ?_
                      refine lv_topl (fun z_37 e_38 => ?_)
                      refine lv_lstore (lv' := [(4, .long z_37), (9, .int (nI iy_)), (8, .int (nI ix_)), (6, .long ay_.2), (0, .ref h0), (1, .int p0), (2, .int p1), (3, .int p2)]) hx hb dX1_suppose_94 hl (by decide) rfl (fun ls hl => ?_)
                      refine lv_lload hx hb dX1_suppose_96 (lv_at hl 3 rfl) ?_
                      refine lv_lconst (v := 1) hx hb dX1_suppose_98 (by decide +kernel) ?_
                      refine lv_iload hx hb dX1_suppose_99 (lv_at hl 1 rfl) ?_
                      refine lv_lshl (v := 1 <<< ((nI iy_).toInt64 &&& 63)) hx hb dX1_suppose_101 rfl ?_
                      refine lv_lor hx hb dX1_suppose_102 ?_
                      refine lv_topl (fun z_39 e_40 => ?_)
                      refine lv_lstore (lv' := [(6, .long z_39), (4, .long z_37), (9, .int (nI iy_)), (8, .int (nI ix_)), (0, .ref h0), (1, .int p0), (2, .int p1), (3, .int p2)]) hx hb dX1_suppose_103 hl (by decide) rfl (fun ls hl => ?_)
                      refine lv_iinc (v := nI (iy_ + 1)) (lv' := [(9, .int (nI (iy_ + 1))), (6, .long z_39), (4, .long z_37), (8, .int (nI ix_)), (0, .ref h0), (1, .int p0), (2, .int p1), (3, .int p2)]) hx hb dX1_suppose_105 hl (k := 2) rfl (k_inc iy_) (by decide) rfl (fun ls hl => ?_)
                      refine lv_goto (tgt := 49) hx hb dX1_suppose_108 (by decide) ?_
                      exact Ky_ (z_37, z_39) _ (by subst hr_35 e_38 e_40; exact ⟨sbYes hIy_.1 (fun _ => ⟨fun q => q.2, fun q => ⟨⟨g_28, g_33, c_36⟩, q⟩⟩), sbYes hIy_.2 (fun _ => ⟨fun q => q.2, fun q => ⟨⟨g_28, g_33, c_36⟩, q⟩⟩)⟩) (lv_sub hl [0, 3, 1, 2, 4, 5, 6, 7] rfl)
          · refine lv_iconst (v := (-1)) hx hb dX1_suppose_28 (by decide +kernel) ?_
            exact W.iret (v := (-1)) hx hb hr (fun t ht hW => ⟨⟨(-1), (V, M), rfl, (by simp only [mSp, if_pos g_5, if_pos g_10, if_neg c_11, if_neg c_12, if_pos c_13]), by rw [ht]; exact hP, va_K.moved hW.alike hK, hD⟩, hS.F ht⟩) hS.2.2 dX1_suppose_29

set_option maxHeartbeats 4000000 in
set_option maxRecDepth 100000 in
/-- compare -/
theorem metX1_compare (l : Launch) (dC : Nat → ClassId) (dI : Nat → Nat → Nat) (h0 hv hm : Nat) (d1 d2 : ClassId) (V M : kF) (p0 : Int32) (p1 : Int32) (p2 : Int32) : Met l yX1_compare (ws_ yX1_compare cX1_compare 8 (some .int)) ({ frames := 1, cells := 0, slots := 0, locals := 22 }) (va_Pc [.ref h0, .int p0, .int p1, .int p2] (kbR (dC, dI) (kTy d1 d2) (mdW h0 hv hm d1 d2 V M))) (vp_Si (fun r => mCp V M p0 p1 p2 r)) 0 0 (fun _ => False) := by
  refine Met.ofW (cc := cX1_compare) (maxL := 8) (ret := (some .int)) (by decide) rfl ?_
  intro p e s m args below meth c s₁ B hml hv_
  obtain ⟨rfl, hP, hK⟩ := hv_
  have hx := B.exec
  have hb := B.bytes
  have hr := B.returns
  have hts := atoms_spec (ws := ws_ yX1_compare cX1_compare 8 (some .int)) B.pre
  have hts : ∀ w ∈ lw_all, w.before _ s = true := fun w h => hts w (List.mem_cons_of_mem _ h)
  have hown : s.vm.findClass RX1 = some m.cls := findClass_of_methodNamed B.named
  have hlocks := B.notSynchronized
  have hP : va_P (dC, dI) vwCl (mdW h0 hv hm d1 d2 V M) s.heap := hP
  have hl := lv_entry ([.ref h0, .int p0, .int p1, .int p2]) (n := 8) (Nat.le_of_ble_eq_true rfl)
  rw [lg_entry_eq]
  generalize (lg_sl ([.ref h0, .int p0, .int p1, .int p2]) ++ List.replicate (8 - (lg_sl ([.ref h0, .int p0, .int p1, .int p2])).length) Slot.unset).toArray = ls at hl ⊢
  have hl : lv_has ls 8 [(0, .ref h0), (1, .int p0), (2, .int p1), (3, .int p2)] := hl
  refine lv_iload_n hx hb dX1_compare_0 rfl (lv_at hl 1 rfl) ?_
  refine vp_callSi (W.runS (As := [.int p0]) (rest := []) ⟨hx, hb, hml, hown, hts⟩ (metX1_bad l p0) (va_cwS 1 hts (lw_S q155 q156 q17 q157) rfl rfl rfl (by decide +kernel) ⟨Nat.le_of_ble_eq_true rfl, Nat.le_of_ble_eq_true rfl⟩) ⟨fun _ _ _ _ q => q, fun U hU hW => ⟨rfl, trivial⟩⟩ rfl rfl hl.1 rfl (lv_room (Nat.le_of_ble_eq_true rfl)) dX1_compare_1 ⟨Nat.le_of_ble_eq_true rfl, Nat.le_of_ble_eq_true rfl⟩) (fun r_1 hr_2 => ?_)
  refine lv_if_ne (tgt := 23) hx hb dX1_compare_4 (by decide) (fun c_3 => ?_) (fun c_3 => ?_)
  · have g_4 := kb_ff hr_2 c_3
    refine lv_iconst (v := (-1)) hx hb dX1_compare_23 (by decide +kernel) ?_
    exact W.iret (v := (-1)) hx hb hr (fun t ht hW => ⟨(-1), rfl, (by simp only [mCp, if_neg g_4]), ht⟩) (fun _ h => by cases h) dX1_compare_24
  · have g_5 := kb_ft hr_2 c_3
    refine lv_iload_n hx hb dX1_compare_7 rfl (lv_at hl 3 rfl) ?_
    refine vp_callSi (W.runS (As := [.int p2]) (rest := []) ⟨hx, hb, hml, hown, hts⟩ (metX1_bad l p2) (va_cwS 1 hts (lw_S q155 q156 q17 q157) rfl rfl rfl (by decide +kernel) ⟨Nat.le_of_ble_eq_true rfl, Nat.le_of_ble_eq_true rfl⟩) ⟨fun _ _ _ _ q => q, fun U hU hW => ⟨rfl, trivial⟩⟩ rfl rfl hl.1 rfl (lv_room (Nat.le_of_ble_eq_true rfl)) dX1_compare_8 ⟨Nat.le_of_ble_eq_true rfl, Nat.le_of_ble_eq_true rfl⟩) (fun r_6 hr_7 => ?_)
    refine lv_if_ne (tgt := 23) hx hb dX1_compare_11 (by decide) (fun c_8 => ?_) (fun c_8 => ?_)
    · have g_9 := kb_ff hr_7 c_8
      refine lv_iconst (v := (-1)) hx hb dX1_compare_23 (by decide +kernel) ?_
      exact W.iret (v := (-1)) hx hb hr (fun t ht hW => ⟨(-1), rfl, (by simp only [mCp, if_pos g_5, if_neg g_9]), ht⟩) (fun _ h => by cases h) dX1_compare_24
    · have g_10 := kb_ft hr_7 c_8
      refine lv_iload_n hx hb dX1_compare_14 rfl (lv_at hl 2 rfl) ?_
      refine lv_if_lt (tgt := 23) hx hb dX1_compare_15 (by decide) (fun c_11 => ?_) (fun c_11 => ?_)
      · refine lv_iconst (v := (-1)) hx hb dX1_compare_23 (by decide +kernel) ?_
        exact W.iret (v := (-1)) hx hb hr (fun t ht hW => ⟨(-1), rfl, (by simp only [mCp, if_pos g_5, if_pos g_10, if_pos c_11]), ht⟩) (fun _ h => by cases h) dX1_compare_24
      · refine lv_iload_n hx hb dX1_compare_18 rfl (lv_at hl 2 rfl) ?_
        refine lv_iconst (v := 5) hx hb dX1_compare_19 (by decide +kernel) ?_
        refine lv_icmp_le (tgt := 25) hx hb dX1_compare_20 (by decide) (fun c_12 => ?_) (fun c_12 => ?_)
        · refine lv_iconst (v := 0) hx hb dX1_compare_25 (by decide +kernel) ?_
          refine lv_istore (lv' := [(4, .int 0), (0, .ref h0), (1, .int p0), (2, .int p1), (3, .int p2)]) hx hb dX1_compare_26 hl (by decide) rfl (fun ls hl => ?_)
          refine lv_iconst (v := 1) hx hb dX1_compare_28 (by decide +kernel) ?_
          refine lv_istore (lv' := [(5, .int 1), (4, .int 0), (0, .ref h0), (1, .int p0), (2, .int p1), (3, .int p2)]) hx hb dX1_compare_29 hl (by decide) rfl (fun ls hl => ?_)
          refine lv_iconst (v := nI 0) hx hb dX1_compare_31 (by decide +kernel) ?_
          refine lv_istore (lv' := [(6, .int (nI 0)), (5, .int 1), (4, .int 0), (0, .ref h0), (1, .int p0), (2, .int p1), (3, .int p2)]) hx hb dX1_compare_32 hl (by decide) rfl (fun ls hl => ?_)
          refine kup (α := Int32 × Int32) 64 (fun ix_ ax_ => cpI ax_.1 (sbO (cqS p1 (V p0.toNatClampNeg) (M p0.toNatClampNeg) (V p2.toNatClampNeg) (M p2.toNatClampNeg)) ix_ 0) ∧ cpI ax_.2 (¬ sbO (cqA p1 (V p0.toNatClampNeg) (M p0.toNatClampNeg) (V p2.toNatClampNeg) (M p2.toNatClampNeg)) ix_ 0)) (fun ix_ ax_ => [(6, .int (nI ix_)), (5, .int ax_.2), (4, .int ax_.1), (0, .ref h0), (1, .int p0), (2, .int p1), (3, .int p2)]) (fun ax_ ls hIx_ hl => ?_) (fun ix_ ax_ ls hix_ hIx_ hl Kx_ => ?_) 0 (0, 1) ls (Nat.zero_le 64) ⟨cpI0, cpN0⟩ (lv_sub hl [0, 1, 2, 3, 4, 5, 6] rfl)
          · have hl : lv_has ls 8 [(6, .int (nI 64)), (5, .int ax_.2), (4, .int ax_.1), (0, .ref h0), (1, .int p0), (2, .int p1), (3, .int p2)] := hl
            refine lv_iload hx hb dX1_compare_34 (lv_at hl 0 rfl) ?_
            refine lv_bipush (v := 64) hx hb dX1_compare_36 (by decide +kernel) ?_
            refine lv_icmp_ge (tgt := 103) hx hb dX1_compare_38 (by decide) (fun c_13 => ?_) (fun c_13 => absurd k64e c_13)
            refine lv_iload hx hb dX1_compare_103 (lv_at hl 1 rfl) ?_
            refine lv_if_eq (tgt := 112) hx hb dX1_compare_105 (by decide) (fun c_14 => ?_) (fun c_14 => ?_)
            · refine lv_iload hx hb dX1_compare_112 (lv_at hl 2 rfl) ?_
              refine lv_if_eq (tgt := 121) hx hb dX1_compare_114 (by decide) (fun c_15 => ?_) (fun c_15 => ?_)
              · refine lv_iconst (v := 0) hx hb dX1_compare_121 (by decide +kernel) ?_
                exact W.iret (v := 0) hx hb hr (fun t ht hW => ⟨0, rfl, (by simp only [mCp, if_pos g_5, if_pos g_10, if_neg c_11, if_pos c_12, if_pos c_13]; exact ⟨ax_.1, ax_.2, hIx_.1, hIx_.2, (by rw [if_pos c_14, if_pos c_15])⟩), ht⟩) (fun _ h => by cases h) dX1_compare_122
              · refine lv_iconst (v := 2) hx hb dX1_compare_117 (by decide +kernel) ?_
                refine lv_goto (tgt := 122) hx hb dX1_compare_118 (by decide) ?_
                exact W.iret (v := 2) hx hb hr (fun t ht hW => ⟨2, rfl, (by simp only [mCp, if_pos g_5, if_pos g_10, if_neg c_11, if_pos c_12, if_pos c_13]; exact ⟨ax_.1, ax_.2, hIx_.1, hIx_.2, (by rw [if_pos c_14, if_neg c_15])⟩), ht⟩) (fun _ h => by cases h) dX1_compare_122
            · refine lv_iconst (v := 1) hx hb dX1_compare_108 (by decide +kernel) ?_
              refine lv_goto (tgt := 122) hx hb dX1_compare_109 (by decide) ?_
              exact W.iret (v := 1) hx hb hr (fun t ht hW => ⟨1, rfl, (by simp only [mCp, if_pos g_5, if_pos g_10, if_neg c_11, if_pos c_12, if_pos c_13]; exact ⟨ax_.1, ax_.2, hIx_.1, hIx_.2, (by rw [if_neg c_14])⟩), ht⟩) (fun _ h => by cases h) dX1_compare_122
          · have hl : lv_has ls 8 [(6, .int (nI ix_)), (5, .int ax_.2), (4, .int ax_.1), (0, .ref h0), (1, .int p0), (2, .int p1), (3, .int p2)] := hl
            refine lv_iload hx hb dX1_compare_34 (lv_at hl 0 rfl) ?_
            refine lv_bipush (v := 64) hx hb dX1_compare_36 (by decide +kernel) ?_
            refine lv_icmp_ge (tgt := 103) hx hb dX1_compare_38 (by decide) (fun c_16 => absurd c_16 (k64 hix_)) (fun c_16 => ?_)
            refine lv_iconst (v := nI 0) hx hb dX1_compare_41 (by decide +kernel) ?_
            refine lv_istore (lv' := [(7, .int (nI 0)), (6, .int (nI ix_)), (5, .int ax_.2), (4, .int ax_.1), (0, .ref h0), (1, .int p0), (2, .int p1), (3, .int p2)]) hx hb dX1_compare_42 hl (by decide) rfl (fun ls hl => ?_)
            refine kup (α := Int32 × Int32) 64 (fun iy_ ay_ => cpI ay_.1 (sbN (cqS p1 (V p0.toNatClampNeg) (M p0.toNatClampNeg) (V p2.toNatClampNeg) (M p2.toNatClampNeg)) ix_ iy_ 0) ∧ cpI ay_.2 (¬ sbN (cqA p1 (V p0.toNatClampNeg) (M p0.toNatClampNeg) (V p2.toNatClampNeg) (M p2.toNatClampNeg)) ix_ iy_ 0)) (fun iy_ ay_ => [(7, .int (nI iy_)), (6, .int (nI ix_)), (5, .int ay_.2), (4, .int ay_.1), (0, .ref h0), (1, .int p0), (2, .int p1), (3, .int p2)]) (fun ay_ ls hIy_ hl => ?_) (fun iy_ ay_ ls hiy_ hIy_ hl Ky_ => ?_) 0 ax_ ls (Nat.zero_le 64) ⟨cpI_iff hIx_.1 sbN0.symm, cpI_iff hIx_.2 (not_congr sbN0.symm)⟩ (lv_sub hl [0, 1, 2, 3, 4, 5, 6, 7] rfl)
            · have hl : lv_has ls 8 [(7, .int (nI 64)), (6, .int (nI ix_)), (5, .int ay_.2), (4, .int ay_.1), (0, .ref h0), (1, .int p0), (2, .int p1), (3, .int p2)] := hl
              refine lv_iload hx hb dX1_compare_44 (lv_at hl 0 rfl) ?_
              refine lv_bipush (v := 64) hx hb dX1_compare_46 (by decide +kernel) ?_
              refine lv_icmp_ge (tgt := 97) hx hb dX1_compare_48 (by decide) (fun c_17 => ?_) (fun c_17 => absurd k64e c_17)
              refine lv_iinc (v := nI (ix_ + 1)) (lv' := [(6, .int (nI (ix_ + 1))), (7, .int (nI 64)), (5, .int ay_.2), (4, .int ay_.1), (0, .ref h0), (1, .int p0), (2, .int p1), (3, .int p2)]) hx hb dX1_compare_97 hl (k := 1) rfl (k_inc ix_) (by decide) rfl (fun ls hl => ?_)
              refine lv_goto (tgt := 34) hx hb dX1_compare_100 (by decide) ?_
              exact Kx_ ay_ _ ⟨cpI_iff hIy_.1 sbN64, cpI_iff hIy_.2 (not_congr sbN64)⟩ (lv_sub hl [0, 2, 3, 4, 5, 6, 7] rfl)
            · have hl : lv_has ls 8 [(7, .int (nI iy_)), (6, .int (nI ix_)), (5, .int ay_.2), (4, .int ay_.1), (0, .ref h0), (1, .int p0), (2, .int p1), (3, .int p2)] := hl
              refine lv_iload hx hb dX1_compare_44 (lv_at hl 0 rfl) ?_
              refine lv_bipush (v := 64) hx hb dX1_compare_46 (by decide +kernel) ?_
              refine lv_icmp_ge (tgt := 97) hx hb dX1_compare_48 (by decide) (fun c_18 => absurd c_18 (k64 hiy_)) (fun c_18 => ?_)
              refine lv_aload_n hx hb dX1_compare_51 rfl (lv_at hl 4 rfl) ?_
              refine lv_iload_n hx hb dX1_compare_52 rfl (lv_at hl 5 rfl) ?_
              refine lv_iload hx hb dX1_compare_53 (lv_at hl 1 rfl) ?_
              refine vp_callSi (W.runV (As := [.int p0, .int (nI ix_)]) (rest := []) ⟨hx, hb, hml, hown, hts⟩ (metX1_stands l dC dI h0 hv hm d1 d2 V M p0 (nI ix_) (kR_in g_5)) (cwV 2 hts (lw_V q162 q164 qs12 q17 q165) rfl rfl rfl (by decide +kernel) ⟨Nat.le_of_ble_eq_true rfl, Nat.le_of_ble_eq_true rfl⟩) ⟨kb_blindR, va_recv hK hP (ci := 1) (q0 := 0) rfl rfl, fun U hU hW => ⟨rfl, by rw [hU]; exact hP, va_K.moved hW.alike hK⟩⟩ rfl rfl hl.1 rfl (lv_room (Nat.le_of_ble_eq_true rfl)) dX1_compare_55 ⟨Nat.le_of_ble_eq_true rfl, Nat.le_of_ble_eq_true rfl⟩) (fun r_19 hr_20 => ?_)
              refine lv_if_eq (tgt := 91) hx hb dX1_compare_58 (by decide) (fun c_21 => ?_) (fun c_21 => ?_)
              · have g_22 := kb_tf hr_20 c_21
                refine lv_iinc (v := nI (iy_ + 1)) (lv' := [(7, .int (nI (iy_ + 1))), (6, .int (nI ix_)), (5, .int ay_.2), (4, .int ay_.1), (0, .ref h0), (1, .int p0), (2, .int p1), (3, .int p2)]) hx hb dX1_compare_91 hl (k := 0) rfl (k_inc iy_) (by decide) rfl (fun ls hl => ?_)
                refine lv_goto (tgt := 44) hx hb dX1_compare_94 (by decide) ?_
                exact Ky_ ay_ _ ⟨cpNo hIy_.1 (fun q => g_22 q.1), cpNn hIy_.2 (fun q => g_22 q.1)⟩ (lv_sub hl [0, 1, 2, 3, 4, 5, 6, 7] rfl)
              · have g_23 := kb_tt hr_20 c_21
                refine lv_aload_n hx hb dX1_compare_61 rfl (lv_at hl 4 rfl) ?_
                refine lv_iload_n hx hb dX1_compare_62 rfl (lv_at hl 7 rfl) ?_
                refine lv_iload hx hb dX1_compare_63 (lv_at hl 0 rfl) ?_
                refine vp_callSi (W.runV (As := [.int p2, .int (nI iy_)]) (rest := []) ⟨hx, hb, hml, hown, hts⟩ (metX1_stands l dC dI h0 hv hm d1 d2 V M p2 (nI iy_) (kR_in g_10)) (cwV 2 hts (lw_V q162 q164 qs12 q17 q165) rfl rfl rfl (by decide +kernel) ⟨Nat.le_of_ble_eq_true rfl, Nat.le_of_ble_eq_true rfl⟩) ⟨kb_blindR, va_recv hK hP (ci := 1) (q0 := 0) rfl rfl, fun U hU hW => ⟨rfl, by rw [hU]; exact hP, va_K.moved hW.alike hK⟩⟩ rfl rfl hl.1 rfl (lv_room (Nat.le_of_ble_eq_true rfl)) dX1_compare_65 ⟨Nat.le_of_ble_eq_true rfl, Nat.le_of_ble_eq_true rfl⟩) (fun r_24 hr_25 => ?_)
                refine lv_if_eq (tgt := 91) hx hb dX1_compare_68 (by decide) (fun c_26 => ?_) (fun c_26 => ?_)
                · have g_27 := kb_tf hr_25 c_26
                  refine lv_iinc (v := nI (iy_ + 1)) (lv' := [(7, .int (nI (iy_ + 1))), (6, .int (nI ix_)), (5, .int ay_.2), (4, .int ay_.1), (0, .ref h0), (1, .int p0), (2, .int p1), (3, .int p2)]) hx hb dX1_compare_91 hl (k := 0) rfl (k_inc iy_) (by decide) rfl (fun ls hl => ?_)
                  refine lv_goto (tgt := 44) hx hb dX1_compare_94 (by decide) ?_
                  exact Ky_ ay_ _ ⟨cpNo hIy_.1 (fun q => g_27 q.2.1), cpNn hIy_.2 (fun q => g_27 q.2.1)⟩ (lv_sub hl [0, 1, 2, 3, 4, 5, 6, 7] rfl)
                · have g_28 := kb_tt hr_25 c_26
                  refine lv_iload hx hb dX1_compare_71 (lv_at hl 1 rfl) ?_
                  refine lv_iload_n hx hb dX1_compare_73 rfl (lv_at hl 6 rfl) ?_
                  refine lv_iload hx hb dX1_compare_74 (lv_at hl 0 rfl) ?_
                  refine vp_callSi (W.runS (As := [.int (nI ix_), .int p1, .int (nI iy_)]) (rest := []) ⟨hx, hb, hml, hown, hts⟩ (metX1_holds l (nI ix_) p1 (nI iy_)) (va_cwS 3 hts (lw_S q189 q190 q17 q191) rfl rfl rfl (by decide +kernel) ⟨Nat.le_of_ble_eq_true rfl, Nat.le_of_ble_eq_true rfl⟩) ⟨fun _ _ _ _ q => q, fun U hU hW => ⟨rfl, trivial⟩⟩ rfl rfl hl.1 rfl (lv_room (Nat.le_of_ble_eq_true rfl)) dX1_compare_76 ⟨Nat.le_of_ble_eq_true rfl, Nat.le_of_ble_eq_true rfl⟩) (fun r_29 hr_30 => ?_)
                  refine lv_if_eq (tgt := 88) hx hb dX1_compare_79 (by decide) (fun c_31 => ?_) (fun c_31 => ?_)
                  · refine lv_iconst (v := 0) hx hb dX1_compare_88 (by decide +kernel) ?_
                    refine lv_istore (lv' := [(5, .int 0), (7, .int (nI iy_)), (6, .int (nI ix_)), (4, .int ay_.1), (0, .ref h0), (1, .int p0), (2, .int p1), (3, .int p2)]) hx hb dX1_compare_89 hl (by decide) rfl (fun ls hl => ?_)
                    refine lv_iinc (v := nI (iy_ + 1)) (lv' := [(7, .int (nI (iy_ + 1))), (5, .int 0), (6, .int (nI ix_)), (4, .int ay_.1), (0, .ref h0), (1, .int p0), (2, .int p1), (3, .int p2)]) hx hb dX1_compare_91 hl (k := 1) rfl (k_inc iy_) (by decide) rfl (fun ls hl => ?_)
                    refine lv_goto (tgt := 44) hx hb dX1_compare_94 (by decide) ?_
                    exact Ky_ (ay_.1, 0) _ (by subst hr_30; exact ⟨cpNo hIy_.1 (fun q => q.2.2 c_31), cpYn ⟨g_23, g_28, c_31⟩⟩) (lv_sub hl [0, 2, 1, 3, 4, 5, 6, 7] rfl)
                  · refine lv_iconst (v := 1) hx hb dX1_compare_82 (by decide +kernel) ?_
                    refine lv_istore (lv' := [(4, .int 1), (7, .int (nI iy_)), (6, .int (nI ix_)), (5, .int ay_.2), (0, .ref h0), (1, .int p0), (2, .int p1), (3, .int p2)]) hx hb dX1_compare_83 hl (by decide) rfl (fun ls hl => ?_)
                    refine lv_goto (tgt := 91) hx hb dX1_compare_85 (by decide) ?_
                    refine lv_iinc (v := nI (iy_ + 1)) (lv' := [(7, .int (nI (iy_ + 1))), (4, .int 1), (6, .int (nI ix_)), (5, .int ay_.2), (0, .ref h0), (1, .int p0), (2, .int p1), (3, .int p2)]) hx hb dX1_compare_91 hl (k := 1) rfl (k_inc iy_) (by decide) rfl (fun ls hl => ?_)
                    refine lv_goto (tgt := 44) hx hb dX1_compare_94 (by decide) ?_
                    exact Ky_ (1, ay_.2) _ (by subst hr_30; exact ⟨cpYes ⟨g_23, g_28, c_31⟩, cpNn hIy_.2 (fun q => c_31 q.2.2)⟩) (lv_sub hl [0, 2, 3, 1, 4, 5, 6, 7] rfl)
        · refine lv_iconst (v := (-1)) hx hb dX1_compare_23 (by decide +kernel) ?_
          exact W.iret (v := (-1)) hx hb hr (fun t ht hW => ⟨(-1), rfl, (by simp only [mCp, if_pos g_5, if_pos g_10, if_neg c_11, if_neg c_12]), ht⟩) (fun _ h => by cases h) dX1_compare_24

set_option maxHeartbeats 4000000 in
set_option maxRecDepth 100000 in
/-- least -/
theorem metX1_least (l : Launch) (dC : Nat → ClassId) (dI : Nat → Nat → Nat) (h0 hv hm : Nat) (d1 d2 : ClassId) (V M : kF) (p0 : Int32) (p1 : Int32) : Met l yX1_least (ws_ yX1_least cX1_least 4 (some .int)) ({ frames := 1, cells := 0, slots := 0, locals := 22 }) (va_Pc [.ref h0, .int p0, .int p1] (kbR (dC, dI) (kTy d1 d2) (mdW h0 hv hm d1 d2 V M))) (vp_Si (fun r => if kR p0 then lsP (V p0.toNatClampNeg) (M p0.toNatClampNeg) p1 r else r = -1)) 0 0 (fun _ => False) := by
  refine Met.ofW (cc := cX1_least) (maxL := 4) (ret := (some .int)) (by decide) rfl ?_
  intro p e s m args below meth c s₁ B hml hv_
  obtain ⟨rfl, hP, hK⟩ := hv_
  have hx := B.exec
  have hb := B.bytes
  have hr := B.returns
  have hts := atoms_spec (ws := ws_ yX1_least cX1_least 4 (some .int)) B.pre
  have hts : ∀ w ∈ lw_all, w.before _ s = true := fun w h => hts w (List.mem_cons_of_mem _ h)
  have hown : s.vm.findClass RX1 = some m.cls := findClass_of_methodNamed B.named
  have hlocks := B.notSynchronized
  have hP : va_P (dC, dI) vwCl (mdW h0 hv hm d1 d2 V M) s.heap := hP
  have hl := lv_entry ([.ref h0, .int p0, .int p1]) (n := 4) (Nat.le_of_ble_eq_true rfl)
  rw [lg_entry_eq]
  generalize (lg_sl ([.ref h0, .int p0, .int p1]) ++ List.replicate (4 - (lg_sl ([.ref h0, .int p0, .int p1])).length) Slot.unset).toArray = ls at hl ⊢
  have hl : lv_has ls 4 [(0, .ref h0), (1, .int p0), (2, .int p1)] := hl
  refine lv_iload_n hx hb dX1_least_0 rfl (lv_at hl 1 rfl) ?_
  refine vp_callSi (W.runS (As := [.int p0]) (rest := []) ⟨hx, hb, hml, hown, hts⟩ (metX1_bad l p0) (va_cwS 1 hts (lw_S q155 q156 q17 q157) rfl rfl rfl (by decide +kernel) ⟨Nat.le_of_ble_eq_true rfl, Nat.le_of_ble_eq_true rfl⟩) ⟨fun _ _ _ _ q => q, fun U hU hW => ⟨rfl, trivial⟩⟩ rfl rfl hl.1 rfl (lv_room (Nat.le_of_ble_eq_true rfl)) dX1_least_1 ⟨Nat.le_of_ble_eq_true rfl, Nat.le_of_ble_eq_true rfl⟩) (fun r_1 hr_2 => ?_)
  refine lv_if_eq (tgt := 9) hx hb dX1_least_4 (by decide) (fun c_3 => ?_) (fun c_3 => ?_)
  · have g_4 := kb_ft hr_2 c_3
    refine lv_iconst (v := nI 0) hx hb dX1_least_9 (by decide +kernel) ?_
    refine lv_istore_n (lv' := [(3, .int (nI 0)), (0, .ref h0), (1, .int p0), (2, .int p1)]) hx hb dX1_least_10 rfl hl (by decide) rfl (fun ls hl => ?_)
    refine kup (α := Unit) 64 (fun ix_ _ => ∀ j, j < ix_ → nI j < p1 ∨ ¬ kIn (V p0.toNatClampNeg) (M p0.toNatClampNeg) (nI j)) (fun ix_ ax_ => [(3, .int (nI ix_)), (0, .ref h0), (1, .int p0), (2, .int p1)]) (fun ax_ ls hIx_ hl => ?_) (fun ix_ ax_ ls hix_ hIx_ hl Kx_ => ?_) 0 () ls (Nat.zero_le 64) (fun j h => absurd h (Nat.not_lt_zero j)) (lv_sub hl [0, 1, 2, 3] rfl)
    · have hl : lv_has ls 4 [(3, .int (nI 64)), (0, .ref h0), (1, .int p0), (2, .int p1)] := hl
      refine lv_iload_n hx hb dX1_least_11 rfl (lv_at hl 0 rfl) ?_
      refine lv_bipush (v := 64) hx hb dX1_least_12 (by decide +kernel) ?_
      refine lv_icmp_ge (tgt := 39) hx hb dX1_least_14 (by decide) (fun c_5 => ?_) (fun c_5 => absurd k64e c_5)
      refine lv_bipush (v := 64) hx hb dX1_least_39 (by decide +kernel) ?_
      exact W.iret (v := 64) hx hb hr (fun t ht hW => ⟨64, rfl, (by simp only [if_pos g_4]; exact Or.inr ⟨rfl, hIx_⟩), ht⟩) (fun _ h => by cases h) dX1_least_41
    · have hl : lv_has ls 4 [(3, .int (nI ix_)), (0, .ref h0), (1, .int p0), (2, .int p1)] := hl
      refine lv_iload_n hx hb dX1_least_11 rfl (lv_at hl 0 rfl) ?_
      refine lv_bipush (v := 64) hx hb dX1_least_12 (by decide +kernel) ?_
      refine lv_icmp_ge (tgt := 39) hx hb dX1_least_14 (by decide) (fun c_6 => absurd c_6 (k64 hix_)) (fun c_6 => ?_)
      refine lv_iload_n hx hb dX1_least_17 rfl (lv_at hl 0 rfl) ?_
      refine lv_iload_n hx hb dX1_least_18 rfl (lv_at hl 3 rfl) ?_
      refine lv_icmp_lt (tgt := 33) hx hb dX1_least_19 (by decide) (fun c_7 => ?_) (fun c_7 => ?_)
      · refine lv_iinc (v := nI (ix_ + 1)) (lv' := [(3, .int (nI (ix_ + 1))), (0, .ref h0), (1, .int p0), (2, .int p1)]) hx hb dX1_least_33 hl (k := 0) rfl (k_inc ix_) (by decide) rfl (fun ls hl => ?_)
        refine lv_goto (tgt := 11) hx hb dX1_least_36 (by decide) ?_
        exact Kx_ () _ (ls_s hIx_ (Or.inl c_7)) (lv_sub hl [0, 1, 2, 3] rfl)
      · refine lv_aload_n hx hb dX1_least_22 rfl (lv_at hl 1 rfl) ?_
        refine lv_iload_n hx hb dX1_least_23 rfl (lv_at hl 2 rfl) ?_
        refine lv_iload_n hx hb dX1_least_24 rfl (lv_at hl 0 rfl) ?_
        refine vp_callSi (W.runV (As := [.int p0, .int (nI ix_)]) (rest := []) ⟨hx, hb, hml, hown, hts⟩ (metX1_stands l dC dI h0 hv hm d1 d2 V M p0 (nI ix_) (kR_in g_4)) (cwV 2 hts (lw_V q162 q164 qs12 q17 q165) rfl rfl rfl (by decide +kernel) ⟨Nat.le_of_ble_eq_true rfl, Nat.le_of_ble_eq_true rfl⟩) ⟨kb_blindR, va_recv hK hP (ci := 1) (q0 := 0) rfl rfl, fun U hU hW => ⟨rfl, by rw [hU]; exact hP, va_K.moved hW.alike hK⟩⟩ rfl rfl hl.1 rfl (lv_room (Nat.le_of_ble_eq_true rfl)) dX1_least_25 ⟨Nat.le_of_ble_eq_true rfl, Nat.le_of_ble_eq_true rfl⟩) (fun r_8 hr_9 => ?_)
        refine lv_if_eq (tgt := 33) hx hb dX1_least_28 (by decide) (fun c_10 => ?_) (fun c_10 => ?_)
        · have g_11 := kb_tf hr_9 c_10
          refine lv_iinc (v := nI (ix_ + 1)) (lv' := [(3, .int (nI (ix_ + 1))), (0, .ref h0), (1, .int p0), (2, .int p1)]) hx hb dX1_least_33 hl (k := 0) rfl (k_inc ix_) (by decide) rfl (fun ls hl => ?_)
          refine lv_goto (tgt := 11) hx hb dX1_least_36 (by decide) ?_
          exact Kx_ () _ (ls_s hIx_ (Or.inr g_11)) (lv_sub hl [0, 1, 2, 3] rfl)
        · have g_12 := kb_tt hr_9 c_10
          refine lv_iload_n hx hb dX1_least_31 rfl (lv_at hl 0 rfl) ?_
          exact W.iret (v := nI ix_) hx hb hr (fun t ht hW => ⟨nI ix_, rfl, (by simp only [if_pos g_4]; exact Or.inl ⟨ix_, hix_, rfl, c_7, g_12, hIx_⟩), ht⟩) (fun _ h => by cases h) dX1_least_32
  · have g_13 := kb_ff hr_2 c_3
    refine lv_iconst (v := (-1)) hx hb dX1_least_7 (by decide +kernel) ?_
    exact W.iret (v := (-1)) hx hb hr (fun t ht hW => ⟨(-1), rfl, (by simp only [if_neg g_13]), ht⟩) (fun _ h => by cases h) dX1_least_8

set_option maxHeartbeats 4000000 in
set_option maxRecDepth 100000 in
/-- count -/
theorem metX1_count (l : Launch) (dC : Nat → ClassId) (dI : Nat → Nat → Nat) (h0 hv hm : Nat) (d1 d2 : ClassId) (V M : kF) (p0 : Int32) (p1 : Int32) (p2 : Int32) : Met l yX1_count (ws_ yX1_count cX1_count 6 (some .int)) ({ frames := 1, cells := 0, slots := 0, locals := 22 }) (va_Pc [.ref h0, .int p0, .int p1, .int p2] (kbR (dC, dI) (kTy d1 d2) (mdW h0 hv hm d1 d2 V M))) (vp_Si (fun r => r = if kR p0 then nI (ctF (V p0.toNatClampNeg) (M p0.toNatClampNeg) p1 p2 64) else -1)) 0 0 (fun _ => False) := by
  refine Met.ofW (cc := cX1_count) (maxL := 6) (ret := (some .int)) (by decide) rfl ?_
  intro p e s m args below meth c s₁ B hml hv_
  obtain ⟨rfl, hP, hK⟩ := hv_
  have hx := B.exec
  have hb := B.bytes
  have hr := B.returns
  have hts := atoms_spec (ws := ws_ yX1_count cX1_count 6 (some .int)) B.pre
  have hts : ∀ w ∈ lw_all, w.before _ s = true := fun w h => hts w (List.mem_cons_of_mem _ h)
  have hown : s.vm.findClass RX1 = some m.cls := findClass_of_methodNamed B.named
  have hlocks := B.notSynchronized
  have hP : va_P (dC, dI) vwCl (mdW h0 hv hm d1 d2 V M) s.heap := hP
  have hl := lv_entry ([.ref h0, .int p0, .int p1, .int p2]) (n := 6) (Nat.le_of_ble_eq_true rfl)
  rw [lg_entry_eq]
  generalize (lg_sl ([.ref h0, .int p0, .int p1, .int p2]) ++ List.replicate (6 - (lg_sl ([.ref h0, .int p0, .int p1, .int p2])).length) Slot.unset).toArray = ls at hl ⊢
  have hl : lv_has ls 6 [(0, .ref h0), (1, .int p0), (2, .int p1), (3, .int p2)] := hl
  refine lv_iload_n hx hb dX1_count_0 rfl (lv_at hl 1 rfl) ?_
  refine vp_callSi (W.runS (As := [.int p0]) (rest := []) ⟨hx, hb, hml, hown, hts⟩ (metX1_bad l p0) (va_cwS 1 hts (lw_S q155 q156 q17 q157) rfl rfl rfl (by decide +kernel) ⟨Nat.le_of_ble_eq_true rfl, Nat.le_of_ble_eq_true rfl⟩) ⟨fun _ _ _ _ q => q, fun U hU hW => ⟨rfl, trivial⟩⟩ rfl rfl hl.1 rfl (lv_room (Nat.le_of_ble_eq_true rfl)) dX1_count_1 ⟨Nat.le_of_ble_eq_true rfl, Nat.le_of_ble_eq_true rfl⟩) (fun r_1 hr_2 => ?_)
  refine lv_if_eq (tgt := 9) hx hb dX1_count_4 (by decide) (fun c_3 => ?_) (fun c_3 => ?_)
  · have g_4 := kb_ft hr_2 c_3
    refine lv_iconst (v := nI 0) hx hb dX1_count_9 (by decide +kernel) ?_
    refine lv_istore (lv' := [(4, .int (nI 0)), (0, .ref h0), (1, .int p0), (2, .int p1), (3, .int p2)]) hx hb dX1_count_10 hl (by decide) rfl (fun ls hl => ?_)
    refine lv_iconst (v := nI 0) hx hb dX1_count_12 (by decide +kernel) ?_
    refine lv_istore (lv' := [(5, .int (nI 0)), (4, .int (nI 0)), (0, .ref h0), (1, .int p0), (2, .int p1), (3, .int p2)]) hx hb dX1_count_13 hl (by decide) rfl (fun ls hl => ?_)
    refine kup (α := Nat) 64 (fun ix_ ax_ => ax_ = ctF (V p0.toNatClampNeg) (M p0.toNatClampNeg) p1 p2 ix_) (fun ix_ ax_ => [(5, .int (nI ix_)), (4, .int (nI ax_)), (0, .ref h0), (1, .int p0), (2, .int p1), (3, .int p2)]) (fun ax_ ls hIx_ hl => ?_) (fun ix_ ax_ ls hix_ hIx_ hl Kx_ => ?_) 0 0 ls (Nat.zero_le 64) rfl (lv_sub hl [0, 1, 2, 3, 4, 5] rfl)
    · have hl : lv_has ls 6 [(5, .int (nI 64)), (4, .int (nI ax_)), (0, .ref h0), (1, .int p0), (2, .int p1), (3, .int p2)] := hl
      refine lv_iload hx hb dX1_count_15 (lv_at hl 0 rfl) ?_
      refine lv_bipush (v := 64) hx hb dX1_count_17 (by decide +kernel) ?_
      refine lv_icmp_ge (tgt := 53) hx hb dX1_count_19 (by decide) (fun c_5 => ?_) (fun c_5 => absurd k64e c_5)
      refine lv_iload hx hb dX1_count_53 (lv_at hl 1 rfl) ?_
      exact W.iret (v := nI ax_) hx hb hr (fun t ht hW => ⟨nI ax_, rfl, (by simp only [if_pos g_4]; rw [hIx_]), ht⟩) (fun _ h => by cases h) dX1_count_55
    · have hl : lv_has ls 6 [(5, .int (nI ix_)), (4, .int (nI ax_)), (0, .ref h0), (1, .int p0), (2, .int p1), (3, .int p2)] := hl
      refine lv_iload hx hb dX1_count_15 (lv_at hl 0 rfl) ?_
      refine lv_bipush (v := 64) hx hb dX1_count_17 (by decide +kernel) ?_
      refine lv_icmp_ge (tgt := 53) hx hb dX1_count_19 (by decide) (fun c_6 => absurd c_6 (k64 hix_)) (fun c_6 => ?_)
      refine lv_aload_n hx hb dX1_count_22 rfl (lv_at hl 2 rfl) ?_
      refine lv_iload_n hx hb dX1_count_23 rfl (lv_at hl 3 rfl) ?_
      refine lv_iload hx hb dX1_count_24 (lv_at hl 0 rfl) ?_
      refine vp_callSi (W.runV (As := [.int p0, .int (nI ix_)]) (rest := []) ⟨hx, hb, hml, hown, hts⟩ (metX1_stands l dC dI h0 hv hm d1 d2 V M p0 (nI ix_) (kR_in g_4)) (cwV 2 hts (lw_V q162 q164 qs12 q17 q165) rfl rfl rfl (by decide +kernel) ⟨Nat.le_of_ble_eq_true rfl, Nat.le_of_ble_eq_true rfl⟩) ⟨kb_blindR, va_recv hK hP (ci := 1) (q0 := 0) rfl rfl, fun U hU hW => ⟨rfl, by rw [hU]; exact hP, va_K.moved hW.alike hK⟩⟩ rfl rfl hl.1 rfl (lv_room (Nat.le_of_ble_eq_true rfl)) dX1_count_26 ⟨Nat.le_of_ble_eq_true rfl, Nat.le_of_ble_eq_true rfl⟩) (fun r_7 hr_8 => ?_)
      refine lv_if_eq (tgt := 47) hx hb dX1_count_29 (by decide) (fun c_9 => ?_) (fun c_9 => ?_)
      · have g_10 := kb_tf hr_8 c_9
        refine lv_iinc (v := nI (ix_ + 1)) (lv' := [(5, .int (nI (ix_ + 1))), (4, .int (nI ax_)), (0, .ref h0), (1, .int p0), (2, .int p1), (3, .int p2)]) hx hb dX1_count_47 hl (k := 0) rfl (k_inc ix_) (by decide) rfl (fun ls hl => ?_)
        refine lv_goto (tgt := 15) hx hb dX1_count_50 (by decide) ?_
        exact Kx_ ax_ _ (by rw [ctF, if_neg g_10, hIx_]) (lv_sub hl [0, 1, 2, 3, 4, 5] rfl)
      · have g_11 := kb_tt hr_8 c_9
        refine lv_iload_n hx hb dX1_count_32 rfl (lv_at hl 4 rfl) ?_
        refine lv_iload hx hb dX1_count_33 (lv_at hl 0 rfl) ?_
        refine lv_icmp_gt (tgt := 47) hx hb dX1_count_35 (by decide) (fun c_12 => ?_) (fun c_12 => ?_)
        · refine lv_iinc (v := nI (ix_ + 1)) (lv' := [(5, .int (nI (ix_ + 1))), (4, .int (nI ax_)), (0, .ref h0), (1, .int p0), (2, .int p1), (3, .int p2)]) hx hb dX1_count_47 hl (k := 0) rfl (k_inc ix_) (by decide) rfl (fun ls hl => ?_)
          refine lv_goto (tgt := 15) hx hb dX1_count_50 (by decide) ?_
          exact Kx_ ax_ _ (by rw [ctF, if_pos g_11, if_pos c_12, hIx_]) (lv_sub hl [0, 1, 2, 3, 4, 5] rfl)
        · refine lv_iload hx hb dX1_count_38 (lv_at hl 0 rfl) ?_
          refine lv_iload_n hx hb dX1_count_40 rfl (lv_at hl 5 rfl) ?_
          refine lv_icmp_gt (tgt := 47) hx hb dX1_count_41 (by decide) (fun c_13 => ?_) (fun c_13 => ?_)
          · refine lv_iinc (v := nI (ix_ + 1)) (lv' := [(5, .int (nI (ix_ + 1))), (4, .int (nI ax_)), (0, .ref h0), (1, .int p0), (2, .int p1), (3, .int p2)]) hx hb dX1_count_47 hl (k := 0) rfl (k_inc ix_) (by decide) rfl (fun ls hl => ?_)
            refine lv_goto (tgt := 15) hx hb dX1_count_50 (by decide) ?_
            exact Kx_ ax_ _ (by rw [ctF, if_pos g_11, if_neg c_12, if_pos c_13, hIx_]) (lv_sub hl [0, 1, 2, 3, 4, 5] rfl)
          · refine lv_iinc (v := nI (ax_ + 1)) (lv' := [(4, .int (nI (ax_ + 1))), (5, .int (nI ix_)), (0, .ref h0), (1, .int p0), (2, .int p1), (3, .int p2)]) hx hb dX1_count_44 hl (k := 1) rfl (k_inc ax_) (by decide) rfl (fun ls hl => ?_)
            refine lv_iinc (v := nI (ix_ + 1)) (lv' := [(5, .int (nI (ix_ + 1))), (4, .int (nI (ax_ + 1))), (0, .ref h0), (1, .int p0), (2, .int p1), (3, .int p2)]) hx hb dX1_count_47 hl (k := 1) rfl (k_inc ix_) (by decide) rfl (fun ls hl => ?_)
            refine lv_goto (tgt := 15) hx hb dX1_count_50 (by decide) ?_
            exact Kx_ (ax_ + 1) _ (by rw [ctF, if_pos g_11, if_neg c_12, if_neg c_13, hIx_]) (lv_sub hl [0, 1, 2, 3, 4, 5] rfl)
  · have g_14 := kb_ff hr_2 c_3
    refine lv_iconst (v := (-1)) hx hb dX1_count_7 (by decide +kernel) ?_
    exact W.iret (v := (-1)) hx hb hr (fun t ht hW => ⟨(-1), rfl, (by simp only [if_neg g_14]), ht⟩) (fun _ h => by cases h) dX1_count_8
end
section
/-! ===== the constructors ===== -/
def iniB0 (dC : Nat → ClassId) (dI : Nat → Nat → Nat) (A : Nat → Prop) (h0 : Nat) (_u : Unit) (t : State) : Prop := ∃ (hv hm : Nat) (d1 d2 : ClassId), va_P (dC, dI) vwCl (kbW h0 hv hm d1 d2 (fun _ => 0) (fun _ => 0) 0 0) t.heap ∧ va_K (dC, dI) vwCl (kTy d1 d2) t ∧ va_D A (kbW h0 hv hm d1 d2 (fun _ => 0) (fun _ => 0) 0 0)
def iniB1 (dC : Nat → ClassId) (dI : Nat → Nat → Nat) (A : Nat → Prop) (h0 : Nat) (_u : Unit) (t : State) : Prop := ∃ (hv hm : Nat) (d1 d2 : ClassId), va_P (dC, dI) vwCl (mdW h0 hv hm d1 d2 (fun _ => 0) (fun _ => 0)) t.heap ∧ va_K (dC, dI) vwCl (kTy d1 d2) t ∧ va_D A (mdW h0 hv hm d1 d2 (fun _ => 0) (fun _ => 0))
set_option maxHeartbeats 4000000 in
set_option maxRecDepth 100000 in
/-- the constructor: two new arrays of six zeros -/
theorem metX0_init (l : Launch) (dC : Nat → ClassId) (dI : Nat → Nat → Nat) (h0 sz : Nat) : Met l yX0_init (ws_ yX0_init cX0_init 1 none) ({ frames := 1, cells := 2, slots := 12, locals := 12 }) (va_Pc [.ref h0] (kbP (dC, dI) [] [(h0, .inr (0, [.null, .null, .int 0, .int 0]))] sz)) (va_Qv (fun _ : Unit => True) (iniB0 dC dI (va_A [(h0, .inr (0, [.null, .null, .int 0, .int 0]))] sz) h0) (va_A [(h0, .inr (0, [.null, .null, .int 0, .int 0]))] sz)) 2 12 (va_A [(h0, .inr (0, [.null, .null, .int 0, .int 0]))] sz) := by
  refine Met.ofW (cc := cX0_init) (maxL := 1) (ret := none) (by decide) rfl ?_
  intro p e s m args below meth c s₁ B hml hv_
  obtain ⟨rfl, hsz, hP, hK, hD0⟩ := hv_
  have hx := B.exec
  have hb := B.bytes
  have hr := B.returns
  have hts := atoms_spec (ws := ws_ yX0_init cX0_init 1 none) B.pre
  have hts : ∀ w ∈ lw_all, w.before _ s = true := fun w h => hts w (List.mem_cons_of_mem _ h)
  have hown : s.vm.findClass RX0 = some m.cls := findClass_of_methodNamed B.named
  have hlocks := B.notSynchronized
  have hin : meth.name = "<init>" := (name_of_methodNamed B.named B.method).1
  subst hsz
  have hD := hD0.self (sz := s.heap.size)
  generalize hAe : va_A [(h0, .inr (0, [.null, .null, .int 0, .int 0]))] s.heap.size = A at hD ⊢
  have hA : ∀ q : Nat, s.heap.size ≤ q → A q := fun q h => by rw [← hAe]; exact Or.inr h
  have hS : va_S A s.heap s.heap [] := va_S.rf
  have hP : va_P (dC, dI) vwCl [(h0, .inr (0, [.null, .null, .int 0, .int 0]))] s.heap := hP
  have hl := lv_entry ([.ref h0]) (n := 1) (Nat.le_of_ble_eq_true rfl)
  rw [lg_entry_eq]
  generalize (lg_sl ([.ref h0]) ++ List.replicate (1 - (lg_sl ([.ref h0])).length) Slot.unset).toArray = ls at hl ⊢
  have hl : lv_has ls 1 [(0, .ref h0)] := hl
  refine lv_aload_n hx hb dX0_init_0 rfl (lv_at hl 0 rfl) ?_
  refine W.objInit hx hb hown (hts _ q23) (hts _ q24) (hts _ q25) rfl (by rw [hml]; exact hl.1) rfl dX0_init_1 (Nat.le_of_ble_eq_true rfl) (Nat.le_of_ble_eq_true rfl) ?_
  refine W.eq (g2 := F0 m 4 ls []) rfl ?_
  refine lv_aload_n hx hb dX0_init_4 rfl (lv_at hl 0 rfl) ?_
  refine lv_bipush (v := 6) hx hb dX0_init_5 (by decide +kernel) ?_
  refine va_newa (atype := .int) (ty := .int) (N' := 6) (a0 := (6, .inl (fun _ => 0))) hx hb (hts _ q39) rfl hK hP hD hS hA (fun _ => rfl) (by decide) (by decide +kernel) (by decide) (Nat.le_of_ble_eq_true rfl) (Nat.le_of_ble_eq_true rfl) dX0_init_7 (fun hv d1 H hK hP hD hS => ?_)
  have hP : va_P (dC, dI) vwCl [(h0, .inr (0, [.null, .null, .int 0, .int 0])), (hv, .inl (d1, 6, .inl (fun _ => 0)))] H := hP
  have hD : va_D A [(h0, .inr (0, [.null, .null, .int 0, .int 0])), (hv, .inl (d1, 6, .inl (fun _ => 0)))] := hD
  refine W.widen (k := 1) (n := 6) (by decide) (by decide) ?_
  refine va_putF (D := (dC, dI)) (ci := 0) (v := .ref hv) (ty := .array .int) (C := RX0) (T := TX0) (N := 4) hx hb hts in_X0 tyX0 tyX0_ok nmX0 hown hK hP hD hS 0 rfl rfl 0 (by decide) (hts _ q26) (fun _ h9 => h9) rfl hin rfl (by decide +kernel) rfl rfl (Nat.le_of_ble_eq_true rfl) dX0_init_9 (fun H locs hP hD hS => ?_)
  have hP : va_P (dC, dI) vwCl [(h0, .inr (0, [.ref hv, .null, .int 0, .int 0])), (hv, .inl (d1, 6, .inl (fun _ => 0)))] H := hP
  have hD : va_D A [(h0, .inr (0, [.ref hv, .null, .int 0, .int 0])), (hv, .inl (d1, 6, .inl (fun _ => 0)))] := hD
  refine lv_aload_n hx hb dX0_init_12 rfl (lv_at hl 0 rfl) ?_
  refine lv_bipush (v := 6) hx hb dX0_init_13 (by decide +kernel) ?_
  refine va_newa (atype := .int) (ty := .int) (N' := 6) (a0 := (6, .inl (fun _ => 0))) hx hb (hts _ q39) rfl hK hP hD hS hA (fun _ => rfl) (by decide) (by decide +kernel) (by decide) (Nat.le_of_ble_eq_true rfl) (Nat.le_of_ble_eq_true rfl) dX0_init_15 (fun hm d2 H hK hP hD hS => ?_)
  have hP : va_P (dC, dI) vwCl [(h0, .inr (0, [.ref hv, .null, .int 0, .int 0])), (hv, .inl (d1, 6, .inl (fun _ => 0))), (hm, .inl (d2, 6, .inl (fun _ => 0)))] H := hP
  have hD : va_D A [(h0, .inr (0, [.ref hv, .null, .int 0, .int 0])), (hv, .inl (d1, 6, .inl (fun _ => 0))), (hm, .inl (d2, 6, .inl (fun _ => 0)))] := hD
  refine W.widen (k := 2) (n := 12) (by decide) (by decide) ?_
  refine va_putF (D := (dC, dI)) (ci := 0) (v := .ref hm) (ty := .array .int) (C := RX0) (T := TX0) (N := 4) hx hb hts in_X0 tyX0 tyX0_ok nmX0 hown hK hP hD hS 0 rfl rfl 1 (by decide) (hts _ q27) (fun _ h9 => h9) rfl hin rfl (by decide +kernel) rfl rfl (Nat.le_of_ble_eq_true rfl) dX0_init_17 (fun H locs hP hD hS => ?_)
  have hP : va_P (dC, dI) vwCl [(h0, .inr (0, [.ref hv, .ref hm, .int 0, .int 0])), (hv, .inl (d1, 6, .inl (fun _ => 0))), (hm, .inl (d2, 6, .inl (fun _ => 0)))] H := hP
  have hD : va_D A [(h0, .inr (0, [.ref hv, .ref hm, .int 0, .int 0])), (hv, .inl (d1, 6, .inl (fun _ => 0))), (hm, .inl (d2, 6, .inl (fun _ => 0)))] := hD
  have hK : va_K (dC, dI) vwCl (kTy d1 d2) s := hK
  exact W.vret hx hb hr (fun t ht hW => ⟨⟨(), rfl, trivial, hv, hm, d1, d2, by rw [ht]; exact hP, va_K.moved hW.alike hK, hD⟩, hS.F ht⟩) hS.2.2 dX0_init_20
set_option maxHeartbeats 4000000 in
set_option maxRecDepth 100000 in
/-- the constructor: two new arrays of six zeros -/
theorem metX1_init (l : Launch) (dC : Nat → ClassId) (dI : Nat → Nat → Nat) (h0 sz : Nat) : Met l yX1_init (ws_ yX1_init cX1_init 1 none) ({ frames := 1, cells := 2, slots := 12, locals := 12 }) (va_Pc [.ref h0] (kbP (dC, dI) [] [(h0, .inr (1, [.null, .null]))] sz)) (va_Qv (fun _ : Unit => True) (iniB1 dC dI (va_A [(h0, .inr (1, [.null, .null]))] sz) h0) (va_A [(h0, .inr (1, [.null, .null]))] sz)) 2 12 (va_A [(h0, .inr (1, [.null, .null]))] sz) := by
  refine Met.ofW (cc := cX1_init) (maxL := 1) (ret := none) (by decide) rfl ?_
  intro p e s m args below meth c s₁ B hml hv_
  obtain ⟨rfl, hsz, hP, hK, hD0⟩ := hv_
  have hx := B.exec
  have hb := B.bytes
  have hr := B.returns
  have hts := atoms_spec (ws := ws_ yX1_init cX1_init 1 none) B.pre
  have hts : ∀ w ∈ lw_all, w.before _ s = true := fun w h => hts w (List.mem_cons_of_mem _ h)
  have hown : s.vm.findClass RX1 = some m.cls := findClass_of_methodNamed B.named
  have hlocks := B.notSynchronized
  have hin : meth.name = "<init>" := (name_of_methodNamed B.named B.method).1
  subst hsz
  have hD := hD0.self (sz := s.heap.size)
  generalize hAe : va_A [(h0, .inr (1, [.null, .null]))] s.heap.size = A at hD ⊢
  have hA : ∀ q : Nat, s.heap.size ≤ q → A q := fun q h => by rw [← hAe]; exact Or.inr h
  have hS : va_S A s.heap s.heap [] := va_S.rf
  have hP : va_P (dC, dI) vwCl [(h0, .inr (1, [.null, .null]))] s.heap := hP
  have hl := lv_entry ([.ref h0]) (n := 1) (Nat.le_of_ble_eq_true rfl)
  rw [lg_entry_eq]
  generalize (lg_sl ([.ref h0]) ++ List.replicate (1 - (lg_sl ([.ref h0])).length) Slot.unset).toArray = ls at hl ⊢
  have hl : lv_has ls 1 [(0, .ref h0)] := hl
  refine lv_aload_n hx hb dX1_init_0 rfl (lv_at hl 0 rfl) ?_
  refine W.objInit hx hb hown (hts _ q143) (hts _ q24) (hts _ q25) rfl (by rw [hml]; exact hl.1) rfl dX1_init_1 (Nat.le_of_ble_eq_true rfl) (Nat.le_of_ble_eq_true rfl) ?_
  refine W.eq (g2 := F0 m 4 ls []) rfl ?_
  refine lv_aload_n hx hb dX1_init_4 rfl (lv_at hl 0 rfl) ?_
  refine lv_bipush (v := 6) hx hb dX1_init_5 (by decide +kernel) ?_
  refine va_newa (atype := .int) (ty := .int) (N' := 6) (a0 := (6, .inl (fun _ => 0))) hx hb (hts _ q39) rfl hK hP hD hS hA (fun _ => rfl) (by decide) (by decide +kernel) (by decide) (Nat.le_of_ble_eq_true rfl) (Nat.le_of_ble_eq_true rfl) dX1_init_7 (fun hv d1 H hK hP hD hS => ?_)
  have hP : va_P (dC, dI) vwCl [(h0, .inr (1, [.null, .null])), (hv, .inl (d1, 6, .inl (fun _ => 0)))] H := hP
  have hD : va_D A [(h0, .inr (1, [.null, .null])), (hv, .inl (d1, 6, .inl (fun _ => 0)))] := hD
  refine W.widen (k := 1) (n := 6) (by decide) (by decide) ?_
  refine va_putF (D := (dC, dI)) (ci := 1) (v := .ref hv) (ty := .array .int) (C := RX1) (T := TX1) (N := 2) hx hb hts in_X1 tyX1 tyX1_ok nmX1 hown hK hP hD hS 0 rfl rfl 0 (by decide) (hts _ q144) (fun _ h9 => h9) rfl hin rfl (by decide +kernel) rfl rfl (Nat.le_of_ble_eq_true rfl) dX1_init_9 (fun H locs hP hD hS => ?_)
  have hP : va_P (dC, dI) vwCl [(h0, .inr (1, [.ref hv, .null])), (hv, .inl (d1, 6, .inl (fun _ => 0)))] H := hP
  have hD : va_D A [(h0, .inr (1, [.ref hv, .null])), (hv, .inl (d1, 6, .inl (fun _ => 0)))] := hD
  refine lv_aload_n hx hb dX1_init_12 rfl (lv_at hl 0 rfl) ?_
  refine lv_bipush (v := 6) hx hb dX1_init_13 (by decide +kernel) ?_
  refine va_newa (atype := .int) (ty := .int) (N' := 6) (a0 := (6, .inl (fun _ => 0))) hx hb (hts _ q39) rfl hK hP hD hS hA (fun _ => rfl) (by decide) (by decide +kernel) (by decide) (Nat.le_of_ble_eq_true rfl) (Nat.le_of_ble_eq_true rfl) dX1_init_15 (fun hm d2 H hK hP hD hS => ?_)
  have hP : va_P (dC, dI) vwCl [(h0, .inr (1, [.ref hv, .null])), (hv, .inl (d1, 6, .inl (fun _ => 0))), (hm, .inl (d2, 6, .inl (fun _ => 0)))] H := hP
  have hD : va_D A [(h0, .inr (1, [.ref hv, .null])), (hv, .inl (d1, 6, .inl (fun _ => 0))), (hm, .inl (d2, 6, .inl (fun _ => 0)))] := hD
  refine W.widen (k := 2) (n := 12) (by decide) (by decide) ?_
  refine va_putF (D := (dC, dI)) (ci := 1) (v := .ref hm) (ty := .array .int) (C := RX1) (T := TX1) (N := 2) hx hb hts in_X1 tyX1 tyX1_ok nmX1 hown hK hP hD hS 0 rfl rfl 1 (by decide) (hts _ q145) (fun _ h9 => h9) rfl hin rfl (by decide +kernel) rfl rfl (Nat.le_of_ble_eq_true rfl) dX1_init_17 (fun H locs hP hD hS => ?_)
  have hP : va_P (dC, dI) vwCl [(h0, .inr (1, [.ref hv, .ref hm])), (hv, .inl (d1, 6, .inl (fun _ => 0))), (hm, .inl (d2, 6, .inl (fun _ => 0)))] H := hP
  have hD : va_D A [(h0, .inr (1, [.ref hv, .ref hm])), (hv, .inl (d1, 6, .inl (fun _ => 0))), (hm, .inl (d2, 6, .inl (fun _ => 0)))] := hD
  have hK : va_K (dC, dI) vwCl (kTy d1 d2) s := hK
  exact W.vret hx hb hr (fun t ht hW => ⟨⟨(), rfl, trivial, hv, hm, d1, d2, by rw [ht]; exact hP, va_K.moved hW.alike hK, hD⟩, hS.F ht⟩) hS.2.2 dX1_init_20
end
section
/-! ===== patterns of six bits, over Nat ===== -/
/-- a pattern: a value, and the unknown bits, apart, of six bits each -/
def kg (v m : Int32) : Prop := ∃ a b : Nat, a < 64 ∧ b < 64 ∧ a &&& b = 0 ∧ v = nI a ∧ m = nI b
def kGd (V M : kF) : Prop := ∀ j, kg (V j) (M j)
theorem kGd_0 : kGd (fun _ => 0) (fun _ => 0) := fun _ => ⟨0, 0, by decide, by decide, by decide, rfl, rfl⟩
theorem kGd_upd {V M : kF} (g : kGd V M) (d : Nat) {v m : Int32} (h : kg v m) : kGd (upd V d v) (upd M d m) := by
  intro j
  unfold upd
  by_cases e : j = d
  · rw [if_pos e, if_pos e]; exact h
  · rw [if_neg e, if_neg e]; exact g j
/-- x is one of the pattern's numbers -/
def mem (a b x : Nat) : Prop := x < 64 ∧ ∀ k, b.testBit k = false → x.testBit k = a.testBit k
theorem tb6 {x k : Nat} (hx : x < 64) (hk : 6 ≤ k) : x.testBit k = false := Nat.testBit_lt_two_pow (Nat.lt_of_lt_of_le hx (Nat.pow_le_pow_right (n := 2) (by decide) hk))
theorem tb_k6 {x k : Nat} (hx : x < 64) (h : x.testBit k = true) : k < 6 := by
  rcases Nat.lt_or_ge k 6 with q | q
  · exact q
  · rw [tb6 hx q] at h; exact absurd h (by decide)
theorem lt64 {x : Nat} (h : ∀ k, 6 ≤ k → x.testBit k = false) : x < 64 := Nat.lt_pow_two_of_testBit (n := 6) x h
theorem dj {a b k : Nat} (h : a &&& b = 0) (hb : b.testBit k = true) : a.testBit k = false := by
  have e : (a &&& b).testBit k = false := by rw [h]; exact Nat.zero_testBit k
  rw [Nat.testBit_and, hb, Bool.and_true] at e
  exact e
theorem dj' {a b k : Nat} (h : a &&& b = 0) (ha : a.testBit k = true) : b.testBit k = false := by
  cases hb : b.testBit k
  · rfl
  · rw [dj h hb] at ha; exact absurd ha (by decide)
theorem dj_of {a b : Nat} (h : ∀ k, a.testBit k = true → b.testBit k = false) : a &&& b = 0 := by
  apply Nat.eq_of_testBit_eq
  intro k
  rw [Nat.testBit_and, Nat.zero_testBit]
  cases ha : a.testBit k
  · rfl
  · rw [h k ha]; rfl
theorem or64 {a b : Nat} (ha : a < 64) (hb : b < 64) : a ||| b < 64 := Nat.or_lt_two_pow (n := 6) ha hb
theorem and64 {a : Nat} (ha : a < 64) (b : Nat) : a &&& b < 64 := Nat.lt_of_le_of_lt Nat.and_le_left ha
theorem xor64 {a b : Nat} (ha : a < 64) (hb : b < 64) : a ^^^ b < 64 := Nat.xor_lt_two_pow (n := 6) ha hb
theorem mem_a {a b : Nat} (ha : a < 64) : mem a b a := ⟨ha, fun _ _ => rfl⟩
theorem mem_g {a b : Nat} (ha : a < 64) (hb : b < 64) : mem a b (a ||| b) := ⟨or64 ha hb, fun k h => by rw [Nat.testBit_or, h, Bool.or_false]⟩
theorem or_add : ∀ a, a < 64 → ∀ b, b < 64 → a &&& b = 0 → a ||| b = a + b := by decide +kernel
/-- nI under not-and -/
theorem nx_andn {x m : Nat} (hx : x < 64) : nI x &&& (nI m ^^^ (-1)) = nI (x &&& (m ^^^ 63)) := by
  apply b_ext
  intro i hi
  rw [b_and, b_xor, b_m1 i hi, b_nI hi, b_nI hi, b_nI hi, Nat.testBit_and, Nat.testBit_xor, show (63 : Nat) = 2 ^ 6 - 1 from rfl, Nat.testBit_two_pow_sub_one]
  rcases Nat.lt_or_ge i 6 with q | q
  · rw [decide_eq_true q]
  · rw [tb6 hx q]; rfl
theorem tb_andn {x m k : Nat} (hx : x < 64) : (x &&& (m ^^^ 63)).testBit k = (x.testBit k && !m.testBit k) := by
  rw [Nat.testBit_and, Nat.testBit_xor, show (63 : Nat) = 2 ^ 6 - 1 from rfl, Nat.testBit_two_pow_sub_one]
  rcases Nat.lt_or_ge k 6 with q | q
  · rw [decide_eq_true q, Bool.xor_true]
  · rw [tb6 hx q]; rfl
theorem nI_inj {a b : Nat} (ha : a < 64) (hb : b < 64) (h : nI a = nI b) : a = b := (nI_eq (by omega) (by omega)).mp h
theorem kIn_iff {a b x : Nat} (ha : a < 64) (hab : a &&& b = 0) (hx : x < 64) : kIn (nI a) (nI b) (nI x) ↔ mem a b x := by
  unfold kIn
  rw [nx_andn hx]
  constructor
  · intro h
    have e := nI_inj (and64 hx _) ha h
    refine ⟨hx, fun k hk => ?_⟩
    rw [← e, tb_andn hx, hk]
    simp
  · intro h
    congr 1
    apply Nat.eq_of_testBit_eq
    intro k
    rw [tb_andn hx]
    cases hb : b.testBit k
    · rw [h.2 k hb]; simp
    · rw [dj hab hb]; simp
/-- the least pattern of a set of numbers -/
def best (P : Nat → Prop) (a b : Nat) : Prop := (∀ k, b.testBit k = true ↔ ∃ x y, P x ∧ P y ∧ x.testBit k ≠ y.testBit k) ∧ ∀ k, a.testBit k = true ↔ ∀ x, P x → x.testBit k = true
theorem best_uniq {P : Nat → Prop} {a b c d : Nat} (h : best P a b) (q : best P c d) : a = c ∧ b = d := by
  constructor
  · apply Nat.eq_of_testBit_eq
    intro k
    rw [Bool.eq_iff_iff, h.2 k, q.2 k]
  · apply Nat.eq_of_testBit_eq
    intro k
    rw [Bool.eq_iff_iff, h.1 k, q.1 k]
theorem best_of {P : Nat → Prop} {a b : Nat} (hne : ∃ x, P x) (hs : ∀ x, P x → ∀ k, b.testBit k = false → x.testBit k = a.testBit k) (ht : ∀ k, b.testBit k = true → ∃ x y, P x ∧ P y ∧ x.testBit k ≠ y.testBit k) (hd : a &&& b = 0) : best P a b := by
  obtain ⟨x0, h0⟩ := hne
  refine ⟨fun k => ⟨ht k, ?_⟩, fun k => ⟨?_, ?_⟩⟩
  · rintro ⟨x, y, hx, hy, hxy⟩
    cases hb : b.testBit k
    · exact absurd ((hs x hx k hb).trans (hs y hy k hb).symm) hxy
    · rfl
  · intro ha x hx
    rw [hs x hx k (dj' hd ha)]
    exact ha
  · intro h
    cases hb : b.testBit k
    · rw [← hs x0 h0 k hb]; exact h x0 h0
    · obtain ⟨x, y, hx, hy, hxy⟩ := ht k hb
      exact absurd ((h x hx).trans (h y hy).symm) hxy
theorem best_iff {P Q : Nat → Prop} {a b : Nat} (h : best P a b) (e : ∀ x, P x ↔ Q x) : best Q a b := by
  have e2 : P = Q := funext fun x => propext (e x)
  rw [← e2]; exact h
/-! ===== keep ===== -/
theorem kp_spec (S : Nat → Bool) : ∀ n, ((kpF S n).1 = none ∧ (∀ i, i < n → S i = false) ∧ (kpF S n).2 = 0) ∨ ∃ f, (kpF S n).1 = some f ∧ f < n ∧ S f = true ∧ ∀ k, (kpF S n).2.testBit k = true ↔ ∃ i, i < n ∧ S i = true ∧ i.testBit k ≠ f.testBit k := by
  intro n
  induction n with
  | zero => exact Or.inl ⟨rfl, fun i h => absurd h (Nat.not_lt_zero i), rfl⟩
  | succ n ih =>
    by_cases hs : S n = true
    · refine Or.inr ?_
      rcases ih with ⟨h1, h2, h3⟩ | ⟨f, h1, h2, h3, h4⟩
      · refine ⟨n, by rw [kpF, if_pos hs, h1]; rfl, by omega, hs, fun k => ?_⟩
        rw [kpF, if_pos hs, h1, h3]
        show (0 ||| (n ^^^ n)).testBit k = true ↔ _
        rw [Nat.xor_self, Nat.or_self, Nat.zero_testBit]
        constructor
        · intro h; exact absurd h (by decide)
        · rintro ⟨i, hi, hsi, hne⟩
          by_cases e : i = n
          · subst e; exact absurd rfl hne
          · rw [h2 i (by omega)] at hsi; exact absurd hsi (by decide)
      · refine ⟨f, by rw [kpF, if_pos hs, h1]; rfl, by omega, h3, fun k => ?_⟩
        rw [kpF, if_pos hs, h1]
        show ((kpF S n).2 ||| (n ^^^ f)).testBit k = true ↔ _
        rw [Nat.testBit_or, Bool.or_eq_true, h4 k, Nat.testBit_xor]
        constructor
        · rintro (⟨i, hi, q⟩ | h)
          · exact ⟨i, by omega, q⟩
          · refine ⟨n, by omega, hs, fun e => ?_⟩
            rw [e, Bool.xor_self] at h
            exact absurd h (by decide)
        · rintro ⟨i, hi, hsi, hne⟩
          by_cases e : i = n
          · subst e
            refine Or.inr ?_
            revert hne
            cases i.testBit k <;> cases f.testBit k <;> simp
          · exact Or.inl ⟨i, by omega, hsi, hne⟩
    · have hs2 : S n = false := by cases h : S n <;> simp_all
      rw [kpF, if_neg hs]
      rcases ih with ⟨h1, h2, h3⟩ | ⟨f, h1, h2, h3, h4⟩
      · refine Or.inl ⟨h1, fun i hi => ?_, h3⟩
        by_cases e : i = n
        · subst e; exact hs2
        · exact h2 i (by omega)
      · refine Or.inr ⟨f, h1, by omega, h3, fun k => (h4 k).trans ⟨?_, ?_⟩⟩
        · rintro ⟨i, hi, q⟩; exact ⟨i, by omega, q⟩
        · rintro ⟨i, hi, hsi, q⟩
          by_cases e : i = n
          · subst e; rw [hs2] at hsi; exact absurd hsi (by decide)
          · exact ⟨i, by omega, hsi, q⟩
theorem lb_64 {s : Int64} {k : Nat} (h : lb s k = true) : k < 64 := by
  rcases Nat.lt_or_ge k 64 with q | q
  · exact q
  · unfold lb at h
    rw [BitVec.getLsbD_of_ge _ _ q] at h
    exact absurd h (by decide)
/-- keep, by the set that its word stands for -/
theorem kK_spec {V M : kF} {r : Int32} {s : Int64} {A : Nat → Prop} (h : sbI s A) : ((∀ n, ¬ A n) ∧ kK V M r s = (-2, V, M)) ∨ ((∃ n, A n) ∧ ∃ a b, a < 64 ∧ b < 64 ∧ a &&& b = 0 ∧ best A a b ∧ kK V M r s = (0, upd V r.toNatClampNeg (nI a), upd M r.toNatClampNeg (nI b))) := by
  have hA : ∀ n, A n → n < 64 ∧ lb s n = true := fun n q => ⟨lb_64 ((h n).mpr q), (h n).mpr q⟩
  rcases kp_spec (lb s) 64 with ⟨h1, h2, h3⟩ | ⟨f, h1, h2, h3, h4⟩
  · refine Or.inl ⟨fun n q => ?_, by rw [kK, if_pos h1]⟩
    obtain ⟨q1, q2⟩ := hA n q
    rw [h2 n q1] at q2
    exact absurd q2 (by decide)
  · have hf : A f := (h f).mp h3
    have hD : (kpF (lb s) 64).2 < 64 := by
      apply lt64
      intro k hk
      cases hb : (kpF (lb s) 64).2.testBit k
      · rfl
      · obtain ⟨i, hi, -, hne⟩ := (h4 k).mp hb
        exact absurd ((tb6 hi hk).trans (tb6 h2 hk).symm) hne
    refine Or.inr ⟨⟨f, hf⟩, f &&& ((kpF (lb s) 64).2 ^^^ 63), (kpF (lb s) 64).2, and64 h2 _, hD, ?_, ?_, ?_⟩
    · apply dj_of
      intro k
      rw [tb_andn h2]
      cases (kpF (lb s) 64).2.testBit k <;> simp
    · refine best_of ⟨f, hf⟩ (fun x hx k hk => ?_) (fun k hk => ?_) ?_
      · rw [tb_andn h2, hk]
        obtain ⟨q1, q2⟩ := hA x hx
        by_cases e : x.testBit k = f.testBit k
        · rw [e]; simp
        · rw [(h4 k).mpr ⟨x, q1, q2, e⟩] at hk
          exact absurd hk (by decide)
      · obtain ⟨i, hi, hs, hne⟩ := (h4 k).mp hk
        exact ⟨i, f, (h i).mp hs, hf, hne⟩
      · apply dj_of
        intro k
        rw [tb_andn h2]
        cases (kpF (lb s) 64).2.testBit k <;> simp
    · rw [kK, if_neg (by rw [h1]; exact fun z => by cases z), h1]
      show (0, upd V r.toNatClampNeg (nI f &&& (nI (kpF (lb s) 64).2 ^^^ (-1))), _) = _
      rw [nx_andn h2]
/-- one bit of a word -/
theorem kBi_tp : ∀ r, r < 64 → (kBi (nI r)).toBitVec = BitVec.twoPow 64 r := by decide +kernel
theorem lb_bi {r n : Nat} (hr : r < 64) : lb (kBi (nI r)) n = true ↔ n = r := by
  unfold lb
  rw [kBi_tp r hr, BitVec.getLsbD_twoPow, decide_eq_true hr, Bool.true_and, decide_eq_true_eq]
  exact eq_comm
end
section
/-! ===== sums of two patterns (with a carry) ===== -/
theorem tb_add3 (x y c k : Nat) (hc : c ≤ 1) : (x + y + c).testBit k = (x.testBit k ^^ (y.testBit k ^^ decide (2 ^ k ≤ x % 2 ^ k + y % 2 ^ k + c))) := by
  simp only [Nat.testBit_eq_decide_div_mod_eq]
  have hw : 0 < 2 ^ k := Nat.two_pow_pos k
  generalize 2 ^ k = w at hw ⊢
  have e : (x + y + c) / w = x / w + y / w + (if w ≤ x % w + y % w + c then 1 else 0) := by
    have h1 := Nat.div_add_mod x w
    have h2 := Nat.div_add_mod y w
    have h3 : x + y + c = w * (x / w + y / w) + (x % w + y % w + c) := by
      rw [Nat.mul_add]
      omega
    rw [h3, Nat.mul_add_div hw]
    have h4 := Nat.mod_lt x hw
    have h5 := Nat.mod_lt y hw
    congr 1
    by_cases q : w ≤ x % w + y % w + c
    · rw [if_pos q]
      exact Nat.div_eq_of_lt_le (by omega) (by omega)
    · rw [if_neg q]
      exact Nat.div_eq_of_lt (by omega)
  rw [e]
  by_cases q : w ≤ x % w + y % w + c
  · rw [if_pos q, decide_eq_true q]
    rcases Nat.mod_two_eq_zero_or_one (x / w) with a | a <;> rcases Nat.mod_two_eq_zero_or_one (y / w) with b | b <;> simp [a, b, Nat.add_mod]
  · rw [if_neg q, decide_eq_false q]
    rcases Nat.mod_two_eq_zero_or_one (x / w) with a | a <;> rcases Nat.mod_two_eq_zero_or_one (y / w) with b | b <;> simp [a, b, Nat.add_mod]
theorem mem_lo {a b x : Nat} (hab : a &&& b = 0) (h : mem a b x) (k : Nat) : a % 2 ^ k ≤ x % 2 ^ k := by
  apply Nat.le_of_testBit
  intro i
  rw [Nat.testBit_mod_two_pow, Nat.testBit_mod_two_pow, Bool.and_eq_true, Bool.and_eq_true]
  rintro ⟨h1, h2⟩
  exact ⟨h1, by rw [h.2 i (dj' hab h2)]; exact h2⟩
theorem mem_hi {a b x : Nat} (h : mem a b x) (k : Nat) : x % 2 ^ k ≤ (a ||| b) % 2 ^ k := by
  apply Nat.le_of_testBit
  intro i
  rw [Nat.testBit_mod_two_pow, Nat.testBit_mod_two_pow, Bool.and_eq_true, Bool.and_eq_true]
  rintro ⟨h1, h2⟩
  refine ⟨h1, ?_⟩
  rw [Nat.testBit_or]
  cases hb : b.testBit i
  · rw [← h.2 i hb, h2]; rfl
  · exact Bool.or_true _
theorem add_sound {a1 b1 a2 b2 c x y k : Nat} (hc : c ≤ 1) (d1 : a1 &&& b1 = 0) (d2 : a2 &&& b2 = 0) (hx : mem a1 b1 x) (hy : mem a2 b2 y) (h1 : b1.testBit k = false) (h2 : b2.testBit k = false) (hpq : (a1 + a2 + c).testBit k = ((a1 ||| b1) + (a2 ||| b2) + c).testBit k) : (x + y + c).testBit k = (a1 + a2 + c).testBit k := by
  rw [tb_add3 _ _ _ _ hc, tb_add3 _ _ _ _ hc, Nat.testBit_or, Nat.testBit_or, h1, h2, Bool.or_false, Bool.or_false] at hpq
  rw [tb_add3 _ _ _ _ hc, tb_add3 _ _ _ _ hc, hx.2 k h1, hy.2 k h2]
  have l1 := mem_lo d1 hx k
  have l2 := mem_lo d2 hy k
  have u1 := mem_hi hx k
  have u2 := mem_hi hy k
  generalize 2 ^ k = w at *
  have e : decide (w ≤ a1 % w + a2 % w + c) = decide (w ≤ (a1 ||| b1) % w + (a2 ||| b2) % w + c) := by
    revert hpq
    generalize decide (w ≤ a1 % w + a2 % w + c) = u
    generalize decide (w ≤ (a1 ||| b1) % w + (a2 ||| b2) % w + c) = v
    cases a1.testBit k <;> cases a2.testBit k <;> cases u <;> cases v <;> simp
  have e2 : decide (w ≤ x % w + y % w + c) = decide (w ≤ a1 % w + a2 % w + c) := by
    rw [decide_eq_decide] at e ⊢
    constructor
    · intro q; exact e.mpr (by omega)
    · intro q; omega
  rw [e2]
theorem tb_mod {x k : Nat} (hk : k < 6) : (x % 64).testBit k = x.testBit k := by
  rw [show (64 : Nat) = 2 ^ 6 from rfl, Nat.testBit_mod_two_pow, decide_eq_true hk, Bool.true_and]
theorem tb_mod6 {x k : Nat} : (x % 64).testBit k = (decide (k < 6) && x.testBit k) := by
  rw [show (64 : Nat) = 2 ^ 6 from rfl, Nat.testBit_mod_two_pow]
theorem mod64 (x : Nat) : x % 64 < 64 := Nat.mod_lt x (by decide)
theorem mem_bit {a b k : Nat} (ha : a < 64) (hb : b < 64) (hab : a &&& b = 0) (h : b.testBit k = true) : mem a b (2 ^ k + a) := by
  have hk := tb_k6 hb h
  have hp : 2 ^ k < 64 := Nat.pow_lt_pow_right (a := 2) (by decide) hk
  have e : a ||| 2 ^ k = a + 2 ^ k := by
    apply or_add a ha _ hp
    apply dj_of
    intro i hi
    cases q : (2 ^ k).testBit i
    · rfl
    · rw [Nat.testBit_two_pow, decide_eq_true_eq] at q
      rw [← q, dj hab h] at hi
      exact absurd hi (by decide)
  rw [Nat.add_comm, ← e]
  refine ⟨or64 ha hp, fun i hi => ?_⟩
  rw [Nat.testBit_or, Nat.testBit_two_pow]
  have hne : ¬ k = i := fun q => by rw [← q, h] at hi; exact absurd hi (by decide)
  rw [decide_eq_false hne, Bool.or_false]
/-- the sums' least pattern -/
theorem add_best {a1 b1 a2 b2 c x0 y0 D : Nat} (hc : c ≤ 1) (l1 : a1 < 64) (m1 : b1 < 64) (d1 : a1 &&& b1 = 0) (l2 : a2 < 64) (m2 : b2 < 64) (d2 : a2 &&& b2 = 0) (hx0 : mem a1 b1 x0) (hy0 : mem a2 b2 y0)
    (hD : ∀ k, D.testBit k = (decide (k < 6) && (((a1 + a2 + c).testBit k ^^ ((a1 ||| b1) + (a2 ||| b2) + c).testBit k) || b1.testBit k || b2.testBit k))) :
    best (fun n => ∃ x y, mem a1 b1 x ∧ mem a2 b2 y ∧ n = (x + y + c) % 64) ((x0 + y0 + c) % 64 &&& (D ^^^ 63)) D := by
  have snd : ∀ k, D.testBit k = false → k < 6 → b1.testBit k = false ∧ b2.testBit k = false ∧ (a1 + a2 + c).testBit k = ((a1 ||| b1) + (a2 ||| b2) + c).testBit k := by
    intro k h hk
    rw [hD k, decide_eq_true hk, Bool.true_and] at h
    revert h
    cases b1.testBit k <;> cases b2.testBit k <;> cases (a1 + a2 + c).testBit k <;> cases ((a1 ||| b1) + (a2 ||| b2) + c).testBit k <;> simp
  refine best_of ⟨_, x0, y0, hx0, hy0, rfl⟩ ?_ ?_ ?_
  · rintro n ⟨x, y, hx, hy, rfl⟩ k hk
    rw [tb_andn (mod64 _), hk]
    rcases Nat.lt_or_ge k 6 with q | q
    · obtain ⟨h1, h2, h3⟩ := snd k hk q
      rw [tb_mod q, tb_mod q, add_sound hc d1 d2 hx hy h1 h2 h3, add_sound hc d1 d2 hx0 hy0 h1 h2 h3]
      simp
    · rw [tb6 (mod64 _) q, tb6 (mod64 _) q]; rfl
  · intro k hk
    rw [hD k, Bool.and_eq_true, decide_eq_true_eq] at hk
    obtain ⟨q, hk⟩ := hk
    rw [Bool.or_eq_true, Bool.or_eq_true] at hk
    rcases hk with (hk | hk) | hk
    · refine ⟨_, _, ⟨a1, a2, mem_a l1, mem_a l2, rfl⟩, ⟨_, _, mem_g l1 m1, mem_g l2 m2, rfl⟩, ?_⟩
      rw [tb_mod q, tb_mod q]
      intro e
      rw [e, Bool.xor_self] at hk
      exact absurd hk (by decide)
    · refine ⟨_, _, ⟨a1, a2, mem_a l1, mem_a l2, rfl⟩, ⟨_, a2, mem_bit l1 m1 d1 hk, mem_a l2, rfl⟩, ?_⟩
      rw [tb_mod q, tb_mod q, show 2 ^ k + a1 + a2 + c = 2 ^ k + (a1 + a2 + c) by omega, Nat.testBit_two_pow_add_eq]
      cases (a1 + a2 + c).testBit k <;> simp
    · refine ⟨_, _, ⟨a1, a2, mem_a l1, mem_a l2, rfl⟩, ⟨a1, _, mem_a l1, mem_bit l2 m2 d2 hk, rfl⟩, ?_⟩
      rw [tb_mod q, tb_mod q, show a1 + (2 ^ k + a2) + c = 2 ^ k + (a1 + a2 + c) by omega, Nat.testBit_two_pow_add_eq]
      cases (a1 + a2 + c).testBit k <;> simp
  · apply dj_of
    intro k
    rw [tb_andn (mod64 _)]
    cases D.testBit k <;> simp
theorem nx_63 (x : Nat) : nI x &&& 63 = nI (x % 64) := by
  rw [show (63 : Int32) = nI (2 ^ 6 - 1) from rfl, nx_and, Nat.and_two_pow_sub_one_eq_mod]
theorem nx_v (p D : Nat) : (nI p &&& (nI D ^^^ (-1))) &&& 63 = nI (p % 64 &&& (D ^^^ 63)) := by
  apply b_ext
  intro i hi
  rw [b_and, b_and, b_xor, b_m1 i hi, b_63 i hi, b_nI hi, b_nI hi, b_nI hi, tb_andn (mod64 _), tb_mod6]
  rcases Nat.lt_or_ge i 6 with q | q
  · rw [decide_eq_true q]; simp
  · rw [decide_eq_false (by omega)]; simp
theorem nI_wrap (x : Nat) : nI (x + 4294967296) = nI x := by
  apply Int32.toBitVec_inj.1
  show BitVec.ofNat 32 (x + 4294967296) = BitVec.ofNat 32 x
  apply BitVec.eq_of_toNat_eq
  simp
theorem nI_sub (x y : Nat) (h : y ≤ x + 4294967296) : nI x - nI y = nI (x + 4294967296 - y) := by
  rw [← nI_wrap x, pk_sub h]
/-- what combine's patterns are: a word for each of the seven kinds -/
def cmOK (P : Nat → Prop) (v m : Int32) : Prop := (∃ n, P n) ∧ ∃ a b, a < 64 ∧ b < 64 ∧ a &&& b = 0 ∧ best P a b ∧ v = nI a ∧ m = nI b
theorem cmOK_iff {P Q : Nat → Prop} {v m : Int32} (h : cmOK P v m) (e : ∀ x, P x ↔ Q x) : cmOK Q v m := by
  have e2 : P = Q := funext fun x => propext (e x)
  rw [← e2]; exact h
section PR
variable {a1 b1 a2 b2 : Nat} (l1 : a1 < 64) (m1 : b1 < 64) (d1 : a1 &&& b1 = 0) (l2 : a2 < 64) (m2 : b2 < 64) (d2 : a2 &&& b2 = 0)
theorem cm_add (l1 : a1 < 64) (m1 : b1 < 64) (d1 : a1 &&& b1 = 0) (l2 : a2 < 64) (m2 : b2 < 64) (d2 : a2 &&& b2 = 0) : cmOK (fun n => ∃ x y, mem a1 b1 x ∧ mem a2 b2 y ∧ n = (x + y) % 64) (kAddV (nI a1) (nI b1) (nI a2) (nI b2)) (kAddM (nI a1) (nI b1) (nI a2) (nI b2)) := by
  have eM : kAddM (nI a1) (nI b1) (nI a2) (nI b2) = nI ((((a1 + a2) ^^^ (a1 + a2 + b1 + b2)) ||| b1 ||| b2) % 64) := by
    unfold kAddM
    rw [nI_add, nI_add, nI_add, nx_xor, nx_or, nx_or, nx_63]
  have hq : a1 + a2 + b1 + b2 = (a1 ||| b1) + (a2 ||| b2) := by
    rw [or_add a1 l1 b1 m1 d1, or_add a2 l2 b2 m2 d2]; omega
  have key := add_best (c := 0) (D := (((a1 + a2) ^^^ (a1 + a2 + b1 + b2)) ||| b1 ||| b2) % 64) (by decide) l1 m1 d1 l2 m2 d2 (mem_a l1) (mem_a l2) (fun k => by
    rw [tb_mod6, Nat.testBit_or, Nat.testBit_or, Nat.testBit_xor, hq]
    rfl)
  refine ⟨⟨_, a1, a2, mem_a l1, mem_a l2, rfl⟩, _, _, and64 (mod64 _) _, mod64 _, ?_, key, ?_, eM⟩
  · apply dj_of
    intro k
    rw [tb_andn (mod64 _)]
    cases ((((a1 + a2) ^^^ (a1 + a2 + b1 + b2)) ||| b1 ||| b2) % 64).testBit k <;> simp
  · unfold kAddV
    rw [eM, nI_add, nx_v]
    rfl
theorem not63 : ∀ y, y < 64 → 63 - y = 63 ^^^ y := by decide +kernel
theorem tb_not {y k : Nat} : (63 ^^^ y).testBit k = (decide (k < 6) ^^ y.testBit k) := by
  rw [Nat.testBit_xor, show (63 : Nat) = 2 ^ 6 - 1 from rfl, Nat.testBit_two_pow_sub_one]
theorem mem_not {a b y : Nat} (ha : a < 64) (hb : b < 64) (h : mem a b y) : mem (63 ^^^ (a ||| b)) b (63 ^^^ y) := by
  refine ⟨xor64 (by decide) h.1, fun k hk => ?_⟩
  rw [tb_not, tb_not, Nat.testBit_or, hk, Bool.or_false, h.2 k hk]
theorem mem_not' {a b y : Nat} (ha : a < 64) (hb : b < 64) (h : mem (63 ^^^ (a ||| b)) b y) : mem a b (63 ^^^ y) := by
  refine ⟨xor64 (by decide) h.1, fun k hk => ?_⟩
  have e := h.2 k hk
  rw [tb_not, Nat.testBit_or, hk, Bool.or_false] at e
  rw [tb_not, e]
  cases decide (k < 6) <;> cases a.testBit k <;> rfl
theorem cm_sub (l1 : a1 < 64) (m1 : b1 < 64) (d1 : a1 &&& b1 = 0) (l2 : a2 < 64) (m2 : b2 < 64) (d2 : a2 &&& b2 = 0) : cmOK (fun n => ∃ x y, mem a1 b1 x ∧ mem a2 b2 y ∧ n = (x + 64 - y) % 64) (kSubV (nI a1) (nI b1) (nI a2) (nI b2)) (kSubM (nI a1) (nI b1) (nI a2) (nI b2)) := by
  obtain ⟨W, h64, hbig, hsub⟩ : ∃ W : Nat, W % 64 = 0 ∧ 128 ≤ W ∧ ∀ x y : Nat, y ≤ x + W → nI x - nI y = nI (x + W - y) := ⟨4294967296, by decide, by decide, nI_sub⟩
  have hg : a2 ||| b2 < 64 := or64 l2 m2
  have l3 : 63 ^^^ (a2 ||| b2) < 64 := xor64 (by decide) hg
  have d3 : (63 ^^^ (a2 ||| b2)) &&& b2 = 0 := by
    apply dj_of
    intro k
    rw [tb_not, Nat.testBit_or]
    cases hb : b2.testBit k
    · simp
    · rw [decide_eq_true (tb_k6 m2 hb)]; simp
  have eM : kSubM (nI a1) (nI b1) (nI a2) (nI b2) = nI ((((a1 + W - a2 + b1) ^^^ (a1 + W - a2 + W - b2)) ||| b1 ||| b2) % 64) := by
    unfold kSubM
    rw [hsub a1 a2 (by omega), nI_add, hsub _ b2 (by omega), nx_xor, nx_or, nx_or, nx_63]
  have eq3 : (63 ^^^ (a2 ||| b2)) ||| b2 = 63 - a2 := by
    rw [not63 a2 l2]
    apply Nat.eq_of_testBit_eq
    intro k
    rw [Nat.testBit_or, tb_not, tb_not, Nat.testBit_or]
    cases hb : b2.testBit k
    · simp
    · rw [decide_eq_true (tb_k6 m2 hb), dj d2 hb]; rfl
  have hor := or_add a2 l2 b2 m2 d2
  have eP : (a1 + (63 ^^^ (a2 ||| b2)) + 1) % 64 = (a1 + W - a2 + W - b2) % 64 := by
    rw [← not63 _ hg, hor]
    rw [hor] at hg
    omega
  have eQ : ((a1 ||| b1) + ((63 ^^^ (a2 ||| b2)) ||| b2) + 1) % 64 = (a1 + W - a2 + b1) % 64 := by
    rw [eq3, or_add a1 l1 b1 m1 d1]
    omega
  have key := add_best (c := 1) (D := (((a1 + W - a2 + b1) ^^^ (a1 + W - a2 + W - b2)) ||| b1 ||| b2) % 64) (by decide) l1 m1 d1 l3 m2 d3 (mem_a l1) (mem_not l2 m2 (mem_a l2)) (fun k => by
    rw [tb_mod6, Nat.testBit_or, Nat.testBit_or, Nat.testBit_xor]
    rcases Nat.lt_or_ge k 6 with q | q
    · rw [decide_eq_true q, ← tb_mod (x := a1 + (63 ^^^ (a2 ||| b2)) + 1) q, eP, ← tb_mod (x := (a1 ||| b1) + ((63 ^^^ (a2 ||| b2)) ||| b2) + 1) q, eQ, tb_mod q, tb_mod q, Bool.xor_comm]
    · rw [decide_eq_false (by omega)]; rfl)
  have hset : ∀ n, (∃ x y, mem a1 b1 x ∧ mem (63 ^^^ (a2 ||| b2)) b2 y ∧ n = (x + y + 1) % 64) ↔ ∃ x y, mem a1 b1 x ∧ mem a2 b2 y ∧ n = (x + 64 - y) % 64 := by
    intro n
    constructor
    · rintro ⟨x, y, hx, hy, rfl⟩
      refine ⟨x, 63 ^^^ y, hx, mem_not' l2 m2 hy, ?_⟩
      rw [← not63 y hy.1]
      have := hy.1
      congr 1
      omega
    · rintro ⟨x, y, hx, hy, rfl⟩
      refine ⟨x, 63 ^^^ y, hx, mem_not l2 m2 hy, ?_⟩
      rw [← not63 y hy.1]
      have := hy.1
      congr 1
      omega
  refine ⟨⟨_, a1, a2, mem_a l1, mem_a l2, rfl⟩, _, _, and64 (mod64 _) _, mod64 _, ?_, best_iff key hset, ?_, eM⟩
  · apply dj_of
    intro k
    rw [tb_andn (mod64 _)]
    cases ((((a1 + W - a2 + b1) ^^^ (a1 + W - a2 + W - b2)) ||| b1 ||| b2) % 64).testBit k <;> simp
  · unfold kSubV
    rw [eM, hsub a1 a2 (by omega), nx_v]
    congr 2
    rw [← not63 a2 l2]
    omega
end PR
end
section
/-! ===== and, or, xor, join, meet; the law of combine ===== -/
theorem memb {a b x : Nat} (d : a &&& b = 0) (h : mem a b x) (k : Nat) : (b.testBit k = false ∧ x.testBit k = a.testBit k) ∨ (b.testBit k = true ∧ a.testBit k = false) := by
  cases hb : b.testBit k
  · exact Or.inl ⟨rfl, h.2 k hb⟩
  · exact Or.inr ⟨rfl, dj d hb⟩
theorem pat {a b : Nat} (d : a &&& b = 0) (k : Nat) : ¬ (a.testBit k = true ∧ b.testBit k = true) := fun ⟨h1, h2⟩ => by rw [dj d h2] at h1; exact absurd h1 (by decide)
abbrev Lb (x a b : Bool) : Prop := (b = false ∧ x = a) ∨ (b = true ∧ a = false)
theorem bl_and : ∀ x y a1 b1 a2 b2 : Bool, Lb x a1 b1 → Lb y a2 b2 → (((a1 || b1) && (a2 || b2)) && !(a1 && a2)) = false → (x && y) = (a1 && a2) := by decide
theorem bl_and2 : ∀ a1 b1 a2 b2 : Bool, (((a1 || b1) && (a2 || b2)) && !(a1 && a2)) = true → (a1 && a2) ≠ ((a1 || b1) && (a2 || b2)) := by decide
theorem bl_or : ∀ x y a1 b1 a2 b2 : Bool, Lb x a1 b1 → Lb y a2 b2 → ((b1 || b2) && !(a1 || a2)) = false → (x || y) = (a1 || a2) := by decide
theorem bl_or2 : ∀ a1 b1 a2 b2 : Bool, ((b1 || b2) && !(a1 || a2)) = true → (a1 || a2) ≠ ((a1 || b1) || (a2 || b2)) := by decide
theorem bl_xor : ∀ x y a1 b1 a2 b2 : Bool, Lb x a1 b1 → Lb y a2 b2 → (b1 || b2) = false → (x ^^ y) = ((a1 ^^ a2) && !(b1 || b2)) := by decide
theorem bl_xor1 : ∀ a1 a2 : Bool, a1 = false → (a1 ^^ a2) ≠ ((a1 || true) ^^ a2) := by decide
theorem bl_xor2 : ∀ a1 a2 : Bool, a2 = false → (a1 ^^ a2) ≠ (a1 ^^ (a2 || true)) := by decide
section CM
variable {a1 b1 a2 b2 : Nat}
theorem cm_and (l1 : a1 < 64) (m1 : b1 < 64) (d1 : a1 &&& b1 = 0) (l2 : a2 < 64) (m2 : b2 < 64) (d2 : a2 &&& b2 = 0) : cmOK (fun n => ∃ x y, mem a1 b1 x ∧ mem a2 b2 y ∧ n = x &&& y) (nI a1 &&& nI a2) (((nI a1 ||| nI b1) &&& (nI a2 ||| nI b2)) &&& ((nI a1 &&& nI a2) ^^^ (-1))) := by
  have hg : (a1 ||| b1) &&& (a2 ||| b2) < 64 := and64 (or64 l1 m1) _
  have hb : ∀ k, (((a1 ||| b1) &&& (a2 ||| b2)) &&& ((a1 &&& a2) ^^^ 63)).testBit k = (((a1.testBit k || b1.testBit k) && (a2.testBit k || b2.testBit k)) && !(a1.testBit k && a2.testBit k)) := fun k => by
    rw [tb_andn hg, Nat.testBit_and, Nat.testBit_or, Nat.testBit_or, Nat.testBit_and]
  have hd : (a1 &&& a2) &&& (((a1 ||| b1) &&& (a2 ||| b2)) &&& ((a1 &&& a2) ^^^ 63)) = 0 := by
    apply dj_of
    intro k h
    rw [hb k, ← Nat.testBit_and, h]
    simp
  refine ⟨⟨_, a1, a2, mem_a l1, mem_a l2, rfl⟩, a1 &&& a2, ((a1 ||| b1) &&& (a2 ||| b2)) &&& ((a1 &&& a2) ^^^ 63), and64 l1 _, and64 hg _, hd, best_of ⟨_, a1, a2, mem_a l1, mem_a l2, rfl⟩ ?_ ?_ hd, nx_and _ _, by rw [nx_or, nx_or, nx_and, nx_and, nx_andn hg]⟩
  · rintro n ⟨x, y, hx, hy, rfl⟩ k hk
    rw [hb k] at hk
    rw [Nat.testBit_and, Nat.testBit_and]
    exact bl_and _ _ _ _ _ _ (memb d1 hx k) (memb d2 hy k) hk
  · intro k hk
    rw [hb k] at hk
    refine ⟨_, _, ⟨a1, a2, mem_a l1, mem_a l2, rfl⟩, ⟨_, _, mem_g l1 m1, mem_g l2 m2, rfl⟩, ?_⟩
    rw [Nat.testBit_and, Nat.testBit_and, Nat.testBit_or, Nat.testBit_or]
    exact bl_and2 _ _ _ _ hk
theorem cm_or (l1 : a1 < 64) (m1 : b1 < 64) (d1 : a1 &&& b1 = 0) (l2 : a2 < 64) (m2 : b2 < 64) (d2 : a2 &&& b2 = 0) : cmOK (fun n => ∃ x y, mem a1 b1 x ∧ mem a2 b2 y ∧ n = x ||| y) (nI a1 ||| nI a2) ((nI b1 ||| nI b2) &&& ((nI a1 ||| nI a2) ^^^ (-1))) := by
  have hg : b1 ||| b2 < 64 := or64 m1 m2
  have hb : ∀ k, ((b1 ||| b2) &&& ((a1 ||| a2) ^^^ 63)).testBit k = ((b1.testBit k || b2.testBit k) && !(a1.testBit k || a2.testBit k)) := fun k => by
    rw [tb_andn hg, Nat.testBit_or, Nat.testBit_or]
  have hd : (a1 ||| a2) &&& ((b1 ||| b2) &&& ((a1 ||| a2) ^^^ 63)) = 0 := by
    apply dj_of
    intro k h
    rw [hb k, ← Nat.testBit_or (x := a1), h]
    simp
  refine ⟨⟨_, a1, a2, mem_a l1, mem_a l2, rfl⟩, a1 ||| a2, (b1 ||| b2) &&& ((a1 ||| a2) ^^^ 63), or64 l1 l2, and64 hg _, hd, best_of ⟨_, a1, a2, mem_a l1, mem_a l2, rfl⟩ ?_ ?_ hd, nx_or _ _, by rw [nx_or, nx_or, nx_andn hg]⟩
  · rintro n ⟨x, y, hx, hy, rfl⟩ k hk
    rw [hb k] at hk
    rw [Nat.testBit_or, Nat.testBit_or]
    exact bl_or _ _ _ _ _ _ (memb d1 hx k) (memb d2 hy k) hk
  · intro k hk
    rw [hb k] at hk
    refine ⟨_, _, ⟨a1, a2, mem_a l1, mem_a l2, rfl⟩, ⟨_, _, mem_g l1 m1, mem_g l2 m2, rfl⟩, ?_⟩
    rw [Nat.testBit_or, Nat.testBit_or, Nat.testBit_or, Nat.testBit_or]
    exact bl_or2 _ _ _ _ hk
theorem cm_xor (l1 : a1 < 64) (m1 : b1 < 64) (d1 : a1 &&& b1 = 0) (l2 : a2 < 64) (m2 : b2 < 64) (d2 : a2 &&& b2 = 0) : cmOK (fun n => ∃ x y, mem a1 b1 x ∧ mem a2 b2 y ∧ n = x ^^^ y) ((nI a1 ^^^ nI a2) &&& ((nI b1 ||| nI b2) ^^^ (-1))) (nI b1 ||| nI b2) := by
  have hg : a1 ^^^ a2 < 64 := xor64 l1 l2
  have hb : ∀ k, ((a1 ^^^ a2) &&& ((b1 ||| b2) ^^^ 63)).testBit k = ((a1.testBit k ^^ a2.testBit k) && !(b1.testBit k || b2.testBit k)) := fun k => by
    rw [tb_andn hg, Nat.testBit_xor, Nat.testBit_or]
  have hd : ((a1 ^^^ a2) &&& ((b1 ||| b2) ^^^ 63)) &&& (b1 ||| b2) = 0 := by
    apply dj_of
    intro k h
    rw [hb k, ← Nat.testBit_or] at h
    cases q : (b1 ||| b2).testBit k
    · rfl
    · rw [q] at h; simp at h
  refine ⟨⟨_, a1, a2, mem_a l1, mem_a l2, rfl⟩, (a1 ^^^ a2) &&& ((b1 ||| b2) ^^^ 63), b1 ||| b2, and64 hg _, or64 m1 m2, hd, best_of ⟨_, a1, a2, mem_a l1, mem_a l2, rfl⟩ ?_ ?_ hd, by rw [nx_xor, nx_or, nx_andn hg], nx_or _ _⟩
  · rintro n ⟨x, y, hx, hy, rfl⟩ k hk
    rw [hb k, Nat.testBit_xor]
    rw [Nat.testBit_or] at hk
    exact bl_xor _ _ _ _ _ _ (memb d1 hx k) (memb d2 hy k) hk
  · intro k hk
    rw [Nat.testBit_or, Bool.or_eq_true] at hk
    rcases hk with hk | hk
    · refine ⟨_, _, ⟨a1, a2, mem_a l1, mem_a l2, rfl⟩, ⟨_, a2, mem_g l1 m1, mem_a l2, rfl⟩, ?_⟩
      rw [Nat.testBit_xor, Nat.testBit_xor, Nat.testBit_or, hk]
      exact bl_xor1 _ _ (dj d1 hk)
    · refine ⟨_, _, ⟨a1, a2, mem_a l1, mem_a l2, rfl⟩, ⟨a1, _, mem_a l1, mem_g l2 m2, rfl⟩, ?_⟩
      rw [Nat.testBit_xor, Nat.testBit_xor, Nat.testBit_or, hk]
      exact bl_xor2 _ _ (dj d2 hk)
theorem bl_j1 : ∀ x a1 b1 a2 b2 : Bool, Lb x a1 b1 → (b1 || b2 || (a1 ^^ a2)) = false → x = (a1 && !(b1 || b2 || (a1 ^^ a2))) := by decide
theorem bl_j2 : ∀ y a1 b1 a2 b2 : Bool, Lb y a2 b2 → (b1 || b2 || (a1 ^^ a2)) = false → y = (a1 && !(b1 || b2 || (a1 ^^ a2))) := by decide
theorem cm_join (l1 : a1 < 64) (m1 : b1 < 64) (d1 : a1 &&& b1 = 0) (l2 : a2 < 64) (m2 : b2 < 64) (d2 : a2 &&& b2 = 0) : cmOK (fun n => ∃ x y, mem a1 b1 x ∧ mem a2 b2 y ∧ (n = x ∨ n = y)) (nI a1 &&& (((nI b1 ||| nI b2) ||| (nI a1 ^^^ nI a2)) ^^^ (-1))) ((nI b1 ||| nI b2) ||| (nI a1 ^^^ nI a2)) := by
  have hm : ∀ k, (b1 ||| b2 ||| (a1 ^^^ a2)).testBit k = (b1.testBit k || b2.testBit k || (a1.testBit k ^^ a2.testBit k)) := fun k => by
    rw [Nat.testBit_or, Nat.testBit_or, Nat.testBit_xor]
  have hb : ∀ k, (a1 &&& ((b1 ||| b2 ||| (a1 ^^^ a2)) ^^^ 63)).testBit k = (a1.testBit k && !(b1.testBit k || b2.testBit k || (a1.testBit k ^^ a2.testBit k))) := fun k => by
    rw [tb_andn l1, hm k]
  have hd : (a1 &&& ((b1 ||| b2 ||| (a1 ^^^ a2)) ^^^ 63)) &&& (b1 ||| b2 ||| (a1 ^^^ a2)) = 0 := by
    apply dj_of
    intro k h
    rw [tb_andn l1] at h
    cases q : (b1 ||| b2 ||| (a1 ^^^ a2)).testBit k
    · rfl
    · rw [q] at h; simp at h
  refine ⟨⟨_, a1, a2, mem_a l1, mem_a l2, Or.inl rfl⟩, a1 &&& ((b1 ||| b2 ||| (a1 ^^^ a2)) ^^^ 63), b1 ||| b2 ||| (a1 ^^^ a2), and64 l1 _, or64 (or64 m1 m2) (xor64 l1 l2), hd, best_of ⟨_, a1, a2, mem_a l1, mem_a l2, Or.inl rfl⟩ ?_ ?_ hd, by rw [nx_xor, nx_or, nx_or, nx_andn l1], by rw [nx_xor, nx_or, nx_or]⟩
  · rintro n ⟨x, y, hx, hy, rfl | rfl⟩ k hk
    · rw [hb k]; rw [hm k] at hk
      exact bl_j1 _ _ _ _ _ (memb d1 hx k) hk
    · rw [hb k]; rw [hm k] at hk
      exact bl_j2 _ _ _ _ _ (memb d2 hy k) hk
  · intro k hk
    rw [hm k, Bool.or_eq_true, Bool.or_eq_true] at hk
    rcases hk with (hk | hk) | hk
    · refine ⟨a1, a1 ||| b1, ⟨a1, a2, mem_a l1, mem_a l2, Or.inl rfl⟩, ⟨_, a2, mem_g l1 m1, mem_a l2, Or.inl rfl⟩, ?_⟩
      rw [Nat.testBit_or, hk, dj d1 hk]; decide
    · refine ⟨a2, a2 ||| b2, ⟨a1, a2, mem_a l1, mem_a l2, Or.inr rfl⟩, ⟨a1, _, mem_a l1, mem_g l2 m2, Or.inr rfl⟩, ?_⟩
      rw [Nat.testBit_or, hk, dj d2 hk]; decide
    · refine ⟨a1, a2, ⟨a1, a2, mem_a l1, mem_a l2, Or.inl rfl⟩, ⟨a1, a2, mem_a l1, mem_a l2, Or.inr rfl⟩, fun e => ?_⟩
      rw [e, Bool.xor_self] at hk; exact absurd hk (by decide)
/-- no conflict: the known bits agree -/
theorem conf_nx (l1 : a1 < 64) (l2 : a2 < 64) : kConf (nI a1) (nI b1) (nI a2) (nI b2) = nI ((a1 ^^^ a2) &&& (b1 ^^^ 63) &&& (b2 ^^^ 63)) := by
  unfold kConf
  rw [nx_xor, nx_andn (xor64 l1 l2), nx_andn (and64 (xor64 l1 l2) _)]
theorem conf_tb (l1 : a1 < 64) (l2 : a2 < 64) (k : Nat) : ((a1 ^^^ a2) &&& (b1 ^^^ 63) &&& (b2 ^^^ 63)).testBit k = ((a1.testBit k ^^ a2.testBit k) && !b1.testBit k && !b2.testBit k) := by
  rw [tb_andn (and64 (xor64 l1 l2) _), tb_andn (xor64 l1 l2), Nat.testBit_xor]
theorem conf_0 (l1 : a1 < 64) (l2 : a2 < 64) : kConf (nI a1) (nI b1) (nI a2) (nI b2) = 0 ↔ ∀ k, b1.testBit k = false → b2.testBit k = false → a1.testBit k = a2.testBit k := by
  rw [conf_nx l1 l2, ← nI_0, nI_eq (by have := and64 (and64 (xor64 l1 l2) (b1 ^^^ 63)) (b2 ^^^ 63); omega) (by decide)]
  constructor
  · intro h k h1 h2
    have e := conf_tb (b1 := b1) (b2 := b2) l1 l2 k
    rw [h, Nat.zero_testBit, h1, h2] at e
    revert e
    cases a1.testBit k <;> cases a2.testBit k <;> simp
  · intro h
    apply Nat.eq_of_testBit_eq
    intro k
    rw [conf_tb l1 l2, Nat.zero_testBit]
    cases h1 : b1.testBit k
    · cases h2 : b2.testBit k
      · rw [h k h1 h2, Bool.xor_self]; rfl
      · simp
    · simp
theorem meet_no (l1 : a1 < 64) (l2 : a2 < 64) (h : ¬ kConf (nI a1) (nI b1) (nI a2) (nI b2) = 0) (x : Nat) (hx : mem a1 b1 x) : ¬ mem a2 b2 x := by
  intro hy
  apply h
  rw [conf_0 l1 l2]
  intro k h1 h2
  rw [← hx.2 k h1, hy.2 k h2]
theorem bl_m1 : ∀ n a1 b1 a2 b2 : Bool, Lb n a1 b1 → Lb n a2 b2 → (b1 && b2) = false → n = (a1 || a2) := by decide
theorem bl_m2 : ∀ a1 b1 a2 b2 : Bool, ¬ (a2 = true ∧ b2 = true) → (b1 = false → b2 = false → a1 = a2) → b1 = false → (a1 || a2) = a1 := by decide
theorem bl_m3 : ∀ a1 b1 a2 b2 : Bool, ¬ (a2 = true ∧ b2 = true) → (b1 = false → b2 = false → a1 = a2) → b1 = false → ((a1 || a2) || (b1 && b2)) = a1 := by decide
theorem meet_a (l1 : a1 < 64) (l2 : a2 < 64) (d2 : a2 &&& b2 = 0) (h : ∀ k, b1.testBit k = false → b2.testBit k = false → a1.testBit k = a2.testBit k) : mem a1 b1 (a1 ||| a2) := by
  refine ⟨or64 l1 l2, fun k hk => ?_⟩
  rw [Nat.testBit_or]
  exact bl_m2 _ _ _ _ (pat d2 k) (h k) hk
theorem meet_g (l1 : a1 < 64) (m1 : b1 < 64) (l2 : a2 < 64) (d2 : a2 &&& b2 = 0) (h : ∀ k, b1.testBit k = false → b2.testBit k = false → a1.testBit k = a2.testBit k) : mem a1 b1 ((a1 ||| a2) ||| (b1 &&& b2)) := by
  refine ⟨or64 (or64 l1 l2) (and64 m1 _), fun k hk => ?_⟩
  rw [Nat.testBit_or, Nat.testBit_or, Nat.testBit_and]
  exact bl_m3 _ _ _ _ (pat d2 k) (h k) hk
theorem cm_meet (l1 : a1 < 64) (m1 : b1 < 64) (d1 : a1 &&& b1 = 0) (l2 : a2 < 64) (m2 : b2 < 64) (d2 : a2 &&& b2 = 0) (hc : kConf (nI a1) (nI b1) (nI a2) (nI b2) = 0) : cmOK (fun n => mem a1 b1 n ∧ mem a2 b2 n) (nI a1 ||| nI a2) (nI b1 &&& nI b2) := by
  have h := (conf_0 l1 l2).mp hc
  have h' : ∀ k, b2.testBit k = false → b1.testBit k = false → a2.testBit k = a1.testBit k := fun k p q => (h k q p).symm
  have p1 := meet_a l1 l2 d2 h
  have p2 : mem a2 b2 (a1 ||| a2) := by rw [Nat.or_comm]; exact meet_a l2 l1 d1 h'
  have q1 := meet_g l1 m1 l2 d2 h
  have q2 : mem a2 b2 ((a1 ||| a2) ||| (b1 &&& b2)) := by rw [Nat.or_comm a1 a2, Nat.and_comm]; exact meet_g l2 m2 l1 d1 h'
  have hd : (a1 ||| a2) &&& (b1 &&& b2) = 0 := by
    apply dj_of
    intro k hk
    rw [Nat.testBit_or, Bool.or_eq_true] at hk
    rw [Nat.testBit_and]
    rcases hk with hk | hk
    · rw [dj' d1 hk]; rfl
    · rw [dj' d2 hk]; simp
  refine ⟨⟨_, p1, p2⟩, a1 ||| a2, b1 &&& b2, or64 l1 l2, and64 m1 _, hd, best_of ⟨_, p1, p2⟩ ?_ ?_ hd, nx_or _ _, nx_and _ _⟩
  · rintro n ⟨hx, hy⟩ k hk
    rw [Nat.testBit_or]
    rw [Nat.testBit_and] at hk
    exact bl_m1 _ _ _ _ _ (memb d1 hx k) (memb d2 hy k) hk
  · intro k hk
    refine ⟨_, _, ⟨p1, p2⟩, ⟨q1, q2⟩, ?_⟩
    have e := dj hd hk
    rw [Nat.testBit_or (x := a1 ||| a2), hk, e]; decide
/-! the set of combine's loops -/
theorem sbO_cm {K : Int32} {R : Nat → Nat → Nat → Prop} (l1 : a1 < 64) (d1 : a1 &&& b1 = 0) (l2 : a2 < 64) (d2 : a2 &&& b2 = 0) (hR : ∀ x y n, x < 64 → y < 64 → (lb (kRes K (nI x) (nI y) (nI a2) (nI b2)) n = true ↔ R x y n)) (n : Nat) : sbO (cmQ K (nI a1) (nI b1) (nI a2) (nI b2)) 64 n ↔ ∃ x y, mem a1 b1 x ∧ mem a2 b2 y ∧ R x y n := by
  constructor
  · rintro ⟨x, hx, y, hy, h1, h2, h3⟩
    exact ⟨x, y, (kIn_iff l1 d1 hx).mp h1, (kIn_iff l2 d2 hy).mp h2, (hR x y n hx hy).mp h3⟩
  · rintro ⟨x, y, h1, h2, h3⟩
    exact ⟨x, h1.1, y, h2.1, (kIn_iff l1 d1 h1.1).mpr h1, (kIn_iff l2 d2 h2.1).mpr h2, (hR x y n h1.1 h2.1).mpr h3⟩
theorem k06 {k : Int32} (h0 : ¬ k < 0) (h6 : k ≤ 6) : k = 0 ∨ k = 1 ∨ k = 2 ∨ k = 3 ∨ k = 4 ∨ k = 5 ∨ k = 6 := by
  obtain ⟨j, hj, e⟩ := nI_of2 (x := k) (M := 6) (n := 6) (by decide +kernel) h0 h6
  subst e
  exact (by decide +kernel : ∀ j, j ≤ 6 → nI j = 0 ∨ nI j = 1 ∨ nI j = 2 ∨ nI j = 3 ∨ nI j = 4 ∨ nI j = 5 ∨ nI j = 6) j hj
theorem nI_sub63 (x y : Nat) (hy : y < 64) : (nI x - nI y) &&& 63 = nI ((x + 64 - y) % 64) := by
  obtain ⟨W, h64, hbig, hsub⟩ : ∃ W : Nat, W % 64 = 0 ∧ 128 ≤ W ∧ ∀ x y : Nat, y ≤ x + W → nI x - nI y = nI (x + W - y) := ⟨4294967296, by decide, by decide, nI_sub⟩
  rw [hsub x y (by omega), nx_63]
  congr 1
  omega
/-- combine, all kinds: the class's pattern is the least one of the reference's set -/
theorem cm_all {k : Int32} (h0 : ¬ k < 0) (h6 : k ≤ 6) (l1 : a1 < 64) (m1 : b1 < 64) (d1 : a1 &&& b1 = 0) (l2 : a2 < 64) (m2 : b2 < 64) (d2 : a2 &&& b2 = 0) :
    (k = 6 → ¬ kConf (nI a1) (nI b1) (nI a2) (nI b2) = 0 → ∀ n, ¬ sbO (cmQ k (nI a1) (nI b1) (nI a2) (nI b2)) 64 n) ∧ ((k = 6 → kConf (nI a1) (nI b1) (nI a2) (nI b2) = 0) → cmOK (sbO (cmQ k (nI a1) (nI b1) (nI a2) (nI b2)) 64) (kCmV k (nI a1) (nI b1) (nI a2) (nI b2)) (kCmM k (nI a1) (nI b1) (nI a2) (nI b2))) := by
  rcases k06 h0 h6 with rfl | rfl | rfl | rfl | rfl | rfl | rfl
  · refine ⟨fun h => absurd h (by decide), fun _ => ?_⟩
    refine cmOK_iff (cm_add l1 m1 d1 l2 m2 d2) (fun n => (sbO_cm (R := fun x y n => n = (x + y) % 64) l1 d1 l2 d2 (fun x y n hx hy => ?_) n).symm)
    rw [kRes, if_pos rfl, nI_add, nx_63, lb_bi (mod64 _)]
  · refine ⟨fun h => absurd h (by decide), fun _ => ?_⟩
    refine cmOK_iff (cm_sub l1 m1 d1 l2 m2 d2) (fun n => (sbO_cm (R := fun x y n => n = (x + 64 - y) % 64) l1 d1 l2 d2 (fun x y n hx hy => ?_) n).symm)
    rw [kRes, if_neg (by decide), if_pos rfl, nI_sub63 x y hy, lb_bi (mod64 _)]
  · refine ⟨fun h => absurd h (by decide), fun _ => ?_⟩
    refine cmOK_iff (cm_and l1 m1 d1 l2 m2 d2) (fun n => (sbO_cm (R := fun x y n => n = x &&& y) l1 d1 l2 d2 (fun x y n hx hy => ?_) n).symm)
    rw [kRes, if_neg (by decide), if_neg (by decide), if_pos rfl, nx_and, lb_bi (and64 hx _)]
  · refine ⟨fun h => absurd h (by decide), fun _ => ?_⟩
    refine cmOK_iff (cm_or l1 m1 d1 l2 m2 d2) (fun n => (sbO_cm (R := fun x y n => n = x ||| y) l1 d1 l2 d2 (fun x y n hx hy => ?_) n).symm)
    rw [kRes, if_neg (by decide), if_neg (by decide), if_neg (by decide), if_pos rfl, nx_or, lb_bi (or64 hx hy)]
  · refine ⟨fun h => absurd h (by decide), fun _ => ?_⟩
    refine cmOK_iff (cm_xor l1 m1 d1 l2 m2 d2) (fun n => (sbO_cm (R := fun x y n => n = x ^^^ y) l1 d1 l2 d2 (fun x y n hx hy => ?_) n).symm)
    rw [kRes, if_neg (by decide), if_neg (by decide), if_neg (by decide), if_neg (by decide), if_pos rfl, nx_xor, lb_bi (xor64 hx hy)]
  · refine ⟨fun h => absurd h (by decide), fun _ => ?_⟩
    refine cmOK_iff (cm_join l1 m1 d1 l2 m2 d2) (fun n => (sbO_cm (R := fun x y n => n = x ∨ n = y) l1 d1 l2 d2 (fun x y n hx hy => ?_) n).symm)
    rw [kRes, if_neg (by decide), if_neg (by decide), if_neg (by decide), if_neg (by decide), if_neg (by decide), if_pos rfl, lb_or, Bool.or_eq_true, lb_bi hx, lb_bi hy]
  · have hset : ∀ n, (∃ x y, mem a1 b1 x ∧ mem a2 b2 y ∧ (mem a2 b2 x ∧ n = x)) ↔ sbO (cmQ 6 (nI a1) (nI b1) (nI a2) (nI b2)) 64 n := by
      intro n
      refine (sbO_cm (R := fun x y n => mem a2 b2 x ∧ n = x) l1 d1 l2 d2 (fun x y n hx hy => ?_) n).symm
      rw [kRes, if_neg (by decide), if_neg (by decide), if_neg (by decide), if_neg (by decide), if_neg (by decide), if_neg (by decide)]
      by_cases q : kIn (nI a2) (nI b2) (nI x)
      · rw [if_pos q, lb_bi hx]
        exact ⟨fun e => ⟨(kIn_iff l2 d2 hx).mp q, e⟩, fun e => e.2⟩
      · rw [if_neg q, lb_0]
        exact ⟨fun e => absurd e (by decide), fun e => absurd ((kIn_iff l2 d2 hx).mpr e.1) q⟩
    refine ⟨fun _ hc n hn => ?_, fun hc => ?_⟩
    · obtain ⟨x, y, h1, h2, h3, -⟩ := (hset n).mpr hn
      exact meet_no l1 l2 hc x h1 h3
    · refine cmOK_iff (cm_meet l1 m1 d1 l2 m2 d2 (hc rfl)) (fun n => (Iff.trans ?_ (hset n)))
      constructor
      · rintro ⟨h1, h2⟩; exact ⟨n, a2, h1, mem_a l2, h2, rfl⟩
      · rintro ⟨x, y, h1, h2, h3, rfl⟩; exact ⟨h1, h3⟩
end CM
/-! ===== both ends of a writing call ===== -/
section FIN
variable {V M V1 M1 V2 M2 : kF} {r1 r2 a b c d : Int32}
theorem out_same (g : kGd V M) {x : Int32} (h1 : (r1, V1, M1) = (x, V, M)) (h2 : (r2, V2, M2) = (x, V, M)) : r1 = r2 ∧ V1 = V2 ∧ M1 = M2 ∧ kGd V1 M1 := by
  cases h1; cases h2; exact ⟨rfl, rfl, rfl, g⟩
theorem out_no (g : kGd V M) {A : Nat → Prop} {r : Int32} {s : Int64} (hs : sbI s A) (hn : ∀ n, ¬ A n) (h1 : (r1, V1, M1) = (-2, V, M)) (h2 : (r2, V2, M2) = kK V M r s) : r1 = r2 ∧ V1 = V2 ∧ M1 = M2 ∧ kGd V1 M1 := by
  rcases kK_spec (V := V) (M := M) (r := r) hs with ⟨-, e⟩ | ⟨⟨n, h⟩, -⟩
  · exact out_same g h1 (h2.trans e)
  · exact absurd h (hn n)
theorem out_yes (g : kGd V M) {A : Nat → Prop} {r v m : Int32} {s : Int64} (hs : sbI s A) (hk : cmOK A v m) (h1 : (r1, V1, M1) = (0, upd V r.toNatClampNeg v, upd M r.toNatClampNeg m)) (h2 : (r2, V2, M2) = kK V M r s) : r1 = r2 ∧ V1 = V2 ∧ M1 = M2 ∧ kGd V1 M1 := by
  obtain ⟨⟨n, hn⟩, a, b, la, lb_, hd, hb, rfl, rfl⟩ := hk
  rcases kK_spec (V := V) (M := M) (r := r) hs with ⟨h, -⟩ | ⟨-, c, d, lc, ld, hd2, hb2, e⟩
  · exact absurd hn (h n)
  · obtain ⟨e1, e2⟩ := best_uniq hb hb2
    subst e1; subst e2
    rw [e] at h2
    cases h1; cases h2
    exact ⟨rfl, rfl, rfl, kGd_upd g _ ⟨a, b, la, lb_, hd, rfl, rfl⟩⟩
theorem law_cm (g : kGd V M) (h1 : (r1, V1, M1) = kOpC V M a b c d) (h2 : mCm V M a b c d (r2, V2, M2)) : r1 = r2 ∧ V1 = V2 ∧ M1 = M2 ∧ kGd V1 M1 := by
  unfold kOpC at h1
  unfold mCm at h2
  by_cases q1 : kR a
  · rw [if_pos q1] at h1 h2
    by_cases q2 : kR c
    · rw [if_pos q2] at h1 h2
      by_cases q3 : kR d
      · rw [if_pos q3] at h1 h2
        by_cases q4 : b < 0
        · rw [if_pos q4] at h1 h2; exact out_same g h1 h2
        · rw [if_neg q4] at h1 h2
          by_cases q5 : b ≤ 6
          · rw [if_pos q5] at h1 h2
            obtain ⟨s, hs, ho⟩ := h2
            obtain ⟨a1, b1, l1, m1, d1, e1, e2⟩ := g c.toNatClampNeg
            obtain ⟨a2, b2, l2, m2, d2, e3, e4⟩ := g d.toNatClampNeg
            rw [e1, e2, e3, e4] at h1 hs
            obtain ⟨k1, k2⟩ := cm_all q4 q5 l1 m1 d1 l2 m2 d2
            by_cases q6 : b = 6
            · rw [if_pos q6] at h1
              by_cases q7 : kConf (nI a1) (nI b1) (nI a2) (nI b2) = 0
              · rw [if_pos q7] at h1; exact out_yes g hs (k2 (fun _ => q7)) h1 ho
              · rw [if_neg q7] at h1; exact out_no g hs (k1 q6 q7) h1 ho
            · rw [if_neg q6] at h1; exact out_yes g hs (k2 (fun e => absurd e q6)) h1 ho
          · rw [if_neg q5] at h1 h2; exact out_same g h1 h2
      · rw [if_neg q3] at h1 h2; exact out_same g h1 h2
    · rw [if_neg q2] at h1 h2; exact out_same g h1 h2
  · rw [if_neg q1] at h1 h2; exact out_same g h1 h2
theorem law_set (g : kGd V M) (h1 : (r1, V1, M1) = kOpSet V M a b c) (h2 : (r2, V2, M2) = kOpSet V M a b c) : r1 = r2 ∧ V1 = V2 ∧ M1 = M2 ∧ kGd V1 M1 := by
  have e := h1.trans h2.symm
  cases e
  refine ⟨rfl, rfl, rfl, ?_⟩
  unfold kOpSet at h1
  by_cases q : kR a
  · rw [if_pos q] at h1
    cases h1
    apply kGd_upd g
    obtain ⟨x, hx, e1⟩ := pk_andE b (m := 63) 6 (by decide +kernel)
    obtain ⟨y, hy, e2⟩ := pk_andE c (m := 63) 6 (by decide +kernel)
    rw [← m_and_not, e1, e2, nx_andn hx]
    refine ⟨x &&& (y ^^^ 63), y, and64 hx _, hy, ?_, rfl, rfl⟩
    apply dj_of
    intro k h
    rw [tb_andn hx] at h
    cases q : y.testBit k
    · rfl
    · rw [q] at h; simp at h
  · rw [if_neg q] at h1
    cases h1
    exact g
end FIN
end
section
/-! ===== shift ===== -/
theorem sh_best {a b : Nat} {F : Nat → Nat} {cf : Nat → Bool} {jf : Nat → Nat} (hF : ∀ x k, (F x).testBit k = (cf k && x.testBit (jf k))) (h64 : ∀ x, x < 64 → F x < 64) (la : a < 64) (lb_ : b < 64) (d : a &&& b = 0) : cmOK (fun n => ∃ x, mem a b x ∧ n = F x) (nI (F a)) (nI (F b)) := by
  have hd : F a &&& F b = 0 := by
    apply dj_of
    intro k h
    rw [hF, Bool.and_eq_true] at h
    rw [hF, dj' d h.2, Bool.and_false]
  refine ⟨⟨_, a, mem_a la, rfl⟩, F a, F b, h64 a la, h64 b lb_, hd, best_of ⟨_, a, mem_a la, rfl⟩ ?_ ?_ hd, rfl, rfl⟩
  · rintro n ⟨x, hx, rfl⟩ k hk
    rw [hF] at hk
    rw [hF, hF]
    cases hc : cf k
    · rfl
    · rw [hc, Bool.true_and] at hk
      rw [hx.2 _ hk]
  · intro k hk
    refine ⟨_, _, ⟨a, mem_a la, rfl⟩, ⟨_, mem_g la lb_, rfl⟩, ?_⟩
    rw [hF, Bool.and_eq_true] at hk
    rw [hF, hF, Nat.testBit_or, hk.1, hk.2, dj d hk.2]
    decide
theorem n13 {n : Int32} (h : ¬ n < (-6)) (h6 : n ≤ 6) : (∃ s, s ≤ 6 ∧ n = nI s) ∨ ∃ s, 1 ≤ s ∧ s ≤ 6 ∧ n = -nI s := by
  rw [Int32.lt_iff_toInt_lt, show (-6 : Int32).toInt = -6 by decide +kernel] at h
  rw [Int32.le_iff_toInt_le, show (6 : Int32).toInt = 6 by decide +kernel] at h6
  by_cases q : n.toInt < 0
  · refine Or.inr ⟨(-n.toInt).toNat, by omega, by omega, Int32.toInt_inj.mp ?_⟩
    rw [sb_negT (by omega)]
    omega
  · refine Or.inl ⟨n.toInt.toNat, by omega, Int32.toInt_inj.mp ?_⟩
    rw [nI_toInt (by omega)]
    omega
theorem p64 {s : Nat} (h : s ≤ 6) : 2 ^ s ≤ 64 := Nat.pow_le_pow_right (n := 2) (by decide) h
theorem kPw_nI {s : Nat} (h : s ≤ 6) : kPw (nI s) = 2 ^ s := by
  rw [kPw, nI_clamp (by omega), Nat.min_eq_left h]
theorem mul64 {x s : Nat} (hx : x < 64) (hs : s ≤ 6) : x * 2 ^ s < 4096 := by
  have h := Nat.mul_le_mul (Nat.le_of_lt_succ (show x < 63 + 1 from hx)) (p64 hs)
  omega
theorem shV_up {x s : Nat} (hx : x < 64) (hs : s ≤ 6) : kShV (nI x) (nI s) = nI (x * 2 ^ s % 64) := by
  have h := mul64 hx hs
  rw [kShV, if_neg (k_nn (by omega)), pk_shlN (nI s &&& 31) s (s_l s (by omega)) (by omega), nx_63]
theorem shR_up {x s : Nat} {dn : Int32} (hx : x < 64) (hs : s ≤ 6) : kShR (nI x) (nI s) (nI (kPw (nI s))) dn = nI (x * 2 ^ s % 64) := by
  have h := mul64 hx hs
  rw [kShR, if_neg (k_nn (by omega)), kPw_nI hs, pk_mul, show (64 : Int32) = nI 64 from rfl, pk_rem (by omega) (by decide) (by decide)]
theorem neg_lt0 {s : Nat} (h1 : 1 ≤ s) (hs : s ≤ 6) : -nI s < 0 := by
  rw [Int32.lt_iff_toInt_lt, sb_negT (by omega), Int32.toInt_zero]
  omega
theorem shV_dn {x s : Nat} (hx : x < 64) (h1 : 1 ≤ s) (hs : s ≤ 6) : kShV (nI x) (-nI s) = nI (x / 2 ^ s) := by
  rw [kShV, if_pos (neg_lt0 h1 hs), Int32.neg_neg, pk_shrN (by omega) (nI s &&& 31) s (s_l s (by omega))]
theorem shR_dn {x s : Nat} {up : Int32} (hx : x < 64) (h1 : 1 ≤ s) (hs : s ≤ 6) : kShR (nI x) (-nI s) up (nI (kPw (-(-nI s)))) = nI (x / 2 ^ s) := by
  have hp := p64 hs
  have h0 : 0 < 2 ^ s := Nat.two_pow_pos s
  rw [kShR, if_pos (neg_lt0 h1 hs), Int32.neg_neg, kPw_nI hs, if_neg (nI_nle h0 (by omega)), pk_div (by omega) h0 (by omega)]
theorem sbL_sh {a b : Nat} {n up dn : Int32} {F : Nat → Nat} (la : a < 64) (d : a &&& b = 0) (hF : ∀ x, x < 64 → F x < 64 ∧ kShR (nI x) n up dn = nI (F x)) (k : Nat) : sbL (shQ (nI a) (nI b) n up dn) 64 k ↔ ∃ x, mem a b x ∧ k = F x := by
  constructor
  · rintro ⟨x, hx, h1, h2⟩
    rw [(hF x hx).2, lb_bi (hF x hx).1] at h2
    exact ⟨x, (kIn_iff la d hx).mp h1, h2⟩
  · rintro ⟨x, h1, h2⟩
    refine ⟨x, h1.1, (kIn_iff la d h1.1).mpr h1, ?_⟩
    rw [(hF x h1.1).2, lb_bi (hF x h1.1).1]
    exact h2
theorem law_sh {V M V1 M1 V2 M2 : kF} {r1 r2 a b c : Int32} (g : kGd V M) (h1 : (r1, V1, M1) = kOpS V M a b c) (h2 : mSh V M a b c (r2, V2, M2)) : r1 = r2 ∧ V1 = V2 ∧ M1 = M2 ∧ kGd V1 M1 := by
  unfold kOpS at h1
  unfold mSh at h2
  by_cases q1 : kR a
  · rw [if_pos q1] at h1 h2
    by_cases q2 : kR b
    · rw [if_pos q2] at h1 h2
      by_cases q3 : c < (-6)
      · rw [if_pos q3] at h1 h2; exact out_same g h1 h2
      · rw [if_neg q3] at h1 h2
        by_cases q4 : c ≤ 6
        · rw [if_pos q4] at h1 h2
          obtain ⟨s, hs, ho⟩ := h2
          obtain ⟨a1, b1, l1, m1, d1, e1, e2⟩ := g b.toNatClampNeg
          rw [e1, e2] at h1 hs
          rcases n13 q3 q4 with ⟨t, ht, rfl⟩ | ⟨t, t1, ht, rfl⟩
          · rw [shV_up l1 ht, shV_up m1 ht] at h1
            refine out_yes g hs (cmOK_iff (sh_best (F := fun x => x * 2 ^ t % 64) (cf := fun k => decide (k < 6) && decide (t ≤ k)) (jf := fun k => k - t) (fun x k => ?_) (fun x _ => mod64 _) l1 m1 d1) (fun k => (sbL_sh l1 d1 (fun x hx => ⟨mod64 _, shR_up hx ht⟩) k).symm)) h1 ho
            rw [tb_mod6, Nat.testBit_mul_two_pow, Bool.and_assoc]
          · rw [shV_dn l1 t1 ht, shV_dn m1 t1 ht] at h1
            refine out_yes g hs (cmOK_iff (sh_best (F := fun x => x / 2 ^ t) (cf := fun _ => true) (jf := fun k => k + t) (fun x k => ?_) (fun x hx => Nat.lt_of_le_of_lt (Nat.div_le_self _ _) hx) l1 m1 d1) (fun k => (sbL_sh l1 d1 (fun x hx => ⟨Nat.lt_of_le_of_lt (Nat.div_le_self _ _) hx, shR_dn hx t1 ht⟩) k).symm)) h1 ho
            rw [Nat.testBit_div_two_pow, Bool.true_and]
        · rw [if_neg q4] at h1 h2; exact out_same g h1 h2
    · rw [if_neg q2] at h1 h2; exact out_same g h1 h2
  · rw [if_neg q1] at h1 h2; exact out_same g h1 h2
end
section
/-! ===== the least number from a limit on ===== -/
theorem lt_cl {n : Nat} {f : Int32} (hn : n < 64) : nI n < f ↔ n < f.toNatClampNeg := by
  rw [Int32.lt_iff_toInt_lt, nI_toInt (by omega), cl_toInt]
  omega
theorem le_cl {n : Nat} {f : Int32} (hn : n < 64) : f ≤ nI n ↔ f.toNatClampNeg ≤ n := by
  rw [← Int32.not_lt, lt_cl hn]
  omega
theorem nrB_nI {r : Nat} (h : r < 6) : nrB r = nI (2 ^ r) := by
  have e := pk_shlN (n := 1) (nI r &&& 31) r (s_l r (by omega)) (by have := p64 (s := r) (by omega); omega)
  rw [Nat.one_mul] at e
  exact e
def lfSN (a t p r : Nat) : Nat := if (a ||| (p &&& (2 ^ r ^^^ 63))) < t then p else p &&& (2 ^ r ^^^ 63)
def lfN (a t : Nat) : Nat → Nat → Nat
  | 0, p => p
  | r + 1, p => lfN a t r (lfSN a t p r)
theorem lfSN_lt {a t p r : Nat} (hp : p < 64) : lfSN a t p r < 64 := by
  unfold lfSN
  by_cases q : (a ||| (p &&& (2 ^ r ^^^ 63))) < t
  · rw [if_pos q]; exact hp
  · rw [if_neg q]; exact and64 hp _
theorem lfS_nI {a p r : Nat} {f : Int32} (ha : a < 64) (hp : p < 64) (hr : r < 6) : lfS (nI a) f (nI p) r = nI (lfSN a f.toNatClampNeg p r) := by
  have e : (1 : Int32) <<< (nI r &&& 31) = nI (2 ^ r) := nrB_nI hr
  unfold lfS lfSN
  rw [e, nx_andn hp, nx_or]
  by_cases q : (a ||| (p &&& (2 ^ r ^^^ 63))) < f.toNatClampNeg
  · rw [if_pos q, if_pos ((lt_cl (or64 ha (and64 hp _))).mpr q)]
  · rw [if_neg q, if_neg (fun z => q ((lt_cl (or64 ha (and64 hp _))).mp z))]
theorem lfF_nI {a : Nat} {f : Int32} (ha : a < 64) : ∀ r p, r ≤ 6 → p < 64 → lfF (nI a) f r (nI p) = nI (lfN a f.toNatClampNeg r p) := by
  intro r
  induction r with
  | zero => intro p _ _; rfl
  | succ r ih =>
    intro p hr hp
    rw [lfF, lfS_nI ha hp (by omega), ih _ (by omega) (lfSN_lt hp), lfN]
theorem dv (x r : Nat) : x / 2 ^ r = 2 * (x / 2 ^ (r + 1)) + (x.testBit r).toNat := by
  rw [Nat.toNat_testBit, Nat.pow_succ, ← Nat.div_div_eq_div_mul]
  omega
theorem lfN_spec {a b t : Nat} (la : a < 64) (d : a &&& b = 0) : ∀ r p, r ≤ 6 → p < 64 → (∀ k, p.testBit k = true → b.testBit k = true) → (∀ k, k < r → b.testBit k = true → p.testBit k = true) → t ≤ a ||| p → (∀ x, mem a b x → t ≤ x → (a ||| p) / 2 ^ r ≤ x / 2 ^ r) →
    lfN a t r p < 64 ∧ (∀ k, (lfN a t r p).testBit k = true → b.testBit k = true) ∧ t ≤ a ||| lfN a t r p ∧ ∀ x, mem a b x → t ≤ x → a ||| lfN a t r p ≤ x := by
  intro r
  induction r with
  | zero =>
    intro p _ hp h1 _ h3 h4
    refine ⟨hp, h1, h3, fun x hx ht => ?_⟩
    have h := h4 x hx ht
    rw [Nat.pow_zero, Nat.div_one, Nat.div_one] at h
    exact h
  | succ r ih =>
    intro p hr hp h1 h2 h3 h4
    have hp' : p &&& (2 ^ r ^^^ 63) < 64 := and64 hp _
    have tp : ∀ k, (p &&& (2 ^ r ^^^ 63)).testBit k = (p.testBit k && !decide (r = k)) := fun k => by
      rw [tb_andn hp, Nat.testBit_two_pow]
    have hpre : (a ||| (p &&& (2 ^ r ^^^ 63))) / 2 ^ (r + 1) = (a ||| p) / 2 ^ (r + 1) := by
      apply Nat.eq_of_testBit_eq
      intro k
      rw [Nat.testBit_div_two_pow, Nat.testBit_div_two_pow, Nat.testBit_or, Nat.testBit_or, tp, decide_eq_false (by omega)]
      simp
    have tr' : (a ||| (p &&& (2 ^ r ^^^ 63))).testBit r = a.testBit r := by
      rw [Nat.testBit_or, tp, decide_eq_true rfl]
      simp
    rw [lfN]
    by_cases q : (a ||| (p &&& (2 ^ r ^^^ 63))) < t
    · have e : lfSN a t p r = p := if_pos q
      rw [e]
      refine ih p (by omega) hp h1 (fun k hk => h2 k (by omega)) h3 (fun x hx ht => ?_)
      have h := h4 x hx ht
      rw [dv (a ||| p) r, dv x r]
      cases c1 : (a ||| p).testBit r
      · simp only [Bool.toNat_false]; omega
      · cases c2 : x.testBit r
        · simp only [Bool.toNat_false, Bool.toNat_true]
          rcases Nat.lt_or_ge ((a ||| p) / 2 ^ (r + 1)) (x / 2 ^ (r + 1)) with q2 | q2
          · omega
          · exfalso
            have hb : b.testBit r = true := by
              cases hb : b.testBit r
              · exfalso
                rw [Nat.testBit_or] at c1
                have e1 := hx.2 r hb
                have e2 : p.testBit r = false := by
                  cases e2 : p.testBit r
                  · rfl
                  · rw [h1 r e2] at hb; exact absurd hb (by decide)
                rw [e2, Bool.or_false, ← e1, c2] at c1
                exact absurd c1 (by decide)
              · rfl
            have e5 : x / 2 ^ r = (a ||| (p &&& (2 ^ r ^^^ 63))) / 2 ^ r := by
              rw [dv x r, dv (a ||| (p &&& (2 ^ r ^^^ 63))) r, c2, tr', dj d hb, hpre]
              omega
            have e6 : x % 2 ^ r ≤ (a ||| (p &&& (2 ^ r ^^^ 63))) % 2 ^ r := by
              apply Nat.le_of_testBit
              intro i
              rw [Nat.testBit_mod_two_pow, Nat.testBit_mod_two_pow, Bool.and_eq_true, Bool.and_eq_true, decide_eq_true_eq]
              rintro ⟨i1, i2⟩
              refine ⟨i1, ?_⟩
              rw [Nat.testBit_or, tp, decide_eq_false (by omega)]
              cases hbi : b.testBit i
              · rw [← hx.2 i hbi, i2]; rfl
              · rw [h2 i (by omega) hbi]; simp
            have e7 := Nat.div_add_mod x (2 ^ r)
            have e8 := Nat.div_add_mod (a ||| (p &&& (2 ^ r ^^^ 63))) (2 ^ r)
            rw [e5] at e7
            omega
        · simp only [Bool.toNat_true]; omega
    · have e : lfSN a t p r = p &&& (2 ^ r ^^^ 63) := if_neg q
      rw [e]
      refine ih _ (by omega) hp' (fun k hk => ?_) (fun k hk hb => ?_) (by omega) (fun x hx ht => ?_)
      · rw [tp, Bool.and_eq_true] at hk; exact h1 k hk.1
      · rw [tp, h2 k (by omega) hb, decide_eq_false (by omega)]; rfl
      · have h := h4 x hx ht
        rw [dv (a ||| (p &&& (2 ^ r ^^^ 63))) r, dv x r, tr', hpre]
        cases ca : a.testBit r
        · simp only [Bool.toNat_false]; omega
        · rw [hx.2 r (dj' d ca), ca]; omega
theorem mem_le {a b x : Nat} (h : mem a b x) : x ≤ a ||| b := by
  apply Nat.le_of_testBit
  intro i hi
  rw [Nat.testBit_or]
  cases hb : b.testBit i
  · rw [← h.2 i hb, hi]; rfl
  · exact Bool.or_true _
theorem mem_ge {a b x : Nat} (d : a &&& b = 0) (h : mem a b x) : a ≤ x := by
  apply Nat.le_of_testBit
  intro i hi
  rw [h.2 i (dj' d hi)]
  exact hi
theorem lf_ok {a b : Nat} (la : a < 64) (lb_ : b < 64) (d : a &&& b = 0) (f : Int32) : lsP (nI a) (nI b) f (kLf (nI a) (nI b) f) := by
  have hg := or64 la lb_
  unfold kLf
  rw [nx_or]
  by_cases q : f ≤ nI (a ||| b)
  · rw [if_pos q, lfF_nI la 6 b (Nat.le_refl 6) lb_, nx_or]
    rw [le_cl hg] at q
    obtain ⟨h1, h2, h3, h4⟩ := lfN_spec (t := f.toNatClampNeg) la d 6 b (Nat.le_refl 6) lb_ (fun _ h => h) (fun _ _ h => h) q (fun x hx _ => by
      rw [Nat.div_eq_of_lt (show a ||| b < 2 ^ 6 from hg)]; exact Nat.zero_le _)
    have hn : a ||| lfN a f.toNatClampNeg 6 b < 64 := or64 la h1
    have hm : mem a b (a ||| lfN a f.toNatClampNeg 6 b) := by
      refine ⟨hn, fun k hk => ?_⟩
      rw [Nat.testBit_or]
      cases c : (lfN a f.toNatClampNeg 6 b).testBit k
      · exact Bool.or_false _
      · rw [h2 k c] at hk; exact absurd hk (by decide)
    refine Or.inl ⟨_, hn, rfl, ?_, (kIn_iff la d hn).mpr hm, fun j hj => ?_⟩
    · rw [lt_cl hn]; omega
    · by_cases c : nI j < f
      · exact Or.inl c
      · refine Or.inr (fun z => ?_)
        rw [lt_cl (by omega)] at c
        have := h4 j ((kIn_iff la d (by omega)).mp z) (by omega)
        omega
  · rw [if_neg q]
    rw [le_cl hg] at q
    refine Or.inr ⟨rfl, fun j hj => ?_⟩
    by_cases c : nI j < f
    · exact Or.inl c
    · refine Or.inr (fun z => ?_)
      rw [lt_cl hj] at c
      have := mem_le ((kIn_iff la d hj).mp z)
      omega
theorem lsP_uniq {v m f r r' : Int32} (h : lsP v m f r) (h' : lsP v m f r') : r = r' := by
  rcases h with ⟨n, hn, rfl, h1, h2, h3⟩ | ⟨rfl, h1⟩
  · rcases h' with ⟨k, hk, rfl, k1, k2, k3⟩ | ⟨rfl, k1⟩
    · rcases Nat.lt_trichotomy n k with q | q | q
      · rcases k3 n q with z | z
        · exact absurd z h1
        · exact absurd h2 z
      · rw [q]
      · rcases h3 k q with z | z
        · exact absurd z k1
        · exact absurd k2 z
    · rcases k1 n hn with z | z
      · exact absurd z h1
      · exact absurd h2 z
  · rcases h' with ⟨k, hk, rfl, k1, k2, k3⟩ | ⟨rfl, k1⟩
    · rcases h1 k hk with z | z
      · exact absurd z k1
      · exact absurd k2 z
    · rfl
theorem law_ls {V M : kF} {r1 r2 a b : Int32} (g : kGd V M) (h1 : r1 = kOpL V M a b) (h2 : if kR a then lsP (V a.toNatClampNeg) (M a.toNatClampNeg) b r2 else r2 = -1) : r1 = r2 := by
  unfold kOpL at h1
  by_cases q : kR a
  · rw [if_pos q] at h1 h2
    obtain ⟨x, y, lx, ly, d, e1, e2⟩ := g a.toNatClampNeg
    rw [e1, e2] at h1 h2
    rw [h1]
    exact lsP_uniq (lf_ok lx ly d b) h2
  · rw [if_neg q] at h1 h2
    rw [h1, h2]
end
section
/-! ===== narrow ===== -/
/-- x lies in the range -/
def inR (f h : Int32) (x : Nat) : Prop := ¬ nI x < f ∧ ¬ h < nI x
theorem i63 : (63 : Int32).toInt = 63 := by decide +kernel
theorem i64 : (64 : Int32).toInt = 64 := by decide +kernel
section NR
variable {a b : Nat} {f h : Int32}
theorem nrZ_iff (la : a < 64) (lb_ : b < 64) (d : a &&& b = 0) : (¬ nrZ (kLf (nI a) (nI b) f) h = 0) ↔ ∃ x, mem a b x ∧ inR f h x := by
  rcases lf_ok la lb_ d f with ⟨n, hn, e, h1, h2, h3⟩ | ⟨e, h1⟩
  · rw [e, nrZ, if_neg (k64 hn)]
    by_cases q : h < nI n
    · rw [if_pos q]
      refine ⟨fun z => absurd rfl z, ?_⟩
      rintro ⟨x, hx, r1, r2⟩
      exfalso
      have hxn : n ≤ x := by
        rcases Nat.lt_or_ge x n with c | c
        · rcases h3 x c with z | z
          · exact absurd z r1
          · exact absurd ((kIn_iff la d hx.1).mpr hx) z
        · exact c
      have := hx.1
      apply r2
      rw [Int32.lt_iff_toInt_lt, nI_toInt (by omega)] at q ⊢
      omega
    · rw [if_neg q]
      exact ⟨fun _ => ⟨n, (kIn_iff la d hn).mp h2, h1, q⟩, fun _ => by decide⟩
  · rw [e, nrZ, if_pos (by decide)]
    refine ⟨fun z => absurd rfl z, ?_⟩
    rintro ⟨x, hx, r1, r2⟩
    rcases h1 x hx.1 with z | z
    · exact absurd z r1
    · exact absurd ((kIn_iff la d hx.1).mpr hx) z
theorem tb_less {k j : Nat} (lb_ : b < 64) : (b &&& (2 ^ k ^^^ 63)).testBit j = (b.testBit j && !decide (k = j)) := by
  rw [tb_andn lb_, Nat.testBit_two_pow]
theorem p2_64 {k : Nat} (hk : k < 6) : 2 ^ k < 64 := Nat.pow_lt_pow_right (a := 2) (by decide) hk
theorem mem_less0 {k x : Nat} (lb_ : b < 64) (d : a &&& b = 0) (hb : b.testBit k = true) : mem a (b &&& (2 ^ k ^^^ 63)) x ↔ mem a b x ∧ x.testBit k = false := by
  constructor
  · intro hx
    refine ⟨⟨hx.1, fun j hj => hx.2 j ?_⟩, ?_⟩
    · rw [tb_less lb_, hj]; rfl
    · rw [hx.2 k (by rw [tb_less lb_, decide_eq_true rfl]; simp)]
      exact dj d hb
  · rintro ⟨hx, hk⟩
    refine ⟨hx.1, fun j hj => ?_⟩
    by_cases e : k = j
    · subst e
      rw [hk, dj d hb]
    · rw [tb_less lb_, decide_eq_false e] at hj
      exact hx.2 j (by simpa using hj)
theorem mem_less1 {k x : Nat} (lb_ : b < 64) (d : a &&& b = 0) (hb : b.testBit k = true) : mem (a ||| 2 ^ k) (b &&& (2 ^ k ^^^ 63)) x ↔ mem a b x ∧ x.testBit k = true := by
  constructor
  · intro hx
    refine ⟨⟨hx.1, fun j hj => ?_⟩, ?_⟩
    · have hne : ¬ k = j := fun e => by rw [← e, hb] at hj; exact absurd hj (by decide)
      rw [hx.2 j (by rw [tb_less lb_, hj]; rfl), Nat.testBit_or, Nat.testBit_two_pow, decide_eq_false hne, Bool.or_false]
    · rw [hx.2 k (by rw [tb_less lb_, decide_eq_true rfl]; simp), Nat.testBit_or, Nat.testBit_two_pow, decide_eq_true rfl, Bool.or_true]
  · rintro ⟨hx, hk⟩
    refine ⟨hx.1, fun j hj => ?_⟩
    rw [Nat.testBit_or, Nat.testBit_two_pow]
    by_cases e : k = j
    · subst e
      rw [hk, decide_eq_true rfl, Bool.or_true]
    · rw [tb_less lb_, decide_eq_false e] at hj
      rw [hx.2 j (by simpa using hj), decide_eq_false e, Bool.or_false]
/-- the range has a number of the pattern with the bit k so -/
def Zb (a b : Nat) (f h : Int32) (k : Nat) (v : Bool) : Prop := ∃ x, mem a b x ∧ inR f h x ∧ x.testBit k = v
theorem nrZ0_iff {k : Nat} (la : a < 64) (lb_ : b < 64) (d : a &&& b = 0) (hb : b.testBit k = true) : (¬ nrZ0 (nI a) (nI b) f h k = 0) ↔ Zb a b f h k false := by
  have hk := tb_k6 lb_ hb
  have d' : a &&& (b &&& (2 ^ k ^^^ 63)) = 0 := by
    apply dj_of
    intro j hj
    rw [tb_less lb_, dj' d hj]; rfl
  rw [nrZ0, nrB_nI hk, nx_andn lb_, nrZ_iff la (and64 lb_ _) d']
  constructor
  · rintro ⟨x, hx, hr⟩
    obtain ⟨h1, h2⟩ := (mem_less0 lb_ d hb).mp hx
    exact ⟨x, h1, hr, h2⟩
  · rintro ⟨x, h1, hr, h2⟩
    exact ⟨x, (mem_less0 lb_ d hb).mpr ⟨h1, h2⟩, hr⟩
theorem nrZ1_iff {k : Nat} (la : a < 64) (lb_ : b < 64) (d : a &&& b = 0) (hb : b.testBit k = true) : (¬ nrZ1 (nI a) (nI b) f h k = 0) ↔ Zb a b f h k true := by
  have hk := tb_k6 lb_ hb
  have d' : (a ||| 2 ^ k) &&& (b &&& (2 ^ k ^^^ 63)) = 0 := by
    apply dj_of
    intro j hj
    rw [Nat.testBit_or, Nat.testBit_two_pow, Bool.or_eq_true, decide_eq_true_eq] at hj
    rw [tb_less lb_]
    rcases hj with hj | hj
    · rw [dj' d hj]; rfl
    · rw [decide_eq_true hj]; simp
  rw [nrZ1, nrB_nI hk, nx_andn lb_, nx_or, nrZ_iff (or64 la (p2_64 hk)) (and64 lb_ _) d']
  constructor
  · rintro ⟨x, hx, hr⟩
    obtain ⟨h1, h2⟩ := (mem_less1 lb_ d hb).mp hx
    exact ⟨x, h1, hr, h2⟩
  · rintro ⟨x, h1, hr, h2⟩
    exact ⟨x, (mem_less1 lb_ d hb).mpr ⟨h1, h2⟩, hr⟩
theorem bit_0 {k : Nat} (lb_ : b < 64) (hk : k < 6) : nI b &&& nrB k = 0 ↔ b.testBit k = false := by
  rw [nrB_nI hk, nx_and, ← nI_0, nI_eq (by have := and64 lb_ (2 ^ k); omega) (by decide)]
  constructor
  · intro e
    have e2 : (b &&& 2 ^ k).testBit k = false := by rw [e, Nat.zero_testBit]
    rw [Nat.testBit_and, Nat.testBit_two_pow, decide_eq_true rfl, Bool.and_true] at e2
    exact e2
  · intro e
    apply dj_of
    intro j hj
    rw [Nat.testBit_two_pow]
    exact decide_eq_false (fun z => by rw [← z, e] at hj; exact absurd hj (by decide))
theorem nrL_spec (la : a < 64) (lb_ : b < 64) (d : a &&& b = 0) : ∀ r, r ≤ 6 → ∃ a' b', a' < 64 ∧ b' < 64 ∧ nrL (nI a) (nI b) f h r = (nI a', nI b') ∧ (∀ k, k < r → (b'.testBit k = true ↔ (b.testBit k = true ∧ Zb a b f h k false ∧ Zb a b f h k true)) ∧ (a'.testBit k = true ↔ (a.testBit k = true ∨ (b.testBit k = true ∧ Zb a b f h k true ∧ ¬ Zb a b f h k false)))) ∧ ∀ k, r ≤ k → b'.testBit k = b.testBit k ∧ a'.testBit k = a.testBit k := by
  intro r
  induction r with
  | zero => intro _; exact ⟨a, b, la, lb_, rfl, fun k hk => absurd hk (Nat.not_lt_zero k), fun _ _ => ⟨rfl, rfl⟩⟩
  | succ r ih =>
    intro hr
    obtain ⟨a', b', la', lb', e, h1, h2⟩ := ih (by omega)
    have hk6 : r < 6 := by omega
    by_cases hb : b.testBit r = true
    · have hc : ¬ nI b &&& nrB r = 0 := fun z => by rw [bit_0 lb_ hk6, hb] at z; exact absurd z (by decide)
      have z0 := nrZ0_iff (f := f) (h := h) la lb_ d hb
      have z1 := nrZ1_iff (f := f) (h := h) la lb_ d hb
      have ar := dj d hb
      rw [nrL_1 hc, e, nrB_nI hk6]
      have ltp := p2_64 hk6
      have tless : ∀ k, (b' &&& (2 ^ r ^^^ 63)).testBit k = (b'.testBit k && !decide (r = k)) := fun k => tb_less lb'
      have tmore : ∀ k, (a' ||| 2 ^ r).testBit k = (a'.testBit k || decide (r = k)) := fun k => by rw [Nat.testBit_or, Nat.testBit_two_pow]
      by_cases c0 : nrZ0 (nI a) (nI b) f h r = 0
      · have n0 : ¬ Zb a b f h r false := fun z => (z0.mpr z) c0
        by_cases c1 : nrZ1 (nI a) (nI b) f h r = 0
        · have n1 : ¬ Zb a b f h r true := fun z => (z1.mpr z) c1
          refine ⟨a', b' &&& (2 ^ r ^^^ 63), la', and64 lb' _, by rw [nrV, if_pos c1, nrM, if_pos c0, nx_andn lb'], fun k hk => ?_, fun k hk => ?_⟩
          · by_cases ek : r = k
            · subst ek
              rw [tless, decide_eq_true rfl, (h2 r (Nat.le_refl r)).2, ar]
              refine ⟨⟨fun z => by simp at z, fun z => absurd z.2.1 n0⟩, ⟨fun z => absurd z (by decide), ?_⟩⟩
              rintro (z | z)
              · exact absurd z (by decide)
              · exact absurd z.2.1 n1
            · rw [tless, decide_eq_false ek]
              simpa using h1 k (by omega)
          · rw [tless, decide_eq_false (by omega)]
            simpa using h2 k (by omega)
        · have p1 := z1.mp c1
          refine ⟨a' ||| 2 ^ r, b' &&& (2 ^ r ^^^ 63), or64 la' ltp, and64 lb' _, by rw [nrV, if_neg c1, if_pos c0, nrM, if_pos c0, nx_andn lb', nx_or], fun k hk => ?_, fun k hk => ?_⟩
          · by_cases ek : r = k
            · subst ek
              rw [tless, tmore, decide_eq_true rfl, Bool.or_true]
              exact ⟨⟨fun z => by simp at z, fun z => absurd z.2.1 n0⟩, ⟨fun _ => Or.inr ⟨hb, p1, n0⟩, fun _ => rfl⟩⟩
            · rw [tless, tmore, decide_eq_false ek]
              simpa using h1 k (by omega)
          · rw [tless, tmore, decide_eq_false (by omega)]
            simpa using h2 k (by omega)
      · have p0 := z0.mp c0
        by_cases c1 : nrZ1 (nI a) (nI b) f h r = 0
        · have n1 : ¬ Zb a b f h r true := fun z => (z1.mpr z) c1
          refine ⟨a', b' &&& (2 ^ r ^^^ 63), la', and64 lb' _, by rw [nrV, if_pos c1, nrM, if_neg c0, if_pos c1, nx_andn lb'], fun k hk => ?_, fun k hk => ?_⟩
          · by_cases ek : r = k
            · subst ek
              rw [tless, decide_eq_true rfl, (h2 r (Nat.le_refl r)).2, ar]
              refine ⟨⟨fun z => by simp at z, fun z => absurd z.2.2 n1⟩, ⟨fun z => absurd z (by decide), ?_⟩⟩
              rintro (z | z)
              · exact absurd z (by decide)
              · exact absurd z.2.1 n1
            · rw [tless, decide_eq_false ek]
              simpa using h1 k (by omega)
          · rw [tless, decide_eq_false (by omega)]
            simpa using h2 k (by omega)
        · have p1 := z1.mp c1
          refine ⟨a', b', la', lb', by rw [nrV, if_neg c1, if_neg c0, nrM, if_neg c0, if_neg c1], fun k hk => ?_, fun k hk => h2 k (by omega)⟩
          by_cases ek : r = k
          · subst ek
            rw [(h2 r (Nat.le_refl r)).1, (h2 r (Nat.le_refl r)).2, hb, ar]
            refine ⟨⟨fun _ => ⟨rfl, p0, p1⟩, fun _ => rfl⟩, ⟨fun z => absurd z (by decide), ?_⟩⟩
            rintro (z | z)
            · exact absurd z (by decide)
            · exact absurd p0 z.2.2
          · exact h1 k (by omega)
    · have hb' : b.testBit r = false := by cases c : b.testBit r <;> simp_all
      refine ⟨a', b', la', lb', by rw [nrL_0 ((bit_0 lb_ hk6).mpr hb')]; exact e, fun k hk => ?_, fun k hk => h2 k (by omega)⟩
      by_cases ek : r = k
      · subst ek
        rw [(h2 r (Nat.le_refl r)).1, (h2 r (Nat.le_refl r)).2, hb']
        refine ⟨⟨fun z => absurd z (by decide), fun z => absurd z.1 (by decide)⟩, ⟨Or.inl, ?_⟩⟩
        rintro (z | z)
        · exact z
        · exact absurd z.1 (by decide)
      · exact h1 k (by omega)
theorem nar_best (la : a < 64) (lb_ : b < 64) (d : a &&& b = 0) (hne : ∃ x, mem a b x ∧ inR f h x) : cmOK (fun x => mem a b x ∧ inR f h x) (nrL (nI a) (nI b) f h 6).1 (nrL (nI a) (nI b) f h 6).2 := by
  obtain ⟨a', b', la', lb', e, h1, h2⟩ := nrL_spec (f := f) (h := h) la lb_ d 6 (Nat.le_refl 6)
  rw [e]
  have hd : a' &&& b' = 0 := by
    apply dj_of
    intro k hk
    have k6 := tb_k6 la' hk
    obtain ⟨q1, q2⟩ := h1 k k6
    cases c : b'.testBit k
    · rfl
    · exfalso
      obtain ⟨p1, p2, p3⟩ := q1.mp c
      rcases q2.mp hk with z | z
      · rw [dj d p1] at z; exact absurd z (by decide)
      · exact z.2.2 p2
  refine ⟨hne, a', b', la', lb', hd, best_of hne ?_ ?_ hd, rfl, rfl⟩
  · rintro x ⟨hx, hr⟩ k hk
    rcases Nat.lt_or_ge k 6 with k6 | k6
    · obtain ⟨q1, q2⟩ := h1 k k6
      cases hb : b.testBit k
      · rw [hx.2 k hb, Bool.eq_iff_iff, q2]
        refine ⟨Or.inl, ?_⟩
        rintro (z | z)
        · exact z
        · rw [hb] at z; exact absurd z.1 (by decide)
      · cases hxk : x.testBit k
        · cases c : a'.testBit k
          · rfl
          · exfalso
            rcases q2.mp c with z | z
            · rw [dj d hb] at z; exact absurd z (by decide)
            · exact z.2.2 ⟨x, hx, hr, hxk⟩
        · symm
          refine q2.mpr (Or.inr ⟨hb, ⟨x, hx, hr, hxk⟩, fun z => ?_⟩)
          rw [q1.mpr ⟨hb, z, ⟨x, hx, hr, hxk⟩⟩] at hk
          exact absurd hk (by decide)
    · rw [tb6 hx.1 k6, tb6 la' k6]
  · intro k hk
    obtain ⟨p1, ⟨x, x1, x2, x3⟩, ⟨y, y1, y2, y3⟩⟩ := (h1 k (tb_k6 lb' hk)).1.mp hk
    exact ⟨x, y, ⟨x1, x2⟩, ⟨y1, y2⟩, by rw [x3, y3]; decide⟩
end NR
theorem nrF_in {lo hi : Int32} {x : Nat} (hx : x < 64) : inR (nrF lo) hi x ↔ inR lo hi x := by
  unfold inR nrF
  by_cases q : 0 ≤ lo
  · rw [if_pos q]
  · rw [if_neg q]
    refine and_congr_left (fun _ => ⟨fun _ z => ?_, fun _ => k_nn hx⟩)
    rw [Int32.le_iff_toInt_le, Int32.toInt_zero] at q
    rw [Int32.lt_iff_toInt_lt, nI_toInt (by omega)] at z
    omega
theorem nrC_iff {a b : Nat} {lo hi : Int32} (la : a < 64) (lb_ : b < 64) (d : a &&& b = 0) : nrC (nI a) (nI b) lo hi ↔ ∃ x, mem a b x ∧ inR lo hi x := by
  unfold nrC
  rcases lf_ok la lb_ d (nrF lo) with ⟨n, hn, e, h1, h2, h3⟩ | ⟨e, h1⟩
  · have key : nI n ≤ nrH hi ↔ ¬ hi < nI n := by
      unfold nrH
      by_cases q : hi ≤ 63
      · rw [if_pos q, Int32.not_lt]
      · rw [if_neg q]
        rw [Int32.le_iff_toInt_le, i63] at q
        rw [Int32.le_iff_toInt_le, Int32.lt_iff_toInt_lt, nI_toInt (by omega), i63]
        omega
    rw [e, key]
    constructor
    · intro q
      exact ⟨n, (kIn_iff la d hn).mp h2, (nrF_in hn).mp ⟨h1, q⟩⟩
    · rintro ⟨x, hx, hr⟩ q
      obtain ⟨r1, r2⟩ := (nrF_in hx.1).mpr hr
      have hxn : n ≤ x := by
        rcases Nat.lt_or_ge x n with c | c
        · rcases h3 x c with z | z
          · exact absurd z r1
          · exact absurd ((kIn_iff la d hx.1).mpr hx) z
        · exact c
      have := hx.1
      apply r2
      rw [Int32.lt_iff_toInt_lt, nI_toInt (by omega)] at q ⊢
      omega
  · rw [e]
    constructor
    · intro q
      exfalso
      unfold nrH at q
      by_cases c : hi ≤ 63
      · rw [if_pos c] at q
        rw [Int32.le_iff_toInt_le, i63] at c
        rw [Int32.le_iff_toInt_le, i64] at q
        omega
      · rw [if_neg c] at q
        exact absurd q (by decide)
    · rintro ⟨x, hx, hr⟩
      obtain ⟨r1, r2⟩ := (nrF_in hx.1).mpr hr
      rcases h1 x hx.1 with z | z
      · exact absurd z r1
      · exact absurd ((kIn_iff la d hx.1).mpr hx) z
/-- narrowed, by the numbers in the range -/
theorem nar_ok {a b : Nat} {lo hi : Int32} (la : a < 64) (lb_ : b < 64) (d : a &&& b = 0) (hc : nrC (nI a) (nI b) lo hi) : cmOK (fun x => mem a b x ∧ inR lo hi x) (nrL (nI a) (nI b) (nrF lo) hi 6).1 (nrL (nI a) (nI b) (nrF lo) hi 6).2 := by
  obtain ⟨x, hx, hr⟩ := (nrC_iff la lb_ d).mp hc
  exact cmOK_iff (nar_best la lb_ d ⟨x, hx, (nrF_in hx.1).mpr hr⟩) (fun y => and_congr_right (fun hy => nrF_in hy.1))
theorem sbL_nw {a b : Nat} {lo hi : Int32} (la : a < 64) (d : a &&& b = 0) (k : Nat) : sbL (nwQ (nI a) (nI b) lo hi) 64 k ↔ mem a b k ∧ inR lo hi k := by
  constructor
  · rintro ⟨x, hx, h1, h2, h3⟩
    rw [lb_bi hx] at h3
    subst h3
    exact ⟨(kIn_iff la d hx).mp h1, h2⟩
  · rintro ⟨h1, h2⟩
    exact ⟨k, h1.1, (kIn_iff la d h1.1).mpr h1, h2, (lb_bi h1.1).mpr rfl⟩
theorem law_nw {V M V1 M1 V2 M2 : kF} {r1 r2 a b c : Int32} (g : kGd V M) (h1 : (r1, V1, M1) = kOpN V M a b c) (h2 : mNw V M a b c (r2, V2, M2)) : r1 = r2 ∧ V1 = V2 ∧ M1 = M2 ∧ kGd V1 M1 := by
  unfold kOpN at h1
  unfold mNw at h2
  by_cases q1 : kR a
  · rw [if_pos q1] at h1 h2
    obtain ⟨s, hs, ho⟩ := h2
    obtain ⟨x, y, lx, ly, d, e1, e2⟩ := g a.toNatClampNeg
    rw [e1, e2] at h1 hs
    by_cases q2 : nrC (nI x) (nI y) b c
    · rw [if_pos q2] at h1
      exact out_yes g hs (cmOK_iff (nar_ok lx ly d q2) (fun k => (sbL_nw lx d k).symm)) h1 ho
    · rw [if_neg q2] at h1
      exact out_no g hs (fun n z => q2 ((nrC_iff lx ly d).mpr ⟨n, (sbL_nw lx d n).mp z⟩)) h1 ho
  · rw [if_neg q1] at h1 h2; exact out_same g h1 h2
end
section
/-! ===== suppose ===== -/
theorem upd_same (f : kF) (i : Nat) : upd f i (f i) = f := by
  funext j
  unfold upd
  by_cases e : j = i
  · rw [if_pos e, e]
  · rw [if_neg e]
theorem upd_swap (f : kF) {i j : Nat} (h : i ≠ j) (x y : Int32) : upd (upd f i x) j y = upd (upd f j y) i x := by
  funext k
  unfold upd
  by_cases e : k = i
  · have e2 : ¬ k = j := fun z => h (e.symm.trans z)
    rw [if_neg e2, if_pos e, if_pos e]
  · by_cases e2 : k = j
    · rw [if_pos e2, if_neg e, if_pos e2]
    · rw [if_neg e2, if_neg e, if_neg e, if_neg e2]
section O2
variable {V M V1 M1 V2 M2 V' M' : kF} {r1 r2 r' a c : Int32} {L R : Nat → Prop} {s1 s2 : Int64}
theorem out2_yes (g : kGd V M) {v1 m1 v2 m2 : Int32} (hs1 : sbI s1 L) (hs2 : sbI s2 R) (hk1 : cmOK L v1 m1) (hk2 : cmOK R v2 m2) (k1 : (r', V', M') = kK V M a s1) (h2 : (r2, V2, M2) = kK V' M' c s2) (h1 : (r1, V1, M1) = (0, upd (upd V a.toNatClampNeg v1) c.toNatClampNeg v2, upd (upd M a.toNatClampNeg m1) c.toNatClampNeg m2)) : r1 = r2 ∧ V1 = V2 ∧ M1 = M2 ∧ kGd V1 M1 := by
  obtain ⟨-, e1, e2, g'⟩ := out_yes (V1 := upd V a.toNatClampNeg v1) (M1 := upd M a.toNatClampNeg m1) (r1 := 0) g hs1 hk1 rfl k1
  subst e1; subst e2
  exact out_yes g' hs2 hk2 h1 h2
theorem out2_no (g : kGd V M) (hs1 : sbI s1 L) (hs2 : sbI s2 R) (hL : ∀ n, ¬ L n) (hR : ∀ n, ¬ R n) (k1 : (r', V', M') = kK V M a s1) (h2 : (r2, V2, M2) = kK V' M' c s2) (h1 : (r1, V1, M1) = (-2, V, M)) : r1 = r2 ∧ V1 = V2 ∧ M1 = M2 ∧ kGd V1 M1 := by
  obtain ⟨-, e1, e2, -⟩ := out_no (V1 := V) (M1 := M) (r1 := -2) g hs1 hL rfl k1
  subst e1; subst e2
  exact out_no g hs2 hR h1 h2
end O2
theorem cm_self {a b : Nat} (la : a < 64) (lb_ : b < 64) (d : a &&& b = 0) : cmOK (mem a b) (nI a) (nI b) := by
  refine ⟨⟨a, mem_a la⟩, a, b, la, lb_, d, best_of ⟨a, mem_a la⟩ (fun x hx k hk => hx.2 k hk) (fun k hk => ?_) d, rfl, rfl⟩
  refine ⟨a, a ||| b, mem_a la, mem_g la lb_, ?_⟩
  rw [Nat.testBit_or, hk, dj d hk]; decide
theorem mem_0 {a x : Nat} (la : a < 64) : mem a 0 x ↔ x = a := by
  constructor
  · intro h
    apply Nat.eq_of_testBit_eq
    intro k
    exact h.2 k (Nat.zero_testBit k)
  · rintro rfl; exact mem_a la
theorem cm_one {n : Nat} (ln : n < 64) : cmOK (fun x => x = n) (nI n) 0 := cmOK_iff (cm_self (b := 0) ln (by decide) (Nat.and_zero n)) (fun _ => mem_0 ln)
theorem mem_two {a b : Nat} (la : a < 64) (lb_ : b < 64) (d : a &&& b = 0) (hb : b ≠ 0) (y : Nat) : ∃ x, mem a b x ∧ x ≠ y := by
  obtain ⟨k, hk⟩ := Nat.exists_testBit_of_ne_zero hb
  by_cases e : a = y
  · refine ⟨a ||| b, mem_g la lb_, fun z => ?_⟩
    have e2 : (a ||| b).testBit k = a.testBit k := by rw [z, e]
    rw [Nat.testBit_or, hk, dj d hk] at e2
    exact absurd e2 (by decide)
  · exact ⟨a, mem_a la, e⟩
theorem one_or : ∀ b, b < 64 → b ≠ 0 → b &&& (b - 1) = 0 → b = 1 ∨ b = 2 ∨ b = 4 ∨ b = 8 ∨ b = 16 ∨ b = 32 := by decide +kernel
theorem one_p : ∀ k, k < 6 → 2 ^ k &&& (2 ^ k - 1) = 0 := by decide +kernel
theorem one_bit {b : Nat} (lb_ : b < 64) (hb : b ≠ 0) (h : b &&& (b - 1) = 0) : ∃ j, j < 6 ∧ b = 2 ^ j := by
  rcases one_or b lb_ hb h with e | e | e | e | e | e
  · exact ⟨0, by decide, e⟩
  · exact ⟨1, by decide, e⟩
  · exact ⟨2, by decide, e⟩
  · exact ⟨3, by decide, e⟩
  · exact ⟨4, by decide, e⟩
  · exact ⟨5, by decide, e⟩
theorem other_bit {b k : Nat} (lb_ : b < 64) (hk : b.testBit k = true) (h : ¬ b &&& (b - 1) = 0) : ∃ j, j ≠ k ∧ b.testBit j = true := by
  have k6 := tb_k6 lb_ hk
  by_cases e : b &&& (2 ^ k ^^^ 63) = 0
  · exfalso
    apply h
    have e2 : b = 2 ^ k := by
      apply Nat.eq_of_testBit_eq
      intro j
      rw [Nat.testBit_two_pow]
      by_cases q : k = j
      · subst q; rw [hk, decide_eq_true rfl]
      · rw [decide_eq_false q]
        have z : (b &&& (2 ^ k ^^^ 63)).testBit j = false := by rw [e, Nat.zero_testBit]
        rw [tb_less lb_, decide_eq_false q] at z
        simpa using z
    rw [e2]
    exact one_p k k6
  · obtain ⟨j, hj⟩ := Nat.exists_testBit_of_ne_zero e
    rw [tb_less lb_, Bool.and_eq_true] at hj
    refine ⟨j, fun z => ?_, hj.1⟩
    rw [z, decide_eq_true rfl] at hj
    exact absurd hj.2 (by decide)
/-- of the numbers with the bit k so, at least one isn't n, if another bit is unknown too -/
theorem pick_ne {a b j k : Nat} (la : a < 64) (lb_ : b < 64) (d : a &&& b = 0) (hj : b.testBit j = true) (hne : j ≠ k) (v : Nat) (hv : mem a b v) (hvj : v.testBit j = false) (n : Nat) : ∃ x, mem a b x ∧ x ≠ n ∧ x.testBit k = v.testBit k := by
  by_cases e : v = n
  · have j6 := tb_k6 lb_ hj
    refine ⟨v ||| 2 ^ j, ⟨or64 hv.1 (p2_64 j6), fun i hi => ?_⟩, fun z => ?_, ?_⟩
    · have q : ¬ j = i := fun z => by rw [← z, hj] at hi; exact absurd hi (by decide)
      rw [Nat.testBit_or, Nat.testBit_two_pow, decide_eq_false q, Bool.or_false, hv.2 i hi]
    · have z2 : (v ||| 2 ^ j).testBit j = v.testBit j := by rw [z, e]
      rw [Nat.testBit_or, Nat.testBit_two_pow, decide_eq_true rfl, hvj] at z2
      exact absurd z2 (by decide)
    · rw [Nat.testBit_or, Nat.testBit_two_pow, decide_eq_false hne, Bool.or_false]
  · exact ⟨v, hv, e, rfl⟩
def tkV (v m n : Int32) : Int32 := if m &&& (m - 1) = 0 then (if (n ^^^ v) &&& (m ^^^ (-1)) = 0 then n ^^^ m else v) else v
def tkM (v m n : Int32) : Int32 := if m &&& (m - 1) = 0 then (if (n ^^^ v) &&& (m ^^^ (-1)) = 0 then 0 else m) else m
theorem kTkV_upd (V M : kF) (r n : Int32) : kTkV V M r n = upd V r.toNatClampNeg (tkV (V r.toNatClampNeg) (M r.toNatClampNeg) n) := by
  unfold kTkV tkV
  by_cases q : M r.toNatClampNeg &&& (M r.toNatClampNeg - 1) = 0
  · rw [if_pos q, if_pos q]
    by_cases p : (n ^^^ V r.toNatClampNeg) &&& (M r.toNatClampNeg ^^^ (-1)) = 0
    · rw [if_pos p, if_pos p]
    · rw [if_neg p, if_neg p, upd_same]
  · rw [if_neg q, if_neg q, upd_same]
theorem kTkM_upd (V M : kF) (r n : Int32) : kTkM V M r n = upd M r.toNatClampNeg (tkM (V r.toNatClampNeg) (M r.toNatClampNeg) n) := by
  unfold kTkM tkM
  by_cases q : M r.toNatClampNeg &&& (M r.toNatClampNeg - 1) = 0
  · rw [if_pos q, if_pos q]
    by_cases p : (n ^^^ V r.toNatClampNeg) &&& (M r.toNatClampNeg ^^^ (-1)) = 0
    · rw [if_pos p, if_pos p]
    · rw [if_neg p, if_neg p, upd_same]
  · rw [if_neg q, if_neg q, upd_same]
theorem in_iff {a b n : Nat} (la : a < 64) (ln : n < 64) : (nI n ^^^ nI a) &&& (nI b ^^^ (-1)) = 0 ↔ mem a b n := by
  rw [nx_xor, nx_andn (xor64 ln la), ← nI_0, nI_eq (by have := and64 (xor64 ln la) (b ^^^ 63); omega) (by decide)]
  have tb : ∀ k, ((n ^^^ a) &&& (b ^^^ 63)).testBit k = ((n.testBit k ^^ a.testBit k) && !b.testBit k) := fun k => by rw [tb_andn (xor64 ln la), Nat.testBit_xor]
  constructor
  · intro e
    refine ⟨ln, fun k hk => ?_⟩
    have z := tb k
    rw [e, Nat.zero_testBit, hk] at z
    revert z
    cases n.testBit k <;> cases a.testBit k <;> simp
  · intro h
    apply Nat.eq_of_testBit_eq
    intro k
    rw [tb, Nat.zero_testBit]
    cases hb : b.testBit k
    · rw [h.2 k hb, Bool.xor_self]; rfl
    · simp
theorem tk_ok {a b n : Nat} (la : a < 64) (lb_ : b < 64) (d : a &&& b = 0) (hb : b ≠ 0) (ln : n < 64) : cmOK (fun x => mem a b x ∧ x ≠ n) (tkV (nI a) (nI b) (nI n)) (tkM (nI a) (nI b) (nI n)) := by
  have e1 : nI b - 1 = nI (b - 1) := by
    rw [show (1 : Int32) = nI 1 from rfl, pk_sub (by omega)]
  have e2 : nI b &&& (nI b - 1) = 0 ↔ b &&& (b - 1) = 0 := by
    rw [e1, nx_and, ← nI_0, nI_eq (by have := and64 lb_ (b - 1); omega) (by decide)]
  unfold tkV tkM
  by_cases q : b &&& (b - 1) = 0
  · rw [if_pos (e2.mpr q), if_pos (e2.mpr q)]
    by_cases p : mem a b n
    · rw [if_pos ((in_iff la ln).mpr p), if_pos ((in_iff la ln).mpr p), nx_xor]
      refine cmOK_iff (cm_one (xor64 ln lb_)) (fun x => ?_)
      obtain ⟨j, j6, ej⟩ := one_bit lb_ hb q
      have bj : ∀ k, b.testBit k = decide (j = k) := fun k => by rw [ej, Nat.testBit_two_pow]
      constructor
      · rintro rfl
        refine ⟨⟨xor64 ln lb_, fun k hk => ?_⟩, fun z => ?_⟩
        · rw [Nat.testBit_xor, hk, Bool.xor_false, p.2 k hk]
        · have z2 : (n ^^^ b).testBit j = n.testBit j := by rw [z]
          rw [Nat.testBit_xor, bj, decide_eq_true rfl] at z2
          revert z2
          cases n.testBit j <;> simp
      · rintro ⟨hx, hne⟩
        apply Nat.eq_of_testBit_eq
        intro k
        rw [Nat.testBit_xor]
        cases hbk : b.testBit k
        · rw [Bool.xor_false, hx.2 k hbk, p.2 k hbk]
        · have ek : j = k := by rw [bj, decide_eq_true_eq] at hbk; exact hbk
          by_cases z : x.testBit k = n.testBit k
          · exfalso
            apply hne
            apply Nat.eq_of_testBit_eq
            intro i
            by_cases ei : j = i
            · rw [← ei, ek]; exact z
            · have hbi : b.testBit i = false := by rw [bj]; exact decide_eq_false ei
              rw [hx.2 i hbi, p.2 i hbi]
          · revert z
            cases x.testBit k <;> cases n.testBit k <;> simp
    · rw [if_neg (fun z => p ((in_iff la ln).mp z)), if_neg (fun z => p ((in_iff la ln).mp z))]
      exact cmOK_iff (cm_self la lb_ d) (fun x => ⟨fun h => ⟨h, fun z => p (by rw [← z]; exact h)⟩, fun h => h.1⟩)
  · rw [if_neg (fun z => q (e2.mp z)), if_neg (fun z => q (e2.mp z))]
    refine ⟨mem_two la lb_ d hb n, a, b, la, lb_, d, best_of (mem_two la lb_ d hb n) (fun x hx k hk => hx.1.2 k hk) (fun k hk => ?_) d, rfl, rfl⟩
    obtain ⟨j, hne, hj⟩ := other_bit lb_ hk q
    have k6 := tb_k6 lb_ hk
    obtain ⟨x, x1, x2, x3⟩ := pick_ne (k := k) la lb_ d hj hne a (mem_a la) (dj d hj) n
    have hm : mem a b (a ||| 2 ^ k) := by
      refine ⟨or64 la (p2_64 k6), fun i hi => ?_⟩
      have z : ¬ k = i := fun z => by rw [← z, hk] at hi; exact absurd hi (by decide)
      rw [Nat.testBit_or, Nat.testBit_two_pow, decide_eq_false z, Bool.or_false]
    obtain ⟨y, y1, y2, y3⟩ := pick_ne (k := k) la lb_ d hj hne (a ||| 2 ^ k) hm (by rw [Nat.testBit_or, Nat.testBit_two_pow, decide_eq_false (Ne.symm hne), dj d hj]; rfl) n
    refine ⟨x, y, ⟨x1, x2⟩, ⟨y1, y2⟩, ?_⟩
    rw [x3, y3, Nat.testBit_or, Nat.testBit_two_pow, decide_eq_true rfl, dj d hk]
    decide
/-! the sets of suppose's loops -/
section SS
variable {a1 b1 a2 b2 : Nat} {how : Int32} {Hd : Nat → Nat → Prop}
theorem sbO_L (l1 : a1 < 64) (d1 : a1 &&& b1 = 0) (l2 : a2 < 64) (d2 : a2 &&& b2 = 0) (hH : ∀ x y, x < 64 → y < 64 → (kHo (nI x) how (nI y) = 0 ↔ ¬ Hd x y)) (n : Nat) : sbO (spL how (nI a1) (nI b1) (nI a2) (nI b2)) 64 n ↔ ∃ y, mem a1 b1 n ∧ mem a2 b2 y ∧ Hd n y := by
  constructor
  · rintro ⟨x, hx, y, hy, ⟨h1, h2, h3⟩, h4⟩
    rw [lb_bi hx] at h4
    subst h4
    exact ⟨y, (kIn_iff l1 d1 hx).mp h1, (kIn_iff l2 d2 hy).mp h2, Classical.not_not.mp (fun z => h3 ((hH _ _ hx hy).mpr z))⟩
  · rintro ⟨y, h1, h2, h3⟩
    exact ⟨n, h1.1, y, h2.1, ⟨(kIn_iff l1 d1 h1.1).mpr h1, (kIn_iff l2 d2 h2.1).mpr h2, fun z => (hH _ _ h1.1 h2.1).mp z h3⟩, (lb_bi h1.1).mpr rfl⟩
theorem sbO_R (l1 : a1 < 64) (d1 : a1 &&& b1 = 0) (l2 : a2 < 64) (d2 : a2 &&& b2 = 0) (hH : ∀ x y, x < 64 → y < 64 → (kHo (nI x) how (nI y) = 0 ↔ ¬ Hd x y)) (n : Nat) : sbO (spR how (nI a1) (nI b1) (nI a2) (nI b2)) 64 n ↔ ∃ x, mem a1 b1 x ∧ mem a2 b2 n ∧ Hd x n := by
  constructor
  · rintro ⟨x, hx, y, hy, ⟨h1, h2, h3⟩, h4⟩
    rw [lb_bi hy] at h4
    subst h4
    exact ⟨x, (kIn_iff l1 d1 hx).mp h1, (kIn_iff l2 d2 hy).mp h2, Classical.not_not.mp (fun z => h3 ((hH _ _ hx hy).mpr z))⟩
  · rintro ⟨x, h1, h2, h3⟩
    exact ⟨x, h1.1, n, h2.1, ⟨(kIn_iff l1 d1 h1.1).mpr h1, (kIn_iff l2 d2 h2.1).mpr h2, fun z => (hH _ _ h1.1 h2.1).mp z h3⟩, (lb_bi h2.1).mpr rfl⟩
end SS
section HO
variable {x y : Nat}
theorem ho0 (hx : x < 64) (hy : y < 64) : kHo (nI x) 0 (nI y) = 0 ↔ ¬ x = y := by
  rw [kHo, if_pos rfl]
  have e : nI x = nI y ↔ x = y := nI_eq (by omega) (by omega)
  by_cases q : x = y
  · rw [if_pos (e.mpr q)]; exact ⟨fun z => absurd z (by decide), fun z => absurd q z⟩
  · rw [if_neg (fun z => q (e.mp z))]; exact ⟨fun _ => q, fun _ => rfl⟩
theorem ho1 (hx : x < 64) (hy : y < 64) : kHo (nI x) 1 (nI y) = 0 ↔ ¬ x + 1 ≤ y := by
  rw [kHo, if_neg (by decide), if_pos rfl]
  have e : nI y ≤ nI x ↔ y ≤ x := nI_leI (by omega) (by omega)
  by_cases q : y ≤ x
  · rw [if_pos (e.mpr q)]; exact ⟨fun _ => by omega, fun _ => rfl⟩
  · rw [if_neg (fun z => q (e.mp z))]; exact ⟨fun z => absurd z (by decide), fun z => absurd z (by omega)⟩
theorem ho2 (hx : x < 64) (hy : y < 64) : kHo (nI x) 2 (nI y) = 0 ↔ ¬ x + 0 ≤ y := by
  rw [kHo, if_neg (by decide), if_neg (by decide), if_pos rfl]
  have e : nI y < nI x ↔ y < x := nI_ltI (by omega) (by omega)
  by_cases q : y < x
  · rw [if_pos (e.mpr q)]; exact ⟨fun _ => by omega, fun _ => rfl⟩
  · rw [if_neg (fun z => q (e.mp z))]; exact ⟨fun z => absurd z (by decide), fun z => absurd z (by omega)⟩
theorem ho3 (hx : x < 64) (hy : y < 64) : kHo (nI x) 3 (nI y) = 0 ↔ ¬ x ≠ y := by
  rw [kHo, if_neg (by decide), if_neg (by decide), if_neg (by decide), if_pos rfl]
  have e : nI x = nI y ↔ x = y := nI_eq (by omega) (by omega)
  by_cases q : x = y
  · rw [if_pos (e.mpr q)]; exact ⟨fun _ => fun z => z q, fun _ => rfl⟩
  · rw [if_neg (fun z => q (e.mp z))]; exact ⟨fun z => absurd z (by decide), fun z => absurd q z⟩
theorem ho4 (hx : x < 64) (hy : y < 64) : kHo (nI x) 4 (nI y) = 0 ↔ ¬ y + 0 ≤ x := by
  rw [kHo, if_neg (by decide), if_neg (by decide), if_neg (by decide), if_neg (by decide), if_pos rfl]
  have e : nI x < nI y ↔ x < y := nI_ltI (by omega) (by omega)
  by_cases q : x < y
  · rw [if_pos (e.mpr q)]; exact ⟨fun _ => by omega, fun _ => rfl⟩
  · rw [if_neg (fun z => q (e.mp z))]; exact ⟨fun z => absurd z (by decide), fun z => absurd z (by omega)⟩
theorem ho5 (hx : x < 64) (hy : y < 64) : kHo (nI x) 5 (nI y) = 0 ↔ ¬ y + 1 ≤ x := by
  rw [kHo, if_neg (by decide), if_neg (by decide), if_neg (by decide), if_neg (by decide), if_neg (by decide)]
  have e : nI x ≤ nI y ↔ x ≤ y := nI_leI (by omega) (by omega)
  by_cases q : x ≤ y
  · rw [if_pos (e.mpr q)]; exact ⟨fun _ => by omega, fun _ => rfl⟩
  · rw [if_neg (fun z => q (e.mp z))]; exact ⟨fun z => absurd z (by decide), fun z => absurd z (by omega)⟩
end HO
/-! the order -/
section OR
variable {a1 b1 a2 b2 d : Nat}
theorem so_L (l1 : a1 < 64) (l2 : a2 < 64) (m2 : b2 < 64) (hd : d ≤ 1) (n : Nat) : (mem a1 b1 n ∧ inR 0 ((nI a2 ||| nI b2) - nI d) n) ↔ ∃ y, mem a1 b1 n ∧ mem a2 b2 y ∧ n + d ≤ y := by
  have hg := or64 l2 m2
  have key : mem a1 b1 n → ((¬ (nI a2 ||| nI b2) - nI d < nI n) ↔ n + d ≤ a2 ||| b2) := by
    intro h
    have := h.1
    rw [nx_or, Int32.lt_iff_toInt_lt, pk_sub_toInt (by omega) (by omega), nI_toInt (by omega)]
    omega
  constructor
  · rintro ⟨h1, -, h3⟩
    exact ⟨a2 ||| b2, h1, mem_g l2 m2, (key h1).mp h3⟩
  · rintro ⟨y, h1, h2, h3⟩
    have := mem_le h2
    exact ⟨h1, k_nn h1.1, (key h1).mpr (by omega)⟩
theorem so_R (l1 : a1 < 64) (d1 : a1 &&& b1 = 0) (hd : d ≤ 1) (n : Nat) : (mem a2 b2 n ∧ inR (nI a1 + nI d) 63 n) ↔ ∃ x, mem a1 b1 x ∧ mem a2 b2 n ∧ x + d ≤ n := by
  constructor
  · rintro ⟨h1, h2, -⟩
    have := h1.1
    rw [nI_add, nI_ltI (by omega) (by omega)] at h2
    exact ⟨a1, mem_a l1, h1, by omega⟩
  · rintro ⟨x, h1, h2, h3⟩
    have q1 := mem_ge d1 h1
    have q2 := h2.1
    refine ⟨h2, ?_, ?_⟩
    · rw [nI_add, nI_ltI (by omega) (by omega)]; omega
    · rw [Int32.lt_iff_toInt_lt, i63, nI_toInt (by omega)]; omega
end OR
/-- supposeOrder, by the two sets: x of the first and y of the second with x + d ≤ y -/
theorem so_ok {V M : kF} {a b : Int32} {a1 b1 a2 b2 d : Nat} (l1 : a1 < 64) (m1 : b1 < 64) (d1 : a1 &&& b1 = 0) (l2 : a2 < 64) (m2 : b2 < 64) (d2 : a2 &&& b2 = 0) (hd : d ≤ 1) (e1 : V a.toNatClampNeg = nI a1) (e2 : M a.toNatClampNeg = nI b1) (e3 : V b.toNatClampNeg = nI a2) (e4 : M b.toNatClampNeg = nI b2) :
    ((∀ n, ¬ ∃ y, mem a1 b1 n ∧ mem a2 b2 y ∧ n + d ≤ y) ∧ (∀ n, ¬ ∃ x, mem a1 b1 x ∧ mem a2 b2 n ∧ x + d ≤ n) ∧ kSo V M a b (nI d) = (-2, V, M)) ∨ ∃ v1 n1 v2 n2, cmOK (fun n => ∃ y, mem a1 b1 n ∧ mem a2 b2 y ∧ n + d ≤ y) v1 n1 ∧ cmOK (fun n => ∃ x, mem a1 b1 x ∧ mem a2 b2 n ∧ x + d ≤ n) v2 n2 ∧ kSo V M a b (nI d) = (0, upd (upd V b.toNatClampNeg v2) a.toNatClampNeg v1, upd (upd M b.toNatClampNeg n2) a.toNatClampNeg n1) := by
  unfold kSo kSoV kSoM
  rw [e1, e2, e3, e4]
  by_cases q : nrC (nI a1) (nI b1) 0 ((nI a2 ||| nI b2) - nI d)
  · refine Or.inr ?_
    rw [if_pos q]
    have k1 := cmOK_iff (nar_ok l1 m1 d1 q) (so_L (b1 := b1) l1 l2 m2 hd)
    obtain ⟨n, hn⟩ := k1.1
    obtain ⟨y, y1, y2, y3⟩ := hn
    have q2 : nrC (nI a2) (nI b2) (nI a1 + nI d) 63 := (nrC_iff l2 m2 d2).mpr ⟨y, (so_R l1 d1 hd y).mpr ⟨n, y1, y2, y3⟩⟩
    rw [if_pos q2, if_pos q2]
    exact ⟨_, _, _, _, k1, cmOK_iff (nar_ok l2 m2 d2 q2) (so_R (b2 := b2) l1 d1 hd), rfl⟩
  · refine Or.inl ?_
    rw [if_neg q]
    have hL : ∀ n, ¬ ∃ y, mem a1 b1 n ∧ mem a2 b2 y ∧ n + d ≤ y := fun n hn => q ((nrC_iff l1 m1 d1).mpr ⟨n, (so_L (b1 := b1) l1 l2 m2 hd n).mpr hn⟩)
    exact ⟨hL, fun n hn => by obtain ⟨x, x1, x2, x3⟩ := hn; exact hL x ⟨n, x1, x2, x3⟩, rfl⟩
end
section
/-! ===== the law of suppose ===== -/
theorem upd_keep (f : kF) {i j : Nat} (h : i ≠ j) (x : Int32) : upd (upd f i x) j (f j) = upd f i x := by
  have e : f j = upd f i x j := (pk_un (Ne.symm h)).symm
  rw [e]
  exact upd_same _ _
theorem k05 {k : Int32} (h0 : ¬ k < 0) (h6 : ¬ 5 < k) : k = 0 ∨ k = 1 ∨ k = 2 ∨ k = 3 ∨ k = 4 ∨ k = 5 := by
  obtain ⟨j, hj, e⟩ := nI_of2 (x := k) (M := 5) (n := 5) (by decide +kernel) h0 (Int32.not_lt.mp h6)
  subst e
  exact (by decide +kernel : ∀ j, j ≤ 5 → nI j = 0 ∨ nI j = 1 ∨ nI j = 2 ∨ nI j = 3 ∨ nI j = 4 ∨ nI j = 5) j hj
theorem kR_ne {a c : Int32} (h1 : kR a) (h2 : kR c) (h : ¬ a = c) : a.toNatClampNeg ≠ c.toNatClampNeg := by
  obtain ⟨i, hi, rfl⟩ := kR_nI h1
  obtain ⟨j, hj, rfl⟩ := kR_nI h2
  rw [nI_clamp (by omega), nI_clamp (by omega)]
  intro e
  exact h (by rw [e])
theorem nI_z {b : Nat} (h : b < 64) : nI b = 0 ↔ b = 0 := by rw [← nI_0, nI_eq (by omega) (by decide)]
theorem kCmV6 (va ma vb mb : Int32) : kCmV 6 va ma vb mb = va ||| vb := by rw [kCmV, if_neg (by decide), if_neg (by decide), if_pos (by decide), if_neg (by decide)]
theorem kCmM6 (va ma vb mb : Int32) : kCmM 6 va ma vb mb = ma &&& mb := by rw [kCmM, if_neg (by decide), if_neg (by decide), if_pos (by decide), if_neg (by decide)]
section SP
variable {V M : kF} {a c : Int32} {a1 b1 a2 b2 : Nat}
/-- suppose equal, by the numbers of both -/
theorem se_ok (q1 : kR a) (q2 : kR c) (l1 : a1 < 64) (m1 : b1 < 64) (d1 : a1 &&& b1 = 0) (l2 : a2 < 64) (m2 : b2 < 64) (d2 : a2 &&& b2 = 0) (e1 : V a.toNatClampNeg = nI a1) (e2 : M a.toNatClampNeg = nI b1) (e3 : V c.toNatClampNeg = nI a2) (e4 : M c.toNatClampNeg = nI b2) :
    ((∀ n, ¬ (mem a1 b1 n ∧ mem a2 b2 n)) ∧ kSe V M a c = (-2, V, M)) ∨ ∃ v n, cmOK (fun x => mem a1 b1 x ∧ mem a2 b2 x) v n ∧ kSe V M a c = (0, upd (upd V a.toNatClampNeg v) c.toNatClampNeg v, upd (upd M a.toNatClampNeg n) c.toNatClampNeg n) := by
  have eC : kOpC V M a 6 a c = if kConf (nI a1) (nI b1) (nI a2) (nI b2) = 0 then (0, upd V a.toNatClampNeg (nI a1 ||| nI a2), upd M a.toNatClampNeg (nI b1 &&& nI b2)) else (-2, V, M) := by
    unfold kOpC
    rw [if_pos q1, if_pos q1, if_pos q2, if_neg (by decide), if_pos (by decide), if_pos rfl, e1, e2, e3, e4, kCmV6, kCmM6]
  unfold kSe
  by_cases q : kConf (nI a1) (nI b1) (nI a2) (nI b2) = 0
  · rw [if_pos q] at eC
    refine Or.inr ⟨_, _, cm_meet l1 m1 d1 l2 m2 d2 q, ?_⟩
    rw [eC, if_pos rfl]
    show (0, upd (upd V a.toNatClampNeg (nI a1 ||| nI a2)) c.toNatClampNeg (upd V a.toNatClampNeg (nI a1 ||| nI a2) a.toNatClampNeg), upd (upd M a.toNatClampNeg (nI b1 &&& nI b2)) c.toNatClampNeg (upd M a.toNatClampNeg (nI b1 &&& nI b2) a.toNatClampNeg)) = _
    rw [pk_us, pk_us]
  · rw [if_neg q] at eC
    refine Or.inl ⟨fun n hn => meet_no l1 l2 q n hn.1 hn.2, ?_⟩
    rw [eC]
    exact if_neg (show ¬ (-2 : Int32) = 0 by decide)
/-- suppose different, by the two sets -/
theorem sd_ok (hne : a.toNatClampNeg ≠ c.toNatClampNeg) (l1 : a1 < 64) (m1 : b1 < 64) (d1 : a1 &&& b1 = 0) (l2 : a2 < 64) (m2 : b2 < 64) (d2 : a2 &&& b2 = 0) (e1 : V a.toNatClampNeg = nI a1) (e2 : M a.toNatClampNeg = nI b1) (e3 : V c.toNatClampNeg = nI a2) (e4 : M c.toNatClampNeg = nI b2) :
    ((∀ n, ¬ ∃ y, mem a1 b1 n ∧ mem a2 b2 y ∧ n ≠ y) ∧ (∀ n, ¬ ∃ x, mem a1 b1 x ∧ mem a2 b2 n ∧ x ≠ n) ∧ kSd V M a c = (-2, V, M)) ∨ ∃ v1 n1 v2 n2, cmOK (fun n => ∃ y, mem a1 b1 n ∧ mem a2 b2 y ∧ n ≠ y) v1 n1 ∧ cmOK (fun n => ∃ x, mem a1 b1 x ∧ mem a2 b2 n ∧ x ≠ n) v2 n2 ∧ kSd V M a c = (0, upd (upd V a.toNatClampNeg v1) c.toNatClampNeg v2, upd (upd M a.toNatClampNeg n1) c.toNatClampNeg n2) := by
  have z1 : M a.toNatClampNeg = 0 ↔ b1 = 0 := by rw [e2]; exact nI_z m1
  have z2 : M c.toNatClampNeg = 0 ↔ b2 = 0 := by rw [e4]; exact nI_z m2
  have keepV : upd (upd V a.toNatClampNeg (nI a1)) c.toNatClampNeg (nI a2) = V := by rw [← e1, upd_same, ← e3, upd_same]
  have keepM : upd (upd M a.toNatClampNeg (nI b1)) c.toNatClampNeg (nI b2) = M := by rw [← e2, upd_same, ← e4, upd_same]
  unfold kSd kSd2
  by_cases c1 : b1 = 0
  · rw [if_pos (z1.mpr c1)]
    by_cases c2 : b2 = 0
    · rw [if_pos (z2.mpr c2)]
      by_cases q : a1 = a2
      · refine Or.inl ?_
        have no : ∀ x y, mem a1 b1 x → mem a2 b2 y → ¬ x ≠ y := by
          intro x y hx hy hxy
          rw [c1, mem_0 l1] at hx
          rw [c2, mem_0 l2] at hy
          exact hxy (by rw [hx, hy, q])
        exact ⟨fun n ⟨y, h1, h2, h3⟩ => no n y h1 h2 h3, fun n ⟨x, h1, h2, h3⟩ => no x n h1 h2 h3, if_pos (by rw [e1, e3, q])⟩
      · refine Or.inr ⟨nI a1, nI b1, nI a2, nI b2, cmOK_iff (cm_self l1 m1 d1) (fun n => ?_), cmOK_iff (cm_self l2 m2 d2) (fun n => ?_), ?_⟩
        · refine ⟨fun h => ⟨a2, h, mem_a l2, ?_⟩, fun ⟨_, h, _⟩ => h⟩
          rw [c1, mem_0 l1] at h
          rw [h]; exact q
        · refine ⟨fun h => ⟨a1, mem_a l1, h, ?_⟩, fun ⟨_, _, h, _⟩ => h⟩
          rw [c2, mem_0 l2] at h
          rw [h]; exact q
        · rw [keepV, keepM]
          exact if_neg (by rw [e1, e3]; exact fun z => q (nI_inj l1 l2 z))
    · rw [if_neg (fun z => c2 (z2.mp z)), if_neg (fun z => c2 (z2.mp z)), if_pos (z1.mpr c1)]
      refine Or.inr ⟨nI a1, nI b1, tkV (nI a2) (nI b2) (nI a1), tkM (nI a2) (nI b2) (nI a1), cmOK_iff (cm_self l1 m1 d1) (fun n => ?_), cmOK_iff (tk_ok l2 m2 d2 c2 l1) (fun n => ?_), ?_⟩
      · refine ⟨fun h => ?_, fun ⟨_, h, _⟩ => h⟩
        obtain ⟨y, y1, y2⟩ := mem_two l2 m2 d2 c2 n
        exact ⟨y, h, y1, Ne.symm y2⟩
      · constructor
        · rintro ⟨h1, h2⟩
          exact ⟨a1, mem_a l1, h1, Ne.symm h2⟩
        · rintro ⟨x, h1, h2, h3⟩
          rw [c1, mem_0 l1] at h1
          exact ⟨h2, by rw [← h1]; exact Ne.symm h3⟩
      · rw [kTkV_upd, kTkM_upd, e1, e3, e4]
        rw [← e1, upd_same, e1, ← e2, upd_same]
  · rw [if_neg (fun z => c1 (z1.mp z))]
    by_cases c2 : b2 = 0
    · rw [if_pos (z2.mpr c2)]
      refine Or.inr ⟨tkV (nI a1) (nI b1) (nI a2), tkM (nI a1) (nI b1) (nI a2), nI a2, nI b2, cmOK_iff (tk_ok l1 m1 d1 c1 l2) (fun n => ?_), cmOK_iff (cm_self l2 m2 d2) (fun n => ?_), ?_⟩
      · constructor
        · rintro ⟨h1, h2⟩
          exact ⟨a2, h1, mem_a l2, h2⟩
        · rintro ⟨y, h1, h2, h3⟩
          rw [c2, mem_0 l2] at h2
          exact ⟨h1, by rw [← h2]; exact h3⟩
      · refine ⟨fun h => ?_, fun ⟨_, _, h, _⟩ => h⟩
        obtain ⟨x, x1, x2⟩ := mem_two l1 m1 d1 c1 n
        exact ⟨x, x1, h, x2⟩
      · rw [kTkV_upd, kTkM_upd, e3, e1, e2]
        rw [← e3, upd_keep V hne, e3, ← e4, upd_keep M hne]
    · rw [if_neg (fun z => c2 (z2.mp z)), if_neg (fun z => c1 (z1.mp z))]
      refine Or.inr ⟨nI a1, nI b1, nI a2, nI b2, cmOK_iff (cm_self l1 m1 d1) (fun n => ?_), cmOK_iff (cm_self l2 m2 d2) (fun n => ?_), by rw [keepV, keepM]⟩
      · refine ⟨fun h => ?_, fun ⟨_, h, _⟩ => h⟩
        obtain ⟨y, y1, y2⟩ := mem_two l2 m2 d2 c2 n
        exact ⟨y, h, y1, Ne.symm y2⟩
      · refine ⟨fun h => ?_, fun ⟨_, _, h, _⟩ => h⟩
        obtain ⟨x, x1, x2⟩ := mem_two l1 m1 d1 c1 n
        exact ⟨x, x1, h, x2⟩
end SP
theorem law_sp {V M V1 M1 V2 M2 : kF} {r1 r2 a b c : Int32} (g : kGd V M) (h1 : (r1, V1, M1) = kOpU V M a b c) (h2 : mSp V M a b c (r2, V2, M2)) : r1 = r2 ∧ V1 = V2 ∧ M1 = M2 ∧ kGd V1 M1 := by
  unfold kOpU at h1
  unfold mSp at h2
  by_cases q1 : kR a
  · rw [if_pos q1] at h1 h2
    by_cases q2 : kR c
    · rw [if_pos q2] at h1 h2
      by_cases q3 : b < 0
      · rw [if_pos q3] at h1 h2; exact out_same g h1 h2
      · rw [if_neg q3] at h1 h2
        by_cases q4 : 5 < b
        · rw [if_pos q4] at h1 h2; exact out_same g h1 h2
        · rw [if_neg q4] at h1 h2
          by_cases q5 : a = c
          · rw [if_pos q5] at h1 h2; exact out_same g h1 h2
          · rw [if_neg q5] at h1 h2
            obtain ⟨s1, s2, r', V', M', hs1, hs2, k1, ho⟩ := h2
            have hne := kR_ne q1 q2 q5
            obtain ⟨a1, b1, l1, m1, d1, e1, e2⟩ := g a.toNatClampNeg
            obtain ⟨a2, b2, l2, m2, d2, e3, e4⟩ := g c.toNatClampNeg
            rw [e1, e2, e3, e4] at hs1 hs2
            rcases k05 q3 q4 with rfl | rfl | rfl | rfl | rfl | rfl
            · rw [if_pos rfl] at h1
              have hL := sbO_L (Hd := fun x y => x = y) l1 d1 l2 d2 (fun x y hx hy => ho0 hx hy)
              have hR := sbO_R (Hd := fun x y => x = y) l1 d1 l2 d2 (fun x y hx hy => ho0 hx hy)
              have eL : ∀ n, (mem a1 b1 n ∧ mem a2 b2 n) ↔ sbO (spL 0 (nI a1) (nI b1) (nI a2) (nI b2)) 64 n := fun n => Iff.trans ⟨fun z => ⟨n, z.1, z.2, rfl⟩, fun ⟨y, z1, z2, z3⟩ => ⟨z1, by rw [z3]; exact z2⟩⟩ (hL n).symm
              have eR : ∀ n, (mem a1 b1 n ∧ mem a2 b2 n) ↔ sbO (spR 0 (nI a1) (nI b1) (nI a2) (nI b2)) 64 n := fun n => Iff.trans ⟨fun z => ⟨n, z.1, z.2, rfl⟩, fun ⟨y, z1, z2, z3⟩ => ⟨by rw [← z3]; exact z1, z2⟩⟩ (hR n).symm
              rcases se_ok q1 q2 l1 m1 d1 l2 m2 d2 e1 e2 e3 e4 with ⟨n1, e⟩ | ⟨v, n, k, e⟩
              · rw [e] at h1
                exact out2_no g hs1 hs2 (fun n z => n1 n ((eL n).mpr z)) (fun n z => n1 n ((eR n).mpr z)) k1 ho h1
              · rw [e] at h1
                exact out2_yes g hs1 hs2 (cmOK_iff k eL) (cmOK_iff k eR) k1 ho h1
            · rw [if_neg (by decide), if_pos rfl] at h1
              have hL := sbO_L (Hd := fun x y => x + 1 ≤ y) l1 d1 l2 d2 (fun x y hx hy => ho1 hx hy)
              have hR := sbO_R (Hd := fun x y => x + 1 ≤ y) l1 d1 l2 d2 (fun x y hx hy => ho1 hx hy)
              rcases so_ok (d := 1) l1 m1 d1 l2 m2 d2 (by decide) e1 e2 e3 e4 with ⟨n1, n2, e⟩ | ⟨v1, w1, v2, w2, k2, k3, e⟩
              · rw [show (1 : Int32) = nI 1 from rfl, e] at h1
                exact out2_no g hs1 hs2 (fun n z => n1 n ((hL n).mp z)) (fun n z => n2 n ((hR n).mp z)) k1 ho h1
              · rw [show (1 : Int32) = nI 1 from rfl, e, upd_swap V (Ne.symm hne), upd_swap M (Ne.symm hne)] at h1
                exact out2_yes g hs1 hs2 (cmOK_iff k2 (fun n => (hL n).symm)) (cmOK_iff k3 (fun n => (hR n).symm)) k1 ho h1
            · rw [if_neg (by decide), if_neg (by decide), if_pos rfl] at h1
              have hL := sbO_L (Hd := fun x y => x + 0 ≤ y) l1 d1 l2 d2 (fun x y hx hy => ho2 hx hy)
              have hR := sbO_R (Hd := fun x y => x + 0 ≤ y) l1 d1 l2 d2 (fun x y hx hy => ho2 hx hy)
              rcases so_ok (d := 0) l1 m1 d1 l2 m2 d2 (by decide) e1 e2 e3 e4 with ⟨n1, n2, e⟩ | ⟨v1, w1, v2, w2, k2, k3, e⟩
              · rw [← nI_0, e] at h1
                exact out2_no g hs1 hs2 (fun n z => n1 n ((hL n).mp z)) (fun n z => n2 n ((hR n).mp z)) k1 ho h1
              · have h1 := h1.trans (show kSo V M a c 0 = _ from e)
                rw [upd_swap V (Ne.symm hne), upd_swap M (Ne.symm hne)] at h1
                exact out2_yes g hs1 hs2 (cmOK_iff k2 (fun n => (hL n).symm)) (cmOK_iff k3 (fun n => (hR n).symm)) k1 ho h1
            · rw [if_neg (by decide), if_neg (by decide), if_neg (by decide), if_pos rfl] at h1
              have hL := sbO_L (Hd := fun x y => x ≠ y) l1 d1 l2 d2 (fun x y hx hy => ho3 hx hy)
              have hR := sbO_R (Hd := fun x y => x ≠ y) l1 d1 l2 d2 (fun x y hx hy => ho3 hx hy)
              rcases sd_ok hne l1 m1 d1 l2 m2 d2 e1 e2 e3 e4 with ⟨n1, n2, e⟩ | ⟨v1, w1, v2, w2, k2, k3, e⟩
              · exact out2_no g hs1 hs2 (fun n z => n1 n ((hL n).mp z)) (fun n z => n2 n ((hR n).mp z)) k1 ho (h1.trans e)
              · exact out2_yes g hs1 hs2 (cmOK_iff k2 (fun n => (hL n).symm)) (cmOK_iff k3 (fun n => (hR n).symm)) k1 ho (h1.trans e)
            · rw [if_neg (by decide), if_neg (by decide), if_neg (by decide), if_neg (by decide), if_neg (by decide)] at h1
              have hL := sbO_L (Hd := fun x y => y + 0 ≤ x) l1 d1 l2 d2 (fun x y hx hy => ho4 hx hy)
              have hR := sbO_R (Hd := fun x y => y + 0 ≤ x) l1 d1 l2 d2 (fun x y hx hy => ho4 hx hy)
              have eL : ∀ n, (∃ x, mem a2 b2 x ∧ mem a1 b1 n ∧ x + 0 ≤ n) ↔ sbO (spL 4 (nI a1) (nI b1) (nI a2) (nI b2)) 64 n := fun n => Iff.trans ⟨fun ⟨x, z1, z2, z3⟩ => ⟨x, z2, z1, z3⟩, fun ⟨x, z1, z2, z3⟩ => ⟨x, z2, z1, z3⟩⟩ (hL n).symm
              have eR : ∀ n, (∃ y, mem a2 b2 n ∧ mem a1 b1 y ∧ n + 0 ≤ y) ↔ sbO (spR 4 (nI a1) (nI b1) (nI a2) (nI b2)) 64 n := fun n => Iff.trans ⟨fun ⟨x, z1, z2, z3⟩ => ⟨x, z2, z1, z3⟩, fun ⟨x, z1, z2, z3⟩ => ⟨x, z2, z1, z3⟩⟩ (hR n).symm
              rcases so_ok (d := 0) l2 m2 d2 l1 m1 d1 (by decide) e3 e4 e1 e2 with ⟨n1, n2, e⟩ | ⟨v1, w1, v2, w2, k2, k3, e⟩
              · exact out2_no g hs1 hs2 (fun n z => n2 n ((eL n).mpr z)) (fun n z => n1 n ((eR n).mpr z)) k1 ho (h1.trans (show kSo V M c a 0 = _ from e))
              · exact out2_yes g hs1 hs2 (cmOK_iff k3 eL) (cmOK_iff k2 eR) k1 ho (h1.trans (show kSo V M c a 0 = _ from e))
            · rw [if_neg (by decide), if_neg (by decide), if_neg (by decide), if_neg (by decide), if_pos rfl] at h1
              have hL := sbO_L (Hd := fun x y => y + 1 ≤ x) l1 d1 l2 d2 (fun x y hx hy => ho5 hx hy)
              have hR := sbO_R (Hd := fun x y => y + 1 ≤ x) l1 d1 l2 d2 (fun x y hx hy => ho5 hx hy)
              have eL : ∀ n, (∃ x, mem a2 b2 x ∧ mem a1 b1 n ∧ x + 1 ≤ n) ↔ sbO (spL 5 (nI a1) (nI b1) (nI a2) (nI b2)) 64 n := fun n => Iff.trans ⟨fun ⟨x, z1, z2, z3⟩ => ⟨x, z2, z1, z3⟩, fun ⟨x, z1, z2, z3⟩ => ⟨x, z2, z1, z3⟩⟩ (hL n).symm
              have eR : ∀ n, (∃ y, mem a2 b2 n ∧ mem a1 b1 y ∧ n + 1 ≤ y) ↔ sbO (spR 5 (nI a1) (nI b1) (nI a2) (nI b2)) 64 n := fun n => Iff.trans ⟨fun ⟨x, z1, z2, z3⟩ => ⟨x, z2, z1, z3⟩, fun ⟨x, z1, z2, z3⟩ => ⟨x, z2, z1, z3⟩⟩ (hR n).symm
              rcases so_ok (d := 1) l2 m2 d2 l1 m1 d1 (by decide) e3 e4 e1 e2 with ⟨n1, n2, e⟩ | ⟨v1, w1, v2, w2, k2, k3, e⟩
              · exact out2_no g hs1 hs2 (fun n z => n2 n ((eL n).mpr z)) (fun n z => n1 n ((eR n).mpr z)) k1 ho (h1.trans (show kSo V M c a 1 = _ from e))
              · exact out2_yes g hs1 hs2 (cmOK_iff k3 eL) (cmOK_iff k2 eR) k1 ho (h1.trans (show kSo V M c a 1 = _ from e))
    · rw [if_neg q2] at h1 h2; exact out_same g h1 h2
  · rw [if_neg q1] at h1 h2; exact out_same g h1 h2
/-! ===== the law of compare ===== -/
/-- 1: always, 2: sometimes, 0: never -/
def cpA (S N : Prop) (r : Int32) : Prop := (¬ N ∧ r = 1) ∨ (N ∧ S ∧ r = 2) ∨ (N ∧ ¬ S ∧ r = 0)
theorem cpA_uniq {S N : Prop} {r r' : Int32} (h : cpA S N r) (h' : cpA S N r') : r = r' := by
  rcases h with ⟨p, e⟩ | ⟨p, q, e⟩ | ⟨p, q, e⟩ <;> rcases h' with ⟨p', e'⟩ | ⟨p', q', e'⟩ | ⟨p', q', e'⟩ <;> first | (rw [e, e']; done) | exact absurd p p' | exact absurd p' p | exact absurd q q' | exact absurd q' q
theorem cpA_flip {S N : Prop} {r : Int32} (hSN : S ∨ N) (h : cpA S N r) : cpA N S (if r = 2 then r else 1 - r) := by
  rcases h with ⟨p, e⟩ | ⟨p, q, e⟩ | ⟨p, q, e⟩
  · subst e
    exact Or.inr (Or.inr ⟨hSN.elim id (fun z => absurd z p), p, by decide⟩)
  · subst e
    exact Or.inr (Or.inl ⟨q, p, by decide⟩)
  · subst e
    exact Or.inl ⟨q, by decide⟩
theorem cpA_iff {S N S' N' : Prop} {r : Int32} (h : cpA S N r) (e1 : S ↔ S') (e2 : N ↔ N') : cpA S' N' r := by
  rw [← propext e1, ← propext e2]; exact h
section CP
variable {a1 b1 a2 b2 : Nat}
theorem mcp_A {how r : Int32} {Hd : Nat → Nat → Prop} (l1 : a1 < 64) (d1 : a1 &&& b1 = 0) (l2 : a2 < 64) (d2 : a2 &&& b2 = 0) (hH : ∀ x y, x < 64 → y < 64 → (kHo (nI x) how (nI y) = 0 ↔ ¬ Hd x y)) (h : ∃ sm al, cpI sm (sbO (cqS how (nI a1) (nI b1) (nI a2) (nI b2)) 64 0) ∧ cpI al (¬ sbO (cqA how (nI a1) (nI b1) (nI a2) (nI b2)) 64 0) ∧ r = (if al = 0 then (if sm = 0 then 0 else 2) else 1)) :
    cpA (∃ x y, mem a1 b1 x ∧ mem a2 b2 y ∧ Hd x y) (∃ x y, mem a1 b1 x ∧ mem a2 b2 y ∧ ¬ Hd x y) r := by
  obtain ⟨sm, al, h1, h2, rfl⟩ := h
  have eS : sbO (cqS how (nI a1) (nI b1) (nI a2) (nI b2)) 64 0 ↔ ∃ x y, mem a1 b1 x ∧ mem a2 b2 y ∧ Hd x y := by
    constructor
    · rintro ⟨x, hx, y, hy, z1, z2, z3⟩
      exact ⟨x, y, (kIn_iff l1 d1 hx).mp z1, (kIn_iff l2 d2 hy).mp z2, Classical.not_not.mp (fun z => z3 ((hH _ _ hx hy).mpr z))⟩
    · rintro ⟨x, y, z1, z2, z3⟩
      exact ⟨x, z1.1, y, z2.1, (kIn_iff l1 d1 z1.1).mpr z1, (kIn_iff l2 d2 z2.1).mpr z2, fun z => (hH _ _ z1.1 z2.1).mp z z3⟩
  have eA : sbO (cqA how (nI a1) (nI b1) (nI a2) (nI b2)) 64 0 ↔ ∃ x y, mem a1 b1 x ∧ mem a2 b2 y ∧ ¬ Hd x y := by
    constructor
    · rintro ⟨x, hx, y, hy, z1, z2, z3⟩
      exact ⟨x, y, (kIn_iff l1 d1 hx).mp z1, (kIn_iff l2 d2 hy).mp z2, (hH _ _ hx hy).mp z3⟩
    · rintro ⟨x, y, z1, z2, z3⟩
      exact ⟨x, z1.1, y, z2.1, (kIn_iff l1 d1 z1.1).mpr z1, (kIn_iff l2 d2 z2.1).mpr z2, (hH _ _ z1.1 z2.1).mpr z3⟩
  rw [eS] at h1
  rw [eA] at h2
  rcases h2 with ⟨e, p⟩ | ⟨e, p⟩
  · subst e
    exact Or.inl ⟨p, if_neg (by decide)⟩
  · subst e
    have p := Classical.not_not.mp p
    rcases h1 with ⟨e, q⟩ | ⟨e, q⟩
    · subst e; exact Or.inr (Or.inl ⟨p, q, by decide⟩)
    · subst e; exact Or.inr (Or.inr ⟨p, q, by decide⟩)
theorem ce_ok (l1 : a1 < 64) (m1 : b1 < 64) (d1 : a1 &&& b1 = 0) (l2 : a2 < 64) (m2 : b2 < 64) (d2 : a2 &&& b2 = 0) : cpA (∃ x y, mem a1 b1 x ∧ mem a2 b2 y ∧ x = y) (∃ x y, mem a1 b1 x ∧ mem a2 b2 y ∧ ¬ x = y) (kCe (nI a1) (nI b1) (nI a2) (nI b2)) := by
  unfold kCe
  by_cases q : kConf (nI a1) (nI b1) (nI a2) (nI b2) = 0
  · rw [if_pos q]
    have hS : ∃ x y, mem a1 b1 x ∧ mem a2 b2 y ∧ x = y := by
      obtain ⟨n, h1, h2⟩ := (cm_meet l1 m1 d1 l2 m2 d2 q).1
      exact ⟨n, n, h1, h2, rfl⟩
    by_cases c1 : b1 = 0
    · rw [if_pos ((nI_z m1).mpr c1)]
      by_cases c2 : b2 = 0
      · rw [if_pos ((nI_z m2).mpr c2)]
        refine Or.inl ⟨?_, rfl⟩
        rintro ⟨x, y, hx, hy, hne⟩
        obtain ⟨u, w, hu, hw, e⟩ := hS
        rw [c1, mem_0 l1] at hx hu
        rw [c2, mem_0 l2] at hy hw
        exact hne (by rw [hx, hy, ← hu, ← hw, e])
      · rw [if_neg (fun z => c2 ((nI_z m2).mp z))]
        obtain ⟨y, y1, y2⟩ := mem_two l2 m2 d2 c2 a1
        exact Or.inr (Or.inl ⟨⟨a1, y, mem_a l1, y1, Ne.symm y2⟩, hS, rfl⟩)
    · rw [if_neg (fun z => c1 ((nI_z m1).mp z))]
      obtain ⟨x, x1, x2⟩ := mem_two l1 m1 d1 c1 a2
      exact Or.inr (Or.inl ⟨⟨x, a2, x1, mem_a l2, x2⟩, hS, rfl⟩)
  · rw [if_neg q]
    have nS : ¬ ∃ x y, mem a1 b1 x ∧ mem a2 b2 y ∧ x = y := by
      rintro ⟨x, y, hx, hy, rfl⟩
      exact meet_no l1 l2 q x hx hy
    exact Or.inr (Or.inr ⟨⟨a1, a2, mem_a l1, mem_a l2, fun e => nS ⟨a1, a2, mem_a l1, mem_a l2, e⟩⟩, nS, rfl⟩)
theorem cl_ok (l1 : a1 < 64) (m1 : b1 < 64) (d1 : a1 &&& b1 = 0) (l2 : a2 < 64) (m2 : b2 < 64) (d2 : a2 &&& b2 = 0) : cpA (∃ x y, mem a1 b1 x ∧ mem a2 b2 y ∧ x + 1 ≤ y) (∃ x y, mem a1 b1 x ∧ mem a2 b2 y ∧ ¬ x + 1 ≤ y) (kCl (nI a1) (nI b1) (nI a2) (nI b2)) := by
  have g1 := or64 l1 m1
  have g2 := or64 l2 m2
  have e1 : nI a2 ≤ nI a1 ||| nI b1 ↔ a2 ≤ a1 ||| b1 := by rw [nx_or, nI_leI (by omega) (by omega)]
  have e2 : nI a1 < nI a2 ||| nI b2 ↔ a1 < a2 ||| b2 := by rw [nx_or, nI_ltI (by omega) (by omega)]
  unfold kCl
  by_cases q : a2 ≤ a1 ||| b1
  · rw [if_pos (e1.mpr q)]
    have hN : ∃ x y, mem a1 b1 x ∧ mem a2 b2 y ∧ ¬ x + 1 ≤ y := ⟨_, a2, mem_g l1 m1, mem_a l2, by omega⟩
    by_cases p : a1 < a2 ||| b2
    · rw [if_pos (e2.mpr p)]
      exact Or.inr (Or.inl ⟨hN, ⟨a1, _, mem_a l1, mem_g l2 m2, p⟩, rfl⟩)
    · rw [if_neg (fun z => p (e2.mp z))]
      refine Or.inr (Or.inr ⟨hN, ?_, rfl⟩)
      rintro ⟨x, y, hx, hy, h⟩
      have := mem_ge d1 hx
      have := mem_le hy
      omega
  · rw [if_neg (fun z => q (e1.mp z))]
    refine Or.inl ⟨?_, rfl⟩
    rintro ⟨x, y, hx, hy, h⟩
    have := mem_le hx
    have := mem_ge d2 hy
    omega
end CP
theorem law_cp {V M : kF} {r1 r2 a b c : Int32} (g : kGd V M) (h1 : r1 = kOpQ V M a b c) (h2 : mCp V M a b c r2) : r1 = r2 := by
  unfold kOpQ at h1
  unfold mCp at h2
  by_cases q1 : kR a
  · rw [if_pos q1] at h1 h2
    by_cases q2 : kR c
    · rw [if_pos q2] at h1 h2
      by_cases q3 : b < 0
      · rw [if_pos q3] at h1 h2; rw [h1, h2]
      · rw [if_neg q3] at h1 h2
        by_cases q4 : b ≤ 5
        · rw [if_pos q4] at h1 h2
          obtain ⟨a1, b1, l1, m1, d1, e1, e2⟩ := g a.toNatClampNeg
          obtain ⟨a2, b2, l2, m2, d2, e3, e4⟩ := g c.toNatClampNeg
          rw [e1, e2, e3, e4] at h1 h2
          rw [h1]
          unfold kCp
          have hce := ce_ok l1 m1 d1 l2 m2 d2
          have hcl := cl_ok l1 m1 d1 l2 m2 d2
          have hcg := cl_ok l2 m2 d2 l1 m1 d1
          have both : ∀ (P : Nat → Nat → Prop), (∃ x y, mem a1 b1 x ∧ mem a2 b2 y ∧ P x y) ∨ ∃ x y, mem a1 b1 x ∧ mem a2 b2 y ∧ ¬ P x y := fun P => by
            by_cases z : P a1 a2
            · exact Or.inl ⟨a1, a2, mem_a l1, mem_a l2, z⟩
            · exact Or.inr ⟨a1, a2, mem_a l1, mem_a l2, z⟩
          have sw : ∀ (P : Nat → Nat → Prop), (∃ x y, mem a2 b2 x ∧ mem a1 b1 y ∧ P x y) ↔ ∃ x y, mem a1 b1 x ∧ mem a2 b2 y ∧ P y x := fun P => ⟨fun ⟨x, y, z1, z2, z3⟩ => ⟨y, x, z2, z1, z3⟩, fun ⟨x, y, z1, z2, z3⟩ => ⟨y, x, z2, z1, z3⟩⟩
          have hcg := cpA_iff hcg (sw _) (sw _)
          have nn : ∀ (P Q : Nat → Nat → Prop), (∀ x y, P x y ↔ ¬ Q x y) → ((∃ x y, mem a1 b1 x ∧ mem a2 b2 y ∧ ¬ Q x y) ↔ ∃ x y, mem a1 b1 x ∧ mem a2 b2 y ∧ P x y) ∧ ((∃ x y, mem a1 b1 x ∧ mem a2 b2 y ∧ Q x y) ↔ ∃ x y, mem a1 b1 x ∧ mem a2 b2 y ∧ ¬ P x y) := fun P Q h => ⟨⟨fun ⟨x, y, z1, z2, z3⟩ => ⟨x, y, z1, z2, (h x y).mpr z3⟩, fun ⟨x, y, z1, z2, z3⟩ => ⟨x, y, z1, z2, (h x y).mp z3⟩⟩, ⟨fun ⟨x, y, z1, z2, z3⟩ => ⟨x, y, z1, z2, fun z => (h x y).mp z z3⟩, fun ⟨x, y, z1, z2, z3⟩ => ⟨x, y, z1, z2, Classical.not_not.mp (fun z => z3 ((h x y).mpr z))⟩⟩⟩
          rcases k05 q3 (Int32.not_lt.mpr q4) with rfl | rfl | rfl | rfl | rfl | rfl
          · rw [if_pos rfl]
            exact cpA_uniq hce (mcp_A l1 d1 l2 d2 (fun x y hx hy => ho0 hx hy) h2)
          · rw [if_neg (by decide), if_neg (by decide), if_pos rfl]
            exact cpA_uniq hcl (mcp_A l1 d1 l2 d2 (fun x y hx hy => ho1 hx hy) h2)
          · rw [if_neg (by decide), if_neg (by decide), if_neg (by decide), if_neg (by decide), if_neg (by decide)]
            obtain ⟨n1, n2⟩ := nn (fun x y => x + 0 ≤ y) (fun x y => y + 1 ≤ x) (fun x y => by omega)
            exact cpA_uniq (cpA_iff (cpA_flip (both _) hcg) n1 n2) (mcp_A l1 d1 l2 d2 (fun x y hx hy => ho2 hx hy) h2)
          · rw [if_neg (by decide), if_pos rfl]
            obtain ⟨n1, n2⟩ := nn (fun x y => x ≠ y) (fun x y => x = y) (fun x y => Iff.rfl)
            exact cpA_uniq (cpA_iff (cpA_flip (both _) hce) n1 n2) (mcp_A l1 d1 l2 d2 (fun x y hx hy => ho3 hx hy) h2)
          · rw [if_neg (by decide), if_neg (by decide), if_neg (by decide), if_pos rfl]
            obtain ⟨n1, n2⟩ := nn (fun x y => y + 0 ≤ x) (fun x y => x + 1 ≤ y) (fun x y => by omega)
            exact cpA_uniq (cpA_iff (cpA_flip (both _) hcl) n1 n2) (mcp_A l1 d1 l2 d2 (fun x y hx hy => ho4 hx hy) h2)
          · rw [if_neg (by decide), if_neg (by decide), if_neg (by decide), if_neg (by decide), if_pos rfl]
            exact cpA_uniq hcg (mcp_A l1 d1 l2 d2 (fun x y hx hy => ho5 hx hy) h2)
        · rw [if_neg q4] at h1 h2; rw [h1, h2]
    · rw [if_neg q2] at h1 h2; rw [h1, h2]
  · rw [if_neg q1] at h1 h2; rw [h1, h2]
end
section
/-! ===== the law of count ===== -/
/-- how many below n -/
def cn (p : Nat → Bool) : Nat → Nat
  | 0 => 0
  | n + 1 => cn p n + (p n).toNat
theorem cn_congr {p q : Nat → Bool} : ∀ n, (∀ i, i < n → p i = q i) → cn p n = cn q n := by
  intro n
  induction n with
  | zero => intro _; rfl
  | succ n ih =>
    intro h
    rw [cn, cn, ih (fun i hi => h i (by omega)), h n (by omega)]
theorem cn_add (p : Nat → Bool) (m : Nat) : ∀ n, cn p (m + n) = cn p m + cn (fun i => p (m + i)) n := by
  intro n
  induction n with
  | zero => rfl
  | succ n ih =>
    show cn p (m + n) + (p (m + n)).toNat = cn p m + (cn (fun i => p (m + i)) n + (p (m + n)).toNat)
    rw [ih]
    omega
theorem cn_no {p : Nat → Bool} : ∀ n, (∀ i, i < n → p i = false) → cn p n = 0 := by
  intro n
  induction n with
  | zero => intro _; rfl
  | succ n ih =>
    intro h
    rw [cn, ih (fun i hi => h i (by omega)), h n (by omega)]
    rfl
theorem cn_sum {p q s : Nat → Bool} : ∀ n, (∀ i, i < n → (p i).toNat = (q i).toNat + (s i).toNat) → cn p n = cn q n + cn s n := by
  intro n
  induction n with
  | zero => intro _; rfl
  | succ n ih =>
    intro h
    have h1 := ih (fun i hi => h i (by omega))
    have h2 := h n (by omega)
    rw [cn, cn, cn]
    omega
/-- the pattern's low bits -/
def ml (a b : Nat) : Nat → Nat → Bool
  | 0, _ => true
  | r + 1, y => (b.testBit r || (y.testBit r == a.testBit r)) && ml a b r y
theorem ml_ext {a b y z : Nat} : ∀ r, (∀ k, k < r → y.testBit k = z.testBit k) → ml a b r y = ml a b r z := by
  intro r
  induction r with
  | zero => intro _; rfl
  | succ r ih =>
    intro h
    rw [ml, ml, ih (fun k hk => h k (by omega)), h r (by omega)]
theorem ml_iff {a b y : Nat} : ∀ r, ml a b r y = true ↔ ∀ k, k < r → b.testBit k = false → y.testBit k = a.testBit k := by
  intro r
  induction r with
  | zero => exact ⟨fun _ k hk => absurd hk (Nat.not_lt_zero k), fun _ => rfl⟩
  | succ r ih =>
    rw [ml, Bool.and_eq_true, ih, Bool.or_eq_true, beq_iff_eq]
    constructor
    · rintro ⟨h1, h2⟩ k hk hb
      by_cases e : k = r
      · subst e
        rcases h1 with h1 | h1
        · rw [hb] at h1; exact absurd h1 (by decide)
        · exact h1
      · exact h2 k (by omega) hb
    · intro h
      refine ⟨?_, fun k hk => h k (by omega)⟩
      cases hb : b.testBit r
      · exact Or.inr (h r (by omega) hb)
      · exact Or.inl rfl
theorem mem_ml {a b y : Nat} (la : a < 64) (hy : y < 64) : mem a b y ↔ ml a b 6 y = true := by
  rw [ml_iff]
  constructor
  · intro h k _ hb; exact h.2 k hb
  · intro h
    refine ⟨hy, fun k hb => ?_⟩
    rcases Nat.lt_or_ge k 6 with q | q
    · exact h k q hb
    · rw [tb6 hy q, tb6 la q]
theorem ml_lo {a b r y : Nat} (h : y < 2 ^ r) : ml a b (r + 1) y = ((b.testBit r || (false == a.testBit r)) && ml a b r y) := by
  rw [ml, Nat.testBit_lt_two_pow h]
theorem ml_hi {a b r y : Nat} (h : y < 2 ^ r) : ml a b (r + 1) (2 ^ r + y) = ((b.testBit r || (true == a.testBit r)) && ml a b r y) := by
  rw [ml, Nat.testBit_two_pow_add_eq, Nat.testBit_lt_two_pow h, ml_ext r (fun k hk => Nat.testBit_two_pow_add_gt hk y)]
  rfl
def tB (b : Nat) : Nat → Nat
  | 0 => 1
  | r + 1 => if b.testBit r = true then tB b r + tB b r else tB b r
def rN (a b l : Nat) : Nat → Nat
  | 0 => 1
  | r + 1 => if b.testBit r = true then (if l.testBit r = true then tB b r + rN a b l r else rN a b l r) else if a.testBit r = l.testBit r then rN a b l r else if l.testBit r = true then tB b r else 0
theorem pw2 (r : Nat) : 2 ^ (r + 1) = 2 ^ r + 2 ^ r := by rw [Nat.pow_succ]; omega
theorem tB_cn (a b : Nat) : ∀ r, cn (ml a b r) (2 ^ r) = tB b r := by
  intro r
  induction r with
  | zero => rfl
  | succ r ih =>
    rw [pw2, cn_add, cn_congr (2 ^ r) (fun i hi => ml_lo hi), cn_congr (2 ^ r) (fun i hi => ml_hi hi), tB]
    have n0 : cn (fun _ => false) (2 ^ r) = 0 := cn_no _ (fun _ _ => rfl)
    have t1 : cn (fun y => ml a b r y) (2 ^ r) = tB b r := ih
    cases hb : b.testBit r <;> cases ha : a.testBit r <;> simp [n0, t1]
theorem mod_bit (l r : Nat) : l % 2 ^ (r + 1) = 2 ^ r * (l.testBit r).toNat + l % 2 ^ r := by
  rw [Nat.toNat_testBit, Nat.mod_pow_succ, Nat.add_comm]
theorem rN_cn (a b l : Nat) : ∀ r, cn (fun y => ml a b r y && decide (y ≤ l % 2 ^ r)) (2 ^ r) = rN a b l r := by
  intro r
  induction r with
  | zero =>
    show 0 + (true && decide (0 ≤ l % 2 ^ 0)).toNat = 1
    rw [decide_eq_true (Nat.zero_le _)]
    rfl
  | succ r ih =>
    have hm := Nat.mod_lt l (Nat.two_pow_pos r)
    have hl := mod_bit l r
    rw [pw2, cn_add]
    rw [← pw2]
    have lo : ∀ y, y < 2 ^ r → (ml a b (r + 1) y && decide (y ≤ l % 2 ^ (r + 1))) = ((b.testBit r || (false == a.testBit r)) && (ml a b r y && (l.testBit r || decide (y ≤ l % 2 ^ r)))) := by
      intro y hy
      rw [ml_lo hy, Bool.and_assoc]
      congr 2
      cases h : l.testBit r
      · rw [h] at hl
        simp only [Bool.toNat_false, Nat.mul_zero] at hl
        rw [hl, Bool.false_or, Nat.zero_add]
      · rw [h] at hl
        simp only [Bool.toNat_true, Nat.mul_one] at hl
        rw [decide_eq_true (by omega), Bool.true_or]
    have hi : ∀ y, y < 2 ^ r → (ml a b (r + 1) (2 ^ r + y) && decide (2 ^ r + y ≤ l % 2 ^ (r + 1))) = ((b.testBit r || (true == a.testBit r)) && (ml a b r y && (l.testBit r && decide (y ≤ l % 2 ^ r)))) := by
      intro y hy
      rw [ml_hi hy, Bool.and_assoc]
      congr 2
      cases h : l.testBit r
      · rw [h] at hl
        simp only [Bool.toNat_false, Nat.mul_zero] at hl
        rw [decide_eq_false (by omega), Bool.false_and]
      · rw [h] at hl
        simp only [Bool.toNat_true, Nat.mul_one] at hl
        rw [hl, Bool.true_and, decide_eq_decide]
        omega
    rw [cn_congr (2 ^ r) lo, cn_congr (2 ^ r) hi, rN]
    have n0 : cn (fun _ => false) (2 ^ r) = 0 := cn_no _ (fun _ _ => rfl)
    have t0 := tB_cn a b r
    have t1 : cn (fun y => ml a b r y) (2 ^ r) = tB b r := t0
    cases hb : b.testBit r <;> cases ha : a.testBit r <;> cases hll : l.testBit r <;> simp [n0, t1, ih]
/-! the code's words -/
theorem sb1 : ∀ l, l < 64 → ∀ r, r < 6 → (nI l >>> (nI r &&& 31)) &&& 1 = if l.testBit r = true then 1 else 0 := by decide +kernel
theorem below_nI : ∀ b, b < 64 → ∀ r, r < 6 → kBelow (nI b) r = nI (tB b r) := by decide +kernel
theorem all_nI : ∀ b, b < 64 → (1 : Int32) <<< (btF (nI b) 6 &&& 31) = nI (tB b 6) := by decide +kernel
theorem one_nI {l r : Nat} (hl : l < 64) (hr : r < 6) : kOne (nI l) r = if l.testBit r = true then 1 else 0 := by
  rw [kOne, sb1 l hl r hr]
  cases l.testBit r <;> rfl
theorem rkL_nI {a b l : Nat} (la : a < 64) (lb_ : b < 64) (ll : l < 64) : ∀ r n, r ≤ 6 → rkL (nI a) (nI b) (nI l) r (nI n) = nI (n + rN a b l r) := by
  intro r
  induction r with
  | zero => intro n _; exact nI_1 n
  | succ r ih =>
    intro n hr
    have h6 : r < 6 := by omega
    have i10 : ¬ (1 : Int32) = 0 := by decide
    have i01 : ¬ (0 : Int32) = 1 := by decide
    have i0 : rkL (nI a) (nI b) (nI l) r (nI n + 0) = nI (n + rN a b l r) := by
      rw [Int32.add_zero]; exact ih n (by omega)
    rw [rkL, rN, sb1 a la r h6, sb1 b lb_ r h6, one_nI ll h6, below_nI b lb_ r h6]
    cases hb : b.testBit r <;> cases ha : a.testBit r <;> cases hl : l.testBit r <;> simp only [Bool.false_eq_true, if_true, if_false, reduceCtorEq, nI_add, i0, ih _ (Nat.le_of_lt h6), Nat.add_assoc, Nat.add_zero, i10, i01]
/-- rank: how many up to L -/
theorem rk_ok {a b : Nat} (la : a < 64) (lb_ : b < 64) (L : Int32) : kRk (nI a) (nI b) L = nI (cn (fun i => ml a b 6 i && decide (nI i ≤ L)) 64) := by
  unfold kRk
  by_cases q : 0 ≤ L
  · rw [if_pos q]
    by_cases p : L ≤ 63
    · rw [if_pos p]
      obtain ⟨l, hl, rfl⟩ := nI_of2 (x := L) (M := 63) (n := 63) (by decide +kernel) (Int32.not_lt.mpr q) p
      have h := rkL_nI la lb_ (show l < 64 by omega) 6 0 (Nat.le_refl 6)
      rw [nI_0, Nat.zero_add, ← rN_cn] at h
      rw [h]
      congr 1
      refine cn_congr 64 (fun i hi => ?_)
      congr 1
      rw [decide_eq_decide, nI_leI (by omega) (by omega), Nat.mod_eq_of_lt (show l < 2 ^ 6 by omega)]
    · rw [if_neg p, all_nI b lb_, ← tB_cn a b 6]
      congr 1
      refine cn_congr 64 (fun i hi => ?_)
      have h : nI i ≤ L := by
        rw [Int32.le_iff_toInt_le, i63] at p
        rw [Int32.le_iff_toInt_le, nI_toInt (by omega)]
        omega
      rw [decide_eq_true h, Bool.and_true]
  · rw [if_neg q, cn_no 64 (fun i hi => ?_)]
    · rfl
    · have h : ¬ nI i ≤ L := fun z => q (Int32.le_trans (nI_pos' (by omega)) z)
      rw [decide_eq_false h, Bool.and_false]
theorem ct_cn {a b : Nat} (la : a < 64) (d : a &&& b = 0) (lo hi : Int32) : ∀ n, n ≤ 64 → ctF (nI a) (nI b) lo hi n = cn (fun i => ml a b 6 i && (decide (lo ≤ nI i) && decide (nI i ≤ hi))) n := by
  intro n
  induction n with
  | zero => intro _; rfl
  | succ n ih =>
    intro h
    have e : kIn (nI a) (nI b) (nI n) ↔ ml a b 6 n = true := (kIn_iff la d (by omega)).trans (mem_ml la (by omega))
    rw [ctF, cn, ih (by omega)]
    by_cases q : ml a b 6 n = true
    · rw [if_pos (e.mpr q), q]
      by_cases p : nI n < lo
      · rw [if_pos p, decide_eq_false (Int32.not_le.mpr p)]; rfl
      · rw [if_neg p, decide_eq_true (Int32.not_lt.mp p)]
        by_cases p2 : hi < nI n
        · rw [if_pos p2, decide_eq_false (Int32.not_le.mpr p2)]; rfl
        · rw [if_neg p2, decide_eq_true (Int32.not_lt.mp p2)]; rfl
    · rw [if_neg (fun z => q (e.mp z)), Bool.eq_false_iff.mpr q]; rfl
theorem law_ct {V M : kF} {r1 r2 a b c : Int32} (g : kGd V M) (h1 : r1 = kOpK V M a b c) (h2 : r2 = if kR a then nI (ctF (V a.toNatClampNeg) (M a.toNatClampNeg) b c 64) else -1) : r1 = r2 := by
  unfold kOpK at h1
  by_cases q1 : kR a
  · rw [if_pos q1] at h1 h2
    obtain ⟨x, y, lx, ly, d, e1, e2⟩ := g a.toNatClampNeg
    rw [e1, e2] at h1 h2
    rw [ct_cn lx d b c 64 (Nat.le_refl 64)] at h2
    rw [h1, h2]
    by_cases q : b ≤ c
    · rw [if_pos q]
      by_cases p : 0 < b
      · rw [if_pos p, rk_ok lx ly, rk_ok lx ly]
        have eb : (b - 1).toInt = b.toInt - 1 := by
          obtain ⟨j, hj, rfl⟩ := nI_of (x := b) (fun z => absurd (Int32.lt_trans z p) (Int32.lt_irrefl))
          rw [Int32.lt_iff_toInt_lt, nI_toInt hj] at p
          have p : (0 : Int) < j := p
          rw [show (1 : Int32) = nI 1 from rfl, pk_sub (by omega), nI_toInt (by omega), nI_toInt hj]
          omega
        have h := cn_sum (p := fun i => ml x y 6 i && decide (nI i ≤ c)) (q := fun i => ml x y 6 i && (decide (b ≤ nI i) && decide (nI i ≤ c))) (s := fun i => ml x y 6 i && decide (nI i ≤ b - 1)) 64 (fun i hi => by
          cases ml x y 6 i
          · rfl
          · simp only [Bool.true_and]
            by_cases z : b ≤ nI i
            · have z2 : ¬ nI i ≤ b - 1 := by
                rw [Int32.le_iff_toInt_le] at z ⊢
                omega
              rw [decide_eq_true z, decide_eq_false z2, Bool.true_and]
              rfl
            · have z2 : nI i ≤ b - 1 := by
                rw [Int32.le_iff_toInt_le] at z ⊢
                omega
              have z3 : nI i ≤ c := by
                rw [Int32.le_iff_toInt_le] at z q ⊢
                omega
              rw [decide_eq_false z, decide_eq_true z2, decide_eq_true z3]
              rfl)
        rw [h, pk_sub (by omega), Nat.add_sub_cancel]
      · rw [if_neg p, rk_ok lx ly]
        congr 1
        refine cn_congr 64 (fun i hi => ?_)
        have z : b ≤ nI i := Int32.le_trans (Int32.not_lt.mp p) (nI_pos' (by omega))
        rw [decide_eq_true z, Bool.true_and]
    · rw [if_neg q, cn_no 64 (fun i hi => ?_)]
      · rfl
      · by_cases z : b ≤ nI i
        · have z2 : ¬ nI i ≤ c := fun z3 => q (Int32.le_trans z z3)
          rw [decide_eq_false z2, Bool.and_false, Bool.and_false]
        · rw [decide_eq_false z, Bool.false_and, Bool.and_false]
  · rw [if_neg q1] at h1 h2; rw [h1, h2]
end
section
/-! THE CLAIM OUT OF ONE WALK OF THE LAW'S BODY. Your part is whole_start (and what it stands on); all else here is the same for every law, but numbers. -/
def R_law : String := "KnownBitsLaw"
def lw_P (b : Addr) (xs : List Int32) (args : Array Value) (s : State) : Prop := args = #[.ref b] ∧ s.IntsAt b xs ∧ xs.length ≤ 320 ∧ (Jvm.Cond.and given_1 narrow_1).before args s = true
def lw_Q (_ : Array Value) (s : State) (o : Outcome) (t : State) : Prop := o = .returned (some (.int 1)) ∧ Framed s o t [] 600000 7290000
def lw_Z (below : List Frame) (a : Array Value) (s : State) : State → Prop := fun t => ∃ o, t.status = .running ∧ Ended t below o ∧ lw_Q a s o t
/-- the law's own end, with 1 on the stack, nothing written that was there before, its room as the claim has it -/
theorem lw_ret {p : Program} {l : Launch} {e : Env} {s : State} {m : MethodId} {below : List Frame} {meth : Method} {c : Code} {b : Nat} (hx : p.tables.exec = Jvm.exec) (hb : c.code = code) (hr : meth.sig.returnType = ret) (hlocks : meth.locks = false) {pc : Nat} {H : Heap} {ls : Array Slot} (hdg : decode code pc = .ok (.ireturn, 1)) : W p l e room_1 s m #[Value.ref b] below meth c H [] 600000 7290000 (lw_Z below #[Value.ref b] s) (F0 m pc ls [.int 1]) := by
  intro T hT X
  obtain ⟨fs, hret, hrun, hended, hW, hframe⟩ := X.leave (v := some (.int 1)) (hlocks := hlocks) (fun h => by rw [hr] at h; cases h)
  have hmeth' : T.vm.method? m = some meth := X.method'
  refine ⟨T.setFrames fs, ?_, .returned (some (.int 1)), hrun, hended, rfl, ⟨_, rfl⟩, hW, hframe⟩
  jvm_step X.here [X.here.top, hx, hb, hdg, hmeth', hr, ret, narrow_b1]
  (try refine ⟨rfl, ?_⟩); (try refine ⟨rfl, ?_⟩)
  first | (intro acts; rw [hret _ acts rfl rfl rfl]) | rw [hret _ _ rfl rfl rfl]
  exact Steps.refl _
/-- what holds at the law's entry: the machine, the code, the tables' words (any of lw_tbl by 'hts w (by decide +kernel)'), the script of L ints xs at the cell b, what the Statement gives of the start (any of its parts by flat_of_before) -/
def lw_At (p : Program) (s : State) (m : MethodId) (meth : Method) (c : Code) (b L : Nat) (xs : Nat → Int32) : Prop :=
  p.tables.exec = Jvm.exec ∧ c.code = code ∧ meth.sig.returnType = ret ∧ c.maxLocals = 4 ∧ s.vm.findClass R_law = some m.cls ∧ (∀ w ∈ lw_tbl, w.before #[Value.ref b] s = true) ∧ va_X b L xs s s.heap ∧ b < s.heap.size ∧ meth.locks = false ∧ (Jvm.Cond.and given_1 narrow_1).before #[Value.ref b] s = true
/-! ===== the law: two objects, one state ===== -/
abbrev lwW (x0 xv xm : Nat) (d1 d2 : ClassId) (V M : kF) (nv nm : Int32) (y0 yv ym : Nat) (f1 f2 : ClassId) (V' M' : kF) : va_W := [(x0, .inr (0, [.ref xv, .ref xm, .int nv, .int nm])), (xv, .inl (d1, 6, .inl V)), (xm, .inl (d2, 6, .inl M)), (y0, .inr (1, [.ref yv, .ref ym])), (yv, .inl (f1, 6, .inl V')), (ym, .inl (f2, 6, .inl M'))]
abbrev lwT (d1 d2 f1 f2 : ClassId) : List (ClassId × FieldType) := [(d1, .int), (d2, .int), (f1, .int), (f2, .int)]
section LWJ
variable {x0 xv xm y0 yv ym : Nat} {d1 d2 f1 f2 : ClassId} {V M V' M' V1 M1 : kF} {nv nm nv1 nm1 : Int32} {D : va_G} {A : Nat → Prop} {H0 H H1 : Heap} {locs : List Loc}
theorem law_frK (hD : va_D A (lwW x0 xv xm d1 d2 V M nv nm y0 yv ym f1 f2 V' M')) (hS : va_S A H0 H locs) (hA : ∀ q, H0.size ≤ q → A q) : ∀ q, kA x0 xv xm H.size q → A q := fun q h => va_free (wc := kbW x0 xv xm d1 d2 V M nv nm) hD hS hA [0, 1, 2] rfl q ((kA_vb q).mpr h)
theorem law_frM (hD : va_D A (lwW x0 xv xm d1 d2 V M nv nm y0 yv ym f1 f2 V' M')) (hS : va_S A H0 H locs) (hA : ∀ q, H0.size ≤ q → A q) : ∀ q, kA y0 yv ym H.size q → A q := fun q h => va_free (wc := mdW y0 yv ym f1 f2 V' M') hD hS hA [3, 4, 5] rfl q ((kA_vm q).mpr h)
theorem law_jnK (hP : va_P D vwCl (lwW x0 xv xm d1 d2 V M nv nm y0 yv ym f1 f2 V' M') H) (hD : va_D A (lwW x0 xv xm d1 d2 V M nv nm y0 yv ym f1 f2 V' M')) (hk : ∀ q : Nat, q < H.size → ¬ kA x0 xv xm H.size q → H1[q]? = H[q]?) (hF : ∀ q, kA x0 xv xm H.size q → A q) (hP1 : va_P D vwCl (kbW x0 xv xm d1 d2 V1 M1 nv1 nm1) H1) (hD1 : va_D (kA x0 xv xm H.size) (kbW x0 xv xm d1 d2 V1 M1 nv1 nm1)) : va_P D vwCl (lwW x0 xv xm d1 d2 V1 M1 nv1 nm1 y0 yv ym f1 f2 V' M') H1 ∧ va_D A (lwW x0 xv xm d1 d2 V1 M1 nv1 nm1 y0 yv ym f1 f2 V' M') := by
  obtain ⟨h1, h2⟩ := va_join (wc := kbW x0 xv xm d1 d2 V M nv nm) (wr := mdW y0 yv ym f1 f2 V' M') (w1 := kbW x0 xv xm d1 d2 V1 M1 nv1 nm1) hP hD [0, 1, 2] [3, 4, 5] rfl rfl (by decide) (by decide) (fun q a b => hk q a (fun z => b ((kA_vb q).mpr z))) (fun q h => hF q ((kA_vb q).mp h)) hP1 (hD1.weaken (fun _ q _ h => (kA_vb q.1).mpr h))
  exact ⟨h1.sub [3, 4, 5, 0, 1, 2] rfl, h2.sub [3, 4, 5, 0, 1, 2] (by decide) rfl⟩
theorem law_jnM (hP : va_P D vwCl (lwW x0 xv xm d1 d2 V M nv nm y0 yv ym f1 f2 V' M') H) (hD : va_D A (lwW x0 xv xm d1 d2 V M nv nm y0 yv ym f1 f2 V' M')) (hk : ∀ q : Nat, q < H.size → ¬ kA y0 yv ym H.size q → H1[q]? = H[q]?) (hF : ∀ q, kA y0 yv ym H.size q → A q) (hP1 : va_P D vwCl (mdW y0 yv ym f1 f2 V1 M1) H1) (hD1 : va_D (kA y0 yv ym H.size) (mdW y0 yv ym f1 f2 V1 M1)) : va_P D vwCl (lwW x0 xv xm d1 d2 V M nv nm y0 yv ym f1 f2 V1 M1) H1 ∧ va_D A (lwW x0 xv xm d1 d2 V M nv nm y0 yv ym f1 f2 V1 M1) := by
  obtain ⟨h1, h2⟩ := va_join (wc := mdW y0 yv ym f1 f2 V' M') (wr := kbW x0 xv xm d1 d2 V M nv nm) (w1 := mdW y0 yv ym f1 f2 V1 M1) hP hD [3, 4, 5] [0, 1, 2] rfl rfl (by decide) (by decide) (fun q a b => hk q a (fun z => b ((kA_vm q).mpr z))) (fun q h => hF q ((kA_vm q).mp h)) hP1 (hD1.weaken (fun _ q _ h => (kA_vm q.1).mpr h))
  exact ⟨h1.sub [0, 1, 2, 3, 4, 5] rfl, h2.sub [0, 1, 2, 3, 4, 5] (by decide) rfl⟩
end LWJ
theorem law_inc (i : Nat) : nI (5 * i) + Int32.ofInt 5 = nI (5 * (i + 1)) := by
  rw [show Int32.ofInt 5 = nI 5 from rfl, nI_add, Nat.mul_succ]
theorem law_inD {i L : Nat} (k : Nat) (hk : k < 5) (hi : i < L / 5) (hL : L ≤ 320) : vp_in (nI (5 * i) + nI k) L := by
  rw [nI_add]
  exact vp_in_nI (by omega) (by omega)
theorem law_in0 {i L : Nat} (hi : i < L / 5) (hL : L ≤ 320) : vp_in (nI (5 * i)) L := vp_in_nI (by omega) (by omega)
theorem law_in1 {i L : Nat} (hi : i < L / 5) (hL : L ≤ 320) : vp_in (nI (5 * i) + 1) L := law_inD 1 (by decide) hi hL
theorem law_in2 {i L : Nat} (hi : i < L / 5) (hL : L ≤ 320) : vp_in (nI (5 * i) + 2) L := law_inD 2 (by decide) hi hL
theorem law_in3 {i L : Nat} (hi : i < L / 5) (hL : L ≤ 320) : vp_in (nI (5 * i) + 3) L := law_inD 3 (by decide) hi hL
theorem law_in4 {i L : Nat} (hi : i < L / 5) (hL : L ≤ 320) : vp_in (nI (5 * i) + 4) L := law_inD 4 (by decide) hi hL
theorem law_lim {L : Nat} (hL : L ≤ 320) : (nI L - 5).toInt = (L : Int) - 5 := by
  rw [show (5 : Int32) = nI 5 from rfl]
  exact pk_sub_toInt (by omega) (by omega)
theorem law_go {i L : Nat} (hi : i < L / 5) (hL : L ≤ 320) : ¬ nI L - 5 < nI (5 * i) := by
  rw [Int32.lt_iff_toInt_lt, law_lim hL, nI_toInt (by omega)]
  omega
theorem law_stop {L : Nat} (hL : L ≤ 320) : nI L - 5 < nI (5 * (L / 5)) := by
  rw [Int32.lt_iff_toInt_lt, law_lim hL, nI_toInt (by omega)]
  omega
set_option maxHeartbeats 8000000 in
set_option maxRecDepth 100000 in
/-- the law's loop, from its head -/
theorem law_loop {p : Program} {e : Env} {s : State} {m : MethodId} {below : List Frame} {meth : Method} {c : Code} (l : Launch) {b L : Nat} {xs : Nat → Int32} (hL : L ≤ 320) (C0 : lw_At p s m meth c b L xs) {dC : Nat → ClassId} {dI : Nat → Nat → Nat} {x0 xv xm y0 yv ym : Nat} {d1 d2 f1 f2 : ClassId} (hK : va_K (dC, dI) vwCl (lwT d1 d2 f1 f2) s) : ∀ (i : Nat) (a : kSt) (ls : Array Slot) (H : Heap) (locs : List Loc), i ≤ L / 5 → kGd a.1 a.2.1 → lv_has ls 4 [(3, .int (nI (5 * i))), (0, .ref b), (1, .ref x0), (2, .ref y0)] → va_P (dC, dI) vwCl (lwW x0 xv xm d1 d2 a.1 a.2.1 a.2.2.1 a.2.2.2 y0 yv ym f1 f2 a.1 a.2.1) H → va_D (fun q : Nat => s.heap.size ≤ q) (lwW x0 xv xm d1 d2 a.1 a.2.1 a.2.2.1 a.2.2.2 y0 yv ym f1 f2 a.1 a.2.1) → va_S (fun q : Nat => s.heap.size ≤ q) s.heap H locs → W p l e room_1 s m #[Value.ref b] below meth c H locs 6 30 (lw_Z below #[Value.ref b] s) (F0 m 18 ls []) := by
  obtain ⟨hx, hb, hr, hml, hown, hts0, hX, hbl, hlocks, hgv⟩ := id C0
  have hts : ∀ w ∈ lw_all, w.before #[Value.ref b] s = true := fun w h => hts0 w (lw_all_tbl h)
  have hA : ∀ q : Nat, s.heap.size ≤ q → (fun q : Nat => s.heap.size ≤ q) q := fun _ h => h
  have hbA : ¬ (fun q : Nat => s.heap.size ≤ q) b := Nat.not_le.mpr hbl
  refine kupH (α := kSt) (L / 5) (fun _ a_ => kGd a_.1 a_.2.1) (fun i_ _ => [(3, .int (nI (5 * i_))), (0, .ref b), (1, .ref x0), (2, .ref y0)]) (fun a_ => lwW x0 xv xm d1 d2 a_.1 a_.2.1 a_.2.2.1 a_.2.2.2 y0 yv ym f1 f2 a_.1 a_.2.1) (fun a_ ls H locs hI_ hl hP hD hS => ?_) (fun i_ a_ ls H locs hi_ hI_ hl hP hD hS K_ => ?_)
  · have hl : lv_has ls 4 [(3, .int (nI (5 * (L / 5)))), (0, .ref b), (1, .ref x0), (2, .ref y0)] := hl
    refine lv_iload_n hx hb dL_law_18 rfl (lv_at hl 0 rfl) ?_
    refine lv_aload_n hx hb dL_law_19 rfl (lv_at hl 1 rfl) ?_
    refine va_slen hx hb hX hbl hbA hS dL_law_20 ?_
    refine lv_iconst (v := 5) hx hb dL_law_21 (by decide +kernel) ?_
    refine lv_isub hx hb dL_law_22 ?_
    refine lv_icmp_gt (tgt := 484) hx hb dL_law_23 (by decide) (fun _ => ?_) (fun c_ => absurd (law_stop hL) c_)
    refine lv_iconst (v := 1) hx hb dL_law_484 (by decide +kernel) ?_
    refine va_forget (fun q hq => hS.2.2 q hq) ?_
    refine W.widen (k := 600000) (n := 7290000) (by decide) (by decide) ?_
    exact lw_ret hx hb hr hlocks dL_law_485
  · obtain ⟨V, M, nv, nm⟩ := a_
    have hI_ : kGd V M := hI_
    have hl : lv_has ls 4 [(3, .int (nI (5 * i_))), (0, .ref b), (1, .ref x0), (2, .ref y0)] := hl
    have hP : va_P (dC, dI) vwCl (lwW x0 xv xm d1 d2 V M nv nm y0 yv ym f1 f2 V M) H := hP
    have hD : va_D (fun q : Nat => s.heap.size ≤ q) (lwW x0 xv xm d1 d2 V M nv nm y0 yv ym f1 f2 V M) := hD
    refine lv_iload_n hx hb dL_law_18 rfl (lv_at hl 0 rfl) ?_
    refine lv_aload_n hx hb dL_law_19 rfl (lv_at hl 1 rfl) ?_
    refine va_slen hx hb hX hbl hbA hS dL_law_20 ?_
    refine lv_iconst (v := 5) hx hb dL_law_21 (by decide +kernel) ?_
    refine lv_isub hx hb dL_law_22 ?_
    refine lv_icmp_gt (tgt := 484) hx hb dL_law_23 (by decide) (fun c_ => absurd c_ (law_go hi_ hL)) (fun _ => ?_)
    refine lv_aload_n hx hb dL_law_26 rfl (lv_at hl 1 rfl) ?_
    refine lv_iload_n hx hb dL_law_27 rfl (lv_at hl 0 rfl) ?_
    refine va_sld hx hb hX hbl hbA hS (law_in0 hi_ hL) dL_law_28 ?_
    refine lv_bipush (v := 15) hx hb dL_law_29 (by decide +kernel) ?_
    refine lv_iand hx hb dL_law_31 ?_
    obtain ⟨j_, hj_, ej_⟩ := pk_andE (xs (nI (5 * i_)).toNatClampNeg) (m := 15) 4 (by decide +kernel)
    rw [ej_]
    have hj_ : j_ < 16 := hj_
    rcases (show j_ = 0 ∨ j_ = 1 ∨ j_ = 2 ∨ j_ = 3 ∨ j_ = 4 ∨ j_ = 5 ∨ j_ = 6 ∨ j_ = 7 ∨ j_ = 8 ∨ j_ = 9 ∨ 10 ≤ j_ by omega) with e_ | e_ | e_ | e_ | e_ | e_ | e_ | e_ | e_ | e_ | e_
    · rw [e_]
      refine lv_tableIn (off := 56) (tgt := 88) hx hb dL_law_32 (by decide +kernel) (by decide +kernel) (by decide +kernel) (by decide) ?_
      refine lv_aload_n hx hb dL_law_88 rfl (lv_at hl 2 rfl) ?_
      refine lv_aload_n hx hb dL_law_89 rfl (lv_at hl 1 rfl) ?_
      refine lv_iload_n hx hb dL_law_90 rfl (lv_at hl 0 rfl) ?_
      refine lv_iconst (v := 1) hx hb dL_law_91 (by decide +kernel) ?_
      refine lv_iadd hx hb dL_law_92 ?_
      refine va_sld hx hb hX hbl hbA hS (law_in1 hi_ hL) dL_law_93 ?_
      refine lv_aload_n hx hb dL_law_94 rfl (lv_at hl 1 rfl) ?_
      refine lv_iload_n hx hb dL_law_95 rfl (lv_at hl 0 rfl) ?_
      refine lv_iconst (v := 2) hx hb dL_law_96 (by decide +kernel) ?_
      refine lv_iadd hx hb dL_law_97 ?_
      refine va_sld hx hb hX hbl hbA hS (law_in2 hi_ hL) dL_law_98 ?_
      refine lv_aload_n hx hb dL_law_99 rfl (lv_at hl 1 rfl) ?_
      refine lv_iload_n hx hb dL_law_100 rfl (lv_at hl 0 rfl) ?_
      refine lv_iconst (v := 3) hx hb dL_law_101 (by decide +kernel) ?_
      refine lv_iadd hx hb dL_law_102 ?_
      refine va_sld hx hb hX hbl hbA hS (law_in3 hi_ hL) dL_law_103 ?_
      have hPc := hP.sub (ws' := kbW x0 xv xm d1 d2 V M nv nm) [0, 1, 2] rfl
      have hKc := hK.sub (tys' := kTy d1 d2) [0, 1] rfl
      have hDc := hD.sub (ws' := kbW x0 xv xm d1 d2 V M nv nm) [0, 1, 2] (by decide) rfl
      have hFc := law_frK hD hS hA
      refine va_calli (va_runV (As := [.int (xs (nI (5 * i_) + 1).toNatClampNeg), .int (xs (nI (5 * i_) + 2).toNatClampNeg), .int (xs (nI (5 * i_) + 3).toNatClampNeg)]) (rest := []) ⟨hx, hb, hml, hown, hts⟩ (metX0_set l dC dI x0 xv xm d1 d2 H.size V M nv nm (xs (nI (5 * i_) + 1).toNatClampNeg) (xs (nI (5 * i_) + 2).toNatClampNeg) (xs (nI (5 * i_) + 3).toNatClampNeg)) (cwV 3 hts (lw_V q40 q41 q42 q16 q43) rfl rfl rfl (by decide +kernel) ⟨Nat.le_of_ble_eq_true rfl, Nat.le_of_ble_eq_true rfl⟩) ⟨kb_blindW, va_recv hKc hPc (ci := 0) (q0 := 0) rfl rfl, fun U hU hW => ⟨rfl, by rw [hU], by rw [hU]; exact hPc, va_K.moved hW.alike hKc, hDc.weaken (fun _ _ _ _ => trivial)⟩⟩ rfl rfl hl.1 rfl (lv_room (Nat.le_of_ble_eq_true rfl)) dL_law_104 ⟨Nat.le_of_ble_eq_true rfl, Nat.le_of_ble_eq_true rfl⟩) hS (fun q _ h => hFc q h) hFc (fun r1 u t H1 locs ht hvm hw1 hB hz1 hk1 hS => ?_)
      obtain ⟨V1, M1, nv1, nm1⟩ := u
      obtain ⟨hP1, hK1, hD1⟩ := hB
      rw [ht] at hP1
      obtain ⟨hP, hD⟩ := law_jnK hP hD hk1 hFc hP1 hD1
      generalize H1 = H at hP hS ⊢
      have hP : va_P (dC, dI) vwCl (lwW x0 xv xm d1 d2 V1 M1 nv1 nm1 y0 yv ym f1 f2 V M) H := hP
      have hD : va_D (fun q : Nat => s.heap.size ≤ q) (lwW x0 xv xm d1 d2 V1 M1 nv1 nm1 y0 yv ym f1 f2 V M) := hD
      refine lv_aload_n hx hb dL_law_107 rfl (lv_at hl 3 rfl) ?_
      refine lv_aload_n hx hb dL_law_108 rfl (lv_at hl 1 rfl) ?_
      refine lv_iload_n hx hb dL_law_109 rfl (lv_at hl 0 rfl) ?_
      refine lv_iconst (v := 1) hx hb dL_law_110 (by decide +kernel) ?_
      refine lv_iadd hx hb dL_law_111 ?_
      refine va_sld hx hb hX hbl hbA hS (law_in1 hi_ hL) dL_law_112 ?_
      refine lv_aload_n hx hb dL_law_113 rfl (lv_at hl 1 rfl) ?_
      refine lv_iload_n hx hb dL_law_114 rfl (lv_at hl 0 rfl) ?_
      refine lv_iconst (v := 2) hx hb dL_law_115 (by decide +kernel) ?_
      refine lv_iadd hx hb dL_law_116 ?_
      refine va_sld hx hb hX hbl hbA hS (law_in2 hi_ hL) dL_law_117 ?_
      refine lv_aload_n hx hb dL_law_118 rfl (lv_at hl 1 rfl) ?_
      refine lv_iload_n hx hb dL_law_119 rfl (lv_at hl 0 rfl) ?_
      refine lv_iconst (v := 3) hx hb dL_law_120 (by decide +kernel) ?_
      refine lv_iadd hx hb dL_law_121 ?_
      refine va_sld hx hb hX hbl hbA hS (law_in3 hi_ hL) dL_law_122 ?_
      have hPc := hP.sub (ws' := mdW y0 yv ym f1 f2 V M) [3, 4, 5] rfl
      have hKc := hK.sub (tys' := kTy f1 f2) [2, 3] rfl
      have hDc := hD.sub (ws' := mdW y0 yv ym f1 f2 V M) [3, 4, 5] (by decide) rfl
      have hFc := law_frM hD hS hA
      refine va_calli (va_runV (As := [.int (xs (nI (5 * i_) + 1).toNatClampNeg), .int (xs (nI (5 * i_) + 2).toNatClampNeg), .int (xs (nI (5 * i_) + 3).toNatClampNeg)]) (rest := [.int r1]) ⟨hx, hb, hml, hown, hts⟩ (metX1_set l dC dI y0 yv ym f1 f2 H.size V M (xs (nI (5 * i_) + 1).toNatClampNeg) (xs (nI (5 * i_) + 2).toNatClampNeg) (xs (nI (5 * i_) + 3).toNatClampNeg)) (cwV 3 hts (lw_V q151 q152 q153 q17 q154) rfl rfl rfl (by decide +kernel) ⟨Nat.le_of_ble_eq_true rfl, Nat.le_of_ble_eq_true rfl⟩) ⟨kb_blindW, va_recv hKc hPc (ci := 1) (q0 := 0) rfl rfl, fun U hU hW => ⟨rfl, by rw [hU], by rw [hU]; exact hPc, va_K.moved hW.alike hKc, hDc.weaken (fun _ _ _ _ => trivial)⟩⟩ rfl rfl hl.1 rfl (lv_room (Nat.le_of_ble_eq_true rfl)) dL_law_123 ⟨Nat.le_of_ble_eq_true rfl, Nat.le_of_ble_eq_true rfl⟩) hS (fun q _ h => hFc q h) hFc (fun r2 u t H1 locs ht hvm hw2 hB hz1 hk1 hS => ?_)
      obtain ⟨V2, M2⟩ := u
      obtain ⟨hP1, hK1, hD1⟩ := hB
      rw [ht] at hP1
      obtain ⟨hP, hD⟩ := law_jnM hP hD hk1 hFc hP1 hD1
      generalize H1 = H at hP hS ⊢
      obtain ⟨hE, e1, e2, hG⟩ := law_set hI_ hw1 hw2
      refine lv_icmp_eq (tgt := 478) hx hb dL_law_126 (by decide) (fun _ => ?_) (fun c_ => absurd hE c_)
      refine lv_iinc (v := nI (5 * (i_ + 1))) (lv' := [(3, .int (nI (5 * (i_ + 1)))), (0, .ref b), (1, .ref x0), (2, .ref y0)]) hx hb dL_law_478 hl (k := 0) rfl (law_inc i_) (by decide) rfl (fun ls hl => ?_)
      refine lv_goto (tgt := 18) hx hb dL_law_481 (by decide) ?_
      have e1 : V1 = V2 := e1
      have e2 : M1 = M2 := e2
      subst e1
      subst e2
      exact K_ (V1, M1, nv1, nm1) ls H locs hG hl hP hD hS
    · rw [e_]
      refine lv_tableIn (off := 99) (tgt := 131) hx hb dL_law_32 (by decide +kernel) (by decide +kernel) (by decide +kernel) (by decide) ?_
      refine lv_aload_n hx hb dL_law_131 rfl (lv_at hl 2 rfl) ?_
      refine lv_aload_n hx hb dL_law_132 rfl (lv_at hl 1 rfl) ?_
      refine lv_iload_n hx hb dL_law_133 rfl (lv_at hl 0 rfl) ?_
      refine lv_iconst (v := 1) hx hb dL_law_134 (by decide +kernel) ?_
      refine lv_iadd hx hb dL_law_135 ?_
      refine va_sld hx hb hX hbl hbA hS (law_in1 hi_ hL) dL_law_136 ?_
      refine lv_aload_n hx hb dL_law_137 rfl (lv_at hl 1 rfl) ?_
      refine lv_iload_n hx hb dL_law_138 rfl (lv_at hl 0 rfl) ?_
      refine lv_iconst (v := 2) hx hb dL_law_139 (by decide +kernel) ?_
      refine lv_iadd hx hb dL_law_140 ?_
      refine va_sld hx hb hX hbl hbA hS (law_in2 hi_ hL) dL_law_141 ?_
      refine lv_aload_n hx hb dL_law_142 rfl (lv_at hl 1 rfl) ?_
      refine lv_iload_n hx hb dL_law_143 rfl (lv_at hl 0 rfl) ?_
      refine lv_iconst (v := 3) hx hb dL_law_144 (by decide +kernel) ?_
      refine lv_iadd hx hb dL_law_145 ?_
      refine va_sld hx hb hX hbl hbA hS (law_in3 hi_ hL) dL_law_146 ?_
      refine lv_aload_n hx hb dL_law_147 rfl (lv_at hl 1 rfl) ?_
      refine lv_iload_n hx hb dL_law_148 rfl (lv_at hl 0 rfl) ?_
      refine lv_iconst (v := 4) hx hb dL_law_149 (by decide +kernel) ?_
      refine lv_iadd hx hb dL_law_150 ?_
      refine va_sld hx hb hX hbl hbA hS (law_in4 hi_ hL) dL_law_151 ?_
      have hPc := hP.sub (ws' := kbW x0 xv xm d1 d2 V M nv nm) [0, 1, 2] rfl
      have hKc := hK.sub (tys' := kTy d1 d2) [0, 1] rfl
      have hDc := hD.sub (ws' := kbW x0 xv xm d1 d2 V M nv nm) [0, 1, 2] (by decide) rfl
      have hFc := law_frK hD hS hA
      refine va_calli (va_runV (As := [.int (xs (nI (5 * i_) + 1).toNatClampNeg), .int (xs (nI (5 * i_) + 2).toNatClampNeg), .int (xs (nI (5 * i_) + 3).toNatClampNeg), .int (xs (nI (5 * i_) + 4).toNatClampNeg)]) (rest := []) ⟨hx, hb, hml, hown, hts⟩ (metX0_combine l dC dI x0 xv xm d1 d2 H.size V M nv nm (xs (nI (5 * i_) + 1).toNatClampNeg) (xs (nI (5 * i_) + 2).toNatClampNeg) (xs (nI (5 * i_) + 3).toNatClampNeg) (xs (nI (5 * i_) + 4).toNatClampNeg)) (cwV 4 hts (lw_V q47 q48 q49 q16 q50) rfl rfl rfl (by decide +kernel) ⟨Nat.le_of_ble_eq_true rfl, Nat.le_of_ble_eq_true rfl⟩) ⟨kb_blindW, va_recv hKc hPc (ci := 0) (q0 := 0) rfl rfl, fun U hU hW => ⟨rfl, by rw [hU], by rw [hU]; exact hPc, va_K.moved hW.alike hKc, hDc.weaken (fun _ _ _ _ => trivial)⟩⟩ rfl rfl hl.1 rfl (lv_room (Nat.le_of_ble_eq_true rfl)) dL_law_152 ⟨Nat.le_of_ble_eq_true rfl, Nat.le_of_ble_eq_true rfl⟩) hS (fun q _ h => hFc q h) hFc (fun r1 u t H1 locs ht hvm hw1 hB hz1 hk1 hS => ?_)
      obtain ⟨V1, M1, nv1, nm1⟩ := u
      obtain ⟨hP1, hK1, hD1⟩ := hB
      rw [ht] at hP1
      obtain ⟨hP, hD⟩ := law_jnK hP hD hk1 hFc hP1 hD1
      generalize H1 = H at hP hS ⊢
      have hP : va_P (dC, dI) vwCl (lwW x0 xv xm d1 d2 V1 M1 nv1 nm1 y0 yv ym f1 f2 V M) H := hP
      have hD : va_D (fun q : Nat => s.heap.size ≤ q) (lwW x0 xv xm d1 d2 V1 M1 nv1 nm1 y0 yv ym f1 f2 V M) := hD
      refine lv_aload_n hx hb dL_law_155 rfl (lv_at hl 3 rfl) ?_
      refine lv_aload_n hx hb dL_law_156 rfl (lv_at hl 1 rfl) ?_
      refine lv_iload_n hx hb dL_law_157 rfl (lv_at hl 0 rfl) ?_
      refine lv_iconst (v := 1) hx hb dL_law_158 (by decide +kernel) ?_
      refine lv_iadd hx hb dL_law_159 ?_
      refine va_sld hx hb hX hbl hbA hS (law_in1 hi_ hL) dL_law_160 ?_
      refine lv_aload_n hx hb dL_law_161 rfl (lv_at hl 1 rfl) ?_
      refine lv_iload_n hx hb dL_law_162 rfl (lv_at hl 0 rfl) ?_
      refine lv_iconst (v := 2) hx hb dL_law_163 (by decide +kernel) ?_
      refine lv_iadd hx hb dL_law_164 ?_
      refine va_sld hx hb hX hbl hbA hS (law_in2 hi_ hL) dL_law_165 ?_
      refine lv_aload_n hx hb dL_law_166 rfl (lv_at hl 1 rfl) ?_
      refine lv_iload_n hx hb dL_law_167 rfl (lv_at hl 0 rfl) ?_
      refine lv_iconst (v := 3) hx hb dL_law_168 (by decide +kernel) ?_
      refine lv_iadd hx hb dL_law_169 ?_
      refine va_sld hx hb hX hbl hbA hS (law_in3 hi_ hL) dL_law_170 ?_
      refine lv_aload_n hx hb dL_law_171 rfl (lv_at hl 1 rfl) ?_
      refine lv_iload_n hx hb dL_law_172 rfl (lv_at hl 0 rfl) ?_
      refine lv_iconst (v := 4) hx hb dL_law_173 (by decide +kernel) ?_
      refine lv_iadd hx hb dL_law_174 ?_
      refine va_sld hx hb hX hbl hbA hS (law_in4 hi_ hL) dL_law_175 ?_
      have hPc := hP.sub (ws' := mdW y0 yv ym f1 f2 V M) [3, 4, 5] rfl
      have hKc := hK.sub (tys' := kTy f1 f2) [2, 3] rfl
      have hDc := hD.sub (ws' := mdW y0 yv ym f1 f2 V M) [3, 4, 5] (by decide) rfl
      have hFc := law_frM hD hS hA
      refine va_calli (va_runV (As := [.int (xs (nI (5 * i_) + 1).toNatClampNeg), .int (xs (nI (5 * i_) + 2).toNatClampNeg), .int (xs (nI (5 * i_) + 3).toNatClampNeg), .int (xs (nI (5 * i_) + 4).toNatClampNeg)]) (rest := [.int r1]) ⟨hx, hb, hml, hown, hts⟩ (metX1_combine l dC dI y0 yv ym f1 f2 H.size V M (xs (nI (5 * i_) + 1).toNatClampNeg) (xs (nI (5 * i_) + 2).toNatClampNeg) (xs (nI (5 * i_) + 3).toNatClampNeg) (xs (nI (5 * i_) + 4).toNatClampNeg)) (cwV 4 hts (lw_V q158 q159 q160 q17 q161) rfl rfl rfl (by decide +kernel) ⟨Nat.le_of_ble_eq_true rfl, Nat.le_of_ble_eq_true rfl⟩) ⟨kb_blindW, va_recv hKc hPc (ci := 1) (q0 := 0) rfl rfl, fun U hU hW => ⟨rfl, by rw [hU], by rw [hU]; exact hPc, va_K.moved hW.alike hKc, hDc.weaken (fun _ _ _ _ => trivial)⟩⟩ rfl rfl hl.1 rfl (lv_room (Nat.le_of_ble_eq_true rfl)) dL_law_176 ⟨Nat.le_of_ble_eq_true rfl, Nat.le_of_ble_eq_true rfl⟩) hS (fun q _ h => hFc q h) hFc (fun r2 u t H1 locs ht hvm hw2 hB hz1 hk1 hS => ?_)
      obtain ⟨V2, M2⟩ := u
      obtain ⟨hP1, hK1, hD1⟩ := hB
      rw [ht] at hP1
      obtain ⟨hP, hD⟩ := law_jnM hP hD hk1 hFc hP1 hD1
      generalize H1 = H at hP hS ⊢
      obtain ⟨hE, e1, e2, hG⟩ := law_cm hI_ hw1 hw2
      refine lv_icmp_eq (tgt := 478) hx hb dL_law_179 (by decide) (fun _ => ?_) (fun c_ => absurd hE c_)
      refine lv_iinc (v := nI (5 * (i_ + 1))) (lv' := [(3, .int (nI (5 * (i_ + 1)))), (0, .ref b), (1, .ref x0), (2, .ref y0)]) hx hb dL_law_478 hl (k := 0) rfl (law_inc i_) (by decide) rfl (fun ls hl => ?_)
      refine lv_goto (tgt := 18) hx hb dL_law_481 (by decide) ?_
      have e1 : V1 = V2 := e1
      have e2 : M1 = M2 := e2
      subst e1
      subst e2
      exact K_ (V1, M1, nv1, nm1) ls H locs hG hl hP hD hS
    · rw [e_]
      refine lv_tableIn (off := 152) (tgt := 184) hx hb dL_law_32 (by decide +kernel) (by decide +kernel) (by decide +kernel) (by decide) ?_
      refine lv_aload_n hx hb dL_law_184 rfl (lv_at hl 2 rfl) ?_
      refine lv_aload_n hx hb dL_law_185 rfl (lv_at hl 1 rfl) ?_
      refine lv_iload_n hx hb dL_law_186 rfl (lv_at hl 0 rfl) ?_
      refine lv_iconst (v := 1) hx hb dL_law_187 (by decide +kernel) ?_
      refine lv_iadd hx hb dL_law_188 ?_
      refine va_sld hx hb hX hbl hbA hS (law_in1 hi_ hL) dL_law_189 ?_
      refine lv_aload_n hx hb dL_law_190 rfl (lv_at hl 1 rfl) ?_
      refine lv_iload_n hx hb dL_law_191 rfl (lv_at hl 0 rfl) ?_
      refine lv_iconst (v := 2) hx hb dL_law_192 (by decide +kernel) ?_
      refine lv_iadd hx hb dL_law_193 ?_
      refine va_sld hx hb hX hbl hbA hS (law_in2 hi_ hL) dL_law_194 ?_
      refine lv_aload_n hx hb dL_law_195 rfl (lv_at hl 1 rfl) ?_
      refine lv_iload_n hx hb dL_law_196 rfl (lv_at hl 0 rfl) ?_
      refine lv_iconst (v := 3) hx hb dL_law_197 (by decide +kernel) ?_
      refine lv_iadd hx hb dL_law_198 ?_
      refine va_sld hx hb hX hbl hbA hS (law_in3 hi_ hL) dL_law_199 ?_
      have hPc := hP.sub (ws' := kbW x0 xv xm d1 d2 V M nv nm) [0, 1, 2] rfl
      have hKc := hK.sub (tys' := kTy d1 d2) [0, 1] rfl
      have hDc := hD.sub (ws' := kbW x0 xv xm d1 d2 V M nv nm) [0, 1, 2] (by decide) rfl
      have hFc := law_frK hD hS hA
      refine va_calli (va_runV (As := [.int (xs (nI (5 * i_) + 1).toNatClampNeg), .int (xs (nI (5 * i_) + 2).toNatClampNeg), .int (xs (nI (5 * i_) + 3).toNatClampNeg)]) (rest := []) ⟨hx, hb, hml, hown, hts⟩ (metX0_shift l dC dI x0 xv xm d1 d2 H.size V M nv nm (xs (nI (5 * i_) + 1).toNatClampNeg) (xs (nI (5 * i_) + 2).toNatClampNeg) (xs (nI (5 * i_) + 3).toNatClampNeg)) (cwV 3 hts (lw_V q67 q68 q69 q16 q70) rfl rfl rfl (by decide +kernel) ⟨Nat.le_of_ble_eq_true rfl, Nat.le_of_ble_eq_true rfl⟩) ⟨kb_blindW, va_recv hKc hPc (ci := 0) (q0 := 0) rfl rfl, fun U hU hW => ⟨rfl, by rw [hU], by rw [hU]; exact hPc, va_K.moved hW.alike hKc, hDc.weaken (fun _ _ _ _ => trivial)⟩⟩ rfl rfl hl.1 rfl (lv_room (Nat.le_of_ble_eq_true rfl)) dL_law_200 ⟨Nat.le_of_ble_eq_true rfl, Nat.le_of_ble_eq_true rfl⟩) hS (fun q _ h => hFc q h) hFc (fun r1 u t H1 locs ht hvm hw1 hB hz1 hk1 hS => ?_)
      obtain ⟨V1, M1, nv1, nm1⟩ := u
      obtain ⟨hP1, hK1, hD1⟩ := hB
      rw [ht] at hP1
      obtain ⟨hP, hD⟩ := law_jnK hP hD hk1 hFc hP1 hD1
      generalize H1 = H at hP hS ⊢
      have hP : va_P (dC, dI) vwCl (lwW x0 xv xm d1 d2 V1 M1 nv1 nm1 y0 yv ym f1 f2 V M) H := hP
      have hD : va_D (fun q : Nat => s.heap.size ≤ q) (lwW x0 xv xm d1 d2 V1 M1 nv1 nm1 y0 yv ym f1 f2 V M) := hD
      refine lv_aload_n hx hb dL_law_203 rfl (lv_at hl 3 rfl) ?_
      refine lv_aload_n hx hb dL_law_204 rfl (lv_at hl 1 rfl) ?_
      refine lv_iload_n hx hb dL_law_205 rfl (lv_at hl 0 rfl) ?_
      refine lv_iconst (v := 1) hx hb dL_law_206 (by decide +kernel) ?_
      refine lv_iadd hx hb dL_law_207 ?_
      refine va_sld hx hb hX hbl hbA hS (law_in1 hi_ hL) dL_law_208 ?_
      refine lv_aload_n hx hb dL_law_209 rfl (lv_at hl 1 rfl) ?_
      refine lv_iload_n hx hb dL_law_210 rfl (lv_at hl 0 rfl) ?_
      refine lv_iconst (v := 2) hx hb dL_law_211 (by decide +kernel) ?_
      refine lv_iadd hx hb dL_law_212 ?_
      refine va_sld hx hb hX hbl hbA hS (law_in2 hi_ hL) dL_law_213 ?_
      refine lv_aload_n hx hb dL_law_214 rfl (lv_at hl 1 rfl) ?_
      refine lv_iload_n hx hb dL_law_215 rfl (lv_at hl 0 rfl) ?_
      refine lv_iconst (v := 3) hx hb dL_law_216 (by decide +kernel) ?_
      refine lv_iadd hx hb dL_law_217 ?_
      refine va_sld hx hb hX hbl hbA hS (law_in3 hi_ hL) dL_law_218 ?_
      have hPc := hP.sub (ws' := mdW y0 yv ym f1 f2 V M) [3, 4, 5] rfl
      have hKc := hK.sub (tys' := kTy f1 f2) [2, 3] rfl
      have hDc := hD.sub (ws' := mdW y0 yv ym f1 f2 V M) [3, 4, 5] (by decide) rfl
      have hFc := law_frM hD hS hA
      refine va_calli (va_runV (As := [.int (xs (nI (5 * i_) + 1).toNatClampNeg), .int (xs (nI (5 * i_) + 2).toNatClampNeg), .int (xs (nI (5 * i_) + 3).toNatClampNeg)]) (rest := [.int r1]) ⟨hx, hb, hml, hown, hts⟩ (metX1_shift l dC dI y0 yv ym f1 f2 H.size V M (xs (nI (5 * i_) + 1).toNatClampNeg) (xs (nI (5 * i_) + 2).toNatClampNeg) (xs (nI (5 * i_) + 3).toNatClampNeg)) (cwV 3 hts (lw_V q174 q175 q176 q17 q177) rfl rfl rfl (by decide +kernel) ⟨Nat.le_of_ble_eq_true rfl, Nat.le_of_ble_eq_true rfl⟩) ⟨kb_blindW, va_recv hKc hPc (ci := 1) (q0 := 0) rfl rfl, fun U hU hW => ⟨rfl, by rw [hU], by rw [hU]; exact hPc, va_K.moved hW.alike hKc, hDc.weaken (fun _ _ _ _ => trivial)⟩⟩ rfl rfl hl.1 rfl (lv_room (Nat.le_of_ble_eq_true rfl)) dL_law_219 ⟨Nat.le_of_ble_eq_true rfl, Nat.le_of_ble_eq_true rfl⟩) hS (fun q _ h => hFc q h) hFc (fun r2 u t H1 locs ht hvm hw2 hB hz1 hk1 hS => ?_)
      obtain ⟨V2, M2⟩ := u
      obtain ⟨hP1, hK1, hD1⟩ := hB
      rw [ht] at hP1
      obtain ⟨hP, hD⟩ := law_jnM hP hD hk1 hFc hP1 hD1
      generalize H1 = H at hP hS ⊢
      obtain ⟨hE, e1, e2, hG⟩ := law_sh hI_ hw1 hw2
      refine lv_icmp_eq (tgt := 478) hx hb dL_law_222 (by decide) (fun _ => ?_) (fun c_ => absurd hE c_)
      refine lv_iinc (v := nI (5 * (i_ + 1))) (lv' := [(3, .int (nI (5 * (i_ + 1)))), (0, .ref b), (1, .ref x0), (2, .ref y0)]) hx hb dL_law_478 hl (k := 0) rfl (law_inc i_) (by decide) rfl (fun ls hl => ?_)
      refine lv_goto (tgt := 18) hx hb dL_law_481 (by decide) ?_
      have e1 : V1 = V2 := e1
      have e2 : M1 = M2 := e2
      subst e1
      subst e2
      exact K_ (V1, M1, nv1, nm1) ls H locs hG hl hP hD hS
    · rw [e_]
      refine lv_tableIn (off := 195) (tgt := 227) hx hb dL_law_32 (by decide +kernel) (by decide +kernel) (by decide +kernel) (by decide) ?_
      refine lv_aload_n hx hb dL_law_227 rfl (lv_at hl 2 rfl) ?_
      refine lv_aload_n hx hb dL_law_228 rfl (lv_at hl 1 rfl) ?_
      refine lv_iload_n hx hb dL_law_229 rfl (lv_at hl 0 rfl) ?_
      refine lv_iconst (v := 1) hx hb dL_law_230 (by decide +kernel) ?_
      refine lv_iadd hx hb dL_law_231 ?_
      refine va_sld hx hb hX hbl hbA hS (law_in1 hi_ hL) dL_law_232 ?_
      refine lv_aload_n hx hb dL_law_233 rfl (lv_at hl 1 rfl) ?_
      refine lv_iload_n hx hb dL_law_234 rfl (lv_at hl 0 rfl) ?_
      refine lv_iconst (v := 2) hx hb dL_law_235 (by decide +kernel) ?_
      refine lv_iadd hx hb dL_law_236 ?_
      refine va_sld hx hb hX hbl hbA hS (law_in2 hi_ hL) dL_law_237 ?_
      refine lv_aload_n hx hb dL_law_238 rfl (lv_at hl 1 rfl) ?_
      refine lv_iload_n hx hb dL_law_239 rfl (lv_at hl 0 rfl) ?_
      refine lv_iconst (v := 3) hx hb dL_law_240 (by decide +kernel) ?_
      refine lv_iadd hx hb dL_law_241 ?_
      refine va_sld hx hb hX hbl hbA hS (law_in3 hi_ hL) dL_law_242 ?_
      have hPc := hP.sub (ws' := kbW x0 xv xm d1 d2 V M nv nm) [0, 1, 2] rfl
      have hKc := hK.sub (tys' := kTy d1 d2) [0, 1] rfl
      have hDc := hD.sub (ws' := kbW x0 xv xm d1 d2 V M nv nm) [0, 1, 2] (by decide) rfl
      have hFc := law_frK hD hS hA
      refine va_calli (va_runV (As := [.int (xs (nI (5 * i_) + 1).toNatClampNeg), .int (xs (nI (5 * i_) + 2).toNatClampNeg), .int (xs (nI (5 * i_) + 3).toNatClampNeg)]) (rest := []) ⟨hx, hb, hml, hown, hts⟩ (metX0_narrow l dC dI x0 xv xm d1 d2 H.size V M nv nm (xs (nI (5 * i_) + 1).toNatClampNeg) (xs (nI (5 * i_) + 2).toNatClampNeg) (xs (nI (5 * i_) + 3).toNatClampNeg)) (cwV 3 hts (lw_V q71 q72 q73 q16 q74) rfl rfl rfl (by decide +kernel) ⟨Nat.le_of_ble_eq_true rfl, Nat.le_of_ble_eq_true rfl⟩) ⟨kb_blindW, va_recv hKc hPc (ci := 0) (q0 := 0) rfl rfl, fun U hU hW => ⟨rfl, by rw [hU], by rw [hU]; exact hPc, va_K.moved hW.alike hKc, hDc.weaken (fun _ _ _ _ => trivial)⟩⟩ rfl rfl hl.1 rfl (lv_room (Nat.le_of_ble_eq_true rfl)) dL_law_243 ⟨Nat.le_of_ble_eq_true rfl, Nat.le_of_ble_eq_true rfl⟩) hS (fun q _ h => hFc q h) hFc (fun r1 u t H1 locs ht hvm hw1 hB hz1 hk1 hS => ?_)
      obtain ⟨V1, M1, nv1, nm1⟩ := u
      obtain ⟨hP1, hK1, hD1⟩ := hB
      rw [ht] at hP1
      obtain ⟨hP, hD⟩ := law_jnK hP hD hk1 hFc hP1 hD1
      generalize H1 = H at hP hS ⊢
      have hP : va_P (dC, dI) vwCl (lwW x0 xv xm d1 d2 V1 M1 nv1 nm1 y0 yv ym f1 f2 V M) H := hP
      have hD : va_D (fun q : Nat => s.heap.size ≤ q) (lwW x0 xv xm d1 d2 V1 M1 nv1 nm1 y0 yv ym f1 f2 V M) := hD
      refine lv_aload_n hx hb dL_law_246 rfl (lv_at hl 3 rfl) ?_
      refine lv_aload_n hx hb dL_law_247 rfl (lv_at hl 1 rfl) ?_
      refine lv_iload_n hx hb dL_law_248 rfl (lv_at hl 0 rfl) ?_
      refine lv_iconst (v := 1) hx hb dL_law_249 (by decide +kernel) ?_
      refine lv_iadd hx hb dL_law_250 ?_
      refine va_sld hx hb hX hbl hbA hS (law_in1 hi_ hL) dL_law_251 ?_
      refine lv_aload_n hx hb dL_law_252 rfl (lv_at hl 1 rfl) ?_
      refine lv_iload_n hx hb dL_law_253 rfl (lv_at hl 0 rfl) ?_
      refine lv_iconst (v := 2) hx hb dL_law_254 (by decide +kernel) ?_
      refine lv_iadd hx hb dL_law_255 ?_
      refine va_sld hx hb hX hbl hbA hS (law_in2 hi_ hL) dL_law_256 ?_
      refine lv_aload_n hx hb dL_law_257 rfl (lv_at hl 1 rfl) ?_
      refine lv_iload_n hx hb dL_law_258 rfl (lv_at hl 0 rfl) ?_
      refine lv_iconst (v := 3) hx hb dL_law_259 (by decide +kernel) ?_
      refine lv_iadd hx hb dL_law_260 ?_
      refine va_sld hx hb hX hbl hbA hS (law_in3 hi_ hL) dL_law_261 ?_
      have hPc := hP.sub (ws' := mdW y0 yv ym f1 f2 V M) [3, 4, 5] rfl
      have hKc := hK.sub (tys' := kTy f1 f2) [2, 3] rfl
      have hDc := hD.sub (ws' := mdW y0 yv ym f1 f2 V M) [3, 4, 5] (by decide) rfl
      have hFc := law_frM hD hS hA
      refine va_calli (va_runV (As := [.int (xs (nI (5 * i_) + 1).toNatClampNeg), .int (xs (nI (5 * i_) + 2).toNatClampNeg), .int (xs (nI (5 * i_) + 3).toNatClampNeg)]) (rest := [.int r1]) ⟨hx, hb, hml, hown, hts⟩ (metX1_narrow l dC dI y0 yv ym f1 f2 H.size V M (xs (nI (5 * i_) + 1).toNatClampNeg) (xs (nI (5 * i_) + 2).toNatClampNeg) (xs (nI (5 * i_) + 3).toNatClampNeg)) (cwV 3 hts (lw_V q181 q182 q183 q17 q184) rfl rfl rfl (by decide +kernel) ⟨Nat.le_of_ble_eq_true rfl, Nat.le_of_ble_eq_true rfl⟩) ⟨kb_blindW, va_recv hKc hPc (ci := 1) (q0 := 0) rfl rfl, fun U hU hW => ⟨rfl, by rw [hU], by rw [hU]; exact hPc, va_K.moved hW.alike hKc, hDc.weaken (fun _ _ _ _ => trivial)⟩⟩ rfl rfl hl.1 rfl (lv_room (Nat.le_of_ble_eq_true rfl)) dL_law_262 ⟨Nat.le_of_ble_eq_true rfl, Nat.le_of_ble_eq_true rfl⟩) hS (fun q _ h => hFc q h) hFc (fun r2 u t H1 locs ht hvm hw2 hB hz1 hk1 hS => ?_)
      obtain ⟨V2, M2⟩ := u
      obtain ⟨hP1, hK1, hD1⟩ := hB
      rw [ht] at hP1
      obtain ⟨hP, hD⟩ := law_jnM hP hD hk1 hFc hP1 hD1
      generalize H1 = H at hP hS ⊢
      obtain ⟨hE, e1, e2, hG⟩ := law_nw hI_ hw1 hw2
      refine lv_icmp_eq (tgt := 478) hx hb dL_law_265 (by decide) (fun _ => ?_) (fun c_ => absurd hE c_)
      refine lv_iinc (v := nI (5 * (i_ + 1))) (lv' := [(3, .int (nI (5 * (i_ + 1)))), (0, .ref b), (1, .ref x0), (2, .ref y0)]) hx hb dL_law_478 hl (k := 0) rfl (law_inc i_) (by decide) rfl (fun ls hl => ?_)
      refine lv_goto (tgt := 18) hx hb dL_law_481 (by decide) ?_
      have e1 : V1 = V2 := e1
      have e2 : M1 = M2 := e2
      subst e1
      subst e2
      exact K_ (V1, M1, nv1, nm1) ls H locs hG hl hP hD hS
    · rw [e_]
      refine lv_tableIn (off := 238) (tgt := 270) hx hb dL_law_32 (by decide +kernel) (by decide +kernel) (by decide +kernel) (by decide) ?_
      refine lv_aload_n hx hb dL_law_270 rfl (lv_at hl 2 rfl) ?_
      refine lv_aload_n hx hb dL_law_271 rfl (lv_at hl 1 rfl) ?_
      refine lv_iload_n hx hb dL_law_272 rfl (lv_at hl 0 rfl) ?_
      refine lv_iconst (v := 1) hx hb dL_law_273 (by decide +kernel) ?_
      refine lv_iadd hx hb dL_law_274 ?_
      refine va_sld hx hb hX hbl hbA hS (law_in1 hi_ hL) dL_law_275 ?_
      refine lv_aload_n hx hb dL_law_276 rfl (lv_at hl 1 rfl) ?_
      refine lv_iload_n hx hb dL_law_277 rfl (lv_at hl 0 rfl) ?_
      refine lv_iconst (v := 2) hx hb dL_law_278 (by decide +kernel) ?_
      refine lv_iadd hx hb dL_law_279 ?_
      refine va_sld hx hb hX hbl hbA hS (law_in2 hi_ hL) dL_law_280 ?_
      refine lv_aload_n hx hb dL_law_281 rfl (lv_at hl 1 rfl) ?_
      refine lv_iload_n hx hb dL_law_282 rfl (lv_at hl 0 rfl) ?_
      refine lv_iconst (v := 3) hx hb dL_law_283 (by decide +kernel) ?_
      refine lv_iadd hx hb dL_law_284 ?_
      refine va_sld hx hb hX hbl hbA hS (law_in3 hi_ hL) dL_law_285 ?_
      have hPc := hP.sub (ws' := kbW x0 xv xm d1 d2 V M nv nm) [0, 1, 2] rfl
      have hKc := hK.sub (tys' := kTy d1 d2) [0, 1] rfl
      have hDc := hD.sub (ws' := kbW x0 xv xm d1 d2 V M nv nm) [0, 1, 2] (by decide) rfl
      have hFc := law_frK hD hS hA
      refine va_calli (va_runV (As := [.int (xs (nI (5 * i_) + 1).toNatClampNeg), .int (xs (nI (5 * i_) + 2).toNatClampNeg), .int (xs (nI (5 * i_) + 3).toNatClampNeg)]) (rest := []) ⟨hx, hb, hml, hown, hts⟩ (metX0_suppose l dC dI x0 xv xm d1 d2 H.size V M nv nm (xs (nI (5 * i_) + 1).toNatClampNeg) (xs (nI (5 * i_) + 2).toNatClampNeg) (xs (nI (5 * i_) + 3).toNatClampNeg)) (cwV 3 hts (lw_V q82 q83 q84 q16 q85) rfl rfl rfl (by decide +kernel) ⟨Nat.le_of_ble_eq_true rfl, Nat.le_of_ble_eq_true rfl⟩) ⟨kb_blindW, va_recv hKc hPc (ci := 0) (q0 := 0) rfl rfl, fun U hU hW => ⟨rfl, by rw [hU], by rw [hU]; exact hPc, va_K.moved hW.alike hKc, hDc.weaken (fun _ _ _ _ => trivial)⟩⟩ rfl rfl hl.1 rfl (lv_room (Nat.le_of_ble_eq_true rfl)) dL_law_286 ⟨Nat.le_of_ble_eq_true rfl, Nat.le_of_ble_eq_true rfl⟩) hS (fun q _ h => hFc q h) hFc (fun r1 u t H1 locs ht hvm hw1 hB hz1 hk1 hS => ?_)
      obtain ⟨V1, M1, nv1, nm1⟩ := u
      obtain ⟨hP1, hK1, hD1⟩ := hB
      rw [ht] at hP1
      obtain ⟨hP, hD⟩ := law_jnK hP hD hk1 hFc hP1 hD1
      generalize H1 = H at hP hS ⊢
      have hP : va_P (dC, dI) vwCl (lwW x0 xv xm d1 d2 V1 M1 nv1 nm1 y0 yv ym f1 f2 V M) H := hP
      have hD : va_D (fun q : Nat => s.heap.size ≤ q) (lwW x0 xv xm d1 d2 V1 M1 nv1 nm1 y0 yv ym f1 f2 V M) := hD
      refine lv_aload_n hx hb dL_law_289 rfl (lv_at hl 3 rfl) ?_
      refine lv_aload_n hx hb dL_law_290 rfl (lv_at hl 1 rfl) ?_
      refine lv_iload_n hx hb dL_law_291 rfl (lv_at hl 0 rfl) ?_
      refine lv_iconst (v := 1) hx hb dL_law_292 (by decide +kernel) ?_
      refine lv_iadd hx hb dL_law_293 ?_
      refine va_sld hx hb hX hbl hbA hS (law_in1 hi_ hL) dL_law_294 ?_
      refine lv_aload_n hx hb dL_law_295 rfl (lv_at hl 1 rfl) ?_
      refine lv_iload_n hx hb dL_law_296 rfl (lv_at hl 0 rfl) ?_
      refine lv_iconst (v := 2) hx hb dL_law_297 (by decide +kernel) ?_
      refine lv_iadd hx hb dL_law_298 ?_
      refine va_sld hx hb hX hbl hbA hS (law_in2 hi_ hL) dL_law_299 ?_
      refine lv_aload_n hx hb dL_law_300 rfl (lv_at hl 1 rfl) ?_
      refine lv_iload_n hx hb dL_law_301 rfl (lv_at hl 0 rfl) ?_
      refine lv_iconst (v := 3) hx hb dL_law_302 (by decide +kernel) ?_
      refine lv_iadd hx hb dL_law_303 ?_
      refine va_sld hx hb hX hbl hbA hS (law_in3 hi_ hL) dL_law_304 ?_
      have hPc := hP.sub (ws' := mdW y0 yv ym f1 f2 V M) [3, 4, 5] rfl
      have hKc := hK.sub (tys' := kTy f1 f2) [2, 3] rfl
      have hDc := hD.sub (ws' := mdW y0 yv ym f1 f2 V M) [3, 4, 5] (by decide) rfl
      have hFc := law_frM hD hS hA
      refine va_calli (va_runV (As := [.int (xs (nI (5 * i_) + 1).toNatClampNeg), .int (xs (nI (5 * i_) + 2).toNatClampNeg), .int (xs (nI (5 * i_) + 3).toNatClampNeg)]) (rest := [.int r1]) ⟨hx, hb, hml, hown, hts⟩ (metX1_suppose l dC dI y0 yv ym f1 f2 H.size V M (xs (nI (5 * i_) + 1).toNatClampNeg) (xs (nI (5 * i_) + 2).toNatClampNeg) (xs (nI (5 * i_) + 3).toNatClampNeg)) (cwV 3 hts (lw_V q185 q186 q187 q17 q188) rfl rfl rfl (by decide +kernel) ⟨Nat.le_of_ble_eq_true rfl, Nat.le_of_ble_eq_true rfl⟩) ⟨kb_blindW, va_recv hKc hPc (ci := 1) (q0 := 0) rfl rfl, fun U hU hW => ⟨rfl, by rw [hU], by rw [hU]; exact hPc, va_K.moved hW.alike hKc, hDc.weaken (fun _ _ _ _ => trivial)⟩⟩ rfl rfl hl.1 rfl (lv_room (Nat.le_of_ble_eq_true rfl)) dL_law_305 ⟨Nat.le_of_ble_eq_true rfl, Nat.le_of_ble_eq_true rfl⟩) hS (fun q _ h => hFc q h) hFc (fun r2 u t H1 locs ht hvm hw2 hB hz1 hk1 hS => ?_)
      obtain ⟨V2, M2⟩ := u
      obtain ⟨hP1, hK1, hD1⟩ := hB
      rw [ht] at hP1
      obtain ⟨hP, hD⟩ := law_jnM hP hD hk1 hFc hP1 hD1
      generalize H1 = H at hP hS ⊢
      obtain ⟨hE, e1, e2, hG⟩ := law_sp hI_ hw1 hw2
      refine lv_icmp_eq (tgt := 478) hx hb dL_law_308 (by decide) (fun _ => ?_) (fun c_ => absurd hE c_)
      refine lv_iinc (v := nI (5 * (i_ + 1))) (lv' := [(3, .int (nI (5 * (i_ + 1)))), (0, .ref b), (1, .ref x0), (2, .ref y0)]) hx hb dL_law_478 hl (k := 0) rfl (law_inc i_) (by decide) rfl (fun ls hl => ?_)
      refine lv_goto (tgt := 18) hx hb dL_law_481 (by decide) ?_
      have e1 : V1 = V2 := e1
      have e2 : M1 = M2 := e2
      subst e1
      subst e2
      exact K_ (V1, M1, nv1, nm1) ls H locs hG hl hP hD hS
    · rw [e_]
      refine lv_tableIn (off := 281) (tgt := 313) hx hb dL_law_32 (by decide +kernel) (by decide +kernel) (by decide +kernel) (by decide) ?_
      refine lv_aload_n hx hb dL_law_313 rfl (lv_at hl 2 rfl) ?_
      refine lv_aload_n hx hb dL_law_314 rfl (lv_at hl 1 rfl) ?_
      refine lv_iload_n hx hb dL_law_315 rfl (lv_at hl 0 rfl) ?_
      refine lv_iconst (v := 1) hx hb dL_law_316 (by decide +kernel) ?_
      refine lv_iadd hx hb dL_law_317 ?_
      refine va_sld hx hb hX hbl hbA hS (law_in1 hi_ hL) dL_law_318 ?_
      refine lv_aload_n hx hb dL_law_319 rfl (lv_at hl 1 rfl) ?_
      refine lv_iload_n hx hb dL_law_320 rfl (lv_at hl 0 rfl) ?_
      refine lv_iconst (v := 2) hx hb dL_law_321 (by decide +kernel) ?_
      refine lv_iadd hx hb dL_law_322 ?_
      refine va_sld hx hb hX hbl hbA hS (law_in2 hi_ hL) dL_law_323 ?_
      refine lv_aload_n hx hb dL_law_324 rfl (lv_at hl 1 rfl) ?_
      refine lv_iload_n hx hb dL_law_325 rfl (lv_at hl 0 rfl) ?_
      refine lv_iconst (v := 3) hx hb dL_law_326 (by decide +kernel) ?_
      refine lv_iadd hx hb dL_law_327 ?_
      refine va_sld hx hb hX hbl hbA hS (law_in3 hi_ hL) dL_law_328 ?_
      have hPc := hP.sub (ws' := kbW x0 xv xm d1 d2 V M nv nm) [0, 1, 2] rfl
      have hKc := hK.sub (tys' := kTy d1 d2) [0, 1] rfl
      refine vp_callSi (W.runV (As := [.int (xs (nI (5 * i_) + 1).toNatClampNeg), .int (xs (nI (5 * i_) + 2).toNatClampNeg), .int (xs (nI (5 * i_) + 3).toNatClampNeg)]) (rest := []) ⟨hx, hb, hml, hown, hts⟩ (metX0_compare l dC dI x0 xv xm d1 d2 V M nv nm (xs (nI (5 * i_) + 1).toNatClampNeg) (xs (nI (5 * i_) + 2).toNatClampNeg) (xs (nI (5 * i_) + 3).toNatClampNeg)) (cwV 3 hts (lw_V q103 q104 q105 q16 q106) rfl rfl rfl (by decide +kernel) ⟨Nat.le_of_ble_eq_true rfl, Nat.le_of_ble_eq_true rfl⟩) ⟨kb_blindR, va_recv hKc hPc (ci := 0) (q0 := 0) rfl rfl, fun U hU hW => ⟨rfl, by rw [hU]; exact hPc, va_K.moved hW.alike hKc⟩⟩ rfl rfl hl.1 rfl (lv_room (Nat.le_of_ble_eq_true rfl)) dL_law_329 ⟨Nat.le_of_ble_eq_true rfl, Nat.le_of_ble_eq_true rfl⟩) (fun r1 hw1 => ?_)
      refine lv_aload_n hx hb dL_law_332 rfl (lv_at hl 3 rfl) ?_
      refine lv_aload_n hx hb dL_law_333 rfl (lv_at hl 1 rfl) ?_
      refine lv_iload_n hx hb dL_law_334 rfl (lv_at hl 0 rfl) ?_
      refine lv_iconst (v := 1) hx hb dL_law_335 (by decide +kernel) ?_
      refine lv_iadd hx hb dL_law_336 ?_
      refine va_sld hx hb hX hbl hbA hS (law_in1 hi_ hL) dL_law_337 ?_
      refine lv_aload_n hx hb dL_law_338 rfl (lv_at hl 1 rfl) ?_
      refine lv_iload_n hx hb dL_law_339 rfl (lv_at hl 0 rfl) ?_
      refine lv_iconst (v := 2) hx hb dL_law_340 (by decide +kernel) ?_
      refine lv_iadd hx hb dL_law_341 ?_
      refine va_sld hx hb hX hbl hbA hS (law_in2 hi_ hL) dL_law_342 ?_
      refine lv_aload_n hx hb dL_law_343 rfl (lv_at hl 1 rfl) ?_
      refine lv_iload_n hx hb dL_law_344 rfl (lv_at hl 0 rfl) ?_
      refine lv_iconst (v := 3) hx hb dL_law_345 (by decide +kernel) ?_
      refine lv_iadd hx hb dL_law_346 ?_
      refine va_sld hx hb hX hbl hbA hS (law_in3 hi_ hL) dL_law_347 ?_
      have hPc := hP.sub (ws' := mdW y0 yv ym f1 f2 V M) [3, 4, 5] rfl
      have hKc := hK.sub (tys' := kTy f1 f2) [2, 3] rfl
      refine vp_callSi (W.runV (As := [.int (xs (nI (5 * i_) + 1).toNatClampNeg), .int (xs (nI (5 * i_) + 2).toNatClampNeg), .int (xs (nI (5 * i_) + 3).toNatClampNeg)]) (rest := [.int r1]) ⟨hx, hb, hml, hown, hts⟩ (metX1_compare l dC dI y0 yv ym f1 f2 V M (xs (nI (5 * i_) + 1).toNatClampNeg) (xs (nI (5 * i_) + 2).toNatClampNeg) (xs (nI (5 * i_) + 3).toNatClampNeg)) (cwV 3 hts (lw_V q192 q193 q194 q17 q195) rfl rfl rfl (by decide +kernel) ⟨Nat.le_of_ble_eq_true rfl, Nat.le_of_ble_eq_true rfl⟩) ⟨kb_blindR, va_recv hKc hPc (ci := 1) (q0 := 0) rfl rfl, fun U hU hW => ⟨rfl, by rw [hU]; exact hPc, va_K.moved hW.alike hKc⟩⟩ rfl rfl hl.1 rfl (lv_room (Nat.le_of_ble_eq_true rfl)) dL_law_348 ⟨Nat.le_of_ble_eq_true rfl, Nat.le_of_ble_eq_true rfl⟩) (fun r2 hw2 => ?_)
      have hE : r1 = r2 := law_cp hI_ hw1 hw2
      refine lv_icmp_eq (tgt := 478) hx hb dL_law_351 (by decide) (fun _ => ?_) (fun c_ => absurd hE c_)
      refine lv_iinc (v := nI (5 * (i_ + 1))) (lv' := [(3, .int (nI (5 * (i_ + 1)))), (0, .ref b), (1, .ref x0), (2, .ref y0)]) hx hb dL_law_478 hl (k := 0) rfl (law_inc i_) (by decide) rfl (fun ls hl => ?_)
      refine lv_goto (tgt := 18) hx hb dL_law_481 (by decide) ?_
      exact K_ (V, M, nv, nm) ls H locs hI_ hl hP hD hS
    · rw [e_]
      refine lv_tableIn (off := 324) (tgt := 356) hx hb dL_law_32 (by decide +kernel) (by decide +kernel) (by decide +kernel) (by decide) ?_
      refine lv_aload_n hx hb dL_law_356 rfl (lv_at hl 2 rfl) ?_
      refine lv_aload_n hx hb dL_law_357 rfl (lv_at hl 1 rfl) ?_
      refine lv_iload_n hx hb dL_law_358 rfl (lv_at hl 0 rfl) ?_
      refine lv_iconst (v := 1) hx hb dL_law_359 (by decide +kernel) ?_
      refine lv_iadd hx hb dL_law_360 ?_
      refine va_sld hx hb hX hbl hbA hS (law_in1 hi_ hL) dL_law_361 ?_
      have hPc := hP.sub (ws' := kbW x0 xv xm d1 d2 V M nv nm) [0, 1, 2] rfl
      have hKc := hK.sub (tys' := kTy d1 d2) [0, 1] rfl
      refine vp_callSi (W.runV (As := [.int (xs (nI (5 * i_) + 1).toNatClampNeg)]) (rest := []) ⟨hx, hb, hml, hown, hts⟩ (metX0_value l dC dI x0 xv xm d1 d2 V M nv nm (xs (nI (5 * i_) + 1).toNatClampNeg)) (cwV 1 hts (lw_V q115 q116 q117 q16 q118) rfl rfl rfl (by decide +kernel) ⟨Nat.le_of_ble_eq_true rfl, Nat.le_of_ble_eq_true rfl⟩) ⟨kb_blindR, va_recv hKc hPc (ci := 0) (q0 := 0) rfl rfl, fun U hU hW => ⟨rfl, by rw [hU]; exact hPc, va_K.moved hW.alike hKc⟩⟩ rfl rfl hl.1 rfl (lv_room (Nat.le_of_ble_eq_true rfl)) dL_law_362 ⟨Nat.le_of_ble_eq_true rfl, Nat.le_of_ble_eq_true rfl⟩) (fun r1 hw1 => ?_)
      refine lv_aload_n hx hb dL_law_365 rfl (lv_at hl 3 rfl) ?_
      refine lv_aload_n hx hb dL_law_366 rfl (lv_at hl 1 rfl) ?_
      refine lv_iload_n hx hb dL_law_367 rfl (lv_at hl 0 rfl) ?_
      refine lv_iconst (v := 1) hx hb dL_law_368 (by decide +kernel) ?_
      refine lv_iadd hx hb dL_law_369 ?_
      refine va_sld hx hb hX hbl hbA hS (law_in1 hi_ hL) dL_law_370 ?_
      have hPc := hP.sub (ws' := mdW y0 yv ym f1 f2 V M) [3, 4, 5] rfl
      have hKc := hK.sub (tys' := kTy f1 f2) [2, 3] rfl
      refine vp_callSi (W.runV (As := [.int (xs (nI (5 * i_) + 1).toNatClampNeg)]) (rest := [.int r1]) ⟨hx, hb, hml, hown, hts⟩ (metX1_value l dC dI y0 yv ym f1 f2 V M (xs (nI (5 * i_) + 1).toNatClampNeg)) (cwV 1 hts (lw_V q196 q197 q198 q17 q199) rfl rfl rfl (by decide +kernel) ⟨Nat.le_of_ble_eq_true rfl, Nat.le_of_ble_eq_true rfl⟩) ⟨kb_blindR, va_recv hKc hPc (ci := 1) (q0 := 0) rfl rfl, fun U hU hW => ⟨rfl, by rw [hU]; exact hPc, va_K.moved hW.alike hKc⟩⟩ rfl rfl hl.1 rfl (lv_room (Nat.le_of_ble_eq_true rfl)) dL_law_371 ⟨Nat.le_of_ble_eq_true rfl, Nat.le_of_ble_eq_true rfl⟩) (fun r2 hw2 => ?_)
      have hE : r1 = r2 := hw1.trans hw2.symm
      refine lv_icmp_eq (tgt := 478) hx hb dL_law_374 (by decide) (fun _ => ?_) (fun c_ => absurd hE c_)
      refine lv_iinc (v := nI (5 * (i_ + 1))) (lv' := [(3, .int (nI (5 * (i_ + 1)))), (0, .ref b), (1, .ref x0), (2, .ref y0)]) hx hb dL_law_478 hl (k := 0) rfl (law_inc i_) (by decide) rfl (fun ls hl => ?_)
      refine lv_goto (tgt := 18) hx hb dL_law_481 (by decide) ?_
      exact K_ (V, M, nv, nm) ls H locs hI_ hl hP hD hS
    · rw [e_]
      refine lv_tableIn (off := 347) (tgt := 379) hx hb dL_law_32 (by decide +kernel) (by decide +kernel) (by decide +kernel) (by decide) ?_
      refine lv_aload_n hx hb dL_law_379 rfl (lv_at hl 2 rfl) ?_
      refine lv_aload_n hx hb dL_law_380 rfl (lv_at hl 1 rfl) ?_
      refine lv_iload_n hx hb dL_law_381 rfl (lv_at hl 0 rfl) ?_
      refine lv_iconst (v := 1) hx hb dL_law_382 (by decide +kernel) ?_
      refine lv_iadd hx hb dL_law_383 ?_
      refine va_sld hx hb hX hbl hbA hS (law_in1 hi_ hL) dL_law_384 ?_
      have hPc := hP.sub (ws' := kbW x0 xv xm d1 d2 V M nv nm) [0, 1, 2] rfl
      have hKc := hK.sub (tys' := kTy d1 d2) [0, 1] rfl
      refine vp_callSi (W.runV (As := [.int (xs (nI (5 * i_) + 1).toNatClampNeg)]) (rest := []) ⟨hx, hb, hml, hown, hts⟩ (metX0_mask l dC dI x0 xv xm d1 d2 V M nv nm (xs (nI (5 * i_) + 1).toNatClampNeg)) (cwV 1 hts (lw_V q119 q120 q121 q16 q122) rfl rfl rfl (by decide +kernel) ⟨Nat.le_of_ble_eq_true rfl, Nat.le_of_ble_eq_true rfl⟩) ⟨kb_blindR, va_recv hKc hPc (ci := 0) (q0 := 0) rfl rfl, fun U hU hW => ⟨rfl, by rw [hU]; exact hPc, va_K.moved hW.alike hKc⟩⟩ rfl rfl hl.1 rfl (lv_room (Nat.le_of_ble_eq_true rfl)) dL_law_385 ⟨Nat.le_of_ble_eq_true rfl, Nat.le_of_ble_eq_true rfl⟩) (fun r1 hw1 => ?_)
      refine lv_aload_n hx hb dL_law_388 rfl (lv_at hl 3 rfl) ?_
      refine lv_aload_n hx hb dL_law_389 rfl (lv_at hl 1 rfl) ?_
      refine lv_iload_n hx hb dL_law_390 rfl (lv_at hl 0 rfl) ?_
      refine lv_iconst (v := 1) hx hb dL_law_391 (by decide +kernel) ?_
      refine lv_iadd hx hb dL_law_392 ?_
      refine va_sld hx hb hX hbl hbA hS (law_in1 hi_ hL) dL_law_393 ?_
      have hPc := hP.sub (ws' := mdW y0 yv ym f1 f2 V M) [3, 4, 5] rfl
      have hKc := hK.sub (tys' := kTy f1 f2) [2, 3] rfl
      refine vp_callSi (W.runV (As := [.int (xs (nI (5 * i_) + 1).toNatClampNeg)]) (rest := [.int r1]) ⟨hx, hb, hml, hown, hts⟩ (metX1_mask l dC dI y0 yv ym f1 f2 V M (xs (nI (5 * i_) + 1).toNatClampNeg)) (cwV 1 hts (lw_V q200 q201 q202 q17 q203) rfl rfl rfl (by decide +kernel) ⟨Nat.le_of_ble_eq_true rfl, Nat.le_of_ble_eq_true rfl⟩) ⟨kb_blindR, va_recv hKc hPc (ci := 1) (q0 := 0) rfl rfl, fun U hU hW => ⟨rfl, by rw [hU]; exact hPc, va_K.moved hW.alike hKc⟩⟩ rfl rfl hl.1 rfl (lv_room (Nat.le_of_ble_eq_true rfl)) dL_law_394 ⟨Nat.le_of_ble_eq_true rfl, Nat.le_of_ble_eq_true rfl⟩) (fun r2 hw2 => ?_)
      have hE : r1 = r2 := hw1.trans hw2.symm
      refine lv_icmp_eq (tgt := 478) hx hb dL_law_397 (by decide) (fun _ => ?_) (fun c_ => absurd hE c_)
      refine lv_iinc (v := nI (5 * (i_ + 1))) (lv' := [(3, .int (nI (5 * (i_ + 1)))), (0, .ref b), (1, .ref x0), (2, .ref y0)]) hx hb dL_law_478 hl (k := 0) rfl (law_inc i_) (by decide) rfl (fun ls hl => ?_)
      refine lv_goto (tgt := 18) hx hb dL_law_481 (by decide) ?_
      exact K_ (V, M, nv, nm) ls H locs hI_ hl hP hD hS
    · rw [e_]
      refine lv_tableIn (off := 370) (tgt := 402) hx hb dL_law_32 (by decide +kernel) (by decide +kernel) (by decide +kernel) (by decide) ?_
      refine lv_aload_n hx hb dL_law_402 rfl (lv_at hl 2 rfl) ?_
      refine lv_aload_n hx hb dL_law_403 rfl (lv_at hl 1 rfl) ?_
      refine lv_iload_n hx hb dL_law_404 rfl (lv_at hl 0 rfl) ?_
      refine lv_iconst (v := 1) hx hb dL_law_405 (by decide +kernel) ?_
      refine lv_iadd hx hb dL_law_406 ?_
      refine va_sld hx hb hX hbl hbA hS (law_in1 hi_ hL) dL_law_407 ?_
      refine lv_aload_n hx hb dL_law_408 rfl (lv_at hl 1 rfl) ?_
      refine lv_iload_n hx hb dL_law_409 rfl (lv_at hl 0 rfl) ?_
      refine lv_iconst (v := 2) hx hb dL_law_410 (by decide +kernel) ?_
      refine lv_iadd hx hb dL_law_411 ?_
      refine va_sld hx hb hX hbl hbA hS (law_in2 hi_ hL) dL_law_412 ?_
      have hPc := hP.sub (ws' := kbW x0 xv xm d1 d2 V M nv nm) [0, 1, 2] rfl
      have hKc := hK.sub (tys' := kTy d1 d2) [0, 1] rfl
      refine vp_callSi (W.runV (As := [.int (xs (nI (5 * i_) + 1).toNatClampNeg), .int (xs (nI (5 * i_) + 2).toNatClampNeg)]) (rest := []) ⟨hx, hb, hml, hown, hts⟩ (metX0_least l dC dI x0 xv xm d1 d2 V M nv nm (xs (nI (5 * i_) + 1).toNatClampNeg) (xs (nI (5 * i_) + 2).toNatClampNeg)) (cwV 2 hts (lw_V q123 q124 q125 q16 q126) rfl rfl rfl (by decide +kernel) ⟨Nat.le_of_ble_eq_true rfl, Nat.le_of_ble_eq_true rfl⟩) ⟨kb_blindR, va_recv hKc hPc (ci := 0) (q0 := 0) rfl rfl, fun U hU hW => ⟨rfl, by rw [hU]; exact hPc, va_K.moved hW.alike hKc⟩⟩ rfl rfl hl.1 rfl (lv_room (Nat.le_of_ble_eq_true rfl)) dL_law_413 ⟨Nat.le_of_ble_eq_true rfl, Nat.le_of_ble_eq_true rfl⟩) (fun r1 hw1 => ?_)
      refine lv_aload_n hx hb dL_law_416 rfl (lv_at hl 3 rfl) ?_
      refine lv_aload_n hx hb dL_law_417 rfl (lv_at hl 1 rfl) ?_
      refine lv_iload_n hx hb dL_law_418 rfl (lv_at hl 0 rfl) ?_
      refine lv_iconst (v := 1) hx hb dL_law_419 (by decide +kernel) ?_
      refine lv_iadd hx hb dL_law_420 ?_
      refine va_sld hx hb hX hbl hbA hS (law_in1 hi_ hL) dL_law_421 ?_
      refine lv_aload_n hx hb dL_law_422 rfl (lv_at hl 1 rfl) ?_
      refine lv_iload_n hx hb dL_law_423 rfl (lv_at hl 0 rfl) ?_
      refine lv_iconst (v := 2) hx hb dL_law_424 (by decide +kernel) ?_
      refine lv_iadd hx hb dL_law_425 ?_
      refine va_sld hx hb hX hbl hbA hS (law_in2 hi_ hL) dL_law_426 ?_
      have hPc := hP.sub (ws' := mdW y0 yv ym f1 f2 V M) [3, 4, 5] rfl
      have hKc := hK.sub (tys' := kTy f1 f2) [2, 3] rfl
      refine vp_callSi (W.runV (As := [.int (xs (nI (5 * i_) + 1).toNatClampNeg), .int (xs (nI (5 * i_) + 2).toNatClampNeg)]) (rest := [.int r1]) ⟨hx, hb, hml, hown, hts⟩ (metX1_least l dC dI y0 yv ym f1 f2 V M (xs (nI (5 * i_) + 1).toNatClampNeg) (xs (nI (5 * i_) + 2).toNatClampNeg)) (cwV 2 hts (lw_V q204 q205 q206 q17 q207) rfl rfl rfl (by decide +kernel) ⟨Nat.le_of_ble_eq_true rfl, Nat.le_of_ble_eq_true rfl⟩) ⟨kb_blindR, va_recv hKc hPc (ci := 1) (q0 := 0) rfl rfl, fun U hU hW => ⟨rfl, by rw [hU]; exact hPc, va_K.moved hW.alike hKc⟩⟩ rfl rfl hl.1 rfl (lv_room (Nat.le_of_ble_eq_true rfl)) dL_law_427 ⟨Nat.le_of_ble_eq_true rfl, Nat.le_of_ble_eq_true rfl⟩) (fun r2 hw2 => ?_)
      have hE : r1 = r2 := law_ls hI_ hw1 hw2
      refine lv_icmp_eq (tgt := 478) hx hb dL_law_430 (by decide) (fun _ => ?_) (fun c_ => absurd hE c_)
      refine lv_iinc (v := nI (5 * (i_ + 1))) (lv' := [(3, .int (nI (5 * (i_ + 1)))), (0, .ref b), (1, .ref x0), (2, .ref y0)]) hx hb dL_law_478 hl (k := 0) rfl (law_inc i_) (by decide) rfl (fun ls hl => ?_)
      refine lv_goto (tgt := 18) hx hb dL_law_481 (by decide) ?_
      exact K_ (V, M, nv, nm) ls H locs hI_ hl hP hD hS
    · rw [e_]
      refine lv_tableIn (off := 403) (tgt := 435) hx hb dL_law_32 (by decide +kernel) (by decide +kernel) (by decide +kernel) (by decide) ?_
      refine lv_aload_n hx hb dL_law_435 rfl (lv_at hl 2 rfl) ?_
      refine lv_aload_n hx hb dL_law_436 rfl (lv_at hl 1 rfl) ?_
      refine lv_iload_n hx hb dL_law_437 rfl (lv_at hl 0 rfl) ?_
      refine lv_iconst (v := 1) hx hb dL_law_438 (by decide +kernel) ?_
      refine lv_iadd hx hb dL_law_439 ?_
      refine va_sld hx hb hX hbl hbA hS (law_in1 hi_ hL) dL_law_440 ?_
      refine lv_aload_n hx hb dL_law_441 rfl (lv_at hl 1 rfl) ?_
      refine lv_iload_n hx hb dL_law_442 rfl (lv_at hl 0 rfl) ?_
      refine lv_iconst (v := 2) hx hb dL_law_443 (by decide +kernel) ?_
      refine lv_iadd hx hb dL_law_444 ?_
      refine va_sld hx hb hX hbl hbA hS (law_in2 hi_ hL) dL_law_445 ?_
      refine lv_aload_n hx hb dL_law_446 rfl (lv_at hl 1 rfl) ?_
      refine lv_iload_n hx hb dL_law_447 rfl (lv_at hl 0 rfl) ?_
      refine lv_iconst (v := 3) hx hb dL_law_448 (by decide +kernel) ?_
      refine lv_iadd hx hb dL_law_449 ?_
      refine va_sld hx hb hX hbl hbA hS (law_in3 hi_ hL) dL_law_450 ?_
      have hPc := hP.sub (ws' := kbW x0 xv xm d1 d2 V M nv nm) [0, 1, 2] rfl
      have hKc := hK.sub (tys' := kTy d1 d2) [0, 1] rfl
      refine vp_callSi (W.runV (As := [.int (xs (nI (5 * i_) + 1).toNatClampNeg), .int (xs (nI (5 * i_) + 2).toNatClampNeg), .int (xs (nI (5 * i_) + 3).toNatClampNeg)]) (rest := []) ⟨hx, hb, hml, hown, hts⟩ (metX0_count l dC dI x0 xv xm d1 d2 V M nv nm (xs (nI (5 * i_) + 1).toNatClampNeg) (xs (nI (5 * i_) + 2).toNatClampNeg) (xs (nI (5 * i_) + 3).toNatClampNeg)) (cwV 3 hts (lw_V q127 q128 q129 q16 q130) rfl rfl rfl (by decide +kernel) ⟨Nat.le_of_ble_eq_true rfl, Nat.le_of_ble_eq_true rfl⟩) ⟨kb_blindR, va_recv hKc hPc (ci := 0) (q0 := 0) rfl rfl, fun U hU hW => ⟨rfl, by rw [hU]; exact hPc, va_K.moved hW.alike hKc⟩⟩ rfl rfl hl.1 rfl (lv_room (Nat.le_of_ble_eq_true rfl)) dL_law_451 ⟨Nat.le_of_ble_eq_true rfl, Nat.le_of_ble_eq_true rfl⟩) (fun r1 hw1 => ?_)
      refine lv_aload_n hx hb dL_law_454 rfl (lv_at hl 3 rfl) ?_
      refine lv_aload_n hx hb dL_law_455 rfl (lv_at hl 1 rfl) ?_
      refine lv_iload_n hx hb dL_law_456 rfl (lv_at hl 0 rfl) ?_
      refine lv_iconst (v := 1) hx hb dL_law_457 (by decide +kernel) ?_
      refine lv_iadd hx hb dL_law_458 ?_
      refine va_sld hx hb hX hbl hbA hS (law_in1 hi_ hL) dL_law_459 ?_
      refine lv_aload_n hx hb dL_law_460 rfl (lv_at hl 1 rfl) ?_
      refine lv_iload_n hx hb dL_law_461 rfl (lv_at hl 0 rfl) ?_
      refine lv_iconst (v := 2) hx hb dL_law_462 (by decide +kernel) ?_
      refine lv_iadd hx hb dL_law_463 ?_
      refine va_sld hx hb hX hbl hbA hS (law_in2 hi_ hL) dL_law_464 ?_
      refine lv_aload_n hx hb dL_law_465 rfl (lv_at hl 1 rfl) ?_
      refine lv_iload_n hx hb dL_law_466 rfl (lv_at hl 0 rfl) ?_
      refine lv_iconst (v := 3) hx hb dL_law_467 (by decide +kernel) ?_
      refine lv_iadd hx hb dL_law_468 ?_
      refine va_sld hx hb hX hbl hbA hS (law_in3 hi_ hL) dL_law_469 ?_
      have hPc := hP.sub (ws' := mdW y0 yv ym f1 f2 V M) [3, 4, 5] rfl
      have hKc := hK.sub (tys' := kTy f1 f2) [2, 3] rfl
      refine vp_callSi (W.runV (As := [.int (xs (nI (5 * i_) + 1).toNatClampNeg), .int (xs (nI (5 * i_) + 2).toNatClampNeg), .int (xs (nI (5 * i_) + 3).toNatClampNeg)]) (rest := [.int r1]) ⟨hx, hb, hml, hown, hts⟩ (metX1_count l dC dI y0 yv ym f1 f2 V M (xs (nI (5 * i_) + 1).toNatClampNeg) (xs (nI (5 * i_) + 2).toNatClampNeg) (xs (nI (5 * i_) + 3).toNatClampNeg)) (cwV 3 hts (lw_V q208 q209 q210 q17 q211) rfl rfl rfl (by decide +kernel) ⟨Nat.le_of_ble_eq_true rfl, Nat.le_of_ble_eq_true rfl⟩) ⟨kb_blindR, va_recv hKc hPc (ci := 1) (q0 := 0) rfl rfl, fun U hU hW => ⟨rfl, by rw [hU]; exact hPc, va_K.moved hW.alike hKc⟩⟩ rfl rfl hl.1 rfl (lv_room (Nat.le_of_ble_eq_true rfl)) dL_law_470 ⟨Nat.le_of_ble_eq_true rfl, Nat.le_of_ble_eq_true rfl⟩) (fun r2 hw2 => ?_)
      have hE : r1 = r2 := law_ct hI_ hw1 hw2
      refine lv_icmp_eq (tgt := 478) hx hb dL_law_473 (by decide) (fun _ => ?_) (fun c_ => absurd hE c_)
      refine lv_iinc (v := nI (5 * (i_ + 1))) (lv' := [(3, .int (nI (5 * (i_ + 1)))), (0, .ref b), (1, .ref x0), (2, .ref y0)]) hx hb dL_law_478 hl (k := 0) rfl (law_inc i_) (by decide) rfl (fun ls hl => ?_)
      refine lv_goto (tgt := 18) hx hb dL_law_481 (by decide) ?_
      exact K_ (V, M, nv, nm) ls H locs hI_ hl hP hD hS
    · refine lv_tableOut (tgt := 478) hx hb dL_law_32 (Or.inr (by rw [nI_toInt (by omega)]; omega)) (by decide) ?_
      refine lv_iinc (v := nI (5 * (i_ + 1))) (lv' := [(3, .int (nI (5 * (i_ + 1)))), (0, .ref b), (1, .ref x0), (2, .ref y0)]) hx hb dL_law_478 hl (k := 0) rfl (law_inc i_) (by decide) rfl (fun ls hl => ?_)
      refine lv_goto (tgt := 18) hx hb dL_law_481 (by decide) ?_
      exact K_ (V, M, nv, nm) ls H locs hI_ hl hP hD hS
end
section
set_option maxHeartbeats 8000000 in
set_option maxRecDepth 100000 in
theorem whole_start {p : Program} {e : Env} {s : State} {m : MethodId} {below : List Frame} {meth : Method} {c : Code} (l : Launch) {b L : Nat} {xs : Nat → Int32} (hL : L ≤ 320) (C0 : lw_At p s m meth c b L xs) : W p l e room_1 s m #[Value.ref b] below meth c s.heap [] 0 0 (lw_Z below #[Value.ref b] s) (entryFrame m ([Value.ref b] : List Value).toArray 4) := by
  obtain ⟨hx, hb, hr, hml, hown, hts0, hX, hbl, hlocks, hgv⟩ := id C0
  have hts : ∀ w ∈ lw_all, w.before #[Value.ref b] s = true := fun w h => hts0 w (lw_all_tbl h)
  have hA : ∀ q : Nat, s.heap.size ≤ q → (fun q : Nat => s.heap.size ≤ q) q := fun _ h => h
  obtain ⟨c0, iS0, hKn0⟩ := u_known (C := RX0) (T := TX0) (N := 4) (n := 4) hts in_X0 (hts _ q19)
  obtain ⟨c1, iS1, hKn1⟩ := u_known (C := RX1) (T := TX1) (N := 2) (n := 2) hts in_X1 (hts _ q139)
  obtain ⟨dC, dI, hKc0⟩ : ∃ (dC : Nat → ClassId) (dI : Nat → Nat → Nat), ∀ (k : Nat) (q : vw_C), vwCl[k]? = some q → u_Kn s q.1 q.2.1 q.2.2 (dC k) (dI k) := by
    refine ⟨fun k => if k = 0 then c0 else c1, fun k => if k = 0 then iS0 else iS1, ?_⟩
    intro k q hq
    match k, hq with
    | 0, hq => cases hq; exact hKn0
    | 1, hq => cases hq; exact hKn1
    | k + 2, hq => simp [vwCl] at hq
  have hS : va_S (fun q : Nat => s.heap.size ≤ q) s.heap s.heap [] := va_S.rf
  have hK : va_K (dC, dI) vwCl [] s := ⟨hKc0, fun k q h => by simp at h⟩
  have hP : va_P (dC, dI) vwCl [] s.heap := fun k q h => by simp at h
  have hD : va_D (fun q : Nat => s.heap.size ≤ q) [] := ⟨fun i j p q h => by simp at h, fun k q h => by simp at h⟩
  have hl := lv_entry ([.ref b]) (n := 4) (Nat.le_of_ble_eq_true rfl)
  rw [lg_entry_eq]
  generalize (lg_sl ([.ref b]) ++ List.replicate (4 - (lg_sl ([.ref b])).length) Slot.unset).toArray = ls at hl ⊢
  have hl : lv_has ls 4 [(0, .ref b)] := hl
  refine va_new (ci := 0) (fs := [.null, .null, .int 0, .int 0]) (C := RX0) (T := TX0) (N := 4) hx hb hts in_X0 tyX0 tyX0_ok hown (hts _ q18) (hts _ q19) (hts _ q16) hK hP hD hS hA rfl (fun j hj => by rcases (show j = 0 ∨ j = 1 ∨ j = 2 ∨ j = 3 by omega) with rfl | rfl | rfl | rfl <;> rfl) (Nat.le_of_ble_eq_true rfl) (Nat.le_of_ble_eq_true rfl) dL_law_0 (fun x0 H hP hD hS => ?_)
  have hP : va_P (dC, dI) vwCl [(x0, .inr (0, [.null, .null, .int 0, .int 0]))] H := hP
  have hD : va_D (fun q : Nat => s.heap.size ≤ q) [(x0, .inr (0, [.null, .null, .int 0, .int 0]))] := hD
  refine W.widen (k := 1) (n := 4) (by decide) (by decide) ?_
  refine lv_dup hx hb dL_law_3 rfl ?_
  have hPc := hP.sub (ws' := [(x0, .inr (0, [.null, .null, .int 0, .int 0]))]) [0] rfl
  have hDc := hD.sub (ws' := [(x0, .inr (0, [.null, .null, .int 0, .int 0]))]) [0] (by decide) rfl
  have hKc := hK.sub (tys' := []) [] rfl
  have hFc := va_free (wc := [(x0, .inr (0, [.null, .null, .int 0, .int 0]))]) hD hS hA [0] rfl
  refine va_callv (va_runI (As := []) (rest := [.ref x0]) ⟨hx, hb, hml, hown, hts⟩ (metX0_init l dC dI x0 H.size) (cwI 0 hts (lw_meth q22) rfl rfl rfl (hts _ q16) (hts _ q20) (hts _ q21) rfl (by decide +kernel) ⟨Nat.le_of_ble_eq_true rfl, Nat.le_of_ble_eq_true rfl⟩) ⟨kb_blindW, fun U hU hW => ⟨rfl, by rw [hU], by rw [hU]; exact hPc, va_K.moved hW.alike hKc, hDc.weaken (fun _ _ _ _ => trivial)⟩⟩ rfl rfl hl.1 rfl (lv_room (Nat.le_of_ble_eq_true rfl)) dL_law_4 ⟨Nat.le_of_ble_eq_true rfl, Nat.le_of_ble_eq_true rfl⟩) hS (fun q _ h => hFc q h) hFc (fun u t H1 locs ht hvm hw hB hz1 hk1 hS => ?_)
  obtain ⟨xv, xm, d1, d2, hP1, hK1, hD1⟩ := hB
  rw [ht] at hP1
  have hK1 := va_K.moved hvm.symm hK1
  obtain ⟨hP, hD⟩ := va_join (wr := []) (w1 := kbW x0 xv xm d1 d2 (fun _ => 0) (fun _ => 0) 0 0) hP hD [0] [] rfl rfl (by decide) (by decide) hk1 hFc hP1 hD1
  have hK : va_K (dC, dI) vwCl (kTy d1 d2) s := hK1
  generalize H1 = H at hP hS ⊢
  have hP : va_P (dC, dI) vwCl (kbW x0 xv xm d1 d2 (fun _ => 0) (fun _ => 0) 0 0) H := hP
  have hD : va_D (fun q : Nat => s.heap.size ≤ q) (kbW x0 xv xm d1 d2 (fun _ => 0) (fun _ => 0) 0 0) := hD
  refine W.widen (k := 3) (n := 16) (by decide) (by decide) ?_
  refine lv_astore_n (lv' := [(1, .ref x0), (0, .ref b)]) hx hb dL_law_7 rfl hl (by decide) rfl (fun ls hl => ?_)
  refine va_new (ci := 1) (fs := [.null, .null]) (C := RX1) (T := TX1) (N := 2) hx hb hts in_X1 tyX1 tyX1_ok hown (hts _ q138) (hts _ q139) (hts _ q17) hK hP hD hS hA rfl (fun j hj => by rcases (show j = 0 ∨ j = 1 by omega) with rfl | rfl <;> rfl) (Nat.le_of_ble_eq_true rfl) (Nat.le_of_ble_eq_true rfl) dL_law_8 (fun y0 H hP hD hS => ?_)
  have hP : va_P (dC, dI) vwCl (kbW x0 xv xm d1 d2 (fun _ => 0) (fun _ => 0) 0 0 ++ [(y0, .inr (1, [.null, .null]))]) H := hP
  have hD : va_D (fun q : Nat => s.heap.size ≤ q) (kbW x0 xv xm d1 d2 (fun _ => 0) (fun _ => 0) 0 0 ++ [(y0, .inr (1, [.null, .null]))]) := hD
  refine W.widen (k := 4) (n := 18) (by decide) (by decide) ?_
  refine lv_dup hx hb dL_law_11 rfl ?_
  have hPc := hP.sub (ws' := [(y0, .inr (1, [.null, .null]))]) [3] rfl
  have hDc := hD.sub (ws' := [(y0, .inr (1, [.null, .null]))]) [3] (by decide) rfl
  have hKc := hK.sub (tys' := []) [] rfl
  have hFc := va_free (wc := [(y0, .inr (1, [.null, .null]))]) hD hS hA [3] rfl
  refine va_callv (va_runI (As := []) (rest := [.ref y0]) ⟨hx, hb, hml, hown, hts⟩ (metX1_init l dC dI y0 H.size) (cwI 0 hts (lw_meth q142) rfl rfl rfl (hts _ q17) (hts _ q140) (hts _ q141) rfl (by decide +kernel) ⟨Nat.le_of_ble_eq_true rfl, Nat.le_of_ble_eq_true rfl⟩) ⟨kb_blindW, fun U hU hW => ⟨rfl, by rw [hU], by rw [hU]; exact hPc, va_K.moved hW.alike hKc, hDc.weaken (fun _ _ _ _ => trivial)⟩⟩ rfl rfl hl.1 rfl (lv_room (Nat.le_of_ble_eq_true rfl)) dL_law_12 ⟨Nat.le_of_ble_eq_true rfl, Nat.le_of_ble_eq_true rfl⟩) hS (fun q _ h => hFc q h) hFc (fun u t H1 locs ht hvm hw hB hz1 hk1 hS => ?_)
  obtain ⟨yv, ym, f1, f2, hP1, hK1, hD1⟩ := hB
  rw [ht] at hP1
  have hK1 := va_K.moved hvm.symm hK1
  obtain ⟨hP, hD⟩ := va_join (wr := kbW x0 xv xm d1 d2 (fun _ => 0) (fun _ => 0) 0 0) (w1 := mdW y0 yv ym f1 f2 (fun _ => 0) (fun _ => 0)) hP hD [3] [0, 1, 2] rfl rfl (by decide) (by decide) hk1 hFc hP1 hD1
  have hK : va_K (dC, dI) vwCl (lwT d1 d2 f1 f2) s := hK.app hK1
  generalize H1 = H at hP hS ⊢
  refine W.widen (k := 6) (n := 30) (by decide) (by decide) ?_
  refine lv_astore_n (lv' := [(2, .ref y0), (1, .ref x0), (0, .ref b)]) hx hb dL_law_15 rfl hl (by decide) rfl (fun ls hl => ?_)
  refine lv_iconst (v := nI (5 * 0)) hx hb dL_law_16 (by decide +kernel) ?_
  refine lv_istore_n (lv' := [(3, .int (nI (5 * 0))), (2, .ref y0), (1, .ref x0), (0, .ref b)]) hx hb dL_law_17 rfl hl (by decide) rfl (fun ls hl => ?_)
  exact law_loop l hL C0 hK 0 ((fun _ => 0), (fun _ => 0), 0, 0) ls _ _ (Nat.zero_le _) kGd_0 (lv_sub hl [0, 3, 2, 1] rfl) hP hD hS
end
section
set_option maxHeartbeats 4000000 in
theorem lw_walk (l : Launch) (b : Addr) (xs : List Int32) : MetFree l x (headSpec (Jvm.Cond.code x code maxLocals ret :: tables_1) room_1) (lw_P b xs) (fun _ _ _ _ _ => True) lw_Q := by
  refine MetFree.of_bodyS (code := code) (maxLocals := maxLocals) (ret := ret) (by decide) ?_ ?_
  · intro args s m h hn
    obtain ⟨meth, c, h1, h2, h3, h4, h5, h6, -, -⟩ := Cond.code_spec hn (atoms_spec (ws := Jvm.Cond.code x code maxLocals ret :: tables_1) h _ List.mem_cons_self)
    exact ⟨meth, c, h1, h2, h3, h4, h5, h6⟩
  · intro p e s m args below meth c s₁ B hml0 hP _
    obtain ⟨rfl, hx, hbd, hgv⟩ := hP
    obtain ⟨scr, harrAt, hlist, hof, hsmall⟩ := hx
    obtain ⟨hcb, hkn, -, -⟩ := State.arrayAt?_spec harrAt
    have hown : s.vm.findClass R_law = some m.cls := findClass_of_methodNamed B.named
    have hts0 : ∀ c ∈ (Jvm.Cond.code x code maxLocals ret :: tables_1), c.before #[Value.ref b] s = true := atoms_spec (ws := Jvm.Cond.code x code maxLocals ret :: tables_1) B.pre
    have hts : ∀ w ∈ lw_tbl, w.before #[Value.ref b] s = true := k2_hts_sels lw_privs (fun w hw => hts0 w (List.mem_cons_of_mem _ hw)) lw_privs_ok
    have hml : c.maxLocals = 4 := B.maxLocals_eq (hts0 _ List.mem_cons_self)
    have X₀ : Stand p l e room_1 s m #[Value.ref b] below meth c s₁ [] 0 0 := Stand.of_body B
    have hh0 : s₁.heap = s.heap := by rw [B.state]; rfl
    have hsz : scr.slots.size = xs.length := by rw [← Array.length_toList, hlist, List.length_map]
    have hval : ∀ j : Nat, j < xs.length → scr.slots[j]? = some (.int (xs.getD j 0)) := fun j hj => by
      rw [← Array.getElem?_toList, hlist]
      simp [hj]
    have hbl : b < s.heap.size := (Array.getElem?_eq_some_iff.mp hcb).1
    have hX : va_X b xs.length (fun j => xs.getD j 0) s s.heap := ⟨scr, hcb, hof, hkn, hsz, hval⟩
    have K : W p l e room_1 s m #[Value.ref b] below meth c s₁.heap [] 0 0 (lw_Z below #[Value.ref b] s) (entryFrame m ([Value.ref b] : List Value).toArray 4) := by
      rw [hh0]
      exact whole_start l hbd ⟨B.exec, B.bytes, B.returns, hml, hown, hts, hX, hbl, B.notSynchronized, hgv⟩
    obtain ⟨t, a1, o, b1, b2, b3⟩ := K s₁ rfl X₀
    exact ⟨t, o, a1, b1, b2, b3⟩
theorem lw_pre_spec {args : Array Value} {s : State} (h : (Jvm.Cond.and given_1 narrow_1).before args s = true) (hr : rest_1_c.before args s = true) : ∃ (b : Addr) (xs : List Int32), lw_P b xs args s := by
  have hs := flat_of_before _ h
  have hq := flat_of_before _ hr
  have hc : (Cond.count 1).before args s = true := hs _ (by decide +kernel)
  have harr : (Cond.arrayOf (.arg 0) .int).before args s = true := hs _ (by decide +kernel)
  have hle : (Cond.le (.length (.arg 0)) (.int 320)).before args s = true := hs _ (by decide +kernel)
  have hlen : (Cond.isInt (.length (.arg 0))).before args s = true := hq _ (by decide +kernel)
  have hall : (Cond.all (.arg 0) (.isInt (.elem (.arg 0) (.index 0)))).before args s = true := hq _ (by decide +kernel)
  obtain ⟨b, xs, hb, hx⟩ := State.ints_of_pre rfl harr hlen hall
  have hsm : xs.length < 2 ^ 31 := hx.choose_spec.2.2.2
  have hev : (Term.length (.arg 0)).eval args s none [] s = some (.int xs.length.toInt32) := hx.length_eval hb
  have hv := Cond.le_ints hev (show (Term.int 320).eval args s none [] s = some (.int 320) from rfl)
  have hd : xs.length.toInt32 ≤ 320 := by
    simpa [Cond.before, Cond.holds, hv] using hle
  have hN : xs.length ≤ 320 := (Int32.ofNat_le_ofNat hsm (by decide)).mp (show Int32.ofNat xs.length ≤ Int32.ofNat 320 from hd)
  exact ⟨b, xs, Cond.one_arg hc (show args[0]? = some (.ref b) from hb), hx, hN, h⟩
theorem lw_comes (l : Launch) : Comes l x (Jvm.Cond.code x code maxLocals ret :: tables_1) room_1 (fun tb e args s => Calls_1 tb e args s ∧ rest_1 tb e args s ∧ Pre_1 tb e args s)
    (fun _ _ args s o t => lw_Q args s o t) := by
  intro p e ha hc hk s m args below hf hfit hheap happ hpre
  obtain ⟨b, xs, hP⟩ := lw_pre_spec hpre.2.2 hpre.2.1
  obtain ⟨k, o, h1, h2, h3, hQ⟩ := lw_walk l b xs p e ha hc hk s m args below hf ((Spec.applies_iff_loose hf).mp happ).1 hP trivial
  exact ⟨k, o, h1, h2, h3, hQ⟩
theorem lw_frame {s t : State} {o : Outcome} {args : Array Value} (h : Framed s o t [] 600000 7290000) :
    Framed s o t (fieldLocs frame_1_writes args s ++ arrayLocs frame_1_arrays args s ++ staticLocs frame_1_statics s) 600000 7290000 := h
theorem lw_limb (L : Cond) (hL : ∀ (args : Array Value) (s t : State), L.after args s (.returned (some (.int 1))) t = true) :
    ArmFor flags0 classFile x code maxLocals ret World_1 tables_1 room_1 Calls_1 rest_1 Pre_1
      (fun tb e a s o t => postC L tb e a s o t ∧ Framed s o t (fieldLocs frame_1_writes a s ++ arrayLocs frame_1_arrays a s ++ staticLocs frame_1_statics s) 600000 7290000) := by
  intro l _ _ _ p e ha hc hk s m args below hf hfit hheap happ hpre
  obtain ⟨k, o, h1, h2, h3, rfl, hF⟩ := lw_comes l p e ha hc hk s m args below hf hfit hheap happ hpre
  exact ⟨k, _, h1, h2, h3, hL args s _, lw_frame hF⟩
theorem i_vc : Claimed_1_1 ∧ Claimed_1_2 := ⟨lw_limb limb_1_1 (fun args s t => by simp [limb_1_1, Cond.after, Cond.holds, Cond.value]), lw_limb limb_1_2 (fun args s t => Cond.after_iff.mpr (by
  first | (rw [show limb_1_2 = Cond.eq .result (.int 1) from rfl, Cond.eq_ints (x := 1) (y := 1) rfl rfl]; simp; done) | (simp [limb_1_2, Cond.value, Term.eval]; done)))⟩
end
