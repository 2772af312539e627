section
-- ===== PART A: goes FIRST, ahead of the names: the tables' words, and 'selects' of the private methods out of them =====
/-- a private method of a class that the tables say can be made, by its rows of tables_1 -/
def lw_okq (q : MethodName × Nat) : Prop := (q.1.cls ≠ "java/lang/invoke/MethodHandle" ∧ q.1.cls ≠ "java/lang/invoke/VarHandle") ∧ Cond.instantiable q.1.cls q.2 ∈ tables_1 ∧ Cond.privateMethod q.1 ∈ tables_1 ∧ Cond.instanceMethod q.1 ∈ tables_1
set_option maxRecDepth 100000
theorem lw_p0 : lw_okq (⟨"RateLimits", "start", "(IIIII)V"⟩, 15) := ⟨⟨by decide +kernel, by decide +kernel⟩, List.mem_of_getElem? (i := 4) rfl, List.mem_of_getElem? (i := 12) rfl, List.mem_of_getElem? (i := 13) rfl⟩
theorem lw_p1 : lw_okq (⟨"RateLimits", "roomOf", "(I)I"⟩, 15) := ⟨⟨by decide +kernel, by decide +kernel⟩, List.mem_of_getElem? (i := 4) rfl, List.mem_of_getElem? (i := 78) rfl, List.mem_of_getElem? (i := 79) rfl⟩
theorem lw_p2 : lw_okq (⟨"RateLimits", "catchUp", "(I)V"⟩, 15) := ⟨⟨by decide +kernel, by decide +kernel⟩, List.mem_of_getElem? (i := 4) rfl, List.mem_of_getElem? (i := 82) rfl, List.mem_of_getElem? (i := 83) rfl⟩
theorem lw_p3 : lw_okq (⟨"RateLimits", "base", "(I)I"⟩, 15) := ⟨⟨by decide +kernel, by decide +kernel⟩, List.mem_of_getElem? (i := 4) rfl, List.mem_of_getElem? (i := 86) rfl, List.mem_of_getElem? (i := 87) rfl⟩
theorem lw_p4 : lw_okq (⟨"RateLimits", "grant", "(II)V"⟩, 15) := ⟨⟨by decide +kernel, by decide +kernel⟩, List.mem_of_getElem? (i := 4) rfl, List.mem_of_getElem? (i := 90) rfl, List.mem_of_getElem? (i := 91) rfl⟩
theorem lw_p5 : lw_okq (⟨"RateLimits", "logWait", "(II)I"⟩, 15) := ⟨⟨by decide +kernel, by decide +kernel⟩, List.mem_of_getElem? (i := 4) rfl, List.mem_of_getElem? (i := 107) rfl, List.mem_of_getElem? (i := 108) rfl⟩
theorem lw_p6 : lw_okq (⟨"RateLimitsModel", "make", "(IIIII)V"⟩, 10) := ⟨⟨by decide +kernel, by decide +kernel⟩, List.mem_of_getElem? (i := 127) rfl, List.mem_of_getElem? (i := 133) rfl, List.mem_of_getElem? (i := 134) rfl⟩
theorem lw_p7 : lw_okq (⟨"RateLimitsModel", "bad", "(I)Z"⟩, 10) := ⟨⟨by decide +kernel, by decide +kernel⟩, List.mem_of_getElem? (i := 127) rfl, List.mem_of_getElem? (i := 173) rfl, List.mem_of_getElem? (i := 174) rfl⟩
theorem lw_p8 : lw_okq (⟨"RateLimitsModel", "badCost", "(I)Z"⟩, 10) := ⟨⟨by decide +kernel, by decide +kernel⟩, List.mem_of_getElem? (i := 127) rfl, List.mem_of_getElem? (i := 185) rfl, List.mem_of_getElem? (i := 186) rfl⟩
theorem lw_p9 : lw_okq (⟨"RateLimitsModel", "would", "(III)Z"⟩, 10) := ⟨⟨by decide +kernel, by decide +kernel⟩, List.mem_of_getElem? (i := 127) rfl, List.mem_of_getElem? (i := 189) rfl, List.mem_of_getElem? (i := 190) rfl⟩
theorem lw_p10 : lw_okq (⟨"RateLimitsModel", "tokensIn", "(II)I"⟩, 10) := ⟨⟨by decide +kernel, by decide +kernel⟩, List.mem_of_getElem? (i := 127) rfl, List.mem_of_getElem? (i := 193) rfl, List.mem_of_getElem? (i := 194) rfl⟩
theorem lw_p11 : lw_okq (⟨"RateLimitsModel", "loggedIn", "(II)I"⟩, 10) := ⟨⟨by decide +kernel, by decide +kernel⟩, List.mem_of_getElem? (i := 127) rfl, List.mem_of_getElem? (i := 197) rfl, List.mem_of_getElem? (i := 198) rfl⟩
theorem lw_p12 : lw_okq (⟨"RateLimitsModel", "grant", "(II)V"⟩, 10) := ⟨⟨by decide +kernel, by decide +kernel⟩, List.mem_of_getElem? (i := 127) rfl, List.mem_of_getElem? (i := 201) rfl, List.mem_of_getElem? (i := 202) rfl⟩
def lw_privs_1 : List (MethodName × Nat) := [(⟨"RateLimits", "start", "(IIIII)V"⟩, 15), (⟨"RateLimits", "roomOf", "(I)I"⟩, 15), (⟨"RateLimits", "catchUp", "(I)V"⟩, 15), (⟨"RateLimits", "base", "(I)I"⟩, 15), (⟨"RateLimits", "grant", "(II)V"⟩, 15), (⟨"RateLimits", "logWait", "(II)I"⟩, 15), (⟨"RateLimitsModel", "make", "(IIIII)V"⟩, 10), (⟨"RateLimitsModel", "bad", "(I)Z"⟩, 10), (⟨"RateLimitsModel", "badCost", "(I)Z"⟩, 10), (⟨"RateLimitsModel", "would", "(III)Z"⟩, 10), (⟨"RateLimitsModel", "tokensIn", "(II)I"⟩, 10), (⟨"RateLimitsModel", "loggedIn", "(II)I"⟩, 10), (⟨"RateLimitsModel", "grant", "(II)V"⟩, 10)]
theorem lw_r1 : ∀ q ∈ lw_privs_1, lw_okq q := List.forall_mem_cons.mpr ⟨lw_p0, List.forall_mem_cons.mpr ⟨lw_p1, List.forall_mem_cons.mpr ⟨lw_p2, List.forall_mem_cons.mpr ⟨lw_p3, List.forall_mem_cons.mpr ⟨lw_p4, List.forall_mem_cons.mpr ⟨lw_p5, List.forall_mem_cons.mpr ⟨lw_p6, List.forall_mem_cons.mpr ⟨lw_p7, List.forall_mem_cons.mpr ⟨lw_p8, List.forall_mem_cons.mpr ⟨lw_p9, List.forall_mem_cons.mpr ⟨lw_p10, List.forall_mem_cons.mpr ⟨lw_p11, List.forall_mem_cons.mpr ⟨lw_p12, fun _ h => absurd h List.not_mem_nil⟩⟩⟩⟩⟩⟩⟩⟩⟩⟩⟩⟩⟩
def lw_privs : List (MethodName × Nat) := lw_privs_1
def lw_tbl : List Cond := k2_sels lw_privs ++ tables_1
theorem lw_privs_ok : ∀ q ∈ lw_privs, lw_okq q := lw_r1
-- ===== ONE list of words for every method: the tables' words that hold all through a run =====
def lw_all : List Cond := lw_tbl.filter goodWord
/-- a word of the tables by its place: claim/WORDS.tsv -/
theorem lw_w {w : Cond} (i : Nat) (h : lw_tbl[i]? = some w) (g : goodWord w = true) : w ∈ lw_all := List.mem_filter.mpr ⟨List.mem_of_getElem? h, g⟩
theorem lw_all_tbl {w : Cond} (h : w ∈ lw_all) : w ∈ lw_tbl := (List.mem_filter.mp h).1
theorem lw_self : GoodIn lw_all lw_all := fun w h => ⟨h, good_of_word (List.mem_filter.mp h).2⟩
/-- a class's field words, by their places -/
theorem lw_in (ws : List Cond) (ps : List Nat) (hp : ws = ps.filterMap (fun i => lw_tbl[i]?)) (hg : ws.all goodWord = true) : ∀ w ∈ ws, w ∈ lw_all := by
  intro w h
  have h1 := List.all_eq_true.mp hg w h
  rw [hp] at h
  obtain ⟨i, -, hi⟩ := List.mem_filterMap.mp h
  exact lw_w i hi h1
/-- the words of a contract for the method y with code b, L locals, answer r -/
abbrev ws_ (y : MethodName) (b : ByteArray) (L : Nat) (r : Option FieldType) : List Cond := Cond.code y b L r :: lw_all
theorem lw_meth {y : MethodName} {b : ByteArray} {L : Nat} {r : Option FieldType} (h : Cond.code y b L r ∈ lw_all) : GoodIn lw_all (ws_ y b L r) := by
  intro w hw
  rcases List.mem_cons.mp hw with e | e
  · rw [e]
    exact lw_self _ h
  · exact lw_self _ e
theorem lw_app {a c : List Cond} (ha : ∀ w ∈ a, w ∈ lw_all) (hc : GoodIn lw_all c) : GoodIn lw_all (a ++ c) := by
  intro w hw
  rcases List.mem_append.mp hw with e | e
  · exact lw_self w (ha w e)
  · exact hc w e
/-- what a call through an object asks: cwV n hts (lw_V ..) -/
theorem lw_V {own : String} {idx : Nat} {C : String} {y : MethodName} {b : ByteArray} {L : Nat} {r : Option FieldType} (h1 : Cond.methodLink own idx y ∈ lw_all) (h2 : Cond.instanceMethod y ∈ lw_all) (h3 : Cond.selects C y y ∈ lw_all) (h4 : Cond.initialized C ∈ lw_all) (h5 : Cond.code y b L r ∈ lw_all) : GoodIn lw_all (wsV own idx C y (ws_ y b L r)) := by
  refine lw_app ?_ (lw_meth h5)
  intro w hw
  simp only [List.mem_cons, List.not_mem_nil, or_false] at hw
  rcases hw with e | e | e | e
  · rw [e]; exact h1
  · rw [e]; exact h2
  · rw [e]; exact h3
  · rw [e]; exact h4
/-- what a static call asks: va_cwS n hts (lw_S ..) -/
theorem lw_S {own : String} {idx : Nat} {y : MethodName} {b : ByteArray} {L : Nat} {r : Option FieldType} (h1 : Cond.methodLink own idx y ∈ lw_all) (h2 : Cond.static y ∈ lw_all) (h3 : Cond.initialized y.cls ∈ lw_all) (h4 : Cond.code y b L r ∈ lw_all) : GoodIn lw_all (va_wsS own idx y (ws_ y b L r)) := by
  refine lw_app ?_ (lw_meth h4)
  intro w hw
  simp only [List.mem_cons, List.not_mem_nil, or_false] at hw
  rcases hw with e | e | e
  · rw [e]; exact h1
  · rw [e]; exact h2
  · rw [e]; exact h3
/-- the words of a contract for a method WITH HANDLERS (hh: its table) -/
abbrev wsW_ (y : MethodName) (b : ByteArray) (L : Nat) (r : Option FieldType) (hh : List (Nat × Nat × Nat × Nat)) : List Cond := Cond.codeWith y b L r hh :: lw_all
theorem lw_methW {y : MethodName} {b : ByteArray} {L : Nat} {r : Option FieldType} {hh : List (Nat × Nat × Nat × Nat)} (h : Cond.codeWith y b L r hh ∈ lw_all) : GoodIn lw_all (wsW_ y b L r hh) := by
  intro w hw
  rcases List.mem_cons.mp hw with e | e
  · rw [e]
    exact lw_self _ h
  · exact lw_self _ e
/-- any list of words by their places (lw_in), good -/
theorem lw_good {ws : List Cond} (h : ∀ w ∈ ws, w ∈ lw_all) : GoodIn lw_all ws := fun w hw => lw_self w (h w hw)
/-- what a call of a method with handlers asks: vx_cwVW n hts (lw_VW ..), vx_cwSW n hts (lw_SW ..) -/
theorem lw_VW {own : String} {idx : Nat} {C : String} {y : MethodName} {b : ByteArray} {L : Nat} {r : Option FieldType} {hh : List (Nat × Nat × Nat × Nat)} (h1 : Cond.methodLink own idx y ∈ lw_all) (h2 : Cond.instanceMethod y ∈ lw_all) (h3 : Cond.selects C y y ∈ lw_all) (h4 : Cond.initialized C ∈ lw_all) (h5 : Cond.codeWith y b L r hh ∈ lw_all) : GoodIn lw_all (wsV own idx C y (wsW_ y b L r hh)) := by
  refine lw_app ?_ (lw_methW h5)
  intro w hw
  simp only [List.mem_cons, List.not_mem_nil, or_false] at hw
  rcases hw with e | e | e | e
  · rw [e]; exact h1
  · rw [e]; exact h2
  · rw [e]; exact h3
  · rw [e]; exact h4
theorem lw_SW {own : String} {idx : Nat} {y : MethodName} {b : ByteArray} {L : Nat} {r : Option FieldType} {hh : List (Nat × Nat × Nat × Nat)} (h1 : Cond.methodLink own idx y ∈ lw_all) (h2 : Cond.static y ∈ lw_all) (h3 : Cond.initialized y.cls ∈ lw_all) (h4 : Cond.codeWith y b L r hh ∈ lw_all) : GoodIn lw_all (va_wsS own idx y (wsW_ y b L r hh)) := by
  refine lw_app ?_ (lw_methW h4)
  intro w hw
  simp only [List.mem_cons, List.not_mem_nil, or_false] at hw
  rcases hw with e | e | e
  · rw [e]; exact h1
  · rw [e]; exact h2
  · rw [e]; exact h3
/-- a word by its place in its run of the tables -/
theorem lw_at {r : List Cond} (hr : ∀ w ∈ r, w ∈ lw_tbl) {w : Cond} (i : Nat) (h : r[i]? = some w) : w ∈ lw_tbl := hr w (List.mem_of_getElem? h)
theorem lw_g {w : Cond} (h : w ∈ lw_tbl) (g : goodWord w = true) : w ∈ lw_all := List.mem_filter.mpr ⟨h, g⟩
theorem lw_ms : ∀ w ∈ k2_sels lw_privs, w ∈ lw_tbl := fun w h => show w ∈ k2_sels lw_privs ++ tables_1 from List.mem_append_left _ h
theorem lw_m0 : ∀ w ∈ tables_1, w ∈ lw_tbl := fun w h => show w ∈ k2_sels lw_privs ++ tables_1 from List.mem_append_right (k2_sels lw_privs) h
theorem qs0 : (Cond.selects "RateLimits" ⟨"RateLimits", "start", "(IIIII)V"⟩ ⟨"RateLimits", "start", "(IIIII)V"⟩) ∈ lw_all := lw_g (lw_at lw_ms 0 rfl) rfl
theorem qs1 : (Cond.selects "RateLimits" ⟨"RateLimits", "roomOf", "(I)I"⟩ ⟨"RateLimits", "roomOf", "(I)I"⟩) ∈ lw_all := lw_g (lw_at lw_ms 1 rfl) rfl
theorem qs2 : (Cond.selects "RateLimits" ⟨"RateLimits", "catchUp", "(I)V"⟩ ⟨"RateLimits", "catchUp", "(I)V"⟩) ∈ lw_all := lw_g (lw_at lw_ms 2 rfl) rfl
theorem qs3 : (Cond.selects "RateLimits" ⟨"RateLimits", "base", "(I)I"⟩ ⟨"RateLimits", "base", "(I)I"⟩) ∈ lw_all := lw_g (lw_at lw_ms 3 rfl) rfl
theorem qs4 : (Cond.selects "RateLimits" ⟨"RateLimits", "grant", "(II)V"⟩ ⟨"RateLimits", "grant", "(II)V"⟩) ∈ lw_all := lw_g (lw_at lw_ms 4 rfl) rfl
theorem qs5 : (Cond.selects "RateLimits" ⟨"RateLimits", "logWait", "(II)I"⟩ ⟨"RateLimits", "logWait", "(II)I"⟩) ∈ lw_all := lw_g (lw_at lw_ms 5 rfl) rfl
theorem qs6 : (Cond.selects "RateLimitsModel" ⟨"RateLimitsModel", "make", "(IIIII)V"⟩ ⟨"RateLimitsModel", "make", "(IIIII)V"⟩) ∈ lw_all := lw_g (lw_at lw_ms 6 rfl) rfl
theorem qs7 : (Cond.selects "RateLimitsModel" ⟨"RateLimitsModel", "bad", "(I)Z"⟩ ⟨"RateLimitsModel", "bad", "(I)Z"⟩) ∈ lw_all := lw_g (lw_at lw_ms 7 rfl) rfl
theorem qs8 : (Cond.selects "RateLimitsModel" ⟨"RateLimitsModel", "badCost", "(I)Z"⟩ ⟨"RateLimitsModel", "badCost", "(I)Z"⟩) ∈ lw_all := lw_g (lw_at lw_ms 8 rfl) rfl
theorem qs9 : (Cond.selects "RateLimitsModel" ⟨"RateLimitsModel", "would", "(III)Z"⟩ ⟨"RateLimitsModel", "would", "(III)Z"⟩) ∈ lw_all := lw_g (lw_at lw_ms 9 rfl) rfl
theorem qs10 : (Cond.selects "RateLimitsModel" ⟨"RateLimitsModel", "tokensIn", "(II)I"⟩ ⟨"RateLimitsModel", "tokensIn", "(II)I"⟩) ∈ lw_all := lw_g (lw_at lw_ms 10 rfl) rfl
theorem qs11 : (Cond.selects "RateLimitsModel" ⟨"RateLimitsModel", "loggedIn", "(II)I"⟩ ⟨"RateLimitsModel", "loggedIn", "(II)I"⟩) ∈ lw_all := lw_g (lw_at lw_ms 11 rfl) rfl
theorem qs12 : (Cond.selects "RateLimitsModel" ⟨"RateLimitsModel", "grant", "(II)V"⟩ ⟨"RateLimitsModel", "grant", "(II)V"⟩) ∈ lw_all := lw_g (lw_at lw_ms 12 rfl) rfl
end
section
/-! RateLimits -/
set_option maxRecDepth 100000
def RX0 : String := "RateLimits"
def TX0 : u_T := fun k => match k with
  | 0 => ("RateLimits", "now", "I", false)
  | 1 => ("RateLimits", "kind", "[I", true)
  | 2 => ("RateLimits", "rate", "[I", true)
  | 3 => ("RateLimits", "burst", "[I", true)
  | 4 => ("RateLimits", "span", "[I", true)
  | 5 => ("RateLimits", "grantedSum", "[I", true)
  | 6 => ("RateLimits", "deniedCount", "[I", true)
  | 7 => ("RateLimits", "tokens", "[I", true)
  | 8 => ("RateLimits", "filled", "[I", true)
  | 9 => ("RateLimits", "due", "[I", true)
  | 10 => ("RateLimits", "head", "[I", true)
  | 11 => ("RateLimits", "size", "[I", true)
  | 12 => ("RateLimits", "running", "[I", true)
  | 13 => ("RateLimits", "grantTime", "[I", true)
  | _ => ("RateLimits", "grantCost", "[I", true)
def tyX0 : Nat → FieldType := fun k => match k with
  | 0 => .int
  | 1 => .array .int
  | 2 => .array .int
  | 3 => .array .int
  | 4 => .array .int
  | 5 => .array .int
  | 6 => .array .int
  | 7 => .array .int
  | 8 => .array .int
  | 9 => .array .int
  | 10 => .array .int
  | 11 => .array .int
  | 12 => .array .int
  | 13 => .array .int
  | _ => .array .int
abbrev wsX00 : List Cond := u_ws RX0 TX0 15
set_option maxRecDepth 100000 in
theorem nmX0 : ∀ a, a < 15 → ∀ b, b < 15 → a ≠ b → (TX0 a).2.1 ≠ (TX0 b).2.1 := by decide +kernel
set_option maxRecDepth 100000 in
theorem tyX0_ok : ∀ k, k < 15 → parseFieldDescriptor (TX0 k).2.2.1 = some (tyX0 k) := by decide +kernel
abbrev cX0_init : ByteArray := prog_1_method_1_code
def yX0_init : MethodName := ⟨RX0, "<init>", "()V"⟩
abbrev cX0_start : ByteArray := prog_1_method_4_code
def yX0_start : MethodName := ⟨RX0, "start", "(IIIII)V"⟩
abbrev cX0_set : ByteArray := prog_1_method_5_code
def yX0_set : MethodName := ⟨RX0, "set", "(III)I"⟩
abbrev cX0_bad : ByteArray := prog_1_method_2_code
def yX0_bad : MethodName := ⟨RX0, "bad", "(I)Z"⟩
abbrev cX0_ask : ByteArray := prog_1_method_10_code
def yX0_ask : MethodName := ⟨RX0, "ask", "(II)I"⟩
abbrev cX0_badCost : ByteArray := prog_1_method_3_code
def yX0_badCost : MethodName := ⟨RX0, "badCost", "(I)Z"⟩
abbrev cX0_roomOf : ByteArray := prog_1_method_8_code
def yX0_roomOf : MethodName := ⟨RX0, "roomOf", "(I)I"⟩
abbrev cX0_catchUp : ByteArray := prog_1_method_6_code
def yX0_catchUp : MethodName := ⟨RX0, "catchUp", "(I)V"⟩
abbrev cX0_base : ByteArray := prog_1_method_7_code
def yX0_base : MethodName := ⟨RX0, "base", "(I)I"⟩
abbrev cX0_grant : ByteArray := prog_1_method_9_code
def yX0_grant : MethodName := ⟨RX0, "grant", "(II)V"⟩
abbrev cX0_askAll : ByteArray := prog_1_method_11_code
def yX0_askAll : MethodName := ⟨RX0, "askAll", "(II)I"⟩
abbrev cX0_pass : ByteArray := prog_1_method_12_code
def yX0_pass : MethodName := ⟨RX0, "pass", "(I)I"⟩
abbrev cX0_waitFor : ByteArray := prog_1_method_14_code
def yX0_waitFor : MethodName := ⟨RX0, "waitFor", "(II)I"⟩
abbrev cX0_logWait : ByteArray := prog_1_method_13_code
def yX0_logWait : MethodName := ⟨RX0, "logWait", "(II)I"⟩
abbrev cX0_room : ByteArray := prog_1_method_15_code
def yX0_room : MethodName := ⟨RX0, "room", "(I)I"⟩
abbrev cX0_granted : ByteArray := prog_1_method_16_code
def yX0_granted : MethodName := ⟨RX0, "granted", "(I)I"⟩
abbrev cX0_denied : ByteArray := prog_1_method_17_code
def yX0_denied : MethodName := ⟨RX0, "denied", "(I)I"⟩
abbrev cX0_time : ByteArray := prog_1_method_18_code
def yX0_time : MethodName := ⟨RX0, "time", "()I"⟩
theorem q14 : (Jvm.Cond.initialized "RateLimits") ∈ lw_all := lw_g (lw_at lw_m0 1 rfl) rfl
theorem q17 : (Jvm.Cond.instantiable "RateLimits" (15 : Nat)) ∈ lw_all := lw_g (lw_at lw_m0 4 rfl) rfl
theorem q19 : (Jvm.Cond.instanceMethod ({ cls := "RateLimits", name := "<init>", desc := "()V" } : Jvm.MethodName)) ∈ lw_all := lw_g (lw_at lw_m0 6 rfl) rfl
theorem q20 : (Jvm.Cond.code ({ cls := "RateLimits", name := "<init>", desc := "()V" } : Jvm.MethodName) prog_1_method_1_code (2 : Nat) (Option.none : Option Jvm.ClassFile.FieldType)) ∈ lw_all := lw_g (lw_at lw_m0 7 rfl) rfl
theorem q21 : (Jvm.Cond.methodLink "RateLimits" (1 : Nat) ({ cls := "java/lang/Object", name := "<init>", desc := "()V" } : Jvm.MethodName)) ∈ lw_all := lw_g (lw_at lw_m0 8 rfl) rfl
theorem q24 : (Jvm.Cond.methodLink "RateLimits" (52 : Nat) ({ cls := "RateLimits", name := "start", desc := "(IIIII)V" } : Jvm.MethodName)) ∈ lw_all := lw_g (lw_at lw_m0 11 rfl) rfl
theorem q25 : (Jvm.Cond.privateMethod ({ cls := "RateLimits", name := "start", desc := "(IIIII)V" } : Jvm.MethodName)) ∈ lw_tbl := lw_at lw_m0 12 rfl
theorem q26 : (Jvm.Cond.instanceMethod ({ cls := "RateLimits", name := "start", desc := "(IIIII)V" } : Jvm.MethodName)) ∈ lw_all := lw_g (lw_at lw_m0 13 rfl) rfl
theorem q27 : (Jvm.Cond.code ({ cls := "RateLimits", name := "start", desc := "(IIIII)V" } : Jvm.MethodName) prog_1_method_4_code (6 : Nat) (Option.none : Option Jvm.ClassFile.FieldType)) ∈ lw_all := lw_g (lw_at lw_m0 14 rfl) rfl
theorem q28 : (Jvm.Cond.constant "RateLimits" (60 : Nat) (-1000000 : Int32)) ∈ lw_all := lw_g (lw_at lw_m0 15 rfl) rfl
theorem q29 : (Jvm.Cond.fieldLink "RateLimits" (56 : Nat) "RateLimits" "now" "I") ∈ lw_all := lw_g (lw_at lw_m0 16 rfl) rfl
theorem q30 : (Jvm.Cond.fieldLink "RateLimits" (7 : Nat) "RateLimits" "kind" "[I") ∈ lw_all := lw_g (lw_at lw_m0 17 rfl) rfl
theorem q31 : (Jvm.Cond.fieldLink "RateLimits" (13 : Nat) "RateLimits" "rate" "[I") ∈ lw_all := lw_g (lw_at lw_m0 18 rfl) rfl
theorem q32 : (Jvm.Cond.fieldLink "RateLimits" (16 : Nat) "RateLimits" "burst" "[I") ∈ lw_all := lw_g (lw_at lw_m0 19 rfl) rfl
theorem q33 : (Jvm.Cond.fieldLink "RateLimits" (19 : Nat) "RateLimits" "span" "[I") ∈ lw_all := lw_g (lw_at lw_m0 20 rfl) rfl
theorem q34 : (Jvm.Cond.fieldLink "RateLimits" (22 : Nat) "RateLimits" "grantedSum" "[I") ∈ lw_all := lw_g (lw_at lw_m0 21 rfl) rfl
theorem q35 : (Jvm.Cond.fieldLink "RateLimits" (25 : Nat) "RateLimits" "deniedCount" "[I") ∈ lw_all := lw_g (lw_at lw_m0 22 rfl) rfl
theorem q36 : (Jvm.Cond.fieldLink "RateLimits" (28 : Nat) "RateLimits" "tokens" "[I") ∈ lw_all := lw_g (lw_at lw_m0 23 rfl) rfl
theorem q37 : (Jvm.Cond.fieldLink "RateLimits" (31 : Nat) "RateLimits" "filled" "[I") ∈ lw_all := lw_g (lw_at lw_m0 24 rfl) rfl
theorem q38 : (Jvm.Cond.fieldLink "RateLimits" (34 : Nat) "RateLimits" "due" "[I") ∈ lw_all := lw_g (lw_at lw_m0 25 rfl) rfl
theorem q39 : (Jvm.Cond.fieldLink "RateLimits" (37 : Nat) "RateLimits" "head" "[I") ∈ lw_all := lw_g (lw_at lw_m0 26 rfl) rfl
theorem q40 : (Jvm.Cond.fieldLink "RateLimits" (40 : Nat) "RateLimits" "size" "[I") ∈ lw_all := lw_g (lw_at lw_m0 27 rfl) rfl
theorem q41 : (Jvm.Cond.fieldLink "RateLimits" (43 : Nat) "RateLimits" "running" "[I") ∈ lw_all := lw_g (lw_at lw_m0 28 rfl) rfl
theorem q42 : (Jvm.Cond.fieldLink "RateLimits" (46 : Nat) "RateLimits" "grantTime" "[I") ∈ lw_all := lw_g (lw_at lw_m0 29 rfl) rfl
theorem q43 : (Jvm.Cond.fieldLink "RateLimits" (49 : Nat) "RateLimits" "grantCost" "[I") ∈ lw_all := lw_g (lw_at lw_m0 30 rfl) rfl
theorem q44 : (Jvm.Cond.lays "RateLimits" "RateLimits" "now" "I") ∈ lw_all := lw_g (lw_at lw_m0 31 rfl) rfl
theorem q45 : (Jvm.Cond.soleField "RateLimits" "now") ∈ lw_all := lw_g (lw_at lw_m0 32 rfl) rfl
theorem q46 : (Jvm.Cond.laysFinal "RateLimits" "RateLimits" "kind" "[I") ∈ lw_all := lw_g (lw_at lw_m0 33 rfl) rfl
theorem q47 : (Jvm.Cond.soleField "RateLimits" "kind") ∈ lw_all := lw_g (lw_at lw_m0 34 rfl) rfl
theorem q48 : (Jvm.Cond.laysFinal "RateLimits" "RateLimits" "rate" "[I") ∈ lw_all := lw_g (lw_at lw_m0 35 rfl) rfl
theorem q49 : (Jvm.Cond.soleField "RateLimits" "rate") ∈ lw_all := lw_g (lw_at lw_m0 36 rfl) rfl
theorem q50 : (Jvm.Cond.laysFinal "RateLimits" "RateLimits" "burst" "[I") ∈ lw_all := lw_g (lw_at lw_m0 37 rfl) rfl
theorem q51 : (Jvm.Cond.soleField "RateLimits" "burst") ∈ lw_all := lw_g (lw_at lw_m0 38 rfl) rfl
theorem q52 : (Jvm.Cond.laysFinal "RateLimits" "RateLimits" "span" "[I") ∈ lw_all := lw_g (lw_at lw_m0 39 rfl) rfl
theorem q53 : (Jvm.Cond.soleField "RateLimits" "span") ∈ lw_all := lw_g (lw_at lw_m0 40 rfl) rfl
theorem q54 : (Jvm.Cond.laysFinal "RateLimits" "RateLimits" "grantedSum" "[I") ∈ lw_all := lw_g (lw_at lw_m0 41 rfl) rfl
theorem q55 : (Jvm.Cond.soleField "RateLimits" "grantedSum") ∈ lw_all := lw_g (lw_at lw_m0 42 rfl) rfl
theorem q56 : (Jvm.Cond.laysFinal "RateLimits" "RateLimits" "deniedCount" "[I") ∈ lw_all := lw_g (lw_at lw_m0 43 rfl) rfl
theorem q57 : (Jvm.Cond.soleField "RateLimits" "deniedCount") ∈ lw_all := lw_g (lw_at lw_m0 44 rfl) rfl
theorem q58 : (Jvm.Cond.laysFinal "RateLimits" "RateLimits" "tokens" "[I") ∈ lw_all := lw_g (lw_at lw_m0 45 rfl) rfl
theorem q59 : (Jvm.Cond.soleField "RateLimits" "tokens") ∈ lw_all := lw_g (lw_at lw_m0 46 rfl) rfl
theorem q60 : (Jvm.Cond.laysFinal "RateLimits" "RateLimits" "filled" "[I") ∈ lw_all := lw_g (lw_at lw_m0 47 rfl) rfl
theorem q61 : (Jvm.Cond.soleField "RateLimits" "filled") ∈ lw_all := lw_g (lw_at lw_m0 48 rfl) rfl
theorem q62 : (Jvm.Cond.laysFinal "RateLimits" "RateLimits" "due" "[I") ∈ lw_all := lw_g (lw_at lw_m0 49 rfl) rfl
theorem q63 : (Jvm.Cond.soleField "RateLimits" "due") ∈ lw_all := lw_g (lw_at lw_m0 50 rfl) rfl
theorem q64 : (Jvm.Cond.laysFinal "RateLimits" "RateLimits" "head" "[I") ∈ lw_all := lw_g (lw_at lw_m0 51 rfl) rfl
theorem q65 : (Jvm.Cond.soleField "RateLimits" "head") ∈ lw_all := lw_g (lw_at lw_m0 52 rfl) rfl
theorem q66 : (Jvm.Cond.laysFinal "RateLimits" "RateLimits" "size" "[I") ∈ lw_all := lw_g (lw_at lw_m0 53 rfl) rfl
theorem q67 : (Jvm.Cond.soleField "RateLimits" "size") ∈ lw_all := lw_g (lw_at lw_m0 54 rfl) rfl
theorem q68 : (Jvm.Cond.laysFinal "RateLimits" "RateLimits" "running" "[I") ∈ lw_all := lw_g (lw_at lw_m0 55 rfl) rfl
theorem q69 : (Jvm.Cond.soleField "RateLimits" "running") ∈ lw_all := lw_g (lw_at lw_m0 56 rfl) rfl
theorem q70 : (Jvm.Cond.laysFinal "RateLimits" "RateLimits" "grantTime" "[I") ∈ lw_all := lw_g (lw_at lw_m0 57 rfl) rfl
theorem q71 : (Jvm.Cond.soleField "RateLimits" "grantTime") ∈ lw_all := lw_g (lw_at lw_m0 58 rfl) rfl
theorem q72 : (Jvm.Cond.laysFinal "RateLimits" "RateLimits" "grantCost" "[I") ∈ lw_all := lw_g (lw_at lw_m0 59 rfl) rfl
theorem q73 : (Jvm.Cond.soleField "RateLimits" "grantCost") ∈ lw_all := lw_g (lw_at lw_m0 60 rfl) rfl
theorem q74 : (Jvm.Cond.superclass "RateLimits" "java/lang/Object") ∈ lw_all := lw_g (lw_at lw_m0 61 rfl) rfl
theorem q77 : (Jvm.Cond.instanceMethod ({ cls := "RateLimits", name := "set", desc := "(III)I" } : Jvm.MethodName)) ∈ lw_all := lw_g (lw_at lw_m0 64 rfl) rfl
theorem q78 : (Jvm.Cond.selects "RateLimits" ({ cls := "RateLimits", name := "set", desc := "(III)I" } : Jvm.MethodName) ({ cls := "RateLimits", name := "set", desc := "(III)I" } : Jvm.MethodName)) ∈ lw_all := lw_g (lw_at lw_m0 65 rfl) rfl
theorem q79 : (Jvm.Cond.code ({ cls := "RateLimits", name := "set", desc := "(III)I" } : Jvm.MethodName) prog_1_method_5_code (7 : Nat) (Option.some Jvm.ClassFile.FieldType.int)) ∈ lw_all := lw_g (lw_at lw_m0 66 rfl) rfl
theorem q80 : (Jvm.Cond.methodLink "RateLimits" (61 : Nat) ({ cls := "RateLimits", name := "bad", desc := "(I)Z" } : Jvm.MethodName)) ∈ lw_all := lw_g (lw_at lw_m0 67 rfl) rfl
theorem q81 : (Jvm.Cond.static ({ cls := "RateLimits", name := "bad", desc := "(I)Z" } : Jvm.MethodName)) ∈ lw_all := lw_g (lw_at lw_m0 68 rfl) rfl
theorem q82 : (Jvm.Cond.code ({ cls := "RateLimits", name := "bad", desc := "(I)Z" } : Jvm.MethodName) prog_1_method_2_code (1 : Nat) (Option.some Jvm.ClassFile.FieldType.boolean)) ∈ lw_all := lw_g (lw_at lw_m0 69 rfl) rfl
theorem q84 : (Jvm.Cond.instanceMethod ({ cls := "RateLimits", name := "ask", desc := "(II)I" } : Jvm.MethodName)) ∈ lw_all := lw_g (lw_at lw_m0 71 rfl) rfl
theorem q85 : (Jvm.Cond.selects "RateLimits" ({ cls := "RateLimits", name := "ask", desc := "(II)I" } : Jvm.MethodName) ({ cls := "RateLimits", name := "ask", desc := "(II)I" } : Jvm.MethodName)) ∈ lw_all := lw_g (lw_at lw_m0 72 rfl) rfl
theorem q86 : (Jvm.Cond.code ({ cls := "RateLimits", name := "ask", desc := "(II)I" } : Jvm.MethodName) prog_1_method_10_code (4 : Nat) (Option.some Jvm.ClassFile.FieldType.int)) ∈ lw_all := lw_g (lw_at lw_m0 73 rfl) rfl
theorem q87 : (Jvm.Cond.methodLink "RateLimits" (73 : Nat) ({ cls := "RateLimits", name := "badCost", desc := "(I)Z" } : Jvm.MethodName)) ∈ lw_all := lw_g (lw_at lw_m0 74 rfl) rfl
theorem q88 : (Jvm.Cond.static ({ cls := "RateLimits", name := "badCost", desc := "(I)Z" } : Jvm.MethodName)) ∈ lw_all := lw_g (lw_at lw_m0 75 rfl) rfl
theorem q89 : (Jvm.Cond.code ({ cls := "RateLimits", name := "badCost", desc := "(I)Z" } : Jvm.MethodName) prog_1_method_3_code (1 : Nat) (Option.some Jvm.ClassFile.FieldType.boolean)) ∈ lw_all := lw_g (lw_at lw_m0 76 rfl) rfl
theorem q90 : (Jvm.Cond.methodLink "RateLimits" (76 : Nat) ({ cls := "RateLimits", name := "roomOf", desc := "(I)I" } : Jvm.MethodName)) ∈ lw_all := lw_g (lw_at lw_m0 77 rfl) rfl
theorem q91 : (Jvm.Cond.privateMethod ({ cls := "RateLimits", name := "roomOf", desc := "(I)I" } : Jvm.MethodName)) ∈ lw_tbl := lw_at lw_m0 78 rfl
theorem q92 : (Jvm.Cond.instanceMethod ({ cls := "RateLimits", name := "roomOf", desc := "(I)I" } : Jvm.MethodName)) ∈ lw_all := lw_g (lw_at lw_m0 79 rfl) rfl
theorem q93 : (Jvm.Cond.code ({ cls := "RateLimits", name := "roomOf", desc := "(I)I" } : Jvm.MethodName) prog_1_method_8_code (4 : Nat) (Option.some Jvm.ClassFile.FieldType.int)) ∈ lw_all := lw_g (lw_at lw_m0 80 rfl) rfl
theorem q94 : (Jvm.Cond.methodLink "RateLimits" (65 : Nat) ({ cls := "RateLimits", name := "catchUp", desc := "(I)V" } : Jvm.MethodName)) ∈ lw_all := lw_g (lw_at lw_m0 81 rfl) rfl
theorem q95 : (Jvm.Cond.privateMethod ({ cls := "RateLimits", name := "catchUp", desc := "(I)V" } : Jvm.MethodName)) ∈ lw_tbl := lw_at lw_m0 82 rfl
theorem q96 : (Jvm.Cond.instanceMethod ({ cls := "RateLimits", name := "catchUp", desc := "(I)V" } : Jvm.MethodName)) ∈ lw_all := lw_g (lw_at lw_m0 83 rfl) rfl
theorem q97 : (Jvm.Cond.code ({ cls := "RateLimits", name := "catchUp", desc := "(I)V" } : Jvm.MethodName) prog_1_method_6_code (4 : Nat) (Option.none : Option Jvm.ClassFile.FieldType)) ∈ lw_all := lw_g (lw_at lw_m0 84 rfl) rfl
theorem q98 : (Jvm.Cond.methodLink "RateLimits" (69 : Nat) ({ cls := "RateLimits", name := "base", desc := "(I)I" } : Jvm.MethodName)) ∈ lw_all := lw_g (lw_at lw_m0 85 rfl) rfl
theorem q99 : (Jvm.Cond.privateMethod ({ cls := "RateLimits", name := "base", desc := "(I)I" } : Jvm.MethodName)) ∈ lw_tbl := lw_at lw_m0 86 rfl
theorem q100 : (Jvm.Cond.instanceMethod ({ cls := "RateLimits", name := "base", desc := "(I)I" } : Jvm.MethodName)) ∈ lw_all := lw_g (lw_at lw_m0 87 rfl) rfl
theorem q101 : (Jvm.Cond.code ({ cls := "RateLimits", name := "base", desc := "(I)I" } : Jvm.MethodName) prog_1_method_7_code (2 : Nat) (Option.some Jvm.ClassFile.FieldType.int)) ∈ lw_all := lw_g (lw_at lw_m0 88 rfl) rfl
theorem q102 : (Jvm.Cond.methodLink "RateLimits" (79 : Nat) ({ cls := "RateLimits", name := "grant", desc := "(II)V" } : Jvm.MethodName)) ∈ lw_all := lw_g (lw_at lw_m0 89 rfl) rfl
theorem q103 : (Jvm.Cond.privateMethod ({ cls := "RateLimits", name := "grant", desc := "(II)V" } : Jvm.MethodName)) ∈ lw_tbl := lw_at lw_m0 90 rfl
theorem q104 : (Jvm.Cond.instanceMethod ({ cls := "RateLimits", name := "grant", desc := "(II)V" } : Jvm.MethodName)) ∈ lw_all := lw_g (lw_at lw_m0 91 rfl) rfl
theorem q105 : (Jvm.Cond.code ({ cls := "RateLimits", name := "grant", desc := "(II)V" } : Jvm.MethodName) prog_1_method_9_code (4 : Nat) (Option.none : Option Jvm.ClassFile.FieldType)) ∈ lw_all := lw_g (lw_at lw_m0 92 rfl) rfl
theorem q107 : (Jvm.Cond.instanceMethod ({ cls := "RateLimits", name := "askAll", desc := "(II)I" } : Jvm.MethodName)) ∈ lw_all := lw_g (lw_at lw_m0 94 rfl) rfl
theorem q108 : (Jvm.Cond.selects "RateLimits" ({ cls := "RateLimits", name := "askAll", desc := "(II)I" } : Jvm.MethodName) ({ cls := "RateLimits", name := "askAll", desc := "(II)I" } : Jvm.MethodName)) ∈ lw_all := lw_g (lw_at lw_m0 95 rfl) rfl
theorem q109 : (Jvm.Cond.code ({ cls := "RateLimits", name := "askAll", desc := "(II)I" } : Jvm.MethodName) prog_1_method_11_code (6 : Nat) (Option.some Jvm.ClassFile.FieldType.int)) ∈ lw_all := lw_g (lw_at lw_m0 96 rfl) rfl
theorem q111 : (Jvm.Cond.instanceMethod ({ cls := "RateLimits", name := "pass", desc := "(I)I" } : Jvm.MethodName)) ∈ lw_all := lw_g (lw_at lw_m0 98 rfl) rfl
theorem q112 : (Jvm.Cond.selects "RateLimits" ({ cls := "RateLimits", name := "pass", desc := "(I)I" } : Jvm.MethodName) ({ cls := "RateLimits", name := "pass", desc := "(I)I" } : Jvm.MethodName)) ∈ lw_all := lw_g (lw_at lw_m0 99 rfl) rfl
theorem q113 : (Jvm.Cond.code ({ cls := "RateLimits", name := "pass", desc := "(I)I" } : Jvm.MethodName) prog_1_method_12_code (2 : Nat) (Option.some Jvm.ClassFile.FieldType.int)) ∈ lw_all := lw_g (lw_at lw_m0 100 rfl) rfl
theorem q114 : (Jvm.Cond.constant "RateLimits" (83 : Nat) (100000 : Int32)) ∈ lw_all := lw_g (lw_at lw_m0 101 rfl) rfl
theorem q116 : (Jvm.Cond.instanceMethod ({ cls := "RateLimits", name := "waitFor", desc := "(II)I" } : Jvm.MethodName)) ∈ lw_all := lw_g (lw_at lw_m0 103 rfl) rfl
theorem q117 : (Jvm.Cond.selects "RateLimits" ({ cls := "RateLimits", name := "waitFor", desc := "(II)I" } : Jvm.MethodName) ({ cls := "RateLimits", name := "waitFor", desc := "(II)I" } : Jvm.MethodName)) ∈ lw_all := lw_g (lw_at lw_m0 104 rfl) rfl
theorem q118 : (Jvm.Cond.code ({ cls := "RateLimits", name := "waitFor", desc := "(II)I" } : Jvm.MethodName) prog_1_method_14_code (5 : Nat) (Option.some Jvm.ClassFile.FieldType.int)) ∈ lw_all := lw_g (lw_at lw_m0 105 rfl) rfl
theorem q119 : (Jvm.Cond.methodLink "RateLimits" (84 : Nat) ({ cls := "RateLimits", name := "logWait", desc := "(II)I" } : Jvm.MethodName)) ∈ lw_all := lw_g (lw_at lw_m0 106 rfl) rfl
theorem q120 : (Jvm.Cond.privateMethod ({ cls := "RateLimits", name := "logWait", desc := "(II)I" } : Jvm.MethodName)) ∈ lw_tbl := lw_at lw_m0 107 rfl
theorem q121 : (Jvm.Cond.instanceMethod ({ cls := "RateLimits", name := "logWait", desc := "(II)I" } : Jvm.MethodName)) ∈ lw_all := lw_g (lw_at lw_m0 108 rfl) rfl
theorem q122 : (Jvm.Cond.code ({ cls := "RateLimits", name := "logWait", desc := "(II)I" } : Jvm.MethodName) prog_1_method_13_code (7 : Nat) (Option.some Jvm.ClassFile.FieldType.int)) ∈ lw_all := lw_g (lw_at lw_m0 109 rfl) rfl
theorem q124 : (Jvm.Cond.instanceMethod ({ cls := "RateLimits", name := "room", desc := "(I)I" } : Jvm.MethodName)) ∈ lw_all := lw_g (lw_at lw_m0 111 rfl) rfl
theorem q125 : (Jvm.Cond.selects "RateLimits" ({ cls := "RateLimits", name := "room", desc := "(I)I" } : Jvm.MethodName) ({ cls := "RateLimits", name := "room", desc := "(I)I" } : Jvm.MethodName)) ∈ lw_all := lw_g (lw_at lw_m0 112 rfl) rfl
theorem q126 : (Jvm.Cond.code ({ cls := "RateLimits", name := "room", desc := "(I)I" } : Jvm.MethodName) prog_1_method_15_code (3 : Nat) (Option.some Jvm.ClassFile.FieldType.int)) ∈ lw_all := lw_g (lw_at lw_m0 113 rfl) rfl
theorem q128 : (Jvm.Cond.instanceMethod ({ cls := "RateLimits", name := "granted", desc := "(I)I" } : Jvm.MethodName)) ∈ lw_all := lw_g (lw_at lw_m0 115 rfl) rfl
theorem q129 : (Jvm.Cond.selects "RateLimits" ({ cls := "RateLimits", name := "granted", desc := "(I)I" } : Jvm.MethodName) ({ cls := "RateLimits", name := "granted", desc := "(I)I" } : Jvm.MethodName)) ∈ lw_all := lw_g (lw_at lw_m0 116 rfl) rfl
theorem q130 : (Jvm.Cond.code ({ cls := "RateLimits", name := "granted", desc := "(I)I" } : Jvm.MethodName) prog_1_method_16_code (2 : Nat) (Option.some Jvm.ClassFile.FieldType.int)) ∈ lw_all := lw_g (lw_at lw_m0 117 rfl) rfl
theorem q132 : (Jvm.Cond.instanceMethod ({ cls := "RateLimits", name := "denied", desc := "(I)I" } : Jvm.MethodName)) ∈ lw_all := lw_g (lw_at lw_m0 119 rfl) rfl
theorem q133 : (Jvm.Cond.selects "RateLimits" ({ cls := "RateLimits", name := "denied", desc := "(I)I" } : Jvm.MethodName) ({ cls := "RateLimits", name := "denied", desc := "(I)I" } : Jvm.MethodName)) ∈ lw_all := lw_g (lw_at lw_m0 120 rfl) rfl
theorem q134 : (Jvm.Cond.code ({ cls := "RateLimits", name := "denied", desc := "(I)I" } : Jvm.MethodName) prog_1_method_17_code (2 : Nat) (Option.some Jvm.ClassFile.FieldType.int)) ∈ lw_all := lw_g (lw_at lw_m0 121 rfl) rfl
theorem q136 : (Jvm.Cond.instanceMethod ({ cls := "RateLimits", name := "time", desc := "()I" } : Jvm.MethodName)) ∈ lw_all := lw_g (lw_at lw_m0 123 rfl) rfl
theorem q137 : (Jvm.Cond.selects "RateLimits" ({ cls := "RateLimits", name := "time", desc := "()I" } : Jvm.MethodName) ({ cls := "RateLimits", name := "time", desc := "()I" } : Jvm.MethodName)) ∈ lw_all := lw_g (lw_at lw_m0 124 rfl) rfl
theorem q138 : (Jvm.Cond.code ({ cls := "RateLimits", name := "time", desc := "()I" } : Jvm.MethodName) prog_1_method_18_code (1 : Nat) (Option.some Jvm.ClassFile.FieldType.int)) ∈ lw_all := lw_g (lw_at lw_m0 125 rfl) rfl
theorem in_X0 : ∀ w ∈ wsX00, w ∈ lw_all := lw_in wsX00 [44, 46, 48, 50, 52, 54, 56, 58, 60, 62, 64, 66, 68, 70, 72] (by decide +kernel) (by decide +kernel)

/-! RateLimitsModel -/
set_option maxRecDepth 100000
def RX1 : String := "RateLimitsModel"
def TX1 : u_T := fun k => match k with
  | 0 => ("RateLimitsModel", "now", "I", false)
  | 1 => ("RateLimitsModel", "kinds", "[I", true)
  | 2 => ("RateLimitsModel", "rates", "[I", true)
  | 3 => ("RateLimitsModel", "bursts", "[I", true)
  | 4 => ("RateLimitsModel", "spans", "[I", true)
  | 5 => ("RateLimitsModel", "tokens", "[I", true)
  | 6 => ("RateLimitsModel", "grants", "[I", true)
  | 7 => ("RateLimitsModel", "dues", "[I", true)
  | 8 => ("RateLimitsModel", "sums", "[I", true)
  | _ => ("RateLimitsModel", "denials", "[I", true)
def tyX1 : Nat → FieldType := fun k => match k with
  | 0 => .int
  | 1 => .array .int
  | 2 => .array .int
  | 3 => .array .int
  | 4 => .array .int
  | 5 => .array .int
  | 6 => .array .int
  | 7 => .array .int
  | 8 => .array .int
  | _ => .array .int
abbrev wsX10 : List Cond := u_ws RX1 TX1 10
theorem nmX1 : ∀ a, a < 10 → ∀ b, b < 10 → a ≠ b → (TX1 a).2.1 ≠ (TX1 b).2.1 := by decide +kernel
theorem tyX1_ok : ∀ k, k < 10 → parseFieldDescriptor (TX1 k).2.2.1 = some (tyX1 k) := by decide +kernel
abbrev cX1_init : ByteArray := prog_3_method_1_code
def yX1_init : MethodName := ⟨RX1, "<init>", "()V"⟩
abbrev cX1_make : ByteArray := prog_3_method_2_code
def yX1_make : MethodName := ⟨RX1, "make", "(IIIII)V"⟩
abbrev cX1_set : ByteArray := prog_3_method_5_code
def yX1_set : MethodName := ⟨RX1, "set", "(III)I"⟩
abbrev cX1_bad : ByteArray := prog_3_method_3_code
def yX1_bad : MethodName := ⟨RX1, "bad", "(I)Z"⟩
abbrev cX1_ask : ByteArray := prog_3_method_10_code
def yX1_ask : MethodName := ⟨RX1, "ask", "(II)I"⟩
abbrev cX1_askAll : ByteArray := prog_3_method_11_code
def yX1_askAll : MethodName := ⟨RX1, "askAll", "(II)I"⟩
abbrev cX1_badCost : ByteArray := prog_3_method_4_code
def yX1_badCost : MethodName := ⟨RX1, "badCost", "(I)Z"⟩
abbrev cX1_would : ByteArray := prog_3_method_8_code
def yX1_would : MethodName := ⟨RX1, "would", "(III)Z"⟩
abbrev cX1_tokensIn : ByteArray := prog_3_method_6_code
def yX1_tokensIn : MethodName := ⟨RX1, "tokensIn", "(II)I"⟩
abbrev cX1_loggedIn : ByteArray := prog_3_method_7_code
def yX1_loggedIn : MethodName := ⟨RX1, "loggedIn", "(II)I"⟩
abbrev cX1_grant : ByteArray := prog_3_method_9_code
def yX1_grant : MethodName := ⟨RX1, "grant", "(II)V"⟩
abbrev cX1_pass : ByteArray := prog_3_method_12_code
def yX1_pass : MethodName := ⟨RX1, "pass", "(I)I"⟩
abbrev cX1_waitFor : ByteArray := prog_3_method_13_code
def yX1_waitFor : MethodName := ⟨RX1, "waitFor", "(II)I"⟩
abbrev cX1_room : ByteArray := prog_3_method_14_code
def yX1_room : MethodName := ⟨RX1, "room", "(I)I"⟩
abbrev cX1_granted : ByteArray := prog_3_method_15_code
def yX1_granted : MethodName := ⟨RX1, "granted", "(I)I"⟩
abbrev cX1_denied : ByteArray := prog_3_method_16_code
def yX1_denied : MethodName := ⟨RX1, "denied", "(I)I"⟩
abbrev cX1_time : ByteArray := prog_3_method_17_code
def yX1_time : MethodName := ⟨RX1, "time", "()I"⟩
theorem q15 : (Jvm.Cond.initialized "RateLimitsModel") ∈ lw_all := lw_g (lw_at lw_m0 2 rfl) rfl
theorem q140 : (Jvm.Cond.instantiable "RateLimitsModel" (10 : Nat)) ∈ lw_all := lw_g (lw_at lw_m0 127 rfl) rfl
theorem q142 : (Jvm.Cond.instanceMethod ({ cls := "RateLimitsModel", name := "<init>", desc := "()V" } : Jvm.MethodName)) ∈ lw_all := lw_g (lw_at lw_m0 129 rfl) rfl
theorem q143 : (Jvm.Cond.code ({ cls := "RateLimitsModel", name := "<init>", desc := "()V" } : Jvm.MethodName) prog_3_method_1_code (2 : Nat) (Option.none : Option Jvm.ClassFile.FieldType)) ∈ lw_all := lw_g (lw_at lw_m0 130 rfl) rfl
theorem q144 : (Jvm.Cond.methodLink "RateLimitsModel" (1 : Nat) ({ cls := "java/lang/Object", name := "<init>", desc := "()V" } : Jvm.MethodName)) ∈ lw_all := lw_g (lw_at lw_m0 131 rfl) rfl
theorem q145 : (Jvm.Cond.methodLink "RateLimitsModel" (37 : Nat) ({ cls := "RateLimitsModel", name := "make", desc := "(IIIII)V" } : Jvm.MethodName)) ∈ lw_all := lw_g (lw_at lw_m0 132 rfl) rfl
theorem q146 : (Jvm.Cond.privateMethod ({ cls := "RateLimitsModel", name := "make", desc := "(IIIII)V" } : Jvm.MethodName)) ∈ lw_tbl := lw_at lw_m0 133 rfl
theorem q147 : (Jvm.Cond.instanceMethod ({ cls := "RateLimitsModel", name := "make", desc := "(IIIII)V" } : Jvm.MethodName)) ∈ lw_all := lw_g (lw_at lw_m0 134 rfl) rfl
theorem q148 : (Jvm.Cond.code ({ cls := "RateLimitsModel", name := "make", desc := "(IIIII)V" } : Jvm.MethodName) prog_3_method_2_code (7 : Nat) (Option.none : Option Jvm.ClassFile.FieldType)) ∈ lw_all := lw_g (lw_at lw_m0 135 rfl) rfl
theorem q149 : (Jvm.Cond.constant "RateLimitsModel" (41 : Nat) (-1000000 : Int32)) ∈ lw_all := lw_g (lw_at lw_m0 136 rfl) rfl
theorem q150 : (Jvm.Cond.fieldLink "RateLimitsModel" (53 : Nat) "RateLimitsModel" "now" "I") ∈ lw_all := lw_g (lw_at lw_m0 137 rfl) rfl
theorem q151 : (Jvm.Cond.fieldLink "RateLimitsModel" (7 : Nat) "RateLimitsModel" "kinds" "[I") ∈ lw_all := lw_g (lw_at lw_m0 138 rfl) rfl
theorem q152 : (Jvm.Cond.fieldLink "RateLimitsModel" (13 : Nat) "RateLimitsModel" "rates" "[I") ∈ lw_all := lw_g (lw_at lw_m0 139 rfl) rfl
theorem q153 : (Jvm.Cond.fieldLink "RateLimitsModel" (16 : Nat) "RateLimitsModel" "bursts" "[I") ∈ lw_all := lw_g (lw_at lw_m0 140 rfl) rfl
theorem q154 : (Jvm.Cond.fieldLink "RateLimitsModel" (19 : Nat) "RateLimitsModel" "spans" "[I") ∈ lw_all := lw_g (lw_at lw_m0 141 rfl) rfl
theorem q155 : (Jvm.Cond.fieldLink "RateLimitsModel" (22 : Nat) "RateLimitsModel" "tokens" "[I") ∈ lw_all := lw_g (lw_at lw_m0 142 rfl) rfl
theorem q156 : (Jvm.Cond.fieldLink "RateLimitsModel" (25 : Nat) "RateLimitsModel" "grants" "[I") ∈ lw_all := lw_g (lw_at lw_m0 143 rfl) rfl
theorem q157 : (Jvm.Cond.fieldLink "RateLimitsModel" (28 : Nat) "RateLimitsModel" "dues" "[I") ∈ lw_all := lw_g (lw_at lw_m0 144 rfl) rfl
theorem q158 : (Jvm.Cond.fieldLink "RateLimitsModel" (31 : Nat) "RateLimitsModel" "sums" "[I") ∈ lw_all := lw_g (lw_at lw_m0 145 rfl) rfl
theorem q159 : (Jvm.Cond.fieldLink "RateLimitsModel" (34 : Nat) "RateLimitsModel" "denials" "[I") ∈ lw_all := lw_g (lw_at lw_m0 146 rfl) rfl
theorem q160 : (Jvm.Cond.lays "RateLimitsModel" "RateLimitsModel" "now" "I") ∈ lw_all := lw_g (lw_at lw_m0 147 rfl) rfl
theorem q161 : (Jvm.Cond.soleField "RateLimitsModel" "now") ∈ lw_all := lw_g (lw_at lw_m0 148 rfl) rfl
theorem q162 : (Jvm.Cond.laysFinal "RateLimitsModel" "RateLimitsModel" "kinds" "[I") ∈ lw_all := lw_g (lw_at lw_m0 149 rfl) rfl
theorem q163 : (Jvm.Cond.soleField "RateLimitsModel" "kinds") ∈ lw_all := lw_g (lw_at lw_m0 150 rfl) rfl
theorem q164 : (Jvm.Cond.laysFinal "RateLimitsModel" "RateLimitsModel" "rates" "[I") ∈ lw_all := lw_g (lw_at lw_m0 151 rfl) rfl
theorem q165 : (Jvm.Cond.soleField "RateLimitsModel" "rates") ∈ lw_all := lw_g (lw_at lw_m0 152 rfl) rfl
theorem q166 : (Jvm.Cond.laysFinal "RateLimitsModel" "RateLimitsModel" "bursts" "[I") ∈ lw_all := lw_g (lw_at lw_m0 153 rfl) rfl
theorem q167 : (Jvm.Cond.soleField "RateLimitsModel" "bursts") ∈ lw_all := lw_g (lw_at lw_m0 154 rfl) rfl
theorem q168 : (Jvm.Cond.laysFinal "RateLimitsModel" "RateLimitsModel" "spans" "[I") ∈ lw_all := lw_g (lw_at lw_m0 155 rfl) rfl
theorem q169 : (Jvm.Cond.soleField "RateLimitsModel" "spans") ∈ lw_all := lw_g (lw_at lw_m0 156 rfl) rfl
theorem q170 : (Jvm.Cond.laysFinal "RateLimitsModel" "RateLimitsModel" "tokens" "[I") ∈ lw_all := lw_g (lw_at lw_m0 157 rfl) rfl
theorem q171 : (Jvm.Cond.soleField "RateLimitsModel" "tokens") ∈ lw_all := lw_g (lw_at lw_m0 158 rfl) rfl
theorem q172 : (Jvm.Cond.laysFinal "RateLimitsModel" "RateLimitsModel" "grants" "[I") ∈ lw_all := lw_g (lw_at lw_m0 159 rfl) rfl
theorem q173 : (Jvm.Cond.soleField "RateLimitsModel" "grants") ∈ lw_all := lw_g (lw_at lw_m0 160 rfl) rfl
theorem q174 : (Jvm.Cond.laysFinal "RateLimitsModel" "RateLimitsModel" "dues" "[I") ∈ lw_all := lw_g (lw_at lw_m0 161 rfl) rfl
theorem q175 : (Jvm.Cond.soleField "RateLimitsModel" "dues") ∈ lw_all := lw_g (lw_at lw_m0 162 rfl) rfl
theorem q176 : (Jvm.Cond.laysFinal "RateLimitsModel" "RateLimitsModel" "sums" "[I") ∈ lw_all := lw_g (lw_at lw_m0 163 rfl) rfl
theorem q177 : (Jvm.Cond.soleField "RateLimitsModel" "sums") ∈ lw_all := lw_g (lw_at lw_m0 164 rfl) rfl
theorem q178 : (Jvm.Cond.laysFinal "RateLimitsModel" "RateLimitsModel" "denials" "[I") ∈ lw_all := lw_g (lw_at lw_m0 165 rfl) rfl
theorem q179 : (Jvm.Cond.soleField "RateLimitsModel" "denials") ∈ lw_all := lw_g (lw_at lw_m0 166 rfl) rfl
theorem q180 : (Jvm.Cond.superclass "RateLimitsModel" "java/lang/Object") ∈ lw_all := lw_g (lw_at lw_m0 167 rfl) rfl
theorem q182 : (Jvm.Cond.instanceMethod ({ cls := "RateLimitsModel", name := "set", desc := "(III)I" } : Jvm.MethodName)) ∈ lw_all := lw_g (lw_at lw_m0 169 rfl) rfl
theorem q183 : (Jvm.Cond.selects "RateLimitsModel" ({ cls := "RateLimitsModel", name := "set", desc := "(III)I" } : Jvm.MethodName) ({ cls := "RateLimitsModel", name := "set", desc := "(III)I" } : Jvm.MethodName)) ∈ lw_all := lw_g (lw_at lw_m0 170 rfl) rfl
theorem q184 : (Jvm.Cond.code ({ cls := "RateLimitsModel", name := "set", desc := "(III)I" } : Jvm.MethodName) prog_3_method_5_code (7 : Nat) (Option.some Jvm.ClassFile.FieldType.int)) ∈ lw_all := lw_g (lw_at lw_m0 171 rfl) rfl
theorem q185 : (Jvm.Cond.methodLink "RateLimitsModel" (42 : Nat) ({ cls := "RateLimitsModel", name := "bad", desc := "(I)Z" } : Jvm.MethodName)) ∈ lw_all := lw_g (lw_at lw_m0 172 rfl) rfl
theorem q186 : (Jvm.Cond.privateMethod ({ cls := "RateLimitsModel", name := "bad", desc := "(I)Z" } : Jvm.MethodName)) ∈ lw_tbl := lw_at lw_m0 173 rfl
theorem q187 : (Jvm.Cond.instanceMethod ({ cls := "RateLimitsModel", name := "bad", desc := "(I)Z" } : Jvm.MethodName)) ∈ lw_all := lw_g (lw_at lw_m0 174 rfl) rfl
theorem q188 : (Jvm.Cond.code ({ cls := "RateLimitsModel", name := "bad", desc := "(I)Z" } : Jvm.MethodName) prog_3_method_3_code (2 : Nat) (Option.some Jvm.ClassFile.FieldType.boolean)) ∈ lw_all := lw_g (lw_at lw_m0 175 rfl) rfl
theorem q190 : (Jvm.Cond.instanceMethod ({ cls := "RateLimitsModel", name := "ask", desc := "(II)I" } : Jvm.MethodName)) ∈ lw_all := lw_g (lw_at lw_m0 177 rfl) rfl
theorem q191 : (Jvm.Cond.selects "RateLimitsModel" ({ cls := "RateLimitsModel", name := "ask", desc := "(II)I" } : Jvm.MethodName) ({ cls := "RateLimitsModel", name := "ask", desc := "(II)I" } : Jvm.MethodName)) ∈ lw_all := lw_g (lw_at lw_m0 178 rfl) rfl
theorem q192 : (Jvm.Cond.code ({ cls := "RateLimitsModel", name := "ask", desc := "(II)I" } : Jvm.MethodName) prog_3_method_10_code (3 : Nat) (Option.some Jvm.ClassFile.FieldType.int)) ∈ lw_all := lw_g (lw_at lw_m0 179 rfl) rfl
theorem q193 : (Jvm.Cond.methodLink "RateLimitsModel" (57 : Nat) ({ cls := "RateLimitsModel", name := "askAll", desc := "(II)I" } : Jvm.MethodName)) ∈ lw_all := lw_g (lw_at lw_m0 180 rfl) rfl
theorem q194 : (Jvm.Cond.instanceMethod ({ cls := "RateLimitsModel", name := "askAll", desc := "(II)I" } : Jvm.MethodName)) ∈ lw_all := lw_g (lw_at lw_m0 181 rfl) rfl
theorem q195 : (Jvm.Cond.selects "RateLimitsModel" ({ cls := "RateLimitsModel", name := "askAll", desc := "(II)I" } : Jvm.MethodName) ({ cls := "RateLimitsModel", name := "askAll", desc := "(II)I" } : Jvm.MethodName)) ∈ lw_all := lw_g (lw_at lw_m0 182 rfl) rfl
theorem q196 : (Jvm.Cond.code ({ cls := "RateLimitsModel", name := "askAll", desc := "(II)I" } : Jvm.MethodName) prog_3_method_11_code (5 : Nat) (Option.some Jvm.ClassFile.FieldType.int)) ∈ lw_all := lw_g (lw_at lw_m0 183 rfl) rfl
theorem q197 : (Jvm.Cond.methodLink "RateLimitsModel" (60 : Nat) ({ cls := "RateLimitsModel", name := "badCost", desc := "(I)Z" } : Jvm.MethodName)) ∈ lw_all := lw_g (lw_at lw_m0 184 rfl) rfl
theorem q198 : (Jvm.Cond.privateMethod ({ cls := "RateLimitsModel", name := "badCost", desc := "(I)Z" } : Jvm.MethodName)) ∈ lw_tbl := lw_at lw_m0 185 rfl
theorem q199 : (Jvm.Cond.instanceMethod ({ cls := "RateLimitsModel", name := "badCost", desc := "(I)Z" } : Jvm.MethodName)) ∈ lw_all := lw_g (lw_at lw_m0 186 rfl) rfl
theorem q200 : (Jvm.Cond.code ({ cls := "RateLimitsModel", name := "badCost", desc := "(I)Z" } : Jvm.MethodName) prog_3_method_4_code (2 : Nat) (Option.some Jvm.ClassFile.FieldType.boolean)) ∈ lw_all := lw_g (lw_at lw_m0 187 rfl) rfl
theorem q201 : (Jvm.Cond.methodLink "RateLimitsModel" (63 : Nat) ({ cls := "RateLimitsModel", name := "would", desc := "(III)Z" } : Jvm.MethodName)) ∈ lw_all := lw_g (lw_at lw_m0 188 rfl) rfl
theorem q202 : (Jvm.Cond.privateMethod ({ cls := "RateLimitsModel", name := "would", desc := "(III)Z" } : Jvm.MethodName)) ∈ lw_tbl := lw_at lw_m0 189 rfl
theorem q203 : (Jvm.Cond.instanceMethod ({ cls := "RateLimitsModel", name := "would", desc := "(III)Z" } : Jvm.MethodName)) ∈ lw_all := lw_g (lw_at lw_m0 190 rfl) rfl
theorem q204 : (Jvm.Cond.code ({ cls := "RateLimitsModel", name := "would", desc := "(III)Z" } : Jvm.MethodName) prog_3_method_8_code (6 : Nat) (Option.some Jvm.ClassFile.FieldType.boolean)) ∈ lw_all := lw_g (lw_at lw_m0 191 rfl) rfl
theorem q205 : (Jvm.Cond.methodLink "RateLimitsModel" (46 : Nat) ({ cls := "RateLimitsModel", name := "tokensIn", desc := "(II)I" } : Jvm.MethodName)) ∈ lw_all := lw_g (lw_at lw_m0 192 rfl) rfl
theorem q206 : (Jvm.Cond.privateMethod ({ cls := "RateLimitsModel", name := "tokensIn", desc := "(II)I" } : Jvm.MethodName)) ∈ lw_tbl := lw_at lw_m0 193 rfl
theorem q207 : (Jvm.Cond.instanceMethod ({ cls := "RateLimitsModel", name := "tokensIn", desc := "(II)I" } : Jvm.MethodName)) ∈ lw_all := lw_g (lw_at lw_m0 194 rfl) rfl
theorem q208 : (Jvm.Cond.code ({ cls := "RateLimitsModel", name := "tokensIn", desc := "(II)I" } : Jvm.MethodName) prog_3_method_6_code (5 : Nat) (Option.some Jvm.ClassFile.FieldType.int)) ∈ lw_all := lw_g (lw_at lw_m0 195 rfl) rfl
theorem q209 : (Jvm.Cond.methodLink "RateLimitsModel" (50 : Nat) ({ cls := "RateLimitsModel", name := "loggedIn", desc := "(II)I" } : Jvm.MethodName)) ∈ lw_all := lw_g (lw_at lw_m0 196 rfl) rfl
theorem q210 : (Jvm.Cond.privateMethod ({ cls := "RateLimitsModel", name := "loggedIn", desc := "(II)I" } : Jvm.MethodName)) ∈ lw_tbl := lw_at lw_m0 197 rfl
theorem q211 : (Jvm.Cond.instanceMethod ({ cls := "RateLimitsModel", name := "loggedIn", desc := "(II)I" } : Jvm.MethodName)) ∈ lw_all := lw_g (lw_at lw_m0 198 rfl) rfl
theorem q212 : (Jvm.Cond.code ({ cls := "RateLimitsModel", name := "loggedIn", desc := "(II)I" } : Jvm.MethodName) prog_3_method_7_code (5 : Nat) (Option.some Jvm.ClassFile.FieldType.int)) ∈ lw_all := lw_g (lw_at lw_m0 199 rfl) rfl
theorem q213 : (Jvm.Cond.methodLink "RateLimitsModel" (67 : Nat) ({ cls := "RateLimitsModel", name := "grant", desc := "(II)V" } : Jvm.MethodName)) ∈ lw_all := lw_g (lw_at lw_m0 200 rfl) rfl
theorem q214 : (Jvm.Cond.privateMethod ({ cls := "RateLimitsModel", name := "grant", desc := "(II)V" } : Jvm.MethodName)) ∈ lw_tbl := lw_at lw_m0 201 rfl
theorem q215 : (Jvm.Cond.instanceMethod ({ cls := "RateLimitsModel", name := "grant", desc := "(II)V" } : Jvm.MethodName)) ∈ lw_all := lw_g (lw_at lw_m0 202 rfl) rfl
theorem q216 : (Jvm.Cond.code ({ cls := "RateLimitsModel", name := "grant", desc := "(II)V" } : Jvm.MethodName) prog_3_method_9_code (4 : Nat) (Option.none : Option Jvm.ClassFile.FieldType)) ∈ lw_all := lw_g (lw_at lw_m0 203 rfl) rfl
theorem q219 : (Jvm.Cond.instanceMethod ({ cls := "RateLimitsModel", name := "pass", desc := "(I)I" } : Jvm.MethodName)) ∈ lw_all := lw_g (lw_at lw_m0 206 rfl) rfl
theorem q220 : (Jvm.Cond.selects "RateLimitsModel" ({ cls := "RateLimitsModel", name := "pass", desc := "(I)I" } : Jvm.MethodName) ({ cls := "RateLimitsModel", name := "pass", desc := "(I)I" } : Jvm.MethodName)) ∈ lw_all := lw_g (lw_at lw_m0 207 rfl) rfl
theorem q221 : (Jvm.Cond.code ({ cls := "RateLimitsModel", name := "pass", desc := "(I)I" } : Jvm.MethodName) prog_3_method_12_code (4 : Nat) (Option.some Jvm.ClassFile.FieldType.int)) ∈ lw_all := lw_g (lw_at lw_m0 208 rfl) rfl
theorem q222 : (Jvm.Cond.constant "RateLimitsModel" (71 : Nat) (100000 : Int32)) ∈ lw_all := lw_g (lw_at lw_m0 209 rfl) rfl
theorem q224 : (Jvm.Cond.instanceMethod ({ cls := "RateLimitsModel", name := "waitFor", desc := "(II)I" } : Jvm.MethodName)) ∈ lw_all := lw_g (lw_at lw_m0 211 rfl) rfl
theorem q225 : (Jvm.Cond.selects "RateLimitsModel" ({ cls := "RateLimitsModel", name := "waitFor", desc := "(II)I" } : Jvm.MethodName) ({ cls := "RateLimitsModel", name := "waitFor", desc := "(II)I" } : Jvm.MethodName)) ∈ lw_all := lw_g (lw_at lw_m0 212 rfl) rfl
theorem q226 : (Jvm.Cond.code ({ cls := "RateLimitsModel", name := "waitFor", desc := "(II)I" } : Jvm.MethodName) prog_3_method_13_code (4 : Nat) (Option.some Jvm.ClassFile.FieldType.int)) ∈ lw_all := lw_g (lw_at lw_m0 213 rfl) rfl
theorem q228 : (Jvm.Cond.instanceMethod ({ cls := "RateLimitsModel", name := "room", desc := "(I)I" } : Jvm.MethodName)) ∈ lw_all := lw_g (lw_at lw_m0 215 rfl) rfl
theorem q229 : (Jvm.Cond.selects "RateLimitsModel" ({ cls := "RateLimitsModel", name := "room", desc := "(I)I" } : Jvm.MethodName) ({ cls := "RateLimitsModel", name := "room", desc := "(I)I" } : Jvm.MethodName)) ∈ lw_all := lw_g (lw_at lw_m0 216 rfl) rfl
theorem q230 : (Jvm.Cond.code ({ cls := "RateLimitsModel", name := "room", desc := "(I)I" } : Jvm.MethodName) prog_3_method_14_code (4 : Nat) (Option.some Jvm.ClassFile.FieldType.int)) ∈ lw_all := lw_g (lw_at lw_m0 217 rfl) rfl
theorem q232 : (Jvm.Cond.instanceMethod ({ cls := "RateLimitsModel", name := "granted", desc := "(I)I" } : Jvm.MethodName)) ∈ lw_all := lw_g (lw_at lw_m0 219 rfl) rfl
theorem q233 : (Jvm.Cond.selects "RateLimitsModel" ({ cls := "RateLimitsModel", name := "granted", desc := "(I)I" } : Jvm.MethodName) ({ cls := "RateLimitsModel", name := "granted", desc := "(I)I" } : Jvm.MethodName)) ∈ lw_all := lw_g (lw_at lw_m0 220 rfl) rfl
theorem q234 : (Jvm.Cond.code ({ cls := "RateLimitsModel", name := "granted", desc := "(I)I" } : Jvm.MethodName) prog_3_method_15_code (2 : Nat) (Option.some Jvm.ClassFile.FieldType.int)) ∈ lw_all := lw_g (lw_at lw_m0 221 rfl) rfl
theorem q236 : (Jvm.Cond.instanceMethod ({ cls := "RateLimitsModel", name := "denied", desc := "(I)I" } : Jvm.MethodName)) ∈ lw_all := lw_g (lw_at lw_m0 223 rfl) rfl
theorem q237 : (Jvm.Cond.selects "RateLimitsModel" ({ cls := "RateLimitsModel", name := "denied", desc := "(I)I" } : Jvm.MethodName) ({ cls := "RateLimitsModel", name := "denied", desc := "(I)I" } : Jvm.MethodName)) ∈ lw_all := lw_g (lw_at lw_m0 224 rfl) rfl
theorem q238 : (Jvm.Cond.code ({ cls := "RateLimitsModel", name := "denied", desc := "(I)I" } : Jvm.MethodName) prog_3_method_16_code (2 : Nat) (Option.some Jvm.ClassFile.FieldType.int)) ∈ lw_all := lw_g (lw_at lw_m0 225 rfl) rfl
theorem q240 : (Jvm.Cond.instanceMethod ({ cls := "RateLimitsModel", name := "time", desc := "()I" } : Jvm.MethodName)) ∈ lw_all := lw_g (lw_at lw_m0 227 rfl) rfl
theorem q241 : (Jvm.Cond.selects "RateLimitsModel" ({ cls := "RateLimitsModel", name := "time", desc := "()I" } : Jvm.MethodName) ({ cls := "RateLimitsModel", name := "time", desc := "()I" } : Jvm.MethodName)) ∈ lw_all := lw_g (lw_at lw_m0 228 rfl) rfl
theorem q242 : (Jvm.Cond.code ({ cls := "RateLimitsModel", name := "time", desc := "()I" } : Jvm.MethodName) prog_3_method_17_code (1 : Nat) (Option.some Jvm.ClassFile.FieldType.int)) ∈ lw_all := lw_g (lw_at lw_m0 229 rfl) rfl
theorem in_X1 : ∀ w ∈ wsX10, w ∈ lw_all := lw_in wsX10 [160, 162, 164, 166, 168, 170, 172, 174, 176, 178] (by decide +kernel) (by decide +kernel)

/-! the law's own entry -/
set_option maxRecDepth 100000
abbrev cL_law : ByteArray := code

/-! java/lang/Object -/
set_option maxRecDepth 100000
def RJ0 : String := "java/lang/Object"
abbrev cJ0_init : ByteArray := object_method_1_code
def yJ0_init : MethodName := ⟨RJ0, "<init>", "()V"⟩
theorem dJ0_init_0 : decode cJ0_init 0 = .ok (.return_, 1) := by decide +kernel
theorem q22 : (Jvm.Cond.instanceMethod ({ cls := "java/lang/Object", name := "<init>", desc := "()V" } : Jvm.MethodName)) ∈ lw_all := lw_g (lw_at lw_m0 9 rfl) rfl
theorem q23 : (Jvm.Cond.code ({ cls := "java/lang/Object", name := "<init>", desc := "()V" } : Jvm.MethodName) object_method_1_code (1 : Nat) (Option.none : Option Jvm.ClassFile.FieldType)) ∈ lw_all := lw_g (lw_at lw_m0 10 rfl) rfl

theorem q75 : (Jvm.Cond.arrayClass Jvm.ClassFile.FieldType.int) ∈ lw_all := lw_g (lw_at lw_m0 62 rfl) rfl
set_option maxRecDepth 100000

theorem q13 : (Jvm.Cond.initialized "RateLimitsLaw") ∈ lw_all := lw_g (lw_at lw_m0 0 rfl) rfl
set_option maxRecDepth 100000
theorem q16 : (Jvm.Cond.classLink "RateLimitsLaw" (7 : Nat) "RateLimits") ∈ lw_all := lw_g (lw_at lw_m0 3 rfl) rfl
theorem q18 : (Jvm.Cond.methodLink "RateLimitsLaw" (9 : Nat) ({ cls := "RateLimits", name := "<init>", desc := "()V" } : Jvm.MethodName)) ∈ lw_all := lw_g (lw_at lw_m0 5 rfl) rfl
theorem q76 : (Jvm.Cond.methodLink "RateLimitsLaw" (13 : Nat) ({ cls := "RateLimits", name := "set", desc := "(III)I" } : Jvm.MethodName)) ∈ lw_all := lw_g (lw_at lw_m0 63 rfl) rfl
theorem q83 : (Jvm.Cond.methodLink "RateLimitsLaw" (18 : Nat) ({ cls := "RateLimits", name := "ask", desc := "(II)I" } : Jvm.MethodName)) ∈ lw_all := lw_g (lw_at lw_m0 70 rfl) rfl
theorem q106 : (Jvm.Cond.methodLink "RateLimitsLaw" (23 : Nat) ({ cls := "RateLimits", name := "askAll", desc := "(II)I" } : Jvm.MethodName)) ∈ lw_all := lw_g (lw_at lw_m0 93 rfl) rfl
theorem q110 : (Jvm.Cond.methodLink "RateLimitsLaw" (27 : Nat) ({ cls := "RateLimits", name := "pass", desc := "(I)I" } : Jvm.MethodName)) ∈ lw_all := lw_g (lw_at lw_m0 97 rfl) rfl
theorem q115 : (Jvm.Cond.methodLink "RateLimitsLaw" (32 : Nat) ({ cls := "RateLimits", name := "waitFor", desc := "(II)I" } : Jvm.MethodName)) ∈ lw_all := lw_g (lw_at lw_m0 102 rfl) rfl
theorem q123 : (Jvm.Cond.methodLink "RateLimitsLaw" (36 : Nat) ({ cls := "RateLimits", name := "room", desc := "(I)I" } : Jvm.MethodName)) ∈ lw_all := lw_g (lw_at lw_m0 110 rfl) rfl
theorem q127 : (Jvm.Cond.methodLink "RateLimitsLaw" (40 : Nat) ({ cls := "RateLimits", name := "granted", desc := "(I)I" } : Jvm.MethodName)) ∈ lw_all := lw_g (lw_at lw_m0 114 rfl) rfl
theorem q131 : (Jvm.Cond.methodLink "RateLimitsLaw" (44 : Nat) ({ cls := "RateLimits", name := "denied", desc := "(I)I" } : Jvm.MethodName)) ∈ lw_all := lw_g (lw_at lw_m0 118 rfl) rfl
theorem q135 : (Jvm.Cond.methodLink "RateLimitsLaw" (48 : Nat) ({ cls := "RateLimits", name := "time", desc := "()I" } : Jvm.MethodName)) ∈ lw_all := lw_g (lw_at lw_m0 122 rfl) rfl
theorem q139 : (Jvm.Cond.classLink "RateLimitsLaw" (10 : Nat) "RateLimitsModel") ∈ lw_all := lw_g (lw_at lw_m0 126 rfl) rfl
theorem q141 : (Jvm.Cond.methodLink "RateLimitsLaw" (12 : Nat) ({ cls := "RateLimitsModel", name := "<init>", desc := "()V" } : Jvm.MethodName)) ∈ lw_all := lw_g (lw_at lw_m0 128 rfl) rfl
theorem q181 : (Jvm.Cond.methodLink "RateLimitsLaw" (17 : Nat) ({ cls := "RateLimitsModel", name := "set", desc := "(III)I" } : Jvm.MethodName)) ∈ lw_all := lw_g (lw_at lw_m0 168 rfl) rfl
theorem q189 : (Jvm.Cond.methodLink "RateLimitsLaw" (22 : Nat) ({ cls := "RateLimitsModel", name := "ask", desc := "(II)I" } : Jvm.MethodName)) ∈ lw_all := lw_g (lw_at lw_m0 176 rfl) rfl
theorem q217 : (Jvm.Cond.methodLink "RateLimitsLaw" (26 : Nat) ({ cls := "RateLimitsModel", name := "askAll", desc := "(II)I" } : Jvm.MethodName)) ∈ lw_all := lw_g (lw_at lw_m0 204 rfl) rfl
theorem q218 : (Jvm.Cond.methodLink "RateLimitsLaw" (31 : Nat) ({ cls := "RateLimitsModel", name := "pass", desc := "(I)I" } : Jvm.MethodName)) ∈ lw_all := lw_g (lw_at lw_m0 205 rfl) rfl
theorem q223 : (Jvm.Cond.methodLink "RateLimitsLaw" (35 : Nat) ({ cls := "RateLimitsModel", name := "waitFor", desc := "(II)I" } : Jvm.MethodName)) ∈ lw_all := lw_g (lw_at lw_m0 210 rfl) rfl
theorem q227 : (Jvm.Cond.methodLink "RateLimitsLaw" (39 : Nat) ({ cls := "RateLimitsModel", name := "room", desc := "(I)I" } : Jvm.MethodName)) ∈ lw_all := lw_g (lw_at lw_m0 214 rfl) rfl
theorem q231 : (Jvm.Cond.methodLink "RateLimitsLaw" (43 : Nat) ({ cls := "RateLimitsModel", name := "granted", desc := "(I)I" } : Jvm.MethodName)) ∈ lw_all := lw_g (lw_at lw_m0 218 rfl) rfl
theorem q235 : (Jvm.Cond.methodLink "RateLimitsLaw" (47 : Nat) ({ cls := "RateLimitsModel", name := "denied", desc := "(I)I" } : Jvm.MethodName)) ∈ lw_all := lw_g (lw_at lw_m0 222 rfl) rfl
theorem q239 : (Jvm.Cond.methodLink "RateLimitsLaw" (52 : Nat) ({ cls := "RateLimitsModel", name := "time", desc := "()I" } : Jvm.MethodName)) ∈ lw_all := lw_g (lw_at lw_m0 226 rfl) rfl
end
section
set_option maxRecDepth 100000
theorem dX0_init_0 : decode cX0_init 0 = .ok (.aload_n 0, 1) := by decide +kernel
theorem dX0_init_1 : decode cX0_init 1 = .ok (.invokespecial 1, 3) := by decide +kernel
theorem dX0_init_4 : decode cX0_init 4 = .ok (.aload_n 0, 1) := by decide +kernel
theorem dX0_init_5 : decode cX0_init 5 = .ok (.iconst 4, 1) := by decide +kernel
theorem dX0_init_6 : decode cX0_init 6 = .ok (.newarray .int, 2) := by decide +kernel
theorem dX0_init_8 : decode cX0_init 8 = .ok (.putfield 7, 3) := by decide +kernel
theorem dX0_init_11 : decode cX0_init 11 = .ok (.aload_n 0, 1) := by decide +kernel
theorem dX0_init_12 : decode cX0_init 12 = .ok (.iconst 4, 1) := by decide +kernel
theorem dX0_init_13 : decode cX0_init 13 = .ok (.newarray .int, 2) := by decide +kernel
theorem dX0_init_15 : decode cX0_init 15 = .ok (.putfield 13, 3) := by decide +kernel
theorem dX0_init_18 : decode cX0_init 18 = .ok (.aload_n 0, 1) := by decide +kernel
theorem dX0_init_19 : decode cX0_init 19 = .ok (.iconst 4, 1) := by decide +kernel
theorem dX0_init_20 : decode cX0_init 20 = .ok (.newarray .int, 2) := by decide +kernel
theorem dX0_init_22 : decode cX0_init 22 = .ok (.putfield 16, 3) := by decide +kernel
theorem dX0_init_25 : decode cX0_init 25 = .ok (.aload_n 0, 1) := by decide +kernel
theorem dX0_init_26 : decode cX0_init 26 = .ok (.iconst 4, 1) := by decide +kernel
theorem dX0_init_27 : decode cX0_init 27 = .ok (.newarray .int, 2) := by decide +kernel
theorem dX0_init_29 : decode cX0_init 29 = .ok (.putfield 19, 3) := by decide +kernel
theorem dX0_init_32 : decode cX0_init 32 = .ok (.aload_n 0, 1) := by decide +kernel
theorem dX0_init_33 : decode cX0_init 33 = .ok (.iconst 4, 1) := by decide +kernel
theorem dX0_init_34 : decode cX0_init 34 = .ok (.newarray .int, 2) := by decide +kernel
theorem dX0_init_36 : decode cX0_init 36 = .ok (.putfield 22, 3) := by decide +kernel
theorem dX0_init_39 : decode cX0_init 39 = .ok (.aload_n 0, 1) := by decide +kernel
theorem dX0_init_40 : decode cX0_init 40 = .ok (.iconst 4, 1) := by decide +kernel
theorem dX0_init_41 : decode cX0_init 41 = .ok (.newarray .int, 2) := by decide +kernel
theorem dX0_init_43 : decode cX0_init 43 = .ok (.putfield 25, 3) := by decide +kernel
theorem dX0_init_46 : decode cX0_init 46 = .ok (.aload_n 0, 1) := by decide +kernel
theorem dX0_init_47 : decode cX0_init 47 = .ok (.iconst 4, 1) := by decide +kernel
theorem dX0_init_48 : decode cX0_init 48 = .ok (.newarray .int, 2) := by decide +kernel
theorem dX0_init_50 : decode cX0_init 50 = .ok (.putfield 28, 3) := by decide +kernel
theorem dX0_init_53 : decode cX0_init 53 = .ok (.aload_n 0, 1) := by decide +kernel
theorem dX0_init_54 : decode cX0_init 54 = .ok (.iconst 4, 1) := by decide +kernel
theorem dX0_init_55 : decode cX0_init 55 = .ok (.newarray .int, 2) := by decide +kernel
theorem dX0_init_57 : decode cX0_init 57 = .ok (.putfield 31, 3) := by decide +kernel
theorem dX0_init_60 : decode cX0_init 60 = .ok (.aload_n 0, 1) := by decide +kernel
theorem dX0_init_61 : decode cX0_init 61 = .ok (.iconst 4, 1) := by decide +kernel
theorem dX0_init_62 : decode cX0_init 62 = .ok (.newarray .int, 2) := by decide +kernel
theorem dX0_init_64 : decode cX0_init 64 = .ok (.putfield 34, 3) := by decide +kernel
theorem dX0_init_67 : decode cX0_init 67 = .ok (.aload_n 0, 1) := by decide +kernel
theorem dX0_init_68 : decode cX0_init 68 = .ok (.iconst 4, 1) := by decide +kernel
theorem dX0_init_69 : decode cX0_init 69 = .ok (.newarray .int, 2) := by decide +kernel
theorem dX0_init_71 : decode cX0_init 71 = .ok (.putfield 37, 3) := by decide +kernel
theorem dX0_init_74 : decode cX0_init 74 = .ok (.aload_n 0, 1) := by decide +kernel
theorem dX0_init_75 : decode cX0_init 75 = .ok (.iconst 4, 1) := by decide +kernel
theorem dX0_init_76 : decode cX0_init 76 = .ok (.newarray .int, 2) := by decide +kernel
theorem dX0_init_78 : decode cX0_init 78 = .ok (.putfield 40, 3) := by decide +kernel
theorem dX0_init_81 : decode cX0_init 81 = .ok (.aload_n 0, 1) := by decide +kernel
theorem dX0_init_82 : decode cX0_init 82 = .ok (.iconst 4, 1) := by decide +kernel
theorem dX0_init_83 : decode cX0_init 83 = .ok (.newarray .int, 2) := by decide +kernel
theorem dX0_init_85 : decode cX0_init 85 = .ok (.putfield 43, 3) := by decide +kernel
theorem dX0_init_88 : decode cX0_init 88 = .ok (.aload_n 0, 1) := by decide +kernel
theorem dX0_init_89 : decode cX0_init 89 = .ok (.sipush 128, 3) := by decide +kernel
theorem dX0_init_92 : decode cX0_init 92 = .ok (.newarray .int, 2) := by decide +kernel
theorem dX0_init_94 : decode cX0_init 94 = .ok (.putfield 46, 3) := by decide +kernel
theorem dX0_init_97 : decode cX0_init 97 = .ok (.aload_n 0, 1) := by decide +kernel
theorem dX0_init_98 : decode cX0_init 98 = .ok (.sipush 128, 3) := by decide +kernel
theorem dX0_init_101 : decode cX0_init 101 = .ok (.newarray .int, 2) := by decide +kernel
theorem dX0_init_103 : decode cX0_init 103 = .ok (.putfield 49, 3) := by decide +kernel
theorem dX0_init_106 : decode cX0_init 106 = .ok (.iconst 0, 1) := by decide +kernel
theorem dX0_init_107 : decode cX0_init 107 = .ok (.istore_n 1, 1) := by decide +kernel
theorem dX0_init_108 : decode cX0_init 108 = .ok (.iload_n 1, 1) := by decide +kernel
theorem dX0_init_109 : decode cX0_init 109 = .ok (.iconst 4, 1) := by decide +kernel
theorem dX0_init_110 : decode cX0_init 110 = .ok (.if_icmp .ge 19, 3) := by decide +kernel
theorem dX0_init_113 : decode cX0_init 113 = .ok (.aload_n 0, 1) := by decide +kernel
theorem dX0_init_114 : decode cX0_init 114 = .ok (.iload_n 1, 1) := by decide +kernel
theorem dX0_init_115 : decode cX0_init 115 = .ok (.iconst 0, 1) := by decide +kernel
theorem dX0_init_116 : decode cX0_init 116 = .ok (.iconst 1, 1) := by decide +kernel
theorem dX0_init_117 : decode cX0_init 117 = .ok (.bipush 10, 2) := by decide +kernel
theorem dX0_init_119 : decode cX0_init 119 = .ok (.iconst 1, 1) := by decide +kernel
theorem dX0_init_120 : decode cX0_init 120 = .ok (.invokevirtual 52, 3) := by decide +kernel
theorem dX0_init_123 : decode cX0_init 123 = .ok (.iinc 1 1, 3) := by decide +kernel
theorem dX0_init_126 : decode cX0_init 126 = .ok (.goto (-18), 3) := by decide +kernel
theorem dX0_init_129 : decode cX0_init 129 = .ok (.return_, 1) := by decide +kernel
theorem dX0_start_0 : decode cX0_start 0 = .ok (.aload_n 0, 1) := by decide +kernel
theorem dX0_start_1 : decode cX0_start 1 = .ok (.getfield 7, 3) := by decide +kernel
theorem dX0_start_4 : decode cX0_start 4 = .ok (.iload_n 1, 1) := by decide +kernel
theorem dX0_start_5 : decode cX0_start 5 = .ok (.iload_n 2, 1) := by decide +kernel
theorem dX0_start_6 : decode cX0_start 6 = .ok (.iastore, 1) := by decide +kernel
theorem dX0_start_7 : decode cX0_start 7 = .ok (.aload_n 0, 1) := by decide +kernel
theorem dX0_start_8 : decode cX0_start 8 = .ok (.getfield 13, 3) := by decide +kernel
theorem dX0_start_11 : decode cX0_start 11 = .ok (.iload_n 1, 1) := by decide +kernel
theorem dX0_start_12 : decode cX0_start 12 = .ok (.iload_n 3, 1) := by decide +kernel
theorem dX0_start_13 : decode cX0_start 13 = .ok (.iastore, 1) := by decide +kernel
theorem dX0_start_14 : decode cX0_start 14 = .ok (.aload_n 0, 1) := by decide +kernel
theorem dX0_start_15 : decode cX0_start 15 = .ok (.getfield 16, 3) := by decide +kernel
theorem dX0_start_18 : decode cX0_start 18 = .ok (.iload_n 1, 1) := by decide +kernel
theorem dX0_start_19 : decode cX0_start 19 = .ok (.iload 4, 2) := by decide +kernel
theorem dX0_start_21 : decode cX0_start 21 = .ok (.iastore, 1) := by decide +kernel
theorem dX0_start_22 : decode cX0_start 22 = .ok (.aload_n 0, 1) := by decide +kernel
theorem dX0_start_23 : decode cX0_start 23 = .ok (.getfield 19, 3) := by decide +kernel
theorem dX0_start_26 : decode cX0_start 26 = .ok (.iload_n 1, 1) := by decide +kernel
theorem dX0_start_27 : decode cX0_start 27 = .ok (.iload 5, 2) := by decide +kernel
theorem dX0_start_29 : decode cX0_start 29 = .ok (.iastore, 1) := by decide +kernel
theorem dX0_start_30 : decode cX0_start 30 = .ok (.aload_n 0, 1) := by decide +kernel
theorem dX0_start_31 : decode cX0_start 31 = .ok (.getfield 22, 3) := by decide +kernel
theorem dX0_start_34 : decode cX0_start 34 = .ok (.iload_n 1, 1) := by decide +kernel
theorem dX0_start_35 : decode cX0_start 35 = .ok (.iconst 0, 1) := by decide +kernel
theorem dX0_start_36 : decode cX0_start 36 = .ok (.iastore, 1) := by decide +kernel
theorem dX0_start_37 : decode cX0_start 37 = .ok (.aload_n 0, 1) := by decide +kernel
theorem dX0_start_38 : decode cX0_start 38 = .ok (.getfield 25, 3) := by decide +kernel
theorem dX0_start_41 : decode cX0_start 41 = .ok (.iload_n 1, 1) := by decide +kernel
theorem dX0_start_42 : decode cX0_start 42 = .ok (.iconst 0, 1) := by decide +kernel
theorem dX0_start_43 : decode cX0_start 43 = .ok (.iastore, 1) := by decide +kernel
theorem dX0_start_44 : decode cX0_start 44 = .ok (.aload_n 0, 1) := by decide +kernel
theorem dX0_start_45 : decode cX0_start 45 = .ok (.getfield 28, 3) := by decide +kernel
theorem dX0_start_48 : decode cX0_start 48 = .ok (.iload_n 1, 1) := by decide +kernel
theorem dX0_start_49 : decode cX0_start 49 = .ok (.iload 4, 2) := by decide +kernel
theorem dX0_start_51 : decode cX0_start 51 = .ok (.iastore, 1) := by decide +kernel
theorem dX0_start_52 : decode cX0_start 52 = .ok (.aload_n 0, 1) := by decide +kernel
theorem dX0_start_53 : decode cX0_start 53 = .ok (.getfield 31, 3) := by decide +kernel
theorem dX0_start_56 : decode cX0_start 56 = .ok (.iload_n 1, 1) := by decide +kernel
theorem dX0_start_57 : decode cX0_start 57 = .ok (.aload_n 0, 1) := by decide +kernel
theorem dX0_start_58 : decode cX0_start 58 = .ok (.getfield 56, 3) := by decide +kernel
theorem dX0_start_61 : decode cX0_start 61 = .ok (.iastore, 1) := by decide +kernel
theorem dX0_start_62 : decode cX0_start 62 = .ok (.aload_n 0, 1) := by decide +kernel
theorem dX0_start_63 : decode cX0_start 63 = .ok (.getfield 34, 3) := by decide +kernel
theorem dX0_start_66 : decode cX0_start 66 = .ok (.iload_n 1, 1) := by decide +kernel
theorem dX0_start_67 : decode cX0_start 67 = .ok (.ldc 60, 2) := by decide +kernel
theorem dX0_start_69 : decode cX0_start 69 = .ok (.iastore, 1) := by decide +kernel
theorem dX0_start_70 : decode cX0_start 70 = .ok (.aload_n 0, 1) := by decide +kernel
theorem dX0_start_71 : decode cX0_start 71 = .ok (.getfield 37, 3) := by decide +kernel
theorem dX0_start_74 : decode cX0_start 74 = .ok (.iload_n 1, 1) := by decide +kernel
theorem dX0_start_75 : decode cX0_start 75 = .ok (.iconst 0, 1) := by decide +kernel
theorem dX0_start_76 : decode cX0_start 76 = .ok (.iastore, 1) := by decide +kernel
theorem dX0_start_77 : decode cX0_start 77 = .ok (.aload_n 0, 1) := by decide +kernel
theorem dX0_start_78 : decode cX0_start 78 = .ok (.getfield 40, 3) := by decide +kernel
theorem dX0_start_81 : decode cX0_start 81 = .ok (.iload_n 1, 1) := by decide +kernel
theorem dX0_start_82 : decode cX0_start 82 = .ok (.iconst 0, 1) := by decide +kernel
theorem dX0_start_83 : decode cX0_start 83 = .ok (.iastore, 1) := by decide +kernel
theorem dX0_start_84 : decode cX0_start 84 = .ok (.aload_n 0, 1) := by decide +kernel
theorem dX0_start_85 : decode cX0_start 85 = .ok (.getfield 43, 3) := by decide +kernel
theorem dX0_start_88 : decode cX0_start 88 = .ok (.iload_n 1, 1) := by decide +kernel
theorem dX0_start_89 : decode cX0_start 89 = .ok (.iconst 0, 1) := by decide +kernel
theorem dX0_start_90 : decode cX0_start 90 = .ok (.iastore, 1) := by decide +kernel
theorem dX0_start_91 : decode cX0_start 91 = .ok (.return_, 1) := by decide +kernel
theorem dX0_set_0 : decode cX0_set 0 = .ok (.iload_n 1, 1) := by decide +kernel
theorem dX0_set_1 : decode cX0_set 1 = .ok (.invokestatic 61, 3) := by decide +kernel
theorem dX0_set_4 : decode cX0_set 4 = .ok (.ifCond .eq 5, 3) := by decide +kernel
theorem dX0_set_7 : decode cX0_set 7 = .ok (.iconst (-1), 1) := by decide +kernel
theorem dX0_set_8 : decode cX0_set 8 = .ok (.ireturn, 1) := by decide +kernel
theorem dX0_set_9 : decode cX0_set 9 = .ok (.iload_n 2, 1) := by decide +kernel
theorem dX0_set_10 : decode cX0_set 10 = .ok (.ifCond .lt 8, 3) := by decide +kernel
theorem dX0_set_13 : decode cX0_set 13 = .ok (.iload_n 2, 1) := by decide +kernel
theorem dX0_set_14 : decode cX0_set 14 = .ok (.iconst 2, 1) := by decide +kernel
theorem dX0_set_15 : decode cX0_set 15 = .ok (.if_icmp .le 6, 3) := by decide +kernel
theorem dX0_set_18 : decode cX0_set 18 = .ok (.bipush (-2), 2) := by decide +kernel
theorem dX0_set_20 : decode cX0_set 20 = .ok (.ireturn, 1) := by decide +kernel
theorem dX0_set_21 : decode cX0_set 21 = .ok (.iload_n 3, 1) := by decide +kernel
theorem dX0_set_22 : decode cX0_set 22 = .ok (.bipush 7, 2) := by decide +kernel
theorem dX0_set_24 : decode cX0_set 24 = .ok (.iand, 1) := by decide +kernel
theorem dX0_set_25 : decode cX0_set 25 = .ok (.istore 4, 2) := by decide +kernel
theorem dX0_set_27 : decode cX0_set 27 = .ok (.iload_n 3, 1) := by decide +kernel
theorem dX0_set_28 : decode cX0_set 28 = .ok (.iconst 3, 1) := by decide +kernel
theorem dX0_set_29 : decode cX0_set 29 = .ok (.ishr, 1) := by decide +kernel
theorem dX0_set_30 : decode cX0_set 30 = .ok (.bipush 31, 2) := by decide +kernel
theorem dX0_set_32 : decode cX0_set 32 = .ok (.iand, 1) := by decide +kernel
theorem dX0_set_33 : decode cX0_set 33 = .ok (.istore 5, 2) := by decide +kernel
theorem dX0_set_35 : decode cX0_set 35 = .ok (.iload_n 3, 1) := by decide +kernel
theorem dX0_set_36 : decode cX0_set 36 = .ok (.bipush 8, 2) := by decide +kernel
theorem dX0_set_38 : decode cX0_set 38 = .ok (.ishr, 1) := by decide +kernel
theorem dX0_set_39 : decode cX0_set 39 = .ok (.bipush 15, 2) := by decide +kernel
theorem dX0_set_41 : decode cX0_set 41 = .ok (.iand, 1) := by decide +kernel
theorem dX0_set_42 : decode cX0_set 42 = .ok (.istore 6, 2) := by decide +kernel
theorem dX0_set_44 : decode cX0_set 44 = .ok (.iload 4, 2) := by decide +kernel
theorem dX0_set_46 : decode cX0_set 46 = .ok (.iconst 1, 1) := by decide +kernel
theorem dX0_set_47 : decode cX0_set 47 = .ok (.if_icmp .lt 35, 3) := by decide +kernel
theorem dX0_set_50 : decode cX0_set 50 = .ok (.iload 4, 2) := by decide +kernel
theorem dX0_set_52 : decode cX0_set 52 = .ok (.iconst 5, 1) := by decide +kernel
theorem dX0_set_53 : decode cX0_set 53 = .ok (.if_icmp .gt 29, 3) := by decide +kernel
theorem dX0_set_56 : decode cX0_set 56 = .ok (.iload 5, 2) := by decide +kernel
theorem dX0_set_58 : decode cX0_set 58 = .ok (.iconst 1, 1) := by decide +kernel
theorem dX0_set_59 : decode cX0_set 59 = .ok (.if_icmp .lt 23, 3) := by decide +kernel
theorem dX0_set_62 : decode cX0_set 62 = .ok (.iload 5, 2) := by decide +kernel
theorem dX0_set_64 : decode cX0_set 64 = .ok (.bipush 30, 2) := by decide +kernel
theorem dX0_set_66 : decode cX0_set 66 = .ok (.if_icmp .gt 16, 3) := by decide +kernel
theorem dX0_set_69 : decode cX0_set 69 = .ok (.iload 6, 2) := by decide +kernel
theorem dX0_set_71 : decode cX0_set 71 = .ok (.iconst 1, 1) := by decide +kernel
theorem dX0_set_72 : decode cX0_set 72 = .ok (.if_icmp .lt 10, 3) := by decide +kernel
theorem dX0_set_75 : decode cX0_set 75 = .ok (.iload 6, 2) := by decide +kernel
theorem dX0_set_77 : decode cX0_set 77 = .ok (.bipush 10, 2) := by decide +kernel
theorem dX0_set_79 : decode cX0_set 79 = .ok (.if_icmp .le 6, 3) := by decide +kernel
theorem dX0_set_82 : decode cX0_set 82 = .ok (.bipush (-3), 2) := by decide +kernel
theorem dX0_set_84 : decode cX0_set 84 = .ok (.ireturn, 1) := by decide +kernel
theorem dX0_set_85 : decode cX0_set 85 = .ok (.aload_n 0, 1) := by decide +kernel
theorem dX0_set_86 : decode cX0_set 86 = .ok (.iload_n 1, 1) := by decide +kernel
theorem dX0_set_87 : decode cX0_set 87 = .ok (.iload_n 2, 1) := by decide +kernel
theorem dX0_set_88 : decode cX0_set 88 = .ok (.iload 4, 2) := by decide +kernel
theorem dX0_set_90 : decode cX0_set 90 = .ok (.iload 5, 2) := by decide +kernel
theorem dX0_set_92 : decode cX0_set 92 = .ok (.iload 6, 2) := by decide +kernel
theorem dX0_set_94 : decode cX0_set 94 = .ok (.invokevirtual 52, 3) := by decide +kernel
theorem dX0_set_97 : decode cX0_set 97 = .ok (.iconst 0, 1) := by decide +kernel
theorem dX0_set_98 : decode cX0_set 98 = .ok (.ireturn, 1) := by decide +kernel
theorem dX0_bad_0 : decode cX0_bad 0 = .ok (.iload_n 0, 1) := by decide +kernel
theorem dX0_bad_1 : decode cX0_bad 1 = .ok (.ifCond .lt 8, 3) := by decide +kernel
theorem dX0_bad_4 : decode cX0_bad 4 = .ok (.iload_n 0, 1) := by decide +kernel
theorem dX0_bad_5 : decode cX0_bad 5 = .ok (.iconst 4, 1) := by decide +kernel
theorem dX0_bad_6 : decode cX0_bad 6 = .ok (.if_icmp .lt 7, 3) := by decide +kernel
theorem dX0_bad_9 : decode cX0_bad 9 = .ok (.iconst 1, 1) := by decide +kernel
theorem dX0_bad_10 : decode cX0_bad 10 = .ok (.goto 4, 3) := by decide +kernel
theorem dX0_bad_13 : decode cX0_bad 13 = .ok (.iconst 0, 1) := by decide +kernel
theorem dX0_bad_14 : decode cX0_bad 14 = .ok (.ireturn, 1) := by decide +kernel
theorem dX0_ask_0 : decode cX0_ask 0 = .ok (.iload_n 1, 1) := by decide +kernel
theorem dX0_ask_1 : decode cX0_ask 1 = .ok (.invokestatic 61, 3) := by decide +kernel
theorem dX0_ask_4 : decode cX0_ask 4 = .ok (.ifCond .eq 5, 3) := by decide +kernel
theorem dX0_ask_7 : decode cX0_ask 7 = .ok (.iconst (-1), 1) := by decide +kernel
theorem dX0_ask_8 : decode cX0_ask 8 = .ok (.ireturn, 1) := by decide +kernel
theorem dX0_ask_9 : decode cX0_ask 9 = .ok (.iload_n 2, 1) := by decide +kernel
theorem dX0_ask_10 : decode cX0_ask 10 = .ok (.invokestatic 73, 3) := by decide +kernel
theorem dX0_ask_13 : decode cX0_ask 13 = .ok (.ifCond .eq 6, 3) := by decide +kernel
theorem dX0_ask_16 : decode cX0_ask 16 = .ok (.bipush (-3), 2) := by decide +kernel
theorem dX0_ask_18 : decode cX0_ask 18 = .ok (.ireturn, 1) := by decide +kernel
theorem dX0_ask_19 : decode cX0_ask 19 = .ok (.aload_n 0, 1) := by decide +kernel
theorem dX0_ask_20 : decode cX0_ask 20 = .ok (.iload_n 1, 1) := by decide +kernel
theorem dX0_ask_21 : decode cX0_ask 21 = .ok (.invokevirtual 76, 3) := by decide +kernel
theorem dX0_ask_24 : decode cX0_ask 24 = .ok (.istore_n 3, 1) := by decide +kernel
theorem dX0_ask_25 : decode cX0_ask 25 = .ok (.iload_n 2, 1) := by decide +kernel
theorem dX0_ask_26 : decode cX0_ask 26 = .ok (.iload_n 3, 1) := by decide +kernel
theorem dX0_ask_27 : decode cX0_ask 27 = .ok (.if_icmp .le 15, 3) := by decide +kernel
theorem dX0_ask_30 : decode cX0_ask 30 = .ok (.aload_n 0, 1) := by decide +kernel
theorem dX0_ask_31 : decode cX0_ask 31 = .ok (.getfield 25, 3) := by decide +kernel
theorem dX0_ask_34 : decode cX0_ask 34 = .ok (.iload_n 1, 1) := by decide +kernel
theorem dX0_ask_35 : decode cX0_ask 35 = .ok (.dup2, 1) := by decide +kernel
theorem dX0_ask_36 : decode cX0_ask 36 = .ok (.iaload, 1) := by decide +kernel
theorem dX0_ask_37 : decode cX0_ask 37 = .ok (.iconst 1, 1) := by decide +kernel
theorem dX0_ask_38 : decode cX0_ask 38 = .ok (.iadd, 1) := by decide +kernel
theorem dX0_ask_39 : decode cX0_ask 39 = .ok (.iastore, 1) := by decide +kernel
theorem dX0_ask_40 : decode cX0_ask 40 = .ok (.iconst 0, 1) := by decide +kernel
theorem dX0_ask_41 : decode cX0_ask 41 = .ok (.ireturn, 1) := by decide +kernel
theorem dX0_ask_42 : decode cX0_ask 42 = .ok (.aload_n 0, 1) := by decide +kernel
theorem dX0_ask_43 : decode cX0_ask 43 = .ok (.iload_n 1, 1) := by decide +kernel
theorem dX0_ask_44 : decode cX0_ask 44 = .ok (.iload_n 2, 1) := by decide +kernel
theorem dX0_ask_45 : decode cX0_ask 45 = .ok (.invokevirtual 79, 3) := by decide +kernel
theorem dX0_ask_48 : decode cX0_ask 48 = .ok (.iconst 1, 1) := by decide +kernel
theorem dX0_ask_49 : decode cX0_ask 49 = .ok (.ireturn, 1) := by decide +kernel
theorem dX0_badCost_0 : decode cX0_badCost 0 = .ok (.iload_n 0, 1) := by decide +kernel
theorem dX0_badCost_1 : decode cX0_badCost 1 = .ok (.iconst 1, 1) := by decide +kernel
theorem dX0_badCost_2 : decode cX0_badCost 2 = .ok (.if_icmp .lt 9, 3) := by decide +kernel
theorem dX0_badCost_5 : decode cX0_badCost 5 = .ok (.iload_n 0, 1) := by decide +kernel
theorem dX0_badCost_6 : decode cX0_badCost 6 = .ok (.bipush 20, 2) := by decide +kernel
theorem dX0_badCost_8 : decode cX0_badCost 8 = .ok (.if_icmp .le 7, 3) := by decide +kernel
theorem dX0_badCost_11 : decode cX0_badCost 11 = .ok (.iconst 1, 1) := by decide +kernel
theorem dX0_badCost_12 : decode cX0_badCost 12 = .ok (.goto 4, 3) := by decide +kernel
theorem dX0_badCost_15 : decode cX0_badCost 15 = .ok (.iconst 0, 1) := by decide +kernel
theorem dX0_badCost_16 : decode cX0_badCost 16 = .ok (.ireturn, 1) := by decide +kernel
theorem dX0_roomOf_0 : decode cX0_roomOf 0 = .ok (.aload_n 0, 1) := by decide +kernel
theorem dX0_roomOf_1 : decode cX0_roomOf 1 = .ok (.iload_n 1, 1) := by decide +kernel
theorem dX0_roomOf_2 : decode cX0_roomOf 2 = .ok (.invokevirtual 65, 3) := by decide +kernel
theorem dX0_roomOf_5 : decode cX0_roomOf 5 = .ok (.aload_n 0, 1) := by decide +kernel
theorem dX0_roomOf_6 : decode cX0_roomOf 6 = .ok (.getfield 7, 3) := by decide +kernel
theorem dX0_roomOf_9 : decode cX0_roomOf 9 = .ok (.iload_n 1, 1) := by decide +kernel
theorem dX0_roomOf_10 : decode cX0_roomOf 10 = .ok (.iaload, 1) := by decide +kernel
theorem dX0_roomOf_11 : decode cX0_roomOf 11 = .ok (.ifCond .ne 10, 3) := by decide +kernel
theorem dX0_roomOf_14 : decode cX0_roomOf 14 = .ok (.aload_n 0, 1) := by decide +kernel
theorem dX0_roomOf_15 : decode cX0_roomOf 15 = .ok (.getfield 28, 3) := by decide +kernel
theorem dX0_roomOf_18 : decode cX0_roomOf 18 = .ok (.iload_n 1, 1) := by decide +kernel
theorem dX0_roomOf_19 : decode cX0_roomOf 19 = .ok (.iaload, 1) := by decide +kernel
theorem dX0_roomOf_20 : decode cX0_roomOf 20 = .ok (.ireturn, 1) := by decide +kernel
theorem dX0_roomOf_21 : decode cX0_roomOf 21 = .ok (.aload_n 0, 1) := by decide +kernel
theorem dX0_roomOf_22 : decode cX0_roomOf 22 = .ok (.getfield 7, 3) := by decide +kernel
theorem dX0_roomOf_25 : decode cX0_roomOf 25 = .ok (.iload_n 1, 1) := by decide +kernel
theorem dX0_roomOf_26 : decode cX0_roomOf 26 = .ok (.iaload, 1) := by decide +kernel
theorem dX0_roomOf_27 : decode cX0_roomOf 27 = .ok (.iconst 1, 1) := by decide +kernel
theorem dX0_roomOf_28 : decode cX0_roomOf 28 = .ok (.if_icmp .ne 17, 3) := by decide +kernel
theorem dX0_roomOf_31 : decode cX0_roomOf 31 = .ok (.aload_n 0, 1) := by decide +kernel
theorem dX0_roomOf_32 : decode cX0_roomOf 32 = .ok (.getfield 16, 3) := by decide +kernel
theorem dX0_roomOf_35 : decode cX0_roomOf 35 = .ok (.iload_n 1, 1) := by decide +kernel
theorem dX0_roomOf_36 : decode cX0_roomOf 36 = .ok (.iaload, 1) := by decide +kernel
theorem dX0_roomOf_37 : decode cX0_roomOf 37 = .ok (.aload_n 0, 1) := by decide +kernel
theorem dX0_roomOf_38 : decode cX0_roomOf 38 = .ok (.getfield 43, 3) := by decide +kernel
theorem dX0_roomOf_41 : decode cX0_roomOf 41 = .ok (.iload_n 1, 1) := by decide +kernel
theorem dX0_roomOf_42 : decode cX0_roomOf 42 = .ok (.iaload, 1) := by decide +kernel
theorem dX0_roomOf_43 : decode cX0_roomOf 43 = .ok (.isub, 1) := by decide +kernel
theorem dX0_roomOf_44 : decode cX0_roomOf 44 = .ok (.ireturn, 1) := by decide +kernel
theorem dX0_roomOf_45 : decode cX0_roomOf 45 = .ok (.aload_n 0, 1) := by decide +kernel
theorem dX0_roomOf_46 : decode cX0_roomOf 46 = .ok (.iload_n 1, 1) := by decide +kernel
theorem dX0_roomOf_47 : decode cX0_roomOf 47 = .ok (.invokevirtual 69, 3) := by decide +kernel
theorem dX0_roomOf_50 : decode cX0_roomOf 50 = .ok (.aload_n 0, 1) := by decide +kernel
theorem dX0_roomOf_51 : decode cX0_roomOf 51 = .ok (.getfield 56, 3) := by decide +kernel
theorem dX0_roomOf_54 : decode cX0_roomOf 54 = .ok (.isub, 1) := by decide +kernel
theorem dX0_roomOf_55 : decode cX0_roomOf 55 = .ok (.istore_n 2, 1) := by decide +kernel
theorem dX0_roomOf_56 : decode cX0_roomOf 56 = .ok (.aload_n 0, 1) := by decide +kernel
theorem dX0_roomOf_57 : decode cX0_roomOf 57 = .ok (.getfield 16, 3) := by decide +kernel
theorem dX0_roomOf_60 : decode cX0_roomOf 60 = .ok (.iload_n 1, 1) := by decide +kernel
theorem dX0_roomOf_61 : decode cX0_roomOf 61 = .ok (.iaload, 1) := by decide +kernel
theorem dX0_roomOf_62 : decode cX0_roomOf 62 = .ok (.aload_n 0, 1) := by decide +kernel
theorem dX0_roomOf_63 : decode cX0_roomOf 63 = .ok (.getfield 19, 3) := by decide +kernel
theorem dX0_roomOf_66 : decode cX0_roomOf 66 = .ok (.iload_n 1, 1) := by decide +kernel
theorem dX0_roomOf_67 : decode cX0_roomOf 67 = .ok (.iaload, 1) := by decide +kernel
theorem dX0_roomOf_68 : decode cX0_roomOf 68 = .ok (.imul, 1) := by decide +kernel
theorem dX0_roomOf_69 : decode cX0_roomOf 69 = .ok (.iload_n 2, 1) := by decide +kernel
theorem dX0_roomOf_70 : decode cX0_roomOf 70 = .ok (.isub, 1) := by decide +kernel
theorem dX0_roomOf_71 : decode cX0_roomOf 71 = .ok (.istore_n 3, 1) := by decide +kernel
theorem dX0_roomOf_72 : decode cX0_roomOf 72 = .ok (.iload_n 3, 1) := by decide +kernel
theorem dX0_roomOf_73 : decode cX0_roomOf 73 = .ok (.ifCond .ge 7, 3) := by decide +kernel
theorem dX0_roomOf_76 : decode cX0_roomOf 76 = .ok (.iconst 0, 1) := by decide +kernel
theorem dX0_roomOf_77 : decode cX0_roomOf 77 = .ok (.goto 24, 3) := by decide +kernel
theorem dX0_roomOf_80 : decode cX0_roomOf 80 = .ok (.iload_n 3, 1) := by decide +kernel
theorem dX0_roomOf_81 : decode cX0_roomOf 81 = .ok (.aload_n 0, 1) := by decide +kernel
theorem dX0_roomOf_82 : decode cX0_roomOf 82 = .ok (.getfield 19, 3) := by decide +kernel
theorem dX0_roomOf_85 : decode cX0_roomOf 85 = .ok (.iload_n 1, 1) := by decide +kernel
theorem dX0_roomOf_86 : decode cX0_roomOf 86 = .ok (.iaload, 1) := by decide +kernel
theorem dX0_roomOf_87 : decode cX0_roomOf 87 = .ok (.ifCond .le 12, 3) := by decide +kernel
theorem dX0_roomOf_90 : decode cX0_roomOf 90 = .ok (.aload_n 0, 1) := by decide +kernel
theorem dX0_roomOf_91 : decode cX0_roomOf 91 = .ok (.getfield 19, 3) := by decide +kernel
theorem dX0_roomOf_94 : decode cX0_roomOf 94 = .ok (.iload_n 1, 1) := by decide +kernel
theorem dX0_roomOf_95 : decode cX0_roomOf 95 = .ok (.iaload, 1) := by decide +kernel
theorem dX0_roomOf_96 : decode cX0_roomOf 96 = .ok (.goto 4, 3) := by decide +kernel
theorem dX0_roomOf_99 : decode cX0_roomOf 99 = .ok (.iconst 1, 1) := by decide +kernel
theorem dX0_roomOf_100 : decode cX0_roomOf 100 = .ok (.idiv, 1) := by decide +kernel
theorem dX0_roomOf_101 : decode cX0_roomOf 101 = .ok (.ireturn, 1) := by decide +kernel
theorem dX0_catchUp_0 : decode cX0_catchUp 0 = .ok (.aload_n 0, 1) := by decide +kernel
theorem dX0_catchUp_1 : decode cX0_catchUp 1 = .ok (.getfield 28, 3) := by decide +kernel
theorem dX0_catchUp_4 : decode cX0_catchUp 4 = .ok (.iload_n 1, 1) := by decide +kernel
theorem dX0_catchUp_5 : decode cX0_catchUp 5 = .ok (.iaload, 1) := by decide +kernel
theorem dX0_catchUp_6 : decode cX0_catchUp 6 = .ok (.aload_n 0, 1) := by decide +kernel
theorem dX0_catchUp_7 : decode cX0_catchUp 7 = .ok (.getfield 13, 3) := by decide +kernel
theorem dX0_catchUp_10 : decode cX0_catchUp 10 = .ok (.iload_n 1, 1) := by decide +kernel
theorem dX0_catchUp_11 : decode cX0_catchUp 11 = .ok (.iaload, 1) := by decide +kernel
theorem dX0_catchUp_12 : decode cX0_catchUp 12 = .ok (.aload_n 0, 1) := by decide +kernel
theorem dX0_catchUp_13 : decode cX0_catchUp 13 = .ok (.getfield 56, 3) := by decide +kernel
theorem dX0_catchUp_16 : decode cX0_catchUp 16 = .ok (.aload_n 0, 1) := by decide +kernel
theorem dX0_catchUp_17 : decode cX0_catchUp 17 = .ok (.getfield 31, 3) := by decide +kernel
theorem dX0_catchUp_20 : decode cX0_catchUp 20 = .ok (.iload_n 1, 1) := by decide +kernel
theorem dX0_catchUp_21 : decode cX0_catchUp 21 = .ok (.iaload, 1) := by decide +kernel
theorem dX0_catchUp_22 : decode cX0_catchUp 22 = .ok (.isub, 1) := by decide +kernel
theorem dX0_catchUp_23 : decode cX0_catchUp 23 = .ok (.imul, 1) := by decide +kernel
theorem dX0_catchUp_24 : decode cX0_catchUp 24 = .ok (.iadd, 1) := by decide +kernel
theorem dX0_catchUp_25 : decode cX0_catchUp 25 = .ok (.istore_n 2, 1) := by decide +kernel
theorem dX0_catchUp_26 : decode cX0_catchUp 26 = .ok (.aload_n 0, 1) := by decide +kernel
theorem dX0_catchUp_27 : decode cX0_catchUp 27 = .ok (.getfield 28, 3) := by decide +kernel
theorem dX0_catchUp_30 : decode cX0_catchUp 30 = .ok (.iload_n 1, 1) := by decide +kernel
theorem dX0_catchUp_31 : decode cX0_catchUp 31 = .ok (.iload_n 2, 1) := by decide +kernel
theorem dX0_catchUp_32 : decode cX0_catchUp 32 = .ok (.aload_n 0, 1) := by decide +kernel
theorem dX0_catchUp_33 : decode cX0_catchUp 33 = .ok (.getfield 16, 3) := by decide +kernel
theorem dX0_catchUp_36 : decode cX0_catchUp 36 = .ok (.iload_n 1, 1) := by decide +kernel
theorem dX0_catchUp_37 : decode cX0_catchUp 37 = .ok (.iaload, 1) := by decide +kernel
theorem dX0_catchUp_38 : decode cX0_catchUp 38 = .ok (.if_icmp .ge 7, 3) := by decide +kernel
theorem dX0_catchUp_41 : decode cX0_catchUp 41 = .ok (.iload_n 2, 1) := by decide +kernel
theorem dX0_catchUp_42 : decode cX0_catchUp 42 = .ok (.goto 9, 3) := by decide +kernel
theorem dX0_catchUp_45 : decode cX0_catchUp 45 = .ok (.aload_n 0, 1) := by decide +kernel
theorem dX0_catchUp_46 : decode cX0_catchUp 46 = .ok (.getfield 16, 3) := by decide +kernel
theorem dX0_catchUp_49 : decode cX0_catchUp 49 = .ok (.iload_n 1, 1) := by decide +kernel
theorem dX0_catchUp_50 : decode cX0_catchUp 50 = .ok (.iaload, 1) := by decide +kernel
theorem dX0_catchUp_51 : decode cX0_catchUp 51 = .ok (.iastore, 1) := by decide +kernel
theorem dX0_catchUp_52 : decode cX0_catchUp 52 = .ok (.aload_n 0, 1) := by decide +kernel
theorem dX0_catchUp_53 : decode cX0_catchUp 53 = .ok (.getfield 31, 3) := by decide +kernel
theorem dX0_catchUp_56 : decode cX0_catchUp 56 = .ok (.iload_n 1, 1) := by decide +kernel
theorem dX0_catchUp_57 : decode cX0_catchUp 57 = .ok (.aload_n 0, 1) := by decide +kernel
theorem dX0_catchUp_58 : decode cX0_catchUp 58 = .ok (.getfield 56, 3) := by decide +kernel
theorem dX0_catchUp_61 : decode cX0_catchUp 61 = .ok (.iastore, 1) := by decide +kernel
theorem dX0_catchUp_62 : decode cX0_catchUp 62 = .ok (.iconst 0, 1) := by decide +kernel
theorem dX0_catchUp_63 : decode cX0_catchUp 63 = .ok (.istore_n 3, 1) := by decide +kernel
theorem dX0_catchUp_64 : decode cX0_catchUp 64 = .ok (.iload_n 3, 1) := by decide +kernel
theorem dX0_catchUp_65 : decode cX0_catchUp 65 = .ok (.bipush 32, 2) := by decide +kernel
theorem dX0_catchUp_67 : decode cX0_catchUp 67 = .ok (.if_icmp .ge 100, 3) := by decide +kernel
theorem dX0_catchUp_70 : decode cX0_catchUp 70 = .ok (.aload_n 0, 1) := by decide +kernel
theorem dX0_catchUp_71 : decode cX0_catchUp 71 = .ok (.getfield 40, 3) := by decide +kernel
theorem dX0_catchUp_74 : decode cX0_catchUp 74 = .ok (.iload_n 1, 1) := by decide +kernel
theorem dX0_catchUp_75 : decode cX0_catchUp 75 = .ok (.iaload, 1) := by decide +kernel
theorem dX0_catchUp_76 : decode cX0_catchUp 76 = .ok (.ifCond .le 91, 3) := by decide +kernel
theorem dX0_catchUp_79 : decode cX0_catchUp 79 = .ok (.aload_n 0, 1) := by decide +kernel
theorem dX0_catchUp_80 : decode cX0_catchUp 80 = .ok (.getfield 46, 3) := by decide +kernel
theorem dX0_catchUp_83 : decode cX0_catchUp 83 = .ok (.iload_n 1, 1) := by decide +kernel
theorem dX0_catchUp_84 : decode cX0_catchUp 84 = .ok (.bipush 32, 2) := by decide +kernel
theorem dX0_catchUp_86 : decode cX0_catchUp 86 = .ok (.imul, 1) := by decide +kernel
theorem dX0_catchUp_87 : decode cX0_catchUp 87 = .ok (.aload_n 0, 1) := by decide +kernel
theorem dX0_catchUp_88 : decode cX0_catchUp 88 = .ok (.getfield 37, 3) := by decide +kernel
theorem dX0_catchUp_91 : decode cX0_catchUp 91 = .ok (.iload_n 1, 1) := by decide +kernel
theorem dX0_catchUp_92 : decode cX0_catchUp 92 = .ok (.iaload, 1) := by decide +kernel
theorem dX0_catchUp_93 : decode cX0_catchUp 93 = .ok (.iadd, 1) := by decide +kernel
theorem dX0_catchUp_94 : decode cX0_catchUp 94 = .ok (.iaload, 1) := by decide +kernel
theorem dX0_catchUp_95 : decode cX0_catchUp 95 = .ok (.aload_n 0, 1) := by decide +kernel
theorem dX0_catchUp_96 : decode cX0_catchUp 96 = .ok (.getfield 56, 3) := by decide +kernel
theorem dX0_catchUp_99 : decode cX0_catchUp 99 = .ok (.aload_n 0, 1) := by decide +kernel
theorem dX0_catchUp_100 : decode cX0_catchUp 100 = .ok (.getfield 19, 3) := by decide +kernel
theorem dX0_catchUp_103 : decode cX0_catchUp 103 = .ok (.iload_n 1, 1) := by decide +kernel
theorem dX0_catchUp_104 : decode cX0_catchUp 104 = .ok (.iaload, 1) := by decide +kernel
theorem dX0_catchUp_105 : decode cX0_catchUp 105 = .ok (.isub, 1) := by decide +kernel
theorem dX0_catchUp_106 : decode cX0_catchUp 106 = .ok (.if_icmp .gt 61, 3) := by decide +kernel
theorem dX0_catchUp_109 : decode cX0_catchUp 109 = .ok (.aload_n 0, 1) := by decide +kernel
theorem dX0_catchUp_110 : decode cX0_catchUp 110 = .ok (.getfield 43, 3) := by decide +kernel
theorem dX0_catchUp_113 : decode cX0_catchUp 113 = .ok (.iload_n 1, 1) := by decide +kernel
theorem dX0_catchUp_114 : decode cX0_catchUp 114 = .ok (.dup2, 1) := by decide +kernel
theorem dX0_catchUp_115 : decode cX0_catchUp 115 = .ok (.iaload, 1) := by decide +kernel
theorem dX0_catchUp_116 : decode cX0_catchUp 116 = .ok (.aload_n 0, 1) := by decide +kernel
theorem dX0_catchUp_117 : decode cX0_catchUp 117 = .ok (.getfield 49, 3) := by decide +kernel
theorem dX0_catchUp_120 : decode cX0_catchUp 120 = .ok (.iload_n 1, 1) := by decide +kernel
theorem dX0_catchUp_121 : decode cX0_catchUp 121 = .ok (.bipush 32, 2) := by decide +kernel
theorem dX0_catchUp_123 : decode cX0_catchUp 123 = .ok (.imul, 1) := by decide +kernel
theorem dX0_catchUp_124 : decode cX0_catchUp 124 = .ok (.aload_n 0, 1) := by decide +kernel
theorem dX0_catchUp_125 : decode cX0_catchUp 125 = .ok (.getfield 37, 3) := by decide +kernel
theorem dX0_catchUp_128 : decode cX0_catchUp 128 = .ok (.iload_n 1, 1) := by decide +kernel
theorem dX0_catchUp_129 : decode cX0_catchUp 129 = .ok (.iaload, 1) := by decide +kernel
theorem dX0_catchUp_130 : decode cX0_catchUp 130 = .ok (.iadd, 1) := by decide +kernel
theorem dX0_catchUp_131 : decode cX0_catchUp 131 = .ok (.iaload, 1) := by decide +kernel
theorem dX0_catchUp_132 : decode cX0_catchUp 132 = .ok (.isub, 1) := by decide +kernel
theorem dX0_catchUp_133 : decode cX0_catchUp 133 = .ok (.iastore, 1) := by decide +kernel
theorem dX0_catchUp_134 : decode cX0_catchUp 134 = .ok (.aload_n 0, 1) := by decide +kernel
theorem dX0_catchUp_135 : decode cX0_catchUp 135 = .ok (.getfield 37, 3) := by decide +kernel
theorem dX0_catchUp_138 : decode cX0_catchUp 138 = .ok (.iload_n 1, 1) := by decide +kernel
theorem dX0_catchUp_139 : decode cX0_catchUp 139 = .ok (.aload_n 0, 1) := by decide +kernel
theorem dX0_catchUp_140 : decode cX0_catchUp 140 = .ok (.getfield 37, 3) := by decide +kernel
theorem dX0_catchUp_143 : decode cX0_catchUp 143 = .ok (.iload_n 1, 1) := by decide +kernel
theorem dX0_catchUp_144 : decode cX0_catchUp 144 = .ok (.iaload, 1) := by decide +kernel
theorem dX0_catchUp_145 : decode cX0_catchUp 145 = .ok (.iconst 1, 1) := by decide +kernel
theorem dX0_catchUp_146 : decode cX0_catchUp 146 = .ok (.iadd, 1) := by decide +kernel
theorem dX0_catchUp_147 : decode cX0_catchUp 147 = .ok (.bipush 31, 2) := by decide +kernel
theorem dX0_catchUp_149 : decode cX0_catchUp 149 = .ok (.iand, 1) := by decide +kernel
theorem dX0_catchUp_150 : decode cX0_catchUp 150 = .ok (.iastore, 1) := by decide +kernel
theorem dX0_catchUp_151 : decode cX0_catchUp 151 = .ok (.aload_n 0, 1) := by decide +kernel
theorem dX0_catchUp_152 : decode cX0_catchUp 152 = .ok (.getfield 40, 3) := by decide +kernel
theorem dX0_catchUp_155 : decode cX0_catchUp 155 = .ok (.iload_n 1, 1) := by decide +kernel
theorem dX0_catchUp_156 : decode cX0_catchUp 156 = .ok (.dup2, 1) := by decide +kernel
theorem dX0_catchUp_157 : decode cX0_catchUp 157 = .ok (.iaload, 1) := by decide +kernel
theorem dX0_catchUp_158 : decode cX0_catchUp 158 = .ok (.iconst 1, 1) := by decide +kernel
theorem dX0_catchUp_159 : decode cX0_catchUp 159 = .ok (.isub, 1) := by decide +kernel
theorem dX0_catchUp_160 : decode cX0_catchUp 160 = .ok (.iastore, 1) := by decide +kernel
theorem dX0_catchUp_161 : decode cX0_catchUp 161 = .ok (.iinc 3 1, 3) := by decide +kernel
theorem dX0_catchUp_164 : decode cX0_catchUp 164 = .ok (.goto (-100), 3) := by decide +kernel
theorem dX0_catchUp_167 : decode cX0_catchUp 167 = .ok (.return_, 1) := by decide +kernel
theorem dX0_base_0 : decode cX0_base 0 = .ok (.aload_n 0, 1) := by decide +kernel
theorem dX0_base_1 : decode cX0_base 1 = .ok (.getfield 34, 3) := by decide +kernel
theorem dX0_base_4 : decode cX0_base 4 = .ok (.iload_n 1, 1) := by decide +kernel
theorem dX0_base_5 : decode cX0_base 5 = .ok (.iaload, 1) := by decide +kernel
theorem dX0_base_6 : decode cX0_base 6 = .ok (.aload_n 0, 1) := by decide +kernel
theorem dX0_base_7 : decode cX0_base 7 = .ok (.getfield 56, 3) := by decide +kernel
theorem dX0_base_10 : decode cX0_base 10 = .ok (.if_icmp .le 12, 3) := by decide +kernel
theorem dX0_base_13 : decode cX0_base 13 = .ok (.aload_n 0, 1) := by decide +kernel
theorem dX0_base_14 : decode cX0_base 14 = .ok (.getfield 34, 3) := by decide +kernel
theorem dX0_base_17 : decode cX0_base 17 = .ok (.iload_n 1, 1) := by decide +kernel
theorem dX0_base_18 : decode cX0_base 18 = .ok (.iaload, 1) := by decide +kernel
theorem dX0_base_19 : decode cX0_base 19 = .ok (.goto 7, 3) := by decide +kernel
theorem dX0_base_22 : decode cX0_base 22 = .ok (.aload_n 0, 1) := by decide +kernel
theorem dX0_base_23 : decode cX0_base 23 = .ok (.getfield 56, 3) := by decide +kernel
theorem dX0_base_26 : decode cX0_base 26 = .ok (.ireturn, 1) := by decide +kernel
theorem dX0_grant_0 : decode cX0_grant 0 = .ok (.aload_n 0, 1) := by decide +kernel
theorem dX0_grant_1 : decode cX0_grant 1 = .ok (.getfield 22, 3) := by decide +kernel
theorem dX0_grant_4 : decode cX0_grant 4 = .ok (.iload_n 1, 1) := by decide +kernel
theorem dX0_grant_5 : decode cX0_grant 5 = .ok (.dup2, 1) := by decide +kernel
theorem dX0_grant_6 : decode cX0_grant 6 = .ok (.iaload, 1) := by decide +kernel
theorem dX0_grant_7 : decode cX0_grant 7 = .ok (.iload_n 2, 1) := by decide +kernel
theorem dX0_grant_8 : decode cX0_grant 8 = .ok (.iadd, 1) := by decide +kernel
theorem dX0_grant_9 : decode cX0_grant 9 = .ok (.iastore, 1) := by decide +kernel
theorem dX0_grant_10 : decode cX0_grant 10 = .ok (.aload_n 0, 1) := by decide +kernel
theorem dX0_grant_11 : decode cX0_grant 11 = .ok (.getfield 7, 3) := by decide +kernel
theorem dX0_grant_14 : decode cX0_grant 14 = .ok (.iload_n 1, 1) := by decide +kernel
theorem dX0_grant_15 : decode cX0_grant 15 = .ok (.iaload, 1) := by decide +kernel
theorem dX0_grant_16 : decode cX0_grant 16 = .ok (.ifCond .ne 16, 3) := by decide +kernel
theorem dX0_grant_19 : decode cX0_grant 19 = .ok (.aload_n 0, 1) := by decide +kernel
theorem dX0_grant_20 : decode cX0_grant 20 = .ok (.getfield 28, 3) := by decide +kernel
theorem dX0_grant_23 : decode cX0_grant 23 = .ok (.iload_n 1, 1) := by decide +kernel
theorem dX0_grant_24 : decode cX0_grant 24 = .ok (.dup2, 1) := by decide +kernel
theorem dX0_grant_25 : decode cX0_grant 25 = .ok (.iaload, 1) := by decide +kernel
theorem dX0_grant_26 : decode cX0_grant 26 = .ok (.iload_n 2, 1) := by decide +kernel
theorem dX0_grant_27 : decode cX0_grant 27 = .ok (.isub, 1) := by decide +kernel
theorem dX0_grant_28 : decode cX0_grant 28 = .ok (.iastore, 1) := by decide +kernel
theorem dX0_grant_29 : decode cX0_grant 29 = .ok (.goto 95, 3) := by decide +kernel
theorem dX0_grant_32 : decode cX0_grant 32 = .ok (.aload_n 0, 1) := by decide +kernel
theorem dX0_grant_33 : decode cX0_grant 33 = .ok (.getfield 7, 3) := by decide +kernel
theorem dX0_grant_36 : decode cX0_grant 36 = .ok (.iload_n 1, 1) := by decide +kernel
theorem dX0_grant_37 : decode cX0_grant 37 = .ok (.iaload, 1) := by decide +kernel
theorem dX0_grant_38 : decode cX0_grant 38 = .ok (.iconst 1, 1) := by decide +kernel
theorem dX0_grant_39 : decode cX0_grant 39 = .ok (.if_icmp .ne 65, 3) := by decide +kernel
theorem dX0_grant_42 : decode cX0_grant 42 = .ok (.iload_n 1, 1) := by decide +kernel
theorem dX0_grant_43 : decode cX0_grant 43 = .ok (.bipush 32, 2) := by decide +kernel
theorem dX0_grant_45 : decode cX0_grant 45 = .ok (.imul, 1) := by decide +kernel
theorem dX0_grant_46 : decode cX0_grant 46 = .ok (.aload_n 0, 1) := by decide +kernel
theorem dX0_grant_47 : decode cX0_grant 47 = .ok (.getfield 37, 3) := by decide +kernel
theorem dX0_grant_50 : decode cX0_grant 50 = .ok (.iload_n 1, 1) := by decide +kernel
theorem dX0_grant_51 : decode cX0_grant 51 = .ok (.iaload, 1) := by decide +kernel
theorem dX0_grant_52 : decode cX0_grant 52 = .ok (.aload_n 0, 1) := by decide +kernel
theorem dX0_grant_53 : decode cX0_grant 53 = .ok (.getfield 40, 3) := by decide +kernel
theorem dX0_grant_56 : decode cX0_grant 56 = .ok (.iload_n 1, 1) := by decide +kernel
theorem dX0_grant_57 : decode cX0_grant 57 = .ok (.iaload, 1) := by decide +kernel
theorem dX0_grant_58 : decode cX0_grant 58 = .ok (.iadd, 1) := by decide +kernel
theorem dX0_grant_59 : decode cX0_grant 59 = .ok (.bipush 31, 2) := by decide +kernel
theorem dX0_grant_61 : decode cX0_grant 61 = .ok (.iand, 1) := by decide +kernel
theorem dX0_grant_62 : decode cX0_grant 62 = .ok (.iadd, 1) := by decide +kernel
theorem dX0_grant_63 : decode cX0_grant 63 = .ok (.istore_n 3, 1) := by decide +kernel
theorem dX0_grant_64 : decode cX0_grant 64 = .ok (.aload_n 0, 1) := by decide +kernel
theorem dX0_grant_65 : decode cX0_grant 65 = .ok (.getfield 46, 3) := by decide +kernel
theorem dX0_grant_68 : decode cX0_grant 68 = .ok (.iload_n 3, 1) := by decide +kernel
theorem dX0_grant_69 : decode cX0_grant 69 = .ok (.aload_n 0, 1) := by decide +kernel
theorem dX0_grant_70 : decode cX0_grant 70 = .ok (.getfield 56, 3) := by decide +kernel
theorem dX0_grant_73 : decode cX0_grant 73 = .ok (.iastore, 1) := by decide +kernel
theorem dX0_grant_74 : decode cX0_grant 74 = .ok (.aload_n 0, 1) := by decide +kernel
theorem dX0_grant_75 : decode cX0_grant 75 = .ok (.getfield 49, 3) := by decide +kernel
theorem dX0_grant_78 : decode cX0_grant 78 = .ok (.iload_n 3, 1) := by decide +kernel
theorem dX0_grant_79 : decode cX0_grant 79 = .ok (.iload_n 2, 1) := by decide +kernel
theorem dX0_grant_80 : decode cX0_grant 80 = .ok (.iastore, 1) := by decide +kernel
theorem dX0_grant_81 : decode cX0_grant 81 = .ok (.aload_n 0, 1) := by decide +kernel
theorem dX0_grant_82 : decode cX0_grant 82 = .ok (.getfield 40, 3) := by decide +kernel
theorem dX0_grant_85 : decode cX0_grant 85 = .ok (.iload_n 1, 1) := by decide +kernel
theorem dX0_grant_86 : decode cX0_grant 86 = .ok (.dup2, 1) := by decide +kernel
theorem dX0_grant_87 : decode cX0_grant 87 = .ok (.iaload, 1) := by decide +kernel
theorem dX0_grant_88 : decode cX0_grant 88 = .ok (.iconst 1, 1) := by decide +kernel
theorem dX0_grant_89 : decode cX0_grant 89 = .ok (.iadd, 1) := by decide +kernel
theorem dX0_grant_90 : decode cX0_grant 90 = .ok (.iastore, 1) := by decide +kernel
theorem dX0_grant_91 : decode cX0_grant 91 = .ok (.aload_n 0, 1) := by decide +kernel
theorem dX0_grant_92 : decode cX0_grant 92 = .ok (.getfield 43, 3) := by decide +kernel
theorem dX0_grant_95 : decode cX0_grant 95 = .ok (.iload_n 1, 1) := by decide +kernel
theorem dX0_grant_96 : decode cX0_grant 96 = .ok (.dup2, 1) := by decide +kernel
theorem dX0_grant_97 : decode cX0_grant 97 = .ok (.iaload, 1) := by decide +kernel
theorem dX0_grant_98 : decode cX0_grant 98 = .ok (.iload_n 2, 1) := by decide +kernel
theorem dX0_grant_99 : decode cX0_grant 99 = .ok (.iadd, 1) := by decide +kernel
theorem dX0_grant_100 : decode cX0_grant 100 = .ok (.iastore, 1) := by decide +kernel
theorem dX0_grant_101 : decode cX0_grant 101 = .ok (.goto 23, 3) := by decide +kernel
theorem dX0_grant_104 : decode cX0_grant 104 = .ok (.aload_n 0, 1) := by decide +kernel
theorem dX0_grant_105 : decode cX0_grant 105 = .ok (.getfield 34, 3) := by decide +kernel
theorem dX0_grant_108 : decode cX0_grant 108 = .ok (.iload_n 1, 1) := by decide +kernel
theorem dX0_grant_109 : decode cX0_grant 109 = .ok (.aload_n 0, 1) := by decide +kernel
theorem dX0_grant_110 : decode cX0_grant 110 = .ok (.iload_n 1, 1) := by decide +kernel
theorem dX0_grant_111 : decode cX0_grant 111 = .ok (.invokevirtual 69, 3) := by decide +kernel
theorem dX0_grant_114 : decode cX0_grant 114 = .ok (.iload_n 2, 1) := by decide +kernel
theorem dX0_grant_115 : decode cX0_grant 115 = .ok (.aload_n 0, 1) := by decide +kernel
theorem dX0_grant_116 : decode cX0_grant 116 = .ok (.getfield 19, 3) := by decide +kernel
theorem dX0_grant_119 : decode cX0_grant 119 = .ok (.iload_n 1, 1) := by decide +kernel
theorem dX0_grant_120 : decode cX0_grant 120 = .ok (.iaload, 1) := by decide +kernel
theorem dX0_grant_121 : decode cX0_grant 121 = .ok (.imul, 1) := by decide +kernel
theorem dX0_grant_122 : decode cX0_grant 122 = .ok (.iadd, 1) := by decide +kernel
theorem dX0_grant_123 : decode cX0_grant 123 = .ok (.iastore, 1) := by decide +kernel
theorem dX0_grant_124 : decode cX0_grant 124 = .ok (.return_, 1) := by decide +kernel
theorem dX0_askAll_0 : decode cX0_askAll 0 = .ok (.iload_n 2, 1) := by decide +kernel
theorem dX0_askAll_1 : decode cX0_askAll 1 = .ok (.invokestatic 73, 3) := by decide +kernel
theorem dX0_askAll_4 : decode cX0_askAll 4 = .ok (.ifCond .eq 6, 3) := by decide +kernel
theorem dX0_askAll_7 : decode cX0_askAll 7 = .ok (.bipush (-3), 2) := by decide +kernel
theorem dX0_askAll_9 : decode cX0_askAll 9 = .ok (.ireturn, 1) := by decide +kernel
theorem dX0_askAll_10 : decode cX0_askAll 10 = .ok (.iconst 1, 1) := by decide +kernel
theorem dX0_askAll_11 : decode cX0_askAll 11 = .ok (.istore_n 3, 1) := by decide +kernel
theorem dX0_askAll_12 : decode cX0_askAll 12 = .ok (.iconst 0, 1) := by decide +kernel
theorem dX0_askAll_13 : decode cX0_askAll 13 = .ok (.istore 4, 2) := by decide +kernel
theorem dX0_askAll_15 : decode cX0_askAll 15 = .ok (.iload 4, 2) := by decide +kernel
theorem dX0_askAll_17 : decode cX0_askAll 17 = .ok (.iconst 4, 1) := by decide +kernel
theorem dX0_askAll_18 : decode cX0_askAll 18 = .ok (.if_icmp .ge 46, 3) := by decide +kernel
theorem dX0_askAll_21 : decode cX0_askAll 21 = .ok (.iload_n 1, 1) := by decide +kernel
theorem dX0_askAll_22 : decode cX0_askAll 22 = .ok (.iload 4, 2) := by decide +kernel
theorem dX0_askAll_24 : decode cX0_askAll 24 = .ok (.ishr, 1) := by decide +kernel
theorem dX0_askAll_25 : decode cX0_askAll 25 = .ok (.iconst 1, 1) := by decide +kernel
theorem dX0_askAll_26 : decode cX0_askAll 26 = .ok (.iand, 1) := by decide +kernel
theorem dX0_askAll_27 : decode cX0_askAll 27 = .ok (.iconst 1, 1) := by decide +kernel
theorem dX0_askAll_28 : decode cX0_askAll 28 = .ok (.if_icmp .ne 30, 3) := by decide +kernel
theorem dX0_askAll_31 : decode cX0_askAll 31 = .ok (.aload_n 0, 1) := by decide +kernel
theorem dX0_askAll_32 : decode cX0_askAll 32 = .ok (.iload 4, 2) := by decide +kernel
theorem dX0_askAll_34 : decode cX0_askAll 34 = .ok (.invokevirtual 76, 3) := by decide +kernel
theorem dX0_askAll_37 : decode cX0_askAll 37 = .ok (.istore 5, 2) := by decide +kernel
theorem dX0_askAll_39 : decode cX0_askAll 39 = .ok (.iload_n 2, 1) := by decide +kernel
theorem dX0_askAll_40 : decode cX0_askAll 40 = .ok (.iload 5, 2) := by decide +kernel
theorem dX0_askAll_42 : decode cX0_askAll 42 = .ok (.if_icmp .le 16, 3) := by decide +kernel
theorem dX0_askAll_45 : decode cX0_askAll 45 = .ok (.aload_n 0, 1) := by decide +kernel
theorem dX0_askAll_46 : decode cX0_askAll 46 = .ok (.getfield 25, 3) := by decide +kernel
theorem dX0_askAll_49 : decode cX0_askAll 49 = .ok (.iload 4, 2) := by decide +kernel
theorem dX0_askAll_51 : decode cX0_askAll 51 = .ok (.dup2, 1) := by decide +kernel
theorem dX0_askAll_52 : decode cX0_askAll 52 = .ok (.iaload, 1) := by decide +kernel
theorem dX0_askAll_53 : decode cX0_askAll 53 = .ok (.iconst 1, 1) := by decide +kernel
theorem dX0_askAll_54 : decode cX0_askAll 54 = .ok (.iadd, 1) := by decide +kernel
theorem dX0_askAll_55 : decode cX0_askAll 55 = .ok (.iastore, 1) := by decide +kernel
theorem dX0_askAll_56 : decode cX0_askAll 56 = .ok (.iconst 0, 1) := by decide +kernel
theorem dX0_askAll_57 : decode cX0_askAll 57 = .ok (.istore_n 3, 1) := by decide +kernel
theorem dX0_askAll_58 : decode cX0_askAll 58 = .ok (.iinc 4 1, 3) := by decide +kernel
theorem dX0_askAll_61 : decode cX0_askAll 61 = .ok (.goto (-46), 3) := by decide +kernel
theorem dX0_askAll_64 : decode cX0_askAll 64 = .ok (.iconst 0, 1) := by decide +kernel
theorem dX0_askAll_65 : decode cX0_askAll 65 = .ok (.istore 4, 2) := by decide +kernel
theorem dX0_askAll_67 : decode cX0_askAll 67 = .ok (.iload 4, 2) := by decide +kernel
theorem dX0_askAll_69 : decode cX0_askAll 69 = .ok (.iconst 4, 1) := by decide +kernel
theorem dX0_askAll_70 : decode cX0_askAll 70 = .ok (.if_icmp .ge 30, 3) := by decide +kernel
theorem dX0_askAll_73 : decode cX0_askAll 73 = .ok (.iload_n 3, 1) := by decide +kernel
theorem dX0_askAll_74 : decode cX0_askAll 74 = .ok (.ifCond .eq 26, 3) := by decide +kernel
theorem dX0_askAll_77 : decode cX0_askAll 77 = .ok (.iload_n 1, 1) := by decide +kernel
theorem dX0_askAll_78 : decode cX0_askAll 78 = .ok (.iload 4, 2) := by decide +kernel
theorem dX0_askAll_80 : decode cX0_askAll 80 = .ok (.ishr, 1) := by decide +kernel
theorem dX0_askAll_81 : decode cX0_askAll 81 = .ok (.iconst 1, 1) := by decide +kernel
theorem dX0_askAll_82 : decode cX0_askAll 82 = .ok (.iand, 1) := by decide +kernel
theorem dX0_askAll_83 : decode cX0_askAll 83 = .ok (.iconst 1, 1) := by decide +kernel
theorem dX0_askAll_84 : decode cX0_askAll 84 = .ok (.if_icmp .ne 10, 3) := by decide +kernel
theorem dX0_askAll_87 : decode cX0_askAll 87 = .ok (.aload_n 0, 1) := by decide +kernel
theorem dX0_askAll_88 : decode cX0_askAll 88 = .ok (.iload 4, 2) := by decide +kernel
theorem dX0_askAll_90 : decode cX0_askAll 90 = .ok (.iload_n 2, 1) := by decide +kernel
theorem dX0_askAll_91 : decode cX0_askAll 91 = .ok (.invokevirtual 79, 3) := by decide +kernel
theorem dX0_askAll_94 : decode cX0_askAll 94 = .ok (.iinc 4 1, 3) := by decide +kernel
theorem dX0_askAll_97 : decode cX0_askAll 97 = .ok (.goto (-30), 3) := by decide +kernel
theorem dX0_askAll_100 : decode cX0_askAll 100 = .ok (.iload_n 3, 1) := by decide +kernel
theorem dX0_askAll_101 : decode cX0_askAll 101 = .ok (.ifCond .eq 7, 3) := by decide +kernel
theorem dX0_askAll_104 : decode cX0_askAll 104 = .ok (.iconst 1, 1) := by decide +kernel
theorem dX0_askAll_105 : decode cX0_askAll 105 = .ok (.goto 4, 3) := by decide +kernel
theorem dX0_askAll_108 : decode cX0_askAll 108 = .ok (.iconst 0, 1) := by decide +kernel
theorem dX0_askAll_109 : decode cX0_askAll 109 = .ok (.ireturn, 1) := by decide +kernel
theorem dX0_pass_0 : decode cX0_pass 0 = .ok (.iload_n 1, 1) := by decide +kernel
theorem dX0_pass_1 : decode cX0_pass 1 = .ok (.ifCond .lt 10, 3) := by decide +kernel
theorem dX0_pass_4 : decode cX0_pass 4 = .ok (.iload_n 1, 1) := by decide +kernel
theorem dX0_pass_5 : decode cX0_pass 5 = .ok (.sipush 1000, 3) := by decide +kernel
theorem dX0_pass_8 : decode cX0_pass 8 = .ok (.if_icmp .le 6, 3) := by decide +kernel
theorem dX0_pass_11 : decode cX0_pass 11 = .ok (.bipush (-3), 2) := by decide +kernel
theorem dX0_pass_13 : decode cX0_pass 13 = .ok (.ireturn, 1) := by decide +kernel
theorem dX0_pass_14 : decode cX0_pass 14 = .ok (.aload_n 0, 1) := by decide +kernel
theorem dX0_pass_15 : decode cX0_pass 15 = .ok (.getfield 56, 3) := by decide +kernel
theorem dX0_pass_18 : decode cX0_pass 18 = .ok (.iload_n 1, 1) := by decide +kernel
theorem dX0_pass_19 : decode cX0_pass 19 = .ok (.iadd, 1) := by decide +kernel
theorem dX0_pass_20 : decode cX0_pass 20 = .ok (.ldc 83, 2) := by decide +kernel
theorem dX0_pass_22 : decode cX0_pass 22 = .ok (.if_icmp .le 6, 3) := by decide +kernel
theorem dX0_pass_25 : decode cX0_pass 25 = .ok (.bipush (-4), 2) := by decide +kernel
theorem dX0_pass_27 : decode cX0_pass 27 = .ok (.ireturn, 1) := by decide +kernel
theorem dX0_pass_28 : decode cX0_pass 28 = .ok (.aload_n 0, 1) := by decide +kernel
theorem dX0_pass_29 : decode cX0_pass 29 = .ok (.dup, 1) := by decide +kernel
theorem dX0_pass_30 : decode cX0_pass 30 = .ok (.getfield 56, 3) := by decide +kernel
theorem dX0_pass_33 : decode cX0_pass 33 = .ok (.iload_n 1, 1) := by decide +kernel
theorem dX0_pass_34 : decode cX0_pass 34 = .ok (.iadd, 1) := by decide +kernel
theorem dX0_pass_35 : decode cX0_pass 35 = .ok (.putfield 56, 3) := by decide +kernel
theorem dX0_pass_38 : decode cX0_pass 38 = .ok (.aload_n 0, 1) := by decide +kernel
theorem dX0_pass_39 : decode cX0_pass 39 = .ok (.getfield 56, 3) := by decide +kernel
theorem dX0_pass_42 : decode cX0_pass 42 = .ok (.ireturn, 1) := by decide +kernel
theorem dX0_waitFor_0 : decode cX0_waitFor 0 = .ok (.iload_n 1, 1) := by decide +kernel
theorem dX0_waitFor_1 : decode cX0_waitFor 1 = .ok (.invokestatic 61, 3) := by decide +kernel
theorem dX0_waitFor_4 : decode cX0_waitFor 4 = .ok (.ifCond .eq 5, 3) := by decide +kernel
theorem dX0_waitFor_7 : decode cX0_waitFor 7 = .ok (.iconst (-1), 1) := by decide +kernel
theorem dX0_waitFor_8 : decode cX0_waitFor 8 = .ok (.ireturn, 1) := by decide +kernel
theorem dX0_waitFor_9 : decode cX0_waitFor 9 = .ok (.iload_n 2, 1) := by decide +kernel
theorem dX0_waitFor_10 : decode cX0_waitFor 10 = .ok (.invokestatic 73, 3) := by decide +kernel
theorem dX0_waitFor_13 : decode cX0_waitFor 13 = .ok (.ifCond .eq 6, 3) := by decide +kernel
theorem dX0_waitFor_16 : decode cX0_waitFor 16 = .ok (.bipush (-3), 2) := by decide +kernel
theorem dX0_waitFor_18 : decode cX0_waitFor 18 = .ok (.ireturn, 1) := by decide +kernel
theorem dX0_waitFor_19 : decode cX0_waitFor 19 = .ok (.iload_n 2, 1) := by decide +kernel
theorem dX0_waitFor_20 : decode cX0_waitFor 20 = .ok (.aload_n 0, 1) := by decide +kernel
theorem dX0_waitFor_21 : decode cX0_waitFor 21 = .ok (.getfield 16, 3) := by decide +kernel
theorem dX0_waitFor_24 : decode cX0_waitFor 24 = .ok (.iload_n 1, 1) := by decide +kernel
theorem dX0_waitFor_25 : decode cX0_waitFor 25 = .ok (.iaload, 1) := by decide +kernel
theorem dX0_waitFor_26 : decode cX0_waitFor 26 = .ok (.if_icmp .le 6, 3) := by decide +kernel
theorem dX0_waitFor_29 : decode cX0_waitFor 29 = .ok (.bipush (-4), 2) := by decide +kernel
theorem dX0_waitFor_31 : decode cX0_waitFor 31 = .ok (.ireturn, 1) := by decide +kernel
theorem dX0_waitFor_32 : decode cX0_waitFor 32 = .ok (.aload_n 0, 1) := by decide +kernel
theorem dX0_waitFor_33 : decode cX0_waitFor 33 = .ok (.iload_n 1, 1) := by decide +kernel
theorem dX0_waitFor_34 : decode cX0_waitFor 34 = .ok (.invokevirtual 76, 3) := by decide +kernel
theorem dX0_waitFor_37 : decode cX0_waitFor 37 = .ok (.istore_n 3, 1) := by decide +kernel
theorem dX0_waitFor_38 : decode cX0_waitFor 38 = .ok (.iload_n 2, 1) := by decide +kernel
theorem dX0_waitFor_39 : decode cX0_waitFor 39 = .ok (.iload_n 3, 1) := by decide +kernel
theorem dX0_waitFor_40 : decode cX0_waitFor 40 = .ok (.if_icmp .gt 5, 3) := by decide +kernel
theorem dX0_waitFor_43 : decode cX0_waitFor 43 = .ok (.iconst 0, 1) := by decide +kernel
theorem dX0_waitFor_44 : decode cX0_waitFor 44 = .ok (.ireturn, 1) := by decide +kernel
theorem dX0_waitFor_45 : decode cX0_waitFor 45 = .ok (.aload_n 0, 1) := by decide +kernel
theorem dX0_waitFor_46 : decode cX0_waitFor 46 = .ok (.getfield 7, 3) := by decide +kernel
theorem dX0_waitFor_49 : decode cX0_waitFor 49 = .ok (.iload_n 1, 1) := by decide +kernel
theorem dX0_waitFor_50 : decode cX0_waitFor 50 = .ok (.iaload, 1) := by decide +kernel
theorem dX0_waitFor_51 : decode cX0_waitFor 51 = .ok (.iconst 1, 1) := by decide +kernel
theorem dX0_waitFor_52 : decode cX0_waitFor 52 = .ok (.if_icmp .ne 10, 3) := by decide +kernel
theorem dX0_waitFor_55 : decode cX0_waitFor 55 = .ok (.aload_n 0, 1) := by decide +kernel
theorem dX0_waitFor_56 : decode cX0_waitFor 56 = .ok (.iload_n 1, 1) := by decide +kernel
theorem dX0_waitFor_57 : decode cX0_waitFor 57 = .ok (.iload_n 2, 1) := by decide +kernel
theorem dX0_waitFor_58 : decode cX0_waitFor 58 = .ok (.invokevirtual 84, 3) := by decide +kernel
theorem dX0_waitFor_61 : decode cX0_waitFor 61 = .ok (.ireturn, 1) := by decide +kernel
theorem dX0_waitFor_62 : decode cX0_waitFor 62 = .ok (.aload_n 0, 1) := by decide +kernel
theorem dX0_waitFor_63 : decode cX0_waitFor 63 = .ok (.getfield 7, 3) := by decide +kernel
theorem dX0_waitFor_66 : decode cX0_waitFor 66 = .ok (.iload_n 1, 1) := by decide +kernel
theorem dX0_waitFor_67 : decode cX0_waitFor 67 = .ok (.iaload, 1) := by decide +kernel
theorem dX0_waitFor_68 : decode cX0_waitFor 68 = .ok (.ifCond .ne 41, 3) := by decide +kernel
theorem dX0_waitFor_71 : decode cX0_waitFor 71 = .ok (.aload_n 0, 1) := by decide +kernel
theorem dX0_waitFor_72 : decode cX0_waitFor 72 = .ok (.getfield 13, 3) := by decide +kernel
theorem dX0_waitFor_75 : decode cX0_waitFor 75 = .ok (.iload_n 1, 1) := by decide +kernel
theorem dX0_waitFor_76 : decode cX0_waitFor 76 = .ok (.iaload, 1) := by decide +kernel
theorem dX0_waitFor_77 : decode cX0_waitFor 77 = .ok (.ifCond .le 12, 3) := by decide +kernel
theorem dX0_waitFor_80 : decode cX0_waitFor 80 = .ok (.aload_n 0, 1) := by decide +kernel
theorem dX0_waitFor_81 : decode cX0_waitFor 81 = .ok (.getfield 13, 3) := by decide +kernel
theorem dX0_waitFor_84 : decode cX0_waitFor 84 = .ok (.iload_n 1, 1) := by decide +kernel
theorem dX0_waitFor_85 : decode cX0_waitFor 85 = .ok (.iaload, 1) := by decide +kernel
theorem dX0_waitFor_86 : decode cX0_waitFor 86 = .ok (.goto 4, 3) := by decide +kernel
theorem dX0_waitFor_89 : decode cX0_waitFor 89 = .ok (.iconst 1, 1) := by decide +kernel
theorem dX0_waitFor_90 : decode cX0_waitFor 90 = .ok (.istore 4, 2) := by decide +kernel
theorem dX0_waitFor_92 : decode cX0_waitFor 92 = .ok (.iload_n 2, 1) := by decide +kernel
theorem dX0_waitFor_93 : decode cX0_waitFor 93 = .ok (.aload_n 0, 1) := by decide +kernel
theorem dX0_waitFor_94 : decode cX0_waitFor 94 = .ok (.getfield 28, 3) := by decide +kernel
theorem dX0_waitFor_97 : decode cX0_waitFor 97 = .ok (.iload_n 1, 1) := by decide +kernel
theorem dX0_waitFor_98 : decode cX0_waitFor 98 = .ok (.iaload, 1) := by decide +kernel
theorem dX0_waitFor_99 : decode cX0_waitFor 99 = .ok (.isub, 1) := by decide +kernel
theorem dX0_waitFor_100 : decode cX0_waitFor 100 = .ok (.iload 4, 2) := by decide +kernel
theorem dX0_waitFor_102 : decode cX0_waitFor 102 = .ok (.iadd, 1) := by decide +kernel
theorem dX0_waitFor_103 : decode cX0_waitFor 103 = .ok (.iconst 1, 1) := by decide +kernel
theorem dX0_waitFor_104 : decode cX0_waitFor 104 = .ok (.isub, 1) := by decide +kernel
theorem dX0_waitFor_105 : decode cX0_waitFor 105 = .ok (.iload 4, 2) := by decide +kernel
theorem dX0_waitFor_107 : decode cX0_waitFor 107 = .ok (.idiv, 1) := by decide +kernel
theorem dX0_waitFor_108 : decode cX0_waitFor 108 = .ok (.ireturn, 1) := by decide +kernel
theorem dX0_waitFor_109 : decode cX0_waitFor 109 = .ok (.aload_n 0, 1) := by decide +kernel
theorem dX0_waitFor_110 : decode cX0_waitFor 110 = .ok (.getfield 34, 3) := by decide +kernel
theorem dX0_waitFor_113 : decode cX0_waitFor 113 = .ok (.iload_n 1, 1) := by decide +kernel
theorem dX0_waitFor_114 : decode cX0_waitFor 114 = .ok (.iaload, 1) := by decide +kernel
theorem dX0_waitFor_115 : decode cX0_waitFor 115 = .ok (.iload_n 2, 1) := by decide +kernel
theorem dX0_waitFor_116 : decode cX0_waitFor 116 = .ok (.aload_n 0, 1) := by decide +kernel
theorem dX0_waitFor_117 : decode cX0_waitFor 117 = .ok (.getfield 16, 3) := by decide +kernel
theorem dX0_waitFor_120 : decode cX0_waitFor 120 = .ok (.iload_n 1, 1) := by decide +kernel
theorem dX0_waitFor_121 : decode cX0_waitFor 121 = .ok (.iaload, 1) := by decide +kernel
theorem dX0_waitFor_122 : decode cX0_waitFor 122 = .ok (.isub, 1) := by decide +kernel
theorem dX0_waitFor_123 : decode cX0_waitFor 123 = .ok (.aload_n 0, 1) := by decide +kernel
theorem dX0_waitFor_124 : decode cX0_waitFor 124 = .ok (.getfield 19, 3) := by decide +kernel
theorem dX0_waitFor_127 : decode cX0_waitFor 127 = .ok (.iload_n 1, 1) := by decide +kernel
theorem dX0_waitFor_128 : decode cX0_waitFor 128 = .ok (.iaload, 1) := by decide +kernel
theorem dX0_waitFor_129 : decode cX0_waitFor 129 = .ok (.imul, 1) := by decide +kernel
theorem dX0_waitFor_130 : decode cX0_waitFor 130 = .ok (.iadd, 1) := by decide +kernel
theorem dX0_waitFor_131 : decode cX0_waitFor 131 = .ok (.aload_n 0, 1) := by decide +kernel
theorem dX0_waitFor_132 : decode cX0_waitFor 132 = .ok (.getfield 56, 3) := by decide +kernel
theorem dX0_waitFor_135 : decode cX0_waitFor 135 = .ok (.isub, 1) := by decide +kernel
theorem dX0_waitFor_136 : decode cX0_waitFor 136 = .ok (.ireturn, 1) := by decide +kernel
theorem dX0_logWait_0 : decode cX0_logWait 0 = .ok (.aload_n 0, 1) := by decide +kernel
theorem dX0_logWait_1 : decode cX0_logWait 1 = .ok (.getfield 43, 3) := by decide +kernel
theorem dX0_logWait_4 : decode cX0_logWait 4 = .ok (.iload_n 1, 1) := by decide +kernel
theorem dX0_logWait_5 : decode cX0_logWait 5 = .ok (.iaload, 1) := by decide +kernel
theorem dX0_logWait_6 : decode cX0_logWait 6 = .ok (.iload_n 2, 1) := by decide +kernel
theorem dX0_logWait_7 : decode cX0_logWait 7 = .ok (.iadd, 1) := by decide +kernel
theorem dX0_logWait_8 : decode cX0_logWait 8 = .ok (.aload_n 0, 1) := by decide +kernel
theorem dX0_logWait_9 : decode cX0_logWait 9 = .ok (.getfield 16, 3) := by decide +kernel
theorem dX0_logWait_12 : decode cX0_logWait 12 = .ok (.iload_n 1, 1) := by decide +kernel
theorem dX0_logWait_13 : decode cX0_logWait 13 = .ok (.iaload, 1) := by decide +kernel
theorem dX0_logWait_14 : decode cX0_logWait 14 = .ok (.isub, 1) := by decide +kernel
theorem dX0_logWait_15 : decode cX0_logWait 15 = .ok (.istore_n 3, 1) := by decide +kernel
theorem dX0_logWait_16 : decode cX0_logWait 16 = .ok (.iconst 0, 1) := by decide +kernel
theorem dX0_logWait_17 : decode cX0_logWait 17 = .ok (.istore 4, 2) := by decide +kernel
theorem dX0_logWait_19 : decode cX0_logWait 19 = .ok (.iconst 0, 1) := by decide +kernel
theorem dX0_logWait_20 : decode cX0_logWait 20 = .ok (.istore 5, 2) := by decide +kernel
theorem dX0_logWait_22 : decode cX0_logWait 22 = .ok (.iload 5, 2) := by decide +kernel
theorem dX0_logWait_24 : decode cX0_logWait 24 = .ok (.aload_n 0, 1) := by decide +kernel
theorem dX0_logWait_25 : decode cX0_logWait 25 = .ok (.getfield 40, 3) := by decide +kernel
theorem dX0_logWait_28 : decode cX0_logWait 28 = .ok (.iload_n 1, 1) := by decide +kernel
theorem dX0_logWait_29 : decode cX0_logWait 29 = .ok (.iaload, 1) := by decide +kernel
theorem dX0_logWait_30 : decode cX0_logWait 30 = .ok (.if_icmp .ge 63, 3) := by decide +kernel
theorem dX0_logWait_33 : decode cX0_logWait 33 = .ok (.iload_n 3, 1) := by decide +kernel
theorem dX0_logWait_34 : decode cX0_logWait 34 = .ok (.ifCond .le 59, 3) := by decide +kernel
theorem dX0_logWait_37 : decode cX0_logWait 37 = .ok (.iload_n 1, 1) := by decide +kernel
theorem dX0_logWait_38 : decode cX0_logWait 38 = .ok (.bipush 32, 2) := by decide +kernel
theorem dX0_logWait_40 : decode cX0_logWait 40 = .ok (.imul, 1) := by decide +kernel
theorem dX0_logWait_41 : decode cX0_logWait 41 = .ok (.aload_n 0, 1) := by decide +kernel
theorem dX0_logWait_42 : decode cX0_logWait 42 = .ok (.getfield 37, 3) := by decide +kernel
theorem dX0_logWait_45 : decode cX0_logWait 45 = .ok (.iload_n 1, 1) := by decide +kernel
theorem dX0_logWait_46 : decode cX0_logWait 46 = .ok (.iaload, 1) := by decide +kernel
theorem dX0_logWait_47 : decode cX0_logWait 47 = .ok (.iload 5, 2) := by decide +kernel
theorem dX0_logWait_49 : decode cX0_logWait 49 = .ok (.iadd, 1) := by decide +kernel
theorem dX0_logWait_50 : decode cX0_logWait 50 = .ok (.bipush 31, 2) := by decide +kernel
theorem dX0_logWait_52 : decode cX0_logWait 52 = .ok (.iand, 1) := by decide +kernel
theorem dX0_logWait_53 : decode cX0_logWait 53 = .ok (.iadd, 1) := by decide +kernel
theorem dX0_logWait_54 : decode cX0_logWait 54 = .ok (.istore 6, 2) := by decide +kernel
theorem dX0_logWait_56 : decode cX0_logWait 56 = .ok (.iload_n 3, 1) := by decide +kernel
theorem dX0_logWait_57 : decode cX0_logWait 57 = .ok (.aload_n 0, 1) := by decide +kernel
theorem dX0_logWait_58 : decode cX0_logWait 58 = .ok (.getfield 49, 3) := by decide +kernel
theorem dX0_logWait_61 : decode cX0_logWait 61 = .ok (.iload 6, 2) := by decide +kernel
theorem dX0_logWait_63 : decode cX0_logWait 63 = .ok (.iaload, 1) := by decide +kernel
theorem dX0_logWait_64 : decode cX0_logWait 64 = .ok (.isub, 1) := by decide +kernel
theorem dX0_logWait_65 : decode cX0_logWait 65 = .ok (.istore_n 3, 1) := by decide +kernel
theorem dX0_logWait_66 : decode cX0_logWait 66 = .ok (.aload_n 0, 1) := by decide +kernel
theorem dX0_logWait_67 : decode cX0_logWait 67 = .ok (.getfield 46, 3) := by decide +kernel
theorem dX0_logWait_70 : decode cX0_logWait 70 = .ok (.iload 6, 2) := by decide +kernel
theorem dX0_logWait_72 : decode cX0_logWait 72 = .ok (.iaload, 1) := by decide +kernel
theorem dX0_logWait_73 : decode cX0_logWait 73 = .ok (.aload_n 0, 1) := by decide +kernel
theorem dX0_logWait_74 : decode cX0_logWait 74 = .ok (.getfield 19, 3) := by decide +kernel
theorem dX0_logWait_77 : decode cX0_logWait 77 = .ok (.iload_n 1, 1) := by decide +kernel
theorem dX0_logWait_78 : decode cX0_logWait 78 = .ok (.iaload, 1) := by decide +kernel
theorem dX0_logWait_79 : decode cX0_logWait 79 = .ok (.iadd, 1) := by decide +kernel
theorem dX0_logWait_80 : decode cX0_logWait 80 = .ok (.aload_n 0, 1) := by decide +kernel
theorem dX0_logWait_81 : decode cX0_logWait 81 = .ok (.getfield 56, 3) := by decide +kernel
theorem dX0_logWait_84 : decode cX0_logWait 84 = .ok (.isub, 1) := by decide +kernel
theorem dX0_logWait_85 : decode cX0_logWait 85 = .ok (.istore 4, 2) := by decide +kernel
theorem dX0_logWait_87 : decode cX0_logWait 87 = .ok (.iinc 5 1, 3) := by decide +kernel
theorem dX0_logWait_90 : decode cX0_logWait 90 = .ok (.goto (-68), 3) := by decide +kernel
theorem dX0_logWait_93 : decode cX0_logWait 93 = .ok (.iload 4, 2) := by decide +kernel
theorem dX0_logWait_95 : decode cX0_logWait 95 = .ok (.ireturn, 1) := by decide +kernel
theorem dX0_room_0 : decode cX0_room 0 = .ok (.iload_n 1, 1) := by decide +kernel
theorem dX0_room_1 : decode cX0_room 1 = .ok (.invokestatic 61, 3) := by decide +kernel
theorem dX0_room_4 : decode cX0_room 4 = .ok (.ifCond .eq 5, 3) := by decide +kernel
theorem dX0_room_7 : decode cX0_room 7 = .ok (.iconst (-1), 1) := by decide +kernel
theorem dX0_room_8 : decode cX0_room 8 = .ok (.ireturn, 1) := by decide +kernel
theorem dX0_room_9 : decode cX0_room 9 = .ok (.aload_n 0, 1) := by decide +kernel
theorem dX0_room_10 : decode cX0_room 10 = .ok (.iload_n 1, 1) := by decide +kernel
theorem dX0_room_11 : decode cX0_room 11 = .ok (.invokevirtual 76, 3) := by decide +kernel
theorem dX0_room_14 : decode cX0_room 14 = .ok (.istore_n 2, 1) := by decide +kernel
theorem dX0_room_15 : decode cX0_room 15 = .ok (.iload_n 2, 1) := by decide +kernel
theorem dX0_room_16 : decode cX0_room 16 = .ok (.ifCond .ge 5, 3) := by decide +kernel
theorem dX0_room_19 : decode cX0_room 19 = .ok (.iconst 0, 1) := by decide +kernel
theorem dX0_room_20 : decode cX0_room 20 = .ok (.ireturn, 1) := by decide +kernel
theorem dX0_room_21 : decode cX0_room 21 = .ok (.iload_n 2, 1) := by decide +kernel
theorem dX0_room_22 : decode cX0_room 22 = .ok (.bipush 20, 2) := by decide +kernel
theorem dX0_room_24 : decode cX0_room 24 = .ok (.if_icmp .le 8, 3) := by decide +kernel
theorem dX0_room_27 : decode cX0_room 27 = .ok (.bipush 20, 2) := by decide +kernel
theorem dX0_room_29 : decode cX0_room 29 = .ok (.goto 4, 3) := by decide +kernel
theorem dX0_room_32 : decode cX0_room 32 = .ok (.iload_n 2, 1) := by decide +kernel
theorem dX0_room_33 : decode cX0_room 33 = .ok (.ireturn, 1) := by decide +kernel
theorem dX0_granted_0 : decode cX0_granted 0 = .ok (.iload_n 1, 1) := by decide +kernel
theorem dX0_granted_1 : decode cX0_granted 1 = .ok (.invokestatic 61, 3) := by decide +kernel
theorem dX0_granted_4 : decode cX0_granted 4 = .ok (.ifCond .eq 7, 3) := by decide +kernel
theorem dX0_granted_7 : decode cX0_granted 7 = .ok (.iconst (-1), 1) := by decide +kernel
theorem dX0_granted_8 : decode cX0_granted 8 = .ok (.goto 9, 3) := by decide +kernel
theorem dX0_granted_11 : decode cX0_granted 11 = .ok (.aload_n 0, 1) := by decide +kernel
theorem dX0_granted_12 : decode cX0_granted 12 = .ok (.getfield 22, 3) := by decide +kernel
theorem dX0_granted_15 : decode cX0_granted 15 = .ok (.iload_n 1, 1) := by decide +kernel
theorem dX0_granted_16 : decode cX0_granted 16 = .ok (.iaload, 1) := by decide +kernel
theorem dX0_granted_17 : decode cX0_granted 17 = .ok (.ireturn, 1) := by decide +kernel
theorem dX0_denied_0 : decode cX0_denied 0 = .ok (.iload_n 1, 1) := by decide +kernel
theorem dX0_denied_1 : decode cX0_denied 1 = .ok (.invokestatic 61, 3) := by decide +kernel
theorem dX0_denied_4 : decode cX0_denied 4 = .ok (.ifCond .eq 7, 3) := by decide +kernel
theorem dX0_denied_7 : decode cX0_denied 7 = .ok (.iconst (-1), 1) := by decide +kernel
theorem dX0_denied_8 : decode cX0_denied 8 = .ok (.goto 9, 3) := by decide +kernel
theorem dX0_denied_11 : decode cX0_denied 11 = .ok (.aload_n 0, 1) := by decide +kernel
theorem dX0_denied_12 : decode cX0_denied 12 = .ok (.getfield 25, 3) := by decide +kernel
theorem dX0_denied_15 : decode cX0_denied 15 = .ok (.iload_n 1, 1) := by decide +kernel
theorem dX0_denied_16 : decode cX0_denied 16 = .ok (.iaload, 1) := by decide +kernel
theorem dX0_denied_17 : decode cX0_denied 17 = .ok (.ireturn, 1) := by decide +kernel
theorem dX0_time_0 : decode cX0_time 0 = .ok (.aload_n 0, 1) := by decide +kernel
theorem dX0_time_1 : decode cX0_time 1 = .ok (.getfield 56, 3) := by decide +kernel
theorem dX0_time_4 : decode cX0_time 4 = .ok (.ireturn, 1) := by decide +kernel
end
section
set_option maxRecDepth 100000
theorem dX1_init_0 : decode cX1_init 0 = .ok (.aload_n 0, 1) := by decide +kernel
theorem dX1_init_1 : decode cX1_init 1 = .ok (.invokespecial 1, 3) := by decide +kernel
theorem dX1_init_4 : decode cX1_init 4 = .ok (.aload_n 0, 1) := by decide +kernel
theorem dX1_init_5 : decode cX1_init 5 = .ok (.iconst 4, 1) := by decide +kernel
theorem dX1_init_6 : decode cX1_init 6 = .ok (.newarray .int, 2) := by decide +kernel
theorem dX1_init_8 : decode cX1_init 8 = .ok (.putfield 7, 3) := by decide +kernel
theorem dX1_init_11 : decode cX1_init 11 = .ok (.aload_n 0, 1) := by decide +kernel
theorem dX1_init_12 : decode cX1_init 12 = .ok (.iconst 4, 1) := by decide +kernel
theorem dX1_init_13 : decode cX1_init 13 = .ok (.newarray .int, 2) := by decide +kernel
theorem dX1_init_15 : decode cX1_init 15 = .ok (.putfield 13, 3) := by decide +kernel
theorem dX1_init_18 : decode cX1_init 18 = .ok (.aload_n 0, 1) := by decide +kernel
theorem dX1_init_19 : decode cX1_init 19 = .ok (.iconst 4, 1) := by decide +kernel
theorem dX1_init_20 : decode cX1_init 20 = .ok (.newarray .int, 2) := by decide +kernel
theorem dX1_init_22 : decode cX1_init 22 = .ok (.putfield 16, 3) := by decide +kernel
theorem dX1_init_25 : decode cX1_init 25 = .ok (.aload_n 0, 1) := by decide +kernel
theorem dX1_init_26 : decode cX1_init 26 = .ok (.iconst 4, 1) := by decide +kernel
theorem dX1_init_27 : decode cX1_init 27 = .ok (.newarray .int, 2) := by decide +kernel
theorem dX1_init_29 : decode cX1_init 29 = .ok (.putfield 19, 3) := by decide +kernel
theorem dX1_init_32 : decode cX1_init 32 = .ok (.aload_n 0, 1) := by decide +kernel
theorem dX1_init_33 : decode cX1_init 33 = .ok (.iconst 4, 1) := by decide +kernel
theorem dX1_init_34 : decode cX1_init 34 = .ok (.newarray .int, 2) := by decide +kernel
theorem dX1_init_36 : decode cX1_init 36 = .ok (.putfield 22, 3) := by decide +kernel
theorem dX1_init_39 : decode cX1_init 39 = .ok (.aload_n 0, 1) := by decide +kernel
theorem dX1_init_40 : decode cX1_init 40 = .ok (.bipush 40, 2) := by decide +kernel
theorem dX1_init_42 : decode cX1_init 42 = .ok (.newarray .int, 2) := by decide +kernel
theorem dX1_init_44 : decode cX1_init 44 = .ok (.putfield 25, 3) := by decide +kernel
theorem dX1_init_47 : decode cX1_init 47 = .ok (.aload_n 0, 1) := by decide +kernel
theorem dX1_init_48 : decode cX1_init 48 = .ok (.iconst 4, 1) := by decide +kernel
theorem dX1_init_49 : decode cX1_init 49 = .ok (.newarray .int, 2) := by decide +kernel
theorem dX1_init_51 : decode cX1_init 51 = .ok (.putfield 28, 3) := by decide +kernel
theorem dX1_init_54 : decode cX1_init 54 = .ok (.aload_n 0, 1) := by decide +kernel
theorem dX1_init_55 : decode cX1_init 55 = .ok (.iconst 4, 1) := by decide +kernel
theorem dX1_init_56 : decode cX1_init 56 = .ok (.newarray .int, 2) := by decide +kernel
theorem dX1_init_58 : decode cX1_init 58 = .ok (.putfield 31, 3) := by decide +kernel
theorem dX1_init_61 : decode cX1_init 61 = .ok (.aload_n 0, 1) := by decide +kernel
theorem dX1_init_62 : decode cX1_init 62 = .ok (.iconst 4, 1) := by decide +kernel
theorem dX1_init_63 : decode cX1_init 63 = .ok (.newarray .int, 2) := by decide +kernel
theorem dX1_init_65 : decode cX1_init 65 = .ok (.putfield 34, 3) := by decide +kernel
theorem dX1_init_68 : decode cX1_init 68 = .ok (.iconst 0, 1) := by decide +kernel
theorem dX1_init_69 : decode cX1_init 69 = .ok (.istore_n 1, 1) := by decide +kernel
theorem dX1_init_70 : decode cX1_init 70 = .ok (.iload_n 1, 1) := by decide +kernel
theorem dX1_init_71 : decode cX1_init 71 = .ok (.iconst 4, 1) := by decide +kernel
theorem dX1_init_72 : decode cX1_init 72 = .ok (.if_icmp .ge 19, 3) := by decide +kernel
theorem dX1_init_75 : decode cX1_init 75 = .ok (.aload_n 0, 1) := by decide +kernel
theorem dX1_init_76 : decode cX1_init 76 = .ok (.iload_n 1, 1) := by decide +kernel
theorem dX1_init_77 : decode cX1_init 77 = .ok (.iconst 0, 1) := by decide +kernel
theorem dX1_init_78 : decode cX1_init 78 = .ok (.iconst 1, 1) := by decide +kernel
theorem dX1_init_79 : decode cX1_init 79 = .ok (.bipush 10, 2) := by decide +kernel
theorem dX1_init_81 : decode cX1_init 81 = .ok (.iconst 1, 1) := by decide +kernel
theorem dX1_init_82 : decode cX1_init 82 = .ok (.invokevirtual 37, 3) := by decide +kernel
theorem dX1_init_85 : decode cX1_init 85 = .ok (.iinc 1 1, 3) := by decide +kernel
theorem dX1_init_88 : decode cX1_init 88 = .ok (.goto (-18), 3) := by decide +kernel
theorem dX1_init_91 : decode cX1_init 91 = .ok (.return_, 1) := by decide +kernel
theorem dX1_make_0 : decode cX1_make 0 = .ok (.aload_n 0, 1) := by decide +kernel
theorem dX1_make_1 : decode cX1_make 1 = .ok (.getfield 7, 3) := by decide +kernel
theorem dX1_make_4 : decode cX1_make 4 = .ok (.iload_n 1, 1) := by decide +kernel
theorem dX1_make_5 : decode cX1_make 5 = .ok (.iload_n 2, 1) := by decide +kernel
theorem dX1_make_6 : decode cX1_make 6 = .ok (.iastore, 1) := by decide +kernel
theorem dX1_make_7 : decode cX1_make 7 = .ok (.aload_n 0, 1) := by decide +kernel
theorem dX1_make_8 : decode cX1_make 8 = .ok (.getfield 13, 3) := by decide +kernel
theorem dX1_make_11 : decode cX1_make 11 = .ok (.iload_n 1, 1) := by decide +kernel
theorem dX1_make_12 : decode cX1_make 12 = .ok (.iload_n 3, 1) := by decide +kernel
theorem dX1_make_13 : decode cX1_make 13 = .ok (.iastore, 1) := by decide +kernel
theorem dX1_make_14 : decode cX1_make 14 = .ok (.aload_n 0, 1) := by decide +kernel
theorem dX1_make_15 : decode cX1_make 15 = .ok (.getfield 16, 3) := by decide +kernel
theorem dX1_make_18 : decode cX1_make 18 = .ok (.iload_n 1, 1) := by decide +kernel
theorem dX1_make_19 : decode cX1_make 19 = .ok (.iload 4, 2) := by decide +kernel
theorem dX1_make_21 : decode cX1_make 21 = .ok (.iastore, 1) := by decide +kernel
theorem dX1_make_22 : decode cX1_make 22 = .ok (.aload_n 0, 1) := by decide +kernel
theorem dX1_make_23 : decode cX1_make 23 = .ok (.getfield 19, 3) := by decide +kernel
theorem dX1_make_26 : decode cX1_make 26 = .ok (.iload_n 1, 1) := by decide +kernel
theorem dX1_make_27 : decode cX1_make 27 = .ok (.iload 5, 2) := by decide +kernel
theorem dX1_make_29 : decode cX1_make 29 = .ok (.iastore, 1) := by decide +kernel
theorem dX1_make_30 : decode cX1_make 30 = .ok (.aload_n 0, 1) := by decide +kernel
theorem dX1_make_31 : decode cX1_make 31 = .ok (.getfield 22, 3) := by decide +kernel
theorem dX1_make_34 : decode cX1_make 34 = .ok (.iload_n 1, 1) := by decide +kernel
theorem dX1_make_35 : decode cX1_make 35 = .ok (.iload 4, 2) := by decide +kernel
theorem dX1_make_37 : decode cX1_make 37 = .ok (.iastore, 1) := by decide +kernel
theorem dX1_make_38 : decode cX1_make 38 = .ok (.iconst 0, 1) := by decide +kernel
theorem dX1_make_39 : decode cX1_make 39 = .ok (.istore 6, 2) := by decide +kernel
theorem dX1_make_41 : decode cX1_make 41 = .ok (.iload 6, 2) := by decide +kernel
theorem dX1_make_43 : decode cX1_make 43 = .ok (.bipush 10, 2) := by decide +kernel
theorem dX1_make_45 : decode cX1_make 45 = .ok (.if_icmp .ge 22, 3) := by decide +kernel
theorem dX1_make_48 : decode cX1_make 48 = .ok (.aload_n 0, 1) := by decide +kernel
theorem dX1_make_49 : decode cX1_make 49 = .ok (.getfield 25, 3) := by decide +kernel
theorem dX1_make_52 : decode cX1_make 52 = .ok (.iload_n 1, 1) := by decide +kernel
theorem dX1_make_53 : decode cX1_make 53 = .ok (.bipush 10, 2) := by decide +kernel
theorem dX1_make_55 : decode cX1_make 55 = .ok (.imul, 1) := by decide +kernel
theorem dX1_make_56 : decode cX1_make 56 = .ok (.iload 6, 2) := by decide +kernel
theorem dX1_make_58 : decode cX1_make 58 = .ok (.iadd, 1) := by decide +kernel
theorem dX1_make_59 : decode cX1_make 59 = .ok (.iconst 0, 1) := by decide +kernel
theorem dX1_make_60 : decode cX1_make 60 = .ok (.iastore, 1) := by decide +kernel
theorem dX1_make_61 : decode cX1_make 61 = .ok (.iinc 6 1, 3) := by decide +kernel
theorem dX1_make_64 : decode cX1_make 64 = .ok (.goto (-23), 3) := by decide +kernel
theorem dX1_make_67 : decode cX1_make 67 = .ok (.aload_n 0, 1) := by decide +kernel
theorem dX1_make_68 : decode cX1_make 68 = .ok (.getfield 28, 3) := by decide +kernel
theorem dX1_make_71 : decode cX1_make 71 = .ok (.iload_n 1, 1) := by decide +kernel
theorem dX1_make_72 : decode cX1_make 72 = .ok (.ldc 41, 2) := by decide +kernel
theorem dX1_make_74 : decode cX1_make 74 = .ok (.iastore, 1) := by decide +kernel
theorem dX1_make_75 : decode cX1_make 75 = .ok (.aload_n 0, 1) := by decide +kernel
theorem dX1_make_76 : decode cX1_make 76 = .ok (.getfield 31, 3) := by decide +kernel
theorem dX1_make_79 : decode cX1_make 79 = .ok (.iload_n 1, 1) := by decide +kernel
theorem dX1_make_80 : decode cX1_make 80 = .ok (.iconst 0, 1) := by decide +kernel
theorem dX1_make_81 : decode cX1_make 81 = .ok (.iastore, 1) := by decide +kernel
theorem dX1_make_82 : decode cX1_make 82 = .ok (.aload_n 0, 1) := by decide +kernel
theorem dX1_make_83 : decode cX1_make 83 = .ok (.getfield 34, 3) := by decide +kernel
theorem dX1_make_86 : decode cX1_make 86 = .ok (.iload_n 1, 1) := by decide +kernel
theorem dX1_make_87 : decode cX1_make 87 = .ok (.iconst 0, 1) := by decide +kernel
theorem dX1_make_88 : decode cX1_make 88 = .ok (.iastore, 1) := by decide +kernel
theorem dX1_make_89 : decode cX1_make 89 = .ok (.return_, 1) := by decide +kernel
theorem dX1_set_0 : decode cX1_set 0 = .ok (.aload_n 0, 1) := by decide +kernel
theorem dX1_set_1 : decode cX1_set 1 = .ok (.iload_n 1, 1) := by decide +kernel
theorem dX1_set_2 : decode cX1_set 2 = .ok (.invokevirtual 42, 3) := by decide +kernel
theorem dX1_set_5 : decode cX1_set 5 = .ok (.ifCond .eq 5, 3) := by decide +kernel
theorem dX1_set_8 : decode cX1_set 8 = .ok (.iconst (-1), 1) := by decide +kernel
theorem dX1_set_9 : decode cX1_set 9 = .ok (.ireturn, 1) := by decide +kernel
theorem dX1_set_10 : decode cX1_set 10 = .ok (.iload_n 2, 1) := by decide +kernel
theorem dX1_set_11 : decode cX1_set 11 = .ok (.ifCond .lt 8, 3) := by decide +kernel
theorem dX1_set_14 : decode cX1_set 14 = .ok (.iload_n 2, 1) := by decide +kernel
theorem dX1_set_15 : decode cX1_set 15 = .ok (.iconst 2, 1) := by decide +kernel
theorem dX1_set_16 : decode cX1_set 16 = .ok (.if_icmp .le 6, 3) := by decide +kernel
theorem dX1_set_19 : decode cX1_set 19 = .ok (.bipush (-2), 2) := by decide +kernel
theorem dX1_set_21 : decode cX1_set 21 = .ok (.ireturn, 1) := by decide +kernel
theorem dX1_set_22 : decode cX1_set 22 = .ok (.iload_n 3, 1) := by decide +kernel
theorem dX1_set_23 : decode cX1_set 23 = .ok (.bipush 7, 2) := by decide +kernel
theorem dX1_set_25 : decode cX1_set 25 = .ok (.iand, 1) := by decide +kernel
theorem dX1_set_26 : decode cX1_set 26 = .ok (.istore 4, 2) := by decide +kernel
theorem dX1_set_28 : decode cX1_set 28 = .ok (.iload_n 3, 1) := by decide +kernel
theorem dX1_set_29 : decode cX1_set 29 = .ok (.iconst 3, 1) := by decide +kernel
theorem dX1_set_30 : decode cX1_set 30 = .ok (.ishr, 1) := by decide +kernel
theorem dX1_set_31 : decode cX1_set 31 = .ok (.bipush 31, 2) := by decide +kernel
theorem dX1_set_33 : decode cX1_set 33 = .ok (.iand, 1) := by decide +kernel
theorem dX1_set_34 : decode cX1_set 34 = .ok (.istore 5, 2) := by decide +kernel
theorem dX1_set_36 : decode cX1_set 36 = .ok (.iload_n 3, 1) := by decide +kernel
theorem dX1_set_37 : decode cX1_set 37 = .ok (.bipush 8, 2) := by decide +kernel
theorem dX1_set_39 : decode cX1_set 39 = .ok (.ishr, 1) := by decide +kernel
theorem dX1_set_40 : decode cX1_set 40 = .ok (.bipush 15, 2) := by decide +kernel
theorem dX1_set_42 : decode cX1_set 42 = .ok (.iand, 1) := by decide +kernel
theorem dX1_set_43 : decode cX1_set 43 = .ok (.istore 6, 2) := by decide +kernel
theorem dX1_set_45 : decode cX1_set 45 = .ok (.iload 4, 2) := by decide +kernel
theorem dX1_set_47 : decode cX1_set 47 = .ok (.iconst 1, 1) := by decide +kernel
theorem dX1_set_48 : decode cX1_set 48 = .ok (.if_icmp .lt 35, 3) := by decide +kernel
theorem dX1_set_51 : decode cX1_set 51 = .ok (.iload 4, 2) := by decide +kernel
theorem dX1_set_53 : decode cX1_set 53 = .ok (.iconst 5, 1) := by decide +kernel
theorem dX1_set_54 : decode cX1_set 54 = .ok (.if_icmp .gt 29, 3) := by decide +kernel
theorem dX1_set_57 : decode cX1_set 57 = .ok (.iload 5, 2) := by decide +kernel
theorem dX1_set_59 : decode cX1_set 59 = .ok (.iconst 1, 1) := by decide +kernel
theorem dX1_set_60 : decode cX1_set 60 = .ok (.if_icmp .lt 23, 3) := by decide +kernel
theorem dX1_set_63 : decode cX1_set 63 = .ok (.iload 5, 2) := by decide +kernel
theorem dX1_set_65 : decode cX1_set 65 = .ok (.bipush 30, 2) := by decide +kernel
theorem dX1_set_67 : decode cX1_set 67 = .ok (.if_icmp .gt 16, 3) := by decide +kernel
theorem dX1_set_70 : decode cX1_set 70 = .ok (.iload 6, 2) := by decide +kernel
theorem dX1_set_72 : decode cX1_set 72 = .ok (.iconst 1, 1) := by decide +kernel
theorem dX1_set_73 : decode cX1_set 73 = .ok (.if_icmp .lt 10, 3) := by decide +kernel
theorem dX1_set_76 : decode cX1_set 76 = .ok (.iload 6, 2) := by decide +kernel
theorem dX1_set_78 : decode cX1_set 78 = .ok (.bipush 10, 2) := by decide +kernel
theorem dX1_set_80 : decode cX1_set 80 = .ok (.if_icmp .le 6, 3) := by decide +kernel
theorem dX1_set_83 : decode cX1_set 83 = .ok (.bipush (-3), 2) := by decide +kernel
theorem dX1_set_85 : decode cX1_set 85 = .ok (.ireturn, 1) := by decide +kernel
theorem dX1_set_86 : decode cX1_set 86 = .ok (.aload_n 0, 1) := by decide +kernel
theorem dX1_set_87 : decode cX1_set 87 = .ok (.iload_n 1, 1) := by decide +kernel
theorem dX1_set_88 : decode cX1_set 88 = .ok (.iload_n 2, 1) := by decide +kernel
theorem dX1_set_89 : decode cX1_set 89 = .ok (.iload 4, 2) := by decide +kernel
theorem dX1_set_91 : decode cX1_set 91 = .ok (.iload 5, 2) := by decide +kernel
theorem dX1_set_93 : decode cX1_set 93 = .ok (.iload 6, 2) := by decide +kernel
theorem dX1_set_95 : decode cX1_set 95 = .ok (.invokevirtual 37, 3) := by decide +kernel
theorem dX1_set_98 : decode cX1_set 98 = .ok (.iconst 0, 1) := by decide +kernel
theorem dX1_set_99 : decode cX1_set 99 = .ok (.ireturn, 1) := by decide +kernel
theorem dX1_bad_0 : decode cX1_bad 0 = .ok (.iload_n 1, 1) := by decide +kernel
theorem dX1_bad_1 : decode cX1_bad 1 = .ok (.ifCond .lt 8, 3) := by decide +kernel
theorem dX1_bad_4 : decode cX1_bad 4 = .ok (.iload_n 1, 1) := by decide +kernel
theorem dX1_bad_5 : decode cX1_bad 5 = .ok (.iconst 3, 1) := by decide +kernel
theorem dX1_bad_6 : decode cX1_bad 6 = .ok (.if_icmp .le 7, 3) := by decide +kernel
theorem dX1_bad_9 : decode cX1_bad 9 = .ok (.iconst 1, 1) := by decide +kernel
theorem dX1_bad_10 : decode cX1_bad 10 = .ok (.goto 4, 3) := by decide +kernel
theorem dX1_bad_13 : decode cX1_bad 13 = .ok (.iconst 0, 1) := by decide +kernel
theorem dX1_bad_14 : decode cX1_bad 14 = .ok (.ireturn, 1) := by decide +kernel
theorem dX1_ask_0 : decode cX1_ask 0 = .ok (.aload_n 0, 1) := by decide +kernel
theorem dX1_ask_1 : decode cX1_ask 1 = .ok (.iload_n 1, 1) := by decide +kernel
theorem dX1_ask_2 : decode cX1_ask 2 = .ok (.invokevirtual 42, 3) := by decide +kernel
theorem dX1_ask_5 : decode cX1_ask 5 = .ok (.ifCond .eq 5, 3) := by decide +kernel
theorem dX1_ask_8 : decode cX1_ask 8 = .ok (.iconst (-1), 1) := by decide +kernel
theorem dX1_ask_9 : decode cX1_ask 9 = .ok (.ireturn, 1) := by decide +kernel
theorem dX1_ask_10 : decode cX1_ask 10 = .ok (.aload_n 0, 1) := by decide +kernel
theorem dX1_ask_11 : decode cX1_ask 11 = .ok (.iconst 1, 1) := by decide +kernel
theorem dX1_ask_12 : decode cX1_ask 12 = .ok (.iload_n 1, 1) := by decide +kernel
theorem dX1_ask_13 : decode cX1_ask 13 = .ok (.ishl, 1) := by decide +kernel
theorem dX1_ask_14 : decode cX1_ask 14 = .ok (.iload_n 2, 1) := by decide +kernel
theorem dX1_ask_15 : decode cX1_ask 15 = .ok (.invokevirtual 57, 3) := by decide +kernel
theorem dX1_ask_18 : decode cX1_ask 18 = .ok (.ireturn, 1) := by decide +kernel
theorem dX1_askAll_0 : decode cX1_askAll 0 = .ok (.aload_n 0, 1) := by decide +kernel
theorem dX1_askAll_1 : decode cX1_askAll 1 = .ok (.iload_n 2, 1) := by decide +kernel
theorem dX1_askAll_2 : decode cX1_askAll 2 = .ok (.invokevirtual 60, 3) := by decide +kernel
theorem dX1_askAll_5 : decode cX1_askAll 5 = .ok (.ifCond .eq 6, 3) := by decide +kernel
theorem dX1_askAll_8 : decode cX1_askAll 8 = .ok (.bipush (-3), 2) := by decide +kernel
theorem dX1_askAll_10 : decode cX1_askAll 10 = .ok (.ireturn, 1) := by decide +kernel
theorem dX1_askAll_11 : decode cX1_askAll 11 = .ok (.iconst 1, 1) := by decide +kernel
theorem dX1_askAll_12 : decode cX1_askAll 12 = .ok (.istore_n 3, 1) := by decide +kernel
theorem dX1_askAll_13 : decode cX1_askAll 13 = .ok (.iconst 0, 1) := by decide +kernel
theorem dX1_askAll_14 : decode cX1_askAll 14 = .ok (.istore 4, 2) := by decide +kernel
theorem dX1_askAll_16 : decode cX1_askAll 16 = .ok (.iload 4, 2) := by decide +kernel
theorem dX1_askAll_18 : decode cX1_askAll 18 = .ok (.iconst 4, 1) := by decide +kernel
theorem dX1_askAll_19 : decode cX1_askAll 19 = .ok (.if_icmp .ge 48, 3) := by decide +kernel
theorem dX1_askAll_22 : decode cX1_askAll 22 = .ok (.iload_n 1, 1) := by decide +kernel
theorem dX1_askAll_23 : decode cX1_askAll 23 = .ok (.iload 4, 2) := by decide +kernel
theorem dX1_askAll_25 : decode cX1_askAll 25 = .ok (.ishr, 1) := by decide +kernel
theorem dX1_askAll_26 : decode cX1_askAll 26 = .ok (.iconst 1, 1) := by decide +kernel
theorem dX1_askAll_27 : decode cX1_askAll 27 = .ok (.iand, 1) := by decide +kernel
theorem dX1_askAll_28 : decode cX1_askAll 28 = .ok (.iconst 1, 1) := by decide +kernel
theorem dX1_askAll_29 : decode cX1_askAll 29 = .ok (.if_icmp .ne 32, 3) := by decide +kernel
theorem dX1_askAll_32 : decode cX1_askAll 32 = .ok (.aload_n 0, 1) := by decide +kernel
theorem dX1_askAll_33 : decode cX1_askAll 33 = .ok (.iload 4, 2) := by decide +kernel
theorem dX1_askAll_35 : decode cX1_askAll 35 = .ok (.iload_n 2, 1) := by decide +kernel
theorem dX1_askAll_36 : decode cX1_askAll 36 = .ok (.iconst 0, 1) := by decide +kernel
theorem dX1_askAll_37 : decode cX1_askAll 37 = .ok (.invokevirtual 63, 3) := by decide +kernel
theorem dX1_askAll_40 : decode cX1_askAll 40 = .ok (.ifCond .ne 21, 3) := by decide +kernel
theorem dX1_askAll_43 : decode cX1_askAll 43 = .ok (.iconst 0, 1) := by decide +kernel
theorem dX1_askAll_44 : decode cX1_askAll 44 = .ok (.istore_n 3, 1) := by decide +kernel
theorem dX1_askAll_45 : decode cX1_askAll 45 = .ok (.aload_n 0, 1) := by decide +kernel
theorem dX1_askAll_46 : decode cX1_askAll 46 = .ok (.getfield 34, 3) := by decide +kernel
theorem dX1_askAll_49 : decode cX1_askAll 49 = .ok (.iload 4, 2) := by decide +kernel
theorem dX1_askAll_51 : decode cX1_askAll 51 = .ok (.aload_n 0, 1) := by decide +kernel
theorem dX1_askAll_52 : decode cX1_askAll 52 = .ok (.getfield 34, 3) := by decide +kernel
theorem dX1_askAll_55 : decode cX1_askAll 55 = .ok (.iload 4, 2) := by decide +kernel
theorem dX1_askAll_57 : decode cX1_askAll 57 = .ok (.iaload, 1) := by decide +kernel
theorem dX1_askAll_58 : decode cX1_askAll 58 = .ok (.iconst 1, 1) := by decide +kernel
theorem dX1_askAll_59 : decode cX1_askAll 59 = .ok (.iadd, 1) := by decide +kernel
theorem dX1_askAll_60 : decode cX1_askAll 60 = .ok (.iastore, 1) := by decide +kernel
theorem dX1_askAll_61 : decode cX1_askAll 61 = .ok (.iinc 4 1, 3) := by decide +kernel
theorem dX1_askAll_64 : decode cX1_askAll 64 = .ok (.goto (-48), 3) := by decide +kernel
theorem dX1_askAll_67 : decode cX1_askAll 67 = .ok (.iconst 0, 1) := by decide +kernel
theorem dX1_askAll_68 : decode cX1_askAll 68 = .ok (.istore 4, 2) := by decide +kernel
theorem dX1_askAll_70 : decode cX1_askAll 70 = .ok (.iload 4, 2) := by decide +kernel
theorem dX1_askAll_72 : decode cX1_askAll 72 = .ok (.iconst 4, 1) := by decide +kernel
theorem dX1_askAll_73 : decode cX1_askAll 73 = .ok (.if_icmp .ge 30, 3) := by decide +kernel
theorem dX1_askAll_76 : decode cX1_askAll 76 = .ok (.iload_n 3, 1) := by decide +kernel
theorem dX1_askAll_77 : decode cX1_askAll 77 = .ok (.ifCond .eq 20, 3) := by decide +kernel
theorem dX1_askAll_80 : decode cX1_askAll 80 = .ok (.iload_n 1, 1) := by decide +kernel
theorem dX1_askAll_81 : decode cX1_askAll 81 = .ok (.iload 4, 2) := by decide +kernel
theorem dX1_askAll_83 : decode cX1_askAll 83 = .ok (.ishr, 1) := by decide +kernel
theorem dX1_askAll_84 : decode cX1_askAll 84 = .ok (.iconst 1, 1) := by decide +kernel
theorem dX1_askAll_85 : decode cX1_askAll 85 = .ok (.iand, 1) := by decide +kernel
theorem dX1_askAll_86 : decode cX1_askAll 86 = .ok (.iconst 1, 1) := by decide +kernel
theorem dX1_askAll_87 : decode cX1_askAll 87 = .ok (.if_icmp .ne 10, 3) := by decide +kernel
theorem dX1_askAll_90 : decode cX1_askAll 90 = .ok (.aload_n 0, 1) := by decide +kernel
theorem dX1_askAll_91 : decode cX1_askAll 91 = .ok (.iload 4, 2) := by decide +kernel
theorem dX1_askAll_93 : decode cX1_askAll 93 = .ok (.iload_n 2, 1) := by decide +kernel
theorem dX1_askAll_94 : decode cX1_askAll 94 = .ok (.invokevirtual 67, 3) := by decide +kernel
theorem dX1_askAll_97 : decode cX1_askAll 97 = .ok (.iinc 4 1, 3) := by decide +kernel
theorem dX1_askAll_100 : decode cX1_askAll 100 = .ok (.goto (-30), 3) := by decide +kernel
theorem dX1_askAll_103 : decode cX1_askAll 103 = .ok (.iload_n 3, 1) := by decide +kernel
theorem dX1_askAll_104 : decode cX1_askAll 104 = .ok (.ifCond .eq 7, 3) := by decide +kernel
theorem dX1_askAll_107 : decode cX1_askAll 107 = .ok (.iconst 1, 1) := by decide +kernel
theorem dX1_askAll_108 : decode cX1_askAll 108 = .ok (.goto 4, 3) := by decide +kernel
theorem dX1_askAll_111 : decode cX1_askAll 111 = .ok (.iconst 0, 1) := by decide +kernel
theorem dX1_askAll_112 : decode cX1_askAll 112 = .ok (.ireturn, 1) := by decide +kernel
theorem dX1_badCost_0 : decode cX1_badCost 0 = .ok (.iload_n 1, 1) := by decide +kernel
theorem dX1_badCost_1 : decode cX1_badCost 1 = .ok (.iconst 1, 1) := by decide +kernel
theorem dX1_badCost_2 : decode cX1_badCost 2 = .ok (.if_icmp .lt 9, 3) := by decide +kernel
theorem dX1_badCost_5 : decode cX1_badCost 5 = .ok (.iload_n 1, 1) := by decide +kernel
theorem dX1_badCost_6 : decode cX1_badCost 6 = .ok (.bipush 20, 2) := by decide +kernel
theorem dX1_badCost_8 : decode cX1_badCost 8 = .ok (.if_icmp .le 7, 3) := by decide +kernel
theorem dX1_badCost_11 : decode cX1_badCost 11 = .ok (.iconst 1, 1) := by decide +kernel
theorem dX1_badCost_12 : decode cX1_badCost 12 = .ok (.goto 4, 3) := by decide +kernel
theorem dX1_badCost_15 : decode cX1_badCost 15 = .ok (.iconst 0, 1) := by decide +kernel
theorem dX1_badCost_16 : decode cX1_badCost 16 = .ok (.ireturn, 1) := by decide +kernel
theorem dX1_would_0 : decode cX1_would 0 = .ok (.aload_n 0, 1) := by decide +kernel
theorem dX1_would_1 : decode cX1_would 1 = .ok (.getfield 7, 3) := by decide +kernel
theorem dX1_would_4 : decode cX1_would 4 = .ok (.iload_n 1, 1) := by decide +kernel
theorem dX1_would_5 : decode cX1_would 5 = .ok (.iaload, 1) := by decide +kernel
theorem dX1_would_6 : decode cX1_would 6 = .ok (.ifCond .ne 19, 3) := by decide +kernel
theorem dX1_would_9 : decode cX1_would 9 = .ok (.aload_n 0, 1) := by decide +kernel
theorem dX1_would_10 : decode cX1_would 10 = .ok (.iload_n 1, 1) := by decide +kernel
theorem dX1_would_11 : decode cX1_would 11 = .ok (.iload_n 3, 1) := by decide +kernel
theorem dX1_would_12 : decode cX1_would 12 = .ok (.invokevirtual 46, 3) := by decide +kernel
theorem dX1_would_15 : decode cX1_would 15 = .ok (.iload_n 2, 1) := by decide +kernel
theorem dX1_would_16 : decode cX1_would 16 = .ok (.if_icmp .lt 7, 3) := by decide +kernel
theorem dX1_would_19 : decode cX1_would 19 = .ok (.iconst 1, 1) := by decide +kernel
theorem dX1_would_20 : decode cX1_would 20 = .ok (.goto 4, 3) := by decide +kernel
theorem dX1_would_23 : decode cX1_would 23 = .ok (.iconst 0, 1) := by decide +kernel
theorem dX1_would_24 : decode cX1_would 24 = .ok (.ireturn, 1) := by decide +kernel
theorem dX1_would_25 : decode cX1_would 25 = .ok (.aload_n 0, 1) := by decide +kernel
theorem dX1_would_26 : decode cX1_would 26 = .ok (.getfield 7, 3) := by decide +kernel
theorem dX1_would_29 : decode cX1_would 29 = .ok (.iload_n 1, 1) := by decide +kernel
theorem dX1_would_30 : decode cX1_would 30 = .ok (.iaload, 1) := by decide +kernel
theorem dX1_would_31 : decode cX1_would 31 = .ok (.iconst 1, 1) := by decide +kernel
theorem dX1_would_32 : decode cX1_would 32 = .ok (.if_icmp .ne 26, 3) := by decide +kernel
theorem dX1_would_35 : decode cX1_would 35 = .ok (.aload_n 0, 1) := by decide +kernel
theorem dX1_would_36 : decode cX1_would 36 = .ok (.iload_n 1, 1) := by decide +kernel
theorem dX1_would_37 : decode cX1_would 37 = .ok (.iload_n 3, 1) := by decide +kernel
theorem dX1_would_38 : decode cX1_would 38 = .ok (.invokevirtual 50, 3) := by decide +kernel
theorem dX1_would_41 : decode cX1_would 41 = .ok (.iload_n 2, 1) := by decide +kernel
theorem dX1_would_42 : decode cX1_would 42 = .ok (.iadd, 1) := by decide +kernel
theorem dX1_would_43 : decode cX1_would 43 = .ok (.aload_n 0, 1) := by decide +kernel
theorem dX1_would_44 : decode cX1_would 44 = .ok (.getfield 16, 3) := by decide +kernel
theorem dX1_would_47 : decode cX1_would 47 = .ok (.iload_n 1, 1) := by decide +kernel
theorem dX1_would_48 : decode cX1_would 48 = .ok (.iaload, 1) := by decide +kernel
theorem dX1_would_49 : decode cX1_would 49 = .ok (.if_icmp .gt 7, 3) := by decide +kernel
theorem dX1_would_52 : decode cX1_would 52 = .ok (.iconst 1, 1) := by decide +kernel
theorem dX1_would_53 : decode cX1_would 53 = .ok (.goto 4, 3) := by decide +kernel
theorem dX1_would_56 : decode cX1_would 56 = .ok (.iconst 0, 1) := by decide +kernel
theorem dX1_would_57 : decode cX1_would 57 = .ok (.ireturn, 1) := by decide +kernel
theorem dX1_would_58 : decode cX1_would 58 = .ok (.aload_n 0, 1) := by decide +kernel
theorem dX1_would_59 : decode cX1_would 59 = .ok (.getfield 53, 3) := by decide +kernel
theorem dX1_would_62 : decode cX1_would 62 = .ok (.iload_n 3, 1) := by decide +kernel
theorem dX1_would_63 : decode cX1_would 63 = .ok (.iadd, 1) := by decide +kernel
theorem dX1_would_64 : decode cX1_would 64 = .ok (.istore 4, 2) := by decide +kernel
theorem dX1_would_66 : decode cX1_would 66 = .ok (.aload_n 0, 1) := by decide +kernel
theorem dX1_would_67 : decode cX1_would 67 = .ok (.getfield 28, 3) := by decide +kernel
theorem dX1_would_70 : decode cX1_would 70 = .ok (.iload_n 1, 1) := by decide +kernel
theorem dX1_would_71 : decode cX1_would 71 = .ok (.iaload, 1) := by decide +kernel
theorem dX1_would_72 : decode cX1_would 72 = .ok (.iload 4, 2) := by decide +kernel
theorem dX1_would_74 : decode cX1_would 74 = .ok (.if_icmp .le 12, 3) := by decide +kernel
theorem dX1_would_77 : decode cX1_would 77 = .ok (.aload_n 0, 1) := by decide +kernel
theorem dX1_would_78 : decode cX1_would 78 = .ok (.getfield 28, 3) := by decide +kernel
theorem dX1_would_81 : decode cX1_would 81 = .ok (.iload_n 1, 1) := by decide +kernel
theorem dX1_would_82 : decode cX1_would 82 = .ok (.iaload, 1) := by decide +kernel
theorem dX1_would_83 : decode cX1_would 83 = .ok (.goto 5, 3) := by decide +kernel
theorem dX1_would_86 : decode cX1_would 86 = .ok (.iload 4, 2) := by decide +kernel
theorem dX1_would_88 : decode cX1_would 88 = .ok (.istore 5, 2) := by decide +kernel
theorem dX1_would_90 : decode cX1_would 90 = .ok (.iload 5, 2) := by decide +kernel
theorem dX1_would_92 : decode cX1_would 92 = .ok (.iload_n 2, 1) := by decide +kernel
theorem dX1_would_93 : decode cX1_would 93 = .ok (.aload_n 0, 1) := by decide +kernel
theorem dX1_would_94 : decode cX1_would 94 = .ok (.getfield 19, 3) := by decide +kernel
theorem dX1_would_97 : decode cX1_would 97 = .ok (.iload_n 1, 1) := by decide +kernel
theorem dX1_would_98 : decode cX1_would 98 = .ok (.iaload, 1) := by decide +kernel
theorem dX1_would_99 : decode cX1_would 99 = .ok (.imul, 1) := by decide +kernel
theorem dX1_would_100 : decode cX1_would 100 = .ok (.iadd, 1) := by decide +kernel
theorem dX1_would_101 : decode cX1_would 101 = .ok (.iload 4, 2) := by decide +kernel
theorem dX1_would_103 : decode cX1_would 103 = .ok (.isub, 1) := by decide +kernel
theorem dX1_would_104 : decode cX1_would 104 = .ok (.aload_n 0, 1) := by decide +kernel
theorem dX1_would_105 : decode cX1_would 105 = .ok (.getfield 16, 3) := by decide +kernel
theorem dX1_would_108 : decode cX1_would 108 = .ok (.iload_n 1, 1) := by decide +kernel
theorem dX1_would_109 : decode cX1_would 109 = .ok (.iaload, 1) := by decide +kernel
theorem dX1_would_110 : decode cX1_would 110 = .ok (.aload_n 0, 1) := by decide +kernel
theorem dX1_would_111 : decode cX1_would 111 = .ok (.getfield 19, 3) := by decide +kernel
theorem dX1_would_114 : decode cX1_would 114 = .ok (.iload_n 1, 1) := by decide +kernel
theorem dX1_would_115 : decode cX1_would 115 = .ok (.iaload, 1) := by decide +kernel
theorem dX1_would_116 : decode cX1_would 116 = .ok (.imul, 1) := by decide +kernel
theorem dX1_would_117 : decode cX1_would 117 = .ok (.if_icmp .gt 7, 3) := by decide +kernel
theorem dX1_would_120 : decode cX1_would 120 = .ok (.iconst 1, 1) := by decide +kernel
theorem dX1_would_121 : decode cX1_would 121 = .ok (.goto 4, 3) := by decide +kernel
theorem dX1_would_124 : decode cX1_would 124 = .ok (.iconst 0, 1) := by decide +kernel
theorem dX1_would_125 : decode cX1_would 125 = .ok (.ireturn, 1) := by decide +kernel
theorem dX1_tokensIn_0 : decode cX1_tokensIn 0 = .ok (.aload_n 0, 1) := by decide +kernel
theorem dX1_tokensIn_1 : decode cX1_tokensIn 1 = .ok (.getfield 22, 3) := by decide +kernel
theorem dX1_tokensIn_4 : decode cX1_tokensIn 4 = .ok (.iload_n 1, 1) := by decide +kernel
theorem dX1_tokensIn_5 : decode cX1_tokensIn 5 = .ok (.iaload, 1) := by decide +kernel
theorem dX1_tokensIn_6 : decode cX1_tokensIn 6 = .ok (.istore_n 3, 1) := by decide +kernel
theorem dX1_tokensIn_7 : decode cX1_tokensIn 7 = .ok (.iconst 0, 1) := by decide +kernel
theorem dX1_tokensIn_8 : decode cX1_tokensIn 8 = .ok (.istore 4, 2) := by decide +kernel
theorem dX1_tokensIn_10 : decode cX1_tokensIn 10 = .ok (.iload 4, 2) := by decide +kernel
theorem dX1_tokensIn_12 : decode cX1_tokensIn 12 = .ok (.iload_n 2, 1) := by decide +kernel
theorem dX1_tokensIn_13 : decode cX1_tokensIn 13 = .ok (.if_icmp .ge 44, 3) := by decide +kernel
theorem dX1_tokensIn_16 : decode cX1_tokensIn 16 = .ok (.iload_n 3, 1) := by decide +kernel
theorem dX1_tokensIn_17 : decode cX1_tokensIn 17 = .ok (.aload_n 0, 1) := by decide +kernel
theorem dX1_tokensIn_18 : decode cX1_tokensIn 18 = .ok (.getfield 13, 3) := by decide +kernel
theorem dX1_tokensIn_21 : decode cX1_tokensIn 21 = .ok (.iload_n 1, 1) := by decide +kernel
theorem dX1_tokensIn_22 : decode cX1_tokensIn 22 = .ok (.iaload, 1) := by decide +kernel
theorem dX1_tokensIn_23 : decode cX1_tokensIn 23 = .ok (.iadd, 1) := by decide +kernel
theorem dX1_tokensIn_24 : decode cX1_tokensIn 24 = .ok (.aload_n 0, 1) := by decide +kernel
theorem dX1_tokensIn_25 : decode cX1_tokensIn 25 = .ok (.getfield 16, 3) := by decide +kernel
theorem dX1_tokensIn_28 : decode cX1_tokensIn 28 = .ok (.iload_n 1, 1) := by decide +kernel
theorem dX1_tokensIn_29 : decode cX1_tokensIn 29 = .ok (.iaload, 1) := by decide +kernel
theorem dX1_tokensIn_30 : decode cX1_tokensIn 30 = .ok (.if_icmp .le 12, 3) := by decide +kernel
theorem dX1_tokensIn_33 : decode cX1_tokensIn 33 = .ok (.aload_n 0, 1) := by decide +kernel
theorem dX1_tokensIn_34 : decode cX1_tokensIn 34 = .ok (.getfield 16, 3) := by decide +kernel
theorem dX1_tokensIn_37 : decode cX1_tokensIn 37 = .ok (.iload_n 1, 1) := by decide +kernel
theorem dX1_tokensIn_38 : decode cX1_tokensIn 38 = .ok (.iaload, 1) := by decide +kernel
theorem dX1_tokensIn_39 : decode cX1_tokensIn 39 = .ok (.goto 11, 3) := by decide +kernel
theorem dX1_tokensIn_42 : decode cX1_tokensIn 42 = .ok (.iload_n 3, 1) := by decide +kernel
theorem dX1_tokensIn_43 : decode cX1_tokensIn 43 = .ok (.aload_n 0, 1) := by decide +kernel
theorem dX1_tokensIn_44 : decode cX1_tokensIn 44 = .ok (.getfield 13, 3) := by decide +kernel
theorem dX1_tokensIn_47 : decode cX1_tokensIn 47 = .ok (.iload_n 1, 1) := by decide +kernel
theorem dX1_tokensIn_48 : decode cX1_tokensIn 48 = .ok (.iaload, 1) := by decide +kernel
theorem dX1_tokensIn_49 : decode cX1_tokensIn 49 = .ok (.iadd, 1) := by decide +kernel
theorem dX1_tokensIn_50 : decode cX1_tokensIn 50 = .ok (.istore_n 3, 1) := by decide +kernel
theorem dX1_tokensIn_51 : decode cX1_tokensIn 51 = .ok (.iinc 4 1, 3) := by decide +kernel
theorem dX1_tokensIn_54 : decode cX1_tokensIn 54 = .ok (.goto (-44), 3) := by decide +kernel
theorem dX1_tokensIn_57 : decode cX1_tokensIn 57 = .ok (.iload_n 3, 1) := by decide +kernel
theorem dX1_tokensIn_58 : decode cX1_tokensIn 58 = .ok (.ireturn, 1) := by decide +kernel
theorem dX1_loggedIn_0 : decode cX1_loggedIn 0 = .ok (.iconst 0, 1) := by decide +kernel
theorem dX1_loggedIn_1 : decode cX1_loggedIn 1 = .ok (.istore_n 3, 1) := by decide +kernel
theorem dX1_loggedIn_2 : decode cX1_loggedIn 2 = .ok (.iconst 0, 1) := by decide +kernel
theorem dX1_loggedIn_3 : decode cX1_loggedIn 3 = .ok (.istore 4, 2) := by decide +kernel
theorem dX1_loggedIn_5 : decode cX1_loggedIn 5 = .ok (.iload 4, 2) := by decide +kernel
theorem dX1_loggedIn_7 : decode cX1_loggedIn 7 = .ok (.bipush 10, 2) := by decide +kernel
theorem dX1_loggedIn_9 : decode cX1_loggedIn 9 = .ok (.if_icmp .ge 37, 3) := by decide +kernel
theorem dX1_loggedIn_12 : decode cX1_loggedIn 12 = .ok (.iload 4, 2) := by decide +kernel
theorem dX1_loggedIn_14 : decode cX1_loggedIn 14 = .ok (.iload_n 2, 1) := by decide +kernel
theorem dX1_loggedIn_15 : decode cX1_loggedIn 15 = .ok (.iadd, 1) := by decide +kernel
theorem dX1_loggedIn_16 : decode cX1_loggedIn 16 = .ok (.aload_n 0, 1) := by decide +kernel
theorem dX1_loggedIn_17 : decode cX1_loggedIn 17 = .ok (.getfield 19, 3) := by decide +kernel
theorem dX1_loggedIn_20 : decode cX1_loggedIn 20 = .ok (.iload_n 1, 1) := by decide +kernel
theorem dX1_loggedIn_21 : decode cX1_loggedIn 21 = .ok (.iaload, 1) := by decide +kernel
theorem dX1_loggedIn_22 : decode cX1_loggedIn 22 = .ok (.if_icmp .ge 18, 3) := by decide +kernel
theorem dX1_loggedIn_25 : decode cX1_loggedIn 25 = .ok (.iload_n 3, 1) := by decide +kernel
theorem dX1_loggedIn_26 : decode cX1_loggedIn 26 = .ok (.aload_n 0, 1) := by decide +kernel
theorem dX1_loggedIn_27 : decode cX1_loggedIn 27 = .ok (.getfield 25, 3) := by decide +kernel
theorem dX1_loggedIn_30 : decode cX1_loggedIn 30 = .ok (.iload_n 1, 1) := by decide +kernel
theorem dX1_loggedIn_31 : decode cX1_loggedIn 31 = .ok (.bipush 10, 2) := by decide +kernel
theorem dX1_loggedIn_33 : decode cX1_loggedIn 33 = .ok (.imul, 1) := by decide +kernel
theorem dX1_loggedIn_34 : decode cX1_loggedIn 34 = .ok (.iload 4, 2) := by decide +kernel
theorem dX1_loggedIn_36 : decode cX1_loggedIn 36 = .ok (.iadd, 1) := by decide +kernel
theorem dX1_loggedIn_37 : decode cX1_loggedIn 37 = .ok (.iaload, 1) := by decide +kernel
theorem dX1_loggedIn_38 : decode cX1_loggedIn 38 = .ok (.iadd, 1) := by decide +kernel
theorem dX1_loggedIn_39 : decode cX1_loggedIn 39 = .ok (.istore_n 3, 1) := by decide +kernel
theorem dX1_loggedIn_40 : decode cX1_loggedIn 40 = .ok (.iinc 4 1, 3) := by decide +kernel
theorem dX1_loggedIn_43 : decode cX1_loggedIn 43 = .ok (.goto (-38), 3) := by decide +kernel
theorem dX1_loggedIn_46 : decode cX1_loggedIn 46 = .ok (.iload_n 3, 1) := by decide +kernel
theorem dX1_loggedIn_47 : decode cX1_loggedIn 47 = .ok (.ireturn, 1) := by decide +kernel
theorem dX1_grant_0 : decode cX1_grant 0 = .ok (.aload_n 0, 1) := by decide +kernel
theorem dX1_grant_1 : decode cX1_grant 1 = .ok (.getfield 31, 3) := by decide +kernel
theorem dX1_grant_4 : decode cX1_grant 4 = .ok (.iload_n 1, 1) := by decide +kernel
theorem dX1_grant_5 : decode cX1_grant 5 = .ok (.aload_n 0, 1) := by decide +kernel
theorem dX1_grant_6 : decode cX1_grant 6 = .ok (.getfield 31, 3) := by decide +kernel
theorem dX1_grant_9 : decode cX1_grant 9 = .ok (.iload_n 1, 1) := by decide +kernel
theorem dX1_grant_10 : decode cX1_grant 10 = .ok (.iaload, 1) := by decide +kernel
theorem dX1_grant_11 : decode cX1_grant 11 = .ok (.iload_n 2, 1) := by decide +kernel
theorem dX1_grant_12 : decode cX1_grant 12 = .ok (.iadd, 1) := by decide +kernel
theorem dX1_grant_13 : decode cX1_grant 13 = .ok (.iastore, 1) := by decide +kernel
theorem dX1_grant_14 : decode cX1_grant 14 = .ok (.aload_n 0, 1) := by decide +kernel
theorem dX1_grant_15 : decode cX1_grant 15 = .ok (.getfield 7, 3) := by decide +kernel
theorem dX1_grant_18 : decode cX1_grant 18 = .ok (.iload_n 1, 1) := by decide +kernel
theorem dX1_grant_19 : decode cX1_grant 19 = .ok (.iaload, 1) := by decide +kernel
theorem dX1_grant_20 : decode cX1_grant 20 = .ok (.ifCond .ne 20, 3) := by decide +kernel
theorem dX1_grant_23 : decode cX1_grant 23 = .ok (.aload_n 0, 1) := by decide +kernel
theorem dX1_grant_24 : decode cX1_grant 24 = .ok (.getfield 22, 3) := by decide +kernel
theorem dX1_grant_27 : decode cX1_grant 27 = .ok (.iload_n 1, 1) := by decide +kernel
theorem dX1_grant_28 : decode cX1_grant 28 = .ok (.aload_n 0, 1) := by decide +kernel
theorem dX1_grant_29 : decode cX1_grant 29 = .ok (.getfield 22, 3) := by decide +kernel
theorem dX1_grant_32 : decode cX1_grant 32 = .ok (.iload_n 1, 1) := by decide +kernel
theorem dX1_grant_33 : decode cX1_grant 33 = .ok (.iaload, 1) := by decide +kernel
theorem dX1_grant_34 : decode cX1_grant 34 = .ok (.iload_n 2, 1) := by decide +kernel
theorem dX1_grant_35 : decode cX1_grant 35 = .ok (.isub, 1) := by decide +kernel
theorem dX1_grant_36 : decode cX1_grant 36 = .ok (.iastore, 1) := by decide +kernel
theorem dX1_grant_37 : decode cX1_grant 37 = .ok (.goto 79, 3) := by decide +kernel
theorem dX1_grant_40 : decode cX1_grant 40 = .ok (.aload_n 0, 1) := by decide +kernel
theorem dX1_grant_41 : decode cX1_grant 41 = .ok (.getfield 7, 3) := by decide +kernel
theorem dX1_grant_44 : decode cX1_grant 44 = .ok (.iload_n 1, 1) := by decide +kernel
theorem dX1_grant_45 : decode cX1_grant 45 = .ok (.iaload, 1) := by decide +kernel
theorem dX1_grant_46 : decode cX1_grant 46 = .ok (.iconst 1, 1) := by decide +kernel
theorem dX1_grant_47 : decode cX1_grant 47 = .ok (.if_icmp .ne 26, 3) := by decide +kernel
theorem dX1_grant_50 : decode cX1_grant 50 = .ok (.aload_n 0, 1) := by decide +kernel
theorem dX1_grant_51 : decode cX1_grant 51 = .ok (.getfield 25, 3) := by decide +kernel
theorem dX1_grant_54 : decode cX1_grant 54 = .ok (.iload_n 1, 1) := by decide +kernel
theorem dX1_grant_55 : decode cX1_grant 55 = .ok (.bipush 10, 2) := by decide +kernel
theorem dX1_grant_57 : decode cX1_grant 57 = .ok (.imul, 1) := by decide +kernel
theorem dX1_grant_58 : decode cX1_grant 58 = .ok (.aload_n 0, 1) := by decide +kernel
theorem dX1_grant_59 : decode cX1_grant 59 = .ok (.getfield 25, 3) := by decide +kernel
theorem dX1_grant_62 : decode cX1_grant 62 = .ok (.iload_n 1, 1) := by decide +kernel
theorem dX1_grant_63 : decode cX1_grant 63 = .ok (.bipush 10, 2) := by decide +kernel
theorem dX1_grant_65 : decode cX1_grant 65 = .ok (.imul, 1) := by decide +kernel
theorem dX1_grant_66 : decode cX1_grant 66 = .ok (.iaload, 1) := by decide +kernel
theorem dX1_grant_67 : decode cX1_grant 67 = .ok (.iload_n 2, 1) := by decide +kernel
theorem dX1_grant_68 : decode cX1_grant 68 = .ok (.iadd, 1) := by decide +kernel
theorem dX1_grant_69 : decode cX1_grant 69 = .ok (.iastore, 1) := by decide +kernel
theorem dX1_grant_70 : decode cX1_grant 70 = .ok (.goto 46, 3) := by decide +kernel
theorem dX1_grant_73 : decode cX1_grant 73 = .ok (.aload_n 0, 1) := by decide +kernel
theorem dX1_grant_74 : decode cX1_grant 74 = .ok (.getfield 28, 3) := by decide +kernel
theorem dX1_grant_77 : decode cX1_grant 77 = .ok (.iload_n 1, 1) := by decide +kernel
theorem dX1_grant_78 : decode cX1_grant 78 = .ok (.iaload, 1) := by decide +kernel
theorem dX1_grant_79 : decode cX1_grant 79 = .ok (.aload_n 0, 1) := by decide +kernel
theorem dX1_grant_80 : decode cX1_grant 80 = .ok (.getfield 53, 3) := by decide +kernel
theorem dX1_grant_83 : decode cX1_grant 83 = .ok (.if_icmp .le 12, 3) := by decide +kernel
theorem dX1_grant_86 : decode cX1_grant 86 = .ok (.aload_n 0, 1) := by decide +kernel
theorem dX1_grant_87 : decode cX1_grant 87 = .ok (.getfield 28, 3) := by decide +kernel
theorem dX1_grant_90 : decode cX1_grant 90 = .ok (.iload_n 1, 1) := by decide +kernel
theorem dX1_grant_91 : decode cX1_grant 91 = .ok (.iaload, 1) := by decide +kernel
theorem dX1_grant_92 : decode cX1_grant 92 = .ok (.goto 7, 3) := by decide +kernel
theorem dX1_grant_95 : decode cX1_grant 95 = .ok (.aload_n 0, 1) := by decide +kernel
theorem dX1_grant_96 : decode cX1_grant 96 = .ok (.getfield 53, 3) := by decide +kernel
theorem dX1_grant_99 : decode cX1_grant 99 = .ok (.istore_n 3, 1) := by decide +kernel
theorem dX1_grant_100 : decode cX1_grant 100 = .ok (.aload_n 0, 1) := by decide +kernel
theorem dX1_grant_101 : decode cX1_grant 101 = .ok (.getfield 28, 3) := by decide +kernel
theorem dX1_grant_104 : decode cX1_grant 104 = .ok (.iload_n 1, 1) := by decide +kernel
theorem dX1_grant_105 : decode cX1_grant 105 = .ok (.iload_n 3, 1) := by decide +kernel
theorem dX1_grant_106 : decode cX1_grant 106 = .ok (.iload_n 2, 1) := by decide +kernel
theorem dX1_grant_107 : decode cX1_grant 107 = .ok (.aload_n 0, 1) := by decide +kernel
theorem dX1_grant_108 : decode cX1_grant 108 = .ok (.getfield 19, 3) := by decide +kernel
theorem dX1_grant_111 : decode cX1_grant 111 = .ok (.iload_n 1, 1) := by decide +kernel
theorem dX1_grant_112 : decode cX1_grant 112 = .ok (.iaload, 1) := by decide +kernel
theorem dX1_grant_113 : decode cX1_grant 113 = .ok (.imul, 1) := by decide +kernel
theorem dX1_grant_114 : decode cX1_grant 114 = .ok (.iadd, 1) := by decide +kernel
theorem dX1_grant_115 : decode cX1_grant 115 = .ok (.iastore, 1) := by decide +kernel
theorem dX1_grant_116 : decode cX1_grant 116 = .ok (.return_, 1) := by decide +kernel
theorem dX1_pass_0 : decode cX1_pass 0 = .ok (.iload_n 1, 1) := by decide +kernel
theorem dX1_pass_1 : decode cX1_pass 1 = .ok (.ifCond .lt 10, 3) := by decide +kernel
theorem dX1_pass_4 : decode cX1_pass 4 = .ok (.iload_n 1, 1) := by decide +kernel
theorem dX1_pass_5 : decode cX1_pass 5 = .ok (.sipush 1000, 3) := by decide +kernel
theorem dX1_pass_8 : decode cX1_pass 8 = .ok (.if_icmp .le 6, 3) := by decide +kernel
theorem dX1_pass_11 : decode cX1_pass 11 = .ok (.bipush (-3), 2) := by decide +kernel
theorem dX1_pass_13 : decode cX1_pass 13 = .ok (.ireturn, 1) := by decide +kernel
theorem dX1_pass_14 : decode cX1_pass 14 = .ok (.aload_n 0, 1) := by decide +kernel
theorem dX1_pass_15 : decode cX1_pass 15 = .ok (.getfield 53, 3) := by decide +kernel
theorem dX1_pass_18 : decode cX1_pass 18 = .ok (.iload_n 1, 1) := by decide +kernel
theorem dX1_pass_19 : decode cX1_pass 19 = .ok (.iadd, 1) := by decide +kernel
theorem dX1_pass_20 : decode cX1_pass 20 = .ok (.ldc 71, 2) := by decide +kernel
theorem dX1_pass_22 : decode cX1_pass 22 = .ok (.if_icmp .le 6, 3) := by decide +kernel
theorem dX1_pass_25 : decode cX1_pass 25 = .ok (.bipush (-4), 2) := by decide +kernel
theorem dX1_pass_27 : decode cX1_pass 27 = .ok (.ireturn, 1) := by decide +kernel
theorem dX1_pass_28 : decode cX1_pass 28 = .ok (.aload_n 0, 1) := by decide +kernel
theorem dX1_pass_29 : decode cX1_pass 29 = .ok (.aload_n 0, 1) := by decide +kernel
theorem dX1_pass_30 : decode cX1_pass 30 = .ok (.getfield 53, 3) := by decide +kernel
theorem dX1_pass_33 : decode cX1_pass 33 = .ok (.iload_n 1, 1) := by decide +kernel
theorem dX1_pass_34 : decode cX1_pass 34 = .ok (.iadd, 1) := by decide +kernel
theorem dX1_pass_35 : decode cX1_pass 35 = .ok (.putfield 53, 3) := by decide +kernel
theorem dX1_pass_38 : decode cX1_pass 38 = .ok (.iconst 0, 1) := by decide +kernel
theorem dX1_pass_39 : decode cX1_pass 39 = .ok (.istore_n 2, 1) := by decide +kernel
theorem dX1_pass_40 : decode cX1_pass 40 = .ok (.iload_n 2, 1) := by decide +kernel
theorem dX1_pass_41 : decode cX1_pass 41 = .ok (.iconst 4, 1) := by decide +kernel
theorem dX1_pass_42 : decode cX1_pass 42 = .ok (.if_icmp .ge 67, 3) := by decide +kernel
theorem dX1_pass_45 : decode cX1_pass 45 = .ok (.aload_n 0, 1) := by decide +kernel
theorem dX1_pass_46 : decode cX1_pass 46 = .ok (.getfield 22, 3) := by decide +kernel
theorem dX1_pass_49 : decode cX1_pass 49 = .ok (.iload_n 2, 1) := by decide +kernel
theorem dX1_pass_50 : decode cX1_pass 50 = .ok (.aload_n 0, 1) := by decide +kernel
theorem dX1_pass_51 : decode cX1_pass 51 = .ok (.iload_n 2, 1) := by decide +kernel
theorem dX1_pass_52 : decode cX1_pass 52 = .ok (.iload_n 1, 1) := by decide +kernel
theorem dX1_pass_53 : decode cX1_pass 53 = .ok (.invokevirtual 46, 3) := by decide +kernel
theorem dX1_pass_56 : decode cX1_pass 56 = .ok (.iastore, 1) := by decide +kernel
theorem dX1_pass_57 : decode cX1_pass 57 = .ok (.bipush 9, 2) := by decide +kernel
theorem dX1_pass_59 : decode cX1_pass 59 = .ok (.istore_n 3, 1) := by decide +kernel
theorem dX1_pass_60 : decode cX1_pass 60 = .ok (.iload_n 3, 1) := by decide +kernel
theorem dX1_pass_61 : decode cX1_pass 61 = .ok (.ifCond .lt 42, 3) := by decide +kernel
theorem dX1_pass_64 : decode cX1_pass 64 = .ok (.aload_n 0, 1) := by decide +kernel
theorem dX1_pass_65 : decode cX1_pass 65 = .ok (.getfield 25, 3) := by decide +kernel
theorem dX1_pass_68 : decode cX1_pass 68 = .ok (.iload_n 2, 1) := by decide +kernel
theorem dX1_pass_69 : decode cX1_pass 69 = .ok (.bipush 10, 2) := by decide +kernel
theorem dX1_pass_71 : decode cX1_pass 71 = .ok (.imul, 1) := by decide +kernel
theorem dX1_pass_72 : decode cX1_pass 72 = .ok (.iload_n 3, 1) := by decide +kernel
theorem dX1_pass_73 : decode cX1_pass 73 = .ok (.iadd, 1) := by decide +kernel
theorem dX1_pass_74 : decode cX1_pass 74 = .ok (.iload_n 3, 1) := by decide +kernel
theorem dX1_pass_75 : decode cX1_pass 75 = .ok (.iload_n 1, 1) := by decide +kernel
theorem dX1_pass_76 : decode cX1_pass 76 = .ok (.if_icmp .lt 19, 3) := by decide +kernel
theorem dX1_pass_79 : decode cX1_pass 79 = .ok (.aload_n 0, 1) := by decide +kernel
theorem dX1_pass_80 : decode cX1_pass 80 = .ok (.getfield 25, 3) := by decide +kernel
theorem dX1_pass_83 : decode cX1_pass 83 = .ok (.iload_n 2, 1) := by decide +kernel
theorem dX1_pass_84 : decode cX1_pass 84 = .ok (.bipush 10, 2) := by decide +kernel
theorem dX1_pass_86 : decode cX1_pass 86 = .ok (.imul, 1) := by decide +kernel
theorem dX1_pass_87 : decode cX1_pass 87 = .ok (.iload_n 3, 1) := by decide +kernel
theorem dX1_pass_88 : decode cX1_pass 88 = .ok (.iadd, 1) := by decide +kernel
theorem dX1_pass_89 : decode cX1_pass 89 = .ok (.iload_n 1, 1) := by decide +kernel
theorem dX1_pass_90 : decode cX1_pass 90 = .ok (.isub, 1) := by decide +kernel
theorem dX1_pass_91 : decode cX1_pass 91 = .ok (.iaload, 1) := by decide +kernel
theorem dX1_pass_92 : decode cX1_pass 92 = .ok (.goto 4, 3) := by decide +kernel
theorem dX1_pass_95 : decode cX1_pass 95 = .ok (.iconst 0, 1) := by decide +kernel
theorem dX1_pass_96 : decode cX1_pass 96 = .ok (.iastore, 1) := by decide +kernel
theorem dX1_pass_97 : decode cX1_pass 97 = .ok (.iinc 3 (-1), 3) := by decide +kernel
theorem dX1_pass_100 : decode cX1_pass 100 = .ok (.goto (-40), 3) := by decide +kernel
theorem dX1_pass_103 : decode cX1_pass 103 = .ok (.iinc 2 1, 3) := by decide +kernel
theorem dX1_pass_106 : decode cX1_pass 106 = .ok (.goto (-66), 3) := by decide +kernel
theorem dX1_pass_109 : decode cX1_pass 109 = .ok (.aload_n 0, 1) := by decide +kernel
theorem dX1_pass_110 : decode cX1_pass 110 = .ok (.getfield 53, 3) := by decide +kernel
theorem dX1_pass_113 : decode cX1_pass 113 = .ok (.ireturn, 1) := by decide +kernel
theorem dX1_waitFor_0 : decode cX1_waitFor 0 = .ok (.aload_n 0, 1) := by decide +kernel
theorem dX1_waitFor_1 : decode cX1_waitFor 1 = .ok (.iload_n 1, 1) := by decide +kernel
theorem dX1_waitFor_2 : decode cX1_waitFor 2 = .ok (.invokevirtual 42, 3) := by decide +kernel
theorem dX1_waitFor_5 : decode cX1_waitFor 5 = .ok (.ifCond .eq 5, 3) := by decide +kernel
theorem dX1_waitFor_8 : decode cX1_waitFor 8 = .ok (.iconst (-1), 1) := by decide +kernel
theorem dX1_waitFor_9 : decode cX1_waitFor 9 = .ok (.ireturn, 1) := by decide +kernel
theorem dX1_waitFor_10 : decode cX1_waitFor 10 = .ok (.aload_n 0, 1) := by decide +kernel
theorem dX1_waitFor_11 : decode cX1_waitFor 11 = .ok (.iload_n 2, 1) := by decide +kernel
theorem dX1_waitFor_12 : decode cX1_waitFor 12 = .ok (.invokevirtual 60, 3) := by decide +kernel
theorem dX1_waitFor_15 : decode cX1_waitFor 15 = .ok (.ifCond .eq 6, 3) := by decide +kernel
theorem dX1_waitFor_18 : decode cX1_waitFor 18 = .ok (.bipush (-3), 2) := by decide +kernel
theorem dX1_waitFor_20 : decode cX1_waitFor 20 = .ok (.ireturn, 1) := by decide +kernel
theorem dX1_waitFor_21 : decode cX1_waitFor 21 = .ok (.iconst 0, 1) := by decide +kernel
theorem dX1_waitFor_22 : decode cX1_waitFor 22 = .ok (.istore_n 3, 1) := by decide +kernel
theorem dX1_waitFor_23 : decode cX1_waitFor 23 = .ok (.iload_n 3, 1) := by decide +kernel
theorem dX1_waitFor_24 : decode cX1_waitFor 24 = .ok (.sipush 300, 3) := by decide +kernel
theorem dX1_waitFor_27 : decode cX1_waitFor 27 = .ok (.if_icmp .gt 21, 3) := by decide +kernel
theorem dX1_waitFor_30 : decode cX1_waitFor 30 = .ok (.aload_n 0, 1) := by decide +kernel
theorem dX1_waitFor_31 : decode cX1_waitFor 31 = .ok (.iload_n 1, 1) := by decide +kernel
theorem dX1_waitFor_32 : decode cX1_waitFor 32 = .ok (.iload_n 2, 1) := by decide +kernel
theorem dX1_waitFor_33 : decode cX1_waitFor 33 = .ok (.iload_n 3, 1) := by decide +kernel
theorem dX1_waitFor_34 : decode cX1_waitFor 34 = .ok (.invokevirtual 63, 3) := by decide +kernel
theorem dX1_waitFor_37 : decode cX1_waitFor 37 = .ok (.ifCond .eq 5, 3) := by decide +kernel
theorem dX1_waitFor_40 : decode cX1_waitFor 40 = .ok (.iload_n 3, 1) := by decide +kernel
theorem dX1_waitFor_41 : decode cX1_waitFor 41 = .ok (.ireturn, 1) := by decide +kernel
theorem dX1_waitFor_42 : decode cX1_waitFor 42 = .ok (.iinc 3 1, 3) := by decide +kernel
theorem dX1_waitFor_45 : decode cX1_waitFor 45 = .ok (.goto (-22), 3) := by decide +kernel
theorem dX1_waitFor_48 : decode cX1_waitFor 48 = .ok (.bipush (-4), 2) := by decide +kernel
theorem dX1_waitFor_50 : decode cX1_waitFor 50 = .ok (.ireturn, 1) := by decide +kernel
theorem dX1_room_0 : decode cX1_room 0 = .ok (.aload_n 0, 1) := by decide +kernel
theorem dX1_room_1 : decode cX1_room 1 = .ok (.iload_n 1, 1) := by decide +kernel
theorem dX1_room_2 : decode cX1_room 2 = .ok (.invokevirtual 42, 3) := by decide +kernel
theorem dX1_room_5 : decode cX1_room 5 = .ok (.ifCond .eq 5, 3) := by decide +kernel
theorem dX1_room_8 : decode cX1_room 8 = .ok (.iconst (-1), 1) := by decide +kernel
theorem dX1_room_9 : decode cX1_room 9 = .ok (.ireturn, 1) := by decide +kernel
theorem dX1_room_10 : decode cX1_room 10 = .ok (.iconst 0, 1) := by decide +kernel
theorem dX1_room_11 : decode cX1_room 11 = .ok (.istore_n 2, 1) := by decide +kernel
theorem dX1_room_12 : decode cX1_room 12 = .ok (.iconst 1, 1) := by decide +kernel
theorem dX1_room_13 : decode cX1_room 13 = .ok (.istore_n 3, 1) := by decide +kernel
theorem dX1_room_14 : decode cX1_room 14 = .ok (.iload_n 3, 1) := by decide +kernel
theorem dX1_room_15 : decode cX1_room 15 = .ok (.bipush 20, 2) := by decide +kernel
theorem dX1_room_17 : decode cX1_room 17 = .ok (.if_icmp .gt 21, 3) := by decide +kernel
theorem dX1_room_20 : decode cX1_room 20 = .ok (.aload_n 0, 1) := by decide +kernel
theorem dX1_room_21 : decode cX1_room 21 = .ok (.iload_n 1, 1) := by decide +kernel
theorem dX1_room_22 : decode cX1_room 22 = .ok (.iload_n 3, 1) := by decide +kernel
theorem dX1_room_23 : decode cX1_room 23 = .ok (.iconst 0, 1) := by decide +kernel
theorem dX1_room_24 : decode cX1_room 24 = .ok (.invokevirtual 63, 3) := by decide +kernel
theorem dX1_room_27 : decode cX1_room 27 = .ok (.ifCond .eq 5, 3) := by decide +kernel
theorem dX1_room_30 : decode cX1_room 30 = .ok (.iload_n 3, 1) := by decide +kernel
theorem dX1_room_31 : decode cX1_room 31 = .ok (.istore_n 2, 1) := by decide +kernel
theorem dX1_room_32 : decode cX1_room 32 = .ok (.iinc 3 1, 3) := by decide +kernel
theorem dX1_room_35 : decode cX1_room 35 = .ok (.goto (-21), 3) := by decide +kernel
theorem dX1_room_38 : decode cX1_room 38 = .ok (.iload_n 2, 1) := by decide +kernel
theorem dX1_room_39 : decode cX1_room 39 = .ok (.ireturn, 1) := by decide +kernel
theorem dX1_granted_0 : decode cX1_granted 0 = .ok (.aload_n 0, 1) := by decide +kernel
theorem dX1_granted_1 : decode cX1_granted 1 = .ok (.iload_n 1, 1) := by decide +kernel
theorem dX1_granted_2 : decode cX1_granted 2 = .ok (.invokevirtual 42, 3) := by decide +kernel
theorem dX1_granted_5 : decode cX1_granted 5 = .ok (.ifCond .eq 7, 3) := by decide +kernel
theorem dX1_granted_8 : decode cX1_granted 8 = .ok (.iconst (-1), 1) := by decide +kernel
theorem dX1_granted_9 : decode cX1_granted 9 = .ok (.goto 9, 3) := by decide +kernel
theorem dX1_granted_12 : decode cX1_granted 12 = .ok (.aload_n 0, 1) := by decide +kernel
theorem dX1_granted_13 : decode cX1_granted 13 = .ok (.getfield 31, 3) := by decide +kernel
theorem dX1_granted_16 : decode cX1_granted 16 = .ok (.iload_n 1, 1) := by decide +kernel
theorem dX1_granted_17 : decode cX1_granted 17 = .ok (.iaload, 1) := by decide +kernel
theorem dX1_granted_18 : decode cX1_granted 18 = .ok (.ireturn, 1) := by decide +kernel
theorem dX1_denied_0 : decode cX1_denied 0 = .ok (.aload_n 0, 1) := by decide +kernel
theorem dX1_denied_1 : decode cX1_denied 1 = .ok (.iload_n 1, 1) := by decide +kernel
theorem dX1_denied_2 : decode cX1_denied 2 = .ok (.invokevirtual 42, 3) := by decide +kernel
theorem dX1_denied_5 : decode cX1_denied 5 = .ok (.ifCond .eq 7, 3) := by decide +kernel
theorem dX1_denied_8 : decode cX1_denied 8 = .ok (.iconst (-1), 1) := by decide +kernel
theorem dX1_denied_9 : decode cX1_denied 9 = .ok (.goto 9, 3) := by decide +kernel
theorem dX1_denied_12 : decode cX1_denied 12 = .ok (.aload_n 0, 1) := by decide +kernel
theorem dX1_denied_13 : decode cX1_denied 13 = .ok (.getfield 34, 3) := by decide +kernel
theorem dX1_denied_16 : decode cX1_denied 16 = .ok (.iload_n 1, 1) := by decide +kernel
theorem dX1_denied_17 : decode cX1_denied 17 = .ok (.iaload, 1) := by decide +kernel
theorem dX1_denied_18 : decode cX1_denied 18 = .ok (.ireturn, 1) := by decide +kernel
theorem dX1_time_0 : decode cX1_time 0 = .ok (.aload_n 0, 1) := by decide +kernel
theorem dX1_time_1 : decode cX1_time 1 = .ok (.getfield 53, 3) := by decide +kernel
theorem dX1_time_4 : decode cX1_time 4 = .ok (.ireturn, 1) := by decide +kernel
end
section
set_option maxRecDepth 100000
theorem dL_law_0 : decode cL_law 0 = .ok (.new 7, 3) := by decide +kernel
theorem dL_law_3 : decode cL_law 3 = .ok (.dup, 1) := by decide +kernel
theorem dL_law_4 : decode cL_law 4 = .ok (.invokespecial 9, 3) := by decide +kernel
theorem dL_law_7 : decode cL_law 7 = .ok (.astore_n 1, 1) := by decide +kernel
theorem dL_law_8 : decode cL_law 8 = .ok (.new 10, 3) := by decide +kernel
theorem dL_law_11 : decode cL_law 11 = .ok (.dup, 1) := by decide +kernel
theorem dL_law_12 : decode cL_law 12 = .ok (.invokespecial 12, 3) := by decide +kernel
theorem dL_law_15 : decode cL_law 15 = .ok (.astore_n 2, 1) := by decide +kernel
theorem dL_law_16 : decode cL_law 16 = .ok (.iconst 0, 1) := by decide +kernel
theorem dL_law_17 : decode cL_law 17 = .ok (.istore_n 3, 1) := by decide +kernel
theorem dL_law_18 : decode cL_law 18 = .ok (.iload_n 3, 1) := by decide +kernel
theorem dL_law_19 : decode cL_law 19 = .ok (.aload_n 0, 1) := by decide +kernel
theorem dL_law_20 : decode cL_law 20 = .ok (.arraylength, 1) := by decide +kernel
theorem dL_law_21 : decode cL_law 21 = .ok (.iconst 4, 1) := by decide +kernel
theorem dL_law_22 : decode cL_law 22 = .ok (.isub, 1) := by decide +kernel
theorem dL_law_23 : decode cL_law 23 = .ok (.if_icmp .gt 314, 3) := by decide +kernel
theorem dL_law_26 : decode cL_law 26 = .ok (.aload_n 0, 1) := by decide +kernel
theorem dL_law_27 : decode cL_law 27 = .ok (.iload_n 3, 1) := by decide +kernel
theorem dL_law_28 : decode cL_law 28 = .ok (.iaload, 1) := by decide +kernel
theorem dL_law_29 : decode cL_law 29 = .ok (.bipush 15, 2) := by decide +kernel
theorem dL_law_31 : decode cL_law 31 = .ok (.iand, 1) := by decide +kernel
theorem dL_law_32 : decode cL_law 32 = .ok (.tableswitch 299 0 8 #[52, 95, 128, 161, 184, 217, 240, 263, 286], 52) := by decide +kernel
theorem dL_law_84 : decode cL_law 84 = .ok (.aload_n 1, 1) := by decide +kernel
theorem dL_law_85 : decode cL_law 85 = .ok (.aload_n 0, 1) := by decide +kernel
theorem dL_law_86 : decode cL_law 86 = .ok (.iload_n 3, 1) := by decide +kernel
theorem dL_law_87 : decode cL_law 87 = .ok (.iconst 1, 1) := by decide +kernel
theorem dL_law_88 : decode cL_law 88 = .ok (.iadd, 1) := by decide +kernel
theorem dL_law_89 : decode cL_law 89 = .ok (.iaload, 1) := by decide +kernel
theorem dL_law_90 : decode cL_law 90 = .ok (.aload_n 0, 1) := by decide +kernel
theorem dL_law_91 : decode cL_law 91 = .ok (.iload_n 3, 1) := by decide +kernel
theorem dL_law_92 : decode cL_law 92 = .ok (.iconst 2, 1) := by decide +kernel
theorem dL_law_93 : decode cL_law 93 = .ok (.iadd, 1) := by decide +kernel
theorem dL_law_94 : decode cL_law 94 = .ok (.iaload, 1) := by decide +kernel
theorem dL_law_95 : decode cL_law 95 = .ok (.aload_n 0, 1) := by decide +kernel
theorem dL_law_96 : decode cL_law 96 = .ok (.iload_n 3, 1) := by decide +kernel
theorem dL_law_97 : decode cL_law 97 = .ok (.iconst 3, 1) := by decide +kernel
theorem dL_law_98 : decode cL_law 98 = .ok (.iadd, 1) := by decide +kernel
theorem dL_law_99 : decode cL_law 99 = .ok (.iaload, 1) := by decide +kernel
theorem dL_law_100 : decode cL_law 100 = .ok (.invokevirtual 13, 3) := by decide +kernel
theorem dL_law_103 : decode cL_law 103 = .ok (.aload_n 2, 1) := by decide +kernel
theorem dL_law_104 : decode cL_law 104 = .ok (.aload_n 0, 1) := by decide +kernel
theorem dL_law_105 : decode cL_law 105 = .ok (.iload_n 3, 1) := by decide +kernel
theorem dL_law_106 : decode cL_law 106 = .ok (.iconst 1, 1) := by decide +kernel
theorem dL_law_107 : decode cL_law 107 = .ok (.iadd, 1) := by decide +kernel
theorem dL_law_108 : decode cL_law 108 = .ok (.iaload, 1) := by decide +kernel
theorem dL_law_109 : decode cL_law 109 = .ok (.aload_n 0, 1) := by decide +kernel
theorem dL_law_110 : decode cL_law 110 = .ok (.iload_n 3, 1) := by decide +kernel
theorem dL_law_111 : decode cL_law 111 = .ok (.iconst 2, 1) := by decide +kernel
theorem dL_law_112 : decode cL_law 112 = .ok (.iadd, 1) := by decide +kernel
theorem dL_law_113 : decode cL_law 113 = .ok (.iaload, 1) := by decide +kernel
theorem dL_law_114 : decode cL_law 114 = .ok (.aload_n 0, 1) := by decide +kernel
theorem dL_law_115 : decode cL_law 115 = .ok (.iload_n 3, 1) := by decide +kernel
theorem dL_law_116 : decode cL_law 116 = .ok (.iconst 3, 1) := by decide +kernel
theorem dL_law_117 : decode cL_law 117 = .ok (.iadd, 1) := by decide +kernel
theorem dL_law_118 : decode cL_law 118 = .ok (.iaload, 1) := by decide +kernel
theorem dL_law_119 : decode cL_law 119 = .ok (.invokevirtual 17, 3) := by decide +kernel
theorem dL_law_122 : decode cL_law 122 = .ok (.if_icmp .eq 209, 3) := by decide +kernel
theorem dL_law_125 : decode cL_law 125 = .ok (.iconst 0, 1) := by decide +kernel
theorem dL_law_126 : decode cL_law 126 = .ok (.ireturn, 1) := by decide +kernel
theorem dL_law_127 : decode cL_law 127 = .ok (.aload_n 1, 1) := by decide +kernel
theorem dL_law_128 : decode cL_law 128 = .ok (.aload_n 0, 1) := by decide +kernel
theorem dL_law_129 : decode cL_law 129 = .ok (.iload_n 3, 1) := by decide +kernel
theorem dL_law_130 : decode cL_law 130 = .ok (.iconst 1, 1) := by decide +kernel
theorem dL_law_131 : decode cL_law 131 = .ok (.iadd, 1) := by decide +kernel
theorem dL_law_132 : decode cL_law 132 = .ok (.iaload, 1) := by decide +kernel
theorem dL_law_133 : decode cL_law 133 = .ok (.aload_n 0, 1) := by decide +kernel
theorem dL_law_134 : decode cL_law 134 = .ok (.iload_n 3, 1) := by decide +kernel
theorem dL_law_135 : decode cL_law 135 = .ok (.iconst 2, 1) := by decide +kernel
theorem dL_law_136 : decode cL_law 136 = .ok (.iadd, 1) := by decide +kernel
theorem dL_law_137 : decode cL_law 137 = .ok (.iaload, 1) := by decide +kernel
theorem dL_law_138 : decode cL_law 138 = .ok (.invokevirtual 18, 3) := by decide +kernel
theorem dL_law_141 : decode cL_law 141 = .ok (.aload_n 2, 1) := by decide +kernel
theorem dL_law_142 : decode cL_law 142 = .ok (.aload_n 0, 1) := by decide +kernel
theorem dL_law_143 : decode cL_law 143 = .ok (.iload_n 3, 1) := by decide +kernel
theorem dL_law_144 : decode cL_law 144 = .ok (.iconst 1, 1) := by decide +kernel
theorem dL_law_145 : decode cL_law 145 = .ok (.iadd, 1) := by decide +kernel
theorem dL_law_146 : decode cL_law 146 = .ok (.iaload, 1) := by decide +kernel
theorem dL_law_147 : decode cL_law 147 = .ok (.aload_n 0, 1) := by decide +kernel
theorem dL_law_148 : decode cL_law 148 = .ok (.iload_n 3, 1) := by decide +kernel
theorem dL_law_149 : decode cL_law 149 = .ok (.iconst 2, 1) := by decide +kernel
theorem dL_law_150 : decode cL_law 150 = .ok (.iadd, 1) := by decide +kernel
theorem dL_law_151 : decode cL_law 151 = .ok (.iaload, 1) := by decide +kernel
theorem dL_law_152 : decode cL_law 152 = .ok (.invokevirtual 22, 3) := by decide +kernel
theorem dL_law_155 : decode cL_law 155 = .ok (.if_icmp .eq 176, 3) := by decide +kernel
theorem dL_law_158 : decode cL_law 158 = .ok (.iconst 0, 1) := by decide +kernel
theorem dL_law_159 : decode cL_law 159 = .ok (.ireturn, 1) := by decide +kernel
theorem dL_law_160 : decode cL_law 160 = .ok (.aload_n 1, 1) := by decide +kernel
theorem dL_law_161 : decode cL_law 161 = .ok (.aload_n 0, 1) := by decide +kernel
theorem dL_law_162 : decode cL_law 162 = .ok (.iload_n 3, 1) := by decide +kernel
theorem dL_law_163 : decode cL_law 163 = .ok (.iconst 1, 1) := by decide +kernel
theorem dL_law_164 : decode cL_law 164 = .ok (.iadd, 1) := by decide +kernel
theorem dL_law_165 : decode cL_law 165 = .ok (.iaload, 1) := by decide +kernel
theorem dL_law_166 : decode cL_law 166 = .ok (.aload_n 0, 1) := by decide +kernel
theorem dL_law_167 : decode cL_law 167 = .ok (.iload_n 3, 1) := by decide +kernel
theorem dL_law_168 : decode cL_law 168 = .ok (.iconst 2, 1) := by decide +kernel
theorem dL_law_169 : decode cL_law 169 = .ok (.iadd, 1) := by decide +kernel
theorem dL_law_170 : decode cL_law 170 = .ok (.iaload, 1) := by decide +kernel
theorem dL_law_171 : decode cL_law 171 = .ok (.invokevirtual 23, 3) := by decide +kernel
theorem dL_law_174 : decode cL_law 174 = .ok (.aload_n 2, 1) := by decide +kernel
theorem dL_law_175 : decode cL_law 175 = .ok (.aload_n 0, 1) := by decide +kernel
theorem dL_law_176 : decode cL_law 176 = .ok (.iload_n 3, 1) := by decide +kernel
theorem dL_law_177 : decode cL_law 177 = .ok (.iconst 1, 1) := by decide +kernel
theorem dL_law_178 : decode cL_law 178 = .ok (.iadd, 1) := by decide +kernel
theorem dL_law_179 : decode cL_law 179 = .ok (.iaload, 1) := by decide +kernel
theorem dL_law_180 : decode cL_law 180 = .ok (.aload_n 0, 1) := by decide +kernel
theorem dL_law_181 : decode cL_law 181 = .ok (.iload_n 3, 1) := by decide +kernel
theorem dL_law_182 : decode cL_law 182 = .ok (.iconst 2, 1) := by decide +kernel
theorem dL_law_183 : decode cL_law 183 = .ok (.iadd, 1) := by decide +kernel
theorem dL_law_184 : decode cL_law 184 = .ok (.iaload, 1) := by decide +kernel
theorem dL_law_185 : decode cL_law 185 = .ok (.invokevirtual 26, 3) := by decide +kernel
theorem dL_law_188 : decode cL_law 188 = .ok (.if_icmp .eq 143, 3) := by decide +kernel
theorem dL_law_191 : decode cL_law 191 = .ok (.iconst 0, 1) := by decide +kernel
theorem dL_law_192 : decode cL_law 192 = .ok (.ireturn, 1) := by decide +kernel
theorem dL_law_193 : decode cL_law 193 = .ok (.aload_n 1, 1) := by decide +kernel
theorem dL_law_194 : decode cL_law 194 = .ok (.aload_n 0, 1) := by decide +kernel
theorem dL_law_195 : decode cL_law 195 = .ok (.iload_n 3, 1) := by decide +kernel
theorem dL_law_196 : decode cL_law 196 = .ok (.iconst 1, 1) := by decide +kernel
theorem dL_law_197 : decode cL_law 197 = .ok (.iadd, 1) := by decide +kernel
theorem dL_law_198 : decode cL_law 198 = .ok (.iaload, 1) := by decide +kernel
theorem dL_law_199 : decode cL_law 199 = .ok (.invokevirtual 27, 3) := by decide +kernel
theorem dL_law_202 : decode cL_law 202 = .ok (.aload_n 2, 1) := by decide +kernel
theorem dL_law_203 : decode cL_law 203 = .ok (.aload_n 0, 1) := by decide +kernel
theorem dL_law_204 : decode cL_law 204 = .ok (.iload_n 3, 1) := by decide +kernel
theorem dL_law_205 : decode cL_law 205 = .ok (.iconst 1, 1) := by decide +kernel
theorem dL_law_206 : decode cL_law 206 = .ok (.iadd, 1) := by decide +kernel
theorem dL_law_207 : decode cL_law 207 = .ok (.iaload, 1) := by decide +kernel
theorem dL_law_208 : decode cL_law 208 = .ok (.invokevirtual 31, 3) := by decide +kernel
theorem dL_law_211 : decode cL_law 211 = .ok (.if_icmp .eq 120, 3) := by decide +kernel
theorem dL_law_214 : decode cL_law 214 = .ok (.iconst 0, 1) := by decide +kernel
theorem dL_law_215 : decode cL_law 215 = .ok (.ireturn, 1) := by decide +kernel
theorem dL_law_216 : decode cL_law 216 = .ok (.aload_n 1, 1) := by decide +kernel
theorem dL_law_217 : decode cL_law 217 = .ok (.aload_n 0, 1) := by decide +kernel
theorem dL_law_218 : decode cL_law 218 = .ok (.iload_n 3, 1) := by decide +kernel
theorem dL_law_219 : decode cL_law 219 = .ok (.iconst 1, 1) := by decide +kernel
theorem dL_law_220 : decode cL_law 220 = .ok (.iadd, 1) := by decide +kernel
theorem dL_law_221 : decode cL_law 221 = .ok (.iaload, 1) := by decide +kernel
theorem dL_law_222 : decode cL_law 222 = .ok (.aload_n 0, 1) := by decide +kernel
theorem dL_law_223 : decode cL_law 223 = .ok (.iload_n 3, 1) := by decide +kernel
theorem dL_law_224 : decode cL_law 224 = .ok (.iconst 2, 1) := by decide +kernel
theorem dL_law_225 : decode cL_law 225 = .ok (.iadd, 1) := by decide +kernel
theorem dL_law_226 : decode cL_law 226 = .ok (.iaload, 1) := by decide +kernel
theorem dL_law_227 : decode cL_law 227 = .ok (.invokevirtual 32, 3) := by decide +kernel
theorem dL_law_230 : decode cL_law 230 = .ok (.aload_n 2, 1) := by decide +kernel
theorem dL_law_231 : decode cL_law 231 = .ok (.aload_n 0, 1) := by decide +kernel
theorem dL_law_232 : decode cL_law 232 = .ok (.iload_n 3, 1) := by decide +kernel
theorem dL_law_233 : decode cL_law 233 = .ok (.iconst 1, 1) := by decide +kernel
theorem dL_law_234 : decode cL_law 234 = .ok (.iadd, 1) := by decide +kernel
theorem dL_law_235 : decode cL_law 235 = .ok (.iaload, 1) := by decide +kernel
theorem dL_law_236 : decode cL_law 236 = .ok (.aload_n 0, 1) := by decide +kernel
theorem dL_law_237 : decode cL_law 237 = .ok (.iload_n 3, 1) := by decide +kernel
theorem dL_law_238 : decode cL_law 238 = .ok (.iconst 2, 1) := by decide +kernel
theorem dL_law_239 : decode cL_law 239 = .ok (.iadd, 1) := by decide +kernel
theorem dL_law_240 : decode cL_law 240 = .ok (.iaload, 1) := by decide +kernel
theorem dL_law_241 : decode cL_law 241 = .ok (.invokevirtual 35, 3) := by decide +kernel
theorem dL_law_244 : decode cL_law 244 = .ok (.if_icmp .eq 87, 3) := by decide +kernel
theorem dL_law_247 : decode cL_law 247 = .ok (.iconst 0, 1) := by decide +kernel
theorem dL_law_248 : decode cL_law 248 = .ok (.ireturn, 1) := by decide +kernel
theorem dL_law_249 : decode cL_law 249 = .ok (.aload_n 1, 1) := by decide +kernel
theorem dL_law_250 : decode cL_law 250 = .ok (.aload_n 0, 1) := by decide +kernel
theorem dL_law_251 : decode cL_law 251 = .ok (.iload_n 3, 1) := by decide +kernel
theorem dL_law_252 : decode cL_law 252 = .ok (.iconst 1, 1) := by decide +kernel
theorem dL_law_253 : decode cL_law 253 = .ok (.iadd, 1) := by decide +kernel
theorem dL_law_254 : decode cL_law 254 = .ok (.iaload, 1) := by decide +kernel
theorem dL_law_255 : decode cL_law 255 = .ok (.invokevirtual 36, 3) := by decide +kernel
theorem dL_law_258 : decode cL_law 258 = .ok (.aload_n 2, 1) := by decide +kernel
theorem dL_law_259 : decode cL_law 259 = .ok (.aload_n 0, 1) := by decide +kernel
theorem dL_law_260 : decode cL_law 260 = .ok (.iload_n 3, 1) := by decide +kernel
theorem dL_law_261 : decode cL_law 261 = .ok (.iconst 1, 1) := by decide +kernel
theorem dL_law_262 : decode cL_law 262 = .ok (.iadd, 1) := by decide +kernel
theorem dL_law_263 : decode cL_law 263 = .ok (.iaload, 1) := by decide +kernel
theorem dL_law_264 : decode cL_law 264 = .ok (.invokevirtual 39, 3) := by decide +kernel
theorem dL_law_267 : decode cL_law 267 = .ok (.if_icmp .eq 64, 3) := by decide +kernel
theorem dL_law_270 : decode cL_law 270 = .ok (.iconst 0, 1) := by decide +kernel
theorem dL_law_271 : decode cL_law 271 = .ok (.ireturn, 1) := by decide +kernel
theorem dL_law_272 : decode cL_law 272 = .ok (.aload_n 1, 1) := by decide +kernel
theorem dL_law_273 : decode cL_law 273 = .ok (.aload_n 0, 1) := by decide +kernel
theorem dL_law_274 : decode cL_law 274 = .ok (.iload_n 3, 1) := by decide +kernel
theorem dL_law_275 : decode cL_law 275 = .ok (.iconst 1, 1) := by decide +kernel
theorem dL_law_276 : decode cL_law 276 = .ok (.iadd, 1) := by decide +kernel
theorem dL_law_277 : decode cL_law 277 = .ok (.iaload, 1) := by decide +kernel
theorem dL_law_278 : decode cL_law 278 = .ok (.invokevirtual 40, 3) := by decide +kernel
theorem dL_law_281 : decode cL_law 281 = .ok (.aload_n 2, 1) := by decide +kernel
theorem dL_law_282 : decode cL_law 282 = .ok (.aload_n 0, 1) := by decide +kernel
theorem dL_law_283 : decode cL_law 283 = .ok (.iload_n 3, 1) := by decide +kernel
theorem dL_law_284 : decode cL_law 284 = .ok (.iconst 1, 1) := by decide +kernel
theorem dL_law_285 : decode cL_law 285 = .ok (.iadd, 1) := by decide +kernel
theorem dL_law_286 : decode cL_law 286 = .ok (.iaload, 1) := by decide +kernel
theorem dL_law_287 : decode cL_law 287 = .ok (.invokevirtual 43, 3) := by decide +kernel
theorem dL_law_290 : decode cL_law 290 = .ok (.if_icmp .eq 41, 3) := by decide +kernel
theorem dL_law_293 : decode cL_law 293 = .ok (.iconst 0, 1) := by decide +kernel
theorem dL_law_294 : decode cL_law 294 = .ok (.ireturn, 1) := by decide +kernel
theorem dL_law_295 : decode cL_law 295 = .ok (.aload_n 1, 1) := by decide +kernel
theorem dL_law_296 : decode cL_law 296 = .ok (.aload_n 0, 1) := by decide +kernel
theorem dL_law_297 : decode cL_law 297 = .ok (.iload_n 3, 1) := by decide +kernel
theorem dL_law_298 : decode cL_law 298 = .ok (.iconst 1, 1) := by decide +kernel
theorem dL_law_299 : decode cL_law 299 = .ok (.iadd, 1) := by decide +kernel
theorem dL_law_300 : decode cL_law 300 = .ok (.iaload, 1) := by decide +kernel
theorem dL_law_301 : decode cL_law 301 = .ok (.invokevirtual 44, 3) := by decide +kernel
theorem dL_law_304 : decode cL_law 304 = .ok (.aload_n 2, 1) := by decide +kernel
theorem dL_law_305 : decode cL_law 305 = .ok (.aload_n 0, 1) := by decide +kernel
theorem dL_law_306 : decode cL_law 306 = .ok (.iload_n 3, 1) := by decide +kernel
theorem dL_law_307 : decode cL_law 307 = .ok (.iconst 1, 1) := by decide +kernel
theorem dL_law_308 : decode cL_law 308 = .ok (.iadd, 1) := by decide +kernel
theorem dL_law_309 : decode cL_law 309 = .ok (.iaload, 1) := by decide +kernel
theorem dL_law_310 : decode cL_law 310 = .ok (.invokevirtual 47, 3) := by decide +kernel
theorem dL_law_313 : decode cL_law 313 = .ok (.if_icmp .eq 18, 3) := by decide +kernel
theorem dL_law_316 : decode cL_law 316 = .ok (.iconst 0, 1) := by decide +kernel
theorem dL_law_317 : decode cL_law 317 = .ok (.ireturn, 1) := by decide +kernel
theorem dL_law_318 : decode cL_law 318 = .ok (.aload_n 1, 1) := by decide +kernel
theorem dL_law_319 : decode cL_law 319 = .ok (.invokevirtual 48, 3) := by decide +kernel
theorem dL_law_322 : decode cL_law 322 = .ok (.aload_n 2, 1) := by decide +kernel
theorem dL_law_323 : decode cL_law 323 = .ok (.invokevirtual 52, 3) := by decide +kernel
theorem dL_law_326 : decode cL_law 326 = .ok (.if_icmp .eq 5, 3) := by decide +kernel
theorem dL_law_329 : decode cL_law 329 = .ok (.iconst 0, 1) := by decide +kernel
theorem dL_law_330 : decode cL_law 330 = .ok (.ireturn, 1) := by decide +kernel
theorem dL_law_331 : decode cL_law 331 = .ok (.iinc 3 4, 3) := by decide +kernel
theorem dL_law_334 : decode cL_law 334 = .ok (.goto (-316), 3) := by decide +kernel
theorem dL_law_337 : decode cL_law 337 = .ok (.iconst 1, 1) := by decide +kernel
theorem dL_law_338 : decode cL_law 338 = .ok (.ireturn, 1) := by decide +kernel
end
section
set_option maxRecDepth 100000
/-! The two objects' worlds (an int 'now' and int arrays), one contract shape for both, rows for fields, arrays, calls and ends -/
abbrev rl_cl : List vw_C := [(RX0, TX0, 15), (RX1, TX1, 10)]
abbrev rl_F : Type := Nat → Nat → Int32
def rl_up (f : rl_F) (k i : Nat) (v : Int32) : rl_F := fun a => if a = k then upd (f a) i v else f a
theorem rl_up_eq (f : rl_F) (k i : Nat) (v : Int32) : rl_up f k i v k i = v := by simp [rl_up, upd]
theorem rl_up_ne (f : rl_F) {k a : Nat} (i b : Nat) (v : Int32) (h : a ≠ k) : rl_up f k i v a b = f a b := by simp [rl_up, h]
theorem rl_up_ni (f : rl_F) (k a : Nat) {i b : Nat} (v : Int32) (h : b ≠ i) : rl_up f k i v a b = f a b := by
  by_cases h2 : a = k
  · simp [rl_up, upd, h2, h]
  · simp [rl_up, h2]
abbrev rl_V : Type := Nat → (Nat → Nat) → ClassId → Int32 → rl_F → va_W
abbrev rl_rm (n k : Nat) : Room := { frames := n, cells := 0, slots := 0, locals := k }
def rx_W : rl_V := fun h0 ar dA w f => [(h0, .inr (0, [.int w, .ref (ar 1), .ref (ar 2), .ref (ar 3), .ref (ar 4), .ref (ar 5), .ref (ar 6), .ref (ar 7), .ref (ar 8), .ref (ar 9), .ref (ar 10), .ref (ar 11), .ref (ar 12), .ref (ar 13), .ref (ar 14)])), (ar 1, .inl (dA, 4, .inl (f 1))), (ar 2, .inl (dA, 4, .inl (f 2))), (ar 3, .inl (dA, 4, .inl (f 3))), (ar 4, .inl (dA, 4, .inl (f 4))), (ar 5, .inl (dA, 4, .inl (f 5))), (ar 6, .inl (dA, 4, .inl (f 6))), (ar 7, .inl (dA, 4, .inl (f 7))), (ar 8, .inl (dA, 4, .inl (f 8))), (ar 9, .inl (dA, 4, .inl (f 9))), (ar 10, .inl (dA, 4, .inl (f 10))), (ar 11, .inl (dA, 4, .inl (f 11))), (ar 12, .inl (dA, 4, .inl (f 12))), (ar 13, .inl (dA, 128, .inl (f 13))), (ar 14, .inl (dA, 128, .inl (f 14)))]
def rm_W : rl_V := fun h0 ar dA w f => [(h0, .inr (1, [.int w, .ref (ar 1), .ref (ar 2), .ref (ar 3), .ref (ar 4), .ref (ar 5), .ref (ar 6), .ref (ar 7), .ref (ar 8), .ref (ar 9)])), (ar 1, .inl (dA, 4, .inl (f 1))), (ar 2, .inl (dA, 4, .inl (f 2))), (ar 3, .inl (dA, 4, .inl (f 3))), (ar 4, .inl (dA, 4, .inl (f 4))), (ar 5, .inl (dA, 4, .inl (f 5))), (ar 6, .inl (dA, 40, .inl (f 6))), (ar 7, .inl (dA, 4, .inl (f 7))), (ar 8, .inl (dA, 4, .inl (f 8))), (ar 9, .inl (dA, 4, .inl (f 9)))]
/-- the object itself stands first -/
def rl_ok (V : rl_V) (ci : Nat) : Prop := ∀ (h0 : Nat) (ar : Nat → Nat) (dA : ClassId) (w : Int32) (f : rl_F), ∃ fs, (V h0 ar dA w f)[0]? = some (h0, .inr (ci, fs))
theorem rx_ok : rl_ok rx_W 0 := fun _ _ _ _ _ => ⟨_, rfl⟩
theorem rm_ok : rl_ok rm_W 1 := fun _ _ _ _ _ => ⟨_, rfl⟩
/-- what stays all through a method's walk -/
def rl_Cx (p : Program) (s : State) (m : MethodId) (args : Array Value) (c : Code) (cc : ByteArray) (nL : Nat) (own : String) (D : va_G) (dA : ClassId) : Prop :=
  p.tables.exec = Jvm.exec ∧ c.code = cc ∧ c.maxLocals = nL ∧ s.vm.findClass own = some m.cls ∧ (∀ w ∈ lw_all, w.before args s = true) ∧ va_K D rl_cl [(dA, .int)] s
/-- the object's world now -/
def rl_B (V : rl_V) (D : va_G) (A : Nat → Prop) (s : State) (h0 : Nat) (ar : Nat → Nat) (dA : ClassId) (w : Int32) (f : rl_F) (H : Heap) (locs : List Loc) : Prop :=
  va_P D rl_cl (V h0 ar dA w f) H ∧ va_D A (V h0 ar dA w f) ∧ va_S A s.heap H locs
theorem rl_B.to {V : rl_V} {D : va_G} {A : Nat → Prop} {s : State} {h0 : Nat} {ar : Nat → Nat} {dA : ClassId} {w w' : Int32} {f f' : rl_F} {H : Heap} {locs : List Loc} (h : rl_B V D A s h0 ar dA w f H locs) (hw : w = w') (hf : f = f') : rl_B V D A s h0 ar dA w' f' H locs := by
  subst hw; subst hf; exact h
def rl_Pre (V : rl_V) (D : va_G) (h0 : Nat) (ar : Nat → Nat) (dA : ClassId) (w : Int32) (f : rl_F) (sz : Nat) (U : State) : Prop :=
  U.heap.size = sz ∧ va_P D rl_cl (V h0 ar dA w f) U.heap ∧ va_K D rl_cl [(dA, .int)] U ∧ va_D (fun _ => True) (V h0 ar dA w f)
def rl_Po (V : rl_V) (D : va_G) (h0 : Nat) (ar : Nat → Nat) (dA : ClassId) (A : Nat → Prop) (w1 : Int32) (f1 : rl_F) (t : State) : Prop :=
  va_P D rl_cl (V h0 ar dA w1 f1) t.heap ∧ va_K D rl_cl [(dA, .int)] t ∧ va_D A (V h0 ar dA w1 f1)
/-- CONTRACT of a method that answers an int: called with as at now = w and arrays f it answers r and leaves now = w1, arrays f1 -/
def rl_Mi (V : rl_V) (l : Launch) (y : MethodName) (bs : ByteArray) (nL : Nat) (rt : Option FieldType) (rm : Room) (as : List Value) (w : Int32) (f : rl_F) (r w1 : Int32) (f1 : rl_F) : Prop :=
  ∀ (D : va_G) (h0 : Nat) (ar : Nat → Nat) (dA : ClassId) (sz : Nat), Met l y (ws_ y bs nL rt) rm (va_Pc (.ref h0 :: as) (rl_Pre V D h0 ar dA w f sz)) (va_Qi (fun r' (_ : Unit) => r' = r) (fun _ t => rl_Po V D h0 ar dA (va_A (V h0 ar dA w f) sz) w1 f1 t) (va_A (V h0 ar dA w f) sz)) 0 0 (va_A (V h0 ar dA w f) sz)
/-- the same of a void method -/
def rl_Mv (V : rl_V) (l : Launch) (y : MethodName) (bs : ByteArray) (nL : Nat) (rm : Room) (as : List Value) (w : Int32) (f : rl_F) (w1 : Int32) (f1 : rl_F) : Prop :=
  ∀ (D : va_G) (h0 : Nat) (ar : Nat → Nat) (dA : ClassId) (sz : Nat), Met l y (ws_ y bs nL none) rm (va_Pc (.ref h0 :: as) (rl_Pre V D h0 ar dA w f sz)) (va_Qv (fun (_ : Unit) => True) (fun _ t => rl_Po V D h0 ar dA (va_A (V h0 ar dA w f) sz) w1 f1 t) (va_A (V h0 ar dA w f) sz)) 0 0 (va_A (V h0 ar dA w f) sz)
/-- CONTRACT of a method that touches no cell -/
def rl_Pi (l : Launch) (y : MethodName) (bs : ByteArray) (nL : Nat) (rt : Option FieldType) (rm : Room) (as : List Value) (r : Int32) : Prop :=
  Met l y (ws_ y bs nL rt) rm (va_Pc as (fun _ => True)) (va_Qi (fun r' (_ : Unit) => r' = r) (fun _ _ => True) (fun _ => False)) 0 0 (fun _ => False)
def rl_Qi (V : rl_V) (below : List Frame) (args : Array Value) (s : State) (D : va_G) (h0 : Nat) (ar : Nat → Nat) (dA : ClassId) (A : Nat → Prop) (r w1 : Int32) (f1 : rl_F) : State → Prop :=
  MQ below (va_Qi (fun r' (_ : Unit) => r' = r) (fun _ t => rl_Po V D h0 ar dA A w1 f1 t) A) args s 0 0 A
def rl_Qv (V : rl_V) (below : List Frame) (args : Array Value) (s : State) (D : va_G) (h0 : Nat) (ar : Nat → Nat) (dA : ClassId) (A : Nat → Prop) (w1 : Int32) (f1 : rl_F) : State → Prop :=
  MQ below (va_Qv (fun (_ : Unit) => True) (fun _ t => rl_Po V D h0 ar dA A w1 f1 t) A) args s 0 0 A
def rl_Qp (below : List Frame) (args : Array Value) (s : State) (r : Int32) : State → Prop :=
  MQ below (va_Qi (fun r' (_ : Unit) => r' = r) (fun _ _ => True) (fun _ => False)) args s 0 0 (fun _ => False)
theorem rl_Mi.of {V : rl_V} {l : Launch} {y : MethodName} {bs : ByteArray} {nL : Nat} {rt : Option FieldType} {rm : Room} {as : List Value} {w : Int32} {f : rl_F} {r w1 : Int32} {f1 : rl_F} (own : String) (hy : plainName y.cls = true) (ho : y.cls = own) (hn : ∀ h0 : Nat, (lg_sl (.ref h0 :: as)).length ≤ nL)
    (body : ∀ (p : Program) (e : Env) (s : State) (m : MethodId) (args : Array Value) (below : List Frame) (meth : Method) (c : Code) (D : va_G) (h0 : Nat) (ar : Nat → Nat) (dA : ClassId) (A : Nat → Prop) (ls : Array Slot), rl_Cx p s m args c bs nL own D dA → meth.sig.returnType = rt → meth.locks = false → (∀ q : Nat, s.heap.size ≤ q → A q) → rl_B V D A s h0 ar dA w f s.heap [] → lv_has ls nL (lv_args 0 (.ref h0 :: as)) →
      W p l e rm s m args below meth c s.heap [] 0 0 (rl_Qi V below args s D h0 ar dA A r w1 f1) (F0 m 0 ls [])) : rl_Mi V l y bs nL rt rm as w f r w1 f1 := by
  intro D h0 ar dA sz
  refine Met.ofW (cc := bs) (maxL := nL) (ret := rt) hy rfl ?_
  intro p e s m args below meth c s₁ B hml hv
  obtain ⟨rfl, hsz, hP, hK, hD0⟩ := hv
  have hts0 := atoms_spec (ws := ws_ y bs nL rt) B.pre
  have hts : ∀ w ∈ lw_all, w.before ((.ref h0 :: as : List Value)).toArray s = true := fun w h => hts0 w (List.mem_cons_of_mem _ h)
  have hown : s.vm.findClass y.cls = some m.cls := findClass_of_methodNamed B.named
  subst hsz
  have hD := hD0.self (sz := s.heap.size)
  have hl := lv_entry (.ref h0 :: as) (n := nL) (hn h0)
  rw [lg_entry_eq]
  exact body p e s m _ below meth c D h0 ar dA _ _ ⟨B.exec, B.bytes, hml, ho ▸ hown, hts, hK⟩ B.returns B.notSynchronized (fun q h => Or.inr h) ⟨hP, hD, va_S.rf⟩ hl
theorem rl_Mv.of {V : rl_V} {l : Launch} {y : MethodName} {bs : ByteArray} {nL : Nat} {rm : Room} {as : List Value} {w : Int32} {f : rl_F} {w1 : Int32} {f1 : rl_F} (own : String) (hy : plainName y.cls = true) (ho : y.cls = own) (hn : ∀ h0 : Nat, (lg_sl (.ref h0 :: as)).length ≤ nL)
    (body : ∀ (p : Program) (e : Env) (s : State) (m : MethodId) (args : Array Value) (below : List Frame) (meth : Method) (c : Code) (D : va_G) (h0 : Nat) (ar : Nat → Nat) (dA : ClassId) (A : Nat → Prop) (ls : Array Slot), rl_Cx p s m args c bs nL own D dA → meth.sig.returnType = none → meth.locks = false → (∀ q : Nat, s.heap.size ≤ q → A q) → rl_B V D A s h0 ar dA w f s.heap [] → lv_has ls nL (lv_args 0 (.ref h0 :: as)) →
      W p l e rm s m args below meth c s.heap [] 0 0 (rl_Qv V below args s D h0 ar dA A w1 f1) (F0 m 0 ls [])) : rl_Mv V l y bs nL rm as w f w1 f1 := by
  intro D h0 ar dA sz
  refine Met.ofW (cc := bs) (maxL := nL) (ret := none) hy rfl ?_
  intro p e s m args below meth c s₁ B hml hv
  obtain ⟨rfl, hsz, hP, hK, hD0⟩ := hv
  have hts0 := atoms_spec (ws := ws_ y bs nL none) B.pre
  have hts : ∀ w ∈ lw_all, w.before ((.ref h0 :: as : List Value)).toArray s = true := fun w h => hts0 w (List.mem_cons_of_mem _ h)
  have hown : s.vm.findClass y.cls = some m.cls := findClass_of_methodNamed B.named
  subst hsz
  have hD := hD0.self (sz := s.heap.size)
  have hl := lv_entry (.ref h0 :: as) (n := nL) (hn h0)
  rw [lg_entry_eq]
  exact body p e s m _ below meth c D h0 ar dA _ _ ⟨B.exec, B.bytes, hml, ho ▸ hown, hts, hK⟩ B.returns B.notSynchronized (fun q h => Or.inr h) ⟨hP, hD, va_S.rf⟩ hl
theorem rl_Pi.of {l : Launch} {y : MethodName} {bs : ByteArray} {nL : Nat} {rt : Option FieldType} {rm : Room} {as : List Value} {r : Int32} (hy : plainName y.cls = true) (hn : (lg_sl as).length ≤ nL)
    (body : ∀ (p : Program) (e : Env) (s : State) (m : MethodId) (args : Array Value) (below : List Frame) (meth : Method) (c : Code) (ls : Array Slot), p.tables.exec = Jvm.exec → c.code = bs → meth.sig.returnType = rt → meth.locks = false → lv_has ls nL (lv_args 0 as) →
      W p l e rm s m args below meth c s.heap [] 0 0 (rl_Qp below args s r) (F0 m 0 ls [])) : rl_Pi l y bs nL rt rm as r := by
  refine Met.ofW (cc := bs) (maxL := nL) (ret := rt) hy rfl ?_
  intro p e s m args below meth c s₁ B hml hv
  obtain ⟨rfl, -⟩ := hv
  have hl := lv_entry as (n := nL) hn
  rw [lg_entry_eq]
  exact body p e s m _ below meth c _ B.exec B.bytes B.returns B.notSynchronized hl
section RL
variable {p : Program} {l : Launch} {e : Env} {R : Room} {s : State} {m : MethodId} {args : Array Value} {below : List Frame} {meth : Method} {c : Code} {H : Heap} {locs : List Loc} {cells slots : Nat} {Q : State → Prop}
variable {cc : ByteArray} {pc nL : Nat} {ls : Array Slot} {rest st : List Value} {D : va_G} {A : Nat → Prop} {V : rl_V} {h0 : Nat} {ar : Nat → Nat} {dA : ClassId} {w w1 w2 v r : Int32} {f f1 f2 : rl_F} {own : String}
theorem rl_iret (C : rl_Cx p s m args c cc nL own D dA) (hr : meth.sig.returnType = some .int) (hk : meth.locks = false) (B : rl_B V D A s h0 ar dA w2 f2 H locs) (hv : v = r) (hw : w2 = w1) (hf : f2 = f1) (hdg : decode cc pc = .ok (.ireturn, 1)) : W p l e R s m args below meth c H locs 0 0 (rl_Qi V below args s D h0 ar dA A r w1 f1) (F0 m pc ls [.int v]) := by
  subst hv; subst hw; subst hf
  exact W.iret C.1 C.2.1 hr (fun t ht hW => ⟨⟨v, (), rfl, rfl, by rw [ht]; exact B.1, va_K.moved hW.alike C.2.2.2.2.2, B.2.1⟩, B.2.2.F ht⟩) B.2.2.2.2 hdg hk
theorem rl_zret (C : rl_Cx p s m args c cc nL own D dA) (hr : meth.sig.returnType = some .boolean) (hk : meth.locks = false) (B : rl_B V D A s h0 ar dA w2 f2 H locs) (hn : narrow .boolean (.int v) = .int v) (hv : v = r) (hw : w2 = w1) (hf : f2 = f1) (hdg : decode cc pc = .ok (.ireturn, 1)) : W p l e R s m args below meth c H locs 0 0 (rl_Qi V below args s D h0 ar dA A r w1 f1) (F0 m pc ls [.int v]) := by
  subst hv; subst hw; subst hf
  exact W.zret C.1 C.2.1 hr hn (fun t ht hW => ⟨⟨v, (), rfl, rfl, by rw [ht]; exact B.1, va_K.moved hW.alike C.2.2.2.2.2, B.2.1⟩, B.2.2.F ht⟩) B.2.2.2.2 hdg hk
theorem rl_vret (C : rl_Cx p s m args c cc nL own D dA) (hr : meth.sig.returnType = none) (hk : meth.locks = false) (B : rl_B V D A s h0 ar dA w2 f2 H locs) (hw : w2 = w1) (hf : f2 = f1) (hdg : decode cc pc = .ok (.return_, 1)) : W p l e R s m args below meth c H locs 0 0 (rl_Qv V below args s D h0 ar dA A w1 f1) (F0 m pc ls []) := by
  subst hw; subst hf
  exact W.vret C.1 C.2.1 hr (fun t ht hW => ⟨⟨(), rfl, trivial, by rw [ht]; exact B.1, va_K.moved hW.alike C.2.2.2.2.2, B.2.1⟩, B.2.2.F ht⟩) B.2.2.2.2 hdg hk
theorem rl_pret (hx : p.tables.exec = Jvm.exec) (hb : c.code = cc) (hr : meth.sig.returnType = some .boolean) (hk : meth.locks = false) (hn : narrow .boolean (.int v) = .int v) (hv : v = r) (hdg : decode cc pc = .ok (.ireturn, 1)) : W p l e R s m args below meth c s.heap [] 0 0 (rl_Qp below args s r) (F0 m pc ls [.int v]) := by
  subst hv
  exact W.zret hx hb hr hn (fun t ht hW => ⟨⟨v, (), rfl, rfl, trivial⟩, (va_S.rf : va_S (fun _ => False) s.heap s.heap []).F ht⟩) (fun _ h => by cases h) hdg hk
/-- the top of the stack under another name -/
theorem rl_top {x y : Int32} (h : x = y) (k : W p l e R s m args below meth c H locs cells slots Q (F0 m pc ls (.int y :: rest))) : W p l e R s m args below meth c H locs cells slots Q (F0 m pc ls (.int x :: rest)) := by
  subst h; exact k
theorem rl_free (hA : ∀ q : Nat, s.heap.size ≤ q → A q) (B : rl_B V D A s h0 ar dA w f H locs) : ∀ q, va_A (V h0 ar dA w f) H.size q → A q := by
  intro q h
  rcases h with ⟨k, e, h⟩ | h
  · exact B.2.1.2 k (q, e) h
  · exact hA q (Nat.le_trans B.2.2.1 h)
theorem rl_blind {sz : Nat} {as : List Value} : FrameBlind (va_Pc as (rl_Pre V D h0 ar dA w f sz)) := by
  intro a U g mk q
  obtain ⟨q0, q1, qP, qK, qD⟩ := q
  exact ⟨q0, q1, qP, va_K.moved (u := U) (U := U.calling g mk a) (Vm.Alike.refl U.vm) qK, qD⟩
theorem rl_calli {ci n index nL' : Nat} {q : vw_C} {y : MethodName} {bs : ByteArray} {rt : Option FieldType} {rm : Room} {as : List Value} (hV : rl_ok V ci) (hc : rl_cl[ci]? = some q) (C : rl_Cx p s m args c cc nL own D dA) (hA : ∀ q : Nat, s.heap.size ≤ q → A q) (B : rl_B V D A s h0 ar dA w f H locs) (hM : rl_Mi V l y bs nL' rt rm as w f r w1 f1) (cw : CallW R s args own q.1 index y bs nL' rt (ws_ y bs nL' rt) rm 0 0 n)
    (hn : as.length = n) (hls : ls.size = nL) (hst : st = as.reverse ++ .ref h0 :: rest) (hrm : (rest.map fun v => v.category).sum ≤ 8) (hdg : decode cc pc = .ok (.invokevirtual index, 3)) (hf : cells ≤ R.cells ∧ slots ≤ R.slots)
    (kk : ∀ (H1 : Heap) (locs1 : List Loc), rl_B V D A s h0 ar dA w1 f1 H1 locs1 → W p l e R s m args below meth c H1 locs1 cells slots Q (F0 m (pc + 3) ls (.int r :: rest))) : W p l e R s m args below meth c H locs cells slots Q (F0 m pc ls st) := by
  have hFc := rl_free hA B
  obtain ⟨fs, hfs⟩ := hV h0 ar dA w f
  have hK := C.2.2.2.2.2
  refine va_calli (va_runV (As := as) (rest := rest) ⟨C.1, C.2.1, C.2.2.1, C.2.2.2.1, C.2.2.2.2.1⟩ (hM D h0 ar dA H.size) cw ⟨rl_blind, va_recv hK B.1 hc hfs, fun U hU hW => ⟨rfl, by rw [hU], by rw [hU]; exact B.1, va_K.moved hW.alike hK, B.2.1.weaken (fun _ _ _ _ => trivial)⟩⟩ rfl hn hls hst (lv_room hrm) hdg hf) B.2.2 (fun q _ h => hFc q h) hFc (fun r' u t H1 locs1 ht hvm hw1 hB hz1 hk1 hS => ?_)
  obtain ⟨hP1, hK1, hD1⟩ := hB
  rw [ht] at hP1
  have hw1 : r' = r := hw1
  subst hw1
  exact kk H1 locs1 ⟨hP1, hD1.weaken (fun _ _ _ h => hFc _ h), hS⟩
theorem rl_callv {ci n index nL' : Nat} {q : vw_C} {y : MethodName} {bs : ByteArray} {rm : Room} {as : List Value} (hV : rl_ok V ci) (hc : rl_cl[ci]? = some q) (C : rl_Cx p s m args c cc nL own D dA) (hA : ∀ q : Nat, s.heap.size ≤ q → A q) (B : rl_B V D A s h0 ar dA w f H locs) (hM : rl_Mv V l y bs nL' rm as w f w1 f1) (cw : CallW R s args own q.1 index y bs nL' none (ws_ y bs nL' none) rm 0 0 n)
    (hn : as.length = n) (hls : ls.size = nL) (hst : st = as.reverse ++ .ref h0 :: rest) (hrm : (rest.map fun v => v.category).sum ≤ 8) (hdg : decode cc pc = .ok (.invokevirtual index, 3)) (hf : cells ≤ R.cells ∧ slots ≤ R.slots)
    (kk : ∀ (H1 : Heap) (locs1 : List Loc), rl_B V D A s h0 ar dA w1 f1 H1 locs1 → W p l e R s m args below meth c H1 locs1 cells slots Q (F0 m (pc + 3) ls rest)) : W p l e R s m args below meth c H locs cells slots Q (F0 m pc ls st) := by
  have hFc := rl_free hA B
  obtain ⟨fs, hfs⟩ := hV h0 ar dA w f
  have hK := C.2.2.2.2.2
  refine va_callv (va_runV (As := as) (rest := rest) ⟨C.1, C.2.1, C.2.2.1, C.2.2.2.1, C.2.2.2.2.1⟩ (hM D h0 ar dA H.size) cw ⟨rl_blind, va_recv hK B.1 hc hfs, fun U hU hW => ⟨rfl, by rw [hU], by rw [hU]; exact B.1, va_K.moved hW.alike hK, B.2.1.weaken (fun _ _ _ _ => trivial)⟩⟩ rfl hn hls hst (lv_room hrm) hdg hf) B.2.2 (fun q _ h => hFc q h) hFc (fun u t H1 locs1 ht hvm hw1 hB hz1 hk1 hS => ?_)
  obtain ⟨hP1, hK1, hD1⟩ := hB
  rw [ht] at hP1
  exact kk H1 locs1 ⟨hP1, hD1.weaken (fun _ _ _ h => hFc _ h), hS⟩
theorem rl_B.kept (B : rl_B V D A s h0 ar dA w f H locs) {H1 : Heap} {locs1 : List Loc} (hk : ∀ q : Nat, q < H.size → ¬ False → H1[q]? = H[q]?) (hS : va_S A s.heap H1 locs1) : rl_B V D A s h0 ar dA w f H1 locs1 :=
  ⟨B.1.kept (fun k q hq => hk q.1 ((B.1 k q hq).lt) (fun z => z)), B.2.1, hS⟩
/-- a static method that touches no cell -/
theorem rl_callS {n index nL' : Nat} {y : MethodName} {bs : ByteArray} {rt : Option FieldType} {rm : Room} {as : List Value} (C : rl_Cx p s m args c cc nL own D dA) (B : rl_B V D A s h0 ar dA w f H locs) (hM : rl_Pi l y bs nL' rt rm as r) (cw : CallB R s args own index y bs nL' rt (ws_ y bs nL' rt) rm 0 0 n ∧ (Cond.static y).before args s = true)
    (hn : as.length = n) (hls : ls.size = nL) (hst : st = as.reverse ++ rest) (hrm : (rest.map fun v => v.category).sum ≤ 8) (hdg : decode cc pc = .ok (.invokestatic index, 3)) (hf : cells ≤ R.cells ∧ slots ≤ R.slots)
    (kk : ∀ (H1 : Heap) (locs1 : List Loc), rl_B V D A s h0 ar dA w f H1 locs1 → W p l e R s m args below meth c H1 locs1 cells slots Q (F0 m (pc + 3) ls (.int r :: rest))) : W p l e R s m args below meth c H locs cells slots Q (F0 m pc ls st) := by
  refine va_calli (va_runS (As := as) (rest := rest) ⟨C.1, C.2.1, C.2.2.1, C.2.2.2.1, C.2.2.2.2.1⟩ hM cw ⟨fun a U g mk q => q, fun U hU hW => ⟨rfl, trivial⟩⟩ rfl hn hls hst (lv_room hrm) hdg hf) B.2.2 (fun q _ h => h.elim) (fun q h => h.elim) (fun r' u t H1 locs1 ht hvm hw1 hB hz1 hk1 hS => ?_)
  have hw1 : r' = r := hw1
  subst hw1
  exact kk H1 locs1 (B.kept hk1 hS)
/-- a method of the object itself that touches no cell -/
theorem rl_callP {ci n index nL' : Nat} {q : vw_C} {y : MethodName} {bs : ByteArray} {rt : Option FieldType} {rm : Room} {as : List Value} (hV : rl_ok V ci) (hc : rl_cl[ci]? = some q) (C : rl_Cx p s m args c cc nL own D dA) (B : rl_B V D A s h0 ar dA w f H locs) (hM : rl_Pi l y bs nL' rt rm (.ref h0 :: as) r) (cw : CallW R s args own q.1 index y bs nL' rt (ws_ y bs nL' rt) rm 0 0 n)
    (hn : as.length = n) (hls : ls.size = nL) (hst : st = as.reverse ++ .ref h0 :: rest) (hrm : (rest.map fun v => v.category).sum ≤ 8) (hdg : decode cc pc = .ok (.invokevirtual index, 3)) (hf : cells ≤ R.cells ∧ slots ≤ R.slots)
    (kk : ∀ (H1 : Heap) (locs1 : List Loc), rl_B V D A s h0 ar dA w f H1 locs1 → W p l e R s m args below meth c H1 locs1 cells slots Q (F0 m (pc + 3) ls (.int r :: rest))) : W p l e R s m args below meth c H locs cells slots Q (F0 m pc ls st) := by
  obtain ⟨fs, hfs⟩ := hV h0 ar dA w f
  have hK := C.2.2.2.2.2
  refine va_calli (va_runV (As := as) (rest := rest) ⟨C.1, C.2.1, C.2.2.1, C.2.2.2.1, C.2.2.2.2.1⟩ hM cw ⟨fun a U g mk q => q, va_recv hK B.1 hc hfs, fun U hU hW => ⟨rfl, trivial⟩⟩ rfl hn hls hst (lv_room hrm) hdg hf) B.2.2 (fun q _ h => h.elim) (fun q h => h.elim) (fun r' u t H1 locs1 ht hvm hw1 hB hz1 hk1 hS => ?_)
  have hw1 : r' = r := hw1
  subst hw1
  exact kk H1 locs1 (B.kept hk1 hS)
theorem rx_g0 (C : rl_Cx p s m args c cc nL RX0 D dA) (B : rl_B rx_W D A s h0 ar dA w f H locs) (hdg : decode cc pc = .ok (.getfield 56, 3)) (kk : W p l e R s m args below meth c H locs cells slots Q (F0 m (pc + 3) ls (.int w :: rest))) : W p l e R s m args below meth c H locs cells slots Q (F0 m pc ls (.ref h0 :: rest)) :=
  va_get (D := D) (ci := 0) (v := .int w) (C := RX0) (T := TX0) (N := 15) C.1 C.2.1 C.2.2.2.2.1 in_X0 C.2.2.2.1 C.2.2.2.2.2 B.1 0 rfl rfl 0 (by decide) (C.2.2.2.2.1 _ q29) (fun _ h9 => h9) rfl hdg kk
theorem rx_g1 (C : rl_Cx p s m args c cc nL RX0 D dA) (B : rl_B rx_W D A s h0 ar dA w f H locs) (hdg : decode cc pc = .ok (.getfield 7, 3)) (kk : W p l e R s m args below meth c H locs cells slots Q (F0 m (pc + 3) ls (.ref (ar 1) :: rest))) : W p l e R s m args below meth c H locs cells slots Q (F0 m pc ls (.ref h0 :: rest)) :=
  va_get (D := D) (ci := 0) (v := .ref (ar 1)) (C := RX0) (T := TX0) (N := 15) C.1 C.2.1 C.2.2.2.2.1 in_X0 C.2.2.2.1 C.2.2.2.2.2 B.1 0 rfl rfl 1 (by decide) (C.2.2.2.2.1 _ q30) (fun _ h9 => h9) rfl hdg kk
theorem rx_g2 (C : rl_Cx p s m args c cc nL RX0 D dA) (B : rl_B rx_W D A s h0 ar dA w f H locs) (hdg : decode cc pc = .ok (.getfield 13, 3)) (kk : W p l e R s m args below meth c H locs cells slots Q (F0 m (pc + 3) ls (.ref (ar 2) :: rest))) : W p l e R s m args below meth c H locs cells slots Q (F0 m pc ls (.ref h0 :: rest)) :=
  va_get (D := D) (ci := 0) (v := .ref (ar 2)) (C := RX0) (T := TX0) (N := 15) C.1 C.2.1 C.2.2.2.2.1 in_X0 C.2.2.2.1 C.2.2.2.2.2 B.1 0 rfl rfl 2 (by decide) (C.2.2.2.2.1 _ q31) (fun _ h9 => h9) rfl hdg kk
theorem rx_g3 (C : rl_Cx p s m args c cc nL RX0 D dA) (B : rl_B rx_W D A s h0 ar dA w f H locs) (hdg : decode cc pc = .ok (.getfield 16, 3)) (kk : W p l e R s m args below meth c H locs cells slots Q (F0 m (pc + 3) ls (.ref (ar 3) :: rest))) : W p l e R s m args below meth c H locs cells slots Q (F0 m pc ls (.ref h0 :: rest)) :=
  va_get (D := D) (ci := 0) (v := .ref (ar 3)) (C := RX0) (T := TX0) (N := 15) C.1 C.2.1 C.2.2.2.2.1 in_X0 C.2.2.2.1 C.2.2.2.2.2 B.1 0 rfl rfl 3 (by decide) (C.2.2.2.2.1 _ q32) (fun _ h9 => h9) rfl hdg kk
theorem rx_g4 (C : rl_Cx p s m args c cc nL RX0 D dA) (B : rl_B rx_W D A s h0 ar dA w f H locs) (hdg : decode cc pc = .ok (.getfield 19, 3)) (kk : W p l e R s m args below meth c H locs cells slots Q (F0 m (pc + 3) ls (.ref (ar 4) :: rest))) : W p l e R s m args below meth c H locs cells slots Q (F0 m pc ls (.ref h0 :: rest)) :=
  va_get (D := D) (ci := 0) (v := .ref (ar 4)) (C := RX0) (T := TX0) (N := 15) C.1 C.2.1 C.2.2.2.2.1 in_X0 C.2.2.2.1 C.2.2.2.2.2 B.1 0 rfl rfl 4 (by decide) (C.2.2.2.2.1 _ q33) (fun _ h9 => h9) rfl hdg kk
theorem rx_g5 (C : rl_Cx p s m args c cc nL RX0 D dA) (B : rl_B rx_W D A s h0 ar dA w f H locs) (hdg : decode cc pc = .ok (.getfield 22, 3)) (kk : W p l e R s m args below meth c H locs cells slots Q (F0 m (pc + 3) ls (.ref (ar 5) :: rest))) : W p l e R s m args below meth c H locs cells slots Q (F0 m pc ls (.ref h0 :: rest)) :=
  va_get (D := D) (ci := 0) (v := .ref (ar 5)) (C := RX0) (T := TX0) (N := 15) C.1 C.2.1 C.2.2.2.2.1 in_X0 C.2.2.2.1 C.2.2.2.2.2 B.1 0 rfl rfl 5 (by decide) (C.2.2.2.2.1 _ q34) (fun _ h9 => h9) rfl hdg kk
theorem rx_g6 (C : rl_Cx p s m args c cc nL RX0 D dA) (B : rl_B rx_W D A s h0 ar dA w f H locs) (hdg : decode cc pc = .ok (.getfield 25, 3)) (kk : W p l e R s m args below meth c H locs cells slots Q (F0 m (pc + 3) ls (.ref (ar 6) :: rest))) : W p l e R s m args below meth c H locs cells slots Q (F0 m pc ls (.ref h0 :: rest)) :=
  va_get (D := D) (ci := 0) (v := .ref (ar 6)) (C := RX0) (T := TX0) (N := 15) C.1 C.2.1 C.2.2.2.2.1 in_X0 C.2.2.2.1 C.2.2.2.2.2 B.1 0 rfl rfl 6 (by decide) (C.2.2.2.2.1 _ q35) (fun _ h9 => h9) rfl hdg kk
theorem rx_g7 (C : rl_Cx p s m args c cc nL RX0 D dA) (B : rl_B rx_W D A s h0 ar dA w f H locs) (hdg : decode cc pc = .ok (.getfield 28, 3)) (kk : W p l e R s m args below meth c H locs cells slots Q (F0 m (pc + 3) ls (.ref (ar 7) :: rest))) : W p l e R s m args below meth c H locs cells slots Q (F0 m pc ls (.ref h0 :: rest)) :=
  va_get (D := D) (ci := 0) (v := .ref (ar 7)) (C := RX0) (T := TX0) (N := 15) C.1 C.2.1 C.2.2.2.2.1 in_X0 C.2.2.2.1 C.2.2.2.2.2 B.1 0 rfl rfl 7 (by decide) (C.2.2.2.2.1 _ q36) (fun _ h9 => h9) rfl hdg kk
theorem rx_g8 (C : rl_Cx p s m args c cc nL RX0 D dA) (B : rl_B rx_W D A s h0 ar dA w f H locs) (hdg : decode cc pc = .ok (.getfield 31, 3)) (kk : W p l e R s m args below meth c H locs cells slots Q (F0 m (pc + 3) ls (.ref (ar 8) :: rest))) : W p l e R s m args below meth c H locs cells slots Q (F0 m pc ls (.ref h0 :: rest)) :=
  va_get (D := D) (ci := 0) (v := .ref (ar 8)) (C := RX0) (T := TX0) (N := 15) C.1 C.2.1 C.2.2.2.2.1 in_X0 C.2.2.2.1 C.2.2.2.2.2 B.1 0 rfl rfl 8 (by decide) (C.2.2.2.2.1 _ q37) (fun _ h9 => h9) rfl hdg kk
theorem rx_g9 (C : rl_Cx p s m args c cc nL RX0 D dA) (B : rl_B rx_W D A s h0 ar dA w f H locs) (hdg : decode cc pc = .ok (.getfield 34, 3)) (kk : W p l e R s m args below meth c H locs cells slots Q (F0 m (pc + 3) ls (.ref (ar 9) :: rest))) : W p l e R s m args below meth c H locs cells slots Q (F0 m pc ls (.ref h0 :: rest)) :=
  va_get (D := D) (ci := 0) (v := .ref (ar 9)) (C := RX0) (T := TX0) (N := 15) C.1 C.2.1 C.2.2.2.2.1 in_X0 C.2.2.2.1 C.2.2.2.2.2 B.1 0 rfl rfl 9 (by decide) (C.2.2.2.2.1 _ q38) (fun _ h9 => h9) rfl hdg kk
theorem rx_g10 (C : rl_Cx p s m args c cc nL RX0 D dA) (B : rl_B rx_W D A s h0 ar dA w f H locs) (hdg : decode cc pc = .ok (.getfield 37, 3)) (kk : W p l e R s m args below meth c H locs cells slots Q (F0 m (pc + 3) ls (.ref (ar 10) :: rest))) : W p l e R s m args below meth c H locs cells slots Q (F0 m pc ls (.ref h0 :: rest)) :=
  va_get (D := D) (ci := 0) (v := .ref (ar 10)) (C := RX0) (T := TX0) (N := 15) C.1 C.2.1 C.2.2.2.2.1 in_X0 C.2.2.2.1 C.2.2.2.2.2 B.1 0 rfl rfl 10 (by decide) (C.2.2.2.2.1 _ q39) (fun _ h9 => h9) rfl hdg kk
theorem rx_g11 (C : rl_Cx p s m args c cc nL RX0 D dA) (B : rl_B rx_W D A s h0 ar dA w f H locs) (hdg : decode cc pc = .ok (.getfield 40, 3)) (kk : W p l e R s m args below meth c H locs cells slots Q (F0 m (pc + 3) ls (.ref (ar 11) :: rest))) : W p l e R s m args below meth c H locs cells slots Q (F0 m pc ls (.ref h0 :: rest)) :=
  va_get (D := D) (ci := 0) (v := .ref (ar 11)) (C := RX0) (T := TX0) (N := 15) C.1 C.2.1 C.2.2.2.2.1 in_X0 C.2.2.2.1 C.2.2.2.2.2 B.1 0 rfl rfl 11 (by decide) (C.2.2.2.2.1 _ q40) (fun _ h9 => h9) rfl hdg kk
theorem rx_g12 (C : rl_Cx p s m args c cc nL RX0 D dA) (B : rl_B rx_W D A s h0 ar dA w f H locs) (hdg : decode cc pc = .ok (.getfield 43, 3)) (kk : W p l e R s m args below meth c H locs cells slots Q (F0 m (pc + 3) ls (.ref (ar 12) :: rest))) : W p l e R s m args below meth c H locs cells slots Q (F0 m pc ls (.ref h0 :: rest)) :=
  va_get (D := D) (ci := 0) (v := .ref (ar 12)) (C := RX0) (T := TX0) (N := 15) C.1 C.2.1 C.2.2.2.2.1 in_X0 C.2.2.2.1 C.2.2.2.2.2 B.1 0 rfl rfl 12 (by decide) (C.2.2.2.2.1 _ q41) (fun _ h9 => h9) rfl hdg kk
theorem rx_g13 (C : rl_Cx p s m args c cc nL RX0 D dA) (B : rl_B rx_W D A s h0 ar dA w f H locs) (hdg : decode cc pc = .ok (.getfield 46, 3)) (kk : W p l e R s m args below meth c H locs cells slots Q (F0 m (pc + 3) ls (.ref (ar 13) :: rest))) : W p l e R s m args below meth c H locs cells slots Q (F0 m pc ls (.ref h0 :: rest)) :=
  va_get (D := D) (ci := 0) (v := .ref (ar 13)) (C := RX0) (T := TX0) (N := 15) C.1 C.2.1 C.2.2.2.2.1 in_X0 C.2.2.2.1 C.2.2.2.2.2 B.1 0 rfl rfl 13 (by decide) (C.2.2.2.2.1 _ q42) (fun _ h9 => h9) rfl hdg kk
theorem rx_g14 (C : rl_Cx p s m args c cc nL RX0 D dA) (B : rl_B rx_W D A s h0 ar dA w f H locs) (hdg : decode cc pc = .ok (.getfield 49, 3)) (kk : W p l e R s m args below meth c H locs cells slots Q (F0 m (pc + 3) ls (.ref (ar 14) :: rest))) : W p l e R s m args below meth c H locs cells slots Q (F0 m pc ls (.ref h0 :: rest)) :=
  va_get (D := D) (ci := 0) (v := .ref (ar 14)) (C := RX0) (T := TX0) (N := 15) C.1 C.2.1 C.2.2.2.2.1 in_X0 C.2.2.2.1 C.2.2.2.2.2 B.1 0 rfl rfl 14 (by decide) (C.2.2.2.2.1 _ q43) (fun _ h9 => h9) rfl hdg kk
theorem rx_p0 (C : rl_Cx p s m args c cc nL RX0 D dA) (B : rl_B rx_W D A s h0 ar dA w f H locs) (hdg : decode cc pc = .ok (.putfield 56, 3)) (kk : ∀ (H1 : Heap) (locs1 : List Loc), rl_B rx_W D A s h0 ar dA v f H1 locs1 → W p l e R s m args below meth c H1 locs1 cells slots Q (F0 m (pc + 3) ls rest)) : W p l e R s m args below meth c H locs cells slots Q (F0 m pc ls (.int v :: .ref h0 :: rest)) :=
  va_put (D := D) (ci := 0) (v := .int v) (ty := .int) (C := RX0) (T := TX0) (N := 15) C.1 C.2.1 C.2.2.2.2.1 in_X0 tyX0 tyX0_ok nmX0 C.2.2.2.1 C.2.2.2.2.2 B.1 B.2.1 B.2.2 0 rfl rfl 0 (by decide) (C.2.2.2.2.1 _ q29) (fun _ h9 => h9) rfl (by decide +kernel) rfl rfl (Nat.le_of_ble_eq_true rfl) hdg (fun H1 locs1 hP hD hS => kk H1 locs1 ⟨hP, hD, hS⟩)
theorem rx_l1 {j : Nat} (C : rl_Cx p s m args c cc nL RX0 D dA) (B : rl_B rx_W D A s h0 ar dA w f H locs) (hj : j < 4) (hv : f 1 j = v) (hdg : decode cc pc = .ok (.iaload, 1)) (kk : W p l e R s m args below meth c H locs cells slots Q (F0 m (pc + 1) ls (.int v :: rest))) : W p l e R s m args below meth c H locs cells slots Q (F0 m pc ls (.int (nI j) :: .ref (ar 1) :: rest)) := by
  refine va_iald (f := f 1) (n := 4) C.1 C.2.1 C.2.2.2.2.2 B.1 1 0 rfl rfl (vp_in_nI hj (by decide)) hdg ?_
  rw [nI_clamp (Nat.lt_trans hj (by decide)), hv]
  exact kk
theorem rx_s1 {j : Nat} (C : rl_Cx p s m args c cc nL RX0 D dA) (B : rl_B rx_W D A s h0 ar dA w f H locs) (hj : j < 4) (hdg : decode cc pc = .ok (.iastore, 1)) (kk : ∀ (H1 : Heap) (locs1 : List Loc), rl_B rx_W D A s h0 ar dA w (rl_up f 1 j v) H1 locs1 → W p l e R s m args below meth c H1 locs1 cells slots Q (F0 m (pc + 1) ls rest)) : W p l e R s m args below meth c H locs cells slots Q (F0 m pc ls (.int v :: .int (nI j) :: .ref (ar 1) :: rest)) := by
  refine va_iast (f := f 1) (n := 4) C.1 C.2.1 C.2.2.2.2.2 B.1 B.2.1 B.2.2 1 0 rfl rfl (vp_in_nI hj (by decide)) hdg (fun H1 locs1 hP hD hS => ?_)
  rw [nI_clamp (Nat.lt_trans hj (by decide))] at hP hD
  exact kk H1 locs1 ⟨hP, hD, hS⟩
theorem rx_l2 {j : Nat} (C : rl_Cx p s m args c cc nL RX0 D dA) (B : rl_B rx_W D A s h0 ar dA w f H locs) (hj : j < 4) (hv : f 2 j = v) (hdg : decode cc pc = .ok (.iaload, 1)) (kk : W p l e R s m args below meth c H locs cells slots Q (F0 m (pc + 1) ls (.int v :: rest))) : W p l e R s m args below meth c H locs cells slots Q (F0 m pc ls (.int (nI j) :: .ref (ar 2) :: rest)) := by
  refine va_iald (f := f 2) (n := 4) C.1 C.2.1 C.2.2.2.2.2 B.1 2 0 rfl rfl (vp_in_nI hj (by decide)) hdg ?_
  rw [nI_clamp (Nat.lt_trans hj (by decide)), hv]
  exact kk
theorem rx_s2 {j : Nat} (C : rl_Cx p s m args c cc nL RX0 D dA) (B : rl_B rx_W D A s h0 ar dA w f H locs) (hj : j < 4) (hdg : decode cc pc = .ok (.iastore, 1)) (kk : ∀ (H1 : Heap) (locs1 : List Loc), rl_B rx_W D A s h0 ar dA w (rl_up f 2 j v) H1 locs1 → W p l e R s m args below meth c H1 locs1 cells slots Q (F0 m (pc + 1) ls rest)) : W p l e R s m args below meth c H locs cells slots Q (F0 m pc ls (.int v :: .int (nI j) :: .ref (ar 2) :: rest)) := by
  refine va_iast (f := f 2) (n := 4) C.1 C.2.1 C.2.2.2.2.2 B.1 B.2.1 B.2.2 2 0 rfl rfl (vp_in_nI hj (by decide)) hdg (fun H1 locs1 hP hD hS => ?_)
  rw [nI_clamp (Nat.lt_trans hj (by decide))] at hP hD
  exact kk H1 locs1 ⟨hP, hD, hS⟩
theorem rx_l3 {j : Nat} (C : rl_Cx p s m args c cc nL RX0 D dA) (B : rl_B rx_W D A s h0 ar dA w f H locs) (hj : j < 4) (hv : f 3 j = v) (hdg : decode cc pc = .ok (.iaload, 1)) (kk : W p l e R s m args below meth c H locs cells slots Q (F0 m (pc + 1) ls (.int v :: rest))) : W p l e R s m args below meth c H locs cells slots Q (F0 m pc ls (.int (nI j) :: .ref (ar 3) :: rest)) := by
  refine va_iald (f := f 3) (n := 4) C.1 C.2.1 C.2.2.2.2.2 B.1 3 0 rfl rfl (vp_in_nI hj (by decide)) hdg ?_
  rw [nI_clamp (Nat.lt_trans hj (by decide)), hv]
  exact kk
theorem rx_s3 {j : Nat} (C : rl_Cx p s m args c cc nL RX0 D dA) (B : rl_B rx_W D A s h0 ar dA w f H locs) (hj : j < 4) (hdg : decode cc pc = .ok (.iastore, 1)) (kk : ∀ (H1 : Heap) (locs1 : List Loc), rl_B rx_W D A s h0 ar dA w (rl_up f 3 j v) H1 locs1 → W p l e R s m args below meth c H1 locs1 cells slots Q (F0 m (pc + 1) ls rest)) : W p l e R s m args below meth c H locs cells slots Q (F0 m pc ls (.int v :: .int (nI j) :: .ref (ar 3) :: rest)) := by
  refine va_iast (f := f 3) (n := 4) C.1 C.2.1 C.2.2.2.2.2 B.1 B.2.1 B.2.2 3 0 rfl rfl (vp_in_nI hj (by decide)) hdg (fun H1 locs1 hP hD hS => ?_)
  rw [nI_clamp (Nat.lt_trans hj (by decide))] at hP hD
  exact kk H1 locs1 ⟨hP, hD, hS⟩
theorem rx_l4 {j : Nat} (C : rl_Cx p s m args c cc nL RX0 D dA) (B : rl_B rx_W D A s h0 ar dA w f H locs) (hj : j < 4) (hv : f 4 j = v) (hdg : decode cc pc = .ok (.iaload, 1)) (kk : W p l e R s m args below meth c H locs cells slots Q (F0 m (pc + 1) ls (.int v :: rest))) : W p l e R s m args below meth c H locs cells slots Q (F0 m pc ls (.int (nI j) :: .ref (ar 4) :: rest)) := by
  refine va_iald (f := f 4) (n := 4) C.1 C.2.1 C.2.2.2.2.2 B.1 4 0 rfl rfl (vp_in_nI hj (by decide)) hdg ?_
  rw [nI_clamp (Nat.lt_trans hj (by decide)), hv]
  exact kk
theorem rx_s4 {j : Nat} (C : rl_Cx p s m args c cc nL RX0 D dA) (B : rl_B rx_W D A s h0 ar dA w f H locs) (hj : j < 4) (hdg : decode cc pc = .ok (.iastore, 1)) (kk : ∀ (H1 : Heap) (locs1 : List Loc), rl_B rx_W D A s h0 ar dA w (rl_up f 4 j v) H1 locs1 → W p l e R s m args below meth c H1 locs1 cells slots Q (F0 m (pc + 1) ls rest)) : W p l e R s m args below meth c H locs cells slots Q (F0 m pc ls (.int v :: .int (nI j) :: .ref (ar 4) :: rest)) := by
  refine va_iast (f := f 4) (n := 4) C.1 C.2.1 C.2.2.2.2.2 B.1 B.2.1 B.2.2 4 0 rfl rfl (vp_in_nI hj (by decide)) hdg (fun H1 locs1 hP hD hS => ?_)
  rw [nI_clamp (Nat.lt_trans hj (by decide))] at hP hD
  exact kk H1 locs1 ⟨hP, hD, hS⟩
theorem rx_l5 {j : Nat} (C : rl_Cx p s m args c cc nL RX0 D dA) (B : rl_B rx_W D A s h0 ar dA w f H locs) (hj : j < 4) (hv : f 5 j = v) (hdg : decode cc pc = .ok (.iaload, 1)) (kk : W p l e R s m args below meth c H locs cells slots Q (F0 m (pc + 1) ls (.int v :: rest))) : W p l e R s m args below meth c H locs cells slots Q (F0 m pc ls (.int (nI j) :: .ref (ar 5) :: rest)) := by
  refine va_iald (f := f 5) (n := 4) C.1 C.2.1 C.2.2.2.2.2 B.1 5 0 rfl rfl (vp_in_nI hj (by decide)) hdg ?_
  rw [nI_clamp (Nat.lt_trans hj (by decide)), hv]
  exact kk
theorem rx_s5 {j : Nat} (C : rl_Cx p s m args c cc nL RX0 D dA) (B : rl_B rx_W D A s h0 ar dA w f H locs) (hj : j < 4) (hdg : decode cc pc = .ok (.iastore, 1)) (kk : ∀ (H1 : Heap) (locs1 : List Loc), rl_B rx_W D A s h0 ar dA w (rl_up f 5 j v) H1 locs1 → W p l e R s m args below meth c H1 locs1 cells slots Q (F0 m (pc + 1) ls rest)) : W p l e R s m args below meth c H locs cells slots Q (F0 m pc ls (.int v :: .int (nI j) :: .ref (ar 5) :: rest)) := by
  refine va_iast (f := f 5) (n := 4) C.1 C.2.1 C.2.2.2.2.2 B.1 B.2.1 B.2.2 5 0 rfl rfl (vp_in_nI hj (by decide)) hdg (fun H1 locs1 hP hD hS => ?_)
  rw [nI_clamp (Nat.lt_trans hj (by decide))] at hP hD
  exact kk H1 locs1 ⟨hP, hD, hS⟩
theorem rx_l6 {j : Nat} (C : rl_Cx p s m args c cc nL RX0 D dA) (B : rl_B rx_W D A s h0 ar dA w f H locs) (hj : j < 4) (hv : f 6 j = v) (hdg : decode cc pc = .ok (.iaload, 1)) (kk : W p l e R s m args below meth c H locs cells slots Q (F0 m (pc + 1) ls (.int v :: rest))) : W p l e R s m args below meth c H locs cells slots Q (F0 m pc ls (.int (nI j) :: .ref (ar 6) :: rest)) := by
  refine va_iald (f := f 6) (n := 4) C.1 C.2.1 C.2.2.2.2.2 B.1 6 0 rfl rfl (vp_in_nI hj (by decide)) hdg ?_
  rw [nI_clamp (Nat.lt_trans hj (by decide)), hv]
  exact kk
theorem rx_s6 {j : Nat} (C : rl_Cx p s m args c cc nL RX0 D dA) (B : rl_B rx_W D A s h0 ar dA w f H locs) (hj : j < 4) (hdg : decode cc pc = .ok (.iastore, 1)) (kk : ∀ (H1 : Heap) (locs1 : List Loc), rl_B rx_W D A s h0 ar dA w (rl_up f 6 j v) H1 locs1 → W p l e R s m args below meth c H1 locs1 cells slots Q (F0 m (pc + 1) ls rest)) : W p l e R s m args below meth c H locs cells slots Q (F0 m pc ls (.int v :: .int (nI j) :: .ref (ar 6) :: rest)) := by
  refine va_iast (f := f 6) (n := 4) C.1 C.2.1 C.2.2.2.2.2 B.1 B.2.1 B.2.2 6 0 rfl rfl (vp_in_nI hj (by decide)) hdg (fun H1 locs1 hP hD hS => ?_)
  rw [nI_clamp (Nat.lt_trans hj (by decide))] at hP hD
  exact kk H1 locs1 ⟨hP, hD, hS⟩
theorem rx_l7 {j : Nat} (C : rl_Cx p s m args c cc nL RX0 D dA) (B : rl_B rx_W D A s h0 ar dA w f H locs) (hj : j < 4) (hv : f 7 j = v) (hdg : decode cc pc = .ok (.iaload, 1)) (kk : W p l e R s m args below meth c H locs cells slots Q (F0 m (pc + 1) ls (.int v :: rest))) : W p l e R s m args below meth c H locs cells slots Q (F0 m pc ls (.int (nI j) :: .ref (ar 7) :: rest)) := by
  refine va_iald (f := f 7) (n := 4) C.1 C.2.1 C.2.2.2.2.2 B.1 7 0 rfl rfl (vp_in_nI hj (by decide)) hdg ?_
  rw [nI_clamp (Nat.lt_trans hj (by decide)), hv]
  exact kk
theorem rx_s7 {j : Nat} (C : rl_Cx p s m args c cc nL RX0 D dA) (B : rl_B rx_W D A s h0 ar dA w f H locs) (hj : j < 4) (hdg : decode cc pc = .ok (.iastore, 1)) (kk : ∀ (H1 : Heap) (locs1 : List Loc), rl_B rx_W D A s h0 ar dA w (rl_up f 7 j v) H1 locs1 → W p l e R s m args below meth c H1 locs1 cells slots Q (F0 m (pc + 1) ls rest)) : W p l e R s m args below meth c H locs cells slots Q (F0 m pc ls (.int v :: .int (nI j) :: .ref (ar 7) :: rest)) := by
  refine va_iast (f := f 7) (n := 4) C.1 C.2.1 C.2.2.2.2.2 B.1 B.2.1 B.2.2 7 0 rfl rfl (vp_in_nI hj (by decide)) hdg (fun H1 locs1 hP hD hS => ?_)
  rw [nI_clamp (Nat.lt_trans hj (by decide))] at hP hD
  exact kk H1 locs1 ⟨hP, hD, hS⟩
theorem rx_l8 {j : Nat} (C : rl_Cx p s m args c cc nL RX0 D dA) (B : rl_B rx_W D A s h0 ar dA w f H locs) (hj : j < 4) (hv : f 8 j = v) (hdg : decode cc pc = .ok (.iaload, 1)) (kk : W p l e R s m args below meth c H locs cells slots Q (F0 m (pc + 1) ls (.int v :: rest))) : W p l e R s m args below meth c H locs cells slots Q (F0 m pc ls (.int (nI j) :: .ref (ar 8) :: rest)) := by
  refine va_iald (f := f 8) (n := 4) C.1 C.2.1 C.2.2.2.2.2 B.1 8 0 rfl rfl (vp_in_nI hj (by decide)) hdg ?_
  rw [nI_clamp (Nat.lt_trans hj (by decide)), hv]
  exact kk
theorem rx_s8 {j : Nat} (C : rl_Cx p s m args c cc nL RX0 D dA) (B : rl_B rx_W D A s h0 ar dA w f H locs) (hj : j < 4) (hdg : decode cc pc = .ok (.iastore, 1)) (kk : ∀ (H1 : Heap) (locs1 : List Loc), rl_B rx_W D A s h0 ar dA w (rl_up f 8 j v) H1 locs1 → W p l e R s m args below meth c H1 locs1 cells slots Q (F0 m (pc + 1) ls rest)) : W p l e R s m args below meth c H locs cells slots Q (F0 m pc ls (.int v :: .int (nI j) :: .ref (ar 8) :: rest)) := by
  refine va_iast (f := f 8) (n := 4) C.1 C.2.1 C.2.2.2.2.2 B.1 B.2.1 B.2.2 8 0 rfl rfl (vp_in_nI hj (by decide)) hdg (fun H1 locs1 hP hD hS => ?_)
  rw [nI_clamp (Nat.lt_trans hj (by decide))] at hP hD
  exact kk H1 locs1 ⟨hP, hD, hS⟩
theorem rx_l9 {j : Nat} (C : rl_Cx p s m args c cc nL RX0 D dA) (B : rl_B rx_W D A s h0 ar dA w f H locs) (hj : j < 4) (hv : f 9 j = v) (hdg : decode cc pc = .ok (.iaload, 1)) (kk : W p l e R s m args below meth c H locs cells slots Q (F0 m (pc + 1) ls (.int v :: rest))) : W p l e R s m args below meth c H locs cells slots Q (F0 m pc ls (.int (nI j) :: .ref (ar 9) :: rest)) := by
  refine va_iald (f := f 9) (n := 4) C.1 C.2.1 C.2.2.2.2.2 B.1 9 0 rfl rfl (vp_in_nI hj (by decide)) hdg ?_
  rw [nI_clamp (Nat.lt_trans hj (by decide)), hv]
  exact kk
theorem rx_s9 {j : Nat} (C : rl_Cx p s m args c cc nL RX0 D dA) (B : rl_B rx_W D A s h0 ar dA w f H locs) (hj : j < 4) (hdg : decode cc pc = .ok (.iastore, 1)) (kk : ∀ (H1 : Heap) (locs1 : List Loc), rl_B rx_W D A s h0 ar dA w (rl_up f 9 j v) H1 locs1 → W p l e R s m args below meth c H1 locs1 cells slots Q (F0 m (pc + 1) ls rest)) : W p l e R s m args below meth c H locs cells slots Q (F0 m pc ls (.int v :: .int (nI j) :: .ref (ar 9) :: rest)) := by
  refine va_iast (f := f 9) (n := 4) C.1 C.2.1 C.2.2.2.2.2 B.1 B.2.1 B.2.2 9 0 rfl rfl (vp_in_nI hj (by decide)) hdg (fun H1 locs1 hP hD hS => ?_)
  rw [nI_clamp (Nat.lt_trans hj (by decide))] at hP hD
  exact kk H1 locs1 ⟨hP, hD, hS⟩
theorem rx_l10 {j : Nat} (C : rl_Cx p s m args c cc nL RX0 D dA) (B : rl_B rx_W D A s h0 ar dA w f H locs) (hj : j < 4) (hv : f 10 j = v) (hdg : decode cc pc = .ok (.iaload, 1)) (kk : W p l e R s m args below meth c H locs cells slots Q (F0 m (pc + 1) ls (.int v :: rest))) : W p l e R s m args below meth c H locs cells slots Q (F0 m pc ls (.int (nI j) :: .ref (ar 10) :: rest)) := by
  refine va_iald (f := f 10) (n := 4) C.1 C.2.1 C.2.2.2.2.2 B.1 10 0 rfl rfl (vp_in_nI hj (by decide)) hdg ?_
  rw [nI_clamp (Nat.lt_trans hj (by decide)), hv]
  exact kk
theorem rx_s10 {j : Nat} (C : rl_Cx p s m args c cc nL RX0 D dA) (B : rl_B rx_W D A s h0 ar dA w f H locs) (hj : j < 4) (hdg : decode cc pc = .ok (.iastore, 1)) (kk : ∀ (H1 : Heap) (locs1 : List Loc), rl_B rx_W D A s h0 ar dA w (rl_up f 10 j v) H1 locs1 → W p l e R s m args below meth c H1 locs1 cells slots Q (F0 m (pc + 1) ls rest)) : W p l e R s m args below meth c H locs cells slots Q (F0 m pc ls (.int v :: .int (nI j) :: .ref (ar 10) :: rest)) := by
  refine va_iast (f := f 10) (n := 4) C.1 C.2.1 C.2.2.2.2.2 B.1 B.2.1 B.2.2 10 0 rfl rfl (vp_in_nI hj (by decide)) hdg (fun H1 locs1 hP hD hS => ?_)
  rw [nI_clamp (Nat.lt_trans hj (by decide))] at hP hD
  exact kk H1 locs1 ⟨hP, hD, hS⟩
theorem rx_l11 {j : Nat} (C : rl_Cx p s m args c cc nL RX0 D dA) (B : rl_B rx_W D A s h0 ar dA w f H locs) (hj : j < 4) (hv : f 11 j = v) (hdg : decode cc pc = .ok (.iaload, 1)) (kk : W p l e R s m args below meth c H locs cells slots Q (F0 m (pc + 1) ls (.int v :: rest))) : W p l e R s m args below meth c H locs cells slots Q (F0 m pc ls (.int (nI j) :: .ref (ar 11) :: rest)) := by
  refine va_iald (f := f 11) (n := 4) C.1 C.2.1 C.2.2.2.2.2 B.1 11 0 rfl rfl (vp_in_nI hj (by decide)) hdg ?_
  rw [nI_clamp (Nat.lt_trans hj (by decide)), hv]
  exact kk
theorem rx_s11 {j : Nat} (C : rl_Cx p s m args c cc nL RX0 D dA) (B : rl_B rx_W D A s h0 ar dA w f H locs) (hj : j < 4) (hdg : decode cc pc = .ok (.iastore, 1)) (kk : ∀ (H1 : Heap) (locs1 : List Loc), rl_B rx_W D A s h0 ar dA w (rl_up f 11 j v) H1 locs1 → W p l e R s m args below meth c H1 locs1 cells slots Q (F0 m (pc + 1) ls rest)) : W p l e R s m args below meth c H locs cells slots Q (F0 m pc ls (.int v :: .int (nI j) :: .ref (ar 11) :: rest)) := by
  refine va_iast (f := f 11) (n := 4) C.1 C.2.1 C.2.2.2.2.2 B.1 B.2.1 B.2.2 11 0 rfl rfl (vp_in_nI hj (by decide)) hdg (fun H1 locs1 hP hD hS => ?_)
  rw [nI_clamp (Nat.lt_trans hj (by decide))] at hP hD
  exact kk H1 locs1 ⟨hP, hD, hS⟩
theorem rx_l12 {j : Nat} (C : rl_Cx p s m args c cc nL RX0 D dA) (B : rl_B rx_W D A s h0 ar dA w f H locs) (hj : j < 4) (hv : f 12 j = v) (hdg : decode cc pc = .ok (.iaload, 1)) (kk : W p l e R s m args below meth c H locs cells slots Q (F0 m (pc + 1) ls (.int v :: rest))) : W p l e R s m args below meth c H locs cells slots Q (F0 m pc ls (.int (nI j) :: .ref (ar 12) :: rest)) := by
  refine va_iald (f := f 12) (n := 4) C.1 C.2.1 C.2.2.2.2.2 B.1 12 0 rfl rfl (vp_in_nI hj (by decide)) hdg ?_
  rw [nI_clamp (Nat.lt_trans hj (by decide)), hv]
  exact kk
theorem rx_s12 {j : Nat} (C : rl_Cx p s m args c cc nL RX0 D dA) (B : rl_B rx_W D A s h0 ar dA w f H locs) (hj : j < 4) (hdg : decode cc pc = .ok (.iastore, 1)) (kk : ∀ (H1 : Heap) (locs1 : List Loc), rl_B rx_W D A s h0 ar dA w (rl_up f 12 j v) H1 locs1 → W p l e R s m args below meth c H1 locs1 cells slots Q (F0 m (pc + 1) ls rest)) : W p l e R s m args below meth c H locs cells slots Q (F0 m pc ls (.int v :: .int (nI j) :: .ref (ar 12) :: rest)) := by
  refine va_iast (f := f 12) (n := 4) C.1 C.2.1 C.2.2.2.2.2 B.1 B.2.1 B.2.2 12 0 rfl rfl (vp_in_nI hj (by decide)) hdg (fun H1 locs1 hP hD hS => ?_)
  rw [nI_clamp (Nat.lt_trans hj (by decide))] at hP hD
  exact kk H1 locs1 ⟨hP, hD, hS⟩
theorem rx_l13 {j : Nat} (C : rl_Cx p s m args c cc nL RX0 D dA) (B : rl_B rx_W D A s h0 ar dA w f H locs) (hj : j < 128) (hv : f 13 j = v) (hdg : decode cc pc = .ok (.iaload, 1)) (kk : W p l e R s m args below meth c H locs cells slots Q (F0 m (pc + 1) ls (.int v :: rest))) : W p l e R s m args below meth c H locs cells slots Q (F0 m pc ls (.int (nI j) :: .ref (ar 13) :: rest)) := by
  refine va_iald (f := f 13) (n := 128) C.1 C.2.1 C.2.2.2.2.2 B.1 13 0 rfl rfl (vp_in_nI hj (by decide)) hdg ?_
  rw [nI_clamp (Nat.lt_trans hj (by decide)), hv]
  exact kk
theorem rx_s13 {j : Nat} (C : rl_Cx p s m args c cc nL RX0 D dA) (B : rl_B rx_W D A s h0 ar dA w f H locs) (hj : j < 128) (hdg : decode cc pc = .ok (.iastore, 1)) (kk : ∀ (H1 : Heap) (locs1 : List Loc), rl_B rx_W D A s h0 ar dA w (rl_up f 13 j v) H1 locs1 → W p l e R s m args below meth c H1 locs1 cells slots Q (F0 m (pc + 1) ls rest)) : W p l e R s m args below meth c H locs cells slots Q (F0 m pc ls (.int v :: .int (nI j) :: .ref (ar 13) :: rest)) := by
  refine va_iast (f := f 13) (n := 128) C.1 C.2.1 C.2.2.2.2.2 B.1 B.2.1 B.2.2 13 0 rfl rfl (vp_in_nI hj (by decide)) hdg (fun H1 locs1 hP hD hS => ?_)
  rw [nI_clamp (Nat.lt_trans hj (by decide))] at hP hD
  exact kk H1 locs1 ⟨hP, hD, hS⟩
theorem rx_l14 {j : Nat} (C : rl_Cx p s m args c cc nL RX0 D dA) (B : rl_B rx_W D A s h0 ar dA w f H locs) (hj : j < 128) (hv : f 14 j = v) (hdg : decode cc pc = .ok (.iaload, 1)) (kk : W p l e R s m args below meth c H locs cells slots Q (F0 m (pc + 1) ls (.int v :: rest))) : W p l e R s m args below meth c H locs cells slots Q (F0 m pc ls (.int (nI j) :: .ref (ar 14) :: rest)) := by
  refine va_iald (f := f 14) (n := 128) C.1 C.2.1 C.2.2.2.2.2 B.1 14 0 rfl rfl (vp_in_nI hj (by decide)) hdg ?_
  rw [nI_clamp (Nat.lt_trans hj (by decide)), hv]
  exact kk
theorem rx_s14 {j : Nat} (C : rl_Cx p s m args c cc nL RX0 D dA) (B : rl_B rx_W D A s h0 ar dA w f H locs) (hj : j < 128) (hdg : decode cc pc = .ok (.iastore, 1)) (kk : ∀ (H1 : Heap) (locs1 : List Loc), rl_B rx_W D A s h0 ar dA w (rl_up f 14 j v) H1 locs1 → W p l e R s m args below meth c H1 locs1 cells slots Q (F0 m (pc + 1) ls rest)) : W p l e R s m args below meth c H locs cells slots Q (F0 m pc ls (.int v :: .int (nI j) :: .ref (ar 14) :: rest)) := by
  refine va_iast (f := f 14) (n := 128) C.1 C.2.1 C.2.2.2.2.2 B.1 B.2.1 B.2.2 14 0 rfl rfl (vp_in_nI hj (by decide)) hdg (fun H1 locs1 hP hD hS => ?_)
  rw [nI_clamp (Nat.lt_trans hj (by decide))] at hP hD
  exact kk H1 locs1 ⟨hP, hD, hS⟩
theorem rm_g0 (C : rl_Cx p s m args c cc nL RX1 D dA) (B : rl_B rm_W D A s h0 ar dA w f H locs) (hdg : decode cc pc = .ok (.getfield 53, 3)) (kk : W p l e R s m args below meth c H locs cells slots Q (F0 m (pc + 3) ls (.int w :: rest))) : W p l e R s m args below meth c H locs cells slots Q (F0 m pc ls (.ref h0 :: rest)) :=
  va_get (D := D) (ci := 1) (v := .int w) (C := RX1) (T := TX1) (N := 10) C.1 C.2.1 C.2.2.2.2.1 in_X1 C.2.2.2.1 C.2.2.2.2.2 B.1 0 rfl rfl 0 (by decide) (C.2.2.2.2.1 _ q150) (fun _ h9 => h9) rfl hdg kk
theorem rm_g1 (C : rl_Cx p s m args c cc nL RX1 D dA) (B : rl_B rm_W D A s h0 ar dA w f H locs) (hdg : decode cc pc = .ok (.getfield 7, 3)) (kk : W p l e R s m args below meth c H locs cells slots Q (F0 m (pc + 3) ls (.ref (ar 1) :: rest))) : W p l e R s m args below meth c H locs cells slots Q (F0 m pc ls (.ref h0 :: rest)) :=
  va_get (D := D) (ci := 1) (v := .ref (ar 1)) (C := RX1) (T := TX1) (N := 10) C.1 C.2.1 C.2.2.2.2.1 in_X1 C.2.2.2.1 C.2.2.2.2.2 B.1 0 rfl rfl 1 (by decide) (C.2.2.2.2.1 _ q151) (fun _ h9 => h9) rfl hdg kk
theorem rm_g2 (C : rl_Cx p s m args c cc nL RX1 D dA) (B : rl_B rm_W D A s h0 ar dA w f H locs) (hdg : decode cc pc = .ok (.getfield 13, 3)) (kk : W p l e R s m args below meth c H locs cells slots Q (F0 m (pc + 3) ls (.ref (ar 2) :: rest))) : W p l e R s m args below meth c H locs cells slots Q (F0 m pc ls (.ref h0 :: rest)) :=
  va_get (D := D) (ci := 1) (v := .ref (ar 2)) (C := RX1) (T := TX1) (N := 10) C.1 C.2.1 C.2.2.2.2.1 in_X1 C.2.2.2.1 C.2.2.2.2.2 B.1 0 rfl rfl 2 (by decide) (C.2.2.2.2.1 _ q152) (fun _ h9 => h9) rfl hdg kk
theorem rm_g3 (C : rl_Cx p s m args c cc nL RX1 D dA) (B : rl_B rm_W D A s h0 ar dA w f H locs) (hdg : decode cc pc = .ok (.getfield 16, 3)) (kk : W p l e R s m args below meth c H locs cells slots Q (F0 m (pc + 3) ls (.ref (ar 3) :: rest))) : W p l e R s m args below meth c H locs cells slots Q (F0 m pc ls (.ref h0 :: rest)) :=
  va_get (D := D) (ci := 1) (v := .ref (ar 3)) (C := RX1) (T := TX1) (N := 10) C.1 C.2.1 C.2.2.2.2.1 in_X1 C.2.2.2.1 C.2.2.2.2.2 B.1 0 rfl rfl 3 (by decide) (C.2.2.2.2.1 _ q153) (fun _ h9 => h9) rfl hdg kk
theorem rm_g4 (C : rl_Cx p s m args c cc nL RX1 D dA) (B : rl_B rm_W D A s h0 ar dA w f H locs) (hdg : decode cc pc = .ok (.getfield 19, 3)) (kk : W p l e R s m args below meth c H locs cells slots Q (F0 m (pc + 3) ls (.ref (ar 4) :: rest))) : W p l e R s m args below meth c H locs cells slots Q (F0 m pc ls (.ref h0 :: rest)) :=
  va_get (D := D) (ci := 1) (v := .ref (ar 4)) (C := RX1) (T := TX1) (N := 10) C.1 C.2.1 C.2.2.2.2.1 in_X1 C.2.2.2.1 C.2.2.2.2.2 B.1 0 rfl rfl 4 (by decide) (C.2.2.2.2.1 _ q154) (fun _ h9 => h9) rfl hdg kk
theorem rm_g5 (C : rl_Cx p s m args c cc nL RX1 D dA) (B : rl_B rm_W D A s h0 ar dA w f H locs) (hdg : decode cc pc = .ok (.getfield 22, 3)) (kk : W p l e R s m args below meth c H locs cells slots Q (F0 m (pc + 3) ls (.ref (ar 5) :: rest))) : W p l e R s m args below meth c H locs cells slots Q (F0 m pc ls (.ref h0 :: rest)) :=
  va_get (D := D) (ci := 1) (v := .ref (ar 5)) (C := RX1) (T := TX1) (N := 10) C.1 C.2.1 C.2.2.2.2.1 in_X1 C.2.2.2.1 C.2.2.2.2.2 B.1 0 rfl rfl 5 (by decide) (C.2.2.2.2.1 _ q155) (fun _ h9 => h9) rfl hdg kk
theorem rm_g6 (C : rl_Cx p s m args c cc nL RX1 D dA) (B : rl_B rm_W D A s h0 ar dA w f H locs) (hdg : decode cc pc = .ok (.getfield 25, 3)) (kk : W p l e R s m args below meth c H locs cells slots Q (F0 m (pc + 3) ls (.ref (ar 6) :: rest))) : W p l e R s m args below meth c H locs cells slots Q (F0 m pc ls (.ref h0 :: rest)) :=
  va_get (D := D) (ci := 1) (v := .ref (ar 6)) (C := RX1) (T := TX1) (N := 10) C.1 C.2.1 C.2.2.2.2.1 in_X1 C.2.2.2.1 C.2.2.2.2.2 B.1 0 rfl rfl 6 (by decide) (C.2.2.2.2.1 _ q156) (fun _ h9 => h9) rfl hdg kk
theorem rm_g7 (C : rl_Cx p s m args c cc nL RX1 D dA) (B : rl_B rm_W D A s h0 ar dA w f H locs) (hdg : decode cc pc = .ok (.getfield 28, 3)) (kk : W p l e R s m args below meth c H locs cells slots Q (F0 m (pc + 3) ls (.ref (ar 7) :: rest))) : W p l e R s m args below meth c H locs cells slots Q (F0 m pc ls (.ref h0 :: rest)) :=
  va_get (D := D) (ci := 1) (v := .ref (ar 7)) (C := RX1) (T := TX1) (N := 10) C.1 C.2.1 C.2.2.2.2.1 in_X1 C.2.2.2.1 C.2.2.2.2.2 B.1 0 rfl rfl 7 (by decide) (C.2.2.2.2.1 _ q157) (fun _ h9 => h9) rfl hdg kk
theorem rm_g8 (C : rl_Cx p s m args c cc nL RX1 D dA) (B : rl_B rm_W D A s h0 ar dA w f H locs) (hdg : decode cc pc = .ok (.getfield 31, 3)) (kk : W p l e R s m args below meth c H locs cells slots Q (F0 m (pc + 3) ls (.ref (ar 8) :: rest))) : W p l e R s m args below meth c H locs cells slots Q (F0 m pc ls (.ref h0 :: rest)) :=
  va_get (D := D) (ci := 1) (v := .ref (ar 8)) (C := RX1) (T := TX1) (N := 10) C.1 C.2.1 C.2.2.2.2.1 in_X1 C.2.2.2.1 C.2.2.2.2.2 B.1 0 rfl rfl 8 (by decide) (C.2.2.2.2.1 _ q158) (fun _ h9 => h9) rfl hdg kk
theorem rm_g9 (C : rl_Cx p s m args c cc nL RX1 D dA) (B : rl_B rm_W D A s h0 ar dA w f H locs) (hdg : decode cc pc = .ok (.getfield 34, 3)) (kk : W p l e R s m args below meth c H locs cells slots Q (F0 m (pc + 3) ls (.ref (ar 9) :: rest))) : W p l e R s m args below meth c H locs cells slots Q (F0 m pc ls (.ref h0 :: rest)) :=
  va_get (D := D) (ci := 1) (v := .ref (ar 9)) (C := RX1) (T := TX1) (N := 10) C.1 C.2.1 C.2.2.2.2.1 in_X1 C.2.2.2.1 C.2.2.2.2.2 B.1 0 rfl rfl 9 (by decide) (C.2.2.2.2.1 _ q159) (fun _ h9 => h9) rfl hdg kk
theorem rm_p0 (C : rl_Cx p s m args c cc nL RX1 D dA) (B : rl_B rm_W D A s h0 ar dA w f H locs) (hdg : decode cc pc = .ok (.putfield 53, 3)) (kk : ∀ (H1 : Heap) (locs1 : List Loc), rl_B rm_W D A s h0 ar dA v f H1 locs1 → W p l e R s m args below meth c H1 locs1 cells slots Q (F0 m (pc + 3) ls rest)) : W p l e R s m args below meth c H locs cells slots Q (F0 m pc ls (.int v :: .ref h0 :: rest)) :=
  va_put (D := D) (ci := 1) (v := .int v) (ty := .int) (C := RX1) (T := TX1) (N := 10) C.1 C.2.1 C.2.2.2.2.1 in_X1 tyX1 tyX1_ok nmX1 C.2.2.2.1 C.2.2.2.2.2 B.1 B.2.1 B.2.2 0 rfl rfl 0 (by decide) (C.2.2.2.2.1 _ q150) (fun _ h9 => h9) rfl (by decide +kernel) rfl rfl (Nat.le_of_ble_eq_true rfl) hdg (fun H1 locs1 hP hD hS => kk H1 locs1 ⟨hP, hD, hS⟩)
theorem rm_l1 {j : Nat} (C : rl_Cx p s m args c cc nL RX1 D dA) (B : rl_B rm_W D A s h0 ar dA w f H locs) (hj : j < 4) (hv : f 1 j = v) (hdg : decode cc pc = .ok (.iaload, 1)) (kk : W p l e R s m args below meth c H locs cells slots Q (F0 m (pc + 1) ls (.int v :: rest))) : W p l e R s m args below meth c H locs cells slots Q (F0 m pc ls (.int (nI j) :: .ref (ar 1) :: rest)) := by
  refine va_iald (f := f 1) (n := 4) C.1 C.2.1 C.2.2.2.2.2 B.1 1 0 rfl rfl (vp_in_nI hj (by decide)) hdg ?_
  rw [nI_clamp (Nat.lt_trans hj (by decide)), hv]
  exact kk
theorem rm_s1 {j : Nat} (C : rl_Cx p s m args c cc nL RX1 D dA) (B : rl_B rm_W D A s h0 ar dA w f H locs) (hj : j < 4) (hdg : decode cc pc = .ok (.iastore, 1)) (kk : ∀ (H1 : Heap) (locs1 : List Loc), rl_B rm_W D A s h0 ar dA w (rl_up f 1 j v) H1 locs1 → W p l e R s m args below meth c H1 locs1 cells slots Q (F0 m (pc + 1) ls rest)) : W p l e R s m args below meth c H locs cells slots Q (F0 m pc ls (.int v :: .int (nI j) :: .ref (ar 1) :: rest)) := by
  refine va_iast (f := f 1) (n := 4) C.1 C.2.1 C.2.2.2.2.2 B.1 B.2.1 B.2.2 1 0 rfl rfl (vp_in_nI hj (by decide)) hdg (fun H1 locs1 hP hD hS => ?_)
  rw [nI_clamp (Nat.lt_trans hj (by decide))] at hP hD
  exact kk H1 locs1 ⟨hP, hD, hS⟩
theorem rm_l2 {j : Nat} (C : rl_Cx p s m args c cc nL RX1 D dA) (B : rl_B rm_W D A s h0 ar dA w f H locs) (hj : j < 4) (hv : f 2 j = v) (hdg : decode cc pc = .ok (.iaload, 1)) (kk : W p l e R s m args below meth c H locs cells slots Q (F0 m (pc + 1) ls (.int v :: rest))) : W p l e R s m args below meth c H locs cells slots Q (F0 m pc ls (.int (nI j) :: .ref (ar 2) :: rest)) := by
  refine va_iald (f := f 2) (n := 4) C.1 C.2.1 C.2.2.2.2.2 B.1 2 0 rfl rfl (vp_in_nI hj (by decide)) hdg ?_
  rw [nI_clamp (Nat.lt_trans hj (by decide)), hv]
  exact kk
theorem rm_s2 {j : Nat} (C : rl_Cx p s m args c cc nL RX1 D dA) (B : rl_B rm_W D A s h0 ar dA w f H locs) (hj : j < 4) (hdg : decode cc pc = .ok (.iastore, 1)) (kk : ∀ (H1 : Heap) (locs1 : List Loc), rl_B rm_W D A s h0 ar dA w (rl_up f 2 j v) H1 locs1 → W p l e R s m args below meth c H1 locs1 cells slots Q (F0 m (pc + 1) ls rest)) : W p l e R s m args below meth c H locs cells slots Q (F0 m pc ls (.int v :: .int (nI j) :: .ref (ar 2) :: rest)) := by
  refine va_iast (f := f 2) (n := 4) C.1 C.2.1 C.2.2.2.2.2 B.1 B.2.1 B.2.2 2 0 rfl rfl (vp_in_nI hj (by decide)) hdg (fun H1 locs1 hP hD hS => ?_)
  rw [nI_clamp (Nat.lt_trans hj (by decide))] at hP hD
  exact kk H1 locs1 ⟨hP, hD, hS⟩
theorem rm_l3 {j : Nat} (C : rl_Cx p s m args c cc nL RX1 D dA) (B : rl_B rm_W D A s h0 ar dA w f H locs) (hj : j < 4) (hv : f 3 j = v) (hdg : decode cc pc = .ok (.iaload, 1)) (kk : W p l e R s m args below meth c H locs cells slots Q (F0 m (pc + 1) ls (.int v :: rest))) : W p l e R s m args below meth c H locs cells slots Q (F0 m pc ls (.int (nI j) :: .ref (ar 3) :: rest)) := by
  refine va_iald (f := f 3) (n := 4) C.1 C.2.1 C.2.2.2.2.2 B.1 3 0 rfl rfl (vp_in_nI hj (by decide)) hdg ?_
  rw [nI_clamp (Nat.lt_trans hj (by decide)), hv]
  exact kk
theorem rm_s3 {j : Nat} (C : rl_Cx p s m args c cc nL RX1 D dA) (B : rl_B rm_W D A s h0 ar dA w f H locs) (hj : j < 4) (hdg : decode cc pc = .ok (.iastore, 1)) (kk : ∀ (H1 : Heap) (locs1 : List Loc), rl_B rm_W D A s h0 ar dA w (rl_up f 3 j v) H1 locs1 → W p l e R s m args below meth c H1 locs1 cells slots Q (F0 m (pc + 1) ls rest)) : W p l e R s m args below meth c H locs cells slots Q (F0 m pc ls (.int v :: .int (nI j) :: .ref (ar 3) :: rest)) := by
  refine va_iast (f := f 3) (n := 4) C.1 C.2.1 C.2.2.2.2.2 B.1 B.2.1 B.2.2 3 0 rfl rfl (vp_in_nI hj (by decide)) hdg (fun H1 locs1 hP hD hS => ?_)
  rw [nI_clamp (Nat.lt_trans hj (by decide))] at hP hD
  exact kk H1 locs1 ⟨hP, hD, hS⟩
theorem rm_l4 {j : Nat} (C : rl_Cx p s m args c cc nL RX1 D dA) (B : rl_B rm_W D A s h0 ar dA w f H locs) (hj : j < 4) (hv : f 4 j = v) (hdg : decode cc pc = .ok (.iaload, 1)) (kk : W p l e R s m args below meth c H locs cells slots Q (F0 m (pc + 1) ls (.int v :: rest))) : W p l e R s m args below meth c H locs cells slots Q (F0 m pc ls (.int (nI j) :: .ref (ar 4) :: rest)) := by
  refine va_iald (f := f 4) (n := 4) C.1 C.2.1 C.2.2.2.2.2 B.1 4 0 rfl rfl (vp_in_nI hj (by decide)) hdg ?_
  rw [nI_clamp (Nat.lt_trans hj (by decide)), hv]
  exact kk
theorem rm_s4 {j : Nat} (C : rl_Cx p s m args c cc nL RX1 D dA) (B : rl_B rm_W D A s h0 ar dA w f H locs) (hj : j < 4) (hdg : decode cc pc = .ok (.iastore, 1)) (kk : ∀ (H1 : Heap) (locs1 : List Loc), rl_B rm_W D A s h0 ar dA w (rl_up f 4 j v) H1 locs1 → W p l e R s m args below meth c H1 locs1 cells slots Q (F0 m (pc + 1) ls rest)) : W p l e R s m args below meth c H locs cells slots Q (F0 m pc ls (.int v :: .int (nI j) :: .ref (ar 4) :: rest)) := by
  refine va_iast (f := f 4) (n := 4) C.1 C.2.1 C.2.2.2.2.2 B.1 B.2.1 B.2.2 4 0 rfl rfl (vp_in_nI hj (by decide)) hdg (fun H1 locs1 hP hD hS => ?_)
  rw [nI_clamp (Nat.lt_trans hj (by decide))] at hP hD
  exact kk H1 locs1 ⟨hP, hD, hS⟩
theorem rm_l5 {j : Nat} (C : rl_Cx p s m args c cc nL RX1 D dA) (B : rl_B rm_W D A s h0 ar dA w f H locs) (hj : j < 4) (hv : f 5 j = v) (hdg : decode cc pc = .ok (.iaload, 1)) (kk : W p l e R s m args below meth c H locs cells slots Q (F0 m (pc + 1) ls (.int v :: rest))) : W p l e R s m args below meth c H locs cells slots Q (F0 m pc ls (.int (nI j) :: .ref (ar 5) :: rest)) := by
  refine va_iald (f := f 5) (n := 4) C.1 C.2.1 C.2.2.2.2.2 B.1 5 0 rfl rfl (vp_in_nI hj (by decide)) hdg ?_
  rw [nI_clamp (Nat.lt_trans hj (by decide)), hv]
  exact kk
theorem rm_s5 {j : Nat} (C : rl_Cx p s m args c cc nL RX1 D dA) (B : rl_B rm_W D A s h0 ar dA w f H locs) (hj : j < 4) (hdg : decode cc pc = .ok (.iastore, 1)) (kk : ∀ (H1 : Heap) (locs1 : List Loc), rl_B rm_W D A s h0 ar dA w (rl_up f 5 j v) H1 locs1 → W p l e R s m args below meth c H1 locs1 cells slots Q (F0 m (pc + 1) ls rest)) : W p l e R s m args below meth c H locs cells slots Q (F0 m pc ls (.int v :: .int (nI j) :: .ref (ar 5) :: rest)) := by
  refine va_iast (f := f 5) (n := 4) C.1 C.2.1 C.2.2.2.2.2 B.1 B.2.1 B.2.2 5 0 rfl rfl (vp_in_nI hj (by decide)) hdg (fun H1 locs1 hP hD hS => ?_)
  rw [nI_clamp (Nat.lt_trans hj (by decide))] at hP hD
  exact kk H1 locs1 ⟨hP, hD, hS⟩
theorem rm_l6 {j : Nat} (C : rl_Cx p s m args c cc nL RX1 D dA) (B : rl_B rm_W D A s h0 ar dA w f H locs) (hj : j < 40) (hv : f 6 j = v) (hdg : decode cc pc = .ok (.iaload, 1)) (kk : W p l e R s m args below meth c H locs cells slots Q (F0 m (pc + 1) ls (.int v :: rest))) : W p l e R s m args below meth c H locs cells slots Q (F0 m pc ls (.int (nI j) :: .ref (ar 6) :: rest)) := by
  refine va_iald (f := f 6) (n := 40) C.1 C.2.1 C.2.2.2.2.2 B.1 6 0 rfl rfl (vp_in_nI hj (by decide)) hdg ?_
  rw [nI_clamp (Nat.lt_trans hj (by decide)), hv]
  exact kk
theorem rm_s6 {j : Nat} (C : rl_Cx p s m args c cc nL RX1 D dA) (B : rl_B rm_W D A s h0 ar dA w f H locs) (hj : j < 40) (hdg : decode cc pc = .ok (.iastore, 1)) (kk : ∀ (H1 : Heap) (locs1 : List Loc), rl_B rm_W D A s h0 ar dA w (rl_up f 6 j v) H1 locs1 → W p l e R s m args below meth c H1 locs1 cells slots Q (F0 m (pc + 1) ls rest)) : W p l e R s m args below meth c H locs cells slots Q (F0 m pc ls (.int v :: .int (nI j) :: .ref (ar 6) :: rest)) := by
  refine va_iast (f := f 6) (n := 40) C.1 C.2.1 C.2.2.2.2.2 B.1 B.2.1 B.2.2 6 0 rfl rfl (vp_in_nI hj (by decide)) hdg (fun H1 locs1 hP hD hS => ?_)
  rw [nI_clamp (Nat.lt_trans hj (by decide))] at hP hD
  exact kk H1 locs1 ⟨hP, hD, hS⟩
theorem rm_l7 {j : Nat} (C : rl_Cx p s m args c cc nL RX1 D dA) (B : rl_B rm_W D A s h0 ar dA w f H locs) (hj : j < 4) (hv : f 7 j = v) (hdg : decode cc pc = .ok (.iaload, 1)) (kk : W p l e R s m args below meth c H locs cells slots Q (F0 m (pc + 1) ls (.int v :: rest))) : W p l e R s m args below meth c H locs cells slots Q (F0 m pc ls (.int (nI j) :: .ref (ar 7) :: rest)) := by
  refine va_iald (f := f 7) (n := 4) C.1 C.2.1 C.2.2.2.2.2 B.1 7 0 rfl rfl (vp_in_nI hj (by decide)) hdg ?_
  rw [nI_clamp (Nat.lt_trans hj (by decide)), hv]
  exact kk
theorem rm_s7 {j : Nat} (C : rl_Cx p s m args c cc nL RX1 D dA) (B : rl_B rm_W D A s h0 ar dA w f H locs) (hj : j < 4) (hdg : decode cc pc = .ok (.iastore, 1)) (kk : ∀ (H1 : Heap) (locs1 : List Loc), rl_B rm_W D A s h0 ar dA w (rl_up f 7 j v) H1 locs1 → W p l e R s m args below meth c H1 locs1 cells slots Q (F0 m (pc + 1) ls rest)) : W p l e R s m args below meth c H locs cells slots Q (F0 m pc ls (.int v :: .int (nI j) :: .ref (ar 7) :: rest)) := by
  refine va_iast (f := f 7) (n := 4) C.1 C.2.1 C.2.2.2.2.2 B.1 B.2.1 B.2.2 7 0 rfl rfl (vp_in_nI hj (by decide)) hdg (fun H1 locs1 hP hD hS => ?_)
  rw [nI_clamp (Nat.lt_trans hj (by decide))] at hP hD
  exact kk H1 locs1 ⟨hP, hD, hS⟩
theorem rm_l8 {j : Nat} (C : rl_Cx p s m args c cc nL RX1 D dA) (B : rl_B rm_W D A s h0 ar dA w f H locs) (hj : j < 4) (hv : f 8 j = v) (hdg : decode cc pc = .ok (.iaload, 1)) (kk : W p l e R s m args below meth c H locs cells slots Q (F0 m (pc + 1) ls (.int v :: rest))) : W p l e R s m args below meth c H locs cells slots Q (F0 m pc ls (.int (nI j) :: .ref (ar 8) :: rest)) := by
  refine va_iald (f := f 8) (n := 4) C.1 C.2.1 C.2.2.2.2.2 B.1 8 0 rfl rfl (vp_in_nI hj (by decide)) hdg ?_
  rw [nI_clamp (Nat.lt_trans hj (by decide)), hv]
  exact kk
theorem rm_s8 {j : Nat} (C : rl_Cx p s m args c cc nL RX1 D dA) (B : rl_B rm_W D A s h0 ar dA w f H locs) (hj : j < 4) (hdg : decode cc pc = .ok (.iastore, 1)) (kk : ∀ (H1 : Heap) (locs1 : List Loc), rl_B rm_W D A s h0 ar dA w (rl_up f 8 j v) H1 locs1 → W p l e R s m args below meth c H1 locs1 cells slots Q (F0 m (pc + 1) ls rest)) : W p l e R s m args below meth c H locs cells slots Q (F0 m pc ls (.int v :: .int (nI j) :: .ref (ar 8) :: rest)) := by
  refine va_iast (f := f 8) (n := 4) C.1 C.2.1 C.2.2.2.2.2 B.1 B.2.1 B.2.2 8 0 rfl rfl (vp_in_nI hj (by decide)) hdg (fun H1 locs1 hP hD hS => ?_)
  rw [nI_clamp (Nat.lt_trans hj (by decide))] at hP hD
  exact kk H1 locs1 ⟨hP, hD, hS⟩
theorem rm_l9 {j : Nat} (C : rl_Cx p s m args c cc nL RX1 D dA) (B : rl_B rm_W D A s h0 ar dA w f H locs) (hj : j < 4) (hv : f 9 j = v) (hdg : decode cc pc = .ok (.iaload, 1)) (kk : W p l e R s m args below meth c H locs cells slots Q (F0 m (pc + 1) ls (.int v :: rest))) : W p l e R s m args below meth c H locs cells slots Q (F0 m pc ls (.int (nI j) :: .ref (ar 9) :: rest)) := by
  refine va_iald (f := f 9) (n := 4) C.1 C.2.1 C.2.2.2.2.2 B.1 9 0 rfl rfl (vp_in_nI hj (by decide)) hdg ?_
  rw [nI_clamp (Nat.lt_trans hj (by decide)), hv]
  exact kk
theorem rm_s9 {j : Nat} (C : rl_Cx p s m args c cc nL RX1 D dA) (B : rl_B rm_W D A s h0 ar dA w f H locs) (hj : j < 4) (hdg : decode cc pc = .ok (.iastore, 1)) (kk : ∀ (H1 : Heap) (locs1 : List Loc), rl_B rm_W D A s h0 ar dA w (rl_up f 9 j v) H1 locs1 → W p l e R s m args below meth c H1 locs1 cells slots Q (F0 m (pc + 1) ls rest)) : W p l e R s m args below meth c H locs cells slots Q (F0 m pc ls (.int v :: .int (nI j) :: .ref (ar 9) :: rest)) := by
  refine va_iast (f := f 9) (n := 4) C.1 C.2.1 C.2.2.2.2.2 B.1 B.2.1 B.2.2 9 0 rfl rfl (vp_in_nI hj (by decide)) hdg (fun H1 locs1 hP hD hS => ?_)
  rw [nI_clamp (Nat.lt_trans hj (by decide))] at hP hD
  exact kk H1 locs1 ⟨hP, hD, hS⟩
end RL
end
section
/-! What each method computes, in plain words over Int32: arrays are f k i (k: the field's number, i: the place), now is w.
RateLimits: 1 kind 2 rate 3 burst 4 span 5 grantedSum 6 deniedCount 7 tokens 8 filled 9 due 10 head 11 size 12 running 13 grantTime 14 grantCost.
RateLimitsModel: 1 kinds 2 rates 3 bursts 4 spans 5 tokens 6 grants 7 dues 8 sums 9 denials. -/
def rl_bad (x : Int32) : Int32 := if x < 0 then 1 else if x < 4 then 0 else 1
def rl_badCost (x : Int32) : Int32 := if x < 1 then 1 else if x ≤ 20 then 0 else 1
def rl_r (n : Int32) : Int32 := n &&& 7
def rl_b (n : Int32) : Int32 := (n >>> ((3 : Int32) &&& 31)) &&& 31
def rl_s (n : Int32) : Int32 := (n >>> ((8 : Int32) &&& 31)) &&& 15
abbrev rl_numbad (n : Int32) : Prop := rl_r n < 1 ∨ 5 < rl_r n ∨ rl_b n < 1 ∨ 30 < rl_b n ∨ rl_s n < 1 ∨ ¬ rl_s n ≤ 10
abbrev rl_kindbad (k : Int32) : Prop := k < 0 ∨ ¬ k ≤ 2
def rl_setR (meter kind n : Int32) : Int32 := if rl_bad meter = 0 then (if rl_kindbad kind then -2 else if rl_numbad n then -3 else 0) else -1
abbrev rl_setGo (meter kind n : Int32) : Prop := rl_bad meter = 0 ∧ ¬ rl_kindbad kind ∧ ¬ rl_numbad n
/-! RateLimits -/
def rx_start (w : Int32) (f : rl_F) (j : Nat) (kd r b sp : Int32) : rl_F := rl_up (rl_up (rl_up (rl_up (rl_up (rl_up (rl_up (rl_up (rl_up (rl_up (rl_up (rl_up f 1 j kd) 2 j r) 3 j b) 4 j sp) 5 j 0) 6 j 0) 7 j b) 8 j w) 9 j (-1000000)) 10 j 0) 11 j 0) 12 j 0
def rx_setF (w : Int32) (f : rl_F) (meter kind n : Int32) : rl_F := if rl_setGo meter kind n then rx_start w f meter.toNatClampNeg kind (rl_r n) (rl_b n) (rl_s n) else f
def rx_init : Nat → Nat → rl_F → rl_F
  | 0, _, f => f
  | n + 1, j, f => rx_init n (j + 1) (rx_start 0 f j 0 1 10 1)
def rx_full (w : Int32) (f : rl_F) (j : Nat) : Int32 := f 7 j + f 2 j * (w - f 8 j)
def rx_c0 (w : Int32) (f : rl_F) (j : Nat) : rl_F := rl_up (rl_up f 7 j (if f 3 j ≤ rx_full w f j then f 3 j else rx_full w f j)) 8 j w
/-- the head is a place of the ring -/
def rx_hd (f : rl_F) (j : Nat) : Prop := ∃ d : Nat, d < 32 ∧ f 10 j = nI d
def rx_at (f : rl_F) (j : Nat) : Nat := j * 32 + (f 10 j).toNatClampNeg
def rx_pop1 (f : rl_F) (j : Nat) : rl_F := rl_up (rl_up (rl_up f 12 j (f 12 j - f 14 (rx_at f j))) 10 j ((f 10 j + 1) &&& 31)) 11 j (f 11 j - 1)
def rx_pops (w : Int32) (j : Nat) : Nat → rl_F → rl_F
  | 0, f => f
  | n + 1, f => if f 11 j ≤ 0 then f else if w - f 4 j < f 13 (rx_at f j) then f else rx_pops w j n (rx_pop1 f j)
def rx_catch (w : Int32) (f : rl_F) (j : Nat) : rl_F := rx_pops w j 32 (rx_c0 w f j)
def rx_base (w : Int32) (f : rl_F) (j : Nat) : Int32 := if f 9 j ≤ w then w else f 9 j
def rx_pos (x : Int32) : Int32 := if x ≤ 0 then 1 else x
def rx_left (w : Int32) (f : rl_F) (j : Nat) : Int32 := f 3 j * f 4 j - (rx_base w f j - w)
/-- what roomOf answers once the meter has caught up -/
def rx_room (w : Int32) (f : rl_F) (j : Nat) : Int32 := if f 1 j = 0 then f 7 j else if f 1 j = 1 then f 3 j - f 12 j else if 0 ≤ rx_left w f j then rx_left w f j / rx_pos (f 4 j) else 0
def rx_in (f : rl_F) (j : Nat) : Nat := j * 32 + ((f 10 j + f 11 j) &&& 31).toNatClampNeg
def rx_grant (w : Int32) (f : rl_F) (j : Nat) (cost : Int32) : rl_F :=
  if f 1 j = 0 then rl_up (rl_up f 5 j (f 5 j + cost)) 7 j (f 7 j - cost)
  else if f 1 j = 1 then rl_up (rl_up (rl_up (rl_up (rl_up f 5 j (f 5 j + cost)) 13 (rx_in f j) w) 14 (rx_in f j) cost) 11 j (f 11 j + 1)) 12 j (f 12 j + cost)
  else rl_up (rl_up f 5 j (f 5 j + cost)) 9 j (rx_base w f j + cost * f 4 j)
def rx_deny (f : rl_F) (j : Nat) : rl_F := rl_up f 6 j (f 6 j + 1)
abbrev rl_go (meter cost : Int32) : Prop := rl_bad meter = 0 ∧ rl_badCost cost = 0
def rx_askR1 (w : Int32) (f : rl_F) (j : Nat) (cost : Int32) : Int32 := if cost ≤ rx_room w (rx_catch w f j) j then 1 else 0
def rx_askF1 (w : Int32) (f : rl_F) (j : Nat) (cost : Int32) : rl_F := if cost ≤ rx_room w (rx_catch w f j) j then rx_grant w (rx_catch w f j) j cost else rx_deny (rx_catch w f j) j
def rx_askR (w : Int32) (f : rl_F) (meter cost : Int32) : Int32 := if rl_bad meter = 0 then (if rl_badCost cost = 0 then rx_askR1 w f meter.toNatClampNeg cost else -3) else -1
def rx_askF (w : Int32) (f : rl_F) (meter cost : Int32) : rl_F := if rl_go meter cost then rx_askF1 w f meter.toNatClampNeg cost else f
def rl_bit (meters : Int32) (j : Nat) : Int32 := (meters >>> (nI j &&& 31)) &&& 1
def rx_aa1 (w meters cost : Int32) : Nat → Nat → rl_F → Int32 → rl_F × Int32
  | 0, _, f, a => (f, a)
  | n + 1, j, f, a => if rl_bit meters j = 1 then (if cost ≤ rx_room w (rx_catch w f j) j then rx_aa1 w meters cost n (j + 1) (rx_catch w f j) a else rx_aa1 w meters cost n (j + 1) (rx_deny (rx_catch w f j) j) 0) else rx_aa1 w meters cost n (j + 1) f a
def rx_aa2 (w meters cost : Int32) : Nat → Nat → rl_F → rl_F
  | 0, _, f => f
  | n + 1, j, f => if rl_bit meters j = 1 then rx_aa2 w meters cost n (j + 1) (rx_grant w f j cost) else rx_aa2 w meters cost n (j + 1) f
def rx_all2 (w meters cost : Int32) (q : rl_F × Int32) : rl_F := if q.2 = 0 then q.1 else rx_aa2 w meters cost 4 0 q.1
def rl_flag (a : Int32) : Int32 := if a = 0 then 0 else 1
def rx_askAllR (w : Int32) (f : rl_F) (meters cost : Int32) : Int32 := if rl_badCost cost = 0 then rl_flag (rx_aa1 w meters cost 4 0 f 1).2 else -3
def rx_askAllF (w : Int32) (f : rl_F) (meters cost : Int32) : rl_F := if rl_badCost cost = 0 then rx_all2 w meters cost (rx_aa1 w meters cost 4 0 f 1) else f
abbrev rl_unitbad (u : Int32) : Prop := u < 0 ∨ ¬ u ≤ 1000
def rl_passR (w u : Int32) : Int32 := if rl_unitbad u then -3 else if w + u ≤ 100000 then w + u else -4
def rl_passW (w u : Int32) : Int32 := if rl_unitbad u then w else if w + u ≤ 100000 then w + u else w
def rx_lwat (f : rl_F) (j i : Nat) : Nat := j * 32 + ((f 10 j + nI i) &&& 31).toNatClampNeg
def rx_lw (w : Int32) (f : rl_F) (j : Nat) : Nat → Nat → Int32 → Int32 → Int32
  | 0, _, _, wait => wait
  | n + 1, i, over, wait => if over ≤ 0 then wait else rx_lw w f j n (i + 1) (over - f 14 (rx_lwat f j i)) (f 13 (rx_lwat f j i) + f 4 j - w)
def rx_logWait (w : Int32) (f : rl_F) (j : Nat) (cost : Int32) : Int32 := rx_lw w f j (f 11 j).toNatClampNeg 0 (f 12 j + cost - f 3 j) 0
def rx_wait1 (w : Int32) (f : rl_F) (j : Nat) (cost : Int32) : Int32 := if rx_room w f j < cost then (if f 1 j = 1 then rx_logWait w f j cost else if f 1 j = 0 then (cost - f 7 j + rx_pos (f 2 j) - 1) / rx_pos (f 2 j) else f 9 j + (cost - f 3 j) * f 4 j - w) else 0
def rx_waitR (w : Int32) (f : rl_F) (meter cost : Int32) : Int32 := if rl_bad meter = 0 then (if rl_badCost cost = 0 then (if cost ≤ f 3 meter.toNatClampNeg then rx_wait1 w (rx_catch w f meter.toNatClampNeg) meter.toNatClampNeg cost else -4) else -3) else -1
def rx_waitF (w : Int32) (f : rl_F) (meter cost : Int32) : rl_F := if rl_bad meter = 0 ∧ rl_badCost cost = 0 ∧ cost ≤ f 3 meter.toNatClampNeg then rx_catch w f meter.toNatClampNeg else f
def rl_cut (x : Int32) : Int32 := if 0 ≤ x then (if x ≤ 20 then x else 20) else 0
def rx_roomR (w : Int32) (f : rl_F) (meter : Int32) : Int32 := if rl_bad meter = 0 then rl_cut (rx_room w (rx_catch w f meter.toNatClampNeg) meter.toNatClampNeg) else -1
def rx_roomF (w : Int32) (f : rl_F) (meter : Int32) : rl_F := if rl_bad meter = 0 then rx_catch w f meter.toNatClampNeg else f
/-- granted, denied: the entry of array k -/
def rl_ent (f : rl_F) (k : Nat) (meter : Int32) : Int32 := if rl_bad meter = 0 then f k meter.toNatClampNeg else -1
/-! RateLimitsModel -/
def rm_zero (j : Nat) : Nat → Nat → rl_F → rl_F
  | 0, _, f => f
  | n + 1, i, f => rm_zero j n (i + 1) (rl_up f 6 (j * 10 + i) 0)
def rm_make0 (f : rl_F) (j : Nat) (kd r b sp : Int32) : rl_F := rl_up (rl_up (rl_up (rl_up (rl_up f 1 j kd) 2 j r) 3 j b) 4 j sp) 5 j b
def rm_make1 (f : rl_F) (j : Nat) : rl_F := rl_up (rl_up (rl_up f 7 j (-1000000)) 8 j 0) 9 j 0
def rm_make (f : rl_F) (j : Nat) (kd r b sp : Int32) : rl_F := rm_make1 (rm_zero j 10 0 (rm_make0 f j kd r b sp)) j
def rm_setF (f : rl_F) (meter kind n : Int32) : rl_F := if rl_setGo meter kind n then rm_make f meter.toNatClampNeg kind (rl_r n) (rl_b n) (rl_s n) else f
def rm_init : Nat → Nat → rl_F → rl_F
  | 0, _, f => f
  | n + 1, j, f => rm_init n (j + 1) (rm_make f j 0 1 10 1)
def rm_tk (r b : Int32) : Nat → Int32 → Int32
  | 0, t => t
  | n + 1, t => rm_tk r b n (if t + r ≤ b then t + r else b)
def rm_tokensIn (f : rl_F) (j : Nat) (units : Int32) : Int32 := rm_tk (f 2 j) (f 3 j) units.toNatClampNeg (f 5 j)
def rm_lg (f : rl_F) (j : Nat) (units : Int32) : Nat → Nat → Int32 → Int32
  | 0, _, sum => sum
  | n + 1, i, sum => rm_lg f j units n (i + 1) (if f 4 j ≤ nI i + units then sum else sum + f 6 (j * 10 + i))
def rm_loggedIn (f : rl_F) (j : Nat) (units : Int32) : Int32 := rm_lg f j units 10 0 0
def rm_from (w : Int32) (f : rl_F) (j : Nat) : Int32 := if f 7 j ≤ w then w else f 7 j
def rm_would (w : Int32) (f : rl_F) (j : Nat) (cost units : Int32) : Int32 :=
  if f 1 j = 0 then (if rm_tokensIn f j units < cost then 0 else 1)
  else if f 1 j = 1 then (if f 3 j < rm_loggedIn f j units + cost then 0 else 1)
  else (if f 3 j * f 4 j < rm_from (w + units) f j + cost * f 4 j - (w + units) then 0 else 1)
def rm_grant (w : Int32) (f : rl_F) (j : Nat) (cost : Int32) : rl_F :=
  if f 1 j = 0 then rl_up (rl_up f 8 j (f 8 j + cost)) 5 j (f 5 j - cost)
  else if f 1 j = 1 then rl_up (rl_up f 8 j (f 8 j + cost)) 6 (j * 10) (f 6 (j * 10) + cost)
  else rl_up (rl_up f 8 j (f 8 j + cost)) 7 j (rm_from w f j + cost * f 4 j)
def rm_deny (f : rl_F) (j : Nat) : rl_F := rl_up f 9 j (f 9 j + 1)
def rm_aa1 (w meters cost : Int32) : Nat → Nat → rl_F → Int32 → rl_F × Int32
  | 0, _, f, a => (f, a)
  | n + 1, j, f, a => if rl_bit meters j = 1 then (if rm_would w f j cost 0 = 0 then rm_aa1 w meters cost n (j + 1) (rm_deny f j) 0 else rm_aa1 w meters cost n (j + 1) f a) else rm_aa1 w meters cost n (j + 1) f a
def rm_aa2 (w meters cost : Int32) : Nat → Nat → rl_F → Int32 → rl_F
  | 0, _, f, _ => f
  | n + 1, j, f, a => if a = 0 then rm_aa2 w meters cost n (j + 1) f a else if rl_bit meters j = 1 then rm_aa2 w meters cost n (j + 1) (rm_grant w f j cost) a else rm_aa2 w meters cost n (j + 1) f a
def rm_askAllR (w : Int32) (f : rl_F) (meters cost : Int32) : Int32 := if rl_badCost cost = 0 then rl_flag (rm_aa1 w meters cost 4 0 f 1).2 else -3
def rm_askAllF (w : Int32) (f : rl_F) (meters cost : Int32) : rl_F := if rl_badCost cost = 0 then rm_aa2 w meters cost 4 0 (rm_aa1 w meters cost 4 0 f 1).1 (rm_aa1 w meters cost 4 0 f 1).2 else f
def rl_one (meter : Int32) : Int32 := 1 <<< (meter &&& 31)
def rm_askR (w : Int32) (f : rl_F) (meter cost : Int32) : Int32 := if rl_bad meter = 0 then rm_askAllR w f (rl_one meter) cost else -1
def rm_askF (w : Int32) (f : rl_F) (meter cost : Int32) : rl_F := if rl_bad meter = 0 then rm_askAllF w f (rl_one meter) cost else f
/-- one meter's grants moved u places on: places n-1 down to 0 -/
def rm_sh (u j : Nat) : Nat → rl_F → rl_F
  | 0, f => f
  | n + 1, f => rm_sh u j n (rl_up f 6 (j * 10 + n) (if n < u then 0 else f 6 (j * 10 + n - u)))
def rm_ps (u : Nat) : Nat → Nat → rl_F → rl_F
  | 0, _, f => f
  | n + 1, j, f => rm_ps u n (j + 1) (rm_sh u j 10 (rl_up f 5 j (rm_tokensIn f j (nI u))))
def rm_passF (w : Int32) (f : rl_F) (u : Int32) : rl_F := if rl_unitbad u then f else if w + u ≤ 100000 then rm_ps u.toNatClampNeg 4 0 f else f
def rm_wt (w : Int32) (f : rl_F) (j : Nat) (cost : Int32) : Nat → Nat → Int32
  | 0, _ => -4
  | n + 1, k => if rm_would w f j cost (nI k) = 0 then rm_wt w f j cost n (k + 1) else nI k
def rm_waitR (w : Int32) (f : rl_F) (meter cost : Int32) : Int32 := if rl_bad meter = 0 then (if rl_badCost cost = 0 then rm_wt w f meter.toNatClampNeg cost 301 0 else -3) else -1
def rm_rm (w : Int32) (f : rl_F) (j : Nat) : Nat → Nat → Int32 → Int32
  | 0, _, most => most
  | n + 1, k, most => rm_rm w f j n (k + 1) (if rm_would w f j (nI k) 0 = 0 then most else nI k)
def rm_roomR (w : Int32) (f : rl_F) (meter : Int32) : Int32 := if rl_bad meter = 0 then rm_rm w f meter.toNatClampNeg 20 1 0 else -1
theorem rl_bad_ok {x : Int32} (h : rl_bad x = 0) : ∃ j : Nat, j < 4 ∧ x = nI j := by
  unfold rl_bad at h
  by_cases h1 : x < 0
  · rw [if_pos h1] at h; exact absurd h (by decide)
  · rw [if_neg h1] at h
    by_cases h2 : x < 4
    · obtain ⟨j, hj, rfl⟩ := nI_of h1
      exact ⟨j, (nI_ltI hj (by decide)).mp h2, rfl⟩
    · rw [if_neg h2] at h; exact absurd h (by decide)
theorem rl_unit_ok {x : Int32} (h : ¬ x < 0) (h2 : x ≤ 1000) : ∃ u : Nat, u ≤ 1000 ∧ x = nI u := nI_of2 (M := 1000) (n := 1000) (by decide) h h2
theorem rl_cl4 {j : Nat} (h : j < 4) : (nI j).toNatClampNeg = j := nI_clamp (by omega)
theorem rl_i32 (j d : Nat) : nI j * 32 + nI d = nI (j * 32 + d) := by
  rw [show (32 : Int32) = nI 32 from rfl, pk_mul, nI_add]
theorem rl_i10 (j d : Nat) : nI j * 10 + nI d = nI (j * 10 + d) := by
  rw [show (10 : Int32) = nI 10 from rfl, pk_mul, nI_add]
theorem rl_i10z (j : Nat) : nI j * 10 = nI (j * 10) := by
  rw [show (10 : Int32) = nI 10 from rfl, pk_mul]
theorem rl_and31 (x : Int32) : ∃ d : Nat, d < 32 ∧ x &&& 31 = nI d := pk_andE x (m := 31) 5 (by decide)
theorem rl_pos_ne (x : Int32) : ¬ rx_pos x = 0 := by
  unfold rx_pos
  by_cases h : x ≤ 0
  · rw [if_pos h]; decide
  · rw [if_neg h]; intro e; rw [e] at h; exact h (by decide)
theorem rl_lt4 (x : Int32) : x < 4 ↔ x ≤ 3 := by
  rw [Int32.lt_iff_toInt_lt, Int32.le_iff_toInt_le, show (4 : Int32).toInt = 4 from rfl, show (3 : Int32).toInt = 3 from rfl]; omega
theorem rl_size_le (x : Int32) : x ≤ nI x.toNatClampNeg := by
  by_cases h : x < 0
  · have h1 : x.toNatClampNeg = 0 := by
      have h2 : x.toInt < 0 := by rw [Int32.lt_iff_toInt_lt] at h; exact h
      show x.toInt.toNat = 0
      omega
    rw [h1, Int32.le_iff_toInt_le]
    rw [Int32.lt_iff_toInt_lt] at h
    have h3 : (nI 0).toInt = 0 := by decide
    have h4 : (0 : Int32).toInt = 0 := by decide
    omega
  · obtain ⟨n, hn, rfl⟩ := nI_of h
    rw [nI_clamp hn]
    exact nI_le (Nat.le_refl n) hn
theorem rl_size_lt {x : Int32} {i : Nat} (h : i < x.toNatClampNeg) : ¬ x ≤ nI i := by
  by_cases h0 : x < 0
  · have h1 : x.toNatClampNeg = 0 := by
      have h2 : x.toInt < 0 := by rw [Int32.lt_iff_toInt_lt] at h0; exact h0
      show x.toInt.toNat = 0
      omega
    omega
  · obtain ⟨n, hn, rfl⟩ := nI_of h0
    rw [nI_clamp hn] at h
    exact nI_ge h hn
/-- all four heads are places of their rings -/
def rx_HD (f : rl_F) : Prop := ∀ i, i < 4 → rx_hd f i
theorem rx_HD_up {f : rl_F} {k i : Nat} {v : Int32} (hk : 10 ≠ k) (h : rx_HD f) : rx_HD (rl_up f k i v) := by
  intro a ha
  obtain ⟨d, h1, h2⟩ := h a ha
  exact ⟨d, h1, by rw [rl_up_ne _ _ _ _ hk]; exact h2⟩
theorem rx_HD_up10 {f : rl_F} {i : Nat} {v : Int32} (hv : ∃ d : Nat, d < 32 ∧ v = nI d) (h : rx_HD f) : rx_HD (rl_up f 10 i v) := by
  intro a ha
  by_cases e : a = i
  · subst e
    obtain ⟨d, h1, h2⟩ := hv
    exact ⟨d, h1, by rw [rl_up_eq]; exact h2⟩
  · obtain ⟨d, h1, h2⟩ := h a ha
    exact ⟨d, h1, by rw [rl_up_ni _ _ _ _ e]; exact h2⟩
theorem rx_HD_start {w : Int32} {f : rl_F} {j : Nat} {kd r b sp : Int32} (h : rx_HD f) : rx_HD (rx_start w f j kd r b sp) :=
  rx_HD_up (by decide) (rx_HD_up (by decide) (rx_HD_up10 ⟨0, by decide, nI_0.symm⟩ (rx_HD_up (by decide) (rx_HD_up (by decide) (rx_HD_up (by decide) (rx_HD_up (by decide) (rx_HD_up (by decide) (rx_HD_up (by decide) (rx_HD_up (by decide) (rx_HD_up (by decide) (rx_HD_up (by decide) h)))))))))))
theorem rx_HD_c0 {w : Int32} {f : rl_F} {j : Nat} (h : rx_HD f) : rx_HD (rx_c0 w f j) := rx_HD_up (by decide) (rx_HD_up (by decide) h)
theorem rx_HD_pop1 {f : rl_F} {j : Nat} (h : rx_HD f) : rx_HD (rx_pop1 f j) := rx_HD_up (by decide) (rx_HD_up10 (rl_and31 _) (rx_HD_up (by decide) h))
theorem rx_HD_pops (w : Int32) (j : Nat) : ∀ (n : Nat) (f : rl_F), rx_HD f → rx_HD (rx_pops w j n f)
  | 0, f, h => h
  | n + 1, f, h => by
    unfold rx_pops
    by_cases h1 : f 11 j ≤ 0
    · rw [if_pos h1]; exact h
    · rw [if_neg h1]
      by_cases h2 : w - f 4 j < f 13 (rx_at f j)
      · rw [if_pos h2]; exact h
      · rw [if_neg h2]; exact rx_HD_pops w j n _ (rx_HD_pop1 h)
theorem rx_HD_catch {w : Int32} {f : rl_F} {j : Nat} (h : rx_HD f) : rx_HD (rx_catch w f j) := rx_HD_pops w j 32 _ (rx_HD_c0 h)
theorem rx_HD_deny {f : rl_F} {j : Nat} (h : rx_HD f) : rx_HD (rx_deny f j) := rx_HD_up (by decide) h
theorem rx_HD_grant {w : Int32} {f : rl_F} {j : Nat} {cost : Int32} (h : rx_HD f) : rx_HD (rx_grant w f j cost) := by
  unfold rx_grant
  by_cases h1 : f 1 j = 0
  · rw [if_pos h1]; exact rx_HD_up (by decide) (rx_HD_up (by decide) h)
  · rw [if_neg h1]
    by_cases h2 : f 1 j = 1
    · rw [if_pos h2]; exact rx_HD_up (by decide) (rx_HD_up (by decide) (rx_HD_up (by decide) (rx_HD_up (by decide) (rx_HD_up (by decide) h))))
    · rw [if_neg h2]; exact rx_HD_up (by decide) (rx_HD_up (by decide) h)
section RLE
variable {p : Program} {l : Launch} {e : Env} {R : Room} {s : State} {m : MethodId} {args : Array Value} {below : List Frame} {meth : Method} {c : Code} {H : Heap} {locs : List Loc} {cells slots : Nat} {g : JFrame}
variable {D : va_G} {A : Nat → Prop} {V : rl_V} {h0 : Nat} {ar : Nat → Nat} {dA : ClassId} {w1 w2 r1 r2 : Int32} {f1 f2 : rl_F}
theorem rl_toV (hw : w1 = w2) (hf : f1 = f2) (k : W p l e R s m args below meth c H locs cells slots (rl_Qv V below args s D h0 ar dA A w2 f2) g) : W p l e R s m args below meth c H locs cells slots (rl_Qv V below args s D h0 ar dA A w1 f1) g := by
  subst hw; subst hf; exact k
theorem rl_toI (hr : r1 = r2) (hw : w1 = w2) (hf : f1 = f2) (k : W p l e R s m args below meth c H locs cells slots (rl_Qi V below args s D h0 ar dA A r2 w2 f2) g) : W p l e R s m args below meth c H locs cells slots (rl_Qi V below args s D h0 ar dA A r1 w1 f1) g := by
  subst hr; subst hw; subst hf; exact k
end RLE
end
section
set_option maxHeartbeats 4000000 in
set_option maxRecDepth 100000 in
theorem met_X0_bad {l : Launch} (x : Int32) : rl_Pi l yX0_bad cX0_bad 1 (some .boolean) (rl_rm 0 0) [.int x] (rl_bad x) := by
  refine rl_Pi.of (by decide) (Nat.le_of_ble_eq_true rfl) ?_
  intro p e s m args below meth c ls hx hb hr hk hl
  have hl : lv_has ls 1 [(0, .int x)] := hl
  refine lv_iload_n hx hb dX0_bad_0 rfl (lv_at hl 0 rfl) ?_
  refine lv_if_lt (tgt := 9) hx hb dX0_bad_1 (by decide) (fun c_1 => ?_) (fun c_1 => ?_)
  · refine lv_iconst (v := 1) hx hb dX0_bad_9 (by decide) ?_
    refine lv_goto (tgt := 14) hx hb dX0_bad_10 (by decide) ?_
    exact rl_pret hx hb hr hk rfl (by simp [rl_bad, c_1]) dX0_bad_14
  · refine lv_iload_n hx hb dX0_bad_4 rfl (lv_at hl 0 rfl) ?_
    refine lv_iconst (v := 4) hx hb dX0_bad_5 (by decide) ?_
    refine lv_icmp_lt (tgt := 13) hx hb dX0_bad_6 (by decide) (fun c_6 => ?_) (fun c_6 => ?_)
    · refine lv_iconst (v := 0) hx hb dX0_bad_13 (by decide) ?_
      exact rl_pret hx hb hr hk rfl (by simp [rl_bad, c_1, c_6]) dX0_bad_14
    · refine lv_iconst (v := 1) hx hb dX0_bad_9 (by decide) ?_
      refine lv_goto (tgt := 14) hx hb dX0_bad_10 (by decide) ?_
      exact rl_pret hx hb hr hk rfl (by simp [rl_bad, c_1, c_6]) dX0_bad_14
set_option maxHeartbeats 4000000 in
set_option maxRecDepth 100000 in
theorem met_X0_badCost {l : Launch} (x : Int32) : rl_Pi l yX0_badCost cX0_badCost 1 (some .boolean) (rl_rm 0 0) [.int x] (rl_badCost x) := by
  refine rl_Pi.of (by decide) (Nat.le_of_ble_eq_true rfl) ?_
  intro p e s m args below meth c ls hx hb hr hk hl
  have hl : lv_has ls 1 [(0, .int x)] := hl
  refine lv_iload_n hx hb dX0_badCost_0 rfl (lv_at hl 0 rfl) ?_
  refine lv_iconst (v := 1) hx hb dX0_badCost_1 (by decide) ?_
  refine lv_icmp_lt (tgt := 11) hx hb dX0_badCost_2 (by decide) (fun c_2 => ?_) (fun c_2 => ?_)
  · refine lv_iconst (v := 1) hx hb dX0_badCost_11 (by decide) ?_
    refine lv_goto (tgt := 16) hx hb dX0_badCost_12 (by decide) ?_
    exact rl_pret hx hb hr hk rfl (by simp [rl_badCost, c_2]) dX0_badCost_16
  · refine lv_iload_n hx hb dX0_badCost_5 rfl (lv_at hl 0 rfl) ?_
    refine lv_bipush (v := 20) hx hb dX0_badCost_6 (by decide) ?_
    refine lv_icmp_le (tgt := 15) hx hb dX0_badCost_8 (by decide) (fun c_8 => ?_) (fun c_8 => ?_)
    · refine lv_iconst (v := 0) hx hb dX0_badCost_15 (by decide) ?_
      exact rl_pret hx hb hr hk rfl (by simp [rl_badCost, c_2, c_8]) dX0_badCost_16
    · refine lv_iconst (v := 1) hx hb dX0_badCost_11 (by decide) ?_
      refine lv_goto (tgt := 16) hx hb dX0_badCost_12 (by decide) ?_
      exact rl_pret hx hb hr hk rfl (by simp [rl_badCost, c_2, c_8]) dX0_badCost_16
set_option maxHeartbeats 4000000 in
set_option maxRecDepth 100000 in
theorem met_X0_start {l : Launch} {j : Nat} (hj : j < 4) (w : Int32) (f : rl_F) (kd r b sp : Int32) : rl_Mv rx_W l yX0_start cX0_start 6 (rl_rm 0 0) [.int (nI j), .int kd, .int r, .int b, .int sp] w f w (rx_start w f j kd r b sp) := by
  refine rl_Mv.of RX0 (by decide) rfl (fun _ => Nat.le_of_ble_eq_true rfl) ?_
  intro p e s m args below meth c D h0 ar dA A ls C hr hk hA B hl
  have hx := C.1
  have hb := C.2.1
  have hl : lv_has ls 6 [(0, .ref h0), (1, .int (nI j)), (2, .int kd), (3, .int r), (4, .int b), (5, .int sp)] := hl
  refine lv_aload_n hx hb dX0_start_0 rfl (lv_at hl 0 rfl) ?_
  refine rx_g1 C B dX0_start_1 ?_
  refine lv_iload_n hx hb dX0_start_4 rfl (lv_at hl 1 rfl) ?_
  refine lv_iload_n hx hb dX0_start_5 rfl (lv_at hl 2 rfl) ?_
  refine rx_s1 C B hj dX0_start_6 (fun H locs B => ?_)
  refine lv_aload_n hx hb dX0_start_7 rfl (lv_at hl 0 rfl) ?_
  refine rx_g2 C B dX0_start_8 ?_
  refine lv_iload_n hx hb dX0_start_11 rfl (lv_at hl 1 rfl) ?_
  refine lv_iload_n hx hb dX0_start_12 rfl (lv_at hl 3 rfl) ?_
  refine rx_s2 C B hj dX0_start_13 (fun H locs B => ?_)
  refine lv_aload_n hx hb dX0_start_14 rfl (lv_at hl 0 rfl) ?_
  refine rx_g3 C B dX0_start_15 ?_
  refine lv_iload_n hx hb dX0_start_18 rfl (lv_at hl 1 rfl) ?_
  refine lv_iload hx hb dX0_start_19 (lv_at hl 4 rfl) ?_
  refine rx_s3 C B hj dX0_start_21 (fun H locs B => ?_)
  refine lv_aload_n hx hb dX0_start_22 rfl (lv_at hl 0 rfl) ?_
  refine rx_g4 C B dX0_start_23 ?_
  refine lv_iload_n hx hb dX0_start_26 rfl (lv_at hl 1 rfl) ?_
  refine lv_iload hx hb dX0_start_27 (lv_at hl 5 rfl) ?_
  refine rx_s4 C B hj dX0_start_29 (fun H locs B => ?_)
  refine lv_aload_n hx hb dX0_start_30 rfl (lv_at hl 0 rfl) ?_
  refine rx_g5 C B dX0_start_31 ?_
  refine lv_iload_n hx hb dX0_start_34 rfl (lv_at hl 1 rfl) ?_
  refine lv_iconst (v := 0) hx hb dX0_start_35 (by decide) ?_
  refine rx_s5 C B hj dX0_start_36 (fun H locs B => ?_)
  refine lv_aload_n hx hb dX0_start_37 rfl (lv_at hl 0 rfl) ?_
  refine rx_g6 C B dX0_start_38 ?_
  refine lv_iload_n hx hb dX0_start_41 rfl (lv_at hl 1 rfl) ?_
  refine lv_iconst (v := 0) hx hb dX0_start_42 (by decide) ?_
  refine rx_s6 C B hj dX0_start_43 (fun H locs B => ?_)
  refine lv_aload_n hx hb dX0_start_44 rfl (lv_at hl 0 rfl) ?_
  refine rx_g7 C B dX0_start_45 ?_
  refine lv_iload_n hx hb dX0_start_48 rfl (lv_at hl 1 rfl) ?_
  refine lv_iload hx hb dX0_start_49 (lv_at hl 4 rfl) ?_
  refine rx_s7 C B hj dX0_start_51 (fun H locs B => ?_)
  refine lv_aload_n hx hb dX0_start_52 rfl (lv_at hl 0 rfl) ?_
  refine rx_g8 C B dX0_start_53 ?_
  refine lv_iload_n hx hb dX0_start_56 rfl (lv_at hl 1 rfl) ?_
  refine lv_aload_n hx hb dX0_start_57 rfl (lv_at hl 0 rfl) ?_
  refine rx_g0 C B dX0_start_58 ?_
  refine rx_s8 C B hj dX0_start_61 (fun H locs B => ?_)
  refine lv_aload_n hx hb dX0_start_62 rfl (lv_at hl 0 rfl) ?_
  refine rx_g9 C B dX0_start_63 ?_
  refine lv_iload_n hx hb dX0_start_66 rfl (lv_at hl 1 rfl) ?_
  refine lv_ldc (own := RX0) (v := (-1000000)) hx hb C.2.2.2.1 (C.2.2.2.2.1 _ q28) dX0_start_67 ?_
  refine rx_s9 C B hj dX0_start_69 (fun H locs B => ?_)
  refine lv_aload_n hx hb dX0_start_70 rfl (lv_at hl 0 rfl) ?_
  refine rx_g10 C B dX0_start_71 ?_
  refine lv_iload_n hx hb dX0_start_74 rfl (lv_at hl 1 rfl) ?_
  refine lv_iconst (v := 0) hx hb dX0_start_75 (by decide) ?_
  refine rx_s10 C B hj dX0_start_76 (fun H locs B => ?_)
  refine lv_aload_n hx hb dX0_start_77 rfl (lv_at hl 0 rfl) ?_
  refine rx_g11 C B dX0_start_78 ?_
  refine lv_iload_n hx hb dX0_start_81 rfl (lv_at hl 1 rfl) ?_
  refine lv_iconst (v := 0) hx hb dX0_start_82 (by decide) ?_
  refine rx_s11 C B hj dX0_start_83 (fun H locs B => ?_)
  refine lv_aload_n hx hb dX0_start_84 rfl (lv_at hl 0 rfl) ?_
  refine rx_g12 C B dX0_start_85 ?_
  refine lv_iload_n hx hb dX0_start_88 rfl (lv_at hl 1 rfl) ?_
  refine lv_iconst (v := 0) hx hb dX0_start_89 (by decide) ?_
  refine rx_s12 C B hj dX0_start_90 (fun H locs B => ?_)
  exact rl_vret C hr hk B rfl rfl dX0_start_91
set_option maxHeartbeats 4000000 in
set_option maxRecDepth 100000 in
theorem met_X0_set {l : Launch} (w : Int32) (f : rl_F) (meter kind numbers : Int32) : rl_Mi rx_W l yX0_set cX0_set 7 (some .int) (rl_rm 1 30) [.int meter, .int kind, .int numbers] w f (rl_setR meter kind numbers) w (rx_setF w f meter kind numbers) := by
  refine rl_Mi.of RX0 (by decide) rfl (fun _ => Nat.le_of_ble_eq_true rfl) ?_
  intro p e s m args below meth c D h0 ar dA A ls C hr hk hA B hl
  have hx := C.1
  have hb := C.2.1
  have hl : lv_has ls 7 [(0, .ref h0), (1, .int meter), (2, .int kind), (3, .int numbers)] := hl
  refine lv_iload_n hx hb dX0_set_0 rfl (lv_at hl 1 rfl) ?_
  refine rl_callS (rest := []) C B (met_X0_bad meter) (va_cwS 1 C.2.2.2.2.1 (lw_S q80 q81 q14 q82) rfl rfl rfl (by decide +kernel) ⟨by decide, by decide⟩) rfl hl.1 rfl (Nat.le_of_ble_eq_true rfl) dX0_set_1 ⟨Nat.zero_le _, Nat.zero_le _⟩ (fun H locs B => ?_)
  refine lv_if_eq (tgt := 9) hx hb dX0_set_4 (by decide) (fun c_4 => ?_) (fun c_4 => ?_)
  · refine lv_iload_n hx hb dX0_set_9 rfl (lv_at hl 2 rfl) ?_
    refine lv_if_lt (tgt := 18) hx hb dX0_set_10 (by decide) (fun c_10 => ?_) (fun c_10 => ?_)
    · refine lv_bipush (v := (-2)) hx hb dX0_set_18 (by decide) ?_
      exact rl_iret C hr hk B (by simp [rl_setR, rl_kindbad, rl_numbad, c_4, c_10]) rfl (by simp [rx_setF, rl_setGo, rl_kindbad, rl_numbad, c_4, c_10]) dX0_set_20
    · refine lv_iload_n hx hb dX0_set_13 rfl (lv_at hl 2 rfl) ?_
      refine lv_iconst (v := 2) hx hb dX0_set_14 (by decide) ?_
      refine lv_icmp_le (tgt := 21) hx hb dX0_set_15 (by decide) (fun c_15 => ?_) (fun c_15 => ?_)
      · refine lv_iload_n hx hb dX0_set_21 rfl (lv_at hl 3 rfl) ?_
        refine lv_bipush (v := 7) hx hb dX0_set_22 (by decide) ?_
        refine lv_iand hx hb dX0_set_24 ?_
        refine rl_top (y := rl_r numbers) rfl ?_
        refine lv_istore (lv' := [(4, .int (rl_r numbers)), (0, .ref h0), (1, .int meter), (2, .int kind), (3, .int numbers)]) hx hb dX0_set_25 hl (by decide) rfl (fun ls hl => ?_)
        refine lv_iload_n hx hb dX0_set_27 rfl (lv_at hl 4 rfl) ?_
        refine lv_iconst (v := 3) hx hb dX0_set_28 (by decide) ?_
        refine lv_ishr hx hb dX0_set_29 ?_
        refine lv_bipush (v := 31) hx hb dX0_set_30 (by decide) ?_
        refine lv_iand hx hb dX0_set_32 ?_
        refine rl_top (y := rl_b numbers) rfl ?_
        refine lv_istore (lv' := [(5, .int (rl_b numbers)), (4, .int (rl_r numbers)), (0, .ref h0), (1, .int meter), (2, .int kind), (3, .int numbers)]) hx hb dX0_set_33 hl (by decide) rfl (fun ls hl => ?_)
        refine lv_iload_n hx hb dX0_set_35 rfl (lv_at hl 5 rfl) ?_
        refine lv_bipush (v := 8) hx hb dX0_set_36 (by decide) ?_
        refine lv_ishr hx hb dX0_set_38 ?_
        refine lv_bipush (v := 15) hx hb dX0_set_39 (by decide) ?_
        refine lv_iand hx hb dX0_set_41 ?_
        refine rl_top (y := rl_s numbers) rfl ?_
        refine lv_istore (lv' := [(6, .int (rl_s numbers)), (5, .int (rl_b numbers)), (4, .int (rl_r numbers)), (0, .ref h0), (1, .int meter), (2, .int kind), (3, .int numbers)]) hx hb dX0_set_42 hl (by decide) rfl (fun ls hl => ?_)
        refine lv_iload hx hb dX0_set_44 (lv_at hl 2 rfl) ?_
        refine lv_iconst (v := 1) hx hb dX0_set_46 (by decide) ?_
        refine lv_icmp_lt (tgt := 82) hx hb dX0_set_47 (by decide) (fun c_47 => ?_) (fun c_47 => ?_)
        · refine lv_bipush (v := (-3)) hx hb dX0_set_82 (by decide) ?_
          exact rl_iret C hr hk B (by simp [rl_setR, rl_kindbad, rl_numbad, c_4, c_10, c_15, c_47]) rfl (by simp [rx_setF, rl_setGo, rl_kindbad, rl_numbad, c_4, c_10, c_15, c_47]) dX0_set_84
        · refine lv_iload hx hb dX0_set_50 (lv_at hl 2 rfl) ?_
          refine lv_iconst (v := 5) hx hb dX0_set_52 (by decide) ?_
          refine lv_icmp_gt (tgt := 82) hx hb dX0_set_53 (by decide) (fun c_53 => ?_) (fun c_53 => ?_)
          · refine lv_bipush (v := (-3)) hx hb dX0_set_82 (by decide) ?_
            exact rl_iret C hr hk B (by simp [rl_setR, rl_kindbad, rl_numbad, c_4, c_10, c_15, c_47, c_53]) rfl (by simp [rx_setF, rl_setGo, rl_kindbad, rl_numbad, c_4, c_10, c_15, c_47, c_53]) dX0_set_84
          · refine lv_iload hx hb dX0_set_56 (lv_at hl 1 rfl) ?_
            refine lv_iconst (v := 1) hx hb dX0_set_58 (by decide) ?_
            refine lv_icmp_lt (tgt := 82) hx hb dX0_set_59 (by decide) (fun c_59 => ?_) (fun c_59 => ?_)
            · refine lv_bipush (v := (-3)) hx hb dX0_set_82 (by decide) ?_
              exact rl_iret C hr hk B (by simp [rl_setR, rl_kindbad, rl_numbad, c_4, c_10, c_15, c_47, c_53, c_59]) rfl (by simp [rx_setF, rl_setGo, rl_kindbad, rl_numbad, c_4, c_10, c_15, c_47, c_53, c_59]) dX0_set_84
            · refine lv_iload hx hb dX0_set_62 (lv_at hl 1 rfl) ?_
              refine lv_bipush (v := 30) hx hb dX0_set_64 (by decide) ?_
              refine lv_icmp_gt (tgt := 82) hx hb dX0_set_66 (by decide) (fun c_66 => ?_) (fun c_66 => ?_)
              · refine lv_bipush (v := (-3)) hx hb dX0_set_82 (by decide) ?_
                exact rl_iret C hr hk B (by simp [rl_setR, rl_kindbad, rl_numbad, c_4, c_10, c_15, c_47, c_53, c_59, c_66]) rfl (by simp [rx_setF, rl_setGo, rl_kindbad, rl_numbad, c_4, c_10, c_15, c_47, c_53, c_59, c_66]) dX0_set_84
              · refine lv_iload hx hb dX0_set_69 (lv_at hl 0 rfl) ?_
                refine lv_iconst (v := 1) hx hb dX0_set_71 (by decide) ?_
                refine lv_icmp_lt (tgt := 82) hx hb dX0_set_72 (by decide) (fun c_72 => ?_) (fun c_72 => ?_)
                · refine lv_bipush (v := (-3)) hx hb dX0_set_82 (by decide) ?_
                  exact rl_iret C hr hk B (by simp [rl_setR, rl_kindbad, rl_numbad, c_4, c_10, c_15, c_47, c_53, c_59, c_66, c_72]) rfl (by simp [rx_setF, rl_setGo, rl_kindbad, rl_numbad, c_4, c_10, c_15, c_47, c_53, c_59, c_66, c_72]) dX0_set_84
                · refine lv_iload hx hb dX0_set_75 (lv_at hl 0 rfl) ?_
                  refine lv_bipush (v := 10) hx hb dX0_set_77 (by decide) ?_
                  refine lv_icmp_le (tgt := 85) hx hb dX0_set_79 (by decide) (fun c_79 => ?_) (fun c_79 => ?_)
                  · obtain ⟨j, hj, rfl⟩ := rl_bad_ok c_4
                    refine lv_aload_n hx hb dX0_set_85 rfl (lv_at hl 3 rfl) ?_
                    refine lv_iload_n hx hb dX0_set_86 rfl (lv_at hl 4 rfl) ?_
                    refine lv_iload_n hx hb dX0_set_87 rfl (lv_at hl 5 rfl) ?_
                    refine lv_iload hx hb dX0_set_88 (lv_at hl 2 rfl) ?_
                    refine lv_iload hx hb dX0_set_90 (lv_at hl 1 rfl) ?_
                    refine lv_iload hx hb dX0_set_92 (lv_at hl 0 rfl) ?_
                    refine rl_callv (rest := []) rx_ok rfl C hA B (met_X0_start (j := j) hj w f kind (rl_r numbers) (rl_b numbers) (rl_s numbers)) (cwV 5 C.2.2.2.2.1 (lw_V q24 q26 qs0 q14 q27) rfl rfl rfl (by decide +kernel) ⟨by decide, by decide⟩) rfl hl.1 rfl (Nat.le_of_ble_eq_true rfl) dX0_set_94 ⟨Nat.zero_le _, Nat.zero_le _⟩ (fun H locs B => ?_)
                    refine lv_iconst (v := 0) hx hb dX0_set_97 (by decide) ?_
                    exact rl_iret C hr hk B (by simp [rl_setR, rl_kindbad, rl_numbad, c_4, c_10, c_15, c_47, c_53, c_59, c_66, c_72, c_79]) rfl (by simp [rx_setF, rl_setGo, rl_kindbad, rl_numbad, c_4, c_10, c_15, c_47, c_53, c_59, c_66, c_72, c_79, rl_cl4 hj]) dX0_set_98
                  · refine lv_bipush (v := (-3)) hx hb dX0_set_82 (by decide) ?_
                    exact rl_iret C hr hk B (by simp [rl_setR, rl_kindbad, rl_numbad, c_4, c_10, c_15, c_47, c_53, c_59, c_66, c_72, c_79]) rfl (by simp [rx_setF, rl_setGo, rl_kindbad, rl_numbad, c_4, c_10, c_15, c_47, c_53, c_59, c_66, c_72, c_79]) dX0_set_84
      · refine lv_bipush (v := (-2)) hx hb dX0_set_18 (by decide) ?_
        exact rl_iret C hr hk B (by simp [rl_setR, rl_kindbad, rl_numbad, c_4, c_10, c_15]) rfl (by simp [rx_setF, rl_setGo, rl_kindbad, rl_numbad, c_4, c_10, c_15]) dX0_set_20
  · refine lv_iconst (v := (-1)) hx hb dX0_set_7 (by decide) ?_
    exact rl_iret C hr hk B (by simp [rl_setR, rl_kindbad, rl_numbad, c_4]) rfl (by simp [rx_setF, rl_setGo, rl_kindbad, rl_numbad, c_4]) dX0_set_8
set_option maxHeartbeats 4000000 in
set_option maxRecDepth 100000 in
theorem met_X0_base {l : Launch} {j : Nat} (hj : j < 4) (w : Int32) (f : rl_F) : rl_Mi rx_W l yX0_base cX0_base 2 (some .int) (rl_rm 0 0) [.int (nI j)] w f (rx_base w f j) w f := by
  refine rl_Mi.of RX0 (by decide) rfl (fun _ => Nat.le_of_ble_eq_true rfl) ?_
  intro p e s m args below meth c D h0 ar dA A ls C hr hk hA B hl
  have hx := C.1
  have hb := C.2.1
  have hl : lv_has ls 2 [(0, .ref h0), (1, .int (nI j))] := hl
  refine lv_aload_n hx hb dX0_base_0 rfl (lv_at hl 0 rfl) ?_
  refine rx_g9 C B dX0_base_1 ?_
  refine lv_iload_n hx hb dX0_base_4 rfl (lv_at hl 1 rfl) ?_
  refine rx_l9 (v := f 9 j) C B hj rfl dX0_base_5 ?_
  refine lv_aload_n hx hb dX0_base_6 rfl (lv_at hl 0 rfl) ?_
  refine rx_g0 C B dX0_base_7 ?_
  refine lv_icmp_le (tgt := 22) hx hb dX0_base_10 (by decide) (fun c_10 => ?_) (fun c_10 => ?_)
  · refine lv_aload_n hx hb dX0_base_22 rfl (lv_at hl 0 rfl) ?_
    refine rx_g0 C B dX0_base_23 ?_
    exact rl_iret C hr hk B (by simp [rx_base, c_10]) rfl rfl dX0_base_26
  · refine lv_aload_n hx hb dX0_base_13 rfl (lv_at hl 0 rfl) ?_
    refine rx_g9 C B dX0_base_14 ?_
    refine lv_iload_n hx hb dX0_base_17 rfl (lv_at hl 1 rfl) ?_
    refine rx_l9 (v := f 9 j) C B hj rfl dX0_base_18 ?_
    refine lv_goto (tgt := 26) hx hb dX0_base_19 (by decide) ?_
    exact rl_iret C hr hk B (by simp [rx_base, c_10]) rfl rfl dX0_base_26
theorem rx_hd_pop1 (f : rl_F) (j : Nat) : rx_hd (rx_pop1 f j) j := by
  obtain ⟨d, h1, h2⟩ := rl_and31 (f 10 j + 1)
  exact ⟨d, h1, by rw [← h2]; simp [rx_pop1, rl_up, upd]⟩
set_option maxHeartbeats 4000000 in
set_option maxRecDepth 100000 in
theorem rx_catchUp_loop {p : Program} {l : Launch} {e : Env} {s : State} {m : MethodId} {args : Array Value} {below : List Frame} {meth : Method} {c : Code} {D : va_G} {h0 : Nat} {ar : Nat → Nat} {dA : ClassId} {A : Nat → Prop} (C : rl_Cx p s m args c cX0_catchUp 4 RX0 D dA) (hr : meth.sig.returnType = none) (hk : meth.locks = false) {R : Room} {j : Nat} (hj : j < 4) (w full : Int32) :
    ∀ (n i : Nat) (f : rl_F), i + n = 32 → rx_hd f j → ∀ (H : Heap) (locs : List Loc) (ls : Array Slot), rl_B rx_W D A s h0 ar dA w f H locs → lv_has ls 4 [(3, .int (nI i)), (2, .int full), (0, .ref h0), (1, .int (nI j))] → W p l e R s m args below meth c H locs 0 0 (rl_Qv rx_W below args s D h0 ar dA A w (rx_pops w j n f)) (F0 m 64 ls []) := by
  have hx := C.1
  have hb := C.2.1
  intro n
  induction n with
  | zero =>
    intro i f hi hd H locs ls B hl
    refine lv_iload_n hx hb dX0_catchUp_64 rfl (lv_at hl 0 rfl) ?_
    refine lv_bipush (v := 32) hx hb dX0_catchUp_65 (by decide) ?_
    refine lv_icmp_ge (tgt := 167) hx hb dX0_catchUp_67 (by decide) (fun c_67 => ?_) (fun c_67 => ?_)
    · exact rl_vret C hr hk B rfl rfl dX0_catchUp_167
    · exact absurd (by rw [show i = 32 by omega]; decide) c_67
  | succ n ih =>
    intro i f hi hd H locs ls B hl
    obtain ⟨d, hd32, ed⟩ := hd
    have hat : rx_at f j = j * 32 + d := by unfold rx_at; rw [ed, nI_clamp (by omega)]
    refine lv_iload_n hx hb dX0_catchUp_64 rfl (lv_at hl 0 rfl) ?_
    refine lv_bipush (v := 32) hx hb dX0_catchUp_65 (by decide) ?_
    refine lv_icmp_ge (tgt := 167) hx hb dX0_catchUp_67 (by decide) (fun c_67 => ?_) (fun c_67 => ?_)
    · exact absurd c_67 (nI_ge (show i < 32 by omega) (by decide))
    · refine lv_aload_n hx hb dX0_catchUp_70 rfl (lv_at hl 2 rfl) ?_
      refine rx_g11 C B dX0_catchUp_71 ?_
      refine lv_iload_n hx hb dX0_catchUp_74 rfl (lv_at hl 3 rfl) ?_
      refine rx_l11 (v := f 11 j) C B hj rfl dX0_catchUp_75 ?_
      refine lv_if_le (tgt := 167) hx hb dX0_catchUp_76 (by decide) (fun c_76 => ?_) (fun c_76 => ?_)
      · exact rl_vret C hr hk B rfl (by simp [rx_pops, hat, c_76]) dX0_catchUp_167
      · refine lv_aload_n hx hb dX0_catchUp_79 rfl (lv_at hl 2 rfl) ?_
        refine rx_g13 C B dX0_catchUp_80 ?_
        refine lv_iload_n hx hb dX0_catchUp_83 rfl (lv_at hl 3 rfl) ?_
        refine lv_bipush (v := 32) hx hb dX0_catchUp_84 (by decide) ?_
        refine lv_imul hx hb dX0_catchUp_86 ?_
        refine lv_aload_n hx hb dX0_catchUp_87 rfl (lv_at hl 2 rfl) ?_
        refine rx_g10 C B dX0_catchUp_88 ?_
        refine lv_iload_n hx hb dX0_catchUp_91 rfl (lv_at hl 3 rfl) ?_
        refine rx_l10 (v := nI d) C B hj ed dX0_catchUp_92 ?_
        refine lv_iadd hx hb dX0_catchUp_93 ?_
        refine rl_top (y := nI (j * 32 + d)) (rl_i32 j d) ?_
        refine rx_l13 (v := f 13 (j * 32 + d)) C B (by omega) rfl dX0_catchUp_94 ?_
        refine lv_aload_n hx hb dX0_catchUp_95 rfl (lv_at hl 2 rfl) ?_
        refine rx_g0 C B dX0_catchUp_96 ?_
        refine lv_aload_n hx hb dX0_catchUp_99 rfl (lv_at hl 2 rfl) ?_
        refine rx_g4 C B dX0_catchUp_100 ?_
        refine lv_iload_n hx hb dX0_catchUp_103 rfl (lv_at hl 3 rfl) ?_
        refine rx_l4 (v := f 4 j) C B hj rfl dX0_catchUp_104 ?_
        refine lv_isub hx hb dX0_catchUp_105 ?_
        refine lv_icmp_gt (tgt := 167) hx hb dX0_catchUp_106 (by decide) (fun c_106 => ?_) (fun c_106 => ?_)
        · exact rl_vret C hr hk B rfl (by simp [rx_pops, hat, c_76, c_106]) dX0_catchUp_167
        · refine lv_aload_n hx hb dX0_catchUp_109 rfl (lv_at hl 2 rfl) ?_
          refine rx_g12 C B dX0_catchUp_110 ?_
          refine lv_iload_n hx hb dX0_catchUp_113 rfl (lv_at hl 3 rfl) ?_
          refine lv_dup2_11 hx hb dX0_catchUp_114 rfl rfl ?_
          refine rx_l12 (v := f 12 j) C B hj rfl dX0_catchUp_115 ?_
          refine lv_aload_n hx hb dX0_catchUp_116 rfl (lv_at hl 2 rfl) ?_
          refine rx_g14 C B dX0_catchUp_117 ?_
          refine lv_iload_n hx hb dX0_catchUp_120 rfl (lv_at hl 3 rfl) ?_
          refine lv_bipush (v := 32) hx hb dX0_catchUp_121 (by decide) ?_
          refine lv_imul hx hb dX0_catchUp_123 ?_
          refine lv_aload_n hx hb dX0_catchUp_124 rfl (lv_at hl 2 rfl) ?_
          refine rx_g10 C B dX0_catchUp_125 ?_
          refine lv_iload_n hx hb dX0_catchUp_128 rfl (lv_at hl 3 rfl) ?_
          refine rx_l10 (v := nI d) C B hj ed dX0_catchUp_129 ?_
          refine lv_iadd hx hb dX0_catchUp_130 ?_
          refine rl_top (y := nI (j * 32 + d)) (rl_i32 j d) ?_
          refine rx_l14 (v := f 14 (j * 32 + d)) C B (by omega) rfl dX0_catchUp_131 ?_
          refine lv_isub hx hb dX0_catchUp_132 ?_
          refine rx_s12 C B hj dX0_catchUp_133 (fun H locs B => ?_)
          refine lv_aload_n hx hb dX0_catchUp_134 rfl (lv_at hl 2 rfl) ?_
          refine rx_g10 C B dX0_catchUp_135 ?_
          refine lv_iload_n hx hb dX0_catchUp_138 rfl (lv_at hl 3 rfl) ?_
          refine lv_aload_n hx hb dX0_catchUp_139 rfl (lv_at hl 2 rfl) ?_
          refine rx_g10 C B dX0_catchUp_140 ?_
          refine lv_iload_n hx hb dX0_catchUp_143 rfl (lv_at hl 3 rfl) ?_
          refine rx_l10 (v := f 10 j) C B hj rfl dX0_catchUp_144 ?_
          refine lv_iconst (v := 1) hx hb dX0_catchUp_145 (by decide) ?_
          refine lv_iadd hx hb dX0_catchUp_146 ?_
          refine lv_bipush (v := 31) hx hb dX0_catchUp_147 (by decide) ?_
          refine lv_iand hx hb dX0_catchUp_149 ?_
          refine rx_s10 C B hj dX0_catchUp_150 (fun H locs B => ?_)
          refine lv_aload_n hx hb dX0_catchUp_151 rfl (lv_at hl 2 rfl) ?_
          refine rx_g11 C B dX0_catchUp_152 ?_
          refine lv_iload_n hx hb dX0_catchUp_155 rfl (lv_at hl 3 rfl) ?_
          refine lv_dup2_11 hx hb dX0_catchUp_156 rfl rfl ?_
          refine rx_l11 (v := f 11 j) C B hj rfl dX0_catchUp_157 ?_
          refine lv_iconst (v := 1) hx hb dX0_catchUp_158 (by decide) ?_
          refine lv_isub hx hb dX0_catchUp_159 ?_
          refine rx_s11 C B hj dX0_catchUp_160 (fun H locs B => ?_)
          refine lv_iinc (v := nI (i + 1)) (lv' := [(3, .int (nI (i + 1))), (2, .int full), (0, .ref h0), (1, .int (nI j))]) hx hb dX0_catchUp_161 hl (k := 0) rfl (nI_1 i) (by decide) rfl (fun ls hl => ?_)
          refine lv_goto (tgt := 64) hx hb dX0_catchUp_164 (by decide) ?_
          have B := B.to (w' := w) (f' := rx_pop1 f j) rfl (by unfold rx_pop1; rw [hat])
          refine rl_toV rfl (show rx_pops w j (n + 1) f = rx_pops w j n (rx_pop1 f j) by simp [rx_pops, hat, c_76, c_106]) ?_
          exact ih (i + 1) (rx_pop1 f j) (by omega) (rx_hd_pop1 f j) _ _ _ B hl
set_option maxHeartbeats 4000000 in
set_option maxRecDepth 100000 in
theorem met_X0_catchUp {l : Launch} {j : Nat} (hj : j < 4) (w : Int32) (f : rl_F) (hd : rx_hd f j) : rl_Mv rx_W l yX0_catchUp cX0_catchUp 4 (rl_rm 0 0) [.int (nI j)] w f w (rx_catch w f j) := by
  refine rl_Mv.of RX0 (by decide) rfl (fun _ => Nat.le_of_ble_eq_true rfl) ?_
  intro p e s m args below meth c D h0 ar dA A ls C hr hk hA B hl
  have hx := C.1
  have hb := C.2.1
  have hl : lv_has ls 4 [(0, .ref h0), (1, .int (nI j))] := hl
  refine lv_aload_n hx hb dX0_catchUp_0 rfl (lv_at hl 0 rfl) ?_
  refine rx_g7 C B dX0_catchUp_1 ?_
  refine lv_iload_n hx hb dX0_catchUp_4 rfl (lv_at hl 1 rfl) ?_
  refine rx_l7 (v := f 7 j) C B hj rfl dX0_catchUp_5 ?_
  refine lv_aload_n hx hb dX0_catchUp_6 rfl (lv_at hl 0 rfl) ?_
  refine rx_g2 C B dX0_catchUp_7 ?_
  refine lv_iload_n hx hb dX0_catchUp_10 rfl (lv_at hl 1 rfl) ?_
  refine rx_l2 (v := f 2 j) C B hj rfl dX0_catchUp_11 ?_
  refine lv_aload_n hx hb dX0_catchUp_12 rfl (lv_at hl 0 rfl) ?_
  refine rx_g0 C B dX0_catchUp_13 ?_
  refine lv_aload_n hx hb dX0_catchUp_16 rfl (lv_at hl 0 rfl) ?_
  refine rx_g8 C B dX0_catchUp_17 ?_
  refine lv_iload_n hx hb dX0_catchUp_20 rfl (lv_at hl 1 rfl) ?_
  refine rx_l8 (v := f 8 j) C B hj rfl dX0_catchUp_21 ?_
  refine lv_isub hx hb dX0_catchUp_22 ?_
  refine lv_imul hx hb dX0_catchUp_23 ?_
  refine lv_iadd hx hb dX0_catchUp_24 ?_
  refine rl_top (y := rx_full w f j) rfl ?_
  refine lv_istore_n (lv' := [(2, .int (rx_full w f j)), (0, .ref h0), (1, .int (nI j))]) hx hb dX0_catchUp_25 rfl hl (by decide) rfl (fun ls hl => ?_)
  refine lv_aload_n hx hb dX0_catchUp_26 rfl (lv_at hl 1 rfl) ?_
  refine rx_g7 C B dX0_catchUp_27 ?_
  refine lv_iload_n hx hb dX0_catchUp_30 rfl (lv_at hl 2 rfl) ?_
  refine lv_iload_n hx hb dX0_catchUp_31 rfl (lv_at hl 0 rfl) ?_
  refine lv_aload_n hx hb dX0_catchUp_32 rfl (lv_at hl 1 rfl) ?_
  refine rx_g3 C B dX0_catchUp_33 ?_
  refine lv_iload_n hx hb dX0_catchUp_36 rfl (lv_at hl 2 rfl) ?_
  refine rx_l3 (v := f 3 j) C B hj rfl dX0_catchUp_37 ?_
  refine lv_icmp_ge (tgt := 45) hx hb dX0_catchUp_38 (by decide) (fun c_38 => ?_) (fun c_38 => ?_)
  · refine lv_aload_n hx hb dX0_catchUp_45 rfl (lv_at hl 1 rfl) ?_
    refine rx_g3 C B dX0_catchUp_46 ?_
    refine lv_iload_n hx hb dX0_catchUp_49 rfl (lv_at hl 2 rfl) ?_
    refine rx_l3 (v := f 3 j) C B hj rfl dX0_catchUp_50 ?_
    refine rx_s7 C B hj dX0_catchUp_51 (fun H locs B => ?_)
    refine lv_aload_n hx hb dX0_catchUp_52 rfl (lv_at hl 1 rfl) ?_
    refine rx_g8 C B dX0_catchUp_53 ?_
    refine lv_iload_n hx hb dX0_catchUp_56 rfl (lv_at hl 2 rfl) ?_
    refine lv_aload_n hx hb dX0_catchUp_57 rfl (lv_at hl 1 rfl) ?_
    refine rx_g0 C B dX0_catchUp_58 ?_
    refine rx_s8 C B hj dX0_catchUp_61 (fun H locs B => ?_)
    refine lv_iconst (v := 0) hx hb dX0_catchUp_62 (by decide) ?_
    refine rl_top (y := nI 0) nI_0.symm ?_
    refine lv_istore_n (lv' := [(3, .int (nI 0)), (2, .int (rx_full w f j)), (0, .ref h0), (1, .int (nI j))]) hx hb dX0_catchUp_63 rfl hl (by decide) rfl (fun ls hl => ?_)
    have B := B.to (w' := w) (f' := rx_c0 w f j) rfl (by simp [rx_c0, c_38])
    exact rx_catchUp_loop C hr hk hj w (rx_full w f j) 32 0 (rx_c0 w f j) rfl hd _ _ _ B hl
  · refine lv_iload_n hx hb dX0_catchUp_41 rfl (lv_at hl 0 rfl) ?_
    refine lv_goto (tgt := 51) hx hb dX0_catchUp_42 (by decide) ?_
    refine rx_s7 C B hj dX0_catchUp_51 (fun H locs B => ?_)
    refine lv_aload_n hx hb dX0_catchUp_52 rfl (lv_at hl 1 rfl) ?_
    refine rx_g8 C B dX0_catchUp_53 ?_
    refine lv_iload_n hx hb dX0_catchUp_56 rfl (lv_at hl 2 rfl) ?_
    refine lv_aload_n hx hb dX0_catchUp_57 rfl (lv_at hl 1 rfl) ?_
    refine rx_g0 C B dX0_catchUp_58 ?_
    refine rx_s8 C B hj dX0_catchUp_61 (fun H locs B => ?_)
    refine lv_iconst (v := 0) hx hb dX0_catchUp_62 (by decide) ?_
    refine rl_top (y := nI 0) nI_0.symm ?_
    refine lv_istore_n (lv' := [(3, .int (nI 0)), (2, .int (rx_full w f j)), (0, .ref h0), (1, .int (nI j))]) hx hb dX0_catchUp_63 rfl hl (by decide) rfl (fun ls hl => ?_)
    have B := B.to (w' := w) (f' := rx_c0 w f j) rfl (by simp [rx_c0, c_38])
    exact rx_catchUp_loop C hr hk hj w (rx_full w f j) 32 0 (rx_c0 w f j) rfl hd _ _ _ B hl
set_option maxHeartbeats 4000000 in
set_option maxRecDepth 100000 in
theorem met_X0_roomOf {l : Launch} {j : Nat} (hj : j < 4) (w : Int32) (f : rl_F) (hd : rx_hd f j) : rl_Mi rx_W l yX0_roomOf cX0_roomOf 4 (some .int) (rl_rm 1 30) [.int (nI j)] w f (rx_room w (rx_catch w f j) j) w (rx_catch w f j) := by
  refine rl_Mi.of RX0 (by decide) rfl (fun _ => Nat.le_of_ble_eq_true rfl) ?_
  intro p e s m args below meth c D h0 ar dA A ls C hr hk hA B hl
  have hx := C.1
  have hb := C.2.1
  have hl : lv_has ls 4 [(0, .ref h0), (1, .int (nI j))] := hl
  refine lv_aload_n hx hb dX0_roomOf_0 rfl (lv_at hl 0 rfl) ?_
  refine lv_iload_n hx hb dX0_roomOf_1 rfl (lv_at hl 1 rfl) ?_
  refine rl_callv (rest := []) rx_ok rfl C hA B (met_X0_catchUp (j := j) hj w f (hd)) (cwV 1 C.2.2.2.2.1 (lw_V q94 q96 qs2 q14 q97) rfl rfl rfl (by decide +kernel) ⟨by decide, by decide⟩) rfl hl.1 rfl (Nat.le_of_ble_eq_true rfl) dX0_roomOf_2 ⟨Nat.zero_le _, Nat.zero_le _⟩ (fun H locs B => ?_)
  refine lv_aload_n hx hb dX0_roomOf_5 rfl (lv_at hl 0 rfl) ?_
  refine rx_g1 C B dX0_roomOf_6 ?_
  refine lv_iload_n hx hb dX0_roomOf_9 rfl (lv_at hl 1 rfl) ?_
  refine rx_l1 (v := (rx_catch w f j) 1 j) C B hj rfl dX0_roomOf_10 ?_
  refine lv_if_ne (tgt := 21) hx hb dX0_roomOf_11 (by decide) (fun c_11 => ?_) (fun c_11 => ?_)
  · refine lv_aload_n hx hb dX0_roomOf_21 rfl (lv_at hl 0 rfl) ?_
    refine rx_g1 C B dX0_roomOf_22 ?_
    refine lv_iload_n hx hb dX0_roomOf_25 rfl (lv_at hl 1 rfl) ?_
    refine rx_l1 (v := (rx_catch w f j) 1 j) C B hj rfl dX0_roomOf_26 ?_
    refine lv_iconst (v := 1) hx hb dX0_roomOf_27 (by decide) ?_
    refine lv_icmp_ne (tgt := 45) hx hb dX0_roomOf_28 (by decide) (fun c_28 => ?_) (fun c_28 => ?_)
    · refine lv_aload_n hx hb dX0_roomOf_45 rfl (lv_at hl 0 rfl) ?_
      refine lv_iload_n hx hb dX0_roomOf_46 rfl (lv_at hl 1 rfl) ?_
      refine rl_calli (rest := []) rx_ok rfl C hA B (met_X0_base (j := j) hj w (rx_catch w f j)) (cwV 1 C.2.2.2.2.1 (lw_V q98 q100 qs3 q14 q101) rfl rfl rfl (by decide +kernel) ⟨by decide, by decide⟩) rfl hl.1 rfl (Nat.le_of_ble_eq_true rfl) dX0_roomOf_47 ⟨Nat.zero_le _, Nat.zero_le _⟩ (fun H locs B => ?_)
      refine lv_aload_n hx hb dX0_roomOf_50 rfl (lv_at hl 0 rfl) ?_
      refine rx_g0 C B dX0_roomOf_51 ?_
      refine lv_isub hx hb dX0_roomOf_54 ?_
      refine lv_istore_n (lv' := [(2, .int ((rx_base w (rx_catch w f j) j) - w)), (0, .ref h0), (1, .int (nI j))]) hx hb dX0_roomOf_55 rfl hl (by decide) rfl (fun ls hl => ?_)
      refine lv_aload_n hx hb dX0_roomOf_56 rfl (lv_at hl 1 rfl) ?_
      refine rx_g3 C B dX0_roomOf_57 ?_
      refine lv_iload_n hx hb dX0_roomOf_60 rfl (lv_at hl 2 rfl) ?_
      refine rx_l3 (v := (rx_catch w f j) 3 j) C B hj rfl dX0_roomOf_61 ?_
      refine lv_aload_n hx hb dX0_roomOf_62 rfl (lv_at hl 1 rfl) ?_
      refine rx_g4 C B dX0_roomOf_63 ?_
      refine lv_iload_n hx hb dX0_roomOf_66 rfl (lv_at hl 2 rfl) ?_
      refine rx_l4 (v := (rx_catch w f j) 4 j) C B hj rfl dX0_roomOf_67 ?_
      refine lv_imul hx hb dX0_roomOf_68 ?_
      refine lv_iload_n hx hb dX0_roomOf_69 rfl (lv_at hl 0 rfl) ?_
      refine lv_isub hx hb dX0_roomOf_70 ?_
      refine rl_top (y := rx_left w (rx_catch w f j) j) rfl ?_
      refine lv_istore_n (lv' := [(3, .int (rx_left w (rx_catch w f j) j)), (2, .int ((rx_base w (rx_catch w f j) j) - w)), (0, .ref h0), (1, .int (nI j))]) hx hb dX0_roomOf_71 rfl hl (by decide) rfl (fun ls hl => ?_)
      refine lv_iload_n hx hb dX0_roomOf_72 rfl (lv_at hl 0 rfl) ?_
      refine lv_if_ge (tgt := 80) hx hb dX0_roomOf_73 (by decide) (fun c_73 => ?_) (fun c_73 => ?_)
      · refine lv_iload_n hx hb dX0_roomOf_80 rfl (lv_at hl 0 rfl) ?_
        refine lv_aload_n hx hb dX0_roomOf_81 rfl (lv_at hl 2 rfl) ?_
        refine rx_g4 C B dX0_roomOf_82 ?_
        refine lv_iload_n hx hb dX0_roomOf_85 rfl (lv_at hl 3 rfl) ?_
        refine rx_l4 (v := (rx_catch w f j) 4 j) C B hj rfl dX0_roomOf_86 ?_
        refine lv_if_le (tgt := 99) hx hb dX0_roomOf_87 (by decide) (fun c_87 => ?_) (fun c_87 => ?_)
        · refine lv_iconst (v := 1) hx hb dX0_roomOf_99 (by decide) ?_
          refine lv_idiv hx hb dX0_roomOf_100 (by decide) ?_
          exact rl_iret C hr hk B (by simp [rx_room, rx_pos, c_11, c_28, c_73, c_87]) rfl rfl dX0_roomOf_101
        · refine lv_aload_n hx hb dX0_roomOf_90 rfl (lv_at hl 2 rfl) ?_
          refine rx_g4 C B dX0_roomOf_91 ?_
          refine lv_iload_n hx hb dX0_roomOf_94 rfl (lv_at hl 3 rfl) ?_
          refine rx_l4 (v := (rx_catch w f j) 4 j) C B hj rfl dX0_roomOf_95 ?_
          refine lv_goto (tgt := 100) hx hb dX0_roomOf_96 (by decide) ?_
          refine lv_idiv hx hb dX0_roomOf_100 (fun e9 => c_87 (by rw [e9]; decide)) ?_
          exact rl_iret C hr hk B (by simp [rx_room, rx_pos, c_11, c_28, c_73, c_87]) rfl rfl dX0_roomOf_101
      · refine lv_iconst (v := 0) hx hb dX0_roomOf_76 (by decide) ?_
        refine lv_goto (tgt := 101) hx hb dX0_roomOf_77 (by decide) ?_
        exact rl_iret C hr hk B (by simp [rx_room, rx_pos, c_11, c_28, c_73]) rfl rfl dX0_roomOf_101
    · refine lv_aload_n hx hb dX0_roomOf_31 rfl (lv_at hl 0 rfl) ?_
      refine rx_g3 C B dX0_roomOf_32 ?_
      refine lv_iload_n hx hb dX0_roomOf_35 rfl (lv_at hl 1 rfl) ?_
      refine rx_l3 (v := (rx_catch w f j) 3 j) C B hj rfl dX0_roomOf_36 ?_
      refine lv_aload_n hx hb dX0_roomOf_37 rfl (lv_at hl 0 rfl) ?_
      refine rx_g12 C B dX0_roomOf_38 ?_
      refine lv_iload_n hx hb dX0_roomOf_41 rfl (lv_at hl 1 rfl) ?_
      refine rx_l12 (v := (rx_catch w f j) 12 j) C B hj rfl dX0_roomOf_42 ?_
      refine lv_isub hx hb dX0_roomOf_43 ?_
      exact rl_iret C hr hk B (by simp [rx_room, rx_pos, c_11, c_28]) rfl rfl dX0_roomOf_44
  · refine lv_aload_n hx hb dX0_roomOf_14 rfl (lv_at hl 0 rfl) ?_
    refine rx_g7 C B dX0_roomOf_15 ?_
    refine lv_iload_n hx hb dX0_roomOf_18 rfl (lv_at hl 1 rfl) ?_
    refine rx_l7 (v := (rx_catch w f j) 7 j) C B hj rfl dX0_roomOf_19 ?_
    exact rl_iret C hr hk B (by simp [rx_room, rx_pos, c_11]) rfl rfl dX0_roomOf_20
set_option maxHeartbeats 4000000 in
set_option maxRecDepth 100000 in
theorem met_X0_grant {l : Launch} {j : Nat} (hj : j < 4) (w : Int32) (f : rl_F) (cost : Int32) : rl_Mv rx_W l yX0_grant cX0_grant 4 (rl_rm 1 30) [.int (nI j), .int cost] w f w (rx_grant w f j cost) := by
  refine rl_Mv.of RX0 (by decide) rfl (fun _ => Nat.le_of_ble_eq_true rfl) ?_
  intro p e s m args below meth c D h0 ar dA A ls C hr hk hA B hl
  have hx := C.1
  have hb := C.2.1
  have hl : lv_has ls 4 [(0, .ref h0), (1, .int (nI j)), (2, .int cost)] := hl
  refine lv_aload_n hx hb dX0_grant_0 rfl (lv_at hl 0 rfl) ?_
  refine rx_g5 C B dX0_grant_1 ?_
  refine lv_iload_n hx hb dX0_grant_4 rfl (lv_at hl 1 rfl) ?_
  refine lv_dup2_11 hx hb dX0_grant_5 rfl rfl ?_
  refine rx_l5 (v := f 5 j) C B hj rfl dX0_grant_6 ?_
  refine lv_iload_n hx hb dX0_grant_7 rfl (lv_at hl 2 rfl) ?_
  refine lv_iadd hx hb dX0_grant_8 ?_
  refine rx_s5 C B hj dX0_grant_9 (fun H locs B => ?_)
  refine lv_aload_n hx hb dX0_grant_10 rfl (lv_at hl 0 rfl) ?_
  refine rx_g1 C B dX0_grant_11 ?_
  refine lv_iload_n hx hb dX0_grant_14 rfl (lv_at hl 1 rfl) ?_
  refine rx_l1 (v := f 1 j) C B hj rfl dX0_grant_15 ?_
  refine lv_if_ne (tgt := 32) hx hb dX0_grant_16 (by decide) (fun c_16 => ?_) (fun c_16 => ?_)
  · refine lv_aload_n hx hb dX0_grant_32 rfl (lv_at hl 0 rfl) ?_
    refine rx_g1 C B dX0_grant_33 ?_
    refine lv_iload_n hx hb dX0_grant_36 rfl (lv_at hl 1 rfl) ?_
    refine rx_l1 (v := f 1 j) C B hj rfl dX0_grant_37 ?_
    refine lv_iconst (v := 1) hx hb dX0_grant_38 (by decide) ?_
    refine lv_icmp_ne (tgt := 104) hx hb dX0_grant_39 (by decide) (fun c_39 => ?_) (fun c_39 => ?_)
    · refine lv_aload_n hx hb dX0_grant_104 rfl (lv_at hl 0 rfl) ?_
      refine rx_g9 C B dX0_grant_105 ?_
      refine lv_iload_n hx hb dX0_grant_108 rfl (lv_at hl 1 rfl) ?_
      refine lv_aload_n hx hb dX0_grant_109 rfl (lv_at hl 0 rfl) ?_
      refine lv_iload_n hx hb dX0_grant_110 rfl (lv_at hl 1 rfl) ?_
      refine rl_calli (rest := [.int (nI j), .ref (ar 9)]) rx_ok rfl C hA B (met_X0_base (j := j) hj w (rl_up f 5 j ((f 5 j) + cost))) (cwV 1 C.2.2.2.2.1 (lw_V q98 q100 qs3 q14 q101) rfl rfl rfl (by decide +kernel) ⟨by decide, by decide⟩) rfl hl.1 rfl (Nat.le_of_ble_eq_true rfl) dX0_grant_111 ⟨Nat.zero_le _, Nat.zero_le _⟩ (fun H locs B => ?_)
      refine lv_iload_n hx hb dX0_grant_114 rfl (lv_at hl 2 rfl) ?_
      refine lv_aload_n hx hb dX0_grant_115 rfl (lv_at hl 0 rfl) ?_
      refine rx_g4 C B dX0_grant_116 ?_
      refine lv_iload_n hx hb dX0_grant_119 rfl (lv_at hl 1 rfl) ?_
      refine rx_l4 (v := f 4 j) C B hj rfl dX0_grant_120 ?_
      refine lv_imul hx hb dX0_grant_121 ?_
      refine lv_iadd hx hb dX0_grant_122 ?_
      refine rx_s9 C B hj dX0_grant_123 (fun H locs B => ?_)
      exact rl_vret C hr hk B rfl (by simp [rx_grant, rx_base, rl_up_ne, c_16, c_39]) dX0_grant_124
    · refine lv_iload_n hx hb dX0_grant_42 rfl (lv_at hl 1 rfl) ?_
      refine lv_bipush (v := 32) hx hb dX0_grant_43 (by decide) ?_
      refine lv_imul hx hb dX0_grant_45 ?_
      refine lv_aload_n hx hb dX0_grant_46 rfl (lv_at hl 0 rfl) ?_
      refine rx_g10 C B dX0_grant_47 ?_
      refine lv_iload_n hx hb dX0_grant_50 rfl (lv_at hl 1 rfl) ?_
      refine rx_l10 (v := f 10 j) C B hj rfl dX0_grant_51 ?_
      refine lv_aload_n hx hb dX0_grant_52 rfl (lv_at hl 0 rfl) ?_
      refine rx_g11 C B dX0_grant_53 ?_
      refine lv_iload_n hx hb dX0_grant_56 rfl (lv_at hl 1 rfl) ?_
      refine rx_l11 (v := f 11 j) C B hj rfl dX0_grant_57 ?_
      refine lv_iadd hx hb dX0_grant_58 ?_
      refine lv_bipush (v := 31) hx hb dX0_grant_59 (by decide) ?_
      refine lv_iand hx hb dX0_grant_61 ?_
      obtain ⟨d, hd32, ed⟩ := rl_and31 (f 10 j + f 11 j)
      have hin : rx_in f j = j * 32 + d := by unfold rx_in; rw [ed, nI_clamp (by omega)]
      refine rl_top (y := nI d) ed ?_
      refine lv_iadd hx hb dX0_grant_62 ?_
      refine rl_top (y := nI (j * 32 + d)) (rl_i32 j d) ?_
      refine lv_istore_n (lv' := [(3, .int (nI (j * 32 + d))), (0, .ref h0), (1, .int (nI j)), (2, .int cost)]) hx hb dX0_grant_63 rfl hl (by decide) rfl (fun ls hl => ?_)
      refine lv_aload_n hx hb dX0_grant_64 rfl (lv_at hl 1 rfl) ?_
      refine rx_g13 C B dX0_grant_65 ?_
      refine lv_iload_n hx hb dX0_grant_68 rfl (lv_at hl 0 rfl) ?_
      refine lv_aload_n hx hb dX0_grant_69 rfl (lv_at hl 1 rfl) ?_
      refine rx_g0 C B dX0_grant_70 ?_
      refine rx_s13 C B (by omega) dX0_grant_73 (fun H locs B => ?_)
      refine lv_aload_n hx hb dX0_grant_74 rfl (lv_at hl 1 rfl) ?_
      refine rx_g14 C B dX0_grant_75 ?_
      refine lv_iload_n hx hb dX0_grant_78 rfl (lv_at hl 0 rfl) ?_
      refine lv_iload_n hx hb dX0_grant_79 rfl (lv_at hl 3 rfl) ?_
      refine rx_s14 C B (by omega) dX0_grant_80 (fun H locs B => ?_)
      refine lv_aload_n hx hb dX0_grant_81 rfl (lv_at hl 1 rfl) ?_
      refine rx_g11 C B dX0_grant_82 ?_
      refine lv_iload_n hx hb dX0_grant_85 rfl (lv_at hl 2 rfl) ?_
      refine lv_dup2_11 hx hb dX0_grant_86 rfl rfl ?_
      refine rx_l11 (v := f 11 j) C B hj rfl dX0_grant_87 ?_
      refine lv_iconst (v := 1) hx hb dX0_grant_88 (by decide) ?_
      refine lv_iadd hx hb dX0_grant_89 ?_
      refine rx_s11 C B hj dX0_grant_90 (fun H locs B => ?_)
      refine lv_aload_n hx hb dX0_grant_91 rfl (lv_at hl 1 rfl) ?_
      refine rx_g12 C B dX0_grant_92 ?_
      refine lv_iload_n hx hb dX0_grant_95 rfl (lv_at hl 2 rfl) ?_
      refine lv_dup2_11 hx hb dX0_grant_96 rfl rfl ?_
      refine rx_l12 (v := f 12 j) C B hj rfl dX0_grant_97 ?_
      refine lv_iload_n hx hb dX0_grant_98 rfl (lv_at hl 3 rfl) ?_
      refine lv_iadd hx hb dX0_grant_99 ?_
      refine rx_s12 C B hj dX0_grant_100 (fun H locs B => ?_)
      refine lv_goto (tgt := 124) hx hb dX0_grant_101 (by decide) ?_
      exact rl_vret C hr hk B rfl (by simp [rx_grant, rx_base, rl_up_ne, hin, c_16, c_39]) dX0_grant_124
  · refine lv_aload_n hx hb dX0_grant_19 rfl (lv_at hl 0 rfl) ?_
    refine rx_g7 C B dX0_grant_20 ?_
    refine lv_iload_n hx hb dX0_grant_23 rfl (lv_at hl 1 rfl) ?_
    refine lv_dup2_11 hx hb dX0_grant_24 rfl rfl ?_
    refine rx_l7 (v := f 7 j) C B hj rfl dX0_grant_25 ?_
    refine lv_iload_n hx hb dX0_grant_26 rfl (lv_at hl 2 rfl) ?_
    refine lv_isub hx hb dX0_grant_27 ?_
    refine rx_s7 C B hj dX0_grant_28 (fun H locs B => ?_)
    refine lv_goto (tgt := 124) hx hb dX0_grant_29 (by decide) ?_
    exact rl_vret C hr hk B rfl (by simp [rx_grant, rx_base, rl_up_ne, c_16]) dX0_grant_124
end
section
set_option maxHeartbeats 4000000 in
set_option maxRecDepth 100000 in
theorem met_X0_ask {l : Launch} (w : Int32) (f : rl_F) (hd : rx_HD f) (meter cost : Int32) : rl_Mi rx_W l yX0_ask cX0_ask 4 (some .int) (rl_rm 2 60) [.int meter, .int cost] w f (rx_askR w f meter cost) w (rx_askF w f meter cost) := by
  refine rl_Mi.of RX0 (by decide) rfl (fun _ => Nat.le_of_ble_eq_true rfl) ?_
  intro p e s m args below meth c D h0 ar dA A ls C hr hk hA B hl
  have hx := C.1
  have hb := C.2.1
  have hl : lv_has ls 4 [(0, .ref h0), (1, .int meter), (2, .int cost)] := hl
  refine lv_iload_n hx hb dX0_ask_0 rfl (lv_at hl 1 rfl) ?_
  refine rl_callS (rest := []) C B (met_X0_bad meter) (va_cwS 1 C.2.2.2.2.1 (lw_S q80 q81 q14 q82) rfl rfl rfl (by decide +kernel) ⟨by decide, by decide⟩) rfl hl.1 rfl (Nat.le_of_ble_eq_true rfl) dX0_ask_1 ⟨Nat.zero_le _, Nat.zero_le _⟩ (fun H locs B => ?_)
  refine lv_if_eq (tgt := 9) hx hb dX0_ask_4 (by decide) (fun c_4 => ?_) (fun c_4 => ?_)
  · refine lv_iload_n hx hb dX0_ask_9 rfl (lv_at hl 2 rfl) ?_
    refine rl_callS (rest := []) C B (met_X0_badCost cost) (va_cwS 1 C.2.2.2.2.1 (lw_S q87 q88 q14 q89) rfl rfl rfl (by decide +kernel) ⟨by decide, by decide⟩) rfl hl.1 rfl (Nat.le_of_ble_eq_true rfl) dX0_ask_10 ⟨Nat.zero_le _, Nat.zero_le _⟩ (fun H locs B => ?_)
    refine lv_if_eq (tgt := 19) hx hb dX0_ask_13 (by decide) (fun c_13 => ?_) (fun c_13 => ?_)
    · obtain ⟨j, hj, rfl⟩ := rl_bad_ok c_4
      refine lv_aload_n hx hb dX0_ask_19 rfl (lv_at hl 0 rfl) ?_
      refine lv_iload_n hx hb dX0_ask_20 rfl (lv_at hl 1 rfl) ?_
      refine rl_calli (rest := []) rx_ok rfl C hA B (met_X0_roomOf (j := j) hj w f (hd j hj)) (cwV 1 C.2.2.2.2.1 (lw_V q90 q92 qs1 q14 q93) rfl rfl rfl (by decide +kernel) ⟨by decide, by decide⟩) rfl hl.1 rfl (Nat.le_of_ble_eq_true rfl) dX0_ask_21 ⟨Nat.zero_le _, Nat.zero_le _⟩ (fun H locs B => ?_)
      refine lv_istore_n (lv' := [(3, .int (rx_room w (rx_catch w f j) j)), (0, .ref h0), (1, .int (nI j)), (2, .int cost)]) hx hb dX0_ask_24 rfl hl (by decide) rfl (fun ls hl => ?_)
      refine lv_iload_n hx hb dX0_ask_25 rfl (lv_at hl 3 rfl) ?_
      refine lv_iload_n hx hb dX0_ask_26 rfl (lv_at hl 0 rfl) ?_
      refine lv_icmp_le (tgt := 42) hx hb dX0_ask_27 (by decide) (fun c_27 => ?_) (fun c_27 => ?_)
      · refine lv_aload_n hx hb dX0_ask_42 rfl (lv_at hl 1 rfl) ?_
        refine lv_iload_n hx hb dX0_ask_43 rfl (lv_at hl 2 rfl) ?_
        refine lv_iload_n hx hb dX0_ask_44 rfl (lv_at hl 3 rfl) ?_
        refine rl_callv (rest := []) rx_ok rfl C hA B (met_X0_grant (j := j) hj w (rx_catch w f j) cost) (cwV 2 C.2.2.2.2.1 (lw_V q102 q104 qs4 q14 q105) rfl rfl rfl (by decide +kernel) ⟨by decide, by decide⟩) rfl hl.1 rfl (Nat.le_of_ble_eq_true rfl) dX0_ask_45 ⟨Nat.zero_le _, Nat.zero_le _⟩ (fun H locs B => ?_)
        refine lv_iconst (v := 1) hx hb dX0_ask_48 (by decide) ?_
        exact rl_iret C hr hk B (by simp [rx_askR, rx_askR1, c_4, c_13, c_27, rl_cl4 hj]) rfl (by simp [rx_askF, rl_go, rx_askF1, rx_deny, c_4, c_13, c_27, rl_cl4 hj]) dX0_ask_49
      · refine lv_aload_n hx hb dX0_ask_30 rfl (lv_at hl 1 rfl) ?_
        refine rx_g6 C B dX0_ask_31 ?_
        refine lv_iload_n hx hb dX0_ask_34 rfl (lv_at hl 2 rfl) ?_
        refine lv_dup2_11 hx hb dX0_ask_35 rfl rfl ?_
        refine rx_l6 (v := (rx_catch w f j) 6 j) C B hj rfl dX0_ask_36 ?_
        refine lv_iconst (v := 1) hx hb dX0_ask_37 (by decide) ?_
        refine lv_iadd hx hb dX0_ask_38 ?_
        refine rx_s6 C B hj dX0_ask_39 (fun H locs B => ?_)
        refine lv_iconst (v := 0) hx hb dX0_ask_40 (by decide) ?_
        exact rl_iret C hr hk B (by simp [rx_askR, rx_askR1, c_4, c_13, c_27, rl_cl4 hj]) rfl (by simp [rx_askF, rl_go, rx_askF1, rx_deny, c_4, c_13, c_27, rl_cl4 hj]) dX0_ask_41
    · refine lv_bipush (v := (-3)) hx hb dX0_ask_16 (by decide) ?_
      exact rl_iret C hr hk B (by simp [rx_askR, rx_askR1, c_4, c_13]) rfl (by simp [rx_askF, rl_go, rx_askF1, rx_deny, c_4, c_13]) dX0_ask_18
  · refine lv_iconst (v := (-1)) hx hb dX0_ask_7 (by decide) ?_
    exact rl_iret C hr hk B (by simp [rx_askR, rx_askR1, c_4]) rfl (by simp [rx_askF, rl_go, rx_askF1, rx_deny, c_4]) dX0_ask_8
set_option maxHeartbeats 4000000 in
set_option maxRecDepth 100000 in
theorem rx_askAll_loop2 {p : Program} {l : Launch} {e : Env} {s : State} {m : MethodId} {args : Array Value} {below : List Frame} {meth : Method} {c : Code} {D : va_G} {h0 : Nat} {ar : Nat → Nat} {dA : ClassId} {A : Nat → Prop} (C : rl_Cx p s m args c cX0_askAll 6 RX0 D dA) (hr : meth.sig.returnType = some .int) (hk : meth.locks = false) (hA : ∀ q : Nat, s.heap.size ≤ q → A q) (w meters cost a : Int32) (ha : ¬ a = 0) :
    ∀ (n j : Nat) (f : rl_F), j + n = 4 → ∀ (H : Heap) (locs : List Loc) (ls : Array Slot), rl_B rx_W D A s h0 ar dA w f H locs → lv_has ls 6 [(4, .int (nI j)), (3, .int a), (0, .ref h0), (1, .int meters), (2, .int cost)] → W p l e (rl_rm 2 60) s m args below meth c H locs 0 0 (rl_Qi rx_W below args s D h0 ar dA A 1 w (rx_aa2 w meters cost n j f)) (F0 m 67 ls []) := by
  have hx := C.1
  have hb := C.2.1
  intro n
  induction n with
  | zero =>
    intro j f hi H locs ls B hl
    refine lv_iload hx hb dX0_askAll_67 (lv_at hl 0 rfl) ?_
    refine lv_iconst (v := 4) hx hb dX0_askAll_69 (by decide) ?_
    refine lv_icmp_ge (tgt := 100) hx hb dX0_askAll_70 (by decide) (fun c_70 => ?_) (fun c_70 => ?_)
    · refine lv_iload_n hx hb dX0_askAll_100 rfl (lv_at hl 1 rfl) ?_
      refine lv_if_eq (tgt := 108) hx hb dX0_askAll_101 (by decide) (fun c_101 => ?_) (fun c_101 => ?_)
      · exact absurd c_101 ha
      · refine lv_iconst (v := 1) hx hb dX0_askAll_104 (by decide) ?_
        refine lv_goto (tgt := 109) hx hb dX0_askAll_105 (by decide) ?_
        exact rl_iret C hr hk B rfl rfl rfl dX0_askAll_109
    · exact absurd (by rw [show j = 4 by omega]; decide) c_70
  | succ n ih =>
    intro j f hi H locs ls B hl
    have hj : j < 4 := by omega
    refine lv_iload hx hb dX0_askAll_67 (lv_at hl 0 rfl) ?_
    refine lv_iconst (v := 4) hx hb dX0_askAll_69 (by decide) ?_
    refine lv_icmp_ge (tgt := 100) hx hb dX0_askAll_70 (by decide) (fun c_70 => ?_) (fun c_70 => ?_)
    · exact absurd c_70 (nI_ge hj (by decide))
    · refine lv_iload_n hx hb dX0_askAll_73 rfl (lv_at hl 1 rfl) ?_
      refine lv_if_eq (tgt := 100) hx hb dX0_askAll_74 (by decide) (fun c_74 => ?_) (fun c_74 => ?_)
      · exact absurd c_74 ha
      · refine lv_iload_n hx hb dX0_askAll_77 rfl (lv_at hl 3 rfl) ?_
        refine lv_iload hx hb dX0_askAll_78 (lv_at hl 0 rfl) ?_
        refine lv_ishr hx hb dX0_askAll_80 ?_
        refine lv_iconst (v := 1) hx hb dX0_askAll_81 (by decide) ?_
        refine lv_iand hx hb dX0_askAll_82 ?_
        refine rl_top (y := rl_bit meters j) rfl ?_
        refine lv_iconst (v := 1) hx hb dX0_askAll_83 (by decide) ?_
        refine lv_icmp_ne (tgt := 94) hx hb dX0_askAll_84 (by decide) (fun c_84 => ?_) (fun c_84 => ?_)
        · refine lv_iinc (v := nI (j + 1)) (lv' := [(4, .int (nI (j + 1))), (3, .int a), (0, .ref h0), (1, .int meters), (2, .int cost)]) hx hb dX0_askAll_94 hl (k := 0) rfl (nI_1 j) (by decide) rfl (fun ls hl => ?_)
          refine lv_goto (tgt := 67) hx hb dX0_askAll_97 (by decide) ?_
          refine rl_toI rfl rfl (show rx_aa2 w meters cost (n + 1) j f = rx_aa2 w meters cost n (j + 1) f by simp [rx_aa2, c_84]) ?_
          exact ih (j + 1) _ (by omega) _ _ _ B (lv_sub hl [0, 1, 2, 3, 4] rfl)
        · refine lv_aload_n hx hb dX0_askAll_87 rfl (lv_at hl 2 rfl) ?_
          refine lv_iload hx hb dX0_askAll_88 (lv_at hl 0 rfl) ?_
          refine lv_iload_n hx hb dX0_askAll_90 rfl (lv_at hl 4 rfl) ?_
          refine rl_callv (rest := []) rx_ok rfl C hA B (met_X0_grant (j := j) hj w f cost) (cwV 2 C.2.2.2.2.1 (lw_V q102 q104 qs4 q14 q105) rfl rfl rfl (by decide +kernel) ⟨by decide, by decide⟩) rfl hl.1 rfl (Nat.le_of_ble_eq_true rfl) dX0_askAll_91 ⟨Nat.zero_le _, Nat.zero_le _⟩ (fun H locs B => ?_)
          refine lv_iinc (v := nI (j + 1)) (lv' := [(4, .int (nI (j + 1))), (3, .int a), (0, .ref h0), (1, .int meters), (2, .int cost)]) hx hb dX0_askAll_94 hl (k := 0) rfl (nI_1 j) (by decide) rfl (fun ls hl => ?_)
          refine lv_goto (tgt := 67) hx hb dX0_askAll_97 (by decide) ?_
          refine rl_toI rfl rfl (show rx_aa2 w meters cost (n + 1) j f = rx_aa2 w meters cost n (j + 1) (rx_grant w f j cost) by simp [rx_aa2, c_84]) ?_
          exact ih (j + 1) _ (by omega) _ _ _ B (lv_sub hl [0, 1, 2, 3, 4] rfl)
set_option maxHeartbeats 4000000 in
set_option maxRecDepth 100000 in
theorem rx_askAll_loop1 {p : Program} {l : Launch} {e : Env} {s : State} {m : MethodId} {args : Array Value} {below : List Frame} {meth : Method} {c : Code} {D : va_G} {h0 : Nat} {ar : Nat → Nat} {dA : ClassId} {A : Nat → Prop} (C : rl_Cx p s m args c cX0_askAll 6 RX0 D dA) (hr : meth.sig.returnType = some .int) (hk : meth.locks = false) (hA : ∀ q : Nat, s.heap.size ≤ q → A q) (w meters cost : Int32) :
    ∀ (n j : Nat) (f : rl_F) (a : Int32), j + n = 4 → rx_HD f → ∀ (H : Heap) (locs : List Loc) (ls : Array Slot), rl_B rx_W D A s h0 ar dA w f H locs → lv_has ls 6 [(4, .int (nI j)), (3, .int a), (0, .ref h0), (1, .int meters), (2, .int cost)] → W p l e (rl_rm 2 60) s m args below meth c H locs 0 0 (rl_Qi rx_W below args s D h0 ar dA A (rl_flag (rx_aa1 w meters cost n j f a).2) w (rx_all2 w meters cost (rx_aa1 w meters cost n j f a))) (F0 m 15 ls []) := by
  have hx := C.1
  have hb := C.2.1
  intro n
  induction n with
  | zero =>
    intro j f a hi hd H locs ls B hl
    refine lv_iload hx hb dX0_askAll_15 (lv_at hl 0 rfl) ?_
    refine lv_iconst (v := 4) hx hb dX0_askAll_17 (by decide) ?_
    refine lv_icmp_ge (tgt := 64) hx hb dX0_askAll_18 (by decide) (fun c_18 => ?_) (fun c_18 => ?_)
    · refine lv_iconst (v := 0) hx hb dX0_askAll_64 (by decide) ?_
      refine rl_top (y := nI 0) nI_0.symm ?_
      refine lv_istore (lv' := [(4, .int (nI 0)), (3, .int a), (0, .ref h0), (1, .int meters), (2, .int cost)]) hx hb dX0_askAll_65 hl (by decide) rfl (fun ls hl => ?_)
      by_cases ha : a = 0
      · refine lv_iload hx hb dX0_askAll_67 (lv_at hl 0 rfl) ?_
        refine lv_iconst (v := 4) hx hb dX0_askAll_69 (by decide) ?_
        refine lv_icmp_ge (tgt := 100) hx hb dX0_askAll_70 (by decide) (fun c_70 => ?_) (fun c_70 => ?_)
        · exact absurd c_70 (by decide)
        · refine lv_iload_n hx hb dX0_askAll_73 rfl (lv_at hl 1 rfl) ?_
          refine lv_if_eq (tgt := 100) hx hb dX0_askAll_74 (by decide) (fun c_74 => ?_) (fun c_74 => ?_)
          · refine lv_iload_n hx hb dX0_askAll_100 rfl (lv_at hl 1 rfl) ?_
            refine lv_if_eq (tgt := 108) hx hb dX0_askAll_101 (by decide) (fun c_101 => ?_) (fun c_101 => ?_)
            · refine lv_iconst (v := 0) hx hb dX0_askAll_108 (by decide) ?_
              exact rl_iret C hr hk B (by simp [rx_aa1, rl_flag, ha]) rfl (by simp [rx_aa1, rx_all2, ha]) dX0_askAll_109
            · exact absurd ha c_101
          · exact absurd ha c_74
      · refine rl_toI (r2 := 1) (w2 := w) (f2 := rx_aa2 w meters cost 4 0 f) (by simp [rx_aa1, rl_flag, ha]) rfl (by simp [rx_aa1, rx_all2, ha]) ?_
        exact rx_askAll_loop2 C hr hk hA w meters cost a ha 4 0 f rfl _ _ _ B (lv_sub hl [0, 1, 2, 3, 4] rfl)
    · exact absurd (by rw [show j = 4 by omega]; decide) c_18
  | succ n ih =>
    intro j f a hi hd H locs ls B hl
    have hj : j < 4 := by omega
    refine lv_iload hx hb dX0_askAll_15 (lv_at hl 0 rfl) ?_
    refine lv_iconst (v := 4) hx hb dX0_askAll_17 (by decide) ?_
    refine lv_icmp_ge (tgt := 64) hx hb dX0_askAll_18 (by decide) (fun c_18 => ?_) (fun c_18 => ?_)
    · exact absurd c_18 (nI_ge hj (by decide))
    · refine lv_iload_n hx hb dX0_askAll_21 rfl (lv_at hl 3 rfl) ?_
      refine lv_iload hx hb dX0_askAll_22 (lv_at hl 0 rfl) ?_
      refine lv_ishr hx hb dX0_askAll_24 ?_
      refine lv_iconst (v := 1) hx hb dX0_askAll_25 (by decide) ?_
      refine lv_iand hx hb dX0_askAll_26 ?_
      refine rl_top (y := rl_bit meters j) rfl ?_
      refine lv_iconst (v := 1) hx hb dX0_askAll_27 (by decide) ?_
      refine lv_icmp_ne (tgt := 58) hx hb dX0_askAll_28 (by decide) (fun c_28 => ?_) (fun c_28 => ?_)
      · refine lv_iinc (v := nI (j + 1)) (lv' := [(4, .int (nI (j + 1))), (3, .int a), (0, .ref h0), (1, .int meters), (2, .int cost)]) hx hb dX0_askAll_58 hl (k := 0) rfl (nI_1 j) (by decide) rfl (fun ls hl => ?_)
        refine lv_goto (tgt := 15) hx hb dX0_askAll_61 (by decide) ?_
        have e9 : rx_aa1 w meters cost (n + 1) j f a = rx_aa1 w meters cost n (j + 1) f a := by simp [rx_aa1, c_28]
        refine rl_toI (by rw [e9]) rfl (by rw [e9]) ?_
        exact ih (j + 1) _ _ (by omega) (hd) _ _ _ B (lv_sub hl [0, 1, 2, 3, 4] rfl)
      · refine lv_aload_n hx hb dX0_askAll_31 rfl (lv_at hl 2 rfl) ?_
        refine lv_iload hx hb dX0_askAll_32 (lv_at hl 0 rfl) ?_
        refine rl_calli (rest := []) rx_ok rfl C hA B (met_X0_roomOf (j := j) hj w f (hd j hj)) (cwV 1 C.2.2.2.2.1 (lw_V q90 q92 qs1 q14 q93) rfl rfl rfl (by decide +kernel) ⟨by decide, by decide⟩) rfl hl.1 rfl (Nat.le_of_ble_eq_true rfl) dX0_askAll_34 ⟨Nat.zero_le _, Nat.zero_le _⟩ (fun H locs B => ?_)
        refine lv_istore (lv' := [(5, .int (rx_room w (rx_catch w f j) j)), (4, .int (nI j)), (3, .int a), (0, .ref h0), (1, .int meters), (2, .int cost)]) hx hb dX0_askAll_37 hl (by decide) rfl (fun ls hl => ?_)
        refine lv_iload_n hx hb dX0_askAll_39 rfl (lv_at hl 5 rfl) ?_
        refine lv_iload hx hb dX0_askAll_40 (lv_at hl 0 rfl) ?_
        refine lv_icmp_le (tgt := 58) hx hb dX0_askAll_42 (by decide) (fun c_42 => ?_) (fun c_42 => ?_)
        · refine lv_iinc (v := nI (j + 1)) (lv' := [(4, .int (nI (j + 1))), (5, .int (rx_room w (rx_catch w f j) j)), (3, .int a), (0, .ref h0), (1, .int meters), (2, .int cost)]) hx hb dX0_askAll_58 hl (k := 1) rfl (nI_1 j) (by decide) rfl (fun ls hl => ?_)
          refine lv_goto (tgt := 15) hx hb dX0_askAll_61 (by decide) ?_
          have e9 : rx_aa1 w meters cost (n + 1) j f a = rx_aa1 w meters cost n (j + 1) (rx_catch w f j) a := by simp [rx_aa1, c_28, c_42]
          refine rl_toI (by rw [e9]) rfl (by rw [e9]) ?_
          exact ih (j + 1) _ _ (by omega) (rx_HD_catch hd) _ _ _ B (lv_sub hl [0, 2, 3, 4, 5] rfl)
        · refine lv_aload_n hx hb dX0_askAll_45 rfl (lv_at hl 3 rfl) ?_
          refine rx_g6 C B dX0_askAll_46 ?_
          refine lv_iload hx hb dX0_askAll_49 (lv_at hl 1 rfl) ?_
          refine lv_dup2_11 hx hb dX0_askAll_51 rfl rfl ?_
          refine rx_l6 (v := (rx_catch w f j) 6 j) C B hj rfl dX0_askAll_52 ?_
          refine lv_iconst (v := 1) hx hb dX0_askAll_53 (by decide) ?_
          refine lv_iadd hx hb dX0_askAll_54 ?_
          refine rx_s6 C B hj dX0_askAll_55 (fun H locs B => ?_)
          refine lv_iconst (v := 0) hx hb dX0_askAll_56 (by decide) ?_
          refine lv_istore_n (lv' := [(3, .int 0), (5, .int (rx_room w (rx_catch w f j) j)), (4, .int (nI j)), (0, .ref h0), (1, .int meters), (2, .int cost)]) hx hb dX0_askAll_57 rfl hl (by decide) rfl (fun ls hl => ?_)
          refine lv_iinc (v := nI (j + 1)) (lv' := [(4, .int (nI (j + 1))), (3, .int 0), (5, .int (rx_room w (rx_catch w f j) j)), (0, .ref h0), (1, .int meters), (2, .int cost)]) hx hb dX0_askAll_58 hl (k := 2) rfl (nI_1 j) (by decide) rfl (fun ls hl => ?_)
          refine lv_goto (tgt := 15) hx hb dX0_askAll_61 (by decide) ?_
          have B := B.to (w' := w) (f' := rx_deny (rx_catch w f j) j) rfl rfl
          have e9 : rx_aa1 w meters cost (n + 1) j f a = rx_aa1 w meters cost n (j + 1) (rx_deny (rx_catch w f j) j) 0 := by simp [rx_aa1, c_28, c_42]
          refine rl_toI (by rw [e9]) rfl (by rw [e9]) ?_
          exact ih (j + 1) _ _ (by omega) (rx_HD_deny (rx_HD_catch hd)) _ _ _ B (lv_sub hl [0, 1, 3, 4, 5] rfl)
set_option maxHeartbeats 4000000 in
set_option maxRecDepth 100000 in
theorem met_X0_askAll {l : Launch} (w : Int32) (f : rl_F) (hd : rx_HD f) (meters cost : Int32) : rl_Mi rx_W l yX0_askAll cX0_askAll 6 (some .int) (rl_rm 2 60) [.int meters, .int cost] w f (rx_askAllR w f meters cost) w (rx_askAllF w f meters cost) := by
  refine rl_Mi.of RX0 (by decide) rfl (fun _ => Nat.le_of_ble_eq_true rfl) ?_
  intro p e s m args below meth c D h0 ar dA A ls C hr hk hA B hl
  have hx := C.1
  have hb := C.2.1
  have hl : lv_has ls 6 [(0, .ref h0), (1, .int meters), (2, .int cost)] := hl
  refine lv_iload_n hx hb dX0_askAll_0 rfl (lv_at hl 2 rfl) ?_
  refine rl_callS (rest := []) C B (met_X0_badCost cost) (va_cwS 1 C.2.2.2.2.1 (lw_S q87 q88 q14 q89) rfl rfl rfl (by decide +kernel) ⟨by decide, by decide⟩) rfl hl.1 rfl (Nat.le_of_ble_eq_true rfl) dX0_askAll_1 ⟨Nat.zero_le _, Nat.zero_le _⟩ (fun H locs B => ?_)
  refine lv_if_eq (tgt := 10) hx hb dX0_askAll_4 (by decide) (fun c_4 => ?_) (fun c_4 => ?_)
  · refine lv_iconst (v := 1) hx hb dX0_askAll_10 (by decide) ?_
    refine lv_istore_n (lv' := [(3, .int 1), (0, .ref h0), (1, .int meters), (2, .int cost)]) hx hb dX0_askAll_11 rfl hl (by decide) rfl (fun ls hl => ?_)
    refine lv_iconst (v := 0) hx hb dX0_askAll_12 (by decide) ?_
    refine rl_top (y := nI 0) nI_0.symm ?_
    refine lv_istore (lv' := [(4, .int (nI 0)), (3, .int 1), (0, .ref h0), (1, .int meters), (2, .int cost)]) hx hb dX0_askAll_13 hl (by decide) rfl (fun ls hl => ?_)
    refine rl_toI (r2 := rl_flag (rx_aa1 w meters cost 4 0 f 1).2) (w2 := w) (f2 := rx_all2 w meters cost (rx_aa1 w meters cost 4 0 f 1)) (by simp [rx_askAllR, c_4]) rfl (by simp [rx_askAllF, c_4]) ?_
    exact rx_askAll_loop1 C hr hk hA w meters cost 4 0 f 1 rfl hd _ _ _ B (lv_sub hl [0, 1, 2, 3, 4] rfl)
  · refine lv_bipush (v := (-3)) hx hb dX0_askAll_7 (by decide) ?_
    exact rl_iret C hr hk B (by simp [rx_askAllR, c_4]) rfl (by simp [rx_askAllF, c_4]) dX0_askAll_9
set_option maxHeartbeats 4000000 in
set_option maxRecDepth 100000 in
theorem met_X0_pass {l : Launch} (w : Int32) (f : rl_F) (units : Int32) : rl_Mi rx_W l yX0_pass cX0_pass 2 (some .int) (rl_rm 0 0) [.int units] w f (rl_passR w units) (rl_passW w units) f := by
  refine rl_Mi.of RX0 (by decide) rfl (fun _ => Nat.le_of_ble_eq_true rfl) ?_
  intro p e s m args below meth c D h0 ar dA A ls C hr hk hA B hl
  have hx := C.1
  have hb := C.2.1
  have hl : lv_has ls 2 [(0, .ref h0), (1, .int units)] := hl
  refine lv_iload_n hx hb dX0_pass_0 rfl (lv_at hl 1 rfl) ?_
  refine lv_if_lt (tgt := 11) hx hb dX0_pass_1 (by decide) (fun c_1 => ?_) (fun c_1 => ?_)
  · refine lv_bipush (v := (-3)) hx hb dX0_pass_11 (by decide) ?_
    exact rl_iret C hr hk B (by simp [rl_passR, rl_unitbad, c_1]) (by simp [rl_passW, rl_unitbad, c_1]) rfl dX0_pass_13
  · refine lv_iload_n hx hb dX0_pass_4 rfl (lv_at hl 1 rfl) ?_
    refine lv_sipush (v := 1000) hx hb dX0_pass_5 (by decide) ?_
    refine lv_icmp_le (tgt := 14) hx hb dX0_pass_8 (by decide) (fun c_8 => ?_) (fun c_8 => ?_)
    · refine lv_aload_n hx hb dX0_pass_14 rfl (lv_at hl 0 rfl) ?_
      refine rx_g0 C B dX0_pass_15 ?_
      refine lv_iload_n hx hb dX0_pass_18 rfl (lv_at hl 1 rfl) ?_
      refine lv_iadd hx hb dX0_pass_19 ?_
      refine lv_ldc (own := RX0) (v := 100000) hx hb C.2.2.2.1 (C.2.2.2.2.1 _ q114) dX0_pass_20 ?_
      refine lv_icmp_le (tgt := 28) hx hb dX0_pass_22 (by decide) (fun c_22 => ?_) (fun c_22 => ?_)
      · refine lv_aload_n hx hb dX0_pass_28 rfl (lv_at hl 0 rfl) ?_
        refine lv_dup hx hb dX0_pass_29 rfl ?_
        refine rx_g0 C B dX0_pass_30 ?_
        refine lv_iload_n hx hb dX0_pass_33 rfl (lv_at hl 1 rfl) ?_
        refine lv_iadd hx hb dX0_pass_34 ?_
        refine rx_p0 C B dX0_pass_35 (fun H locs B => ?_)
        refine lv_aload_n hx hb dX0_pass_38 rfl (lv_at hl 0 rfl) ?_
        refine rx_g0 C B dX0_pass_39 ?_
        exact rl_iret C hr hk B (by simp [rl_passR, rl_unitbad, c_1, c_8, c_22]) (by simp [rl_passW, rl_unitbad, c_1, c_8, c_22]) rfl dX0_pass_42
      · refine lv_bipush (v := (-4)) hx hb dX0_pass_25 (by decide) ?_
        exact rl_iret C hr hk B (by simp [rl_passR, rl_unitbad, c_1, c_8, c_22]) (by simp [rl_passW, rl_unitbad, c_1, c_8, c_22]) rfl dX0_pass_27
    · refine lv_bipush (v := (-3)) hx hb dX0_pass_11 (by decide) ?_
      exact rl_iret C hr hk B (by simp [rl_passR, rl_unitbad, c_1, c_8]) (by simp [rl_passW, rl_unitbad, c_1, c_8]) rfl dX0_pass_13
set_option maxHeartbeats 4000000 in
set_option maxRecDepth 100000 in
theorem rx_logWait_loop {p : Program} {l : Launch} {e : Env} {s : State} {m : MethodId} {args : Array Value} {below : List Frame} {meth : Method} {c : Code} {D : va_G} {h0 : Nat} {ar : Nat → Nat} {dA : ClassId} {A : Nat → Prop} (C : rl_Cx p s m args c cX0_logWait 7 RX0 D dA) (hr : meth.sig.returnType = some .int) (hk : meth.locks = false) {R : Room} {j : Nat} (hj : j < 4) (w cost : Int32) (f : rl_F) :
    ∀ (n i : Nat) (over wait : Int32), i + n = (f 11 j).toNatClampNeg → ∀ (H : Heap) (locs : List Loc) (ls : Array Slot), rl_B rx_W D A s h0 ar dA w f H locs → lv_has ls 7 [(5, .int (nI i)), (4, .int wait), (3, .int over), (0, .ref h0), (1, .int (nI j)), (2, .int cost)] → W p l e R s m args below meth c H locs 0 0 (rl_Qi rx_W below args s D h0 ar dA A (rx_lw w f j n i over wait) w f) (F0 m 22 ls []) := by
  have hx := C.1
  have hb := C.2.1
  intro n
  induction n with
  | zero =>
    intro i over wait hi H locs ls B hl
    refine lv_iload hx hb dX0_logWait_22 (lv_at hl 0 rfl) ?_
    refine lv_aload_n hx hb dX0_logWait_24 rfl (lv_at hl 3 rfl) ?_
    refine rx_g11 C B dX0_logWait_25 ?_
    refine lv_iload_n hx hb dX0_logWait_28 rfl (lv_at hl 4 rfl) ?_
    refine rx_l11 (v := f 11 j) C B hj rfl dX0_logWait_29 ?_
    refine lv_icmp_ge (tgt := 93) hx hb dX0_logWait_30 (by decide) (fun c_30 => ?_) (fun c_30 => ?_)
    · refine lv_iload hx hb dX0_logWait_93 (lv_at hl 1 rfl) ?_
      exact rl_iret C hr hk B rfl rfl rfl dX0_logWait_95
    · exact absurd (by rw [show i = (f 11 j).toNatClampNeg by omega]; exact rl_size_le _) c_30
  | succ n ih =>
    intro i over wait hi H locs ls B hl
    refine lv_iload hx hb dX0_logWait_22 (lv_at hl 0 rfl) ?_
    refine lv_aload_n hx hb dX0_logWait_24 rfl (lv_at hl 3 rfl) ?_
    refine rx_g11 C B dX0_logWait_25 ?_
    refine lv_iload_n hx hb dX0_logWait_28 rfl (lv_at hl 4 rfl) ?_
    refine rx_l11 (v := f 11 j) C B hj rfl dX0_logWait_29 ?_
    refine lv_icmp_ge (tgt := 93) hx hb dX0_logWait_30 (by decide) (fun c_30 => ?_) (fun c_30 => ?_)
    · exact absurd c_30 (rl_size_lt (by omega))
    · refine lv_iload_n hx hb dX0_logWait_33 rfl (lv_at hl 2 rfl) ?_
      refine lv_if_le (tgt := 93) hx hb dX0_logWait_34 (by decide) (fun c_34 => ?_) (fun c_34 => ?_)
      · refine lv_iload hx hb dX0_logWait_93 (lv_at hl 1 rfl) ?_
        exact rl_iret C hr hk B (by simp [rx_lw, c_34]) rfl rfl dX0_logWait_95
      · refine lv_iload_n hx hb dX0_logWait_37 rfl (lv_at hl 4 rfl) ?_
        refine lv_bipush (v := 32) hx hb dX0_logWait_38 (by decide) ?_
        refine lv_imul hx hb dX0_logWait_40 ?_
        refine lv_aload_n hx hb dX0_logWait_41 rfl (lv_at hl 3 rfl) ?_
        refine rx_g10 C B dX0_logWait_42 ?_
        refine lv_iload_n hx hb dX0_logWait_45 rfl (lv_at hl 4 rfl) ?_
        refine rx_l10 (v := f 10 j) C B hj rfl dX0_logWait_46 ?_
        refine lv_iload hx hb dX0_logWait_47 (lv_at hl 0 rfl) ?_
        refine lv_iadd hx hb dX0_logWait_49 ?_
        refine lv_bipush (v := 31) hx hb dX0_logWait_50 (by decide) ?_
        refine lv_iand hx hb dX0_logWait_52 ?_
        obtain ⟨d, hd32, ed⟩ := rl_and31 (f 10 j + nI i)
        have hin : rx_lwat f j i = j * 32 + d := by unfold rx_lwat; rw [ed, nI_clamp (by omega)]
        refine rl_top (y := nI d) ed ?_
        refine lv_iadd hx hb dX0_logWait_53 ?_
        refine rl_top (y := nI (j * 32 + d)) (rl_i32 j d) ?_
        refine lv_istore (lv' := [(6, .int (nI (j * 32 + d))), (5, .int (nI i)), (4, .int wait), (3, .int over), (0, .ref h0), (1, .int (nI j)), (2, .int cost)]) hx hb dX0_logWait_54 hl (by decide) rfl (fun ls hl => ?_)
        refine lv_iload_n hx hb dX0_logWait_56 rfl (lv_at hl 3 rfl) ?_
        refine lv_aload_n hx hb dX0_logWait_57 rfl (lv_at hl 4 rfl) ?_
        refine rx_g14 C B dX0_logWait_58 ?_
        refine lv_iload hx hb dX0_logWait_61 (lv_at hl 0 rfl) ?_
        refine rx_l14 (v := f 14 (j * 32 + d)) C B (by omega) rfl dX0_logWait_63 ?_
        refine lv_isub hx hb dX0_logWait_64 ?_
        refine lv_istore_n (lv' := [(3, .int (over - (f 14 (j * 32 + d)))), (6, .int (nI (j * 32 + d))), (5, .int (nI i)), (4, .int wait), (0, .ref h0), (1, .int (nI j)), (2, .int cost)]) hx hb dX0_logWait_65 rfl hl (by decide) rfl (fun ls hl => ?_)
        refine lv_aload_n hx hb dX0_logWait_66 rfl (lv_at hl 4 rfl) ?_
        refine rx_g13 C B dX0_logWait_67 ?_
        refine lv_iload hx hb dX0_logWait_70 (lv_at hl 1 rfl) ?_
        refine rx_l13 (v := f 13 (j * 32 + d)) C B (by omega) rfl dX0_logWait_72 ?_
        refine lv_aload_n hx hb dX0_logWait_73 rfl (lv_at hl 4 rfl) ?_
        refine rx_g4 C B dX0_logWait_74 ?_
        refine lv_iload_n hx hb dX0_logWait_77 rfl (lv_at hl 5 rfl) ?_
        refine rx_l4 (v := f 4 j) C B hj rfl dX0_logWait_78 ?_
        refine lv_iadd hx hb dX0_logWait_79 ?_
        refine lv_aload_n hx hb dX0_logWait_80 rfl (lv_at hl 4 rfl) ?_
        refine rx_g0 C B dX0_logWait_81 ?_
        refine lv_isub hx hb dX0_logWait_84 ?_
        refine lv_istore (lv' := [(4, .int (((f 13 (j * 32 + d)) + (f 4 j)) - w)), (3, .int (over - (f 14 (j * 32 + d)))), (6, .int (nI (j * 32 + d))), (5, .int (nI i)), (0, .ref h0), (1, .int (nI j)), (2, .int cost)]) hx hb dX0_logWait_85 hl (by decide) rfl (fun ls hl => ?_)
        refine lv_iinc (v := nI (i + 1)) (lv' := [(5, .int (nI (i + 1))), (4, .int (((f 13 (j * 32 + d)) + (f 4 j)) - w)), (3, .int (over - (f 14 (j * 32 + d)))), (6, .int (nI (j * 32 + d))), (0, .ref h0), (1, .int (nI j)), (2, .int cost)]) hx hb dX0_logWait_87 hl (k := 3) rfl (nI_1 i) (by decide) rfl (fun ls hl => ?_)
        refine lv_goto (tgt := 22) hx hb dX0_logWait_90 (by decide) ?_
        refine rl_toI (show rx_lw w f j (n + 1) i over wait = rx_lw w f j n (i + 1) (over - (f 14 (j * 32 + d))) (((f 13 (j * 32 + d)) + (f 4 j)) - w) by simp [rx_lw, c_34, hin]) rfl rfl ?_
        exact ih (i + 1) _ _ (by omega) _ _ _ B (lv_sub hl [0, 1, 2, 4, 5, 6] rfl)
set_option maxHeartbeats 4000000 in
set_option maxRecDepth 100000 in
theorem met_X0_logWait {l : Launch} {j : Nat} (hj : j < 4) (w : Int32) (f : rl_F) (cost : Int32) : rl_Mi rx_W l yX0_logWait cX0_logWait 7 (some .int) (rl_rm 0 0) [.int (nI j), .int cost] w f (rx_logWait w f j cost) w f := by
  refine rl_Mi.of RX0 (by decide) rfl (fun _ => Nat.le_of_ble_eq_true rfl) ?_
  intro p e s m args below meth c D h0 ar dA A ls C hr hk hA B hl
  have hx := C.1
  have hb := C.2.1
  have hl : lv_has ls 7 [(0, .ref h0), (1, .int (nI j)), (2, .int cost)] := hl
  refine lv_aload_n hx hb dX0_logWait_0 rfl (lv_at hl 0 rfl) ?_
  refine rx_g12 C B dX0_logWait_1 ?_
  refine lv_iload_n hx hb dX0_logWait_4 rfl (lv_at hl 1 rfl) ?_
  refine rx_l12 (v := f 12 j) C B hj rfl dX0_logWait_5 ?_
  refine lv_iload_n hx hb dX0_logWait_6 rfl (lv_at hl 2 rfl) ?_
  refine lv_iadd hx hb dX0_logWait_7 ?_
  refine lv_aload_n hx hb dX0_logWait_8 rfl (lv_at hl 0 rfl) ?_
  refine rx_g3 C B dX0_logWait_9 ?_
  refine lv_iload_n hx hb dX0_logWait_12 rfl (lv_at hl 1 rfl) ?_
  refine rx_l3 (v := f 3 j) C B hj rfl dX0_logWait_13 ?_
  refine lv_isub hx hb dX0_logWait_14 ?_
  refine lv_istore_n (lv' := [(3, .int (((f 12 j) + cost) - (f 3 j))), (0, .ref h0), (1, .int (nI j)), (2, .int cost)]) hx hb dX0_logWait_15 rfl hl (by decide) rfl (fun ls hl => ?_)
  refine lv_iconst (v := 0) hx hb dX0_logWait_16 (by decide) ?_
  refine lv_istore (lv' := [(4, .int 0), (3, .int (((f 12 j) + cost) - (f 3 j))), (0, .ref h0), (1, .int (nI j)), (2, .int cost)]) hx hb dX0_logWait_17 hl (by decide) rfl (fun ls hl => ?_)
  refine lv_iconst (v := 0) hx hb dX0_logWait_19 (by decide) ?_
  refine rl_top (y := nI 0) nI_0.symm ?_
  refine lv_istore (lv' := [(5, .int (nI 0)), (4, .int 0), (3, .int (((f 12 j) + cost) - (f 3 j))), (0, .ref h0), (1, .int (nI j)), (2, .int cost)]) hx hb dX0_logWait_20 hl (by decide) rfl (fun ls hl => ?_)
  exact rx_logWait_loop C hr hk hj w cost f _ 0 _ _ (Nat.zero_add _) _ _ _ B (lv_sub hl [0, 1, 2, 3, 4, 5] rfl)
set_option maxHeartbeats 4000000 in
set_option maxRecDepth 100000 in
theorem met_X0_waitFor {l : Launch} (w : Int32) (f : rl_F) (hd : rx_HD f) (meter cost : Int32) : rl_Mi rx_W l yX0_waitFor cX0_waitFor 5 (some .int) (rl_rm 2 60) [.int meter, .int cost] w f (rx_waitR w f meter cost) w (rx_waitF w f meter cost) := by
  refine rl_Mi.of RX0 (by decide) rfl (fun _ => Nat.le_of_ble_eq_true rfl) ?_
  intro p e s m args below meth c D h0 ar dA A ls C hr hk hA B hl
  have hx := C.1
  have hb := C.2.1
  have hl : lv_has ls 5 [(0, .ref h0), (1, .int meter), (2, .int cost)] := hl
  refine lv_iload_n hx hb dX0_waitFor_0 rfl (lv_at hl 1 rfl) ?_
  refine rl_callS (rest := []) C B (met_X0_bad meter) (va_cwS 1 C.2.2.2.2.1 (lw_S q80 q81 q14 q82) rfl rfl rfl (by decide +kernel) ⟨by decide, by decide⟩) rfl hl.1 rfl (Nat.le_of_ble_eq_true rfl) dX0_waitFor_1 ⟨Nat.zero_le _, Nat.zero_le _⟩ (fun H locs B => ?_)
  refine lv_if_eq (tgt := 9) hx hb dX0_waitFor_4 (by decide) (fun c_4 => ?_) (fun c_4 => ?_)
  · refine lv_iload_n hx hb dX0_waitFor_9 rfl (lv_at hl 2 rfl) ?_
    refine rl_callS (rest := []) C B (met_X0_badCost cost) (va_cwS 1 C.2.2.2.2.1 (lw_S q87 q88 q14 q89) rfl rfl rfl (by decide +kernel) ⟨by decide, by decide⟩) rfl hl.1 rfl (Nat.le_of_ble_eq_true rfl) dX0_waitFor_10 ⟨Nat.zero_le _, Nat.zero_le _⟩ (fun H locs B => ?_)
    refine lv_if_eq (tgt := 19) hx hb dX0_waitFor_13 (by decide) (fun c_13 => ?_) (fun c_13 => ?_)
    · obtain ⟨j, hj, rfl⟩ := rl_bad_ok c_4
      refine lv_iload_n hx hb dX0_waitFor_19 rfl (lv_at hl 2 rfl) ?_
      refine lv_aload_n hx hb dX0_waitFor_20 rfl (lv_at hl 0 rfl) ?_
      refine rx_g3 C B dX0_waitFor_21 ?_
      refine lv_iload_n hx hb dX0_waitFor_24 rfl (lv_at hl 1 rfl) ?_
      refine rx_l3 (v := f 3 j) C B hj rfl dX0_waitFor_25 ?_
      refine lv_icmp_le (tgt := 32) hx hb dX0_waitFor_26 (by decide) (fun c_26 => ?_) (fun c_26 => ?_)
      · refine lv_aload_n hx hb dX0_waitFor_32 rfl (lv_at hl 0 rfl) ?_
        refine lv_iload_n hx hb dX0_waitFor_33 rfl (lv_at hl 1 rfl) ?_
        refine rl_calli (rest := []) rx_ok rfl C hA B (met_X0_roomOf (j := j) hj w f (hd j hj)) (cwV 1 C.2.2.2.2.1 (lw_V q90 q92 qs1 q14 q93) rfl rfl rfl (by decide +kernel) ⟨by decide, by decide⟩) rfl hl.1 rfl (Nat.le_of_ble_eq_true rfl) dX0_waitFor_34 ⟨Nat.zero_le _, Nat.zero_le _⟩ (fun H locs B => ?_)
        refine lv_istore_n (lv' := [(3, .int (rx_room w (rx_catch w f j) j)), (0, .ref h0), (1, .int (nI j)), (2, .int cost)]) hx hb dX0_waitFor_37 rfl hl (by decide) rfl (fun ls hl => ?_)
        refine lv_iload_n hx hb dX0_waitFor_38 rfl (lv_at hl 3 rfl) ?_
        refine lv_iload_n hx hb dX0_waitFor_39 rfl (lv_at hl 0 rfl) ?_
        refine lv_icmp_gt (tgt := 45) hx hb dX0_waitFor_40 (by decide) (fun c_40 => ?_) (fun c_40 => ?_)
        · refine lv_aload_n hx hb dX0_waitFor_45 rfl (lv_at hl 1 rfl) ?_
          refine rx_g1 C B dX0_waitFor_46 ?_
          refine lv_iload_n hx hb dX0_waitFor_49 rfl (lv_at hl 2 rfl) ?_
          refine rx_l1 (v := (rx_catch w f j) 1 j) C B hj rfl dX0_waitFor_50 ?_
          refine lv_iconst (v := 1) hx hb dX0_waitFor_51 (by decide) ?_
          refine lv_icmp_ne (tgt := 62) hx hb dX0_waitFor_52 (by decide) (fun c_52 => ?_) (fun c_52 => ?_)
          · refine lv_aload_n hx hb dX0_waitFor_62 rfl (lv_at hl 1 rfl) ?_
            refine rx_g1 C B dX0_waitFor_63 ?_
            refine lv_iload_n hx hb dX0_waitFor_66 rfl (lv_at hl 2 rfl) ?_
            refine rx_l1 (v := (rx_catch w f j) 1 j) C B hj rfl dX0_waitFor_67 ?_
            refine lv_if_ne (tgt := 109) hx hb dX0_waitFor_68 (by decide) (fun c_68 => ?_) (fun c_68 => ?_)
            · refine lv_aload_n hx hb dX0_waitFor_109 rfl (lv_at hl 1 rfl) ?_
              refine rx_g9 C B dX0_waitFor_110 ?_
              refine lv_iload_n hx hb dX0_waitFor_113 rfl (lv_at hl 2 rfl) ?_
              refine rx_l9 (v := (rx_catch w f j) 9 j) C B hj rfl dX0_waitFor_114 ?_
              refine lv_iload_n hx hb dX0_waitFor_115 rfl (lv_at hl 3 rfl) ?_
              refine lv_aload_n hx hb dX0_waitFor_116 rfl (lv_at hl 1 rfl) ?_
              refine rx_g3 C B dX0_waitFor_117 ?_
              refine lv_iload_n hx hb dX0_waitFor_120 rfl (lv_at hl 2 rfl) ?_
              refine rx_l3 (v := (rx_catch w f j) 3 j) C B hj rfl dX0_waitFor_121 ?_
              refine lv_isub hx hb dX0_waitFor_122 ?_
              refine lv_aload_n hx hb dX0_waitFor_123 rfl (lv_at hl 1 rfl) ?_
              refine rx_g4 C B dX0_waitFor_124 ?_
              refine lv_iload_n hx hb dX0_waitFor_127 rfl (lv_at hl 2 rfl) ?_
              refine rx_l4 (v := (rx_catch w f j) 4 j) C B hj rfl dX0_waitFor_128 ?_
              refine lv_imul hx hb dX0_waitFor_129 ?_
              refine lv_iadd hx hb dX0_waitFor_130 ?_
              refine lv_aload_n hx hb dX0_waitFor_131 rfl (lv_at hl 1 rfl) ?_
              refine rx_g0 C B dX0_waitFor_132 ?_
              refine lv_isub hx hb dX0_waitFor_135 ?_
              exact rl_iret C hr hk B (by simp [rx_waitR, rx_wait1, rx_pos, c_4, c_13, c_26, c_40, c_52, c_68, rl_cl4 hj]) rfl (by simp [rx_waitF, c_4, c_13, c_26, c_40, c_52, c_68, rl_cl4 hj]) dX0_waitFor_136
            · refine lv_aload_n hx hb dX0_waitFor_71 rfl (lv_at hl 1 rfl) ?_
              refine rx_g2 C B dX0_waitFor_72 ?_
              refine lv_iload_n hx hb dX0_waitFor_75 rfl (lv_at hl 2 rfl) ?_
              refine rx_l2 (v := (rx_catch w f j) 2 j) C B hj rfl dX0_waitFor_76 ?_
              refine lv_if_le (tgt := 89) hx hb dX0_waitFor_77 (by decide) (fun c_77 => ?_) (fun c_77 => ?_)
              · refine lv_iconst (v := 1) hx hb dX0_waitFor_89 (by decide) ?_
                refine lv_istore (lv' := [(4, .int 1), (3, .int (rx_room w (rx_catch w f j) j)), (0, .ref h0), (1, .int (nI j)), (2, .int cost)]) hx hb dX0_waitFor_90 hl (by decide) rfl (fun ls hl => ?_)
                refine lv_iload_n hx hb dX0_waitFor_92 rfl (lv_at hl 4 rfl) ?_
                refine lv_aload_n hx hb dX0_waitFor_93 rfl (lv_at hl 2 rfl) ?_
                refine rx_g7 C B dX0_waitFor_94 ?_
                refine lv_iload_n hx hb dX0_waitFor_97 rfl (lv_at hl 3 rfl) ?_
                refine rx_l7 (v := (rx_catch w f j) 7 j) C B hj rfl dX0_waitFor_98 ?_
                refine lv_isub hx hb dX0_waitFor_99 ?_
                refine lv_iload hx hb dX0_waitFor_100 (lv_at hl 0 rfl) ?_
                refine lv_iadd hx hb dX0_waitFor_102 ?_
                refine lv_iconst (v := 1) hx hb dX0_waitFor_103 (by decide) ?_
                refine lv_isub hx hb dX0_waitFor_104 ?_
                refine lv_iload hx hb dX0_waitFor_105 (lv_at hl 0 rfl) ?_
                refine lv_idiv hx hb dX0_waitFor_107 (by decide) ?_
                exact rl_iret C hr hk B (by simp [rx_waitR, rx_wait1, rx_pos, c_4, c_13, c_26, c_40, c_52, c_68, c_77, rl_cl4 hj]) rfl (by simp [rx_waitF, c_4, c_13, c_26, c_40, c_52, c_68, c_77, rl_cl4 hj]) dX0_waitFor_108
              · refine lv_aload_n hx hb dX0_waitFor_80 rfl (lv_at hl 1 rfl) ?_
                refine rx_g2 C B dX0_waitFor_81 ?_
                refine lv_iload_n hx hb dX0_waitFor_84 rfl (lv_at hl 2 rfl) ?_
                refine rx_l2 (v := (rx_catch w f j) 2 j) C B hj rfl dX0_waitFor_85 ?_
                refine lv_goto (tgt := 90) hx hb dX0_waitFor_86 (by decide) ?_
                refine lv_istore (lv' := [(4, .int ((rx_catch w f j) 2 j)), (3, .int (rx_room w (rx_catch w f j) j)), (0, .ref h0), (1, .int (nI j)), (2, .int cost)]) hx hb dX0_waitFor_90 hl (by decide) rfl (fun ls hl => ?_)
                refine lv_iload_n hx hb dX0_waitFor_92 rfl (lv_at hl 4 rfl) ?_
                refine lv_aload_n hx hb dX0_waitFor_93 rfl (lv_at hl 2 rfl) ?_
                refine rx_g7 C B dX0_waitFor_94 ?_
                refine lv_iload_n hx hb dX0_waitFor_97 rfl (lv_at hl 3 rfl) ?_
                refine rx_l7 (v := (rx_catch w f j) 7 j) C B hj rfl dX0_waitFor_98 ?_
                refine lv_isub hx hb dX0_waitFor_99 ?_
                refine lv_iload hx hb dX0_waitFor_100 (lv_at hl 0 rfl) ?_
                refine lv_iadd hx hb dX0_waitFor_102 ?_
                refine lv_iconst (v := 1) hx hb dX0_waitFor_103 (by decide) ?_
                refine lv_isub hx hb dX0_waitFor_104 ?_
                refine lv_iload hx hb dX0_waitFor_105 (lv_at hl 0 rfl) ?_
                refine lv_idiv hx hb dX0_waitFor_107 (fun e9 => c_77 (by rw [e9]; decide)) ?_
                exact rl_iret C hr hk B (by simp [rx_waitR, rx_wait1, rx_pos, c_4, c_13, c_26, c_40, c_52, c_68, c_77, rl_cl4 hj]) rfl (by simp [rx_waitF, c_4, c_13, c_26, c_40, c_52, c_68, c_77, rl_cl4 hj]) dX0_waitFor_108
          · refine lv_aload_n hx hb dX0_waitFor_55 rfl (lv_at hl 1 rfl) ?_
            refine lv_iload_n hx hb dX0_waitFor_56 rfl (lv_at hl 2 rfl) ?_
            refine lv_iload_n hx hb dX0_waitFor_57 rfl (lv_at hl 3 rfl) ?_
            refine rl_calli (rest := []) rx_ok rfl C hA B (met_X0_logWait (j := j) hj w (rx_catch w f j) cost) (cwV 2 C.2.2.2.2.1 (lw_V q119 q121 qs5 q14 q122) rfl rfl rfl (by decide +kernel) ⟨by decide, by decide⟩) rfl hl.1 rfl (Nat.le_of_ble_eq_true rfl) dX0_waitFor_58 ⟨Nat.zero_le _, Nat.zero_le _⟩ (fun H locs B => ?_)
            exact rl_iret C hr hk B (by simp [rx_waitR, rx_wait1, rx_pos, c_4, c_13, c_26, c_40, c_52, rl_cl4 hj]) rfl (by simp [rx_waitF, c_4, c_13, c_26, c_40, c_52, rl_cl4 hj]) dX0_waitFor_61
        · refine lv_iconst (v := 0) hx hb dX0_waitFor_43 (by decide) ?_
          exact rl_iret C hr hk B (by simp [rx_waitR, rx_wait1, rx_pos, c_4, c_13, c_26, c_40, rl_cl4 hj]) rfl (by simp [rx_waitF, c_4, c_13, c_26, c_40, rl_cl4 hj]) dX0_waitFor_44
      · refine lv_bipush (v := (-4)) hx hb dX0_waitFor_29 (by decide) ?_
        exact rl_iret C hr hk B (by simp [rx_waitR, rx_wait1, rx_pos, c_4, c_13, c_26, rl_cl4 hj]) rfl (by simp [rx_waitF, c_4, c_13, c_26, rl_cl4 hj]) dX0_waitFor_31
    · refine lv_bipush (v := (-3)) hx hb dX0_waitFor_16 (by decide) ?_
      exact rl_iret C hr hk B (by simp [rx_waitR, rx_wait1, rx_pos, c_4, c_13]) rfl (by simp [rx_waitF, c_4, c_13]) dX0_waitFor_18
  · refine lv_iconst (v := (-1)) hx hb dX0_waitFor_7 (by decide) ?_
    exact rl_iret C hr hk B (by simp [rx_waitR, rx_wait1, rx_pos, c_4]) rfl (by simp [rx_waitF, c_4]) dX0_waitFor_8
set_option maxHeartbeats 4000000 in
set_option maxRecDepth 100000 in
theorem met_X0_room {l : Launch} (w : Int32) (f : rl_F) (hd : rx_HD f) (meter : Int32) : rl_Mi rx_W l yX0_room cX0_room 3 (some .int) (rl_rm 2 60) [.int meter] w f (rx_roomR w f meter) w (rx_roomF w f meter) := by
  refine rl_Mi.of RX0 (by decide) rfl (fun _ => Nat.le_of_ble_eq_true rfl) ?_
  intro p e s m args below meth c D h0 ar dA A ls C hr hk hA B hl
  have hx := C.1
  have hb := C.2.1
  have hl : lv_has ls 3 [(0, .ref h0), (1, .int meter)] := hl
  refine lv_iload_n hx hb dX0_room_0 rfl (lv_at hl 1 rfl) ?_
  refine rl_callS (rest := []) C B (met_X0_bad meter) (va_cwS 1 C.2.2.2.2.1 (lw_S q80 q81 q14 q82) rfl rfl rfl (by decide +kernel) ⟨by decide, by decide⟩) rfl hl.1 rfl (Nat.le_of_ble_eq_true rfl) dX0_room_1 ⟨Nat.zero_le _, Nat.zero_le _⟩ (fun H locs B => ?_)
  refine lv_if_eq (tgt := 9) hx hb dX0_room_4 (by decide) (fun c_4 => ?_) (fun c_4 => ?_)
  · obtain ⟨j, hj, rfl⟩ := rl_bad_ok c_4
    refine lv_aload_n hx hb dX0_room_9 rfl (lv_at hl 0 rfl) ?_
    refine lv_iload_n hx hb dX0_room_10 rfl (lv_at hl 1 rfl) ?_
    refine rl_calli (rest := []) rx_ok rfl C hA B (met_X0_roomOf (j := j) hj w f (hd j hj)) (cwV 1 C.2.2.2.2.1 (lw_V q90 q92 qs1 q14 q93) rfl rfl rfl (by decide +kernel) ⟨by decide, by decide⟩) rfl hl.1 rfl (Nat.le_of_ble_eq_true rfl) dX0_room_11 ⟨Nat.zero_le _, Nat.zero_le _⟩ (fun H locs B => ?_)
    refine lv_istore_n (lv' := [(2, .int (rx_room w (rx_catch w f j) j)), (0, .ref h0), (1, .int (nI j))]) hx hb dX0_room_14 rfl hl (by decide) rfl (fun ls hl => ?_)
    refine lv_iload_n hx hb dX0_room_15 rfl (lv_at hl 0 rfl) ?_
    refine lv_if_ge (tgt := 21) hx hb dX0_room_16 (by decide) (fun c_16 => ?_) (fun c_16 => ?_)
    · refine lv_iload_n hx hb dX0_room_21 rfl (lv_at hl 0 rfl) ?_
      refine lv_bipush (v := 20) hx hb dX0_room_22 (by decide) ?_
      refine lv_icmp_le (tgt := 32) hx hb dX0_room_24 (by decide) (fun c_24 => ?_) (fun c_24 => ?_)
      · refine lv_iload_n hx hb dX0_room_32 rfl (lv_at hl 0 rfl) ?_
        exact rl_iret C hr hk B (by simp [rx_roomR, rl_cut, c_4, c_16, c_24, rl_cl4 hj]) rfl (by simp [rx_roomF, c_4, c_16, c_24, rl_cl4 hj]) dX0_room_33
      · refine lv_bipush (v := 20) hx hb dX0_room_27 (by decide) ?_
        refine lv_goto (tgt := 33) hx hb dX0_room_29 (by decide) ?_
        exact rl_iret C hr hk B (by simp [rx_roomR, rl_cut, c_4, c_16, c_24, rl_cl4 hj]) rfl (by simp [rx_roomF, c_4, c_16, c_24, rl_cl4 hj]) dX0_room_33
    · refine lv_iconst (v := 0) hx hb dX0_room_19 (by decide) ?_
      exact rl_iret C hr hk B (by simp [rx_roomR, rl_cut, c_4, c_16, rl_cl4 hj]) rfl (by simp [rx_roomF, c_4, c_16, rl_cl4 hj]) dX0_room_20
  · refine lv_iconst (v := (-1)) hx hb dX0_room_7 (by decide) ?_
    exact rl_iret C hr hk B (by simp [rx_roomR, rl_cut, c_4]) rfl (by simp [rx_roomF, c_4]) dX0_room_8
set_option maxHeartbeats 4000000 in
set_option maxRecDepth 100000 in
theorem met_X0_granted {l : Launch} (w : Int32) (f : rl_F) (meter : Int32) : rl_Mi rx_W l yX0_granted cX0_granted 2 (some .int) (rl_rm 1 30) [.int meter] w f (rl_ent f 5 meter) w f := by
  refine rl_Mi.of RX0 (by decide) rfl (fun _ => Nat.le_of_ble_eq_true rfl) ?_
  intro p e s m args below meth c D h0 ar dA A ls C hr hk hA B hl
  have hx := C.1
  have hb := C.2.1
  have hl : lv_has ls 2 [(0, .ref h0), (1, .int meter)] := hl
  refine lv_iload_n hx hb dX0_granted_0 rfl (lv_at hl 1 rfl) ?_
  refine rl_callS (rest := []) C B (met_X0_bad meter) (va_cwS 1 C.2.2.2.2.1 (lw_S q80 q81 q14 q82) rfl rfl rfl (by decide +kernel) ⟨by decide, by decide⟩) rfl hl.1 rfl (Nat.le_of_ble_eq_true rfl) dX0_granted_1 ⟨Nat.zero_le _, Nat.zero_le _⟩ (fun H locs B => ?_)
  refine lv_if_eq (tgt := 11) hx hb dX0_granted_4 (by decide) (fun c_4 => ?_) (fun c_4 => ?_)
  · obtain ⟨j, hj, rfl⟩ := rl_bad_ok c_4
    refine lv_aload_n hx hb dX0_granted_11 rfl (lv_at hl 0 rfl) ?_
    refine rx_g5 C B dX0_granted_12 ?_
    refine lv_iload_n hx hb dX0_granted_15 rfl (lv_at hl 1 rfl) ?_
    refine rx_l5 (v := f 5 j) C B hj rfl dX0_granted_16 ?_
    exact rl_iret C hr hk B (by simp [rl_ent, c_4, rl_cl4 hj]) rfl rfl dX0_granted_17
  · refine lv_iconst (v := (-1)) hx hb dX0_granted_7 (by decide) ?_
    refine lv_goto (tgt := 17) hx hb dX0_granted_8 (by decide) ?_
    exact rl_iret C hr hk B (by simp [rl_ent, c_4]) rfl rfl dX0_granted_17
set_option maxHeartbeats 4000000 in
set_option maxRecDepth 100000 in
theorem met_X0_denied {l : Launch} (w : Int32) (f : rl_F) (meter : Int32) : rl_Mi rx_W l yX0_denied cX0_denied 2 (some .int) (rl_rm 1 30) [.int meter] w f (rl_ent f 6 meter) w f := by
  refine rl_Mi.of RX0 (by decide) rfl (fun _ => Nat.le_of_ble_eq_true rfl) ?_
  intro p e s m args below meth c D h0 ar dA A ls C hr hk hA B hl
  have hx := C.1
  have hb := C.2.1
  have hl : lv_has ls 2 [(0, .ref h0), (1, .int meter)] := hl
  refine lv_iload_n hx hb dX0_denied_0 rfl (lv_at hl 1 rfl) ?_
  refine rl_callS (rest := []) C B (met_X0_bad meter) (va_cwS 1 C.2.2.2.2.1 (lw_S q80 q81 q14 q82) rfl rfl rfl (by decide +kernel) ⟨by decide, by decide⟩) rfl hl.1 rfl (Nat.le_of_ble_eq_true rfl) dX0_denied_1 ⟨Nat.zero_le _, Nat.zero_le _⟩ (fun H locs B => ?_)
  refine lv_if_eq (tgt := 11) hx hb dX0_denied_4 (by decide) (fun c_4 => ?_) (fun c_4 => ?_)
  · obtain ⟨j, hj, rfl⟩ := rl_bad_ok c_4
    refine lv_aload_n hx hb dX0_denied_11 rfl (lv_at hl 0 rfl) ?_
    refine rx_g6 C B dX0_denied_12 ?_
    refine lv_iload_n hx hb dX0_denied_15 rfl (lv_at hl 1 rfl) ?_
    refine rx_l6 (v := f 6 j) C B hj rfl dX0_denied_16 ?_
    exact rl_iret C hr hk B (by simp [rl_ent, c_4, rl_cl4 hj]) rfl rfl dX0_denied_17
  · refine lv_iconst (v := (-1)) hx hb dX0_denied_7 (by decide) ?_
    refine lv_goto (tgt := 17) hx hb dX0_denied_8 (by decide) ?_
    exact rl_iret C hr hk B (by simp [rl_ent, c_4]) rfl rfl dX0_denied_17
set_option maxHeartbeats 4000000 in
set_option maxRecDepth 100000 in
theorem met_X0_time {l : Launch} (w : Int32) (f : rl_F) : rl_Mi rx_W l yX0_time cX0_time 1 (some .int) (rl_rm 0 0) [] w f w w f := by
  refine rl_Mi.of RX0 (by decide) rfl (fun _ => Nat.le_of_ble_eq_true rfl) ?_
  intro p e s m args below meth c D h0 ar dA A ls C hr hk hA B hl
  have hx := C.1
  have hb := C.2.1
  have hl : lv_has ls 1 [(0, .ref h0)] := hl
  refine lv_aload_n hx hb dX0_time_0 rfl (lv_at hl 0 rfl) ?_
  refine rx_g0 C B dX0_time_1 ?_
  exact rl_iret C hr hk B rfl rfl rfl dX0_time_4
end
section
set_option maxHeartbeats 4000000 in
set_option maxRecDepth 100000 in
theorem met_X1_bad {l : Launch} {h0 : Nat} (x : Int32) : rl_Pi l yX1_bad cX1_bad 2 (some .boolean) (rl_rm 0 0) [.ref h0, .int x] (rl_bad x) := by
  refine rl_Pi.of (by decide) (Nat.le_of_ble_eq_true rfl) ?_
  intro p e s m args below meth c ls hx hb hr hk hl
  have hl : lv_has ls 2 [(0, .ref h0), (1, .int x)] := hl
  refine lv_iload_n hx hb dX1_bad_0 rfl (lv_at hl 1 rfl) ?_
  refine lv_if_lt (tgt := 9) hx hb dX1_bad_1 (by decide) (fun c_1 => ?_) (fun c_1 => ?_)
  · refine lv_iconst (v := 1) hx hb dX1_bad_9 (by decide) ?_
    refine lv_goto (tgt := 14) hx hb dX1_bad_10 (by decide) ?_
    exact rl_pret hx hb hr hk rfl (by simp [rl_bad, rl_lt4, c_1]) dX1_bad_14
  · refine lv_iload_n hx hb dX1_bad_4 rfl (lv_at hl 1 rfl) ?_
    refine lv_iconst (v := 3) hx hb dX1_bad_5 (by decide) ?_
    refine lv_icmp_le (tgt := 13) hx hb dX1_bad_6 (by decide) (fun c_6 => ?_) (fun c_6 => ?_)
    · refine lv_iconst (v := 0) hx hb dX1_bad_13 (by decide) ?_
      exact rl_pret hx hb hr hk rfl (by simp [rl_bad, rl_lt4, c_1, c_6]) dX1_bad_14
    · refine lv_iconst (v := 1) hx hb dX1_bad_9 (by decide) ?_
      refine lv_goto (tgt := 14) hx hb dX1_bad_10 (by decide) ?_
      exact rl_pret hx hb hr hk rfl (by simp [rl_bad, rl_lt4, c_1, c_6]) dX1_bad_14
set_option maxHeartbeats 4000000 in
set_option maxRecDepth 100000 in
theorem met_X1_badCost {l : Launch} {h0 : Nat} (x : Int32) : rl_Pi l yX1_badCost cX1_badCost 2 (some .boolean) (rl_rm 0 0) [.ref h0, .int x] (rl_badCost x) := by
  refine rl_Pi.of (by decide) (Nat.le_of_ble_eq_true rfl) ?_
  intro p e s m args below meth c ls hx hb hr hk hl
  have hl : lv_has ls 2 [(0, .ref h0), (1, .int x)] := hl
  refine lv_iload_n hx hb dX1_badCost_0 rfl (lv_at hl 1 rfl) ?_
  refine lv_iconst (v := 1) hx hb dX1_badCost_1 (by decide) ?_
  refine lv_icmp_lt (tgt := 11) hx hb dX1_badCost_2 (by decide) (fun c_2 => ?_) (fun c_2 => ?_)
  · refine lv_iconst (v := 1) hx hb dX1_badCost_11 (by decide) ?_
    refine lv_goto (tgt := 16) hx hb dX1_badCost_12 (by decide) ?_
    exact rl_pret hx hb hr hk rfl (by simp [rl_badCost, c_2]) dX1_badCost_16
  · refine lv_iload_n hx hb dX1_badCost_5 rfl (lv_at hl 1 rfl) ?_
    refine lv_bipush (v := 20) hx hb dX1_badCost_6 (by decide) ?_
    refine lv_icmp_le (tgt := 15) hx hb dX1_badCost_8 (by decide) (fun c_8 => ?_) (fun c_8 => ?_)
    · refine lv_iconst (v := 0) hx hb dX1_badCost_15 (by decide) ?_
      exact rl_pret hx hb hr hk rfl (by simp [rl_badCost, c_2, c_8]) dX1_badCost_16
    · refine lv_iconst (v := 1) hx hb dX1_badCost_11 (by decide) ?_
      refine lv_goto (tgt := 16) hx hb dX1_badCost_12 (by decide) ?_
      exact rl_pret hx hb hr hk rfl (by simp [rl_badCost, c_2, c_8]) dX1_badCost_16
set_option maxHeartbeats 4000000 in
set_option maxRecDepth 100000 in
theorem rm_make_loop {p : Program} {l : Launch} {e : Env} {s : State} {m : MethodId} {args : Array Value} {below : List Frame} {meth : Method} {c : Code} {D : va_G} {h0 : Nat} {ar : Nat → Nat} {dA : ClassId} {A : Nat → Prop} (C : rl_Cx p s m args c cX1_make 7 RX1 D dA) (hr : meth.sig.returnType = none) (hk : meth.locks = false) (hA : ∀ q : Nat, s.heap.size ≤ q → A q) {R : Room} {j : Nat} (hj : j < 4) (w kd r b sp : Int32) :
    ∀ (n i : Nat) (f : rl_F), i + n = 10 → ∀ (H : Heap) (locs : List Loc) (ls : Array Slot), rl_B rm_W D A s h0 ar dA w f H locs → lv_has ls 7 [(6, .int (nI i)), (0, .ref h0), (1, .int (nI j)), (2, .int kd), (3, .int r), (4, .int b), (5, .int sp)] → W p l e R s m args below meth c H locs 0 0 (rl_Qv rm_W below args s D h0 ar dA A w (rm_make1 (rm_zero j n i f) j)) (F0 m 41 ls []) := by
  have hx := C.1
  have hb := C.2.1
  intro n
  induction n with
  | zero =>
    intro i f hi H locs ls B hl
    refine lv_iload hx hb dX1_make_41 (lv_at hl 0 rfl) ?_
    refine lv_bipush (v := 10) hx hb dX1_make_43 (by decide) ?_
    refine lv_icmp_ge (tgt := 67) hx hb dX1_make_45 (by decide) (fun c_45 => ?_) (fun c_45 => ?_)
    · refine lv_aload_n hx hb dX1_make_67 rfl (lv_at hl 1 rfl) ?_
      refine rm_g7 C B dX1_make_68 ?_
      refine lv_iload_n hx hb dX1_make_71 rfl (lv_at hl 2 rfl) ?_
      refine lv_ldc (own := RX1) (v := (-1000000)) hx hb C.2.2.2.1 (C.2.2.2.2.1 _ q149) dX1_make_72 ?_
      refine rm_s7 C B hj dX1_make_74 (fun H locs B => ?_)
      refine lv_aload_n hx hb dX1_make_75 rfl (lv_at hl 1 rfl) ?_
      refine rm_g8 C B dX1_make_76 ?_
      refine lv_iload_n hx hb dX1_make_79 rfl (lv_at hl 2 rfl) ?_
      refine lv_iconst (v := 0) hx hb dX1_make_80 (by decide) ?_
      refine rm_s8 C B hj dX1_make_81 (fun H locs B => ?_)
      refine lv_aload_n hx hb dX1_make_82 rfl (lv_at hl 1 rfl) ?_
      refine rm_g9 C B dX1_make_83 ?_
      refine lv_iload_n hx hb dX1_make_86 rfl (lv_at hl 2 rfl) ?_
      refine lv_iconst (v := 0) hx hb dX1_make_87 (by decide) ?_
      refine rm_s9 C B hj dX1_make_88 (fun H locs B => ?_)
      exact rl_vret C hr hk B rfl rfl dX1_make_89
    · exact absurd (by rw [show i = 10 by omega]; decide) c_45
  | succ n ih =>
    intro i f hi H locs ls B hl
    refine lv_iload hx hb dX1_make_41 (lv_at hl 0 rfl) ?_
    refine lv_bipush (v := 10) hx hb dX1_make_43 (by decide) ?_
    refine lv_icmp_ge (tgt := 67) hx hb dX1_make_45 (by decide) (fun c_45 => ?_) (fun c_45 => ?_)
    · exact absurd c_45 (nI_ge (show i < 10 by omega) (by decide))
    · refine lv_aload_n hx hb dX1_make_48 rfl (lv_at hl 1 rfl) ?_
      refine rm_g6 C B dX1_make_49 ?_
      refine lv_iload_n hx hb dX1_make_52 rfl (lv_at hl 2 rfl) ?_
      refine lv_bipush (v := 10) hx hb dX1_make_53 (by decide) ?_
      refine lv_imul hx hb dX1_make_55 ?_
      refine lv_iload hx hb dX1_make_56 (lv_at hl 0 rfl) ?_
      refine lv_iadd hx hb dX1_make_58 ?_
      refine rl_top (y := nI (j * 10 + i)) (rl_i10 j i) ?_
      refine lv_iconst (v := 0) hx hb dX1_make_59 (by decide) ?_
      refine rm_s6 C B (by omega) dX1_make_60 (fun H locs B => ?_)
      refine lv_iinc (v := nI (i + 1)) (lv' := [(6, .int (nI (i + 1))), (0, .ref h0), (1, .int (nI j)), (2, .int kd), (3, .int r), (4, .int b), (5, .int sp)]) hx hb dX1_make_61 hl (k := 0) rfl (nI_1 i) (by decide) rfl (fun ls hl => ?_)
      refine lv_goto (tgt := 41) hx hb dX1_make_64 (by decide) ?_
      exact ih (i + 1) _ (by omega) _ _ _ B (lv_sub hl [0, 1, 2, 3, 4, 5, 6] rfl)
set_option maxHeartbeats 4000000 in
set_option maxRecDepth 100000 in
theorem met_X1_make {l : Launch} {j : Nat} (hj : j < 4) (w : Int32) (f : rl_F) (kd r b sp : Int32) : rl_Mv rm_W l yX1_make cX1_make 7 (rl_rm 0 0) [.int (nI j), .int kd, .int r, .int b, .int sp] w f w (rm_make f j kd r b sp) := by
  refine rl_Mv.of RX1 (by decide) rfl (fun _ => Nat.le_of_ble_eq_true rfl) ?_
  intro p e s m args below meth c D h0 ar dA A ls C hr hk hA B hl
  have hx := C.1
  have hb := C.2.1
  have hl : lv_has ls 7 [(0, .ref h0), (1, .int (nI j)), (2, .int kd), (3, .int r), (4, .int b), (5, .int sp)] := hl
  refine lv_aload_n hx hb dX1_make_0 rfl (lv_at hl 0 rfl) ?_
  refine rm_g1 C B dX1_make_1 ?_
  refine lv_iload_n hx hb dX1_make_4 rfl (lv_at hl 1 rfl) ?_
  refine lv_iload_n hx hb dX1_make_5 rfl (lv_at hl 2 rfl) ?_
  refine rm_s1 C B hj dX1_make_6 (fun H locs B => ?_)
  refine lv_aload_n hx hb dX1_make_7 rfl (lv_at hl 0 rfl) ?_
  refine rm_g2 C B dX1_make_8 ?_
  refine lv_iload_n hx hb dX1_make_11 rfl (lv_at hl 1 rfl) ?_
  refine lv_iload_n hx hb dX1_make_12 rfl (lv_at hl 3 rfl) ?_
  refine rm_s2 C B hj dX1_make_13 (fun H locs B => ?_)
  refine lv_aload_n hx hb dX1_make_14 rfl (lv_at hl 0 rfl) ?_
  refine rm_g3 C B dX1_make_15 ?_
  refine lv_iload_n hx hb dX1_make_18 rfl (lv_at hl 1 rfl) ?_
  refine lv_iload hx hb dX1_make_19 (lv_at hl 4 rfl) ?_
  refine rm_s3 C B hj dX1_make_21 (fun H locs B => ?_)
  refine lv_aload_n hx hb dX1_make_22 rfl (lv_at hl 0 rfl) ?_
  refine rm_g4 C B dX1_make_23 ?_
  refine lv_iload_n hx hb dX1_make_26 rfl (lv_at hl 1 rfl) ?_
  refine lv_iload hx hb dX1_make_27 (lv_at hl 5 rfl) ?_
  refine rm_s4 C B hj dX1_make_29 (fun H locs B => ?_)
  refine lv_aload_n hx hb dX1_make_30 rfl (lv_at hl 0 rfl) ?_
  refine rm_g5 C B dX1_make_31 ?_
  refine lv_iload_n hx hb dX1_make_34 rfl (lv_at hl 1 rfl) ?_
  refine lv_iload hx hb dX1_make_35 (lv_at hl 4 rfl) ?_
  refine rm_s5 C B hj dX1_make_37 (fun H locs B => ?_)
  refine lv_iconst (v := 0) hx hb dX1_make_38 (by decide) ?_
  refine rl_top (y := nI 0) nI_0.symm ?_
  refine lv_istore (lv' := [(6, .int (nI 0)), (0, .ref h0), (1, .int (nI j)), (2, .int kd), (3, .int r), (4, .int b), (5, .int sp)]) hx hb dX1_make_39 hl (by decide) rfl (fun ls hl => ?_)
  exact rm_make_loop C hr hk hA hj w kd r b sp 10 0 (rm_make0 f j kd r b sp) rfl _ _ _ B (lv_sub hl [0, 1, 2, 3, 4, 5, 6] rfl)
set_option maxHeartbeats 4000000 in
set_option maxRecDepth 100000 in
theorem met_X1_set {l : Launch} (w : Int32) (f : rl_F) (meter kind numbers : Int32) : rl_Mi rm_W l yX1_set cX1_set 7 (some .int) (rl_rm 1 30) [.int meter, .int kind, .int numbers] w f (rl_setR meter kind numbers) w (rm_setF f meter kind numbers) := by
  refine rl_Mi.of RX1 (by decide) rfl (fun _ => Nat.le_of_ble_eq_true rfl) ?_
  intro p e s m args below meth c D h0 ar dA A ls C hr hk hA B hl
  have hx := C.1
  have hb := C.2.1
  have hl : lv_has ls 7 [(0, .ref h0), (1, .int meter), (2, .int kind), (3, .int numbers)] := hl
  refine lv_aload_n hx hb dX1_set_0 rfl (lv_at hl 0 rfl) ?_
  refine lv_iload_n hx hb dX1_set_1 rfl (lv_at hl 1 rfl) ?_
  refine rl_callP (rest := []) rm_ok rfl C B (met_X1_bad meter) (cwV 1 C.2.2.2.2.1 (lw_V q185 q187 qs7 q15 q188) rfl rfl rfl (by decide +kernel) ⟨by decide, by decide⟩) rfl hl.1 rfl (Nat.le_of_ble_eq_true rfl) dX1_set_2 ⟨Nat.zero_le _, Nat.zero_le _⟩ (fun H locs B => ?_)
  refine lv_if_eq (tgt := 10) hx hb dX1_set_5 (by decide) (fun c_5 => ?_) (fun c_5 => ?_)
  · refine lv_iload_n hx hb dX1_set_10 rfl (lv_at hl 2 rfl) ?_
    refine lv_if_lt (tgt := 19) hx hb dX1_set_11 (by decide) (fun c_11 => ?_) (fun c_11 => ?_)
    · refine lv_bipush (v := (-2)) hx hb dX1_set_19 (by decide) ?_
      exact rl_iret C hr hk B (by simp [rl_setR, rl_kindbad, rl_numbad, c_5, c_11]) rfl (by simp [rm_setF, rl_setGo, rl_kindbad, rl_numbad, c_5, c_11]) dX1_set_21
    · refine lv_iload_n hx hb dX1_set_14 rfl (lv_at hl 2 rfl) ?_
      refine lv_iconst (v := 2) hx hb dX1_set_15 (by decide) ?_
      refine lv_icmp_le (tgt := 22) hx hb dX1_set_16 (by decide) (fun c_16 => ?_) (fun c_16 => ?_)
      · refine lv_iload_n hx hb dX1_set_22 rfl (lv_at hl 3 rfl) ?_
        refine lv_bipush (v := 7) hx hb dX1_set_23 (by decide) ?_
        refine lv_iand hx hb dX1_set_25 ?_
        refine rl_top (y := rl_r numbers) rfl ?_
        refine lv_istore (lv' := [(4, .int (rl_r numbers)), (0, .ref h0), (1, .int meter), (2, .int kind), (3, .int numbers)]) hx hb dX1_set_26 hl (by decide) rfl (fun ls hl => ?_)
        refine lv_iload_n hx hb dX1_set_28 rfl (lv_at hl 4 rfl) ?_
        refine lv_iconst (v := 3) hx hb dX1_set_29 (by decide) ?_
        refine lv_ishr hx hb dX1_set_30 ?_
        refine lv_bipush (v := 31) hx hb dX1_set_31 (by decide) ?_
        refine lv_iand hx hb dX1_set_33 ?_
        refine rl_top (y := rl_b numbers) rfl ?_
        refine lv_istore (lv' := [(5, .int (rl_b numbers)), (4, .int (rl_r numbers)), (0, .ref h0), (1, .int meter), (2, .int kind), (3, .int numbers)]) hx hb dX1_set_34 hl (by decide) rfl (fun ls hl => ?_)
        refine lv_iload_n hx hb dX1_set_36 rfl (lv_at hl 5 rfl) ?_
        refine lv_bipush (v := 8) hx hb dX1_set_37 (by decide) ?_
        refine lv_ishr hx hb dX1_set_39 ?_
        refine lv_bipush (v := 15) hx hb dX1_set_40 (by decide) ?_
        refine lv_iand hx hb dX1_set_42 ?_
        refine rl_top (y := rl_s numbers) rfl ?_
        refine lv_istore (lv' := [(6, .int (rl_s numbers)), (5, .int (rl_b numbers)), (4, .int (rl_r numbers)), (0, .ref h0), (1, .int meter), (2, .int kind), (3, .int numbers)]) hx hb dX1_set_43 hl (by decide) rfl (fun ls hl => ?_)
        refine lv_iload hx hb dX1_set_45 (lv_at hl 2 rfl) ?_
        refine lv_iconst (v := 1) hx hb dX1_set_47 (by decide) ?_
        refine lv_icmp_lt (tgt := 83) hx hb dX1_set_48 (by decide) (fun c_48 => ?_) (fun c_48 => ?_)
        · refine lv_bipush (v := (-3)) hx hb dX1_set_83 (by decide) ?_
          exact rl_iret C hr hk B (by simp [rl_setR, rl_kindbad, rl_numbad, c_5, c_11, c_16, c_48]) rfl (by simp [rm_setF, rl_setGo, rl_kindbad, rl_numbad, c_5, c_11, c_16, c_48]) dX1_set_85
        · refine lv_iload hx hb dX1_set_51 (lv_at hl 2 rfl) ?_
          refine lv_iconst (v := 5) hx hb dX1_set_53 (by decide) ?_
          refine lv_icmp_gt (tgt := 83) hx hb dX1_set_54 (by decide) (fun c_54 => ?_) (fun c_54 => ?_)
          · refine lv_bipush (v := (-3)) hx hb dX1_set_83 (by decide) ?_
            exact rl_iret C hr hk B (by simp [rl_setR, rl_kindbad, rl_numbad, c_5, c_11, c_16, c_48, c_54]) rfl (by simp [rm_setF, rl_setGo, rl_kindbad, rl_numbad, c_5, c_11, c_16, c_48, c_54]) dX1_set_85
          · refine lv_iload hx hb dX1_set_57 (lv_at hl 1 rfl) ?_
            refine lv_iconst (v := 1) hx hb dX1_set_59 (by decide) ?_
            refine lv_icmp_lt (tgt := 83) hx hb dX1_set_60 (by decide) (fun c_60 => ?_) (fun c_60 => ?_)
            · refine lv_bipush (v := (-3)) hx hb dX1_set_83 (by decide) ?_
              exact rl_iret C hr hk B (by simp [rl_setR, rl_kindbad, rl_numbad, c_5, c_11, c_16, c_48, c_54, c_60]) rfl (by simp [rm_setF, rl_setGo, rl_kindbad, rl_numbad, c_5, c_11, c_16, c_48, c_54, c_60]) dX1_set_85
            · refine lv_iload hx hb dX1_set_63 (lv_at hl 1 rfl) ?_
              refine lv_bipush (v := 30) hx hb dX1_set_65 (by decide) ?_
              refine lv_icmp_gt (tgt := 83) hx hb dX1_set_67 (by decide) (fun c_67 => ?_) (fun c_67 => ?_)
              · refine lv_bipush (v := (-3)) hx hb dX1_set_83 (by decide) ?_
                exact rl_iret C hr hk B (by simp [rl_setR, rl_kindbad, rl_numbad, c_5, c_11, c_16, c_48, c_54, c_60, c_67]) rfl (by simp [rm_setF, rl_setGo, rl_kindbad, rl_numbad, c_5, c_11, c_16, c_48, c_54, c_60, c_67]) dX1_set_85
              · refine lv_iload hx hb dX1_set_70 (lv_at hl 0 rfl) ?_
                refine lv_iconst (v := 1) hx hb dX1_set_72 (by decide) ?_
                refine lv_icmp_lt (tgt := 83) hx hb dX1_set_73 (by decide) (fun c_73 => ?_) (fun c_73 => ?_)
                · refine lv_bipush (v := (-3)) hx hb dX1_set_83 (by decide) ?_
                  exact rl_iret C hr hk B (by simp [rl_setR, rl_kindbad, rl_numbad, c_5, c_11, c_16, c_48, c_54, c_60, c_67, c_73]) rfl (by simp [rm_setF, rl_setGo, rl_kindbad, rl_numbad, c_5, c_11, c_16, c_48, c_54, c_60, c_67, c_73]) dX1_set_85
                · refine lv_iload hx hb dX1_set_76 (lv_at hl 0 rfl) ?_
                  refine lv_bipush (v := 10) hx hb dX1_set_78 (by decide) ?_
                  refine lv_icmp_le (tgt := 86) hx hb dX1_set_80 (by decide) (fun c_80 => ?_) (fun c_80 => ?_)
                  · obtain ⟨j, hj, rfl⟩ := rl_bad_ok c_5
                    refine lv_aload_n hx hb dX1_set_86 rfl (lv_at hl 3 rfl) ?_
                    refine lv_iload_n hx hb dX1_set_87 rfl (lv_at hl 4 rfl) ?_
                    refine lv_iload_n hx hb dX1_set_88 rfl (lv_at hl 5 rfl) ?_
                    refine lv_iload hx hb dX1_set_89 (lv_at hl 2 rfl) ?_
                    refine lv_iload hx hb dX1_set_91 (lv_at hl 1 rfl) ?_
                    refine lv_iload hx hb dX1_set_93 (lv_at hl 0 rfl) ?_
                    refine rl_callv (rest := []) rm_ok rfl C hA B (met_X1_make (j := j) hj w f kind (rl_r numbers) (rl_b numbers) (rl_s numbers)) (cwV 5 C.2.2.2.2.1 (lw_V q145 q147 qs6 q15 q148) rfl rfl rfl (by decide +kernel) ⟨by decide, by decide⟩) rfl hl.1 rfl (Nat.le_of_ble_eq_true rfl) dX1_set_95 ⟨Nat.zero_le _, Nat.zero_le _⟩ (fun H locs B => ?_)
                    refine lv_iconst (v := 0) hx hb dX1_set_98 (by decide) ?_
                    exact rl_iret C hr hk B (by simp [rl_setR, rl_kindbad, rl_numbad, c_5, c_11, c_16, c_48, c_54, c_60, c_67, c_73, c_80]) rfl (by simp [rm_setF, rl_setGo, rl_kindbad, rl_numbad, c_5, c_11, c_16, c_48, c_54, c_60, c_67, c_73, c_80, rl_cl4 hj]) dX1_set_99
                  · refine lv_bipush (v := (-3)) hx hb dX1_set_83 (by decide) ?_
                    exact rl_iret C hr hk B (by simp [rl_setR, rl_kindbad, rl_numbad, c_5, c_11, c_16, c_48, c_54, c_60, c_67, c_73, c_80]) rfl (by simp [rm_setF, rl_setGo, rl_kindbad, rl_numbad, c_5, c_11, c_16, c_48, c_54, c_60, c_67, c_73, c_80]) dX1_set_85
      · refine lv_bipush (v := (-2)) hx hb dX1_set_19 (by decide) ?_
        exact rl_iret C hr hk B (by simp [rl_setR, rl_kindbad, rl_numbad, c_5, c_11, c_16]) rfl (by simp [rm_setF, rl_setGo, rl_kindbad, rl_numbad, c_5, c_11, c_16]) dX1_set_21
  · refine lv_iconst (v := (-1)) hx hb dX1_set_8 (by decide) ?_
    exact rl_iret C hr hk B (by simp [rl_setR, rl_kindbad, rl_numbad, c_5]) rfl (by simp [rm_setF, rl_setGo, rl_kindbad, rl_numbad, c_5]) dX1_set_9
set_option maxHeartbeats 4000000 in
set_option maxRecDepth 100000 in
theorem rm_tokensIn_loop {p : Program} {l : Launch} {e : Env} {s : State} {m : MethodId} {args : Array Value} {below : List Frame} {meth : Method} {c : Code} {D : va_G} {h0 : Nat} {ar : Nat → Nat} {dA : ClassId} {A : Nat → Prop} (C : rl_Cx p s m args c cX1_tokensIn 5 RX1 D dA) (hr : meth.sig.returnType = some .int) (hk : meth.locks = false) (hA : ∀ q : Nat, s.heap.size ≤ q → A q) {R : Room} {j : Nat} (hj : j < 4) (w units : Int32) (f : rl_F) :
    ∀ (n i : Nat) (t : Int32), i + n = units.toNatClampNeg → ∀ (H : Heap) (locs : List Loc) (ls : Array Slot), rl_B rm_W D A s h0 ar dA w f H locs → lv_has ls 5 [(4, .int (nI i)), (3, .int t), (0, .ref h0), (1, .int (nI j)), (2, .int units)] → W p l e R s m args below meth c H locs 0 0 (rl_Qi rm_W below args s D h0 ar dA A (rm_tk (f 2 j) (f 3 j) n t) w f) (F0 m 10 ls []) := by
  have hx := C.1
  have hb := C.2.1
  intro n
  induction n with
  | zero =>
    intro i t hi H locs ls B hl
    refine lv_iload hx hb dX1_tokensIn_10 (lv_at hl 0 rfl) ?_
    refine lv_iload_n hx hb dX1_tokensIn_12 rfl (lv_at hl 4 rfl) ?_
    refine lv_icmp_ge (tgt := 57) hx hb dX1_tokensIn_13 (by decide) (fun c_13 => ?_) (fun c_13 => ?_)
    · refine lv_iload_n hx hb dX1_tokensIn_57 rfl (lv_at hl 1 rfl) ?_
      exact rl_iret C hr hk B rfl rfl rfl dX1_tokensIn_58
    · exact absurd (by rw [show i = units.toNatClampNeg by omega]; exact rl_size_le _) c_13
  | succ n ih =>
    intro i t hi H locs ls B hl
    refine lv_iload hx hb dX1_tokensIn_10 (lv_at hl 0 rfl) ?_
    refine lv_iload_n hx hb dX1_tokensIn_12 rfl (lv_at hl 4 rfl) ?_
    refine lv_icmp_ge (tgt := 57) hx hb dX1_tokensIn_13 (by decide) (fun c_13 => ?_) (fun c_13 => ?_)
    · exact absurd c_13 (rl_size_lt (by omega))
    · refine lv_iload_n hx hb dX1_tokensIn_16 rfl (lv_at hl 1 rfl) ?_
      refine lv_aload_n hx hb dX1_tokensIn_17 rfl (lv_at hl 2 rfl) ?_
      refine rm_g2 C B dX1_tokensIn_18 ?_
      refine lv_iload_n hx hb dX1_tokensIn_21 rfl (lv_at hl 3 rfl) ?_
      refine rm_l2 (v := f 2 j) C B hj rfl dX1_tokensIn_22 ?_
      refine lv_iadd hx hb dX1_tokensIn_23 ?_
      refine lv_aload_n hx hb dX1_tokensIn_24 rfl (lv_at hl 2 rfl) ?_
      refine rm_g3 C B dX1_tokensIn_25 ?_
      refine lv_iload_n hx hb dX1_tokensIn_28 rfl (lv_at hl 3 rfl) ?_
      refine rm_l3 (v := f 3 j) C B hj rfl dX1_tokensIn_29 ?_
      refine lv_icmp_le (tgt := 42) hx hb dX1_tokensIn_30 (by decide) (fun c_30 => ?_) (fun c_30 => ?_)
      · refine lv_iload_n hx hb dX1_tokensIn_42 rfl (lv_at hl 1 rfl) ?_
        refine lv_aload_n hx hb dX1_tokensIn_43 rfl (lv_at hl 2 rfl) ?_
        refine rm_g2 C B dX1_tokensIn_44 ?_
        refine lv_iload_n hx hb dX1_tokensIn_47 rfl (lv_at hl 3 rfl) ?_
        refine rm_l2 (v := f 2 j) C B hj rfl dX1_tokensIn_48 ?_
        refine lv_iadd hx hb dX1_tokensIn_49 ?_
        refine lv_istore_n (lv' := [(3, .int (t + (f 2 j))), (4, .int (nI i)), (0, .ref h0), (1, .int (nI j)), (2, .int units)]) hx hb dX1_tokensIn_50 rfl hl (by decide) rfl (fun ls hl => ?_)
        refine lv_iinc (v := nI (i + 1)) (lv' := [(4, .int (nI (i + 1))), (3, .int (t + (f 2 j))), (0, .ref h0), (1, .int (nI j)), (2, .int units)]) hx hb dX1_tokensIn_51 hl (k := 1) rfl (nI_1 i) (by decide) rfl (fun ls hl => ?_)
        refine lv_goto (tgt := 10) hx hb dX1_tokensIn_54 (by decide) ?_
        refine rl_toI (show rm_tk (f 2 j) (f 3 j) (n + 1) t = rm_tk (f 2 j) (f 3 j) n (t + (f 2 j)) by simp [rm_tk, c_30]) rfl rfl ?_
        exact ih (i + 1) _ (by omega) _ _ _ B (lv_sub hl [0, 1, 2, 3, 4] rfl)
      · refine lv_aload_n hx hb dX1_tokensIn_33 rfl (lv_at hl 2 rfl) ?_
        refine rm_g3 C B dX1_tokensIn_34 ?_
        refine lv_iload_n hx hb dX1_tokensIn_37 rfl (lv_at hl 3 rfl) ?_
        refine rm_l3 (v := f 3 j) C B hj rfl dX1_tokensIn_38 ?_
        refine lv_goto (tgt := 50) hx hb dX1_tokensIn_39 (by decide) ?_
        refine lv_istore_n (lv' := [(3, .int (f 3 j)), (4, .int (nI i)), (0, .ref h0), (1, .int (nI j)), (2, .int units)]) hx hb dX1_tokensIn_50 rfl hl (by decide) rfl (fun ls hl => ?_)
        refine lv_iinc (v := nI (i + 1)) (lv' := [(4, .int (nI (i + 1))), (3, .int (f 3 j)), (0, .ref h0), (1, .int (nI j)), (2, .int units)]) hx hb dX1_tokensIn_51 hl (k := 1) rfl (nI_1 i) (by decide) rfl (fun ls hl => ?_)
        refine lv_goto (tgt := 10) hx hb dX1_tokensIn_54 (by decide) ?_
        refine rl_toI (show rm_tk (f 2 j) (f 3 j) (n + 1) t = rm_tk (f 2 j) (f 3 j) n (f 3 j) by simp [rm_tk, c_30]) rfl rfl ?_
        exact ih (i + 1) _ (by omega) _ _ _ B (lv_sub hl [0, 1, 2, 3, 4] rfl)
set_option maxHeartbeats 4000000 in
set_option maxRecDepth 100000 in
theorem met_X1_tokensIn {l : Launch} {j : Nat} (hj : j < 4) (w : Int32) (f : rl_F) (units : Int32) : rl_Mi rm_W l yX1_tokensIn cX1_tokensIn 5 (some .int) (rl_rm 0 0) [.int (nI j), .int units] w f (rm_tokensIn f j units) w f := by
  refine rl_Mi.of RX1 (by decide) rfl (fun _ => Nat.le_of_ble_eq_true rfl) ?_
  intro p e s m args below meth c D h0 ar dA A ls C hr hk hA B hl
  have hx := C.1
  have hb := C.2.1
  have hl : lv_has ls 5 [(0, .ref h0), (1, .int (nI j)), (2, .int units)] := hl
  refine lv_aload_n hx hb dX1_tokensIn_0 rfl (lv_at hl 0 rfl) ?_
  refine rm_g5 C B dX1_tokensIn_1 ?_
  refine lv_iload_n hx hb dX1_tokensIn_4 rfl (lv_at hl 1 rfl) ?_
  refine rm_l5 (v := f 5 j) C B hj rfl dX1_tokensIn_5 ?_
  refine lv_istore_n (lv' := [(3, .int (f 5 j)), (0, .ref h0), (1, .int (nI j)), (2, .int units)]) hx hb dX1_tokensIn_6 rfl hl (by decide) rfl (fun ls hl => ?_)
  refine lv_iconst (v := 0) hx hb dX1_tokensIn_7 (by decide) ?_
  refine rl_top (y := nI 0) nI_0.symm ?_
  refine lv_istore (lv' := [(4, .int (nI 0)), (3, .int (f 5 j)), (0, .ref h0), (1, .int (nI j)), (2, .int units)]) hx hb dX1_tokensIn_8 hl (by decide) rfl (fun ls hl => ?_)
  exact rm_tokensIn_loop C hr hk hA hj w units f _ 0 _ (Nat.zero_add _) _ _ _ B (lv_sub hl [0, 1, 2, 3, 4] rfl)
set_option maxHeartbeats 4000000 in
set_option maxRecDepth 100000 in
theorem rm_loggedIn_loop {p : Program} {l : Launch} {e : Env} {s : State} {m : MethodId} {args : Array Value} {below : List Frame} {meth : Method} {c : Code} {D : va_G} {h0 : Nat} {ar : Nat → Nat} {dA : ClassId} {A : Nat → Prop} (C : rl_Cx p s m args c cX1_loggedIn 5 RX1 D dA) (hr : meth.sig.returnType = some .int) (hk : meth.locks = false) (hA : ∀ q : Nat, s.heap.size ≤ q → A q) {R : Room} {j : Nat} (hj : j < 4) (w units : Int32) (f : rl_F) :
    ∀ (n i : Nat) (sum : Int32), i + n = 10 → ∀ (H : Heap) (locs : List Loc) (ls : Array Slot), rl_B rm_W D A s h0 ar dA w f H locs → lv_has ls 5 [(4, .int (nI i)), (3, .int sum), (0, .ref h0), (1, .int (nI j)), (2, .int units)] → W p l e R s m args below meth c H locs 0 0 (rl_Qi rm_W below args s D h0 ar dA A (rm_lg f j units n i sum) w f) (F0 m 5 ls []) := by
  have hx := C.1
  have hb := C.2.1
  intro n
  induction n with
  | zero =>
    intro i sum hi H locs ls B hl
    refine lv_iload hx hb dX1_loggedIn_5 (lv_at hl 0 rfl) ?_
    refine lv_bipush (v := 10) hx hb dX1_loggedIn_7 (by decide) ?_
    refine lv_icmp_ge (tgt := 46) hx hb dX1_loggedIn_9 (by decide) (fun c_9 => ?_) (fun c_9 => ?_)
    · refine lv_iload_n hx hb dX1_loggedIn_46 rfl (lv_at hl 1 rfl) ?_
      exact rl_iret C hr hk B rfl rfl rfl dX1_loggedIn_47
    · exact absurd (by rw [show i = 10 by omega]; decide) c_9
  | succ n ih =>
    intro i sum hi H locs ls B hl
    refine lv_iload hx hb dX1_loggedIn_5 (lv_at hl 0 rfl) ?_
    refine lv_bipush (v := 10) hx hb dX1_loggedIn_7 (by decide) ?_
    refine lv_icmp_ge (tgt := 46) hx hb dX1_loggedIn_9 (by decide) (fun c_9 => ?_) (fun c_9 => ?_)
    · exact absurd c_9 (nI_ge (show i < 10 by omega) (by decide))
    · refine lv_iload hx hb dX1_loggedIn_12 (lv_at hl 0 rfl) ?_
      refine lv_iload_n hx hb dX1_loggedIn_14 rfl (lv_at hl 4 rfl) ?_
      refine lv_iadd hx hb dX1_loggedIn_15 ?_
      refine lv_aload_n hx hb dX1_loggedIn_16 rfl (lv_at hl 2 rfl) ?_
      refine rm_g4 C B dX1_loggedIn_17 ?_
      refine lv_iload_n hx hb dX1_loggedIn_20 rfl (lv_at hl 3 rfl) ?_
      refine rm_l4 (v := f 4 j) C B hj rfl dX1_loggedIn_21 ?_
      refine lv_icmp_ge (tgt := 40) hx hb dX1_loggedIn_22 (by decide) (fun c_22 => ?_) (fun c_22 => ?_)
      · refine lv_iinc (v := nI (i + 1)) (lv' := [(4, .int (nI (i + 1))), (3, .int sum), (0, .ref h0), (1, .int (nI j)), (2, .int units)]) hx hb dX1_loggedIn_40 hl (k := 0) rfl (nI_1 i) (by decide) rfl (fun ls hl => ?_)
        refine lv_goto (tgt := 5) hx hb dX1_loggedIn_43 (by decide) ?_
        refine rl_toI (show rm_lg f j units (n + 1) i sum = rm_lg f j units n (i + 1) sum by simp [rm_lg, c_22]) rfl rfl ?_
        exact ih (i + 1) _ (by omega) _ _ _ B (lv_sub hl [0, 1, 2, 3, 4] rfl)
      · refine lv_iload_n hx hb dX1_loggedIn_25 rfl (lv_at hl 1 rfl) ?_
        refine lv_aload_n hx hb dX1_loggedIn_26 rfl (lv_at hl 2 rfl) ?_
        refine rm_g6 C B dX1_loggedIn_27 ?_
        refine lv_iload_n hx hb dX1_loggedIn_30 rfl (lv_at hl 3 rfl) ?_
        refine lv_bipush (v := 10) hx hb dX1_loggedIn_31 (by decide) ?_
        refine lv_imul hx hb dX1_loggedIn_33 ?_
        refine lv_iload hx hb dX1_loggedIn_34 (lv_at hl 0 rfl) ?_
        refine lv_iadd hx hb dX1_loggedIn_36 ?_
        refine rl_top (y := nI (j * 10 + i)) (rl_i10 j i) ?_
        refine rm_l6 (v := f 6 (j * 10 + i)) C B (by omega) rfl dX1_loggedIn_37 ?_
        refine lv_iadd hx hb dX1_loggedIn_38 ?_
        refine lv_istore_n (lv' := [(3, .int (sum + (f 6 (j * 10 + i)))), (4, .int (nI i)), (0, .ref h0), (1, .int (nI j)), (2, .int units)]) hx hb dX1_loggedIn_39 rfl hl (by decide) rfl (fun ls hl => ?_)
        refine lv_iinc (v := nI (i + 1)) (lv' := [(4, .int (nI (i + 1))), (3, .int (sum + (f 6 (j * 10 + i)))), (0, .ref h0), (1, .int (nI j)), (2, .int units)]) hx hb dX1_loggedIn_40 hl (k := 1) rfl (nI_1 i) (by decide) rfl (fun ls hl => ?_)
        refine lv_goto (tgt := 5) hx hb dX1_loggedIn_43 (by decide) ?_
        refine rl_toI (show rm_lg f j units (n + 1) i sum = rm_lg f j units n (i + 1) (sum + (f 6 (j * 10 + i))) by simp [rm_lg, c_22]) rfl rfl ?_
        exact ih (i + 1) _ (by omega) _ _ _ B (lv_sub hl [0, 1, 2, 3, 4] rfl)
set_option maxHeartbeats 4000000 in
set_option maxRecDepth 100000 in
theorem met_X1_loggedIn {l : Launch} {j : Nat} (hj : j < 4) (w : Int32) (f : rl_F) (units : Int32) : rl_Mi rm_W l yX1_loggedIn cX1_loggedIn 5 (some .int) (rl_rm 0 0) [.int (nI j), .int units] w f (rm_loggedIn f j units) w f := by
  refine rl_Mi.of RX1 (by decide) rfl (fun _ => Nat.le_of_ble_eq_true rfl) ?_
  intro p e s m args below meth c D h0 ar dA A ls C hr hk hA B hl
  have hx := C.1
  have hb := C.2.1
  have hl : lv_has ls 5 [(0, .ref h0), (1, .int (nI j)), (2, .int units)] := hl
  refine lv_iconst (v := 0) hx hb dX1_loggedIn_0 (by decide) ?_
  refine lv_istore_n (lv' := [(3, .int 0), (0, .ref h0), (1, .int (nI j)), (2, .int units)]) hx hb dX1_loggedIn_1 rfl hl (by decide) rfl (fun ls hl => ?_)
  refine lv_iconst (v := 0) hx hb dX1_loggedIn_2 (by decide) ?_
  refine rl_top (y := nI 0) nI_0.symm ?_
  refine lv_istore (lv' := [(4, .int (nI 0)), (3, .int 0), (0, .ref h0), (1, .int (nI j)), (2, .int units)]) hx hb dX1_loggedIn_3 hl (by decide) rfl (fun ls hl => ?_)
  exact rm_loggedIn_loop C hr hk hA hj w units f 10 0 0 rfl _ _ _ B (lv_sub hl [0, 1, 2, 3, 4] rfl)
set_option maxHeartbeats 4000000 in
set_option maxRecDepth 100000 in
theorem met_X1_would {l : Launch} {j : Nat} (hj : j < 4) (w : Int32) (f : rl_F) (cost units : Int32) : rl_Mi rm_W l yX1_would cX1_would 6 (some .boolean) (rl_rm 1 30) [.int (nI j), .int cost, .int units] w f (rm_would w f j cost units) w f := by
  refine rl_Mi.of RX1 (by decide) rfl (fun _ => Nat.le_of_ble_eq_true rfl) ?_
  intro p e s m args below meth c D h0 ar dA A ls C hr hk hA B hl
  have hx := C.1
  have hb := C.2.1
  have hl : lv_has ls 6 [(0, .ref h0), (1, .int (nI j)), (2, .int cost), (3, .int units)] := hl
  refine lv_aload_n hx hb dX1_would_0 rfl (lv_at hl 0 rfl) ?_
  refine rm_g1 C B dX1_would_1 ?_
  refine lv_iload_n hx hb dX1_would_4 rfl (lv_at hl 1 rfl) ?_
  refine rm_l1 (v := f 1 j) C B hj rfl dX1_would_5 ?_
  refine lv_if_ne (tgt := 25) hx hb dX1_would_6 (by decide) (fun c_6 => ?_) (fun c_6 => ?_)
  · refine lv_aload_n hx hb dX1_would_25 rfl (lv_at hl 0 rfl) ?_
    refine rm_g1 C B dX1_would_26 ?_
    refine lv_iload_n hx hb dX1_would_29 rfl (lv_at hl 1 rfl) ?_
    refine rm_l1 (v := f 1 j) C B hj rfl dX1_would_30 ?_
    refine lv_iconst (v := 1) hx hb dX1_would_31 (by decide) ?_
    refine lv_icmp_ne (tgt := 58) hx hb dX1_would_32 (by decide) (fun c_32 => ?_) (fun c_32 => ?_)
    · refine lv_aload_n hx hb dX1_would_58 rfl (lv_at hl 0 rfl) ?_
      refine rm_g0 C B dX1_would_59 ?_
      refine lv_iload_n hx hb dX1_would_62 rfl (lv_at hl 3 rfl) ?_
      refine lv_iadd hx hb dX1_would_63 ?_
      refine lv_istore (lv' := [(4, .int (w + units)), (0, .ref h0), (1, .int (nI j)), (2, .int cost), (3, .int units)]) hx hb dX1_would_64 hl (by decide) rfl (fun ls hl => ?_)
      refine lv_aload_n hx hb dX1_would_66 rfl (lv_at hl 1 rfl) ?_
      refine rm_g7 C B dX1_would_67 ?_
      refine lv_iload_n hx hb dX1_would_70 rfl (lv_at hl 2 rfl) ?_
      refine rm_l7 (v := f 7 j) C B hj rfl dX1_would_71 ?_
      refine lv_iload hx hb dX1_would_72 (lv_at hl 0 rfl) ?_
      refine lv_icmp_le (tgt := 86) hx hb dX1_would_74 (by decide) (fun c_74 => ?_) (fun c_74 => ?_)
      · refine lv_iload hx hb dX1_would_86 (lv_at hl 0 rfl) ?_
        refine rl_top (y := rm_from (w + units) f j) (by simp [rm_from, c_74]) ?_
        refine lv_istore (lv' := [(5, .int (rm_from (w + units) f j)), (4, .int (w + units)), (0, .ref h0), (1, .int (nI j)), (2, .int cost), (3, .int units)]) hx hb dX1_would_88 hl (by decide) rfl (fun ls hl => ?_)
        refine lv_iload hx hb dX1_would_90 (lv_at hl 0 rfl) ?_
        refine lv_iload_n hx hb dX1_would_92 rfl (lv_at hl 4 rfl) ?_
        refine lv_aload_n hx hb dX1_would_93 rfl (lv_at hl 2 rfl) ?_
        refine rm_g4 C B dX1_would_94 ?_
        refine lv_iload_n hx hb dX1_would_97 rfl (lv_at hl 3 rfl) ?_
        refine rm_l4 (v := f 4 j) C B hj rfl dX1_would_98 ?_
        refine lv_imul hx hb dX1_would_99 ?_
        refine lv_iadd hx hb dX1_would_100 ?_
        refine lv_iload hx hb dX1_would_101 (lv_at hl 1 rfl) ?_
        refine lv_isub hx hb dX1_would_103 ?_
        refine lv_aload_n hx hb dX1_would_104 rfl (lv_at hl 2 rfl) ?_
        refine rm_g3 C B dX1_would_105 ?_
        refine lv_iload_n hx hb dX1_would_108 rfl (lv_at hl 3 rfl) ?_
        refine rm_l3 (v := f 3 j) C B hj rfl dX1_would_109 ?_
        refine lv_aload_n hx hb dX1_would_110 rfl (lv_at hl 2 rfl) ?_
        refine rm_g4 C B dX1_would_111 ?_
        refine lv_iload_n hx hb dX1_would_114 rfl (lv_at hl 3 rfl) ?_
        refine rm_l4 (v := f 4 j) C B hj rfl dX1_would_115 ?_
        refine lv_imul hx hb dX1_would_116 ?_
        refine lv_icmp_gt (tgt := 124) hx hb dX1_would_117 (by decide) (fun c_117 => ?_) (fun c_117 => ?_)
        · refine lv_iconst (v := 0) hx hb dX1_would_124 (by decide) ?_
          exact rl_zret C hr hk B rfl (by simp [rm_would, c_6, c_32, c_117]) rfl rfl dX1_would_125
        · refine lv_iconst (v := 1) hx hb dX1_would_120 (by decide) ?_
          refine lv_goto (tgt := 125) hx hb dX1_would_121 (by decide) ?_
          exact rl_zret C hr hk B rfl (by simp [rm_would, c_6, c_32, c_117]) rfl rfl dX1_would_125
      · refine lv_aload_n hx hb dX1_would_77 rfl (lv_at hl 1 rfl) ?_
        refine rm_g7 C B dX1_would_78 ?_
        refine lv_iload_n hx hb dX1_would_81 rfl (lv_at hl 2 rfl) ?_
        refine rm_l7 (v := f 7 j) C B hj rfl dX1_would_82 ?_
        refine lv_goto (tgt := 88) hx hb dX1_would_83 (by decide) ?_
        refine rl_top (y := rm_from (w + units) f j) (by simp [rm_from, c_74]) ?_
        refine lv_istore (lv' := [(5, .int (rm_from (w + units) f j)), (4, .int (w + units)), (0, .ref h0), (1, .int (nI j)), (2, .int cost), (3, .int units)]) hx hb dX1_would_88 hl (by decide) rfl (fun ls hl => ?_)
        refine lv_iload hx hb dX1_would_90 (lv_at hl 0 rfl) ?_
        refine lv_iload_n hx hb dX1_would_92 rfl (lv_at hl 4 rfl) ?_
        refine lv_aload_n hx hb dX1_would_93 rfl (lv_at hl 2 rfl) ?_
        refine rm_g4 C B dX1_would_94 ?_
        refine lv_iload_n hx hb dX1_would_97 rfl (lv_at hl 3 rfl) ?_
        refine rm_l4 (v := f 4 j) C B hj rfl dX1_would_98 ?_
        refine lv_imul hx hb dX1_would_99 ?_
        refine lv_iadd hx hb dX1_would_100 ?_
        refine lv_iload hx hb dX1_would_101 (lv_at hl 1 rfl) ?_
        refine lv_isub hx hb dX1_would_103 ?_
        refine lv_aload_n hx hb dX1_would_104 rfl (lv_at hl 2 rfl) ?_
        refine rm_g3 C B dX1_would_105 ?_
        refine lv_iload_n hx hb dX1_would_108 rfl (lv_at hl 3 rfl) ?_
        refine rm_l3 (v := f 3 j) C B hj rfl dX1_would_109 ?_
        refine lv_aload_n hx hb dX1_would_110 rfl (lv_at hl 2 rfl) ?_
        refine rm_g4 C B dX1_would_111 ?_
        refine lv_iload_n hx hb dX1_would_114 rfl (lv_at hl 3 rfl) ?_
        refine rm_l4 (v := f 4 j) C B hj rfl dX1_would_115 ?_
        refine lv_imul hx hb dX1_would_116 ?_
        refine lv_icmp_gt (tgt := 124) hx hb dX1_would_117 (by decide) (fun c_117 => ?_) (fun c_117 => ?_)
        · refine lv_iconst (v := 0) hx hb dX1_would_124 (by decide) ?_
          exact rl_zret C hr hk B rfl (by simp [rm_would, c_6, c_32, c_117]) rfl rfl dX1_would_125
        · refine lv_iconst (v := 1) hx hb dX1_would_120 (by decide) ?_
          refine lv_goto (tgt := 125) hx hb dX1_would_121 (by decide) ?_
          exact rl_zret C hr hk B rfl (by simp [rm_would, c_6, c_32, c_117]) rfl rfl dX1_would_125
    · refine lv_aload_n hx hb dX1_would_35 rfl (lv_at hl 0 rfl) ?_
      refine lv_iload_n hx hb dX1_would_36 rfl (lv_at hl 1 rfl) ?_
      refine lv_iload_n hx hb dX1_would_37 rfl (lv_at hl 3 rfl) ?_
      refine rl_calli (rest := []) rm_ok rfl C hA B (met_X1_loggedIn (j := j) hj w f units) (cwV 2 C.2.2.2.2.1 (lw_V q209 q211 qs11 q15 q212) rfl rfl rfl (by decide +kernel) ⟨by decide, by decide⟩) rfl hl.1 rfl (Nat.le_of_ble_eq_true rfl) dX1_would_38 ⟨Nat.zero_le _, Nat.zero_le _⟩ (fun H locs B => ?_)
      refine lv_iload_n hx hb dX1_would_41 rfl (lv_at hl 2 rfl) ?_
      refine lv_iadd hx hb dX1_would_42 ?_
      refine lv_aload_n hx hb dX1_would_43 rfl (lv_at hl 0 rfl) ?_
      refine rm_g3 C B dX1_would_44 ?_
      refine lv_iload_n hx hb dX1_would_47 rfl (lv_at hl 1 rfl) ?_
      refine rm_l3 (v := f 3 j) C B hj rfl dX1_would_48 ?_
      refine lv_icmp_gt (tgt := 56) hx hb dX1_would_49 (by decide) (fun c_49 => ?_) (fun c_49 => ?_)
      · refine lv_iconst (v := 0) hx hb dX1_would_56 (by decide) ?_
        exact rl_zret C hr hk B rfl (by simp [rm_would, c_6, c_32, c_49]) rfl rfl dX1_would_57
      · refine lv_iconst (v := 1) hx hb dX1_would_52 (by decide) ?_
        refine lv_goto (tgt := 57) hx hb dX1_would_53 (by decide) ?_
        exact rl_zret C hr hk B rfl (by simp [rm_would, c_6, c_32, c_49]) rfl rfl dX1_would_57
  · refine lv_aload_n hx hb dX1_would_9 rfl (lv_at hl 0 rfl) ?_
    refine lv_iload_n hx hb dX1_would_10 rfl (lv_at hl 1 rfl) ?_
    refine lv_iload_n hx hb dX1_would_11 rfl (lv_at hl 3 rfl) ?_
    refine rl_calli (rest := []) rm_ok rfl C hA B (met_X1_tokensIn (j := j) hj w f units) (cwV 2 C.2.2.2.2.1 (lw_V q205 q207 qs10 q15 q208) rfl rfl rfl (by decide +kernel) ⟨by decide, by decide⟩) rfl hl.1 rfl (Nat.le_of_ble_eq_true rfl) dX1_would_12 ⟨Nat.zero_le _, Nat.zero_le _⟩ (fun H locs B => ?_)
    refine lv_iload_n hx hb dX1_would_15 rfl (lv_at hl 2 rfl) ?_
    refine lv_icmp_lt (tgt := 23) hx hb dX1_would_16 (by decide) (fun c_16 => ?_) (fun c_16 => ?_)
    · refine lv_iconst (v := 0) hx hb dX1_would_23 (by decide) ?_
      exact rl_zret C hr hk B rfl (by simp [rm_would, c_6, c_16]) rfl rfl dX1_would_24
    · refine lv_iconst (v := 1) hx hb dX1_would_19 (by decide) ?_
      refine lv_goto (tgt := 24) hx hb dX1_would_20 (by decide) ?_
      exact rl_zret C hr hk B rfl (by simp [rm_would, c_6, c_16]) rfl rfl dX1_would_24
set_option maxHeartbeats 4000000 in
set_option maxRecDepth 100000 in
theorem met_X1_grant {l : Launch} {j : Nat} (hj : j < 4) (w : Int32) (f : rl_F) (cost : Int32) : rl_Mv rm_W l yX1_grant cX1_grant 4 (rl_rm 0 0) [.int (nI j), .int cost] w f w (rm_grant w f j cost) := by
  refine rl_Mv.of RX1 (by decide) rfl (fun _ => Nat.le_of_ble_eq_true rfl) ?_
  intro p e s m args below meth c D h0 ar dA A ls C hr hk hA B hl
  have hx := C.1
  have hb := C.2.1
  have hl : lv_has ls 4 [(0, .ref h0), (1, .int (nI j)), (2, .int cost)] := hl
  refine lv_aload_n hx hb dX1_grant_0 rfl (lv_at hl 0 rfl) ?_
  refine rm_g8 C B dX1_grant_1 ?_
  refine lv_iload_n hx hb dX1_grant_4 rfl (lv_at hl 1 rfl) ?_
  refine lv_aload_n hx hb dX1_grant_5 rfl (lv_at hl 0 rfl) ?_
  refine rm_g8 C B dX1_grant_6 ?_
  refine lv_iload_n hx hb dX1_grant_9 rfl (lv_at hl 1 rfl) ?_
  refine rm_l8 (v := f 8 j) C B hj rfl dX1_grant_10 ?_
  refine lv_iload_n hx hb dX1_grant_11 rfl (lv_at hl 2 rfl) ?_
  refine lv_iadd hx hb dX1_grant_12 ?_
  refine rm_s8 C B hj dX1_grant_13 (fun H locs B => ?_)
  refine lv_aload_n hx hb dX1_grant_14 rfl (lv_at hl 0 rfl) ?_
  refine rm_g1 C B dX1_grant_15 ?_
  refine lv_iload_n hx hb dX1_grant_18 rfl (lv_at hl 1 rfl) ?_
  refine rm_l1 (v := f 1 j) C B hj rfl dX1_grant_19 ?_
  refine lv_if_ne (tgt := 40) hx hb dX1_grant_20 (by decide) (fun c_20 => ?_) (fun c_20 => ?_)
  · refine lv_aload_n hx hb dX1_grant_40 rfl (lv_at hl 0 rfl) ?_
    refine rm_g1 C B dX1_grant_41 ?_
    refine lv_iload_n hx hb dX1_grant_44 rfl (lv_at hl 1 rfl) ?_
    refine rm_l1 (v := f 1 j) C B hj rfl dX1_grant_45 ?_
    refine lv_iconst (v := 1) hx hb dX1_grant_46 (by decide) ?_
    refine lv_icmp_ne (tgt := 73) hx hb dX1_grant_47 (by decide) (fun c_47 => ?_) (fun c_47 => ?_)
    · refine lv_aload_n hx hb dX1_grant_73 rfl (lv_at hl 0 rfl) ?_
      refine rm_g7 C B dX1_grant_74 ?_
      refine lv_iload_n hx hb dX1_grant_77 rfl (lv_at hl 1 rfl) ?_
      refine rm_l7 (v := f 7 j) C B hj rfl dX1_grant_78 ?_
      refine lv_aload_n hx hb dX1_grant_79 rfl (lv_at hl 0 rfl) ?_
      refine rm_g0 C B dX1_grant_80 ?_
      refine lv_icmp_le (tgt := 95) hx hb dX1_grant_83 (by decide) (fun c_83 => ?_) (fun c_83 => ?_)
      · refine lv_aload_n hx hb dX1_grant_95 rfl (lv_at hl 0 rfl) ?_
        refine rm_g0 C B dX1_grant_96 ?_
        refine rl_top (y := rm_from w f j) (by simp [rm_from, c_83]) ?_
        refine lv_istore_n (lv' := [(3, .int (rm_from w f j)), (0, .ref h0), (1, .int (nI j)), (2, .int cost)]) hx hb dX1_grant_99 rfl hl (by decide) rfl (fun ls hl => ?_)
        refine lv_aload_n hx hb dX1_grant_100 rfl (lv_at hl 1 rfl) ?_
        refine rm_g7 C B dX1_grant_101 ?_
        refine lv_iload_n hx hb dX1_grant_104 rfl (lv_at hl 2 rfl) ?_
        refine lv_iload_n hx hb dX1_grant_105 rfl (lv_at hl 0 rfl) ?_
        refine lv_iload_n hx hb dX1_grant_106 rfl (lv_at hl 3 rfl) ?_
        refine lv_aload_n hx hb dX1_grant_107 rfl (lv_at hl 1 rfl) ?_
        refine rm_g4 C B dX1_grant_108 ?_
        refine lv_iload_n hx hb dX1_grant_111 rfl (lv_at hl 2 rfl) ?_
        refine rm_l4 (v := f 4 j) C B hj rfl dX1_grant_112 ?_
        refine lv_imul hx hb dX1_grant_113 ?_
        refine lv_iadd hx hb dX1_grant_114 ?_
        refine rm_s7 C B hj dX1_grant_115 (fun H locs B => ?_)
        exact rl_vret C hr hk B rfl (by simp [rm_grant, c_20, c_47]) dX1_grant_116
      · refine lv_aload_n hx hb dX1_grant_86 rfl (lv_at hl 0 rfl) ?_
        refine rm_g7 C B dX1_grant_87 ?_
        refine lv_iload_n hx hb dX1_grant_90 rfl (lv_at hl 1 rfl) ?_
        refine rm_l7 (v := f 7 j) C B hj rfl dX1_grant_91 ?_
        refine lv_goto (tgt := 99) hx hb dX1_grant_92 (by decide) ?_
        refine rl_top (y := rm_from w f j) (by simp [rm_from, c_83]) ?_
        refine lv_istore_n (lv' := [(3, .int (rm_from w f j)), (0, .ref h0), (1, .int (nI j)), (2, .int cost)]) hx hb dX1_grant_99 rfl hl (by decide) rfl (fun ls hl => ?_)
        refine lv_aload_n hx hb dX1_grant_100 rfl (lv_at hl 1 rfl) ?_
        refine rm_g7 C B dX1_grant_101 ?_
        refine lv_iload_n hx hb dX1_grant_104 rfl (lv_at hl 2 rfl) ?_
        refine lv_iload_n hx hb dX1_grant_105 rfl (lv_at hl 0 rfl) ?_
        refine lv_iload_n hx hb dX1_grant_106 rfl (lv_at hl 3 rfl) ?_
        refine lv_aload_n hx hb dX1_grant_107 rfl (lv_at hl 1 rfl) ?_
        refine rm_g4 C B dX1_grant_108 ?_
        refine lv_iload_n hx hb dX1_grant_111 rfl (lv_at hl 2 rfl) ?_
        refine rm_l4 (v := f 4 j) C B hj rfl dX1_grant_112 ?_
        refine lv_imul hx hb dX1_grant_113 ?_
        refine lv_iadd hx hb dX1_grant_114 ?_
        refine rm_s7 C B hj dX1_grant_115 (fun H locs B => ?_)
        exact rl_vret C hr hk B rfl (by simp [rm_grant, c_20, c_47]) dX1_grant_116
    · refine lv_aload_n hx hb dX1_grant_50 rfl (lv_at hl 0 rfl) ?_
      refine rm_g6 C B dX1_grant_51 ?_
      refine lv_iload_n hx hb dX1_grant_54 rfl (lv_at hl 1 rfl) ?_
      refine lv_bipush (v := 10) hx hb dX1_grant_55 (by decide) ?_
      refine lv_imul hx hb dX1_grant_57 ?_
      refine rl_top (y := nI (j * 10)) (rl_i10z j) ?_
      refine lv_aload_n hx hb dX1_grant_58 rfl (lv_at hl 0 rfl) ?_
      refine rm_g6 C B dX1_grant_59 ?_
      refine lv_iload_n hx hb dX1_grant_62 rfl (lv_at hl 1 rfl) ?_
      refine lv_bipush (v := 10) hx hb dX1_grant_63 (by decide) ?_
      refine lv_imul hx hb dX1_grant_65 ?_
      refine rl_top (y := nI (j * 10)) (rl_i10z j) ?_
      refine rm_l6 (v := f 6 (j * 10)) C B (by omega) rfl dX1_grant_66 ?_
      refine lv_iload_n hx hb dX1_grant_67 rfl (lv_at hl 2 rfl) ?_
      refine lv_iadd hx hb dX1_grant_68 ?_
      refine rm_s6 C B (by omega) dX1_grant_69 (fun H locs B => ?_)
      refine lv_goto (tgt := 116) hx hb dX1_grant_70 (by decide) ?_
      exact rl_vret C hr hk B rfl (by simp [rm_grant, c_20, c_47]) dX1_grant_116
  · refine lv_aload_n hx hb dX1_grant_23 rfl (lv_at hl 0 rfl) ?_
    refine rm_g5 C B dX1_grant_24 ?_
    refine lv_iload_n hx hb dX1_grant_27 rfl (lv_at hl 1 rfl) ?_
    refine lv_aload_n hx hb dX1_grant_28 rfl (lv_at hl 0 rfl) ?_
    refine rm_g5 C B dX1_grant_29 ?_
    refine lv_iload_n hx hb dX1_grant_32 rfl (lv_at hl 1 rfl) ?_
    refine rm_l5 (v := f 5 j) C B hj rfl dX1_grant_33 ?_
    refine lv_iload_n hx hb dX1_grant_34 rfl (lv_at hl 2 rfl) ?_
    refine lv_isub hx hb dX1_grant_35 ?_
    refine rm_s5 C B hj dX1_grant_36 (fun H locs B => ?_)
    refine lv_goto (tgt := 116) hx hb dX1_grant_37 (by decide) ?_
    exact rl_vret C hr hk B rfl (by simp [rm_grant, c_20]) dX1_grant_116
end
section
set_option maxHeartbeats 4000000 in
set_option maxRecDepth 100000 in
theorem rm_askAll_loop2 {p : Program} {l : Launch} {e : Env} {s : State} {m : MethodId} {args : Array Value} {below : List Frame} {meth : Method} {c : Code} {D : va_G} {h0 : Nat} {ar : Nat → Nat} {dA : ClassId} {A : Nat → Prop} (C : rl_Cx p s m args c cX1_askAll 5 RX1 D dA) (hr : meth.sig.returnType = some .int) (hk : meth.locks = false) (hA : ∀ q : Nat, s.heap.size ≤ q → A q)  (w meters cost a : Int32) :
    ∀ (n j : Nat) (f : rl_F), j + n = 4 → ∀ (H : Heap) (locs : List Loc) (ls : Array Slot), rl_B rm_W D A s h0 ar dA w f H locs → lv_has ls 5 [(4, .int (nI j)), (3, .int a), (0, .ref h0), (1, .int meters), (2, .int cost)] → W p l e (rl_rm 2 60) s m args below meth c H locs 0 0 (rl_Qi rm_W below args s D h0 ar dA A (rl_flag a) w (rm_aa2 w meters cost n j f a)) (F0 m 70 ls []) := by
  have hx := C.1
  have hb := C.2.1
  intro n
  induction n with
  | zero =>
    intro j f hi H locs ls B hl
    refine lv_iload hx hb dX1_askAll_70 (lv_at hl 0 rfl) ?_
    refine lv_iconst (v := 4) hx hb dX1_askAll_72 (by decide) ?_
    refine lv_icmp_ge (tgt := 103) hx hb dX1_askAll_73 (by decide) (fun c_73 => ?_) (fun c_73 => ?_)
    · refine lv_iload_n hx hb dX1_askAll_103 rfl (lv_at hl 1 rfl) ?_
      refine lv_if_eq (tgt := 111) hx hb dX1_askAll_104 (by decide) (fun c_104 => ?_) (fun c_104 => ?_)
      · refine lv_iconst (v := 0) hx hb dX1_askAll_111 (by decide) ?_
        exact rl_iret C hr hk B (by simp [rl_flag, c_104]) rfl rfl dX1_askAll_112
      · refine lv_iconst (v := 1) hx hb dX1_askAll_107 (by decide) ?_
        refine lv_goto (tgt := 112) hx hb dX1_askAll_108 (by decide) ?_
        exact rl_iret C hr hk B (by simp [rl_flag, c_104]) rfl rfl dX1_askAll_112
    · exact absurd (by rw [show j = 4 by omega]; decide) c_73
  | succ n ih =>
    intro j f hi H locs ls B hl
    have hj : j < 4 := by omega
    refine lv_iload hx hb dX1_askAll_70 (lv_at hl 0 rfl) ?_
    refine lv_iconst (v := 4) hx hb dX1_askAll_72 (by decide) ?_
    refine lv_icmp_ge (tgt := 103) hx hb dX1_askAll_73 (by decide) (fun c_73 => ?_) (fun c_73 => ?_)
    · exact absurd c_73 (nI_ge hj (by decide))
    · refine lv_iload_n hx hb dX1_askAll_76 rfl (lv_at hl 1 rfl) ?_
      refine lv_if_eq (tgt := 97) hx hb dX1_askAll_77 (by decide) (fun c_77 => ?_) (fun c_77 => ?_)
      · refine lv_iinc (v := nI (j + 1)) (lv' := [(4, .int (nI (j + 1))), (3, .int a), (0, .ref h0), (1, .int meters), (2, .int cost)]) hx hb dX1_askAll_97 hl (k := 0) rfl (nI_1 j) (by decide) rfl (fun ls hl => ?_)
        refine lv_goto (tgt := 70) hx hb dX1_askAll_100 (by decide) ?_
        refine rl_toI rfl rfl (show rm_aa2 w meters cost (n + 1) j f a = rm_aa2 w meters cost n (j + 1) f a by simp [rm_aa2, c_77]) ?_
        exact ih (j + 1) _ (by omega) _ _ _ B (lv_sub hl [0, 1, 2, 3, 4] rfl)
      · refine lv_iload_n hx hb dX1_askAll_80 rfl (lv_at hl 3 rfl) ?_
        refine lv_iload hx hb dX1_askAll_81 (lv_at hl 0 rfl) ?_
        refine lv_ishr hx hb dX1_askAll_83 ?_
        refine lv_iconst (v := 1) hx hb dX1_askAll_84 (by decide) ?_
        refine lv_iand hx hb dX1_askAll_85 ?_
        refine rl_top (y := rl_bit meters j) rfl ?_
        refine lv_iconst (v := 1) hx hb dX1_askAll_86 (by decide) ?_
        refine lv_icmp_ne (tgt := 97) hx hb dX1_askAll_87 (by decide) (fun c_87 => ?_) (fun c_87 => ?_)
        · refine lv_iinc (v := nI (j + 1)) (lv' := [(4, .int (nI (j + 1))), (3, .int a), (0, .ref h0), (1, .int meters), (2, .int cost)]) hx hb dX1_askAll_97 hl (k := 0) rfl (nI_1 j) (by decide) rfl (fun ls hl => ?_)
          refine lv_goto (tgt := 70) hx hb dX1_askAll_100 (by decide) ?_
          refine rl_toI rfl rfl (show rm_aa2 w meters cost (n + 1) j f a = rm_aa2 w meters cost n (j + 1) f a by simp [rm_aa2, c_77, c_87]) ?_
          exact ih (j + 1) _ (by omega) _ _ _ B (lv_sub hl [0, 1, 2, 3, 4] rfl)
        · refine lv_aload_n hx hb dX1_askAll_90 rfl (lv_at hl 2 rfl) ?_
          refine lv_iload hx hb dX1_askAll_91 (lv_at hl 0 rfl) ?_
          refine lv_iload_n hx hb dX1_askAll_93 rfl (lv_at hl 4 rfl) ?_
          refine rl_callv (rest := []) rm_ok rfl C hA B (met_X1_grant (j := j) hj w f cost) (cwV 2 C.2.2.2.2.1 (lw_V q213 q215 qs12 q15 q216) rfl rfl rfl (by decide +kernel) ⟨by decide, by decide⟩) rfl hl.1 rfl (Nat.le_of_ble_eq_true rfl) dX1_askAll_94 ⟨Nat.zero_le _, Nat.zero_le _⟩ (fun H locs B => ?_)
          refine lv_iinc (v := nI (j + 1)) (lv' := [(4, .int (nI (j + 1))), (3, .int a), (0, .ref h0), (1, .int meters), (2, .int cost)]) hx hb dX1_askAll_97 hl (k := 0) rfl (nI_1 j) (by decide) rfl (fun ls hl => ?_)
          refine lv_goto (tgt := 70) hx hb dX1_askAll_100 (by decide) ?_
          refine rl_toI rfl rfl (show rm_aa2 w meters cost (n + 1) j f a = rm_aa2 w meters cost n (j + 1) (rm_grant w f j cost) a by simp [rm_aa2, c_77, c_87]) ?_
          exact ih (j + 1) _ (by omega) _ _ _ B (lv_sub hl [0, 1, 2, 3, 4] rfl)
set_option maxHeartbeats 4000000 in
set_option maxRecDepth 100000 in
theorem rm_askAll_loop1 {p : Program} {l : Launch} {e : Env} {s : State} {m : MethodId} {args : Array Value} {below : List Frame} {meth : Method} {c : Code} {D : va_G} {h0 : Nat} {ar : Nat → Nat} {dA : ClassId} {A : Nat → Prop} (C : rl_Cx p s m args c cX1_askAll 5 RX1 D dA) (hr : meth.sig.returnType = some .int) (hk : meth.locks = false) (hA : ∀ q : Nat, s.heap.size ≤ q → A q)  (w meters cost : Int32) :
    ∀ (n j : Nat) (f : rl_F) (a : Int32), j + n = 4 → ∀ (H : Heap) (locs : List Loc) (ls : Array Slot), rl_B rm_W D A s h0 ar dA w f H locs → lv_has ls 5 [(4, .int (nI j)), (3, .int a), (0, .ref h0), (1, .int meters), (2, .int cost)] → W p l e (rl_rm 2 60) s m args below meth c H locs 0 0 (rl_Qi rm_W below args s D h0 ar dA A (rl_flag (rm_aa1 w meters cost n j f a).2) w (rm_aa2 w meters cost 4 0 (rm_aa1 w meters cost n j f a).1 (rm_aa1 w meters cost n j f a).2)) (F0 m 16 ls []) := by
  have hx := C.1
  have hb := C.2.1
  intro n
  induction n with
  | zero =>
    intro j f a hi H locs ls B hl
    refine lv_iload hx hb dX1_askAll_16 (lv_at hl 0 rfl) ?_
    refine lv_iconst (v := 4) hx hb dX1_askAll_18 (by decide) ?_
    refine lv_icmp_ge (tgt := 67) hx hb dX1_askAll_19 (by decide) (fun c_19 => ?_) (fun c_19 => ?_)
    · refine lv_iconst (v := 0) hx hb dX1_askAll_67 (by decide) ?_
      refine rl_top (y := nI 0) nI_0.symm ?_
      refine lv_istore (lv' := [(4, .int (nI 0)), (3, .int a), (0, .ref h0), (1, .int meters), (2, .int cost)]) hx hb dX1_askAll_68 hl (by decide) rfl (fun ls hl => ?_)
      exact rm_askAll_loop2 C hr hk hA w meters cost a 4 0 f rfl _ _ _ B (lv_sub hl [0, 1, 2, 3, 4] rfl)
    · exact absurd (by rw [show j = 4 by omega]; decide) c_19
  | succ n ih =>
    intro j f a hi H locs ls B hl
    have hj : j < 4 := by omega
    refine lv_iload hx hb dX1_askAll_16 (lv_at hl 0 rfl) ?_
    refine lv_iconst (v := 4) hx hb dX1_askAll_18 (by decide) ?_
    refine lv_icmp_ge (tgt := 67) hx hb dX1_askAll_19 (by decide) (fun c_19 => ?_) (fun c_19 => ?_)
    · exact absurd c_19 (nI_ge hj (by decide))
    · refine lv_iload_n hx hb dX1_askAll_22 rfl (lv_at hl 3 rfl) ?_
      refine lv_iload hx hb dX1_askAll_23 (lv_at hl 0 rfl) ?_
      refine lv_ishr hx hb dX1_askAll_25 ?_
      refine lv_iconst (v := 1) hx hb dX1_askAll_26 (by decide) ?_
      refine lv_iand hx hb dX1_askAll_27 ?_
      refine rl_top (y := rl_bit meters j) rfl ?_
      refine lv_iconst (v := 1) hx hb dX1_askAll_28 (by decide) ?_
      refine lv_icmp_ne (tgt := 61) hx hb dX1_askAll_29 (by decide) (fun c_29 => ?_) (fun c_29 => ?_)
      · refine lv_iinc (v := nI (j + 1)) (lv' := [(4, .int (nI (j + 1))), (3, .int a), (0, .ref h0), (1, .int meters), (2, .int cost)]) hx hb dX1_askAll_61 hl (k := 0) rfl (nI_1 j) (by decide) rfl (fun ls hl => ?_)
        refine lv_goto (tgt := 16) hx hb dX1_askAll_64 (by decide) ?_
        have e9 : rm_aa1 w meters cost (n + 1) j f a = rm_aa1 w meters cost n (j + 1) f a := by simp [rm_aa1, c_29]
        refine rl_toI (by rw [e9]) rfl (by rw [e9]) ?_
        exact ih (j + 1) _ _ (by omega) _ _ _ B (lv_sub hl [0, 1, 2, 3, 4] rfl)
      · refine lv_aload_n hx hb dX1_askAll_32 rfl (lv_at hl 2 rfl) ?_
        refine lv_iload hx hb dX1_askAll_33 (lv_at hl 0 rfl) ?_
        refine lv_iload_n hx hb dX1_askAll_35 rfl (lv_at hl 4 rfl) ?_
        refine lv_iconst (v := 0) hx hb dX1_askAll_36 (by decide) ?_
        refine rl_calli (rest := []) rm_ok rfl C hA B (met_X1_would (j := j) hj w f cost 0) (cwV 3 C.2.2.2.2.1 (lw_V q201 q203 qs9 q15 q204) rfl rfl rfl (by decide +kernel) ⟨by decide, by decide⟩) rfl hl.1 rfl (Nat.le_of_ble_eq_true rfl) dX1_askAll_37 ⟨Nat.zero_le _, Nat.zero_le _⟩ (fun H locs B => ?_)
        refine lv_if_ne (tgt := 61) hx hb dX1_askAll_40 (by decide) (fun c_40 => ?_) (fun c_40 => ?_)
        · refine lv_iinc (v := nI (j + 1)) (lv' := [(4, .int (nI (j + 1))), (3, .int a), (0, .ref h0), (1, .int meters), (2, .int cost)]) hx hb dX1_askAll_61 hl (k := 0) rfl (nI_1 j) (by decide) rfl (fun ls hl => ?_)
          refine lv_goto (tgt := 16) hx hb dX1_askAll_64 (by decide) ?_
          have e9 : rm_aa1 w meters cost (n + 1) j f a = rm_aa1 w meters cost n (j + 1) f a := by simp [rm_aa1, c_29, c_40]
          refine rl_toI (by rw [e9]) rfl (by rw [e9]) ?_
          exact ih (j + 1) _ _ (by omega) _ _ _ B (lv_sub hl [0, 1, 2, 3, 4] rfl)
        · refine lv_iconst (v := 0) hx hb dX1_askAll_43 (by decide) ?_
          refine lv_istore_n (lv' := [(3, .int 0), (4, .int (nI j)), (0, .ref h0), (1, .int meters), (2, .int cost)]) hx hb dX1_askAll_44 rfl hl (by decide) rfl (fun ls hl => ?_)
          refine lv_aload_n hx hb dX1_askAll_45 rfl (lv_at hl 2 rfl) ?_
          refine rm_g9 C B dX1_askAll_46 ?_
          refine lv_iload hx hb dX1_askAll_49 (lv_at hl 1 rfl) ?_
          refine lv_aload_n hx hb dX1_askAll_51 rfl (lv_at hl 2 rfl) ?_
          refine rm_g9 C B dX1_askAll_52 ?_
          refine lv_iload hx hb dX1_askAll_55 (lv_at hl 1 rfl) ?_
          refine rm_l9 (v := f 9 j) C B hj rfl dX1_askAll_57 ?_
          refine lv_iconst (v := 1) hx hb dX1_askAll_58 (by decide) ?_
          refine lv_iadd hx hb dX1_askAll_59 ?_
          refine rm_s9 C B hj dX1_askAll_60 (fun H locs B => ?_)
          refine lv_iinc (v := nI (j + 1)) (lv' := [(4, .int (nI (j + 1))), (3, .int 0), (0, .ref h0), (1, .int meters), (2, .int cost)]) hx hb dX1_askAll_61 hl (k := 1) rfl (nI_1 j) (by decide) rfl (fun ls hl => ?_)
          refine lv_goto (tgt := 16) hx hb dX1_askAll_64 (by decide) ?_
          have B := B.to (w' := w) (f' := rm_deny f j) rfl rfl
          have e9 : rm_aa1 w meters cost (n + 1) j f a = rm_aa1 w meters cost n (j + 1) (rm_deny f j) 0 := by simp [rm_aa1, c_29, c_40]
          refine rl_toI (by rw [e9]) rfl (by rw [e9]) ?_
          exact ih (j + 1) _ _ (by omega) _ _ _ B (lv_sub hl [0, 1, 2, 3, 4] rfl)
set_option maxHeartbeats 4000000 in
set_option maxRecDepth 100000 in
theorem met_X1_askAll {l : Launch} (w : Int32) (f : rl_F) (meters cost : Int32) : rl_Mi rm_W l yX1_askAll cX1_askAll 5 (some .int) (rl_rm 2 60) [.int meters, .int cost] w f (rm_askAllR w f meters cost) w (rm_askAllF w f meters cost) := by
  refine rl_Mi.of RX1 (by decide) rfl (fun _ => Nat.le_of_ble_eq_true rfl) ?_
  intro p e s m args below meth c D h0 ar dA A ls C hr hk hA B hl
  have hx := C.1
  have hb := C.2.1
  have hl : lv_has ls 5 [(0, .ref h0), (1, .int meters), (2, .int cost)] := hl
  refine lv_aload_n hx hb dX1_askAll_0 rfl (lv_at hl 0 rfl) ?_
  refine lv_iload_n hx hb dX1_askAll_1 rfl (lv_at hl 2 rfl) ?_
  refine rl_callP (rest := []) rm_ok rfl C B (met_X1_badCost cost) (cwV 1 C.2.2.2.2.1 (lw_V q197 q199 qs8 q15 q200) rfl rfl rfl (by decide +kernel) ⟨by decide, by decide⟩) rfl hl.1 rfl (Nat.le_of_ble_eq_true rfl) dX1_askAll_2 ⟨Nat.zero_le _, Nat.zero_le _⟩ (fun H locs B => ?_)
  refine lv_if_eq (tgt := 11) hx hb dX1_askAll_5 (by decide) (fun c_5 => ?_) (fun c_5 => ?_)
  · refine lv_iconst (v := 1) hx hb dX1_askAll_11 (by decide) ?_
    refine lv_istore_n (lv' := [(3, .int 1), (0, .ref h0), (1, .int meters), (2, .int cost)]) hx hb dX1_askAll_12 rfl hl (by decide) rfl (fun ls hl => ?_)
    refine lv_iconst (v := 0) hx hb dX1_askAll_13 (by decide) ?_
    refine rl_top (y := nI 0) nI_0.symm ?_
    refine lv_istore (lv' := [(4, .int (nI 0)), (3, .int 1), (0, .ref h0), (1, .int meters), (2, .int cost)]) hx hb dX1_askAll_14 hl (by decide) rfl (fun ls hl => ?_)
    refine rl_toI (r2 := rl_flag (rm_aa1 w meters cost 4 0 f 1).2) (w2 := w) (f2 := rm_aa2 w meters cost 4 0 (rm_aa1 w meters cost 4 0 f 1).1 (rm_aa1 w meters cost 4 0 f 1).2) (by simp [rm_askAllR, c_5]) rfl (by simp [rm_askAllF, c_5]) ?_
    exact rm_askAll_loop1 C hr hk hA w meters cost 4 0 f 1 rfl _ _ _ B (lv_sub hl [0, 1, 2, 3, 4] rfl)
  · refine lv_bipush (v := (-3)) hx hb dX1_askAll_8 (by decide) ?_
    exact rl_iret C hr hk B (by simp [rm_askAllR, c_5]) rfl (by simp [rm_askAllF, c_5]) dX1_askAll_10
set_option maxHeartbeats 4000000 in
set_option maxRecDepth 100000 in
theorem met_X1_ask {l : Launch} (w : Int32) (f : rl_F) (meter cost : Int32) : rl_Mi rm_W l yX1_ask cX1_ask 3 (some .int) (rl_rm 3 90) [.int meter, .int cost] w f (rm_askR w f meter cost) w (rm_askF w f meter cost) := by
  refine rl_Mi.of RX1 (by decide) rfl (fun _ => Nat.le_of_ble_eq_true rfl) ?_
  intro p e s m args below meth c D h0 ar dA A ls C hr hk hA B hl
  have hx := C.1
  have hb := C.2.1
  have hl : lv_has ls 3 [(0, .ref h0), (1, .int meter), (2, .int cost)] := hl
  refine lv_aload_n hx hb dX1_ask_0 rfl (lv_at hl 0 rfl) ?_
  refine lv_iload_n hx hb dX1_ask_1 rfl (lv_at hl 1 rfl) ?_
  refine rl_callP (rest := []) rm_ok rfl C B (met_X1_bad meter) (cwV 1 C.2.2.2.2.1 (lw_V q185 q187 qs7 q15 q188) rfl rfl rfl (by decide +kernel) ⟨by decide, by decide⟩) rfl hl.1 rfl (Nat.le_of_ble_eq_true rfl) dX1_ask_2 ⟨Nat.zero_le _, Nat.zero_le _⟩ (fun H locs B => ?_)
  refine lv_if_eq (tgt := 10) hx hb dX1_ask_5 (by decide) (fun c_5 => ?_) (fun c_5 => ?_)
  · refine lv_aload_n hx hb dX1_ask_10 rfl (lv_at hl 0 rfl) ?_
    refine lv_iconst (v := 1) hx hb dX1_ask_11 (by decide) ?_
    refine lv_iload_n hx hb dX1_ask_12 rfl (lv_at hl 1 rfl) ?_
    refine lv_ishl hx hb dX1_ask_13 ?_
    refine rl_top (y := rl_one meter) rfl ?_
    refine lv_iload_n hx hb dX1_ask_14 rfl (lv_at hl 2 rfl) ?_
    refine rl_calli (rest := []) rm_ok rfl C hA B (met_X1_askAll w f (rl_one meter) cost) (cwV 2 C.2.2.2.2.1 (lw_V q193 q194 q195 q15 q196) rfl rfl rfl (by decide +kernel) ⟨by decide, by decide⟩) rfl hl.1 rfl (Nat.le_of_ble_eq_true rfl) dX1_ask_15 ⟨Nat.zero_le _, Nat.zero_le _⟩ (fun H locs B => ?_)
    exact rl_iret C hr hk B (by simp [rm_askR, c_5]) rfl (by simp [rm_askF, c_5]) dX1_ask_18
  · refine lv_iconst (v := (-1)) hx hb dX1_ask_8 (by decide) ?_
    exact rl_iret C hr hk B (by simp [rm_askR, c_5]) rfl (by simp [rm_askF, c_5]) dX1_ask_9
set_option maxHeartbeats 4000000 in
set_option maxRecDepth 100000 in
theorem rm_pass_inner {p : Program} {l : Launch} {e : Env} {s : State} {m : MethodId} {args : Array Value} {below : List Frame} {meth : Method} {c : Code} {D : va_G} {h0 : Nat} {ar : Nat → Nat} {dA : ClassId} {A : Nat → Prop} (C : rl_Cx p s m args c cX1_pass 4 RX1 D dA) {R : Room} {j : Nat} (hj : j < 4) (w : Int32) (u : Nat) (hu : u ≤ 1000) {Q : State → Prop} :
    ∀ (n : Nat) (f : rl_F), n ≤ 10 → (∀ (H : Heap) (locs : List Loc) (ls : Array Slot), rl_B rm_W D A s h0 ar dA w (rm_sh u j n f) H locs → lv_has ls 4 [(2, .int (nI j)), (0, .ref h0), (1, .int (nI u))] → W p l e R s m args below meth c H locs 0 0 Q (F0 m 103 ls [])) → ∀ (H : Heap) (locs : List Loc) (ls : Array Slot), rl_B rm_W D A s h0 ar dA w f H locs → lv_has ls 4 [(3, .int (nI n + (-1))), (2, .int (nI j)), (0, .ref h0), (1, .int (nI u))] → W p l e R s m args below meth c H locs 0 0 Q (F0 m 60 ls []) := by
  have hx := C.1
  have hb := C.2.1
  intro n
  induction n with
  | zero =>
    intro f hn K H locs ls B hl
    refine lv_iload_n hx hb dX1_pass_60 rfl (lv_at hl 0 rfl) ?_
    refine lv_if_lt (tgt := 103) hx hb dX1_pass_61 (by decide) (fun c_61 => ?_) (fun c_61 => ?_)
    · exact K _ _ _ B (lv_sub hl [1, 2, 3] rfl)
    · exact absurd (by decide) c_61
  | succ n ih =>
    intro f hn K H locs ls B hl
    have hl : lv_has ls 4 [(3, .int (nI n)), (2, .int (nI j)), (0, .ref h0), (1, .int (nI u))] := by rw [pk_m1] at hl; exact hl
    refine lv_iload_n hx hb dX1_pass_60 rfl (lv_at hl 0 rfl) ?_
    refine lv_if_lt (tgt := 103) hx hb dX1_pass_61 (by decide) (fun c_61 => ?_) (fun c_61 => ?_)
    · exact absurd c_61 (nI_pos (by omega))
    · refine lv_aload_n hx hb dX1_pass_64 rfl (lv_at hl 2 rfl) ?_
      refine rm_g6 C B dX1_pass_65 ?_
      refine lv_iload_n hx hb dX1_pass_68 rfl (lv_at hl 1 rfl) ?_
      refine lv_bipush (v := 10) hx hb dX1_pass_69 (by decide) ?_
      refine lv_imul hx hb dX1_pass_71 ?_
      refine lv_iload_n hx hb dX1_pass_72 rfl (lv_at hl 0 rfl) ?_
      refine lv_iadd hx hb dX1_pass_73 ?_
      refine rl_top (y := nI (j * 10 + n)) (rl_i10 j n) ?_
      refine lv_iload_n hx hb dX1_pass_74 rfl (lv_at hl 0 rfl) ?_
      refine lv_iload_n hx hb dX1_pass_75 rfl (lv_at hl 3 rfl) ?_
      refine lv_icmp_lt (tgt := 95) hx hb dX1_pass_76 (by decide) (fun c_76 => ?_) (fun c_76 => ?_)
      · have huk : n < u := (nI_ltI (by omega) (by omega)).mp c_76
        refine lv_iconst (v := 0) hx hb dX1_pass_95 (by decide) ?_
        refine rm_s6 C B (by omega) dX1_pass_96 (fun H locs B => ?_)
        refine lv_iinc (v := nI n + (-1)) (lv' := [(3, .int (nI n + (-1))), (2, .int (nI j)), (0, .ref h0), (1, .int (nI u))]) hx hb dX1_pass_97 hl (k := 0) rfl (by rw [show Int32.ofInt (-1) = -1 from by decide]) (by decide) rfl (fun ls hl => ?_)
        refine lv_goto (tgt := 60) hx hb dX1_pass_100 (by decide) ?_
        have e9 : rm_sh u j (n + 1) f = rm_sh u j n (rl_up f 6 (j * 10 + n) 0) := by simp [rm_sh, huk]
        exact ih _ (by omega) (fun H locs ls B hl => K H locs ls (by rw [e9]; exact B) hl) _ _ _ B hl
      · have huk : ¬ n < u := fun z9 => c_76 ((nI_ltI (by omega) (by omega)).mpr z9)
        refine lv_aload_n hx hb dX1_pass_79 rfl (lv_at hl 2 rfl) ?_
        refine rm_g6 C B dX1_pass_80 ?_
        refine lv_iload_n hx hb dX1_pass_83 rfl (lv_at hl 1 rfl) ?_
        refine lv_bipush (v := 10) hx hb dX1_pass_84 (by decide) ?_
        refine lv_imul hx hb dX1_pass_86 ?_
        refine lv_iload_n hx hb dX1_pass_87 rfl (lv_at hl 0 rfl) ?_
        refine lv_iadd hx hb dX1_pass_88 ?_
        refine rl_top (y := nI (j * 10 + n)) (rl_i10 j n) ?_
        refine lv_iload_n hx hb dX1_pass_89 rfl (lv_at hl 3 rfl) ?_
        refine lv_isub hx hb dX1_pass_90 ?_
        refine rl_top (y := nI (j * 10 + n - u)) (pk_sub (by omega)) ?_
        refine rm_l6 (v := f 6 (j * 10 + n - u)) C B (by omega) rfl dX1_pass_91 ?_
        refine lv_goto (tgt := 96) hx hb dX1_pass_92 (by decide) ?_
        refine rm_s6 C B (by omega) dX1_pass_96 (fun H locs B => ?_)
        refine lv_iinc (v := nI n + (-1)) (lv' := [(3, .int (nI n + (-1))), (2, .int (nI j)), (0, .ref h0), (1, .int (nI u))]) hx hb dX1_pass_97 hl (k := 0) rfl (by rw [show Int32.ofInt (-1) = -1 from by decide]) (by decide) rfl (fun ls hl => ?_)
        refine lv_goto (tgt := 60) hx hb dX1_pass_100 (by decide) ?_
        have e9 : rm_sh u j (n + 1) f = rm_sh u j n (rl_up f 6 (j * 10 + n) (f 6 (j * 10 + n - u))) := by simp [rm_sh, huk]
        exact ih _ (by omega) (fun H locs ls B hl => K H locs ls (by rw [e9]; exact B) hl) _ _ _ B hl
set_option maxHeartbeats 4000000 in
set_option maxRecDepth 100000 in
theorem rm_pass_outer {p : Program} {l : Launch} {e : Env} {s : State} {m : MethodId} {args : Array Value} {below : List Frame} {meth : Method} {c : Code} {D : va_G} {h0 : Nat} {ar : Nat → Nat} {dA : ClassId} {A : Nat → Prop} (C : rl_Cx p s m args c cX1_pass 4 RX1 D dA) (hr : meth.sig.returnType = some .int) (hk : meth.locks = false) (hA : ∀ q : Nat, s.heap.size ≤ q → A q)  (w : Int32) (u : Nat) (hu : u ≤ 1000) :
    ∀ (n j : Nat) (f : rl_F), j + n = 4 → ∀ (H : Heap) (locs : List Loc) (ls : Array Slot), rl_B rm_W D A s h0 ar dA w f H locs → lv_has ls 4 [(2, .int (nI j)), (0, .ref h0), (1, .int (nI u))] → W p l e (rl_rm 1 30) s m args below meth c H locs 0 0 (rl_Qi rm_W below args s D h0 ar dA A w w (rm_ps u n j f)) (F0 m 40 ls []) := by
  have hx := C.1
  have hb := C.2.1
  intro n
  induction n with
  | zero =>
    intro j f hi H locs ls B hl
    refine lv_iload_n hx hb dX1_pass_40 rfl (lv_at hl 0 rfl) ?_
    refine lv_iconst (v := 4) hx hb dX1_pass_41 (by decide) ?_
    refine lv_icmp_ge (tgt := 109) hx hb dX1_pass_42 (by decide) (fun c_42 => ?_) (fun c_42 => ?_)
    · refine lv_aload_n hx hb dX1_pass_109 rfl (lv_at hl 1 rfl) ?_
      refine rm_g0 C B dX1_pass_110 ?_
      exact rl_iret C hr hk B rfl rfl rfl dX1_pass_113
    · exact absurd (by rw [show j = 4 by omega]; decide) c_42
  | succ n ih =>
    intro j f hi H locs ls B hl
    have hj : j < 4 := by omega
    refine lv_iload_n hx hb dX1_pass_40 rfl (lv_at hl 0 rfl) ?_
    refine lv_iconst (v := 4) hx hb dX1_pass_41 (by decide) ?_
    refine lv_icmp_ge (tgt := 109) hx hb dX1_pass_42 (by decide) (fun c_42 => ?_) (fun c_42 => ?_)
    · exact absurd c_42 (nI_ge hj (by decide))
    · refine lv_aload_n hx hb dX1_pass_45 rfl (lv_at hl 1 rfl) ?_
      refine rm_g5 C B dX1_pass_46 ?_
      refine lv_iload_n hx hb dX1_pass_49 rfl (lv_at hl 0 rfl) ?_
      refine lv_aload_n hx hb dX1_pass_50 rfl (lv_at hl 1 rfl) ?_
      refine lv_iload_n hx hb dX1_pass_51 rfl (lv_at hl 0 rfl) ?_
      refine lv_iload_n hx hb dX1_pass_52 rfl (lv_at hl 2 rfl) ?_
      refine rl_calli (rest := [.int (nI j), .ref (ar 5)]) rm_ok rfl C hA B (met_X1_tokensIn (j := j) hj w f (nI u)) (cwV 2 C.2.2.2.2.1 (lw_V q205 q207 qs10 q15 q208) rfl rfl rfl (by decide +kernel) ⟨by decide, by decide⟩) rfl hl.1 rfl (Nat.le_of_ble_eq_true rfl) dX1_pass_53 ⟨Nat.zero_le _, Nat.zero_le _⟩ (fun H locs B => ?_)
      refine rm_s5 C B hj dX1_pass_56 (fun H locs B => ?_)
      refine lv_bipush (v := 9) hx hb dX1_pass_57 (by decide) ?_
      refine rl_top (y := nI 10 + (-1)) (by decide) ?_
      refine lv_istore_n (lv' := [(3, .int (nI 10 + (-1))), (2, .int (nI j)), (0, .ref h0), (1, .int (nI u))]) hx hb dX1_pass_59 rfl hl (by decide) rfl (fun ls hl => ?_)
      refine rm_pass_inner C hj w u hu 10 _ (Nat.le_refl 10) (fun H locs ls B hl => ?_) _ _ _ B (lv_sub hl [0, 1, 2, 3] rfl)
      refine lv_iinc (v := nI (j + 1)) (lv' := [(2, .int (nI (j + 1))), (0, .ref h0), (1, .int (nI u))]) hx hb dX1_pass_103 hl (k := 0) rfl (nI_1 j) (by decide) rfl (fun ls hl => ?_)
      refine lv_goto (tgt := 40) hx hb dX1_pass_106 (by decide) ?_
      exact ih (j + 1) _ (by omega) _ _ _ B (lv_sub hl [0, 1, 2] rfl)
set_option maxHeartbeats 4000000 in
set_option maxRecDepth 100000 in
theorem met_X1_pass {l : Launch} (w : Int32) (f : rl_F) (units : Int32) : rl_Mi rm_W l yX1_pass cX1_pass 4 (some .int) (rl_rm 1 30) [.int units] w f (rl_passR w units) (rl_passW w units) (rm_passF w f units) := by
  refine rl_Mi.of RX1 (by decide) rfl (fun _ => Nat.le_of_ble_eq_true rfl) ?_
  intro p e s m args below meth c D h0 ar dA A ls C hr hk hA B hl
  have hx := C.1
  have hb := C.2.1
  have hl : lv_has ls 4 [(0, .ref h0), (1, .int units)] := hl
  refine lv_iload_n hx hb dX1_pass_0 rfl (lv_at hl 1 rfl) ?_
  refine lv_if_lt (tgt := 11) hx hb dX1_pass_1 (by decide) (fun c_1 => ?_) (fun c_1 => ?_)
  · refine lv_bipush (v := (-3)) hx hb dX1_pass_11 (by decide) ?_
    exact rl_iret C hr hk B (by simp [rl_passR, rl_unitbad, c_1]) (by simp [rl_passW, rl_unitbad, c_1]) (by simp [rm_passF, rl_unitbad, c_1]) dX1_pass_13
  · refine lv_iload_n hx hb dX1_pass_4 rfl (lv_at hl 1 rfl) ?_
    refine lv_sipush (v := 1000) hx hb dX1_pass_5 (by decide) ?_
    refine lv_icmp_le (tgt := 14) hx hb dX1_pass_8 (by decide) (fun c_8 => ?_) (fun c_8 => ?_)
    · refine lv_aload_n hx hb dX1_pass_14 rfl (lv_at hl 0 rfl) ?_
      refine rm_g0 C B dX1_pass_15 ?_
      refine lv_iload_n hx hb dX1_pass_18 rfl (lv_at hl 1 rfl) ?_
      refine lv_iadd hx hb dX1_pass_19 ?_
      refine lv_ldc (own := RX1) (v := 100000) hx hb C.2.2.2.1 (C.2.2.2.2.1 _ q222) dX1_pass_20 ?_
      refine lv_icmp_le (tgt := 28) hx hb dX1_pass_22 (by decide) (fun c_22 => ?_) (fun c_22 => ?_)
      · obtain ⟨u, hu, rfl⟩ := rl_unit_ok c_1 c_8
        refine lv_aload_n hx hb dX1_pass_28 rfl (lv_at hl 0 rfl) ?_
        refine lv_aload_n hx hb dX1_pass_29 rfl (lv_at hl 0 rfl) ?_
        refine rm_g0 C B dX1_pass_30 ?_
        refine lv_iload_n hx hb dX1_pass_33 rfl (lv_at hl 1 rfl) ?_
        refine lv_iadd hx hb dX1_pass_34 ?_
        refine rm_p0 C B dX1_pass_35 (fun H locs B => ?_)
        refine lv_iconst (v := 0) hx hb dX1_pass_38 (by decide) ?_
        refine rl_top (y := nI 0) nI_0.symm ?_
        refine lv_istore_n (lv' := [(2, .int (nI 0)), (0, .ref h0), (1, .int (nI u))]) hx hb dX1_pass_39 rfl hl (by decide) rfl (fun ls hl => ?_)
        refine rl_toI (r2 := w + nI u) (w2 := w + nI u) (f2 := rm_ps u 4 0 f) (by simp [rl_passR, rl_unitbad, c_1, c_8, c_22]) (by simp [rl_passW, rl_unitbad, c_1, c_8, c_22]) (by simp [rm_passF, rl_unitbad, c_1, c_8, c_22, nI_clamp (show u < 2 ^ 31 by omega)]) ?_
        exact rm_pass_outer C hr hk hA (w + nI u) u hu 4 0 f rfl _ _ _ B (lv_sub hl [0, 1, 2] rfl)
      · refine lv_bipush (v := (-4)) hx hb dX1_pass_25 (by decide) ?_
        exact rl_iret C hr hk B (by simp [rl_passR, rl_unitbad, c_1, c_8, c_22]) (by simp [rl_passW, rl_unitbad, c_1, c_8, c_22]) (by simp [rm_passF, rl_unitbad, c_1, c_8, c_22]) dX1_pass_27
    · refine lv_bipush (v := (-3)) hx hb dX1_pass_11 (by decide) ?_
      exact rl_iret C hr hk B (by simp [rl_passR, rl_unitbad, c_1, c_8]) (by simp [rl_passW, rl_unitbad, c_1, c_8]) (by simp [rm_passF, rl_unitbad, c_1, c_8]) dX1_pass_13
set_option maxHeartbeats 4000000 in
set_option maxRecDepth 100000 in
theorem rm_waitFor_loop {p : Program} {l : Launch} {e : Env} {s : State} {m : MethodId} {args : Array Value} {below : List Frame} {meth : Method} {c : Code} {D : va_G} {h0 : Nat} {ar : Nat → Nat} {dA : ClassId} {A : Nat → Prop} (C : rl_Cx p s m args c cX1_waitFor 4 RX1 D dA) (hr : meth.sig.returnType = some .int) (hk : meth.locks = false) (hA : ∀ q : Nat, s.heap.size ≤ q → A q)  {j : Nat} (hj : j < 4) (w cost : Int32) (f : rl_F) :
    ∀ (n k : Nat), k + n = 301 → ∀ (H : Heap) (locs : List Loc) (ls : Array Slot), rl_B rm_W D A s h0 ar dA w f H locs → lv_has ls 4 [(3, .int (nI k)), (0, .ref h0), (1, .int (nI j)), (2, .int cost)] → W p l e (rl_rm 2 60) s m args below meth c H locs 0 0 (rl_Qi rm_W below args s D h0 ar dA A (rm_wt w f j cost n k) w f) (F0 m 23 ls []) := by
  have hx := C.1
  have hb := C.2.1
  intro n
  induction n with
  | zero =>
    intro k hi H locs ls B hl
    refine lv_iload_n hx hb dX1_waitFor_23 rfl (lv_at hl 0 rfl) ?_
    refine lv_sipush (v := 300) hx hb dX1_waitFor_24 (by decide) ?_
    refine lv_icmp_gt (tgt := 48) hx hb dX1_waitFor_27 (by decide) (fun c_27 => ?_) (fun c_27 => ?_)
    · refine lv_bipush (v := (-4)) hx hb dX1_waitFor_48 (by decide) ?_
      exact rl_iret C hr hk B rfl rfl rfl dX1_waitFor_50
    · exact absurd (by rw [show k = 301 by omega]; decide) c_27
  | succ n ih =>
    intro k hi H locs ls B hl
    refine lv_iload_n hx hb dX1_waitFor_23 rfl (lv_at hl 0 rfl) ?_
    refine lv_sipush (v := 300) hx hb dX1_waitFor_24 (by decide) ?_
    refine lv_icmp_gt (tgt := 48) hx hb dX1_waitFor_27 (by decide) (fun c_27 => ?_) (fun c_27 => ?_)
    · exact absurd c_27 (nI_nlt (show k ≤ 300 by omega) (by decide))
    · refine lv_aload_n hx hb dX1_waitFor_30 rfl (lv_at hl 1 rfl) ?_
      refine lv_iload_n hx hb dX1_waitFor_31 rfl (lv_at hl 2 rfl) ?_
      refine lv_iload_n hx hb dX1_waitFor_32 rfl (lv_at hl 3 rfl) ?_
      refine lv_iload_n hx hb dX1_waitFor_33 rfl (lv_at hl 0 rfl) ?_
      refine rl_calli (rest := []) rm_ok rfl C hA B (met_X1_would (j := j) hj w f cost (nI k)) (cwV 3 C.2.2.2.2.1 (lw_V q201 q203 qs9 q15 q204) rfl rfl rfl (by decide +kernel) ⟨by decide, by decide⟩) rfl hl.1 rfl (Nat.le_of_ble_eq_true rfl) dX1_waitFor_34 ⟨Nat.zero_le _, Nat.zero_le _⟩ (fun H locs B => ?_)
      refine lv_if_eq (tgt := 42) hx hb dX1_waitFor_37 (by decide) (fun c_37 => ?_) (fun c_37 => ?_)
      · refine lv_iinc (v := nI (k + 1)) (lv' := [(3, .int (nI (k + 1))), (0, .ref h0), (1, .int (nI j)), (2, .int cost)]) hx hb dX1_waitFor_42 hl (k := 0) rfl (nI_1 k) (by decide) rfl (fun ls hl => ?_)
        refine lv_goto (tgt := 23) hx hb dX1_waitFor_45 (by decide) ?_
        refine rl_toI (show rm_wt w f j cost (n + 1) k = rm_wt w f j cost n (k + 1) by simp [rm_wt, c_37]) rfl rfl ?_
        exact ih (k + 1) (by omega) _ _ _ B (lv_sub hl [0, 1, 2, 3] rfl)
      · refine lv_iload_n hx hb dX1_waitFor_40 rfl (lv_at hl 0 rfl) ?_
        exact rl_iret C hr hk B (by simp [rm_wt, c_37]) rfl rfl dX1_waitFor_41
set_option maxHeartbeats 4000000 in
set_option maxRecDepth 100000 in
theorem met_X1_waitFor {l : Launch} (w : Int32) (f : rl_F) (meter cost : Int32) : rl_Mi rm_W l yX1_waitFor cX1_waitFor 4 (some .int) (rl_rm 2 60) [.int meter, .int cost] w f (rm_waitR w f meter cost) w f := by
  refine rl_Mi.of RX1 (by decide) rfl (fun _ => Nat.le_of_ble_eq_true rfl) ?_
  intro p e s m args below meth c D h0 ar dA A ls C hr hk hA B hl
  have hx := C.1
  have hb := C.2.1
  have hl : lv_has ls 4 [(0, .ref h0), (1, .int meter), (2, .int cost)] := hl
  refine lv_aload_n hx hb dX1_waitFor_0 rfl (lv_at hl 0 rfl) ?_
  refine lv_iload_n hx hb dX1_waitFor_1 rfl (lv_at hl 1 rfl) ?_
  refine rl_callP (rest := []) rm_ok rfl C B (met_X1_bad meter) (cwV 1 C.2.2.2.2.1 (lw_V q185 q187 qs7 q15 q188) rfl rfl rfl (by decide +kernel) ⟨by decide, by decide⟩) rfl hl.1 rfl (Nat.le_of_ble_eq_true rfl) dX1_waitFor_2 ⟨Nat.zero_le _, Nat.zero_le _⟩ (fun H locs B => ?_)
  refine lv_if_eq (tgt := 10) hx hb dX1_waitFor_5 (by decide) (fun c_5 => ?_) (fun c_5 => ?_)
  · refine lv_aload_n hx hb dX1_waitFor_10 rfl (lv_at hl 0 rfl) ?_
    refine lv_iload_n hx hb dX1_waitFor_11 rfl (lv_at hl 2 rfl) ?_
    refine rl_callP (rest := []) rm_ok rfl C B (met_X1_badCost cost) (cwV 1 C.2.2.2.2.1 (lw_V q197 q199 qs8 q15 q200) rfl rfl rfl (by decide +kernel) ⟨by decide, by decide⟩) rfl hl.1 rfl (Nat.le_of_ble_eq_true rfl) dX1_waitFor_12 ⟨Nat.zero_le _, Nat.zero_le _⟩ (fun H locs B => ?_)
    refine lv_if_eq (tgt := 21) hx hb dX1_waitFor_15 (by decide) (fun c_15 => ?_) (fun c_15 => ?_)
    · refine lv_iconst (v := 0) hx hb dX1_waitFor_21 (by decide) ?_
      obtain ⟨j, hj, rfl⟩ := rl_bad_ok c_5
      refine rl_top (y := nI 0) nI_0.symm ?_
      refine lv_istore_n (lv' := [(3, .int (nI 0)), (0, .ref h0), (1, .int (nI j)), (2, .int cost)]) hx hb dX1_waitFor_22 rfl hl (by decide) rfl (fun ls hl => ?_)
      refine rl_toI (r2 := rm_wt w f j cost 301 0) (w2 := w) (f2 := f) (by simp [rm_waitR, rl_cl4 hj, c_5, c_15]) rfl rfl ?_
      exact rm_waitFor_loop C hr hk hA hj w cost f 301 0 rfl _ _ _ B (lv_sub hl [0, 1, 2, 3] rfl)
    · refine lv_bipush (v := (-3)) hx hb dX1_waitFor_18 (by decide) ?_
      exact rl_iret C hr hk B (by simp [rm_waitR, c_5, c_15]) rfl rfl dX1_waitFor_20
  · refine lv_iconst (v := (-1)) hx hb dX1_waitFor_8 (by decide) ?_
    exact rl_iret C hr hk B (by simp [rm_waitR, c_5]) rfl rfl dX1_waitFor_9
set_option maxHeartbeats 4000000 in
set_option maxRecDepth 100000 in
theorem rm_room_loop {p : Program} {l : Launch} {e : Env} {s : State} {m : MethodId} {args : Array Value} {below : List Frame} {meth : Method} {c : Code} {D : va_G} {h0 : Nat} {ar : Nat → Nat} {dA : ClassId} {A : Nat → Prop} (C : rl_Cx p s m args c cX1_room 4 RX1 D dA) (hr : meth.sig.returnType = some .int) (hk : meth.locks = false) (hA : ∀ q : Nat, s.heap.size ≤ q → A q)  {j : Nat} (hj : j < 4) (w : Int32) (f : rl_F) :
    ∀ (n k : Nat) (most : Int32), k + n = 21 → ∀ (H : Heap) (locs : List Loc) (ls : Array Slot), rl_B rm_W D A s h0 ar dA w f H locs → lv_has ls 4 [(3, .int (nI k)), (2, .int most), (0, .ref h0), (1, .int (nI j))] → W p l e (rl_rm 2 60) s m args below meth c H locs 0 0 (rl_Qi rm_W below args s D h0 ar dA A (rm_rm w f j n k most) w f) (F0 m 14 ls []) := by
  have hx := C.1
  have hb := C.2.1
  intro n
  induction n with
  | zero =>
    intro k most hi H locs ls B hl
    refine lv_iload_n hx hb dX1_room_14 rfl (lv_at hl 0 rfl) ?_
    refine lv_bipush (v := 20) hx hb dX1_room_15 (by decide) ?_
    refine lv_icmp_gt (tgt := 38) hx hb dX1_room_17 (by decide) (fun c_17 => ?_) (fun c_17 => ?_)
    · refine lv_iload_n hx hb dX1_room_38 rfl (lv_at hl 1 rfl) ?_
      exact rl_iret C hr hk B rfl rfl rfl dX1_room_39
    · exact absurd (by rw [show k = 21 by omega]; decide) c_17
  | succ n ih =>
    intro k most hi H locs ls B hl
    refine lv_iload_n hx hb dX1_room_14 rfl (lv_at hl 0 rfl) ?_
    refine lv_bipush (v := 20) hx hb dX1_room_15 (by decide) ?_
    refine lv_icmp_gt (tgt := 38) hx hb dX1_room_17 (by decide) (fun c_17 => ?_) (fun c_17 => ?_)
    · exact absurd c_17 (nI_nlt (show k ≤ 20 by omega) (by decide))
    · refine lv_aload_n hx hb dX1_room_20 rfl (lv_at hl 2 rfl) ?_
      refine lv_iload_n hx hb dX1_room_21 rfl (lv_at hl 3 rfl) ?_
      refine lv_iload_n hx hb dX1_room_22 rfl (lv_at hl 0 rfl) ?_
      refine lv_iconst (v := 0) hx hb dX1_room_23 (by decide) ?_
      refine rl_calli (rest := []) rm_ok rfl C hA B (met_X1_would (j := j) hj w f (nI k) 0) (cwV 3 C.2.2.2.2.1 (lw_V q201 q203 qs9 q15 q204) rfl rfl rfl (by decide +kernel) ⟨by decide, by decide⟩) rfl hl.1 rfl (Nat.le_of_ble_eq_true rfl) dX1_room_24 ⟨Nat.zero_le _, Nat.zero_le _⟩ (fun H locs B => ?_)
      refine lv_if_eq (tgt := 32) hx hb dX1_room_27 (by decide) (fun c_27 => ?_) (fun c_27 => ?_)
      · refine lv_iinc (v := nI (k + 1)) (lv' := [(3, .int (nI (k + 1))), (2, .int most), (0, .ref h0), (1, .int (nI j))]) hx hb dX1_room_32 hl (k := 0) rfl (nI_1 k) (by decide) rfl (fun ls hl => ?_)
        refine lv_goto (tgt := 14) hx hb dX1_room_35 (by decide) ?_
        refine rl_toI (show rm_rm w f j (n + 1) k most = rm_rm w f j n (k + 1) most by simp [rm_rm, c_27]) rfl rfl ?_
        exact ih (k + 1) _ (by omega) _ _ _ B (lv_sub hl [0, 1, 2, 3] rfl)
      · refine lv_iload_n hx hb dX1_room_30 rfl (lv_at hl 0 rfl) ?_
        refine lv_istore_n (lv' := [(2, .int (nI k)), (3, .int (nI k)), (0, .ref h0), (1, .int (nI j))]) hx hb dX1_room_31 rfl hl (by decide) rfl (fun ls hl => ?_)
        refine lv_iinc (v := nI (k + 1)) (lv' := [(3, .int (nI (k + 1))), (2, .int (nI k)), (0, .ref h0), (1, .int (nI j))]) hx hb dX1_room_32 hl (k := 1) rfl (nI_1 k) (by decide) rfl (fun ls hl => ?_)
        refine lv_goto (tgt := 14) hx hb dX1_room_35 (by decide) ?_
        refine rl_toI (show rm_rm w f j (n + 1) k most = rm_rm w f j n (k + 1) (nI k) by simp [rm_rm, c_27]) rfl rfl ?_
        exact ih (k + 1) _ (by omega) _ _ _ B (lv_sub hl [0, 1, 2, 3] rfl)
set_option maxHeartbeats 4000000 in
set_option maxRecDepth 100000 in
theorem met_X1_room {l : Launch} (w : Int32) (f : rl_F) (meter : Int32) : rl_Mi rm_W l yX1_room cX1_room 4 (some .int) (rl_rm 2 60) [.int meter] w f (rm_roomR w f meter) w f := by
  refine rl_Mi.of RX1 (by decide) rfl (fun _ => Nat.le_of_ble_eq_true rfl) ?_
  intro p e s m args below meth c D h0 ar dA A ls C hr hk hA B hl
  have hx := C.1
  have hb := C.2.1
  have hl : lv_has ls 4 [(0, .ref h0), (1, .int meter)] := hl
  refine lv_aload_n hx hb dX1_room_0 rfl (lv_at hl 0 rfl) ?_
  refine lv_iload_n hx hb dX1_room_1 rfl (lv_at hl 1 rfl) ?_
  refine rl_callP (rest := []) rm_ok rfl C B (met_X1_bad meter) (cwV 1 C.2.2.2.2.1 (lw_V q185 q187 qs7 q15 q188) rfl rfl rfl (by decide +kernel) ⟨by decide, by decide⟩) rfl hl.1 rfl (Nat.le_of_ble_eq_true rfl) dX1_room_2 ⟨Nat.zero_le _, Nat.zero_le _⟩ (fun H locs B => ?_)
  refine lv_if_eq (tgt := 10) hx hb dX1_room_5 (by decide) (fun c_5 => ?_) (fun c_5 => ?_)
  · refine lv_iconst (v := 0) hx hb dX1_room_10 (by decide) ?_
    refine lv_istore_n (lv' := [(2, .int 0), (0, .ref h0), (1, .int meter)]) hx hb dX1_room_11 rfl hl (by decide) rfl (fun ls hl => ?_)
    refine lv_iconst (v := 1) hx hb dX1_room_12 (by decide) ?_
    obtain ⟨j, hj, rfl⟩ := rl_bad_ok c_5
    refine rl_top (y := nI 1) (by decide) ?_
    refine lv_istore_n (lv' := [(3, .int (nI 1)), (2, .int 0), (0, .ref h0), (1, .int (nI j))]) hx hb dX1_room_13 rfl hl (by decide) rfl (fun ls hl => ?_)
    refine rl_toI (r2 := rm_rm w f j 20 1 0) (w2 := w) (f2 := f) (by simp [rm_roomR, rl_cl4 hj, c_5]) rfl rfl ?_
    exact rm_room_loop C hr hk hA hj w f 20 1 0 rfl _ _ _ B (lv_sub hl [0, 1, 2, 3] rfl)
  · refine lv_iconst (v := (-1)) hx hb dX1_room_8 (by decide) ?_
    exact rl_iret C hr hk B (by simp [rm_roomR, c_5]) rfl rfl dX1_room_9
set_option maxHeartbeats 4000000 in
set_option maxRecDepth 100000 in
theorem met_X1_granted {l : Launch} (w : Int32) (f : rl_F) (meter : Int32) : rl_Mi rm_W l yX1_granted cX1_granted 2 (some .int) (rl_rm 1 30) [.int meter] w f (rl_ent f 8 meter) w f := by
  refine rl_Mi.of RX1 (by decide) rfl (fun _ => Nat.le_of_ble_eq_true rfl) ?_
  intro p e s m args below meth c D h0 ar dA A ls C hr hk hA B hl
  have hx := C.1
  have hb := C.2.1
  have hl : lv_has ls 2 [(0, .ref h0), (1, .int meter)] := hl
  refine lv_aload_n hx hb dX1_granted_0 rfl (lv_at hl 0 rfl) ?_
  refine lv_iload_n hx hb dX1_granted_1 rfl (lv_at hl 1 rfl) ?_
  refine rl_callP (rest := []) rm_ok rfl C B (met_X1_bad meter) (cwV 1 C.2.2.2.2.1 (lw_V q185 q187 qs7 q15 q188) rfl rfl rfl (by decide +kernel) ⟨by decide, by decide⟩) rfl hl.1 rfl (Nat.le_of_ble_eq_true rfl) dX1_granted_2 ⟨Nat.zero_le _, Nat.zero_le _⟩ (fun H locs B => ?_)
  refine lv_if_eq (tgt := 12) hx hb dX1_granted_5 (by decide) (fun c_5 => ?_) (fun c_5 => ?_)
  · obtain ⟨j, hj, rfl⟩ := rl_bad_ok c_5
    refine lv_aload_n hx hb dX1_granted_12 rfl (lv_at hl 0 rfl) ?_
    refine rm_g8 C B dX1_granted_13 ?_
    refine lv_iload_n hx hb dX1_granted_16 rfl (lv_at hl 1 rfl) ?_
    refine rm_l8 (v := f 8 j) C B hj rfl dX1_granted_17 ?_
    exact rl_iret C hr hk B (by simp [rl_ent, c_5, rl_cl4 hj]) rfl rfl dX1_granted_18
  · refine lv_iconst (v := (-1)) hx hb dX1_granted_8 (by decide) ?_
    refine lv_goto (tgt := 18) hx hb dX1_granted_9 (by decide) ?_
    exact rl_iret C hr hk B (by simp [rl_ent, c_5]) rfl rfl dX1_granted_18
set_option maxHeartbeats 4000000 in
set_option maxRecDepth 100000 in
theorem met_X1_denied {l : Launch} (w : Int32) (f : rl_F) (meter : Int32) : rl_Mi rm_W l yX1_denied cX1_denied 2 (some .int) (rl_rm 1 30) [.int meter] w f (rl_ent f 9 meter) w f := by
  refine rl_Mi.of RX1 (by decide) rfl (fun _ => Nat.le_of_ble_eq_true rfl) ?_
  intro p e s m args below meth c D h0 ar dA A ls C hr hk hA B hl
  have hx := C.1
  have hb := C.2.1
  have hl : lv_has ls 2 [(0, .ref h0), (1, .int meter)] := hl
  refine lv_aload_n hx hb dX1_denied_0 rfl (lv_at hl 0 rfl) ?_
  refine lv_iload_n hx hb dX1_denied_1 rfl (lv_at hl 1 rfl) ?_
  refine rl_callP (rest := []) rm_ok rfl C B (met_X1_bad meter) (cwV 1 C.2.2.2.2.1 (lw_V q185 q187 qs7 q15 q188) rfl rfl rfl (by decide +kernel) ⟨by decide, by decide⟩) rfl hl.1 rfl (Nat.le_of_ble_eq_true rfl) dX1_denied_2 ⟨Nat.zero_le _, Nat.zero_le _⟩ (fun H locs B => ?_)
  refine lv_if_eq (tgt := 12) hx hb dX1_denied_5 (by decide) (fun c_5 => ?_) (fun c_5 => ?_)
  · obtain ⟨j, hj, rfl⟩ := rl_bad_ok c_5
    refine lv_aload_n hx hb dX1_denied_12 rfl (lv_at hl 0 rfl) ?_
    refine rm_g9 C B dX1_denied_13 ?_
    refine lv_iload_n hx hb dX1_denied_16 rfl (lv_at hl 1 rfl) ?_
    refine rm_l9 (v := f 9 j) C B hj rfl dX1_denied_17 ?_
    exact rl_iret C hr hk B (by simp [rl_ent, c_5, rl_cl4 hj]) rfl rfl dX1_denied_18
  · refine lv_iconst (v := (-1)) hx hb dX1_denied_8 (by decide) ?_
    refine lv_goto (tgt := 18) hx hb dX1_denied_9 (by decide) ?_
    exact rl_iret C hr hk B (by simp [rl_ent, c_5]) rfl rfl dX1_denied_18
set_option maxHeartbeats 4000000 in
set_option maxRecDepth 100000 in
theorem met_X1_time {l : Launch} (w : Int32) (f : rl_F) : rl_Mi rm_W l yX1_time cX1_time 1 (some .int) (rl_rm 0 0) [] w f w w f := by
  refine rl_Mi.of RX1 (by decide) rfl (fun _ => Nat.le_of_ble_eq_true rfl) ?_
  intro p e s m args below meth c D h0 ar dA A ls C hr hk hA B hl
  have hx := C.1
  have hb := C.2.1
  have hl : lv_has ls 1 [(0, .ref h0)] := hl
  refine lv_aload_n hx hb dX1_time_0 rfl (lv_at hl 0 rfl) ?_
  refine rm_g0 C B dX1_time_1 ?_
  exact rl_iret C hr hk B rfl rfl rfl dX1_time_4
end
section
theorem rl_cA {D : va_G} {cl : List vw_C} {dA cA : ClassId} {s : State} (h : va_K D cl [(dA, .int), (cA, .int)] s) : dA = cA := by
  have h1 : s.vm.findClass ("[" ++ FieldType.int.toString) = some dA := (h.2 0 (dA, .int) rfl).2
  have h2 : s.vm.findClass ("[" ++ FieldType.int.toString) = some cA := (h.2 1 (cA, .int) rfl).2
  exact Option.some.inj (h1.symm.trans h2)
def rl_z : rl_F := fun _ _ => 0
set_option maxHeartbeats 4000000 in
set_option maxRecDepth 100000 in
theorem rx_init_loop {p : Program} {l : Launch} {e : Env} {s : State} {m : MethodId} {args : Array Value} {below : List Frame} {meth : Method} {c : Code} {D : va_G} {h0 : Nat} {ar : Nat → Nat} {dA : ClassId} {A : Nat → Prop} (C : rl_Cx p s m args c cX0_init 2 RX0 D dA) (hA : ∀ q : Nat, s.heap.size ≤ q → A q) {Q : State → Prop} :
    ∀ (n j : Nat) (f : rl_F), j + n = 4 → (∀ (H : Heap) (locs : List Loc) (ls : Array Slot), rl_B rx_W D A s h0 ar dA 0 (rx_init n j f) H locs → W p l e ({ frames := 1, cells := 14, slots := 304, locals := 30 } : Room) s m args below meth c H locs 14 304 Q (F0 m 129 ls [])) → ∀ (H : Heap) (locs : List Loc) (ls : Array Slot), rl_B rx_W D A s h0 ar dA 0 f H locs → lv_has ls 2 [(1, .int (nI j)), (0, .ref h0)] → W p l e ({ frames := 1, cells := 14, slots := 304, locals := 30 } : Room) s m args below meth c H locs 14 304 Q (F0 m 108 ls []) := by
  have hx := C.1
  have hb := C.2.1
  intro n
  induction n with
  | zero =>
    intro j f hi K H locs ls B hl
    refine lv_iload_n hx hb dX0_init_108 rfl (lv_at hl 0 rfl) ?_
    refine lv_iconst (v := 4) hx hb dX0_init_109 (by decide) ?_
    refine lv_icmp_ge (tgt := 129) hx hb dX0_init_110 (by decide) (fun c_110 => ?_) (fun c_110 => ?_)
    · exact K _ _ _ B
    · exact absurd (by rw [show j = 4 by omega]; decide) c_110
  | succ n ih =>
    intro j f hi K H locs ls B hl
    have hj : j < 4 := by omega
    refine lv_iload_n hx hb dX0_init_108 rfl (lv_at hl 0 rfl) ?_
    refine lv_iconst (v := 4) hx hb dX0_init_109 (by decide) ?_
    refine lv_icmp_ge (tgt := 129) hx hb dX0_init_110 (by decide) (fun c_110 => ?_) (fun c_110 => ?_)
    · exact absurd c_110 (nI_ge hj (by decide))
    · refine lv_aload_n hx hb dX0_init_113 rfl (lv_at hl 1 rfl) ?_
      refine lv_iload_n hx hb dX0_init_114 rfl (lv_at hl 0 rfl) ?_
      refine lv_iconst (v := 0) hx hb dX0_init_115 (by decide) ?_
      refine lv_iconst (v := 1) hx hb dX0_init_116 (by decide) ?_
      refine lv_bipush (v := 10) hx hb dX0_init_117 (by decide) ?_
      refine lv_iconst (v := 1) hx hb dX0_init_119 (by decide) ?_
      refine rl_callv (rest := []) rx_ok rfl C hA B (met_X0_start (j := j) hj 0 f 0 1 10 1) (cwV 5 C.2.2.2.2.1 (lw_V q24 q26 qs0 q14 q27) rfl rfl rfl (by decide +kernel) ⟨by decide, by decide⟩) rfl hl.1 rfl (Nat.le_of_ble_eq_true rfl) dX0_init_120 ⟨Nat.le_refl _, Nat.le_refl _⟩ (fun H locs B => ?_)
      refine lv_iinc (v := nI (j + 1)) (lv' := [(1, .int (nI (j + 1))), (0, .ref h0)]) hx hb dX0_init_123 hl (k := 0) rfl (nI_1 j) (by decide) rfl (fun ls hl => ?_)
      refine lv_goto (tgt := 108) hx hb dX0_init_126 (by decide) ?_
      exact ih (j + 1) _ (by omega) K _ _ _ B hl
abbrev rx_init_w0 (h0 : Nat) : va_W := [(h0, .inr (0, [.int 0, .null, .null, .null, .null, .null, .null, .null, .null, .null, .null, .null, .null, .null, .null]))]
set_option maxHeartbeats 4000000 in
set_option maxRecDepth 100000 in
theorem met_X0_init (l : Launch) (D : va_G) (h0 sz : Nat) : Met l yX0_init (ws_ yX0_init cX0_init 2 none) ({ frames := 1, cells := 14, slots := 304, locals := 30 } : Room) (va_Pc [.ref h0] (fun U => U.heap.size = sz ∧ va_P D rl_cl (rx_init_w0 h0) U.heap ∧ va_K D rl_cl [] U ∧ va_D (fun _ => True) (rx_init_w0 h0))) (va_Qv (fun (_ : (Nat → Nat) × ClassId) => True) (fun u t => rl_Po rx_W D h0 u.1 u.2 (va_A (rx_init_w0 h0) sz) 0 (rx_init 4 0 rl_z) t) (va_A (rx_init_w0 h0) sz)) 14 304 (va_A (rx_init_w0 h0) sz) := by
  refine Met.ofW (cc := cX0_init) (maxL := 2) (ret := none) (by decide) rfl ?_
  intro p e s m args below meth c s₁ B hml hv
  obtain ⟨rfl, hsz, hP, hK, hD0⟩ := hv
  have hx := B.exec
  have hb := B.bytes
  have hr := B.returns
  have hts := atoms_spec (ws := ws_ yX0_init cX0_init 2 none) B.pre
  have hts : ∀ w ∈ lw_all, w.before ([.ref h0] : List Value).toArray s = true := fun w h => hts w (List.mem_cons_of_mem _ h)
  have hown : s.vm.findClass RX0 = some m.cls := findClass_of_methodNamed B.named
  have hlocks := B.notSynchronized
  have hin : meth.name = "<init>" := (name_of_methodNamed B.named B.method).1
  subst hsz
  have hD := hD0.self (sz := s.heap.size)
  generalize hAe : va_A (rx_init_w0 h0) s.heap.size = A at hD ⊢
  have hA : ∀ q : Nat, s.heap.size ≤ q → A q := fun q h => by rw [← hAe]; exact Or.inr h
  have hS : va_S A s.heap s.heap [] := va_S.rf
  have hl := lv_entry ([.ref h0]) (n := 2) (Nat.le_of_ble_eq_true rfl)
  rw [lg_entry_eq]
  generalize (lg_sl ([.ref h0]) ++ List.replicate (2 - (lg_sl ([.ref h0])).length) Slot.unset).toArray = ls at hl ⊢
  have hl : lv_has ls 2 [(0, .ref h0)] := hl
  refine lv_aload_n hx hb dX0_init_0 rfl (lv_at hl 0 rfl) ?_
  refine W.objInit hx hb hown (hts _ q21) (hts _ q22) (hts _ q23) rfl (by rw [hml]; exact hl.1) rfl dX0_init_1 (Nat.le_of_ble_eq_true rfl) (Nat.le_of_ble_eq_true rfl) ?_
  refine W.eq (g2 := F0 m 4 ls []) rfl ?_
  refine lv_aload_n hx hb dX0_init_4 rfl (lv_at hl 0 rfl) ?_
  refine lv_iconst (v := 4) hx hb dX0_init_5 (by decide) ?_
  refine va_newa (atype := .int) (N' := 4) (a0 := (4, .inl (fun _ => 0))) (ty := .int) hx hb (hts _ q75) rfl hK hP hD hS hA (fun _ => rfl) (by decide) (by decide) (by decide) (Nat.le_of_ble_eq_true rfl) (Nat.le_of_ble_eq_true rfl) dX0_init_6 (fun a1 dA H hK hP hD hS => ?_)
  have hK : va_K D rl_cl [(dA, .int)] s := hK
  have hP : va_P D rl_cl [(h0, .inr (0, [.int 0, .null, .null, .null, .null, .null, .null, .null, .null, .null, .null, .null, .null, .null, .null])), (a1, .inl (dA, 4, .inl (fun _ => 0)))] H := hP
  have hD : va_D A [(h0, .inr (0, [.int 0, .null, .null, .null, .null, .null, .null, .null, .null, .null, .null, .null, .null, .null, .null])), (a1, .inl (dA, 4, .inl (fun _ => 0)))] := hD
  refine va_putF (D := D) (ci := 0) (v := .ref a1) (ty := .array .int) (C := RX0) (T := TX0) (N := 15) hx hb hts in_X0 tyX0 tyX0_ok nmX0 hown hK hP hD hS 0 rfl rfl 1 (by decide) (hts _ q30) (fun _ h9 => h9) rfl hin rfl (by decide +kernel) rfl rfl (Nat.le_of_ble_eq_true rfl) dX0_init_8 (fun H locs hP hD hS => ?_)
  have hP : va_P D rl_cl [(h0, .inr (0, [.int 0, .ref a1, .null, .null, .null, .null, .null, .null, .null, .null, .null, .null, .null, .null, .null])), (a1, .inl (dA, 4, .inl (fun _ => 0)))] H := hP
  have hD : va_D A [(h0, .inr (0, [.int 0, .ref a1, .null, .null, .null, .null, .null, .null, .null, .null, .null, .null, .null, .null, .null])), (a1, .inl (dA, 4, .inl (fun _ => 0)))] := hD
  refine lv_aload_n hx hb dX0_init_11 rfl (lv_at hl 0 rfl) ?_
  refine lv_iconst (v := 4) hx hb dX0_init_12 (by decide) ?_
  refine va_newa (atype := .int) (N' := 4) (a0 := (4, .inl (fun _ => 0))) (ty := .int) hx hb (hts _ q75) rfl hK hP hD hS hA (fun _ => rfl) (by decide) (by decide) (by decide) (Nat.le_of_ble_eq_true rfl) (Nat.le_of_ble_eq_true rfl) dX0_init_13 (fun a2 cA H hK hP hD hS => ?_)
  obtain rfl := rl_cA hK
  have hK := hK.sub (tys' := [(dA, .int)]) [0] rfl
  have hP : va_P D rl_cl [(h0, .inr (0, [.int 0, .ref a1, .null, .null, .null, .null, .null, .null, .null, .null, .null, .null, .null, .null, .null])), (a1, .inl (dA, 4, .inl (fun _ => 0))), (a2, .inl (dA, 4, .inl (fun _ => 0)))] H := hP
  have hD : va_D A [(h0, .inr (0, [.int 0, .ref a1, .null, .null, .null, .null, .null, .null, .null, .null, .null, .null, .null, .null, .null])), (a1, .inl (dA, 4, .inl (fun _ => 0))), (a2, .inl (dA, 4, .inl (fun _ => 0)))] := hD
  refine va_putF (D := D) (ci := 0) (v := .ref a2) (ty := .array .int) (C := RX0) (T := TX0) (N := 15) hx hb hts in_X0 tyX0 tyX0_ok nmX0 hown hK hP hD hS 0 rfl rfl 2 (by decide) (hts _ q31) (fun _ h9 => h9) rfl hin rfl (by decide +kernel) rfl rfl (Nat.le_of_ble_eq_true rfl) dX0_init_15 (fun H locs hP hD hS => ?_)
  have hP : va_P D rl_cl [(h0, .inr (0, [.int 0, .ref a1, .ref a2, .null, .null, .null, .null, .null, .null, .null, .null, .null, .null, .null, .null])), (a1, .inl (dA, 4, .inl (fun _ => 0))), (a2, .inl (dA, 4, .inl (fun _ => 0)))] H := hP
  have hD : va_D A [(h0, .inr (0, [.int 0, .ref a1, .ref a2, .null, .null, .null, .null, .null, .null, .null, .null, .null, .null, .null, .null])), (a1, .inl (dA, 4, .inl (fun _ => 0))), (a2, .inl (dA, 4, .inl (fun _ => 0)))] := hD
  refine lv_aload_n hx hb dX0_init_18 rfl (lv_at hl 0 rfl) ?_
  refine lv_iconst (v := 4) hx hb dX0_init_19 (by decide) ?_
  refine va_newa (atype := .int) (N' := 4) (a0 := (4, .inl (fun _ => 0))) (ty := .int) hx hb (hts _ q75) rfl hK hP hD hS hA (fun _ => rfl) (by decide) (by decide) (by decide) (Nat.le_of_ble_eq_true rfl) (Nat.le_of_ble_eq_true rfl) dX0_init_20 (fun a3 cA H hK hP hD hS => ?_)
  obtain rfl := rl_cA hK
  have hK := hK.sub (tys' := [(dA, .int)]) [0] rfl
  have hP : va_P D rl_cl [(h0, .inr (0, [.int 0, .ref a1, .ref a2, .null, .null, .null, .null, .null, .null, .null, .null, .null, .null, .null, .null])), (a1, .inl (dA, 4, .inl (fun _ => 0))), (a2, .inl (dA, 4, .inl (fun _ => 0))), (a3, .inl (dA, 4, .inl (fun _ => 0)))] H := hP
  have hD : va_D A [(h0, .inr (0, [.int 0, .ref a1, .ref a2, .null, .null, .null, .null, .null, .null, .null, .null, .null, .null, .null, .null])), (a1, .inl (dA, 4, .inl (fun _ => 0))), (a2, .inl (dA, 4, .inl (fun _ => 0))), (a3, .inl (dA, 4, .inl (fun _ => 0)))] := hD
  refine va_putF (D := D) (ci := 0) (v := .ref a3) (ty := .array .int) (C := RX0) (T := TX0) (N := 15) hx hb hts in_X0 tyX0 tyX0_ok nmX0 hown hK hP hD hS 0 rfl rfl 3 (by decide) (hts _ q32) (fun _ h9 => h9) rfl hin rfl (by decide +kernel) rfl rfl (Nat.le_of_ble_eq_true rfl) dX0_init_22 (fun H locs hP hD hS => ?_)
  have hP : va_P D rl_cl [(h0, .inr (0, [.int 0, .ref a1, .ref a2, .ref a3, .null, .null, .null, .null, .null, .null, .null, .null, .null, .null, .null])), (a1, .inl (dA, 4, .inl (fun _ => 0))), (a2, .inl (dA, 4, .inl (fun _ => 0))), (a3, .inl (dA, 4, .inl (fun _ => 0)))] H := hP
  have hD : va_D A [(h0, .inr (0, [.int 0, .ref a1, .ref a2, .ref a3, .null, .null, .null, .null, .null, .null, .null, .null, .null, .null, .null])), (a1, .inl (dA, 4, .inl (fun _ => 0))), (a2, .inl (dA, 4, .inl (fun _ => 0))), (a3, .inl (dA, 4, .inl (fun _ => 0)))] := hD
  refine lv_aload_n hx hb dX0_init_25 rfl (lv_at hl 0 rfl) ?_
  refine lv_iconst (v := 4) hx hb dX0_init_26 (by decide) ?_
  refine va_newa (atype := .int) (N' := 4) (a0 := (4, .inl (fun _ => 0))) (ty := .int) hx hb (hts _ q75) rfl hK hP hD hS hA (fun _ => rfl) (by decide) (by decide) (by decide) (Nat.le_of_ble_eq_true rfl) (Nat.le_of_ble_eq_true rfl) dX0_init_27 (fun a4 cA H hK hP hD hS => ?_)
  obtain rfl := rl_cA hK
  have hK := hK.sub (tys' := [(dA, .int)]) [0] rfl
  have hP : va_P D rl_cl [(h0, .inr (0, [.int 0, .ref a1, .ref a2, .ref a3, .null, .null, .null, .null, .null, .null, .null, .null, .null, .null, .null])), (a1, .inl (dA, 4, .inl (fun _ => 0))), (a2, .inl (dA, 4, .inl (fun _ => 0))), (a3, .inl (dA, 4, .inl (fun _ => 0))), (a4, .inl (dA, 4, .inl (fun _ => 0)))] H := hP
  have hD : va_D A [(h0, .inr (0, [.int 0, .ref a1, .ref a2, .ref a3, .null, .null, .null, .null, .null, .null, .null, .null, .null, .null, .null])), (a1, .inl (dA, 4, .inl (fun _ => 0))), (a2, .inl (dA, 4, .inl (fun _ => 0))), (a3, .inl (dA, 4, .inl (fun _ => 0))), (a4, .inl (dA, 4, .inl (fun _ => 0)))] := hD
  refine va_putF (D := D) (ci := 0) (v := .ref a4) (ty := .array .int) (C := RX0) (T := TX0) (N := 15) hx hb hts in_X0 tyX0 tyX0_ok nmX0 hown hK hP hD hS 0 rfl rfl 4 (by decide) (hts _ q33) (fun _ h9 => h9) rfl hin rfl (by decide +kernel) rfl rfl (Nat.le_of_ble_eq_true rfl) dX0_init_29 (fun H locs hP hD hS => ?_)
  have hP : va_P D rl_cl [(h0, .inr (0, [.int 0, .ref a1, .ref a2, .ref a3, .ref a4, .null, .null, .null, .null, .null, .null, .null, .null, .null, .null])), (a1, .inl (dA, 4, .inl (fun _ => 0))), (a2, .inl (dA, 4, .inl (fun _ => 0))), (a3, .inl (dA, 4, .inl (fun _ => 0))), (a4, .inl (dA, 4, .inl (fun _ => 0)))] H := hP
  have hD : va_D A [(h0, .inr (0, [.int 0, .ref a1, .ref a2, .ref a3, .ref a4, .null, .null, .null, .null, .null, .null, .null, .null, .null, .null])), (a1, .inl (dA, 4, .inl (fun _ => 0))), (a2, .inl (dA, 4, .inl (fun _ => 0))), (a3, .inl (dA, 4, .inl (fun _ => 0))), (a4, .inl (dA, 4, .inl (fun _ => 0)))] := hD
  refine lv_aload_n hx hb dX0_init_32 rfl (lv_at hl 0 rfl) ?_
  refine lv_iconst (v := 4) hx hb dX0_init_33 (by decide) ?_
  refine va_newa (atype := .int) (N' := 4) (a0 := (4, .inl (fun _ => 0))) (ty := .int) hx hb (hts _ q75) rfl hK hP hD hS hA (fun _ => rfl) (by decide) (by decide) (by decide) (Nat.le_of_ble_eq_true rfl) (Nat.le_of_ble_eq_true rfl) dX0_init_34 (fun a5 cA H hK hP hD hS => ?_)
  obtain rfl := rl_cA hK
  have hK := hK.sub (tys' := [(dA, .int)]) [0] rfl
  have hP : va_P D rl_cl [(h0, .inr (0, [.int 0, .ref a1, .ref a2, .ref a3, .ref a4, .null, .null, .null, .null, .null, .null, .null, .null, .null, .null])), (a1, .inl (dA, 4, .inl (fun _ => 0))), (a2, .inl (dA, 4, .inl (fun _ => 0))), (a3, .inl (dA, 4, .inl (fun _ => 0))), (a4, .inl (dA, 4, .inl (fun _ => 0))), (a5, .inl (dA, 4, .inl (fun _ => 0)))] H := hP
  have hD : va_D A [(h0, .inr (0, [.int 0, .ref a1, .ref a2, .ref a3, .ref a4, .null, .null, .null, .null, .null, .null, .null, .null, .null, .null])), (a1, .inl (dA, 4, .inl (fun _ => 0))), (a2, .inl (dA, 4, .inl (fun _ => 0))), (a3, .inl (dA, 4, .inl (fun _ => 0))), (a4, .inl (dA, 4, .inl (fun _ => 0))), (a5, .inl (dA, 4, .inl (fun _ => 0)))] := hD
  refine va_putF (D := D) (ci := 0) (v := .ref a5) (ty := .array .int) (C := RX0) (T := TX0) (N := 15) hx hb hts in_X0 tyX0 tyX0_ok nmX0 hown hK hP hD hS 0 rfl rfl 5 (by decide) (hts _ q34) (fun _ h9 => h9) rfl hin rfl (by decide +kernel) rfl rfl (Nat.le_of_ble_eq_true rfl) dX0_init_36 (fun H locs hP hD hS => ?_)
  have hP : va_P D rl_cl [(h0, .inr (0, [.int 0, .ref a1, .ref a2, .ref a3, .ref a4, .ref a5, .null, .null, .null, .null, .null, .null, .null, .null, .null])), (a1, .inl (dA, 4, .inl (fun _ => 0))), (a2, .inl (dA, 4, .inl (fun _ => 0))), (a3, .inl (dA, 4, .inl (fun _ => 0))), (a4, .inl (dA, 4, .inl (fun _ => 0))), (a5, .inl (dA, 4, .inl (fun _ => 0)))] H := hP
  have hD : va_D A [(h0, .inr (0, [.int 0, .ref a1, .ref a2, .ref a3, .ref a4, .ref a5, .null, .null, .null, .null, .null, .null, .null, .null, .null])), (a1, .inl (dA, 4, .inl (fun _ => 0))), (a2, .inl (dA, 4, .inl (fun _ => 0))), (a3, .inl (dA, 4, .inl (fun _ => 0))), (a4, .inl (dA, 4, .inl (fun _ => 0))), (a5, .inl (dA, 4, .inl (fun _ => 0)))] := hD
  refine lv_aload_n hx hb dX0_init_39 rfl (lv_at hl 0 rfl) ?_
  refine lv_iconst (v := 4) hx hb dX0_init_40 (by decide) ?_
  refine va_newa (atype := .int) (N' := 4) (a0 := (4, .inl (fun _ => 0))) (ty := .int) hx hb (hts _ q75) rfl hK hP hD hS hA (fun _ => rfl) (by decide) (by decide) (by decide) (Nat.le_of_ble_eq_true rfl) (Nat.le_of_ble_eq_true rfl) dX0_init_41 (fun a6 cA H hK hP hD hS => ?_)
  obtain rfl := rl_cA hK
  have hK := hK.sub (tys' := [(dA, .int)]) [0] rfl
  have hP : va_P D rl_cl [(h0, .inr (0, [.int 0, .ref a1, .ref a2, .ref a3, .ref a4, .ref a5, .null, .null, .null, .null, .null, .null, .null, .null, .null])), (a1, .inl (dA, 4, .inl (fun _ => 0))), (a2, .inl (dA, 4, .inl (fun _ => 0))), (a3, .inl (dA, 4, .inl (fun _ => 0))), (a4, .inl (dA, 4, .inl (fun _ => 0))), (a5, .inl (dA, 4, .inl (fun _ => 0))), (a6, .inl (dA, 4, .inl (fun _ => 0)))] H := hP
  have hD : va_D A [(h0, .inr (0, [.int 0, .ref a1, .ref a2, .ref a3, .ref a4, .ref a5, .null, .null, .null, .null, .null, .null, .null, .null, .null])), (a1, .inl (dA, 4, .inl (fun _ => 0))), (a2, .inl (dA, 4, .inl (fun _ => 0))), (a3, .inl (dA, 4, .inl (fun _ => 0))), (a4, .inl (dA, 4, .inl (fun _ => 0))), (a5, .inl (dA, 4, .inl (fun _ => 0))), (a6, .inl (dA, 4, .inl (fun _ => 0)))] := hD
  refine va_putF (D := D) (ci := 0) (v := .ref a6) (ty := .array .int) (C := RX0) (T := TX0) (N := 15) hx hb hts in_X0 tyX0 tyX0_ok nmX0 hown hK hP hD hS 0 rfl rfl 6 (by decide) (hts _ q35) (fun _ h9 => h9) rfl hin rfl (by decide +kernel) rfl rfl (Nat.le_of_ble_eq_true rfl) dX0_init_43 (fun H locs hP hD hS => ?_)
  have hP : va_P D rl_cl [(h0, .inr (0, [.int 0, .ref a1, .ref a2, .ref a3, .ref a4, .ref a5, .ref a6, .null, .null, .null, .null, .null, .null, .null, .null])), (a1, .inl (dA, 4, .inl (fun _ => 0))), (a2, .inl (dA, 4, .inl (fun _ => 0))), (a3, .inl (dA, 4, .inl (fun _ => 0))), (a4, .inl (dA, 4, .inl (fun _ => 0))), (a5, .inl (dA, 4, .inl (fun _ => 0))), (a6, .inl (dA, 4, .inl (fun _ => 0)))] H := hP
  have hD : va_D A [(h0, .inr (0, [.int 0, .ref a1, .ref a2, .ref a3, .ref a4, .ref a5, .ref a6, .null, .null, .null, .null, .null, .null, .null, .null])), (a1, .inl (dA, 4, .inl (fun _ => 0))), (a2, .inl (dA, 4, .inl (fun _ => 0))), (a3, .inl (dA, 4, .inl (fun _ => 0))), (a4, .inl (dA, 4, .inl (fun _ => 0))), (a5, .inl (dA, 4, .inl (fun _ => 0))), (a6, .inl (dA, 4, .inl (fun _ => 0)))] := hD
  refine lv_aload_n hx hb dX0_init_46 rfl (lv_at hl 0 rfl) ?_
  refine lv_iconst (v := 4) hx hb dX0_init_47 (by decide) ?_
  refine va_newa (atype := .int) (N' := 4) (a0 := (4, .inl (fun _ => 0))) (ty := .int) hx hb (hts _ q75) rfl hK hP hD hS hA (fun _ => rfl) (by decide) (by decide) (by decide) (Nat.le_of_ble_eq_true rfl) (Nat.le_of_ble_eq_true rfl) dX0_init_48 (fun a7 cA H hK hP hD hS => ?_)
  obtain rfl := rl_cA hK
  have hK := hK.sub (tys' := [(dA, .int)]) [0] rfl
  have hP : va_P D rl_cl [(h0, .inr (0, [.int 0, .ref a1, .ref a2, .ref a3, .ref a4, .ref a5, .ref a6, .null, .null, .null, .null, .null, .null, .null, .null])), (a1, .inl (dA, 4, .inl (fun _ => 0))), (a2, .inl (dA, 4, .inl (fun _ => 0))), (a3, .inl (dA, 4, .inl (fun _ => 0))), (a4, .inl (dA, 4, .inl (fun _ => 0))), (a5, .inl (dA, 4, .inl (fun _ => 0))), (a6, .inl (dA, 4, .inl (fun _ => 0))), (a7, .inl (dA, 4, .inl (fun _ => 0)))] H := hP
  have hD : va_D A [(h0, .inr (0, [.int 0, .ref a1, .ref a2, .ref a3, .ref a4, .ref a5, .ref a6, .null, .null, .null, .null, .null, .null, .null, .null])), (a1, .inl (dA, 4, .inl (fun _ => 0))), (a2, .inl (dA, 4, .inl (fun _ => 0))), (a3, .inl (dA, 4, .inl (fun _ => 0))), (a4, .inl (dA, 4, .inl (fun _ => 0))), (a5, .inl (dA, 4, .inl (fun _ => 0))), (a6, .inl (dA, 4, .inl (fun _ => 0))), (a7, .inl (dA, 4, .inl (fun _ => 0)))] := hD
  refine va_putF (D := D) (ci := 0) (v := .ref a7) (ty := .array .int) (C := RX0) (T := TX0) (N := 15) hx hb hts in_X0 tyX0 tyX0_ok nmX0 hown hK hP hD hS 0 rfl rfl 7 (by decide) (hts _ q36) (fun _ h9 => h9) rfl hin rfl (by decide +kernel) rfl rfl (Nat.le_of_ble_eq_true rfl) dX0_init_50 (fun H locs hP hD hS => ?_)
  have hP : va_P D rl_cl [(h0, .inr (0, [.int 0, .ref a1, .ref a2, .ref a3, .ref a4, .ref a5, .ref a6, .ref a7, .null, .null, .null, .null, .null, .null, .null])), (a1, .inl (dA, 4, .inl (fun _ => 0))), (a2, .inl (dA, 4, .inl (fun _ => 0))), (a3, .inl (dA, 4, .inl (fun _ => 0))), (a4, .inl (dA, 4, .inl (fun _ => 0))), (a5, .inl (dA, 4, .inl (fun _ => 0))), (a6, .inl (dA, 4, .inl (fun _ => 0))), (a7, .inl (dA, 4, .inl (fun _ => 0)))] H := hP
  have hD : va_D A [(h0, .inr (0, [.int 0, .ref a1, .ref a2, .ref a3, .ref a4, .ref a5, .ref a6, .ref a7, .null, .null, .null, .null, .null, .null, .null])), (a1, .inl (dA, 4, .inl (fun _ => 0))), (a2, .inl (dA, 4, .inl (fun _ => 0))), (a3, .inl (dA, 4, .inl (fun _ => 0))), (a4, .inl (dA, 4, .inl (fun _ => 0))), (a5, .inl (dA, 4, .inl (fun _ => 0))), (a6, .inl (dA, 4, .inl (fun _ => 0))), (a7, .inl (dA, 4, .inl (fun _ => 0)))] := hD
  refine lv_aload_n hx hb dX0_init_53 rfl (lv_at hl 0 rfl) ?_
  refine lv_iconst (v := 4) hx hb dX0_init_54 (by decide) ?_
  refine va_newa (atype := .int) (N' := 4) (a0 := (4, .inl (fun _ => 0))) (ty := .int) hx hb (hts _ q75) rfl hK hP hD hS hA (fun _ => rfl) (by decide) (by decide) (by decide) (Nat.le_of_ble_eq_true rfl) (Nat.le_of_ble_eq_true rfl) dX0_init_55 (fun a8 cA H hK hP hD hS => ?_)
  obtain rfl := rl_cA hK
  have hK := hK.sub (tys' := [(dA, .int)]) [0] rfl
  have hP : va_P D rl_cl [(h0, .inr (0, [.int 0, .ref a1, .ref a2, .ref a3, .ref a4, .ref a5, .ref a6, .ref a7, .null, .null, .null, .null, .null, .null, .null])), (a1, .inl (dA, 4, .inl (fun _ => 0))), (a2, .inl (dA, 4, .inl (fun _ => 0))), (a3, .inl (dA, 4, .inl (fun _ => 0))), (a4, .inl (dA, 4, .inl (fun _ => 0))), (a5, .inl (dA, 4, .inl (fun _ => 0))), (a6, .inl (dA, 4, .inl (fun _ => 0))), (a7, .inl (dA, 4, .inl (fun _ => 0))), (a8, .inl (dA, 4, .inl (fun _ => 0)))] H := hP
  have hD : va_D A [(h0, .inr (0, [.int 0, .ref a1, .ref a2, .ref a3, .ref a4, .ref a5, .ref a6, .ref a7, .null, .null, .null, .null, .null, .null, .null])), (a1, .inl (dA, 4, .inl (fun _ => 0))), (a2, .inl (dA, 4, .inl (fun _ => 0))), (a3, .inl (dA, 4, .inl (fun _ => 0))), (a4, .inl (dA, 4, .inl (fun _ => 0))), (a5, .inl (dA, 4, .inl (fun _ => 0))), (a6, .inl (dA, 4, .inl (fun _ => 0))), (a7, .inl (dA, 4, .inl (fun _ => 0))), (a8, .inl (dA, 4, .inl (fun _ => 0)))] := hD
  refine va_putF (D := D) (ci := 0) (v := .ref a8) (ty := .array .int) (C := RX0) (T := TX0) (N := 15) hx hb hts in_X0 tyX0 tyX0_ok nmX0 hown hK hP hD hS 0 rfl rfl 8 (by decide) (hts _ q37) (fun _ h9 => h9) rfl hin rfl (by decide +kernel) rfl rfl (Nat.le_of_ble_eq_true rfl) dX0_init_57 (fun H locs hP hD hS => ?_)
  have hP : va_P D rl_cl [(h0, .inr (0, [.int 0, .ref a1, .ref a2, .ref a3, .ref a4, .ref a5, .ref a6, .ref a7, .ref a8, .null, .null, .null, .null, .null, .null])), (a1, .inl (dA, 4, .inl (fun _ => 0))), (a2, .inl (dA, 4, .inl (fun _ => 0))), (a3, .inl (dA, 4, .inl (fun _ => 0))), (a4, .inl (dA, 4, .inl (fun _ => 0))), (a5, .inl (dA, 4, .inl (fun _ => 0))), (a6, .inl (dA, 4, .inl (fun _ => 0))), (a7, .inl (dA, 4, .inl (fun _ => 0))), (a8, .inl (dA, 4, .inl (fun _ => 0)))] H := hP
  have hD : va_D A [(h0, .inr (0, [.int 0, .ref a1, .ref a2, .ref a3, .ref a4, .ref a5, .ref a6, .ref a7, .ref a8, .null, .null, .null, .null, .null, .null])), (a1, .inl (dA, 4, .inl (fun _ => 0))), (a2, .inl (dA, 4, .inl (fun _ => 0))), (a3, .inl (dA, 4, .inl (fun _ => 0))), (a4, .inl (dA, 4, .inl (fun _ => 0))), (a5, .inl (dA, 4, .inl (fun _ => 0))), (a6, .inl (dA, 4, .inl (fun _ => 0))), (a7, .inl (dA, 4, .inl (fun _ => 0))), (a8, .inl (dA, 4, .inl (fun _ => 0)))] := hD
  refine lv_aload_n hx hb dX0_init_60 rfl (lv_at hl 0 rfl) ?_
  refine lv_iconst (v := 4) hx hb dX0_init_61 (by decide) ?_
  refine va_newa (atype := .int) (N' := 4) (a0 := (4, .inl (fun _ => 0))) (ty := .int) hx hb (hts _ q75) rfl hK hP hD hS hA (fun _ => rfl) (by decide) (by decide) (by decide) (Nat.le_of_ble_eq_true rfl) (Nat.le_of_ble_eq_true rfl) dX0_init_62 (fun a9 cA H hK hP hD hS => ?_)
  obtain rfl := rl_cA hK
  have hK := hK.sub (tys' := [(dA, .int)]) [0] rfl
  have hP : va_P D rl_cl [(h0, .inr (0, [.int 0, .ref a1, .ref a2, .ref a3, .ref a4, .ref a5, .ref a6, .ref a7, .ref a8, .null, .null, .null, .null, .null, .null])), (a1, .inl (dA, 4, .inl (fun _ => 0))), (a2, .inl (dA, 4, .inl (fun _ => 0))), (a3, .inl (dA, 4, .inl (fun _ => 0))), (a4, .inl (dA, 4, .inl (fun _ => 0))), (a5, .inl (dA, 4, .inl (fun _ => 0))), (a6, .inl (dA, 4, .inl (fun _ => 0))), (a7, .inl (dA, 4, .inl (fun _ => 0))), (a8, .inl (dA, 4, .inl (fun _ => 0))), (a9, .inl (dA, 4, .inl (fun _ => 0)))] H := hP
  have hD : va_D A [(h0, .inr (0, [.int 0, .ref a1, .ref a2, .ref a3, .ref a4, .ref a5, .ref a6, .ref a7, .ref a8, .null, .null, .null, .null, .null, .null])), (a1, .inl (dA, 4, .inl (fun _ => 0))), (a2, .inl (dA, 4, .inl (fun _ => 0))), (a3, .inl (dA, 4, .inl (fun _ => 0))), (a4, .inl (dA, 4, .inl (fun _ => 0))), (a5, .inl (dA, 4, .inl (fun _ => 0))), (a6, .inl (dA, 4, .inl (fun _ => 0))), (a7, .inl (dA, 4, .inl (fun _ => 0))), (a8, .inl (dA, 4, .inl (fun _ => 0))), (a9, .inl (dA, 4, .inl (fun _ => 0)))] := hD
  refine va_putF (D := D) (ci := 0) (v := .ref a9) (ty := .array .int) (C := RX0) (T := TX0) (N := 15) hx hb hts in_X0 tyX0 tyX0_ok nmX0 hown hK hP hD hS 0 rfl rfl 9 (by decide) (hts _ q38) (fun _ h9 => h9) rfl hin rfl (by decide +kernel) rfl rfl (Nat.le_of_ble_eq_true rfl) dX0_init_64 (fun H locs hP hD hS => ?_)
  have hP : va_P D rl_cl [(h0, .inr (0, [.int 0, .ref a1, .ref a2, .ref a3, .ref a4, .ref a5, .ref a6, .ref a7, .ref a8, .ref a9, .null, .null, .null, .null, .null])), (a1, .inl (dA, 4, .inl (fun _ => 0))), (a2, .inl (dA, 4, .inl (fun _ => 0))), (a3, .inl (dA, 4, .inl (fun _ => 0))), (a4, .inl (dA, 4, .inl (fun _ => 0))), (a5, .inl (dA, 4, .inl (fun _ => 0))), (a6, .inl (dA, 4, .inl (fun _ => 0))), (a7, .inl (dA, 4, .inl (fun _ => 0))), (a8, .inl (dA, 4, .inl (fun _ => 0))), (a9, .inl (dA, 4, .inl (fun _ => 0)))] H := hP
  have hD : va_D A [(h0, .inr (0, [.int 0, .ref a1, .ref a2, .ref a3, .ref a4, .ref a5, .ref a6, .ref a7, .ref a8, .ref a9, .null, .null, .null, .null, .null])), (a1, .inl (dA, 4, .inl (fun _ => 0))), (a2, .inl (dA, 4, .inl (fun _ => 0))), (a3, .inl (dA, 4, .inl (fun _ => 0))), (a4, .inl (dA, 4, .inl (fun _ => 0))), (a5, .inl (dA, 4, .inl (fun _ => 0))), (a6, .inl (dA, 4, .inl (fun _ => 0))), (a7, .inl (dA, 4, .inl (fun _ => 0))), (a8, .inl (dA, 4, .inl (fun _ => 0))), (a9, .inl (dA, 4, .inl (fun _ => 0)))] := hD
  refine lv_aload_n hx hb dX0_init_67 rfl (lv_at hl 0 rfl) ?_
  refine lv_iconst (v := 4) hx hb dX0_init_68 (by decide) ?_
  refine va_newa (atype := .int) (N' := 4) (a0 := (4, .inl (fun _ => 0))) (ty := .int) hx hb (hts _ q75) rfl hK hP hD hS hA (fun _ => rfl) (by decide) (by decide) (by decide) (Nat.le_of_ble_eq_true rfl) (Nat.le_of_ble_eq_true rfl) dX0_init_69 (fun a10 cA H hK hP hD hS => ?_)
  obtain rfl := rl_cA hK
  have hK := hK.sub (tys' := [(dA, .int)]) [0] rfl
  have hP : va_P D rl_cl [(h0, .inr (0, [.int 0, .ref a1, .ref a2, .ref a3, .ref a4, .ref a5, .ref a6, .ref a7, .ref a8, .ref a9, .null, .null, .null, .null, .null])), (a1, .inl (dA, 4, .inl (fun _ => 0))), (a2, .inl (dA, 4, .inl (fun _ => 0))), (a3, .inl (dA, 4, .inl (fun _ => 0))), (a4, .inl (dA, 4, .inl (fun _ => 0))), (a5, .inl (dA, 4, .inl (fun _ => 0))), (a6, .inl (dA, 4, .inl (fun _ => 0))), (a7, .inl (dA, 4, .inl (fun _ => 0))), (a8, .inl (dA, 4, .inl (fun _ => 0))), (a9, .inl (dA, 4, .inl (fun _ => 0))), (a10, .inl (dA, 4, .inl (fun _ => 0)))] H := hP
  have hD : va_D A [(h0, .inr (0, [.int 0, .ref a1, .ref a2, .ref a3, .ref a4, .ref a5, .ref a6, .ref a7, .ref a8, .ref a9, .null, .null, .null, .null, .null])), (a1, .inl (dA, 4, .inl (fun _ => 0))), (a2, .inl (dA, 4, .inl (fun _ => 0))), (a3, .inl (dA, 4, .inl (fun _ => 0))), (a4, .inl (dA, 4, .inl (fun _ => 0))), (a5, .inl (dA, 4, .inl (fun _ => 0))), (a6, .inl (dA, 4, .inl (fun _ => 0))), (a7, .inl (dA, 4, .inl (fun _ => 0))), (a8, .inl (dA, 4, .inl (fun _ => 0))), (a9, .inl (dA, 4, .inl (fun _ => 0))), (a10, .inl (dA, 4, .inl (fun _ => 0)))] := hD
  refine va_putF (D := D) (ci := 0) (v := .ref a10) (ty := .array .int) (C := RX0) (T := TX0) (N := 15) hx hb hts in_X0 tyX0 tyX0_ok nmX0 hown hK hP hD hS 0 rfl rfl 10 (by decide) (hts _ q39) (fun _ h9 => h9) rfl hin rfl (by decide +kernel) rfl rfl (Nat.le_of_ble_eq_true rfl) dX0_init_71 (fun H locs hP hD hS => ?_)
  have hP : va_P D rl_cl [(h0, .inr (0, [.int 0, .ref a1, .ref a2, .ref a3, .ref a4, .ref a5, .ref a6, .ref a7, .ref a8, .ref a9, .ref a10, .null, .null, .null, .null])), (a1, .inl (dA, 4, .inl (fun _ => 0))), (a2, .inl (dA, 4, .inl (fun _ => 0))), (a3, .inl (dA, 4, .inl (fun _ => 0))), (a4, .inl (dA, 4, .inl (fun _ => 0))), (a5, .inl (dA, 4, .inl (fun _ => 0))), (a6, .inl (dA, 4, .inl (fun _ => 0))), (a7, .inl (dA, 4, .inl (fun _ => 0))), (a8, .inl (dA, 4, .inl (fun _ => 0))), (a9, .inl (dA, 4, .inl (fun _ => 0))), (a10, .inl (dA, 4, .inl (fun _ => 0)))] H := hP
  have hD : va_D A [(h0, .inr (0, [.int 0, .ref a1, .ref a2, .ref a3, .ref a4, .ref a5, .ref a6, .ref a7, .ref a8, .ref a9, .ref a10, .null, .null, .null, .null])), (a1, .inl (dA, 4, .inl (fun _ => 0))), (a2, .inl (dA, 4, .inl (fun _ => 0))), (a3, .inl (dA, 4, .inl (fun _ => 0))), (a4, .inl (dA, 4, .inl (fun _ => 0))), (a5, .inl (dA, 4, .inl (fun _ => 0))), (a6, .inl (dA, 4, .inl (fun _ => 0))), (a7, .inl (dA, 4, .inl (fun _ => 0))), (a8, .inl (dA, 4, .inl (fun _ => 0))), (a9, .inl (dA, 4, .inl (fun _ => 0))), (a10, .inl (dA, 4, .inl (fun _ => 0)))] := hD
  refine lv_aload_n hx hb dX0_init_74 rfl (lv_at hl 0 rfl) ?_
  refine lv_iconst (v := 4) hx hb dX0_init_75 (by decide) ?_
  refine va_newa (atype := .int) (N' := 4) (a0 := (4, .inl (fun _ => 0))) (ty := .int) hx hb (hts _ q75) rfl hK hP hD hS hA (fun _ => rfl) (by decide) (by decide) (by decide) (Nat.le_of_ble_eq_true rfl) (Nat.le_of_ble_eq_true rfl) dX0_init_76 (fun a11 cA H hK hP hD hS => ?_)
  obtain rfl := rl_cA hK
  have hK := hK.sub (tys' := [(dA, .int)]) [0] rfl
  have hP : va_P D rl_cl [(h0, .inr (0, [.int 0, .ref a1, .ref a2, .ref a3, .ref a4, .ref a5, .ref a6, .ref a7, .ref a8, .ref a9, .ref a10, .null, .null, .null, .null])), (a1, .inl (dA, 4, .inl (fun _ => 0))), (a2, .inl (dA, 4, .inl (fun _ => 0))), (a3, .inl (dA, 4, .inl (fun _ => 0))), (a4, .inl (dA, 4, .inl (fun _ => 0))), (a5, .inl (dA, 4, .inl (fun _ => 0))), (a6, .inl (dA, 4, .inl (fun _ => 0))), (a7, .inl (dA, 4, .inl (fun _ => 0))), (a8, .inl (dA, 4, .inl (fun _ => 0))), (a9, .inl (dA, 4, .inl (fun _ => 0))), (a10, .inl (dA, 4, .inl (fun _ => 0))), (a11, .inl (dA, 4, .inl (fun _ => 0)))] H := hP
  have hD : va_D A [(h0, .inr (0, [.int 0, .ref a1, .ref a2, .ref a3, .ref a4, .ref a5, .ref a6, .ref a7, .ref a8, .ref a9, .ref a10, .null, .null, .null, .null])), (a1, .inl (dA, 4, .inl (fun _ => 0))), (a2, .inl (dA, 4, .inl (fun _ => 0))), (a3, .inl (dA, 4, .inl (fun _ => 0))), (a4, .inl (dA, 4, .inl (fun _ => 0))), (a5, .inl (dA, 4, .inl (fun _ => 0))), (a6, .inl (dA, 4, .inl (fun _ => 0))), (a7, .inl (dA, 4, .inl (fun _ => 0))), (a8, .inl (dA, 4, .inl (fun _ => 0))), (a9, .inl (dA, 4, .inl (fun _ => 0))), (a10, .inl (dA, 4, .inl (fun _ => 0))), (a11, .inl (dA, 4, .inl (fun _ => 0)))] := hD
  refine va_putF (D := D) (ci := 0) (v := .ref a11) (ty := .array .int) (C := RX0) (T := TX0) (N := 15) hx hb hts in_X0 tyX0 tyX0_ok nmX0 hown hK hP hD hS 0 rfl rfl 11 (by decide) (hts _ q40) (fun _ h9 => h9) rfl hin rfl (by decide +kernel) rfl rfl (Nat.le_of_ble_eq_true rfl) dX0_init_78 (fun H locs hP hD hS => ?_)
  have hP : va_P D rl_cl [(h0, .inr (0, [.int 0, .ref a1, .ref a2, .ref a3, .ref a4, .ref a5, .ref a6, .ref a7, .ref a8, .ref a9, .ref a10, .ref a11, .null, .null, .null])), (a1, .inl (dA, 4, .inl (fun _ => 0))), (a2, .inl (dA, 4, .inl (fun _ => 0))), (a3, .inl (dA, 4, .inl (fun _ => 0))), (a4, .inl (dA, 4, .inl (fun _ => 0))), (a5, .inl (dA, 4, .inl (fun _ => 0))), (a6, .inl (dA, 4, .inl (fun _ => 0))), (a7, .inl (dA, 4, .inl (fun _ => 0))), (a8, .inl (dA, 4, .inl (fun _ => 0))), (a9, .inl (dA, 4, .inl (fun _ => 0))), (a10, .inl (dA, 4, .inl (fun _ => 0))), (a11, .inl (dA, 4, .inl (fun _ => 0)))] H := hP
  have hD : va_D A [(h0, .inr (0, [.int 0, .ref a1, .ref a2, .ref a3, .ref a4, .ref a5, .ref a6, .ref a7, .ref a8, .ref a9, .ref a10, .ref a11, .null, .null, .null])), (a1, .inl (dA, 4, .inl (fun _ => 0))), (a2, .inl (dA, 4, .inl (fun _ => 0))), (a3, .inl (dA, 4, .inl (fun _ => 0))), (a4, .inl (dA, 4, .inl (fun _ => 0))), (a5, .inl (dA, 4, .inl (fun _ => 0))), (a6, .inl (dA, 4, .inl (fun _ => 0))), (a7, .inl (dA, 4, .inl (fun _ => 0))), (a8, .inl (dA, 4, .inl (fun _ => 0))), (a9, .inl (dA, 4, .inl (fun _ => 0))), (a10, .inl (dA, 4, .inl (fun _ => 0))), (a11, .inl (dA, 4, .inl (fun _ => 0)))] := hD
  refine lv_aload_n hx hb dX0_init_81 rfl (lv_at hl 0 rfl) ?_
  refine lv_iconst (v := 4) hx hb dX0_init_82 (by decide) ?_
  refine va_newa (atype := .int) (N' := 4) (a0 := (4, .inl (fun _ => 0))) (ty := .int) hx hb (hts _ q75) rfl hK hP hD hS hA (fun _ => rfl) (by decide) (by decide) (by decide) (Nat.le_of_ble_eq_true rfl) (Nat.le_of_ble_eq_true rfl) dX0_init_83 (fun a12 cA H hK hP hD hS => ?_)
  obtain rfl := rl_cA hK
  have hK := hK.sub (tys' := [(dA, .int)]) [0] rfl
  have hP : va_P D rl_cl [(h0, .inr (0, [.int 0, .ref a1, .ref a2, .ref a3, .ref a4, .ref a5, .ref a6, .ref a7, .ref a8, .ref a9, .ref a10, .ref a11, .null, .null, .null])), (a1, .inl (dA, 4, .inl (fun _ => 0))), (a2, .inl (dA, 4, .inl (fun _ => 0))), (a3, .inl (dA, 4, .inl (fun _ => 0))), (a4, .inl (dA, 4, .inl (fun _ => 0))), (a5, .inl (dA, 4, .inl (fun _ => 0))), (a6, .inl (dA, 4, .inl (fun _ => 0))), (a7, .inl (dA, 4, .inl (fun _ => 0))), (a8, .inl (dA, 4, .inl (fun _ => 0))), (a9, .inl (dA, 4, .inl (fun _ => 0))), (a10, .inl (dA, 4, .inl (fun _ => 0))), (a11, .inl (dA, 4, .inl (fun _ => 0))), (a12, .inl (dA, 4, .inl (fun _ => 0)))] H := hP
  have hD : va_D A [(h0, .inr (0, [.int 0, .ref a1, .ref a2, .ref a3, .ref a4, .ref a5, .ref a6, .ref a7, .ref a8, .ref a9, .ref a10, .ref a11, .null, .null, .null])), (a1, .inl (dA, 4, .inl (fun _ => 0))), (a2, .inl (dA, 4, .inl (fun _ => 0))), (a3, .inl (dA, 4, .inl (fun _ => 0))), (a4, .inl (dA, 4, .inl (fun _ => 0))), (a5, .inl (dA, 4, .inl (fun _ => 0))), (a6, .inl (dA, 4, .inl (fun _ => 0))), (a7, .inl (dA, 4, .inl (fun _ => 0))), (a8, .inl (dA, 4, .inl (fun _ => 0))), (a9, .inl (dA, 4, .inl (fun _ => 0))), (a10, .inl (dA, 4, .inl (fun _ => 0))), (a11, .inl (dA, 4, .inl (fun _ => 0))), (a12, .inl (dA, 4, .inl (fun _ => 0)))] := hD
  refine va_putF (D := D) (ci := 0) (v := .ref a12) (ty := .array .int) (C := RX0) (T := TX0) (N := 15) hx hb hts in_X0 tyX0 tyX0_ok nmX0 hown hK hP hD hS 0 rfl rfl 12 (by decide) (hts _ q41) (fun _ h9 => h9) rfl hin rfl (by decide +kernel) rfl rfl (Nat.le_of_ble_eq_true rfl) dX0_init_85 (fun H locs hP hD hS => ?_)
  have hP : va_P D rl_cl [(h0, .inr (0, [.int 0, .ref a1, .ref a2, .ref a3, .ref a4, .ref a5, .ref a6, .ref a7, .ref a8, .ref a9, .ref a10, .ref a11, .ref a12, .null, .null])), (a1, .inl (dA, 4, .inl (fun _ => 0))), (a2, .inl (dA, 4, .inl (fun _ => 0))), (a3, .inl (dA, 4, .inl (fun _ => 0))), (a4, .inl (dA, 4, .inl (fun _ => 0))), (a5, .inl (dA, 4, .inl (fun _ => 0))), (a6, .inl (dA, 4, .inl (fun _ => 0))), (a7, .inl (dA, 4, .inl (fun _ => 0))), (a8, .inl (dA, 4, .inl (fun _ => 0))), (a9, .inl (dA, 4, .inl (fun _ => 0))), (a10, .inl (dA, 4, .inl (fun _ => 0))), (a11, .inl (dA, 4, .inl (fun _ => 0))), (a12, .inl (dA, 4, .inl (fun _ => 0)))] H := hP
  have hD : va_D A [(h0, .inr (0, [.int 0, .ref a1, .ref a2, .ref a3, .ref a4, .ref a5, .ref a6, .ref a7, .ref a8, .ref a9, .ref a10, .ref a11, .ref a12, .null, .null])), (a1, .inl (dA, 4, .inl (fun _ => 0))), (a2, .inl (dA, 4, .inl (fun _ => 0))), (a3, .inl (dA, 4, .inl (fun _ => 0))), (a4, .inl (dA, 4, .inl (fun _ => 0))), (a5, .inl (dA, 4, .inl (fun _ => 0))), (a6, .inl (dA, 4, .inl (fun _ => 0))), (a7, .inl (dA, 4, .inl (fun _ => 0))), (a8, .inl (dA, 4, .inl (fun _ => 0))), (a9, .inl (dA, 4, .inl (fun _ => 0))), (a10, .inl (dA, 4, .inl (fun _ => 0))), (a11, .inl (dA, 4, .inl (fun _ => 0))), (a12, .inl (dA, 4, .inl (fun _ => 0)))] := hD
  refine lv_aload_n hx hb dX0_init_88 rfl (lv_at hl 0 rfl) ?_
  refine lv_sipush (v := 128) hx hb dX0_init_89 (by decide) ?_
  refine va_newa (atype := .int) (N' := 128) (a0 := (128, .inl (fun _ => 0))) (ty := .int) hx hb (hts _ q75) rfl hK hP hD hS hA (fun _ => rfl) (by decide) (by decide) (by decide) (Nat.le_of_ble_eq_true rfl) (Nat.le_of_ble_eq_true rfl) dX0_init_92 (fun a13 cA H hK hP hD hS => ?_)
  obtain rfl := rl_cA hK
  have hK := hK.sub (tys' := [(dA, .int)]) [0] rfl
  have hP : va_P D rl_cl [(h0, .inr (0, [.int 0, .ref a1, .ref a2, .ref a3, .ref a4, .ref a5, .ref a6, .ref a7, .ref a8, .ref a9, .ref a10, .ref a11, .ref a12, .null, .null])), (a1, .inl (dA, 4, .inl (fun _ => 0))), (a2, .inl (dA, 4, .inl (fun _ => 0))), (a3, .inl (dA, 4, .inl (fun _ => 0))), (a4, .inl (dA, 4, .inl (fun _ => 0))), (a5, .inl (dA, 4, .inl (fun _ => 0))), (a6, .inl (dA, 4, .inl (fun _ => 0))), (a7, .inl (dA, 4, .inl (fun _ => 0))), (a8, .inl (dA, 4, .inl (fun _ => 0))), (a9, .inl (dA, 4, .inl (fun _ => 0))), (a10, .inl (dA, 4, .inl (fun _ => 0))), (a11, .inl (dA, 4, .inl (fun _ => 0))), (a12, .inl (dA, 4, .inl (fun _ => 0))), (a13, .inl (dA, 128, .inl (fun _ => 0)))] H := hP
  have hD : va_D A [(h0, .inr (0, [.int 0, .ref a1, .ref a2, .ref a3, .ref a4, .ref a5, .ref a6, .ref a7, .ref a8, .ref a9, .ref a10, .ref a11, .ref a12, .null, .null])), (a1, .inl (dA, 4, .inl (fun _ => 0))), (a2, .inl (dA, 4, .inl (fun _ => 0))), (a3, .inl (dA, 4, .inl (fun _ => 0))), (a4, .inl (dA, 4, .inl (fun _ => 0))), (a5, .inl (dA, 4, .inl (fun _ => 0))), (a6, .inl (dA, 4, .inl (fun _ => 0))), (a7, .inl (dA, 4, .inl (fun _ => 0))), (a8, .inl (dA, 4, .inl (fun _ => 0))), (a9, .inl (dA, 4, .inl (fun _ => 0))), (a10, .inl (dA, 4, .inl (fun _ => 0))), (a11, .inl (dA, 4, .inl (fun _ => 0))), (a12, .inl (dA, 4, .inl (fun _ => 0))), (a13, .inl (dA, 128, .inl (fun _ => 0)))] := hD
  refine va_putF (D := D) (ci := 0) (v := .ref a13) (ty := .array .int) (C := RX0) (T := TX0) (N := 15) hx hb hts in_X0 tyX0 tyX0_ok nmX0 hown hK hP hD hS 0 rfl rfl 13 (by decide) (hts _ q42) (fun _ h9 => h9) rfl hin rfl (by decide +kernel) rfl rfl (Nat.le_of_ble_eq_true rfl) dX0_init_94 (fun H locs hP hD hS => ?_)
  have hP : va_P D rl_cl [(h0, .inr (0, [.int 0, .ref a1, .ref a2, .ref a3, .ref a4, .ref a5, .ref a6, .ref a7, .ref a8, .ref a9, .ref a10, .ref a11, .ref a12, .ref a13, .null])), (a1, .inl (dA, 4, .inl (fun _ => 0))), (a2, .inl (dA, 4, .inl (fun _ => 0))), (a3, .inl (dA, 4, .inl (fun _ => 0))), (a4, .inl (dA, 4, .inl (fun _ => 0))), (a5, .inl (dA, 4, .inl (fun _ => 0))), (a6, .inl (dA, 4, .inl (fun _ => 0))), (a7, .inl (dA, 4, .inl (fun _ => 0))), (a8, .inl (dA, 4, .inl (fun _ => 0))), (a9, .inl (dA, 4, .inl (fun _ => 0))), (a10, .inl (dA, 4, .inl (fun _ => 0))), (a11, .inl (dA, 4, .inl (fun _ => 0))), (a12, .inl (dA, 4, .inl (fun _ => 0))), (a13, .inl (dA, 128, .inl (fun _ => 0)))] H := hP
  have hD : va_D A [(h0, .inr (0, [.int 0, .ref a1, .ref a2, .ref a3, .ref a4, .ref a5, .ref a6, .ref a7, .ref a8, .ref a9, .ref a10, .ref a11, .ref a12, .ref a13, .null])), (a1, .inl (dA, 4, .inl (fun _ => 0))), (a2, .inl (dA, 4, .inl (fun _ => 0))), (a3, .inl (dA, 4, .inl (fun _ => 0))), (a4, .inl (dA, 4, .inl (fun _ => 0))), (a5, .inl (dA, 4, .inl (fun _ => 0))), (a6, .inl (dA, 4, .inl (fun _ => 0))), (a7, .inl (dA, 4, .inl (fun _ => 0))), (a8, .inl (dA, 4, .inl (fun _ => 0))), (a9, .inl (dA, 4, .inl (fun _ => 0))), (a10, .inl (dA, 4, .inl (fun _ => 0))), (a11, .inl (dA, 4, .inl (fun _ => 0))), (a12, .inl (dA, 4, .inl (fun _ => 0))), (a13, .inl (dA, 128, .inl (fun _ => 0)))] := hD
  refine lv_aload_n hx hb dX0_init_97 rfl (lv_at hl 0 rfl) ?_
  refine lv_sipush (v := 128) hx hb dX0_init_98 (by decide) ?_
  refine va_newa (atype := .int) (N' := 128) (a0 := (128, .inl (fun _ => 0))) (ty := .int) hx hb (hts _ q75) rfl hK hP hD hS hA (fun _ => rfl) (by decide) (by decide) (by decide) (Nat.le_of_ble_eq_true rfl) (Nat.le_of_ble_eq_true rfl) dX0_init_101 (fun a14 cA H hK hP hD hS => ?_)
  obtain rfl := rl_cA hK
  have hK := hK.sub (tys' := [(dA, .int)]) [0] rfl
  have hP : va_P D rl_cl [(h0, .inr (0, [.int 0, .ref a1, .ref a2, .ref a3, .ref a4, .ref a5, .ref a6, .ref a7, .ref a8, .ref a9, .ref a10, .ref a11, .ref a12, .ref a13, .null])), (a1, .inl (dA, 4, .inl (fun _ => 0))), (a2, .inl (dA, 4, .inl (fun _ => 0))), (a3, .inl (dA, 4, .inl (fun _ => 0))), (a4, .inl (dA, 4, .inl (fun _ => 0))), (a5, .inl (dA, 4, .inl (fun _ => 0))), (a6, .inl (dA, 4, .inl (fun _ => 0))), (a7, .inl (dA, 4, .inl (fun _ => 0))), (a8, .inl (dA, 4, .inl (fun _ => 0))), (a9, .inl (dA, 4, .inl (fun _ => 0))), (a10, .inl (dA, 4, .inl (fun _ => 0))), (a11, .inl (dA, 4, .inl (fun _ => 0))), (a12, .inl (dA, 4, .inl (fun _ => 0))), (a13, .inl (dA, 128, .inl (fun _ => 0))), (a14, .inl (dA, 128, .inl (fun _ => 0)))] H := hP
  have hD : va_D A [(h0, .inr (0, [.int 0, .ref a1, .ref a2, .ref a3, .ref a4, .ref a5, .ref a6, .ref a7, .ref a8, .ref a9, .ref a10, .ref a11, .ref a12, .ref a13, .null])), (a1, .inl (dA, 4, .inl (fun _ => 0))), (a2, .inl (dA, 4, .inl (fun _ => 0))), (a3, .inl (dA, 4, .inl (fun _ => 0))), (a4, .inl (dA, 4, .inl (fun _ => 0))), (a5, .inl (dA, 4, .inl (fun _ => 0))), (a6, .inl (dA, 4, .inl (fun _ => 0))), (a7, .inl (dA, 4, .inl (fun _ => 0))), (a8, .inl (dA, 4, .inl (fun _ => 0))), (a9, .inl (dA, 4, .inl (fun _ => 0))), (a10, .inl (dA, 4, .inl (fun _ => 0))), (a11, .inl (dA, 4, .inl (fun _ => 0))), (a12, .inl (dA, 4, .inl (fun _ => 0))), (a13, .inl (dA, 128, .inl (fun _ => 0))), (a14, .inl (dA, 128, .inl (fun _ => 0)))] := hD
  refine va_putF (D := D) (ci := 0) (v := .ref a14) (ty := .array .int) (C := RX0) (T := TX0) (N := 15) hx hb hts in_X0 tyX0 tyX0_ok nmX0 hown hK hP hD hS 0 rfl rfl 14 (by decide) (hts _ q43) (fun _ h9 => h9) rfl hin rfl (by decide +kernel) rfl rfl (Nat.le_of_ble_eq_true rfl) dX0_init_103 (fun H locs hP hD hS => ?_)
  have hP : va_P D rl_cl [(h0, .inr (0, [.int 0, .ref a1, .ref a2, .ref a3, .ref a4, .ref a5, .ref a6, .ref a7, .ref a8, .ref a9, .ref a10, .ref a11, .ref a12, .ref a13, .ref a14])), (a1, .inl (dA, 4, .inl (fun _ => 0))), (a2, .inl (dA, 4, .inl (fun _ => 0))), (a3, .inl (dA, 4, .inl (fun _ => 0))), (a4, .inl (dA, 4, .inl (fun _ => 0))), (a5, .inl (dA, 4, .inl (fun _ => 0))), (a6, .inl (dA, 4, .inl (fun _ => 0))), (a7, .inl (dA, 4, .inl (fun _ => 0))), (a8, .inl (dA, 4, .inl (fun _ => 0))), (a9, .inl (dA, 4, .inl (fun _ => 0))), (a10, .inl (dA, 4, .inl (fun _ => 0))), (a11, .inl (dA, 4, .inl (fun _ => 0))), (a12, .inl (dA, 4, .inl (fun _ => 0))), (a13, .inl (dA, 128, .inl (fun _ => 0))), (a14, .inl (dA, 128, .inl (fun _ => 0)))] H := hP
  have hD : va_D A [(h0, .inr (0, [.int 0, .ref a1, .ref a2, .ref a3, .ref a4, .ref a5, .ref a6, .ref a7, .ref a8, .ref a9, .ref a10, .ref a11, .ref a12, .ref a13, .ref a14])), (a1, .inl (dA, 4, .inl (fun _ => 0))), (a2, .inl (dA, 4, .inl (fun _ => 0))), (a3, .inl (dA, 4, .inl (fun _ => 0))), (a4, .inl (dA, 4, .inl (fun _ => 0))), (a5, .inl (dA, 4, .inl (fun _ => 0))), (a6, .inl (dA, 4, .inl (fun _ => 0))), (a7, .inl (dA, 4, .inl (fun _ => 0))), (a8, .inl (dA, 4, .inl (fun _ => 0))), (a9, .inl (dA, 4, .inl (fun _ => 0))), (a10, .inl (dA, 4, .inl (fun _ => 0))), (a11, .inl (dA, 4, .inl (fun _ => 0))), (a12, .inl (dA, 4, .inl (fun _ => 0))), (a13, .inl (dA, 128, .inl (fun _ => 0))), (a14, .inl (dA, 128, .inl (fun _ => 0)))] := hD
  refine W.widen (k := 14) (n := 304) (by decide) (by decide) ?_
  refine lv_iconst (v := 0) hx hb dX0_init_106 (by decide) ?_
  refine rl_top (y := nI 0) nI_0.symm ?_
  refine lv_istore_n (lv' := [(1, .int (nI 0)), (0, .ref h0)]) hx hb dX0_init_107 rfl hl (by decide) rfl (fun ls hl => ?_)
  have Bx : rl_B rx_W D A s h0 (fun k => match k with | 1 => a1 | 2 => a2 | 3 => a3 | 4 => a4 | 5 => a5 | 6 => a6 | 7 => a7 | 8 => a8 | 9 => a9 | 10 => a10 | 11 => a11 | 12 => a12 | 13 => a13 | _ => a14) dA 0 rl_z H locs := ⟨hP, hD, hS⟩
  have C : rl_Cx p s m ([.ref h0] : List Value).toArray c cX0_init 2 RX0 D dA := ⟨hx, hb, hml, hown, hts, hK⟩
  refine rx_init_loop C hA 4 0 rl_z rfl (fun H locs ls Bx => ?_) _ _ _ Bx hl
  exact W.vret hx hb hr (fun t ht hW => ⟨⟨(_, dA), rfl, trivial, by rw [ht]; exact Bx.1, va_K.moved hW.alike hK, Bx.2.1⟩, Bx.2.2.F ht⟩) Bx.2.2.2.2 dX0_init_129
set_option maxHeartbeats 4000000 in
set_option maxRecDepth 100000 in
theorem rm_init_loop {p : Program} {l : Launch} {e : Env} {s : State} {m : MethodId} {args : Array Value} {below : List Frame} {meth : Method} {c : Code} {D : va_G} {h0 : Nat} {ar : Nat → Nat} {dA : ClassId} {A : Nat → Prop} (C : rl_Cx p s m args c cX1_init 2 RX1 D dA) (hA : ∀ q : Nat, s.heap.size ≤ q → A q) {Q : State → Prop} :
    ∀ (n j : Nat) (f : rl_F), j + n = 4 → (∀ (H : Heap) (locs : List Loc) (ls : Array Slot), rl_B rm_W D A s h0 ar dA 0 (rm_init n j f) H locs → W p l e ({ frames := 1, cells := 9, slots := 72, locals := 30 } : Room) s m args below meth c H locs 9 72 Q (F0 m 91 ls [])) → ∀ (H : Heap) (locs : List Loc) (ls : Array Slot), rl_B rm_W D A s h0 ar dA 0 f H locs → lv_has ls 2 [(1, .int (nI j)), (0, .ref h0)] → W p l e ({ frames := 1, cells := 9, slots := 72, locals := 30 } : Room) s m args below meth c H locs 9 72 Q (F0 m 70 ls []) := by
  have hx := C.1
  have hb := C.2.1
  intro n
  induction n with
  | zero =>
    intro j f hi K H locs ls B hl
    refine lv_iload_n hx hb dX1_init_70 rfl (lv_at hl 0 rfl) ?_
    refine lv_iconst (v := 4) hx hb dX1_init_71 (by decide) ?_
    refine lv_icmp_ge (tgt := 91) hx hb dX1_init_72 (by decide) (fun c_72 => ?_) (fun c_72 => ?_)
    · exact K _ _ _ B
    · exact absurd (by rw [show j = 4 by omega]; decide) c_72
  | succ n ih =>
    intro j f hi K H locs ls B hl
    have hj : j < 4 := by omega
    refine lv_iload_n hx hb dX1_init_70 rfl (lv_at hl 0 rfl) ?_
    refine lv_iconst (v := 4) hx hb dX1_init_71 (by decide) ?_
    refine lv_icmp_ge (tgt := 91) hx hb dX1_init_72 (by decide) (fun c_72 => ?_) (fun c_72 => ?_)
    · exact absurd c_72 (nI_ge hj (by decide))
    · refine lv_aload_n hx hb dX1_init_75 rfl (lv_at hl 1 rfl) ?_
      refine lv_iload_n hx hb dX1_init_76 rfl (lv_at hl 0 rfl) ?_
      refine lv_iconst (v := 0) hx hb dX1_init_77 (by decide) ?_
      refine lv_iconst (v := 1) hx hb dX1_init_78 (by decide) ?_
      refine lv_bipush (v := 10) hx hb dX1_init_79 (by decide) ?_
      refine lv_iconst (v := 1) hx hb dX1_init_81 (by decide) ?_
      refine rl_callv (rest := []) rm_ok rfl C hA B (met_X1_make (j := j) hj 0 f 0 1 10 1) (cwV 5 C.2.2.2.2.1 (lw_V q145 q147 qs6 q15 q148) rfl rfl rfl (by decide +kernel) ⟨by decide, by decide⟩) rfl hl.1 rfl (Nat.le_of_ble_eq_true rfl) dX1_init_82 ⟨Nat.le_refl _, Nat.le_refl _⟩ (fun H locs B => ?_)
      refine lv_iinc (v := nI (j + 1)) (lv' := [(1, .int (nI (j + 1))), (0, .ref h0)]) hx hb dX1_init_85 hl (k := 0) rfl (nI_1 j) (by decide) rfl (fun ls hl => ?_)
      refine lv_goto (tgt := 70) hx hb dX1_init_88 (by decide) ?_
      exact ih (j + 1) _ (by omega) K _ _ _ B hl
abbrev rm_init_w0 (h0 : Nat) : va_W := [(h0, .inr (1, [.int 0, .null, .null, .null, .null, .null, .null, .null, .null, .null]))]
set_option maxHeartbeats 4000000 in
set_option maxRecDepth 100000 in
theorem met_X1_init (l : Launch) (D : va_G) (h0 sz : Nat) : Met l yX1_init (ws_ yX1_init cX1_init 2 none) ({ frames := 1, cells := 9, slots := 72, locals := 30 } : Room) (va_Pc [.ref h0] (fun U => U.heap.size = sz ∧ va_P D rl_cl (rm_init_w0 h0) U.heap ∧ va_K D rl_cl [] U ∧ va_D (fun _ => True) (rm_init_w0 h0))) (va_Qv (fun (_ : (Nat → Nat) × ClassId) => True) (fun u t => rl_Po rm_W D h0 u.1 u.2 (va_A (rm_init_w0 h0) sz) 0 (rm_init 4 0 rl_z) t) (va_A (rm_init_w0 h0) sz)) 9 72 (va_A (rm_init_w0 h0) sz) := by
  refine Met.ofW (cc := cX1_init) (maxL := 2) (ret := none) (by decide) rfl ?_
  intro p e s m args below meth c s₁ B hml hv
  obtain ⟨rfl, hsz, hP, hK, hD0⟩ := hv
  have hx := B.exec
  have hb := B.bytes
  have hr := B.returns
  have hts := atoms_spec (ws := ws_ yX1_init cX1_init 2 none) B.pre
  have hts : ∀ w ∈ lw_all, w.before ([.ref h0] : List Value).toArray s = true := fun w h => hts w (List.mem_cons_of_mem _ h)
  have hown : s.vm.findClass RX1 = some m.cls := findClass_of_methodNamed B.named
  have hlocks := B.notSynchronized
  have hin : meth.name = "<init>" := (name_of_methodNamed B.named B.method).1
  subst hsz
  have hD := hD0.self (sz := s.heap.size)
  generalize hAe : va_A (rm_init_w0 h0) s.heap.size = A at hD ⊢
  have hA : ∀ q : Nat, s.heap.size ≤ q → A q := fun q h => by rw [← hAe]; exact Or.inr h
  have hS : va_S A s.heap s.heap [] := va_S.rf
  have hl := lv_entry ([.ref h0]) (n := 2) (Nat.le_of_ble_eq_true rfl)
  rw [lg_entry_eq]
  generalize (lg_sl ([.ref h0]) ++ List.replicate (2 - (lg_sl ([.ref h0])).length) Slot.unset).toArray = ls at hl ⊢
  have hl : lv_has ls 2 [(0, .ref h0)] := hl
  refine lv_aload_n hx hb dX1_init_0 rfl (lv_at hl 0 rfl) ?_
  refine W.objInit hx hb hown (hts _ q144) (hts _ q22) (hts _ q23) rfl (by rw [hml]; exact hl.1) rfl dX1_init_1 (Nat.le_of_ble_eq_true rfl) (Nat.le_of_ble_eq_true rfl) ?_
  refine W.eq (g2 := F0 m 4 ls []) rfl ?_
  refine lv_aload_n hx hb dX1_init_4 rfl (lv_at hl 0 rfl) ?_
  refine lv_iconst (v := 4) hx hb dX1_init_5 (by decide) ?_
  refine va_newa (atype := .int) (N' := 4) (a0 := (4, .inl (fun _ => 0))) (ty := .int) hx hb (hts _ q75) rfl hK hP hD hS hA (fun _ => rfl) (by decide) (by decide) (by decide) (Nat.le_of_ble_eq_true rfl) (Nat.le_of_ble_eq_true rfl) dX1_init_6 (fun a1 dA H hK hP hD hS => ?_)
  have hK : va_K D rl_cl [(dA, .int)] s := hK
  have hP : va_P D rl_cl [(h0, .inr (1, [.int 0, .null, .null, .null, .null, .null, .null, .null, .null, .null])), (a1, .inl (dA, 4, .inl (fun _ => 0)))] H := hP
  have hD : va_D A [(h0, .inr (1, [.int 0, .null, .null, .null, .null, .null, .null, .null, .null, .null])), (a1, .inl (dA, 4, .inl (fun _ => 0)))] := hD
  refine va_putF (D := D) (ci := 1) (v := .ref a1) (ty := .array .int) (C := RX1) (T := TX1) (N := 10) hx hb hts in_X1 tyX1 tyX1_ok nmX1 hown hK hP hD hS 0 rfl rfl 1 (by decide) (hts _ q151) (fun _ h9 => h9) rfl hin rfl (by decide +kernel) rfl rfl (Nat.le_of_ble_eq_true rfl) dX1_init_8 (fun H locs hP hD hS => ?_)
  have hP : va_P D rl_cl [(h0, .inr (1, [.int 0, .ref a1, .null, .null, .null, .null, .null, .null, .null, .null])), (a1, .inl (dA, 4, .inl (fun _ => 0)))] H := hP
  have hD : va_D A [(h0, .inr (1, [.int 0, .ref a1, .null, .null, .null, .null, .null, .null, .null, .null])), (a1, .inl (dA, 4, .inl (fun _ => 0)))] := hD
  refine lv_aload_n hx hb dX1_init_11 rfl (lv_at hl 0 rfl) ?_
  refine lv_iconst (v := 4) hx hb dX1_init_12 (by decide) ?_
  refine va_newa (atype := .int) (N' := 4) (a0 := (4, .inl (fun _ => 0))) (ty := .int) hx hb (hts _ q75) rfl hK hP hD hS hA (fun _ => rfl) (by decide) (by decide) (by decide) (Nat.le_of_ble_eq_true rfl) (Nat.le_of_ble_eq_true rfl) dX1_init_13 (fun a2 cA H hK hP hD hS => ?_)
  obtain rfl := rl_cA hK
  have hK := hK.sub (tys' := [(dA, .int)]) [0] rfl
  have hP : va_P D rl_cl [(h0, .inr (1, [.int 0, .ref a1, .null, .null, .null, .null, .null, .null, .null, .null])), (a1, .inl (dA, 4, .inl (fun _ => 0))), (a2, .inl (dA, 4, .inl (fun _ => 0)))] H := hP
  have hD : va_D A [(h0, .inr (1, [.int 0, .ref a1, .null, .null, .null, .null, .null, .null, .null, .null])), (a1, .inl (dA, 4, .inl (fun _ => 0))), (a2, .inl (dA, 4, .inl (fun _ => 0)))] := hD
  refine va_putF (D := D) (ci := 1) (v := .ref a2) (ty := .array .int) (C := RX1) (T := TX1) (N := 10) hx hb hts in_X1 tyX1 tyX1_ok nmX1 hown hK hP hD hS 0 rfl rfl 2 (by decide) (hts _ q152) (fun _ h9 => h9) rfl hin rfl (by decide +kernel) rfl rfl (Nat.le_of_ble_eq_true rfl) dX1_init_15 (fun H locs hP hD hS => ?_)
  have hP : va_P D rl_cl [(h0, .inr (1, [.int 0, .ref a1, .ref a2, .null, .null, .null, .null, .null, .null, .null])), (a1, .inl (dA, 4, .inl (fun _ => 0))), (a2, .inl (dA, 4, .inl (fun _ => 0)))] H := hP
  have hD : va_D A [(h0, .inr (1, [.int 0, .ref a1, .ref a2, .null, .null, .null, .null, .null, .null, .null])), (a1, .inl (dA, 4, .inl (fun _ => 0))), (a2, .inl (dA, 4, .inl (fun _ => 0)))] := hD
  refine lv_aload_n hx hb dX1_init_18 rfl (lv_at hl 0 rfl) ?_
  refine lv_iconst (v := 4) hx hb dX1_init_19 (by decide) ?_
  refine va_newa (atype := .int) (N' := 4) (a0 := (4, .inl (fun _ => 0))) (ty := .int) hx hb (hts _ q75) rfl hK hP hD hS hA (fun _ => rfl) (by decide) (by decide) (by decide) (Nat.le_of_ble_eq_true rfl) (Nat.le_of_ble_eq_true rfl) dX1_init_20 (fun a3 cA H hK hP hD hS => ?_)
  obtain rfl := rl_cA hK
  have hK := hK.sub (tys' := [(dA, .int)]) [0] rfl
  have hP : va_P D rl_cl [(h0, .inr (1, [.int 0, .ref a1, .ref a2, .null, .null, .null, .null, .null, .null, .null])), (a1, .inl (dA, 4, .inl (fun _ => 0))), (a2, .inl (dA, 4, .inl (fun _ => 0))), (a3, .inl (dA, 4, .inl (fun _ => 0)))] H := hP
  have hD : va_D A [(h0, .inr (1, [.int 0, .ref a1, .ref a2, .null, .null, .null, .null, .null, .null, .null])), (a1, .inl (dA, 4, .inl (fun _ => 0))), (a2, .inl (dA, 4, .inl (fun _ => 0))), (a3, .inl (dA, 4, .inl (fun _ => 0)))] := hD
  refine va_putF (D := D) (ci := 1) (v := .ref a3) (ty := .array .int) (C := RX1) (T := TX1) (N := 10) hx hb hts in_X1 tyX1 tyX1_ok nmX1 hown hK hP hD hS 0 rfl rfl 3 (by decide) (hts _ q153) (fun _ h9 => h9) rfl hin rfl (by decide +kernel) rfl rfl (Nat.le_of_ble_eq_true rfl) dX1_init_22 (fun H locs hP hD hS => ?_)
  have hP : va_P D rl_cl [(h0, .inr (1, [.int 0, .ref a1, .ref a2, .ref a3, .null, .null, .null, .null, .null, .null])), (a1, .inl (dA, 4, .inl (fun _ => 0))), (a2, .inl (dA, 4, .inl (fun _ => 0))), (a3, .inl (dA, 4, .inl (fun _ => 0)))] H := hP
  have hD : va_D A [(h0, .inr (1, [.int 0, .ref a1, .ref a2, .ref a3, .null, .null, .null, .null, .null, .null])), (a1, .inl (dA, 4, .inl (fun _ => 0))), (a2, .inl (dA, 4, .inl (fun _ => 0))), (a3, .inl (dA, 4, .inl (fun _ => 0)))] := hD
  refine lv_aload_n hx hb dX1_init_25 rfl (lv_at hl 0 rfl) ?_
  refine lv_iconst (v := 4) hx hb dX1_init_26 (by decide) ?_
  refine va_newa (atype := .int) (N' := 4) (a0 := (4, .inl (fun _ => 0))) (ty := .int) hx hb (hts _ q75) rfl hK hP hD hS hA (fun _ => rfl) (by decide) (by decide) (by decide) (Nat.le_of_ble_eq_true rfl) (Nat.le_of_ble_eq_true rfl) dX1_init_27 (fun a4 cA H hK hP hD hS => ?_)
  obtain rfl := rl_cA hK
  have hK := hK.sub (tys' := [(dA, .int)]) [0] rfl
  have hP : va_P D rl_cl [(h0, .inr (1, [.int 0, .ref a1, .ref a2, .ref a3, .null, .null, .null, .null, .null, .null])), (a1, .inl (dA, 4, .inl (fun _ => 0))), (a2, .inl (dA, 4, .inl (fun _ => 0))), (a3, .inl (dA, 4, .inl (fun _ => 0))), (a4, .inl (dA, 4, .inl (fun _ => 0)))] H := hP
  have hD : va_D A [(h0, .inr (1, [.int 0, .ref a1, .ref a2, .ref a3, .null, .null, .null, .null, .null, .null])), (a1, .inl (dA, 4, .inl (fun _ => 0))), (a2, .inl (dA, 4, .inl (fun _ => 0))), (a3, .inl (dA, 4, .inl (fun _ => 0))), (a4, .inl (dA, 4, .inl (fun _ => 0)))] := hD
  refine va_putF (D := D) (ci := 1) (v := .ref a4) (ty := .array .int) (C := RX1) (T := TX1) (N := 10) hx hb hts in_X1 tyX1 tyX1_ok nmX1 hown hK hP hD hS 0 rfl rfl 4 (by decide) (hts _ q154) (fun _ h9 => h9) rfl hin rfl (by decide +kernel) rfl rfl (Nat.le_of_ble_eq_true rfl) dX1_init_29 (fun H locs hP hD hS => ?_)
  have hP : va_P D rl_cl [(h0, .inr (1, [.int 0, .ref a1, .ref a2, .ref a3, .ref a4, .null, .null, .null, .null, .null])), (a1, .inl (dA, 4, .inl (fun _ => 0))), (a2, .inl (dA, 4, .inl (fun _ => 0))), (a3, .inl (dA, 4, .inl (fun _ => 0))), (a4, .inl (dA, 4, .inl (fun _ => 0)))] H := hP
  have hD : va_D A [(h0, .inr (1, [.int 0, .ref a1, .ref a2, .ref a3, .ref a4, .null, .null, .null, .null, .null])), (a1, .inl (dA, 4, .inl (fun _ => 0))), (a2, .inl (dA, 4, .inl (fun _ => 0))), (a3, .inl (dA, 4, .inl (fun _ => 0))), (a4, .inl (dA, 4, .inl (fun _ => 0)))] := hD
  refine lv_aload_n hx hb dX1_init_32 rfl (lv_at hl 0 rfl) ?_
  refine lv_iconst (v := 4) hx hb dX1_init_33 (by decide) ?_
  refine va_newa (atype := .int) (N' := 4) (a0 := (4, .inl (fun _ => 0))) (ty := .int) hx hb (hts _ q75) rfl hK hP hD hS hA (fun _ => rfl) (by decide) (by decide) (by decide) (Nat.le_of_ble_eq_true rfl) (Nat.le_of_ble_eq_true rfl) dX1_init_34 (fun a5 cA H hK hP hD hS => ?_)
  obtain rfl := rl_cA hK
  have hK := hK.sub (tys' := [(dA, .int)]) [0] rfl
  have hP : va_P D rl_cl [(h0, .inr (1, [.int 0, .ref a1, .ref a2, .ref a3, .ref a4, .null, .null, .null, .null, .null])), (a1, .inl (dA, 4, .inl (fun _ => 0))), (a2, .inl (dA, 4, .inl (fun _ => 0))), (a3, .inl (dA, 4, .inl (fun _ => 0))), (a4, .inl (dA, 4, .inl (fun _ => 0))), (a5, .inl (dA, 4, .inl (fun _ => 0)))] H := hP
  have hD : va_D A [(h0, .inr (1, [.int 0, .ref a1, .ref a2, .ref a3, .ref a4, .null, .null, .null, .null, .null])), (a1, .inl (dA, 4, .inl (fun _ => 0))), (a2, .inl (dA, 4, .inl (fun _ => 0))), (a3, .inl (dA, 4, .inl (fun _ => 0))), (a4, .inl (dA, 4, .inl (fun _ => 0))), (a5, .inl (dA, 4, .inl (fun _ => 0)))] := hD
  refine va_putF (D := D) (ci := 1) (v := .ref a5) (ty := .array .int) (C := RX1) (T := TX1) (N := 10) hx hb hts in_X1 tyX1 tyX1_ok nmX1 hown hK hP hD hS 0 rfl rfl 5 (by decide) (hts _ q155) (fun _ h9 => h9) rfl hin rfl (by decide +kernel) rfl rfl (Nat.le_of_ble_eq_true rfl) dX1_init_36 (fun H locs hP hD hS => ?_)
  have hP : va_P D rl_cl [(h0, .inr (1, [.int 0, .ref a1, .ref a2, .ref a3, .ref a4, .ref a5, .null, .null, .null, .null])), (a1, .inl (dA, 4, .inl (fun _ => 0))), (a2, .inl (dA, 4, .inl (fun _ => 0))), (a3, .inl (dA, 4, .inl (fun _ => 0))), (a4, .inl (dA, 4, .inl (fun _ => 0))), (a5, .inl (dA, 4, .inl (fun _ => 0)))] H := hP
  have hD : va_D A [(h0, .inr (1, [.int 0, .ref a1, .ref a2, .ref a3, .ref a4, .ref a5, .null, .null, .null, .null])), (a1, .inl (dA, 4, .inl (fun _ => 0))), (a2, .inl (dA, 4, .inl (fun _ => 0))), (a3, .inl (dA, 4, .inl (fun _ => 0))), (a4, .inl (dA, 4, .inl (fun _ => 0))), (a5, .inl (dA, 4, .inl (fun _ => 0)))] := hD
  refine lv_aload_n hx hb dX1_init_39 rfl (lv_at hl 0 rfl) ?_
  refine lv_bipush (v := 40) hx hb dX1_init_40 (by decide) ?_
  refine va_newa (atype := .int) (N' := 40) (a0 := (40, .inl (fun _ => 0))) (ty := .int) hx hb (hts _ q75) rfl hK hP hD hS hA (fun _ => rfl) (by decide) (by decide) (by decide) (Nat.le_of_ble_eq_true rfl) (Nat.le_of_ble_eq_true rfl) dX1_init_42 (fun a6 cA H hK hP hD hS => ?_)
  obtain rfl := rl_cA hK
  have hK := hK.sub (tys' := [(dA, .int)]) [0] rfl
  have hP : va_P D rl_cl [(h0, .inr (1, [.int 0, .ref a1, .ref a2, .ref a3, .ref a4, .ref a5, .null, .null, .null, .null])), (a1, .inl (dA, 4, .inl (fun _ => 0))), (a2, .inl (dA, 4, .inl (fun _ => 0))), (a3, .inl (dA, 4, .inl (fun _ => 0))), (a4, .inl (dA, 4, .inl (fun _ => 0))), (a5, .inl (dA, 4, .inl (fun _ => 0))), (a6, .inl (dA, 40, .inl (fun _ => 0)))] H := hP
  have hD : va_D A [(h0, .inr (1, [.int 0, .ref a1, .ref a2, .ref a3, .ref a4, .ref a5, .null, .null, .null, .null])), (a1, .inl (dA, 4, .inl (fun _ => 0))), (a2, .inl (dA, 4, .inl (fun _ => 0))), (a3, .inl (dA, 4, .inl (fun _ => 0))), (a4, .inl (dA, 4, .inl (fun _ => 0))), (a5, .inl (dA, 4, .inl (fun _ => 0))), (a6, .inl (dA, 40, .inl (fun _ => 0)))] := hD
  refine va_putF (D := D) (ci := 1) (v := .ref a6) (ty := .array .int) (C := RX1) (T := TX1) (N := 10) hx hb hts in_X1 tyX1 tyX1_ok nmX1 hown hK hP hD hS 0 rfl rfl 6 (by decide) (hts _ q156) (fun _ h9 => h9) rfl hin rfl (by decide +kernel) rfl rfl (Nat.le_of_ble_eq_true rfl) dX1_init_44 (fun H locs hP hD hS => ?_)
  have hP : va_P D rl_cl [(h0, .inr (1, [.int 0, .ref a1, .ref a2, .ref a3, .ref a4, .ref a5, .ref a6, .null, .null, .null])), (a1, .inl (dA, 4, .inl (fun _ => 0))), (a2, .inl (dA, 4, .inl (fun _ => 0))), (a3, .inl (dA, 4, .inl (fun _ => 0))), (a4, .inl (dA, 4, .inl (fun _ => 0))), (a5, .inl (dA, 4, .inl (fun _ => 0))), (a6, .inl (dA, 40, .inl (fun _ => 0)))] H := hP
  have hD : va_D A [(h0, .inr (1, [.int 0, .ref a1, .ref a2, .ref a3, .ref a4, .ref a5, .ref a6, .null, .null, .null])), (a1, .inl (dA, 4, .inl (fun _ => 0))), (a2, .inl (dA, 4, .inl (fun _ => 0))), (a3, .inl (dA, 4, .inl (fun _ => 0))), (a4, .inl (dA, 4, .inl (fun _ => 0))), (a5, .inl (dA, 4, .inl (fun _ => 0))), (a6, .inl (dA, 40, .inl (fun _ => 0)))] := hD
  refine lv_aload_n hx hb dX1_init_47 rfl (lv_at hl 0 rfl) ?_
  refine lv_iconst (v := 4) hx hb dX1_init_48 (by decide) ?_
  refine va_newa (atype := .int) (N' := 4) (a0 := (4, .inl (fun _ => 0))) (ty := .int) hx hb (hts _ q75) rfl hK hP hD hS hA (fun _ => rfl) (by decide) (by decide) (by decide) (Nat.le_of_ble_eq_true rfl) (Nat.le_of_ble_eq_true rfl) dX1_init_49 (fun a7 cA H hK hP hD hS => ?_)
  obtain rfl := rl_cA hK
  have hK := hK.sub (tys' := [(dA, .int)]) [0] rfl
  have hP : va_P D rl_cl [(h0, .inr (1, [.int 0, .ref a1, .ref a2, .ref a3, .ref a4, .ref a5, .ref a6, .null, .null, .null])), (a1, .inl (dA, 4, .inl (fun _ => 0))), (a2, .inl (dA, 4, .inl (fun _ => 0))), (a3, .inl (dA, 4, .inl (fun _ => 0))), (a4, .inl (dA, 4, .inl (fun _ => 0))), (a5, .inl (dA, 4, .inl (fun _ => 0))), (a6, .inl (dA, 40, .inl (fun _ => 0))), (a7, .inl (dA, 4, .inl (fun _ => 0)))] H := hP
  have hD : va_D A [(h0, .inr (1, [.int 0, .ref a1, .ref a2, .ref a3, .ref a4, .ref a5, .ref a6, .null, .null, .null])), (a1, .inl (dA, 4, .inl (fun _ => 0))), (a2, .inl (dA, 4, .inl (fun _ => 0))), (a3, .inl (dA, 4, .inl (fun _ => 0))), (a4, .inl (dA, 4, .inl (fun _ => 0))), (a5, .inl (dA, 4, .inl (fun _ => 0))), (a6, .inl (dA, 40, .inl (fun _ => 0))), (a7, .inl (dA, 4, .inl (fun _ => 0)))] := hD
  refine va_putF (D := D) (ci := 1) (v := .ref a7) (ty := .array .int) (C := RX1) (T := TX1) (N := 10) hx hb hts in_X1 tyX1 tyX1_ok nmX1 hown hK hP hD hS 0 rfl rfl 7 (by decide) (hts _ q157) (fun _ h9 => h9) rfl hin rfl (by decide +kernel) rfl rfl (Nat.le_of_ble_eq_true rfl) dX1_init_51 (fun H locs hP hD hS => ?_)
  have hP : va_P D rl_cl [(h0, .inr (1, [.int 0, .ref a1, .ref a2, .ref a3, .ref a4, .ref a5, .ref a6, .ref a7, .null, .null])), (a1, .inl (dA, 4, .inl (fun _ => 0))), (a2, .inl (dA, 4, .inl (fun _ => 0))), (a3, .inl (dA, 4, .inl (fun _ => 0))), (a4, .inl (dA, 4, .inl (fun _ => 0))), (a5, .inl (dA, 4, .inl (fun _ => 0))), (a6, .inl (dA, 40, .inl (fun _ => 0))), (a7, .inl (dA, 4, .inl (fun _ => 0)))] H := hP
  have hD : va_D A [(h0, .inr (1, [.int 0, .ref a1, .ref a2, .ref a3, .ref a4, .ref a5, .ref a6, .ref a7, .null, .null])), (a1, .inl (dA, 4, .inl (fun _ => 0))), (a2, .inl (dA, 4, .inl (fun _ => 0))), (a3, .inl (dA, 4, .inl (fun _ => 0))), (a4, .inl (dA, 4, .inl (fun _ => 0))), (a5, .inl (dA, 4, .inl (fun _ => 0))), (a6, .inl (dA, 40, .inl (fun _ => 0))), (a7, .inl (dA, 4, .inl (fun _ => 0)))] := hD
  refine lv_aload_n hx hb dX1_init_54 rfl (lv_at hl 0 rfl) ?_
  refine lv_iconst (v := 4) hx hb dX1_init_55 (by decide) ?_
  refine va_newa (atype := .int) (N' := 4) (a0 := (4, .inl (fun _ => 0))) (ty := .int) hx hb (hts _ q75) rfl hK hP hD hS hA (fun _ => rfl) (by decide) (by decide) (by decide) (Nat.le_of_ble_eq_true rfl) (Nat.le_of_ble_eq_true rfl) dX1_init_56 (fun a8 cA H hK hP hD hS => ?_)
  obtain rfl := rl_cA hK
  have hK := hK.sub (tys' := [(dA, .int)]) [0] rfl
  have hP : va_P D rl_cl [(h0, .inr (1, [.int 0, .ref a1, .ref a2, .ref a3, .ref a4, .ref a5, .ref a6, .ref a7, .null, .null])), (a1, .inl (dA, 4, .inl (fun _ => 0))), (a2, .inl (dA, 4, .inl (fun _ => 0))), (a3, .inl (dA, 4, .inl (fun _ => 0))), (a4, .inl (dA, 4, .inl (fun _ => 0))), (a5, .inl (dA, 4, .inl (fun _ => 0))), (a6, .inl (dA, 40, .inl (fun _ => 0))), (a7, .inl (dA, 4, .inl (fun _ => 0))), (a8, .inl (dA, 4, .inl (fun _ => 0)))] H := hP
  have hD : va_D A [(h0, .inr (1, [.int 0, .ref a1, .ref a2, .ref a3, .ref a4, .ref a5, .ref a6, .ref a7, .null, .null])), (a1, .inl (dA, 4, .inl (fun _ => 0))), (a2, .inl (dA, 4, .inl (fun _ => 0))), (a3, .inl (dA, 4, .inl (fun _ => 0))), (a4, .inl (dA, 4, .inl (fun _ => 0))), (a5, .inl (dA, 4, .inl (fun _ => 0))), (a6, .inl (dA, 40, .inl (fun _ => 0))), (a7, .inl (dA, 4, .inl (fun _ => 0))), (a8, .inl (dA, 4, .inl (fun _ => 0)))] := hD
  refine va_putF (D := D) (ci := 1) (v := .ref a8) (ty := .array .int) (C := RX1) (T := TX1) (N := 10) hx hb hts in_X1 tyX1 tyX1_ok nmX1 hown hK hP hD hS 0 rfl rfl 8 (by decide) (hts _ q158) (fun _ h9 => h9) rfl hin rfl (by decide +kernel) rfl rfl (Nat.le_of_ble_eq_true rfl) dX1_init_58 (fun H locs hP hD hS => ?_)
  have hP : va_P D rl_cl [(h0, .inr (1, [.int 0, .ref a1, .ref a2, .ref a3, .ref a4, .ref a5, .ref a6, .ref a7, .ref a8, .null])), (a1, .inl (dA, 4, .inl (fun _ => 0))), (a2, .inl (dA, 4, .inl (fun _ => 0))), (a3, .inl (dA, 4, .inl (fun _ => 0))), (a4, .inl (dA, 4, .inl (fun _ => 0))), (a5, .inl (dA, 4, .inl (fun _ => 0))), (a6, .inl (dA, 40, .inl (fun _ => 0))), (a7, .inl (dA, 4, .inl (fun _ => 0))), (a8, .inl (dA, 4, .inl (fun _ => 0)))] H := hP
  have hD : va_D A [(h0, .inr (1, [.int 0, .ref a1, .ref a2, .ref a3, .ref a4, .ref a5, .ref a6, .ref a7, .ref a8, .null])), (a1, .inl (dA, 4, .inl (fun _ => 0))), (a2, .inl (dA, 4, .inl (fun _ => 0))), (a3, .inl (dA, 4, .inl (fun _ => 0))), (a4, .inl (dA, 4, .inl (fun _ => 0))), (a5, .inl (dA, 4, .inl (fun _ => 0))), (a6, .inl (dA, 40, .inl (fun _ => 0))), (a7, .inl (dA, 4, .inl (fun _ => 0))), (a8, .inl (dA, 4, .inl (fun _ => 0)))] := hD
  refine lv_aload_n hx hb dX1_init_61 rfl (lv_at hl 0 rfl) ?_
  refine lv_iconst (v := 4) hx hb dX1_init_62 (by decide) ?_
  refine va_newa (atype := .int) (N' := 4) (a0 := (4, .inl (fun _ => 0))) (ty := .int) hx hb (hts _ q75) rfl hK hP hD hS hA (fun _ => rfl) (by decide) (by decide) (by decide) (Nat.le_of_ble_eq_true rfl) (Nat.le_of_ble_eq_true rfl) dX1_init_63 (fun a9 cA H hK hP hD hS => ?_)
  obtain rfl := rl_cA hK
  have hK := hK.sub (tys' := [(dA, .int)]) [0] rfl
  have hP : va_P D rl_cl [(h0, .inr (1, [.int 0, .ref a1, .ref a2, .ref a3, .ref a4, .ref a5, .ref a6, .ref a7, .ref a8, .null])), (a1, .inl (dA, 4, .inl (fun _ => 0))), (a2, .inl (dA, 4, .inl (fun _ => 0))), (a3, .inl (dA, 4, .inl (fun _ => 0))), (a4, .inl (dA, 4, .inl (fun _ => 0))), (a5, .inl (dA, 4, .inl (fun _ => 0))), (a6, .inl (dA, 40, .inl (fun _ => 0))), (a7, .inl (dA, 4, .inl (fun _ => 0))), (a8, .inl (dA, 4, .inl (fun _ => 0))), (a9, .inl (dA, 4, .inl (fun _ => 0)))] H := hP
  have hD : va_D A [(h0, .inr (1, [.int 0, .ref a1, .ref a2, .ref a3, .ref a4, .ref a5, .ref a6, .ref a7, .ref a8, .null])), (a1, .inl (dA, 4, .inl (fun _ => 0))), (a2, .inl (dA, 4, .inl (fun _ => 0))), (a3, .inl (dA, 4, .inl (fun _ => 0))), (a4, .inl (dA, 4, .inl (fun _ => 0))), (a5, .inl (dA, 4, .inl (fun _ => 0))), (a6, .inl (dA, 40, .inl (fun _ => 0))), (a7, .inl (dA, 4, .inl (fun _ => 0))), (a8, .inl (dA, 4, .inl (fun _ => 0))), (a9, .inl (dA, 4, .inl (fun _ => 0)))] := hD
  refine va_putF (D := D) (ci := 1) (v := .ref a9) (ty := .array .int) (C := RX1) (T := TX1) (N := 10) hx hb hts in_X1 tyX1 tyX1_ok nmX1 hown hK hP hD hS 0 rfl rfl 9 (by decide) (hts _ q159) (fun _ h9 => h9) rfl hin rfl (by decide +kernel) rfl rfl (Nat.le_of_ble_eq_true rfl) dX1_init_65 (fun H locs hP hD hS => ?_)
  have hP : va_P D rl_cl [(h0, .inr (1, [.int 0, .ref a1, .ref a2, .ref a3, .ref a4, .ref a5, .ref a6, .ref a7, .ref a8, .ref a9])), (a1, .inl (dA, 4, .inl (fun _ => 0))), (a2, .inl (dA, 4, .inl (fun _ => 0))), (a3, .inl (dA, 4, .inl (fun _ => 0))), (a4, .inl (dA, 4, .inl (fun _ => 0))), (a5, .inl (dA, 4, .inl (fun _ => 0))), (a6, .inl (dA, 40, .inl (fun _ => 0))), (a7, .inl (dA, 4, .inl (fun _ => 0))), (a8, .inl (dA, 4, .inl (fun _ => 0))), (a9, .inl (dA, 4, .inl (fun _ => 0)))] H := hP
  have hD : va_D A [(h0, .inr (1, [.int 0, .ref a1, .ref a2, .ref a3, .ref a4, .ref a5, .ref a6, .ref a7, .ref a8, .ref a9])), (a1, .inl (dA, 4, .inl (fun _ => 0))), (a2, .inl (dA, 4, .inl (fun _ => 0))), (a3, .inl (dA, 4, .inl (fun _ => 0))), (a4, .inl (dA, 4, .inl (fun _ => 0))), (a5, .inl (dA, 4, .inl (fun _ => 0))), (a6, .inl (dA, 40, .inl (fun _ => 0))), (a7, .inl (dA, 4, .inl (fun _ => 0))), (a8, .inl (dA, 4, .inl (fun _ => 0))), (a9, .inl (dA, 4, .inl (fun _ => 0)))] := hD
  refine W.widen (k := 9) (n := 72) (by decide) (by decide) ?_
  refine lv_iconst (v := 0) hx hb dX1_init_68 (by decide) ?_
  refine rl_top (y := nI 0) nI_0.symm ?_
  refine lv_istore_n (lv' := [(1, .int (nI 0)), (0, .ref h0)]) hx hb dX1_init_69 rfl hl (by decide) rfl (fun ls hl => ?_)
  have Bx : rl_B rm_W D A s h0 (fun k => match k with | 1 => a1 | 2 => a2 | 3 => a3 | 4 => a4 | 5 => a5 | 6 => a6 | 7 => a7 | 8 => a8 | _ => a9) dA 0 rl_z H locs := ⟨hP, hD, hS⟩
  have C : rl_Cx p s m ([.ref h0] : List Value).toArray c cX1_init 2 RX1 D dA := ⟨hx, hb, hml, hown, hts, hK⟩
  refine rm_init_loop C hA 4 0 rl_z rfl (fun H locs ls Bx => ?_) _ _ _ Bx hl
  exact W.vret hx hb hr (fun t ht hW => ⟨⟨(_, dA), rfl, trivial, by rw [ht]; exact Bx.1, va_K.moved hW.alike hK, Bx.2.1⟩, Bx.2.2.F ht⟩) Bx.2.2.2.2 dX1_init_91
end
section
/-! ===== signed ints as whole numbers, within bounds ===== -/
theorem fb_rng (x : Int32) : -2147483648 ≤ x.toInt ∧ x.toInt < 2147483648 := by
  have h1 := Int32.le_toInt x
  have h2 := Int32.toInt_lt x
  omega
theorem fb_bmod {z : Int} (h1 : -2147483648 ≤ z) (h2 : z < 2147483648) : z.bmod (2 ^ 32) = z := by
  rw [Int.bmod_eq_of_le (by omega) (by omega)]
theorem fb_addI {x y : Int32} (h1 : -2147483648 ≤ x.toInt + y.toInt) (h2 : x.toInt + y.toInt < 2147483648) : (x + y).toInt = x.toInt + y.toInt := by
  rw [Int32.toInt_add, fb_bmod h1 h2]
theorem fb_subI {x y : Int32} (h1 : -2147483648 ≤ x.toInt - y.toInt) (h2 : x.toInt - y.toInt < 2147483648) : (x - y).toInt = x.toInt - y.toInt := by
  rw [Int32.toInt_sub, fb_bmod h1 h2]
theorem fb_mulI {x y : Int32} (h1 : -2147483648 ≤ x.toInt * y.toInt) (h2 : x.toInt * y.toInt < 2147483648) : (x * y).toInt = x.toInt * y.toInt := by
  rw [Int32.toInt_mul, fb_bmod h1 h2]
theorem fb_negI {x : Int32} (h : x.toInt ≠ -2147483648) : (-x).toInt = -x.toInt := by
  have := fb_rng x
  rw [Int32.toInt_neg, fb_bmod (by omega) (by omega)]
theorem fb_ofI {z : Int} (h1 : -2147483648 ≤ z) (h2 : z < 2147483648) : (Int32.ofInt z).toInt = z := by
  rw [Int32.toInt_ofInt, fb_bmod h1 h2]
theorem fb_asI (x : Int32) : Int32.ofInt x.toInt = x := Int32.ofInt_toInt x
/-! sums over a log of (time, cost) -/
theorem rl_mulb {a b x y : Int} (ha : 0 ≤ a) (hb : 0 ≤ b) (hx : a ≤ x) (hy : b ≤ y) : 0 ≤ a * b ∧ a * b ≤ x * y := ⟨Int.mul_nonneg ha hb, Int.mul_le_mul hx hy hb (Int.le_trans ha hx)⟩
abbrev rl_Lt : Type := List (Int × Int)
def rl_sum : rl_Lt → Int
  | [] => 0
  | e :: L => e.2 + rl_sum L
/-- costs at time t -/
def rl_on (t : Int) : rl_Lt → Int
  | [] => 0
  | e :: L => (if e.1 = t then e.2 else 0) + rl_on t L
/-- costs later than t -/
def rl_ab (t : Int) : rl_Lt → Int
  | [] => 0
  | e :: L => (if t < e.1 then e.2 else 0) + rl_ab t L
/-- costs at t or sooner -/
def rl_be (t : Int) : rl_Lt → Int
  | [] => 0
  | e :: L => (if e.1 ≤ t then e.2 else 0) + rl_be t L
theorem rl_ab_be (t : Int) : ∀ L : rl_Lt, rl_ab t L + rl_be t L = rl_sum L
  | [] => rfl
  | e :: L => by
    have ih := rl_ab_be t L
    simp only [rl_ab, rl_be, rl_sum]
    by_cases h : t < e.1
    · rw [if_pos h, if_neg (by omega)]; omega
    · rw [if_neg h, if_pos (by omega)]; omega
theorem rl_ab_on (t : Int) : ∀ L : rl_Lt, rl_ab (t - 1) L = rl_ab t L + rl_on t L
  | [] => rfl
  | e :: L => by
    have ih := rl_ab_on t L
    simp only [rl_ab, rl_on]
    by_cases h : t < e.1
    · rw [if_pos h, if_pos (by omega), if_neg (by omega)]; omega
    · by_cases h2 : e.1 = t
      · rw [if_neg h, if_pos (by omega), if_pos h2]; omega
      · rw [if_neg h, if_neg (by omega), if_neg h2]; omega
theorem rl_ab_none {t : Int} : ∀ {L : rl_Lt}, (∀ e ∈ L, e.1 ≤ t) → rl_ab t L = 0
  | [], _ => rfl
  | e :: L, h => by
    have ih := rl_ab_none (fun x hx => h x (List.mem_cons_of_mem _ hx))
    have := h e List.mem_cons_self
    simp only [rl_ab]
    rw [if_neg (by omega)]; omega
theorem rl_on_none {t : Int} : ∀ {L : rl_Lt}, (∀ e ∈ L, e.1 < t) → rl_on t L = 0
  | [], _ => rfl
  | e :: L, h => by
    have ih := rl_on_none (fun x hx => h x (List.mem_cons_of_mem _ hx))
    have := h e List.mem_cons_self
    simp only [rl_on]
    rw [if_neg (by omega)]; omega
theorem rl_be_none {t : Int} : ∀ {L : rl_Lt}, (∀ e ∈ L, t < e.1) → rl_be t L = 0
  | [], _ => rfl
  | e :: L, h => by
    have ih := rl_be_none (fun x hx => h x (List.mem_cons_of_mem _ hx))
    have := h e List.mem_cons_self
    simp only [rl_be]
    rw [if_neg (by omega)]; omega
theorem rl_be_nn (t : Int) : ∀ {L : rl_Lt}, (∀ e ∈ L, 1 ≤ e.2) → 0 ≤ rl_be t L
  | [], _ => Int.le_refl 0
  | e :: L, h => by
    have ih := rl_be_nn t (fun x hx => h x (List.mem_cons_of_mem _ hx))
    have := h e List.mem_cons_self
    simp only [rl_be]
    by_cases h1 : e.1 ≤ t
    · rw [if_pos h1]; omega
    · rw [if_neg h1]; omega
theorem rl_ab_nn (t : Int) : ∀ {L : rl_Lt}, (∀ e ∈ L, 1 ≤ e.2) → 0 ≤ rl_ab t L
  | [], _ => Int.le_refl 0
  | e :: L, h => by
    have ih := rl_ab_nn t (fun x hx => h x (List.mem_cons_of_mem _ hx))
    have := h e List.mem_cons_self
    simp only [rl_ab]
    by_cases h1 : t < e.1
    · rw [if_pos h1]; omega
    · rw [if_neg h1]; omega
theorem rl_on_nn (t : Int) : ∀ {L : rl_Lt}, (∀ e ∈ L, 1 ≤ e.2) → 0 ≤ rl_on t L
  | [], _ => Int.le_refl 0
  | e :: L, h => by
    have ih := rl_on_nn t (fun x hx => h x (List.mem_cons_of_mem _ hx))
    have := h e List.mem_cons_self
    simp only [rl_on]
    by_cases h1 : e.1 = t
    · rw [if_pos h1]; omega
    · rw [if_neg h1]; omega
theorem rl_ab_le (t : Int) {L : rl_Lt} (h : ∀ e ∈ L, 1 ≤ e.2) : rl_ab t L ≤ rl_sum L := by
  have h1 := rl_ab_be t L
  have h2 := rl_be_nn t h
  omega
theorem rl_len_le : ∀ {L : rl_Lt}, (∀ e ∈ L, 1 ≤ e.2) → (L.length : Int) ≤ rl_sum L
  | [], _ => Int.le_refl 0
  | e :: L, h => by
    have ih := rl_len_le (fun x hx => h x (List.mem_cons_of_mem _ hx))
    have := h e List.mem_cons_self
    simp only [rl_sum, List.length_cons]
    omega
theorem rl_sum_app : ∀ (L : rl_Lt) (e : Int × Int), rl_sum (L ++ [e]) = rl_sum L + e.2
  | [], e => by simp [rl_sum]
  | a :: L, e => by
    have ih := rl_sum_app L e
    simp only [List.cons_append, rl_sum, ih]; omega
theorem rl_on_app (t : Int) : ∀ (L : rl_Lt) (e : Int × Int), rl_on t (L ++ [e]) = rl_on t L + (if e.1 = t then e.2 else 0)
  | [], e => by simp [rl_on]
  | a :: L, e => by
    have ih := rl_on_app t L e
    simp only [List.cons_append, rl_on, ih]; omega
/-- the waiting time by the log: what stands first leaves first -/
def rl_lw (sp w : Int) : rl_Lt → Int → Int → Int
  | [], _, wait => wait
  | e :: L, o, wait => if o ≤ 0 then wait else rl_lw sp w L (o - e.2) (e.1 + sp - w)
theorem rl_lw_le (sp w : Int) {o : Int} (h : o ≤ 0) (wait : Int) : ∀ L : rl_Lt, rl_lw sp w L o wait = wait
  | [] => rfl
  | e :: L => by simp only [rl_lw]; rw [if_pos h]
theorem rl_lw_spec (sp w : Int) : ∀ (L : rl_Lt) (o wait : Int), (∀ e ∈ L, 1 ≤ e.2) → L.Pairwise (fun a b => a.1 ≤ b.1) → 0 < o → o ≤ rl_sum L →
    ∃ e ∈ L, rl_lw sp w L o wait = e.1 + sp - w ∧ o ≤ rl_be e.1 L ∧ ∀ t, t < e.1 → rl_be t L < o
  | [], o, wait, _, _, h1, h2 => by simp only [rl_sum] at h2; omega
  | e :: L, o, wait, hc, hp, h1, h2 => by
    have hcL : ∀ x ∈ L, 1 ≤ x.2 := fun x hx => hc x (List.mem_cons_of_mem _ hx)
    have hce := hc e List.mem_cons_self
    obtain ⟨hpe, hpL⟩ := List.pairwise_cons.mp hp
    simp only [rl_sum] at h2
    simp only [rl_lw]
    rw [if_neg (by omega)]
    by_cases ho : o - e.2 ≤ 0
    · refine ⟨e, List.mem_cons_self, rl_lw_le sp w ho _ L, ?_, ?_⟩
      · simp only [rl_be]
        rw [if_pos (Int.le_refl _)]
        have := rl_be_nn e.1 hcL
        omega
      · intro t ht
        simp only [rl_be]
        rw [if_neg (by omega), rl_be_none (fun x hx => Int.lt_of_lt_of_le ht (hpe x hx))]
        omega
    · obtain ⟨x, hx, e1, e2, e3⟩ := rl_lw_spec sp w L (o - e.2) (e.1 + sp - w) hcL hpL (by omega) (by omega)
      refine ⟨x, List.mem_cons_of_mem _ hx, e1, ?_, ?_⟩
      · simp only [rl_be]
        rw [if_pos (hpe x hx)]
        omega
      · intro t ht
        have h9 := e3 t ht
        simp only [rl_be]
        by_cases h5 : e.1 ≤ t
        · rw [if_pos h5]; omega
        · rw [if_neg h5]; omega
end
section
/-! The relation of a meter in RateLimits (arrays f) to the same meter in RateLimitsModel (arrays g) at one time w -/
def rl_ring (f : rl_F) (j d : Nat) (L : rl_Lt) : Prop := d < 32 ∧ f 10 j = nI d ∧ f 11 j = nI L.length ∧ ∀ (i : Nat) (e : Int × Int), L[i]? = some e → (f 13 (j * 32 + (d + i) % 32)).toInt = e.1 ∧ (f 14 (j * 32 + (d + i) % 32)).toInt = e.2
def rl_good (w b : Int) (L : rl_Lt) : Prop := (∀ e ∈ L, e.1 ≤ w) ∧ (∀ e ∈ L, 1 ≤ e.2) ∧ L.Pairwise (fun a b => a.1 ≤ b.1) ∧ rl_sum L ≤ b
def rl_Lg (w b : Int) (f : rl_F) (j : Nat) (L : rl_Lt) : Prop := (∃ d, rl_ring f j d L) ∧ rl_good w b L ∧ (f 12 j).toInt = rl_sum L
def rl_gr (w sp : Int) (g : rl_F) (j : Nat) (L : rl_Lt) : Prop := ∀ i : Nat, i < 10 → (i : Int) < sp → (g 6 (j * 10 + i)).toInt = rl_on (w - i) L
def rl_RA (f g : rl_F) (j : Nat) : Prop := f 1 j = g 1 j ∧ f 2 j = g 2 j ∧ f 3 j = g 3 j ∧ f 4 j = g 4 j ∧ f 5 j = g 8 j ∧ f 6 j = g 9 j ∧ f 9 j = g 7 j ∧ (1 ≤ (f 2 j).toInt ∧ (f 2 j).toInt ≤ 5) ∧ (1 ≤ (f 3 j).toInt ∧ (f 3 j).toInt ≤ 30) ∧ (1 ≤ (f 4 j).toInt ∧ (f 4 j).toInt ≤ 10)
def rl_RT (w : Int32) (f g : rl_F) (j : Nat) : Prop := 0 ≤ (f 7 j).toInt ∧ (f 7 j).toInt ≤ (f 3 j).toInt ∧ 0 ≤ (f 8 j).toInt ∧ (f 8 j).toInt ≤ w.toInt ∧ (g 5 j).toInt = min (f 3 j).toInt ((f 7 j).toInt + (f 2 j).toInt * (w.toInt - (f 8 j).toInt))
def rl_RD (w : Int32) (f : rl_F) (j : Nat) : Prop := -1000000 ≤ (f 9 j).toInt ∧ (f 9 j).toInt ≤ w.toInt + (f 3 j).toInt * (f 4 j).toInt
def rl_RL (w : Int32) (f g : rl_F) (j : Nat) : Prop := ∃ L, rl_Lg w.toInt (f 3 j).toInt f j L ∧ rl_gr w.toInt (f 4 j).toInt g j L
/-- the meters agree -/
def rl_RM (w : Int32) (f g : rl_F) (j : Nat) : Prop := rl_RA f g j ∧ rl_RT w f g j ∧ rl_RD w f j ∧ rl_RL w f g j
/-- the meters agree, and RateLimits' has caught up -/
def rl_RC (w : Int32) (f g : rl_F) (j : Nat) : Prop := rl_RA f g j ∧ (f 8 j = w ∧ f 7 j = g 5 j ∧ 0 ≤ (f 7 j).toInt ∧ (f 7 j).toInt ≤ (f 3 j).toInt) ∧ rl_RD w f j ∧ ∃ L, rl_Lg w.toInt (f 3 j).toInt f j L ∧ rl_gr w.toInt (f 4 j).toInt g j L ∧ ∀ e ∈ L, w.toInt - (f 4 j).toInt < e.1
def rl_now (w : Int32) : Prop := 0 ≤ w.toInt ∧ w.toInt ≤ 100000
theorem rl_RC.RM {w : Int32} {f g : rl_F} {j : Nat} (hw : rl_now w) (h : rl_RC w f g j) : rl_RM w f g j := by
  obtain ⟨hA, ⟨h8, h7, h70, h7b⟩, hD, L, h1, h2, -⟩ := h
  refine ⟨hA, ⟨h70, h7b, ?_, ?_, ?_⟩, hD, L, h1, h2⟩
  · rw [h8]; exact hw.1
  · rw [h8]; exact Int.le_refl _
  · rw [h8, ← h7, Int.sub_self, Int.mul_zero]; omega
/-- what a meter sees -/
def rx_same (f f' : rl_F) (i : Nat) : Prop := (∀ k, k ≤ 12 → f' k i = f k i) ∧ ∀ d, d < 32 → f' 13 (i * 32 + d) = f 13 (i * 32 + d) ∧ f' 14 (i * 32 + d) = f 14 (i * 32 + d)
def rm_same (g g' : rl_F) (i : Nat) : Prop := (∀ k, k ≠ 6 → g' k i = g k i) ∧ ∀ d, d < 10 → g' 6 (i * 10 + d) = g 6 (i * 10 + d)
theorem rx_same_rf (f : rl_F) (i : Nat) : rx_same f f i := ⟨fun _ _ => rfl, fun _ _ => ⟨rfl, rfl⟩⟩
theorem rm_same_rf (g : rl_F) (i : Nat) : rm_same g g i := ⟨fun _ _ => rfl, fun _ _ => rfl⟩
theorem rx_same.tr {f f' f'' : rl_F} {i : Nat} (h : rx_same f f' i) (h' : rx_same f' f'' i) : rx_same f f'' i := ⟨fun k hk => (h'.1 k hk).trans (h.1 k hk), fun d hd => ⟨(h'.2 d hd).1.trans (h.2 d hd).1, (h'.2 d hd).2.trans (h.2 d hd).2⟩⟩
theorem rm_same.tr {f f' f'' : rl_F} {i : Nat} (h : rm_same f f' i) (h' : rm_same f' f'' i) : rm_same f f'' i := ⟨fun k hk => (h'.1 k hk).trans (h.1 k hk), fun d hd => (h'.2 d hd).trans (h.2 d hd)⟩
theorem rl_up_oth (f : rl_F) {k i a b : Nat} (v : Int32) (h : a ≠ k ∨ b ≠ i) : rl_up f k i v a b = f a b := by
  rcases h with h | h
  · exact rl_up_ne f i b v h
  · exact rl_up_ni f k a v h
/-- a store at another meter -/
theorem rx_same_up (f : rl_F) {k i j : Nat} (v : Int32) (hk : k ≤ 12) (h : i ≠ j) : rx_same f (rl_up f k j v) i :=
  ⟨fun a _ => rl_up_ni f k a v h, fun d _ => ⟨rl_up_ne f _ _ v (by omega), rl_up_ne f _ _ v (by omega)⟩⟩
theorem rx_same_upL (f : rl_F) {k i j d : Nat} (v : Int32) (hk : k = 13 ∨ k = 14) (hd : d < 32) (h : i ≠ j) : rx_same f (rl_up f k (j * 32 + d) v) i :=
  ⟨fun a ha => rl_up_ne f _ _ v (by omega), fun d2 hd2 => ⟨rl_up_ni f _ _ v (by omega), rl_up_ni f _ _ v (by omega)⟩⟩
theorem rm_same_up (f : rl_F) {k i j : Nat} (v : Int32) (hk : k ≠ 6) (h : i ≠ j) : rm_same f (rl_up f k j v) i :=
  ⟨fun a _ => rl_up_ni f k a v h, fun d _ => rl_up_ne f _ _ v (Ne.symm hk)⟩
theorem rm_same_upL (f : rl_F) {i j d : Nat} (v : Int32) (hd : d < 10) (h : i ≠ j) : rm_same f (rl_up f 6 (j * 10 + d) v) i :=
  ⟨fun a ha => rl_up_ne f _ _ v ha, fun d2 hd2 => rl_up_ni f _ _ v (by omega)⟩
theorem rl_ring_cg {f f' : rl_F} {j d : Nat} {L : rl_Lt} (hf : rx_same f f' j) (h : rl_ring f j d L) : rl_ring f' j d L := by
  obtain ⟨h1, h2, h3, h4⟩ := h
  refine ⟨h1, by rw [hf.1 10 (by decide)]; exact h2, by rw [hf.1 11 (by decide)]; exact h3, fun i e he => ?_⟩
  have h5 := hf.2 ((d + i) % 32) (Nat.mod_lt _ (by decide))
  rw [h5.1, h5.2]
  exact h4 i e he
theorem rl_Lg_cg {w b : Int} {f f' : rl_F} {j : Nat} {L : rl_Lt} (hf : rx_same f f' j) (h : rl_Lg w b f j L) : rl_Lg w b f' j L := by
  obtain ⟨⟨d, h1⟩, h2, h3⟩ := h
  exact ⟨⟨d, rl_ring_cg hf h1⟩, h2, by rw [hf.1 12 (by decide)]; exact h3⟩
theorem rl_gr_cg {w sp : Int} {g g' : rl_F} {j : Nat} {L : rl_Lt} (hg : rm_same g g' j) (h : rl_gr w sp g j L) : rl_gr w sp g' j L := fun i h1 h2 => by rw [hg.2 i h1]; exact h i h1 h2
theorem rl_RA_cg {f f' g g' : rl_F} {j : Nat} (hf : rx_same f f' j) (hg : rm_same g g' j) (h : rl_RA f g j) : rl_RA f' g' j := by
  unfold rl_RA
  rw [hf.1 1 (by decide), hf.1 2 (by decide), hf.1 3 (by decide), hf.1 4 (by decide), hf.1 5 (by decide), hf.1 6 (by decide), hf.1 9 (by decide), hg.1 1 (by decide), hg.1 2 (by decide), hg.1 3 (by decide), hg.1 4 (by decide), hg.1 7 (by decide), hg.1 8 (by decide), hg.1 9 (by decide)]
  exact h
theorem rl_RM_cg {w : Int32} {f f' g g' : rl_F} {j : Nat} (hf : rx_same f f' j) (hg : rm_same g g' j) (h : rl_RM w f g j) : rl_RM w f' g' j := by
  obtain ⟨hA, hT, hD, L, h1, h2⟩ := h
  refine ⟨rl_RA_cg hf hg hA, ?_, ?_, L, ?_, ?_⟩
  · unfold rl_RT
    rw [hf.1 2 (by decide), hf.1 3 (by decide), hf.1 7 (by decide), hf.1 8 (by decide), hg.1 5 (by decide)]
    exact hT
  · unfold rl_RD
    rw [hf.1 3 (by decide), hf.1 4 (by decide), hf.1 9 (by decide)]
    exact hD
  · rw [hf.1 3 (by decide)]; exact rl_Lg_cg hf h1
  · rw [hf.1 4 (by decide)]; exact rl_gr_cg hg h2
theorem rl_RC_cg {w : Int32} {f f' g g' : rl_F} {j : Nat} (hf : rx_same f f' j) (hg : rm_same g g' j) (h : rl_RC w f g j) : rl_RC w f' g' j := by
  obtain ⟨hA, hT, hD, L, h1, h2, h3⟩ := h
  refine ⟨rl_RA_cg hf hg hA, ?_, ?_, L, ?_, ?_, ?_⟩
  · rw [hf.1 3 (by decide), hf.1 7 (by decide), hf.1 8 (by decide), hg.1 5 (by decide)]
    exact hT
  · unfold rl_RD
    rw [hf.1 3 (by decide), hf.1 4 (by decide), hf.1 9 (by decide)]
    exact hD
  · rw [hf.1 3 (by decide)]; exact rl_Lg_cg hf h1
  · rw [hf.1 4 (by decide)]; exact rl_gr_cg hg h2
  · rw [hf.1 4 (by decide)]; exact h3
theorem rx_room_cg {w : Int32} {f f' : rl_F} {j : Nat} (hf : rx_same f f' j) : rx_room w f' j = rx_room w f j := by
  unfold rx_room rx_left rx_base
  rw [hf.1 1 (by decide), hf.1 3 (by decide), hf.1 4 (by decide), hf.1 7 (by decide), hf.1 9 (by decide), hf.1 12 (by decide)]
/-- where a catch-up writes -/
def rx_fr (f' f : rl_F) (j : Nat) : Prop := ∀ k i, ((k = 7 ∨ k = 8 ∨ k = 10 ∨ k = 11 ∨ k = 12) ∧ i = j) ∨ f' k i = f k i
theorem rx_fr.at {f' f : rl_F} {j : Nat} (h : rx_fr f' f j) (k i : Nat) (hk : ¬ ((k = 7 ∨ k = 8 ∨ k = 10 ∨ k = 11 ∨ k = 12) ∧ i = j)) : f' k i = f k i := (h k i).resolve_left hk
theorem rx_fr.same {f' f : rl_F} {i j : Nat} (h : rx_fr f' f j) (hi : i ≠ j) : rx_same f f' i := ⟨fun k _ => h.at k i (by omega), fun d _ => ⟨h.at 13 _ (by omega), h.at 14 _ (by omega)⟩⟩
theorem rx_fr.tr {a b c : rl_F} {j : Nat} (h : rx_fr a b j) (h2 : rx_fr b c j) : rx_fr a c j := fun k i => by
  rcases h k i with h1 | h1
  · exact Or.inl h1
  · rcases h2 k i with h3 | h3
    · exact Or.inl h3
    · exact Or.inr (h1.trans h3)
theorem rx_fr_up (f : rl_F) {k j : Nat} (v : Int32) (hk : k = 7 ∨ k = 8 ∨ k = 10 ∨ k = 11 ∨ k = 12) : rx_fr (rl_up f k j v) f j := fun a i => by
  by_cases h : a = k ∧ i = j
  · exact Or.inl ⟨by omega, h.2⟩
  · exact Or.inr (rl_up_oth f v (by omega))
theorem rx_fr_rf (f : rl_F) (j : Nat) : rx_fr f f j := fun _ _ => Or.inr rfl
theorem rx_fr_pop1 (f : rl_F) (j : Nat) : rx_fr (rx_pop1 f j) f j := (rx_fr_up _ _ (by decide)).tr ((rx_fr_up _ _ (by decide)).tr (rx_fr_up _ _ (by decide)))
theorem rx_fr_pops (w : Int32) (j : Nat) : ∀ (n : Nat) (f : rl_F), rx_fr (rx_pops w j n f) f j
  | 0, f => rx_fr_rf f j
  | n + 1, f => by
    unfold rx_pops
    by_cases h1 : f 11 j ≤ 0
    · rw [if_pos h1]; exact rx_fr_rf f j
    · rw [if_neg h1]
      by_cases h2 : w - f 4 j < f 13 (rx_at f j)
      · rw [if_pos h2]; exact rx_fr_rf f j
      · rw [if_neg h2]; exact (rx_fr_pops w j n _).tr (rx_fr_pop1 f j)
theorem rx_fr_c0 (w : Int32) (f : rl_F) (j : Nat) : rx_fr (rx_c0 w f j) f j := (rx_fr_up _ _ (by decide)).tr (rx_fr_up _ _ (by decide))
theorem rx_fr_catch (w : Int32) (f : rl_F) (j : Nat) : rx_fr (rx_catch w f j) f j := (rx_fr_pops w j 32 _).tr (rx_fr_c0 w f j)
/-- the pops leave tokens and filled -/
theorem rx_pops_78 (w : Int32) (j : Nat) {k : Nat} (hk : k = 7 ∨ k = 8) (i : Nat) : ∀ (n : Nat) (f : rl_F), rx_pops w j n f k i = f k i
  | 0, f => rfl
  | n + 1, f => by
    unfold rx_pops
    by_cases h1 : f 11 j ≤ 0
    · rw [if_pos h1]
    · rw [if_neg h1]
      by_cases h2 : w - f 4 j < f 13 (rx_at f j)
      · rw [if_pos h2]
      · rw [if_neg h2, rx_pops_78 w j hk i n]
        unfold rx_pop1
        rw [rl_up_ne _ _ _ _ (by omega), rl_up_ne _ _ _ _ (by omega), rl_up_ne _ _ _ _ (by omega)]
theorem rl_at_d {f : rl_F} {j d : Nat} {L : rl_Lt} (h : rl_ring f j d L) : rx_at f j = j * 32 + d := by
  unfold rx_at
  rw [h.2.1, nI_clamp (by have := h.1; omega)]
theorem rl_ring_hd {f : rl_F} {j d : Nat} {e : Int × Int} {L : rl_Lt} (h : rl_ring f j d (e :: L)) : (f 13 (rx_at f j)).toInt = e.1 ∧ (f 14 (rx_at f j)).toInt = e.2 := by
  have h1 := h.2.2.2 0 e rfl
  rw [rl_at_d h]
  rw [Nat.add_zero, Nat.mod_eq_of_lt h.1] at h1
  exact h1
theorem rl_pop {w b : Int} {f : rl_F} {j : Nat} {e : Int × Int} {L : rl_Lt} (hb : b ≤ 30) (h : rl_Lg w b f j (e :: L)) : rl_Lg w b (rx_pop1 f j) j L := by
  obtain ⟨⟨d, hr⟩, ⟨g1, g2, g3, g4⟩, h3⟩ := h
  have hh := rl_ring_hd hr
  have hc := g2 e List.mem_cons_self
  have g2' : ∀ x ∈ L, 1 ≤ x.2 := fun x hx => g2 x (List.mem_cons_of_mem _ hx)
  have hlen := rl_len_le g2'
  obtain ⟨r1, r2, r3, r4⟩ := hr
  simp only [rl_sum] at g4 h3
  refine ⟨⟨(d + 1) % 32, Nat.mod_lt _ (by decide), ?_, ?_, fun i x hx => ?_⟩, ⟨fun x hx => g1 x (List.mem_cons_of_mem _ hx), g2', (List.pairwise_cons.mp g3).2, by omega⟩, ?_⟩
  · unfold rx_pop1
    rw [rl_up_ne _ _ _ _ (by decide), rl_up_eq, r2, nI_1]
    exact pk_andN (by omega) (m := 31) 5 (by decide)
  · unfold rx_pop1
    rw [rl_up_eq, r3, List.length_cons, nI_pred]
  · have h9 := r4 (i + 1) x (by simpa using hx)
    unfold rx_pop1
    rw [rl_up_ne _ _ _ _ (by decide), rl_up_ne _ _ _ _ (by decide), rl_up_ne _ _ _ _ (by decide), rl_up_ne _ _ _ _ (by decide), rl_up_ne _ _ _ _ (by decide), rl_up_ne _ _ _ _ (by decide), show ((d + 1) % 32 + i) % 32 = (d + (i + 1)) % 32 by omega]
    exact h9
  · unfold rx_pop1
    rw [rl_up_ne _ _ _ _ (by decide), rl_up_ne _ _ _ _ (by decide), rl_up_eq, fb_subI (by omega) (by omega)]
    omega
theorem rl_pops_spec {w : Int32} (hw : rl_now w) {b : Int} (hb : b ≤ 30) {j : Nat} : ∀ (n : Nat) (f : rl_F) (L : rl_Lt), L.length ≤ n → (1 ≤ (f 4 j).toInt ∧ (f 4 j).toInt ≤ 10) → rl_Lg w.toInt b f j L →
    ∃ L', rl_Lg w.toInt b (rx_pops w j n f) j L' ∧ (∀ e ∈ L', w.toInt - (f 4 j).toInt < e.1) ∧ ∀ t, w.toInt - (f 4 j).toInt < t → rl_on t L' = rl_on t L
  | 0, f, L, hn, hs, h => by
    have e0 : L = [] := List.length_eq_zero_iff.mp (by omega)
    subst e0
    exact ⟨[], h, fun e he => absurd he List.not_mem_nil, fun _ _ => rfl⟩
  | n + 1, f, [], hn, hs, h => by
    refine ⟨[], ?_, fun e he => absurd he List.not_mem_nil, fun _ _ => rfl⟩
    obtain ⟨d, hr⟩ := h.1
    have h1 : f 11 j ≤ 0 := by rw [hr.2.2.1]; decide
    unfold rx_pops
    rw [if_pos h1]
    exact h
  | n + 1, f, e :: L, hn, hs, h => by
    have h0 := h
    obtain ⟨⟨d, hr⟩, ⟨g1, g2, g3, g4⟩, h3⟩ := h0
    have hh := rl_ring_hd hr
    have hlen := rl_len_le g2
    have h1 : ¬ f 11 j ≤ 0 := by rw [hr.2.2.1]; exact nI_nle (by simp) (by omega)
    have hws : (w - f 4 j).toInt = w.toInt - (f 4 j).toInt := fb_subI (by have := hw.1; omega) (by have := hw.2; omega)
    unfold rx_pops
    rw [if_neg h1]
    by_cases h2 : w - f 4 j < f 13 (rx_at f j)
    · rw [if_pos h2]
      rw [Int32.lt_iff_toInt_lt, hws, hh.1] at h2
      refine ⟨e :: L, h, fun x hx => ?_, fun _ _ => rfl⟩
      rcases List.mem_cons.mp hx with rfl | hx
      · exact h2
      · exact Int.lt_of_lt_of_le h2 ((List.pairwise_cons.mp g3).1 x hx)
    · rw [if_neg h2]
      rw [Int32.lt_iff_toInt_lt, hws, hh.1] at h2
      have h4 : (rx_pop1 f j) 4 j = f 4 j := (rx_fr_pop1 f j).at 4 j (by omega)
      obtain ⟨L', k1, k2, k3⟩ := rl_pops_spec hw hb n (rx_pop1 f j) L (by simp only [List.length_cons] at hn; omega) (by rw [h4]; exact hs) (rl_pop hb h)
      rw [h4] at k2 k3
      refine ⟨L', k1, k2, fun t ht => ?_⟩
      rw [k3 t ht]
      simp only [rl_on]
      rw [if_neg (by omega)]
      omega
theorem rl_full {w : Int32} (hw : rl_now w) {f g : rl_F} {j : Nat} (hA : rl_RA f g j) (hT : rl_RT w f g j) : (rx_full w f j).toInt = (f 7 j).toInt + (f 2 j).toInt * (w.toInt - (f 8 j).toInt) := by
  obtain ⟨-, -, -, -, -, -, -, ⟨r1, r2⟩, ⟨b1, b2⟩, -⟩ := hA
  obtain ⟨t1, t2, t3, t4, -⟩ := hT
  obtain ⟨w1, w2⟩ := hw
  have h1 : (w - f 8 j).toInt = w.toInt - (f 8 j).toInt := fb_subI (by omega) (by omega)
  have hm := rl_mulb (a := (f 2 j).toInt) (b := w.toInt - (f 8 j).toInt) (x := 5) (y := 100000) (by omega) (by omega) (by omega) (by omega)
  have h2 : (f 2 j * (w - f 8 j)).toInt = (f 2 j).toInt * (w.toInt - (f 8 j).toInt) := by rw [fb_mulI (by rw [h1]; omega) (by rw [h1]; omega), h1]
  unfold rx_full
  rw [fb_addI (by rw [h2]; omega) (by rw [h2]; omega), h2]
/-- CATCH-UP -/
theorem rl_catch {w : Int32} (hw : rl_now w) {f g : rl_F} {j : Nat} (h : rl_RM w f g j) : rl_RC w (rx_catch w f j) g j := by
  obtain ⟨hA, hT, hD, L, hL, hg⟩ := h
  have hfull := rl_full hw hA hT
  have hfr := rx_fr_catch w f j
  have e1 := hfr.at 1 j (by omega)
  have e2 := hfr.at 2 j (by omega)
  have e3 := hfr.at 3 j (by omega)
  have e4 := hfr.at 4 j (by omega)
  have e5 := hfr.at 5 j (by omega)
  have e6 := hfr.at 6 j (by omega)
  have e9 := hfr.at 9 j (by omega)
  have e7 : rx_catch w f j 7 j = if f 3 j ≤ rx_full w f j then f 3 j else rx_full w f j := by
    unfold rx_catch
    rw [rx_pops_78 w j (Or.inl rfl)]
    unfold rx_c0
    rw [rl_up_ne _ _ _ _ (by decide), rl_up_eq]
  have e8 : rx_catch w f j 8 j = w := by
    unfold rx_catch
    rw [rx_pops_78 w j (Or.inr rfl)]
    unfold rx_c0
    rw [rl_up_eq]
  obtain ⟨a1, a2, a3, a4, a5, a6, a7, ⟨r1, r2⟩, ⟨b1, b2⟩, s1, s2⟩ := hA
  obtain ⟨t1, t2, t3, t4, t5⟩ := hT
  have hm := rl_mulb (a := (f 2 j).toInt) (b := w.toInt - (f 8 j).toInt) (x := 5) (y := 100000) (by omega) (by have := hw.1; omega) (by omega) (by have := hw.2; omega)
  have e75 : rx_catch w f j 7 j = g 5 j := by
    rw [e7, ← Int32.toInt_inj, t5]
    by_cases hc : f 3 j ≤ rx_full w f j
    · rw [if_pos hc]
      rw [Int32.le_iff_toInt_le, hfull] at hc
      omega
    · rw [if_neg hc]
      rw [Int32.le_iff_toInt_le, hfull] at hc
      omega
  have hlen : L.length ≤ 32 := by
    have := rl_len_le hL.2.1.2.1
    have := hL.2.1.2.2.2
    omega
  have hL0 : rl_Lg w.toInt (f 3 j).toInt (rx_c0 w f j) j L := by
    obtain ⟨⟨d, r1, r2, r3, r4⟩, h2, h3⟩ := hL
    unfold rx_c0
    refine ⟨⟨d, r1, ?_, ?_, fun i e he => ?_⟩, h2, ?_⟩
    · rw [rl_up_ne _ _ _ _ (by decide), rl_up_ne _ _ _ _ (by decide)]; exact r2
    · rw [rl_up_ne _ _ _ _ (by decide), rl_up_ne _ _ _ _ (by decide)]; exact r3
    · rw [rl_up_ne _ _ _ _ (by decide), rl_up_ne _ _ _ _ (by decide), rl_up_ne _ _ _ _ (by decide), rl_up_ne _ _ _ _ (by decide)]; exact r4 i e he
    · rw [rl_up_ne _ _ _ _ (by decide), rl_up_ne _ _ _ _ (by decide)]; exact h3
  have e40 : rx_c0 w f j 4 j = f 4 j := (rx_fr_c0 w f j).at 4 j (by omega)
  obtain ⟨L', k1, k2, k3⟩ := rl_pops_spec hw b2 32 (rx_c0 w f j) L hlen (by rw [e40]; exact ⟨s1, s2⟩) hL0
  rw [e40] at k2 k3
  refine ⟨?_, ⟨e8, e75, ?_, ?_⟩, ?_, L', ?_, ?_, ?_⟩
  · unfold rl_RA
    rw [e1, e2, e3, e4, e5, e6, e9]
    exact ⟨a1, a2, a3, a4, a5, a6, a7, ⟨r1, r2⟩, ⟨b1, b2⟩, s1, s2⟩
  · rw [e75, t5]; omega
  · rw [e75, t5, e3]; omega
  · unfold rl_RD
    rw [e3, e4, e9]
    exact hD
  · rw [e3]; exact k1
  · rw [e4]
    intro i h1 h2
    rw [hg i h1 h2, k3 _ (by omega)]
  · rw [e4]; exact k2
end
section
/-! What RateLimitsModel computes, as whole numbers -/
theorem rl_tk {r b : Int32} (hr : 1 ≤ r.toInt ∧ r.toInt ≤ 5) (hb : b.toInt ≤ 30) : ∀ (n : Nat) (t : Int32), 0 ≤ t.toInt → t.toInt ≤ b.toInt → (rm_tk r b n t).toInt = min b.toInt (t.toInt + r.toInt * (n : Int))
  | 0, t, h0, h1 => by
    simp only [rm_tk]
    rw [show ((0 : Nat) : Int) = 0 from rfl, Int.mul_zero]
    omega
  | n + 1, t, h0, h1 => by
    simp only [rm_tk]
    have ht : (t + r).toInt = t.toInt + r.toInt := fb_addI (by omega) (by omega)
    have hn : 0 ≤ r.toInt * (n : Int) := Int.mul_nonneg (by omega) (by omega)
    have hs : r.toInt * ((n + 1 : Nat) : Int) = r.toInt * (n : Int) + r.toInt := by
      rw [show ((n + 1 : Nat) : Int) = (n : Int) + 1 from rfl, Int.mul_add, Int.mul_one]
    by_cases hc : t + r ≤ b
    · rw [if_pos hc]
      rw [Int32.le_iff_toInt_le, ht] at hc
      rw [rl_tk hr hb n (t + r) (by omega) (by omega), ht, hs]
      omega
    · rw [if_neg hc]
      rw [Int32.le_iff_toInt_le, ht] at hc
      rw [rl_tk hr hb n b (by omega) (by omega), hs]
      omega
theorem rl_nat {x : Int32} (h : 0 ≤ x.toInt) : ∃ n : Nat, n < 2 ^ 31 ∧ x = nI n ∧ x.toInt = (n : Int) := by
  obtain ⟨n, hn, e⟩ := nI_of (x := x) (by rw [Int32.lt_iff_toInt_lt]; rw [show (0 : Int32).toInt = 0 from rfl]; omega)
  exact ⟨n, hn, e, by rw [e]; exact nI_toInt hn⟩
theorem rl_ab_all {t : Int} {L : rl_Lt} (h : ∀ e ∈ L, t < e.1) : rl_ab t L = rl_sum L := by
  have h1 := rl_ab_be t L
  rw [rl_be_none h] at h1
  omega
theorem rl_lg_step {w : Int} {g : rl_F} {j s u : Nat} {L : rl_Lt} (hs : g 4 j = nI s) (hs2 : s ≤ 10) (hu : u ≤ 300) (hc : ∀ e ∈ L, 1 ≤ e.2) (hb : rl_sum L ≤ 30) (hg : rl_gr w (s : Int) g j L) :
    ∀ (n i : Nat) (sum : Int32), i + n = 10 → sum.toInt = rl_ab (w - (min i (s - u) : Nat)) L → (rm_lg g j (nI u) n i sum).toInt = rl_ab (w - (s - u : Nat)) L
  | 0, i, sum, hi, h => by
    simp only [rm_lg]
    rw [h, show min i (s - u) = s - u by omega]
  | n + 1, i, sum, hi, h => by
    simp only [rm_lg]
    refine rl_lg_step hs hs2 hu hc hb hg n (i + 1) _ (by omega) ?_
    rw [hs, nI_add]
    by_cases hle : s ≤ i + u
    · rw [if_pos ((nI_leI (by omega) (by omega)).mpr hle), h, show min i (s - u) = min (i + 1) (s - u) by omega]
    · rw [if_neg (fun z => hle ((nI_leI (by omega) (by omega)).mp z))]
      have h1 := hg i (by omega) (by omega)
      rw [show min i (s - u) = i by omega] at h
      have h2 := rl_ab_on (w - (i : Int)) L
      have h3 := rl_ab_le (w - (i : Int) - 1) hc
      have h4 := rl_ab_nn (w - (i : Int)) hc
      have h5 := rl_on_nn (w - (i : Int)) hc
      rw [fb_addI (by rw [h, h1]; omega) (by rw [h, h1]; omega), h, h1, ← h2, show min (i + 1) (s - u) = i + 1 by omega]
      congr 1
      omega
/-- the costs that count u time units from now -/
theorem rl_logged {w : Int} {g : rl_F} {j s u : Nat} {L : rl_Lt} (hs : g 4 j = nI s) (hs2 : s ≤ 10) (hu : u ≤ 300) (hc : ∀ e ∈ L, 1 ≤ e.2) (ht : ∀ e ∈ L, e.1 ≤ w) (hb : rl_sum L ≤ 30) (hg : rl_gr w (s : Int) g j L) : (rm_loggedIn g j (nI u)).toInt = rl_ab (w + u - s) L := by
  unfold rm_loggedIn
  rw [rl_lg_step hs hs2 hu hc hb hg 10 0 0 rfl (by rw [show min 0 (s - u) = 0 by omega, show (0 : Int32).toInt = 0 from rfl, rl_ab_none]; intro e he; have := ht e he; omega)]
  by_cases h : u ≤ s
  · congr 1; omega
  · rw [rl_ab_none (fun e he => by have := ht e he; omega), rl_ab_none (fun e he => by have := ht e he; omega)]
theorem rl_if01 {c : Prop} [Decidable c] : ((if c then (0 : Int32) else 1) = 0) ↔ c := by
  by_cases h : c
  · simp [h]
  · simp [h]
/-- would an ask be granted k time units from now: a bucket -/
theorem rl_would0 {w : Int32} {g : rl_F} {j : Nat} (h1 : g 1 j = 0) (hr : 1 ≤ (g 2 j).toInt ∧ (g 2 j).toInt ≤ 5) (hb : (g 3 j).toInt ≤ 30) (h0 : 0 ≤ (g 5 j).toInt) (h5 : (g 5 j).toInt ≤ (g 3 j).toInt) (cost : Int32) {k : Nat} (hk : k < 2 ^ 31) :
    rm_would w g j cost (nI k) = 0 ↔ min (g 3 j).toInt ((g 5 j).toInt + (g 2 j).toInt * (k : Int)) < cost.toInt := by
  unfold rm_would
  rw [if_pos h1, rl_if01, Int32.lt_iff_toInt_lt]
  unfold rm_tokensIn
  rw [nI_clamp hk, rl_tk hr hb k _ h0 h5]
/-- .. a log -/
theorem rl_would1 {w : Int32} {g : rl_F} {j s k : Nat} {L : rl_Lt} (h1 : g 1 j = 1) (hs : g 4 j = nI s) (hs2 : s ≤ 10) (hk : k ≤ 300) (hc : ∀ e ∈ L, 1 ≤ e.2) (ht : ∀ e ∈ L, e.1 ≤ w.toInt) (hb : rl_sum L ≤ 30) (hg : rl_gr w.toInt (s : Int) g j L) (cost : Int32) (hc1 : 1 ≤ cost.toInt) (hc2 : cost.toInt ≤ 20) :
    rm_would w g j cost (nI k) = 0 ↔ (g 3 j).toInt < rl_ab (w.toInt + k - s) L + cost.toInt := by
  unfold rm_would
  have hl := rl_logged hs hs2 hk hc ht hb hg
  have h4 := rl_ab_nn (w.toInt + k - s) hc
  have h5 := rl_ab_le (w.toInt + k - s) hc
  rw [if_neg (by rw [h1]; decide), if_pos h1, rl_if01, Int32.lt_iff_toInt_lt, fb_addI (by rw [hl]; omega) (by rw [hl]; omega), hl]
/-- .. a spacer -/
theorem rl_would2 {w : Int32} (hw : rl_now w) {g : rl_F} {j k : Nat} (h0 : ¬ g 1 j = 0) (h1 : ¬ g 1 j = 1) (hb : 1 ≤ (g 3 j).toInt ∧ (g 3 j).toInt ≤ 30) (hs : 1 ≤ (g 4 j).toInt ∧ (g 4 j).toInt ≤ 10) (hd : -1000000 ≤ (g 7 j).toInt ∧ (g 7 j).toInt ≤ w.toInt + (g 3 j).toInt * (g 4 j).toInt) (hk : k ≤ 300) (cost : Int32) (hc1 : 1 ≤ cost.toInt) (hc2 : cost.toInt ≤ 20) :
    rm_would w g j cost (nI k) = 0 ↔ (g 3 j).toInt * (g 4 j).toInt < max (g 7 j).toInt (w.toInt + k) + cost.toInt * (g 4 j).toInt - (w.toInt + k) := by
  unfold rm_would
  obtain ⟨w1, w2⟩ := hw
  have m1 := rl_mulb (a := (g 3 j).toInt) (b := (g 4 j).toInt) (x := 30) (y := 10) (by omega) (by omega) hb.2 hs.2
  have m2 := rl_mulb (a := cost.toInt) (b := (g 4 j).toInt) (x := 20) (y := 10) (by omega) (by omega) hc2 hs.2
  have hki : (nI k).toInt = (k : Int) := nI_toInt (by omega)
  have e1 : (w + nI k).toInt = w.toInt + k := by rw [fb_addI (by rw [hki]; omega) (by rw [hki]; omega), hki]
  have e2 : (g 3 j * g 4 j).toInt = (g 3 j).toInt * (g 4 j).toInt := fb_mulI (by omega) (by omega)
  have e3 : (cost * g 4 j).toInt = cost.toInt * (g 4 j).toInt := fb_mulI (by omega) (by omega)
  have e4 : (rm_from (w + nI k) g j).toInt = max (g 7 j).toInt (w.toInt + k) := by
    unfold rm_from
    by_cases h : g 7 j ≤ w + nI k
    · rw [if_pos h, e1]
      rw [Int32.le_iff_toInt_le, e1] at h
      omega
    · rw [if_neg h]
      rw [Int32.le_iff_toInt_le, e1] at h
      omega
  have e5 : (rm_from (w + nI k) g j + cost * g 4 j).toInt = max (g 7 j).toInt (w.toInt + k) + cost.toInt * (g 4 j).toInt := by
    rw [fb_addI (by rw [e3, e4]; omega) (by rw [e3, e4]; omega), e3, e4]
  rw [if_neg h0, if_neg h1, rl_if01, Int32.lt_iff_toInt_lt, e2, fb_subI (by rw [e5, e1]; omega) (by rw [e5, e1]; omega), e5, e1]
/-- the first time that would do -/
theorem rl_wt_first {w : Int32} {g : rl_F} {j : Nat} {cost : Int32} : ∀ (n k v : Nat), k ≤ v → v < k + n → (∀ i, k ≤ i → i < v → rm_would w g j cost (nI i) = 0) → ¬ rm_would w g j cost (nI v) = 0 → rm_wt w g j cost n k = nI v
  | 0, k, v, h1, h2, _, _ => by omega
  | n + 1, k, v, h1, h2, h3, h4 => by
    simp only [rm_wt]
    by_cases e : k = v
    · subst e
      rw [if_neg h4]
    · rw [if_pos (h3 k (Nat.le_refl k) (by omega))]
      exact rl_wt_first n (k + 1) v (by omega) (by omega) (fun i a b => h3 i (by omega) b) h4
theorem rl_wt_none {w : Int32} {g : rl_F} {j : Nat} {cost : Int32} : ∀ (n k : Nat), (∀ i, k ≤ i → i < k + n → rm_would w g j cost (nI i) = 0) → rm_wt w g j cost n k = -4
  | 0, k, _ => rfl
  | n + 1, k, h => by
    simp only [rm_wt]
    rw [if_pos (h k (Nat.le_refl k) (by omega))]
    exact rl_wt_none n (k + 1) (fun i a b => h i (by omega) (by omega))
theorem rl_rm_spec {w : Int32} {g : rl_F} {j q : Nat} (hq : ∀ c : Nat, 1 ≤ c → c ≤ 20 → (rm_would w g j (nI c) 0 = 0 ↔ q < c)) : ∀ (n k : Nat), 1 ≤ k → k + n = 21 → rm_rm w g j n k (nI (min (k - 1) q)) = nI (min 20 q)
  | 0, k, h1, h2 => by
    simp only [rm_rm]
    rw [show k - 1 = 20 by omega]
  | n + 1, k, h1, h2 => by
    simp only [rm_rm]
    have h := hq k h1 (by omega)
    by_cases hc : q < k
    · rw [if_pos (h.mpr hc), show min (k - 1) q = min (k + 1 - 1) q by omega]
      exact rl_rm_spec hq n (k + 1) (by omega) (by omega)
    · rw [if_neg (fun z => hc (h.mp z)), show nI k = nI (min (k + 1 - 1) q) by rw [show min (k + 1 - 1) q = k by omega]]
      exact rl_rm_spec hq n (k + 1) (by omega) (by omega)
/-- ROOM: what is left is what would be granted -/
theorem rl_room {w : Int32} (hw : rl_now w) {f g : rl_F} {j : Nat} (h : rl_RC w f g j) : ∃ q : Nat, q ≤ 30 ∧ rx_room w f j = nI q ∧ (∀ cost : Int32, 1 ≤ cost.toInt → cost.toInt ≤ 20 → (rm_would w g j cost 0 = 0 ↔ (q : Int) < cost.toInt)) := by
  obtain ⟨⟨a1, a2, a3, a4, a5, a6, a7, ⟨r1, r2⟩, ⟨b1, b2⟩, s1, s2⟩, ⟨t8, t7, t0, tb⟩, ⟨d1, d2⟩, L, ⟨⟨d, hr⟩, ⟨g1, g2, g3, g4⟩, h12⟩, hg, hlive⟩ := h
  by_cases k0 : f 1 j = 0
  · obtain ⟨q, hq, e, ei⟩ := rl_nat t0
    refine ⟨q, by omega, ?_, fun cost c1 c2 => ?_⟩
    · unfold rx_room
      rw [if_pos k0, e]
    · rw [show rm_would w g j cost 0 = rm_would w g j cost (nI 0) by rw [nI_0], rl_would0 (w := w) (g := g) (j := j) (k := 0) (by rw [← a1]; exact k0) (by rw [← a2]; exact ⟨r1, r2⟩) (by rw [← a3]; exact b2) (by rw [← t7]; exact t0) (by rw [← t7, ← a3]; exact tb) cost (by decide), ← t7, ← a3, show ((0 : Nat) : Int) = 0 from rfl, Int.mul_zero]
      omega
  · by_cases k1 : f 1 j = 1
    · have e1 : (f 3 j - f 12 j).toInt = (f 3 j).toInt - rl_sum L := by
        have h9 := rl_len_le g2
        rw [fb_subI (by rw [h12]; omega) (by rw [h12]; omega), h12]
      have h9 := rl_len_le g2
      obtain ⟨q, hq, e, ei⟩ := rl_nat (x := f 3 j - f 12 j) (by rw [e1]; omega)
      obtain ⟨s, hs, es, esi⟩ := rl_nat (x := f 4 j) (by omega)
      refine ⟨q, by omega, ?_, fun cost c1 c2 => ?_⟩
      · unfold rx_room
        rw [if_neg k0, if_pos k1, e]
      · rw [show rm_would w g j cost 0 = rm_would w g j cost (nI 0) by rw [nI_0], rl_would1 (w := w) (g := g) (j := j) (k := 0) (L := L) (s := s) (by rw [← a1]; exact k1) (by rw [← a4]; exact es) (by omega) (by decide) g2 g1 (by omega) (by rw [← esi]; exact hg) cost c1 c2, ← a3, rl_ab_all (fun x hx => by have := hlive x hx; omega)]
        omega
    · have m1 := rl_mulb (a := (f 3 j).toInt) (b := (f 4 j).toInt) (x := 30) (y := 10) (by omega) (by omega) b2 s2
      obtain ⟨w1, w2⟩ := hw
      have e2 : (f 3 j * f 4 j).toInt = (f 3 j).toInt * (f 4 j).toInt := fb_mulI (by omega) (by omega)
      have eb : (rx_base w f j).toInt = max (f 9 j).toInt w.toInt := by
        unfold rx_base
        by_cases hc : f 9 j ≤ w
        · rw [if_pos hc]
          rw [Int32.le_iff_toInt_le] at hc
          omega
        · rw [if_neg hc]
          rw [Int32.le_iff_toInt_le] at hc
          omega
      have ebw : (rx_base w f j - w).toInt = max (f 9 j).toInt w.toInt - w.toInt := by rw [fb_subI (by rw [eb]; omega) (by rw [eb]; omega), eb]
      have el : (rx_left w f j).toInt = (f 3 j).toInt * (f 4 j).toInt - (max (f 9 j).toInt w.toInt - w.toInt) := by
        unfold rx_left
        rw [fb_subI (by rw [e2, ebw]; omega) (by rw [e2, ebw]; omega), e2, ebw]
      obtain ⟨a, ha, ea, eai⟩ := rl_nat (x := rx_left w f j) (by rw [el]; omega)
      obtain ⟨s, hs, es, esi⟩ := rl_nat (x := f 4 j) (by omega)
      have hs0 : 0 < s := by omega
      have hrm : rx_room w f j = nI (a / s) := by
        unfold rx_room
        rw [if_neg k0, if_neg k1, if_pos (by rw [ea]; exact nI_pos' ha)]
        have hp : rx_pos (f 4 j) = f 4 j := by
          unfold rx_pos
          rw [if_neg (by rw [es]; exact nI_nle hs0 hs)]
        rw [hp, ea, es, pk_div ha hs0 hs]
      have hq30 : a / s ≤ 30 := by
        have h30 : a < 31 * s := by
          have : (a : Int) ≤ (f 3 j).toInt * (f 4 j).toInt := by omega
          have h2 : (f 3 j).toInt * (f 4 j).toInt ≤ 30 * (f 4 j).toInt := Int.mul_le_mul_of_nonneg_right b2 (by omega)
          omega
        have := (Nat.div_lt_iff_lt_mul hs0).mpr h30
        omega
      refine ⟨a / s, hq30, hrm, fun cost c1 c2 => ?_⟩
      obtain ⟨cn, hcn, ec, eci⟩ := rl_nat (x := cost) (by omega)
      rw [show rm_would w g j cost 0 = rm_would w g j cost (nI 0) by rw [nI_0], rl_would2 (w := w) (g := g) (j := j) (k := 0) ⟨w1, w2⟩ (by rw [← a1]; exact k0) (by rw [← a1]; exact k1) (by rw [← a3]; exact ⟨b1, b2⟩) (by rw [← a4]; exact ⟨s1, s2⟩) (by rw [← a7, ← a3, ← a4]; exact ⟨d1, d2⟩) (by decide) cost c1 c2, ← a3, ← a4, ← a7]
      have h1 : ((a / s : Nat) : Int) < cost.toInt ↔ a < cn * s := by
        rw [eci, Int.ofNat_lt]
        exact Nat.div_lt_iff_lt_mul hs0
      rw [h1]
      have h2 : ((cn * s : Nat) : Int) = cost.toInt * (f 4 j).toInt := by rw [eci, esi]; exact Int.natCast_mul cn s
      have h3 : a < cn * s ↔ (a : Int) < ((cn * s : Nat) : Int) := Int.ofNat_lt.symm
      rw [h3, h2, ← eai, el]
      omega
end
section
/-! Waiting times: worked out at once, and by trying -/
theorem rl_mem_le : ∀ {L : rl_Lt}, (∀ e ∈ L, 1 ≤ e.2) → ∀ e ∈ L, e.2 ≤ rl_sum L
  | [], _, e, he => absurd he List.not_mem_nil
  | a :: L, h, e, he => by
    have hL : ∀ x ∈ L, 1 ≤ x.2 := fun x hx => h x (List.mem_cons_of_mem _ hx)
    have h1 := rl_len_le hL
    have h2 := h a List.mem_cons_self
    simp only [rl_sum]
    rcases List.mem_cons.mp he with rfl | he
    · omega
    · have := rl_mem_le hL e he
      omega
theorem rl_lw_of {w : Int32} (hw : rl_now w) {f : rl_F} {j d : Nat} {L : rl_Lt} (hr : rl_ring f j d L) (hs : 1 ≤ (f 4 j).toInt ∧ (f 4 j).toInt ≤ 10) (h1 : ∀ e ∈ L, e.1 ≤ w.toInt) (h2 : ∀ e ∈ L, 1 ≤ e.2) (hb : rl_sum L ≤ 30) (hl : ∀ e ∈ L, w.toInt - (f 4 j).toInt < e.1) :
    ∀ (n i : Nat) (o wait : Int32), i + n = L.length → -31 ≤ o.toInt → o.toInt ≤ 100 → (rx_lw w f j n i o wait).toInt = rl_lw (f 4 j).toInt w.toInt (L.drop i) o.toInt wait.toInt
  | 0, i, o, wait, hi, _, _ => by
    simp only [rx_lw]
    rw [List.drop_eq_nil_of_le (by omega)]
    rfl
  | n + 1, i, o, wait, hi, ho1, ho2 => by
    have hlt : i < L.length := by omega
    rw [List.drop_eq_getElem_cons hlt]
    have hm : L[i] ∈ L := List.getElem_mem hlt
    have hre := hr.2.2.2 i L[i] (List.getElem?_eq_getElem hlt)
    have hat : rx_lwat f j i = j * 32 + (d + i) % 32 := by
      unfold rx_lwat
      have hlen := rl_len_le h2
      rw [hr.2.1, nI_add, pk_andN (by have := hr.1; omega) (m := 31) 5 (by decide), nI_clamp (by have := Nat.mod_lt (d + i) (show 0 < 2 ^ 5 by decide); omega)]
    have ha := h1 _ hm
    have hc := h2 _ hm
    have hv := hl _ hm
    have hle := rl_mem_le h2 _ hm
    obtain ⟨w1, w2⟩ := hw
    simp only [rx_lw, rl_lw]
    rw [hat]
    by_cases h0 : o ≤ 0
    · rw [if_pos h0]
      rw [Int32.le_iff_toInt_le, show (0 : Int32).toInt = 0 from rfl] at h0
      rw [if_pos h0]
    · rw [if_neg h0]
      rw [Int32.le_iff_toInt_le, show (0 : Int32).toInt = 0 from rfl] at h0
      rw [if_neg h0]
      have e1 : (o - f 14 (j * 32 + (d + i) % 32)).toInt = o.toInt - (L[i]).2 := by rw [fb_subI (by rw [hre.2]; omega) (by rw [hre.2]; omega), hre.2]
      have e2 : (f 13 (j * 32 + (d + i) % 32) + f 4 j).toInt = (L[i]).1 + (f 4 j).toInt := by rw [fb_addI (by rw [hre.1]; omega) (by rw [hre.1]; omega), hre.1]
      have e3 : (f 13 (j * 32 + (d + i) % 32) + f 4 j - w).toInt = (L[i]).1 + (f 4 j).toInt - w.toInt := by rw [fb_subI (by rw [e2]; omega) (by rw [e2]; omega), e2]
      rw [rl_lw_of ⟨w1, w2⟩ hr hs h1 h2 hb hl n (i + 1) _ _ (by omega) (by rw [e1]; omega) (by rw [e1]; omega), e1, e3]
theorem rl_eqI {x : Int32} {n : Nat} (h : x.toInt = (n : Int)) (hn : n < 2 ^ 31) : x = nI n := by
  rw [← Int32.toInt_inj, h, nI_toInt hn]
/-- WAIT: once the meter has caught up and the cost can be had at all -/
theorem rl_wait {w : Int32} (hw : rl_now w) {f g : rl_F} {j : Nat} (h : rl_RC w f g j) {cost : Int32} (c1 : 1 ≤ cost.toInt) (c2 : cost.toInt ≤ 20) (cb : cost ≤ f 3 j) : rx_wait1 w f j cost = rm_wt w g j cost 301 0 := by
  obtain ⟨q, hq, eq, hwd⟩ := rl_room hw h
  have hwd := hwd cost c1 c2
  have hqi : (nI q).toInt = (q : Int) := nI_toInt (by omega)
  have hrc : rx_room w f j < cost ↔ (q : Int) < cost.toInt := by rw [eq, Int32.lt_iff_toInt_lt, hqi]
  rw [Int32.le_iff_toInt_le] at cb
  unfold rx_wait1
  by_cases hlt : rx_room w f j < cost
  · rw [if_pos hlt]
    have hno : rm_would w g j cost (nI 0) = 0 := by rw [nI_0]; exact hwd.mpr (hrc.mp hlt)
    obtain ⟨⟨a1, a2, a3, a4, a5, a6, a7, ⟨r1, r2⟩, ⟨b1, b2⟩, s1, s2⟩, ⟨t8, t7, t0, tb⟩, ⟨d1, d2⟩, L, ⟨⟨d, hr⟩, ⟨g1, g2, g3, g4⟩, h12⟩, hg, hlive⟩ := h
    by_cases k1 : f 1 j = 1
    · rw [if_pos k1]
      obtain ⟨s, hs, es, esi⟩ := rl_nat (x := f 4 j) (by omega)
      have hlen := rl_len_le g2
      have hW : ∀ k : Nat, k ≤ 300 → (rm_would w g j cost (nI k) = 0 ↔ (f 3 j).toInt < rl_ab (w.toInt + k - s) L + cost.toInt) := fun k hk => by
        rw [rl_would1 (w := w) (g := g) (j := j) (k := k) (L := L) (s := s) (by rw [← a1]; exact k1) (by rw [← a4]; exact es) (by omega) hk g2 g1 (by omega) (by rw [← esi]; exact hg) cost c1 c2, ← a3]
      have h00 := (hW 0 (by decide)).mp hno
      rw [rl_ab_all (fun x hx => by have := hlive x hx; omega)] at h00
      have e1 : (f 12 j + cost).toInt = rl_sum L + cost.toInt := by rw [fb_addI (by rw [h12]; omega) (by rw [h12]; omega), h12]
      have e2 : (f 12 j + cost - f 3 j).toInt = rl_sum L + cost.toInt - (f 3 j).toInt := by rw [fb_subI (by rw [e1]; omega) (by rw [e1]; omega), e1]
      have hlw : (rx_logWait w f j cost).toInt = rl_lw (f 4 j).toInt w.toInt L (rl_sum L + cost.toInt - (f 3 j).toInt) 0 := by
        unfold rx_logWait
        rw [hr.2.2.1, nI_clamp (by omega), rl_lw_of hw hr ⟨s1, s2⟩ g1 g2 (by omega) hlive L.length 0 _ _ (by omega) (by rw [e2]; omega) (by rw [e2]; omega), e2, List.drop_zero, show (0 : Int32).toInt = 0 from rfl]
      obtain ⟨x, hx, x1, x2, x3⟩ := rl_lw_spec (f 4 j).toInt w.toInt L (rl_sum L + cost.toInt - (f 3 j).toInt) 0 g2 g3 (by omega) (by omega)
      have hxl := hlive x hx
      have hxw := g1 x hx
      obtain ⟨v, hv⟩ : ∃ v : Nat, (v : Int) = x.1 + (f 4 j).toInt - w.toInt := ⟨(x.1 + (f 4 j).toInt - w.toInt).toNat, by omega⟩
      have hvv : rx_logWait w f j cost = nI v := rl_eqI (by rw [hlw, x1, hv]) (by omega)
      rw [hvv]
      symm
      refine rl_wt_first 301 0 v (Nat.zero_le v) (by omega) (fun i _ hi => ?_) ?_
      · rw [hW i (by omega)]
        have y1 := x3 (w.toInt + i - s) (by omega)
        have y2 := rl_ab_be (w.toInt + i - s) L
        omega
      · rw [hW v (by omega), show w.toInt + (v : Int) - (s : Int) = x.1 by omega]
        have y2 := rl_ab_be x.1 L
        omega
    · rw [if_neg k1]
      by_cases k0 : f 1 j = 0
      · rw [if_pos k0]
        have hW : ∀ k : Nat, k ≤ 300 → (rm_would w g j cost (nI k) = 0 ↔ min (f 3 j).toInt ((f 7 j).toInt + (f 2 j).toInt * (k : Int)) < cost.toInt) := fun k hk => by
          rw [rl_would0 (w := w) (g := g) (j := j) (k := k) (by rw [← a1]; exact k0) (by rw [← a2]; exact ⟨r1, r2⟩) (by rw [← a3]; exact b2) (by rw [← t7]; exact t0) (by rw [← t7, ← a3]; exact tb) cost (by omega), ← t7, ← a3, ← a2]
        have h00 := (hW 0 (by decide)).mp hno
        rw [show ((0 : Nat) : Int) = 0 from rfl, Int.mul_zero] at h00
        have hp : rx_pos (f 2 j) = f 2 j := by
          unfold rx_pos
          rw [if_neg (by rw [Int32.le_iff_toInt_le, show (0 : Int32).toInt = 0 from rfl]; omega)]
        obtain ⟨r, hrr, er, eri⟩ := rl_nat (x := f 2 j) (by omega)
        have e1 : (cost - f 7 j).toInt = cost.toInt - (f 7 j).toInt := fb_subI (by omega) (by omega)
        have e2 : (cost - f 7 j + f 2 j).toInt = cost.toInt - (f 7 j).toInt + (f 2 j).toInt := by rw [fb_addI (by rw [e1]; omega) (by rw [e1]; omega), e1]
        have e3 : (cost - f 7 j + f 2 j - 1).toInt = cost.toInt - (f 7 j).toInt + (f 2 j).toInt - 1 := by rw [fb_subI (by rw [e2, show (1 : Int32).toInt = 1 from rfl]; omega) (by rw [e2, show (1 : Int32).toInt = 1 from rfl]; omega), e2, show (1 : Int32).toInt = 1 from rfl]
        obtain ⟨a, ha, ea, eai⟩ := rl_nat (x := cost - f 7 j + f 2 j - 1) (by rw [e3]; omega)
        have hr0 : 0 < r := by omega
        rw [hp, ea, er, pk_div ha hr0 hrr]
        have hdm := Nat.div_add_mod a r
        have hml := Nat.mod_lt a hr0
        have hv20 : a / r ≤ a := Nat.div_le_self a r
        have hmi : ((r * (a / r) : Nat) : Int) = (r : Int) * ((a / r : Nat) : Int) := Int.natCast_mul r (a / r)
        symm
        refine rl_wt_first 301 0 (a / r) (Nat.zero_le _) (by omega) (fun i _ hi => ?_) ?_
        · rw [hW i (by omega), eri]
          have h5 : r * (i + 1) ≤ r * (a / r) := Nat.mul_le_mul_left r hi
          rw [Nat.mul_add, Nat.mul_one] at h5
          have h6 : ((r * i : Nat) : Int) = (r : Int) * (i : Int) := Int.natCast_mul r i
          omega
        · rw [hW (a / r) (by omega), eri]
          omega
      · rw [if_neg k0]
        have hW : ∀ k : Nat, k ≤ 300 → (rm_would w g j cost (nI k) = 0 ↔ (f 3 j).toInt * (f 4 j).toInt < max (f 9 j).toInt (w.toInt + k) + cost.toInt * (f 4 j).toInt - (w.toInt + k)) := fun k hk => by
          rw [rl_would2 (w := w) (g := g) (j := j) (k := k) hw (by rw [← a1]; exact k0) (by rw [← a1]; exact k1) (by rw [← a3]; exact ⟨b1, b2⟩) (by rw [← a4]; exact ⟨s1, s2⟩) (by rw [← a7, ← a3, ← a4]; exact ⟨d1, d2⟩) hk cost c1 c2, ← a3, ← a4, ← a7]
        have h00 := (hW 0 (by decide)).mp hno
        rw [show ((0 : Nat) : Int) = 0 from rfl, Int.add_zero] at h00
        obtain ⟨w1, w2⟩ := hw
        have m1 := rl_mulb (a := (f 3 j).toInt) (b := (f 4 j).toInt) (x := 30) (y := 10) (by omega) (by omega) b2 s2
        have m2 := rl_mulb (a := cost.toInt) (b := (f 4 j).toInt) (x := 20) (y := 10) (by omega) (by omega) c2 s2
        have m3 : cost.toInt * (f 4 j).toInt ≤ (f 3 j).toInt * (f 4 j).toInt := Int.mul_le_mul_of_nonneg_right cb (by omega)
        have e1 : (cost - f 3 j).toInt = cost.toInt - (f 3 j).toInt := fb_subI (by omega) (by omega)
        have e2 : ((cost - f 3 j) * f 4 j).toInt = cost.toInt * (f 4 j).toInt - (f 3 j).toInt * (f 4 j).toInt := by
          rw [fb_mulI (by rw [e1, Int.sub_mul]; omega) (by rw [e1, Int.sub_mul]; omega), e1, Int.sub_mul]
        have e3 : (f 9 j + (cost - f 3 j) * f 4 j).toInt = (f 9 j).toInt + (cost.toInt * (f 4 j).toInt - (f 3 j).toInt * (f 4 j).toInt) := by rw [fb_addI (by rw [e2]; omega) (by rw [e2]; omega), e2]
        have e4 : (f 9 j + (cost - f 3 j) * f 4 j - w).toInt = (f 9 j).toInt + (cost.toInt * (f 4 j).toInt - (f 3 j).toInt * (f 4 j).toInt) - w.toInt := by rw [fb_subI (by rw [e3]; omega) (by rw [e3]; omega), e3]
        obtain ⟨v, hv⟩ : ∃ v : Nat, (v : Int) = (f 9 j).toInt + (cost.toInt * (f 4 j).toInt - (f 3 j).toInt * (f 4 j).toInt) - w.toInt := ⟨((f 9 j).toInt + (cost.toInt * (f 4 j).toInt - (f 3 j).toInt * (f 4 j).toInt) - w.toInt).toNat, by omega⟩
        rw [show f 9 j + (cost - f 3 j) * f 4 j - w = nI v from rl_eqI (by rw [e4, hv]) (by omega)]
        symm
        refine rl_wt_first 301 0 v (Nat.zero_le v) (by omega) (fun i _ hi => ?_) ?_
        · rw [hW i (by omega)]
          omega
        · rw [hW v (by omega)]
          omega
  · rw [if_neg hlt, ← nI_0]
    symm
    refine rl_wt_first 301 0 0 (Nat.le_refl 0) (by decide) (fun i _ hi => absurd hi (Nat.not_lt_zero i)) ?_
    rw [nI_0]
    exact fun z => hlt (hrc.mpr (hwd.mp z))
/-- a cost above the burst is never had -/
theorem rl_never {w : Int32} (hw : rl_now w) {f g : rl_F} {j : Nat} (h : rl_RC w f g j) {cost : Int32} (c1 : 1 ≤ cost.toInt) (c2 : cost.toInt ≤ 20) (cb : ¬ cost ≤ f 3 j) : rm_wt w g j cost 301 0 = -4 := by
  rw [Int32.le_iff_toInt_le] at cb
  obtain ⟨⟨a1, a2, a3, a4, a5, a6, a7, ⟨r1, r2⟩, ⟨b1, b2⟩, s1, s2⟩, ⟨t8, t7, t0, tb⟩, ⟨d1, d2⟩, L, ⟨⟨d, hr⟩, ⟨g1, g2, g3, g4⟩, h12⟩, hg, hlive⟩ := h
  refine rl_wt_none 301 0 (fun i _ hi => ?_)
  by_cases k0 : f 1 j = 0
  · rw [rl_would0 (w := w) (g := g) (j := j) (k := i) (by rw [← a1]; exact k0) (by rw [← a2]; exact ⟨r1, r2⟩) (by rw [← a3]; exact b2) (by rw [← t7]; exact t0) (by rw [← t7, ← a3]; exact tb) cost (by omega), ← a3]
    omega
  · by_cases k1 : f 1 j = 1
    · obtain ⟨s, hs, es, esi⟩ := rl_nat (x := f 4 j) (by omega)
      rw [rl_would1 (w := w) (g := g) (j := j) (k := i) (L := L) (s := s) (by rw [← a1]; exact k1) (by rw [← a4]; exact es) (by omega) (by omega) g2 g1 (by omega) (by rw [← esi]; exact hg) cost c1 c2, ← a3]
      have := rl_ab_nn (w.toInt + i - s) g2
      omega
    · rw [rl_would2 (w := w) (g := g) (j := j) (k := i) hw (by rw [← a1]; exact k0) (by rw [← a1]; exact k1) (by rw [← a3]; exact ⟨b1, b2⟩) (by rw [← a4]; exact ⟨s1, s2⟩) (by rw [← a7, ← a3, ← a4]; exact ⟨d1, d2⟩) (by omega) cost c1 c2, ← a3, ← a4, ← a7]
      have m3 : (f 3 j).toInt * (f 4 j).toInt + (f 4 j).toInt ≤ cost.toInt * (f 4 j).toInt := by
        have : ((f 3 j).toInt + 1) * (f 4 j).toInt ≤ cost.toInt * (f 4 j).toInt := Int.mul_le_mul_of_nonneg_right (by omega) (by omega)
        rw [Int.add_mul, Int.one_mul] at this
        exact this
      omega
end
section
/-! One meter's steps: a denial, a grant, a new setting, time that passes -/
theorem rl_Lg_cg2 {w b : Int} {f f' : rl_F} {j : Nat} {L : rl_Lt} (h10 : f' 10 j = f 10 j) (h11 : f' 11 j = f 11 j) (h12 : f' 12 j = f 12 j) (hL : ∀ d, d < 32 → f' 13 (j * 32 + d) = f 13 (j * 32 + d) ∧ f' 14 (j * 32 + d) = f 14 (j * 32 + d)) (h : rl_Lg w b f j L) : rl_Lg w b f' j L := by
  obtain ⟨⟨d, h1, h2, h3, h4⟩, h5, h6⟩ := h
  refine ⟨⟨d, h1, by rw [h10]; exact h2, by rw [h11]; exact h3, fun i e he => ?_⟩, h5, by rw [h12]; exact h6⟩
  have h7 := hL ((d + i) % 32) (Nat.mod_lt _ (by decide))
  rw [h7.1, h7.2]
  exact h4 i e he
theorem rl_deny {w : Int32} {f g : rl_F} {j : Nat} (h : rl_RC w f g j) : rl_RC w (rx_deny f j) (rm_deny g j) j := by
  obtain ⟨⟨a1, a2, a3, a4, a5, a6, a7, hr, hb, hs⟩, ht, hD, L, hL, hg, hl⟩ := h
  have x : ∀ (k i : Nat), k ≠ 6 → rx_deny f j k i = f k i := fun k i hk => rl_up_ne f _ _ _ hk
  have y : ∀ (k i : Nat), k ≠ 9 → rm_deny g j k i = g k i := fun k i hk => rl_up_ne g _ _ _ hk
  have x6 : rx_deny f j 6 j = f 6 j + 1 := rl_up_eq f _ _ _
  have y9 : rm_deny g j 9 j = g 9 j + 1 := rl_up_eq g _ _ _
  refine ⟨?_, ?_, ?_, L, ?_, ?_, ?_⟩
  · unfold rl_RA
    rw [x 1 j (by decide), x 2 j (by decide), x 3 j (by decide), x 4 j (by decide), x 5 j (by decide), x6, x 9 j (by decide), y 1 j (by decide), y 2 j (by decide), y 3 j (by decide), y 4 j (by decide), y 8 j (by decide), y9, y 7 j (by decide)]
    exact ⟨a1, a2, a3, a4, a5, by rw [a6], a7, hr, hb, hs⟩
  · rw [x 8 j (by decide), x 7 j (by decide), x 3 j (by decide), y 5 j (by decide)]; exact ht
  · unfold rl_RD
    rw [x 9 j (by decide), x 3 j (by decide), x 4 j (by decide)]; exact hD
  · rw [x 3 j (by decide)]
    exact rl_Lg_cg2 (x 10 j (by decide)) (x 11 j (by decide)) (x 12 j (by decide)) (fun d _ => ⟨x 13 _ (by decide), x 14 _ (by decide)⟩) hL
  · rw [x 4 j (by decide)]
    intro i h1 h2
    rw [y 6 _ (by decide)]
    exact hg i h1 h2
  · rw [x 4 j (by decide)]; exact hl
theorem rl_from_base {w : Int32} {f g : rl_F} {j : Nat} (h : f 9 j = g 7 j) : rm_from w g j = rx_base w f j := by
  unfold rm_from rx_base
  rw [h]
/-- GRANT -/
theorem rl_grant {w : Int32} (hw : rl_now w) {f g : rl_F} {j : Nat} (h : rl_RC w f g j) {cost : Int32} (c1 : 1 ≤ cost.toInt) (c2 : cost.toInt ≤ 20) (hc : ¬ rm_would w g j cost 0 = 0) : rl_RC w (rx_grant w f j cost) (rm_grant w g j cost) j := by
  rw [← nI_0] at hc
  rw [show (rm_would w g j cost (nI 0) = nI 0) = (rm_would w g j cost (nI 0) = 0) by rw [nI_0]] at hc
  obtain ⟨⟨a1, a2, a3, a4, a5, a6, a7, ⟨r1, r2⟩, ⟨b1, b2⟩, s1, s2⟩, ⟨t8, t7, t0, tb⟩, ⟨d1, d2⟩, L, hL, hg, hlive⟩ := h
  have hL0 := hL
  obtain ⟨⟨d, hr⟩, ⟨g1, g2, g3, g4⟩, h12⟩ := hL0
  have hlen := rl_len_le g2
  by_cases k0 : f 1 j = 0
  · have k0' : g 1 j = 0 := by rw [← a1]; exact k0
    rw [rl_would0 (w := w) (g := g) (j := j) (k := 0) k0' (by rw [← a2]; exact ⟨r1, r2⟩) (by rw [← a3]; exact b2) (by rw [← t7]; exact t0) (by rw [← t7, ← a3]; exact tb) cost (by decide), ← t7, ← a3, show ((0 : Nat) : Int) = 0 from rfl, Int.mul_zero] at hc
    have ef : rx_grant w f j cost = rl_up (rl_up f 5 j (f 5 j + cost)) 7 j (f 7 j - cost) := by unfold rx_grant; rw [if_pos k0]
    have eg : rm_grant w g j cost = rl_up (rl_up g 8 j (g 8 j + cost)) 5 j (g 5 j - cost) := by unfold rm_grant; rw [if_pos k0']
    rw [ef, eg]
    have x : ∀ (k i : Nat), k ≠ 5 → k ≠ 7 → rl_up (rl_up f 5 j (f 5 j + cost)) 7 j (f 7 j - cost) k i = f k i := fun k i h5 h7 => by rw [rl_up_ne _ _ _ _ h7, rl_up_ne _ _ _ _ h5]
    have y : ∀ (k i : Nat), k ≠ 8 → k ≠ 5 → rl_up (rl_up g 8 j (g 8 j + cost)) 5 j (g 5 j - cost) k i = g k i := fun k i h8 h5 => by rw [rl_up_ne _ _ _ _ h5, rl_up_ne _ _ _ _ h8]
    have x5 : rl_up (rl_up f 5 j (f 5 j + cost)) 7 j (f 7 j - cost) 5 j = f 5 j + cost := by rw [rl_up_ne _ _ _ _ (by decide), rl_up_eq]
    have x7 : rl_up (rl_up f 5 j (f 5 j + cost)) 7 j (f 7 j - cost) 7 j = f 7 j - cost := rl_up_eq _ _ _ _
    have y8 : rl_up (rl_up g 8 j (g 8 j + cost)) 5 j (g 5 j - cost) 8 j = g 8 j + cost := by rw [rl_up_ne _ _ _ _ (by decide), rl_up_eq]
    have y5 : rl_up (rl_up g 8 j (g 8 j + cost)) 5 j (g 5 j - cost) 5 j = g 5 j - cost := rl_up_eq _ _ _ _
    generalize rl_up (rl_up f 5 j (f 5 j + cost)) 7 j (f 7 j - cost) = f' at x x5 x7 ⊢
    generalize rl_up (rl_up g 8 j (g 8 j + cost)) 5 j (g 5 j - cost) = g' at y y8 y5 ⊢
    have e1 : (f 7 j - cost).toInt = (f 7 j).toInt - cost.toInt := fb_subI (by omega) (by omega)
    refine ⟨?_, ?_, ?_, L, ?_, ?_, ?_⟩
    · unfold rl_RA
      rw [x 1 j (by decide) (by decide), x 2 j (by decide) (by decide), x 3 j (by decide) (by decide), x 4 j (by decide) (by decide), x5, x 6 j (by decide) (by decide), x 9 j (by decide) (by decide), y 1 j (by decide) (by decide), y 2 j (by decide) (by decide), y 3 j (by decide) (by decide), y 4 j (by decide) (by decide), y8, y 9 j (by decide) (by decide), y 7 j (by decide) (by decide)]
      exact ⟨a1, a2, a3, a4, by rw [a5], a6, a7, ⟨r1, r2⟩, ⟨b1, b2⟩, s1, s2⟩
    · rw [x 8 j (by decide) (by decide), x7, x 3 j (by decide) (by decide), y5, e1, t7]
      exact ⟨t8, rfl, by rw [← t7]; omega, by rw [← t7]; omega⟩
    · unfold rl_RD
      rw [x 9 j (by decide) (by decide), x 3 j (by decide) (by decide), x 4 j (by decide) (by decide)]; exact ⟨d1, d2⟩
    · rw [x 3 j (by decide) (by decide)]
      exact rl_Lg_cg2 (x 10 j (by decide) (by decide)) (x 11 j (by decide) (by decide)) (x 12 j (by decide) (by decide)) (fun d _ => ⟨x 13 _ (by decide) (by decide), x 14 _ (by decide) (by decide)⟩) hL
    · rw [x 4 j (by decide) (by decide)]
      intro i h1 h2
      rw [y 6 _ (by decide) (by decide)]
      exact hg i h1 h2
    · rw [x 4 j (by decide) (by decide)]; exact hlive
  · have k0' : ¬ g 1 j = 0 := by rw [← a1]; exact k0
    by_cases k1 : f 1 j = 1
    · have k1' : g 1 j = 1 := by rw [← a1]; exact k1
      obtain ⟨s, hs, es, esi⟩ := rl_nat (x := f 4 j) (by omega)
      rw [rl_would1 (w := w) (g := g) (j := j) (k := 0) (L := L) (s := s) k1' (by rw [← a4]; exact es) (by omega) (by decide) g2 g1 (by omega) (by rw [← esi]; exact hg) cost c1 c2, ← a3, rl_ab_all (fun x hx => by have := hlive x hx; omega)] at hc
      have hin : rx_in f j = j * 32 + (d + L.length) % 32 := by
        unfold rx_in
        rw [hr.2.1, hr.2.2.1, nI_add, pk_andN (by have := hr.1; omega) (m := 31) 5 (by decide), nI_clamp (by have := Nat.mod_lt (d + L.length) (show 0 < 2 ^ 5 by decide); omega)]
      have ef : rx_grant w f j cost = rl_up (rl_up (rl_up (rl_up (rl_up f 5 j (f 5 j + cost)) 13 (j * 32 + (d + L.length) % 32) w) 14 (j * 32 + (d + L.length) % 32) cost) 11 j (f 11 j + 1)) 12 j (f 12 j + cost) := by
        unfold rx_grant
        rw [if_neg k0, if_pos k1, hin]
      have eg : rm_grant w g j cost = rl_up (rl_up g 8 j (g 8 j + cost)) 6 (j * 10) (g 6 (j * 10) + cost) := by
        unfold rm_grant
        rw [if_neg k0', if_pos k1']
      rw [ef, eg]
      have x : ∀ (k i : Nat), k ≠ 5 → k ≠ 11 → k ≠ 12 → k ≠ 13 → k ≠ 14 → rl_up (rl_up (rl_up (rl_up (rl_up f 5 j (f 5 j + cost)) 13 (j * 32 + (d + L.length) % 32) w) 14 (j * 32 + (d + L.length) % 32) cost) 11 j (f 11 j + 1)) 12 j (f 12 j + cost) k i = f k i := fun k i h5 h11 h12 h13 h14 => by
        rw [rl_up_ne _ _ _ _ h12, rl_up_ne _ _ _ _ h11, rl_up_ne _ _ _ _ h14, rl_up_ne _ _ _ _ h13, rl_up_ne _ _ _ _ h5]
      have x5 : rl_up (rl_up (rl_up (rl_up (rl_up f 5 j (f 5 j + cost)) 13 (j * 32 + (d + L.length) % 32) w) 14 (j * 32 + (d + L.length) % 32) cost) 11 j (f 11 j + 1)) 12 j (f 12 j + cost) 5 j = f 5 j + cost := by
        rw [rl_up_ne _ _ _ _ (by decide), rl_up_ne _ _ _ _ (by decide), rl_up_ne _ _ _ _ (by decide), rl_up_ne _ _ _ _ (by decide), rl_up_eq]
      have x11 : rl_up (rl_up (rl_up (rl_up (rl_up f 5 j (f 5 j + cost)) 13 (j * 32 + (d + L.length) % 32) w) 14 (j * 32 + (d + L.length) % 32) cost) 11 j (f 11 j + 1)) 12 j (f 12 j + cost) 11 j = f 11 j + 1 := by
        rw [rl_up_ne _ _ _ _ (by decide), rl_up_eq]
      have x12 : rl_up (rl_up (rl_up (rl_up (rl_up f 5 j (f 5 j + cost)) 13 (j * 32 + (d + L.length) % 32) w) 14 (j * 32 + (d + L.length) % 32) cost) 11 j (f 11 j + 1)) 12 j (f 12 j + cost) 12 j = f 12 j + cost := rl_up_eq _ _ _ _
      have x13 : ∀ i, rl_up (rl_up (rl_up (rl_up (rl_up f 5 j (f 5 j + cost)) 13 (j * 32 + (d + L.length) % 32) w) 14 (j * 32 + (d + L.length) % 32) cost) 11 j (f 11 j + 1)) 12 j (f 12 j + cost) 13 i = if i = j * 32 + (d + L.length) % 32 then w else f 13 i := fun i => by
        rw [rl_up_ne _ _ _ _ (by decide), rl_up_ne _ _ _ _ (by decide), rl_up_ne _ _ _ _ (by decide)]
        by_cases hi : i = j * 32 + (d + L.length) % 32
        · rw [if_pos hi, hi, rl_up_eq]
        · rw [if_neg hi, rl_up_ni _ _ _ _ hi, rl_up_ne _ _ _ _ (by decide)]
      have x14 : ∀ i, rl_up (rl_up (rl_up (rl_up (rl_up f 5 j (f 5 j + cost)) 13 (j * 32 + (d + L.length) % 32) w) 14 (j * 32 + (d + L.length) % 32) cost) 11 j (f 11 j + 1)) 12 j (f 12 j + cost) 14 i = if i = j * 32 + (d + L.length) % 32 then cost else f 14 i := fun i => by
        rw [rl_up_ne _ _ _ _ (by decide), rl_up_ne _ _ _ _ (by decide)]
        by_cases hi : i = j * 32 + (d + L.length) % 32
        · rw [if_pos hi, hi, rl_up_eq]
        · rw [if_neg hi, rl_up_ni _ _ _ _ hi, rl_up_ne _ _ _ _ (by decide), rl_up_ne _ _ _ _ (by decide)]
      have y : ∀ (k i : Nat), k ≠ 8 → k ≠ 6 → rl_up (rl_up g 8 j (g 8 j + cost)) 6 (j * 10) (g 6 (j * 10) + cost) k i = g k i := fun k i h8 h6 => by rw [rl_up_ne _ _ _ _ h6, rl_up_ne _ _ _ _ h8]
      have y8 : rl_up (rl_up g 8 j (g 8 j + cost)) 6 (j * 10) (g 6 (j * 10) + cost) 8 j = g 8 j + cost := by rw [rl_up_ne _ _ _ _ (by decide), rl_up_eq]
      have y6 : ∀ i, rl_up (rl_up g 8 j (g 8 j + cost)) 6 (j * 10) (g 6 (j * 10) + cost) 6 (j * 10 + i) = if i = 0 then g 6 (j * 10) + cost else g 6 (j * 10 + i) := fun i => by
        by_cases hi : i = 0
        · rw [if_pos hi, hi, Nat.add_zero, rl_up_eq]
        · rw [if_neg hi, rl_up_ni _ _ _ _ (by omega), rl_up_ne _ _ _ _ (by decide)]
      generalize rl_up (rl_up (rl_up (rl_up (rl_up f 5 j (f 5 j + cost)) 13 (j * 32 + (d + L.length) % 32) w) 14 (j * 32 + (d + L.length) % 32) cost) 11 j (f 11 j + 1)) 12 j (f 12 j + cost) = f' at x x5 x11 x12 x13 x14 ⊢
      generalize rl_up (rl_up g 8 j (g 8 j + cost)) 6 (j * 10) (g 6 (j * 10) + cost) = g' at y y8 y6 ⊢
      have h5 : ∀ k, k ≤ 10 → k ≠ 5 → f' k j = f k j := fun k hk h5 => x k j h5 (by omega) (by omega) (by omega) (by omega)
      refine ⟨?_, ?_, ?_, L ++ [(w.toInt, cost.toInt)], ⟨⟨d, hr.1, ?_, ?_, fun i e he => ?_⟩, ⟨fun e he => ?_, fun e he => ?_, ?_, ?_⟩, ?_⟩, ?_, fun e he => ?_⟩
      · unfold rl_RA
        rw [h5 1 (by decide) (by decide), h5 2 (by decide) (by decide), h5 3 (by decide) (by decide), h5 4 (by decide) (by decide), x5, h5 6 (by decide) (by decide), h5 9 (by decide) (by decide), y 1 j (by decide) (by decide), y 2 j (by decide) (by decide), y 3 j (by decide) (by decide), y 4 j (by decide) (by decide), y8, y 9 j (by decide) (by decide), y 7 j (by decide) (by decide)]
        exact ⟨a1, a2, a3, a4, by rw [a5], a6, a7, ⟨r1, r2⟩, ⟨b1, b2⟩, s1, s2⟩
      · rw [h5 8 (by decide) (by decide), h5 7 (by decide) (by decide), h5 3 (by decide) (by decide), y 5 j (by decide) (by decide)]
        exact ⟨t8, t7, t0, tb⟩
      · unfold rl_RD
        rw [h5 9 (by decide) (by decide), h5 3 (by decide) (by decide), h5 4 (by decide) (by decide)]; exact ⟨d1, d2⟩
      · rw [h5 10 (by decide) (by decide)]; exact hr.2.1
      · rw [x11, hr.2.2.1, nI_1, List.length_append]; rfl
      · rw [x13, x14]
        by_cases hi : i < L.length
        · rw [List.getElem?_append_left hi] at he
          rw [if_neg (by omega), if_neg (by omega)]
          exact hr.2.2.2 i e he
        · rw [List.getElem?_append_right (by omega)] at he
          have hi2 : i - L.length < 1 := (List.getElem?_eq_some_iff.mp he).1
          have hi3 : i = L.length := by omega
          subst hi3
          rw [Nat.sub_self] at he
          cases he
          rw [if_pos rfl, if_pos rfl]
          exact ⟨rfl, rfl⟩
      · rcases List.mem_append.mp he with he | he
        · exact g1 e he
        · rw [List.mem_singleton.mp he]; exact Int.le_refl _
      · rcases List.mem_append.mp he with he | he
        · exact g2 e he
        · rw [List.mem_singleton.mp he]; exact c1
      · refine List.pairwise_append.mpr ⟨g3, List.pairwise_singleton _ _, fun a ha b hb => ?_⟩
        rw [List.mem_singleton.mp hb]
        exact g1 a ha
      · rw [rl_sum_app, h5 3 (by decide) (by decide)]
        show rl_sum L + cost.toInt ≤ _
        omega
      · rw [x12, rl_sum_app, fb_addI (by rw [h12]; omega) (by rw [h12]; omega), h12]
      · rw [h5 4 (by decide) (by decide)]
        intro i h1 h2
        rw [y6, rl_on_app]
        by_cases hi : i = 0
        · subst hi
          have h3 := hg 0 h1 h2
          have h4 := rl_on_nn (w.toInt - ((0 : Nat) : Int)) g2
          have h6 : rl_on (w.toInt - ((0 : Nat) : Int)) L ≤ 30 := by
            have h7 := rl_ab_on (w.toInt - ((0 : Nat) : Int)) L
            have h8 := rl_ab_le (w.toInt - ((0 : Nat) : Int) - 1) g2
            have h9 := rl_ab_nn (w.toInt - ((0 : Nat) : Int)) g2
            omega
          rw [Nat.add_zero] at h3
          rw [if_pos rfl, fb_addI (by rw [h3]; omega) (by rw [h3]; omega), h3, if_pos (by show w.toInt = _; omega)]
        · rw [if_neg hi, hg i h1 h2, if_neg (by show ¬ w.toInt = _; omega), Int.add_zero]
      · rw [h5 4 (by decide) (by decide)]
        rcases List.mem_append.mp he with he | he
        · exact hlive e he
        · rw [List.mem_singleton.mp he]
          show w.toInt - (f 4 j).toInt < w.toInt
          omega
    · have k1' : ¬ g 1 j = 1 := by rw [← a1]; exact k1
      rw [rl_would2 (w := w) (g := g) (j := j) (k := 0) hw k0' k1' (by rw [← a3]; exact ⟨b1, b2⟩) (by rw [← a4]; exact ⟨s1, s2⟩) (by rw [← a7, ← a3, ← a4]; exact ⟨d1, d2⟩) (by decide) cost c1 c2, ← a3, ← a4, ← a7, show ((0 : Nat) : Int) = 0 from rfl, Int.add_zero] at hc
      have m1 := rl_mulb (a := (f 3 j).toInt) (b := (f 4 j).toInt) (x := 30) (y := 10) (by omega) (by omega) b2 s2
      have m2 := rl_mulb (a := cost.toInt) (b := (f 4 j).toInt) (x := 20) (y := 10) (by omega) (by omega) c2 s2
      obtain ⟨w1, w2⟩ := hw
      have eb : (rx_base w f j).toInt = max (f 9 j).toInt w.toInt := by
        unfold rx_base
        by_cases hc : f 9 j ≤ w
        · rw [if_pos hc]
          rw [Int32.le_iff_toInt_le] at hc
          omega
        · rw [if_neg hc]
          rw [Int32.le_iff_toInt_le] at hc
          omega
      have e3 : (cost * f 4 j).toInt = cost.toInt * (f 4 j).toInt := fb_mulI (by omega) (by omega)
      have e4 : (rx_base w f j + cost * f 4 j).toInt = max (f 9 j).toInt w.toInt + cost.toInt * (f 4 j).toInt := by rw [fb_addI (by rw [eb, e3]; omega) (by rw [eb, e3]; omega), eb, e3]
      have ef : rx_grant w f j cost = rl_up (rl_up f 5 j (f 5 j + cost)) 9 j (rx_base w f j + cost * f 4 j) := by unfold rx_grant; rw [if_neg k0, if_neg k1]
      have eg : rm_grant w g j cost = rl_up (rl_up g 8 j (g 8 j + cost)) 7 j (rx_base w f j + cost * f 4 j) := by unfold rm_grant; rw [if_neg k0', if_neg k1', rl_from_base a7, a4]
      rw [ef, eg]
      generalize rx_base w f j + cost * f 4 j = due at e4 ⊢
      have x : ∀ (k i : Nat), k ≠ 5 → k ≠ 9 → rl_up (rl_up f 5 j (f 5 j + cost)) 9 j due k i = f k i := fun k i h5 h7 => by rw [rl_up_ne _ _ _ _ h7, rl_up_ne _ _ _ _ h5]
      have y : ∀ (k i : Nat), k ≠ 8 → k ≠ 7 → rl_up (rl_up g 8 j (g 8 j + cost)) 7 j due k i = g k i := fun k i h8 h5 => by rw [rl_up_ne _ _ _ _ h5, rl_up_ne _ _ _ _ h8]
      have x5 : rl_up (rl_up f 5 j (f 5 j + cost)) 9 j due 5 j = f 5 j + cost := by rw [rl_up_ne _ _ _ _ (by decide), rl_up_eq]
      have x9 : rl_up (rl_up f 5 j (f 5 j + cost)) 9 j due 9 j = due := rl_up_eq _ _ _ _
      have y8 : rl_up (rl_up g 8 j (g 8 j + cost)) 7 j due 8 j = g 8 j + cost := by rw [rl_up_ne _ _ _ _ (by decide), rl_up_eq]
      have y7 : rl_up (rl_up g 8 j (g 8 j + cost)) 7 j due 7 j = due := rl_up_eq _ _ _ _
      generalize rl_up (rl_up f 5 j (f 5 j + cost)) 9 j due = f' at x x5 x9 ⊢
      generalize rl_up (rl_up g 8 j (g 8 j + cost)) 7 j due = g' at y y8 y7 ⊢
      refine ⟨?_, ?_, ?_, L, ?_, ?_, ?_⟩
      · unfold rl_RA
        rw [x 1 j (by decide) (by decide), x 2 j (by decide) (by decide), x 3 j (by decide) (by decide), x 4 j (by decide) (by decide), x5, x 6 j (by decide) (by decide), x9, y 1 j (by decide) (by decide), y 2 j (by decide) (by decide), y 3 j (by decide) (by decide), y 4 j (by decide) (by decide), y8, y 9 j (by decide) (by decide), y7]
        exact ⟨a1, a2, a3, a4, by rw [a5], a6, rfl, ⟨r1, r2⟩, ⟨b1, b2⟩, s1, s2⟩
      · rw [x 8 j (by decide) (by decide), x 7 j (by decide) (by decide), x 3 j (by decide) (by decide), y 5 j (by decide) (by decide)]
        exact ⟨t8, t7, t0, tb⟩
      · unfold rl_RD
        rw [x9, x 3 j (by decide) (by decide), x 4 j (by decide) (by decide), e4]
        exact ⟨by omega, by omega⟩
      · rw [x 3 j (by decide) (by decide)]
        exact rl_Lg_cg2 (x 10 j (by decide) (by decide)) (x 11 j (by decide) (by decide)) (x 12 j (by decide) (by decide)) (fun d _ => ⟨x 13 _ (by decide) (by decide), x 14 _ (by decide) (by decide)⟩) hL
      · rw [x 4 j (by decide) (by decide)]
        intro i h1 h2
        rw [y 6 _ (by decide) (by decide)]
        exact hg i h1 h2
      · rw [x 4 j (by decide) (by decide)]; exact hlive
end
section
/-! A new setting; time that passes -/
theorem rm_zero_at (j : Nat) : ∀ (n i0 : Nat) (f : rl_F), (∀ i, i0 ≤ i → i < i0 + n → rm_zero j n i0 f 6 (j * 10 + i) = 0) ∧ ∀ k a, (k ≠ 6 ∨ a < j * 10 + i0 ∨ j * 10 + i0 + n ≤ a) → rm_zero j n i0 f k a = f k a
  | 0, i0, f => ⟨fun i h1 h2 => by omega, fun _ _ _ => rfl⟩
  | n + 1, i0, f => by
    obtain ⟨h1, h2⟩ := rm_zero_at j n (i0 + 1) (rl_up f 6 (j * 10 + i0) 0)
    simp only [rm_zero]
    refine ⟨fun i a b => ?_, fun k a h => ?_⟩
    · by_cases e : i = i0
      · subst e
        rw [h2 6 (j * 10 + i) (by omega), rl_up_eq]
      · exact h1 i (by omega) (by omega)
    · rw [h2 k a (by omega), rl_up_oth _ _ (by omega)]
theorem rm_make_oth {g : rl_F} {j : Nat} {kd r b sp : Int32} {k a : Nat} (h6 : k ≠ 6 ∨ a < j * 10 ∨ j * 10 + 10 ≤ a) (h : a ≠ j ∨ k = 6) : rm_make g j kd r b sp k a = g k a := by
  unfold rm_make rm_make1
  rw [rl_up_oth _ _ (by omega), rl_up_oth _ _ (by omega), rl_up_oth _ _ (by omega), (rm_zero_at j 10 0 _).2 k a (by omega)]
  unfold rm_make0
  rw [rl_up_oth _ _ (by omega), rl_up_oth _ _ (by omega), rl_up_oth _ _ (by omega), rl_up_oth _ _ (by omega), rl_up_oth _ _ (by omega)]
theorem rm_same_make (g : rl_F) {i j : Nat} (kd r b sp : Int32) (h : i ≠ j) : rm_same g (rm_make g j kd r b sp) i :=
  ⟨fun k hk => rm_make_oth (Or.inl hk) (Or.inl h), fun d hd => rm_make_oth (by omega) (Or.inr rfl)⟩
theorem rx_same_start (w : Int32) (f : rl_F) {i j : Nat} (kd r b sp : Int32) (h : i ≠ j) : rx_same f (rx_start w f j kd r b sp) i :=
  (((((((((((rx_same_up f kd (k := 1) (by decide) h).tr (rx_same_up _ r (k := 2) (by decide) h)).tr (rx_same_up _ b (k := 3) (by decide) h)).tr (rx_same_up _ sp (k := 4) (by decide) h)).tr (rx_same_up _ 0 (k := 5) (by decide) h)).tr (rx_same_up _ 0 (k := 6) (by decide) h)).tr (rx_same_up _ b (k := 7) (by decide) h)).tr (rx_same_up _ w (k := 8) (by decide) h)).tr (rx_same_up _ (-1000000) (k := 9) (by decide) h)).tr (rx_same_up _ 0 (k := 10) (by decide) h)).tr (rx_same_up _ 0 (k := 11) (by decide) h)).tr (rx_same_up _ 0 (k := 12) (by decide) h)
/-- START and make -/
theorem rl_start {w : Int32} (hw : rl_now w) {f g : rl_F} {j : Nat} {kd r b sp : Int32} (hr : 1 ≤ r.toInt ∧ r.toInt ≤ 5) (hb : 1 ≤ b.toInt ∧ b.toInt ≤ 30) (hs : 1 ≤ sp.toInt ∧ sp.toInt ≤ 10) : rl_RM w (rx_start w f j kd r b sp) (rm_make g j kd r b sp) j := by
  have x1 : rx_start w f j kd r b sp 1 j = kd := by simp [rx_start, rl_up, upd]
  have x2 : rx_start w f j kd r b sp 2 j = r := by simp [rx_start, rl_up, upd]
  have x3 : rx_start w f j kd r b sp 3 j = b := by simp [rx_start, rl_up, upd]
  have x4 : rx_start w f j kd r b sp 4 j = sp := by simp [rx_start, rl_up, upd]
  have x5 : rx_start w f j kd r b sp 5 j = 0 := by simp [rx_start, rl_up, upd]
  have x6 : rx_start w f j kd r b sp 6 j = 0 := by simp [rx_start, rl_up, upd]
  have x7 : rx_start w f j kd r b sp 7 j = b := by simp [rx_start, rl_up, upd]
  have x8 : rx_start w f j kd r b sp 8 j = w := by simp [rx_start, rl_up, upd]
  have x9 : rx_start w f j kd r b sp 9 j = -1000000 := by simp [rx_start, rl_up, upd]
  have x10 : rx_start w f j kd r b sp 10 j = 0 := by simp [rx_start, rl_up, upd]
  have x11 : rx_start w f j kd r b sp 11 j = 0 := by simp [rx_start, rl_up, upd]
  have x12 : rx_start w f j kd r b sp 12 j = 0 := by simp [rx_start, rl_up, upd]
  have z : ∀ k, k ≠ 6 → rm_zero j 10 0 (rm_make0 g j kd r b sp) k j = rm_make0 g j kd r b sp k j := fun k hk => (rm_zero_at j 10 0 _).2 k j (Or.inl hk)
  have y1 : rm_make g j kd r b sp 1 j = kd := by unfold rm_make rm_make1; rw [rl_up_ne _ _ _ _ (by decide), rl_up_ne _ _ _ _ (by decide), rl_up_ne _ _ _ _ (by decide), z 1 (by decide)]; simp [rm_make0, rl_up, upd]
  have y2 : rm_make g j kd r b sp 2 j = r := by unfold rm_make rm_make1; rw [rl_up_ne _ _ _ _ (by decide), rl_up_ne _ _ _ _ (by decide), rl_up_ne _ _ _ _ (by decide), z 2 (by decide)]; simp [rm_make0, rl_up, upd]
  have y3 : rm_make g j kd r b sp 3 j = b := by unfold rm_make rm_make1; rw [rl_up_ne _ _ _ _ (by decide), rl_up_ne _ _ _ _ (by decide), rl_up_ne _ _ _ _ (by decide), z 3 (by decide)]; simp [rm_make0, rl_up, upd]
  have y4 : rm_make g j kd r b sp 4 j = sp := by unfold rm_make rm_make1; rw [rl_up_ne _ _ _ _ (by decide), rl_up_ne _ _ _ _ (by decide), rl_up_ne _ _ _ _ (by decide), z 4 (by decide)]; simp [rm_make0, rl_up, upd]
  have y5 : rm_make g j kd r b sp 5 j = b := by unfold rm_make rm_make1; rw [rl_up_ne _ _ _ _ (by decide), rl_up_ne _ _ _ _ (by decide), rl_up_ne _ _ _ _ (by decide), z 5 (by decide)]; simp [rm_make0, rl_up, upd]
  have y6 : ∀ i, i < 10 → rm_make g j kd r b sp 6 (j * 10 + i) = 0 := fun i hi => by unfold rm_make rm_make1; rw [rl_up_ne _ _ _ _ (by decide), rl_up_ne _ _ _ _ (by decide), rl_up_ne _ _ _ _ (by decide)]; exact (rm_zero_at j 10 0 _).1 i (Nat.zero_le i) (by omega)
  have y7 : rm_make g j kd r b sp 7 j = -1000000 := by unfold rm_make rm_make1; rw [rl_up_ne _ _ _ _ (by decide), rl_up_ne _ _ _ _ (by decide), rl_up_eq]
  have y8 : rm_make g j kd r b sp 8 j = 0 := by unfold rm_make rm_make1; rw [rl_up_ne _ _ _ _ (by decide), rl_up_eq]
  have y9 : rm_make g j kd r b sp 9 j = 0 := by unfold rm_make rm_make1; rw [rl_up_eq]
  obtain ⟨w1, w2⟩ := hw
  have m1 := rl_mulb (a := b.toInt) (b := sp.toInt) (x := 30) (y := 10) (by omega) (by omega) hb.2 hs.2
  refine ⟨?_, ?_, ?_, [], ⟨⟨0, by decide, ?_, ?_, fun i e he => by simp at he⟩, ⟨fun e he => absurd he List.not_mem_nil, fun e he => absurd he List.not_mem_nil, List.Pairwise.nil, ?_⟩, ?_⟩, ?_⟩
  · unfold rl_RA
    rw [x1, x2, x3, x4, x5, x6, x9, y1, y2, y3, y4, y7, y8, y9]
    exact ⟨rfl, rfl, rfl, rfl, rfl, rfl, rfl, hr, hb, hs⟩
  · unfold rl_RT
    rw [x2, x3, x7, x8, y5, Int.sub_self, Int.mul_zero]
    exact ⟨by omega, by omega, by omega, by omega, by omega⟩
  · unfold rl_RD
    rw [x3, x4, x9, show (-1000000 : Int32).toInt = -1000000 by decide]
    exact ⟨by omega, by omega⟩
  · rw [x10]; exact nI_0.symm
  · rw [x11]; exact nI_0.symm
  · rw [x3]; simp only [rl_sum]; omega
  · rw [x12]; rfl
  · intro i h1 h2
    rw [y6 i h1]; rfl
/-! time -/
theorem rm_sh_at (u j : Nat) : ∀ (n : Nat) (f : rl_F), (∀ i, i < n → rm_sh u j n f 6 (j * 10 + i) = if i < u then 0 else f 6 (j * 10 + i - u)) ∧ ∀ k a, (k ≠ 6 ∨ a < j * 10 ∨ j * 10 + n ≤ a) → rm_sh u j n f k a = f k a
  | 0, f => ⟨fun i h => absurd h (Nat.not_lt_zero i), fun _ _ _ => rfl⟩
  | n + 1, f => by
    obtain ⟨h1, h2⟩ := rm_sh_at u j n (rl_up f 6 (j * 10 + n) (if n < u then 0 else f 6 (j * 10 + n - u)))
    simp only [rm_sh]
    refine ⟨fun i hi => ?_, fun k a h => ?_⟩
    · by_cases e : i = n
      · subst e
        rw [h2 6 _ (by omega), rl_up_eq]
      · rw [h1 i (by omega)]
        by_cases hu : i < u
        · rw [if_pos hu, if_pos hu]
        · rw [if_neg hu, if_neg hu, rl_up_ni _ _ _ _ (by omega)]
    · rw [h2 k a (by omega), rl_up_oth _ _ (by omega)]
theorem rm_tokensIn_cg {g g' : rl_F} {i : Nat} {units : Int32} (h2 : g' 2 i = g 2 i) (h3 : g' 3 i = g 3 i) (h5 : g' 5 i = g 5 i) : rm_tokensIn g' i units = rm_tokensIn g i units := by
  unfold rm_tokensIn
  rw [h2, h3, h5]
theorem rm_ps_at (u : Nat) : ∀ (n j : Nat) (g : rl_F), (∀ i, j ≤ i → i < j + n → rm_ps u n j g 5 i = rm_tokensIn g i (nI u) ∧ ∀ d, d < 10 → rm_ps u n j g 6 (i * 10 + d) = if d < u then 0 else g 6 (i * 10 + d - u)) ∧ (∀ i, i < j → rm_ps u n j g 5 i = g 5 i ∧ ∀ d, d < 10 → rm_ps u n j g 6 (i * 10 + d) = g 6 (i * 10 + d)) ∧ ∀ k i, k ≠ 5 → k ≠ 6 → rm_ps u n j g k i = g k i
  | 0, j, g => ⟨fun i a b => by omega, fun i _ => ⟨rfl, fun _ _ => rfl⟩, fun _ _ _ _ => rfl⟩
  | n + 1, j, g => by
    simp only [rm_ps]
    obtain ⟨s1, s2⟩ := rm_sh_at u j 10 (rl_up g 5 j (rm_tokensIn g j (nI u)))
    obtain ⟨p1, p2, p3⟩ := rm_ps_at u n (j + 1) (rm_sh u j 10 (rl_up g 5 j (rm_tokensIn g j (nI u))))
    have q5 : rm_sh u j 10 (rl_up g 5 j (rm_tokensIn g j (nI u))) 5 j = rm_tokensIn g j (nI u) := by rw [s2 5 j (Or.inl (by decide)), rl_up_eq]
    have q5' : ∀ i, i ≠ j → rm_sh u j 10 (rl_up g 5 j (rm_tokensIn g j (nI u))) 5 i = g 5 i := fun i hi => by rw [s2 5 i (Or.inl (by decide)), rl_up_ni _ _ _ _ hi]
    have q6 : ∀ d, d < 10 → rm_sh u j 10 (rl_up g 5 j (rm_tokensIn g j (nI u))) 6 (j * 10 + d) = if d < u then 0 else g 6 (j * 10 + d - u) := fun d hd => by
      rw [s1 d hd]
      by_cases hu : d < u
      · rw [if_pos hu, if_pos hu]
      · rw [if_neg hu, if_neg hu, rl_up_ne _ _ _ _ (by decide)]
    have q6' : ∀ i d, i ≠ j → d < 10 → rm_sh u j 10 (rl_up g 5 j (rm_tokensIn g j (nI u))) 6 (i * 10 + d) = g 6 (i * 10 + d) := fun i d hi hd => by
      rw [s2 6 _ (by omega), rl_up_ne _ _ _ _ (by decide)]
    have qo : ∀ k i, k ≠ 5 → k ≠ 6 → rm_sh u j 10 (rl_up g 5 j (rm_tokensIn g j (nI u))) k i = g k i := fun k i h5 h6 => by
      rw [s2 k i (Or.inl h6), rl_up_ne _ _ _ _ h5]
    refine ⟨fun i h1 h2 => ?_, fun i hi => ?_, fun k i h5 h6 => ?_⟩
    · by_cases e : i = j
      · subst e
        obtain ⟨z1, z2⟩ := p2 i (by omega)
        exact ⟨z1.trans q5, fun d hd => (z2 d hd).trans (q6 d hd)⟩
      · obtain ⟨z1, z2⟩ := p1 i (by omega) (by omega)
        refine ⟨?_, fun d hd => ?_⟩
        · rw [z1]
          exact rm_tokensIn_cg (qo 2 i (by decide) (by decide)) (qo 3 i (by decide) (by decide)) (q5' i e)
        · rw [z2 d hd]
          by_cases hu : d < u
          · rw [if_pos hu, if_pos hu]
          · rw [if_neg hu, if_neg hu, show i * 10 + d - u = i * 10 + (d - u) by omega, q6' i (d - u) e (by omega)]
    · obtain ⟨z1, z2⟩ := p2 i (by omega)
      exact ⟨z1.trans (q5' i (by omega)), fun d hd => (z2 d hd).trans (q6' i d (by omega) hd)⟩
    · rw [p3 k i h5 h6, qo k i h5 h6]
/-- PASS -/
theorem rl_pass1 {w : Int32} (hw : rl_now w) {u : Nat} (hu : u ≤ 1000) (hw' : rl_now (w + nI u)) {f g : rl_F} {j : Nat} (hj : j < 4) (h : rl_RM w f g j) : rl_RM (w + nI u) f (rm_ps u 4 0 g) j := by
  obtain ⟨p1, -, p3⟩ := rm_ps_at u 4 0 g
  obtain ⟨z5, z6⟩ := p1 j (Nat.zero_le j) (by omega)
  obtain ⟨⟨a1, a2, a3, a4, a5, a6, a7, ⟨r1, r2⟩, ⟨b1, b2⟩, s1, s2⟩, ⟨t1, t2, t3, t4, t5⟩, ⟨d1, d2⟩, L, ⟨hr, ⟨g1, g2, g3, g4⟩, h12⟩, hg⟩ := h
  obtain ⟨w1, w2⟩ := hw
  have hui : (nI u).toInt = (u : Int) := nI_toInt (by omega)
  have ew : (w + nI u).toInt = w.toInt + u := by rw [fb_addI (by rw [hui]; omega) (by rw [hui]; omega), hui]
  have hm := rl_mulb (a := (f 2 j).toInt) (b := w.toInt - (f 8 j).toInt) (x := 5) (y := 100000) (by omega) (by omega) (by omega) (by omega)
  have hm2 : 0 ≤ (f 2 j).toInt * (u : Int) := Int.mul_nonneg (by omega) (by omega)
  have hms : (f 2 j).toInt * (w.toInt + u - (f 8 j).toInt) = (f 2 j).toInt * (w.toInt - (f 8 j).toInt) + (f 2 j).toInt * (u : Int) := by
    rw [← Int.mul_add]; congr 1; omega
  have htk : (rm_tokensIn g j (nI u)).toInt = min (f 3 j).toInt ((g 5 j).toInt + (f 2 j).toInt * (u : Int)) := by
    unfold rm_tokensIn
    rw [nI_clamp (by omega), rl_tk (by rw [← a2]; exact ⟨r1, r2⟩) (by rw [← a3]; exact b2) u _ (by rw [t5]; omega) (by rw [← a3, t5]; omega), ← a2, ← a3]
  refine ⟨?_, ?_, ?_, L, ⟨hr, ⟨fun e he => ?_, g2, g3, g4⟩, h12⟩, ?_⟩
  · unfold rl_RA
    rw [p3 1 j (by decide) (by decide), p3 2 j (by decide) (by decide), p3 3 j (by decide) (by decide), p3 4 j (by decide) (by decide), p3 7 j (by decide) (by decide), p3 8 j (by decide) (by decide), p3 9 j (by decide) (by decide)]
    exact ⟨a1, a2, a3, a4, a5, a6, a7, ⟨r1, r2⟩, ⟨b1, b2⟩, s1, s2⟩
  · unfold rl_RT
    rw [ew, z5, htk, t5, hms]
    exact ⟨t1, t2, t3, by omega, by omega⟩
  · unfold rl_RD
    rw [ew]
    exact ⟨d1, by omega⟩
  · rw [ew]
    have := g1 e he
    omega
  · rw [ew]
    intro i h1 h2
    rw [z6 i h1]
    by_cases hiu : i < u
    · rw [if_pos hiu, rl_on_none (fun e he => by have := g1 e he; omega)]
      rfl
    · rw [if_neg hiu, show j * 10 + i - u = j * 10 + (i - u) by omega, hg (i - u) (by omega) (by omega)]
      congr 1
      omega
end
section
/-! All four meters: each call answers alike on both sides, and leaves them agreeing -/
def rl_Rel (w : Int32) (f g : rl_F) : Prop := rl_now w ∧ ∀ j, j < 4 → rl_RM w f g j
theorem rl_Rel.HD {w : Int32} {f g : rl_F} (h : rl_Rel w f g) : rx_HD f := fun i hi => by
  obtain ⟨-, -, -, L, ⟨⟨d, hd⟩, -⟩, -⟩ := h.2 i hi
  exact ⟨d, hd.1, hd.2.1⟩
theorem rl_badCost_ok {x : Int32} (h : rl_badCost x = 0) : 1 ≤ x.toInt ∧ x.toInt ≤ 20 := by
  unfold rl_badCost at h
  by_cases h1 : x < 1
  · rw [if_pos h1] at h; exact absurd h (by decide)
  · rw [if_neg h1] at h
    by_cases h2 : x ≤ 20
    · rw [Int32.lt_iff_toInt_lt, show (1 : Int32).toInt = 1 from rfl] at h1
      rw [Int32.le_iff_toInt_le, show (20 : Int32).toInt = 20 from rfl] at h2
      omega
    · rw [if_neg h2] at h; exact absurd h (by decide)
theorem rl_num_ok {n : Int32} (h : ¬ rl_numbad n) : (1 ≤ (rl_r n).toInt ∧ (rl_r n).toInt ≤ 5) ∧ (1 ≤ (rl_b n).toInt ∧ (rl_b n).toInt ≤ 30) ∧ (1 ≤ (rl_s n).toInt ∧ (rl_s n).toInt ≤ 10) := by
  have h1 : ¬ rl_r n < 1 := fun z => h (Or.inl z)
  have h2 : ¬ 5 < rl_r n := fun z => h (Or.inr (Or.inl z))
  have h3 : ¬ rl_b n < 1 := fun z => h (Or.inr (Or.inr (Or.inl z)))
  have h4 : ¬ 30 < rl_b n := fun z => h (Or.inr (Or.inr (Or.inr (Or.inl z))))
  have h5 : ¬ rl_s n < 1 := fun z => h (Or.inr (Or.inr (Or.inr (Or.inr (Or.inl z)))))
  have h6 : ¬ ¬ rl_s n ≤ 10 := fun z => h (Or.inr (Or.inr (Or.inr (Or.inr (Or.inr z)))))
  rw [Int32.lt_iff_toInt_lt, show (1 : Int32).toInt = 1 from rfl] at h1 h3 h5
  rw [Int32.lt_iff_toInt_lt, show (5 : Int32).toInt = 5 from rfl] at h2
  rw [Int32.lt_iff_toInt_lt, show (30 : Int32).toInt = 30 from rfl] at h4
  rw [Int32.le_iff_toInt_le, show (10 : Int32).toInt = 10 from rfl] at h6
  omega
theorem rel_set {w : Int32} {f g : rl_F} (h : rl_Rel w f g) (meter kind n : Int32) : rl_Rel w (rx_setF w f meter kind n) (rm_setF g meter kind n) := by
  unfold rx_setF rm_setF
  by_cases hg : rl_setGo meter kind n
  · rw [if_pos hg, if_pos hg]
    obtain ⟨hb, -, hn⟩ := hg
    obtain ⟨j, hj, rfl⟩ := rl_bad_ok hb
    rw [rl_cl4 hj]
    obtain ⟨n1, n2, n3⟩ := rl_num_ok hn
    refine ⟨h.1, fun i hi => ?_⟩
    by_cases e : i = j
    · subst e
      exact rl_start h.1 n1 n2 n3
    · exact rl_RM_cg (rx_same_start w f _ _ _ _ e) (rm_same_make g _ _ _ _ e) (h.2 i hi)
  · rw [if_neg hg, if_neg hg]
    exact h
theorem rel_init : rl_Rel 0 (rx_init 4 0 rl_z) (rm_init 4 0 rl_z) := by
  have hw : rl_now 0 := ⟨by decide, by decide⟩
  have key : ∀ (n j : Nat) (f g : rl_F), j + n = 4 → (∀ i, i < j → rl_RM 0 f g i) → ∀ i, i < 4 → rl_RM 0 (rx_init n j f) (rm_init n j g) i := by
    intro n
    induction n with
    | zero => intro j f g hj h i hi; exact h i (by omega)
    | succ n ih =>
      intro j f g hj h i hi
      simp only [rx_init, rm_init]
      refine ih (j + 1) _ _ (by omega) (fun a ha => ?_) i hi
      by_cases e : a = j
      · subst e
        exact rl_start hw (by decide) (by decide) (by decide)
      · exact rl_RM_cg (rx_same_start 0 f _ _ _ _ e) (rm_same_make g _ _ _ _ e) (h a (by omega))
  exact ⟨hw, key 4 0 _ _ rfl (fun i hi => absurd hi (Nat.not_lt_zero i))⟩
theorem rx_same_grant (w : Int32) (f : rl_F) {i j : Nat} (cost : Int32) (h : i ≠ j) : rx_same f (rx_grant w f j cost) i := by
  unfold rx_grant
  by_cases h0 : f 1 j = 0
  · rw [if_pos h0]; exact (rx_same_up f _ (by decide) h).tr (rx_same_up _ _ (by decide) h)
  · rw [if_neg h0]
    by_cases h1 : f 1 j = 1
    · rw [if_pos h1]
      obtain ⟨d, hd, ed⟩ := rl_and31 (f 10 j + f 11 j)
      have hin : rx_in f j = j * 32 + d := by unfold rx_in; rw [ed, nI_clamp (by omega)]
      rw [hin]
      exact ((((rx_same_up f _ (by decide) h).tr (rx_same_upL _ _ (Or.inl rfl) hd h)).tr (rx_same_upL _ _ (Or.inr rfl) hd h)).tr (rx_same_up _ _ (by decide) h)).tr (rx_same_up _ _ (by decide) h)
    · rw [if_neg h1]; exact (rx_same_up f _ (by decide) h).tr (rx_same_up _ _ (by decide) h)
theorem rm_same_grant (w : Int32) (g : rl_F) {i j : Nat} (cost : Int32) (h : i ≠ j) : rm_same g (rm_grant w g j cost) i := by
  unfold rm_grant
  by_cases h0 : g 1 j = 0
  · rw [if_pos h0]; exact (rm_same_up g _ (by decide) h).tr (rm_same_up _ _ (by decide) h)
  · rw [if_neg h0]
    by_cases h1 : g 1 j = 1
    · rw [if_pos h1]
      exact (rm_same_up g _ (by decide) h).tr (rm_same_upL (d := 0) _ _ (by decide) h)
    · rw [if_neg h1]; exact (rm_same_up g _ (by decide) h).tr (rm_same_up _ _ (by decide) h)
theorem rm_lg_cg {g g' : rl_F} {i : Nat} (h : rm_same g g' i) (units : Int32) : ∀ (n k : Nat) (sum : Int32), k + n = 10 → rm_lg g' i units n k sum = rm_lg g i units n k sum
  | 0, _, _, _ => rfl
  | n + 1, k, sum, hk => by
    simp only [rm_lg]
    rw [h.1 4 (by decide), h.2 k (by omega), rm_lg_cg h units n (k + 1) _ (by omega)]
theorem rm_would_cg {w : Int32} {g g' : rl_F} {i : Nat} (h : rm_same g g' i) (cost units : Int32) : rm_would w g' i cost units = rm_would w g i cost units := by
  unfold rm_would rm_loggedIn rm_from
  rw [rm_lg_cg h units 10 0 0 rfl, rm_tokensIn_cg (h.1 2 (by decide)) (h.1 3 (by decide)) (h.1 5 (by decide)), h.1 1 (by decide), h.1 3 (by decide), h.1 4 (by decide), h.1 7 (by decide)]
/-- cost ≤ room on one side, would on the other -/
theorem rl_fit {w : Int32} (hw : rl_now w) {f g : rl_F} {j : Nat} (h : rl_RC w f g j) {cost : Int32} (c1 : 1 ≤ cost.toInt) (c2 : cost.toInt ≤ 20) : cost ≤ rx_room w f j ↔ ¬ rm_would w g j cost 0 = 0 := by
  obtain ⟨q, hq, eq, hwd⟩ := rl_room hw h
  have hwd := hwd cost c1 c2
  rw [eq, Int32.le_iff_toInt_le, nI_toInt (by omega), hwd]
  omega
theorem rl_aa1 {w : Int32} (hw : rl_now w) {meters cost : Int32} (c1 : 1 ≤ cost.toInt) (c2 : cost.toInt ≤ 20) : ∀ (n j : Nat) (f g : rl_F) (a : Int32), j + n = 4 → (∀ i, i < 4 → rl_RM w f g i) → (∀ i, i < j → rl_bit meters i = 1 → rl_RC w f g i ∧ (¬ a = 0 → ¬ rm_would w g i cost 0 = 0)) →
    (rx_aa1 w meters cost n j f a).2 = (rm_aa1 w meters cost n j g a).2 ∧ (∀ i, i < 4 → rl_RM w (rx_aa1 w meters cost n j f a).1 (rm_aa1 w meters cost n j g a).1 i) ∧ ∀ i, i < 4 → rl_bit meters i = 1 → rl_RC w (rx_aa1 w meters cost n j f a).1 (rm_aa1 w meters cost n j g a).1 i ∧ (¬ (rm_aa1 w meters cost n j g a).2 = 0 → ¬ rm_would w (rm_aa1 w meters cost n j g a).1 i cost 0 = 0)
  | 0, j, f, g, a, hj, h1, h2 => by
    exact ⟨rfl, h1, fun i hi hb => h2 i (by omega) hb⟩
  | n + 1, j, f, g, a, hj, h1, h2 => by
    simp only [rx_aa1, rm_aa1]
    by_cases hb : rl_bit meters j = 1
    · rw [if_pos hb, if_pos hb]
      have hC := rl_catch hw (h1 j (by omega))
      have hs : ∀ i, i ≠ j → rx_same f (rx_catch w f j) i := fun i hi => (rx_fr_catch w f j).same hi
      have hfit := rl_fit hw hC c1 c2
      by_cases hc : cost ≤ rx_room w (rx_catch w f j) j
      · rw [if_pos hc, if_neg (hfit.mp hc)]
        refine rl_aa1 hw c1 c2 n (j + 1) _ _ a (by omega) (fun i hi => ?_) (fun i hi hbi => ?_)
        · by_cases e : i = j
          · subst e; exact hC.RM hw
          · exact rl_RM_cg (hs i e) (rm_same_rf g i) (h1 i hi)
        · by_cases e : i = j
          · subst e; exact ⟨hC, fun _ => hfit.mp hc⟩
          · obtain ⟨k1, k2⟩ := h2 i (by omega) hbi
            exact ⟨rl_RC_cg (hs i e) (rm_same_rf g i) k1, k2⟩
      · rw [if_neg hc, if_pos (Classical.not_not.mp (fun z => hc (hfit.mpr z)))]
        have hd := rl_deny hC
        have hs2 : ∀ i, i ≠ j → rx_same f (rx_deny (rx_catch w f j) j) i := fun i hi => (hs i hi).tr (rx_same_up _ _ (by decide) hi)
        have hg2 : ∀ i, i ≠ j → rm_same g (rm_deny g j) i := fun i hi => rm_same_up _ _ (by decide) hi
        refine rl_aa1 hw c1 c2 n (j + 1) _ _ 0 (by omega) (fun i hi => ?_) (fun i hi hbi => ?_)
        · by_cases e : i = j
          · subst e; exact hd.RM hw
          · exact rl_RM_cg (hs2 i e) (hg2 i e) (h1 i hi)
        · by_cases e : i = j
          · subst e; exact ⟨hd, fun z => absurd rfl z⟩
          · obtain ⟨k1, k2⟩ := h2 i (by omega) hbi
            exact ⟨rl_RC_cg (hs2 i e) (hg2 i e) k1, fun z => absurd rfl z⟩
    · rw [if_neg hb, if_neg hb]
      refine rl_aa1 hw c1 c2 n (j + 1) _ _ a (by omega) h1 (fun i hi hbi => ?_)
      by_cases e : i = j
      · subst e; exact absurd hbi hb
      · exact h2 i (by omega) hbi
theorem rl_aa2_0 (w meters cost : Int32) : ∀ (n j : Nat) (g : rl_F), rm_aa2 w meters cost n j g 0 = g
  | 0, _, _ => rfl
  | n + 1, j, g => by
    simp only [rm_aa2]
    exact rl_aa2_0 w meters cost n (j + 1) g
theorem rl_aa2 {w : Int32} (hw : rl_now w) {meters cost a : Int32} (ha : ¬ a = 0) (c1 : 1 ≤ cost.toInt) (c2 : cost.toInt ≤ 20) : ∀ (n j : Nat) (f g : rl_F), j + n = 4 → (∀ i, i < 4 → rl_RM w f g i) → (∀ i, j ≤ i → i < 4 → rl_bit meters i = 1 → rl_RC w f g i ∧ ¬ rm_would w g i cost 0 = 0) →
    ∀ i, i < 4 → rl_RM w (rx_aa2 w meters cost n j f) (rm_aa2 w meters cost n j g a) i
  | 0, j, f, g, hj, h1, h2 => h1
  | n + 1, j, f, g, hj, h1, h2 => by
    simp only [rx_aa2, rm_aa2]
    rw [if_neg ha]
    by_cases hb : rl_bit meters j = 1
    · rw [if_pos hb, if_pos hb]
      obtain ⟨hC, hwd⟩ := h2 j (Nat.le_refl j) (by omega) hb
      have hG := rl_grant hw hC c1 c2 hwd
      refine rl_aa2 hw ha c1 c2 n (j + 1) _ _ (by omega) (fun i hi => ?_) (fun i h3 h4 hbi => ?_)
      · by_cases e : i = j
        · subst e; exact hG.RM hw
        · exact rl_RM_cg (rx_same_grant w f cost e) (rm_same_grant w g cost e) (h1 i hi)
      · have e : i ≠ j := by omega
        obtain ⟨k1, k2⟩ := h2 i (by omega) h4 hbi
        exact ⟨rl_RC_cg (rx_same_grant w f cost e) (rm_same_grant w g cost e) k1, by rw [rm_would_cg (rm_same_grant w g cost e)]; exact k2⟩
    · rw [if_neg hb, if_neg hb]
      exact rl_aa2 hw ha c1 c2 n (j + 1) _ _ (by omega) h1 (fun i h3 h4 hbi => h2 i (by omega) h4 hbi)
theorem rel_askAll {w : Int32} {f g : rl_F} (h : rl_Rel w f g) (meters cost : Int32) : rx_askAllR w f meters cost = rm_askAllR w g meters cost ∧ rl_Rel w (rx_askAllF w f meters cost) (rm_askAllF w g meters cost) := by
  unfold rx_askAllR rm_askAllR rx_askAllF rm_askAllF
  by_cases hb : rl_badCost cost = 0
  · obtain ⟨c1, c2⟩ := rl_badCost_ok hb
    rw [if_pos hb, if_pos hb, if_pos hb, if_pos hb]
    obtain ⟨e, k1, k2⟩ := rl_aa1 h.1 (meters := meters) c1 c2 4 0 f g 1 rfl h.2 (fun i hi => absurd hi (Nat.not_lt_zero i))
    refine ⟨by rw [e], h.1, ?_⟩
    unfold rx_all2
    rw [e]
    by_cases ha : (rm_aa1 w meters cost 4 0 g 1).2 = 0
    · rw [if_pos ha, ha, rl_aa2_0]
      exact k1
    · rw [if_neg ha]
      exact rl_aa2 h.1 ha c1 c2 4 0 _ _ rfl k1 (fun i _ hi hbi => ⟨(k2 i hi hbi).1, (k2 i hi hbi).2 ha⟩)
  · rw [if_neg hb, if_neg hb, if_neg hb, if_neg hb]
    exact ⟨rfl, h⟩
theorem rl_bits : ∀ j, j < 4 → ∀ i, i < 4 → rl_bit (rl_one (nI j)) i = if i = j then 1 else 0 := by decide +kernel
/-- an ask of one meter is an ask of all with one bit -/
theorem rl_ask_all (w : Int32) (f : rl_F) (cost : Int32) {j : Nat} (hj : j < 4) : rx_askR1 w f j cost = rl_flag (rx_aa1 w (rl_one (nI j)) cost 4 0 f 1).2 ∧ rx_askF1 w f j cost = rx_all2 w (rl_one (nI j)) cost (rx_aa1 w (rl_one (nI j)) cost 4 0 f 1) := by
  have b0 := rl_bits j hj 0 (by decide)
  have b1 := rl_bits j hj 1 (by decide)
  have b2 := rl_bits j hj 2 (by decide)
  have b3 := rl_bits j hj 3 (by decide)
  generalize rl_one (nI j) = ms at b0 b1 b2 b3 ⊢
  unfold rx_askR1 rx_askF1
  by_cases hc : cost ≤ rx_room w (rx_catch w f j) j
  · rw [if_pos hc, if_pos hc]
    match j, hj with
    | 0, _ => simp at b0 b1 b2 b3; simp [rx_aa1, rx_all2, rx_aa2, rl_flag, b0, b1, b2, b3, hc]
    | 1, _ => simp at b0 b1 b2 b3; simp [rx_aa1, rx_all2, rx_aa2, rl_flag, b0, b1, b2, b3, hc]
    | 2, _ => simp at b0 b1 b2 b3; simp [rx_aa1, rx_all2, rx_aa2, rl_flag, b0, b1, b2, b3, hc]
    | 3, _ => simp at b0 b1 b2 b3; simp [rx_aa1, rx_all2, rx_aa2, rl_flag, b0, b1, b2, b3, hc]
  · rw [if_neg hc, if_neg hc]
    match j, hj with
    | 0, _ => simp at b0 b1 b2 b3; simp [rx_aa1, rx_all2, rx_aa2, rl_flag, b0, b1, b2, b3, hc]
    | 1, _ => simp at b0 b1 b2 b3; simp [rx_aa1, rx_all2, rx_aa2, rl_flag, b0, b1, b2, b3, hc]
    | 2, _ => simp at b0 b1 b2 b3; simp [rx_aa1, rx_all2, rx_aa2, rl_flag, b0, b1, b2, b3, hc]
    | 3, _ => simp at b0 b1 b2 b3; simp [rx_aa1, rx_all2, rx_aa2, rl_flag, b0, b1, b2, b3, hc]
theorem rel_ask {w : Int32} {f g : rl_F} (h : rl_Rel w f g) (meter cost : Int32) : rx_askR w f meter cost = rm_askR w g meter cost ∧ rl_Rel w (rx_askF w f meter cost) (rm_askF w g meter cost) := by
  unfold rx_askR rm_askR rx_askF rm_askF
  by_cases hm : rl_bad meter = 0
  · obtain ⟨k1, k2⟩ := rel_askAll h (rl_one meter) cost
    rw [if_pos hm, if_pos hm, if_pos hm, ← k1]
    by_cases hb : rl_badCost cost = 0
    · rw [if_pos hb, if_pos ⟨hm, hb⟩]
      obtain ⟨j, hj, rfl⟩ := rl_bad_ok hm
      rw [rl_cl4 hj]
      obtain ⟨e1, e2⟩ := rl_ask_all w f cost hj
      rw [e1, e2]
      unfold rx_askAllR
      unfold rx_askAllF at k2
      rw [if_pos hb] at k2 ⊢
      exact ⟨rfl, k2⟩
    · rw [if_neg hb, if_neg (fun z => hb z.2)]
      unfold rx_askAllR
      unfold rx_askAllF at k2
      rw [if_neg hb] at k2 ⊢
      exact ⟨rfl, k2⟩
  · rw [if_neg hm, if_neg hm, if_neg (fun z => hm z.1), if_neg hm]
    exact ⟨rfl, h⟩
theorem rel_pass {w : Int32} {f g : rl_F} (h : rl_Rel w f g) (u : Int32) : rl_Rel (rl_passW w u) f (rm_passF w g u) := by
  unfold rl_passW rm_passF
  by_cases hu : rl_unitbad u
  · rw [if_pos hu, if_pos hu]; exact h
  · rw [if_neg hu, if_neg hu]
    by_cases hl : w + u ≤ 100000
    · rw [if_pos hl, if_pos hl]
      obtain ⟨n, hn, rfl⟩ := rl_unit_ok (x := u) (fun z => hu (Or.inl z)) (Classical.not_not.mp (fun z => hu (Or.inr z)))
      rw [nI_clamp (by omega)]
      have hw' : rl_now (w + nI n) := by
        obtain ⟨w1, w2⟩ := h.1
        have hui : (nI n).toInt = (n : Int) := nI_toInt (by omega)
        have ew : (w + nI n).toInt = w.toInt + n := by rw [fb_addI (by rw [hui]; omega) (by rw [hui]; omega), hui]
        rw [Int32.le_iff_toInt_le, show (100000 : Int32).toInt = 100000 by decide] at hl
        exact ⟨by omega, hl⟩
      exact ⟨hw', fun j hj => rl_pass1 h.1 hn hw' hj (h.2 j hj)⟩
    · rw [if_neg hl, if_neg hl]; exact h
/-- a catch-up leaves all agreeing -/
theorem rel_catch {w : Int32} {f g : rl_F} (h : rl_Rel w f g) {j : Nat} (hj : j < 4) : rl_Rel w (rx_catch w f j) g := by
  refine ⟨h.1, fun i hi => ?_⟩
  by_cases e : i = j
  · subst e; exact (rl_catch h.1 (h.2 i hi)).RM h.1
  · exact rl_RM_cg ((rx_fr_catch w f j).same e) (rm_same_rf g i) (h.2 i hi)
theorem rel_wait {w : Int32} {f g : rl_F} (h : rl_Rel w f g) (meter cost : Int32) : rx_waitR w f meter cost = rm_waitR w g meter cost ∧ rl_Rel w (rx_waitF w f meter cost) g := by
  unfold rx_waitR rm_waitR rx_waitF
  by_cases hm : rl_bad meter = 0
  · rw [if_pos hm, if_pos hm]
    by_cases hb : rl_badCost cost = 0
    · rw [if_pos hb, if_pos hb]
      obtain ⟨c1, c2⟩ := rl_badCost_ok hb
      obtain ⟨j, hj, rfl⟩ := rl_bad_ok hm
      rw [rl_cl4 hj]
      have hC := rl_catch h.1 (h.2 j hj)
      have e3 : rx_catch w f j 3 j = f 3 j := (rx_fr_catch w f j).at 3 j (by omega)
      by_cases hc : cost ≤ f 3 j
      · rw [if_pos hc, if_pos ⟨hm, hb, hc⟩]
        exact ⟨rl_wait h.1 hC c1 c2 (by rw [e3]; exact hc), rel_catch h hj⟩
      · rw [if_neg hc, if_neg (fun z => hc z.2.2)]
        exact ⟨(rl_never h.1 hC c1 c2 (by rw [e3]; exact hc)).symm, h⟩
    · rw [if_neg hb, if_neg hb, if_neg (fun z => hb z.2.1)]
      exact ⟨rfl, h⟩
  · rw [if_neg hm, if_neg hm, if_neg (fun z => hm z.1)]
    exact ⟨rfl, h⟩
theorem rl_cut_nI {q : Nat} (hq : q ≤ 30) : rl_cut (nI q) = nI (min 20 q) := by
  unfold rl_cut
  rw [if_pos (nI_pos' (by omega))]
  by_cases h : q ≤ 20
  · rw [if_pos (show nI q ≤ (20 : Int32) from nI_le (b := 20) h (by decide)), show min 20 q = q by omega]
  · rw [if_neg (show ¬ nI q ≤ (20 : Int32) from nI_ge (a := 20) (by omega) (by omega)), show min 20 q = 20 by omega]
    rfl
theorem rel_room {w : Int32} {f g : rl_F} (h : rl_Rel w f g) (meter : Int32) : rx_roomR w f meter = rm_roomR w g meter ∧ rl_Rel w (rx_roomF w f meter) g := by
  unfold rx_roomR rm_roomR rx_roomF
  by_cases hm : rl_bad meter = 0
  · rw [if_pos hm, if_pos hm, if_pos hm]
    obtain ⟨j, hj, rfl⟩ := rl_bad_ok hm
    rw [rl_cl4 hj]
    refine ⟨?_, rel_catch h hj⟩
    obtain ⟨q, hq, eq, hwd⟩ := rl_room h.1 (rl_catch h.1 (h.2 j hj))
    rw [eq, rl_cut_nI hq]
    have hq2 : ∀ c : Nat, 1 ≤ c → c ≤ 20 → (rm_would w g j (nI c) 0 = 0 ↔ q < c) := fun c h1 h2 => by
      have hci : (nI c).toInt = (c : Int) := nI_toInt (by omega)
      rw [hwd (nI c) (by rw [hci]; omega) (by rw [hci]; omega), hci]
      omega
    have hrm := rl_rm_spec hq2 20 1 (Nat.le_refl 1) rfl
    rw [show nI (min (1 - 1) q) = 0 by rw [show min (1 - 1) q = 0 by omega]; exact nI_0] at hrm
    exact hrm.symm
  · rw [if_neg hm, if_neg hm, if_neg hm]
    exact ⟨rfl, h⟩
theorem rel_granted {w : Int32} {f g : rl_F} (h : rl_Rel w f g) (meter : Int32) : rl_ent f 5 meter = rl_ent g 8 meter := by
  unfold rl_ent
  by_cases hm : rl_bad meter = 0
  · rw [if_pos hm, if_pos hm]
    obtain ⟨j, hj, rfl⟩ := rl_bad_ok hm
    rw [rl_cl4 hj]
    exact (h.2 j hj).1.2.2.2.2.1
  · rw [if_neg hm, if_neg hm]
theorem rel_denied {w : Int32} {f g : rl_F} (h : rl_Rel w f g) (meter : Int32) : rl_ent f 6 meter = rl_ent g 9 meter := by
  unfold rl_ent
  by_cases hm : rl_bad meter = 0
  · rw [if_pos hm, if_pos hm]
    obtain ⟨j, hj, rfl⟩ := rl_bad_ok hm
    rw [rl_cl4 hj]
    exact (h.2 j hj).1.2.2.2.2.2.1
  · rw [if_neg hm, if_neg hm]
end
section
/-! THE CLAIM OUT OF ONE WALK OF THE LAW'S BODY. Your part is whole_start (and what it stands on); all else here is the same for every law, but numbers. -/
def R_law : String := "RateLimitsLaw"
def lw_P (b : Addr) (xs : List Int32) (args : Array Value) (s : State) : Prop := args = #[.ref b] ∧ s.IntsAt b xs ∧ xs.length ≤ 256 ∧ (Jvm.Cond.and given_1 narrow_1).before args s = true
def lw_Q (_ : Array Value) (s : State) (o : Outcome) (t : State) : Prop := o = .returned (some (.int 1)) ∧ Framed s o t [] 600000 7290000
def lw_Z (below : List Frame) (a : Array Value) (s : State) : State → Prop := fun t => ∃ o, t.status = .running ∧ Ended t below o ∧ lw_Q a s o t
/-- the law's own end, with 1 on the stack, nothing written that was there before, its room as the claim has it -/
theorem lw_ret {p : Program} {l : Launch} {e : Env} {s : State} {m : MethodId} {below : List Frame} {meth : Method} {c : Code} {b : Nat} (hx : p.tables.exec = Jvm.exec) (hb : c.code = code) (hr : meth.sig.returnType = ret) (hlocks : meth.locks = false) {pc : Nat} {H : Heap} {ls : Array Slot} (hdg : decode code pc = .ok (.ireturn, 1)) : W p l e room_1 s m #[Value.ref b] below meth c H [] 600000 7290000 (lw_Z below #[Value.ref b] s) (F0 m pc ls [.int 1]) := by
  intro T hT X
  obtain ⟨fs, hret, hrun, hended, hW, hframe⟩ := X.leave (v := some (.int 1)) (hlocks := hlocks) (fun h => by rw [hr] at h; cases h)
  have hmeth' : T.vm.method? m = some meth := X.method'
  refine ⟨T.setFrames fs, ?_, .returned (some (.int 1)), hrun, hended, rfl, ⟨_, rfl⟩, hW, hframe⟩
  jvm_step X.here [X.here.top, hx, hb, hdg, hmeth', hr, ret, narrow_b1]
  (try refine ⟨rfl, ?_⟩); (try refine ⟨rfl, ?_⟩)
  first | (intro acts; rw [hret _ acts rfl rfl rfl]) | rw [hret _ _ rfl rfl rfl]
  exact Steps.refl _
/-- what holds at the law's entry: the machine, the code, the tables' words (any of lw_tbl by 'hts w (by decide +kernel)'), the script of L ints xs at the cell b, what the Statement gives of the start (any of its parts by flat_of_before) -/
def lw_At (p : Program) (s : State) (m : MethodId) (meth : Method) (c : Code) (b L : Nat) (xs : Nat → Int32) : Prop :=
  p.tables.exec = Jvm.exec ∧ c.code = code ∧ meth.sig.returnType = ret ∧ c.maxLocals = 4 ∧ s.vm.findClass R_law = some m.cls ∧ (∀ w ∈ lw_tbl, w.before #[Value.ref b] s = true) ∧ va_X b L xs s s.heap ∧ b < s.heap.size ∧ meth.locks = false ∧ (Jvm.Cond.and given_1 narrow_1).before #[Value.ref b] s = true
/-! rows for the law: both objects stand side by side, the script apart -/
def ll_B (D : va_G) (A : Nat → Prop) (s : State) (x0 y0 : Nat) (ax am : Nat → Nat) (dA : ClassId) (wx wm : Int32) (f g : rl_F) (H : Heap) (locs : List Loc) : Prop :=
  va_P D rl_cl (rx_W x0 ax dA wx f ++ rm_W y0 am dA wm g) H ∧ va_D A (rx_W x0 ax dA wx f ++ rm_W y0 am dA wm g) ∧ va_S A s.heap H locs
section LL
variable {p : Program} {l : Launch} {e : Env} {R : Room} {s : State} {m : MethodId} {args : Array Value} {below : List Frame} {meth : Method} {c : Code} {H : Heap} {locs : List Loc} {cells slots : Nat} {Q : State → Prop}
variable {cc : ByteArray} {pc nL : Nat} {ls : Array Slot} {rest st : List Value} {D : va_G} {A : Nat → Prop} {x0 y0 : Nat} {ax am : Nat → Nat} {dA : ClassId} {wx wm w1 r : Int32} {f g f1 : rl_F} {own : String}
theorem ll_sld {b L : Nat} {xs : Nat → Int32} {j : Nat} (C : rl_Cx p s m args c cc nL own D dA) (hX : va_X b L xs s s.heap) (hbl : b < s.heap.size) (hbA : ¬ A b) (B : ll_B D A s x0 y0 ax am dA wx wm f g H locs) (hj : j < L) (hL : L ≤ 256) (hdg : decode cc pc = .ok (.iaload, 1))
    (kk : W p l e R s m args below meth c H locs cells slots Q (F0 m (pc + 1) ls (.int (xs j) :: rest))) : W p l e R s m args below meth c H locs cells slots Q (F0 m pc ls (.int (nI j) :: .ref b :: rest)) := by
  refine va_sld C.1 C.2.1 hX hbl hbA B.2.2 (vp_in_nI hj (by omega)) hdg ?_
  rw [nI_clamp (by omega)]
  exact kk
theorem ll_callX {n index nL' : Nat} {y : MethodName} {bs : ByteArray} {rt : Option FieldType} {rm : Room} {as : List Value} (C : rl_Cx p s m args c cc nL own D dA) (hA : ∀ q : Nat, s.heap.size ≤ q → A q) (B : ll_B D A s x0 y0 ax am dA wx wm f g H locs) (hM : rl_Mi rx_W l y bs nL' rt rm as wx f r w1 f1) (cw : CallW R s args own RX0 index y bs nL' rt (ws_ y bs nL' rt) rm 0 0 n)
    (hn : as.length = n) (hls : ls.size = nL) (hst : st = as.reverse ++ .ref x0 :: rest) (hrm : (rest.map fun v => v.category).sum ≤ 8) (hdg : decode cc pc = .ok (.invokevirtual index, 3)) (hf : cells ≤ R.cells ∧ slots ≤ R.slots)
    (kk : ∀ (H1 : Heap) (locs1 : List Loc), ll_B D A s x0 y0 ax am dA w1 wm f1 g H1 locs1 → W p l e R s m args below meth c H1 locs1 cells slots Q (F0 m (pc + 3) ls (.int r :: rest))) : W p l e R s m args below meth c H locs cells slots Q (F0 m pc ls st) := by
  have hPc := B.1.sub (ws' := rx_W x0 ax dA wx f) [0, 1, 2, 3, 4, 5, 6, 7, 8, 9, 10, 11, 12, 13, 14] rfl
  have hDc := B.2.1.sub (ws' := rx_W x0 ax dA wx f) [0, 1, 2, 3, 4, 5, 6, 7, 8, 9, 10, 11, 12, 13, 14] (by decide) rfl
  have hFc := va_free (wc := rx_W x0 ax dA wx f) B.2.1 B.2.2 hA [0, 1, 2, 3, 4, 5, 6, 7, 8, 9, 10, 11, 12, 13, 14] rfl
  have hK := C.2.2.2.2.2
  refine va_calli (va_runV (As := as) (rest := rest) ⟨C.1, C.2.1, C.2.2.1, C.2.2.2.1, C.2.2.2.2.1⟩ (hM D x0 ax dA H.size) cw ⟨rl_blind, va_recv hK hPc (ci := 0) (q0 := 0) rfl rfl, fun U hU hW => ⟨rfl, by rw [hU], by rw [hU]; exact hPc, va_K.moved hW.alike hK, hDc.weaken (fun _ _ _ _ => trivial)⟩⟩ rfl hn hls hst (lv_room hrm) hdg hf) B.2.2 (fun q _ h => hFc q h) hFc (fun r' u t H1 locs1 ht hvm hw1 hB hz1 hk1 hS => ?_)
  obtain ⟨hP1, hK1, hD1⟩ := hB
  rw [ht] at hP1
  have hw1 : r' = r := hw1
  subst hw1
  obtain ⟨hP, hD⟩ := va_join (wr := rm_W y0 am dA wm g) (w1 := rx_W x0 ax dA w1 f1) B.1 B.2.1 [0, 1, 2, 3, 4, 5, 6, 7, 8, 9, 10, 11, 12, 13, 14] [15, 16, 17, 18, 19, 20, 21, 22, 23, 24] rfl rfl (by decide) (by decide) hk1 hFc hP1 hD1
  exact kk H1 locs1 ⟨hP.sub [10, 11, 12, 13, 14, 15, 16, 17, 18, 19, 20, 21, 22, 23, 24, 0, 1, 2, 3, 4, 5, 6, 7, 8, 9] rfl, hD.sub [10, 11, 12, 13, 14, 15, 16, 17, 18, 19, 20, 21, 22, 23, 24, 0, 1, 2, 3, 4, 5, 6, 7, 8, 9] (by decide) rfl, hS⟩
theorem ll_callM {n index nL' : Nat} {y : MethodName} {bs : ByteArray} {rt : Option FieldType} {rm : Room} {as : List Value} (C : rl_Cx p s m args c cc nL own D dA) (hA : ∀ q : Nat, s.heap.size ≤ q → A q) (B : ll_B D A s x0 y0 ax am dA wx wm f g H locs) (hM : rl_Mi rm_W l y bs nL' rt rm as wm g r w1 f1) (cw : CallW R s args own RX1 index y bs nL' rt (ws_ y bs nL' rt) rm 0 0 n)
    (hn : as.length = n) (hls : ls.size = nL) (hst : st = as.reverse ++ .ref y0 :: rest) (hrm : (rest.map fun v => v.category).sum ≤ 8) (hdg : decode cc pc = .ok (.invokevirtual index, 3)) (hf : cells ≤ R.cells ∧ slots ≤ R.slots)
    (kk : ∀ (H1 : Heap) (locs1 : List Loc), ll_B D A s x0 y0 ax am dA wx w1 f f1 H1 locs1 → W p l e R s m args below meth c H1 locs1 cells slots Q (F0 m (pc + 3) ls (.int r :: rest))) : W p l e R s m args below meth c H locs cells slots Q (F0 m pc ls st) := by
  have hPc := B.1.sub (ws' := rm_W y0 am dA wm g) [15, 16, 17, 18, 19, 20, 21, 22, 23, 24] rfl
  have hDc := B.2.1.sub (ws' := rm_W y0 am dA wm g) [15, 16, 17, 18, 19, 20, 21, 22, 23, 24] (by decide) rfl
  have hFc := va_free (wc := rm_W y0 am dA wm g) B.2.1 B.2.2 hA [15, 16, 17, 18, 19, 20, 21, 22, 23, 24] rfl
  have hK := C.2.2.2.2.2
  refine va_calli (va_runV (As := as) (rest := rest) ⟨C.1, C.2.1, C.2.2.1, C.2.2.2.1, C.2.2.2.2.1⟩ (hM D y0 am dA H.size) cw ⟨rl_blind, va_recv hK hPc (ci := 1) (q0 := 0) rfl rfl, fun U hU hW => ⟨rfl, by rw [hU], by rw [hU]; exact hPc, va_K.moved hW.alike hK, hDc.weaken (fun _ _ _ _ => trivial)⟩⟩ rfl hn hls hst (lv_room hrm) hdg hf) B.2.2 (fun q _ h => hFc q h) hFc (fun r' u t H1 locs1 ht hvm hw1 hB hz1 hk1 hS => ?_)
  obtain ⟨hP1, hK1, hD1⟩ := hB
  rw [ht] at hP1
  have hw1 : r' = r := hw1
  subst hw1
  obtain ⟨hP, hD⟩ := va_join (wr := rx_W x0 ax dA wx f) (w1 := rm_W y0 am dA w1 f1) B.1 B.2.1 [15, 16, 17, 18, 19, 20, 21, 22, 23, 24] [0, 1, 2, 3, 4, 5, 6, 7, 8, 9, 10, 11, 12, 13, 14] rfl rfl (by decide) (by decide) hk1 hFc hP1 hD1
  exact kk H1 locs1 ⟨hP, hD, hS⟩
end LL
end
section
set_option maxHeartbeats 4000000 in
set_option maxRecDepth 100000 in
theorem ll_set {p : Program} {l : Launch} {e : Env} {s : State} {m : MethodId} {args : Array Value} {below : List Frame} {meth : Method} {c : Code} {D : va_G} {dA : ClassId} {A : Nat → Prop} {Q : State → Prop} {b L : Nat} {xs : Nat → Int32} (C : rl_Cx p s m args c cL_law 4 R_law D dA) (hA : ∀ q : Nat, s.heap.size ≤ q → A q) (hX : va_X b L xs s s.heap) (hbl : b < s.heap.size) (hbA : ¬ A b) (hL : L ≤ 256) {x0 y0 : Nat} {ax am : Nat → Nat} {k : Nat} (hk : k + 4 ≤ L) {w : Int32} {f g : rl_F} (hR : rl_Rel w f g) (K : ∀ (w : Int32) (f g : rl_F) (H : Heap) (locs : List Loc) (ls : Array Slot), rl_Rel w f g → ll_B D A s x0 y0 ax am dA w w f g H locs → lv_has ls 4 [(3, .int (nI k)), (2, .ref y0), (1, .ref x0), (0, .ref b)] → W p l e room_1 s m args below meth c H locs 600000 7290000 Q (F0 m 331 ls [])) {H : Heap} {locs : List Loc} {ls : Array Slot} (B : ll_B D A s x0 y0 ax am dA w w f g H locs) (hl : lv_has ls 4 [(3, .int (nI k)), (2, .ref y0), (1, .ref x0), (0, .ref b)]) : W p l e room_1 s m args below meth c H locs 600000 7290000 Q (F0 m 84 ls []) := by
  have hx := C.1
  have hb := C.2.1
  refine lv_aload_n hx hb dL_law_84 rfl (lv_at hl 2 rfl) ?_
  refine lv_aload_n hx hb dL_law_85 rfl (lv_at hl 3 rfl) ?_
  refine lv_iload_n hx hb dL_law_86 rfl (lv_at hl 0 rfl) ?_
  refine lv_iconst (v := 1) hx hb dL_law_87 (by decide) ?_
  refine lv_iadd hx hb dL_law_88 ?_
  refine rl_top (y := nI (k + 1)) (show nI k + 1 = nI (k + 1) from nI_add k 1) ?_
  refine ll_sld (j := k + 1) C hX hbl hbA B (by omega) hL dL_law_89 ?_
  refine lv_aload_n hx hb dL_law_90 rfl (lv_at hl 3 rfl) ?_
  refine lv_iload_n hx hb dL_law_91 rfl (lv_at hl 0 rfl) ?_
  refine lv_iconst (v := 2) hx hb dL_law_92 (by decide) ?_
  refine lv_iadd hx hb dL_law_93 ?_
  refine rl_top (y := nI (k + 2)) (show nI k + 2 = nI (k + 2) from nI_add k 2) ?_
  refine ll_sld (j := k + 2) C hX hbl hbA B (by omega) hL dL_law_94 ?_
  refine lv_aload_n hx hb dL_law_95 rfl (lv_at hl 3 rfl) ?_
  refine lv_iload_n hx hb dL_law_96 rfl (lv_at hl 0 rfl) ?_
  refine lv_iconst (v := 3) hx hb dL_law_97 (by decide) ?_
  refine lv_iadd hx hb dL_law_98 ?_
  refine rl_top (y := nI (k + 3)) (show nI k + 3 = nI (k + 3) from nI_add k 3) ?_
  refine ll_sld (j := k + 3) C hX hbl hbA B (by omega) hL dL_law_99 ?_
  refine ll_callX (rest := []) C hA B (met_X0_set w f (xs (k + 1)) (xs (k + 2)) (xs (k + 3))) (cwV 3 C.2.2.2.2.1 (lw_V q76 q77 q78 q14 q79) rfl rfl rfl (by decide +kernel) ⟨by decide, by decide⟩) rfl hl.1 rfl (Nat.le_of_ble_eq_true rfl) dL_law_100 ⟨Nat.le_refl _, Nat.le_refl _⟩ (fun H locs B => ?_)
  refine lv_aload_n hx hb dL_law_103 rfl (lv_at hl 1 rfl) ?_
  refine lv_aload_n hx hb dL_law_104 rfl (lv_at hl 3 rfl) ?_
  refine lv_iload_n hx hb dL_law_105 rfl (lv_at hl 0 rfl) ?_
  refine lv_iconst (v := 1) hx hb dL_law_106 (by decide) ?_
  refine lv_iadd hx hb dL_law_107 ?_
  refine rl_top (y := nI (k + 1)) (show nI k + 1 = nI (k + 1) from nI_add k 1) ?_
  refine ll_sld (j := k + 1) C hX hbl hbA B (by omega) hL dL_law_108 ?_
  refine lv_aload_n hx hb dL_law_109 rfl (lv_at hl 3 rfl) ?_
  refine lv_iload_n hx hb dL_law_110 rfl (lv_at hl 0 rfl) ?_
  refine lv_iconst (v := 2) hx hb dL_law_111 (by decide) ?_
  refine lv_iadd hx hb dL_law_112 ?_
  refine rl_top (y := nI (k + 2)) (show nI k + 2 = nI (k + 2) from nI_add k 2) ?_
  refine ll_sld (j := k + 2) C hX hbl hbA B (by omega) hL dL_law_113 ?_
  refine lv_aload_n hx hb dL_law_114 rfl (lv_at hl 3 rfl) ?_
  refine lv_iload_n hx hb dL_law_115 rfl (lv_at hl 0 rfl) ?_
  refine lv_iconst (v := 3) hx hb dL_law_116 (by decide) ?_
  refine lv_iadd hx hb dL_law_117 ?_
  refine rl_top (y := nI (k + 3)) (show nI k + 3 = nI (k + 3) from nI_add k 3) ?_
  refine ll_sld (j := k + 3) C hX hbl hbA B (by omega) hL dL_law_118 ?_
  refine ll_callM (rest := [.int (rl_setR (xs (k + 1)) (xs (k + 2)) (xs (k + 3)))]) C hA B (met_X1_set w g (xs (k + 1)) (xs (k + 2)) (xs (k + 3))) (cwV 3 C.2.2.2.2.1 (lw_V q181 q182 q183 q15 q184) rfl rfl rfl (by decide +kernel) ⟨by decide, by decide⟩) rfl hl.1 rfl (Nat.le_of_ble_eq_true rfl) dL_law_119 ⟨Nat.le_refl _, Nat.le_refl _⟩ (fun H locs B => ?_)
  refine lv_icmp_eq (tgt := 331) hx hb dL_law_122 (by decide) (fun c_9 => ?_) (fun c_9 => ?_)
  · exact K _ _ _ _ _ _ (rel_set hR _ _ _) B hl
  · exact absurd (rfl) c_9
set_option maxHeartbeats 4000000 in
set_option maxRecDepth 100000 in
theorem ll_ask {p : Program} {l : Launch} {e : Env} {s : State} {m : MethodId} {args : Array Value} {below : List Frame} {meth : Method} {c : Code} {D : va_G} {dA : ClassId} {A : Nat → Prop} {Q : State → Prop} {b L : Nat} {xs : Nat → Int32} (C : rl_Cx p s m args c cL_law 4 R_law D dA) (hA : ∀ q : Nat, s.heap.size ≤ q → A q) (hX : va_X b L xs s s.heap) (hbl : b < s.heap.size) (hbA : ¬ A b) (hL : L ≤ 256) {x0 y0 : Nat} {ax am : Nat → Nat} {k : Nat} (hk : k + 4 ≤ L) {w : Int32} {f g : rl_F} (hR : rl_Rel w f g) (K : ∀ (w : Int32) (f g : rl_F) (H : Heap) (locs : List Loc) (ls : Array Slot), rl_Rel w f g → ll_B D A s x0 y0 ax am dA w w f g H locs → lv_has ls 4 [(3, .int (nI k)), (2, .ref y0), (1, .ref x0), (0, .ref b)] → W p l e room_1 s m args below meth c H locs 600000 7290000 Q (F0 m 331 ls [])) {H : Heap} {locs : List Loc} {ls : Array Slot} (B : ll_B D A s x0 y0 ax am dA w w f g H locs) (hl : lv_has ls 4 [(3, .int (nI k)), (2, .ref y0), (1, .ref x0), (0, .ref b)]) : W p l e room_1 s m args below meth c H locs 600000 7290000 Q (F0 m 127 ls []) := by
  have hx := C.1
  have hb := C.2.1
  refine lv_aload_n hx hb dL_law_127 rfl (lv_at hl 2 rfl) ?_
  refine lv_aload_n hx hb dL_law_128 rfl (lv_at hl 3 rfl) ?_
  refine lv_iload_n hx hb dL_law_129 rfl (lv_at hl 0 rfl) ?_
  refine lv_iconst (v := 1) hx hb dL_law_130 (by decide) ?_
  refine lv_iadd hx hb dL_law_131 ?_
  refine rl_top (y := nI (k + 1)) (show nI k + 1 = nI (k + 1) from nI_add k 1) ?_
  refine ll_sld (j := k + 1) C hX hbl hbA B (by omega) hL dL_law_132 ?_
  refine lv_aload_n hx hb dL_law_133 rfl (lv_at hl 3 rfl) ?_
  refine lv_iload_n hx hb dL_law_134 rfl (lv_at hl 0 rfl) ?_
  refine lv_iconst (v := 2) hx hb dL_law_135 (by decide) ?_
  refine lv_iadd hx hb dL_law_136 ?_
  refine rl_top (y := nI (k + 2)) (show nI k + 2 = nI (k + 2) from nI_add k 2) ?_
  refine ll_sld (j := k + 2) C hX hbl hbA B (by omega) hL dL_law_137 ?_
  refine ll_callX (rest := []) C hA B (met_X0_ask w f hR.HD (xs (k + 1)) (xs (k + 2))) (cwV 2 C.2.2.2.2.1 (lw_V q83 q84 q85 q14 q86) rfl rfl rfl (by decide +kernel) ⟨by decide, by decide⟩) rfl hl.1 rfl (Nat.le_of_ble_eq_true rfl) dL_law_138 ⟨Nat.le_refl _, Nat.le_refl _⟩ (fun H locs B => ?_)
  refine lv_aload_n hx hb dL_law_141 rfl (lv_at hl 1 rfl) ?_
  refine lv_aload_n hx hb dL_law_142 rfl (lv_at hl 3 rfl) ?_
  refine lv_iload_n hx hb dL_law_143 rfl (lv_at hl 0 rfl) ?_
  refine lv_iconst (v := 1) hx hb dL_law_144 (by decide) ?_
  refine lv_iadd hx hb dL_law_145 ?_
  refine rl_top (y := nI (k + 1)) (show nI k + 1 = nI (k + 1) from nI_add k 1) ?_
  refine ll_sld (j := k + 1) C hX hbl hbA B (by omega) hL dL_law_146 ?_
  refine lv_aload_n hx hb dL_law_147 rfl (lv_at hl 3 rfl) ?_
  refine lv_iload_n hx hb dL_law_148 rfl (lv_at hl 0 rfl) ?_
  refine lv_iconst (v := 2) hx hb dL_law_149 (by decide) ?_
  refine lv_iadd hx hb dL_law_150 ?_
  refine rl_top (y := nI (k + 2)) (show nI k + 2 = nI (k + 2) from nI_add k 2) ?_
  refine ll_sld (j := k + 2) C hX hbl hbA B (by omega) hL dL_law_151 ?_
  refine ll_callM (rest := [.int (rx_askR w f (xs (k + 1)) (xs (k + 2)))]) C hA B (met_X1_ask w g (xs (k + 1)) (xs (k + 2))) (cwV 2 C.2.2.2.2.1 (lw_V q189 q190 q191 q15 q192) rfl rfl rfl (by decide +kernel) ⟨by decide, by decide⟩) rfl hl.1 rfl (Nat.le_of_ble_eq_true rfl) dL_law_152 ⟨Nat.le_refl _, Nat.le_refl _⟩ (fun H locs B => ?_)
  refine lv_icmp_eq (tgt := 331) hx hb dL_law_155 (by decide) (fun c_9 => ?_) (fun c_9 => ?_)
  · exact K _ _ _ _ _ _ ((rel_ask hR _ _).2) B hl
  · exact absurd ((rel_ask hR _ _).1) c_9
set_option maxHeartbeats 4000000 in
set_option maxRecDepth 100000 in
theorem ll_askAll {p : Program} {l : Launch} {e : Env} {s : State} {m : MethodId} {args : Array Value} {below : List Frame} {meth : Method} {c : Code} {D : va_G} {dA : ClassId} {A : Nat → Prop} {Q : State → Prop} {b L : Nat} {xs : Nat → Int32} (C : rl_Cx p s m args c cL_law 4 R_law D dA) (hA : ∀ q : Nat, s.heap.size ≤ q → A q) (hX : va_X b L xs s s.heap) (hbl : b < s.heap.size) (hbA : ¬ A b) (hL : L ≤ 256) {x0 y0 : Nat} {ax am : Nat → Nat} {k : Nat} (hk : k + 4 ≤ L) {w : Int32} {f g : rl_F} (hR : rl_Rel w f g) (K : ∀ (w : Int32) (f g : rl_F) (H : Heap) (locs : List Loc) (ls : Array Slot), rl_Rel w f g → ll_B D A s x0 y0 ax am dA w w f g H locs → lv_has ls 4 [(3, .int (nI k)), (2, .ref y0), (1, .ref x0), (0, .ref b)] → W p l e room_1 s m args below meth c H locs 600000 7290000 Q (F0 m 331 ls [])) {H : Heap} {locs : List Loc} {ls : Array Slot} (B : ll_B D A s x0 y0 ax am dA w w f g H locs) (hl : lv_has ls 4 [(3, .int (nI k)), (2, .ref y0), (1, .ref x0), (0, .ref b)]) : W p l e room_1 s m args below meth c H locs 600000 7290000 Q (F0 m 160 ls []) := by
  have hx := C.1
  have hb := C.2.1
  refine lv_aload_n hx hb dL_law_160 rfl (lv_at hl 2 rfl) ?_
  refine lv_aload_n hx hb dL_law_161 rfl (lv_at hl 3 rfl) ?_
  refine lv_iload_n hx hb dL_law_162 rfl (lv_at hl 0 rfl) ?_
  refine lv_iconst (v := 1) hx hb dL_law_163 (by decide) ?_
  refine lv_iadd hx hb dL_law_164 ?_
  refine rl_top (y := nI (k + 1)) (show nI k + 1 = nI (k + 1) from nI_add k 1) ?_
  refine ll_sld (j := k + 1) C hX hbl hbA B (by omega) hL dL_law_165 ?_
  refine lv_aload_n hx hb dL_law_166 rfl (lv_at hl 3 rfl) ?_
  refine lv_iload_n hx hb dL_law_167 rfl (lv_at hl 0 rfl) ?_
  refine lv_iconst (v := 2) hx hb dL_law_168 (by decide) ?_
  refine lv_iadd hx hb dL_law_169 ?_
  refine rl_top (y := nI (k + 2)) (show nI k + 2 = nI (k + 2) from nI_add k 2) ?_
  refine ll_sld (j := k + 2) C hX hbl hbA B (by omega) hL dL_law_170 ?_
  refine ll_callX (rest := []) C hA B (met_X0_askAll w f hR.HD (xs (k + 1)) (xs (k + 2))) (cwV 2 C.2.2.2.2.1 (lw_V q106 q107 q108 q14 q109) rfl rfl rfl (by decide +kernel) ⟨by decide, by decide⟩) rfl hl.1 rfl (Nat.le_of_ble_eq_true rfl) dL_law_171 ⟨Nat.le_refl _, Nat.le_refl _⟩ (fun H locs B => ?_)
  refine lv_aload_n hx hb dL_law_174 rfl (lv_at hl 1 rfl) ?_
  refine lv_aload_n hx hb dL_law_175 rfl (lv_at hl 3 rfl) ?_
  refine lv_iload_n hx hb dL_law_176 rfl (lv_at hl 0 rfl) ?_
  refine lv_iconst (v := 1) hx hb dL_law_177 (by decide) ?_
  refine lv_iadd hx hb dL_law_178 ?_
  refine rl_top (y := nI (k + 1)) (show nI k + 1 = nI (k + 1) from nI_add k 1) ?_
  refine ll_sld (j := k + 1) C hX hbl hbA B (by omega) hL dL_law_179 ?_
  refine lv_aload_n hx hb dL_law_180 rfl (lv_at hl 3 rfl) ?_
  refine lv_iload_n hx hb dL_law_181 rfl (lv_at hl 0 rfl) ?_
  refine lv_iconst (v := 2) hx hb dL_law_182 (by decide) ?_
  refine lv_iadd hx hb dL_law_183 ?_
  refine rl_top (y := nI (k + 2)) (show nI k + 2 = nI (k + 2) from nI_add k 2) ?_
  refine ll_sld (j := k + 2) C hX hbl hbA B (by omega) hL dL_law_184 ?_
  refine ll_callM (rest := [.int (rx_askAllR w f (xs (k + 1)) (xs (k + 2)))]) C hA B (met_X1_askAll w g (xs (k + 1)) (xs (k + 2))) (cwV 2 C.2.2.2.2.1 (lw_V q217 q194 q195 q15 q196) rfl rfl rfl (by decide +kernel) ⟨by decide, by decide⟩) rfl hl.1 rfl (Nat.le_of_ble_eq_true rfl) dL_law_185 ⟨Nat.le_refl _, Nat.le_refl _⟩ (fun H locs B => ?_)
  refine lv_icmp_eq (tgt := 331) hx hb dL_law_188 (by decide) (fun c_9 => ?_) (fun c_9 => ?_)
  · exact K _ _ _ _ _ _ ((rel_askAll hR _ _).2) B hl
  · exact absurd ((rel_askAll hR _ _).1) c_9
set_option maxHeartbeats 4000000 in
set_option maxRecDepth 100000 in
theorem ll_pass {p : Program} {l : Launch} {e : Env} {s : State} {m : MethodId} {args : Array Value} {below : List Frame} {meth : Method} {c : Code} {D : va_G} {dA : ClassId} {A : Nat → Prop} {Q : State → Prop} {b L : Nat} {xs : Nat → Int32} (C : rl_Cx p s m args c cL_law 4 R_law D dA) (hA : ∀ q : Nat, s.heap.size ≤ q → A q) (hX : va_X b L xs s s.heap) (hbl : b < s.heap.size) (hbA : ¬ A b) (hL : L ≤ 256) {x0 y0 : Nat} {ax am : Nat → Nat} {k : Nat} (hk : k + 4 ≤ L) {w : Int32} {f g : rl_F} (hR : rl_Rel w f g) (K : ∀ (w : Int32) (f g : rl_F) (H : Heap) (locs : List Loc) (ls : Array Slot), rl_Rel w f g → ll_B D A s x0 y0 ax am dA w w f g H locs → lv_has ls 4 [(3, .int (nI k)), (2, .ref y0), (1, .ref x0), (0, .ref b)] → W p l e room_1 s m args below meth c H locs 600000 7290000 Q (F0 m 331 ls [])) {H : Heap} {locs : List Loc} {ls : Array Slot} (B : ll_B D A s x0 y0 ax am dA w w f g H locs) (hl : lv_has ls 4 [(3, .int (nI k)), (2, .ref y0), (1, .ref x0), (0, .ref b)]) : W p l e room_1 s m args below meth c H locs 600000 7290000 Q (F0 m 193 ls []) := by
  have hx := C.1
  have hb := C.2.1
  refine lv_aload_n hx hb dL_law_193 rfl (lv_at hl 2 rfl) ?_
  refine lv_aload_n hx hb dL_law_194 rfl (lv_at hl 3 rfl) ?_
  refine lv_iload_n hx hb dL_law_195 rfl (lv_at hl 0 rfl) ?_
  refine lv_iconst (v := 1) hx hb dL_law_196 (by decide) ?_
  refine lv_iadd hx hb dL_law_197 ?_
  refine rl_top (y := nI (k + 1)) (show nI k + 1 = nI (k + 1) from nI_add k 1) ?_
  refine ll_sld (j := k + 1) C hX hbl hbA B (by omega) hL dL_law_198 ?_
  refine ll_callX (rest := []) C hA B (met_X0_pass w f (xs (k + 1))) (cwV 1 C.2.2.2.2.1 (lw_V q110 q111 q112 q14 q113) rfl rfl rfl (by decide +kernel) ⟨by decide, by decide⟩) rfl hl.1 rfl (Nat.le_of_ble_eq_true rfl) dL_law_199 ⟨Nat.le_refl _, Nat.le_refl _⟩ (fun H locs B => ?_)
  refine lv_aload_n hx hb dL_law_202 rfl (lv_at hl 1 rfl) ?_
  refine lv_aload_n hx hb dL_law_203 rfl (lv_at hl 3 rfl) ?_
  refine lv_iload_n hx hb dL_law_204 rfl (lv_at hl 0 rfl) ?_
  refine lv_iconst (v := 1) hx hb dL_law_205 (by decide) ?_
  refine lv_iadd hx hb dL_law_206 ?_
  refine rl_top (y := nI (k + 1)) (show nI k + 1 = nI (k + 1) from nI_add k 1) ?_
  refine ll_sld (j := k + 1) C hX hbl hbA B (by omega) hL dL_law_207 ?_
  refine ll_callM (rest := [.int (rl_passR w (xs (k + 1)))]) C hA B (met_X1_pass w g (xs (k + 1))) (cwV 1 C.2.2.2.2.1 (lw_V q218 q219 q220 q15 q221) rfl rfl rfl (by decide +kernel) ⟨by decide, by decide⟩) rfl hl.1 rfl (Nat.le_of_ble_eq_true rfl) dL_law_208 ⟨Nat.le_refl _, Nat.le_refl _⟩ (fun H locs B => ?_)
  refine lv_icmp_eq (tgt := 331) hx hb dL_law_211 (by decide) (fun c_9 => ?_) (fun c_9 => ?_)
  · exact K _ _ _ _ _ _ (rel_pass hR _) B hl
  · exact absurd (rfl) c_9
set_option maxHeartbeats 4000000 in
set_option maxRecDepth 100000 in
theorem ll_waitFor {p : Program} {l : Launch} {e : Env} {s : State} {m : MethodId} {args : Array Value} {below : List Frame} {meth : Method} {c : Code} {D : va_G} {dA : ClassId} {A : Nat → Prop} {Q : State → Prop} {b L : Nat} {xs : Nat → Int32} (C : rl_Cx p s m args c cL_law 4 R_law D dA) (hA : ∀ q : Nat, s.heap.size ≤ q → A q) (hX : va_X b L xs s s.heap) (hbl : b < s.heap.size) (hbA : ¬ A b) (hL : L ≤ 256) {x0 y0 : Nat} {ax am : Nat → Nat} {k : Nat} (hk : k + 4 ≤ L) {w : Int32} {f g : rl_F} (hR : rl_Rel w f g) (K : ∀ (w : Int32) (f g : rl_F) (H : Heap) (locs : List Loc) (ls : Array Slot), rl_Rel w f g → ll_B D A s x0 y0 ax am dA w w f g H locs → lv_has ls 4 [(3, .int (nI k)), (2, .ref y0), (1, .ref x0), (0, .ref b)] → W p l e room_1 s m args below meth c H locs 600000 7290000 Q (F0 m 331 ls [])) {H : Heap} {locs : List Loc} {ls : Array Slot} (B : ll_B D A s x0 y0 ax am dA w w f g H locs) (hl : lv_has ls 4 [(3, .int (nI k)), (2, .ref y0), (1, .ref x0), (0, .ref b)]) : W p l e room_1 s m args below meth c H locs 600000 7290000 Q (F0 m 216 ls []) := by
  have hx := C.1
  have hb := C.2.1
  refine lv_aload_n hx hb dL_law_216 rfl (lv_at hl 2 rfl) ?_
  refine lv_aload_n hx hb dL_law_217 rfl (lv_at hl 3 rfl) ?_
  refine lv_iload_n hx hb dL_law_218 rfl (lv_at hl 0 rfl) ?_
  refine lv_iconst (v := 1) hx hb dL_law_219 (by decide) ?_
  refine lv_iadd hx hb dL_law_220 ?_
  refine rl_top (y := nI (k + 1)) (show nI k + 1 = nI (k + 1) from nI_add k 1) ?_
  refine ll_sld (j := k + 1) C hX hbl hbA B (by omega) hL dL_law_221 ?_
  refine lv_aload_n hx hb dL_law_222 rfl (lv_at hl 3 rfl) ?_
  refine lv_iload_n hx hb dL_law_223 rfl (lv_at hl 0 rfl) ?_
  refine lv_iconst (v := 2) hx hb dL_law_224 (by decide) ?_
  refine lv_iadd hx hb dL_law_225 ?_
  refine rl_top (y := nI (k + 2)) (show nI k + 2 = nI (k + 2) from nI_add k 2) ?_
  refine ll_sld (j := k + 2) C hX hbl hbA B (by omega) hL dL_law_226 ?_
  refine ll_callX (rest := []) C hA B (met_X0_waitFor w f hR.HD (xs (k + 1)) (xs (k + 2))) (cwV 2 C.2.2.2.2.1 (lw_V q115 q116 q117 q14 q118) rfl rfl rfl (by decide +kernel) ⟨by decide, by decide⟩) rfl hl.1 rfl (Nat.le_of_ble_eq_true rfl) dL_law_227 ⟨Nat.le_refl _, Nat.le_refl _⟩ (fun H locs B => ?_)
  refine lv_aload_n hx hb dL_law_230 rfl (lv_at hl 1 rfl) ?_
  refine lv_aload_n hx hb dL_law_231 rfl (lv_at hl 3 rfl) ?_
  refine lv_iload_n hx hb dL_law_232 rfl (lv_at hl 0 rfl) ?_
  refine lv_iconst (v := 1) hx hb dL_law_233 (by decide) ?_
  refine lv_iadd hx hb dL_law_234 ?_
  refine rl_top (y := nI (k + 1)) (show nI k + 1 = nI (k + 1) from nI_add k 1) ?_
  refine ll_sld (j := k + 1) C hX hbl hbA B (by omega) hL dL_law_235 ?_
  refine lv_aload_n hx hb dL_law_236 rfl (lv_at hl 3 rfl) ?_
  refine lv_iload_n hx hb dL_law_237 rfl (lv_at hl 0 rfl) ?_
  refine lv_iconst (v := 2) hx hb dL_law_238 (by decide) ?_
  refine lv_iadd hx hb dL_law_239 ?_
  refine rl_top (y := nI (k + 2)) (show nI k + 2 = nI (k + 2) from nI_add k 2) ?_
  refine ll_sld (j := k + 2) C hX hbl hbA B (by omega) hL dL_law_240 ?_
  refine ll_callM (rest := [.int (rx_waitR w f (xs (k + 1)) (xs (k + 2)))]) C hA B (met_X1_waitFor w g (xs (k + 1)) (xs (k + 2))) (cwV 2 C.2.2.2.2.1 (lw_V q223 q224 q225 q15 q226) rfl rfl rfl (by decide +kernel) ⟨by decide, by decide⟩) rfl hl.1 rfl (Nat.le_of_ble_eq_true rfl) dL_law_241 ⟨Nat.le_refl _, Nat.le_refl _⟩ (fun H locs B => ?_)
  refine lv_icmp_eq (tgt := 331) hx hb dL_law_244 (by decide) (fun c_9 => ?_) (fun c_9 => ?_)
  · exact K _ _ _ _ _ _ ((rel_wait hR _ _).2) B hl
  · exact absurd ((rel_wait hR _ _).1) c_9
set_option maxHeartbeats 4000000 in
set_option maxRecDepth 100000 in
theorem ll_room {p : Program} {l : Launch} {e : Env} {s : State} {m : MethodId} {args : Array Value} {below : List Frame} {meth : Method} {c : Code} {D : va_G} {dA : ClassId} {A : Nat → Prop} {Q : State → Prop} {b L : Nat} {xs : Nat → Int32} (C : rl_Cx p s m args c cL_law 4 R_law D dA) (hA : ∀ q : Nat, s.heap.size ≤ q → A q) (hX : va_X b L xs s s.heap) (hbl : b < s.heap.size) (hbA : ¬ A b) (hL : L ≤ 256) {x0 y0 : Nat} {ax am : Nat → Nat} {k : Nat} (hk : k + 4 ≤ L) {w : Int32} {f g : rl_F} (hR : rl_Rel w f g) (K : ∀ (w : Int32) (f g : rl_F) (H : Heap) (locs : List Loc) (ls : Array Slot), rl_Rel w f g → ll_B D A s x0 y0 ax am dA w w f g H locs → lv_has ls 4 [(3, .int (nI k)), (2, .ref y0), (1, .ref x0), (0, .ref b)] → W p l e room_1 s m args below meth c H locs 600000 7290000 Q (F0 m 331 ls [])) {H : Heap} {locs : List Loc} {ls : Array Slot} (B : ll_B D A s x0 y0 ax am dA w w f g H locs) (hl : lv_has ls 4 [(3, .int (nI k)), (2, .ref y0), (1, .ref x0), (0, .ref b)]) : W p l e room_1 s m args below meth c H locs 600000 7290000 Q (F0 m 249 ls []) := by
  have hx := C.1
  have hb := C.2.1
  refine lv_aload_n hx hb dL_law_249 rfl (lv_at hl 2 rfl) ?_
  refine lv_aload_n hx hb dL_law_250 rfl (lv_at hl 3 rfl) ?_
  refine lv_iload_n hx hb dL_law_251 rfl (lv_at hl 0 rfl) ?_
  refine lv_iconst (v := 1) hx hb dL_law_252 (by decide) ?_
  refine lv_iadd hx hb dL_law_253 ?_
  refine rl_top (y := nI (k + 1)) (show nI k + 1 = nI (k + 1) from nI_add k 1) ?_
  refine ll_sld (j := k + 1) C hX hbl hbA B (by omega) hL dL_law_254 ?_
  refine ll_callX (rest := []) C hA B (met_X0_room w f hR.HD (xs (k + 1))) (cwV 1 C.2.2.2.2.1 (lw_V q123 q124 q125 q14 q126) rfl rfl rfl (by decide +kernel) ⟨by decide, by decide⟩) rfl hl.1 rfl (Nat.le_of_ble_eq_true rfl) dL_law_255 ⟨Nat.le_refl _, Nat.le_refl _⟩ (fun H locs B => ?_)
  refine lv_aload_n hx hb dL_law_258 rfl (lv_at hl 1 rfl) ?_
  refine lv_aload_n hx hb dL_law_259 rfl (lv_at hl 3 rfl) ?_
  refine lv_iload_n hx hb dL_law_260 rfl (lv_at hl 0 rfl) ?_
  refine lv_iconst (v := 1) hx hb dL_law_261 (by decide) ?_
  refine lv_iadd hx hb dL_law_262 ?_
  refine rl_top (y := nI (k + 1)) (show nI k + 1 = nI (k + 1) from nI_add k 1) ?_
  refine ll_sld (j := k + 1) C hX hbl hbA B (by omega) hL dL_law_263 ?_
  refine ll_callM (rest := [.int (rx_roomR w f (xs (k + 1)))]) C hA B (met_X1_room w g (xs (k + 1))) (cwV 1 C.2.2.2.2.1 (lw_V q227 q228 q229 q15 q230) rfl rfl rfl (by decide +kernel) ⟨by decide, by decide⟩) rfl hl.1 rfl (Nat.le_of_ble_eq_true rfl) dL_law_264 ⟨Nat.le_refl _, Nat.le_refl _⟩ (fun H locs B => ?_)
  refine lv_icmp_eq (tgt := 331) hx hb dL_law_267 (by decide) (fun c_9 => ?_) (fun c_9 => ?_)
  · exact K _ _ _ _ _ _ ((rel_room hR _).2) B hl
  · exact absurd ((rel_room hR _).1) c_9
set_option maxHeartbeats 4000000 in
set_option maxRecDepth 100000 in
theorem ll_granted {p : Program} {l : Launch} {e : Env} {s : State} {m : MethodId} {args : Array Value} {below : List Frame} {meth : Method} {c : Code} {D : va_G} {dA : ClassId} {A : Nat → Prop} {Q : State → Prop} {b L : Nat} {xs : Nat → Int32} (C : rl_Cx p s m args c cL_law 4 R_law D dA) (hA : ∀ q : Nat, s.heap.size ≤ q → A q) (hX : va_X b L xs s s.heap) (hbl : b < s.heap.size) (hbA : ¬ A b) (hL : L ≤ 256) {x0 y0 : Nat} {ax am : Nat → Nat} {k : Nat} (hk : k + 4 ≤ L) {w : Int32} {f g : rl_F} (hR : rl_Rel w f g) (K : ∀ (w : Int32) (f g : rl_F) (H : Heap) (locs : List Loc) (ls : Array Slot), rl_Rel w f g → ll_B D A s x0 y0 ax am dA w w f g H locs → lv_has ls 4 [(3, .int (nI k)), (2, .ref y0), (1, .ref x0), (0, .ref b)] → W p l e room_1 s m args below meth c H locs 600000 7290000 Q (F0 m 331 ls [])) {H : Heap} {locs : List Loc} {ls : Array Slot} (B : ll_B D A s x0 y0 ax am dA w w f g H locs) (hl : lv_has ls 4 [(3, .int (nI k)), (2, .ref y0), (1, .ref x0), (0, .ref b)]) : W p l e room_1 s m args below meth c H locs 600000 7290000 Q (F0 m 272 ls []) := by
  have hx := C.1
  have hb := C.2.1
  refine lv_aload_n hx hb dL_law_272 rfl (lv_at hl 2 rfl) ?_
  refine lv_aload_n hx hb dL_law_273 rfl (lv_at hl 3 rfl) ?_
  refine lv_iload_n hx hb dL_law_274 rfl (lv_at hl 0 rfl) ?_
  refine lv_iconst (v := 1) hx hb dL_law_275 (by decide) ?_
  refine lv_iadd hx hb dL_law_276 ?_
  refine rl_top (y := nI (k + 1)) (show nI k + 1 = nI (k + 1) from nI_add k 1) ?_
  refine ll_sld (j := k + 1) C hX hbl hbA B (by omega) hL dL_law_277 ?_
  refine ll_callX (rest := []) C hA B (met_X0_granted w f (xs (k + 1))) (cwV 1 C.2.2.2.2.1 (lw_V q127 q128 q129 q14 q130) rfl rfl rfl (by decide +kernel) ⟨by decide, by decide⟩) rfl hl.1 rfl (Nat.le_of_ble_eq_true rfl) dL_law_278 ⟨Nat.le_refl _, Nat.le_refl _⟩ (fun H locs B => ?_)
  refine lv_aload_n hx hb dL_law_281 rfl (lv_at hl 1 rfl) ?_
  refine lv_aload_n hx hb dL_law_282 rfl (lv_at hl 3 rfl) ?_
  refine lv_iload_n hx hb dL_law_283 rfl (lv_at hl 0 rfl) ?_
  refine lv_iconst (v := 1) hx hb dL_law_284 (by decide) ?_
  refine lv_iadd hx hb dL_law_285 ?_
  refine rl_top (y := nI (k + 1)) (show nI k + 1 = nI (k + 1) from nI_add k 1) ?_
  refine ll_sld (j := k + 1) C hX hbl hbA B (by omega) hL dL_law_286 ?_
  refine ll_callM (rest := [.int (rl_ent f 5 (xs (k + 1)))]) C hA B (met_X1_granted w g (xs (k + 1))) (cwV 1 C.2.2.2.2.1 (lw_V q231 q232 q233 q15 q234) rfl rfl rfl (by decide +kernel) ⟨by decide, by decide⟩) rfl hl.1 rfl (Nat.le_of_ble_eq_true rfl) dL_law_287 ⟨Nat.le_refl _, Nat.le_refl _⟩ (fun H locs B => ?_)
  refine lv_icmp_eq (tgt := 331) hx hb dL_law_290 (by decide) (fun c_9 => ?_) (fun c_9 => ?_)
  · exact K _ _ _ _ _ _ (hR) B hl
  · exact absurd (rel_granted hR _) c_9
set_option maxHeartbeats 4000000 in
set_option maxRecDepth 100000 in
theorem ll_denied {p : Program} {l : Launch} {e : Env} {s : State} {m : MethodId} {args : Array Value} {below : List Frame} {meth : Method} {c : Code} {D : va_G} {dA : ClassId} {A : Nat → Prop} {Q : State → Prop} {b L : Nat} {xs : Nat → Int32} (C : rl_Cx p s m args c cL_law 4 R_law D dA) (hA : ∀ q : Nat, s.heap.size ≤ q → A q) (hX : va_X b L xs s s.heap) (hbl : b < s.heap.size) (hbA : ¬ A b) (hL : L ≤ 256) {x0 y0 : Nat} {ax am : Nat → Nat} {k : Nat} (hk : k + 4 ≤ L) {w : Int32} {f g : rl_F} (hR : rl_Rel w f g) (K : ∀ (w : Int32) (f g : rl_F) (H : Heap) (locs : List Loc) (ls : Array Slot), rl_Rel w f g → ll_B D A s x0 y0 ax am dA w w f g H locs → lv_has ls 4 [(3, .int (nI k)), (2, .ref y0), (1, .ref x0), (0, .ref b)] → W p l e room_1 s m args below meth c H locs 600000 7290000 Q (F0 m 331 ls [])) {H : Heap} {locs : List Loc} {ls : Array Slot} (B : ll_B D A s x0 y0 ax am dA w w f g H locs) (hl : lv_has ls 4 [(3, .int (nI k)), (2, .ref y0), (1, .ref x0), (0, .ref b)]) : W p l e room_1 s m args below meth c H locs 600000 7290000 Q (F0 m 295 ls []) := by
  have hx := C.1
  have hb := C.2.1
  refine lv_aload_n hx hb dL_law_295 rfl (lv_at hl 2 rfl) ?_
  refine lv_aload_n hx hb dL_law_296 rfl (lv_at hl 3 rfl) ?_
  refine lv_iload_n hx hb dL_law_297 rfl (lv_at hl 0 rfl) ?_
  refine lv_iconst (v := 1) hx hb dL_law_298 (by decide) ?_
  refine lv_iadd hx hb dL_law_299 ?_
  refine rl_top (y := nI (k + 1)) (show nI k + 1 = nI (k + 1) from nI_add k 1) ?_
  refine ll_sld (j := k + 1) C hX hbl hbA B (by omega) hL dL_law_300 ?_
  refine ll_callX (rest := []) C hA B (met_X0_denied w f (xs (k + 1))) (cwV 1 C.2.2.2.2.1 (lw_V q131 q132 q133 q14 q134) rfl rfl rfl (by decide +kernel) ⟨by decide, by decide⟩) rfl hl.1 rfl (Nat.le_of_ble_eq_true rfl) dL_law_301 ⟨Nat.le_refl _, Nat.le_refl _⟩ (fun H locs B => ?_)
  refine lv_aload_n hx hb dL_law_304 rfl (lv_at hl 1 rfl) ?_
  refine lv_aload_n hx hb dL_law_305 rfl (lv_at hl 3 rfl) ?_
  refine lv_iload_n hx hb dL_law_306 rfl (lv_at hl 0 rfl) ?_
  refine lv_iconst (v := 1) hx hb dL_law_307 (by decide) ?_
  refine lv_iadd hx hb dL_law_308 ?_
  refine rl_top (y := nI (k + 1)) (show nI k + 1 = nI (k + 1) from nI_add k 1) ?_
  refine ll_sld (j := k + 1) C hX hbl hbA B (by omega) hL dL_law_309 ?_
  refine ll_callM (rest := [.int (rl_ent f 6 (xs (k + 1)))]) C hA B (met_X1_denied w g (xs (k + 1))) (cwV 1 C.2.2.2.2.1 (lw_V q235 q236 q237 q15 q238) rfl rfl rfl (by decide +kernel) ⟨by decide, by decide⟩) rfl hl.1 rfl (Nat.le_of_ble_eq_true rfl) dL_law_310 ⟨Nat.le_refl _, Nat.le_refl _⟩ (fun H locs B => ?_)
  refine lv_icmp_eq (tgt := 331) hx hb dL_law_313 (by decide) (fun c_9 => ?_) (fun c_9 => ?_)
  · exact K _ _ _ _ _ _ (hR) B hl
  · exact absurd (rel_denied hR _) c_9
set_option maxHeartbeats 4000000 in
set_option maxRecDepth 100000 in
theorem ll_time {p : Program} {l : Launch} {e : Env} {s : State} {m : MethodId} {args : Array Value} {below : List Frame} {meth : Method} {c : Code} {D : va_G} {dA : ClassId} {A : Nat → Prop} {Q : State → Prop} {b L : Nat} {xs : Nat → Int32} (C : rl_Cx p s m args c cL_law 4 R_law D dA) (hA : ∀ q : Nat, s.heap.size ≤ q → A q) (hX : va_X b L xs s s.heap) (hbl : b < s.heap.size) (hbA : ¬ A b) (hL : L ≤ 256) {x0 y0 : Nat} {ax am : Nat → Nat} {k : Nat} (hk : k + 4 ≤ L) {w : Int32} {f g : rl_F} (hR : rl_Rel w f g) (K : ∀ (w : Int32) (f g : rl_F) (H : Heap) (locs : List Loc) (ls : Array Slot), rl_Rel w f g → ll_B D A s x0 y0 ax am dA w w f g H locs → lv_has ls 4 [(3, .int (nI k)), (2, .ref y0), (1, .ref x0), (0, .ref b)] → W p l e room_1 s m args below meth c H locs 600000 7290000 Q (F0 m 331 ls [])) {H : Heap} {locs : List Loc} {ls : Array Slot} (B : ll_B D A s x0 y0 ax am dA w w f g H locs) (hl : lv_has ls 4 [(3, .int (nI k)), (2, .ref y0), (1, .ref x0), (0, .ref b)]) : W p l e room_1 s m args below meth c H locs 600000 7290000 Q (F0 m 318 ls []) := by
  have hx := C.1
  have hb := C.2.1
  refine lv_aload_n hx hb dL_law_318 rfl (lv_at hl 2 rfl) ?_
  refine ll_callX (rest := []) C hA B (met_X0_time w f) (cwV 0 C.2.2.2.2.1 (lw_V q135 q136 q137 q14 q138) rfl rfl rfl (by decide +kernel) ⟨by decide, by decide⟩) rfl hl.1 rfl (Nat.le_of_ble_eq_true rfl) dL_law_319 ⟨Nat.le_refl _, Nat.le_refl _⟩ (fun H locs B => ?_)
  refine lv_aload_n hx hb dL_law_322 rfl (lv_at hl 1 rfl) ?_
  refine ll_callM (rest := [.int w]) C hA B (met_X1_time w g) (cwV 0 C.2.2.2.2.1 (lw_V q239 q240 q241 q15 q242) rfl rfl rfl (by decide +kernel) ⟨by decide, by decide⟩) rfl hl.1 rfl (Nat.le_of_ble_eq_true rfl) dL_law_323 ⟨Nat.le_refl _, Nat.le_refl _⟩ (fun H locs B => ?_)
  refine lv_icmp_eq (tgt := 331) hx hb dL_law_326 (by decide) (fun c_9 => ?_) (fun c_9 => ?_)
  · exact K _ _ _ _ _ _ (hR) B hl
  · exact absurd (rfl) c_9
end
section
theorem ll_len {L k : Nat} (hL : L ≤ 256) (hk : k ≤ 256) (h : ¬ Int32.ofNat L - 4 < nI k) : k + 4 ≤ L := by
  rw [Int32.lt_iff_toInt_lt, nI_toInt (by omega)] at h
  have e1 : (Int32.ofNat L).toInt = (L : Int) := nI_toInt (n := L) (by omega)
  rw [fb_subI (by rw [e1, show (4 : Int32).toInt = 4 from rfl]; omega) (by rw [e1, show (4 : Int32).toInt = 4 from rfl]; omega), e1, show (4 : Int32).toInt = 4 from rfl] at h
  omega
set_option maxHeartbeats 4000000 in
set_option maxRecDepth 100000 in
/-- the law's loop: k ints are behind, both sides agree -/
theorem ll_loop {p : Program} {l : Launch} {e : Env} {s : State} {m : MethodId} {below : List Frame} {meth : Method} {c : Code} {D : va_G} {dA : ClassId} {b L : Nat} {xs : Nat → Int32} (C : rl_Cx p s m #[Value.ref b] c cL_law 4 R_law D dA) (hr : meth.sig.returnType = ret) (hlk : meth.locks = false) (hX : va_X b L xs s s.heap) (hbl : b < s.heap.size) (hL : L ≤ 256) {x0 y0 : Nat} {ax am : Nat → Nat} :
    ∀ (n k : Nat) (w : Int32) (f g : rl_F), L + 1 ≤ k + n → k ≤ 256 → rl_Rel w f g → ∀ (H : Heap) (locs : List Loc) (ls : Array Slot), ll_B D (fun q => s.heap.size ≤ q) s x0 y0 ax am dA w w f g H locs → lv_has ls 4 [(3, .int (nI k)), (2, .ref y0), (1, .ref x0), (0, .ref b)] → W p l e room_1 s m #[Value.ref b] below meth c H locs 600000 7290000 (lw_Z below #[Value.ref b] s) (F0 m 18 ls []) := by
  have hx := C.1
  have hb := C.2.1
  have hA : ∀ q : Nat, s.heap.size ≤ q → (fun q => s.heap.size ≤ q) q := fun q h => h
  have hbA : ¬ (fun q => s.heap.size ≤ q) b := Nat.not_le.mpr hbl
  intro n
  induction n with
  | zero =>
    intro k w f g hn hk hR H locs ls B hl
    refine lv_iload_n hx hb dL_law_18 rfl (lv_at hl 0 rfl) ?_
    refine lv_aload_n hx hb dL_law_19 rfl (lv_at hl 3 rfl) ?_
    refine va_slen hx hb hX hbl hbA B.2.2 dL_law_20 ?_
    refine lv_iconst (v := 4) hx hb dL_law_21 (by decide) ?_
    refine lv_isub hx hb dL_law_22 ?_
    refine lv_icmp_gt (tgt := 337) hx hb dL_law_23 (by decide) (fun c_23 => ?_) (fun c_23 => ?_)
    · refine lv_iconst (v := 1) hx hb dL_law_337 (by decide) ?_
      refine va_forget (fun q hq => B.2.2.2.2 q hq) ?_
      exact lw_ret hx hb hr hlk dL_law_338
    · exact absurd (ll_len hL hk c_23) (by omega)
  | succ n ih =>
    intro k w f g hn hk hR H locs ls B hl
    refine lv_iload_n hx hb dL_law_18 rfl (lv_at hl 0 rfl) ?_
    refine lv_aload_n hx hb dL_law_19 rfl (lv_at hl 3 rfl) ?_
    refine va_slen hx hb hX hbl hbA B.2.2 dL_law_20 ?_
    refine lv_iconst (v := 4) hx hb dL_law_21 (by decide) ?_
    refine lv_isub hx hb dL_law_22 ?_
    refine lv_icmp_gt (tgt := 337) hx hb dL_law_23 (by decide) (fun c_23 => ?_) (fun c_23 => ?_)
    · refine lv_iconst (v := 1) hx hb dL_law_337 (by decide) ?_
      refine va_forget (fun q hq => B.2.2.2.2 q hq) ?_
      exact lw_ret hx hb hr hlk dL_law_338
    · have hk4 := ll_len hL hk c_23
      have K : ∀ (w : Int32) (f g : rl_F) (H : Heap) (locs : List Loc) (ls : Array Slot), rl_Rel w f g → ll_B D (fun q => s.heap.size ≤ q) s x0 y0 ax am dA w w f g H locs → lv_has ls 4 [(3, .int (nI k)), (2, .ref y0), (1, .ref x0), (0, .ref b)] → W p l e room_1 s m #[Value.ref b] below meth c H locs 600000 7290000 (lw_Z below #[Value.ref b] s) (F0 m 331 ls []) := by
        intro w f g H locs ls hR B hl
        refine lv_iinc (v := nI (k + 4)) (lv' := [(3, .int (nI (k + 4))), (2, .ref y0), (1, .ref x0), (0, .ref b)]) hx hb dL_law_331 hl (k := 0) rfl (by rw [show Int32.ofInt 4 = nI 4 from by decide, nI_add]) (by decide) rfl (fun ls hl => ?_)
        refine lv_goto (tgt := 18) hx hb dL_law_334 (by decide) ?_
        exact ih (k + 4) w f g (by omega) (by omega) hR _ _ _ B hl
      refine lv_aload_n hx hb dL_law_26 rfl (lv_at hl 3 rfl) ?_
      refine lv_iload_n hx hb dL_law_27 rfl (lv_at hl 0 rfl) ?_
      refine ll_sld (j := k) C hX hbl hbA B (by omega) hL dL_law_28 ?_
      refine lv_bipush (v := 15) hx hb dL_law_29 (by decide) ?_
      refine lv_iand hx hb dL_law_31 ?_
      obtain ⟨t, ht, et⟩ := pk_andE (xs k) (m := 15) 4 (by decide)
      refine rl_top et ?_
      match t, ht with
      | 0, _ =>
        refine lv_tableIn (off := 52) (tgt := 84) hx hb dL_law_32 (by decide) (by decide) (by decide) (by decide) ?_
        exact ll_set C hA hX hbl hbA hL hk4 hR K B hl
      | 1, _ =>
        refine lv_tableIn (off := 95) (tgt := 127) hx hb dL_law_32 (by decide) (by decide) (by decide) (by decide) ?_
        exact ll_ask C hA hX hbl hbA hL hk4 hR K B hl
      | 2, _ =>
        refine lv_tableIn (off := 128) (tgt := 160) hx hb dL_law_32 (by decide) (by decide) (by decide) (by decide) ?_
        exact ll_askAll C hA hX hbl hbA hL hk4 hR K B hl
      | 3, _ =>
        refine lv_tableIn (off := 161) (tgt := 193) hx hb dL_law_32 (by decide) (by decide) (by decide) (by decide) ?_
        exact ll_pass C hA hX hbl hbA hL hk4 hR K B hl
      | 4, _ =>
        refine lv_tableIn (off := 184) (tgt := 216) hx hb dL_law_32 (by decide) (by decide) (by decide) (by decide) ?_
        exact ll_waitFor C hA hX hbl hbA hL hk4 hR K B hl
      | 5, _ =>
        refine lv_tableIn (off := 217) (tgt := 249) hx hb dL_law_32 (by decide) (by decide) (by decide) (by decide) ?_
        exact ll_room C hA hX hbl hbA hL hk4 hR K B hl
      | 6, _ =>
        refine lv_tableIn (off := 240) (tgt := 272) hx hb dL_law_32 (by decide) (by decide) (by decide) (by decide) ?_
        exact ll_granted C hA hX hbl hbA hL hk4 hR K B hl
      | 7, _ =>
        refine lv_tableIn (off := 263) (tgt := 295) hx hb dL_law_32 (by decide) (by decide) (by decide) (by decide) ?_
        exact ll_denied C hA hX hbl hbA hL hk4 hR K B hl
      | 8, _ =>
        refine lv_tableIn (off := 286) (tgt := 318) hx hb dL_law_32 (by decide) (by decide) (by decide) (by decide) ?_
        exact ll_time C hA hX hbl hbA hL hk4 hR K B hl
      | t + 9, ht =>
        refine lv_tableOut (tgt := 331) hx hb dL_law_32 (Or.inr (by rw [nI_toInt (by omega)]; omega)) (by decide) ?_
        exact K _ _ _ _ _ _ hR B hl
end
section
set_option maxHeartbeats 4000000 in
set_option maxRecDepth 100000 in
/-- from the entry, for every script of at most 256 ints, the law comes to its end with true -/
theorem whole_start {p : Program} {e : Env} {s : State} {m : MethodId} {below : List Frame} {meth : Method} {c : Code} (l : Launch) {b L : Nat} {xs : Nat → Int32} (hL : L ≤ 256) (C0 : lw_At p s m meth c b L xs) : W p l e room_1 s m #[Value.ref b] below meth c s.heap [] 0 0 (lw_Z below #[Value.ref b] s) (entryFrame m ([Value.ref b] : List Value).toArray 4) := by
  obtain ⟨hx, hb, hr, hml, hown, hts0, hX, hbl, hlk, hgv⟩ := C0
  have hts : ∀ w ∈ lw_all, w.before #[Value.ref b] s = true := fun w h => hts0 w (lw_all_tbl h)
  obtain ⟨c0_, iS0, hKn0⟩ := u_known (C := RX0) (T := TX0) (N := 15) (n := 15) hts in_X0 (hts _ q17)
  obtain ⟨c1_, iS1, hKn1⟩ := u_known (C := RX1) (T := TX1) (N := 10) (n := 10) hts in_X1 (hts _ q140)
  obtain ⟨D, hK⟩ : ∃ D : va_G, va_K D rl_cl [] s := by
    refine ⟨(fun k => if k = 0 then c0_ else c1_, fun k => if k = 0 then iS0 else iS1), fun k q hq => ?_, fun k q hq => by simp at hq⟩
    match k, hq with
    | 0, hq => cases hq; exact hKn0
    | 1, hq => cases hq; exact hKn1
    | k + 2, hq => simp [rl_cl] at hq
  obtain ⟨A, hAe⟩ : ∃ A : Nat → Prop, A = fun q => s.heap.size ≤ q := ⟨_, rfl⟩
  have hA : ∀ q : Nat, s.heap.size ≤ q → A q := fun q h => by rw [hAe]; exact h
  have hS : va_S A s.heap s.heap [] := va_S.rf
  have hP : va_P D rl_cl [] s.heap := fun k q hq => by simp at hq
  have hD : va_D A [] := ⟨fun i j p q hi => by simp at hi, fun k q hq => by simp at hq⟩
  have hl := lv_entry ([.ref b]) (n := 4) (Nat.le_of_ble_eq_true rfl)
  rw [lg_entry_eq]
  generalize (lg_sl ([.ref b]) ++ List.replicate (4 - (lg_sl ([.ref b])).length) Slot.unset).toArray = ls at hl ⊢
  have hl : lv_has ls 4 [(0, .ref b)] := hl
  refine va_new (ci := 0) (fs := [.int 0, .null, .null, .null, .null, .null, .null, .null, .null, .null, .null, .null, .null, .null, .null]) (C := RX0) (T := TX0) (N := 15) hx hb hts in_X0 tyX0 tyX0_ok hown (hts _ q16) (hts _ q17) (hts _ q14) hK hP hD hS hA rfl (fun j hj => by
    match j, hj with
    | 0, _ => rfl
    | 1, _ => rfl
    | 2, _ => rfl
    | 3, _ => rfl
    | 4, _ => rfl
    | 5, _ => rfl
    | 6, _ => rfl
    | 7, _ => rfl
    | 8, _ => rfl
    | 9, _ => rfl
    | 10, _ => rfl
    | 11, _ => rfl
    | 12, _ => rfl
    | 13, _ => rfl
    | 14, _ => rfl
    | j + 15, hj => exact absurd hj (by omega)) (by decide) (by decide) dL_law_0 (fun x0 H hP hD hS => ?_)
  have hP : va_P D rl_cl (rx_init_w0 x0) H := hP
  have hD : va_D A (rx_init_w0 x0) := hD
  refine lv_dup hx hb dL_law_3 rfl ?_
  have hPc := hP.sub (ws' := rx_init_w0 x0) [0] rfl
  have hDc := hD.sub (ws' := rx_init_w0 x0) [0] (by decide) rfl
  have hKc := hK.sub (tys' := []) [] rfl
  have hFc := va_free (wc := rx_init_w0 x0) hD hS hA [0] rfl
  refine va_callv (va_runI (As := []) (rest := [.ref x0]) ⟨hx, hb, hml, hown, hts⟩ (met_X0_init l D x0 H.size) (cwI 0 hts (lw_meth q20) rfl rfl rfl (hts _ q14) (hts _ q18) (hts _ q19) rfl (by decide +kernel) ⟨by decide, by decide⟩) ⟨fun a U g mk q => by obtain ⟨q0, q1, qP, qK, qD⟩ := q; exact ⟨q0, q1, qP, va_K.moved (u := U) (U := U.calling g mk a) (Vm.Alike.refl U.vm) qK, qD⟩, fun U hU hW => ⟨rfl, by rw [hU], by rw [hU]; exact hPc, va_K.moved hW.alike hKc, hDc.weaken (fun _ _ _ _ => trivial)⟩⟩ rfl rfl hl.1 rfl (lv_room (Nat.le_of_ble_eq_true rfl)) dL_law_4 ⟨by decide, by decide⟩) hS (fun q _ h => hFc q h) hFc (fun u t H1 locs ht hvm hw1 hB hz1 hk1 hS => ?_)
  obtain ⟨hP1, hK1, hD1⟩ := hB
  rw [ht] at hP1
  have hK1 := va_K.moved hvm.symm hK1
  obtain ⟨ax, dA⟩ := u
  obtain ⟨hP, hD⟩ := va_join (wr := []) (w1 := rx_W x0 ax dA 0 (rx_init 4 0 rl_z)) hP hD [0] [] rfl rfl (by decide) (by decide) hk1 hFc hP1 hD1
  have hK : va_K D rl_cl [(dA, .int)] s := hK1
  have hP : va_P D rl_cl (rx_W x0 ax dA 0 (rx_init 4 0 rl_z)) H1 := hP
  have hD : va_D A (rx_W x0 ax dA 0 (rx_init 4 0 rl_z)) := hD
  generalize H1 = H at hP hS ⊢
  refine lv_astore_n (lv' := [(1, .ref x0), (0, .ref b)]) hx hb dL_law_7 rfl hl (by decide) rfl (fun ls hl => ?_)
  refine va_new (ci := 1) (fs := [.int 0, .null, .null, .null, .null, .null, .null, .null, .null, .null]) (C := RX1) (T := TX1) (N := 10) hx hb hts in_X1 tyX1 tyX1_ok hown (hts _ q139) (hts _ q140) (hts _ q15) hK hP hD hS hA rfl (fun j hj => by
    match j, hj with
    | 0, _ => rfl
    | 1, _ => rfl
    | 2, _ => rfl
    | 3, _ => rfl
    | 4, _ => rfl
    | 5, _ => rfl
    | 6, _ => rfl
    | 7, _ => rfl
    | 8, _ => rfl
    | 9, _ => rfl
    | j + 10, hj => exact absurd hj (by omega)) (by decide) (by decide) dL_law_8 (fun y0 H hP hD hS => ?_)
  have hP : va_P D rl_cl (rx_W x0 ax dA 0 (rx_init 4 0 rl_z) ++ rm_init_w0 y0) H := hP
  have hD : va_D A (rx_W x0 ax dA 0 (rx_init 4 0 rl_z) ++ rm_init_w0 y0) := hD
  refine lv_dup hx hb dL_law_11 rfl ?_
  have hPc := hP.sub (ws' := rm_init_w0 y0) [15] rfl
  have hDc := hD.sub (ws' := rm_init_w0 y0) [15] (by decide) rfl
  have hKc := hK.sub (tys' := []) [] rfl
  have hFc := va_free (wc := rm_init_w0 y0) hD hS hA [15] rfl
  refine va_callv (va_runI (As := []) (rest := [.ref y0]) ⟨hx, hb, hml, hown, hts⟩ (met_X1_init l D y0 H.size) (cwI 0 hts (lw_meth q143) rfl rfl rfl (hts _ q15) (hts _ q141) (hts _ q142) rfl (by decide +kernel) ⟨by decide, by decide⟩) ⟨fun a U g mk q => by obtain ⟨q0, q1, qP, qK, qD⟩ := q; exact ⟨q0, q1, qP, va_K.moved (u := U) (U := U.calling g mk a) (Vm.Alike.refl U.vm) qK, qD⟩, fun U hU hW => ⟨rfl, by rw [hU], by rw [hU]; exact hPc, va_K.moved hW.alike hKc, hDc.weaken (fun _ _ _ _ => trivial)⟩⟩ rfl rfl hl.1 rfl (lv_room (Nat.le_of_ble_eq_true rfl)) dL_law_12 ⟨by decide, by decide⟩) hS (fun q _ h => hFc q h) hFc (fun u t H1 locs ht hvm hw1 hB hz1 hk1 hS => ?_)
  obtain ⟨hP1, hK1, hD1⟩ := hB
  rw [ht] at hP1
  have hK1 := va_K.moved hvm.symm hK1
  obtain ⟨am, dB⟩ := u
  have hK2 : va_K D rl_cl [(dA, .int), (dB, .int)] s := hK.app hK1
  obtain rfl := rl_cA hK2
  obtain ⟨hP, hD⟩ := va_join (wr := rx_W x0 ax dA 0 (rx_init 4 0 rl_z)) (w1 := rm_W y0 am dA 0 (rm_init 4 0 rl_z)) hP hD [15] [0, 1, 2, 3, 4, 5, 6, 7, 8, 9, 10, 11, 12, 13, 14] rfl rfl (by decide) (by decide) hk1 hFc hP1 hD1
  refine lv_astore_n (lv' := [(2, .ref y0), (1, .ref x0), (0, .ref b)]) hx hb dL_law_15 rfl hl (by decide) rfl (fun ls hl => ?_)
  refine lv_iconst (v := 0) hx hb dL_law_16 (by decide) ?_
  refine rl_top (y := nI 0) nI_0.symm ?_
  refine lv_istore_n (lv' := [(3, .int (nI 0)), (2, .ref y0), (1, .ref x0), (0, .ref b)]) hx hb dL_law_17 rfl hl (by decide) rfl (fun ls hl => ?_)
  refine W.widen (k := 600000) (n := 7290000) (by decide) (by decide) ?_
  subst hAe
  exact ll_loop ⟨hx, hb, hml, hown, hts, hK⟩ hr hlk hX hbl hL (L + 1) 0 0 _ _ (by omega) (by omega) rel_init _ _ _ ⟨hP, hD, hS⟩ hl
end
section
set_option maxHeartbeats 4000000 in
theorem lw_walk (l : Launch) (b : Addr) (xs : List Int32) : MetFree l x (headSpec (Jvm.Cond.code x code maxLocals ret :: tables_1) room_1) (lw_P b xs) (fun _ _ _ _ _ => True) lw_Q := by
  refine MetFree.of_bodyS (code := code) (maxLocals := maxLocals) (ret := ret) (by decide) ?_ ?_
  · intro args s m h hn
    obtain ⟨meth, c, h1, h2, h3, h4, h5, h6, -, -⟩ := Cond.code_spec hn (atoms_spec (ws := Jvm.Cond.code x code maxLocals ret :: tables_1) h _ List.mem_cons_self)
    exact ⟨meth, c, h1, h2, h3, h4, h5, h6⟩
  · intro p e s m args below meth c s₁ B hml0 hP _
    obtain ⟨rfl, hx, hbd, hgv⟩ := hP
    obtain ⟨scr, harrAt, hlist, hof, hsmall⟩ := hx
    obtain ⟨hcb, hkn, -, -⟩ := State.arrayAt?_spec harrAt
    have hown : s.vm.findClass R_law = some m.cls := findClass_of_methodNamed B.named
    have hts0 : ∀ c ∈ (Jvm.Cond.code x code maxLocals ret :: tables_1), c.before #[Value.ref b] s = true := atoms_spec (ws := Jvm.Cond.code x code maxLocals ret :: tables_1) B.pre
    have hts : ∀ w ∈ lw_tbl, w.before #[Value.ref b] s = true := k2_hts_sels lw_privs (fun w hw => hts0 w (List.mem_cons_of_mem _ hw)) lw_privs_ok
    have hml : c.maxLocals = 4 := B.maxLocals_eq (hts0 _ List.mem_cons_self)
    have X₀ : Stand p l e room_1 s m #[Value.ref b] below meth c s₁ [] 0 0 := Stand.of_body B
    have hh0 : s₁.heap = s.heap := by rw [B.state]; rfl
    have hsz : scr.slots.size = xs.length := by rw [← Array.length_toList, hlist, List.length_map]
    have hval : ∀ j : Nat, j < xs.length → scr.slots[j]? = some (.int (xs.getD j 0)) := fun j hj => by
      rw [← Array.getElem?_toList, hlist]
      simp [hj]
    have hbl : b < s.heap.size := (Array.getElem?_eq_some_iff.mp hcb).1
    have hX : va_X b xs.length (fun j => xs.getD j 0) s s.heap := ⟨scr, hcb, hof, hkn, hsz, hval⟩
    have K : W p l e room_1 s m #[Value.ref b] below meth c s₁.heap [] 0 0 (lw_Z below #[Value.ref b] s) (entryFrame m ([Value.ref b] : List Value).toArray 4) := by
      rw [hh0]
      exact whole_start l hbd ⟨B.exec, B.bytes, B.returns, hml, hown, hts, hX, hbl, B.notSynchronized, hgv⟩
    obtain ⟨t, a1, o, b1, b2, b3⟩ := K s₁ rfl X₀
    exact ⟨t, o, a1, b1, b2, b3⟩
theorem lw_pre_spec {args : Array Value} {s : State} (h : (Jvm.Cond.and given_1 narrow_1).before args s = true) (hr : rest_1_c.before args s = true) : ∃ (b : Addr) (xs : List Int32), lw_P b xs args s := by
  have hs := flat_of_before _ h
  have hq := flat_of_before _ hr
  have hc : (Cond.count 1).before args s = true := hs _ (by decide +kernel)
  have harr : (Cond.arrayOf (.arg 0) .int).before args s = true := hs _ (by decide +kernel)
  have hle : (Cond.le (.length (.arg 0)) (.int 256)).before args s = true := hs _ (by decide +kernel)
  have hlen : (Cond.isInt (.length (.arg 0))).before args s = true := hq _ (by decide +kernel)
  have hall : (Cond.all (.arg 0) (.isInt (.elem (.arg 0) (.index 0)))).before args s = true := hq _ (by decide +kernel)
  obtain ⟨b, xs, hb, hx⟩ := State.ints_of_pre rfl harr hlen hall
  have hsm : xs.length < 2 ^ 31 := hx.choose_spec.2.2.2
  have hev : (Term.length (.arg 0)).eval args s none [] s = some (.int xs.length.toInt32) := hx.length_eval hb
  have hv := Cond.le_ints hev (show (Term.int 256).eval args s none [] s = some (.int 256) from rfl)
  have hd : xs.length.toInt32 ≤ 256 := by
    simpa [Cond.before, Cond.holds, hv] using hle
  have hN : xs.length ≤ 256 := (Int32.ofNat_le_ofNat hsm (by decide)).mp (show Int32.ofNat xs.length ≤ Int32.ofNat 256 from hd)
  exact ⟨b, xs, Cond.one_arg hc (show args[0]? = some (.ref b) from hb), hx, hN, h⟩
theorem lw_comes (l : Launch) : Comes l x (Jvm.Cond.code x code maxLocals ret :: tables_1) room_1 (fun tb e args s => Calls_1 tb e args s ∧ rest_1 tb e args s ∧ Pre_1 tb e args s)
    (fun _ _ args s o t => lw_Q args s o t) := by
  intro p e ha hc hk s m args below hf hfit hheap happ hpre
  obtain ⟨b, xs, hP⟩ := lw_pre_spec hpre.2.2 hpre.2.1
  obtain ⟨k, o, h1, h2, h3, hQ⟩ := lw_walk l b xs p e ha hc hk s m args below hf ((Spec.applies_iff_loose hf).mp happ).1 hP trivial
  exact ⟨k, o, h1, h2, h3, hQ⟩
theorem lw_frame {s t : State} {o : Outcome} {args : Array Value} (h : Framed s o t [] 600000 7290000) :
    Framed s o t (fieldLocs frame_1_writes args s ++ arrayLocs frame_1_arrays args s ++ staticLocs frame_1_statics s) 600000 7290000 := h
theorem lw_limb (L : Cond) (hL : ∀ (args : Array Value) (s t : State), L.after args s (.returned (some (.int 1))) t = true) :
    ArmFor flags0 classFile x code maxLocals ret World_1 tables_1 room_1 Calls_1 rest_1 Pre_1
      (fun tb e a s o t => postC L tb e a s o t ∧ Framed s o t (fieldLocs frame_1_writes a s ++ arrayLocs frame_1_arrays a s ++ staticLocs frame_1_statics s) 600000 7290000) := by
  intro l _ _ _ p e ha hc hk s m args below hf hfit hheap happ hpre
  obtain ⟨k, o, h1, h2, h3, rfl, hF⟩ := lw_comes l p e ha hc hk s m args below hf hfit hheap happ hpre
  exact ⟨k, _, h1, h2, h3, hL args s _, lw_frame hF⟩
theorem i_vc : Claimed_1_1 ∧ Claimed_1_2 := ⟨lw_limb limb_1_1 (fun args s t => by simp [limb_1_1, Cond.after, Cond.holds, Cond.value]), lw_limb limb_1_2 (fun args s t => Cond.after_iff.mpr (by
  first | (rw [show limb_1_2 = Cond.eq .result (.int 1) from rfl, Cond.eq_ints (x := 1) (y := 1) rfl rfl]; simp; done) | (simp [limb_1_2, Cond.value, Term.eval]; done)))⟩
end
