section
-- ===== PART A: goes FIRST, ahead of the names: the tables' words, and 'selects' of the private methods out of them =====
/-- a private method of a class that the tables say can be made, by its rows of tables_1 -/
def lw_okq (q : MethodName × Nat) : Prop := (q.1.cls ≠ "java/lang/invoke/MethodHandle" ∧ q.1.cls ≠ "java/lang/invoke/VarHandle") ∧ Cond.instantiable q.1.cls q.2 ∈ tables_1 ∧ Cond.privateMethod q.1 ∈ tables_1 ∧ Cond.instanceMethod q.1 ∈ tables_1
set_option maxRecDepth 100000
theorem lw_p0 : lw_okq (⟨"BlossomDesk", "isLine", "(II)Z"⟩, 10) := ⟨⟨by decide +kernel, by decide +kernel⟩, List.mem_of_getElem? (i := 4) rfl, List.mem_of_getElem? (i := 52) rfl, List.mem_of_getElem? (i := 53) rfl⟩
theorem lw_p1 : lw_okq (⟨"BlossomDesk", "pairWithout", "(I)I"⟩, 10) := ⟨⟨by decide +kernel, by decide +kernel⟩, List.mem_of_getElem? (i := 4) rfl, List.mem_of_getElem? (i := 64) rfl, List.mem_of_getElem? (i := 65) rfl⟩
theorem lw_p2 : lw_okq (⟨"BlossomDesk", "search", "(I)I"⟩, 10) := ⟨⟨by decide +kernel, by decide +kernel⟩, List.mem_of_getElem? (i := 4) rfl, List.mem_of_getElem? (i := 68) rfl, List.mem_of_getElem? (i := 69) rfl⟩
theorem lw_p3 : lw_okq (⟨"BlossomDesk", "makeOuter", "(I)V"⟩, 10) := ⟨⟨by decide +kernel, by decide +kernel⟩, List.mem_of_getElem? (i := 4) rfl, List.mem_of_getElem? (i := 72) rfl, List.mem_of_getElem? (i := 73) rfl⟩
theorem lw_p4 : lw_okq (⟨"BlossomDesk", "follow", "(III)I"⟩, 10) := ⟨⟨by decide +kernel, by decide +kernel⟩, List.mem_of_getElem? (i := 4) rfl, List.mem_of_getElem? (i := 76) rfl, List.mem_of_getElem? (i := 77) rfl⟩
theorem lw_p5 : lw_okq (⟨"BlossomDesk", "drawTogether", "(II)V"⟩, 10) := ⟨⟨by decide +kernel, by decide +kernel⟩, List.mem_of_getElem? (i := 4) rfl, List.mem_of_getElem? (i := 80) rfl, List.mem_of_getElem? (i := 81) rfl⟩
theorem lw_p6 : lw_okq (⟨"BlossomDesk", "meetingBase", "(II)I"⟩, 10) := ⟨⟨by decide +kernel, by decide +kernel⟩, List.mem_of_getElem? (i := 4) rfl, List.mem_of_getElem? (i := 84) rfl, List.mem_of_getElem? (i := 85) rfl⟩
theorem lw_p7 : lw_okq (⟨"BlossomDesk", "markWay", "(III)V"⟩, 10) := ⟨⟨by decide +kernel, by decide +kernel⟩, List.mem_of_getElem? (i := 4) rfl, List.mem_of_getElem? (i := 88) rfl, List.mem_of_getElem? (i := 89) rfl⟩
theorem lw_p8 : lw_okq (⟨"BlossomDesk", "turn", "(I)V"⟩, 10) := ⟨⟨by decide +kernel, by decide +kernel⟩, List.mem_of_getElem? (i := 4) rfl, List.mem_of_getElem? (i := 92) rfl, List.mem_of_getElem? (i := 93) rfl⟩
theorem lw_p9 : lw_okq (⟨"BlossomDesk", "spares", "()I"⟩, 10) := ⟨⟨by decide +kernel, by decide +kernel⟩, List.mem_of_getElem? (i := 4) rfl, List.mem_of_getElem? (i := 100) rfl, List.mem_of_getElem? (i := 101) rfl⟩
theorem lw_p10 : lw_okq (⟨"BlossomDesk", "partOf", "(II)I"⟩, 10) := ⟨⟨by decide +kernel, by decide +kernel⟩, List.mem_of_getElem? (i := 4) rfl, List.mem_of_getElem? (i := 127) rfl, List.mem_of_getElem? (i := 128) rfl⟩
theorem lw_p11 : lw_okq (⟨"BlossomDeskModel", "set", "(IIZ)I"⟩, 2) := ⟨⟨by decide +kernel, by decide +kernel⟩, List.mem_of_getElem? (i := 131) rfl, List.mem_of_getElem? (i := 154) rfl, List.mem_of_getElem? (i := 155) rfl⟩
theorem lw_p12 : lw_okq (⟨"BlossomDeskModel", "work", "()V"⟩, 2) := ⟨⟨by decide +kernel, by decide +kernel⟩, List.mem_of_getElem? (i := 131) rfl, List.mem_of_getElem? (i := 166) rfl, List.mem_of_getElem? (i := 167) rfl⟩
theorem lw_p13 : lw_okq (⟨"BlossomDeskModel", "pair", "(I)I"⟩, 2) := ⟨⟨by decide +kernel, by decide +kernel⟩, List.mem_of_getElem? (i := 131) rfl, List.mem_of_getElem? (i := 170) rfl, List.mem_of_getElem? (i := 171) rfl⟩
def lw_privs_1 : List (MethodName × Nat) := [(⟨"BlossomDesk", "isLine", "(II)Z"⟩, 10), (⟨"BlossomDesk", "pairWithout", "(I)I"⟩, 10), (⟨"BlossomDesk", "search", "(I)I"⟩, 10), (⟨"BlossomDesk", "makeOuter", "(I)V"⟩, 10), (⟨"BlossomDesk", "follow", "(III)I"⟩, 10), (⟨"BlossomDesk", "drawTogether", "(II)V"⟩, 10), (⟨"BlossomDesk", "meetingBase", "(II)I"⟩, 10), (⟨"BlossomDesk", "markWay", "(III)V"⟩, 10), (⟨"BlossomDesk", "turn", "(I)V"⟩, 10), (⟨"BlossomDesk", "spares", "()I"⟩, 10), (⟨"BlossomDesk", "partOf", "(II)I"⟩, 10), (⟨"BlossomDeskModel", "set", "(IIZ)I"⟩, 2), (⟨"BlossomDeskModel", "work", "()V"⟩, 2), (⟨"BlossomDeskModel", "pair", "(I)I"⟩, 2)]
theorem lw_r1 : ∀ q ∈ lw_privs_1, lw_okq q := List.forall_mem_cons.mpr ⟨lw_p0, List.forall_mem_cons.mpr ⟨lw_p1, List.forall_mem_cons.mpr ⟨lw_p2, List.forall_mem_cons.mpr ⟨lw_p3, List.forall_mem_cons.mpr ⟨lw_p4, List.forall_mem_cons.mpr ⟨lw_p5, List.forall_mem_cons.mpr ⟨lw_p6, List.forall_mem_cons.mpr ⟨lw_p7, List.forall_mem_cons.mpr ⟨lw_p8, List.forall_mem_cons.mpr ⟨lw_p9, List.forall_mem_cons.mpr ⟨lw_p10, List.forall_mem_cons.mpr ⟨lw_p11, List.forall_mem_cons.mpr ⟨lw_p12, List.forall_mem_cons.mpr ⟨lw_p13, fun _ h => absurd h List.not_mem_nil⟩⟩⟩⟩⟩⟩⟩⟩⟩⟩⟩⟩⟩⟩
def lw_privs : List (MethodName × Nat) := lw_privs_1
def lw_tbl : List Cond := k2_sels lw_privs ++ tables_1
theorem lw_privs_ok : ∀ q ∈ lw_privs, lw_okq q := lw_r1
-- ===== ONE list of words for every method: the tables' words that hold all through a run =====
def lw_all : List Cond := lw_tbl.filter goodWord
/-- a word of the tables by its place: claim/WORDS.tsv -/
theorem lw_w {w : Cond} (i : Nat) (h : lw_tbl[i]? = some w) (g : goodWord w = true) : w ∈ lw_all := List.mem_filter.mpr ⟨List.mem_of_getElem? h, g⟩
theorem lw_all_tbl {w : Cond} (h : w ∈ lw_all) : w ∈ lw_tbl := (List.mem_filter.mp h).1
theorem lw_self : GoodIn lw_all lw_all := fun w h => ⟨h, good_of_word (List.mem_filter.mp h).2⟩
/-- a class's field words, by their places -/
theorem lw_in (ws : List Cond) (ps : List Nat) (hp : ws = ps.filterMap (fun i => lw_tbl[i]?)) (hg : ws.all goodWord = true) : ∀ w ∈ ws, w ∈ lw_all := by
  intro w h
  have h1 := List.all_eq_true.mp hg w h
  rw [hp] at h
  obtain ⟨i, -, hi⟩ := List.mem_filterMap.mp h
  exact lw_w i hi h1
/-- the words of a contract for the method y with code b, L locals, answer r -/
abbrev ws_ (y : MethodName) (b : ByteArray) (L : Nat) (r : Option FieldType) : List Cond := Cond.code y b L r :: lw_all
theorem lw_meth {y : MethodName} {b : ByteArray} {L : Nat} {r : Option FieldType} (h : Cond.code y b L r ∈ lw_all) : GoodIn lw_all (ws_ y b L r) := by
  intro w hw
  rcases List.mem_cons.mp hw with e | e
  · rw [e]
    exact lw_self _ h
  · exact lw_self _ e
theorem lw_app {a c : List Cond} (ha : ∀ w ∈ a, w ∈ lw_all) (hc : GoodIn lw_all c) : GoodIn lw_all (a ++ c) := by
  intro w hw
  rcases List.mem_append.mp hw with e | e
  · exact lw_self w (ha w e)
  · exact hc w e
/-- what a call through an object asks: cwV n hts (lw_V ..) -/
theorem lw_V {own : String} {idx : Nat} {C : String} {y : MethodName} {b : ByteArray} {L : Nat} {r : Option FieldType} (h1 : Cond.methodLink own idx y ∈ lw_all) (h2 : Cond.instanceMethod y ∈ lw_all) (h3 : Cond.selects C y y ∈ lw_all) (h4 : Cond.initialized C ∈ lw_all) (h5 : Cond.code y b L r ∈ lw_all) : GoodIn lw_all (wsV own idx C y (ws_ y b L r)) := by
  refine lw_app ?_ (lw_meth h5)
  intro w hw
  simp only [List.mem_cons, List.not_mem_nil, or_false] at hw
  rcases hw with e | e | e | e
  · rw [e]; exact h1
  · rw [e]; exact h2
  · rw [e]; exact h3
  · rw [e]; exact h4
/-- what a static call asks: va_cwS n hts (lw_S ..) -/
theorem lw_S {own : String} {idx : Nat} {y : MethodName} {b : ByteArray} {L : Nat} {r : Option FieldType} (h1 : Cond.methodLink own idx y ∈ lw_all) (h2 : Cond.static y ∈ lw_all) (h3 : Cond.initialized y.cls ∈ lw_all) (h4 : Cond.code y b L r ∈ lw_all) : GoodIn lw_all (va_wsS own idx y (ws_ y b L r)) := by
  refine lw_app ?_ (lw_meth h4)
  intro w hw
  simp only [List.mem_cons, List.not_mem_nil, or_false] at hw
  rcases hw with e | e | e
  · rw [e]; exact h1
  · rw [e]; exact h2
  · rw [e]; exact h3
/-- the words of a contract for a method WITH HANDLERS (hh: its table) -/
abbrev wsW_ (y : MethodName) (b : ByteArray) (L : Nat) (r : Option FieldType) (hh : List (Nat × Nat × Nat × Nat)) : List Cond := Cond.codeWith y b L r hh :: lw_all
theorem lw_methW {y : MethodName} {b : ByteArray} {L : Nat} {r : Option FieldType} {hh : List (Nat × Nat × Nat × Nat)} (h : Cond.codeWith y b L r hh ∈ lw_all) : GoodIn lw_all (wsW_ y b L r hh) := by
  intro w hw
  rcases List.mem_cons.mp hw with e | e
  · rw [e]
    exact lw_self _ h
  · exact lw_self _ e
/-- any list of words by their places (lw_in), good -/
theorem lw_good {ws : List Cond} (h : ∀ w ∈ ws, w ∈ lw_all) : GoodIn lw_all ws := fun w hw => lw_self w (h w hw)
/-- what a call of a method with handlers asks: vx_cwVW n hts (lw_VW ..), vx_cwSW n hts (lw_SW ..) -/
theorem lw_VW {own : String} {idx : Nat} {C : String} {y : MethodName} {b : ByteArray} {L : Nat} {r : Option FieldType} {hh : List (Nat × Nat × Nat × Nat)} (h1 : Cond.methodLink own idx y ∈ lw_all) (h2 : Cond.instanceMethod y ∈ lw_all) (h3 : Cond.selects C y y ∈ lw_all) (h4 : Cond.initialized C ∈ lw_all) (h5 : Cond.codeWith y b L r hh ∈ lw_all) : GoodIn lw_all (wsV own idx C y (wsW_ y b L r hh)) := by
  refine lw_app ?_ (lw_methW h5)
  intro w hw
  simp only [List.mem_cons, List.not_mem_nil, or_false] at hw
  rcases hw with e | e | e | e
  · rw [e]; exact h1
  · rw [e]; exact h2
  · rw [e]; exact h3
  · rw [e]; exact h4
theorem lw_SW {own : String} {idx : Nat} {y : MethodName} {b : ByteArray} {L : Nat} {r : Option FieldType} {hh : List (Nat × Nat × Nat × Nat)} (h1 : Cond.methodLink own idx y ∈ lw_all) (h2 : Cond.static y ∈ lw_all) (h3 : Cond.initialized y.cls ∈ lw_all) (h4 : Cond.codeWith y b L r hh ∈ lw_all) : GoodIn lw_all (va_wsS own idx y (wsW_ y b L r hh)) := by
  refine lw_app ?_ (lw_methW h4)
  intro w hw
  simp only [List.mem_cons, List.not_mem_nil, or_false] at hw
  rcases hw with e | e | e
  · rw [e]; exact h1
  · rw [e]; exact h2
  · rw [e]; exact h3
/-- a word by its place in its run of the tables -/
theorem lw_at {r : List Cond} (hr : ∀ w ∈ r, w ∈ lw_tbl) {w : Cond} (i : Nat) (h : r[i]? = some w) : w ∈ lw_tbl := hr w (List.mem_of_getElem? h)
theorem lw_g {w : Cond} (h : w ∈ lw_tbl) (g : goodWord w = true) : w ∈ lw_all := List.mem_filter.mpr ⟨h, g⟩
theorem lw_ms : ∀ w ∈ k2_sels lw_privs, w ∈ lw_tbl := fun w h => show w ∈ k2_sels lw_privs ++ tables_1 from List.mem_append_left _ h
theorem lw_m0 : ∀ w ∈ tables_1, w ∈ lw_tbl := fun w h => show w ∈ k2_sels lw_privs ++ tables_1 from List.mem_append_right (k2_sels lw_privs) h
theorem qs0 : (Cond.selects "BlossomDesk" ⟨"BlossomDesk", "isLine", "(II)Z"⟩ ⟨"BlossomDesk", "isLine", "(II)Z"⟩) ∈ lw_all := lw_g (lw_at lw_ms 0 rfl) rfl
theorem qs1 : (Cond.selects "BlossomDesk" ⟨"BlossomDesk", "pairWithout", "(I)I"⟩ ⟨"BlossomDesk", "pairWithout", "(I)I"⟩) ∈ lw_all := lw_g (lw_at lw_ms 1 rfl) rfl
theorem qs2 : (Cond.selects "BlossomDesk" ⟨"BlossomDesk", "search", "(I)I"⟩ ⟨"BlossomDesk", "search", "(I)I"⟩) ∈ lw_all := lw_g (lw_at lw_ms 2 rfl) rfl
theorem qs3 : (Cond.selects "BlossomDesk" ⟨"BlossomDesk", "makeOuter", "(I)V"⟩ ⟨"BlossomDesk", "makeOuter", "(I)V"⟩) ∈ lw_all := lw_g (lw_at lw_ms 3 rfl) rfl
theorem qs4 : (Cond.selects "BlossomDesk" ⟨"BlossomDesk", "follow", "(III)I"⟩ ⟨"BlossomDesk", "follow", "(III)I"⟩) ∈ lw_all := lw_g (lw_at lw_ms 4 rfl) rfl
theorem qs5 : (Cond.selects "BlossomDesk" ⟨"BlossomDesk", "drawTogether", "(II)V"⟩ ⟨"BlossomDesk", "drawTogether", "(II)V"⟩) ∈ lw_all := lw_g (lw_at lw_ms 5 rfl) rfl
theorem qs6 : (Cond.selects "BlossomDesk" ⟨"BlossomDesk", "meetingBase", "(II)I"⟩ ⟨"BlossomDesk", "meetingBase", "(II)I"⟩) ∈ lw_all := lw_g (lw_at lw_ms 6 rfl) rfl
theorem qs7 : (Cond.selects "BlossomDesk" ⟨"BlossomDesk", "markWay", "(III)V"⟩ ⟨"BlossomDesk", "markWay", "(III)V"⟩) ∈ lw_all := lw_g (lw_at lw_ms 7 rfl) rfl
theorem qs8 : (Cond.selects "BlossomDesk" ⟨"BlossomDesk", "turn", "(I)V"⟩ ⟨"BlossomDesk", "turn", "(I)V"⟩) ∈ lw_all := lw_g (lw_at lw_ms 8 rfl) rfl
theorem qs9 : (Cond.selects "BlossomDesk" ⟨"BlossomDesk", "spares", "()I"⟩ ⟨"BlossomDesk", "spares", "()I"⟩) ∈ lw_all := lw_g (lw_at lw_ms 9 rfl) rfl
theorem qs10 : (Cond.selects "BlossomDesk" ⟨"BlossomDesk", "partOf", "(II)I"⟩ ⟨"BlossomDesk", "partOf", "(II)I"⟩) ∈ lw_all := lw_g (lw_at lw_ms 10 rfl) rfl
theorem qs11 : (Cond.selects "BlossomDeskModel" ⟨"BlossomDeskModel", "set", "(IIZ)I"⟩ ⟨"BlossomDeskModel", "set", "(IIZ)I"⟩) ∈ lw_all := lw_g (lw_at lw_ms 11 rfl) rfl
theorem qs12 : (Cond.selects "BlossomDeskModel" ⟨"BlossomDeskModel", "work", "()V"⟩ ⟨"BlossomDeskModel", "work", "()V"⟩) ∈ lw_all := lw_g (lw_at lw_ms 12 rfl) rfl
theorem qs13 : (Cond.selects "BlossomDeskModel" ⟨"BlossomDeskModel", "pair", "(I)I"⟩ ⟨"BlossomDeskModel", "pair", "(I)I"⟩) ∈ lw_all := lw_g (lw_at lw_ms 13 rfl) rfl
end
section
set_option maxRecDepth 100000
/-! BlossomDesk -/
def RX0 : String := "BlossomDesk"
def TX0 : u_T := fun k => match k with
  | 0 => ("BlossomDesk", "joined", "[I", true)
  | 1 => ("BlossomDesk", "absent", "I", false)
  | 2 => ("BlossomDesk", "mate", "[I", true)
  | 3 => ("BlossomDesk", "outer", "[Z", true)
  | 4 => ("BlossomDesk", "reachedFrom", "[I", true)
  | 5 => ("BlossomDesk", "base", "[I", true)
  | 6 => ("BlossomDesk", "inRing", "[Z", true)
  | 7 => ("BlossomDesk", "passed", "[Z", true)
  | 8 => ("BlossomDesk", "queueEnd", "I", false)
  | _ => ("BlossomDesk", "queue", "[I", true)
def tyX0 : Nat → FieldType := fun k => match k with
  | 0 => .array .int
  | 1 => .int
  | 2 => .array .int
  | 3 => .array .boolean
  | 4 => .array .int
  | 5 => .array .int
  | 6 => .array .boolean
  | 7 => .array .boolean
  | 8 => .int
  | _ => .array .int
abbrev wsX00 : List Cond := u_ws RX0 TX0 10
theorem nmX0 : ∀ a, a < 10 → ∀ b, b < 10 → a ≠ b → (TX0 a).2.1 ≠ (TX0 b).2.1 := by decide +kernel
theorem tyX0_ok : ∀ k, k < 10 → parseFieldDescriptor (TX0 k).2.2.1 = some (tyX0 k) := by decide +kernel
abbrev cX0_init : ByteArray := prog_1_method_1_code
def yX0_init : MethodName := ⟨RX0, "<init>", "()V"⟩
abbrev cX0_join : ByteArray := prog_1_method_2_code
def yX0_join : MethodName := ⟨RX0, "join", "(II)I"⟩
abbrev cX0_isPair : ByteArray := prog_1_method_11_code
def yX0_isPair : MethodName := ⟨RX0, "isPair", "(II)Z"⟩
abbrev cX0_isLine : ByteArray := prog_1_method_12_code
def yX0_isLine : MethodName := ⟨RX0, "isLine", "(II)Z"⟩
abbrev cX0_part : ByteArray := prog_1_method_3_code
def yX0_part : MethodName := ⟨RX0, "part", "(II)I"⟩
abbrev cX0_most : ByteArray := prog_1_method_4_code
def yX0_most : MethodName := ⟨RX0, "most", "()I"⟩
abbrev cX0_pairWithout : ByteArray := prog_1_method_14_code
def yX0_pairWithout : MethodName := ⟨RX0, "pairWithout", "(I)I"⟩
abbrev cX0_search : ByteArray := prog_1_method_16_code
def yX0_search : MethodName := ⟨RX0, "search", "(I)I"⟩
abbrev cX0_makeOuter : ByteArray := prog_1_method_17_code
def yX0_makeOuter : MethodName := ⟨RX0, "makeOuter", "(I)V"⟩
abbrev cX0_follow : ByteArray := prog_1_method_18_code
def yX0_follow : MethodName := ⟨RX0, "follow", "(III)I"⟩
abbrev cX0_drawTogether : ByteArray := prog_1_method_19_code
def yX0_drawTogether : MethodName := ⟨RX0, "drawTogether", "(II)V"⟩
abbrev cX0_meetingBase : ByteArray := prog_1_method_20_code
def yX0_meetingBase : MethodName := ⟨RX0, "meetingBase", "(II)I"⟩
abbrev cX0_markWay : ByteArray := prog_1_method_21_code
def yX0_markWay : MethodName := ⟨RX0, "markWay", "(III)V"⟩
abbrev cX0_turn : ByteArray := prog_1_method_22_code
def yX0_turn : MethodName := ⟨RX0, "turn", "(I)V"⟩
abbrev cX0_spare : ByteArray := prog_1_method_5_code
def yX0_spare : MethodName := ⟨RX0, "spare", "(I)I"⟩
abbrev cX0_spares : ByteArray := prog_1_method_15_code
def yX0_spares : MethodName := ⟨RX0, "spares", "()I"⟩
abbrev cX0_usable : ByteArray := prog_1_method_6_code
def yX0_usable : MethodName := ⟨RX0, "usable", "(II)I"⟩
abbrev cX0_needed : ByteArray := prog_1_method_7_code
def yX0_needed : MethodName := ⟨RX0, "needed", "(II)I"⟩
abbrev cX0_guards : ByteArray := prog_1_method_8_code
def yX0_guards : MethodName := ⟨RX0, "guards", "()I"⟩
abbrev cX0_mostWithout : ByteArray := prog_1_method_9_code
def yX0_mostWithout : MethodName := ⟨RX0, "mostWithout", "(I)I"⟩
abbrev cX0_parts : ByteArray := prog_1_method_10_code
def yX0_parts : MethodName := ⟨RX0, "parts", "()I"⟩
abbrev cX0_partOf : ByteArray := prog_1_method_13_code
def yX0_partOf : MethodName := ⟨RX0, "partOf", "(II)I"⟩
theorem q15 : (Jvm.Cond.initialized "BlossomDesk") ∈ lw_all := lw_g (lw_at lw_m0 1 rfl) rfl
theorem q18 : (Jvm.Cond.instantiable "BlossomDesk" (10 : Nat)) ∈ lw_all := lw_g (lw_at lw_m0 4 rfl) rfl
theorem q20 : (Jvm.Cond.instanceMethod ({ cls := "BlossomDesk", name := "<init>", desc := "()V" } : Jvm.MethodName)) ∈ lw_all := lw_g (lw_at lw_m0 6 rfl) rfl
theorem q21 : (Jvm.Cond.code ({ cls := "BlossomDesk", name := "<init>", desc := "()V" } : Jvm.MethodName) prog_1_method_1_code (1 : Nat) (Option.none : Option Jvm.ClassFile.FieldType)) ∈ lw_all := lw_g (lw_at lw_m0 7 rfl) rfl
theorem q22 : (Jvm.Cond.methodLink "BlossomDesk" (1 : Nat) ({ cls := "java/lang/Object", name := "<init>", desc := "()V" } : Jvm.MethodName)) ∈ lw_all := lw_g (lw_at lw_m0 8 rfl) rfl
theorem q25 : (Jvm.Cond.fieldLink "BlossomDesk" (7 : Nat) "BlossomDesk" "joined" "[I") ∈ lw_all := lw_g (lw_at lw_m0 11 rfl) rfl
theorem q26 : (Jvm.Cond.fieldLink "BlossomDesk" (63 : Nat) "BlossomDesk" "absent" "I") ∈ lw_all := lw_g (lw_at lw_m0 12 rfl) rfl
theorem q27 : (Jvm.Cond.fieldLink "BlossomDesk" (13 : Nat) "BlossomDesk" "mate" "[I") ∈ lw_all := lw_g (lw_at lw_m0 13 rfl) rfl
theorem q28 : (Jvm.Cond.fieldLink "BlossomDesk" (16 : Nat) "BlossomDesk" "outer" "[Z") ∈ lw_all := lw_g (lw_at lw_m0 14 rfl) rfl
theorem q29 : (Jvm.Cond.fieldLink "BlossomDesk" (20 : Nat) "BlossomDesk" "reachedFrom" "[I") ∈ lw_all := lw_g (lw_at lw_m0 15 rfl) rfl
theorem q30 : (Jvm.Cond.fieldLink "BlossomDesk" (23 : Nat) "BlossomDesk" "base" "[I") ∈ lw_all := lw_g (lw_at lw_m0 16 rfl) rfl
theorem q31 : (Jvm.Cond.fieldLink "BlossomDesk" (26 : Nat) "BlossomDesk" "inRing" "[Z") ∈ lw_all := lw_g (lw_at lw_m0 17 rfl) rfl
theorem q32 : (Jvm.Cond.fieldLink "BlossomDesk" (29 : Nat) "BlossomDesk" "passed" "[Z") ∈ lw_all := lw_g (lw_at lw_m0 18 rfl) rfl
theorem q33 : (Jvm.Cond.fieldLink "BlossomDesk" (74 : Nat) "BlossomDesk" "queueEnd" "I") ∈ lw_all := lw_g (lw_at lw_m0 19 rfl) rfl
theorem q34 : (Jvm.Cond.fieldLink "BlossomDesk" (32 : Nat) "BlossomDesk" "queue" "[I") ∈ lw_all := lw_g (lw_at lw_m0 20 rfl) rfl
theorem q35 : (Jvm.Cond.laysFinal "BlossomDesk" "BlossomDesk" "joined" "[I") ∈ lw_all := lw_g (lw_at lw_m0 21 rfl) rfl
theorem q36 : (Jvm.Cond.soleField "BlossomDesk" "joined") ∈ lw_all := lw_g (lw_at lw_m0 22 rfl) rfl
theorem q37 : (Jvm.Cond.lays "BlossomDesk" "BlossomDesk" "absent" "I") ∈ lw_all := lw_g (lw_at lw_m0 23 rfl) rfl
theorem q38 : (Jvm.Cond.soleField "BlossomDesk" "absent") ∈ lw_all := lw_g (lw_at lw_m0 24 rfl) rfl
theorem q39 : (Jvm.Cond.laysFinal "BlossomDesk" "BlossomDesk" "mate" "[I") ∈ lw_all := lw_g (lw_at lw_m0 25 rfl) rfl
theorem q40 : (Jvm.Cond.soleField "BlossomDesk" "mate") ∈ lw_all := lw_g (lw_at lw_m0 26 rfl) rfl
theorem q41 : (Jvm.Cond.laysFinal "BlossomDesk" "BlossomDesk" "outer" "[Z") ∈ lw_all := lw_g (lw_at lw_m0 27 rfl) rfl
theorem q42 : (Jvm.Cond.soleField "BlossomDesk" "outer") ∈ lw_all := lw_g (lw_at lw_m0 28 rfl) rfl
theorem q43 : (Jvm.Cond.laysFinal "BlossomDesk" "BlossomDesk" "reachedFrom" "[I") ∈ lw_all := lw_g (lw_at lw_m0 29 rfl) rfl
theorem q44 : (Jvm.Cond.soleField "BlossomDesk" "reachedFrom") ∈ lw_all := lw_g (lw_at lw_m0 30 rfl) rfl
theorem q45 : (Jvm.Cond.laysFinal "BlossomDesk" "BlossomDesk" "base" "[I") ∈ lw_all := lw_g (lw_at lw_m0 31 rfl) rfl
theorem q46 : (Jvm.Cond.soleField "BlossomDesk" "base") ∈ lw_all := lw_g (lw_at lw_m0 32 rfl) rfl
theorem q47 : (Jvm.Cond.laysFinal "BlossomDesk" "BlossomDesk" "inRing" "[Z") ∈ lw_all := lw_g (lw_at lw_m0 33 rfl) rfl
theorem q48 : (Jvm.Cond.soleField "BlossomDesk" "inRing") ∈ lw_all := lw_g (lw_at lw_m0 34 rfl) rfl
theorem q49 : (Jvm.Cond.laysFinal "BlossomDesk" "BlossomDesk" "passed" "[Z") ∈ lw_all := lw_g (lw_at lw_m0 35 rfl) rfl
theorem q50 : (Jvm.Cond.soleField "BlossomDesk" "passed") ∈ lw_all := lw_g (lw_at lw_m0 36 rfl) rfl
theorem q51 : (Jvm.Cond.lays "BlossomDesk" "BlossomDesk" "queueEnd" "I") ∈ lw_all := lw_g (lw_at lw_m0 37 rfl) rfl
theorem q52 : (Jvm.Cond.soleField "BlossomDesk" "queueEnd") ∈ lw_all := lw_g (lw_at lw_m0 38 rfl) rfl
theorem q53 : (Jvm.Cond.laysFinal "BlossomDesk" "BlossomDesk" "queue" "[I") ∈ lw_all := lw_g (lw_at lw_m0 39 rfl) rfl
theorem q54 : (Jvm.Cond.soleField "BlossomDesk" "queue") ∈ lw_all := lw_g (lw_at lw_m0 40 rfl) rfl
theorem q55 : (Jvm.Cond.superclass "BlossomDesk" "java/lang/Object") ∈ lw_all := lw_g (lw_at lw_m0 41 rfl) rfl
theorem q59 : (Jvm.Cond.instanceMethod ({ cls := "BlossomDesk", name := "join", desc := "(II)I" } : Jvm.MethodName)) ∈ lw_all := lw_g (lw_at lw_m0 45 rfl) rfl
theorem q60 : (Jvm.Cond.selects "BlossomDesk" ({ cls := "BlossomDesk", name := "join", desc := "(II)I" } : Jvm.MethodName) ({ cls := "BlossomDesk", name := "join", desc := "(II)I" } : Jvm.MethodName)) ∈ lw_all := lw_g (lw_at lw_m0 46 rfl) rfl
theorem q61 : (Jvm.Cond.code ({ cls := "BlossomDesk", name := "join", desc := "(II)I" } : Jvm.MethodName) prog_1_method_2_code (4 : Nat) (Option.some Jvm.ClassFile.FieldType.int)) ∈ lw_all := lw_g (lw_at lw_m0 47 rfl) rfl
theorem q62 : (Jvm.Cond.methodLink "BlossomDesk" (35 : Nat) ({ cls := "BlossomDesk", name := "isPair", desc := "(II)Z" } : Jvm.MethodName)) ∈ lw_all := lw_g (lw_at lw_m0 48 rfl) rfl
theorem q63 : (Jvm.Cond.static ({ cls := "BlossomDesk", name := "isPair", desc := "(II)Z" } : Jvm.MethodName)) ∈ lw_all := lw_g (lw_at lw_m0 49 rfl) rfl
theorem q64 : (Jvm.Cond.code ({ cls := "BlossomDesk", name := "isPair", desc := "(II)Z" } : Jvm.MethodName) prog_1_method_11_code (2 : Nat) (Option.some Jvm.ClassFile.FieldType.boolean)) ∈ lw_all := lw_g (lw_at lw_m0 50 rfl) rfl
theorem q65 : (Jvm.Cond.methodLink "BlossomDesk" (39 : Nat) ({ cls := "BlossomDesk", name := "isLine", desc := "(II)Z" } : Jvm.MethodName)) ∈ lw_all := lw_g (lw_at lw_m0 51 rfl) rfl
theorem q66 : (Jvm.Cond.privateMethod ({ cls := "BlossomDesk", name := "isLine", desc := "(II)Z" } : Jvm.MethodName)) ∈ lw_tbl := lw_at lw_m0 52 rfl
theorem q67 : (Jvm.Cond.instanceMethod ({ cls := "BlossomDesk", name := "isLine", desc := "(II)Z" } : Jvm.MethodName)) ∈ lw_all := lw_g (lw_at lw_m0 53 rfl) rfl
theorem q68 : (Jvm.Cond.code ({ cls := "BlossomDesk", name := "isLine", desc := "(II)Z" } : Jvm.MethodName) prog_1_method_12_code (3 : Nat) (Option.some Jvm.ClassFile.FieldType.boolean)) ∈ lw_all := lw_g (lw_at lw_m0 54 rfl) rfl
theorem q70 : (Jvm.Cond.instanceMethod ({ cls := "BlossomDesk", name := "part", desc := "(II)I" } : Jvm.MethodName)) ∈ lw_all := lw_g (lw_at lw_m0 56 rfl) rfl
theorem q71 : (Jvm.Cond.selects "BlossomDesk" ({ cls := "BlossomDesk", name := "part", desc := "(II)I" } : Jvm.MethodName) ({ cls := "BlossomDesk", name := "part", desc := "(II)I" } : Jvm.MethodName)) ∈ lw_all := lw_g (lw_at lw_m0 57 rfl) rfl
theorem q72 : (Jvm.Cond.code ({ cls := "BlossomDesk", name := "part", desc := "(II)I" } : Jvm.MethodName) prog_1_method_3_code (4 : Nat) (Option.some Jvm.ClassFile.FieldType.int)) ∈ lw_all := lw_g (lw_at lw_m0 58 rfl) rfl
theorem q74 : (Jvm.Cond.instanceMethod ({ cls := "BlossomDesk", name := "most", desc := "()I" } : Jvm.MethodName)) ∈ lw_all := lw_g (lw_at lw_m0 60 rfl) rfl
theorem q75 : (Jvm.Cond.selects "BlossomDesk" ({ cls := "BlossomDesk", name := "most", desc := "()I" } : Jvm.MethodName) ({ cls := "BlossomDesk", name := "most", desc := "()I" } : Jvm.MethodName)) ∈ lw_all := lw_g (lw_at lw_m0 61 rfl) rfl
theorem q76 : (Jvm.Cond.code ({ cls := "BlossomDesk", name := "most", desc := "()I" } : Jvm.MethodName) prog_1_method_4_code (1 : Nat) (Option.some Jvm.ClassFile.FieldType.int)) ∈ lw_all := lw_g (lw_at lw_m0 62 rfl) rfl
theorem q77 : (Jvm.Cond.methodLink "BlossomDesk" (42 : Nat) ({ cls := "BlossomDesk", name := "pairWithout", desc := "(I)I" } : Jvm.MethodName)) ∈ lw_all := lw_g (lw_at lw_m0 63 rfl) rfl
theorem q78 : (Jvm.Cond.privateMethod ({ cls := "BlossomDesk", name := "pairWithout", desc := "(I)I" } : Jvm.MethodName)) ∈ lw_tbl := lw_at lw_m0 64 rfl
theorem q79 : (Jvm.Cond.instanceMethod ({ cls := "BlossomDesk", name := "pairWithout", desc := "(I)I" } : Jvm.MethodName)) ∈ lw_all := lw_g (lw_at lw_m0 65 rfl) rfl
theorem q80 : (Jvm.Cond.code ({ cls := "BlossomDesk", name := "pairWithout", desc := "(I)I" } : Jvm.MethodName) prog_1_method_14_code (5 : Nat) (Option.some Jvm.ClassFile.FieldType.int)) ∈ lw_all := lw_g (lw_at lw_m0 66 rfl) rfl
theorem q81 : (Jvm.Cond.methodLink "BlossomDesk" (67 : Nat) ({ cls := "BlossomDesk", name := "search", desc := "(I)I" } : Jvm.MethodName)) ∈ lw_all := lw_g (lw_at lw_m0 67 rfl) rfl
theorem q82 : (Jvm.Cond.privateMethod ({ cls := "BlossomDesk", name := "search", desc := "(I)I" } : Jvm.MethodName)) ∈ lw_tbl := lw_at lw_m0 68 rfl
theorem q83 : (Jvm.Cond.instanceMethod ({ cls := "BlossomDesk", name := "search", desc := "(I)I" } : Jvm.MethodName)) ∈ lw_all := lw_g (lw_at lw_m0 69 rfl) rfl
theorem q84 : (Jvm.Cond.code ({ cls := "BlossomDesk", name := "search", desc := "(I)I" } : Jvm.MethodName) prog_1_method_16_code (6 : Nat) (Option.some Jvm.ClassFile.FieldType.int)) ∈ lw_all := lw_g (lw_at lw_m0 70 rfl) rfl
theorem q85 : (Jvm.Cond.methodLink "BlossomDesk" (77 : Nat) ({ cls := "BlossomDesk", name := "makeOuter", desc := "(I)V" } : Jvm.MethodName)) ∈ lw_all := lw_g (lw_at lw_m0 71 rfl) rfl
theorem q86 : (Jvm.Cond.privateMethod ({ cls := "BlossomDesk", name := "makeOuter", desc := "(I)V" } : Jvm.MethodName)) ∈ lw_tbl := lw_at lw_m0 72 rfl
theorem q87 : (Jvm.Cond.instanceMethod ({ cls := "BlossomDesk", name := "makeOuter", desc := "(I)V" } : Jvm.MethodName)) ∈ lw_all := lw_g (lw_at lw_m0 73 rfl) rfl
theorem q88 : (Jvm.Cond.code ({ cls := "BlossomDesk", name := "makeOuter", desc := "(I)V" } : Jvm.MethodName) prog_1_method_17_code (2 : Nat) (Option.none : Option Jvm.ClassFile.FieldType)) ∈ lw_all := lw_g (lw_at lw_m0 74 rfl) rfl
theorem q89 : (Jvm.Cond.methodLink "BlossomDesk" (80 : Nat) ({ cls := "BlossomDesk", name := "follow", desc := "(III)I" } : Jvm.MethodName)) ∈ lw_all := lw_g (lw_at lw_m0 75 rfl) rfl
theorem q90 : (Jvm.Cond.privateMethod ({ cls := "BlossomDesk", name := "follow", desc := "(III)I" } : Jvm.MethodName)) ∈ lw_tbl := lw_at lw_m0 76 rfl
theorem q91 : (Jvm.Cond.instanceMethod ({ cls := "BlossomDesk", name := "follow", desc := "(III)I" } : Jvm.MethodName)) ∈ lw_all := lw_g (lw_at lw_m0 77 rfl) rfl
theorem q92 : (Jvm.Cond.code ({ cls := "BlossomDesk", name := "follow", desc := "(III)I" } : Jvm.MethodName) prog_1_method_18_code (5 : Nat) (Option.some Jvm.ClassFile.FieldType.int)) ∈ lw_all := lw_g (lw_at lw_m0 78 rfl) rfl
theorem q93 : (Jvm.Cond.methodLink "BlossomDesk" (84 : Nat) ({ cls := "BlossomDesk", name := "drawTogether", desc := "(II)V" } : Jvm.MethodName)) ∈ lw_all := lw_g (lw_at lw_m0 79 rfl) rfl
theorem q94 : (Jvm.Cond.privateMethod ({ cls := "BlossomDesk", name := "drawTogether", desc := "(II)V" } : Jvm.MethodName)) ∈ lw_tbl := lw_at lw_m0 80 rfl
theorem q95 : (Jvm.Cond.instanceMethod ({ cls := "BlossomDesk", name := "drawTogether", desc := "(II)V" } : Jvm.MethodName)) ∈ lw_all := lw_g (lw_at lw_m0 81 rfl) rfl
theorem q96 : (Jvm.Cond.code ({ cls := "BlossomDesk", name := "drawTogether", desc := "(II)V" } : Jvm.MethodName) prog_1_method_19_code (5 : Nat) (Option.none : Option Jvm.ClassFile.FieldType)) ∈ lw_all := lw_g (lw_at lw_m0 82 rfl) rfl
theorem q97 : (Jvm.Cond.methodLink "BlossomDesk" (88 : Nat) ({ cls := "BlossomDesk", name := "meetingBase", desc := "(II)I" } : Jvm.MethodName)) ∈ lw_all := lw_g (lw_at lw_m0 83 rfl) rfl
theorem q98 : (Jvm.Cond.privateMethod ({ cls := "BlossomDesk", name := "meetingBase", desc := "(II)I" } : Jvm.MethodName)) ∈ lw_tbl := lw_at lw_m0 84 rfl
theorem q99 : (Jvm.Cond.instanceMethod ({ cls := "BlossomDesk", name := "meetingBase", desc := "(II)I" } : Jvm.MethodName)) ∈ lw_all := lw_g (lw_at lw_m0 85 rfl) rfl
theorem q100 : (Jvm.Cond.code ({ cls := "BlossomDesk", name := "meetingBase", desc := "(II)I" } : Jvm.MethodName) prog_1_method_20_code (6 : Nat) (Option.some Jvm.ClassFile.FieldType.int)) ∈ lw_all := lw_g (lw_at lw_m0 86 rfl) rfl
theorem q101 : (Jvm.Cond.methodLink "BlossomDesk" (91 : Nat) ({ cls := "BlossomDesk", name := "markWay", desc := "(III)V" } : Jvm.MethodName)) ∈ lw_all := lw_g (lw_at lw_m0 87 rfl) rfl
theorem q102 : (Jvm.Cond.privateMethod ({ cls := "BlossomDesk", name := "markWay", desc := "(III)V" } : Jvm.MethodName)) ∈ lw_tbl := lw_at lw_m0 88 rfl
theorem q103 : (Jvm.Cond.instanceMethod ({ cls := "BlossomDesk", name := "markWay", desc := "(III)V" } : Jvm.MethodName)) ∈ lw_all := lw_g (lw_at lw_m0 89 rfl) rfl
theorem q104 : (Jvm.Cond.code ({ cls := "BlossomDesk", name := "markWay", desc := "(III)V" } : Jvm.MethodName) prog_1_method_21_code (7 : Nat) (Option.none : Option Jvm.ClassFile.FieldType)) ∈ lw_all := lw_g (lw_at lw_m0 90 rfl) rfl
theorem q105 : (Jvm.Cond.methodLink "BlossomDesk" (70 : Nat) ({ cls := "BlossomDesk", name := "turn", desc := "(I)V" } : Jvm.MethodName)) ∈ lw_all := lw_g (lw_at lw_m0 91 rfl) rfl
theorem q106 : (Jvm.Cond.privateMethod ({ cls := "BlossomDesk", name := "turn", desc := "(I)V" } : Jvm.MethodName)) ∈ lw_tbl := lw_at lw_m0 92 rfl
theorem q107 : (Jvm.Cond.instanceMethod ({ cls := "BlossomDesk", name := "turn", desc := "(I)V" } : Jvm.MethodName)) ∈ lw_all := lw_g (lw_at lw_m0 93 rfl) rfl
theorem q108 : (Jvm.Cond.code ({ cls := "BlossomDesk", name := "turn", desc := "(I)V" } : Jvm.MethodName) prog_1_method_22_code (6 : Nat) (Option.none : Option Jvm.ClassFile.FieldType)) ∈ lw_all := lw_g (lw_at lw_m0 94 rfl) rfl
theorem q110 : (Jvm.Cond.instanceMethod ({ cls := "BlossomDesk", name := "spare", desc := "(I)I" } : Jvm.MethodName)) ∈ lw_all := lw_g (lw_at lw_m0 96 rfl) rfl
theorem q111 : (Jvm.Cond.selects "BlossomDesk" ({ cls := "BlossomDesk", name := "spare", desc := "(I)I" } : Jvm.MethodName) ({ cls := "BlossomDesk", name := "spare", desc := "(I)I" } : Jvm.MethodName)) ∈ lw_all := lw_g (lw_at lw_m0 97 rfl) rfl
theorem q112 : (Jvm.Cond.code ({ cls := "BlossomDesk", name := "spare", desc := "(I)I" } : Jvm.MethodName) prog_1_method_5_code (2 : Nat) (Option.some Jvm.ClassFile.FieldType.int)) ∈ lw_all := lw_g (lw_at lw_m0 98 rfl) rfl
theorem q113 : (Jvm.Cond.methodLink "BlossomDesk" (46 : Nat) ({ cls := "BlossomDesk", name := "spares", desc := "()I" } : Jvm.MethodName)) ∈ lw_all := lw_g (lw_at lw_m0 99 rfl) rfl
theorem q114 : (Jvm.Cond.privateMethod ({ cls := "BlossomDesk", name := "spares", desc := "()I" } : Jvm.MethodName)) ∈ lw_tbl := lw_at lw_m0 100 rfl
theorem q115 : (Jvm.Cond.instanceMethod ({ cls := "BlossomDesk", name := "spares", desc := "()I" } : Jvm.MethodName)) ∈ lw_all := lw_g (lw_at lw_m0 101 rfl) rfl
theorem q116 : (Jvm.Cond.code ({ cls := "BlossomDesk", name := "spares", desc := "()I" } : Jvm.MethodName) prog_1_method_15_code (4 : Nat) (Option.some Jvm.ClassFile.FieldType.int)) ∈ lw_all := lw_g (lw_at lw_m0 102 rfl) rfl
theorem q118 : (Jvm.Cond.instanceMethod ({ cls := "BlossomDesk", name := "usable", desc := "(II)I" } : Jvm.MethodName)) ∈ lw_all := lw_g (lw_at lw_m0 104 rfl) rfl
theorem q119 : (Jvm.Cond.selects "BlossomDesk" ({ cls := "BlossomDesk", name := "usable", desc := "(II)I" } : Jvm.MethodName) ({ cls := "BlossomDesk", name := "usable", desc := "(II)I" } : Jvm.MethodName)) ∈ lw_all := lw_g (lw_at lw_m0 105 rfl) rfl
theorem q120 : (Jvm.Cond.code ({ cls := "BlossomDesk", name := "usable", desc := "(II)I" } : Jvm.MethodName) prog_1_method_6_code (5 : Nat) (Option.some Jvm.ClassFile.FieldType.int)) ∈ lw_all := lw_g (lw_at lw_m0 106 rfl) rfl
theorem q122 : (Jvm.Cond.instanceMethod ({ cls := "BlossomDesk", name := "needed", desc := "(II)I" } : Jvm.MethodName)) ∈ lw_all := lw_g (lw_at lw_m0 108 rfl) rfl
theorem q123 : (Jvm.Cond.selects "BlossomDesk" ({ cls := "BlossomDesk", name := "needed", desc := "(II)I" } : Jvm.MethodName) ({ cls := "BlossomDesk", name := "needed", desc := "(II)I" } : Jvm.MethodName)) ∈ lw_all := lw_g (lw_at lw_m0 109 rfl) rfl
theorem q124 : (Jvm.Cond.code ({ cls := "BlossomDesk", name := "needed", desc := "(II)I" } : Jvm.MethodName) prog_1_method_7_code (6 : Nat) (Option.some Jvm.ClassFile.FieldType.int)) ∈ lw_all := lw_g (lw_at lw_m0 110 rfl) rfl
theorem q125 : (Jvm.Cond.methodLink "BlossomDesk" (50 : Nat) ({ cls := "BlossomDesk", name := "part", desc := "(II)I" } : Jvm.MethodName)) ∈ lw_all := lw_g (lw_at lw_m0 111 rfl) rfl
theorem q126 : (Jvm.Cond.methodLink "BlossomDesk" (54 : Nat) ({ cls := "BlossomDesk", name := "join", desc := "(II)I" } : Jvm.MethodName)) ∈ lw_all := lw_g (lw_at lw_m0 112 rfl) rfl
theorem q128 : (Jvm.Cond.instanceMethod ({ cls := "BlossomDesk", name := "guards", desc := "()I" } : Jvm.MethodName)) ∈ lw_all := lw_g (lw_at lw_m0 114 rfl) rfl
theorem q129 : (Jvm.Cond.selects "BlossomDesk" ({ cls := "BlossomDesk", name := "guards", desc := "()I" } : Jvm.MethodName) ({ cls := "BlossomDesk", name := "guards", desc := "()I" } : Jvm.MethodName)) ∈ lw_all := lw_g (lw_at lw_m0 115 rfl) rfl
theorem q130 : (Jvm.Cond.code ({ cls := "BlossomDesk", name := "guards", desc := "()I" } : Jvm.MethodName) prog_1_method_8_code (4 : Nat) (Option.some Jvm.ClassFile.FieldType.int)) ∈ lw_all := lw_g (lw_at lw_m0 116 rfl) rfl
theorem q132 : (Jvm.Cond.instanceMethod ({ cls := "BlossomDesk", name := "mostWithout", desc := "(I)I" } : Jvm.MethodName)) ∈ lw_all := lw_g (lw_at lw_m0 118 rfl) rfl
theorem q133 : (Jvm.Cond.selects "BlossomDesk" ({ cls := "BlossomDesk", name := "mostWithout", desc := "(I)I" } : Jvm.MethodName) ({ cls := "BlossomDesk", name := "mostWithout", desc := "(I)I" } : Jvm.MethodName)) ∈ lw_all := lw_g (lw_at lw_m0 119 rfl) rfl
theorem q134 : (Jvm.Cond.code ({ cls := "BlossomDesk", name := "mostWithout", desc := "(I)I" } : Jvm.MethodName) prog_1_method_9_code (2 : Nat) (Option.some Jvm.ClassFile.FieldType.int)) ∈ lw_all := lw_g (lw_at lw_m0 120 rfl) rfl
theorem q136 : (Jvm.Cond.instanceMethod ({ cls := "BlossomDesk", name := "parts", desc := "()I" } : Jvm.MethodName)) ∈ lw_all := lw_g (lw_at lw_m0 122 rfl) rfl
theorem q137 : (Jvm.Cond.selects "BlossomDesk" ({ cls := "BlossomDesk", name := "parts", desc := "()I" } : Jvm.MethodName) ({ cls := "BlossomDesk", name := "parts", desc := "()I" } : Jvm.MethodName)) ∈ lw_all := lw_g (lw_at lw_m0 123 rfl) rfl
theorem q138 : (Jvm.Cond.code ({ cls := "BlossomDesk", name := "parts", desc := "()I" } : Jvm.MethodName) prog_1_method_10_code (5 : Nat) (Option.some Jvm.ClassFile.FieldType.int)) ∈ lw_all := lw_g (lw_at lw_m0 124 rfl) rfl
theorem q139 : (Jvm.Cond.methodLink "BlossomDesk" (57 : Nat) ({ cls := "BlossomDesk", name := "guards", desc := "()I" } : Jvm.MethodName)) ∈ lw_all := lw_g (lw_at lw_m0 125 rfl) rfl
theorem q140 : (Jvm.Cond.methodLink "BlossomDesk" (60 : Nat) ({ cls := "BlossomDesk", name := "partOf", desc := "(II)I" } : Jvm.MethodName)) ∈ lw_all := lw_g (lw_at lw_m0 126 rfl) rfl
theorem q141 : (Jvm.Cond.privateMethod ({ cls := "BlossomDesk", name := "partOf", desc := "(II)I" } : Jvm.MethodName)) ∈ lw_tbl := lw_at lw_m0 127 rfl
theorem q142 : (Jvm.Cond.instanceMethod ({ cls := "BlossomDesk", name := "partOf", desc := "(II)I" } : Jvm.MethodName)) ∈ lw_all := lw_g (lw_at lw_m0 128 rfl) rfl
theorem q143 : (Jvm.Cond.code ({ cls := "BlossomDesk", name := "partOf", desc := "(II)I" } : Jvm.MethodName) prog_1_method_13_code (6 : Nat) (Option.some Jvm.ClassFile.FieldType.int)) ∈ lw_all := lw_g (lw_at lw_m0 129 rfl) rfl
theorem in_X0 : ∀ w ∈ wsX00, w ∈ lw_all := lw_in wsX00 [35, 37, 39, 41, 43, 45, 47, 49, 51, 53] (by decide +kernel) (by decide +kernel)
/-! BlossomDeskModel -/
def RX1 : String := "BlossomDeskModel"
def TX1 : u_T := fun k => match k with
  | 0 => ("BlossomDeskModel", "lines", "[Z", true)
  | _ => ("BlossomDeskModel", "best", "[I", true)
def tyX1 : Nat → FieldType := fun k => match k with
  | 0 => .array .boolean
  | _ => .array .int
abbrev wsX10 : List Cond := u_ws RX1 TX1 2
theorem nmX1 : ∀ a, a < 2 → ∀ b, b < 2 → a ≠ b → (TX1 a).2.1 ≠ (TX1 b).2.1 := by decide +kernel
theorem tyX1_ok : ∀ k, k < 2 → parseFieldDescriptor (TX1 k).2.2.1 = some (tyX1 k) := by decide +kernel
abbrev cX1_init : ByteArray := prog_3_method_1_code
def yX1_init : MethodName := ⟨RX1, "<init>", "()V"⟩
abbrev cX1_join : ByteArray := prog_3_method_5_code
def yX1_join : MethodName := ⟨RX1, "join", "(II)I"⟩
abbrev cX1_refused : ByteArray := prog_3_method_3_code
def yX1_refused : MethodName := ⟨RX1, "refused", "(II)Z"⟩
abbrev cX1_bad : ByteArray := prog_3_method_2_code
def yX1_bad : MethodName := ⟨RX1, "bad", "(I)Z"⟩
abbrev cX1_set : ByteArray := prog_3_method_4_code
def yX1_set : MethodName := ⟨RX1, "set", "(IIZ)I"⟩
abbrev cX1_part : ByteArray := prog_3_method_6_code
def yX1_part : MethodName := ⟨RX1, "part", "(II)I"⟩
abbrev cX1_most : ByteArray := prog_3_method_9_code
def yX1_most : MethodName := ⟨RX1, "most", "()I"⟩
abbrev cX1_work : ByteArray := prog_3_method_8_code
def yX1_work : MethodName := ⟨RX1, "work", "()V"⟩
abbrev cX1_pair : ByteArray := prog_3_method_7_code
def yX1_pair : MethodName := ⟨RX1, "pair", "(I)I"⟩
abbrev cX1_spare : ByteArray := prog_3_method_10_code
def yX1_spare : MethodName := ⟨RX1, "spare", "(I)I"⟩
abbrev cX1_usable : ByteArray := prog_3_method_11_code
def yX1_usable : MethodName := ⟨RX1, "usable", "(II)I"⟩
abbrev cX1_needed : ByteArray := prog_3_method_12_code
def yX1_needed : MethodName := ⟨RX1, "needed", "(II)I"⟩
abbrev cX1_guards : ByteArray := prog_3_method_13_code
def yX1_guards : MethodName := ⟨RX1, "guards", "()I"⟩
abbrev cX1_mostWithout : ByteArray := prog_3_method_14_code
def yX1_mostWithout : MethodName := ⟨RX1, "mostWithout", "(I)I"⟩
abbrev cX1_parts : ByteArray := prog_3_method_15_code
def yX1_parts : MethodName := ⟨RX1, "parts", "()I"⟩
theorem q16 : (Jvm.Cond.initialized "BlossomDeskModel") ∈ lw_all := lw_g (lw_at lw_m0 2 rfl) rfl
theorem q145 : (Jvm.Cond.instantiable "BlossomDeskModel" (2 : Nat)) ∈ lw_all := lw_g (lw_at lw_m0 131 rfl) rfl
theorem q147 : (Jvm.Cond.instanceMethod ({ cls := "BlossomDeskModel", name := "<init>", desc := "()V" } : Jvm.MethodName)) ∈ lw_all := lw_g (lw_at lw_m0 133 rfl) rfl
theorem q148 : (Jvm.Cond.code ({ cls := "BlossomDeskModel", name := "<init>", desc := "()V" } : Jvm.MethodName) prog_3_method_1_code (1 : Nat) (Option.none : Option Jvm.ClassFile.FieldType)) ∈ lw_all := lw_g (lw_at lw_m0 134 rfl) rfl
theorem q149 : (Jvm.Cond.methodLink "BlossomDeskModel" (1 : Nat) ({ cls := "java/lang/Object", name := "<init>", desc := "()V" } : Jvm.MethodName)) ∈ lw_all := lw_g (lw_at lw_m0 135 rfl) rfl
theorem q150 : (Jvm.Cond.fieldLink "BlossomDeskModel" (7 : Nat) "BlossomDeskModel" "lines" "[Z") ∈ lw_all := lw_g (lw_at lw_m0 136 rfl) rfl
theorem q151 : (Jvm.Cond.fieldLink "BlossomDeskModel" (13 : Nat) "BlossomDeskModel" "best" "[I") ∈ lw_all := lw_g (lw_at lw_m0 137 rfl) rfl
theorem q152 : (Jvm.Cond.laysFinal "BlossomDeskModel" "BlossomDeskModel" "lines" "[Z") ∈ lw_all := lw_g (lw_at lw_m0 138 rfl) rfl
theorem q153 : (Jvm.Cond.soleField "BlossomDeskModel" "lines") ∈ lw_all := lw_g (lw_at lw_m0 139 rfl) rfl
theorem q154 : (Jvm.Cond.laysFinal "BlossomDeskModel" "BlossomDeskModel" "best" "[I") ∈ lw_all := lw_g (lw_at lw_m0 140 rfl) rfl
theorem q155 : (Jvm.Cond.soleField "BlossomDeskModel" "best") ∈ lw_all := lw_g (lw_at lw_m0 141 rfl) rfl
theorem q156 : (Jvm.Cond.superclass "BlossomDeskModel" "java/lang/Object") ∈ lw_all := lw_g (lw_at lw_m0 142 rfl) rfl
theorem q158 : (Jvm.Cond.instanceMethod ({ cls := "BlossomDeskModel", name := "join", desc := "(II)I" } : Jvm.MethodName)) ∈ lw_all := lw_g (lw_at lw_m0 144 rfl) rfl
theorem q159 : (Jvm.Cond.selects "BlossomDeskModel" ({ cls := "BlossomDeskModel", name := "join", desc := "(II)I" } : Jvm.MethodName) ({ cls := "BlossomDeskModel", name := "join", desc := "(II)I" } : Jvm.MethodName)) ∈ lw_all := lw_g (lw_at lw_m0 145 rfl) rfl
theorem q160 : (Jvm.Cond.code ({ cls := "BlossomDeskModel", name := "join", desc := "(II)I" } : Jvm.MethodName) prog_3_method_5_code (3 : Nat) (Option.some Jvm.ClassFile.FieldType.int)) ∈ lw_all := lw_g (lw_at lw_m0 146 rfl) rfl
theorem q161 : (Jvm.Cond.methodLink "BlossomDeskModel" (21 : Nat) ({ cls := "BlossomDeskModel", name := "refused", desc := "(II)Z" } : Jvm.MethodName)) ∈ lw_all := lw_g (lw_at lw_m0 147 rfl) rfl
theorem q162 : (Jvm.Cond.static ({ cls := "BlossomDeskModel", name := "refused", desc := "(II)Z" } : Jvm.MethodName)) ∈ lw_all := lw_g (lw_at lw_m0 148 rfl) rfl
theorem q163 : (Jvm.Cond.code ({ cls := "BlossomDeskModel", name := "refused", desc := "(II)Z" } : Jvm.MethodName) prog_3_method_3_code (2 : Nat) (Option.some Jvm.ClassFile.FieldType.boolean)) ∈ lw_all := lw_g (lw_at lw_m0 149 rfl) rfl
theorem q164 : (Jvm.Cond.methodLink "BlossomDeskModel" (17 : Nat) ({ cls := "BlossomDeskModel", name := "bad", desc := "(I)Z" } : Jvm.MethodName)) ∈ lw_all := lw_g (lw_at lw_m0 150 rfl) rfl
theorem q165 : (Jvm.Cond.static ({ cls := "BlossomDeskModel", name := "bad", desc := "(I)Z" } : Jvm.MethodName)) ∈ lw_all := lw_g (lw_at lw_m0 151 rfl) rfl
theorem q166 : (Jvm.Cond.code ({ cls := "BlossomDeskModel", name := "bad", desc := "(I)Z" } : Jvm.MethodName) prog_3_method_2_code (1 : Nat) (Option.some Jvm.ClassFile.FieldType.boolean)) ∈ lw_all := lw_g (lw_at lw_m0 152 rfl) rfl
theorem q167 : (Jvm.Cond.methodLink "BlossomDeskModel" (25 : Nat) ({ cls := "BlossomDeskModel", name := "set", desc := "(IIZ)I" } : Jvm.MethodName)) ∈ lw_all := lw_g (lw_at lw_m0 153 rfl) rfl
theorem q168 : (Jvm.Cond.privateMethod ({ cls := "BlossomDeskModel", name := "set", desc := "(IIZ)I" } : Jvm.MethodName)) ∈ lw_tbl := lw_at lw_m0 154 rfl
theorem q169 : (Jvm.Cond.instanceMethod ({ cls := "BlossomDeskModel", name := "set", desc := "(IIZ)I" } : Jvm.MethodName)) ∈ lw_all := lw_g (lw_at lw_m0 155 rfl) rfl
theorem q170 : (Jvm.Cond.code ({ cls := "BlossomDeskModel", name := "set", desc := "(IIZ)I" } : Jvm.MethodName) prog_3_method_4_code (5 : Nat) (Option.some Jvm.ClassFile.FieldType.int)) ∈ lw_all := lw_g (lw_at lw_m0 156 rfl) rfl
theorem q172 : (Jvm.Cond.instanceMethod ({ cls := "BlossomDeskModel", name := "part", desc := "(II)I" } : Jvm.MethodName)) ∈ lw_all := lw_g (lw_at lw_m0 158 rfl) rfl
theorem q173 : (Jvm.Cond.selects "BlossomDeskModel" ({ cls := "BlossomDeskModel", name := "part", desc := "(II)I" } : Jvm.MethodName) ({ cls := "BlossomDeskModel", name := "part", desc := "(II)I" } : Jvm.MethodName)) ∈ lw_all := lw_g (lw_at lw_m0 159 rfl) rfl
theorem q174 : (Jvm.Cond.code ({ cls := "BlossomDeskModel", name := "part", desc := "(II)I" } : Jvm.MethodName) prog_3_method_6_code (3 : Nat) (Option.some Jvm.ClassFile.FieldType.int)) ∈ lw_all := lw_g (lw_at lw_m0 160 rfl) rfl
theorem q176 : (Jvm.Cond.instanceMethod ({ cls := "BlossomDeskModel", name := "most", desc := "()I" } : Jvm.MethodName)) ∈ lw_all := lw_g (lw_at lw_m0 162 rfl) rfl
theorem q177 : (Jvm.Cond.selects "BlossomDeskModel" ({ cls := "BlossomDeskModel", name := "most", desc := "()I" } : Jvm.MethodName) ({ cls := "BlossomDeskModel", name := "most", desc := "()I" } : Jvm.MethodName)) ∈ lw_all := lw_g (lw_at lw_m0 163 rfl) rfl
theorem q178 : (Jvm.Cond.code ({ cls := "BlossomDeskModel", name := "most", desc := "()I" } : Jvm.MethodName) prog_3_method_9_code (1 : Nat) (Option.some Jvm.ClassFile.FieldType.int)) ∈ lw_all := lw_g (lw_at lw_m0 164 rfl) rfl
theorem q179 : (Jvm.Cond.methodLink "BlossomDeskModel" (33 : Nat) ({ cls := "BlossomDeskModel", name := "work", desc := "()V" } : Jvm.MethodName)) ∈ lw_all := lw_g (lw_at lw_m0 165 rfl) rfl
theorem q180 : (Jvm.Cond.privateMethod ({ cls := "BlossomDeskModel", name := "work", desc := "()V" } : Jvm.MethodName)) ∈ lw_tbl := lw_at lw_m0 166 rfl
theorem q181 : (Jvm.Cond.instanceMethod ({ cls := "BlossomDeskModel", name := "work", desc := "()V" } : Jvm.MethodName)) ∈ lw_all := lw_g (lw_at lw_m0 167 rfl) rfl
theorem q182 : (Jvm.Cond.code ({ cls := "BlossomDeskModel", name := "work", desc := "()V" } : Jvm.MethodName) prog_3_method_8_code (2 : Nat) (Option.none : Option Jvm.ClassFile.FieldType)) ∈ lw_all := lw_g (lw_at lw_m0 168 rfl) rfl
theorem q183 : (Jvm.Cond.methodLink "BlossomDeskModel" (29 : Nat) ({ cls := "BlossomDeskModel", name := "pair", desc := "(I)I" } : Jvm.MethodName)) ∈ lw_all := lw_g (lw_at lw_m0 169 rfl) rfl
theorem q184 : (Jvm.Cond.privateMethod ({ cls := "BlossomDeskModel", name := "pair", desc := "(I)I" } : Jvm.MethodName)) ∈ lw_tbl := lw_at lw_m0 170 rfl
theorem q185 : (Jvm.Cond.instanceMethod ({ cls := "BlossomDeskModel", name := "pair", desc := "(I)I" } : Jvm.MethodName)) ∈ lw_all := lw_g (lw_at lw_m0 171 rfl) rfl
theorem q186 : (Jvm.Cond.code ({ cls := "BlossomDeskModel", name := "pair", desc := "(I)I" } : Jvm.MethodName) prog_3_method_7_code (6 : Nat) (Option.some Jvm.ClassFile.FieldType.int)) ∈ lw_all := lw_g (lw_at lw_m0 172 rfl) rfl
theorem q188 : (Jvm.Cond.instanceMethod ({ cls := "BlossomDeskModel", name := "spare", desc := "(I)I" } : Jvm.MethodName)) ∈ lw_all := lw_g (lw_at lw_m0 174 rfl) rfl
theorem q189 : (Jvm.Cond.selects "BlossomDeskModel" ({ cls := "BlossomDeskModel", name := "spare", desc := "(I)I" } : Jvm.MethodName) ({ cls := "BlossomDeskModel", name := "spare", desc := "(I)I" } : Jvm.MethodName)) ∈ lw_all := lw_g (lw_at lw_m0 175 rfl) rfl
theorem q190 : (Jvm.Cond.code ({ cls := "BlossomDeskModel", name := "spare", desc := "(I)I" } : Jvm.MethodName) prog_3_method_10_code (2 : Nat) (Option.some Jvm.ClassFile.FieldType.int)) ∈ lw_all := lw_g (lw_at lw_m0 176 rfl) rfl
theorem q192 : (Jvm.Cond.instanceMethod ({ cls := "BlossomDeskModel", name := "usable", desc := "(II)I" } : Jvm.MethodName)) ∈ lw_all := lw_g (lw_at lw_m0 178 rfl) rfl
theorem q193 : (Jvm.Cond.selects "BlossomDeskModel" ({ cls := "BlossomDeskModel", name := "usable", desc := "(II)I" } : Jvm.MethodName) ({ cls := "BlossomDeskModel", name := "usable", desc := "(II)I" } : Jvm.MethodName)) ∈ lw_all := lw_g (lw_at lw_m0 179 rfl) rfl
theorem q194 : (Jvm.Cond.code ({ cls := "BlossomDeskModel", name := "usable", desc := "(II)I" } : Jvm.MethodName) prog_3_method_11_code (3 : Nat) (Option.some Jvm.ClassFile.FieldType.int)) ∈ lw_all := lw_g (lw_at lw_m0 180 rfl) rfl
theorem q196 : (Jvm.Cond.instanceMethod ({ cls := "BlossomDeskModel", name := "needed", desc := "(II)I" } : Jvm.MethodName)) ∈ lw_all := lw_g (lw_at lw_m0 182 rfl) rfl
theorem q197 : (Jvm.Cond.selects "BlossomDeskModel" ({ cls := "BlossomDeskModel", name := "needed", desc := "(II)I" } : Jvm.MethodName) ({ cls := "BlossomDeskModel", name := "needed", desc := "(II)I" } : Jvm.MethodName)) ∈ lw_all := lw_g (lw_at lw_m0 183 rfl) rfl
theorem q198 : (Jvm.Cond.code ({ cls := "BlossomDeskModel", name := "needed", desc := "(II)I" } : Jvm.MethodName) prog_3_method_12_code (6 : Nat) (Option.some Jvm.ClassFile.FieldType.int)) ∈ lw_all := lw_g (lw_at lw_m0 184 rfl) rfl
theorem q199 : (Jvm.Cond.methodLink "BlossomDeskModel" (36 : Nat) ({ cls := "BlossomDeskModel", name := "most", desc := "()I" } : Jvm.MethodName)) ∈ lw_all := lw_g (lw_at lw_m0 185 rfl) rfl
theorem q201 : (Jvm.Cond.instanceMethod ({ cls := "BlossomDeskModel", name := "guards", desc := "()I" } : Jvm.MethodName)) ∈ lw_all := lw_g (lw_at lw_m0 187 rfl) rfl
theorem q202 : (Jvm.Cond.selects "BlossomDeskModel" ({ cls := "BlossomDeskModel", name := "guards", desc := "()I" } : Jvm.MethodName) ({ cls := "BlossomDeskModel", name := "guards", desc := "()I" } : Jvm.MethodName)) ∈ lw_all := lw_g (lw_at lw_m0 188 rfl) rfl
theorem q203 : (Jvm.Cond.code ({ cls := "BlossomDeskModel", name := "guards", desc := "()I" } : Jvm.MethodName) prog_3_method_13_code (4 : Nat) (Option.some Jvm.ClassFile.FieldType.int)) ∈ lw_all := lw_g (lw_at lw_m0 189 rfl) rfl
theorem q205 : (Jvm.Cond.instanceMethod ({ cls := "BlossomDeskModel", name := "mostWithout", desc := "(I)I" } : Jvm.MethodName)) ∈ lw_all := lw_g (lw_at lw_m0 191 rfl) rfl
theorem q206 : (Jvm.Cond.selects "BlossomDeskModel" ({ cls := "BlossomDeskModel", name := "mostWithout", desc := "(I)I" } : Jvm.MethodName) ({ cls := "BlossomDeskModel", name := "mostWithout", desc := "(I)I" } : Jvm.MethodName)) ∈ lw_all := lw_g (lw_at lw_m0 192 rfl) rfl
theorem q207 : (Jvm.Cond.code ({ cls := "BlossomDeskModel", name := "mostWithout", desc := "(I)I" } : Jvm.MethodName) prog_3_method_14_code (2 : Nat) (Option.some Jvm.ClassFile.FieldType.int)) ∈ lw_all := lw_g (lw_at lw_m0 193 rfl) rfl
theorem q209 : (Jvm.Cond.instanceMethod ({ cls := "BlossomDeskModel", name := "parts", desc := "()I" } : Jvm.MethodName)) ∈ lw_all := lw_g (lw_at lw_m0 195 rfl) rfl
theorem q210 : (Jvm.Cond.selects "BlossomDeskModel" ({ cls := "BlossomDeskModel", name := "parts", desc := "()I" } : Jvm.MethodName) ({ cls := "BlossomDeskModel", name := "parts", desc := "()I" } : Jvm.MethodName)) ∈ lw_all := lw_g (lw_at lw_m0 196 rfl) rfl
theorem q211 : (Jvm.Cond.code ({ cls := "BlossomDeskModel", name := "parts", desc := "()I" } : Jvm.MethodName) prog_3_method_15_code (7 : Nat) (Option.some Jvm.ClassFile.FieldType.int)) ∈ lw_all := lw_g (lw_at lw_m0 197 rfl) rfl
theorem q212 : (Jvm.Cond.methodLink "BlossomDeskModel" (40 : Nat) ({ cls := "BlossomDeskModel", name := "guards", desc := "()I" } : Jvm.MethodName)) ∈ lw_all := lw_g (lw_at lw_m0 198 rfl) rfl
theorem in_X1 : ∀ w ∈ wsX10, w ∈ lw_all := lw_in wsX10 [152, 154] (by decide +kernel) (by decide +kernel)
/-! java/lang/Object -/
def RJ0 : String := "java/lang/Object"
abbrev cJ0_init : ByteArray := object_method_1_code
def yJ0_init : MethodName := ⟨RJ0, "<init>", "()V"⟩
theorem q23 : (Jvm.Cond.instanceMethod ({ cls := "java/lang/Object", name := "<init>", desc := "()V" } : Jvm.MethodName)) ∈ lw_all := lw_g (lw_at lw_m0 9 rfl) rfl
theorem q24 : (Jvm.Cond.code ({ cls := "java/lang/Object", name := "<init>", desc := "()V" } : Jvm.MethodName) object_method_1_code (1 : Nat) (Option.none : Option Jvm.ClassFile.FieldType)) ∈ lw_all := lw_g (lw_at lw_m0 10 rfl) rfl
theorem q56 : (Jvm.Cond.arrayClass Jvm.ClassFile.FieldType.int) ∈ lw_all := lw_g (lw_at lw_m0 42 rfl) rfl
theorem q57 : (Jvm.Cond.arrayClass Jvm.ClassFile.FieldType.boolean) ∈ lw_all := lw_g (lw_at lw_m0 43 rfl) rfl
theorem q14 : (Jvm.Cond.initialized "BlossomDeskLaw") ∈ lw_all := lw_g (lw_at lw_m0 0 rfl) rfl
theorem q17 : (Jvm.Cond.classLink "BlossomDeskLaw" (7 : Nat) "BlossomDesk") ∈ lw_all := lw_g (lw_at lw_m0 3 rfl) rfl
theorem q19 : (Jvm.Cond.methodLink "BlossomDeskLaw" (9 : Nat) ({ cls := "BlossomDesk", name := "<init>", desc := "()V" } : Jvm.MethodName)) ∈ lw_all := lw_g (lw_at lw_m0 5 rfl) rfl
theorem q58 : (Jvm.Cond.methodLink "BlossomDeskLaw" (13 : Nat) ({ cls := "BlossomDesk", name := "join", desc := "(II)I" } : Jvm.MethodName)) ∈ lw_all := lw_g (lw_at lw_m0 44 rfl) rfl
theorem q69 : (Jvm.Cond.methodLink "BlossomDeskLaw" (18 : Nat) ({ cls := "BlossomDesk", name := "part", desc := "(II)I" } : Jvm.MethodName)) ∈ lw_all := lw_g (lw_at lw_m0 55 rfl) rfl
theorem q73 : (Jvm.Cond.methodLink "BlossomDeskLaw" (22 : Nat) ({ cls := "BlossomDesk", name := "most", desc := "()I" } : Jvm.MethodName)) ∈ lw_all := lw_g (lw_at lw_m0 59 rfl) rfl
theorem q109 : (Jvm.Cond.methodLink "BlossomDeskLaw" (27 : Nat) ({ cls := "BlossomDesk", name := "spare", desc := "(I)I" } : Jvm.MethodName)) ∈ lw_all := lw_g (lw_at lw_m0 95 rfl) rfl
theorem q117 : (Jvm.Cond.methodLink "BlossomDeskLaw" (32 : Nat) ({ cls := "BlossomDesk", name := "usable", desc := "(II)I" } : Jvm.MethodName)) ∈ lw_all := lw_g (lw_at lw_m0 103 rfl) rfl
theorem q121 : (Jvm.Cond.methodLink "BlossomDeskLaw" (36 : Nat) ({ cls := "BlossomDesk", name := "needed", desc := "(II)I" } : Jvm.MethodName)) ∈ lw_all := lw_g (lw_at lw_m0 107 rfl) rfl
theorem q127 : (Jvm.Cond.methodLink "BlossomDeskLaw" (40 : Nat) ({ cls := "BlossomDesk", name := "guards", desc := "()I" } : Jvm.MethodName)) ∈ lw_all := lw_g (lw_at lw_m0 113 rfl) rfl
theorem q131 : (Jvm.Cond.methodLink "BlossomDeskLaw" (44 : Nat) ({ cls := "BlossomDesk", name := "mostWithout", desc := "(I)I" } : Jvm.MethodName)) ∈ lw_all := lw_g (lw_at lw_m0 117 rfl) rfl
theorem q135 : (Jvm.Cond.methodLink "BlossomDeskLaw" (48 : Nat) ({ cls := "BlossomDesk", name := "parts", desc := "()I" } : Jvm.MethodName)) ∈ lw_all := lw_g (lw_at lw_m0 121 rfl) rfl
theorem q144 : (Jvm.Cond.classLink "BlossomDeskLaw" (10 : Nat) "BlossomDeskModel") ∈ lw_all := lw_g (lw_at lw_m0 130 rfl) rfl
theorem q146 : (Jvm.Cond.methodLink "BlossomDeskLaw" (12 : Nat) ({ cls := "BlossomDeskModel", name := "<init>", desc := "()V" } : Jvm.MethodName)) ∈ lw_all := lw_g (lw_at lw_m0 132 rfl) rfl
theorem q157 : (Jvm.Cond.methodLink "BlossomDeskLaw" (17 : Nat) ({ cls := "BlossomDeskModel", name := "join", desc := "(II)I" } : Jvm.MethodName)) ∈ lw_all := lw_g (lw_at lw_m0 143 rfl) rfl
theorem q171 : (Jvm.Cond.methodLink "BlossomDeskLaw" (21 : Nat) ({ cls := "BlossomDeskModel", name := "part", desc := "(II)I" } : Jvm.MethodName)) ∈ lw_all := lw_g (lw_at lw_m0 157 rfl) rfl
theorem q175 : (Jvm.Cond.methodLink "BlossomDeskLaw" (26 : Nat) ({ cls := "BlossomDeskModel", name := "most", desc := "()I" } : Jvm.MethodName)) ∈ lw_all := lw_g (lw_at lw_m0 161 rfl) rfl
theorem q187 : (Jvm.Cond.methodLink "BlossomDeskLaw" (31 : Nat) ({ cls := "BlossomDeskModel", name := "spare", desc := "(I)I" } : Jvm.MethodName)) ∈ lw_all := lw_g (lw_at lw_m0 173 rfl) rfl
theorem q191 : (Jvm.Cond.methodLink "BlossomDeskLaw" (35 : Nat) ({ cls := "BlossomDeskModel", name := "usable", desc := "(II)I" } : Jvm.MethodName)) ∈ lw_all := lw_g (lw_at lw_m0 177 rfl) rfl
theorem q195 : (Jvm.Cond.methodLink "BlossomDeskLaw" (39 : Nat) ({ cls := "BlossomDeskModel", name := "needed", desc := "(II)I" } : Jvm.MethodName)) ∈ lw_all := lw_g (lw_at lw_m0 181 rfl) rfl
theorem q200 : (Jvm.Cond.methodLink "BlossomDeskLaw" (43 : Nat) ({ cls := "BlossomDeskModel", name := "guards", desc := "()I" } : Jvm.MethodName)) ∈ lw_all := lw_g (lw_at lw_m0 186 rfl) rfl
theorem q204 : (Jvm.Cond.methodLink "BlossomDeskLaw" (47 : Nat) ({ cls := "BlossomDeskModel", name := "mostWithout", desc := "(I)I" } : Jvm.MethodName)) ∈ lw_all := lw_g (lw_at lw_m0 190 rfl) rfl
theorem q208 : (Jvm.Cond.methodLink "BlossomDeskLaw" (51 : Nat) ({ cls := "BlossomDeskModel", name := "parts", desc := "()I" } : Jvm.MethodName)) ∈ lw_all := lw_g (lw_at lw_m0 194 rfl) rfl
/-! the law's own entry -/
abbrev cL_law : ByteArray := code
end
section
set_option maxRecDepth 100000
theorem dX0_init_0 : decode cX0_init 0 = .ok (.aload_n 0, 1) := by decide +kernel
theorem dX0_init_1 : decode cX0_init 1 = .ok (.invokespecial 1, 3) := by decide +kernel
theorem dX0_init_4 : decode cX0_init 4 = .ok (.aload_n 0, 1) := by decide +kernel
theorem dX0_init_5 : decode cX0_init 5 = .ok (.bipush 10, 2) := by decide +kernel
theorem dX0_init_7 : decode cX0_init 7 = .ok (.newarray .int, 2) := by decide +kernel
theorem dX0_init_9 : decode cX0_init 9 = .ok (.putfield 7, 3) := by decide +kernel
theorem dX0_init_12 : decode cX0_init 12 = .ok (.aload_n 0, 1) := by decide +kernel
theorem dX0_init_13 : decode cX0_init 13 = .ok (.bipush 10, 2) := by decide +kernel
theorem dX0_init_15 : decode cX0_init 15 = .ok (.newarray .int, 2) := by decide +kernel
theorem dX0_init_17 : decode cX0_init 17 = .ok (.putfield 13, 3) := by decide +kernel
theorem dX0_init_20 : decode cX0_init 20 = .ok (.aload_n 0, 1) := by decide +kernel
theorem dX0_init_21 : decode cX0_init 21 = .ok (.bipush 10, 2) := by decide +kernel
theorem dX0_init_23 : decode cX0_init 23 = .ok (.newarray .boolean, 2) := by decide +kernel
theorem dX0_init_25 : decode cX0_init 25 = .ok (.putfield 16, 3) := by decide +kernel
theorem dX0_init_28 : decode cX0_init 28 = .ok (.aload_n 0, 1) := by decide +kernel
theorem dX0_init_29 : decode cX0_init 29 = .ok (.bipush 10, 2) := by decide +kernel
theorem dX0_init_31 : decode cX0_init 31 = .ok (.newarray .int, 2) := by decide +kernel
theorem dX0_init_33 : decode cX0_init 33 = .ok (.putfield 20, 3) := by decide +kernel
theorem dX0_init_36 : decode cX0_init 36 = .ok (.aload_n 0, 1) := by decide +kernel
theorem dX0_init_37 : decode cX0_init 37 = .ok (.bipush 10, 2) := by decide +kernel
theorem dX0_init_39 : decode cX0_init 39 = .ok (.newarray .int, 2) := by decide +kernel
theorem dX0_init_41 : decode cX0_init 41 = .ok (.putfield 23, 3) := by decide +kernel
theorem dX0_init_44 : decode cX0_init 44 = .ok (.aload_n 0, 1) := by decide +kernel
theorem dX0_init_45 : decode cX0_init 45 = .ok (.bipush 10, 2) := by decide +kernel
theorem dX0_init_47 : decode cX0_init 47 = .ok (.newarray .boolean, 2) := by decide +kernel
theorem dX0_init_49 : decode cX0_init 49 = .ok (.putfield 26, 3) := by decide +kernel
theorem dX0_init_52 : decode cX0_init 52 = .ok (.aload_n 0, 1) := by decide +kernel
theorem dX0_init_53 : decode cX0_init 53 = .ok (.bipush 10, 2) := by decide +kernel
theorem dX0_init_55 : decode cX0_init 55 = .ok (.newarray .boolean, 2) := by decide +kernel
theorem dX0_init_57 : decode cX0_init 57 = .ok (.putfield 29, 3) := by decide +kernel
theorem dX0_init_60 : decode cX0_init 60 = .ok (.aload_n 0, 1) := by decide +kernel
theorem dX0_init_61 : decode cX0_init 61 = .ok (.bipush 10, 2) := by decide +kernel
theorem dX0_init_63 : decode cX0_init 63 = .ok (.newarray .int, 2) := by decide +kernel
theorem dX0_init_65 : decode cX0_init 65 = .ok (.putfield 32, 3) := by decide +kernel
theorem dX0_init_68 : decode cX0_init 68 = .ok (.return_, 1) := by decide +kernel
theorem dX0_join_0 : decode cX0_join 0 = .ok (.iload_n 1, 1) := by decide +kernel
theorem dX0_join_1 : decode cX0_join 1 = .ok (.iload_n 2, 1) := by decide +kernel
theorem dX0_join_2 : decode cX0_join 2 = .ok (.invokestatic 35, 3) := by decide +kernel
theorem dX0_join_5 : decode cX0_join 5 = .ok (.ifCond .ne 5, 3) := by decide +kernel
theorem dX0_join_8 : decode cX0_join 8 = .ok (.iconst (-1), 1) := by decide +kernel
theorem dX0_join_9 : decode cX0_join 9 = .ok (.ireturn, 1) := by decide +kernel
theorem dX0_join_10 : decode cX0_join 10 = .ok (.aload_n 0, 1) := by decide +kernel
theorem dX0_join_11 : decode cX0_join 11 = .ok (.iload_n 1, 1) := by decide +kernel
theorem dX0_join_12 : decode cX0_join 12 = .ok (.iload_n 2, 1) := by decide +kernel
theorem dX0_join_13 : decode cX0_join 13 = .ok (.invokevirtual 39, 3) := by decide +kernel
theorem dX0_join_16 : decode cX0_join 16 = .ok (.ifCond .eq 7, 3) := by decide +kernel
theorem dX0_join_19 : decode cX0_join 19 = .ok (.iconst 0, 1) := by decide +kernel
theorem dX0_join_20 : decode cX0_join 20 = .ok (.goto 4, 3) := by decide +kernel
theorem dX0_join_23 : decode cX0_join 23 = .ok (.iconst 1, 1) := by decide +kernel
theorem dX0_join_24 : decode cX0_join 24 = .ok (.istore_n 3, 1) := by decide +kernel
theorem dX0_join_25 : decode cX0_join 25 = .ok (.aload_n 0, 1) := by decide +kernel
theorem dX0_join_26 : decode cX0_join 26 = .ok (.getfield 7, 3) := by decide +kernel
theorem dX0_join_29 : decode cX0_join 29 = .ok (.iload_n 1, 1) := by decide +kernel
theorem dX0_join_30 : decode cX0_join 30 = .ok (.dup2, 1) := by decide +kernel
theorem dX0_join_31 : decode cX0_join 31 = .ok (.iaload, 1) := by decide +kernel
theorem dX0_join_32 : decode cX0_join 32 = .ok (.iconst 1, 1) := by decide +kernel
theorem dX0_join_33 : decode cX0_join 33 = .ok (.iload_n 2, 1) := by decide +kernel
theorem dX0_join_34 : decode cX0_join 34 = .ok (.ishl, 1) := by decide +kernel
theorem dX0_join_35 : decode cX0_join 35 = .ok (.ior, 1) := by decide +kernel
theorem dX0_join_36 : decode cX0_join 36 = .ok (.iastore, 1) := by decide +kernel
theorem dX0_join_37 : decode cX0_join 37 = .ok (.aload_n 0, 1) := by decide +kernel
theorem dX0_join_38 : decode cX0_join 38 = .ok (.getfield 7, 3) := by decide +kernel
theorem dX0_join_41 : decode cX0_join 41 = .ok (.iload_n 2, 1) := by decide +kernel
theorem dX0_join_42 : decode cX0_join 42 = .ok (.dup2, 1) := by decide +kernel
theorem dX0_join_43 : decode cX0_join 43 = .ok (.iaload, 1) := by decide +kernel
theorem dX0_join_44 : decode cX0_join 44 = .ok (.iconst 1, 1) := by decide +kernel
theorem dX0_join_45 : decode cX0_join 45 = .ok (.iload_n 1, 1) := by decide +kernel
theorem dX0_join_46 : decode cX0_join 46 = .ok (.ishl, 1) := by decide +kernel
theorem dX0_join_47 : decode cX0_join 47 = .ok (.ior, 1) := by decide +kernel
theorem dX0_join_48 : decode cX0_join 48 = .ok (.iastore, 1) := by decide +kernel
theorem dX0_join_49 : decode cX0_join 49 = .ok (.iload_n 3, 1) := by decide +kernel
theorem dX0_join_50 : decode cX0_join 50 = .ok (.ireturn, 1) := by decide +kernel
theorem dX0_isPair_0 : decode cX0_isPair 0 = .ok (.iload_n 0, 1) := by decide +kernel
theorem dX0_isPair_1 : decode cX0_isPair 1 = .ok (.ifCond .lt 28, 3) := by decide +kernel
theorem dX0_isPair_4 : decode cX0_isPair 4 = .ok (.iload_n 0, 1) := by decide +kernel
theorem dX0_isPair_5 : decode cX0_isPair 5 = .ok (.bipush 9, 2) := by decide +kernel
theorem dX0_isPair_7 : decode cX0_isPair 7 = .ok (.if_icmp .gt 22, 3) := by decide +kernel
theorem dX0_isPair_10 : decode cX0_isPair 10 = .ok (.iload_n 1, 1) := by decide +kernel
theorem dX0_isPair_11 : decode cX0_isPair 11 = .ok (.ifCond .lt 18, 3) := by decide +kernel
theorem dX0_isPair_14 : decode cX0_isPair 14 = .ok (.iload_n 1, 1) := by decide +kernel
theorem dX0_isPair_15 : decode cX0_isPair 15 = .ok (.bipush 9, 2) := by decide +kernel
theorem dX0_isPair_17 : decode cX0_isPair 17 = .ok (.if_icmp .gt 12, 3) := by decide +kernel
theorem dX0_isPair_20 : decode cX0_isPair 20 = .ok (.iload_n 0, 1) := by decide +kernel
theorem dX0_isPair_21 : decode cX0_isPair 21 = .ok (.iload_n 1, 1) := by decide +kernel
theorem dX0_isPair_22 : decode cX0_isPair 22 = .ok (.if_icmp .eq 7, 3) := by decide +kernel
theorem dX0_isPair_25 : decode cX0_isPair 25 = .ok (.iconst 1, 1) := by decide +kernel
theorem dX0_isPair_26 : decode cX0_isPair 26 = .ok (.goto 4, 3) := by decide +kernel
theorem dX0_isPair_29 : decode cX0_isPair 29 = .ok (.iconst 0, 1) := by decide +kernel
theorem dX0_isPair_30 : decode cX0_isPair 30 = .ok (.ireturn, 1) := by decide +kernel
theorem dX0_isLine_0 : decode cX0_isLine 0 = .ok (.aload_n 0, 1) := by decide +kernel
theorem dX0_isLine_1 : decode cX0_isLine 1 = .ok (.getfield 7, 3) := by decide +kernel
theorem dX0_isLine_4 : decode cX0_isLine 4 = .ok (.iload_n 1, 1) := by decide +kernel
theorem dX0_isLine_5 : decode cX0_isLine 5 = .ok (.iaload, 1) := by decide +kernel
theorem dX0_isLine_6 : decode cX0_isLine 6 = .ok (.iload_n 2, 1) := by decide +kernel
theorem dX0_isLine_7 : decode cX0_isLine 7 = .ok (.iushr, 1) := by decide +kernel
theorem dX0_isLine_8 : decode cX0_isLine 8 = .ok (.iconst 1, 1) := by decide +kernel
theorem dX0_isLine_9 : decode cX0_isLine 9 = .ok (.iand, 1) := by decide +kernel
theorem dX0_isLine_10 : decode cX0_isLine 10 = .ok (.ifCond .eq 7, 3) := by decide +kernel
theorem dX0_isLine_13 : decode cX0_isLine 13 = .ok (.iconst 1, 1) := by decide +kernel
theorem dX0_isLine_14 : decode cX0_isLine 14 = .ok (.goto 4, 3) := by decide +kernel
theorem dX0_isLine_17 : decode cX0_isLine 17 = .ok (.iconst 0, 1) := by decide +kernel
theorem dX0_isLine_18 : decode cX0_isLine 18 = .ok (.ireturn, 1) := by decide +kernel
theorem dX0_part_0 : decode cX0_part 0 = .ok (.iload_n 1, 1) := by decide +kernel
theorem dX0_part_1 : decode cX0_part 1 = .ok (.iload_n 2, 1) := by decide +kernel
theorem dX0_part_2 : decode cX0_part 2 = .ok (.invokestatic 35, 3) := by decide +kernel
theorem dX0_part_5 : decode cX0_part 5 = .ok (.ifCond .ne 5, 3) := by decide +kernel
theorem dX0_part_8 : decode cX0_part 8 = .ok (.iconst (-1), 1) := by decide +kernel
theorem dX0_part_9 : decode cX0_part 9 = .ok (.ireturn, 1) := by decide +kernel
theorem dX0_part_10 : decode cX0_part 10 = .ok (.aload_n 0, 1) := by decide +kernel
theorem dX0_part_11 : decode cX0_part 11 = .ok (.iload_n 1, 1) := by decide +kernel
theorem dX0_part_12 : decode cX0_part 12 = .ok (.iload_n 2, 1) := by decide +kernel
theorem dX0_part_13 : decode cX0_part 13 = .ok (.invokevirtual 39, 3) := by decide +kernel
theorem dX0_part_16 : decode cX0_part 16 = .ok (.ifCond .eq 7, 3) := by decide +kernel
theorem dX0_part_19 : decode cX0_part 19 = .ok (.iconst 1, 1) := by decide +kernel
theorem dX0_part_20 : decode cX0_part 20 = .ok (.goto 4, 3) := by decide +kernel
theorem dX0_part_23 : decode cX0_part 23 = .ok (.iconst 0, 1) := by decide +kernel
theorem dX0_part_24 : decode cX0_part 24 = .ok (.istore_n 3, 1) := by decide +kernel
theorem dX0_part_25 : decode cX0_part 25 = .ok (.aload_n 0, 1) := by decide +kernel
theorem dX0_part_26 : decode cX0_part 26 = .ok (.getfield 7, 3) := by decide +kernel
theorem dX0_part_29 : decode cX0_part 29 = .ok (.iload_n 1, 1) := by decide +kernel
theorem dX0_part_30 : decode cX0_part 30 = .ok (.dup2, 1) := by decide +kernel
theorem dX0_part_31 : decode cX0_part 31 = .ok (.iaload, 1) := by decide +kernel
theorem dX0_part_32 : decode cX0_part 32 = .ok (.iconst 1, 1) := by decide +kernel
theorem dX0_part_33 : decode cX0_part 33 = .ok (.iload_n 2, 1) := by decide +kernel
theorem dX0_part_34 : decode cX0_part 34 = .ok (.ishl, 1) := by decide +kernel
theorem dX0_part_35 : decode cX0_part 35 = .ok (.iconst (-1), 1) := by decide +kernel
theorem dX0_part_36 : decode cX0_part 36 = .ok (.ixor, 1) := by decide +kernel
theorem dX0_part_37 : decode cX0_part 37 = .ok (.iand, 1) := by decide +kernel
theorem dX0_part_38 : decode cX0_part 38 = .ok (.iastore, 1) := by decide +kernel
theorem dX0_part_39 : decode cX0_part 39 = .ok (.aload_n 0, 1) := by decide +kernel
theorem dX0_part_40 : decode cX0_part 40 = .ok (.getfield 7, 3) := by decide +kernel
theorem dX0_part_43 : decode cX0_part 43 = .ok (.iload_n 2, 1) := by decide +kernel
theorem dX0_part_44 : decode cX0_part 44 = .ok (.dup2, 1) := by decide +kernel
theorem dX0_part_45 : decode cX0_part 45 = .ok (.iaload, 1) := by decide +kernel
theorem dX0_part_46 : decode cX0_part 46 = .ok (.iconst 1, 1) := by decide +kernel
theorem dX0_part_47 : decode cX0_part 47 = .ok (.iload_n 1, 1) := by decide +kernel
theorem dX0_part_48 : decode cX0_part 48 = .ok (.ishl, 1) := by decide +kernel
theorem dX0_part_49 : decode cX0_part 49 = .ok (.iconst (-1), 1) := by decide +kernel
theorem dX0_part_50 : decode cX0_part 50 = .ok (.ixor, 1) := by decide +kernel
theorem dX0_part_51 : decode cX0_part 51 = .ok (.iand, 1) := by decide +kernel
theorem dX0_part_52 : decode cX0_part 52 = .ok (.iastore, 1) := by decide +kernel
theorem dX0_part_53 : decode cX0_part 53 = .ok (.iload_n 3, 1) := by decide +kernel
theorem dX0_part_54 : decode cX0_part 54 = .ok (.ireturn, 1) := by decide +kernel
theorem dX0_most_0 : decode cX0_most 0 = .ok (.aload_n 0, 1) := by decide +kernel
theorem dX0_most_1 : decode cX0_most 1 = .ok (.iconst 0, 1) := by decide +kernel
theorem dX0_most_2 : decode cX0_most 2 = .ok (.invokevirtual 42, 3) := by decide +kernel
theorem dX0_most_5 : decode cX0_most 5 = .ok (.ireturn, 1) := by decide +kernel
theorem dX0_pairWithout_0 : decode cX0_pairWithout 0 = .ok (.aload_n 0, 1) := by decide +kernel
theorem dX0_pairWithout_1 : decode cX0_pairWithout 1 = .ok (.iload_n 1, 1) := by decide +kernel
theorem dX0_pairWithout_2 : decode cX0_pairWithout 2 = .ok (.putfield 63, 3) := by decide +kernel
theorem dX0_pairWithout_5 : decode cX0_pairWithout 5 = .ok (.iconst 0, 1) := by decide +kernel
theorem dX0_pairWithout_6 : decode cX0_pairWithout 6 = .ok (.istore_n 2, 1) := by decide +kernel
theorem dX0_pairWithout_7 : decode cX0_pairWithout 7 = .ok (.iload_n 2, 1) := by decide +kernel
theorem dX0_pairWithout_8 : decode cX0_pairWithout 8 = .ok (.bipush 10, 2) := by decide +kernel
theorem dX0_pairWithout_10 : decode cX0_pairWithout 10 = .ok (.if_icmp .ge 16, 3) := by decide +kernel
theorem dX0_pairWithout_13 : decode cX0_pairWithout 13 = .ok (.aload_n 0, 1) := by decide +kernel
theorem dX0_pairWithout_14 : decode cX0_pairWithout 14 = .ok (.getfield 13, 3) := by decide +kernel
theorem dX0_pairWithout_17 : decode cX0_pairWithout 17 = .ok (.iload_n 2, 1) := by decide +kernel
theorem dX0_pairWithout_18 : decode cX0_pairWithout 18 = .ok (.iconst (-1), 1) := by decide +kernel
theorem dX0_pairWithout_19 : decode cX0_pairWithout 19 = .ok (.iastore, 1) := by decide +kernel
theorem dX0_pairWithout_20 : decode cX0_pairWithout 20 = .ok (.iinc 2 1, 3) := by decide +kernel
theorem dX0_pairWithout_23 : decode cX0_pairWithout 23 = .ok (.goto (-16), 3) := by decide +kernel
theorem dX0_pairWithout_26 : decode cX0_pairWithout 26 = .ok (.iconst 0, 1) := by decide +kernel
theorem dX0_pairWithout_27 : decode cX0_pairWithout 27 = .ok (.istore_n 2, 1) := by decide +kernel
theorem dX0_pairWithout_28 : decode cX0_pairWithout 28 = .ok (.iconst 0, 1) := by decide +kernel
theorem dX0_pairWithout_29 : decode cX0_pairWithout 29 = .ok (.istore_n 3, 1) := by decide +kernel
theorem dX0_pairWithout_30 : decode cX0_pairWithout 30 = .ok (.iload_n 3, 1) := by decide +kernel
theorem dX0_pairWithout_31 : decode cX0_pairWithout 31 = .ok (.bipush 10, 2) := by decide +kernel
theorem dX0_pairWithout_33 : decode cX0_pairWithout 33 = .ok (.if_icmp .ge 50, 3) := by decide +kernel
theorem dX0_pairWithout_36 : decode cX0_pairWithout 36 = .ok (.aload_n 0, 1) := by decide +kernel
theorem dX0_pairWithout_37 : decode cX0_pairWithout 37 = .ok (.getfield 13, 3) := by decide +kernel
theorem dX0_pairWithout_40 : decode cX0_pairWithout 40 = .ok (.iload_n 3, 1) := by decide +kernel
theorem dX0_pairWithout_41 : decode cX0_pairWithout 41 = .ok (.iaload, 1) := by decide +kernel
theorem dX0_pairWithout_42 : decode cX0_pairWithout 42 = .ok (.ifCond .ge 35, 3) := by decide +kernel
theorem dX0_pairWithout_45 : decode cX0_pairWithout 45 = .ok (.aload_n 0, 1) := by decide +kernel
theorem dX0_pairWithout_46 : decode cX0_pairWithout 46 = .ok (.getfield 63, 3) := by decide +kernel
theorem dX0_pairWithout_49 : decode cX0_pairWithout 49 = .ok (.iload_n 3, 1) := by decide +kernel
theorem dX0_pairWithout_50 : decode cX0_pairWithout 50 = .ok (.iushr, 1) := by decide +kernel
theorem dX0_pairWithout_51 : decode cX0_pairWithout 51 = .ok (.iconst 1, 1) := by decide +kernel
theorem dX0_pairWithout_52 : decode cX0_pairWithout 52 = .ok (.iand, 1) := by decide +kernel
theorem dX0_pairWithout_53 : decode cX0_pairWithout 53 = .ok (.ifCond .ne 24, 3) := by decide +kernel
theorem dX0_pairWithout_56 : decode cX0_pairWithout 56 = .ok (.aload_n 0, 1) := by decide +kernel
theorem dX0_pairWithout_57 : decode cX0_pairWithout 57 = .ok (.iload_n 3, 1) := by decide +kernel
theorem dX0_pairWithout_58 : decode cX0_pairWithout 58 = .ok (.invokevirtual 67, 3) := by decide +kernel
theorem dX0_pairWithout_61 : decode cX0_pairWithout 61 = .ok (.istore 4, 2) := by decide +kernel
theorem dX0_pairWithout_63 : decode cX0_pairWithout 63 = .ok (.iload 4, 2) := by decide +kernel
theorem dX0_pairWithout_65 : decode cX0_pairWithout 65 = .ok (.ifCond .lt 12, 3) := by decide +kernel
theorem dX0_pairWithout_68 : decode cX0_pairWithout 68 = .ok (.aload_n 0, 1) := by decide +kernel
theorem dX0_pairWithout_69 : decode cX0_pairWithout 69 = .ok (.iload 4, 2) := by decide +kernel
theorem dX0_pairWithout_71 : decode cX0_pairWithout 71 = .ok (.invokevirtual 70, 3) := by decide +kernel
theorem dX0_pairWithout_74 : decode cX0_pairWithout 74 = .ok (.iinc 2 1, 3) := by decide +kernel
theorem dX0_pairWithout_77 : decode cX0_pairWithout 77 = .ok (.iinc 3 1, 3) := by decide +kernel
theorem dX0_pairWithout_80 : decode cX0_pairWithout 80 = .ok (.goto (-50), 3) := by decide +kernel
theorem dX0_pairWithout_83 : decode cX0_pairWithout 83 = .ok (.iload_n 2, 1) := by decide +kernel
theorem dX0_pairWithout_84 : decode cX0_pairWithout 84 = .ok (.ireturn, 1) := by decide +kernel
theorem dX0_search_0 : decode cX0_search 0 = .ok (.iconst 0, 1) := by decide +kernel
theorem dX0_search_1 : decode cX0_search 1 = .ok (.istore_n 2, 1) := by decide +kernel
theorem dX0_search_2 : decode cX0_search 2 = .ok (.iload_n 2, 1) := by decide +kernel
theorem dX0_search_3 : decode cX0_search 3 = .ok (.bipush 10, 2) := by decide +kernel
theorem dX0_search_5 : decode cX0_search 5 = .ok (.if_icmp .ge 30, 3) := by decide +kernel
theorem dX0_search_8 : decode cX0_search 8 = .ok (.aload_n 0, 1) := by decide +kernel
theorem dX0_search_9 : decode cX0_search 9 = .ok (.getfield 16, 3) := by decide +kernel
theorem dX0_search_12 : decode cX0_search 12 = .ok (.iload_n 2, 1) := by decide +kernel
theorem dX0_search_13 : decode cX0_search 13 = .ok (.iconst 0, 1) := by decide +kernel
theorem dX0_search_14 : decode cX0_search 14 = .ok (.bastore, 1) := by decide +kernel
theorem dX0_search_15 : decode cX0_search 15 = .ok (.aload_n 0, 1) := by decide +kernel
theorem dX0_search_16 : decode cX0_search 16 = .ok (.getfield 20, 3) := by decide +kernel
theorem dX0_search_19 : decode cX0_search 19 = .ok (.iload_n 2, 1) := by decide +kernel
theorem dX0_search_20 : decode cX0_search 20 = .ok (.iconst (-1), 1) := by decide +kernel
theorem dX0_search_21 : decode cX0_search 21 = .ok (.iastore, 1) := by decide +kernel
theorem dX0_search_22 : decode cX0_search 22 = .ok (.aload_n 0, 1) := by decide +kernel
theorem dX0_search_23 : decode cX0_search 23 = .ok (.getfield 23, 3) := by decide +kernel
theorem dX0_search_26 : decode cX0_search 26 = .ok (.iload_n 2, 1) := by decide +kernel
theorem dX0_search_27 : decode cX0_search 27 = .ok (.iload_n 2, 1) := by decide +kernel
theorem dX0_search_28 : decode cX0_search 28 = .ok (.iastore, 1) := by decide +kernel
theorem dX0_search_29 : decode cX0_search 29 = .ok (.iinc 2 1, 3) := by decide +kernel
theorem dX0_search_32 : decode cX0_search 32 = .ok (.goto (-30), 3) := by decide +kernel
theorem dX0_search_35 : decode cX0_search 35 = .ok (.aload_n 0, 1) := by decide +kernel
theorem dX0_search_36 : decode cX0_search 36 = .ok (.iconst 0, 1) := by decide +kernel
theorem dX0_search_37 : decode cX0_search 37 = .ok (.putfield 74, 3) := by decide +kernel
theorem dX0_search_40 : decode cX0_search 40 = .ok (.aload_n 0, 1) := by decide +kernel
theorem dX0_search_41 : decode cX0_search 41 = .ok (.iload_n 1, 1) := by decide +kernel
theorem dX0_search_42 : decode cX0_search 42 = .ok (.invokevirtual 77, 3) := by decide +kernel
theorem dX0_search_45 : decode cX0_search 45 = .ok (.iconst 0, 1) := by decide +kernel
theorem dX0_search_46 : decode cX0_search 46 = .ok (.istore_n 2, 1) := by decide +kernel
theorem dX0_search_47 : decode cX0_search 47 = .ok (.iload_n 2, 1) := by decide +kernel
theorem dX0_search_48 : decode cX0_search 48 = .ok (.aload_n 0, 1) := by decide +kernel
theorem dX0_search_49 : decode cX0_search 49 = .ok (.getfield 74, 3) := by decide +kernel
theorem dX0_search_52 : decode cX0_search 52 = .ok (.if_icmp .ge 92, 3) := by decide +kernel
theorem dX0_search_55 : decode cX0_search 55 = .ok (.iload_n 2, 1) := by decide +kernel
theorem dX0_search_56 : decode cX0_search 56 = .ok (.bipush 10, 2) := by decide +kernel
theorem dX0_search_58 : decode cX0_search 58 = .ok (.if_icmp .ge 86, 3) := by decide +kernel
theorem dX0_search_61 : decode cX0_search 61 = .ok (.iconst 0, 1) := by decide +kernel
theorem dX0_search_62 : decode cX0_search 62 = .ok (.istore_n 3, 1) := by decide +kernel
theorem dX0_search_63 : decode cX0_search 63 = .ok (.iload_n 3, 1) := by decide +kernel
theorem dX0_search_64 : decode cX0_search 64 = .ok (.bipush 10, 2) := by decide +kernel
theorem dX0_search_66 : decode cX0_search 66 = .ok (.if_icmp .ge 72, 3) := by decide +kernel
theorem dX0_search_69 : decode cX0_search 69 = .ok (.aload_n 0, 1) := by decide +kernel
theorem dX0_search_70 : decode cX0_search 70 = .ok (.aload_n 0, 1) := by decide +kernel
theorem dX0_search_71 : decode cX0_search 71 = .ok (.getfield 32, 3) := by decide +kernel
theorem dX0_search_74 : decode cX0_search 74 = .ok (.iload_n 2, 1) := by decide +kernel
theorem dX0_search_75 : decode cX0_search 75 = .ok (.iaload, 1) := by decide +kernel
theorem dX0_search_76 : decode cX0_search 76 = .ok (.iload_n 3, 1) := by decide +kernel
theorem dX0_search_77 : decode cX0_search 77 = .ok (.invokevirtual 39, 3) := by decide +kernel
theorem dX0_search_80 : decode cX0_search 80 = .ok (.ifCond .eq 18, 3) := by decide +kernel
theorem dX0_search_83 : decode cX0_search 83 = .ok (.aload_n 0, 1) := by decide +kernel
theorem dX0_search_84 : decode cX0_search 84 = .ok (.getfield 63, 3) := by decide +kernel
theorem dX0_search_87 : decode cX0_search 87 = .ok (.iload_n 3, 1) := by decide +kernel
theorem dX0_search_88 : decode cX0_search 88 = .ok (.iushr, 1) := by decide +kernel
theorem dX0_search_89 : decode cX0_search 89 = .ok (.iconst 1, 1) := by decide +kernel
theorem dX0_search_90 : decode cX0_search 90 = .ok (.iand, 1) := by decide +kernel
theorem dX0_search_91 : decode cX0_search 91 = .ok (.ifCond .ne 7, 3) := by decide +kernel
theorem dX0_search_94 : decode cX0_search 94 = .ok (.iconst 1, 1) := by decide +kernel
theorem dX0_search_95 : decode cX0_search 95 = .ok (.goto 4, 3) := by decide +kernel
theorem dX0_search_98 : decode cX0_search 98 = .ok (.iconst 0, 1) := by decide +kernel
theorem dX0_search_99 : decode cX0_search 99 = .ok (.istore 4, 2) := by decide +kernel
theorem dX0_search_101 : decode cX0_search 101 = .ok (.iload 4, 2) := by decide +kernel
theorem dX0_search_103 : decode cX0_search 103 = .ok (.ifCond .eq 18, 3) := by decide +kernel
theorem dX0_search_106 : decode cX0_search 106 = .ok (.aload_n 0, 1) := by decide +kernel
theorem dX0_search_107 : decode cX0_search 107 = .ok (.aload_n 0, 1) := by decide +kernel
theorem dX0_search_108 : decode cX0_search 108 = .ok (.getfield 32, 3) := by decide +kernel
theorem dX0_search_111 : decode cX0_search 111 = .ok (.iload_n 2, 1) := by decide +kernel
theorem dX0_search_112 : decode cX0_search 112 = .ok (.iaload, 1) := by decide +kernel
theorem dX0_search_113 : decode cX0_search 113 = .ok (.iload_n 3, 1) := by decide +kernel
theorem dX0_search_114 : decode cX0_search 114 = .ok (.iload_n 1, 1) := by decide +kernel
theorem dX0_search_115 : decode cX0_search 115 = .ok (.invokevirtual 80, 3) := by decide +kernel
theorem dX0_search_118 : decode cX0_search 118 = .ok (.goto 4, 3) := by decide +kernel
theorem dX0_search_121 : decode cX0_search 121 = .ok (.iconst (-1), 1) := by decide +kernel
theorem dX0_search_122 : decode cX0_search 122 = .ok (.istore 5, 2) := by decide +kernel
theorem dX0_search_124 : decode cX0_search 124 = .ok (.iload 5, 2) := by decide +kernel
theorem dX0_search_126 : decode cX0_search 126 = .ok (.ifCond .lt 6, 3) := by decide +kernel
theorem dX0_search_129 : decode cX0_search 129 = .ok (.iload 5, 2) := by decide +kernel
theorem dX0_search_131 : decode cX0_search 131 = .ok (.ireturn, 1) := by decide +kernel
theorem dX0_search_132 : decode cX0_search 132 = .ok (.iinc 3 1, 3) := by decide +kernel
theorem dX0_search_135 : decode cX0_search 135 = .ok (.goto (-72), 3) := by decide +kernel
theorem dX0_search_138 : decode cX0_search 138 = .ok (.iinc 2 1, 3) := by decide +kernel
theorem dX0_search_141 : decode cX0_search 141 = .ok (.goto (-94), 3) := by decide +kernel
theorem dX0_search_144 : decode cX0_search 144 = .ok (.iconst (-1), 1) := by decide +kernel
end
section
set_option maxRecDepth 100000
theorem dX0_search_145 : decode cX0_search 145 = .ok (.ireturn, 1) := by decide +kernel
theorem dX0_makeOuter_0 : decode cX0_makeOuter 0 = .ok (.aload_n 0, 1) := by decide +kernel
theorem dX0_makeOuter_1 : decode cX0_makeOuter 1 = .ok (.getfield 16, 3) := by decide +kernel
theorem dX0_makeOuter_4 : decode cX0_makeOuter 4 = .ok (.iload_n 1, 1) := by decide +kernel
theorem dX0_makeOuter_5 : decode cX0_makeOuter 5 = .ok (.baload, 1) := by decide +kernel
theorem dX0_makeOuter_6 : decode cX0_makeOuter 6 = .ok (.ifCond .ne 30, 3) := by decide +kernel
theorem dX0_makeOuter_9 : decode cX0_makeOuter 9 = .ok (.aload_n 0, 1) := by decide +kernel
theorem dX0_makeOuter_10 : decode cX0_makeOuter 10 = .ok (.getfield 16, 3) := by decide +kernel
theorem dX0_makeOuter_13 : decode cX0_makeOuter 13 = .ok (.iload_n 1, 1) := by decide +kernel
theorem dX0_makeOuter_14 : decode cX0_makeOuter 14 = .ok (.iconst 1, 1) := by decide +kernel
theorem dX0_makeOuter_15 : decode cX0_makeOuter 15 = .ok (.bastore, 1) := by decide +kernel
theorem dX0_makeOuter_16 : decode cX0_makeOuter 16 = .ok (.aload_n 0, 1) := by decide +kernel
theorem dX0_makeOuter_17 : decode cX0_makeOuter 17 = .ok (.getfield 32, 3) := by decide +kernel
theorem dX0_makeOuter_20 : decode cX0_makeOuter 20 = .ok (.aload_n 0, 1) := by decide +kernel
theorem dX0_makeOuter_21 : decode cX0_makeOuter 21 = .ok (.getfield 74, 3) := by decide +kernel
theorem dX0_makeOuter_24 : decode cX0_makeOuter 24 = .ok (.iload_n 1, 1) := by decide +kernel
theorem dX0_makeOuter_25 : decode cX0_makeOuter 25 = .ok (.iastore, 1) := by decide +kernel
theorem dX0_makeOuter_26 : decode cX0_makeOuter 26 = .ok (.aload_n 0, 1) := by decide +kernel
theorem dX0_makeOuter_27 : decode cX0_makeOuter 27 = .ok (.dup, 1) := by decide +kernel
theorem dX0_makeOuter_28 : decode cX0_makeOuter 28 = .ok (.getfield 74, 3) := by decide +kernel
theorem dX0_makeOuter_31 : decode cX0_makeOuter 31 = .ok (.iconst 1, 1) := by decide +kernel
theorem dX0_makeOuter_32 : decode cX0_makeOuter 32 = .ok (.iadd, 1) := by decide +kernel
theorem dX0_makeOuter_33 : decode cX0_makeOuter 33 = .ok (.putfield 74, 3) := by decide +kernel
theorem dX0_makeOuter_36 : decode cX0_makeOuter 36 = .ok (.return_, 1) := by decide +kernel
theorem dX0_follow_0 : decode cX0_follow 0 = .ok (.aload_n 0, 1) := by decide +kernel
theorem dX0_follow_1 : decode cX0_follow 1 = .ok (.getfield 23, 3) := by decide +kernel
theorem dX0_follow_4 : decode cX0_follow 4 = .ok (.iload_n 1, 1) := by decide +kernel
theorem dX0_follow_5 : decode cX0_follow 5 = .ok (.iaload, 1) := by decide +kernel
theorem dX0_follow_6 : decode cX0_follow 6 = .ok (.aload_n 0, 1) := by decide +kernel
theorem dX0_follow_7 : decode cX0_follow 7 = .ok (.getfield 23, 3) := by decide +kernel
theorem dX0_follow_10 : decode cX0_follow 10 = .ok (.iload_n 2, 1) := by decide +kernel
theorem dX0_follow_11 : decode cX0_follow 11 = .ok (.iaload, 1) := by decide +kernel
theorem dX0_follow_12 : decode cX0_follow 12 = .ok (.if_icmp .eq 13, 3) := by decide +kernel
theorem dX0_follow_15 : decode cX0_follow 15 = .ok (.aload_n 0, 1) := by decide +kernel
theorem dX0_follow_16 : decode cX0_follow 16 = .ok (.getfield 13, 3) := by decide +kernel
theorem dX0_follow_19 : decode cX0_follow 19 = .ok (.iload_n 1, 1) := by decide +kernel
theorem dX0_follow_20 : decode cX0_follow 20 = .ok (.iaload, 1) := by decide +kernel
theorem dX0_follow_21 : decode cX0_follow 21 = .ok (.iload_n 2, 1) := by decide +kernel
theorem dX0_follow_22 : decode cX0_follow 22 = .ok (.if_icmp .ne 5, 3) := by decide +kernel
theorem dX0_follow_25 : decode cX0_follow 25 = .ok (.iconst (-1), 1) := by decide +kernel
theorem dX0_follow_26 : decode cX0_follow 26 = .ok (.ireturn, 1) := by decide +kernel
theorem dX0_follow_27 : decode cX0_follow 27 = .ok (.iload_n 2, 1) := by decide +kernel
theorem dX0_follow_28 : decode cX0_follow 28 = .ok (.iload_n 3, 1) := by decide +kernel
theorem dX0_follow_29 : decode cX0_follow 29 = .ok (.if_icmp .eq 26, 3) := by decide +kernel
theorem dX0_follow_32 : decode cX0_follow 32 = .ok (.aload_n 0, 1) := by decide +kernel
theorem dX0_follow_33 : decode cX0_follow 33 = .ok (.getfield 13, 3) := by decide +kernel
theorem dX0_follow_36 : decode cX0_follow 36 = .ok (.iload_n 2, 1) := by decide +kernel
theorem dX0_follow_37 : decode cX0_follow 37 = .ok (.iaload, 1) := by decide +kernel
theorem dX0_follow_38 : decode cX0_follow 38 = .ok (.ifCond .lt 21, 3) := by decide +kernel
theorem dX0_follow_41 : decode cX0_follow 41 = .ok (.aload_n 0, 1) := by decide +kernel
theorem dX0_follow_42 : decode cX0_follow 42 = .ok (.getfield 20, 3) := by decide +kernel
theorem dX0_follow_45 : decode cX0_follow 45 = .ok (.aload_n 0, 1) := by decide +kernel
theorem dX0_follow_46 : decode cX0_follow 46 = .ok (.getfield 13, 3) := by decide +kernel
theorem dX0_follow_49 : decode cX0_follow 49 = .ok (.iload_n 2, 1) := by decide +kernel
theorem dX0_follow_50 : decode cX0_follow 50 = .ok (.iaload, 1) := by decide +kernel
theorem dX0_follow_51 : decode cX0_follow 51 = .ok (.iaload, 1) := by decide +kernel
theorem dX0_follow_52 : decode cX0_follow 52 = .ok (.ifCond .lt 7, 3) := by decide +kernel
theorem dX0_follow_55 : decode cX0_follow 55 = .ok (.iconst 1, 1) := by decide +kernel
theorem dX0_follow_56 : decode cX0_follow 56 = .ok (.goto 4, 3) := by decide +kernel
theorem dX0_follow_59 : decode cX0_follow 59 = .ok (.iconst 0, 1) := by decide +kernel
theorem dX0_follow_60 : decode cX0_follow 60 = .ok (.istore 4, 2) := by decide +kernel
theorem dX0_follow_62 : decode cX0_follow 62 = .ok (.iload 4, 2) := by decide +kernel
theorem dX0_follow_64 : decode cX0_follow 64 = .ok (.ifCond .eq 12, 3) := by decide +kernel
theorem dX0_follow_67 : decode cX0_follow 67 = .ok (.aload_n 0, 1) := by decide +kernel
theorem dX0_follow_68 : decode cX0_follow 68 = .ok (.iload_n 1, 1) := by decide +kernel
theorem dX0_follow_69 : decode cX0_follow 69 = .ok (.iload_n 2, 1) := by decide +kernel
theorem dX0_follow_70 : decode cX0_follow 70 = .ok (.invokevirtual 84, 3) := by decide +kernel
theorem dX0_follow_73 : decode cX0_follow 73 = .ok (.goto 40, 3) := by decide +kernel
theorem dX0_follow_76 : decode cX0_follow 76 = .ok (.aload_n 0, 1) := by decide +kernel
theorem dX0_follow_77 : decode cX0_follow 77 = .ok (.getfield 20, 3) := by decide +kernel
theorem dX0_follow_80 : decode cX0_follow 80 = .ok (.iload_n 2, 1) := by decide +kernel
theorem dX0_follow_81 : decode cX0_follow 81 = .ok (.iaload, 1) := by decide +kernel
theorem dX0_follow_82 : decode cX0_follow 82 = .ok (.ifCond .ge 31, 3) := by decide +kernel
theorem dX0_follow_85 : decode cX0_follow 85 = .ok (.aload_n 0, 1) := by decide +kernel
theorem dX0_follow_86 : decode cX0_follow 86 = .ok (.getfield 20, 3) := by decide +kernel
theorem dX0_follow_89 : decode cX0_follow 89 = .ok (.iload_n 2, 1) := by decide +kernel
theorem dX0_follow_90 : decode cX0_follow 90 = .ok (.iload_n 1, 1) := by decide +kernel
theorem dX0_follow_91 : decode cX0_follow 91 = .ok (.iastore, 1) := by decide +kernel
theorem dX0_follow_92 : decode cX0_follow 92 = .ok (.aload_n 0, 1) := by decide +kernel
theorem dX0_follow_93 : decode cX0_follow 93 = .ok (.getfield 13, 3) := by decide +kernel
theorem dX0_follow_96 : decode cX0_follow 96 = .ok (.iload_n 2, 1) := by decide +kernel
theorem dX0_follow_97 : decode cX0_follow 97 = .ok (.iaload, 1) := by decide +kernel
theorem dX0_follow_98 : decode cX0_follow 98 = .ok (.ifCond .ge 5, 3) := by decide +kernel
theorem dX0_follow_101 : decode cX0_follow 101 = .ok (.iload_n 2, 1) := by decide +kernel
theorem dX0_follow_102 : decode cX0_follow 102 = .ok (.ireturn, 1) := by decide +kernel
theorem dX0_follow_103 : decode cX0_follow 103 = .ok (.aload_n 0, 1) := by decide +kernel
theorem dX0_follow_104 : decode cX0_follow 104 = .ok (.aload_n 0, 1) := by decide +kernel
theorem dX0_follow_105 : decode cX0_follow 105 = .ok (.getfield 13, 3) := by decide +kernel
theorem dX0_follow_108 : decode cX0_follow 108 = .ok (.iload_n 2, 1) := by decide +kernel
theorem dX0_follow_109 : decode cX0_follow 109 = .ok (.iaload, 1) := by decide +kernel
theorem dX0_follow_110 : decode cX0_follow 110 = .ok (.invokevirtual 77, 3) := by decide +kernel
theorem dX0_follow_113 : decode cX0_follow 113 = .ok (.iconst (-1), 1) := by decide +kernel
theorem dX0_follow_114 : decode cX0_follow 114 = .ok (.ireturn, 1) := by decide +kernel
theorem dX0_drawTogether_0 : decode cX0_drawTogether 0 = .ok (.aload_n 0, 1) := by decide +kernel
theorem dX0_drawTogether_1 : decode cX0_drawTogether 1 = .ok (.iload_n 1, 1) := by decide +kernel
theorem dX0_drawTogether_2 : decode cX0_drawTogether 2 = .ok (.iload_n 2, 1) := by decide +kernel
theorem dX0_drawTogether_3 : decode cX0_drawTogether 3 = .ok (.invokevirtual 88, 3) := by decide +kernel
theorem dX0_drawTogether_6 : decode cX0_drawTogether 6 = .ok (.istore_n 3, 1) := by decide +kernel
theorem dX0_drawTogether_7 : decode cX0_drawTogether 7 = .ok (.iconst 0, 1) := by decide +kernel
theorem dX0_drawTogether_8 : decode cX0_drawTogether 8 = .ok (.istore 4, 2) := by decide +kernel
theorem dX0_drawTogether_10 : decode cX0_drawTogether 10 = .ok (.iload 4, 2) := by decide +kernel
theorem dX0_drawTogether_12 : decode cX0_drawTogether 12 = .ok (.bipush 10, 2) := by decide +kernel
theorem dX0_drawTogether_14 : decode cX0_drawTogether 14 = .ok (.if_icmp .ge 17, 3) := by decide +kernel
theorem dX0_drawTogether_17 : decode cX0_drawTogether 17 = .ok (.aload_n 0, 1) := by decide +kernel
theorem dX0_drawTogether_18 : decode cX0_drawTogether 18 = .ok (.getfield 26, 3) := by decide +kernel
theorem dX0_drawTogether_21 : decode cX0_drawTogether 21 = .ok (.iload 4, 2) := by decide +kernel
theorem dX0_drawTogether_23 : decode cX0_drawTogether 23 = .ok (.iconst 0, 1) := by decide +kernel
theorem dX0_drawTogether_24 : decode cX0_drawTogether 24 = .ok (.bastore, 1) := by decide +kernel
theorem dX0_drawTogether_25 : decode cX0_drawTogether 25 = .ok (.iinc 4 1, 3) := by decide +kernel
theorem dX0_drawTogether_28 : decode cX0_drawTogether 28 = .ok (.goto (-18), 3) := by decide +kernel
theorem dX0_drawTogether_31 : decode cX0_drawTogether 31 = .ok (.aload_n 0, 1) := by decide +kernel
theorem dX0_drawTogether_32 : decode cX0_drawTogether 32 = .ok (.iload_n 1, 1) := by decide +kernel
theorem dX0_drawTogether_33 : decode cX0_drawTogether 33 = .ok (.iload_n 3, 1) := by decide +kernel
theorem dX0_drawTogether_34 : decode cX0_drawTogether 34 = .ok (.iload_n 2, 1) := by decide +kernel
theorem dX0_drawTogether_35 : decode cX0_drawTogether 35 = .ok (.invokevirtual 91, 3) := by decide +kernel
theorem dX0_drawTogether_38 : decode cX0_drawTogether 38 = .ok (.aload_n 0, 1) := by decide +kernel
theorem dX0_drawTogether_39 : decode cX0_drawTogether 39 = .ok (.iload_n 2, 1) := by decide +kernel
theorem dX0_drawTogether_40 : decode cX0_drawTogether 40 = .ok (.iload_n 3, 1) := by decide +kernel
theorem dX0_drawTogether_41 : decode cX0_drawTogether 41 = .ok (.iload_n 1, 1) := by decide +kernel
theorem dX0_drawTogether_42 : decode cX0_drawTogether 42 = .ok (.invokevirtual 91, 3) := by decide +kernel
theorem dX0_drawTogether_45 : decode cX0_drawTogether 45 = .ok (.iconst 0, 1) := by decide +kernel
theorem dX0_drawTogether_46 : decode cX0_drawTogether 46 = .ok (.istore 4, 2) := by decide +kernel
theorem dX0_drawTogether_48 : decode cX0_drawTogether 48 = .ok (.iload 4, 2) := by decide +kernel
theorem dX0_drawTogether_50 : decode cX0_drawTogether 50 = .ok (.bipush 10, 2) := by decide +kernel
theorem dX0_drawTogether_52 : decode cX0_drawTogether 52 = .ok (.if_icmp .ge 38, 3) := by decide +kernel
theorem dX0_drawTogether_55 : decode cX0_drawTogether 55 = .ok (.aload_n 0, 1) := by decide +kernel
theorem dX0_drawTogether_56 : decode cX0_drawTogether 56 = .ok (.getfield 26, 3) := by decide +kernel
theorem dX0_drawTogether_59 : decode cX0_drawTogether 59 = .ok (.aload_n 0, 1) := by decide +kernel
theorem dX0_drawTogether_60 : decode cX0_drawTogether 60 = .ok (.getfield 23, 3) := by decide +kernel
theorem dX0_drawTogether_63 : decode cX0_drawTogether 63 = .ok (.iload 4, 2) := by decide +kernel
theorem dX0_drawTogether_65 : decode cX0_drawTogether 65 = .ok (.iaload, 1) := by decide +kernel
theorem dX0_drawTogether_66 : decode cX0_drawTogether 66 = .ok (.baload, 1) := by decide +kernel
theorem dX0_drawTogether_67 : decode cX0_drawTogether 67 = .ok (.ifCond .eq 17, 3) := by decide +kernel
theorem dX0_drawTogether_70 : decode cX0_drawTogether 70 = .ok (.aload_n 0, 1) := by decide +kernel
theorem dX0_drawTogether_71 : decode cX0_drawTogether 71 = .ok (.getfield 23, 3) := by decide +kernel
theorem dX0_drawTogether_74 : decode cX0_drawTogether 74 = .ok (.iload 4, 2) := by decide +kernel
theorem dX0_drawTogether_76 : decode cX0_drawTogether 76 = .ok (.iload_n 3, 1) := by decide +kernel
theorem dX0_drawTogether_77 : decode cX0_drawTogether 77 = .ok (.iastore, 1) := by decide +kernel
theorem dX0_drawTogether_78 : decode cX0_drawTogether 78 = .ok (.aload_n 0, 1) := by decide +kernel
theorem dX0_drawTogether_79 : decode cX0_drawTogether 79 = .ok (.iload 4, 2) := by decide +kernel
theorem dX0_drawTogether_81 : decode cX0_drawTogether 81 = .ok (.invokevirtual 77, 3) := by decide +kernel
theorem dX0_drawTogether_84 : decode cX0_drawTogether 84 = .ok (.iinc 4 1, 3) := by decide +kernel
theorem dX0_drawTogether_87 : decode cX0_drawTogether 87 = .ok (.goto (-39), 3) := by decide +kernel
theorem dX0_drawTogether_90 : decode cX0_drawTogether 90 = .ok (.return_, 1) := by decide +kernel
theorem dX0_meetingBase_0 : decode cX0_meetingBase 0 = .ok (.iconst 0, 1) := by decide +kernel
theorem dX0_meetingBase_1 : decode cX0_meetingBase 1 = .ok (.istore_n 3, 1) := by decide +kernel
theorem dX0_meetingBase_2 : decode cX0_meetingBase 2 = .ok (.iload_n 3, 1) := by decide +kernel
theorem dX0_meetingBase_3 : decode cX0_meetingBase 3 = .ok (.bipush 10, 2) := by decide +kernel
theorem dX0_meetingBase_5 : decode cX0_meetingBase 5 = .ok (.if_icmp .ge 16, 3) := by decide +kernel
theorem dX0_meetingBase_8 : decode cX0_meetingBase 8 = .ok (.aload_n 0, 1) := by decide +kernel
theorem dX0_meetingBase_9 : decode cX0_meetingBase 9 = .ok (.getfield 29, 3) := by decide +kernel
theorem dX0_meetingBase_12 : decode cX0_meetingBase 12 = .ok (.iload_n 3, 1) := by decide +kernel
theorem dX0_meetingBase_13 : decode cX0_meetingBase 13 = .ok (.iconst 0, 1) := by decide +kernel
theorem dX0_meetingBase_14 : decode cX0_meetingBase 14 = .ok (.bastore, 1) := by decide +kernel
theorem dX0_meetingBase_15 : decode cX0_meetingBase 15 = .ok (.iinc 3 1, 3) := by decide +kernel
theorem dX0_meetingBase_18 : decode cX0_meetingBase 18 = .ok (.goto (-16), 3) := by decide +kernel
theorem dX0_meetingBase_21 : decode cX0_meetingBase 21 = .ok (.aload_n 0, 1) := by decide +kernel
theorem dX0_meetingBase_22 : decode cX0_meetingBase 22 = .ok (.getfield 23, 3) := by decide +kernel
theorem dX0_meetingBase_25 : decode cX0_meetingBase 25 = .ok (.iload_n 1, 1) := by decide +kernel
theorem dX0_meetingBase_26 : decode cX0_meetingBase 26 = .ok (.iaload, 1) := by decide +kernel
theorem dX0_meetingBase_27 : decode cX0_meetingBase 27 = .ok (.istore_n 3, 1) := by decide +kernel
theorem dX0_meetingBase_28 : decode cX0_meetingBase 28 = .ok (.aload_n 0, 1) := by decide +kernel
theorem dX0_meetingBase_29 : decode cX0_meetingBase 29 = .ok (.getfield 29, 3) := by decide +kernel
theorem dX0_meetingBase_32 : decode cX0_meetingBase 32 = .ok (.iload_n 3, 1) := by decide +kernel
theorem dX0_meetingBase_33 : decode cX0_meetingBase 33 = .ok (.iconst 1, 1) := by decide +kernel
theorem dX0_meetingBase_34 : decode cX0_meetingBase 34 = .ok (.bastore, 1) := by decide +kernel
theorem dX0_meetingBase_35 : decode cX0_meetingBase 35 = .ok (.iconst 0, 1) := by decide +kernel
theorem dX0_meetingBase_36 : decode cX0_meetingBase 36 = .ok (.istore 4, 2) := by decide +kernel
theorem dX0_meetingBase_38 : decode cX0_meetingBase 38 = .ok (.iload 4, 2) := by decide +kernel
theorem dX0_meetingBase_40 : decode cX0_meetingBase 40 = .ok (.bipush 10, 2) := by decide +kernel
theorem dX0_meetingBase_42 : decode cX0_meetingBase 42 = .ok (.if_icmp .ge 42, 3) := by decide +kernel
theorem dX0_meetingBase_45 : decode cX0_meetingBase 45 = .ok (.aload_n 0, 1) := by decide +kernel
theorem dX0_meetingBase_46 : decode cX0_meetingBase 46 = .ok (.getfield 13, 3) := by decide +kernel
theorem dX0_meetingBase_49 : decode cX0_meetingBase 49 = .ok (.iload_n 3, 1) := by decide +kernel
theorem dX0_meetingBase_50 : decode cX0_meetingBase 50 = .ok (.iaload, 1) := by decide +kernel
theorem dX0_meetingBase_51 : decode cX0_meetingBase 51 = .ok (.ifCond .lt 33, 3) := by decide +kernel
theorem dX0_meetingBase_54 : decode cX0_meetingBase 54 = .ok (.aload_n 0, 1) := by decide +kernel
theorem dX0_meetingBase_55 : decode cX0_meetingBase 55 = .ok (.getfield 23, 3) := by decide +kernel
theorem dX0_meetingBase_58 : decode cX0_meetingBase 58 = .ok (.aload_n 0, 1) := by decide +kernel
theorem dX0_meetingBase_59 : decode cX0_meetingBase 59 = .ok (.getfield 20, 3) := by decide +kernel
theorem dX0_meetingBase_62 : decode cX0_meetingBase 62 = .ok (.aload_n 0, 1) := by decide +kernel
theorem dX0_meetingBase_63 : decode cX0_meetingBase 63 = .ok (.getfield 13, 3) := by decide +kernel
theorem dX0_meetingBase_66 : decode cX0_meetingBase 66 = .ok (.iload_n 3, 1) := by decide +kernel
theorem dX0_meetingBase_67 : decode cX0_meetingBase 67 = .ok (.iaload, 1) := by decide +kernel
theorem dX0_meetingBase_68 : decode cX0_meetingBase 68 = .ok (.iaload, 1) := by decide +kernel
theorem dX0_meetingBase_69 : decode cX0_meetingBase 69 = .ok (.iaload, 1) := by decide +kernel
theorem dX0_meetingBase_70 : decode cX0_meetingBase 70 = .ok (.istore_n 3, 1) := by decide +kernel
theorem dX0_meetingBase_71 : decode cX0_meetingBase 71 = .ok (.aload_n 0, 1) := by decide +kernel
theorem dX0_meetingBase_72 : decode cX0_meetingBase 72 = .ok (.getfield 29, 3) := by decide +kernel
theorem dX0_meetingBase_75 : decode cX0_meetingBase 75 = .ok (.iload_n 3, 1) := by decide +kernel
theorem dX0_meetingBase_76 : decode cX0_meetingBase 76 = .ok (.iconst 1, 1) := by decide +kernel
theorem dX0_meetingBase_77 : decode cX0_meetingBase 77 = .ok (.bastore, 1) := by decide +kernel
theorem dX0_meetingBase_78 : decode cX0_meetingBase 78 = .ok (.iinc 4 1, 3) := by decide +kernel
theorem dX0_meetingBase_81 : decode cX0_meetingBase 81 = .ok (.goto (-43), 3) := by decide +kernel
theorem dX0_meetingBase_84 : decode cX0_meetingBase 84 = .ok (.aload_n 0, 1) := by decide +kernel
theorem dX0_meetingBase_85 : decode cX0_meetingBase 85 = .ok (.getfield 23, 3) := by decide +kernel
theorem dX0_meetingBase_88 : decode cX0_meetingBase 88 = .ok (.iload_n 2, 1) := by decide +kernel
theorem dX0_meetingBase_89 : decode cX0_meetingBase 89 = .ok (.iaload, 1) := by decide +kernel
theorem dX0_meetingBase_90 : decode cX0_meetingBase 90 = .ok (.istore 4, 2) := by decide +kernel
theorem dX0_meetingBase_92 : decode cX0_meetingBase 92 = .ok (.iconst 0, 1) := by decide +kernel
theorem dX0_meetingBase_93 : decode cX0_meetingBase 93 = .ok (.istore 5, 2) := by decide +kernel
theorem dX0_meetingBase_95 : decode cX0_meetingBase 95 = .ok (.iload 5, 2) := by decide +kernel
theorem dX0_meetingBase_97 : decode cX0_meetingBase 97 = .ok (.bipush 10, 2) := by decide +kernel
theorem dX0_meetingBase_99 : decode cX0_meetingBase 99 = .ok (.if_icmp .ge 38, 3) := by decide +kernel
theorem dX0_meetingBase_102 : decode cX0_meetingBase 102 = .ok (.aload_n 0, 1) := by decide +kernel
theorem dX0_meetingBase_103 : decode cX0_meetingBase 103 = .ok (.getfield 29, 3) := by decide +kernel
theorem dX0_meetingBase_106 : decode cX0_meetingBase 106 = .ok (.iload 4, 2) := by decide +kernel
theorem dX0_meetingBase_108 : decode cX0_meetingBase 108 = .ok (.baload, 1) := by decide +kernel
theorem dX0_meetingBase_109 : decode cX0_meetingBase 109 = .ok (.ifCond .ne 28, 3) := by decide +kernel
theorem dX0_meetingBase_112 : decode cX0_meetingBase 112 = .ok (.aload_n 0, 1) := by decide +kernel
theorem dX0_meetingBase_113 : decode cX0_meetingBase 113 = .ok (.getfield 23, 3) := by decide +kernel
theorem dX0_meetingBase_116 : decode cX0_meetingBase 116 = .ok (.aload_n 0, 1) := by decide +kernel
theorem dX0_meetingBase_117 : decode cX0_meetingBase 117 = .ok (.getfield 20, 3) := by decide +kernel
theorem dX0_meetingBase_120 : decode cX0_meetingBase 120 = .ok (.aload_n 0, 1) := by decide +kernel
theorem dX0_meetingBase_121 : decode cX0_meetingBase 121 = .ok (.getfield 13, 3) := by decide +kernel
theorem dX0_meetingBase_124 : decode cX0_meetingBase 124 = .ok (.iload 4, 2) := by decide +kernel
theorem dX0_meetingBase_126 : decode cX0_meetingBase 126 = .ok (.iaload, 1) := by decide +kernel
theorem dX0_meetingBase_127 : decode cX0_meetingBase 127 = .ok (.iaload, 1) := by decide +kernel
theorem dX0_meetingBase_128 : decode cX0_meetingBase 128 = .ok (.iaload, 1) := by decide +kernel
theorem dX0_meetingBase_129 : decode cX0_meetingBase 129 = .ok (.istore 4, 2) := by decide +kernel
theorem dX0_meetingBase_131 : decode cX0_meetingBase 131 = .ok (.iinc 5 1, 3) := by decide +kernel
theorem dX0_meetingBase_134 : decode cX0_meetingBase 134 = .ok (.goto (-39), 3) := by decide +kernel
theorem dX0_meetingBase_137 : decode cX0_meetingBase 137 = .ok (.iload 4, 2) := by decide +kernel
theorem dX0_meetingBase_139 : decode cX0_meetingBase 139 = .ok (.ireturn, 1) := by decide +kernel
theorem dX0_markWay_0 : decode cX0_markWay 0 = .ok (.iload_n 1, 1) := by decide +kernel
theorem dX0_markWay_1 : decode cX0_markWay 1 = .ok (.istore 4, 2) := by decide +kernel
theorem dX0_markWay_3 : decode cX0_markWay 3 = .ok (.iload_n 3, 1) := by decide +kernel
theorem dX0_markWay_4 : decode cX0_markWay 4 = .ok (.istore 5, 2) := by decide +kernel
theorem dX0_markWay_6 : decode cX0_markWay 6 = .ok (.iconst 0, 1) := by decide +kernel
theorem dX0_markWay_7 : decode cX0_markWay 7 = .ok (.istore 6, 2) := by decide +kernel
theorem dX0_markWay_9 : decode cX0_markWay 9 = .ok (.iload 6, 2) := by decide +kernel
theorem dX0_markWay_11 : decode cX0_markWay 11 = .ok (.bipush 10, 2) := by decide +kernel
theorem dX0_markWay_13 : decode cX0_markWay 13 = .ok (.if_icmp .ge 83, 3) := by decide +kernel
theorem dX0_markWay_16 : decode cX0_markWay 16 = .ok (.aload_n 0, 1) := by decide +kernel
theorem dX0_markWay_17 : decode cX0_markWay 17 = .ok (.getfield 23, 3) := by decide +kernel
theorem dX0_markWay_20 : decode cX0_markWay 20 = .ok (.iload 4, 2) := by decide +kernel
theorem dX0_markWay_22 : decode cX0_markWay 22 = .ok (.iaload, 1) := by decide +kernel
theorem dX0_markWay_23 : decode cX0_markWay 23 = .ok (.iload_n 2, 1) := by decide +kernel
theorem dX0_markWay_24 : decode cX0_markWay 24 = .ok (.if_icmp .eq 72, 3) := by decide +kernel
theorem dX0_markWay_27 : decode cX0_markWay 27 = .ok (.aload_n 0, 1) := by decide +kernel
theorem dX0_markWay_28 : decode cX0_markWay 28 = .ok (.getfield 26, 3) := by decide +kernel
theorem dX0_markWay_31 : decode cX0_markWay 31 = .ok (.aload_n 0, 1) := by decide +kernel
theorem dX0_markWay_32 : decode cX0_markWay 32 = .ok (.getfield 23, 3) := by decide +kernel
theorem dX0_markWay_35 : decode cX0_markWay 35 = .ok (.iload 4, 2) := by decide +kernel
theorem dX0_markWay_37 : decode cX0_markWay 37 = .ok (.iaload, 1) := by decide +kernel
theorem dX0_markWay_38 : decode cX0_markWay 38 = .ok (.iconst 1, 1) := by decide +kernel
theorem dX0_markWay_39 : decode cX0_markWay 39 = .ok (.bastore, 1) := by decide +kernel
theorem dX0_markWay_40 : decode cX0_markWay 40 = .ok (.aload_n 0, 1) := by decide +kernel
theorem dX0_markWay_41 : decode cX0_markWay 41 = .ok (.getfield 26, 3) := by decide +kernel
theorem dX0_markWay_44 : decode cX0_markWay 44 = .ok (.aload_n 0, 1) := by decide +kernel
theorem dX0_markWay_45 : decode cX0_markWay 45 = .ok (.getfield 23, 3) := by decide +kernel
theorem dX0_markWay_48 : decode cX0_markWay 48 = .ok (.aload_n 0, 1) := by decide +kernel
theorem dX0_markWay_49 : decode cX0_markWay 49 = .ok (.getfield 13, 3) := by decide +kernel
theorem dX0_markWay_52 : decode cX0_markWay 52 = .ok (.iload 4, 2) := by decide +kernel
theorem dX0_markWay_54 : decode cX0_markWay 54 = .ok (.iaload, 1) := by decide +kernel
theorem dX0_markWay_55 : decode cX0_markWay 55 = .ok (.iaload, 1) := by decide +kernel
theorem dX0_markWay_56 : decode cX0_markWay 56 = .ok (.iconst 1, 1) := by decide +kernel
theorem dX0_markWay_57 : decode cX0_markWay 57 = .ok (.bastore, 1) := by decide +kernel
theorem dX0_markWay_58 : decode cX0_markWay 58 = .ok (.aload_n 0, 1) := by decide +kernel
theorem dX0_markWay_59 : decode cX0_markWay 59 = .ok (.getfield 20, 3) := by decide +kernel
theorem dX0_markWay_62 : decode cX0_markWay 62 = .ok (.iload 4, 2) := by decide +kernel
theorem dX0_markWay_64 : decode cX0_markWay 64 = .ok (.iload 5, 2) := by decide +kernel
theorem dX0_markWay_66 : decode cX0_markWay 66 = .ok (.iastore, 1) := by decide +kernel
theorem dX0_markWay_67 : decode cX0_markWay 67 = .ok (.aload_n 0, 1) := by decide +kernel
theorem dX0_markWay_68 : decode cX0_markWay 68 = .ok (.getfield 13, 3) := by decide +kernel
theorem dX0_markWay_71 : decode cX0_markWay 71 = .ok (.iload 4, 2) := by decide +kernel
theorem dX0_markWay_73 : decode cX0_markWay 73 = .ok (.iaload, 1) := by decide +kernel
theorem dX0_markWay_74 : decode cX0_markWay 74 = .ok (.istore 5, 2) := by decide +kernel
theorem dX0_markWay_76 : decode cX0_markWay 76 = .ok (.aload_n 0, 1) := by decide +kernel
theorem dX0_markWay_77 : decode cX0_markWay 77 = .ok (.getfield 20, 3) := by decide +kernel
theorem dX0_markWay_80 : decode cX0_markWay 80 = .ok (.aload_n 0, 1) := by decide +kernel
theorem dX0_markWay_81 : decode cX0_markWay 81 = .ok (.getfield 13, 3) := by decide +kernel
theorem dX0_markWay_84 : decode cX0_markWay 84 = .ok (.iload 4, 2) := by decide +kernel
theorem dX0_markWay_86 : decode cX0_markWay 86 = .ok (.iaload, 1) := by decide +kernel
theorem dX0_markWay_87 : decode cX0_markWay 87 = .ok (.iaload, 1) := by decide +kernel
theorem dX0_markWay_88 : decode cX0_markWay 88 = .ok (.istore 4, 2) := by decide +kernel
theorem dX0_markWay_90 : decode cX0_markWay 90 = .ok (.iinc 6 1, 3) := by decide +kernel
theorem dX0_markWay_93 : decode cX0_markWay 93 = .ok (.goto (-84), 3) := by decide +kernel
end
section
set_option maxRecDepth 100000
theorem dX0_markWay_96 : decode cX0_markWay 96 = .ok (.return_, 1) := by decide +kernel
theorem dX0_turn_0 : decode cX0_turn 0 = .ok (.iload_n 1, 1) := by decide +kernel
theorem dX0_turn_1 : decode cX0_turn 1 = .ok (.istore_n 2, 1) := by decide +kernel
theorem dX0_turn_2 : decode cX0_turn 2 = .ok (.iconst 0, 1) := by decide +kernel
theorem dX0_turn_3 : decode cX0_turn 3 = .ok (.istore_n 3, 1) := by decide +kernel
theorem dX0_turn_4 : decode cX0_turn 4 = .ok (.iload_n 3, 1) := by decide +kernel
theorem dX0_turn_5 : decode cX0_turn 5 = .ok (.bipush 10, 2) := by decide +kernel
theorem dX0_turn_7 : decode cX0_turn 7 = .ok (.if_icmp .ge 49, 3) := by decide +kernel
theorem dX0_turn_10 : decode cX0_turn 10 = .ok (.iload_n 2, 1) := by decide +kernel
theorem dX0_turn_11 : decode cX0_turn 11 = .ok (.ifCond .lt 45, 3) := by decide +kernel
theorem dX0_turn_14 : decode cX0_turn 14 = .ok (.aload_n 0, 1) := by decide +kernel
theorem dX0_turn_15 : decode cX0_turn 15 = .ok (.getfield 20, 3) := by decide +kernel
theorem dX0_turn_18 : decode cX0_turn 18 = .ok (.iload_n 2, 1) := by decide +kernel
theorem dX0_turn_19 : decode cX0_turn 19 = .ok (.iaload, 1) := by decide +kernel
theorem dX0_turn_20 : decode cX0_turn 20 = .ok (.istore 4, 2) := by decide +kernel
theorem dX0_turn_22 : decode cX0_turn 22 = .ok (.aload_n 0, 1) := by decide +kernel
theorem dX0_turn_23 : decode cX0_turn 23 = .ok (.getfield 13, 3) := by decide +kernel
theorem dX0_turn_26 : decode cX0_turn 26 = .ok (.iload 4, 2) := by decide +kernel
theorem dX0_turn_28 : decode cX0_turn 28 = .ok (.iaload, 1) := by decide +kernel
theorem dX0_turn_29 : decode cX0_turn 29 = .ok (.istore 5, 2) := by decide +kernel
theorem dX0_turn_31 : decode cX0_turn 31 = .ok (.aload_n 0, 1) := by decide +kernel
theorem dX0_turn_32 : decode cX0_turn 32 = .ok (.getfield 13, 3) := by decide +kernel
theorem dX0_turn_35 : decode cX0_turn 35 = .ok (.iload_n 2, 1) := by decide +kernel
theorem dX0_turn_36 : decode cX0_turn 36 = .ok (.iload 4, 2) := by decide +kernel
theorem dX0_turn_38 : decode cX0_turn 38 = .ok (.iastore, 1) := by decide +kernel
theorem dX0_turn_39 : decode cX0_turn 39 = .ok (.aload_n 0, 1) := by decide +kernel
theorem dX0_turn_40 : decode cX0_turn 40 = .ok (.getfield 13, 3) := by decide +kernel
theorem dX0_turn_43 : decode cX0_turn 43 = .ok (.iload 4, 2) := by decide +kernel
theorem dX0_turn_45 : decode cX0_turn 45 = .ok (.iload_n 2, 1) := by decide +kernel
theorem dX0_turn_46 : decode cX0_turn 46 = .ok (.iastore, 1) := by decide +kernel
theorem dX0_turn_47 : decode cX0_turn 47 = .ok (.iload 5, 2) := by decide +kernel
theorem dX0_turn_49 : decode cX0_turn 49 = .ok (.istore_n 2, 1) := by decide +kernel
theorem dX0_turn_50 : decode cX0_turn 50 = .ok (.iinc 3 1, 3) := by decide +kernel
theorem dX0_turn_53 : decode cX0_turn 53 = .ok (.goto (-49), 3) := by decide +kernel
theorem dX0_turn_56 : decode cX0_turn 56 = .ok (.return_, 1) := by decide +kernel
theorem dX0_spare_0 : decode cX0_spare 0 = .ok (.iload_n 1, 1) := by decide +kernel
theorem dX0_spare_1 : decode cX0_spare 1 = .ok (.ifCond .lt 9, 3) := by decide +kernel
theorem dX0_spare_4 : decode cX0_spare 4 = .ok (.iload_n 1, 1) := by decide +kernel
theorem dX0_spare_5 : decode cX0_spare 5 = .ok (.bipush 9, 2) := by decide +kernel
theorem dX0_spare_7 : decode cX0_spare 7 = .ok (.if_icmp .le 5, 3) := by decide +kernel
theorem dX0_spare_10 : decode cX0_spare 10 = .ok (.iconst (-1), 1) := by decide +kernel
theorem dX0_spare_11 : decode cX0_spare 11 = .ok (.ireturn, 1) := by decide +kernel
theorem dX0_spare_12 : decode cX0_spare 12 = .ok (.aload_n 0, 1) := by decide +kernel
theorem dX0_spare_13 : decode cX0_spare 13 = .ok (.iconst 0, 1) := by decide +kernel
theorem dX0_spare_14 : decode cX0_spare 14 = .ok (.invokevirtual 42, 3) := by decide +kernel
theorem dX0_spare_17 : decode cX0_spare 17 = .ok (.pop, 1) := by decide +kernel
theorem dX0_spare_18 : decode cX0_spare 18 = .ok (.aload_n 0, 1) := by decide +kernel
theorem dX0_spare_19 : decode cX0_spare 19 = .ok (.invokevirtual 46, 3) := by decide +kernel
theorem dX0_spare_22 : decode cX0_spare 22 = .ok (.iload_n 1, 1) := by decide +kernel
theorem dX0_spare_23 : decode cX0_spare 23 = .ok (.iushr, 1) := by decide +kernel
theorem dX0_spare_24 : decode cX0_spare 24 = .ok (.iconst 1, 1) := by decide +kernel
theorem dX0_spare_25 : decode cX0_spare 25 = .ok (.iand, 1) := by decide +kernel
theorem dX0_spare_26 : decode cX0_spare 26 = .ok (.ireturn, 1) := by decide +kernel
theorem dX0_spares_0 : decode cX0_spares 0 = .ok (.iconst 0, 1) := by decide +kernel
theorem dX0_spares_1 : decode cX0_spares 1 = .ok (.istore_n 1, 1) := by decide +kernel
theorem dX0_spares_2 : decode cX0_spares 2 = .ok (.iconst 0, 1) := by decide +kernel
theorem dX0_spares_3 : decode cX0_spares 3 = .ok (.istore_n 2, 1) := by decide +kernel
theorem dX0_spares_4 : decode cX0_spares 4 = .ok (.iload_n 2, 1) := by decide +kernel
theorem dX0_spares_5 : decode cX0_spares 5 = .ok (.bipush 10, 2) := by decide +kernel
theorem dX0_spares_7 : decode cX0_spares 7 = .ok (.if_icmp .ge 57, 3) := by decide +kernel
theorem dX0_spares_10 : decode cX0_spares 10 = .ok (.aload_n 0, 1) := by decide +kernel
theorem dX0_spares_11 : decode cX0_spares 11 = .ok (.getfield 13, 3) := by decide +kernel
theorem dX0_spares_14 : decode cX0_spares 14 = .ok (.iload_n 2, 1) := by decide +kernel
theorem dX0_spares_15 : decode cX0_spares 15 = .ok (.iaload, 1) := by decide +kernel
theorem dX0_spares_16 : decode cX0_spares 16 = .ok (.ifCond .ge 42, 3) := by decide +kernel
theorem dX0_spares_19 : decode cX0_spares 19 = .ok (.aload_n 0, 1) := by decide +kernel
theorem dX0_spares_20 : decode cX0_spares 20 = .ok (.iload_n 2, 1) := by decide +kernel
theorem dX0_spares_21 : decode cX0_spares 21 = .ok (.invokevirtual 67, 3) := by decide +kernel
theorem dX0_spares_24 : decode cX0_spares 24 = .ok (.pop, 1) := by decide +kernel
theorem dX0_spares_25 : decode cX0_spares 25 = .ok (.iconst 0, 1) := by decide +kernel
theorem dX0_spares_26 : decode cX0_spares 26 = .ok (.istore_n 3, 1) := by decide +kernel
theorem dX0_spares_27 : decode cX0_spares 27 = .ok (.iload_n 3, 1) := by decide +kernel
theorem dX0_spares_28 : decode cX0_spares 28 = .ok (.bipush 10, 2) := by decide +kernel
theorem dX0_spares_30 : decode cX0_spares 30 = .ok (.if_icmp .ge 28, 3) := by decide +kernel
theorem dX0_spares_33 : decode cX0_spares 33 = .ok (.iload_n 1, 1) := by decide +kernel
theorem dX0_spares_34 : decode cX0_spares 34 = .ok (.aload_n 0, 1) := by decide +kernel
theorem dX0_spares_35 : decode cX0_spares 35 = .ok (.getfield 16, 3) := by decide +kernel
theorem dX0_spares_38 : decode cX0_spares 38 = .ok (.iload_n 3, 1) := by decide +kernel
theorem dX0_spares_39 : decode cX0_spares 39 = .ok (.baload, 1) := by decide +kernel
theorem dX0_spares_40 : decode cX0_spares 40 = .ok (.ifCond .eq 9, 3) := by decide +kernel
theorem dX0_spares_43 : decode cX0_spares 43 = .ok (.iconst 1, 1) := by decide +kernel
theorem dX0_spares_44 : decode cX0_spares 44 = .ok (.iload_n 3, 1) := by decide +kernel
theorem dX0_spares_45 : decode cX0_spares 45 = .ok (.ishl, 1) := by decide +kernel
theorem dX0_spares_46 : decode cX0_spares 46 = .ok (.goto 4, 3) := by decide +kernel
theorem dX0_spares_49 : decode cX0_spares 49 = .ok (.iconst 0, 1) := by decide +kernel
theorem dX0_spares_50 : decode cX0_spares 50 = .ok (.ior, 1) := by decide +kernel
theorem dX0_spares_51 : decode cX0_spares 51 = .ok (.istore_n 1, 1) := by decide +kernel
theorem dX0_spares_52 : decode cX0_spares 52 = .ok (.iinc 3 1, 3) := by decide +kernel
theorem dX0_spares_55 : decode cX0_spares 55 = .ok (.goto (-28), 3) := by decide +kernel
theorem dX0_spares_58 : decode cX0_spares 58 = .ok (.iinc 2 1, 3) := by decide +kernel
theorem dX0_spares_61 : decode cX0_spares 61 = .ok (.goto (-57), 3) := by decide +kernel
theorem dX0_spares_64 : decode cX0_spares 64 = .ok (.iload_n 1, 1) := by decide +kernel
theorem dX0_spares_65 : decode cX0_spares 65 = .ok (.ireturn, 1) := by decide +kernel
theorem dX0_usable_0 : decode cX0_usable 0 = .ok (.iload_n 1, 1) := by decide +kernel
theorem dX0_usable_1 : decode cX0_usable 1 = .ok (.iload_n 2, 1) := by decide +kernel
theorem dX0_usable_2 : decode cX0_usable 2 = .ok (.invokestatic 35, 3) := by decide +kernel
theorem dX0_usable_5 : decode cX0_usable 5 = .ok (.ifCond .ne 5, 3) := by decide +kernel
theorem dX0_usable_8 : decode cX0_usable 8 = .ok (.iconst (-1), 1) := by decide +kernel
theorem dX0_usable_9 : decode cX0_usable 9 = .ok (.ireturn, 1) := by decide +kernel
theorem dX0_usable_10 : decode cX0_usable 10 = .ok (.aload_n 0, 1) := by decide +kernel
theorem dX0_usable_11 : decode cX0_usable 11 = .ok (.iconst 0, 1) := by decide +kernel
theorem dX0_usable_12 : decode cX0_usable 12 = .ok (.invokevirtual 42, 3) := by decide +kernel
theorem dX0_usable_15 : decode cX0_usable 15 = .ok (.istore_n 3, 1) := by decide +kernel
theorem dX0_usable_16 : decode cX0_usable 16 = .ok (.aload_n 0, 1) := by decide +kernel
theorem dX0_usable_17 : decode cX0_usable 17 = .ok (.iconst 1, 1) := by decide +kernel
theorem dX0_usable_18 : decode cX0_usable 18 = .ok (.iload_n 1, 1) := by decide +kernel
theorem dX0_usable_19 : decode cX0_usable 19 = .ok (.ishl, 1) := by decide +kernel
theorem dX0_usable_20 : decode cX0_usable 20 = .ok (.iconst 1, 1) := by decide +kernel
theorem dX0_usable_21 : decode cX0_usable 21 = .ok (.iload_n 2, 1) := by decide +kernel
theorem dX0_usable_22 : decode cX0_usable 22 = .ok (.ishl, 1) := by decide +kernel
theorem dX0_usable_23 : decode cX0_usable 23 = .ok (.ior, 1) := by decide +kernel
theorem dX0_usable_24 : decode cX0_usable 24 = .ok (.invokevirtual 42, 3) := by decide +kernel
theorem dX0_usable_27 : decode cX0_usable 27 = .ok (.istore 4, 2) := by decide +kernel
theorem dX0_usable_29 : decode cX0_usable 29 = .ok (.aload_n 0, 1) := by decide +kernel
theorem dX0_usable_30 : decode cX0_usable 30 = .ok (.iload_n 1, 1) := by decide +kernel
theorem dX0_usable_31 : decode cX0_usable 31 = .ok (.iload_n 2, 1) := by decide +kernel
theorem dX0_usable_32 : decode cX0_usable 32 = .ok (.invokevirtual 39, 3) := by decide +kernel
theorem dX0_usable_35 : decode cX0_usable 35 = .ok (.ifCond .eq 15, 3) := by decide +kernel
theorem dX0_usable_38 : decode cX0_usable 38 = .ok (.iload 4, 2) := by decide +kernel
theorem dX0_usable_40 : decode cX0_usable 40 = .ok (.iload_n 3, 1) := by decide +kernel
theorem dX0_usable_41 : decode cX0_usable 41 = .ok (.iconst 1, 1) := by decide +kernel
theorem dX0_usable_42 : decode cX0_usable 42 = .ok (.isub, 1) := by decide +kernel
theorem dX0_usable_43 : decode cX0_usable 43 = .ok (.if_icmp .ne 7, 3) := by decide +kernel
theorem dX0_usable_46 : decode cX0_usable 46 = .ok (.iconst 1, 1) := by decide +kernel
theorem dX0_usable_47 : decode cX0_usable 47 = .ok (.goto 4, 3) := by decide +kernel
theorem dX0_usable_50 : decode cX0_usable 50 = .ok (.iconst 0, 1) := by decide +kernel
theorem dX0_usable_51 : decode cX0_usable 51 = .ok (.ireturn, 1) := by decide +kernel
theorem dX0_needed_0 : decode cX0_needed 0 = .ok (.iload_n 1, 1) := by decide +kernel
theorem dX0_needed_1 : decode cX0_needed 1 = .ok (.iload_n 2, 1) := by decide +kernel
theorem dX0_needed_2 : decode cX0_needed 2 = .ok (.invokestatic 35, 3) := by decide +kernel
theorem dX0_needed_5 : decode cX0_needed 5 = .ok (.ifCond .ne 5, 3) := by decide +kernel
theorem dX0_needed_8 : decode cX0_needed 8 = .ok (.iconst (-1), 1) := by decide +kernel
theorem dX0_needed_9 : decode cX0_needed 9 = .ok (.ireturn, 1) := by decide +kernel
theorem dX0_needed_10 : decode cX0_needed 10 = .ok (.aload_n 0, 1) := by decide +kernel
theorem dX0_needed_11 : decode cX0_needed 11 = .ok (.iconst 0, 1) := by decide +kernel
theorem dX0_needed_12 : decode cX0_needed 12 = .ok (.invokevirtual 42, 3) := by decide +kernel
theorem dX0_needed_15 : decode cX0_needed 15 = .ok (.istore_n 3, 1) := by decide +kernel
theorem dX0_needed_16 : decode cX0_needed 16 = .ok (.aload_n 0, 1) := by decide +kernel
theorem dX0_needed_17 : decode cX0_needed 17 = .ok (.iload_n 1, 1) := by decide +kernel
theorem dX0_needed_18 : decode cX0_needed 18 = .ok (.iload_n 2, 1) := by decide +kernel
theorem dX0_needed_19 : decode cX0_needed 19 = .ok (.invokevirtual 50, 3) := by decide +kernel
theorem dX0_needed_22 : decode cX0_needed 22 = .ok (.istore 4, 2) := by decide +kernel
theorem dX0_needed_24 : decode cX0_needed 24 = .ok (.aload_n 0, 1) := by decide +kernel
theorem dX0_needed_25 : decode cX0_needed 25 = .ok (.iconst 0, 1) := by decide +kernel
theorem dX0_needed_26 : decode cX0_needed 26 = .ok (.invokevirtual 42, 3) := by decide +kernel
theorem dX0_needed_29 : decode cX0_needed 29 = .ok (.istore 5, 2) := by decide +kernel
theorem dX0_needed_31 : decode cX0_needed 31 = .ok (.iload 4, 2) := by decide +kernel
theorem dX0_needed_33 : decode cX0_needed 33 = .ok (.iconst 1, 1) := by decide +kernel
theorem dX0_needed_34 : decode cX0_needed 34 = .ok (.if_icmp .ne 10, 3) := by decide +kernel
theorem dX0_needed_37 : decode cX0_needed 37 = .ok (.aload_n 0, 1) := by decide +kernel
theorem dX0_needed_38 : decode cX0_needed 38 = .ok (.iload_n 1, 1) := by decide +kernel
theorem dX0_needed_39 : decode cX0_needed 39 = .ok (.iload_n 2, 1) := by decide +kernel
theorem dX0_needed_40 : decode cX0_needed 40 = .ok (.invokevirtual 54, 3) := by decide +kernel
theorem dX0_needed_43 : decode cX0_needed 43 = .ok (.pop, 1) := by decide +kernel
theorem dX0_needed_44 : decode cX0_needed 44 = .ok (.iload 5, 2) := by decide +kernel
theorem dX0_needed_46 : decode cX0_needed 46 = .ok (.iload_n 3, 1) := by decide +kernel
theorem dX0_needed_47 : decode cX0_needed 47 = .ok (.if_icmp .ge 7, 3) := by decide +kernel
theorem dX0_needed_50 : decode cX0_needed 50 = .ok (.iconst 1, 1) := by decide +kernel
theorem dX0_needed_51 : decode cX0_needed 51 = .ok (.goto 4, 3) := by decide +kernel
theorem dX0_needed_54 : decode cX0_needed 54 = .ok (.iconst 0, 1) := by decide +kernel
theorem dX0_needed_55 : decode cX0_needed 55 = .ok (.ireturn, 1) := by decide +kernel
theorem dX0_guards_0 : decode cX0_guards 0 = .ok (.aload_n 0, 1) := by decide +kernel
theorem dX0_guards_1 : decode cX0_guards 1 = .ok (.iconst 0, 1) := by decide +kernel
theorem dX0_guards_2 : decode cX0_guards 2 = .ok (.invokevirtual 42, 3) := by decide +kernel
theorem dX0_guards_5 : decode cX0_guards 5 = .ok (.pop, 1) := by decide +kernel
theorem dX0_guards_6 : decode cX0_guards 6 = .ok (.aload_n 0, 1) := by decide +kernel
theorem dX0_guards_7 : decode cX0_guards 7 = .ok (.invokevirtual 46, 3) := by decide +kernel
theorem dX0_guards_10 : decode cX0_guards 10 = .ok (.istore_n 1, 1) := by decide +kernel
theorem dX0_guards_11 : decode cX0_guards 11 = .ok (.iconst 0, 1) := by decide +kernel
theorem dX0_guards_12 : decode cX0_guards 12 = .ok (.istore_n 2, 1) := by decide +kernel
theorem dX0_guards_13 : decode cX0_guards 13 = .ok (.iconst 0, 1) := by decide +kernel
theorem dX0_guards_14 : decode cX0_guards 14 = .ok (.istore_n 3, 1) := by decide +kernel
theorem dX0_guards_15 : decode cX0_guards 15 = .ok (.iload_n 3, 1) := by decide +kernel
theorem dX0_guards_16 : decode cX0_guards 16 = .ok (.bipush 10, 2) := by decide +kernel
theorem dX0_guards_18 : decode cX0_guards 18 = .ok (.if_icmp .ge 30, 3) := by decide +kernel
theorem dX0_guards_21 : decode cX0_guards 21 = .ok (.iload_n 2, 1) := by decide +kernel
theorem dX0_guards_22 : decode cX0_guards 22 = .ok (.iload_n 1, 1) := by decide +kernel
theorem dX0_guards_23 : decode cX0_guards 23 = .ok (.iload_n 3, 1) := by decide +kernel
theorem dX0_guards_24 : decode cX0_guards 24 = .ok (.iushr, 1) := by decide +kernel
theorem dX0_guards_25 : decode cX0_guards 25 = .ok (.iconst 1, 1) := by decide +kernel
theorem dX0_guards_26 : decode cX0_guards 26 = .ok (.iand, 1) := by decide +kernel
theorem dX0_guards_27 : decode cX0_guards 27 = .ok (.ifCond .eq 12, 3) := by decide +kernel
theorem dX0_guards_30 : decode cX0_guards 30 = .ok (.aload_n 0, 1) := by decide +kernel
theorem dX0_guards_31 : decode cX0_guards 31 = .ok (.getfield 7, 3) := by decide +kernel
theorem dX0_guards_34 : decode cX0_guards 34 = .ok (.iload_n 3, 1) := by decide +kernel
theorem dX0_guards_35 : decode cX0_guards 35 = .ok (.iaload, 1) := by decide +kernel
theorem dX0_guards_36 : decode cX0_guards 36 = .ok (.goto 4, 3) := by decide +kernel
theorem dX0_guards_39 : decode cX0_guards 39 = .ok (.iconst 0, 1) := by decide +kernel
theorem dX0_guards_40 : decode cX0_guards 40 = .ok (.ior, 1) := by decide +kernel
theorem dX0_guards_41 : decode cX0_guards 41 = .ok (.istore_n 2, 1) := by decide +kernel
theorem dX0_guards_42 : decode cX0_guards 42 = .ok (.iinc 3 1, 3) := by decide +kernel
theorem dX0_guards_45 : decode cX0_guards 45 = .ok (.goto (-30), 3) := by decide +kernel
theorem dX0_guards_48 : decode cX0_guards 48 = .ok (.iload_n 2, 1) := by decide +kernel
theorem dX0_guards_49 : decode cX0_guards 49 = .ok (.iload_n 1, 1) := by decide +kernel
theorem dX0_guards_50 : decode cX0_guards 50 = .ok (.iconst (-1), 1) := by decide +kernel
theorem dX0_guards_51 : decode cX0_guards 51 = .ok (.ixor, 1) := by decide +kernel
theorem dX0_guards_52 : decode cX0_guards 52 = .ok (.iand, 1) := by decide +kernel
theorem dX0_guards_53 : decode cX0_guards 53 = .ok (.ireturn, 1) := by decide +kernel
theorem dX0_mostWithout_0 : decode cX0_mostWithout 0 = .ok (.aload_n 0, 1) := by decide +kernel
theorem dX0_mostWithout_1 : decode cX0_mostWithout 1 = .ok (.iload_n 1, 1) := by decide +kernel
theorem dX0_mostWithout_2 : decode cX0_mostWithout 2 = .ok (.sipush 1023, 3) := by decide +kernel
theorem dX0_mostWithout_5 : decode cX0_mostWithout 5 = .ok (.iand, 1) := by decide +kernel
theorem dX0_mostWithout_6 : decode cX0_mostWithout 6 = .ok (.invokevirtual 42, 3) := by decide +kernel
theorem dX0_mostWithout_9 : decode cX0_mostWithout 9 = .ok (.ireturn, 1) := by decide +kernel
theorem dX0_parts_0 : decode cX0_parts 0 = .ok (.sipush 1023, 3) := by decide +kernel
theorem dX0_parts_3 : decode cX0_parts 3 = .ok (.aload_n 0, 1) := by decide +kernel
theorem dX0_parts_4 : decode cX0_parts 4 = .ok (.invokevirtual 57, 3) := by decide +kernel
theorem dX0_parts_7 : decode cX0_parts 7 = .ok (.iconst (-1), 1) := by decide +kernel
theorem dX0_parts_8 : decode cX0_parts 8 = .ok (.ixor, 1) := by decide +kernel
theorem dX0_parts_9 : decode cX0_parts 9 = .ok (.iand, 1) := by decide +kernel
theorem dX0_parts_10 : decode cX0_parts 10 = .ok (.istore_n 1, 1) := by decide +kernel
theorem dX0_parts_11 : decode cX0_parts 11 = .ok (.iconst 0, 1) := by decide +kernel
theorem dX0_parts_12 : decode cX0_parts 12 = .ok (.istore_n 2, 1) := by decide +kernel
theorem dX0_parts_13 : decode cX0_parts 13 = .ok (.iconst 0, 1) := by decide +kernel
theorem dX0_parts_14 : decode cX0_parts 14 = .ok (.istore_n 3, 1) := by decide +kernel
theorem dX0_parts_15 : decode cX0_parts 15 = .ok (.iload_n 3, 1) := by decide +kernel
theorem dX0_parts_16 : decode cX0_parts 16 = .ok (.bipush 10, 2) := by decide +kernel
theorem dX0_parts_18 : decode cX0_parts 18 = .ok (.if_icmp .ge 35, 3) := by decide +kernel
theorem dX0_parts_21 : decode cX0_parts 21 = .ok (.iload_n 1, 1) := by decide +kernel
theorem dX0_parts_22 : decode cX0_parts 22 = .ok (.iload_n 3, 1) := by decide +kernel
theorem dX0_parts_23 : decode cX0_parts 23 = .ok (.iushr, 1) := by decide +kernel
theorem dX0_parts_24 : decode cX0_parts 24 = .ok (.iconst 1, 1) := by decide +kernel
theorem dX0_parts_25 : decode cX0_parts 25 = .ok (.iand, 1) := by decide +kernel
theorem dX0_parts_26 : decode cX0_parts 26 = .ok (.ifCond .eq 21, 3) := by decide +kernel
theorem dX0_parts_29 : decode cX0_parts 29 = .ok (.iinc 2 1, 3) := by decide +kernel
theorem dX0_parts_32 : decode cX0_parts 32 = .ok (.aload_n 0, 1) := by decide +kernel
theorem dX0_parts_33 : decode cX0_parts 33 = .ok (.iload_n 3, 1) := by decide +kernel
theorem dX0_parts_34 : decode cX0_parts 34 = .ok (.iload_n 1, 1) := by decide +kernel
theorem dX0_parts_35 : decode cX0_parts 35 = .ok (.invokevirtual 60, 3) := by decide +kernel
theorem dX0_parts_38 : decode cX0_parts 38 = .ok (.istore 4, 2) := by decide +kernel
theorem dX0_parts_40 : decode cX0_parts 40 = .ok (.iload_n 1, 1) := by decide +kernel
theorem dX0_parts_41 : decode cX0_parts 41 = .ok (.iload 4, 2) := by decide +kernel
theorem dX0_parts_43 : decode cX0_parts 43 = .ok (.iconst (-1), 1) := by decide +kernel
theorem dX0_parts_44 : decode cX0_parts 44 = .ok (.ixor, 1) := by decide +kernel
theorem dX0_parts_45 : decode cX0_parts 45 = .ok (.iand, 1) := by decide +kernel
theorem dX0_parts_46 : decode cX0_parts 46 = .ok (.istore_n 1, 1) := by decide +kernel
theorem dX0_parts_47 : decode cX0_parts 47 = .ok (.iinc 3 1, 3) := by decide +kernel
theorem dX0_parts_50 : decode cX0_parts 50 = .ok (.goto (-35), 3) := by decide +kernel
theorem dX0_parts_53 : decode cX0_parts 53 = .ok (.iload_n 2, 1) := by decide +kernel
theorem dX0_parts_54 : decode cX0_parts 54 = .ok (.ireturn, 1) := by decide +kernel
theorem dX0_partOf_0 : decode cX0_partOf 0 = .ok (.iconst 1, 1) := by decide +kernel
theorem dX0_partOf_1 : decode cX0_partOf 1 = .ok (.iload_n 1, 1) := by decide +kernel
theorem dX0_partOf_2 : decode cX0_partOf 2 = .ok (.ishl, 1) := by decide +kernel
theorem dX0_partOf_3 : decode cX0_partOf 3 = .ok (.istore_n 3, 1) := by decide +kernel
theorem dX0_partOf_4 : decode cX0_partOf 4 = .ok (.iconst 0, 1) := by decide +kernel
theorem dX0_partOf_5 : decode cX0_partOf 5 = .ok (.istore 4, 2) := by decide +kernel
theorem dX0_partOf_7 : decode cX0_partOf 7 = .ok (.iload 4, 2) := by decide +kernel
theorem dX0_partOf_9 : decode cX0_partOf 9 = .ok (.bipush 10, 2) := by decide +kernel
theorem dX0_partOf_11 : decode cX0_partOf 11 = .ok (.if_icmp .ge 50, 3) := by decide +kernel
theorem dX0_partOf_14 : decode cX0_partOf 14 = .ok (.iconst 0, 1) := by decide +kernel
theorem dX0_partOf_15 : decode cX0_partOf 15 = .ok (.istore 5, 2) := by decide +kernel
theorem dX0_partOf_17 : decode cX0_partOf 17 = .ok (.iload 5, 2) := by decide +kernel
theorem dX0_partOf_19 : decode cX0_partOf 19 = .ok (.bipush 10, 2) := by decide +kernel
theorem dX0_partOf_21 : decode cX0_partOf 21 = .ok (.if_icmp .ge 34, 3) := by decide +kernel
theorem dX0_partOf_24 : decode cX0_partOf 24 = .ok (.iload_n 3, 1) := by decide +kernel
theorem dX0_partOf_25 : decode cX0_partOf 25 = .ok (.iload_n 3, 1) := by decide +kernel
theorem dX0_partOf_26 : decode cX0_partOf 26 = .ok (.iload 5, 2) := by decide +kernel
theorem dX0_partOf_28 : decode cX0_partOf 28 = .ok (.iushr, 1) := by decide +kernel
theorem dX0_partOf_29 : decode cX0_partOf 29 = .ok (.iconst 1, 1) := by decide +kernel
theorem dX0_partOf_30 : decode cX0_partOf 30 = .ok (.iand, 1) := by decide +kernel
theorem dX0_partOf_31 : decode cX0_partOf 31 = .ok (.ifCond .eq 15, 3) := by decide +kernel
theorem dX0_partOf_34 : decode cX0_partOf 34 = .ok (.aload_n 0, 1) := by decide +kernel
theorem dX0_partOf_35 : decode cX0_partOf 35 = .ok (.getfield 7, 3) := by decide +kernel
theorem dX0_partOf_38 : decode cX0_partOf 38 = .ok (.iload 5, 2) := by decide +kernel
theorem dX0_partOf_40 : decode cX0_partOf 40 = .ok (.iaload, 1) := by decide +kernel
theorem dX0_partOf_41 : decode cX0_partOf 41 = .ok (.iload_n 2, 1) := by decide +kernel
theorem dX0_partOf_42 : decode cX0_partOf 42 = .ok (.iand, 1) := by decide +kernel
theorem dX0_partOf_43 : decode cX0_partOf 43 = .ok (.goto 4, 3) := by decide +kernel
theorem dX0_partOf_46 : decode cX0_partOf 46 = .ok (.iconst 0, 1) := by decide +kernel
theorem dX0_partOf_47 : decode cX0_partOf 47 = .ok (.ior, 1) := by decide +kernel
theorem dX0_partOf_48 : decode cX0_partOf 48 = .ok (.istore_n 3, 1) := by decide +kernel
theorem dX0_partOf_49 : decode cX0_partOf 49 = .ok (.iinc 5 1, 3) := by decide +kernel
theorem dX0_partOf_52 : decode cX0_partOf 52 = .ok (.goto (-35), 3) := by decide +kernel
theorem dX0_partOf_55 : decode cX0_partOf 55 = .ok (.iinc 4 1, 3) := by decide +kernel
theorem dX0_partOf_58 : decode cX0_partOf 58 = .ok (.goto (-51), 3) := by decide +kernel
theorem dX0_partOf_61 : decode cX0_partOf 61 = .ok (.iload_n 3, 1) := by decide +kernel
theorem dX0_partOf_62 : decode cX0_partOf 62 = .ok (.ireturn, 1) := by decide +kernel
end
section
set_option maxRecDepth 100000
theorem dX1_init_0 : decode cX1_init 0 = .ok (.aload_n 0, 1) := by decide +kernel
theorem dX1_init_1 : decode cX1_init 1 = .ok (.invokespecial 1, 3) := by decide +kernel
theorem dX1_init_4 : decode cX1_init 4 = .ok (.aload_n 0, 1) := by decide +kernel
theorem dX1_init_5 : decode cX1_init 5 = .ok (.bipush 100, 2) := by decide +kernel
theorem dX1_init_7 : decode cX1_init 7 = .ok (.newarray .boolean, 2) := by decide +kernel
theorem dX1_init_9 : decode cX1_init 9 = .ok (.putfield 7, 3) := by decide +kernel
theorem dX1_init_12 : decode cX1_init 12 = .ok (.aload_n 0, 1) := by decide +kernel
theorem dX1_init_13 : decode cX1_init 13 = .ok (.sipush 1024, 3) := by decide +kernel
theorem dX1_init_16 : decode cX1_init 16 = .ok (.newarray .int, 2) := by decide +kernel
theorem dX1_init_18 : decode cX1_init 18 = .ok (.putfield 13, 3) := by decide +kernel
theorem dX1_init_21 : decode cX1_init 21 = .ok (.return_, 1) := by decide +kernel
theorem dX1_join_0 : decode cX1_join 0 = .ok (.iload_n 1, 1) := by decide +kernel
theorem dX1_join_1 : decode cX1_join 1 = .ok (.iload_n 2, 1) := by decide +kernel
theorem dX1_join_2 : decode cX1_join 2 = .ok (.invokestatic 21, 3) := by decide +kernel
theorem dX1_join_5 : decode cX1_join 5 = .ok (.ifCond .eq 7, 3) := by decide +kernel
theorem dX1_join_8 : decode cX1_join 8 = .ok (.iconst (-1), 1) := by decide +kernel
theorem dX1_join_9 : decode cX1_join 9 = .ok (.goto 10, 3) := by decide +kernel
theorem dX1_join_12 : decode cX1_join 12 = .ok (.aload_n 0, 1) := by decide +kernel
theorem dX1_join_13 : decode cX1_join 13 = .ok (.iload_n 1, 1) := by decide +kernel
theorem dX1_join_14 : decode cX1_join 14 = .ok (.iload_n 2, 1) := by decide +kernel
theorem dX1_join_15 : decode cX1_join 15 = .ok (.iconst 1, 1) := by decide +kernel
theorem dX1_join_16 : decode cX1_join 16 = .ok (.invokevirtual 25, 3) := by decide +kernel
theorem dX1_join_19 : decode cX1_join 19 = .ok (.ireturn, 1) := by decide +kernel
theorem dX1_refused_0 : decode cX1_refused 0 = .ok (.iload_n 0, 1) := by decide +kernel
theorem dX1_refused_1 : decode cX1_refused 1 = .ok (.invokestatic 17, 3) := by decide +kernel
theorem dX1_refused_4 : decode cX1_refused 4 = .ok (.ifCond .ne 15, 3) := by decide +kernel
theorem dX1_refused_7 : decode cX1_refused 7 = .ok (.iload_n 1, 1) := by decide +kernel
theorem dX1_refused_8 : decode cX1_refused 8 = .ok (.invokestatic 17, 3) := by decide +kernel
theorem dX1_refused_11 : decode cX1_refused 11 = .ok (.ifCond .ne 8, 3) := by decide +kernel
theorem dX1_refused_14 : decode cX1_refused 14 = .ok (.iload_n 0, 1) := by decide +kernel
theorem dX1_refused_15 : decode cX1_refused 15 = .ok (.iload_n 1, 1) := by decide +kernel
theorem dX1_refused_16 : decode cX1_refused 16 = .ok (.if_icmp .ne 7, 3) := by decide +kernel
theorem dX1_refused_19 : decode cX1_refused 19 = .ok (.iconst 1, 1) := by decide +kernel
theorem dX1_refused_20 : decode cX1_refused 20 = .ok (.goto 4, 3) := by decide +kernel
theorem dX1_refused_23 : decode cX1_refused 23 = .ok (.iconst 0, 1) := by decide +kernel
theorem dX1_refused_24 : decode cX1_refused 24 = .ok (.ireturn, 1) := by decide +kernel
theorem dX1_bad_0 : decode cX1_bad 0 = .ok (.iload_n 0, 1) := by decide +kernel
theorem dX1_bad_1 : decode cX1_bad 1 = .ok (.ifCond .lt 9, 3) := by decide +kernel
theorem dX1_bad_4 : decode cX1_bad 4 = .ok (.iload_n 0, 1) := by decide +kernel
theorem dX1_bad_5 : decode cX1_bad 5 = .ok (.bipush 9, 2) := by decide +kernel
theorem dX1_bad_7 : decode cX1_bad 7 = .ok (.if_icmp .le 7, 3) := by decide +kernel
theorem dX1_bad_10 : decode cX1_bad 10 = .ok (.iconst 1, 1) := by decide +kernel
theorem dX1_bad_11 : decode cX1_bad 11 = .ok (.goto 4, 3) := by decide +kernel
theorem dX1_bad_14 : decode cX1_bad 14 = .ok (.iconst 0, 1) := by decide +kernel
theorem dX1_bad_15 : decode cX1_bad 15 = .ok (.ireturn, 1) := by decide +kernel
theorem dX1_set_0 : decode cX1_set 0 = .ok (.aload_n 0, 1) := by decide +kernel
theorem dX1_set_1 : decode cX1_set 1 = .ok (.getfield 7, 3) := by decide +kernel
theorem dX1_set_4 : decode cX1_set 4 = .ok (.bipush 10, 2) := by decide +kernel
theorem dX1_set_6 : decode cX1_set 6 = .ok (.iload_n 1, 1) := by decide +kernel
theorem dX1_set_7 : decode cX1_set 7 = .ok (.imul, 1) := by decide +kernel
theorem dX1_set_8 : decode cX1_set 8 = .ok (.iload_n 2, 1) := by decide +kernel
theorem dX1_set_9 : decode cX1_set 9 = .ok (.iadd, 1) := by decide +kernel
theorem dX1_set_10 : decode cX1_set 10 = .ok (.baload, 1) := by decide +kernel
theorem dX1_set_11 : decode cX1_set 11 = .ok (.istore 4, 2) := by decide +kernel
theorem dX1_set_13 : decode cX1_set 13 = .ok (.aload_n 0, 1) := by decide +kernel
theorem dX1_set_14 : decode cX1_set 14 = .ok (.getfield 7, 3) := by decide +kernel
theorem dX1_set_17 : decode cX1_set 17 = .ok (.bipush 10, 2) := by decide +kernel
theorem dX1_set_19 : decode cX1_set 19 = .ok (.iload_n 1, 1) := by decide +kernel
theorem dX1_set_20 : decode cX1_set 20 = .ok (.imul, 1) := by decide +kernel
theorem dX1_set_21 : decode cX1_set 21 = .ok (.iload_n 2, 1) := by decide +kernel
theorem dX1_set_22 : decode cX1_set 22 = .ok (.iadd, 1) := by decide +kernel
theorem dX1_set_23 : decode cX1_set 23 = .ok (.iload_n 3, 1) := by decide +kernel
theorem dX1_set_24 : decode cX1_set 24 = .ok (.bastore, 1) := by decide +kernel
theorem dX1_set_25 : decode cX1_set 25 = .ok (.aload_n 0, 1) := by decide +kernel
theorem dX1_set_26 : decode cX1_set 26 = .ok (.getfield 7, 3) := by decide +kernel
theorem dX1_set_29 : decode cX1_set 29 = .ok (.bipush 10, 2) := by decide +kernel
theorem dX1_set_31 : decode cX1_set 31 = .ok (.iload_n 2, 1) := by decide +kernel
theorem dX1_set_32 : decode cX1_set 32 = .ok (.imul, 1) := by decide +kernel
theorem dX1_set_33 : decode cX1_set 33 = .ok (.iload_n 1, 1) := by decide +kernel
theorem dX1_set_34 : decode cX1_set 34 = .ok (.iadd, 1) := by decide +kernel
theorem dX1_set_35 : decode cX1_set 35 = .ok (.iload_n 3, 1) := by decide +kernel
theorem dX1_set_36 : decode cX1_set 36 = .ok (.bastore, 1) := by decide +kernel
theorem dX1_set_37 : decode cX1_set 37 = .ok (.iload 4, 2) := by decide +kernel
theorem dX1_set_39 : decode cX1_set 39 = .ok (.iload_n 3, 1) := by decide +kernel
theorem dX1_set_40 : decode cX1_set 40 = .ok (.if_icmp .ne 7, 3) := by decide +kernel
theorem dX1_set_43 : decode cX1_set 43 = .ok (.iconst 0, 1) := by decide +kernel
theorem dX1_set_44 : decode cX1_set 44 = .ok (.goto 4, 3) := by decide +kernel
theorem dX1_set_47 : decode cX1_set 47 = .ok (.iconst 1, 1) := by decide +kernel
theorem dX1_set_48 : decode cX1_set 48 = .ok (.ireturn, 1) := by decide +kernel
theorem dX1_part_0 : decode cX1_part 0 = .ok (.iload_n 1, 1) := by decide +kernel
theorem dX1_part_1 : decode cX1_part 1 = .ok (.iload_n 2, 1) := by decide +kernel
theorem dX1_part_2 : decode cX1_part 2 = .ok (.invokestatic 21, 3) := by decide +kernel
theorem dX1_part_5 : decode cX1_part 5 = .ok (.ifCond .eq 7, 3) := by decide +kernel
theorem dX1_part_8 : decode cX1_part 8 = .ok (.iconst (-1), 1) := by decide +kernel
theorem dX1_part_9 : decode cX1_part 9 = .ok (.goto 10, 3) := by decide +kernel
theorem dX1_part_12 : decode cX1_part 12 = .ok (.aload_n 0, 1) := by decide +kernel
theorem dX1_part_13 : decode cX1_part 13 = .ok (.iload_n 1, 1) := by decide +kernel
theorem dX1_part_14 : decode cX1_part 14 = .ok (.iload_n 2, 1) := by decide +kernel
theorem dX1_part_15 : decode cX1_part 15 = .ok (.iconst 0, 1) := by decide +kernel
theorem dX1_part_16 : decode cX1_part 16 = .ok (.invokevirtual 25, 3) := by decide +kernel
theorem dX1_part_19 : decode cX1_part 19 = .ok (.ireturn, 1) := by decide +kernel
theorem dX1_most_0 : decode cX1_most 0 = .ok (.aload_n 0, 1) := by decide +kernel
theorem dX1_most_1 : decode cX1_most 1 = .ok (.invokevirtual 33, 3) := by decide +kernel
theorem dX1_most_4 : decode cX1_most 4 = .ok (.aload_n 0, 1) := by decide +kernel
theorem dX1_most_5 : decode cX1_most 5 = .ok (.getfield 13, 3) := by decide +kernel
theorem dX1_most_8 : decode cX1_most 8 = .ok (.sipush 1023, 3) := by decide +kernel
theorem dX1_most_11 : decode cX1_most 11 = .ok (.iaload, 1) := by decide +kernel
theorem dX1_most_12 : decode cX1_most 12 = .ok (.ireturn, 1) := by decide +kernel
theorem dX1_work_0 : decode cX1_work 0 = .ok (.iconst 1, 1) := by decide +kernel
theorem dX1_work_1 : decode cX1_work 1 = .ok (.istore_n 1, 1) := by decide +kernel
theorem dX1_work_2 : decode cX1_work 2 = .ok (.iload_n 1, 1) := by decide +kernel
theorem dX1_work_3 : decode cX1_work 3 = .ok (.sipush 1024, 3) := by decide +kernel
theorem dX1_work_6 : decode cX1_work 6 = .ok (.if_icmp .ge 20, 3) := by decide +kernel
theorem dX1_work_9 : decode cX1_work 9 = .ok (.aload_n 0, 1) := by decide +kernel
theorem dX1_work_10 : decode cX1_work 10 = .ok (.getfield 13, 3) := by decide +kernel
theorem dX1_work_13 : decode cX1_work 13 = .ok (.iload_n 1, 1) := by decide +kernel
theorem dX1_work_14 : decode cX1_work 14 = .ok (.aload_n 0, 1) := by decide +kernel
theorem dX1_work_15 : decode cX1_work 15 = .ok (.iload_n 1, 1) := by decide +kernel
theorem dX1_work_16 : decode cX1_work 16 = .ok (.invokevirtual 29, 3) := by decide +kernel
theorem dX1_work_19 : decode cX1_work 19 = .ok (.iastore, 1) := by decide +kernel
theorem dX1_work_20 : decode cX1_work 20 = .ok (.iinc 1 1, 3) := by decide +kernel
theorem dX1_work_23 : decode cX1_work 23 = .ok (.goto (-21), 3) := by decide +kernel
theorem dX1_work_26 : decode cX1_work 26 = .ok (.return_, 1) := by decide +kernel
theorem dX1_pair_0 : decode cX1_pair 0 = .ok (.iconst 0, 1) := by decide +kernel
theorem dX1_pair_1 : decode cX1_pair 1 = .ok (.istore_n 2, 1) := by decide +kernel
theorem dX1_pair_2 : decode cX1_pair 2 = .ok (.iload_n 2, 1) := by decide +kernel
theorem dX1_pair_3 : decode cX1_pair 3 = .ok (.bipush 10, 2) := by decide +kernel
theorem dX1_pair_5 : decode cX1_pair 5 = .ok (.if_icmp .ge 17, 3) := by decide +kernel
theorem dX1_pair_8 : decode cX1_pair 8 = .ok (.iload_n 1, 1) := by decide +kernel
theorem dX1_pair_9 : decode cX1_pair 9 = .ok (.iload_n 2, 1) := by decide +kernel
theorem dX1_pair_10 : decode cX1_pair 10 = .ok (.ishr, 1) := by decide +kernel
theorem dX1_pair_11 : decode cX1_pair 11 = .ok (.iconst 1, 1) := by decide +kernel
theorem dX1_pair_12 : decode cX1_pair 12 = .ok (.iand, 1) := by decide +kernel
theorem dX1_pair_13 : decode cX1_pair 13 = .ok (.ifCond .ne 9, 3) := by decide +kernel
theorem dX1_pair_16 : decode cX1_pair 16 = .ok (.iinc 2 1, 3) := by decide +kernel
theorem dX1_pair_19 : decode cX1_pair 19 = .ok (.goto (-17), 3) := by decide +kernel
theorem dX1_pair_22 : decode cX1_pair 22 = .ok (.iload_n 1, 1) := by decide +kernel
theorem dX1_pair_23 : decode cX1_pair 23 = .ok (.iconst 1, 1) := by decide +kernel
theorem dX1_pair_24 : decode cX1_pair 24 = .ok (.iload_n 2, 1) := by decide +kernel
theorem dX1_pair_25 : decode cX1_pair 25 = .ok (.ishl, 1) := by decide +kernel
theorem dX1_pair_26 : decode cX1_pair 26 = .ok (.iconst (-1), 1) := by decide +kernel
theorem dX1_pair_27 : decode cX1_pair 27 = .ok (.ixor, 1) := by decide +kernel
theorem dX1_pair_28 : decode cX1_pair 28 = .ok (.iand, 1) := by decide +kernel
theorem dX1_pair_29 : decode cX1_pair 29 = .ok (.istore_n 3, 1) := by decide +kernel
theorem dX1_pair_30 : decode cX1_pair 30 = .ok (.aload_n 0, 1) := by decide +kernel
theorem dX1_pair_31 : decode cX1_pair 31 = .ok (.getfield 13, 3) := by decide +kernel
theorem dX1_pair_34 : decode cX1_pair 34 = .ok (.iload_n 3, 1) := by decide +kernel
theorem dX1_pair_35 : decode cX1_pair 35 = .ok (.iaload, 1) := by decide +kernel
theorem dX1_pair_36 : decode cX1_pair 36 = .ok (.istore 4, 2) := by decide +kernel
theorem dX1_pair_38 : decode cX1_pair 38 = .ok (.iconst 0, 1) := by decide +kernel
theorem dX1_pair_39 : decode cX1_pair 39 = .ok (.istore 5, 2) := by decide +kernel
theorem dX1_pair_41 : decode cX1_pair 41 = .ok (.iload 5, 2) := by decide +kernel
theorem dX1_pair_43 : decode cX1_pair 43 = .ok (.bipush 10, 2) := by decide +kernel
theorem dX1_pair_45 : decode cX1_pair 45 = .ok (.if_icmp .ge 71, 3) := by decide +kernel
theorem dX1_pair_48 : decode cX1_pair 48 = .ok (.iload_n 3, 1) := by decide +kernel
theorem dX1_pair_49 : decode cX1_pair 49 = .ok (.iload 5, 2) := by decide +kernel
theorem dX1_pair_51 : decode cX1_pair 51 = .ok (.ishr, 1) := by decide +kernel
theorem dX1_pair_52 : decode cX1_pair 52 = .ok (.iconst 1, 1) := by decide +kernel
theorem dX1_pair_53 : decode cX1_pair 53 = .ok (.iand, 1) := by decide +kernel
theorem dX1_pair_54 : decode cX1_pair 54 = .ok (.iconst 1, 1) := by decide +kernel
theorem dX1_pair_55 : decode cX1_pair 55 = .ok (.if_icmp .ne 55, 3) := by decide +kernel
theorem dX1_pair_58 : decode cX1_pair 58 = .ok (.aload_n 0, 1) := by decide +kernel
theorem dX1_pair_59 : decode cX1_pair 59 = .ok (.getfield 7, 3) := by decide +kernel
theorem dX1_pair_62 : decode cX1_pair 62 = .ok (.bipush 10, 2) := by decide +kernel
theorem dX1_pair_64 : decode cX1_pair 64 = .ok (.iload_n 2, 1) := by decide +kernel
theorem dX1_pair_65 : decode cX1_pair 65 = .ok (.imul, 1) := by decide +kernel
theorem dX1_pair_66 : decode cX1_pair 66 = .ok (.iload 5, 2) := by decide +kernel
theorem dX1_pair_68 : decode cX1_pair 68 = .ok (.iadd, 1) := by decide +kernel
theorem dX1_pair_69 : decode cX1_pair 69 = .ok (.baload, 1) := by decide +kernel
theorem dX1_pair_70 : decode cX1_pair 70 = .ok (.ifCond .eq 40, 3) := by decide +kernel
theorem dX1_pair_73 : decode cX1_pair 73 = .ok (.aload_n 0, 1) := by decide +kernel
theorem dX1_pair_74 : decode cX1_pair 74 = .ok (.getfield 13, 3) := by decide +kernel
theorem dX1_pair_77 : decode cX1_pair 77 = .ok (.iload_n 3, 1) := by decide +kernel
theorem dX1_pair_78 : decode cX1_pair 78 = .ok (.iconst 1, 1) := by decide +kernel
theorem dX1_pair_79 : decode cX1_pair 79 = .ok (.iload 5, 2) := by decide +kernel
theorem dX1_pair_81 : decode cX1_pair 81 = .ok (.ishl, 1) := by decide +kernel
theorem dX1_pair_82 : decode cX1_pair 82 = .ok (.iconst (-1), 1) := by decide +kernel
theorem dX1_pair_83 : decode cX1_pair 83 = .ok (.ixor, 1) := by decide +kernel
theorem dX1_pair_84 : decode cX1_pair 84 = .ok (.iand, 1) := by decide +kernel
theorem dX1_pair_85 : decode cX1_pair 85 = .ok (.iaload, 1) := by decide +kernel
theorem dX1_pair_86 : decode cX1_pair 86 = .ok (.iconst 1, 1) := by decide +kernel
theorem dX1_pair_87 : decode cX1_pair 87 = .ok (.iadd, 1) := by decide +kernel
theorem dX1_pair_88 : decode cX1_pair 88 = .ok (.iload 4, 2) := by decide +kernel
theorem dX1_pair_90 : decode cX1_pair 90 = .ok (.if_icmp .le 20, 3) := by decide +kernel
theorem dX1_pair_93 : decode cX1_pair 93 = .ok (.aload_n 0, 1) := by decide +kernel
theorem dX1_pair_94 : decode cX1_pair 94 = .ok (.getfield 13, 3) := by decide +kernel
theorem dX1_pair_97 : decode cX1_pair 97 = .ok (.iload_n 3, 1) := by decide +kernel
theorem dX1_pair_98 : decode cX1_pair 98 = .ok (.iconst 1, 1) := by decide +kernel
theorem dX1_pair_99 : decode cX1_pair 99 = .ok (.iload 5, 2) := by decide +kernel
theorem dX1_pair_101 : decode cX1_pair 101 = .ok (.ishl, 1) := by decide +kernel
theorem dX1_pair_102 : decode cX1_pair 102 = .ok (.iconst (-1), 1) := by decide +kernel
theorem dX1_pair_103 : decode cX1_pair 103 = .ok (.ixor, 1) := by decide +kernel
theorem dX1_pair_104 : decode cX1_pair 104 = .ok (.iand, 1) := by decide +kernel
theorem dX1_pair_105 : decode cX1_pair 105 = .ok (.iaload, 1) := by decide +kernel
theorem dX1_pair_106 : decode cX1_pair 106 = .ok (.iconst 1, 1) := by decide +kernel
theorem dX1_pair_107 : decode cX1_pair 107 = .ok (.iadd, 1) := by decide +kernel
theorem dX1_pair_108 : decode cX1_pair 108 = .ok (.istore 4, 2) := by decide +kernel
theorem dX1_pair_110 : decode cX1_pair 110 = .ok (.iinc 5 1, 3) := by decide +kernel
theorem dX1_pair_113 : decode cX1_pair 113 = .ok (.goto (-72), 3) := by decide +kernel
theorem dX1_pair_116 : decode cX1_pair 116 = .ok (.iload 4, 2) := by decide +kernel
theorem dX1_pair_118 : decode cX1_pair 118 = .ok (.ireturn, 1) := by decide +kernel
theorem dX1_spare_0 : decode cX1_spare 0 = .ok (.iload_n 1, 1) := by decide +kernel
theorem dX1_spare_1 : decode cX1_spare 1 = .ok (.invokestatic 17, 3) := by decide +kernel
theorem dX1_spare_4 : decode cX1_spare 4 = .ok (.ifCond .eq 5, 3) := by decide +kernel
theorem dX1_spare_7 : decode cX1_spare 7 = .ok (.iconst (-1), 1) := by decide +kernel
theorem dX1_spare_8 : decode cX1_spare 8 = .ok (.ireturn, 1) := by decide +kernel
theorem dX1_spare_9 : decode cX1_spare 9 = .ok (.aload_n 0, 1) := by decide +kernel
theorem dX1_spare_10 : decode cX1_spare 10 = .ok (.invokevirtual 33, 3) := by decide +kernel
theorem dX1_spare_13 : decode cX1_spare 13 = .ok (.aload_n 0, 1) := by decide +kernel
theorem dX1_spare_14 : decode cX1_spare 14 = .ok (.getfield 13, 3) := by decide +kernel
theorem dX1_spare_17 : decode cX1_spare 17 = .ok (.sipush 1023, 3) := by decide +kernel
theorem dX1_spare_20 : decode cX1_spare 20 = .ok (.iconst 1, 1) := by decide +kernel
theorem dX1_spare_21 : decode cX1_spare 21 = .ok (.iload_n 1, 1) := by decide +kernel
theorem dX1_spare_22 : decode cX1_spare 22 = .ok (.ishl, 1) := by decide +kernel
theorem dX1_spare_23 : decode cX1_spare 23 = .ok (.iconst (-1), 1) := by decide +kernel
theorem dX1_spare_24 : decode cX1_spare 24 = .ok (.ixor, 1) := by decide +kernel
theorem dX1_spare_25 : decode cX1_spare 25 = .ok (.iand, 1) := by decide +kernel
theorem dX1_spare_26 : decode cX1_spare 26 = .ok (.iaload, 1) := by decide +kernel
theorem dX1_spare_27 : decode cX1_spare 27 = .ok (.aload_n 0, 1) := by decide +kernel
theorem dX1_spare_28 : decode cX1_spare 28 = .ok (.getfield 13, 3) := by decide +kernel
theorem dX1_spare_31 : decode cX1_spare 31 = .ok (.sipush 1023, 3) := by decide +kernel
theorem dX1_spare_34 : decode cX1_spare 34 = .ok (.iaload, 1) := by decide +kernel
theorem dX1_spare_35 : decode cX1_spare 35 = .ok (.if_icmp .ne 7, 3) := by decide +kernel
theorem dX1_spare_38 : decode cX1_spare 38 = .ok (.iconst 1, 1) := by decide +kernel
theorem dX1_spare_39 : decode cX1_spare 39 = .ok (.goto 4, 3) := by decide +kernel
theorem dX1_spare_42 : decode cX1_spare 42 = .ok (.iconst 0, 1) := by decide +kernel
theorem dX1_spare_43 : decode cX1_spare 43 = .ok (.ireturn, 1) := by decide +kernel
theorem dX1_usable_0 : decode cX1_usable 0 = .ok (.iload_n 1, 1) := by decide +kernel
theorem dX1_usable_1 : decode cX1_usable 1 = .ok (.iload_n 2, 1) := by decide +kernel
theorem dX1_usable_2 : decode cX1_usable 2 = .ok (.invokestatic 21, 3) := by decide +kernel
theorem dX1_usable_5 : decode cX1_usable 5 = .ok (.ifCond .eq 5, 3) := by decide +kernel
theorem dX1_usable_8 : decode cX1_usable 8 = .ok (.iconst (-1), 1) := by decide +kernel
theorem dX1_usable_9 : decode cX1_usable 9 = .ok (.ireturn, 1) := by decide +kernel
end
section
set_option maxRecDepth 100000
theorem dX1_usable_10 : decode cX1_usable 10 = .ok (.aload_n 0, 1) := by decide +kernel
theorem dX1_usable_11 : decode cX1_usable 11 = .ok (.invokevirtual 33, 3) := by decide +kernel
theorem dX1_usable_14 : decode cX1_usable 14 = .ok (.aload_n 0, 1) := by decide +kernel
theorem dX1_usable_15 : decode cX1_usable 15 = .ok (.getfield 7, 3) := by decide +kernel
theorem dX1_usable_18 : decode cX1_usable 18 = .ok (.bipush 10, 2) := by decide +kernel
theorem dX1_usable_20 : decode cX1_usable 20 = .ok (.iload_n 1, 1) := by decide +kernel
theorem dX1_usable_21 : decode cX1_usable 21 = .ok (.imul, 1) := by decide +kernel
theorem dX1_usable_22 : decode cX1_usable 22 = .ok (.iload_n 2, 1) := by decide +kernel
theorem dX1_usable_23 : decode cX1_usable 23 = .ok (.iadd, 1) := by decide +kernel
theorem dX1_usable_24 : decode cX1_usable 24 = .ok (.baload, 1) := by decide +kernel
theorem dX1_usable_25 : decode cX1_usable 25 = .ok (.ifCond .eq 38, 3) := by decide +kernel
theorem dX1_usable_28 : decode cX1_usable 28 = .ok (.aload_n 0, 1) := by decide +kernel
theorem dX1_usable_29 : decode cX1_usable 29 = .ok (.getfield 13, 3) := by decide +kernel
theorem dX1_usable_32 : decode cX1_usable 32 = .ok (.sipush 1023, 3) := by decide +kernel
theorem dX1_usable_35 : decode cX1_usable 35 = .ok (.iconst 1, 1) := by decide +kernel
theorem dX1_usable_36 : decode cX1_usable 36 = .ok (.iload_n 1, 1) := by decide +kernel
theorem dX1_usable_37 : decode cX1_usable 37 = .ok (.ishl, 1) := by decide +kernel
theorem dX1_usable_38 : decode cX1_usable 38 = .ok (.iconst 1, 1) := by decide +kernel
theorem dX1_usable_39 : decode cX1_usable 39 = .ok (.iload_n 2, 1) := by decide +kernel
theorem dX1_usable_40 : decode cX1_usable 40 = .ok (.ishl, 1) := by decide +kernel
theorem dX1_usable_41 : decode cX1_usable 41 = .ok (.ior, 1) := by decide +kernel
theorem dX1_usable_42 : decode cX1_usable 42 = .ok (.iconst (-1), 1) := by decide +kernel
theorem dX1_usable_43 : decode cX1_usable 43 = .ok (.ixor, 1) := by decide +kernel
theorem dX1_usable_44 : decode cX1_usable 44 = .ok (.iand, 1) := by decide +kernel
theorem dX1_usable_45 : decode cX1_usable 45 = .ok (.iaload, 1) := by decide +kernel
theorem dX1_usable_46 : decode cX1_usable 46 = .ok (.iconst 1, 1) := by decide +kernel
theorem dX1_usable_47 : decode cX1_usable 47 = .ok (.iadd, 1) := by decide +kernel
theorem dX1_usable_48 : decode cX1_usable 48 = .ok (.aload_n 0, 1) := by decide +kernel
theorem dX1_usable_49 : decode cX1_usable 49 = .ok (.getfield 13, 3) := by decide +kernel
theorem dX1_usable_52 : decode cX1_usable 52 = .ok (.sipush 1023, 3) := by decide +kernel
theorem dX1_usable_55 : decode cX1_usable 55 = .ok (.iaload, 1) := by decide +kernel
theorem dX1_usable_56 : decode cX1_usable 56 = .ok (.if_icmp .ne 7, 3) := by decide +kernel
theorem dX1_usable_59 : decode cX1_usable 59 = .ok (.iconst 1, 1) := by decide +kernel
theorem dX1_usable_60 : decode cX1_usable 60 = .ok (.goto 4, 3) := by decide +kernel
theorem dX1_usable_63 : decode cX1_usable 63 = .ok (.iconst 0, 1) := by decide +kernel
theorem dX1_usable_64 : decode cX1_usable 64 = .ok (.ireturn, 1) := by decide +kernel
theorem dX1_needed_0 : decode cX1_needed 0 = .ok (.iload_n 1, 1) := by decide +kernel
theorem dX1_needed_1 : decode cX1_needed 1 = .ok (.iload_n 2, 1) := by decide +kernel
theorem dX1_needed_2 : decode cX1_needed 2 = .ok (.invokestatic 21, 3) := by decide +kernel
theorem dX1_needed_5 : decode cX1_needed 5 = .ok (.ifCond .eq 5, 3) := by decide +kernel
theorem dX1_needed_8 : decode cX1_needed 8 = .ok (.iconst (-1), 1) := by decide +kernel
theorem dX1_needed_9 : decode cX1_needed 9 = .ok (.ireturn, 1) := by decide +kernel
theorem dX1_needed_10 : decode cX1_needed 10 = .ok (.aload_n 0, 1) := by decide +kernel
theorem dX1_needed_11 : decode cX1_needed 11 = .ok (.invokevirtual 36, 3) := by decide +kernel
theorem dX1_needed_14 : decode cX1_needed 14 = .ok (.istore_n 3, 1) := by decide +kernel
theorem dX1_needed_15 : decode cX1_needed 15 = .ok (.aload_n 0, 1) := by decide +kernel
theorem dX1_needed_16 : decode cX1_needed 16 = .ok (.iload_n 1, 1) := by decide +kernel
theorem dX1_needed_17 : decode cX1_needed 17 = .ok (.iload_n 2, 1) := by decide +kernel
theorem dX1_needed_18 : decode cX1_needed 18 = .ok (.iconst 0, 1) := by decide +kernel
theorem dX1_needed_19 : decode cX1_needed 19 = .ok (.invokevirtual 25, 3) := by decide +kernel
theorem dX1_needed_22 : decode cX1_needed 22 = .ok (.istore 4, 2) := by decide +kernel
theorem dX1_needed_24 : decode cX1_needed 24 = .ok (.aload_n 0, 1) := by decide +kernel
theorem dX1_needed_25 : decode cX1_needed 25 = .ok (.invokevirtual 36, 3) := by decide +kernel
theorem dX1_needed_28 : decode cX1_needed 28 = .ok (.istore 5, 2) := by decide +kernel
theorem dX1_needed_30 : decode cX1_needed 30 = .ok (.iload 4, 2) := by decide +kernel
theorem dX1_needed_32 : decode cX1_needed 32 = .ok (.iconst 1, 1) := by decide +kernel
theorem dX1_needed_33 : decode cX1_needed 33 = .ok (.if_icmp .ne 11, 3) := by decide +kernel
theorem dX1_needed_36 : decode cX1_needed 36 = .ok (.aload_n 0, 1) := by decide +kernel
theorem dX1_needed_37 : decode cX1_needed 37 = .ok (.iload_n 1, 1) := by decide +kernel
theorem dX1_needed_38 : decode cX1_needed 38 = .ok (.iload_n 2, 1) := by decide +kernel
theorem dX1_needed_39 : decode cX1_needed 39 = .ok (.iconst 1, 1) := by decide +kernel
theorem dX1_needed_40 : decode cX1_needed 40 = .ok (.invokevirtual 25, 3) := by decide +kernel
theorem dX1_needed_43 : decode cX1_needed 43 = .ok (.pop, 1) := by decide +kernel
theorem dX1_needed_44 : decode cX1_needed 44 = .ok (.iload 5, 2) := by decide +kernel
theorem dX1_needed_46 : decode cX1_needed 46 = .ok (.iload_n 3, 1) := by decide +kernel
theorem dX1_needed_47 : decode cX1_needed 47 = .ok (.if_icmp .ge 7, 3) := by decide +kernel
theorem dX1_needed_50 : decode cX1_needed 50 = .ok (.iconst 1, 1) := by decide +kernel
theorem dX1_needed_51 : decode cX1_needed 51 = .ok (.goto 4, 3) := by decide +kernel
theorem dX1_needed_54 : decode cX1_needed 54 = .ok (.iconst 0, 1) := by decide +kernel
theorem dX1_needed_55 : decode cX1_needed 55 = .ok (.ireturn, 1) := by decide +kernel
theorem dX1_guards_0 : decode cX1_guards 0 = .ok (.aload_n 0, 1) := by decide +kernel
theorem dX1_guards_1 : decode cX1_guards 1 = .ok (.invokevirtual 33, 3) := by decide +kernel
theorem dX1_guards_4 : decode cX1_guards 4 = .ok (.iconst 0, 1) := by decide +kernel
theorem dX1_guards_5 : decode cX1_guards 5 = .ok (.istore_n 1, 1) := by decide +kernel
theorem dX1_guards_6 : decode cX1_guards 6 = .ok (.iconst 0, 1) := by decide +kernel
theorem dX1_guards_7 : decode cX1_guards 7 = .ok (.istore_n 2, 1) := by decide +kernel
theorem dX1_guards_8 : decode cX1_guards 8 = .ok (.iconst 0, 1) := by decide +kernel
theorem dX1_guards_9 : decode cX1_guards 9 = .ok (.istore_n 3, 1) := by decide +kernel
theorem dX1_guards_10 : decode cX1_guards 10 = .ok (.iload_n 3, 1) := by decide +kernel
theorem dX1_guards_11 : decode cX1_guards 11 = .ok (.bipush 10, 2) := by decide +kernel
theorem dX1_guards_13 : decode cX1_guards 13 = .ok (.if_icmp .ge 40, 3) := by decide +kernel
theorem dX1_guards_16 : decode cX1_guards 16 = .ok (.aload_n 0, 1) := by decide +kernel
theorem dX1_guards_17 : decode cX1_guards 17 = .ok (.getfield 13, 3) := by decide +kernel
theorem dX1_guards_20 : decode cX1_guards 20 = .ok (.sipush 1023, 3) := by decide +kernel
theorem dX1_guards_23 : decode cX1_guards 23 = .ok (.iconst 1, 1) := by decide +kernel
theorem dX1_guards_24 : decode cX1_guards 24 = .ok (.iload_n 3, 1) := by decide +kernel
theorem dX1_guards_25 : decode cX1_guards 25 = .ok (.ishl, 1) := by decide +kernel
theorem dX1_guards_26 : decode cX1_guards 26 = .ok (.iconst (-1), 1) := by decide +kernel
theorem dX1_guards_27 : decode cX1_guards 27 = .ok (.ixor, 1) := by decide +kernel
theorem dX1_guards_28 : decode cX1_guards 28 = .ok (.iand, 1) := by decide +kernel
theorem dX1_guards_29 : decode cX1_guards 29 = .ok (.iaload, 1) := by decide +kernel
theorem dX1_guards_30 : decode cX1_guards 30 = .ok (.aload_n 0, 1) := by decide +kernel
theorem dX1_guards_31 : decode cX1_guards 31 = .ok (.getfield 13, 3) := by decide +kernel
theorem dX1_guards_34 : decode cX1_guards 34 = .ok (.sipush 1023, 3) := by decide +kernel
theorem dX1_guards_37 : decode cX1_guards 37 = .ok (.iaload, 1) := by decide +kernel
theorem dX1_guards_38 : decode cX1_guards 38 = .ok (.if_icmp .ne 9, 3) := by decide +kernel
theorem dX1_guards_41 : decode cX1_guards 41 = .ok (.iload_n 1, 1) := by decide +kernel
theorem dX1_guards_42 : decode cX1_guards 42 = .ok (.iconst 1, 1) := by decide +kernel
theorem dX1_guards_43 : decode cX1_guards 43 = .ok (.iload_n 3, 1) := by decide +kernel
theorem dX1_guards_44 : decode cX1_guards 44 = .ok (.ishl, 1) := by decide +kernel
theorem dX1_guards_45 : decode cX1_guards 45 = .ok (.ior, 1) := by decide +kernel
theorem dX1_guards_46 : decode cX1_guards 46 = .ok (.istore_n 1, 1) := by decide +kernel
theorem dX1_guards_47 : decode cX1_guards 47 = .ok (.iinc 3 1, 3) := by decide +kernel
theorem dX1_guards_50 : decode cX1_guards 50 = .ok (.goto (-40), 3) := by decide +kernel
theorem dX1_guards_53 : decode cX1_guards 53 = .ok (.iconst 0, 1) := by decide +kernel
theorem dX1_guards_54 : decode cX1_guards 54 = .ok (.istore_n 3, 1) := by decide +kernel
theorem dX1_guards_55 : decode cX1_guards 55 = .ok (.iload_n 3, 1) := by decide +kernel
theorem dX1_guards_56 : decode cX1_guards 56 = .ok (.bipush 100, 2) := by decide +kernel
theorem dX1_guards_58 : decode cX1_guards 58 = .ok (.if_icmp .ge 39, 3) := by decide +kernel
theorem dX1_guards_61 : decode cX1_guards 61 = .ok (.aload_n 0, 1) := by decide +kernel
theorem dX1_guards_62 : decode cX1_guards 62 = .ok (.getfield 7, 3) := by decide +kernel
theorem dX1_guards_65 : decode cX1_guards 65 = .ok (.iload_n 3, 1) := by decide +kernel
theorem dX1_guards_66 : decode cX1_guards 66 = .ok (.baload, 1) := by decide +kernel
theorem dX1_guards_67 : decode cX1_guards 67 = .ok (.ifCond .eq 24, 3) := by decide +kernel
theorem dX1_guards_70 : decode cX1_guards 70 = .ok (.iload_n 1, 1) := by decide +kernel
theorem dX1_guards_71 : decode cX1_guards 71 = .ok (.iload_n 3, 1) := by decide +kernel
theorem dX1_guards_72 : decode cX1_guards 72 = .ok (.bipush 10, 2) := by decide +kernel
theorem dX1_guards_74 : decode cX1_guards 74 = .ok (.idiv, 1) := by decide +kernel
theorem dX1_guards_75 : decode cX1_guards 75 = .ok (.ishr, 1) := by decide +kernel
theorem dX1_guards_76 : decode cX1_guards 76 = .ok (.iconst 1, 1) := by decide +kernel
theorem dX1_guards_77 : decode cX1_guards 77 = .ok (.iand, 1) := by decide +kernel
theorem dX1_guards_78 : decode cX1_guards 78 = .ok (.iconst 1, 1) := by decide +kernel
theorem dX1_guards_79 : decode cX1_guards 79 = .ok (.if_icmp .ne 12, 3) := by decide +kernel
theorem dX1_guards_82 : decode cX1_guards 82 = .ok (.iload_n 2, 1) := by decide +kernel
theorem dX1_guards_83 : decode cX1_guards 83 = .ok (.iconst 1, 1) := by decide +kernel
theorem dX1_guards_84 : decode cX1_guards 84 = .ok (.iload_n 3, 1) := by decide +kernel
theorem dX1_guards_85 : decode cX1_guards 85 = .ok (.bipush 10, 2) := by decide +kernel
theorem dX1_guards_87 : decode cX1_guards 87 = .ok (.irem, 1) := by decide +kernel
theorem dX1_guards_88 : decode cX1_guards 88 = .ok (.ishl, 1) := by decide +kernel
theorem dX1_guards_89 : decode cX1_guards 89 = .ok (.ior, 1) := by decide +kernel
theorem dX1_guards_90 : decode cX1_guards 90 = .ok (.istore_n 2, 1) := by decide +kernel
theorem dX1_guards_91 : decode cX1_guards 91 = .ok (.iinc 3 1, 3) := by decide +kernel
theorem dX1_guards_94 : decode cX1_guards 94 = .ok (.goto (-39), 3) := by decide +kernel
theorem dX1_guards_97 : decode cX1_guards 97 = .ok (.iload_n 2, 1) := by decide +kernel
theorem dX1_guards_98 : decode cX1_guards 98 = .ok (.iload_n 1, 1) := by decide +kernel
theorem dX1_guards_99 : decode cX1_guards 99 = .ok (.iconst (-1), 1) := by decide +kernel
theorem dX1_guards_100 : decode cX1_guards 100 = .ok (.ixor, 1) := by decide +kernel
theorem dX1_guards_101 : decode cX1_guards 101 = .ok (.iand, 1) := by decide +kernel
theorem dX1_guards_102 : decode cX1_guards 102 = .ok (.ireturn, 1) := by decide +kernel
theorem dX1_mostWithout_0 : decode cX1_mostWithout 0 = .ok (.aload_n 0, 1) := by decide +kernel
theorem dX1_mostWithout_1 : decode cX1_mostWithout 1 = .ok (.invokevirtual 33, 3) := by decide +kernel
theorem dX1_mostWithout_4 : decode cX1_mostWithout 4 = .ok (.aload_n 0, 1) := by decide +kernel
theorem dX1_mostWithout_5 : decode cX1_mostWithout 5 = .ok (.getfield 13, 3) := by decide +kernel
theorem dX1_mostWithout_8 : decode cX1_mostWithout 8 = .ok (.sipush 1023, 3) := by decide +kernel
theorem dX1_mostWithout_11 : decode cX1_mostWithout 11 = .ok (.iload_n 1, 1) := by decide +kernel
theorem dX1_mostWithout_12 : decode cX1_mostWithout 12 = .ok (.iconst (-1), 1) := by decide +kernel
theorem dX1_mostWithout_13 : decode cX1_mostWithout 13 = .ok (.ixor, 1) := by decide +kernel
theorem dX1_mostWithout_14 : decode cX1_mostWithout 14 = .ok (.iand, 1) := by decide +kernel
theorem dX1_mostWithout_15 : decode cX1_mostWithout 15 = .ok (.iaload, 1) := by decide +kernel
theorem dX1_mostWithout_16 : decode cX1_mostWithout 16 = .ok (.ireturn, 1) := by decide +kernel
theorem dX1_parts_0 : decode cX1_parts 0 = .ok (.sipush 1023, 3) := by decide +kernel
theorem dX1_parts_3 : decode cX1_parts 3 = .ok (.aload_n 0, 1) := by decide +kernel
theorem dX1_parts_4 : decode cX1_parts 4 = .ok (.invokevirtual 40, 3) := by decide +kernel
theorem dX1_parts_7 : decode cX1_parts 7 = .ok (.iconst (-1), 1) := by decide +kernel
theorem dX1_parts_8 : decode cX1_parts 8 = .ok (.ixor, 1) := by decide +kernel
theorem dX1_parts_9 : decode cX1_parts 9 = .ok (.iand, 1) := by decide +kernel
theorem dX1_parts_10 : decode cX1_parts 10 = .ok (.istore_n 1, 1) := by decide +kernel
theorem dX1_parts_11 : decode cX1_parts 11 = .ok (.iconst 0, 1) := by decide +kernel
theorem dX1_parts_12 : decode cX1_parts 12 = .ok (.istore_n 2, 1) := by decide +kernel
theorem dX1_parts_13 : decode cX1_parts 13 = .ok (.iload_n 1, 1) := by decide +kernel
theorem dX1_parts_14 : decode cX1_parts 14 = .ok (.ifCond .eq 97, 3) := by decide +kernel
theorem dX1_parts_17 : decode cX1_parts 17 = .ok (.iload_n 1, 1) := by decide +kernel
theorem dX1_parts_18 : decode cX1_parts 18 = .ok (.iload_n 1, 1) := by decide +kernel
theorem dX1_parts_19 : decode cX1_parts 19 = .ok (.ineg, 1) := by decide +kernel
theorem dX1_parts_20 : decode cX1_parts 20 = .ok (.iand, 1) := by decide +kernel
theorem dX1_parts_21 : decode cX1_parts 21 = .ok (.istore_n 3, 1) := by decide +kernel
theorem dX1_parts_22 : decode cX1_parts 22 = .ok (.iconst 0, 1) := by decide +kernel
theorem dX1_parts_23 : decode cX1_parts 23 = .ok (.istore 4, 2) := by decide +kernel
theorem dX1_parts_25 : decode cX1_parts 25 = .ok (.iload 4, 2) := by decide +kernel
theorem dX1_parts_27 : decode cX1_parts 27 = .ok (.sipush 1000, 3) := by decide +kernel
theorem dX1_parts_30 : decode cX1_parts 30 = .ok (.if_icmp .ge 69, 3) := by decide +kernel
theorem dX1_parts_33 : decode cX1_parts 33 = .ok (.iload 4, 2) := by decide +kernel
theorem dX1_parts_35 : decode cX1_parts 35 = .ok (.bipush 10, 2) := by decide +kernel
theorem dX1_parts_37 : decode cX1_parts 37 = .ok (.idiv, 1) := by decide +kernel
theorem dX1_parts_38 : decode cX1_parts 38 = .ok (.bipush 10, 2) := by decide +kernel
theorem dX1_parts_40 : decode cX1_parts 40 = .ok (.irem, 1) := by decide +kernel
theorem dX1_parts_41 : decode cX1_parts 41 = .ok (.istore 5, 2) := by decide +kernel
theorem dX1_parts_43 : decode cX1_parts 43 = .ok (.iload 4, 2) := by decide +kernel
theorem dX1_parts_45 : decode cX1_parts 45 = .ok (.bipush 10, 2) := by decide +kernel
theorem dX1_parts_47 : decode cX1_parts 47 = .ok (.irem, 1) := by decide +kernel
theorem dX1_parts_48 : decode cX1_parts 48 = .ok (.istore 6, 2) := by decide +kernel
theorem dX1_parts_50 : decode cX1_parts 50 = .ok (.aload_n 0, 1) := by decide +kernel
theorem dX1_parts_51 : decode cX1_parts 51 = .ok (.getfield 7, 3) := by decide +kernel
theorem dX1_parts_54 : decode cX1_parts 54 = .ok (.bipush 10, 2) := by decide +kernel
theorem dX1_parts_56 : decode cX1_parts 56 = .ok (.iload 5, 2) := by decide +kernel
theorem dX1_parts_58 : decode cX1_parts 58 = .ok (.imul, 1) := by decide +kernel
theorem dX1_parts_59 : decode cX1_parts 59 = .ok (.iload 6, 2) := by decide +kernel
theorem dX1_parts_61 : decode cX1_parts 61 = .ok (.iadd, 1) := by decide +kernel
theorem dX1_parts_62 : decode cX1_parts 62 = .ok (.baload, 1) := by decide +kernel
theorem dX1_parts_63 : decode cX1_parts 63 = .ok (.ifCond .eq 30, 3) := by decide +kernel
theorem dX1_parts_66 : decode cX1_parts 66 = .ok (.iload_n 3, 1) := by decide +kernel
theorem dX1_parts_67 : decode cX1_parts 67 = .ok (.iload 5, 2) := by decide +kernel
theorem dX1_parts_69 : decode cX1_parts 69 = .ok (.ishr, 1) := by decide +kernel
theorem dX1_parts_70 : decode cX1_parts 70 = .ok (.iconst 1, 1) := by decide +kernel
theorem dX1_parts_71 : decode cX1_parts 71 = .ok (.iand, 1) := by decide +kernel
theorem dX1_parts_72 : decode cX1_parts 72 = .ok (.iconst 1, 1) := by decide +kernel
theorem dX1_parts_73 : decode cX1_parts 73 = .ok (.if_icmp .ne 20, 3) := by decide +kernel
theorem dX1_parts_76 : decode cX1_parts 76 = .ok (.iload_n 1, 1) := by decide +kernel
theorem dX1_parts_77 : decode cX1_parts 77 = .ok (.iload 6, 2) := by decide +kernel
theorem dX1_parts_79 : decode cX1_parts 79 = .ok (.ishr, 1) := by decide +kernel
theorem dX1_parts_80 : decode cX1_parts 80 = .ok (.iconst 1, 1) := by decide +kernel
theorem dX1_parts_81 : decode cX1_parts 81 = .ok (.iand, 1) := by decide +kernel
theorem dX1_parts_82 : decode cX1_parts 82 = .ok (.iconst 1, 1) := by decide +kernel
theorem dX1_parts_83 : decode cX1_parts 83 = .ok (.if_icmp .ne 10, 3) := by decide +kernel
theorem dX1_parts_86 : decode cX1_parts 86 = .ok (.iload_n 3, 1) := by decide +kernel
theorem dX1_parts_87 : decode cX1_parts 87 = .ok (.iconst 1, 1) := by decide +kernel
theorem dX1_parts_88 : decode cX1_parts 88 = .ok (.iload 6, 2) := by decide +kernel
theorem dX1_parts_90 : decode cX1_parts 90 = .ok (.ishl, 1) := by decide +kernel
theorem dX1_parts_91 : decode cX1_parts 91 = .ok (.ior, 1) := by decide +kernel
theorem dX1_parts_92 : decode cX1_parts 92 = .ok (.istore_n 3, 1) := by decide +kernel
theorem dX1_parts_93 : decode cX1_parts 93 = .ok (.iinc 4 1, 3) := by decide +kernel
theorem dX1_parts_96 : decode cX1_parts 96 = .ok (.goto (-71), 3) := by decide +kernel
theorem dX1_parts_99 : decode cX1_parts 99 = .ok (.iload_n 1, 1) := by decide +kernel
theorem dX1_parts_100 : decode cX1_parts 100 = .ok (.iload_n 3, 1) := by decide +kernel
theorem dX1_parts_101 : decode cX1_parts 101 = .ok (.iconst (-1), 1) := by decide +kernel
theorem dX1_parts_102 : decode cX1_parts 102 = .ok (.ixor, 1) := by decide +kernel
theorem dX1_parts_103 : decode cX1_parts 103 = .ok (.iand, 1) := by decide +kernel
theorem dX1_parts_104 : decode cX1_parts 104 = .ok (.istore_n 1, 1) := by decide +kernel
theorem dX1_parts_105 : decode cX1_parts 105 = .ok (.iinc 2 1, 3) := by decide +kernel
theorem dX1_parts_108 : decode cX1_parts 108 = .ok (.goto (-95), 3) := by decide +kernel
theorem dX1_parts_111 : decode cX1_parts 111 = .ok (.iload_n 2, 1) := by decide +kernel
theorem dX1_parts_112 : decode cX1_parts 112 = .ok (.ireturn, 1) := by decide +kernel
end
section
set_option maxRecDepth 100000
theorem dJ0_init_0 : decode cJ0_init 0 = .ok (.return_, 1) := by decide +kernel
theorem dL_law_0 : decode cL_law 0 = .ok (.new 7, 3) := by decide +kernel
theorem dL_law_3 : decode cL_law 3 = .ok (.dup, 1) := by decide +kernel
theorem dL_law_4 : decode cL_law 4 = .ok (.invokespecial 9, 3) := by decide +kernel
theorem dL_law_7 : decode cL_law 7 = .ok (.astore_n 1, 1) := by decide +kernel
theorem dL_law_8 : decode cL_law 8 = .ok (.new 10, 3) := by decide +kernel
theorem dL_law_11 : decode cL_law 11 = .ok (.dup, 1) := by decide +kernel
theorem dL_law_12 : decode cL_law 12 = .ok (.invokespecial 12, 3) := by decide +kernel
theorem dL_law_15 : decode cL_law 15 = .ok (.astore_n 2, 1) := by decide +kernel
theorem dL_law_16 : decode cL_law 16 = .ok (.iconst 0, 1) := by decide +kernel
theorem dL_law_17 : decode cL_law 17 = .ok (.istore_n 3, 1) := by decide +kernel
theorem dL_law_18 : decode cL_law 18 = .ok (.iload_n 3, 1) := by decide +kernel
theorem dL_law_19 : decode cL_law 19 = .ok (.aload_n 0, 1) := by decide +kernel
theorem dL_law_20 : decode cL_law 20 = .ok (.arraylength, 1) := by decide +kernel
theorem dL_law_21 : decode cL_law 21 = .ok (.iconst 3, 1) := by decide +kernel
theorem dL_law_22 : decode cL_law 22 = .ok (.isub, 1) := by decide +kernel
theorem dL_law_23 : decode cL_law 23 = .ok (.if_icmp .gt 284, 3) := by decide +kernel
theorem dL_law_26 : decode cL_law 26 = .ok (.aload_n 0, 1) := by decide +kernel
theorem dL_law_27 : decode cL_law 27 = .ok (.iload_n 3, 1) := by decide +kernel
theorem dL_law_28 : decode cL_law 28 = .ok (.iaload, 1) := by decide +kernel
theorem dL_law_29 : decode cL_law 29 = .ok (.bipush 15, 2) := by decide +kernel
theorem dL_law_31 : decode cL_law 31 = .ok (.iand, 1) := by decide +kernel
theorem dL_law_32 : decode cL_law 32 = .ok (.tableswitch 269 0 8 #[52, 85, 118, 131, 154, 187, 220, 233, 256], 52) := by decide +kernel
theorem dL_law_84 : decode cL_law 84 = .ok (.aload_n 1, 1) := by decide +kernel
theorem dL_law_85 : decode cL_law 85 = .ok (.aload_n 0, 1) := by decide +kernel
theorem dL_law_86 : decode cL_law 86 = .ok (.iload_n 3, 1) := by decide +kernel
theorem dL_law_87 : decode cL_law 87 = .ok (.iconst 1, 1) := by decide +kernel
theorem dL_law_88 : decode cL_law 88 = .ok (.iadd, 1) := by decide +kernel
theorem dL_law_89 : decode cL_law 89 = .ok (.iaload, 1) := by decide +kernel
theorem dL_law_90 : decode cL_law 90 = .ok (.aload_n 0, 1) := by decide +kernel
theorem dL_law_91 : decode cL_law 91 = .ok (.iload_n 3, 1) := by decide +kernel
theorem dL_law_92 : decode cL_law 92 = .ok (.iconst 2, 1) := by decide +kernel
theorem dL_law_93 : decode cL_law 93 = .ok (.iadd, 1) := by decide +kernel
theorem dL_law_94 : decode cL_law 94 = .ok (.iaload, 1) := by decide +kernel
theorem dL_law_95 : decode cL_law 95 = .ok (.invokevirtual 13, 3) := by decide +kernel
theorem dL_law_98 : decode cL_law 98 = .ok (.aload_n 2, 1) := by decide +kernel
theorem dL_law_99 : decode cL_law 99 = .ok (.aload_n 0, 1) := by decide +kernel
theorem dL_law_100 : decode cL_law 100 = .ok (.iload_n 3, 1) := by decide +kernel
theorem dL_law_101 : decode cL_law 101 = .ok (.iconst 1, 1) := by decide +kernel
theorem dL_law_102 : decode cL_law 102 = .ok (.iadd, 1) := by decide +kernel
theorem dL_law_103 : decode cL_law 103 = .ok (.iaload, 1) := by decide +kernel
theorem dL_law_104 : decode cL_law 104 = .ok (.aload_n 0, 1) := by decide +kernel
theorem dL_law_105 : decode cL_law 105 = .ok (.iload_n 3, 1) := by decide +kernel
theorem dL_law_106 : decode cL_law 106 = .ok (.iconst 2, 1) := by decide +kernel
theorem dL_law_107 : decode cL_law 107 = .ok (.iadd, 1) := by decide +kernel
theorem dL_law_108 : decode cL_law 108 = .ok (.iaload, 1) := by decide +kernel
theorem dL_law_109 : decode cL_law 109 = .ok (.invokevirtual 17, 3) := by decide +kernel
theorem dL_law_112 : decode cL_law 112 = .ok (.if_icmp .eq 189, 3) := by decide +kernel
theorem dL_law_115 : decode cL_law 115 = .ok (.iconst 0, 1) := by decide +kernel
theorem dL_law_116 : decode cL_law 116 = .ok (.ireturn, 1) := by decide +kernel
theorem dL_law_117 : decode cL_law 117 = .ok (.aload_n 1, 1) := by decide +kernel
theorem dL_law_118 : decode cL_law 118 = .ok (.aload_n 0, 1) := by decide +kernel
theorem dL_law_119 : decode cL_law 119 = .ok (.iload_n 3, 1) := by decide +kernel
theorem dL_law_120 : decode cL_law 120 = .ok (.iconst 1, 1) := by decide +kernel
theorem dL_law_121 : decode cL_law 121 = .ok (.iadd, 1) := by decide +kernel
theorem dL_law_122 : decode cL_law 122 = .ok (.iaload, 1) := by decide +kernel
theorem dL_law_123 : decode cL_law 123 = .ok (.aload_n 0, 1) := by decide +kernel
theorem dL_law_124 : decode cL_law 124 = .ok (.iload_n 3, 1) := by decide +kernel
theorem dL_law_125 : decode cL_law 125 = .ok (.iconst 2, 1) := by decide +kernel
theorem dL_law_126 : decode cL_law 126 = .ok (.iadd, 1) := by decide +kernel
theorem dL_law_127 : decode cL_law 127 = .ok (.iaload, 1) := by decide +kernel
theorem dL_law_128 : decode cL_law 128 = .ok (.invokevirtual 18, 3) := by decide +kernel
theorem dL_law_131 : decode cL_law 131 = .ok (.aload_n 2, 1) := by decide +kernel
theorem dL_law_132 : decode cL_law 132 = .ok (.aload_n 0, 1) := by decide +kernel
theorem dL_law_133 : decode cL_law 133 = .ok (.iload_n 3, 1) := by decide +kernel
theorem dL_law_134 : decode cL_law 134 = .ok (.iconst 1, 1) := by decide +kernel
theorem dL_law_135 : decode cL_law 135 = .ok (.iadd, 1) := by decide +kernel
theorem dL_law_136 : decode cL_law 136 = .ok (.iaload, 1) := by decide +kernel
theorem dL_law_137 : decode cL_law 137 = .ok (.aload_n 0, 1) := by decide +kernel
theorem dL_law_138 : decode cL_law 138 = .ok (.iload_n 3, 1) := by decide +kernel
theorem dL_law_139 : decode cL_law 139 = .ok (.iconst 2, 1) := by decide +kernel
theorem dL_law_140 : decode cL_law 140 = .ok (.iadd, 1) := by decide +kernel
theorem dL_law_141 : decode cL_law 141 = .ok (.iaload, 1) := by decide +kernel
theorem dL_law_142 : decode cL_law 142 = .ok (.invokevirtual 21, 3) := by decide +kernel
theorem dL_law_145 : decode cL_law 145 = .ok (.if_icmp .eq 156, 3) := by decide +kernel
theorem dL_law_148 : decode cL_law 148 = .ok (.iconst 0, 1) := by decide +kernel
theorem dL_law_149 : decode cL_law 149 = .ok (.ireturn, 1) := by decide +kernel
theorem dL_law_150 : decode cL_law 150 = .ok (.aload_n 1, 1) := by decide +kernel
theorem dL_law_151 : decode cL_law 151 = .ok (.invokevirtual 22, 3) := by decide +kernel
theorem dL_law_154 : decode cL_law 154 = .ok (.aload_n 2, 1) := by decide +kernel
theorem dL_law_155 : decode cL_law 155 = .ok (.invokevirtual 26, 3) := by decide +kernel
theorem dL_law_158 : decode cL_law 158 = .ok (.if_icmp .eq 143, 3) := by decide +kernel
theorem dL_law_161 : decode cL_law 161 = .ok (.iconst 0, 1) := by decide +kernel
theorem dL_law_162 : decode cL_law 162 = .ok (.ireturn, 1) := by decide +kernel
theorem dL_law_163 : decode cL_law 163 = .ok (.aload_n 1, 1) := by decide +kernel
theorem dL_law_164 : decode cL_law 164 = .ok (.aload_n 0, 1) := by decide +kernel
theorem dL_law_165 : decode cL_law 165 = .ok (.iload_n 3, 1) := by decide +kernel
theorem dL_law_166 : decode cL_law 166 = .ok (.iconst 1, 1) := by decide +kernel
theorem dL_law_167 : decode cL_law 167 = .ok (.iadd, 1) := by decide +kernel
theorem dL_law_168 : decode cL_law 168 = .ok (.iaload, 1) := by decide +kernel
theorem dL_law_169 : decode cL_law 169 = .ok (.invokevirtual 27, 3) := by decide +kernel
theorem dL_law_172 : decode cL_law 172 = .ok (.aload_n 2, 1) := by decide +kernel
theorem dL_law_173 : decode cL_law 173 = .ok (.aload_n 0, 1) := by decide +kernel
theorem dL_law_174 : decode cL_law 174 = .ok (.iload_n 3, 1) := by decide +kernel
theorem dL_law_175 : decode cL_law 175 = .ok (.iconst 1, 1) := by decide +kernel
theorem dL_law_176 : decode cL_law 176 = .ok (.iadd, 1) := by decide +kernel
theorem dL_law_177 : decode cL_law 177 = .ok (.iaload, 1) := by decide +kernel
theorem dL_law_178 : decode cL_law 178 = .ok (.invokevirtual 31, 3) := by decide +kernel
theorem dL_law_181 : decode cL_law 181 = .ok (.if_icmp .eq 120, 3) := by decide +kernel
theorem dL_law_184 : decode cL_law 184 = .ok (.iconst 0, 1) := by decide +kernel
theorem dL_law_185 : decode cL_law 185 = .ok (.ireturn, 1) := by decide +kernel
theorem dL_law_186 : decode cL_law 186 = .ok (.aload_n 1, 1) := by decide +kernel
theorem dL_law_187 : decode cL_law 187 = .ok (.aload_n 0, 1) := by decide +kernel
theorem dL_law_188 : decode cL_law 188 = .ok (.iload_n 3, 1) := by decide +kernel
theorem dL_law_189 : decode cL_law 189 = .ok (.iconst 1, 1) := by decide +kernel
theorem dL_law_190 : decode cL_law 190 = .ok (.iadd, 1) := by decide +kernel
theorem dL_law_191 : decode cL_law 191 = .ok (.iaload, 1) := by decide +kernel
theorem dL_law_192 : decode cL_law 192 = .ok (.aload_n 0, 1) := by decide +kernel
theorem dL_law_193 : decode cL_law 193 = .ok (.iload_n 3, 1) := by decide +kernel
theorem dL_law_194 : decode cL_law 194 = .ok (.iconst 2, 1) := by decide +kernel
theorem dL_law_195 : decode cL_law 195 = .ok (.iadd, 1) := by decide +kernel
theorem dL_law_196 : decode cL_law 196 = .ok (.iaload, 1) := by decide +kernel
theorem dL_law_197 : decode cL_law 197 = .ok (.invokevirtual 32, 3) := by decide +kernel
theorem dL_law_200 : decode cL_law 200 = .ok (.aload_n 2, 1) := by decide +kernel
theorem dL_law_201 : decode cL_law 201 = .ok (.aload_n 0, 1) := by decide +kernel
theorem dL_law_202 : decode cL_law 202 = .ok (.iload_n 3, 1) := by decide +kernel
theorem dL_law_203 : decode cL_law 203 = .ok (.iconst 1, 1) := by decide +kernel
theorem dL_law_204 : decode cL_law 204 = .ok (.iadd, 1) := by decide +kernel
theorem dL_law_205 : decode cL_law 205 = .ok (.iaload, 1) := by decide +kernel
theorem dL_law_206 : decode cL_law 206 = .ok (.aload_n 0, 1) := by decide +kernel
theorem dL_law_207 : decode cL_law 207 = .ok (.iload_n 3, 1) := by decide +kernel
theorem dL_law_208 : decode cL_law 208 = .ok (.iconst 2, 1) := by decide +kernel
theorem dL_law_209 : decode cL_law 209 = .ok (.iadd, 1) := by decide +kernel
theorem dL_law_210 : decode cL_law 210 = .ok (.iaload, 1) := by decide +kernel
theorem dL_law_211 : decode cL_law 211 = .ok (.invokevirtual 35, 3) := by decide +kernel
theorem dL_law_214 : decode cL_law 214 = .ok (.if_icmp .eq 87, 3) := by decide +kernel
theorem dL_law_217 : decode cL_law 217 = .ok (.iconst 0, 1) := by decide +kernel
theorem dL_law_218 : decode cL_law 218 = .ok (.ireturn, 1) := by decide +kernel
theorem dL_law_219 : decode cL_law 219 = .ok (.aload_n 1, 1) := by decide +kernel
theorem dL_law_220 : decode cL_law 220 = .ok (.aload_n 0, 1) := by decide +kernel
theorem dL_law_221 : decode cL_law 221 = .ok (.iload_n 3, 1) := by decide +kernel
theorem dL_law_222 : decode cL_law 222 = .ok (.iconst 1, 1) := by decide +kernel
theorem dL_law_223 : decode cL_law 223 = .ok (.iadd, 1) := by decide +kernel
theorem dL_law_224 : decode cL_law 224 = .ok (.iaload, 1) := by decide +kernel
theorem dL_law_225 : decode cL_law 225 = .ok (.aload_n 0, 1) := by decide +kernel
theorem dL_law_226 : decode cL_law 226 = .ok (.iload_n 3, 1) := by decide +kernel
theorem dL_law_227 : decode cL_law 227 = .ok (.iconst 2, 1) := by decide +kernel
theorem dL_law_228 : decode cL_law 228 = .ok (.iadd, 1) := by decide +kernel
theorem dL_law_229 : decode cL_law 229 = .ok (.iaload, 1) := by decide +kernel
theorem dL_law_230 : decode cL_law 230 = .ok (.invokevirtual 36, 3) := by decide +kernel
theorem dL_law_233 : decode cL_law 233 = .ok (.aload_n 2, 1) := by decide +kernel
theorem dL_law_234 : decode cL_law 234 = .ok (.aload_n 0, 1) := by decide +kernel
theorem dL_law_235 : decode cL_law 235 = .ok (.iload_n 3, 1) := by decide +kernel
theorem dL_law_236 : decode cL_law 236 = .ok (.iconst 1, 1) := by decide +kernel
theorem dL_law_237 : decode cL_law 237 = .ok (.iadd, 1) := by decide +kernel
theorem dL_law_238 : decode cL_law 238 = .ok (.iaload, 1) := by decide +kernel
theorem dL_law_239 : decode cL_law 239 = .ok (.aload_n 0, 1) := by decide +kernel
theorem dL_law_240 : decode cL_law 240 = .ok (.iload_n 3, 1) := by decide +kernel
theorem dL_law_241 : decode cL_law 241 = .ok (.iconst 2, 1) := by decide +kernel
theorem dL_law_242 : decode cL_law 242 = .ok (.iadd, 1) := by decide +kernel
theorem dL_law_243 : decode cL_law 243 = .ok (.iaload, 1) := by decide +kernel
theorem dL_law_244 : decode cL_law 244 = .ok (.invokevirtual 39, 3) := by decide +kernel
theorem dL_law_247 : decode cL_law 247 = .ok (.if_icmp .eq 54, 3) := by decide +kernel
theorem dL_law_250 : decode cL_law 250 = .ok (.iconst 0, 1) := by decide +kernel
theorem dL_law_251 : decode cL_law 251 = .ok (.ireturn, 1) := by decide +kernel
theorem dL_law_252 : decode cL_law 252 = .ok (.aload_n 1, 1) := by decide +kernel
theorem dL_law_253 : decode cL_law 253 = .ok (.invokevirtual 40, 3) := by decide +kernel
theorem dL_law_256 : decode cL_law 256 = .ok (.aload_n 2, 1) := by decide +kernel
theorem dL_law_257 : decode cL_law 257 = .ok (.invokevirtual 43, 3) := by decide +kernel
theorem dL_law_260 : decode cL_law 260 = .ok (.if_icmp .eq 41, 3) := by decide +kernel
theorem dL_law_263 : decode cL_law 263 = .ok (.iconst 0, 1) := by decide +kernel
theorem dL_law_264 : decode cL_law 264 = .ok (.ireturn, 1) := by decide +kernel
theorem dL_law_265 : decode cL_law 265 = .ok (.aload_n 1, 1) := by decide +kernel
theorem dL_law_266 : decode cL_law 266 = .ok (.aload_n 0, 1) := by decide +kernel
theorem dL_law_267 : decode cL_law 267 = .ok (.iload_n 3, 1) := by decide +kernel
theorem dL_law_268 : decode cL_law 268 = .ok (.iconst 1, 1) := by decide +kernel
theorem dL_law_269 : decode cL_law 269 = .ok (.iadd, 1) := by decide +kernel
theorem dL_law_270 : decode cL_law 270 = .ok (.iaload, 1) := by decide +kernel
theorem dL_law_271 : decode cL_law 271 = .ok (.invokevirtual 44, 3) := by decide +kernel
theorem dL_law_274 : decode cL_law 274 = .ok (.aload_n 2, 1) := by decide +kernel
theorem dL_law_275 : decode cL_law 275 = .ok (.aload_n 0, 1) := by decide +kernel
theorem dL_law_276 : decode cL_law 276 = .ok (.iload_n 3, 1) := by decide +kernel
theorem dL_law_277 : decode cL_law 277 = .ok (.iconst 1, 1) := by decide +kernel
theorem dL_law_278 : decode cL_law 278 = .ok (.iadd, 1) := by decide +kernel
theorem dL_law_279 : decode cL_law 279 = .ok (.iaload, 1) := by decide +kernel
theorem dL_law_280 : decode cL_law 280 = .ok (.invokevirtual 47, 3) := by decide +kernel
theorem dL_law_283 : decode cL_law 283 = .ok (.if_icmp .eq 18, 3) := by decide +kernel
theorem dL_law_286 : decode cL_law 286 = .ok (.iconst 0, 1) := by decide +kernel
theorem dL_law_287 : decode cL_law 287 = .ok (.ireturn, 1) := by decide +kernel
theorem dL_law_288 : decode cL_law 288 = .ok (.aload_n 1, 1) := by decide +kernel
theorem dL_law_289 : decode cL_law 289 = .ok (.invokevirtual 48, 3) := by decide +kernel
theorem dL_law_292 : decode cL_law 292 = .ok (.aload_n 2, 1) := by decide +kernel
theorem dL_law_293 : decode cL_law 293 = .ok (.invokevirtual 51, 3) := by decide +kernel
theorem dL_law_296 : decode cL_law 296 = .ok (.if_icmp .eq 5, 3) := by decide +kernel
theorem dL_law_299 : decode cL_law 299 = .ok (.iconst 0, 1) := by decide +kernel
theorem dL_law_300 : decode cL_law 300 = .ok (.ireturn, 1) := by decide +kernel
theorem dL_law_301 : decode cL_law 301 = .ok (.iinc 3 3, 3) := by decide +kernel
theorem dL_law_304 : decode cL_law 304 = .ok (.goto (-286), 3) := by decide +kernel
theorem dL_law_307 : decode cL_law 307 = .ok (.iconst 1, 1) := by decide +kernel
theorem dL_law_308 : decode cL_law 308 = .ok (.ireturn, 1) := by decide +kernel
end
section
/-! the pure picture of a desk -/
def bd_enc (x : Nat) : Int32 := if x < 10 then nI x else -1
def bd_bz (b : Bool) : Int32 := if b = true then 1 else 0
def bd_mk (f : Nat → Bool) : Nat → Nat
  | 0 => 0
  | n + 1 => bd_mk f n ||| (if f n = true then 2 ^ n else 0)
def bd_msk (f : Nat → Bool) : Nat := bd_mk f 10
def bd_bs (f : Nat → Bool) : Int32 := nI (bd_msk f)
def bd_gd {α : Type} (c : Prop) [Decidable c] (x : Option α) : Option α := if c then x else none
def bd_fl {α : Type} (n : Nat) (x : α) (f : Nat → α) : Nat → α := fun v => if v < n then x else f v
def bd_idn (n : Nat) (f : Nat → Nat) : Nat → Nat := fun v => if v < n then v else f v
theorem bd_gd_some {α : Type} {c : Prop} [Decidable c] {x : Option α} {u : α} (h : bd_gd c x = some u) : c ∧ x = some u := by
  unfold bd_gd at h
  split at h
  · exact ⟨by assumption, h⟩
  · cases h
theorem bd_gd_t {α : Type} {c : Prop} [Decidable c] {x : Option α} (h : c) : bd_gd c x = x := by
  unfold bd_gd; rw [if_pos h]
/-- J, absent, mate, outer, reachedFrom, base, inRing, passed, queueEnd, queue -/
abbrev bd_DS : Type := (Nat → Nat → Bool) × (Nat → Bool) × (Nat → Nat) × (Nat → Bool) × (Nat → Nat) × (Nat → Nat) × (Nat → Bool) × (Nat → Bool) × Nat × (Nat → Nat)
/-- outer, reachedFrom, base, inRing, passed, queueEnd, queue -/
abbrev bd_SS : Type := (Nat → Bool) × (Nat → Nat) × (Nat → Nat) × (Nat → Bool) × (Nat → Bool) × Nat × (Nat → Nat)
def bd_makeOuter (o : Nat → Bool) (qe : Nat) (q : Nat → Nat) (p : Nat) : Option ((Nat → Bool) × Nat × (Nat → Nat)) :=
  if o p = true then some (o, qe, q) else bd_gd (qe < 10) (some (va_up o p true, qe + 1, va_up q qe p))
def bd_mb1 (m r b : Nat → Nat) : Nat → Nat → (Nat → Bool) → Option (Nat → Bool)
  | 0, _, P => some P
  | n + 1, x, P => if m x < 10 then bd_gd (r (m x) < 10 ∧ b (r (m x)) < 10) (bd_mb1 m r b n (b (r (m x))) (va_up P (b (r (m x))) true)) else some P
def bd_mb2 (m r b : Nat → Nat) (P : Nat → Bool) : Nat → Nat → Option Nat
  | 0, y => some y
  | n + 1, y => if P y = true then some y else bd_gd (m y < 10 ∧ r (m y) < 10 ∧ b (r (m y)) < 10) (bd_mb2 m r b P n (b (r (m y))))
def bd_meet (m r b : Nat → Nat) (p : Nat → Bool) (a c : Nat) : Option (Nat × (Nat → Bool)) :=
  bd_gd (b a < 10 ∧ b c < 10) ((bd_mb1 m r b 10 (b a) (va_up (bd_fl 10 false p) (b a) true)).bind fun P => (bd_mb2 m r b P 10 (b c)).bind fun y => some (y, P))
def bd_mw (m b : Nat → Nat) (cm : Nat) : Nat → Nat → Nat → (Nat → Nat) → (Nat → Bool) → Option ((Nat → Nat) × (Nat → Bool))
  | 0, _, _, r, i => some (r, i)
  | n + 1, v, c, r, i => if b v = cm then some (r, i) else bd_gd (b v < 10 ∧ m v < 10 ∧ b (m v) < 10 ∧ va_up r v c (m v) < 10) (bd_mw m b cm n (va_up r v c (m v)) (m v) (va_up r v c) (va_up (va_up i (b v) true) (b (m v)) true))
def bd_dt (cm : Nat) (i : Nat → Bool) : Nat → Nat → (Nat → Nat) → (Nat → Bool) → Nat → (Nat → Nat) → Option ((Nat → Nat) × (Nat → Bool) × Nat × (Nat → Nat))
  | 0, _, b, o, qe, q => some (b, o, qe, q)
  | n + 1, p, b, o, qe, q => bd_gd (b p < 10) (if i (b p) = true then (bd_makeOuter o qe q p).bind fun x => bd_dt cm i n (p + 1) (va_up b p cm) x.1 x.2.1 x.2.2 else bd_dt cm i n (p + 1) b o qe q)
def bd_draw (m : Nat → Nat) (s : bd_SS) (a c : Nat) : Option bd_SS :=
  (bd_meet m s.2.1 s.2.2.1 s.2.2.2.2.1 a c).bind fun y => bd_gd (y.1 < 10) (
    (bd_mw m s.2.2.1 y.1 10 a c s.2.1 (bd_fl 10 false s.2.2.2.1)).bind fun x1 =>
    (bd_mw m s.2.2.1 y.1 10 c a x1.1 x1.2).bind fun x2 =>
    (bd_dt y.1 x2.2 10 0 s.2.2.1 s.1 s.2.2.2.2.2.1 s.2.2.2.2.2.2).bind fun x3 =>
    some (x3.2.1, x2.1, x3.1, x2.2, y.2, x3.2.2.1, x3.2.2.2))
def bd_follow (m : Nat → Nat) (s : bd_SS) (fr to root : Nat) : Option (Nat × bd_SS) :=
  bd_gd (s.2.2.1 fr < 10 ∧ s.2.2.1 to < 10) (
    if s.2.2.1 fr = s.2.2.1 to ∨ m fr = to then some (10, s)
    else if to = root ∨ (m to < 10 ∧ s.2.1 (m to) < 10) then (bd_draw m s fr to).bind fun x => some (10, x)
    else if s.2.1 to < 10 then some (10, s)
    else if m to < 10 then (bd_makeOuter s.1 s.2.2.2.2.2.1 s.2.2.2.2.2.2 (m to)).bind fun x => some (10, (x.1, va_up s.2.1 to fr, s.2.2.1, s.2.2.2.1, s.2.2.2.2.1, x.2.1, x.2.2))
    else some (to, (s.1, va_up s.2.1 to fr, s.2.2.1, s.2.2.2.1, s.2.2.2.2.1, s.2.2.2.2.2.1, s.2.2.2.2.2.2)))
def bd_s2 (J : Nat → Nat → Bool) (ab : Nat → Bool) (m : Nat → Nat) (root k : Nat) : Nat → Nat → bd_SS → Option (Nat × bd_SS)
  | 0, _, s => some (10, s)
  | n + 1, to, s => bd_gd (s.2.2.2.2.2.2 k < 10) (
      if J (s.2.2.2.2.2.2 k) to = true ∧ ab to = false then (bd_follow m s (s.2.2.2.2.2.2 k) to root).bind fun x => if x.1 < 10 then some x else bd_s2 J ab m root k n (to + 1) x.2
      else bd_s2 J ab m root k n (to + 1) s)
def bd_s1 (J : Nat → Nat → Bool) (ab : Nat → Bool) (m : Nat → Nat) (root : Nat) : Nat → Nat → bd_SS → Option (Nat × bd_SS)
  | 0, _, s => some (10, s)
  | n + 1, k, s => bd_gd (s.2.2.2.2.2.1 ≤ 10) (if k < s.2.2.2.2.2.1 then (bd_s2 J ab m root k 10 0 s).bind fun x => if x.1 < 10 then some x else bd_s1 J ab m root n (k + 1) x.2
      else some (10, s))
def bd_search (J : Nat → Nat → Bool) (ab : Nat → Bool) (m : Nat → Nat) (s : bd_SS) (root : Nat) : Option (Nat × bd_SS) :=
  (bd_makeOuter (bd_fl 10 false s.1) 0 s.2.2.2.2.2.2 root).bind fun x =>
    bd_s1 J ab m root 10 0 (x.1, bd_fl 10 10 s.2.1, bd_idn 10 s.2.2.1, s.2.2.2.1, s.2.2.2.2.1, x.2.1, x.2.2)
def bd_turn (r : Nat → Nat) : Nat → Nat → (Nat → Nat) → Option (Nat → Nat)
  | 0, _, m => some m
  | n + 1, v, m => if v < 10 then bd_gd (r v < 10) (bd_turn r n (m (r v)) (va_up (va_up m v (r v)) (r v) v)) else some m
def bd_pw (J : Nat → Nat → Bool) (ab : Nat → Bool) : Nat → Nat → Nat → (Nat → Nat) → bd_SS → Option (Nat × (Nat → Nat) × bd_SS)
  | 0, _, c, m, s => some (c, m, s)
  | n + 1, p, c, m, s => if ¬ m p < 10 ∧ ab p = false then
        (bd_search J ab m s p).bind fun x => if x.1 < 10 then (bd_turn x.2.2.1 10 x.1 m).bind fun m' => bd_pw J ab n (p + 1) (c + 1) m' x.2 else bd_pw J ab n (p + 1) c m x.2
      else bd_pw J ab n (p + 1) c m s
def bd_pairWithout (J : Nat → Nat → Bool) (set : Nat → Bool) (m : Nat → Nat) (s : bd_SS) : Option (Nat × (Nat → Nat) × bd_SS) := bd_pw J set 10 0 0 (bd_fl 10 10 m) s
def bd_sp (J : Nat → Nat → Bool) (ab : Nat → Bool) (m : Nat → Nat) : Nat → Nat → (Nat → Bool) → bd_SS → Option ((Nat → Bool) × bd_SS)
  | 0, _, S, s => some (S, s)
  | n + 1, p, S, s => if m p < 10 then bd_sp J ab m n (p + 1) S s else
      (bd_search J ab m s p).bind fun x => bd_sp J ab m n (p + 1) (fun v => S v || x.2.1 v) x.2
/-- partOf: rounds over the points -/
def bd_po2 (J : Nat → Nat → Bool) (w : Nat → Bool) : Nat → Nat → (Nat → Bool) → Nat → Bool
  | 0, _, P => P
  | n + 1, p, P => bd_po2 J w n (p + 1) (fun v => P v || (P p && (J p v && w v)))
def bd_po1 (J : Nat → Nat → Bool) (w : Nat → Bool) : Nat → (Nat → Bool) → Nat → Bool
  | 0, P => P
  | n + 1, P => bd_po1 J w n (bd_po2 J w 10 0 P)
end
section
/-! rows for the desk's world -/
set_option maxRecDepth 100000
abbrev bd_Cl : List vw_C := [(RX0, TX0, 10), (RX1, TX1, 2)]
def bd_w (h : Nat → Nat) (d : Nat → ClassId) (st : bd_DS) : va_W :=
  [(h 0, .inr (0, [.ref (h 1), .int (bd_bs st.2.1), .ref (h 2), .ref (h 3), .ref (h 4), .ref (h 5), .ref (h 6), .ref (h 7), .int (nI st.2.2.2.2.2.2.2.2.1), .ref (h 8)])),
   (h 1, .inl (d 1, 10, .inl (fun v => bd_bs (st.1 v)))),
   (h 2, .inl (d 2, 10, .inl (fun v => bd_enc (st.2.2.1 v)))),
   (h 3, .inl (d 3, 10, .inl (fun v => bd_bz (st.2.2.2.1 v)))),
   (h 4, .inl (d 4, 10, .inl (fun v => bd_enc (st.2.2.2.2.1 v)))),
   (h 5, .inl (d 5, 10, .inl (fun v => bd_enc (st.2.2.2.2.2.1 v)))),
   (h 6, .inl (d 6, 10, .inl (fun v => bd_bz (st.2.2.2.2.2.2.1 v)))),
   (h 7, .inl (d 7, 10, .inl (fun v => bd_bz (st.2.2.2.2.2.2.2.1 v)))),
   (h 8, .inl (d 8, 10, .inl (fun v => bd_enc (st.2.2.2.2.2.2.2.2.2 v))))]
def bd_ty (d : Nat → ClassId) : List (ClassId × FieldType) := [(d 1, .int), (d 2, .int), (d 3, .boolean), (d 4, .int), (d 5, .int), (d 6, .boolean), (d 7, .boolean), (d 8, .int)]
def bd_at (D : va_G) (h : Nat → Nat) (d : Nat → ClassId) (A : Nat → Prop) (H0 H : Heap) (locs : List Loc) (st : bd_DS) : Prop :=
  va_P D bd_Cl (bd_w h d st) H ∧ va_D A (bd_w h d st) ∧ va_S A H0 H locs
def bd_cx (p : Program) (c : Code) (cc : ByteArray) (nL : Nat) (s : State) (m : MethodId) (args : Array Value) (D : va_G) (d : Nat → ClassId) : Prop :=
  CallFix p m c cc nL s args lw_all RX0 ∧ va_K D bd_Cl (bd_ty d) s
def bd_pre (D : va_G) (h : Nat → Nat) (d : Nat → ClassId) (sz : Nat) (st : bd_DS) (U : State) : Prop :=
  U.heap.size = sz ∧ va_P D bd_Cl (bd_w h d st) U.heap ∧ va_K D bd_Cl (bd_ty d) U ∧ va_D (fun _ => True) (bd_w h d st)
def bd_B (D : va_G) (h : Nat → Nat) (d : Nat → ClassId) (st : bd_DS) (A : Nat → Prop) (_ : Unit) (t : State) : Prop :=
  va_P D bd_Cl (bd_w h d st) t.heap ∧ va_K D bd_Cl (bd_ty d) t ∧ va_D A (bd_w h d st)
/-- the end of a method that answers v and leaves the desk as st -/
abbrev bd_Qi (D : va_G) (h : Nat → Nat) (d : Nat → ClassId) (v : Int32) (st : bd_DS) (A : Nat → Prop) : Array Value → State → Outcome → State → Prop := va_Qi (fun r (_ : Unit) => r = v) (bd_B D h d st A) A
abbrev bd_Qv (D : va_G) (h : Nat → Nat) (d : Nat → ClassId) (st : bd_DS) (A : Nat → Prop) : Array Value → State → Outcome → State → Prop := va_Qv (fun (_ : Unit) => True) (bd_B D h d st A) A
/-- contracts of the desk's methods: from st to st' with answer v -/
abbrev bd_MI (l : Launch) (y : MethodName) (cd : ByteArray) (nL : Nat) (ret : Option FieldType) (fr lo : Nat) (D : va_G) (h : Nat → Nat) (d : Nat → ClassId) (sz : Nat) (As : List Value) (st : bd_DS) (v : Int32) (st' : bd_DS) : Prop :=
  Met l y (ws_ y cd nL ret) { frames := fr, cells := 0, slots := 0, locals := lo } (va_Pc (.ref (h 0) :: As) (bd_pre D h d sz st)) (bd_Qi D h d v st' (va_A (bd_w h d st) sz)) 0 0 (va_A (bd_w h d st) sz)
abbrev bd_MV (l : Launch) (y : MethodName) (cd : ByteArray) (nL : Nat) (fr lo : Nat) (D : va_G) (h : Nat → Nat) (d : Nat → ClassId) (sz : Nat) (As : List Value) (st : bd_DS) (st' : bd_DS) : Prop :=
  Met l y (ws_ y cd nL none) { frames := fr, cells := 0, slots := 0, locals := lo } (va_Pc (.ref (h 0) :: As) (bd_pre D h d sz st)) (bd_Qv D h d st' (va_A (bd_w h d st) sz)) 0 0 (va_A (bd_w h d st) sz)
theorem bd_upd {α : Type} (g : α → Int32) (f : Nat → α) (k : Nat) (x : α) : upd (fun v => g (f v)) k (g x) = fun v => g (va_up f k x v) := by
  funext v
  simp only [upd, va_up]
  split <;> rfl
theorem bd_enc_lt {x : Nat} (h : x < 10) : bd_enc x = nI x := by unfold bd_enc; rw [if_pos h]
theorem bd_nar (b : Bool) : vp_nar .boolean (bd_bz b) = bd_bz b := by cases b <;> decide
theorem bd_ofW {l : Launch} {y : MethodName} {cd : ByteArray} {nL : Nat} {ret : Option FieldType} {rm : Room} {As : List Value} {st : bd_DS} {sz : Nat} {D : va_G} {h : Nat → Nat} {d : Nat → ClassId} {Qc : (Nat → Prop) → Array Value → State → Outcome → State → Prop} (hy : plainName y.cls = true) (hyc : y.cls = RX0) (hlen : (lg_sl (.ref (h 0) :: As)).length ≤ nL)
    (body : ∀ (p : Program) (e : Env) (s : State) (m : MethodId) (below : List Frame) (meth : Method) (c : Code) (A : Nat → Prop), bd_cx p c cd nL s m (Value.ref (h 0) :: As).toArray D d → meth.sig.returnType = ret → meth.locks = false → (∀ q, s.heap.size ≤ q → A q) → bd_at D h d A s.heap s.heap [] st → ∀ ls : Array Slot, lv_has ls nL (lv_args 0 (.ref (h 0) :: As)) → W p l e rm s m (Value.ref (h 0) :: As).toArray below meth c s.heap [] 0 0 (MQ below (Qc A) (Value.ref (h 0) :: As).toArray s 0 0 A) (F0 m 0 ls [])) :
    Met l y (ws_ y cd nL ret) rm (va_Pc (.ref (h 0) :: As) (bd_pre D h d sz st)) (Qc (va_A (bd_w h d st) sz)) 0 0 (va_A (bd_w h d st) sz) := by
  refine Met.ofW (cc := cd) (maxL := nL) (ret := ret) hy rfl ?_
  intro p e s m args below meth c s₁ B hml hv
  obtain ⟨rfl, hsz, hP, hK, hD0⟩ := hv
  subst hsz
  have hts := atoms_spec (ws := ws_ y cd nL ret) B.pre
  have hts : ∀ w ∈ lw_all, w.before _ s = true := fun w h => hts w (List.mem_cons_of_mem _ h)
  have hown : s.vm.findClass RX0 = some m.cls := by rw [← hyc]; exact findClass_of_methodNamed B.named
  have hl := lv_entry (.ref (h 0) :: As) (n := nL) hlen
  rw [lg_entry_eq]
  exact body p e s m below meth c _ ⟨⟨B.exec, B.bytes, hml, hown, hts⟩, hK⟩ B.returns B.notSynchronized (fun q h => Or.inr h) ⟨hP, hD0.self, va_S.rf⟩ _ hl
section BDROWS
variable {p : Program} {l : Launch} {e : Env} {R : Room} {s : State} {m : MethodId} {args : Array Value} {below : List Frame} {meth : Method} {c : Code} {H : Heap} {locs : List Loc} {cells slots : Nat} {Q : State → Prop}
variable {cc : ByteArray} {pc nL : Nat} {ls : Array Slot} {rest : List Value} {D : va_G} {A : Nat → Prop} {H0 : Heap} {h : Nat → Nat} {d : Nat → ClassId} {st : bd_DS}
variable {J : Nat → Nat → Bool} {ab o i pp : Nat → Bool} {mm r b q : Nat → Nat} {qe : Nat}
theorem bd_top {x y : Int32} (hxy : x = y) (kk : W p l e R s m args below meth c H locs cells slots Q (F0 m pc ls (.int y :: rest))) : W p l e R s m args below meth c H locs cells slots Q (F0 m pc ls (.int x :: rest)) := by
  subst hxy; exact kk
theorem bd_top2 {x y : Int32} {v : Value} (hxy : x = y) (kk : W p l e R s m args below meth c H locs cells slots Q (F0 m pc ls (v :: .int y :: rest))) : W p l e R s m args below meth c H locs cells slots Q (F0 m pc ls (v :: .int x :: rest)) := by
  subst hxy; exact kk
theorem bd_getJ (C : bd_cx p c cc nL s m args D d) (hw : bd_at D h d A H0 H locs st) (hdg : decode cc pc = .ok (.getfield 7, 3)) (kk : W p l e R s m args below meth c H locs cells slots Q (F0 m (pc + 3) ls (.ref (h 1) :: rest))) : W p l e R s m args below meth c H locs cells slots Q (F0 m pc ls (.ref (h 0) :: rest)) :=
  va_get (D := D) (ci := 0) (v := .ref (h 1)) (C := RX0) (T := TX0) (N := 10) C.1.1 C.1.2.1 C.1.2.2.2.2 in_X0 C.1.2.2.2.1 C.2 hw.1 0 rfl rfl 0 (by decide) (C.1.2.2.2.2 _ q25) (fun _ h9 => h9) rfl hdg kk
theorem bd_getM (C : bd_cx p c cc nL s m args D d) (hw : bd_at D h d A H0 H locs st) (hdg : decode cc pc = .ok (.getfield 13, 3)) (kk : W p l e R s m args below meth c H locs cells slots Q (F0 m (pc + 3) ls (.ref (h 2) :: rest))) : W p l e R s m args below meth c H locs cells slots Q (F0 m pc ls (.ref (h 0) :: rest)) :=
  va_get (D := D) (ci := 0) (v := .ref (h 2)) (C := RX0) (T := TX0) (N := 10) C.1.1 C.1.2.1 C.1.2.2.2.2 in_X0 C.1.2.2.2.1 C.2 hw.1 0 rfl rfl 2 (by decide) (C.1.2.2.2.2 _ q27) (fun _ h9 => h9) rfl hdg kk
theorem bd_getO (C : bd_cx p c cc nL s m args D d) (hw : bd_at D h d A H0 H locs st) (hdg : decode cc pc = .ok (.getfield 16, 3)) (kk : W p l e R s m args below meth c H locs cells slots Q (F0 m (pc + 3) ls (.ref (h 3) :: rest))) : W p l e R s m args below meth c H locs cells slots Q (F0 m pc ls (.ref (h 0) :: rest)) :=
  va_get (D := D) (ci := 0) (v := .ref (h 3)) (C := RX0) (T := TX0) (N := 10) C.1.1 C.1.2.1 C.1.2.2.2.2 in_X0 C.1.2.2.2.1 C.2 hw.1 0 rfl rfl 3 (by decide) (C.1.2.2.2.2 _ q28) (fun _ h9 => h9) rfl hdg kk
theorem bd_getR (C : bd_cx p c cc nL s m args D d) (hw : bd_at D h d A H0 H locs st) (hdg : decode cc pc = .ok (.getfield 20, 3)) (kk : W p l e R s m args below meth c H locs cells slots Q (F0 m (pc + 3) ls (.ref (h 4) :: rest))) : W p l e R s m args below meth c H locs cells slots Q (F0 m pc ls (.ref (h 0) :: rest)) :=
  va_get (D := D) (ci := 0) (v := .ref (h 4)) (C := RX0) (T := TX0) (N := 10) C.1.1 C.1.2.1 C.1.2.2.2.2 in_X0 C.1.2.2.2.1 C.2 hw.1 0 rfl rfl 4 (by decide) (C.1.2.2.2.2 _ q29) (fun _ h9 => h9) rfl hdg kk
theorem bd_getB (C : bd_cx p c cc nL s m args D d) (hw : bd_at D h d A H0 H locs st) (hdg : decode cc pc = .ok (.getfield 23, 3)) (kk : W p l e R s m args below meth c H locs cells slots Q (F0 m (pc + 3) ls (.ref (h 5) :: rest))) : W p l e R s m args below meth c H locs cells slots Q (F0 m pc ls (.ref (h 0) :: rest)) :=
  va_get (D := D) (ci := 0) (v := .ref (h 5)) (C := RX0) (T := TX0) (N := 10) C.1.1 C.1.2.1 C.1.2.2.2.2 in_X0 C.1.2.2.2.1 C.2 hw.1 0 rfl rfl 5 (by decide) (C.1.2.2.2.2 _ q30) (fun _ h9 => h9) rfl hdg kk
theorem bd_getI (C : bd_cx p c cc nL s m args D d) (hw : bd_at D h d A H0 H locs st) (hdg : decode cc pc = .ok (.getfield 26, 3)) (kk : W p l e R s m args below meth c H locs cells slots Q (F0 m (pc + 3) ls (.ref (h 6) :: rest))) : W p l e R s m args below meth c H locs cells slots Q (F0 m pc ls (.ref (h 0) :: rest)) :=
  va_get (D := D) (ci := 0) (v := .ref (h 6)) (C := RX0) (T := TX0) (N := 10) C.1.1 C.1.2.1 C.1.2.2.2.2 in_X0 C.1.2.2.2.1 C.2 hw.1 0 rfl rfl 6 (by decide) (C.1.2.2.2.2 _ q31) (fun _ h9 => h9) rfl hdg kk
theorem bd_getP (C : bd_cx p c cc nL s m args D d) (hw : bd_at D h d A H0 H locs st) (hdg : decode cc pc = .ok (.getfield 29, 3)) (kk : W p l e R s m args below meth c H locs cells slots Q (F0 m (pc + 3) ls (.ref (h 7) :: rest))) : W p l e R s m args below meth c H locs cells slots Q (F0 m pc ls (.ref (h 0) :: rest)) :=
  va_get (D := D) (ci := 0) (v := .ref (h 7)) (C := RX0) (T := TX0) (N := 10) C.1.1 C.1.2.1 C.1.2.2.2.2 in_X0 C.1.2.2.2.1 C.2 hw.1 0 rfl rfl 7 (by decide) (C.1.2.2.2.2 _ q32) (fun _ h9 => h9) rfl hdg kk
theorem bd_getQ (C : bd_cx p c cc nL s m args D d) (hw : bd_at D h d A H0 H locs st) (hdg : decode cc pc = .ok (.getfield 32, 3)) (kk : W p l e R s m args below meth c H locs cells slots Q (F0 m (pc + 3) ls (.ref (h 8) :: rest))) : W p l e R s m args below meth c H locs cells slots Q (F0 m pc ls (.ref (h 0) :: rest)) :=
  va_get (D := D) (ci := 0) (v := .ref (h 8)) (C := RX0) (T := TX0) (N := 10) C.1.1 C.1.2.1 C.1.2.2.2.2 in_X0 C.1.2.2.2.1 C.2 hw.1 0 rfl rfl 9 (by decide) (C.1.2.2.2.2 _ q34) (fun _ h9 => h9) rfl hdg kk
theorem bd_getAB (C : bd_cx p c cc nL s m args D d) (hw : bd_at D h d A H0 H locs (J, ab, mm, o, r, b, i, pp, qe, q)) (hdg : decode cc pc = .ok (.getfield 63, 3)) (kk : W p l e R s m args below meth c H locs cells slots Q (F0 m (pc + 3) ls (.int (bd_bs ab) :: rest))) : W p l e R s m args below meth c H locs cells slots Q (F0 m pc ls (.ref (h 0) :: rest)) :=
  va_get (D := D) (ci := 0) (v := .int (bd_bs ab)) (C := RX0) (T := TX0) (N := 10) C.1.1 C.1.2.1 C.1.2.2.2.2 in_X0 C.1.2.2.2.1 C.2 hw.1 0 rfl rfl 1 (by decide) (C.1.2.2.2.2 _ q26) (fun _ h9 => h9) rfl hdg kk
theorem bd_getE (C : bd_cx p c cc nL s m args D d) (hw : bd_at D h d A H0 H locs (J, ab, mm, o, r, b, i, pp, qe, q)) (hdg : decode cc pc = .ok (.getfield 74, 3)) (kk : W p l e R s m args below meth c H locs cells slots Q (F0 m (pc + 3) ls (.int (nI qe) :: rest))) : W p l e R s m args below meth c H locs cells slots Q (F0 m pc ls (.ref (h 0) :: rest)) :=
  va_get (D := D) (ci := 0) (v := .int (nI qe)) (C := RX0) (T := TX0) (N := 10) C.1.1 C.1.2.1 C.1.2.2.2.2 in_X0 C.1.2.2.2.1 C.2 hw.1 0 rfl rfl 8 (by decide) (C.1.2.2.2.2 _ q33) (fun _ h9 => h9) rfl hdg kk
theorem bd_ldJ (C : bd_cx p c cc nL s m args D d) (hw : bd_at D h d A H0 H locs (J, ab, mm, o, r, b, i, pp, qe, q)) {k : Nat} (hk : k < 10) (hdg : decode cc pc = .ok (.iaload, 1)) (kk : W p l e R s m args below meth c H locs cells slots Q (F0 m (pc + 1) ls (.int (bd_bs (J k)) :: rest))) : W p l e R s m args below meth c H locs cells slots Q (F0 m pc ls (.int (nI k) :: .ref (h 1) :: rest)) := by
  refine va_iald (f := fun v => bd_bs (J v)) C.1.1 C.1.2.1 C.2 hw.1 1 0 rfl rfl (vp_in_nI hk (by decide)) hdg ?_
  rw [nI_clamp (by omega)]
  exact kk
theorem bd_stJ (C : bd_cx p c cc nL s m args D d) (hw : bd_at D h d A H0 H locs (J, ab, mm, o, r, b, i, pp, qe, q)) {k : Nat} {y : Int32} (x : Nat → Bool) (hk : k < 10) (hy : y = bd_bs x) (hdg : decode cc pc = .ok (.iastore, 1)) (kk : ∀ (H : Heap) (locs : List Loc), bd_at D h d A H0 H locs (va_up J k x, ab, mm, o, r, b, i, pp, qe, q) → W p l e R s m args below meth c H locs cells slots Q (F0 m (pc + 1) ls rest)) : W p l e R s m args below meth c H locs cells slots Q (F0 m pc ls (.int y :: .int (nI k) :: .ref (h 1) :: rest)) := by
  subst hy
  refine va_iast (f := fun v => bd_bs (J v)) C.1.1 C.1.2.1 C.2 hw.1 hw.2.1 hw.2.2 1 0 rfl rfl (vp_in_nI hk (by decide)) hdg fun H1 locs1 a1 a2 a3 => ?_
  rw [nI_clamp (by omega), bd_upd] at a1 a2
  exact kk H1 locs1 ⟨a1, a2, a3⟩
theorem bd_ldM (C : bd_cx p c cc nL s m args D d) (hw : bd_at D h d A H0 H locs (J, ab, mm, o, r, b, i, pp, qe, q)) {k : Nat} (hk : k < 10) (hdg : decode cc pc = .ok (.iaload, 1)) (kk : W p l e R s m args below meth c H locs cells slots Q (F0 m (pc + 1) ls (.int (bd_enc (mm k)) :: rest))) : W p l e R s m args below meth c H locs cells slots Q (F0 m pc ls (.int (nI k) :: .ref (h 2) :: rest)) := by
  refine va_iald (f := fun v => bd_enc (mm v)) C.1.1 C.1.2.1 C.2 hw.1 2 1 rfl rfl (vp_in_nI hk (by decide)) hdg ?_
  rw [nI_clamp (by omega)]
  exact kk
theorem bd_stM (C : bd_cx p c cc nL s m args D d) (hw : bd_at D h d A H0 H locs (J, ab, mm, o, r, b, i, pp, qe, q)) {k : Nat} {y : Int32} (x : Nat) (hk : k < 10) (hy : y = bd_enc x) (hdg : decode cc pc = .ok (.iastore, 1)) (kk : ∀ (H : Heap) (locs : List Loc), bd_at D h d A H0 H locs (J, ab, va_up mm k x, o, r, b, i, pp, qe, q) → W p l e R s m args below meth c H locs cells slots Q (F0 m (pc + 1) ls rest)) : W p l e R s m args below meth c H locs cells slots Q (F0 m pc ls (.int y :: .int (nI k) :: .ref (h 2) :: rest)) := by
  subst hy
  refine va_iast (f := fun v => bd_enc (mm v)) C.1.1 C.1.2.1 C.2 hw.1 hw.2.1 hw.2.2 2 1 rfl rfl (vp_in_nI hk (by decide)) hdg fun H1 locs1 a1 a2 a3 => ?_
  rw [nI_clamp (by omega), bd_upd] at a1 a2
  exact kk H1 locs1 ⟨a1, a2, a3⟩
theorem bd_ldO (C : bd_cx p c cc nL s m args D d) (hw : bd_at D h d A H0 H locs (J, ab, mm, o, r, b, i, pp, qe, q)) {k : Nat} (hk : k < 10) (hdg : decode cc pc = .ok (.baload, 1)) (kk : W p l e R s m args below meth c H locs cells slots Q (F0 m (pc + 1) ls (.int (bd_bz (o k)) :: rest))) : W p l e R s m args below meth c H locs cells slots Q (F0 m pc ls (.int (nI k) :: .ref (h 3) :: rest)) := by
  refine va_zald (f := fun v => bd_bz (o v)) C.1.1 C.1.2.1 C.2 hw.1 3 2 rfl rfl (vp_in_nI hk (by decide)) hdg ?_
  rw [nI_clamp (by omega)]
  exact kk
theorem bd_stO (C : bd_cx p c cc nL s m args D d) (hw : bd_at D h d A H0 H locs (J, ab, mm, o, r, b, i, pp, qe, q)) {k : Nat} {y : Int32} (x : Bool) (hk : k < 10) (hy : y = bd_bz x) (hdg : decode cc pc = .ok (.bastore, 1)) (kk : ∀ (H : Heap) (locs : List Loc), bd_at D h d A H0 H locs (J, ab, mm, va_up o k x, r, b, i, pp, qe, q) → W p l e R s m args below meth c H locs cells slots Q (F0 m (pc + 1) ls rest)) : W p l e R s m args below meth c H locs cells slots Q (F0 m pc ls (.int y :: .int (nI k) :: .ref (h 3) :: rest)) := by
  subst hy
  refine va_zast (f := fun v => bd_bz (o v)) C.1.1 C.1.2.1 C.2 hw.1 hw.2.1 hw.2.2 3 2 rfl rfl (vp_in_nI hk (by decide)) hdg fun H1 locs1 a1 a2 a3 => ?_
  rw [nI_clamp (by omega), bd_nar, bd_upd] at a1 a2
  exact kk H1 locs1 ⟨a1, a2, a3⟩
theorem bd_ldR (C : bd_cx p c cc nL s m args D d) (hw : bd_at D h d A H0 H locs (J, ab, mm, o, r, b, i, pp, qe, q)) {k : Nat} (hk : k < 10) (hdg : decode cc pc = .ok (.iaload, 1)) (kk : W p l e R s m args below meth c H locs cells slots Q (F0 m (pc + 1) ls (.int (bd_enc (r k)) :: rest))) : W p l e R s m args below meth c H locs cells slots Q (F0 m pc ls (.int (nI k) :: .ref (h 4) :: rest)) := by
  refine va_iald (f := fun v => bd_enc (r v)) C.1.1 C.1.2.1 C.2 hw.1 4 3 rfl rfl (vp_in_nI hk (by decide)) hdg ?_
  rw [nI_clamp (by omega)]
  exact kk
theorem bd_stR (C : bd_cx p c cc nL s m args D d) (hw : bd_at D h d A H0 H locs (J, ab, mm, o, r, b, i, pp, qe, q)) {k : Nat} {y : Int32} (x : Nat) (hk : k < 10) (hy : y = bd_enc x) (hdg : decode cc pc = .ok (.iastore, 1)) (kk : ∀ (H : Heap) (locs : List Loc), bd_at D h d A H0 H locs (J, ab, mm, o, va_up r k x, b, i, pp, qe, q) → W p l e R s m args below meth c H locs cells slots Q (F0 m (pc + 1) ls rest)) : W p l e R s m args below meth c H locs cells slots Q (F0 m pc ls (.int y :: .int (nI k) :: .ref (h 4) :: rest)) := by
  subst hy
  refine va_iast (f := fun v => bd_enc (r v)) C.1.1 C.1.2.1 C.2 hw.1 hw.2.1 hw.2.2 4 3 rfl rfl (vp_in_nI hk (by decide)) hdg fun H1 locs1 a1 a2 a3 => ?_
  rw [nI_clamp (by omega), bd_upd] at a1 a2
  exact kk H1 locs1 ⟨a1, a2, a3⟩
theorem bd_ldB (C : bd_cx p c cc nL s m args D d) (hw : bd_at D h d A H0 H locs (J, ab, mm, o, r, b, i, pp, qe, q)) {k : Nat} (hk : k < 10) (hdg : decode cc pc = .ok (.iaload, 1)) (kk : W p l e R s m args below meth c H locs cells slots Q (F0 m (pc + 1) ls (.int (bd_enc (b k)) :: rest))) : W p l e R s m args below meth c H locs cells slots Q (F0 m pc ls (.int (nI k) :: .ref (h 5) :: rest)) := by
  refine va_iald (f := fun v => bd_enc (b v)) C.1.1 C.1.2.1 C.2 hw.1 5 4 rfl rfl (vp_in_nI hk (by decide)) hdg ?_
  rw [nI_clamp (by omega)]
  exact kk
theorem bd_stB (C : bd_cx p c cc nL s m args D d) (hw : bd_at D h d A H0 H locs (J, ab, mm, o, r, b, i, pp, qe, q)) {k : Nat} {y : Int32} (x : Nat) (hk : k < 10) (hy : y = bd_enc x) (hdg : decode cc pc = .ok (.iastore, 1)) (kk : ∀ (H : Heap) (locs : List Loc), bd_at D h d A H0 H locs (J, ab, mm, o, r, va_up b k x, i, pp, qe, q) → W p l e R s m args below meth c H locs cells slots Q (F0 m (pc + 1) ls rest)) : W p l e R s m args below meth c H locs cells slots Q (F0 m pc ls (.int y :: .int (nI k) :: .ref (h 5) :: rest)) := by
  subst hy
  refine va_iast (f := fun v => bd_enc (b v)) C.1.1 C.1.2.1 C.2 hw.1 hw.2.1 hw.2.2 5 4 rfl rfl (vp_in_nI hk (by decide)) hdg fun H1 locs1 a1 a2 a3 => ?_
  rw [nI_clamp (by omega), bd_upd] at a1 a2
  exact kk H1 locs1 ⟨a1, a2, a3⟩
theorem bd_ldI (C : bd_cx p c cc nL s m args D d) (hw : bd_at D h d A H0 H locs (J, ab, mm, o, r, b, i, pp, qe, q)) {k : Nat} (hk : k < 10) (hdg : decode cc pc = .ok (.baload, 1)) (kk : W p l e R s m args below meth c H locs cells slots Q (F0 m (pc + 1) ls (.int (bd_bz (i k)) :: rest))) : W p l e R s m args below meth c H locs cells slots Q (F0 m pc ls (.int (nI k) :: .ref (h 6) :: rest)) := by
  refine va_zald (f := fun v => bd_bz (i v)) C.1.1 C.1.2.1 C.2 hw.1 6 5 rfl rfl (vp_in_nI hk (by decide)) hdg ?_
  rw [nI_clamp (by omega)]
  exact kk
theorem bd_stI (C : bd_cx p c cc nL s m args D d) (hw : bd_at D h d A H0 H locs (J, ab, mm, o, r, b, i, pp, qe, q)) {k : Nat} {y : Int32} (x : Bool) (hk : k < 10) (hy : y = bd_bz x) (hdg : decode cc pc = .ok (.bastore, 1)) (kk : ∀ (H : Heap) (locs : List Loc), bd_at D h d A H0 H locs (J, ab, mm, o, r, b, va_up i k x, pp, qe, q) → W p l e R s m args below meth c H locs cells slots Q (F0 m (pc + 1) ls rest)) : W p l e R s m args below meth c H locs cells slots Q (F0 m pc ls (.int y :: .int (nI k) :: .ref (h 6) :: rest)) := by
  subst hy
  refine va_zast (f := fun v => bd_bz (i v)) C.1.1 C.1.2.1 C.2 hw.1 hw.2.1 hw.2.2 6 5 rfl rfl (vp_in_nI hk (by decide)) hdg fun H1 locs1 a1 a2 a3 => ?_
  rw [nI_clamp (by omega), bd_nar, bd_upd] at a1 a2
  exact kk H1 locs1 ⟨a1, a2, a3⟩
theorem bd_ldP (C : bd_cx p c cc nL s m args D d) (hw : bd_at D h d A H0 H locs (J, ab, mm, o, r, b, i, pp, qe, q)) {k : Nat} (hk : k < 10) (hdg : decode cc pc = .ok (.baload, 1)) (kk : W p l e R s m args below meth c H locs cells slots Q (F0 m (pc + 1) ls (.int (bd_bz (pp k)) :: rest))) : W p l e R s m args below meth c H locs cells slots Q (F0 m pc ls (.int (nI k) :: .ref (h 7) :: rest)) := by
  refine va_zald (f := fun v => bd_bz (pp v)) C.1.1 C.1.2.1 C.2 hw.1 7 6 rfl rfl (vp_in_nI hk (by decide)) hdg ?_
  rw [nI_clamp (by omega)]
  exact kk
theorem bd_stP (C : bd_cx p c cc nL s m args D d) (hw : bd_at D h d A H0 H locs (J, ab, mm, o, r, b, i, pp, qe, q)) {k : Nat} {y : Int32} (x : Bool) (hk : k < 10) (hy : y = bd_bz x) (hdg : decode cc pc = .ok (.bastore, 1)) (kk : ∀ (H : Heap) (locs : List Loc), bd_at D h d A H0 H locs (J, ab, mm, o, r, b, i, va_up pp k x, qe, q) → W p l e R s m args below meth c H locs cells slots Q (F0 m (pc + 1) ls rest)) : W p l e R s m args below meth c H locs cells slots Q (F0 m pc ls (.int y :: .int (nI k) :: .ref (h 7) :: rest)) := by
  subst hy
  refine va_zast (f := fun v => bd_bz (pp v)) C.1.1 C.1.2.1 C.2 hw.1 hw.2.1 hw.2.2 7 6 rfl rfl (vp_in_nI hk (by decide)) hdg fun H1 locs1 a1 a2 a3 => ?_
  rw [nI_clamp (by omega), bd_nar, bd_upd] at a1 a2
  exact kk H1 locs1 ⟨a1, a2, a3⟩
theorem bd_ldQ (C : bd_cx p c cc nL s m args D d) (hw : bd_at D h d A H0 H locs (J, ab, mm, o, r, b, i, pp, qe, q)) {k : Nat} (hk : k < 10) (hdg : decode cc pc = .ok (.iaload, 1)) (kk : W p l e R s m args below meth c H locs cells slots Q (F0 m (pc + 1) ls (.int (bd_enc (q k)) :: rest))) : W p l e R s m args below meth c H locs cells slots Q (F0 m pc ls (.int (nI k) :: .ref (h 8) :: rest)) := by
  refine va_iald (f := fun v => bd_enc (q v)) C.1.1 C.1.2.1 C.2 hw.1 8 7 rfl rfl (vp_in_nI hk (by decide)) hdg ?_
  rw [nI_clamp (by omega)]
  exact kk
theorem bd_stQ (C : bd_cx p c cc nL s m args D d) (hw : bd_at D h d A H0 H locs (J, ab, mm, o, r, b, i, pp, qe, q)) {k : Nat} {y : Int32} (x : Nat) (hk : k < 10) (hy : y = bd_enc x) (hdg : decode cc pc = .ok (.iastore, 1)) (kk : ∀ (H : Heap) (locs : List Loc), bd_at D h d A H0 H locs (J, ab, mm, o, r, b, i, pp, qe, va_up q k x) → W p l e R s m args below meth c H locs cells slots Q (F0 m (pc + 1) ls rest)) : W p l e R s m args below meth c H locs cells slots Q (F0 m pc ls (.int y :: .int (nI k) :: .ref (h 8) :: rest)) := by
  subst hy
  refine va_iast (f := fun v => bd_enc (q v)) C.1.1 C.1.2.1 C.2 hw.1 hw.2.1 hw.2.2 8 7 rfl rfl (vp_in_nI hk (by decide)) hdg fun H1 locs1 a1 a2 a3 => ?_
  rw [nI_clamp (by omega), bd_upd] at a1 a2
  exact kk H1 locs1 ⟨a1, a2, a3⟩
theorem bd_putAB (C : bd_cx p c cc nL s m args D d) (hw : bd_at D h d A H0 H locs (J, ab, mm, o, r, b, i, pp, qe, q)) {y : Int32} (x : Nat → Bool) (hy : y = bd_bs x) (hdg : decode cc pc = .ok (.putfield 63, 3)) (kk : ∀ (H : Heap) (locs : List Loc), bd_at D h d A H0 H locs (J, x, mm, o, r, b, i, pp, qe, q) → W p l e R s m args below meth c H locs cells slots Q (F0 m (pc + 3) ls rest)) : W p l e R s m args below meth c H locs cells slots Q (F0 m pc ls (.int y :: .ref (h 0) :: rest)) := by
  subst hy
  refine va_put (D := D) (ci := 0) (v := .int (bd_bs x)) (ty := .int) (C := RX0) (T := TX0) (N := 10) C.1.1 C.1.2.1 C.1.2.2.2.2 in_X0 tyX0 tyX0_ok nmX0 C.1.2.2.2.1 C.2 hw.1 hw.2.1 hw.2.2 0 rfl rfl 1 (by decide) (C.1.2.2.2.2 _ q26) (fun _ h9 => h9) rfl (by decide +kernel) rfl rfl (Nat.le_of_ble_eq_true rfl) hdg (fun H1 locs1 a1 a2 a3 => ?_)
  exact kk H1 locs1 ⟨a1, a2, a3⟩
theorem bd_putE (C : bd_cx p c cc nL s m args D d) (hw : bd_at D h d A H0 H locs (J, ab, mm, o, r, b, i, pp, qe, q)) {y : Int32} (x : Nat) (hy : y = nI x) (hdg : decode cc pc = .ok (.putfield 74, 3)) (kk : ∀ (H : Heap) (locs : List Loc), bd_at D h d A H0 H locs (J, ab, mm, o, r, b, i, pp, x, q) → W p l e R s m args below meth c H locs cells slots Q (F0 m (pc + 3) ls rest)) : W p l e R s m args below meth c H locs cells slots Q (F0 m pc ls (.int y :: .ref (h 0) :: rest)) := by
  subst hy
  refine va_put (D := D) (ci := 0) (v := .int (nI x)) (ty := .int) (C := RX0) (T := TX0) (N := 10) C.1.1 C.1.2.1 C.1.2.2.2.2 in_X0 tyX0 tyX0_ok nmX0 C.1.2.2.2.1 C.2 hw.1 hw.2.1 hw.2.2 0 rfl rfl 8 (by decide) (C.1.2.2.2.2 _ q33) (fun _ h9 => h9) rfl (by decide +kernel) rfl rfl (Nat.le_of_ble_eq_true rfl) hdg (fun H1 locs1 a1 a2 a3 => ?_)
  exact kk H1 locs1 ⟨a1, a2, a3⟩
theorem bd_iret {v : Int32} (C : bd_cx p c cc nL s m args D d) (hr : meth.sig.returnType = some .int) (hk : meth.locks = false) (hw : bd_at D h d A s.heap H locs st) (hdg : decode cc pc = .ok (.ireturn, 1)) : W p l e R s m args below meth c H locs cells slots (MQ below (bd_Qi D h d v st A) args s cells slots A) (F0 m pc ls [.int v]) :=
  W.iret (v := v) C.1.1 C.1.2.1 hr (fun t ht hW => ⟨⟨v, (), rfl, rfl, by rw [ht]; exact hw.1, va_K.moved hW.alike C.2, hw.2.1⟩, hw.2.2.F ht⟩) hw.2.2.2.2 hdg hk
theorem bd_zret {v : Bool} (C : bd_cx p c cc nL s m args D d) (hr : meth.sig.returnType = some .boolean) (hk : meth.locks = false) (hw : bd_at D h d A s.heap H locs st) (hdg : decode cc pc = .ok (.ireturn, 1)) : W p l e R s m args below meth c H locs cells slots (MQ below (bd_Qi D h d (bd_bz v) st A) args s cells slots A) (F0 m pc ls [.int (bd_bz v)]) :=
  W.zret (v := bd_bz v) C.1.1 C.1.2.1 hr (by cases v <;> rfl) (fun t ht hW => ⟨⟨bd_bz v, (), rfl, rfl, by rw [ht]; exact hw.1, va_K.moved hW.alike C.2, hw.2.1⟩, hw.2.2.F ht⟩) hw.2.2.2.2 hdg hk
theorem bd_vret (C : bd_cx p c cc nL s m args D d) (hr : meth.sig.returnType = none) (hk : meth.locks = false) (hw : bd_at D h d A s.heap H locs st) (hdg : decode cc pc = .ok (.return_, 1)) : W p l e R s m args below meth c H locs cells slots (MQ below (bd_Qv D h d st A) args s cells slots A) (F0 m pc ls []) :=
  W.vret C.1.1 C.1.2.1 hr (fun t ht hW => ⟨⟨(), rfl, trivial, by rw [ht]; exact hw.1, va_K.moved hW.alike C.2, hw.2.1⟩, hw.2.2.F ht⟩) hw.2.2.2.2 hdg hk
theorem bd_blind {As : List Value} {sz : Nat} : FrameBlind (va_Pc As (bd_pre D h d sz st)) := fun a U g mk q => by
  obtain ⟨q0, q1, qP, qK, qD⟩ := q
  exact ⟨q0, q1, qP, va_K.moved (u := U) (U := U.calling g mk a) (Vm.Alike.refl U.vm) qK, qD⟩
theorem bd_free (hw : bd_at D h d A H0 H locs st) (hA : ∀ q, H0.size ≤ q → A q) : ∀ q, va_A (bd_w h d st) H.size q → A q :=
  va_free (wc := bd_w h d st) hw.2.1 hw.2.2 hA [0, 1, 2, 3, 4, 5, 6, 7, 8] rfl
theorem bd_calli {y : MethodName} {bytes : ByteArray} {maxL : Nat} {ret : Option FieldType} {fr lo n index : Nat} {As st0 : List Value} {v : Int32} {st' : bd_DS} (C : bd_cx p c cc nL s m args D d) (hw : bd_at D h d A H0 H locs st) (hA : ∀ q, H0.size ≤ q → A q)
    (hM : bd_MI l y bytes maxL ret fr lo D h d H.size As st v st') (cw : CallW R s args RX0 RX0 index y bytes maxL ret (ws_ y bytes maxL ret) { frames := fr, cells := 0, slots := 0, locals := lo } 0 0 n) (hn : As.length = n) (hsz : ls.size = nL) (hst : st0 = As.reverse ++ .ref (h 0) :: rest) (hW : (rest.map fun v => v.category).sum ≤ 8) (hdg : decode cc pc = .ok (.invokevirtual index, 3)) (hf : cells ≤ R.cells ∧ slots ≤ R.slots)
    (kk : ∀ (H : Heap) (locs : List Loc), bd_at D h d A H0 H locs st' → W p l e R s m args below meth c H locs cells slots Q (F0 m (pc + 3) ls (.int v :: rest))) : W p l e R s m args below meth c H locs cells slots Q (F0 m pc ls st0) := by
  have hFc := bd_free hw hA
  refine va_calli (va_runV (As := As) (rest := rest) C.1 hM cw ⟨bd_blind, va_recv C.2 hw.1 (ci := 0) (q0 := 0) rfl rfl, fun U hU hW => ⟨rfl, by rw [hU], by rw [hU]; exact hw.1, va_K.moved hW.alike C.2, hw.2.1.weaken (fun _ _ _ _ => trivial)⟩⟩ rfl hn hsz hst (lv_room hW) hdg hf) hw.2.2 (fun q _ h => hFc q h) hFc (fun r1 u t H1 locs1 ht hvm hw1 hB hz1 hk1 hS => ?_)
  obtain ⟨hP1, hK1, hD1⟩ := hB
  rw [ht] at hP1
  have hw1 : r1 = v := hw1
  subst hw1
  exact kk H1 locs1 ⟨hP1, hD1.weaken (fun _ _ _ h => hFc _ h), hS⟩
theorem bd_callv {y : MethodName} {bytes : ByteArray} {maxL : Nat} {fr lo n index : Nat} {As st0 : List Value} {st' : bd_DS} (C : bd_cx p c cc nL s m args D d) (hw : bd_at D h d A H0 H locs st) (hA : ∀ q, H0.size ≤ q → A q)
    (hM : bd_MV l y bytes maxL fr lo D h d H.size As st st') (cw : CallW R s args RX0 RX0 index y bytes maxL none (ws_ y bytes maxL none) { frames := fr, cells := 0, slots := 0, locals := lo } 0 0 n) (hn : As.length = n) (hsz : ls.size = nL) (hst : st0 = As.reverse ++ .ref (h 0) :: rest) (hW : (rest.map fun v => v.category).sum ≤ 8) (hdg : decode cc pc = .ok (.invokevirtual index, 3)) (hf : cells ≤ R.cells ∧ slots ≤ R.slots)
    (kk : ∀ (H : Heap) (locs : List Loc), bd_at D h d A H0 H locs st' → W p l e R s m args below meth c H locs cells slots Q (F0 m (pc + 3) ls rest)) : W p l e R s m args below meth c H locs cells slots Q (F0 m pc ls st0) := by
  have hFc := bd_free hw hA
  refine va_callv (va_runV (As := As) (rest := rest) C.1 hM cw ⟨bd_blind, va_recv C.2 hw.1 (ci := 0) (q0 := 0) rfl rfl, fun U hU hW => ⟨rfl, by rw [hU], by rw [hU]; exact hw.1, va_K.moved hW.alike C.2, hw.2.1.weaken (fun _ _ _ _ => trivial)⟩⟩ rfl hn hsz hst (lv_room hW) hdg hf) hw.2.2 (fun q _ h => hFc q h) hFc (fun u t H1 locs1 ht hvm hw1 hB hz1 hk1 hS => ?_)
  obtain ⟨hP1, hK1, hD1⟩ := hB
  rw [ht] at hP1
  exact kk H1 locs1 ⟨hP1, hD1.weaken (fun _ _ _ h => hFc _ h), hS⟩
/-- a static method of ints that touches nothing: its answer -/
abbrev bd_MS (l : Launch) (y : MethodName) (cd : ByteArray) (nL : Nat) (ret : Option FieldType) (fr lo : Nat) (As : List Value) (v : Int32) : Prop :=
  Met l y (ws_ y cd nL ret) { frames := fr, cells := 0, slots := 0, locals := lo } (va_Pc As (fun _ => True)) (va_Qi (fun r (_ : Unit) => r = v) (fun _ _ => True) (fun _ => False)) 0 0 (fun _ => False)
theorem bd_blindS {As : List Value} : FrameBlind (va_Pc As (fun _ => True)) := fun a U g mk q => q
end BDROWS
end
section
/-! ===== Int32 by its bits: bt x i ===== -/
def bt (x : Int32) (i : Nat) : Bool := x.toBitVec.getLsbD i
theorem b_ext {x y : Int32} (h : ∀ i, i < 32 → bt x i = bt y i) : x = y := Int32.toBitVec_inj.mp (BitVec.eq_of_getLsbD_eq (fun i hi => h i hi))
theorem b_or (x y : Int32) (i : Nat) : bt (x ||| y) i = (bt x i || bt y i) := by unfold bt; rw [Int32.toBitVec_or, BitVec.getLsbD_or]
theorem b_and (x y : Int32) (i : Nat) : bt (x &&& y) i = (bt x i && bt y i) := by unfold bt; rw [Int32.toBitVec_and, BitVec.getLsbD_and]
theorem b_xor (x y : Int32) (i : Nat) : bt (x ^^^ y) i = (bt x i ^^ bt y i) := by unfold bt; rw [Int32.toBitVec_xor, BitVec.getLsbD_xor]
theorem b_big {x : Int32} {i : Nat} (h : 32 ≤ i) : bt x i = false := BitVec.getLsbD_of_ge _ _ h
theorem b_255 (i : Nat) : bt 255 i = decide (i < 8) := by
  rcases Nat.lt_or_ge i 32 with h | h
  · exact (by decide +kernel : ∀ i, i < 32 → bt 255 i = decide (i < 8)) i h
  · rw [b_big h, decide_eq_false (by omega)]
theorem b_65535 (i : Nat) : bt 65535 i = decide (i < 16) := by
  rcases Nat.lt_or_ge i 32 with h | h
  · exact (by decide +kernel : ∀ i, i < 32 → bt 65535 i = decide (i < 16)) i h
  · rw [b_big h, decide_eq_false (by omega)]
theorem b_m1 : ∀ i, i < 32 → bt (-1) i = true := by decide +kernel
theorem b_0 (i : Nat) : bt 0 i = false := BitVec.getLsbD_zero
theorem s_l : ∀ n, n < 32 → ((nI n &&& 31).toBitVec.smod 32).toNat = n := by decide +kernel
theorem s_u : ∀ n, n < 32 → (((nI n).toUInt32 &&& Int32.toUInt32 31).toBitVec % 32).toNat = n := by decide +kernel
theorem b_shl (n : Nat) (hn : n < 32) (x : Int32) {i : Nat} (hi : i < 32) : bt (x <<< (nI n &&& 31)) i = (decide (n ≤ i) && bt x (i - n)) := by
  unfold bt
  rw [Int32.toBitVec_shiftLeft]
  show (x.toBitVec <<< ((nI n &&& 31).toBitVec.smod 32).toNat).getLsbD i = _
  rw [s_l n hn, BitVec.getLsbD_shiftLeft]
  rcases Nat.lt_or_ge i n with h | h
  · simp [h, Nat.not_le.mpr h]
  · simp [hi, h, Nat.not_lt.mpr h]
theorem b_ushr (n : Nat) (hn : n < 32) (x : Int32) (i : Nat) : bt ((x.toUInt32 >>> ((nI n).toUInt32 &&& Int32.toUInt32 31)).toInt32) i = bt x (n + i) := by
  show (x.toUInt32 >>> ((nI n).toUInt32 &&& Int32.toUInt32 31)).toBitVec.getLsbD i = x.toUInt32.toBitVec.getLsbD (n + i)
  rw [UInt32.toBitVec_shiftRight]
  show (x.toUInt32.toBitVec >>> (((nI n).toUInt32 &&& Int32.toUInt32 31).toBitVec % 32).toNat).getLsbD i = _
  rw [s_u n hn, BitVec.getLsbD_ushiftRight]
theorem b_sshr (n : Nat) (hn : n < 32) (x : Int32) {i : Nat} (hi : i < 32) : bt (x >>> (nI n &&& 31)) i = if n + i < 32 then bt x (n + i) else bt x 31 := by
  unfold bt
  rw [Int32.toBitVec_shiftRight]
  show (x.toBitVec.sshiftRight ((nI n &&& 31).toBitVec.smod 32).toNat).getLsbD i = _
  rw [s_l n hn, BitVec.getLsbD_sshiftRight, BitVec.msb_eq_getLsbD_last]
  simp [hi]
theorem b_shl8 (x : Int32) {i : Nat} (hi : i < 32) : bt (x <<< ((8 : Int32) &&& 31)) i = (decide (8 ≤ i) && bt x (i - 8)) := b_shl 8 (by omega) x hi
theorem b_shl16 (x : Int32) {i : Nat} (hi : i < 32) : bt (x <<< ((16 : Int32) &&& 31)) i = (decide (16 ≤ i) && bt x (i - 16)) := b_shl 16 (by omega) x hi
theorem b_shl24 (x : Int32) {i : Nat} (hi : i < 32) : bt (x <<< ((24 : Int32) &&& 31)) i = (decide (24 ≤ i) && bt x (i - 24)) := b_shl 24 (by omega) x hi
theorem b_sshr8 (x : Int32) {i : Nat} (hi : i < 32) : bt (x >>> ((8 : Int32) &&& 31)) i = if 8 + i < 32 then bt x (8 + i) else bt x 31 := b_sshr 8 (by omega) x hi
/-! sets of ten points as ints -/
theorem bd_mk_bit (f : Nat → Bool) : ∀ (n i : Nat), (bd_mk f n).testBit i = (decide (i < n) && f i)
  | 0, i => by simp [bd_mk]
  | n + 1, i => by
    unfold bd_mk
    rw [Nat.testBit_or, bd_mk_bit f n i]
    by_cases h : f n = true
    · rw [if_pos h, Nat.testBit_two_pow]
      by_cases e : n = i
      · subst e; simp [h]
      · have : (i < n + 1) ↔ i < n := by omega
        simp [e, this]
    · rw [if_neg h, Nat.zero_testBit]
      by_cases e : i = n
      · subst e; simp [h]
      · have : (i < n + 1) ↔ i < n := by omega
        simp [this]
theorem bd_mk_lt (f : Nat → Bool) : ∀ n, bd_mk f n < 2 ^ n
  | 0 => by simp [bd_mk]
  | n + 1 => by
    unfold bd_mk
    refine Nat.or_lt_two_pow (Nat.lt_of_lt_of_le (bd_mk_lt f n) (Nat.pow_le_pow_right (by omega) (by omega))) ?_
    split
    · exact Nat.pow_lt_pow_right (by omega) (by omega)
    · exact Nat.two_pow_pos _
theorem bd_msk_lt (f : Nat → Bool) : bd_msk f < 1024 := bd_mk_lt f 10
theorem bd_msk_bit (f : Nat → Bool) (i : Nat) : (bd_msk f).testBit i = (decide (i < 10) && f i) := bd_mk_bit f 10 i
theorem bt_nI (n : Nat) {i : Nat} (hi : i < 32) : bt (nI n) i = n.testBit i := by
  unfold bt nI
  show (BitVec.ofNat 32 n).getLsbD i = _
  rw [BitVec.getLsbD_ofNat]
  simp [hi]
theorem bt_bs (f : Nat → Bool) {i : Nat} (hi : i < 32) : bt (bd_bs f) i = (decide (i < 10) && f i) := by
  unfold bd_bs
  rw [bt_nI _ hi, bd_msk_bit]
theorem bd_bs_ext {f g : Nat → Bool} (h : ∀ v, v < 10 → f v = g v) : bd_bs f = bd_bs g := by
  refine b_ext (fun i hi => ?_)
  rw [bt_bs f hi, bt_bs g hi]
  by_cases c : i < 10
  · rw [h i c]
  · simp [c]
theorem bd_bs_inj {f g : Nat → Bool} (h : bd_bs f = bd_bs g) {v : Nat} (hv : v < 10) : f v = g v := by
  have h1 := bt_bs f (i := v) (by omega)
  have h2 := bt_bs g (i := v) (by omega)
  rw [h, h2] at h1
  simpa [hv] using h1.symm
theorem bd_msk_ext {f g : Nat → Bool} (h : ∀ v, v < 10 → f v = g v) : bd_msk f = bd_msk g := by
  refine Nat.eq_of_testBit_eq (fun i => ?_)
  rw [bd_msk_bit, bd_msk_bit]
  by_cases c : i < 10
  · rw [h i c]
  · simp [c]
theorem bd_msk_of {n : Nat} (h : n < 1024) : bd_msk (fun v => n.testBit v) = n := by
  refine Nat.eq_of_testBit_eq (fun i => ?_)
  rw [bd_msk_bit]
  by_cases c : i < 10
  · simp [c]
  · rw [Nat.testBit_lt_two_pow (Nat.lt_of_lt_of_le h (show 2 ^ 10 ≤ 2 ^ i from Nat.pow_le_pow_right (by omega) (by omega)))]
    simp [c]
theorem bd_or (f g : Nat → Bool) : bd_bs f ||| bd_bs g = bd_bs (fun v => f v || g v) := by
  refine b_ext (fun i hi => ?_)
  rw [b_or, bt_bs f hi, bt_bs g hi, bt_bs _ hi]
  cases decide (i < 10) <;> simp
theorem bd_and (f g : Nat → Bool) : bd_bs f &&& bd_bs g = bd_bs (fun v => f v && g v) := by
  refine b_ext (fun i hi => ?_)
  rw [b_and, bt_bs f hi, bt_bs g hi, bt_bs _ hi]
  cases decide (i < 10) <;> simp
theorem bd_andn (f g : Nat → Bool) : bd_bs f &&& (bd_bs g ^^^ (-1)) = bd_bs (fun v => f v && !g v) := by
  refine b_ext (fun i hi => ?_)
  rw [b_and, b_xor, b_m1 i hi, bt_bs f hi, bt_bs g hi, bt_bs _ hi]
  cases decide (i < 10) <;> simp
theorem bd_zero : nI 0 = bd_bs (fun _ => false) := by decide +kernel
theorem bd_full : nI 1023 = bd_bs (fun _ => true) := by decide +kernel
theorem bd_t1 (i : Nat) : Nat.testBit 1 i = decide (i = 0) := by
  show Nat.testBit (2 ^ 0) i = _
  rw [Nat.testBit_two_pow]
  by_cases h : i = 0
  · simp [h]
  · simp [h, Ne.symm h]
theorem bd_one {k : Nat} (hk : k < 10) : nI 1 <<< (nI k &&& 31) = bd_bs (fun v => decide (v = k)) := by
  refine b_ext (fun i hi => ?_)
  rw [b_shl k (by omega) _ hi, bt_nI 1 (by omega), bt_bs _ hi, bd_t1]
  by_cases c : i = k
  · subst c; simp [hk]
  · by_cases c2 : k ≤ i
    · simp [c2, c, show ¬ i - k = 0 by omega]
    · simp [c2, c]
theorem bd_bit (f : Nat → Bool) {k : Nat} (hk : k < 10) : ((bd_bs f).toUInt32 >>> ((nI k).toUInt32 &&& Int32.toUInt32 31)).toInt32 &&& nI 1 = bd_bz (f k) := by
  refine b_ext (fun i hi => ?_)
  rw [b_and, b_ushr k (by omega), bt_nI 1 hi]
  by_cases c : i = 0
  · subst c
    rw [Nat.add_zero, bt_bs f (by omega)]
    cases h : f k <;> simp [hk, bd_bz] <;> decide
  · have h1 : Nat.testBit 1 i = false := by
      rw [bd_t1]
      simp [c]
    rw [h1, Bool.and_false]
    cases h : f k
    · simp only [bd_bz]; exact (b_0 i).symm
    · simp only [bd_bz, if_true]
      have := bt_nI 1 hi
      rw [h1] at this
      exact this.symm
theorem bd_bit2 (f : Nat → Bool) {k : Nat} (hk : k < 10) : (bd_bs f >>> (nI k &&& 31)) &&& nI 1 = bd_bz (f k) := by
  refine b_ext (fun i hi => ?_)
  rw [b_and, b_sshr k (by omega) _ hi, bt_nI 1 hi]
  by_cases c : i = 0
  · subst c
    rw [if_pos (by omega), Nat.add_zero, bt_bs f (by omega)]
    cases h : f k <;> simp [hk, bd_bz] <;> decide
  · have h1 : Nat.testBit 1 i = false := by
      rw [bd_t1]
      simp [c]
    rw [h1, Bool.and_false]
    cases h : f k
    · simp only [bd_bz]; exact (b_0 i).symm
    · simp only [bd_bz, if_true]
      have := bt_nI 1 hi
      rw [h1] at this
      exact this.symm
theorem bd_low (x : Int32) : x &&& nI 1023 = bd_bs (fun v => bt x v) := by
  refine b_ext (fun i hi => ?_)
  rw [b_and, bd_full, bt_bs _ hi, bt_bs _ hi]
  cases bt x i <;> simp
theorem bd_lown (x : Int32) : nI 1023 &&& (x ^^^ (-1)) = bd_bs (fun v => !bt x v) := by
  refine b_ext (fun i hi => ?_)
  rw [b_and, b_xor, b_m1 i hi, bd_full, bt_bs _ hi, bt_bs _ hi]
  cases bt x i <;> simp
theorem bd_bz_eq {a b : Bool} : bd_bz a = bd_bz b ↔ a = b := by cases a <;> cases b <;> decide
theorem bd_bz0 {a : Bool} : bd_bz a = 0 ↔ a = false := by cases a <;> decide
theorem bd_enc_neg {x : Nat} : bd_enc x < 0 ↔ ¬ x < 10 := by
  unfold bd_enc
  by_cases h : x < 10
  · rw [if_pos h]
    exact ⟨fun z => absurd z (nI_pos (by omega)), fun z => absurd h z⟩
  · rw [if_neg h]
    exact ⟨fun _ => h, fun _ => by decide⟩
theorem bd_enc_nn {x : Nat} : 0 ≤ bd_enc x ↔ x < 10 := by
  unfold bd_enc
  by_cases h : x < 10
  · rw [if_pos h]
    exact ⟨fun _ => h, fun _ => nI_pos' (by omega)⟩
  · rw [if_neg h]
    exact ⟨fun z => absurd z (by decide), fun z => absurd z h⟩
theorem bd_enc_nI {x c : Nat} (hc : c < 10) : bd_enc x = nI c ↔ x = c := by
  unfold bd_enc
  by_cases h : x < 10
  · rw [if_pos h]
    exact nI_eq (by omega) (by omega)
  · rw [if_neg h]
    refine ⟨fun z => ?_, fun z => by omega⟩
    exfalso
    have h1 := nI_pos (n := c) (by omega)
    rw [← z] at h1
    exact h1 (by decide)
theorem bd_enc_10 : bd_enc 10 = -1 := rfl
theorem bd_le10 {p : Nat} (hp : p ≤ 10) : nI 10 ≤ nI p ↔ p = 10 := by
  rw [nI_leI (by omega) (by omega)]
  omega
theorem bd_fl_s {α : Type} (n : Nat) (x : α) (f : Nat → α) : va_up (bd_fl n x f) n x = bd_fl (n + 1) x f := by
  funext v
  unfold va_up bd_fl
  by_cases h : v = n
  · subst h; simp
  · have : v < n + 1 ↔ v < n := by omega
    simp [h, this]
theorem bd_fl_0 {α : Type} (x : α) (f : Nat → α) : bd_fl 0 x f = f := by
  funext v
  unfold bd_fl
  simp
theorem bd_idn_s (n : Nat) (f : Nat → Nat) : va_up (bd_idn n f) n n = bd_idn (n + 1) f := by
  funext v
  unfold va_up bd_idn
  by_cases h : v = n
  · subst h; simp
  · have : v < n + 1 ↔ v < n := by omega
    simp [h, this]
theorem bd_idn_0 (f : Nat → Nat) : bd_idn 0 f = f := by
  funext v
  unfold bd_idn
  simp
theorem bd_bz1 {a : Bool} : ¬ bd_bz a = 0 ↔ a = true := by cases a <;> decide
end
section
/-! plain law 1: lists, matchings, the walk along two matchings -/
theorem bm_len : ∀ (l k : List Nat), l.Nodup → (∀ x ∈ l, x ∈ k) → l.length ≤ k.length
  | [], _, _, _ => Nat.zero_le _
  | a :: l, k, hn, hs => by
    have ha : a ∈ k := hs a List.mem_cons_self
    obtain ⟨h1, h2⟩ := List.nodup_cons.mp hn
    have h3 := bm_len l (k.erase a) h2 (fun x hx => by
      have hxa : x ≠ a := fun e => h1 (e ▸ hx)
      exact (List.mem_erase_of_ne hxa).mpr (hs x (List.mem_cons_of_mem _ hx)))
    have h4 := List.length_erase_of_mem ha
    have h5 : 0 < k.length := List.length_pos_of_mem ha
    simp only [List.length_cons]
    omega
theorem bm_len10 {l : List Nat} (hn : l.Nodup) (h : ∀ x ∈ l, x < 10) : l.length ≤ 10 := by
  have := bm_len l (List.range 10) hn (fun x hx => List.mem_range.mpr (h x hx))
  simpa using this
/-- an injective image of a list without repeats has none -/
theorem bm_map_nodup {f : Nat → Nat} : ∀ {l : List Nat}, l.Nodup → (∀ x ∈ l, ∀ y ∈ l, f x = f y → x = y) → (l.map f).Nodup
  | [], _, _ => List.nodup_nil
  | a :: l, hn, hi => by
    obtain ⟨h1, h2⟩ := List.nodup_cons.mp hn
    rw [List.map_cons, List.nodup_cons]
    refine ⟨fun hm => ?_, bm_map_nodup h2 (fun x hx y hy => hi x (List.mem_cons_of_mem _ hx) y (List.mem_cons_of_mem _ hy))⟩
    obtain ⟨x, hx, hfx⟩ := List.mem_map.mp hm
    have := hi x (List.mem_cons_of_mem _ hx) a List.mem_cons_self hfx
    exact h1 (this ▸ hx)
/-- edges between points that are there -/
def bm_G (E : Nat → Nat → Prop) : Prop := (∀ u w, E u w → E w u) ∧ (∀ u, ¬ E u u) ∧ ∀ u w, E u w → u < 10 ∧ w < 10
/-- m pairs points of E; 10 and more: none -/
def bm_M (E : Nat → Nat → Prop) (m : Nat → Nat) : Prop := ∀ v, v < 10 → m v < 10 → E v (m v) ∧ m (m v) = v
theorem bm_M.inj {E : Nat → Nat → Prop} {m : Nat → Nat} (h : bm_M E m) {u w : Nat} (hu : u < 10) (hw : w < 10) (hm : m u < 10) (e : m u = m w) : u = w := by
  have h1 := (h u hu hm).2
  have h2 := (h w hw (e ▸ hm)).2
  rw [← h1, ← h2, e]
theorem bm_M.ne {E : Nat → Nat → Prop} {m : Nat → Nat} (hG : bm_G E) (h : bm_M E m) {u : Nat} (hu : u < 10) (hm : m u < 10) : m u ≠ u := by
  intro e
  have h1 := (h u hu hm).1
  rw [e] at h1
  exact hG.2.1 u h1
def bm_free (m : Nat → Nat) : List Nat := (List.range 10).filter (fun v => decide (10 ≤ m v))
theorem bm_free_mem {m : Nat → Nat} {v : Nat} : v ∈ bm_free m ↔ v < 10 ∧ 10 ≤ m v := by
  unfold bm_free
  rw [List.mem_filter, List.mem_range, decide_eq_true_eq]
theorem bm_free_nodup (m : Nat → Nat) : (bm_free m).Nodup := List.Pairwise.filter _ List.nodup_range
/-- the walk n, m, n, m .. from p: its even points -/
def bm_it (m n : Nat → Nat) (p : Nat) : Nat → Nat
  | 0 => p
  | j + 1 => m (n (bm_it m n p j))
/-- all steps before j are there -/
def bm_ok (m n : Nat → Nat) (p j : Nat) : Prop := ∀ i, i < j → n (bm_it m n p i) < 10 ∧ bm_it m n p (i + 1) < 10
theorem bm_it_lt {m n : Nat → Nat} {p j : Nat} (hp : p < 10) (h : bm_ok m n p j) : ∀ i, i ≤ j → bm_it m n p i < 10
  | 0, _ => hp
  | i + 1, hi => (h i hi).2
theorem bm_ok.le {m n : Nat → Nat} {p j k : Nat} (h : bm_ok m n p j) (hk : k ≤ j) : bm_ok m n p k := fun i hi => h i (Nat.lt_of_lt_of_le hi hk)
section BM1
variable {E : Nat → Nat → Prop} {m n : Nat → Nat}
theorem bm_it_m (hm : bm_M E m) (hn : bm_M E n) {p j : Nat} (hp : p < 10) (h : bm_ok m n p (j + 1)) : m (bm_it m n p (j + 1)) = n (bm_it m n p j) := by
  have h1 := h j (Nat.lt_succ_self j)
  exact (hm _ h1.1 h1.2).2
theorem bm_it_inj (hm : bm_M E m) (hn : bm_M E n) {p p' : Nat} (hp : p < 10) (hp' : p' < 10) (fp : 10 ≤ m p) (fp' : 10 ≤ m p') : ∀ (j j' : Nat), bm_ok m n p j → bm_ok m n p' j' → bm_it m n p j = bm_it m n p' j' → j = j' ∧ p = p'
  | 0, 0, _, _, e => ⟨rfl, e⟩
  | 0, j' + 1, h, h', e => by
    exfalso
    have h1 := bm_it_m hm hn hp' h'
    have h2 := h' j' (Nat.lt_succ_self j')
    rw [← e] at h1
    have : m p = n (bm_it m n p' j') := h1
    omega
  | j + 1, 0, h, h', e => by
    exfalso
    have h1 := bm_it_m hm hn hp h
    have h2 := h j (Nat.lt_succ_self j)
    rw [e] at h1
    have : m p' = n (bm_it m n p j) := h1
    omega
  | j + 1, j' + 1, h, h', e => by
    have h1 := bm_it_m hm hn hp h
    have h2 := bm_it_m hm hn hp' h'
    have h3 := h j (Nat.lt_succ_self j)
    have h4 : n (bm_it m n p j) = n (bm_it m n p' j') := by rw [← h1, ← h2, e]
    have h5 := hn.inj (bm_it_lt hp h j (Nat.le_succ j)) (bm_it_lt hp' h' j' (Nat.le_succ j')) h3.1 h4
    obtain ⟨a, b⟩ := bm_it_inj hm hn hp hp' fp fp' j j' (h.le (Nat.le_succ j)) (h'.le (Nat.le_succ j')) h5
    exact ⟨by rw [a], b⟩
/-- even points are no odd points -/
theorem bm_it_odd (hG : bm_G E) (hm : bm_M E m) (hn : bm_M E n) {p : Nat} (hp : p < 10) : ∀ (t i j : Nat), j + 1 - i ≤ t → i ≤ j + 1 → bm_ok m n p i → bm_ok m n p j → n (bm_it m n p j) < 10 → bm_it m n p i ≠ n (bm_it m n p j) := by
  intro t
  induction t with
  | zero =>
    intro i j h1 h2 hi hj hx e
    have : i = j + 1 := by omega
    subst this
    have h3 := (hi j (Nat.lt_succ_self j)).2
    have h4 : m (n (bm_it m n p j)) = n (bm_it m n p j) := e
    exact bm_M.ne hG hm hx (by rw [h4]; exact hx) h4
  | succ t ih =>
    intro i j h1 h2 hi hj hx e
    have hji := bm_it_lt hp hj j (Nat.le_refl j)
    by_cases c1 : i = j + 1
    · subst c1
      have h4 : m (n (bm_it m n p j)) = n (bm_it m n p j) := e
      exact bm_M.ne hG hm hx (by rw [h4]; exact hx) h4
    by_cases c2 : i = j
    · subst c2
      exact bm_M.ne hG hn hji hx e.symm
    -- i < j
    obtain ⟨j', rfl⟩ : ∃ j', j = j' + 1 := ⟨j - 1, by omega⟩
    have hj' := hj j' (Nat.lt_succ_self j')
    have e1 : n (bm_it m n p i) = bm_it m n p (j' + 1) := by rw [e]; exact (hn _ hji hx).2
    have e2 : m (n (bm_it m n p i)) = n (bm_it m n p j') := by rw [e1]; exact bm_it_m hm hn hp hj
    have hok : bm_ok m n p (i + 1) := hj.le (by omega)
    exact ih (i + 1) j' (by omega) (by omega) hok (hj.le (Nat.le_succ j')) hj'.1 e2
theorem bm_it_odd' (hG : bm_G E) (hm : bm_M E m) (hn : bm_M E n) {p i j : Nat} (hp : p < 10) (hij : i ≤ j) (hj : bm_ok m n p j) (hx : n (bm_it m n p j) < 10) : bm_it m n p i ≠ n (bm_it m n p j) :=
  bm_it_odd hG hm hn hp (j + 1) i j (by omega) (by omega) (hj.le hij) hj hx
end BM1
/-- what a search that failed at p leaves behind: outer points o with bases b, inner points t -/
def bm_C (E : Nat → Nat → Prop) (m : Nat → Nat) (p : Nat) (o t : Nat → Prop) (b : Nat → Nat) : Prop :=
  o p ∧ b p = p ∧ (∀ u w, o u → E u w → t w ∨ (o w ∧ b w = b u)) ∧
  (∀ x, x < 10 → t x → m x < 10 ∧ o (m x) ∧ b (m x) = m x) ∧
  (∀ x, x < 10 → o x → b x ≠ x → m x < 10 ∧ o (m x) ∧ b (m x) = b x) ∧
  (∀ x, x < 10 → o x → b x = x → x ≠ p → m x < 10 ∧ t (m x)) ∧
  (∀ x, t x → ¬ o x)
/-- one step of an alternating walk: it stays with the outer points -/
theorem bm_C.step {E : Nat → Nat → Prop} {m : Nat → Nat} {p : Nat} {o t : Nat → Prop} {b : Nat → Nat} (hC : bm_C E m p o t b) (V : Nat → Prop) {e x : Nat} (hx : x < 10) (he : o e) (hb : V (b e)) (hE : E e x) (hv : ¬ V x) : m x < 10 ∧ o (m x) ∧ (V (b (m x)) ∨ b (m x) = m x) := by
  obtain ⟨c1, c2, c3, c4, c5, c6, c7⟩ := hC
  rcases c3 e x he hE with h | ⟨h1, h2⟩
  · obtain ⟨a1, a2, a3⟩ := c4 x hx h
    exact ⟨a1, a2, Or.inr a3⟩
  · have hne : b x ≠ x := fun q => hv (by rw [← q, h2]; exact hb)
    obtain ⟨a1, a2, a3⟩ := c5 x hx h1 hne
    exact ⟨a1, a2, Or.inl (by rw [a3, h2]; exact hb)⟩
section BM2
variable {E : Nat → Nat → Prop} {m n : Nat → Nat}
/-- the walk from p stays with p's outer points and never ends at an odd point -/
theorem bm_stay (hG : bm_G E) (hm : bm_M E m) (hn : bm_M E n) {p : Nat} (hp : p < 10) {o t : Nat → Prop} {b : Nat → Nat} (hC : bm_C E m p o t b) : ∀ j, bm_ok m n p j → (o (bm_it m n p j) ∧ ∃ i, i ≤ j ∧ bm_it m n p i = b (bm_it m n p j)) ∧ (n (bm_it m n p j) < 10 → bm_ok m n p (j + 1)) := by
  intro j
  have key : ∀ j, bm_ok m n p j → (o (bm_it m n p j) ∧ ∃ i, i ≤ j ∧ bm_it m n p i = b (bm_it m n p j)) → n (bm_it m n p j) < 10 → bm_ok m n p (j + 1) ∧ o (bm_it m n p (j + 1)) ∧ ∃ i, i ≤ j + 1 ∧ bm_it m n p i = b (bm_it m n p (j + 1)) := by
    intro j hj ⟨h1, i, h2, h3⟩ hx
    have hjl := bm_it_lt hp hj j (Nat.le_refl j)
    have hE := (hn _ hjl hx).1
    obtain ⟨a1, a2, a3⟩ := hC.step (fun v => ∃ i, i ≤ j ∧ bm_it m n p i = v) hx h1 ⟨i, h2, h3⟩ hE (fun ⟨i', q1, q2⟩ => bm_it_odd' hG hm hn hp q1 hj hx q2)
    refine ⟨fun i' hi' => ?_, a2, ?_⟩
    · by_cases c : i' < j
      · exact hj i' c
      · have : i' = j := by omega
        subst this
        exact ⟨hx, a1⟩
    · rcases a3 with ⟨i', q1, q2⟩ | q
      · exact ⟨i', by omega, q2⟩
      · exact ⟨j + 1, Nat.le_refl _, q.symm⟩
  induction j with
  | zero =>
    intro hj
    have h0 : o (bm_it m n p 0) ∧ ∃ i, i ≤ 0 ∧ bm_it m n p i = b (bm_it m n p 0) := ⟨hC.1, 0, Nat.le_refl _, hC.2.1.symm⟩
    exact ⟨h0, fun hx => (key 0 hj h0 hx).1⟩
  | succ j ih =>
    intro hj
    have hj' := hj.le (Nat.le_succ j)
    obtain ⟨a1, -⟩ := ih hj'
    have h0 := (key j hj' a1 (hj j (Nat.lt_succ_self j)).1).2
    exact ⟨h0, fun hx => (key (j + 1) hj h0 hx).1⟩
/-- so it ends at a point that n leaves free -/
theorem bm_ends (hG : bm_G E) (hm : bm_M E m) (hn : bm_M E n) {p : Nat} (hp : p < 10) (fp : 10 ≤ m p) {o t : Nat → Prop} {b : Nat → Nat} (hC : bm_C E m p o t b) : ∃ j, bm_ok m n p j ∧ 10 ≤ n (bm_it m n p j) ∧ o (bm_it m n p j) := by
  by_cases hex : ∃ j, bm_ok m n p j ∧ 10 ≤ n (bm_it m n p j)
  · obtain ⟨j, h1, h2⟩ := hex
    exact ⟨j, h1, h2, (bm_stay hG hm hn hp hC j h1).1.1⟩
  · exfalso
    have all : ∀ j, bm_ok m n p j := by
      intro j
      induction j with
      | zero => exact fun i hi => absurd hi (Nat.not_lt_zero i)
      | succ j ih =>
        refine (bm_stay hG hm hn hp hC j ih).2 ?_
        exact Nat.not_le.mp (fun q => hex ⟨j, ih, q⟩)
    have hnd : ((List.range 11).map (bm_it m n p)).Nodup := bm_map_nodup List.nodup_range (fun x _ y _ e => (bm_it_inj hm hn hp hp fp fp x y (all x) (all y) e).1)
    have := bm_len10 hnd (fun x hx => by
      obtain ⟨i, -, rfl⟩ := List.mem_map.mp hx
      exact bm_it_lt hp (all i) i (Nat.le_refl i))
    simp at this
end BM2
/-- the walk's end, by choice: for free points of m with a certificate -/
theorem bm_phi {E : Nat → Nat → Prop} {m n : Nat → Nat} (hG : bm_G E) (hm : bm_M E m) (hn : bm_M E n) (K : Nat → Nat → Prop) (hK : ∀ p, p < 10 → 10 ≤ m p → (∃ w, E p w) → ∃ (o t : Nat → Prop) (b : Nat → Nat), bm_C E m p o t b ∧ ∀ v, o v → K p v) :
    ∃ φ : Nat → Nat, (∀ p ∈ bm_free m, φ p ∈ bm_free n) ∧ (∀ p ∈ bm_free m, ∀ q ∈ bm_free m, φ p = φ q → p = q) ∧ ∀ p ∈ bm_free m, φ p = p ∨ K p (φ p) := by
  have ex : ∀ p, ∃ w, p ∈ bm_free m → w < 10 ∧ 10 ≤ n w ∧ (∃ j, bm_ok m n p j ∧ bm_it m n p j = w) ∧ (w = p ∨ K p w) := by
    intro p
    by_cases hp : p ∈ bm_free m
    · obtain ⟨h1, h2⟩ := bm_free_mem.mp hp
      by_cases hn0 : n p < 10
      · obtain ⟨o, t, b, hC, ho⟩ := hK p h1 h2 ⟨n p, (hn p h1 hn0).1⟩
        obtain ⟨j, a1, a2, a3⟩ := bm_ends hG hm hn h1 h2 hC
        exact ⟨_, fun _ => ⟨bm_it_lt h1 a1 j (Nat.le_refl j), a2, ⟨j, a1, rfl⟩, Or.inr (ho _ a3)⟩⟩
      · exact ⟨p, fun _ => ⟨h1, Nat.not_lt.mp hn0, ⟨0, fun i hi => absurd hi (Nat.not_lt_zero i), rfl⟩, Or.inl rfl⟩⟩
    · exact ⟨0, fun h => absurd h hp⟩
  refine ⟨fun p => Classical.choose (ex p), fun p hp => ?_, fun p hp q hq e => ?_, fun p hp => ?_⟩
  · have := Classical.choose_spec (ex p) hp
    exact bm_free_mem.mpr ⟨this.1, this.2.1⟩
  · obtain ⟨-, -, ⟨j, a1, a2⟩, -⟩ := Classical.choose_spec (ex p) hp
    obtain ⟨-, -, ⟨j', b1, b2⟩, -⟩ := Classical.choose_spec (ex q) hq
    obtain ⟨h1, h2⟩ := bm_free_mem.mp hp
    obtain ⟨h3, h4⟩ := bm_free_mem.mp hq
    exact (bm_it_inj hm hn h1 h3 h2 h4 j j' a1 b1 (by rw [a2, b2]; exact e)).2
  · exact (Classical.choose_spec (ex p) hp).2.2.2
/-- with a certificate at every free point the pairing is a largest one -/
theorem bm_opt {E : Nat → Nat → Prop} {m n : Nat → Nat} (hG : bm_G E) (hm : bm_M E m) (hn : bm_M E n) (hK : ∀ p, p < 10 → 10 ≤ m p → (∃ w, E p w) → ∃ (o t : Nat → Prop) (b : Nat → Nat), bm_C E m p o t b) : (bm_free m).length ≤ (bm_free n).length := by
  obtain ⟨φ, h1, h2, -⟩ := bm_phi hG hm hn (fun _ _ => True) (fun p a b c => by
    obtain ⟨o, t, bb, h⟩ := hK p a b c
    exact ⟨o, t, bb, h, fun _ _ => trivial⟩)
  have h3 := bm_map_nodup (f := φ) (bm_free_nodup m) h2
  have h4 := bm_len _ (bm_free n) h3 (fun x hx => by
    obtain ⟨p, hp, rfl⟩ := List.mem_map.mp hx
    exact h1 p hp)
  simpa using h4
/-- a point that a pairing as large leaves free is an outer point of some free point -/
theorem bm_spare {E : Nat → Nat → Prop} {m n : Nat → Nat} (hG : bm_G E) (hm : bm_M E m) (hn : bm_M E n) (K : Nat → Nat → Prop) (hK : ∀ p, p < 10 → 10 ≤ m p → (∃ w, E p w) → ∃ (o t : Nat → Prop) (b : Nat → Nat), bm_C E m p o t b ∧ ∀ v, o v → K p v) (he : (bm_free n).length ≤ (bm_free m).length) {a : Nat} (ha : a ∈ bm_free n) : a ∈ bm_free m ∨ ∃ p ∈ bm_free m, K p a := by
  obtain ⟨φ, h1, h2, h3⟩ := bm_phi hG hm hn K hK
  by_cases c : ∃ p ∈ bm_free m, φ p = a
  · obtain ⟨p, hp, rfl⟩ := c
    rcases h3 p hp with q | q
    · rw [q]; exact Or.inl hp
    · exact Or.inr ⟨p, hp, q⟩
  · exfalso
    have h4 := bm_map_nodup (f := φ) (bm_free_nodup m) h2
    have h5 := bm_len _ ((bm_free n).erase a) h4 (fun x hx => by
      obtain ⟨p, hp, rfl⟩ := List.mem_map.mp hx
      have hne : φ p ≠ a := fun e => c ⟨p, hp, e⟩
      exact (List.mem_erase_of_ne hne).mpr (h1 p hp))
    rw [List.length_map, List.length_erase_of_mem ha] at h5
    have := List.length_pos_of_mem ha
    omega
end
section
/-! plain law 2: ways along pointers, turning them, certificates stay -/
/-- from a, by f, over the points of the list, to t -/
def bm_Sg (f : Nat → Nat) (t : Nat) : Nat → List Nat → Prop
  | a, [] => a = t
  | a, x :: L => a = x ∧ bm_Sg f t (f x) L
/-- no repeats, no two mates -/
def bm_Cl (m : Nat → Nat) (L : List Nat) : Prop := L.Nodup ∧ ∀ x ∈ L, ∀ y ∈ L, m x ≠ y
theorem bm_Sg.congr {f g : Nat → Nat} {t : Nat} : ∀ {L : List Nat} {a : Nat}, (∀ x ∈ L, f x = g x) → bm_Sg f t a L → bm_Sg g t a L
  | [], _, _, h => h
  | x :: L, _, hfg, h => by
    obtain ⟨h1, h2⟩ := h
    refine ⟨h1, ?_⟩
    rw [← hfg x List.mem_cons_self]
    exact bm_Sg.congr (fun y hy => hfg y (List.mem_cons_of_mem _ hy)) h2
theorem bm_Sg.app {f : Nat → Nat} {t t' : Nat} : ∀ {L1 L2 : List Nat} {a : Nat}, bm_Sg f t a L1 → bm_Sg f t' t L2 → bm_Sg f t' a (L1 ++ L2)
  | [], L2, a, h1, h2 => by
    have h1 : a = t := h1
    subst h1
    exact h2
  | x :: L, L2, a, h1, h2 => ⟨h1.1, bm_Sg.app h1.2 h2⟩
theorem bm_Cl.tail {m : Nat → Nat} {x : Nat} {L : List Nat} (h : bm_Cl m (x :: L)) : bm_Cl m L :=
  ⟨(List.nodup_cons.mp h.1).2, fun a ha b hb => h.2 a (List.mem_cons_of_mem _ ha) b (List.mem_cons_of_mem _ hb)⟩
theorem bm_Cl.congr {m m' : Nat → Nat} {L : List Nat} (h : bm_Cl m L) (e : ∀ x ∈ L, m x = m' x) : bm_Cl m' L :=
  ⟨h.1, fun x hx y hy => by rw [← e x hx]; exact h.2 x hx y hy⟩
/-- the start of a way is on it -/
theorem bm_Sg.start {f : Nat → Nat} {t a : Nat} {L : List Nat} (h : bm_Sg f t a L) : a ∈ L ++ [t] := by
  cases L with
  | nil => have h : a = t := h; simp [h]
  | cons x L => simp [h.1]
/-- a way to turn: v is to get a new mate, its way by r, m goes over L to the root -/
def bm_T (E : Nat → Nat → Prop) (r m : Nat → Nat) (root v : Nat) (L : List Nat) : Prop :=
  v < 10 ∧ root < 10 ∧ 10 ≤ m root ∧ bm_M E (fun x => if x = v then 10 else m x) ∧ r v < 10 ∧ E v (r v) ∧ bm_Sg (fun w => r (m w)) root (r v) L ∧
  bm_Cl m (L ++ [root]) ∧ v ∉ L ++ [root] ∧ ∀ x ∈ L, x < 10 ∧ m x < 10 ∧ m x ≠ v ∧ r (m x) < 10 ∧ E (m x) (r (m x))
theorem bm_turn_stop (r : Nat → Nat) : ∀ (n v : Nat) (m : Nat → Nat), 10 ≤ v → bd_turn r n v m = some m
  | 0, _, _, _ => rfl
  | n + 1, v, m, h => by
    unfold bd_turn
    rw [if_neg (by omega)]
theorem bm_turn {E : Nat → Nat → Prop} (hG : bm_G E) {r : Nat → Nat} {root : Nat} : ∀ (L : List Nat) (v : Nat) (m : Nat → Nat) (n : Nat), bm_T E r m root v L → L.length < n →
    ∃ m', bd_turn r n v m = some m' ∧ bm_M E m' ∧ m' v < 10 ∧ (∀ x, x < 10 → x ≠ v → (m' x < 10 ↔ (m x < 10 ∨ x = root))) ∧ ∀ x, x ≠ v → x ∉ L → x ≠ root → (∀ y ∈ L, x ≠ m y) → m' x = m x := by
  intro L
  induction L with
  | nil =>
    intro v m n ⟨hv, hro, hf, hM, hr, hE, hS, hC, hvL, hx⟩ hn
    obtain ⟨n, rfl⟩ : ∃ k, n = k + 1 := ⟨n - 1, by simp at hn; omega⟩
    have hS : r v = root := hS
    have hvr : v ≠ root := by simpa using hvL
    refine ⟨va_up (va_up m v root) root v, ?_, ?_, ?_, ?_, ?_⟩
    · unfold bd_turn
      rw [if_pos hv, bd_gd_t hr, hS]
      exact bm_turn_stop r n _ _ hf
    · intro x hx hx2
      have hEr : E v root := hS ▸ hE
      unfold va_up at hx2 ⊢
      by_cases c1 : x = root
      · subst c1
        simp only [if_true, if_neg hvr]
        exact ⟨hG.1 _ _ hEr, trivial⟩
      · by_cases c2 : x = v
        · subst c2
          simp only [if_neg hvr, if_true]
          exact ⟨hEr, trivial⟩
        · simp only [if_neg c1, if_neg c2] at hx2 ⊢
          have h1 := hM x hx (by simp only [if_neg c2]; exact hx2)
          simp only [if_neg c2] at h1
          have h2 : m x ≠ v := by
            intro q
            rw [if_pos q] at h1
            omega
          rw [if_neg h2] at h1
          have h3 : m x ≠ root := by
            intro q
            rw [q] at h1
            omega
          rw [if_neg h3, if_neg h2]
          exact h1
    · simp [va_up, hvr, hro]
    · intro x hx hxv
      by_cases c1 : x = root
      · subst c1; simp [va_up, hv]
      · simp [va_up, c1, hxv]
    · intro x h1 _ h2 _
      simp [va_up, h1, h2]
  | cons x0 L ih =>
    intro v m n ⟨hv, hro, hf, hM, hr, hE, hS, hC, hvL, hx⟩ hn
    obtain ⟨n, rfl⟩ : ∃ k, n = k + 1 := ⟨n - 1, by simp at hn; omega⟩
    obtain ⟨e0, hS⟩ := hS
    obtain ⟨a1, a2, a3, a4, a5⟩ := hx x0 List.mem_cons_self
    have hne : v ≠ x0 := fun q => hvL (by rw [q]; simp)
    have hvr : v ≠ root := fun q => hvL (by rw [q]; simp)
    have hmv1 : m (m x0) = x0 := by
      have h1 := (hM x0 a1 (by simp only [if_neg hne.symm]; exact a2)).2
      simp only [if_neg hne.symm, if_neg a3] at h1
      exact h1
    have hnd := List.nodup_cons.mp hC.1
    have hx0r : x0 ≠ root := fun q => hnd.1 (by rw [q]; simp)
    have hm1 : ∀ w ∈ L ++ [root], va_up (va_up m v x0) x0 v w = m w := by
      intro w hw
      have h1 : w ≠ x0 := fun q => hnd.1 (q ▸ hw)
      have h2 : w ≠ v := fun q => hvL (List.mem_cons_of_mem _ (q ▸ hw))
      simp [va_up, h1, h2]
    have hv1L : m x0 ∉ L ++ [root] := fun q => hC.2 x0 List.mem_cons_self _ (List.mem_cons_of_mem _ q) rfl
    have hT : bm_T E r (va_up (va_up m v x0) x0 v) root (m x0) L := by
      refine ⟨a2, hro, ?_, ?_, a4, a5, ?_, (bm_Cl.tail hC).congr (fun w hw => (hm1 w hw).symm), hv1L, ?_⟩
      · rw [hm1 root (by simp)]; exact hf
      · intro x hxl hx2
        by_cases c0 : x = m x0
        · simp only [if_pos c0] at hx2
          omega
        simp only [if_neg c0] at hx2 ⊢
        have hmx0 : m x0 ≠ x0 := fun q => hC.2 x0 List.mem_cons_self x0 List.mem_cons_self q
        unfold va_up at hx2 ⊢
        by_cases c1 : x = x0
        · subst c1
          simp only [if_true, if_neg hne, if_neg a3.symm]
          exact ⟨hG.1 _ _ (e0 ▸ hE), trivial⟩
        · by_cases c2 : x = v
          · subst c2
            simp only [if_neg hne, if_true, if_neg hmx0.symm]
            exact ⟨e0 ▸ hE, trivial⟩
          · simp only [if_neg c1, if_neg c2] at hx2 ⊢
            have h1 := hM x hxl (by simp only [if_neg c2]; exact hx2)
            simp only [if_neg c2] at h1
            have h2 : m x ≠ v := by
              intro q
              rw [if_pos q] at h1
              omega
            rw [if_neg h2] at h1
            have h3 : m x ≠ x0 := by
              intro q
              apply c0
              rw [← h1.2, q]
            have h4 : m x ≠ m x0 := by
              intro q
              apply c1
              rw [← h1.2, q, hmv1]
            rw [if_neg h4, if_neg h3, if_neg h2]
            exact h1
      · refine bm_Sg.congr (fun w hw => ?_) hS
        rw [hm1 w (by simp [hw])]
      · intro w hw
        obtain ⟨b1, b2, b3, b4, b5⟩ := hx w (List.mem_cons_of_mem _ hw)
        rw [hm1 w (by simp [hw])]
        refine ⟨b1, b2, ?_, b4, b5⟩
        intro q
        have hwv : w ≠ v := fun q => hvL (by rw [← q]; simp [hw])
        have h1 := (hM w b1 (by simp only [if_neg hwv]; exact b2)).2
        simp only [if_neg hwv, if_neg b3] at h1
        rw [q, hmv1] at h1
        exact hnd.1 (by rw [h1]; simp [hw])
    obtain ⟨m', t1, t2, t3, t4, t5⟩ := ih (m x0) _ n hT (by simp at hn; omega)
    refine ⟨m', ?_, t2, ?_, ?_, ?_⟩
    · unfold bd_turn
      rw [if_pos hv, bd_gd_t hr, e0]
      exact t1
    · refine (t4 v hv (Ne.symm a3)).mpr (Or.inl ?_)
      simp [va_up, hne, a1]
    · intro x hxl hxv
      by_cases c0 : x = m x0
      · subst c0
        exact ⟨fun _ => Or.inl (by rw [hmv1]; exact a1), fun _ => t3⟩
      · rw [t4 x hxl c0]
        by_cases c1 : x = x0
        · subst c1
          simp [va_up, hv, a2]
        · simp [va_up, c1, hxv]
    · intro x h1 h2 h3 h4
      have c0 : x ≠ m x0 := h4 x0 List.mem_cons_self
      have c1 : x ≠ x0 := fun q => h2 (by rw [q]; simp)
      rw [t5 x c0 (fun q => h2 (List.mem_cons_of_mem _ q)) h3 (fun y hy => by rw [hm1 y (by simp [hy])]; exact h4 y (List.mem_cons_of_mem _ hy))]
      simp [va_up, c1, h1]
/-- points of a certificate -/
theorem bm_C.mate {E : Nat → Nat → Prop} {m : Nat → Nat} {p : Nat} {o t : Nat → Prop} {b : Nat → Nat} (hC : bm_C E m p o t b) {x : Nat} (hx : x < 10) (h : o x ∨ t x) (hp : x ≠ p) : m x < 10 ∧ (o (m x) ∨ t (m x)) := by
  obtain ⟨c1, c2, c3, c4, c5, c6, c7⟩ := hC
  rcases h with h | h
  · by_cases q : b x = x
    · have := c6 x hx h q hp
      exact ⟨this.1, Or.inr this.2⟩
    · have := c5 x hx h q
      exact ⟨this.1, Or.inl this.2.1⟩
  · have := c4 x hx h
    exact ⟨this.1, Or.inl this.2.1⟩
/-- a way from another free point doesn't touch a certificate's points, if it ends at a free point -/
theorem bm_miss {E : Nat → Nat → Prop} (hG : bm_G E) {m r : Nat → Nat} (hm : bm_M E m) {p q : Nat} {o t : Nat → Prop} {b : Nat → Nat} (hC : bm_C E m p o t b) (fp : 10 ≤ m p) (hq : q < 10) (fq : 10 ≤ m q) (hqp : q ≠ p) : ∀ (L : List Nat) (a : Nat), bm_Sg (fun w => r (m w)) q a L → bm_Cl m (L ++ [q]) → (∀ x ∈ L, x < 10 ∧ m x < 10 ∧ r (m x) < 10 ∧ E (m x) (r (m x))) →
    (∀ x ∈ L ++ [q], ¬ (o x ∨ t x) ∧ (m x < 10 → ¬ (o (m x) ∨ t (m x)))) ∨ (o a ∧ b a ∈ L ++ [q]) := by
  intro L
  induction L with
  | nil =>
    intro a hS _ _
    refine Or.inl (fun x hx => ?_)
    have : x = q := by simpa using hx
    subst this
    refine ⟨fun h => ?_, fun h => by omega⟩
    have := (hC.mate hq h hqp).1
    omega
  | cons x0 L ih =>
    intro a hS hCl hx
    obtain ⟨rfl, hS⟩ := hS
    obtain ⟨a1, a2, a3, a4⟩ := hx a List.mem_cons_self
    have hCl' := bm_Cl.tail hCl
    have hst := hS.start
    have hmm : m (m a) = a := (hm a a1 a2).2
    have hnot : m a ∉ L ++ [q] := fun h => hCl.2 a List.mem_cons_self _ (List.mem_cons_of_mem _ h) rfl
    rcases ih _ hS hCl' (fun x hx' => hx x (List.mem_cons_of_mem _ hx')) with h | ⟨h1, h2⟩
    · have hu := (h _ hst).1
      by_cases ct : t (m a)
      · have := hC.2.2.2.1 (m a) a2 ct
        rw [hmm] at this
        exact Or.inr ⟨this.2.1, by rw [this.2.2]; simp⟩
      · have co : ¬ o (m a) := by
          intro q1
          rcases hC.2.2.1 _ _ q1 a4 with z | z
          · exact hu (Or.inr z)
          · exact hu (Or.inl z.1)
        refine Or.inl (fun x hxm => ?_)
        rcases List.mem_cons.mp hxm with rfl | hxm
        · refine ⟨fun z => ?_, fun _ z => z.elim co ct⟩
          by_cases zp : x = p
          · rw [zp] at a2; omega
          · exact (hC.mate a1 z zp).2.elim co ct
        · exact h x hxm
    · have := hC.step (fun v => v ∈ L ++ [q]) a2 h1 h2 (hG.1 _ _ a4) hnot
      rw [hmm] at this
      refine Or.inr ⟨this.2.1, ?_⟩
      rcases this.2.2 with z | z
      · exact List.mem_cons_of_mem _ z
      · rw [z]; simp
theorem bm_C.keep {E : Nat → Nat → Prop} {m m' : Nat → Nat} {p : Nat} {o t : Nat → Prop} {b : Nat → Nat} (hC : bm_C E m p o t b) (h : ∀ x, x < 10 → o x ∨ t x → m' x = m x) : bm_C E m' p o t b := by
  obtain ⟨c1, c2, c3, c4, c5, c6, c7⟩ := hC
  refine ⟨c1, c2, c3, fun x hx hy => ?_, fun x hx hy => ?_, fun x hx hy => ?_, c7⟩
  · rw [h x hx (Or.inr hy)]; exact c4 x hx hy
  · rw [h x hx (Or.inl hy)]; exact c5 x hx hy
  · rw [h x hx (Or.inl hy)]; exact c6 x hx hy
/-- turning a way keeps every certificate of another point -/
theorem bm_C.turned {E : Nat → Nat → Prop} (hG : bm_G E) {m r m' : Nat → Nat} (hm : bm_M E m) {p q v : Nat} {L : List Nat} {o t : Nat → Prop} {b : Nat → Nat} (hC : bm_C E m p o t b) (fp : 10 ≤ m p) (hqp : q ≠ p) (fv : 10 ≤ m v) (hT : bm_T E r m q v L) (hag : ∀ x, x ≠ v → x ∉ L → x ≠ q → (∀ y ∈ L, x ≠ m y) → m' x = m x) : bm_C E m' p o t b := by
  obtain ⟨hv, hro, hf, hM, hr, hE, hS, hCl, hvL, hx⟩ := hT
  have h1 := bm_miss hG hm hC fp hro hf hqp L (r v) hS hCl (fun x h => ⟨(hx x h).1, (hx x h).2.1, (hx x h).2.2.2⟩)
  have h2 : ∀ x ∈ L ++ [q], ¬ (o x ∨ t x) ∧ (m x < 10 → ¬ (o (m x) ∨ t (m x))) := by
    rcases h1 with h1 | ⟨h1, h3⟩
    · exact h1
    · exfalso
      have := hC.step (fun v => v ∈ L ++ [q]) hv h1 h3 (hG.1 _ _ hE) hvL
      omega
  have hu := (h2 _ hS.start).1
  have h3 : ¬ (o v ∨ t v) := by
    rintro (z | z)
    · rcases hC.2.2.1 _ _ z hE with y | y
      · exact hu (Or.inr y)
      · exact hu (Or.inl y.1)
    · have := (hC.2.2.2.1 v hv z).1
      omega
  refine hC.keep (fun x hxl hy => hag x ?_ ?_ ?_ ?_)
  · intro e; subst e; exact h3 hy
  · intro e; exact (h2 x (by simp [e])).1 hy
  · intro e; exact (h2 x (by simp [e])).1 hy
  · intro y hyl e
    subst e
    exact (h2 y (by simp [hyl])).2 hxl hy
end
section
/-! plain law 3: the search's invariant; ways up to the root -/
def bm_I (E : Nat → Nat → Prop) (m : Nat → Nat) (root : Nat) (o : Nat → Bool) (r b : Nat → Nat) : Prop :=
  (o root = true ∧ b root = root) ∧
  (∀ v, v < 10 → b v < 10 ∧ (o v = false → b v = v) ∧ (o v = true → o (b v) = true ∧ b (b v) = b v)) ∧
  (∀ v, v < 10 → o v = true → b v ≠ v → m v < 10 ∧ o (m v) = true ∧ b (m v) = b v ∧ r v < 10 ∧ o (r v) = true ∧ b (r v) = b v ∧ E v (r v)) ∧
  (∀ v, v < 10 → o v = true → b v = v → 10 ≤ r v ∧ (v ≠ root → m v < 10 ∧ o (m v) = false ∧ r (m v) < 10)) ∧
  (∀ v, v < 10 → o v = false → r v < 10 → m v < 10 ∧ o (m v) = true ∧ b (m v) = m v ∧ o (r v) = true ∧ E v (r v)) ∧
  (∃ rk : Nat → Nat, ∀ v, v < 10 → o v = true → b v = v → v ≠ root → rk (b (r (m v))) < rk v) ∧
  (∀ v, v < 10 → o v = true → ∃ L, bm_Sg (fun w => r (m w)) (b v) v L ∧ bm_Cl m (L ++ [b v]) ∧ ∀ x ∈ L, x < 10 ∧ o x = true ∧ b x = b v ∧ b x ≠ x)
/-- what doesn't change in a search -/
def bm_X (E : Nat → Nat → Prop) (m : Nat → Nat) (root : Nat) : Prop := bm_G E ∧ bm_M E m ∧ root < 10 ∧ 10 ≤ m root
theorem bm_pre_nodup {L1 L2 : List Nat} {z : Nat} (h : (L1 ++ z :: L2).Nodup) : (L1 ++ [z]).Nodup := by
  have h : (L1 ++ ([z] ++ L2)).Nodup := h
  rw [← List.append_assoc] at h
  exact (List.nodup_append.mp h).1
theorem bm_Sg.split {f : Nat → Nat} {t z : Nat} : ∀ {L : List Nat} {a : Nat}, bm_Sg f t a L → z ∈ L ++ [t] → ∃ L1 L2, L ++ [t] = L1 ++ z :: L2 ∧ bm_Sg f z a L1 ∧ ∀ y ∈ L1, y ∈ L
  | [], a, h, hz => by
    have h : a = t := h
    have hz : z = t := by simpa using hz
    exact ⟨[], [], by simp [hz], by rw [h, hz]; rfl, by simp⟩
  | x :: L, a, h, hz => by
    by_cases c : z = x
    · subst c
      exact ⟨[], L ++ [t], rfl, h.1, by simp⟩
    · have hz : z ∈ L ++ [t] := by
        rcases List.mem_cons.mp hz with q | q
        · exact absurd q c
        · exact q
      obtain ⟨L1, L2, h1, h2, h3⟩ := bm_Sg.split h.2 hz
      refine ⟨x :: L1, L2, by rw [List.cons_append, h1]; rfl, ⟨h.1, h2⟩, fun y hy => ?_⟩
      rcases List.mem_cons.mp hy with q | q
      · simp [q]
      · exact List.mem_cons_of_mem _ (h3 y q)
section BMI
variable {E : Nat → Nat → Prop} {m r b : Nat → Nat} {root : Nat} {o : Nat → Bool}
/-- from an outer point one goes on over its mate -/
theorem bm_I.next (hX : bm_X E m root) (hI : bm_I E m root o r b) {v : Nat} (hv : v < 10) (ho : o v = true) (hr : v ≠ root) : m v < 10 ∧ r (m v) < 10 ∧ o (r (m v)) = true ∧ E (m v) (r (m v)) ∧ (b v ≠ v → b (r (m v)) = b v ∧ b (m v) ≠ m v) := by
  obtain ⟨hG, hm, hrt, hf⟩ := hX
  obtain ⟨i1, i2, i3, i4, i5, i6, i7⟩ := hI
  by_cases c : b v = v
  · obtain ⟨a1, a2, a3⟩ := (i4 v hv ho c).2 hr
    obtain ⟨b1, b2, b3, b4, b5⟩ := i5 _ a1 a2 a3
    exact ⟨a1, a3, b4, b5, fun q => absurd c q⟩
  · obtain ⟨a1, a2, a3, -⟩ := i3 v hv ho c
    have hmm := (hm v hv a1).2
    have hne : b (m v) ≠ m v := by
      intro q
      have hmr : m v ≠ root := by
        intro z
        rw [z] at hmm
        omega
      have := ((i4 _ a1 a2 q).2 hmr).2.1
      rw [hmm, ho] at this
      cases this
    obtain ⟨b1, b2, b3, b4, b5, b6, b7⟩ := i3 _ a1 a2 hne
    exact ⟨a1, b4, b5, b7, fun _ => ⟨by rw [b6, a3], hne⟩⟩
/-- points of different classes are no mates -/
theorem bm_I.apart (hX : bm_X E m root) (hI : bm_I E m root o r b) {x y : Nat} (hx : x < 10) (hy : y < 10) (ox : o x = true) (oy : o y = true) (hb : b x ≠ b y) : m x ≠ y := by
  obtain ⟨hG, hm, hrt, hf⟩ := hX
  obtain ⟨i1, i2, i3, i4, i5, i6, i7⟩ := hI
  intro e
  by_cases c : b x = x
  · by_cases c2 : x = root
    · rw [c2] at e; omega
    · have := ((i4 x hx ox c).2 c2).2.1
      rw [e, oy] at this
      cases this
  · have := (i3 x hx ox c).2.2.1
    rw [e] at this
    exact hb this.symm
/-- a base below another: chain of bases -/
def bm_bs (root : Nat) (o : Nat → Bool) (b : Nat → Nat) (β : Nat) : Prop := β < 10 ∧ o β = true ∧ b β = β ∧ β ≠ root
theorem bm_I.chain (hX : bm_X E m root) (hI : bm_I E m root o r b) : ∀ β, β < 10 → o β = true → b β = β → ∃ L, bm_Sg (fun β => b (r (m β))) root β L ∧ (L ++ [root]).Nodup ∧ ∀ x ∈ L, bm_bs root o b x := by
  obtain ⟨rk, hrk⟩ := hI.2.2.2.2.2.1
  have key : ∀ (n β : Nat), rk β ≤ n → β < 10 → o β = true → b β = β → ∃ L, bm_Sg (fun β => b (r (m β))) root β L ∧ (L ++ [root]).Nodup ∧ (∀ x ∈ L, bm_bs root o b x) ∧ ∀ x ∈ L ++ [root], rk x ≤ rk β := by
    intro n
    induction n with
    | zero =>
      intro β h1 h2 h3 h4
      by_cases c : β = root
      · exact ⟨[], c, by simp, by simp, fun x hx => by simp at hx; rw [hx, c]; exact Nat.le_refl _⟩
      · have := hrk β h2 h3 h4 c
        omega
    | succ n ih =>
      intro β h1 h2 h3 h4
      by_cases c : β = root
      · exact ⟨[], c, by simp, by simp, fun x hx => by simp at hx; rw [hx, c]; exact Nat.le_refl _⟩
      · have h5 := hrk β h2 h3 h4 c
        obtain ⟨a1, a2, a3, a4, -⟩ := hI.next hX h2 h3 c
        obtain ⟨b1, b2, b3⟩ := hI.2.1 _ a2
        obtain ⟨L, c1, c2, c3, c4⟩ := ih (b (r (m β))) (by omega) b1 (b3 a3).1 (b3 a3).2
        refine ⟨β :: L, ⟨rfl, c1⟩, ?_, ?_, ?_⟩
        · rw [List.cons_append, List.nodup_cons]
          refine ⟨fun q => ?_, c2⟩
          have := c4 β q
          omega
        · intro x hx
          rcases List.mem_cons.mp hx with rfl | q
          · exact ⟨h2, h3, h4, c⟩
          · exact c3 x q
        · intro x hx
          rcases List.mem_cons.mp hx with rfl | q
          · exact Nat.le_refl _
          · have := c4 x q
            omega
  intro β h1 h2 h3
  obtain ⟨L, a1, a2, a3, -⟩ := key (rk β) β (Nat.le_refl _) h1 h2 h3
  exact ⟨L, a1, a2, a3⟩
/-- a way up to a base z, along a chain of bases -/
theorem bm_I.up (hX : bm_X E m root) (hI : bm_I E m root o r b) {z : Nat} (hz : z < 10) (oz : o z = true) (bz : b z = z) : ∀ (Lb : List Nat) (v : Nat), v < 10 → o v = true → bm_Sg (fun β => b (r (m β))) z (b v) Lb → (Lb ++ [z]).Nodup → (∀ x ∈ Lb, bm_bs root o b x) →
    ∃ U, bm_Sg (fun w => r (m w)) z v U ∧ bm_Cl m (U ++ [z]) ∧ (∀ x ∈ U, x < 10 ∧ o x = true ∧ x ≠ root ∧ (b x ∈ Lb ∨ (b x = z ∧ x ≠ z))) ∧ ∀ β ∈ Lb, β ∈ U := by
  intro Lb
  induction Lb with
  | nil =>
    intro v hv ov hS _ _
    have hS : b v = z := hS
    obtain ⟨L, h1, h2, h3⟩ := hI.2.2.2.2.2.2 v hv ov
    rw [hS] at h1 h2
    refine ⟨L, h1, h2, fun x hx => ?_, by simp⟩
    obtain ⟨a1, a2, a3, a4⟩ := h3 x hx
    refine ⟨a1, a2, fun q => a4 (by rw [q]; exact hI.1.2), Or.inr ⟨by rw [a3, hS], fun q => a4 (by rw [q]; exact bz)⟩⟩
  | cons β Lb ih =>
    intro v hv ov hS hnd hbs
    obtain ⟨hS1, hS2⟩ := hS
    obtain ⟨β1, β2, β3, β4⟩ := hbs β List.mem_cons_self
    obtain ⟨n1, n2⟩ := List.nodup_cons.mp hnd
    obtain ⟨a1, a2, a3, a4, -⟩ := hI.next hX β1 β2 β4
    obtain ⟨U, u1, u2, u3, u4⟩ := ih (r (m β)) a2 a3 hS2 n2 (fun x hx => hbs x (List.mem_cons_of_mem _ hx))
    obtain ⟨L, h1, h2, h3⟩ := hI.2.2.2.2.2.2 v hv ov
    rw [hS1] at h1 h2
    have hL : ∀ x ∈ L ++ [β], x < 10 ∧ o x = true ∧ b x = β := by
      intro x hx
      rcases List.mem_append.mp hx with q | q
      · obtain ⟨c1, c2, c3, -⟩ := h3 x q
        exact ⟨c1, c2, by rw [c3, hS1]⟩
      · have : x = β := by simpa using q
        subst this
        exact ⟨β1, β2, β3⟩
    have hU : ∀ x ∈ U ++ [z], x < 10 ∧ o x = true ∧ b x ∈ Lb ++ [z] := by
      intro x hx
      rcases List.mem_append.mp hx with q | q
      · obtain ⟨c1, c2, -, c3⟩ := u3 x q
        refine ⟨c1, c2, ?_⟩
        rcases c3 with c3 | c3
        · simp [c3]
        · simp [c3.1]
      · have : x = z := by simpa using q
        subst this
        exact ⟨hz, oz, by simp [bz]⟩
    have hne : ∀ x ∈ L ++ [β], ∀ y ∈ U ++ [z], b x ≠ b y := by
      intro x hx y hy q
      rw [(hL x hx).2.2] at q
      exact n1 (by rw [q]; exact (hU y hy).2.2)
    refine ⟨L ++ β :: U, h1.app ⟨rfl, u1⟩, ?_, ?_, ?_⟩
    · have e : L ++ β :: U ++ [z] = (L ++ [β]) ++ (U ++ [z]) := by simp
      rw [e]
      refine ⟨List.nodup_append.mpr ⟨h2.1, u2.1, fun x hx y hy q => hne x hx y hy (by rw [q])⟩, fun x hx y hy => ?_⟩
      rcases List.mem_append.mp hx with hx | hx <;> rcases List.mem_append.mp hy with hy | hy
      · exact h2.2 x hx y hy
      · exact hI.apart hX (hL x hx).1 (hU y hy).1 (hL x hx).2.1 (hU y hy).2.1 (hne x hx y hy)
      · exact hI.apart hX (hU x hx).1 (hL y hy).1 (hU x hx).2.1 (hL y hy).2.1 (hne y hy x hx).symm
      · exact u2.2 x hx y hy
    · intro x hx
      rcases List.mem_append.mp hx with q | q
      · obtain ⟨c1, c2, c3, c4⟩ := h3 x q
        exact ⟨c1, c2, fun z => c4 (by rw [z]; exact hI.1.2), Or.inl (by rw [c3, hS1]; simp)⟩
      · rcases List.mem_cons.mp q with rfl | q
        · exact ⟨β1, β2, β4, Or.inl (by rw [β3]; simp)⟩
        · obtain ⟨c1, c2, c3, c4⟩ := u3 x q
          refine ⟨c1, c2, c3, ?_⟩
          rcases c4 with c4 | c4
          · exact Or.inl (List.mem_cons_of_mem _ c4)
          · exact Or.inr c4
    · intro γ hγ
      rcases List.mem_cons.mp hγ with rfl | q
      · simp
      · have := u4 γ q
        simp [this]
/-- the whole way to the root -/
theorem bm_I.whole (hX : bm_X E m root) (hI : bm_I E m root o r b) {v : Nat} (hv : v < 10) (ov : o v = true) : ∃ U, bm_Sg (fun w => r (m w)) root v U ∧ bm_Cl m (U ++ [root]) ∧ ∀ x ∈ U, x < 10 ∧ o x = true ∧ x ≠ root := by
  obtain ⟨b1, b2, b3⟩ := hI.2.1 v hv
  obtain ⟨L, h1, h2, h3⟩ := hI.chain hX (b v) b1 (b3 ov).1 (b3 ov).2
  obtain ⟨U, u1, u2, u3, -⟩ := hI.up hX hX.2.2.1 hI.1.1 hI.1.2 L v hv ov h1 h2 h3
  exact ⟨U, u1, u2, fun x hx => ⟨(u3 x hx).1, (u3 x hx).2.1, (u3 x hx).2.2.1⟩⟩
end BMI
section BMB
variable {m r b : Nat → Nat} {root : Nat}
theorem bm_mb1 (fr : 10 ≤ m root) : ∀ (L : List Nat) (x n : Nat) (P : Nat → Bool), bm_Sg (fun β => b (r (m β))) root x L → (∀ β ∈ L, m β < 10 ∧ r (m β) < 10 ∧ b (r (m β)) < 10) → L.length ≤ n → P x = true → ∃ P', bd_mb1 m r b n x P = some P' ∧ ∀ v, P' v = true ↔ (P v = true ∨ v ∈ L ++ [root]) := by
  intro L
  induction L with
  | nil =>
    intro x n P hS _ _ hP
    have hS : x = root := hS
    subst hS
    refine ⟨P, ?_, fun v => ⟨Or.inl, fun h => ?_⟩⟩
    · cases n with
      | zero => rfl
      | succ n => unfold bd_mb1; rw [if_neg (by omega)]
    · rcases h with h | h
      · exact h
      · have : v = x := by simpa using h
        rw [this]; exact hP
  | cons β L ih =>
    intro x n P hS hs hn hP
    obtain ⟨rfl, hS⟩ := hS
    obtain ⟨n, rfl⟩ : ∃ k, n = k + 1 := ⟨n - 1, by simp at hn; omega⟩
    obtain ⟨a1, a2, a3⟩ := hs x List.mem_cons_self
    obtain ⟨P', h1, h2⟩ := ih _ n (va_up P (b (r (m x))) true) hS (fun β hβ => hs β (List.mem_cons_of_mem _ hβ)) (by simp at hn; omega) (by simp [va_up])
    refine ⟨P', ?_, fun v => ?_⟩
    · unfold bd_mb1
      rw [if_pos a1, bd_gd_t ⟨a2, a3⟩]
      exact h1
    · rw [h2 v]
      have hst : b (r (m x)) ∈ L ++ [root] := hS.start
      constructor
      · rintro (h | h)
        · by_cases c : v = b (r (m x))
          · right; rw [c]; exact List.mem_cons_of_mem _ hst
          · left; simpa [va_up, c] using h
        · right; exact List.mem_cons_of_mem _ h
      · rintro (h | h)
        · left
          by_cases c : v = b (r (m x))
          · simp [va_up, c]
          · simp [va_up, c, h]
        · rcases List.mem_cons.mp h with rfl | h
          · left
            by_cases c : v = b (r (m v))
            · simp only [va_up]; rw [if_pos c]
            · simp only [va_up]; rw [if_neg c]; exact hP
          · right; exact h
theorem bm_mb2 {P : Nat → Bool} (hP : P root = true) : ∀ (L : List Nat) (y n : Nat), bm_Sg (fun β => b (r (m β))) root y L → (∀ β ∈ L, m β < 10 ∧ r (m β) < 10 ∧ b (r (m β)) < 10) → L.length ≤ n → ∃ z L1 L2, bd_mb2 m r b P n y = some z ∧ P z = true ∧ bm_Sg (fun β => b (r (m β))) z y L1 ∧ (∀ x ∈ L1, P x = false ∧ x ∈ L) ∧ L ++ [root] = L1 ++ z :: L2 := by
  intro L
  induction L with
  | nil =>
    intro y n hS _ _
    have hS : y = root := hS
    subst hS
    refine ⟨y, [], [], ?_, hP, rfl, by simp, rfl⟩
    cases n with
    | zero => rfl
    | succ n => unfold bd_mb2; rw [if_pos hP]
  | cons β L ih =>
    intro y n hS hs hn
    obtain ⟨rfl, hS⟩ := hS
    obtain ⟨n, rfl⟩ : ∃ k, n = k + 1 := ⟨n - 1, by simp at hn; omega⟩
    obtain ⟨a1, a2, a3⟩ := hs y List.mem_cons_self
    by_cases c : P y = true
    · exact ⟨y, [], L ++ [root], by unfold bd_mb2; rw [if_pos c], c, rfl, by simp, rfl⟩
    · obtain ⟨z, L1, L2, h1, h2, h3, h4, h5⟩ := ih _ n hS (fun β hβ => hs β (List.mem_cons_of_mem _ hβ)) (by simp at hn; omega)
      refine ⟨z, y :: L1, L2, ?_, h2, ⟨rfl, h3⟩, ?_, by rw [List.cons_append, h5]; rfl⟩
      · unfold bd_mb2
        rw [if_neg c, bd_gd_t ⟨a1, a2, a3⟩]
        exact h1
      · intro x hx
        rcases List.mem_cons.mp hx with rfl | hx
        · exact ⟨by simpa using c, List.mem_cons_self⟩
        · exact ⟨(h4 x hx).1, List.mem_cons_of_mem _ (h4 x hx).2⟩
end BMB
end
section
/-! plain law 4: pointers turned round along a ring -/
def bm_rp (m : Nat → Nat) : List Nat → Nat → (Nat → Nat) → Nat → Nat
  | [], _, r => r
  | x :: L, c, r => bm_rp m L (m x) (va_up r x c)
theorem bm_rp_out {m : Nat → Nat} : ∀ {L : List Nat} {c : Nat} {r : Nat → Nat} {y : Nat}, y ∉ L → bm_rp m L c r y = r y
  | [], _, _, _, _ => rfl
  | x :: L, c, r, y, h => by
    have h1 : y ≠ x := fun q => h (by simp [q])
    have h2 : y ∉ L := fun q => h (List.mem_cons_of_mem _ q)
    show bm_rp m L (m x) (va_up r x c) y = r y
    rw [bm_rp_out h2]
    simp [va_up, h1]
theorem bm_rp_head {m : Nat → Nat} {x c : Nat} {L : List Nat} {r : Nat → Nat} (h : x ∉ L) : bm_rp m (x :: L) c r x = c := by
  show bm_rp m L (m x) (va_up r x c) x = c
  rw [bm_rp_out h]
  simp [va_up]
/-- what stands at a turned point: the other end at the start, the mate of the one before else -/
theorem bm_rp_val {m f : Nat → Nat} {t : Nat} : ∀ {L : List Nat} {a c : Nat} {r : Nat → Nat}, bm_Sg f t a L → L.Nodup → ∀ x ∈ L, (x = a ∧ bm_rp m L c r x = c) ∨ ∃ x' ∈ L, bm_rp m L c r x = m x' ∧ f x' = x
  | [], _, _, _, _, _, x, hx => by simp at hx
  | y :: L, a, c, r, hS, hn, x, hx => by
    obtain ⟨rfl, hS⟩ := hS
    obtain ⟨n1, n2⟩ := List.nodup_cons.mp hn
    rcases List.mem_cons.mp hx with rfl | hx
    · exact Or.inl ⟨rfl, bm_rp_head n1⟩
    · right
      rcases bm_rp_val (c := m a) (r := va_up r a c) hS n2 x hx with ⟨h1, h2⟩ | ⟨x', h1, h2, h3⟩
      · exact ⟨a, List.mem_cons_self, h2, h1.symm⟩
      · exact ⟨x', List.mem_cons_of_mem _ h1, h2, h3⟩
/-- the way back over the turned points -/
theorem bm_rev {m rr : Nat → Nat} : ∀ {L : List Nat} {c : Nat} {r : Nat → Nat}, L.Nodup → (∀ x ∈ L, m (m x) = x) → (∀ x ∈ L, rr x = bm_rp m L c r x) → ∀ x ∈ L, ∃ R, bm_Sg (fun w => rr (m w)) c (m x) R ∧ R.Nodup ∧ ∀ y ∈ R, ∃ x' ∈ L, y = m x'
  | [], _, _, _, _, _, x, hx => by simp at hx
  | x0 :: L, c, r, hn, hm, hr, x, hx => by
    obtain ⟨n1, n2⟩ := List.nodup_cons.mp hn
    have hr0 : rr x0 = c := by rw [hr x0 List.mem_cons_self]; exact bm_rp_head n1
    have hm0 := hm x0 List.mem_cons_self
    have h0 : bm_Sg (fun w => rr (m w)) c (m x0) [m x0] := by
      refine ⟨rfl, ?_⟩
      show rr (m (m x0)) = c
      rw [hm0, hr0]
    rcases List.mem_cons.mp hx with rfl | hx
    · exact ⟨[m x], h0, by simp, fun y hy => ⟨x, by simp, by simpa using hy⟩⟩
    · obtain ⟨R, h1, h2, h3⟩ := bm_rev (c := m x0) (r := va_up r x0 c) n2 (fun y hy => hm y (List.mem_cons_of_mem _ hy)) (fun y hy => hr y (List.mem_cons_of_mem _ hy)) x hx
      refine ⟨R ++ [m x0], h1.app h0, ?_, ?_⟩
      · refine List.nodup_append.mpr ⟨h2, by simp, fun y hy w hw q => ?_⟩
        have hw : w = m x0 := by simpa using hw
        obtain ⟨x', hx', e⟩ := h3 y hy
        have e2 : m x' = m x0 := by rw [← e, q, hw]
        have : x' = x0 := by rw [← hm x' (List.mem_cons_of_mem _ hx'), e2, hm0]
        exact n1 (this ▸ hx')
      · intro y hy
        rcases List.mem_append.mp hy with q | q
        · obtain ⟨x', hx', e⟩ := h3 y q
          exact ⟨x', List.mem_cons_of_mem _ hx', e⟩
        · exact ⟨x0, by simp, by simpa using q⟩
theorem bm_mw {m b : Nat → Nat} {z t : Nat} (ht : b t = z) : ∀ (L : List Nat) (v c n : Nat) (r : Nat → Nat) (i : Nat → Bool), bm_Sg (fun w => r (m w)) t v L → (∀ x ∈ L, b x ≠ z ∧ b x < 10 ∧ m x < 10 ∧ b (m x) < 10 ∧ r (m x) < 10) → bm_Cl m L → L.length ≤ n →
    ∃ i', bd_mw m b z n v c r i = some (bm_rp m L c r, i') ∧ ∀ y, i' y = true ↔ (i y = true ∨ ∃ x ∈ L, y = b x ∨ y = b (m x)) := by
  intro L
  induction L with
  | nil =>
    intro v c n r i hS _ _ _
    have hS : v = t := hS
    subst hS
    refine ⟨i, ?_, fun y => by simp⟩
    cases n with
    | zero => rfl
    | succ n => unfold bd_mw; rw [if_pos ht]; rfl
  | cons x L ih =>
    intro v c n r i hS hx hC hn
    obtain ⟨rfl, hS⟩ := hS
    obtain ⟨n, rfl⟩ : ∃ k, n = k + 1 := ⟨n - 1, by simp at hn; omega⟩
    obtain ⟨a1, a2, a3, a4, a5⟩ := hx v List.mem_cons_self
    have hne : ∀ w ∈ v :: L, va_up r v c (m w) = r (m w) := by
      intro w hw
      have : m w ≠ v := hC.2 w hw v List.mem_cons_self
      simp [va_up, this]
    have e0 := hne v List.mem_cons_self
    obtain ⟨i', h1, h2⟩ := ih (va_up r v c (m v)) (m v) n (va_up r v c) (va_up (va_up i (b v) true) (b (m v)) true) (by
        rw [e0]
        exact hS.congr (fun w hw => (hne w (List.mem_cons_of_mem _ hw)).symm)) (fun w hw => by
        rw [hne w (List.mem_cons_of_mem _ hw)]
        exact hx w (List.mem_cons_of_mem _ hw)) hC.tail (by simp at hn; omega)
    refine ⟨i', ?_, fun y => ?_⟩
    · unfold bd_mw
      rw [if_neg a1, bd_gd_t ⟨a2, a3, a4, by rw [e0]; exact a5⟩]
      exact h1
    · rw [h2 y]
      by_cases c1 : y = b (m v)
      · subst c1
        simp [va_up]
      · by_cases c2 : y = b v
        · subst c2
          simp [va_up]
        · simp [va_up, c1, c2]
/-- a way cut where it comes to the class of z -/
theorem bm_Sg.cut {f b : Nat → Nat} {z : Nat} (hz : b z = z) : ∀ {U : List Nat} {a : Nat}, bm_Sg f z a U → ∃ As Ts t, U = As ++ Ts ∧ bm_Sg f t a As ∧ bm_Sg f z t Ts ∧ (∀ x ∈ As, b x ≠ z) ∧ b t = z ∧ (t ∈ U ++ [z])
  | [], a, h => by
    have h : a = z := h
    exact ⟨[], [], z, rfl, h, rfl, by simp, hz, by simp⟩
  | x :: U, a, h => by
    by_cases c : b x = z
    · exact ⟨[], x :: U, a, rfl, rfl, h, by simp, by rw [h.1]; exact c, by simp [h.1]⟩
    · obtain ⟨As, Ts, t, h1, h2, h3, h4, h5, h6⟩ := bm_Sg.cut hz h.2
      refine ⟨x :: As, Ts, t, by rw [h1]; rfl, ⟨h.1, h2⟩, h3, fun y hy => ?_, h5, by
        rw [List.cons_append]; exact List.mem_cons_of_mem _ h6⟩
      rcases List.mem_cons.mp hy with rfl | q
      · exact c
      · exact h4 y q
theorem bm_Sg.same {f : Nat → Nat} {z : Nat} : ∀ {L1 L2 : List Nat} {a : Nat}, bm_Sg f z a L1 → bm_Sg f z a L2 → z ∉ L1 → z ∉ L2 → L1 = L2
  | [], [], _, _, _, _, _ => rfl
  | [], y :: L2, a, h1, h2, _, n2 => by
    have h1 : a = z := h1
    exact absurd (by rw [← h1, h2.1]; simp) n2
  | x :: L1, [], a, h1, h2, n1, _ => by
    have h2 : a = z := h2
    exact absurd (by rw [← h2, h1.1]; simp) n1
  | x :: L1, y :: L2, a, h1, h2, n1, n2 => by
    have e : x = y := by rw [← h1.1, ← h2.1]
    subst e
    rw [bm_Sg.same h1.2 h2.2 (fun q => n1 (List.mem_cons_of_mem _ q)) (fun q => n2 (List.mem_cons_of_mem _ q))]
theorem bm_Sg.from {f : Nat → Nat} {z : Nat} : ∀ {L : List Nat} {a w : Nat}, bm_Sg f z a L → w ∈ L → ∃ P S, L = P ++ w :: S ∧ bm_Sg f z w (w :: S)
  | [], _, _, _, h => by simp at h
  | x :: L, a, w, h, hw => by
    by_cases c : w = x
    · subst c
      exact ⟨[], L, rfl, rfl, h.2⟩
    · obtain ⟨P, S, h1, h2⟩ := bm_Sg.from h.2 (List.mem_of_ne_of_mem c hw)
      exact ⟨x :: P, S, by rw [h1]; rfl, h2⟩
theorem bm_Cl.suffix {m : Nat → Nat} {P S : List Nat} (h : bm_Cl m (P ++ S)) : bm_Cl m S :=
  ⟨(List.nodup_append.mp h.1).2.1, fun x hx y hy => h.2 x (by simp [hx]) y (by simp [hy])⟩
theorem bm_Cl.cons {m : Nat → Nat} {w : Nat} {L : List Nat} (h : bm_Cl m L) (h1 : w ∉ L) (h2 : m w ∉ L) (h3 : m w ≠ w) (h4 : ∀ x ∈ L, m x ≠ w) : bm_Cl m (w :: L) := by
  refine ⟨List.nodup_cons.mpr ⟨h1, h.1⟩, fun x hx y hy => ?_⟩
  rcases List.mem_cons.mp hx with e1 | hx1 <;> rcases List.mem_cons.mp hy with e2 | hy1
  · rw [e1, e2]; exact h3
  · rw [e1]; exact fun q => h2 (q ▸ hy1)
  · rw [e2]; exact h4 x hx1
  · exact h.2 x hx1 y hy1
/-- one side of a ring: a's way Ua to z, of which As lies below z's class; the other end c with its way Uc -/
def bm_Sd (m r b : Nat → Nat) (root : Nat) (o : Nat → Bool) (z a : Nat) (La Ua As : List Nat) : Prop :=
  bm_Sg (fun w => r (m w)) z a Ua ∧ bm_Cl m (Ua ++ [z]) ∧ (∃ t Ts, Ua = As ++ Ts ∧ bm_Sg (fun w => r (m w)) t a As ∧ b t = z ∧ ∀ x ∈ Ts, b x = z) ∧
  (∀ x ∈ Ua, x < 10 ∧ o x = true ∧ x ≠ root ∧ (b x ∈ La ∨ (b x = z ∧ x ≠ z))) ∧ (∀ x ∈ As, b x ∈ La) ∧ (∀ β ∈ La, β ∈ As ∧ bm_bs root o b β) ∧ (La ++ [z]).Nodup
section BMS
variable {E : Nat → Nat → Prop} {m r b : Nat → Nat} {root : Nat} {o : Nat → Bool}
theorem bm_I.side (hX : bm_X E m root) (hI : bm_I E m root o r b) {z : Nat} (hz : z < 10) (oz : o z = true) (bz : b z = z) {La : List Nat} {a : Nat} (ha : a < 10) (oa : o a = true) (hS : bm_Sg (fun β => b (r (m β))) z (b a) La) (hnd : (La ++ [z]).Nodup) (hbs : ∀ x ∈ La, bm_bs root o b x) : ∃ Ua As, bm_Sd m r b root o z a La Ua As := by
  obtain ⟨Ua, u1, u2, u3, u4⟩ := hI.up hX hz oz bz La a ha oa hS hnd hbs
  obtain ⟨As, Ts, t, h1, h2, h3, h4, h5, h6⟩ := bm_Sg.cut bz u1
  have hzU : z ∉ Ua := fun q => by
    have := (List.nodup_append.mp u2.1).2.2 z q z (by simp)
    exact this rfl
  have ht : t < 10 ∧ o t = true := by
    rcases List.mem_append.mp h6 with q | q
    · exact ⟨(u3 t q).1, (u3 t q).2.1⟩
    · have : t = z := by simpa using q
      rw [this]; exact ⟨hz, oz⟩
  obtain ⟨Lt, l1, l2, l3⟩ := hI.2.2.2.2.2.2 t ht.1 ht.2
  rw [h5] at l1
  have hTs : Ts = Lt := bm_Sg.same h3 l1 (fun q => hzU (by rw [h1]; simp [q])) (fun q => (l3 z q).2.2.2 bz)
  have hznd : z ∉ La := fun q => (List.nodup_append.mp hnd).2.2 z q z (by simp) rfl
  have hAsU : ∀ x ∈ As, x ∈ Ua := fun x hx => by rw [h1]; simp [hx]
  have hTz : ∀ x ∈ Ts, b x = z := fun x hx => by rw [hTs] at hx; rw [(l3 x hx).2.2.1, h5]
  refine ⟨Ua, As, u1, u2, ⟨t, Ts, h1, h2, h5, hTz⟩, u3, fun x hx => ?_, fun β hβ => ?_, hnd⟩
  · rcases (u3 x (hAsU x hx)).2.2.2 with q | q
    · exact q
    · exact absurd q.1 (h4 x hx)
  · have hU := u4 β hβ
    refine ⟨?_, hbs β hβ⟩
    rw [h1] at hU
    rcases List.mem_append.mp hU with q | q
    · exact q
    · exact absurd ((hbs β hβ).2.2.1.symm.trans (hTz β q)) (fun e => hznd (e ▸ hβ))
/-- ways in the new ring, for points of one side -/
theorem bm_I.round (hX : bm_X E m root) (hI : bm_I E m root o r b) {z : Nat} (hz : z < 10) (oz : o z = true) (bz : b z = z) {a c : Nat} {La Ua As Lc Uc Bs : List Nat} (hA : bm_Sd m r b root o z a La Ua As) (hB : bm_Sd m r b root o z c Lc Uc Bs) (hdis : ∀ x ∈ La, x ∉ Lc) {r2 : Nat → Nat} (h2A : ∀ x ∈ As, r2 x = bm_rp m As c r x) (h2o : ∀ x, x ∉ As → x ∉ Bs → r2 x = r x) :
    (∀ x ∈ As, ∃ L, bm_Sg (fun w => r2 (m w)) z (m x) L ∧ bm_Cl m (L ++ [z]) ∧ ∀ y ∈ L, (∃ x' ∈ As, y = m x') ∨ y ∈ Uc) ∧
    (∀ (U : List Nat) (w : Nat), bm_Sg (fun w => r (m w)) z w U → bm_Cl m (U ++ [z]) → (∀ x ∈ U, x < 10 ∧ o x = true ∧ x ≠ root ∧ (b x ∈ La ∨ (b x = z ∧ x ≠ z))) → ∃ L, bm_Sg (fun w => r2 (m w)) z w L ∧ bm_Cl m (L ++ [z]) ∧ ∀ y ∈ L, y ∈ U ∨ y ∈ As ∨ (∃ x' ∈ As, y = m x') ∨ y ∈ Uc ∨ (y < 10 ∧ o y = true ∧ b y = z ∧ y ≠ z)) := by
  obtain ⟨hG, hm, hrt, hf⟩ := hX
  obtain ⟨A1, A2, ⟨ta, Ta, A3, A4, A5, A6⟩, A7, A8, A9, A10⟩ := hA
  obtain ⟨B1, B2, ⟨tb, Tb, B3, B4, B5, B6⟩, B7, B8, B9, B10⟩ := hB
  have hX : bm_X E m root := ⟨hG, hm, hrt, hf⟩
  have zLa : z ∉ La := fun q => (List.nodup_append.mp A10).2.2 z q z (by simp) rfl
  have zLc : z ∉ Lc := fun q => (List.nodup_append.mp B10).2.2 z q z (by simp) rfl
  have AU : ∀ x ∈ As, x ∈ Ua := fun x hx => by rw [A3]; simp [hx]
  have BU : ∀ x ∈ Bs, x ∈ Uc := fun x hx => by rw [B3]; simp [hx]
  have mm : ∀ x ∈ Ua, m x < 10 ∧ m (m x) = x := fun x hx => by
    obtain ⟨q1, q2, q3, -⟩ := A7 x hx
    have q4 := (hI.next hX q1 q2 q3).1
    exact ⟨q4, (hm x q1 q4).2⟩
  -- points over La are no points of Uc or z, nor their mates
  have far : ∀ w, w < 10 → o w = true → b w ∈ La → ∀ y ∈ Uc ++ [z], w ≠ y ∧ m w ≠ y ∧ m y ≠ w := by
    intro w w1 w2 w3 y hy
    have hy' : y < 10 ∧ o y = true ∧ b y ∈ Lc ++ [z] := by
      rcases List.mem_append.mp hy with q | q
      · obtain ⟨q1, q2, q3, q4⟩ := B7 y q
        refine ⟨q1, q2, ?_⟩
        rcases q4 with q4 | q4
        · simp [q4]
        · simp [q4.1]
      · have : y = z := by simpa using q
        rw [this]; exact ⟨hz, oz, by simp [bz]⟩
    have hb : b w ≠ b y := by
      intro q
      rw [q] at w3
      rcases List.mem_append.mp hy'.2.2 with z1 | z1
      · exact hdis _ w3 z1
      · have : b y = z := by simpa using z1
        exact zLa (this ▸ w3)
    exact ⟨fun q => hb (by rw [q]), hI.apart hX w1 hy'.1 w2 hy'.2.1 hb, hI.apart hX hy'.1 w1 hy'.2.1 w2 (Ne.symm hb)⟩
  have farA : ∀ x ∈ As, ∀ y ∈ Uc ++ [z], x ≠ y ∧ m x ≠ y ∧ m y ≠ x := fun x hx y hy => far x (A7 x (AU x hx)).1 (A7 x (AU x hx)).2.1 (A8 x hx) y hy
  -- the other end's way is as it was
  have hUc : bm_Sg (fun w => r2 (m w)) z c Uc := by
    refine bm_Sg.congr (fun y hy => ?_) B1
    have e1 : m y ∉ As := fun q => (farA _ q y (by simp [hy])).2.2 rfl
    have e2 : m y ∉ Bs := fun q => B2.2 y (by simp [hy]) (m y) (by simp [BU _ q]) rfl
    rw [h2o _ e1 e2]
  have ndA : As.Nodup := by
    have := (List.nodup_append.mp A2.1).1
    rw [A3] at this
    exact (List.nodup_append.mp this).1
  have clA : ∀ x ∈ As, ∀ y ∈ As, m x ≠ y := fun x hx y hy => A2.2 x (by simp [AU x hx]) y (by simp [AU y hy])
  have hfirst : ∀ x ∈ As, ∃ L, bm_Sg (fun w => r2 (m w)) z (m x) L ∧ bm_Cl m (L ++ [z]) ∧ ∀ y ∈ L, (∃ x' ∈ As, y = m x') ∨ y ∈ Uc := by
    intro x hx
    obtain ⟨R, r1, r2', r3⟩ := bm_rev (rr := r2) (c := c) (r := r) ndA (fun y hy => (mm y (AU y hy)).2) h2A x hx
    refine ⟨R ++ Uc, r1.app hUc, ?_, ?_⟩
    · rw [List.append_assoc]
      refine ⟨List.nodup_append.mpr ⟨r2', B2.1, fun y hy w hw q => ?_⟩, fun y hy w hw => ?_⟩
      · obtain ⟨x', hx', e⟩ := r3 y hy
        exact (farA x' hx' w hw).2.1 (by rw [← e, q])
      · rcases List.mem_append.mp hy with hy | hy <;> rcases List.mem_append.mp hw with hw | hw
        · obtain ⟨x', hx', e⟩ := r3 y hy
          obtain ⟨x'', hx'', e'⟩ := r3 w hw
          rw [e, e', (mm x' (AU x' hx')).2]
          exact fun q => clA x'' hx'' x' hx' q.symm
        · obtain ⟨x', hx', e⟩ := r3 y hy
          rw [e, (mm x' (AU x' hx')).2]
          exact (farA x' hx' w hw).1
        · obtain ⟨x', hx', e⟩ := r3 w hw
          rw [e]
          intro q
          have hy' : y < 10 ∧ (y = z → z ≠ root ∨ z = root) := ⟨by
            rcases List.mem_append.mp hy with z1 | z1
            · exact (B7 y z1).1
            · have : y = z := by simpa using z1
              omega, fun _ => by omega⟩
          have hmx := (mm x' (AU x' hx'))
          have : y = x' := hm.inj hy'.1 (A7 x' (AU x' hx')).1 (by rw [q]; exact hmx.1) q
          exact (farA x' hx' y hy).1 this.symm
        · exact B2.2 y hy w hw
    · intro y hy
      rcases List.mem_append.mp hy with q | q
      · exact Or.inl (r3 y q)
      · exact Or.inr q
  refine ⟨hfirst, ?_⟩
  intro U
  induction U with
  | nil =>
    intro w hS _ _
    exact ⟨[], hS, ⟨by simp, fun x hx y hy => by
      have hx : x = z := by simpa using hx
      have hy : y = z := by simpa using hy
      subst hx
      rw [hy]
      intro q
      by_cases c : m x < 10
      · exact bm_M.ne hG hm hz c q
      · omega⟩, by simp⟩
  | cons w0 U ih =>
    intro w hS hCl hx
    obtain ⟨rfl, hS'⟩ := hS
    obtain ⟨w1, w2, w3, w4⟩ := hx w List.mem_cons_self
    obtain ⟨n1, n2, n3, n4, n5⟩ := hI.next hX w1 w2 w3
    have hmmw : m (m w) = w := (hm w w1 n1).2
    by_cases cz : b w = z
    · -- in z's class: the old way
      obtain ⟨L, l1, l2, l3⟩ := hI.2.2.2.2.2.2 w w1 w2
      rw [cz] at l1 l2
      refine ⟨L, bm_Sg.congr (fun y hy => ?_) l1, l2, fun y hy => Or.inr (Or.inr (Or.inr (Or.inr ?_)))⟩
      · obtain ⟨y1, y2, y3, y4⟩ := l3 y hy
        have hby : b (m y) = z := by rw [(hI.2.2.1 y y1 y2 y4).2.2.1, y3, cz]
        have e1 : m y ∉ As := fun q => by
          have := A8 _ q
          rw [hby] at this
          exact zLa this
        have e2 : m y ∉ Bs := fun q => by
          have := B8 _ q
          rw [hby] at this
          exact zLc this
        rw [h2o _ e1 e2]
      · obtain ⟨y1, y2, y3, y4⟩ := l3 y hy
        exact ⟨y1, y2, by rw [y3, cz], fun q => y4 (by rw [q]; exact bz)⟩
    · have wLa : b w ∈ La := by
        rcases w4 with q | q
        · exact q
        · exact absurd q.1 cz
      by_cases ca : m w ∈ As
      · obtain ⟨L, l1, l2, l3⟩ := hfirst (m w) ca
        rw [hmmw] at l1
        refine ⟨L, l1, l2, fun y hy => ?_⟩
        rcases l3 y hy with q | q
        · exact Or.inr (Or.inr (Or.inl q))
        · exact Or.inr (Or.inr (Or.inr (Or.inl q)))
      · by_cases cb : w ∈ As
        · obtain ⟨P, S, p1, p2⟩ := bm_Sg.from A1 (AU w cb)
          have hsub : ∀ y ∈ w :: S, y ∈ Ua := fun y hy => by rw [p1]; exact List.mem_append_right _ hy
          refine ⟨w :: S, bm_Sg.congr (fun y hy => ?_) p2, ?_, fun y hy => ?_⟩
          · have e1 : m y ∉ As := fun q => A2.2 y (by simp [hsub y hy]) (m y) (by simp [AU _ q]) rfl
            have e2 : m y ∉ Bs := fun q => by
              have y0 := A7 y (hsub y hy)
              rcases y0.2.2.2 with z1 | z1
              · exact (far y y0.1 y0.2.1 z1 (m y) (by simp [BU _ q])).2.1 rfl
              · have q1 := B7 (m y) (BU _ q)
                have hne : b y ≠ b (m y) := by
                  intro q2
                  have := B8 _ q
                  rw [← q2, z1.1] at this
                  exact zLc this
                exact hI.apart hX y0.1 q1.1 y0.2.1 q1.2.1 hne rfl
            rw [h2o _ e1 e2]
          · have : bm_Cl m (P ++ (w :: S ++ [z])) := by rw [← List.append_assoc, ← p1]; exact A2
            exact this.suffix
          · have := hsub y hy
            rw [A3] at this
            rcases List.mem_append.mp this with q | q
            · exact Or.inr (Or.inl q)
            · have y0 := A7 y (hsub y hy)
              have y1 := A6 y q
              refine Or.inr (Or.inr (Or.inr (Or.inr ⟨y0.1, y0.2.1, y1, ?_⟩)))
              rcases y0.2.2.2 with z1 | z1
              · rw [y1] at z1; exact absurd z1 zLa
              · exact z1.2
        · have hfw := far w w1 w2 wLa
          have e2 : m w ∉ Bs := fun q => (hfw (m w) (by simp [BU _ q])).2.1 rfl
          obtain ⟨L, l1, l2, l3⟩ := ih _ hS' hCl.tail (fun x hx' => hx x (List.mem_cons_of_mem _ hx'))
          have hCw : ∀ y ∈ U ++ [z], w ≠ y ∧ m w ≠ y := fun y hy => ⟨fun q => (List.nodup_cons.mp hCl.1).1 (q ▸ hy), hCl.2 w List.mem_cons_self y (List.mem_cons_of_mem _ hy)⟩
          have hmain : ∀ y ∈ L ++ [z], w ≠ y ∧ m w ≠ y := by
            intro y hy
            rcases List.mem_append.mp hy with hy | hy
            · rcases l3 y hy with q | q | ⟨x', hx', q⟩ | q | q
              · exact hCw y (by simp [q])
              · exact ⟨fun z1 => cb (z1 ▸ q), fun z1 => ca (z1 ▸ q)⟩
              · refine ⟨fun z1 => ca ?_, fun z1 => cb ?_⟩
                · rw [z1, q, (mm x' (AU x' hx')).2]; exact hx'
                · have : w = x' := by rw [← hmmw, z1, q, (mm x' (AU x' hx')).2]
                  rw [this]; exact hx'
              · have := hfw y (by simp [q])
                exact ⟨this.1, this.2.1⟩
              · have hne : b w ≠ b y := by rw [q.2.2.1]; exact cz
                exact ⟨fun z1 => hne (by rw [z1]), hI.apart hX w1 q.1 w2 q.2.1 hne⟩
            · exact hCw y (by simp at hy; simp [hy])
          refine ⟨w :: L, ⟨rfl, ?_⟩, ?_, ?_⟩
          · show bm_Sg (fun w => r2 (m w)) z (r2 (m w)) L
            rw [h2o _ ca e2]
            exact l1
          · refine bm_Cl.cons l2 (fun q => (hmain w q).1 rfl) (fun q => (hmain _ q).2 rfl) (bm_M.ne hG hm w1 n1) (fun x hxL q => ?_)
            have : m w = x := by
              have hx10 : x < 10 := by
                rcases List.mem_append.mp hxL with hx1 | hx1
                · rcases l3 x hx1 with q | q | ⟨x', hx', q⟩ | q | q
                  · exact (hx x (List.mem_cons_of_mem _ q)).1
                  · exact (A7 x (AU x q)).1
                  · rw [q]; exact (mm x' (AU x' hx')).1
                  · exact (B7 x q).1
                  · exact q.1
                · have : x = z := by simpa using hx1
                  omega
              rw [← q]
              exact (hm x hx10 (by rw [q]; exact w1)).2
            exact (hmain x hxL).2 this
          · intro y hy
            rcases List.mem_cons.mp hy with rfl | hy
            · exact Or.inl List.mem_cons_self
            · rcases l3 y hy with q | q
              · exact Or.inl (List.mem_cons_of_mem _ q)
              · exact Or.inr q
end BMS
end
section
/-! plain law 5: an odd ring drawn together keeps the invariant -/
theorem bm_Sg.succ {f : Nat → Nat} {t : Nat} : ∀ {L : List Nat} {a : Nat}, bm_Sg f t a L → ∀ x ∈ L, f x ∈ L ++ [t]
  | [], _, _, x, hx => by simp at hx
  | y :: L, a, h, x, hx => by
    rw [List.cons_append]
    rcases List.mem_cons.mp hx with rfl | hx
    · exact List.mem_cons_of_mem _ h.2.start
    · exact List.mem_cons_of_mem _ (bm_Sg.succ h.2 x hx)
theorem bm_Sg.rank {f rk : Nat → Nat} {t : Nat} : ∀ {L : List Nat} {a : Nat}, bm_Sg f t a L → (∀ x ∈ L, rk (f x) < rk x) → ∀ x ∈ L, rk t < rk x
  | [], _, _, _, x, hx => by simp at hx
  | y :: L, a, h, hr, x, hx => by
    have ih := bm_Sg.rank h.2 (fun w hw => hr w (List.mem_cons_of_mem _ hw))
    rcases List.mem_cons.mp hx with rfl | hx
    · have h1 := hr x List.mem_cons_self
      rcases List.mem_append.mp h.2.start with q | q
      · have := ih _ q
        omega
      · have : f x = t := by simpa using q
        rw [this] at h1
        exact h1
    · exact ih x hx
theorem bm_rp_in {m : Nat → Nat} : ∀ {L : List Nat} {c : Nat} {r r' : Nat → Nat} {x : Nat}, x ∈ L → bm_rp m L c r x = bm_rp m L c r' x
  | [], _, _, _, _, h => by simp at h
  | y :: L, c, r, r', x, h => by
    by_cases q : x ∈ L
    · exact bm_rp_in (c := m y) (r := va_up r y c) (r' := va_up r' y c) q
    · have e : x = y := by
        rcases List.mem_cons.mp h with e | e
        · exact e
        · exact absurd e q
      subst e
      rw [bm_rp_head q, bm_rp_head q]
section BMD
variable {E : Nat → Nat → Prop} {m r b : Nat → Nat} {root : Nat} {o : Nat → Bool}
/-- the points that a ring takes in -/
def bm_rg (m b : Nat → Nat) (o : Nat → Bool) (N : List Nat) (p : Nat) : Prop := (o p = true ∧ b p ∈ N) ∨ ∃ β ∈ N, p = m β
theorem bm_I.draw (hX : bm_X E m root) (hI : bm_I E m root o r b) {z : Nat} (hz : z < 10) (oz : o z = true) (bz : b z = z) {a c : Nat} {La Ua As Lc Uc Bs : List Nat} (ha : a < 10) (hc : c < 10) (oa : o a = true) (oc : o c = true) (hE : E a c) (hSa : bm_Sg (fun β => b (r (m β))) z (b a) La) (hSc : bm_Sg (fun β => b (r (m β))) z (b c) Lc) (hA : bm_Sd m r b root o z a La Ua As) (hB : bm_Sd m r b root o z c Lc Uc Bs) (hdis : ∀ x ∈ La, x ∉ Lc) {o2 : Nat → Bool} {r2 b2 : Nat → Nat} (hr2 : r2 = bm_rp m Bs a (bm_rp m As c r))
    (h2 : ∀ p, p < 10 → (bm_rg m b o (La ++ Lc) p → o2 p = true ∧ b2 p = z) ∧ (¬ bm_rg m b o (La ++ Lc) p → o2 p = o p ∧ b2 p = b p)) : bm_I E m root o2 r2 b2 := by
  have hX0 := hX
  obtain ⟨hG, hm, hrt, hf⟩ := hX
  have hX := hX0
  have hA0 := hA
  have hB0 := hB
  obtain ⟨A1, A2, ⟨ta, Ta, A3, A4, A5, A6⟩, A7, A8, A9, A10⟩ := hA
  obtain ⟨B1, B2, ⟨tb, Tb, B3, B4, B5, B6⟩, B7, B8, B9, B10⟩ := hB
  have hA := hA0
  have hB := hB0
  have hI0 := hI
  obtain ⟨i1, i2, i3, i4, i5, ⟨rk, i6⟩, i7⟩ := hI
  have hI := hI0
  generalize hN : La ++ Lc = N at h2
  have zLa : z ∉ La := fun q => (List.nodup_append.mp A10).2.2 z q z (by simp) rfl
  have zLc : z ∉ Lc := fun q => (List.nodup_append.mp B10).2.2 z q z (by simp) rfl
  have zN : z ∉ N := by rw [← hN]; simp [zLa, zLc]
  have AU : ∀ x ∈ As, x ∈ Ua := fun x hx => by rw [A3]; simp [hx]
  have BU : ∀ x ∈ Bs, x ∈ Uc := fun x hx => by rw [B3]; simp [hx]
  have LaN : ∀ x ∈ La, x ∈ N := fun x hx => by rw [← hN]; simp [hx]
  have LcN : ∀ x ∈ Lc, x ∈ N := fun x hx => by rw [← hN]; simp [hx]
  have Nbs : ∀ β ∈ N, bm_bs root o b β := by
    intro β hβ
    rw [← hN] at hβ
    rcases List.mem_append.mp hβ with q | q
    · exact (A9 β q).2
    · exact (B9 β q).2
  have Nsucc : ∀ β ∈ N, b (r (m β)) ∈ N ++ [z] := by
    intro β hβ
    rw [← hN] at hβ ⊢
    rcases List.mem_append.mp hβ with q | q
    · have := bm_Sg.succ hSa β q
      simp only [List.mem_append, List.mem_singleton] at this ⊢
      grind
    · have := bm_Sg.succ hSc β q
      simp only [List.mem_append, List.mem_singleton] at this ⊢
      grind
  have Nrk : ∀ β ∈ N, rk z < rk β := by
    intro β hβ
    rw [← hN] at hβ
    rcases List.mem_append.mp hβ with q | q
    · exact bm_Sg.rank hSa (fun x hx => by obtain ⟨q1, q2, q3, q4⟩ := (A9 x hx).2; exact i6 x q1 q2 q3 q4) β q
    · exact bm_Sg.rank hSc (fun x hx => by obtain ⟨q1, q2, q3, q4⟩ := (B9 x hx).2; exact i6 x q1 q2 q3 q4) β q
  have Nm : ∀ β ∈ N, m β < 10 ∧ o (m β) = false ∧ r (m β) < 10 ∧ m (m β) = β := by
    intro β hβ
    obtain ⟨q1, q2, q3, q4⟩ := Nbs β hβ
    obtain ⟨q5, q6, q7⟩ := (i4 β q1 q2 q3).2 q4
    exact ⟨q5, q6, q7, (hm β q1 q5).2⟩
  -- who is in the ring
  have ngz : ¬ bm_rg m b o N z := by
    rintro (⟨-, q⟩ | ⟨β, hβ, q⟩)
    · rw [bz] at q; exact zN q
    · have := (Nm β hβ).2.1
      rw [← q, oz] at this
      cases this
  -- members of the new class
  have NC1 : ∀ y, y < 10 → o y = true → b y ∈ N → y < 10 ∧ o2 y = true ∧ b2 y = z ∧ b2 y ≠ y := by
    intro y y1 y2 y3
    have := (h2 y y1).1 (Or.inl ⟨y2, y3⟩)
    refine ⟨y1, this.1, this.2, fun q => zN ?_⟩
    rw [this.2] at q
    rw [← q, bz] at y3
    exact y3
  have NC2 : ∀ β ∈ N, m β < 10 ∧ o2 (m β) = true ∧ b2 (m β) = z ∧ b2 (m β) ≠ m β := by
    intro β hβ
    obtain ⟨q1, q2, q3, q4⟩ := Nm β hβ
    have := (h2 (m β) q1).1 (Or.inr ⟨β, hβ, rfl⟩)
    refine ⟨q1, this.1, this.2, fun q => ?_⟩
    rw [this.2] at q
    rw [← q, oz] at q2
    cases q2
  have NC3 : ∀ y, y < 10 → o y = true → b y = z → y < 10 ∧ o2 y = true ∧ b2 y = z := by
    intro y y1 y2 y3
    by_cases g : bm_rg m b o N y
    · exact ⟨y1, ((h2 y y1).1 g).1, ((h2 y y1).1 g).2⟩
    · have := (h2 y y1).2 g
      exact ⟨y1, by rw [this.1]; exact y2, by rw [this.2]; exact y3⟩
  have NC4 : ∀ y, y < 10 → o y = true → b y ∈ N ++ [z] → o2 y = true ∧ b2 y = z := by
    intro y y1 y2 y3
    rcases List.mem_append.mp y3 with q | q
    · exact ⟨(NC1 y y1 y2 q).2.1, (NC1 y y1 y2 q).2.2.1⟩
    · have : b y = z := by simpa using q
      exact ⟨(NC3 y y1 y2 this).2.1, (NC3 y y1 y2 this).2.2⟩
  have NC5 : ∀ x, x < 10 → o x = true → x ≠ root → b x ∈ N → m x < 10 ∧ o2 (m x) = true ∧ b2 (m x) = z ∧ b2 (m x) ≠ m x := by
    intro x x1 x2 x3 x4
    by_cases q : b x = x
    · exact NC2 x (q ▸ x4)
    · obtain ⟨q1, q2, q3, -⟩ := i3 x x1 x2 q
      exact NC1 (m x) q1 q2 (by rw [q3]; exact x4)
  have Aof : ∀ x ∈ As, x < 10 ∧ o x = true ∧ x ≠ root ∧ b x ∈ La := fun x hx => ⟨(A7 x (AU x hx)).1, (A7 x (AU x hx)).2.1, (A7 x (AU x hx)).2.2.1, A8 x hx⟩
  have Bof : ∀ x ∈ Bs, x < 10 ∧ o x = true ∧ x ≠ root ∧ b x ∈ Lc := fun x hx => ⟨(B7 x (BU x hx)).1, (B7 x (BU x hx)).2.1, (B7 x (BU x hx)).2.2.1, B8 x hx⟩
  have AB : ∀ x ∈ As, x ∉ Bs := fun x hx q => hdis _ (Aof x hx).2.2.2 (Bof x q).2.2.2
  have r2A : ∀ x ∈ As, r2 x = bm_rp m As c r x := fun x hx => by rw [hr2, bm_rp_out (AB x hx)]
  have r2B : ∀ x ∈ Bs, r2 x = bm_rp m Bs a r x := fun x hx => by rw [hr2]; exact bm_rp_in hx
  have r2o : ∀ x, x ∉ As → x ∉ Bs → r2 x = r x := fun x h1 h2 => by rw [hr2, bm_rp_out h2, bm_rp_out h1]
  have r2N : ∀ x, ¬ (o x = true ∧ b x ∈ N) → r2 x = r x := by
    intro x hx
    refine r2o x (fun q => hx ⟨(Aof x q).2.1, LaN _ (Aof x q).2.2.2⟩) (fun q => hx ⟨(Bof x q).2.1, LcN _ (Bof x q).2.2.2⟩)
  have ndA : As.Nodup := by
    have := (List.nodup_append.mp A2.1).1
    rw [A3] at this
    exact (List.nodup_append.mp this).1
  have ndB : Bs.Nodup := by
    have := (List.nodup_append.mp B2.1).1
    rw [B3] at this
    exact (List.nodup_append.mp this).1
  have sta : b a ∈ N ++ [z] := by
    have := hSa.start
    rw [← hN]
    simp only [List.mem_append, List.mem_singleton] at this ⊢
    grind
  have stc : b c ∈ N ++ [z] := by
    have := hSc.start
    rw [← hN]
    simp only [List.mem_append, List.mem_singleton] at this ⊢
    grind
  -- new pointers of the ring
  have ptr : ∀ x, x ∈ As ∨ x ∈ Bs → r2 x < 10 ∧ o2 (r2 x) = true ∧ b2 (r2 x) = z ∧ E x (r2 x) := by
    intro x hx
    rcases hx with hx | hx
    · rw [r2A x hx]
      rcases bm_rp_val (m := m) (c := c) (r := r) A4 ndA x hx with ⟨q1, q2⟩ | ⟨x', q1, q2, q3⟩
      · rw [q2, q1]
        have := NC4 c hc oc stc
        exact ⟨hc, this.1, this.2, hE⟩
      · rw [q2]
        obtain ⟨w1, w2, w3, w4⟩ := Aof x' q1
        have := NC5 x' w1 w2 w3 (LaN _ w4)
        refine ⟨this.1, this.2.1, this.2.2.1, hG.1 _ _ ?_⟩
        have := (hI.next hX w1 w2 w3).2.2.2.1
        rw [← q3]
        exact this
    · rw [r2B x hx]
      rcases bm_rp_val (m := m) (c := a) (r := r) B4 ndB x hx with ⟨q1, q2⟩ | ⟨x', q1, q2, q3⟩
      · rw [q2, q1]
        have := NC4 a ha oa sta
        exact ⟨ha, this.1, this.2, hG.1 _ _ hE⟩
      · rw [q2]
        obtain ⟨w1, w2, w3, w4⟩ := Bof x' q1
        have := NC5 x' w1 w2 w3 (LcN _ w4)
        refine ⟨this.1, this.2.1, this.2.2.1, hG.1 _ _ ?_⟩
        have := (hI.next hX w1 w2 w3).2.2.2.1
        rw [← q3]
        exact this
  have NinAB : ∀ β ∈ N, β ∈ As ∨ β ∈ Bs := by
    intro β hβ
    rw [← hN] at hβ
    rcases List.mem_append.mp hβ with q | q
    · exact Or.inl (A9 β q).1
    · exact Or.inr (B9 β q).1
  -- outside the ring
  have out : ∀ v, v < 10 → ¬ bm_rg m b o N v → o v = true → b v ∉ N := fun v _ h1 h2 q => h1 (Or.inl ⟨h2, q⟩)
  have outo : ∀ y, y < 10 → o y = true → b y ∉ N → o2 y = true ∧ b2 y = b y ∧ ¬ bm_rg m b o N y := by
    intro y y1 y2 y3
    have g : ¬ bm_rg m b o N y := by
      rintro (q | ⟨β, hβ, q⟩)
      · exact y3 q.2
      · have := (Nm β hβ).2.1
        rw [← q, y2] at this
        cases this
    have := (h2 y y1).2 g
    exact ⟨by rw [this.1]; exact y2, this.2, g⟩
  have rgo : ∀ v, v < 10 → bm_rg m b o N v → b2 v = z ∧ v ≠ z := fun v v1 g => ⟨((h2 v v1).1 g).2, fun q => ngz (q ▸ g)⟩
  have ngo : ∀ v, v < 10 → ¬ bm_rg m b o N v → o2 v = true → o v = true := fun v v1 g h => by rw [((h2 v v1).2 g).1] at h; exact h
  refine ⟨⟨?_, ?_⟩, ?_, ?_, ?_, ?_, ⟨rk, ?_⟩, ?_⟩
  · exact (outo root hrt i1.1 (fun q => (Nbs _ q).2.2.2 i1.2)).1
  · rw [(outo root hrt i1.1 (fun q => (Nbs _ q).2.2.2 i1.2)).2.1]; exact i1.2
  · intro v hv
    obtain ⟨j1, j2, j3⟩ := i2 v hv
    by_cases g : bm_rg m b o N v
    · obtain ⟨g1, g2⟩ := (h2 v hv).1 g
      refine ⟨by rw [g2]; exact hz, fun q => (by rw [g1] at q; cases q), fun _ => ?_⟩
      rw [g2]
      have := (h2 z hz).2 ngz
      exact ⟨by rw [this.1]; exact oz, by rw [this.2]; exact bz⟩
    · obtain ⟨g1, g2⟩ := (h2 v hv).2 g
      refine ⟨by rw [g2]; exact j1, fun q => by rw [g2]; exact j2 (by rw [← g1]; exact q), fun q => ?_⟩
      rw [g1] at q
      obtain ⟨k1, k2⟩ := j3 q
      have hbv := out v hv g q
      have := outo (b v) j1 k1 (by rw [k2]; exact hbv)
      rw [g2]
      exact ⟨this.1, by rw [this.2.1]; exact k2⟩
  · intro v hv ov hne
    by_cases g : bm_rg m b o N v
    · have g2 := (rgo v hv g).1
      rw [g2]
      rcases g with ⟨q1, q2⟩ | ⟨β, hβ, q⟩
      · have hvr : v ≠ root := fun z1 => (Nbs _ q2).2.2.2 (by rw [z1]; exact i1.2)
        have hmv := NC5 v hv q1 hvr q2
        refine ⟨hmv.1, hmv.2.1, hmv.2.2.1, ?_⟩
        by_cases hab : v ∈ As ∨ v ∈ Bs
        · exact ptr v hab
        · have hvb : b v ≠ v := fun z1 => hab (NinAB v (z1 ▸ q2))
          rw [r2o v (fun z1 => hab (Or.inl z1)) (fun z1 => hab (Or.inr z1))]
          obtain ⟨-, -, -, w1, w2, w3, w4⟩ := i3 v hv q1 hvb
          have := NC1 (r v) w1 w2 (by rw [w3]; exact q2)
          exact ⟨w1, this.2.1, this.2.2.1, w4⟩
      · obtain ⟨n1, n2, n3, n4⟩ := Nm β hβ
        obtain ⟨β1, β2, β3, β4⟩ := Nbs β hβ
        subst q
        rw [n4]
        have hb := NC1 β β1 β2 (by rw [β3]; exact hβ)
        refine ⟨β1, hb.2.1, hb.2.2.1, ?_⟩
        rw [r2N (m β) (fun z1 => by rw [n2] at z1; exact absurd z1.1 (by decide))]
        have hnx := hI.next hX β1 β2 β4
        have := NC4 _ hnx.2.1 hnx.2.2.1 (Nsucc β hβ)
        exact ⟨n3, this.1, this.2, hnx.2.2.2.1⟩
    · have ov' := ngo v hv g ov
      obtain ⟨-, g2⟩ := (h2 v hv).2 g
      rw [g2] at hne ⊢
      obtain ⟨w1, w2, w3, w4, w5, w6, w7⟩ := i3 v hv ov' hne
      have hbv := out v hv g ov'
      have e1 := outo (m v) w1 w2 (by rw [w3]; exact hbv)
      have e2 := outo (r v) w4 w5 (by rw [w6]; exact hbv)
      rw [r2N v (fun q => hbv q.2)]
      exact ⟨w1, e1.1, by rw [e1.2.1]; exact w3, w4, e2.1, by rw [e2.2.1]; exact w6, w7⟩
  · intro v hv ov hb
    by_cases g : bm_rg m b o N v
    · exact absurd ((rgo v hv g).1.symm.trans hb).symm (rgo v hv g).2
    · have ov' := ngo v hv g ov
      obtain ⟨-, g2⟩ := (h2 v hv).2 g
      rw [g2] at hb
      have hbv := out v hv g ov'
      obtain ⟨w1, w2⟩ := i4 v hv ov' hb
      rw [r2N v (fun q => hbv q.2)]
      refine ⟨w1, fun hr => ?_⟩
      obtain ⟨u1, u2, u3⟩ := w2 hr
      have gm : ¬ bm_rg m b o N (m v) := by
        rintro (q | ⟨β, hβ, q⟩)
        · rw [u2] at q; exact absurd q.1 (by decide)
        · have : v = β := hm.inj hv (Nbs β hβ).1 u1 q
          exact hbv (by rw [hb, this]; exact hβ)
      rw [((h2 (m v) u1).2 gm).1, r2N (m v) (fun q => by rw [u2] at q; exact absurd q.1 (by decide))]
      exact ⟨u1, u2, u3⟩
  · intro v hv ov hr
    have g : ¬ bm_rg m b o N v := fun g => by rw [((h2 v hv).1 g).1] at ov; cases ov
    have ov' : o v = false := by rw [← ((h2 v hv).2 g).1]; exact ov
    rw [r2N v (fun q => by rw [ov'] at q; exact absurd q.1 (by decide))] at hr ⊢
    obtain ⟨w1, w2, w3, w4, w5⟩ := i5 v hv ov' hr
    have hmm := (hm v hv w1).2
    have hbm : b (m v) ∉ N := fun q => g (Or.inr ⟨m v, by rw [w3] at q; exact q, hmm.symm⟩)
    have e1 := outo (m v) w1 w2 hbm
    have e2 : o2 (r v) = true := by
      by_cases q : b (r v) ∈ N
      · exact (NC1 (r v) hr w4 q).2.1
      · exact (outo (r v) hr w4 q).1
    exact ⟨w1, e1.1, by rw [e1.2.1]; exact w3, e2, w5⟩
  · intro v hv ov hb hr
    by_cases g : bm_rg m b o N v
    · exact absurd ((rgo v hv g).1.symm.trans hb).symm (rgo v hv g).2
    · have ov' := ngo v hv g ov
      obtain ⟨-, g2⟩ := (h2 v hv).2 g
      rw [g2] at hb
      have hbv := out v hv g ov'
      have hnx := hI.next hX hv ov' hr
      obtain ⟨-, u2⟩ := i4 v hv ov' hb
      obtain ⟨u3, u4, u5⟩ := u2 hr
      rw [r2N (m v) (fun q => by rw [u4] at q; exact absurd q.1 (by decide))]
      have h6 := i6 v hv ov' hb hr
      by_cases q : b (r (m v)) ∈ N
      · rw [(NC1 _ hnx.2.1 hnx.2.2.1 q).2.2.1]
        have := Nrk _ q
        omega
      · rw [(outo _ hnx.2.1 hnx.2.2.1 q).2.1]
        exact h6
  · intro v hv ov
    by_cases g : bm_rg m b o N v
    · rw [(rgo v hv g).1]
      have rA := hI.round hX hz oz bz hA hB hdis r2A r2o
      have rB := hI.round hX hz oz bz hB hA (fun x h1 h2 => hdis x h2 h1) r2B (fun x h1 h2 => r2o x h2 h1)
      -- each description gives a member of the new class
      have inU : ∀ (L' : List Nat), (∀ x ∈ L', x ∈ N) → ∀ y, (y < 10 ∧ o y = true ∧ y ≠ root ∧ (b y ∈ L' ∨ (b y = z ∧ y ≠ z))) → y < 10 ∧ o2 y = true ∧ b2 y = z ∧ b2 y ≠ y := by
        intro L' hL' y ⟨y1, y2, y3, y4⟩
        rcases y4 with q | q
        · exact NC1 y y1 y2 (hL' _ q)
        · have := NC3 y y1 y2 q.1
          exact ⟨y1, this.2.1, this.2.2, by rw [this.2.2]; exact Ne.symm q.2⟩
      have inA : ∀ y ∈ As, y < 10 ∧ o2 y = true ∧ b2 y = z ∧ b2 y ≠ y := fun y hy => NC1 y (Aof y hy).1 (Aof y hy).2.1 (LaN _ (Aof y hy).2.2.2)
      have inB : ∀ y ∈ Bs, y < 10 ∧ o2 y = true ∧ b2 y = z ∧ b2 y ≠ y := fun y hy => NC1 y (Bof y hy).1 (Bof y hy).2.1 (LcN _ (Bof y hy).2.2.2)
      have inmA : ∀ y, (∃ x' ∈ As, y = m x') → y < 10 ∧ o2 y = true ∧ b2 y = z ∧ b2 y ≠ y := fun y ⟨x', hx', e⟩ => by
        rw [e]; exact NC5 x' (Aof x' hx').1 (Aof x' hx').2.1 (Aof x' hx').2.2.1 (LaN _ (Aof x' hx').2.2.2)
      have inmB : ∀ y, (∃ x' ∈ Bs, y = m x') → y < 10 ∧ o2 y = true ∧ b2 y = z ∧ b2 y ≠ y := fun y ⟨x', hx', e⟩ => by
        rw [e]; exact NC5 x' (Bof x' hx').1 (Bof x' hx').2.1 (Bof x' hx').2.2.1 (LcN _ (Bof x' hx').2.2.2)
      have inz : ∀ y, (y < 10 ∧ o y = true ∧ b y = z ∧ y ≠ z) → y < 10 ∧ o2 y = true ∧ b2 y = z ∧ b2 y ≠ y := fun y ⟨y1, y2, y3, y4⟩ => by
        have := NC3 y y1 y2 y3
        exact ⟨y1, this.2.1, this.2.2, by rw [this.2.2]; exact Ne.symm y4⟩
      have inUa : ∀ y ∈ Ua, y < 10 ∧ o2 y = true ∧ b2 y = z ∧ b2 y ≠ y := fun y hy => inU La LaN y (A7 y hy)
      have inUc : ∀ y ∈ Uc, y < 10 ∧ o2 y = true ∧ b2 y = z ∧ b2 y ≠ y := fun y hy => inU Lc LcN y (B7 y hy)
      have fin : ∀ (L : List Nat), (∀ y ∈ L, y < 10 ∧ o2 y = true ∧ b2 y = z ∧ b2 y ≠ y) → ∀ x ∈ L, x < 10 ∧ o2 x = true ∧ b2 x = z ∧ b2 x ≠ x := fun _ h => h
      rcases g with ⟨q1, q2⟩ | ⟨β, hβ, q⟩
      · rw [← hN] at q2
        rcases List.mem_append.mp q2 with q2 | q2
        · obtain ⟨P, S, p1, p2⟩ := bm_Sg.from hSa q2
          have hsub : ∀ x ∈ b v :: S, x ∈ La := fun x hx => by rw [p1]; exact List.mem_append_right _ hx
          have hnd : ((b v :: S) ++ [z]).Nodup := by
            have h := A10
            rw [p1, List.append_assoc] at h
            exact (List.nodup_append.mp h).2.1
          obtain ⟨U, u1, u2, u3, -⟩ := hI.up hX hz oz bz (b v :: S) v hv q1 p2 hnd (fun x hx => (A9 x (hsub x hx)).2)
          have u3' : ∀ x ∈ U, x < 10 ∧ o x = true ∧ x ≠ root ∧ (b x ∈ La ∨ (b x = z ∧ x ≠ z)) := fun x hx => by
            obtain ⟨k1, k2, k3, k4⟩ := u3 x hx
            exact ⟨k1, k2, k3, k4.imp (hsub _) id⟩
          obtain ⟨L, l1, l2, l3⟩ := rA.2 U v u1 u2 u3'
          refine ⟨L, l1, l2, fun y hy => ?_⟩
          rcases l3 y hy with k | k | k | k | k
          · exact inU La LaN y (u3' y k)
          · exact inA y k
          · exact inmA y k
          · exact inUc y k
          · exact inz y k
        · obtain ⟨P, S, p1, p2⟩ := bm_Sg.from hSc q2
          have hsub : ∀ x ∈ b v :: S, x ∈ Lc := fun x hx => by rw [p1]; exact List.mem_append_right _ hx
          have hnd : ((b v :: S) ++ [z]).Nodup := by
            have h := B10
            rw [p1, List.append_assoc] at h
            exact (List.nodup_append.mp h).2.1
          obtain ⟨U, u1, u2, u3, -⟩ := hI.up hX hz oz bz (b v :: S) v hv q1 p2 hnd (fun x hx => (B9 x (hsub x hx)).2)
          have u3' : ∀ x ∈ U, x < 10 ∧ o x = true ∧ x ≠ root ∧ (b x ∈ Lc ∨ (b x = z ∧ x ≠ z)) := fun x hx => by
            obtain ⟨k1, k2, k3, k4⟩ := u3 x hx
            exact ⟨k1, k2, k3, k4.imp (hsub _) id⟩
          obtain ⟨L, l1, l2, l3⟩ := rB.2 U v u1 u2 u3'
          refine ⟨L, l1, l2, fun y hy => ?_⟩
          rcases l3 y hy with k | k | k | k | k
          · exact inU Lc LcN y (u3' y k)
          · exact inB y k
          · exact inmB y k
          · exact inUa y k
          · exact inz y k
      · rcases NinAB β hβ with k | k
        · obtain ⟨L, l1, l2, l3⟩ := rA.1 β k
          rw [q]
          refine ⟨L, l1, l2, fun y hy => ?_⟩
          rcases l3 y hy with k | k
          · exact inmA y k
          · exact inUc y k
        · obtain ⟨L, l1, l2, l3⟩ := rB.1 β k
          rw [q]
          refine ⟨L, l1, l2, fun y hy => ?_⟩
          rcases l3 y hy with k | k
          · exact inmB y k
          · exact inUa y k
    · have ov' := ngo v hv g ov
      obtain ⟨-, g2⟩ := (h2 v hv).2 g
      have hbv := out v hv g ov'
      rw [g2]
      obtain ⟨L, l1, l2, l3⟩ := i7 v hv ov'
      refine ⟨L, bm_Sg.congr (fun y hy => ?_) l1, l2, fun y hy => ?_⟩
      · obtain ⟨y1, y2, y3, y4⟩ := l3 y hy
        have hby : b (m y) = b v := by rw [(i3 y y1 y2 y4).2.2.1, y3]
        rw [r2N (m y) (fun q => hbv (by rw [← hby]; exact q.2))]
      · obtain ⟨y1, y2, y3, y4⟩ := l3 y hy
        have := outo y y1 y2 (by rw [y3]; exact hbv)
        exact ⟨y1, this.1, by rw [this.2.1]; exact y3, by rw [this.2.1]; exact y4⟩
end BMD
end
section
/-! plain law 6: the queue; drawTogether as computed -/
def bm_Qu (o : Nat → Bool) (qe : Nat) (q : Nat → Nat) : Prop :=
  (∀ i, i < qe → q i < 10 ∧ o (q i) = true) ∧ (∀ i j, i < qe → j < qe → q i = q j → i = j) ∧ ∀ v, v < 10 → o v = true → ∃ i, i < qe ∧ q i = v
theorem bm_Qu.le {o : Nat → Bool} {qe : Nat} {q : Nat → Nat} (h : bm_Qu o qe q) : qe ≤ 10 := by
  have h1 : ((List.range qe).map q).Nodup := bm_map_nodup List.nodup_range (fun x hx y hy e => h.2.1 x y (List.mem_range.mp hx) (List.mem_range.mp hy) e)
  have := bm_len10 h1 (fun x hx => by
    obtain ⟨i, hi, rfl⟩ := List.mem_map.mp hx
    exact (h.1 i (List.mem_range.mp hi)).1)
  simpa using this
theorem bm_Qu.lt {o : Nat → Bool} {qe : Nat} {q : Nat → Nat} (h : bm_Qu o qe q) {p : Nat} (hp : p < 10) (ho : o p = false) : qe < 10 := by
  have h1 : (p :: (List.range qe).map q).Nodup := by
    refine List.nodup_cons.mpr ⟨fun hm => ?_, bm_map_nodup List.nodup_range (fun x hx y hy e => h.2.1 x y (List.mem_range.mp hx) (List.mem_range.mp hy) e)⟩
    obtain ⟨i, hi, e⟩ := List.mem_map.mp hm
    have := (h.1 i (List.mem_range.mp hi)).2
    rw [e, ho] at this
    cases this
  have := bm_len10 h1 (fun x hx => by
    rcases List.mem_cons.mp hx with rfl | hx
    · exact hp
    · obtain ⟨i, hi, rfl⟩ := List.mem_map.mp hx
      exact (h.1 i (List.mem_range.mp hi)).1)
  simp at this
  omega
theorem bm_mo {o : Nat → Bool} {qe : Nat} {q : Nat → Nat} (h : bm_Qu o qe q) {p : Nat} (hp : p < 10) : ∃ o' qe' q', bd_makeOuter o qe q p = some (o', qe', q') ∧ bm_Qu o' qe' q' ∧ (∀ v, o' v = true ↔ (o v = true ∨ v = p)) ∧ qe ≤ qe' ∧ ∀ i, i < qe → q' i = q i := by
  unfold bd_makeOuter
  by_cases c : o p = true
  · rw [if_pos c]
    refine ⟨o, qe, q, rfl, h, fun v => ⟨Or.inl, fun z => ?_⟩, Nat.le_refl _, fun _ _ => rfl⟩
    rcases z with z | z
    · exact z
    · rw [z]; exact c
  · rw [if_neg c]
    have c : o p = false := by simpa using c
    have hq := h.lt hp c
    rw [bd_gd_t hq]
    refine ⟨_, _, _, rfl, ⟨?_, ?_, ?_⟩, ?_, Nat.le_succ _, ?_⟩
    · intro i hi
      by_cases e : i = qe
      · simp [va_up, e, hp]
      · have := h.1 i (by omega)
        simp only [va_up, if_neg e]
        refine ⟨this.1, ?_⟩
        split
        · rfl
        · exact this.2
    · intro i j hi hj e
      have old : ∀ i, i < qe → q i ≠ p := fun i hi z => by
        have := (h.1 i hi).2
        rw [z, c] at this
        cases this
      simp only [va_up] at e
      by_cases e1 : i = qe
      · by_cases e2 : j = qe
        · omega
        · rw [if_pos e1, if_neg e2] at e
          exact absurd e.symm (old j (by omega))
      · by_cases e2 : j = qe
        · rw [if_neg e1, if_pos e2] at e
          exact absurd e (old i (by omega))
        · rw [if_neg e1, if_neg e2] at e
          exact h.2.1 i j (by omega) (by omega) e
    · intro v hv ho
      by_cases e : v = p
      · exact ⟨qe, Nat.lt_succ_self _, by simp [va_up, e]⟩
      · have ho : o v = true := by simpa [va_up, e] using ho
        obtain ⟨i, hi, e2⟩ := h.2.2 v hv ho
        exact ⟨i, by omega, by simp [va_up, show i ≠ qe by omega, e2]⟩
    · intro v
      by_cases e : v = p
      · simp [va_up, e]
      · simp [va_up, e]
    · intro i hi
      simp [va_up, show i ≠ qe by omega]
theorem bm_dt {cm : Nat} {i : Nat → Bool} (hcm : cm < 10) : ∀ (n p : Nat) (b : Nat → Nat) (o : Nat → Bool) (qe : Nat) (q : Nat → Nat), p + n = 10 → bm_Qu o qe q → (∀ v, v < 10 → b v < 10) → ∃ b' o' qe' q', bd_dt cm i n p b o qe q = some (b', o', qe', q') ∧ bm_Qu o' qe' q' ∧ (∀ v, v < 10 → (b' v = if p ≤ v ∧ i (b v) = true then cm else b v)) ∧ (∀ v, v < 10 → (o' v = true ↔ (o v = true ∨ (p ≤ v ∧ i (b v) = true)))) ∧ qe ≤ qe' ∧ ∀ k, k < qe → q' k = q k := by
  intro n
  induction n with
  | zero =>
    intro p b o qe q hp hQ hb
    refine ⟨b, o, qe, q, rfl, hQ, fun v hv => ?_, fun v hv => ?_, Nat.le_refl _, fun _ _ => rfl⟩
    · rw [if_neg (by omega)]
    · constructor
      · exact Or.inl
      · rintro (z | z)
        · exact z
        · omega
  | succ n ih =>
    intro p b o qe q hp hQ hb
    have hp10 : p < 10 := by omega
    unfold bd_dt
    rw [bd_gd_t (hb p hp10)]
    by_cases c : i (b p) = true
    · rw [if_pos c]
      obtain ⟨o1, qe1, q1, m1, m2, m3, m4, m5⟩ := bm_mo hQ hp10
      obtain ⟨b', o', qe', q', d1, d2, d3, d4, d5, d6⟩ := ih (p + 1) (va_up b p cm) o1 qe1 q1 (by omega) m2 (fun v hv => by
        unfold va_up
        split
        · exact hcm
        · exact hb v hv)
      refine ⟨b', o', qe', q', ?_, d2, fun v hv => ?_, fun v hv => ?_, by omega, fun k hk => by rw [d6 k (by omega), m5 k hk]⟩
      · rw [m1]
        exact d1
      · rw [d3 v hv]
        by_cases e : v = p
        · subst e
          rw [if_neg (by omega), if_pos ⟨Nat.le_refl _, c⟩]
          simp [va_up]
        · simp only [va_up, if_neg e]
          by_cases e2 : p + 1 ≤ v
          · simp [e2, show p ≤ v by omega]
          · rw [if_neg (by omega), if_neg (by omega)]
      · rw [d4 v hv, m3 v]
        by_cases e : v = p
        · subst e
          simp [c]
        · simp only [va_up, if_neg e]
          have : (p + 1 ≤ v) ↔ p ≤ v := by omega
          simp [this, e]
    · rw [if_neg c]
      obtain ⟨b', o', qe', q', d1, d2, d3, d4, d5, d6⟩ := ih (p + 1) b o qe q (by omega) hQ hb
      refine ⟨b', o', qe', q', d1, d2, fun v hv => ?_, fun v hv => ?_, d5, d6⟩
      · rw [d3 v hv]
        by_cases e : v = p
        · subst e
          rw [if_neg (by omega), if_neg (fun z => c z.2)]
        · have : (p + 1 ≤ v) ↔ p ≤ v := by omega
          simp [this]
      · rw [d4 v hv]
        by_cases e : v = p
        · subst e
          simp [c]
        · have : (p + 1 ≤ v) ↔ p ≤ v := by omega
          simp [this]
section BMF
variable {E : Nat → Nat → Prop} {m r b : Nat → Nat} {root : Nat} {o : Nat → Bool}
theorem bm_meet (hX : bm_X E m root) (hI : bm_I E m root o r b) (p : Nat → Bool) {a c : Nat} (ha : a < 10) (hc : c < 10) (oa : o a = true) (oc : o c = true) : ∃ z P La Lc, bd_meet m r b p a c = some (z, P) ∧ z < 10 ∧ o z = true ∧ b z = z ∧ bm_Sg (fun β => b (r (m β))) z (b a) La ∧ (La ++ [z]).Nodup ∧ (∀ x ∈ La, bm_bs root o b x) ∧ bm_Sg (fun β => b (r (m β))) z (b c) Lc ∧ (Lc ++ [z]).Nodup ∧ (∀ x ∈ Lc, bm_bs root o b x) ∧ ∀ x ∈ La, x ∉ Lc := by
  obtain ⟨a1, a2, a3⟩ := hI.2.1 a ha
  obtain ⟨c1, c2, c3⟩ := hI.2.1 c hc
  obtain ⟨Ca, h1, h2, h3⟩ := hI.chain hX (b a) a1 (a3 oa).1 (a3 oa).2
  obtain ⟨Cc, g1, g2, g3⟩ := hI.chain hX (b c) c1 (c3 oc).1 (c3 oc).2
  have safe : ∀ β, bm_bs root o b β → m β < 10 ∧ r (m β) < 10 ∧ b (r (m β)) < 10 := by
    intro β ⟨q1, q2, q3, q4⟩
    obtain ⟨n1, n2, n3, -⟩ := hI.next hX q1 q2 q4
    exact ⟨n1, n2, (hI.2.1 _ n2).1⟩
  have len : ∀ L : List Nat, (L ++ [root]).Nodup → (∀ x ∈ L, bm_bs root o b x) → L.length ≤ 10 := by
    intro L q1 q2
    exact bm_len10 (List.nodup_append.mp q1).1 (fun x hx => (q2 x hx).1)
  obtain ⟨P, p1, p2⟩ := bm_mb1 (m := m) (r := r) (b := b) hX.2.2.2 Ca (b a) 10 (va_up (bd_fl 10 false p) (b a) true) h1 (fun β hβ => safe β (h3 β hβ)) (len Ca h2 h3) (by simp [va_up])
  have p3 : ∀ v, v < 10 → (P v = true ↔ v ∈ Ca ++ [root]) := by
    intro v hv
    rw [p2 v]
    constructor
    · rintro (q | q)
      · by_cases e : v = b a
        · rw [e]; exact h1.start
        · simp [va_up, e, bd_fl, hv] at q
      · exact q
    · exact Or.inr
  obtain ⟨z, Lc, L2, q1, q2, q3, q4, q5⟩ := bm_mb2 (m := m) (r := r) (b := b) (P := P) ((p3 root hX.2.2.1).mpr (by simp)) Cc (b c) 10 g1 (fun β hβ => safe β (g3 β hβ)) (len Cc g2 g3)
  have hz : z ∈ Cc ++ [root] := by rw [q5]; simp
  have base : ∀ x, x ∈ Cc ++ [root] → x < 10 ∧ o x = true ∧ b x = x := by
    intro x hx
    rcases List.mem_append.mp hx with y | y
    · exact ⟨(g3 x y).1, (g3 x y).2.1, (g3 x y).2.2.1⟩
    · have : x = root := by simpa using y
      rw [this]; exact ⟨hX.2.2.1, hI.1.1, hI.1.2⟩
  obtain ⟨z1, z2, z3⟩ := base z hz
  have zCa := (p3 z z1).mp q2
  obtain ⟨La, La2, s1, s2, s3⟩ := bm_Sg.split h1 zCa
  refine ⟨z, P, La, Lc, ?_, z1, z2, z3, s2, bm_pre_nodup (s1 ▸ h2), fun x hx => h3 x (s3 x hx), q3, bm_pre_nodup (q5 ▸ g2), fun x hx => g3 x (q4 x hx).2, fun x hx hx2 => ?_⟩
  · unfold bd_meet
    rw [bd_gd_t ⟨a1, c1⟩, p1]
    simp only [Option.bind_some]
    rw [q1]
    rfl
  · have e1 := (q4 x hx2).1
    have e2 := (p3 x (h3 x (s3 x hx)).1).mpr (by simp [s3 x hx])
    rw [e1] at e2
    cases e2
theorem bm_rp_lt {m : Nat → Nat} : ∀ {L : List Nat} {c : Nat} {r : Nat → Nat} {y : Nat}, c < 10 → (∀ x ∈ L, m x < 10) → r y < 10 → bm_rp m L c r y < 10
  | [], _, _, _, _, _, h => h
  | x :: L, c, r, y, hc, hm, h => by
    refine bm_rp_lt (L := L) (c := m x) (r := va_up r x c) (hm x List.mem_cons_self) (fun w hw => hm w (List.mem_cons_of_mem _ hw)) ?_
    unfold va_up
    split
    · exact hc
    · exact h
/-- drawTogether: it computes, and keeps the invariant -/
theorem bm_drawF (hX : bm_X E m root) (hI : bm_I E m root o r b) {i p : Nat → Bool} {qe : Nat} {q : Nat → Nat} (hQ : bm_Qu o qe q) {a c : Nat} (ha : a < 10) (hc : c < 10) (oa : o a = true) (oc : o c = true) (hE : E a c) :
    ∃ o' r' b' i' p' qe' q', bd_draw m (o, r, b, i, p, qe, q) a c = some (o', r', b', i', p', qe', q') ∧ bm_I E m root o' r' b' ∧ bm_Qu o' qe' q' ∧ (∀ v, v < 10 → o v = true → o' v = true) ∧ (∀ v, v < 10 → r v < 10 → r' v < 10) ∧ (∀ u w, u < 10 → w < 10 → b u = b w → b' u = b' w) ∧ b' a = b' c ∧ qe ≤ qe' ∧ ∀ k, k < qe → q' k = q k := by
  obtain ⟨z, P, La, Lc, m1, z1, z2, z3, sa, na, ba, sc, nc, bc, dis⟩ := bm_meet hX hI p ha hc oa oc
  obtain ⟨Ua, As, hA⟩ := hI.side hX z1 z2 z3 ha oa sa na ba
  obtain ⟨Uc, Bs, hB⟩ := hI.side hX z1 z2 z3 hc oc sc nc bc
  have hA0 := hA
  have hB0 := hB
  obtain ⟨A1, A2, ⟨ta, Ta, A3, A4, A5, A6⟩, A7, A8, A9, A10⟩ := hA0
  obtain ⟨B1, B2, ⟨tb, Tb, B3, B4, B5, B6⟩, B7, B8, B9, B10⟩ := hB0
  have zLa : z ∉ La := fun q => (List.nodup_append.mp A10).2.2 z q z (by simp) rfl
  have zLc : z ∉ Lc := fun q => (List.nodup_append.mp B10).2.2 z q z (by simp) rfl
  have AU : ∀ x ∈ As, x ∈ Ua := fun x hx => by rw [A3]; simp [hx]
  have BU : ∀ x ∈ Bs, x ∈ Uc := fun x hx => by rw [B3]; simp [hx]
  have ndA : As.Nodup := by
    have := (List.nodup_append.mp A2.1).1
    rw [A3] at this
    exact (List.nodup_append.mp this).1
  have ndB : Bs.Nodup := by
    have := (List.nodup_append.mp B2.1).1
    rw [B3] at this
    exact (List.nodup_append.mp this).1
  have clA : bm_Cl m As := ⟨ndA, fun x hx y hy => A2.2 x (by simp [AU x hx]) y (by simp [AU y hy])⟩
  have clB : bm_Cl m Bs := ⟨ndB, fun x hx y hy => B2.2 x (by simp [BU x hx]) y (by simp [BU y hy])⟩
  have Aof : ∀ x ∈ As, x < 10 ∧ o x = true ∧ x ≠ root ∧ b x ∈ La := fun x hx => ⟨(A7 x (AU x hx)).1, (A7 x (AU x hx)).2.1, (A7 x (AU x hx)).2.2.1, A8 x hx⟩
  have Bof : ∀ x ∈ Bs, x < 10 ∧ o x = true ∧ x ≠ root ∧ b x ∈ Lc := fun x hx => ⟨(B7 x (BU x hx)).1, (B7 x (BU x hx)).2.1, (B7 x (BU x hx)).2.2.1, B8 x hx⟩
  have bnd : ∀ x, x < 10 → o x = true → x ≠ root → b x < 10 ∧ m x < 10 ∧ b (m x) < 10 ∧ r (m x) < 10 := by
    intro x x1 x2 x3
    obtain ⟨n1, n2, -⟩ := hI.next hX x1 x2 x3
    exact ⟨(hI.2.1 x x1).1, n1, (hI.2.1 _ n1).1, n2⟩
  obtain ⟨i1, w1, w2⟩ := bm_mw (m := m) (b := b) A5 As a c 10 r (bd_fl 10 false i) A4 (fun x hx => ⟨fun e => zLa (e ▸ (Aof x hx).2.2.2), bnd x (Aof x hx).1 (Aof x hx).2.1 (Aof x hx).2.2.1⟩) clA (bm_len10 ndA (fun x hx => (Aof x hx).1))
  have mBA : ∀ x ∈ Bs, m x ∉ As := by
    intro x hx q
    have h1 := Bof x hx
    have h2 := Aof _ q
    have hne : b x ≠ b (m x) := fun e => dis _ h2.2.2.2 (e ▸ h1.2.2.2)
    exact hI.apart hX h1.1 h2.1 h1.2.1 h2.2.1 hne rfl
  have r1B : ∀ x ∈ Bs, bm_rp m As c r (m x) = r (m x) := fun x hx => bm_rp_out (mBA x hx)
  obtain ⟨i2, w3, w4⟩ := bm_mw (m := m) (b := b) B5 Bs c a 10 (bm_rp m As c r) i1 (bm_Sg.congr (fun x hx => (r1B x hx).symm) B4) (fun x hx => by
    rw [r1B x hx]
    exact ⟨fun e => zLc (e ▸ (Bof x hx).2.2.2), bnd x (Bof x hx).1 (Bof x hx).2.1 (Bof x hx).2.2.1⟩) clB (bm_len10 ndB (fun x hx => (Bof x hx).1))
  obtain ⟨b', o', qe', q', d1, d2, d3, d4, d5, d6⟩ := bm_dt (cm := z) (i := i2) z1 10 0 b o qe q rfl hQ (fun v hv => (hI.2.1 v hv).1)
  have ring : ∀ v, v < 10 → (i2 (b v) = true ↔ bm_rg m b o (La ++ Lc) v) := by
    intro v hv
    have hbv := (hI.2.1 v hv)
    rw [w4, w2]
    have f0 : bd_fl 10 false i (b v) = false := by simp [bd_fl, hbv.1]
    have key : ∀ x, x < 10 → o x = true → x ≠ root → (b v = b x ∨ b v = b (m x)) → (o v = true ∧ b v = b x) ∨ (b x = x ∧ v = m x) := by
      intro x x1 x2 x3 h
      have ov : b v = b x → o v = true := by
        intro e
        by_cases c : o v = true
        · exact c
        · have c : o v = false := by simpa using c
          have := hbv.2.1 c
          have h2 := ((hI.2.1 x x1).2.2 x2).1
          rw [← e, this, c] at h2
          cases h2
      rcases h with h | h
      · exact Or.inl ⟨ov h, h⟩
      · by_cases c : b x = x
        · right
          refine ⟨c, ?_⟩
          obtain ⟨k1, k2, k3⟩ := (hI.2.2.2.1 x x1 x2 c).2 x3
          have k4 := (hI.2.1 _ k1).2.1 k2
          rw [k4] at h
          by_cases cv : o v = true
          · have := (hbv.2.2 cv).1
            rw [h, k2] at this
            cases this
          · have cv : o v = false := by simpa using cv
            rw [← h]; exact (hbv.2.1 cv).symm
        · have := (hI.2.2.1 x x1 x2 c).2.2.1
          rw [this] at h
          exact Or.inl ⟨ov h, h⟩
    constructor
    · rintro ((h | ⟨x, hx, h⟩) | ⟨x, hx, h⟩)
      · rw [f0] at h; cases h
      · obtain ⟨x1, x2, x3, x4⟩ := Aof x hx
        rcases key x x1 x2 x3 h with k | k
        · exact Or.inl ⟨k.1, by rw [k.2]; simp [x4]⟩
        · exact Or.inr ⟨x, by rw [k.1] at x4; simp [x4], k.2⟩
      · obtain ⟨x1, x2, x3, x4⟩ := Bof x hx
        rcases key x x1 x2 x3 h with k | k
        · exact Or.inl ⟨k.1, by rw [k.2]; simp [x4]⟩
        · exact Or.inr ⟨x, by rw [k.1] at x4; simp [x4], k.2⟩
    · rintro (⟨h1, h2⟩ | ⟨β, hβ, e⟩)
      · rcases List.mem_append.mp h2 with h | h
        · exact Or.inl (Or.inr ⟨b v, (A9 _ h).1, Or.inl (A9 _ h).2.2.2.1.symm⟩)
        · exact Or.inr ⟨b v, (B9 _ h).1, Or.inl (B9 _ h).2.2.2.1.symm⟩
      · rcases List.mem_append.mp hβ with h | h
        · exact Or.inl (Or.inr ⟨β, (A9 _ h).1, Or.inr (by rw [e])⟩)
        · exact Or.inr ⟨β, (B9 _ h).1, Or.inr (by rw [e])⟩
  have h2 : ∀ v, v < 10 → (bm_rg m b o (La ++ Lc) v → o' v = true ∧ b' v = z) ∧ (¬ bm_rg m b o (La ++ Lc) v → o' v = o v ∧ b' v = b v) := by
    intro v hv
    refine ⟨fun g => ?_, fun g => ?_⟩
    · have hi := (ring v hv).mpr g
      exact ⟨(d4 v hv).mpr (Or.inr ⟨Nat.zero_le _, hi⟩), by rw [d3 v hv, if_pos ⟨Nat.zero_le _, hi⟩]⟩
    · have hi : ¬ i2 (b v) = true := fun q => g ((ring v hv).mp q)
      refine ⟨?_, by rw [d3 v hv, if_neg (fun q => hi q.2)]⟩
      have := d4 v hv
      cases h : o v with
      | true => exact this.mpr (Or.inl h)
      | false =>
        cases h' : o' v with
        | false => rfl
        | true =>
          rcases this.mp h' with k | k
          · rw [h] at k; cases k
          · exact absurd k.2 hi
  have hI' := hI.draw hX z1 z2 z3 ha hc oa oc hE sa sc hA hB dis (o2 := o') (r2 := bm_rp m Bs a (bm_rp m As c r)) (b2 := b') rfl h2
  have bz : ∀ v, v < 10 → b v ∈ (La ++ Lc) ++ [z] → o v = true → b' v = z := by
    intro v hv hm' ov
    by_cases g : bm_rg m b o (La ++ Lc) v
    · exact ((h2 v hv).1 g).2
    · rw [((h2 v hv).2 g).2]
      rcases List.mem_append.mp hm' with q | q
      · exact absurd (Or.inl ⟨ov, q⟩) g
      · simpa using q
  refine ⟨o', _, b', i2, P, qe', q', ?_, hI', d2, fun v hv h => (d4 v hv).mpr (Or.inl h), fun v hv h => ?_, fun u w hu hw e => ?_, ?_, d5, d6⟩
  · unfold bd_draw
    rw [m1]
    simp only [Option.bind_some]
    rw [bd_gd_t z1, w1]
    simp only [Option.bind_some]
    rw [w3]
    simp only [Option.bind_some]
    rw [d1]
    rfl
  · refine bm_rp_lt ha (fun x hx => (bnd x (Bof x hx).1 (Bof x hx).2.1 (Bof x hx).2.2.1).2.1) ?_
    exact bm_rp_lt hc (fun x hx => (bnd x (Aof x hx).1 (Aof x hx).2.1 (Aof x hx).2.2.1).2.1) h
  · rw [d3 u hu, d3 w hw, e]
    simp
  · have h1 := sa.start
    have h3 := sc.start
    rw [bz a ha (by simp only [List.mem_append, List.mem_singleton] at h1 ⊢; grind) oa, bz c hc (by simp only [List.mem_append, List.mem_singleton] at h3 ⊢; grind) oc]
end BMF
end
section
/-! plain law 7: follow, and the whole search -/
/-- the pair (u, w) was looked at: queue places below k, and place k for points below to -/
def bm_Sc (qe : Nat) (q : Nat → Nat) (k to u w : Nat) : Prop := ∃ i, i < qe ∧ q i = u ∧ (i < k ∨ (i = k ∧ w < to))
def bm_J (E : Nat → Nat → Prop) (m : Nat → Nat) (root k to : Nat) (s : bd_SS) : Prop :=
  bm_I E m root s.1 s.2.1 s.2.2.1 ∧ bm_Qu s.1 s.2.2.2.2.2.1 s.2.2.2.2.2.2 ∧
  (∀ u w, u < 10 → w < 10 → bm_Sc s.2.2.2.2.2.1 s.2.2.2.2.2.2 k to u w → E u w → s.1 w = true ∨ s.2.1 w < 10) ∧
  (∀ u w, u < 10 → w < 10 → bm_Sc s.2.2.2.2.2.1 s.2.2.2.2.2.2 k to u w → bm_Sc s.2.2.2.2.2.1 s.2.2.2.2.2.2 k to w u → E u w → s.2.2.1 u = s.2.2.1 w)
section BMS2
variable {E : Nat → Nat → Prop} {m : Nat → Nat} {root : Nat}
theorem bm_J.step (hX : bm_X E m root) {k to qe qe' : Nat} {o o' i i' p p' : Nat → Bool} {r r' b b' q q' : Nat → Nat} (hJ : bm_J E m root k to (o, r, b, i, p, qe, q)) (hk : k < qe) (hI : bm_I E m root o' r' b') (hQ : bm_Qu o' qe' q') (ho : ∀ v, v < 10 → o v = true → o' v = true) (hr : ∀ v, v < 10 → r v < 10 → r' v < 10) (hb : ∀ u w, u < 10 → w < 10 → b u = b w → b' u = b' w) (hqe : qe ≤ qe') (hq : ∀ j, j < qe → q' j = q j) (n1 : E (q k) to → o' to = true ∨ r' to < 10) (n2 : E (q k) to → o' to = true → b' (q k) = b' to) : bm_J E m root k (to + 1) (o', r', b', i', p', qe', q') := by
  obtain ⟨j1, j2, j3, j4⟩ := hJ
  have old : ∀ u w, bm_Sc qe' q' k (to + 1) u w → bm_Sc qe q k to u w ∨ (u = q k ∧ w = to) := by
    rintro u w ⟨j, h1, h2, h3⟩
    have hj : j < qe := by omega
    rw [hq j hj] at h2
    by_cases c : j = k ∧ w = to
    · exact Or.inr ⟨by rw [← h2, c.1], c.2⟩
    · exact Or.inl ⟨j, hj, h2, by omega⟩
  have out : ∀ u w, bm_Sc qe' q' k (to + 1) u w → o' u = true := by
    rintro u w ⟨j, h1, h2, h3⟩
    rw [← h2]; exact (hQ.1 j h1).2
  refine ⟨hI, hQ, fun u w hu hw hS hE => ?_, fun u w hu hw hS1 hS2 hE => ?_⟩
  · rcases old u w hS with h | ⟨h1, h2⟩
    · rcases j3 u w hu hw h hE with z | z
      · exact Or.inl (ho w hw z)
      · exact Or.inr (hr w hw z)
    · subst h1; subst h2
      exact n1 hE
  · show b' u = b' w
    rcases old u w hS1 with h | ⟨h1, h2⟩
    · rcases old w u hS2 with g | ⟨g1, g2⟩
      · exact hb u w hu hw (j4 u w hu hw h g hE)
      · subst g1; subst g2
        exact (n2 (hX.1.1 _ _ hE) (out _ _ hS1)).symm
    · subst h1; subst h2
      exact n2 hE (out _ _ hS2)
/-- the tree grows over a pair -/
theorem bm_I.grow (hX : bm_X E m root) {o o' : Nat → Bool} {r b : Nat → Nat} (hI : bm_I E m root o r b) {fr to : Nat} (hfr : fr < 10) (hto : to < 10) (ofr : o fr = true) (oto : o to = false) (hE : E fr to) (hm : m to < 10) (hr1 : 10 ≤ r to) (hr2 : 10 ≤ r (m to)) (ho' : ∀ v, o' v = true ↔ (o v = true ∨ v = m to)) : bm_I E m root o' (va_up r to fr) b := by
  obtain ⟨hG, hM, hrt, hf⟩ := hX
  have hI0 := hI
  obtain ⟨i1, i2, i3, i4, i5, ⟨rk, i6⟩, i7⟩ := hI
  have hX : bm_X E m root := ⟨hG, hM, hrt, hf⟩
  have hmm := (hM to hto hm).2
  have hne : m to ≠ to := bm_M.ne hG hM hto hm
  have hxr : m to ≠ root := by intro q; rw [q] at hmm; omega
  have ox : o (m to) = false := by
    cases h : o (m to) with
    | false => rfl
    | true =>
      exfalso
      by_cases c : b (m to) = m to
      · have := ((i4 _ hm h c).2 hxr).2.2
        rw [hmm] at this
        omega
      · have := (i3 _ hm h c).2.1
        rw [hmm, oto] at this
        cases this
  have bx := (i2 _ hm).2.1 ox
  have fal : ∀ v, o' v = false ↔ (o v = false ∧ v ≠ m to) := by
    intro v
    have := ho' v
    cases h1 : o' v <;> cases h2 : o v <;> simp_all
  have up1 : ∀ v, v ≠ to → va_up r to fr v = r v := fun v h => by simp [va_up, h]
  have up2 : va_up r to fr to = fr := by simp [va_up]
  have ob : ∀ v, v < 10 → o v = true → b v ≠ m to := by
    intro v hv h q
    have := ((i2 v hv).2.2 h).1
    rw [q, ox] at this
    cases this
  refine ⟨⟨(ho' _).mpr (Or.inl i1.1), i1.2⟩, fun v hv => ⟨(i2 v hv).1, fun h => (i2 v hv).2.1 ((fal v).mp h).1, fun h => ?_⟩, fun v hv h hb => ?_, fun v hv h hb => ?_, fun v hv h hr => ?_, ⟨va_up rk (m to) (rk (b fr) + 1), fun v hv h hb hvr => ?_⟩, fun v hv h => ?_⟩
  · rcases (ho' v).mp h with z | z
    · obtain ⟨k1, k2⟩ := (i2 v hv).2.2 z
      exact ⟨(ho' _).mpr (Or.inl k1), k2⟩
    · rw [z, bx]
      exact ⟨(ho' _).mpr (Or.inr rfl), bx⟩
  · have z : o v = true := by
      rcases (ho' v).mp h with z | z
      · exact z
      · rw [z] at hb; exact absurd bx hb
    obtain ⟨k1, k2, k3, k4, k5, k6, k7⟩ := i3 v hv z hb
    have hvt : v ≠ to := fun q => by rw [q, oto] at z; cases z
    rw [up1 v hvt]
    exact ⟨k1, (ho' _).mpr (Or.inl k2), k3, k4, (ho' _).mpr (Or.inl k5), k6, k7⟩
  · rcases (ho' v).mp h with z | z
    · have hvt : v ≠ to := fun q => by rw [q, oto] at z; cases z
      rw [up1 v hvt]
      obtain ⟨k1, k2⟩ := i4 v hv z hb
      refine ⟨k1, fun hvr => ?_⟩
      obtain ⟨l1, l2, l3⟩ := k2 hvr
      refine ⟨l1, (fal _).mpr ⟨l2, fun q => ?_⟩, ?_⟩
      · exact hvt (hM.inj hv hto l1 q)
      · by_cases c : m v = to
        · rw [c, up2]; exact hfr
        · rw [up1 _ c]; exact l3
    · subst z
      rw [up1 _ hne]
      refine ⟨hr2, fun _ => ?_⟩
      rw [hmm, up2]
      exact ⟨hto, (fal _).mpr ⟨oto, hne.symm⟩, hfr⟩
  · obtain ⟨h1, h2⟩ := (fal v).mp h
    by_cases c : v = to
    · subst c
      rw [up2]
      exact ⟨hm, (ho' _).mpr (Or.inr rfl), bx, (ho' _).mpr (Or.inl ofr), hG.1 _ _ hE⟩
    · rw [up1 v c] at hr ⊢
      obtain ⟨k1, k2, k3, k4, k5⟩ := i5 v hv h1 hr
      exact ⟨k1, (ho' _).mpr (Or.inl k2), k3, (ho' _).mpr (Or.inl k4), k5⟩
  · rcases (ho' v).mp h with z | z
    · have hvx : v ≠ m to := fun q => by rw [q, ox] at z; cases z
      have hmv : m v ≠ to := fun q => hvx (by rw [← q]; exact ((hM v hv (by rw [q]; exact hto)).2).symm)
      rw [up1 _ hmv]
      have := i6 v hv z hb hvr
      have hn := hI0.next hX hv z hvr
      simp only [va_up, if_neg hvx, if_neg (ob _ hn.2.1 hn.2.2.1)]
      exact this
    · subst z
      rw [hmm, up2]
      simp only [va_up, if_neg (ob fr hfr ofr), if_true]
      omega
  · rcases (ho' v).mp h with z | z
    · obtain ⟨L, l1, l2, l3⟩ := i7 v hv z
      refine ⟨L, bm_Sg.congr (fun w hw => ?_) l1, l2, fun w hw => ?_⟩
      · obtain ⟨w1, w2, w3, w4⟩ := l3 w hw
        have : m w ≠ to := fun q => by
          have := (i3 w w1 w2 w4).2.1
          rw [q, oto] at this
          cases this
        rw [up1 _ this]
      · obtain ⟨w1, w2, w3, w4⟩ := l3 w hw
        exact ⟨w1, (ho' _).mpr (Or.inl w2), w3, w4⟩
    · subst z
      rw [bx]
      refine ⟨[], rfl, ⟨by simp, fun x hx y hy => ?_⟩, by simp⟩
      have hx : x = m to := by simpa using hx
      have hy : y = m to := by simpa using hy
      rw [hx, hy, hmm]
      exact hne.symm
/-- a way that ends at a new free point can be turned -/
theorem bm_I.found (hX : bm_X E m root) {o : Nat → Bool} {r b : Nat → Nat} (hI : bm_I E m root o r b) {fr to : Nat} (hfr : fr < 10) (hto : to < 10) (ofr : o fr = true) (oto : o to = false) (hE : E fr to) (hm : 10 ≤ m to) : ∃ L, bm_T E (va_up r to fr) m root to L := by
  obtain ⟨hG, hM, hrt, hf⟩ := hX
  have hX : bm_X E m root := ⟨hG, hM, hrt, hf⟩
  obtain ⟨U, u1, u2, u3⟩ := hI.whole hX hfr ofr
  have nm : ∀ x, x < 10 → m x < 10 → m x ≠ to := by
    intro x hx h q
    have := (hM x hx h).2
    rw [q] at this
    omega
  have up2 : va_up r to fr to = fr := by simp [va_up]
  refine ⟨U, hto, hrt, hf, ?_, by rw [up2]; exact hfr, by rw [up2]; exact hG.1 _ _ hE, ?_, u2, ?_, fun x hx => ?_⟩
  · intro x hx h
    by_cases c : x = to
    · simp only [if_pos c] at h; omega
    · simp only [if_neg c] at h ⊢
      rw [if_neg (nm x hx h)]
      exact hM x hx h
  · rw [up2]
    refine bm_Sg.congr (fun w hw => ?_) u1
    obtain ⟨w1, w2, w3⟩ := u3 w hw
    have := nm w w1 (hI.next hX w1 w2 w3).1
    simp [va_up, this]
  · intro q
    rcases List.mem_append.mp q with q | q
    · rw [(u3 to q).2.1] at oto; cases oto
    · have : to = root := by simpa using q
      rw [this, hI.1.1] at oto; cases oto
  · obtain ⟨w1, w2, w3⟩ := u3 x hx
    obtain ⟨n1, n2, n3, n4, -⟩ := hI.next hX w1 w2 w3
    have := nm x w1 n1
    refine ⟨w1, n1, this, ?_, ?_⟩
    · simp [va_up, this, n2]
    · simp [va_up, this, n4]
/-- follow: it computes -/
theorem bm_followF (hX : bm_X E m root) {k to qe : Nat} {o i p : Nat → Bool} {r b q : Nat → Nat} (hJ : bm_J E m root k to (o, r, b, i, p, qe, q)) (hk : k < qe) (hto : to < 10) (hE : E (q k) to) :
    ∃ e o' r' b' i' p' qe' q', bd_follow m (o, r, b, i, p, qe, q) (q k) to root = some (e, (o', r', b', i', p', qe', q')) ∧
      ((e < 10 ∧ 10 ≤ m e ∧ e ≠ root ∧ ∃ L, bm_T E r' m root e L) ∨ (e = 10 ∧ bm_J E m root k (to + 1) (o', r', b', i', p', qe', q') ∧ k < qe' ∧ q' k = q k)) := by
  have hJ0 := hJ
  obtain ⟨hI, hQ, -, -⟩ := hJ0
  have hI : bm_I E m root o r b := hI
  have hQ : bm_Qu o qe q := hQ
  obtain ⟨hfr, ofr⟩ := hQ.1 k hk
  obtain ⟨hG, hM, hrt, hf⟩ := hX
  have hX : bm_X E m root := ⟨hG, hM, hrt, hf⟩
  have hI0 := hI
  obtain ⟨i1, i2, i3, i4, i5, i6, i7⟩ := hI0
  unfold bd_follow
  simp only
  rw [bd_gd_t ⟨(i2 _ hfr).1, (i2 _ hto).1⟩]
  by_cases c1 : b (q k) = b to ∨ m (q k) = to
  · rw [if_pos c1]
    refine ⟨10, o, r, b, i, p, qe, q, rfl, Or.inr ⟨rfl, hJ.step hX hk hI hQ (fun _ _ h => h) (fun _ _ h => h) (fun _ _ _ _ h => h) (Nat.le_refl _) (fun _ _ => rfl) (fun _ => ?_) (fun _ h => ?_), hk, rfl⟩⟩
    · rcases c1 with c | c
      · left
        cases h : o to with
        | true => rfl
        | false =>
          have h1 := (i2 _ hto).2.1 h
          have h2 := ((i2 _ hfr).2.2 ofr).1
          rw [c, h1, h] at h2
          exact h2
      · have hr : q k ≠ root := fun z => by rw [z] at c; omega
        by_cases cb : b (q k) = q k
        · have := ((i4 _ hfr ofr cb).2 hr)
          rw [c] at this
          exact Or.inr this.2.2
        · have := (i3 _ hfr ofr cb).2.1
          rw [c] at this
          exact Or.inl this
    · rcases c1 with c | c
      · exact c
      · have hr : q k ≠ root := fun z => by rw [z] at c; omega
        by_cases cb : b (q k) = q k
        · have := ((i4 _ hfr ofr cb).2 hr).2.1
          rw [c, h] at this
          cases this
        · have := (i3 _ hfr ofr cb).2.2.1
          rw [c] at this
          exact this.symm
  rw [if_neg c1]
  by_cases c2 : to = root ∨ (m to < 10 ∧ r (m to) < 10)
  · rw [if_pos c2]
    have oto : o to = true := by
      rcases c2 with c | ⟨ca, cb⟩
      · rw [c]; exact i1.1
      · have hmm := (hM to hto ca).2
        cases h : o (m to) with
        | false =>
          have := (i5 _ ca h cb).2.1
          rw [hmm] at this
          exact this
        | true =>
          by_cases cc : b (m to) = m to
          · have := (i4 _ ca h cc).1
            omega
          · have := (i3 _ ca h cc).2.1
            rw [hmm] at this
            exact this
    obtain ⟨o', r', b', i', p', qe', q', d1, d2, d3, d4, d5, d6, d7, d8, d9⟩ := bm_drawF hX hI (i := i) (p := p) hQ hfr hto ofr oto hE
    refine ⟨10, o', r', b', i', p', qe', q', by rw [d1]; rfl, Or.inr ⟨rfl, hJ.step hX hk d2 d3 d4 d5 d6 d8 d9 (fun _ => Or.inl (d4 to hto oto)) (fun _ _ => d7), by omega, d9 k hk⟩⟩
  rw [if_neg c2]
  have oto : o to = false := by
    cases h : o to with
    | false => rfl
    | true =>
      exfalso
      by_cases c : to = root
      · exact c2 (Or.inl c)
      · have := hI.next hX hto h c
        exact c2 (Or.inr ⟨this.1, this.2.1⟩)
  by_cases c3 : r to < 10
  · rw [if_pos c3]
    refine ⟨10, o, r, b, i, p, qe, q, rfl, Or.inr ⟨rfl, hJ.step hX hk hI hQ (fun _ _ h => h) (fun _ _ h => h) (fun _ _ _ _ h => h) (Nat.le_refl _) (fun _ _ => rfl) (fun _ => Or.inr c3) (fun _ h => ?_), hk, rfl⟩⟩
    rw [oto] at h
    cases h
  rw [if_neg c3]
  by_cases c4 : m to < 10
  · rw [if_pos c4]
    obtain ⟨o', qe', q', m1, m2, m3, m4, m5⟩ := bm_mo hQ c4
    have hr2 : 10 ≤ r (m to) := Nat.not_lt.mp (fun h => c2 (Or.inr ⟨c4, h⟩))
    have hg := hI.grow hX hfr hto ofr oto hE c4 (Nat.not_lt.mp c3) hr2 m3
    refine ⟨10, o', va_up r to (q k), b, i, p, qe', q', by rw [m1]; rfl, Or.inr ⟨rfl, hJ.step hX hk hg m2 (fun v _ h => (m3 v).mpr (Or.inl h)) (fun v _ h => ?_) (fun _ _ _ _ h => h) m4 m5 (fun _ => Or.inr (by simp [va_up, hfr])) (fun _ h => ?_), by omega, m5 k hk⟩⟩
    · unfold va_up
      split
      · exact hfr
      · exact h
    · rcases (m3 to).mp h with z | z
      · rw [oto] at z; cases z
      · exact absurd z.symm (bm_M.ne hG hM hto c4)
  · rw [if_neg c4]
    refine ⟨to, o, va_up r to (q k), b, i, p, qe, q, rfl, Or.inl ⟨hto, Nat.not_lt.mp c4, fun z => c2 (Or.inl z), hI.found hX hfr hto ofr oto hE (Nat.not_lt.mp c4)⟩⟩
end BMS2
/-- lines between points that are there -/
def bm_E (J : Nat → Nat → Bool) (ab : Nat → Bool) (u w : Nat) : Prop := u < 10 ∧ w < 10 ∧ J u w = true ∧ ab u = false ∧ ab w = false
/-- J is a graph -/
def bm_gr (J : Nat → Nat → Bool) : Prop := (∀ u w, u < 10 → w < 10 → J u w = J w u) ∧ ∀ u, u < 10 → J u u = false
theorem bm_gr.G {J : Nat → Nat → Bool} (h : bm_gr J) (ab : Nat → Bool) : bm_G (bm_E J ab) :=
  ⟨fun u w ⟨a, b, c, d, e⟩ => ⟨b, a, by rw [h.1 w u b a]; exact c, e, d⟩, fun u ⟨a, _, c, _⟩ => (by rw [h.2 u a] at c; cases c), fun u w ⟨a, b, _⟩ => ⟨a, b⟩⟩
section BMS3
variable {J : Nat → Nat → Bool} {ab : Nat → Bool} {m : Nat → Nat} {root : Nat}
theorem bm_I.there (hX : bm_X (bm_E J ab) m root) (hroot : ab root = false) {o : Nat → Bool} {r b : Nat → Nat} (hI : bm_I (bm_E J ab) m root o r b) {v : Nat} (hv : v < 10) (ho : o v = true) : ab v = false := by
  by_cases c : v = root
  · rw [c]; exact hroot
  · have := hI.next hX hv ho c
    exact (hX.2.1 v hv this.1).1.2.2.2.1
theorem bm_s2F (hX : bm_X (bm_E J ab) m root) (hroot : ab root = false) {k : Nat} : ∀ (n to qe : Nat) (o i p : Nat → Bool) (r b q : Nat → Nat), to + n = 10 → bm_J (bm_E J ab) m root k to (o, r, b, i, p, qe, q) → k < qe →
    ∃ e o' r' b' i' p' qe' q', bd_s2 J ab m root k n to (o, r, b, i, p, qe, q) = some (e, (o', r', b', i', p', qe', q')) ∧
      ((e < 10 ∧ 10 ≤ m e ∧ e ≠ root ∧ ∃ L, bm_T (bm_E J ab) r' m root e L) ∨ (e = 10 ∧ bm_J (bm_E J ab) m root k 10 (o', r', b', i', p', qe', q') ∧ k < qe' ∧ q' k = q k)) := by
  intro n
  induction n with
  | zero =>
    intro to qe o i p r b q ht hJ hk
    have : to = 10 := by omega
    subst this
    exact ⟨10, o, r, b, i, p, qe, q, rfl, Or.inr ⟨rfl, hJ, hk, rfl⟩⟩
  | succ n ih =>
    intro to qe o i p r b q ht hJ hk
    have hto : to < 10 := by omega
    obtain ⟨hfr, ofr⟩ := hJ.2.1.1 k hk
    have hfr : q k < 10 := hfr
    have hthere : ab (q k) = false := bm_I.there hX hroot hJ.1 hfr ofr
    unfold bd_s2
    simp only
    rw [bd_gd_t hfr]
    by_cases c : J (q k) to = true ∧ ab to = false
    · rw [if_pos c]
      obtain ⟨e, o', r', b', i', p', qe', q', f1, f2⟩ := bm_followF hX hJ hk hto ⟨hfr, hto, c.1, hthere, c.2⟩
      rw [f1]
      simp only [Option.bind_some]
      rcases f2 with f2 | ⟨f2, f3, f4, f5⟩
      · rw [if_pos f2.1]
        exact ⟨e, o', r', b', i', p', qe', q', rfl, Or.inl f2⟩
      · rw [if_neg (by omega)]
        obtain ⟨e', o2, r2, b2, i2, p2, qe2, q2, g1, g2⟩ := ih (to + 1) qe' o' i' p' r' b' q' (by omega) f3 f4
        refine ⟨e', o2, r2, b2, i2, p2, qe2, q2, g1, ?_⟩
        rcases g2 with g2 | ⟨g2, g3, g4, g5⟩
        · exact Or.inl g2
        · exact Or.inr ⟨g2, g3, g4, by rw [g5, f5]⟩
    · rw [if_neg c]
      have hn : ¬ bm_E J ab (q k) to := fun h => c ⟨h.2.2.1, h.2.2.2.2⟩
      exact ih (to + 1) qe o i p r b q (by omega) (hJ.step hX hk hJ.1 hJ.2.1 (fun _ _ h => h) (fun _ _ h => h) (fun _ _ _ _ h => h) (Nat.le_refl _) (fun _ _ => rfl) (fun h => absurd h hn) (fun h => absurd h hn)) hk
theorem bm_s1F (hX : bm_X (bm_E J ab) m root) (hroot : ab root = false) : ∀ (n k qe : Nat) (o i p : Nat → Bool) (r b q : Nat → Nat), k + n = 10 → bm_J (bm_E J ab) m root k 0 (o, r, b, i, p, qe, q) →
    ∃ e o' r' b' i' p' qe' q', bd_s1 J ab m root n k (o, r, b, i, p, qe, q) = some (e, (o', r', b', i', p', qe', q')) ∧
      ((e < 10 ∧ 10 ≤ m e ∧ e ≠ root ∧ ∃ L, bm_T (bm_E J ab) r' m root e L) ∨ (e = 10 ∧ bm_J (bm_E J ab) m root 10 0 (o', r', b', i', p', qe', q'))) := by
  have all : ∀ {k qe : Nat} {o i p : Nat → Bool} {r b q : Nat → Nat}, bm_J (bm_E J ab) m root k 0 (o, r, b, i, p, qe, q) → qe ≤ k → bm_J (bm_E J ab) m root 10 0 (o, r, b, i, p, qe, q) := by
    intro k qe o i p r b q hJ hk
    have hsc : ∀ u w, bm_Sc qe q 10 0 u w → bm_Sc qe q k 0 u w := by
      rintro u w ⟨j, h1, h2, h3⟩
      exact ⟨j, h1, h2, Or.inl (by omega)⟩
    exact ⟨hJ.1, hJ.2.1, fun u w hu hw h => hJ.2.2.1 u w hu hw (hsc u w h), fun u w hu hw h1 h2 => hJ.2.2.2 u w hu hw (hsc u w h1) (hsc w u h2)⟩
  intro n
  induction n with
  | zero =>
    intro k qe o i p r b q hk hJ
    have h10 : qe ≤ 10 := bm_Qu.le hJ.2.1
    exact ⟨10, o, r, b, i, p, qe, q, rfl, Or.inr ⟨rfl, all hJ (by omega)⟩⟩
  | succ n ih =>
    intro k qe o i p r b q hk hJ
    unfold bd_s1
    simp only
    rw [bd_gd_t (bm_Qu.le hJ.2.1)]
    by_cases c : k < qe
    · rw [if_pos c]
      obtain ⟨e, o', r', b', i', p', qe', q', f1, f2⟩ := bm_s2F hX hroot 10 0 qe o i p r b q rfl hJ c
      rw [f1]
      simp only [Option.bind_some]
      rcases f2 with f2 | ⟨f2, f3, f4, f5⟩
      · rw [if_pos f2.1]
        exact ⟨e, o', r', b', i', p', qe', q', rfl, Or.inl f2⟩
      · rw [if_neg (by omega)]
        refine ih (k + 1) qe' o' i' p' r' b' q' (by omega) ?_
        have hsc : ∀ u w, w < 10 → bm_Sc qe' q' (k + 1) 0 u w → bm_Sc qe' q' k 10 u w := by
          rintro u w hw ⟨j, h1, h2, h3⟩
          exact ⟨j, h1, h2, by omega⟩
        exact ⟨f3.1, f3.2.1, fun u w hu hw h => f3.2.2.1 u w hu hw (hsc u w hw h), fun u w hu hw h1 h2 => f3.2.2.2 u w hu hw (hsc u w hw h1) (hsc w u hu h2)⟩
    · rw [if_neg c]
      exact ⟨10, o, r, b, i, p, qe, q, rfl, Or.inr ⟨rfl, all hJ (by omega)⟩⟩
/-- the search computes: a way to turn, or a certificate -/
theorem bm_searchF (hX : bm_X (bm_E J ab) m root) (hroot : ab root = false) (s : bd_SS) : ∃ e o' r' b' i' p' qe' q', bd_search J ab m s root = some (e, (o', r', b', i', p', qe', q')) ∧
      ((e < 10 ∧ 10 ≤ m e ∧ e ≠ root ∧ ∃ L, bm_T (bm_E J ab) r' m root e L) ∨ (e = 10 ∧ bm_I (bm_E J ab) m root o' r' b' ∧ bm_C (bm_E J ab) m root (fun v => v < 10 ∧ o' v = true) (fun v => v < 10 ∧ o' v = false ∧ r' v < 10) b')) := by
  obtain ⟨o, r, b, i, p, qe, q⟩ := s
  obtain ⟨hG, hM, hrt, hf⟩ := hX
  have hX : bm_X (bm_E J ab) m root := ⟨hG, hM, hrt, hf⟩
  have hQ0 : bm_Qu (bd_fl 10 false o) 0 q := ⟨fun i hi => absurd hi (Nat.not_lt_zero i), fun i j hi => absurd hi (Nat.not_lt_zero i), fun v hv h => by simp [bd_fl, hv] at h⟩
  obtain ⟨o1, qe1, q1, m1, m2, m3, m4, m5⟩ := bm_mo hQ0 hrt
  have o1t : ∀ v, v < 10 → (o1 v = true ↔ v = root) := by
    intro v hv
    rw [m3 v]
    simp [bd_fl, hv]
  have o1f : ∀ v, v < 10 → o1 v = true → v = root := fun v hv h => (o1t v hv).mp h
  have b1 : ∀ v, v < 10 → bd_idn 10 b v = v := fun v hv => by simp [bd_idn, hv]
  have r1 : ∀ v, v < 10 → bd_fl 10 10 r v = 10 := fun v hv => by simp [bd_fl, hv]
  have hI : bm_I (bm_E J ab) m root o1 (bd_fl 10 10 r) (bd_idn 10 b) := by
    refine ⟨⟨(o1t root hrt).mpr rfl, b1 root hrt⟩, fun v hv => ?_, fun v hv ho hb => absurd (b1 v hv) hb, fun v hv ho hb => ?_, fun v hv ho hr => ?_, ⟨fun _ => 0, fun v hv ho hb hr => absurd (o1f v hv ho) hr⟩, fun v hv ho => ?_⟩
    · rw [b1 v hv]
      exact ⟨hv, fun _ => rfl, fun h => ⟨h, b1 v hv⟩⟩
    · rw [r1 v hv]
      exact ⟨Nat.le_refl _, fun h => absurd (o1f v hv ho) h⟩
    · rw [r1 v hv] at hr; omega
    · rw [b1 v hv]
      refine ⟨[], rfl, ⟨by simp, fun x hx y hy => ?_⟩, by simp⟩
      have hx : x = v := by simpa using hx
      have hy : y = v := by simpa using hy
      rw [hx, hy, o1f v hv ho]
      omega
  have hJ : bm_J (bm_E J ab) m root 0 0 (o1, bd_fl 10 10 r, bd_idn 10 b, i, p, qe1, q1) := by
    refine ⟨hI, m2, fun u w hu hw h => ?_, fun u w hu hw h => ?_⟩
    · obtain ⟨j, h1, h2, h3⟩ := h; omega
    · obtain ⟨j, h1, h2, h3⟩ := h; omega
  obtain ⟨e, o', r', b', i', p', qe', q', f1, f2⟩ := bm_s1F hX hroot 10 0 qe1 o1 i p _ _ q1 rfl hJ
  refine ⟨e, o', r', b', i', p', qe', q', ?_, ?_⟩
  · unfold bd_search
    simp only
    rw [m1]
    exact f1
  · rcases f2 with f2 | ⟨f2, f3⟩
    · exact Or.inl f2
    · refine Or.inr ⟨f2, f3.1, ?_⟩
      obtain ⟨hI', hQ', h3, h4⟩ := f3
      have hI' : bm_I (bm_E J ab) m root o' r' b' := hI'
      have hQ' : bm_Qu o' qe' q' := hQ'
      have h10 := hQ'.le
      have sc : ∀ u w, u < 10 → o' u = true → bm_Sc qe' q' 10 0 u w := by
        intro u w hu ho
        obtain ⟨j, j1, j2⟩ := hQ'.2.2 u hu ho
        exact ⟨j, j1, j2, Or.inl (by omega)⟩
      have hI0 := hI'
      obtain ⟨i1, i2, i3, i4, i5, i6, i7⟩ := hI0
      refine ⟨⟨hrt, i1.1⟩, i1.2, ?_, ?_, ?_, ?_, ?_⟩
      · rintro u w ⟨hu, ou⟩ hE
        have hw := hE.2.1
        cases h : o' w with
        | true => exact Or.inr ⟨⟨hw, h⟩, (h4 u w hu hw (sc u w hu ou) (sc w u hw h) hE).symm⟩
        | false =>
          left
          rcases h3 u w hu hw (sc u w hu ou) hE with z | z
          · have z : o' w = true := z
            rw [h] at z; cases z
          · exact ⟨hw, h, z⟩
      · rintro x hx ⟨-, h1, h2⟩
        obtain ⟨k1, k2, k3, -⟩ := i5 x hx h1 h2
        exact ⟨k1, ⟨k1, k2⟩, k3⟩
      · rintro x hx ⟨-, h1⟩ hb
        obtain ⟨k1, k2, k3, -⟩ := i3 x hx h1 hb
        exact ⟨k1, ⟨k1, k2⟩, k3⟩
      · rintro x hx ⟨-, h1⟩ hb hr
        obtain ⟨k1, k2, k3⟩ := (i4 x hx h1 hb).2 hr
        exact ⟨k1, k1, k2, k3⟩
      · rintro x ⟨-, h1, -⟩ ⟨-, h2⟩
        rw [h1] at h2
        cases h2
end BMS3
end
section
/-! plain law 8: pairWithout and spares as computed -/
/-- c lines are the most -/
def bm_best (E : Nat → Nat → Prop) (c : Nat) : Prop := (∃ m, bm_M E m ∧ 2 * c + (bm_free m).length = 10) ∧ ∀ n, bm_M E n → 10 ≤ 2 * c + (bm_free n).length
theorem bm_best.eq {E : Nat → Nat → Prop} {c d : Nat} (h : bm_best E c) (g : bm_best E d) : c = d := by
  obtain ⟨⟨m, h1, h2⟩, h3⟩ := h
  obtain ⟨⟨n, g1, g2⟩, g3⟩ := g
  have := h3 n g1
  have := g3 m h1
  omega
theorem bm_best.congr {E E' : Nat → Nat → Prop} {c : Nat} (h : bm_best E c) (e : ∀ u w, E u w ↔ E' u w) : bm_best E' c := by
  have : E = E' := by funext u w; exact propext (e u w)
  rw [← this]; exact h
/-- a turned way: two free points fewer -/
theorem bm_turned_free {m m' : Nat → Nat} {e root : Nat} (he : e < 10) (hr : root < 10) (hne : e ≠ root) (fe : 10 ≤ m e) (fr : 10 ≤ m root) (he' : m' e < 10) (h : ∀ x, x < 10 → x ≠ e → (m' x < 10 ↔ (m x < 10 ∨ x = root))) : (bm_free m).length = (bm_free m').length + 2 := by
  have hroot : m' root < 10 := (h root hr (Ne.symm hne)).mpr (Or.inr rfl)
  have h1 : (e :: root :: bm_free m').Nodup := by
    rw [List.nodup_cons, List.nodup_cons]
    refine ⟨fun q => ?_, fun q => ?_, bm_free_nodup m'⟩
    · rcases List.mem_cons.mp q with q | q
      · exact hne q
      · have := (bm_free_mem.mp q).2; omega
    · have := (bm_free_mem.mp q).2; omega
  have a := bm_len _ (bm_free m) h1 (fun x hx => by
    rcases List.mem_cons.mp hx with rfl | hx
    · exact bm_free_mem.mpr ⟨he, fe⟩
    · rcases List.mem_cons.mp hx with rfl | hx
      · exact bm_free_mem.mpr ⟨hr, fr⟩
      · obtain ⟨q1, q2⟩ := bm_free_mem.mp hx
        refine bm_free_mem.mpr ⟨q1, ?_⟩
        have hxe : x ≠ e := fun z => by rw [z] at q2; omega
        have := h x q1 hxe
        omega)
  have b := bm_len (bm_free m) (e :: root :: bm_free m') (bm_free_nodup m) (fun x hx => by
    obtain ⟨q1, q2⟩ := bm_free_mem.mp hx
    by_cases c1 : x = e
    · simp [c1]
    · by_cases c2 : x = root
      · simp [c2]
      · refine List.mem_cons_of_mem _ (List.mem_cons_of_mem _ (bm_free_mem.mpr ⟨q1, ?_⟩))
        have := h x q1 c1
        omega)
  simp at a b
  omega
section BMP
variable {J : Nat → Nat → Bool} {ab : Nat → Bool}
theorem bm_T.len {E : Nat → Nat → Prop} {r m : Nat → Nat} {root v : Nat} {L : List Nat} (h : bm_T E r m root v L) : L.length < 10 := by
  obtain ⟨hv, hro, hf, hM, hr, hE, hS, hC, hvL, hx⟩ := h
  have h1 : (v :: L).Nodup := List.nodup_cons.mpr ⟨fun q => hvL (by simp [q]), (List.nodup_append.mp hC.1).1⟩
  have := bm_len10 h1 (fun x hx' => by
    rcases List.mem_cons.mp hx' with rfl | q
    · exact hv
    · exact (hx x q).1)
  simp at this
  omega
theorem bm_pwF (hg : bm_gr J) : ∀ (n p c : Nat) (m : Nat → Nat) (s : bd_SS), p + n = 10 → bm_M (bm_E J ab) m → 2 * c + (bm_free m).length = 10 → (∀ p', p' < p → 10 ≤ m p' → ab p' = false → ∃ (o t : Nat → Prop) (b : Nat → Nat), bm_C (bm_E J ab) m p' o t b) →
    ∃ c' m' s', bd_pw J ab n p c m s = some (c', m', s') ∧ bm_M (bm_E J ab) m' ∧ 2 * c' + (bm_free m').length = 10 ∧ ∀ p', p' < 10 → 10 ≤ m' p' → ab p' = false → ∃ (o t : Nat → Prop) (b : Nat → Nat), bm_C (bm_E J ab) m' p' o t b := by
  intro n
  induction n with
  | zero =>
    intro p c m s hp hM hc hK
    have : p = 10 := by omega
    subst this
    exact ⟨c, m, s, rfl, hM, hc, hK⟩
  | succ n ih =>
    intro p c m s hp hM hc hK
    have hp10 : p < 10 := by omega
    have hG := hg.G ab
    unfold bd_pw
    by_cases c1 : ¬ m p < 10 ∧ ab p = false
    · rw [if_pos c1]
      have fp : 10 ≤ m p := Nat.not_lt.mp c1.1
      have hX : bm_X (bm_E J ab) m p := ⟨hG, hM, hp10, fp⟩
      obtain ⟨e, o', r', b', i', p', qe', q', f1, f2⟩ := bm_searchF hX c1.2 s
      rw [f1]
      simp only [Option.bind_some]
      rcases f2 with ⟨e1, e2, e3, L, hT⟩ | ⟨e1, hI, hC⟩
      · rw [if_pos e1]
        obtain ⟨m', t1, t2, t3, t4, t5⟩ := bm_turn hG L e m 10 hT hT.len
        rw [t1]
        simp only [Option.bind_some]
        have hfr := bm_turned_free e1 hp10 e3 e2 fp t3 t4
        refine ih (p + 1) (c + 1) m' _ (by omega) t2 (by omega) (fun p1 hp1 f1' a1 => ?_)
        have hpe : p1 ≠ e := fun q => by rw [q] at f1'; omega
        have hp1' : p1 < 10 := by omega
        have h4 := t4 p1 hp1' hpe
        have hpp : p1 ≠ p := fun q => by
          have := h4.mpr (Or.inr q)
          omega
        obtain ⟨o, t, b, hC1⟩ := hK p1 (by omega) (by omega) a1
        exact ⟨o, t, b, hC1.turned hG hM (by omega) (Ne.symm hpp) e2 hT t5⟩
      · rw [if_neg (by omega)]
        refine ih (p + 1) c m _ (by omega) hM hc (fun p1 hp1 f1' a1 => ?_)
        by_cases q : p1 = p
        · rw [q]; exact ⟨_, _, _, hC⟩
        · exact hK p1 (by omega) f1' a1
    · rw [if_neg c1]
      refine ih (p + 1) c m s (by omega) hM hc (fun p1 hp1 f1' a1 => ?_)
      by_cases q : p1 = p
      · rw [q] at f1' a1
        exact absurd ⟨Nat.not_lt.mpr f1', a1⟩ c1
      · exact hK p1 (by omega) f1' a1
/-- pairWithout: a largest pairing of the points that are there -/
theorem bm_pairWithoutF (hg : bm_gr J) (m : Nat → Nat) (s : bd_SS) : ∃ c' m' s', bd_pairWithout J ab m s = some (c', m', s') ∧ bm_M (bm_E J ab) m' ∧ 2 * c' + (bm_free m').length = 10 ∧ bm_best (bm_E J ab) c' ∧ ∀ p', p' < 10 → 10 ≤ m' p' → ab p' = false → ∃ (o t : Nat → Prop) (b : Nat → Nat), bm_C (bm_E J ab) m' p' o t b := by
  have h0 : ∀ v, v < 10 → bd_fl 10 10 m v = 10 := fun v hv => by simp [bd_fl, hv]
  obtain ⟨c', m', s', f1, f2, f3, f4⟩ := bm_pwF (ab := ab) hg 10 0 0 (bd_fl 10 10 m) s rfl (fun v hv h => by rw [h0 v hv] at h; omega) (by
    have : bm_free (bd_fl 10 10 m) = List.range 10 := by
      unfold bm_free
      rw [List.filter_eq_self]
      intro v hv
      simp [h0 v (List.mem_range.mp hv)]
    rw [this]; simp) (fun p' h => absurd h (Nat.not_lt_zero _))
  refine ⟨c', m', s', f1, f2, f3, ⟨⟨m', f2, f3⟩, fun n hn => ?_⟩, f4⟩
  have := bm_opt (hg.G ab) f2 hn (fun p hp fp ⟨w, hw⟩ => f4 p hp fp hw.2.2.2.1)
  omega
/-- an outer point can be left over -/
theorem bm_I.spare {m : Nat → Nat} {root : Nat} (hX : bm_X (bm_E J ab) m root) {o : Nat → Bool} {r b : Nat → Nat} (hI : bm_I (bm_E J ab) m root o r b) {v : Nat} (hv : v < 10) (ov : o v = true) : ∃ n, bm_M (bm_E J ab) n ∧ (bm_free n).length ≤ (bm_free m).length ∧ 10 ≤ n v := by
  obtain ⟨hG, hM, hrt, hf⟩ := hX
  have hX : bm_X (bm_E J ab) m root := ⟨hG, hM, hrt, hf⟩
  by_cases c : v = root
  · exact ⟨m, hM, Nat.le_refl _, by rw [c]; exact hf⟩
  obtain ⟨U, u1, u2, u3⟩ := hI.whole hX hv ov
  cases U with
  | nil => exact absurd u1 c
  | cons x L =>
    obtain ⟨rfl, u1⟩ := u1
    obtain ⟨n1, n2, n3, n4, -⟩ := hI.next hX hv ov c
    have hmm := (hM v hv n1).2
    have hne := bm_M.ne hG hM hv n1
    have hmr : m v ≠ root := fun q => by rw [q] at hmm; omega
    obtain ⟨nd1, nd2⟩ := List.nodup_cons.mp u2.1
    have mvL : m v ∉ L ++ [root] := fun q => u2.2 v List.mem_cons_self _ (List.mem_cons_of_mem _ q) rfl
    have same : ∀ w ∈ L ++ [root], (if w = v ∨ w = m v then 10 else m w) = m w := by
      intro w hw
      have h1 : w ≠ v := fun q => nd1 (q ▸ hw)
      have h2 : w ≠ m v := fun q => mvL (q ▸ hw)
      rw [if_neg (by simp [h1, h2])]
    have hT : bm_T (bm_E J ab) r (fun x => if x = v ∨ x = m v then 10 else m x) root (m v) L := by
      refine ⟨n1, hrt, ?_, ?_, n2, n4, ?_, u2.tail.congr (fun w hw => (same w hw).symm), mvL, fun w hw => ?_⟩
      · show 10 ≤ (if root = v ∨ root = m v then 10 else m root)
        rw [same root (by simp)]; exact hf
      · intro x hx h
        by_cases c1 : x = m v
        · simp only [if_pos c1] at h; omega
        · simp only [if_neg c1] at h ⊢
          by_cases c2 : x = v
          · rw [if_pos (Or.inl c2)] at h; omega
          · have c3 : ¬ (x = v ∨ x = m v) := by simp [c1, c2]
            rw [if_neg c3] at h ⊢
            obtain ⟨k1, k2⟩ := hM x hx h
            have c4 : m x ≠ v := fun q => c1 (by rw [← k2, q])
            have c5 : m x ≠ m v := fun q => c2 (hM.inj hx hv h q)
            rw [if_neg c5, if_neg (by simp [c4, c5])]
            exact ⟨k1, k2⟩
      · refine bm_Sg.congr (fun w hw => ?_) u1
        show r (m w) = r (if w = v ∨ w = m v then 10 else m w)
        rw [same w (by simp [hw])]
      · obtain ⟨w1, w2, w3⟩ := u3 w (List.mem_cons_of_mem _ hw)
        obtain ⟨k1, k2, k3, k4, -⟩ := hI.next hX w1 w2 w3
        have e := same w (by simp [hw])
        have hwv : w ≠ v := fun q => nd1 (by rw [← q]; simp [hw])
        show w < 10 ∧ (if w = v ∨ w = m v then 10 else m w) < 10 ∧ (if w = v ∨ w = m v then 10 else m w) ≠ m v ∧ r (if w = v ∨ w = m v then 10 else m w) < 10 ∧ bm_E J ab (if w = v ∨ w = m v then 10 else m w) (r (if w = v ∨ w = m v then 10 else m w))
        rw [e]
        exact ⟨w1, k1, fun q => hwv (hM.inj w1 hv k1 q), k2, k4⟩
    obtain ⟨n, t1, t2, t3, t4, -⟩ := bm_turn hG L (m v) _ 10 hT hT.len
    have nv : 10 ≤ n v := by
      have := t4 v hv (Ne.symm hne)
      simp [c] at this
      omega
    refine ⟨n, t2, ?_, nv⟩
    have h1 := bm_len (bm_free n) (v :: (bm_free m).erase root) (bm_free_nodup n) (fun x hx => by
      obtain ⟨q1, q2⟩ := bm_free_mem.mp hx
      by_cases c1 : x = v
      · simp [c1]
      · refine List.mem_cons_of_mem _ ?_
        have hxm : x ≠ m v := fun q => by rw [q] at q2; omega
        have h5 := t4 x q1 hxm
        have hxr : x ≠ root := fun q => by
          have := h5.mpr (Or.inr q)
          omega
        refine (List.mem_erase_of_ne hxr).mpr (bm_free_mem.mpr ⟨q1, ?_⟩)
        simp only [c1, hxm, or_self, if_false] at h5
        omega)
    have hrf : root ∈ bm_free m := bm_free_mem.mpr ⟨hrt, hf⟩
    rw [List.length_cons, List.length_erase_of_mem hrf] at h1
    have := List.length_pos_of_mem hrf
    omega
/-- v can be left over by a pairing as large as m -/
def bm_miss1 (E : Nat → Nat → Prop) (m : Nat → Nat) (v : Nat) : Prop := ∃ n, bm_M E n ∧ (bm_free n).length ≤ (bm_free m).length ∧ 10 ≤ n v
theorem bm_spF (hg : bm_gr J) {m : Nat → Nat} (hab : ∀ v, ab v = false) (hM : bm_M (bm_E J ab) m) (hopt : ∀ n, bm_M (bm_E J ab) n → (bm_free m).length ≤ (bm_free n).length) : ∀ (n p : Nat) (S : Nat → Bool) (s : bd_SS), p + n = 10 → ∃ S' s', bd_sp J ab m n p S s = some (S', s') ∧ (∀ v, v < 10 → S' v = true → S v = true ∨ bm_miss1 (bm_E J ab) m v) ∧ (∀ v, S v = true → S' v = true) ∧ ∀ p', p ≤ p' → p' < 10 → 10 ≤ m p' → ∃ (o t : Nat → Prop) (b : Nat → Nat), bm_C (bm_E J ab) m p' o t b ∧ ∀ v, o v → v < 10 ∧ S' v = true := by
  intro n
  induction n with
  | zero =>
    intro p S s hp
    exact ⟨S, s, rfl, fun v _ h => Or.inl h, fun _ h => h, fun p' h1 h2 => by omega⟩
  | succ n ih =>
    intro p S s hp
    have hp10 : p < 10 := by omega
    have hG := hg.G ab
    unfold bd_sp
    by_cases c1 : m p < 10
    · rw [if_pos c1]
      obtain ⟨S', s', f1, f2, f3, f4⟩ := ih (p + 1) S s (by omega)
      refine ⟨S', s', f1, f2, f3, fun p' h1 h2 h3 => f4 p' ?_ h2 h3⟩
      by_cases q : p' = p
      · rw [q] at h3; omega
      · omega
    · rw [if_neg c1]
      have fp : 10 ≤ m p := Nat.not_lt.mp c1
      have hX : bm_X (bm_E J ab) m p := ⟨hG, hM, hp10, fp⟩
      obtain ⟨e, o', r', b', i', p', qe', q', f1, f2⟩ := bm_searchF hX (hab p) s
      rw [f1]
      simp only [Option.bind_some]
      rcases f2 with ⟨e1, e2, e3, L, hT⟩ | ⟨e1, hI, hC⟩
      · exfalso
        obtain ⟨m', t1, t2, t3, t4, t5⟩ := bm_turn hG L e m 10 hT hT.len
        have hfr := bm_turned_free e1 hp10 e3 e2 fp t3 t4
        have := hopt m' t2
        omega
      · obtain ⟨S', s', g1, g2, g3, g4⟩ := ih (p + 1) (fun v => S v || o' v) (o', r', b', i', p', qe', q') (by omega)
        refine ⟨S', s', g1, fun v hv h => ?_, fun v h => g3 v (by simp [h]), fun p1 h1 h2 h3 => ?_⟩
        · rcases g2 v hv h with z | z
          · have z : (S v || o' v) = true := z
            rw [Bool.or_eq_true] at z
            rcases z with z | z
            · exact Or.inl z
            · exact Or.inr (hI.spare hX hv z)
          · exact Or.inr z
        · by_cases q : p1 = p
          · subst q
            exact ⟨_, _, _, hC, fun v hv => ⟨hv.1, g3 v (by simp [hv.2])⟩⟩
          · exact g4 p1 (by omega) h2 h3
/-- spares: just the points that some largest pairing leaves over -/
theorem bm_sparesF (hg : bm_gr J) {m : Nat → Nat} (hab : ∀ v, ab v = false) (hM : bm_M (bm_E J ab) m) (hopt : ∀ n, bm_M (bm_E J ab) n → (bm_free m).length ≤ (bm_free n).length) (s : bd_SS) : ∃ S' s', bd_sp J ab m 10 0 (fun _ => false) s = some (S', s') ∧ ∀ v, v < 10 → (S' v = true ↔ bm_miss1 (bm_E J ab) m v) := by
  obtain ⟨S', s', f1, f2, f3, f4⟩ := bm_spF hg hab hM hopt 10 0 (fun _ => false) s rfl
  refine ⟨S', s', f1, fun v hv => ⟨fun h => ?_, fun ⟨n, h1, h2, h3⟩ => ?_⟩⟩
  · rcases f2 v hv h with z | z
    · cases z
    · exact z
  · rcases bm_spare (hg.G ab) hM h1 (fun _ v => S' v = true) (fun p hp fp _ => by
      obtain ⟨o, t, b, k1, k2⟩ := f4 p (Nat.zero_le _) hp fp
      exact ⟨o, t, b, k1, fun v hv => (k2 v hv).2⟩) h2 (bm_free_mem.mpr ⟨hv, h3⟩) with z | ⟨p, hp, z⟩
    · obtain ⟨q1, q2⟩ := bm_free_mem.mp z
      obtain ⟨o, t, b, k1, k2⟩ := f4 v (Nat.zero_le _) q1 q2
      exact (k2 v k1.1).2
    · exact z
end BMP
end
section
/-! walks: the desk, leaves (printed by gen/desk1.py) -/
set_option maxHeartbeats 4000000 in
set_option maxRecDepth 100000 in
/-- isLine(a, c) -/
theorem bd_m_isLine (l : Launch) (D : va_G) (h : Nat → Nat) (d : Nat → ClassId) (sz : Nat) (J : Nat → Nat → Bool) (ab : Nat → Bool) (mm : Nat → Nat) (o : Nat → Bool) (r b : Nat → Nat) (i pp : Nat → Bool) (qe : Nat) (q : Nat → Nat) (a c : Nat) (ha : a < 10) (hc : c < 10) : bd_MI l yX0_isLine cX0_isLine 3 (some .boolean) 0 0 D h d sz [.int (nI a), .int (nI c)] (J, ab, mm, o, r, b, i, pp, qe, q) (bd_bz (J a c)) (J, ab, mm, o, r, b, i, pp, qe, q) := by
  refine bd_ofW (Qc := bd_Qi D h d (bd_bz (J a c)) (J, ab, mm, o, r, b, i, pp, qe, q)) (by decide) rfl (Nat.le_of_ble_eq_true rfl) ?_
  intro p e s m below meth c0 A C hr hk hA hw ls hl
  have hx := C.1.1
  have hb := C.1.2.1
  have hl : lv_has ls 3 [(0, .ref (h 0)), (1, .int (nI a)), (2, .int (nI c))] := hl
  refine lv_aload_n hx hb dX0_isLine_0 rfl (lv_at hl 0 rfl) ?_
  refine bd_getJ C hw dX0_isLine_1 ?_
  refine lv_iload_n hx hb dX0_isLine_4 rfl (lv_at hl 1 rfl) ?_
  refine bd_ldJ C hw (k := a) (by omega) dX0_isLine_5 ?_
  refine lv_iload_n hx hb dX0_isLine_6 rfl (lv_at hl 2 rfl) ?_
  refine lv_iushr hx hb dX0_isLine_7 rfl ?_
  refine lv_iconst (v := nI 1) hx hb dX0_isLine_8 (by decide) ?_
  refine lv_iand hx hb dX0_isLine_9 ?_
  refine bd_top (y := bd_bz (J a c)) (bd_bit (J a) hc) ?_
  refine lv_if_eq (tgt := 17) hx hb dX0_isLine_10 (by decide) (fun c_1 => ?_) (fun c_1 => ?_)
  · skip
    have h1 : J a c = false := bd_bz0.mp c_1
    refine lv_iconst (v := bd_bz (J a c)) hx hb dX0_isLine_17 (by rw [h1]; decide) ?_
    exact bd_zret C hr hk hw dX0_isLine_18
  · skip
    have h1 : J a c = true := bd_bz1.mp c_1
    refine lv_iconst (v := bd_bz (J a c)) hx hb dX0_isLine_13 (by rw [h1]; decide) ?_
    refine lv_goto (tgt := 18) hx hb dX0_isLine_14 (by decide) ?_
    exact bd_zret C hr hk hw dX0_isLine_18
set_option maxHeartbeats 4000000 in
set_option maxRecDepth 100000 in
/-- makeOuter(x) -/
theorem bd_m_makeOuter (l : Launch) (D : va_G) (h : Nat → Nat) (d : Nat → ClassId) (sz : Nat) (J : Nat → Nat → Bool) (ab : Nat → Bool) (mm : Nat → Nat) (o : Nat → Bool) (r b : Nat → Nat) (i pp : Nat → Bool) (qe : Nat) (q : Nat → Nat) (x : Nat) (o' : Nat → Bool) (qe' : Nat) (q' : Nat → Nat) (hx0 : x < 10) (hF : bd_makeOuter o qe q x = some (o', qe', q')) : bd_MV l yX0_makeOuter cX0_makeOuter 2 0 0 D h d sz [.int (nI x)] (J, ab, mm, o, r, b, i, pp, qe, q) (J, ab, mm, o', r, b, i, pp, qe', q') := by
  refine bd_ofW (Qc := bd_Qv D h d (J, ab, mm, o', r, b, i, pp, qe', q')) (by decide) rfl (Nat.le_of_ble_eq_true rfl) ?_
  intro p e s m below meth c0 A C hr hk hA hw ls hl
  have hx := C.1.1
  have hb := C.1.2.1
  have hl : lv_has ls 2 [(0, .ref (h 0)), (1, .int (nI x))] := hl
  refine lv_aload_n hx hb dX0_makeOuter_0 rfl (lv_at hl 0 rfl) ?_
  refine bd_getO C hw dX0_makeOuter_1 ?_
  refine lv_iload_n hx hb dX0_makeOuter_4 rfl (lv_at hl 1 rfl) ?_
  refine bd_ldO C hw (k := x) (by omega) dX0_makeOuter_5 ?_
  refine lv_if_ne (tgt := 36) hx hb dX0_makeOuter_6 (by decide) (fun c_1 => ?_) (fun c_1 => ?_)
  · skip
    have h1 : o x = true := bd_bz1.mp c_1
    unfold bd_makeOuter at hF
    rw [if_pos h1] at hF
    obtain ⟨rfl, rfl, rfl⟩ : o = o' ∧ qe = qe' ∧ q = q' := by simpa using hF
    exact bd_vret C hr hk hw dX0_makeOuter_36
  · skip
    have h1 : ¬ o x = true := fun z => absurd (z.symm.trans (bd_bz0.mp c_1)) (by decide)
    unfold bd_makeOuter at hF
    rw [if_neg h1] at hF
    obtain ⟨hq, hF⟩ := bd_gd_some hF
    obtain ⟨rfl, rfl, rfl⟩ : va_up o x true = o' ∧ qe + 1 = qe' ∧ va_up q qe x = q' := by simpa using hF
    refine lv_aload_n hx hb dX0_makeOuter_9 rfl (lv_at hl 0 rfl) ?_
    refine bd_getO C hw dX0_makeOuter_10 ?_
    refine lv_iload_n hx hb dX0_makeOuter_13 rfl (lv_at hl 1 rfl) ?_
    refine lv_iconst (v := bd_bz true) hx hb dX0_makeOuter_14 (by decide) ?_
    refine bd_stO C hw (k := x) true (by omega) rfl dX0_makeOuter_15 (fun H locs hw => ?_)
    refine lv_aload_n hx hb dX0_makeOuter_16 rfl (lv_at hl 0 rfl) ?_
    refine bd_getQ C hw dX0_makeOuter_17 ?_
    refine lv_aload_n hx hb dX0_makeOuter_20 rfl (lv_at hl 0 rfl) ?_
    refine bd_getE C hw dX0_makeOuter_21 ?_
    refine lv_iload_n hx hb dX0_makeOuter_24 rfl (lv_at hl 1 rfl) ?_
    refine bd_stQ C hw (k := qe) x hq (bd_enc_lt hx0).symm dX0_makeOuter_25 (fun H locs hw => ?_)
    refine lv_aload_n hx hb dX0_makeOuter_26 rfl (lv_at hl 0 rfl) ?_
    refine lv_dup hx hb dX0_makeOuter_27 rfl ?_
    refine bd_getE C hw dX0_makeOuter_28 ?_
    refine lv_iconst (v := nI 1) hx hb dX0_makeOuter_31 (by decide) ?_
    refine lv_iadd hx hb dX0_makeOuter_32 ?_
    refine bd_putE C hw (qe + 1) (nI_add qe 1) dX0_makeOuter_33 (fun H locs hw => ?_)
    exact bd_vret C hr hk hw dX0_makeOuter_36
set_option maxHeartbeats 4000000 in
set_option maxRecDepth 100000 in
/-- meetingBase(a, c) -/
theorem bd_m_meetingBase (l : Launch) (D : va_G) (h : Nat → Nat) (d : Nat → ClassId) (sz : Nat) (J : Nat → Nat → Bool) (ab : Nat → Bool) (mm : Nat → Nat) (o : Nat → Bool) (r b : Nat → Nat) (i pp : Nat → Bool) (qe : Nat) (q : Nat → Nat) (a c y : Nat) (P : Nat → Bool) (ha : a < 10) (hc : c < 10) (hF : bd_meet mm r b pp a c = some (y, P)) : bd_MI l yX0_meetingBase cX0_meetingBase 6 (some .int) 0 0 D h d sz [.int (nI a), .int (nI c)] (J, ab, mm, o, r, b, i, pp, qe, q) (bd_enc y) (J, ab, mm, o, r, b, i, P, qe, q) := by
  refine bd_ofW (Qc := bd_Qi D h d (bd_enc y) (J, ab, mm, o, r, b, i, P, qe, q)) (by decide) rfl (Nat.le_of_ble_eq_true rfl) ?_
  intro p e s m below meth c0 A C hr hk hA hw ls hl
  have hx := C.1.1
  have hb := C.1.2.1
  have hl : lv_has ls 6 [(0, .ref (h 0)), (1, .int (nI a)), (2, .int (nI c))] := hl
  unfold bd_meet at hF
  obtain ⟨⟨ga, gc⟩, hF⟩ := bd_gd_some hF
  obtain ⟨P0, hF1, hF⟩ := Option.bind_eq_some_iff.mp hF
  obtain ⟨y0, hF2, hF⟩ := Option.bind_eq_some_iff.mp hF
  obtain ⟨rfl, rfl⟩ : y0 = y ∧ P0 = P := by simpa using hF
  have lp3 : ∀ (n : Nat) (k y1 : Nat), k + n = 10 → y1 < 10 → bd_mb2 mm r b P0 n y1 = some y0 → ∀ (H : Heap) (locs : List Loc), bd_at D h d A s.heap H locs (J, ab, mm, o, r, b, i, P0, qe, q) → ∀ ls : Array Slot, lv_has ls 6 [(0, .ref (h 0)), (4, .int (nI y1)), (5, .int (nI k))] → W p l e { frames := 0, cells := 0, slots := 0, locals := 0 } s m (([.ref (h 0), .int (nI a), .int (nI c)] : List Value).toArray) below meth c0 H locs 0 0 (MQ below (bd_Qi D h d (bd_enc y0) (J, ab, mm, o, r, b, i, P0, qe, q) A) (([.ref (h 0), .int (nI a), .int (nI c)] : List Value).toArray) s 0 0 A) (F0 m 95 ls []) := by
    intro n
    induction n with
    | zero =>
      intro k y1 e1 e2 e3 H locs hw ls hl
      refine lv_iload hx hb dX0_meetingBase_95 (lv_at hl 2 rfl) ?_
      refine lv_bipush (v := nI 10) hx hb dX0_meetingBase_97 (by decide) ?_
      refine lv_icmp_ge (tgt := 137) hx hb dX0_meetingBase_99 (by decide) (fun c_1 => ?_) (fun c_1 => ?_)
      · skip
        have e3 := Option.some.inj e3
        refine lv_iload hx hb dX0_meetingBase_137 (lv_at hl 1 rfl) ?_
        refine bd_top (y := bd_enc y0) (by rw [← e3]; exact (bd_enc_lt e2).symm) ?_
        exact bd_iret C hr hk hw dX0_meetingBase_139
      · skip
        exact absurd ((bd_le10 (by omega)).mpr (by omega)) c_1
    | succ n ih =>
      intro k y1 e1 e2 e3 H locs hw ls hl
      refine lv_iload hx hb dX0_meetingBase_95 (lv_at hl 2 rfl) ?_
      refine lv_bipush (v := nI 10) hx hb dX0_meetingBase_97 (by decide) ?_
      refine lv_icmp_ge (tgt := 137) hx hb dX0_meetingBase_99 (by decide) (fun c_2 => ?_) (fun c_2 => ?_)
      · skip
        have := (bd_le10 (by omega)).mp c_2
        omega
      · skip
        refine lv_aload_n hx hb dX0_meetingBase_102 rfl (lv_at hl 0 rfl) ?_
        refine bd_getP C hw dX0_meetingBase_103 ?_
        refine lv_iload hx hb dX0_meetingBase_106 (lv_at hl 1 rfl) ?_
        refine bd_ldP C hw (k := y1) (by omega) dX0_meetingBase_108 ?_
        refine lv_if_ne (tgt := 137) hx hb dX0_meetingBase_109 (by decide) (fun c_3 => ?_) (fun c_3 => ?_)
        · skip
          have h1 : P0 y1 = true := bd_bz1.mp c_3
          unfold bd_mb2 at e3
          rw [if_pos h1] at e3
          have e3 := Option.some.inj e3
          refine lv_iload hx hb dX0_meetingBase_137 (lv_at hl 1 rfl) ?_
          refine bd_top (y := bd_enc y0) (by rw [← e3]; exact (bd_enc_lt e2).symm) ?_
          exact bd_iret C hr hk hw dX0_meetingBase_139
        · skip
          have h1 : ¬ P0 y1 = true := fun z => absurd (z.symm.trans (bd_bz0.mp c_3)) (by decide)
          unfold bd_mb2 at e3
          rw [if_neg h1] at e3
          obtain ⟨⟨g1, g2, g3⟩, e3⟩ := bd_gd_some e3
          refine lv_aload_n hx hb dX0_meetingBase_112 rfl (lv_at hl 0 rfl) ?_
          refine bd_getB C hw dX0_meetingBase_113 ?_
          refine lv_aload_n hx hb dX0_meetingBase_116 rfl (lv_at hl 0 rfl) ?_
          refine bd_getR C hw dX0_meetingBase_117 ?_
          refine lv_aload_n hx hb dX0_meetingBase_120 rfl (lv_at hl 0 rfl) ?_
          refine bd_getM C hw dX0_meetingBase_121 ?_
          refine lv_iload hx hb dX0_meetingBase_124 (lv_at hl 1 rfl) ?_
          refine bd_ldM C hw (k := y1) (by omega) dX0_meetingBase_126 ?_
          refine bd_top (bd_enc_lt g1) ?_
          refine bd_ldR C hw (k := (mm y1)) g1 dX0_meetingBase_127 ?_
          refine bd_top (bd_enc_lt g2) ?_
          refine bd_ldB C hw (k := (r (mm y1))) g2 dX0_meetingBase_128 ?_
          refine bd_top (bd_enc_lt g3) ?_
          refine lv_istore (lv' := [(4, .int (nI (b (r (mm y1))))), (0, .ref (h 0)), (5, .int (nI k))]) hx hb dX0_meetingBase_129 hl (by decide) rfl (fun ls hl => ?_)
          refine lv_iinc (v := nI (k + 1)) (lv' := [(5, .int (nI (k + 1))), (4, .int (nI (b (r (mm y1))))), (0, .ref (h 0))]) hx hb dX0_meetingBase_131 hl (k := 2) rfl (nI_1 k) (by decide) rfl (fun ls hl => ?_)
          refine lv_goto (tgt := 95) hx hb dX0_meetingBase_134 (by decide) ?_
          exact ih (k + 1) (b (r (mm y1))) (by omega) g3 e3 _ _ hw ls (lv_sub hl [2, 1, 0] rfl)
  have lp2 : ∀ (n : Nat) (k x1 : Nat) (P1 : Nat → Bool), k + n = 10 → x1 < 10 → bd_mb1 mm r b n x1 P1 = some P0 → ∀ (H : Heap) (locs : List Loc), bd_at D h d A s.heap H locs (J, ab, mm, o, r, b, i, P1, qe, q) → ∀ ls : Array Slot, lv_has ls 6 [(0, .ref (h 0)), (2, .int (nI c)), (3, .int (nI x1)), (4, .int (nI k))] → W p l e { frames := 0, cells := 0, slots := 0, locals := 0 } s m (([.ref (h 0), .int (nI a), .int (nI c)] : List Value).toArray) below meth c0 H locs 0 0 (MQ below (bd_Qi D h d (bd_enc y0) (J, ab, mm, o, r, b, i, P0, qe, q) A) (([.ref (h 0), .int (nI a), .int (nI c)] : List Value).toArray) s 0 0 A) (F0 m 38 ls []) := by
    intro n
    induction n with
    | zero =>
      intro k x1 P1 e1 e2 e3 H locs hw ls hl
      refine lv_iload hx hb dX0_meetingBase_38 (lv_at hl 3 rfl) ?_
      refine lv_bipush (v := nI 10) hx hb dX0_meetingBase_40 (by decide) ?_
      refine lv_icmp_ge (tgt := 84) hx hb dX0_meetingBase_42 (by decide) (fun c_4 => ?_) (fun c_4 => ?_)
      · skip
        have e3 := Option.some.inj e3
        rw [e3] at hw
        refine lv_aload_n hx hb dX0_meetingBase_84 rfl (lv_at hl 0 rfl) ?_
        refine bd_getB C hw dX0_meetingBase_85 ?_
        refine lv_iload_n hx hb dX0_meetingBase_88 rfl (lv_at hl 1 rfl) ?_
        refine bd_ldB C hw (k := c) (by omega) dX0_meetingBase_89 ?_
        refine bd_top (bd_enc_lt gc) ?_
        refine lv_istore (lv' := [(4, .int (nI (b c))), (0, .ref (h 0)), (2, .int (nI c)), (3, .int (nI x1))]) hx hb dX0_meetingBase_90 hl (by decide) rfl (fun ls hl => ?_)
        refine lv_iconst (v := nI 0) hx hb dX0_meetingBase_92 (by decide) ?_
        refine lv_istore (lv' := [(5, .int (nI 0)), (4, .int (nI (b c))), (0, .ref (h 0)), (2, .int (nI c)), (3, .int (nI x1))]) hx hb dX0_meetingBase_93 hl (by decide) rfl (fun ls hl => ?_)
        exact lp3 10 0 (b c) rfl gc hF2 _ _ hw ls (lv_sub hl [2, 1, 0] rfl)
      · skip
        exact absurd ((bd_le10 (by omega)).mpr (by omega)) c_4
    | succ n ih =>
      intro k x1 P1 e1 e2 e3 H locs hw ls hl
      refine lv_iload hx hb dX0_meetingBase_38 (lv_at hl 3 rfl) ?_
      refine lv_bipush (v := nI 10) hx hb dX0_meetingBase_40 (by decide) ?_
      refine lv_icmp_ge (tgt := 84) hx hb dX0_meetingBase_42 (by decide) (fun c_5 => ?_) (fun c_5 => ?_)
      · skip
        have := (bd_le10 (by omega)).mp c_5
        omega
      · skip
        refine lv_aload_n hx hb dX0_meetingBase_45 rfl (lv_at hl 0 rfl) ?_
        refine bd_getM C hw dX0_meetingBase_46 ?_
        refine lv_iload_n hx hb dX0_meetingBase_49 rfl (lv_at hl 2 rfl) ?_
        refine bd_ldM C hw (k := x1) (by omega) dX0_meetingBase_50 ?_
        refine lv_if_lt (tgt := 84) hx hb dX0_meetingBase_51 (by decide) (fun c_6 => ?_) (fun c_6 => ?_)
        · skip
          have h1 : ¬ mm x1 < 10 := bd_enc_neg.mp c_6
          unfold bd_mb1 at e3
          rw [if_neg h1] at e3
          have e3 := Option.some.inj e3
          rw [e3] at hw
          refine lv_aload_n hx hb dX0_meetingBase_84 rfl (lv_at hl 0 rfl) ?_
          refine bd_getB C hw dX0_meetingBase_85 ?_
          refine lv_iload_n hx hb dX0_meetingBase_88 rfl (lv_at hl 1 rfl) ?_
          refine bd_ldB C hw (k := c) (by omega) dX0_meetingBase_89 ?_
          refine bd_top (bd_enc_lt gc) ?_
          refine lv_istore (lv' := [(4, .int (nI (b c))), (0, .ref (h 0)), (2, .int (nI c)), (3, .int (nI x1))]) hx hb dX0_meetingBase_90 hl (by decide) rfl (fun ls hl => ?_)
          refine lv_iconst (v := nI 0) hx hb dX0_meetingBase_92 (by decide) ?_
          refine lv_istore (lv' := [(5, .int (nI 0)), (4, .int (nI (b c))), (0, .ref (h 0)), (2, .int (nI c)), (3, .int (nI x1))]) hx hb dX0_meetingBase_93 hl (by decide) rfl (fun ls hl => ?_)
          exact lp3 10 0 (b c) rfl gc hF2 _ _ hw ls (lv_sub hl [2, 1, 0] rfl)
        · skip
          have h1 : mm x1 < 10 := Classical.not_not.mp (fun z => c_6 (bd_enc_neg.mpr z))
          unfold bd_mb1 at e3
          rw [if_pos h1] at e3
          obtain ⟨⟨g2, g3⟩, e3⟩ := bd_gd_some e3
          refine lv_aload_n hx hb dX0_meetingBase_54 rfl (lv_at hl 0 rfl) ?_
          refine bd_getB C hw dX0_meetingBase_55 ?_
          refine lv_aload_n hx hb dX0_meetingBase_58 rfl (lv_at hl 0 rfl) ?_
          refine bd_getR C hw dX0_meetingBase_59 ?_
          refine lv_aload_n hx hb dX0_meetingBase_62 rfl (lv_at hl 0 rfl) ?_
          refine bd_getM C hw dX0_meetingBase_63 ?_
          refine lv_iload_n hx hb dX0_meetingBase_66 rfl (lv_at hl 2 rfl) ?_
          refine bd_ldM C hw (k := x1) (by omega) dX0_meetingBase_67 ?_
          refine bd_top (bd_enc_lt h1) ?_
          refine bd_ldR C hw (k := (mm x1)) h1 dX0_meetingBase_68 ?_
          refine bd_top (bd_enc_lt g2) ?_
          refine bd_ldB C hw (k := (r (mm x1))) g2 dX0_meetingBase_69 ?_
          refine bd_top (bd_enc_lt g3) ?_
          refine lv_istore_n (lv' := [(3, .int (nI (b (r (mm x1))))), (0, .ref (h 0)), (2, .int (nI c)), (4, .int (nI k))]) hx hb dX0_meetingBase_70 rfl hl (by decide) rfl (fun ls hl => ?_)
          refine lv_aload_n hx hb dX0_meetingBase_71 rfl (lv_at hl 1 rfl) ?_
          refine bd_getP C hw dX0_meetingBase_72 ?_
          refine lv_iload_n hx hb dX0_meetingBase_75 rfl (lv_at hl 0 rfl) ?_
          refine lv_iconst (v := bd_bz true) hx hb dX0_meetingBase_76 (by decide) ?_
          refine bd_stP C hw (k := (b (r (mm x1)))) true g3 rfl dX0_meetingBase_77 (fun H locs hw => ?_)
          refine lv_iinc (v := nI (k + 1)) (lv' := [(4, .int (nI (k + 1))), (3, .int (nI (b (r (mm x1))))), (0, .ref (h 0)), (2, .int (nI c))]) hx hb dX0_meetingBase_78 hl (k := 3) rfl (nI_1 k) (by decide) rfl (fun ls hl => ?_)
          refine lv_goto (tgt := 38) hx hb dX0_meetingBase_81 (by decide) ?_
          exact ih (k + 1) (b (r (mm x1))) _ (by omega) g3 e3 _ _ hw ls (lv_sub hl [2, 3, 1, 0] rfl)
  have lp1 : ∀ (n : Nat) (k : Nat), k + n = 10 → ∀ (H : Heap) (locs : List Loc), bd_at D h d A s.heap H locs (J, ab, mm, o, r, b, i, bd_fl k false pp, qe, q) → ∀ ls : Array Slot, lv_has ls 6 [(0, .ref (h 0)), (1, .int (nI a)), (2, .int (nI c)), (3, .int (nI k))] → W p l e { frames := 0, cells := 0, slots := 0, locals := 0 } s m (([.ref (h 0), .int (nI a), .int (nI c)] : List Value).toArray) below meth c0 H locs 0 0 (MQ below (bd_Qi D h d (bd_enc y0) (J, ab, mm, o, r, b, i, P0, qe, q) A) (([.ref (h 0), .int (nI a), .int (nI c)] : List Value).toArray) s 0 0 A) (F0 m 2 ls []) := by
    intro n
    induction n with
    | zero =>
      intro k e1 H locs hw ls hl
      refine lv_iload_n hx hb dX0_meetingBase_2 rfl (lv_at hl 3 rfl) ?_
      refine lv_bipush (v := nI 10) hx hb dX0_meetingBase_3 (by decide) ?_
      refine lv_icmp_ge (tgt := 21) hx hb dX0_meetingBase_5 (by decide) (fun c_7 => ?_) (fun c_7 => ?_)
      · skip
        have e1 : k = 10 := by omega
        subst e1
        refine lv_aload_n hx hb dX0_meetingBase_21 rfl (lv_at hl 0 rfl) ?_
        refine bd_getB C hw dX0_meetingBase_22 ?_
        refine lv_iload_n hx hb dX0_meetingBase_25 rfl (lv_at hl 1 rfl) ?_
        refine bd_ldB C hw (k := a) (by omega) dX0_meetingBase_26 ?_
        refine bd_top (bd_enc_lt ga) ?_
        refine lv_istore_n (lv' := [(3, .int (nI (b a))), (0, .ref (h 0)), (1, .int (nI a)), (2, .int (nI c))]) hx hb dX0_meetingBase_27 rfl hl (by decide) rfl (fun ls hl => ?_)
        refine lv_aload_n hx hb dX0_meetingBase_28 rfl (lv_at hl 1 rfl) ?_
        refine bd_getP C hw dX0_meetingBase_29 ?_
        refine lv_iload_n hx hb dX0_meetingBase_32 rfl (lv_at hl 0 rfl) ?_
        refine lv_iconst (v := bd_bz true) hx hb dX0_meetingBase_33 (by decide) ?_
        refine bd_stP C hw (k := (b a)) true ga rfl dX0_meetingBase_34 (fun H locs hw => ?_)
        refine lv_iconst (v := nI 0) hx hb dX0_meetingBase_35 (by decide) ?_
        refine lv_istore (lv' := [(4, .int (nI 0)), (3, .int (nI (b a))), (0, .ref (h 0)), (1, .int (nI a)), (2, .int (nI c))]) hx hb dX0_meetingBase_36 hl (by decide) rfl (fun ls hl => ?_)
        exact lp2 10 0 (b a) _ rfl ga hF1 _ _ hw ls (lv_sub hl [2, 4, 1, 0] rfl)
      · skip
        exact absurd ((bd_le10 (by omega)).mpr (by omega)) c_7
    | succ n ih =>
      intro k e1 H locs hw ls hl
      refine lv_iload_n hx hb dX0_meetingBase_2 rfl (lv_at hl 3 rfl) ?_
      refine lv_bipush (v := nI 10) hx hb dX0_meetingBase_3 (by decide) ?_
      refine lv_icmp_ge (tgt := 21) hx hb dX0_meetingBase_5 (by decide) (fun c_8 => ?_) (fun c_8 => ?_)
      · skip
        have := (bd_le10 (by omega)).mp c_8
        omega
      · skip
        refine lv_aload_n hx hb dX0_meetingBase_8 rfl (lv_at hl 0 rfl) ?_
        refine bd_getP C hw dX0_meetingBase_9 ?_
        refine lv_iload_n hx hb dX0_meetingBase_12 rfl (lv_at hl 3 rfl) ?_
        refine lv_iconst (v := bd_bz false) hx hb dX0_meetingBase_13 (by decide) ?_
        refine bd_stP C hw (k := k) false (by omega) rfl dX0_meetingBase_14 (fun H locs hw => ?_)
        rw [bd_fl_s] at hw
        refine lv_iinc (v := nI (k + 1)) (lv' := [(3, .int (nI (k + 1))), (0, .ref (h 0)), (1, .int (nI a)), (2, .int (nI c))]) hx hb dX0_meetingBase_15 hl (k := 3) rfl (nI_1 k) (by decide) rfl (fun ls hl => ?_)
        refine lv_goto (tgt := 2) hx hb dX0_meetingBase_18 (by decide) ?_
        exact ih (k + 1) (by omega) _ _ hw ls (lv_sub hl [1, 2, 3, 0] rfl)
  refine lv_iconst (v := nI 0) hx hb dX0_meetingBase_0 (by decide) ?_
  refine lv_istore_n (lv' := [(3, .int (nI 0)), (0, .ref (h 0)), (1, .int (nI a)), (2, .int (nI c))]) hx hb dX0_meetingBase_1 rfl hl (by decide) rfl (fun ls hl => ?_)
  exact lp1 10 0 rfl _ _ (by rw [bd_fl_0]; exact hw) ls (lv_sub hl [1, 2, 3, 0] rfl)
set_option maxHeartbeats 4000000 in
set_option maxRecDepth 100000 in
/-- markWay(v0, cm, c0) -/
theorem bd_m_markWay (l : Launch) (D : va_G) (h : Nat → Nat) (d : Nat → ClassId) (sz : Nat) (J : Nat → Nat → Bool) (ab : Nat → Bool) (mm : Nat → Nat) (o : Nat → Bool) (r b : Nat → Nat) (i pp : Nat → Bool) (qe : Nat) (q : Nat → Nat) (v0 cm ch : Nat) (r' : Nat → Nat) (i' : Nat → Bool) (hv : v0 < 10) (hcm : cm < 10) (hch : ch < 10) (hF : bd_mw mm b cm 10 v0 ch r i = some (r', i')) : bd_MV l yX0_markWay cX0_markWay 7 0 0 D h d sz [.int (nI v0), .int (nI cm), .int (nI ch)] (J, ab, mm, o, r, b, i, pp, qe, q) (J, ab, mm, o, r', b, i', pp, qe, q) := by
  refine bd_ofW (Qc := bd_Qv D h d (J, ab, mm, o, r', b, i', pp, qe, q)) (by decide) rfl (Nat.le_of_ble_eq_true rfl) ?_
  intro p e s m below meth c0 A C hr hk hA hw ls hl
  have hx := C.1.1
  have hb := C.1.2.1
  have hl : lv_has ls 7 [(0, .ref (h 0)), (1, .int (nI v0)), (2, .int (nI cm)), (3, .int (nI ch))] := hl
  have lp : ∀ (n : Nat) (k v1 c1 : Nat) (r1 : Nat → Nat) (i1 : Nat → Bool), k + n = 10 → v1 < 10 → c1 < 10 → bd_mw mm b cm n v1 c1 r1 i1 = some (r', i') → ∀ (H : Heap) (locs : List Loc), bd_at D h d A s.heap H locs (J, ab, mm, o, r1, b, i1, pp, qe, q) → ∀ ls : Array Slot, lv_has ls 7 [(0, .ref (h 0)), (2, .int (nI cm)), (4, .int (nI v1)), (5, .int (nI c1)), (6, .int (nI k))] → W p l e { frames := 0, cells := 0, slots := 0, locals := 0 } s m (([.ref (h 0), .int (nI v0), .int (nI cm), .int (nI ch)] : List Value).toArray) below meth c0 H locs 0 0 (MQ below (bd_Qv D h d (J, ab, mm, o, r', b, i', pp, qe, q) A) (([.ref (h 0), .int (nI v0), .int (nI cm), .int (nI ch)] : List Value).toArray) s 0 0 A) (F0 m 9 ls []) := by
    intro n
    induction n with
    | zero =>
      intro k v1 c1 r1 i1 e1 e2 e3 e4 H locs hw ls hl
      refine lv_iload hx hb dX0_markWay_9 (lv_at hl 4 rfl) ?_
      refine lv_bipush (v := nI 10) hx hb dX0_markWay_11 (by decide) ?_
      refine lv_icmp_ge (tgt := 96) hx hb dX0_markWay_13 (by decide) (fun c_1 => ?_) (fun c_1 => ?_)
      · skip
        have e5 := Prod.mk.inj (Option.some.inj e4)
        rw [e5.1, e5.2] at hw
        exact bd_vret C hr hk hw dX0_markWay_96
      · skip
        exact absurd ((bd_le10 (by omega)).mpr (by omega)) c_1
    | succ n ih =>
      intro k v1 c1 r1 i1 e1 e2 e3 e4 H locs hw ls hl
      refine lv_iload hx hb dX0_markWay_9 (lv_at hl 4 rfl) ?_
      refine lv_bipush (v := nI 10) hx hb dX0_markWay_11 (by decide) ?_
      refine lv_icmp_ge (tgt := 96) hx hb dX0_markWay_13 (by decide) (fun c_2 => ?_) (fun c_2 => ?_)
      · skip
        have := (bd_le10 (by omega)).mp c_2
        omega
      · skip
        refine lv_aload_n hx hb dX0_markWay_16 rfl (lv_at hl 0 rfl) ?_
        refine bd_getB C hw dX0_markWay_17 ?_
        refine lv_iload hx hb dX0_markWay_20 (lv_at hl 2 rfl) ?_
        refine bd_ldB C hw (k := v1) (by omega) dX0_markWay_22 ?_
        refine lv_iload_n hx hb dX0_markWay_23 rfl (lv_at hl 1 rfl) ?_
        refine lv_icmp_eq (tgt := 96) hx hb dX0_markWay_24 (by decide) (fun c_3 => ?_) (fun c_3 => ?_)
        · skip
          have h1 : b v1 = cm := (bd_enc_nI hcm).mp c_3
          unfold bd_mw at e4
          rw [if_pos h1] at e4
          have e5 := Prod.mk.inj (Option.some.inj e4)
          rw [e5.1, e5.2] at hw
          exact bd_vret C hr hk hw dX0_markWay_96
        · skip
          have h1 : ¬ b v1 = cm := fun z => c_3 ((bd_enc_nI hcm).mpr z)
          unfold bd_mw at e4
          rw [if_neg h1] at e4
          obtain ⟨⟨g1, g2, g3, g4⟩, e4⟩ := bd_gd_some e4
          refine lv_aload_n hx hb dX0_markWay_27 rfl (lv_at hl 0 rfl) ?_
          refine bd_getI C hw dX0_markWay_28 ?_
          refine lv_aload_n hx hb dX0_markWay_31 rfl (lv_at hl 0 rfl) ?_
          refine bd_getB C hw dX0_markWay_32 ?_
          refine lv_iload hx hb dX0_markWay_35 (lv_at hl 2 rfl) ?_
          refine bd_ldB C hw (k := v1) (by omega) dX0_markWay_37 ?_
          refine bd_top (bd_enc_lt g1) ?_
          refine lv_iconst (v := bd_bz true) hx hb dX0_markWay_38 (by decide) ?_
          refine bd_stI C hw (k := (b v1)) true g1 rfl dX0_markWay_39 (fun H locs hw => ?_)
          refine lv_aload_n hx hb dX0_markWay_40 rfl (lv_at hl 0 rfl) ?_
          refine bd_getI C hw dX0_markWay_41 ?_
          refine lv_aload_n hx hb dX0_markWay_44 rfl (lv_at hl 0 rfl) ?_
          refine bd_getB C hw dX0_markWay_45 ?_
          refine lv_aload_n hx hb dX0_markWay_48 rfl (lv_at hl 0 rfl) ?_
          refine bd_getM C hw dX0_markWay_49 ?_
          refine lv_iload hx hb dX0_markWay_52 (lv_at hl 2 rfl) ?_
          refine bd_ldM C hw (k := v1) (by omega) dX0_markWay_54 ?_
          refine bd_top (bd_enc_lt g2) ?_
          refine bd_ldB C hw (k := (mm v1)) g2 dX0_markWay_55 ?_
          refine bd_top (bd_enc_lt g3) ?_
          refine lv_iconst (v := bd_bz true) hx hb dX0_markWay_56 (by decide) ?_
          refine bd_stI C hw (k := (b (mm v1))) true g3 rfl dX0_markWay_57 (fun H locs hw => ?_)
          refine lv_aload_n hx hb dX0_markWay_58 rfl (lv_at hl 0 rfl) ?_
          refine bd_getR C hw dX0_markWay_59 ?_
          refine lv_iload hx hb dX0_markWay_62 (lv_at hl 2 rfl) ?_
          refine lv_iload hx hb dX0_markWay_64 (lv_at hl 3 rfl) ?_
          refine bd_stR C hw (k := v1) c1 (by omega) (bd_enc_lt e3).symm dX0_markWay_66 (fun H locs hw => ?_)
          refine lv_aload_n hx hb dX0_markWay_67 rfl (lv_at hl 0 rfl) ?_
          refine bd_getM C hw dX0_markWay_68 ?_
          refine lv_iload hx hb dX0_markWay_71 (lv_at hl 2 rfl) ?_
          refine bd_ldM C hw (k := v1) (by omega) dX0_markWay_73 ?_
          refine bd_top (bd_enc_lt g2) ?_
          refine lv_istore (lv' := [(5, .int (nI (mm v1))), (0, .ref (h 0)), (2, .int (nI cm)), (4, .int (nI v1)), (6, .int (nI k))]) hx hb dX0_markWay_74 hl (by decide) rfl (fun ls hl => ?_)
          refine lv_aload_n hx hb dX0_markWay_76 rfl (lv_at hl 1 rfl) ?_
          refine bd_getR C hw dX0_markWay_77 ?_
          refine lv_aload_n hx hb dX0_markWay_80 rfl (lv_at hl 1 rfl) ?_
          refine bd_getM C hw dX0_markWay_81 ?_
          refine lv_iload hx hb dX0_markWay_84 (lv_at hl 3 rfl) ?_
          refine bd_ldM C hw (k := v1) (by omega) dX0_markWay_86 ?_
          refine bd_top (bd_enc_lt g2) ?_
          refine bd_ldR C hw (k := (mm v1)) g2 dX0_markWay_87 ?_
          refine bd_top (bd_enc_lt g4) ?_
          refine lv_istore (lv' := [(4, .int (nI ((va_up r1 v1 c1) (mm v1)))), (5, .int (nI (mm v1))), (0, .ref (h 0)), (2, .int (nI cm)), (6, .int (nI k))]) hx hb dX0_markWay_88 hl (by decide) rfl (fun ls hl => ?_)
          refine lv_iinc (v := nI (k + 1)) (lv' := [(6, .int (nI (k + 1))), (4, .int (nI ((va_up r1 v1 c1) (mm v1)))), (5, .int (nI (mm v1))), (0, .ref (h 0)), (2, .int (nI cm))]) hx hb dX0_markWay_90 hl (k := 4) rfl (nI_1 k) (by decide) rfl (fun ls hl => ?_)
          refine lv_goto (tgt := 9) hx hb dX0_markWay_93 (by decide) ?_
          exact ih (k + 1) _ _ _ _ (by omega) g4 g2 e4 _ _ hw ls (lv_sub hl [3, 4, 1, 2, 0] rfl)
  refine lv_iload_n hx hb dX0_markWay_0 rfl (lv_at hl 1 rfl) ?_
  refine lv_istore (lv' := [(4, .int (nI v0)), (0, .ref (h 0)), (1, .int (nI v0)), (2, .int (nI cm)), (3, .int (nI ch))]) hx hb dX0_markWay_1 hl (by decide) rfl (fun ls hl => ?_)
  refine lv_iload_n hx hb dX0_markWay_3 rfl (lv_at hl 4 rfl) ?_
  refine lv_istore (lv' := [(5, .int (nI ch)), (4, .int (nI v0)), (0, .ref (h 0)), (1, .int (nI v0)), (2, .int (nI cm)), (3, .int (nI ch))]) hx hb dX0_markWay_4 hl (by decide) rfl (fun ls hl => ?_)
  refine lv_iconst (v := nI 0) hx hb dX0_markWay_6 (by decide) ?_
  refine lv_istore (lv' := [(6, .int (nI 0)), (5, .int (nI ch)), (4, .int (nI v0)), (0, .ref (h 0)), (1, .int (nI v0)), (2, .int (nI cm)), (3, .int (nI ch))]) hx hb dX0_markWay_7 hl (by decide) rfl (fun ls hl => ?_)
  exact lp 10 0 v0 ch r i rfl hv hch hF _ _ hw ls (lv_sub hl [3, 5, 2, 1, 0] rfl)
set_option maxHeartbeats 4000000 in
set_option maxRecDepth 100000 in
/-- turn(e0) -/
theorem bd_m_turn (l : Launch) (D : va_G) (h : Nat → Nat) (d : Nat → ClassId) (sz : Nat) (J : Nat → Nat → Bool) (ab : Nat → Bool) (mm : Nat → Nat) (o : Nat → Bool) (r b : Nat → Nat) (i pp : Nat → Bool) (qe : Nat) (q : Nat → Nat) (e0 : Nat) (m' : Nat → Nat) (he : e0 < 10) (hF : bd_turn r 10 e0 mm = some m') : bd_MV l yX0_turn cX0_turn 6 0 0 D h d sz [.int (nI e0)] (J, ab, mm, o, r, b, i, pp, qe, q) (J, ab, m', o, r, b, i, pp, qe, q) := by
  refine bd_ofW (Qc := bd_Qv D h d (J, ab, m', o, r, b, i, pp, qe, q)) (by decide) rfl (Nat.le_of_ble_eq_true rfl) ?_
  intro p e s m below meth c0 A C hr hk hA hw ls hl
  have hx := C.1.1
  have hb := C.1.2.1
  have hl : lv_has ls 6 [(0, .ref (h 0)), (1, .int (nI e0))] := hl
  have lp : ∀ (n : Nat) (k v1 : Nat) (m1 : Nat → Nat), k + n = 10 → bd_turn r n v1 m1 = some m' → ∀ (H : Heap) (locs : List Loc), bd_at D h d A s.heap H locs (J, ab, m1, o, r, b, i, pp, qe, q) → ∀ ls : Array Slot, lv_has ls 6 [(0, .ref (h 0)), (2, .int (bd_enc v1)), (3, .int (nI k))] → W p l e { frames := 0, cells := 0, slots := 0, locals := 0 } s m (([.ref (h 0), .int (nI e0)] : List Value).toArray) below meth c0 H locs 0 0 (MQ below (bd_Qv D h d (J, ab, m', o, r, b, i, pp, qe, q) A) (([.ref (h 0), .int (nI e0)] : List Value).toArray) s 0 0 A) (F0 m 4 ls []) := by
    intro n
    induction n with
    | zero =>
      intro k v1 m1 e1 e4 H locs hw ls hl
      refine lv_iload_n hx hb dX0_turn_4 rfl (lv_at hl 2 rfl) ?_
      refine lv_bipush (v := nI 10) hx hb dX0_turn_5 (by decide) ?_
      refine lv_icmp_ge (tgt := 56) hx hb dX0_turn_7 (by decide) (fun c_1 => ?_) (fun c_1 => ?_)
      · skip
        have e5 := Option.some.inj e4
        rw [e5] at hw
        exact bd_vret C hr hk hw dX0_turn_56
      · skip
        exact absurd ((bd_le10 (by omega)).mpr (by omega)) c_1
    | succ n ih =>
      intro k v1 m1 e1 e4 H locs hw ls hl
      refine lv_iload_n hx hb dX0_turn_4 rfl (lv_at hl 2 rfl) ?_
      refine lv_bipush (v := nI 10) hx hb dX0_turn_5 (by decide) ?_
      refine lv_icmp_ge (tgt := 56) hx hb dX0_turn_7 (by decide) (fun c_2 => ?_) (fun c_2 => ?_)
      · skip
        have := (bd_le10 (by omega)).mp c_2
        omega
      · skip
        refine lv_iload_n hx hb dX0_turn_10 rfl (lv_at hl 1 rfl) ?_
        refine lv_if_lt (tgt := 56) hx hb dX0_turn_11 (by decide) (fun c_3 => ?_) (fun c_3 => ?_)
        · skip
          have h1 : ¬ v1 < 10 := bd_enc_neg.mp c_3
          unfold bd_turn at e4
          rw [if_neg h1] at e4
          have e5 := Option.some.inj e4
          rw [e5] at hw
          exact bd_vret C hr hk hw dX0_turn_56
        · skip
          have h1 : v1 < 10 := Classical.not_not.mp (fun z => c_3 (bd_enc_neg.mpr z))
          unfold bd_turn at e4
          rw [if_pos h1] at e4
          obtain ⟨g1, e4⟩ := bd_gd_some e4
          refine lv_aload_n hx hb dX0_turn_14 rfl (lv_at hl 0 rfl) ?_
          refine bd_getR C hw dX0_turn_15 ?_
          refine lv_iload_n hx hb dX0_turn_18 rfl (lv_at hl 1 rfl) ?_
          refine bd_top (y := nI v1) (bd_enc_lt h1) ?_
          refine bd_ldR C hw (k := v1) h1 dX0_turn_19 ?_
          refine bd_top (bd_enc_lt g1) ?_
          refine lv_istore (lv' := [(4, .int (nI (r v1))), (0, .ref (h 0)), (2, .int (bd_enc v1)), (3, .int (nI k))]) hx hb dX0_turn_20 hl (by decide) rfl (fun ls hl => ?_)
          refine lv_aload_n hx hb dX0_turn_22 rfl (lv_at hl 1 rfl) ?_
          refine bd_getM C hw dX0_turn_23 ?_
          refine lv_iload hx hb dX0_turn_26 (lv_at hl 0 rfl) ?_
          refine bd_ldM C hw (k := (r v1)) g1 dX0_turn_28 ?_
          refine lv_istore (lv' := [(5, .int (bd_enc (m1 (r v1)))), (4, .int (nI (r v1))), (0, .ref (h 0)), (2, .int (bd_enc v1)), (3, .int (nI k))]) hx hb dX0_turn_29 hl (by decide) rfl (fun ls hl => ?_)
          refine lv_aload_n hx hb dX0_turn_31 rfl (lv_at hl 2 rfl) ?_
          refine bd_getM C hw dX0_turn_32 ?_
          refine lv_iload_n hx hb dX0_turn_35 rfl (lv_at hl 3 rfl) ?_
          refine bd_top (y := nI v1) (bd_enc_lt h1) ?_
          refine lv_iload hx hb dX0_turn_36 (lv_at hl 1 rfl) ?_
          refine bd_stM C hw (k := v1) (r v1) h1 (bd_enc_lt g1).symm dX0_turn_38 (fun H locs hw => ?_)
          refine lv_aload_n hx hb dX0_turn_39 rfl (lv_at hl 2 rfl) ?_
          refine bd_getM C hw dX0_turn_40 ?_
          refine lv_iload hx hb dX0_turn_43 (lv_at hl 1 rfl) ?_
          refine lv_iload_n hx hb dX0_turn_45 rfl (lv_at hl 3 rfl) ?_
          refine bd_stM C hw (k := (r v1)) v1 g1 rfl dX0_turn_46 (fun H locs hw => ?_)
          refine lv_iload hx hb dX0_turn_47 (lv_at hl 0 rfl) ?_
          refine lv_istore_n (lv' := [(2, .int (bd_enc (m1 (r v1)))), (5, .int (bd_enc (m1 (r v1)))), (4, .int (nI (r v1))), (0, .ref (h 0)), (3, .int (nI k))]) hx hb dX0_turn_49 rfl hl (by decide) rfl (fun ls hl => ?_)
          refine lv_iinc (v := nI (k + 1)) (lv' := [(3, .int (nI (k + 1))), (2, .int (bd_enc (m1 (r v1)))), (5, .int (bd_enc (m1 (r v1)))), (4, .int (nI (r v1))), (0, .ref (h 0))]) hx hb dX0_turn_50 hl (k := 4) rfl (nI_1 k) (by decide) rfl (fun ls hl => ?_)
          refine lv_goto (tgt := 4) hx hb dX0_turn_53 (by decide) ?_
          exact ih (k + 1) _ _ (by omega) e4 _ _ hw ls (lv_sub hl [4, 1, 0] rfl)
  refine lv_iload_n hx hb dX0_turn_0 rfl (lv_at hl 1 rfl) ?_
  refine bd_top (y := bd_enc e0) (bd_enc_lt he).symm ?_
  refine lv_istore_n (lv' := [(2, .int (bd_enc e0)), (0, .ref (h 0)), (1, .int (nI e0))]) hx hb dX0_turn_1 rfl hl (by decide) rfl (fun ls hl => ?_)
  refine lv_iconst (v := nI 0) hx hb dX0_turn_2 (by decide) ?_
  refine lv_istore_n (lv' := [(3, .int (nI 0)), (2, .int (bd_enc e0)), (0, .ref (h 0)), (1, .int (nI e0))]) hx hb dX0_turn_3 rfl hl (by decide) rfl (fun ls hl => ?_)
  exact lp 10 0 e0 mm rfl hF _ _ hw ls (lv_sub hl [2, 1, 0] rfl)
end
section
/-! walks: drawTogether, follow, search (printed by gen/desk2.py) -/
set_option maxHeartbeats 4000000 in
set_option maxRecDepth 100000 in
/-- drawTogether(a, c) -/
theorem bd_m_drawTogether (l : Launch) (D : va_G) (h : Nat → Nat) (d : Nat → ClassId) (sz : Nat) (J : Nat → Nat → Bool) (ab : Nat → Bool) (mm : Nat → Nat) (o : Nat → Bool) (r b : Nat → Nat) (i pp : Nat → Bool) (qe : Nat) (q : Nat → Nat) (a c : Nat) (o' : Nat → Bool) (r' b' : Nat → Nat) (i' p' : Nat → Bool) (qe' : Nat) (q' : Nat → Nat) (ha : a < 10) (hc : c < 10) (hF : bd_draw mm (o, r, b, i, pp, qe, q) a c = some (o', r', b', i', p', qe', q')) : bd_MV l yX0_drawTogether cX0_drawTogether 5 1 26 D h d sz [.int (nI a), .int (nI c)] (J, ab, mm, o, r, b, i, pp, qe, q) (J, ab, mm, o', r', b', i', p', qe', q') := by
  refine bd_ofW (Qc := bd_Qv D h d (J, ab, mm, o', r', b', i', p', qe', q')) (by decide) rfl (Nat.le_of_ble_eq_true rfl) ?_
  intro p e s m below meth c0 A C hr hk hA hw ls hl
  have hx := C.1.1
  have hb := C.1.2.1
  have hl : lv_has ls 5 [(0, .ref (h 0)), (1, .int (nI a)), (2, .int (nI c))] := hl
  unfold bd_draw at hF
  obtain ⟨⟨y, P⟩, hF1, hF⟩ := Option.bind_eq_some_iff.mp hF
  obtain ⟨hy, hF⟩ := bd_gd_some hF
  have hy : y < 10 := hy
  obtain ⟨⟨r1, i1⟩, hF2, hF⟩ := Option.bind_eq_some_iff.mp hF
  have hF2 : bd_mw mm b y 10 a c r (bd_fl 10 false i) = some (r1, i1) := hF2
  obtain ⟨⟨r2, i2⟩, hF3, hF⟩ := Option.bind_eq_some_iff.mp hF
  have hF3 : bd_mw mm b y 10 c a r1 i1 = some (r2, i2) := hF3
  obtain ⟨⟨b2, o2, qe2, q2⟩, hF4, hF⟩ := Option.bind_eq_some_iff.mp hF
  have hF4 : bd_dt y i2 10 0 b o qe q = some (b2, o2, qe2, q2) := hF4
  obtain ⟨rfl, rfl, rfl, rfl, rfl, rfl, rfl⟩ : o2 = o' ∧ r2 = r' ∧ b2 = b' ∧ i2 = i' ∧ P = p' ∧ qe2 = qe' ∧ q2 = q' := by simpa using hF
  have lp2 : ∀ (n : Nat) (k : Nat) (b1 : Nat → Nat) (o1 : Nat → Bool) (qe1 : Nat) (q1 : Nat → Nat), k + n = 10 → bd_dt y i2 n k b1 o1 qe1 q1 = some (b2, o2, qe2, q2) → ∀ (H : Heap) (locs : List Loc), bd_at D h d A s.heap H locs (J, ab, mm, o1, r2, b1, i2, P, qe1, q1) → ∀ ls : Array Slot, lv_has ls 5 [(0, .ref (h 0)), (3, .int (nI y)), (4, .int (nI k))] → W p l e { frames := 1, cells := 0, slots := 0, locals := 26 } s m (([.ref (h 0), .int (nI a), .int (nI c)] : List Value).toArray) below meth c0 H locs 0 0 (MQ below (bd_Qv D h d (J, ab, mm, o2, r2, b2, i2, P, qe2, q2) A) (([.ref (h 0), .int (nI a), .int (nI c)] : List Value).toArray) s 0 0 A) (F0 m 48 ls []) := by
    intro n
    induction n with
    | zero =>
      intro k b1 o1 qe1 q1 e1 e2 H locs hw ls hl
      refine lv_iload hx hb dX0_drawTogether_48 (lv_at hl 2 rfl) ?_
      refine lv_bipush (v := nI 10) hx hb dX0_drawTogether_50 (by decide) ?_
      refine lv_icmp_ge (tgt := 90) hx hb dX0_drawTogether_52 (by decide) (fun c_1 => ?_) (fun c_1 => ?_)
      · skip
        obtain ⟨rfl, rfl, rfl, rfl⟩ : b1 = b2 ∧ o1 = o2 ∧ qe1 = qe2 ∧ q1 = q2 := by simpa [bd_dt] using e2
        exact bd_vret C hr hk hw dX0_drawTogether_90
      · skip
        exact absurd ((bd_le10 (by omega)).mpr (by omega)) c_1
    | succ n ih =>
      intro k b1 o1 qe1 q1 e1 e2 H locs hw ls hl
      unfold bd_dt at e2
      obtain ⟨g1, e2⟩ := bd_gd_some e2
      refine lv_iload hx hb dX0_drawTogether_48 (lv_at hl 2 rfl) ?_
      refine lv_bipush (v := nI 10) hx hb dX0_drawTogether_50 (by decide) ?_
      refine lv_icmp_ge (tgt := 90) hx hb dX0_drawTogether_52 (by decide) (fun c_2 => ?_) (fun c_2 => ?_)
      · skip
        have := (bd_le10 (by omega)).mp c_2
        omega
      · skip
        refine lv_aload_n hx hb dX0_drawTogether_55 rfl (lv_at hl 0 rfl) ?_
        refine bd_getI C hw dX0_drawTogether_56 ?_
        refine lv_aload_n hx hb dX0_drawTogether_59 rfl (lv_at hl 0 rfl) ?_
        refine bd_getB C hw dX0_drawTogether_60 ?_
        refine lv_iload hx hb dX0_drawTogether_63 (lv_at hl 2 rfl) ?_
        refine bd_ldB C hw (k := k) (by omega) dX0_drawTogether_65 ?_
        refine bd_top (bd_enc_lt g1) ?_
        refine bd_ldI C hw (k := (b1 k)) g1 dX0_drawTogether_66 ?_
        refine lv_if_eq (tgt := 84) hx hb dX0_drawTogether_67 (by decide) (fun c_3 => ?_) (fun c_3 => ?_)
        · skip
          have h1 : ¬ i2 (b1 k) = true := fun z => absurd (z.symm.trans (bd_bz0.mp c_3)) (by decide)
          rw [if_neg h1] at e2
          refine lv_iinc (v := nI (k + 1)) (lv' := [(4, .int (nI (k + 1))), (0, .ref (h 0)), (3, .int (nI y))]) hx hb dX0_drawTogether_84 hl (k := 2) rfl (nI_1 k) (by decide) rfl (fun ls hl => ?_)
          refine lv_goto (tgt := 48) hx hb dX0_drawTogether_87 (by decide) ?_
          exact ih (k + 1) _ _ _ _ (by omega) e2 _ _ hw ls (lv_sub hl [1, 2, 0] rfl)
        · skip
          have h1 : i2 (b1 k) = true := bd_bz1.mp c_3
          rw [if_pos h1] at e2
          obtain ⟨⟨o3, qe3, q3⟩, e3, e2⟩ := Option.bind_eq_some_iff.mp e2
          refine lv_aload_n hx hb dX0_drawTogether_70 rfl (lv_at hl 0 rfl) ?_
          refine bd_getB C hw dX0_drawTogether_71 ?_
          refine lv_iload hx hb dX0_drawTogether_74 (lv_at hl 2 rfl) ?_
          refine lv_iload_n hx hb dX0_drawTogether_76 rfl (lv_at hl 1 rfl) ?_
          refine bd_stB C hw (k := k) y (by omega) (bd_enc_lt hy).symm dX0_drawTogether_77 (fun H locs hw => ?_)
          refine lv_aload_n hx hb dX0_drawTogether_78 rfl (lv_at hl 0 rfl) ?_
          refine lv_iload hx hb dX0_drawTogether_79 (lv_at hl 2 rfl) ?_
          refine bd_callv C hw hA (bd_m_makeOuter l D h d _ _ _ _ _ _ _ _ _ _ _ k o3 qe3 q3 (by omega) e3) (cwV 1 C.1.2.2.2.2 (lw_V q85 q87 qs3 q15 q88) rfl rfl rfl (by decide +kernel) ⟨Nat.le_of_ble_eq_true rfl, Nat.le_of_ble_eq_true rfl⟩) rfl hl.1 rfl (Nat.le_of_ble_eq_true rfl) dX0_drawTogether_81 ⟨Nat.zero_le _, Nat.zero_le _⟩ (fun H locs hw => ?_)
          refine lv_iinc (v := nI (k + 1)) (lv' := [(4, .int (nI (k + 1))), (0, .ref (h 0)), (3, .int (nI y))]) hx hb dX0_drawTogether_84 hl (k := 2) rfl (nI_1 k) (by decide) rfl (fun ls hl => ?_)
          refine lv_goto (tgt := 48) hx hb dX0_drawTogether_87 (by decide) ?_
          exact ih (k + 1) _ _ _ _ (by omega) e2 _ _ hw ls (lv_sub hl [1, 2, 0] rfl)
  have lp1 : ∀ (n : Nat) (k : Nat), k + n = 10 → ∀ (H : Heap) (locs : List Loc), bd_at D h d A s.heap H locs (J, ab, mm, o, r, b, bd_fl k false i, P, qe, q) → ∀ ls : Array Slot, lv_has ls 5 [(0, .ref (h 0)), (1, .int (nI a)), (2, .int (nI c)), (3, .int (nI y)), (4, .int (nI k))] → W p l e { frames := 1, cells := 0, slots := 0, locals := 26 } s m (([.ref (h 0), .int (nI a), .int (nI c)] : List Value).toArray) below meth c0 H locs 0 0 (MQ below (bd_Qv D h d (J, ab, mm, o2, r2, b2, i2, P, qe2, q2) A) (([.ref (h 0), .int (nI a), .int (nI c)] : List Value).toArray) s 0 0 A) (F0 m 10 ls []) := by
    intro n
    induction n with
    | zero =>
      intro k e1 H locs hw ls hl
      refine lv_iload hx hb dX0_drawTogether_10 (lv_at hl 4 rfl) ?_
      refine lv_bipush (v := nI 10) hx hb dX0_drawTogether_12 (by decide) ?_
      refine lv_icmp_ge (tgt := 31) hx hb dX0_drawTogether_14 (by decide) (fun c_4 => ?_) (fun c_4 => ?_)
      · skip
        have e1 : k = 10 := by omega
        subst e1
        refine lv_aload_n hx hb dX0_drawTogether_31 rfl (lv_at hl 0 rfl) ?_
        refine lv_iload_n hx hb dX0_drawTogether_32 rfl (lv_at hl 1 rfl) ?_
        refine lv_iload_n hx hb dX0_drawTogether_33 rfl (lv_at hl 3 rfl) ?_
        refine lv_iload_n hx hb dX0_drawTogether_34 rfl (lv_at hl 2 rfl) ?_
        refine bd_callv C hw hA (bd_m_markWay l D h d _ _ _ _ _ _ _ _ _ _ _ a y c r1 i1 ha hy hc hF2) (cwV 3 C.1.2.2.2.2 (lw_V q101 q103 qs7 q15 q104) rfl rfl rfl (by decide +kernel) ⟨Nat.le_of_ble_eq_true rfl, Nat.le_of_ble_eq_true rfl⟩) rfl hl.1 rfl (Nat.le_of_ble_eq_true rfl) dX0_drawTogether_35 ⟨Nat.zero_le _, Nat.zero_le _⟩ (fun H locs hw => ?_)
        refine lv_aload_n hx hb dX0_drawTogether_38 rfl (lv_at hl 0 rfl) ?_
        refine lv_iload_n hx hb dX0_drawTogether_39 rfl (lv_at hl 2 rfl) ?_
        refine lv_iload_n hx hb dX0_drawTogether_40 rfl (lv_at hl 3 rfl) ?_
        refine lv_iload_n hx hb dX0_drawTogether_41 rfl (lv_at hl 1 rfl) ?_
        refine bd_callv C hw hA (bd_m_markWay l D h d _ _ _ _ _ _ _ _ _ _ _ c y a r2 i2 hc hy ha hF3) (cwV 3 C.1.2.2.2.2 (lw_V q101 q103 qs7 q15 q104) rfl rfl rfl (by decide +kernel) ⟨Nat.le_of_ble_eq_true rfl, Nat.le_of_ble_eq_true rfl⟩) rfl hl.1 rfl (Nat.le_of_ble_eq_true rfl) dX0_drawTogether_42 ⟨Nat.zero_le _, Nat.zero_le _⟩ (fun H locs hw => ?_)
        refine lv_iconst (v := nI 0) hx hb dX0_drawTogether_45 (by decide) ?_
        refine lv_istore (lv' := [(4, .int (nI 0)), (0, .ref (h 0)), (1, .int (nI a)), (2, .int (nI c)), (3, .int (nI y))]) hx hb dX0_drawTogether_46 hl (by decide) rfl (fun ls hl => ?_)
        exact lp2 10 0 b o qe q rfl hF4 _ _ hw ls (lv_sub hl [1, 4, 0] rfl)
      · skip
        exact absurd ((bd_le10 (by omega)).mpr (by omega)) c_4
    | succ n ih =>
      intro k e1 H locs hw ls hl
      refine lv_iload hx hb dX0_drawTogether_10 (lv_at hl 4 rfl) ?_
      refine lv_bipush (v := nI 10) hx hb dX0_drawTogether_12 (by decide) ?_
      refine lv_icmp_ge (tgt := 31) hx hb dX0_drawTogether_14 (by decide) (fun c_5 => ?_) (fun c_5 => ?_)
      · skip
        have := (bd_le10 (by omega)).mp c_5
        omega
      · skip
        refine lv_aload_n hx hb dX0_drawTogether_17 rfl (lv_at hl 0 rfl) ?_
        refine bd_getI C hw dX0_drawTogether_18 ?_
        refine lv_iload hx hb dX0_drawTogether_21 (lv_at hl 4 rfl) ?_
        refine lv_iconst (v := bd_bz false) hx hb dX0_drawTogether_23 (by decide) ?_
        refine bd_stI C hw (k := k) false (by omega) rfl dX0_drawTogether_24 (fun H locs hw => ?_)
        rw [bd_fl_s] at hw
        refine lv_iinc (v := nI (k + 1)) (lv' := [(4, .int (nI (k + 1))), (0, .ref (h 0)), (1, .int (nI a)), (2, .int (nI c)), (3, .int (nI y))]) hx hb dX0_drawTogether_25 hl (k := 4) rfl (nI_1 k) (by decide) rfl (fun ls hl => ?_)
        refine lv_goto (tgt := 10) hx hb dX0_drawTogether_28 (by decide) ?_
        exact ih (k + 1) (by omega) _ _ hw ls (lv_sub hl [1, 2, 3, 4, 0] rfl)
  refine lv_aload_n hx hb dX0_drawTogether_0 rfl (lv_at hl 0 rfl) ?_
  refine lv_iload_n hx hb dX0_drawTogether_1 rfl (lv_at hl 1 rfl) ?_
  refine lv_iload_n hx hb dX0_drawTogether_2 rfl (lv_at hl 2 rfl) ?_
  refine bd_calli C hw hA (bd_m_meetingBase l D h d _ _ _ _ _ _ _ _ _ _ _ a c y P ha hc hF1) (cwV 2 C.1.2.2.2.2 (lw_V q97 q99 qs6 q15 q100) rfl rfl rfl (by decide +kernel) ⟨Nat.le_of_ble_eq_true rfl, Nat.le_of_ble_eq_true rfl⟩) rfl hl.1 rfl (Nat.le_of_ble_eq_true rfl) dX0_drawTogether_3 ⟨Nat.zero_le _, Nat.zero_le _⟩ (fun H locs hw => ?_)
  refine bd_top (y := nI y) (bd_enc_lt hy) ?_
  refine lv_istore_n (lv' := [(3, .int (nI y)), (0, .ref (h 0)), (1, .int (nI a)), (2, .int (nI c))]) hx hb dX0_drawTogether_6 rfl hl (by decide) rfl (fun ls hl => ?_)
  refine lv_iconst (v := nI 0) hx hb dX0_drawTogether_7 (by decide) ?_
  refine lv_istore (lv' := [(4, .int (nI 0)), (3, .int (nI y)), (0, .ref (h 0)), (1, .int (nI a)), (2, .int (nI c))]) hx hb dX0_drawTogether_8 hl (by decide) rfl (fun ls hl => ?_)
  exact lp1 10 0 rfl _ _ (by rw [bd_fl_0]; exact hw) ls (lv_sub hl [2, 3, 4, 1, 0] rfl)
set_option maxHeartbeats 4000000 in
set_option maxRecDepth 100000 in
/-- follow(fr, to, root) -/
theorem bd_m_follow (l : Launch) (D : va_G) (h : Nat → Nat) (d : Nat → ClassId) (sz : Nat) (J : Nat → Nat → Bool) (ab : Nat → Bool) (mm : Nat → Nat) (o : Nat → Bool) (r b : Nat → Nat) (i pp : Nat → Bool) (qe : Nat) (q : Nat → Nat) (fr to root e' : Nat) (o' : Nat → Bool) (r' b' : Nat → Nat) (i' p' : Nat → Bool) (qe' : Nat) (q' : Nat → Nat) (hfr : fr < 10) (hto : to < 10) (hro : root < 10) (hF : bd_follow mm (o, r, b, i, pp, qe, q) fr to root = some (e', (o', r', b', i', p', qe', q'))) : bd_MI l yX0_follow cX0_follow 5 (some .int) 2 50 D h d sz [.int (nI fr), .int (nI to), .int (nI root)] (J, ab, mm, o, r, b, i, pp, qe, q) (bd_enc e') (J, ab, mm, o', r', b', i', p', qe', q') := by
  refine bd_ofW (Qc := bd_Qi D h d (bd_enc e') (J, ab, mm, o', r', b', i', p', qe', q')) (by decide) rfl (Nat.le_of_ble_eq_true rfl) ?_
  intro p e s m below meth c0 A C hr hk hA hw ls hl
  have hx := C.1.1
  have hb := C.1.2.1
  have hl : lv_has ls 5 [(0, .ref (h 0)), (1, .int (nI fr)), (2, .int (nI to)), (3, .int (nI root))] := hl
  unfold bd_follow at hF
  obtain ⟨⟨g1, g2⟩, hF⟩ := bd_gd_some hF
  have g1 : b fr < 10 := g1
  have g2 : b to < 10 := g2
  simp only at hF
  refine lv_aload_n hx hb dX0_follow_0 rfl (lv_at hl 0 rfl) ?_
  refine bd_getB C hw dX0_follow_1 ?_
  refine lv_iload_n hx hb dX0_follow_4 rfl (lv_at hl 1 rfl) ?_
  refine bd_ldB C hw (k := fr) (by omega) dX0_follow_5 ?_
  refine bd_top (bd_enc_lt g1) ?_
  refine lv_aload_n hx hb dX0_follow_6 rfl (lv_at hl 0 rfl) ?_
  refine bd_getB C hw dX0_follow_7 ?_
  refine lv_iload_n hx hb dX0_follow_10 rfl (lv_at hl 2 rfl) ?_
  refine bd_ldB C hw (k := to) (by omega) dX0_follow_11 ?_
  refine bd_top (bd_enc_lt g2) ?_
  refine lv_icmp_eq (tgt := 25) hx hb dX0_follow_12 (by decide) (fun c_1 => ?_) (fun c_1 => ?_)
  · skip
    have h1 : b fr = b to := (nI_eq (by omega) (by omega)).mp c_1
    rw [if_pos (Or.inl h1)] at hF
    obtain ⟨rfl, rfl, rfl, rfl, rfl, rfl, rfl, rfl⟩ : 10 = e' ∧ o = o' ∧ r = r' ∧ b = b' ∧ i = i' ∧ pp = p' ∧ qe = qe' ∧ q = q' := by simpa using hF
    refine lv_iconst (v := bd_enc 10) hx hb dX0_follow_25 (by decide) ?_
    exact bd_iret C hr hk hw dX0_follow_26
  · skip
    have h1 : ¬ b fr = b to := fun z => c_1 (by rw [z])
    refine lv_aload_n hx hb dX0_follow_15 rfl (lv_at hl 0 rfl) ?_
    refine bd_getM C hw dX0_follow_16 ?_
    refine lv_iload_n hx hb dX0_follow_19 rfl (lv_at hl 1 rfl) ?_
    refine bd_ldM C hw (k := fr) (by omega) dX0_follow_20 ?_
    refine lv_iload_n hx hb dX0_follow_21 rfl (lv_at hl 2 rfl) ?_
    refine lv_icmp_ne (tgt := 27) hx hb dX0_follow_22 (by decide) (fun c_2 => ?_) (fun c_2 => ?_)
    · skip
      have h2 : ¬ mm fr = to := fun z => c_2 ((bd_enc_nI hto).mpr z)
      rw [if_neg (fun z => z.elim h1 h2)] at hF
      refine lv_iload_n hx hb dX0_follow_27 rfl (lv_at hl 2 rfl) ?_
      refine lv_iload_n hx hb dX0_follow_28 rfl (lv_at hl 3 rfl) ?_
      refine lv_icmp_eq (tgt := 55) hx hb dX0_follow_29 (by decide) (fun c_3 => ?_) (fun c_3 => ?_)
      · skip
        have h3 : to = root := (nI_eq (by omega) (by omega)).mp c_3
        have c2 : to = root ∨ (mm to < 10 ∧ r (mm to) < 10) := Or.inl h3
        rw [if_pos c2] at hF
        obtain ⟨⟨o2, r2, b2, i2, p2, qe2, q2⟩, hF5, hF⟩ := Option.bind_eq_some_iff.mp hF
        obtain ⟨rfl, rfl, rfl, rfl, rfl, rfl, rfl, rfl⟩ : 10 = e' ∧ o2 = o' ∧ r2 = r' ∧ b2 = b' ∧ i2 = i' ∧ p2 = p' ∧ qe2 = qe' ∧ q2 = q' := by simpa using hF
        refine lv_iconst (v := nI 1) hx hb dX0_follow_55 (by decide) ?_
        refine lv_goto (tgt := 60) hx hb dX0_follow_56 (by decide) ?_
        refine lv_istore (lv' := [(4, .int (nI 1)), (0, .ref (h 0)), (1, .int (nI fr)), (2, .int (nI to)), (3, .int (nI root))]) hx hb dX0_follow_60 hl (by decide) rfl (fun ls hl => ?_)
        refine lv_iload hx hb dX0_follow_62 (lv_at hl 0 rfl) ?_
        refine lv_if_eq (tgt := 76) hx hb dX0_follow_64 (by decide) (fun c_4 => ?_) (fun c_4 => ?_)
        · skip
          exact absurd c_4 (by decide)
        · skip
          refine lv_aload_n hx hb dX0_follow_67 rfl (lv_at hl 1 rfl) ?_
          refine lv_iload_n hx hb dX0_follow_68 rfl (lv_at hl 2 rfl) ?_
          refine lv_iload_n hx hb dX0_follow_69 rfl (lv_at hl 3 rfl) ?_
          refine bd_callv C hw hA (bd_m_drawTogether l D h d _ _ _ _ _ _ _ _ _ _ _ fr to o2 r2 b2 i2 p2 qe2 q2 hfr hto hF5) (cwV 2 C.1.2.2.2.2 (lw_V q93 q95 qs5 q15 q96) rfl rfl rfl (by decide +kernel) ⟨Nat.le_of_ble_eq_true rfl, Nat.le_of_ble_eq_true rfl⟩) rfl hl.1 rfl (Nat.le_of_ble_eq_true rfl) dX0_follow_70 ⟨Nat.zero_le _, Nat.zero_le _⟩ (fun H locs hw => ?_)
          refine lv_goto (tgt := 113) hx hb dX0_follow_73 (by decide) ?_
          refine lv_iconst (v := bd_enc 10) hx hb dX0_follow_113 (by decide) ?_
          exact bd_iret C hr hk hw dX0_follow_114
      · skip
        have h3 : ¬ to = root := fun z => c_3 (by rw [z])
        refine lv_aload_n hx hb dX0_follow_32 rfl (lv_at hl 0 rfl) ?_
        refine bd_getM C hw dX0_follow_33 ?_
        refine lv_iload_n hx hb dX0_follow_36 rfl (lv_at hl 2 rfl) ?_
        refine bd_ldM C hw (k := to) (by omega) dX0_follow_37 ?_
        refine lv_if_lt (tgt := 59) hx hb dX0_follow_38 (by decide) (fun c_5 => ?_) (fun c_5 => ?_)
        · skip
          have h4 : ¬ mm to < 10 := bd_enc_neg.mp c_5
          have c2 : ¬ (to = root ∨ (mm to < 10 ∧ r (mm to) < 10)) := fun z => z.elim h3 (fun z => h4 z.1)
          rw [if_neg c2] at hF
          refine lv_iconst (v := nI 0) hx hb dX0_follow_59 (by decide) ?_
          refine lv_istore (lv' := [(4, .int (nI 0)), (0, .ref (h 0)), (1, .int (nI fr)), (2, .int (nI to)), (3, .int (nI root))]) hx hb dX0_follow_60 hl (by decide) rfl (fun ls hl => ?_)
          refine lv_iload hx hb dX0_follow_62 (lv_at hl 0 rfl) ?_
          refine lv_if_eq (tgt := 76) hx hb dX0_follow_64 (by decide) (fun c_6 => ?_) (fun c_6 => ?_)
          · skip
            refine lv_aload_n hx hb dX0_follow_76 rfl (lv_at hl 1 rfl) ?_
            refine bd_getR C hw dX0_follow_77 ?_
            refine lv_iload_n hx hb dX0_follow_80 rfl (lv_at hl 3 rfl) ?_
            refine bd_ldR C hw (k := to) (by omega) dX0_follow_81 ?_
            refine lv_if_ge (tgt := 113) hx hb dX0_follow_82 (by decide) (fun c_7 => ?_) (fun c_7 => ?_)
            · skip
              have h6 : r to < 10 := bd_enc_nn.mp c_7
              rw [if_pos h6] at hF
              obtain ⟨rfl, rfl, rfl, rfl, rfl, rfl, rfl, rfl⟩ : 10 = e' ∧ o = o' ∧ r = r' ∧ b = b' ∧ i = i' ∧ pp = p' ∧ qe = qe' ∧ q = q' := by simpa using hF
              refine lv_iconst (v := bd_enc 10) hx hb dX0_follow_113 (by decide) ?_
              exact bd_iret C hr hk hw dX0_follow_114
            · skip
              have h6 : ¬ r to < 10 := fun z => c_7 (bd_enc_nn.mpr z)
              rw [if_neg h6] at hF
              refine lv_aload_n hx hb dX0_follow_85 rfl (lv_at hl 1 rfl) ?_
              refine bd_getR C hw dX0_follow_86 ?_
              refine lv_iload_n hx hb dX0_follow_89 rfl (lv_at hl 3 rfl) ?_
              refine lv_iload_n hx hb dX0_follow_90 rfl (lv_at hl 2 rfl) ?_
              refine bd_stR C hw (k := to) fr (by omega) (bd_enc_lt hfr).symm dX0_follow_91 (fun H locs hw => ?_)
              refine lv_aload_n hx hb dX0_follow_92 rfl (lv_at hl 1 rfl) ?_
              refine bd_getM C hw dX0_follow_93 ?_
              refine lv_iload_n hx hb dX0_follow_96 rfl (lv_at hl 3 rfl) ?_
              refine bd_ldM C hw (k := to) (by omega) dX0_follow_97 ?_
              refine lv_if_ge (tgt := 103) hx hb dX0_follow_98 (by decide) (fun c_8 => ?_) (fun c_8 => ?_)
              · skip
                have h7 : mm to < 10 := bd_enc_nn.mp c_8
                rw [if_pos h7] at hF
                obtain ⟨⟨o2, qe2, q2⟩, hF5, hF⟩ := Option.bind_eq_some_iff.mp hF
                obtain ⟨rfl, rfl, rfl, rfl, rfl, rfl, rfl, rfl⟩ : 10 = e' ∧ o2 = o' ∧ va_up r to fr = r' ∧ b = b' ∧ i = i' ∧ pp = p' ∧ qe2 = qe' ∧ q2 = q' := by simpa using hF
                refine lv_aload_n hx hb dX0_follow_103 rfl (lv_at hl 1 rfl) ?_
                refine lv_aload_n hx hb dX0_follow_104 rfl (lv_at hl 1 rfl) ?_
                refine bd_getM C hw dX0_follow_105 ?_
                refine lv_iload_n hx hb dX0_follow_108 rfl (lv_at hl 3 rfl) ?_
                refine bd_ldM C hw (k := to) (by omega) dX0_follow_109 ?_
                refine bd_top (bd_enc_lt h7) ?_
                refine bd_callv C hw hA (bd_m_makeOuter l D h d _ _ _ _ _ _ _ _ _ _ _ (mm to) o2 qe2 q2 h7 hF5) (cwV 1 C.1.2.2.2.2 (lw_V q85 q87 qs3 q15 q88) rfl rfl rfl (by decide +kernel) ⟨Nat.le_of_ble_eq_true rfl, Nat.le_of_ble_eq_true rfl⟩) rfl hl.1 rfl (Nat.le_of_ble_eq_true rfl) dX0_follow_110 ⟨Nat.zero_le _, Nat.zero_le _⟩ (fun H locs hw => ?_)
                refine lv_iconst (v := bd_enc 10) hx hb dX0_follow_113 (by decide) ?_
                exact bd_iret C hr hk hw dX0_follow_114
              · skip
                have h7 : ¬ mm to < 10 := fun z => c_8 (bd_enc_nn.mpr z)
                rw [if_neg h7] at hF
                obtain ⟨rfl, rfl, rfl, rfl, rfl, rfl, rfl, rfl⟩ : to = e' ∧ o = o' ∧ va_up r to fr = r' ∧ b = b' ∧ i = i' ∧ pp = p' ∧ qe = qe' ∧ q = q' := by simpa using hF
                refine lv_iload_n hx hb dX0_follow_101 rfl (lv_at hl 3 rfl) ?_
                refine bd_top (y := bd_enc to) (bd_enc_lt hto).symm ?_
                exact bd_iret C hr hk hw dX0_follow_102
          · skip
            exact absurd nI_0 c_6
        · skip
          have h4 : mm to < 10 := Classical.not_not.mp (fun z => c_5 (bd_enc_neg.mpr z))
          refine lv_aload_n hx hb dX0_follow_41 rfl (lv_at hl 0 rfl) ?_
          refine bd_getR C hw dX0_follow_42 ?_
          refine lv_aload_n hx hb dX0_follow_45 rfl (lv_at hl 0 rfl) ?_
          refine bd_getM C hw dX0_follow_46 ?_
          refine lv_iload_n hx hb dX0_follow_49 rfl (lv_at hl 2 rfl) ?_
          refine bd_ldM C hw (k := to) (by omega) dX0_follow_50 ?_
          refine bd_top (bd_enc_lt h4) ?_
          refine bd_ldR C hw (k := (mm to)) h4 dX0_follow_51 ?_
          refine lv_if_lt (tgt := 59) hx hb dX0_follow_52 (by decide) (fun c_9 => ?_) (fun c_9 => ?_)
          · skip
            have h5 : ¬ r (mm to) < 10 := bd_enc_neg.mp c_9
            have c2 : ¬ (to = root ∨ (mm to < 10 ∧ r (mm to) < 10)) := fun z => z.elim h3 (fun z => h5 z.2)
            rw [if_neg c2] at hF
            refine lv_iconst (v := nI 0) hx hb dX0_follow_59 (by decide) ?_
            refine lv_istore (lv' := [(4, .int (nI 0)), (0, .ref (h 0)), (1, .int (nI fr)), (2, .int (nI to)), (3, .int (nI root))]) hx hb dX0_follow_60 hl (by decide) rfl (fun ls hl => ?_)
            refine lv_iload hx hb dX0_follow_62 (lv_at hl 0 rfl) ?_
            refine lv_if_eq (tgt := 76) hx hb dX0_follow_64 (by decide) (fun c_10 => ?_) (fun c_10 => ?_)
            · skip
              refine lv_aload_n hx hb dX0_follow_76 rfl (lv_at hl 1 rfl) ?_
              refine bd_getR C hw dX0_follow_77 ?_
              refine lv_iload_n hx hb dX0_follow_80 rfl (lv_at hl 3 rfl) ?_
              refine bd_ldR C hw (k := to) (by omega) dX0_follow_81 ?_
              refine lv_if_ge (tgt := 113) hx hb dX0_follow_82 (by decide) (fun c_11 => ?_) (fun c_11 => ?_)
              · skip
                have h6 : r to < 10 := bd_enc_nn.mp c_11
                rw [if_pos h6] at hF
                obtain ⟨rfl, rfl, rfl, rfl, rfl, rfl, rfl, rfl⟩ : 10 = e' ∧ o = o' ∧ r = r' ∧ b = b' ∧ i = i' ∧ pp = p' ∧ qe = qe' ∧ q = q' := by simpa using hF
                refine lv_iconst (v := bd_enc 10) hx hb dX0_follow_113 (by decide) ?_
                exact bd_iret C hr hk hw dX0_follow_114
              · skip
                have h6 : ¬ r to < 10 := fun z => c_11 (bd_enc_nn.mpr z)
                rw [if_neg h6] at hF
                refine lv_aload_n hx hb dX0_follow_85 rfl (lv_at hl 1 rfl) ?_
                refine bd_getR C hw dX0_follow_86 ?_
                refine lv_iload_n hx hb dX0_follow_89 rfl (lv_at hl 3 rfl) ?_
                refine lv_iload_n hx hb dX0_follow_90 rfl (lv_at hl 2 rfl) ?_
                refine bd_stR C hw (k := to) fr (by omega) (bd_enc_lt hfr).symm dX0_follow_91 (fun H locs hw => ?_)
                refine lv_aload_n hx hb dX0_follow_92 rfl (lv_at hl 1 rfl) ?_
                refine bd_getM C hw dX0_follow_93 ?_
                refine lv_iload_n hx hb dX0_follow_96 rfl (lv_at hl 3 rfl) ?_
                refine bd_ldM C hw (k := to) (by omega) dX0_follow_97 ?_
                refine lv_if_ge (tgt := 103) hx hb dX0_follow_98 (by decide) (fun c_12 => ?_) (fun c_12 => ?_)
                · skip
                  have h7 : mm to < 10 := bd_enc_nn.mp c_12
                  rw [if_pos h7] at hF
                  obtain ⟨⟨o2, qe2, q2⟩, hF5, hF⟩ := Option.bind_eq_some_iff.mp hF
                  obtain ⟨rfl, rfl, rfl, rfl, rfl, rfl, rfl, rfl⟩ : 10 = e' ∧ o2 = o' ∧ va_up r to fr = r' ∧ b = b' ∧ i = i' ∧ pp = p' ∧ qe2 = qe' ∧ q2 = q' := by simpa using hF
                  refine lv_aload_n hx hb dX0_follow_103 rfl (lv_at hl 1 rfl) ?_
                  refine lv_aload_n hx hb dX0_follow_104 rfl (lv_at hl 1 rfl) ?_
                  refine bd_getM C hw dX0_follow_105 ?_
                  refine lv_iload_n hx hb dX0_follow_108 rfl (lv_at hl 3 rfl) ?_
                  refine bd_ldM C hw (k := to) (by omega) dX0_follow_109 ?_
                  refine bd_top (bd_enc_lt h7) ?_
                  refine bd_callv C hw hA (bd_m_makeOuter l D h d _ _ _ _ _ _ _ _ _ _ _ (mm to) o2 qe2 q2 h7 hF5) (cwV 1 C.1.2.2.2.2 (lw_V q85 q87 qs3 q15 q88) rfl rfl rfl (by decide +kernel) ⟨Nat.le_of_ble_eq_true rfl, Nat.le_of_ble_eq_true rfl⟩) rfl hl.1 rfl (Nat.le_of_ble_eq_true rfl) dX0_follow_110 ⟨Nat.zero_le _, Nat.zero_le _⟩ (fun H locs hw => ?_)
                  refine lv_iconst (v := bd_enc 10) hx hb dX0_follow_113 (by decide) ?_
                  exact bd_iret C hr hk hw dX0_follow_114
                · skip
                  have h7 : ¬ mm to < 10 := fun z => c_12 (bd_enc_nn.mpr z)
                  rw [if_neg h7] at hF
                  obtain ⟨rfl, rfl, rfl, rfl, rfl, rfl, rfl, rfl⟩ : to = e' ∧ o = o' ∧ va_up r to fr = r' ∧ b = b' ∧ i = i' ∧ pp = p' ∧ qe = qe' ∧ q = q' := by simpa using hF
                  refine lv_iload_n hx hb dX0_follow_101 rfl (lv_at hl 3 rfl) ?_
                  refine bd_top (y := bd_enc to) (bd_enc_lt hto).symm ?_
                  exact bd_iret C hr hk hw dX0_follow_102
            · skip
              exact absurd nI_0 c_10
          · skip
            have h5 : r (mm to) < 10 := Classical.not_not.mp (fun z => c_9 (bd_enc_neg.mpr z))
            have c2 : to = root ∨ (mm to < 10 ∧ r (mm to) < 10) := Or.inr ⟨h4, h5⟩
            rw [if_pos c2] at hF
            obtain ⟨⟨o2, r2, b2, i2, p2, qe2, q2⟩, hF5, hF⟩ := Option.bind_eq_some_iff.mp hF
            obtain ⟨rfl, rfl, rfl, rfl, rfl, rfl, rfl, rfl⟩ : 10 = e' ∧ o2 = o' ∧ r2 = r' ∧ b2 = b' ∧ i2 = i' ∧ p2 = p' ∧ qe2 = qe' ∧ q2 = q' := by simpa using hF
            refine lv_iconst (v := nI 1) hx hb dX0_follow_55 (by decide) ?_
            refine lv_goto (tgt := 60) hx hb dX0_follow_56 (by decide) ?_
            refine lv_istore (lv' := [(4, .int (nI 1)), (0, .ref (h 0)), (1, .int (nI fr)), (2, .int (nI to)), (3, .int (nI root))]) hx hb dX0_follow_60 hl (by decide) rfl (fun ls hl => ?_)
            refine lv_iload hx hb dX0_follow_62 (lv_at hl 0 rfl) ?_
            refine lv_if_eq (tgt := 76) hx hb dX0_follow_64 (by decide) (fun c_13 => ?_) (fun c_13 => ?_)
            · skip
              exact absurd c_13 (by decide)
            · skip
              refine lv_aload_n hx hb dX0_follow_67 rfl (lv_at hl 1 rfl) ?_
              refine lv_iload_n hx hb dX0_follow_68 rfl (lv_at hl 2 rfl) ?_
              refine lv_iload_n hx hb dX0_follow_69 rfl (lv_at hl 3 rfl) ?_
              refine bd_callv C hw hA (bd_m_drawTogether l D h d _ _ _ _ _ _ _ _ _ _ _ fr to o2 r2 b2 i2 p2 qe2 q2 hfr hto hF5) (cwV 2 C.1.2.2.2.2 (lw_V q93 q95 qs5 q15 q96) rfl rfl rfl (by decide +kernel) ⟨Nat.le_of_ble_eq_true rfl, Nat.le_of_ble_eq_true rfl⟩) rfl hl.1 rfl (Nat.le_of_ble_eq_true rfl) dX0_follow_70 ⟨Nat.zero_le _, Nat.zero_le _⟩ (fun H locs hw => ?_)
              refine lv_goto (tgt := 113) hx hb dX0_follow_73 (by decide) ?_
              refine lv_iconst (v := bd_enc 10) hx hb dX0_follow_113 (by decide) ?_
              exact bd_iret C hr hk hw dX0_follow_114
    · skip
      have h2 : mm fr = to := (bd_enc_nI hto).mp c_2
      rw [if_pos (Or.inr h2)] at hF
      obtain ⟨rfl, rfl, rfl, rfl, rfl, rfl, rfl, rfl⟩ : 10 = e' ∧ o = o' ∧ r = r' ∧ b = b' ∧ i = i' ∧ pp = p' ∧ qe = qe' ∧ q = q' := by simpa using hF
      refine lv_iconst (v := bd_enc 10) hx hb dX0_follow_25 (by decide) ?_
      exact bd_iret C hr hk hw dX0_follow_26
set_option maxHeartbeats 4000000 in
set_option maxRecDepth 100000 in
/-- search(root) -/
theorem bd_m_search (l : Launch) (D : va_G) (h : Nat → Nat) (d : Nat → ClassId) (sz : Nat) (J : Nat → Nat → Bool) (ab : Nat → Bool) (mm : Nat → Nat) (o : Nat → Bool) (r b : Nat → Nat) (i pp : Nat → Bool) (qe : Nat) (q : Nat → Nat) (root e' : Nat) (o' : Nat → Bool) (r' b' : Nat → Nat) (i' p' : Nat → Bool) (qe' : Nat) (q' : Nat → Nat) (hro : root < 10) (hF : bd_search J ab mm (o, r, b, i, pp, qe, q) root = some (e', (o', r', b', i', p', qe', q'))) : bd_MI l yX0_search cX0_search 6 (some .int) 3 74 D h d sz [.int (nI root)] (J, ab, mm, o, r, b, i, pp, qe, q) (bd_enc e') (J, ab, mm, o', r', b', i', p', qe', q') := by
  refine bd_ofW (Qc := bd_Qi D h d (bd_enc e') (J, ab, mm, o', r', b', i', p', qe', q')) (by decide) rfl (Nat.le_of_ble_eq_true rfl) ?_
  intro p e s m below meth c0 A C hr hk hA hw ls hl
  have hx := C.1.1
  have hb := C.1.2.1
  have hl : lv_has ls 6 [(0, .ref (h 0)), (1, .int (nI root))] := hl
  unfold bd_search at hF
  obtain ⟨⟨o1, qe1, q1⟩, hF1, hF2⟩ := Option.bind_eq_some_iff.mp hF
  have hF1 : bd_makeOuter (bd_fl 10 false o) 0 q root = some (o1, qe1, q1) := hF1
  have hF2 : bd_s1 J ab mm root 10 0 (o1, bd_fl 10 10 r, bd_idn 10 b, i, pp, qe1, q1) = some (e', (o', r', b', i', p', qe', q')) := hF2
  have lp2 : ∀ (n k : Nat) (o1 : Nat → Bool) (r1 b1 : Nat → Nat) (i1 p1 : Nat → Bool) (qe1 : Nat) (q1 : Nat → Nat), k + n = 10 → bd_s1 J ab mm root n k (o1, r1, b1, i1, p1, qe1, q1) = some (e', (o', r', b', i', p', qe', q')) → ∀ (H : Heap) (locs : List Loc), bd_at D h d A s.heap H locs (J, ab, mm, o1, r1, b1, i1, p1, qe1, q1) → ∀ ls : Array Slot, lv_has ls 6 [(0, .ref (h 0)), (1, .int (nI root)), (2, .int (nI k))] → W p l e { frames := 3, cells := 0, slots := 0, locals := 74 } s m (([.ref (h 0), .int (nI root)] : List Value).toArray) below meth c0 H locs 0 0 (MQ below (bd_Qi D h d (bd_enc e') (J, ab, mm, o', r', b', i', p', qe', q') A) (([.ref (h 0), .int (nI root)] : List Value).toArray) s 0 0 A) (F0 m 47 ls []) := by
    intro n
    induction n with
    | zero =>
      intro k o1 r1 b1 i1 p1 qe1 q1 e1 e2 H locs hw ls hl
      refine lv_iload_n hx hb dX0_search_47 rfl (lv_at hl 2 rfl) ?_
      refine lv_aload_n hx hb dX0_search_48 rfl (lv_at hl 0 rfl) ?_
      refine bd_getE C hw dX0_search_49 ?_
      refine lv_icmp_ge (tgt := 144) hx hb dX0_search_52 (by decide) (fun c_1 => ?_) (fun c_1 => ?_)
      · skip
        obtain ⟨rfl, rfl, rfl, rfl, rfl, rfl, rfl, rfl⟩ : 10 = e' ∧ o1 = o' ∧ r1 = r' ∧ b1 = b' ∧ i1 = i' ∧ p1 = p' ∧ qe1 = qe' ∧ q1 = q' := by simpa [bd_s1] using e2
        refine lv_iconst (v := bd_enc 10) hx hb dX0_search_144 (by decide) ?_
        exact bd_iret C hr hk hw dX0_search_145
      · skip
        refine lv_iload_n hx hb dX0_search_55 rfl (lv_at hl 2 rfl) ?_
        refine lv_bipush (v := nI 10) hx hb dX0_search_56 (by decide) ?_
        refine lv_icmp_ge (tgt := 144) hx hb dX0_search_58 (by decide) (fun c_2 => ?_) (fun c_2 => ?_)
        · skip
          obtain ⟨rfl, rfl, rfl, rfl, rfl, rfl, rfl, rfl⟩ : 10 = e' ∧ o1 = o' ∧ r1 = r' ∧ b1 = b' ∧ i1 = i' ∧ p1 = p' ∧ qe1 = qe' ∧ q1 = q' := by simpa [bd_s1] using e2
          refine lv_iconst (v := bd_enc 10) hx hb dX0_search_144 (by decide) ?_
          exact bd_iret C hr hk hw dX0_search_145
        · skip
          exact absurd ((bd_le10 (by omega)).mpr (by omega)) c_2
    | succ n ih =>
      intro k o1 r1 b1 i1 p1 qe1 q1 e1 e2 H locs hw ls hl
      unfold bd_s1 at e2
      obtain ⟨gq, e2⟩ := bd_gd_some e2
      have gq : qe1 ≤ 10 := gq
      simp only at e2
      refine lv_iload_n hx hb dX0_search_47 rfl (lv_at hl 2 rfl) ?_
      refine lv_aload_n hx hb dX0_search_48 rfl (lv_at hl 0 rfl) ?_
      refine bd_getE C hw dX0_search_49 ?_
      refine lv_icmp_ge (tgt := 144) hx hb dX0_search_52 (by decide) (fun c_3 => ?_) (fun c_3 => ?_)
      · skip
        have h1 : ¬ k < qe1 := Nat.not_lt.mpr ((nI_leI (by omega) (by omega)).mp c_3)
        rw [if_neg h1] at e2
        obtain ⟨rfl, rfl, rfl, rfl, rfl, rfl, rfl, rfl⟩ : 10 = e' ∧ o1 = o' ∧ r1 = r' ∧ b1 = b' ∧ i1 = i' ∧ p1 = p' ∧ qe1 = qe' ∧ q1 = q' := by simpa using e2
        refine lv_iconst (v := bd_enc 10) hx hb dX0_search_144 (by decide) ?_
        exact bd_iret C hr hk hw dX0_search_145
      · skip
        have h1 : k < qe1 := Nat.not_le.mp (fun z => c_3 ((nI_leI (by omega) (by omega)).mpr z))
        rw [if_pos h1] at e2
        refine lv_iload_n hx hb dX0_search_55 rfl (lv_at hl 2 rfl) ?_
        refine lv_bipush (v := nI 10) hx hb dX0_search_56 (by decide) ?_
        refine lv_icmp_ge (tgt := 144) hx hb dX0_search_58 (by decide) (fun c_4 => ?_) (fun c_4 => ?_)
        · skip
          have := (bd_le10 (by omega)).mp c_4
          omega
        · skip
          refine lv_iconst (v := nI 0) hx hb dX0_search_61 (by decide) ?_
          refine lv_istore_n (lv' := [(3, .int (nI 0)), (0, .ref (h 0)), (1, .int (nI root)), (2, .int (nI k))]) hx hb dX0_search_62 rfl hl (by decide) rfl (fun ls hl => ?_)
          obtain ⟨⟨ex, ox, rx, bx, ix, px, qex, qx⟩, e5, e6⟩ := Option.bind_eq_some_iff.mp e2
          simp only at e6
          have lp3 : ∀ (n2 to : Nat) (o3 : Nat → Bool) (r3 b3 : Nat → Nat) (i3 p3 : Nat → Bool) (qe3 : Nat) (q3 : Nat → Nat), to + n2 = 10 → bd_s2 J ab mm root k n2 to (o3, r3, b3, i3, p3, qe3, q3) = some (ex, (ox, rx, bx, ix, px, qex, qx)) → ∀ (H : Heap) (locs : List Loc), bd_at D h d A s.heap H locs (J, ab, mm, o3, r3, b3, i3, p3, qe3, q3) → ∀ ls : Array Slot, lv_has ls 6 [(0, .ref (h 0)), (1, .int (nI root)), (2, .int (nI k)), (3, .int (nI to))] → W p l e { frames := 3, cells := 0, slots := 0, locals := 74 } s m (([.ref (h 0), .int (nI root)] : List Value).toArray) below meth c0 H locs 0 0 (MQ below (bd_Qi D h d (bd_enc e') (J, ab, mm, o', r', b', i', p', qe', q') A) (([.ref (h 0), .int (nI root)] : List Value).toArray) s 0 0 A) (F0 m 63 ls []) := by
            intro n2
            induction n2 with
            | zero =>
              intro to o3 r3 b3 i3 p3 qe3 q3 f1 f2 H locs hw ls hl
              refine lv_iload_n hx hb dX0_search_63 rfl (lv_at hl 3 rfl) ?_
              refine lv_bipush (v := nI 10) hx hb dX0_search_64 (by decide) ?_
              refine lv_icmp_ge (tgt := 138) hx hb dX0_search_66 (by decide) (fun c_5 => ?_) (fun c_5 => ?_)
              · skip
                obtain ⟨rfl, rfl, rfl, rfl, rfl, rfl, rfl, rfl⟩ : 10 = ex ∧ o3 = ox ∧ r3 = rx ∧ b3 = bx ∧ i3 = ix ∧ p3 = px ∧ qe3 = qex ∧ q3 = qx := by simpa [bd_s2] using f2
                rw [if_neg (by decide)] at e6
                refine lv_iinc (v := nI (k + 1)) (lv' := [(2, .int (nI (k + 1))), (0, .ref (h 0)), (1, .int (nI root)), (3, .int (nI to))]) hx hb dX0_search_138 hl (k := 2) rfl (nI_1 k) (by decide) rfl (fun ls hl => ?_)
                refine lv_goto (tgt := 47) hx hb dX0_search_141 (by decide) ?_
                exact ih (k + 1) _ _ _ _ _ _ _ (by omega) e6 _ _ hw ls (lv_sub hl [1, 2, 0] rfl)
              · skip
                exact absurd ((bd_le10 (by omega)).mpr (by omega)) c_5
            | succ n2 ih2 =>
              intro to o3 r3 b3 i3 p3 qe3 q3 f1 f2 H locs hw ls hl
              unfold bd_s2 at f2
              obtain ⟨g1, f2⟩ := bd_gd_some f2
              have g1 : q3 k < 10 := g1
              simp only at f2
              refine lv_iload_n hx hb dX0_search_63 rfl (lv_at hl 3 rfl) ?_
              refine lv_bipush (v := nI 10) hx hb dX0_search_64 (by decide) ?_
              refine lv_icmp_ge (tgt := 138) hx hb dX0_search_66 (by decide) (fun c_6 => ?_) (fun c_6 => ?_)
              · skip
                have := (bd_le10 (by omega)).mp c_6
                omega
              · skip
                refine lv_aload_n hx hb dX0_search_69 rfl (lv_at hl 0 rfl) ?_
                refine lv_aload_n hx hb dX0_search_70 rfl (lv_at hl 0 rfl) ?_
                refine bd_getQ C hw dX0_search_71 ?_
                refine lv_iload_n hx hb dX0_search_74 rfl (lv_at hl 2 rfl) ?_
                refine bd_ldQ C hw (k := k) (by omega) dX0_search_75 ?_
                refine bd_top (bd_enc_lt g1) ?_
                refine lv_iload_n hx hb dX0_search_76 rfl (lv_at hl 3 rfl) ?_
                refine bd_calli C hw hA (bd_m_isLine l D h d _ _ _ _ _ _ _ _ _ _ _ (q3 k) to g1 (by omega)) (cwV 2 C.1.2.2.2.2 (lw_V q65 q67 qs0 q15 q68) rfl rfl rfl (by decide +kernel) ⟨Nat.le_of_ble_eq_true rfl, Nat.le_of_ble_eq_true rfl⟩) rfl hl.1 rfl (Nat.le_of_ble_eq_true rfl) dX0_search_77 ⟨Nat.zero_le _, Nat.zero_le _⟩ (fun H locs hw => ?_)
                refine lv_if_eq (tgt := 98) hx hb dX0_search_80 (by decide) (fun c_7 => ?_) (fun c_7 => ?_)
                · skip
                  have h2 : ¬ (J (q3 k) to = true ∧ ab to = false) := fun z => absurd (z.1.symm.trans (bd_bz0.mp c_7)) (by decide)
                  rw [if_neg h2] at f2
                  refine lv_iconst (v := nI 0) hx hb dX0_search_98 (by decide) ?_
                  refine lv_istore (lv' := [(4, .int (nI 0)), (0, .ref (h 0)), (1, .int (nI root)), (2, .int (nI k)), (3, .int (nI to))]) hx hb dX0_search_99 hl (by decide) rfl (fun ls hl => ?_)
                  refine lv_iload hx hb dX0_search_101 (lv_at hl 0 rfl) ?_
                  refine lv_if_eq (tgt := 121) hx hb dX0_search_103 (by decide) (fun c_8 => ?_) (fun c_8 => ?_)
                  · skip
                    refine lv_iconst (v := bd_enc 10) hx hb dX0_search_121 (by decide) ?_
                    refine lv_istore (lv' := [(5, .int (bd_enc 10)), (4, .int (nI 0)), (0, .ref (h 0)), (1, .int (nI root)), (2, .int (nI k)), (3, .int (nI to))]) hx hb dX0_search_122 hl (by decide) rfl (fun ls hl => ?_)
                    refine lv_iload hx hb dX0_search_124 (lv_at hl 0 rfl) ?_
                    refine lv_if_lt (tgt := 132) hx hb dX0_search_126 (by decide) (fun c_9 => ?_) (fun c_9 => ?_)
                    · skip
                      refine lv_iinc (v := nI (to + 1)) (lv' := [(3, .int (nI (to + 1))), (5, .int (bd_enc 10)), (4, .int (nI 0)), (0, .ref (h 0)), (1, .int (nI root)), (2, .int (nI k))]) hx hb dX0_search_132 hl (k := 5) rfl (nI_1 to) (by decide) rfl (fun ls hl => ?_)
                      refine lv_goto (tgt := 63) hx hb dX0_search_135 (by decide) ?_
                      exact ih2 (to + 1) _ _ _ _ _ _ _ (by omega) f2 _ _ hw ls (lv_sub hl [3, 4, 5, 0] rfl)
                    · skip
                      exact absurd (bd_enc_neg.mpr (by decide)) c_9
                  · skip
                    exact absurd nI_0 c_8
                · skip
                  have h1 : J (q3 k) to = true := bd_bz1.mp c_7
                  refine lv_aload_n hx hb dX0_search_83 rfl (lv_at hl 0 rfl) ?_
                  refine bd_getAB C hw dX0_search_84 ?_
                  refine lv_iload_n hx hb dX0_search_87 rfl (lv_at hl 3 rfl) ?_
                  refine lv_iushr hx hb dX0_search_88 rfl ?_
                  refine lv_iconst (v := nI 1) hx hb dX0_search_89 (by decide) ?_
                  refine lv_iand hx hb dX0_search_90 ?_
                  refine bd_top (y := bd_bz (ab to)) (bd_bit ab (by omega)) ?_
                  refine lv_if_ne (tgt := 98) hx hb dX0_search_91 (by decide) (fun c_10 => ?_) (fun c_10 => ?_)
                  · skip
                    have h3 : ab to = true := bd_bz1.mp c_10
                    have h2 : ¬ (J (q3 k) to = true ∧ ab to = false) := fun z => absurd (h3.symm.trans z.2) (by decide)
                    rw [if_neg h2] at f2
                    refine lv_iconst (v := nI 0) hx hb dX0_search_98 (by decide) ?_
                    refine lv_istore (lv' := [(4, .int (nI 0)), (0, .ref (h 0)), (1, .int (nI root)), (2, .int (nI k)), (3, .int (nI to))]) hx hb dX0_search_99 hl (by decide) rfl (fun ls hl => ?_)
                    refine lv_iload hx hb dX0_search_101 (lv_at hl 0 rfl) ?_
                    refine lv_if_eq (tgt := 121) hx hb dX0_search_103 (by decide) (fun c_11 => ?_) (fun c_11 => ?_)
                    · skip
                      refine lv_iconst (v := bd_enc 10) hx hb dX0_search_121 (by decide) ?_
                      refine lv_istore (lv' := [(5, .int (bd_enc 10)), (4, .int (nI 0)), (0, .ref (h 0)), (1, .int (nI root)), (2, .int (nI k)), (3, .int (nI to))]) hx hb dX0_search_122 hl (by decide) rfl (fun ls hl => ?_)
                      refine lv_iload hx hb dX0_search_124 (lv_at hl 0 rfl) ?_
                      refine lv_if_lt (tgt := 132) hx hb dX0_search_126 (by decide) (fun c_12 => ?_) (fun c_12 => ?_)
                      · skip
                        refine lv_iinc (v := nI (to + 1)) (lv' := [(3, .int (nI (to + 1))), (5, .int (bd_enc 10)), (4, .int (nI 0)), (0, .ref (h 0)), (1, .int (nI root)), (2, .int (nI k))]) hx hb dX0_search_132 hl (k := 5) rfl (nI_1 to) (by decide) rfl (fun ls hl => ?_)
                        refine lv_goto (tgt := 63) hx hb dX0_search_135 (by decide) ?_
                        exact ih2 (to + 1) _ _ _ _ _ _ _ (by omega) f2 _ _ hw ls (lv_sub hl [3, 4, 5, 0] rfl)
                      · skip
                        exact absurd (bd_enc_neg.mpr (by decide)) c_12
                    · skip
                      exact absurd nI_0 c_11
                  · skip
                    have h3 : ab to = false := bd_bz0.mp c_10
                    rw [if_pos ⟨h1, h3⟩] at f2
                    obtain ⟨⟨ey, oy, ry, bY, iy, py, qey, qy⟩, f3, f2⟩ := Option.bind_eq_some_iff.mp f2
                    simp only at f2
                    refine lv_iconst (v := nI 1) hx hb dX0_search_94 (by decide) ?_
                    refine lv_goto (tgt := 99) hx hb dX0_search_95 (by decide) ?_
                    refine lv_istore (lv' := [(4, .int (nI 1)), (0, .ref (h 0)), (1, .int (nI root)), (2, .int (nI k)), (3, .int (nI to))]) hx hb dX0_search_99 hl (by decide) rfl (fun ls hl => ?_)
                    refine lv_iload hx hb dX0_search_101 (lv_at hl 0 rfl) ?_
                    refine lv_if_eq (tgt := 121) hx hb dX0_search_103 (by decide) (fun c_13 => ?_) (fun c_13 => ?_)
                    · skip
                      exact absurd c_13 (by decide)
                    · skip
                      refine lv_aload_n hx hb dX0_search_106 rfl (lv_at hl 1 rfl) ?_
                      refine lv_aload_n hx hb dX0_search_107 rfl (lv_at hl 1 rfl) ?_
                      refine bd_getQ C hw dX0_search_108 ?_
                      refine lv_iload_n hx hb dX0_search_111 rfl (lv_at hl 3 rfl) ?_
                      refine bd_ldQ C hw (k := k) (by omega) dX0_search_112 ?_
                      refine bd_top (bd_enc_lt g1) ?_
                      refine lv_iload_n hx hb dX0_search_113 rfl (lv_at hl 4 rfl) ?_
                      refine lv_iload_n hx hb dX0_search_114 rfl (lv_at hl 2 rfl) ?_
                      refine bd_calli C hw hA (bd_m_follow l D h d _ _ _ _ _ _ _ _ _ _ _ (q3 k) to root ey oy ry bY iy py qey qy g1 (by omega) hro f3) (cwV 3 C.1.2.2.2.2 (lw_V q89 q91 qs4 q15 q92) rfl rfl rfl (by decide +kernel) ⟨Nat.le_of_ble_eq_true rfl, Nat.le_of_ble_eq_true rfl⟩) rfl hl.1 rfl (Nat.le_of_ble_eq_true rfl) dX0_search_115 ⟨Nat.zero_le _, Nat.zero_le _⟩ (fun H locs hw => ?_)
                      refine lv_goto (tgt := 122) hx hb dX0_search_118 (by decide) ?_
                      refine lv_istore (lv' := [(5, .int (bd_enc ey)), (4, .int (nI 1)), (0, .ref (h 0)), (1, .int (nI root)), (2, .int (nI k)), (3, .int (nI to))]) hx hb dX0_search_122 hl (by decide) rfl (fun ls hl => ?_)
                      refine lv_iload hx hb dX0_search_124 (lv_at hl 0 rfl) ?_
                      refine lv_if_lt (tgt := 132) hx hb dX0_search_126 (by decide) (fun c_14 => ?_) (fun c_14 => ?_)
                      · skip
                        have h4 : ¬ ey < 10 := bd_enc_neg.mp c_14
                        rw [if_neg h4] at f2
                        refine lv_iinc (v := nI (to + 1)) (lv' := [(3, .int (nI (to + 1))), (5, .int (bd_enc ey)), (4, .int (nI 1)), (0, .ref (h 0)), (1, .int (nI root)), (2, .int (nI k))]) hx hb dX0_search_132 hl (k := 5) rfl (nI_1 to) (by decide) rfl (fun ls hl => ?_)
                        refine lv_goto (tgt := 63) hx hb dX0_search_135 (by decide) ?_
                        exact ih2 (to + 1) _ _ _ _ _ _ _ (by omega) f2 _ _ hw ls (lv_sub hl [3, 4, 5, 0] rfl)
                      · skip
                        have h4 : ey < 10 := Classical.not_not.mp (fun z => c_14 (bd_enc_neg.mpr z))
                        rw [if_pos h4] at f2
                        obtain ⟨rfl, rfl, rfl, rfl, rfl, rfl, rfl, rfl⟩ : ey = ex ∧ oy = ox ∧ ry = rx ∧ bY = bx ∧ iy = ix ∧ py = px ∧ qey = qex ∧ qy = qx := by simpa using f2
                        rw [if_pos h4] at e6
                        obtain ⟨rfl, rfl, rfl, rfl, rfl, rfl, rfl, rfl⟩ : ey = e' ∧ oy = o' ∧ ry = r' ∧ bY = b' ∧ iy = i' ∧ py = p' ∧ qey = qe' ∧ qy = q' := by simpa using e6
                        refine lv_iload hx hb dX0_search_129 (lv_at hl 0 rfl) ?_
                        exact bd_iret C hr hk hw dX0_search_131
          exact lp3 10 0 _ _ _ _ _ _ _ rfl e5 _ _ hw ls (lv_sub hl [1, 2, 3, 0] rfl)
  have lp1 : ∀ (n : Nat) (k : Nat), k + n = 10 → ∀ (H : Heap) (locs : List Loc), bd_at D h d A s.heap H locs (J, ab, mm, bd_fl k false o, bd_fl k 10 r, bd_idn k b, i, pp, qe, q) → ∀ ls : Array Slot, lv_has ls 6 [(0, .ref (h 0)), (1, .int (nI root)), (2, .int (nI k))] → W p l e { frames := 3, cells := 0, slots := 0, locals := 74 } s m (([.ref (h 0), .int (nI root)] : List Value).toArray) below meth c0 H locs 0 0 (MQ below (bd_Qi D h d (bd_enc e') (J, ab, mm, o', r', b', i', p', qe', q') A) (([.ref (h 0), .int (nI root)] : List Value).toArray) s 0 0 A) (F0 m 2 ls []) := by
    intro n
    induction n with
    | zero =>
      intro k e1 H locs hw ls hl
      refine lv_iload_n hx hb dX0_search_2 rfl (lv_at hl 2 rfl) ?_
      refine lv_bipush (v := nI 10) hx hb dX0_search_3 (by decide) ?_
      refine lv_icmp_ge (tgt := 35) hx hb dX0_search_5 (by decide) (fun c_15 => ?_) (fun c_15 => ?_)
      · skip
        have e1 : k = 10 := by omega
        subst e1
        refine lv_aload_n hx hb dX0_search_35 rfl (lv_at hl 0 rfl) ?_
        refine lv_iconst (v := nI 0) hx hb dX0_search_36 (by decide) ?_
        refine bd_putE C hw 0 rfl dX0_search_37 (fun H locs hw => ?_)
        refine lv_aload_n hx hb dX0_search_40 rfl (lv_at hl 0 rfl) ?_
        refine lv_iload_n hx hb dX0_search_41 rfl (lv_at hl 1 rfl) ?_
        refine bd_callv C hw hA (bd_m_makeOuter l D h d _ _ _ _ _ _ _ _ _ _ _ root o1 qe1 q1 hro hF1) (cwV 1 C.1.2.2.2.2 (lw_V q85 q87 qs3 q15 q88) rfl rfl rfl (by decide +kernel) ⟨Nat.le_of_ble_eq_true rfl, Nat.le_of_ble_eq_true rfl⟩) rfl hl.1 rfl (Nat.le_of_ble_eq_true rfl) dX0_search_42 ⟨Nat.zero_le _, Nat.zero_le _⟩ (fun H locs hw => ?_)
        refine lv_iconst (v := nI 0) hx hb dX0_search_45 (by decide) ?_
        refine lv_istore_n (lv' := [(2, .int (nI 0)), (0, .ref (h 0)), (1, .int (nI root))]) hx hb dX0_search_46 rfl hl (by decide) rfl (fun ls hl => ?_)
        exact lp2 10 0 _ _ _ _ _ _ _ rfl hF2 _ _ hw ls (lv_sub hl [1, 2, 0] rfl)
      · skip
        exact absurd ((bd_le10 (by omega)).mpr (by omega)) c_15
    | succ n ih =>
      intro k e1 H locs hw ls hl
      refine lv_iload_n hx hb dX0_search_2 rfl (lv_at hl 2 rfl) ?_
      refine lv_bipush (v := nI 10) hx hb dX0_search_3 (by decide) ?_
      refine lv_icmp_ge (tgt := 35) hx hb dX0_search_5 (by decide) (fun c_16 => ?_) (fun c_16 => ?_)
      · skip
        have := (bd_le10 (by omega)).mp c_16
        omega
      · skip
        refine lv_aload_n hx hb dX0_search_8 rfl (lv_at hl 0 rfl) ?_
        refine bd_getO C hw dX0_search_9 ?_
        refine lv_iload_n hx hb dX0_search_12 rfl (lv_at hl 2 rfl) ?_
        refine lv_iconst (v := bd_bz false) hx hb dX0_search_13 (by decide) ?_
        refine bd_stO C hw (k := k) false (by omega) rfl dX0_search_14 (fun H locs hw => ?_)
        rw [bd_fl_s] at hw
        refine lv_aload_n hx hb dX0_search_15 rfl (lv_at hl 0 rfl) ?_
        refine bd_getR C hw dX0_search_16 ?_
        refine lv_iload_n hx hb dX0_search_19 rfl (lv_at hl 2 rfl) ?_
        refine lv_iconst (v := bd_enc 10) hx hb dX0_search_20 (by decide) ?_
        refine bd_stR C hw (k := k) 10 (by omega) rfl dX0_search_21 (fun H locs hw => ?_)
        rw [bd_fl_s] at hw
        refine lv_aload_n hx hb dX0_search_22 rfl (lv_at hl 0 rfl) ?_
        refine bd_getB C hw dX0_search_23 ?_
        refine lv_iload_n hx hb dX0_search_26 rfl (lv_at hl 2 rfl) ?_
        refine lv_iload_n hx hb dX0_search_27 rfl (lv_at hl 2 rfl) ?_
        refine bd_stB C hw (k := k) k (by omega) (bd_enc_lt (by omega)).symm dX0_search_28 (fun H locs hw => ?_)
        rw [bd_idn_s] at hw
        refine lv_iinc (v := nI (k + 1)) (lv' := [(2, .int (nI (k + 1))), (0, .ref (h 0)), (1, .int (nI root))]) hx hb dX0_search_29 hl (k := 2) rfl (nI_1 k) (by decide) rfl (fun ls hl => ?_)
        refine lv_goto (tgt := 2) hx hb dX0_search_32 (by decide) ?_
        exact ih (k + 1) (by omega) _ _ hw ls (lv_sub hl [1, 2, 0] rfl)
  refine lv_iconst (v := nI 0) hx hb dX0_search_0 (by decide) ?_
  refine lv_istore_n (lv' := [(2, .int (nI 0)), (0, .ref (h 0)), (1, .int (nI root))]) hx hb dX0_search_1 rfl hl (by decide) rfl (fun ls hl => ?_)
  exact lp1 10 0 rfl _ _ (by rw [bd_fl_0, bd_fl_0, bd_idn_0]; exact hw) ls (lv_sub hl [1, 2, 0] rfl)
end
section
/-! pure pictures of the desk's public methods; static calls -/
def bd_pair (x y : Int32) : Bool := decide (¬ x < 0 ∧ ¬ nI 9 < x ∧ ¬ y < 0 ∧ ¬ nI 9 < y ∧ ¬ x = y)
theorem bd_pt_of {x : Int32} (h1 : ¬ x < 0) (h2 : ¬ nI 9 < x) : ∃ a : Nat, a < 10 ∧ x = nI a := by
  obtain ⟨j, j1, j2⟩ := nI_of h1
  refine ⟨j, ?_, j2⟩
  rw [j2, nI_ltI (by omega) (by omega)] at h2
  omega
theorem bd_pair_of {x y : Int32} (h : bd_pair x y = true) : ∃ a c : Nat, a < 10 ∧ c < 10 ∧ a ≠ c ∧ x = nI a ∧ y = nI c := by
  unfold bd_pair at h
  rw [decide_eq_true_eq] at h
  obtain ⟨h1, h2, h3, h4, h5⟩ := h
  obtain ⟨a, a1, a2⟩ := bd_pt_of h1 h2
  obtain ⟨c, c1, c2⟩ := bd_pt_of h3 h4
  exact ⟨a, c, a1, c1, fun e => h5 (by rw [a2, c2, e]), a2, c2⟩
theorem bd_pair_nI {a c : Nat} (ha : a < 10) (hc : c < 10) (hac : a ≠ c) : bd_pair (nI a) (nI c) = true := by
  unfold bd_pair
  rw [decide_eq_true_eq]
  refine ⟨nI_pos (by omega), ?_, nI_pos (by omega), ?_, ?_⟩
  · rw [nI_ltI (by omega) (by omega)]; omega
  · rw [nI_ltI (by omega) (by omega)]; omega
  · rw [nI_eq (by omega) (by omega)]; exact hac
def bd_set (J : Nat → Nat → Bool) (a c : Nat) (t : Bool) : Nat → Nat → Bool := fun u w => if (u = a ∧ w = c) ∨ (u = c ∧ w = a) then t else J u w
theorem bd_set_t {J : Nat → Nat → Bool} {a c : Nat} (h : a ≠ c) : va_up (va_up J a (fun v => J a v || decide (v = c))) c (fun v => va_up J a (fun v => J a v || decide (v = c)) c v || decide (v = a)) = bd_set J a c true := by
  funext u w
  unfold va_up bd_set
  by_cases h1 : u = c
  · subst h1
    simp only [if_true, if_neg (Ne.symm h)]
    by_cases h2 : w = a
    · simp [h2]
    · simp [h2, Ne.symm h]
  · by_cases h2 : u = a
    · subst h2
      simp only [if_neg h1, if_true]
      by_cases h3 : w = c
      · simp [h3]
      · simp [h3, h1]
    · simp [h1, h2]
theorem bd_set_f {J : Nat → Nat → Bool} {a c : Nat} (h : a ≠ c) : va_up (va_up J a (fun v => J a v && !decide (v = c))) c (fun v => va_up J a (fun v => J a v && !decide (v = c)) c v && !decide (v = a)) = bd_set J a c false := by
  funext u w
  unfold va_up bd_set
  by_cases h1 : u = c
  · subst h1
    simp only [if_true, if_neg (Ne.symm h)]
    by_cases h2 : w = a
    · simp [h2]
    · simp [h2, Ne.symm h]
  · by_cases h2 : u = a
    · subst h2
      simp only [if_neg h1, if_true]
      by_cases h3 : w = c
      · simp [h3]
      · simp [h3, h1]
    · simp [h1, h2]
def bd_gu (J : Nat → Nat → Bool) (S : Nat → Bool) : Nat → Nat → (Nat → Bool) → Nat → Bool
  | 0, _, X => X
  | n + 1, p, X => bd_gu J S n (p + 1) (fun v => X v || (S p && J p v))
def bd_pt (J : Nat → Nat → Bool) : Nat → Nat → (Nat → Bool) → Nat → Nat
  | 0, _, _, c => c
  | n + 1, p, L, c => if L p = true then bd_pt J n (p + 1) (fun v => L v && !bd_po1 J L 10 (fun v => decide (v = p)) v) (c + 1) else bd_pt J n (p + 1) L c
theorem bd_sub1 {a b : Nat} (ha : a < 2 ^ 30) (hb : b < 2 ^ 30) : nI a = nI b - nI 1 ↔ a + 1 = b := by
  constructor
  · intro e
    have h1 := pk_sub_toInt (a := b) (b := 1) hb (by omega)
    rw [← e, nI_toInt (by omega)] at h1
    omega
  · intro e
    rw [← e, pk_sub (by omega)]
    rfl
section BDSTAT
variable {p : Program} {l : Launch} {e : Env} {R : Room} {s : State} {m : MethodId} {args : Array Value} {below : List Frame} {meth : Method} {c : Code} {H : Heap} {locs : List Loc} {cells slots : Nat} {Q : State → Prop}
variable {cc : ByteArray} {pc nL : Nat} {ls : Array Slot} {rest : List Value} {D : va_G} {A : Nat → Prop} {H0 : Heap} {h : Nat → Nat} {d : Nat → ClassId} {st : bd_DS}
abbrev bd_QS (v : Int32) : Array Value → State → Outcome → State → Prop := va_Qi (fun r (_ : Unit) => r = v) (fun _ _ => True) (fun _ => False)
theorem bd_ofWS {y : MethodName} {cd : ByteArray} {ret : Option FieldType} {rm : Room} {As : List Value} {v : Int32} {own : String} (hy : plainName y.cls = true) (hyc : y.cls = own) (hlen : (lg_sl As).length ≤ nL)
    (body : ∀ (p : Program) (e : Env) (s : State) (m : MethodId) (below : List Frame) (meth : Method) (c : Code), CallFix p m c cd nL s As.toArray lw_all own → meth.sig.returnType = ret → meth.locks = false → ∀ ls : Array Slot, lv_has ls nL (lv_args 0 As) → W p l e rm s m As.toArray below meth c s.heap [] 0 0 (MQ below (bd_QS v) As.toArray s 0 0 (fun _ => False)) (F0 m 0 ls [])) :
    Met l y (ws_ y cd nL ret) rm (va_Pc As (fun _ => True)) (bd_QS v) 0 0 (fun _ => False) := by
  refine Met.ofW (cc := cd) (maxL := nL) (ret := ret) hy rfl ?_
  intro p e s m args below meth c s₁ B hml hv
  obtain ⟨rfl, -⟩ := hv
  have hts := atoms_spec (ws := ws_ y cd nL ret) B.pre
  have hts : ∀ w ∈ lw_all, w.before _ s = true := fun w h => hts w (List.mem_cons_of_mem _ h)
  have hown : s.vm.findClass own = some m.cls := by rw [← hyc]; exact findClass_of_methodNamed B.named
  have hl := lv_entry As (n := nL) hlen
  rw [lg_entry_eq]
  exact body p e s m below meth c ⟨B.exec, B.bytes, hml, hown, hts⟩ B.returns B.notSynchronized _ hl
theorem bd_zretS {v : Bool} {own : String} (C : CallFix p m c cc nL s args lw_all own) (hr : meth.sig.returnType = some .boolean) (hk : meth.locks = false) (hS : va_S (fun _ => False) s.heap H locs) (hdg : decode cc pc = .ok (.ireturn, 1)) : W p l e R s m args below meth c H locs cells slots (MQ below (bd_QS (bd_bz v)) args s cells slots (fun _ => False)) (F0 m pc ls [.int (bd_bz v)]) :=
  W.zret (v := bd_bz v) C.1 C.2.1 hr (by cases v <;> rfl) (fun t ht hW => ⟨⟨bd_bz v, (), rfl, rfl, trivial⟩, hS.F ht⟩) hS.2.2 hdg hk
theorem bd_calls {y : MethodName} {bytes : ByteArray} {maxL : Nat} {ret : Option FieldType} {fr lo n index : Nat} {As st0 : List Value} {v : Int32} {own : String} (C : CallFix p m c cc nL s args lw_all own) (hS : va_S A H0 H locs)
    (hM : bd_MS l y bytes maxL ret fr lo As v) (cw : CallB R s args own index y bytes maxL ret (ws_ y bytes maxL ret) { frames := fr, cells := 0, slots := 0, locals := lo } 0 0 n ∧ (Cond.static y).before args s = true) (hn : As.length = n) (hsz : ls.size = nL) (hst : st0 = As.reverse ++ rest) (hW : (rest.map fun v => v.category).sum ≤ 8) (hdg : decode cc pc = .ok (.invokestatic index, 3)) (hf : cells ≤ R.cells ∧ slots ≤ R.slots)
    (kk : ∀ (H1 : Heap) (locs : List Loc), (∀ q, q < H.size → H1[q]? = H[q]?) → va_S A H0 H1 locs → W p l e R s m args below meth c H1 locs cells slots Q (F0 m (pc + 3) ls (.int v :: rest))) : W p l e R s m args below meth c H locs cells slots Q (F0 m pc ls st0) := by
  refine va_calli (va_runS (As := As) (rest := rest) C hM cw ⟨bd_blindS, fun U hU hW => ⟨rfl, trivial⟩⟩ rfl hn hsz hst (lv_room hW) hdg hf) hS (fun q _ h => h.elim) (fun q h => h.elim) (fun r1 u t H1 locs1 ht hvm hw1 hB hz1 hk1 hS1 => ?_)
  have hw1 : r1 = v := hw1
  subst hw1
  exact kk H1 locs1 (fun q hq => hk1 q hq (fun z => z)) hS1
theorem bd_at_kept {H1 : Heap} {locs1 : List Loc} (hw : bd_at D h d A H0 H locs st) (hk : ∀ q, q < H.size → H1[q]? = H[q]?) (hS : va_S A H0 H1 locs1) : bd_at D h d A H0 H1 locs1 st :=
  ⟨hw.1.kept (fun k q hq => hk q.1 ((hw.1 k q hq).lt)), hw.2.1, hS⟩
end BDSTAT
end
section
/-! walks: pairWithout, spares, partOf (printed by gen/desk3.py) -/
set_option maxHeartbeats 4000000 in
set_option maxRecDepth 100000 in
/-- pairWithout(set) -/
theorem bd_m_pairWithout (l : Launch) (D : va_G) (h : Nat → Nat) (d : Nat → ClassId) (sz : Nat) (J : Nat → Nat → Bool) (ab : Nat → Bool) (mm : Nat → Nat) (o : Nat → Bool) (r b : Nat → Nat) (i pp : Nat → Bool) (qe : Nat) (q : Nat → Nat) (set : Nat → Bool) (cnt : Nat) (m' : Nat → Nat) (o' : Nat → Bool) (r' b' : Nat → Nat) (i' p' : Nat → Bool) (qe' : Nat) (q' : Nat → Nat) (hF : bd_pairWithout J set mm (o, r, b, i, pp, qe, q) = some (cnt, m', (o', r', b', i', p', qe', q'))) : bd_MI l yX0_pairWithout cX0_pairWithout 5 (some .int) 4 99 D h d sz [.int (bd_bs set)] (J, ab, mm, o, r, b, i, pp, qe, q) (nI cnt) (J, set, m', o', r', b', i', p', qe', q') := by
  refine bd_ofW (Qc := bd_Qi D h d (nI cnt) (J, set, m', o', r', b', i', p', qe', q')) (by decide) rfl (Nat.le_of_ble_eq_true rfl) ?_
  intro p e s m below meth c0 A C hr hk hA hw ls hl
  have hx := C.1.1
  have hb := C.1.2.1
  have hl : lv_has ls 5 [(0, .ref (h 0)), (1, .int (bd_bs set))] := hl
  unfold bd_pairWithout at hF
  have lp2 : ∀ (n : Nat) (k cl : Nat) (m1 : Nat → Nat) (o1 : Nat → Bool) (r1 b1 : Nat → Nat) (i1 p1 : Nat → Bool) (qe1 : Nat) (q1 : Nat → Nat), k + n = 10 → bd_pw J set n k cl m1 (o1, r1, b1, i1, p1, qe1, q1) = some (cnt, m', (o', r', b', i', p', qe', q')) → ∀ (H : Heap) (locs : List Loc), bd_at D h d A s.heap H locs (J, set, m1, o1, r1, b1, i1, p1, qe1, q1) → ∀ ls : Array Slot, lv_has ls 5 [(0, .ref (h 0)), (2, .int (nI cl)), (3, .int (nI k))] → W p l e { frames := 4, cells := 0, slots := 0, locals := 99 } s m (([.ref (h 0), .int (bd_bs set)] : List Value).toArray) below meth c0 H locs 0 0 (MQ below (bd_Qi D h d (nI cnt) (J, set, m', o', r', b', i', p', qe', q') A) (([.ref (h 0), .int (bd_bs set)] : List Value).toArray) s 0 0 A) (F0 m 30 ls []) := by
    intro n
    induction n with
    | zero =>
      intro k cl m1 o1 r1 b1 i1 p1 qe1 q1 e1 e2 H locs hw ls hl
      refine lv_iload_n hx hb dX0_pairWithout_30 rfl (lv_at hl 2 rfl) ?_
      refine lv_bipush (v := nI 10) hx hb dX0_pairWithout_31 (by decide) ?_
      refine lv_icmp_ge (tgt := 83) hx hb dX0_pairWithout_33 (by decide) (fun c_1 => ?_) (fun c_1 => ?_)
      · skip
        obtain ⟨rfl, rfl, rfl, rfl, rfl, rfl, rfl, rfl, rfl⟩ : cl = cnt ∧ m1 = m' ∧ o1 = o' ∧ r1 = r' ∧ b1 = b' ∧ i1 = i' ∧ p1 = p' ∧ qe1 = qe' ∧ q1 = q' := by simpa [bd_pw] using e2
        refine lv_iload_n hx hb dX0_pairWithout_83 rfl (lv_at hl 1 rfl) ?_
        exact bd_iret C hr hk hw dX0_pairWithout_84
      · skip
        exact absurd ((bd_le10 (by omega)).mpr (by omega)) c_1
    | succ n ih =>
      intro k cl m1 o1 r1 b1 i1 p1 qe1 q1 e1 e2 H locs hw ls hl
      unfold bd_pw at e2
      refine lv_iload_n hx hb dX0_pairWithout_30 rfl (lv_at hl 2 rfl) ?_
      refine lv_bipush (v := nI 10) hx hb dX0_pairWithout_31 (by decide) ?_
      refine lv_icmp_ge (tgt := 83) hx hb dX0_pairWithout_33 (by decide) (fun c_2 => ?_) (fun c_2 => ?_)
      · skip
        have := (bd_le10 (by omega)).mp c_2
        omega
      · skip
        refine lv_aload_n hx hb dX0_pairWithout_36 rfl (lv_at hl 0 rfl) ?_
        refine bd_getM C hw dX0_pairWithout_37 ?_
        refine lv_iload_n hx hb dX0_pairWithout_40 rfl (lv_at hl 2 rfl) ?_
        refine bd_ldM C hw (k := k) (by omega) dX0_pairWithout_41 ?_
        refine lv_if_ge (tgt := 77) hx hb dX0_pairWithout_42 (by decide) (fun c_3 => ?_) (fun c_3 => ?_)
        · skip
          have h1 : m1 k < 10 := bd_enc_nn.mp c_3
          rw [if_neg (fun z => z.1 h1)] at e2
          refine lv_iinc (v := nI (k + 1)) (lv' := [(3, .int (nI (k + 1))), (0, .ref (h 0)), (2, .int (nI cl))]) hx hb dX0_pairWithout_77 hl (k := 2) rfl (nI_1 k) (by decide) rfl (fun ls hl => ?_)
          refine lv_goto (tgt := 30) hx hb dX0_pairWithout_80 (by decide) ?_
          exact ih (k + 1) _ _ _ _ _ _ _ _ _ (by omega) e2 _ _ hw ls (lv_sub hl [1, 2, 0] rfl)
        · skip
          have h1 : ¬ m1 k < 10 := fun z => c_3 (bd_enc_nn.mpr z)
          refine lv_aload_n hx hb dX0_pairWithout_45 rfl (lv_at hl 0 rfl) ?_
          refine bd_getAB C hw dX0_pairWithout_46 ?_
          refine lv_iload_n hx hb dX0_pairWithout_49 rfl (lv_at hl 2 rfl) ?_
          refine lv_iushr hx hb dX0_pairWithout_50 rfl ?_
          refine lv_iconst (v := nI 1) hx hb dX0_pairWithout_51 (by decide) ?_
          refine lv_iand hx hb dX0_pairWithout_52 ?_
          refine bd_top (y := bd_bz (set k)) (bd_bit set (by omega)) ?_
          refine lv_if_ne (tgt := 77) hx hb dX0_pairWithout_53 (by decide) (fun c_4 => ?_) (fun c_4 => ?_)
          · skip
            have h2 : set k = true := bd_bz1.mp c_4
            rw [if_neg (fun z => absurd (h2.symm.trans z.2) (by decide))] at e2
            refine lv_iinc (v := nI (k + 1)) (lv' := [(3, .int (nI (k + 1))), (0, .ref (h 0)), (2, .int (nI cl))]) hx hb dX0_pairWithout_77 hl (k := 2) rfl (nI_1 k) (by decide) rfl (fun ls hl => ?_)
            refine lv_goto (tgt := 30) hx hb dX0_pairWithout_80 (by decide) ?_
            exact ih (k + 1) _ _ _ _ _ _ _ _ _ (by omega) e2 _ _ hw ls (lv_sub hl [1, 2, 0] rfl)
          · skip
            have h2 : set k = false := bd_bz0.mp c_4
            rw [if_pos ⟨h1, h2⟩] at e2
            obtain ⟨⟨ey, oy, ry, bY, iy, py, qey, qy⟩, e3, e2⟩ := Option.bind_eq_some_iff.mp e2
            simp only at e2
            refine lv_aload_n hx hb dX0_pairWithout_56 rfl (lv_at hl 0 rfl) ?_
            refine lv_iload_n hx hb dX0_pairWithout_57 rfl (lv_at hl 2 rfl) ?_
            refine bd_calli C hw hA (bd_m_search l D h d _ _ _ _ _ _ _ _ _ _ _ k ey oy ry bY iy py qey qy (by omega) e3) (cwV 1 C.1.2.2.2.2 (lw_V q81 q83 qs2 q15 q84) rfl rfl rfl (by decide +kernel) ⟨Nat.le_of_ble_eq_true rfl, Nat.le_of_ble_eq_true rfl⟩) rfl hl.1 rfl (Nat.le_of_ble_eq_true rfl) dX0_pairWithout_58 ⟨Nat.zero_le _, Nat.zero_le _⟩ (fun H locs hw => ?_)
            refine lv_istore (lv' := [(4, .int (bd_enc ey)), (0, .ref (h 0)), (2, .int (nI cl)), (3, .int (nI k))]) hx hb dX0_pairWithout_61 hl (by decide) rfl (fun ls hl => ?_)
            refine lv_iload hx hb dX0_pairWithout_63 (lv_at hl 0 rfl) ?_
            refine lv_if_lt (tgt := 77) hx hb dX0_pairWithout_65 (by decide) (fun c_5 => ?_) (fun c_5 => ?_)
            · skip
              have h4 : ¬ ey < 10 := bd_enc_neg.mp c_5
              rw [if_neg h4] at e2
              refine lv_iinc (v := nI (k + 1)) (lv' := [(3, .int (nI (k + 1))), (4, .int (bd_enc ey)), (0, .ref (h 0)), (2, .int (nI cl))]) hx hb dX0_pairWithout_77 hl (k := 3) rfl (nI_1 k) (by decide) rfl (fun ls hl => ?_)
              refine lv_goto (tgt := 30) hx hb dX0_pairWithout_80 (by decide) ?_
              exact ih (k + 1) _ _ _ _ _ _ _ _ _ (by omega) e2 _ _ hw ls (lv_sub hl [2, 3, 0] rfl)
            · skip
              have h4 : ey < 10 := Classical.not_not.mp (fun z => c_5 (bd_enc_neg.mpr z))
              rw [if_pos h4] at e2
              obtain ⟨my, e4, e2⟩ := Option.bind_eq_some_iff.mp e2
              refine lv_aload_n hx hb dX0_pairWithout_68 rfl (lv_at hl 1 rfl) ?_
              refine lv_iload hx hb dX0_pairWithout_69 (lv_at hl 0 rfl) ?_
              refine bd_top (y := nI ey) (bd_enc_lt h4) ?_
              refine bd_callv C hw hA (bd_m_turn l D h d _ _ _ _ _ _ _ _ _ _ _ ey my h4 e4) (cwV 1 C.1.2.2.2.2 (lw_V q105 q107 qs8 q15 q108) rfl rfl rfl (by decide +kernel) ⟨Nat.le_of_ble_eq_true rfl, Nat.le_of_ble_eq_true rfl⟩) rfl hl.1 rfl (Nat.le_of_ble_eq_true rfl) dX0_pairWithout_71 ⟨Nat.zero_le _, Nat.zero_le _⟩ (fun H locs hw => ?_)
              refine lv_iinc (v := nI (cl + 1)) (lv' := [(2, .int (nI (cl + 1))), (4, .int (bd_enc ey)), (0, .ref (h 0)), (3, .int (nI k))]) hx hb dX0_pairWithout_74 hl (k := 2) rfl (nI_1 cl) (by decide) rfl (fun ls hl => ?_)
              refine lv_iinc (v := nI (k + 1)) (lv' := [(3, .int (nI (k + 1))), (2, .int (nI (cl + 1))), (4, .int (bd_enc ey)), (0, .ref (h 0))]) hx hb dX0_pairWithout_77 hl (k := 3) rfl (nI_1 k) (by decide) rfl (fun ls hl => ?_)
              refine lv_goto (tgt := 30) hx hb dX0_pairWithout_80 (by decide) ?_
              exact ih (k + 1) _ _ _ _ _ _ _ _ _ (by omega) e2 _ _ hw ls (lv_sub hl [3, 1, 0] rfl)
  have lp1 : ∀ (n : Nat) (k : Nat), k + n = 10 → ∀ (H : Heap) (locs : List Loc), bd_at D h d A s.heap H locs (J, set, bd_fl k 10 mm, o, r, b, i, pp, qe, q) → ∀ ls : Array Slot, lv_has ls 5 [(0, .ref (h 0)), (2, .int (nI k))] → W p l e { frames := 4, cells := 0, slots := 0, locals := 99 } s m (([.ref (h 0), .int (bd_bs set)] : List Value).toArray) below meth c0 H locs 0 0 (MQ below (bd_Qi D h d (nI cnt) (J, set, m', o', r', b', i', p', qe', q') A) (([.ref (h 0), .int (bd_bs set)] : List Value).toArray) s 0 0 A) (F0 m 7 ls []) := by
    intro n
    induction n with
    | zero =>
      intro k e1 H locs hw ls hl
      refine lv_iload_n hx hb dX0_pairWithout_7 rfl (lv_at hl 1 rfl) ?_
      refine lv_bipush (v := nI 10) hx hb dX0_pairWithout_8 (by decide) ?_
      refine lv_icmp_ge (tgt := 26) hx hb dX0_pairWithout_10 (by decide) (fun c_6 => ?_) (fun c_6 => ?_)
      · skip
        have e1 : k = 10 := by omega
        subst e1
        refine lv_iconst (v := nI 0) hx hb dX0_pairWithout_26 (by decide) ?_
        refine lv_istore_n (lv' := [(2, .int (nI 0)), (0, .ref (h 0))]) hx hb dX0_pairWithout_27 rfl hl (by decide) rfl (fun ls hl => ?_)
        refine lv_iconst (v := nI 0) hx hb dX0_pairWithout_28 (by decide) ?_
        refine lv_istore_n (lv' := [(3, .int (nI 0)), (2, .int (nI 0)), (0, .ref (h 0))]) hx hb dX0_pairWithout_29 rfl hl (by decide) rfl (fun ls hl => ?_)
        exact lp2 10 0 0 _ _ _ _ _ _ _ _ rfl hF _ _ hw ls (lv_sub hl [2, 1, 0] rfl)
      · skip
        exact absurd ((bd_le10 (by omega)).mpr (by omega)) c_6
    | succ n ih =>
      intro k e1 H locs hw ls hl
      refine lv_iload_n hx hb dX0_pairWithout_7 rfl (lv_at hl 1 rfl) ?_
      refine lv_bipush (v := nI 10) hx hb dX0_pairWithout_8 (by decide) ?_
      refine lv_icmp_ge (tgt := 26) hx hb dX0_pairWithout_10 (by decide) (fun c_7 => ?_) (fun c_7 => ?_)
      · skip
        have := (bd_le10 (by omega)).mp c_7
        omega
      · skip
        refine lv_aload_n hx hb dX0_pairWithout_13 rfl (lv_at hl 0 rfl) ?_
        refine bd_getM C hw dX0_pairWithout_14 ?_
        refine lv_iload_n hx hb dX0_pairWithout_17 rfl (lv_at hl 1 rfl) ?_
        refine lv_iconst (v := bd_enc 10) hx hb dX0_pairWithout_18 (by decide) ?_
        refine bd_stM C hw (k := k) 10 (by omega) rfl dX0_pairWithout_19 (fun H locs hw => ?_)
        rw [bd_fl_s] at hw
        refine lv_iinc (v := nI (k + 1)) (lv' := [(2, .int (nI (k + 1))), (0, .ref (h 0))]) hx hb dX0_pairWithout_20 hl (k := 1) rfl (nI_1 k) (by decide) rfl (fun ls hl => ?_)
        refine lv_goto (tgt := 7) hx hb dX0_pairWithout_23 (by decide) ?_
        exact ih (k + 1) (by omega) _ _ hw ls (lv_sub hl [1, 0] rfl)
  refine lv_aload_n hx hb dX0_pairWithout_0 rfl (lv_at hl 0 rfl) ?_
  refine lv_iload_n hx hb dX0_pairWithout_1 rfl (lv_at hl 1 rfl) ?_
  refine bd_putAB C hw set rfl dX0_pairWithout_2 (fun H locs hw => ?_)
  refine lv_iconst (v := nI 0) hx hb dX0_pairWithout_5 (by decide) ?_
  refine lv_istore_n (lv' := [(2, .int (nI 0)), (0, .ref (h 0)), (1, .int (bd_bs set))]) hx hb dX0_pairWithout_6 rfl hl (by decide) rfl (fun ls hl => ?_)
  exact lp1 10 0 rfl _ _ (by rw [bd_fl_0]; exact hw) ls (lv_sub hl [1, 0] rfl)
set_option maxHeartbeats 4000000 in
set_option maxRecDepth 100000 in
/-- spares() -/
theorem bd_m_spares (l : Launch) (D : va_G) (h : Nat → Nat) (d : Nat → ClassId) (sz : Nat) (J : Nat → Nat → Bool) (ab : Nat → Bool) (mm : Nat → Nat) (o : Nat → Bool) (r b : Nat → Nat) (i pp : Nat → Bool) (qe : Nat) (q : Nat → Nat) (S' : Nat → Bool) (o' : Nat → Bool) (r' b' : Nat → Nat) (i' p' : Nat → Bool) (qe' : Nat) (q' : Nat → Nat) (hF : bd_sp J ab mm 10 0 (fun _ => false) (o, r, b, i, pp, qe, q) = some (S', (o', r', b', i', p', qe', q'))) : bd_MI l yX0_spares cX0_spares 4 (some .int) 4 99 D h d sz [] (J, ab, mm, o, r, b, i, pp, qe, q) (bd_bs S') (J, ab, mm, o', r', b', i', p', qe', q') := by
  refine bd_ofW (Qc := bd_Qi D h d (bd_bs S') (J, ab, mm, o', r', b', i', p', qe', q')) (by decide) rfl (Nat.le_of_ble_eq_true rfl) ?_
  intro p e s m below meth c0 A C hr hk hA hw ls hl
  have hx := C.1.1
  have hb := C.1.2.1
  have hl : lv_has ls 4 [(0, .ref (h 0))] := hl
  have lp : ∀ (n : Nat) (k : Nat) (S1 : Nat → Bool) (o1 : Nat → Bool) (r1 b1 : Nat → Nat) (i1 p1 : Nat → Bool) (qe1 : Nat) (q1 : Nat → Nat), k + n = 10 → bd_sp J ab mm n k S1 (o1, r1, b1, i1, p1, qe1, q1) = some (S', (o', r', b', i', p', qe', q')) → ∀ (H : Heap) (locs : List Loc), bd_at D h d A s.heap H locs (J, ab, mm, o1, r1, b1, i1, p1, qe1, q1) → ∀ ls : Array Slot, lv_has ls 4 [(0, .ref (h 0)), (1, .int (bd_bs S1)), (2, .int (nI k))] → W p l e { frames := 4, cells := 0, slots := 0, locals := 99 } s m (([.ref (h 0)] : List Value).toArray) below meth c0 H locs 0 0 (MQ below (bd_Qi D h d (bd_bs S') (J, ab, mm, o', r', b', i', p', qe', q') A) (([.ref (h 0)] : List Value).toArray) s 0 0 A) (F0 m 4 ls []) := by
    intro n
    induction n with
    | zero =>
      intro k S1 o1 r1 b1 i1 p1 qe1 q1 e1 e2 H locs hw ls hl
      refine lv_iload_n hx hb dX0_spares_4 rfl (lv_at hl 2 rfl) ?_
      refine lv_bipush (v := nI 10) hx hb dX0_spares_5 (by decide) ?_
      refine lv_icmp_ge (tgt := 64) hx hb dX0_spares_7 (by decide) (fun c_1 => ?_) (fun c_1 => ?_)
      · skip
        obtain ⟨rfl, rfl, rfl, rfl, rfl, rfl, rfl, rfl⟩ : S1 = S' ∧ o1 = o' ∧ r1 = r' ∧ b1 = b' ∧ i1 = i' ∧ p1 = p' ∧ qe1 = qe' ∧ q1 = q' := by simpa [bd_sp] using e2
        refine lv_iload_n hx hb dX0_spares_64 rfl (lv_at hl 1 rfl) ?_
        exact bd_iret C hr hk hw dX0_spares_65
      · skip
        exact absurd ((bd_le10 (by omega)).mpr (by omega)) c_1
    | succ n ih =>
      intro k S1 o1 r1 b1 i1 p1 qe1 q1 e1 e2 H locs hw ls hl
      unfold bd_sp at e2
      refine lv_iload_n hx hb dX0_spares_4 rfl (lv_at hl 2 rfl) ?_
      refine lv_bipush (v := nI 10) hx hb dX0_spares_5 (by decide) ?_
      refine lv_icmp_ge (tgt := 64) hx hb dX0_spares_7 (by decide) (fun c_2 => ?_) (fun c_2 => ?_)
      · skip
        have := (bd_le10 (by omega)).mp c_2
        omega
      · skip
        refine lv_aload_n hx hb dX0_spares_10 rfl (lv_at hl 0 rfl) ?_
        refine bd_getM C hw dX0_spares_11 ?_
        refine lv_iload_n hx hb dX0_spares_14 rfl (lv_at hl 2 rfl) ?_
        refine bd_ldM C hw (k := k) (by omega) dX0_spares_15 ?_
        refine lv_if_ge (tgt := 58) hx hb dX0_spares_16 (by decide) (fun c_3 => ?_) (fun c_3 => ?_)
        · skip
          have h1 : mm k < 10 := bd_enc_nn.mp c_3
          rw [if_pos h1] at e2
          refine lv_iinc (v := nI (k + 1)) (lv' := [(2, .int (nI (k + 1))), (0, .ref (h 0)), (1, .int (bd_bs S1))]) hx hb dX0_spares_58 hl (k := 2) rfl (nI_1 k) (by decide) rfl (fun ls hl => ?_)
          refine lv_goto (tgt := 4) hx hb dX0_spares_61 (by decide) ?_
          exact ih (k + 1) _ _ _ _ _ _ _ _ (by omega) e2 _ _ hw ls (lv_sub hl [1, 2, 0] rfl)
        · skip
          have h1 : ¬ mm k < 10 := fun z => c_3 (bd_enc_nn.mpr z)
          rw [if_neg h1] at e2
          obtain ⟨⟨ey, oy, ry, bY, iy, py, qey, qy⟩, e3, e2⟩ := Option.bind_eq_some_iff.mp e2
          simp only at e2
          refine lv_aload_n hx hb dX0_spares_19 rfl (lv_at hl 0 rfl) ?_
          refine lv_iload_n hx hb dX0_spares_20 rfl (lv_at hl 2 rfl) ?_
          refine bd_calli C hw hA (bd_m_search l D h d _ _ _ _ _ _ _ _ _ _ _ k ey oy ry bY iy py qey qy (by omega) e3) (cwV 1 C.1.2.2.2.2 (lw_V q81 q83 qs2 q15 q84) rfl rfl rfl (by decide +kernel) ⟨Nat.le_of_ble_eq_true rfl, Nat.le_of_ble_eq_true rfl⟩) rfl hl.1 rfl (Nat.le_of_ble_eq_true rfl) dX0_spares_21 ⟨Nat.zero_le _, Nat.zero_le _⟩ (fun H locs hw => ?_)
          refine lv_pop hx hb dX0_spares_24 rfl ?_
          refine lv_iconst (v := nI 0) hx hb dX0_spares_25 (by decide) ?_
          refine lv_istore_n (lv' := [(3, .int (nI 0)), (0, .ref (h 0)), (1, .int (bd_bs S1)), (2, .int (nI k))]) hx hb dX0_spares_26 rfl hl (by decide) rfl (fun ls hl => ?_)
          have lp3 : ∀ (n2 j : Nat), j + n2 = 10 → ∀ (H : Heap) (locs : List Loc), bd_at D h d A s.heap H locs (J, ab, mm, oy, ry, bY, iy, py, qey, qy) → ∀ ls : Array Slot, lv_has ls 4 [(0, .ref (h 0)), (1, .int (bd_bs (fun v => S1 v || (decide (v < j) && oy v)))), (2, .int (nI k)), (3, .int (nI j))] → W p l e { frames := 4, cells := 0, slots := 0, locals := 99 } s m (([.ref (h 0)] : List Value).toArray) below meth c0 H locs 0 0 (MQ below (bd_Qi D h d (bd_bs S') (J, ab, mm, o', r', b', i', p', qe', q') A) (([.ref (h 0)] : List Value).toArray) s 0 0 A) (F0 m 27 ls []) := by
            intro n2
            induction n2 with
            | zero =>
              intro j f1 H locs hw ls hl
              have f1 : j = 10 := by omega
              subst f1
              rw [show bd_bs (fun v => S1 v || (decide (v < 10) && oy v)) = bd_bs (fun v => S1 v || oy v) from bd_bs_ext (fun v hv => by simp [hv])] at hl
              refine lv_iload_n hx hb dX0_spares_27 rfl (lv_at hl 3 rfl) ?_
              refine lv_bipush (v := nI 10) hx hb dX0_spares_28 (by decide) ?_
              refine lv_icmp_ge (tgt := 58) hx hb dX0_spares_30 (by decide) (fun c_4 => ?_) (fun c_4 => ?_)
              · skip
                refine lv_iinc (v := nI (k + 1)) (lv' := [(2, .int (nI (k + 1))), (0, .ref (h 0)), (1, .int (bd_bs (fun v => S1 v || oy v))), (3, .int (nI 10))]) hx hb dX0_spares_58 hl (k := 2) rfl (nI_1 k) (by decide) rfl (fun ls hl => ?_)
                refine lv_goto (tgt := 4) hx hb dX0_spares_61 (by decide) ?_
                exact ih (k + 1) _ _ _ _ _ _ _ _ (by omega) e2 _ _ hw ls (lv_sub hl [1, 2, 0] rfl)
              · skip
                exact absurd ((bd_le10 (by omega)).mpr rfl) c_4
            | succ n2 ih2 =>
              intro j f1 H locs hw ls hl
              refine lv_iload_n hx hb dX0_spares_27 rfl (lv_at hl 3 rfl) ?_
              refine lv_bipush (v := nI 10) hx hb dX0_spares_28 (by decide) ?_
              refine lv_icmp_ge (tgt := 58) hx hb dX0_spares_30 (by decide) (fun c_5 => ?_) (fun c_5 => ?_)
              · skip
                have := (bd_le10 (by omega)).mp c_5
                omega
              · skip
                refine lv_iload_n hx hb dX0_spares_33 rfl (lv_at hl 1 rfl) ?_
                refine lv_aload_n hx hb dX0_spares_34 rfl (lv_at hl 0 rfl) ?_
                refine bd_getO C hw dX0_spares_35 ?_
                refine lv_iload_n hx hb dX0_spares_38 rfl (lv_at hl 3 rfl) ?_
                refine bd_ldO C hw (k := j) (by omega) dX0_spares_39 ?_
                refine lv_if_eq (tgt := 49) hx hb dX0_spares_40 (by decide) (fun c_6 => ?_) (fun c_6 => ?_)
                · skip
                  have h5 : oy j = false := bd_bz0.mp c_6
                  refine lv_iconst (v := bd_bs (fun _ => false)) hx hb dX0_spares_49 (by decide +kernel) ?_
                  refine lv_ior hx hb dX0_spares_50 ?_
                  refine bd_top (y := bd_bs (fun v => S1 v || (decide (v < j + 1) && oy v))) (by rw [bd_or]; exact bd_bs_ext (fun v hv => by by_cases hj : v = j <;> simp [hj, h5] <;> (have : v < j + 1 ↔ v < j := by omega) <;> simp [this])) ?_
                  refine lv_istore_n (lv' := [(1, .int (bd_bs (fun v => S1 v || (decide (v < j + 1) && oy v)))), (0, .ref (h 0)), (2, .int (nI k)), (3, .int (nI j))]) hx hb dX0_spares_51 rfl hl (by decide) rfl (fun ls hl => ?_)
                  refine lv_iinc (v := nI (j + 1)) (lv' := [(3, .int (nI (j + 1))), (1, .int (bd_bs (fun v => S1 v || (decide (v < j + 1) && oy v)))), (0, .ref (h 0)), (2, .int (nI k))]) hx hb dX0_spares_52 hl (k := 3) rfl (nI_1 j) (by decide) rfl (fun ls hl => ?_)
                  refine lv_goto (tgt := 27) hx hb dX0_spares_55 (by decide) ?_
                  exact ih2 (j + 1) (by omega) _ _ hw ls (lv_sub hl [2, 1, 3, 0] rfl)
                · skip
                  have h5 : oy j = true := bd_bz1.mp c_6
                  refine lv_iconst (v := nI 1) hx hb dX0_spares_43 (by decide) ?_
                  refine lv_iload_n hx hb dX0_spares_44 rfl (lv_at hl 3 rfl) ?_
                  refine lv_ishl hx hb dX0_spares_45 ?_
                  refine bd_top (y := bd_bs (fun v => decide (v = j))) (bd_one (by omega)) ?_
                  refine lv_goto (tgt := 50) hx hb dX0_spares_46 (by decide) ?_
                  refine lv_ior hx hb dX0_spares_50 ?_
                  refine bd_top (y := bd_bs (fun v => S1 v || (decide (v < j + 1) && oy v))) (by rw [bd_or]; exact bd_bs_ext (fun v hv => by by_cases hj : v = j <;> simp [hj, h5] <;> (have : v < j + 1 ↔ v < j := by omega) <;> simp [this])) ?_
                  refine lv_istore_n (lv' := [(1, .int (bd_bs (fun v => S1 v || (decide (v < j + 1) && oy v)))), (0, .ref (h 0)), (2, .int (nI k)), (3, .int (nI j))]) hx hb dX0_spares_51 rfl hl (by decide) rfl (fun ls hl => ?_)
                  refine lv_iinc (v := nI (j + 1)) (lv' := [(3, .int (nI (j + 1))), (1, .int (bd_bs (fun v => S1 v || (decide (v < j + 1) && oy v)))), (0, .ref (h 0)), (2, .int (nI k))]) hx hb dX0_spares_52 hl (k := 3) rfl (nI_1 j) (by decide) rfl (fun ls hl => ?_)
                  refine lv_goto (tgt := 27) hx hb dX0_spares_55 (by decide) ?_
                  exact ih2 (j + 1) (by omega) _ _ hw ls (lv_sub hl [2, 1, 3, 0] rfl)
          rw [show bd_bs S1 = bd_bs (fun v => S1 v || (decide (v < 0) && oy v)) from bd_bs_ext (fun v hv => by simp)] at hl
          exact lp3 10 0 rfl _ _ hw ls (lv_sub hl [1, 2, 3, 0] rfl)
  refine lv_iconst (v := bd_bs (fun _ => false)) hx hb dX0_spares_0 (by decide +kernel) ?_
  refine lv_istore_n (lv' := [(1, .int (bd_bs (fun _ => false))), (0, .ref (h 0))]) hx hb dX0_spares_1 rfl hl (by decide) rfl (fun ls hl => ?_)
  refine lv_iconst (v := nI 0) hx hb dX0_spares_2 (by decide) ?_
  refine lv_istore_n (lv' := [(2, .int (nI 0)), (1, .int (bd_bs (fun _ => false))), (0, .ref (h 0))]) hx hb dX0_spares_3 rfl hl (by decide) rfl (fun ls hl => ?_)
  exact lp 10 0 _ _ _ _ _ _ _ _ rfl hF _ _ hw ls (lv_sub hl [2, 1, 0] rfl)
set_option maxHeartbeats 4000000 in
set_option maxRecDepth 100000 in
/-- partOf(st, w) -/
theorem bd_m_partOf (l : Launch) (D : va_G) (h : Nat → Nat) (d : Nat → ClassId) (sz : Nat) (J : Nat → Nat → Bool) (ab : Nat → Bool) (mm : Nat → Nat) (o : Nat → Bool) (r b : Nat → Nat) (i pp : Nat → Bool) (qe : Nat) (q : Nat → Nat) (x : Nat) (w : Nat → Bool) (hx0 : x < 10) : bd_MI l yX0_partOf cX0_partOf 6 (some .int) 0 0 D h d sz [.int (nI x), .int (bd_bs w)] (J, ab, mm, o, r, b, i, pp, qe, q) (bd_bs (bd_po1 J w 10 (fun v => decide (v = x)))) (J, ab, mm, o, r, b, i, pp, qe, q) := by
  refine bd_ofW (Qc := bd_Qi D h d (bd_bs (bd_po1 J w 10 (fun v => decide (v = x)))) (J, ab, mm, o, r, b, i, pp, qe, q)) (by decide) rfl (Nat.le_of_ble_eq_true rfl) ?_
  intro p e s m below meth c0 A C hr hk hA hw ls hl
  have hx := C.1.1
  have hb := C.1.2.1
  have hl : lv_has ls 6 [(0, .ref (h 0)), (1, .int (nI x)), (2, .int (bd_bs w))] := hl
  generalize hP : bd_po1 J w 10 (fun v => decide (v = x)) = P
  have lp : ∀ (n : Nat) (k : Nat) (P1 : Nat → Bool), k + n = 10 → bd_po1 J w n P1 = P → ∀ (H : Heap) (locs : List Loc), bd_at D h d A s.heap H locs (J, ab, mm, o, r, b, i, pp, qe, q) → ∀ ls : Array Slot, lv_has ls 6 [(0, .ref (h 0)), (2, .int (bd_bs w)), (3, .int (bd_bs P1)), (4, .int (nI k))] → W p l e { frames := 0, cells := 0, slots := 0, locals := 0 } s m (([.ref (h 0), .int (nI x), .int (bd_bs w)] : List Value).toArray) below meth c0 H locs 0 0 (MQ below (bd_Qi D h d (bd_bs P) (J, ab, mm, o, r, b, i, pp, qe, q) A) (([.ref (h 0), .int (nI x), .int (bd_bs w)] : List Value).toArray) s 0 0 A) (F0 m 7 ls []) := by
    intro n
    induction n with
    | zero =>
      intro k P1 e1 e2 H locs hw ls hl
      refine lv_iload hx hb dX0_partOf_7 (lv_at hl 3 rfl) ?_
      refine lv_bipush (v := nI 10) hx hb dX0_partOf_9 (by decide) ?_
      refine lv_icmp_ge (tgt := 61) hx hb dX0_partOf_11 (by decide) (fun c_1 => ?_) (fun c_1 => ?_)
      · skip
        have e2 : P1 = P := e2
        subst e2
        refine lv_iload_n hx hb dX0_partOf_61 rfl (lv_at hl 2 rfl) ?_
        exact bd_iret C hr hk hw dX0_partOf_62
      · skip
        exact absurd ((bd_le10 (by omega)).mpr (by omega)) c_1
    | succ n ih =>
      intro k P1 e1 e2 H locs hw ls hl
      refine lv_iload hx hb dX0_partOf_7 (lv_at hl 3 rfl) ?_
      refine lv_bipush (v := nI 10) hx hb dX0_partOf_9 (by decide) ?_
      refine lv_icmp_ge (tgt := 61) hx hb dX0_partOf_11 (by decide) (fun c_2 => ?_) (fun c_2 => ?_)
      · skip
        have := (bd_le10 (by omega)).mp c_2
        omega
      · skip
        refine lv_iconst (v := nI 0) hx hb dX0_partOf_14 (by decide) ?_
        refine lv_istore (lv' := [(5, .int (nI 0)), (0, .ref (h 0)), (2, .int (bd_bs w)), (3, .int (bd_bs P1)), (4, .int (nI k))]) hx hb dX0_partOf_15 hl (by decide) rfl (fun ls hl => ?_)
        have lp3 : ∀ (n2 j : Nat) (P2 : Nat → Bool), j + n2 = 10 → bd_po2 J w n2 j P2 = bd_po2 J w 10 0 P1 → ∀ (H : Heap) (locs : List Loc), bd_at D h d A s.heap H locs (J, ab, mm, o, r, b, i, pp, qe, q) → ∀ ls : Array Slot, lv_has ls 6 [(0, .ref (h 0)), (2, .int (bd_bs w)), (3, .int (bd_bs P2)), (4, .int (nI k)), (5, .int (nI j))] → W p l e { frames := 0, cells := 0, slots := 0, locals := 0 } s m (([.ref (h 0), .int (nI x), .int (bd_bs w)] : List Value).toArray) below meth c0 H locs 0 0 (MQ below (bd_Qi D h d (bd_bs P) (J, ab, mm, o, r, b, i, pp, qe, q) A) (([.ref (h 0), .int (nI x), .int (bd_bs w)] : List Value).toArray) s 0 0 A) (F0 m 17 ls []) := by
          intro n2
          induction n2 with
          | zero =>
            intro j P2 f1 f2 H locs hw ls hl
            have f2 : P2 = bd_po2 J w 10 0 P1 := f2
            refine lv_iload hx hb dX0_partOf_17 (lv_at hl 4 rfl) ?_
            refine lv_bipush (v := nI 10) hx hb dX0_partOf_19 (by decide) ?_
            refine lv_icmp_ge (tgt := 55) hx hb dX0_partOf_21 (by decide) (fun c_3 => ?_) (fun c_3 => ?_)
            · skip
              refine lv_iinc (v := nI (k + 1)) (lv' := [(4, .int (nI (k + 1))), (0, .ref (h 0)), (2, .int (bd_bs w)), (3, .int (bd_bs P2)), (5, .int (nI j))]) hx hb dX0_partOf_55 hl (k := 3) rfl (nI_1 k) (by decide) rfl (fun ls hl => ?_)
              refine lv_goto (tgt := 7) hx hb dX0_partOf_58 (by decide) ?_
              exact ih (k + 1) P2 (by omega) (by rw [f2]; exact e2) _ _ hw ls (lv_sub hl [1, 2, 3, 0] rfl)
            · skip
              exact absurd ((bd_le10 (by omega)).mpr (by omega)) c_3
          | succ n2 ih2 =>
            intro j P2 f1 f2 H locs hw ls hl
            refine lv_iload hx hb dX0_partOf_17 (lv_at hl 4 rfl) ?_
            refine lv_bipush (v := nI 10) hx hb dX0_partOf_19 (by decide) ?_
            refine lv_icmp_ge (tgt := 55) hx hb dX0_partOf_21 (by decide) (fun c_4 => ?_) (fun c_4 => ?_)
            · skip
              have := (bd_le10 (by omega)).mp c_4
              omega
            · skip
              refine lv_iload_n hx hb dX0_partOf_24 rfl (lv_at hl 2 rfl) ?_
              refine lv_iload_n hx hb dX0_partOf_25 rfl (lv_at hl 2 rfl) ?_
              refine lv_iload hx hb dX0_partOf_26 (lv_at hl 4 rfl) ?_
              refine lv_iushr hx hb dX0_partOf_28 rfl ?_
              refine lv_iconst (v := nI 1) hx hb dX0_partOf_29 (by decide) ?_
              refine lv_iand hx hb dX0_partOf_30 ?_
              refine bd_top (y := bd_bz (P2 j)) (bd_bit P2 (by omega)) ?_
              refine lv_if_eq (tgt := 46) hx hb dX0_partOf_31 (by decide) (fun c_5 => ?_) (fun c_5 => ?_)
              · skip
                have h5 : P2 j = false := bd_bz0.mp c_5
                refine lv_iconst (v := bd_bs (fun _ => false)) hx hb dX0_partOf_46 (by decide +kernel) ?_
                refine lv_ior hx hb dX0_partOf_47 ?_
                refine bd_top (y := bd_bs (fun v => P2 v || (P2 j && (J j v && w v)))) (by rw [bd_or]; exact bd_bs_ext (fun v hv => by simp [h5])) ?_
                refine lv_istore_n (lv' := [(3, .int (bd_bs (fun v => P2 v || (P2 j && (J j v && w v))))), (0, .ref (h 0)), (2, .int (bd_bs w)), (4, .int (nI k)), (5, .int (nI j))]) hx hb dX0_partOf_48 rfl hl (by decide) rfl (fun ls hl => ?_)
                refine lv_iinc (v := nI (j + 1)) (lv' := [(5, .int (nI (j + 1))), (3, .int (bd_bs (fun v => P2 v || (P2 j && (J j v && w v))))), (0, .ref (h 0)), (2, .int (bd_bs w)), (4, .int (nI k))]) hx hb dX0_partOf_49 hl (k := 4) rfl (nI_1 j) (by decide) rfl (fun ls hl => ?_)
                refine lv_goto (tgt := 17) hx hb dX0_partOf_52 (by decide) ?_
                exact ih2 (j + 1) _ (by omega) f2 _ _ hw ls (lv_sub hl [2, 3, 1, 4, 0] rfl)
              · skip
                have h5 : P2 j = true := bd_bz1.mp c_5
                refine lv_aload_n hx hb dX0_partOf_34 rfl (lv_at hl 0 rfl) ?_
                refine bd_getJ C hw dX0_partOf_35 ?_
                refine lv_iload hx hb dX0_partOf_38 (lv_at hl 4 rfl) ?_
                refine bd_ldJ C hw (k := j) (by omega) dX0_partOf_40 ?_
                refine lv_iload_n hx hb dX0_partOf_41 rfl (lv_at hl 1 rfl) ?_
                refine lv_iand hx hb dX0_partOf_42 ?_
                refine bd_top (y := bd_bs (fun v => J j v && w v)) (bd_and _ _) ?_
                refine lv_goto (tgt := 47) hx hb dX0_partOf_43 (by decide) ?_
                refine lv_ior hx hb dX0_partOf_47 ?_
                refine bd_top (y := bd_bs (fun v => P2 v || (P2 j && (J j v && w v)))) (by rw [bd_or]; exact bd_bs_ext (fun v hv => by simp [h5])) ?_
                refine lv_istore_n (lv' := [(3, .int (bd_bs (fun v => P2 v || (P2 j && (J j v && w v))))), (0, .ref (h 0)), (2, .int (bd_bs w)), (4, .int (nI k)), (5, .int (nI j))]) hx hb dX0_partOf_48 rfl hl (by decide) rfl (fun ls hl => ?_)
                refine lv_iinc (v := nI (j + 1)) (lv' := [(5, .int (nI (j + 1))), (3, .int (bd_bs (fun v => P2 v || (P2 j && (J j v && w v))))), (0, .ref (h 0)), (2, .int (bd_bs w)), (4, .int (nI k))]) hx hb dX0_partOf_49 hl (k := 4) rfl (nI_1 j) (by decide) rfl (fun ls hl => ?_)
                refine lv_goto (tgt := 17) hx hb dX0_partOf_52 (by decide) ?_
                exact ih2 (j + 1) _ (by omega) f2 _ _ hw ls (lv_sub hl [2, 3, 1, 4, 0] rfl)
        exact lp3 10 0 P1 rfl rfl _ _ hw ls (lv_sub hl [1, 2, 3, 4, 0] rfl)
  refine lv_iconst (v := nI 1) hx hb dX0_partOf_0 (by decide) ?_
  refine lv_iload_n hx hb dX0_partOf_1 rfl (lv_at hl 1 rfl) ?_
  refine lv_ishl hx hb dX0_partOf_2 ?_
  refine bd_top (y := bd_bs (fun v => decide (v = x))) (bd_one hx0) ?_
  refine lv_istore_n (lv' := [(3, .int (bd_bs (fun v => decide (v = x)))), (0, .ref (h 0)), (1, .int (nI x)), (2, .int (bd_bs w))]) hx hb dX0_partOf_3 rfl hl (by decide) rfl (fun ls hl => ?_)
  refine lv_iconst (v := nI 0) hx hb dX0_partOf_4 (by decide) ?_
  refine lv_istore (lv' := [(4, .int (nI 0)), (3, .int (bd_bs (fun v => decide (v = x)))), (0, .ref (h 0)), (1, .int (nI x)), (2, .int (bd_bs w))]) hx hb dX0_partOf_5 hl (by decide) rfl (fun ls hl => ?_)
  exact lp 10 0 _ rfl hP _ _ hw ls (lv_sub hl [2, 4, 1, 0] rfl)
end
section
/-! walks: the public methods (printed by gen/desk4.py) -/
set_option maxHeartbeats 4000000 in
set_option maxRecDepth 100000 in
/-- isPair(x, y) -/
theorem bd_m_isPair (l : Launch) (x y : Int32) : bd_MS l yX0_isPair cX0_isPair 2 (some .boolean) 0 0 [.int x, .int y] (bd_bz (bd_pair x y)) := by
  refine bd_ofWS (own := RX0) (by decide) rfl (Nat.le_of_ble_eq_true rfl) ?_
  intro p e s m below meth c0 C hr hk ls hl
  have hx := C.1
  have hb := C.2.1
  have hS : va_S (fun _ => False) s.heap s.heap [] := va_S.rf
  have hl : lv_has ls 2 [(0, .int x), (1, .int y)] := hl
  refine lv_iload_n hx hb dX0_isPair_0 rfl (lv_at hl 0 rfl) ?_
  refine lv_if_lt (tgt := 29) hx hb dX0_isPair_1 (by decide) (fun c_1 => ?_) (fun c_1 => ?_)
  · skip
    have hp : bd_pair x y = false := decide_eq_false (fun z => z.1 c_1)
    refine lv_iconst (v := bd_bz (bd_pair x y)) hx hb dX0_isPair_29 (by rw [hp]; decide) ?_
    exact bd_zretS C hr hk hS dX0_isPair_30
  · skip
    refine lv_iload_n hx hb dX0_isPair_4 rfl (lv_at hl 0 rfl) ?_
    refine lv_bipush (v := nI 9) hx hb dX0_isPair_5 (by decide) ?_
    refine lv_icmp_gt (tgt := 29) hx hb dX0_isPair_7 (by decide) (fun c_2 => ?_) (fun c_2 => ?_)
    · skip
      have hp : bd_pair x y = false := decide_eq_false (fun z => z.2.1 c_2)
      refine lv_iconst (v := bd_bz (bd_pair x y)) hx hb dX0_isPair_29 (by rw [hp]; decide) ?_
      exact bd_zretS C hr hk hS dX0_isPair_30
    · skip
      refine lv_iload_n hx hb dX0_isPair_10 rfl (lv_at hl 1 rfl) ?_
      refine lv_if_lt (tgt := 29) hx hb dX0_isPair_11 (by decide) (fun c_3 => ?_) (fun c_3 => ?_)
      · skip
        have hp : bd_pair x y = false := decide_eq_false (fun z => z.2.2.1 c_3)
        refine lv_iconst (v := bd_bz (bd_pair x y)) hx hb dX0_isPair_29 (by rw [hp]; decide) ?_
        exact bd_zretS C hr hk hS dX0_isPair_30
      · skip
        refine lv_iload_n hx hb dX0_isPair_14 rfl (lv_at hl 1 rfl) ?_
        refine lv_bipush (v := nI 9) hx hb dX0_isPair_15 (by decide) ?_
        refine lv_icmp_gt (tgt := 29) hx hb dX0_isPair_17 (by decide) (fun c_4 => ?_) (fun c_4 => ?_)
        · skip
          have hp : bd_pair x y = false := decide_eq_false (fun z => z.2.2.2.1 c_4)
          refine lv_iconst (v := bd_bz (bd_pair x y)) hx hb dX0_isPair_29 (by rw [hp]; decide) ?_
          exact bd_zretS C hr hk hS dX0_isPair_30
        · skip
          refine lv_iload_n hx hb dX0_isPair_20 rfl (lv_at hl 0 rfl) ?_
          refine lv_iload_n hx hb dX0_isPair_21 rfl (lv_at hl 1 rfl) ?_
          refine lv_icmp_eq (tgt := 29) hx hb dX0_isPair_22 (by decide) (fun c_5 => ?_) (fun c_5 => ?_)
          · skip
            have hp : bd_pair x y = false := decide_eq_false (fun z => z.2.2.2.2 c_5)
            refine lv_iconst (v := bd_bz (bd_pair x y)) hx hb dX0_isPair_29 (by rw [hp]; decide) ?_
            exact bd_zretS C hr hk hS dX0_isPair_30
          · skip
            have hp : bd_pair x y = true := decide_eq_true ⟨c_1, c_2, c_3, c_4, c_5⟩
            refine lv_iconst (v := bd_bz (bd_pair x y)) hx hb dX0_isPair_25 (by rw [hp]; decide) ?_
            refine lv_goto (tgt := 30) hx hb dX0_isPair_26 (by decide) ?_
            exact bd_zretS C hr hk hS dX0_isPair_30
set_option maxHeartbeats 4000000 in
set_option maxRecDepth 100000 in
/-- join(x, y), refused -/
theorem bd_m_join_bad (l : Launch) (D : va_G) (h : Nat → Nat) (d : Nat → ClassId) (sz : Nat) (J : Nat → Nat → Bool) (ab : Nat → Bool) (mm : Nat → Nat) (o : Nat → Bool) (r b : Nat → Nat) (i pp : Nat → Bool) (qe : Nat) (q : Nat → Nat) (x y : Int32) (hp : bd_pair x y = false) : bd_MI l yX0_join cX0_join 4 (some .int) 1 22 D h d sz [.int x, .int y] (J, ab, mm, o, r, b, i, pp, qe, q) (bd_enc 10) (J, ab, mm, o, r, b, i, pp, qe, q) := by
  refine bd_ofW (Qc := bd_Qi D h d (bd_enc 10) (J, ab, mm, o, r, b, i, pp, qe, q)) (by decide) rfl (Nat.le_of_ble_eq_true rfl) ?_
  intro p e s m below meth c0 A C hr hk hA hw ls hl
  have hx := C.1.1
  have hb := C.1.2.1
  have hl : lv_has ls 4 [(0, .ref (h 0)), (1, .int x), (2, .int y)] := hl
  refine lv_iload_n hx hb dX0_join_0 rfl (lv_at hl 1 rfl) ?_
  refine lv_iload_n hx hb dX0_join_1 rfl (lv_at hl 2 rfl) ?_
  refine bd_calls C.1 hw.2.2 (bd_m_isPair l x y) (va_cwS 2 C.1.2.2.2.2 (lw_S q62 q63 q15 q64) rfl rfl rfl (by decide +kernel) ⟨Nat.le_of_ble_eq_true rfl, Nat.le_of_ble_eq_true rfl⟩) rfl hl.1 rfl (Nat.le_of_ble_eq_true rfl) dX0_join_2 ⟨Nat.zero_le _, Nat.zero_le _⟩ (fun H1 locs1 hkp hS1 => ?_)
  have hw := bd_at_kept hw hkp hS1
  generalize H1 = H at hw ⊢
  generalize locs1 = locs at hw ⊢
  refine lv_if_ne (tgt := 10) hx hb dX0_join_5 (by decide) (fun c_1 => ?_) (fun c_1 => ?_)
  · skip
    exact absurd hp (by rw [bd_bz1.mp c_1]; decide)
  · skip
    refine lv_iconst (v := bd_enc 10) hx hb dX0_join_8 (by decide) ?_
    exact bd_iret C hr hk hw dX0_join_9
set_option maxHeartbeats 4000000 in
set_option maxRecDepth 100000 in
/-- part(x, y), refused -/
theorem bd_m_part_bad (l : Launch) (D : va_G) (h : Nat → Nat) (d : Nat → ClassId) (sz : Nat) (J : Nat → Nat → Bool) (ab : Nat → Bool) (mm : Nat → Nat) (o : Nat → Bool) (r b : Nat → Nat) (i pp : Nat → Bool) (qe : Nat) (q : Nat → Nat) (x y : Int32) (hp : bd_pair x y = false) : bd_MI l yX0_part cX0_part 4 (some .int) 1 22 D h d sz [.int x, .int y] (J, ab, mm, o, r, b, i, pp, qe, q) (bd_enc 10) (J, ab, mm, o, r, b, i, pp, qe, q) := by
  refine bd_ofW (Qc := bd_Qi D h d (bd_enc 10) (J, ab, mm, o, r, b, i, pp, qe, q)) (by decide) rfl (Nat.le_of_ble_eq_true rfl) ?_
  intro p e s m below meth c0 A C hr hk hA hw ls hl
  have hx := C.1.1
  have hb := C.1.2.1
  have hl : lv_has ls 4 [(0, .ref (h 0)), (1, .int x), (2, .int y)] := hl
  refine lv_iload_n hx hb dX0_part_0 rfl (lv_at hl 1 rfl) ?_
  refine lv_iload_n hx hb dX0_part_1 rfl (lv_at hl 2 rfl) ?_
  refine bd_calls C.1 hw.2.2 (bd_m_isPair l x y) (va_cwS 2 C.1.2.2.2.2 (lw_S q62 q63 q15 q64) rfl rfl rfl (by decide +kernel) ⟨Nat.le_of_ble_eq_true rfl, Nat.le_of_ble_eq_true rfl⟩) rfl hl.1 rfl (Nat.le_of_ble_eq_true rfl) dX0_part_2 ⟨Nat.zero_le _, Nat.zero_le _⟩ (fun H1 locs1 hkp hS1 => ?_)
  have hw := bd_at_kept hw hkp hS1
  generalize H1 = H at hw ⊢
  generalize locs1 = locs at hw ⊢
  refine lv_if_ne (tgt := 10) hx hb dX0_part_5 (by decide) (fun c_1 => ?_) (fun c_1 => ?_)
  · skip
    exact absurd hp (by rw [bd_bz1.mp c_1]; decide)
  · skip
    refine lv_iconst (v := bd_enc 10) hx hb dX0_part_8 (by decide) ?_
    exact bd_iret C hr hk hw dX0_part_9
set_option maxHeartbeats 4000000 in
set_option maxRecDepth 100000 in
/-- usable(x, y), refused -/
theorem bd_m_usable_bad (l : Launch) (D : va_G) (h : Nat → Nat) (d : Nat → ClassId) (sz : Nat) (J : Nat → Nat → Bool) (ab : Nat → Bool) (mm : Nat → Nat) (o : Nat → Bool) (r b : Nat → Nat) (i pp : Nat → Bool) (qe : Nat) (q : Nat → Nat) (x y : Int32) (hp : bd_pair x y = false) : bd_MI l yX0_usable cX0_usable 5 (some .int) 5 123 D h d sz [.int x, .int y] (J, ab, mm, o, r, b, i, pp, qe, q) (bd_enc 10) (J, ab, mm, o, r, b, i, pp, qe, q) := by
  refine bd_ofW (Qc := bd_Qi D h d (bd_enc 10) (J, ab, mm, o, r, b, i, pp, qe, q)) (by decide) rfl (Nat.le_of_ble_eq_true rfl) ?_
  intro p e s m below meth c0 A C hr hk hA hw ls hl
  have hx := C.1.1
  have hb := C.1.2.1
  have hl : lv_has ls 5 [(0, .ref (h 0)), (1, .int x), (2, .int y)] := hl
  refine lv_iload_n hx hb dX0_usable_0 rfl (lv_at hl 1 rfl) ?_
  refine lv_iload_n hx hb dX0_usable_1 rfl (lv_at hl 2 rfl) ?_
  refine bd_calls C.1 hw.2.2 (bd_m_isPair l x y) (va_cwS 2 C.1.2.2.2.2 (lw_S q62 q63 q15 q64) rfl rfl rfl (by decide +kernel) ⟨Nat.le_of_ble_eq_true rfl, Nat.le_of_ble_eq_true rfl⟩) rfl hl.1 rfl (Nat.le_of_ble_eq_true rfl) dX0_usable_2 ⟨Nat.zero_le _, Nat.zero_le _⟩ (fun H1 locs1 hkp hS1 => ?_)
  have hw := bd_at_kept hw hkp hS1
  generalize H1 = H at hw ⊢
  generalize locs1 = locs at hw ⊢
  refine lv_if_ne (tgt := 10) hx hb dX0_usable_5 (by decide) (fun c_1 => ?_) (fun c_1 => ?_)
  · skip
    exact absurd hp (by rw [bd_bz1.mp c_1]; decide)
  · skip
    refine lv_iconst (v := bd_enc 10) hx hb dX0_usable_8 (by decide) ?_
    exact bd_iret C hr hk hw dX0_usable_9
set_option maxHeartbeats 4000000 in
set_option maxRecDepth 100000 in
/-- needed(x, y), refused -/
theorem bd_m_needed_bad (l : Launch) (D : va_G) (h : Nat → Nat) (d : Nat → ClassId) (sz : Nat) (J : Nat → Nat → Bool) (ab : Nat → Bool) (mm : Nat → Nat) (o : Nat → Bool) (r b : Nat → Nat) (i pp : Nat → Bool) (qe : Nat) (q : Nat → Nat) (x y : Int32) (hp : bd_pair x y = false) : bd_MI l yX0_needed cX0_needed 6 (some .int) 5 123 D h d sz [.int x, .int y] (J, ab, mm, o, r, b, i, pp, qe, q) (bd_enc 10) (J, ab, mm, o, r, b, i, pp, qe, q) := by
  refine bd_ofW (Qc := bd_Qi D h d (bd_enc 10) (J, ab, mm, o, r, b, i, pp, qe, q)) (by decide) rfl (Nat.le_of_ble_eq_true rfl) ?_
  intro p e s m below meth c0 A C hr hk hA hw ls hl
  have hx := C.1.1
  have hb := C.1.2.1
  have hl : lv_has ls 6 [(0, .ref (h 0)), (1, .int x), (2, .int y)] := hl
  refine lv_iload_n hx hb dX0_needed_0 rfl (lv_at hl 1 rfl) ?_
  refine lv_iload_n hx hb dX0_needed_1 rfl (lv_at hl 2 rfl) ?_
  refine bd_calls C.1 hw.2.2 (bd_m_isPair l x y) (va_cwS 2 C.1.2.2.2.2 (lw_S q62 q63 q15 q64) rfl rfl rfl (by decide +kernel) ⟨Nat.le_of_ble_eq_true rfl, Nat.le_of_ble_eq_true rfl⟩) rfl hl.1 rfl (Nat.le_of_ble_eq_true rfl) dX0_needed_2 ⟨Nat.zero_le _, Nat.zero_le _⟩ (fun H1 locs1 hkp hS1 => ?_)
  have hw := bd_at_kept hw hkp hS1
  generalize H1 = H at hw ⊢
  generalize locs1 = locs at hw ⊢
  refine lv_if_ne (tgt := 10) hx hb dX0_needed_5 (by decide) (fun c_1 => ?_) (fun c_1 => ?_)
  · skip
    exact absurd hp (by rw [bd_bz1.mp c_1]; decide)
  · skip
    refine lv_iconst (v := bd_enc 10) hx hb dX0_needed_8 (by decide) ?_
    exact bd_iret C hr hk hw dX0_needed_9
set_option maxHeartbeats 4000000 in
set_option maxRecDepth 100000 in
/-- join(a, c) -/
theorem bd_m_join (l : Launch) (D : va_G) (h : Nat → Nat) (d : Nat → ClassId) (sz : Nat) (J : Nat → Nat → Bool) (ab : Nat → Bool) (mm : Nat → Nat) (o : Nat → Bool) (r b : Nat → Nat) (i pp : Nat → Bool) (qe : Nat) (q : Nat → Nat) (a c : Nat) (ha : a < 10) (hc : c < 10) (hac : a ≠ c) : bd_MI l yX0_join cX0_join 4 (some .int) 1 22 D h d sz [.int (nI a), .int (nI c)] (J, ab, mm, o, r, b, i, pp, qe, q) (if J a c = true then nI 0 else nI 1) (bd_set J a c true, ab, mm, o, r, b, i, pp, qe, q) := by
  refine bd_ofW (Qc := bd_Qi D h d (if J a c = true then nI 0 else nI 1) (bd_set J a c true, ab, mm, o, r, b, i, pp, qe, q)) (by decide) rfl (Nat.le_of_ble_eq_true rfl) ?_
  intro p e s m below meth c0 A C hr hk hA hw ls hl
  have hx := C.1.1
  have hb := C.1.2.1
  have hl : lv_has ls 4 [(0, .ref (h 0)), (1, .int (nI a)), (2, .int (nI c))] := hl
  have hp := bd_pair_nI ha hc hac
  refine lv_iload_n hx hb dX0_join_0 rfl (lv_at hl 1 rfl) ?_
  refine lv_iload_n hx hb dX0_join_1 rfl (lv_at hl 2 rfl) ?_
  refine bd_calls C.1 hw.2.2 (bd_m_isPair l (nI a) (nI c)) (va_cwS 2 C.1.2.2.2.2 (lw_S q62 q63 q15 q64) rfl rfl rfl (by decide +kernel) ⟨Nat.le_of_ble_eq_true rfl, Nat.le_of_ble_eq_true rfl⟩) rfl hl.1 rfl (Nat.le_of_ble_eq_true rfl) dX0_join_2 ⟨Nat.zero_le _, Nat.zero_le _⟩ (fun H1 locs1 hkp hS1 => ?_)
  have hw := bd_at_kept hw hkp hS1
  generalize H1 = H at hw ⊢
  generalize locs1 = locs at hw ⊢
  refine lv_if_ne (tgt := 10) hx hb dX0_join_5 (by decide) (fun c_1 => ?_) (fun c_1 => ?_)
  · skip
    refine lv_aload_n hx hb dX0_join_10 rfl (lv_at hl 0 rfl) ?_
    refine lv_iload_n hx hb dX0_join_11 rfl (lv_at hl 1 rfl) ?_
    refine lv_iload_n hx hb dX0_join_12 rfl (lv_at hl 2 rfl) ?_
    refine bd_calli C hw hA (bd_m_isLine l D h d _ _ _ _ _ _ _ _ _ _ _ a c ha hc) (cwV 2 C.1.2.2.2.2 (lw_V q65 q67 qs0 q15 q68) rfl rfl rfl (by decide +kernel) ⟨Nat.le_of_ble_eq_true rfl, Nat.le_of_ble_eq_true rfl⟩) rfl hl.1 rfl (Nat.le_of_ble_eq_true rfl) dX0_join_13 ⟨Nat.zero_le _, Nat.zero_le _⟩ (fun H locs hw => ?_)
    refine lv_if_eq (tgt := 23) hx hb dX0_join_16 (by decide) (fun c_2 => ?_) (fun c_2 => ?_)
    · skip
      have h1 : ¬ J a c = true := fun z => absurd (z.symm.trans (bd_bz0.mp c_2)) (by decide)
      refine lv_iconst (v := if J a c = true then nI 0 else nI 1) hx hb dX0_join_23 (by rw [if_neg h1]; decide) ?_
      refine lv_istore_n (lv' := [(3, .int (if J a c = true then nI 0 else nI 1)), (0, .ref (h 0)), (1, .int (nI a)), (2, .int (nI c))]) hx hb dX0_join_24 rfl hl (by decide) rfl (fun ls hl => ?_)
      refine lv_aload_n hx hb dX0_join_25 rfl (lv_at hl 1 rfl) ?_
      refine bd_getJ C hw dX0_join_26 ?_
      refine lv_iload_n hx hb dX0_join_29 rfl (lv_at hl 2 rfl) ?_
      refine lv_dup2_11 hx hb dX0_join_30 rfl rfl ?_
      refine bd_ldJ C hw (k := a) (by omega) dX0_join_31 ?_
      refine lv_iconst (v := nI 1) hx hb dX0_join_32 (by decide) ?_
      refine lv_iload_n hx hb dX0_join_33 rfl (lv_at hl 3 rfl) ?_
      refine lv_ishl hx hb dX0_join_34 ?_
      refine bd_top (y := bd_bs (fun v => decide (v = c))) (bd_one hc) ?_
      refine lv_ior hx hb dX0_join_35 ?_
      refine bd_top (y := bd_bs (fun v => J a v || decide (v = c))) (bd_or _ _) ?_
      refine bd_stJ C hw (k := a) (fun v => J a v || decide (v = c)) (by omega) rfl dX0_join_36 (fun H locs hw => ?_)
      refine lv_aload_n hx hb dX0_join_37 rfl (lv_at hl 1 rfl) ?_
      refine bd_getJ C hw dX0_join_38 ?_
      refine lv_iload_n hx hb dX0_join_41 rfl (lv_at hl 3 rfl) ?_
      refine lv_dup2_11 hx hb dX0_join_42 rfl rfl ?_
      refine bd_ldJ C hw (k := c) (by omega) dX0_join_43 ?_
      refine lv_iconst (v := nI 1) hx hb dX0_join_44 (by decide) ?_
      refine lv_iload_n hx hb dX0_join_45 rfl (lv_at hl 2 rfl) ?_
      refine lv_ishl hx hb dX0_join_46 ?_
      refine bd_top (y := bd_bs (fun v => decide (v = a))) (bd_one ha) ?_
      refine lv_ior hx hb dX0_join_47 ?_
      refine bd_top (y := bd_bs (fun v => va_up J a (fun v => J a v || decide (v = c)) c v || decide (v = a))) (bd_or _ _) ?_
      refine bd_stJ C hw (k := c) (fun v => va_up J a (fun v => J a v || decide (v = c)) c v || decide (v = a)) (by omega) rfl dX0_join_48 (fun H locs hw => ?_)
      rw [bd_set_t hac] at hw
      refine lv_iload_n hx hb dX0_join_49 rfl (lv_at hl 0 rfl) ?_
      exact bd_iret C hr hk hw dX0_join_50
    · skip
      have h1 : J a c = true := bd_bz1.mp c_2
      refine lv_iconst (v := if J a c = true then nI 0 else nI 1) hx hb dX0_join_19 (by rw [if_pos h1]; decide) ?_
      refine lv_goto (tgt := 24) hx hb dX0_join_20 (by decide) ?_
      refine lv_istore_n (lv' := [(3, .int (if J a c = true then nI 0 else nI 1)), (0, .ref (h 0)), (1, .int (nI a)), (2, .int (nI c))]) hx hb dX0_join_24 rfl hl (by decide) rfl (fun ls hl => ?_)
      refine lv_aload_n hx hb dX0_join_25 rfl (lv_at hl 1 rfl) ?_
      refine bd_getJ C hw dX0_join_26 ?_
      refine lv_iload_n hx hb dX0_join_29 rfl (lv_at hl 2 rfl) ?_
      refine lv_dup2_11 hx hb dX0_join_30 rfl rfl ?_
      refine bd_ldJ C hw (k := a) (by omega) dX0_join_31 ?_
      refine lv_iconst (v := nI 1) hx hb dX0_join_32 (by decide) ?_
      refine lv_iload_n hx hb dX0_join_33 rfl (lv_at hl 3 rfl) ?_
      refine lv_ishl hx hb dX0_join_34 ?_
      refine bd_top (y := bd_bs (fun v => decide (v = c))) (bd_one hc) ?_
      refine lv_ior hx hb dX0_join_35 ?_
      refine bd_top (y := bd_bs (fun v => J a v || decide (v = c))) (bd_or _ _) ?_
      refine bd_stJ C hw (k := a) (fun v => J a v || decide (v = c)) (by omega) rfl dX0_join_36 (fun H locs hw => ?_)
      refine lv_aload_n hx hb dX0_join_37 rfl (lv_at hl 1 rfl) ?_
      refine bd_getJ C hw dX0_join_38 ?_
      refine lv_iload_n hx hb dX0_join_41 rfl (lv_at hl 3 rfl) ?_
      refine lv_dup2_11 hx hb dX0_join_42 rfl rfl ?_
      refine bd_ldJ C hw (k := c) (by omega) dX0_join_43 ?_
      refine lv_iconst (v := nI 1) hx hb dX0_join_44 (by decide) ?_
      refine lv_iload_n hx hb dX0_join_45 rfl (lv_at hl 2 rfl) ?_
      refine lv_ishl hx hb dX0_join_46 ?_
      refine bd_top (y := bd_bs (fun v => decide (v = a))) (bd_one ha) ?_
      refine lv_ior hx hb dX0_join_47 ?_
      refine bd_top (y := bd_bs (fun v => va_up J a (fun v => J a v || decide (v = c)) c v || decide (v = a))) (bd_or _ _) ?_
      refine bd_stJ C hw (k := c) (fun v => va_up J a (fun v => J a v || decide (v = c)) c v || decide (v = a)) (by omega) rfl dX0_join_48 (fun H locs hw => ?_)
      rw [bd_set_t hac] at hw
      refine lv_iload_n hx hb dX0_join_49 rfl (lv_at hl 0 rfl) ?_
      exact bd_iret C hr hk hw dX0_join_50
  · skip
    exact absurd (hp.symm.trans (bd_bz0.mp c_1)) (by decide)
set_option maxHeartbeats 4000000 in
set_option maxRecDepth 100000 in
/-- part(a, c) -/
theorem bd_m_part (l : Launch) (D : va_G) (h : Nat → Nat) (d : Nat → ClassId) (sz : Nat) (J : Nat → Nat → Bool) (ab : Nat → Bool) (mm : Nat → Nat) (o : Nat → Bool) (r b : Nat → Nat) (i pp : Nat → Bool) (qe : Nat) (q : Nat → Nat) (a c : Nat) (ha : a < 10) (hc : c < 10) (hac : a ≠ c) : bd_MI l yX0_part cX0_part 4 (some .int) 1 22 D h d sz [.int (nI a), .int (nI c)] (J, ab, mm, o, r, b, i, pp, qe, q) (if J a c = true then nI 1 else nI 0) (bd_set J a c false, ab, mm, o, r, b, i, pp, qe, q) := by
  refine bd_ofW (Qc := bd_Qi D h d (if J a c = true then nI 1 else nI 0) (bd_set J a c false, ab, mm, o, r, b, i, pp, qe, q)) (by decide) rfl (Nat.le_of_ble_eq_true rfl) ?_
  intro p e s m below meth c0 A C hr hk hA hw ls hl
  have hx := C.1.1
  have hb := C.1.2.1
  have hl : lv_has ls 4 [(0, .ref (h 0)), (1, .int (nI a)), (2, .int (nI c))] := hl
  have hp := bd_pair_nI ha hc hac
  refine lv_iload_n hx hb dX0_part_0 rfl (lv_at hl 1 rfl) ?_
  refine lv_iload_n hx hb dX0_part_1 rfl (lv_at hl 2 rfl) ?_
  refine bd_calls C.1 hw.2.2 (bd_m_isPair l (nI a) (nI c)) (va_cwS 2 C.1.2.2.2.2 (lw_S q62 q63 q15 q64) rfl rfl rfl (by decide +kernel) ⟨Nat.le_of_ble_eq_true rfl, Nat.le_of_ble_eq_true rfl⟩) rfl hl.1 rfl (Nat.le_of_ble_eq_true rfl) dX0_part_2 ⟨Nat.zero_le _, Nat.zero_le _⟩ (fun H1 locs1 hkp hS1 => ?_)
  have hw := bd_at_kept hw hkp hS1
  generalize H1 = H at hw ⊢
  generalize locs1 = locs at hw ⊢
  refine lv_if_ne (tgt := 10) hx hb dX0_part_5 (by decide) (fun c_1 => ?_) (fun c_1 => ?_)
  · skip
    refine lv_aload_n hx hb dX0_part_10 rfl (lv_at hl 0 rfl) ?_
    refine lv_iload_n hx hb dX0_part_11 rfl (lv_at hl 1 rfl) ?_
    refine lv_iload_n hx hb dX0_part_12 rfl (lv_at hl 2 rfl) ?_
    refine bd_calli C hw hA (bd_m_isLine l D h d _ _ _ _ _ _ _ _ _ _ _ a c ha hc) (cwV 2 C.1.2.2.2.2 (lw_V q65 q67 qs0 q15 q68) rfl rfl rfl (by decide +kernel) ⟨Nat.le_of_ble_eq_true rfl, Nat.le_of_ble_eq_true rfl⟩) rfl hl.1 rfl (Nat.le_of_ble_eq_true rfl) dX0_part_13 ⟨Nat.zero_le _, Nat.zero_le _⟩ (fun H locs hw => ?_)
    refine lv_if_eq (tgt := 23) hx hb dX0_part_16 (by decide) (fun c_2 => ?_) (fun c_2 => ?_)
    · skip
      have h1 : ¬ J a c = true := fun z => absurd (z.symm.trans (bd_bz0.mp c_2)) (by decide)
      refine lv_iconst (v := if J a c = true then nI 1 else nI 0) hx hb dX0_part_23 (by rw [if_neg h1]; decide) ?_
      refine lv_istore_n (lv' := [(3, .int (if J a c = true then nI 1 else nI 0)), (0, .ref (h 0)), (1, .int (nI a)), (2, .int (nI c))]) hx hb dX0_part_24 rfl hl (by decide) rfl (fun ls hl => ?_)
      refine lv_aload_n hx hb dX0_part_25 rfl (lv_at hl 1 rfl) ?_
      refine bd_getJ C hw dX0_part_26 ?_
      refine lv_iload_n hx hb dX0_part_29 rfl (lv_at hl 2 rfl) ?_
      refine lv_dup2_11 hx hb dX0_part_30 rfl rfl ?_
      refine bd_ldJ C hw (k := a) (by omega) dX0_part_31 ?_
      refine lv_iconst (v := nI 1) hx hb dX0_part_32 (by decide) ?_
      refine lv_iload_n hx hb dX0_part_33 rfl (lv_at hl 3 rfl) ?_
      refine lv_ishl hx hb dX0_part_34 ?_
      refine bd_top (y := bd_bs (fun v => decide (v = c))) (bd_one hc) ?_
      refine lv_iconst (v := -1) hx hb dX0_part_35 (by decide) ?_
      refine lv_ixor hx hb dX0_part_36 ?_
      refine lv_iand hx hb dX0_part_37 ?_
      refine bd_top (y := bd_bs (fun v => J a v && !decide (v = c))) (bd_andn _ _) ?_
      refine bd_stJ C hw (k := a) (fun v => J a v && !decide (v = c)) (by omega) rfl dX0_part_38 (fun H locs hw => ?_)
      refine lv_aload_n hx hb dX0_part_39 rfl (lv_at hl 1 rfl) ?_
      refine bd_getJ C hw dX0_part_40 ?_
      refine lv_iload_n hx hb dX0_part_43 rfl (lv_at hl 3 rfl) ?_
      refine lv_dup2_11 hx hb dX0_part_44 rfl rfl ?_
      refine bd_ldJ C hw (k := c) (by omega) dX0_part_45 ?_
      refine lv_iconst (v := nI 1) hx hb dX0_part_46 (by decide) ?_
      refine lv_iload_n hx hb dX0_part_47 rfl (lv_at hl 2 rfl) ?_
      refine lv_ishl hx hb dX0_part_48 ?_
      refine bd_top (y := bd_bs (fun v => decide (v = a))) (bd_one ha) ?_
      refine lv_iconst (v := -1) hx hb dX0_part_49 (by decide) ?_
      refine lv_ixor hx hb dX0_part_50 ?_
      refine lv_iand hx hb dX0_part_51 ?_
      refine bd_top (y := bd_bs (fun v => va_up J a (fun v => J a v && !decide (v = c)) c v && !decide (v = a))) (bd_andn _ _) ?_
      refine bd_stJ C hw (k := c) (fun v => va_up J a (fun v => J a v && !decide (v = c)) c v && !decide (v = a)) (by omega) rfl dX0_part_52 (fun H locs hw => ?_)
      rw [bd_set_f hac] at hw
      refine lv_iload_n hx hb dX0_part_53 rfl (lv_at hl 0 rfl) ?_
      exact bd_iret C hr hk hw dX0_part_54
    · skip
      have h1 : J a c = true := bd_bz1.mp c_2
      refine lv_iconst (v := if J a c = true then nI 1 else nI 0) hx hb dX0_part_19 (by rw [if_pos h1]; decide) ?_
      refine lv_goto (tgt := 24) hx hb dX0_part_20 (by decide) ?_
      refine lv_istore_n (lv' := [(3, .int (if J a c = true then nI 1 else nI 0)), (0, .ref (h 0)), (1, .int (nI a)), (2, .int (nI c))]) hx hb dX0_part_24 rfl hl (by decide) rfl (fun ls hl => ?_)
      refine lv_aload_n hx hb dX0_part_25 rfl (lv_at hl 1 rfl) ?_
      refine bd_getJ C hw dX0_part_26 ?_
      refine lv_iload_n hx hb dX0_part_29 rfl (lv_at hl 2 rfl) ?_
      refine lv_dup2_11 hx hb dX0_part_30 rfl rfl ?_
      refine bd_ldJ C hw (k := a) (by omega) dX0_part_31 ?_
      refine lv_iconst (v := nI 1) hx hb dX0_part_32 (by decide) ?_
      refine lv_iload_n hx hb dX0_part_33 rfl (lv_at hl 3 rfl) ?_
      refine lv_ishl hx hb dX0_part_34 ?_
      refine bd_top (y := bd_bs (fun v => decide (v = c))) (bd_one hc) ?_
      refine lv_iconst (v := -1) hx hb dX0_part_35 (by decide) ?_
      refine lv_ixor hx hb dX0_part_36 ?_
      refine lv_iand hx hb dX0_part_37 ?_
      refine bd_top (y := bd_bs (fun v => J a v && !decide (v = c))) (bd_andn _ _) ?_
      refine bd_stJ C hw (k := a) (fun v => J a v && !decide (v = c)) (by omega) rfl dX0_part_38 (fun H locs hw => ?_)
      refine lv_aload_n hx hb dX0_part_39 rfl (lv_at hl 1 rfl) ?_
      refine bd_getJ C hw dX0_part_40 ?_
      refine lv_iload_n hx hb dX0_part_43 rfl (lv_at hl 3 rfl) ?_
      refine lv_dup2_11 hx hb dX0_part_44 rfl rfl ?_
      refine bd_ldJ C hw (k := c) (by omega) dX0_part_45 ?_
      refine lv_iconst (v := nI 1) hx hb dX0_part_46 (by decide) ?_
      refine lv_iload_n hx hb dX0_part_47 rfl (lv_at hl 2 rfl) ?_
      refine lv_ishl hx hb dX0_part_48 ?_
      refine bd_top (y := bd_bs (fun v => decide (v = a))) (bd_one ha) ?_
      refine lv_iconst (v := -1) hx hb dX0_part_49 (by decide) ?_
      refine lv_ixor hx hb dX0_part_50 ?_
      refine lv_iand hx hb dX0_part_51 ?_
      refine bd_top (y := bd_bs (fun v => va_up J a (fun v => J a v && !decide (v = c)) c v && !decide (v = a))) (bd_andn _ _) ?_
      refine bd_stJ C hw (k := c) (fun v => va_up J a (fun v => J a v && !decide (v = c)) c v && !decide (v = a)) (by omega) rfl dX0_part_52 (fun H locs hw => ?_)
      rw [bd_set_f hac] at hw
      refine lv_iload_n hx hb dX0_part_53 rfl (lv_at hl 0 rfl) ?_
      exact bd_iret C hr hk hw dX0_part_54
  · skip
    exact absurd (hp.symm.trans (bd_bz0.mp c_1)) (by decide)
set_option maxHeartbeats 4000000 in
set_option maxRecDepth 100000 in
/-- most() -/
theorem bd_m_most (l : Launch) (D : va_G) (h : Nat → Nat) (d : Nat → ClassId) (sz : Nat) (J : Nat → Nat → Bool) (ab : Nat → Bool) (mm : Nat → Nat) (o : Nat → Bool) (r b : Nat → Nat) (i pp : Nat → Bool) (qe : Nat) (q : Nat → Nat) (cnt : Nat) (m1 : Nat → Nat) (o1 : Nat → Bool) (r1 b1 : Nat → Nat) (i1 p1 : Nat → Bool) (qe1 : Nat) (q1 : Nat → Nat) (hF : bd_pairWithout J (fun _ => false) mm (o, r, b, i, pp, qe, q) = some (cnt, m1, (o1, r1, b1, i1, p1, qe1, q1))) : bd_MI l yX0_most cX0_most 1 (some .int) 5 123 D h d sz [] (J, ab, mm, o, r, b, i, pp, qe, q) (nI cnt) (J, (fun _ => false), m1, o1, r1, b1, i1, p1, qe1, q1) := by
  refine bd_ofW (Qc := bd_Qi D h d (nI cnt) (J, (fun _ => false), m1, o1, r1, b1, i1, p1, qe1, q1)) (by decide) rfl (Nat.le_of_ble_eq_true rfl) ?_
  intro p e s m below meth c0 A C hr hk hA hw ls hl
  have hx := C.1.1
  have hb := C.1.2.1
  have hl : lv_has ls 1 [(0, .ref (h 0))] := hl
  refine lv_aload_n hx hb dX0_most_0 rfl (lv_at hl 0 rfl) ?_
  refine lv_iconst (v := bd_bs (fun _ => false)) hx hb dX0_most_1 (by decide +kernel) ?_
  refine bd_calli C hw hA (bd_m_pairWithout l D h d _ _ _ _ _ _ _ _ _ _ _ (fun _ => false) cnt m1 o1 r1 b1 i1 p1 qe1 q1 hF) (cwV 1 C.1.2.2.2.2 (lw_V q77 q79 qs1 q15 q80) rfl rfl rfl (by decide +kernel) ⟨Nat.le_of_ble_eq_true rfl, Nat.le_of_ble_eq_true rfl⟩) rfl hl.1 rfl (Nat.le_of_ble_eq_true rfl) dX0_most_2 ⟨Nat.zero_le _, Nat.zero_le _⟩ (fun H locs hw => ?_)
  exact bd_iret C hr hk hw dX0_most_5
set_option maxHeartbeats 4000000 in
set_option maxRecDepth 100000 in
/-- mostWithout(x) -/
theorem bd_m_mostWithout (l : Launch) (D : va_G) (h : Nat → Nat) (d : Nat → ClassId) (sz : Nat) (J : Nat → Nat → Bool) (ab : Nat → Bool) (mm : Nat → Nat) (o : Nat → Bool) (r b : Nat → Nat) (i pp : Nat → Bool) (qe : Nat) (q : Nat → Nat) (x : Int32) (cnt : Nat) (m1 : Nat → Nat) (o1 : Nat → Bool) (r1 b1 : Nat → Nat) (i1 p1 : Nat → Bool) (qe1 : Nat) (q1 : Nat → Nat) (hF : bd_pairWithout J (fun v => bt x v) mm (o, r, b, i, pp, qe, q) = some (cnt, m1, (o1, r1, b1, i1, p1, qe1, q1))) : bd_MI l yX0_mostWithout cX0_mostWithout 2 (some .int) 5 123 D h d sz [.int x] (J, ab, mm, o, r, b, i, pp, qe, q) (nI cnt) (J, (fun v => bt x v), m1, o1, r1, b1, i1, p1, qe1, q1) := by
  refine bd_ofW (Qc := bd_Qi D h d (nI cnt) (J, (fun v => bt x v), m1, o1, r1, b1, i1, p1, qe1, q1)) (by decide) rfl (Nat.le_of_ble_eq_true rfl) ?_
  intro p e s m below meth c0 A C hr hk hA hw ls hl
  have hx := C.1.1
  have hb := C.1.2.1
  have hl : lv_has ls 2 [(0, .ref (h 0)), (1, .int x)] := hl
  refine lv_aload_n hx hb dX0_mostWithout_0 rfl (lv_at hl 0 rfl) ?_
  refine lv_iload_n hx hb dX0_mostWithout_1 rfl (lv_at hl 1 rfl) ?_
  refine lv_sipush (v := nI 1023) hx hb dX0_mostWithout_2 (by decide) ?_
  refine lv_iand hx hb dX0_mostWithout_5 ?_
  refine bd_top (y := bd_bs (fun v => bt x v)) (bd_low x) ?_
  refine bd_calli C hw hA (bd_m_pairWithout l D h d _ _ _ _ _ _ _ _ _ _ _ (fun v => bt x v) cnt m1 o1 r1 b1 i1 p1 qe1 q1 hF) (cwV 1 C.1.2.2.2.2 (lw_V q77 q79 qs1 q15 q80) rfl rfl rfl (by decide +kernel) ⟨Nat.le_of_ble_eq_true rfl, Nat.le_of_ble_eq_true rfl⟩) rfl hl.1 rfl (Nat.le_of_ble_eq_true rfl) dX0_mostWithout_6 ⟨Nat.zero_le _, Nat.zero_le _⟩ (fun H locs hw => ?_)
  exact bd_iret C hr hk hw dX0_mostWithout_9
set_option maxHeartbeats 4000000 in
set_option maxRecDepth 100000 in
/-- spare(x), refused -/
theorem bd_m_spare_bad (l : Launch) (D : va_G) (h : Nat → Nat) (d : Nat → ClassId) (sz : Nat) (J : Nat → Nat → Bool) (ab : Nat → Bool) (mm : Nat → Nat) (o : Nat → Bool) (r b : Nat → Nat) (i pp : Nat → Bool) (qe : Nat) (q : Nat → Nat) (x : Int32) (hp : x < 0 ∨ nI 9 < x) : bd_MI l yX0_spare cX0_spare 2 (some .int) 5 123 D h d sz [.int x] (J, ab, mm, o, r, b, i, pp, qe, q) (bd_enc 10) (J, ab, mm, o, r, b, i, pp, qe, q) := by
  refine bd_ofW (Qc := bd_Qi D h d (bd_enc 10) (J, ab, mm, o, r, b, i, pp, qe, q)) (by decide) rfl (Nat.le_of_ble_eq_true rfl) ?_
  intro p e s m below meth c0 A C hr hk hA hw ls hl
  have hx := C.1.1
  have hb := C.1.2.1
  have hl : lv_has ls 2 [(0, .ref (h 0)), (1, .int x)] := hl
  refine lv_iload_n hx hb dX0_spare_0 rfl (lv_at hl 1 rfl) ?_
  refine lv_if_lt (tgt := 10) hx hb dX0_spare_1 (by decide) (fun c_1 => ?_) (fun c_1 => ?_)
  · skip
    refine lv_iconst (v := bd_enc 10) hx hb dX0_spare_10 (by decide) ?_
    exact bd_iret C hr hk hw dX0_spare_11
  · skip
    refine lv_iload_n hx hb dX0_spare_4 rfl (lv_at hl 1 rfl) ?_
    refine lv_bipush (v := nI 9) hx hb dX0_spare_5 (by decide) ?_
    refine lv_icmp_le (tgt := 12) hx hb dX0_spare_7 (by decide) (fun c_2 => ?_) (fun c_2 => ?_)
    · skip
      exact absurd hp (fun z => z.elim c_1 (fun z => absurd c_2 (by rw [Int32.not_le]; exact z)))
    · skip
      refine lv_iconst (v := bd_enc 10) hx hb dX0_spare_10 (by decide) ?_
      exact bd_iret C hr hk hw dX0_spare_11
set_option maxHeartbeats 4000000 in
set_option maxRecDepth 100000 in
/-- spare(a) -/
theorem bd_m_spare (l : Launch) (D : va_G) (h : Nat → Nat) (d : Nat → ClassId) (sz : Nat) (J : Nat → Nat → Bool) (ab : Nat → Bool) (mm : Nat → Nat) (o : Nat → Bool) (r b : Nat → Nat) (i pp : Nat → Bool) (qe : Nat) (q : Nat → Nat) (a cnt : Nat) (m1 : Nat → Nat) (o1 : Nat → Bool) (r1 b1 : Nat → Nat) (i1 p1 : Nat → Bool) (qe1 : Nat) (q1 : Nat → Nat) (S : Nat → Bool) (o2 : Nat → Bool) (r2 b2 : Nat → Nat) (i2 p2 : Nat → Bool) (qe2 : Nat) (q2 : Nat → Nat) (ha : a < 10) (hF : bd_pairWithout J (fun _ => false) mm (o, r, b, i, pp, qe, q) = some (cnt, m1, (o1, r1, b1, i1, p1, qe1, q1))) (hF2 : bd_sp J (fun _ => false) m1 10 0 (fun _ => false) (o1, r1, b1, i1, p1, qe1, q1) = some (S, (o2, r2, b2, i2, p2, qe2, q2))) : bd_MI l yX0_spare cX0_spare 2 (some .int) 5 123 D h d sz [.int (nI a)] (J, ab, mm, o, r, b, i, pp, qe, q) (bd_bz (S a)) (J, (fun _ => false), m1, o2, r2, b2, i2, p2, qe2, q2) := by
  refine bd_ofW (Qc := bd_Qi D h d (bd_bz (S a)) (J, (fun _ => false), m1, o2, r2, b2, i2, p2, qe2, q2)) (by decide) rfl (Nat.le_of_ble_eq_true rfl) ?_
  intro p e s m below meth c0 A C hr hk hA hw ls hl
  have hx := C.1.1
  have hb := C.1.2.1
  have hl : lv_has ls 2 [(0, .ref (h 0)), (1, .int (nI a))] := hl
  refine lv_iload_n hx hb dX0_spare_0 rfl (lv_at hl 1 rfl) ?_
  refine lv_if_lt (tgt := 10) hx hb dX0_spare_1 (by decide) (fun c_1 => ?_) (fun c_1 => ?_)
  · skip
    exact absurd c_1 (nI_pos (by omega))
  · skip
    refine lv_iload_n hx hb dX0_spare_4 rfl (lv_at hl 1 rfl) ?_
    refine lv_bipush (v := nI 9) hx hb dX0_spare_5 (by decide) ?_
    refine lv_icmp_le (tgt := 12) hx hb dX0_spare_7 (by decide) (fun c_2 => ?_) (fun c_2 => ?_)
    · skip
      refine lv_aload_n hx hb dX0_spare_12 rfl (lv_at hl 0 rfl) ?_
      refine lv_iconst (v := bd_bs (fun _ => false)) hx hb dX0_spare_13 (by decide +kernel) ?_
      refine bd_calli C hw hA (bd_m_pairWithout l D h d _ _ _ _ _ _ _ _ _ _ _ (fun _ => false) cnt m1 o1 r1 b1 i1 p1 qe1 q1 hF) (cwV 1 C.1.2.2.2.2 (lw_V q77 q79 qs1 q15 q80) rfl rfl rfl (by decide +kernel) ⟨Nat.le_of_ble_eq_true rfl, Nat.le_of_ble_eq_true rfl⟩) rfl hl.1 rfl (Nat.le_of_ble_eq_true rfl) dX0_spare_14 ⟨Nat.zero_le _, Nat.zero_le _⟩ (fun H locs hw => ?_)
      refine lv_pop hx hb dX0_spare_17 rfl ?_
      refine lv_aload_n hx hb dX0_spare_18 rfl (lv_at hl 0 rfl) ?_
      refine bd_calli C hw hA (bd_m_spares l D h d _ _ _ _ _ _ _ _ _ _ _ S o2 r2 b2 i2 p2 qe2 q2 hF2) (cwV 0 C.1.2.2.2.2 (lw_V q113 q115 qs9 q15 q116) rfl rfl rfl (by decide +kernel) ⟨Nat.le_of_ble_eq_true rfl, Nat.le_of_ble_eq_true rfl⟩) rfl hl.1 rfl (Nat.le_of_ble_eq_true rfl) dX0_spare_19 ⟨Nat.zero_le _, Nat.zero_le _⟩ (fun H locs hw => ?_)
      refine lv_iload_n hx hb dX0_spare_22 rfl (lv_at hl 1 rfl) ?_
      refine lv_iushr hx hb dX0_spare_23 rfl ?_
      refine lv_iconst (v := nI 1) hx hb dX0_spare_24 (by decide) ?_
      refine lv_iand hx hb dX0_spare_25 ?_
      refine bd_top (y := bd_bz (S a)) (bd_bit S ha) ?_
      exact bd_iret C hr hk hw dX0_spare_26
    · skip
      exact absurd (nI_le (show a ≤ 9 by omega) (by omega)) c_2
set_option maxHeartbeats 4000000 in
set_option maxRecDepth 100000 in
/-- usable(a, c) -/
theorem bd_m_usable (l : Launch) (D : va_G) (h : Nat → Nat) (d : Nat → ClassId) (sz : Nat) (J : Nat → Nat → Bool) (ab : Nat → Bool) (mm : Nat → Nat) (o : Nat → Bool) (r b : Nat → Nat) (i pp : Nat → Bool) (qe : Nat) (q : Nat → Nat) (a c c1 c2 : Nat) (m1 : Nat → Nat) (o1 : Nat → Bool) (r1 b1 : Nat → Nat) (i1 p1 : Nat → Bool) (qe1 : Nat) (q1 : Nat → Nat) (m2 : Nat → Nat) (o2 : Nat → Bool) (r2 b2 : Nat → Nat) (i2 p2 : Nat → Bool) (qe2 : Nat) (q2 : Nat → Nat) (ha : a < 10) (hc : c < 10) (hac : a ≠ c) (b1' : c1 < 2 ^ 30) (b2' : c2 < 2 ^ 30) (hF : bd_pairWithout J (fun _ => false) mm (o, r, b, i, pp, qe, q) = some (c1, m1, (o1, r1, b1, i1, p1, qe1, q1))) (hF2 : bd_pairWithout J (fun v => decide (v = a) || decide (v = c)) m1 (o1, r1, b1, i1, p1, qe1, q1) = some (c2, m2, (o2, r2, b2, i2, p2, qe2, q2))) : bd_MI l yX0_usable cX0_usable 5 (some .int) 5 123 D h d sz [.int (nI a), .int (nI c)] (J, ab, mm, o, r, b, i, pp, qe, q) (bd_bz (J a c && decide (c2 + 1 = c1))) (J, (fun v => decide (v = a) || decide (v = c)), m2, o2, r2, b2, i2, p2, qe2, q2) := by
  refine bd_ofW (Qc := bd_Qi D h d (bd_bz (J a c && decide (c2 + 1 = c1))) (J, (fun v => decide (v = a) || decide (v = c)), m2, o2, r2, b2, i2, p2, qe2, q2)) (by decide) rfl (Nat.le_of_ble_eq_true rfl) ?_
  intro p e s m below meth c0 A C hr hk hA hw ls hl
  have hx := C.1.1
  have hb := C.1.2.1
  have hl : lv_has ls 5 [(0, .ref (h 0)), (1, .int (nI a)), (2, .int (nI c))] := hl
  have hp := bd_pair_nI ha hc hac
  refine lv_iload_n hx hb dX0_usable_0 rfl (lv_at hl 1 rfl) ?_
  refine lv_iload_n hx hb dX0_usable_1 rfl (lv_at hl 2 rfl) ?_
  refine bd_calls C.1 hw.2.2 (bd_m_isPair l (nI a) (nI c)) (va_cwS 2 C.1.2.2.2.2 (lw_S q62 q63 q15 q64) rfl rfl rfl (by decide +kernel) ⟨Nat.le_of_ble_eq_true rfl, Nat.le_of_ble_eq_true rfl⟩) rfl hl.1 rfl (Nat.le_of_ble_eq_true rfl) dX0_usable_2 ⟨Nat.zero_le _, Nat.zero_le _⟩ (fun H1 locs1 hkp hS1 => ?_)
  have hw := bd_at_kept hw hkp hS1
  generalize H1 = H at hw ⊢
  generalize locs1 = locs at hw ⊢
  refine lv_if_ne (tgt := 10) hx hb dX0_usable_5 (by decide) (fun c_1 => ?_) (fun c_1 => ?_)
  · skip
    refine lv_aload_n hx hb dX0_usable_10 rfl (lv_at hl 0 rfl) ?_
    refine lv_iconst (v := bd_bs (fun _ => false)) hx hb dX0_usable_11 (by decide +kernel) ?_
    refine bd_calli C hw hA (bd_m_pairWithout l D h d _ _ _ _ _ _ _ _ _ _ _ (fun _ => false) c1 m1 o1 r1 b1 i1 p1 qe1 q1 hF) (cwV 1 C.1.2.2.2.2 (lw_V q77 q79 qs1 q15 q80) rfl rfl rfl (by decide +kernel) ⟨Nat.le_of_ble_eq_true rfl, Nat.le_of_ble_eq_true rfl⟩) rfl hl.1 rfl (Nat.le_of_ble_eq_true rfl) dX0_usable_12 ⟨Nat.zero_le _, Nat.zero_le _⟩ (fun H locs hw => ?_)
    refine lv_istore_n (lv' := [(3, .int (nI c1)), (0, .ref (h 0)), (1, .int (nI a)), (2, .int (nI c))]) hx hb dX0_usable_15 rfl hl (by decide) rfl (fun ls hl => ?_)
    refine lv_aload_n hx hb dX0_usable_16 rfl (lv_at hl 1 rfl) ?_
    refine lv_iconst (v := nI 1) hx hb dX0_usable_17 (by decide) ?_
    refine lv_iload_n hx hb dX0_usable_18 rfl (lv_at hl 2 rfl) ?_
    refine lv_ishl hx hb dX0_usable_19 ?_
    refine bd_top (y := bd_bs (fun v => decide (v = a))) (bd_one ha) ?_
    refine lv_iconst (v := nI 1) hx hb dX0_usable_20 (by decide) ?_
    refine lv_iload_n hx hb dX0_usable_21 rfl (lv_at hl 3 rfl) ?_
    refine lv_ishl hx hb dX0_usable_22 ?_
    refine bd_top (y := bd_bs (fun v => decide (v = c))) (bd_one hc) ?_
    refine lv_ior hx hb dX0_usable_23 ?_
    refine bd_top (y := bd_bs (fun v => decide (v = a) || decide (v = c))) (bd_or _ _) ?_
    refine bd_calli C hw hA (bd_m_pairWithout l D h d _ _ _ _ _ _ _ _ _ _ _ (fun v => decide (v = a) || decide (v = c)) c2 m2 o2 r2 b2 i2 p2 qe2 q2 hF2) (cwV 1 C.1.2.2.2.2 (lw_V q77 q79 qs1 q15 q80) rfl rfl rfl (by decide +kernel) ⟨Nat.le_of_ble_eq_true rfl, Nat.le_of_ble_eq_true rfl⟩) rfl hl.1 rfl (Nat.le_of_ble_eq_true rfl) dX0_usable_24 ⟨Nat.zero_le _, Nat.zero_le _⟩ (fun H locs hw => ?_)
    refine lv_istore (lv' := [(4, .int (nI c2)), (3, .int (nI c1)), (0, .ref (h 0)), (1, .int (nI a)), (2, .int (nI c))]) hx hb dX0_usable_27 hl (by decide) rfl (fun ls hl => ?_)
    refine lv_aload_n hx hb dX0_usable_29 rfl (lv_at hl 2 rfl) ?_
    refine lv_iload_n hx hb dX0_usable_30 rfl (lv_at hl 3 rfl) ?_
    refine lv_iload_n hx hb dX0_usable_31 rfl (lv_at hl 4 rfl) ?_
    refine bd_calli C hw hA (bd_m_isLine l D h d _ _ _ _ _ _ _ _ _ _ _ a c ha hc) (cwV 2 C.1.2.2.2.2 (lw_V q65 q67 qs0 q15 q68) rfl rfl rfl (by decide +kernel) ⟨Nat.le_of_ble_eq_true rfl, Nat.le_of_ble_eq_true rfl⟩) rfl hl.1 rfl (Nat.le_of_ble_eq_true rfl) dX0_usable_32 ⟨Nat.zero_le _, Nat.zero_le _⟩ (fun H locs hw => ?_)
    refine lv_if_eq (tgt := 50) hx hb dX0_usable_35 (by decide) (fun c_2 => ?_) (fun c_2 => ?_)
    · skip
      have h1 : (J a c && decide (c2 + 1 = c1)) = false := by rw [bd_bz0.mp c_2]; rfl
      refine lv_iconst (v := bd_bz (J a c && decide (c2 + 1 = c1))) hx hb dX0_usable_50 (by rw [h1]; decide) ?_
      exact bd_iret C hr hk hw dX0_usable_51
    · skip
      have h2 : J a c = true := bd_bz1.mp c_2
      refine lv_iload hx hb dX0_usable_38 (lv_at hl 0 rfl) ?_
      refine lv_iload_n hx hb dX0_usable_40 rfl (lv_at hl 1 rfl) ?_
      refine lv_iconst (v := nI 1) hx hb dX0_usable_41 (by decide) ?_
      refine lv_isub hx hb dX0_usable_42 ?_
      refine lv_icmp_ne (tgt := 50) hx hb dX0_usable_43 (by decide) (fun c_3 => ?_) (fun c_3 => ?_)
      · skip
        have h1 : (J a c && decide (c2 + 1 = c1)) = false := by rw [h2, Bool.true_and]; exact decide_eq_false (fun z => c_3 ((bd_sub1 b2' b1').mpr z))
        refine lv_iconst (v := bd_bz (J a c && decide (c2 + 1 = c1))) hx hb dX0_usable_50 (by rw [h1]; decide) ?_
        exact bd_iret C hr hk hw dX0_usable_51
      · skip
        have h1 : (J a c && decide (c2 + 1 = c1)) = true := by rw [h2, Bool.true_and]; exact decide_eq_true ((bd_sub1 b2' b1').mp c_3)
        refine lv_iconst (v := bd_bz (J a c && decide (c2 + 1 = c1))) hx hb dX0_usable_46 (by rw [h1]; decide) ?_
        refine lv_goto (tgt := 51) hx hb dX0_usable_47 (by decide) ?_
        exact bd_iret C hr hk hw dX0_usable_51
  · skip
    exact absurd (hp.symm.trans (bd_bz0.mp c_1)) (by decide)
set_option maxHeartbeats 4000000 in
set_option maxRecDepth 100000 in
/-- needed(a, c) -/
theorem bd_m_needed_t (l : Launch) (D : va_G) (h : Nat → Nat) (d : Nat → ClassId) (sz : Nat) (J : Nat → Nat → Bool) (ab : Nat → Bool) (mm : Nat → Nat) (o : Nat → Bool) (r b : Nat → Nat) (i pp : Nat → Bool) (qe : Nat) (q : Nat → Nat) (a c c1 c2 : Nat) (m1 : Nat → Nat) (o1 : Nat → Bool) (r1 b1 : Nat → Nat) (i1 p1 : Nat → Bool) (qe1 : Nat) (q1 : Nat → Nat) (m2 : Nat → Nat) (o2 : Nat → Bool) (r2 b2 : Nat → Nat) (i2 p2 : Nat → Bool) (qe2 : Nat) (q2 : Nat → Nat) (ha : a < 10) (hc : c < 10) (hac : a ≠ c) (b1' : c1 < 2 ^ 30) (b2' : c2 < 2 ^ 30) (hj : J a c = true) (hF : bd_pairWithout J (fun _ => false) mm (o, r, b, i, pp, qe, q) = some (c1, m1, (o1, r1, b1, i1, p1, qe1, q1))) (hF2 : bd_pairWithout (bd_set J a c false) (fun _ => false) m1 (o1, r1, b1, i1, p1, qe1, q1) = some (c2, m2, (o2, r2, b2, i2, p2, qe2, q2))) : bd_MI l yX0_needed cX0_needed 6 (some .int) 5 123 D h d sz [.int (nI a), .int (nI c)] (J, ab, mm, o, r, b, i, pp, qe, q) (bd_bz (decide (c2 < c1))) ((bd_set (bd_set J a c false) a c true), (fun _ => false), m2, o2, r2, b2, i2, p2, qe2, q2) := by
  refine bd_ofW (Qc := bd_Qi D h d (bd_bz (decide (c2 < c1))) ((bd_set (bd_set J a c false) a c true), (fun _ => false), m2, o2, r2, b2, i2, p2, qe2, q2)) (by decide) rfl (Nat.le_of_ble_eq_true rfl) ?_
  intro p e s m below meth c0 A C hr hk hA hw ls hl
  have hx := C.1.1
  have hb := C.1.2.1
  have hl : lv_has ls 6 [(0, .ref (h 0)), (1, .int (nI a)), (2, .int (nI c))] := hl
  have hp := bd_pair_nI ha hc hac
  refine lv_iload_n hx hb dX0_needed_0 rfl (lv_at hl 1 rfl) ?_
  refine lv_iload_n hx hb dX0_needed_1 rfl (lv_at hl 2 rfl) ?_
  refine bd_calls C.1 hw.2.2 (bd_m_isPair l (nI a) (nI c)) (va_cwS 2 C.1.2.2.2.2 (lw_S q62 q63 q15 q64) rfl rfl rfl (by decide +kernel) ⟨Nat.le_of_ble_eq_true rfl, Nat.le_of_ble_eq_true rfl⟩) rfl hl.1 rfl (Nat.le_of_ble_eq_true rfl) dX0_needed_2 ⟨Nat.zero_le _, Nat.zero_le _⟩ (fun H1 locs1 hkp hS1 => ?_)
  have hw := bd_at_kept hw hkp hS1
  generalize H1 = H at hw ⊢
  generalize locs1 = locs at hw ⊢
  refine lv_if_ne (tgt := 10) hx hb dX0_needed_5 (by decide) (fun c_1 => ?_) (fun c_1 => ?_)
  · skip
    refine lv_aload_n hx hb dX0_needed_10 rfl (lv_at hl 0 rfl) ?_
    refine lv_iconst (v := bd_bs (fun _ => false)) hx hb dX0_needed_11 (by decide +kernel) ?_
    refine bd_calli C hw hA (bd_m_pairWithout l D h d _ _ _ _ _ _ _ _ _ _ _ (fun _ => false) c1 m1 o1 r1 b1 i1 p1 qe1 q1 hF) (cwV 1 C.1.2.2.2.2 (lw_V q77 q79 qs1 q15 q80) rfl rfl rfl (by decide +kernel) ⟨Nat.le_of_ble_eq_true rfl, Nat.le_of_ble_eq_true rfl⟩) rfl hl.1 rfl (Nat.le_of_ble_eq_true rfl) dX0_needed_12 ⟨Nat.zero_le _, Nat.zero_le _⟩ (fun H locs hw => ?_)
    refine lv_istore_n (lv' := [(3, .int (nI c1)), (0, .ref (h 0)), (1, .int (nI a)), (2, .int (nI c))]) hx hb dX0_needed_15 rfl hl (by decide) rfl (fun ls hl => ?_)
    refine lv_aload_n hx hb dX0_needed_16 rfl (lv_at hl 1 rfl) ?_
    refine lv_iload_n hx hb dX0_needed_17 rfl (lv_at hl 2 rfl) ?_
    refine lv_iload_n hx hb dX0_needed_18 rfl (lv_at hl 3 rfl) ?_
    refine bd_calli C hw hA (bd_m_part l D h d _ _ _ _ _ _ _ _ _ _ _ a c ha hc hac) (cwV 2 C.1.2.2.2.2 (lw_V q125 q70 q71 q15 q72) rfl rfl rfl (by decide +kernel) ⟨Nat.le_of_ble_eq_true rfl, Nat.le_of_ble_eq_true rfl⟩) rfl hl.1 rfl (Nat.le_of_ble_eq_true rfl) dX0_needed_19 ⟨Nat.zero_le _, Nat.zero_le _⟩ (fun H locs hw => ?_)
    refine bd_top (y := nI 1) (by rw [hj]; rfl) ?_
    refine lv_istore (lv' := [(4, .int (nI 1)), (3, .int (nI c1)), (0, .ref (h 0)), (1, .int (nI a)), (2, .int (nI c))]) hx hb dX0_needed_22 hl (by decide) rfl (fun ls hl => ?_)
    refine lv_aload_n hx hb dX0_needed_24 rfl (lv_at hl 2 rfl) ?_
    refine lv_iconst (v := bd_bs (fun _ => false)) hx hb dX0_needed_25 (by decide +kernel) ?_
    refine bd_calli C hw hA (bd_m_pairWithout l D h d _ _ _ _ _ _ _ _ _ _ _ (fun _ => false) c2 m2 o2 r2 b2 i2 p2 qe2 q2 hF2) (cwV 1 C.1.2.2.2.2 (lw_V q77 q79 qs1 q15 q80) rfl rfl rfl (by decide +kernel) ⟨Nat.le_of_ble_eq_true rfl, Nat.le_of_ble_eq_true rfl⟩) rfl hl.1 rfl (Nat.le_of_ble_eq_true rfl) dX0_needed_26 ⟨Nat.zero_le _, Nat.zero_le _⟩ (fun H locs hw => ?_)
    refine lv_istore (lv' := [(5, .int (nI c2)), (4, .int (nI 1)), (3, .int (nI c1)), (0, .ref (h 0)), (1, .int (nI a)), (2, .int (nI c))]) hx hb dX0_needed_29 hl (by decide) rfl (fun ls hl => ?_)
    refine lv_iload hx hb dX0_needed_31 (lv_at hl 1 rfl) ?_
    refine lv_iconst (v := nI 1) hx hb dX0_needed_33 (by decide) ?_
    refine lv_icmp_ne (tgt := 44) hx hb dX0_needed_34 (by decide) (fun c_2 => ?_) (fun c_2 => ?_)
    · skip
      exact absurd rfl c_2
    · skip
      refine lv_aload_n hx hb dX0_needed_37 rfl (lv_at hl 3 rfl) ?_
      refine lv_iload_n hx hb dX0_needed_38 rfl (lv_at hl 4 rfl) ?_
      refine lv_iload_n hx hb dX0_needed_39 rfl (lv_at hl 5 rfl) ?_
      refine bd_calli C hw hA (bd_m_join l D h d _ _ _ _ _ _ _ _ _ _ _ a c ha hc hac) (cwV 2 C.1.2.2.2.2 (lw_V q126 q59 q60 q15 q61) rfl rfl rfl (by decide +kernel) ⟨Nat.le_of_ble_eq_true rfl, Nat.le_of_ble_eq_true rfl⟩) rfl hl.1 rfl (Nat.le_of_ble_eq_true rfl) dX0_needed_40 ⟨Nat.zero_le _, Nat.zero_le _⟩ (fun H locs hw => ?_)
      refine lv_pop hx hb dX0_needed_43 rfl ?_
      refine lv_iload hx hb dX0_needed_44 (lv_at hl 0 rfl) ?_
      refine lv_iload_n hx hb dX0_needed_46 rfl (lv_at hl 2 rfl) ?_
      refine lv_icmp_ge (tgt := 54) hx hb dX0_needed_47 (by decide) (fun c_3 => ?_) (fun c_3 => ?_)
      · skip
        have h1 : decide (c2 < c1) = false := decide_eq_false (Nat.not_lt.mpr ((nI_leI (by omega) (by omega)).mp c_3))
        refine lv_iconst (v := bd_bz (decide (c2 < c1))) hx hb dX0_needed_54 (by rw [h1]; decide) ?_
        exact bd_iret C hr hk hw dX0_needed_55
      · skip
        have h1 : decide (c2 < c1) = true := decide_eq_true (Nat.not_le.mp (fun z => c_3 ((nI_leI (by omega) (by omega)).mpr z)))
        refine lv_iconst (v := bd_bz (decide (c2 < c1))) hx hb dX0_needed_50 (by rw [h1]; decide) ?_
        refine lv_goto (tgt := 55) hx hb dX0_needed_51 (by decide) ?_
        exact bd_iret C hr hk hw dX0_needed_55
  · skip
    exact absurd (hp.symm.trans (bd_bz0.mp c_1)) (by decide)
set_option maxHeartbeats 4000000 in
set_option maxRecDepth 100000 in
/-- needed(a, c) -/
theorem bd_m_needed_f (l : Launch) (D : va_G) (h : Nat → Nat) (d : Nat → ClassId) (sz : Nat) (J : Nat → Nat → Bool) (ab : Nat → Bool) (mm : Nat → Nat) (o : Nat → Bool) (r b : Nat → Nat) (i pp : Nat → Bool) (qe : Nat) (q : Nat → Nat) (a c c1 c2 : Nat) (m1 : Nat → Nat) (o1 : Nat → Bool) (r1 b1 : Nat → Nat) (i1 p1 : Nat → Bool) (qe1 : Nat) (q1 : Nat → Nat) (m2 : Nat → Nat) (o2 : Nat → Bool) (r2 b2 : Nat → Nat) (i2 p2 : Nat → Bool) (qe2 : Nat) (q2 : Nat → Nat) (ha : a < 10) (hc : c < 10) (hac : a ≠ c) (b1' : c1 < 2 ^ 30) (b2' : c2 < 2 ^ 30) (hj : J a c = false) (hF : bd_pairWithout J (fun _ => false) mm (o, r, b, i, pp, qe, q) = some (c1, m1, (o1, r1, b1, i1, p1, qe1, q1))) (hF2 : bd_pairWithout (bd_set J a c false) (fun _ => false) m1 (o1, r1, b1, i1, p1, qe1, q1) = some (c2, m2, (o2, r2, b2, i2, p2, qe2, q2))) : bd_MI l yX0_needed cX0_needed 6 (some .int) 5 123 D h d sz [.int (nI a), .int (nI c)] (J, ab, mm, o, r, b, i, pp, qe, q) (bd_bz (decide (c2 < c1))) ((bd_set J a c false), (fun _ => false), m2, o2, r2, b2, i2, p2, qe2, q2) := by
  refine bd_ofW (Qc := bd_Qi D h d (bd_bz (decide (c2 < c1))) ((bd_set J a c false), (fun _ => false), m2, o2, r2, b2, i2, p2, qe2, q2)) (by decide) rfl (Nat.le_of_ble_eq_true rfl) ?_
  intro p e s m below meth c0 A C hr hk hA hw ls hl
  have hx := C.1.1
  have hb := C.1.2.1
  have hl : lv_has ls 6 [(0, .ref (h 0)), (1, .int (nI a)), (2, .int (nI c))] := hl
  have hp := bd_pair_nI ha hc hac
  refine lv_iload_n hx hb dX0_needed_0 rfl (lv_at hl 1 rfl) ?_
  refine lv_iload_n hx hb dX0_needed_1 rfl (lv_at hl 2 rfl) ?_
  refine bd_calls C.1 hw.2.2 (bd_m_isPair l (nI a) (nI c)) (va_cwS 2 C.1.2.2.2.2 (lw_S q62 q63 q15 q64) rfl rfl rfl (by decide +kernel) ⟨Nat.le_of_ble_eq_true rfl, Nat.le_of_ble_eq_true rfl⟩) rfl hl.1 rfl (Nat.le_of_ble_eq_true rfl) dX0_needed_2 ⟨Nat.zero_le _, Nat.zero_le _⟩ (fun H1 locs1 hkp hS1 => ?_)
  have hw := bd_at_kept hw hkp hS1
  generalize H1 = H at hw ⊢
  generalize locs1 = locs at hw ⊢
  refine lv_if_ne (tgt := 10) hx hb dX0_needed_5 (by decide) (fun c_1 => ?_) (fun c_1 => ?_)
  · skip
    refine lv_aload_n hx hb dX0_needed_10 rfl (lv_at hl 0 rfl) ?_
    refine lv_iconst (v := bd_bs (fun _ => false)) hx hb dX0_needed_11 (by decide +kernel) ?_
    refine bd_calli C hw hA (bd_m_pairWithout l D h d _ _ _ _ _ _ _ _ _ _ _ (fun _ => false) c1 m1 o1 r1 b1 i1 p1 qe1 q1 hF) (cwV 1 C.1.2.2.2.2 (lw_V q77 q79 qs1 q15 q80) rfl rfl rfl (by decide +kernel) ⟨Nat.le_of_ble_eq_true rfl, Nat.le_of_ble_eq_true rfl⟩) rfl hl.1 rfl (Nat.le_of_ble_eq_true rfl) dX0_needed_12 ⟨Nat.zero_le _, Nat.zero_le _⟩ (fun H locs hw => ?_)
    refine lv_istore_n (lv' := [(3, .int (nI c1)), (0, .ref (h 0)), (1, .int (nI a)), (2, .int (nI c))]) hx hb dX0_needed_15 rfl hl (by decide) rfl (fun ls hl => ?_)
    refine lv_aload_n hx hb dX0_needed_16 rfl (lv_at hl 1 rfl) ?_
    refine lv_iload_n hx hb dX0_needed_17 rfl (lv_at hl 2 rfl) ?_
    refine lv_iload_n hx hb dX0_needed_18 rfl (lv_at hl 3 rfl) ?_
    refine bd_calli C hw hA (bd_m_part l D h d _ _ _ _ _ _ _ _ _ _ _ a c ha hc hac) (cwV 2 C.1.2.2.2.2 (lw_V q125 q70 q71 q15 q72) rfl rfl rfl (by decide +kernel) ⟨Nat.le_of_ble_eq_true rfl, Nat.le_of_ble_eq_true rfl⟩) rfl hl.1 rfl (Nat.le_of_ble_eq_true rfl) dX0_needed_19 ⟨Nat.zero_le _, Nat.zero_le _⟩ (fun H locs hw => ?_)
    refine bd_top (y := nI 0) (by rw [hj]; rfl) ?_
    refine lv_istore (lv' := [(4, .int (nI 0)), (3, .int (nI c1)), (0, .ref (h 0)), (1, .int (nI a)), (2, .int (nI c))]) hx hb dX0_needed_22 hl (by decide) rfl (fun ls hl => ?_)
    refine lv_aload_n hx hb dX0_needed_24 rfl (lv_at hl 2 rfl) ?_
    refine lv_iconst (v := bd_bs (fun _ => false)) hx hb dX0_needed_25 (by decide +kernel) ?_
    refine bd_calli C hw hA (bd_m_pairWithout l D h d _ _ _ _ _ _ _ _ _ _ _ (fun _ => false) c2 m2 o2 r2 b2 i2 p2 qe2 q2 hF2) (cwV 1 C.1.2.2.2.2 (lw_V q77 q79 qs1 q15 q80) rfl rfl rfl (by decide +kernel) ⟨Nat.le_of_ble_eq_true rfl, Nat.le_of_ble_eq_true rfl⟩) rfl hl.1 rfl (Nat.le_of_ble_eq_true rfl) dX0_needed_26 ⟨Nat.zero_le _, Nat.zero_le _⟩ (fun H locs hw => ?_)
    refine lv_istore (lv' := [(5, .int (nI c2)), (4, .int (nI 0)), (3, .int (nI c1)), (0, .ref (h 0)), (1, .int (nI a)), (2, .int (nI c))]) hx hb dX0_needed_29 hl (by decide) rfl (fun ls hl => ?_)
    refine lv_iload hx hb dX0_needed_31 (lv_at hl 1 rfl) ?_
    refine lv_iconst (v := nI 1) hx hb dX0_needed_33 (by decide) ?_
    refine lv_icmp_ne (tgt := 44) hx hb dX0_needed_34 (by decide) (fun c_2 => ?_) (fun c_2 => ?_)
    · skip
      refine lv_iload hx hb dX0_needed_44 (lv_at hl 0 rfl) ?_
      refine lv_iload_n hx hb dX0_needed_46 rfl (lv_at hl 2 rfl) ?_
      refine lv_icmp_ge (tgt := 54) hx hb dX0_needed_47 (by decide) (fun c_3 => ?_) (fun c_3 => ?_)
      · skip
        have h1 : decide (c2 < c1) = false := decide_eq_false (Nat.not_lt.mpr ((nI_leI (by omega) (by omega)).mp c_3))
        refine lv_iconst (v := bd_bz (decide (c2 < c1))) hx hb dX0_needed_54 (by rw [h1]; decide) ?_
        exact bd_iret C hr hk hw dX0_needed_55
      · skip
        have h1 : decide (c2 < c1) = true := decide_eq_true (Nat.not_le.mp (fun z => c_3 ((nI_leI (by omega) (by omega)).mpr z)))
        refine lv_iconst (v := bd_bz (decide (c2 < c1))) hx hb dX0_needed_50 (by rw [h1]; decide) ?_
        refine lv_goto (tgt := 55) hx hb dX0_needed_51 (by decide) ?_
        exact bd_iret C hr hk hw dX0_needed_55
    · skip
      exact absurd c_2 (by decide)
  · skip
    exact absurd (hp.symm.trans (bd_bz0.mp c_1)) (by decide)
set_option maxHeartbeats 4000000 in
set_option maxRecDepth 100000 in
/-- guards() -/
theorem bd_m_guards (l : Launch) (D : va_G) (h : Nat → Nat) (d : Nat → ClassId) (sz : Nat) (J : Nat → Nat → Bool) (ab : Nat → Bool) (mm : Nat → Nat) (o : Nat → Bool) (r b : Nat → Nat) (i pp : Nat → Bool) (qe : Nat) (q : Nat → Nat) (cnt : Nat) (m1 : Nat → Nat) (o1 : Nat → Bool) (r1 b1 : Nat → Nat) (i1 p1 : Nat → Bool) (qe1 : Nat) (q1 : Nat → Nat) (S : Nat → Bool) (o2 : Nat → Bool) (r2 b2 : Nat → Nat) (i2 p2 : Nat → Bool) (qe2 : Nat) (q2 : Nat → Nat) (hF : bd_pairWithout J (fun _ => false) mm (o, r, b, i, pp, qe, q) = some (cnt, m1, (o1, r1, b1, i1, p1, qe1, q1))) (hF2 : bd_sp J (fun _ => false) m1 10 0 (fun _ => false) (o1, r1, b1, i1, p1, qe1, q1) = some (S, (o2, r2, b2, i2, p2, qe2, q2))) : bd_MI l yX0_guards cX0_guards 4 (some .int) 5 123 D h d sz [] (J, ab, mm, o, r, b, i, pp, qe, q) (bd_bs (fun v => bd_gu J S 10 0 (fun _ => false) v && !S v)) (J, (fun _ => false), m1, o2, r2, b2, i2, p2, qe2, q2) := by
  refine bd_ofW (Qc := bd_Qi D h d (bd_bs (fun v => bd_gu J S 10 0 (fun _ => false) v && !S v)) (J, (fun _ => false), m1, o2, r2, b2, i2, p2, qe2, q2)) (by decide) rfl (Nat.le_of_ble_eq_true rfl) ?_
  intro p e s m below meth c0 A C hr hk hA hw ls hl
  have hx := C.1.1
  have hb := C.1.2.1
  have hl : lv_has ls 4 [(0, .ref (h 0))] := hl
  generalize hX : bd_gu J S 10 0 (fun _ => false) = X
  have lp : ∀ (n : Nat) (k : Nat) (X1 : Nat → Bool), k + n = 10 → bd_gu J S n k X1 = X → ∀ (H : Heap) (locs : List Loc), bd_at D h d A s.heap H locs (J, (fun _ => false), m1, o2, r2, b2, i2, p2, qe2, q2) → ∀ ls : Array Slot, lv_has ls 4 [(0, .ref (h 0)), (1, .int (bd_bs S)), (2, .int (bd_bs X1)), (3, .int (nI k))] → W p l e { frames := 5, cells := 0, slots := 0, locals := 123 } s m (([.ref (h 0)] : List Value).toArray) below meth c0 H locs 0 0 (MQ below (bd_Qi D h d (bd_bs (fun v => X v && !S v)) (J, (fun _ => false), m1, o2, r2, b2, i2, p2, qe2, q2) A) (([.ref (h 0)] : List Value).toArray) s 0 0 A) (F0 m 15 ls []) := by
    intro n
    induction n with
    | zero =>
      intro k X1 e1 e2 H locs hw ls hl
      refine lv_iload_n hx hb dX0_guards_15 rfl (lv_at hl 3 rfl) ?_
      refine lv_bipush (v := nI 10) hx hb dX0_guards_16 (by decide) ?_
      refine lv_icmp_ge (tgt := 48) hx hb dX0_guards_18 (by decide) (fun c_1 => ?_) (fun c_1 => ?_)
      · skip
        have e2 : X1 = X := e2
        subst e2
        refine lv_iload_n hx hb dX0_guards_48 rfl (lv_at hl 2 rfl) ?_
        refine lv_iload_n hx hb dX0_guards_49 rfl (lv_at hl 1 rfl) ?_
        refine lv_iconst (v := -1) hx hb dX0_guards_50 (by decide) ?_
        refine lv_ixor hx hb dX0_guards_51 ?_
        refine lv_iand hx hb dX0_guards_52 ?_
        refine bd_top (y := bd_bs (fun v => X1 v && !S v)) (bd_andn _ _) ?_
        exact bd_iret C hr hk hw dX0_guards_53
      · skip
        exact absurd ((bd_le10 (by omega)).mpr (by omega)) c_1
    | succ n ih =>
      intro k X1 e1 e2 H locs hw ls hl
      refine lv_iload_n hx hb dX0_guards_15 rfl (lv_at hl 3 rfl) ?_
      refine lv_bipush (v := nI 10) hx hb dX0_guards_16 (by decide) ?_
      refine lv_icmp_ge (tgt := 48) hx hb dX0_guards_18 (by decide) (fun c_2 => ?_) (fun c_2 => ?_)
      · skip
        have := (bd_le10 (by omega)).mp c_2
        omega
      · skip
        refine lv_iload_n hx hb dX0_guards_21 rfl (lv_at hl 2 rfl) ?_
        refine lv_iload_n hx hb dX0_guards_22 rfl (lv_at hl 1 rfl) ?_
        refine lv_iload_n hx hb dX0_guards_23 rfl (lv_at hl 3 rfl) ?_
        refine lv_iushr hx hb dX0_guards_24 rfl ?_
        refine lv_iconst (v := nI 1) hx hb dX0_guards_25 (by decide) ?_
        refine lv_iand hx hb dX0_guards_26 ?_
        refine bd_top (y := bd_bz (S k)) (bd_bit S (by omega)) ?_
        refine lv_if_eq (tgt := 39) hx hb dX0_guards_27 (by decide) (fun c_3 => ?_) (fun c_3 => ?_)
        · skip
          have h5 : S k = false := bd_bz0.mp c_3
          refine lv_iconst (v := bd_bs (fun _ => false)) hx hb dX0_guards_39 (by decide +kernel) ?_
          refine lv_ior hx hb dX0_guards_40 ?_
          refine bd_top (y := bd_bs (fun v => X1 v || (S k && J k v))) (by rw [bd_or]; exact bd_bs_ext (fun v hv => by simp [h5])) ?_
          refine lv_istore_n (lv' := [(2, .int (bd_bs (fun v => X1 v || (S k && J k v)))), (0, .ref (h 0)), (1, .int (bd_bs S)), (3, .int (nI k))]) hx hb dX0_guards_41 rfl hl (by decide) rfl (fun ls hl => ?_)
          refine lv_iinc (v := nI (k + 1)) (lv' := [(3, .int (nI (k + 1))), (2, .int (bd_bs (fun v => X1 v || (S k && J k v)))), (0, .ref (h 0)), (1, .int (bd_bs S))]) hx hb dX0_guards_42 hl (k := 3) rfl (nI_1 k) (by decide) rfl (fun ls hl => ?_)
          refine lv_goto (tgt := 15) hx hb dX0_guards_45 (by decide) ?_
          exact ih (k + 1) _ (by omega) e2 _ _ hw ls (lv_sub hl [2, 3, 1, 0] rfl)
        · skip
          have h5 : S k = true := bd_bz1.mp c_3
          refine lv_aload_n hx hb dX0_guards_30 rfl (lv_at hl 0 rfl) ?_
          refine bd_getJ C hw dX0_guards_31 ?_
          refine lv_iload_n hx hb dX0_guards_34 rfl (lv_at hl 3 rfl) ?_
          refine bd_ldJ C hw (k := k) (by omega) dX0_guards_35 ?_
          refine lv_goto (tgt := 40) hx hb dX0_guards_36 (by decide) ?_
          refine lv_ior hx hb dX0_guards_40 ?_
          refine bd_top (y := bd_bs (fun v => X1 v || (S k && J k v))) (by rw [bd_or]; exact bd_bs_ext (fun v hv => by simp [h5])) ?_
          refine lv_istore_n (lv' := [(2, .int (bd_bs (fun v => X1 v || (S k && J k v)))), (0, .ref (h 0)), (1, .int (bd_bs S)), (3, .int (nI k))]) hx hb dX0_guards_41 rfl hl (by decide) rfl (fun ls hl => ?_)
          refine lv_iinc (v := nI (k + 1)) (lv' := [(3, .int (nI (k + 1))), (2, .int (bd_bs (fun v => X1 v || (S k && J k v)))), (0, .ref (h 0)), (1, .int (bd_bs S))]) hx hb dX0_guards_42 hl (k := 3) rfl (nI_1 k) (by decide) rfl (fun ls hl => ?_)
          refine lv_goto (tgt := 15) hx hb dX0_guards_45 (by decide) ?_
          exact ih (k + 1) _ (by omega) e2 _ _ hw ls (lv_sub hl [2, 3, 1, 0] rfl)
  refine lv_aload_n hx hb dX0_guards_0 rfl (lv_at hl 0 rfl) ?_
  refine lv_iconst (v := bd_bs (fun _ => false)) hx hb dX0_guards_1 (by decide +kernel) ?_
  refine bd_calli C hw hA (bd_m_pairWithout l D h d _ _ _ _ _ _ _ _ _ _ _ (fun _ => false) cnt m1 o1 r1 b1 i1 p1 qe1 q1 hF) (cwV 1 C.1.2.2.2.2 (lw_V q77 q79 qs1 q15 q80) rfl rfl rfl (by decide +kernel) ⟨Nat.le_of_ble_eq_true rfl, Nat.le_of_ble_eq_true rfl⟩) rfl hl.1 rfl (Nat.le_of_ble_eq_true rfl) dX0_guards_2 ⟨Nat.zero_le _, Nat.zero_le _⟩ (fun H locs hw => ?_)
  refine lv_pop hx hb dX0_guards_5 rfl ?_
  refine lv_aload_n hx hb dX0_guards_6 rfl (lv_at hl 0 rfl) ?_
  refine bd_calli C hw hA (bd_m_spares l D h d _ _ _ _ _ _ _ _ _ _ _ S o2 r2 b2 i2 p2 qe2 q2 hF2) (cwV 0 C.1.2.2.2.2 (lw_V q113 q115 qs9 q15 q116) rfl rfl rfl (by decide +kernel) ⟨Nat.le_of_ble_eq_true rfl, Nat.le_of_ble_eq_true rfl⟩) rfl hl.1 rfl (Nat.le_of_ble_eq_true rfl) dX0_guards_7 ⟨Nat.zero_le _, Nat.zero_le _⟩ (fun H locs hw => ?_)
  refine lv_istore_n (lv' := [(1, .int (bd_bs S)), (0, .ref (h 0))]) hx hb dX0_guards_10 rfl hl (by decide) rfl (fun ls hl => ?_)
  refine lv_iconst (v := bd_bs (fun _ => false)) hx hb dX0_guards_11 (by decide +kernel) ?_
  refine lv_istore_n (lv' := [(2, .int (bd_bs (fun _ => false))), (1, .int (bd_bs S)), (0, .ref (h 0))]) hx hb dX0_guards_12 rfl hl (by decide) rfl (fun ls hl => ?_)
  refine lv_iconst (v := nI 0) hx hb dX0_guards_13 (by decide) ?_
  refine lv_istore_n (lv' := [(3, .int (nI 0)), (2, .int (bd_bs (fun _ => false))), (1, .int (bd_bs S)), (0, .ref (h 0))]) hx hb dX0_guards_14 rfl hl (by decide) rfl (fun ls hl => ?_)
  exact lp 10 0 _ rfl hX _ _ hw ls (lv_sub hl [3, 2, 1, 0] rfl)
set_option maxHeartbeats 4000000 in
set_option maxRecDepth 100000 in
/-- parts() -/
theorem bd_m_parts (l : Launch) (D : va_G) (h : Nat → Nat) (d : Nat → ClassId) (sz : Nat) (J : Nat → Nat → Bool) (ab : Nat → Bool) (mm : Nat → Nat) (o : Nat → Bool) (r b : Nat → Nat) (i pp : Nat → Bool) (qe : Nat) (q : Nat → Nat) (cnt : Nat) (m1 : Nat → Nat) (o1 : Nat → Bool) (r1 b1 : Nat → Nat) (i1 p1 : Nat → Bool) (qe1 : Nat) (q1 : Nat → Nat) (S : Nat → Bool) (o2 : Nat → Bool) (r2 b2 : Nat → Nat) (i2 p2 : Nat → Bool) (qe2 : Nat) (q2 : Nat → Nat) (hF : bd_pairWithout J (fun _ => false) mm (o, r, b, i, pp, qe, q) = some (cnt, m1, (o1, r1, b1, i1, p1, qe1, q1))) (hF2 : bd_sp J (fun _ => false) m1 10 0 (fun _ => false) (o1, r1, b1, i1, p1, qe1, q1) = some (S, (o2, r2, b2, i2, p2, qe2, q2))) : bd_MI l yX0_parts cX0_parts 5 (some .int) 6 146 D h d sz [] (J, ab, mm, o, r, b, i, pp, qe, q) (nI (bd_pt J 10 0 (fun v => true && !((fun v => bd_gu J S 10 0 (fun _ => false) v && !S v) v)) 0)) (J, (fun _ => false), m1, o2, r2, b2, i2, p2, qe2, q2) := by
  refine bd_ofW (Qc := bd_Qi D h d (nI (bd_pt J 10 0 (fun v => true && !((fun v => bd_gu J S 10 0 (fun _ => false) v && !S v) v)) 0)) (J, (fun _ => false), m1, o2, r2, b2, i2, p2, qe2, q2)) (by decide) rfl (Nat.le_of_ble_eq_true rfl) ?_
  intro p e s m below meth c0 A C hr hk hA hw ls hl
  have hx := C.1.1
  have hb := C.1.2.1
  have hl : lv_has ls 5 [(0, .ref (h 0))] := hl
  generalize hX : bd_pt J 10 0 (fun v => true && !((fun v => bd_gu J S 10 0 (fun _ => false) v && !S v) v)) 0 = X
  have lp : ∀ (n : Nat) (k : Nat) (L1 : Nat → Bool) (cl : Nat), k + n = 10 → bd_pt J n k L1 cl = X → ∀ (H : Heap) (locs : List Loc), bd_at D h d A s.heap H locs (J, (fun _ => false), m1, o2, r2, b2, i2, p2, qe2, q2) → ∀ ls : Array Slot, lv_has ls 5 [(0, .ref (h 0)), (1, .int (bd_bs L1)), (2, .int (nI cl)), (3, .int (nI k))] → W p l e { frames := 6, cells := 0, slots := 0, locals := 146 } s m (([.ref (h 0)] : List Value).toArray) below meth c0 H locs 0 0 (MQ below (bd_Qi D h d (nI X) (J, (fun _ => false), m1, o2, r2, b2, i2, p2, qe2, q2) A) (([.ref (h 0)] : List Value).toArray) s 0 0 A) (F0 m 15 ls []) := by
    intro n
    induction n with
    | zero =>
      intro k L1 cl e1 e2 H locs hw ls hl
      refine lv_iload_n hx hb dX0_parts_15 rfl (lv_at hl 3 rfl) ?_
      refine lv_bipush (v := nI 10) hx hb dX0_parts_16 (by decide) ?_
      refine lv_icmp_ge (tgt := 53) hx hb dX0_parts_18 (by decide) (fun c_1 => ?_) (fun c_1 => ?_)
      · skip
        have e2 : cl = X := e2
        subst e2
        refine lv_iload_n hx hb dX0_parts_53 rfl (lv_at hl 2 rfl) ?_
        exact bd_iret C hr hk hw dX0_parts_54
      · skip
        exact absurd ((bd_le10 (by omega)).mpr (by omega)) c_1
    | succ n ih =>
      intro k L1 cl e1 e2 H locs hw ls hl
      unfold bd_pt at e2
      refine lv_iload_n hx hb dX0_parts_15 rfl (lv_at hl 3 rfl) ?_
      refine lv_bipush (v := nI 10) hx hb dX0_parts_16 (by decide) ?_
      refine lv_icmp_ge (tgt := 53) hx hb dX0_parts_18 (by decide) (fun c_2 => ?_) (fun c_2 => ?_)
      · skip
        have := (bd_le10 (by omega)).mp c_2
        omega
      · skip
        refine lv_iload_n hx hb dX0_parts_21 rfl (lv_at hl 1 rfl) ?_
        refine lv_iload_n hx hb dX0_parts_22 rfl (lv_at hl 3 rfl) ?_
        refine lv_iushr hx hb dX0_parts_23 rfl ?_
        refine lv_iconst (v := nI 1) hx hb dX0_parts_24 (by decide) ?_
        refine lv_iand hx hb dX0_parts_25 ?_
        refine bd_top (y := bd_bz (L1 k)) (bd_bit L1 (by omega)) ?_
        refine lv_if_eq (tgt := 47) hx hb dX0_parts_26 (by decide) (fun c_3 => ?_) (fun c_3 => ?_)
        · skip
          have h5 : ¬ L1 k = true := fun z => absurd (z.symm.trans (bd_bz0.mp c_3)) (by decide)
          rw [if_neg h5] at e2
          refine lv_iinc (v := nI (k + 1)) (lv' := [(3, .int (nI (k + 1))), (0, .ref (h 0)), (1, .int (bd_bs L1)), (2, .int (nI cl))]) hx hb dX0_parts_47 hl (k := 3) rfl (nI_1 k) (by decide) rfl (fun ls hl => ?_)
          refine lv_goto (tgt := 15) hx hb dX0_parts_50 (by decide) ?_
          exact ih (k + 1) _ _ (by omega) e2 _ _ hw ls (lv_sub hl [1, 2, 3, 0] rfl)
        · skip
          have h5 : L1 k = true := bd_bz1.mp c_3
          rw [if_pos h5] at e2
          refine lv_iinc (v := nI (cl + 1)) (lv' := [(2, .int (nI (cl + 1))), (0, .ref (h 0)), (1, .int (bd_bs L1)), (3, .int (nI k))]) hx hb dX0_parts_29 hl (k := 2) rfl (nI_1 cl) (by decide) rfl (fun ls hl => ?_)
          refine lv_aload_n hx hb dX0_parts_32 rfl (lv_at hl 1 rfl) ?_
          refine lv_iload_n hx hb dX0_parts_33 rfl (lv_at hl 3 rfl) ?_
          refine lv_iload_n hx hb dX0_parts_34 rfl (lv_at hl 2 rfl) ?_
          refine bd_calli C hw hA (bd_m_partOf l D h d _ _ _ _ _ _ _ _ _ _ _ k L1 (by omega)) (cwV 2 C.1.2.2.2.2 (lw_V q140 q142 qs10 q15 q143) rfl rfl rfl (by decide +kernel) ⟨Nat.le_of_ble_eq_true rfl, Nat.le_of_ble_eq_true rfl⟩) rfl hl.1 rfl (Nat.le_of_ble_eq_true rfl) dX0_parts_35 ⟨Nat.zero_le _, Nat.zero_le _⟩ (fun H locs hw => ?_)
          refine lv_istore (lv' := [(4, .int (bd_bs (bd_po1 J L1 10 (fun v => decide (v = k))))), (2, .int (nI (cl + 1))), (0, .ref (h 0)), (1, .int (bd_bs L1)), (3, .int (nI k))]) hx hb dX0_parts_38 hl (by decide) rfl (fun ls hl => ?_)
          refine lv_iload_n hx hb dX0_parts_40 rfl (lv_at hl 3 rfl) ?_
          refine lv_iload hx hb dX0_parts_41 (lv_at hl 0 rfl) ?_
          refine lv_iconst (v := -1) hx hb dX0_parts_43 (by decide) ?_
          refine lv_ixor hx hb dX0_parts_44 ?_
          refine lv_iand hx hb dX0_parts_45 ?_
          refine bd_top (y := bd_bs (fun v => L1 v && !bd_po1 J L1 10 (fun v => decide (v = k)) v)) (bd_andn _ _) ?_
          refine lv_istore_n (lv' := [(1, .int (bd_bs (fun v => L1 v && !bd_po1 J L1 10 (fun v => decide (v = k)) v))), (4, .int (bd_bs (bd_po1 J L1 10 (fun v => decide (v = k))))), (2, .int (nI (cl + 1))), (0, .ref (h 0)), (3, .int (nI k))]) hx hb dX0_parts_46 rfl hl (by decide) rfl (fun ls hl => ?_)
          refine lv_iinc (v := nI (k + 1)) (lv' := [(3, .int (nI (k + 1))), (1, .int (bd_bs (fun v => L1 v && !bd_po1 J L1 10 (fun v => decide (v = k)) v))), (4, .int (bd_bs (bd_po1 J L1 10 (fun v => decide (v = k))))), (2, .int (nI (cl + 1))), (0, .ref (h 0))]) hx hb dX0_parts_47 hl (k := 4) rfl (nI_1 k) (by decide) rfl (fun ls hl => ?_)
          refine lv_goto (tgt := 15) hx hb dX0_parts_50 (by decide) ?_
          exact ih (k + 1) _ _ (by omega) e2 _ _ hw ls (lv_sub hl [4, 1, 3, 0] rfl)
  refine lv_sipush (v := bd_bs (fun _ => true)) hx hb dX0_parts_0 (by decide +kernel) ?_
  refine lv_aload_n hx hb dX0_parts_3 rfl (lv_at hl 0 rfl) ?_
  refine bd_calli C hw hA (bd_m_guards l D h d _ _ _ _ _ _ _ _ _ _ _ cnt m1 o1 r1 b1 i1 p1 qe1 q1 S o2 r2 b2 i2 p2 qe2 q2 hF hF2) (cwV 0 C.1.2.2.2.2 (lw_V q139 q128 q129 q15 q130) rfl rfl rfl (by decide +kernel) ⟨Nat.le_of_ble_eq_true rfl, Nat.le_of_ble_eq_true rfl⟩) rfl hl.1 rfl (Nat.le_of_ble_eq_true rfl) dX0_parts_4 ⟨Nat.zero_le _, Nat.zero_le _⟩ (fun H locs hw => ?_)
  refine lv_iconst (v := -1) hx hb dX0_parts_7 (by decide) ?_
  refine lv_ixor hx hb dX0_parts_8 ?_
  refine lv_iand hx hb dX0_parts_9 ?_
  refine bd_top (y := bd_bs (fun v => true && !((fun v => bd_gu J S 10 0 (fun _ => false) v && !S v) v))) (bd_andn _ _) ?_
  refine lv_istore_n (lv' := [(1, .int (bd_bs (fun v => true && !((fun v => bd_gu J S 10 0 (fun _ => false) v && !S v) v)))), (0, .ref (h 0))]) hx hb dX0_parts_10 rfl hl (by decide) rfl (fun ls hl => ?_)
  refine lv_iconst (v := nI 0) hx hb dX0_parts_11 (by decide) ?_
  refine lv_istore_n (lv' := [(2, .int (nI 0)), (1, .int (bd_bs (fun v => true && !((fun v => bd_gu J S 10 0 (fun _ => false) v && !S v) v)))), (0, .ref (h 0))]) hx hb dX0_parts_12 rfl hl (by decide) rfl (fun ls hl => ?_)
  refine lv_iconst (v := nI 0) hx hb dX0_parts_13 (by decide) ?_
  refine lv_istore_n (lv' := [(3, .int (nI 0)), (2, .int (nI 0)), (1, .int (bd_bs (fun v => true && !((fun v => bd_gu J S 10 0 (fun _ => false) v && !S v) v)))), (0, .ref (h 0))]) hx hb dX0_parts_14 rfl hl (by decide) rfl (fun ls hl => ?_)
  exact lp 10 0 _ 0 rfl hX _ _ hw ls (lv_sub hl [3, 2, 1, 0] rfl)
end
section
/-! the pure picture of the model, and rows for its world -/
set_option maxRecDepth 100000
def be_bad (x : Int32) : Bool := decide (x < 0 ∨ nI 9 < x)
def be_ref (x y : Int32) : Bool := be_bad x || (be_bad y || decide (x = y))
theorem be_ref_pair (x y : Int32) : be_ref x y = !bd_pair x y := by
  unfold be_ref bd_pair be_bad
  by_cases h1 : x < 0 <;> by_cases h2 : nI 9 < x <;> by_cases h3 : y < 0 <;> by_cases h4 : nI 9 < y <;> by_cases h5 : x = y <;> simp [h1, h2, h3, h4, h5]
def be_set (L : Nat → Bool) (a c : Nat) (t : Bool) : Nat → Bool := va_up (va_up L (10 * a + c) t) (10 * c + a) t
def be_lo (f : Nat → Bool) : Nat → Nat → Nat
  | 0, k => k
  | n + 1, k => if f k = true then k else be_lo f n (k + 1)
def be_wo (f : Nat → Bool) (p : Nat) : Nat → Bool := fun v => f v && !decide (v = p)
def be_pr (L : Nat → Bool) (T : Nat → Nat) (g : Nat → Bool) (lo : Nat) : Nat → Nat → Nat → Nat
  | 0, _, x => x
  | n + 1, p, x => be_pr L T g lo n (p + 1) (if g p = true ∧ L (10 * lo + p) = true ∧ x < T (bd_msk (be_wo g p)) + 1 then T (bd_msk (be_wo g p)) + 1 else x)
/-- the largest pairing of the set f, from smaller ones in T -/
def be_pair (L : Nat → Bool) (T : Nat → Nat) (f : Nat → Bool) : Nat := be_pr L T (be_wo f (be_lo f 10 0)) (be_lo f 10 0) 10 0 (T (bd_msk (be_wo f (be_lo f 10 0))))
def be_wk (L : Nat → Bool) : Nat → Nat → (Nat → Nat) → Nat → Nat
  | 0, _, T => T
  | n + 1, s, T => be_wk L n (s + 1) (va_up T s (be_pair L T (fun v => s.testBit v)))
def be_work (L : Nat → Bool) (T : Nat → Nat) : Nat → Nat := be_wk L 1023 1 T
def be_sp (T : Nat → Nat) : Nat → Nat → (Nat → Bool) → Nat → Bool
  | 0, _, S => S
  | n + 1, p, S => be_sp T n (p + 1) (if T (bd_msk (be_wo (fun _ => true) p)) = T 1023 then fun v => S v || decide (v = p) else S)
def be_nr (L S : Nat → Bool) : Nat → Nat → (Nat → Bool) → Nat → Bool
  | 0, _, X => X
  | n + 1, i, X => be_nr L S n (i + 1) (if L i = true ∧ S (i / 10) = true then fun v => X v || decide (v = i % 10) else X)
def be_gd (L : Nat → Bool) (T : Nat → Nat) : Nat → Bool := fun v => be_nr L (be_sp T 10 0 (fun _ => false)) 100 0 (fun _ => false) v && !be_sp T 10 0 (fun _ => false) v
def be_cl (L w : Nat → Bool) : Nat → Nat → (Nat → Bool) → Nat → Bool
  | 0, _, P => P
  | n + 1, i, P => be_cl L w n (i + 1) (if L (10 * (i / 10 % 10) + i % 10) = true ∧ P (i / 10 % 10) = true ∧ w (i % 10) = true then fun v => P v || decide (v = i % 10) else P)
def be_pt (L : Nat → Bool) : Nat → (Nat → Bool) → Nat → Option Nat
  | 0, f, c => bd_gd (bd_msk f = 0) (some c)
  | n + 1, f, c => if bd_msk f = 0 then some c else be_pt L n (fun v => f v && !be_cl L f 1000 0 (fun v => decide (v = be_lo f 10 0)) v) (c + 1)
theorem be_low_all : ∀ m, m < 1024 → m ≠ 0 → nI m &&& -nI m = bd_bs (fun v => decide (v = be_lo (fun v => m.testBit v) 10 0)) := by decide +kernel
theorem be_lo_ext {f g : Nat → Bool} : ∀ (n k : Nat), k + n ≤ 10 → (∀ v, v < 10 → f v = g v) → be_lo f n k = be_lo g n k
  | 0, _, _, _ => rfl
  | n + 1, k, hk, h => by
    unfold be_lo
    rw [h k (by omega), be_lo_ext n (k + 1) (by omega) h]
theorem be_low (f : Nat → Bool) (h : bd_msk f ≠ 0) : bd_bs f &&& -bd_bs f = bd_bs (fun v => decide (v = be_lo f 10 0)) := by
  have h1 := be_low_all (bd_msk f) (bd_msk_lt f) h
  rw [show be_lo (fun v => (bd_msk f).testBit v) 10 0 = be_lo f 10 0 from be_lo_ext 10 0 (by omega) (fun v hv => by rw [bd_msk_bit]; simp [hv])] at h1
  exact h1
theorem be_bs0 (f : Nat → Bool) : bd_bs f = 0 ↔ bd_msk f = 0 := by
  have := bd_msk_lt f
  unfold bd_bs
  rw [← nI_0, nI_eq (by omega) (by omega)]
theorem be_pr_le {L : Nat → Bool} {T : Nat → Nat} {g : Nat → Bool} {lo B : Nat} (hT : ∀ x, T x ≤ B) : ∀ (n p x : Nat), x ≤ B + 1 → be_pr L T g lo n p x ≤ B + 1
  | 0, _, _, h => h
  | n + 1, p, x, h => by
    unfold be_pr
    refine be_pr_le hT n (p + 1) _ ?_
    split
    · have := hT (bd_msk (be_wo g p)); omega
    · exact h
theorem be_pair_le {L : Nat → Bool} {T : Nat → Nat} {f : Nat → Bool} {B : Nat} (hT : ∀ x, T x ≤ B) : be_pair L T f ≤ B + 1 := by
  unfold be_pair
  refine be_pr_le hT 10 0 _ ?_
  have := hT (bd_msk (be_wo f (be_lo f 10 0))); omega
theorem be_wk_le {L : Nat → Bool} : ∀ (n s B : Nat) (T : Nat → Nat), (∀ x, T x ≤ B) → ∀ x, be_wk L n s T x ≤ B + n
  | 0, _, _, _, h, x => h x
  | n + 1, s, B, T, h, x => by
    unfold be_wk
    have := be_wk_le (L := L) n (s + 1) (B + 1) (va_up T s (be_pair L T (fun v => s.testBit v))) (fun y => by
      unfold va_up
      split
      · exact be_pair_le h
      · have := h y; omega) x
    omega
theorem be_work_le {L : Nat → Bool} {T : Nat → Nat} {B : Nat} (h : ∀ x, T x ≤ B) (x : Nat) : be_work L T x ≤ B + 1023 := be_wk_le 1023 1 B T h x
/-- the model: an object of class 1, its lines, its best -/
abbrev be_MS : Type := (Nat → Bool) × (Nat → Nat)
def be_w (h : Nat → Nat) (d : Nat → ClassId) (st : be_MS) : va_W :=
  [(h 0, .inr (1, [.ref (h 1), .ref (h 2)])), (h 1, .inl (d 1, 100, .inl (fun v => bd_bz (st.1 v)))), (h 2, .inl (d 2, 1024, .inl (fun v => nI (st.2 v))))]
def be_ty (d : Nat → ClassId) : List (ClassId × FieldType) := [(d 1, .boolean), (d 2, .int)]
def be_at (D : va_G) (h : Nat → Nat) (d : Nat → ClassId) (A : Nat → Prop) (H0 H : Heap) (locs : List Loc) (st : be_MS) : Prop :=
  va_P D bd_Cl (be_w h d st) H ∧ va_D A (be_w h d st) ∧ va_S A H0 H locs
def be_cx (p : Program) (c : Code) (cc : ByteArray) (nL : Nat) (s : State) (m : MethodId) (args : Array Value) (D : va_G) (d : Nat → ClassId) : Prop :=
  CallFix p m c cc nL s args lw_all RX1 ∧ va_K D bd_Cl (be_ty d) s
def be_pre (D : va_G) (h : Nat → Nat) (d : Nat → ClassId) (sz : Nat) (st : be_MS) (U : State) : Prop :=
  U.heap.size = sz ∧ va_P D bd_Cl (be_w h d st) U.heap ∧ va_K D bd_Cl (be_ty d) U ∧ va_D (fun _ => True) (be_w h d st)
def be_B (D : va_G) (h : Nat → Nat) (d : Nat → ClassId) (st : be_MS) (A : Nat → Prop) (_ : Unit) (t : State) : Prop :=
  va_P D bd_Cl (be_w h d st) t.heap ∧ va_K D bd_Cl (be_ty d) t ∧ va_D A (be_w h d st)
abbrev be_Qi (D : va_G) (h : Nat → Nat) (d : Nat → ClassId) (v : Int32) (st : be_MS) (A : Nat → Prop) : Array Value → State → Outcome → State → Prop := va_Qi (fun r (_ : Unit) => r = v) (be_B D h d st A) A
abbrev be_Qv (D : va_G) (h : Nat → Nat) (d : Nat → ClassId) (st : be_MS) (A : Nat → Prop) : Array Value → State → Outcome → State → Prop := va_Qv (fun (_ : Unit) => True) (be_B D h d st A) A
abbrev be_MI (l : Launch) (y : MethodName) (cd : ByteArray) (nL : Nat) (ret : Option FieldType) (fr lo : Nat) (D : va_G) (h : Nat → Nat) (d : Nat → ClassId) (sz : Nat) (As : List Value) (st : be_MS) (v : Int32) (st' : be_MS) : Prop :=
  Met l y (ws_ y cd nL ret) { frames := fr, cells := 0, slots := 0, locals := lo } (va_Pc (.ref (h 0) :: As) (be_pre D h d sz st)) (be_Qi D h d v st' (va_A (be_w h d st) sz)) 0 0 (va_A (be_w h d st) sz)
abbrev be_MV (l : Launch) (y : MethodName) (cd : ByteArray) (nL : Nat) (fr lo : Nat) (D : va_G) (h : Nat → Nat) (d : Nat → ClassId) (sz : Nat) (As : List Value) (st : be_MS) (st' : be_MS) : Prop :=
  Met l y (ws_ y cd nL none) { frames := fr, cells := 0, slots := 0, locals := lo } (va_Pc (.ref (h 0) :: As) (be_pre D h d sz st)) (be_Qv D h d st' (va_A (be_w h d st) sz)) 0 0 (va_A (be_w h d st) sz)
theorem be_ofW {l : Launch} {y : MethodName} {cd : ByteArray} {nL : Nat} {ret : Option FieldType} {rm : Room} {As : List Value} {st : be_MS} {sz : Nat} {D : va_G} {h : Nat → Nat} {d : Nat → ClassId} {Qc : (Nat → Prop) → Array Value → State → Outcome → State → Prop} (hy : plainName y.cls = true) (hyc : y.cls = RX1) (hlen : (lg_sl (.ref (h 0) :: As)).length ≤ nL)
    (body : ∀ (p : Program) (e : Env) (s : State) (m : MethodId) (below : List Frame) (meth : Method) (c : Code) (A : Nat → Prop), be_cx p c cd nL s m (Value.ref (h 0) :: As).toArray D d → meth.sig.returnType = ret → meth.locks = false → (∀ q, s.heap.size ≤ q → A q) → be_at D h d A s.heap s.heap [] st → ∀ ls : Array Slot, lv_has ls nL (lv_args 0 (.ref (h 0) :: As)) → W p l e rm s m (Value.ref (h 0) :: As).toArray below meth c s.heap [] 0 0 (MQ below (Qc A) (Value.ref (h 0) :: As).toArray s 0 0 A) (F0 m 0 ls [])) :
    Met l y (ws_ y cd nL ret) rm (va_Pc (.ref (h 0) :: As) (be_pre D h d sz st)) (Qc (va_A (be_w h d st) sz)) 0 0 (va_A (be_w h d st) sz) := by
  refine Met.ofW (cc := cd) (maxL := nL) (ret := ret) hy rfl ?_
  intro p e s m args below meth c s₁ B hml hv
  obtain ⟨rfl, hsz, hP, hK, hD0⟩ := hv
  subst hsz
  have hts := atoms_spec (ws := ws_ y cd nL ret) B.pre
  have hts : ∀ w ∈ lw_all, w.before _ s = true := fun w h => hts w (List.mem_cons_of_mem _ h)
  have hown : s.vm.findClass RX1 = some m.cls := by rw [← hyc]; exact findClass_of_methodNamed B.named
  have hl := lv_entry (.ref (h 0) :: As) (n := nL) hlen
  rw [lg_entry_eq]
  exact body p e s m below meth c _ ⟨⟨B.exec, B.bytes, hml, hown, hts⟩, hK⟩ B.returns B.notSynchronized (fun q h => Or.inr h) ⟨hP, hD0.self, va_S.rf⟩ _ hl
section BEROWS
variable {p : Program} {l : Launch} {e : Env} {R : Room} {s : State} {m : MethodId} {args : Array Value} {below : List Frame} {meth : Method} {c : Code} {H : Heap} {locs : List Loc} {cells slots : Nat} {Q : State → Prop}
variable {cc : ByteArray} {pc nL : Nat} {ls : Array Slot} {rest : List Value} {D : va_G} {A : Nat → Prop} {H0 : Heap} {h : Nat → Nat} {d : Nat → ClassId} {st : be_MS} {L : Nat → Bool} {T : Nat → Nat}
theorem be_getL (C : be_cx p c cc nL s m args D d) (hw : be_at D h d A H0 H locs st) (hdg : decode cc pc = .ok (.getfield 7, 3)) (kk : W p l e R s m args below meth c H locs cells slots Q (F0 m (pc + 3) ls (.ref (h 1) :: rest))) : W p l e R s m args below meth c H locs cells slots Q (F0 m pc ls (.ref (h 0) :: rest)) :=
  va_get (D := D) (ci := 1) (v := .ref (h 1)) (C := RX1) (T := TX1) (N := 2) C.1.1 C.1.2.1 C.1.2.2.2.2 in_X1 C.1.2.2.2.1 C.2 hw.1 0 rfl rfl 0 (by decide) (C.1.2.2.2.2 _ q150) (fun _ h9 => h9) rfl hdg kk
theorem be_getT (C : be_cx p c cc nL s m args D d) (hw : be_at D h d A H0 H locs st) (hdg : decode cc pc = .ok (.getfield 13, 3)) (kk : W p l e R s m args below meth c H locs cells slots Q (F0 m (pc + 3) ls (.ref (h 2) :: rest))) : W p l e R s m args below meth c H locs cells slots Q (F0 m pc ls (.ref (h 0) :: rest)) :=
  va_get (D := D) (ci := 1) (v := .ref (h 2)) (C := RX1) (T := TX1) (N := 2) C.1.1 C.1.2.1 C.1.2.2.2.2 in_X1 C.1.2.2.2.1 C.2 hw.1 0 rfl rfl 1 (by decide) (C.1.2.2.2.2 _ q151) (fun _ h9 => h9) rfl hdg kk
theorem be_ldL (C : be_cx p c cc nL s m args D d) (hw : be_at D h d A H0 H locs (L, T)) {k : Nat} (hk : k < 100) (hdg : decode cc pc = .ok (.baload, 1)) (kk : W p l e R s m args below meth c H locs cells slots Q (F0 m (pc + 1) ls (.int (bd_bz (L k)) :: rest))) : W p l e R s m args below meth c H locs cells slots Q (F0 m pc ls (.int (nI k) :: .ref (h 1) :: rest)) := by
  refine va_zald (f := fun v => bd_bz (L v)) C.1.1 C.1.2.1 C.2 hw.1 1 0 rfl rfl (vp_in_nI hk (by decide)) hdg ?_
  rw [nI_clamp (by omega)]
  exact kk
theorem be_ldT (C : be_cx p c cc nL s m args D d) (hw : be_at D h d A H0 H locs (L, T)) {k : Nat} (hk : k < 1024) (hdg : decode cc pc = .ok (.iaload, 1)) (kk : W p l e R s m args below meth c H locs cells slots Q (F0 m (pc + 1) ls (.int (nI (T k)) :: rest))) : W p l e R s m args below meth c H locs cells slots Q (F0 m pc ls (.int (nI k) :: .ref (h 2) :: rest)) := by
  refine va_iald (f := fun v => nI (T v)) C.1.1 C.1.2.1 C.2 hw.1 2 1 rfl rfl (vp_in_nI hk (by decide)) hdg ?_
  rw [nI_clamp (by omega)]
  exact kk
theorem be_stL (C : be_cx p c cc nL s m args D d) (hw : be_at D h d A H0 H locs (L, T)) {k : Nat} {y : Int32} (x : Bool) (hk : k < 100) (hy : y = bd_bz x) (hdg : decode cc pc = .ok (.bastore, 1)) (kk : ∀ (H : Heap) (locs : List Loc), be_at D h d A H0 H locs (va_up L k x, T) → W p l e R s m args below meth c H locs cells slots Q (F0 m (pc + 1) ls rest)) : W p l e R s m args below meth c H locs cells slots Q (F0 m pc ls (.int y :: .int (nI k) :: .ref (h 1) :: rest)) := by
  subst hy
  refine va_zast (f := fun v => bd_bz (L v)) C.1.1 C.1.2.1 C.2 hw.1 hw.2.1 hw.2.2 1 0 rfl rfl (vp_in_nI hk (by decide)) hdg fun H1 locs1 a1 a2 a3 => ?_
  rw [nI_clamp (by omega), bd_nar, bd_upd] at a1 a2
  exact kk H1 locs1 ⟨a1, a2, a3⟩
theorem be_stT (C : be_cx p c cc nL s m args D d) (hw : be_at D h d A H0 H locs (L, T)) {k : Nat} {y : Int32} (x : Nat) (hk : k < 1024) (hy : y = nI x) (hdg : decode cc pc = .ok (.iastore, 1)) (kk : ∀ (H : Heap) (locs : List Loc), be_at D h d A H0 H locs (L, va_up T k x) → W p l e R s m args below meth c H locs cells slots Q (F0 m (pc + 1) ls rest)) : W p l e R s m args below meth c H locs cells slots Q (F0 m pc ls (.int y :: .int (nI k) :: .ref (h 2) :: rest)) := by
  subst hy
  refine va_iast (f := fun v => nI (T v)) C.1.1 C.1.2.1 C.2 hw.1 hw.2.1 hw.2.2 2 1 rfl rfl (vp_in_nI hk (by decide)) hdg fun H1 locs1 a1 a2 a3 => ?_
  rw [nI_clamp (by omega), bd_upd nI] at a1 a2
  exact kk H1 locs1 ⟨a1, a2, a3⟩
theorem be_iret {v : Int32} (C : be_cx p c cc nL s m args D d) (hr : meth.sig.returnType = some .int) (hk : meth.locks = false) (hw : be_at D h d A s.heap H locs st) (hdg : decode cc pc = .ok (.ireturn, 1)) : W p l e R s m args below meth c H locs cells slots (MQ below (be_Qi D h d v st A) args s cells slots A) (F0 m pc ls [.int v]) :=
  W.iret (v := v) C.1.1 C.1.2.1 hr (fun t ht hW => ⟨⟨v, (), rfl, rfl, by rw [ht]; exact hw.1, va_K.moved hW.alike C.2, hw.2.1⟩, hw.2.2.F ht⟩) hw.2.2.2.2 hdg hk
theorem be_vret (C : be_cx p c cc nL s m args D d) (hr : meth.sig.returnType = none) (hk : meth.locks = false) (hw : be_at D h d A s.heap H locs st) (hdg : decode cc pc = .ok (.return_, 1)) : W p l e R s m args below meth c H locs cells slots (MQ below (be_Qv D h d st A) args s cells slots A) (F0 m pc ls []) :=
  W.vret C.1.1 C.1.2.1 hr (fun t ht hW => ⟨⟨(), rfl, trivial, by rw [ht]; exact hw.1, va_K.moved hW.alike C.2, hw.2.1⟩, hw.2.2.F ht⟩) hw.2.2.2.2 hdg hk
theorem be_blind {As : List Value} {sz : Nat} : FrameBlind (va_Pc As (be_pre D h d sz st)) := fun a U g mk q => by
  obtain ⟨q0, q1, qP, qK, qD⟩ := q
  exact ⟨q0, q1, qP, va_K.moved (u := U) (U := U.calling g mk a) (Vm.Alike.refl U.vm) qK, qD⟩
theorem be_free (hw : be_at D h d A H0 H locs st) (hA : ∀ q, H0.size ≤ q → A q) : ∀ q, va_A (be_w h d st) H.size q → A q :=
  va_free (wc := be_w h d st) hw.2.1 hw.2.2 hA [0, 1, 2] rfl
theorem be_calli {y : MethodName} {bytes : ByteArray} {maxL : Nat} {ret : Option FieldType} {fr lo n index : Nat} {As st0 : List Value} {v : Int32} {st' : be_MS} (C : be_cx p c cc nL s m args D d) (hw : be_at D h d A H0 H locs st) (hA : ∀ q, H0.size ≤ q → A q)
    (hM : be_MI l y bytes maxL ret fr lo D h d H.size As st v st') (cw : CallW R s args RX1 RX1 index y bytes maxL ret (ws_ y bytes maxL ret) { frames := fr, cells := 0, slots := 0, locals := lo } 0 0 n) (hn : As.length = n) (hsz : ls.size = nL) (hst : st0 = As.reverse ++ .ref (h 0) :: rest) (hW : (rest.map fun v => v.category).sum ≤ 8) (hdg : decode cc pc = .ok (.invokevirtual index, 3)) (hf : cells ≤ R.cells ∧ slots ≤ R.slots)
    (kk : ∀ (H : Heap) (locs : List Loc), be_at D h d A H0 H locs st' → W p l e R s m args below meth c H locs cells slots Q (F0 m (pc + 3) ls (.int v :: rest))) : W p l e R s m args below meth c H locs cells slots Q (F0 m pc ls st0) := by
  have hFc := be_free hw hA
  refine va_calli (va_runV (As := As) (rest := rest) C.1 hM cw ⟨be_blind, va_recv C.2 hw.1 (ci := 1) (q0 := 0) rfl rfl, fun U hU hW => ⟨rfl, by rw [hU], by rw [hU]; exact hw.1, va_K.moved hW.alike C.2, hw.2.1.weaken (fun _ _ _ _ => trivial)⟩⟩ rfl hn hsz hst (lv_room hW) hdg hf) hw.2.2 (fun q _ h => hFc q h) hFc (fun r1 u t H1 locs1 ht hvm hw1 hB hz1 hk1 hS => ?_)
  obtain ⟨hP1, hK1, hD1⟩ := hB
  rw [ht] at hP1
  have hw1 : r1 = v := hw1
  subst hw1
  exact kk H1 locs1 ⟨hP1, hD1.weaken (fun _ _ _ h => hFc _ h), hS⟩
theorem be_callv {y : MethodName} {bytes : ByteArray} {maxL : Nat} {fr lo n index : Nat} {As st0 : List Value} {st' : be_MS} (C : be_cx p c cc nL s m args D d) (hw : be_at D h d A H0 H locs st) (hA : ∀ q, H0.size ≤ q → A q)
    (hM : be_MV l y bytes maxL fr lo D h d H.size As st st') (cw : CallW R s args RX1 RX1 index y bytes maxL none (ws_ y bytes maxL none) { frames := fr, cells := 0, slots := 0, locals := lo } 0 0 n) (hn : As.length = n) (hsz : ls.size = nL) (hst : st0 = As.reverse ++ .ref (h 0) :: rest) (hW : (rest.map fun v => v.category).sum ≤ 8) (hdg : decode cc pc = .ok (.invokevirtual index, 3)) (hf : cells ≤ R.cells ∧ slots ≤ R.slots)
    (kk : ∀ (H : Heap) (locs : List Loc), be_at D h d A H0 H locs st' → W p l e R s m args below meth c H locs cells slots Q (F0 m (pc + 3) ls rest)) : W p l e R s m args below meth c H locs cells slots Q (F0 m pc ls st0) := by
  have hFc := be_free hw hA
  refine va_callv (va_runV (As := As) (rest := rest) C.1 hM cw ⟨be_blind, va_recv C.2 hw.1 (ci := 1) (q0 := 0) rfl rfl, fun U hU hW => ⟨rfl, by rw [hU], by rw [hU]; exact hw.1, va_K.moved hW.alike C.2, hw.2.1.weaken (fun _ _ _ _ => trivial)⟩⟩ rfl hn hsz hst (lv_room hW) hdg hf) hw.2.2 (fun q _ h => hFc q h) hFc (fun u t H1 locs1 ht hvm hw1 hB hz1 hk1 hS => ?_)
  obtain ⟨hP1, hK1, hD1⟩ := hB
  rw [ht] at hP1
  exact kk H1 locs1 ⟨hP1, hD1.weaken (fun _ _ _ h => hFc _ h), hS⟩
theorem be_at_kept {H1 : Heap} {locs1 : List Loc} (hw : be_at D h d A H0 H locs st) (hk : ∀ q, q < H.size → H1[q]? = H[q]?) (hS : va_S A H0 H1 locs1) : be_at D h d A H0 H1 locs1 st :=
  ⟨hw.1.kept (fun k q hq => hk q.1 ((hw.1 k q hq).lt)), hw.2.1, hS⟩
end BEROWS
end
section
/-! walks: the model, leaves (printed by gen/model1.py) -/
set_option maxRecDepth 100000
theorem bd_leN {p N : Nat} (hp : p ≤ N) (hN : N < 2 ^ 31) : nI N ≤ nI p ↔ p = N := by
  rw [nI_leI (by omega) (by omega)]
  omega
theorem bd_nI_bs {k : Nat} (h : k < 1024) : nI k = bd_bs (fun v => k.testBit v) := by
  unfold bd_bs
  rw [bd_msk_of h]
theorem be_lo_lt : ∀ k, k < 1024 → k ≠ 0 → be_lo (fun v => k.testBit v) 10 0 < 10 := by decide +kernel
theorem bd_bzt {a : Bool} : bd_bz a = bd_bz true ↔ a = true := bd_bz_eq
theorem be_up_le {L : Nat → Bool} {T : Nat → Nat} {f : Nat → Bool} {B k : Nat} (h : ∀ x, T x ≤ B) (x : Nat) : va_up T k (be_pair L T f) x ≤ B + 1 := by
  unfold va_up
  split
  · exact be_pair_le h
  · have := h x; omega
theorem be_full1 : bd_msk (fun _ => true) = 1023 := by decide +kernel
set_option maxHeartbeats 4000000 in
set_option maxRecDepth 100000 in
/-- bad(x) -/
theorem be_m_bad (l : Launch) (x : Int32) : bd_MS l yX1_bad cX1_bad 1 (some .boolean) 0 0 [.int x] (bd_bz (be_bad x)) := by
  refine bd_ofWS (own := RX1) (by decide) rfl (Nat.le_of_ble_eq_true rfl) ?_
  intro p e s m below meth c0 C hr hk ls hl
  have hx := C.1
  have hb := C.2.1
  have hS : va_S (fun _ => False) s.heap s.heap [] := va_S.rf
  have hl : lv_has ls 1 [(0, .int x)] := hl
  refine lv_iload_n hx hb dX1_bad_0 rfl (lv_at hl 0 rfl) ?_
  refine lv_if_lt (tgt := 10) hx hb dX1_bad_1 (by decide) (fun c_1 => ?_) (fun c_1 => ?_)
  · skip
    have hp : be_bad x = true := decide_eq_true (Or.inl c_1)
    refine lv_iconst (v := bd_bz (be_bad x)) hx hb dX1_bad_10 (by rw [hp]; decide) ?_
    refine lv_goto (tgt := 15) hx hb dX1_bad_11 (by decide) ?_
    exact bd_zretS C hr hk hS dX1_bad_15
  · skip
    refine lv_iload_n hx hb dX1_bad_4 rfl (lv_at hl 0 rfl) ?_
    refine lv_bipush (v := nI 9) hx hb dX1_bad_5 (by decide) ?_
    refine lv_icmp_le (tgt := 14) hx hb dX1_bad_7 (by decide) (fun c_2 => ?_) (fun c_2 => ?_)
    · skip
      have hp : be_bad x = false := decide_eq_false (fun z => z.elim c_1 (fun z => absurd c_2 (by rw [Int32.not_le]; exact z)))
      refine lv_iconst (v := bd_bz (be_bad x)) hx hb dX1_bad_14 (by rw [hp]; decide) ?_
      exact bd_zretS C hr hk hS dX1_bad_15
    · skip
      have hp : be_bad x = true := decide_eq_true (Or.inr (Int32.not_le.mp c_2))
      refine lv_iconst (v := bd_bz (be_bad x)) hx hb dX1_bad_10 (by rw [hp]; decide) ?_
      refine lv_goto (tgt := 15) hx hb dX1_bad_11 (by decide) ?_
      exact bd_zretS C hr hk hS dX1_bad_15
set_option maxHeartbeats 4000000 in
set_option maxRecDepth 100000 in
/-- refused(x, y) -/
theorem be_m_refused (l : Launch) (x y : Int32) : bd_MS l yX1_refused cX1_refused 2 (some .boolean) 1 20 [.int x, .int y] (bd_bz (be_ref x y)) := by
  refine bd_ofWS (own := RX1) (by decide) rfl (Nat.le_of_ble_eq_true rfl) ?_
  intro p e s m below meth c0 C hr hk ls hl
  have hx := C.1
  have hb := C.2.1
  have hS : va_S (fun _ => False) s.heap s.heap [] := va_S.rf
  have hl : lv_has ls 2 [(0, .int x), (1, .int y)] := hl
  refine lv_iload_n hx hb dX1_refused_0 rfl (lv_at hl 0 rfl) ?_
  refine bd_calls C hS (be_m_bad l x) (va_cwS 1 C.2.2.2.2 (lw_S q164 q165 q16 q166) rfl rfl rfl (by decide +kernel) ⟨Nat.le_of_ble_eq_true rfl, Nat.le_of_ble_eq_true rfl⟩) rfl hl.1 rfl (Nat.le_of_ble_eq_true rfl) dX1_refused_1 ⟨Nat.zero_le _, Nat.zero_le _⟩ (fun H1 locs1 hkp hS => ?_)
  refine lv_if_ne (tgt := 19) hx hb dX1_refused_4 (by decide) (fun c_1 => ?_) (fun c_1 => ?_)
  · skip
    have hp : be_ref x y = true := by unfold be_ref; rw [bd_bz1.mp c_1]; rfl
    refine lv_iconst (v := bd_bz (be_ref x y)) hx hb dX1_refused_19 (by rw [hp]; decide) ?_
    refine lv_goto (tgt := 24) hx hb dX1_refused_20 (by decide) ?_
    exact bd_zretS C hr hk hS dX1_refused_24
  · skip
    have h1 : be_bad x = false := bd_bz0.mp c_1
    refine lv_iload_n hx hb dX1_refused_7 rfl (lv_at hl 1 rfl) ?_
    refine bd_calls C hS (be_m_bad l y) (va_cwS 1 C.2.2.2.2 (lw_S q164 q165 q16 q166) rfl rfl rfl (by decide +kernel) ⟨Nat.le_of_ble_eq_true rfl, Nat.le_of_ble_eq_true rfl⟩) rfl hl.1 rfl (Nat.le_of_ble_eq_true rfl) dX1_refused_8 ⟨Nat.zero_le _, Nat.zero_le _⟩ (fun H1 locs1 hkp hS => ?_)
    refine lv_if_ne (tgt := 19) hx hb dX1_refused_11 (by decide) (fun c_2 => ?_) (fun c_2 => ?_)
    · skip
      have hp : be_ref x y = true := by unfold be_ref; rw [h1, bd_bz1.mp c_2]; rfl
      refine lv_iconst (v := bd_bz (be_ref x y)) hx hb dX1_refused_19 (by rw [hp]; decide) ?_
      refine lv_goto (tgt := 24) hx hb dX1_refused_20 (by decide) ?_
      exact bd_zretS C hr hk hS dX1_refused_24
    · skip
      have h2 : be_bad y = false := bd_bz0.mp c_2
      refine lv_iload_n hx hb dX1_refused_14 rfl (lv_at hl 0 rfl) ?_
      refine lv_iload_n hx hb dX1_refused_15 rfl (lv_at hl 1 rfl) ?_
      refine lv_icmp_ne (tgt := 23) hx hb dX1_refused_16 (by decide) (fun c_3 => ?_) (fun c_3 => ?_)
      · skip
        have hp : be_ref x y = false := by unfold be_ref; rw [h1, h2, decide_eq_false c_3]; rfl
        refine lv_iconst (v := bd_bz (be_ref x y)) hx hb dX1_refused_23 (by rw [hp]; decide) ?_
        exact bd_zretS C hr hk hS dX1_refused_24
      · skip
        have hp : be_ref x y = true := by unfold be_ref; rw [h1, h2, decide_eq_true c_3]; rfl
        refine lv_iconst (v := bd_bz (be_ref x y)) hx hb dX1_refused_19 (by rw [hp]; decide) ?_
        refine lv_goto (tgt := 24) hx hb dX1_refused_20 (by decide) ?_
        exact bd_zretS C hr hk hS dX1_refused_24
set_option maxHeartbeats 4000000 in
set_option maxRecDepth 100000 in
/-- set(a, c, t) -/
theorem be_m_set (l : Launch) (D : va_G) (h : Nat → Nat) (d : Nat → ClassId) (sz : Nat) (L : Nat → Bool) (T : Nat → Nat) (a c : Nat) (t : Bool) (ha : a < 10) (hc : c < 10) : be_MI l yX1_set cX1_set 5 (some .int) 0 0 D h d sz [.int (nI a), .int (nI c), .int (bd_bz t)] (L, T) (if L (10 * a + c) = t then nI 0 else nI 1) (be_set L a c t, T) := by
  refine be_ofW (Qc := be_Qi D h d (if L (10 * a + c) = t then nI 0 else nI 1) (be_set L a c t, T)) (by decide) rfl (Nat.le_of_ble_eq_true rfl) ?_
  intro p e s m below meth c0 A C hr hk hA hw ls hl
  have hx := C.1.1
  have hb := C.1.2.1
  have hl : lv_has ls 5 [(0, .ref (h 0)), (1, .int (nI a)), (2, .int (nI c)), (3, .int (bd_bz t))] := hl
  refine lv_aload_n hx hb dX1_set_0 rfl (lv_at hl 0 rfl) ?_
  refine be_getL C hw dX1_set_1 ?_
  refine lv_bipush (v := nI 10) hx hb dX1_set_4 (by decide) ?_
  refine lv_iload_n hx hb dX1_set_6 rfl (lv_at hl 1 rfl) ?_
  refine lv_imul hx hb dX1_set_7 ?_
  refine bd_top (y := nI (10 * a)) (pk_mul 10 a) ?_
  refine lv_iload_n hx hb dX1_set_8 rfl (lv_at hl 2 rfl) ?_
  refine lv_iadd hx hb dX1_set_9 ?_
  refine bd_top (y := nI (10 * a + c)) (nI_add _ _) ?_
  refine be_ldL C hw (k := (10 * a + c)) (by omega) dX1_set_10 ?_
  refine lv_istore (lv' := [(4, .int (bd_bz (L (10 * a + c)))), (0, .ref (h 0)), (1, .int (nI a)), (2, .int (nI c)), (3, .int (bd_bz t))]) hx hb dX1_set_11 hl (by decide) rfl (fun ls hl => ?_)
  refine lv_aload_n hx hb dX1_set_13 rfl (lv_at hl 1 rfl) ?_
  refine be_getL C hw dX1_set_14 ?_
  refine lv_bipush (v := nI 10) hx hb dX1_set_17 (by decide) ?_
  refine lv_iload_n hx hb dX1_set_19 rfl (lv_at hl 2 rfl) ?_
  refine lv_imul hx hb dX1_set_20 ?_
  refine bd_top (y := nI (10 * a)) (pk_mul 10 a) ?_
  refine lv_iload_n hx hb dX1_set_21 rfl (lv_at hl 3 rfl) ?_
  refine lv_iadd hx hb dX1_set_22 ?_
  refine bd_top (y := nI (10 * a + c)) (nI_add _ _) ?_
  refine lv_iload_n hx hb dX1_set_23 rfl (lv_at hl 4 rfl) ?_
  refine be_stL C hw (k := (10 * a + c)) t (by omega) rfl dX1_set_24 (fun H locs hw => ?_)
  refine lv_aload_n hx hb dX1_set_25 rfl (lv_at hl 1 rfl) ?_
  refine be_getL C hw dX1_set_26 ?_
  refine lv_bipush (v := nI 10) hx hb dX1_set_29 (by decide) ?_
  refine lv_iload_n hx hb dX1_set_31 rfl (lv_at hl 3 rfl) ?_
  refine lv_imul hx hb dX1_set_32 ?_
  refine bd_top (y := nI (10 * c)) (pk_mul 10 c) ?_
  refine lv_iload_n hx hb dX1_set_33 rfl (lv_at hl 2 rfl) ?_
  refine lv_iadd hx hb dX1_set_34 ?_
  refine bd_top (y := nI (10 * c + a)) (nI_add _ _) ?_
  refine lv_iload_n hx hb dX1_set_35 rfl (lv_at hl 4 rfl) ?_
  refine be_stL C hw (k := (10 * c + a)) t (by omega) rfl dX1_set_36 (fun H locs hw => ?_)
  refine lv_iload hx hb dX1_set_37 (lv_at hl 0 rfl) ?_
  refine lv_iload_n hx hb dX1_set_39 rfl (lv_at hl 4 rfl) ?_
  refine lv_icmp_ne (tgt := 47) hx hb dX1_set_40 (by decide) (fun c_1 => ?_) (fun c_1 => ?_)
  · skip
    have h1 : ¬ L (10 * a + c) = t := fun z => c_1 (by rw [z])
    refine lv_iconst (v := if L (10 * a + c) = t then nI 0 else nI 1) hx hb dX1_set_47 (by rw [if_neg h1]; decide) ?_
    exact be_iret C hr hk hw dX1_set_48
  · skip
    have h1 : L (10 * a + c) = t := bd_bz_eq.mp c_1
    refine lv_iconst (v := if L (10 * a + c) = t then nI 0 else nI 1) hx hb dX1_set_43 (by rw [if_pos h1]; decide) ?_
    refine lv_goto (tgt := 48) hx hb dX1_set_44 (by decide) ?_
    exact be_iret C hr hk hw dX1_set_48
set_option maxHeartbeats 4000000 in
set_option maxRecDepth 100000 in
/-- join(x, y), refused -/
theorem be_m_join_bad (l : Launch) (D : va_G) (h : Nat → Nat) (d : Nat → ClassId) (sz : Nat) (L : Nat → Bool) (T : Nat → Nat) (x y : Int32) (hp : bd_pair x y = false) : be_MI l yX1_join cX1_join 3 (some .int) 2 41 D h d sz [.int x, .int y] (L, T) (bd_enc 10) (L, T) := by
  refine be_ofW (Qc := be_Qi D h d (bd_enc 10) (L, T)) (by decide) rfl (Nat.le_of_ble_eq_true rfl) ?_
  intro p e s m below meth c0 A C hr hk hA hw ls hl
  have hx := C.1.1
  have hb := C.1.2.1
  have hl : lv_has ls 3 [(0, .ref (h 0)), (1, .int x), (2, .int y)] := hl
  have hp : be_ref x y = true := by rw [be_ref_pair, hp]; rfl
  refine lv_iload_n hx hb dX1_join_0 rfl (lv_at hl 1 rfl) ?_
  refine lv_iload_n hx hb dX1_join_1 rfl (lv_at hl 2 rfl) ?_
  refine bd_calls C.1 hw.2.2 (be_m_refused l x y) (va_cwS 2 C.1.2.2.2.2 (lw_S q161 q162 q16 q163) rfl rfl rfl (by decide +kernel) ⟨Nat.le_of_ble_eq_true rfl, Nat.le_of_ble_eq_true rfl⟩) rfl hl.1 rfl (Nat.le_of_ble_eq_true rfl) dX1_join_2 ⟨Nat.zero_le _, Nat.zero_le _⟩ (fun H1 locs1 hkp hS1 => ?_)
  have hw := be_at_kept hw hkp hS1
  generalize H1 = H at hw ⊢
  generalize locs1 = locs at hw ⊢
  refine lv_if_eq (tgt := 12) hx hb dX1_join_5 (by decide) (fun c_1 => ?_) (fun c_1 => ?_)
  · skip
    exact absurd (hp.symm.trans (bd_bz0.mp c_1)) (by decide)
  · skip
    refine lv_iconst (v := bd_enc 10) hx hb dX1_join_8 (by decide) ?_
    refine lv_goto (tgt := 19) hx hb dX1_join_9 (by decide) ?_
    exact be_iret C hr hk hw dX1_join_19
set_option maxHeartbeats 4000000 in
set_option maxRecDepth 100000 in
/-- join(a, c) -/
theorem be_m_join (l : Launch) (D : va_G) (h : Nat → Nat) (d : Nat → ClassId) (sz : Nat) (L : Nat → Bool) (T : Nat → Nat) (a c : Nat) (ha : a < 10) (hc : c < 10) (hac : a ≠ c) : be_MI l yX1_join cX1_join 3 (some .int) 2 41 D h d sz [.int (nI a), .int (nI c)] (L, T) (if L (10 * a + c) = true then nI 0 else nI 1) (be_set L a c true, T) := by
  refine be_ofW (Qc := be_Qi D h d (if L (10 * a + c) = true then nI 0 else nI 1) (be_set L a c true, T)) (by decide) rfl (Nat.le_of_ble_eq_true rfl) ?_
  intro p e s m below meth c0 A C hr hk hA hw ls hl
  have hx := C.1.1
  have hb := C.1.2.1
  have hl : lv_has ls 3 [(0, .ref (h 0)), (1, .int (nI a)), (2, .int (nI c))] := hl
  have hp : be_ref (nI a) (nI c) = false := by rw [be_ref_pair, bd_pair_nI ha hc hac]; rfl
  refine lv_iload_n hx hb dX1_join_0 rfl (lv_at hl 1 rfl) ?_
  refine lv_iload_n hx hb dX1_join_1 rfl (lv_at hl 2 rfl) ?_
  refine bd_calls C.1 hw.2.2 (be_m_refused l (nI a) (nI c)) (va_cwS 2 C.1.2.2.2.2 (lw_S q161 q162 q16 q163) rfl rfl rfl (by decide +kernel) ⟨Nat.le_of_ble_eq_true rfl, Nat.le_of_ble_eq_true rfl⟩) rfl hl.1 rfl (Nat.le_of_ble_eq_true rfl) dX1_join_2 ⟨Nat.zero_le _, Nat.zero_le _⟩ (fun H1 locs1 hkp hS1 => ?_)
  have hw := be_at_kept hw hkp hS1
  generalize H1 = H at hw ⊢
  generalize locs1 = locs at hw ⊢
  refine lv_if_eq (tgt := 12) hx hb dX1_join_5 (by decide) (fun c_1 => ?_) (fun c_1 => ?_)
  · skip
    refine lv_aload_n hx hb dX1_join_12 rfl (lv_at hl 0 rfl) ?_
    refine lv_iload_n hx hb dX1_join_13 rfl (lv_at hl 1 rfl) ?_
    refine lv_iload_n hx hb dX1_join_14 rfl (lv_at hl 2 rfl) ?_
    refine lv_iconst (v := bd_bz true) hx hb dX1_join_15 (by decide) ?_
    refine be_calli C hw hA (be_m_set l D h d _ _ _ a c true ha hc) (cwV 3 C.1.2.2.2.2 (lw_V q167 q169 qs11 q16 q170) rfl rfl rfl (by decide +kernel) ⟨Nat.le_of_ble_eq_true rfl, Nat.le_of_ble_eq_true rfl⟩) rfl hl.1 rfl (Nat.le_of_ble_eq_true rfl) dX1_join_16 ⟨Nat.zero_le _, Nat.zero_le _⟩ (fun H locs hw => ?_)
    exact be_iret C hr hk hw dX1_join_19
  · skip
    exact absurd hp (by rw [bd_bz1.mp c_1]; decide)
set_option maxHeartbeats 4000000 in
set_option maxRecDepth 100000 in
/-- part(x, y), refused -/
theorem be_m_part_bad (l : Launch) (D : va_G) (h : Nat → Nat) (d : Nat → ClassId) (sz : Nat) (L : Nat → Bool) (T : Nat → Nat) (x y : Int32) (hp : bd_pair x y = false) : be_MI l yX1_part cX1_part 3 (some .int) 2 41 D h d sz [.int x, .int y] (L, T) (bd_enc 10) (L, T) := by
  refine be_ofW (Qc := be_Qi D h d (bd_enc 10) (L, T)) (by decide) rfl (Nat.le_of_ble_eq_true rfl) ?_
  intro p e s m below meth c0 A C hr hk hA hw ls hl
  have hx := C.1.1
  have hb := C.1.2.1
  have hl : lv_has ls 3 [(0, .ref (h 0)), (1, .int x), (2, .int y)] := hl
  have hp : be_ref x y = true := by rw [be_ref_pair, hp]; rfl
  refine lv_iload_n hx hb dX1_part_0 rfl (lv_at hl 1 rfl) ?_
  refine lv_iload_n hx hb dX1_part_1 rfl (lv_at hl 2 rfl) ?_
  refine bd_calls C.1 hw.2.2 (be_m_refused l x y) (va_cwS 2 C.1.2.2.2.2 (lw_S q161 q162 q16 q163) rfl rfl rfl (by decide +kernel) ⟨Nat.le_of_ble_eq_true rfl, Nat.le_of_ble_eq_true rfl⟩) rfl hl.1 rfl (Nat.le_of_ble_eq_true rfl) dX1_part_2 ⟨Nat.zero_le _, Nat.zero_le _⟩ (fun H1 locs1 hkp hS1 => ?_)
  have hw := be_at_kept hw hkp hS1
  generalize H1 = H at hw ⊢
  generalize locs1 = locs at hw ⊢
  refine lv_if_eq (tgt := 12) hx hb dX1_part_5 (by decide) (fun c_1 => ?_) (fun c_1 => ?_)
  · skip
    exact absurd (hp.symm.trans (bd_bz0.mp c_1)) (by decide)
  · skip
    refine lv_iconst (v := bd_enc 10) hx hb dX1_part_8 (by decide) ?_
    refine lv_goto (tgt := 19) hx hb dX1_part_9 (by decide) ?_
    exact be_iret C hr hk hw dX1_part_19
set_option maxHeartbeats 4000000 in
set_option maxRecDepth 100000 in
/-- part(a, c) -/
theorem be_m_part (l : Launch) (D : va_G) (h : Nat → Nat) (d : Nat → ClassId) (sz : Nat) (L : Nat → Bool) (T : Nat → Nat) (a c : Nat) (ha : a < 10) (hc : c < 10) (hac : a ≠ c) : be_MI l yX1_part cX1_part 3 (some .int) 2 41 D h d sz [.int (nI a), .int (nI c)] (L, T) (if L (10 * a + c) = false then nI 0 else nI 1) (be_set L a c false, T) := by
  refine be_ofW (Qc := be_Qi D h d (if L (10 * a + c) = false then nI 0 else nI 1) (be_set L a c false, T)) (by decide) rfl (Nat.le_of_ble_eq_true rfl) ?_
  intro p e s m below meth c0 A C hr hk hA hw ls hl
  have hx := C.1.1
  have hb := C.1.2.1
  have hl : lv_has ls 3 [(0, .ref (h 0)), (1, .int (nI a)), (2, .int (nI c))] := hl
  have hp : be_ref (nI a) (nI c) = false := by rw [be_ref_pair, bd_pair_nI ha hc hac]; rfl
  refine lv_iload_n hx hb dX1_part_0 rfl (lv_at hl 1 rfl) ?_
  refine lv_iload_n hx hb dX1_part_1 rfl (lv_at hl 2 rfl) ?_
  refine bd_calls C.1 hw.2.2 (be_m_refused l (nI a) (nI c)) (va_cwS 2 C.1.2.2.2.2 (lw_S q161 q162 q16 q163) rfl rfl rfl (by decide +kernel) ⟨Nat.le_of_ble_eq_true rfl, Nat.le_of_ble_eq_true rfl⟩) rfl hl.1 rfl (Nat.le_of_ble_eq_true rfl) dX1_part_2 ⟨Nat.zero_le _, Nat.zero_le _⟩ (fun H1 locs1 hkp hS1 => ?_)
  have hw := be_at_kept hw hkp hS1
  generalize H1 = H at hw ⊢
  generalize locs1 = locs at hw ⊢
  refine lv_if_eq (tgt := 12) hx hb dX1_part_5 (by decide) (fun c_1 => ?_) (fun c_1 => ?_)
  · skip
    refine lv_aload_n hx hb dX1_part_12 rfl (lv_at hl 0 rfl) ?_
    refine lv_iload_n hx hb dX1_part_13 rfl (lv_at hl 1 rfl) ?_
    refine lv_iload_n hx hb dX1_part_14 rfl (lv_at hl 2 rfl) ?_
    refine lv_iconst (v := bd_bz false) hx hb dX1_part_15 (by decide) ?_
    refine be_calli C hw hA (be_m_set l D h d _ _ _ a c false ha hc) (cwV 3 C.1.2.2.2.2 (lw_V q167 q169 qs11 q16 q170) rfl rfl rfl (by decide +kernel) ⟨Nat.le_of_ble_eq_true rfl, Nat.le_of_ble_eq_true rfl⟩) rfl hl.1 rfl (Nat.le_of_ble_eq_true rfl) dX1_part_16 ⟨Nat.zero_le _, Nat.zero_le _⟩ (fun H locs hw => ?_)
    exact be_iret C hr hk hw dX1_part_19
  · skip
    exact absurd hp (by rw [bd_bz1.mp c_1]; decide)
set_option maxHeartbeats 4000000 in
set_option maxRecDepth 100000 in
/-- pair(f) -/
theorem be_m_pair (l : Launch) (D : va_G) (h : Nat → Nat) (d : Nat → ClassId) (sz : Nat) (L : Nat → Bool) (T : Nat → Nat) (f : Nat → Bool) (lo R B : Nat) (hlo : be_lo f 10 0 = lo) (hlt : lo < 10) (hR : be_pr L T (be_wo f lo) lo 10 0 (T (bd_msk (be_wo f lo))) = R) (hT : ∀ x, T x ≤ B) (hB : B ≤ 100000) : be_MI l yX1_pair cX1_pair 6 (some .int) 0 0 D h d sz [.int (bd_bs f)] (L, T) (nI R) (L, T) := by
  refine be_ofW (Qc := be_Qi D h d (nI R) (L, T)) (by decide) rfl (Nat.le_of_ble_eq_true rfl) ?_
  intro p e s m below meth c0 A C hr hk hA hw ls hl
  have hx := C.1.1
  have hb := C.1.2.1
  have hl : lv_has ls 6 [(0, .ref (h 0)), (1, .int (bd_bs f))] := hl
  generalize hg : be_wo f lo = g at hR
  have lp2 : ∀ (n : Nat) (k x : Nat), k + n = 10 → x ≤ B + 1 → be_pr L T g lo n k x = R → ∀ (H : Heap) (locs : List Loc), be_at D h d A s.heap H locs (L, T) → ∀ ls : Array Slot, lv_has ls 6 [(0, .ref (h 0)), (2, .int (nI lo)), (3, .int (bd_bs g)), (4, .int (nI x)), (5, .int (nI k))] → W p l e { frames := 0, cells := 0, slots := 0, locals := 0 } s m (([.ref (h 0), .int (bd_bs f)] : List Value).toArray) below meth c0 H locs 0 0 (MQ below (be_Qi D h d (nI R) (L, T) A) (([.ref (h 0), .int (bd_bs f)] : List Value).toArray) s 0 0 A) (F0 m 41 ls []) := by
    intro n
    induction n with
    | zero =>
      intro k x e1 e2 e3 H locs hw ls hl
      refine lv_iload hx hb dX1_pair_41 (lv_at hl 4 rfl) ?_
      refine lv_bipush (v := nI 10) hx hb dX1_pair_43 (by decide) ?_
      refine lv_icmp_ge (tgt := 116) hx hb dX1_pair_45 (by decide) (fun c_1 => ?_) (fun c_1 => ?_)
      · skip
        have e3 : x = R := e3
        subst e3
        refine lv_iload hx hb dX1_pair_116 (lv_at hl 3 rfl) ?_
        exact be_iret C hr hk hw dX1_pair_118
      · skip
        exact absurd ((bd_leN (N := 10) (by omega) (by omega)).mpr (by omega)) c_1
    | succ n ih =>
      intro k x e1 e2 e3 H locs hw ls hl
      unfold be_pr at e3
      refine lv_iload hx hb dX1_pair_41 (lv_at hl 4 rfl) ?_
      refine lv_bipush (v := nI 10) hx hb dX1_pair_43 (by decide) ?_
      refine lv_icmp_ge (tgt := 116) hx hb dX1_pair_45 (by decide) (fun c_2 => ?_) (fun c_2 => ?_)
      · skip
        have := (bd_leN (N := 10) (by omega) (by omega)).mp c_2
        omega
      · skip
        refine lv_iload_n hx hb dX1_pair_48 rfl (lv_at hl 2 rfl) ?_
        refine lv_iload hx hb dX1_pair_49 (lv_at hl 4 rfl) ?_
        refine lv_ishr hx hb dX1_pair_51 ?_
        refine lv_iconst (v := nI 1) hx hb dX1_pair_52 (by decide) ?_
        refine lv_iand hx hb dX1_pair_53 ?_
        refine bd_top (y := bd_bz (g k)) (bd_bit2 g (by omega)) ?_
        refine lv_iconst (v := bd_bz true) hx hb dX1_pair_54 (by decide) ?_
        refine lv_icmp_ne (tgt := 110) hx hb dX1_pair_55 (by decide) (fun c_3 => ?_) (fun c_3 => ?_)
        · skip
          have h1 : ¬ g k = true := fun z => c_3 (bd_bzt.mpr z)
          rw [if_neg (fun z => h1 z.1)] at e3
          refine lv_iinc (v := nI (k + 1)) (lv' := [(5, .int (nI (k + 1))), (0, .ref (h 0)), (2, .int (nI lo)), (3, .int (bd_bs g)), (4, .int (nI x))]) hx hb dX1_pair_110 hl (k := 4) rfl (nI_1 k) (by decide) rfl (fun ls hl => ?_)
          refine lv_goto (tgt := 41) hx hb dX1_pair_113 (by decide) ?_
          exact ih (k + 1) _ (by omega) e2 e3 _ _ hw ls (lv_sub hl [1, 2, 3, 4, 0] rfl)
        · skip
          have h1 : g k = true := bd_bzt.mp c_3
          refine lv_aload_n hx hb dX1_pair_58 rfl (lv_at hl 0 rfl) ?_
          refine be_getL C hw dX1_pair_59 ?_
          refine lv_bipush (v := nI 10) hx hb dX1_pair_62 (by decide) ?_
          refine lv_iload_n hx hb dX1_pair_64 rfl (lv_at hl 1 rfl) ?_
          refine lv_imul hx hb dX1_pair_65 ?_
          refine bd_top (y := nI (10 * lo)) (pk_mul 10 lo) ?_
          refine lv_iload hx hb dX1_pair_66 (lv_at hl 4 rfl) ?_
          refine lv_iadd hx hb dX1_pair_68 ?_
          refine bd_top (y := nI (10 * lo + k)) (nI_add _ _) ?_
          refine be_ldL C hw (k := (10 * lo + k)) (by omega) dX1_pair_69 ?_
          refine lv_if_eq (tgt := 110) hx hb dX1_pair_70 (by decide) (fun c_4 => ?_) (fun c_4 => ?_)
          · skip
            have h2 : ¬ L (10 * lo + k) = true := fun z => absurd (z.symm.trans (bd_bz0.mp c_4)) (by decide)
            rw [if_neg (fun z => h2 z.2.1)] at e3
            refine lv_iinc (v := nI (k + 1)) (lv' := [(5, .int (nI (k + 1))), (0, .ref (h 0)), (2, .int (nI lo)), (3, .int (bd_bs g)), (4, .int (nI x))]) hx hb dX1_pair_110 hl (k := 4) rfl (nI_1 k) (by decide) rfl (fun ls hl => ?_)
            refine lv_goto (tgt := 41) hx hb dX1_pair_113 (by decide) ?_
            exact ih (k + 1) _ (by omega) e2 e3 _ _ hw ls (lv_sub hl [1, 2, 3, 4, 0] rfl)
          · skip
            have h2 : L (10 * lo + k) = true := bd_bz1.mp c_4
            have hTk := hT (bd_msk (be_wo g k))
            refine lv_aload_n hx hb dX1_pair_73 rfl (lv_at hl 0 rfl) ?_
            refine be_getT C hw dX1_pair_74 ?_
            refine lv_iload_n hx hb dX1_pair_77 rfl (lv_at hl 2 rfl) ?_
            refine lv_iconst (v := nI 1) hx hb dX1_pair_78 (by decide) ?_
            refine lv_iload hx hb dX1_pair_79 (lv_at hl 4 rfl) ?_
            refine lv_ishl hx hb dX1_pair_81 ?_
            refine bd_top (y := bd_bs (fun v => decide (v = k))) (bd_one (by omega)) ?_
            refine lv_iconst (v := -1) hx hb dX1_pair_82 (by decide) ?_
            refine lv_ixor hx hb dX1_pair_83 ?_
            refine lv_iand hx hb dX1_pair_84 ?_
            refine bd_top (y := nI (bd_msk (be_wo g k))) (bd_andn g (fun v => decide (v = k))) ?_
            refine be_ldT C hw (k := (bd_msk (be_wo g k))) (bd_msk_lt _) dX1_pair_85 ?_
            refine lv_iconst (v := nI 1) hx hb dX1_pair_86 (by decide) ?_
            refine lv_iadd hx hb dX1_pair_87 ?_
            refine bd_top (y := nI (T (bd_msk (be_wo g k)) + 1)) (nI_add _ 1) ?_
            refine lv_iload hx hb dX1_pair_88 (lv_at hl 3 rfl) ?_
            refine lv_icmp_le (tgt := 110) hx hb dX1_pair_90 (by decide) (fun c_5 => ?_) (fun c_5 => ?_)
            · skip
              have h3 : ¬ x < T (bd_msk (be_wo g k)) + 1 := Nat.not_lt.mpr ((nI_leI (by omega) (by omega)).mp c_5)
              rw [if_neg (fun z => h3 z.2.2)] at e3
              refine lv_iinc (v := nI (k + 1)) (lv' := [(5, .int (nI (k + 1))), (0, .ref (h 0)), (2, .int (nI lo)), (3, .int (bd_bs g)), (4, .int (nI x))]) hx hb dX1_pair_110 hl (k := 4) rfl (nI_1 k) (by decide) rfl (fun ls hl => ?_)
              refine lv_goto (tgt := 41) hx hb dX1_pair_113 (by decide) ?_
              exact ih (k + 1) _ (by omega) e2 e3 _ _ hw ls (lv_sub hl [1, 2, 3, 4, 0] rfl)
            · skip
              have h3 : x < T (bd_msk (be_wo g k)) + 1 := Nat.not_le.mp (fun z => c_5 ((nI_leI (by omega) (by omega)).mpr z))
              rw [if_pos ⟨h1, h2, h3⟩] at e3
              have e2 : T (bd_msk (be_wo g k)) + 1 ≤ B + 1 := by omega
              refine lv_aload_n hx hb dX1_pair_93 rfl (lv_at hl 0 rfl) ?_
              refine be_getT C hw dX1_pair_94 ?_
              refine lv_iload_n hx hb dX1_pair_97 rfl (lv_at hl 2 rfl) ?_
              refine lv_iconst (v := nI 1) hx hb dX1_pair_98 (by decide) ?_
              refine lv_iload hx hb dX1_pair_99 (lv_at hl 4 rfl) ?_
              refine lv_ishl hx hb dX1_pair_101 ?_
              refine bd_top (y := bd_bs (fun v => decide (v = k))) (bd_one (by omega)) ?_
              refine lv_iconst (v := -1) hx hb dX1_pair_102 (by decide) ?_
              refine lv_ixor hx hb dX1_pair_103 ?_
              refine lv_iand hx hb dX1_pair_104 ?_
              refine bd_top (y := nI (bd_msk (be_wo g k))) (bd_andn g (fun v => decide (v = k))) ?_
              refine be_ldT C hw (k := (bd_msk (be_wo g k))) (bd_msk_lt _) dX1_pair_105 ?_
              refine lv_iconst (v := nI 1) hx hb dX1_pair_106 (by decide) ?_
              refine lv_iadd hx hb dX1_pair_107 ?_
              refine bd_top (y := nI (T (bd_msk (be_wo g k)) + 1)) (nI_add _ 1) ?_
              refine lv_istore (lv' := [(4, .int (nI (T (bd_msk (be_wo g k)) + 1))), (0, .ref (h 0)), (2, .int (nI lo)), (3, .int (bd_bs g)), (5, .int (nI k))]) hx hb dX1_pair_108 hl (by decide) rfl (fun ls hl => ?_)
              refine lv_iinc (v := nI (k + 1)) (lv' := [(5, .int (nI (k + 1))), (4, .int (nI (T (bd_msk (be_wo g k)) + 1))), (0, .ref (h 0)), (2, .int (nI lo)), (3, .int (bd_bs g))]) hx hb dX1_pair_110 hl (k := 4) rfl (nI_1 k) (by decide) rfl (fun ls hl => ?_)
              refine lv_goto (tgt := 41) hx hb dX1_pair_113 (by decide) ?_
              exact ih (k + 1) _ (by omega) e2 e3 _ _ hw ls (lv_sub hl [2, 3, 4, 1, 0] rfl)
  have lp1 : ∀ (n : Nat) (k : Nat), k + n = 10 → be_lo f n k = lo → ∀ (H : Heap) (locs : List Loc), be_at D h d A s.heap H locs (L, T) → ∀ ls : Array Slot, lv_has ls 6 [(0, .ref (h 0)), (1, .int (bd_bs f)), (2, .int (nI k))] → W p l e { frames := 0, cells := 0, slots := 0, locals := 0 } s m (([.ref (h 0), .int (bd_bs f)] : List Value).toArray) below meth c0 H locs 0 0 (MQ below (be_Qi D h d (nI R) (L, T) A) (([.ref (h 0), .int (bd_bs f)] : List Value).toArray) s 0 0 A) (F0 m 2 ls []) := by
    intro n
    induction n with
    | zero =>
      intro k e1 e2 H locs hw ls hl
      have e2 : k = lo := e2
      omega
    | succ n ih =>
      intro k e1 e2 H locs hw ls hl
      unfold be_lo at e2
      refine lv_iload_n hx hb dX1_pair_2 rfl (lv_at hl 2 rfl) ?_
      refine lv_bipush (v := nI 10) hx hb dX1_pair_3 (by decide) ?_
      refine lv_icmp_ge (tgt := 22) hx hb dX1_pair_5 (by decide) (fun c_6 => ?_) (fun c_6 => ?_)
      · skip
        have := (bd_leN (N := 10) (by omega) (by omega)).mp c_6
        omega
      · skip
        refine lv_iload_n hx hb dX1_pair_8 rfl (lv_at hl 1 rfl) ?_
        refine lv_iload_n hx hb dX1_pair_9 rfl (lv_at hl 2 rfl) ?_
        refine lv_ishr hx hb dX1_pair_10 ?_
        refine lv_iconst (v := nI 1) hx hb dX1_pair_11 (by decide) ?_
        refine lv_iand hx hb dX1_pair_12 ?_
        refine bd_top (y := bd_bz (f k)) (bd_bit2 f (by omega)) ?_
        refine lv_if_ne (tgt := 22) hx hb dX1_pair_13 (by decide) (fun c_7 => ?_) (fun c_7 => ?_)
        · skip
          have h1 : f k = true := bd_bz1.mp c_7
          rw [if_pos h1] at e2
          rw [e2] at hl
          refine lv_iload_n hx hb dX1_pair_22 rfl (lv_at hl 1 rfl) ?_
          refine lv_iconst (v := nI 1) hx hb dX1_pair_23 (by decide) ?_
          refine lv_iload_n hx hb dX1_pair_24 rfl (lv_at hl 2 rfl) ?_
          refine lv_ishl hx hb dX1_pair_25 ?_
          refine bd_top (y := bd_bs (fun v => decide (v = lo))) (bd_one hlt) ?_
          refine lv_iconst (v := -1) hx hb dX1_pair_26 (by decide) ?_
          refine lv_ixor hx hb dX1_pair_27 ?_
          refine lv_iand hx hb dX1_pair_28 ?_
          refine bd_top (y := bd_bs g) (by rw [← hg]; exact bd_andn f (fun v => decide (v = lo))) ?_
          refine lv_istore_n (lv' := [(3, .int (bd_bs g)), (0, .ref (h 0)), (1, .int (bd_bs f)), (2, .int (nI lo))]) hx hb dX1_pair_29 rfl hl (by decide) rfl (fun ls hl => ?_)
          refine lv_aload_n hx hb dX1_pair_30 rfl (lv_at hl 1 rfl) ?_
          refine be_getT C hw dX1_pair_31 ?_
          refine lv_iload_n hx hb dX1_pair_34 rfl (lv_at hl 0 rfl) ?_
          refine bd_top (y := nI (bd_msk g)) rfl ?_
          refine be_ldT C hw (k := (bd_msk g)) (bd_msk_lt _) dX1_pair_35 ?_
          refine lv_istore (lv' := [(4, .int (nI (T (bd_msk g)))), (3, .int (bd_bs g)), (0, .ref (h 0)), (1, .int (bd_bs f)), (2, .int (nI lo))]) hx hb dX1_pair_36 hl (by decide) rfl (fun ls hl => ?_)
          refine lv_iconst (v := nI 0) hx hb dX1_pair_38 (by decide) ?_
          refine lv_istore (lv' := [(5, .int (nI 0)), (4, .int (nI (T (bd_msk g)))), (3, .int (bd_bs g)), (0, .ref (h 0)), (1, .int (bd_bs f)), (2, .int (nI lo))]) hx hb dX1_pair_39 hl (by decide) rfl (fun ls hl => ?_)
          exact lp2 10 0 _ rfl (by have := hT (bd_msk g); omega) hR _ _ hw ls (lv_sub hl [3, 5, 2, 1, 0] rfl)
        · skip
          have h1 : ¬ f k = true := fun z => absurd (z.symm.trans (bd_bz0.mp c_7)) (by decide)
          rw [if_neg h1] at e2
          refine lv_iinc (v := nI (k + 1)) (lv' := [(2, .int (nI (k + 1))), (0, .ref (h 0)), (1, .int (bd_bs f))]) hx hb dX1_pair_16 hl (k := 2) rfl (nI_1 k) (by decide) rfl (fun ls hl => ?_)
          refine lv_goto (tgt := 2) hx hb dX1_pair_19 (by decide) ?_
          exact ih (k + 1) (by omega) e2 _ _ hw ls (lv_sub hl [1, 2, 0] rfl)
  refine lv_iconst (v := nI 0) hx hb dX1_pair_0 (by decide) ?_
  refine lv_istore_n (lv' := [(2, .int (nI 0)), (0, .ref (h 0)), (1, .int (bd_bs f))]) hx hb dX1_pair_1 rfl hl (by decide) rfl (fun ls hl => ?_)
  exact lp1 10 0 rfl hlo _ _ hw ls (lv_sub hl [1, 2, 0] rfl)
set_option maxHeartbeats 4000000 in
set_option maxRecDepth 100000 in
/-- work() -/
theorem be_m_work (l : Launch) (D : va_G) (h : Nat → Nat) (d : Nat → ClassId) (sz : Nat) (L : Nat → Bool) (T : Nat → Nat) (B : Nat) (hT : ∀ x, T x ≤ B) (hB : B ≤ 90000) : be_MV l yX1_work cX1_work 2 1 25 D h d sz [] (L, T) (L, be_work L T) := by
  refine be_ofW (Qc := be_Qv D h d (L, be_work L T)) (by decide) rfl (Nat.le_of_ble_eq_true rfl) ?_
  intro p e s m below meth c0 A C hr hk hA hw ls hl
  have hx := C.1.1
  have hb := C.1.2.1
  have hl : lv_has ls 2 [(0, .ref (h 0))] := hl
  generalize hX : be_work L T = X
  have lp : ∀ (n : Nat) (k : Nat) (T1 : Nat → Nat), k + n = 1024 → 1 ≤ k → (∀ x, T1 x ≤ B + k) → be_wk L n k T1 = X → ∀ (H : Heap) (locs : List Loc), be_at D h d A s.heap H locs (L, T1) → ∀ ls : Array Slot, lv_has ls 2 [(0, .ref (h 0)), (1, .int (nI k))] → W p l e { frames := 1, cells := 0, slots := 0, locals := 25 } s m (([.ref (h 0)] : List Value).toArray) below meth c0 H locs 0 0 (MQ below (be_Qv D h d (L, X) A) (([.ref (h 0)] : List Value).toArray) s 0 0 A) (F0 m 2 ls []) := by
    intro n
    induction n with
    | zero =>
      intro k T1 e1 e2 e3 e4 H locs hw ls hl
      refine lv_iload_n hx hb dX1_work_2 rfl (lv_at hl 1 rfl) ?_
      refine lv_sipush (v := nI 1024) hx hb dX1_work_3 (by decide) ?_
      refine lv_icmp_ge (tgt := 26) hx hb dX1_work_6 (by decide) (fun c_1 => ?_) (fun c_1 => ?_)
      · skip
        have e4 : T1 = X := e4
        subst e4
        exact be_vret C hr hk hw dX1_work_26
      · skip
        exact absurd ((bd_leN (N := 1024) (by omega) (by omega)).mpr (by omega)) c_1
    | succ n ih =>
      intro k T1 e1 e2 e3 e4 H locs hw ls hl
      unfold be_wk at e4
      refine lv_iload_n hx hb dX1_work_2 rfl (lv_at hl 1 rfl) ?_
      refine lv_sipush (v := nI 1024) hx hb dX1_work_3 (by decide) ?_
      refine lv_icmp_ge (tgt := 26) hx hb dX1_work_6 (by decide) (fun c_2 => ?_) (fun c_2 => ?_)
      · skip
        have := (bd_leN (N := 1024) (by omega) (by omega)).mp c_2
        omega
      · skip
        refine lv_aload_n hx hb dX1_work_9 rfl (lv_at hl 0 rfl) ?_
        refine be_getT C hw dX1_work_10 ?_
        refine lv_iload_n hx hb dX1_work_13 rfl (lv_at hl 1 rfl) ?_
        refine lv_aload_n hx hb dX1_work_14 rfl (lv_at hl 0 rfl) ?_
        refine lv_iload_n hx hb dX1_work_15 rfl (lv_at hl 1 rfl) ?_
        refine bd_top (y := bd_bs (fun v => k.testBit v)) (bd_nI_bs (by omega)) ?_
        refine be_calli C hw hA (be_m_pair l D h d _ _ _ (fun v => k.testBit v) (be_lo (fun v => k.testBit v) 10 0) (be_pair L T1 (fun v => k.testBit v)) (B + k) rfl (be_lo_lt k (by omega) (by omega)) rfl e3 (by omega)) (cwV 1 C.1.2.2.2.2 (lw_V q183 q185 qs13 q16 q186) rfl rfl rfl (by decide +kernel) ⟨Nat.le_of_ble_eq_true rfl, Nat.le_of_ble_eq_true rfl⟩) rfl hl.1 rfl (Nat.le_of_ble_eq_true rfl) dX1_work_16 ⟨Nat.zero_le _, Nat.zero_le _⟩ (fun H locs hw => ?_)
        refine be_stT C hw (k := k) (be_pair L T1 (fun v => k.testBit v)) (by omega) rfl dX1_work_19 (fun H locs hw => ?_)
        refine lv_iinc (v := nI (k + 1)) (lv' := [(1, .int (nI (k + 1))), (0, .ref (h 0))]) hx hb dX1_work_20 hl (k := 1) rfl (nI_1 k) (by decide) rfl (fun ls hl => ?_)
        refine lv_goto (tgt := 2) hx hb dX1_work_23 (by decide) ?_
        exact ih (k + 1) _ (by omega) (by omega) (fun x => be_up_le e3 x) e4 _ _ hw ls (lv_sub hl [1, 0] rfl)
  refine lv_iconst (v := nI 1) hx hb dX1_work_0 (by decide) ?_
  refine lv_istore_n (lv' := [(1, .int (nI 1)), (0, .ref (h 0))]) hx hb dX1_work_1 rfl hl (by decide) rfl (fun ls hl => ?_)
  exact lp 1023 1 T rfl (by omega) (fun x => by have := hT x; omega) hX _ _ hw ls (lv_sub hl [1, 0] rfl)
end
section
/-! walks: the model, public methods (printed by gen/model2.py) -/
set_option maxRecDepth 100000
set_option maxHeartbeats 4000000 in
set_option maxRecDepth 100000 in
/-- most() -/
theorem be_m_most (l : Launch) (D : va_G) (h : Nat → Nat) (d : Nat → ClassId) (sz : Nat) (L : Nat → Bool) (T : Nat → Nat) (B : Nat) (hT : ∀ x, T x ≤ B) (hB : B ≤ 10000) : be_MI l yX1_most cX1_most 1 (some .int) 2 46 D h d sz [] (L, T) (nI (be_work L T 1023)) (L, be_work L T) := by
  refine be_ofW (Qc := be_Qi D h d (nI (be_work L T 1023)) (L, be_work L T)) (by decide) rfl (Nat.le_of_ble_eq_true rfl) ?_
  intro p e s m below meth c0 A C hr hk hA hw ls hl
  have hx := C.1.1
  have hb := C.1.2.1
  have hl : lv_has ls 1 [(0, .ref (h 0))] := hl
  refine lv_aload_n hx hb dX1_most_0 rfl (lv_at hl 0 rfl) ?_
  refine be_callv C hw hA (be_m_work l D h d _ _ _ B hT (by omega)) (cwV 0 C.1.2.2.2.2 (lw_V q179 q181 qs12 q16 q182) rfl rfl rfl (by decide +kernel) ⟨Nat.le_of_ble_eq_true rfl, Nat.le_of_ble_eq_true rfl⟩) rfl hl.1 rfl (Nat.le_of_ble_eq_true rfl) dX1_most_1 ⟨Nat.zero_le _, Nat.zero_le _⟩ (fun H locs hw => ?_)
  refine lv_aload_n hx hb dX1_most_4 rfl (lv_at hl 0 rfl) ?_
  refine be_getT C hw dX1_most_5 ?_
  refine lv_sipush (v := nI 1023) hx hb dX1_most_8 (by decide) ?_
  refine be_ldT C hw (k := 1023) (by decide) dX1_most_11 ?_
  exact be_iret C hr hk hw dX1_most_12
set_option maxHeartbeats 4000000 in
set_option maxRecDepth 100000 in
/-- mostWithout(x) -/
theorem be_m_mostWithout (l : Launch) (D : va_G) (h : Nat → Nat) (d : Nat → ClassId) (sz : Nat) (L : Nat → Bool) (T : Nat → Nat) (x : Int32) (B : Nat) (hT : ∀ x, T x ≤ B) (hB : B ≤ 10000) : be_MI l yX1_mostWithout cX1_mostWithout 2 (some .int) 2 46 D h d sz [.int x] (L, T) (nI (be_work L T (bd_msk (fun v => !bt x v)))) (L, be_work L T) := by
  refine be_ofW (Qc := be_Qi D h d (nI (be_work L T (bd_msk (fun v => !bt x v)))) (L, be_work L T)) (by decide) rfl (Nat.le_of_ble_eq_true rfl) ?_
  intro p e s m below meth c0 A C hr hk hA hw ls hl
  have hx := C.1.1
  have hb := C.1.2.1
  have hl : lv_has ls 2 [(0, .ref (h 0)), (1, .int x)] := hl
  refine lv_aload_n hx hb dX1_mostWithout_0 rfl (lv_at hl 0 rfl) ?_
  refine be_callv C hw hA (be_m_work l D h d _ _ _ B hT (by omega)) (cwV 0 C.1.2.2.2.2 (lw_V q179 q181 qs12 q16 q182) rfl rfl rfl (by decide +kernel) ⟨Nat.le_of_ble_eq_true rfl, Nat.le_of_ble_eq_true rfl⟩) rfl hl.1 rfl (Nat.le_of_ble_eq_true rfl) dX1_mostWithout_1 ⟨Nat.zero_le _, Nat.zero_le _⟩ (fun H locs hw => ?_)
  refine lv_aload_n hx hb dX1_mostWithout_4 rfl (lv_at hl 0 rfl) ?_
  refine be_getT C hw dX1_mostWithout_5 ?_
  refine lv_sipush (v := nI 1023) hx hb dX1_mostWithout_8 (by decide) ?_
  refine lv_iload_n hx hb dX1_mostWithout_11 rfl (lv_at hl 1 rfl) ?_
  refine lv_iconst (v := -1) hx hb dX1_mostWithout_12 (by decide) ?_
  refine lv_ixor hx hb dX1_mostWithout_13 ?_
  refine lv_iand hx hb dX1_mostWithout_14 ?_
  refine bd_top (y := nI (bd_msk (fun v => !bt x v))) (bd_lown x) ?_
  refine be_ldT C hw (k := (bd_msk (fun v => !bt x v))) (bd_msk_lt _) dX1_mostWithout_15 ?_
  exact be_iret C hr hk hw dX1_mostWithout_16
set_option maxHeartbeats 4000000 in
set_option maxRecDepth 100000 in
/-- spare(x), refused -/
theorem be_m_spare_bad (l : Launch) (D : va_G) (h : Nat → Nat) (d : Nat → ClassId) (sz : Nat) (L : Nat → Bool) (T : Nat → Nat) (x : Int32) (hp : x < 0 ∨ nI 9 < x) : be_MI l yX1_spare cX1_spare 2 (some .int) 2 46 D h d sz [.int x] (L, T) (bd_enc 10) (L, T) := by
  refine be_ofW (Qc := be_Qi D h d (bd_enc 10) (L, T)) (by decide) rfl (Nat.le_of_ble_eq_true rfl) ?_
  intro p e s m below meth c0 A C hr hk hA hw ls hl
  have hx := C.1.1
  have hb := C.1.2.1
  have hl : lv_has ls 2 [(0, .ref (h 0)), (1, .int x)] := hl
  have hp : be_bad x = true := decide_eq_true hp
  refine lv_iload_n hx hb dX1_spare_0 rfl (lv_at hl 1 rfl) ?_
  refine bd_calls C.1 hw.2.2 (be_m_bad l x) (va_cwS 1 C.1.2.2.2.2 (lw_S q164 q165 q16 q166) rfl rfl rfl (by decide +kernel) ⟨Nat.le_of_ble_eq_true rfl, Nat.le_of_ble_eq_true rfl⟩) rfl hl.1 rfl (Nat.le_of_ble_eq_true rfl) dX1_spare_1 ⟨Nat.zero_le _, Nat.zero_le _⟩ (fun H1 locs1 hkp hS1 => ?_)
  have hw := be_at_kept hw hkp hS1
  generalize H1 = H at hw ⊢
  generalize locs1 = locs at hw ⊢
  refine lv_if_eq (tgt := 9) hx hb dX1_spare_4 (by decide) (fun c_1 => ?_) (fun c_1 => ?_)
  · skip
    exact absurd (hp.symm.trans (bd_bz0.mp c_1)) (by decide)
  · skip
    refine lv_iconst (v := bd_enc 10) hx hb dX1_spare_7 (by decide) ?_
    exact be_iret C hr hk hw dX1_spare_8
set_option maxHeartbeats 4000000 in
set_option maxRecDepth 100000 in
/-- spare(a) -/
theorem be_m_spare (l : Launch) (D : va_G) (h : Nat → Nat) (d : Nat → ClassId) (sz : Nat) (L : Nat → Bool) (T : Nat → Nat) (a : Nat) (B : Nat) (ha : a < 10) (hT : ∀ x, T x ≤ B) (hB : B ≤ 10000) : be_MI l yX1_spare cX1_spare 2 (some .int) 2 46 D h d sz [.int (nI a)] (L, T) (bd_bz (decide (be_work L T (bd_msk (be_wo (fun _ => true) a)) = be_work L T 1023))) (L, be_work L T) := by
  refine be_ofW (Qc := be_Qi D h d (bd_bz (decide (be_work L T (bd_msk (be_wo (fun _ => true) a)) = be_work L T 1023))) (L, be_work L T)) (by decide) rfl (Nat.le_of_ble_eq_true rfl) ?_
  intro p e s m below meth c0 A C hr hk hA hw ls hl
  have hx := C.1.1
  have hb := C.1.2.1
  have hl : lv_has ls 2 [(0, .ref (h 0)), (1, .int (nI a))] := hl
  have hp : be_bad (nI a) = false := decide_eq_false (fun z => z.elim (nI_pos (by omega)) (fun z => by rw [nI_ltI (by omega) (by omega)] at z; omega))
  have hw1 := be_work_le (L := L) hT 1023
  have hw2 := be_work_le (L := L) hT (bd_msk (be_wo (fun _ => true) a))
  refine lv_iload_n hx hb dX1_spare_0 rfl (lv_at hl 1 rfl) ?_
  refine bd_calls C.1 hw.2.2 (be_m_bad l (nI a)) (va_cwS 1 C.1.2.2.2.2 (lw_S q164 q165 q16 q166) rfl rfl rfl (by decide +kernel) ⟨Nat.le_of_ble_eq_true rfl, Nat.le_of_ble_eq_true rfl⟩) rfl hl.1 rfl (Nat.le_of_ble_eq_true rfl) dX1_spare_1 ⟨Nat.zero_le _, Nat.zero_le _⟩ (fun H1 locs1 hkp hS1 => ?_)
  have hw := be_at_kept hw hkp hS1
  generalize H1 = H at hw ⊢
  generalize locs1 = locs at hw ⊢
  refine lv_if_eq (tgt := 9) hx hb dX1_spare_4 (by decide) (fun c_1 => ?_) (fun c_1 => ?_)
  · skip
    refine lv_aload_n hx hb dX1_spare_9 rfl (lv_at hl 0 rfl) ?_
    refine be_callv C hw hA (be_m_work l D h d _ _ _ B hT (by omega)) (cwV 0 C.1.2.2.2.2 (lw_V q179 q181 qs12 q16 q182) rfl rfl rfl (by decide +kernel) ⟨Nat.le_of_ble_eq_true rfl, Nat.le_of_ble_eq_true rfl⟩) rfl hl.1 rfl (Nat.le_of_ble_eq_true rfl) dX1_spare_10 ⟨Nat.zero_le _, Nat.zero_le _⟩ (fun H locs hw => ?_)
    refine lv_aload_n hx hb dX1_spare_13 rfl (lv_at hl 0 rfl) ?_
    refine be_getT C hw dX1_spare_14 ?_
    refine lv_sipush (v := bd_bs (fun _ => true)) hx hb dX1_spare_17 (by decide +kernel) ?_
    refine lv_iconst (v := nI 1) hx hb dX1_spare_20 (by decide) ?_
    refine lv_iload_n hx hb dX1_spare_21 rfl (lv_at hl 1 rfl) ?_
    refine lv_ishl hx hb dX1_spare_22 ?_
    refine bd_top (y := bd_bs (fun v => decide (v = a))) (bd_one ha) ?_
    refine lv_iconst (v := -1) hx hb dX1_spare_23 (by decide) ?_
    refine lv_ixor hx hb dX1_spare_24 ?_
    refine lv_iand hx hb dX1_spare_25 ?_
    refine bd_top (y := nI (bd_msk (be_wo (fun _ => true) a))) (bd_andn (fun _ => true) (fun v => decide (v = a))) ?_
    refine be_ldT C hw (k := (bd_msk (be_wo (fun _ => true) a))) (bd_msk_lt _) dX1_spare_26 ?_
    refine lv_aload_n hx hb dX1_spare_27 rfl (lv_at hl 0 rfl) ?_
    refine be_getT C hw dX1_spare_28 ?_
    refine lv_sipush (v := nI 1023) hx hb dX1_spare_31 (by decide) ?_
    refine be_ldT C hw (k := 1023) (by decide) dX1_spare_34 ?_
    refine lv_icmp_ne (tgt := 42) hx hb dX1_spare_35 (by decide) (fun c_2 => ?_) (fun c_2 => ?_)
    · skip
      have h1 : decide (be_work L T (bd_msk (be_wo (fun _ => true) a)) = be_work L T 1023) = false := decide_eq_false (fun z => c_2 (by rw [z]))
      refine lv_iconst (v := bd_bz (decide (be_work L T (bd_msk (be_wo (fun _ => true) a)) = be_work L T 1023))) hx hb dX1_spare_42 (by rw [h1]; decide) ?_
      exact be_iret C hr hk hw dX1_spare_43
    · skip
      have h1 : decide (be_work L T (bd_msk (be_wo (fun _ => true) a)) = be_work L T 1023) = true := decide_eq_true ((nI_eq (by omega) (by omega)).mp c_2)
      refine lv_iconst (v := bd_bz (decide (be_work L T (bd_msk (be_wo (fun _ => true) a)) = be_work L T 1023))) hx hb dX1_spare_38 (by rw [h1]; decide) ?_
      refine lv_goto (tgt := 43) hx hb dX1_spare_39 (by decide) ?_
      exact be_iret C hr hk hw dX1_spare_43
  · skip
    exact absurd hp (by rw [bd_bz1.mp c_1]; decide)
set_option maxHeartbeats 4000000 in
set_option maxRecDepth 100000 in
/-- usable(x, y), refused -/
theorem be_m_usable_bad (l : Launch) (D : va_G) (h : Nat → Nat) (d : Nat → ClassId) (sz : Nat) (L : Nat → Bool) (T : Nat → Nat) (x y : Int32) (hp : bd_pair x y = false) : be_MI l yX1_usable cX1_usable 3 (some .int) 2 46 D h d sz [.int x, .int y] (L, T) (bd_enc 10) (L, T) := by
  refine be_ofW (Qc := be_Qi D h d (bd_enc 10) (L, T)) (by decide) rfl (Nat.le_of_ble_eq_true rfl) ?_
  intro p e s m below meth c0 A C hr hk hA hw ls hl
  have hx := C.1.1
  have hb := C.1.2.1
  have hl : lv_has ls 3 [(0, .ref (h 0)), (1, .int x), (2, .int y)] := hl
  have hp : be_ref x y = true := by rw [be_ref_pair, hp]; rfl
  refine lv_iload_n hx hb dX1_usable_0 rfl (lv_at hl 1 rfl) ?_
  refine lv_iload_n hx hb dX1_usable_1 rfl (lv_at hl 2 rfl) ?_
  refine bd_calls C.1 hw.2.2 (be_m_refused l x y) (va_cwS 2 C.1.2.2.2.2 (lw_S q161 q162 q16 q163) rfl rfl rfl (by decide +kernel) ⟨Nat.le_of_ble_eq_true rfl, Nat.le_of_ble_eq_true rfl⟩) rfl hl.1 rfl (Nat.le_of_ble_eq_true rfl) dX1_usable_2 ⟨Nat.zero_le _, Nat.zero_le _⟩ (fun H1 locs1 hkp hS1 => ?_)
  have hw := be_at_kept hw hkp hS1
  generalize H1 = H at hw ⊢
  generalize locs1 = locs at hw ⊢
  refine lv_if_eq (tgt := 10) hx hb dX1_usable_5 (by decide) (fun c_1 => ?_) (fun c_1 => ?_)
  · skip
    exact absurd (hp.symm.trans (bd_bz0.mp c_1)) (by decide)
  · skip
    refine lv_iconst (v := bd_enc 10) hx hb dX1_usable_8 (by decide) ?_
    exact be_iret C hr hk hw dX1_usable_9
set_option maxHeartbeats 4000000 in
set_option maxRecDepth 100000 in
/-- needed(x, y), refused -/
theorem be_m_needed_bad (l : Launch) (D : va_G) (h : Nat → Nat) (d : Nat → ClassId) (sz : Nat) (L : Nat → Bool) (T : Nat → Nat) (x y : Int32) (hp : bd_pair x y = false) : be_MI l yX1_needed cX1_needed 6 (some .int) 3 66 D h d sz [.int x, .int y] (L, T) (bd_enc 10) (L, T) := by
  refine be_ofW (Qc := be_Qi D h d (bd_enc 10) (L, T)) (by decide) rfl (Nat.le_of_ble_eq_true rfl) ?_
  intro p e s m below meth c0 A C hr hk hA hw ls hl
  have hx := C.1.1
  have hb := C.1.2.1
  have hl : lv_has ls 6 [(0, .ref (h 0)), (1, .int x), (2, .int y)] := hl
  have hp : be_ref x y = true := by rw [be_ref_pair, hp]; rfl
  refine lv_iload_n hx hb dX1_needed_0 rfl (lv_at hl 1 rfl) ?_
  refine lv_iload_n hx hb dX1_needed_1 rfl (lv_at hl 2 rfl) ?_
  refine bd_calls C.1 hw.2.2 (be_m_refused l x y) (va_cwS 2 C.1.2.2.2.2 (lw_S q161 q162 q16 q163) rfl rfl rfl (by decide +kernel) ⟨Nat.le_of_ble_eq_true rfl, Nat.le_of_ble_eq_true rfl⟩) rfl hl.1 rfl (Nat.le_of_ble_eq_true rfl) dX1_needed_2 ⟨Nat.zero_le _, Nat.zero_le _⟩ (fun H1 locs1 hkp hS1 => ?_)
  have hw := be_at_kept hw hkp hS1
  generalize H1 = H at hw ⊢
  generalize locs1 = locs at hw ⊢
  refine lv_if_eq (tgt := 10) hx hb dX1_needed_5 (by decide) (fun c_1 => ?_) (fun c_1 => ?_)
  · skip
    exact absurd (hp.symm.trans (bd_bz0.mp c_1)) (by decide)
  · skip
    refine lv_iconst (v := bd_enc 10) hx hb dX1_needed_8 (by decide) ?_
    exact be_iret C hr hk hw dX1_needed_9
set_option maxHeartbeats 4000000 in
set_option maxRecDepth 100000 in
/-- usable(a, c) -/
theorem be_m_usable (l : Launch) (D : va_G) (h : Nat → Nat) (d : Nat → ClassId) (sz : Nat) (L : Nat → Bool) (T : Nat → Nat) (a c : Nat) (B : Nat) (ha : a < 10) (hc : c < 10) (hac : a ≠ c) (hT : ∀ x, T x ≤ B) (hB : B ≤ 10000) : be_MI l yX1_usable cX1_usable 3 (some .int) 2 46 D h d sz [.int (nI a), .int (nI c)] (L, T) (bd_bz (L (10 * a + c) && decide (be_work L T (bd_msk (fun v => true && !(decide (v = a) || decide (v = c)))) + 1 = be_work L T 1023))) (L, be_work L T) := by
  refine be_ofW (Qc := be_Qi D h d (bd_bz (L (10 * a + c) && decide (be_work L T (bd_msk (fun v => true && !(decide (v = a) || decide (v = c)))) + 1 = be_work L T 1023))) (L, be_work L T)) (by decide) rfl (Nat.le_of_ble_eq_true rfl) ?_
  intro p e s m below meth c0 A C hr hk hA hw ls hl
  have hx := C.1.1
  have hb := C.1.2.1
  have hl : lv_has ls 3 [(0, .ref (h 0)), (1, .int (nI a)), (2, .int (nI c))] := hl
  have hp : be_ref (nI a) (nI c) = false := by rw [be_ref_pair, bd_pair_nI ha hc hac]; rfl
  have hw1 := be_work_le (L := L) hT 1023
  have hw2 := be_work_le (L := L) hT (bd_msk (fun v => true && !(decide (v = a) || decide (v = c))))
  refine lv_iload_n hx hb dX1_usable_0 rfl (lv_at hl 1 rfl) ?_
  refine lv_iload_n hx hb dX1_usable_1 rfl (lv_at hl 2 rfl) ?_
  refine bd_calls C.1 hw.2.2 (be_m_refused l (nI a) (nI c)) (va_cwS 2 C.1.2.2.2.2 (lw_S q161 q162 q16 q163) rfl rfl rfl (by decide +kernel) ⟨Nat.le_of_ble_eq_true rfl, Nat.le_of_ble_eq_true rfl⟩) rfl hl.1 rfl (Nat.le_of_ble_eq_true rfl) dX1_usable_2 ⟨Nat.zero_le _, Nat.zero_le _⟩ (fun H1 locs1 hkp hS1 => ?_)
  have hw := be_at_kept hw hkp hS1
  generalize H1 = H at hw ⊢
  generalize locs1 = locs at hw ⊢
  refine lv_if_eq (tgt := 10) hx hb dX1_usable_5 (by decide) (fun c_1 => ?_) (fun c_1 => ?_)
  · skip
    refine lv_aload_n hx hb dX1_usable_10 rfl (lv_at hl 0 rfl) ?_
    refine be_callv C hw hA (be_m_work l D h d _ _ _ B hT (by omega)) (cwV 0 C.1.2.2.2.2 (lw_V q179 q181 qs12 q16 q182) rfl rfl rfl (by decide +kernel) ⟨Nat.le_of_ble_eq_true rfl, Nat.le_of_ble_eq_true rfl⟩) rfl hl.1 rfl (Nat.le_of_ble_eq_true rfl) dX1_usable_11 ⟨Nat.zero_le _, Nat.zero_le _⟩ (fun H locs hw => ?_)
    refine lv_aload_n hx hb dX1_usable_14 rfl (lv_at hl 0 rfl) ?_
    refine be_getL C hw dX1_usable_15 ?_
    refine lv_bipush (v := nI 10) hx hb dX1_usable_18 (by decide) ?_
    refine lv_iload_n hx hb dX1_usable_20 rfl (lv_at hl 1 rfl) ?_
    refine lv_imul hx hb dX1_usable_21 ?_
    refine bd_top (y := nI (10 * a)) (pk_mul 10 a) ?_
    refine lv_iload_n hx hb dX1_usable_22 rfl (lv_at hl 2 rfl) ?_
    refine lv_iadd hx hb dX1_usable_23 ?_
    refine bd_top (y := nI (10 * a + c)) (nI_add _ _) ?_
    refine be_ldL C hw (k := (10 * a + c)) (by omega) dX1_usable_24 ?_
    refine lv_if_eq (tgt := 63) hx hb dX1_usable_25 (by decide) (fun c_2 => ?_) (fun c_2 => ?_)
    · skip
      have h1 : (L (10 * a + c) && decide (be_work L T (bd_msk (fun v => true && !(decide (v = a) || decide (v = c)))) + 1 = be_work L T 1023)) = false := by rw [bd_bz0.mp c_2]; rfl
      refine lv_iconst (v := bd_bz (L (10 * a + c) && decide (be_work L T (bd_msk (fun v => true && !(decide (v = a) || decide (v = c)))) + 1 = be_work L T 1023))) hx hb dX1_usable_63 (by rw [h1]; decide) ?_
      exact be_iret C hr hk hw dX1_usable_64
    · skip
      have h2 : L (10 * a + c) = true := bd_bz1.mp c_2
      refine lv_aload_n hx hb dX1_usable_28 rfl (lv_at hl 0 rfl) ?_
      refine be_getT C hw dX1_usable_29 ?_
      refine lv_sipush (v := bd_bs (fun _ => true)) hx hb dX1_usable_32 (by decide +kernel) ?_
      refine lv_iconst (v := nI 1) hx hb dX1_usable_35 (by decide) ?_
      refine lv_iload_n hx hb dX1_usable_36 rfl (lv_at hl 1 rfl) ?_
      refine lv_ishl hx hb dX1_usable_37 ?_
      refine bd_top (y := bd_bs (fun v => decide (v = a))) (bd_one ha) ?_
      refine lv_iconst (v := nI 1) hx hb dX1_usable_38 (by decide) ?_
      refine lv_iload_n hx hb dX1_usable_39 rfl (lv_at hl 2 rfl) ?_
      refine lv_ishl hx hb dX1_usable_40 ?_
      refine bd_top (y := bd_bs (fun v => decide (v = c))) (bd_one hc) ?_
      refine lv_ior hx hb dX1_usable_41 ?_
      refine bd_top (y := bd_bs (fun v => decide (v = a) || decide (v = c))) (bd_or _ _) ?_
      refine lv_iconst (v := -1) hx hb dX1_usable_42 (by decide) ?_
      refine lv_ixor hx hb dX1_usable_43 ?_
      refine lv_iand hx hb dX1_usable_44 ?_
      refine bd_top (y := nI (bd_msk (fun v => true && !(decide (v = a) || decide (v = c))))) (bd_andn (fun _ => true) (fun v => decide (v = a) || decide (v = c))) ?_
      refine be_ldT C hw (k := (bd_msk (fun v => true && !(decide (v = a) || decide (v = c))))) (bd_msk_lt _) dX1_usable_45 ?_
      refine lv_iconst (v := nI 1) hx hb dX1_usable_46 (by decide) ?_
      refine lv_iadd hx hb dX1_usable_47 ?_
      refine bd_top (y := nI (be_work L T (bd_msk (fun v => true && !(decide (v = a) || decide (v = c)))) + 1)) (nI_add _ 1) ?_
      refine lv_aload_n hx hb dX1_usable_48 rfl (lv_at hl 0 rfl) ?_
      refine be_getT C hw dX1_usable_49 ?_
      refine lv_sipush (v := nI 1023) hx hb dX1_usable_52 (by decide) ?_
      refine be_ldT C hw (k := 1023) (by decide) dX1_usable_55 ?_
      refine lv_icmp_ne (tgt := 63) hx hb dX1_usable_56 (by decide) (fun c_3 => ?_) (fun c_3 => ?_)
      · skip
        have h1 : (L (10 * a + c) && decide (be_work L T (bd_msk (fun v => true && !(decide (v = a) || decide (v = c)))) + 1 = be_work L T 1023)) = false := by rw [h2, Bool.true_and]; exact decide_eq_false (fun z => c_3 (by rw [z]))
        refine lv_iconst (v := bd_bz (L (10 * a + c) && decide (be_work L T (bd_msk (fun v => true && !(decide (v = a) || decide (v = c)))) + 1 = be_work L T 1023))) hx hb dX1_usable_63 (by rw [h1]; decide) ?_
        exact be_iret C hr hk hw dX1_usable_64
      · skip
        have h1 : (L (10 * a + c) && decide (be_work L T (bd_msk (fun v => true && !(decide (v = a) || decide (v = c)))) + 1 = be_work L T 1023)) = true := by rw [h2, Bool.true_and]; exact decide_eq_true ((nI_eq (by omega) (by omega)).mp c_3)
        refine lv_iconst (v := bd_bz (L (10 * a + c) && decide (be_work L T (bd_msk (fun v => true && !(decide (v = a) || decide (v = c)))) + 1 = be_work L T 1023))) hx hb dX1_usable_59 (by rw [h1]; decide) ?_
        refine lv_goto (tgt := 64) hx hb dX1_usable_60 (by decide) ?_
        exact be_iret C hr hk hw dX1_usable_64
  · skip
    exact absurd hp (by rw [bd_bz1.mp c_1]; decide)
set_option maxHeartbeats 4000000 in
set_option maxRecDepth 100000 in
/-- needed(a, c) -/
theorem be_m_needed_t (l : Launch) (D : va_G) (h : Nat → Nat) (d : Nat → ClassId) (sz : Nat) (L : Nat → Bool) (T : Nat → Nat) (a c : Nat) (B : Nat) (ha : a < 10) (hc : c < 10) (hac : a ≠ c) (hj : L (10 * a + c) = true) (hT : ∀ x, T x ≤ B) (hB : B ≤ 8000) : be_MI l yX1_needed cX1_needed 6 (some .int) 3 66 D h d sz [.int (nI a), .int (nI c)] (L, T) (bd_bz (decide (be_work (be_set L a c false) (be_work L T) 1023 < be_work L T 1023))) (be_set (be_set L a c false) a c true, be_work (be_set L a c false) (be_work L T)) := by
  refine be_ofW (Qc := be_Qi D h d (bd_bz (decide (be_work (be_set L a c false) (be_work L T) 1023 < be_work L T 1023))) (be_set (be_set L a c false) a c true, be_work (be_set L a c false) (be_work L T))) (by decide) rfl (Nat.le_of_ble_eq_true rfl) ?_
  intro p e s m below meth c0 A C hr hk hA hw ls hl
  have hx := C.1.1
  have hb := C.1.2.1
  have hl : lv_has ls 6 [(0, .ref (h 0)), (1, .int (nI a)), (2, .int (nI c))] := hl
  have hp : be_ref (nI a) (nI c) = false := by rw [be_ref_pair, bd_pair_nI ha hc hac]; rfl
  have hT1 := be_work_le (L := L) hT
  have hw1 := hT1 1023
  have hw2 := be_work_le (L := be_set L a c false) hT1 1023
  refine lv_iload_n hx hb dX1_needed_0 rfl (lv_at hl 1 rfl) ?_
  refine lv_iload_n hx hb dX1_needed_1 rfl (lv_at hl 2 rfl) ?_
  refine bd_calls C.1 hw.2.2 (be_m_refused l (nI a) (nI c)) (va_cwS 2 C.1.2.2.2.2 (lw_S q161 q162 q16 q163) rfl rfl rfl (by decide +kernel) ⟨Nat.le_of_ble_eq_true rfl, Nat.le_of_ble_eq_true rfl⟩) rfl hl.1 rfl (Nat.le_of_ble_eq_true rfl) dX1_needed_2 ⟨Nat.zero_le _, Nat.zero_le _⟩ (fun H1 locs1 hkp hS1 => ?_)
  have hw := be_at_kept hw hkp hS1
  generalize H1 = H at hw ⊢
  generalize locs1 = locs at hw ⊢
  refine lv_if_eq (tgt := 10) hx hb dX1_needed_5 (by decide) (fun c_1 => ?_) (fun c_1 => ?_)
  · skip
    refine lv_aload_n hx hb dX1_needed_10 rfl (lv_at hl 0 rfl) ?_
    refine be_calli C hw hA (be_m_most l D h d _ _ _ B hT (by omega)) (cwV 0 C.1.2.2.2.2 (lw_V q199 q176 q177 q16 q178) rfl rfl rfl (by decide +kernel) ⟨Nat.le_of_ble_eq_true rfl, Nat.le_of_ble_eq_true rfl⟩) rfl hl.1 rfl (Nat.le_of_ble_eq_true rfl) dX1_needed_11 ⟨Nat.zero_le _, Nat.zero_le _⟩ (fun H locs hw => ?_)
    refine lv_istore_n (lv' := [(3, .int (nI (be_work L T 1023))), (0, .ref (h 0)), (1, .int (nI a)), (2, .int (nI c))]) hx hb dX1_needed_14 rfl hl (by decide) rfl (fun ls hl => ?_)
    refine lv_aload_n hx hb dX1_needed_15 rfl (lv_at hl 1 rfl) ?_
    refine lv_iload_n hx hb dX1_needed_16 rfl (lv_at hl 2 rfl) ?_
    refine lv_iload_n hx hb dX1_needed_17 rfl (lv_at hl 3 rfl) ?_
    refine lv_iconst (v := bd_bz false) hx hb dX1_needed_18 (by decide) ?_
    refine be_calli C hw hA (be_m_set l D h d _ _ _ a c false ha hc) (cwV 3 C.1.2.2.2.2 (lw_V q167 q169 qs11 q16 q170) rfl rfl rfl (by decide +kernel) ⟨Nat.le_of_ble_eq_true rfl, Nat.le_of_ble_eq_true rfl⟩) rfl hl.1 rfl (Nat.le_of_ble_eq_true rfl) dX1_needed_19 ⟨Nat.zero_le _, Nat.zero_le _⟩ (fun H locs hw => ?_)
    refine bd_top (y := nI 1) (by rw [hj]; rfl) ?_
    refine lv_istore (lv' := [(4, .int (nI 1)), (3, .int (nI (be_work L T 1023))), (0, .ref (h 0)), (1, .int (nI a)), (2, .int (nI c))]) hx hb dX1_needed_22 hl (by decide) rfl (fun ls hl => ?_)
    refine lv_aload_n hx hb dX1_needed_24 rfl (lv_at hl 2 rfl) ?_
    refine be_calli C hw hA (be_m_most l D h d _ _ _ (B + 1023) hT1 (by omega)) (cwV 0 C.1.2.2.2.2 (lw_V q199 q176 q177 q16 q178) rfl rfl rfl (by decide +kernel) ⟨Nat.le_of_ble_eq_true rfl, Nat.le_of_ble_eq_true rfl⟩) rfl hl.1 rfl (Nat.le_of_ble_eq_true rfl) dX1_needed_25 ⟨Nat.zero_le _, Nat.zero_le _⟩ (fun H locs hw => ?_)
    refine lv_istore (lv' := [(5, .int (nI (be_work (be_set L a c false) (be_work L T) 1023))), (4, .int (nI 1)), (3, .int (nI (be_work L T 1023))), (0, .ref (h 0)), (1, .int (nI a)), (2, .int (nI c))]) hx hb dX1_needed_28 hl (by decide) rfl (fun ls hl => ?_)
    refine lv_iload hx hb dX1_needed_30 (lv_at hl 1 rfl) ?_
    refine lv_iconst (v := nI 1) hx hb dX1_needed_32 (by decide) ?_
    refine lv_icmp_ne (tgt := 44) hx hb dX1_needed_33 (by decide) (fun c_2 => ?_) (fun c_2 => ?_)
    · skip
      exact absurd rfl c_2
    · skip
      refine lv_aload_n hx hb dX1_needed_36 rfl (lv_at hl 3 rfl) ?_
      refine lv_iload_n hx hb dX1_needed_37 rfl (lv_at hl 4 rfl) ?_
      refine lv_iload_n hx hb dX1_needed_38 rfl (lv_at hl 5 rfl) ?_
      refine lv_iconst (v := bd_bz true) hx hb dX1_needed_39 (by decide) ?_
      refine be_calli C hw hA (be_m_set l D h d _ _ _ a c true ha hc) (cwV 3 C.1.2.2.2.2 (lw_V q167 q169 qs11 q16 q170) rfl rfl rfl (by decide +kernel) ⟨Nat.le_of_ble_eq_true rfl, Nat.le_of_ble_eq_true rfl⟩) rfl hl.1 rfl (Nat.le_of_ble_eq_true rfl) dX1_needed_40 ⟨Nat.zero_le _, Nat.zero_le _⟩ (fun H locs hw => ?_)
      refine lv_pop hx hb dX1_needed_43 rfl ?_
      refine lv_iload hx hb dX1_needed_44 (lv_at hl 0 rfl) ?_
      refine lv_iload_n hx hb dX1_needed_46 rfl (lv_at hl 2 rfl) ?_
      refine lv_icmp_ge (tgt := 54) hx hb dX1_needed_47 (by decide) (fun c_3 => ?_) (fun c_3 => ?_)
      · skip
        have h1 : decide (be_work (be_set L a c false) (be_work L T) 1023 < be_work L T 1023) = false := decide_eq_false (Nat.not_lt.mpr ((nI_leI (by omega) (by omega)).mp c_3))
        refine lv_iconst (v := bd_bz (decide (be_work (be_set L a c false) (be_work L T) 1023 < be_work L T 1023))) hx hb dX1_needed_54 (by rw [h1]; decide) ?_
        exact be_iret C hr hk hw dX1_needed_55
      · skip
        have h1 : decide (be_work (be_set L a c false) (be_work L T) 1023 < be_work L T 1023) = true := decide_eq_true (Nat.not_le.mp (fun z => c_3 ((nI_leI (by omega) (by omega)).mpr z)))
        refine lv_iconst (v := bd_bz (decide (be_work (be_set L a c false) (be_work L T) 1023 < be_work L T 1023))) hx hb dX1_needed_50 (by rw [h1]; decide) ?_
        refine lv_goto (tgt := 55) hx hb dX1_needed_51 (by decide) ?_
        exact be_iret C hr hk hw dX1_needed_55
  · skip
    exact absurd hp (by rw [bd_bz1.mp c_1]; decide)
set_option maxHeartbeats 4000000 in
set_option maxRecDepth 100000 in
/-- needed(a, c) -/
theorem be_m_needed_f (l : Launch) (D : va_G) (h : Nat → Nat) (d : Nat → ClassId) (sz : Nat) (L : Nat → Bool) (T : Nat → Nat) (a c : Nat) (B : Nat) (ha : a < 10) (hc : c < 10) (hac : a ≠ c) (hj : L (10 * a + c) = false) (hT : ∀ x, T x ≤ B) (hB : B ≤ 8000) : be_MI l yX1_needed cX1_needed 6 (some .int) 3 66 D h d sz [.int (nI a), .int (nI c)] (L, T) (bd_bz (decide (be_work (be_set L a c false) (be_work L T) 1023 < be_work L T 1023))) (be_set L a c false, be_work (be_set L a c false) (be_work L T)) := by
  refine be_ofW (Qc := be_Qi D h d (bd_bz (decide (be_work (be_set L a c false) (be_work L T) 1023 < be_work L T 1023))) (be_set L a c false, be_work (be_set L a c false) (be_work L T))) (by decide) rfl (Nat.le_of_ble_eq_true rfl) ?_
  intro p e s m below meth c0 A C hr hk hA hw ls hl
  have hx := C.1.1
  have hb := C.1.2.1
  have hl : lv_has ls 6 [(0, .ref (h 0)), (1, .int (nI a)), (2, .int (nI c))] := hl
  have hp : be_ref (nI a) (nI c) = false := by rw [be_ref_pair, bd_pair_nI ha hc hac]; rfl
  have hT1 := be_work_le (L := L) hT
  have hw1 := hT1 1023
  have hw2 := be_work_le (L := be_set L a c false) hT1 1023
  refine lv_iload_n hx hb dX1_needed_0 rfl (lv_at hl 1 rfl) ?_
  refine lv_iload_n hx hb dX1_needed_1 rfl (lv_at hl 2 rfl) ?_
  refine bd_calls C.1 hw.2.2 (be_m_refused l (nI a) (nI c)) (va_cwS 2 C.1.2.2.2.2 (lw_S q161 q162 q16 q163) rfl rfl rfl (by decide +kernel) ⟨Nat.le_of_ble_eq_true rfl, Nat.le_of_ble_eq_true rfl⟩) rfl hl.1 rfl (Nat.le_of_ble_eq_true rfl) dX1_needed_2 ⟨Nat.zero_le _, Nat.zero_le _⟩ (fun H1 locs1 hkp hS1 => ?_)
  have hw := be_at_kept hw hkp hS1
  generalize H1 = H at hw ⊢
  generalize locs1 = locs at hw ⊢
  refine lv_if_eq (tgt := 10) hx hb dX1_needed_5 (by decide) (fun c_1 => ?_) (fun c_1 => ?_)
  · skip
    refine lv_aload_n hx hb dX1_needed_10 rfl (lv_at hl 0 rfl) ?_
    refine be_calli C hw hA (be_m_most l D h d _ _ _ B hT (by omega)) (cwV 0 C.1.2.2.2.2 (lw_V q199 q176 q177 q16 q178) rfl rfl rfl (by decide +kernel) ⟨Nat.le_of_ble_eq_true rfl, Nat.le_of_ble_eq_true rfl⟩) rfl hl.1 rfl (Nat.le_of_ble_eq_true rfl) dX1_needed_11 ⟨Nat.zero_le _, Nat.zero_le _⟩ (fun H locs hw => ?_)
    refine lv_istore_n (lv' := [(3, .int (nI (be_work L T 1023))), (0, .ref (h 0)), (1, .int (nI a)), (2, .int (nI c))]) hx hb dX1_needed_14 rfl hl (by decide) rfl (fun ls hl => ?_)
    refine lv_aload_n hx hb dX1_needed_15 rfl (lv_at hl 1 rfl) ?_
    refine lv_iload_n hx hb dX1_needed_16 rfl (lv_at hl 2 rfl) ?_
    refine lv_iload_n hx hb dX1_needed_17 rfl (lv_at hl 3 rfl) ?_
    refine lv_iconst (v := bd_bz false) hx hb dX1_needed_18 (by decide) ?_
    refine be_calli C hw hA (be_m_set l D h d _ _ _ a c false ha hc) (cwV 3 C.1.2.2.2.2 (lw_V q167 q169 qs11 q16 q170) rfl rfl rfl (by decide +kernel) ⟨Nat.le_of_ble_eq_true rfl, Nat.le_of_ble_eq_true rfl⟩) rfl hl.1 rfl (Nat.le_of_ble_eq_true rfl) dX1_needed_19 ⟨Nat.zero_le _, Nat.zero_le _⟩ (fun H locs hw => ?_)
    refine bd_top (y := nI 0) (by rw [hj]; rfl) ?_
    refine lv_istore (lv' := [(4, .int (nI 0)), (3, .int (nI (be_work L T 1023))), (0, .ref (h 0)), (1, .int (nI a)), (2, .int (nI c))]) hx hb dX1_needed_22 hl (by decide) rfl (fun ls hl => ?_)
    refine lv_aload_n hx hb dX1_needed_24 rfl (lv_at hl 2 rfl) ?_
    refine be_calli C hw hA (be_m_most l D h d _ _ _ (B + 1023) hT1 (by omega)) (cwV 0 C.1.2.2.2.2 (lw_V q199 q176 q177 q16 q178) rfl rfl rfl (by decide +kernel) ⟨Nat.le_of_ble_eq_true rfl, Nat.le_of_ble_eq_true rfl⟩) rfl hl.1 rfl (Nat.le_of_ble_eq_true rfl) dX1_needed_25 ⟨Nat.zero_le _, Nat.zero_le _⟩ (fun H locs hw => ?_)
    refine lv_istore (lv' := [(5, .int (nI (be_work (be_set L a c false) (be_work L T) 1023))), (4, .int (nI 0)), (3, .int (nI (be_work L T 1023))), (0, .ref (h 0)), (1, .int (nI a)), (2, .int (nI c))]) hx hb dX1_needed_28 hl (by decide) rfl (fun ls hl => ?_)
    refine lv_iload hx hb dX1_needed_30 (lv_at hl 1 rfl) ?_
    refine lv_iconst (v := nI 1) hx hb dX1_needed_32 (by decide) ?_
    refine lv_icmp_ne (tgt := 44) hx hb dX1_needed_33 (by decide) (fun c_2 => ?_) (fun c_2 => ?_)
    · skip
      refine lv_iload hx hb dX1_needed_44 (lv_at hl 0 rfl) ?_
      refine lv_iload_n hx hb dX1_needed_46 rfl (lv_at hl 2 rfl) ?_
      refine lv_icmp_ge (tgt := 54) hx hb dX1_needed_47 (by decide) (fun c_3 => ?_) (fun c_3 => ?_)
      · skip
        have h1 : decide (be_work (be_set L a c false) (be_work L T) 1023 < be_work L T 1023) = false := decide_eq_false (Nat.not_lt.mpr ((nI_leI (by omega) (by omega)).mp c_3))
        refine lv_iconst (v := bd_bz (decide (be_work (be_set L a c false) (be_work L T) 1023 < be_work L T 1023))) hx hb dX1_needed_54 (by rw [h1]; decide) ?_
        exact be_iret C hr hk hw dX1_needed_55
      · skip
        have h1 : decide (be_work (be_set L a c false) (be_work L T) 1023 < be_work L T 1023) = true := decide_eq_true (Nat.not_le.mp (fun z => c_3 ((nI_leI (by omega) (by omega)).mpr z)))
        refine lv_iconst (v := bd_bz (decide (be_work (be_set L a c false) (be_work L T) 1023 < be_work L T 1023))) hx hb dX1_needed_50 (by rw [h1]; decide) ?_
        refine lv_goto (tgt := 55) hx hb dX1_needed_51 (by decide) ?_
        exact be_iret C hr hk hw dX1_needed_55
    · skip
      exact absurd c_2 (by decide)
  · skip
    exact absurd hp (by rw [bd_bz1.mp c_1]; decide)
set_option maxHeartbeats 4000000 in
set_option maxRecDepth 100000 in
/-- guards() -/
theorem be_m_guards (l : Launch) (D : va_G) (h : Nat → Nat) (d : Nat → ClassId) (sz : Nat) (L : Nat → Bool) (T : Nat → Nat) (B : Nat) (hT : ∀ x, T x ≤ B) (hB : B ≤ 10000) : be_MI l yX1_guards cX1_guards 4 (some .int) 2 46 D h d sz [] (L, T) (bd_bs (be_gd L (be_work L T))) (L, be_work L T) := by
  refine be_ofW (Qc := be_Qi D h d (bd_bs (be_gd L (be_work L T))) (L, be_work L T)) (by decide) rfl (Nat.le_of_ble_eq_true rfl) ?_
  intro p e s m below meth c0 A C hr hk hA hw ls hl
  have hx := C.1.1
  have hb := C.1.2.1
  have hl : lv_has ls 4 [(0, .ref (h 0))] := hl
  have hT1 := be_work_le (L := L) hT
  generalize hU : be_work L T = U at hT1
  unfold be_gd
  generalize hS : be_sp U 10 0 (fun _ => false) = S
  generalize hX : be_nr L S 100 0 (fun _ => false) = X
  have lp2 : ∀ (n : Nat) (k : Nat) (X1 : Nat → Bool), k + n = 100 → be_nr L S n k X1 = X → ∀ (H : Heap) (locs : List Loc), be_at D h d A s.heap H locs (L, U) → ∀ ls : Array Slot, lv_has ls 4 [(0, .ref (h 0)), (1, .int (bd_bs S)), (2, .int (bd_bs X1)), (3, .int (nI k))] → W p l e { frames := 2, cells := 0, slots := 0, locals := 46 } s m (([.ref (h 0)] : List Value).toArray) below meth c0 H locs 0 0 (MQ below (be_Qi D h d (bd_bs (fun v => X v && !S v)) (L, U) A) (([.ref (h 0)] : List Value).toArray) s 0 0 A) (F0 m 55 ls []) := by
    intro n
    induction n with
    | zero =>
      intro k X1 e1 e2 H locs hw ls hl
      refine lv_iload_n hx hb dX1_guards_55 rfl (lv_at hl 3 rfl) ?_
      refine lv_bipush (v := nI 100) hx hb dX1_guards_56 (by decide) ?_
      refine lv_icmp_ge (tgt := 97) hx hb dX1_guards_58 (by decide) (fun c_1 => ?_) (fun c_1 => ?_)
      · skip
        have e2 : X1 = X := e2
        subst e2
        refine lv_iload_n hx hb dX1_guards_97 rfl (lv_at hl 2 rfl) ?_
        refine lv_iload_n hx hb dX1_guards_98 rfl (lv_at hl 1 rfl) ?_
        refine lv_iconst (v := -1) hx hb dX1_guards_99 (by decide) ?_
        refine lv_ixor hx hb dX1_guards_100 ?_
        refine lv_iand hx hb dX1_guards_101 ?_
        refine bd_top (y := bd_bs (fun v => X1 v && !S v)) (bd_andn _ _) ?_
        exact be_iret C hr hk hw dX1_guards_102
      · skip
        exact absurd ((bd_leN (N := 100) (by omega) (by omega)).mpr (by omega)) c_1
    | succ n ih =>
      intro k X1 e1 e2 H locs hw ls hl
      unfold be_nr at e2
      refine lv_iload_n hx hb dX1_guards_55 rfl (lv_at hl 3 rfl) ?_
      refine lv_bipush (v := nI 100) hx hb dX1_guards_56 (by decide) ?_
      refine lv_icmp_ge (tgt := 97) hx hb dX1_guards_58 (by decide) (fun c_2 => ?_) (fun c_2 => ?_)
      · skip
        have := (bd_leN (N := 100) (by omega) (by omega)).mp c_2
        omega
      · skip
        refine lv_aload_n hx hb dX1_guards_61 rfl (lv_at hl 0 rfl) ?_
        refine be_getL C hw dX1_guards_62 ?_
        refine lv_iload_n hx hb dX1_guards_65 rfl (lv_at hl 3 rfl) ?_
        refine be_ldL C hw (k := k) (by omega) dX1_guards_66 ?_
        refine lv_if_eq (tgt := 91) hx hb dX1_guards_67 (by decide) (fun c_3 => ?_) (fun c_3 => ?_)
        · skip
          have h1 : ¬ L k = true := fun z => absurd (z.symm.trans (bd_bz0.mp c_3)) (by decide)
          rw [if_neg (fun z => h1 z.1)] at e2
          refine lv_iinc (v := nI (k + 1)) (lv' := [(3, .int (nI (k + 1))), (0, .ref (h 0)), (1, .int (bd_bs S)), (2, .int (bd_bs X1))]) hx hb dX1_guards_91 hl (k := 3) rfl (nI_1 k) (by decide) rfl (fun ls hl => ?_)
          refine lv_goto (tgt := 55) hx hb dX1_guards_94 (by decide) ?_
          exact ih (k + 1) _ (by omega) e2 _ _ hw ls (lv_sub hl [1, 2, 3, 0] rfl)
        · skip
          have h1 : L k = true := bd_bz1.mp c_3
          refine lv_iload_n hx hb dX1_guards_70 rfl (lv_at hl 1 rfl) ?_
          refine lv_iload_n hx hb dX1_guards_71 rfl (lv_at hl 3 rfl) ?_
          refine lv_bipush (v := nI 10) hx hb dX1_guards_72 (by decide) ?_
          refine lv_idiv hx hb dX1_guards_74 (by decide) ?_
          refine bd_top (y := nI (k / 10)) (pk_div (by omega) (by omega) (by omega)) ?_
          refine lv_ishr hx hb dX1_guards_75 ?_
          refine lv_iconst (v := nI 1) hx hb dX1_guards_76 (by decide) ?_
          refine lv_iand hx hb dX1_guards_77 ?_
          refine bd_top (y := bd_bz (S (k / 10))) (bd_bit2 S (by omega)) ?_
          refine lv_iconst (v := bd_bz true) hx hb dX1_guards_78 (by decide) ?_
          refine lv_icmp_ne (tgt := 91) hx hb dX1_guards_79 (by decide) (fun c_4 => ?_) (fun c_4 => ?_)
          · skip
            have h2 : ¬ S (k / 10) = true := fun z => c_4 (bd_bzt.mpr z)
            rw [if_neg (fun z => h2 z.2)] at e2
            refine lv_iinc (v := nI (k + 1)) (lv' := [(3, .int (nI (k + 1))), (0, .ref (h 0)), (1, .int (bd_bs S)), (2, .int (bd_bs X1))]) hx hb dX1_guards_91 hl (k := 3) rfl (nI_1 k) (by decide) rfl (fun ls hl => ?_)
            refine lv_goto (tgt := 55) hx hb dX1_guards_94 (by decide) ?_
            exact ih (k + 1) _ (by omega) e2 _ _ hw ls (lv_sub hl [1, 2, 3, 0] rfl)
          · skip
            have h2 : S (k / 10) = true := bd_bzt.mp c_4
            rw [if_pos ⟨h1, h2⟩] at e2
            refine lv_iload_n hx hb dX1_guards_82 rfl (lv_at hl 2 rfl) ?_
            refine lv_iconst (v := nI 1) hx hb dX1_guards_83 (by decide) ?_
            refine lv_iload_n hx hb dX1_guards_84 rfl (lv_at hl 3 rfl) ?_
            refine lv_bipush (v := nI 10) hx hb dX1_guards_85 (by decide) ?_
            refine lv_irem hx hb dX1_guards_87 (by decide) ?_
            refine bd_top (y := nI (k % 10)) (pk_rem (by omega) (by omega) (by omega)) ?_
            refine lv_ishl hx hb dX1_guards_88 ?_
            refine bd_top (y := bd_bs (fun v => decide (v = k % 10))) (bd_one (by omega)) ?_
            refine lv_ior hx hb dX1_guards_89 ?_
            refine bd_top (y := bd_bs (fun v => X1 v || decide (v = k % 10))) (bd_or _ _) ?_
            refine lv_istore_n (lv' := [(2, .int (bd_bs (fun v => X1 v || decide (v = k % 10)))), (0, .ref (h 0)), (1, .int (bd_bs S)), (3, .int (nI k))]) hx hb dX1_guards_90 rfl hl (by decide) rfl (fun ls hl => ?_)
            refine lv_iinc (v := nI (k + 1)) (lv' := [(3, .int (nI (k + 1))), (2, .int (bd_bs (fun v => X1 v || decide (v = k % 10)))), (0, .ref (h 0)), (1, .int (bd_bs S))]) hx hb dX1_guards_91 hl (k := 3) rfl (nI_1 k) (by decide) rfl (fun ls hl => ?_)
            refine lv_goto (tgt := 55) hx hb dX1_guards_94 (by decide) ?_
            exact ih (k + 1) _ (by omega) e2 _ _ hw ls (lv_sub hl [2, 3, 1, 0] rfl)
  have lp1 : ∀ (n : Nat) (k : Nat) (S1 : Nat → Bool), k + n = 10 → be_sp U n k S1 = S → ∀ (H : Heap) (locs : List Loc), be_at D h d A s.heap H locs (L, U) → ∀ ls : Array Slot, lv_has ls 4 [(0, .ref (h 0)), (1, .int (bd_bs S1)), (2, .int (bd_bs (fun _ => false))), (3, .int (nI k))] → W p l e { frames := 2, cells := 0, slots := 0, locals := 46 } s m (([.ref (h 0)] : List Value).toArray) below meth c0 H locs 0 0 (MQ below (be_Qi D h d (bd_bs (fun v => X v && !S v)) (L, U) A) (([.ref (h 0)] : List Value).toArray) s 0 0 A) (F0 m 10 ls []) := by
    intro n
    induction n with
    | zero =>
      intro k S1 e1 e2 H locs hw ls hl
      refine lv_iload_n hx hb dX1_guards_10 rfl (lv_at hl 3 rfl) ?_
      refine lv_bipush (v := nI 10) hx hb dX1_guards_11 (by decide) ?_
      refine lv_icmp_ge (tgt := 53) hx hb dX1_guards_13 (by decide) (fun c_5 => ?_) (fun c_5 => ?_)
      · skip
        have e2 : S1 = S := e2
        subst e2
        refine lv_iconst (v := nI 0) hx hb dX1_guards_53 (by decide) ?_
        refine lv_istore_n (lv' := [(3, .int (nI 0)), (0, .ref (h 0)), (1, .int (bd_bs S1)), (2, .int (bd_bs (fun _ => false)))]) hx hb dX1_guards_54 rfl hl (by decide) rfl (fun ls hl => ?_)
        exact lp2 100 0 _ rfl hX _ _ hw ls (lv_sub hl [1, 2, 3, 0] rfl)
      · skip
        exact absurd ((bd_leN (N := 10) (by omega) (by omega)).mpr (by omega)) c_5
    | succ n ih =>
      intro k S1 e1 e2 H locs hw ls hl
      unfold be_sp at e2
      have hk1 := hT1 1023
      have hk2 := hT1 (bd_msk (be_wo (fun _ => true) k))
      refine lv_iload_n hx hb dX1_guards_10 rfl (lv_at hl 3 rfl) ?_
      refine lv_bipush (v := nI 10) hx hb dX1_guards_11 (by decide) ?_
      refine lv_icmp_ge (tgt := 53) hx hb dX1_guards_13 (by decide) (fun c_6 => ?_) (fun c_6 => ?_)
      · skip
        have := (bd_leN (N := 10) (by omega) (by omega)).mp c_6
        omega
      · skip
        refine lv_aload_n hx hb dX1_guards_16 rfl (lv_at hl 0 rfl) ?_
        refine be_getT C hw dX1_guards_17 ?_
        refine lv_sipush (v := bd_bs (fun _ => true)) hx hb dX1_guards_20 (by decide +kernel) ?_
        refine lv_iconst (v := nI 1) hx hb dX1_guards_23 (by decide) ?_
        refine lv_iload_n hx hb dX1_guards_24 rfl (lv_at hl 3 rfl) ?_
        refine lv_ishl hx hb dX1_guards_25 ?_
        refine bd_top (y := bd_bs (fun v => decide (v = k))) (bd_one (by omega)) ?_
        refine lv_iconst (v := -1) hx hb dX1_guards_26 (by decide) ?_
        refine lv_ixor hx hb dX1_guards_27 ?_
        refine lv_iand hx hb dX1_guards_28 ?_
        refine bd_top (y := nI (bd_msk (be_wo (fun _ => true) k))) (bd_andn (fun _ => true) (fun v => decide (v = k))) ?_
        refine be_ldT C hw (k := (bd_msk (be_wo (fun _ => true) k))) (bd_msk_lt _) dX1_guards_29 ?_
        refine lv_aload_n hx hb dX1_guards_30 rfl (lv_at hl 0 rfl) ?_
        refine be_getT C hw dX1_guards_31 ?_
        refine lv_sipush (v := nI 1023) hx hb dX1_guards_34 (by decide) ?_
        refine be_ldT C hw (k := 1023) (by decide) dX1_guards_37 ?_
        refine lv_icmp_ne (tgt := 47) hx hb dX1_guards_38 (by decide) (fun c_7 => ?_) (fun c_7 => ?_)
        · skip
          have h1 : ¬ U (bd_msk (be_wo (fun _ => true) k)) = U 1023 := fun z => c_7 (by rw [z])
          rw [if_neg h1] at e2
          refine lv_iinc (v := nI (k + 1)) (lv' := [(3, .int (nI (k + 1))), (0, .ref (h 0)), (1, .int (bd_bs S1)), (2, .int (bd_bs (fun _ => false)))]) hx hb dX1_guards_47 hl (k := 3) rfl (nI_1 k) (by decide) rfl (fun ls hl => ?_)
          refine lv_goto (tgt := 10) hx hb dX1_guards_50 (by decide) ?_
          exact ih (k + 1) _ (by omega) e2 _ _ hw ls (lv_sub hl [1, 2, 3, 0] rfl)
        · skip
          have h1 : U (bd_msk (be_wo (fun _ => true) k)) = U 1023 := (nI_eq (by omega) (by omega)).mp c_7
          rw [if_pos h1] at e2
          refine lv_iload_n hx hb dX1_guards_41 rfl (lv_at hl 1 rfl) ?_
          refine lv_iconst (v := nI 1) hx hb dX1_guards_42 (by decide) ?_
          refine lv_iload_n hx hb dX1_guards_43 rfl (lv_at hl 3 rfl) ?_
          refine lv_ishl hx hb dX1_guards_44 ?_
          refine bd_top (y := bd_bs (fun v => decide (v = k))) (bd_one (by omega)) ?_
          refine lv_ior hx hb dX1_guards_45 ?_
          refine bd_top (y := bd_bs (fun v => S1 v || decide (v = k))) (bd_or _ _) ?_
          refine lv_istore_n (lv' := [(1, .int (bd_bs (fun v => S1 v || decide (v = k)))), (0, .ref (h 0)), (2, .int (bd_bs (fun _ => false))), (3, .int (nI k))]) hx hb dX1_guards_46 rfl hl (by decide) rfl (fun ls hl => ?_)
          refine lv_iinc (v := nI (k + 1)) (lv' := [(3, .int (nI (k + 1))), (1, .int (bd_bs (fun v => S1 v || decide (v = k)))), (0, .ref (h 0)), (2, .int (bd_bs (fun _ => false)))]) hx hb dX1_guards_47 hl (k := 3) rfl (nI_1 k) (by decide) rfl (fun ls hl => ?_)
          refine lv_goto (tgt := 10) hx hb dX1_guards_50 (by decide) ?_
          exact ih (k + 1) _ (by omega) e2 _ _ hw ls (lv_sub hl [2, 1, 3, 0] rfl)
  refine lv_aload_n hx hb dX1_guards_0 rfl (lv_at hl 0 rfl) ?_
  refine be_callv C hw hA (be_m_work l D h d _ _ _ B hT (by omega)) (cwV 0 C.1.2.2.2.2 (lw_V q179 q181 qs12 q16 q182) rfl rfl rfl (by decide +kernel) ⟨Nat.le_of_ble_eq_true rfl, Nat.le_of_ble_eq_true rfl⟩) rfl hl.1 rfl (Nat.le_of_ble_eq_true rfl) dX1_guards_1 ⟨Nat.zero_le _, Nat.zero_le _⟩ (fun H locs hw => ?_)
  rw [hU] at hw
  refine lv_iconst (v := bd_bs (fun _ => false)) hx hb dX1_guards_4 (by decide +kernel) ?_
  refine lv_istore_n (lv' := [(1, .int (bd_bs (fun _ => false))), (0, .ref (h 0))]) hx hb dX1_guards_5 rfl hl (by decide) rfl (fun ls hl => ?_)
  refine lv_iconst (v := bd_bs (fun _ => false)) hx hb dX1_guards_6 (by decide +kernel) ?_
  refine lv_istore_n (lv' := [(2, .int (bd_bs (fun _ => false))), (1, .int (bd_bs (fun _ => false))), (0, .ref (h 0))]) hx hb dX1_guards_7 rfl hl (by decide) rfl (fun ls hl => ?_)
  refine lv_iconst (v := nI 0) hx hb dX1_guards_8 (by decide) ?_
  refine lv_istore_n (lv' := [(3, .int (nI 0)), (2, .int (bd_bs (fun _ => false))), (1, .int (bd_bs (fun _ => false))), (0, .ref (h 0))]) hx hb dX1_guards_9 rfl hl (by decide) rfl (fun ls hl => ?_)
  exact lp1 10 0 _ rfl hS _ _ hw ls (lv_sub hl [3, 2, 1, 0] rfl)
set_option maxHeartbeats 4000000 in
set_option maxRecDepth 100000 in
/-- parts() -/
theorem be_m_parts (l : Launch) (D : va_G) (h : Nat → Nat) (d : Nat → ClassId) (sz : Nat) (L : Nat → Bool) (T : Nat → Nat) (cnt : Nat) (B : Nat) (hT : ∀ x, T x ≤ B) (hB : B ≤ 10000) (hF : be_pt L 10 (fun v => true && !be_gd L (be_work L T) v) 0 = some cnt) : be_MI l yX1_parts cX1_parts 7 (some .int) 3 69 D h d sz [] (L, T) (nI cnt) (L, be_work L T) := by
  refine be_ofW (Qc := be_Qi D h d (nI cnt) (L, be_work L T)) (by decide) rfl (Nat.le_of_ble_eq_true rfl) ?_
  intro p e s m below meth c0 A C hr hk hA hw ls hl
  have hx := C.1.1
  have hb := C.1.2.1
  have hl : lv_has ls 7 [(0, .ref (h 0))] := hl
  have lp : ∀ (n : Nat) (f : Nat → Bool) (cl : Nat), be_pt L n f cl = some cnt → ∀ (H : Heap) (locs : List Loc), be_at D h d A s.heap H locs (L, be_work L T) → ∀ ls : Array Slot, lv_has ls 7 [(0, .ref (h 0)), (1, .int (bd_bs f)), (2, .int (nI cl))] → W p l e { frames := 3, cells := 0, slots := 0, locals := 69 } s m (([.ref (h 0)] : List Value).toArray) below meth c0 H locs 0 0 (MQ below (be_Qi D h d (nI cnt) (L, be_work L T) A) (([.ref (h 0)] : List Value).toArray) s 0 0 A) (F0 m 13 ls []) := by
    intro n
    induction n with
    | zero =>
      intro f cl e2 H locs hw ls hl
      obtain ⟨g0, e2⟩ := bd_gd_some (show bd_gd (bd_msk f = 0) (some cl) = some cnt from e2)
      have e2 : cl = cnt := Option.some.inj e2
      refine lv_iload_n hx hb dX1_parts_13 rfl (lv_at hl 1 rfl) ?_
      refine lv_if_eq (tgt := 111) hx hb dX1_parts_14 (by decide) (fun c_1 => ?_) (fun c_1 => ?_)
      · skip
        subst e2
        refine lv_iload_n hx hb dX1_parts_111 rfl (lv_at hl 2 rfl) ?_
        exact be_iret C hr hk hw dX1_parts_112
      · skip
        exact absurd ((be_bs0 f).mpr g0) c_1
    | succ n ih =>
      intro f cl e2 H locs hw ls hl
      unfold be_pt at e2
      refine lv_iload_n hx hb dX1_parts_13 rfl (lv_at hl 1 rfl) ?_
      refine lv_if_eq (tgt := 111) hx hb dX1_parts_14 (by decide) (fun c_2 => ?_) (fun c_2 => ?_)
      · skip
        rw [if_pos ((be_bs0 f).mp c_2)] at e2
        have e2 : cl = cnt := Option.some.inj e2
        subst e2
        refine lv_iload_n hx hb dX1_parts_111 rfl (lv_at hl 2 rfl) ?_
        exact be_iret C hr hk hw dX1_parts_112
      · skip
        have h0 : ¬ bd_msk f = 0 := fun z => c_2 ((be_bs0 f).mpr z)
        rw [if_neg h0] at e2
        refine lv_iload_n hx hb dX1_parts_17 rfl (lv_at hl 1 rfl) ?_
        refine lv_iload_n hx hb dX1_parts_18 rfl (lv_at hl 1 rfl) ?_
        refine lv_ineg hx hb dX1_parts_19 ?_
        refine lv_iand hx hb dX1_parts_20 ?_
        refine bd_top (y := bd_bs (fun v => decide (v = be_lo f 10 0))) (be_low f h0) ?_
        refine lv_istore_n (lv' := [(3, .int (bd_bs (fun v => decide (v = be_lo f 10 0)))), (0, .ref (h 0)), (1, .int (bd_bs f)), (2, .int (nI cl))]) hx hb dX1_parts_21 rfl hl (by decide) rfl (fun ls hl => ?_)
        refine lv_iconst (v := nI 0) hx hb dX1_parts_22 (by decide) ?_
        refine lv_istore (lv' := [(4, .int (nI 0)), (3, .int (bd_bs (fun v => decide (v = be_lo f 10 0)))), (0, .ref (h 0)), (1, .int (bd_bs f)), (2, .int (nI cl))]) hx hb dX1_parts_23 hl (by decide) rfl (fun ls hl => ?_)
        generalize hP : be_cl L f 1000 0 (fun v => decide (v = be_lo f 10 0)) = P at e2
        have lp3 : ∀ (n2 k : Nat) (P1 : Nat → Bool), k + n2 = 1000 → be_cl L f n2 k P1 = P → ∀ (H : Heap) (locs : List Loc), be_at D h d A s.heap H locs (L, be_work L T) → ∀ ls : Array Slot, lv_has ls 7 [(0, .ref (h 0)), (1, .int (bd_bs f)), (2, .int (nI cl)), (3, .int (bd_bs P1)), (4, .int (nI k))] → W p l e { frames := 3, cells := 0, slots := 0, locals := 69 } s m (([.ref (h 0)] : List Value).toArray) below meth c0 H locs 0 0 (MQ below (be_Qi D h d (nI cnt) (L, be_work L T) A) (([.ref (h 0)] : List Value).toArray) s 0 0 A) (F0 m 25 ls []) := by
          intro n2
          induction n2 with
          | zero =>
            intro k P1 f1 f2 H locs hw ls hl
            refine lv_iload hx hb dX1_parts_25 (lv_at hl 4 rfl) ?_
            refine lv_sipush (v := nI 1000) hx hb dX1_parts_27 (by decide) ?_
            refine lv_icmp_ge (tgt := 99) hx hb dX1_parts_30 (by decide) (fun c_3 => ?_) (fun c_3 => ?_)
            · skip
              have f2 : P1 = P := f2
              subst f2
              refine lv_iload_n hx hb dX1_parts_99 rfl (lv_at hl 1 rfl) ?_
              refine lv_iload_n hx hb dX1_parts_100 rfl (lv_at hl 3 rfl) ?_
              refine lv_iconst (v := -1) hx hb dX1_parts_101 (by decide) ?_
              refine lv_ixor hx hb dX1_parts_102 ?_
              refine lv_iand hx hb dX1_parts_103 ?_
              refine bd_top (y := bd_bs (fun v => f v && !P1 v)) (bd_andn _ _) ?_
              refine lv_istore_n (lv' := [(1, .int (bd_bs (fun v => f v && !P1 v))), (0, .ref (h 0)), (2, .int (nI cl)), (3, .int (bd_bs P1)), (4, .int (nI k))]) hx hb dX1_parts_104 rfl hl (by decide) rfl (fun ls hl => ?_)
              refine lv_iinc (v := nI (cl + 1)) (lv' := [(2, .int (nI (cl + 1))), (1, .int (bd_bs (fun v => f v && !P1 v))), (0, .ref (h 0)), (3, .int (bd_bs P1)), (4, .int (nI k))]) hx hb dX1_parts_105 hl (k := 2) rfl (nI_1 cl) (by decide) rfl (fun ls hl => ?_)
              refine lv_goto (tgt := 13) hx hb dX1_parts_108 (by decide) ?_
              exact ih _ (cl + 1) e2 _ _ hw ls (lv_sub hl [2, 1, 0] rfl)
            · skip
              exact absurd ((bd_leN (N := 1000) (by omega) (by omega)).mpr (by omega)) c_3
          | succ n2 ih2 =>
            intro k P1 f1 f2 H locs hw ls hl
            unfold be_cl at f2
            refine lv_iload hx hb dX1_parts_25 (lv_at hl 4 rfl) ?_
            refine lv_sipush (v := nI 1000) hx hb dX1_parts_27 (by decide) ?_
            refine lv_icmp_ge (tgt := 99) hx hb dX1_parts_30 (by decide) (fun c_4 => ?_) (fun c_4 => ?_)
            · skip
              have := (bd_leN (N := 1000) (by omega) (by omega)).mp c_4
              omega
            · skip
              refine lv_iload hx hb dX1_parts_33 (lv_at hl 4 rfl) ?_
              refine lv_bipush (v := nI 10) hx hb dX1_parts_35 (by decide) ?_
              refine lv_idiv hx hb dX1_parts_37 (by decide) ?_
              refine bd_top (y := nI (k / 10)) (pk_div (by omega) (by omega) (by omega)) ?_
              refine lv_bipush (v := nI 10) hx hb dX1_parts_38 (by decide) ?_
              refine lv_irem hx hb dX1_parts_40 (by decide) ?_
              refine bd_top (y := nI (k / 10 % 10)) (pk_rem (by omega) (by omega) (by omega)) ?_
              refine lv_istore (lv' := [(5, .int (nI (k / 10 % 10))), (0, .ref (h 0)), (1, .int (bd_bs f)), (2, .int (nI cl)), (3, .int (bd_bs P1)), (4, .int (nI k))]) hx hb dX1_parts_41 hl (by decide) rfl (fun ls hl => ?_)
              refine lv_iload hx hb dX1_parts_43 (lv_at hl 5 rfl) ?_
              refine lv_bipush (v := nI 10) hx hb dX1_parts_45 (by decide) ?_
              refine lv_irem hx hb dX1_parts_47 (by decide) ?_
              refine bd_top (y := nI (k % 10)) (pk_rem (by omega) (by omega) (by omega)) ?_
              refine lv_istore (lv' := [(6, .int (nI (k % 10))), (5, .int (nI (k / 10 % 10))), (0, .ref (h 0)), (1, .int (bd_bs f)), (2, .int (nI cl)), (3, .int (bd_bs P1)), (4, .int (nI k))]) hx hb dX1_parts_48 hl (by decide) rfl (fun ls hl => ?_)
              refine lv_aload_n hx hb dX1_parts_50 rfl (lv_at hl 2 rfl) ?_
              refine be_getL C hw dX1_parts_51 ?_
              refine lv_bipush (v := nI 10) hx hb dX1_parts_54 (by decide) ?_
              refine lv_iload hx hb dX1_parts_56 (lv_at hl 1 rfl) ?_
              refine lv_imul hx hb dX1_parts_58 ?_
              refine bd_top (y := nI (10 * (k / 10 % 10))) (pk_mul 10 (k / 10 % 10)) ?_
              refine lv_iload hx hb dX1_parts_59 (lv_at hl 0 rfl) ?_
              refine lv_iadd hx hb dX1_parts_61 ?_
              refine bd_top (y := nI (10 * (k / 10 % 10) + k % 10)) (nI_add _ _) ?_
              refine be_ldL C hw (k := (10 * (k / 10 % 10) + k % 10)) (by omega) dX1_parts_62 ?_
              refine lv_if_eq (tgt := 93) hx hb dX1_parts_63 (by decide) (fun c_5 => ?_) (fun c_5 => ?_)
              · skip
                have h1 : ¬ L (10 * (k / 10 % 10) + k % 10) = true := fun z => absurd (z.symm.trans (bd_bz0.mp c_5)) (by decide)
                rw [if_neg (fun z => h1 z.1)] at f2
                refine lv_iinc (v := nI (k + 1)) (lv' := [(4, .int (nI (k + 1))), (6, .int (nI (k % 10))), (5, .int (nI (k / 10 % 10))), (0, .ref (h 0)), (1, .int (bd_bs f)), (2, .int (nI cl)), (3, .int (bd_bs P1))]) hx hb dX1_parts_93 hl (k := 6) rfl (nI_1 k) (by decide) rfl (fun ls hl => ?_)
                refine lv_goto (tgt := 25) hx hb dX1_parts_96 (by decide) ?_
                exact ih2 (k + 1) _ (by omega) f2 _ _ hw ls (lv_sub hl [3, 4, 5, 6, 0] rfl)
              · skip
                have h1 : L (10 * (k / 10 % 10) + k % 10) = true := bd_bz1.mp c_5
                refine lv_iload_n hx hb dX1_parts_66 rfl (lv_at hl 5 rfl) ?_
                refine lv_iload hx hb dX1_parts_67 (lv_at hl 1 rfl) ?_
                refine lv_ishr hx hb dX1_parts_69 ?_
                refine lv_iconst (v := nI 1) hx hb dX1_parts_70 (by decide) ?_
                refine lv_iand hx hb dX1_parts_71 ?_
                refine bd_top (y := bd_bz (P1 (k / 10 % 10))) (bd_bit2 P1 (by omega)) ?_
                refine lv_iconst (v := bd_bz true) hx hb dX1_parts_72 (by decide) ?_
                refine lv_icmp_ne (tgt := 93) hx hb dX1_parts_73 (by decide) (fun c_6 => ?_) (fun c_6 => ?_)
                · skip
                  have h2 : ¬ P1 (k / 10 % 10) = true := fun z => c_6 (bd_bzt.mpr z)
                  rw [if_neg (fun z => h2 z.2.1)] at f2
                  refine lv_iinc (v := nI (k + 1)) (lv' := [(4, .int (nI (k + 1))), (6, .int (nI (k % 10))), (5, .int (nI (k / 10 % 10))), (0, .ref (h 0)), (1, .int (bd_bs f)), (2, .int (nI cl)), (3, .int (bd_bs P1))]) hx hb dX1_parts_93 hl (k := 6) rfl (nI_1 k) (by decide) rfl (fun ls hl => ?_)
                  refine lv_goto (tgt := 25) hx hb dX1_parts_96 (by decide) ?_
                  exact ih2 (k + 1) _ (by omega) f2 _ _ hw ls (lv_sub hl [3, 4, 5, 6, 0] rfl)
                · skip
                  have h2 : P1 (k / 10 % 10) = true := bd_bzt.mp c_6
                  refine lv_iload_n hx hb dX1_parts_76 rfl (lv_at hl 3 rfl) ?_
                  refine lv_iload hx hb dX1_parts_77 (lv_at hl 0 rfl) ?_
                  refine lv_ishr hx hb dX1_parts_79 ?_
                  refine lv_iconst (v := nI 1) hx hb dX1_parts_80 (by decide) ?_
                  refine lv_iand hx hb dX1_parts_81 ?_
                  refine bd_top (y := bd_bz (f (k % 10))) (bd_bit2 f (by omega)) ?_
                  refine lv_iconst (v := bd_bz true) hx hb dX1_parts_82 (by decide) ?_
                  refine lv_icmp_ne (tgt := 93) hx hb dX1_parts_83 (by decide) (fun c_7 => ?_) (fun c_7 => ?_)
                  · skip
                    have h3 : ¬ f (k % 10) = true := fun z => c_7 (bd_bzt.mpr z)
                    rw [if_neg (fun z => h3 z.2.2)] at f2
                    refine lv_iinc (v := nI (k + 1)) (lv' := [(4, .int (nI (k + 1))), (6, .int (nI (k % 10))), (5, .int (nI (k / 10 % 10))), (0, .ref (h 0)), (1, .int (bd_bs f)), (2, .int (nI cl)), (3, .int (bd_bs P1))]) hx hb dX1_parts_93 hl (k := 6) rfl (nI_1 k) (by decide) rfl (fun ls hl => ?_)
                    refine lv_goto (tgt := 25) hx hb dX1_parts_96 (by decide) ?_
                    exact ih2 (k + 1) _ (by omega) f2 _ _ hw ls (lv_sub hl [3, 4, 5, 6, 0] rfl)
                  · skip
                    have h3 : f (k % 10) = true := bd_bzt.mp c_7
                    rw [if_pos ⟨h1, h2, h3⟩] at f2
                    refine lv_iload_n hx hb dX1_parts_86 rfl (lv_at hl 5 rfl) ?_
                    refine lv_iconst (v := nI 1) hx hb dX1_parts_87 (by decide) ?_
                    refine lv_iload hx hb dX1_parts_88 (lv_at hl 0 rfl) ?_
                    refine lv_ishl hx hb dX1_parts_90 ?_
                    refine bd_top (y := bd_bs (fun v => decide (v = k % 10))) (bd_one (by omega)) ?_
                    refine lv_ior hx hb dX1_parts_91 ?_
                    refine bd_top (y := bd_bs (fun v => P1 v || decide (v = k % 10))) (bd_or _ _) ?_
                    refine lv_istore_n (lv' := [(3, .int (bd_bs (fun v => P1 v || decide (v = k % 10)))), (6, .int (nI (k % 10))), (5, .int (nI (k / 10 % 10))), (0, .ref (h 0)), (1, .int (bd_bs f)), (2, .int (nI cl)), (4, .int (nI k))]) hx hb dX1_parts_92 rfl hl (by decide) rfl (fun ls hl => ?_)
                    refine lv_iinc (v := nI (k + 1)) (lv' := [(4, .int (nI (k + 1))), (3, .int (bd_bs (fun v => P1 v || decide (v = k % 10)))), (6, .int (nI (k % 10))), (5, .int (nI (k / 10 % 10))), (0, .ref (h 0)), (1, .int (bd_bs f)), (2, .int (nI cl))]) hx hb dX1_parts_93 hl (k := 6) rfl (nI_1 k) (by decide) rfl (fun ls hl => ?_)
                    refine lv_goto (tgt := 25) hx hb dX1_parts_96 (by decide) ?_
                    exact ih2 (k + 1) _ (by omega) f2 _ _ hw ls (lv_sub hl [4, 5, 6, 1, 0] rfl)
        exact lp3 1000 0 _ rfl hP _ _ hw ls (lv_sub hl [2, 3, 4, 1, 0] rfl)
  refine lv_sipush (v := bd_bs (fun _ => true)) hx hb dX1_parts_0 (by decide +kernel) ?_
  refine lv_aload_n hx hb dX1_parts_3 rfl (lv_at hl 0 rfl) ?_
  refine be_calli C hw hA (be_m_guards l D h d _ _ _ B hT hB) (cwV 0 C.1.2.2.2.2 (lw_V q212 q201 q202 q16 q203) rfl rfl rfl (by decide +kernel) ⟨Nat.le_of_ble_eq_true rfl, Nat.le_of_ble_eq_true rfl⟩) rfl hl.1 rfl (Nat.le_of_ble_eq_true rfl) dX1_parts_4 ⟨Nat.zero_le _, Nat.zero_le _⟩ (fun H locs hw => ?_)
  refine lv_iconst (v := -1) hx hb dX1_parts_7 (by decide) ?_
  refine lv_ixor hx hb dX1_parts_8 ?_
  refine lv_iand hx hb dX1_parts_9 ?_
  refine bd_top (y := bd_bs (fun v => true && !be_gd L (be_work L T) v)) (bd_andn (fun _ => true) _) ?_
  refine lv_istore_n (lv' := [(1, .int (bd_bs (fun v => true && !be_gd L (be_work L T) v))), (0, .ref (h 0))]) hx hb dX1_parts_10 rfl hl (by decide) rfl (fun ls hl => ?_)
  refine lv_iconst (v := nI 0) hx hb dX1_parts_11 (by decide) ?_
  refine lv_istore_n (lv' := [(2, .int (nI 0)), (1, .int (bd_bs (fun v => true && !be_gd L (be_work L T) v))), (0, .ref (h 0))]) hx hb dX1_parts_12 rfl hl (by decide) rfl (fun ls hl => ?_)
  exact lp 10 _ 0 hF _ _ hw ls (lv_sub hl [2, 1, 0] rfl)
end
section
/-! plain law 9: the model's table holds the largest pairings -/
theorem bm_E_congr {J : Nat → Nat → Bool} {ab ab' : Nat → Bool} (h : ∀ v, v < 10 → ab v = ab' v) (u w : Nat) : bm_E J ab u w ↔ bm_E J ab' u w := by
  unfold bm_E
  constructor
  · rintro ⟨a, b, c, d, e⟩
    exact ⟨a, b, c, by rw [← h u a]; exact d, by rw [← h w b]; exact e⟩
  · rintro ⟨a, b, c, d, e⟩
    exact ⟨a, b, c, by rw [h u a]; exact d, by rw [h w b]; exact e⟩
/-- c is the most for the points of f -/
def bm_b (J : Nat → Nat → Bool) (f : Nat → Bool) (c : Nat) : Prop := bm_best (bm_E J (fun v => !f v)) c
theorem bm_b_congr {J : Nat → Nat → Bool} {f g : Nat → Bool} {c : Nat} (h : ∀ v, v < 10 → f v = g v) (hb : bm_b J f c) : bm_b J g c :=
  bm_best.congr hb (bm_E_congr (fun v hv => by rw [h v hv]))
theorem be_pr_max {L : Nat → Bool} {T : Nat → Nat} {g : Nat → Bool} {lo : Nat} : ∀ (n p x : Nat), x ≤ be_pr L T g lo n p x ∧ (∀ q, p ≤ q → q < p + n → g q = true → L (10 * lo + q) = true → T (bd_msk (be_wo g q)) + 1 ≤ be_pr L T g lo n p x) ∧ (be_pr L T g lo n p x = x ∨ ∃ q, p ≤ q ∧ q < p + n ∧ g q = true ∧ L (10 * lo + q) = true ∧ be_pr L T g lo n p x = T (bd_msk (be_wo g q)) + 1)
  | 0, p, x => ⟨Nat.le_refl _, fun q h1 h2 => by omega, Or.inl rfl⟩
  | n + 1, p, x => by
    unfold be_pr
    generalize hy : (if g p = true ∧ L (10 * lo + p) = true ∧ x < T (bd_msk (be_wo g p)) + 1 then T (bd_msk (be_wo g p)) + 1 else x) = y
    obtain ⟨h1, h2, h3⟩ := be_pr_max (L := L) (T := T) (g := g) (lo := lo) n (p + 1) y
    have hxy : x ≤ y := by
      rw [← hy]
      split
      · rename_i c; omega
      · exact Nat.le_refl _
    refine ⟨Nat.le_trans hxy h1, fun q q1 q2 q3 q4 => ?_, ?_⟩
    · by_cases e : q = p
      · subst e
        refine Nat.le_trans ?_ h1
        rw [← hy]
        split
        · exact Nat.le_refl _
        · rename_i c
          by_cases c2 : x < T (bd_msk (be_wo g q)) + 1
          · exact absurd ⟨q3, q4, c2⟩ c
          · omega
      · exact h2 q (by omega) (by omega) q3 q4
    · rcases h3 with h3 | ⟨q, q1, q2, q3, q4, q5⟩
      · by_cases c : g p = true ∧ L (10 * lo + p) = true ∧ x < T (bd_msk (be_wo g p)) + 1
        · rw [if_pos c] at hy
          exact Or.inr ⟨p, Nat.le_refl _, by omega, c.1, c.2.1, by rw [h3, ← hy]⟩
        · rw [if_neg c] at hy
          exact Or.inl (by rw [h3, ← hy])
      · exact Or.inr ⟨q, by omega, by omega, q3, q4, q5⟩
theorem bd_msk_wo_lt {f : Nat → Bool} {p : Nat} (hp : p < 10) (hf : f p = true) : bd_msk (be_wo f p) < bd_msk f := by
  have h1 : bd_msk (be_wo f p) = bd_msk (be_wo f p) &&& bd_msk f := by
    refine Nat.eq_of_testBit_eq (fun i => ?_)
    rw [Nat.testBit_and, bd_msk_bit, bd_msk_bit]
    unfold be_wo
    cases decide (i < 10) <;> cases f i <;> simp
  have h2 : bd_msk (be_wo f p) ≤ bd_msk f := by rw [h1]; exact Nat.and_le_right
  refine Nat.lt_of_le_of_ne h2 (fun e => ?_)
  have h3 : (bd_msk (be_wo f p)).testBit p = (bd_msk f).testBit p := by rw [e]
  rw [bd_msk_bit, bd_msk_bit] at h3
  simp [be_wo, hp, hf] at h3
theorem be_lo_spec {f : Nat → Bool} : ∀ (n k : Nat), k + n = 10 → be_lo f n k < 10 → f (be_lo f n k) = true
  | 0, k, h, h2 => by
    have : be_lo f 0 k = k := rfl
    omega
  | n + 1, k, h, h2 => by
    unfold be_lo at h2 ⊢
    by_cases c : f k = true
    · rw [if_pos c]; exact c
    · rw [if_neg c] at h2 ⊢
      exact be_lo_spec n (k + 1) (by omega) h2
/-- two free points more, when a pair is taken off -/
theorem bm_off {E : Nat → Nat → Prop} (hG : bm_G E) {n : Nat → Nat} (hn : bm_M E n) {a : Nat} (ha : a < 10) (hna : n a < 10) : bm_M (fun u w => E u w ∧ u ≠ a ∧ u ≠ n a ∧ w ≠ a ∧ w ≠ n a) (fun x => if x = a ∨ x = n a then 10 else n x) ∧ (bm_free (fun x => if x = a ∨ x = n a then 10 else n x)).length = (bm_free n).length + 2 := by
  have hmm := (hn a ha hna).2
  have hne := bm_M.ne hG hn ha hna
  refine ⟨fun v hv h => ?_, ?_⟩
  · have h : (if v = a ∨ v = n a then 10 else n v) < 10 := h
    show (E v (if v = a ∨ v = n a then 10 else n v) ∧ v ≠ a ∧ v ≠ n a ∧ (if v = a ∨ v = n a then 10 else n v) ≠ a ∧ (if v = a ∨ v = n a then 10 else n v) ≠ n a) ∧ (if (if v = a ∨ v = n a then 10 else n v) = a ∨ (if v = a ∨ v = n a then 10 else n v) = n a then 10 else n (if v = a ∨ v = n a then 10 else n v)) = v
    by_cases c : v = a ∨ v = n a
    · rw [if_pos c] at h; omega
    · rw [if_neg c] at h ⊢
      obtain ⟨k1, k2⟩ := hn v hv h
      have c1 : n v ≠ a := fun q => c (Or.inr (by rw [← k2, q]))
      have c2 : n v ≠ n a := fun q => c (Or.inl (hn.inj hv ha h q))
      have c3 : ¬ (n v = a ∨ n v = n a) := fun z => z.elim c1 c2
      rw [if_neg c3]
      exact ⟨⟨k1, fun q => c (Or.inl q), fun q => c (Or.inr q), c1, c2⟩, k2⟩
  · refine (bm_turned_free (m := fun x => if x = a ∨ x = n a then 10 else n x) (m' := n) (e := a) (root := n a) ha hna (Ne.symm hne) ?_ ?_ hna ?_)
    · simp
    · simp
    · intro x hx hxa
      by_cases c : x = n a
      · subst c
        simp [hmm, ha]
      · simp [hxa, c]
/-- and two fewer, when one is put on -/
theorem bm_on {E : Nat → Nat → Prop} (hG : bm_G E) {n : Nat → Nat} (hn : bm_M E n) {a c : Nat} (hE : E a c) (fa : 10 ≤ n a) (fc : 10 ≤ n c) : bm_M E (va_up (va_up n a c) c a) ∧ (bm_free n).length = (bm_free (va_up (va_up n a c) c a)).length + 2 := by
  obtain ⟨ha, hc⟩ := hG.2.2 _ _ hE
  have hac : a ≠ c := fun q => hG.2.1 c (by rw [q] at hE; exact hE)
  refine ⟨fun v hv h => ?_, ?_⟩
  · unfold va_up at h ⊢
    by_cases c1 : v = c
    · subst c1
      simp only [if_true, if_neg hac]
      exact ⟨hG.1 _ _ hE, trivial⟩
    · by_cases c2 : v = a
      · subst c2
        simp only [if_neg hac, if_true]
        exact ⟨hE, trivial⟩
      · simp only [if_neg c1, if_neg c2] at h ⊢
        obtain ⟨k1, k2⟩ := hn v hv h
        have c3 : n v ≠ c := fun q => by rw [q] at k2; omega
        have c4 : n v ≠ a := fun q => by rw [q] at k2; omega
        rw [if_neg c3, if_neg c4]
        exact ⟨k1, k2⟩
  · refine bm_turned_free (m := n) (e := a) (root := c) ha hc hac fa fc ?_ ?_
    · simp [va_up, hac, hc]
    · intro x hx hxa
      by_cases c1 : x = c
      · subst c1; simp [va_up, ha]
      · simp [va_up, c1, hxa]
section BMDP
variable {J : Nat → Nat → Bool} {L : Nat → Bool}
/-- L holds J -/
def bm_L (J : Nat → Nat → Bool) (L : Nat → Bool) : Prop := ∀ a c, a < 10 → c < 10 → L (10 * a + c) = J a c
theorem be_pairF (hg : bm_gr J) (hL : bm_L J L) {T : Nat → Nat} {f : Nat → Bool} (hlo : be_lo f 10 0 < 10) (hT : ∀ g, bd_msk g < bd_msk f → bm_b J g (T (bd_msk g))) : bm_b J f (be_pair L T f) := by
  have hflo := be_lo_spec (f := f) 10 0 rfl hlo
  unfold be_pair
  generalize be_lo f 10 0 = lo at hlo hflo ⊢
  have hG := hg.G (fun v => !f v)
  have hlt := bd_msk_wo_lt hlo hflo
  obtain ⟨h1, h2, h3⟩ := be_pr_max (L := L) (T := T) (g := be_wo f lo) (lo := lo) 10 0 (T (bd_msk (be_wo f lo)))
  generalize be_pr L T (be_wo f lo) lo 10 0 (T (bd_msk (be_wo f lo))) = R at h1 h2 h3 ⊢
  have hb0 := hT _ hlt
  -- smaller sets have fewer lines
  have sub : ∀ (g : Nat → Bool), (∀ v, g v = true → f v = true) → ∀ u w, bm_E J (fun v => !g v) u w → bm_E J (fun v => !f v) u w := by
    rintro g hgf u w ⟨a, b, c, d, e⟩
    refine ⟨a, b, c, ?_, ?_⟩
    · have := hgf u (by simpa using d); simp [this]
    · have := hgf w (by simpa using e); simp [this]
  have wof : ∀ (g : Nat → Bool) (p : Nat), (∀ v, be_wo g p v = true → g v = true) := by
    intro g p v h
    unfold be_wo at h
    cases hgv : g v with
    | true => rfl
    | false => rw [hgv] at h; simp at h
  refine ⟨?_, fun n hn => ?_⟩
  · rcases h3 with h3 | ⟨q, -, q2, q3, q4, q5⟩
    · obtain ⟨⟨m, m1, m2⟩, -⟩ := hb0
      exact ⟨m, fun v hv h => ⟨sub _ (wof f lo) _ _ (m1 v hv h).1, (m1 v hv h).2⟩, by rw [h3]; exact m2⟩
    · have hq : q < 10 := by omega
      have hfq := wof f lo q q3
      have hql : q ≠ lo := by
        intro e
        rw [e] at q3
        simp [be_wo] at q3
      have hlt2 : bd_msk (be_wo (be_wo f lo) q) < bd_msk f := Nat.lt_trans (bd_msk_wo_lt hq q3) hlt
      obtain ⟨⟨m, m1, m2⟩, -⟩ := hT _ hlt2
      have nof : ∀ x, x < 10 → (be_wo (be_wo f lo) q x = false) → 10 ≤ m x := by
        intro x hx hfx
        refine Nat.not_lt.mp (fun h => ?_)
        have := (m1 x hx h).1.2.2.2.1
        simp [hfx] at this
      have hm : bm_M (bm_E J (fun v => !f v)) m := fun v hv h => ⟨sub _ (fun x hx => wof f lo x (wof _ q x hx)) _ _ (m1 v hv h).1, (m1 v hv h).2⟩
      have hE : bm_E J (fun v => !f v) lo q := ⟨hlo, hq, by rw [← hL lo q hlo hq]; exact q4, by simp [hflo], by simp [hfq]⟩
      obtain ⟨o1, o2⟩ := bm_on hG hm hE (nof lo hlo (by simp [be_wo])) (nof q hq (by simp [be_wo]))
      exact ⟨_, o1, by rw [q5]; omega⟩
  · by_cases c : n lo < 10
    · have hE := (hn lo hlo c).1
      have hmm := (hn lo hlo c).2
      have hne := bm_M.ne hG hn hlo c
      have hgp : be_wo f lo (n lo) = true := by
        have := hE.2.2.2.2
        simp [be_wo, hne]
        simpa using this
      have hLp : L (10 * lo + n lo) = true := by rw [hL lo (n lo) hlo c]; exact hE.2.2.1
      have h4 := h2 (n lo) (Nat.zero_le _) (by omega) hgp hLp
      have hlt2 : bd_msk (be_wo (be_wo f lo) (n lo)) < bd_msk f := Nat.lt_trans (bd_msk_wo_lt c hgp) hlt
      obtain ⟨-, hb⟩ := hT _ hlt2
      obtain ⟨o1, o2⟩ := bm_off hG hn hlo c
      have := hb _ (fun v hv h => ⟨by
        obtain ⟨⟨⟨k1, k2, k3, k4, k5⟩, k6, k7, k8, k9⟩, -⟩ := o1 v hv h
        refine ⟨k1, k2, k3, ?_, ?_⟩
        · simp [be_wo, k6, k7]; simpa using k4
        · simp only [be_wo]
          have : ∀ y, y ≠ lo → y ≠ n lo → (!f y) = false → (!((f y && !decide (y = lo)) && !decide (y = n lo))) = false := by
            intro y y1 y2 y3
            simp [y1, y2]
            simpa using y3
          exact this _ k8 k9 k5, (o1 v hv h).2⟩)
      omega
    · have := hb0.2 n (fun v hv h => by
        obtain ⟨⟨k1, k2, k3, k4, k5⟩, k6⟩ := hn v hv h
        have v1 : v ≠ lo := fun q => c (by rw [q] at h; exact h)
        have v2 : n v ≠ lo := fun q => by
          rw [q] at k6
          omega
        refine ⟨⟨k1, k2, k3, ?_, ?_⟩, k6⟩
        · simp [be_wo, v1]; simpa using k4
        · have : ∀ y, y ≠ lo → (!f y) = false → (!be_wo f lo y) = false := by
            intro y y1 y2
            simp [be_wo, y1]
            simpa using y2
          exact this _ v2 k5)
      omega
theorem be_wkF (hg : bm_gr J) (hL : bm_L J L) : ∀ (n s : Nat) (T : Nat → Nat), s + n = 1024 → 1 ≤ s → (∀ g, bd_msk g < s → bm_b J g (T (bd_msk g))) → ∀ g, bm_b J g (be_wk L n s T (bd_msk g)) := by
  intro n
  induction n with
  | zero =>
    intro s T hs h1 hT g
    exact hT g (by have := bd_msk_lt g; omega)
  | succ n ih =>
    intro s T hs h1 hT g
    unfold be_wk
    refine ih (s + 1) _ (by omega) (by omega) (fun g' hg' => ?_) g
    have hms : bd_msk (fun v => s.testBit v) = s := bd_msk_of (by omega)
    by_cases c : bd_msk g' = s
    · have e : va_up T s (be_pair L T (fun v => s.testBit v)) (bd_msk g') = be_pair L T (fun v => s.testBit v) := by simp [va_up, c]
      rw [e]
      have := be_pairF hg hL (T := T) (f := fun v => s.testBit v) (be_lo_lt s (by omega) (by omega)) (fun g2 h2 => hT g2 (by rw [hms] at h2; exact h2))
      refine bm_b_congr (fun v hv => ?_) this
      rw [← c, bd_msk_bit]
      simp [hv]
    · have e : va_up T s (be_pair L T (fun v => s.testBit v)) (bd_msk g') = T (bd_msk g') := by simp [va_up, c]
      rw [e]
      exact hT g' (by omega)
/-- the table after work() -/
theorem be_workF (hg : bm_gr J) (hL : bm_L J L) {T : Nat → Nat} (h0 : T 0 = 0) (g : Nat → Bool) : bm_b J g (be_work L T (bd_msk g)) := by
  refine be_wkF hg hL 1023 1 T rfl (by omega) (fun g' hg' => ?_) g
  have hz : bd_msk g' = 0 := by omega
  rw [hz, h0]
  have hgf : ∀ v, v < 10 → g' v = false := by
    intro v hv
    have := bd_msk_bit g' v
    rw [hz] at this
    simpa [hv] using this.symm
  refine ⟨⟨fun _ => 10, fun v hv h => absurd h (Nat.lt_irrefl 10), ?_⟩, fun n hn => ?_⟩
  · have : bm_free (fun _ => 10) = List.range 10 := by
      unfold bm_free
      rw [List.filter_eq_self]
      intro v hv
      simp
    rw [this]; simp
  · have : bm_free n = List.range 10 := by
      unfold bm_free
      rw [List.filter_eq_self]
      intro v hv
      have hv := List.mem_range.mp hv
      rw [decide_eq_true_eq]
      refine Nat.not_lt.mp (fun h => ?_)
      have := (hn v hv h).1.2.2.2.1
      simp [hgf v hv] at this
    rw [this]; simp
theorem bm_b_le {f : Nat → Bool} {c : Nat} (h : bm_b J f c) : c ≤ 5 := by
  obtain ⟨⟨m, -, h2⟩, -⟩ := h
  omega
theorem be_wk_far : ∀ (n s : Nat) (T : Nat → Nat) (x : Nat), s + n ≤ x → be_wk L n s T x = T x
  | 0, _, _, _, _ => rfl
  | n + 1, s, T, x, h => by
    unfold be_wk
    rw [be_wk_far n (s + 1) _ x (by omega)]
    simp [va_up, show x ≠ s by omega]
/-- the table stays small, and its first place 0 -/
theorem be_work_ok (hg : bm_gr J) (hL : bm_L J L) {T : Nat → Nat} (h0 : T 0 = 0) (hT : ∀ x, T x ≤ 5) : be_work L T 0 = 0 ∧ ∀ x, be_work L T x ≤ 5 := by
  have hz : bd_msk (fun _ => false) = 0 := by decide +kernel
  constructor
  · have h1 := be_workF hg hL h0 (fun _ => false)
    obtain ⟨⟨m, m1, m2⟩, -⟩ := h1
    rw [hz] at m2
    have : bm_free m = List.range 10 := by
      unfold bm_free
      rw [List.filter_eq_self]
      intro v hv
      have hv := List.mem_range.mp hv
      rw [decide_eq_true_eq]
      refine Nat.not_lt.mp (fun h => ?_)
      have := (m1 v hv h).1.2.2.2.1
      simp at this
    rw [this, List.length_range] at m2
    generalize be_work L T 0 = z at m2 ⊢
    omega
  · intro x
    by_cases c : x < 1024
    · have := bm_b_le (be_workF hg hL h0 (fun v => x.testBit v))
      rw [bd_msk_of c] at this
      exact this
    · unfold be_work
      rw [be_wk_far 1023 1 T x (by omega)]
      exact hT x
/-- spare: a point can be left over just if the rest pairs as well -/
theorem bm_miss_iff (hg : bm_gr J) {m : Nat → Nat} {c d a : Nat} (ha : a < 10) (hM : bm_M (bm_E J (fun _ => false)) m) (hm : 2 * c + (bm_free m).length = 10) (hc : bm_best (bm_E J (fun _ => false)) c) (hd : bm_b J (be_wo (fun _ => true) a) d) : bm_miss1 (bm_E J (fun _ => false)) m a ↔ d = c := by
  have hE : ∀ u w, bm_E J (fun v => !be_wo (fun _ => true) a v) u w ↔ (bm_E J (fun _ => false) u w ∧ u ≠ a ∧ w ≠ a) := by
    intro u w
    unfold bm_E be_wo
    simp
    grind
  constructor
  · rintro ⟨n, n1, n2, n3⟩
    have h1 : bm_M (bm_E J (fun v => !be_wo (fun _ => true) a v)) n := by
      intro v hv h
      obtain ⟨k1, k2⟩ := n1 v hv h
      refine ⟨(hE _ _).mpr ⟨k1, fun q => ?_, fun q => ?_⟩, k2⟩
      · rw [q] at h; omega
      · rw [q] at k2; omega
    have h2 := hd.2 n h1
    obtain ⟨⟨m', m1, m2⟩, -⟩ := hd
    have h3 := hc.2 m' (fun v hv h => ⟨((hE _ _).mp (m1 v hv h).1).1, (m1 v hv h).2⟩)
    omega
  · intro e
    obtain ⟨⟨m', m1, m2⟩, -⟩ := hd
    refine ⟨m', fun v hv h => ⟨((hE _ _).mp (m1 v hv h).1).1, (m1 v hv h).2⟩, by omega, ?_⟩
    refine Nat.not_lt.mp (fun h => ?_)
    exact ((hE _ _).mp (m1 a ha h).1).2.1 rfl
end BMDP
end
section
/-! plain law 10: parts and guards of both sides are alike -/
/-- P is closed within w -/
def bm_cz (J : Nat → Nat → Bool) (w P : Nat → Bool) : Prop := ∀ u v, u < 10 → v < 10 → P u = true → J u v = true → w v = true → P v = true
def bm_in (P Q : Nat → Bool) : Prop := ∀ v, v < 10 → P v = true → Q v = true
theorem bm_in.rf (P : Nat → Bool) : bm_in P P := fun _ _ h => h
theorem bm_in.tr {P Q R : Nat → Bool} (h : bm_in P Q) (g : bm_in Q R) : bm_in P R := fun v hv q => g v hv (h v hv q)
theorem bm_cz.eq {J : Nat → Nat → Bool} {w P Q : Nat → Bool} (h : bm_cz J w P) (h1 : bm_in P Q) (h2 : bm_in Q P) : bm_cz J w Q := fun u v hu hv a b c => h1 v hv (h u v hu hv (h2 u hu a) b c)
/-- a round: grows, stays within what is closed, and if it does not grow its set is closed -/
def bm_rd (J : Nat → Nat → Bool) (w : Nat → Bool) (F : (Nat → Bool) → Nat → Bool) : Prop :=
  (∀ P, bm_in P (F P)) ∧ (∀ P Q, bm_cz J w Q → bm_in P Q → bm_in (F P) Q) ∧ ∀ P, bm_in (F P) P → bm_cz J w P
def bm_itr (F : Nat → (Nat → Bool) → Nat → Bool) : Nat → Nat → (Nat → Bool) → Nat → Bool
  | 0, _, P => P
  | n + 1, j, P => bm_itr F n (j + 1) (F j P)
def bm_ct (P : Nat → Bool) : Nat := ((List.range 10).filter P).length
theorem bm_ct_nodup (P : Nat → Bool) : ((List.range 10).filter P).Nodup := List.Pairwise.filter _ List.nodup_range
theorem bm_ct_10 (P : Nat → Bool) : bm_ct P ≤ 10 := bm_len10 (bm_ct_nodup P) (fun x hx => List.mem_range.mp (List.mem_filter.mp hx).1)
theorem bm_ct_lt {P Q : Nat → Bool} (h : bm_in P Q) {x : Nat} (hx : x < 10) (hq : Q x = true) (hp : ¬ P x = true) : bm_ct P + 1 ≤ bm_ct Q := by
  have h1 : (x :: (List.range 10).filter P).Nodup := List.nodup_cons.mpr ⟨fun z => hp (List.mem_filter.mp z).2, bm_ct_nodup P⟩
  have := bm_len _ ((List.range 10).filter Q) h1 (fun y hy => by
    rcases List.mem_cons.mp hy with e | hy
    · rw [e]; exact List.mem_filter.mpr ⟨List.mem_range.mpr hx, hq⟩
    · obtain ⟨a, b⟩ := List.mem_filter.mp hy
      exact List.mem_filter.mpr ⟨a, h y (List.mem_range.mp a) b⟩)
  exact this
theorem bm_itr_ok {J : Nat → Nat → Bool} {w : Nat → Bool} {F : Nat → (Nat → Bool) → Nat → Bool} (hF : ∀ j, bm_rd J w (F j)) : ∀ (n j : Nat) (P : Nat → Bool), bm_in P (bm_itr F n j P) ∧ (∀ Q, bm_cz J w Q → bm_in P Q → bm_in (bm_itr F n j P) Q) ∧ (bm_cz J w (bm_itr F n j P) ∨ bm_ct P + n ≤ bm_ct (bm_itr F n j P))
  | 0, _, P => ⟨bm_in.rf P, fun _ _ h => h, Or.inr (Nat.le_refl _)⟩
  | n + 1, j, P => by
    obtain ⟨f1, f2, f3⟩ := hF j
    obtain ⟨h1, h2, h3⟩ := bm_itr_ok hF n (j + 1) (F j P)
    have g1 : bm_in P (bm_itr F n (j + 1) (F j P)) := (f1 P).tr h1
    have g2 : ∀ Q, bm_cz J w Q → bm_in P Q → bm_in (bm_itr F n (j + 1) (F j P)) Q := fun Q q1 q2 => h2 Q q1 (f2 P Q q1 q2)
    refine ⟨g1, g2, ?_⟩
    show bm_cz J w (bm_itr F n (j + 1) (F j P)) ∨ bm_ct P + (n + 1) ≤ bm_ct (bm_itr F n (j + 1) (F j P))
    by_cases c : bm_in (F j P) P
    · have hc := f3 P c
      exact Or.inl (hc.eq g1 (g2 P hc (bm_in.rf P)))
    · have : ∃ x, x < 10 ∧ F j P x = true ∧ ¬ P x = true := by
        refine Classical.byContradiction (fun q => c (fun v hv h => ?_))
        refine Classical.byContradiction (fun q2 => q ⟨v, hv, h, q2⟩)
      obtain ⟨x, x1, x2, x3⟩ := this
      have := bm_ct_lt (f1 P) x1 x2 x3
      rcases h3 with h3 | h3
      · exact Or.inl h3
      · exact Or.inr (by omega)
/-- ten rounds from one point: the least closed set that holds it -/
def bm_least (J : Nat → Nat → Bool) (w : Nat → Bool) (x : Nat) (C : Nat → Bool) : Prop := C x = true ∧ bm_cz J w C ∧ ∀ Q, bm_cz J w Q → Q x = true → bm_in C Q
theorem bm_itr_least {J : Nat → Nat → Bool} {w : Nat → Bool} {F : Nat → (Nat → Bool) → Nat → Bool} (hF : ∀ j, bm_rd J w (F j)) {x : Nat} (hx : x < 10) : bm_least J w x (bm_itr F 10 0 (fun v => decide (v = x))) := by
  obtain ⟨h1, h2, h3⟩ := bm_itr_ok hF 10 0 (fun v => decide (v = x))
  refine ⟨h1 x hx (by simp), ?_, fun Q q1 q2 => h2 Q q1 (fun v _ h => by rw [of_decide_eq_true h]; exact q2)⟩
  rcases h3 with h3 | h3
  · exact h3
  · exfalso
    have h4 := bm_ct_10 (bm_itr F 10 0 (fun v => decide (v = x)))
    have h5 := bm_ct_lt (P := fun _ => false) (Q := fun v => decide (v = x)) (fun v _ h => by cases h) hx (by simp) (by simp)
    omega
theorem bm_least.same {J : Nat → Nat → Bool} {w : Nat → Bool} {x : Nat} {C D : Nat → Bool} (h : bm_least J w x C) (g : bm_least J w x D) {v : Nat} (hv : v < 10) : C v = D v := by
  have h1 := h.2.2 D g.2.1 g.1 v hv
  have h2 := g.2.2 C h.2.1 h.1 v hv
  cases hc : C v with
  | true => rw [h1 hc]
  | false =>
    cases hd : D v with
    | true => rw [h2 hd] at hc; cases hc
    | false => rfl
/-- the desk's round -/
theorem bd_po2_ok {J : Nat → Nat → Bool} {w : Nat → Bool} : ∀ (n p : Nat) (P : Nat → Bool), p + n ≤ 10 → bm_in P (bd_po2 J w n p P) ∧ (∀ Q, bm_cz J w Q → bm_in P Q → bm_in (bd_po2 J w n p P) Q) ∧ (bm_in (bd_po2 J w n p P) P → ∀ u v, p ≤ u → u < p + n → v < 10 → P u = true → J u v = true → w v = true → P v = true)
  | 0, p, P, _ => ⟨bm_in.rf P, fun _ _ h => h, fun _ u v h1 h2 => by omega⟩
  | n + 1, p, P, hp => by
    obtain ⟨h1, h2, h3⟩ := bd_po2_ok (J := J) (w := w) n (p + 1) (fun v => P v || (P p && (J p v && w v))) (by omega)
    have g0 : bm_in P (fun v => P v || (P p && (J p v && w v))) := fun v _ h => by
      show (P v || _) = true
      rw [h]; rfl
    refine ⟨g0.tr h1, fun Q q1 q2 => h2 Q q1 (fun v hv h => ?_), fun hin u v u1 u2 hv a b c => ?_⟩
    · have h : (P v || (P p && (J p v && w v))) = true := h
      rw [Bool.or_eq_true, Bool.and_eq_true, Bool.and_eq_true] at h
      rcases h with h | ⟨a, b, c⟩
      · exact q2 v hv h
      · exact q1 p v (by omega) hv (q2 p (by omega) a) b c
    · have hin : bm_in (bd_po2 J w n (p + 1) (fun v => P v || (P p && (J p v && w v)))) P := hin
      by_cases e : u = p
      · subst e
        refine hin v hv (h1 v hv ?_)
        show (P v || (P u && (J u v && w v))) = true
        rw [a, b, c]; simp
      · exact hin v hv (h1 v hv (h3 (hin.tr g0) u v (by omega) (by omega) hv (g0 u (by omega) a) b c))
theorem bd_po2_rd (J : Nat → Nat → Bool) (w : Nat → Bool) : bm_rd J w (bd_po2 J w 10 0) :=
  ⟨fun P => (bd_po2_ok 10 0 P (by omega)).1, fun P => (bd_po2_ok 10 0 P (by omega)).2.1, fun P h u v hu hv => (bd_po2_ok 10 0 P (by omega)).2.2 h u v (Nat.zero_le _) (by omega) hv⟩
theorem bd_po1_itr (J : Nat → Nat → Bool) (w : Nat → Bool) : ∀ (n j : Nat) (P : Nat → Bool), bd_po1 J w n P = bm_itr (fun _ => bd_po2 J w 10 0) n j P
  | 0, _, _ => rfl
  | n + 1, j, P => bd_po1_itr J w n (j + 1) (bd_po2 J w 10 0 P)
theorem bd_po_least (J : Nat → Nat → Bool) (w : Nat → Bool) {x : Nat} (hx : x < 10) : bm_least J w x (bd_po1 J w 10 (fun v => decide (v = x))) := by
  rw [bd_po1_itr J w 10 0]
  exact bm_itr_least (fun _ => bd_po2_rd J w) hx
/-- the model's round -/
theorem be_cl_app {L w : Nat → Bool} : ∀ (n k i : Nat) (P : Nat → Bool), be_cl L w (n + k) i P = be_cl L w k (i + n) (be_cl L w n i P)
  | 0, k, i, P => by
    rw [Nat.zero_add, Nat.add_zero]; rfl
  | n + 1, k, i, P => by
    rw [show n + 1 + k = (n + k) + 1 by omega]
    show be_cl L w (n + k) (i + 1) _ = be_cl L w k (i + (n + 1)) (be_cl L w n (i + 1) _)
    rw [be_cl_app n k (i + 1), show i + 1 + n = i + (n + 1) by omega]
theorem be_cl_ok {J : Nat → Nat → Bool} {L w : Nat → Bool} (hL : bm_L J L) : ∀ (n i : Nat) (P : Nat → Bool), bm_in P (be_cl L w n i P) ∧ (∀ Q, bm_cz J w Q → bm_in P Q → bm_in (be_cl L w n i P) Q) ∧ (bm_in (be_cl L w n i P) P → ∀ k, i ≤ k → k < i + n → P (k / 10 % 10) = true → J (k / 10 % 10) (k % 10) = true → w (k % 10) = true → P (k % 10) = true)
  | 0, i, P => ⟨bm_in.rf P, fun _ _ h => h, fun _ k h1 h2 => by omega⟩
  | n + 1, i, P => by
    have hi1 : i / 10 % 10 < 10 := Nat.mod_lt _ (by omega)
    have hi2 : i % 10 < 10 := Nat.mod_lt _ (by omega)
    have hJ := hL _ _ hi1 hi2
    obtain ⟨P', hP'⟩ : ∃ P', P' = (if L (10 * (i / 10 % 10) + i % 10) = true ∧ P (i / 10 % 10) = true ∧ w (i % 10) = true then fun v => P v || decide (v = i % 10) else P) := ⟨_, rfl⟩
    have hu : be_cl L w (n + 1) i P = be_cl L w n (i + 1) P' := by rw [hP']; rfl
    rw [hu]
    obtain ⟨h1, h2, h3⟩ := be_cl_ok hL n (i + 1) P'
    have g0 : bm_in P P' := fun v _ h => by
      rw [hP']
      split
      · show (P v || _) = true
        rw [h]; rfl
      · exact h
    refine ⟨g0.tr h1, fun Q q1 q2 => h2 Q q1 (fun v hv h => ?_), fun hin k k1 k2 a b c => ?_⟩
    · rw [hP'] at h
      split at h
      · rename_i z
        have h : (P v || decide (v = i % 10)) = true := h
        rw [Bool.or_eq_true, decide_eq_true_eq] at h
        rcases h with h | h
        · exact q2 v hv h
        · rw [h]
          exact q1 _ _ hi1 hi2 (q2 _ hi1 z.2.1) (by rw [← hJ]; exact z.1) z.2.2
      · exact q2 v hv h
    · have hk1 : k / 10 % 10 < 10 := Nat.mod_lt _ (by omega)
      have hk2 : k % 10 < 10 := Nat.mod_lt _ (by omega)
      by_cases e : k = i
      · subst e
        refine hin _ hi2 (h1 _ hi2 ?_)
        rw [hP', if_pos ⟨by rw [hJ]; exact b, a, c⟩]
        simp
      · exact hin _ hk2 (h1 _ hk2 (h3 (hin.tr g0) k (by omega) (by omega) (g0 _ hk1 a) b c))
theorem be_cl_rd {J : Nat → Nat → Bool} {L : Nat → Bool} (hL : bm_L J L) (w : Nat → Bool) (j : Nat) : bm_rd J w (be_cl L w 100 (100 * j)) := by
  refine ⟨fun P => (be_cl_ok hL 100 (100 * j) P).1, fun P => (be_cl_ok hL 100 (100 * j) P).2.1, fun P h u v hu hv a b c => ?_⟩
  have h1 := (be_cl_ok hL 100 (100 * j) P).2.2 h (100 * j + (10 * u + v)) (by omega) (by omega)
  rw [show (100 * j + (10 * u + v)) / 10 % 10 = u by omega, show (100 * j + (10 * u + v)) % 10 = v by omega] at h1
  exact h1 a b c
theorem be_cl_itr {L w : Nat → Bool} : ∀ (n j : Nat) (P : Nat → Bool), be_cl L w (100 * n) (100 * j) P = bm_itr (fun j => be_cl L w 100 (100 * j)) n j P
  | 0, _, _ => rfl
  | n + 1, j, P => by
    rw [show 100 * (n + 1) = 100 + 100 * n by omega, be_cl_app, show 100 * j + 100 = 100 * (j + 1) by omega]
    exact be_cl_itr n (j + 1) _
theorem be_cl_least {J : Nat → Nat → Bool} {L : Nat → Bool} (hL : bm_L J L) (w : Nat → Bool) {x : Nat} (hx : x < 10) : bm_least J w x (be_cl L w 1000 0 (fun v => decide (v = x))) := by
  have h := be_cl_itr (L := L) (w := w) 10 0 (fun v => decide (v = x))
  rw [show be_cl L w 1000 0 (fun v => decide (v = x)) = be_cl L w (100 * 10) (100 * 0) (fun v => decide (v = x)) from rfl, h]
  exact bm_itr_least (fun j => be_cl_rd hL w j) hx
theorem be_cl_ext {L w w' : Nat → Bool} (h : ∀ v, v < 10 → w v = w' v) : ∀ (n i : Nat) (P : Nat → Bool), be_cl L w n i P = be_cl L w' n i P
  | 0, _, _ => rfl
  | n + 1, i, P => by
    unfold be_cl
    rw [h (i % 10) (Nat.mod_lt _ (by omega))]
    exact be_cl_ext h n (i + 1) _
theorem be_pt_ext {L : Nat → Bool} : ∀ (n : Nat) (f g : Nat → Bool) (c : Nat), (∀ v, v < 10 → f v = g v) → be_pt L n f c = be_pt L n g c
  | 0, f, g, c, h => by
    unfold be_pt
    rw [bd_msk_ext h]
  | n + 1, f, g, c, h => by
    unfold be_pt
    rw [bd_msk_ext h, be_lo_ext 10 0 (by omega) h, be_cl_ext h]
    split
    · rfl
    · refine be_pt_ext n _ _ _ (fun v hv => ?_)
      show (f v && _) = (g v && _)
      rw [h v hv]
theorem be_lo_at {f : Nat → Bool} {p : Nat} (hp : p < 10) (hf : f p = true) (h0 : ∀ v, v < p → f v = false) : ∀ (n k : Nat), k ≤ p → p < k + n → be_lo f n k = p
  | 0, k, h1, h2 => by omega
  | n + 1, k, h1, h2 => by
    unfold be_lo
    by_cases e : k = p
    · rw [e, if_pos hf]
    · rw [h0 k (by omega), if_neg (by decide)]
      exact be_lo_at hp hf h0 n (k + 1) (by omega) (by omega)
/-- the parts are counted alike -/
theorem be_pt_desk {J : Nat → Nat → Bool} {L : Nat → Bool} (hL : bm_L J L) : ∀ (n p k c : Nat) (f : Nat → Bool), p + n = 10 → n ≤ k → (∀ v, v < p → f v = false) → be_pt L k f c = some (bd_pt J n p f c) := by
  intro n
  induction n with
  | zero =>
    intro p k c f hp hk h0
    have hz : bd_msk f = 0 := by
      rw [bd_msk_ext (g := fun _ => false) (fun v hv => h0 v (by omega))]
      decide +kernel
    show be_pt L k f c = some c
    cases k with
    | zero =>
      show bd_gd _ _ = _
      rw [bd_gd_t hz]
    | succ k =>
      unfold be_pt
      rw [if_pos hz]
  | succ n ih =>
    intro p k c f hp hk h0
    have hp10 : p < 10 := by omega
    unfold bd_pt
    by_cases hf : f p = true
    · rw [if_pos hf]
      obtain ⟨k, rfl⟩ : ∃ j, k = j + 1 := ⟨k - 1, by omega⟩
      have hz : bd_msk f ≠ 0 := by
        intro z
        have := bd_msk_bit f p
        rw [z, hf] at this
        simp [hp10] at this
      unfold be_pt
      rw [if_neg hz, be_lo_at hp10 hf h0 10 0 (Nat.zero_le _) (by omega)]
      have hpo := bd_po_least J f hp10
      have hcl := be_cl_least hL f hp10
      rw [be_pt_ext k _ (fun v => f v && !bd_po1 J f 10 (fun v => decide (v = p)) v) (c + 1) (fun v hv => by
        show (f v && !be_cl L f 1000 0 (fun v => decide (v = p)) v) = (f v && !bd_po1 J f 10 (fun v => decide (v = p)) v)
        rw [hcl.same hpo hv])]
      refine ih (p + 1) k (c + 1) _ (by omega) (by omega) (fun v hv => ?_)
      show (f v && _) = false
      by_cases e : v = p
      · rw [e, hpo.1]; simp
      · rw [h0 v (by omega)]; rfl
    · rw [if_neg hf]
      refine ih (p + 1) k c f (by omega) (by omega) (fun v hv => ?_)
      by_cases e : v = p
      · rw [e]; simpa using hf
      · exact h0 v (by omega)
theorem bd_gu_iff {J : Nat → Nat → Bool} {S : Nat → Bool} {v : Nat} : ∀ (n p : Nat) (X : Nat → Bool), bd_gu J S n p X v = true ↔ (X v = true ∨ ∃ u, p ≤ u ∧ u < p + n ∧ S u = true ∧ J u v = true)
  | 0, p, X => ⟨Or.inl, fun h => h.elim id (fun ⟨u, a, b, _⟩ => by omega)⟩
  | n + 1, p, X => by
    unfold bd_gu
    rw [bd_gu_iff n (p + 1)]
    constructor
    · rintro (h | ⟨u, a, b, c⟩)
      · rw [Bool.or_eq_true, Bool.and_eq_true] at h
        rcases h with h | h
        · exact Or.inl h
        · exact Or.inr ⟨p, Nat.le_refl _, by omega, h⟩
      · exact Or.inr ⟨u, by omega, by omega, c⟩
    · rintro (h | ⟨u, a, b, c⟩)
      · exact Or.inl (by rw [h]; rfl)
      · by_cases e : u = p
        · subst e
          exact Or.inl (by rw [c.1, c.2]; simp)
        · exact Or.inr ⟨u, by omega, by omega, c⟩
theorem be_sp_iff {T : Nat → Nat} {v : Nat} : ∀ (n p : Nat) (S : Nat → Bool), be_sp T n p S v = true ↔ (S v = true ∨ (p ≤ v ∧ v < p + n ∧ T (bd_msk (be_wo (fun _ => true) v)) = T 1023))
  | 0, p, S => ⟨Or.inl, fun h => h.elim id (fun ⟨a, b, _⟩ => by omega)⟩
  | n + 1, p, S => by
    unfold be_sp
    rw [be_sp_iff n (p + 1)]
    by_cases c : T (bd_msk (be_wo (fun _ => true) p)) = T 1023
    · rw [if_pos c, Bool.or_eq_true, decide_eq_true_eq]
      constructor
      · rintro ((h | h) | ⟨a, b, e⟩)
        · exact Or.inl h
        · exact Or.inr ⟨by omega, by omega, by rw [h]; exact c⟩
        · exact Or.inr ⟨by omega, by omega, e⟩
      · rintro (h | ⟨a, b, e⟩)
        · exact Or.inl (Or.inl h)
        · by_cases q : v = p
          · exact Or.inl (Or.inr q)
          · exact Or.inr ⟨by omega, by omega, e⟩
    · rw [if_neg c]
      constructor
      · rintro (h | ⟨a, b, e⟩)
        · exact Or.inl h
        · exact Or.inr ⟨by omega, by omega, e⟩
      · rintro (h | ⟨a, b, e⟩)
        · exact Or.inl h
        · by_cases q : v = p
          · rw [q] at e; exact absurd e c
          · exact Or.inr ⟨by omega, by omega, e⟩
theorem be_nr_iff {L S : Nat → Bool} {v : Nat} : ∀ (n i : Nat) (X : Nat → Bool), be_nr L S n i X v = true ↔ (X v = true ∨ ∃ k, i ≤ k ∧ k < i + n ∧ L k = true ∧ S (k / 10) = true ∧ v = k % 10)
  | 0, i, X => ⟨Or.inl, fun h => h.elim id (fun ⟨u, a, b, _⟩ => by omega)⟩
  | n + 1, i, X => by
    unfold be_nr
    rw [be_nr_iff n (i + 1)]
    by_cases c : L i = true ∧ S (i / 10) = true
    · rw [if_pos c, Bool.or_eq_true, decide_eq_true_eq]
      constructor
      · rintro ((h | h) | ⟨k, a, b, e⟩)
        · exact Or.inl h
        · exact Or.inr ⟨i, Nat.le_refl _, by omega, c.1, c.2, h⟩
        · exact Or.inr ⟨k, by omega, by omega, e⟩
      · rintro (h | ⟨k, a, b, e⟩)
        · exact Or.inl (Or.inl h)
        · by_cases q : k = i
          · rw [q] at e; exact Or.inl (Or.inr e.2.2)
          · exact Or.inr ⟨k, by omega, by omega, e⟩
    · rw [if_neg c]
      constructor
      · rintro (h | ⟨k, a, b, e⟩)
        · exact Or.inl h
        · exact Or.inr ⟨k, by omega, by omega, e⟩
      · rintro (h | ⟨k, a, b, e⟩)
        · exact Or.inl h
        · by_cases q : k = i
          · rw [q] at e; exact absurd ⟨e.1, e.2.1⟩ c
          · exact Or.inr ⟨k, by omega, by omega, e⟩
theorem bm_bool {a b : Bool} (h : a = true ↔ b = true) : a = b := by
  cases a <;> cases b <;> simp at h <;> rfl
/-- the guards are alike -/
theorem be_gd_desk {J : Nat → Nat → Bool} {L S : Nat → Bool} {T : Nat → Nat} (hL : bm_L J L) (hS : ∀ v, v < 10 → S v = decide (T (bd_msk (be_wo (fun _ => true) v)) = T 1023)) {v : Nat} (hv : v < 10) : (bd_gu J S 10 0 (fun _ => false) v && !S v) = be_gd L T v := by
  have e : ∀ u, u < 10 → be_sp T 10 0 (fun _ => false) u = S u := fun u hu => bm_bool (by
    rw [be_sp_iff, hS u hu, decide_eq_true_eq]
    exact ⟨fun h => h.elim (fun q => by cases q) (fun q => q.2.2), fun h => Or.inr ⟨Nat.zero_le _, by omega, h⟩⟩)
  unfold be_gd
  rw [e v hv]
  congr 1
  refine bm_bool ?_
  rw [bd_gu_iff, be_nr_iff]
  constructor
  · rintro (h | ⟨u, a, b, c, d⟩)
    · cases h
    · refine Or.inr ⟨10 * u + v, Nat.zero_le _, by omega, by rw [hL u v (by omega) hv]; exact d, ?_, by omega⟩
      rw [show (10 * u + v) / 10 = u by omega, e u (by omega)]
      exact c
  · rintro (h | ⟨k, a, b, c, d, f⟩)
    · cases h
    · have hk : k / 10 < 10 := by omega
      refine Or.inr ⟨k / 10, Nat.zero_le _, by omega, by rw [← e _ hk]; exact d, ?_⟩
      rw [← hL _ v hk hv, show 10 * (k / 10) + v = k by omega]
      exact c
end
section
/-! each public method: the desk and the model answer alike, and the tie between them stays -/
set_option maxRecDepth 100000
/-- the tie between a desk and a model -/
def bl_I (st : bd_DS) (ms : be_MS) : Prop := bm_gr st.1 ∧ bm_L st.1 ms.1 ∧ ms.2 0 = 0 ∧ ∀ x, ms.2 x ≤ 5
theorem bl_gr {J : Nat → Nat → Bool} (h : bm_gr J) {a c : Nat} (hac : a ≠ c) (t : Bool) : bm_gr (bd_set J a c t) := by
  refine ⟨fun u w hu hw => ?_, fun u hu => ?_⟩
  · unfold bd_set
    rw [h.1 u w hu hw]
    by_cases c1 : (u = a ∧ w = c) ∨ (u = c ∧ w = a)
    · rw [if_pos c1, if_pos (c1.elim (fun q => Or.inr ⟨q.2, q.1⟩) (fun q => Or.inl ⟨q.2, q.1⟩))]
    · rw [if_neg c1, if_neg (fun q => c1 (q.elim (fun q => Or.inr ⟨q.2, q.1⟩) (fun q => Or.inl ⟨q.2, q.1⟩)))]
  · unfold bd_set
    rw [if_neg (fun q => q.elim (fun q => hac (q.1.symm.trans q.2)) (fun q => hac (q.2.symm.trans q.1)))]
    exact h.2 u hu
theorem bl_L {J : Nat → Nat → Bool} {L : Nat → Bool} (h : bm_L J L) {a c : Nat} (ha : a < 10) (hc : c < 10) (t : Bool) : bm_L (bd_set J a c t) (be_set L a c t) := by
  intro u w hu hw
  unfold bd_set be_set va_up
  by_cases c1 : 10 * u + w = 10 * c + a
  · have : u = c ∧ w = a := by omega
    simp only [c1, if_true]
    rw [if_pos (Or.inr this)]
  · by_cases c2 : 10 * u + w = 10 * a + c
    · have : u = a ∧ w = c := by omega
      rw [if_neg c1, if_pos c2, if_pos (Or.inl this)]
    · rw [if_neg c1, if_neg c2, if_neg (fun q => q.elim (fun q => c2 (by rw [q.1, q.2])) (fun q => c1 (by rw [q.1, q.2])))]
      exact h u w hu hw
section BLO
variable {J : Nat → Nat → Bool} {L : Nat → Bool} {T : Nat → Nat}
theorem bl_Imk {st : bd_DS} (hg : bm_gr st.1) (hL : bm_L st.1 L) (h0 : T 0 = 0) (hT : ∀ x, T x ≤ 5) : bl_I st (L, T) := ⟨hg, hL, h0, hT⟩
theorem bl_work {st : bd_DS} (hg : bm_gr st.1) (hL : bm_L st.1 L) (h0 : T 0 = 0) (hT : ∀ x, T x ≤ 5) : bl_I st (L, be_work L T) :=
  bl_Imk hg hL (be_work_ok hg hL h0 hT).1 (be_work_ok hg hL h0 hT).2
theorem bl_all (hg : bm_gr J) (hL : bm_L J L) (h0 : T 0 = 0) : bm_best (bm_E J (fun _ => false)) (be_work L T 1023) := by
  have h := be_workF hg hL h0 (fun _ => true)
  rw [be_full1] at h
  exact h
/-- pairWithout: the count of the model's table -/
theorem bl_pw (hg : bm_gr J) (hL : bm_L J L) (h0 : T 0 = 0) (hT : ∀ x, T x ≤ 5) (ab f : Nat → Bool) (hf : ∀ v, v < 10 → ab v = !f v) (m : Nat → Nat) (s : bd_SS) : ∃ (m1 : Nat → Nat) (o1 : Nat → Bool) (r1 b1 : Nat → Nat) (i1 p1 : Nat → Bool) (qe1 : Nat) (q1 : Nat → Nat), bd_pairWithout J ab m s = some (be_work L T (bd_msk f), m1, (o1, r1, b1, i1, p1, qe1, q1)) := by
  obtain ⟨c', m', ⟨o1, r1, b1, i1, p1, qe1, q1⟩, hF, -, -, hb, -⟩ := bm_pairWithoutF (ab := ab) hg m s
  have h := be_workF hg hL h0 f
  have e : c' = be_work L T (bd_msk f) := hb.eq (bm_best.congr h (bm_E_congr (fun v hv => (hf v hv).symm)))
  exact ⟨m', o1, r1, b1, i1, p1, qe1, q1, by rw [← e]; exact hF⟩
/-- pairWithout(0), spares() -/
theorem bl_sp (hg : bm_gr J) (hL : bm_L J L) (h0 : T 0 = 0) (hT : ∀ x, T x ≤ 5) (m : Nat → Nat) (s : bd_SS) : ∃ (cnt : Nat) (m1 : Nat → Nat) (o1 : Nat → Bool) (r1 b1 : Nat → Nat) (i1 p1 : Nat → Bool) (qe1 : Nat) (q1 : Nat → Nat) (S : Nat → Bool) (o2 : Nat → Bool) (r2 b2 : Nat → Nat) (i2 p2 : Nat → Bool) (qe2 : Nat) (q2 : Nat → Nat), bd_pairWithout J (fun _ => false) m s = some (cnt, m1, (o1, r1, b1, i1, p1, qe1, q1)) ∧ bd_sp J (fun _ => false) m1 10 0 (fun _ => false) (o1, r1, b1, i1, p1, qe1, q1) = some (S, (o2, r2, b2, i2, p2, qe2, q2)) ∧ ∀ v, v < 10 → S v = decide (be_work L T (bd_msk (be_wo (fun _ => true) v)) = be_work L T 1023) := by
  obtain ⟨c', m', ⟨o1, r1, b1, i1, p1, qe1, q1⟩, hF, hM, hc, hb, -⟩ := bm_pairWithoutF (ab := fun _ => false) hg m s
  obtain ⟨S, ⟨o2, r2, b2, i2, p2, qe2, q2⟩, hF2, hS⟩ := bm_sparesF (ab := fun _ => false) hg (fun _ => rfl) hM (fun n hn => by have := hb.2 n hn; omega) (o1, r1, b1, i1, p1, qe1, q1)
  have e : be_work L T 1023 = c' := (bl_all hg hL h0).eq hb
  refine ⟨c', m', o1, r1, b1, i1, p1, qe1, q1, S, o2, r2, b2, i2, p2, qe2, q2, hF, hF2, fun v hv => bm_bool ?_⟩
  rw [hS v hv, decide_eq_true_eq, e]
  exact bm_miss_iff hg hv hM hc hb (be_workF hg hL h0 _)
end BLO
/-- both sides' contracts for a call: the same answer, the tie again -/
def bl_op (l : Launch) (y0 : MethodName) (c0 : ByteArray) (n0 f0 lo0 : Nat) (y1 : MethodName) (c1 : ByteArray) (n1 f1 lo1 : Nat) (As : List Value) (st : bd_DS) (ms : be_MS) : Prop :=
  ∃ (v : Int32) (st' : bd_DS) (ms' : be_MS), bl_I st' ms' ∧ (∀ (D : va_G) (h : Nat → Nat) (d : Nat → ClassId) (sz : Nat), bd_MI l y0 c0 n0 (some .int) f0 lo0 D h d sz As st v st') ∧ ∀ (D : va_G) (h : Nat → Nat) (d : Nat → ClassId) (sz : Nat), be_MI l y1 c1 n1 (some .int) f1 lo1 D h d sz As ms v ms'
theorem bl_join (l : Launch) {st : bd_DS} {ms : be_MS} (hI : bl_I st ms) (x y : Int32) : bl_op l yX0_join cX0_join 4 1 22 yX1_join cX1_join 3 2 41 [.int x, .int y] st ms := by
  obtain ⟨J, ab, mm, o, r, b, i, pp, qe, q⟩ := st
  obtain ⟨L, T⟩ := ms
  cases hp : bd_pair x y with
  | false => exact ⟨_, _, _, hI, fun D h d sz => bd_m_join_bad l D h d sz J ab mm o r b i pp qe q x y hp, fun D h d sz => be_m_join_bad l D h d sz L T x y hp⟩
  | true =>
    obtain ⟨a, c, ha, hc, hac, rfl, rfl⟩ := bd_pair_of hp
    obtain ⟨hg, hL, h0, hT⟩ : bm_gr J ∧ bm_L J L ∧ T 0 = 0 ∧ ∀ x, T x ≤ 5 := hI
    have e : L (10 * a + c) = J a c := hL a c ha hc
    refine ⟨_, (bd_set J a c true, ab, mm, o, r, b, i, pp, qe, q), (be_set L a c true, T), ⟨bl_gr hg hac true, bl_L hL ha hc true, h0, hT⟩, fun D h d sz => bd_m_join l D h d sz J ab mm o r b i pp qe q a c ha hc hac, fun D h d sz => ?_⟩
    have := be_m_join l D h d sz L T a c ha hc hac
    rw [e] at this
    exact this
theorem bl_part (l : Launch) {st : bd_DS} {ms : be_MS} (hI : bl_I st ms) (x y : Int32) : bl_op l yX0_part cX0_part 4 1 22 yX1_part cX1_part 3 2 41 [.int x, .int y] st ms := by
  obtain ⟨J, ab, mm, o, r, b, i, pp, qe, q⟩ := st
  obtain ⟨L, T⟩ := ms
  cases hp : bd_pair x y with
  | false => exact ⟨_, _, _, hI, fun D h d sz => bd_m_part_bad l D h d sz J ab mm o r b i pp qe q x y hp, fun D h d sz => be_m_part_bad l D h d sz L T x y hp⟩
  | true =>
    obtain ⟨a, c, ha, hc, hac, rfl, rfl⟩ := bd_pair_of hp
    obtain ⟨hg, hL, h0, hT⟩ : bm_gr J ∧ bm_L J L ∧ T 0 = 0 ∧ ∀ x, T x ≤ 5 := hI
    have e : L (10 * a + c) = J a c := hL a c ha hc
    refine ⟨_, (bd_set J a c false, ab, mm, o, r, b, i, pp, qe, q), (be_set L a c false, T), ⟨bl_gr hg hac false, bl_L hL ha hc false, h0, hT⟩, fun D h d sz => bd_m_part l D h d sz J ab mm o r b i pp qe q a c ha hc hac, fun D h d sz => ?_⟩
    have := be_m_part l D h d sz L T a c ha hc hac
    rw [e] at this
    rw [show (if J a c = true then nI 1 else nI 0) = (if J a c = false then nI 0 else nI 1) by cases J a c <;> rfl]
    exact this
theorem bl_most (l : Launch) {st : bd_DS} {ms : be_MS} (hI : bl_I st ms) : bl_op l yX0_most cX0_most 1 5 123 yX1_most cX1_most 1 2 46 [] st ms := by
  obtain ⟨J, ab, mm, o, r, b, i, pp, qe, q⟩ := st
  obtain ⟨L, T⟩ := ms
  obtain ⟨hg, hL, h0, hT⟩ : bm_gr J ∧ bm_L J L ∧ T 0 = 0 ∧ ∀ x, T x ≤ 5 := hI
  obtain ⟨m1, o1, r1, b1, i1, p1, qe1, q1, hF⟩ := bl_pw hg hL h0 hT (fun _ => false) (fun _ => true) (fun _ _ => rfl) mm (o, r, b, i, pp, qe, q)
  rw [be_full1] at hF
  exact ⟨_, (J, (fun _ => false), m1, o1, r1, b1, i1, p1, qe1, q1), (L, be_work L T), bl_work hg hL h0 hT, fun D h d sz => bd_m_most l D h d sz J ab mm o r b i pp qe q _ m1 o1 r1 b1 i1 p1 qe1 q1 hF, fun D h d sz => be_m_most l D h d sz L T 5 hT (by omega)⟩
theorem bl_mostWithout (l : Launch) {st : bd_DS} {ms : be_MS} (hI : bl_I st ms) (x : Int32) : bl_op l yX0_mostWithout cX0_mostWithout 2 5 123 yX1_mostWithout cX1_mostWithout 2 2 46 [.int x] st ms := by
  obtain ⟨J, ab, mm, o, r, b, i, pp, qe, q⟩ := st
  obtain ⟨L, T⟩ := ms
  obtain ⟨hg, hL, h0, hT⟩ : bm_gr J ∧ bm_L J L ∧ T 0 = 0 ∧ ∀ x, T x ≤ 5 := hI
  obtain ⟨m1, o1, r1, b1, i1, p1, qe1, q1, hF⟩ := bl_pw hg hL h0 hT (fun v => bt x v) (fun v => !bt x v) (fun v _ => (Bool.not_not _).symm) mm (o, r, b, i, pp, qe, q)
  exact ⟨_, (J, (fun v => bt x v), m1, o1, r1, b1, i1, p1, qe1, q1), (L, be_work L T), bl_work hg hL h0 hT, fun D h d sz => bd_m_mostWithout l D h d sz J ab mm o r b i pp qe q x _ m1 o1 r1 b1 i1 p1 qe1 q1 hF, fun D h d sz => be_m_mostWithout l D h d sz L T x 5 hT (by omega)⟩
theorem bl_spare (l : Launch) {st : bd_DS} {ms : be_MS} (hI : bl_I st ms) (x : Int32) : bl_op l yX0_spare cX0_spare 2 5 123 yX1_spare cX1_spare 2 2 46 [.int x] st ms := by
  obtain ⟨J, ab, mm, o, r, b, i, pp, qe, q⟩ := st
  obtain ⟨L, T⟩ := ms
  by_cases hp : x < 0 ∨ nI 9 < x
  · exact ⟨_, _, _, hI, fun D h d sz => bd_m_spare_bad l D h d sz J ab mm o r b i pp qe q x hp, fun D h d sz => be_m_spare_bad l D h d sz L T x hp⟩
  · obtain ⟨a, ha, rfl⟩ := bd_pt_of (fun z => hp (Or.inl z)) (fun z => hp (Or.inr z))
    obtain ⟨hg, hL, h0, hT⟩ : bm_gr J ∧ bm_L J L ∧ T 0 = 0 ∧ ∀ x, T x ≤ 5 := hI
    obtain ⟨cnt, m1, o1, r1, b1, i1, p1, qe1, q1, S, o2, r2, b2, i2, p2, qe2, q2, hF, hF2, hS⟩ := bl_sp hg hL h0 hT mm (o, r, b, i, pp, qe, q)
    refine ⟨_, (J, (fun _ => false), m1, o2, r2, b2, i2, p2, qe2, q2), (L, be_work L T), bl_work hg hL h0 hT, fun D h d sz => bd_m_spare l D h d sz J ab mm o r b i pp qe q a cnt m1 o1 r1 b1 i1 p1 qe1 q1 S o2 r2 b2 i2 p2 qe2 q2 ha hF hF2, fun D h d sz => ?_⟩
    rw [hS a ha]
    exact be_m_spare l D h d sz L T a 5 ha hT (by omega)
theorem bl_usable (l : Launch) {st : bd_DS} {ms : be_MS} (hI : bl_I st ms) (x y : Int32) : bl_op l yX0_usable cX0_usable 5 5 123 yX1_usable cX1_usable 3 2 46 [.int x, .int y] st ms := by
  obtain ⟨J, ab, mm, o, r, b, i, pp, qe, q⟩ := st
  obtain ⟨L, T⟩ := ms
  cases hp : bd_pair x y with
  | false => exact ⟨_, _, _, hI, fun D h d sz => bd_m_usable_bad l D h d sz J ab mm o r b i pp qe q x y hp, fun D h d sz => be_m_usable_bad l D h d sz L T x y hp⟩
  | true =>
    obtain ⟨a, c, ha, hc, hac, rfl, rfl⟩ := bd_pair_of hp
    obtain ⟨hg, hL, h0, hT⟩ : bm_gr J ∧ bm_L J L ∧ T 0 = 0 ∧ ∀ x, T x ≤ 5 := hI
    obtain ⟨m1, o1, r1, b1, i1, p1, qe1, q1, hF⟩ := bl_pw hg hL h0 hT (fun _ => false) (fun _ => true) (fun _ _ => rfl) mm (o, r, b, i, pp, qe, q)
    rw [be_full1] at hF
    obtain ⟨m2, o2, r2, b2, i2, p2, qe2, q2, hF2⟩ := bl_pw hg hL h0 hT (fun v => decide (v = a) || decide (v = c)) (fun v => true && !(decide (v = a) || decide (v = c))) (fun v _ => by rw [Bool.true_and, Bool.not_not]) m1 (o1, r1, b1, i1, p1, qe1, q1)
    have e : L (10 * a + c) = J a c := hL a c ha hc
    have k := (be_work_ok hg hL h0 hT).2
    refine ⟨_, (J, (fun v => decide (v = a) || decide (v = c)), m2, o2, r2, b2, i2, p2, qe2, q2), (L, be_work L T), bl_work hg hL h0 hT, fun D h d sz => bd_m_usable l D h d sz J ab mm o r b i pp qe q a c _ _ m1 o1 r1 b1 i1 p1 qe1 q1 m2 o2 r2 b2 i2 p2 qe2 q2 ha hc hac (by have := k 1023; omega) (by have := k (bd_msk (fun v => true && !(decide (v = a) || decide (v = c)))); omega) hF hF2, fun D h d sz => ?_⟩
    have := be_m_usable l D h d sz L T a c 5 ha hc hac hT (by omega)
    rw [e] at this
    exact this
theorem bl_needed (l : Launch) {st : bd_DS} {ms : be_MS} (hI : bl_I st ms) (x y : Int32) : bl_op l yX0_needed cX0_needed 6 5 123 yX1_needed cX1_needed 6 3 66 [.int x, .int y] st ms := by
  obtain ⟨J, ab, mm, o, r, b, i, pp, qe, q⟩ := st
  obtain ⟨L, T⟩ := ms
  cases hp : bd_pair x y with
  | false => exact ⟨_, _, _, hI, fun D h d sz => bd_m_needed_bad l D h d sz J ab mm o r b i pp qe q x y hp, fun D h d sz => be_m_needed_bad l D h d sz L T x y hp⟩
  | true =>
    obtain ⟨a, c, ha, hc, hac, rfl, rfl⟩ := bd_pair_of hp
    obtain ⟨hg, hL, h0, hT⟩ : bm_gr J ∧ bm_L J L ∧ T 0 = 0 ∧ ∀ x, T x ≤ 5 := hI
    obtain ⟨m1, o1, r1, b1, i1, p1, qe1, q1, hF⟩ := bl_pw hg hL h0 hT (fun _ => false) (fun _ => true) (fun _ _ => rfl) mm (o, r, b, i, pp, qe, q)
    rw [be_full1] at hF
    obtain ⟨h0', hT'⟩ := be_work_ok hg hL h0 hT
    have hg2 := bl_gr hg hac false
    have hL2 := bl_L hL ha hc false
    obtain ⟨m2, o2, r2, b2, i2, p2, qe2, q2, hF2⟩ := bl_pw hg2 hL2 h0' hT' (fun _ => false) (fun _ => true) (fun _ _ => rfl) m1 (o1, r1, b1, i1, p1, qe1, q1)
    rw [be_full1] at hF2
    obtain ⟨h02, hT2⟩ := be_work_ok hg2 hL2 h0' hT'
    have e : L (10 * a + c) = J a c := hL a c ha hc
    have k1 : be_work L T 1023 < 2 ^ 30 := by have := hT' 1023; omega
    have k2 : be_work (be_set L a c false) (be_work L T) 1023 < 2 ^ 30 := by have := hT2 1023; omega
    cases hj : J a c with
    | true =>
      exact ⟨_, ((bd_set (bd_set J a c false) a c true), (fun _ => false), m2, o2, r2, b2, i2, p2, qe2, q2), (be_set (be_set L a c false) a c true, be_work (be_set L a c false) (be_work L T)), bl_Imk (bl_gr hg2 hac true) (bl_L hL2 ha hc true) h02 hT2, fun D h d sz => bd_m_needed_t l D h d sz J ab mm o r b i pp qe q a c _ _ m1 o1 r1 b1 i1 p1 qe1 q1 m2 o2 r2 b2 i2 p2 qe2 q2 ha hc hac k1 k2 hj hF hF2, fun D h d sz => be_m_needed_t l D h d sz L T a c 5 ha hc hac (e.trans hj) hT (by omega)⟩
    | false =>
      exact ⟨_, ((bd_set J a c false), (fun _ => false), m2, o2, r2, b2, i2, p2, qe2, q2), (be_set L a c false, be_work (be_set L a c false) (be_work L T)), bl_Imk hg2 hL2 h02 hT2, fun D h d sz => bd_m_needed_f l D h d sz J ab mm o r b i pp qe q a c _ _ m1 o1 r1 b1 i1 p1 qe1 q1 m2 o2 r2 b2 i2 p2 qe2 q2 ha hc hac k1 k2 hj hF hF2, fun D h d sz => be_m_needed_f l D h d sz L T a c 5 ha hc hac (e.trans hj) hT (by omega)⟩
theorem bl_guards (l : Launch) {st : bd_DS} {ms : be_MS} (hI : bl_I st ms) : bl_op l yX0_guards cX0_guards 4 5 123 yX1_guards cX1_guards 4 2 46 [] st ms := by
  obtain ⟨J, ab, mm, o, r, b, i, pp, qe, q⟩ := st
  obtain ⟨L, T⟩ := ms
  obtain ⟨hg, hL, h0, hT⟩ : bm_gr J ∧ bm_L J L ∧ T 0 = 0 ∧ ∀ x, T x ≤ 5 := hI
  obtain ⟨cnt, m1, o1, r1, b1, i1, p1, qe1, q1, S, o2, r2, b2, i2, p2, qe2, q2, hF, hF2, hS⟩ := bl_sp hg hL h0 hT mm (o, r, b, i, pp, qe, q)
  refine ⟨_, (J, (fun _ => false), m1, o2, r2, b2, i2, p2, qe2, q2), (L, be_work L T), bl_work hg hL h0 hT, fun D h d sz => bd_m_guards l D h d sz J ab mm o r b i pp qe q cnt m1 o1 r1 b1 i1 p1 qe1 q1 S o2 r2 b2 i2 p2 qe2 q2 hF hF2, fun D h d sz => ?_⟩
  rw [bd_bs_ext (g := be_gd L (be_work L T)) (fun v hv => be_gd_desk hL hS hv)]
  exact be_m_guards l D h d sz L T 5 hT (by omega)
theorem bl_parts (l : Launch) {st : bd_DS} {ms : be_MS} (hI : bl_I st ms) : bl_op l yX0_parts cX0_parts 5 6 146 yX1_parts cX1_parts 7 3 69 [] st ms := by
  obtain ⟨J, ab, mm, o, r, b, i, pp, qe, q⟩ := st
  obtain ⟨L, T⟩ := ms
  obtain ⟨hg, hL, h0, hT⟩ : bm_gr J ∧ bm_L J L ∧ T 0 = 0 ∧ ∀ x, T x ≤ 5 := hI
  obtain ⟨cnt, m1, o1, r1, b1, i1, p1, qe1, q1, S, o2, r2, b2, i2, p2, qe2, q2, hF, hF2, hS⟩ := bl_sp hg hL h0 hT mm (o, r, b, i, pp, qe, q)
  refine ⟨_, (J, (fun _ => false), m1, o2, r2, b2, i2, p2, qe2, q2), (L, be_work L T), bl_work hg hL h0 hT, fun D h d sz => bd_m_parts l D h d sz J ab mm o r b i pp qe q cnt m1 o1 r1 b1 i1 p1 qe1 q1 S o2 r2 b2 i2 p2 qe2 q2 hF hF2, fun D h d sz => be_m_parts l D h d sz L T _ 5 hT (by omega) ?_⟩
  rw [be_pt_ext 10 _ (fun v => true && !((fun v => bd_gu J S 10 0 (fun _ => false) v && !S v) v)) 0 (fun v hv => by
    show (true && !be_gd L (be_work L T) v) = (true && !(bd_gu J S 10 0 (fun _ => false) v && !S v))
    rw [be_gd_desk hL hS hv])]
  exact be_pt_desk hL 10 0 10 0 _ rfl (Nat.le_refl _) (fun v hv => absurd hv (Nat.not_lt_zero _))
end
section
/-! walks: the constructors (printed by gen/init.py) -/
set_option maxRecDepth 100000
def bd_hs (l : List Nat) : Nat → Nat := fun k => l.getD k 0
def bd_hc (l : List ClassId) (x : ClassId) : Nat → ClassId := fun k => l.getD k x
def bd_st0 : bd_DS := (fun _ _ => false, fun _ => false, fun _ => 0, fun _ => false, fun _ => 0, fun _ => 0, fun _ => false, fun _ => false, 0, fun _ => 0)
def be_st0 : be_MS := (fun _ => false, fun _ => 0)
theorem bd_z_bs : bd_bs (fun _ => false) = 0 := by decide +kernel
theorem bd_z_enc : bd_enc 0 = 0 := by decide +kernel
theorem bd_z_bz : bd_bz false = 0 := by decide +kernel
theorem bd_z_nI : nI 0 = 0 := by decide +kernel
theorem bd_arr0 {x : Int32} (hx : x = 0) (n : Nat) {ty : FieldType} (hty : defaultValue ty = .int 0) (cA : ClassId) : vp_cell cA (n, .inl (fun _ => x)) = arrV cA n (fun _ => defaultValue ty) := by
  rw [hx, hty]; rfl
abbrev bd_f0 : List Value := [.null, .int (bd_bs (fun _ => false)), .null, .null, .null, .null, .null, .null, .int (nI 0), .null]
abbrev bd_w0 (h0 : Nat) : va_W := [(h0, .inr (0, bd_f0))]
abbrev be_w0 (h0 : Nat) : va_W := [(h0, .inr (1, [.null, .null]))]
set_option maxHeartbeats 4000000 in
set_option maxRecDepth 100000 in
/-- BlossomDesk() -/
theorem bd_m_init (l : Launch) (D : va_G) (h0 sz : Nat) : Met l yX0_init (ws_ yX0_init cX0_init 1 none) { frames := 1, cells := 8, slots := 80, locals := 12 } (va_Pc [.ref h0] (fun U => U.heap.size = sz ∧ va_P D bd_Cl (bd_w0 h0) U.heap ∧ va_K D bd_Cl [] U ∧ va_D (fun _ => True) (bd_w0 h0))) (va_Qv (fun u : (Nat → Nat) × (Nat → ClassId) => u.1 0 = h0) (fun u t => bd_B D u.1 u.2 bd_st0 (va_A (bd_w0 h0) sz) () t) (va_A (bd_w0 h0) sz)) 8 80 (va_A (bd_w0 h0) sz) := by
  refine Met.ofW (cc := cX0_init) (maxL := 1) (ret := none) (by decide) rfl ?_
  intro p e s m args below meth c s₁ B hml hv
  obtain ⟨rfl, hsz, hP, hK, hD0⟩ := hv
  have hx := B.exec
  have hb := B.bytes
  have hr := B.returns
  have hts := atoms_spec (ws := ws_ yX0_init cX0_init 1 none) B.pre
  have hts : ∀ w ∈ lw_all, w.before _ s = true := fun w h => hts w (List.mem_cons_of_mem _ h)
  have hown : s.vm.findClass RX0 = some m.cls := findClass_of_methodNamed B.named
  have hlocks := B.notSynchronized
  have hin : meth.name = "<init>" := (name_of_methodNamed B.named B.method).1
  subst hsz
  have hD := hD0.self (sz := s.heap.size)
  generalize hAe : va_A (bd_w0 h0) s.heap.size = A at hD ⊢
  have hA : ∀ q : Nat, s.heap.size ≤ q → A q := fun q h => by rw [← hAe]; exact Or.inr h
  have hS : va_S A s.heap s.heap [] := va_S.rf
  have hP : va_P D bd_Cl [(h0, .inr (0, [.null, .int (bd_bs (fun _ => false)), .null, .null, .null, .null, .null, .null, .int (nI 0), .null]))] s.heap := hP
  have hD : va_D A [(h0, .inr (0, [.null, .int (bd_bs (fun _ => false)), .null, .null, .null, .null, .null, .null, .int (nI 0), .null]))] := hD
  have hl := lv_entry ([.ref h0]) (n := 1) (Nat.le_of_ble_eq_true rfl)
  rw [lg_entry_eq]
  generalize (lg_sl ([.ref h0]) ++ List.replicate (1 - (lg_sl ([.ref h0])).length) Slot.unset).toArray = ls at hl ⊢
  have hl : lv_has ls 1 [(0, .ref h0)] := hl
  refine lv_aload_n hx hb dX0_init_0 rfl (lv_at hl 0 rfl) ?_
  refine W.objInit hx hb hown (hts _ q22) (hts _ q23) (hts _ q24) rfl (by rw [hml]; exact hl.1) rfl dX0_init_1 (Nat.le_of_ble_eq_true rfl) (Nat.le_of_ble_eq_true rfl) ?_
  refine W.eq (g2 := F0 m 4 ls []) rfl ?_
  refine lv_aload_n hx hb dX0_init_4 rfl (lv_at hl 0 rfl) ?_
  refine lv_bipush (v := nI 10) hx hb dX0_init_5 (by decide) ?_
  refine va_newa (atype := .int) (ty := .int) (N' := 10) (a0 := (10, .inl (fun _ => bd_bs (fun _ => false)))) hx hb (hts _ q56) rfl hK hP hD hS hA (bd_arr0 bd_z_bs 10 rfl) (by decide) (by decide) (by decide) (Nat.le_of_ble_eq_true rfl) (Nat.le_of_ble_eq_true rfl) dX0_init_7 (fun q1 d1 H hK hP hD hS => ?_)
  have hP : va_P D bd_Cl [(h0, .inr (0, [.null, .int (bd_bs (fun _ => false)), .null, .null, .null, .null, .null, .null, .int (nI 0), .null])), (q1, .inl (d1, 10, .inl (fun _ => bd_bs (fun _ => false))))] H := hP
  have hD : va_D A [(h0, .inr (0, [.null, .int (bd_bs (fun _ => false)), .null, .null, .null, .null, .null, .null, .int (nI 0), .null])), (q1, .inl (d1, 10, .inl (fun _ => bd_bs (fun _ => false))))] := hD
  have hK : va_K D bd_Cl [(d1, .int)] s := hK
  refine W.widen (k := 1) (n := 10) (Nat.le_of_ble_eq_true rfl) (Nat.le_of_ble_eq_true rfl) ?_
  refine va_putF (D := D) (ci := 0) (v := .ref q1) (ty := .array .int) (C := RX0) (T := TX0) (N := 10) hx hb hts in_X0 tyX0 tyX0_ok nmX0 hown hK hP hD hS 0 rfl rfl 0 (by decide) (hts _ q25) (fun _ h9 => h9) rfl hin rfl (by decide +kernel) rfl rfl (Nat.le_of_ble_eq_true rfl) dX0_init_9 (fun H locs hP hD hS => ?_)
  have hP : va_P D bd_Cl [(h0, .inr (0, [.ref q1, .int (bd_bs (fun _ => false)), .null, .null, .null, .null, .null, .null, .int (nI 0), .null])), (q1, .inl (d1, 10, .inl (fun _ => bd_bs (fun _ => false))))] H := hP
  have hD : va_D A [(h0, .inr (0, [.ref q1, .int (bd_bs (fun _ => false)), .null, .null, .null, .null, .null, .null, .int (nI 0), .null])), (q1, .inl (d1, 10, .inl (fun _ => bd_bs (fun _ => false))))] := hD
  refine lv_aload_n hx hb dX0_init_12 rfl (lv_at hl 0 rfl) ?_
  refine lv_bipush (v := nI 10) hx hb dX0_init_13 (by decide) ?_
  refine va_newa (atype := .int) (ty := .int) (N' := 10) (a0 := (10, .inl (fun _ => bd_enc 0))) hx hb (hts _ q56) rfl hK hP hD hS hA (bd_arr0 bd_z_enc 10 rfl) (by decide) (by decide) (by decide) (Nat.le_of_ble_eq_true rfl) (Nat.le_of_ble_eq_true rfl) dX0_init_15 (fun q2 d2 H hK hP hD hS => ?_)
  have hP : va_P D bd_Cl [(h0, .inr (0, [.ref q1, .int (bd_bs (fun _ => false)), .null, .null, .null, .null, .null, .null, .int (nI 0), .null])), (q1, .inl (d1, 10, .inl (fun _ => bd_bs (fun _ => false)))), (q2, .inl (d2, 10, .inl (fun _ => bd_enc 0)))] H := hP
  have hD : va_D A [(h0, .inr (0, [.ref q1, .int (bd_bs (fun _ => false)), .null, .null, .null, .null, .null, .null, .int (nI 0), .null])), (q1, .inl (d1, 10, .inl (fun _ => bd_bs (fun _ => false)))), (q2, .inl (d2, 10, .inl (fun _ => bd_enc 0)))] := hD
  have hK : va_K D bd_Cl [(d1, .int), (d2, .int)] s := hK
  refine W.widen (k := 2) (n := 20) (Nat.le_of_ble_eq_true rfl) (Nat.le_of_ble_eq_true rfl) ?_
  refine va_putF (D := D) (ci := 0) (v := .ref q2) (ty := .array .int) (C := RX0) (T := TX0) (N := 10) hx hb hts in_X0 tyX0 tyX0_ok nmX0 hown hK hP hD hS 0 rfl rfl 2 (by decide) (hts _ q27) (fun _ h9 => h9) rfl hin rfl (by decide +kernel) rfl rfl (Nat.le_of_ble_eq_true rfl) dX0_init_17 (fun H locs hP hD hS => ?_)
  have hP : va_P D bd_Cl [(h0, .inr (0, [.ref q1, .int (bd_bs (fun _ => false)), .ref q2, .null, .null, .null, .null, .null, .int (nI 0), .null])), (q1, .inl (d1, 10, .inl (fun _ => bd_bs (fun _ => false)))), (q2, .inl (d2, 10, .inl (fun _ => bd_enc 0)))] H := hP
  have hD : va_D A [(h0, .inr (0, [.ref q1, .int (bd_bs (fun _ => false)), .ref q2, .null, .null, .null, .null, .null, .int (nI 0), .null])), (q1, .inl (d1, 10, .inl (fun _ => bd_bs (fun _ => false)))), (q2, .inl (d2, 10, .inl (fun _ => bd_enc 0)))] := hD
  refine lv_aload_n hx hb dX0_init_20 rfl (lv_at hl 0 rfl) ?_
  refine lv_bipush (v := nI 10) hx hb dX0_init_21 (by decide) ?_
  refine va_newa (atype := .boolean) (ty := .boolean) (N' := 10) (a0 := (10, .inl (fun _ => bd_bz false))) hx hb (hts _ q57) rfl hK hP hD hS hA (bd_arr0 bd_z_bz 10 rfl) (by decide) (by decide) (by decide) (Nat.le_of_ble_eq_true rfl) (Nat.le_of_ble_eq_true rfl) dX0_init_23 (fun q3 d3 H hK hP hD hS => ?_)
  have hP : va_P D bd_Cl [(h0, .inr (0, [.ref q1, .int (bd_bs (fun _ => false)), .ref q2, .null, .null, .null, .null, .null, .int (nI 0), .null])), (q1, .inl (d1, 10, .inl (fun _ => bd_bs (fun _ => false)))), (q2, .inl (d2, 10, .inl (fun _ => bd_enc 0))), (q3, .inl (d3, 10, .inl (fun _ => bd_bz false)))] H := hP
  have hD : va_D A [(h0, .inr (0, [.ref q1, .int (bd_bs (fun _ => false)), .ref q2, .null, .null, .null, .null, .null, .int (nI 0), .null])), (q1, .inl (d1, 10, .inl (fun _ => bd_bs (fun _ => false)))), (q2, .inl (d2, 10, .inl (fun _ => bd_enc 0))), (q3, .inl (d3, 10, .inl (fun _ => bd_bz false)))] := hD
  have hK : va_K D bd_Cl [(d1, .int), (d2, .int), (d3, .boolean)] s := hK
  refine W.widen (k := 3) (n := 30) (Nat.le_of_ble_eq_true rfl) (Nat.le_of_ble_eq_true rfl) ?_
  refine va_putF (D := D) (ci := 0) (v := .ref q3) (ty := .array .boolean) (C := RX0) (T := TX0) (N := 10) hx hb hts in_X0 tyX0 tyX0_ok nmX0 hown hK hP hD hS 0 rfl rfl 3 (by decide) (hts _ q28) (fun _ h9 => h9) rfl hin rfl (by decide +kernel) rfl rfl (Nat.le_of_ble_eq_true rfl) dX0_init_25 (fun H locs hP hD hS => ?_)
  have hP : va_P D bd_Cl [(h0, .inr (0, [.ref q1, .int (bd_bs (fun _ => false)), .ref q2, .ref q3, .null, .null, .null, .null, .int (nI 0), .null])), (q1, .inl (d1, 10, .inl (fun _ => bd_bs (fun _ => false)))), (q2, .inl (d2, 10, .inl (fun _ => bd_enc 0))), (q3, .inl (d3, 10, .inl (fun _ => bd_bz false)))] H := hP
  have hD : va_D A [(h0, .inr (0, [.ref q1, .int (bd_bs (fun _ => false)), .ref q2, .ref q3, .null, .null, .null, .null, .int (nI 0), .null])), (q1, .inl (d1, 10, .inl (fun _ => bd_bs (fun _ => false)))), (q2, .inl (d2, 10, .inl (fun _ => bd_enc 0))), (q3, .inl (d3, 10, .inl (fun _ => bd_bz false)))] := hD
  refine lv_aload_n hx hb dX0_init_28 rfl (lv_at hl 0 rfl) ?_
  refine lv_bipush (v := nI 10) hx hb dX0_init_29 (by decide) ?_
  refine va_newa (atype := .int) (ty := .int) (N' := 10) (a0 := (10, .inl (fun _ => bd_enc 0))) hx hb (hts _ q56) rfl hK hP hD hS hA (bd_arr0 bd_z_enc 10 rfl) (by decide) (by decide) (by decide) (Nat.le_of_ble_eq_true rfl) (Nat.le_of_ble_eq_true rfl) dX0_init_31 (fun q4 d4 H hK hP hD hS => ?_)
  have hP : va_P D bd_Cl [(h0, .inr (0, [.ref q1, .int (bd_bs (fun _ => false)), .ref q2, .ref q3, .null, .null, .null, .null, .int (nI 0), .null])), (q1, .inl (d1, 10, .inl (fun _ => bd_bs (fun _ => false)))), (q2, .inl (d2, 10, .inl (fun _ => bd_enc 0))), (q3, .inl (d3, 10, .inl (fun _ => bd_bz false))), (q4, .inl (d4, 10, .inl (fun _ => bd_enc 0)))] H := hP
  have hD : va_D A [(h0, .inr (0, [.ref q1, .int (bd_bs (fun _ => false)), .ref q2, .ref q3, .null, .null, .null, .null, .int (nI 0), .null])), (q1, .inl (d1, 10, .inl (fun _ => bd_bs (fun _ => false)))), (q2, .inl (d2, 10, .inl (fun _ => bd_enc 0))), (q3, .inl (d3, 10, .inl (fun _ => bd_bz false))), (q4, .inl (d4, 10, .inl (fun _ => bd_enc 0)))] := hD
  have hK : va_K D bd_Cl [(d1, .int), (d2, .int), (d3, .boolean), (d4, .int)] s := hK
  refine W.widen (k := 4) (n := 40) (Nat.le_of_ble_eq_true rfl) (Nat.le_of_ble_eq_true rfl) ?_
  refine va_putF (D := D) (ci := 0) (v := .ref q4) (ty := .array .int) (C := RX0) (T := TX0) (N := 10) hx hb hts in_X0 tyX0 tyX0_ok nmX0 hown hK hP hD hS 0 rfl rfl 4 (by decide) (hts _ q29) (fun _ h9 => h9) rfl hin rfl (by decide +kernel) rfl rfl (Nat.le_of_ble_eq_true rfl) dX0_init_33 (fun H locs hP hD hS => ?_)
  have hP : va_P D bd_Cl [(h0, .inr (0, [.ref q1, .int (bd_bs (fun _ => false)), .ref q2, .ref q3, .ref q4, .null, .null, .null, .int (nI 0), .null])), (q1, .inl (d1, 10, .inl (fun _ => bd_bs (fun _ => false)))), (q2, .inl (d2, 10, .inl (fun _ => bd_enc 0))), (q3, .inl (d3, 10, .inl (fun _ => bd_bz false))), (q4, .inl (d4, 10, .inl (fun _ => bd_enc 0)))] H := hP
  have hD : va_D A [(h0, .inr (0, [.ref q1, .int (bd_bs (fun _ => false)), .ref q2, .ref q3, .ref q4, .null, .null, .null, .int (nI 0), .null])), (q1, .inl (d1, 10, .inl (fun _ => bd_bs (fun _ => false)))), (q2, .inl (d2, 10, .inl (fun _ => bd_enc 0))), (q3, .inl (d3, 10, .inl (fun _ => bd_bz false))), (q4, .inl (d4, 10, .inl (fun _ => bd_enc 0)))] := hD
  refine lv_aload_n hx hb dX0_init_36 rfl (lv_at hl 0 rfl) ?_
  refine lv_bipush (v := nI 10) hx hb dX0_init_37 (by decide) ?_
  refine va_newa (atype := .int) (ty := .int) (N' := 10) (a0 := (10, .inl (fun _ => bd_enc 0))) hx hb (hts _ q56) rfl hK hP hD hS hA (bd_arr0 bd_z_enc 10 rfl) (by decide) (by decide) (by decide) (Nat.le_of_ble_eq_true rfl) (Nat.le_of_ble_eq_true rfl) dX0_init_39 (fun q5 d5 H hK hP hD hS => ?_)
  have hP : va_P D bd_Cl [(h0, .inr (0, [.ref q1, .int (bd_bs (fun _ => false)), .ref q2, .ref q3, .ref q4, .null, .null, .null, .int (nI 0), .null])), (q1, .inl (d1, 10, .inl (fun _ => bd_bs (fun _ => false)))), (q2, .inl (d2, 10, .inl (fun _ => bd_enc 0))), (q3, .inl (d3, 10, .inl (fun _ => bd_bz false))), (q4, .inl (d4, 10, .inl (fun _ => bd_enc 0))), (q5, .inl (d5, 10, .inl (fun _ => bd_enc 0)))] H := hP
  have hD : va_D A [(h0, .inr (0, [.ref q1, .int (bd_bs (fun _ => false)), .ref q2, .ref q3, .ref q4, .null, .null, .null, .int (nI 0), .null])), (q1, .inl (d1, 10, .inl (fun _ => bd_bs (fun _ => false)))), (q2, .inl (d2, 10, .inl (fun _ => bd_enc 0))), (q3, .inl (d3, 10, .inl (fun _ => bd_bz false))), (q4, .inl (d4, 10, .inl (fun _ => bd_enc 0))), (q5, .inl (d5, 10, .inl (fun _ => bd_enc 0)))] := hD
  have hK : va_K D bd_Cl [(d1, .int), (d2, .int), (d3, .boolean), (d4, .int), (d5, .int)] s := hK
  refine W.widen (k := 5) (n := 50) (Nat.le_of_ble_eq_true rfl) (Nat.le_of_ble_eq_true rfl) ?_
  refine va_putF (D := D) (ci := 0) (v := .ref q5) (ty := .array .int) (C := RX0) (T := TX0) (N := 10) hx hb hts in_X0 tyX0 tyX0_ok nmX0 hown hK hP hD hS 0 rfl rfl 5 (by decide) (hts _ q30) (fun _ h9 => h9) rfl hin rfl (by decide +kernel) rfl rfl (Nat.le_of_ble_eq_true rfl) dX0_init_41 (fun H locs hP hD hS => ?_)
  have hP : va_P D bd_Cl [(h0, .inr (0, [.ref q1, .int (bd_bs (fun _ => false)), .ref q2, .ref q3, .ref q4, .ref q5, .null, .null, .int (nI 0), .null])), (q1, .inl (d1, 10, .inl (fun _ => bd_bs (fun _ => false)))), (q2, .inl (d2, 10, .inl (fun _ => bd_enc 0))), (q3, .inl (d3, 10, .inl (fun _ => bd_bz false))), (q4, .inl (d4, 10, .inl (fun _ => bd_enc 0))), (q5, .inl (d5, 10, .inl (fun _ => bd_enc 0)))] H := hP
  have hD : va_D A [(h0, .inr (0, [.ref q1, .int (bd_bs (fun _ => false)), .ref q2, .ref q3, .ref q4, .ref q5, .null, .null, .int (nI 0), .null])), (q1, .inl (d1, 10, .inl (fun _ => bd_bs (fun _ => false)))), (q2, .inl (d2, 10, .inl (fun _ => bd_enc 0))), (q3, .inl (d3, 10, .inl (fun _ => bd_bz false))), (q4, .inl (d4, 10, .inl (fun _ => bd_enc 0))), (q5, .inl (d5, 10, .inl (fun _ => bd_enc 0)))] := hD
  refine lv_aload_n hx hb dX0_init_44 rfl (lv_at hl 0 rfl) ?_
  refine lv_bipush (v := nI 10) hx hb dX0_init_45 (by decide) ?_
  refine va_newa (atype := .boolean) (ty := .boolean) (N' := 10) (a0 := (10, .inl (fun _ => bd_bz false))) hx hb (hts _ q57) rfl hK hP hD hS hA (bd_arr0 bd_z_bz 10 rfl) (by decide) (by decide) (by decide) (Nat.le_of_ble_eq_true rfl) (Nat.le_of_ble_eq_true rfl) dX0_init_47 (fun q6 d6 H hK hP hD hS => ?_)
  have hP : va_P D bd_Cl [(h0, .inr (0, [.ref q1, .int (bd_bs (fun _ => false)), .ref q2, .ref q3, .ref q4, .ref q5, .null, .null, .int (nI 0), .null])), (q1, .inl (d1, 10, .inl (fun _ => bd_bs (fun _ => false)))), (q2, .inl (d2, 10, .inl (fun _ => bd_enc 0))), (q3, .inl (d3, 10, .inl (fun _ => bd_bz false))), (q4, .inl (d4, 10, .inl (fun _ => bd_enc 0))), (q5, .inl (d5, 10, .inl (fun _ => bd_enc 0))), (q6, .inl (d6, 10, .inl (fun _ => bd_bz false)))] H := hP
  have hD : va_D A [(h0, .inr (0, [.ref q1, .int (bd_bs (fun _ => false)), .ref q2, .ref q3, .ref q4, .ref q5, .null, .null, .int (nI 0), .null])), (q1, .inl (d1, 10, .inl (fun _ => bd_bs (fun _ => false)))), (q2, .inl (d2, 10, .inl (fun _ => bd_enc 0))), (q3, .inl (d3, 10, .inl (fun _ => bd_bz false))), (q4, .inl (d4, 10, .inl (fun _ => bd_enc 0))), (q5, .inl (d5, 10, .inl (fun _ => bd_enc 0))), (q6, .inl (d6, 10, .inl (fun _ => bd_bz false)))] := hD
  have hK : va_K D bd_Cl [(d1, .int), (d2, .int), (d3, .boolean), (d4, .int), (d5, .int), (d6, .boolean)] s := hK
  refine W.widen (k := 6) (n := 60) (Nat.le_of_ble_eq_true rfl) (Nat.le_of_ble_eq_true rfl) ?_
  refine va_putF (D := D) (ci := 0) (v := .ref q6) (ty := .array .boolean) (C := RX0) (T := TX0) (N := 10) hx hb hts in_X0 tyX0 tyX0_ok nmX0 hown hK hP hD hS 0 rfl rfl 6 (by decide) (hts _ q31) (fun _ h9 => h9) rfl hin rfl (by decide +kernel) rfl rfl (Nat.le_of_ble_eq_true rfl) dX0_init_49 (fun H locs hP hD hS => ?_)
  have hP : va_P D bd_Cl [(h0, .inr (0, [.ref q1, .int (bd_bs (fun _ => false)), .ref q2, .ref q3, .ref q4, .ref q5, .ref q6, .null, .int (nI 0), .null])), (q1, .inl (d1, 10, .inl (fun _ => bd_bs (fun _ => false)))), (q2, .inl (d2, 10, .inl (fun _ => bd_enc 0))), (q3, .inl (d3, 10, .inl (fun _ => bd_bz false))), (q4, .inl (d4, 10, .inl (fun _ => bd_enc 0))), (q5, .inl (d5, 10, .inl (fun _ => bd_enc 0))), (q6, .inl (d6, 10, .inl (fun _ => bd_bz false)))] H := hP
  have hD : va_D A [(h0, .inr (0, [.ref q1, .int (bd_bs (fun _ => false)), .ref q2, .ref q3, .ref q4, .ref q5, .ref q6, .null, .int (nI 0), .null])), (q1, .inl (d1, 10, .inl (fun _ => bd_bs (fun _ => false)))), (q2, .inl (d2, 10, .inl (fun _ => bd_enc 0))), (q3, .inl (d3, 10, .inl (fun _ => bd_bz false))), (q4, .inl (d4, 10, .inl (fun _ => bd_enc 0))), (q5, .inl (d5, 10, .inl (fun _ => bd_enc 0))), (q6, .inl (d6, 10, .inl (fun _ => bd_bz false)))] := hD
  refine lv_aload_n hx hb dX0_init_52 rfl (lv_at hl 0 rfl) ?_
  refine lv_bipush (v := nI 10) hx hb dX0_init_53 (by decide) ?_
  refine va_newa (atype := .boolean) (ty := .boolean) (N' := 10) (a0 := (10, .inl (fun _ => bd_bz false))) hx hb (hts _ q57) rfl hK hP hD hS hA (bd_arr0 bd_z_bz 10 rfl) (by decide) (by decide) (by decide) (Nat.le_of_ble_eq_true rfl) (Nat.le_of_ble_eq_true rfl) dX0_init_55 (fun q7 d7 H hK hP hD hS => ?_)
  have hP : va_P D bd_Cl [(h0, .inr (0, [.ref q1, .int (bd_bs (fun _ => false)), .ref q2, .ref q3, .ref q4, .ref q5, .ref q6, .null, .int (nI 0), .null])), (q1, .inl (d1, 10, .inl (fun _ => bd_bs (fun _ => false)))), (q2, .inl (d2, 10, .inl (fun _ => bd_enc 0))), (q3, .inl (d3, 10, .inl (fun _ => bd_bz false))), (q4, .inl (d4, 10, .inl (fun _ => bd_enc 0))), (q5, .inl (d5, 10, .inl (fun _ => bd_enc 0))), (q6, .inl (d6, 10, .inl (fun _ => bd_bz false))), (q7, .inl (d7, 10, .inl (fun _ => bd_bz false)))] H := hP
  have hD : va_D A [(h0, .inr (0, [.ref q1, .int (bd_bs (fun _ => false)), .ref q2, .ref q3, .ref q4, .ref q5, .ref q6, .null, .int (nI 0), .null])), (q1, .inl (d1, 10, .inl (fun _ => bd_bs (fun _ => false)))), (q2, .inl (d2, 10, .inl (fun _ => bd_enc 0))), (q3, .inl (d3, 10, .inl (fun _ => bd_bz false))), (q4, .inl (d4, 10, .inl (fun _ => bd_enc 0))), (q5, .inl (d5, 10, .inl (fun _ => bd_enc 0))), (q6, .inl (d6, 10, .inl (fun _ => bd_bz false))), (q7, .inl (d7, 10, .inl (fun _ => bd_bz false)))] := hD
  have hK : va_K D bd_Cl [(d1, .int), (d2, .int), (d3, .boolean), (d4, .int), (d5, .int), (d6, .boolean), (d7, .boolean)] s := hK
  refine W.widen (k := 7) (n := 70) (Nat.le_of_ble_eq_true rfl) (Nat.le_of_ble_eq_true rfl) ?_
  refine va_putF (D := D) (ci := 0) (v := .ref q7) (ty := .array .boolean) (C := RX0) (T := TX0) (N := 10) hx hb hts in_X0 tyX0 tyX0_ok nmX0 hown hK hP hD hS 0 rfl rfl 7 (by decide) (hts _ q32) (fun _ h9 => h9) rfl hin rfl (by decide +kernel) rfl rfl (Nat.le_of_ble_eq_true rfl) dX0_init_57 (fun H locs hP hD hS => ?_)
  have hP : va_P D bd_Cl [(h0, .inr (0, [.ref q1, .int (bd_bs (fun _ => false)), .ref q2, .ref q3, .ref q4, .ref q5, .ref q6, .ref q7, .int (nI 0), .null])), (q1, .inl (d1, 10, .inl (fun _ => bd_bs (fun _ => false)))), (q2, .inl (d2, 10, .inl (fun _ => bd_enc 0))), (q3, .inl (d3, 10, .inl (fun _ => bd_bz false))), (q4, .inl (d4, 10, .inl (fun _ => bd_enc 0))), (q5, .inl (d5, 10, .inl (fun _ => bd_enc 0))), (q6, .inl (d6, 10, .inl (fun _ => bd_bz false))), (q7, .inl (d7, 10, .inl (fun _ => bd_bz false)))] H := hP
  have hD : va_D A [(h0, .inr (0, [.ref q1, .int (bd_bs (fun _ => false)), .ref q2, .ref q3, .ref q4, .ref q5, .ref q6, .ref q7, .int (nI 0), .null])), (q1, .inl (d1, 10, .inl (fun _ => bd_bs (fun _ => false)))), (q2, .inl (d2, 10, .inl (fun _ => bd_enc 0))), (q3, .inl (d3, 10, .inl (fun _ => bd_bz false))), (q4, .inl (d4, 10, .inl (fun _ => bd_enc 0))), (q5, .inl (d5, 10, .inl (fun _ => bd_enc 0))), (q6, .inl (d6, 10, .inl (fun _ => bd_bz false))), (q7, .inl (d7, 10, .inl (fun _ => bd_bz false)))] := hD
  refine lv_aload_n hx hb dX0_init_60 rfl (lv_at hl 0 rfl) ?_
  refine lv_bipush (v := nI 10) hx hb dX0_init_61 (by decide) ?_
  refine va_newa (atype := .int) (ty := .int) (N' := 10) (a0 := (10, .inl (fun _ => bd_enc 0))) hx hb (hts _ q56) rfl hK hP hD hS hA (bd_arr0 bd_z_enc 10 rfl) (by decide) (by decide) (by decide) (Nat.le_of_ble_eq_true rfl) (Nat.le_of_ble_eq_true rfl) dX0_init_63 (fun q8 d8 H hK hP hD hS => ?_)
  have hP : va_P D bd_Cl [(h0, .inr (0, [.ref q1, .int (bd_bs (fun _ => false)), .ref q2, .ref q3, .ref q4, .ref q5, .ref q6, .ref q7, .int (nI 0), .null])), (q1, .inl (d1, 10, .inl (fun _ => bd_bs (fun _ => false)))), (q2, .inl (d2, 10, .inl (fun _ => bd_enc 0))), (q3, .inl (d3, 10, .inl (fun _ => bd_bz false))), (q4, .inl (d4, 10, .inl (fun _ => bd_enc 0))), (q5, .inl (d5, 10, .inl (fun _ => bd_enc 0))), (q6, .inl (d6, 10, .inl (fun _ => bd_bz false))), (q7, .inl (d7, 10, .inl (fun _ => bd_bz false))), (q8, .inl (d8, 10, .inl (fun _ => bd_enc 0)))] H := hP
  have hD : va_D A [(h0, .inr (0, [.ref q1, .int (bd_bs (fun _ => false)), .ref q2, .ref q3, .ref q4, .ref q5, .ref q6, .ref q7, .int (nI 0), .null])), (q1, .inl (d1, 10, .inl (fun _ => bd_bs (fun _ => false)))), (q2, .inl (d2, 10, .inl (fun _ => bd_enc 0))), (q3, .inl (d3, 10, .inl (fun _ => bd_bz false))), (q4, .inl (d4, 10, .inl (fun _ => bd_enc 0))), (q5, .inl (d5, 10, .inl (fun _ => bd_enc 0))), (q6, .inl (d6, 10, .inl (fun _ => bd_bz false))), (q7, .inl (d7, 10, .inl (fun _ => bd_bz false))), (q8, .inl (d8, 10, .inl (fun _ => bd_enc 0)))] := hD
  have hK : va_K D bd_Cl [(d1, .int), (d2, .int), (d3, .boolean), (d4, .int), (d5, .int), (d6, .boolean), (d7, .boolean), (d8, .int)] s := hK
  refine W.widen (k := 8) (n := 80) (Nat.le_of_ble_eq_true rfl) (Nat.le_of_ble_eq_true rfl) ?_
  refine va_putF (D := D) (ci := 0) (v := .ref q8) (ty := .array .int) (C := RX0) (T := TX0) (N := 10) hx hb hts in_X0 tyX0 tyX0_ok nmX0 hown hK hP hD hS 0 rfl rfl 9 (by decide) (hts _ q34) (fun _ h9 => h9) rfl hin rfl (by decide +kernel) rfl rfl (Nat.le_of_ble_eq_true rfl) dX0_init_65 (fun H locs hP hD hS => ?_)
  have hP : va_P D bd_Cl [(h0, .inr (0, [.ref q1, .int (bd_bs (fun _ => false)), .ref q2, .ref q3, .ref q4, .ref q5, .ref q6, .ref q7, .int (nI 0), .ref q8])), (q1, .inl (d1, 10, .inl (fun _ => bd_bs (fun _ => false)))), (q2, .inl (d2, 10, .inl (fun _ => bd_enc 0))), (q3, .inl (d3, 10, .inl (fun _ => bd_bz false))), (q4, .inl (d4, 10, .inl (fun _ => bd_enc 0))), (q5, .inl (d5, 10, .inl (fun _ => bd_enc 0))), (q6, .inl (d6, 10, .inl (fun _ => bd_bz false))), (q7, .inl (d7, 10, .inl (fun _ => bd_bz false))), (q8, .inl (d8, 10, .inl (fun _ => bd_enc 0)))] H := hP
  have hD : va_D A [(h0, .inr (0, [.ref q1, .int (bd_bs (fun _ => false)), .ref q2, .ref q3, .ref q4, .ref q5, .ref q6, .ref q7, .int (nI 0), .ref q8])), (q1, .inl (d1, 10, .inl (fun _ => bd_bs (fun _ => false)))), (q2, .inl (d2, 10, .inl (fun _ => bd_enc 0))), (q3, .inl (d3, 10, .inl (fun _ => bd_bz false))), (q4, .inl (d4, 10, .inl (fun _ => bd_enc 0))), (q5, .inl (d5, 10, .inl (fun _ => bd_enc 0))), (q6, .inl (d6, 10, .inl (fun _ => bd_bz false))), (q7, .inl (d7, 10, .inl (fun _ => bd_bz false))), (q8, .inl (d8, 10, .inl (fun _ => bd_enc 0)))] := hD
  have hP9 : va_P D bd_Cl (bd_w (bd_hs [h0, q1, q2, q3, q4, q5, q6, q7, q8]) (bd_hc [d1, d1, d2, d3, d4, d5, d6, d7, d8] d1) bd_st0) H := hP
  have hD9 : va_D A (bd_w (bd_hs [h0, q1, q2, q3, q4, q5, q6, q7, q8]) (bd_hc [d1, d1, d2, d3, d4, d5, d6, d7, d8] d1) bd_st0) := hD
  have hK9 : va_K D bd_Cl (bd_ty (bd_hc [d1, d1, d2, d3, d4, d5, d6, d7, d8] d1)) s := hK
  exact W.vret hx hb hr (fun t ht hW => ⟨⟨(bd_hs [h0, q1, q2, q3, q4, q5, q6, q7, q8], bd_hc [d1, d1, d2, d3, d4, d5, d6, d7, d8] d1), rfl, rfl, by rw [ht]; exact hP9, va_K.moved hW.alike hK9, hD9⟩, hS.F ht⟩) hS.2.2 dX0_init_68
set_option maxHeartbeats 4000000 in
set_option maxRecDepth 100000 in
/-- BlossomDeskModel() -/
theorem be_m_init (l : Launch) (D : va_G) (h0 sz : Nat) : Met l yX1_init (ws_ yX1_init cX1_init 1 none) { frames := 1, cells := 2, slots := 1124, locals := 12 } (va_Pc [.ref h0] (fun U => U.heap.size = sz ∧ va_P D bd_Cl (be_w0 h0) U.heap ∧ va_K D bd_Cl [] U ∧ va_D (fun _ => True) (be_w0 h0))) (va_Qv (fun u : (Nat → Nat) × (Nat → ClassId) => u.1 0 = h0) (fun u t => be_B D u.1 u.2 be_st0 (va_A (be_w0 h0) sz) () t) (va_A (be_w0 h0) sz)) 2 1124 (va_A (be_w0 h0) sz) := by
  refine Met.ofW (cc := cX1_init) (maxL := 1) (ret := none) (by decide) rfl ?_
  intro p e s m args below meth c s₁ B hml hv
  obtain ⟨rfl, hsz, hP, hK, hD0⟩ := hv
  have hx := B.exec
  have hb := B.bytes
  have hr := B.returns
  have hts := atoms_spec (ws := ws_ yX1_init cX1_init 1 none) B.pre
  have hts : ∀ w ∈ lw_all, w.before _ s = true := fun w h => hts w (List.mem_cons_of_mem _ h)
  have hown : s.vm.findClass RX1 = some m.cls := findClass_of_methodNamed B.named
  have hlocks := B.notSynchronized
  have hin : meth.name = "<init>" := (name_of_methodNamed B.named B.method).1
  subst hsz
  have hD := hD0.self (sz := s.heap.size)
  generalize hAe : va_A (be_w0 h0) s.heap.size = A at hD ⊢
  have hA : ∀ q : Nat, s.heap.size ≤ q → A q := fun q h => by rw [← hAe]; exact Or.inr h
  have hS : va_S A s.heap s.heap [] := va_S.rf
  have hP : va_P D bd_Cl [(h0, .inr (1, [.null, .null]))] s.heap := hP
  have hD : va_D A [(h0, .inr (1, [.null, .null]))] := hD
  have hl := lv_entry ([.ref h0]) (n := 1) (Nat.le_of_ble_eq_true rfl)
  rw [lg_entry_eq]
  generalize (lg_sl ([.ref h0]) ++ List.replicate (1 - (lg_sl ([.ref h0])).length) Slot.unset).toArray = ls at hl ⊢
  have hl : lv_has ls 1 [(0, .ref h0)] := hl
  refine lv_aload_n hx hb dX1_init_0 rfl (lv_at hl 0 rfl) ?_
  refine W.objInit hx hb hown (hts _ q149) (hts _ q23) (hts _ q24) rfl (by rw [hml]; exact hl.1) rfl dX1_init_1 (Nat.le_of_ble_eq_true rfl) (Nat.le_of_ble_eq_true rfl) ?_
  refine W.eq (g2 := F0 m 4 ls []) rfl ?_
  refine lv_aload_n hx hb dX1_init_4 rfl (lv_at hl 0 rfl) ?_
  refine lv_bipush (v := nI 100) hx hb dX1_init_5 (by decide) ?_
  refine va_newa (atype := .boolean) (ty := .boolean) (N' := 100) (a0 := (100, .inl (fun _ => bd_bz false))) hx hb (hts _ q57) rfl hK hP hD hS hA (bd_arr0 bd_z_bz 100 rfl) (by decide) (by decide) (by decide) (Nat.le_of_ble_eq_true rfl) (Nat.le_of_ble_eq_true rfl) dX1_init_7 (fun q1 d1 H hK hP hD hS => ?_)
  have hP : va_P D bd_Cl [(h0, .inr (1, [.null, .null])), (q1, .inl (d1, 100, .inl (fun _ => bd_bz false)))] H := hP
  have hD : va_D A [(h0, .inr (1, [.null, .null])), (q1, .inl (d1, 100, .inl (fun _ => bd_bz false)))] := hD
  have hK : va_K D bd_Cl [(d1, .boolean)] s := hK
  refine W.widen (k := 1) (n := 100) (Nat.le_of_ble_eq_true rfl) (Nat.le_of_ble_eq_true rfl) ?_
  refine va_putF (D := D) (ci := 1) (v := .ref q1) (ty := .array .boolean) (C := RX1) (T := TX1) (N := 2) hx hb hts in_X1 tyX1 tyX1_ok nmX1 hown hK hP hD hS 0 rfl rfl 0 (by decide) (hts _ q150) (fun _ h9 => h9) rfl hin rfl (by decide +kernel) rfl rfl (Nat.le_of_ble_eq_true rfl) dX1_init_9 (fun H locs hP hD hS => ?_)
  have hP : va_P D bd_Cl [(h0, .inr (1, [.ref q1, .null])), (q1, .inl (d1, 100, .inl (fun _ => bd_bz false)))] H := hP
  have hD : va_D A [(h0, .inr (1, [.ref q1, .null])), (q1, .inl (d1, 100, .inl (fun _ => bd_bz false)))] := hD
  refine lv_aload_n hx hb dX1_init_12 rfl (lv_at hl 0 rfl) ?_
  refine lv_sipush (v := nI 1024) hx hb dX1_init_13 (by decide) ?_
  refine va_newa (atype := .int) (ty := .int) (N' := 1024) (a0 := (1024, .inl (fun _ => nI 0))) hx hb (hts _ q56) rfl hK hP hD hS hA (bd_arr0 bd_z_nI 1024 rfl) (by decide) (by decide) (by decide) (Nat.le_of_ble_eq_true rfl) (Nat.le_of_ble_eq_true rfl) dX1_init_16 (fun q2 d2 H hK hP hD hS => ?_)
  have hP : va_P D bd_Cl [(h0, .inr (1, [.ref q1, .null])), (q1, .inl (d1, 100, .inl (fun _ => bd_bz false))), (q2, .inl (d2, 1024, .inl (fun _ => nI 0)))] H := hP
  have hD : va_D A [(h0, .inr (1, [.ref q1, .null])), (q1, .inl (d1, 100, .inl (fun _ => bd_bz false))), (q2, .inl (d2, 1024, .inl (fun _ => nI 0)))] := hD
  have hK : va_K D bd_Cl [(d1, .boolean), (d2, .int)] s := hK
  refine W.widen (k := 2) (n := 1124) (Nat.le_of_ble_eq_true rfl) (Nat.le_of_ble_eq_true rfl) ?_
  refine va_putF (D := D) (ci := 1) (v := .ref q2) (ty := .array .int) (C := RX1) (T := TX1) (N := 2) hx hb hts in_X1 tyX1 tyX1_ok nmX1 hown hK hP hD hS 0 rfl rfl 1 (by decide) (hts _ q151) (fun _ h9 => h9) rfl hin rfl (by decide +kernel) rfl rfl (Nat.le_of_ble_eq_true rfl) dX1_init_18 (fun H locs hP hD hS => ?_)
  have hP : va_P D bd_Cl [(h0, .inr (1, [.ref q1, .ref q2])), (q1, .inl (d1, 100, .inl (fun _ => bd_bz false))), (q2, .inl (d2, 1024, .inl (fun _ => nI 0)))] H := hP
  have hD : va_D A [(h0, .inr (1, [.ref q1, .ref q2])), (q1, .inl (d1, 100, .inl (fun _ => bd_bz false))), (q2, .inl (d2, 1024, .inl (fun _ => nI 0)))] := hD
  have hP9 : va_P D bd_Cl (be_w (bd_hs [h0, q1, q2]) (bd_hc [d1, d1, d2] d1) be_st0) H := hP
  have hD9 : va_D A (be_w (bd_hs [h0, q1, q2]) (bd_hc [d1, d1, d2] d1) be_st0) := hD
  have hK9 : va_K D bd_Cl (be_ty (bd_hc [d1, d1, d2] d1)) s := hK
  exact W.vret hx hb hr (fun t ht hW => ⟨⟨(bd_hs [h0, q1, q2], bd_hc [d1, d1, d2] d1), rfl, rfl, by rw [ht]; exact hP9, va_K.moved hW.alike hK9, hD9⟩, hS.F ht⟩) hS.2.2 dX1_init_21
end
section
/-! THE CLAIM OUT OF ONE WALK OF THE LAW'S BODY. Your part is whole_start (and what it stands on); all else here is the same for every law, but numbers. -/
def R_law : String := "BlossomDeskLaw"
def lw_P (b : Addr) (xs : List Int32) (args : Array Value) (s : State) : Prop := args = #[.ref b] ∧ s.IntsAt b xs ∧ xs.length ≤ 192 ∧ (Jvm.Cond.and given_1 narrow_1).before args s = true
def lw_Q (_ : Array Value) (s : State) (o : Outcome) (t : State) : Prop := o = .returned (some (.int 1)) ∧ Framed s o t [] 600000 7290000
def lw_Z (below : List Frame) (a : Array Value) (s : State) : State → Prop := fun t => ∃ o, t.status = .running ∧ Ended t below o ∧ lw_Q a s o t
/-- the law's own end, with 1 on the stack, nothing written that was there before, its room as the claim has it -/
theorem lw_ret {p : Program} {l : Launch} {e : Env} {s : State} {m : MethodId} {below : List Frame} {meth : Method} {c : Code} {b : Nat} (hx : p.tables.exec = Jvm.exec) (hb : c.code = code) (hr : meth.sig.returnType = ret) (hlocks : meth.locks = false) {pc : Nat} {H : Heap} {ls : Array Slot} (hdg : decode code pc = .ok (.ireturn, 1)) : W p l e room_1 s m #[Value.ref b] below meth c H [] 600000 7290000 (lw_Z below #[Value.ref b] s) (F0 m pc ls [.int 1]) := by
  intro T hT X
  obtain ⟨fs, hret, hrun, hended, hW, hframe⟩ := X.leave (v := some (.int 1)) (hlocks := hlocks) (fun h => by rw [hr] at h; cases h)
  have hmeth' : T.vm.method? m = some meth := X.method'
  refine ⟨T.setFrames fs, ?_, .returned (some (.int 1)), hrun, hended, rfl, ⟨_, rfl⟩, hW, hframe⟩
  jvm_step X.here [X.here.top, hx, hb, hdg, hmeth', hr, ret, narrow_b1]
  (try refine ⟨rfl, ?_⟩); (try refine ⟨rfl, ?_⟩)
  first | (intro acts; rw [hret _ acts rfl rfl rfl]) | rw [hret _ _ rfl rfl rfl]
  exact Steps.refl _
/-- what holds at the law's entry: the machine, the code, the tables' words (any of lw_tbl by 'hts w (by decide +kernel)'), the script of L ints xs at the cell b, what the Statement gives of the start (any of its parts by flat_of_before) -/
def lw_At (p : Program) (s : State) (m : MethodId) (meth : Method) (c : Code) (b L : Nat) (xs : Nat → Int32) : Prop :=
  p.tables.exec = Jvm.exec ∧ c.code = code ∧ meth.sig.returnType = ret ∧ c.maxLocals = 4 ∧ s.vm.findClass R_law = some m.cls ∧ (∀ w ∈ lw_tbl, w.before #[Value.ref b] s = true) ∧ va_X b L xs s s.heap ∧ b < s.heap.size ∧ meth.locks = false ∧ (Jvm.Cond.and given_1 narrow_1).before #[Value.ref b] s = true
/-! the law: its world is the desk's and the model's -/
set_option maxRecDepth 100000
def bl_at (D : va_G) (h : Nat → Nat) (d : Nat → ClassId) (g : Nat → Nat) (f : Nat → ClassId) (A : Nat → Prop) (H0 H : Heap) (locs : List Loc) (st : bd_DS) (ms : be_MS) : Prop :=
  va_P D bd_Cl (bd_w h d st ++ be_w g f ms) H ∧ va_D A (bd_w h d st ++ be_w g f ms) ∧ va_S A H0 H locs
def bl_cx (p : Program) (c : Code) (s : State) (m : MethodId) (args : Array Value) (D : va_G) (d f : Nat → ClassId) : Prop :=
  CallFix p m c code 4 s args lw_all R_law ∧ va_K D bd_Cl (bd_ty d ++ be_ty f) s
section BLROWS
variable {p : Program} {l : Launch} {e : Env} {R : Room} {s : State} {m : MethodId} {args : Array Value} {below : List Frame} {meth : Method} {c : Code} {H : Heap} {locs : List Loc} {cells slots : Nat} {Q : State → Prop}
variable {pc : Nat} {ls : Array Slot} {rest : List Value} {D : va_G} {A : Nat → Prop} {H0 : Heap} {h g : Nat → Nat} {d f : Nat → ClassId} {st : bd_DS} {ms : be_MS}
theorem bl_callD {y : MethodName} {bytes : ByteArray} {maxL : Nat} {ret : Option FieldType} {fr lo n index : Nat} {As st0 : List Value} {v : Int32} {st' : bd_DS} (C : bl_cx p c s m args D d f) (hw : bl_at D h d g f A H0 H locs st ms) (hA : ∀ q, H0.size ≤ q → A q)
    (hM : bd_MI l y bytes maxL ret fr lo D h d H.size As st v st') (cw : CallW R s args R_law RX0 index y bytes maxL ret (ws_ y bytes maxL ret) { frames := fr, cells := 0, slots := 0, locals := lo } 0 0 n) (hn : As.length = n) (hsz : ls.size = 4) (hst : st0 = As.reverse ++ .ref (h 0) :: rest) (hW : (rest.map fun v => v.category).sum ≤ 8) (hdg : decode code pc = .ok (.invokevirtual index, 3)) (hf : cells ≤ R.cells ∧ slots ≤ R.slots)
    (kk : ∀ (H : Heap) (locs : List Loc), bl_at D h d g f A H0 H locs st' ms → W p l e R s m args below meth c H locs cells slots Q (F0 m (pc + 3) ls (.int v :: rest))) : W p l e R s m args below meth c H locs cells slots Q (F0 m pc ls st0) := by
  have hPc := hw.1.sub (ws' := bd_w h d st) [0, 1, 2, 3, 4, 5, 6, 7, 8] rfl
  have hDc := hw.2.1.sub (ws' := bd_w h d st) [0, 1, 2, 3, 4, 5, 6, 7, 8] (by decide) rfl
  have hKc := C.2.sub (tys' := bd_ty d) [0, 1, 2, 3, 4, 5, 6, 7] rfl
  have hFc := va_free (wc := bd_w h d st) hw.2.1 hw.2.2 hA [0, 1, 2, 3, 4, 5, 6, 7, 8] rfl
  refine va_calli (va_runV (As := As) (rest := rest) C.1 hM cw ⟨bd_blind, va_recv hKc hPc (ci := 0) (q0 := 0) rfl rfl, fun U hU hW => ⟨rfl, by rw [hU], by rw [hU]; exact hPc, va_K.moved hW.alike hKc, hDc.weaken (fun _ _ _ _ => trivial)⟩⟩ rfl hn hsz hst (lv_room hW) hdg hf) hw.2.2 (fun q _ h => hFc q h) hFc (fun r1 u t H1 locs1 ht hvm hw1 hB hz1 hk1 hS => ?_)
  obtain ⟨hP1, hK1, hD1⟩ := hB
  rw [ht] at hP1
  have hw1 : r1 = v := hw1
  subst hw1
  obtain ⟨hP, hD⟩ := va_join (wr := be_w g f ms) (w1 := bd_w h d st') hw.1 hw.2.1 [0, 1, 2, 3, 4, 5, 6, 7, 8] [9, 10, 11] rfl rfl (by decide) (by decide) hk1 hFc hP1 hD1
  exact kk H1 locs1 ⟨hP.sub (ws' := bd_w h d st' ++ be_w g f ms) [3, 4, 5, 6, 7, 8, 9, 10, 11, 0, 1, 2] rfl, hD.sub (ws' := bd_w h d st' ++ be_w g f ms) [3, 4, 5, 6, 7, 8, 9, 10, 11, 0, 1, 2] (by decide) rfl, hS⟩
theorem bl_callM {y : MethodName} {bytes : ByteArray} {maxL : Nat} {ret : Option FieldType} {fr lo n index : Nat} {As st0 : List Value} {v : Int32} {ms' : be_MS} (C : bl_cx p c s m args D d f) (hw : bl_at D h d g f A H0 H locs st ms) (hA : ∀ q, H0.size ≤ q → A q)
    (hM : be_MI l y bytes maxL ret fr lo D g f H.size As ms v ms') (cw : CallW R s args R_law RX1 index y bytes maxL ret (ws_ y bytes maxL ret) { frames := fr, cells := 0, slots := 0, locals := lo } 0 0 n) (hn : As.length = n) (hsz : ls.size = 4) (hst : st0 = As.reverse ++ .ref (g 0) :: rest) (hW : (rest.map fun v => v.category).sum ≤ 8) (hdg : decode code pc = .ok (.invokevirtual index, 3)) (hf : cells ≤ R.cells ∧ slots ≤ R.slots)
    (kk : ∀ (H : Heap) (locs : List Loc), bl_at D h d g f A H0 H locs st ms' → W p l e R s m args below meth c H locs cells slots Q (F0 m (pc + 3) ls (.int v :: rest))) : W p l e R s m args below meth c H locs cells slots Q (F0 m pc ls st0) := by
  have hPc := hw.1.sub (ws' := be_w g f ms) [9, 10, 11] rfl
  have hDc := hw.2.1.sub (ws' := be_w g f ms) [9, 10, 11] (by decide) rfl
  have hKc := C.2.sub (tys' := be_ty f) [8, 9] rfl
  have hFc := va_free (wc := be_w g f ms) hw.2.1 hw.2.2 hA [9, 10, 11] rfl
  refine va_calli (va_runV (As := As) (rest := rest) C.1 hM cw ⟨be_blind, va_recv hKc hPc (ci := 1) (q0 := 0) rfl rfl, fun U hU hW => ⟨rfl, by rw [hU], by rw [hU]; exact hPc, va_K.moved hW.alike hKc, hDc.weaken (fun _ _ _ _ => trivial)⟩⟩ rfl hn hsz hst (lv_room hW) hdg hf) hw.2.2 (fun q _ h => hFc q h) hFc (fun r1 u t H1 locs1 ht hvm hw1 hB hz1 hk1 hS => ?_)
  obtain ⟨hP1, hK1, hD1⟩ := hB
  rw [ht] at hP1
  have hw1 : r1 = v := hw1
  subst hw1
  obtain ⟨hP, hD⟩ := va_join (wr := bd_w h d st) (w1 := be_w g f ms') hw.1 hw.2.1 [9, 10, 11] [0, 1, 2, 3, 4, 5, 6, 7, 8] rfl rfl (by decide) (by decide) hk1 hFc hP1 hD1
  exact kk H1 locs1 ⟨hP, hD, hS⟩
/-- an int of the script -/
theorem bl_ld {b L i : Nat} {xs : Nat → Int32} (hx : p.tables.exec = Jvm.exec) (hb : c.code = code) (hX : va_X b L xs s H0) (hbl : b < H0.size) (hbA : ¬ A b) (hS : va_S A H0 H locs) (hi : i < L) (hL : L ≤ 192) (hdg : decode code pc = .ok (.iaload, 1)) (kk : W p l e R s m args below meth c H locs cells slots Q (F0 m (pc + 1) ls (.int (xs i) :: rest))) : W p l e R s m args below meth c H locs cells slots Q (F0 m pc ls (.int (nI i) :: .ref b :: rest)) := by
  refine va_sld hx hb hX hbl hbA hS (vp_in_nI hi (by omega)) hdg ?_
  rw [nI_clamp (by omega)]
  exact kk
end BLROWS
theorem bl_sw (x : Int32) : (∃ k : Nat, k < 9 ∧ x = nI k) ∨ (x.toInt < 0 ∨ 8 < x.toInt) := by
  by_cases c : x.toInt < 0 ∨ 8 < x.toInt
  · exact Or.inr c
  · refine Or.inl ?_
    have h0 : (0 : Int32).toInt = 0 := by decide
    have h1 : ¬ x < 0 := by
      rw [Int32.lt_iff_toInt_lt, h0]
      omega
    obtain ⟨j, j1, j2⟩ := nI_of h1
    refine ⟨j, ?_, j2⟩
    rw [j2, nI_toInt j1] at c
    omega
theorem bl_head {i L : Nat} (hi : i ≤ 192) (hL : L ≤ 192) : nI L - nI 3 < nI i ↔ L < i + 3 := by
  rw [Int32.lt_iff_toInt_lt, pk_sub_toInt (by omega) (by omega), nI_toInt (by omega)]
  omega
end
section
/-! the law (printed by gen/law.py) -/
set_option maxRecDepth 100000
/-- from 301 the loop goes on -/
abbrev bl_go (p : Program) (l : Launch) (e : Env) (s : State) (m : MethodId) (below : List Frame) (meth : Method) (c : Code) (D : va_G) (h g : Nat → Nat) (d f : Nat → ClassId) (b i : Nat) : Prop := ∀ (st : bd_DS) (ms : be_MS) (H : Heap) (locs : List Loc), bl_I st ms → bl_at D h d g f (fun q : Nat => s.heap.size ≤ q) s.heap H locs st ms → ∀ ls : Array Slot, lv_has ls 4 [(0, .ref b), (1, .ref (h 0)), (2, .ref (g 0)), (3, .int (nI i))] → W p l e room_1 s m #[Value.ref b] below meth c H locs 600000 7290000 (lw_Z below #[Value.ref b] s) (F0 m 301 ls [])
set_option maxHeartbeats 4000000 in
set_option maxRecDepth 100000 in
theorem bl_case0 {p : Program} {l : Launch} {e : Env} {s : State} {m : MethodId} {below : List Frame} {meth : Method} {c : Code} {D : va_G} {h g : Nat → Nat} {d f : Nat → ClassId} {b L : Nat} {xs : Nat → Int32} (hL : L ≤ 192) (C0 : lw_At p s m meth c b L xs) (C : bl_cx p c s m #[Value.ref b] D d f) {i : Nat} (hi : i + 3 ≤ L) (go : bl_go p l e s m below meth c D h g d f b i) {st : bd_DS} {ms : be_MS} {H : Heap} {locs : List Loc} (hI : bl_I st ms) (hw : bl_at D h d g f (fun q : Nat => s.heap.size ≤ q) s.heap H locs st ms) {ls : Array Slot} (hl : lv_has ls 4 [(0, .ref b), (1, .ref (h 0)), (2, .ref (g 0)), (3, .int (nI i))]) : W p l e room_1 s m #[Value.ref b] below meth c H locs 600000 7290000 (lw_Z below #[Value.ref b] s) (F0 m 84 ls []) := by
  obtain ⟨hx, hb, hr, hml, hown, hts, hX, hbl, hlocks, hgv⟩ := C0
  have hA : ∀ q : Nat, s.heap.size ≤ q → (fun q : Nat => s.heap.size ≤ q) q := fun _ h => h
  have hbA : ¬ (fun q : Nat => s.heap.size ≤ q) b := Nat.not_le.mpr hbl
  obtain ⟨v, st1, ms1, hI1, hM0, hM1⟩ := bl_join l hI (xs (i + 1)) (xs (i + 2))
  refine lv_aload_n hx hb dL_law_84 rfl (lv_at hl 1 rfl) ?_
  refine lv_aload_n hx hb dL_law_85 rfl (lv_at hl 0 rfl) ?_
  refine lv_iload_n hx hb dL_law_86 rfl (lv_at hl 3 rfl) ?_
  refine lv_iconst (v := nI 1) hx hb dL_law_87 (by decide) ?_
  refine lv_iadd hx hb dL_law_88 ?_
  refine bd_top (y := nI (i + 1)) (nI_add i 1) ?_
  refine bl_ld hx hb hX hbl hbA hw.2.2 (by omega) hL dL_law_89 ?_
  refine lv_aload_n hx hb dL_law_90 rfl (lv_at hl 0 rfl) ?_
  refine lv_iload_n hx hb dL_law_91 rfl (lv_at hl 3 rfl) ?_
  refine lv_iconst (v := nI 2) hx hb dL_law_92 (by decide) ?_
  refine lv_iadd hx hb dL_law_93 ?_
  refine bd_top (y := nI (i + 2)) (nI_add i 2) ?_
  refine bl_ld hx hb hX hbl hbA hw.2.2 (by omega) hL dL_law_94 ?_
  refine bl_callD C hw hA (hM0 D h d _) (cwV 2 C.1.2.2.2.2 (lw_V q58 q59 q60 q15 q61) rfl rfl rfl (by decide +kernel) ⟨Nat.le_of_ble_eq_true rfl, Nat.le_of_ble_eq_true rfl⟩) rfl hl.1 rfl (Nat.le_of_ble_eq_true rfl) dL_law_95 ⟨Nat.le_refl _, Nat.le_refl _⟩ (fun H locs hw => ?_)
  refine lv_aload_n hx hb dL_law_98 rfl (lv_at hl 2 rfl) ?_
  refine lv_aload_n hx hb dL_law_99 rfl (lv_at hl 0 rfl) ?_
  refine lv_iload_n hx hb dL_law_100 rfl (lv_at hl 3 rfl) ?_
  refine lv_iconst (v := nI 1) hx hb dL_law_101 (by decide) ?_
  refine lv_iadd hx hb dL_law_102 ?_
  refine bd_top (y := nI (i + 1)) (nI_add i 1) ?_
  refine bl_ld hx hb hX hbl hbA hw.2.2 (by omega) hL dL_law_103 ?_
  refine lv_aload_n hx hb dL_law_104 rfl (lv_at hl 0 rfl) ?_
  refine lv_iload_n hx hb dL_law_105 rfl (lv_at hl 3 rfl) ?_
  refine lv_iconst (v := nI 2) hx hb dL_law_106 (by decide) ?_
  refine lv_iadd hx hb dL_law_107 ?_
  refine bd_top (y := nI (i + 2)) (nI_add i 2) ?_
  refine bl_ld hx hb hX hbl hbA hw.2.2 (by omega) hL dL_law_108 ?_
  refine bl_callM C hw hA (hM1 D g f _) (cwV 2 C.1.2.2.2.2 (lw_V q157 q158 q159 q16 q160) rfl rfl rfl (by decide +kernel) ⟨Nat.le_of_ble_eq_true rfl, Nat.le_of_ble_eq_true rfl⟩) rfl hl.1 rfl (Nat.le_of_ble_eq_true rfl) dL_law_109 ⟨Nat.le_refl _, Nat.le_refl _⟩ (fun H locs hw => ?_)
  refine lv_icmp_eq (tgt := 301) hx hb dL_law_112 (by decide) (fun _ => ?_) (fun c_1 => absurd rfl c_1)
  exact go st1 ms1 H locs hI1 hw ls hl
set_option maxHeartbeats 4000000 in
set_option maxRecDepth 100000 in
theorem bl_case1 {p : Program} {l : Launch} {e : Env} {s : State} {m : MethodId} {below : List Frame} {meth : Method} {c : Code} {D : va_G} {h g : Nat → Nat} {d f : Nat → ClassId} {b L : Nat} {xs : Nat → Int32} (hL : L ≤ 192) (C0 : lw_At p s m meth c b L xs) (C : bl_cx p c s m #[Value.ref b] D d f) {i : Nat} (hi : i + 3 ≤ L) (go : bl_go p l e s m below meth c D h g d f b i) {st : bd_DS} {ms : be_MS} {H : Heap} {locs : List Loc} (hI : bl_I st ms) (hw : bl_at D h d g f (fun q : Nat => s.heap.size ≤ q) s.heap H locs st ms) {ls : Array Slot} (hl : lv_has ls 4 [(0, .ref b), (1, .ref (h 0)), (2, .ref (g 0)), (3, .int (nI i))]) : W p l e room_1 s m #[Value.ref b] below meth c H locs 600000 7290000 (lw_Z below #[Value.ref b] s) (F0 m 117 ls []) := by
  obtain ⟨hx, hb, hr, hml, hown, hts, hX, hbl, hlocks, hgv⟩ := C0
  have hA : ∀ q : Nat, s.heap.size ≤ q → (fun q : Nat => s.heap.size ≤ q) q := fun _ h => h
  have hbA : ¬ (fun q : Nat => s.heap.size ≤ q) b := Nat.not_le.mpr hbl
  obtain ⟨v, st1, ms1, hI1, hM0, hM1⟩ := bl_part l hI (xs (i + 1)) (xs (i + 2))
  refine lv_aload_n hx hb dL_law_117 rfl (lv_at hl 1 rfl) ?_
  refine lv_aload_n hx hb dL_law_118 rfl (lv_at hl 0 rfl) ?_
  refine lv_iload_n hx hb dL_law_119 rfl (lv_at hl 3 rfl) ?_
  refine lv_iconst (v := nI 1) hx hb dL_law_120 (by decide) ?_
  refine lv_iadd hx hb dL_law_121 ?_
  refine bd_top (y := nI (i + 1)) (nI_add i 1) ?_
  refine bl_ld hx hb hX hbl hbA hw.2.2 (by omega) hL dL_law_122 ?_
  refine lv_aload_n hx hb dL_law_123 rfl (lv_at hl 0 rfl) ?_
  refine lv_iload_n hx hb dL_law_124 rfl (lv_at hl 3 rfl) ?_
  refine lv_iconst (v := nI 2) hx hb dL_law_125 (by decide) ?_
  refine lv_iadd hx hb dL_law_126 ?_
  refine bd_top (y := nI (i + 2)) (nI_add i 2) ?_
  refine bl_ld hx hb hX hbl hbA hw.2.2 (by omega) hL dL_law_127 ?_
  refine bl_callD C hw hA (hM0 D h d _) (cwV 2 C.1.2.2.2.2 (lw_V q69 q70 q71 q15 q72) rfl rfl rfl (by decide +kernel) ⟨Nat.le_of_ble_eq_true rfl, Nat.le_of_ble_eq_true rfl⟩) rfl hl.1 rfl (Nat.le_of_ble_eq_true rfl) dL_law_128 ⟨Nat.le_refl _, Nat.le_refl _⟩ (fun H locs hw => ?_)
  refine lv_aload_n hx hb dL_law_131 rfl (lv_at hl 2 rfl) ?_
  refine lv_aload_n hx hb dL_law_132 rfl (lv_at hl 0 rfl) ?_
  refine lv_iload_n hx hb dL_law_133 rfl (lv_at hl 3 rfl) ?_
  refine lv_iconst (v := nI 1) hx hb dL_law_134 (by decide) ?_
  refine lv_iadd hx hb dL_law_135 ?_
  refine bd_top (y := nI (i + 1)) (nI_add i 1) ?_
  refine bl_ld hx hb hX hbl hbA hw.2.2 (by omega) hL dL_law_136 ?_
  refine lv_aload_n hx hb dL_law_137 rfl (lv_at hl 0 rfl) ?_
  refine lv_iload_n hx hb dL_law_138 rfl (lv_at hl 3 rfl) ?_
  refine lv_iconst (v := nI 2) hx hb dL_law_139 (by decide) ?_
  refine lv_iadd hx hb dL_law_140 ?_
  refine bd_top (y := nI (i + 2)) (nI_add i 2) ?_
  refine bl_ld hx hb hX hbl hbA hw.2.2 (by omega) hL dL_law_141 ?_
  refine bl_callM C hw hA (hM1 D g f _) (cwV 2 C.1.2.2.2.2 (lw_V q171 q172 q173 q16 q174) rfl rfl rfl (by decide +kernel) ⟨Nat.le_of_ble_eq_true rfl, Nat.le_of_ble_eq_true rfl⟩) rfl hl.1 rfl (Nat.le_of_ble_eq_true rfl) dL_law_142 ⟨Nat.le_refl _, Nat.le_refl _⟩ (fun H locs hw => ?_)
  refine lv_icmp_eq (tgt := 301) hx hb dL_law_145 (by decide) (fun _ => ?_) (fun c_1 => absurd rfl c_1)
  exact go st1 ms1 H locs hI1 hw ls hl
set_option maxHeartbeats 4000000 in
set_option maxRecDepth 100000 in
theorem bl_case2 {p : Program} {l : Launch} {e : Env} {s : State} {m : MethodId} {below : List Frame} {meth : Method} {c : Code} {D : va_G} {h g : Nat → Nat} {d f : Nat → ClassId} {b L : Nat} {xs : Nat → Int32} (hL : L ≤ 192) (C0 : lw_At p s m meth c b L xs) (C : bl_cx p c s m #[Value.ref b] D d f) {i : Nat} (hi : i + 3 ≤ L) (go : bl_go p l e s m below meth c D h g d f b i) {st : bd_DS} {ms : be_MS} {H : Heap} {locs : List Loc} (hI : bl_I st ms) (hw : bl_at D h d g f (fun q : Nat => s.heap.size ≤ q) s.heap H locs st ms) {ls : Array Slot} (hl : lv_has ls 4 [(0, .ref b), (1, .ref (h 0)), (2, .ref (g 0)), (3, .int (nI i))]) : W p l e room_1 s m #[Value.ref b] below meth c H locs 600000 7290000 (lw_Z below #[Value.ref b] s) (F0 m 150 ls []) := by
  obtain ⟨hx, hb, hr, hml, hown, hts, hX, hbl, hlocks, hgv⟩ := C0
  have hA : ∀ q : Nat, s.heap.size ≤ q → (fun q : Nat => s.heap.size ≤ q) q := fun _ h => h
  have hbA : ¬ (fun q : Nat => s.heap.size ≤ q) b := Nat.not_le.mpr hbl
  obtain ⟨v, st1, ms1, hI1, hM0, hM1⟩ := bl_most l hI
  refine lv_aload_n hx hb dL_law_150 rfl (lv_at hl 1 rfl) ?_
  refine bl_callD C hw hA (hM0 D h d _) (cwV 0 C.1.2.2.2.2 (lw_V q73 q74 q75 q15 q76) rfl rfl rfl (by decide +kernel) ⟨Nat.le_of_ble_eq_true rfl, Nat.le_of_ble_eq_true rfl⟩) rfl hl.1 rfl (Nat.le_of_ble_eq_true rfl) dL_law_151 ⟨Nat.le_refl _, Nat.le_refl _⟩ (fun H locs hw => ?_)
  refine lv_aload_n hx hb dL_law_154 rfl (lv_at hl 2 rfl) ?_
  refine bl_callM C hw hA (hM1 D g f _) (cwV 0 C.1.2.2.2.2 (lw_V q175 q176 q177 q16 q178) rfl rfl rfl (by decide +kernel) ⟨Nat.le_of_ble_eq_true rfl, Nat.le_of_ble_eq_true rfl⟩) rfl hl.1 rfl (Nat.le_of_ble_eq_true rfl) dL_law_155 ⟨Nat.le_refl _, Nat.le_refl _⟩ (fun H locs hw => ?_)
  refine lv_icmp_eq (tgt := 301) hx hb dL_law_158 (by decide) (fun _ => ?_) (fun c_1 => absurd rfl c_1)
  exact go st1 ms1 H locs hI1 hw ls hl
set_option maxHeartbeats 4000000 in
set_option maxRecDepth 100000 in
theorem bl_case3 {p : Program} {l : Launch} {e : Env} {s : State} {m : MethodId} {below : List Frame} {meth : Method} {c : Code} {D : va_G} {h g : Nat → Nat} {d f : Nat → ClassId} {b L : Nat} {xs : Nat → Int32} (hL : L ≤ 192) (C0 : lw_At p s m meth c b L xs) (C : bl_cx p c s m #[Value.ref b] D d f) {i : Nat} (hi : i + 3 ≤ L) (go : bl_go p l e s m below meth c D h g d f b i) {st : bd_DS} {ms : be_MS} {H : Heap} {locs : List Loc} (hI : bl_I st ms) (hw : bl_at D h d g f (fun q : Nat => s.heap.size ≤ q) s.heap H locs st ms) {ls : Array Slot} (hl : lv_has ls 4 [(0, .ref b), (1, .ref (h 0)), (2, .ref (g 0)), (3, .int (nI i))]) : W p l e room_1 s m #[Value.ref b] below meth c H locs 600000 7290000 (lw_Z below #[Value.ref b] s) (F0 m 163 ls []) := by
  obtain ⟨hx, hb, hr, hml, hown, hts, hX, hbl, hlocks, hgv⟩ := C0
  have hA : ∀ q : Nat, s.heap.size ≤ q → (fun q : Nat => s.heap.size ≤ q) q := fun _ h => h
  have hbA : ¬ (fun q : Nat => s.heap.size ≤ q) b := Nat.not_le.mpr hbl
  obtain ⟨v, st1, ms1, hI1, hM0, hM1⟩ := bl_spare l hI (xs (i + 1))
  refine lv_aload_n hx hb dL_law_163 rfl (lv_at hl 1 rfl) ?_
  refine lv_aload_n hx hb dL_law_164 rfl (lv_at hl 0 rfl) ?_
  refine lv_iload_n hx hb dL_law_165 rfl (lv_at hl 3 rfl) ?_
  refine lv_iconst (v := nI 1) hx hb dL_law_166 (by decide) ?_
  refine lv_iadd hx hb dL_law_167 ?_
  refine bd_top (y := nI (i + 1)) (nI_add i 1) ?_
  refine bl_ld hx hb hX hbl hbA hw.2.2 (by omega) hL dL_law_168 ?_
  refine bl_callD C hw hA (hM0 D h d _) (cwV 1 C.1.2.2.2.2 (lw_V q109 q110 q111 q15 q112) rfl rfl rfl (by decide +kernel) ⟨Nat.le_of_ble_eq_true rfl, Nat.le_of_ble_eq_true rfl⟩) rfl hl.1 rfl (Nat.le_of_ble_eq_true rfl) dL_law_169 ⟨Nat.le_refl _, Nat.le_refl _⟩ (fun H locs hw => ?_)
  refine lv_aload_n hx hb dL_law_172 rfl (lv_at hl 2 rfl) ?_
  refine lv_aload_n hx hb dL_law_173 rfl (lv_at hl 0 rfl) ?_
  refine lv_iload_n hx hb dL_law_174 rfl (lv_at hl 3 rfl) ?_
  refine lv_iconst (v := nI 1) hx hb dL_law_175 (by decide) ?_
  refine lv_iadd hx hb dL_law_176 ?_
  refine bd_top (y := nI (i + 1)) (nI_add i 1) ?_
  refine bl_ld hx hb hX hbl hbA hw.2.2 (by omega) hL dL_law_177 ?_
  refine bl_callM C hw hA (hM1 D g f _) (cwV 1 C.1.2.2.2.2 (lw_V q187 q188 q189 q16 q190) rfl rfl rfl (by decide +kernel) ⟨Nat.le_of_ble_eq_true rfl, Nat.le_of_ble_eq_true rfl⟩) rfl hl.1 rfl (Nat.le_of_ble_eq_true rfl) dL_law_178 ⟨Nat.le_refl _, Nat.le_refl _⟩ (fun H locs hw => ?_)
  refine lv_icmp_eq (tgt := 301) hx hb dL_law_181 (by decide) (fun _ => ?_) (fun c_1 => absurd rfl c_1)
  exact go st1 ms1 H locs hI1 hw ls hl
set_option maxHeartbeats 4000000 in
set_option maxRecDepth 100000 in
theorem bl_case4 {p : Program} {l : Launch} {e : Env} {s : State} {m : MethodId} {below : List Frame} {meth : Method} {c : Code} {D : va_G} {h g : Nat → Nat} {d f : Nat → ClassId} {b L : Nat} {xs : Nat → Int32} (hL : L ≤ 192) (C0 : lw_At p s m meth c b L xs) (C : bl_cx p c s m #[Value.ref b] D d f) {i : Nat} (hi : i + 3 ≤ L) (go : bl_go p l e s m below meth c D h g d f b i) {st : bd_DS} {ms : be_MS} {H : Heap} {locs : List Loc} (hI : bl_I st ms) (hw : bl_at D h d g f (fun q : Nat => s.heap.size ≤ q) s.heap H locs st ms) {ls : Array Slot} (hl : lv_has ls 4 [(0, .ref b), (1, .ref (h 0)), (2, .ref (g 0)), (3, .int (nI i))]) : W p l e room_1 s m #[Value.ref b] below meth c H locs 600000 7290000 (lw_Z below #[Value.ref b] s) (F0 m 186 ls []) := by
  obtain ⟨hx, hb, hr, hml, hown, hts, hX, hbl, hlocks, hgv⟩ := C0
  have hA : ∀ q : Nat, s.heap.size ≤ q → (fun q : Nat => s.heap.size ≤ q) q := fun _ h => h
  have hbA : ¬ (fun q : Nat => s.heap.size ≤ q) b := Nat.not_le.mpr hbl
  obtain ⟨v, st1, ms1, hI1, hM0, hM1⟩ := bl_usable l hI (xs (i + 1)) (xs (i + 2))
  refine lv_aload_n hx hb dL_law_186 rfl (lv_at hl 1 rfl) ?_
  refine lv_aload_n hx hb dL_law_187 rfl (lv_at hl 0 rfl) ?_
  refine lv_iload_n hx hb dL_law_188 rfl (lv_at hl 3 rfl) ?_
  refine lv_iconst (v := nI 1) hx hb dL_law_189 (by decide) ?_
  refine lv_iadd hx hb dL_law_190 ?_
  refine bd_top (y := nI (i + 1)) (nI_add i 1) ?_
  refine bl_ld hx hb hX hbl hbA hw.2.2 (by omega) hL dL_law_191 ?_
  refine lv_aload_n hx hb dL_law_192 rfl (lv_at hl 0 rfl) ?_
  refine lv_iload_n hx hb dL_law_193 rfl (lv_at hl 3 rfl) ?_
  refine lv_iconst (v := nI 2) hx hb dL_law_194 (by decide) ?_
  refine lv_iadd hx hb dL_law_195 ?_
  refine bd_top (y := nI (i + 2)) (nI_add i 2) ?_
  refine bl_ld hx hb hX hbl hbA hw.2.2 (by omega) hL dL_law_196 ?_
  refine bl_callD C hw hA (hM0 D h d _) (cwV 2 C.1.2.2.2.2 (lw_V q117 q118 q119 q15 q120) rfl rfl rfl (by decide +kernel) ⟨Nat.le_of_ble_eq_true rfl, Nat.le_of_ble_eq_true rfl⟩) rfl hl.1 rfl (Nat.le_of_ble_eq_true rfl) dL_law_197 ⟨Nat.le_refl _, Nat.le_refl _⟩ (fun H locs hw => ?_)
  refine lv_aload_n hx hb dL_law_200 rfl (lv_at hl 2 rfl) ?_
  refine lv_aload_n hx hb dL_law_201 rfl (lv_at hl 0 rfl) ?_
  refine lv_iload_n hx hb dL_law_202 rfl (lv_at hl 3 rfl) ?_
  refine lv_iconst (v := nI 1) hx hb dL_law_203 (by decide) ?_
  refine lv_iadd hx hb dL_law_204 ?_
  refine bd_top (y := nI (i + 1)) (nI_add i 1) ?_
  refine bl_ld hx hb hX hbl hbA hw.2.2 (by omega) hL dL_law_205 ?_
  refine lv_aload_n hx hb dL_law_206 rfl (lv_at hl 0 rfl) ?_
  refine lv_iload_n hx hb dL_law_207 rfl (lv_at hl 3 rfl) ?_
  refine lv_iconst (v := nI 2) hx hb dL_law_208 (by decide) ?_
  refine lv_iadd hx hb dL_law_209 ?_
  refine bd_top (y := nI (i + 2)) (nI_add i 2) ?_
  refine bl_ld hx hb hX hbl hbA hw.2.2 (by omega) hL dL_law_210 ?_
  refine bl_callM C hw hA (hM1 D g f _) (cwV 2 C.1.2.2.2.2 (lw_V q191 q192 q193 q16 q194) rfl rfl rfl (by decide +kernel) ⟨Nat.le_of_ble_eq_true rfl, Nat.le_of_ble_eq_true rfl⟩) rfl hl.1 rfl (Nat.le_of_ble_eq_true rfl) dL_law_211 ⟨Nat.le_refl _, Nat.le_refl _⟩ (fun H locs hw => ?_)
  refine lv_icmp_eq (tgt := 301) hx hb dL_law_214 (by decide) (fun _ => ?_) (fun c_1 => absurd rfl c_1)
  exact go st1 ms1 H locs hI1 hw ls hl
set_option maxHeartbeats 4000000 in
set_option maxRecDepth 100000 in
theorem bl_case5 {p : Program} {l : Launch} {e : Env} {s : State} {m : MethodId} {below : List Frame} {meth : Method} {c : Code} {D : va_G} {h g : Nat → Nat} {d f : Nat → ClassId} {b L : Nat} {xs : Nat → Int32} (hL : L ≤ 192) (C0 : lw_At p s m meth c b L xs) (C : bl_cx p c s m #[Value.ref b] D d f) {i : Nat} (hi : i + 3 ≤ L) (go : bl_go p l e s m below meth c D h g d f b i) {st : bd_DS} {ms : be_MS} {H : Heap} {locs : List Loc} (hI : bl_I st ms) (hw : bl_at D h d g f (fun q : Nat => s.heap.size ≤ q) s.heap H locs st ms) {ls : Array Slot} (hl : lv_has ls 4 [(0, .ref b), (1, .ref (h 0)), (2, .ref (g 0)), (3, .int (nI i))]) : W p l e room_1 s m #[Value.ref b] below meth c H locs 600000 7290000 (lw_Z below #[Value.ref b] s) (F0 m 219 ls []) := by
  obtain ⟨hx, hb, hr, hml, hown, hts, hX, hbl, hlocks, hgv⟩ := C0
  have hA : ∀ q : Nat, s.heap.size ≤ q → (fun q : Nat => s.heap.size ≤ q) q := fun _ h => h
  have hbA : ¬ (fun q : Nat => s.heap.size ≤ q) b := Nat.not_le.mpr hbl
  obtain ⟨v, st1, ms1, hI1, hM0, hM1⟩ := bl_needed l hI (xs (i + 1)) (xs (i + 2))
  refine lv_aload_n hx hb dL_law_219 rfl (lv_at hl 1 rfl) ?_
  refine lv_aload_n hx hb dL_law_220 rfl (lv_at hl 0 rfl) ?_
  refine lv_iload_n hx hb dL_law_221 rfl (lv_at hl 3 rfl) ?_
  refine lv_iconst (v := nI 1) hx hb dL_law_222 (by decide) ?_
  refine lv_iadd hx hb dL_law_223 ?_
  refine bd_top (y := nI (i + 1)) (nI_add i 1) ?_
  refine bl_ld hx hb hX hbl hbA hw.2.2 (by omega) hL dL_law_224 ?_
  refine lv_aload_n hx hb dL_law_225 rfl (lv_at hl 0 rfl) ?_
  refine lv_iload_n hx hb dL_law_226 rfl (lv_at hl 3 rfl) ?_
  refine lv_iconst (v := nI 2) hx hb dL_law_227 (by decide) ?_
  refine lv_iadd hx hb dL_law_228 ?_
  refine bd_top (y := nI (i + 2)) (nI_add i 2) ?_
  refine bl_ld hx hb hX hbl hbA hw.2.2 (by omega) hL dL_law_229 ?_
  refine bl_callD C hw hA (hM0 D h d _) (cwV 2 C.1.2.2.2.2 (lw_V q121 q122 q123 q15 q124) rfl rfl rfl (by decide +kernel) ⟨Nat.le_of_ble_eq_true rfl, Nat.le_of_ble_eq_true rfl⟩) rfl hl.1 rfl (Nat.le_of_ble_eq_true rfl) dL_law_230 ⟨Nat.le_refl _, Nat.le_refl _⟩ (fun H locs hw => ?_)
  refine lv_aload_n hx hb dL_law_233 rfl (lv_at hl 2 rfl) ?_
  refine lv_aload_n hx hb dL_law_234 rfl (lv_at hl 0 rfl) ?_
  refine lv_iload_n hx hb dL_law_235 rfl (lv_at hl 3 rfl) ?_
  refine lv_iconst (v := nI 1) hx hb dL_law_236 (by decide) ?_
  refine lv_iadd hx hb dL_law_237 ?_
  refine bd_top (y := nI (i + 1)) (nI_add i 1) ?_
  refine bl_ld hx hb hX hbl hbA hw.2.2 (by omega) hL dL_law_238 ?_
  refine lv_aload_n hx hb dL_law_239 rfl (lv_at hl 0 rfl) ?_
  refine lv_iload_n hx hb dL_law_240 rfl (lv_at hl 3 rfl) ?_
  refine lv_iconst (v := nI 2) hx hb dL_law_241 (by decide) ?_
  refine lv_iadd hx hb dL_law_242 ?_
  refine bd_top (y := nI (i + 2)) (nI_add i 2) ?_
  refine bl_ld hx hb hX hbl hbA hw.2.2 (by omega) hL dL_law_243 ?_
  refine bl_callM C hw hA (hM1 D g f _) (cwV 2 C.1.2.2.2.2 (lw_V q195 q196 q197 q16 q198) rfl rfl rfl (by decide +kernel) ⟨Nat.le_of_ble_eq_true rfl, Nat.le_of_ble_eq_true rfl⟩) rfl hl.1 rfl (Nat.le_of_ble_eq_true rfl) dL_law_244 ⟨Nat.le_refl _, Nat.le_refl _⟩ (fun H locs hw => ?_)
  refine lv_icmp_eq (tgt := 301) hx hb dL_law_247 (by decide) (fun _ => ?_) (fun c_1 => absurd rfl c_1)
  exact go st1 ms1 H locs hI1 hw ls hl
set_option maxHeartbeats 4000000 in
set_option maxRecDepth 100000 in
theorem bl_case6 {p : Program} {l : Launch} {e : Env} {s : State} {m : MethodId} {below : List Frame} {meth : Method} {c : Code} {D : va_G} {h g : Nat → Nat} {d f : Nat → ClassId} {b L : Nat} {xs : Nat → Int32} (hL : L ≤ 192) (C0 : lw_At p s m meth c b L xs) (C : bl_cx p c s m #[Value.ref b] D d f) {i : Nat} (hi : i + 3 ≤ L) (go : bl_go p l e s m below meth c D h g d f b i) {st : bd_DS} {ms : be_MS} {H : Heap} {locs : List Loc} (hI : bl_I st ms) (hw : bl_at D h d g f (fun q : Nat => s.heap.size ≤ q) s.heap H locs st ms) {ls : Array Slot} (hl : lv_has ls 4 [(0, .ref b), (1, .ref (h 0)), (2, .ref (g 0)), (3, .int (nI i))]) : W p l e room_1 s m #[Value.ref b] below meth c H locs 600000 7290000 (lw_Z below #[Value.ref b] s) (F0 m 252 ls []) := by
  obtain ⟨hx, hb, hr, hml, hown, hts, hX, hbl, hlocks, hgv⟩ := C0
  have hA : ∀ q : Nat, s.heap.size ≤ q → (fun q : Nat => s.heap.size ≤ q) q := fun _ h => h
  have hbA : ¬ (fun q : Nat => s.heap.size ≤ q) b := Nat.not_le.mpr hbl
  obtain ⟨v, st1, ms1, hI1, hM0, hM1⟩ := bl_guards l hI
  refine lv_aload_n hx hb dL_law_252 rfl (lv_at hl 1 rfl) ?_
  refine bl_callD C hw hA (hM0 D h d _) (cwV 0 C.1.2.2.2.2 (lw_V q127 q128 q129 q15 q130) rfl rfl rfl (by decide +kernel) ⟨Nat.le_of_ble_eq_true rfl, Nat.le_of_ble_eq_true rfl⟩) rfl hl.1 rfl (Nat.le_of_ble_eq_true rfl) dL_law_253 ⟨Nat.le_refl _, Nat.le_refl _⟩ (fun H locs hw => ?_)
  refine lv_aload_n hx hb dL_law_256 rfl (lv_at hl 2 rfl) ?_
  refine bl_callM C hw hA (hM1 D g f _) (cwV 0 C.1.2.2.2.2 (lw_V q200 q201 q202 q16 q203) rfl rfl rfl (by decide +kernel) ⟨Nat.le_of_ble_eq_true rfl, Nat.le_of_ble_eq_true rfl⟩) rfl hl.1 rfl (Nat.le_of_ble_eq_true rfl) dL_law_257 ⟨Nat.le_refl _, Nat.le_refl _⟩ (fun H locs hw => ?_)
  refine lv_icmp_eq (tgt := 301) hx hb dL_law_260 (by decide) (fun _ => ?_) (fun c_1 => absurd rfl c_1)
  exact go st1 ms1 H locs hI1 hw ls hl
set_option maxHeartbeats 4000000 in
set_option maxRecDepth 100000 in
theorem bl_case7 {p : Program} {l : Launch} {e : Env} {s : State} {m : MethodId} {below : List Frame} {meth : Method} {c : Code} {D : va_G} {h g : Nat → Nat} {d f : Nat → ClassId} {b L : Nat} {xs : Nat → Int32} (hL : L ≤ 192) (C0 : lw_At p s m meth c b L xs) (C : bl_cx p c s m #[Value.ref b] D d f) {i : Nat} (hi : i + 3 ≤ L) (go : bl_go p l e s m below meth c D h g d f b i) {st : bd_DS} {ms : be_MS} {H : Heap} {locs : List Loc} (hI : bl_I st ms) (hw : bl_at D h d g f (fun q : Nat => s.heap.size ≤ q) s.heap H locs st ms) {ls : Array Slot} (hl : lv_has ls 4 [(0, .ref b), (1, .ref (h 0)), (2, .ref (g 0)), (3, .int (nI i))]) : W p l e room_1 s m #[Value.ref b] below meth c H locs 600000 7290000 (lw_Z below #[Value.ref b] s) (F0 m 265 ls []) := by
  obtain ⟨hx, hb, hr, hml, hown, hts, hX, hbl, hlocks, hgv⟩ := C0
  have hA : ∀ q : Nat, s.heap.size ≤ q → (fun q : Nat => s.heap.size ≤ q) q := fun _ h => h
  have hbA : ¬ (fun q : Nat => s.heap.size ≤ q) b := Nat.not_le.mpr hbl
  obtain ⟨v, st1, ms1, hI1, hM0, hM1⟩ := bl_mostWithout l hI (xs (i + 1))
  refine lv_aload_n hx hb dL_law_265 rfl (lv_at hl 1 rfl) ?_
  refine lv_aload_n hx hb dL_law_266 rfl (lv_at hl 0 rfl) ?_
  refine lv_iload_n hx hb dL_law_267 rfl (lv_at hl 3 rfl) ?_
  refine lv_iconst (v := nI 1) hx hb dL_law_268 (by decide) ?_
  refine lv_iadd hx hb dL_law_269 ?_
  refine bd_top (y := nI (i + 1)) (nI_add i 1) ?_
  refine bl_ld hx hb hX hbl hbA hw.2.2 (by omega) hL dL_law_270 ?_
  refine bl_callD C hw hA (hM0 D h d _) (cwV 1 C.1.2.2.2.2 (lw_V q131 q132 q133 q15 q134) rfl rfl rfl (by decide +kernel) ⟨Nat.le_of_ble_eq_true rfl, Nat.le_of_ble_eq_true rfl⟩) rfl hl.1 rfl (Nat.le_of_ble_eq_true rfl) dL_law_271 ⟨Nat.le_refl _, Nat.le_refl _⟩ (fun H locs hw => ?_)
  refine lv_aload_n hx hb dL_law_274 rfl (lv_at hl 2 rfl) ?_
  refine lv_aload_n hx hb dL_law_275 rfl (lv_at hl 0 rfl) ?_
  refine lv_iload_n hx hb dL_law_276 rfl (lv_at hl 3 rfl) ?_
  refine lv_iconst (v := nI 1) hx hb dL_law_277 (by decide) ?_
  refine lv_iadd hx hb dL_law_278 ?_
  refine bd_top (y := nI (i + 1)) (nI_add i 1) ?_
  refine bl_ld hx hb hX hbl hbA hw.2.2 (by omega) hL dL_law_279 ?_
  refine bl_callM C hw hA (hM1 D g f _) (cwV 1 C.1.2.2.2.2 (lw_V q204 q205 q206 q16 q207) rfl rfl rfl (by decide +kernel) ⟨Nat.le_of_ble_eq_true rfl, Nat.le_of_ble_eq_true rfl⟩) rfl hl.1 rfl (Nat.le_of_ble_eq_true rfl) dL_law_280 ⟨Nat.le_refl _, Nat.le_refl _⟩ (fun H locs hw => ?_)
  refine lv_icmp_eq (tgt := 301) hx hb dL_law_283 (by decide) (fun _ => ?_) (fun c_1 => absurd rfl c_1)
  exact go st1 ms1 H locs hI1 hw ls hl
set_option maxHeartbeats 4000000 in
set_option maxRecDepth 100000 in
theorem bl_case8 {p : Program} {l : Launch} {e : Env} {s : State} {m : MethodId} {below : List Frame} {meth : Method} {c : Code} {D : va_G} {h g : Nat → Nat} {d f : Nat → ClassId} {b L : Nat} {xs : Nat → Int32} (hL : L ≤ 192) (C0 : lw_At p s m meth c b L xs) (C : bl_cx p c s m #[Value.ref b] D d f) {i : Nat} (hi : i + 3 ≤ L) (go : bl_go p l e s m below meth c D h g d f b i) {st : bd_DS} {ms : be_MS} {H : Heap} {locs : List Loc} (hI : bl_I st ms) (hw : bl_at D h d g f (fun q : Nat => s.heap.size ≤ q) s.heap H locs st ms) {ls : Array Slot} (hl : lv_has ls 4 [(0, .ref b), (1, .ref (h 0)), (2, .ref (g 0)), (3, .int (nI i))]) : W p l e room_1 s m #[Value.ref b] below meth c H locs 600000 7290000 (lw_Z below #[Value.ref b] s) (F0 m 288 ls []) := by
  obtain ⟨hx, hb, hr, hml, hown, hts, hX, hbl, hlocks, hgv⟩ := C0
  have hA : ∀ q : Nat, s.heap.size ≤ q → (fun q : Nat => s.heap.size ≤ q) q := fun _ h => h
  have hbA : ¬ (fun q : Nat => s.heap.size ≤ q) b := Nat.not_le.mpr hbl
  obtain ⟨v, st1, ms1, hI1, hM0, hM1⟩ := bl_parts l hI
  refine lv_aload_n hx hb dL_law_288 rfl (lv_at hl 1 rfl) ?_
  refine bl_callD C hw hA (hM0 D h d _) (cwV 0 C.1.2.2.2.2 (lw_V q135 q136 q137 q15 q138) rfl rfl rfl (by decide +kernel) ⟨Nat.le_of_ble_eq_true rfl, Nat.le_of_ble_eq_true rfl⟩) rfl hl.1 rfl (Nat.le_of_ble_eq_true rfl) dL_law_289 ⟨Nat.le_refl _, Nat.le_refl _⟩ (fun H locs hw => ?_)
  refine lv_aload_n hx hb dL_law_292 rfl (lv_at hl 2 rfl) ?_
  refine bl_callM C hw hA (hM1 D g f _) (cwV 0 C.1.2.2.2.2 (lw_V q208 q209 q210 q16 q211) rfl rfl rfl (by decide +kernel) ⟨Nat.le_of_ble_eq_true rfl, Nat.le_of_ble_eq_true rfl⟩) rfl hl.1 rfl (Nat.le_of_ble_eq_true rfl) dL_law_293 ⟨Nat.le_refl _, Nat.le_refl _⟩ (fun H locs hw => ?_)
  refine lv_icmp_eq (tgt := 301) hx hb dL_law_296 (by decide) (fun _ => ?_) (fun c_1 => absurd rfl c_1)
  exact go st1 ms1 H locs hI1 hw ls hl
set_option maxHeartbeats 4000000 in
set_option maxRecDepth 100000 in
theorem bl_loop {p : Program} {l : Launch} {e : Env} {s : State} {m : MethodId} {below : List Frame} {meth : Method} {c : Code} {D : va_G} {h g : Nat → Nat} {d f : Nat → ClassId} {b L : Nat} {xs : Nat → Int32} (hL : L ≤ 192) (C0 : lw_At p s m meth c b L xs) (C : bl_cx p c s m #[Value.ref b] D d f) : ∀ (n i : Nat), i ≤ L → L < i + n → ∀ (st : bd_DS) (ms : be_MS) (H : Heap) (locs : List Loc), bl_I st ms → bl_at D h d g f (fun q : Nat => s.heap.size ≤ q) s.heap H locs st ms → ∀ ls : Array Slot, lv_has ls 4 [(0, .ref b), (1, .ref (h 0)), (2, .ref (g 0)), (3, .int (nI i))] → W p l e room_1 s m #[Value.ref b] below meth c H locs 600000 7290000 (lw_Z below #[Value.ref b] s) (F0 m 18 ls []) := by
  obtain ⟨hx, hb, hr, hml, hown, hts, hX, hbl, hlocks, hgv⟩ := id C0
  have hA : ∀ q : Nat, s.heap.size ≤ q → (fun q : Nat => s.heap.size ≤ q) q := fun _ h => h
  have hbA : ¬ (fun q : Nat => s.heap.size ≤ q) b := Nat.not_le.mpr hbl
  intro n
  induction n with
  | zero =>
    intro i h1 h2
    exact absurd h2 (by omega)
  | succ n ih =>
    intro i h1 h2 st ms H locs hI hw ls hl
    refine lv_iload_n hx hb dL_law_18 rfl (lv_at hl 3 rfl) ?_
    refine lv_aload_n hx hb dL_law_19 rfl (lv_at hl 0 rfl) ?_
    refine va_slen hx hb hX hbl hbA hw.2.2 dL_law_20 ?_
    refine bd_top (y := nI L) rfl ?_
    refine lv_iconst (v := nI 3) hx hb dL_law_21 (by decide) ?_
    refine lv_isub hx hb dL_law_22 ?_
    refine lv_icmp_gt (tgt := 307) hx hb dL_law_23 (by decide) (fun c_1 => ?_) (fun c_1 => ?_)
    · refine lv_iconst (v := 1) hx hb dL_law_307 (by decide) ?_
      refine va_forget (fun q hq => hw.2.2.2.2 q hq) ?_
      exact lw_ret hx hb hr hlocks dL_law_308
    · have hi : i + 3 ≤ L := by
        rw [bl_head (by omega) hL] at c_1
        omega
      have go : bl_go p l e s m below meth c D h g d f b i := by
        intro st ms H locs hI hw ls hl
        refine lv_iinc (v := nI (i + 3)) (lv' := [(3, .int (nI (i + 3))), (0, .ref b), (1, .ref (h 0)), (2, .ref (g 0))]) hx hb dL_law_301 hl (k := 3) rfl (nI_add i 3) (by decide) rfl (fun ls hl => ?_)
        refine lv_goto (tgt := 18) hx hb dL_law_304 (by decide) ?_
        exact ih (i + 3) hi (by omega) st ms H locs hI hw ls (lv_sub hl [1, 2, 3, 0] rfl)
      refine lv_aload_n hx hb dL_law_26 rfl (lv_at hl 0 rfl) ?_
      refine lv_iload_n hx hb dL_law_27 rfl (lv_at hl 3 rfl) ?_
      refine bl_ld hx hb hX hbl hbA hw.2.2 (by omega) hL dL_law_28 ?_
      refine lv_bipush (v := nI 15) hx hb dL_law_29 (by decide) ?_
      refine lv_iand hx hb dL_law_31 ?_
      generalize xs i &&& nI 15 = x
      rcases bl_sw x with ⟨k, hk, rfl⟩ | hout
      · match k, hk with
        | 0, _ => exact lv_tableIn (tgt := 84) (off := 52) hx hb dL_law_32 (by decide) (by decide) (by decide) (by decide) (bl_case0 hL C0 C hi go hI hw hl)
        | 1, _ => exact lv_tableIn (tgt := 117) (off := 85) hx hb dL_law_32 (by decide) (by decide) (by decide) (by decide) (bl_case1 hL C0 C hi go hI hw hl)
        | 2, _ => exact lv_tableIn (tgt := 150) (off := 118) hx hb dL_law_32 (by decide) (by decide) (by decide) (by decide) (bl_case2 hL C0 C hi go hI hw hl)
        | 3, _ => exact lv_tableIn (tgt := 163) (off := 131) hx hb dL_law_32 (by decide) (by decide) (by decide) (by decide) (bl_case3 hL C0 C hi go hI hw hl)
        | 4, _ => exact lv_tableIn (tgt := 186) (off := 154) hx hb dL_law_32 (by decide) (by decide) (by decide) (by decide) (bl_case4 hL C0 C hi go hI hw hl)
        | 5, _ => exact lv_tableIn (tgt := 219) (off := 187) hx hb dL_law_32 (by decide) (by decide) (by decide) (by decide) (bl_case5 hL C0 C hi go hI hw hl)
        | 6, _ => exact lv_tableIn (tgt := 252) (off := 220) hx hb dL_law_32 (by decide) (by decide) (by decide) (by decide) (bl_case6 hL C0 C hi go hI hw hl)
        | 7, _ => exact lv_tableIn (tgt := 265) (off := 233) hx hb dL_law_32 (by decide) (by decide) (by decide) (by decide) (bl_case7 hL C0 C hi go hI hw hl)
        | 8, _ => exact lv_tableIn (tgt := 288) (off := 256) hx hb dL_law_32 (by decide) (by decide) (by decide) (by decide) (bl_case8 hL C0 C hi go hI hw hl)
        | k + 9, hk => exact absurd hk (by omega)
      · exact lv_tableOut (tgt := 301) hx hb dL_law_32 hout (by decide) (go st ms H locs hI hw ls hl)
end
section
/-! the claim -/
theorem bl_I0 : bl_I bd_st0 be_st0 := ⟨⟨fun _ _ _ _ => rfl, fun _ _ => rfl⟩, fun _ _ _ _ => rfl, rfl, fun _ => Nat.zero_le _⟩
set_option maxHeartbeats 4000000 in
set_option maxRecDepth 100000 in
theorem whole_start {p : Program} {e : Env} {s : State} {m : MethodId} {below : List Frame} {meth : Method} {c : Code} (l : Launch) {b L : Nat} {xs : Nat → Int32} (hL : L ≤ 192) (C0 : lw_At p s m meth c b L xs) : W p l e room_1 s m #[Value.ref b] below meth c s.heap [] 0 0 (lw_Z below #[Value.ref b] s) (entryFrame m ([Value.ref b] : List Value).toArray 4) := by
  obtain ⟨hx, hb, hr, hml, hown, hts0, hX, hbl, hlocks, hgv⟩ := id C0
  have hts : ∀ w ∈ lw_all, w.before #[Value.ref b] s = true := fun w h => hts0 w (lw_all_tbl h)
  have hA : ∀ q : Nat, s.heap.size ≤ q → (fun q : Nat => s.heap.size ≤ q) q := fun _ h => h
  obtain ⟨c0_, iS0, hKn0⟩ := u_known (C := RX0) (T := TX0) (N := 10) (n := 10) hts in_X0 (hts _ q18)
  obtain ⟨c1_, iS1, hKn1⟩ := u_known (C := RX1) (T := TX1) (N := 2) (n := 2) hts in_X1 (hts _ q145)
  obtain ⟨D, hKc⟩ : ∃ (D : va_G), ∀ (k : Nat) (q : vw_C), bd_Cl[k]? = some q → u_Kn s q.1 q.2.1 q.2.2 (D.1 k) (D.2 k) := by
    refine ⟨(fun k => if k = 0 then c0_ else c1_, fun k => if k = 0 then iS0 else iS1), ?_⟩
    intro k q hq
    match k, hq with
    | 0, hq => cases hq; exact hKn0
    | 1, hq => cases hq; exact hKn1
    | k + 2, hq => simp [bd_Cl] at hq
  have hS : va_S (fun q : Nat => s.heap.size ≤ q) s.heap s.heap [] := va_S.rf
  have hK : va_K D bd_Cl [] s := ⟨hKc, fun k q h => by simp at h⟩
  have hP : va_P D bd_Cl [] s.heap := fun k q h => by simp at h
  have hD : va_D (fun q : Nat => s.heap.size ≤ q) [] := ⟨fun i j p q h => by simp at h, fun k q h => by simp at h⟩
  have hl := lv_entry ([.ref b]) (n := 4) (Nat.le_of_ble_eq_true rfl)
  rw [lg_entry_eq]
  generalize (lg_sl ([.ref b]) ++ List.replicate (4 - (lg_sl ([.ref b])).length) Slot.unset).toArray = ls at hl ⊢
  have hl : lv_has ls 4 [(0, .ref b)] := hl
  refine va_new (ci := 0) (fs := bd_f0) (C := RX0) (T := TX0) (N := 10) hx hb hts in_X0 tyX0 tyX0_ok hown (hts _ q17) (hts _ q18) (hts _ q15) hK hP hD hS hA rfl (fun j hj => by rcases (show j = 0 ∨ j = 1 ∨ j = 2 ∨ j = 3 ∨ j = 4 ∨ j = 5 ∨ j = 6 ∨ j = 7 ∨ j = 8 ∨ j = 9 by omega) with rfl | rfl | rfl | rfl | rfl | rfl | rfl | rfl | rfl | rfl <;> first | rfl | exact congrArg Value.int bd_z_bs.symm | exact congrArg Value.int bd_z_nI.symm) (Nat.le_of_ble_eq_true rfl) (Nat.le_of_ble_eq_true rfl) dL_law_0 (fun h0 H hP hD hS => ?_)
  have hP : va_P D bd_Cl (bd_w0 h0) H := hP
  have hD : va_D (fun q : Nat => s.heap.size ≤ q) (bd_w0 h0) := hD
  refine W.widen (k := 1) (n := 10) (Nat.le_of_ble_eq_true rfl) (Nat.le_of_ble_eq_true rfl) ?_
  refine lv_dup hx hb dL_law_3 rfl ?_
  have hFc := va_free (wc := bd_w0 h0) hD hS hA [0] rfl
  refine va_callv (va_runI (As := []) (rest := [.ref h0]) ⟨hx, hb, hml, hown, hts⟩ (bd_m_init l D h0 H.size) (cwI 0 hts (lw_meth q21) rfl rfl rfl (hts _ q15) (hts _ q19) (hts _ q20) rfl (by decide +kernel) ⟨Nat.le_of_ble_eq_true rfl, Nat.le_of_ble_eq_true rfl⟩) ⟨fun a U g mk q => by obtain ⟨q0, q1, qP, qK, qD⟩ := q; exact ⟨q0, q1, qP, va_K.moved (u := U) (U := U.calling g mk a) (Vm.Alike.refl U.vm) qK, qD⟩, fun U hU hW => ⟨rfl, by rw [hU], by rw [hU]; exact hP, va_K.moved hW.alike hK, hD.weaken (fun _ _ _ _ => trivial)⟩⟩ rfl rfl hl.1 rfl (lv_room (Nat.le_of_ble_eq_true rfl)) dL_law_4 ⟨Nat.le_of_ble_eq_true rfl, Nat.le_of_ble_eq_true rfl⟩) hS (fun q _ h => hFc q h) hFc (fun u t H1 locs ht hvm hu hB hz1 hk1 hS => ?_)
  obtain ⟨h, d⟩ := u
  obtain ⟨hP1, hK1, hD1⟩ := hB
  rw [ht] at hP1
  have hK1 := va_K.moved hvm.symm hK1
  have hu : h 0 = h0 := hu
  obtain ⟨hP, hD⟩ := va_join (wr := []) (w1 := bd_w h d bd_st0) hP hD [0] [] rfl rfl (by decide) (by decide) hk1 hFc hP1 hD1
  have hP : va_P D bd_Cl (bd_w h d bd_st0) H1 := hP
  have hD : va_D (fun q : Nat => s.heap.size ≤ q) (bd_w h d bd_st0) := hD
  have hK : va_K D bd_Cl (bd_ty d) s := hK1
  rw [← hu]
  refine W.widen (k := 9) (n := 90) (Nat.le_of_ble_eq_true rfl) (Nat.le_of_ble_eq_true rfl) ?_
  refine lv_astore_n (lv' := [(1, .ref (h 0)), (0, .ref b)]) hx hb dL_law_7 rfl hl (by decide) rfl (fun ls hl => ?_)
  refine va_new (ci := 1) (fs := [.null, .null]) (C := RX1) (T := TX1) (N := 2) hx hb hts in_X1 tyX1 tyX1_ok hown (hts _ q144) (hts _ q145) (hts _ q16) hK hP hD hS hA rfl (fun j hj => by rcases (show j = 0 ∨ j = 1 by omega) with rfl | rfl <;> rfl) (Nat.le_of_ble_eq_true rfl) (Nat.le_of_ble_eq_true rfl) dL_law_8 (fun g0 H hP hD hS => ?_)
  have hP : va_P D bd_Cl (bd_w h d bd_st0 ++ be_w0 g0) H := hP
  have hD : va_D (fun q : Nat => s.heap.size ≤ q) (bd_w h d bd_st0 ++ be_w0 g0) := hD
  refine W.widen (k := 10) (n := 92) (Nat.le_of_ble_eq_true rfl) (Nat.le_of_ble_eq_true rfl) ?_
  refine lv_dup hx hb dL_law_11 rfl ?_
  have hPc := hP.sub (ws' := be_w0 g0) [9] rfl
  have hDc := hD.sub (ws' := be_w0 g0) [9] (by decide) rfl
  have hKc := hK.sub (tys' := []) [] rfl
  have hFc := va_free (wc := be_w0 g0) hD hS hA [9] rfl
  refine va_callv (va_runI (As := []) (rest := [.ref g0]) ⟨hx, hb, hml, hown, hts⟩ (be_m_init l D g0 H.size) (cwI 0 hts (lw_meth q148) rfl rfl rfl (hts _ q16) (hts _ q146) (hts _ q147) rfl (by decide +kernel) ⟨Nat.le_of_ble_eq_true rfl, Nat.le_of_ble_eq_true rfl⟩) ⟨fun a U g mk q => by obtain ⟨q0, q1, qP, qK, qD⟩ := q; exact ⟨q0, q1, qP, va_K.moved (u := U) (U := U.calling g mk a) (Vm.Alike.refl U.vm) qK, qD⟩, fun U hU hW => ⟨rfl, by rw [hU], by rw [hU]; exact hPc, va_K.moved hW.alike hKc, hDc.weaken (fun _ _ _ _ => trivial)⟩⟩ rfl rfl hl.1 rfl (lv_room (Nat.le_of_ble_eq_true rfl)) dL_law_12 ⟨Nat.le_of_ble_eq_true rfl, Nat.le_of_ble_eq_true rfl⟩) hS (fun q _ h => hFc q h) hFc (fun u t H1 locs ht hvm hu hB hz1 hk1 hS => ?_)
  obtain ⟨g, f⟩ := u
  obtain ⟨hP1, hK1, hD1⟩ := hB
  rw [ht] at hP1
  have hK1 := va_K.moved hvm.symm hK1
  have hu : g 0 = g0 := hu
  obtain ⟨hP, hD⟩ := va_join (wr := bd_w h d bd_st0) (w1 := be_w g f be_st0) hP hD [9] [0, 1, 2, 3, 4, 5, 6, 7, 8] rfl rfl (by decide) (by decide) hk1 hFc hP1 hD1
  have hK := hK.app hK1
  rw [← hu]
  refine W.widen (k := 600000) (n := 7290000) (Nat.le_of_ble_eq_true rfl) (Nat.le_of_ble_eq_true rfl) ?_
  refine lv_astore_n (lv' := [(2, .ref (g 0)), (1, .ref (h 0)), (0, .ref b)]) hx hb dL_law_15 rfl hl (by decide) rfl (fun ls hl => ?_)
  refine lv_iconst (v := nI 0) hx hb dL_law_16 (by decide) ?_
  refine lv_istore_n (lv' := [(3, .int (nI 0)), (2, .ref (g 0)), (1, .ref (h 0)), (0, .ref b)]) hx hb dL_law_17 rfl hl (by decide) rfl (fun ls hl => ?_)
  exact bl_loop hL C0 ⟨⟨hx, hb, hml, hown, hts⟩, hK⟩ (L + 1) 0 (Nat.zero_le _) (by omega) bd_st0 be_st0 _ _ bl_I0 ⟨hP, hD, hS⟩ ls (lv_sub hl [3, 2, 1, 0] rfl)
set_option maxHeartbeats 4000000 in
theorem lw_walk (l : Launch) (b : Addr) (xs : List Int32) : MetFree l x (headSpec (Jvm.Cond.code x code maxLocals ret :: tables_1) room_1) (lw_P b xs) (fun _ _ _ _ _ => True) lw_Q := by
  refine MetFree.of_bodyS (code := code) (maxLocals := maxLocals) (ret := ret) (by decide) ?_ ?_
  · intro args s m h hn
    obtain ⟨meth, c, h1, h2, h3, h4, h5, h6, -, -⟩ := Cond.code_spec hn (atoms_spec (ws := Jvm.Cond.code x code maxLocals ret :: tables_1) h _ List.mem_cons_self)
    exact ⟨meth, c, h1, h2, h3, h4, h5, h6⟩
  · intro p e s m args below meth c s₁ B hml0 hP _
    obtain ⟨rfl, hx, hbd, hgv⟩ := hP
    obtain ⟨scr, harrAt, hlist, hof, hsmall⟩ := hx
    obtain ⟨hcb, hkn, -, -⟩ := State.arrayAt?_spec harrAt
    have hown : s.vm.findClass R_law = some m.cls := findClass_of_methodNamed B.named
    have hts0 : ∀ c ∈ (Jvm.Cond.code x code maxLocals ret :: tables_1), c.before #[Value.ref b] s = true := atoms_spec (ws := Jvm.Cond.code x code maxLocals ret :: tables_1) B.pre
    have hts : ∀ w ∈ lw_tbl, w.before #[Value.ref b] s = true := k2_hts_sels lw_privs (fun w hw => hts0 w (List.mem_cons_of_mem _ hw)) lw_privs_ok
    have hml : c.maxLocals = 4 := B.maxLocals_eq (hts0 _ List.mem_cons_self)
    have X₀ : Stand p l e room_1 s m #[Value.ref b] below meth c s₁ [] 0 0 := Stand.of_body B
    have hh0 : s₁.heap = s.heap := by rw [B.state]; rfl
    have hsz : scr.slots.size = xs.length := by rw [← Array.length_toList, hlist, List.length_map]
    have hval : ∀ j : Nat, j < xs.length → scr.slots[j]? = some (.int (xs.getD j 0)) := fun j hj => by
      rw [← Array.getElem?_toList, hlist]
      simp [hj]
    have hbl : b < s.heap.size := (Array.getElem?_eq_some_iff.mp hcb).1
    have hX : va_X b xs.length (fun j => xs.getD j 0) s s.heap := ⟨scr, hcb, hof, hkn, hsz, hval⟩
    have K : W p l e room_1 s m #[Value.ref b] below meth c s₁.heap [] 0 0 (lw_Z below #[Value.ref b] s) (entryFrame m ([Value.ref b] : List Value).toArray 4) := by
      rw [hh0]
      exact whole_start l hbd ⟨B.exec, B.bytes, B.returns, hml, hown, hts, hX, hbl, B.notSynchronized, hgv⟩
    obtain ⟨t, a1, o, b1, b2, b3⟩ := K s₁ rfl X₀
    exact ⟨t, o, a1, b1, b2, b3⟩
theorem lw_pre_spec {args : Array Value} {s : State} (h : (Jvm.Cond.and given_1 narrow_1).before args s = true) (hr : rest_1_c.before args s = true) : ∃ (b : Addr) (xs : List Int32), lw_P b xs args s := by
  have hs := flat_of_before _ h
  have hq := flat_of_before _ hr
  have hc : (Cond.count 1).before args s = true := hs _ (by decide +kernel)
  have harr : (Cond.arrayOf (.arg 0) .int).before args s = true := hs _ (by decide +kernel)
  have hle : (Cond.le (.length (.arg 0)) (.int 192)).before args s = true := hs _ (by decide +kernel)
  have hlen : (Cond.isInt (.length (.arg 0))).before args s = true := hq _ (by decide +kernel)
  have hall : (Cond.all (.arg 0) (.isInt (.elem (.arg 0) (.index 0)))).before args s = true := hq _ (by decide +kernel)
  obtain ⟨b, xs, hb, hx⟩ := State.ints_of_pre rfl harr hlen hall
  have hsm : xs.length < 2 ^ 31 := hx.choose_spec.2.2.2
  have hev : (Term.length (.arg 0)).eval args s none [] s = some (.int xs.length.toInt32) := hx.length_eval hb
  have hv := Cond.le_ints hev (show (Term.int 192).eval args s none [] s = some (.int 192) from rfl)
  have hd : xs.length.toInt32 ≤ 192 := by
    simpa [Cond.before, Cond.holds, hv] using hle
  have hN : xs.length ≤ 192 := (Int32.ofNat_le_ofNat hsm (by decide)).mp (show Int32.ofNat xs.length ≤ Int32.ofNat 192 from hd)
  exact ⟨b, xs, Cond.one_arg hc (show args[0]? = some (.ref b) from hb), hx, hN, h⟩
theorem lw_comes (l : Launch) : Comes l x (Jvm.Cond.code x code maxLocals ret :: tables_1) room_1 (fun tb e args s => Calls_1 tb e args s ∧ rest_1 tb e args s ∧ Pre_1 tb e args s)
    (fun _ _ args s o t => lw_Q args s o t) := by
  intro p e ha hc hk s m args below hf hfit hheap happ hpre
  obtain ⟨b, xs, hP⟩ := lw_pre_spec hpre.2.2 hpre.2.1
  obtain ⟨k, o, h1, h2, h3, hQ⟩ := lw_walk l b xs p e ha hc hk s m args below hf ((Spec.applies_iff_loose hf).mp happ).1 hP trivial
  exact ⟨k, o, h1, h2, h3, hQ⟩
theorem lw_frame {s t : State} {o : Outcome} {args : Array Value} (h : Framed s o t [] 600000 7290000) :
    Framed s o t (fieldLocs frame_1_writes args s ++ arrayLocs frame_1_arrays args s ++ staticLocs frame_1_statics s) 600000 7290000 := h
theorem lw_limb (L : Cond) (hL : ∀ (args : Array Value) (s t : State), L.after args s (.returned (some (.int 1))) t = true) :
    ArmFor flags0 classFile x code maxLocals ret World_1 tables_1 room_1 Calls_1 rest_1 Pre_1
      (fun tb e a s o t => postC L tb e a s o t ∧ Framed s o t (fieldLocs frame_1_writes a s ++ arrayLocs frame_1_arrays a s ++ staticLocs frame_1_statics s) 600000 7290000) := by
  intro l _ _ _ p e ha hc hk s m args below hf hfit hheap happ hpre
  obtain ⟨k, o, h1, h2, h3, rfl, hF⟩ := lw_comes l p e ha hc hk s m args below hf hfit hheap happ hpre
  exact ⟨k, _, h1, h2, h3, hL args s _, lw_frame hF⟩
theorem i_vc : Claimed_1_1 ∧ Claimed_1_2 := ⟨lw_limb limb_1_1 (fun args s t => by simp [limb_1_1, Cond.after, Cond.holds, Cond.value]), lw_limb limb_1_2 (fun args s t => Cond.after_iff.mpr (by
  first | (rw [show limb_1_2 = Cond.eq .result (.int 1) from rfl, Cond.eq_ints (x := 1) (y := 1) rfl rfl]; simp; done) | (simp [limb_1_2, Cond.value, Term.eval]; done)))⟩
end
