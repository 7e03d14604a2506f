section
-- ===== PART A: goes FIRST, ahead of the names: the tables' words, and 'selects' of the private methods out of them =====
/-- a private method of a class that the tables say can be made, by its rows of tables_1 -/
def lw_okq (q : MethodName × Nat) : Prop := (q.1.cls ≠ "java/lang/invoke/MethodHandle" ∧ q.1.cls ≠ "java/lang/invoke/VarHandle") ∧ Cond.instantiable q.1.cls q.2 ∈ tables_1 ∧ Cond.privateMethod q.1 ∈ tables_1 ∧ Cond.instanceMethod q.1 ∈ tables_1
set_option maxRecDepth 100000
theorem lw_p0 : lw_okq (⟨"TransitRounds", "isStop", "(I)Z"⟩, 9) := ⟨⟨by decide +kernel, by decide +kernel⟩, List.mem_of_getElem? (i := 4) rfl, List.mem_of_getElem? (i := 47) rfl, List.mem_of_getElem? (i := 48) rfl⟩
theorem lw_p1 : lw_okq (⟨"TransitRounds", "isTime", "(I)Z"⟩, 9) := ⟨⟨by decide +kernel, by decide +kernel⟩, List.mem_of_getElem? (i := 4) rfl, List.mem_of_getElem? (i := 51) rfl, List.mem_of_getElem? (i := 52) rfl⟩
theorem lw_p2 : lw_okq (⟨"TransitRounds", "search", "(III)V"⟩, 9) := ⟨⟨by decide +kernel, by decide +kernel⟩, List.mem_of_getElem? (i := 4) rfl, List.mem_of_getElem? (i := 75) rfl, List.mem_of_getElem? (i := 76) rfl⟩
theorem lw_p3 : lw_okq (⟨"TransitRounds", "walkOn", "(I)V"⟩, 9) := ⟨⟨by decide +kernel, by decide +kernel⟩, List.mem_of_getElem? (i := 4) rfl, List.mem_of_getElem? (i := 80) rfl, List.mem_of_getElem? (i := 81) rfl⟩
theorem lw_p4 : lw_okq (⟨"TransitRounds", "callsAtBettered", "(I)Z"⟩, 9) := ⟨⟨by decide +kernel, by decide +kernel⟩, List.mem_of_getElem? (i := 4) rfl, List.mem_of_getElem? (i := 84) rfl, List.mem_of_getElem? (i := 85) rfl⟩
theorem lw_p5 : lw_okq (⟨"TransitRounds", "ride", "(I)V"⟩, 9) := ⟨⟨by decide +kernel, by decide +kernel⟩, List.mem_of_getElem? (i := 4) rfl, List.mem_of_getElem? (i := 88) rfl, List.mem_of_getElem? (i := 89) rfl⟩
theorem lw_p6 : lw_okq (⟨"TransitRounds", "finishRound", "()V"⟩, 9) := ⟨⟨by decide +kernel, by decide +kernel⟩, List.mem_of_getElem? (i := 4) rfl, List.mem_of_getElem? (i := 92) rfl, List.mem_of_getElem? (i := 93) rfl⟩
theorem lw_p7 : lw_okq (⟨"TransitRoundsModel", "isStop", "(I)Z"⟩, 7) := ⟨⟨by decide +kernel, by decide +kernel⟩, List.mem_of_getElem? (i := 112) rfl, List.mem_of_getElem? (i := 144) rfl, List.mem_of_getElem? (i := 145) rfl⟩
theorem lw_p8 : lw_okq (⟨"TransitRoundsModel", "isTime", "(I)Z"⟩, 7) := ⟨⟨by decide +kernel, by decide +kernel⟩, List.mem_of_getElem? (i := 112) rfl, List.mem_of_getElem? (i := 148) rfl, List.mem_of_getElem? (i := 149) rfl⟩
theorem lw_p9 : lw_okq (⟨"TransitRoundsModel", "search", "(II)V"⟩, 7) := ⟨⟨by decide +kernel, by decide +kernel⟩, List.mem_of_getElem? (i := 112) rfl, List.mem_of_getElem? (i := 172) rfl, List.mem_of_getElem? (i := 173) rfl⟩
theorem lw_p10 : lw_okq (⟨"TransitRoundsModel", "walkOn", "(I)V"⟩, 7) := ⟨⟨by decide +kernel, by decide +kernel⟩, List.mem_of_getElem? (i := 112) rfl, List.mem_of_getElem? (i := 177) rfl, List.mem_of_getElem? (i := 178) rfl⟩
theorem lw_p11 : lw_okq (⟨"TransitRoundsModel", "ride", "(III)V"⟩, 7) := ⟨⟨by decide +kernel, by decide +kernel⟩, List.mem_of_getElem? (i := 112) rfl, List.mem_of_getElem? (i := 181) rfl, List.mem_of_getElem? (i := 182) rfl⟩
theorem lw_p12 : lw_okq (⟨"TransitRoundsModel", "best", "(II)I"⟩, 7) := ⟨⟨by decide +kernel, by decide +kernel⟩, List.mem_of_getElem? (i := 112) rfl, List.mem_of_getElem? (i := 185) rfl, List.mem_of_getElem? (i := 186) rfl⟩
def lw_privs_1 : List (MethodName × Nat) := [(⟨"TransitRounds", "isStop", "(I)Z"⟩, 9), (⟨"TransitRounds", "isTime", "(I)Z"⟩, 9), (⟨"TransitRounds", "search", "(III)V"⟩, 9), (⟨"TransitRounds", "walkOn", "(I)V"⟩, 9), (⟨"TransitRounds", "callsAtBettered", "(I)Z"⟩, 9), (⟨"TransitRounds", "ride", "(I)V"⟩, 9), (⟨"TransitRounds", "finishRound", "()V"⟩, 9), (⟨"TransitRoundsModel", "isStop", "(I)Z"⟩, 7), (⟨"TransitRoundsModel", "isTime", "(I)Z"⟩, 7), (⟨"TransitRoundsModel", "search", "(II)V"⟩, 7), (⟨"TransitRoundsModel", "walkOn", "(I)V"⟩, 7), (⟨"TransitRoundsModel", "ride", "(III)V"⟩, 7), (⟨"TransitRoundsModel", "best", "(II)I"⟩, 7)]
theorem lw_r1 : ∀ q ∈ lw_privs_1, lw_okq q := List.forall_mem_cons.mpr ⟨lw_p0, List.forall_mem_cons.mpr ⟨lw_p1, List.forall_mem_cons.mpr ⟨lw_p2, List.forall_mem_cons.mpr ⟨lw_p3, List.forall_mem_cons.mpr ⟨lw_p4, List.forall_mem_cons.mpr ⟨lw_p5, List.forall_mem_cons.mpr ⟨lw_p6, List.forall_mem_cons.mpr ⟨lw_p7, List.forall_mem_cons.mpr ⟨lw_p8, List.forall_mem_cons.mpr ⟨lw_p9, List.forall_mem_cons.mpr ⟨lw_p10, List.forall_mem_cons.mpr ⟨lw_p11, List.forall_mem_cons.mpr ⟨lw_p12, fun _ h => absurd h List.not_mem_nil⟩⟩⟩⟩⟩⟩⟩⟩⟩⟩⟩⟩⟩
def lw_privs : List (MethodName × Nat) := lw_privs_1
def lw_tbl : List Cond := k2_sels lw_privs ++ tables_1
theorem lw_privs_ok : ∀ q ∈ lw_privs, lw_okq q := lw_r1
-- ===== ONE list of words for every method: the tables' words that hold all through a run =====
def lw_all : List Cond := lw_tbl.filter goodWord
/-- a word of the tables by its place: claim/WORDS.tsv -/
theorem lw_w {w : Cond} (i : Nat) (h : lw_tbl[i]? = some w) (g : goodWord w = true) : w ∈ lw_all := List.mem_filter.mpr ⟨List.mem_of_getElem? h, g⟩
theorem lw_all_tbl {w : Cond} (h : w ∈ lw_all) : w ∈ lw_tbl := (List.mem_filter.mp h).1
theorem lw_self : GoodIn lw_all lw_all := fun w h => ⟨h, good_of_word (List.mem_filter.mp h).2⟩
/-- a class's field words, by their places -/
theorem lw_in (ws : List Cond) (ps : List Nat) (hp : ws = ps.filterMap (fun i => lw_tbl[i]?)) (hg : ws.all goodWord = true) : ∀ w ∈ ws, w ∈ lw_all := by
  intro w h
  have h1 := List.all_eq_true.mp hg w h
  rw [hp] at h
  obtain ⟨i, -, hi⟩ := List.mem_filterMap.mp h
  exact lw_w i hi h1
/-- the words of a contract for the method y with code b, L locals, answer r -/
abbrev ws_ (y : MethodName) (b : ByteArray) (L : Nat) (r : Option FieldType) : List Cond := Cond.code y b L r :: lw_all
theorem lw_meth {y : MethodName} {b : ByteArray} {L : Nat} {r : Option FieldType} (h : Cond.code y b L r ∈ lw_all) : GoodIn lw_all (ws_ y b L r) := by
  intro w hw
  rcases List.mem_cons.mp hw with e | e
  · rw [e]
    exact lw_self _ h
  · exact lw_self _ e
theorem lw_app {a c : List Cond} (ha : ∀ w ∈ a, w ∈ lw_all) (hc : GoodIn lw_all c) : GoodIn lw_all (a ++ c) := by
  intro w hw
  rcases List.mem_append.mp hw with e | e
  · exact lw_self w (ha w e)
  · exact hc w e
/-- what a call through an object asks: cwV n hts (lw_V ..) -/
theorem lw_V {own : String} {idx : Nat} {C : String} {y : MethodName} {b : ByteArray} {L : Nat} {r : Option FieldType} (h1 : Cond.methodLink own idx y ∈ lw_all) (h2 : Cond.instanceMethod y ∈ lw_all) (h3 : Cond.selects C y y ∈ lw_all) (h4 : Cond.initialized C ∈ lw_all) (h5 : Cond.code y b L r ∈ lw_all) : GoodIn lw_all (wsV own idx C y (ws_ y b L r)) := by
  refine lw_app ?_ (lw_meth h5)
  intro w hw
  simp only [List.mem_cons, List.not_mem_nil, or_false] at hw
  rcases hw with e | e | e | e
  · rw [e]; exact h1
  · rw [e]; exact h2
  · rw [e]; exact h3
  · rw [e]; exact h4
/-- what a static call asks: va_cwS n hts (lw_S ..) -/
theorem lw_S {own : String} {idx : Nat} {y : MethodName} {b : ByteArray} {L : Nat} {r : Option FieldType} (h1 : Cond.methodLink own idx y ∈ lw_all) (h2 : Cond.static y ∈ lw_all) (h3 : Cond.initialized y.cls ∈ lw_all) (h4 : Cond.code y b L r ∈ lw_all) : GoodIn lw_all (va_wsS own idx y (ws_ y b L r)) := by
  refine lw_app ?_ (lw_meth h4)
  intro w hw
  simp only [List.mem_cons, List.not_mem_nil, or_false] at hw
  rcases hw with e | e | e
  · rw [e]; exact h1
  · rw [e]; exact h2
  · rw [e]; exact h3
/-- the words of a contract for a method WITH HANDLERS (hh: its table) -/
abbrev wsW_ (y : MethodName) (b : ByteArray) (L : Nat) (r : Option FieldType) (hh : List (Nat × Nat × Nat × Nat)) : List Cond := Cond.codeWith y b L r hh :: lw_all
theorem lw_methW {y : MethodName} {b : ByteArray} {L : Nat} {r : Option FieldType} {hh : List (Nat × Nat × Nat × Nat)} (h : Cond.codeWith y b L r hh ∈ lw_all) : GoodIn lw_all (wsW_ y b L r hh) := by
  intro w hw
  rcases List.mem_cons.mp hw with e | e
  · rw [e]
    exact lw_self _ h
  · exact lw_self _ e
/-- any list of words by their places (lw_in), good -/
theorem lw_good {ws : List Cond} (h : ∀ w ∈ ws, w ∈ lw_all) : GoodIn lw_all ws := fun w hw => lw_self w (h w hw)
/-- what a call of a method with handlers asks: vx_cwVW n hts (lw_VW ..), vx_cwSW n hts (lw_SW ..) -/
theorem lw_VW {own : String} {idx : Nat} {C : String} {y : MethodName} {b : ByteArray} {L : Nat} {r : Option FieldType} {hh : List (Nat × Nat × Nat × Nat)} (h1 : Cond.methodLink own idx y ∈ lw_all) (h2 : Cond.instanceMethod y ∈ lw_all) (h3 : Cond.selects C y y ∈ lw_all) (h4 : Cond.initialized C ∈ lw_all) (h5 : Cond.codeWith y b L r hh ∈ lw_all) : GoodIn lw_all (wsV own idx C y (wsW_ y b L r hh)) := by
  refine lw_app ?_ (lw_methW h5)
  intro w hw
  simp only [List.mem_cons, List.not_mem_nil, or_false] at hw
  rcases hw with e | e | e | e
  · rw [e]; exact h1
  · rw [e]; exact h2
  · rw [e]; exact h3
  · rw [e]; exact h4
theorem lw_SW {own : String} {idx : Nat} {y : MethodName} {b : ByteArray} {L : Nat} {r : Option FieldType} {hh : List (Nat × Nat × Nat × Nat)} (h1 : Cond.methodLink own idx y ∈ lw_all) (h2 : Cond.static y ∈ lw_all) (h3 : Cond.initialized y.cls ∈ lw_all) (h4 : Cond.codeWith y b L r hh ∈ lw_all) : GoodIn lw_all (va_wsS own idx y (wsW_ y b L r hh)) := by
  refine lw_app ?_ (lw_methW h4)
  intro w hw
  simp only [List.mem_cons, List.not_mem_nil, or_false] at hw
  rcases hw with e | e | e
  · rw [e]; exact h1
  · rw [e]; exact h2
  · rw [e]; exact h3
/-- a word by its place in its run of the tables -/
theorem lw_at {r : List Cond} (hr : ∀ w ∈ r, w ∈ lw_tbl) {w : Cond} (i : Nat) (h : r[i]? = some w) : w ∈ lw_tbl := hr w (List.mem_of_getElem? h)
theorem lw_g {w : Cond} (h : w ∈ lw_tbl) (g : goodWord w = true) : w ∈ lw_all := List.mem_filter.mpr ⟨h, g⟩
theorem lw_ms : ∀ w ∈ k2_sels lw_privs, w ∈ lw_tbl := fun w h => show w ∈ k2_sels lw_privs ++ tables_1 from List.mem_append_left _ h
theorem lw_m0 : ∀ w ∈ tables_1, w ∈ lw_tbl := fun w h => show w ∈ k2_sels lw_privs ++ tables_1 from List.mem_append_right (k2_sels lw_privs) h
theorem qs0 : (Cond.selects "TransitRounds" ⟨"TransitRounds", "isStop", "(I)Z"⟩ ⟨"TransitRounds", "isStop", "(I)Z"⟩) ∈ lw_all := lw_g (lw_at lw_ms 0 rfl) rfl
theorem qs1 : (Cond.selects "TransitRounds" ⟨"TransitRounds", "isTime", "(I)Z"⟩ ⟨"TransitRounds", "isTime", "(I)Z"⟩) ∈ lw_all := lw_g (lw_at lw_ms 1 rfl) rfl
theorem qs2 : (Cond.selects "TransitRounds" ⟨"TransitRounds", "search", "(III)V"⟩ ⟨"TransitRounds", "search", "(III)V"⟩) ∈ lw_all := lw_g (lw_at lw_ms 2 rfl) rfl
theorem qs3 : (Cond.selects "TransitRounds" ⟨"TransitRounds", "walkOn", "(I)V"⟩ ⟨"TransitRounds", "walkOn", "(I)V"⟩) ∈ lw_all := lw_g (lw_at lw_ms 3 rfl) rfl
theorem qs4 : (Cond.selects "TransitRounds" ⟨"TransitRounds", "callsAtBettered", "(I)Z"⟩ ⟨"TransitRounds", "callsAtBettered", "(I)Z"⟩) ∈ lw_all := lw_g (lw_at lw_ms 4 rfl) rfl
theorem qs5 : (Cond.selects "TransitRounds" ⟨"TransitRounds", "ride", "(I)V"⟩ ⟨"TransitRounds", "ride", "(I)V"⟩) ∈ lw_all := lw_g (lw_at lw_ms 5 rfl) rfl
theorem qs6 : (Cond.selects "TransitRounds" ⟨"TransitRounds", "finishRound", "()V"⟩ ⟨"TransitRounds", "finishRound", "()V"⟩) ∈ lw_all := lw_g (lw_at lw_ms 6 rfl) rfl
theorem qs7 : (Cond.selects "TransitRoundsModel" ⟨"TransitRoundsModel", "isStop", "(I)Z"⟩ ⟨"TransitRoundsModel", "isStop", "(I)Z"⟩) ∈ lw_all := lw_g (lw_at lw_ms 7 rfl) rfl
theorem qs8 : (Cond.selects "TransitRoundsModel" ⟨"TransitRoundsModel", "isTime", "(I)Z"⟩ ⟨"TransitRoundsModel", "isTime", "(I)Z"⟩) ∈ lw_all := lw_g (lw_at lw_ms 8 rfl) rfl
theorem qs9 : (Cond.selects "TransitRoundsModel" ⟨"TransitRoundsModel", "search", "(II)V"⟩ ⟨"TransitRoundsModel", "search", "(II)V"⟩) ∈ lw_all := lw_g (lw_at lw_ms 9 rfl) rfl
theorem qs10 : (Cond.selects "TransitRoundsModel" ⟨"TransitRoundsModel", "walkOn", "(I)V"⟩ ⟨"TransitRoundsModel", "walkOn", "(I)V"⟩) ∈ lw_all := lw_g (lw_at lw_ms 10 rfl) rfl
theorem qs11 : (Cond.selects "TransitRoundsModel" ⟨"TransitRoundsModel", "ride", "(III)V"⟩ ⟨"TransitRoundsModel", "ride", "(III)V"⟩) ∈ lw_all := lw_g (lw_at lw_ms 11 rfl) rfl
theorem qs12 : (Cond.selects "TransitRoundsModel" ⟨"TransitRoundsModel", "best", "(II)I"⟩ ⟨"TransitRoundsModel", "best", "(II)I"⟩) ∈ lw_all := lw_g (lw_at lw_ms 12 rfl) rfl
end
section
set_option maxRecDepth 100000
/-! java/lang/Object -/
def RJ0 : String := "java/lang/Object"
abbrev cJ0_init : ByteArray := object_method_1_code
def yJ0_init : MethodName := ⟨RJ0, "<init>", "()V"⟩
theorem q22 : (Jvm.Cond.instanceMethod ({ cls := "java/lang/Object", name := "<init>", desc := "()V" } : Jvm.MethodName)) ∈ lw_all := lw_g (lw_at lw_m0 9 rfl) rfl
theorem q23 : (Jvm.Cond.code ({ cls := "java/lang/Object", name := "<init>", desc := "()V" } : Jvm.MethodName) object_method_1_code (1 : Nat) (Option.none : Option Jvm.ClassFile.FieldType)) ∈ lw_all := lw_g (lw_at lw_m0 10 rfl) rfl

/-! TransitRounds -/
def RX0 : String := "TransitRounds"
def TX0 : u_T := fun k => match k with
  | 0 => ("TransitRounds", "tripCount", "I", false)
  | 1 => ("TransitRounds", "callCount", "[B", true)
  | 2 => ("TransitRounds", "stopOf", "[B", true)
  | 3 => ("TransitRounds", "timeOf", "[S", true)
  | 4 => ("TransitRounds", "walks", "[B", true)
  | 5 => ("TransitRounds", "best", "[I", true)
  | 6 => ("TransitRounds", "bettered", "I", false)
  | 7 => ("TransitRounds", "rounds", "I", false)
  | _ => ("TransitRounds", "ridden", "[I", true)
def tyX0 : Nat → FieldType := fun k => match k with
  | 0 => .int
  | 1 => .array .byte
  | 2 => .array .byte
  | 3 => .array .short
  | 4 => .array .byte
  | 5 => .array .int
  | 6 => .int
  | 7 => .int
  | _ => .array .int
abbrev wsX00 : List Cond := u_ws RX0 TX0 9
theorem nmX0 : ∀ a, a < 9 → ∀ b, b < 9 → a ≠ b → (TX0 a).2.1 ≠ (TX0 b).2.1 := by decide +kernel
theorem tyX0_ok : ∀ k, k < 9 → parseFieldDescriptor (TX0 k).2.2.1 = some (tyX0 k) := by decide +kernel
abbrev cX0_init : ByteArray := prog_1_method_1_code
def yX0_init : MethodName := ⟨RX0, "<init>", "()V"⟩
abbrev cX0_trip : ByteArray := prog_1_method_2_code
def yX0_trip : MethodName := ⟨RX0, "trip", "(II)I"⟩
abbrev cX0_isStop : ByteArray := prog_1_method_7_code
def yX0_isStop : MethodName := ⟨RX0, "isStop", "(I)Z"⟩
abbrev cX0_isTime : ByteArray := prog_1_method_8_code
def yX0_isTime : MethodName := ⟨RX0, "isTime", "(I)Z"⟩
abbrev cX0_call : ByteArray := prog_1_method_3_code
def yX0_call : MethodName := ⟨RX0, "call", "(II)I"⟩
abbrev cX0_cancel : ByteArray := prog_1_method_4_code
def yX0_cancel : MethodName := ⟨RX0, "cancel", "(I)I"⟩
abbrev cX0_delay : ByteArray := prog_1_method_5_code
def yX0_delay : MethodName := ⟨RX0, "delay", "(III)Z"⟩
abbrev cX0_walk : ByteArray := prog_1_method_6_code
def yX0_walk : MethodName := ⟨RX0, "walk", "(III)Z"⟩
abbrev cX0_arrival : ByteArray := prog_1_method_9_code
def yX0_arrival : MethodName := ⟨RX0, "arrival", "(IIII)I"⟩
abbrev cX0_search : ByteArray := prog_1_method_14_code
def yX0_search : MethodName := ⟨RX0, "search", "(III)V"⟩
abbrev cX0_walkOn : ByteArray := prog_1_method_18_code
def yX0_walkOn : MethodName := ⟨RX0, "walkOn", "(I)V"⟩
abbrev cX0_callsAtBettered : ByteArray := prog_1_method_15_code
def yX0_callsAtBettered : MethodName := ⟨RX0, "callsAtBettered", "(I)Z"⟩
abbrev cX0_ride : ByteArray := prog_1_method_16_code
def yX0_ride : MethodName := ⟨RX0, "ride", "(I)V"⟩
abbrev cX0_finishRound : ByteArray := prog_1_method_17_code
def yX0_finishRound : MethodName := ⟨RX0, "finishRound", "()V"⟩
abbrev cX0_fewest : ByteArray := prog_1_method_10_code
def yX0_fewest : MethodName := ⟨RX0, "fewest", "(III)I"⟩
abbrev cX0_choices : ByteArray := prog_1_method_11_code
def yX0_choices : MethodName := ⟨RX0, "choices", "(III)I"⟩
abbrev cX0_leave : ByteArray := prog_1_method_12_code
def yX0_leave : MethodName := ⟨RX0, "leave", "(III)I"⟩
abbrev cX0_within : ByteArray := prog_1_method_13_code
def yX0_within : MethodName := ⟨RX0, "within", "(III)I"⟩
theorem q14 : (Jvm.Cond.initialized "TransitRounds") ∈ lw_all := lw_g (lw_at lw_m0 1 rfl) rfl
theorem q17 : (Jvm.Cond.instantiable "TransitRounds" (9 : Nat)) ∈ lw_all := lw_g (lw_at lw_m0 4 rfl) rfl
theorem q19 : (Jvm.Cond.instanceMethod ({ cls := "TransitRounds", name := "<init>", desc := "()V" } : Jvm.MethodName)) ∈ lw_all := lw_g (lw_at lw_m0 6 rfl) rfl
theorem q20 : (Jvm.Cond.code ({ cls := "TransitRounds", name := "<init>", desc := "()V" } : Jvm.MethodName) prog_1_method_1_code (1 : Nat) (Option.none : Option Jvm.ClassFile.FieldType)) ∈ lw_all := lw_g (lw_at lw_m0 7 rfl) rfl
theorem q21 : (Jvm.Cond.methodLink "TransitRounds" (1 : Nat) ({ cls := "java/lang/Object", name := "<init>", desc := "()V" } : Jvm.MethodName)) ∈ lw_all := lw_g (lw_at lw_m0 8 rfl) rfl
theorem q24 : (Jvm.Cond.fieldLink "TransitRounds" (30 : Nat) "TransitRounds" "tripCount" "I") ∈ lw_all := lw_g (lw_at lw_m0 11 rfl) rfl
theorem q25 : (Jvm.Cond.fieldLink "TransitRounds" (7 : Nat) "TransitRounds" "callCount" "[B") ∈ lw_all := lw_g (lw_at lw_m0 12 rfl) rfl
theorem q26 : (Jvm.Cond.fieldLink "TransitRounds" (13 : Nat) "TransitRounds" "stopOf" "[B") ∈ lw_all := lw_g (lw_at lw_m0 13 rfl) rfl
theorem q27 : (Jvm.Cond.fieldLink "TransitRounds" (16 : Nat) "TransitRounds" "timeOf" "[S") ∈ lw_all := lw_g (lw_at lw_m0 14 rfl) rfl
theorem q28 : (Jvm.Cond.fieldLink "TransitRounds" (20 : Nat) "TransitRounds" "walks" "[B") ∈ lw_all := lw_g (lw_at lw_m0 15 rfl) rfl
theorem q29 : (Jvm.Cond.fieldLink "TransitRounds" (23 : Nat) "TransitRounds" "best" "[I") ∈ lw_all := lw_g (lw_at lw_m0 16 rfl) rfl
theorem q30 : (Jvm.Cond.fieldLink "TransitRounds" (53 : Nat) "TransitRounds" "bettered" "I") ∈ lw_all := lw_g (lw_at lw_m0 17 rfl) rfl
theorem q31 : (Jvm.Cond.fieldLink "TransitRounds" (45 : Nat) "TransitRounds" "rounds" "I") ∈ lw_all := lw_g (lw_at lw_m0 18 rfl) rfl
theorem q32 : (Jvm.Cond.fieldLink "TransitRounds" (27 : Nat) "TransitRounds" "ridden" "[I") ∈ lw_all := lw_g (lw_at lw_m0 19 rfl) rfl
theorem q33 : (Jvm.Cond.lays "TransitRounds" "TransitRounds" "tripCount" "I") ∈ lw_all := lw_g (lw_at lw_m0 20 rfl) rfl
theorem q34 : (Jvm.Cond.soleField "TransitRounds" "tripCount") ∈ lw_all := lw_g (lw_at lw_m0 21 rfl) rfl
theorem q35 : (Jvm.Cond.laysFinal "TransitRounds" "TransitRounds" "callCount" "[B") ∈ lw_all := lw_g (lw_at lw_m0 22 rfl) rfl
theorem q36 : (Jvm.Cond.soleField "TransitRounds" "callCount") ∈ lw_all := lw_g (lw_at lw_m0 23 rfl) rfl
theorem q37 : (Jvm.Cond.laysFinal "TransitRounds" "TransitRounds" "stopOf" "[B") ∈ lw_all := lw_g (lw_at lw_m0 24 rfl) rfl
theorem q38 : (Jvm.Cond.soleField "TransitRounds" "stopOf") ∈ lw_all := lw_g (lw_at lw_m0 25 rfl) rfl
theorem q39 : (Jvm.Cond.laysFinal "TransitRounds" "TransitRounds" "timeOf" "[S") ∈ lw_all := lw_g (lw_at lw_m0 26 rfl) rfl
theorem q40 : (Jvm.Cond.soleField "TransitRounds" "timeOf") ∈ lw_all := lw_g (lw_at lw_m0 27 rfl) rfl
theorem q41 : (Jvm.Cond.laysFinal "TransitRounds" "TransitRounds" "walks" "[B") ∈ lw_all := lw_g (lw_at lw_m0 28 rfl) rfl
theorem q42 : (Jvm.Cond.soleField "TransitRounds" "walks") ∈ lw_all := lw_g (lw_at lw_m0 29 rfl) rfl
theorem q43 : (Jvm.Cond.laysFinal "TransitRounds" "TransitRounds" "best" "[I") ∈ lw_all := lw_g (lw_at lw_m0 30 rfl) rfl
theorem q44 : (Jvm.Cond.soleField "TransitRounds" "best") ∈ lw_all := lw_g (lw_at lw_m0 31 rfl) rfl
theorem q45 : (Jvm.Cond.lays "TransitRounds" "TransitRounds" "bettered" "I") ∈ lw_all := lw_g (lw_at lw_m0 32 rfl) rfl
theorem q46 : (Jvm.Cond.soleField "TransitRounds" "bettered") ∈ lw_all := lw_g (lw_at lw_m0 33 rfl) rfl
theorem q47 : (Jvm.Cond.lays "TransitRounds" "TransitRounds" "rounds" "I") ∈ lw_all := lw_g (lw_at lw_m0 34 rfl) rfl
theorem q48 : (Jvm.Cond.soleField "TransitRounds" "rounds") ∈ lw_all := lw_g (lw_at lw_m0 35 rfl) rfl
theorem q49 : (Jvm.Cond.laysFinal "TransitRounds" "TransitRounds" "ridden" "[I") ∈ lw_all := lw_g (lw_at lw_m0 36 rfl) rfl
theorem q50 : (Jvm.Cond.soleField "TransitRounds" "ridden") ∈ lw_all := lw_g (lw_at lw_m0 37 rfl) rfl
theorem q51 : (Jvm.Cond.superclass "TransitRounds" "java/lang/Object") ∈ lw_all := lw_g (lw_at lw_m0 38 rfl) rfl
theorem q56 : (Jvm.Cond.instanceMethod ({ cls := "TransitRounds", name := "trip", desc := "(II)I" } : Jvm.MethodName)) ∈ lw_all := lw_g (lw_at lw_m0 43 rfl) rfl
theorem q57 : (Jvm.Cond.selects "TransitRounds" ({ cls := "TransitRounds", name := "trip", desc := "(II)I" } : Jvm.MethodName) ({ cls := "TransitRounds", name := "trip", desc := "(II)I" } : Jvm.MethodName)) ∈ lw_all := lw_g (lw_at lw_m0 44 rfl) rfl
theorem q58 : (Jvm.Cond.code ({ cls := "TransitRounds", name := "trip", desc := "(II)I" } : Jvm.MethodName) prog_1_method_2_code (3 : Nat) (Option.some Jvm.ClassFile.FieldType.int)) ∈ lw_all := lw_g (lw_at lw_m0 45 rfl) rfl
theorem q59 : (Jvm.Cond.methodLink "TransitRounds" (34 : Nat) ({ cls := "TransitRounds", name := "isStop", desc := "(I)Z" } : Jvm.MethodName)) ∈ lw_all := lw_g (lw_at lw_m0 46 rfl) rfl
theorem q60 : (Jvm.Cond.privateMethod ({ cls := "TransitRounds", name := "isStop", desc := "(I)Z" } : Jvm.MethodName)) ∈ lw_tbl := lw_at lw_m0 47 rfl
theorem q61 : (Jvm.Cond.instanceMethod ({ cls := "TransitRounds", name := "isStop", desc := "(I)Z" } : Jvm.MethodName)) ∈ lw_all := lw_g (lw_at lw_m0 48 rfl) rfl
theorem q62 : (Jvm.Cond.code ({ cls := "TransitRounds", name := "isStop", desc := "(I)Z" } : Jvm.MethodName) prog_1_method_7_code (2 : Nat) (Option.some Jvm.ClassFile.FieldType.boolean)) ∈ lw_all := lw_g (lw_at lw_m0 49 rfl) rfl
theorem q63 : (Jvm.Cond.methodLink "TransitRounds" (38 : Nat) ({ cls := "TransitRounds", name := "isTime", desc := "(I)Z" } : Jvm.MethodName)) ∈ lw_all := lw_g (lw_at lw_m0 50 rfl) rfl
theorem q64 : (Jvm.Cond.privateMethod ({ cls := "TransitRounds", name := "isTime", desc := "(I)Z" } : Jvm.MethodName)) ∈ lw_tbl := lw_at lw_m0 51 rfl
theorem q65 : (Jvm.Cond.instanceMethod ({ cls := "TransitRounds", name := "isTime", desc := "(I)Z" } : Jvm.MethodName)) ∈ lw_all := lw_g (lw_at lw_m0 52 rfl) rfl
theorem q66 : (Jvm.Cond.code ({ cls := "TransitRounds", name := "isTime", desc := "(I)Z" } : Jvm.MethodName) prog_1_method_8_code (2 : Nat) (Option.some Jvm.ClassFile.FieldType.boolean)) ∈ lw_all := lw_g (lw_at lw_m0 53 rfl) rfl
theorem q68 : (Jvm.Cond.instanceMethod ({ cls := "TransitRounds", name := "call", desc := "(II)I" } : Jvm.MethodName)) ∈ lw_all := lw_g (lw_at lw_m0 55 rfl) rfl
theorem q69 : (Jvm.Cond.selects "TransitRounds" ({ cls := "TransitRounds", name := "call", desc := "(II)I" } : Jvm.MethodName) ({ cls := "TransitRounds", name := "call", desc := "(II)I" } : Jvm.MethodName)) ∈ lw_all := lw_g (lw_at lw_m0 56 rfl) rfl
theorem q70 : (Jvm.Cond.code ({ cls := "TransitRounds", name := "call", desc := "(II)I" } : Jvm.MethodName) prog_1_method_3_code (6 : Nat) (Option.some Jvm.ClassFile.FieldType.int)) ∈ lw_all := lw_g (lw_at lw_m0 57 rfl) rfl
theorem q72 : (Jvm.Cond.instanceMethod ({ cls := "TransitRounds", name := "cancel", desc := "(I)I" } : Jvm.MethodName)) ∈ lw_all := lw_g (lw_at lw_m0 59 rfl) rfl
theorem q73 : (Jvm.Cond.selects "TransitRounds" ({ cls := "TransitRounds", name := "cancel", desc := "(I)I" } : Jvm.MethodName) ({ cls := "TransitRounds", name := "cancel", desc := "(I)I" } : Jvm.MethodName)) ∈ lw_all := lw_g (lw_at lw_m0 60 rfl) rfl
theorem q74 : (Jvm.Cond.code ({ cls := "TransitRounds", name := "cancel", desc := "(I)I" } : Jvm.MethodName) prog_1_method_4_code (3 : Nat) (Option.some Jvm.ClassFile.FieldType.int)) ∈ lw_all := lw_g (lw_at lw_m0 61 rfl) rfl
theorem q76 : (Jvm.Cond.instanceMethod ({ cls := "TransitRounds", name := "delay", desc := "(III)Z" } : Jvm.MethodName)) ∈ lw_all := lw_g (lw_at lw_m0 63 rfl) rfl
theorem q77 : (Jvm.Cond.selects "TransitRounds" ({ cls := "TransitRounds", name := "delay", desc := "(III)Z" } : Jvm.MethodName) ({ cls := "TransitRounds", name := "delay", desc := "(III)Z" } : Jvm.MethodName)) ∈ lw_all := lw_g (lw_at lw_m0 64 rfl) rfl
theorem q78 : (Jvm.Cond.code ({ cls := "TransitRounds", name := "delay", desc := "(III)Z" } : Jvm.MethodName) prog_1_method_5_code (5 : Nat) (Option.some Jvm.ClassFile.FieldType.boolean)) ∈ lw_all := lw_g (lw_at lw_m0 65 rfl) rfl
theorem q80 : (Jvm.Cond.instanceMethod ({ cls := "TransitRounds", name := "walk", desc := "(III)Z" } : Jvm.MethodName)) ∈ lw_all := lw_g (lw_at lw_m0 67 rfl) rfl
theorem q81 : (Jvm.Cond.selects "TransitRounds" ({ cls := "TransitRounds", name := "walk", desc := "(III)Z" } : Jvm.MethodName) ({ cls := "TransitRounds", name := "walk", desc := "(III)Z" } : Jvm.MethodName)) ∈ lw_all := lw_g (lw_at lw_m0 68 rfl) rfl
theorem q82 : (Jvm.Cond.code ({ cls := "TransitRounds", name := "walk", desc := "(III)Z" } : Jvm.MethodName) prog_1_method_6_code (4 : Nat) (Option.some Jvm.ClassFile.FieldType.boolean)) ∈ lw_all := lw_g (lw_at lw_m0 69 rfl) rfl
theorem q84 : (Jvm.Cond.instanceMethod ({ cls := "TransitRounds", name := "arrival", desc := "(IIII)I" } : Jvm.MethodName)) ∈ lw_all := lw_g (lw_at lw_m0 71 rfl) rfl
theorem q85 : (Jvm.Cond.selects "TransitRounds" ({ cls := "TransitRounds", name := "arrival", desc := "(IIII)I" } : Jvm.MethodName) ({ cls := "TransitRounds", name := "arrival", desc := "(IIII)I" } : Jvm.MethodName)) ∈ lw_all := lw_g (lw_at lw_m0 72 rfl) rfl
theorem q86 : (Jvm.Cond.code ({ cls := "TransitRounds", name := "arrival", desc := "(IIII)I" } : Jvm.MethodName) prog_1_method_9_code (6 : Nat) (Option.some Jvm.ClassFile.FieldType.int)) ∈ lw_all := lw_g (lw_at lw_m0 73 rfl) rfl
theorem q87 : (Jvm.Cond.methodLink "TransitRounds" (41 : Nat) ({ cls := "TransitRounds", name := "search", desc := "(III)V" } : Jvm.MethodName)) ∈ lw_all := lw_g (lw_at lw_m0 74 rfl) rfl
theorem q88 : (Jvm.Cond.privateMethod ({ cls := "TransitRounds", name := "search", desc := "(III)V" } : Jvm.MethodName)) ∈ lw_tbl := lw_at lw_m0 75 rfl
theorem q89 : (Jvm.Cond.instanceMethod ({ cls := "TransitRounds", name := "search", desc := "(III)V" } : Jvm.MethodName)) ∈ lw_all := lw_g (lw_at lw_m0 76 rfl) rfl
theorem q90 : (Jvm.Cond.code ({ cls := "TransitRounds", name := "search", desc := "(III)V" } : Jvm.MethodName) prog_1_method_14_code (5 : Nat) (Option.none : Option Jvm.ClassFile.FieldType)) ∈ lw_all := lw_g (lw_at lw_m0 77 rfl) rfl
theorem q91 : (Jvm.Cond.constant "TransitRounds" (48 : Nat) (100000 : Int32)) ∈ lw_all := lw_g (lw_at lw_m0 78 rfl) rfl
theorem q92 : (Jvm.Cond.methodLink "TransitRounds" (49 : Nat) ({ cls := "TransitRounds", name := "walkOn", desc := "(I)V" } : Jvm.MethodName)) ∈ lw_all := lw_g (lw_at lw_m0 79 rfl) rfl
theorem q93 : (Jvm.Cond.privateMethod ({ cls := "TransitRounds", name := "walkOn", desc := "(I)V" } : Jvm.MethodName)) ∈ lw_tbl := lw_at lw_m0 80 rfl
theorem q94 : (Jvm.Cond.instanceMethod ({ cls := "TransitRounds", name := "walkOn", desc := "(I)V" } : Jvm.MethodName)) ∈ lw_all := lw_g (lw_at lw_m0 81 rfl) rfl
theorem q95 : (Jvm.Cond.code ({ cls := "TransitRounds", name := "walkOn", desc := "(I)V" } : Jvm.MethodName) prog_1_method_18_code (5 : Nat) (Option.none : Option Jvm.ClassFile.FieldType)) ∈ lw_all := lw_g (lw_at lw_m0 82 rfl) rfl
theorem q96 : (Jvm.Cond.methodLink "TransitRounds" (56 : Nat) ({ cls := "TransitRounds", name := "callsAtBettered", desc := "(I)Z" } : Jvm.MethodName)) ∈ lw_all := lw_g (lw_at lw_m0 83 rfl) rfl
theorem q97 : (Jvm.Cond.privateMethod ({ cls := "TransitRounds", name := "callsAtBettered", desc := "(I)Z" } : Jvm.MethodName)) ∈ lw_tbl := lw_at lw_m0 84 rfl
theorem q98 : (Jvm.Cond.instanceMethod ({ cls := "TransitRounds", name := "callsAtBettered", desc := "(I)Z" } : Jvm.MethodName)) ∈ lw_all := lw_g (lw_at lw_m0 85 rfl) rfl
theorem q99 : (Jvm.Cond.code ({ cls := "TransitRounds", name := "callsAtBettered", desc := "(I)Z" } : Jvm.MethodName) prog_1_method_15_code (3 : Nat) (Option.some Jvm.ClassFile.FieldType.boolean)) ∈ lw_all := lw_g (lw_at lw_m0 86 rfl) rfl
theorem q100 : (Jvm.Cond.methodLink "TransitRounds" (59 : Nat) ({ cls := "TransitRounds", name := "ride", desc := "(I)V" } : Jvm.MethodName)) ∈ lw_all := lw_g (lw_at lw_m0 87 rfl) rfl
theorem q101 : (Jvm.Cond.privateMethod ({ cls := "TransitRounds", name := "ride", desc := "(I)V" } : Jvm.MethodName)) ∈ lw_tbl := lw_at lw_m0 88 rfl
theorem q102 : (Jvm.Cond.instanceMethod ({ cls := "TransitRounds", name := "ride", desc := "(I)V" } : Jvm.MethodName)) ∈ lw_all := lw_g (lw_at lw_m0 89 rfl) rfl
theorem q103 : (Jvm.Cond.code ({ cls := "TransitRounds", name := "ride", desc := "(I)V" } : Jvm.MethodName) prog_1_method_16_code (5 : Nat) (Option.none : Option Jvm.ClassFile.FieldType)) ∈ lw_all := lw_g (lw_at lw_m0 90 rfl) rfl
theorem q104 : (Jvm.Cond.methodLink "TransitRounds" (62 : Nat) ({ cls := "TransitRounds", name := "finishRound", desc := "()V" } : Jvm.MethodName)) ∈ lw_all := lw_g (lw_at lw_m0 91 rfl) rfl
theorem q105 : (Jvm.Cond.privateMethod ({ cls := "TransitRounds", name := "finishRound", desc := "()V" } : Jvm.MethodName)) ∈ lw_tbl := lw_at lw_m0 92 rfl
theorem q106 : (Jvm.Cond.instanceMethod ({ cls := "TransitRounds", name := "finishRound", desc := "()V" } : Jvm.MethodName)) ∈ lw_all := lw_g (lw_at lw_m0 93 rfl) rfl
theorem q107 : (Jvm.Cond.code ({ cls := "TransitRounds", name := "finishRound", desc := "()V" } : Jvm.MethodName) prog_1_method_17_code (2 : Nat) (Option.none : Option Jvm.ClassFile.FieldType)) ∈ lw_all := lw_g (lw_at lw_m0 94 rfl) rfl
theorem q109 : (Jvm.Cond.instanceMethod ({ cls := "TransitRounds", name := "fewest", desc := "(III)I" } : Jvm.MethodName)) ∈ lw_all := lw_g (lw_at lw_m0 96 rfl) rfl
theorem q110 : (Jvm.Cond.selects "TransitRounds" ({ cls := "TransitRounds", name := "fewest", desc := "(III)I" } : Jvm.MethodName) ({ cls := "TransitRounds", name := "fewest", desc := "(III)I" } : Jvm.MethodName)) ∈ lw_all := lw_g (lw_at lw_m0 97 rfl) rfl
theorem q111 : (Jvm.Cond.code ({ cls := "TransitRounds", name := "fewest", desc := "(III)I" } : Jvm.MethodName) prog_1_method_10_code (5 : Nat) (Option.some Jvm.ClassFile.FieldType.int)) ∈ lw_all := lw_g (lw_at lw_m0 98 rfl) rfl
theorem q113 : (Jvm.Cond.instanceMethod ({ cls := "TransitRounds", name := "choices", desc := "(III)I" } : Jvm.MethodName)) ∈ lw_all := lw_g (lw_at lw_m0 100 rfl) rfl
theorem q114 : (Jvm.Cond.selects "TransitRounds" ({ cls := "TransitRounds", name := "choices", desc := "(III)I" } : Jvm.MethodName) ({ cls := "TransitRounds", name := "choices", desc := "(III)I" } : Jvm.MethodName)) ∈ lw_all := lw_g (lw_at lw_m0 101 rfl) rfl
theorem q115 : (Jvm.Cond.code ({ cls := "TransitRounds", name := "choices", desc := "(III)I" } : Jvm.MethodName) prog_1_method_11_code (8 : Nat) (Option.some Jvm.ClassFile.FieldType.int)) ∈ lw_all := lw_g (lw_at lw_m0 102 rfl) rfl
theorem q117 : (Jvm.Cond.instanceMethod ({ cls := "TransitRounds", name := "leave", desc := "(III)I" } : Jvm.MethodName)) ∈ lw_all := lw_g (lw_at lw_m0 104 rfl) rfl
theorem q118 : (Jvm.Cond.selects "TransitRounds" ({ cls := "TransitRounds", name := "leave", desc := "(III)I" } : Jvm.MethodName) ({ cls := "TransitRounds", name := "leave", desc := "(III)I" } : Jvm.MethodName)) ∈ lw_all := lw_g (lw_at lw_m0 105 rfl) rfl
theorem q119 : (Jvm.Cond.code ({ cls := "TransitRounds", name := "leave", desc := "(III)I" } : Jvm.MethodName) prog_1_method_12_code (7 : Nat) (Option.some Jvm.ClassFile.FieldType.int)) ∈ lw_all := lw_g (lw_at lw_m0 106 rfl) rfl
theorem q121 : (Jvm.Cond.instanceMethod ({ cls := "TransitRounds", name := "within", desc := "(III)I" } : Jvm.MethodName)) ∈ lw_all := lw_g (lw_at lw_m0 108 rfl) rfl
theorem q122 : (Jvm.Cond.selects "TransitRounds" ({ cls := "TransitRounds", name := "within", desc := "(III)I" } : Jvm.MethodName) ({ cls := "TransitRounds", name := "within", desc := "(III)I" } : Jvm.MethodName)) ∈ lw_all := lw_g (lw_at lw_m0 109 rfl) rfl
theorem q123 : (Jvm.Cond.code ({ cls := "TransitRounds", name := "within", desc := "(III)I" } : Jvm.MethodName) prog_1_method_13_code (6 : Nat) (Option.some Jvm.ClassFile.FieldType.int)) ∈ lw_all := lw_g (lw_at lw_m0 110 rfl) rfl
theorem in_X0 : ∀ w ∈ wsX00, w ∈ lw_all := lw_in wsX00 [33, 35, 37, 39, 41, 43, 45, 47, 49] (by decide +kernel) (by decide +kernel)

/-! TransitRoundsModel -/
def RX1 : String := "TransitRoundsModel"
def TX1 : u_T := fun k => match k with
  | 0 => ("TransitRoundsModel", "trips", "I", false)
  | 1 => ("TransitRoundsModel", "calls", "[I", true)
  | 2 => ("TransitRoundsModel", "stops", "[I", true)
  | 3 => ("TransitRoundsModel", "times", "[I", true)
  | 4 => ("TransitRoundsModel", "walks", "[I", true)
  | 5 => ("TransitRoundsModel", "off", "[I", true)
  | _ => ("TransitRoundsModel", "there", "[I", true)
def tyX1 : Nat → FieldType := fun k => match k with
  | 0 => .int
  | 1 => .array .int
  | 2 => .array .int
  | 3 => .array .int
  | 4 => .array .int
  | 5 => .array .int
  | _ => .array .int
abbrev wsX10 : List Cond := u_ws RX1 TX1 7
theorem nmX1 : ∀ a, a < 7 → ∀ b, b < 7 → a ≠ b → (TX1 a).2.1 ≠ (TX1 b).2.1 := by decide +kernel
theorem tyX1_ok : ∀ k, k < 7 → parseFieldDescriptor (TX1 k).2.2.1 = some (tyX1 k) := by decide +kernel
abbrev cX1_init : ByteArray := prog_3_method_1_code
def yX1_init : MethodName := ⟨RX1, "<init>", "()V"⟩
abbrev cX1_trip : ByteArray := prog_3_method_4_code
def yX1_trip : MethodName := ⟨RX1, "trip", "(II)I"⟩
abbrev cX1_isStop : ByteArray := prog_3_method_2_code
def yX1_isStop : MethodName := ⟨RX1, "isStop", "(I)Z"⟩
abbrev cX1_isTime : ByteArray := prog_3_method_3_code
def yX1_isTime : MethodName := ⟨RX1, "isTime", "(I)Z"⟩
abbrev cX1_call : ByteArray := prog_3_method_5_code
def yX1_call : MethodName := ⟨RX1, "call", "(II)I"⟩
abbrev cX1_cancel : ByteArray := prog_3_method_6_code
def yX1_cancel : MethodName := ⟨RX1, "cancel", "(I)I"⟩
abbrev cX1_delay : ByteArray := prog_3_method_7_code
def yX1_delay : MethodName := ⟨RX1, "delay", "(III)Z"⟩
abbrev cX1_walk : ByteArray := prog_3_method_8_code
def yX1_walk : MethodName := ⟨RX1, "walk", "(III)Z"⟩
abbrev cX1_arrival : ByteArray := prog_3_method_13_code
def yX1_arrival : MethodName := ⟨RX1, "arrival", "(IIII)I"⟩
abbrev cX1_search : ByteArray := prog_3_method_11_code
def yX1_search : MethodName := ⟨RX1, "search", "(II)V"⟩
abbrev cX1_walkOn : ByteArray := prog_3_method_9_code
def yX1_walkOn : MethodName := ⟨RX1, "walkOn", "(I)V"⟩
abbrev cX1_ride : ByteArray := prog_3_method_10_code
def yX1_ride : MethodName := ⟨RX1, "ride", "(III)V"⟩
abbrev cX1_best : ByteArray := prog_3_method_12_code
def yX1_best : MethodName := ⟨RX1, "best", "(II)I"⟩
abbrev cX1_fewest : ByteArray := prog_3_method_14_code
def yX1_fewest : MethodName := ⟨RX1, "fewest", "(III)I"⟩
abbrev cX1_choices : ByteArray := prog_3_method_15_code
def yX1_choices : MethodName := ⟨RX1, "choices", "(III)I"⟩
abbrev cX1_leave : ByteArray := prog_3_method_16_code
def yX1_leave : MethodName := ⟨RX1, "leave", "(III)I"⟩
abbrev cX1_within : ByteArray := prog_3_method_17_code
def yX1_within : MethodName := ⟨RX1, "within", "(III)I"⟩
theorem q15 : (Jvm.Cond.initialized "TransitRoundsModel") ∈ lw_all := lw_g (lw_at lw_m0 2 rfl) rfl
theorem q125 : (Jvm.Cond.instantiable "TransitRoundsModel" (7 : Nat)) ∈ lw_all := lw_g (lw_at lw_m0 112 rfl) rfl
theorem q127 : (Jvm.Cond.instanceMethod ({ cls := "TransitRoundsModel", name := "<init>", desc := "()V" } : Jvm.MethodName)) ∈ lw_all := lw_g (lw_at lw_m0 114 rfl) rfl
theorem q128 : (Jvm.Cond.code ({ cls := "TransitRoundsModel", name := "<init>", desc := "()V" } : Jvm.MethodName) prog_3_method_1_code (1 : Nat) (Option.none : Option Jvm.ClassFile.FieldType)) ∈ lw_all := lw_g (lw_at lw_m0 115 rfl) rfl
theorem q129 : (Jvm.Cond.methodLink "TransitRoundsModel" (1 : Nat) ({ cls := "java/lang/Object", name := "<init>", desc := "()V" } : Jvm.MethodName)) ∈ lw_all := lw_g (lw_at lw_m0 116 rfl) rfl
theorem q130 : (Jvm.Cond.fieldLink "TransitRoundsModel" (28 : Nat) "TransitRoundsModel" "trips" "I") ∈ lw_all := lw_g (lw_at lw_m0 117 rfl) rfl
theorem q131 : (Jvm.Cond.fieldLink "TransitRoundsModel" (7 : Nat) "TransitRoundsModel" "calls" "[I") ∈ lw_all := lw_g (lw_at lw_m0 118 rfl) rfl
theorem q132 : (Jvm.Cond.fieldLink "TransitRoundsModel" (13 : Nat) "TransitRoundsModel" "stops" "[I") ∈ lw_all := lw_g (lw_at lw_m0 119 rfl) rfl
theorem q133 : (Jvm.Cond.fieldLink "TransitRoundsModel" (16 : Nat) "TransitRoundsModel" "times" "[I") ∈ lw_all := lw_g (lw_at lw_m0 120 rfl) rfl
theorem q134 : (Jvm.Cond.fieldLink "TransitRoundsModel" (19 : Nat) "TransitRoundsModel" "walks" "[I") ∈ lw_all := lw_g (lw_at lw_m0 121 rfl) rfl
theorem q135 : (Jvm.Cond.fieldLink "TransitRoundsModel" (22 : Nat) "TransitRoundsModel" "off" "[I") ∈ lw_all := lw_g (lw_at lw_m0 122 rfl) rfl
theorem q136 : (Jvm.Cond.fieldLink "TransitRoundsModel" (25 : Nat) "TransitRoundsModel" "there" "[I") ∈ lw_all := lw_g (lw_at lw_m0 123 rfl) rfl
theorem q137 : (Jvm.Cond.lays "TransitRoundsModel" "TransitRoundsModel" "trips" "I") ∈ lw_all := lw_g (lw_at lw_m0 124 rfl) rfl
theorem q138 : (Jvm.Cond.soleField "TransitRoundsModel" "trips") ∈ lw_all := lw_g (lw_at lw_m0 125 rfl) rfl
theorem q139 : (Jvm.Cond.laysFinal "TransitRoundsModel" "TransitRoundsModel" "calls" "[I") ∈ lw_all := lw_g (lw_at lw_m0 126 rfl) rfl
theorem q140 : (Jvm.Cond.soleField "TransitRoundsModel" "calls") ∈ lw_all := lw_g (lw_at lw_m0 127 rfl) rfl
theorem q141 : (Jvm.Cond.laysFinal "TransitRoundsModel" "TransitRoundsModel" "stops" "[I") ∈ lw_all := lw_g (lw_at lw_m0 128 rfl) rfl
theorem q142 : (Jvm.Cond.soleField "TransitRoundsModel" "stops") ∈ lw_all := lw_g (lw_at lw_m0 129 rfl) rfl
theorem q143 : (Jvm.Cond.laysFinal "TransitRoundsModel" "TransitRoundsModel" "times" "[I") ∈ lw_all := lw_g (lw_at lw_m0 130 rfl) rfl
theorem q144 : (Jvm.Cond.soleField "TransitRoundsModel" "times") ∈ lw_all := lw_g (lw_at lw_m0 131 rfl) rfl
theorem q145 : (Jvm.Cond.laysFinal "TransitRoundsModel" "TransitRoundsModel" "walks" "[I") ∈ lw_all := lw_g (lw_at lw_m0 132 rfl) rfl
theorem q146 : (Jvm.Cond.soleField "TransitRoundsModel" "walks") ∈ lw_all := lw_g (lw_at lw_m0 133 rfl) rfl
theorem q147 : (Jvm.Cond.laysFinal "TransitRoundsModel" "TransitRoundsModel" "off" "[I") ∈ lw_all := lw_g (lw_at lw_m0 134 rfl) rfl
theorem q148 : (Jvm.Cond.soleField "TransitRoundsModel" "off") ∈ lw_all := lw_g (lw_at lw_m0 135 rfl) rfl
theorem q149 : (Jvm.Cond.laysFinal "TransitRoundsModel" "TransitRoundsModel" "there" "[I") ∈ lw_all := lw_g (lw_at lw_m0 136 rfl) rfl
theorem q150 : (Jvm.Cond.soleField "TransitRoundsModel" "there") ∈ lw_all := lw_g (lw_at lw_m0 137 rfl) rfl
theorem q151 : (Jvm.Cond.superclass "TransitRoundsModel" "java/lang/Object") ∈ lw_all := lw_g (lw_at lw_m0 138 rfl) rfl
theorem q153 : (Jvm.Cond.instanceMethod ({ cls := "TransitRoundsModel", name := "trip", desc := "(II)I" } : Jvm.MethodName)) ∈ lw_all := lw_g (lw_at lw_m0 140 rfl) rfl
theorem q154 : (Jvm.Cond.selects "TransitRoundsModel" ({ cls := "TransitRoundsModel", name := "trip", desc := "(II)I" } : Jvm.MethodName) ({ cls := "TransitRoundsModel", name := "trip", desc := "(II)I" } : Jvm.MethodName)) ∈ lw_all := lw_g (lw_at lw_m0 141 rfl) rfl
theorem q155 : (Jvm.Cond.code ({ cls := "TransitRoundsModel", name := "trip", desc := "(II)I" } : Jvm.MethodName) prog_3_method_4_code (3 : Nat) (Option.some Jvm.ClassFile.FieldType.int)) ∈ lw_all := lw_g (lw_at lw_m0 142 rfl) rfl
theorem q156 : (Jvm.Cond.methodLink "TransitRoundsModel" (32 : Nat) ({ cls := "TransitRoundsModel", name := "isStop", desc := "(I)Z" } : Jvm.MethodName)) ∈ lw_all := lw_g (lw_at lw_m0 143 rfl) rfl
theorem q157 : (Jvm.Cond.privateMethod ({ cls := "TransitRoundsModel", name := "isStop", desc := "(I)Z" } : Jvm.MethodName)) ∈ lw_tbl := lw_at lw_m0 144 rfl
theorem q158 : (Jvm.Cond.instanceMethod ({ cls := "TransitRoundsModel", name := "isStop", desc := "(I)Z" } : Jvm.MethodName)) ∈ lw_all := lw_g (lw_at lw_m0 145 rfl) rfl
theorem q159 : (Jvm.Cond.code ({ cls := "TransitRoundsModel", name := "isStop", desc := "(I)Z" } : Jvm.MethodName) prog_3_method_2_code (2 : Nat) (Option.some Jvm.ClassFile.FieldType.boolean)) ∈ lw_all := lw_g (lw_at lw_m0 146 rfl) rfl
theorem q160 : (Jvm.Cond.methodLink "TransitRoundsModel" (36 : Nat) ({ cls := "TransitRoundsModel", name := "isTime", desc := "(I)Z" } : Jvm.MethodName)) ∈ lw_all := lw_g (lw_at lw_m0 147 rfl) rfl
theorem q161 : (Jvm.Cond.privateMethod ({ cls := "TransitRoundsModel", name := "isTime", desc := "(I)Z" } : Jvm.MethodName)) ∈ lw_tbl := lw_at lw_m0 148 rfl
theorem q162 : (Jvm.Cond.instanceMethod ({ cls := "TransitRoundsModel", name := "isTime", desc := "(I)Z" } : Jvm.MethodName)) ∈ lw_all := lw_g (lw_at lw_m0 149 rfl) rfl
theorem q163 : (Jvm.Cond.code ({ cls := "TransitRoundsModel", name := "isTime", desc := "(I)Z" } : Jvm.MethodName) prog_3_method_3_code (2 : Nat) (Option.some Jvm.ClassFile.FieldType.boolean)) ∈ lw_all := lw_g (lw_at lw_m0 150 rfl) rfl
theorem q165 : (Jvm.Cond.instanceMethod ({ cls := "TransitRoundsModel", name := "call", desc := "(II)I" } : Jvm.MethodName)) ∈ lw_all := lw_g (lw_at lw_m0 152 rfl) rfl
theorem q166 : (Jvm.Cond.selects "TransitRoundsModel" ({ cls := "TransitRoundsModel", name := "call", desc := "(II)I" } : Jvm.MethodName) ({ cls := "TransitRoundsModel", name := "call", desc := "(II)I" } : Jvm.MethodName)) ∈ lw_all := lw_g (lw_at lw_m0 153 rfl) rfl
theorem q167 : (Jvm.Cond.code ({ cls := "TransitRoundsModel", name := "call", desc := "(II)I" } : Jvm.MethodName) prog_3_method_5_code (5 : Nat) (Option.some Jvm.ClassFile.FieldType.int)) ∈ lw_all := lw_g (lw_at lw_m0 154 rfl) rfl
theorem q169 : (Jvm.Cond.instanceMethod ({ cls := "TransitRoundsModel", name := "cancel", desc := "(I)I" } : Jvm.MethodName)) ∈ lw_all := lw_g (lw_at lw_m0 156 rfl) rfl
theorem q170 : (Jvm.Cond.selects "TransitRoundsModel" ({ cls := "TransitRoundsModel", name := "cancel", desc := "(I)I" } : Jvm.MethodName) ({ cls := "TransitRoundsModel", name := "cancel", desc := "(I)I" } : Jvm.MethodName)) ∈ lw_all := lw_g (lw_at lw_m0 157 rfl) rfl
theorem q171 : (Jvm.Cond.code ({ cls := "TransitRoundsModel", name := "cancel", desc := "(I)I" } : Jvm.MethodName) prog_3_method_6_code (3 : Nat) (Option.some Jvm.ClassFile.FieldType.int)) ∈ lw_all := lw_g (lw_at lw_m0 158 rfl) rfl
theorem q173 : (Jvm.Cond.instanceMethod ({ cls := "TransitRoundsModel", name := "delay", desc := "(III)Z" } : Jvm.MethodName)) ∈ lw_all := lw_g (lw_at lw_m0 160 rfl) rfl
theorem q174 : (Jvm.Cond.selects "TransitRoundsModel" ({ cls := "TransitRoundsModel", name := "delay", desc := "(III)Z" } : Jvm.MethodName) ({ cls := "TransitRoundsModel", name := "delay", desc := "(III)Z" } : Jvm.MethodName)) ∈ lw_all := lw_g (lw_at lw_m0 161 rfl) rfl
theorem q175 : (Jvm.Cond.code ({ cls := "TransitRoundsModel", name := "delay", desc := "(III)Z" } : Jvm.MethodName) prog_3_method_7_code (5 : Nat) (Option.some Jvm.ClassFile.FieldType.boolean)) ∈ lw_all := lw_g (lw_at lw_m0 162 rfl) rfl
theorem q177 : (Jvm.Cond.instanceMethod ({ cls := "TransitRoundsModel", name := "walk", desc := "(III)Z" } : Jvm.MethodName)) ∈ lw_all := lw_g (lw_at lw_m0 164 rfl) rfl
theorem q178 : (Jvm.Cond.selects "TransitRoundsModel" ({ cls := "TransitRoundsModel", name := "walk", desc := "(III)Z" } : Jvm.MethodName) ({ cls := "TransitRoundsModel", name := "walk", desc := "(III)Z" } : Jvm.MethodName)) ∈ lw_all := lw_g (lw_at lw_m0 165 rfl) rfl
theorem q179 : (Jvm.Cond.code ({ cls := "TransitRoundsModel", name := "walk", desc := "(III)Z" } : Jvm.MethodName) prog_3_method_8_code (4 : Nat) (Option.some Jvm.ClassFile.FieldType.boolean)) ∈ lw_all := lw_g (lw_at lw_m0 166 rfl) rfl
theorem q181 : (Jvm.Cond.instanceMethod ({ cls := "TransitRoundsModel", name := "arrival", desc := "(IIII)I" } : Jvm.MethodName)) ∈ lw_all := lw_g (lw_at lw_m0 168 rfl) rfl
theorem q182 : (Jvm.Cond.selects "TransitRoundsModel" ({ cls := "TransitRoundsModel", name := "arrival", desc := "(IIII)I" } : Jvm.MethodName) ({ cls := "TransitRoundsModel", name := "arrival", desc := "(IIII)I" } : Jvm.MethodName)) ∈ lw_all := lw_g (lw_at lw_m0 169 rfl) rfl
theorem q183 : (Jvm.Cond.code ({ cls := "TransitRoundsModel", name := "arrival", desc := "(IIII)I" } : Jvm.MethodName) prog_3_method_13_code (6 : Nat) (Option.some Jvm.ClassFile.FieldType.int)) ∈ lw_all := lw_g (lw_at lw_m0 170 rfl) rfl
theorem q184 : (Jvm.Cond.methodLink "TransitRoundsModel" (48 : Nat) ({ cls := "TransitRoundsModel", name := "search", desc := "(II)V" } : Jvm.MethodName)) ∈ lw_all := lw_g (lw_at lw_m0 171 rfl) rfl
theorem q185 : (Jvm.Cond.privateMethod ({ cls := "TransitRoundsModel", name := "search", desc := "(II)V" } : Jvm.MethodName)) ∈ lw_tbl := lw_at lw_m0 172 rfl
theorem q186 : (Jvm.Cond.instanceMethod ({ cls := "TransitRoundsModel", name := "search", desc := "(II)V" } : Jvm.MethodName)) ∈ lw_all := lw_g (lw_at lw_m0 173 rfl) rfl
theorem q187 : (Jvm.Cond.code ({ cls := "TransitRoundsModel", name := "search", desc := "(II)V" } : Jvm.MethodName) prog_3_method_11_code (5 : Nat) (Option.none : Option Jvm.ClassFile.FieldType)) ∈ lw_all := lw_g (lw_at lw_m0 174 rfl) rfl
theorem q188 : (Jvm.Cond.constant "TransitRoundsModel" (39 : Nat) (100000 : Int32)) ∈ lw_all := lw_g (lw_at lw_m0 175 rfl) rfl
theorem q189 : (Jvm.Cond.methodLink "TransitRoundsModel" (40 : Nat) ({ cls := "TransitRoundsModel", name := "walkOn", desc := "(I)V" } : Jvm.MethodName)) ∈ lw_all := lw_g (lw_at lw_m0 176 rfl) rfl
theorem q190 : (Jvm.Cond.privateMethod ({ cls := "TransitRoundsModel", name := "walkOn", desc := "(I)V" } : Jvm.MethodName)) ∈ lw_tbl := lw_at lw_m0 177 rfl
theorem q191 : (Jvm.Cond.instanceMethod ({ cls := "TransitRoundsModel", name := "walkOn", desc := "(I)V" } : Jvm.MethodName)) ∈ lw_all := lw_g (lw_at lw_m0 178 rfl) rfl
theorem q192 : (Jvm.Cond.code ({ cls := "TransitRoundsModel", name := "walkOn", desc := "(I)V" } : Jvm.MethodName) prog_3_method_9_code (6 : Nat) (Option.none : Option Jvm.ClassFile.FieldType)) ∈ lw_all := lw_g (lw_at lw_m0 179 rfl) rfl
theorem q193 : (Jvm.Cond.methodLink "TransitRoundsModel" (44 : Nat) ({ cls := "TransitRoundsModel", name := "ride", desc := "(III)V" } : Jvm.MethodName)) ∈ lw_all := lw_g (lw_at lw_m0 180 rfl) rfl
theorem q194 : (Jvm.Cond.privateMethod ({ cls := "TransitRoundsModel", name := "ride", desc := "(III)V" } : Jvm.MethodName)) ∈ lw_tbl := lw_at lw_m0 181 rfl
theorem q195 : (Jvm.Cond.instanceMethod ({ cls := "TransitRoundsModel", name := "ride", desc := "(III)V" } : Jvm.MethodName)) ∈ lw_all := lw_g (lw_at lw_m0 182 rfl) rfl
theorem q196 : (Jvm.Cond.code ({ cls := "TransitRoundsModel", name := "ride", desc := "(III)V" } : Jvm.MethodName) prog_3_method_10_code (6 : Nat) (Option.none : Option Jvm.ClassFile.FieldType)) ∈ lw_all := lw_g (lw_at lw_m0 183 rfl) rfl
theorem q197 : (Jvm.Cond.methodLink "TransitRoundsModel" (52 : Nat) ({ cls := "TransitRoundsModel", name := "best", desc := "(II)I" } : Jvm.MethodName)) ∈ lw_all := lw_g (lw_at lw_m0 184 rfl) rfl
theorem q198 : (Jvm.Cond.privateMethod ({ cls := "TransitRoundsModel", name := "best", desc := "(II)I" } : Jvm.MethodName)) ∈ lw_tbl := lw_at lw_m0 185 rfl
theorem q199 : (Jvm.Cond.instanceMethod ({ cls := "TransitRoundsModel", name := "best", desc := "(II)I" } : Jvm.MethodName)) ∈ lw_all := lw_g (lw_at lw_m0 186 rfl) rfl
theorem q200 : (Jvm.Cond.code ({ cls := "TransitRoundsModel", name := "best", desc := "(II)I" } : Jvm.MethodName) prog_3_method_12_code (5 : Nat) (Option.some Jvm.ClassFile.FieldType.int)) ∈ lw_all := lw_g (lw_at lw_m0 187 rfl) rfl
theorem q202 : (Jvm.Cond.instanceMethod ({ cls := "TransitRoundsModel", name := "fewest", desc := "(III)I" } : Jvm.MethodName)) ∈ lw_all := lw_g (lw_at lw_m0 189 rfl) rfl
theorem q203 : (Jvm.Cond.selects "TransitRoundsModel" ({ cls := "TransitRoundsModel", name := "fewest", desc := "(III)I" } : Jvm.MethodName) ({ cls := "TransitRoundsModel", name := "fewest", desc := "(III)I" } : Jvm.MethodName)) ∈ lw_all := lw_g (lw_at lw_m0 190 rfl) rfl
theorem q204 : (Jvm.Cond.code ({ cls := "TransitRoundsModel", name := "fewest", desc := "(III)I" } : Jvm.MethodName) prog_3_method_14_code (5 : Nat) (Option.some Jvm.ClassFile.FieldType.int)) ∈ lw_all := lw_g (lw_at lw_m0 191 rfl) rfl
theorem q206 : (Jvm.Cond.instanceMethod ({ cls := "TransitRoundsModel", name := "choices", desc := "(III)I" } : Jvm.MethodName)) ∈ lw_all := lw_g (lw_at lw_m0 193 rfl) rfl
theorem q207 : (Jvm.Cond.selects "TransitRoundsModel" ({ cls := "TransitRoundsModel", name := "choices", desc := "(III)I" } : Jvm.MethodName) ({ cls := "TransitRoundsModel", name := "choices", desc := "(III)I" } : Jvm.MethodName)) ∈ lw_all := lw_g (lw_at lw_m0 194 rfl) rfl
theorem q208 : (Jvm.Cond.code ({ cls := "TransitRoundsModel", name := "choices", desc := "(III)I" } : Jvm.MethodName) prog_3_method_15_code (6 : Nat) (Option.some Jvm.ClassFile.FieldType.int)) ∈ lw_all := lw_g (lw_at lw_m0 195 rfl) rfl
theorem q210 : (Jvm.Cond.instanceMethod ({ cls := "TransitRoundsModel", name := "leave", desc := "(III)I" } : Jvm.MethodName)) ∈ lw_all := lw_g (lw_at lw_m0 197 rfl) rfl
theorem q211 : (Jvm.Cond.selects "TransitRoundsModel" ({ cls := "TransitRoundsModel", name := "leave", desc := "(III)I" } : Jvm.MethodName) ({ cls := "TransitRoundsModel", name := "leave", desc := "(III)I" } : Jvm.MethodName)) ∈ lw_all := lw_g (lw_at lw_m0 198 rfl) rfl
theorem q212 : (Jvm.Cond.code ({ cls := "TransitRoundsModel", name := "leave", desc := "(III)I" } : Jvm.MethodName) prog_3_method_16_code (5 : Nat) (Option.some Jvm.ClassFile.FieldType.int)) ∈ lw_all := lw_g (lw_at lw_m0 199 rfl) rfl
theorem q214 : (Jvm.Cond.instanceMethod ({ cls := "TransitRoundsModel", name := "within", desc := "(III)I" } : Jvm.MethodName)) ∈ lw_all := lw_g (lw_at lw_m0 201 rfl) rfl
theorem q215 : (Jvm.Cond.selects "TransitRoundsModel" ({ cls := "TransitRoundsModel", name := "within", desc := "(III)I" } : Jvm.MethodName) ({ cls := "TransitRoundsModel", name := "within", desc := "(III)I" } : Jvm.MethodName)) ∈ lw_all := lw_g (lw_at lw_m0 202 rfl) rfl
theorem q216 : (Jvm.Cond.code ({ cls := "TransitRoundsModel", name := "within", desc := "(III)I" } : Jvm.MethodName) prog_3_method_17_code (6 : Nat) (Option.some Jvm.ClassFile.FieldType.int)) ∈ lw_all := lw_g (lw_at lw_m0 203 rfl) rfl
theorem in_X1 : ∀ w ∈ wsX10, w ∈ lw_all := lw_in wsX10 [137, 139, 141, 143, 145, 147, 149] (by decide +kernel) (by decide +kernel)

/-! the law's own entry -/
abbrev cL_law : ByteArray := code

theorem q13 : (Jvm.Cond.initialized "TransitRoundsLaw") ∈ lw_all := lw_g (lw_at lw_m0 0 rfl) rfl
theorem q16 : (Jvm.Cond.classLink "TransitRoundsLaw" (7 : Nat) "TransitRounds") ∈ lw_all := lw_g (lw_at lw_m0 3 rfl) rfl
theorem q18 : (Jvm.Cond.methodLink "TransitRoundsLaw" (9 : Nat) ({ cls := "TransitRounds", name := "<init>", desc := "()V" } : Jvm.MethodName)) ∈ lw_all := lw_g (lw_at lw_m0 5 rfl) rfl
theorem q55 : (Jvm.Cond.methodLink "TransitRoundsLaw" (13 : Nat) ({ cls := "TransitRounds", name := "trip", desc := "(II)I" } : Jvm.MethodName)) ∈ lw_all := lw_g (lw_at lw_m0 42 rfl) rfl
theorem q67 : (Jvm.Cond.methodLink "TransitRoundsLaw" (18 : Nat) ({ cls := "TransitRounds", name := "call", desc := "(II)I" } : Jvm.MethodName)) ∈ lw_all := lw_g (lw_at lw_m0 54 rfl) rfl
theorem q71 : (Jvm.Cond.methodLink "TransitRoundsLaw" (22 : Nat) ({ cls := "TransitRounds", name := "cancel", desc := "(I)I" } : Jvm.MethodName)) ∈ lw_all := lw_g (lw_at lw_m0 58 rfl) rfl
theorem q75 : (Jvm.Cond.methodLink "TransitRoundsLaw" (27 : Nat) ({ cls := "TransitRounds", name := "delay", desc := "(III)Z" } : Jvm.MethodName)) ∈ lw_all := lw_g (lw_at lw_m0 62 rfl) rfl
theorem q79 : (Jvm.Cond.methodLink "TransitRoundsLaw" (32 : Nat) ({ cls := "TransitRounds", name := "walk", desc := "(III)Z" } : Jvm.MethodName)) ∈ lw_all := lw_g (lw_at lw_m0 66 rfl) rfl
theorem q83 : (Jvm.Cond.methodLink "TransitRoundsLaw" (36 : Nat) ({ cls := "TransitRounds", name := "arrival", desc := "(IIII)I" } : Jvm.MethodName)) ∈ lw_all := lw_g (lw_at lw_m0 70 rfl) rfl
theorem q108 : (Jvm.Cond.methodLink "TransitRoundsLaw" (41 : Nat) ({ cls := "TransitRounds", name := "fewest", desc := "(III)I" } : Jvm.MethodName)) ∈ lw_all := lw_g (lw_at lw_m0 95 rfl) rfl
theorem q112 : (Jvm.Cond.methodLink "TransitRoundsLaw" (46 : Nat) ({ cls := "TransitRounds", name := "choices", desc := "(III)I" } : Jvm.MethodName)) ∈ lw_all := lw_g (lw_at lw_m0 99 rfl) rfl
theorem q116 : (Jvm.Cond.methodLink "TransitRoundsLaw" (50 : Nat) ({ cls := "TransitRounds", name := "leave", desc := "(III)I" } : Jvm.MethodName)) ∈ lw_all := lw_g (lw_at lw_m0 103 rfl) rfl
theorem q120 : (Jvm.Cond.methodLink "TransitRoundsLaw" (54 : Nat) ({ cls := "TransitRounds", name := "within", desc := "(III)I" } : Jvm.MethodName)) ∈ lw_all := lw_g (lw_at lw_m0 107 rfl) rfl
theorem q124 : (Jvm.Cond.classLink "TransitRoundsLaw" (10 : Nat) "TransitRoundsModel") ∈ lw_all := lw_g (lw_at lw_m0 111 rfl) rfl
theorem q126 : (Jvm.Cond.methodLink "TransitRoundsLaw" (12 : Nat) ({ cls := "TransitRoundsModel", name := "<init>", desc := "()V" } : Jvm.MethodName)) ∈ lw_all := lw_g (lw_at lw_m0 113 rfl) rfl
theorem q152 : (Jvm.Cond.methodLink "TransitRoundsLaw" (17 : Nat) ({ cls := "TransitRoundsModel", name := "trip", desc := "(II)I" } : Jvm.MethodName)) ∈ lw_all := lw_g (lw_at lw_m0 139 rfl) rfl
theorem q164 : (Jvm.Cond.methodLink "TransitRoundsLaw" (21 : Nat) ({ cls := "TransitRoundsModel", name := "call", desc := "(II)I" } : Jvm.MethodName)) ∈ lw_all := lw_g (lw_at lw_m0 151 rfl) rfl
theorem q168 : (Jvm.Cond.methodLink "TransitRoundsLaw" (26 : Nat) ({ cls := "TransitRoundsModel", name := "cancel", desc := "(I)I" } : Jvm.MethodName)) ∈ lw_all := lw_g (lw_at lw_m0 155 rfl) rfl
theorem q172 : (Jvm.Cond.methodLink "TransitRoundsLaw" (31 : Nat) ({ cls := "TransitRoundsModel", name := "delay", desc := "(III)Z" } : Jvm.MethodName)) ∈ lw_all := lw_g (lw_at lw_m0 159 rfl) rfl
theorem q176 : (Jvm.Cond.methodLink "TransitRoundsLaw" (35 : Nat) ({ cls := "TransitRoundsModel", name := "walk", desc := "(III)Z" } : Jvm.MethodName)) ∈ lw_all := lw_g (lw_at lw_m0 163 rfl) rfl
theorem q180 : (Jvm.Cond.methodLink "TransitRoundsLaw" (40 : Nat) ({ cls := "TransitRoundsModel", name := "arrival", desc := "(IIII)I" } : Jvm.MethodName)) ∈ lw_all := lw_g (lw_at lw_m0 167 rfl) rfl
theorem q201 : (Jvm.Cond.methodLink "TransitRoundsLaw" (45 : Nat) ({ cls := "TransitRoundsModel", name := "fewest", desc := "(III)I" } : Jvm.MethodName)) ∈ lw_all := lw_g (lw_at lw_m0 188 rfl) rfl
theorem q205 : (Jvm.Cond.methodLink "TransitRoundsLaw" (49 : Nat) ({ cls := "TransitRoundsModel", name := "choices", desc := "(III)I" } : Jvm.MethodName)) ∈ lw_all := lw_g (lw_at lw_m0 192 rfl) rfl
theorem q209 : (Jvm.Cond.methodLink "TransitRoundsLaw" (53 : Nat) ({ cls := "TransitRoundsModel", name := "leave", desc := "(III)I" } : Jvm.MethodName)) ∈ lw_all := lw_g (lw_at lw_m0 196 rfl) rfl
theorem q213 : (Jvm.Cond.methodLink "TransitRoundsLaw" (57 : Nat) ({ cls := "TransitRoundsModel", name := "within", desc := "(III)I" } : Jvm.MethodName)) ∈ lw_all := lw_g (lw_at lw_m0 200 rfl) rfl

theorem q52 : (Jvm.Cond.arrayClass Jvm.ClassFile.FieldType.byte) ∈ lw_all := lw_g (lw_at lw_m0 39 rfl) rfl
theorem q53 : (Jvm.Cond.arrayClass Jvm.ClassFile.FieldType.short) ∈ lw_all := lw_g (lw_at lw_m0 40 rfl) rfl
theorem q54 : (Jvm.Cond.arrayClass Jvm.ClassFile.FieldType.int) ∈ lw_all := lw_g (lw_at lw_m0 41 rfl) rfl
end
section
set_option maxRecDepth 100000
theorem dX0_init_0 : decode cX0_init 0 = .ok (.aload_n 0, 1) := by decide +kernel
theorem dX0_init_1 : decode cX0_init 1 = .ok (.invokespecial 1, 3) := by decide +kernel
theorem dX0_init_4 : decode cX0_init 4 = .ok (.aload_n 0, 1) := by decide +kernel
theorem dX0_init_5 : decode cX0_init 5 = .ok (.bipush 10, 2) := by decide +kernel
theorem dX0_init_7 : decode cX0_init 7 = .ok (.newarray .byte, 2) := by decide +kernel
theorem dX0_init_9 : decode cX0_init 9 = .ok (.putfield 7, 3) := by decide +kernel
theorem dX0_init_12 : decode cX0_init 12 = .ok (.aload_n 0, 1) := by decide +kernel
theorem dX0_init_13 : decode cX0_init 13 = .ok (.bipush 50, 2) := by decide +kernel
theorem dX0_init_15 : decode cX0_init 15 = .ok (.newarray .byte, 2) := by decide +kernel
theorem dX0_init_17 : decode cX0_init 17 = .ok (.putfield 13, 3) := by decide +kernel
theorem dX0_init_20 : decode cX0_init 20 = .ok (.aload_n 0, 1) := by decide +kernel
theorem dX0_init_21 : decode cX0_init 21 = .ok (.bipush 50, 2) := by decide +kernel
theorem dX0_init_23 : decode cX0_init 23 = .ok (.newarray .short, 2) := by decide +kernel
theorem dX0_init_25 : decode cX0_init 25 = .ok (.putfield 16, 3) := by decide +kernel
theorem dX0_init_28 : decode cX0_init 28 = .ok (.aload_n 0, 1) := by decide +kernel
theorem dX0_init_29 : decode cX0_init 29 = .ok (.bipush 64, 2) := by decide +kernel
theorem dX0_init_31 : decode cX0_init 31 = .ok (.newarray .byte, 2) := by decide +kernel
theorem dX0_init_33 : decode cX0_init 33 = .ok (.putfield 20, 3) := by decide +kernel
theorem dX0_init_36 : decode cX0_init 36 = .ok (.aload_n 0, 1) := by decide +kernel
theorem dX0_init_37 : decode cX0_init 37 = .ok (.bipush 88, 2) := by decide +kernel
theorem dX0_init_39 : decode cX0_init 39 = .ok (.newarray .int, 2) := by decide +kernel
theorem dX0_init_41 : decode cX0_init 41 = .ok (.putfield 23, 3) := by decide +kernel
theorem dX0_init_44 : decode cX0_init 44 = .ok (.aload_n 0, 1) := by decide +kernel
theorem dX0_init_45 : decode cX0_init 45 = .ok (.bipush 8, 2) := by decide +kernel
theorem dX0_init_47 : decode cX0_init 47 = .ok (.newarray .int, 2) := by decide +kernel
theorem dX0_init_49 : decode cX0_init 49 = .ok (.putfield 27, 3) := by decide +kernel
theorem dX0_init_52 : decode cX0_init 52 = .ok (.return_, 1) := by decide +kernel
theorem dX0_trip_0 : decode cX0_trip 0 = .ok (.aload_n 0, 1) := by decide +kernel
theorem dX0_trip_1 : decode cX0_trip 1 = .ok (.getfield 30, 3) := by decide +kernel
theorem dX0_trip_4 : decode cX0_trip 4 = .ok (.bipush 10, 2) := by decide +kernel
theorem dX0_trip_6 : decode cX0_trip 6 = .ok (.if_icmp .lt 6, 3) := by decide +kernel
theorem dX0_trip_9 : decode cX0_trip 9 = .ok (.bipush (-2), 2) := by decide +kernel
theorem dX0_trip_11 : decode cX0_trip 11 = .ok (.ireturn, 1) := by decide +kernel
theorem dX0_trip_12 : decode cX0_trip 12 = .ok (.aload_n 0, 1) := by decide +kernel
theorem dX0_trip_13 : decode cX0_trip 13 = .ok (.iload_n 1, 1) := by decide +kernel
theorem dX0_trip_14 : decode cX0_trip 14 = .ok (.invokevirtual 34, 3) := by decide +kernel
theorem dX0_trip_17 : decode cX0_trip 17 = .ok (.ifCond .eq 11, 3) := by decide +kernel
theorem dX0_trip_20 : decode cX0_trip 20 = .ok (.aload_n 0, 1) := by decide +kernel
theorem dX0_trip_21 : decode cX0_trip 21 = .ok (.iload_n 2, 1) := by decide +kernel
theorem dX0_trip_22 : decode cX0_trip 22 = .ok (.invokevirtual 38, 3) := by decide +kernel
theorem dX0_trip_25 : decode cX0_trip 25 = .ok (.ifCond .ne 5, 3) := by decide +kernel
theorem dX0_trip_28 : decode cX0_trip 28 = .ok (.iconst (-1), 1) := by decide +kernel
theorem dX0_trip_29 : decode cX0_trip 29 = .ok (.ireturn, 1) := by decide +kernel
theorem dX0_trip_30 : decode cX0_trip 30 = .ok (.aload_n 0, 1) := by decide +kernel
theorem dX0_trip_31 : decode cX0_trip 31 = .ok (.getfield 13, 3) := by decide +kernel
theorem dX0_trip_34 : decode cX0_trip 34 = .ok (.iconst 5, 1) := by decide +kernel
theorem dX0_trip_35 : decode cX0_trip 35 = .ok (.aload_n 0, 1) := by decide +kernel
theorem dX0_trip_36 : decode cX0_trip 36 = .ok (.getfield 30, 3) := by decide +kernel
theorem dX0_trip_39 : decode cX0_trip 39 = .ok (.imul, 1) := by decide +kernel
theorem dX0_trip_40 : decode cX0_trip 40 = .ok (.iload_n 1, 1) := by decide +kernel
theorem dX0_trip_41 : decode cX0_trip 41 = .ok (.i2b, 1) := by decide +kernel
theorem dX0_trip_42 : decode cX0_trip 42 = .ok (.bastore, 1) := by decide +kernel
theorem dX0_trip_43 : decode cX0_trip 43 = .ok (.aload_n 0, 1) := by decide +kernel
theorem dX0_trip_44 : decode cX0_trip 44 = .ok (.getfield 16, 3) := by decide +kernel
theorem dX0_trip_47 : decode cX0_trip 47 = .ok (.iconst 5, 1) := by decide +kernel
theorem dX0_trip_48 : decode cX0_trip 48 = .ok (.aload_n 0, 1) := by decide +kernel
theorem dX0_trip_49 : decode cX0_trip 49 = .ok (.getfield 30, 3) := by decide +kernel
theorem dX0_trip_52 : decode cX0_trip 52 = .ok (.imul, 1) := by decide +kernel
theorem dX0_trip_53 : decode cX0_trip 53 = .ok (.iload_n 2, 1) := by decide +kernel
theorem dX0_trip_54 : decode cX0_trip 54 = .ok (.i2s, 1) := by decide +kernel
theorem dX0_trip_55 : decode cX0_trip 55 = .ok (.sastore, 1) := by decide +kernel
theorem dX0_trip_56 : decode cX0_trip 56 = .ok (.aload_n 0, 1) := by decide +kernel
theorem dX0_trip_57 : decode cX0_trip 57 = .ok (.getfield 7, 3) := by decide +kernel
theorem dX0_trip_60 : decode cX0_trip 60 = .ok (.aload_n 0, 1) := by decide +kernel
theorem dX0_trip_61 : decode cX0_trip 61 = .ok (.getfield 30, 3) := by decide +kernel
theorem dX0_trip_64 : decode cX0_trip 64 = .ok (.iconst 1, 1) := by decide +kernel
theorem dX0_trip_65 : decode cX0_trip 65 = .ok (.bastore, 1) := by decide +kernel
theorem dX0_trip_66 : decode cX0_trip 66 = .ok (.aload_n 0, 1) := by decide +kernel
theorem dX0_trip_67 : decode cX0_trip 67 = .ok (.dup, 1) := by decide +kernel
theorem dX0_trip_68 : decode cX0_trip 68 = .ok (.getfield 30, 3) := by decide +kernel
theorem dX0_trip_71 : decode cX0_trip 71 = .ok (.iconst 1, 1) := by decide +kernel
theorem dX0_trip_72 : decode cX0_trip 72 = .ok (.iadd, 1) := by decide +kernel
theorem dX0_trip_73 : decode cX0_trip 73 = .ok (.putfield 30, 3) := by decide +kernel
theorem dX0_trip_76 : decode cX0_trip 76 = .ok (.aload_n 0, 1) := by decide +kernel
theorem dX0_trip_77 : decode cX0_trip 77 = .ok (.getfield 30, 3) := by decide +kernel
theorem dX0_trip_80 : decode cX0_trip 80 = .ok (.iconst 1, 1) := by decide +kernel
theorem dX0_trip_81 : decode cX0_trip 81 = .ok (.isub, 1) := by decide +kernel
theorem dX0_trip_82 : decode cX0_trip 82 = .ok (.ireturn, 1) := by decide +kernel
theorem dX0_isStop_0 : decode cX0_isStop 0 = .ok (.iload_n 1, 1) := by decide +kernel
theorem dX0_isStop_1 : decode cX0_isStop 1 = .ok (.ifCond .lt 13, 3) := by decide +kernel
theorem dX0_isStop_4 : decode cX0_isStop 4 = .ok (.iload_n 1, 1) := by decide +kernel
theorem dX0_isStop_5 : decode cX0_isStop 5 = .ok (.bipush 8, 2) := by decide +kernel
theorem dX0_isStop_7 : decode cX0_isStop 7 = .ok (.if_icmp .ge 7, 3) := by decide +kernel
theorem dX0_isStop_10 : decode cX0_isStop 10 = .ok (.iconst 1, 1) := by decide +kernel
theorem dX0_isStop_11 : decode cX0_isStop 11 = .ok (.goto 4, 3) := by decide +kernel
theorem dX0_isStop_14 : decode cX0_isStop 14 = .ok (.iconst 0, 1) := by decide +kernel
theorem dX0_isStop_15 : decode cX0_isStop 15 = .ok (.ireturn, 1) := by decide +kernel
theorem dX0_isTime_0 : decode cX0_isTime 0 = .ok (.iload_n 1, 1) := by decide +kernel
theorem dX0_isTime_1 : decode cX0_isTime 1 = .ok (.ifCond .lt 14, 3) := by decide +kernel
theorem dX0_isTime_4 : decode cX0_isTime 4 = .ok (.iload_n 1, 1) := by decide +kernel
theorem dX0_isTime_5 : decode cX0_isTime 5 = .ok (.sipush 999, 3) := by decide +kernel
theorem dX0_isTime_8 : decode cX0_isTime 8 = .ok (.if_icmp .gt 7, 3) := by decide +kernel
theorem dX0_isTime_11 : decode cX0_isTime 11 = .ok (.iconst 1, 1) := by decide +kernel
theorem dX0_isTime_12 : decode cX0_isTime 12 = .ok (.goto 4, 3) := by decide +kernel
theorem dX0_isTime_15 : decode cX0_isTime 15 = .ok (.iconst 0, 1) := by decide +kernel
theorem dX0_isTime_16 : decode cX0_isTime 16 = .ok (.ireturn, 1) := by decide +kernel
theorem dX0_call_0 : decode cX0_call 0 = .ok (.aload_n 0, 1) := by decide +kernel
theorem dX0_call_1 : decode cX0_call 1 = .ok (.getfield 30, 3) := by decide +kernel
theorem dX0_call_4 : decode cX0_call 4 = .ok (.ifCond .eq 19, 3) := by decide +kernel
theorem dX0_call_7 : decode cX0_call 7 = .ok (.aload_n 0, 1) := by decide +kernel
theorem dX0_call_8 : decode cX0_call 8 = .ok (.iload_n 1, 1) := by decide +kernel
theorem dX0_call_9 : decode cX0_call 9 = .ok (.invokevirtual 34, 3) := by decide +kernel
theorem dX0_call_12 : decode cX0_call 12 = .ok (.ifCond .eq 11, 3) := by decide +kernel
theorem dX0_call_15 : decode cX0_call 15 = .ok (.aload_n 0, 1) := by decide +kernel
theorem dX0_call_16 : decode cX0_call 16 = .ok (.iload_n 2, 1) := by decide +kernel
theorem dX0_call_17 : decode cX0_call 17 = .ok (.invokevirtual 38, 3) := by decide +kernel
theorem dX0_call_20 : decode cX0_call 20 = .ok (.ifCond .ne 5, 3) := by decide +kernel
theorem dX0_call_23 : decode cX0_call 23 = .ok (.iconst (-1), 1) := by decide +kernel
theorem dX0_call_24 : decode cX0_call 24 = .ok (.ireturn, 1) := by decide +kernel
theorem dX0_call_25 : decode cX0_call 25 = .ok (.aload_n 0, 1) := by decide +kernel
theorem dX0_call_26 : decode cX0_call 26 = .ok (.getfield 30, 3) := by decide +kernel
theorem dX0_call_29 : decode cX0_call 29 = .ok (.iconst 1, 1) := by decide +kernel
theorem dX0_call_30 : decode cX0_call 30 = .ok (.isub, 1) := by decide +kernel
theorem dX0_call_31 : decode cX0_call 31 = .ok (.istore_n 3, 1) := by decide +kernel
theorem dX0_call_32 : decode cX0_call 32 = .ok (.aload_n 0, 1) := by decide +kernel
theorem dX0_call_33 : decode cX0_call 33 = .ok (.getfield 7, 3) := by decide +kernel
theorem dX0_call_36 : decode cX0_call 36 = .ok (.iload_n 3, 1) := by decide +kernel
theorem dX0_call_37 : decode cX0_call 37 = .ok (.baload, 1) := by decide +kernel
theorem dX0_call_38 : decode cX0_call 38 = .ok (.istore 4, 2) := by decide +kernel
theorem dX0_call_40 : decode cX0_call 40 = .ok (.iload 4, 2) := by decide +kernel
theorem dX0_call_42 : decode cX0_call 42 = .ok (.iconst 5, 1) := by decide +kernel
theorem dX0_call_43 : decode cX0_call 43 = .ok (.if_icmp .lt 6, 3) := by decide +kernel
theorem dX0_call_46 : decode cX0_call 46 = .ok (.bipush (-2), 2) := by decide +kernel
theorem dX0_call_48 : decode cX0_call 48 = .ok (.ireturn, 1) := by decide +kernel
theorem dX0_call_49 : decode cX0_call 49 = .ok (.iconst 0, 1) := by decide +kernel
theorem dX0_call_50 : decode cX0_call 50 = .ok (.istore 5, 2) := by decide +kernel
theorem dX0_call_52 : decode cX0_call 52 = .ok (.iload 5, 2) := by decide +kernel
theorem dX0_call_54 : decode cX0_call 54 = .ok (.iload 4, 2) := by decide +kernel
theorem dX0_call_56 : decode cX0_call 56 = .ok (.if_icmp .ge 26, 3) := by decide +kernel
theorem dX0_call_59 : decode cX0_call 59 = .ok (.aload_n 0, 1) := by decide +kernel
theorem dX0_call_60 : decode cX0_call 60 = .ok (.getfield 13, 3) := by decide +kernel
theorem dX0_call_63 : decode cX0_call 63 = .ok (.iconst 5, 1) := by decide +kernel
theorem dX0_call_64 : decode cX0_call 64 = .ok (.iload_n 3, 1) := by decide +kernel
theorem dX0_call_65 : decode cX0_call 65 = .ok (.imul, 1) := by decide +kernel
theorem dX0_call_66 : decode cX0_call 66 = .ok (.iload 5, 2) := by decide +kernel
theorem dX0_call_68 : decode cX0_call 68 = .ok (.iadd, 1) := by decide +kernel
theorem dX0_call_69 : decode cX0_call 69 = .ok (.baload, 1) := by decide +kernel
theorem dX0_call_70 : decode cX0_call 70 = .ok (.iload_n 1, 1) := by decide +kernel
theorem dX0_call_71 : decode cX0_call 71 = .ok (.if_icmp .ne 5, 3) := by decide +kernel
theorem dX0_call_74 : decode cX0_call 74 = .ok (.iconst (-1), 1) := by decide +kernel
theorem dX0_call_75 : decode cX0_call 75 = .ok (.ireturn, 1) := by decide +kernel
theorem dX0_call_76 : decode cX0_call 76 = .ok (.iinc 5 1, 3) := by decide +kernel
theorem dX0_call_79 : decode cX0_call 79 = .ok (.goto (-27), 3) := by decide +kernel
theorem dX0_call_82 : decode cX0_call 82 = .ok (.iload_n 2, 1) := by decide +kernel
theorem dX0_call_83 : decode cX0_call 83 = .ok (.aload_n 0, 1) := by decide +kernel
theorem dX0_call_84 : decode cX0_call 84 = .ok (.getfield 16, 3) := by decide +kernel
theorem dX0_call_87 : decode cX0_call 87 = .ok (.iconst 5, 1) := by decide +kernel
theorem dX0_call_88 : decode cX0_call 88 = .ok (.iload_n 3, 1) := by decide +kernel
theorem dX0_call_89 : decode cX0_call 89 = .ok (.imul, 1) := by decide +kernel
theorem dX0_call_90 : decode cX0_call 90 = .ok (.iload 4, 2) := by decide +kernel
theorem dX0_call_92 : decode cX0_call 92 = .ok (.iadd, 1) := by decide +kernel
theorem dX0_call_93 : decode cX0_call 93 = .ok (.iconst 1, 1) := by decide +kernel
theorem dX0_call_94 : decode cX0_call 94 = .ok (.isub, 1) := by decide +kernel
theorem dX0_call_95 : decode cX0_call 95 = .ok (.saload, 1) := by decide +kernel
theorem dX0_call_96 : decode cX0_call 96 = .ok (.if_icmp .ge 5, 3) := by decide +kernel
theorem dX0_call_99 : decode cX0_call 99 = .ok (.iconst (-1), 1) := by decide +kernel
theorem dX0_call_100 : decode cX0_call 100 = .ok (.ireturn, 1) := by decide +kernel
theorem dX0_call_101 : decode cX0_call 101 = .ok (.aload_n 0, 1) := by decide +kernel
theorem dX0_call_102 : decode cX0_call 102 = .ok (.getfield 13, 3) := by decide +kernel
theorem dX0_call_105 : decode cX0_call 105 = .ok (.iconst 5, 1) := by decide +kernel
theorem dX0_call_106 : decode cX0_call 106 = .ok (.iload_n 3, 1) := by decide +kernel
theorem dX0_call_107 : decode cX0_call 107 = .ok (.imul, 1) := by decide +kernel
theorem dX0_call_108 : decode cX0_call 108 = .ok (.iload 4, 2) := by decide +kernel
theorem dX0_call_110 : decode cX0_call 110 = .ok (.iadd, 1) := by decide +kernel
theorem dX0_call_111 : decode cX0_call 111 = .ok (.iload_n 1, 1) := by decide +kernel
theorem dX0_call_112 : decode cX0_call 112 = .ok (.i2b, 1) := by decide +kernel
theorem dX0_call_113 : decode cX0_call 113 = .ok (.bastore, 1) := by decide +kernel
theorem dX0_call_114 : decode cX0_call 114 = .ok (.aload_n 0, 1) := by decide +kernel
theorem dX0_call_115 : decode cX0_call 115 = .ok (.getfield 16, 3) := by decide +kernel
theorem dX0_call_118 : decode cX0_call 118 = .ok (.iconst 5, 1) := by decide +kernel
theorem dX0_call_119 : decode cX0_call 119 = .ok (.iload_n 3, 1) := by decide +kernel
theorem dX0_call_120 : decode cX0_call 120 = .ok (.imul, 1) := by decide +kernel
theorem dX0_call_121 : decode cX0_call 121 = .ok (.iload 4, 2) := by decide +kernel
theorem dX0_call_123 : decode cX0_call 123 = .ok (.iadd, 1) := by decide +kernel
theorem dX0_call_124 : decode cX0_call 124 = .ok (.iload_n 2, 1) := by decide +kernel
theorem dX0_call_125 : decode cX0_call 125 = .ok (.i2s, 1) := by decide +kernel
theorem dX0_call_126 : decode cX0_call 126 = .ok (.sastore, 1) := by decide +kernel
theorem dX0_call_127 : decode cX0_call 127 = .ok (.aload_n 0, 1) := by decide +kernel
theorem dX0_call_128 : decode cX0_call 128 = .ok (.getfield 7, 3) := by decide +kernel
theorem dX0_call_131 : decode cX0_call 131 = .ok (.iload_n 3, 1) := by decide +kernel
theorem dX0_call_132 : decode cX0_call 132 = .ok (.dup2, 1) := by decide +kernel
theorem dX0_call_133 : decode cX0_call 133 = .ok (.baload, 1) := by decide +kernel
theorem dX0_call_134 : decode cX0_call 134 = .ok (.iconst 1, 1) := by decide +kernel
theorem dX0_call_135 : decode cX0_call 135 = .ok (.iadd, 1) := by decide +kernel
theorem dX0_call_136 : decode cX0_call 136 = .ok (.i2b, 1) := by decide +kernel
theorem dX0_call_137 : decode cX0_call 137 = .ok (.bastore, 1) := by decide +kernel
theorem dX0_call_138 : decode cX0_call 138 = .ok (.iload 4, 2) := by decide +kernel
theorem dX0_call_140 : decode cX0_call 140 = .ok (.iconst 1, 1) := by decide +kernel
theorem dX0_call_141 : decode cX0_call 141 = .ok (.iadd, 1) := by decide +kernel
theorem dX0_call_142 : decode cX0_call 142 = .ok (.ireturn, 1) := by decide +kernel
theorem dX0_cancel_0 : decode cX0_cancel 0 = .ok (.iload_n 1, 1) := by decide +kernel
theorem dX0_cancel_1 : decode cX0_cancel 1 = .ok (.ifCond .lt 11, 3) := by decide +kernel
theorem dX0_cancel_4 : decode cX0_cancel 4 = .ok (.iload_n 1, 1) := by decide +kernel
theorem dX0_cancel_5 : decode cX0_cancel 5 = .ok (.aload_n 0, 1) := by decide +kernel
theorem dX0_cancel_6 : decode cX0_cancel 6 = .ok (.getfield 30, 3) := by decide +kernel
theorem dX0_cancel_9 : decode cX0_cancel 9 = .ok (.if_icmp .lt 5, 3) := by decide +kernel
theorem dX0_cancel_12 : decode cX0_cancel 12 = .ok (.iconst (-1), 1) := by decide +kernel
theorem dX0_cancel_13 : decode cX0_cancel 13 = .ok (.ireturn, 1) := by decide +kernel
theorem dX0_cancel_14 : decode cX0_cancel 14 = .ok (.aload_n 0, 1) := by decide +kernel
theorem dX0_cancel_15 : decode cX0_cancel 15 = .ok (.dup, 1) := by decide +kernel
theorem dX0_cancel_16 : decode cX0_cancel 16 = .ok (.getfield 30, 3) := by decide +kernel
theorem dX0_cancel_19 : decode cX0_cancel 19 = .ok (.iconst 1, 1) := by decide +kernel
theorem dX0_cancel_20 : decode cX0_cancel 20 = .ok (.isub, 1) := by decide +kernel
theorem dX0_cancel_21 : decode cX0_cancel 21 = .ok (.putfield 30, 3) := by decide +kernel
theorem dX0_cancel_24 : decode cX0_cancel 24 = .ok (.iconst 5, 1) := by decide +kernel
theorem dX0_cancel_25 : decode cX0_cancel 25 = .ok (.iload_n 1, 1) := by decide +kernel
theorem dX0_cancel_26 : decode cX0_cancel 26 = .ok (.imul, 1) := by decide +kernel
theorem dX0_cancel_27 : decode cX0_cancel 27 = .ok (.istore_n 2, 1) := by decide +kernel
theorem dX0_cancel_28 : decode cX0_cancel 28 = .ok (.iload_n 2, 1) := by decide +kernel
theorem dX0_cancel_29 : decode cX0_cancel 29 = .ok (.iconst 5, 1) := by decide +kernel
theorem dX0_cancel_30 : decode cX0_cancel 30 = .ok (.aload_n 0, 1) := by decide +kernel
theorem dX0_cancel_31 : decode cX0_cancel 31 = .ok (.getfield 30, 3) := by decide +kernel
theorem dX0_cancel_34 : decode cX0_cancel 34 = .ok (.imul, 1) := by decide +kernel
theorem dX0_cancel_35 : decode cX0_cancel 35 = .ok (.if_icmp .ge 37, 3) := by decide +kernel
theorem dX0_cancel_38 : decode cX0_cancel 38 = .ok (.aload_n 0, 1) := by decide +kernel
theorem dX0_cancel_39 : decode cX0_cancel 39 = .ok (.getfield 13, 3) := by decide +kernel
theorem dX0_cancel_42 : decode cX0_cancel 42 = .ok (.iload_n 2, 1) := by decide +kernel
theorem dX0_cancel_43 : decode cX0_cancel 43 = .ok (.aload_n 0, 1) := by decide +kernel
theorem dX0_cancel_44 : decode cX0_cancel 44 = .ok (.getfield 13, 3) := by decide +kernel
theorem dX0_cancel_47 : decode cX0_cancel 47 = .ok (.iload_n 2, 1) := by decide +kernel
theorem dX0_cancel_48 : decode cX0_cancel 48 = .ok (.iconst 5, 1) := by decide +kernel
theorem dX0_cancel_49 : decode cX0_cancel 49 = .ok (.iadd, 1) := by decide +kernel
theorem dX0_cancel_50 : decode cX0_cancel 50 = .ok (.baload, 1) := by decide +kernel
theorem dX0_cancel_51 : decode cX0_cancel 51 = .ok (.bastore, 1) := by decide +kernel
theorem dX0_cancel_52 : decode cX0_cancel 52 = .ok (.aload_n 0, 1) := by decide +kernel
theorem dX0_cancel_53 : decode cX0_cancel 53 = .ok (.getfield 16, 3) := by decide +kernel
theorem dX0_cancel_56 : decode cX0_cancel 56 = .ok (.iload_n 2, 1) := by decide +kernel
theorem dX0_cancel_57 : decode cX0_cancel 57 = .ok (.aload_n 0, 1) := by decide +kernel
theorem dX0_cancel_58 : decode cX0_cancel 58 = .ok (.getfield 16, 3) := by decide +kernel
theorem dX0_cancel_61 : decode cX0_cancel 61 = .ok (.iload_n 2, 1) := by decide +kernel
theorem dX0_cancel_62 : decode cX0_cancel 62 = .ok (.iconst 5, 1) := by decide +kernel
theorem dX0_cancel_63 : decode cX0_cancel 63 = .ok (.iadd, 1) := by decide +kernel
theorem dX0_cancel_64 : decode cX0_cancel 64 = .ok (.saload, 1) := by decide +kernel
theorem dX0_cancel_65 : decode cX0_cancel 65 = .ok (.sastore, 1) := by decide +kernel
theorem dX0_cancel_66 : decode cX0_cancel 66 = .ok (.iinc 2 1, 3) := by decide +kernel
theorem dX0_cancel_69 : decode cX0_cancel 69 = .ok (.goto (-41), 3) := by decide +kernel
theorem dX0_cancel_72 : decode cX0_cancel 72 = .ok (.iload_n 1, 1) := by decide +kernel
theorem dX0_cancel_73 : decode cX0_cancel 73 = .ok (.istore_n 2, 1) := by decide +kernel
theorem dX0_cancel_74 : decode cX0_cancel 74 = .ok (.iload_n 2, 1) := by decide +kernel
theorem dX0_cancel_75 : decode cX0_cancel 75 = .ok (.aload_n 0, 1) := by decide +kernel
theorem dX0_cancel_76 : decode cX0_cancel 76 = .ok (.getfield 30, 3) := by decide +kernel
theorem dX0_cancel_79 : decode cX0_cancel 79 = .ok (.if_icmp .ge 23, 3) := by decide +kernel
theorem dX0_cancel_82 : decode cX0_cancel 82 = .ok (.aload_n 0, 1) := by decide +kernel
theorem dX0_cancel_83 : decode cX0_cancel 83 = .ok (.getfield 7, 3) := by decide +kernel
theorem dX0_cancel_86 : decode cX0_cancel 86 = .ok (.iload_n 2, 1) := by decide +kernel
theorem dX0_cancel_87 : decode cX0_cancel 87 = .ok (.aload_n 0, 1) := by decide +kernel
theorem dX0_cancel_88 : decode cX0_cancel 88 = .ok (.getfield 7, 3) := by decide +kernel
theorem dX0_cancel_91 : decode cX0_cancel 91 = .ok (.iload_n 2, 1) := by decide +kernel
theorem dX0_cancel_92 : decode cX0_cancel 92 = .ok (.iconst 1, 1) := by decide +kernel
theorem dX0_cancel_93 : decode cX0_cancel 93 = .ok (.iadd, 1) := by decide +kernel
theorem dX0_cancel_94 : decode cX0_cancel 94 = .ok (.baload, 1) := by decide +kernel
theorem dX0_cancel_95 : decode cX0_cancel 95 = .ok (.bastore, 1) := by decide +kernel
theorem dX0_cancel_96 : decode cX0_cancel 96 = .ok (.iinc 2 1, 3) := by decide +kernel
theorem dX0_cancel_99 : decode cX0_cancel 99 = .ok (.goto (-25), 3) := by decide +kernel
theorem dX0_cancel_102 : decode cX0_cancel 102 = .ok (.aload_n 0, 1) := by decide +kernel
theorem dX0_cancel_103 : decode cX0_cancel 103 = .ok (.getfield 30, 3) := by decide +kernel
theorem dX0_cancel_106 : decode cX0_cancel 106 = .ok (.ireturn, 1) := by decide +kernel
theorem dX0_delay_0 : decode cX0_delay 0 = .ok (.iload_n 1, 1) := by decide +kernel
theorem dX0_delay_1 : decode cX0_delay 1 = .ok (.ifCond .lt 35, 3) := by decide +kernel
theorem dX0_delay_4 : decode cX0_delay 4 = .ok (.iload_n 1, 1) := by decide +kernel
theorem dX0_delay_5 : decode cX0_delay 5 = .ok (.aload_n 0, 1) := by decide +kernel
theorem dX0_delay_6 : decode cX0_delay 6 = .ok (.getfield 30, 3) := by decide +kernel
theorem dX0_delay_9 : decode cX0_delay 9 = .ok (.if_icmp .ge 27, 3) := by decide +kernel
theorem dX0_delay_12 : decode cX0_delay 12 = .ok (.iload_n 2, 1) := by decide +kernel
theorem dX0_delay_13 : decode cX0_delay 13 = .ok (.ifCond .lt 23, 3) := by decide +kernel
theorem dX0_delay_16 : decode cX0_delay 16 = .ok (.iload_n 2, 1) := by decide +kernel
theorem dX0_delay_17 : decode cX0_delay 17 = .ok (.aload_n 0, 1) := by decide +kernel
theorem dX0_delay_18 : decode cX0_delay 18 = .ok (.getfield 7, 3) := by decide +kernel
theorem dX0_delay_21 : decode cX0_delay 21 = .ok (.iload_n 1, 1) := by decide +kernel
theorem dX0_delay_22 : decode cX0_delay 22 = .ok (.baload, 1) := by decide +kernel
theorem dX0_delay_23 : decode cX0_delay 23 = .ok (.if_icmp .ge 13, 3) := by decide +kernel
theorem dX0_delay_26 : decode cX0_delay 26 = .ok (.iload_n 3, 1) := by decide +kernel
theorem dX0_delay_27 : decode cX0_delay 27 = .ok (.ifCond .lt 9, 3) := by decide +kernel
theorem dX0_delay_30 : decode cX0_delay 30 = .ok (.iload_n 3, 1) := by decide +kernel
theorem dX0_delay_31 : decode cX0_delay 31 = .ok (.bipush 99, 2) := by decide +kernel
theorem dX0_delay_33 : decode cX0_delay 33 = .ok (.if_icmp .le 5, 3) := by decide +kernel
theorem dX0_delay_36 : decode cX0_delay 36 = .ok (.iconst 0, 1) := by decide +kernel
theorem dX0_delay_37 : decode cX0_delay 37 = .ok (.ireturn, 1) := by decide +kernel
theorem dX0_delay_38 : decode cX0_delay 38 = .ok (.aload_n 0, 1) := by decide +kernel
theorem dX0_delay_39 : decode cX0_delay 39 = .ok (.getfield 16, 3) := by decide +kernel
theorem dX0_delay_42 : decode cX0_delay 42 = .ok (.iconst 5, 1) := by decide +kernel
theorem dX0_delay_43 : decode cX0_delay 43 = .ok (.iload_n 1, 1) := by decide +kernel
theorem dX0_delay_44 : decode cX0_delay 44 = .ok (.imul, 1) := by decide +kernel
theorem dX0_delay_45 : decode cX0_delay 45 = .ok (.aload_n 0, 1) := by decide +kernel
theorem dX0_delay_46 : decode cX0_delay 46 = .ok (.getfield 7, 3) := by decide +kernel
theorem dX0_delay_49 : decode cX0_delay 49 = .ok (.iload_n 1, 1) := by decide +kernel
theorem dX0_delay_50 : decode cX0_delay 50 = .ok (.baload, 1) := by decide +kernel
theorem dX0_delay_51 : decode cX0_delay 51 = .ok (.iadd, 1) := by decide +kernel
theorem dX0_delay_52 : decode cX0_delay 52 = .ok (.iconst 1, 1) := by decide +kernel
theorem dX0_delay_53 : decode cX0_delay 53 = .ok (.isub, 1) := by decide +kernel
theorem dX0_delay_54 : decode cX0_delay 54 = .ok (.saload, 1) := by decide +kernel
theorem dX0_delay_55 : decode cX0_delay 55 = .ok (.iload_n 3, 1) := by decide +kernel
theorem dX0_delay_56 : decode cX0_delay 56 = .ok (.iadd, 1) := by decide +kernel
theorem dX0_delay_57 : decode cX0_delay 57 = .ok (.sipush 999, 3) := by decide +kernel
theorem dX0_delay_60 : decode cX0_delay 60 = .ok (.if_icmp .le 5, 3) := by decide +kernel
theorem dX0_delay_63 : decode cX0_delay 63 = .ok (.iconst 0, 1) := by decide +kernel
theorem dX0_delay_64 : decode cX0_delay 64 = .ok (.ireturn, 1) := by decide +kernel
theorem dX0_delay_65 : decode cX0_delay 65 = .ok (.iconst 5, 1) := by decide +kernel
theorem dX0_delay_66 : decode cX0_delay 66 = .ok (.iload_n 1, 1) := by decide +kernel
theorem dX0_delay_67 : decode cX0_delay 67 = .ok (.imul, 1) := by decide +kernel
theorem dX0_delay_68 : decode cX0_delay 68 = .ok (.iload_n 2, 1) := by decide +kernel
theorem dX0_delay_69 : decode cX0_delay 69 = .ok (.iadd, 1) := by decide +kernel
theorem dX0_delay_70 : decode cX0_delay 70 = .ok (.istore 4, 2) := by decide +kernel
theorem dX0_delay_72 : decode cX0_delay 72 = .ok (.iload 4, 2) := by decide +kernel
theorem dX0_delay_74 : decode cX0_delay 74 = .ok (.iconst 5, 1) := by decide +kernel
theorem dX0_delay_75 : decode cX0_delay 75 = .ok (.iload_n 1, 1) := by decide +kernel
theorem dX0_delay_76 : decode cX0_delay 76 = .ok (.imul, 1) := by decide +kernel
theorem dX0_delay_77 : decode cX0_delay 77 = .ok (.aload_n 0, 1) := by decide +kernel
theorem dX0_delay_78 : decode cX0_delay 78 = .ok (.getfield 7, 3) := by decide +kernel
theorem dX0_delay_81 : decode cX0_delay 81 = .ok (.iload_n 1, 1) := by decide +kernel
theorem dX0_delay_82 : decode cX0_delay 82 = .ok (.baload, 1) := by decide +kernel
theorem dX0_delay_83 : decode cX0_delay 83 = .ok (.iadd, 1) := by decide +kernel
theorem dX0_delay_84 : decode cX0_delay 84 = .ok (.if_icmp .ge 21, 3) := by decide +kernel
theorem dX0_delay_87 : decode cX0_delay 87 = .ok (.aload_n 0, 1) := by decide +kernel
theorem dX0_delay_88 : decode cX0_delay 88 = .ok (.getfield 16, 3) := by decide +kernel
theorem dX0_delay_91 : decode cX0_delay 91 = .ok (.iload 4, 2) := by decide +kernel
theorem dX0_delay_93 : decode cX0_delay 93 = .ok (.dup2, 1) := by decide +kernel
theorem dX0_delay_94 : decode cX0_delay 94 = .ok (.saload, 1) := by decide +kernel
theorem dX0_delay_95 : decode cX0_delay 95 = .ok (.iload_n 3, 1) := by decide +kernel
theorem dX0_delay_96 : decode cX0_delay 96 = .ok (.iadd, 1) := by decide +kernel
theorem dX0_delay_97 : decode cX0_delay 97 = .ok (.i2s, 1) := by decide +kernel
theorem dX0_delay_98 : decode cX0_delay 98 = .ok (.sastore, 1) := by decide +kernel
theorem dX0_delay_99 : decode cX0_delay 99 = .ok (.iinc 4 1, 3) := by decide +kernel
theorem dX0_delay_102 : decode cX0_delay 102 = .ok (.goto (-30), 3) := by decide +kernel
theorem dX0_delay_105 : decode cX0_delay 105 = .ok (.iconst 1, 1) := by decide +kernel
theorem dX0_delay_106 : decode cX0_delay 106 = .ok (.ireturn, 1) := by decide +kernel
theorem dX0_walk_0 : decode cX0_walk 0 = .ok (.aload_n 0, 1) := by decide +kernel
theorem dX0_walk_1 : decode cX0_walk 1 = .ok (.iload_n 1, 1) := by decide +kernel
theorem dX0_walk_2 : decode cX0_walk 2 = .ok (.invokevirtual 34, 3) := by decide +kernel
theorem dX0_walk_5 : decode cX0_walk 5 = .ok (.ifCond .eq 26, 3) := by decide +kernel
theorem dX0_walk_8 : decode cX0_walk 8 = .ok (.aload_n 0, 1) := by decide +kernel
theorem dX0_walk_9 : decode cX0_walk 9 = .ok (.iload_n 2, 1) := by decide +kernel
theorem dX0_walk_10 : decode cX0_walk 10 = .ok (.invokevirtual 34, 3) := by decide +kernel
theorem dX0_walk_13 : decode cX0_walk 13 = .ok (.ifCond .eq 18, 3) := by decide +kernel
theorem dX0_walk_16 : decode cX0_walk 16 = .ok (.iload_n 1, 1) := by decide +kernel
theorem dX0_walk_17 : decode cX0_walk 17 = .ok (.iload_n 2, 1) := by decide +kernel
theorem dX0_walk_18 : decode cX0_walk 18 = .ok (.if_icmp .eq 13, 3) := by decide +kernel
theorem dX0_walk_21 : decode cX0_walk 21 = .ok (.iload_n 3, 1) := by decide +kernel
theorem dX0_walk_22 : decode cX0_walk 22 = .ok (.ifCond .lt 9, 3) := by decide +kernel
theorem dX0_walk_25 : decode cX0_walk 25 = .ok (.iload_n 3, 1) := by decide +kernel
theorem dX0_walk_26 : decode cX0_walk 26 = .ok (.bipush 99, 2) := by decide +kernel
theorem dX0_walk_28 : decode cX0_walk 28 = .ok (.if_icmp .le 5, 3) := by decide +kernel
theorem dX0_walk_31 : decode cX0_walk 31 = .ok (.iconst 0, 1) := by decide +kernel
theorem dX0_walk_32 : decode cX0_walk 32 = .ok (.ireturn, 1) := by decide +kernel
theorem dX0_walk_33 : decode cX0_walk 33 = .ok (.aload_n 0, 1) := by decide +kernel
theorem dX0_walk_34 : decode cX0_walk 34 = .ok (.getfield 20, 3) := by decide +kernel
theorem dX0_walk_37 : decode cX0_walk 37 = .ok (.bipush 8, 2) := by decide +kernel
theorem dX0_walk_39 : decode cX0_walk 39 = .ok (.iload_n 1, 1) := by decide +kernel
theorem dX0_walk_40 : decode cX0_walk 40 = .ok (.imul, 1) := by decide +kernel
theorem dX0_walk_41 : decode cX0_walk 41 = .ok (.iload_n 2, 1) := by decide +kernel
theorem dX0_walk_42 : decode cX0_walk 42 = .ok (.iadd, 1) := by decide +kernel
theorem dX0_walk_43 : decode cX0_walk 43 = .ok (.iload_n 3, 1) := by decide +kernel
theorem dX0_walk_44 : decode cX0_walk 44 = .ok (.i2b, 1) := by decide +kernel
theorem dX0_walk_45 : decode cX0_walk 45 = .ok (.bastore, 1) := by decide +kernel
theorem dX0_walk_46 : decode cX0_walk 46 = .ok (.aload_n 0, 1) := by decide +kernel
theorem dX0_walk_47 : decode cX0_walk 47 = .ok (.getfield 20, 3) := by decide +kernel
theorem dX0_walk_50 : decode cX0_walk 50 = .ok (.bipush 8, 2) := by decide +kernel
theorem dX0_walk_52 : decode cX0_walk 52 = .ok (.iload_n 2, 1) := by decide +kernel
theorem dX0_walk_53 : decode cX0_walk 53 = .ok (.imul, 1) := by decide +kernel
theorem dX0_walk_54 : decode cX0_walk 54 = .ok (.iload_n 1, 1) := by decide +kernel
theorem dX0_walk_55 : decode cX0_walk 55 = .ok (.iadd, 1) := by decide +kernel
theorem dX0_walk_56 : decode cX0_walk 56 = .ok (.iload_n 3, 1) := by decide +kernel
theorem dX0_walk_57 : decode cX0_walk 57 = .ok (.i2b, 1) := by decide +kernel
theorem dX0_walk_58 : decode cX0_walk 58 = .ok (.bastore, 1) := by decide +kernel
theorem dX0_walk_59 : decode cX0_walk 59 = .ok (.iconst 1, 1) := by decide +kernel
theorem dX0_walk_60 : decode cX0_walk 60 = .ok (.ireturn, 1) := by decide +kernel
theorem dX0_arrival_0 : decode cX0_arrival 0 = .ok (.aload_n 0, 1) := by decide +kernel
theorem dX0_arrival_1 : decode cX0_arrival 1 = .ok (.iload_n 1, 1) := by decide +kernel
theorem dX0_arrival_2 : decode cX0_arrival 2 = .ok (.invokevirtual 34, 3) := by decide +kernel
theorem dX0_arrival_5 : decode cX0_arrival 5 = .ok (.ifCond .eq 31, 3) := by decide +kernel
theorem dX0_arrival_8 : decode cX0_arrival 8 = .ok (.aload_n 0, 1) := by decide +kernel
theorem dX0_arrival_9 : decode cX0_arrival 9 = .ok (.iload_n 2, 1) := by decide +kernel
theorem dX0_arrival_10 : decode cX0_arrival 10 = .ok (.invokevirtual 34, 3) := by decide +kernel
theorem dX0_arrival_13 : decode cX0_arrival 13 = .ok (.ifCond .eq 23, 3) := by decide +kernel
theorem dX0_arrival_16 : decode cX0_arrival 16 = .ok (.aload_n 0, 1) := by decide +kernel
theorem dX0_arrival_17 : decode cX0_arrival 17 = .ok (.iload_n 3, 1) := by decide +kernel
theorem dX0_arrival_18 : decode cX0_arrival 18 = .ok (.invokevirtual 38, 3) := by decide +kernel
theorem dX0_arrival_21 : decode cX0_arrival 21 = .ok (.ifCond .eq 15, 3) := by decide +kernel
theorem dX0_arrival_24 : decode cX0_arrival 24 = .ok (.iload 4, 2) := by decide +kernel
theorem dX0_arrival_26 : decode cX0_arrival 26 = .ok (.ifCond .lt 10, 3) := by decide +kernel
theorem dX0_arrival_29 : decode cX0_arrival 29 = .ok (.iload 4, 2) := by decide +kernel
theorem dX0_arrival_31 : decode cX0_arrival 31 = .ok (.bipush 10, 2) := by decide +kernel
theorem dX0_arrival_33 : decode cX0_arrival 33 = .ok (.if_icmp .le 5, 3) := by decide +kernel
theorem dX0_arrival_36 : decode cX0_arrival 36 = .ok (.iconst (-1), 1) := by decide +kernel
theorem dX0_arrival_37 : decode cX0_arrival 37 = .ok (.ireturn, 1) := by decide +kernel
theorem dX0_arrival_38 : decode cX0_arrival 38 = .ok (.aload_n 0, 1) := by decide +kernel
theorem dX0_arrival_39 : decode cX0_arrival 39 = .ok (.iload_n 1, 1) := by decide +kernel
theorem dX0_arrival_40 : decode cX0_arrival 40 = .ok (.iload_n 3, 1) := by decide +kernel
theorem dX0_arrival_41 : decode cX0_arrival 41 = .ok (.iload 4, 2) := by decide +kernel
theorem dX0_arrival_43 : decode cX0_arrival 43 = .ok (.invokevirtual 41, 3) := by decide +kernel
theorem dX0_arrival_46 : decode cX0_arrival 46 = .ok (.aload_n 0, 1) := by decide +kernel
theorem dX0_arrival_47 : decode cX0_arrival 47 = .ok (.getfield 23, 3) := by decide +kernel
theorem dX0_arrival_50 : decode cX0_arrival 50 = .ok (.bipush 8, 2) := by decide +kernel
theorem dX0_arrival_52 : decode cX0_arrival 52 = .ok (.aload_n 0, 1) := by decide +kernel
theorem dX0_arrival_53 : decode cX0_arrival 53 = .ok (.getfield 45, 3) := by decide +kernel
theorem dX0_arrival_56 : decode cX0_arrival 56 = .ok (.imul, 1) := by decide +kernel
theorem dX0_arrival_57 : decode cX0_arrival 57 = .ok (.iload_n 2, 1) := by decide +kernel
theorem dX0_arrival_58 : decode cX0_arrival 58 = .ok (.iadd, 1) := by decide +kernel
theorem dX0_arrival_59 : decode cX0_arrival 59 = .ok (.iaload, 1) := by decide +kernel
theorem dX0_arrival_60 : decode cX0_arrival 60 = .ok (.istore 5, 2) := by decide +kernel
theorem dX0_arrival_62 : decode cX0_arrival 62 = .ok (.iload 5, 2) := by decide +kernel
theorem dX0_arrival_64 : decode cX0_arrival 64 = .ok (.ldc 48, 2) := by decide +kernel
theorem dX0_arrival_66 : decode cX0_arrival 66 = .ok (.if_icmp .lt 8, 3) := by decide +kernel
theorem dX0_arrival_69 : decode cX0_arrival 69 = .ok (.bipush (-3), 2) := by decide +kernel
theorem dX0_arrival_71 : decode cX0_arrival 71 = .ok (.goto 5, 3) := by decide +kernel
theorem dX0_arrival_74 : decode cX0_arrival 74 = .ok (.iload 5, 2) := by decide +kernel
theorem dX0_arrival_76 : decode cX0_arrival 76 = .ok (.ireturn, 1) := by decide +kernel
theorem dX0_search_0 : decode cX0_search 0 = .ok (.aload_n 0, 1) := by decide +kernel
theorem dX0_search_1 : decode cX0_search 1 = .ok (.iconst 0, 1) := by decide +kernel
theorem dX0_search_2 : decode cX0_search 2 = .ok (.putfield 45, 3) := by decide +kernel
theorem dX0_search_5 : decode cX0_search 5 = .ok (.iconst 0, 1) := by decide +kernel
theorem dX0_search_6 : decode cX0_search 6 = .ok (.istore 4, 2) := by decide +kernel
theorem dX0_search_8 : decode cX0_search 8 = .ok (.iload 4, 2) := by decide +kernel
theorem dX0_search_10 : decode cX0_search 10 = .ok (.bipush 8, 2) := by decide +kernel
theorem dX0_search_12 : decode cX0_search 12 = .ok (.if_icmp .ge 27, 3) := by decide +kernel
theorem dX0_search_15 : decode cX0_search 15 = .ok (.aload_n 0, 1) := by decide +kernel
theorem dX0_search_16 : decode cX0_search 16 = .ok (.getfield 23, 3) := by decide +kernel
theorem dX0_search_19 : decode cX0_search 19 = .ok (.iload 4, 2) := by decide +kernel
theorem dX0_search_21 : decode cX0_search 21 = .ok (.ldc 48, 2) := by decide +kernel
theorem dX0_search_23 : decode cX0_search 23 = .ok (.iastore, 1) := by decide +kernel
theorem dX0_search_24 : decode cX0_search 24 = .ok (.aload_n 0, 1) := by decide +kernel
theorem dX0_search_25 : decode cX0_search 25 = .ok (.getfield 27, 3) := by decide +kernel
theorem dX0_search_28 : decode cX0_search 28 = .ok (.iload 4, 2) := by decide +kernel
theorem dX0_search_30 : decode cX0_search 30 = .ok (.ldc 48, 2) := by decide +kernel
theorem dX0_search_32 : decode cX0_search 32 = .ok (.iastore, 1) := by decide +kernel
theorem dX0_search_33 : decode cX0_search 33 = .ok (.iinc 4 1, 3) := by decide +kernel
theorem dX0_search_36 : decode cX0_search 36 = .ok (.goto (-28), 3) := by decide +kernel
theorem dX0_search_39 : decode cX0_search 39 = .ok (.aload_n 0, 1) := by decide +kernel
theorem dX0_search_40 : decode cX0_search 40 = .ok (.getfield 27, 3) := by decide +kernel
theorem dX0_search_43 : decode cX0_search 43 = .ok (.iload_n 1, 1) := by decide +kernel
theorem dX0_search_44 : decode cX0_search 44 = .ok (.iload_n 2, 1) := by decide +kernel
theorem dX0_search_45 : decode cX0_search 45 = .ok (.iastore, 1) := by decide +kernel
theorem dX0_search_46 : decode cX0_search 46 = .ok (.aload_n 0, 1) := by decide +kernel
theorem dX0_search_47 : decode cX0_search 47 = .ok (.getfield 23, 3) := by decide +kernel
theorem dX0_search_50 : decode cX0_search 50 = .ok (.iload_n 1, 1) := by decide +kernel
theorem dX0_search_51 : decode cX0_search 51 = .ok (.iload_n 2, 1) := by decide +kernel
theorem dX0_search_52 : decode cX0_search 52 = .ok (.iastore, 1) := by decide +kernel
theorem dX0_search_53 : decode cX0_search 53 = .ok (.aload_n 0, 1) := by decide +kernel
theorem dX0_search_54 : decode cX0_search 54 = .ok (.iconst 0, 1) := by decide +kernel
theorem dX0_search_55 : decode cX0_search 55 = .ok (.invokevirtual 49, 3) := by decide +kernel
theorem dX0_search_58 : decode cX0_search 58 = .ok (.aload_n 0, 1) := by decide +kernel
theorem dX0_search_59 : decode cX0_search 59 = .ok (.iconst 0, 1) := by decide +kernel
theorem dX0_search_60 : decode cX0_search 60 = .ok (.putfield 53, 3) := by decide +kernel
theorem dX0_search_63 : decode cX0_search 63 = .ok (.iconst 0, 1) := by decide +kernel
theorem dX0_search_64 : decode cX0_search 64 = .ok (.istore 4, 2) := by decide +kernel
theorem dX0_search_66 : decode cX0_search 66 = .ok (.iload 4, 2) := by decide +kernel
theorem dX0_search_68 : decode cX0_search 68 = .ok (.bipush 8, 2) := by decide +kernel
theorem dX0_search_70 : decode cX0_search 70 = .ok (.if_icmp .ge 34, 3) := by decide +kernel
theorem dX0_search_73 : decode cX0_search 73 = .ok (.aload_n 0, 1) := by decide +kernel
theorem dX0_search_74 : decode cX0_search 74 = .ok (.getfield 23, 3) := by decide +kernel
theorem dX0_search_77 : decode cX0_search 77 = .ok (.iload 4, 2) := by decide +kernel
theorem dX0_search_79 : decode cX0_search 79 = .ok (.iaload, 1) := by decide +kernel
theorem dX0_search_80 : decode cX0_search 80 = .ok (.ldc 48, 2) := by decide +kernel
theorem dX0_search_82 : decode cX0_search 82 = .ok (.if_icmp .ge 16, 3) := by decide +kernel
theorem dX0_search_85 : decode cX0_search 85 = .ok (.aload_n 0, 1) := by decide +kernel
theorem dX0_search_86 : decode cX0_search 86 = .ok (.dup, 1) := by decide +kernel
theorem dX0_search_87 : decode cX0_search 87 = .ok (.getfield 53, 3) := by decide +kernel
theorem dX0_search_90 : decode cX0_search 90 = .ok (.iconst 1, 1) := by decide +kernel
theorem dX0_search_91 : decode cX0_search 91 = .ok (.iload 4, 2) := by decide +kernel
theorem dX0_search_93 : decode cX0_search 93 = .ok (.ishl, 1) := by decide +kernel
theorem dX0_search_94 : decode cX0_search 94 = .ok (.ior, 1) := by decide +kernel
theorem dX0_search_95 : decode cX0_search 95 = .ok (.putfield 53, 3) := by decide +kernel
theorem dX0_search_98 : decode cX0_search 98 = .ok (.iinc 4 1, 3) := by decide +kernel
theorem dX0_search_101 : decode cX0_search 101 = .ok (.goto (-35), 3) := by decide +kernel
theorem dX0_search_104 : decode cX0_search 104 = .ok (.aload_n 0, 1) := by decide +kernel
theorem dX0_search_105 : decode cX0_search 105 = .ok (.getfield 45, 3) := by decide +kernel
theorem dX0_search_108 : decode cX0_search 108 = .ok (.iload_n 3, 1) := by decide +kernel
theorem dX0_search_109 : decode cX0_search 109 = .ok (.if_icmp .ge 118, 3) := by decide +kernel
theorem dX0_search_112 : decode cX0_search 112 = .ok (.aload_n 0, 1) := by decide +kernel
theorem dX0_search_113 : decode cX0_search 113 = .ok (.getfield 53, 3) := by decide +kernel
theorem dX0_search_116 : decode cX0_search 116 = .ok (.ifCond .eq 111, 3) := by decide +kernel
theorem dX0_search_119 : decode cX0_search 119 = .ok (.iconst 0, 1) := by decide +kernel
theorem dX0_search_120 : decode cX0_search 120 = .ok (.istore 4, 2) := by decide +kernel
theorem dX0_search_122 : decode cX0_search 122 = .ok (.iload 4, 2) := by decide +kernel
theorem dX0_search_124 : decode cX0_search 124 = .ok (.bipush 8, 2) := by decide +kernel
theorem dX0_search_126 : decode cX0_search 126 = .ok (.if_icmp .ge 51, 3) := by decide +kernel
theorem dX0_search_129 : decode cX0_search 129 = .ok (.aload_n 0, 1) := by decide +kernel
theorem dX0_search_130 : decode cX0_search 130 = .ok (.getfield 23, 3) := by decide +kernel
theorem dX0_search_133 : decode cX0_search 133 = .ok (.bipush 8, 2) := by decide +kernel
theorem dX0_search_135 : decode cX0_search 135 = .ok (.aload_n 0, 1) := by decide +kernel
end
section
set_option maxRecDepth 100000
theorem dX0_search_136 : decode cX0_search 136 = .ok (.getfield 45, 3) := by decide +kernel
theorem dX0_search_139 : decode cX0_search 139 = .ok (.imul, 1) := by decide +kernel
theorem dX0_search_140 : decode cX0_search 140 = .ok (.bipush 8, 2) := by decide +kernel
theorem dX0_search_142 : decode cX0_search 142 = .ok (.iadd, 1) := by decide +kernel
theorem dX0_search_143 : decode cX0_search 143 = .ok (.iload 4, 2) := by decide +kernel
theorem dX0_search_145 : decode cX0_search 145 = .ok (.iadd, 1) := by decide +kernel
theorem dX0_search_146 : decode cX0_search 146 = .ok (.aload_n 0, 1) := by decide +kernel
theorem dX0_search_147 : decode cX0_search 147 = .ok (.getfield 23, 3) := by decide +kernel
theorem dX0_search_150 : decode cX0_search 150 = .ok (.bipush 8, 2) := by decide +kernel
theorem dX0_search_152 : decode cX0_search 152 = .ok (.aload_n 0, 1) := by decide +kernel
theorem dX0_search_153 : decode cX0_search 153 = .ok (.getfield 45, 3) := by decide +kernel
theorem dX0_search_156 : decode cX0_search 156 = .ok (.imul, 1) := by decide +kernel
theorem dX0_search_157 : decode cX0_search 157 = .ok (.iload 4, 2) := by decide +kernel
theorem dX0_search_159 : decode cX0_search 159 = .ok (.iadd, 1) := by decide +kernel
theorem dX0_search_160 : decode cX0_search 160 = .ok (.iaload, 1) := by decide +kernel
theorem dX0_search_161 : decode cX0_search 161 = .ok (.iastore, 1) := by decide +kernel
theorem dX0_search_162 : decode cX0_search 162 = .ok (.aload_n 0, 1) := by decide +kernel
theorem dX0_search_163 : decode cX0_search 163 = .ok (.getfield 27, 3) := by decide +kernel
theorem dX0_search_166 : decode cX0_search 166 = .ok (.iload 4, 2) := by decide +kernel
theorem dX0_search_168 : decode cX0_search 168 = .ok (.ldc 48, 2) := by decide +kernel
theorem dX0_search_170 : decode cX0_search 170 = .ok (.iastore, 1) := by decide +kernel
theorem dX0_search_171 : decode cX0_search 171 = .ok (.iinc 4 1, 3) := by decide +kernel
theorem dX0_search_174 : decode cX0_search 174 = .ok (.goto (-52), 3) := by decide +kernel
theorem dX0_search_177 : decode cX0_search 177 = .ok (.aload_n 0, 1) := by decide +kernel
theorem dX0_search_178 : decode cX0_search 178 = .ok (.dup, 1) := by decide +kernel
theorem dX0_search_179 : decode cX0_search 179 = .ok (.getfield 45, 3) := by decide +kernel
theorem dX0_search_182 : decode cX0_search 182 = .ok (.iconst 1, 1) := by decide +kernel
theorem dX0_search_183 : decode cX0_search 183 = .ok (.iadd, 1) := by decide +kernel
theorem dX0_search_184 : decode cX0_search 184 = .ok (.putfield 45, 3) := by decide +kernel
theorem dX0_search_187 : decode cX0_search 187 = .ok (.iconst 0, 1) := by decide +kernel
theorem dX0_search_188 : decode cX0_search 188 = .ok (.istore 4, 2) := by decide +kernel
theorem dX0_search_190 : decode cX0_search 190 = .ok (.iload 4, 2) := by decide +kernel
theorem dX0_search_192 : decode cX0_search 192 = .ok (.aload_n 0, 1) := by decide +kernel
theorem dX0_search_193 : decode cX0_search 193 = .ok (.getfield 30, 3) := by decide +kernel
theorem dX0_search_196 : decode cX0_search 196 = .ok (.if_icmp .ge 24, 3) := by decide +kernel
theorem dX0_search_199 : decode cX0_search 199 = .ok (.aload_n 0, 1) := by decide +kernel
theorem dX0_search_200 : decode cX0_search 200 = .ok (.iload 4, 2) := by decide +kernel
theorem dX0_search_202 : decode cX0_search 202 = .ok (.invokevirtual 56, 3) := by decide +kernel
theorem dX0_search_205 : decode cX0_search 205 = .ok (.ifCond .eq 9, 3) := by decide +kernel
theorem dX0_search_208 : decode cX0_search 208 = .ok (.aload_n 0, 1) := by decide +kernel
theorem dX0_search_209 : decode cX0_search 209 = .ok (.iload 4, 2) := by decide +kernel
theorem dX0_search_211 : decode cX0_search 211 = .ok (.invokevirtual 59, 3) := by decide +kernel
theorem dX0_search_214 : decode cX0_search 214 = .ok (.iinc 4 1, 3) := by decide +kernel
theorem dX0_search_217 : decode cX0_search 217 = .ok (.goto (-27), 3) := by decide +kernel
theorem dX0_search_220 : decode cX0_search 220 = .ok (.aload_n 0, 1) := by decide +kernel
theorem dX0_search_221 : decode cX0_search 221 = .ok (.invokevirtual 62, 3) := by decide +kernel
theorem dX0_search_224 : decode cX0_search 224 = .ok (.goto (-120), 3) := by decide +kernel
theorem dX0_search_227 : decode cX0_search 227 = .ok (.return_, 1) := by decide +kernel
theorem dX0_walkOn_0 : decode cX0_walkOn 0 = .ok (.iconst 0, 1) := by decide +kernel
theorem dX0_walkOn_1 : decode cX0_walkOn 1 = .ok (.istore_n 2, 1) := by decide +kernel
theorem dX0_walkOn_2 : decode cX0_walkOn 2 = .ok (.iload_n 2, 1) := by decide +kernel
theorem dX0_walkOn_3 : decode cX0_walkOn 3 = .ok (.bipush 8, 2) := by decide +kernel
theorem dX0_walkOn_5 : decode cX0_walkOn 5 = .ok (.if_icmp .ge 101, 3) := by decide +kernel
theorem dX0_walkOn_8 : decode cX0_walkOn 8 = .ok (.aload_n 0, 1) := by decide +kernel
theorem dX0_walkOn_9 : decode cX0_walkOn 9 = .ok (.getfield 27, 3) := by decide +kernel
theorem dX0_walkOn_12 : decode cX0_walkOn 12 = .ok (.iload_n 2, 1) := by decide +kernel
theorem dX0_walkOn_13 : decode cX0_walkOn 13 = .ok (.iaload, 1) := by decide +kernel
theorem dX0_walkOn_14 : decode cX0_walkOn 14 = .ok (.ldc 48, 2) := by decide +kernel
theorem dX0_walkOn_16 : decode cX0_walkOn 16 = .ok (.if_icmp .lt 6, 3) := by decide +kernel
theorem dX0_walkOn_19 : decode cX0_walkOn 19 = .ok (.goto 81, 3) := by decide +kernel
theorem dX0_walkOn_22 : decode cX0_walkOn 22 = .ok (.iconst 0, 1) := by decide +kernel
theorem dX0_walkOn_23 : decode cX0_walkOn 23 = .ok (.istore_n 3, 1) := by decide +kernel
theorem dX0_walkOn_24 : decode cX0_walkOn 24 = .ok (.iload_n 3, 1) := by decide +kernel
theorem dX0_walkOn_25 : decode cX0_walkOn 25 = .ok (.bipush 8, 2) := by decide +kernel
theorem dX0_walkOn_27 : decode cX0_walkOn 27 = .ok (.if_icmp .ge 73, 3) := by decide +kernel
theorem dX0_walkOn_30 : decode cX0_walkOn 30 = .ok (.aload_n 0, 1) := by decide +kernel
theorem dX0_walkOn_31 : decode cX0_walkOn 31 = .ok (.getfield 20, 3) := by decide +kernel
theorem dX0_walkOn_34 : decode cX0_walkOn 34 = .ok (.bipush 8, 2) := by decide +kernel
theorem dX0_walkOn_36 : decode cX0_walkOn 36 = .ok (.iload_n 2, 1) := by decide +kernel
theorem dX0_walkOn_37 : decode cX0_walkOn 37 = .ok (.imul, 1) := by decide +kernel
theorem dX0_walkOn_38 : decode cX0_walkOn 38 = .ok (.iload_n 3, 1) := by decide +kernel
theorem dX0_walkOn_39 : decode cX0_walkOn 39 = .ok (.iadd, 1) := by decide +kernel
theorem dX0_walkOn_40 : decode cX0_walkOn 40 = .ok (.baload, 1) := by decide +kernel
theorem dX0_walkOn_41 : decode cX0_walkOn 41 = .ok (.istore 4, 2) := by decide +kernel
theorem dX0_walkOn_43 : decode cX0_walkOn 43 = .ok (.iload 4, 2) := by decide +kernel
theorem dX0_walkOn_45 : decode cX0_walkOn 45 = .ok (.ifCond .eq 49, 3) := by decide +kernel
theorem dX0_walkOn_48 : decode cX0_walkOn 48 = .ok (.aload_n 0, 1) := by decide +kernel
theorem dX0_walkOn_49 : decode cX0_walkOn 49 = .ok (.getfield 27, 3) := by decide +kernel
theorem dX0_walkOn_52 : decode cX0_walkOn 52 = .ok (.iload_n 2, 1) := by decide +kernel
theorem dX0_walkOn_53 : decode cX0_walkOn 53 = .ok (.iaload, 1) := by decide +kernel
theorem dX0_walkOn_54 : decode cX0_walkOn 54 = .ok (.iload 4, 2) := by decide +kernel
theorem dX0_walkOn_56 : decode cX0_walkOn 56 = .ok (.iadd, 1) := by decide +kernel
theorem dX0_walkOn_57 : decode cX0_walkOn 57 = .ok (.aload_n 0, 1) := by decide +kernel
theorem dX0_walkOn_58 : decode cX0_walkOn 58 = .ok (.getfield 23, 3) := by decide +kernel
theorem dX0_walkOn_61 : decode cX0_walkOn 61 = .ok (.bipush 8, 2) := by decide +kernel
theorem dX0_walkOn_63 : decode cX0_walkOn 63 = .ok (.iload_n 1, 1) := by decide +kernel
theorem dX0_walkOn_64 : decode cX0_walkOn 64 = .ok (.imul, 1) := by decide +kernel
theorem dX0_walkOn_65 : decode cX0_walkOn 65 = .ok (.iload_n 3, 1) := by decide +kernel
theorem dX0_walkOn_66 : decode cX0_walkOn 66 = .ok (.iadd, 1) := by decide +kernel
theorem dX0_walkOn_67 : decode cX0_walkOn 67 = .ok (.iaload, 1) := by decide +kernel
theorem dX0_walkOn_68 : decode cX0_walkOn 68 = .ok (.if_icmp .lt 6, 3) := by decide +kernel
theorem dX0_walkOn_71 : decode cX0_walkOn 71 = .ok (.goto 23, 3) := by decide +kernel
theorem dX0_walkOn_74 : decode cX0_walkOn 74 = .ok (.aload_n 0, 1) := by decide +kernel
theorem dX0_walkOn_75 : decode cX0_walkOn 75 = .ok (.getfield 23, 3) := by decide +kernel
theorem dX0_walkOn_78 : decode cX0_walkOn 78 = .ok (.bipush 8, 2) := by decide +kernel
theorem dX0_walkOn_80 : decode cX0_walkOn 80 = .ok (.iload_n 1, 1) := by decide +kernel
theorem dX0_walkOn_81 : decode cX0_walkOn 81 = .ok (.imul, 1) := by decide +kernel
theorem dX0_walkOn_82 : decode cX0_walkOn 82 = .ok (.iload_n 3, 1) := by decide +kernel
theorem dX0_walkOn_83 : decode cX0_walkOn 83 = .ok (.iadd, 1) := by decide +kernel
theorem dX0_walkOn_84 : decode cX0_walkOn 84 = .ok (.aload_n 0, 1) := by decide +kernel
theorem dX0_walkOn_85 : decode cX0_walkOn 85 = .ok (.getfield 27, 3) := by decide +kernel
theorem dX0_walkOn_88 : decode cX0_walkOn 88 = .ok (.iload_n 2, 1) := by decide +kernel
theorem dX0_walkOn_89 : decode cX0_walkOn 89 = .ok (.iaload, 1) := by decide +kernel
theorem dX0_walkOn_90 : decode cX0_walkOn 90 = .ok (.iload 4, 2) := by decide +kernel
theorem dX0_walkOn_92 : decode cX0_walkOn 92 = .ok (.iadd, 1) := by decide +kernel
theorem dX0_walkOn_93 : decode cX0_walkOn 93 = .ok (.iastore, 1) := by decide +kernel
theorem dX0_walkOn_94 : decode cX0_walkOn 94 = .ok (.iinc 3 1, 3) := by decide +kernel
theorem dX0_walkOn_97 : decode cX0_walkOn 97 = .ok (.goto (-73), 3) := by decide +kernel
theorem dX0_walkOn_100 : decode cX0_walkOn 100 = .ok (.iinc 2 1, 3) := by decide +kernel
theorem dX0_walkOn_103 : decode cX0_walkOn 103 = .ok (.goto (-101), 3) := by decide +kernel
theorem dX0_walkOn_106 : decode cX0_walkOn 106 = .ok (.return_, 1) := by decide +kernel
theorem dX0_callsAtBettered_0 : decode cX0_callsAtBettered 0 = .ok (.iconst 5, 1) := by decide +kernel
theorem dX0_callsAtBettered_1 : decode cX0_callsAtBettered 1 = .ok (.iload_n 1, 1) := by decide +kernel
theorem dX0_callsAtBettered_2 : decode cX0_callsAtBettered 2 = .ok (.imul, 1) := by decide +kernel
theorem dX0_callsAtBettered_3 : decode cX0_callsAtBettered 3 = .ok (.istore_n 2, 1) := by decide +kernel
theorem dX0_callsAtBettered_4 : decode cX0_callsAtBettered 4 = .ok (.iload_n 2, 1) := by decide +kernel
theorem dX0_callsAtBettered_5 : decode cX0_callsAtBettered 5 = .ok (.iconst 5, 1) := by decide +kernel
theorem dX0_callsAtBettered_6 : decode cX0_callsAtBettered 6 = .ok (.iload_n 1, 1) := by decide +kernel
theorem dX0_callsAtBettered_7 : decode cX0_callsAtBettered 7 = .ok (.imul, 1) := by decide +kernel
theorem dX0_callsAtBettered_8 : decode cX0_callsAtBettered 8 = .ok (.aload_n 0, 1) := by decide +kernel
theorem dX0_callsAtBettered_9 : decode cX0_callsAtBettered 9 = .ok (.getfield 7, 3) := by decide +kernel
theorem dX0_callsAtBettered_12 : decode cX0_callsAtBettered 12 = .ok (.iload_n 1, 1) := by decide +kernel
theorem dX0_callsAtBettered_13 : decode cX0_callsAtBettered 13 = .ok (.baload, 1) := by decide +kernel
theorem dX0_callsAtBettered_14 : decode cX0_callsAtBettered 14 = .ok (.iadd, 1) := by decide +kernel
theorem dX0_callsAtBettered_15 : decode cX0_callsAtBettered 15 = .ok (.if_icmp .ge 27, 3) := by decide +kernel
theorem dX0_callsAtBettered_18 : decode cX0_callsAtBettered 18 = .ok (.aload_n 0, 1) := by decide +kernel
theorem dX0_callsAtBettered_19 : decode cX0_callsAtBettered 19 = .ok (.getfield 53, 3) := by decide +kernel
theorem dX0_callsAtBettered_22 : decode cX0_callsAtBettered 22 = .ok (.aload_n 0, 1) := by decide +kernel
theorem dX0_callsAtBettered_23 : decode cX0_callsAtBettered 23 = .ok (.getfield 13, 3) := by decide +kernel
theorem dX0_callsAtBettered_26 : decode cX0_callsAtBettered 26 = .ok (.iload_n 2, 1) := by decide +kernel
theorem dX0_callsAtBettered_27 : decode cX0_callsAtBettered 27 = .ok (.baload, 1) := by decide +kernel
theorem dX0_callsAtBettered_28 : decode cX0_callsAtBettered 28 = .ok (.ishr, 1) := by decide +kernel
theorem dX0_callsAtBettered_29 : decode cX0_callsAtBettered 29 = .ok (.iconst 1, 1) := by decide +kernel
theorem dX0_callsAtBettered_30 : decode cX0_callsAtBettered 30 = .ok (.iand, 1) := by decide +kernel
theorem dX0_callsAtBettered_31 : decode cX0_callsAtBettered 31 = .ok (.ifCond .eq 5, 3) := by decide +kernel
theorem dX0_callsAtBettered_34 : decode cX0_callsAtBettered 34 = .ok (.iconst 1, 1) := by decide +kernel
theorem dX0_callsAtBettered_35 : decode cX0_callsAtBettered 35 = .ok (.ireturn, 1) := by decide +kernel
theorem dX0_callsAtBettered_36 : decode cX0_callsAtBettered 36 = .ok (.iinc 2 1, 3) := by decide +kernel
theorem dX0_callsAtBettered_39 : decode cX0_callsAtBettered 39 = .ok (.goto (-35), 3) := by decide +kernel
theorem dX0_callsAtBettered_42 : decode cX0_callsAtBettered 42 = .ok (.iconst 0, 1) := by decide +kernel
theorem dX0_callsAtBettered_43 : decode cX0_callsAtBettered 43 = .ok (.ireturn, 1) := by decide +kernel
theorem dX0_ride_0 : decode cX0_ride 0 = .ok (.iconst 0, 1) := by decide +kernel
theorem dX0_ride_1 : decode cX0_ride 1 = .ok (.istore_n 2, 1) := by decide +kernel
theorem dX0_ride_2 : decode cX0_ride 2 = .ok (.iconst 5, 1) := by decide +kernel
theorem dX0_ride_3 : decode cX0_ride 3 = .ok (.iload_n 1, 1) := by decide +kernel
theorem dX0_ride_4 : decode cX0_ride 4 = .ok (.imul, 1) := by decide +kernel
theorem dX0_ride_5 : decode cX0_ride 5 = .ok (.istore_n 3, 1) := by decide +kernel
theorem dX0_ride_6 : decode cX0_ride 6 = .ok (.iload_n 3, 1) := by decide +kernel
theorem dX0_ride_7 : decode cX0_ride 7 = .ok (.iconst 5, 1) := by decide +kernel
theorem dX0_ride_8 : decode cX0_ride 8 = .ok (.iload_n 1, 1) := by decide +kernel
theorem dX0_ride_9 : decode cX0_ride 9 = .ok (.imul, 1) := by decide +kernel
theorem dX0_ride_10 : decode cX0_ride 10 = .ok (.aload_n 0, 1) := by decide +kernel
theorem dX0_ride_11 : decode cX0_ride 11 = .ok (.getfield 7, 3) := by decide +kernel
theorem dX0_ride_14 : decode cX0_ride 14 = .ok (.iload_n 1, 1) := by decide +kernel
theorem dX0_ride_15 : decode cX0_ride 15 = .ok (.baload, 1) := by decide +kernel
theorem dX0_ride_16 : decode cX0_ride 16 = .ok (.iadd, 1) := by decide +kernel
theorem dX0_ride_17 : decode cX0_ride 17 = .ok (.if_icmp .ge 78, 3) := by decide +kernel
theorem dX0_ride_20 : decode cX0_ride 20 = .ok (.aload_n 0, 1) := by decide +kernel
theorem dX0_ride_21 : decode cX0_ride 21 = .ok (.getfield 13, 3) := by decide +kernel
theorem dX0_ride_24 : decode cX0_ride 24 = .ok (.iload_n 3, 1) := by decide +kernel
theorem dX0_ride_25 : decode cX0_ride 25 = .ok (.baload, 1) := by decide +kernel
theorem dX0_ride_26 : decode cX0_ride 26 = .ok (.istore 4, 2) := by decide +kernel
theorem dX0_ride_28 : decode cX0_ride 28 = .ok (.iload_n 2, 1) := by decide +kernel
theorem dX0_ride_29 : decode cX0_ride 29 = .ok (.ifCond .eq 32, 3) := by decide +kernel
theorem dX0_ride_32 : decode cX0_ride 32 = .ok (.aload_n 0, 1) := by decide +kernel
theorem dX0_ride_33 : decode cX0_ride 33 = .ok (.getfield 16, 3) := by decide +kernel
theorem dX0_ride_36 : decode cX0_ride 36 = .ok (.iload_n 3, 1) := by decide +kernel
theorem dX0_ride_37 : decode cX0_ride 37 = .ok (.saload, 1) := by decide +kernel
theorem dX0_ride_38 : decode cX0_ride 38 = .ok (.aload_n 0, 1) := by decide +kernel
theorem dX0_ride_39 : decode cX0_ride 39 = .ok (.getfield 27, 3) := by decide +kernel
theorem dX0_ride_42 : decode cX0_ride 42 = .ok (.iload 4, 2) := by decide +kernel
theorem dX0_ride_44 : decode cX0_ride 44 = .ok (.iaload, 1) := by decide +kernel
theorem dX0_ride_45 : decode cX0_ride 45 = .ok (.if_icmp .ge 16, 3) := by decide +kernel
theorem dX0_ride_48 : decode cX0_ride 48 = .ok (.aload_n 0, 1) := by decide +kernel
theorem dX0_ride_49 : decode cX0_ride 49 = .ok (.getfield 27, 3) := by decide +kernel
theorem dX0_ride_52 : decode cX0_ride 52 = .ok (.iload 4, 2) := by decide +kernel
theorem dX0_ride_54 : decode cX0_ride 54 = .ok (.aload_n 0, 1) := by decide +kernel
theorem dX0_ride_55 : decode cX0_ride 55 = .ok (.getfield 16, 3) := by decide +kernel
theorem dX0_ride_58 : decode cX0_ride 58 = .ok (.iload_n 3, 1) := by decide +kernel
theorem dX0_ride_59 : decode cX0_ride 59 = .ok (.saload, 1) := by decide +kernel
theorem dX0_ride_60 : decode cX0_ride 60 = .ok (.iastore, 1) := by decide +kernel
theorem dX0_ride_61 : decode cX0_ride 61 = .ok (.aload_n 0, 1) := by decide +kernel
theorem dX0_ride_62 : decode cX0_ride 62 = .ok (.getfield 23, 3) := by decide +kernel
theorem dX0_ride_65 : decode cX0_ride 65 = .ok (.bipush 8, 2) := by decide +kernel
theorem dX0_ride_67 : decode cX0_ride 67 = .ok (.aload_n 0, 1) := by decide +kernel
theorem dX0_ride_68 : decode cX0_ride 68 = .ok (.getfield 45, 3) := by decide +kernel
theorem dX0_ride_71 : decode cX0_ride 71 = .ok (.iconst 1, 1) := by decide +kernel
theorem dX0_ride_72 : decode cX0_ride 72 = .ok (.isub, 1) := by decide +kernel
theorem dX0_ride_73 : decode cX0_ride 73 = .ok (.imul, 1) := by decide +kernel
theorem dX0_ride_74 : decode cX0_ride 74 = .ok (.iload 4, 2) := by decide +kernel
theorem dX0_ride_76 : decode cX0_ride 76 = .ok (.iadd, 1) := by decide +kernel
theorem dX0_ride_77 : decode cX0_ride 77 = .ok (.iaload, 1) := by decide +kernel
theorem dX0_ride_78 : decode cX0_ride 78 = .ok (.aload_n 0, 1) := by decide +kernel
theorem dX0_ride_79 : decode cX0_ride 79 = .ok (.getfield 16, 3) := by decide +kernel
theorem dX0_ride_82 : decode cX0_ride 82 = .ok (.iload_n 3, 1) := by decide +kernel
theorem dX0_ride_83 : decode cX0_ride 83 = .ok (.saload, 1) := by decide +kernel
theorem dX0_ride_84 : decode cX0_ride 84 = .ok (.if_icmp .gt 5, 3) := by decide +kernel
theorem dX0_ride_87 : decode cX0_ride 87 = .ok (.iconst 1, 1) := by decide +kernel
theorem dX0_ride_88 : decode cX0_ride 88 = .ok (.istore_n 2, 1) := by decide +kernel
theorem dX0_ride_89 : decode cX0_ride 89 = .ok (.iinc 3 1, 3) := by decide +kernel
theorem dX0_ride_92 : decode cX0_ride 92 = .ok (.goto (-86), 3) := by decide +kernel
theorem dX0_ride_95 : decode cX0_ride 95 = .ok (.return_, 1) := by decide +kernel
theorem dX0_finishRound_0 : decode cX0_finishRound 0 = .ok (.iconst 0, 1) := by decide +kernel
theorem dX0_finishRound_1 : decode cX0_finishRound 1 = .ok (.istore_n 1, 1) := by decide +kernel
theorem dX0_finishRound_2 : decode cX0_finishRound 2 = .ok (.iload_n 1, 1) := by decide +kernel
theorem dX0_finishRound_3 : decode cX0_finishRound 3 = .ok (.bipush 8, 2) := by decide +kernel
theorem dX0_finishRound_5 : decode cX0_finishRound 5 = .ok (.if_icmp .ge 52, 3) := by decide +kernel
theorem dX0_finishRound_8 : decode cX0_finishRound 8 = .ok (.aload_n 0, 1) := by decide +kernel
theorem dX0_finishRound_9 : decode cX0_finishRound 9 = .ok (.getfield 27, 3) := by decide +kernel
theorem dX0_finishRound_12 : decode cX0_finishRound 12 = .ok (.iload_n 1, 1) := by decide +kernel
theorem dX0_finishRound_13 : decode cX0_finishRound 13 = .ok (.iaload, 1) := by decide +kernel
theorem dX0_finishRound_14 : decode cX0_finishRound 14 = .ok (.aload_n 0, 1) := by decide +kernel
theorem dX0_finishRound_15 : decode cX0_finishRound 15 = .ok (.getfield 23, 3) := by decide +kernel
theorem dX0_finishRound_18 : decode cX0_finishRound 18 = .ok (.bipush 8, 2) := by decide +kernel
theorem dX0_finishRound_20 : decode cX0_finishRound 20 = .ok (.aload_n 0, 1) := by decide +kernel
theorem dX0_finishRound_21 : decode cX0_finishRound 21 = .ok (.getfield 45, 3) := by decide +kernel
theorem dX0_finishRound_24 : decode cX0_finishRound 24 = .ok (.imul, 1) := by decide +kernel
theorem dX0_finishRound_25 : decode cX0_finishRound 25 = .ok (.iload_n 1, 1) := by decide +kernel
theorem dX0_finishRound_26 : decode cX0_finishRound 26 = .ok (.iadd, 1) := by decide +kernel
theorem dX0_finishRound_27 : decode cX0_finishRound 27 = .ok (.iaload, 1) := by decide +kernel
theorem dX0_finishRound_28 : decode cX0_finishRound 28 = .ok (.if_icmp .ge 23, 3) := by decide +kernel
theorem dX0_finishRound_31 : decode cX0_finishRound 31 = .ok (.aload_n 0, 1) := by decide +kernel
theorem dX0_finishRound_32 : decode cX0_finishRound 32 = .ok (.getfield 23, 3) := by decide +kernel
theorem dX0_finishRound_35 : decode cX0_finishRound 35 = .ok (.bipush 8, 2) := by decide +kernel
theorem dX0_finishRound_37 : decode cX0_finishRound 37 = .ok (.aload_n 0, 1) := by decide +kernel
theorem dX0_finishRound_38 : decode cX0_finishRound 38 = .ok (.getfield 45, 3) := by decide +kernel
theorem dX0_finishRound_41 : decode cX0_finishRound 41 = .ok (.imul, 1) := by decide +kernel
theorem dX0_finishRound_42 : decode cX0_finishRound 42 = .ok (.iload_n 1, 1) := by decide +kernel
theorem dX0_finishRound_43 : decode cX0_finishRound 43 = .ok (.iadd, 1) := by decide +kernel
theorem dX0_finishRound_44 : decode cX0_finishRound 44 = .ok (.aload_n 0, 1) := by decide +kernel
theorem dX0_finishRound_45 : decode cX0_finishRound 45 = .ok (.getfield 27, 3) := by decide +kernel
theorem dX0_finishRound_48 : decode cX0_finishRound 48 = .ok (.iload_n 1, 1) := by decide +kernel
theorem dX0_finishRound_49 : decode cX0_finishRound 49 = .ok (.iaload, 1) := by decide +kernel
theorem dX0_finishRound_50 : decode cX0_finishRound 50 = .ok (.iastore, 1) := by decide +kernel
theorem dX0_finishRound_51 : decode cX0_finishRound 51 = .ok (.iinc 1 1, 3) := by decide +kernel
theorem dX0_finishRound_54 : decode cX0_finishRound 54 = .ok (.goto (-52), 3) := by decide +kernel
theorem dX0_finishRound_57 : decode cX0_finishRound 57 = .ok (.aload_n 0, 1) := by decide +kernel
theorem dX0_finishRound_58 : decode cX0_finishRound 58 = .ok (.aload_n 0, 1) := by decide +kernel
theorem dX0_finishRound_59 : decode cX0_finishRound 59 = .ok (.getfield 45, 3) := by decide +kernel
theorem dX0_finishRound_62 : decode cX0_finishRound 62 = .ok (.invokevirtual 49, 3) := by decide +kernel
theorem dX0_finishRound_65 : decode cX0_finishRound 65 = .ok (.aload_n 0, 1) := by decide +kernel
theorem dX0_finishRound_66 : decode cX0_finishRound 66 = .ok (.iconst 0, 1) := by decide +kernel
theorem dX0_finishRound_67 : decode cX0_finishRound 67 = .ok (.putfield 53, 3) := by decide +kernel
theorem dX0_finishRound_70 : decode cX0_finishRound 70 = .ok (.iconst 0, 1) := by decide +kernel
theorem dX0_finishRound_71 : decode cX0_finishRound 71 = .ok (.istore_n 1, 1) := by decide +kernel
theorem dX0_finishRound_72 : decode cX0_finishRound 72 = .ok (.iload_n 1, 1) := by decide +kernel
theorem dX0_finishRound_73 : decode cX0_finishRound 73 = .ok (.bipush 8, 2) := by decide +kernel
theorem dX0_finishRound_75 : decode cX0_finishRound 75 = .ok (.if_icmp .ge 55, 3) := by decide +kernel
theorem dX0_finishRound_78 : decode cX0_finishRound 78 = .ok (.aload_n 0, 1) := by decide +kernel
theorem dX0_finishRound_79 : decode cX0_finishRound 79 = .ok (.getfield 23, 3) := by decide +kernel
theorem dX0_finishRound_82 : decode cX0_finishRound 82 = .ok (.bipush 8, 2) := by decide +kernel
theorem dX0_finishRound_84 : decode cX0_finishRound 84 = .ok (.aload_n 0, 1) := by decide +kernel
theorem dX0_finishRound_85 : decode cX0_finishRound 85 = .ok (.getfield 45, 3) := by decide +kernel
theorem dX0_finishRound_88 : decode cX0_finishRound 88 = .ok (.imul, 1) := by decide +kernel
theorem dX0_finishRound_89 : decode cX0_finishRound 89 = .ok (.iload_n 1, 1) := by decide +kernel
theorem dX0_finishRound_90 : decode cX0_finishRound 90 = .ok (.iadd, 1) := by decide +kernel
theorem dX0_finishRound_91 : decode cX0_finishRound 91 = .ok (.iaload, 1) := by decide +kernel
theorem dX0_finishRound_92 : decode cX0_finishRound 92 = .ok (.aload_n 0, 1) := by decide +kernel
theorem dX0_finishRound_93 : decode cX0_finishRound 93 = .ok (.getfield 23, 3) := by decide +kernel
theorem dX0_finishRound_96 : decode cX0_finishRound 96 = .ok (.bipush 8, 2) := by decide +kernel
theorem dX0_finishRound_98 : decode cX0_finishRound 98 = .ok (.aload_n 0, 1) := by decide +kernel
theorem dX0_finishRound_99 : decode cX0_finishRound 99 = .ok (.getfield 45, 3) := by decide +kernel
theorem dX0_finishRound_102 : decode cX0_finishRound 102 = .ok (.imul, 1) := by decide +kernel
theorem dX0_finishRound_103 : decode cX0_finishRound 103 = .ok (.bipush 8, 2) := by decide +kernel
theorem dX0_finishRound_105 : decode cX0_finishRound 105 = .ok (.isub, 1) := by decide +kernel
theorem dX0_finishRound_106 : decode cX0_finishRound 106 = .ok (.iload_n 1, 1) := by decide +kernel
theorem dX0_finishRound_107 : decode cX0_finishRound 107 = .ok (.iadd, 1) := by decide +kernel
theorem dX0_finishRound_108 : decode cX0_finishRound 108 = .ok (.iaload, 1) := by decide +kernel
theorem dX0_finishRound_109 : decode cX0_finishRound 109 = .ok (.if_icmp .ge 15, 3) := by decide +kernel
theorem dX0_finishRound_112 : decode cX0_finishRound 112 = .ok (.aload_n 0, 1) := by decide +kernel
theorem dX0_finishRound_113 : decode cX0_finishRound 113 = .ok (.dup, 1) := by decide +kernel
theorem dX0_finishRound_114 : decode cX0_finishRound 114 = .ok (.getfield 53, 3) := by decide +kernel
theorem dX0_finishRound_117 : decode cX0_finishRound 117 = .ok (.iconst 1, 1) := by decide +kernel
theorem dX0_finishRound_118 : decode cX0_finishRound 118 = .ok (.iload_n 1, 1) := by decide +kernel
theorem dX0_finishRound_119 : decode cX0_finishRound 119 = .ok (.ishl, 1) := by decide +kernel
theorem dX0_finishRound_120 : decode cX0_finishRound 120 = .ok (.ior, 1) := by decide +kernel
theorem dX0_finishRound_121 : decode cX0_finishRound 121 = .ok (.putfield 53, 3) := by decide +kernel
theorem dX0_finishRound_124 : decode cX0_finishRound 124 = .ok (.iinc 1 1, 3) := by decide +kernel
theorem dX0_finishRound_127 : decode cX0_finishRound 127 = .ok (.goto (-55), 3) := by decide +kernel
theorem dX0_finishRound_130 : decode cX0_finishRound 130 = .ok (.return_, 1) := by decide +kernel
theorem dX0_fewest_0 : decode cX0_fewest 0 = .ok (.aload_n 0, 1) := by decide +kernel
theorem dX0_fewest_1 : decode cX0_fewest 1 = .ok (.iload_n 1, 1) := by decide +kernel
theorem dX0_fewest_2 : decode cX0_fewest 2 = .ok (.invokevirtual 34, 3) := by decide +kernel
theorem dX0_fewest_5 : decode cX0_fewest 5 = .ok (.ifCond .eq 19, 3) := by decide +kernel
theorem dX0_fewest_8 : decode cX0_fewest 8 = .ok (.aload_n 0, 1) := by decide +kernel
theorem dX0_fewest_9 : decode cX0_fewest 9 = .ok (.iload_n 2, 1) := by decide +kernel
theorem dX0_fewest_10 : decode cX0_fewest 10 = .ok (.invokevirtual 34, 3) := by decide +kernel
theorem dX0_fewest_13 : decode cX0_fewest 13 = .ok (.ifCond .eq 11, 3) := by decide +kernel
theorem dX0_fewest_16 : decode cX0_fewest 16 = .ok (.aload_n 0, 1) := by decide +kernel
theorem dX0_fewest_17 : decode cX0_fewest 17 = .ok (.iload_n 3, 1) := by decide +kernel
theorem dX0_fewest_18 : decode cX0_fewest 18 = .ok (.invokevirtual 38, 3) := by decide +kernel
theorem dX0_fewest_21 : decode cX0_fewest 21 = .ok (.ifCond .ne 5, 3) := by decide +kernel
theorem dX0_fewest_24 : decode cX0_fewest 24 = .ok (.iconst (-1), 1) := by decide +kernel
theorem dX0_fewest_25 : decode cX0_fewest 25 = .ok (.ireturn, 1) := by decide +kernel
theorem dX0_fewest_26 : decode cX0_fewest 26 = .ok (.aload_n 0, 1) := by decide +kernel
theorem dX0_fewest_27 : decode cX0_fewest 27 = .ok (.iload_n 1, 1) := by decide +kernel
theorem dX0_fewest_28 : decode cX0_fewest 28 = .ok (.iload_n 3, 1) := by decide +kernel
theorem dX0_fewest_29 : decode cX0_fewest 29 = .ok (.bipush 10, 2) := by decide +kernel
theorem dX0_fewest_31 : decode cX0_fewest 31 = .ok (.invokevirtual 41, 3) := by decide +kernel
theorem dX0_fewest_34 : decode cX0_fewest 34 = .ok (.iconst 0, 1) := by decide +kernel
theorem dX0_fewest_35 : decode cX0_fewest 35 = .ok (.istore 4, 2) := by decide +kernel
theorem dX0_fewest_37 : decode cX0_fewest 37 = .ok (.iload 4, 2) := by decide +kernel
theorem dX0_fewest_39 : decode cX0_fewest 39 = .ok (.aload_n 0, 1) := by decide +kernel
theorem dX0_fewest_40 : decode cX0_fewest 40 = .ok (.getfield 45, 3) := by decide +kernel
theorem dX0_fewest_43 : decode cX0_fewest 43 = .ok (.if_icmp .gt 29, 3) := by decide +kernel
theorem dX0_fewest_46 : decode cX0_fewest 46 = .ok (.aload_n 0, 1) := by decide +kernel
theorem dX0_fewest_47 : decode cX0_fewest 47 = .ok (.getfield 23, 3) := by decide +kernel
theorem dX0_fewest_50 : decode cX0_fewest 50 = .ok (.bipush 8, 2) := by decide +kernel
theorem dX0_fewest_52 : decode cX0_fewest 52 = .ok (.iload 4, 2) := by decide +kernel
theorem dX0_fewest_54 : decode cX0_fewest 54 = .ok (.imul, 1) := by decide +kernel
theorem dX0_fewest_55 : decode cX0_fewest 55 = .ok (.iload_n 2, 1) := by decide +kernel
theorem dX0_fewest_56 : decode cX0_fewest 56 = .ok (.iadd, 1) := by decide +kernel
theorem dX0_fewest_57 : decode cX0_fewest 57 = .ok (.iaload, 1) := by decide +kernel
theorem dX0_fewest_58 : decode cX0_fewest 58 = .ok (.ldc 48, 2) := by decide +kernel
theorem dX0_fewest_60 : decode cX0_fewest 60 = .ok (.if_icmp .ge 6, 3) := by decide +kernel
theorem dX0_fewest_63 : decode cX0_fewest 63 = .ok (.iload 4, 2) := by decide +kernel
theorem dX0_fewest_65 : decode cX0_fewest 65 = .ok (.ireturn, 1) := by decide +kernel
theorem dX0_fewest_66 : decode cX0_fewest 66 = .ok (.iinc 4 1, 3) := by decide +kernel
theorem dX0_fewest_69 : decode cX0_fewest 69 = .ok (.goto (-32), 3) := by decide +kernel
theorem dX0_fewest_72 : decode cX0_fewest 72 = .ok (.bipush (-3), 2) := by decide +kernel
theorem dX0_fewest_74 : decode cX0_fewest 74 = .ok (.ireturn, 1) := by decide +kernel
theorem dX0_choices_0 : decode cX0_choices 0 = .ok (.aload_n 0, 1) := by decide +kernel
theorem dX0_choices_1 : decode cX0_choices 1 = .ok (.iload_n 1, 1) := by decide +kernel
theorem dX0_choices_2 : decode cX0_choices 2 = .ok (.invokevirtual 34, 3) := by decide +kernel
theorem dX0_choices_5 : decode cX0_choices 5 = .ok (.ifCond .eq 19, 3) := by decide +kernel
theorem dX0_choices_8 : decode cX0_choices 8 = .ok (.aload_n 0, 1) := by decide +kernel
theorem dX0_choices_9 : decode cX0_choices 9 = .ok (.iload_n 2, 1) := by decide +kernel
theorem dX0_choices_10 : decode cX0_choices 10 = .ok (.invokevirtual 34, 3) := by decide +kernel
theorem dX0_choices_13 : decode cX0_choices 13 = .ok (.ifCond .eq 11, 3) := by decide +kernel
theorem dX0_choices_16 : decode cX0_choices 16 = .ok (.aload_n 0, 1) := by decide +kernel
theorem dX0_choices_17 : decode cX0_choices 17 = .ok (.iload_n 3, 1) := by decide +kernel
theorem dX0_choices_18 : decode cX0_choices 18 = .ok (.invokevirtual 38, 3) := by decide +kernel
theorem dX0_choices_21 : decode cX0_choices 21 = .ok (.ifCond .ne 5, 3) := by decide +kernel
theorem dX0_choices_24 : decode cX0_choices 24 = .ok (.iconst (-1), 1) := by decide +kernel
theorem dX0_choices_25 : decode cX0_choices 25 = .ok (.ireturn, 1) := by decide +kernel
theorem dX0_choices_26 : decode cX0_choices 26 = .ok (.aload_n 0, 1) := by decide +kernel
theorem dX0_choices_27 : decode cX0_choices 27 = .ok (.iload_n 1, 1) := by decide +kernel
theorem dX0_choices_28 : decode cX0_choices 28 = .ok (.iload_n 3, 1) := by decide +kernel
theorem dX0_choices_29 : decode cX0_choices 29 = .ok (.bipush 10, 2) := by decide +kernel
theorem dX0_choices_31 : decode cX0_choices 31 = .ok (.invokevirtual 41, 3) := by decide +kernel
theorem dX0_choices_34 : decode cX0_choices 34 = .ok (.iconst 0, 1) := by decide +kernel
theorem dX0_choices_35 : decode cX0_choices 35 = .ok (.istore 4, 2) := by decide +kernel
theorem dX0_choices_37 : decode cX0_choices 37 = .ok (.ldc 48, 2) := by decide +kernel
theorem dX0_choices_39 : decode cX0_choices 39 = .ok (.istore 5, 2) := by decide +kernel
theorem dX0_choices_41 : decode cX0_choices 41 = .ok (.iconst 0, 1) := by decide +kernel
theorem dX0_choices_42 : decode cX0_choices 42 = .ok (.istore 6, 2) := by decide +kernel
theorem dX0_choices_44 : decode cX0_choices 44 = .ok (.iload 6, 2) := by decide +kernel
theorem dX0_choices_46 : decode cX0_choices 46 = .ok (.aload_n 0, 1) := by decide +kernel
theorem dX0_choices_47 : decode cX0_choices 47 = .ok (.getfield 45, 3) := by decide +kernel
theorem dX0_choices_50 : decode cX0_choices 50 = .ok (.if_icmp .gt 37, 3) := by decide +kernel
theorem dX0_choices_53 : decode cX0_choices 53 = .ok (.aload_n 0, 1) := by decide +kernel
theorem dX0_choices_54 : decode cX0_choices 54 = .ok (.getfield 23, 3) := by decide +kernel
theorem dX0_choices_57 : decode cX0_choices 57 = .ok (.bipush 8, 2) := by decide +kernel
theorem dX0_choices_59 : decode cX0_choices 59 = .ok (.iload 6, 2) := by decide +kernel
theorem dX0_choices_61 : decode cX0_choices 61 = .ok (.imul, 1) := by decide +kernel
theorem dX0_choices_62 : decode cX0_choices 62 = .ok (.iload_n 2, 1) := by decide +kernel
theorem dX0_choices_63 : decode cX0_choices 63 = .ok (.iadd, 1) := by decide +kernel
theorem dX0_choices_64 : decode cX0_choices 64 = .ok (.iaload, 1) := by decide +kernel
theorem dX0_choices_65 : decode cX0_choices 65 = .ok (.istore 7, 2) := by decide +kernel
theorem dX0_choices_67 : decode cX0_choices 67 = .ok (.iload 7, 2) := by decide +kernel
theorem dX0_choices_69 : decode cX0_choices 69 = .ok (.iload 5, 2) := by decide +kernel
theorem dX0_choices_71 : decode cX0_choices 71 = .ok (.if_icmp .ge 6, 3) := by decide +kernel
theorem dX0_choices_74 : decode cX0_choices 74 = .ok (.iinc 4 1, 3) := by decide +kernel
theorem dX0_choices_77 : decode cX0_choices 77 = .ok (.iload 7, 2) := by decide +kernel
theorem dX0_choices_79 : decode cX0_choices 79 = .ok (.istore 5, 2) := by decide +kernel
theorem dX0_choices_81 : decode cX0_choices 81 = .ok (.iinc 6 1, 3) := by decide +kernel
theorem dX0_choices_84 : decode cX0_choices 84 = .ok (.goto (-40), 3) := by decide +kernel
theorem dX0_choices_87 : decode cX0_choices 87 = .ok (.iload 4, 2) := by decide +kernel
theorem dX0_choices_89 : decode cX0_choices 89 = .ok (.ireturn, 1) := by decide +kernel
theorem dX0_leave_0 : decode cX0_leave 0 = .ok (.aload_n 0, 1) := by decide +kernel
theorem dX0_leave_1 : decode cX0_leave 1 = .ok (.iload_n 1, 1) := by decide +kernel
theorem dX0_leave_2 : decode cX0_leave 2 = .ok (.invokevirtual 34, 3) := by decide +kernel
theorem dX0_leave_5 : decode cX0_leave 5 = .ok (.ifCond .eq 19, 3) := by decide +kernel
theorem dX0_leave_8 : decode cX0_leave 8 = .ok (.aload_n 0, 1) := by decide +kernel
theorem dX0_leave_9 : decode cX0_leave 9 = .ok (.iload_n 2, 1) := by decide +kernel
theorem dX0_leave_10 : decode cX0_leave 10 = .ok (.invokevirtual 34, 3) := by decide +kernel
theorem dX0_leave_13 : decode cX0_leave 13 = .ok (.ifCond .eq 11, 3) := by decide +kernel
theorem dX0_leave_16 : decode cX0_leave 16 = .ok (.aload_n 0, 1) := by decide +kernel
theorem dX0_leave_17 : decode cX0_leave 17 = .ok (.iload_n 3, 1) := by decide +kernel
theorem dX0_leave_18 : decode cX0_leave 18 = .ok (.invokevirtual 38, 3) := by decide +kernel
theorem dX0_leave_21 : decode cX0_leave 21 = .ok (.ifCond .ne 5, 3) := by decide +kernel
theorem dX0_leave_24 : decode cX0_leave 24 = .ok (.iconst (-1), 1) := by decide +kernel
theorem dX0_leave_25 : decode cX0_leave 25 = .ok (.ireturn, 1) := by decide +kernel
theorem dX0_leave_26 : decode cX0_leave 26 = .ok (.iconst (-1), 1) := by decide +kernel
theorem dX0_leave_27 : decode cX0_leave 27 = .ok (.istore 4, 2) := by decide +kernel
theorem dX0_leave_29 : decode cX0_leave 29 = .ok (.sipush 1000, 3) := by decide +kernel
theorem dX0_leave_32 : decode cX0_leave 32 = .ok (.istore 5, 2) := by decide +kernel
theorem dX0_leave_34 : decode cX0_leave 34 = .ok (.iload 5, 2) := by decide +kernel
theorem dX0_leave_36 : decode cX0_leave 36 = .ok (.iload 4, 2) := by decide +kernel
theorem dX0_leave_38 : decode cX0_leave 38 = .ok (.isub, 1) := by decide +kernel
theorem dX0_leave_39 : decode cX0_leave 39 = .ok (.iconst 1, 1) := by decide +kernel
theorem dX0_leave_40 : decode cX0_leave 40 = .ok (.if_icmp .le 53, 3) := by decide +kernel
theorem dX0_leave_43 : decode cX0_leave 43 = .ok (.iload 4, 2) := by decide +kernel
theorem dX0_leave_45 : decode cX0_leave 45 = .ok (.iload 5, 2) := by decide +kernel
theorem dX0_leave_47 : decode cX0_leave 47 = .ok (.iadd, 1) := by decide +kernel
theorem dX0_leave_48 : decode cX0_leave 48 = .ok (.iconst 2, 1) := by decide +kernel
theorem dX0_leave_49 : decode cX0_leave 49 = .ok (.idiv, 1) := by decide +kernel
theorem dX0_leave_50 : decode cX0_leave 50 = .ok (.istore 6, 2) := by decide +kernel
theorem dX0_leave_52 : decode cX0_leave 52 = .ok (.aload_n 0, 1) := by decide +kernel
theorem dX0_leave_53 : decode cX0_leave 53 = .ok (.iload_n 1, 1) := by decide +kernel
theorem dX0_leave_54 : decode cX0_leave 54 = .ok (.iload 6, 2) := by decide +kernel
theorem dX0_leave_56 : decode cX0_leave 56 = .ok (.bipush 10, 2) := by decide +kernel
theorem dX0_leave_58 : decode cX0_leave 58 = .ok (.invokevirtual 41, 3) := by decide +kernel
theorem dX0_leave_61 : decode cX0_leave 61 = .ok (.aload_n 0, 1) := by decide +kernel
theorem dX0_leave_62 : decode cX0_leave 62 = .ok (.getfield 23, 3) := by decide +kernel
theorem dX0_leave_65 : decode cX0_leave 65 = .ok (.bipush 8, 2) := by decide +kernel
theorem dX0_leave_67 : decode cX0_leave 67 = .ok (.aload_n 0, 1) := by decide +kernel
theorem dX0_leave_68 : decode cX0_leave 68 = .ok (.getfield 45, 3) := by decide +kernel
theorem dX0_leave_71 : decode cX0_leave 71 = .ok (.imul, 1) := by decide +kernel
theorem dX0_leave_72 : decode cX0_leave 72 = .ok (.iload_n 2, 1) := by decide +kernel
theorem dX0_leave_73 : decode cX0_leave 73 = .ok (.iadd, 1) := by decide +kernel
theorem dX0_leave_74 : decode cX0_leave 74 = .ok (.iaload, 1) := by decide +kernel
theorem dX0_leave_75 : decode cX0_leave 75 = .ok (.iload_n 3, 1) := by decide +kernel
theorem dX0_leave_76 : decode cX0_leave 76 = .ok (.if_icmp .gt 10, 3) := by decide +kernel
theorem dX0_leave_79 : decode cX0_leave 79 = .ok (.iload 6, 2) := by decide +kernel
theorem dX0_leave_81 : decode cX0_leave 81 = .ok (.istore 4, 2) := by decide +kernel
theorem dX0_leave_83 : decode cX0_leave 83 = .ok (.goto 7, 3) := by decide +kernel
theorem dX0_leave_86 : decode cX0_leave 86 = .ok (.iload 6, 2) := by decide +kernel
theorem dX0_leave_88 : decode cX0_leave 88 = .ok (.istore 5, 2) := by decide +kernel
theorem dX0_leave_90 : decode cX0_leave 90 = .ok (.goto (-56), 3) := by decide +kernel
theorem dX0_leave_93 : decode cX0_leave 93 = .ok (.iload 4, 2) := by decide +kernel
theorem dX0_leave_95 : decode cX0_leave 95 = .ok (.ifCond .ge 8, 3) := by decide +kernel
theorem dX0_leave_98 : decode cX0_leave 98 = .ok (.bipush (-3), 2) := by decide +kernel
theorem dX0_leave_100 : decode cX0_leave 100 = .ok (.goto 5, 3) := by decide +kernel
theorem dX0_leave_103 : decode cX0_leave 103 = .ok (.iload 4, 2) := by decide +kernel
theorem dX0_leave_105 : decode cX0_leave 105 = .ok (.ireturn, 1) := by decide +kernel
theorem dX0_within_0 : decode cX0_within 0 = .ok (.aload_n 0, 1) := by decide +kernel
theorem dX0_within_1 : decode cX0_within 1 = .ok (.iload_n 1, 1) := by decide +kernel
theorem dX0_within_2 : decode cX0_within 2 = .ok (.invokevirtual 34, 3) := by decide +kernel
theorem dX0_within_5 : decode cX0_within 5 = .ok (.ifCond .eq 19, 3) := by decide +kernel
theorem dX0_within_8 : decode cX0_within 8 = .ok (.aload_n 0, 1) := by decide +kernel
theorem dX0_within_9 : decode cX0_within 9 = .ok (.iload_n 2, 1) := by decide +kernel
theorem dX0_within_10 : decode cX0_within 10 = .ok (.invokevirtual 38, 3) := by decide +kernel
theorem dX0_within_13 : decode cX0_within 13 = .ok (.ifCond .eq 11, 3) := by decide +kernel
theorem dX0_within_16 : decode cX0_within 16 = .ok (.aload_n 0, 1) := by decide +kernel
theorem dX0_within_17 : decode cX0_within 17 = .ok (.iload_n 3, 1) := by decide +kernel
theorem dX0_within_18 : decode cX0_within 18 = .ok (.invokevirtual 38, 3) := by decide +kernel
theorem dX0_within_21 : decode cX0_within 21 = .ok (.ifCond .ne 5, 3) := by decide +kernel
theorem dX0_within_24 : decode cX0_within 24 = .ok (.iconst (-1), 1) := by decide +kernel
theorem dX0_within_25 : decode cX0_within 25 = .ok (.ireturn, 1) := by decide +kernel
theorem dX0_within_26 : decode cX0_within 26 = .ok (.aload_n 0, 1) := by decide +kernel
theorem dX0_within_27 : decode cX0_within 27 = .ok (.iload_n 1, 1) := by decide +kernel
theorem dX0_within_28 : decode cX0_within 28 = .ok (.iload_n 2, 1) := by decide +kernel
theorem dX0_within_29 : decode cX0_within 29 = .ok (.bipush 10, 2) := by decide +kernel
theorem dX0_within_31 : decode cX0_within 31 = .ok (.invokevirtual 41, 3) := by decide +kernel
theorem dX0_within_34 : decode cX0_within 34 = .ok (.iconst 0, 1) := by decide +kernel
theorem dX0_within_35 : decode cX0_within 35 = .ok (.istore 4, 2) := by decide +kernel
theorem dX0_within_37 : decode cX0_within 37 = .ok (.iconst 0, 1) := by decide +kernel
theorem dX0_within_38 : decode cX0_within 38 = .ok (.istore 5, 2) := by decide +kernel
theorem dX0_within_40 : decode cX0_within 40 = .ok (.iload 5, 2) := by decide +kernel
theorem dX0_within_42 : decode cX0_within 42 = .ok (.bipush 8, 2) := by decide +kernel
theorem dX0_within_44 : decode cX0_within 44 = .ok (.if_icmp .ge 37, 3) := by decide +kernel
theorem dX0_within_47 : decode cX0_within 47 = .ok (.aload_n 0, 1) := by decide +kernel
theorem dX0_within_48 : decode cX0_within 48 = .ok (.getfield 23, 3) := by decide +kernel
theorem dX0_within_51 : decode cX0_within 51 = .ok (.bipush 8, 2) := by decide +kernel
theorem dX0_within_53 : decode cX0_within 53 = .ok (.aload_n 0, 1) := by decide +kernel
theorem dX0_within_54 : decode cX0_within 54 = .ok (.getfield 45, 3) := by decide +kernel
theorem dX0_within_57 : decode cX0_within 57 = .ok (.imul, 1) := by decide +kernel
theorem dX0_within_58 : decode cX0_within 58 = .ok (.iload 5, 2) := by decide +kernel
theorem dX0_within_60 : decode cX0_within 60 = .ok (.iadd, 1) := by decide +kernel
theorem dX0_within_61 : decode cX0_within 61 = .ok (.iaload, 1) := by decide +kernel
theorem dX0_within_62 : decode cX0_within 62 = .ok (.iload_n 3, 1) := by decide +kernel
theorem dX0_within_63 : decode cX0_within 63 = .ok (.if_icmp .gt 12, 3) := by decide +kernel
theorem dX0_within_66 : decode cX0_within 66 = .ok (.iload 4, 2) := by decide +kernel
theorem dX0_within_68 : decode cX0_within 68 = .ok (.iconst 1, 1) := by decide +kernel
theorem dX0_within_69 : decode cX0_within 69 = .ok (.iload 5, 2) := by decide +kernel
theorem dX0_within_71 : decode cX0_within 71 = .ok (.ishl, 1) := by decide +kernel
theorem dX0_within_72 : decode cX0_within 72 = .ok (.ior, 1) := by decide +kernel
theorem dX0_within_73 : decode cX0_within 73 = .ok (.istore 4, 2) := by decide +kernel
theorem dX0_within_75 : decode cX0_within 75 = .ok (.iinc 5 1, 3) := by decide +kernel
theorem dX0_within_78 : decode cX0_within 78 = .ok (.goto (-38), 3) := by decide +kernel
theorem dX0_within_81 : decode cX0_within 81 = .ok (.iload 4, 2) := by decide +kernel
theorem dX0_within_83 : decode cX0_within 83 = .ok (.ireturn, 1) := by decide +kernel
end
section
set_option maxRecDepth 100000
theorem dX1_init_0 : decode cX1_init 0 = .ok (.aload_n 0, 1) := by decide +kernel
theorem dX1_init_1 : decode cX1_init 1 = .ok (.invokespecial 1, 3) := by decide +kernel
theorem dX1_init_4 : decode cX1_init 4 = .ok (.aload_n 0, 1) := by decide +kernel
theorem dX1_init_5 : decode cX1_init 5 = .ok (.bipush 10, 2) := by decide +kernel
theorem dX1_init_7 : decode cX1_init 7 = .ok (.newarray .int, 2) := by decide +kernel
theorem dX1_init_9 : decode cX1_init 9 = .ok (.putfield 7, 3) := by decide +kernel
theorem dX1_init_12 : decode cX1_init 12 = .ok (.aload_n 0, 1) := by decide +kernel
theorem dX1_init_13 : decode cX1_init 13 = .ok (.bipush 50, 2) := by decide +kernel
theorem dX1_init_15 : decode cX1_init 15 = .ok (.newarray .int, 2) := by decide +kernel
theorem dX1_init_17 : decode cX1_init 17 = .ok (.putfield 13, 3) := by decide +kernel
theorem dX1_init_20 : decode cX1_init 20 = .ok (.aload_n 0, 1) := by decide +kernel
theorem dX1_init_21 : decode cX1_init 21 = .ok (.bipush 50, 2) := by decide +kernel
theorem dX1_init_23 : decode cX1_init 23 = .ok (.newarray .int, 2) := by decide +kernel
theorem dX1_init_25 : decode cX1_init 25 = .ok (.putfield 16, 3) := by decide +kernel
theorem dX1_init_28 : decode cX1_init 28 = .ok (.aload_n 0, 1) := by decide +kernel
theorem dX1_init_29 : decode cX1_init 29 = .ok (.bipush 64, 2) := by decide +kernel
theorem dX1_init_31 : decode cX1_init 31 = .ok (.newarray .int, 2) := by decide +kernel
theorem dX1_init_33 : decode cX1_init 33 = .ok (.putfield 19, 3) := by decide +kernel
theorem dX1_init_36 : decode cX1_init 36 = .ok (.aload_n 0, 1) := by decide +kernel
theorem dX1_init_37 : decode cX1_init 37 = .ok (.bipush 88, 2) := by decide +kernel
theorem dX1_init_39 : decode cX1_init 39 = .ok (.newarray .int, 2) := by decide +kernel
theorem dX1_init_41 : decode cX1_init 41 = .ok (.putfield 22, 3) := by decide +kernel
theorem dX1_init_44 : decode cX1_init 44 = .ok (.aload_n 0, 1) := by decide +kernel
theorem dX1_init_45 : decode cX1_init 45 = .ok (.bipush 88, 2) := by decide +kernel
theorem dX1_init_47 : decode cX1_init 47 = .ok (.newarray .int, 2) := by decide +kernel
theorem dX1_init_49 : decode cX1_init 49 = .ok (.putfield 25, 3) := by decide +kernel
theorem dX1_init_52 : decode cX1_init 52 = .ok (.return_, 1) := by decide +kernel
theorem dX1_trip_0 : decode cX1_trip 0 = .ok (.aload_n 0, 1) := by decide +kernel
theorem dX1_trip_1 : decode cX1_trip 1 = .ok (.getfield 28, 3) := by decide +kernel
theorem dX1_trip_4 : decode cX1_trip 4 = .ok (.bipush 10, 2) := by decide +kernel
theorem dX1_trip_6 : decode cX1_trip 6 = .ok (.if_icmp .ne 6, 3) := by decide +kernel
theorem dX1_trip_9 : decode cX1_trip 9 = .ok (.bipush (-2), 2) := by decide +kernel
theorem dX1_trip_11 : decode cX1_trip 11 = .ok (.ireturn, 1) := by decide +kernel
theorem dX1_trip_12 : decode cX1_trip 12 = .ok (.aload_n 0, 1) := by decide +kernel
theorem dX1_trip_13 : decode cX1_trip 13 = .ok (.iload_n 1, 1) := by decide +kernel
theorem dX1_trip_14 : decode cX1_trip 14 = .ok (.invokevirtual 32, 3) := by decide +kernel
theorem dX1_trip_17 : decode cX1_trip 17 = .ok (.ifCond .eq 11, 3) := by decide +kernel
theorem dX1_trip_20 : decode cX1_trip 20 = .ok (.aload_n 0, 1) := by decide +kernel
theorem dX1_trip_21 : decode cX1_trip 21 = .ok (.iload_n 2, 1) := by decide +kernel
theorem dX1_trip_22 : decode cX1_trip 22 = .ok (.invokevirtual 36, 3) := by decide +kernel
theorem dX1_trip_25 : decode cX1_trip 25 = .ok (.ifCond .ne 5, 3) := by decide +kernel
theorem dX1_trip_28 : decode cX1_trip 28 = .ok (.iconst (-1), 1) := by decide +kernel
theorem dX1_trip_29 : decode cX1_trip 29 = .ok (.ireturn, 1) := by decide +kernel
theorem dX1_trip_30 : decode cX1_trip 30 = .ok (.aload_n 0, 1) := by decide +kernel
theorem dX1_trip_31 : decode cX1_trip 31 = .ok (.getfield 13, 3) := by decide +kernel
theorem dX1_trip_34 : decode cX1_trip 34 = .ok (.aload_n 0, 1) := by decide +kernel
theorem dX1_trip_35 : decode cX1_trip 35 = .ok (.getfield 28, 3) := by decide +kernel
theorem dX1_trip_38 : decode cX1_trip 38 = .ok (.iconst 5, 1) := by decide +kernel
theorem dX1_trip_39 : decode cX1_trip 39 = .ok (.imul, 1) := by decide +kernel
theorem dX1_trip_40 : decode cX1_trip 40 = .ok (.iload_n 1, 1) := by decide +kernel
theorem dX1_trip_41 : decode cX1_trip 41 = .ok (.iastore, 1) := by decide +kernel
theorem dX1_trip_42 : decode cX1_trip 42 = .ok (.aload_n 0, 1) := by decide +kernel
theorem dX1_trip_43 : decode cX1_trip 43 = .ok (.getfield 16, 3) := by decide +kernel
theorem dX1_trip_46 : decode cX1_trip 46 = .ok (.aload_n 0, 1) := by decide +kernel
theorem dX1_trip_47 : decode cX1_trip 47 = .ok (.getfield 28, 3) := by decide +kernel
theorem dX1_trip_50 : decode cX1_trip 50 = .ok (.iconst 5, 1) := by decide +kernel
theorem dX1_trip_51 : decode cX1_trip 51 = .ok (.imul, 1) := by decide +kernel
theorem dX1_trip_52 : decode cX1_trip 52 = .ok (.iload_n 2, 1) := by decide +kernel
theorem dX1_trip_53 : decode cX1_trip 53 = .ok (.iastore, 1) := by decide +kernel
theorem dX1_trip_54 : decode cX1_trip 54 = .ok (.aload_n 0, 1) := by decide +kernel
theorem dX1_trip_55 : decode cX1_trip 55 = .ok (.getfield 7, 3) := by decide +kernel
theorem dX1_trip_58 : decode cX1_trip 58 = .ok (.aload_n 0, 1) := by decide +kernel
theorem dX1_trip_59 : decode cX1_trip 59 = .ok (.getfield 28, 3) := by decide +kernel
theorem dX1_trip_62 : decode cX1_trip 62 = .ok (.iconst 1, 1) := by decide +kernel
theorem dX1_trip_63 : decode cX1_trip 63 = .ok (.iastore, 1) := by decide +kernel
theorem dX1_trip_64 : decode cX1_trip 64 = .ok (.aload_n 0, 1) := by decide +kernel
theorem dX1_trip_65 : decode cX1_trip 65 = .ok (.dup, 1) := by decide +kernel
theorem dX1_trip_66 : decode cX1_trip 66 = .ok (.getfield 28, 3) := by decide +kernel
theorem dX1_trip_69 : decode cX1_trip 69 = .ok (.iconst 1, 1) := by decide +kernel
theorem dX1_trip_70 : decode cX1_trip 70 = .ok (.iadd, 1) := by decide +kernel
theorem dX1_trip_71 : decode cX1_trip 71 = .ok (.putfield 28, 3) := by decide +kernel
theorem dX1_trip_74 : decode cX1_trip 74 = .ok (.aload_n 0, 1) := by decide +kernel
theorem dX1_trip_75 : decode cX1_trip 75 = .ok (.getfield 28, 3) := by decide +kernel
theorem dX1_trip_78 : decode cX1_trip 78 = .ok (.iconst 1, 1) := by decide +kernel
theorem dX1_trip_79 : decode cX1_trip 79 = .ok (.isub, 1) := by decide +kernel
theorem dX1_trip_80 : decode cX1_trip 80 = .ok (.ireturn, 1) := by decide +kernel
theorem dX1_isStop_0 : decode cX1_isStop 0 = .ok (.iload_n 1, 1) := by decide +kernel
theorem dX1_isStop_1 : decode cX1_isStop 1 = .ok (.ifCond .lt 13, 3) := by decide +kernel
theorem dX1_isStop_4 : decode cX1_isStop 4 = .ok (.iload_n 1, 1) := by decide +kernel
theorem dX1_isStop_5 : decode cX1_isStop 5 = .ok (.bipush 8, 2) := by decide +kernel
theorem dX1_isStop_7 : decode cX1_isStop 7 = .ok (.if_icmp .ge 7, 3) := by decide +kernel
theorem dX1_isStop_10 : decode cX1_isStop 10 = .ok (.iconst 1, 1) := by decide +kernel
theorem dX1_isStop_11 : decode cX1_isStop 11 = .ok (.goto 4, 3) := by decide +kernel
theorem dX1_isStop_14 : decode cX1_isStop 14 = .ok (.iconst 0, 1) := by decide +kernel
theorem dX1_isStop_15 : decode cX1_isStop 15 = .ok (.ireturn, 1) := by decide +kernel
theorem dX1_isTime_0 : decode cX1_isTime 0 = .ok (.iload_n 1, 1) := by decide +kernel
theorem dX1_isTime_1 : decode cX1_isTime 1 = .ok (.ifCond .lt 14, 3) := by decide +kernel
theorem dX1_isTime_4 : decode cX1_isTime 4 = .ok (.iload_n 1, 1) := by decide +kernel
theorem dX1_isTime_5 : decode cX1_isTime 5 = .ok (.sipush 999, 3) := by decide +kernel
theorem dX1_isTime_8 : decode cX1_isTime 8 = .ok (.if_icmp .gt 7, 3) := by decide +kernel
theorem dX1_isTime_11 : decode cX1_isTime 11 = .ok (.iconst 1, 1) := by decide +kernel
theorem dX1_isTime_12 : decode cX1_isTime 12 = .ok (.goto 4, 3) := by decide +kernel
theorem dX1_isTime_15 : decode cX1_isTime 15 = .ok (.iconst 0, 1) := by decide +kernel
theorem dX1_isTime_16 : decode cX1_isTime 16 = .ok (.ireturn, 1) := by decide +kernel
theorem dX1_call_0 : decode cX1_call 0 = .ok (.aload_n 0, 1) := by decide +kernel
theorem dX1_call_1 : decode cX1_call 1 = .ok (.getfield 28, 3) := by decide +kernel
theorem dX1_call_4 : decode cX1_call 4 = .ok (.ifCond .eq 19, 3) := by decide +kernel
theorem dX1_call_7 : decode cX1_call 7 = .ok (.aload_n 0, 1) := by decide +kernel
theorem dX1_call_8 : decode cX1_call 8 = .ok (.iload_n 1, 1) := by decide +kernel
theorem dX1_call_9 : decode cX1_call 9 = .ok (.invokevirtual 32, 3) := by decide +kernel
theorem dX1_call_12 : decode cX1_call 12 = .ok (.ifCond .eq 11, 3) := by decide +kernel
theorem dX1_call_15 : decode cX1_call 15 = .ok (.aload_n 0, 1) := by decide +kernel
theorem dX1_call_16 : decode cX1_call 16 = .ok (.iload_n 2, 1) := by decide +kernel
theorem dX1_call_17 : decode cX1_call 17 = .ok (.invokevirtual 36, 3) := by decide +kernel
theorem dX1_call_20 : decode cX1_call 20 = .ok (.ifCond .ne 5, 3) := by decide +kernel
theorem dX1_call_23 : decode cX1_call 23 = .ok (.iconst (-1), 1) := by decide +kernel
theorem dX1_call_24 : decode cX1_call 24 = .ok (.ireturn, 1) := by decide +kernel
theorem dX1_call_25 : decode cX1_call 25 = .ok (.aload_n 0, 1) := by decide +kernel
theorem dX1_call_26 : decode cX1_call 26 = .ok (.getfield 28, 3) := by decide +kernel
theorem dX1_call_29 : decode cX1_call 29 = .ok (.iconst 1, 1) := by decide +kernel
theorem dX1_call_30 : decode cX1_call 30 = .ok (.isub, 1) := by decide +kernel
theorem dX1_call_31 : decode cX1_call 31 = .ok (.istore_n 3, 1) := by decide +kernel
theorem dX1_call_32 : decode cX1_call 32 = .ok (.aload_n 0, 1) := by decide +kernel
theorem dX1_call_33 : decode cX1_call 33 = .ok (.getfield 7, 3) := by decide +kernel
theorem dX1_call_36 : decode cX1_call 36 = .ok (.iload_n 3, 1) := by decide +kernel
theorem dX1_call_37 : decode cX1_call 37 = .ok (.iaload, 1) := by decide +kernel
theorem dX1_call_38 : decode cX1_call 38 = .ok (.iconst 5, 1) := by decide +kernel
theorem dX1_call_39 : decode cX1_call 39 = .ok (.if_icmp .ne 6, 3) := by decide +kernel
theorem dX1_call_42 : decode cX1_call 42 = .ok (.bipush (-2), 2) := by decide +kernel
theorem dX1_call_44 : decode cX1_call 44 = .ok (.ireturn, 1) := by decide +kernel
theorem dX1_call_45 : decode cX1_call 45 = .ok (.iconst 0, 1) := by decide +kernel
theorem dX1_call_46 : decode cX1_call 46 = .ok (.istore 4, 2) := by decide +kernel
theorem dX1_call_48 : decode cX1_call 48 = .ok (.iload 4, 2) := by decide +kernel
theorem dX1_call_50 : decode cX1_call 50 = .ok (.aload_n 0, 1) := by decide +kernel
theorem dX1_call_51 : decode cX1_call 51 = .ok (.getfield 7, 3) := by decide +kernel
theorem dX1_call_54 : decode cX1_call 54 = .ok (.iload_n 3, 1) := by decide +kernel
theorem dX1_call_55 : decode cX1_call 55 = .ok (.iaload, 1) := by decide +kernel
theorem dX1_call_56 : decode cX1_call 56 = .ok (.if_icmp .ge 26, 3) := by decide +kernel
theorem dX1_call_59 : decode cX1_call 59 = .ok (.aload_n 0, 1) := by decide +kernel
theorem dX1_call_60 : decode cX1_call 60 = .ok (.getfield 13, 3) := by decide +kernel
theorem dX1_call_63 : decode cX1_call 63 = .ok (.iload_n 3, 1) := by decide +kernel
theorem dX1_call_64 : decode cX1_call 64 = .ok (.iconst 5, 1) := by decide +kernel
theorem dX1_call_65 : decode cX1_call 65 = .ok (.imul, 1) := by decide +kernel
theorem dX1_call_66 : decode cX1_call 66 = .ok (.iload 4, 2) := by decide +kernel
theorem dX1_call_68 : decode cX1_call 68 = .ok (.iadd, 1) := by decide +kernel
theorem dX1_call_69 : decode cX1_call 69 = .ok (.iaload, 1) := by decide +kernel
theorem dX1_call_70 : decode cX1_call 70 = .ok (.iload_n 1, 1) := by decide +kernel
theorem dX1_call_71 : decode cX1_call 71 = .ok (.if_icmp .ne 5, 3) := by decide +kernel
theorem dX1_call_74 : decode cX1_call 74 = .ok (.iconst (-1), 1) := by decide +kernel
theorem dX1_call_75 : decode cX1_call 75 = .ok (.ireturn, 1) := by decide +kernel
theorem dX1_call_76 : decode cX1_call 76 = .ok (.iinc 4 1, 3) := by decide +kernel
theorem dX1_call_79 : decode cX1_call 79 = .ok (.goto (-31), 3) := by decide +kernel
theorem dX1_call_82 : decode cX1_call 82 = .ok (.iload_n 2, 1) := by decide +kernel
theorem dX1_call_83 : decode cX1_call 83 = .ok (.aload_n 0, 1) := by decide +kernel
theorem dX1_call_84 : decode cX1_call 84 = .ok (.getfield 16, 3) := by decide +kernel
theorem dX1_call_87 : decode cX1_call 87 = .ok (.iload_n 3, 1) := by decide +kernel
theorem dX1_call_88 : decode cX1_call 88 = .ok (.iconst 5, 1) := by decide +kernel
theorem dX1_call_89 : decode cX1_call 89 = .ok (.imul, 1) := by decide +kernel
theorem dX1_call_90 : decode cX1_call 90 = .ok (.aload_n 0, 1) := by decide +kernel
theorem dX1_call_91 : decode cX1_call 91 = .ok (.getfield 7, 3) := by decide +kernel
theorem dX1_call_94 : decode cX1_call 94 = .ok (.iload_n 3, 1) := by decide +kernel
theorem dX1_call_95 : decode cX1_call 95 = .ok (.iaload, 1) := by decide +kernel
theorem dX1_call_96 : decode cX1_call 96 = .ok (.iadd, 1) := by decide +kernel
theorem dX1_call_97 : decode cX1_call 97 = .ok (.iconst 1, 1) := by decide +kernel
theorem dX1_call_98 : decode cX1_call 98 = .ok (.isub, 1) := by decide +kernel
theorem dX1_call_99 : decode cX1_call 99 = .ok (.iaload, 1) := by decide +kernel
theorem dX1_call_100 : decode cX1_call 100 = .ok (.if_icmp .ge 5, 3) := by decide +kernel
theorem dX1_call_103 : decode cX1_call 103 = .ok (.iconst (-1), 1) := by decide +kernel
theorem dX1_call_104 : decode cX1_call 104 = .ok (.ireturn, 1) := by decide +kernel
theorem dX1_call_105 : decode cX1_call 105 = .ok (.aload_n 0, 1) := by decide +kernel
theorem dX1_call_106 : decode cX1_call 106 = .ok (.getfield 13, 3) := by decide +kernel
theorem dX1_call_109 : decode cX1_call 109 = .ok (.iload_n 3, 1) := by decide +kernel
theorem dX1_call_110 : decode cX1_call 110 = .ok (.iconst 5, 1) := by decide +kernel
theorem dX1_call_111 : decode cX1_call 111 = .ok (.imul, 1) := by decide +kernel
theorem dX1_call_112 : decode cX1_call 112 = .ok (.aload_n 0, 1) := by decide +kernel
theorem dX1_call_113 : decode cX1_call 113 = .ok (.getfield 7, 3) := by decide +kernel
theorem dX1_call_116 : decode cX1_call 116 = .ok (.iload_n 3, 1) := by decide +kernel
theorem dX1_call_117 : decode cX1_call 117 = .ok (.iaload, 1) := by decide +kernel
theorem dX1_call_118 : decode cX1_call 118 = .ok (.iadd, 1) := by decide +kernel
theorem dX1_call_119 : decode cX1_call 119 = .ok (.iload_n 1, 1) := by decide +kernel
theorem dX1_call_120 : decode cX1_call 120 = .ok (.iastore, 1) := by decide +kernel
theorem dX1_call_121 : decode cX1_call 121 = .ok (.aload_n 0, 1) := by decide +kernel
theorem dX1_call_122 : decode cX1_call 122 = .ok (.getfield 16, 3) := by decide +kernel
theorem dX1_call_125 : decode cX1_call 125 = .ok (.iload_n 3, 1) := by decide +kernel
theorem dX1_call_126 : decode cX1_call 126 = .ok (.iconst 5, 1) := by decide +kernel
theorem dX1_call_127 : decode cX1_call 127 = .ok (.imul, 1) := by decide +kernel
theorem dX1_call_128 : decode cX1_call 128 = .ok (.aload_n 0, 1) := by decide +kernel
theorem dX1_call_129 : decode cX1_call 129 = .ok (.getfield 7, 3) := by decide +kernel
theorem dX1_call_132 : decode cX1_call 132 = .ok (.iload_n 3, 1) := by decide +kernel
theorem dX1_call_133 : decode cX1_call 133 = .ok (.iaload, 1) := by decide +kernel
theorem dX1_call_134 : decode cX1_call 134 = .ok (.iadd, 1) := by decide +kernel
theorem dX1_call_135 : decode cX1_call 135 = .ok (.iload_n 2, 1) := by decide +kernel
theorem dX1_call_136 : decode cX1_call 136 = .ok (.iastore, 1) := by decide +kernel
theorem dX1_call_137 : decode cX1_call 137 = .ok (.aload_n 0, 1) := by decide +kernel
theorem dX1_call_138 : decode cX1_call 138 = .ok (.getfield 7, 3) := by decide +kernel
theorem dX1_call_141 : decode cX1_call 141 = .ok (.iload_n 3, 1) := by decide +kernel
theorem dX1_call_142 : decode cX1_call 142 = .ok (.dup2, 1) := by decide +kernel
theorem dX1_call_143 : decode cX1_call 143 = .ok (.iaload, 1) := by decide +kernel
theorem dX1_call_144 : decode cX1_call 144 = .ok (.iconst 1, 1) := by decide +kernel
theorem dX1_call_145 : decode cX1_call 145 = .ok (.iadd, 1) := by decide +kernel
theorem dX1_call_146 : decode cX1_call 146 = .ok (.iastore, 1) := by decide +kernel
theorem dX1_call_147 : decode cX1_call 147 = .ok (.aload_n 0, 1) := by decide +kernel
theorem dX1_call_148 : decode cX1_call 148 = .ok (.getfield 7, 3) := by decide +kernel
theorem dX1_call_151 : decode cX1_call 151 = .ok (.iload_n 3, 1) := by decide +kernel
theorem dX1_call_152 : decode cX1_call 152 = .ok (.iaload, 1) := by decide +kernel
theorem dX1_call_153 : decode cX1_call 153 = .ok (.ireturn, 1) := by decide +kernel
theorem dX1_cancel_0 : decode cX1_cancel 0 = .ok (.iload_n 1, 1) := by decide +kernel
theorem dX1_cancel_1 : decode cX1_cancel 1 = .ok (.ifCond .lt 11, 3) := by decide +kernel
theorem dX1_cancel_4 : decode cX1_cancel 4 = .ok (.iload_n 1, 1) := by decide +kernel
theorem dX1_cancel_5 : decode cX1_cancel 5 = .ok (.aload_n 0, 1) := by decide +kernel
theorem dX1_cancel_6 : decode cX1_cancel 6 = .ok (.getfield 28, 3) := by decide +kernel
theorem dX1_cancel_9 : decode cX1_cancel 9 = .ok (.if_icmp .lt 5, 3) := by decide +kernel
theorem dX1_cancel_12 : decode cX1_cancel 12 = .ok (.iconst (-1), 1) := by decide +kernel
theorem dX1_cancel_13 : decode cX1_cancel 13 = .ok (.ireturn, 1) := by decide +kernel
theorem dX1_cancel_14 : decode cX1_cancel 14 = .ok (.aload_n 0, 1) := by decide +kernel
theorem dX1_cancel_15 : decode cX1_cancel 15 = .ok (.dup, 1) := by decide +kernel
theorem dX1_cancel_16 : decode cX1_cancel 16 = .ok (.getfield 28, 3) := by decide +kernel
theorem dX1_cancel_19 : decode cX1_cancel 19 = .ok (.iconst 1, 1) := by decide +kernel
theorem dX1_cancel_20 : decode cX1_cancel 20 = .ok (.isub, 1) := by decide +kernel
theorem dX1_cancel_21 : decode cX1_cancel 21 = .ok (.putfield 28, 3) := by decide +kernel
theorem dX1_cancel_24 : decode cX1_cancel 24 = .ok (.iload_n 1, 1) := by decide +kernel
theorem dX1_cancel_25 : decode cX1_cancel 25 = .ok (.istore_n 2, 1) := by decide +kernel
theorem dX1_cancel_26 : decode cX1_cancel 26 = .ok (.iload_n 2, 1) := by decide +kernel
theorem dX1_cancel_27 : decode cX1_cancel 27 = .ok (.aload_n 0, 1) := by decide +kernel
theorem dX1_cancel_28 : decode cX1_cancel 28 = .ok (.getfield 28, 3) := by decide +kernel
theorem dX1_cancel_31 : decode cX1_cancel 31 = .ok (.if_icmp .ge 23, 3) := by decide +kernel
theorem dX1_cancel_34 : decode cX1_cancel 34 = .ok (.aload_n 0, 1) := by decide +kernel
theorem dX1_cancel_35 : decode cX1_cancel 35 = .ok (.getfield 7, 3) := by decide +kernel
theorem dX1_cancel_38 : decode cX1_cancel 38 = .ok (.iload_n 2, 1) := by decide +kernel
theorem dX1_cancel_39 : decode cX1_cancel 39 = .ok (.aload_n 0, 1) := by decide +kernel
theorem dX1_cancel_40 : decode cX1_cancel 40 = .ok (.getfield 7, 3) := by decide +kernel
theorem dX1_cancel_43 : decode cX1_cancel 43 = .ok (.iload_n 2, 1) := by decide +kernel
theorem dX1_cancel_44 : decode cX1_cancel 44 = .ok (.iconst 1, 1) := by decide +kernel
theorem dX1_cancel_45 : decode cX1_cancel 45 = .ok (.iadd, 1) := by decide +kernel
theorem dX1_cancel_46 : decode cX1_cancel 46 = .ok (.iaload, 1) := by decide +kernel
theorem dX1_cancel_47 : decode cX1_cancel 47 = .ok (.iastore, 1) := by decide +kernel
theorem dX1_cancel_48 : decode cX1_cancel 48 = .ok (.iinc 2 1, 3) := by decide +kernel
theorem dX1_cancel_51 : decode cX1_cancel 51 = .ok (.goto (-25), 3) := by decide +kernel
theorem dX1_cancel_54 : decode cX1_cancel 54 = .ok (.iload_n 1, 1) := by decide +kernel
theorem dX1_cancel_55 : decode cX1_cancel 55 = .ok (.iconst 5, 1) := by decide +kernel
theorem dX1_cancel_56 : decode cX1_cancel 56 = .ok (.imul, 1) := by decide +kernel
theorem dX1_cancel_57 : decode cX1_cancel 57 = .ok (.istore_n 2, 1) := by decide +kernel
theorem dX1_cancel_58 : decode cX1_cancel 58 = .ok (.iload_n 2, 1) := by decide +kernel
theorem dX1_cancel_59 : decode cX1_cancel 59 = .ok (.aload_n 0, 1) := by decide +kernel
theorem dX1_cancel_60 : decode cX1_cancel 60 = .ok (.getfield 28, 3) := by decide +kernel
theorem dX1_cancel_63 : decode cX1_cancel 63 = .ok (.iconst 5, 1) := by decide +kernel
theorem dX1_cancel_64 : decode cX1_cancel 64 = .ok (.imul, 1) := by decide +kernel
theorem dX1_cancel_65 : decode cX1_cancel 65 = .ok (.if_icmp .ge 37, 3) := by decide +kernel
theorem dX1_cancel_68 : decode cX1_cancel 68 = .ok (.aload_n 0, 1) := by decide +kernel
theorem dX1_cancel_69 : decode cX1_cancel 69 = .ok (.getfield 13, 3) := by decide +kernel
theorem dX1_cancel_72 : decode cX1_cancel 72 = .ok (.iload_n 2, 1) := by decide +kernel
theorem dX1_cancel_73 : decode cX1_cancel 73 = .ok (.aload_n 0, 1) := by decide +kernel
theorem dX1_cancel_74 : decode cX1_cancel 74 = .ok (.getfield 13, 3) := by decide +kernel
theorem dX1_cancel_77 : decode cX1_cancel 77 = .ok (.iload_n 2, 1) := by decide +kernel
theorem dX1_cancel_78 : decode cX1_cancel 78 = .ok (.iconst 5, 1) := by decide +kernel
theorem dX1_cancel_79 : decode cX1_cancel 79 = .ok (.iadd, 1) := by decide +kernel
theorem dX1_cancel_80 : decode cX1_cancel 80 = .ok (.iaload, 1) := by decide +kernel
theorem dX1_cancel_81 : decode cX1_cancel 81 = .ok (.iastore, 1) := by decide +kernel
theorem dX1_cancel_82 : decode cX1_cancel 82 = .ok (.aload_n 0, 1) := by decide +kernel
theorem dX1_cancel_83 : decode cX1_cancel 83 = .ok (.getfield 16, 3) := by decide +kernel
theorem dX1_cancel_86 : decode cX1_cancel 86 = .ok (.iload_n 2, 1) := by decide +kernel
theorem dX1_cancel_87 : decode cX1_cancel 87 = .ok (.aload_n 0, 1) := by decide +kernel
theorem dX1_cancel_88 : decode cX1_cancel 88 = .ok (.getfield 16, 3) := by decide +kernel
theorem dX1_cancel_91 : decode cX1_cancel 91 = .ok (.iload_n 2, 1) := by decide +kernel
theorem dX1_cancel_92 : decode cX1_cancel 92 = .ok (.iconst 5, 1) := by decide +kernel
theorem dX1_cancel_93 : decode cX1_cancel 93 = .ok (.iadd, 1) := by decide +kernel
theorem dX1_cancel_94 : decode cX1_cancel 94 = .ok (.iaload, 1) := by decide +kernel
theorem dX1_cancel_95 : decode cX1_cancel 95 = .ok (.iastore, 1) := by decide +kernel
theorem dX1_cancel_96 : decode cX1_cancel 96 = .ok (.iinc 2 1, 3) := by decide +kernel
theorem dX1_cancel_99 : decode cX1_cancel 99 = .ok (.goto (-41), 3) := by decide +kernel
theorem dX1_cancel_102 : decode cX1_cancel 102 = .ok (.aload_n 0, 1) := by decide +kernel
theorem dX1_cancel_103 : decode cX1_cancel 103 = .ok (.getfield 28, 3) := by decide +kernel
theorem dX1_cancel_106 : decode cX1_cancel 106 = .ok (.ireturn, 1) := by decide +kernel
theorem dX1_delay_0 : decode cX1_delay 0 = .ok (.iload_n 1, 1) := by decide +kernel
theorem dX1_delay_1 : decode cX1_delay 1 = .ok (.ifCond .lt 35, 3) := by decide +kernel
theorem dX1_delay_4 : decode cX1_delay 4 = .ok (.iload_n 1, 1) := by decide +kernel
theorem dX1_delay_5 : decode cX1_delay 5 = .ok (.aload_n 0, 1) := by decide +kernel
theorem dX1_delay_6 : decode cX1_delay 6 = .ok (.getfield 28, 3) := by decide +kernel
theorem dX1_delay_9 : decode cX1_delay 9 = .ok (.if_icmp .ge 27, 3) := by decide +kernel
theorem dX1_delay_12 : decode cX1_delay 12 = .ok (.iload_n 2, 1) := by decide +kernel
theorem dX1_delay_13 : decode cX1_delay 13 = .ok (.ifCond .lt 23, 3) := by decide +kernel
theorem dX1_delay_16 : decode cX1_delay 16 = .ok (.iload_n 2, 1) := by decide +kernel
theorem dX1_delay_17 : decode cX1_delay 17 = .ok (.aload_n 0, 1) := by decide +kernel
theorem dX1_delay_18 : decode cX1_delay 18 = .ok (.getfield 7, 3) := by decide +kernel
theorem dX1_delay_21 : decode cX1_delay 21 = .ok (.iload_n 1, 1) := by decide +kernel
theorem dX1_delay_22 : decode cX1_delay 22 = .ok (.iaload, 1) := by decide +kernel
theorem dX1_delay_23 : decode cX1_delay 23 = .ok (.if_icmp .ge 13, 3) := by decide +kernel
theorem dX1_delay_26 : decode cX1_delay 26 = .ok (.iload_n 3, 1) := by decide +kernel
theorem dX1_delay_27 : decode cX1_delay 27 = .ok (.ifCond .lt 9, 3) := by decide +kernel
theorem dX1_delay_30 : decode cX1_delay 30 = .ok (.iload_n 3, 1) := by decide +kernel
theorem dX1_delay_31 : decode cX1_delay 31 = .ok (.bipush 99, 2) := by decide +kernel
theorem dX1_delay_33 : decode cX1_delay 33 = .ok (.if_icmp .le 5, 3) := by decide +kernel
theorem dX1_delay_36 : decode cX1_delay 36 = .ok (.iconst 0, 1) := by decide +kernel
theorem dX1_delay_37 : decode cX1_delay 37 = .ok (.ireturn, 1) := by decide +kernel
theorem dX1_delay_38 : decode cX1_delay 38 = .ok (.iload_n 2, 1) := by decide +kernel
theorem dX1_delay_39 : decode cX1_delay 39 = .ok (.istore 4, 2) := by decide +kernel
theorem dX1_delay_41 : decode cX1_delay 41 = .ok (.iload 4, 2) := by decide +kernel
theorem dX1_delay_43 : decode cX1_delay 43 = .ok (.aload_n 0, 1) := by decide +kernel
theorem dX1_delay_44 : decode cX1_delay 44 = .ok (.getfield 7, 3) := by decide +kernel
theorem dX1_delay_47 : decode cX1_delay 47 = .ok (.iload_n 1, 1) := by decide +kernel
theorem dX1_delay_48 : decode cX1_delay 48 = .ok (.iaload, 1) := by decide +kernel
theorem dX1_delay_49 : decode cX1_delay 49 = .ok (.if_icmp .ge 30, 3) := by decide +kernel
theorem dX1_delay_52 : decode cX1_delay 52 = .ok (.aload_n 0, 1) := by decide +kernel
theorem dX1_delay_53 : decode cX1_delay 53 = .ok (.getfield 16, 3) := by decide +kernel
theorem dX1_delay_56 : decode cX1_delay 56 = .ok (.iload_n 1, 1) := by decide +kernel
theorem dX1_delay_57 : decode cX1_delay 57 = .ok (.iconst 5, 1) := by decide +kernel
theorem dX1_delay_58 : decode cX1_delay 58 = .ok (.imul, 1) := by decide +kernel
theorem dX1_delay_59 : decode cX1_delay 59 = .ok (.iload 4, 2) := by decide +kernel
theorem dX1_delay_61 : decode cX1_delay 61 = .ok (.iadd, 1) := by decide +kernel
theorem dX1_delay_62 : decode cX1_delay 62 = .ok (.iaload, 1) := by decide +kernel
theorem dX1_delay_63 : decode cX1_delay 63 = .ok (.iload_n 3, 1) := by decide +kernel
theorem dX1_delay_64 : decode cX1_delay 64 = .ok (.iadd, 1) := by decide +kernel
theorem dX1_delay_65 : decode cX1_delay 65 = .ok (.sipush 999, 3) := by decide +kernel
theorem dX1_delay_68 : decode cX1_delay 68 = .ok (.if_icmp .le 5, 3) := by decide +kernel
theorem dX1_delay_71 : decode cX1_delay 71 = .ok (.iconst 0, 1) := by decide +kernel
theorem dX1_delay_72 : decode cX1_delay 72 = .ok (.ireturn, 1) := by decide +kernel
theorem dX1_delay_73 : decode cX1_delay 73 = .ok (.iinc 4 1, 3) := by decide +kernel
theorem dX1_delay_76 : decode cX1_delay 76 = .ok (.goto (-35), 3) := by decide +kernel
theorem dX1_delay_79 : decode cX1_delay 79 = .ok (.iload_n 2, 1) := by decide +kernel
theorem dX1_delay_80 : decode cX1_delay 80 = .ok (.istore 4, 2) := by decide +kernel
theorem dX1_delay_82 : decode cX1_delay 82 = .ok (.iload 4, 2) := by decide +kernel
theorem dX1_delay_84 : decode cX1_delay 84 = .ok (.aload_n 0, 1) := by decide +kernel
theorem dX1_delay_85 : decode cX1_delay 85 = .ok (.getfield 7, 3) := by decide +kernel
theorem dX1_delay_88 : decode cX1_delay 88 = .ok (.iload_n 1, 1) := by decide +kernel
theorem dX1_delay_89 : decode cX1_delay 89 = .ok (.iaload, 1) := by decide +kernel
theorem dX1_delay_90 : decode cX1_delay 90 = .ok (.if_icmp .ge 24, 3) := by decide +kernel
theorem dX1_delay_93 : decode cX1_delay 93 = .ok (.aload_n 0, 1) := by decide +kernel
theorem dX1_delay_94 : decode cX1_delay 94 = .ok (.getfield 16, 3) := by decide +kernel
theorem dX1_delay_97 : decode cX1_delay 97 = .ok (.iload_n 1, 1) := by decide +kernel
theorem dX1_delay_98 : decode cX1_delay 98 = .ok (.iconst 5, 1) := by decide +kernel
theorem dX1_delay_99 : decode cX1_delay 99 = .ok (.imul, 1) := by decide +kernel
theorem dX1_delay_100 : decode cX1_delay 100 = .ok (.iload 4, 2) := by decide +kernel
theorem dX1_delay_102 : decode cX1_delay 102 = .ok (.iadd, 1) := by decide +kernel
theorem dX1_delay_103 : decode cX1_delay 103 = .ok (.dup2, 1) := by decide +kernel
theorem dX1_delay_104 : decode cX1_delay 104 = .ok (.iaload, 1) := by decide +kernel
theorem dX1_delay_105 : decode cX1_delay 105 = .ok (.iload_n 3, 1) := by decide +kernel
theorem dX1_delay_106 : decode cX1_delay 106 = .ok (.iadd, 1) := by decide +kernel
theorem dX1_delay_107 : decode cX1_delay 107 = .ok (.iastore, 1) := by decide +kernel
theorem dX1_delay_108 : decode cX1_delay 108 = .ok (.iinc 4 1, 3) := by decide +kernel
theorem dX1_delay_111 : decode cX1_delay 111 = .ok (.goto (-29), 3) := by decide +kernel
theorem dX1_delay_114 : decode cX1_delay 114 = .ok (.iconst 1, 1) := by decide +kernel
theorem dX1_delay_115 : decode cX1_delay 115 = .ok (.ireturn, 1) := by decide +kernel
theorem dX1_walk_0 : decode cX1_walk 0 = .ok (.aload_n 0, 1) := by decide +kernel
theorem dX1_walk_1 : decode cX1_walk 1 = .ok (.iload_n 1, 1) := by decide +kernel
theorem dX1_walk_2 : decode cX1_walk 2 = .ok (.invokevirtual 32, 3) := by decide +kernel
theorem dX1_walk_5 : decode cX1_walk 5 = .ok (.ifCond .eq 26, 3) := by decide +kernel
theorem dX1_walk_8 : decode cX1_walk 8 = .ok (.aload_n 0, 1) := by decide +kernel
theorem dX1_walk_9 : decode cX1_walk 9 = .ok (.iload_n 2, 1) := by decide +kernel
theorem dX1_walk_10 : decode cX1_walk 10 = .ok (.invokevirtual 32, 3) := by decide +kernel
theorem dX1_walk_13 : decode cX1_walk 13 = .ok (.ifCond .eq 18, 3) := by decide +kernel
theorem dX1_walk_16 : decode cX1_walk 16 = .ok (.iload_n 1, 1) := by decide +kernel
theorem dX1_walk_17 : decode cX1_walk 17 = .ok (.iload_n 2, 1) := by decide +kernel
theorem dX1_walk_18 : decode cX1_walk 18 = .ok (.if_icmp .eq 13, 3) := by decide +kernel
theorem dX1_walk_21 : decode cX1_walk 21 = .ok (.iload_n 3, 1) := by decide +kernel
theorem dX1_walk_22 : decode cX1_walk 22 = .ok (.ifCond .lt 9, 3) := by decide +kernel
theorem dX1_walk_25 : decode cX1_walk 25 = .ok (.iload_n 3, 1) := by decide +kernel
theorem dX1_walk_26 : decode cX1_walk 26 = .ok (.bipush 99, 2) := by decide +kernel
theorem dX1_walk_28 : decode cX1_walk 28 = .ok (.if_icmp .le 5, 3) := by decide +kernel
theorem dX1_walk_31 : decode cX1_walk 31 = .ok (.iconst 0, 1) := by decide +kernel
theorem dX1_walk_32 : decode cX1_walk 32 = .ok (.ireturn, 1) := by decide +kernel
theorem dX1_walk_33 : decode cX1_walk 33 = .ok (.aload_n 0, 1) := by decide +kernel
theorem dX1_walk_34 : decode cX1_walk 34 = .ok (.getfield 19, 3) := by decide +kernel
theorem dX1_walk_37 : decode cX1_walk 37 = .ok (.iload_n 1, 1) := by decide +kernel
theorem dX1_walk_38 : decode cX1_walk 38 = .ok (.bipush 8, 2) := by decide +kernel
theorem dX1_walk_40 : decode cX1_walk 40 = .ok (.imul, 1) := by decide +kernel
theorem dX1_walk_41 : decode cX1_walk 41 = .ok (.iload_n 2, 1) := by decide +kernel
theorem dX1_walk_42 : decode cX1_walk 42 = .ok (.iadd, 1) := by decide +kernel
theorem dX1_walk_43 : decode cX1_walk 43 = .ok (.iload_n 3, 1) := by decide +kernel
theorem dX1_walk_44 : decode cX1_walk 44 = .ok (.iastore, 1) := by decide +kernel
theorem dX1_walk_45 : decode cX1_walk 45 = .ok (.aload_n 0, 1) := by decide +kernel
theorem dX1_walk_46 : decode cX1_walk 46 = .ok (.getfield 19, 3) := by decide +kernel
theorem dX1_walk_49 : decode cX1_walk 49 = .ok (.iload_n 2, 1) := by decide +kernel
theorem dX1_walk_50 : decode cX1_walk 50 = .ok (.bipush 8, 2) := by decide +kernel
theorem dX1_walk_52 : decode cX1_walk 52 = .ok (.imul, 1) := by decide +kernel
theorem dX1_walk_53 : decode cX1_walk 53 = .ok (.iload_n 1, 1) := by decide +kernel
theorem dX1_walk_54 : decode cX1_walk 54 = .ok (.iadd, 1) := by decide +kernel
theorem dX1_walk_55 : decode cX1_walk 55 = .ok (.iload_n 3, 1) := by decide +kernel
theorem dX1_walk_56 : decode cX1_walk 56 = .ok (.iastore, 1) := by decide +kernel
theorem dX1_walk_57 : decode cX1_walk 57 = .ok (.iconst 1, 1) := by decide +kernel
theorem dX1_walk_58 : decode cX1_walk 58 = .ok (.ireturn, 1) := by decide +kernel
theorem dX1_arrival_0 : decode cX1_arrival 0 = .ok (.aload_n 0, 1) := by decide +kernel
theorem dX1_arrival_1 : decode cX1_arrival 1 = .ok (.iload_n 1, 1) := by decide +kernel
theorem dX1_arrival_2 : decode cX1_arrival 2 = .ok (.invokevirtual 32, 3) := by decide +kernel
theorem dX1_arrival_5 : decode cX1_arrival 5 = .ok (.ifCond .eq 31, 3) := by decide +kernel
theorem dX1_arrival_8 : decode cX1_arrival 8 = .ok (.aload_n 0, 1) := by decide +kernel
theorem dX1_arrival_9 : decode cX1_arrival 9 = .ok (.iload_n 2, 1) := by decide +kernel
theorem dX1_arrival_10 : decode cX1_arrival 10 = .ok (.invokevirtual 32, 3) := by decide +kernel
theorem dX1_arrival_13 : decode cX1_arrival 13 = .ok (.ifCond .eq 23, 3) := by decide +kernel
theorem dX1_arrival_16 : decode cX1_arrival 16 = .ok (.aload_n 0, 1) := by decide +kernel
theorem dX1_arrival_17 : decode cX1_arrival 17 = .ok (.iload_n 3, 1) := by decide +kernel
theorem dX1_arrival_18 : decode cX1_arrival 18 = .ok (.invokevirtual 36, 3) := by decide +kernel
theorem dX1_arrival_21 : decode cX1_arrival 21 = .ok (.ifCond .eq 15, 3) := by decide +kernel
theorem dX1_arrival_24 : decode cX1_arrival 24 = .ok (.iload 4, 2) := by decide +kernel
theorem dX1_arrival_26 : decode cX1_arrival 26 = .ok (.ifCond .lt 10, 3) := by decide +kernel
theorem dX1_arrival_29 : decode cX1_arrival 29 = .ok (.iload 4, 2) := by decide +kernel
theorem dX1_arrival_31 : decode cX1_arrival 31 = .ok (.bipush 10, 2) := by decide +kernel
theorem dX1_arrival_33 : decode cX1_arrival 33 = .ok (.if_icmp .le 5, 3) := by decide +kernel
theorem dX1_arrival_36 : decode cX1_arrival 36 = .ok (.iconst (-1), 1) := by decide +kernel
theorem dX1_arrival_37 : decode cX1_arrival 37 = .ok (.ireturn, 1) := by decide +kernel
theorem dX1_arrival_38 : decode cX1_arrival 38 = .ok (.aload_n 0, 1) := by decide +kernel
theorem dX1_arrival_39 : decode cX1_arrival 39 = .ok (.iload_n 1, 1) := by decide +kernel
theorem dX1_arrival_40 : decode cX1_arrival 40 = .ok (.iload_n 3, 1) := by decide +kernel
theorem dX1_arrival_41 : decode cX1_arrival 41 = .ok (.invokevirtual 48, 3) := by decide +kernel
theorem dX1_arrival_44 : decode cX1_arrival 44 = .ok (.aload_n 0, 1) := by decide +kernel
theorem dX1_arrival_45 : decode cX1_arrival 45 = .ok (.iload_n 2, 1) := by decide +kernel
theorem dX1_arrival_46 : decode cX1_arrival 46 = .ok (.iload 4, 2) := by decide +kernel
theorem dX1_arrival_48 : decode cX1_arrival 48 = .ok (.invokevirtual 52, 3) := by decide +kernel
theorem dX1_arrival_51 : decode cX1_arrival 51 = .ok (.istore 5, 2) := by decide +kernel
theorem dX1_arrival_53 : decode cX1_arrival 53 = .ok (.iload 5, 2) := by decide +kernel
theorem dX1_arrival_55 : decode cX1_arrival 55 = .ok (.ldc 39, 2) := by decide +kernel
end
section
set_option maxRecDepth 100000
theorem dX1_arrival_57 : decode cX1_arrival 57 = .ok (.if_icmp .ne 8, 3) := by decide +kernel
theorem dX1_arrival_60 : decode cX1_arrival 60 = .ok (.bipush (-3), 2) := by decide +kernel
theorem dX1_arrival_62 : decode cX1_arrival 62 = .ok (.goto 5, 3) := by decide +kernel
theorem dX1_arrival_65 : decode cX1_arrival 65 = .ok (.iload 5, 2) := by decide +kernel
theorem dX1_arrival_67 : decode cX1_arrival 67 = .ok (.ireturn, 1) := by decide +kernel
theorem dX1_search_0 : decode cX1_search 0 = .ok (.iconst 0, 1) := by decide +kernel
theorem dX1_search_1 : decode cX1_search 1 = .ok (.istore_n 3, 1) := by decide +kernel
theorem dX1_search_2 : decode cX1_search 2 = .ok (.iload_n 3, 1) := by decide +kernel
theorem dX1_search_3 : decode cX1_search 3 = .ok (.bipush 88, 2) := by decide +kernel
theorem dX1_search_5 : decode cX1_search 5 = .ok (.if_icmp .ge 26, 3) := by decide +kernel
theorem dX1_search_8 : decode cX1_search 8 = .ok (.aload_n 0, 1) := by decide +kernel
theorem dX1_search_9 : decode cX1_search 9 = .ok (.getfield 22, 3) := by decide +kernel
theorem dX1_search_12 : decode cX1_search 12 = .ok (.iload_n 3, 1) := by decide +kernel
theorem dX1_search_13 : decode cX1_search 13 = .ok (.iload_n 3, 1) := by decide +kernel
theorem dX1_search_14 : decode cX1_search 14 = .ok (.iload_n 1, 1) := by decide +kernel
theorem dX1_search_15 : decode cX1_search 15 = .ok (.if_icmp .ne 7, 3) := by decide +kernel
theorem dX1_search_18 : decode cX1_search 18 = .ok (.iload_n 2, 1) := by decide +kernel
theorem dX1_search_19 : decode cX1_search 19 = .ok (.goto 5, 3) := by decide +kernel
theorem dX1_search_22 : decode cX1_search 22 = .ok (.ldc 39, 2) := by decide +kernel
theorem dX1_search_24 : decode cX1_search 24 = .ok (.iastore, 1) := by decide +kernel
theorem dX1_search_25 : decode cX1_search 25 = .ok (.iinc 3 1, 3) := by decide +kernel
theorem dX1_search_28 : decode cX1_search 28 = .ok (.goto (-26), 3) := by decide +kernel
theorem dX1_search_31 : decode cX1_search 31 = .ok (.aload_n 0, 1) := by decide +kernel
theorem dX1_search_32 : decode cX1_search 32 = .ok (.iconst 0, 1) := by decide +kernel
theorem dX1_search_33 : decode cX1_search 33 = .ok (.invokevirtual 40, 3) := by decide +kernel
theorem dX1_search_36 : decode cX1_search 36 = .ok (.iconst 1, 1) := by decide +kernel
theorem dX1_search_37 : decode cX1_search 37 = .ok (.istore_n 3, 1) := by decide +kernel
theorem dX1_search_38 : decode cX1_search 38 = .ok (.iload_n 3, 1) := by decide +kernel
theorem dX1_search_39 : decode cX1_search 39 = .ok (.bipush 10, 2) := by decide +kernel
theorem dX1_search_41 : decode cX1_search 41 = .ok (.if_icmp .gt 63, 3) := by decide +kernel
theorem dX1_search_44 : decode cX1_search 44 = .ok (.iconst 0, 1) := by decide +kernel
theorem dX1_search_45 : decode cX1_search 45 = .ok (.istore 4, 2) := by decide +kernel
theorem dX1_search_47 : decode cX1_search 47 = .ok (.iload 4, 2) := by decide +kernel
theorem dX1_search_49 : decode cX1_search 49 = .ok (.aload_n 0, 1) := by decide +kernel
theorem dX1_search_50 : decode cX1_search 50 = .ok (.getfield 28, 3) := by decide +kernel
theorem dX1_search_53 : decode cX1_search 53 = .ok (.iconst 5, 1) := by decide +kernel
theorem dX1_search_54 : decode cX1_search 54 = .ok (.imul, 1) := by decide +kernel
theorem dX1_search_55 : decode cX1_search 55 = .ok (.if_icmp .ge 38, 3) := by decide +kernel
theorem dX1_search_58 : decode cX1_search 58 = .ok (.iload 4, 2) := by decide +kernel
theorem dX1_search_60 : decode cX1_search 60 = .ok (.iconst 5, 1) := by decide +kernel
theorem dX1_search_61 : decode cX1_search 61 = .ok (.irem, 1) := by decide +kernel
theorem dX1_search_62 : decode cX1_search 62 = .ok (.aload_n 0, 1) := by decide +kernel
theorem dX1_search_63 : decode cX1_search 63 = .ok (.getfield 7, 3) := by decide +kernel
theorem dX1_search_66 : decode cX1_search 66 = .ok (.iload 4, 2) := by decide +kernel
theorem dX1_search_68 : decode cX1_search 68 = .ok (.iconst 5, 1) := by decide +kernel
theorem dX1_search_69 : decode cX1_search 69 = .ok (.idiv, 1) := by decide +kernel
theorem dX1_search_70 : decode cX1_search 70 = .ok (.iaload, 1) := by decide +kernel
theorem dX1_search_71 : decode cX1_search 71 = .ok (.if_icmp .ge 16, 3) := by decide +kernel
theorem dX1_search_74 : decode cX1_search 74 = .ok (.aload_n 0, 1) := by decide +kernel
theorem dX1_search_75 : decode cX1_search 75 = .ok (.iload_n 3, 1) := by decide +kernel
theorem dX1_search_76 : decode cX1_search 76 = .ok (.iload 4, 2) := by decide +kernel
theorem dX1_search_78 : decode cX1_search 78 = .ok (.iconst 5, 1) := by decide +kernel
theorem dX1_search_79 : decode cX1_search 79 = .ok (.idiv, 1) := by decide +kernel
theorem dX1_search_80 : decode cX1_search 80 = .ok (.iload 4, 2) := by decide +kernel
theorem dX1_search_82 : decode cX1_search 82 = .ok (.iconst 5, 1) := by decide +kernel
theorem dX1_search_83 : decode cX1_search 83 = .ok (.irem, 1) := by decide +kernel
theorem dX1_search_84 : decode cX1_search 84 = .ok (.invokevirtual 44, 3) := by decide +kernel
theorem dX1_search_87 : decode cX1_search 87 = .ok (.iinc 4 1, 3) := by decide +kernel
theorem dX1_search_90 : decode cX1_search 90 = .ok (.goto (-43), 3) := by decide +kernel
theorem dX1_search_93 : decode cX1_search 93 = .ok (.aload_n 0, 1) := by decide +kernel
theorem dX1_search_94 : decode cX1_search 94 = .ok (.iload_n 3, 1) := by decide +kernel
theorem dX1_search_95 : decode cX1_search 95 = .ok (.invokevirtual 40, 3) := by decide +kernel
theorem dX1_search_98 : decode cX1_search 98 = .ok (.iinc 3 1, 3) := by decide +kernel
theorem dX1_search_101 : decode cX1_search 101 = .ok (.goto (-63), 3) := by decide +kernel
theorem dX1_search_104 : decode cX1_search 104 = .ok (.return_, 1) := by decide +kernel
theorem dX1_walkOn_0 : decode cX1_walkOn 0 = .ok (.iconst 0, 1) := by decide +kernel
theorem dX1_walkOn_1 : decode cX1_walkOn 1 = .ok (.istore_n 2, 1) := by decide +kernel
theorem dX1_walkOn_2 : decode cX1_walkOn 2 = .ok (.iload_n 2, 1) := by decide +kernel
theorem dX1_walkOn_3 : decode cX1_walkOn 3 = .ok (.bipush 8, 2) := by decide +kernel
theorem dX1_walkOn_5 : decode cX1_walkOn 5 = .ok (.if_icmp .ge 103, 3) := by decide +kernel
theorem dX1_walkOn_8 : decode cX1_walkOn 8 = .ok (.aload_n 0, 1) := by decide +kernel
theorem dX1_walkOn_9 : decode cX1_walkOn 9 = .ok (.getfield 22, 3) := by decide +kernel
theorem dX1_walkOn_12 : decode cX1_walkOn 12 = .ok (.iload_n 1, 1) := by decide +kernel
theorem dX1_walkOn_13 : decode cX1_walkOn 13 = .ok (.bipush 8, 2) := by decide +kernel
theorem dX1_walkOn_15 : decode cX1_walkOn 15 = .ok (.imul, 1) := by decide +kernel
theorem dX1_walkOn_16 : decode cX1_walkOn 16 = .ok (.iload_n 2, 1) := by decide +kernel
theorem dX1_walkOn_17 : decode cX1_walkOn 17 = .ok (.iadd, 1) := by decide +kernel
theorem dX1_walkOn_18 : decode cX1_walkOn 18 = .ok (.iaload, 1) := by decide +kernel
theorem dX1_walkOn_19 : decode cX1_walkOn 19 = .ok (.istore_n 3, 1) := by decide +kernel
theorem dX1_walkOn_20 : decode cX1_walkOn 20 = .ok (.iconst 0, 1) := by decide +kernel
theorem dX1_walkOn_21 : decode cX1_walkOn 21 = .ok (.istore 4, 2) := by decide +kernel
theorem dX1_walkOn_23 : decode cX1_walkOn 23 = .ok (.iload 4, 2) := by decide +kernel
theorem dX1_walkOn_25 : decode cX1_walkOn 25 = .ok (.bipush 8, 2) := by decide +kernel
theorem dX1_walkOn_27 : decode cX1_walkOn 27 = .ok (.if_icmp .ge 63, 3) := by decide +kernel
theorem dX1_walkOn_30 : decode cX1_walkOn 30 = .ok (.aload_n 0, 1) := by decide +kernel
theorem dX1_walkOn_31 : decode cX1_walkOn 31 = .ok (.getfield 19, 3) := by decide +kernel
theorem dX1_walkOn_34 : decode cX1_walkOn 34 = .ok (.iload 4, 2) := by decide +kernel
theorem dX1_walkOn_36 : decode cX1_walkOn 36 = .ok (.bipush 8, 2) := by decide +kernel
theorem dX1_walkOn_38 : decode cX1_walkOn 38 = .ok (.imul, 1) := by decide +kernel
theorem dX1_walkOn_39 : decode cX1_walkOn 39 = .ok (.iload_n 2, 1) := by decide +kernel
theorem dX1_walkOn_40 : decode cX1_walkOn 40 = .ok (.iadd, 1) := by decide +kernel
theorem dX1_walkOn_41 : decode cX1_walkOn 41 = .ok (.iaload, 1) := by decide +kernel
theorem dX1_walkOn_42 : decode cX1_walkOn 42 = .ok (.istore 5, 2) := by decide +kernel
theorem dX1_walkOn_44 : decode cX1_walkOn 44 = .ok (.iload 5, 2) := by decide +kernel
theorem dX1_walkOn_46 : decode cX1_walkOn 46 = .ok (.ifCond .le 38, 3) := by decide +kernel
theorem dX1_walkOn_49 : decode cX1_walkOn 49 = .ok (.aload_n 0, 1) := by decide +kernel
theorem dX1_walkOn_50 : decode cX1_walkOn 50 = .ok (.getfield 22, 3) := by decide +kernel
theorem dX1_walkOn_53 : decode cX1_walkOn 53 = .ok (.iload_n 1, 1) := by decide +kernel
theorem dX1_walkOn_54 : decode cX1_walkOn 54 = .ok (.bipush 8, 2) := by decide +kernel
theorem dX1_walkOn_56 : decode cX1_walkOn 56 = .ok (.imul, 1) := by decide +kernel
theorem dX1_walkOn_57 : decode cX1_walkOn 57 = .ok (.iload 4, 2) := by decide +kernel
theorem dX1_walkOn_59 : decode cX1_walkOn 59 = .ok (.iadd, 1) := by decide +kernel
theorem dX1_walkOn_60 : decode cX1_walkOn 60 = .ok (.iaload, 1) := by decide +kernel
theorem dX1_walkOn_61 : decode cX1_walkOn 61 = .ok (.iload 5, 2) := by decide +kernel
theorem dX1_walkOn_63 : decode cX1_walkOn 63 = .ok (.iadd, 1) := by decide +kernel
theorem dX1_walkOn_64 : decode cX1_walkOn 64 = .ok (.iload_n 3, 1) := by decide +kernel
theorem dX1_walkOn_65 : decode cX1_walkOn 65 = .ok (.if_icmp .ge 19, 3) := by decide +kernel
theorem dX1_walkOn_68 : decode cX1_walkOn 68 = .ok (.aload_n 0, 1) := by decide +kernel
theorem dX1_walkOn_69 : decode cX1_walkOn 69 = .ok (.getfield 22, 3) := by decide +kernel
theorem dX1_walkOn_72 : decode cX1_walkOn 72 = .ok (.iload_n 1, 1) := by decide +kernel
theorem dX1_walkOn_73 : decode cX1_walkOn 73 = .ok (.bipush 8, 2) := by decide +kernel
theorem dX1_walkOn_75 : decode cX1_walkOn 75 = .ok (.imul, 1) := by decide +kernel
theorem dX1_walkOn_76 : decode cX1_walkOn 76 = .ok (.iload 4, 2) := by decide +kernel
theorem dX1_walkOn_78 : decode cX1_walkOn 78 = .ok (.iadd, 1) := by decide +kernel
theorem dX1_walkOn_79 : decode cX1_walkOn 79 = .ok (.iaload, 1) := by decide +kernel
theorem dX1_walkOn_80 : decode cX1_walkOn 80 = .ok (.iload 5, 2) := by decide +kernel
theorem dX1_walkOn_82 : decode cX1_walkOn 82 = .ok (.iadd, 1) := by decide +kernel
theorem dX1_walkOn_83 : decode cX1_walkOn 83 = .ok (.istore_n 3, 1) := by decide +kernel
theorem dX1_walkOn_84 : decode cX1_walkOn 84 = .ok (.iinc 4 1, 3) := by decide +kernel
theorem dX1_walkOn_87 : decode cX1_walkOn 87 = .ok (.goto (-64), 3) := by decide +kernel
theorem dX1_walkOn_90 : decode cX1_walkOn 90 = .ok (.aload_n 0, 1) := by decide +kernel
theorem dX1_walkOn_91 : decode cX1_walkOn 91 = .ok (.getfield 25, 3) := by decide +kernel
theorem dX1_walkOn_94 : decode cX1_walkOn 94 = .ok (.iload_n 1, 1) := by decide +kernel
theorem dX1_walkOn_95 : decode cX1_walkOn 95 = .ok (.bipush 8, 2) := by decide +kernel
theorem dX1_walkOn_97 : decode cX1_walkOn 97 = .ok (.imul, 1) := by decide +kernel
theorem dX1_walkOn_98 : decode cX1_walkOn 98 = .ok (.iload_n 2, 1) := by decide +kernel
theorem dX1_walkOn_99 : decode cX1_walkOn 99 = .ok (.iadd, 1) := by decide +kernel
theorem dX1_walkOn_100 : decode cX1_walkOn 100 = .ok (.iload_n 3, 1) := by decide +kernel
theorem dX1_walkOn_101 : decode cX1_walkOn 101 = .ok (.iastore, 1) := by decide +kernel
theorem dX1_walkOn_102 : decode cX1_walkOn 102 = .ok (.iinc 2 1, 3) := by decide +kernel
theorem dX1_walkOn_105 : decode cX1_walkOn 105 = .ok (.goto (-103), 3) := by decide +kernel
theorem dX1_walkOn_108 : decode cX1_walkOn 108 = .ok (.return_, 1) := by decide +kernel
theorem dX1_ride_0 : decode cX1_ride 0 = .ok (.aload_n 0, 1) := by decide +kernel
theorem dX1_ride_1 : decode cX1_ride 1 = .ok (.getfield 25, 3) := by decide +kernel
theorem dX1_ride_4 : decode cX1_ride 4 = .ok (.iload_n 1, 1) := by decide +kernel
theorem dX1_ride_5 : decode cX1_ride 5 = .ok (.iconst 1, 1) := by decide +kernel
theorem dX1_ride_6 : decode cX1_ride 6 = .ok (.isub, 1) := by decide +kernel
theorem dX1_ride_7 : decode cX1_ride 7 = .ok (.bipush 8, 2) := by decide +kernel
theorem dX1_ride_9 : decode cX1_ride 9 = .ok (.imul, 1) := by decide +kernel
theorem dX1_ride_10 : decode cX1_ride 10 = .ok (.aload_n 0, 1) := by decide +kernel
theorem dX1_ride_11 : decode cX1_ride 11 = .ok (.getfield 13, 3) := by decide +kernel
theorem dX1_ride_14 : decode cX1_ride 14 = .ok (.iload_n 2, 1) := by decide +kernel
theorem dX1_ride_15 : decode cX1_ride 15 = .ok (.iconst 5, 1) := by decide +kernel
theorem dX1_ride_16 : decode cX1_ride 16 = .ok (.imul, 1) := by decide +kernel
theorem dX1_ride_17 : decode cX1_ride 17 = .ok (.iload_n 3, 1) := by decide +kernel
theorem dX1_ride_18 : decode cX1_ride 18 = .ok (.iadd, 1) := by decide +kernel
theorem dX1_ride_19 : decode cX1_ride 19 = .ok (.iaload, 1) := by decide +kernel
theorem dX1_ride_20 : decode cX1_ride 20 = .ok (.iadd, 1) := by decide +kernel
theorem dX1_ride_21 : decode cX1_ride 21 = .ok (.iaload, 1) := by decide +kernel
theorem dX1_ride_22 : decode cX1_ride 22 = .ok (.aload_n 0, 1) := by decide +kernel
theorem dX1_ride_23 : decode cX1_ride 23 = .ok (.getfield 16, 3) := by decide +kernel
theorem dX1_ride_26 : decode cX1_ride 26 = .ok (.iload_n 2, 1) := by decide +kernel
theorem dX1_ride_27 : decode cX1_ride 27 = .ok (.iconst 5, 1) := by decide +kernel
theorem dX1_ride_28 : decode cX1_ride 28 = .ok (.imul, 1) := by decide +kernel
theorem dX1_ride_29 : decode cX1_ride 29 = .ok (.iload_n 3, 1) := by decide +kernel
theorem dX1_ride_30 : decode cX1_ride 30 = .ok (.iadd, 1) := by decide +kernel
theorem dX1_ride_31 : decode cX1_ride 31 = .ok (.iaload, 1) := by decide +kernel
theorem dX1_ride_32 : decode cX1_ride 32 = .ok (.if_icmp .le 4, 3) := by decide +kernel
theorem dX1_ride_35 : decode cX1_ride 35 = .ok (.return_, 1) := by decide +kernel
theorem dX1_ride_36 : decode cX1_ride 36 = .ok (.iload_n 3, 1) := by decide +kernel
theorem dX1_ride_37 : decode cX1_ride 37 = .ok (.iconst 1, 1) := by decide +kernel
theorem dX1_ride_38 : decode cX1_ride 38 = .ok (.iadd, 1) := by decide +kernel
theorem dX1_ride_39 : decode cX1_ride 39 = .ok (.istore 4, 2) := by decide +kernel
theorem dX1_ride_41 : decode cX1_ride 41 = .ok (.iload 4, 2) := by decide +kernel
theorem dX1_ride_43 : decode cX1_ride 43 = .ok (.aload_n 0, 1) := by decide +kernel
theorem dX1_ride_44 : decode cX1_ride 44 = .ok (.getfield 7, 3) := by decide +kernel
theorem dX1_ride_47 : decode cX1_ride 47 = .ok (.iload_n 2, 1) := by decide +kernel
theorem dX1_ride_48 : decode cX1_ride 48 = .ok (.iaload, 1) := by decide +kernel
theorem dX1_ride_49 : decode cX1_ride 49 = .ok (.if_icmp .ge 66, 3) := by decide +kernel
theorem dX1_ride_52 : decode cX1_ride 52 = .ok (.iload_n 1, 1) := by decide +kernel
theorem dX1_ride_53 : decode cX1_ride 53 = .ok (.bipush 8, 2) := by decide +kernel
theorem dX1_ride_55 : decode cX1_ride 55 = .ok (.imul, 1) := by decide +kernel
theorem dX1_ride_56 : decode cX1_ride 56 = .ok (.aload_n 0, 1) := by decide +kernel
theorem dX1_ride_57 : decode cX1_ride 57 = .ok (.getfield 13, 3) := by decide +kernel
theorem dX1_ride_60 : decode cX1_ride 60 = .ok (.iload_n 2, 1) := by decide +kernel
theorem dX1_ride_61 : decode cX1_ride 61 = .ok (.iconst 5, 1) := by decide +kernel
theorem dX1_ride_62 : decode cX1_ride 62 = .ok (.imul, 1) := by decide +kernel
theorem dX1_ride_63 : decode cX1_ride 63 = .ok (.iload 4, 2) := by decide +kernel
theorem dX1_ride_65 : decode cX1_ride 65 = .ok (.iadd, 1) := by decide +kernel
theorem dX1_ride_66 : decode cX1_ride 66 = .ok (.iaload, 1) := by decide +kernel
theorem dX1_ride_67 : decode cX1_ride 67 = .ok (.iadd, 1) := by decide +kernel
theorem dX1_ride_68 : decode cX1_ride 68 = .ok (.istore 5, 2) := by decide +kernel
theorem dX1_ride_70 : decode cX1_ride 70 = .ok (.aload_n 0, 1) := by decide +kernel
theorem dX1_ride_71 : decode cX1_ride 71 = .ok (.getfield 16, 3) := by decide +kernel
theorem dX1_ride_74 : decode cX1_ride 74 = .ok (.iload_n 2, 1) := by decide +kernel
theorem dX1_ride_75 : decode cX1_ride 75 = .ok (.iconst 5, 1) := by decide +kernel
theorem dX1_ride_76 : decode cX1_ride 76 = .ok (.imul, 1) := by decide +kernel
theorem dX1_ride_77 : decode cX1_ride 77 = .ok (.iload 4, 2) := by decide +kernel
theorem dX1_ride_79 : decode cX1_ride 79 = .ok (.iadd, 1) := by decide +kernel
theorem dX1_ride_80 : decode cX1_ride 80 = .ok (.iaload, 1) := by decide +kernel
theorem dX1_ride_81 : decode cX1_ride 81 = .ok (.aload_n 0, 1) := by decide +kernel
theorem dX1_ride_82 : decode cX1_ride 82 = .ok (.getfield 22, 3) := by decide +kernel
theorem dX1_ride_85 : decode cX1_ride 85 = .ok (.iload 5, 2) := by decide +kernel
theorem dX1_ride_87 : decode cX1_ride 87 = .ok (.iaload, 1) := by decide +kernel
theorem dX1_ride_88 : decode cX1_ride 88 = .ok (.if_icmp .ge 21, 3) := by decide +kernel
theorem dX1_ride_91 : decode cX1_ride 91 = .ok (.aload_n 0, 1) := by decide +kernel
theorem dX1_ride_92 : decode cX1_ride 92 = .ok (.getfield 22, 3) := by decide +kernel
theorem dX1_ride_95 : decode cX1_ride 95 = .ok (.iload 5, 2) := by decide +kernel
theorem dX1_ride_97 : decode cX1_ride 97 = .ok (.aload_n 0, 1) := by decide +kernel
theorem dX1_ride_98 : decode cX1_ride 98 = .ok (.getfield 16, 3) := by decide +kernel
theorem dX1_ride_101 : decode cX1_ride 101 = .ok (.iload_n 2, 1) := by decide +kernel
theorem dX1_ride_102 : decode cX1_ride 102 = .ok (.iconst 5, 1) := by decide +kernel
theorem dX1_ride_103 : decode cX1_ride 103 = .ok (.imul, 1) := by decide +kernel
theorem dX1_ride_104 : decode cX1_ride 104 = .ok (.iload 4, 2) := by decide +kernel
theorem dX1_ride_106 : decode cX1_ride 106 = .ok (.iadd, 1) := by decide +kernel
theorem dX1_ride_107 : decode cX1_ride 107 = .ok (.iaload, 1) := by decide +kernel
theorem dX1_ride_108 : decode cX1_ride 108 = .ok (.iastore, 1) := by decide +kernel
theorem dX1_ride_109 : decode cX1_ride 109 = .ok (.iinc 4 1, 3) := by decide +kernel
theorem dX1_ride_112 : decode cX1_ride 112 = .ok (.goto (-71), 3) := by decide +kernel
theorem dX1_ride_115 : decode cX1_ride 115 = .ok (.return_, 1) := by decide +kernel
theorem dX1_best_0 : decode cX1_best 0 = .ok (.ldc 39, 2) := by decide +kernel
theorem dX1_best_2 : decode cX1_best 2 = .ok (.istore_n 3, 1) := by decide +kernel
theorem dX1_best_3 : decode cX1_best 3 = .ok (.iconst 0, 1) := by decide +kernel
theorem dX1_best_4 : decode cX1_best 4 = .ok (.istore 4, 2) := by decide +kernel
theorem dX1_best_6 : decode cX1_best 6 = .ok (.iload 4, 2) := by decide +kernel
theorem dX1_best_8 : decode cX1_best 8 = .ok (.iload_n 2, 1) := by decide +kernel
theorem dX1_best_9 : decode cX1_best 9 = .ok (.if_icmp .gt 38, 3) := by decide +kernel
theorem dX1_best_12 : decode cX1_best 12 = .ok (.aload_n 0, 1) := by decide +kernel
theorem dX1_best_13 : decode cX1_best 13 = .ok (.getfield 25, 3) := by decide +kernel
theorem dX1_best_16 : decode cX1_best 16 = .ok (.iload 4, 2) := by decide +kernel
theorem dX1_best_18 : decode cX1_best 18 = .ok (.bipush 8, 2) := by decide +kernel
theorem dX1_best_20 : decode cX1_best 20 = .ok (.imul, 1) := by decide +kernel
theorem dX1_best_21 : decode cX1_best 21 = .ok (.iload_n 1, 1) := by decide +kernel
theorem dX1_best_22 : decode cX1_best 22 = .ok (.iadd, 1) := by decide +kernel
theorem dX1_best_23 : decode cX1_best 23 = .ok (.iaload, 1) := by decide +kernel
theorem dX1_best_24 : decode cX1_best 24 = .ok (.iload_n 3, 1) := by decide +kernel
theorem dX1_best_25 : decode cX1_best 25 = .ok (.if_icmp .ge 16, 3) := by decide +kernel
theorem dX1_best_28 : decode cX1_best 28 = .ok (.aload_n 0, 1) := by decide +kernel
theorem dX1_best_29 : decode cX1_best 29 = .ok (.getfield 25, 3) := by decide +kernel
theorem dX1_best_32 : decode cX1_best 32 = .ok (.iload 4, 2) := by decide +kernel
theorem dX1_best_34 : decode cX1_best 34 = .ok (.bipush 8, 2) := by decide +kernel
theorem dX1_best_36 : decode cX1_best 36 = .ok (.imul, 1) := by decide +kernel
theorem dX1_best_37 : decode cX1_best 37 = .ok (.iload_n 1, 1) := by decide +kernel
theorem dX1_best_38 : decode cX1_best 38 = .ok (.iadd, 1) := by decide +kernel
theorem dX1_best_39 : decode cX1_best 39 = .ok (.iaload, 1) := by decide +kernel
theorem dX1_best_40 : decode cX1_best 40 = .ok (.istore_n 3, 1) := by decide +kernel
theorem dX1_best_41 : decode cX1_best 41 = .ok (.iinc 4 1, 3) := by decide +kernel
theorem dX1_best_44 : decode cX1_best 44 = .ok (.goto (-38), 3) := by decide +kernel
theorem dX1_best_47 : decode cX1_best 47 = .ok (.iload_n 3, 1) := by decide +kernel
theorem dX1_best_48 : decode cX1_best 48 = .ok (.ireturn, 1) := by decide +kernel
theorem dX1_fewest_0 : decode cX1_fewest 0 = .ok (.aload_n 0, 1) := by decide +kernel
theorem dX1_fewest_1 : decode cX1_fewest 1 = .ok (.iload_n 1, 1) := by decide +kernel
theorem dX1_fewest_2 : decode cX1_fewest 2 = .ok (.invokevirtual 32, 3) := by decide +kernel
theorem dX1_fewest_5 : decode cX1_fewest 5 = .ok (.ifCond .eq 19, 3) := by decide +kernel
theorem dX1_fewest_8 : decode cX1_fewest 8 = .ok (.aload_n 0, 1) := by decide +kernel
theorem dX1_fewest_9 : decode cX1_fewest 9 = .ok (.iload_n 2, 1) := by decide +kernel
theorem dX1_fewest_10 : decode cX1_fewest 10 = .ok (.invokevirtual 32, 3) := by decide +kernel
theorem dX1_fewest_13 : decode cX1_fewest 13 = .ok (.ifCond .eq 11, 3) := by decide +kernel
theorem dX1_fewest_16 : decode cX1_fewest 16 = .ok (.aload_n 0, 1) := by decide +kernel
theorem dX1_fewest_17 : decode cX1_fewest 17 = .ok (.iload_n 3, 1) := by decide +kernel
theorem dX1_fewest_18 : decode cX1_fewest 18 = .ok (.invokevirtual 36, 3) := by decide +kernel
theorem dX1_fewest_21 : decode cX1_fewest 21 = .ok (.ifCond .ne 5, 3) := by decide +kernel
theorem dX1_fewest_24 : decode cX1_fewest 24 = .ok (.iconst (-1), 1) := by decide +kernel
theorem dX1_fewest_25 : decode cX1_fewest 25 = .ok (.ireturn, 1) := by decide +kernel
theorem dX1_fewest_26 : decode cX1_fewest 26 = .ok (.aload_n 0, 1) := by decide +kernel
theorem dX1_fewest_27 : decode cX1_fewest 27 = .ok (.iload_n 1, 1) := by decide +kernel
theorem dX1_fewest_28 : decode cX1_fewest 28 = .ok (.iload_n 3, 1) := by decide +kernel
theorem dX1_fewest_29 : decode cX1_fewest 29 = .ok (.invokevirtual 48, 3) := by decide +kernel
theorem dX1_fewest_32 : decode cX1_fewest 32 = .ok (.iconst 0, 1) := by decide +kernel
theorem dX1_fewest_33 : decode cX1_fewest 33 = .ok (.istore 4, 2) := by decide +kernel
theorem dX1_fewest_35 : decode cX1_fewest 35 = .ok (.iload 4, 2) := by decide +kernel
theorem dX1_fewest_37 : decode cX1_fewest 37 = .ok (.bipush 10, 2) := by decide +kernel
theorem dX1_fewest_39 : decode cX1_fewest 39 = .ok (.if_icmp .gt 29, 3) := by decide +kernel
theorem dX1_fewest_42 : decode cX1_fewest 42 = .ok (.aload_n 0, 1) := by decide +kernel
theorem dX1_fewest_43 : decode cX1_fewest 43 = .ok (.getfield 25, 3) := by decide +kernel
theorem dX1_fewest_46 : decode cX1_fewest 46 = .ok (.iload 4, 2) := by decide +kernel
theorem dX1_fewest_48 : decode cX1_fewest 48 = .ok (.bipush 8, 2) := by decide +kernel
theorem dX1_fewest_50 : decode cX1_fewest 50 = .ok (.imul, 1) := by decide +kernel
theorem dX1_fewest_51 : decode cX1_fewest 51 = .ok (.iload_n 2, 1) := by decide +kernel
theorem dX1_fewest_52 : decode cX1_fewest 52 = .ok (.iadd, 1) := by decide +kernel
theorem dX1_fewest_53 : decode cX1_fewest 53 = .ok (.iaload, 1) := by decide +kernel
theorem dX1_fewest_54 : decode cX1_fewest 54 = .ok (.ldc 39, 2) := by decide +kernel
theorem dX1_fewest_56 : decode cX1_fewest 56 = .ok (.if_icmp .ge 6, 3) := by decide +kernel
theorem dX1_fewest_59 : decode cX1_fewest 59 = .ok (.iload 4, 2) := by decide +kernel
theorem dX1_fewest_61 : decode cX1_fewest 61 = .ok (.ireturn, 1) := by decide +kernel
theorem dX1_fewest_62 : decode cX1_fewest 62 = .ok (.iinc 4 1, 3) := by decide +kernel
theorem dX1_fewest_65 : decode cX1_fewest 65 = .ok (.goto (-30), 3) := by decide +kernel
theorem dX1_fewest_68 : decode cX1_fewest 68 = .ok (.bipush (-3), 2) := by decide +kernel
theorem dX1_fewest_70 : decode cX1_fewest 70 = .ok (.ireturn, 1) := by decide +kernel
theorem dX1_choices_0 : decode cX1_choices 0 = .ok (.aload_n 0, 1) := by decide +kernel
theorem dX1_choices_1 : decode cX1_choices 1 = .ok (.iload_n 1, 1) := by decide +kernel
theorem dX1_choices_2 : decode cX1_choices 2 = .ok (.invokevirtual 32, 3) := by decide +kernel
theorem dX1_choices_5 : decode cX1_choices 5 = .ok (.ifCond .eq 19, 3) := by decide +kernel
theorem dX1_choices_8 : decode cX1_choices 8 = .ok (.aload_n 0, 1) := by decide +kernel
theorem dX1_choices_9 : decode cX1_choices 9 = .ok (.iload_n 2, 1) := by decide +kernel
theorem dX1_choices_10 : decode cX1_choices 10 = .ok (.invokevirtual 32, 3) := by decide +kernel
theorem dX1_choices_13 : decode cX1_choices 13 = .ok (.ifCond .eq 11, 3) := by decide +kernel
theorem dX1_choices_16 : decode cX1_choices 16 = .ok (.aload_n 0, 1) := by decide +kernel
theorem dX1_choices_17 : decode cX1_choices 17 = .ok (.iload_n 3, 1) := by decide +kernel
theorem dX1_choices_18 : decode cX1_choices 18 = .ok (.invokevirtual 36, 3) := by decide +kernel
theorem dX1_choices_21 : decode cX1_choices 21 = .ok (.ifCond .ne 5, 3) := by decide +kernel
theorem dX1_choices_24 : decode cX1_choices 24 = .ok (.iconst (-1), 1) := by decide +kernel
theorem dX1_choices_25 : decode cX1_choices 25 = .ok (.ireturn, 1) := by decide +kernel
theorem dX1_choices_26 : decode cX1_choices 26 = .ok (.aload_n 0, 1) := by decide +kernel
theorem dX1_choices_27 : decode cX1_choices 27 = .ok (.iload_n 1, 1) := by decide +kernel
theorem dX1_choices_28 : decode cX1_choices 28 = .ok (.iload_n 3, 1) := by decide +kernel
theorem dX1_choices_29 : decode cX1_choices 29 = .ok (.invokevirtual 48, 3) := by decide +kernel
theorem dX1_choices_32 : decode cX1_choices 32 = .ok (.aload_n 0, 1) := by decide +kernel
theorem dX1_choices_33 : decode cX1_choices 33 = .ok (.getfield 25, 3) := by decide +kernel
theorem dX1_choices_36 : decode cX1_choices 36 = .ok (.iload_n 2, 1) := by decide +kernel
theorem dX1_choices_37 : decode cX1_choices 37 = .ok (.iaload, 1) := by decide +kernel
theorem dX1_choices_38 : decode cX1_choices 38 = .ok (.ldc 39, 2) := by decide +kernel
theorem dX1_choices_40 : decode cX1_choices 40 = .ok (.if_icmp .ge 7, 3) := by decide +kernel
theorem dX1_choices_43 : decode cX1_choices 43 = .ok (.iconst 1, 1) := by decide +kernel
theorem dX1_choices_44 : decode cX1_choices 44 = .ok (.goto 4, 3) := by decide +kernel
theorem dX1_choices_47 : decode cX1_choices 47 = .ok (.iconst 0, 1) := by decide +kernel
theorem dX1_choices_48 : decode cX1_choices 48 = .ok (.istore 4, 2) := by decide +kernel
theorem dX1_choices_50 : decode cX1_choices 50 = .ok (.iconst 1, 1) := by decide +kernel
theorem dX1_choices_51 : decode cX1_choices 51 = .ok (.istore 5, 2) := by decide +kernel
theorem dX1_choices_53 : decode cX1_choices 53 = .ok (.iload 5, 2) := by decide +kernel
theorem dX1_choices_55 : decode cX1_choices 55 = .ok (.bipush 10, 2) := by decide +kernel
theorem dX1_choices_57 : decode cX1_choices 57 = .ok (.if_icmp .gt 36, 3) := by decide +kernel
theorem dX1_choices_60 : decode cX1_choices 60 = .ok (.aload_n 0, 1) := by decide +kernel
theorem dX1_choices_61 : decode cX1_choices 61 = .ok (.getfield 25, 3) := by decide +kernel
theorem dX1_choices_64 : decode cX1_choices 64 = .ok (.iload 5, 2) := by decide +kernel
theorem dX1_choices_66 : decode cX1_choices 66 = .ok (.bipush 8, 2) := by decide +kernel
theorem dX1_choices_68 : decode cX1_choices 68 = .ok (.imul, 1) := by decide +kernel
theorem dX1_choices_69 : decode cX1_choices 69 = .ok (.iload_n 2, 1) := by decide +kernel
theorem dX1_choices_70 : decode cX1_choices 70 = .ok (.iadd, 1) := by decide +kernel
theorem dX1_choices_71 : decode cX1_choices 71 = .ok (.iaload, 1) := by decide +kernel
theorem dX1_choices_72 : decode cX1_choices 72 = .ok (.aload_n 0, 1) := by decide +kernel
theorem dX1_choices_73 : decode cX1_choices 73 = .ok (.iload_n 2, 1) := by decide +kernel
theorem dX1_choices_74 : decode cX1_choices 74 = .ok (.iload 5, 2) := by decide +kernel
theorem dX1_choices_76 : decode cX1_choices 76 = .ok (.iconst 1, 1) := by decide +kernel
theorem dX1_choices_77 : decode cX1_choices 77 = .ok (.isub, 1) := by decide +kernel
theorem dX1_choices_78 : decode cX1_choices 78 = .ok (.invokevirtual 52, 3) := by decide +kernel
theorem dX1_choices_81 : decode cX1_choices 81 = .ok (.if_icmp .ge 6, 3) := by decide +kernel
theorem dX1_choices_84 : decode cX1_choices 84 = .ok (.iinc 4 1, 3) := by decide +kernel
theorem dX1_choices_87 : decode cX1_choices 87 = .ok (.iinc 5 1, 3) := by decide +kernel
theorem dX1_choices_90 : decode cX1_choices 90 = .ok (.goto (-37), 3) := by decide +kernel
theorem dX1_choices_93 : decode cX1_choices 93 = .ok (.iload 4, 2) := by decide +kernel
theorem dX1_choices_95 : decode cX1_choices 95 = .ok (.ireturn, 1) := by decide +kernel
theorem dX1_leave_0 : decode cX1_leave 0 = .ok (.aload_n 0, 1) := by decide +kernel
theorem dX1_leave_1 : decode cX1_leave 1 = .ok (.iload_n 1, 1) := by decide +kernel
theorem dX1_leave_2 : decode cX1_leave 2 = .ok (.invokevirtual 32, 3) := by decide +kernel
theorem dX1_leave_5 : decode cX1_leave 5 = .ok (.ifCond .eq 19, 3) := by decide +kernel
theorem dX1_leave_8 : decode cX1_leave 8 = .ok (.aload_n 0, 1) := by decide +kernel
theorem dX1_leave_9 : decode cX1_leave 9 = .ok (.iload_n 2, 1) := by decide +kernel
theorem dX1_leave_10 : decode cX1_leave 10 = .ok (.invokevirtual 32, 3) := by decide +kernel
theorem dX1_leave_13 : decode cX1_leave 13 = .ok (.ifCond .eq 11, 3) := by decide +kernel
theorem dX1_leave_16 : decode cX1_leave 16 = .ok (.aload_n 0, 1) := by decide +kernel
theorem dX1_leave_17 : decode cX1_leave 17 = .ok (.iload_n 3, 1) := by decide +kernel
theorem dX1_leave_18 : decode cX1_leave 18 = .ok (.invokevirtual 36, 3) := by decide +kernel
theorem dX1_leave_21 : decode cX1_leave 21 = .ok (.ifCond .ne 5, 3) := by decide +kernel
theorem dX1_leave_24 : decode cX1_leave 24 = .ok (.iconst (-1), 1) := by decide +kernel
theorem dX1_leave_25 : decode cX1_leave 25 = .ok (.ireturn, 1) := by decide +kernel
theorem dX1_leave_26 : decode cX1_leave 26 = .ok (.iload_n 3, 1) := by decide +kernel
theorem dX1_leave_27 : decode cX1_leave 27 = .ok (.istore 4, 2) := by decide +kernel
theorem dX1_leave_29 : decode cX1_leave 29 = .ok (.iload 4, 2) := by decide +kernel
theorem dX1_leave_31 : decode cX1_leave 31 = .ok (.ifCond .lt 30, 3) := by decide +kernel
theorem dX1_leave_34 : decode cX1_leave 34 = .ok (.aload_n 0, 1) := by decide +kernel
theorem dX1_leave_35 : decode cX1_leave 35 = .ok (.iload_n 1, 1) := by decide +kernel
theorem dX1_leave_36 : decode cX1_leave 36 = .ok (.iload 4, 2) := by decide +kernel
theorem dX1_leave_38 : decode cX1_leave 38 = .ok (.invokevirtual 48, 3) := by decide +kernel
theorem dX1_leave_41 : decode cX1_leave 41 = .ok (.aload_n 0, 1) := by decide +kernel
theorem dX1_leave_42 : decode cX1_leave 42 = .ok (.iload_n 2, 1) := by decide +kernel
theorem dX1_leave_43 : decode cX1_leave 43 = .ok (.bipush 10, 2) := by decide +kernel
theorem dX1_leave_45 : decode cX1_leave 45 = .ok (.invokevirtual 52, 3) := by decide +kernel
theorem dX1_leave_48 : decode cX1_leave 48 = .ok (.iload_n 3, 1) := by decide +kernel
theorem dX1_leave_49 : decode cX1_leave 49 = .ok (.if_icmp .gt 6, 3) := by decide +kernel
theorem dX1_leave_52 : decode cX1_leave 52 = .ok (.iload 4, 2) := by decide +kernel
theorem dX1_leave_54 : decode cX1_leave 54 = .ok (.ireturn, 1) := by decide +kernel
theorem dX1_leave_55 : decode cX1_leave 55 = .ok (.iinc 4 (-1), 3) := by decide +kernel
theorem dX1_leave_58 : decode cX1_leave 58 = .ok (.goto (-29), 3) := by decide +kernel
theorem dX1_leave_61 : decode cX1_leave 61 = .ok (.bipush (-3), 2) := by decide +kernel
theorem dX1_leave_63 : decode cX1_leave 63 = .ok (.ireturn, 1) := by decide +kernel
theorem dX1_within_0 : decode cX1_within 0 = .ok (.aload_n 0, 1) := by decide +kernel
theorem dX1_within_1 : decode cX1_within 1 = .ok (.iload_n 1, 1) := by decide +kernel
theorem dX1_within_2 : decode cX1_within 2 = .ok (.invokevirtual 32, 3) := by decide +kernel
theorem dX1_within_5 : decode cX1_within 5 = .ok (.ifCond .eq 19, 3) := by decide +kernel
theorem dX1_within_8 : decode cX1_within 8 = .ok (.aload_n 0, 1) := by decide +kernel
theorem dX1_within_9 : decode cX1_within 9 = .ok (.iload_n 2, 1) := by decide +kernel
theorem dX1_within_10 : decode cX1_within 10 = .ok (.invokevirtual 36, 3) := by decide +kernel
theorem dX1_within_13 : decode cX1_within 13 = .ok (.ifCond .eq 11, 3) := by decide +kernel
theorem dX1_within_16 : decode cX1_within 16 = .ok (.aload_n 0, 1) := by decide +kernel
theorem dX1_within_17 : decode cX1_within 17 = .ok (.iload_n 3, 1) := by decide +kernel
theorem dX1_within_18 : decode cX1_within 18 = .ok (.invokevirtual 36, 3) := by decide +kernel
theorem dX1_within_21 : decode cX1_within 21 = .ok (.ifCond .ne 5, 3) := by decide +kernel
theorem dX1_within_24 : decode cX1_within 24 = .ok (.iconst (-1), 1) := by decide +kernel
theorem dX1_within_25 : decode cX1_within 25 = .ok (.ireturn, 1) := by decide +kernel
theorem dX1_within_26 : decode cX1_within 26 = .ok (.aload_n 0, 1) := by decide +kernel
theorem dX1_within_27 : decode cX1_within 27 = .ok (.iload_n 1, 1) := by decide +kernel
theorem dX1_within_28 : decode cX1_within 28 = .ok (.iload_n 2, 1) := by decide +kernel
theorem dX1_within_29 : decode cX1_within 29 = .ok (.invokevirtual 48, 3) := by decide +kernel
theorem dX1_within_32 : decode cX1_within 32 = .ok (.iconst 0, 1) := by decide +kernel
theorem dX1_within_33 : decode cX1_within 33 = .ok (.istore 4, 2) := by decide +kernel
theorem dX1_within_35 : decode cX1_within 35 = .ok (.iconst 0, 1) := by decide +kernel
theorem dX1_within_36 : decode cX1_within 36 = .ok (.istore 5, 2) := by decide +kernel
theorem dX1_within_38 : decode cX1_within 38 = .ok (.iload 5, 2) := by decide +kernel
theorem dX1_within_40 : decode cX1_within 40 = .ok (.bipush 8, 2) := by decide +kernel
theorem dX1_within_42 : decode cX1_within 42 = .ok (.if_icmp .ge 30, 3) := by decide +kernel
theorem dX1_within_45 : decode cX1_within 45 = .ok (.aload_n 0, 1) := by decide +kernel
theorem dX1_within_46 : decode cX1_within 46 = .ok (.iload 5, 2) := by decide +kernel
theorem dX1_within_48 : decode cX1_within 48 = .ok (.bipush 10, 2) := by decide +kernel
theorem dX1_within_50 : decode cX1_within 50 = .ok (.invokevirtual 52, 3) := by decide +kernel
theorem dX1_within_53 : decode cX1_within 53 = .ok (.iload_n 3, 1) := by decide +kernel
theorem dX1_within_54 : decode cX1_within 54 = .ok (.if_icmp .gt 12, 3) := by decide +kernel
theorem dX1_within_57 : decode cX1_within 57 = .ok (.iload 4, 2) := by decide +kernel
theorem dX1_within_59 : decode cX1_within 59 = .ok (.iconst 1, 1) := by decide +kernel
theorem dX1_within_60 : decode cX1_within 60 = .ok (.iload 5, 2) := by decide +kernel
theorem dX1_within_62 : decode cX1_within 62 = .ok (.ishl, 1) := by decide +kernel
theorem dX1_within_63 : decode cX1_within 63 = .ok (.ior, 1) := by decide +kernel
theorem dX1_within_64 : decode cX1_within 64 = .ok (.istore 4, 2) := by decide +kernel
theorem dX1_within_66 : decode cX1_within 66 = .ok (.iinc 5 1, 3) := by decide +kernel
theorem dX1_within_69 : decode cX1_within 69 = .ok (.goto (-31), 3) := by decide +kernel
theorem dX1_within_72 : decode cX1_within 72 = .ok (.iload 4, 2) := by decide +kernel
theorem dX1_within_74 : decode cX1_within 74 = .ok (.ireturn, 1) := by decide +kernel
end
section
set_option maxRecDepth 100000
theorem dL_law_0 : decode cL_law 0 = .ok (.new 7, 3) := by decide +kernel
theorem dL_law_3 : decode cL_law 3 = .ok (.dup, 1) := by decide +kernel
theorem dL_law_4 : decode cL_law 4 = .ok (.invokespecial 9, 3) := by decide +kernel
theorem dL_law_7 : decode cL_law 7 = .ok (.astore_n 1, 1) := by decide +kernel
theorem dL_law_8 : decode cL_law 8 = .ok (.new 10, 3) := by decide +kernel
theorem dL_law_11 : decode cL_law 11 = .ok (.dup, 1) := by decide +kernel
theorem dL_law_12 : decode cL_law 12 = .ok (.invokespecial 12, 3) := by decide +kernel
theorem dL_law_15 : decode cL_law 15 = .ok (.astore_n 2, 1) := by decide +kernel
theorem dL_law_16 : decode cL_law 16 = .ok (.iconst 0, 1) := by decide +kernel
theorem dL_law_17 : decode cL_law 17 = .ok (.istore_n 3, 1) := by decide +kernel
theorem dL_law_18 : decode cL_law 18 = .ok (.iload_n 3, 1) := by decide +kernel
theorem dL_law_19 : decode cL_law 19 = .ok (.aload_n 0, 1) := by decide +kernel
theorem dL_law_20 : decode cL_law 20 = .ok (.arraylength, 1) := by decide +kernel
theorem dL_law_21 : decode cL_law 21 = .ok (.iconst 5, 1) := by decide +kernel
theorem dL_law_22 : decode cL_law 22 = .ok (.isub, 1) := by decide +kernel
theorem dL_law_23 : decode cL_law 23 = .ok (.if_icmp .gt 471, 3) := by decide +kernel
theorem dL_law_26 : decode cL_law 26 = .ok (.aload_n 0, 1) := by decide +kernel
theorem dL_law_27 : decode cL_law 27 = .ok (.iload_n 3, 1) := by decide +kernel
theorem dL_law_28 : decode cL_law 28 = .ok (.iaload, 1) := by decide +kernel
theorem dL_law_29 : decode cL_law 29 = .ok (.bipush 15, 2) := by decide +kernel
theorem dL_law_31 : decode cL_law 31 = .ok (.iand, 1) := by decide +kernel
theorem dL_law_32 : decode cL_law 32 = .ok (.tableswitch 456 0 9 #[56, 89, 122, 145, 188, 231, 284, 327, 370, 413], 56) := by decide +kernel
theorem dL_law_88 : decode cL_law 88 = .ok (.aload_n 1, 1) := by decide +kernel
theorem dL_law_89 : decode cL_law 89 = .ok (.aload_n 0, 1) := by decide +kernel
theorem dL_law_90 : decode cL_law 90 = .ok (.iload_n 3, 1) := by decide +kernel
theorem dL_law_91 : decode cL_law 91 = .ok (.iconst 1, 1) := by decide +kernel
theorem dL_law_92 : decode cL_law 92 = .ok (.iadd, 1) := by decide +kernel
theorem dL_law_93 : decode cL_law 93 = .ok (.iaload, 1) := by decide +kernel
theorem dL_law_94 : decode cL_law 94 = .ok (.aload_n 0, 1) := by decide +kernel
theorem dL_law_95 : decode cL_law 95 = .ok (.iload_n 3, 1) := by decide +kernel
theorem dL_law_96 : decode cL_law 96 = .ok (.iconst 2, 1) := by decide +kernel
theorem dL_law_97 : decode cL_law 97 = .ok (.iadd, 1) := by decide +kernel
theorem dL_law_98 : decode cL_law 98 = .ok (.iaload, 1) := by decide +kernel
theorem dL_law_99 : decode cL_law 99 = .ok (.invokevirtual 13, 3) := by decide +kernel
theorem dL_law_102 : decode cL_law 102 = .ok (.aload_n 2, 1) := by decide +kernel
theorem dL_law_103 : decode cL_law 103 = .ok (.aload_n 0, 1) := by decide +kernel
theorem dL_law_104 : decode cL_law 104 = .ok (.iload_n 3, 1) := by decide +kernel
theorem dL_law_105 : decode cL_law 105 = .ok (.iconst 1, 1) := by decide +kernel
theorem dL_law_106 : decode cL_law 106 = .ok (.iadd, 1) := by decide +kernel
theorem dL_law_107 : decode cL_law 107 = .ok (.iaload, 1) := by decide +kernel
theorem dL_law_108 : decode cL_law 108 = .ok (.aload_n 0, 1) := by decide +kernel
theorem dL_law_109 : decode cL_law 109 = .ok (.iload_n 3, 1) := by decide +kernel
theorem dL_law_110 : decode cL_law 110 = .ok (.iconst 2, 1) := by decide +kernel
theorem dL_law_111 : decode cL_law 111 = .ok (.iadd, 1) := by decide +kernel
theorem dL_law_112 : decode cL_law 112 = .ok (.iaload, 1) := by decide +kernel
theorem dL_law_113 : decode cL_law 113 = .ok (.invokevirtual 17, 3) := by decide +kernel
theorem dL_law_116 : decode cL_law 116 = .ok (.if_icmp .eq 372, 3) := by decide +kernel
theorem dL_law_119 : decode cL_law 119 = .ok (.iconst 0, 1) := by decide +kernel
theorem dL_law_120 : decode cL_law 120 = .ok (.ireturn, 1) := by decide +kernel
theorem dL_law_121 : decode cL_law 121 = .ok (.aload_n 1, 1) := by decide +kernel
theorem dL_law_122 : decode cL_law 122 = .ok (.aload_n 0, 1) := by decide +kernel
theorem dL_law_123 : decode cL_law 123 = .ok (.iload_n 3, 1) := by decide +kernel
theorem dL_law_124 : decode cL_law 124 = .ok (.iconst 1, 1) := by decide +kernel
theorem dL_law_125 : decode cL_law 125 = .ok (.iadd, 1) := by decide +kernel
theorem dL_law_126 : decode cL_law 126 = .ok (.iaload, 1) := by decide +kernel
theorem dL_law_127 : decode cL_law 127 = .ok (.aload_n 0, 1) := by decide +kernel
theorem dL_law_128 : decode cL_law 128 = .ok (.iload_n 3, 1) := by decide +kernel
theorem dL_law_129 : decode cL_law 129 = .ok (.iconst 2, 1) := by decide +kernel
theorem dL_law_130 : decode cL_law 130 = .ok (.iadd, 1) := by decide +kernel
theorem dL_law_131 : decode cL_law 131 = .ok (.iaload, 1) := by decide +kernel
theorem dL_law_132 : decode cL_law 132 = .ok (.invokevirtual 18, 3) := by decide +kernel
theorem dL_law_135 : decode cL_law 135 = .ok (.aload_n 2, 1) := by decide +kernel
theorem dL_law_136 : decode cL_law 136 = .ok (.aload_n 0, 1) := by decide +kernel
theorem dL_law_137 : decode cL_law 137 = .ok (.iload_n 3, 1) := by decide +kernel
theorem dL_law_138 : decode cL_law 138 = .ok (.iconst 1, 1) := by decide +kernel
theorem dL_law_139 : decode cL_law 139 = .ok (.iadd, 1) := by decide +kernel
theorem dL_law_140 : decode cL_law 140 = .ok (.iaload, 1) := by decide +kernel
theorem dL_law_141 : decode cL_law 141 = .ok (.aload_n 0, 1) := by decide +kernel
theorem dL_law_142 : decode cL_law 142 = .ok (.iload_n 3, 1) := by decide +kernel
theorem dL_law_143 : decode cL_law 143 = .ok (.iconst 2, 1) := by decide +kernel
theorem dL_law_144 : decode cL_law 144 = .ok (.iadd, 1) := by decide +kernel
theorem dL_law_145 : decode cL_law 145 = .ok (.iaload, 1) := by decide +kernel
theorem dL_law_146 : decode cL_law 146 = .ok (.invokevirtual 21, 3) := by decide +kernel
theorem dL_law_149 : decode cL_law 149 = .ok (.if_icmp .eq 339, 3) := by decide +kernel
theorem dL_law_152 : decode cL_law 152 = .ok (.iconst 0, 1) := by decide +kernel
theorem dL_law_153 : decode cL_law 153 = .ok (.ireturn, 1) := by decide +kernel
theorem dL_law_154 : decode cL_law 154 = .ok (.aload_n 1, 1) := by decide +kernel
theorem dL_law_155 : decode cL_law 155 = .ok (.aload_n 0, 1) := by decide +kernel
theorem dL_law_156 : decode cL_law 156 = .ok (.iload_n 3, 1) := by decide +kernel
theorem dL_law_157 : decode cL_law 157 = .ok (.iconst 1, 1) := by decide +kernel
theorem dL_law_158 : decode cL_law 158 = .ok (.iadd, 1) := by decide +kernel
theorem dL_law_159 : decode cL_law 159 = .ok (.iaload, 1) := by decide +kernel
theorem dL_law_160 : decode cL_law 160 = .ok (.invokevirtual 22, 3) := by decide +kernel
theorem dL_law_163 : decode cL_law 163 = .ok (.aload_n 2, 1) := by decide +kernel
theorem dL_law_164 : decode cL_law 164 = .ok (.aload_n 0, 1) := by decide +kernel
theorem dL_law_165 : decode cL_law 165 = .ok (.iload_n 3, 1) := by decide +kernel
theorem dL_law_166 : decode cL_law 166 = .ok (.iconst 1, 1) := by decide +kernel
theorem dL_law_167 : decode cL_law 167 = .ok (.iadd, 1) := by decide +kernel
theorem dL_law_168 : decode cL_law 168 = .ok (.iaload, 1) := by decide +kernel
theorem dL_law_169 : decode cL_law 169 = .ok (.invokevirtual 26, 3) := by decide +kernel
theorem dL_law_172 : decode cL_law 172 = .ok (.if_icmp .eq 316, 3) := by decide +kernel
theorem dL_law_175 : decode cL_law 175 = .ok (.iconst 0, 1) := by decide +kernel
theorem dL_law_176 : decode cL_law 176 = .ok (.ireturn, 1) := by decide +kernel
theorem dL_law_177 : decode cL_law 177 = .ok (.aload_n 1, 1) := by decide +kernel
theorem dL_law_178 : decode cL_law 178 = .ok (.aload_n 0, 1) := by decide +kernel
theorem dL_law_179 : decode cL_law 179 = .ok (.iload_n 3, 1) := by decide +kernel
theorem dL_law_180 : decode cL_law 180 = .ok (.iconst 1, 1) := by decide +kernel
theorem dL_law_181 : decode cL_law 181 = .ok (.iadd, 1) := by decide +kernel
theorem dL_law_182 : decode cL_law 182 = .ok (.iaload, 1) := by decide +kernel
theorem dL_law_183 : decode cL_law 183 = .ok (.aload_n 0, 1) := by decide +kernel
theorem dL_law_184 : decode cL_law 184 = .ok (.iload_n 3, 1) := by decide +kernel
theorem dL_law_185 : decode cL_law 185 = .ok (.iconst 2, 1) := by decide +kernel
theorem dL_law_186 : decode cL_law 186 = .ok (.iadd, 1) := by decide +kernel
theorem dL_law_187 : decode cL_law 187 = .ok (.iaload, 1) := by decide +kernel
theorem dL_law_188 : decode cL_law 188 = .ok (.aload_n 0, 1) := by decide +kernel
theorem dL_law_189 : decode cL_law 189 = .ok (.iload_n 3, 1) := by decide +kernel
theorem dL_law_190 : decode cL_law 190 = .ok (.iconst 3, 1) := by decide +kernel
theorem dL_law_191 : decode cL_law 191 = .ok (.iadd, 1) := by decide +kernel
theorem dL_law_192 : decode cL_law 192 = .ok (.iaload, 1) := by decide +kernel
theorem dL_law_193 : decode cL_law 193 = .ok (.invokevirtual 27, 3) := by decide +kernel
theorem dL_law_196 : decode cL_law 196 = .ok (.aload_n 2, 1) := by decide +kernel
theorem dL_law_197 : decode cL_law 197 = .ok (.aload_n 0, 1) := by decide +kernel
theorem dL_law_198 : decode cL_law 198 = .ok (.iload_n 3, 1) := by decide +kernel
theorem dL_law_199 : decode cL_law 199 = .ok (.iconst 1, 1) := by decide +kernel
theorem dL_law_200 : decode cL_law 200 = .ok (.iadd, 1) := by decide +kernel
theorem dL_law_201 : decode cL_law 201 = .ok (.iaload, 1) := by decide +kernel
theorem dL_law_202 : decode cL_law 202 = .ok (.aload_n 0, 1) := by decide +kernel
theorem dL_law_203 : decode cL_law 203 = .ok (.iload_n 3, 1) := by decide +kernel
theorem dL_law_204 : decode cL_law 204 = .ok (.iconst 2, 1) := by decide +kernel
theorem dL_law_205 : decode cL_law 205 = .ok (.iadd, 1) := by decide +kernel
theorem dL_law_206 : decode cL_law 206 = .ok (.iaload, 1) := by decide +kernel
theorem dL_law_207 : decode cL_law 207 = .ok (.aload_n 0, 1) := by decide +kernel
theorem dL_law_208 : decode cL_law 208 = .ok (.iload_n 3, 1) := by decide +kernel
theorem dL_law_209 : decode cL_law 209 = .ok (.iconst 3, 1) := by decide +kernel
theorem dL_law_210 : decode cL_law 210 = .ok (.iadd, 1) := by decide +kernel
theorem dL_law_211 : decode cL_law 211 = .ok (.iaload, 1) := by decide +kernel
theorem dL_law_212 : decode cL_law 212 = .ok (.invokevirtual 31, 3) := by decide +kernel
theorem dL_law_215 : decode cL_law 215 = .ok (.if_icmp .eq 273, 3) := by decide +kernel
theorem dL_law_218 : decode cL_law 218 = .ok (.iconst 0, 1) := by decide +kernel
theorem dL_law_219 : decode cL_law 219 = .ok (.ireturn, 1) := by decide +kernel
theorem dL_law_220 : decode cL_law 220 = .ok (.aload_n 1, 1) := by decide +kernel
theorem dL_law_221 : decode cL_law 221 = .ok (.aload_n 0, 1) := by decide +kernel
theorem dL_law_222 : decode cL_law 222 = .ok (.iload_n 3, 1) := by decide +kernel
theorem dL_law_223 : decode cL_law 223 = .ok (.iconst 1, 1) := by decide +kernel
theorem dL_law_224 : decode cL_law 224 = .ok (.iadd, 1) := by decide +kernel
theorem dL_law_225 : decode cL_law 225 = .ok (.iaload, 1) := by decide +kernel
theorem dL_law_226 : decode cL_law 226 = .ok (.aload_n 0, 1) := by decide +kernel
theorem dL_law_227 : decode cL_law 227 = .ok (.iload_n 3, 1) := by decide +kernel
theorem dL_law_228 : decode cL_law 228 = .ok (.iconst 2, 1) := by decide +kernel
theorem dL_law_229 : decode cL_law 229 = .ok (.iadd, 1) := by decide +kernel
theorem dL_law_230 : decode cL_law 230 = .ok (.iaload, 1) := by decide +kernel
theorem dL_law_231 : decode cL_law 231 = .ok (.aload_n 0, 1) := by decide +kernel
theorem dL_law_232 : decode cL_law 232 = .ok (.iload_n 3, 1) := by decide +kernel
theorem dL_law_233 : decode cL_law 233 = .ok (.iconst 3, 1) := by decide +kernel
theorem dL_law_234 : decode cL_law 234 = .ok (.iadd, 1) := by decide +kernel
theorem dL_law_235 : decode cL_law 235 = .ok (.iaload, 1) := by decide +kernel
theorem dL_law_236 : decode cL_law 236 = .ok (.invokevirtual 32, 3) := by decide +kernel
theorem dL_law_239 : decode cL_law 239 = .ok (.aload_n 2, 1) := by decide +kernel
theorem dL_law_240 : decode cL_law 240 = .ok (.aload_n 0, 1) := by decide +kernel
theorem dL_law_241 : decode cL_law 241 = .ok (.iload_n 3, 1) := by decide +kernel
theorem dL_law_242 : decode cL_law 242 = .ok (.iconst 1, 1) := by decide +kernel
theorem dL_law_243 : decode cL_law 243 = .ok (.iadd, 1) := by decide +kernel
theorem dL_law_244 : decode cL_law 244 = .ok (.iaload, 1) := by decide +kernel
theorem dL_law_245 : decode cL_law 245 = .ok (.aload_n 0, 1) := by decide +kernel
theorem dL_law_246 : decode cL_law 246 = .ok (.iload_n 3, 1) := by decide +kernel
theorem dL_law_247 : decode cL_law 247 = .ok (.iconst 2, 1) := by decide +kernel
theorem dL_law_248 : decode cL_law 248 = .ok (.iadd, 1) := by decide +kernel
theorem dL_law_249 : decode cL_law 249 = .ok (.iaload, 1) := by decide +kernel
theorem dL_law_250 : decode cL_law 250 = .ok (.aload_n 0, 1) := by decide +kernel
theorem dL_law_251 : decode cL_law 251 = .ok (.iload_n 3, 1) := by decide +kernel
theorem dL_law_252 : decode cL_law 252 = .ok (.iconst 3, 1) := by decide +kernel
theorem dL_law_253 : decode cL_law 253 = .ok (.iadd, 1) := by decide +kernel
theorem dL_law_254 : decode cL_law 254 = .ok (.iaload, 1) := by decide +kernel
theorem dL_law_255 : decode cL_law 255 = .ok (.invokevirtual 35, 3) := by decide +kernel
theorem dL_law_258 : decode cL_law 258 = .ok (.if_icmp .eq 230, 3) := by decide +kernel
theorem dL_law_261 : decode cL_law 261 = .ok (.iconst 0, 1) := by decide +kernel
theorem dL_law_262 : decode cL_law 262 = .ok (.ireturn, 1) := by decide +kernel
theorem dL_law_263 : decode cL_law 263 = .ok (.aload_n 1, 1) := by decide +kernel
theorem dL_law_264 : decode cL_law 264 = .ok (.aload_n 0, 1) := by decide +kernel
theorem dL_law_265 : decode cL_law 265 = .ok (.iload_n 3, 1) := by decide +kernel
theorem dL_law_266 : decode cL_law 266 = .ok (.iconst 1, 1) := by decide +kernel
theorem dL_law_267 : decode cL_law 267 = .ok (.iadd, 1) := by decide +kernel
theorem dL_law_268 : decode cL_law 268 = .ok (.iaload, 1) := by decide +kernel
theorem dL_law_269 : decode cL_law 269 = .ok (.aload_n 0, 1) := by decide +kernel
theorem dL_law_270 : decode cL_law 270 = .ok (.iload_n 3, 1) := by decide +kernel
theorem dL_law_271 : decode cL_law 271 = .ok (.iconst 2, 1) := by decide +kernel
theorem dL_law_272 : decode cL_law 272 = .ok (.iadd, 1) := by decide +kernel
theorem dL_law_273 : decode cL_law 273 = .ok (.iaload, 1) := by decide +kernel
theorem dL_law_274 : decode cL_law 274 = .ok (.aload_n 0, 1) := by decide +kernel
theorem dL_law_275 : decode cL_law 275 = .ok (.iload_n 3, 1) := by decide +kernel
theorem dL_law_276 : decode cL_law 276 = .ok (.iconst 3, 1) := by decide +kernel
theorem dL_law_277 : decode cL_law 277 = .ok (.iadd, 1) := by decide +kernel
theorem dL_law_278 : decode cL_law 278 = .ok (.iaload, 1) := by decide +kernel
theorem dL_law_279 : decode cL_law 279 = .ok (.aload_n 0, 1) := by decide +kernel
theorem dL_law_280 : decode cL_law 280 = .ok (.iload_n 3, 1) := by decide +kernel
theorem dL_law_281 : decode cL_law 281 = .ok (.iconst 4, 1) := by decide +kernel
theorem dL_law_282 : decode cL_law 282 = .ok (.iadd, 1) := by decide +kernel
theorem dL_law_283 : decode cL_law 283 = .ok (.iaload, 1) := by decide +kernel
theorem dL_law_284 : decode cL_law 284 = .ok (.invokevirtual 36, 3) := by decide +kernel
theorem dL_law_287 : decode cL_law 287 = .ok (.aload_n 2, 1) := by decide +kernel
theorem dL_law_288 : decode cL_law 288 = .ok (.aload_n 0, 1) := by decide +kernel
theorem dL_law_289 : decode cL_law 289 = .ok (.iload_n 3, 1) := by decide +kernel
theorem dL_law_290 : decode cL_law 290 = .ok (.iconst 1, 1) := by decide +kernel
theorem dL_law_291 : decode cL_law 291 = .ok (.iadd, 1) := by decide +kernel
theorem dL_law_292 : decode cL_law 292 = .ok (.iaload, 1) := by decide +kernel
theorem dL_law_293 : decode cL_law 293 = .ok (.aload_n 0, 1) := by decide +kernel
theorem dL_law_294 : decode cL_law 294 = .ok (.iload_n 3, 1) := by decide +kernel
theorem dL_law_295 : decode cL_law 295 = .ok (.iconst 2, 1) := by decide +kernel
theorem dL_law_296 : decode cL_law 296 = .ok (.iadd, 1) := by decide +kernel
theorem dL_law_297 : decode cL_law 297 = .ok (.iaload, 1) := by decide +kernel
theorem dL_law_298 : decode cL_law 298 = .ok (.aload_n 0, 1) := by decide +kernel
theorem dL_law_299 : decode cL_law 299 = .ok (.iload_n 3, 1) := by decide +kernel
theorem dL_law_300 : decode cL_law 300 = .ok (.iconst 3, 1) := by decide +kernel
theorem dL_law_301 : decode cL_law 301 = .ok (.iadd, 1) := by decide +kernel
theorem dL_law_302 : decode cL_law 302 = .ok (.iaload, 1) := by decide +kernel
theorem dL_law_303 : decode cL_law 303 = .ok (.aload_n 0, 1) := by decide +kernel
theorem dL_law_304 : decode cL_law 304 = .ok (.iload_n 3, 1) := by decide +kernel
theorem dL_law_305 : decode cL_law 305 = .ok (.iconst 4, 1) := by decide +kernel
theorem dL_law_306 : decode cL_law 306 = .ok (.iadd, 1) := by decide +kernel
theorem dL_law_307 : decode cL_law 307 = .ok (.iaload, 1) := by decide +kernel
theorem dL_law_308 : decode cL_law 308 = .ok (.invokevirtual 40, 3) := by decide +kernel
theorem dL_law_311 : decode cL_law 311 = .ok (.if_icmp .eq 177, 3) := by decide +kernel
theorem dL_law_314 : decode cL_law 314 = .ok (.iconst 0, 1) := by decide +kernel
theorem dL_law_315 : decode cL_law 315 = .ok (.ireturn, 1) := by decide +kernel
theorem dL_law_316 : decode cL_law 316 = .ok (.aload_n 1, 1) := by decide +kernel
theorem dL_law_317 : decode cL_law 317 = .ok (.aload_n 0, 1) := by decide +kernel
theorem dL_law_318 : decode cL_law 318 = .ok (.iload_n 3, 1) := by decide +kernel
theorem dL_law_319 : decode cL_law 319 = .ok (.iconst 1, 1) := by decide +kernel
theorem dL_law_320 : decode cL_law 320 = .ok (.iadd, 1) := by decide +kernel
theorem dL_law_321 : decode cL_law 321 = .ok (.iaload, 1) := by decide +kernel
theorem dL_law_322 : decode cL_law 322 = .ok (.aload_n 0, 1) := by decide +kernel
theorem dL_law_323 : decode cL_law 323 = .ok (.iload_n 3, 1) := by decide +kernel
theorem dL_law_324 : decode cL_law 324 = .ok (.iconst 2, 1) := by decide +kernel
theorem dL_law_325 : decode cL_law 325 = .ok (.iadd, 1) := by decide +kernel
theorem dL_law_326 : decode cL_law 326 = .ok (.iaload, 1) := by decide +kernel
theorem dL_law_327 : decode cL_law 327 = .ok (.aload_n 0, 1) := by decide +kernel
theorem dL_law_328 : decode cL_law 328 = .ok (.iload_n 3, 1) := by decide +kernel
theorem dL_law_329 : decode cL_law 329 = .ok (.iconst 3, 1) := by decide +kernel
theorem dL_law_330 : decode cL_law 330 = .ok (.iadd, 1) := by decide +kernel
theorem dL_law_331 : decode cL_law 331 = .ok (.iaload, 1) := by decide +kernel
theorem dL_law_332 : decode cL_law 332 = .ok (.invokevirtual 41, 3) := by decide +kernel
theorem dL_law_335 : decode cL_law 335 = .ok (.aload_n 2, 1) := by decide +kernel
theorem dL_law_336 : decode cL_law 336 = .ok (.aload_n 0, 1) := by decide +kernel
theorem dL_law_337 : decode cL_law 337 = .ok (.iload_n 3, 1) := by decide +kernel
theorem dL_law_338 : decode cL_law 338 = .ok (.iconst 1, 1) := by decide +kernel
theorem dL_law_339 : decode cL_law 339 = .ok (.iadd, 1) := by decide +kernel
theorem dL_law_340 : decode cL_law 340 = .ok (.iaload, 1) := by decide +kernel
theorem dL_law_341 : decode cL_law 341 = .ok (.aload_n 0, 1) := by decide +kernel
theorem dL_law_342 : decode cL_law 342 = .ok (.iload_n 3, 1) := by decide +kernel
theorem dL_law_343 : decode cL_law 343 = .ok (.iconst 2, 1) := by decide +kernel
theorem dL_law_344 : decode cL_law 344 = .ok (.iadd, 1) := by decide +kernel
theorem dL_law_345 : decode cL_law 345 = .ok (.iaload, 1) := by decide +kernel
theorem dL_law_346 : decode cL_law 346 = .ok (.aload_n 0, 1) := by decide +kernel
theorem dL_law_347 : decode cL_law 347 = .ok (.iload_n 3, 1) := by decide +kernel
theorem dL_law_348 : decode cL_law 348 = .ok (.iconst 3, 1) := by decide +kernel
theorem dL_law_349 : decode cL_law 349 = .ok (.iadd, 1) := by decide +kernel
theorem dL_law_350 : decode cL_law 350 = .ok (.iaload, 1) := by decide +kernel
theorem dL_law_351 : decode cL_law 351 = .ok (.invokevirtual 45, 3) := by decide +kernel
theorem dL_law_354 : decode cL_law 354 = .ok (.if_icmp .eq 134, 3) := by decide +kernel
theorem dL_law_357 : decode cL_law 357 = .ok (.iconst 0, 1) := by decide +kernel
theorem dL_law_358 : decode cL_law 358 = .ok (.ireturn, 1) := by decide +kernel
theorem dL_law_359 : decode cL_law 359 = .ok (.aload_n 1, 1) := by decide +kernel
theorem dL_law_360 : decode cL_law 360 = .ok (.aload_n 0, 1) := by decide +kernel
theorem dL_law_361 : decode cL_law 361 = .ok (.iload_n 3, 1) := by decide +kernel
theorem dL_law_362 : decode cL_law 362 = .ok (.iconst 1, 1) := by decide +kernel
theorem dL_law_363 : decode cL_law 363 = .ok (.iadd, 1) := by decide +kernel
theorem dL_law_364 : decode cL_law 364 = .ok (.iaload, 1) := by decide +kernel
theorem dL_law_365 : decode cL_law 365 = .ok (.aload_n 0, 1) := by decide +kernel
theorem dL_law_366 : decode cL_law 366 = .ok (.iload_n 3, 1) := by decide +kernel
theorem dL_law_367 : decode cL_law 367 = .ok (.iconst 2, 1) := by decide +kernel
theorem dL_law_368 : decode cL_law 368 = .ok (.iadd, 1) := by decide +kernel
theorem dL_law_369 : decode cL_law 369 = .ok (.iaload, 1) := by decide +kernel
theorem dL_law_370 : decode cL_law 370 = .ok (.aload_n 0, 1) := by decide +kernel
theorem dL_law_371 : decode cL_law 371 = .ok (.iload_n 3, 1) := by decide +kernel
theorem dL_law_372 : decode cL_law 372 = .ok (.iconst 3, 1) := by decide +kernel
theorem dL_law_373 : decode cL_law 373 = .ok (.iadd, 1) := by decide +kernel
theorem dL_law_374 : decode cL_law 374 = .ok (.iaload, 1) := by decide +kernel
theorem dL_law_375 : decode cL_law 375 = .ok (.invokevirtual 46, 3) := by decide +kernel
theorem dL_law_378 : decode cL_law 378 = .ok (.aload_n 2, 1) := by decide +kernel
theorem dL_law_379 : decode cL_law 379 = .ok (.aload_n 0, 1) := by decide +kernel
theorem dL_law_380 : decode cL_law 380 = .ok (.iload_n 3, 1) := by decide +kernel
theorem dL_law_381 : decode cL_law 381 = .ok (.iconst 1, 1) := by decide +kernel
theorem dL_law_382 : decode cL_law 382 = .ok (.iadd, 1) := by decide +kernel
theorem dL_law_383 : decode cL_law 383 = .ok (.iaload, 1) := by decide +kernel
theorem dL_law_384 : decode cL_law 384 = .ok (.aload_n 0, 1) := by decide +kernel
theorem dL_law_385 : decode cL_law 385 = .ok (.iload_n 3, 1) := by decide +kernel
theorem dL_law_386 : decode cL_law 386 = .ok (.iconst 2, 1) := by decide +kernel
theorem dL_law_387 : decode cL_law 387 = .ok (.iadd, 1) := by decide +kernel
theorem dL_law_388 : decode cL_law 388 = .ok (.iaload, 1) := by decide +kernel
theorem dL_law_389 : decode cL_law 389 = .ok (.aload_n 0, 1) := by decide +kernel
theorem dL_law_390 : decode cL_law 390 = .ok (.iload_n 3, 1) := by decide +kernel
theorem dL_law_391 : decode cL_law 391 = .ok (.iconst 3, 1) := by decide +kernel
theorem dL_law_392 : decode cL_law 392 = .ok (.iadd, 1) := by decide +kernel
theorem dL_law_393 : decode cL_law 393 = .ok (.iaload, 1) := by decide +kernel
theorem dL_law_394 : decode cL_law 394 = .ok (.invokevirtual 49, 3) := by decide +kernel
theorem dL_law_397 : decode cL_law 397 = .ok (.if_icmp .eq 91, 3) := by decide +kernel
theorem dL_law_400 : decode cL_law 400 = .ok (.iconst 0, 1) := by decide +kernel
theorem dL_law_401 : decode cL_law 401 = .ok (.ireturn, 1) := by decide +kernel
theorem dL_law_402 : decode cL_law 402 = .ok (.aload_n 1, 1) := by decide +kernel
theorem dL_law_403 : decode cL_law 403 = .ok (.aload_n 0, 1) := by decide +kernel
theorem dL_law_404 : decode cL_law 404 = .ok (.iload_n 3, 1) := by decide +kernel
theorem dL_law_405 : decode cL_law 405 = .ok (.iconst 1, 1) := by decide +kernel
theorem dL_law_406 : decode cL_law 406 = .ok (.iadd, 1) := by decide +kernel
theorem dL_law_407 : decode cL_law 407 = .ok (.iaload, 1) := by decide +kernel
theorem dL_law_408 : decode cL_law 408 = .ok (.aload_n 0, 1) := by decide +kernel
theorem dL_law_409 : decode cL_law 409 = .ok (.iload_n 3, 1) := by decide +kernel
theorem dL_law_410 : decode cL_law 410 = .ok (.iconst 2, 1) := by decide +kernel
theorem dL_law_411 : decode cL_law 411 = .ok (.iadd, 1) := by decide +kernel
theorem dL_law_412 : decode cL_law 412 = .ok (.iaload, 1) := by decide +kernel
theorem dL_law_413 : decode cL_law 413 = .ok (.aload_n 0, 1) := by decide +kernel
theorem dL_law_414 : decode cL_law 414 = .ok (.iload_n 3, 1) := by decide +kernel
theorem dL_law_415 : decode cL_law 415 = .ok (.iconst 3, 1) := by decide +kernel
theorem dL_law_416 : decode cL_law 416 = .ok (.iadd, 1) := by decide +kernel
theorem dL_law_417 : decode cL_law 417 = .ok (.iaload, 1) := by decide +kernel
theorem dL_law_418 : decode cL_law 418 = .ok (.invokevirtual 50, 3) := by decide +kernel
theorem dL_law_421 : decode cL_law 421 = .ok (.aload_n 2, 1) := by decide +kernel
theorem dL_law_422 : decode cL_law 422 = .ok (.aload_n 0, 1) := by decide +kernel
theorem dL_law_423 : decode cL_law 423 = .ok (.iload_n 3, 1) := by decide +kernel
theorem dL_law_424 : decode cL_law 424 = .ok (.iconst 1, 1) := by decide +kernel
theorem dL_law_425 : decode cL_law 425 = .ok (.iadd, 1) := by decide +kernel
theorem dL_law_426 : decode cL_law 426 = .ok (.iaload, 1) := by decide +kernel
theorem dL_law_427 : decode cL_law 427 = .ok (.aload_n 0, 1) := by decide +kernel
theorem dL_law_428 : decode cL_law 428 = .ok (.iload_n 3, 1) := by decide +kernel
theorem dL_law_429 : decode cL_law 429 = .ok (.iconst 2, 1) := by decide +kernel
theorem dL_law_430 : decode cL_law 430 = .ok (.iadd, 1) := by decide +kernel
theorem dL_law_431 : decode cL_law 431 = .ok (.iaload, 1) := by decide +kernel
theorem dL_law_432 : decode cL_law 432 = .ok (.aload_n 0, 1) := by decide +kernel
theorem dL_law_433 : decode cL_law 433 = .ok (.iload_n 3, 1) := by decide +kernel
theorem dL_law_434 : decode cL_law 434 = .ok (.iconst 3, 1) := by decide +kernel
theorem dL_law_435 : decode cL_law 435 = .ok (.iadd, 1) := by decide +kernel
theorem dL_law_436 : decode cL_law 436 = .ok (.iaload, 1) := by decide +kernel
theorem dL_law_437 : decode cL_law 437 = .ok (.invokevirtual 53, 3) := by decide +kernel
theorem dL_law_440 : decode cL_law 440 = .ok (.if_icmp .eq 48, 3) := by decide +kernel
theorem dL_law_443 : decode cL_law 443 = .ok (.iconst 0, 1) := by decide +kernel
theorem dL_law_444 : decode cL_law 444 = .ok (.ireturn, 1) := by decide +kernel
theorem dL_law_445 : decode cL_law 445 = .ok (.aload_n 1, 1) := by decide +kernel
theorem dL_law_446 : decode cL_law 446 = .ok (.aload_n 0, 1) := by decide +kernel
theorem dL_law_447 : decode cL_law 447 = .ok (.iload_n 3, 1) := by decide +kernel
theorem dL_law_448 : decode cL_law 448 = .ok (.iconst 1, 1) := by decide +kernel
theorem dL_law_449 : decode cL_law 449 = .ok (.iadd, 1) := by decide +kernel
theorem dL_law_450 : decode cL_law 450 = .ok (.iaload, 1) := by decide +kernel
theorem dL_law_451 : decode cL_law 451 = .ok (.aload_n 0, 1) := by decide +kernel
theorem dL_law_452 : decode cL_law 452 = .ok (.iload_n 3, 1) := by decide +kernel
theorem dL_law_453 : decode cL_law 453 = .ok (.iconst 2, 1) := by decide +kernel
theorem dL_law_454 : decode cL_law 454 = .ok (.iadd, 1) := by decide +kernel
theorem dL_law_455 : decode cL_law 455 = .ok (.iaload, 1) := by decide +kernel
theorem dL_law_456 : decode cL_law 456 = .ok (.aload_n 0, 1) := by decide +kernel
theorem dL_law_457 : decode cL_law 457 = .ok (.iload_n 3, 1) := by decide +kernel
theorem dL_law_458 : decode cL_law 458 = .ok (.iconst 3, 1) := by decide +kernel
theorem dL_law_459 : decode cL_law 459 = .ok (.iadd, 1) := by decide +kernel
theorem dL_law_460 : decode cL_law 460 = .ok (.iaload, 1) := by decide +kernel
theorem dL_law_461 : decode cL_law 461 = .ok (.invokevirtual 54, 3) := by decide +kernel
theorem dL_law_464 : decode cL_law 464 = .ok (.aload_n 2, 1) := by decide +kernel
theorem dL_law_465 : decode cL_law 465 = .ok (.aload_n 0, 1) := by decide +kernel
theorem dL_law_466 : decode cL_law 466 = .ok (.iload_n 3, 1) := by decide +kernel
theorem dL_law_467 : decode cL_law 467 = .ok (.iconst 1, 1) := by decide +kernel
theorem dL_law_468 : decode cL_law 468 = .ok (.iadd, 1) := by decide +kernel
theorem dL_law_469 : decode cL_law 469 = .ok (.iaload, 1) := by decide +kernel
theorem dL_law_470 : decode cL_law 470 = .ok (.aload_n 0, 1) := by decide +kernel
theorem dL_law_471 : decode cL_law 471 = .ok (.iload_n 3, 1) := by decide +kernel
theorem dL_law_472 : decode cL_law 472 = .ok (.iconst 2, 1) := by decide +kernel
theorem dL_law_473 : decode cL_law 473 = .ok (.iadd, 1) := by decide +kernel
theorem dL_law_474 : decode cL_law 474 = .ok (.iaload, 1) := by decide +kernel
theorem dL_law_475 : decode cL_law 475 = .ok (.aload_n 0, 1) := by decide +kernel
theorem dL_law_476 : decode cL_law 476 = .ok (.iload_n 3, 1) := by decide +kernel
theorem dL_law_477 : decode cL_law 477 = .ok (.iconst 3, 1) := by decide +kernel
theorem dL_law_478 : decode cL_law 478 = .ok (.iadd, 1) := by decide +kernel
theorem dL_law_479 : decode cL_law 479 = .ok (.iaload, 1) := by decide +kernel
theorem dL_law_480 : decode cL_law 480 = .ok (.invokevirtual 57, 3) := by decide +kernel
theorem dL_law_483 : decode cL_law 483 = .ok (.if_icmp .eq 5, 3) := by decide +kernel
theorem dL_law_486 : decode cL_law 486 = .ok (.iconst 0, 1) := by decide +kernel
theorem dL_law_487 : decode cL_law 487 = .ok (.ireturn, 1) := by decide +kernel
theorem dL_law_488 : decode cL_law 488 = .ok (.iinc 3 5, 3) := by decide +kernel
theorem dL_law_491 : decode cL_law 491 = .ok (.goto (-473), 3) := by decide +kernel
theorem dL_law_494 : decode cL_law 494 = .ok (.iconst 1, 1) := by decide +kernel
theorem dL_law_495 : decode cL_law 495 = .ok (.ireturn, 1) := by decide +kernel
end
section
set_option maxRecDepth 100000
/-! own rows: arrays and numbers over Nat -/
def tr_up (f : Nat → Nat) (k v : Nat) : Nat → Nat := fun j => if j = k then v else f j
def tr_ai (f : Nat → Nat) : Nat → Int32 := fun j => nI (f j)
theorem tr_ai_up (f : Nat → Nat) (k v : Nat) : upd (tr_ai f) k (nI v) = tr_ai (tr_up f k v) := by
  funext j
  simp only [upd, tr_ai, tr_up]
  split <;> rfl
theorem tr_up_s (f : Nat → Nat) (k v : Nat) : tr_up f k v k = v := by simp [tr_up]
theorem tr_up_n {f : Nat → Nat} {k v j : Nat} (h : j ≠ k) : tr_up f k v j = f j := by simp [tr_up, h]
theorem tr_up_le {f : Nat → Nat} {k v B : Nat} (h : ∀ j, f j ≤ B) (hv : v ≤ B) : ∀ j, tr_up f k v j ≤ B := by
  intro j
  unfold tr_up
  split
  · exact hv
  · exact h j
theorem tr_or (a b : Nat) : nI a ||| nI b = nI (a ||| b) := by
  apply Int32.toBitVec_inj.1
  show BitVec.ofNat 32 a ||| BitVec.ofNat 32 b = BitVec.ofNat 32 (a ||| b)
  apply BitVec.eq_of_getLsbD_eq
  intro i hi
  simp [hi]
theorem tr_and (a b : Nat) : nI a &&& nI b = nI (a &&& b) := by
  apply Int32.toBitVec_inj.1
  show BitVec.ofNat 32 a &&& BitVec.ofNat 32 b = BitVec.ofNat 32 (a &&& b)
  apply BitVec.eq_of_getLsbD_eq
  intro i hi
  simp [hi]
theorem tr_sm : ∀ n, n < 32 → ((nI n &&& 31).toBitVec.smod 32).toNat = n := by decide +kernel
theorem tr_shl1 : ∀ n, n < 8 → nI 1 <<< (nI n &&& 31) = nI (2 ^ n) := by decide +kernel
theorem tr_shr {n k : Nat} (hn : n < 2 ^ 31) (hk : k < 32) : nI n >>> (nI k &&& 31) = nI (n / 2 ^ k) := pk_shrN hn _ k (tr_sm k hk)
theorem tr_i8 : ∀ k, k < 128 → (nI k).toInt8.toInt32 = nI k := by decide +kernel
theorem tr_i16 {k : Nat} (h : k < 32768) : (nI k).toInt16.toInt32 = nI k := by
  apply Int32.toInt_inj.mp
  rw [Int16.toInt_toInt32, Int32.toInt_toInt16, nI_toInt (by omega)]
  exact Int.bmod_eq_of_le (by omega) (by omega)
theorem tr_n8 {k : Nat} (h : k < 128) : vp_nar .byte (nI k) = nI k := by rw [vp_nar_byte, tr_i8 k h]
theorem tr_n16 {k : Nat} (h : k < 32768) : vp_nar .short (nI k) = nI k := by rw [vp_nar_short, tr_i16 h]
theorem tr_100000 : (100000 : Int32) = nI 100000 := by decide +kernel

section TW
variable {p : Program} {l : Launch} {e : Env} {R : Room} {s : State} {m : MethodId} {args : Array Value} {below : List Frame} {meth : Method} {c : Code} {H : Heap} {locs : List Loc} {cells slots : Nat} {Q : State → Prop}
variable {cc : ByteArray} {pc : Nat} {ls : Array Slot} {rest : List Value}
theorem tw_iadd (hx : p.tables.exec = Jvm.exec) (hb : c.code = cc) {a b : Nat} (hdg : decode cc pc = .ok (.iadd, 1))  (k : W p l e R s m args below meth c H locs cells slots Q (F0 m (pc + 1) ls (.int (nI (a + b)) :: rest))) : W p l e R s m args below meth c H locs cells slots Q (F0 m pc ls (.int (nI b) :: .int (nI a) :: rest)) := lv_iadd hx hb hdg (by rw [nI_add]; exact k)
theorem tw_imul (hx : p.tables.exec = Jvm.exec) (hb : c.code = cc) {a b : Nat} (hdg : decode cc pc = .ok (.imul, 1))  (k : W p l e R s m args below meth c H locs cells slots Q (F0 m (pc + 1) ls (.int (nI (a * b)) :: rest))) : W p l e R s m args below meth c H locs cells slots Q (F0 m pc ls (.int (nI b) :: .int (nI a) :: rest)) := lv_imul hx hb hdg (by rw [pk_mul]; exact k)
theorem tw_isub (hx : p.tables.exec = Jvm.exec) (hb : c.code = cc) {a b : Nat} (hdg : decode cc pc = .ok (.isub, 1)) (h : b ≤ a) (k : W p l e R s m args below meth c H locs cells slots Q (F0 m (pc + 1) ls (.int (nI (a - b)) :: rest))) : W p l e R s m args below meth c H locs cells slots Q (F0 m pc ls (.int (nI b) :: .int (nI a) :: rest)) := lv_isub hx hb hdg (by rw [pk_sub h]; exact k)
theorem tw_idiv (hx : p.tables.exec = Jvm.exec) (hb : c.code = cc) {a b : Nat} (hdg : decode cc pc = .ok (.idiv, 1)) (ha : a < 2 ^ 31) (h0 : 0 < b) (hb2 : b < 2 ^ 31) (k : W p l e R s m args below meth c H locs cells slots Q (F0 m (pc + 1) ls (.int (nI (a / b)) :: rest))) : W p l e R s m args below meth c H locs cells slots Q (F0 m pc ls (.int (nI b) :: .int (nI a) :: rest)) := lv_idiv hx hb hdg (nI_ne0 h0 hb2) (by rw [pk_div ha h0 hb2]; exact k)
theorem tw_irem (hx : p.tables.exec = Jvm.exec) (hb : c.code = cc) {a b : Nat} (hdg : decode cc pc = .ok (.irem, 1)) (ha : a < 2 ^ 31) (h0 : 0 < b) (hb2 : b < 2 ^ 31) (k : W p l e R s m args below meth c H locs cells slots Q (F0 m (pc + 1) ls (.int (nI (a % b)) :: rest))) : W p l e R s m args below meth c H locs cells slots Q (F0 m pc ls (.int (nI b) :: .int (nI a) :: rest)) := lv_irem hx hb hdg (nI_ne0 h0 hb2) (by rw [pk_rem ha h0 hb2]; exact k)
theorem tw_ior (hx : p.tables.exec = Jvm.exec) (hb : c.code = cc) {a b : Nat} (hdg : decode cc pc = .ok (.ior, 1))  (k : W p l e R s m args below meth c H locs cells slots Q (F0 m (pc + 1) ls (.int (nI (a ||| b)) :: rest))) : W p l e R s m args below meth c H locs cells slots Q (F0 m pc ls (.int (nI b) :: .int (nI a) :: rest)) := lv_ior hx hb hdg (by rw [tr_or]; exact k)
theorem tw_iand (hx : p.tables.exec = Jvm.exec) (hb : c.code = cc) {a b : Nat} (hdg : decode cc pc = .ok (.iand, 1))  (k : W p l e R s m args below meth c H locs cells slots Q (F0 m (pc + 1) ls (.int (nI (a &&& b)) :: rest))) : W p l e R s m args below meth c H locs cells slots Q (F0 m pc ls (.int (nI b) :: .int (nI a) :: rest)) := lv_iand hx hb hdg (by rw [tr_and]; exact k)
theorem tw_ishl1 (hx : p.tables.exec = Jvm.exec) (hb : c.code = cc) {b : Nat} (hdg : decode cc pc = .ok (.ishl, 1)) (h : b < 8) (k : W p l e R s m args below meth c H locs cells slots Q (F0 m (pc + 1) ls (.int (nI (2 ^ b)) :: rest))) : W p l e R s m args below meth c H locs cells slots Q (F0 m pc ls (.int (nI b) :: .int (nI 1) :: rest)) := lv_ishl hx hb hdg (by rw [tr_shl1 b h]; exact k)
theorem tw_ishr (hx : p.tables.exec = Jvm.exec) (hb : c.code = cc) {a b : Nat} (hdg : decode cc pc = .ok (.ishr, 1)) (ha : a < 2 ^ 31) (h : b < 32) (k : W p l e R s m args below meth c H locs cells slots Q (F0 m (pc + 1) ls (.int (nI (a / 2 ^ b)) :: rest))) : W p l e R s m args below meth c H locs cells slots Q (F0 m pc ls (.int (nI b) :: .int (nI a) :: rest)) := lv_ishr hx hb hdg (by rw [tr_shr ha h]; exact k)
theorem tw_i2b (hx : p.tables.exec = Jvm.exec) (hb : c.code = cc) {a : Nat} (hdg : decode cc pc = .ok (.i2b, 1)) (h : a < 128) (k : W p l e R s m args below meth c H locs cells slots Q (F0 m (pc + 1) ls (.int (nI a) :: rest))) : W p l e R s m args below meth c H locs cells slots Q (F0 m pc ls (.int (nI a) :: rest)) := lv_i2b hx hb hdg (tr_i8 a h) k
theorem tw_i2s (hx : p.tables.exec = Jvm.exec) (hb : c.code = cc) {a : Nat} (hdg : decode cc pc = .ok (.i2s, 1)) (h : a < 32768) (k : W p l e R s m args below meth c H locs cells slots Q (F0 m (pc + 1) ls (.int (nI a) :: rest))) : W p l e R s m args below meth c H locs cells slots Q (F0 m pc ls (.int (nI a) :: rest)) := lv_i2s hx hb hdg (tr_i16 h) k
theorem tw_eq {a b : Nat} (h : a = b) (k : W p l e R s m args below meth c H locs cells slots Q (F0 m pc ls (.int (nI b) :: rest))) : W p l e R s m args below meth c H locs cells slots Q (F0 m pc ls (.int (nI a) :: rest)) := by subst h; exact k
theorem tw_eq2 {a b : Nat} {v : Value} (h : a = b) (k : W p l e R s m args below meth c H locs cells slots Q (F0 m pc ls (v :: .int (nI b) :: rest))) : W p l e R s m args below meth c H locs cells slots Q (F0 m pc ls (v :: .int (nI a) :: rest)) := by subst h; exact k
theorem tw_ldc (hx : p.tables.exec = Jvm.exec) (hb : c.code = cc) {own : String} {index : Nat} (hown : s.vm.findClass own = some m.cls) (hconst : (Jvm.Cond.constant own index (100000 : Int32)).before args s = true) (hdg : decode cc pc = .ok (.ldc index, 2)) (k : W p l e R s m args below meth c H locs cells slots Q (F0 m (pc + 2) ls (.int (nI 100000) :: rest))) : W p l e R s m args below meth c H locs cells slots Q (F0 m pc ls rest) := lv_ldc hx hb hown hconst hdg (by rw [tr_100000]; exact k)
theorem tw_icmp_eq (hx : p.tables.exec = Jvm.exec) (hb : c.code = cc) {a b : Nat} {off : Int} {tgt : Nat} (hdg : decode cc pc = .ok (.if_icmp .eq off, 3)) (ht : (pc : Int) + off = (tgt : Int)) (ha : a < 2 ^ 31) (hb2 : b < 2 ^ 31) (kt : a = b → W p l e R s m args below meth c H locs cells slots Q (F0 m tgt ls rest)) (kf : ¬ a = b → W p l e R s m args below meth c H locs cells slots Q (F0 m (pc + 3) ls rest)) : W p l e R s m args below meth c H locs cells slots Q (F0 m pc ls (.int (nI b) :: .int (nI a) :: rest)) := lv_icmp_eq hx hb hdg ht (fun q => kt ((nI_eq ha hb2).mp q)) (fun q => kf (fun z => q ((nI_eq ha hb2).mpr z)))
theorem tw_icmp_ne (hx : p.tables.exec = Jvm.exec) (hb : c.code = cc) {a b : Nat} {off : Int} {tgt : Nat} (hdg : decode cc pc = .ok (.if_icmp .ne off, 3)) (ht : (pc : Int) + off = (tgt : Int)) (ha : a < 2 ^ 31) (hb2 : b < 2 ^ 31) (kt : ¬ a = b → W p l e R s m args below meth c H locs cells slots Q (F0 m tgt ls rest)) (kf : a = b → W p l e R s m args below meth c H locs cells slots Q (F0 m (pc + 3) ls rest)) : W p l e R s m args below meth c H locs cells slots Q (F0 m pc ls (.int (nI b) :: .int (nI a) :: rest)) := lv_icmp_ne hx hb hdg ht (fun q => kt (fun z => q ((nI_eq ha hb2).mpr z))) (fun q => kf ((nI_eq ha hb2).mp q))
theorem tw_icmp_lt (hx : p.tables.exec = Jvm.exec) (hb : c.code = cc) {a b : Nat} {off : Int} {tgt : Nat} (hdg : decode cc pc = .ok (.if_icmp .lt off, 3)) (ht : (pc : Int) + off = (tgt : Int)) (ha : a < 2 ^ 31) (hb2 : b < 2 ^ 31) (kt : a < b → W p l e R s m args below meth c H locs cells slots Q (F0 m tgt ls rest)) (kf : b ≤ a → W p l e R s m args below meth c H locs cells slots Q (F0 m (pc + 3) ls rest)) : W p l e R s m args below meth c H locs cells slots Q (F0 m pc ls (.int (nI b) :: .int (nI a) :: rest)) := lv_icmp_lt hx hb hdg ht (fun q => kt ((nI_ltI ha hb2).mp q)) (fun q => kf (Nat.le_of_not_lt (fun z => q ((nI_ltI ha hb2).mpr z))))
theorem tw_icmp_ge (hx : p.tables.exec = Jvm.exec) (hb : c.code = cc) {a b : Nat} {off : Int} {tgt : Nat} (hdg : decode cc pc = .ok (.if_icmp .ge off, 3)) (ht : (pc : Int) + off = (tgt : Int)) (ha : a < 2 ^ 31) (hb2 : b < 2 ^ 31) (kt : b ≤ a → W p l e R s m args below meth c H locs cells slots Q (F0 m tgt ls rest)) (kf : a < b → W p l e R s m args below meth c H locs cells slots Q (F0 m (pc + 3) ls rest)) : W p l e R s m args below meth c H locs cells slots Q (F0 m pc ls (.int (nI b) :: .int (nI a) :: rest)) := lv_icmp_ge hx hb hdg ht (fun q => kt ((nI_leI hb2 ha).mp q)) (fun q => kf (Nat.lt_of_not_le (fun z => q ((nI_leI hb2 ha).mpr z))))
theorem tw_icmp_gt (hx : p.tables.exec = Jvm.exec) (hb : c.code = cc) {a b : Nat} {off : Int} {tgt : Nat} (hdg : decode cc pc = .ok (.if_icmp .gt off, 3)) (ht : (pc : Int) + off = (tgt : Int)) (ha : a < 2 ^ 31) (hb2 : b < 2 ^ 31) (kt : b < a → W p l e R s m args below meth c H locs cells slots Q (F0 m tgt ls rest)) (kf : a ≤ b → W p l e R s m args below meth c H locs cells slots Q (F0 m (pc + 3) ls rest)) : W p l e R s m args below meth c H locs cells slots Q (F0 m pc ls (.int (nI b) :: .int (nI a) :: rest)) := lv_icmp_gt hx hb hdg ht (fun q => kt ((nI_ltI hb2 ha).mp q)) (fun q => kf (Nat.le_of_not_lt (fun z => q ((nI_ltI hb2 ha).mpr z))))
theorem tw_icmp_le (hx : p.tables.exec = Jvm.exec) (hb : c.code = cc) {a b : Nat} {off : Int} {tgt : Nat} (hdg : decode cc pc = .ok (.if_icmp .le off, 3)) (ht : (pc : Int) + off = (tgt : Int)) (ha : a < 2 ^ 31) (hb2 : b < 2 ^ 31) (kt : a ≤ b → W p l e R s m args below meth c H locs cells slots Q (F0 m tgt ls rest)) (kf : b < a → W p l e R s m args below meth c H locs cells slots Q (F0 m (pc + 3) ls rest)) : W p l e R s m args below meth c H locs cells slots Q (F0 m pc ls (.int (nI b) :: .int (nI a) :: rest)) := lv_icmp_le hx hb hdg ht (fun q => kt ((nI_leI ha hb2).mp q)) (fun q => kf (Nat.lt_of_not_le (fun z => q ((nI_leI ha hb2).mpr z))))
theorem tw_if_eq (hx : p.tables.exec = Jvm.exec) (hb : c.code = cc) {a : Nat} {off : Int} {tgt : Nat} (hdg : decode cc pc = .ok (.ifCond .eq off, 3)) (ht : (pc : Int) + off = (tgt : Int)) (ha : a < 2 ^ 31) (kt : a = 0 → W p l e R s m args below meth c H locs cells slots Q (F0 m tgt ls rest)) (kf : ¬ a = 0 → W p l e R s m args below meth c H locs cells slots Q (F0 m (pc + 3) ls rest)) : W p l e R s m args below meth c H locs cells slots Q (F0 m pc ls (.int (nI a) :: rest)) := lv_if_eq hx hb hdg ht (fun q => kt ((nI_eq ha (by decide)).mp (by rw [q, nI_0]))) (fun q => kf (fun z => q (by rw [z, nI_0])))
theorem tw_if_ne (hx : p.tables.exec = Jvm.exec) (hb : c.code = cc) {a : Nat} {off : Int} {tgt : Nat} (hdg : decode cc pc = .ok (.ifCond .ne off, 3)) (ht : (pc : Int) + off = (tgt : Int)) (ha : a < 2 ^ 31) (kt : ¬ a = 0 → W p l e R s m args below meth c H locs cells slots Q (F0 m tgt ls rest)) (kf : a = 0 → W p l e R s m args below meth c H locs cells slots Q (F0 m (pc + 3) ls rest)) : W p l e R s m args below meth c H locs cells slots Q (F0 m pc ls (.int (nI a) :: rest)) := lv_if_ne hx hb hdg ht (fun q => kt (fun z => q (by rw [z, nI_0]))) (fun q => kf ((nI_eq ha (by decide)).mp (by rw [q, nI_0])))
theorem tw_if_le (hx : p.tables.exec = Jvm.exec) (hb : c.code = cc) {a : Nat} {off : Int} {tgt : Nat} (hdg : decode cc pc = .ok (.ifCond .le off, 3)) (ht : (pc : Int) + off = (tgt : Int)) (ha : a < 2 ^ 31) (kt : a = 0 → W p l e R s m args below meth c H locs cells slots Q (F0 m tgt ls rest)) (kf : 0 < a → W p l e R s m args below meth c H locs cells slots Q (F0 m (pc + 3) ls rest)) : W p l e R s m args below meth c H locs cells slots Q (F0 m pc ls (.int (nI a) :: rest)) := lv_if_le hx hb hdg ht (fun q => kt (Nat.eq_zero_of_not_pos (fun z => nI_nle z ha q))) (fun q => kf (Nat.pos_of_ne_zero (fun z => q (by rw [z, nI_0]; decide))))
end TW
/-! the shape of a contract: the world W0 stands at the start, W1 u at the end -/
abbrev tr_cl : List vw_C := [(RX0, TX0, 9), (RX1, TX1, 7)]
def tr_M (D : va_G) (A : Nat → Prop) (H0 H : Heap) (locs : List Loc) (ws : va_W) : Prop := va_P D tr_cl ws H ∧ va_D A ws ∧ va_S A H0 H locs
def tr_C (p : Program) (m : MethodId) (c : Code) (cc : ByteArray) (nL : Nat) (s : State) (args : Array Value) (own : String) (D : va_G) (tys : List (ClassId × FieldType)) : Prop := CallFix p m c cc nL s args lw_all own ∧ va_K D tr_cl tys s
abbrev tr_Pc (D : va_G) (tys : List (ClassId × FieldType)) (av : List Value) (W0 : va_W) (sz : Nat) : Array Value → State → Prop := va_Pc av (fun U => U.heap.size = sz ∧ va_P D tr_cl W0 U.heap ∧ va_K D tr_cl tys U ∧ va_D (fun _ => True) W0)
abbrev tr_B (D : va_G) (tys : List (ClassId × FieldType)) (W0 : va_W) (sz : Nat) {S : Type} (W1 : S → va_W) (u : S) (t : State) : Prop := va_P D tr_cl (W1 u) t.heap ∧ va_K D tr_cl tys t ∧ va_D (va_A W0 sz) (W1 u)
def tr_MI (l : Launch) (y : MethodName) (b : ByteArray) (L : Nat) (r : FieldType) (rm : Room) (D : va_G) (tys : List (ClassId × FieldType)) (av : List Value) (W0 : va_W) {S : Type} (post : Int32 → S → Prop) (W1 : S → va_W) : Prop := ∀ sz : Nat, Met l y (ws_ y b L (some r)) rm (tr_Pc D tys av W0 sz) (va_Qi post (tr_B D tys W0 sz W1) (va_A W0 sz)) 0 0 (va_A W0 sz)
def tr_MV (l : Launch) (y : MethodName) (b : ByteArray) (L : Nat) (rm : Room) (D : va_G) (tys : List (ClassId × FieldType)) (av : List Value) (W0 : va_W) {S : Type} (post : S → Prop) (W1 : S → va_W) : Prop := ∀ sz : Nat, Met l y (ws_ y b L none) rm (tr_Pc D tys av W0 sz) (va_Qv post (tr_B D tys W0 sz W1) (va_A W0 sz)) 0 0 (va_A W0 sz)
theorem tr_MI_mk {l : Launch} {y : MethodName} {b : ByteArray} {L : Nat} {r : FieldType} {rm : Room} {D : va_G} {tys : List (ClassId × FieldType)} {av : List Value} {W0 : va_W} {S : Type} {post : Int32 → S → Prop} {W1 : S → va_W} {own : String} (ho : y.cls = own) (hy : plainName y.cls = true) (hlen : (lg_sl av).length ≤ L)
    (body : ∀ (p : Program) (e : Env) (s : State) (m : MethodId) (args : Array Value) (below : List Frame) (meth : Method) (c : Code) (A : Nat → Prop) (Q : State → Prop), tr_C p m c b L s args own D tys → (∀ q : Nat, s.heap.size ≤ q → A q) → tr_M D A s.heap s.heap [] W0 →
      (∀ (H : Heap) (locs : List Loc) (pc : Nat) (ls : Array Slot) (v : Int32) (u : S), decode b pc = .ok (.ireturn, 1) → narrow r (.int v) = .int v → post v u → tr_M D A s.heap H locs (W1 u) → W p l e rm s m args below meth c H locs 0 0 Q (F0 m pc ls [.int v])) →
      ∀ ls : Array Slot, lv_has ls L (lv_args 0 av) → W p l e rm s m args below meth c s.heap [] 0 0 Q (F0 m 0 ls [])) : tr_MI l y b L r rm D tys av W0 post W1 := by
  intro sz
  refine Met.ofW (cc := b) (maxL := L) (ret := some r) hy rfl ?_
  intro p e s m args below meth c s₁ B hml hv
  obtain ⟨rfl, hsz, hP, hK, hD0⟩ := hv
  have hts := atoms_spec (ws := ws_ y b L (some r)) B.pre
  have hts : ∀ w ∈ lw_all, w.before _ s = true := fun w h => hts w (List.mem_cons_of_mem _ h)
  have hown : s.vm.findClass own = some m.cls := by rw [← ho]; exact findClass_of_methodNamed B.named
  subst hsz
  have hD := hD0.self (sz := s.heap.size)
  rw [lg_entry_eq]
  refine body p e s m av.toArray below meth c (va_A W0 s.heap.size) _ ⟨⟨B.exec, B.bytes, hml, hown, hts⟩, hK⟩ (fun q h => Or.inr h) ⟨hP, hD, va_S.rf⟩ ?_ _ (lv_entry av hlen)
  intro H locs pc ls v u hdg hn hp hM
  exact W.zret B.exec B.bytes B.returns hn (fun t ht hW => ⟨⟨v, u, rfl, hp, by rw [ht]; exact hM.1, va_K.moved hW.alike hK, hM.2.1⟩, hM.2.2.F ht⟩) hM.2.2.2.2 hdg B.notSynchronized
theorem tr_MV_mk {l : Launch} {y : MethodName} {b : ByteArray} {L : Nat} {rm : Room} {D : va_G} {tys : List (ClassId × FieldType)} {av : List Value} {W0 : va_W} {S : Type} {post : S → Prop} {W1 : S → va_W} {own : String} (ho : y.cls = own) (hy : plainName y.cls = true) (hlen : (lg_sl av).length ≤ L)
    (body : ∀ (p : Program) (e : Env) (s : State) (m : MethodId) (args : Array Value) (below : List Frame) (meth : Method) (c : Code) (A : Nat → Prop) (Q : State → Prop), tr_C p m c b L s args own D tys → (∀ q : Nat, s.heap.size ≤ q → A q) → tr_M D A s.heap s.heap [] W0 →
      (∀ (H : Heap) (locs : List Loc) (pc : Nat) (ls : Array Slot) (u : S), decode b pc = .ok (.return_, 1) → post u → tr_M D A s.heap H locs (W1 u) → W p l e rm s m args below meth c H locs 0 0 Q (F0 m pc ls [])) →
      ∀ ls : Array Slot, lv_has ls L (lv_args 0 av) → W p l e rm s m args below meth c s.heap [] 0 0 Q (F0 m 0 ls [])) : tr_MV l y b L rm D tys av W0 post W1 := by
  intro sz
  refine Met.ofW (cc := b) (maxL := L) (ret := none) hy rfl ?_
  intro p e s m args below meth c s₁ B hml hv
  obtain ⟨rfl, hsz, hP, hK, hD0⟩ := hv
  have hts := atoms_spec (ws := ws_ y b L none) B.pre
  have hts : ∀ w ∈ lw_all, w.before _ s = true := fun w h => hts w (List.mem_cons_of_mem _ h)
  have hown : s.vm.findClass own = some m.cls := by rw [← ho]; exact findClass_of_methodNamed B.named
  subst hsz
  have hD := hD0.self (sz := s.heap.size)
  rw [lg_entry_eq]
  refine body p e s m av.toArray below meth c (va_A W0 s.heap.size) _ ⟨⟨B.exec, B.bytes, hml, hown, hts⟩, hK⟩ (fun q h => Or.inr h) ⟨hP, hD, va_S.rf⟩ ?_ _ (lv_entry av hlen)
  intro H locs pc ls u hdg hp hM
  exact W.vret B.exec B.bytes B.returns (fun t ht hW => ⟨⟨u, rfl, hp, by rw [ht]; exact hM.1, va_K.moved hW.alike hK, hM.2.1⟩, hM.2.2.F ht⟩) hM.2.2.2.2 hdg B.notSynchronized
section TC
variable {p : Program} {l : Launch} {e : Env} {R : Room} {s : State} {m : MethodId} {args : Array Value} {below : List Frame} {meth : Method} {c : Code} {H : Heap} {locs : List Loc} {cells slots : Nat} {Q : State → Prop}
variable {cc : ByteArray} {pc : Nat} {ls : Array Slot} {rest : List Value}
variable {y : MethodName} {b : ByteArray} {L nL n index ci N h : Nat} {T : u_T} {r : FieldType} {rm : Room} {D : va_G} {tys tys2 : List (ClassId × FieldType)} {As st0 : List Value} {ws W0 Wr : va_W} {S : Type} {W1 : S → va_W} {own C : String} {A : Nat → Prop} {fs : List Value}
theorem tr_MI_call {post : Int32 → S → Prop} (hm : tr_MI l y b L r rm D tys2 (.ref h :: As) W0 post W1) (hC : tr_C p m c cc nL s args own D tys) (hK : va_K D tr_cl tys2 s) (cw : CallW R s args own C index y b L (some r) (ws_ y b L (some r)) rm 0 0 n) (hA : ∀ q : Nat, s.heap.size ≤ q → A q) (hM : tr_M D A s.heap H locs ws) (isC isR : List Nat) (e0 : isC.filterMap (fun i => ws[i]?) = W0) (e1 : isC.map (fun i => ws[i]?) = W0.map some) (e2 : isR.map (fun i => ws[i]?) = Wr.map some) (n1 : va_nd isC = true) (n2 : va_nd isR = true) (hdis : ∀ i ∈ isR, i ∉ isC) (h0 : W0[0]? = some (h, .inr (ci, fs))) (hc : tr_cl[ci]? = some (C, T, N)) (hn : As.length = n) (hls : ls.size = nL) (hst : st0 = As.reverse ++ .ref h :: rest) (hrest : (rest.map fun v => v.category).sum ≤ 8) (hf : cells ≤ R.cells ∧ slots ≤ R.slots) (hdg : decode cc pc = .ok (.invokevirtual index, 3))
    (kk : ∀ (v : Int32) (u : S) (H1 : Heap) (locs1 : List Loc), post v u → tr_M D A s.heap H1 locs1 (Wr ++ W1 u) → W p l e R s m args below meth c H1 locs1 cells slots Q (F0 m (pc + 3) ls (.int v :: rest))) : W p l e R s m args below meth c H locs cells slots Q (F0 m pc ls st0) := by
  have hP := hM.1
  have hD := hM.2.1
  have hS := hM.2.2
  have hPc := hP.sub (ws' := W0) isC e0
  have hDc := hD.sub (ws' := W0) isC n1 e1
  have hFc := va_free (wc := W0) hD hS hA isC e1
  refine va_calli (va_runV (As := As) (rest := rest) hC.1 (hm H.size) cw ⟨fun a U g mk q => by obtain ⟨q0, q1, qP, qK, qD⟩ := q; exact ⟨q0, q1, qP, va_K.moved (u := U) (U := U.calling g mk a) (Vm.Alike.refl U.vm) qK, qD⟩, va_recv hK hPc hc h0, fun U hU hW => ⟨rfl, by rw [hU], by rw [hU]; exact hPc, va_K.moved hW.alike hK, hDc.weaken (fun _ _ _ _ => trivial)⟩⟩ rfl hn hls hst (lv_room hrest) hdg hf) hS (fun q _ h => hFc q h) hFc (fun v u t H1 locs1 ht hvm hp hB hz1 hk1 hS1 => ?_)
  obtain ⟨hP1, hK1, hD1⟩ := hB
  rw [ht] at hP1
  obtain ⟨hP2, hD2⟩ := va_join (wr := Wr) (w1 := W1 u) hP hD isC isR e1 e2 n2 hdis hk1 hFc hP1 hD1
  exact kk v u H1 locs1 hp ⟨hP2, hD2, hS1⟩
theorem tr_MV_call {post : S → Prop} (hm : tr_MV l y b L rm D tys2 (.ref h :: As) W0 post W1) (hC : tr_C p m c cc nL s args own D tys) (hK : va_K D tr_cl tys2 s) (cw : CallW R s args own C index y b L none (ws_ y b L none) rm 0 0 n) (hA : ∀ q : Nat, s.heap.size ≤ q → A q) (hM : tr_M D A s.heap H locs ws) (isC isR : List Nat) (e0 : isC.filterMap (fun i => ws[i]?) = W0) (e1 : isC.map (fun i => ws[i]?) = W0.map some) (e2 : isR.map (fun i => ws[i]?) = Wr.map some) (n1 : va_nd isC = true) (n2 : va_nd isR = true) (hdis : ∀ i ∈ isR, i ∉ isC) (h0 : W0[0]? = some (h, .inr (ci, fs))) (hc : tr_cl[ci]? = some (C, T, N)) (hn : As.length = n) (hls : ls.size = nL) (hst : st0 = As.reverse ++ .ref h :: rest) (hrest : (rest.map fun v => v.category).sum ≤ 8) (hf : cells ≤ R.cells ∧ slots ≤ R.slots) (hdg : decode cc pc = .ok (.invokevirtual index, 3))
    (kk : ∀ (u : S) (H1 : Heap) (locs1 : List Loc), post u → tr_M D A s.heap H1 locs1 (Wr ++ W1 u) → W p l e R s m args below meth c H1 locs1 cells slots Q (F0 m (pc + 3) ls rest)) : W p l e R s m args below meth c H locs cells slots Q (F0 m pc ls st0) := by
  have hP := hM.1
  have hD := hM.2.1
  have hS := hM.2.2
  have hPc := hP.sub (ws' := W0) isC e0
  have hDc := hD.sub (ws' := W0) isC n1 e1
  have hFc := va_free (wc := W0) hD hS hA isC e1
  refine va_callv (va_runV (As := As) (rest := rest) hC.1 (hm H.size) cw ⟨fun a U g mk q => by obtain ⟨q0, q1, qP, qK, qD⟩ := q; exact ⟨q0, q1, qP, va_K.moved (u := U) (U := U.calling g mk a) (Vm.Alike.refl U.vm) qK, qD⟩, va_recv hK hPc hc h0, fun U hU hW => ⟨rfl, by rw [hU], by rw [hU]; exact hPc, va_K.moved hW.alike hK, hDc.weaken (fun _ _ _ _ => trivial)⟩⟩ rfl hn hls hst (lv_room hrest) hdg hf) hS (fun q _ h => hFc q h) hFc (fun u t H1 locs1 ht hvm hp hB hz1 hk1 hS1 => ?_)
  obtain ⟨hP1, hK1, hD1⟩ := hB
  rw [ht] at hP1
  obtain ⟨hP2, hD2⟩ := va_join (wr := Wr) (w1 := W1 u) hP hD isC isR e1 e2 n2 hdis hk1 hFc hP1 hD1
  exact kk u H1 locs1 hp ⟨hP2, hD2, hS1⟩
end TC
end
section
set_option maxRecDepth 100000
/-- TransitRounds: the object and its six arrays -/
def tr_wX (h : Nat) (ad : Nat → Nat) (cd : Nat → ClassId) (tc : Nat) (c1 st tm wk bs : Nat → Nat) (bt rn : Nat) (ri : Nat → Nat) : va_W := [(h, .inr (0, [.int (nI tc), .ref (ad 1), .ref (ad 2), .ref (ad 3), .ref (ad 4), .ref (ad 5), .int (nI bt), .int (nI rn), .ref (ad 8)])), (ad 1, .inl (cd 1, 10, .inl (tr_ai c1))), (ad 2, .inl (cd 2, 50, .inl (tr_ai st))), (ad 3, .inl (cd 3, 50, .inl (tr_ai tm))), (ad 4, .inl (cd 4, 64, .inl (tr_ai wk))), (ad 5, .inl (cd 5, 88, .inl (tr_ai bs))), (ad 8, .inl (cd 8, 8, .inl (tr_ai ri)))]
def tr_tX (cd : Nat → ClassId) : List (ClassId × FieldType) := [(cd 1, .byte), (cd 2, .byte), (cd 3, .short), (cd 4, .byte), (cd 5, .int), (cd 8, .int)]
/-- TransitRoundsModel: the object and its six arrays -/
def tr_wM (h : Nat) (ad : Nat → Nat) (cd : Nat → ClassId) (tc : Nat) (c1 st tm wk fo th : Nat → Nat) : va_W := [(h, .inr (1, [.int (nI tc), .ref (ad 1), .ref (ad 2), .ref (ad 3), .ref (ad 4), .ref (ad 5), .ref (ad 6)])), (ad 1, .inl (cd 1, 10, .inl (tr_ai c1))), (ad 2, .inl (cd 2, 50, .inl (tr_ai st))), (ad 3, .inl (cd 3, 50, .inl (tr_ai tm))), (ad 4, .inl (cd 4, 64, .inl (tr_ai wk))), (ad 5, .inl (cd 5, 88, .inl (tr_ai fo))), (ad 6, .inl (cd 6, 88, .inl (tr_ai th)))]
def tr_tM (cd : Nat → ClassId) : List (ClassId × FieldType) := [(cd 1, .int), (cd 2, .int), (cd 3, .int), (cd 4, .int), (cd 5, .int), (cd 6, .int)]
section TX
variable {p : Program} {l : Launch} {e : Env} {R : Room} {s : State} {m : MethodId} {args : Array Value} {below : List Frame} {meth : Method} {c : Code} {H : Heap} {locs : List Loc} {cells slots : Nat} {Q : State → Prop}
variable {cc : ByteArray} {pc : Nat} {ls : Array Slot} {rest : List Value}
variable {nL : Nat} {D : va_G} {A : Nat → Prop} {H0 : Heap} {h : Nat} {ad : Nat → Nat} {cd : Nat → ClassId} {tc bt rn : Nat} {c1 st tm wk bs ri fo th : Nat → Nat}
theorem tx_get_tc (hC : tr_C p m c cc nL s args RX0 D (tr_tX cd)) (hM : tr_M D A H0 H locs (tr_wX h ad cd tc c1 st tm wk bs bt rn ri)) (hdg : decode cc pc = .ok (.getfield 30, 3)) (kk : W p l e R s m args below meth c H locs cells slots Q (F0 m (pc + 3) ls (.int (nI tc) :: rest))) : W p l e R s m args below meth c H locs cells slots Q (F0 m pc ls (.ref h :: rest)) := by
  obtain ⟨⟨hx, hb, -, hown, hts⟩, hK⟩ := hC
  have hP := hM.1
  unfold tr_wX at hP
  exact va_get (D := D) (ci := 0) (v := .int (nI tc)) (C := RX0) (T := TX0) (N := 9) hx hb hts in_X0 hown hK hP 0 rfl rfl 0 (by decide) (hts _ q24) (fun _ h9 => h9) rfl hdg kk
theorem tx_get_c1 (hC : tr_C p m c cc nL s args RX0 D (tr_tX cd)) (hM : tr_M D A H0 H locs (tr_wX h ad cd tc c1 st tm wk bs bt rn ri)) (hdg : decode cc pc = .ok (.getfield 7, 3)) (kk : W p l e R s m args below meth c H locs cells slots Q (F0 m (pc + 3) ls (.ref (ad 1) :: rest))) : W p l e R s m args below meth c H locs cells slots Q (F0 m pc ls (.ref h :: rest)) := by
  obtain ⟨⟨hx, hb, -, hown, hts⟩, hK⟩ := hC
  have hP := hM.1
  unfold tr_wX at hP
  exact va_get (D := D) (ci := 0) (v := .ref (ad 1)) (C := RX0) (T := TX0) (N := 9) hx hb hts in_X0 hown hK hP 0 rfl rfl 1 (by decide) (hts _ q25) (fun _ h9 => h9) rfl hdg kk
theorem tx_get_st (hC : tr_C p m c cc nL s args RX0 D (tr_tX cd)) (hM : tr_M D A H0 H locs (tr_wX h ad cd tc c1 st tm wk bs bt rn ri)) (hdg : decode cc pc = .ok (.getfield 13, 3)) (kk : W p l e R s m args below meth c H locs cells slots Q (F0 m (pc + 3) ls (.ref (ad 2) :: rest))) : W p l e R s m args below meth c H locs cells slots Q (F0 m pc ls (.ref h :: rest)) := by
  obtain ⟨⟨hx, hb, -, hown, hts⟩, hK⟩ := hC
  have hP := hM.1
  unfold tr_wX at hP
  exact va_get (D := D) (ci := 0) (v := .ref (ad 2)) (C := RX0) (T := TX0) (N := 9) hx hb hts in_X0 hown hK hP 0 rfl rfl 2 (by decide) (hts _ q26) (fun _ h9 => h9) rfl hdg kk
theorem tx_get_tm (hC : tr_C p m c cc nL s args RX0 D (tr_tX cd)) (hM : tr_M D A H0 H locs (tr_wX h ad cd tc c1 st tm wk bs bt rn ri)) (hdg : decode cc pc = .ok (.getfield 16, 3)) (kk : W p l e R s m args below meth c H locs cells slots Q (F0 m (pc + 3) ls (.ref (ad 3) :: rest))) : W p l e R s m args below meth c H locs cells slots Q (F0 m pc ls (.ref h :: rest)) := by
  obtain ⟨⟨hx, hb, -, hown, hts⟩, hK⟩ := hC
  have hP := hM.1
  unfold tr_wX at hP
  exact va_get (D := D) (ci := 0) (v := .ref (ad 3)) (C := RX0) (T := TX0) (N := 9) hx hb hts in_X0 hown hK hP 0 rfl rfl 3 (by decide) (hts _ q27) (fun _ h9 => h9) rfl hdg kk
theorem tx_get_wk (hC : tr_C p m c cc nL s args RX0 D (tr_tX cd)) (hM : tr_M D A H0 H locs (tr_wX h ad cd tc c1 st tm wk bs bt rn ri)) (hdg : decode cc pc = .ok (.getfield 20, 3)) (kk : W p l e R s m args below meth c H locs cells slots Q (F0 m (pc + 3) ls (.ref (ad 4) :: rest))) : W p l e R s m args below meth c H locs cells slots Q (F0 m pc ls (.ref h :: rest)) := by
  obtain ⟨⟨hx, hb, -, hown, hts⟩, hK⟩ := hC
  have hP := hM.1
  unfold tr_wX at hP
  exact va_get (D := D) (ci := 0) (v := .ref (ad 4)) (C := RX0) (T := TX0) (N := 9) hx hb hts in_X0 hown hK hP 0 rfl rfl 4 (by decide) (hts _ q28) (fun _ h9 => h9) rfl hdg kk
theorem tx_get_bs (hC : tr_C p m c cc nL s args RX0 D (tr_tX cd)) (hM : tr_M D A H0 H locs (tr_wX h ad cd tc c1 st tm wk bs bt rn ri)) (hdg : decode cc pc = .ok (.getfield 23, 3)) (kk : W p l e R s m args below meth c H locs cells slots Q (F0 m (pc + 3) ls (.ref (ad 5) :: rest))) : W p l e R s m args below meth c H locs cells slots Q (F0 m pc ls (.ref h :: rest)) := by
  obtain ⟨⟨hx, hb, -, hown, hts⟩, hK⟩ := hC
  have hP := hM.1
  unfold tr_wX at hP
  exact va_get (D := D) (ci := 0) (v := .ref (ad 5)) (C := RX0) (T := TX0) (N := 9) hx hb hts in_X0 hown hK hP 0 rfl rfl 5 (by decide) (hts _ q29) (fun _ h9 => h9) rfl hdg kk
theorem tx_get_bt (hC : tr_C p m c cc nL s args RX0 D (tr_tX cd)) (hM : tr_M D A H0 H locs (tr_wX h ad cd tc c1 st tm wk bs bt rn ri)) (hdg : decode cc pc = .ok (.getfield 53, 3)) (kk : W p l e R s m args below meth c H locs cells slots Q (F0 m (pc + 3) ls (.int (nI bt) :: rest))) : W p l e R s m args below meth c H locs cells slots Q (F0 m pc ls (.ref h :: rest)) := by
  obtain ⟨⟨hx, hb, -, hown, hts⟩, hK⟩ := hC
  have hP := hM.1
  unfold tr_wX at hP
  exact va_get (D := D) (ci := 0) (v := .int (nI bt)) (C := RX0) (T := TX0) (N := 9) hx hb hts in_X0 hown hK hP 0 rfl rfl 6 (by decide) (hts _ q30) (fun _ h9 => h9) rfl hdg kk
theorem tx_get_rn (hC : tr_C p m c cc nL s args RX0 D (tr_tX cd)) (hM : tr_M D A H0 H locs (tr_wX h ad cd tc c1 st tm wk bs bt rn ri)) (hdg : decode cc pc = .ok (.getfield 45, 3)) (kk : W p l e R s m args below meth c H locs cells slots Q (F0 m (pc + 3) ls (.int (nI rn) :: rest))) : W p l e R s m args below meth c H locs cells slots Q (F0 m pc ls (.ref h :: rest)) := by
  obtain ⟨⟨hx, hb, -, hown, hts⟩, hK⟩ := hC
  have hP := hM.1
  unfold tr_wX at hP
  exact va_get (D := D) (ci := 0) (v := .int (nI rn)) (C := RX0) (T := TX0) (N := 9) hx hb hts in_X0 hown hK hP 0 rfl rfl 7 (by decide) (hts _ q31) (fun _ h9 => h9) rfl hdg kk
theorem tx_get_ri (hC : tr_C p m c cc nL s args RX0 D (tr_tX cd)) (hM : tr_M D A H0 H locs (tr_wX h ad cd tc c1 st tm wk bs bt rn ri)) (hdg : decode cc pc = .ok (.getfield 27, 3)) (kk : W p l e R s m args below meth c H locs cells slots Q (F0 m (pc + 3) ls (.ref (ad 8) :: rest))) : W p l e R s m args below meth c H locs cells slots Q (F0 m pc ls (.ref h :: rest)) := by
  obtain ⟨⟨hx, hb, -, hown, hts⟩, hK⟩ := hC
  have hP := hM.1
  unfold tr_wX at hP
  exact va_get (D := D) (ci := 0) (v := .ref (ad 8)) (C := RX0) (T := TX0) (N := 9) hx hb hts in_X0 hown hK hP 0 rfl rfl 8 (by decide) (hts _ q32) (fun _ h9 => h9) rfl hdg kk
theorem tm_get_tc (hC : tr_C p m c cc nL s args RX1 D (tr_tM cd)) (hM : tr_M D A H0 H locs (tr_wM h ad cd tc c1 st tm wk fo th)) (hdg : decode cc pc = .ok (.getfield 28, 3)) (kk : W p l e R s m args below meth c H locs cells slots Q (F0 m (pc + 3) ls (.int (nI tc) :: rest))) : W p l e R s m args below meth c H locs cells slots Q (F0 m pc ls (.ref h :: rest)) := by
  obtain ⟨⟨hx, hb, -, hown, hts⟩, hK⟩ := hC
  have hP := hM.1
  unfold tr_wM at hP
  exact va_get (D := D) (ci := 1) (v := .int (nI tc)) (C := RX1) (T := TX1) (N := 7) hx hb hts in_X1 hown hK hP 0 rfl rfl 0 (by decide) (hts _ q130) (fun _ h9 => h9) rfl hdg kk
theorem tm_get_c1 (hC : tr_C p m c cc nL s args RX1 D (tr_tM cd)) (hM : tr_M D A H0 H locs (tr_wM h ad cd tc c1 st tm wk fo th)) (hdg : decode cc pc = .ok (.getfield 7, 3)) (kk : W p l e R s m args below meth c H locs cells slots Q (F0 m (pc + 3) ls (.ref (ad 1) :: rest))) : W p l e R s m args below meth c H locs cells slots Q (F0 m pc ls (.ref h :: rest)) := by
  obtain ⟨⟨hx, hb, -, hown, hts⟩, hK⟩ := hC
  have hP := hM.1
  unfold tr_wM at hP
  exact va_get (D := D) (ci := 1) (v := .ref (ad 1)) (C := RX1) (T := TX1) (N := 7) hx hb hts in_X1 hown hK hP 0 rfl rfl 1 (by decide) (hts _ q131) (fun _ h9 => h9) rfl hdg kk
theorem tm_get_st (hC : tr_C p m c cc nL s args RX1 D (tr_tM cd)) (hM : tr_M D A H0 H locs (tr_wM h ad cd tc c1 st tm wk fo th)) (hdg : decode cc pc = .ok (.getfield 13, 3)) (kk : W p l e R s m args below meth c H locs cells slots Q (F0 m (pc + 3) ls (.ref (ad 2) :: rest))) : W p l e R s m args below meth c H locs cells slots Q (F0 m pc ls (.ref h :: rest)) := by
  obtain ⟨⟨hx, hb, -, hown, hts⟩, hK⟩ := hC
  have hP := hM.1
  unfold tr_wM at hP
  exact va_get (D := D) (ci := 1) (v := .ref (ad 2)) (C := RX1) (T := TX1) (N := 7) hx hb hts in_X1 hown hK hP 0 rfl rfl 2 (by decide) (hts _ q132) (fun _ h9 => h9) rfl hdg kk
theorem tm_get_tm (hC : tr_C p m c cc nL s args RX1 D (tr_tM cd)) (hM : tr_M D A H0 H locs (tr_wM h ad cd tc c1 st tm wk fo th)) (hdg : decode cc pc = .ok (.getfield 16, 3)) (kk : W p l e R s m args below meth c H locs cells slots Q (F0 m (pc + 3) ls (.ref (ad 3) :: rest))) : W p l e R s m args below meth c H locs cells slots Q (F0 m pc ls (.ref h :: rest)) := by
  obtain ⟨⟨hx, hb, -, hown, hts⟩, hK⟩ := hC
  have hP := hM.1
  unfold tr_wM at hP
  exact va_get (D := D) (ci := 1) (v := .ref (ad 3)) (C := RX1) (T := TX1) (N := 7) hx hb hts in_X1 hown hK hP 0 rfl rfl 3 (by decide) (hts _ q133) (fun _ h9 => h9) rfl hdg kk
theorem tm_get_wk (hC : tr_C p m c cc nL s args RX1 D (tr_tM cd)) (hM : tr_M D A H0 H locs (tr_wM h ad cd tc c1 st tm wk fo th)) (hdg : decode cc pc = .ok (.getfield 19, 3)) (kk : W p l e R s m args below meth c H locs cells slots Q (F0 m (pc + 3) ls (.ref (ad 4) :: rest))) : W p l e R s m args below meth c H locs cells slots Q (F0 m pc ls (.ref h :: rest)) := by
  obtain ⟨⟨hx, hb, -, hown, hts⟩, hK⟩ := hC
  have hP := hM.1
  unfold tr_wM at hP
  exact va_get (D := D) (ci := 1) (v := .ref (ad 4)) (C := RX1) (T := TX1) (N := 7) hx hb hts in_X1 hown hK hP 0 rfl rfl 4 (by decide) (hts _ q134) (fun _ h9 => h9) rfl hdg kk
theorem tm_get_fo (hC : tr_C p m c cc nL s args RX1 D (tr_tM cd)) (hM : tr_M D A H0 H locs (tr_wM h ad cd tc c1 st tm wk fo th)) (hdg : decode cc pc = .ok (.getfield 22, 3)) (kk : W p l e R s m args below meth c H locs cells slots Q (F0 m (pc + 3) ls (.ref (ad 5) :: rest))) : W p l e R s m args below meth c H locs cells slots Q (F0 m pc ls (.ref h :: rest)) := by
  obtain ⟨⟨hx, hb, -, hown, hts⟩, hK⟩ := hC
  have hP := hM.1
  unfold tr_wM at hP
  exact va_get (D := D) (ci := 1) (v := .ref (ad 5)) (C := RX1) (T := TX1) (N := 7) hx hb hts in_X1 hown hK hP 0 rfl rfl 5 (by decide) (hts _ q135) (fun _ h9 => h9) rfl hdg kk
theorem tm_get_th (hC : tr_C p m c cc nL s args RX1 D (tr_tM cd)) (hM : tr_M D A H0 H locs (tr_wM h ad cd tc c1 st tm wk fo th)) (hdg : decode cc pc = .ok (.getfield 25, 3)) (kk : W p l e R s m args below meth c H locs cells slots Q (F0 m (pc + 3) ls (.ref (ad 6) :: rest))) : W p l e R s m args below meth c H locs cells slots Q (F0 m pc ls (.ref h :: rest)) := by
  obtain ⟨⟨hx, hb, -, hown, hts⟩, hK⟩ := hC
  have hP := hM.1
  unfold tr_wM at hP
  exact va_get (D := D) (ci := 1) (v := .ref (ad 6)) (C := RX1) (T := TX1) (N := 7) hx hb hts in_X1 hown hK hP 0 rfl rfl 6 (by decide) (hts _ q136) (fun _ h9 => h9) rfl hdg kk
theorem tx_put_tc (hC : tr_C p m c cc nL s args RX0 D (tr_tX cd)) (hM : tr_M D A H0 H locs (tr_wX h ad cd tc c1 st tm wk bs bt rn ri)) {v : Nat} (hdg : decode cc pc = .ok (.putfield 30, 3)) (kk : ∀ (H1 : Heap) (locs1 : List Loc), tr_M D A H0 H1 locs1 (tr_wX h ad cd v c1 st tm wk bs bt rn ri) → W p l e R s m args below meth c H1 locs1 cells slots Q (F0 m (pc + 3) ls rest)) : W p l e R s m args below meth c H locs cells slots Q (F0 m pc ls (.int (nI v) :: .ref h :: rest)) := by
  obtain ⟨⟨hx, hb, -, hown, hts⟩, hK⟩ := hC
  obtain ⟨hP, hD, hS⟩ := hM
  unfold tr_wX at hP hD
  exact va_put (D := D) (ci := 0) (v := .int (nI v)) (ty := .int) (C := RX0) (T := TX0) (N := 9) hx hb hts in_X0 tyX0 tyX0_ok nmX0 hown hK hP hD hS 0 rfl rfl 0 (by decide) (hts _ q24) (fun _ h9 => h9) rfl (by decide +kernel) rfl rfl (Nat.le_of_ble_eq_true rfl) hdg (fun H1 locs1 hP hD hS => kk H1 locs1 ⟨hP, hD, hS⟩)
theorem tx_put_bt (hC : tr_C p m c cc nL s args RX0 D (tr_tX cd)) (hM : tr_M D A H0 H locs (tr_wX h ad cd tc c1 st tm wk bs bt rn ri)) {v : Nat} (hdg : decode cc pc = .ok (.putfield 53, 3)) (kk : ∀ (H1 : Heap) (locs1 : List Loc), tr_M D A H0 H1 locs1 (tr_wX h ad cd tc c1 st tm wk bs v rn ri) → W p l e R s m args below meth c H1 locs1 cells slots Q (F0 m (pc + 3) ls rest)) : W p l e R s m args below meth c H locs cells slots Q (F0 m pc ls (.int (nI v) :: .ref h :: rest)) := by
  obtain ⟨⟨hx, hb, -, hown, hts⟩, hK⟩ := hC
  obtain ⟨hP, hD, hS⟩ := hM
  unfold tr_wX at hP hD
  exact va_put (D := D) (ci := 0) (v := .int (nI v)) (ty := .int) (C := RX0) (T := TX0) (N := 9) hx hb hts in_X0 tyX0 tyX0_ok nmX0 hown hK hP hD hS 0 rfl rfl 6 (by decide) (hts _ q30) (fun _ h9 => h9) rfl (by decide +kernel) rfl rfl (Nat.le_of_ble_eq_true rfl) hdg (fun H1 locs1 hP hD hS => kk H1 locs1 ⟨hP, hD, hS⟩)
theorem tx_put_rn (hC : tr_C p m c cc nL s args RX0 D (tr_tX cd)) (hM : tr_M D A H0 H locs (tr_wX h ad cd tc c1 st tm wk bs bt rn ri)) {v : Nat} (hdg : decode cc pc = .ok (.putfield 45, 3)) (kk : ∀ (H1 : Heap) (locs1 : List Loc), tr_M D A H0 H1 locs1 (tr_wX h ad cd tc c1 st tm wk bs bt v ri) → W p l e R s m args below meth c H1 locs1 cells slots Q (F0 m (pc + 3) ls rest)) : W p l e R s m args below meth c H locs cells slots Q (F0 m pc ls (.int (nI v) :: .ref h :: rest)) := by
  obtain ⟨⟨hx, hb, -, hown, hts⟩, hK⟩ := hC
  obtain ⟨hP, hD, hS⟩ := hM
  unfold tr_wX at hP hD
  exact va_put (D := D) (ci := 0) (v := .int (nI v)) (ty := .int) (C := RX0) (T := TX0) (N := 9) hx hb hts in_X0 tyX0 tyX0_ok nmX0 hown hK hP hD hS 0 rfl rfl 7 (by decide) (hts _ q31) (fun _ h9 => h9) rfl (by decide +kernel) rfl rfl (Nat.le_of_ble_eq_true rfl) hdg (fun H1 locs1 hP hD hS => kk H1 locs1 ⟨hP, hD, hS⟩)
theorem tm_put_tc (hC : tr_C p m c cc nL s args RX1 D (tr_tM cd)) (hM : tr_M D A H0 H locs (tr_wM h ad cd tc c1 st tm wk fo th)) {v : Nat} (hdg : decode cc pc = .ok (.putfield 28, 3)) (kk : ∀ (H1 : Heap) (locs1 : List Loc), tr_M D A H0 H1 locs1 (tr_wM h ad cd v c1 st tm wk fo th) → W p l e R s m args below meth c H1 locs1 cells slots Q (F0 m (pc + 3) ls rest)) : W p l e R s m args below meth c H locs cells slots Q (F0 m pc ls (.int (nI v) :: .ref h :: rest)) := by
  obtain ⟨⟨hx, hb, -, hown, hts⟩, hK⟩ := hC
  obtain ⟨hP, hD, hS⟩ := hM
  unfold tr_wM at hP hD
  exact va_put (D := D) (ci := 1) (v := .int (nI v)) (ty := .int) (C := RX1) (T := TX1) (N := 7) hx hb hts in_X1 tyX1 tyX1_ok nmX1 hown hK hP hD hS 0 rfl rfl 0 (by decide) (hts _ q130) (fun _ h9 => h9) rfl (by decide +kernel) rfl rfl (Nat.le_of_ble_eq_true rfl) hdg (fun H1 locs1 hP hD hS => kk H1 locs1 ⟨hP, hD, hS⟩)
theorem tx_ld_c1 (hC : tr_C p m c cc nL s args RX0 D (tr_tX cd)) (hM : tr_M D A H0 H locs (tr_wX h ad cd tc c1 st tm wk bs bt rn ri)) {k : Nat} (hk : k < 10) (hdg : decode cc pc = .ok (.baload, 1)) (kk : W p l e R s m args below meth c H locs cells slots Q (F0 m (pc + 1) ls (.int (nI (c1 k)) :: rest))) : W p l e R s m args below meth c H locs cells slots Q (F0 m pc ls (.int (nI k) :: .ref (ad 1) :: rest)) := by
  obtain ⟨⟨hx, hb, -, hown, hts⟩, hK⟩ := hC
  have hP := hM.1
  unfold tr_wX at hP
  unfold tr_tX at hK
  refine va_bald (f := tr_ai c1) hx hb hK hP 1 0 rfl rfl (vp_in_nI hk (by decide)) hdg ?_
  rw [nI_clamp (Nat.lt_trans hk (by decide))]
  exact kk
theorem tx_st_c1 (hC : tr_C p m c cc nL s args RX0 D (tr_tX cd)) (hM : tr_M D A H0 H locs (tr_wX h ad cd tc c1 st tm wk bs bt rn ri)) {k v : Nat} (hk : k < 10) (hv : v < 128) (hdg : decode cc pc = .ok (.bastore, 1)) (kk : ∀ (H1 : Heap) (locs1 : List Loc), tr_M D A H0 H1 locs1 (tr_wX h ad cd tc (tr_up c1 k v) st tm wk bs bt rn ri) → W p l e R s m args below meth c H1 locs1 cells slots Q (F0 m (pc + 1) ls rest)) : W p l e R s m args below meth c H locs cells slots Q (F0 m pc ls (.int (nI v) :: .int (nI k) :: .ref (ad 1) :: rest)) := by
  obtain ⟨⟨hx, hb, -, hown, hts⟩, hK⟩ := hC
  obtain ⟨hP, hD, hS⟩ := hM
  unfold tr_wX at hP hD
  unfold tr_tX at hK
  refine va_bast (f := tr_ai c1) hx hb hK hP hD hS 1 0 rfl rfl (vp_in_nI hk (by decide)) hdg (fun H1 locs1 hP hD hS => ?_)
  rw [nI_clamp (Nat.lt_trans hk (by decide)), tr_n8 hv, tr_ai_up] at hP hD
  exact kk H1 locs1 ⟨hP, hD, hS⟩
theorem tx_ld_st (hC : tr_C p m c cc nL s args RX0 D (tr_tX cd)) (hM : tr_M D A H0 H locs (tr_wX h ad cd tc c1 st tm wk bs bt rn ri)) {k : Nat} (hk : k < 50) (hdg : decode cc pc = .ok (.baload, 1)) (kk : W p l e R s m args below meth c H locs cells slots Q (F0 m (pc + 1) ls (.int (nI (st k)) :: rest))) : W p l e R s m args below meth c H locs cells slots Q (F0 m pc ls (.int (nI k) :: .ref (ad 2) :: rest)) := by
  obtain ⟨⟨hx, hb, -, hown, hts⟩, hK⟩ := hC
  have hP := hM.1
  unfold tr_wX at hP
  unfold tr_tX at hK
  refine va_bald (f := tr_ai st) hx hb hK hP 2 1 rfl rfl (vp_in_nI hk (by decide)) hdg ?_
  rw [nI_clamp (Nat.lt_trans hk (by decide))]
  exact kk
theorem tx_st_st (hC : tr_C p m c cc nL s args RX0 D (tr_tX cd)) (hM : tr_M D A H0 H locs (tr_wX h ad cd tc c1 st tm wk bs bt rn ri)) {k v : Nat} (hk : k < 50) (hv : v < 128) (hdg : decode cc pc = .ok (.bastore, 1)) (kk : ∀ (H1 : Heap) (locs1 : List Loc), tr_M D A H0 H1 locs1 (tr_wX h ad cd tc c1 (tr_up st k v) tm wk bs bt rn ri) → W p l e R s m args below meth c H1 locs1 cells slots Q (F0 m (pc + 1) ls rest)) : W p l e R s m args below meth c H locs cells slots Q (F0 m pc ls (.int (nI v) :: .int (nI k) :: .ref (ad 2) :: rest)) := by
  obtain ⟨⟨hx, hb, -, hown, hts⟩, hK⟩ := hC
  obtain ⟨hP, hD, hS⟩ := hM
  unfold tr_wX at hP hD
  unfold tr_tX at hK
  refine va_bast (f := tr_ai st) hx hb hK hP hD hS 2 1 rfl rfl (vp_in_nI hk (by decide)) hdg (fun H1 locs1 hP hD hS => ?_)
  rw [nI_clamp (Nat.lt_trans hk (by decide)), tr_n8 hv, tr_ai_up] at hP hD
  exact kk H1 locs1 ⟨hP, hD, hS⟩
theorem tx_ld_tm (hC : tr_C p m c cc nL s args RX0 D (tr_tX cd)) (hM : tr_M D A H0 H locs (tr_wX h ad cd tc c1 st tm wk bs bt rn ri)) {k : Nat} (hk : k < 50) (hdg : decode cc pc = .ok (.saload, 1)) (kk : W p l e R s m args below meth c H locs cells slots Q (F0 m (pc + 1) ls (.int (nI (tm k)) :: rest))) : W p l e R s m args below meth c H locs cells slots Q (F0 m pc ls (.int (nI k) :: .ref (ad 3) :: rest)) := by
  obtain ⟨⟨hx, hb, -, hown, hts⟩, hK⟩ := hC
  have hP := hM.1
  unfold tr_wX at hP
  unfold tr_tX at hK
  refine va_sald (f := tr_ai tm) hx hb hK hP 3 2 rfl rfl (vp_in_nI hk (by decide)) hdg ?_
  rw [nI_clamp (Nat.lt_trans hk (by decide))]
  exact kk
theorem tx_st_tm (hC : tr_C p m c cc nL s args RX0 D (tr_tX cd)) (hM : tr_M D A H0 H locs (tr_wX h ad cd tc c1 st tm wk bs bt rn ri)) {k v : Nat} (hk : k < 50) (hv : v < 32768) (hdg : decode cc pc = .ok (.sastore, 1)) (kk : ∀ (H1 : Heap) (locs1 : List Loc), tr_M D A H0 H1 locs1 (tr_wX h ad cd tc c1 st (tr_up tm k v) wk bs bt rn ri) → W p l e R s m args below meth c H1 locs1 cells slots Q (F0 m (pc + 1) ls rest)) : W p l e R s m args below meth c H locs cells slots Q (F0 m pc ls (.int (nI v) :: .int (nI k) :: .ref (ad 3) :: rest)) := by
  obtain ⟨⟨hx, hb, -, hown, hts⟩, hK⟩ := hC
  obtain ⟨hP, hD, hS⟩ := hM
  unfold tr_wX at hP hD
  unfold tr_tX at hK
  refine va_sast (f := tr_ai tm) hx hb hK hP hD hS 3 2 rfl rfl (vp_in_nI hk (by decide)) hdg (fun H1 locs1 hP hD hS => ?_)
  rw [nI_clamp (Nat.lt_trans hk (by decide)), tr_n16 hv, tr_ai_up] at hP hD
  exact kk H1 locs1 ⟨hP, hD, hS⟩
theorem tx_ld_wk (hC : tr_C p m c cc nL s args RX0 D (tr_tX cd)) (hM : tr_M D A H0 H locs (tr_wX h ad cd tc c1 st tm wk bs bt rn ri)) {k : Nat} (hk : k < 64) (hdg : decode cc pc = .ok (.baload, 1)) (kk : W p l e R s m args below meth c H locs cells slots Q (F0 m (pc + 1) ls (.int (nI (wk k)) :: rest))) : W p l e R s m args below meth c H locs cells slots Q (F0 m pc ls (.int (nI k) :: .ref (ad 4) :: rest)) := by
  obtain ⟨⟨hx, hb, -, hown, hts⟩, hK⟩ := hC
  have hP := hM.1
  unfold tr_wX at hP
  unfold tr_tX at hK
  refine va_bald (f := tr_ai wk) hx hb hK hP 4 3 rfl rfl (vp_in_nI hk (by decide)) hdg ?_
  rw [nI_clamp (Nat.lt_trans hk (by decide))]
  exact kk
theorem tx_st_wk (hC : tr_C p m c cc nL s args RX0 D (tr_tX cd)) (hM : tr_M D A H0 H locs (tr_wX h ad cd tc c1 st tm wk bs bt rn ri)) {k v : Nat} (hk : k < 64) (hv : v < 128) (hdg : decode cc pc = .ok (.bastore, 1)) (kk : ∀ (H1 : Heap) (locs1 : List Loc), tr_M D A H0 H1 locs1 (tr_wX h ad cd tc c1 st tm (tr_up wk k v) bs bt rn ri) → W p l e R s m args below meth c H1 locs1 cells slots Q (F0 m (pc + 1) ls rest)) : W p l e R s m args below meth c H locs cells slots Q (F0 m pc ls (.int (nI v) :: .int (nI k) :: .ref (ad 4) :: rest)) := by
  obtain ⟨⟨hx, hb, -, hown, hts⟩, hK⟩ := hC
  obtain ⟨hP, hD, hS⟩ := hM
  unfold tr_wX at hP hD
  unfold tr_tX at hK
  refine va_bast (f := tr_ai wk) hx hb hK hP hD hS 4 3 rfl rfl (vp_in_nI hk (by decide)) hdg (fun H1 locs1 hP hD hS => ?_)
  rw [nI_clamp (Nat.lt_trans hk (by decide)), tr_n8 hv, tr_ai_up] at hP hD
  exact kk H1 locs1 ⟨hP, hD, hS⟩
theorem tx_ld_bs (hC : tr_C p m c cc nL s args RX0 D (tr_tX cd)) (hM : tr_M D A H0 H locs (tr_wX h ad cd tc c1 st tm wk bs bt rn ri)) {k : Nat} (hk : k < 88) (hdg : decode cc pc = .ok (.iaload, 1)) (kk : W p l e R s m args below meth c H locs cells slots Q (F0 m (pc + 1) ls (.int (nI (bs k)) :: rest))) : W p l e R s m args below meth c H locs cells slots Q (F0 m pc ls (.int (nI k) :: .ref (ad 5) :: rest)) := by
  obtain ⟨⟨hx, hb, -, hown, hts⟩, hK⟩ := hC
  have hP := hM.1
  unfold tr_wX at hP
  unfold tr_tX at hK
  refine va_iald (f := tr_ai bs) hx hb hK hP 5 4 rfl rfl (vp_in_nI hk (by decide)) hdg ?_
  rw [nI_clamp (Nat.lt_trans hk (by decide))]
  exact kk
theorem tx_st_bs (hC : tr_C p m c cc nL s args RX0 D (tr_tX cd)) (hM : tr_M D A H0 H locs (tr_wX h ad cd tc c1 st tm wk bs bt rn ri)) {k v : Nat} (hk : k < 88)  (hdg : decode cc pc = .ok (.iastore, 1)) (kk : ∀ (H1 : Heap) (locs1 : List Loc), tr_M D A H0 H1 locs1 (tr_wX h ad cd tc c1 st tm wk (tr_up bs k v) bt rn ri) → W p l e R s m args below meth c H1 locs1 cells slots Q (F0 m (pc + 1) ls rest)) : W p l e R s m args below meth c H locs cells slots Q (F0 m pc ls (.int (nI v) :: .int (nI k) :: .ref (ad 5) :: rest)) := by
  obtain ⟨⟨hx, hb, -, hown, hts⟩, hK⟩ := hC
  obtain ⟨hP, hD, hS⟩ := hM
  unfold tr_wX at hP hD
  unfold tr_tX at hK
  refine va_iast (f := tr_ai bs) hx hb hK hP hD hS 5 4 rfl rfl (vp_in_nI hk (by decide)) hdg (fun H1 locs1 hP hD hS => ?_)
  rw [nI_clamp (Nat.lt_trans hk (by decide)), tr_ai_up] at hP hD
  exact kk H1 locs1 ⟨hP, hD, hS⟩
theorem tx_ld_ri (hC : tr_C p m c cc nL s args RX0 D (tr_tX cd)) (hM : tr_M D A H0 H locs (tr_wX h ad cd tc c1 st tm wk bs bt rn ri)) {k : Nat} (hk : k < 8) (hdg : decode cc pc = .ok (.iaload, 1)) (kk : W p l e R s m args below meth c H locs cells slots Q (F0 m (pc + 1) ls (.int (nI (ri k)) :: rest))) : W p l e R s m args below meth c H locs cells slots Q (F0 m pc ls (.int (nI k) :: .ref (ad 8) :: rest)) := by
  obtain ⟨⟨hx, hb, -, hown, hts⟩, hK⟩ := hC
  have hP := hM.1
  unfold tr_wX at hP
  unfold tr_tX at hK
  refine va_iald (f := tr_ai ri) hx hb hK hP 6 5 rfl rfl (vp_in_nI hk (by decide)) hdg ?_
  rw [nI_clamp (Nat.lt_trans hk (by decide))]
  exact kk
theorem tx_st_ri (hC : tr_C p m c cc nL s args RX0 D (tr_tX cd)) (hM : tr_M D A H0 H locs (tr_wX h ad cd tc c1 st tm wk bs bt rn ri)) {k v : Nat} (hk : k < 8)  (hdg : decode cc pc = .ok (.iastore, 1)) (kk : ∀ (H1 : Heap) (locs1 : List Loc), tr_M D A H0 H1 locs1 (tr_wX h ad cd tc c1 st tm wk bs bt rn (tr_up ri k v)) → W p l e R s m args below meth c H1 locs1 cells slots Q (F0 m (pc + 1) ls rest)) : W p l e R s m args below meth c H locs cells slots Q (F0 m pc ls (.int (nI v) :: .int (nI k) :: .ref (ad 8) :: rest)) := by
  obtain ⟨⟨hx, hb, -, hown, hts⟩, hK⟩ := hC
  obtain ⟨hP, hD, hS⟩ := hM
  unfold tr_wX at hP hD
  unfold tr_tX at hK
  refine va_iast (f := tr_ai ri) hx hb hK hP hD hS 6 5 rfl rfl (vp_in_nI hk (by decide)) hdg (fun H1 locs1 hP hD hS => ?_)
  rw [nI_clamp (Nat.lt_trans hk (by decide)), tr_ai_up] at hP hD
  exact kk H1 locs1 ⟨hP, hD, hS⟩
theorem tm_ld_c1 (hC : tr_C p m c cc nL s args RX1 D (tr_tM cd)) (hM : tr_M D A H0 H locs (tr_wM h ad cd tc c1 st tm wk fo th)) {k : Nat} (hk : k < 10) (hdg : decode cc pc = .ok (.iaload, 1)) (kk : W p l e R s m args below meth c H locs cells slots Q (F0 m (pc + 1) ls (.int (nI (c1 k)) :: rest))) : W p l e R s m args below meth c H locs cells slots Q (F0 m pc ls (.int (nI k) :: .ref (ad 1) :: rest)) := by
  obtain ⟨⟨hx, hb, -, hown, hts⟩, hK⟩ := hC
  have hP := hM.1
  unfold tr_wM at hP
  unfold tr_tM at hK
  refine va_iald (f := tr_ai c1) hx hb hK hP 1 0 rfl rfl (vp_in_nI hk (by decide)) hdg ?_
  rw [nI_clamp (Nat.lt_trans hk (by decide))]
  exact kk
theorem tm_st_c1 (hC : tr_C p m c cc nL s args RX1 D (tr_tM cd)) (hM : tr_M D A H0 H locs (tr_wM h ad cd tc c1 st tm wk fo th)) {k v : Nat} (hk : k < 10)  (hdg : decode cc pc = .ok (.iastore, 1)) (kk : ∀ (H1 : Heap) (locs1 : List Loc), tr_M D A H0 H1 locs1 (tr_wM h ad cd tc (tr_up c1 k v) st tm wk fo th) → W p l e R s m args below meth c H1 locs1 cells slots Q (F0 m (pc + 1) ls rest)) : W p l e R s m args below meth c H locs cells slots Q (F0 m pc ls (.int (nI v) :: .int (nI k) :: .ref (ad 1) :: rest)) := by
  obtain ⟨⟨hx, hb, -, hown, hts⟩, hK⟩ := hC
  obtain ⟨hP, hD, hS⟩ := hM
  unfold tr_wM at hP hD
  unfold tr_tM at hK
  refine va_iast (f := tr_ai c1) hx hb hK hP hD hS 1 0 rfl rfl (vp_in_nI hk (by decide)) hdg (fun H1 locs1 hP hD hS => ?_)
  rw [nI_clamp (Nat.lt_trans hk (by decide)), tr_ai_up] at hP hD
  exact kk H1 locs1 ⟨hP, hD, hS⟩
theorem tm_ld_st (hC : tr_C p m c cc nL s args RX1 D (tr_tM cd)) (hM : tr_M D A H0 H locs (tr_wM h ad cd tc c1 st tm wk fo th)) {k : Nat} (hk : k < 50) (hdg : decode cc pc = .ok (.iaload, 1)) (kk : W p l e R s m args below meth c H locs cells slots Q (F0 m (pc + 1) ls (.int (nI (st k)) :: rest))) : W p l e R s m args below meth c H locs cells slots Q (F0 m pc ls (.int (nI k) :: .ref (ad 2) :: rest)) := by
  obtain ⟨⟨hx, hb, -, hown, hts⟩, hK⟩ := hC
  have hP := hM.1
  unfold tr_wM at hP
  unfold tr_tM at hK
  refine va_iald (f := tr_ai st) hx hb hK hP 2 1 rfl rfl (vp_in_nI hk (by decide)) hdg ?_
  rw [nI_clamp (Nat.lt_trans hk (by decide))]
  exact kk
theorem tm_st_st (hC : tr_C p m c cc nL s args RX1 D (tr_tM cd)) (hM : tr_M D A H0 H locs (tr_wM h ad cd tc c1 st tm wk fo th)) {k v : Nat} (hk : k < 50)  (hdg : decode cc pc = .ok (.iastore, 1)) (kk : ∀ (H1 : Heap) (locs1 : List Loc), tr_M D A H0 H1 locs1 (tr_wM h ad cd tc c1 (tr_up st k v) tm wk fo th) → W p l e R s m args below meth c H1 locs1 cells slots Q (F0 m (pc + 1) ls rest)) : W p l e R s m args below meth c H locs cells slots Q (F0 m pc ls (.int (nI v) :: .int (nI k) :: .ref (ad 2) :: rest)) := by
  obtain ⟨⟨hx, hb, -, hown, hts⟩, hK⟩ := hC
  obtain ⟨hP, hD, hS⟩ := hM
  unfold tr_wM at hP hD
  unfold tr_tM at hK
  refine va_iast (f := tr_ai st) hx hb hK hP hD hS 2 1 rfl rfl (vp_in_nI hk (by decide)) hdg (fun H1 locs1 hP hD hS => ?_)
  rw [nI_clamp (Nat.lt_trans hk (by decide)), tr_ai_up] at hP hD
  exact kk H1 locs1 ⟨hP, hD, hS⟩
theorem tm_ld_tm (hC : tr_C p m c cc nL s args RX1 D (tr_tM cd)) (hM : tr_M D A H0 H locs (tr_wM h ad cd tc c1 st tm wk fo th)) {k : Nat} (hk : k < 50) (hdg : decode cc pc = .ok (.iaload, 1)) (kk : W p l e R s m args below meth c H locs cells slots Q (F0 m (pc + 1) ls (.int (nI (tm k)) :: rest))) : W p l e R s m args below meth c H locs cells slots Q (F0 m pc ls (.int (nI k) :: .ref (ad 3) :: rest)) := by
  obtain ⟨⟨hx, hb, -, hown, hts⟩, hK⟩ := hC
  have hP := hM.1
  unfold tr_wM at hP
  unfold tr_tM at hK
  refine va_iald (f := tr_ai tm) hx hb hK hP 3 2 rfl rfl (vp_in_nI hk (by decide)) hdg ?_
  rw [nI_clamp (Nat.lt_trans hk (by decide))]
  exact kk
theorem tm_st_tm (hC : tr_C p m c cc nL s args RX1 D (tr_tM cd)) (hM : tr_M D A H0 H locs (tr_wM h ad cd tc c1 st tm wk fo th)) {k v : Nat} (hk : k < 50)  (hdg : decode cc pc = .ok (.iastore, 1)) (kk : ∀ (H1 : Heap) (locs1 : List Loc), tr_M D A H0 H1 locs1 (tr_wM h ad cd tc c1 st (tr_up tm k v) wk fo th) → W p l e R s m args below meth c H1 locs1 cells slots Q (F0 m (pc + 1) ls rest)) : W p l e R s m args below meth c H locs cells slots Q (F0 m pc ls (.int (nI v) :: .int (nI k) :: .ref (ad 3) :: rest)) := by
  obtain ⟨⟨hx, hb, -, hown, hts⟩, hK⟩ := hC
  obtain ⟨hP, hD, hS⟩ := hM
  unfold tr_wM at hP hD
  unfold tr_tM at hK
  refine va_iast (f := tr_ai tm) hx hb hK hP hD hS 3 2 rfl rfl (vp_in_nI hk (by decide)) hdg (fun H1 locs1 hP hD hS => ?_)
  rw [nI_clamp (Nat.lt_trans hk (by decide)), tr_ai_up] at hP hD
  exact kk H1 locs1 ⟨hP, hD, hS⟩
theorem tm_ld_wk (hC : tr_C p m c cc nL s args RX1 D (tr_tM cd)) (hM : tr_M D A H0 H locs (tr_wM h ad cd tc c1 st tm wk fo th)) {k : Nat} (hk : k < 64) (hdg : decode cc pc = .ok (.iaload, 1)) (kk : W p l e R s m args below meth c H locs cells slots Q (F0 m (pc + 1) ls (.int (nI (wk k)) :: rest))) : W p l e R s m args below meth c H locs cells slots Q (F0 m pc ls (.int (nI k) :: .ref (ad 4) :: rest)) := by
  obtain ⟨⟨hx, hb, -, hown, hts⟩, hK⟩ := hC
  have hP := hM.1
  unfold tr_wM at hP
  unfold tr_tM at hK
  refine va_iald (f := tr_ai wk) hx hb hK hP 4 3 rfl rfl (vp_in_nI hk (by decide)) hdg ?_
  rw [nI_clamp (Nat.lt_trans hk (by decide))]
  exact kk
theorem tm_st_wk (hC : tr_C p m c cc nL s args RX1 D (tr_tM cd)) (hM : tr_M D A H0 H locs (tr_wM h ad cd tc c1 st tm wk fo th)) {k v : Nat} (hk : k < 64)  (hdg : decode cc pc = .ok (.iastore, 1)) (kk : ∀ (H1 : Heap) (locs1 : List Loc), tr_M D A H0 H1 locs1 (tr_wM h ad cd tc c1 st tm (tr_up wk k v) fo th) → W p l e R s m args below meth c H1 locs1 cells slots Q (F0 m (pc + 1) ls rest)) : W p l e R s m args below meth c H locs cells slots Q (F0 m pc ls (.int (nI v) :: .int (nI k) :: .ref (ad 4) :: rest)) := by
  obtain ⟨⟨hx, hb, -, hown, hts⟩, hK⟩ := hC
  obtain ⟨hP, hD, hS⟩ := hM
  unfold tr_wM at hP hD
  unfold tr_tM at hK
  refine va_iast (f := tr_ai wk) hx hb hK hP hD hS 4 3 rfl rfl (vp_in_nI hk (by decide)) hdg (fun H1 locs1 hP hD hS => ?_)
  rw [nI_clamp (Nat.lt_trans hk (by decide)), tr_ai_up] at hP hD
  exact kk H1 locs1 ⟨hP, hD, hS⟩
theorem tm_ld_fo (hC : tr_C p m c cc nL s args RX1 D (tr_tM cd)) (hM : tr_M D A H0 H locs (tr_wM h ad cd tc c1 st tm wk fo th)) {k : Nat} (hk : k < 88) (hdg : decode cc pc = .ok (.iaload, 1)) (kk : W p l e R s m args below meth c H locs cells slots Q (F0 m (pc + 1) ls (.int (nI (fo k)) :: rest))) : W p l e R s m args below meth c H locs cells slots Q (F0 m pc ls (.int (nI k) :: .ref (ad 5) :: rest)) := by
  obtain ⟨⟨hx, hb, -, hown, hts⟩, hK⟩ := hC
  have hP := hM.1
  unfold tr_wM at hP
  unfold tr_tM at hK
  refine va_iald (f := tr_ai fo) hx hb hK hP 5 4 rfl rfl (vp_in_nI hk (by decide)) hdg ?_
  rw [nI_clamp (Nat.lt_trans hk (by decide))]
  exact kk
theorem tm_st_fo (hC : tr_C p m c cc nL s args RX1 D (tr_tM cd)) (hM : tr_M D A H0 H locs (tr_wM h ad cd tc c1 st tm wk fo th)) {k v : Nat} (hk : k < 88)  (hdg : decode cc pc = .ok (.iastore, 1)) (kk : ∀ (H1 : Heap) (locs1 : List Loc), tr_M D A H0 H1 locs1 (tr_wM h ad cd tc c1 st tm wk (tr_up fo k v) th) → W p l e R s m args below meth c H1 locs1 cells slots Q (F0 m (pc + 1) ls rest)) : W p l e R s m args below meth c H locs cells slots Q (F0 m pc ls (.int (nI v) :: .int (nI k) :: .ref (ad 5) :: rest)) := by
  obtain ⟨⟨hx, hb, -, hown, hts⟩, hK⟩ := hC
  obtain ⟨hP, hD, hS⟩ := hM
  unfold tr_wM at hP hD
  unfold tr_tM at hK
  refine va_iast (f := tr_ai fo) hx hb hK hP hD hS 5 4 rfl rfl (vp_in_nI hk (by decide)) hdg (fun H1 locs1 hP hD hS => ?_)
  rw [nI_clamp (Nat.lt_trans hk (by decide)), tr_ai_up] at hP hD
  exact kk H1 locs1 ⟨hP, hD, hS⟩
theorem tm_ld_th (hC : tr_C p m c cc nL s args RX1 D (tr_tM cd)) (hM : tr_M D A H0 H locs (tr_wM h ad cd tc c1 st tm wk fo th)) {k : Nat} (hk : k < 88) (hdg : decode cc pc = .ok (.iaload, 1)) (kk : W p l e R s m args below meth c H locs cells slots Q (F0 m (pc + 1) ls (.int (nI (th k)) :: rest))) : W p l e R s m args below meth c H locs cells slots Q (F0 m pc ls (.int (nI k) :: .ref (ad 6) :: rest)) := by
  obtain ⟨⟨hx, hb, -, hown, hts⟩, hK⟩ := hC
  have hP := hM.1
  unfold tr_wM at hP
  unfold tr_tM at hK
  refine va_iald (f := tr_ai th) hx hb hK hP 6 5 rfl rfl (vp_in_nI hk (by decide)) hdg ?_
  rw [nI_clamp (Nat.lt_trans hk (by decide))]
  exact kk
theorem tm_st_th (hC : tr_C p m c cc nL s args RX1 D (tr_tM cd)) (hM : tr_M D A H0 H locs (tr_wM h ad cd tc c1 st tm wk fo th)) {k v : Nat} (hk : k < 88)  (hdg : decode cc pc = .ok (.iastore, 1)) (kk : ∀ (H1 : Heap) (locs1 : List Loc), tr_M D A H0 H1 locs1 (tr_wM h ad cd tc c1 st tm wk fo (tr_up th k v)) → W p l e R s m args below meth c H1 locs1 cells slots Q (F0 m (pc + 1) ls rest)) : W p l e R s m args below meth c H locs cells slots Q (F0 m pc ls (.int (nI v) :: .int (nI k) :: .ref (ad 6) :: rest)) := by
  obtain ⟨⟨hx, hb, -, hown, hts⟩, hK⟩ := hC
  obtain ⟨hP, hD, hS⟩ := hM
  unfold tr_wM at hP hD
  unfold tr_tM at hK
  refine va_iast (f := tr_ai th) hx hb hK hP hD hS 6 5 rfl rfl (vp_in_nI hk (by decide)) hdg (fun H1 locs1 hP hD hS => ?_)
  rw [nI_clamp (Nat.lt_trans hk (by decide)), tr_ai_up] at hP hD
  exact kk H1 locs1 ⟨hP, hD, hS⟩
variable {y : MethodName} {b : ByteArray} {L n index : Nat} {r : FieldType} {rm : Room} {As st0 : List Value} {S : Type} {W1 : S → va_W}
theorem tx_callI {post : Int32 → S → Prop} (hm : tr_MI l y b L r rm D (tr_tX cd) (.ref h :: As) (tr_wX h ad cd tc c1 st tm wk bs bt rn ri) post W1) (hC : tr_C p m c cc nL s args RX0 D (tr_tX cd)) (cw : CallW R s args RX0 RX0 index y b L (some r) (ws_ y b L (some r)) rm 0 0 n) (hA : ∀ q : Nat, s.heap.size ≤ q → A q) (hM : tr_M D A s.heap H locs (tr_wX h ad cd tc c1 st tm wk bs bt rn ri)) (hn : As.length = n) (hls : ls.size = nL) (hst : st0 = As.reverse ++ .ref h :: rest) (hrest : (rest.map fun v => v.category).sum ≤ 8) (hf : cells ≤ R.cells ∧ slots ≤ R.slots) (hdg : decode cc pc = .ok (.invokevirtual index, 3)) (kk : ∀ (v : Int32) (u : S) (H1 : Heap) (locs1 : List Loc), post v u → tr_M D A s.heap H1 locs1 (W1 u) → W p l e R s m args below meth c H1 locs1 cells slots Q (F0 m (pc + 3) ls (.int v :: rest))) : W p l e R s m args below meth c H locs cells slots Q (F0 m pc ls st0) := tr_MI_call (Wr := []) hm hC hC.2 cw hA hM [0, 1, 2, 3, 4, 5, 6] [] rfl rfl rfl rfl rfl (fun _ h9 => by cases h9) rfl rfl hn hls hst hrest hf hdg kk
theorem tx_callV {post : S → Prop} (hm : tr_MV l y b L rm D (tr_tX cd) (.ref h :: As) (tr_wX h ad cd tc c1 st tm wk bs bt rn ri) post W1) (hC : tr_C p m c cc nL s args RX0 D (tr_tX cd)) (cw : CallW R s args RX0 RX0 index y b L none (ws_ y b L none) rm 0 0 n) (hA : ∀ q : Nat, s.heap.size ≤ q → A q) (hM : tr_M D A s.heap H locs (tr_wX h ad cd tc c1 st tm wk bs bt rn ri)) (hn : As.length = n) (hls : ls.size = nL) (hst : st0 = As.reverse ++ .ref h :: rest) (hrest : (rest.map fun v => v.category).sum ≤ 8) (hf : cells ≤ R.cells ∧ slots ≤ R.slots) (hdg : decode cc pc = .ok (.invokevirtual index, 3)) (kk : ∀ (u : S) (H1 : Heap) (locs1 : List Loc), post u → tr_M D A s.heap H1 locs1 (W1 u) → W p l e R s m args below meth c H1 locs1 cells slots Q (F0 m (pc + 3) ls (rest))) : W p l e R s m args below meth c H locs cells slots Q (F0 m pc ls st0) := tr_MV_call (Wr := []) hm hC hC.2 cw hA hM [0, 1, 2, 3, 4, 5, 6] [] rfl rfl rfl rfl rfl (fun _ h9 => by cases h9) rfl rfl hn hls hst hrest hf hdg kk
theorem tm_callI {post : Int32 → S → Prop} (hm : tr_MI l y b L r rm D (tr_tM cd) (.ref h :: As) (tr_wM h ad cd tc c1 st tm wk fo th) post W1) (hC : tr_C p m c cc nL s args RX1 D (tr_tM cd)) (cw : CallW R s args RX1 RX1 index y b L (some r) (ws_ y b L (some r)) rm 0 0 n) (hA : ∀ q : Nat, s.heap.size ≤ q → A q) (hM : tr_M D A s.heap H locs (tr_wM h ad cd tc c1 st tm wk fo th)) (hn : As.length = n) (hls : ls.size = nL) (hst : st0 = As.reverse ++ .ref h :: rest) (hrest : (rest.map fun v => v.category).sum ≤ 8) (hf : cells ≤ R.cells ∧ slots ≤ R.slots) (hdg : decode cc pc = .ok (.invokevirtual index, 3)) (kk : ∀ (v : Int32) (u : S) (H1 : Heap) (locs1 : List Loc), post v u → tr_M D A s.heap H1 locs1 (W1 u) → W p l e R s m args below meth c H1 locs1 cells slots Q (F0 m (pc + 3) ls (.int v :: rest))) : W p l e R s m args below meth c H locs cells slots Q (F0 m pc ls st0) := tr_MI_call (Wr := []) hm hC hC.2 cw hA hM [0, 1, 2, 3, 4, 5, 6] [] rfl rfl rfl rfl rfl (fun _ h9 => by cases h9) rfl rfl hn hls hst hrest hf hdg kk
theorem tm_callV {post : S → Prop} (hm : tr_MV l y b L rm D (tr_tM cd) (.ref h :: As) (tr_wM h ad cd tc c1 st tm wk fo th) post W1) (hC : tr_C p m c cc nL s args RX1 D (tr_tM cd)) (cw : CallW R s args RX1 RX1 index y b L none (ws_ y b L none) rm 0 0 n) (hA : ∀ q : Nat, s.heap.size ≤ q → A q) (hM : tr_M D A s.heap H locs (tr_wM h ad cd tc c1 st tm wk fo th)) (hn : As.length = n) (hls : ls.size = nL) (hst : st0 = As.reverse ++ .ref h :: rest) (hrest : (rest.map fun v => v.category).sum ≤ 8) (hf : cells ≤ R.cells ∧ slots ≤ R.slots) (hdg : decode cc pc = .ok (.invokevirtual index, 3)) (kk : ∀ (u : S) (H1 : Heap) (locs1 : List Loc), post u → tr_M D A s.heap H1 locs1 (W1 u) → W p l e R s m args below meth c H1 locs1 cells slots Q (F0 m (pc + 3) ls (rest))) : W p l e R s m args below meth c H locs cells slots Q (F0 m pc ls st0) := tr_MV_call (Wr := []) hm hC hC.2 cw hA hM [0, 1, 2, 3, 4, 5, 6] [] rfl rfl rfl rfl rfl (fun _ h9 => by cases h9) rfl rfl hn hls hst hrest hf hdg kk
end TX
end
section
set_option maxRecDepth 100000
/-! what the methods compute, over Nat -/
def tr_it {α : Type} (f : Nat → α → α) (x : α) : Nat → α
  | 0 => x
  | n + 1 => f n (tr_it f x n)
def tr_any (f : Nat → Bool) : Nat → Bool
  | 0 => false
  | n + 1 => tr_any f n || f n
def tr_S (x : Int32) : Bool := decide (0 ≤ x.toInt) && decide (x.toInt < 8)
def tr_T (x : Int32) : Bool := decide (0 ≤ x.toInt) && decide (x.toInt < 1000)
/-- the timetable's invariant -/
def tr_I (tc : Nat) (c1 st tm wk : Nat → Nat) : Prop := tc ≤ 10 ∧ (∀ j, c1 j ≤ 5) ∧ (∀ i, i < tc → 1 ≤ c1 i) ∧ (∀ j, st j ≤ 7) ∧ (∀ j, tm j ≤ 999) ∧ (∀ j, wk j ≤ 99) ∧ ∀ i, i < tc → ∀ k, k + 1 < c1 i → tm (5 * i + k) ≤ tm (5 * i + k + 1)
abbrev tr_r0 : Room := { frames := 0, cells := 0, slots := 0, locals := 0 }
abbrev tr_r1 : Room := { frames := 1, cells := 0, slots := 0, locals := 40 }
abbrev tr_r2 : Room := { frames := 2, cells := 0, slots := 0, locals := 70 }
abbrev tr_r3 : Room := { frames := 3, cells := 0, slots := 0, locals := 100 }
theorem tr_inc (a : Nat) : nI a + Int32.ofInt 1 = nI (a + 1) := nI_1 a
theorem tr_dec (a : Nat) : nI (a + 1) + Int32.ofInt (-1) = nI a := pk_m1 a
theorem tr_ix {x : Int32} {n : Nat} (h0 : ¬ x < 0) (h1 : x < nI n) (hn : n < 2 ^ 31) : ∃ i : Nat, i < n ∧ x = nI i := by
  obtain ⟨j, hj, rfl⟩ := nI_of h0
  exact ⟨j, (nI_ltI hj hn).mp h1, rfl⟩
theorem tr_ixle {x : Int32} {n : Nat} (h0 : ¬ x < 0) (h1 : x ≤ nI n) (hn : n < 2 ^ 31) : ∃ i : Nat, i ≤ n ∧ x = nI i := by
  obtain ⟨j, hj, rfl⟩ := nI_of h0
  exact ⟨j, (nI_leI hj hn).mp h1, rfl⟩
theorem tr_S_nI {k : Nat} (h : k < 2 ^ 31) : tr_S (nI k) = decide (k < 8) := by
  unfold tr_S
  rw [nI_toInt h]
  by_cases hk : k < 8
  · simp [hk]; omega
  · simp [hk]; omega
theorem tr_T_nI {k : Nat} (h : k < 2 ^ 31) : tr_T (nI k) = decide (k < 1000) := by
  unfold tr_T
  rw [nI_toInt h]
  by_cases hk : k < 1000
  · simp [hk]; omega
  · simp [hk]; omega
theorem tr_S_neg {x : Int32} (h : x < 0) : tr_S x = false := by
  unfold tr_S
  have := Int32.lt_iff_toInt_lt.mp h
  rw [Int32.toInt_zero] at this
  simp; omega
theorem tr_T_neg {x : Int32} (h : x < 0) : tr_T x = false := by
  unfold tr_T
  have := Int32.lt_iff_toInt_lt.mp h
  rw [Int32.toInt_zero] at this
  simp; omega
/-! the timetable's methods -/
def tr_trip (tc : Nat) (c1 st tm : Nat → Nat) (x1 x2 : Int32) : Int32 × Nat × (Nat → Nat) × (Nat → Nat) × (Nat → Nat) :=
  if 10 ≤ tc then (-2, tc, c1, st, tm) else if tr_S x1 = true ∧ tr_T x2 = true then (nI tc, tc + 1, tr_up c1 tc 1, tr_up st (5 * tc) x1.toNatClampNeg, tr_up tm (5 * tc) x2.toNatClampNeg) else (-1, tc, c1, st, tm)
def tr_call (tc : Nat) (c1 st tm : Nat → Nat) (x1 x2 : Int32) : Int32 × (Nat → Nat) × (Nat → Nat) × (Nat → Nat) :=
  if tc ≠ 0 ∧ tr_S x1 = true ∧ tr_T x2 = true then
    if 5 ≤ c1 (tc - 1) then (-2, c1, st, tm)
    else if tr_any (fun k => st (5 * (tc - 1) + k) == x1.toNatClampNeg) (c1 (tc - 1)) = true then (-1, c1, st, tm)
    else if x2.toNatClampNeg < tm (5 * (tc - 1) + c1 (tc - 1) - 1) then (-1, c1, st, tm)
    else (nI (c1 (tc - 1) + 1), tr_up c1 (tc - 1) (c1 (tc - 1) + 1), tr_up st (5 * (tc - 1) + c1 (tc - 1)) x1.toNatClampNeg, tr_up tm (5 * (tc - 1) + c1 (tc - 1)) x2.toNatClampNeg)
  else (-1, c1, st, tm)
def tr_sh5 (f : Nat → Nat) (i : Nat) : Nat → Nat → Nat := tr_it (fun k g => tr_up g (5 * i + k) (g (5 * i + k + 5))) f
def tr_sh1 (f : Nat → Nat) (i : Nat) : Nat → Nat → Nat := tr_it (fun k g => tr_up g (i + k) (g (i + k + 1))) f
def tr_cancel (tc : Nat) (c1 st tm : Nat → Nat) (x : Int32) : Int32 × Nat × (Nat → Nat) × (Nat → Nat) × (Nat → Nat) :=
  if x < 0 ∨ nI tc ≤ x then (-1, tc, c1, st, tm) else (nI (tc - 1), tc - 1, tr_sh1 c1 x.toNatClampNeg (tc - 1 - x.toNatClampNeg), tr_sh5 st x.toNatClampNeg (5 * (tc - 1) - 5 * x.toNatClampNeg), tr_sh5 tm x.toNatClampNeg (5 * (tc - 1) - 5 * x.toNatClampNeg))
/-- the times of trip i from its call k on, n of them, d later -/
def tr_late (tm : Nat → Nat) (i k d : Nat) : Nat → Nat → Nat := tr_it (fun j g => tr_up g (5 * i + k + j) (g (5 * i + k + j) + d)) tm
/-- a delay's numbers are good: its trip, its call, its minutes -/
def tr_dok (tc : Nat) (c1 : Nat → Nat) (x1 x2 x3 : Int32) (i k d : Nat) : Prop := i < tc ∧ k < c1 i ∧ d ≤ 99 ∧ x1 = nI i ∧ x2 = nI k ∧ x3 = nI d
def tr_dbad (tc : Nat) (c1 : Nat → Nat) (x1 x2 x3 : Int32) : Prop := ∀ i k d, ¬ tr_dok tc c1 x1 x2 x3 i k d
def tr_walk (wk : Nat → Nat) (x1 x2 x3 : Int32) : Int32 × (Nat → Nat) :=
  if tr_S x1 = true ∧ tr_S x2 = true ∧ x1 ≠ x2 ∧ ¬ x3 < 0 ∧ x3 ≤ nI 99 then (nI 1, tr_up (tr_up wk (8 * x1.toNatClampNeg + x2.toNatClampNeg) x3.toNatClampNeg) (8 * x2.toNatClampNeg + x1.toNatClampNeg) x3.toNatClampNeg) else (nI 0, wk)
/-! TransitRounds: the rounds -/
def tx_wi (wk ri : Nat → Nat) (r f : Nat) (bs : Nat → Nat) : Nat → Nat → Nat := tr_it (fun g b => if wk (8 * f + g) = 0 ∨ b (8 * r + g) ≤ ri f + wk (8 * f + g) then b else tr_up b (8 * r + g) (ri f + wk (8 * f + g))) bs
def tx_w (wk ri : Nat → Nat) (r : Nat) (bs : Nat → Nat) : Nat → Nat → Nat := tr_it (fun f b => if 100000 ≤ ri f then b else tx_wi wk ri r f b 8) bs
def tx_f1 (ri : Nat → Nat) (rn : Nat) (bs : Nat → Nat) : Nat → Nat → Nat := tr_it (fun q b => if ri q < b (8 * rn + q) then tr_up b (8 * rn + q) (ri q) else b) bs
def tx_f2 (wk ri : Nat → Nat) (rn : Nat) (bs : Nat → Nat) : Nat → Nat := tx_w wk ri rn (tx_f1 ri rn bs 8) 8
def tx_fb (rn : Nat) (bs : Nat → Nat) : Nat → Nat := tr_it (fun q b => if bs (8 * rn + q) < bs (8 * rn - 8 + q) then b ||| 2 ^ q else b) 0
def tx_ride (st tm bs : Nat → Nat) (rn i : Nat) (ri : Nat → Nat) : Nat → Nat × (Nat → Nat) := tr_it (fun k q => (if bs (8 * (rn - 1) + st (5 * i + k)) ≤ tm (5 * i + k) then 1 else q.1, if q.1 ≠ 0 ∧ tm (5 * i + k) < q.2 (st (5 * i + k)) then tr_up q.2 (st (5 * i + k)) (tm (5 * i + k)) else q.2)) (0, ri)
def tx_cab (st : Nat → Nat) (bt i : Nat) : Nat → Bool := tr_any (fun k => decide ((bt / 2 ^ st (5 * i + k)) &&& 1 ≠ 0))
def tx_fill (f : Nat → Nat) : Nat → Nat → Nat := tr_it (fun q b => tr_up b q 100000) f
def tx_copy (rn : Nat) (bs : Nat → Nat) : Nat → Nat → Nat := tr_it (fun q b => tr_up b (8 * rn + 8 + q) (b (8 * rn + q))) bs
def tx_bt0 (bs : Nat → Nat) : Nat → Nat := tr_it (fun q b => if bs q < 100000 then b ||| 2 ^ q else b) 0
def tx_rides (c1 st tm bs : Nat → Nat) (bt rn : Nat) (ri : Nat → Nat) : Nat → Nat → Nat := tr_it (fun i r => if tx_cab st bt i (c1 i) = true then (tx_ride st tm bs rn i r (c1 i)).2 else r) ri
abbrev tx_Q : Type := (Nat → Nat) × Nat × Nat × (Nat → Nat)
/-- one round -/
def tx_round (tc : Nat) (c1 st tm wk : Nat → Nat) (q : tx_Q) : tx_Q :=
  (tx_f2 wk (tx_rides c1 st tm (tx_copy q.2.2.1 q.1 8) q.2.1 (q.2.2.1 + 1) (tx_fill q.2.2.2 8) tc) (q.2.2.1 + 1) (tx_copy q.2.2.1 q.1 8),
   tx_fb (q.2.2.1 + 1) (tx_f2 wk (tx_rides c1 st tm (tx_copy q.2.2.1 q.1 8) q.2.1 (q.2.2.1 + 1) (tx_fill q.2.2.2 8) tc) (q.2.2.1 + 1) (tx_copy q.2.2.1 q.1 8)) 8,
   q.2.2.1 + 1,
   tx_rides c1 st tm (tx_copy q.2.2.1 q.1 8) q.2.1 (q.2.2.1 + 1) (tx_fill q.2.2.2 8) tc)
def tx_rounds (tc : Nat) (c1 st tm wk : Nat → Nat) : Nat → tx_Q → tx_Q
  | 0, q => q
  | n + 1, q => if q.2.1 = 0 then q else tx_rounds tc c1 st tm wk n (tx_round tc c1 st tm wk q)
/-- the state before the first round -/
def tx_start (wk : Nat → Nat) (a t : Nat) (bs ri : Nat → Nat) : tx_Q :=
  (tx_w wk (tr_up (tx_fill ri 8) a t) 0 (tr_up (tx_fill bs 8) a t) 8,
   tx_bt0 (tx_w wk (tr_up (tx_fill ri 8) a t) 0 (tr_up (tx_fill bs 8) a t) 8) 8, 0, tr_up (tx_fill ri 8) a t)
def tx_search (tc : Nat) (c1 st tm wk : Nat → Nat) (a t n : Nat) (bs ri : Nat → Nat) : tx_Q := tx_rounds tc c1 st tm wk n (tx_start wk a t bs ri)
/-- what a search's state must be: in range -/
def tx_ok (q : tx_Q) : Prop := (∀ j, q.1 j ≤ 100000) ∧ q.2.1 < 256 ∧ q.2.2.1 ≤ 10 ∧ ∀ j, q.2.2.2 j ≤ 100000
/-! TransitRoundsModel -/
def tm_wi (wk fo : Nat → Nat) (r q : Nat) (b : Nat) : Nat → Nat := tr_it (fun u b => if 0 < wk (8 * u + q) ∧ fo (8 * r + u) + wk (8 * u + q) < b then fo (8 * r + u) + wk (8 * u + q) else b) b
def tm_w (wk fo : Nat → Nat) (r : Nat) (th : Nat → Nat) : Nat → Nat → Nat := tr_it (fun q t => tr_up t (8 * r + q) (tm_wi wk fo r q (fo (8 * r + q)) 8)) th
def tm_ri (c1 st tm : Nat → Nat) (r i k : Nat) (fo : Nat → Nat) : Nat → Nat → Nat := tr_it (fun j f => if tm (5 * i + (k + 1 + j)) < f (8 * r + st (5 * i + (k + 1 + j))) then tr_up f (8 * r + st (5 * i + (k + 1 + j))) (tm (5 * i + (k + 1 + j))) else f) fo
def tm_ride (c1 st tm th : Nat → Nat) (r i k : Nat) (fo : Nat → Nat) : Nat → Nat := if tm (5 * i + k) < th (8 * (r - 1) + st (5 * i + k)) then fo else tm_ri c1 st tm r i k fo (c1 i - (k + 1))
def tm_rides (c1 st tm th : Nat → Nat) (r : Nat) (fo : Nat → Nat) : Nat → Nat → Nat := tr_it (fun m f => if m % 5 < c1 (m / 5) then tm_ride c1 st tm th r (m / 5) (m % 5) f else f) fo
def tm_init (a t : Nat) (fo : Nat → Nat) : Nat → Nat → Nat := tr_it (fun q f => tr_up f q (if q = a then t else 100000)) fo
abbrev tm_Q : Type := (Nat → Nat) × (Nat → Nat)
def tm_round (tc : Nat) (c1 st tm wk : Nat → Nat) (r : Nat) (q : tm_Q) : tm_Q := (tm_rides c1 st tm q.2 r q.1 (5 * tc), tm_w wk (tm_rides c1 st tm q.2 r q.1 (5 * tc)) r q.2 8)
/-- after so many rounds (0: the start) -/
def tm_search (tc : Nat) (c1 st tm wk : Nat → Nat) (a t : Nat) (fo th : Nat → Nat) : Nat → tm_Q := tr_it (fun r q => tm_round tc c1 st tm wk (r + 1) q) (tm_init a t fo 88, tm_w wk (tm_init a t fo 88) 0 th 8)
def tm_best (th : Nat → Nat) (b : Nat) : Nat → Nat := tr_it (fun k v => if th (8 * k + b) < v then th (8 * k + b) else v) 100000
def tm_ok (q : tm_Q) : Prop := (∀ j, q.1 j ≤ 100000) ∧ ∀ j, q.2 j ≤ 100000
/-! answers: TransitRounds -/
def tx_at (q : tx_Q) (b : Nat) : Nat := q.1 (8 * q.2.2.1 + b)
def tx_arr (tc : Nat) (c1 st tm wk bs ri : Nat → Nat) (x1 x2 x3 x4 : Int32) : Int32 :=
  if tr_S x1 = true ∧ tr_S x2 = true ∧ tr_T x3 = true ∧ ¬ x4 < 0 ∧ x4 ≤ nI 10 then
    (if 100000 ≤ tx_at (tx_search tc c1 st tm wk x1.toNatClampNeg x3.toNatClampNeg x4.toNatClampNeg bs ri) x2.toNatClampNeg then -3 else nI (tx_at (tx_search tc c1 st tm wk x1.toNatClampNeg x3.toNatClampNeg x4.toNatClampNeg bs ri) x2.toNatClampNeg))
  else -1
/-- the first r of n, from k on, with f r below 100000 -/
def tr_first (f : Nat → Nat) : Nat → Nat → Int32
  | 0, _ => -3
  | n + 1, k => if f k < 100000 then nI k else tr_first f n (k + 1)
def tx_few (tc : Nat) (c1 st tm wk bs ri : Nat → Nat) (x1 x2 x3 : Int32) : Int32 :=
  if tr_S x1 = true ∧ tr_S x2 = true ∧ tr_T x3 = true then
    tr_first (fun r => (tx_search tc c1 st tm wk x1.toNatClampNeg x3.toNatClampNeg 10 bs ri).1 (8 * r + x2.toNatClampNeg)) ((tx_search tc c1 st tm wk x1.toNatClampNeg x3.toNatClampNeg 10 bs ri).2.2.1 + 1) 0
  else -1
/-- how often f falls, with the value before -/
def tr_falls (f : Nat → Nat) : Nat → Nat × Nat := tr_it (fun r q => (if f r < q.2 then q.1 + 1 else q.1, f r)) (0, 100000)
def tx_cho (tc : Nat) (c1 st tm wk bs ri : Nat → Nat) (x1 x2 x3 : Int32) : Int32 :=
  if tr_S x1 = true ∧ tr_S x2 = true ∧ tr_T x3 = true then
    nI (tr_falls (fun r => (tx_search tc c1 st tm wk x1.toNatClampNeg x3.toNatClampNeg 10 bs ri).1 (8 * r + x2.toNatClampNeg)) ((tx_search tc c1 st tm wk x1.toNatClampNeg x3.toNatClampNeg 10 bs ri).2.2.1 + 1)).1
  else -1
def tr_set (f : Nat → Bool) : Nat → Nat := tr_it (fun q b => if f q = true then b ||| 2 ^ q else b) 0
def tx_wit (tc : Nat) (c1 st tm wk bs ri : Nat → Nat) (x1 x2 x3 : Int32) : Int32 :=
  if tr_S x1 = true ∧ tr_T x2 = true ∧ tr_T x3 = true then
    nI (tr_set (fun q => decide (tx_at (tx_search tc c1 st tm wk x1.toNatClampNeg x2.toNatClampNeg 10 bs ri) q ≤ x3.toNatClampNeg)) 8)
  else -1
/-! answers: TransitRoundsModel -/
def tm_th (tc : Nat) (c1 st tm wk fo th : Nat → Nat) (a t : Nat) : Nat → Nat := (tm_search tc c1 st tm wk a t fo th 10).2
def tm_arr (tc : Nat) (c1 st tm wk fo th : Nat → Nat) (x1 x2 x3 x4 : Int32) : Int32 :=
  if tr_S x1 = true ∧ tr_S x2 = true ∧ tr_T x3 = true ∧ ¬ x4 < 0 ∧ x4 ≤ nI 10 then
    (if tm_best (tm_th tc c1 st tm wk fo th x1.toNatClampNeg x3.toNatClampNeg) x2.toNatClampNeg (x4.toNatClampNeg + 1) = 100000 then -3 else nI (tm_best (tm_th tc c1 st tm wk fo th x1.toNatClampNeg x3.toNatClampNeg) x2.toNatClampNeg (x4.toNatClampNeg + 1)))
  else -1
def tm_few (tc : Nat) (c1 st tm wk fo th : Nat → Nat) (x1 x2 x3 : Int32) : Int32 :=
  if tr_S x1 = true ∧ tr_S x2 = true ∧ tr_T x3 = true then
    tr_first (fun r => tm_th tc c1 st tm wk fo th x1.toNatClampNeg x3.toNatClampNeg (8 * r + x2.toNatClampNeg)) 11 0
  else -1
def tm_cnt (th : Nat → Nat) (b : Nat) : Nat → Nat := tr_it (fun j n => if th (8 * (j + 1) + b) < tm_best th b (j + 1) then n + 1 else n) (if th b < 100000 then 1 else 0)
def tm_cho (tc : Nat) (c1 st tm wk fo th : Nat → Nat) (x1 x2 x3 : Int32) : Int32 :=
  if tr_S x1 = true ∧ tr_S x2 = true ∧ tr_T x3 = true then nI (tm_cnt (tm_th tc c1 st tm wk fo th x1.toNatClampNeg x3.toNatClampNeg) x2.toNatClampNeg 10) else -1
def tm_wit (tc : Nat) (c1 st tm wk fo th : Nat → Nat) (x1 x2 x3 : Int32) : Int32 :=
  if tr_S x1 = true ∧ tr_T x2 = true ∧ tr_T x3 = true then
    nI (tr_set (fun q => decide (tm_best (tm_th tc c1 st tm wk fo th x1.toNatClampNeg x2.toNatClampNeg) q 11 ≤ x3.toNatClampNeg)) 8)
  else -1
end
section
set_option maxRecDepth 100000
/-! rows that the walks use -/
theorem tr_it_n {α : Type} {f : Nat → α → α} {x b b' : α} {k : Nat} (e : b = tr_it f x k) (h : b' = f k b) : b' = tr_it f x (k + 1) := by
  subst e
  exact h
theorem tr_any_n {f : Nat → Bool} {k : Nat} (e : tr_any f k = false) (h : f k = false) : tr_any f (k + 1) = false := by
  simp [tr_any, e, h]
theorem tr_any_hit {f : Nat → Bool} {k n : Nat} (hk : k < n) (h : f k = true) : tr_any f n = true := by
  induction n with
  | zero => omega
  | succ n ih =>
    rcases Nat.lt_or_ge k n with q | q
    · simp [tr_any, ih q]
    · have : k = n := by omega
      subst this
      simp [tr_any, h]
theorem tr_any_iff {f : Nat → Bool} {n : Nat} : tr_any f n = true ↔ ∃ k, k < n ∧ f k = true := by
  constructor
  · intro h
    induction n with
    | zero => simp [tr_any] at h
    | succ n ih =>
      simp only [tr_any, Bool.or_eq_true] at h
      rcases h with h | h
      · obtain ⟨k, q, e⟩ := ih h
        exact ⟨k, by omega, e⟩
      · exact ⟨n, by omega, h⟩
  · rintro ⟨k, q, e⟩
    exact tr_any_hit q e
theorem tr_orlt {t q : Nat} (h : t < 256) (hq : q < 8) : t ||| 2 ^ q < 256 := by
  have h2 : 2 ^ q < 2 ^ 8 := Nat.pow_lt_pow_right (by decide) hq
  exact Nat.or_lt_two_pow (n := 8) h h2
theorem tr_S_ge {x : Int32} (h0 : ¬ x < 0) (h : nI 8 ≤ x) : tr_S x = false := by
  obtain ⟨k, hk, rfl⟩ := nI_of h0
  have := (nI_leI (by decide) hk).mp h
  rw [tr_S_nI hk]
  simp; omega
theorem tr_S_lt {x : Int32} (h0 : ¬ x < 0) (h : ¬ nI 8 ≤ x) : tr_S x = true ∧ ∃ k : Nat, k < 8 ∧ x = nI k := by
  obtain ⟨k, hk, rfl⟩ := nI_of h0
  have h8 : k < 8 := Nat.lt_of_not_le fun z => h ((nI_leI (by decide) hk).mpr z)
  rw [tr_S_nI hk]
  exact ⟨by simp [h8], k, h8, rfl⟩
theorem tr_T_gt {x : Int32} (h0 : ¬ x < 0) (h : nI 999 < x) : tr_T x = false := by
  obtain ⟨k, hk, rfl⟩ := nI_of h0
  have := (nI_ltI (by decide) hk).mp h
  rw [tr_T_nI hk]
  simp; omega
theorem tr_T_le {x : Int32} (h0 : ¬ x < 0) (h : ¬ nI 999 < x) : tr_T x = true ∧ ∃ k : Nat, k ≤ 999 ∧ x = nI k := by
  obtain ⟨k, hk, rfl⟩ := nI_of h0
  have h8 : k ≤ 999 := Nat.le_of_not_lt fun z => h ((nI_ltI (by decide) hk).mpr z)
  rw [tr_T_nI hk]
  exact ⟨by simp; omega, k, h8, rfl⟩
theorem tr_ixg {x : Int32} {n : Nat} (h0 : ¬ x < 0) (h1 : ¬ nI n ≤ x) (hn : n < 2 ^ 31) : ∃ i : Nat, i < n ∧ x = nI i := by
  obtain ⟨j, hj, rfl⟩ := nI_of h0
  exact ⟨j, Nat.lt_of_not_le fun z => h1 ((nI_leI hn hj).mpr z), rfl⟩
theorem tr_db {tc : Nat} {c1 : Nat → Nat} {x1 x2 x3 : Int32} (ht : tc ≤ 10) (hc : ∀ j, c1 j ≤ 5) (h : x1 < 0 ∨ nI tc ≤ x1 ∨ x2 < 0 ∨ (∃ i, x1 = nI i ∧ i < tc ∧ nI (c1 i) ≤ x2) ∨ x3 < 0 ∨ ¬ x3 ≤ nI 99) : tr_dbad tc c1 x1 x2 x3 := by
  rintro i k d ⟨h1, h2, h3, rfl, rfl, rfl⟩
  have h4 := hc i
  rcases h with h | h | h | ⟨j, e, hj, h⟩ | h | h
  · exact nI_pos (by omega) h
  · exact absurd ((nI_leI (by omega) (by omega)).mp h) (by omega)
  · exact nI_pos (by omega) h
  · have := (nI_eq (by omega) (by omega)).mp e
    subst this
    exact absurd ((nI_leI (by omega) (by omega)).mp h) (by omega)
  · exact nI_pos (by omega) h
  · exact h ((nI_leI (by omega) (by omega)).mpr h3)
theorem tr_dok_u {tc : Nat} {c1 : Nat → Nat} {x1 x2 x3 : Int32} (ht : tc ≤ 10) (hc : ∀ j, c1 j ≤ 5) {i k d i' k' d' : Nat} (h : tr_dok tc c1 x1 x2 x3 i k d) (h' : tr_dok tc c1 x1 x2 x3 i' k' d') : i = i' ∧ k = k' ∧ d = d' := by
  obtain ⟨h1, h2, h3, h4, h5, h6⟩ := h
  obtain ⟨g1, g2, g3, g4, g5, g6⟩ := h'
  have := hc i
  have := hc i'
  exact ⟨(nI_eq (by omega) (by omega)).mp (h4.symm.trans g4), (nI_eq (by omega) (by omega)).mp (h5.symm.trans g5), (nI_eq (by omega) (by omega)).mp (h6.symm.trans g6)⟩
theorem tx_ride_n {st tm bs ri r1 r2 : Nat → Nat} {rn i k ab ab2 : Nat} (e : (ab, r1) = tx_ride st tm bs rn i ri k) (h1 : ab2 = if bs (8 * (rn - 1) + st (5 * i + k)) ≤ tm (5 * i + k) then 1 else ab) (h2 : r2 = if ab ≠ 0 ∧ tm (5 * i + k) < r1 (st (5 * i + k)) then tr_up r1 (st (5 * i + k)) (tm (5 * i + k)) else r1) : (ab2, r2) = tx_ride st tm bs rn i ri (k + 1) := by
  refine tr_it_n e ?_
  rw [h1, h2]
theorem tx_rounds_z {tc : Nat} {c1 st tm wk : Nat → Nat} (n : Nat) {q : tx_Q} (h : q.2.1 = 0) : tx_rounds tc c1 st tm wk n q = q := by
  cases n with
  | zero => rfl
  | succ n => simp [tx_rounds, h]
theorem tx_rounds_n {tc : Nat} {c1 st tm wk b r : Nat → Nat} {n k t : Nat} {q z : tx_Q} (hk : k < n) (ht : t ≠ 0) (hq : tx_round tc c1 st tm wk (b, t, k, r) = q) (e : tx_rounds tc c1 st tm wk (n - k) (b, t, k, r) = z) : tx_rounds tc c1 st tm wk (n - (k + 1)) q = z := by
  rw [show n - k = (n - (k + 1)) + 1 by omega] at e
  rw [← e, ← hq]
  show _ = if t = 0 then _ else _
  rw [if_neg ht]
theorem tr_first_n {f : Nat → Nat} {n k : Nat} {z : Int32} (hk : k < n) (e : tr_first f (n - k) k = z) (h : ¬ f k < 100000) : tr_first f (n - (k + 1)) (k + 1) = z := by
  rw [show n - k = (n - (k + 1)) + 1 by omega, tr_first, if_neg h] at e
  exact e
theorem tr_first_y {f : Nat → Nat} {n k : Nat} {z : Int32} (hk : k < n) (e : tr_first f (n - k) k = z) (h : f k < 100000) : z = nI k := by
  rw [show n - k = (n - (k + 1)) + 1 by omega, tr_first, if_pos h] at e
  exact e.symm
theorem tr_first_0 {f : Nat → Nat} {n k : Nat} {z : Int32} (hk : n ≤ k) (e : tr_first f (n - k) k = z) : z = -3 := by
  rw [show n - k = 0 by omega, tr_first] at e
  exact e.symm
theorem tr_falls_n {f : Nat → Nat} {k n b n2 b2 : Nat} (e : (n, b) = tr_falls f k) (h1 : n2 = if f k < b then n + 1 else n) (h2 : b2 = f k) : (n2, b2) = tr_falls f (k + 1) := by
  refine tr_it_n e ?_
  rw [h1, h2]
theorem tx_round_e {tc : Nat} {c1 st tm wk b r b3 r3 r4 b6 : Nat → Nat} {t k t6 : Nat} (eb : b3 = tx_copy k b 8) (er : r3 = tx_fill r 8) (e4 : r4 = tx_rides c1 st tm b3 t (k + 1) r3 tc) (e6 : (b6, t6) = (tx_f2 wk r4 (k + 1) b3, tx_fb (k + 1) (tx_f2 wk r4 (k + 1) b3) 8)) : tx_round tc c1 st tm wk (b, t, k, r) = (b6, t6, k + 1, r4) := by
  subst eb
  subst er
  subst e4
  obtain ⟨rfl, rfl⟩ := Prod.mk.inj e6
  rfl
theorem tm_round_e {tc : Nat} {c1 st tm wk f2 t2 f3 t3 : Nat → Nat} {r : Nat} (e3 : f3 = tm_rides c1 st tm t2 r f2 (5 * tc)) (e4 : t3 = tm_w wk f3 r t2 8) : (f3, t3) = tm_round tc c1 st tm wk r (f2, t2) := by
  subst e4
  subst e3
  rfl
end
section
set_option maxRecDepth 100000
set_option maxHeartbeats 4000000 in
/-- X0.isStop -/
theorem tx_isStop (l : Launch) (D : va_G) {h : Nat} {ad : Nat → Nat} {cd : Nat → ClassId} {tc : Nat} {c1 st tm wk bs : Nat → Nat} {bt rn : Nat} {ri : Nat → Nat} {x : Int32} : tr_MI l yX0_isStop cX0_isStop 2 .boolean tr_r0 D (tr_tX cd) [.ref h, .int x] (tr_wX h ad cd tc c1 st tm wk bs bt rn ri) (fun (v : Int32) (u : Unit) => (v = nI 1 ∧ tr_S x = true ∧ ∃ k : Nat, k < 8 ∧ x = nI k) ∨ (v = nI 0 ∧ tr_S x = false)) (fun (u : Unit) => (tr_wX h ad cd tc c1 st tm wk bs bt rn ri)) := by
  refine tr_MI_mk (own := RX0) rfl (by decide +kernel) (Nat.le_of_ble_eq_true rfl) ?_
  intro p e s m args below meth c A Q hC hA hM ret ls hl
  have hx := hC.1.1
  have hb := hC.1.2.1
  have hown := hC.1.2.2.2.1
  have hts := hC.1.2.2.2.2
  have hl : lv_has ls 2 [(0, .ref h), (1, .int x)] := hl
  refine lv_iload_n hx hb dX0_isStop_0 rfl (lv_at hl 1 rfl) ?_
  refine lv_if_lt (tgt := 14) hx hb dX0_isStop_1 (by decide) (fun c_1 => ?_) (fun c_1 => ?_)
  · refine lv_iconst (v := nI 0) hx hb dX0_isStop_14 (by decide +kernel) ?_
    exact ret _ _ _ _ _ () dX0_isStop_15 rfl (Or.inr ⟨rfl, by first | exact tr_S_neg c_1 | exact tr_S_ge c_1 c_2⟩) hM
  · refine lv_iload_n hx hb dX0_isStop_4 rfl (lv_at hl 1 rfl) ?_
    refine lv_bipush (v := nI 8) hx hb dX0_isStop_5 (by decide +kernel) ?_
    refine lv_icmp_ge (tgt := 14) hx hb dX0_isStop_7 (by decide) (fun c_2 => ?_) (fun c_2 => ?_)
    · refine lv_iconst (v := nI 0) hx hb dX0_isStop_14 (by decide +kernel) ?_
      exact ret _ _ _ _ _ () dX0_isStop_15 rfl (Or.inr ⟨rfl, by first | exact tr_S_neg c_1 | exact tr_S_ge c_1 c_2⟩) hM
    · refine lv_iconst (v := nI 1) hx hb dX0_isStop_10 (by decide +kernel) ?_
      refine lv_goto (tgt := 15) hx hb dX0_isStop_11 (by decide) ?_
      exact ret _ _ _ _ _ () dX0_isStop_15 rfl (Or.inl ⟨rfl, tr_S_lt c_1 c_2⟩) hM
set_option maxHeartbeats 4000000 in
/-- X0.isTime -/
theorem tx_isTime (l : Launch) (D : va_G) {h : Nat} {ad : Nat → Nat} {cd : Nat → ClassId} {tc : Nat} {c1 st tm wk bs : Nat → Nat} {bt rn : Nat} {ri : Nat → Nat} {x : Int32} : tr_MI l yX0_isTime cX0_isTime 2 .boolean tr_r0 D (tr_tX cd) [.ref h, .int x] (tr_wX h ad cd tc c1 st tm wk bs bt rn ri) (fun (v : Int32) (u : Unit) => (v = nI 1 ∧ tr_T x = true ∧ ∃ k : Nat, k ≤ 999 ∧ x = nI k) ∨ (v = nI 0 ∧ tr_T x = false)) (fun (u : Unit) => (tr_wX h ad cd tc c1 st tm wk bs bt rn ri)) := by
  refine tr_MI_mk (own := RX0) rfl (by decide +kernel) (Nat.le_of_ble_eq_true rfl) ?_
  intro p e s m args below meth c A Q hC hA hM ret ls hl
  have hx := hC.1.1
  have hb := hC.1.2.1
  have hown := hC.1.2.2.2.1
  have hts := hC.1.2.2.2.2
  have hl : lv_has ls 2 [(0, .ref h), (1, .int x)] := hl
  refine lv_iload_n hx hb dX0_isTime_0 rfl (lv_at hl 1 rfl) ?_
  refine lv_if_lt (tgt := 15) hx hb dX0_isTime_1 (by decide) (fun c_1 => ?_) (fun c_1 => ?_)
  · refine lv_iconst (v := nI 0) hx hb dX0_isTime_15 (by decide +kernel) ?_
    exact ret _ _ _ _ _ () dX0_isTime_16 rfl (Or.inr ⟨rfl, by first | exact tr_T_neg c_1 | exact tr_T_gt c_1 c_2⟩) hM
  · refine lv_iload_n hx hb dX0_isTime_4 rfl (lv_at hl 1 rfl) ?_
    refine lv_sipush (v := nI 999) hx hb dX0_isTime_5 (by decide +kernel) ?_
    refine lv_icmp_gt (tgt := 15) hx hb dX0_isTime_8 (by decide) (fun c_2 => ?_) (fun c_2 => ?_)
    · refine lv_iconst (v := nI 0) hx hb dX0_isTime_15 (by decide +kernel) ?_
      exact ret _ _ _ _ _ () dX0_isTime_16 rfl (Or.inr ⟨rfl, by first | exact tr_T_neg c_1 | exact tr_T_gt c_1 c_2⟩) hM
    · refine lv_iconst (v := nI 1) hx hb dX0_isTime_11 (by decide +kernel) ?_
      refine lv_goto (tgt := 16) hx hb dX0_isTime_12 (by decide) ?_
      exact ret _ _ _ _ _ () dX0_isTime_16 rfl (Or.inl ⟨rfl, tr_T_le c_1 c_2⟩) hM
set_option maxHeartbeats 4000000 in
/-- X0.walkOn -/
theorem tx_walkOn (l : Launch) (D : va_G) {h : Nat} {ad : Nat → Nat} {cd : Nat → ClassId} {tc : Nat} {c1 st tm wk bs : Nat → Nat} {bt rn : Nat} {ri : Nat → Nat} {r : Nat} (hr : r ≤ 10) (hwk : ∀ j, wk j ≤ 99) (hri : ∀ j, ri j ≤ 100000) (hbs : ∀ j, bs j ≤ 100000) : tr_MV l yX0_walkOn cX0_walkOn 5 tr_r0 D (tr_tX cd) [.ref h, .int (nI r)] (tr_wX h ad cd tc c1 st tm wk bs bt rn ri) (fun (u : Nat → Nat) => u = tx_w wk ri r bs 8 ∧ ∀ j, u j ≤ 100000) (fun (u : Nat → Nat) => (tr_wX h ad cd tc c1 st tm wk u bt rn ri)) := by
  refine tr_MV_mk (own := RX0) rfl (by decide +kernel) (Nat.le_of_ble_eq_true rfl) ?_
  intro p e s m args below meth c A Q hC hA hM ret ls hl
  have hx := hC.1.1
  have hb := hC.1.2.1
  have hown := hC.1.2.2.2.1
  have hts := hC.1.2.2.2.2
  have hl : lv_has ls 5 [(0, .ref h), (1, .int (nI r))] := hl
  refine lv_iconst (v := nI 0) hx hb dX0_walkOn_0 (by decide +kernel) ?_
  refine lv_istore_n (lv' := [(2, .int (nI 0)), (0, .ref h), (1, .int (nI r))]) hx hb dX0_walkOn_1 rfl hl (by decide) rfl (fun ls hl => ?_)
  have lp_1 : ∀ (n_1 : Nat) (f : Nat) (b1 : Nat → Nat) (H : Heap) (locs : List Loc) (ls : Array Slot), (f ≤ 8) → (9 ≤ f + n_1) → (b1 = tx_w wk ri r bs f) → (∀ j, b1 j ≤ 100000) → tr_M D A s.heap H locs (tr_wX h ad cd tc c1 st tm wk b1 bt rn ri) → lv_has ls 5 [(0, .ref h), (1, .int (nI r)), (2, .int (nI f))] → W p l e tr_r0 s m args below meth c H locs 0 0 Q (F0 m 2 ls []) := by
    intro n_1
    induction n_1 with
    | zero => intro f b1 H locs ls h1 h2; exact absurd h2 (by omega)
    | succ n_1 ih_1 =>
      intro f b1 H locs ls h1 h2 eb1 hb1 hM hl
      refine lv_iload_n hx hb dX0_walkOn_2 rfl (lv_at hl 2 rfl) ?_
      refine lv_bipush (v := nI 8) hx hb dX0_walkOn_3 (by decide +kernel) ?_
      refine tw_icmp_ge (tgt := 106) hx hb dX0_walkOn_5 (by decide) (by omega) (by omega) (fun c_1 => ?_) (fun c_1 => ?_)
      · exact ret _ _ _ _ b1 dX0_walkOn_106 ⟨by rw [eb1, show f = 8 by omega], hb1⟩ hM
      · refine lv_aload_n hx hb dX0_walkOn_8 rfl (lv_at hl 0 rfl) ?_
        refine tx_get_ri hC hM dX0_walkOn_9 ?_
        refine lv_iload_n hx hb dX0_walkOn_12 rfl (lv_at hl 2 rfl) ?_
        refine tx_ld_ri hC hM (by omega) dX0_walkOn_13 ?_
        have hv_1 := hri f
        refine tw_ldc hx hb hown (hts _ q91) dX0_walkOn_14 ?_
        refine tw_icmp_lt (tgt := 22) hx hb dX0_walkOn_16 (by decide) (by omega) (by omega) (fun c_2 => ?_) (fun c_2 => ?_)
        · refine lv_iconst (v := nI 0) hx hb dX0_walkOn_22 (by decide +kernel) ?_
          refine lv_istore_n (lv' := [(3, .int (nI 0)), (0, .ref h), (1, .int (nI r)), (2, .int (nI f))]) hx hb dX0_walkOn_23 rfl hl (by decide) rfl (fun ls hl => ?_)
          have lp_2 : ∀ (n_2 : Nat) (g : Nat) (b2 : Nat → Nat) (H : Heap) (locs : List Loc) (ls : Array Slot), (g ≤ 8) → (9 ≤ g + n_2) → (b2 = tx_wi wk ri r f b1 g) → (∀ j, b2 j ≤ 100000) → tr_M D A s.heap H locs (tr_wX h ad cd tc c1 st tm wk b2 bt rn ri) → lv_has ls 5 [(0, .ref h), (1, .int (nI r)), (2, .int (nI f)), (3, .int (nI g))] → W p l e tr_r0 s m args below meth c H locs 0 0 Q (F0 m 24 ls []) := by
            intro n_2
            induction n_2 with
            | zero => intro g b2 H locs ls h3 h4; exact absurd h4 (by omega)
            | succ n_2 ih_2 =>
              intro g b2 H locs ls h3 h4 eb2 hb2 hM hl
              refine lv_iload_n hx hb dX0_walkOn_24 rfl (lv_at hl 3 rfl) ?_
              refine lv_bipush (v := nI 8) hx hb dX0_walkOn_25 (by decide +kernel) ?_
              refine tw_icmp_ge (tgt := 100) hx hb dX0_walkOn_27 (by decide) (by omega) (by omega) (fun c_3 => ?_) (fun c_3 => ?_)
              · refine lv_iinc (v := nI (f + 1)) (lv' := [(2, .int (nI (f + 1))), (0, .ref h), (1, .int (nI r)), (3, .int (nI g))]) hx hb dX0_walkOn_100 hl (k := 2) rfl (tr_inc f) (by decide) rfl (fun ls hl => ?_)
                refine lv_goto (tgt := 2) hx hb dX0_walkOn_103 (by decide) ?_
                exact ih_1 (f + 1) b2 _ _ _ (by omega) (by omega) (tr_it_n eb1 (by rw [if_neg (by omega), eb2, show g = 8 by omega])) hb2 hM (lv_sub hl [1, 2, 0] rfl)
              · refine lv_aload_n hx hb dX0_walkOn_30 rfl (lv_at hl 0 rfl) ?_
                refine tx_get_wk hC hM dX0_walkOn_31 ?_
                refine lv_bipush (v := nI 8) hx hb dX0_walkOn_34 (by decide +kernel) ?_
                refine lv_iload_n hx hb dX0_walkOn_36 rfl (lv_at hl 2 rfl) ?_
                refine tw_imul hx hb dX0_walkOn_37 ?_
                refine lv_iload_n hx hb dX0_walkOn_38 rfl (lv_at hl 3 rfl) ?_
                refine tw_iadd hx hb dX0_walkOn_39 ?_
                refine tx_ld_wk hC hM (by omega) dX0_walkOn_40 ?_
                have hv_2 := hwk (8 * f + g)
                refine lv_istore (lv' := [(4, .int (nI (wk (8 * f + g)))), (0, .ref h), (1, .int (nI r)), (2, .int (nI f)), (3, .int (nI g))]) hx hb dX0_walkOn_41 hl (by decide) rfl (fun ls hl => ?_)
                refine lv_iload hx hb dX0_walkOn_43 (lv_at hl 0 rfl) ?_
                refine tw_if_eq (tgt := 94) hx hb dX0_walkOn_45 (by decide) (by omega) (fun c_4 => ?_) (fun c_4 => ?_)
                · refine lv_iinc (v := nI (g + 1)) (lv' := [(3, .int (nI (g + 1))), (4, .int (nI (wk (8 * f + g)))), (0, .ref h), (1, .int (nI r)), (2, .int (nI f))]) hx hb dX0_walkOn_94 hl (k := 4) rfl (tr_inc g) (by decide) rfl (fun ls hl => ?_)
                  refine lv_goto (tgt := 24) hx hb dX0_walkOn_97 (by decide) ?_
                  exact ih_2 (g + 1) b2 _ _ _ (by omega) (by omega) (tr_it_n eb2 (if_pos (by omega)).symm) hb2 hM (lv_sub hl [2, 3, 4, 0] rfl)
                · refine lv_aload_n hx hb dX0_walkOn_48 rfl (lv_at hl 1 rfl) ?_
                  refine tx_get_ri hC hM dX0_walkOn_49 ?_
                  refine lv_iload_n hx hb dX0_walkOn_52 rfl (lv_at hl 3 rfl) ?_
                  refine tx_ld_ri hC hM (by omega) dX0_walkOn_53 ?_
                  have hv_3 := hri f
                  refine lv_iload hx hb dX0_walkOn_54 (lv_at hl 0 rfl) ?_
                  refine tw_iadd hx hb dX0_walkOn_56 ?_
                  refine lv_aload_n hx hb dX0_walkOn_57 rfl (lv_at hl 1 rfl) ?_
                  refine tx_get_bs hC hM dX0_walkOn_58 ?_
                  refine lv_bipush (v := nI 8) hx hb dX0_walkOn_61 (by decide +kernel) ?_
                  refine lv_iload_n hx hb dX0_walkOn_63 rfl (lv_at hl 2 rfl) ?_
                  refine tw_imul hx hb dX0_walkOn_64 ?_
                  refine lv_iload_n hx hb dX0_walkOn_65 rfl (lv_at hl 4 rfl) ?_
                  refine tw_iadd hx hb dX0_walkOn_66 ?_
                  refine tx_ld_bs hC hM (by omega) dX0_walkOn_67 ?_
                  have hv_4 := hb2 (8 * r + g)
                  refine tw_icmp_lt (tgt := 74) hx hb dX0_walkOn_68 (by decide) (by omega) (by omega) (fun c_5 => ?_) (fun c_5 => ?_)
                  · refine lv_aload_n hx hb dX0_walkOn_74 rfl (lv_at hl 1 rfl) ?_
                    refine tx_get_bs hC hM dX0_walkOn_75 ?_
                    refine lv_bipush (v := nI 8) hx hb dX0_walkOn_78 (by decide +kernel) ?_
                    refine lv_iload_n hx hb dX0_walkOn_80 rfl (lv_at hl 2 rfl) ?_
                    refine tw_imul hx hb dX0_walkOn_81 ?_
                    refine lv_iload_n hx hb dX0_walkOn_82 rfl (lv_at hl 4 rfl) ?_
                    refine tw_iadd hx hb dX0_walkOn_83 ?_
                    refine lv_aload_n hx hb dX0_walkOn_84 rfl (lv_at hl 1 rfl) ?_
                    refine tx_get_ri hC hM dX0_walkOn_85 ?_
                    refine lv_iload_n hx hb dX0_walkOn_88 rfl (lv_at hl 3 rfl) ?_
                    refine tx_ld_ri hC hM (by omega) dX0_walkOn_89 ?_
                    have hv_5 := hri f
                    refine lv_iload hx hb dX0_walkOn_90 (lv_at hl 0 rfl) ?_
                    refine tw_iadd hx hb dX0_walkOn_92 ?_
                    refine tx_st_bs hC hM (by omega) dX0_walkOn_93 (fun H locs hM => ?_)
                    refine lv_iinc (v := nI (g + 1)) (lv' := [(3, .int (nI (g + 1))), (4, .int (nI (wk (8 * f + g)))), (0, .ref h), (1, .int (nI r)), (2, .int (nI f))]) hx hb dX0_walkOn_94 hl (k := 4) rfl (tr_inc g) (by decide) rfl (fun ls hl => ?_)
                    refine lv_goto (tgt := 24) hx hb dX0_walkOn_97 (by decide) ?_
                    exact ih_2 (g + 1) (tr_up b2 (8 * r + g) (ri f + (wk (8 * f + g)))) _ _ _ (by omega) (by omega) (tr_it_n eb2 (if_neg (by omega)).symm) (tr_up_le hb2 (by omega)) hM (lv_sub hl [2, 3, 4, 0] rfl)
                  · refine lv_goto (tgt := 94) hx hb dX0_walkOn_71 (by decide) ?_
                    refine lv_iinc (v := nI (g + 1)) (lv' := [(3, .int (nI (g + 1))), (4, .int (nI (wk (8 * f + g)))), (0, .ref h), (1, .int (nI r)), (2, .int (nI f))]) hx hb dX0_walkOn_94 hl (k := 4) rfl (tr_inc g) (by decide) rfl (fun ls hl => ?_)
                    refine lv_goto (tgt := 24) hx hb dX0_walkOn_97 (by decide) ?_
                    exact ih_2 (g + 1) b2 _ _ _ (by omega) (by omega) (tr_it_n eb2 (if_pos (by omega)).symm) hb2 hM (lv_sub hl [2, 3, 4, 0] rfl)
          exact lp_2 9 0 b1 _ _ _ (by omega) (by omega) rfl hb1 hM (lv_sub hl [1, 2, 3, 0] rfl)
        · refine lv_goto (tgt := 100) hx hb dX0_walkOn_19 (by decide) ?_
          refine lv_iinc (v := nI (f + 1)) (lv' := [(2, .int (nI (f + 1))), (0, .ref h), (1, .int (nI r))]) hx hb dX0_walkOn_100 hl (k := 2) rfl (tr_inc f) (by decide) rfl (fun ls hl => ?_)
          refine lv_goto (tgt := 2) hx hb dX0_walkOn_103 (by decide) ?_
          exact ih_1 (f + 1) b1 _ _ _ (by omega) (by omega) (tr_it_n eb1 (if_pos (by omega)).symm) hb1 hM (lv_sub hl [1, 2, 0] rfl)
  exact lp_1 9 0 bs _ _ _ (by omega) (by omega) rfl hbs hM (lv_sub hl [1, 2, 0] rfl)
set_option maxHeartbeats 4000000 in
/-- X0.callsAtBettered -/
theorem tx_callsAtBettered (l : Launch) (D : va_G) {h : Nat} {ad : Nat → Nat} {cd : Nat → ClassId} {tc : Nat} {c1 st tm wk bs : Nat → Nat} {bt rn : Nat} {ri : Nat → Nat} {i : Nat} (hI : tr_I tc c1 st tm wk) (hi : i < tc) (hbt : bt < 256) : tr_MI l yX0_callsAtBettered cX0_callsAtBettered 3 .boolean tr_r0 D (tr_tX cd) [.ref h, .int (nI i)] (tr_wX h ad cd tc c1 st tm wk bs bt rn ri) (fun (v : Int32) (u : Unit) => (v = nI 1 ∧ tx_cab st bt i (c1 i) = true) ∨ (v = nI 0 ∧ tx_cab st bt i (c1 i) = false)) (fun (u : Unit) => (tr_wX h ad cd tc c1 st tm wk bs bt rn ri)) := by
  refine tr_MI_mk (own := RX0) rfl (by decide +kernel) (Nat.le_of_ble_eq_true rfl) ?_
  intro p e s m args below meth c A Q hC hA hM ret ls hl
  have hx := hC.1.1
  have hb := hC.1.2.1
  have hown := hC.1.2.2.2.1
  have hts := hC.1.2.2.2.2
  have hl : lv_has ls 3 [(0, .ref h), (1, .int (nI i))] := hl
  obtain ⟨htc, hc1, hc0, hst, htm, hwk, hmo⟩ := hI
  have hci := hc1 i
  refine lv_iconst (v := nI 5) hx hb dX0_callsAtBettered_0 (by decide +kernel) ?_
  refine lv_iload_n hx hb dX0_callsAtBettered_1 rfl (lv_at hl 1 rfl) ?_
  refine tw_imul hx hb dX0_callsAtBettered_2 ?_
  refine lv_istore_n (lv' := [(2, .int (nI (5 * i))), (0, .ref h), (1, .int (nI i))]) hx hb dX0_callsAtBettered_3 rfl hl (by decide) rfl (fun ls hl => ?_)
  have lp_1 : ∀ (n_1 : Nat) (k : Nat) (H : Heap) (locs : List Loc) (ls : Array Slot), (k ≤ c1 i) → (c1 i + 1 ≤ k + n_1) → (tx_cab st bt i k = false) → tr_M D A s.heap H locs (tr_wX h ad cd tc c1 st tm wk bs bt rn ri) → lv_has ls 3 [(0, .ref h), (1, .int (nI i)), (2, .int (nI (5 * i + k)))] → W p l e tr_r0 s m args below meth c H locs 0 0 Q (F0 m 4 ls []) := by
    intro n_1
    induction n_1 with
    | zero => intro k H locs ls h1 h2; exact absurd h2 (by omega)
    | succ n_1 ih_1 =>
      intro k H locs ls h1 h2 ea hM hl
      refine lv_iload_n hx hb dX0_callsAtBettered_4 rfl (lv_at hl 2 rfl) ?_
      refine lv_iconst (v := nI 5) hx hb dX0_callsAtBettered_5 (by decide +kernel) ?_
      refine lv_iload_n hx hb dX0_callsAtBettered_6 rfl (lv_at hl 1 rfl) ?_
      refine tw_imul hx hb dX0_callsAtBettered_7 ?_
      refine lv_aload_n hx hb dX0_callsAtBettered_8 rfl (lv_at hl 0 rfl) ?_
      refine tx_get_c1 hC hM dX0_callsAtBettered_9 ?_
      refine lv_iload_n hx hb dX0_callsAtBettered_12 rfl (lv_at hl 1 rfl) ?_
      refine tx_ld_c1 hC hM (by omega) dX0_callsAtBettered_13 ?_
      have hv_1 := hc1 i
      refine tw_iadd hx hb dX0_callsAtBettered_14 ?_
      refine tw_icmp_ge (tgt := 42) hx hb dX0_callsAtBettered_15 (by decide) (by omega) (by omega) (fun c_1 => ?_) (fun c_1 => ?_)
      · refine lv_iconst (v := nI 0) hx hb dX0_callsAtBettered_42 (by decide +kernel) ?_
        exact ret _ _ _ _ _ () dX0_callsAtBettered_43 rfl (Or.inr ⟨rfl, by rw [show c1 i = k by omega]; exact ea⟩) hM
      · refine lv_aload_n hx hb dX0_callsAtBettered_18 rfl (lv_at hl 0 rfl) ?_
        refine tx_get_bt hC hM dX0_callsAtBettered_19 ?_
        refine lv_aload_n hx hb dX0_callsAtBettered_22 rfl (lv_at hl 0 rfl) ?_
        refine tx_get_st hC hM dX0_callsAtBettered_23 ?_
        refine lv_iload_n hx hb dX0_callsAtBettered_26 rfl (lv_at hl 2 rfl) ?_
        refine tx_ld_st hC hM (by omega) dX0_callsAtBettered_27 ?_
        have hv_2 := hst (5 * i + k)
        have hq := Nat.div_le_self bt (2 ^ st (5 * i + k))
        refine tw_ishr hx hb dX0_callsAtBettered_28 (by omega) (by omega) ?_
        refine lv_iconst (v := nI 1) hx hb dX0_callsAtBettered_29 (by decide +kernel) ?_
        refine tw_iand hx hb dX0_callsAtBettered_30 ?_
        have hq2 : (bt / 2 ^ st (5 * i + k)) &&& 1 ≤ 1 := Nat.and_le_right
        refine tw_if_eq (tgt := 36) hx hb dX0_callsAtBettered_31 (by decide) (by omega) (fun c_2 => ?_) (fun c_2 => ?_)
        · refine lv_iinc (v := nI (5 * i + k + 1)) (lv' := [(2, .int (nI (5 * i + k + 1))), (0, .ref h), (1, .int (nI i))]) hx hb dX0_callsAtBettered_36 hl (k := 2) rfl (tr_inc (5 * i + k)) (by decide) rfl (fun ls hl => ?_)
          refine lv_goto (tgt := 4) hx hb dX0_callsAtBettered_39 (by decide) ?_
          exact ih_1 (k + 1) _ _ _ (by omega) (by omega) (tr_any_n ea (decide_eq_false (fun z => z (by assumption)))) hM (lv_sub hl [1, 2, 0] rfl)
        · refine lv_iconst (v := nI 1) hx hb dX0_callsAtBettered_34 (by decide +kernel) ?_
          exact ret _ _ _ _ _ () dX0_callsAtBettered_35 rfl (Or.inl ⟨rfl, tr_any_hit (k := k) (by omega) (decide_eq_true (by assumption))⟩) hM
  exact lp_1 (c1 i + 1) 0 _ _ _ (by omega) (by omega) rfl hM (lv_sub hl [1, 2, 0] rfl)
set_option maxHeartbeats 4000000 in
/-- X0.ride -/
theorem tx_rideM (l : Launch) (D : va_G) {h : Nat} {ad : Nat → Nat} {cd : Nat → ClassId} {tc : Nat} {c1 st tm wk bs : Nat → Nat} {bt rn : Nat} {ri : Nat → Nat} {i : Nat} (hI : tr_I tc c1 st tm wk) (hi : i < tc) (hrn : 1 ≤ rn) (hrn2 : rn ≤ 10) (hbs : ∀ j, bs j ≤ 100000) (hri : ∀ j, ri j ≤ 100000) : tr_MV l yX0_ride cX0_ride 5 tr_r0 D (tr_tX cd) [.ref h, .int (nI i)] (tr_wX h ad cd tc c1 st tm wk bs bt rn ri) (fun (u : Nat → Nat) => u = (tx_ride st tm bs rn i ri (c1 i)).2 ∧ ∀ j, u j ≤ 100000) (fun (u : Nat → Nat) => (tr_wX h ad cd tc c1 st tm wk bs bt rn u)) := by
  refine tr_MV_mk (own := RX0) rfl (by decide +kernel) (Nat.le_of_ble_eq_true rfl) ?_
  intro p e s m args below meth c A Q hC hA hM ret ls hl
  have hx := hC.1.1
  have hb := hC.1.2.1
  have hown := hC.1.2.2.2.1
  have hts := hC.1.2.2.2.2
  have hl : lv_has ls 5 [(0, .ref h), (1, .int (nI i))] := hl
  obtain ⟨htc, hc1, hc0, hst, htm, hwk, hmo⟩ := hI
  have hci := hc1 i
  refine lv_iconst (v := nI 0) hx hb dX0_ride_0 (by decide +kernel) ?_
  refine lv_istore_n (lv' := [(2, .int (nI 0)), (0, .ref h), (1, .int (nI i))]) hx hb dX0_ride_1 rfl hl (by decide) rfl (fun ls hl => ?_)
  refine lv_iconst (v := nI 5) hx hb dX0_ride_2 (by decide +kernel) ?_
  refine lv_iload_n hx hb dX0_ride_3 rfl (lv_at hl 2 rfl) ?_
  refine tw_imul hx hb dX0_ride_4 ?_
  refine lv_istore_n (lv' := [(3, .int (nI (5 * i))), (2, .int (nI 0)), (0, .ref h), (1, .int (nI i))]) hx hb dX0_ride_5 rfl hl (by decide) rfl (fun ls hl => ?_)
  have lp_1 : ∀ (n_1 : Nat) (k : Nat) (ab : Nat) (r1 : Nat → Nat) (H : Heap) (locs : List Loc) (ls : Array Slot), (k ≤ c1 i) → (c1 i + 1 ≤ k + n_1) → ((ab, r1) = tx_ride st tm bs rn i ri k) → (∀ j, r1 j ≤ 100000) → (ab ≤ 1) → tr_M D A s.heap H locs (tr_wX h ad cd tc c1 st tm wk bs bt rn r1) → lv_has ls 5 [(0, .ref h), (1, .int (nI i)), (2, .int (nI ab)), (3, .int (nI (5 * i + k)))] → W p l e tr_r0 s m args below meth c H locs 0 0 Q (F0 m 6 ls []) := by
    intro n_1
    induction n_1 with
    | zero => intro k ab r1 H locs ls h1 h2; exact absurd h2 (by omega)
    | succ n_1 ih_1 =>
      intro k ab r1 H locs ls h1 h2 er hr1 hab hM hl
      refine lv_iload_n hx hb dX0_ride_6 rfl (lv_at hl 3 rfl) ?_
      refine lv_iconst (v := nI 5) hx hb dX0_ride_7 (by decide +kernel) ?_
      refine lv_iload_n hx hb dX0_ride_8 rfl (lv_at hl 1 rfl) ?_
      refine tw_imul hx hb dX0_ride_9 ?_
      refine lv_aload_n hx hb dX0_ride_10 rfl (lv_at hl 0 rfl) ?_
      refine tx_get_c1 hC hM dX0_ride_11 ?_
      refine lv_iload_n hx hb dX0_ride_14 rfl (lv_at hl 1 rfl) ?_
      refine tx_ld_c1 hC hM (by omega) dX0_ride_15 ?_
      have hv_1 := hc1 i
      refine tw_iadd hx hb dX0_ride_16 ?_
      refine tw_icmp_ge (tgt := 95) hx hb dX0_ride_17 (by decide) (by omega) (by omega) (fun c_1 => ?_) (fun c_1 => ?_)
      · exact ret _ _ _ _ r1 dX0_ride_95 ⟨by rw [show c1 i = k by omega, ← er], hr1⟩ hM
      · refine lv_aload_n hx hb dX0_ride_20 rfl (lv_at hl 0 rfl) ?_
        refine tx_get_st hC hM dX0_ride_21 ?_
        refine lv_iload_n hx hb dX0_ride_24 rfl (lv_at hl 3 rfl) ?_
        refine tx_ld_st hC hM (by omega) dX0_ride_25 ?_
        have hv_2 := hst (5 * i + k)
        refine lv_istore (lv' := [(4, .int (nI (st (5 * i + k)))), (0, .ref h), (1, .int (nI i)), (2, .int (nI ab)), (3, .int (nI (5 * i + k)))]) hx hb dX0_ride_26 hl (by decide) rfl (fun ls hl => ?_)
        refine lv_iload_n hx hb dX0_ride_28 rfl (lv_at hl 3 rfl) ?_
        refine tw_if_eq (tgt := 61) hx hb dX0_ride_29 (by decide) (by omega) (fun c_2 => ?_) (fun c_2 => ?_)
        · refine lv_aload_n hx hb dX0_ride_61 rfl (lv_at hl 1 rfl) ?_
          refine tx_get_bs hC hM dX0_ride_62 ?_
          refine lv_bipush (v := nI 8) hx hb dX0_ride_65 (by decide +kernel) ?_
          refine lv_aload_n hx hb dX0_ride_67 rfl (lv_at hl 1 rfl) ?_
          refine tx_get_rn hC hM dX0_ride_68 ?_
          refine lv_iconst (v := nI 1) hx hb dX0_ride_71 (by decide +kernel) ?_
          refine tw_isub hx hb dX0_ride_72 (by omega) ?_
          refine tw_imul hx hb dX0_ride_73 ?_
          refine lv_iload hx hb dX0_ride_74 (lv_at hl 0 rfl) ?_
          refine tw_iadd hx hb dX0_ride_76 ?_
          refine tx_ld_bs hC hM (by omega) dX0_ride_77 ?_
          have hv_3 := hbs ((8 * (rn - 1)) + (st (5 * i + k)))
          refine lv_aload_n hx hb dX0_ride_78 rfl (lv_at hl 1 rfl) ?_
          refine tx_get_tm hC hM dX0_ride_79 ?_
          refine lv_iload_n hx hb dX0_ride_82 rfl (lv_at hl 4 rfl) ?_
          refine tx_ld_tm hC hM (by omega) dX0_ride_83 ?_
          have hv_4 := htm (5 * i + k)
          refine tw_icmp_gt (tgt := 89) hx hb dX0_ride_84 (by decide) (by omega) (by omega) (fun c_3 => ?_) (fun c_3 => ?_)
          · refine lv_iinc (v := nI (5 * i + k + 1)) (lv' := [(3, .int (nI (5 * i + k + 1))), (4, .int (nI (st (5 * i + k)))), (0, .ref h), (1, .int (nI i)), (2, .int (nI ab))]) hx hb dX0_ride_89 hl (k := 4) rfl (tr_inc (5 * i + k)) (by decide) rfl (fun ls hl => ?_)
            refine lv_goto (tgt := 6) hx hb dX0_ride_92 (by decide) ?_
            exact ih_1 (k + 1) ab r1 _ _ _ (by omega) (by omega) (tx_ride_n er (if_neg (by omega)).symm (if_neg (by omega)).symm) hr1 (by omega) hM (lv_sub hl [2, 3, 4, 0] rfl)
          · refine lv_iconst (v := nI 1) hx hb dX0_ride_87 (by decide +kernel) ?_
            refine lv_istore_n (lv' := [(2, .int (nI 1)), (4, .int (nI (st (5 * i + k)))), (0, .ref h), (1, .int (nI i)), (3, .int (nI (5 * i + k)))]) hx hb dX0_ride_88 rfl hl (by decide) rfl (fun ls hl => ?_)
            refine lv_iinc (v := nI (5 * i + k + 1)) (lv' := [(3, .int (nI (5 * i + k + 1))), (2, .int (nI 1)), (4, .int (nI (st (5 * i + k)))), (0, .ref h), (1, .int (nI i))]) hx hb dX0_ride_89 hl (k := 4) rfl (tr_inc (5 * i + k)) (by decide) rfl (fun ls hl => ?_)
            refine lv_goto (tgt := 6) hx hb dX0_ride_92 (by decide) ?_
            exact ih_1 (k + 1) 1 r1 _ _ _ (by omega) (by omega) (tx_ride_n er (if_pos (by omega)).symm (if_neg (by omega)).symm) hr1 (by omega) hM (lv_sub hl [3, 4, 1, 0] rfl)
        · refine lv_aload_n hx hb dX0_ride_32 rfl (lv_at hl 1 rfl) ?_
          refine tx_get_tm hC hM dX0_ride_33 ?_
          refine lv_iload_n hx hb dX0_ride_36 rfl (lv_at hl 4 rfl) ?_
          refine tx_ld_tm hC hM (by omega) dX0_ride_37 ?_
          have hv_5 := htm (5 * i + k)
          refine lv_aload_n hx hb dX0_ride_38 rfl (lv_at hl 1 rfl) ?_
          refine tx_get_ri hC hM dX0_ride_39 ?_
          refine lv_iload hx hb dX0_ride_42 (lv_at hl 0 rfl) ?_
          refine tx_ld_ri hC hM (by omega) dX0_ride_44 ?_
          have hv_6 := hr1 (st (5 * i + k))
          refine tw_icmp_ge (tgt := 61) hx hb dX0_ride_45 (by decide) (by omega) (by omega) (fun c_4 => ?_) (fun c_4 => ?_)
          · refine lv_aload_n hx hb dX0_ride_61 rfl (lv_at hl 1 rfl) ?_
            refine tx_get_bs hC hM dX0_ride_62 ?_
            refine lv_bipush (v := nI 8) hx hb dX0_ride_65 (by decide +kernel) ?_
            refine lv_aload_n hx hb dX0_ride_67 rfl (lv_at hl 1 rfl) ?_
            refine tx_get_rn hC hM dX0_ride_68 ?_
            refine lv_iconst (v := nI 1) hx hb dX0_ride_71 (by decide +kernel) ?_
            refine tw_isub hx hb dX0_ride_72 (by omega) ?_
            refine tw_imul hx hb dX0_ride_73 ?_
            refine lv_iload hx hb dX0_ride_74 (lv_at hl 0 rfl) ?_
            refine tw_iadd hx hb dX0_ride_76 ?_
            refine tx_ld_bs hC hM (by omega) dX0_ride_77 ?_
            have hv_7 := hbs ((8 * (rn - 1)) + (st (5 * i + k)))
            refine lv_aload_n hx hb dX0_ride_78 rfl (lv_at hl 1 rfl) ?_
            refine tx_get_tm hC hM dX0_ride_79 ?_
            refine lv_iload_n hx hb dX0_ride_82 rfl (lv_at hl 4 rfl) ?_
            refine tx_ld_tm hC hM (by omega) dX0_ride_83 ?_
            have hv_8 := htm (5 * i + k)
            refine tw_icmp_gt (tgt := 89) hx hb dX0_ride_84 (by decide) (by omega) (by omega) (fun c_5 => ?_) (fun c_5 => ?_)
            · refine lv_iinc (v := nI (5 * i + k + 1)) (lv' := [(3, .int (nI (5 * i + k + 1))), (4, .int (nI (st (5 * i + k)))), (0, .ref h), (1, .int (nI i)), (2, .int (nI ab))]) hx hb dX0_ride_89 hl (k := 4) rfl (tr_inc (5 * i + k)) (by decide) rfl (fun ls hl => ?_)
              refine lv_goto (tgt := 6) hx hb dX0_ride_92 (by decide) ?_
              exact ih_1 (k + 1) ab r1 _ _ _ (by omega) (by omega) (tx_ride_n er (if_neg (by omega)).symm (if_neg (by omega)).symm) hr1 (by omega) hM (lv_sub hl [2, 3, 4, 0] rfl)
            · refine lv_iconst (v := nI 1) hx hb dX0_ride_87 (by decide +kernel) ?_
              refine lv_istore_n (lv' := [(2, .int (nI 1)), (4, .int (nI (st (5 * i + k)))), (0, .ref h), (1, .int (nI i)), (3, .int (nI (5 * i + k)))]) hx hb dX0_ride_88 rfl hl (by decide) rfl (fun ls hl => ?_)
              refine lv_iinc (v := nI (5 * i + k + 1)) (lv' := [(3, .int (nI (5 * i + k + 1))), (2, .int (nI 1)), (4, .int (nI (st (5 * i + k)))), (0, .ref h), (1, .int (nI i))]) hx hb dX0_ride_89 hl (k := 4) rfl (tr_inc (5 * i + k)) (by decide) rfl (fun ls hl => ?_)
              refine lv_goto (tgt := 6) hx hb dX0_ride_92 (by decide) ?_
              exact ih_1 (k + 1) 1 r1 _ _ _ (by omega) (by omega) (tx_ride_n er (if_pos (by omega)).symm (if_neg (by omega)).symm) hr1 (by omega) hM (lv_sub hl [3, 4, 1, 0] rfl)
          · refine lv_aload_n hx hb dX0_ride_48 rfl (lv_at hl 1 rfl) ?_
            refine tx_get_ri hC hM dX0_ride_49 ?_
            refine lv_iload hx hb dX0_ride_52 (lv_at hl 0 rfl) ?_
            refine lv_aload_n hx hb dX0_ride_54 rfl (lv_at hl 1 rfl) ?_
            refine tx_get_tm hC hM dX0_ride_55 ?_
            refine lv_iload_n hx hb dX0_ride_58 rfl (lv_at hl 4 rfl) ?_
            refine tx_ld_tm hC hM (by omega) dX0_ride_59 ?_
            have hv_9 := htm (5 * i + k)
            refine tx_st_ri hC hM (by omega) dX0_ride_60 (fun H locs hM => ?_)
            refine lv_aload_n hx hb dX0_ride_61 rfl (lv_at hl 1 rfl) ?_
            refine tx_get_bs hC hM dX0_ride_62 ?_
            refine lv_bipush (v := nI 8) hx hb dX0_ride_65 (by decide +kernel) ?_
            refine lv_aload_n hx hb dX0_ride_67 rfl (lv_at hl 1 rfl) ?_
            refine tx_get_rn hC hM dX0_ride_68 ?_
            refine lv_iconst (v := nI 1) hx hb dX0_ride_71 (by decide +kernel) ?_
            refine tw_isub hx hb dX0_ride_72 (by omega) ?_
            refine tw_imul hx hb dX0_ride_73 ?_
            refine lv_iload hx hb dX0_ride_74 (lv_at hl 0 rfl) ?_
            refine tw_iadd hx hb dX0_ride_76 ?_
            refine tx_ld_bs hC hM (by omega) dX0_ride_77 ?_
            have hv_10 := hbs ((8 * (rn - 1)) + (st (5 * i + k)))
            refine lv_aload_n hx hb dX0_ride_78 rfl (lv_at hl 1 rfl) ?_
            refine tx_get_tm hC hM dX0_ride_79 ?_
            refine lv_iload_n hx hb dX0_ride_82 rfl (lv_at hl 4 rfl) ?_
            refine tx_ld_tm hC hM (by omega) dX0_ride_83 ?_
            have hv_11 := htm (5 * i + k)
            refine tw_icmp_gt (tgt := 89) hx hb dX0_ride_84 (by decide) (by omega) (by omega) (fun c_6 => ?_) (fun c_6 => ?_)
            · refine lv_iinc (v := nI (5 * i + k + 1)) (lv' := [(3, .int (nI (5 * i + k + 1))), (4, .int (nI (st (5 * i + k)))), (0, .ref h), (1, .int (nI i)), (2, .int (nI ab))]) hx hb dX0_ride_89 hl (k := 4) rfl (tr_inc (5 * i + k)) (by decide) rfl (fun ls hl => ?_)
              refine lv_goto (tgt := 6) hx hb dX0_ride_92 (by decide) ?_
              exact ih_1 (k + 1) ab (tr_up r1 (st (5 * i + k)) (tm (5 * i + k))) _ _ _ (by omega) (by omega) (tx_ride_n er (if_neg (by omega)).symm (if_pos (by omega)).symm) (tr_up_le hr1 (by omega)) (by omega) hM (lv_sub hl [2, 3, 4, 0] rfl)
            · refine lv_iconst (v := nI 1) hx hb dX0_ride_87 (by decide +kernel) ?_
              refine lv_istore_n (lv' := [(2, .int (nI 1)), (4, .int (nI (st (5 * i + k)))), (0, .ref h), (1, .int (nI i)), (3, .int (nI (5 * i + k)))]) hx hb dX0_ride_88 rfl hl (by decide) rfl (fun ls hl => ?_)
              refine lv_iinc (v := nI (5 * i + k + 1)) (lv' := [(3, .int (nI (5 * i + k + 1))), (2, .int (nI 1)), (4, .int (nI (st (5 * i + k)))), (0, .ref h), (1, .int (nI i))]) hx hb dX0_ride_89 hl (k := 4) rfl (tr_inc (5 * i + k)) (by decide) rfl (fun ls hl => ?_)
              refine lv_goto (tgt := 6) hx hb dX0_ride_92 (by decide) ?_
              exact ih_1 (k + 1) 1 (tr_up r1 (st (5 * i + k)) (tm (5 * i + k))) _ _ _ (by omega) (by omega) (tx_ride_n er (if_pos (by omega)).symm (if_pos (by omega)).symm) (tr_up_le hr1 (by omega)) (by omega) hM (lv_sub hl [3, 4, 1, 0] rfl)
  exact lp_1 (c1 i + 1) 0 0 ri _ _ _ (by omega) (by omega) rfl hri (by omega) hM (lv_sub hl [2, 3, 1, 0] rfl)
end
section
set_option maxRecDepth 100000
set_option maxHeartbeats 4000000 in
/-- X0.finishRound -/
theorem tx_finishRound (l : Launch) (D : va_G) {h : Nat} {ad : Nat → Nat} {cd : Nat → ClassId} {tc : Nat} {c1 st tm wk bs : Nat → Nat} {bt rn : Nat} {ri : Nat → Nat} (hI : tr_I tc c1 st tm wk) (hrn : 1 ≤ rn) (hrn2 : rn ≤ 10) (hbs : ∀ j, bs j ≤ 100000) (hri : ∀ j, ri j ≤ 100000) : tr_MV l yX0_finishRound cX0_finishRound 2 tr_r1 D (tr_tX cd) [.ref h] (tr_wX h ad cd tc c1 st tm wk bs bt rn ri) (fun (u : (Nat → Nat) × Nat) => u = (tx_f2 wk ri rn bs, tx_fb rn (tx_f2 wk ri rn bs) 8) ∧ (∀ j, u.1 j ≤ 100000) ∧ u.2 < 256) (fun (u : (Nat → Nat) × Nat) => (tr_wX h ad cd tc c1 st tm wk u.1 u.2 rn ri)) := by
  refine tr_MV_mk (own := RX0) rfl (by decide +kernel) (Nat.le_of_ble_eq_true rfl) ?_
  intro p e s m args below meth c A Q hC hA hM ret ls hl
  have hx := hC.1.1
  have hb := hC.1.2.1
  have hown := hC.1.2.2.2.1
  have hts := hC.1.2.2.2.2
  have hl : lv_has ls 2 [(0, .ref h)] := hl
  obtain ⟨htc, hc1, hc0, hst, htm, hwk, hmo⟩ := hI
  refine lv_iconst (v := nI 0) hx hb dX0_finishRound_0 (by decide +kernel) ?_
  refine lv_istore_n (lv' := [(1, .int (nI 0)), (0, .ref h)]) hx hb dX0_finishRound_1 rfl hl (by decide) rfl (fun ls hl => ?_)
  have lp_1 : ∀ (n_1 : Nat) (q1 : Nat) (b1 : Nat → Nat) (H : Heap) (locs : List Loc) (ls : Array Slot), (q1 ≤ 8) → (9 ≤ q1 + n_1) → (b1 = tx_f1 ri rn bs q1) → (∀ j, b1 j ≤ 100000) → tr_M D A s.heap H locs (tr_wX h ad cd tc c1 st tm wk b1 bt rn ri) → lv_has ls 2 [(0, .ref h), (1, .int (nI q1))] → W p l e tr_r1 s m args below meth c H locs 0 0 Q (F0 m 2 ls []) := by
    intro n_1
    induction n_1 with
    | zero => intro q1 b1 H locs ls h1 h2; exact absurd h2 (by omega)
    | succ n_1 ih_1 =>
      intro q1 b1 H locs ls h1 h2 eb1 hb1 hM hl
      refine lv_iload_n hx hb dX0_finishRound_2 rfl (lv_at hl 1 rfl) ?_
      refine lv_bipush (v := nI 8) hx hb dX0_finishRound_3 (by decide +kernel) ?_
      refine tw_icmp_ge (tgt := 57) hx hb dX0_finishRound_5 (by decide) (by omega) (by omega) (fun c_1 => ?_) (fun c_1 => ?_)
      · refine lv_aload_n hx hb dX0_finishRound_57 rfl (lv_at hl 0 rfl) ?_
        refine lv_aload_n hx hb dX0_finishRound_58 rfl (lv_at hl 0 rfl) ?_
        refine tx_get_rn hC hM dX0_finishRound_59 ?_
        refine tx_callV (tx_walkOn l D (r := rn) (by omega) hwk hri hb1) hC (cwV 1 hts (lw_V q92 q94 qs3 q14 q95) rfl rfl rfl (by decide +kernel) ⟨Nat.le_of_ble_eq_true rfl, Nat.le_of_ble_eq_true rfl⟩) hA hM rfl hl.1 rfl (by decide) ⟨Nat.le_of_ble_eq_true rfl, Nat.le_of_ble_eq_true rfl⟩ dX0_finishRound_62 (fun b2 H locs hp hM => ?_)
        obtain ⟨eb2, hb2⟩ := hp
        have hM : tr_M D A s.heap H locs (tr_wX h ad cd tc c1 st tm wk b2 bt rn ri) := hM
        refine lv_aload_n hx hb dX0_finishRound_65 rfl (lv_at hl 0 rfl) ?_
        refine lv_iconst (v := nI 0) hx hb dX0_finishRound_66 (by decide +kernel) ?_
        refine tx_put_bt hC hM dX0_finishRound_67 (fun H locs hM => ?_)
        refine lv_iconst (v := nI 0) hx hb dX0_finishRound_70 (by decide +kernel) ?_
        refine lv_istore_n (lv' := [(1, .int (nI 0)), (0, .ref h)]) hx hb dX0_finishRound_71 rfl hl (by decide) rfl (fun ls hl => ?_)
        have lp_2 : ∀ (n_2 : Nat) (q2 : Nat) (t : Nat) (H : Heap) (locs : List Loc) (ls : Array Slot), (q2 ≤ 8) → (9 ≤ q2 + n_2) → (t = tx_fb rn b2 q2) → (t < 256) → tr_M D A s.heap H locs (tr_wX h ad cd tc c1 st tm wk b2 t rn ri) → lv_has ls 2 [(0, .ref h), (1, .int (nI q2))] → W p l e tr_r1 s m args below meth c H locs 0 0 Q (F0 m 72 ls []) := by
          intro n_2
          induction n_2 with
          | zero => intro q2 t H locs ls h3 h4; exact absurd h4 (by omega)
          | succ n_2 ih_2 =>
            intro q2 t H locs ls h3 h4 et ht hM hl
            refine lv_iload_n hx hb dX0_finishRound_72 rfl (lv_at hl 1 rfl) ?_
            refine lv_bipush (v := nI 8) hx hb dX0_finishRound_73 (by decide +kernel) ?_
            refine tw_icmp_ge (tgt := 130) hx hb dX0_finishRound_75 (by decide) (by omega) (by omega) (fun c_2 => ?_) (fun c_2 => ?_)
            · exact ret _ _ _ _ (b2, t) dX0_finishRound_130 ⟨by rw [et, eb2, show q2 = 8 by omega, eb1, show q1 = 8 by omega]; rfl, hb2, ht⟩ hM
            · refine lv_aload_n hx hb dX0_finishRound_78 rfl (lv_at hl 0 rfl) ?_
              refine tx_get_bs hC hM dX0_finishRound_79 ?_
              refine lv_bipush (v := nI 8) hx hb dX0_finishRound_82 (by decide +kernel) ?_
              refine lv_aload_n hx hb dX0_finishRound_84 rfl (lv_at hl 0 rfl) ?_
              refine tx_get_rn hC hM dX0_finishRound_85 ?_
              refine tw_imul hx hb dX0_finishRound_88 ?_
              refine lv_iload_n hx hb dX0_finishRound_89 rfl (lv_at hl 1 rfl) ?_
              refine tw_iadd hx hb dX0_finishRound_90 ?_
              refine tx_ld_bs hC hM (by omega) dX0_finishRound_91 ?_
              have hv_1 := hb2 (8 * rn + q2)
              refine lv_aload_n hx hb dX0_finishRound_92 rfl (lv_at hl 0 rfl) ?_
              refine tx_get_bs hC hM dX0_finishRound_93 ?_
              refine lv_bipush (v := nI 8) hx hb dX0_finishRound_96 (by decide +kernel) ?_
              refine lv_aload_n hx hb dX0_finishRound_98 rfl (lv_at hl 0 rfl) ?_
              refine tx_get_rn hC hM dX0_finishRound_99 ?_
              refine tw_imul hx hb dX0_finishRound_102 ?_
              refine lv_bipush (v := nI 8) hx hb dX0_finishRound_103 (by decide +kernel) ?_
              refine tw_isub hx hb dX0_finishRound_105 (by omega) ?_
              refine lv_iload_n hx hb dX0_finishRound_106 rfl (lv_at hl 1 rfl) ?_
              refine tw_iadd hx hb dX0_finishRound_107 ?_
              refine tx_ld_bs hC hM (by omega) dX0_finishRound_108 ?_
              have hv_2 := hb2 ((8 * rn - 8) + q2)
              refine tw_icmp_ge (tgt := 124) hx hb dX0_finishRound_109 (by decide) (by omega) (by omega) (fun c_3 => ?_) (fun c_3 => ?_)
              · refine lv_iinc (v := nI (q2 + 1)) (lv' := [(1, .int (nI (q2 + 1))), (0, .ref h)]) hx hb dX0_finishRound_124 hl (k := 1) rfl (tr_inc q2) (by decide) rfl (fun ls hl => ?_)
                refine lv_goto (tgt := 72) hx hb dX0_finishRound_127 (by decide) ?_
                exact ih_2 (q2 + 1) t _ _ _ (by omega) (by omega) (tr_it_n et (if_neg (by omega)).symm) ht hM (lv_sub hl [1, 0] rfl)
              · refine lv_aload_n hx hb dX0_finishRound_112 rfl (lv_at hl 0 rfl) ?_
                refine lv_dup hx hb dX0_finishRound_113 rfl ?_
                refine tx_get_bt hC hM dX0_finishRound_114 ?_
                refine lv_iconst (v := nI 1) hx hb dX0_finishRound_117 (by decide +kernel) ?_
                refine lv_iload_n hx hb dX0_finishRound_118 rfl (lv_at hl 1 rfl) ?_
                refine tw_ishl1 hx hb dX0_finishRound_119 (by omega) ?_
                refine tw_ior hx hb dX0_finishRound_120 ?_
                refine tx_put_bt hC hM dX0_finishRound_121 (fun H locs hM => ?_)
                refine lv_iinc (v := nI (q2 + 1)) (lv' := [(1, .int (nI (q2 + 1))), (0, .ref h)]) hx hb dX0_finishRound_124 hl (k := 1) rfl (tr_inc q2) (by decide) rfl (fun ls hl => ?_)
                refine lv_goto (tgt := 72) hx hb dX0_finishRound_127 (by decide) ?_
                exact ih_2 (q2 + 1) (t ||| (2 ^ q2)) _ _ _ (by omega) (by omega) (tr_it_n et (if_pos (by omega)).symm) (tr_orlt ht (by omega)) hM (lv_sub hl [1, 0] rfl)
        exact lp_2 9 0 0 _ _ _ (by omega) (by omega) rfl (by omega) hM (lv_sub hl [1, 0] rfl)
      · refine lv_aload_n hx hb dX0_finishRound_8 rfl (lv_at hl 0 rfl) ?_
        refine tx_get_ri hC hM dX0_finishRound_9 ?_
        refine lv_iload_n hx hb dX0_finishRound_12 rfl (lv_at hl 1 rfl) ?_
        refine tx_ld_ri hC hM (by omega) dX0_finishRound_13 ?_
        have hv_3 := hri q1
        refine lv_aload_n hx hb dX0_finishRound_14 rfl (lv_at hl 0 rfl) ?_
        refine tx_get_bs hC hM dX0_finishRound_15 ?_
        refine lv_bipush (v := nI 8) hx hb dX0_finishRound_18 (by decide +kernel) ?_
        refine lv_aload_n hx hb dX0_finishRound_20 rfl (lv_at hl 0 rfl) ?_
        refine tx_get_rn hC hM dX0_finishRound_21 ?_
        refine tw_imul hx hb dX0_finishRound_24 ?_
        refine lv_iload_n hx hb dX0_finishRound_25 rfl (lv_at hl 1 rfl) ?_
        refine tw_iadd hx hb dX0_finishRound_26 ?_
        refine tx_ld_bs hC hM (by omega) dX0_finishRound_27 ?_
        have hv_4 := hb1 (8 * rn + q1)
        refine tw_icmp_ge (tgt := 51) hx hb dX0_finishRound_28 (by decide) (by omega) (by omega) (fun c_4 => ?_) (fun c_4 => ?_)
        · refine lv_iinc (v := nI (q1 + 1)) (lv' := [(1, .int (nI (q1 + 1))), (0, .ref h)]) hx hb dX0_finishRound_51 hl (k := 1) rfl (tr_inc q1) (by decide) rfl (fun ls hl => ?_)
          refine lv_goto (tgt := 2) hx hb dX0_finishRound_54 (by decide) ?_
          exact ih_1 (q1 + 1) b1 _ _ _ (by omega) (by omega) (tr_it_n eb1 (if_neg (by omega)).symm) hb1 hM (lv_sub hl [1, 0] rfl)
        · refine lv_aload_n hx hb dX0_finishRound_31 rfl (lv_at hl 0 rfl) ?_
          refine tx_get_bs hC hM dX0_finishRound_32 ?_
          refine lv_bipush (v := nI 8) hx hb dX0_finishRound_35 (by decide +kernel) ?_
          refine lv_aload_n hx hb dX0_finishRound_37 rfl (lv_at hl 0 rfl) ?_
          refine tx_get_rn hC hM dX0_finishRound_38 ?_
          refine tw_imul hx hb dX0_finishRound_41 ?_
          refine lv_iload_n hx hb dX0_finishRound_42 rfl (lv_at hl 1 rfl) ?_
          refine tw_iadd hx hb dX0_finishRound_43 ?_
          refine lv_aload_n hx hb dX0_finishRound_44 rfl (lv_at hl 0 rfl) ?_
          refine tx_get_ri hC hM dX0_finishRound_45 ?_
          refine lv_iload_n hx hb dX0_finishRound_48 rfl (lv_at hl 1 rfl) ?_
          refine tx_ld_ri hC hM (by omega) dX0_finishRound_49 ?_
          have hv_5 := hri q1
          refine tx_st_bs hC hM (by omega) dX0_finishRound_50 (fun H locs hM => ?_)
          refine lv_iinc (v := nI (q1 + 1)) (lv' := [(1, .int (nI (q1 + 1))), (0, .ref h)]) hx hb dX0_finishRound_51 hl (k := 1) rfl (tr_inc q1) (by decide) rfl (fun ls hl => ?_)
          refine lv_goto (tgt := 2) hx hb dX0_finishRound_54 (by decide) ?_
          exact ih_1 (q1 + 1) (tr_up b1 (8 * rn + q1) (ri q1)) _ _ _ (by omega) (by omega) (tr_it_n eb1 (if_pos (by omega)).symm) (tr_up_le hb1 (by omega)) hM (lv_sub hl [1, 0] rfl)
  exact lp_1 9 0 bs _ _ _ (by omega) (by omega) rfl hbs hM (lv_sub hl [1, 0] rfl)
set_option maxHeartbeats 4000000 in
/-- X0.search -/
theorem tx_searchM (l : Launch) (D : va_G) {h : Nat} {ad : Nat → Nat} {cd : Nat → ClassId} {tc : Nat} {c1 st tm wk bs : Nat → Nat} {bt rn : Nat} {ri : Nat → Nat} {a t n : Nat} (hI : tr_I tc c1 st tm wk) (ha : a < 8) (ht : t ≤ 999) (hn : n ≤ 10) (hbs : ∀ j, bs j ≤ 100000) (hri : ∀ j, ri j ≤ 100000) : tr_MV l yX0_search cX0_search 5 tr_r2 D (tr_tX cd) [.ref h, .int (nI a), .int (nI t), .int (nI n)] (tr_wX h ad cd tc c1 st tm wk bs bt rn ri) (fun (u : tx_Q) => u = tx_search tc c1 st tm wk a t n bs ri ∧ tx_ok u) (fun (u : tx_Q) => (tr_wX h ad cd tc c1 st tm wk u.1 u.2.1 u.2.2.1 u.2.2.2)) := by
  refine tr_MV_mk (own := RX0) rfl (by decide +kernel) (Nat.le_of_ble_eq_true rfl) ?_
  intro p e s m args below meth c A Q hC hA hM ret ls hl
  have hx := hC.1.1
  have hb := hC.1.2.1
  have hown := hC.1.2.2.2.1
  have hts := hC.1.2.2.2.2
  have hl : lv_has ls 5 [(0, .ref h), (1, .int (nI a)), (2, .int (nI t)), (3, .int (nI n))] := hl
  have hJ := hI
  obtain ⟨htc, hc1, hc0, hst, htm, hwk, hmo⟩ := hI
  refine lv_aload_n hx hb dX0_search_0 rfl (lv_at hl 0 rfl) ?_
  refine lv_iconst (v := nI 0) hx hb dX0_search_1 (by decide +kernel) ?_
  refine tx_put_rn hC hM dX0_search_2 (fun H locs hM => ?_)
  refine lv_iconst (v := nI 0) hx hb dX0_search_5 (by decide +kernel) ?_
  refine lv_istore (lv' := [(4, .int (nI 0)), (0, .ref h), (1, .int (nI a)), (2, .int (nI t)), (3, .int (nI n))]) hx hb dX0_search_6 hl (by decide) rfl (fun ls hl => ?_)
  have lp_1 : ∀ (n_1 : Nat) (q1 : Nat) (b1 : Nat → Nat) (r1 : Nat → Nat) (H : Heap) (locs : List Loc) (ls : Array Slot), (q1 ≤ 8) → (9 ≤ q1 + n_1) → (b1 = tx_fill bs q1) → (r1 = tx_fill ri q1) → (∀ j, b1 j ≤ 100000) → (∀ j, r1 j ≤ 100000) → tr_M D A s.heap H locs (tr_wX h ad cd tc c1 st tm wk b1 bt 0 r1) → lv_has ls 5 [(0, .ref h), (1, .int (nI a)), (2, .int (nI t)), (3, .int (nI n)), (4, .int (nI q1))] → W p l e tr_r2 s m args below meth c H locs 0 0 Q (F0 m 8 ls []) := by
    intro n_1
    induction n_1 with
    | zero => intro q1 b1 r1 H locs ls h1 h2; exact absurd h2 (by omega)
    | succ n_1 ih_1 =>
      intro q1 b1 r1 H locs ls h1 h2 eb1 er1 hb1 hr1 hM hl
      refine lv_iload hx hb dX0_search_8 (lv_at hl 4 rfl) ?_
      refine lv_bipush (v := nI 8) hx hb dX0_search_10 (by decide +kernel) ?_
      refine tw_icmp_ge (tgt := 39) hx hb dX0_search_12 (by decide) (by omega) (by omega) (fun c_1 => ?_) (fun c_1 => ?_)
      · refine lv_aload_n hx hb dX0_search_39 rfl (lv_at hl 0 rfl) ?_
        refine tx_get_ri hC hM dX0_search_40 ?_
        refine lv_iload_n hx hb dX0_search_43 rfl (lv_at hl 1 rfl) ?_
        refine lv_iload_n hx hb dX0_search_44 rfl (lv_at hl 2 rfl) ?_
        refine tx_st_ri hC hM (by omega) dX0_search_45 (fun H locs hM => ?_)
        refine lv_aload_n hx hb dX0_search_46 rfl (lv_at hl 0 rfl) ?_
        refine tx_get_bs hC hM dX0_search_47 ?_
        refine lv_iload_n hx hb dX0_search_50 rfl (lv_at hl 1 rfl) ?_
        refine lv_iload_n hx hb dX0_search_51 rfl (lv_at hl 2 rfl) ?_
        refine tx_st_bs hC hM (by omega) dX0_search_52 (fun H locs hM => ?_)
        refine lv_aload_n hx hb dX0_search_53 rfl (lv_at hl 0 rfl) ?_
        refine lv_iconst (v := nI 0) hx hb dX0_search_54 (by decide +kernel) ?_
        refine tx_callV (tx_walkOn l D (r := 0) (by omega) hwk (tr_up_le hr1 (by omega)) (tr_up_le hb1 (by omega))) hC (cwV 1 hts (lw_V q92 q94 qs3 q14 q95) rfl rfl rfl (by decide +kernel) ⟨Nat.le_of_ble_eq_true rfl, Nat.le_of_ble_eq_true rfl⟩) hA hM rfl hl.1 rfl (by decide) ⟨Nat.le_of_ble_eq_true rfl, Nat.le_of_ble_eq_true rfl⟩ dX0_search_55 (fun b2 H locs hp hM => ?_)
        obtain ⟨eb2, hb2⟩ := hp
        have hM : tr_M D A s.heap H locs (tr_wX h ad cd tc c1 st tm wk b2 bt 0 (tr_up r1 a t)) := hM
        refine lv_aload_n hx hb dX0_search_58 rfl (lv_at hl 0 rfl) ?_
        refine lv_iconst (v := nI 0) hx hb dX0_search_59 (by decide +kernel) ?_
        refine tx_put_bt hC hM dX0_search_60 (fun H locs hM => ?_)
        refine lv_iconst (v := nI 0) hx hb dX0_search_63 (by decide +kernel) ?_
        refine lv_istore (lv' := [(4, .int (nI 0)), (0, .ref h), (1, .int (nI a)), (2, .int (nI t)), (3, .int (nI n))]) hx hb dX0_search_64 hl (by decide) rfl (fun ls hl => ?_)
        have lp_2 : ∀ (n_2 : Nat) (q2 : Nat) (t2 : Nat) (H : Heap) (locs : List Loc) (ls : Array Slot), (q2 ≤ 8) → (9 ≤ q2 + n_2) → (t2 = tx_bt0 b2 q2) → (t2 < 256) → tr_M D A s.heap H locs (tr_wX h ad cd tc c1 st tm wk b2 t2 0 (tr_up r1 a t)) → lv_has ls 5 [(0, .ref h), (1, .int (nI a)), (2, .int (nI t)), (3, .int (nI n)), (4, .int (nI q2))] → W p l e tr_r2 s m args below meth c H locs 0 0 Q (F0 m 66 ls []) := by
          intro n_2
          induction n_2 with
          | zero => intro q2 t2 H locs ls h3 h4; exact absurd h4 (by omega)
          | succ n_2 ih_2 =>
            intro q2 t2 H locs ls h3 h4 et2 ht2 hM hl
            refine lv_iload hx hb dX0_search_66 (lv_at hl 4 rfl) ?_
            refine lv_bipush (v := nI 8) hx hb dX0_search_68 (by decide +kernel) ?_
            refine tw_icmp_ge (tgt := 104) hx hb dX0_search_70 (by decide) (by omega) (by omega) (fun c_2 => ?_) (fun c_2 => ?_)
            · have lp_3 : ∀ (n_3 : Nat) (b : Nat → Nat) (t3 : Nat) (k : Nat) (r : Nat → Nat) (H : Heap) (locs : List Loc) (ls : Array Slot), (k ≤ n) → (n + 1 ≤ k + n_3) → (tx_rounds tc c1 st tm wk (n - k) (b, t3, k, r) = tx_search tc c1 st tm wk a t n bs ri) → (∀ j, b j ≤ 100000) → (∀ j, r j ≤ 100000) → (t3 < 256) → tr_M D A s.heap H locs (tr_wX h ad cd tc c1 st tm wk b t3 k r) → lv_has ls 5 [(0, .ref h), (1, .int (nI a)), (2, .int (nI t)), (3, .int (nI n))] → W p l e tr_r2 s m args below meth c H locs 0 0 Q (F0 m 104 ls []) := by
                intro n_3
                induction n_3 with
                | zero => intro b t3 k r H locs ls h5 h6; exact absurd h6 (by omega)
                | succ n_3 ih_3 =>
                  intro b t3 k r H locs ls h5 h6 e0 hb0 hr0 ht3 hM hl
                  refine lv_aload_n hx hb dX0_search_104 rfl (lv_at hl 0 rfl) ?_
                  refine tx_get_rn hC hM dX0_search_105 ?_
                  refine lv_iload_n hx hb dX0_search_108 rfl (lv_at hl 3 rfl) ?_
                  refine tw_icmp_ge (tgt := 227) hx hb dX0_search_109 (by decide) (by omega) (by omega) (fun c_3 => ?_) (fun c_3 => ?_)
                  · exact ret _ _ _ _ (b, t3, k, r) dX0_search_227 ⟨by rw [← e0]; first | exact (tx_rounds_z _ (by assumption)).symm | (rw [show n - k = 0 by omega]; rfl), hb0, ht3, show k ≤ 10 by omega, hr0⟩ hM
                  · refine lv_aload_n hx hb dX0_search_112 rfl (lv_at hl 0 rfl) ?_
                    refine tx_get_bt hC hM dX0_search_113 ?_
                    refine tw_if_eq (tgt := 227) hx hb dX0_search_116 (by decide) (by omega) (fun c_4 => ?_) (fun c_4 => ?_)
                    · exact ret _ _ _ _ (b, t3, k, r) dX0_search_227 ⟨by rw [← e0]; first | exact (tx_rounds_z _ (by assumption)).symm | (rw [show n - k = 0 by omega]; rfl), hb0, ht3, show k ≤ 10 by omega, hr0⟩ hM
                    · refine lv_iconst (v := nI 0) hx hb dX0_search_119 (by decide +kernel) ?_
                      refine lv_istore (lv' := [(4, .int (nI 0)), (0, .ref h), (1, .int (nI a)), (2, .int (nI t)), (3, .int (nI n))]) hx hb dX0_search_120 hl (by decide) rfl (fun ls hl => ?_)
                      have lp_4 : ∀ (n_4 : Nat) (q3 : Nat) (b3 : Nat → Nat) (r3 : Nat → Nat) (H : Heap) (locs : List Loc) (ls : Array Slot), (q3 ≤ 8) → (9 ≤ q3 + n_4) → (b3 = tx_copy k b q3) → (r3 = tx_fill r q3) → (∀ j, b3 j ≤ 100000) → (∀ j, r3 j ≤ 100000) → tr_M D A s.heap H locs (tr_wX h ad cd tc c1 st tm wk b3 t3 k r3) → lv_has ls 5 [(0, .ref h), (1, .int (nI a)), (2, .int (nI t)), (3, .int (nI n)), (4, .int (nI q3))] → W p l e tr_r2 s m args below meth c H locs 0 0 Q (F0 m 122 ls []) := by
                        intro n_4
                        induction n_4 with
                        | zero => intro q3 b3 r3 H locs ls h7 h8; exact absurd h8 (by omega)
                        | succ n_4 ih_4 =>
                          intro q3 b3 r3 H locs ls h7 h8 eb3 er3 hb3 hr3 hM hl
                          refine lv_iload hx hb dX0_search_122 (lv_at hl 4 rfl) ?_
                          refine lv_bipush (v := nI 8) hx hb dX0_search_124 (by decide +kernel) ?_
                          refine tw_icmp_ge (tgt := 177) hx hb dX0_search_126 (by decide) (by omega) (by omega) (fun c_5 => ?_) (fun c_5 => ?_)
                          · refine lv_aload_n hx hb dX0_search_177 rfl (lv_at hl 0 rfl) ?_
                            refine lv_dup hx hb dX0_search_178 rfl ?_
                            refine tx_get_rn hC hM dX0_search_179 ?_
                            refine lv_iconst (v := nI 1) hx hb dX0_search_182 (by decide +kernel) ?_
                            refine tw_iadd hx hb dX0_search_183 ?_
                            refine tx_put_rn hC hM dX0_search_184 (fun H locs hM => ?_)
                            refine lv_iconst (v := nI 0) hx hb dX0_search_187 (by decide +kernel) ?_
                            refine lv_istore (lv' := [(4, .int (nI 0)), (0, .ref h), (1, .int (nI a)), (2, .int (nI t)), (3, .int (nI n))]) hx hb dX0_search_188 hl (by decide) rfl (fun ls hl => ?_)
                            have lp_5 : ∀ (n_5 : Nat) (i : Nat) (r4 : Nat → Nat) (H : Heap) (locs : List Loc) (ls : Array Slot), (i ≤ tc) → (tc + 1 ≤ i + n_5) → (r4 = tx_rides c1 st tm b3 t3 (k + 1) r3 i) → (∀ j, r4 j ≤ 100000) → tr_M D A s.heap H locs (tr_wX h ad cd tc c1 st tm wk b3 t3 (k + 1) r4) → lv_has ls 5 [(0, .ref h), (1, .int (nI a)), (2, .int (nI t)), (3, .int (nI n)), (4, .int (nI i))] → W p l e tr_r2 s m args below meth c H locs 0 0 Q (F0 m 190 ls []) := by
                              intro n_5
                              induction n_5 with
                              | zero => intro i r4 H locs ls h9 h10; exact absurd h10 (by omega)
                              | succ n_5 ih_5 =>
                                intro i r4 H locs ls h9 h10 er4 hr4 hM hl
                                refine lv_iload hx hb dX0_search_190 (lv_at hl 4 rfl) ?_
                                refine lv_aload_n hx hb dX0_search_192 rfl (lv_at hl 0 rfl) ?_
                                refine tx_get_tc hC hM dX0_search_193 ?_
                                refine tw_icmp_ge (tgt := 220) hx hb dX0_search_196 (by decide) (by omega) (by omega) (fun c_6 => ?_) (fun c_6 => ?_)
                                · refine lv_aload_n hx hb dX0_search_220 rfl (lv_at hl 0 rfl) ?_
                                  refine tx_callV (tx_finishRound l D hJ (by omega) (by omega) hb3 hr4) hC (cwV 0 hts (lw_V q104 q106 qs6 q14 q107) rfl rfl rfl (by decide +kernel) ⟨Nat.le_of_ble_eq_true rfl, Nat.le_of_ble_eq_true rfl⟩) hA hM rfl hl.1 rfl (by decide) ⟨Nat.le_of_ble_eq_true rfl, Nat.le_of_ble_eq_true rfl⟩ dX0_search_221 (fun u H locs hp hM => ?_)
                                  obtain ⟨b6, t6⟩ := u
                                  obtain ⟨e6, hb6, ht6⟩ := hp
                                  have hM : tr_M D A s.heap H locs (tr_wX h ad cd tc c1 st tm wk b6 t6 (k + 1) r4) := hM
                                  refine lv_goto (tgt := 104) hx hb dX0_search_224 (by decide) ?_
                                  exact ih_3 b6 t6 (k + 1) r4 _ _ _ (by omega) (by omega) (tx_rounds_n (by omega) (by assumption) (tx_round_e (b3 := b3) (r3 := r3) (by rw [eb3, show q3 = 8 by omega]) (by rw [er3, show q3 = 8 by omega]) (by rw [er4, show i = tc by omega]) e6) e0) hb6 hr4 ht6 hM (lv_sub hl [0, 1, 2, 3] rfl)
                                · refine lv_aload_n hx hb dX0_search_199 rfl (lv_at hl 0 rfl) ?_
                                  refine lv_iload hx hb dX0_search_200 (lv_at hl 4 rfl) ?_
                                  refine tx_callI (tx_callsAtBettered l D (i := i) hJ (by omega) (by omega)) hC (cwV 1 hts (lw_V q96 q98 qs4 q14 q99) rfl rfl rfl (by decide +kernel) ⟨Nat.le_of_ble_eq_true rfl, Nat.le_of_ble_eq_true rfl⟩) hA hM rfl hl.1 rfl (by decide) ⟨Nat.le_of_ble_eq_true rfl, Nat.le_of_ble_eq_true rfl⟩ dX0_search_202 (fun v u H locs hp hM => ?_)
                                  rcases hp with ⟨rfl, hcab⟩ | ⟨rfl, hcab⟩
                                  · have hM : tr_M D A s.heap H locs (tr_wX h ad cd tc c1 st tm wk b3 t3 (k + 1) r4) := hM
                                    refine tw_if_eq (tgt := 214) hx hb dX0_search_205 (by decide) (by omega) (fun c_7 => absurd c_7 (by decide)) (fun c_7 => ?_)
                                    refine lv_aload_n hx hb dX0_search_208 rfl (lv_at hl 0 rfl) ?_
                                    refine lv_iload hx hb dX0_search_209 (lv_at hl 4 rfl) ?_
                                    refine tx_callV (tx_rideM l D (i := i) hJ (by omega) (by omega) (by omega) hb3 hr4) hC (cwV 1 hts (lw_V q100 q102 qs5 q14 q103) rfl rfl rfl (by decide +kernel) ⟨Nat.le_of_ble_eq_true rfl, Nat.le_of_ble_eq_true rfl⟩) hA hM rfl hl.1 rfl (by decide) ⟨Nat.le_of_ble_eq_true rfl, Nat.le_of_ble_eq_true rfl⟩ dX0_search_211 (fun r5 H locs hp hM => ?_)
                                    obtain ⟨er5, hr5⟩ := hp
                                    have hM : tr_M D A s.heap H locs (tr_wX h ad cd tc c1 st tm wk b3 t3 (k + 1) r5) := hM
                                    refine lv_iinc (v := nI (i + 1)) (lv' := [(4, .int (nI (i + 1))), (0, .ref h), (1, .int (nI a)), (2, .int (nI t)), (3, .int (nI n))]) hx hb dX0_search_214 hl (k := 4) rfl (tr_inc i) (by decide) rfl (fun ls hl => ?_)
                                    refine lv_goto (tgt := 190) hx hb dX0_search_217 (by decide) ?_
                                    exact ih_5 (i + 1) r5 _ _ _ (by omega) (by omega) (tr_it_n er4 (by rw [if_pos hcab]; exact er5)) hr5 hM (lv_sub hl [1, 2, 3, 4, 0] rfl)
                                  · have hM : tr_M D A s.heap H locs (tr_wX h ad cd tc c1 st tm wk b3 t3 (k + 1) r4) := hM
                                    refine tw_if_eq (tgt := 214) hx hb dX0_search_205 (by decide) (by omega) (fun c_8 => ?_) (fun c_8 => absurd c_8 (by decide))
                                    refine lv_iinc (v := nI (i + 1)) (lv' := [(4, .int (nI (i + 1))), (0, .ref h), (1, .int (nI a)), (2, .int (nI t)), (3, .int (nI n))]) hx hb dX0_search_214 hl (k := 4) rfl (tr_inc i) (by decide) rfl (fun ls hl => ?_)
                                    refine lv_goto (tgt := 190) hx hb dX0_search_217 (by decide) ?_
                                    exact ih_5 (i + 1) r4 _ _ _ (by omega) (by omega) (tr_it_n er4 (by rw [if_neg (by rw [hcab]; decide)])) hr4 hM (lv_sub hl [1, 2, 3, 4, 0] rfl)
                            exact lp_5 (tc + 1) 0 r3 _ _ _ (by omega) (by omega) rfl hr3 hM (lv_sub hl [1, 2, 3, 4, 0] rfl)
                          · refine lv_aload_n hx hb dX0_search_129 rfl (lv_at hl 0 rfl) ?_
                            refine tx_get_bs hC hM dX0_search_130 ?_
                            refine lv_bipush (v := nI 8) hx hb dX0_search_133 (by decide +kernel) ?_
                            refine lv_aload_n hx hb dX0_search_135 rfl (lv_at hl 0 rfl) ?_
                            refine tx_get_rn hC hM dX0_search_136 ?_
                            refine tw_imul hx hb dX0_search_139 ?_
                            refine lv_bipush (v := nI 8) hx hb dX0_search_140 (by decide +kernel) ?_
                            refine tw_iadd hx hb dX0_search_142 ?_
                            refine lv_iload hx hb dX0_search_143 (lv_at hl 4 rfl) ?_
                            refine tw_iadd hx hb dX0_search_145 ?_
                            refine lv_aload_n hx hb dX0_search_146 rfl (lv_at hl 0 rfl) ?_
                            refine tx_get_bs hC hM dX0_search_147 ?_
                            refine lv_bipush (v := nI 8) hx hb dX0_search_150 (by decide +kernel) ?_
                            refine lv_aload_n hx hb dX0_search_152 rfl (lv_at hl 0 rfl) ?_
                            refine tx_get_rn hC hM dX0_search_153 ?_
                            refine tw_imul hx hb dX0_search_156 ?_
                            refine lv_iload hx hb dX0_search_157 (lv_at hl 4 rfl) ?_
                            refine tw_iadd hx hb dX0_search_159 ?_
                            refine tx_ld_bs hC hM (by omega) dX0_search_160 ?_
                            have hv_1 := hb3 (8 * k + q3)
                            refine tx_st_bs hC hM (by omega) dX0_search_161 (fun H locs hM => ?_)
                            refine lv_aload_n hx hb dX0_search_162 rfl (lv_at hl 0 rfl) ?_
                            refine tx_get_ri hC hM dX0_search_163 ?_
                            refine lv_iload hx hb dX0_search_166 (lv_at hl 4 rfl) ?_
                            refine tw_ldc hx hb hown (hts _ q91) dX0_search_168 ?_
                            refine tx_st_ri hC hM (by omega) dX0_search_170 (fun H locs hM => ?_)
                            refine lv_iinc (v := nI (q3 + 1)) (lv' := [(4, .int (nI (q3 + 1))), (0, .ref h), (1, .int (nI a)), (2, .int (nI t)), (3, .int (nI n))]) hx hb dX0_search_171 hl (k := 4) rfl (tr_inc q3) (by decide) rfl (fun ls hl => ?_)
                            refine lv_goto (tgt := 122) hx hb dX0_search_174 (by decide) ?_
                            exact ih_4 (q3 + 1) (tr_up b3 (8 * k + 8 + q3) (b3 (8 * k + q3))) (tr_up r3 q3 100000) _ _ _ (by omega) (by omega) (tr_it_n eb3 rfl) (tr_it_n er3 rfl) (tr_up_le hb3 (by omega)) (tr_up_le hr3 (by omega)) hM (lv_sub hl [1, 2, 3, 4, 0] rfl)
                      exact lp_4 9 0 b r _ _ _ (by omega) (by omega) rfl rfl hb0 hr0 hM (lv_sub hl [1, 2, 3, 4, 0] rfl)
              exact lp_3 (n + 1) b2 t2 0 (tr_up r1 a t) _ _ _ (by omega) (by omega) (by rw [et2, eb2, eb1, er1, show q1 = 8 by omega, show q2 = 8 by omega]; rfl) hb2 (tr_up_le hr1 (by omega)) (by omega) hM (lv_sub hl [0, 1, 2, 3] rfl)
            · refine lv_aload_n hx hb dX0_search_73 rfl (lv_at hl 0 rfl) ?_
              refine tx_get_bs hC hM dX0_search_74 ?_
              refine lv_iload hx hb dX0_search_77 (lv_at hl 4 rfl) ?_
              refine tx_ld_bs hC hM (by omega) dX0_search_79 ?_
              have hv_2 := hb2 q2
              refine tw_ldc hx hb hown (hts _ q91) dX0_search_80 ?_
              refine tw_icmp_ge (tgt := 98) hx hb dX0_search_82 (by decide) (by omega) (by omega) (fun c_9 => ?_) (fun c_9 => ?_)
              · refine lv_iinc (v := nI (q2 + 1)) (lv' := [(4, .int (nI (q2 + 1))), (0, .ref h), (1, .int (nI a)), (2, .int (nI t)), (3, .int (nI n))]) hx hb dX0_search_98 hl (k := 4) rfl (tr_inc q2) (by decide) rfl (fun ls hl => ?_)
                refine lv_goto (tgt := 66) hx hb dX0_search_101 (by decide) ?_
                exact ih_2 (q2 + 1) t2 _ _ _ (by omega) (by omega) (tr_it_n et2 (if_neg (by omega)).symm) ht2 hM (lv_sub hl [1, 2, 3, 4, 0] rfl)
              · refine lv_aload_n hx hb dX0_search_85 rfl (lv_at hl 0 rfl) ?_
                refine lv_dup hx hb dX0_search_86 rfl ?_
                refine tx_get_bt hC hM dX0_search_87 ?_
                refine lv_iconst (v := nI 1) hx hb dX0_search_90 (by decide +kernel) ?_
                refine lv_iload hx hb dX0_search_91 (lv_at hl 4 rfl) ?_
                refine tw_ishl1 hx hb dX0_search_93 (by omega) ?_
                refine tw_ior hx hb dX0_search_94 ?_
                refine tx_put_bt hC hM dX0_search_95 (fun H locs hM => ?_)
                refine lv_iinc (v := nI (q2 + 1)) (lv' := [(4, .int (nI (q2 + 1))), (0, .ref h), (1, .int (nI a)), (2, .int (nI t)), (3, .int (nI n))]) hx hb dX0_search_98 hl (k := 4) rfl (tr_inc q2) (by decide) rfl (fun ls hl => ?_)
                refine lv_goto (tgt := 66) hx hb dX0_search_101 (by decide) ?_
                exact ih_2 (q2 + 1) (t2 ||| (2 ^ q2)) _ _ _ (by omega) (by omega) (tr_it_n et2 (if_pos (by omega)).symm) (tr_orlt ht2 (by omega)) hM (lv_sub hl [1, 2, 3, 4, 0] rfl)
        exact lp_2 9 0 0 _ _ _ (by omega) (by omega) rfl (by omega) hM (lv_sub hl [1, 2, 3, 4, 0] rfl)
      · refine lv_aload_n hx hb dX0_search_15 rfl (lv_at hl 0 rfl) ?_
        refine tx_get_bs hC hM dX0_search_16 ?_
        refine lv_iload hx hb dX0_search_19 (lv_at hl 4 rfl) ?_
        refine tw_ldc hx hb hown (hts _ q91) dX0_search_21 ?_
        refine tx_st_bs hC hM (by omega) dX0_search_23 (fun H locs hM => ?_)
        refine lv_aload_n hx hb dX0_search_24 rfl (lv_at hl 0 rfl) ?_
        refine tx_get_ri hC hM dX0_search_25 ?_
        refine lv_iload hx hb dX0_search_28 (lv_at hl 4 rfl) ?_
        refine tw_ldc hx hb hown (hts _ q91) dX0_search_30 ?_
        refine tx_st_ri hC hM (by omega) dX0_search_32 (fun H locs hM => ?_)
        refine lv_iinc (v := nI (q1 + 1)) (lv' := [(4, .int (nI (q1 + 1))), (0, .ref h), (1, .int (nI a)), (2, .int (nI t)), (3, .int (nI n))]) hx hb dX0_search_33 hl (k := 4) rfl (tr_inc q1) (by decide) rfl (fun ls hl => ?_)
        refine lv_goto (tgt := 8) hx hb dX0_search_36 (by decide) ?_
        exact ih_1 (q1 + 1) (tr_up b1 q1 100000) (tr_up r1 q1 100000) _ _ _ (by omega) (by omega) (tr_it_n eb1 rfl) (tr_it_n er1 rfl) (tr_up_le hb1 (by omega)) (tr_up_le hr1 (by omega)) hM (lv_sub hl [1, 2, 3, 4, 0] rfl)
  exact lp_1 9 0 bs ri _ _ _ (by omega) (by omega) rfl rfl hbs hri hM (lv_sub hl [1, 2, 3, 4, 0] rfl)
end
section
set_option maxRecDepth 100000
set_option maxHeartbeats 4000000 in
/-- X0.trip -/
theorem tx_tripM (l : Launch) (D : va_G) {h : Nat} {ad : Nat → Nat} {cd : Nat → ClassId} {tc : Nat} {c1 st tm wk bs : Nat → Nat} {bt rn : Nat} {ri : Nat → Nat} {x1 x2 : Int32} (hI : tr_I tc c1 st tm wk) : tr_MI l yX0_trip cX0_trip 3 .int tr_r1 D (tr_tX cd) [.ref h, .int x1, .int x2] (tr_wX h ad cd tc c1 st tm wk bs bt rn ri) (fun (v : Int32) (u : Nat × (Nat → Nat) × (Nat → Nat) × (Nat → Nat)) => tr_trip tc c1 st tm x1 x2 = (v, u)) (fun (u : Nat × (Nat → Nat) × (Nat → Nat) × (Nat → Nat)) => (tr_wX h ad cd u.1 u.2.1 u.2.2.1 u.2.2.2 wk bs bt rn ri)) := by
  refine tr_MI_mk (own := RX0) rfl (by decide +kernel) (Nat.le_of_ble_eq_true rfl) ?_
  intro p e s m args below meth c A Q hC hA hM ret ls hl
  have hx := hC.1.1
  have hb := hC.1.2.1
  have hown := hC.1.2.2.2.1
  have hts := hC.1.2.2.2.2
  have hl : lv_has ls 3 [(0, .ref h), (1, .int x1), (2, .int x2)] := hl
  obtain ⟨htc, hc1, hc0, hst, htm, hwk, hmo⟩ := hI
  refine lv_aload_n hx hb dX0_trip_0 rfl (lv_at hl 0 rfl) ?_
  refine tx_get_tc hC hM dX0_trip_1 ?_
  refine lv_bipush (v := nI 10) hx hb dX0_trip_4 (by decide +kernel) ?_
  refine tw_icmp_lt (tgt := 12) hx hb dX0_trip_6 (by decide) (by omega) (by omega) (fun c_1 => ?_) (fun c_1 => ?_)
  · refine lv_aload_n hx hb dX0_trip_12 rfl (lv_at hl 0 rfl) ?_
    refine lv_iload_n hx hb dX0_trip_13 rfl (lv_at hl 1 rfl) ?_
    refine tx_callI (tx_isStop l D (x := x1)) hC (cwV 1 hts (lw_V q59 q61 qs0 q14 q62) rfl rfl rfl (by decide +kernel) ⟨Nat.le_of_ble_eq_true rfl, Nat.le_of_ble_eq_true rfl⟩) hA hM rfl hl.1 rfl (by decide) ⟨Nat.le_of_ble_eq_true rfl, Nat.le_of_ble_eq_true rfl⟩ dX0_trip_14 (fun v u H locs hp hM => ?_)
    rcases hp with ⟨rfl, hS_x1, a, hk_a, rfl⟩ | ⟨rfl, hS_x1⟩
    · have hM : tr_M D A s.heap H locs (tr_wX h ad cd tc c1 st tm wk bs bt rn ri) := hM
      refine tw_if_eq (tgt := 28) hx hb dX0_trip_17 (by decide) (by omega) (fun c_2 => absurd c_2 (by decide)) (fun c_2 => ?_)
      refine lv_aload_n hx hb dX0_trip_20 rfl (lv_at hl 0 rfl) ?_
      refine lv_iload_n hx hb dX0_trip_21 rfl (lv_at hl 2 rfl) ?_
      refine tx_callI (tx_isTime l D (x := x2)) hC (cwV 1 hts (lw_V q63 q65 qs1 q14 q66) rfl rfl rfl (by decide +kernel) ⟨Nat.le_of_ble_eq_true rfl, Nat.le_of_ble_eq_true rfl⟩) hA hM rfl hl.1 rfl (by decide) ⟨Nat.le_of_ble_eq_true rfl, Nat.le_of_ble_eq_true rfl⟩ dX0_trip_22 (fun v u H locs hp hM => ?_)
      rcases hp with ⟨rfl, hT_x2, b, hk_b, rfl⟩ | ⟨rfl, hT_x2⟩
      · have hM : tr_M D A s.heap H locs (tr_wX h ad cd tc c1 st tm wk bs bt rn ri) := hM
        refine tw_if_ne (tgt := 30) hx hb dX0_trip_25 (by decide) (by omega) (fun c_3 => ?_) (fun c_3 => absurd c_3 (by decide))
        refine lv_aload_n hx hb dX0_trip_30 rfl (lv_at hl 0 rfl) ?_
        refine tx_get_st hC hM dX0_trip_31 ?_
        refine lv_iconst (v := nI 5) hx hb dX0_trip_34 (by decide +kernel) ?_
        refine lv_aload_n hx hb dX0_trip_35 rfl (lv_at hl 0 rfl) ?_
        refine tx_get_tc hC hM dX0_trip_36 ?_
        refine tw_imul hx hb dX0_trip_39 ?_
        refine lv_iload_n hx hb dX0_trip_40 rfl (lv_at hl 1 rfl) ?_
        refine tw_i2b hx hb dX0_trip_41 (by omega) ?_
        refine tx_st_st hC hM (by omega) (by omega) dX0_trip_42 (fun H locs hM => ?_)
        refine lv_aload_n hx hb dX0_trip_43 rfl (lv_at hl 0 rfl) ?_
        refine tx_get_tm hC hM dX0_trip_44 ?_
        refine lv_iconst (v := nI 5) hx hb dX0_trip_47 (by decide +kernel) ?_
        refine lv_aload_n hx hb dX0_trip_48 rfl (lv_at hl 0 rfl) ?_
        refine tx_get_tc hC hM dX0_trip_49 ?_
        refine tw_imul hx hb dX0_trip_52 ?_
        refine lv_iload_n hx hb dX0_trip_53 rfl (lv_at hl 2 rfl) ?_
        refine tw_i2s hx hb dX0_trip_54 (by omega) ?_
        refine tx_st_tm hC hM (by omega) (by omega) dX0_trip_55 (fun H locs hM => ?_)
        refine lv_aload_n hx hb dX0_trip_56 rfl (lv_at hl 0 rfl) ?_
        refine tx_get_c1 hC hM dX0_trip_57 ?_
        refine lv_aload_n hx hb dX0_trip_60 rfl (lv_at hl 0 rfl) ?_
        refine tx_get_tc hC hM dX0_trip_61 ?_
        refine lv_iconst (v := nI 1) hx hb dX0_trip_64 (by decide +kernel) ?_
        refine tx_st_c1 hC hM (by omega) (by omega) dX0_trip_65 (fun H locs hM => ?_)
        refine lv_aload_n hx hb dX0_trip_66 rfl (lv_at hl 0 rfl) ?_
        refine lv_dup hx hb dX0_trip_67 rfl ?_
        refine tx_get_tc hC hM dX0_trip_68 ?_
        refine lv_iconst (v := nI 1) hx hb dX0_trip_71 (by decide +kernel) ?_
        refine tw_iadd hx hb dX0_trip_72 ?_
        refine tx_put_tc hC hM dX0_trip_73 (fun H locs hM => ?_)
        refine lv_aload_n hx hb dX0_trip_76 rfl (lv_at hl 0 rfl) ?_
        refine tx_get_tc hC hM dX0_trip_77 ?_
        refine lv_iconst (v := nI 1) hx hb dX0_trip_80 (by decide +kernel) ?_
        refine tw_isub hx hb dX0_trip_81 (by omega) ?_
        exact ret _ _ _ _ _ (tc + 1, tr_up c1 tc 1, tr_up st (5 * tc) a, tr_up tm (5 * tc) b) dX0_trip_82 rfl (by unfold tr_trip; rw [if_neg (show ¬ 10 ≤ tc by omega), if_pos ⟨hS_x1, hT_x2⟩, nI_clamp (n := a) (by omega), nI_clamp (n := b) (by omega)]; try rfl) hM
      · have hM : tr_M D A s.heap H locs (tr_wX h ad cd tc c1 st tm wk bs bt rn ri) := hM
        refine tw_if_ne (tgt := 30) hx hb dX0_trip_25 (by decide) (by omega) (fun c_4 => absurd c_4 (by decide)) (fun c_4 => ?_)
        refine lv_iconst (v := (-1)) hx hb dX0_trip_28 (by decide +kernel) ?_
        exact ret _ _ _ _ _ (tc, c1, st, tm) dX0_trip_29 rfl (by unfold tr_trip; rw [if_neg (show ¬ 10 ≤ tc by omega), if_neg (by rintro ⟨g1, g2⟩; first | exact absurd g1 (by rw [hS_x1]; decide) | exact absurd g2 (by rw [hT_x2]; decide))]) hM
    · have hM : tr_M D A s.heap H locs (tr_wX h ad cd tc c1 st tm wk bs bt rn ri) := hM
      refine tw_if_eq (tgt := 28) hx hb dX0_trip_17 (by decide) (by omega) (fun c_5 => ?_) (fun c_5 => absurd c_5 (by decide))
      refine lv_iconst (v := (-1)) hx hb dX0_trip_28 (by decide +kernel) ?_
      exact ret _ _ _ _ _ (tc, c1, st, tm) dX0_trip_29 rfl (by unfold tr_trip; rw [if_neg (show ¬ 10 ≤ tc by omega), if_neg (by rintro ⟨g1, g2⟩; first | exact absurd g1 (by rw [hS_x1]; decide) | exact absurd g2 (by rw [hT_x2]; decide))]) hM
  · refine lv_bipush (v := (-2)) hx hb dX0_trip_9 (by decide +kernel) ?_
    exact ret _ _ _ _ _ (tc, c1, st, tm) dX0_trip_11 rfl (by unfold tr_trip; rw [if_pos (by omega)]) hM
set_option maxHeartbeats 4000000 in
/-- X0.call -/
theorem tx_callM (l : Launch) (D : va_G) {h : Nat} {ad : Nat → Nat} {cd : Nat → ClassId} {tc : Nat} {c1 st tm wk bs : Nat → Nat} {bt rn : Nat} {ri : Nat → Nat} {x1 x2 : Int32} (hI : tr_I tc c1 st tm wk) : tr_MI l yX0_call cX0_call 6 .int tr_r1 D (tr_tX cd) [.ref h, .int x1, .int x2] (tr_wX h ad cd tc c1 st tm wk bs bt rn ri) (fun (v : Int32) (u : (Nat → Nat) × (Nat → Nat) × (Nat → Nat)) => tr_call tc c1 st tm x1 x2 = (v, u)) (fun (u : (Nat → Nat) × (Nat → Nat) × (Nat → Nat)) => (tr_wX h ad cd tc u.1 u.2.1 u.2.2 wk bs bt rn ri)) := by
  refine tr_MI_mk (own := RX0) rfl (by decide +kernel) (Nat.le_of_ble_eq_true rfl) ?_
  intro p e s m args below meth c A Q hC hA hM ret ls hl
  have hx := hC.1.1
  have hb := hC.1.2.1
  have hown := hC.1.2.2.2.1
  have hts := hC.1.2.2.2.2
  have hl : lv_has ls 6 [(0, .ref h), (1, .int x1), (2, .int x2)] := hl
  obtain ⟨htc, hc1, hc0, hst, htm, hwk, hmo⟩ := hI
  refine lv_aload_n hx hb dX0_call_0 rfl (lv_at hl 0 rfl) ?_
  refine tx_get_tc hC hM dX0_call_1 ?_
  refine tw_if_eq (tgt := 23) hx hb dX0_call_4 (by decide) (by omega) (fun c_1 => ?_) (fun c_1 => ?_)
  · refine lv_iconst (v := (-1)) hx hb dX0_call_23 (by decide +kernel) ?_
    exact ret _ _ _ _ _ (c1, st, tm) dX0_call_24 rfl (by unfold tr_call; rw [if_neg (by rintro ⟨g0, g1, g2⟩; first | exact absurd g1 (by rw [hS_x1]; decide) | exact absurd g2 (by rw [hT_x2]; decide) | omega)]) hM
  · refine lv_aload_n hx hb dX0_call_7 rfl (lv_at hl 0 rfl) ?_
    refine lv_iload_n hx hb dX0_call_8 rfl (lv_at hl 1 rfl) ?_
    refine tx_callI (tx_isStop l D (x := x1)) hC (cwV 1 hts (lw_V q59 q61 qs0 q14 q62) rfl rfl rfl (by decide +kernel) ⟨Nat.le_of_ble_eq_true rfl, Nat.le_of_ble_eq_true rfl⟩) hA hM rfl hl.1 rfl (by decide) ⟨Nat.le_of_ble_eq_true rfl, Nat.le_of_ble_eq_true rfl⟩ dX0_call_9 (fun v u H locs hp hM => ?_)
    rcases hp with ⟨rfl, hS_x1, a, hk_a, rfl⟩ | ⟨rfl, hS_x1⟩
    · have hM : tr_M D A s.heap H locs (tr_wX h ad cd tc c1 st tm wk bs bt rn ri) := hM
      refine tw_if_eq (tgt := 23) hx hb dX0_call_12 (by decide) (by omega) (fun c_2 => absurd c_2 (by decide)) (fun c_2 => ?_)
      refine lv_aload_n hx hb dX0_call_15 rfl (lv_at hl 0 rfl) ?_
      refine lv_iload_n hx hb dX0_call_16 rfl (lv_at hl 2 rfl) ?_
      refine tx_callI (tx_isTime l D (x := x2)) hC (cwV 1 hts (lw_V q63 q65 qs1 q14 q66) rfl rfl rfl (by decide +kernel) ⟨Nat.le_of_ble_eq_true rfl, Nat.le_of_ble_eq_true rfl⟩) hA hM rfl hl.1 rfl (by decide) ⟨Nat.le_of_ble_eq_true rfl, Nat.le_of_ble_eq_true rfl⟩ dX0_call_17 (fun v u H locs hp hM => ?_)
      rcases hp with ⟨rfl, hT_x2, b, hk_b, rfl⟩ | ⟨rfl, hT_x2⟩
      · have hM : tr_M D A s.heap H locs (tr_wX h ad cd tc c1 st tm wk bs bt rn ri) := hM
        refine tw_if_ne (tgt := 25) hx hb dX0_call_20 (by decide) (by omega) (fun c_3 => ?_) (fun c_3 => absurd c_3 (by decide))
        have hc9 := hc0 (tc - 1) (by omega)
        refine lv_aload_n hx hb dX0_call_25 rfl (lv_at hl 0 rfl) ?_
        refine tx_get_tc hC hM dX0_call_26 ?_
        refine lv_iconst (v := nI 1) hx hb dX0_call_29 (by decide +kernel) ?_
        refine tw_isub hx hb dX0_call_30 (by omega) ?_
        refine lv_istore_n (lv' := [(3, .int (nI (tc - 1))), (0, .ref h), (1, .int (nI a)), (2, .int (nI b))]) hx hb dX0_call_31 rfl hl (by decide) rfl (fun ls hl => ?_)
        refine lv_aload_n hx hb dX0_call_32 rfl (lv_at hl 1 rfl) ?_
        refine tx_get_c1 hC hM dX0_call_33 ?_
        refine lv_iload_n hx hb dX0_call_36 rfl (lv_at hl 0 rfl) ?_
        refine tx_ld_c1 hC hM (by omega) dX0_call_37 ?_
        have hv_1 := hc1 (tc - 1)
        refine lv_istore (lv' := [(4, .int (nI (c1 (tc - 1)))), (3, .int (nI (tc - 1))), (0, .ref h), (1, .int (nI a)), (2, .int (nI b))]) hx hb dX0_call_38 hl (by decide) rfl (fun ls hl => ?_)
        refine lv_iload hx hb dX0_call_40 (lv_at hl 0 rfl) ?_
        refine lv_iconst (v := nI 5) hx hb dX0_call_42 (by decide +kernel) ?_
        refine tw_icmp_lt (tgt := 49) hx hb dX0_call_43 (by decide) (by omega) (by omega) (fun c_4 => ?_) (fun c_4 => ?_)
        · refine lv_iconst (v := nI 0) hx hb dX0_call_49 (by decide +kernel) ?_
          refine lv_istore (lv' := [(5, .int (nI 0)), (4, .int (nI (c1 (tc - 1)))), (3, .int (nI (tc - 1))), (0, .ref h), (1, .int (nI a)), (2, .int (nI b))]) hx hb dX0_call_50 hl (by decide) rfl (fun ls hl => ?_)
          have lp_1 : ∀ (n_1 : Nat) (k : Nat) (H : Heap) (locs : List Loc) (ls : Array Slot), (k ≤ c1 (tc - 1)) → (c1 (tc - 1) + 1 ≤ k + n_1) → (tr_any (fun k => st (5 * (tc - 1) + k) == a) k = false) → tr_M D A s.heap H locs (tr_wX h ad cd tc c1 st tm wk bs bt rn ri) → lv_has ls 6 [(0, .ref h), (1, .int (nI a)), (2, .int (nI b)), (3, .int (nI (tc - 1))), (4, .int (nI (c1 (tc - 1)))), (5, .int (nI k))] → W p l e tr_r1 s m args below meth c H locs 0 0 Q (F0 m 52 ls []) := by
            intro n_1
            induction n_1 with
            | zero => intro k H locs ls h1 h2; exact absurd h2 (by omega)
            | succ n_1 ih_1 =>
              intro k H locs ls h1 h2 ea hM hl
              refine lv_iload hx hb dX0_call_52 (lv_at hl 5 rfl) ?_
              refine lv_iload hx hb dX0_call_54 (lv_at hl 4 rfl) ?_
              refine tw_icmp_ge (tgt := 82) hx hb dX0_call_56 (by decide) (by omega) (by omega) (fun c_5 => ?_) (fun c_5 => ?_)
              · refine lv_iload_n hx hb dX0_call_82 rfl (lv_at hl 2 rfl) ?_
                refine lv_aload_n hx hb dX0_call_83 rfl (lv_at hl 0 rfl) ?_
                refine tx_get_tm hC hM dX0_call_84 ?_
                refine lv_iconst (v := nI 5) hx hb dX0_call_87 (by decide +kernel) ?_
                refine lv_iload_n hx hb dX0_call_88 rfl (lv_at hl 3 rfl) ?_
                refine tw_imul hx hb dX0_call_89 ?_
                refine lv_iload hx hb dX0_call_90 (lv_at hl 4 rfl) ?_
                refine tw_iadd hx hb dX0_call_92 ?_
                refine lv_iconst (v := nI 1) hx hb dX0_call_93 (by decide +kernel) ?_
                refine tw_isub hx hb dX0_call_94 (by omega) ?_
                refine tx_ld_tm hC hM (by omega) dX0_call_95 ?_
                have hv_2 := htm ((5 * (tc - 1)) + (c1 (tc - 1)) - 1)
                refine tw_icmp_ge (tgt := 101) hx hb dX0_call_96 (by decide) (by omega) (by omega) (fun c_6 => ?_) (fun c_6 => ?_)
                · refine lv_aload_n hx hb dX0_call_101 rfl (lv_at hl 0 rfl) ?_
                  refine tx_get_st hC hM dX0_call_102 ?_
                  refine lv_iconst (v := nI 5) hx hb dX0_call_105 (by decide +kernel) ?_
                  refine lv_iload_n hx hb dX0_call_106 rfl (lv_at hl 3 rfl) ?_
                  refine tw_imul hx hb dX0_call_107 ?_
                  refine lv_iload hx hb dX0_call_108 (lv_at hl 4 rfl) ?_
                  refine tw_iadd hx hb dX0_call_110 ?_
                  refine lv_iload_n hx hb dX0_call_111 rfl (lv_at hl 1 rfl) ?_
                  refine tw_i2b hx hb dX0_call_112 (by omega) ?_
                  refine tx_st_st hC hM (by omega) (by omega) dX0_call_113 (fun H locs hM => ?_)
                  refine lv_aload_n hx hb dX0_call_114 rfl (lv_at hl 0 rfl) ?_
                  refine tx_get_tm hC hM dX0_call_115 ?_
                  refine lv_iconst (v := nI 5) hx hb dX0_call_118 (by decide +kernel) ?_
                  refine lv_iload_n hx hb dX0_call_119 rfl (lv_at hl 3 rfl) ?_
                  refine tw_imul hx hb dX0_call_120 ?_
                  refine lv_iload hx hb dX0_call_121 (lv_at hl 4 rfl) ?_
                  refine tw_iadd hx hb dX0_call_123 ?_
                  refine lv_iload_n hx hb dX0_call_124 rfl (lv_at hl 2 rfl) ?_
                  refine tw_i2s hx hb dX0_call_125 (by omega) ?_
                  refine tx_st_tm hC hM (by omega) (by omega) dX0_call_126 (fun H locs hM => ?_)
                  refine lv_aload_n hx hb dX0_call_127 rfl (lv_at hl 0 rfl) ?_
                  refine tx_get_c1 hC hM dX0_call_128 ?_
                  refine lv_iload_n hx hb dX0_call_131 rfl (lv_at hl 3 rfl) ?_
                  refine lv_dup2_11 hx hb dX0_call_132 rfl rfl ?_
                  refine tx_ld_c1 hC hM (by omega) dX0_call_133 ?_
                  have hv_3 := hc1 (tc - 1)
                  refine lv_iconst (v := nI 1) hx hb dX0_call_134 (by decide +kernel) ?_
                  refine tw_iadd hx hb dX0_call_135 ?_
                  refine tw_i2b hx hb dX0_call_136 (by omega) ?_
                  refine tx_st_c1 hC hM (by omega) (by omega) dX0_call_137 (fun H locs hM => ?_)
                  refine lv_iload hx hb dX0_call_138 (lv_at hl 4 rfl) ?_
                  refine lv_iconst (v := nI 1) hx hb dX0_call_140 (by decide +kernel) ?_
                  refine tw_iadd hx hb dX0_call_141 ?_
                  exact ret _ _ _ _ _ (tr_up c1 (tc - 1) (c1 (tc - 1) + 1), tr_up st (5 * (tc - 1) + c1 (tc - 1)) a, tr_up tm (5 * (tc - 1) + c1 (tc - 1)) b) dX0_call_142 rfl (by unfold tr_call; rw [if_pos ⟨by omega, hS_x1, hT_x2⟩, if_neg (show ¬ 5 ≤ c1 (tc - 1) by omega), nI_clamp (n := a) (by omega), nI_clamp (n := b) (by omega), if_neg (show ¬ tr_any (fun k => st (5 * (tc - 1) + k) == a) (c1 (tc - 1)) = true by rw [show c1 (tc - 1) = k by omega]; rw [ea]; decide), if_neg (by omega)]) hM
                · refine lv_iconst (v := (-1)) hx hb dX0_call_99 (by decide +kernel) ?_
                  exact ret _ _ _ _ _ (c1, st, tm) dX0_call_100 rfl (by unfold tr_call; rw [if_pos ⟨by omega, hS_x1, hT_x2⟩, if_neg (show ¬ 5 ≤ c1 (tc - 1) by omega), nI_clamp (n := a) (by omega), nI_clamp (n := b) (by omega), if_neg (by rw [show c1 (tc - 1) = k by omega]; rw [ea]; decide), if_pos (by omega)]) hM
              · refine lv_aload_n hx hb dX0_call_59 rfl (lv_at hl 0 rfl) ?_
                refine tx_get_st hC hM dX0_call_60 ?_
                refine lv_iconst (v := nI 5) hx hb dX0_call_63 (by decide +kernel) ?_
                refine lv_iload_n hx hb dX0_call_64 rfl (lv_at hl 3 rfl) ?_
                refine tw_imul hx hb dX0_call_65 ?_
                refine lv_iload hx hb dX0_call_66 (lv_at hl 5 rfl) ?_
                refine tw_iadd hx hb dX0_call_68 ?_
                refine tx_ld_st hC hM (by omega) dX0_call_69 ?_
                have hv_4 := hst ((5 * (tc - 1)) + k)
                refine lv_iload_n hx hb dX0_call_70 rfl (lv_at hl 1 rfl) ?_
                refine tw_icmp_ne (tgt := 76) hx hb dX0_call_71 (by decide) (by omega) (by omega) (fun c_7 => ?_) (fun c_7 => ?_)
                · refine lv_iinc (v := nI (k + 1)) (lv' := [(5, .int (nI (k + 1))), (0, .ref h), (1, .int (nI a)), (2, .int (nI b)), (3, .int (nI (tc - 1))), (4, .int (nI (c1 (tc - 1))))]) hx hb dX0_call_76 hl (k := 5) rfl (tr_inc k) (by decide) rfl (fun ls hl => ?_)
                  refine lv_goto (tgt := 52) hx hb dX0_call_79 (by decide) ?_
                  exact ih_1 (k + 1) _ _ _ (by omega) (by omega) (tr_any_n ea (beq_eq_false_iff_ne.mpr (by assumption))) hM (lv_sub hl [1, 2, 3, 4, 5, 0] rfl)
                · refine lv_iconst (v := (-1)) hx hb dX0_call_74 (by decide +kernel) ?_
                  exact ret _ _ _ _ _ (c1, st, tm) dX0_call_75 rfl (by unfold tr_call; rw [if_pos ⟨by omega, hS_x1, hT_x2⟩, if_neg (show ¬ 5 ≤ c1 (tc - 1) by omega), nI_clamp (n := a) (by omega), if_pos (show tr_any (fun k => st (5 * (tc - 1) + k) == a) (c1 (tc - 1)) = true from tr_any_hit (k := k) (by omega) (beq_iff_eq.mpr (by assumption)))]) hM
          exact lp_1 (c1 (tc - 1) + 1) 0 _ _ _ (by omega) (by omega) rfl hM (lv_sub hl [3, 4, 5, 2, 1, 0] rfl)
        · refine lv_bipush (v := (-2)) hx hb dX0_call_46 (by decide +kernel) ?_
          exact ret _ _ _ _ _ (c1, st, tm) dX0_call_48 rfl (by unfold tr_call; rw [if_pos ⟨by omega, hS_x1, hT_x2⟩, if_pos (show 5 ≤ c1 (tc - 1) by omega)]) hM
      · have hM : tr_M D A s.heap H locs (tr_wX h ad cd tc c1 st tm wk bs bt rn ri) := hM
        refine tw_if_ne (tgt := 25) hx hb dX0_call_20 (by decide) (by omega) (fun c_8 => absurd c_8 (by decide)) (fun c_8 => ?_)
        refine lv_iconst (v := (-1)) hx hb dX0_call_23 (by decide +kernel) ?_
        exact ret _ _ _ _ _ (c1, st, tm) dX0_call_24 rfl (by unfold tr_call; rw [if_neg (by rintro ⟨g0, g1, g2⟩; first | exact absurd g1 (by rw [hS_x1]; decide) | exact absurd g2 (by rw [hT_x2]; decide) | omega)]) hM
    · have hM : tr_M D A s.heap H locs (tr_wX h ad cd tc c1 st tm wk bs bt rn ri) := hM
      refine tw_if_eq (tgt := 23) hx hb dX0_call_12 (by decide) (by omega) (fun c_9 => ?_) (fun c_9 => absurd c_9 (by decide))
      refine lv_iconst (v := (-1)) hx hb dX0_call_23 (by decide +kernel) ?_
      exact ret _ _ _ _ _ (c1, st, tm) dX0_call_24 rfl (by unfold tr_call; rw [if_neg (by rintro ⟨g0, g1, g2⟩; first | exact absurd g1 (by rw [hS_x1]; decide) | exact absurd g2 (by rw [hT_x2]; decide) | omega)]) hM
set_option maxHeartbeats 4000000 in
/-- X0.cancel -/
theorem tx_cancelM (l : Launch) (D : va_G) {h : Nat} {ad : Nat → Nat} {cd : Nat → ClassId} {tc : Nat} {c1 st tm wk bs : Nat → Nat} {bt rn : Nat} {ri : Nat → Nat} {x1 : Int32} (hI : tr_I tc c1 st tm wk) : tr_MI l yX0_cancel cX0_cancel 3 .int tr_r0 D (tr_tX cd) [.ref h, .int x1] (tr_wX h ad cd tc c1 st tm wk bs bt rn ri) (fun (v : Int32) (u : Nat × (Nat → Nat) × (Nat → Nat) × (Nat → Nat)) => tr_cancel tc c1 st tm x1 = (v, u)) (fun (u : Nat × (Nat → Nat) × (Nat → Nat) × (Nat → Nat)) => (tr_wX h ad cd u.1 u.2.1 u.2.2.1 u.2.2.2 wk bs bt rn ri)) := by
  refine tr_MI_mk (own := RX0) rfl (by decide +kernel) (Nat.le_of_ble_eq_true rfl) ?_
  intro p e s m args below meth c A Q hC hA hM ret ls hl
  have hx := hC.1.1
  have hb := hC.1.2.1
  have hown := hC.1.2.2.2.1
  have hts := hC.1.2.2.2.2
  have hl : lv_has ls 3 [(0, .ref h), (1, .int x1)] := hl
  obtain ⟨htc, hc1, hc0, hst, htm, hwk, hmo⟩ := hI
  refine lv_iload_n hx hb dX0_cancel_0 rfl (lv_at hl 1 rfl) ?_
  refine lv_if_lt (tgt := 12) hx hb dX0_cancel_1 (by decide) (fun c_1 => ?_) (fun c_1 => ?_)
  · refine lv_iconst (v := (-1)) hx hb dX0_cancel_12 (by decide +kernel) ?_
    exact ret _ _ _ _ _ (tc, c1, st, tm) dX0_cancel_13 rfl (by unfold tr_cancel; rw [if_pos (by first | exact Or.inl c_1 | exact Or.inr (Int32.not_lt.mp c_2))]) hM
  · refine lv_iload_n hx hb dX0_cancel_4 rfl (lv_at hl 1 rfl) ?_
    refine lv_aload_n hx hb dX0_cancel_5 rfl (lv_at hl 0 rfl) ?_
    refine tx_get_tc hC hM dX0_cancel_6 ?_
    refine lv_icmp_lt (tgt := 14) hx hb dX0_cancel_9 (by decide) (fun c_2 => ?_) (fun c_2 => ?_)
    · obtain ⟨i, hi, rfl⟩ := tr_ix c_1 c_2 (by omega)
      refine lv_aload_n hx hb dX0_cancel_14 rfl (lv_at hl 0 rfl) ?_
      refine lv_dup hx hb dX0_cancel_15 rfl ?_
      refine tx_get_tc hC hM dX0_cancel_16 ?_
      refine lv_iconst (v := nI 1) hx hb dX0_cancel_19 (by decide +kernel) ?_
      refine tw_isub hx hb dX0_cancel_20 (by omega) ?_
      refine tx_put_tc hC hM dX0_cancel_21 (fun H locs hM => ?_)
      refine lv_iconst (v := nI 5) hx hb dX0_cancel_24 (by decide +kernel) ?_
      refine lv_iload_n hx hb dX0_cancel_25 rfl (lv_at hl 1 rfl) ?_
      refine tw_imul hx hb dX0_cancel_26 ?_
      refine lv_istore_n (lv' := [(2, .int (nI (5 * i))), (0, .ref h), (1, .int (nI i))]) hx hb dX0_cancel_27 rfl hl (by decide) rfl (fun ls hl => ?_)
      have lp_1 : ∀ (n_1 : Nat) (k : Nat) (s1 : Nat → Nat) (t1 : Nat → Nat) (H : Heap) (locs : List Loc) (ls : Array Slot), (k ≤ 5 * (tc - 1) - 5 * i) → (5 * (tc - 1) - 5 * i + 1 ≤ k + n_1) → (s1 = tr_sh5 st i k) → (t1 = tr_sh5 tm i k) → (∀ j, s1 j ≤ 7) → (∀ j, t1 j ≤ 999) → tr_M D A s.heap H locs (tr_wX h ad cd (tc - 1) c1 s1 t1 wk bs bt rn ri) → lv_has ls 3 [(0, .ref h), (1, .int (nI i)), (2, .int (nI (5 * i + k)))] → W p l e tr_r0 s m args below meth c H locs 0 0 Q (F0 m 28 ls []) := by
        intro n_1
        induction n_1 with
        | zero => intro k s1 t1 H locs ls h1 h2; exact absurd h2 (by omega)
        | succ n_1 ih_1 =>
          intro k s1 t1 H locs ls h1 h2 es1 et1 hs1 ht1 hM hl
          refine lv_iload_n hx hb dX0_cancel_28 rfl (lv_at hl 2 rfl) ?_
          refine lv_iconst (v := nI 5) hx hb dX0_cancel_29 (by decide +kernel) ?_
          refine lv_aload_n hx hb dX0_cancel_30 rfl (lv_at hl 0 rfl) ?_
          refine tx_get_tc hC hM dX0_cancel_31 ?_
          refine tw_imul hx hb dX0_cancel_34 ?_
          refine tw_icmp_ge (tgt := 72) hx hb dX0_cancel_35 (by decide) (by omega) (by omega) (fun c_3 => ?_) (fun c_3 => ?_)
          · refine lv_iload_n hx hb dX0_cancel_72 rfl (lv_at hl 1 rfl) ?_
            refine lv_istore_n (lv' := [(2, .int (nI i)), (0, .ref h), (1, .int (nI i))]) hx hb dX0_cancel_73 rfl hl (by decide) rfl (fun ls hl => ?_)
            have lp_2 : ∀ (n_2 : Nat) (k2 : Nat) (d1 : Nat → Nat) (H : Heap) (locs : List Loc) (ls : Array Slot), (k2 ≤ tc - 1 - i) → (tc - 1 - i + 1 ≤ k2 + n_2) → (d1 = tr_sh1 c1 i k2) → (∀ j, d1 j ≤ 5) → tr_M D A s.heap H locs (tr_wX h ad cd (tc - 1) d1 s1 t1 wk bs bt rn ri) → lv_has ls 3 [(0, .ref h), (1, .int (nI i)), (2, .int (nI (i + k2)))] → W p l e tr_r0 s m args below meth c H locs 0 0 Q (F0 m 74 ls []) := by
              intro n_2
              induction n_2 with
              | zero => intro k2 d1 H locs ls h3 h4; exact absurd h4 (by omega)
              | succ n_2 ih_2 =>
                intro k2 d1 H locs ls h3 h4 ed1 hd1 hM hl
                refine lv_iload_n hx hb dX0_cancel_74 rfl (lv_at hl 2 rfl) ?_
                refine lv_aload_n hx hb dX0_cancel_75 rfl (lv_at hl 0 rfl) ?_
                refine tx_get_tc hC hM dX0_cancel_76 ?_
                refine tw_icmp_ge (tgt := 102) hx hb dX0_cancel_79 (by decide) (by omega) (by omega) (fun c_4 => ?_) (fun c_4 => ?_)
                · refine lv_aload_n hx hb dX0_cancel_102 rfl (lv_at hl 0 rfl) ?_
                  refine tx_get_tc hC hM dX0_cancel_103 ?_
                  exact ret _ _ _ _ _ (tc - 1, d1, s1, t1) dX0_cancel_106 rfl (by unfold tr_cancel; rw [if_neg (by rintro (g | g); exact nI_pos (by omega) g; exact absurd ((nI_leI (by omega) (by omega)).mp g) (by omega)), nI_clamp (n := i) (by omega), ed1, es1, et1, show k = 5 * (tc - 1) - 5 * i by omega, show k2 = tc - 1 - i by omega]) hM
                · refine lv_aload_n hx hb dX0_cancel_82 rfl (lv_at hl 0 rfl) ?_
                  refine tx_get_c1 hC hM dX0_cancel_83 ?_
                  refine lv_iload_n hx hb dX0_cancel_86 rfl (lv_at hl 2 rfl) ?_
                  refine lv_aload_n hx hb dX0_cancel_87 rfl (lv_at hl 0 rfl) ?_
                  refine tx_get_c1 hC hM dX0_cancel_88 ?_
                  refine lv_iload_n hx hb dX0_cancel_91 rfl (lv_at hl 2 rfl) ?_
                  refine lv_iconst (v := nI 1) hx hb dX0_cancel_92 (by decide +kernel) ?_
                  refine tw_iadd hx hb dX0_cancel_93 ?_
                  refine tx_ld_c1 hC hM (by omega) dX0_cancel_94 ?_
                  have hv_1 := hd1 (i + k2 + 1)
                  refine tx_st_c1 hC hM (by omega) (by omega) dX0_cancel_95 (fun H locs hM => ?_)
                  refine lv_iinc (v := nI (i + k2 + 1)) (lv' := [(2, .int (nI (i + k2 + 1))), (0, .ref h), (1, .int (nI i))]) hx hb dX0_cancel_96 hl (k := 2) rfl (tr_inc (i + k2)) (by decide) rfl (fun ls hl => ?_)
                  refine lv_goto (tgt := 74) hx hb dX0_cancel_99 (by decide) ?_
                  exact ih_2 (k2 + 1) (tr_up d1 (i + k2) (d1 (i + k2 + 1))) _ _ _ (by omega) (by omega) (tr_it_n ed1 rfl) (tr_up_le hd1 (by omega)) hM (lv_sub hl [1, 2, 0] rfl)
            exact lp_2 (tc - 1 - i + 1) 0 c1 _ _ _ (by omega) (by omega) rfl hc1 hM (lv_sub hl [1, 2, 0] rfl)
          · refine lv_aload_n hx hb dX0_cancel_38 rfl (lv_at hl 0 rfl) ?_
            refine tx_get_st hC hM dX0_cancel_39 ?_
            refine lv_iload_n hx hb dX0_cancel_42 rfl (lv_at hl 2 rfl) ?_
            refine lv_aload_n hx hb dX0_cancel_43 rfl (lv_at hl 0 rfl) ?_
            refine tx_get_st hC hM dX0_cancel_44 ?_
            refine lv_iload_n hx hb dX0_cancel_47 rfl (lv_at hl 2 rfl) ?_
            refine lv_iconst (v := nI 5) hx hb dX0_cancel_48 (by decide +kernel) ?_
            refine tw_iadd hx hb dX0_cancel_49 ?_
            refine tx_ld_st hC hM (by omega) dX0_cancel_50 ?_
            have hv_2 := hs1 (5 * i + k + 5)
            refine tx_st_st hC hM (by omega) (by omega) dX0_cancel_51 (fun H locs hM => ?_)
            refine lv_aload_n hx hb dX0_cancel_52 rfl (lv_at hl 0 rfl) ?_
            refine tx_get_tm hC hM dX0_cancel_53 ?_
            refine lv_iload_n hx hb dX0_cancel_56 rfl (lv_at hl 2 rfl) ?_
            refine lv_aload_n hx hb dX0_cancel_57 rfl (lv_at hl 0 rfl) ?_
            refine tx_get_tm hC hM dX0_cancel_58 ?_
            refine lv_iload_n hx hb dX0_cancel_61 rfl (lv_at hl 2 rfl) ?_
            refine lv_iconst (v := nI 5) hx hb dX0_cancel_62 (by decide +kernel) ?_
            refine tw_iadd hx hb dX0_cancel_63 ?_
            refine tx_ld_tm hC hM (by omega) dX0_cancel_64 ?_
            have hv_3 := ht1 (5 * i + k + 5)
            refine tx_st_tm hC hM (by omega) (by omega) dX0_cancel_65 (fun H locs hM => ?_)
            refine lv_iinc (v := nI (5 * i + k + 1)) (lv' := [(2, .int (nI (5 * i + k + 1))), (0, .ref h), (1, .int (nI i))]) hx hb dX0_cancel_66 hl (k := 2) rfl (tr_inc (5 * i + k)) (by decide) rfl (fun ls hl => ?_)
            refine lv_goto (tgt := 28) hx hb dX0_cancel_69 (by decide) ?_
            exact ih_1 (k + 1) (tr_up s1 (5 * i + k) (s1 (5 * i + k + 5))) (tr_up t1 (5 * i + k) (t1 (5 * i + k + 5))) _ _ _ (by omega) (by omega) (tr_it_n es1 rfl) (tr_it_n et1 rfl) (tr_up_le hs1 (by omega)) (tr_up_le ht1 (by omega)) hM (lv_sub hl [1, 2, 0] rfl)
      exact lp_1 (5 * (tc - 1) - 5 * i + 1) 0 st tm _ _ _ (by omega) (by omega) rfl rfl hst htm hM (lv_sub hl [1, 2, 0] rfl)
    · refine lv_iconst (v := (-1)) hx hb dX0_cancel_12 (by decide +kernel) ?_
      exact ret _ _ _ _ _ (tc, c1, st, tm) dX0_cancel_13 rfl (by unfold tr_cancel; rw [if_pos (by first | exact Or.inl c_1 | exact Or.inr (Int32.not_lt.mp c_2))]) hM
set_option maxHeartbeats 4000000 in
/-- X0.delay -/
theorem tx_delayM (l : Launch) (D : va_G) {h : Nat} {ad : Nat → Nat} {cd : Nat → ClassId} {tc : Nat} {c1 st tm wk bs : Nat → Nat} {bt rn : Nat} {ri : Nat → Nat} {x1 x2 x3 : Int32} (hI : tr_I tc c1 st tm wk) : tr_MI l yX0_delay cX0_delay 5 .boolean tr_r0 D (tr_tX cd) [.ref h, .int x1, .int x2, .int x3] (tr_wX h ad cd tc c1 st tm wk bs bt rn ri) (fun (v : Int32) (u : Nat → Nat) => (tr_dbad tc c1 x1 x2 x3 ∧ v = nI 0 ∧ u = tm) ∨ ∃ i k d, tr_dok tc c1 x1 x2 x3 i k d ∧ ((999 < tm (5 * i + c1 i - 1) + d ∧ v = nI 0 ∧ u = tm) ∨ (tm (5 * i + c1 i - 1) + d ≤ 999 ∧ v = nI 1 ∧ u = tr_late tm i k d (c1 i - k)))) (fun (u : Nat → Nat) => (tr_wX h ad cd tc c1 st u wk bs bt rn ri)) := by
  refine tr_MI_mk (own := RX0) rfl (by decide +kernel) (Nat.le_of_ble_eq_true rfl) ?_
  intro p e s m args below meth c A Q hC hA hM ret ls hl
  have hx := hC.1.1
  have hb := hC.1.2.1
  have hown := hC.1.2.2.2.1
  have hts := hC.1.2.2.2.2
  have hl : lv_has ls 5 [(0, .ref h), (1, .int x1), (2, .int x2), (3, .int x3)] := hl
  obtain ⟨htc, hc1, hc0, hst, htm, hwk, hmo⟩ := hI
  refine lv_iload_n hx hb dX0_delay_0 rfl (lv_at hl 1 rfl) ?_
  refine lv_if_lt (tgt := 36) hx hb dX0_delay_1 (by decide) (fun c_1 => ?_) (fun c_1 => ?_)
  · refine lv_iconst (v := nI 0) hx hb dX0_delay_36 (by decide +kernel) ?_
    exact ret _ _ _ _ _ tm dX0_delay_37 rfl (Or.inl ⟨tr_db htc hc1 (by first | exact Or.inl c_1 | exact Or.inr (Or.inl c_2) | exact Or.inr (Or.inr (Or.inl c_3)) | exact Or.inr (Or.inr (Or.inr (Or.inl ⟨i, rfl, hi, c_4⟩))) | exact Or.inr (Or.inr (Or.inr (Or.inr (Or.inl c_5)))) | exact Or.inr (Or.inr (Or.inr (Or.inr (Or.inr c_6))))), rfl, rfl⟩) hM
  · refine lv_iload_n hx hb dX0_delay_4 rfl (lv_at hl 1 rfl) ?_
    refine lv_aload_n hx hb dX0_delay_5 rfl (lv_at hl 0 rfl) ?_
    refine tx_get_tc hC hM dX0_delay_6 ?_
    refine lv_icmp_ge (tgt := 36) hx hb dX0_delay_9 (by decide) (fun c_2 => ?_) (fun c_2 => ?_)
    · refine lv_iconst (v := nI 0) hx hb dX0_delay_36 (by decide +kernel) ?_
      exact ret _ _ _ _ _ tm dX0_delay_37 rfl (Or.inl ⟨tr_db htc hc1 (by first | exact Or.inl c_1 | exact Or.inr (Or.inl c_2) | exact Or.inr (Or.inr (Or.inl c_3)) | exact Or.inr (Or.inr (Or.inr (Or.inl ⟨i, rfl, hi, c_4⟩))) | exact Or.inr (Or.inr (Or.inr (Or.inr (Or.inl c_5)))) | exact Or.inr (Or.inr (Or.inr (Or.inr (Or.inr c_6))))), rfl, rfl⟩) hM
    · obtain ⟨i, hi, rfl⟩ := tr_ixg c_1 c_2 (by omega)
      have hci := hc1 i
      have hc9 := hc0 i hi
      refine lv_iload_n hx hb dX0_delay_12 rfl (lv_at hl 2 rfl) ?_
      refine lv_if_lt (tgt := 36) hx hb dX0_delay_13 (by decide) (fun c_3 => ?_) (fun c_3 => ?_)
      · refine lv_iconst (v := nI 0) hx hb dX0_delay_36 (by decide +kernel) ?_
        exact ret _ _ _ _ _ tm dX0_delay_37 rfl (Or.inl ⟨tr_db htc hc1 (by first | exact Or.inl c_1 | exact Or.inr (Or.inl c_2) | exact Or.inr (Or.inr (Or.inl c_3)) | exact Or.inr (Or.inr (Or.inr (Or.inl ⟨i, rfl, hi, c_4⟩))) | exact Or.inr (Or.inr (Or.inr (Or.inr (Or.inl c_5)))) | exact Or.inr (Or.inr (Or.inr (Or.inr (Or.inr c_6))))), rfl, rfl⟩) hM
      · refine lv_iload_n hx hb dX0_delay_16 rfl (lv_at hl 2 rfl) ?_
        refine lv_aload_n hx hb dX0_delay_17 rfl (lv_at hl 0 rfl) ?_
        refine tx_get_c1 hC hM dX0_delay_18 ?_
        refine lv_iload_n hx hb dX0_delay_21 rfl (lv_at hl 1 rfl) ?_
        refine tx_ld_c1 hC hM (by omega) dX0_delay_22 ?_
        have hv_1 := hc1 i
        refine lv_icmp_ge (tgt := 36) hx hb dX0_delay_23 (by decide) (fun c_4 => ?_) (fun c_4 => ?_)
        · refine lv_iconst (v := nI 0) hx hb dX0_delay_36 (by decide +kernel) ?_
          exact ret _ _ _ _ _ tm dX0_delay_37 rfl (Or.inl ⟨tr_db htc hc1 (by first | exact Or.inl c_1 | exact Or.inr (Or.inl c_2) | exact Or.inr (Or.inr (Or.inl c_3)) | exact Or.inr (Or.inr (Or.inr (Or.inl ⟨i, rfl, hi, c_4⟩))) | exact Or.inr (Or.inr (Or.inr (Or.inr (Or.inl c_5)))) | exact Or.inr (Or.inr (Or.inr (Or.inr (Or.inr c_6))))), rfl, rfl⟩) hM
        · obtain ⟨k, hk, rfl⟩ := tr_ixg c_3 c_4 (by omega)
          refine lv_iload_n hx hb dX0_delay_26 rfl (lv_at hl 3 rfl) ?_
          refine lv_if_lt (tgt := 36) hx hb dX0_delay_27 (by decide) (fun c_5 => ?_) (fun c_5 => ?_)
          · refine lv_iconst (v := nI 0) hx hb dX0_delay_36 (by decide +kernel) ?_
            exact ret _ _ _ _ _ tm dX0_delay_37 rfl (Or.inl ⟨tr_db htc hc1 (by first | exact Or.inl c_1 | exact Or.inr (Or.inl c_2) | exact Or.inr (Or.inr (Or.inl c_3)) | exact Or.inr (Or.inr (Or.inr (Or.inl ⟨i, rfl, hi, c_4⟩))) | exact Or.inr (Or.inr (Or.inr (Or.inr (Or.inl c_5)))) | exact Or.inr (Or.inr (Or.inr (Or.inr (Or.inr c_6))))), rfl, rfl⟩) hM
          · refine lv_iload_n hx hb dX0_delay_30 rfl (lv_at hl 3 rfl) ?_
            refine lv_bipush (v := nI 99) hx hb dX0_delay_31 (by decide +kernel) ?_
            refine lv_icmp_le (tgt := 38) hx hb dX0_delay_33 (by decide) (fun c_6 => ?_) (fun c_6 => ?_)
            · obtain ⟨dd, hd, rfl⟩ := tr_ixle c_5 c_6 (by omega)
              refine lv_aload_n hx hb dX0_delay_38 rfl (lv_at hl 0 rfl) ?_
              refine tx_get_tm hC hM dX0_delay_39 ?_
              refine lv_iconst (v := nI 5) hx hb dX0_delay_42 (by decide +kernel) ?_
              refine lv_iload_n hx hb dX0_delay_43 rfl (lv_at hl 1 rfl) ?_
              refine tw_imul hx hb dX0_delay_44 ?_
              refine lv_aload_n hx hb dX0_delay_45 rfl (lv_at hl 0 rfl) ?_
              refine tx_get_c1 hC hM dX0_delay_46 ?_
              refine lv_iload_n hx hb dX0_delay_49 rfl (lv_at hl 1 rfl) ?_
              refine tx_ld_c1 hC hM (by omega) dX0_delay_50 ?_
              have hv_2 := hc1 i
              refine tw_iadd hx hb dX0_delay_51 ?_
              refine lv_iconst (v := nI 1) hx hb dX0_delay_52 (by decide +kernel) ?_
              refine tw_isub hx hb dX0_delay_53 (by omega) ?_
              refine tx_ld_tm hC hM (by omega) dX0_delay_54 ?_
              have hv_3 := htm (5 * i + c1 i - 1)
              refine lv_iload_n hx hb dX0_delay_55 rfl (lv_at hl 3 rfl) ?_
              refine tw_iadd hx hb dX0_delay_56 ?_
              refine lv_sipush (v := nI 999) hx hb dX0_delay_57 (by decide +kernel) ?_
              refine tw_icmp_le (tgt := 65) hx hb dX0_delay_60 (by decide) (by omega) (by omega) (fun c_7 => ?_) (fun c_7 => ?_)
              · refine lv_iconst (v := nI 5) hx hb dX0_delay_65 (by decide +kernel) ?_
                refine lv_iload_n hx hb dX0_delay_66 rfl (lv_at hl 1 rfl) ?_
                refine tw_imul hx hb dX0_delay_67 ?_
                refine lv_iload_n hx hb dX0_delay_68 rfl (lv_at hl 2 rfl) ?_
                refine tw_iadd hx hb dX0_delay_69 ?_
                refine lv_istore (lv' := [(4, .int (nI (5 * i + k))), (0, .ref h), (1, .int (nI i)), (2, .int (nI k)), (3, .int (nI dd))]) hx hb dX0_delay_70 hl (by decide) rfl (fun ls hl => ?_)
                have lp_1 : ∀ (n_1 : Nat) (j : Nat) (t1 : Nat → Nat) (H : Heap) (locs : List Loc) (ls : Array Slot), (j ≤ c1 i - k) → (c1 i - k + 1 ≤ j + n_1) → (t1 = tr_late tm i k dd j) → (∀ x, 5 * i + k + j ≤ x → t1 x ≤ 999) → tr_M D A s.heap H locs (tr_wX h ad cd tc c1 st t1 wk bs bt rn ri) → lv_has ls 5 [(0, .ref h), (1, .int (nI i)), (2, .int (nI k)), (3, .int (nI dd)), (4, .int (nI (5 * i + k + j)))] → W p l e tr_r0 s m args below meth c H locs 0 0 Q (F0 m 72 ls []) := by
                  intro n_1
                  induction n_1 with
                  | zero => intro j t1 H locs ls h1 h2; exact absurd h2 (by omega)
                  | succ n_1 ih_1 =>
                    intro j t1 H locs ls h1 h2 et1 hlo hM hl
                    refine lv_iload hx hb dX0_delay_72 (lv_at hl 4 rfl) ?_
                    refine lv_iconst (v := nI 5) hx hb dX0_delay_74 (by decide +kernel) ?_
                    refine lv_iload_n hx hb dX0_delay_75 rfl (lv_at hl 1 rfl) ?_
                    refine tw_imul hx hb dX0_delay_76 ?_
                    refine lv_aload_n hx hb dX0_delay_77 rfl (lv_at hl 0 rfl) ?_
                    refine tx_get_c1 hC hM dX0_delay_78 ?_
                    refine lv_iload_n hx hb dX0_delay_81 rfl (lv_at hl 1 rfl) ?_
                    refine tx_ld_c1 hC hM (by omega) dX0_delay_82 ?_
                    have hv_4 := hc1 i
                    refine tw_iadd hx hb dX0_delay_83 ?_
                    refine tw_icmp_ge (tgt := 105) hx hb dX0_delay_84 (by decide) (by omega) (by omega) (fun c_8 => ?_) (fun c_8 => ?_)
                    · refine lv_iconst (v := nI 1) hx hb dX0_delay_105 (by decide +kernel) ?_
                      exact ret _ _ _ _ _ t1 dX0_delay_106 rfl (Or.inr ⟨i, k, dd, ⟨hi, hk, hd, rfl, rfl, rfl⟩, Or.inr ⟨by omega, rfl, by rw [et1, show j = c1 i - k by omega]⟩⟩) hM
                    · refine lv_aload_n hx hb dX0_delay_87 rfl (lv_at hl 0 rfl) ?_
                      refine tx_get_tm hC hM dX0_delay_88 ?_
                      refine lv_iload hx hb dX0_delay_91 (lv_at hl 4 rfl) ?_
                      refine lv_dup2_11 hx hb dX0_delay_93 rfl rfl ?_
                      refine tx_ld_tm hC hM (by omega) dX0_delay_94 ?_
                      refine lv_iload_n hx hb dX0_delay_95 rfl (lv_at hl 3 rfl) ?_
                      refine tw_iadd hx hb dX0_delay_96 ?_
                      have hv9 := hlo (5 * i + k + j) (Nat.le_refl _)
                      refine tw_i2s hx hb dX0_delay_97 (by omega) ?_
                      refine tx_st_tm hC hM (by omega) (by omega) dX0_delay_98 (fun H locs hM => ?_)
                      refine lv_iinc (v := nI (5 * i + k + j + 1)) (lv' := [(4, .int (nI (5 * i + k + j + 1))), (0, .ref h), (1, .int (nI i)), (2, .int (nI k)), (3, .int (nI dd))]) hx hb dX0_delay_99 hl (k := 4) rfl (tr_inc (5 * i + k + j)) (by decide) rfl (fun ls hl => ?_)
                      refine lv_goto (tgt := 72) hx hb dX0_delay_102 (by decide) ?_
                      exact ih_1 (j + 1) (tr_up t1 (5 * i + k + j) (t1 (5 * i + k + j) + dd)) _ _ _ (by omega) (by omega) (tr_it_n et1 rfl) (fun x hx9 => by rw [tr_up_n (by omega)]; exact hlo x (by omega)) hM (lv_sub hl [1, 2, 3, 4, 0] rfl)
                exact lp_1 (c1 i - k + 1) 0 tm _ _ _ (by omega) (by omega) rfl (fun x _ => htm x) hM (lv_sub hl [1, 2, 3, 4, 0] rfl)
              · refine lv_iconst (v := nI 0) hx hb dX0_delay_63 (by decide +kernel) ?_
                exact ret _ _ _ _ _ tm dX0_delay_64 rfl (Or.inr ⟨i, k, dd, ⟨hi, hk, hd, rfl, rfl, rfl⟩, Or.inl ⟨by omega, rfl, rfl⟩⟩) hM
            · refine lv_iconst (v := nI 0) hx hb dX0_delay_36 (by decide +kernel) ?_
              exact ret _ _ _ _ _ tm dX0_delay_37 rfl (Or.inl ⟨tr_db htc hc1 (by first | exact Or.inl c_1 | exact Or.inr (Or.inl c_2) | exact Or.inr (Or.inr (Or.inl c_3)) | exact Or.inr (Or.inr (Or.inr (Or.inl ⟨i, rfl, hi, c_4⟩))) | exact Or.inr (Or.inr (Or.inr (Or.inr (Or.inl c_5)))) | exact Or.inr (Or.inr (Or.inr (Or.inr (Or.inr c_6))))), rfl, rfl⟩) hM
set_option maxHeartbeats 4000000 in
/-- X0.walk -/
theorem tx_walkM (l : Launch) (D : va_G) {h : Nat} {ad : Nat → Nat} {cd : Nat → ClassId} {tc : Nat} {c1 st tm wk bs : Nat → Nat} {bt rn : Nat} {ri : Nat → Nat} {x1 x2 x3 : Int32} (hI : tr_I tc c1 st tm wk) : tr_MI l yX0_walk cX0_walk 4 .boolean tr_r1 D (tr_tX cd) [.ref h, .int x1, .int x2, .int x3] (tr_wX h ad cd tc c1 st tm wk bs bt rn ri) (fun (v : Int32) (u : Nat → Nat) => tr_walk wk x1 x2 x3 = (v, u)) (fun (u : Nat → Nat) => (tr_wX h ad cd tc c1 st tm u bs bt rn ri)) := by
  refine tr_MI_mk (own := RX0) rfl (by decide +kernel) (Nat.le_of_ble_eq_true rfl) ?_
  intro p e s m args below meth c A Q hC hA hM ret ls hl
  have hx := hC.1.1
  have hb := hC.1.2.1
  have hown := hC.1.2.2.2.1
  have hts := hC.1.2.2.2.2
  have hl : lv_has ls 4 [(0, .ref h), (1, .int x1), (2, .int x2), (3, .int x3)] := hl
  obtain ⟨htc, hc1, hc0, hst, htm, hwk, hmo⟩ := hI
  refine lv_aload_n hx hb dX0_walk_0 rfl (lv_at hl 0 rfl) ?_
  refine lv_iload_n hx hb dX0_walk_1 rfl (lv_at hl 1 rfl) ?_
  refine tx_callI (tx_isStop l D (x := x1)) hC (cwV 1 hts (lw_V q59 q61 qs0 q14 q62) rfl rfl rfl (by decide +kernel) ⟨Nat.le_of_ble_eq_true rfl, Nat.le_of_ble_eq_true rfl⟩) hA hM rfl hl.1 rfl (by decide) ⟨Nat.le_of_ble_eq_true rfl, Nat.le_of_ble_eq_true rfl⟩ dX0_walk_2 (fun v u H locs hp hM => ?_)
  rcases hp with ⟨rfl, hS_x1, a, hk_a, rfl⟩ | ⟨rfl, hS_x1⟩
  · have hM : tr_M D A s.heap H locs (tr_wX h ad cd tc c1 st tm wk bs bt rn ri) := hM
    refine tw_if_eq (tgt := 31) hx hb dX0_walk_5 (by decide) (by omega) (fun c_1 => absurd c_1 (by decide)) (fun c_1 => ?_)
    refine lv_aload_n hx hb dX0_walk_8 rfl (lv_at hl 0 rfl) ?_
    refine lv_iload_n hx hb dX0_walk_9 rfl (lv_at hl 2 rfl) ?_
    refine tx_callI (tx_isStop l D (x := x2)) hC (cwV 1 hts (lw_V q59 q61 qs0 q14 q62) rfl rfl rfl (by decide +kernel) ⟨Nat.le_of_ble_eq_true rfl, Nat.le_of_ble_eq_true rfl⟩) hA hM rfl hl.1 rfl (by decide) ⟨Nat.le_of_ble_eq_true rfl, Nat.le_of_ble_eq_true rfl⟩ dX0_walk_10 (fun v u H locs hp hM => ?_)
    rcases hp with ⟨rfl, hS_x2, b, hk_b, rfl⟩ | ⟨rfl, hS_x2⟩
    · have hM : tr_M D A s.heap H locs (tr_wX h ad cd tc c1 st tm wk bs bt rn ri) := hM
      refine tw_if_eq (tgt := 31) hx hb dX0_walk_13 (by decide) (by omega) (fun c_2 => absurd c_2 (by decide)) (fun c_2 => ?_)
      refine lv_iload_n hx hb dX0_walk_16 rfl (lv_at hl 1 rfl) ?_
      refine lv_iload_n hx hb dX0_walk_17 rfl (lv_at hl 2 rfl) ?_
      refine tw_icmp_eq (tgt := 31) hx hb dX0_walk_18 (by decide) (by omega) (by omega) (fun c_3 => ?_) (fun c_3 => ?_)
      · refine lv_iconst (v := nI 0) hx hb dX0_walk_31 (by decide +kernel) ?_
        exact ret _ _ _ _ _ wk dX0_walk_32 rfl (by unfold tr_walk; rw [if_neg]; rintro ⟨g1, g2, g3, g4, g5⟩; first | exact absurd g1 (by rw [hS_x1]; decide) | exact absurd g2 (by rw [hS_x2]; decide) | exact g3 (by rw [c_3]) | exact g4 c_4 | exact c_5 g5) hM
      · refine lv_iload_n hx hb dX0_walk_21 rfl (lv_at hl 3 rfl) ?_
        refine lv_if_lt (tgt := 31) hx hb dX0_walk_22 (by decide) (fun c_4 => ?_) (fun c_4 => ?_)
        · refine lv_iconst (v := nI 0) hx hb dX0_walk_31 (by decide +kernel) ?_
          exact ret _ _ _ _ _ wk dX0_walk_32 rfl (by unfold tr_walk; rw [if_neg]; rintro ⟨g1, g2, g3, g4, g5⟩; first | exact absurd g1 (by rw [hS_x1]; decide) | exact absurd g2 (by rw [hS_x2]; decide) | exact g3 (by rw [c_3]) | exact g4 c_4 | exact c_5 g5) hM
        · refine lv_iload_n hx hb dX0_walk_25 rfl (lv_at hl 3 rfl) ?_
          refine lv_bipush (v := nI 99) hx hb dX0_walk_26 (by decide +kernel) ?_
          refine lv_icmp_le (tgt := 33) hx hb dX0_walk_28 (by decide) (fun c_5 => ?_) (fun c_5 => ?_)
          · obtain ⟨t, ht, rfl⟩ := tr_ixle c_4 c_5 (by omega)
            refine lv_aload_n hx hb dX0_walk_33 rfl (lv_at hl 0 rfl) ?_
            refine tx_get_wk hC hM dX0_walk_34 ?_
            refine lv_bipush (v := nI 8) hx hb dX0_walk_37 (by decide +kernel) ?_
            refine lv_iload_n hx hb dX0_walk_39 rfl (lv_at hl 1 rfl) ?_
            refine tw_imul hx hb dX0_walk_40 ?_
            refine lv_iload_n hx hb dX0_walk_41 rfl (lv_at hl 2 rfl) ?_
            refine tw_iadd hx hb dX0_walk_42 ?_
            refine lv_iload_n hx hb dX0_walk_43 rfl (lv_at hl 3 rfl) ?_
            refine tw_i2b hx hb dX0_walk_44 (by omega) ?_
            refine tx_st_wk hC hM (by omega) (by omega) dX0_walk_45 (fun H locs hM => ?_)
            refine lv_aload_n hx hb dX0_walk_46 rfl (lv_at hl 0 rfl) ?_
            refine tx_get_wk hC hM dX0_walk_47 ?_
            refine lv_bipush (v := nI 8) hx hb dX0_walk_50 (by decide +kernel) ?_
            refine lv_iload_n hx hb dX0_walk_52 rfl (lv_at hl 2 rfl) ?_
            refine tw_imul hx hb dX0_walk_53 ?_
            refine lv_iload_n hx hb dX0_walk_54 rfl (lv_at hl 1 rfl) ?_
            refine tw_iadd hx hb dX0_walk_55 ?_
            refine lv_iload_n hx hb dX0_walk_56 rfl (lv_at hl 3 rfl) ?_
            refine tw_i2b hx hb dX0_walk_57 (by omega) ?_
            refine tx_st_wk hC hM (by omega) (by omega) dX0_walk_58 (fun H locs hM => ?_)
            refine lv_iconst (v := nI 1) hx hb dX0_walk_59 (by decide +kernel) ?_
            exact ret _ _ _ _ _ (tr_up (tr_up wk (8 * a + b) t) (8 * b + a) t) dX0_walk_60 rfl (by unfold tr_walk; rw [if_pos ⟨hS_x1, hS_x2, fun z => c_3 ((nI_eq (by omega) (by omega)).mp z), c_4, c_5⟩, nI_clamp (n := a) (by omega), nI_clamp (n := b) (by omega), nI_clamp (n := t) (by omega)]) hM
          · refine lv_iconst (v := nI 0) hx hb dX0_walk_31 (by decide +kernel) ?_
            exact ret _ _ _ _ _ wk dX0_walk_32 rfl (by unfold tr_walk; rw [if_neg]; rintro ⟨g1, g2, g3, g4, g5⟩; first | exact absurd g1 (by rw [hS_x1]; decide) | exact absurd g2 (by rw [hS_x2]; decide) | exact g3 (by rw [c_3]) | exact g4 c_4 | exact c_5 g5) hM
    · have hM : tr_M D A s.heap H locs (tr_wX h ad cd tc c1 st tm wk bs bt rn ri) := hM
      refine tw_if_eq (tgt := 31) hx hb dX0_walk_13 (by decide) (by omega) (fun c_6 => ?_) (fun c_6 => absurd c_6 (by decide))
      refine lv_iconst (v := nI 0) hx hb dX0_walk_31 (by decide +kernel) ?_
      exact ret _ _ _ _ _ wk dX0_walk_32 rfl (by unfold tr_walk; rw [if_neg]; rintro ⟨g1, g2, g3, g4, g5⟩; first | exact absurd g1 (by rw [hS_x1]; decide) | exact absurd g2 (by rw [hS_x2]; decide) | exact g3 (by rw [c_3]) | exact g4 c_4 | exact c_5 g5) hM
  · have hM : tr_M D A s.heap H locs (tr_wX h ad cd tc c1 st tm wk bs bt rn ri) := hM
    refine tw_if_eq (tgt := 31) hx hb dX0_walk_5 (by decide) (by omega) (fun c_7 => ?_) (fun c_7 => absurd c_7 (by decide))
    refine lv_iconst (v := nI 0) hx hb dX0_walk_31 (by decide +kernel) ?_
    exact ret _ _ _ _ _ wk dX0_walk_32 rfl (by unfold tr_walk; rw [if_neg]; rintro ⟨g1, g2, g3, g4, g5⟩; first | exact absurd g1 (by rw [hS_x1]; decide) | exact absurd g2 (by rw [hS_x2]; decide) | exact g3 (by rw [c_3]) | exact g4 c_4 | exact c_5 g5) hM
end
section
set_option maxRecDepth 100000
set_option maxHeartbeats 4000000 in
/-- X0.arrival -/
theorem tx_arrivalM (l : Launch) (D : va_G) {h : Nat} {ad : Nat → Nat} {cd : Nat → ClassId} {tc : Nat} {c1 st tm wk bs : Nat → Nat} {bt rn : Nat} {ri : Nat → Nat} {x1 x2 x3 x4 : Int32} (hI : tr_I tc c1 st tm wk) (hok : tx_ok (bs, bt, rn, ri)) : tr_MI l yX0_arrival cX0_arrival 6 .int tr_r3 D (tr_tX cd) [.ref h, .int x1, .int x2, .int x3, .int x4] (tr_wX h ad cd tc c1 st tm wk bs bt rn ri) (fun (v : Int32) (u : tx_Q) => v = tx_arr tc c1 st tm wk bs ri x1 x2 x3 x4 ∧ tx_ok u) (fun (u : tx_Q) => (tr_wX h ad cd tc c1 st tm wk u.1 u.2.1 u.2.2.1 u.2.2.2)) := by
  refine tr_MI_mk (own := RX0) rfl (by decide +kernel) (Nat.le_of_ble_eq_true rfl) ?_
  intro p e s m args below meth c A Q hC hA hM ret ls hl
  have hx := hC.1.1
  have hb := hC.1.2.1
  have hown := hC.1.2.2.2.1
  have hts := hC.1.2.2.2.2
  have hl : lv_has ls 6 [(0, .ref h), (1, .int x1), (2, .int x2), (3, .int x3), (4, .int x4)] := hl
  have hJ := hI
  obtain ⟨htc, hc1, hc0, hst, htm, hwk, hmo⟩ := hI
  have hbs : ∀ j, bs j ≤ 100000 := hok.1
  have hri : ∀ j, ri j ≤ 100000 := hok.2.2.2
  refine lv_aload_n hx hb dX0_arrival_0 rfl (lv_at hl 0 rfl) ?_
  refine lv_iload_n hx hb dX0_arrival_1 rfl (lv_at hl 1 rfl) ?_
  refine tx_callI (tx_isStop l D (x := x1)) hC (cwV 1 hts (lw_V q59 q61 qs0 q14 q62) rfl rfl rfl (by decide +kernel) ⟨Nat.le_of_ble_eq_true rfl, Nat.le_of_ble_eq_true rfl⟩) hA hM rfl hl.1 rfl (by decide) ⟨Nat.le_of_ble_eq_true rfl, Nat.le_of_ble_eq_true rfl⟩ dX0_arrival_2 (fun v u H locs hp hM => ?_)
  rcases hp with ⟨rfl, hS_x1, a, hk_a, rfl⟩ | ⟨rfl, hS_x1⟩
  · have hM : tr_M D A s.heap H locs (tr_wX h ad cd tc c1 st tm wk bs bt rn ri) := hM
    refine tw_if_eq (tgt := 36) hx hb dX0_arrival_5 (by decide) (by omega) (fun c_1 => absurd c_1 (by decide)) (fun c_1 => ?_)
    refine lv_aload_n hx hb dX0_arrival_8 rfl (lv_at hl 0 rfl) ?_
    refine lv_iload_n hx hb dX0_arrival_9 rfl (lv_at hl 2 rfl) ?_
    refine tx_callI (tx_isStop l D (x := x2)) hC (cwV 1 hts (lw_V q59 q61 qs0 q14 q62) rfl rfl rfl (by decide +kernel) ⟨Nat.le_of_ble_eq_true rfl, Nat.le_of_ble_eq_true rfl⟩) hA hM rfl hl.1 rfl (by decide) ⟨Nat.le_of_ble_eq_true rfl, Nat.le_of_ble_eq_true rfl⟩ dX0_arrival_10 (fun v u H locs hp hM => ?_)
    rcases hp with ⟨rfl, hS_x2, b, hk_b, rfl⟩ | ⟨rfl, hS_x2⟩
    · have hM : tr_M D A s.heap H locs (tr_wX h ad cd tc c1 st tm wk bs bt rn ri) := hM
      refine tw_if_eq (tgt := 36) hx hb dX0_arrival_13 (by decide) (by omega) (fun c_2 => absurd c_2 (by decide)) (fun c_2 => ?_)
      refine lv_aload_n hx hb dX0_arrival_16 rfl (lv_at hl 0 rfl) ?_
      refine lv_iload_n hx hb dX0_arrival_17 rfl (lv_at hl 3 rfl) ?_
      refine tx_callI (tx_isTime l D (x := x3)) hC (cwV 1 hts (lw_V q63 q65 qs1 q14 q66) rfl rfl rfl (by decide +kernel) ⟨Nat.le_of_ble_eq_true rfl, Nat.le_of_ble_eq_true rfl⟩) hA hM rfl hl.1 rfl (by decide) ⟨Nat.le_of_ble_eq_true rfl, Nat.le_of_ble_eq_true rfl⟩ dX0_arrival_18 (fun v u H locs hp hM => ?_)
      rcases hp with ⟨rfl, hT_x3, t, hk_t, rfl⟩ | ⟨rfl, hT_x3⟩
      · have hM : tr_M D A s.heap H locs (tr_wX h ad cd tc c1 st tm wk bs bt rn ri) := hM
        refine tw_if_eq (tgt := 36) hx hb dX0_arrival_21 (by decide) (by omega) (fun c_3 => absurd c_3 (by decide)) (fun c_3 => ?_)
        refine lv_iload hx hb dX0_arrival_24 (lv_at hl 4 rfl) ?_
        refine lv_if_lt (tgt := 36) hx hb dX0_arrival_26 (by decide) (fun c_4 => ?_) (fun c_4 => ?_)
        · refine lv_iconst (v := (-1)) hx hb dX0_arrival_36 (by decide +kernel) ?_
          exact ret _ _ _ _ _ (bs, bt, rn, ri) dX0_arrival_37 rfl ⟨by unfold tx_arr; rw [if_neg]; rintro ⟨g1, g2, g3, g4, g5⟩; first | exact absurd g1 (by rw [hS_x1]; decide) | exact absurd g2 (by rw [hS_x2]; decide) | exact absurd g3 (by rw [hT_x3]; decide) | exact g4 c_4 | exact c_5 g5, hok⟩ hM
        · refine lv_iload hx hb dX0_arrival_29 (lv_at hl 4 rfl) ?_
          refine lv_bipush (v := nI 10) hx hb dX0_arrival_31 (by decide +kernel) ?_
          refine lv_icmp_le (tgt := 38) hx hb dX0_arrival_33 (by decide) (fun c_5 => ?_) (fun c_5 => ?_)
          · obtain ⟨n, hn, rfl⟩ := tr_ixle c_4 c_5 (by omega)
            refine lv_aload_n hx hb dX0_arrival_38 rfl (lv_at hl 0 rfl) ?_
            refine lv_iload_n hx hb dX0_arrival_39 rfl (lv_at hl 1 rfl) ?_
            refine lv_iload_n hx hb dX0_arrival_40 rfl (lv_at hl 3 rfl) ?_
            refine lv_iload hx hb dX0_arrival_41 (lv_at hl 4 rfl) ?_
            refine tx_callV (tx_searchM l D (a := a) (t := t) (n := n) hJ (by omega) (by omega) (by omega) hbs hri) hC (cwV 3 hts (lw_V q87 q89 qs2 q14 q90) rfl rfl rfl (by decide +kernel) ⟨Nat.le_of_ble_eq_true rfl, Nat.le_of_ble_eq_true rfl⟩) hA hM rfl hl.1 rfl (by decide) ⟨Nat.le_of_ble_eq_true rfl, Nat.le_of_ble_eq_true rfl⟩ dX0_arrival_43 (fun u H locs hp hM => ?_)
            obtain ⟨e1, hok1⟩ := hp
            obtain ⟨b1, t1, k1, r1⟩ := u
            have hb1 : ∀ j, b1 j ≤ 100000 := hok1.1
            have hk1 : k1 ≤ 10 := hok1.2.2.1
            have hr1 : ∀ j, r1 j ≤ 100000 := hok1.2.2.2
            have hM : tr_M D A s.heap H locs (tr_wX h ad cd tc c1 st tm wk b1 t1 k1 r1) := hM
            refine lv_aload_n hx hb dX0_arrival_46 rfl (lv_at hl 0 rfl) ?_
            refine tx_get_bs hC hM dX0_arrival_47 ?_
            refine lv_bipush (v := nI 8) hx hb dX0_arrival_50 (by decide +kernel) ?_
            refine lv_aload_n hx hb dX0_arrival_52 rfl (lv_at hl 0 rfl) ?_
            refine tx_get_rn hC hM dX0_arrival_53 ?_
            refine tw_imul hx hb dX0_arrival_56 ?_
            refine lv_iload_n hx hb dX0_arrival_57 rfl (lv_at hl 2 rfl) ?_
            refine tw_iadd hx hb dX0_arrival_58 ?_
            refine tx_ld_bs hC hM (by omega) dX0_arrival_59 ?_
            have hv_1 := hb1 (8 * k1 + b)
            refine lv_istore (lv' := [(5, .int (nI (b1 (8 * k1 + b)))), (0, .ref h), (1, .int (nI a)), (2, .int (nI b)), (3, .int (nI t)), (4, .int (nI n))]) hx hb dX0_arrival_60 hl (by decide) rfl (fun ls hl => ?_)
            refine lv_iload hx hb dX0_arrival_62 (lv_at hl 0 rfl) ?_
            refine tw_ldc hx hb hown (hts _ q91) dX0_arrival_64 ?_
            refine tw_icmp_lt (tgt := 74) hx hb dX0_arrival_66 (by decide) (by omega) (by omega) (fun c_6 => ?_) (fun c_6 => ?_)
            · refine lv_iload hx hb dX0_arrival_74 (lv_at hl 0 rfl) ?_
              exact ret _ _ _ _ _ (b1, t1, k1, r1) dX0_arrival_76 rfl ⟨by unfold tx_arr; rw [if_pos ⟨hS_x1, hS_x2, hT_x3, c_4, c_5⟩, nI_clamp (n := a) (by omega), nI_clamp (n := b) (by omega), nI_clamp (n := t) (by omega), nI_clamp (n := n) (by omega), ← e1]; exact (if_neg (show ¬ 100000 ≤ b1 (8 * k1 + b) by omega)).symm, hok1⟩ hM
            · refine lv_bipush (v := (-3)) hx hb dX0_arrival_69 (by decide +kernel) ?_
              refine lv_goto (tgt := 76) hx hb dX0_arrival_71 (by decide) ?_
              exact ret _ _ _ _ _ (b1, t1, k1, r1) dX0_arrival_76 rfl ⟨by unfold tx_arr; rw [if_pos ⟨hS_x1, hS_x2, hT_x3, c_4, c_5⟩, nI_clamp (n := a) (by omega), nI_clamp (n := b) (by omega), nI_clamp (n := t) (by omega), nI_clamp (n := n) (by omega), ← e1]; exact (if_pos (show 100000 ≤ b1 (8 * k1 + b) by omega)).symm, hok1⟩ hM
          · refine lv_iconst (v := (-1)) hx hb dX0_arrival_36 (by decide +kernel) ?_
            exact ret _ _ _ _ _ (bs, bt, rn, ri) dX0_arrival_37 rfl ⟨by unfold tx_arr; rw [if_neg]; rintro ⟨g1, g2, g3, g4, g5⟩; first | exact absurd g1 (by rw [hS_x1]; decide) | exact absurd g2 (by rw [hS_x2]; decide) | exact absurd g3 (by rw [hT_x3]; decide) | exact g4 c_4 | exact c_5 g5, hok⟩ hM
      · have hM : tr_M D A s.heap H locs (tr_wX h ad cd tc c1 st tm wk bs bt rn ri) := hM
        refine tw_if_eq (tgt := 36) hx hb dX0_arrival_21 (by decide) (by omega) (fun c_7 => ?_) (fun c_7 => absurd c_7 (by decide))
        refine lv_iconst (v := (-1)) hx hb dX0_arrival_36 (by decide +kernel) ?_
        exact ret _ _ _ _ _ (bs, bt, rn, ri) dX0_arrival_37 rfl ⟨by unfold tx_arr; rw [if_neg]; rintro ⟨g1, g2, g3, g4, g5⟩; first | exact absurd g1 (by rw [hS_x1]; decide) | exact absurd g2 (by rw [hS_x2]; decide) | exact absurd g3 (by rw [hT_x3]; decide) | exact g4 c_4 | exact c_5 g5, hok⟩ hM
    · have hM : tr_M D A s.heap H locs (tr_wX h ad cd tc c1 st tm wk bs bt rn ri) := hM
      refine tw_if_eq (tgt := 36) hx hb dX0_arrival_13 (by decide) (by omega) (fun c_8 => ?_) (fun c_8 => absurd c_8 (by decide))
      refine lv_iconst (v := (-1)) hx hb dX0_arrival_36 (by decide +kernel) ?_
      exact ret _ _ _ _ _ (bs, bt, rn, ri) dX0_arrival_37 rfl ⟨by unfold tx_arr; rw [if_neg]; rintro ⟨g1, g2, g3, g4, g5⟩; first | exact absurd g1 (by rw [hS_x1]; decide) | exact absurd g2 (by rw [hS_x2]; decide) | exact absurd g3 (by rw [hT_x3]; decide) | exact g4 c_4 | exact c_5 g5, hok⟩ hM
  · have hM : tr_M D A s.heap H locs (tr_wX h ad cd tc c1 st tm wk bs bt rn ri) := hM
    refine tw_if_eq (tgt := 36) hx hb dX0_arrival_5 (by decide) (by omega) (fun c_9 => ?_) (fun c_9 => absurd c_9 (by decide))
    refine lv_iconst (v := (-1)) hx hb dX0_arrival_36 (by decide +kernel) ?_
    exact ret _ _ _ _ _ (bs, bt, rn, ri) dX0_arrival_37 rfl ⟨by unfold tx_arr; rw [if_neg]; rintro ⟨g1, g2, g3, g4, g5⟩; first | exact absurd g1 (by rw [hS_x1]; decide) | exact absurd g2 (by rw [hS_x2]; decide) | exact absurd g3 (by rw [hT_x3]; decide) | exact g4 c_4 | exact c_5 g5, hok⟩ hM
set_option maxHeartbeats 4000000 in
/-- X0.fewest -/
theorem tx_fewestM (l : Launch) (D : va_G) {h : Nat} {ad : Nat → Nat} {cd : Nat → ClassId} {tc : Nat} {c1 st tm wk bs : Nat → Nat} {bt rn : Nat} {ri : Nat → Nat} {x1 x2 x3 : Int32} (hI : tr_I tc c1 st tm wk) (hok : tx_ok (bs, bt, rn, ri)) : tr_MI l yX0_fewest cX0_fewest 5 .int tr_r3 D (tr_tX cd) [.ref h, .int x1, .int x2, .int x3] (tr_wX h ad cd tc c1 st tm wk bs bt rn ri) (fun (v : Int32) (u : tx_Q) => v = tx_few tc c1 st tm wk bs ri x1 x2 x3 ∧ tx_ok u) (fun (u : tx_Q) => (tr_wX h ad cd tc c1 st tm wk u.1 u.2.1 u.2.2.1 u.2.2.2)) := by
  refine tr_MI_mk (own := RX0) rfl (by decide +kernel) (Nat.le_of_ble_eq_true rfl) ?_
  intro p e s m args below meth c A Q hC hA hM ret ls hl
  have hx := hC.1.1
  have hb := hC.1.2.1
  have hown := hC.1.2.2.2.1
  have hts := hC.1.2.2.2.2
  have hl : lv_has ls 5 [(0, .ref h), (1, .int x1), (2, .int x2), (3, .int x3)] := hl
  have hJ := hI
  obtain ⟨htc, hc1, hc0, hst, htm, hwk, hmo⟩ := hI
  have hbs : ∀ j, bs j ≤ 100000 := hok.1
  have hri : ∀ j, ri j ≤ 100000 := hok.2.2.2
  refine lv_aload_n hx hb dX0_fewest_0 rfl (lv_at hl 0 rfl) ?_
  refine lv_iload_n hx hb dX0_fewest_1 rfl (lv_at hl 1 rfl) ?_
  refine tx_callI (tx_isStop l D (x := x1)) hC (cwV 1 hts (lw_V q59 q61 qs0 q14 q62) rfl rfl rfl (by decide +kernel) ⟨Nat.le_of_ble_eq_true rfl, Nat.le_of_ble_eq_true rfl⟩) hA hM rfl hl.1 rfl (by decide) ⟨Nat.le_of_ble_eq_true rfl, Nat.le_of_ble_eq_true rfl⟩ dX0_fewest_2 (fun v u H locs hp hM => ?_)
  rcases hp with ⟨rfl, hS_x1, a, hk_a, rfl⟩ | ⟨rfl, hS_x1⟩
  · have hM : tr_M D A s.heap H locs (tr_wX h ad cd tc c1 st tm wk bs bt rn ri) := hM
    refine tw_if_eq (tgt := 24) hx hb dX0_fewest_5 (by decide) (by omega) (fun c_1 => absurd c_1 (by decide)) (fun c_1 => ?_)
    refine lv_aload_n hx hb dX0_fewest_8 rfl (lv_at hl 0 rfl) ?_
    refine lv_iload_n hx hb dX0_fewest_9 rfl (lv_at hl 2 rfl) ?_
    refine tx_callI (tx_isStop l D (x := x2)) hC (cwV 1 hts (lw_V q59 q61 qs0 q14 q62) rfl rfl rfl (by decide +kernel) ⟨Nat.le_of_ble_eq_true rfl, Nat.le_of_ble_eq_true rfl⟩) hA hM rfl hl.1 rfl (by decide) ⟨Nat.le_of_ble_eq_true rfl, Nat.le_of_ble_eq_true rfl⟩ dX0_fewest_10 (fun v u H locs hp hM => ?_)
    rcases hp with ⟨rfl, hS_x2, b, hk_b, rfl⟩ | ⟨rfl, hS_x2⟩
    · have hM : tr_M D A s.heap H locs (tr_wX h ad cd tc c1 st tm wk bs bt rn ri) := hM
      refine tw_if_eq (tgt := 24) hx hb dX0_fewest_13 (by decide) (by omega) (fun c_2 => absurd c_2 (by decide)) (fun c_2 => ?_)
      refine lv_aload_n hx hb dX0_fewest_16 rfl (lv_at hl 0 rfl) ?_
      refine lv_iload_n hx hb dX0_fewest_17 rfl (lv_at hl 3 rfl) ?_
      refine tx_callI (tx_isTime l D (x := x3)) hC (cwV 1 hts (lw_V q63 q65 qs1 q14 q66) rfl rfl rfl (by decide +kernel) ⟨Nat.le_of_ble_eq_true rfl, Nat.le_of_ble_eq_true rfl⟩) hA hM rfl hl.1 rfl (by decide) ⟨Nat.le_of_ble_eq_true rfl, Nat.le_of_ble_eq_true rfl⟩ dX0_fewest_18 (fun v u H locs hp hM => ?_)
      rcases hp with ⟨rfl, hT_x3, t, hk_t, rfl⟩ | ⟨rfl, hT_x3⟩
      · have hM : tr_M D A s.heap H locs (tr_wX h ad cd tc c1 st tm wk bs bt rn ri) := hM
        refine tw_if_ne (tgt := 26) hx hb dX0_fewest_21 (by decide) (by omega) (fun c_3 => ?_) (fun c_3 => absurd c_3 (by decide))
        refine lv_aload_n hx hb dX0_fewest_26 rfl (lv_at hl 0 rfl) ?_
        refine lv_iload_n hx hb dX0_fewest_27 rfl (lv_at hl 1 rfl) ?_
        refine lv_iload_n hx hb dX0_fewest_28 rfl (lv_at hl 3 rfl) ?_
        refine lv_bipush (v := nI 10) hx hb dX0_fewest_29 (by decide +kernel) ?_
        refine tx_callV (tx_searchM l D (a := a) (t := t) (n := 10) hJ (by omega) (by omega) (by omega) hbs hri) hC (cwV 3 hts (lw_V q87 q89 qs2 q14 q90) rfl rfl rfl (by decide +kernel) ⟨Nat.le_of_ble_eq_true rfl, Nat.le_of_ble_eq_true rfl⟩) hA hM rfl hl.1 rfl (by decide) ⟨Nat.le_of_ble_eq_true rfl, Nat.le_of_ble_eq_true rfl⟩ dX0_fewest_31 (fun u H locs hp hM => ?_)
        obtain ⟨e1, hok1⟩ := hp
        obtain ⟨b1, t1, k1, r1⟩ := u
        have hb1 : ∀ j, b1 j ≤ 100000 := hok1.1
        have hk1 : k1 ≤ 10 := hok1.2.2.1
        have hr1 : ∀ j, r1 j ≤ 100000 := hok1.2.2.2
        have hM : tr_M D A s.heap H locs (tr_wX h ad cd tc c1 st tm wk b1 t1 k1 r1) := hM
        refine lv_iconst (v := nI 0) hx hb dX0_fewest_34 (by decide +kernel) ?_
        refine lv_istore (lv' := [(4, .int (nI 0)), (0, .ref h), (1, .int (nI a)), (2, .int (nI b)), (3, .int (nI t))]) hx hb dX0_fewest_35 hl (by decide) rfl (fun ls hl => ?_)
        have lp_1 : ∀ (n_1 : Nat) (r : Nat) (H : Heap) (locs : List Loc) (ls : Array Slot), (r ≤ k1 + 1) → (k1 + 2 ≤ r + n_1) → (tr_first (fun r => b1 (8 * r + b)) (k1 + 1 - r) r = tx_few tc c1 st tm wk bs ri (nI a) (nI b) (nI t)) → tr_M D A s.heap H locs (tr_wX h ad cd tc c1 st tm wk b1 t1 k1 r1) → lv_has ls 5 [(0, .ref h), (1, .int (nI a)), (2, .int (nI b)), (3, .int (nI t)), (4, .int (nI r))] → W p l e tr_r3 s m args below meth c H locs 0 0 Q (F0 m 37 ls []) := by
          intro n_1
          induction n_1 with
          | zero => intro r H locs ls h1 h2; exact absurd h2 (by omega)
          | succ n_1 ih_1 =>
            intro r H locs ls h1 h2 ez hM hl
            refine lv_iload hx hb dX0_fewest_37 (lv_at hl 4 rfl) ?_
            refine lv_aload_n hx hb dX0_fewest_39 rfl (lv_at hl 0 rfl) ?_
            refine tx_get_rn hC hM dX0_fewest_40 ?_
            refine tw_icmp_gt (tgt := 72) hx hb dX0_fewest_43 (by decide) (by omega) (by omega) (fun c_4 => ?_) (fun c_4 => ?_)
            · refine lv_bipush (v := (-3)) hx hb dX0_fewest_72 (by decide +kernel) ?_
              exact ret _ _ _ _ _ (b1, t1, k1, r1) dX0_fewest_74 rfl ⟨(tr_first_0 (by omega) ez).symm, hok1⟩ hM
            · refine lv_aload_n hx hb dX0_fewest_46 rfl (lv_at hl 0 rfl) ?_
              refine tx_get_bs hC hM dX0_fewest_47 ?_
              refine lv_bipush (v := nI 8) hx hb dX0_fewest_50 (by decide +kernel) ?_
              refine lv_iload hx hb dX0_fewest_52 (lv_at hl 4 rfl) ?_
              refine tw_imul hx hb dX0_fewest_54 ?_
              refine lv_iload_n hx hb dX0_fewest_55 rfl (lv_at hl 2 rfl) ?_
              refine tw_iadd hx hb dX0_fewest_56 ?_
              refine tx_ld_bs hC hM (by omega) dX0_fewest_57 ?_
              have hv_1 := hb1 (8 * r + b)
              refine tw_ldc hx hb hown (hts _ q91) dX0_fewest_58 ?_
              refine tw_icmp_ge (tgt := 66) hx hb dX0_fewest_60 (by decide) (by omega) (by omega) (fun c_5 => ?_) (fun c_5 => ?_)
              · refine lv_iinc (v := nI (r + 1)) (lv' := [(4, .int (nI (r + 1))), (0, .ref h), (1, .int (nI a)), (2, .int (nI b)), (3, .int (nI t))]) hx hb dX0_fewest_66 hl (k := 4) rfl (tr_inc r) (by decide) rfl (fun ls hl => ?_)
                refine lv_goto (tgt := 37) hx hb dX0_fewest_69 (by decide) ?_
                exact ih_1 (r + 1) _ _ _ (by omega) (by omega) (tr_first_n (by omega) ez (by show ¬ b1 (8 * r + b) < 100000; omega)) hM (lv_sub hl [1, 2, 3, 4, 0] rfl)
              · refine lv_iload hx hb dX0_fewest_63 (lv_at hl 4 rfl) ?_
                exact ret _ _ _ _ _ (b1, t1, k1, r1) dX0_fewest_65 rfl ⟨(tr_first_y (by omega) ez (by show b1 (8 * r + b) < 100000; omega)).symm, hok1⟩ hM
        exact lp_1 (k1 + 2) 0 _ _ _ (by omega) (by omega) (by unfold tx_few; rw [if_pos ⟨hS_x1, hS_x2, hT_x3⟩, nI_clamp (n := a) (by omega), nI_clamp (n := b) (by omega), nI_clamp (n := t) (by omega), ← e1]; rfl) hM (lv_sub hl [1, 2, 3, 4, 0] rfl)
      · have hM : tr_M D A s.heap H locs (tr_wX h ad cd tc c1 st tm wk bs bt rn ri) := hM
        refine tw_if_ne (tgt := 26) hx hb dX0_fewest_21 (by decide) (by omega) (fun c_6 => absurd c_6 (by decide)) (fun c_6 => ?_)
        refine lv_iconst (v := (-1)) hx hb dX0_fewest_24 (by decide +kernel) ?_
        exact ret _ _ _ _ _ (bs, bt, rn, ri) dX0_fewest_25 rfl ⟨by unfold tx_few; rw [if_neg]; rintro ⟨g1, g2, g3⟩; first | exact absurd g1 (by rw [hS_x1]; decide) | exact absurd g2 (by rw [hS_x2]; decide) | exact absurd g3 (by rw [hT_x3]; decide), hok⟩ hM
    · have hM : tr_M D A s.heap H locs (tr_wX h ad cd tc c1 st tm wk bs bt rn ri) := hM
      refine tw_if_eq (tgt := 24) hx hb dX0_fewest_13 (by decide) (by omega) (fun c_7 => ?_) (fun c_7 => absurd c_7 (by decide))
      refine lv_iconst (v := (-1)) hx hb dX0_fewest_24 (by decide +kernel) ?_
      exact ret _ _ _ _ _ (bs, bt, rn, ri) dX0_fewest_25 rfl ⟨by unfold tx_few; rw [if_neg]; rintro ⟨g1, g2, g3⟩; first | exact absurd g1 (by rw [hS_x1]; decide) | exact absurd g2 (by rw [hS_x2]; decide) | exact absurd g3 (by rw [hT_x3]; decide), hok⟩ hM
  · have hM : tr_M D A s.heap H locs (tr_wX h ad cd tc c1 st tm wk bs bt rn ri) := hM
    refine tw_if_eq (tgt := 24) hx hb dX0_fewest_5 (by decide) (by omega) (fun c_8 => ?_) (fun c_8 => absurd c_8 (by decide))
    refine lv_iconst (v := (-1)) hx hb dX0_fewest_24 (by decide +kernel) ?_
    exact ret _ _ _ _ _ (bs, bt, rn, ri) dX0_fewest_25 rfl ⟨by unfold tx_few; rw [if_neg]; rintro ⟨g1, g2, g3⟩; first | exact absurd g1 (by rw [hS_x1]; decide) | exact absurd g2 (by rw [hS_x2]; decide) | exact absurd g3 (by rw [hT_x3]; decide), hok⟩ hM
set_option maxHeartbeats 4000000 in
/-- X0.choices -/
theorem tx_choicesM (l : Launch) (D : va_G) {h : Nat} {ad : Nat → Nat} {cd : Nat → ClassId} {tc : Nat} {c1 st tm wk bs : Nat → Nat} {bt rn : Nat} {ri : Nat → Nat} {x1 x2 x3 : Int32} (hI : tr_I tc c1 st tm wk) (hok : tx_ok (bs, bt, rn, ri)) : tr_MI l yX0_choices cX0_choices 8 .int tr_r3 D (tr_tX cd) [.ref h, .int x1, .int x2, .int x3] (tr_wX h ad cd tc c1 st tm wk bs bt rn ri) (fun (v : Int32) (u : tx_Q) => v = tx_cho tc c1 st tm wk bs ri x1 x2 x3 ∧ tx_ok u) (fun (u : tx_Q) => (tr_wX h ad cd tc c1 st tm wk u.1 u.2.1 u.2.2.1 u.2.2.2)) := by
  refine tr_MI_mk (own := RX0) rfl (by decide +kernel) (Nat.le_of_ble_eq_true rfl) ?_
  intro p e s m args below meth c A Q hC hA hM ret ls hl
  have hx := hC.1.1
  have hb := hC.1.2.1
  have hown := hC.1.2.2.2.1
  have hts := hC.1.2.2.2.2
  have hl : lv_has ls 8 [(0, .ref h), (1, .int x1), (2, .int x2), (3, .int x3)] := hl
  have hJ := hI
  obtain ⟨htc, hc1, hc0, hst, htm, hwk, hmo⟩ := hI
  have hbs : ∀ j, bs j ≤ 100000 := hok.1
  have hri : ∀ j, ri j ≤ 100000 := hok.2.2.2
  refine lv_aload_n hx hb dX0_choices_0 rfl (lv_at hl 0 rfl) ?_
  refine lv_iload_n hx hb dX0_choices_1 rfl (lv_at hl 1 rfl) ?_
  refine tx_callI (tx_isStop l D (x := x1)) hC (cwV 1 hts (lw_V q59 q61 qs0 q14 q62) rfl rfl rfl (by decide +kernel) ⟨Nat.le_of_ble_eq_true rfl, Nat.le_of_ble_eq_true rfl⟩) hA hM rfl hl.1 rfl (by decide) ⟨Nat.le_of_ble_eq_true rfl, Nat.le_of_ble_eq_true rfl⟩ dX0_choices_2 (fun v u H locs hp hM => ?_)
  rcases hp with ⟨rfl, hS_x1, a, hk_a, rfl⟩ | ⟨rfl, hS_x1⟩
  · have hM : tr_M D A s.heap H locs (tr_wX h ad cd tc c1 st tm wk bs bt rn ri) := hM
    refine tw_if_eq (tgt := 24) hx hb dX0_choices_5 (by decide) (by omega) (fun c_1 => absurd c_1 (by decide)) (fun c_1 => ?_)
    refine lv_aload_n hx hb dX0_choices_8 rfl (lv_at hl 0 rfl) ?_
    refine lv_iload_n hx hb dX0_choices_9 rfl (lv_at hl 2 rfl) ?_
    refine tx_callI (tx_isStop l D (x := x2)) hC (cwV 1 hts (lw_V q59 q61 qs0 q14 q62) rfl rfl rfl (by decide +kernel) ⟨Nat.le_of_ble_eq_true rfl, Nat.le_of_ble_eq_true rfl⟩) hA hM rfl hl.1 rfl (by decide) ⟨Nat.le_of_ble_eq_true rfl, Nat.le_of_ble_eq_true rfl⟩ dX0_choices_10 (fun v u H locs hp hM => ?_)
    rcases hp with ⟨rfl, hS_x2, b, hk_b, rfl⟩ | ⟨rfl, hS_x2⟩
    · have hM : tr_M D A s.heap H locs (tr_wX h ad cd tc c1 st tm wk bs bt rn ri) := hM
      refine tw_if_eq (tgt := 24) hx hb dX0_choices_13 (by decide) (by omega) (fun c_2 => absurd c_2 (by decide)) (fun c_2 => ?_)
      refine lv_aload_n hx hb dX0_choices_16 rfl (lv_at hl 0 rfl) ?_
      refine lv_iload_n hx hb dX0_choices_17 rfl (lv_at hl 3 rfl) ?_
      refine tx_callI (tx_isTime l D (x := x3)) hC (cwV 1 hts (lw_V q63 q65 qs1 q14 q66) rfl rfl rfl (by decide +kernel) ⟨Nat.le_of_ble_eq_true rfl, Nat.le_of_ble_eq_true rfl⟩) hA hM rfl hl.1 rfl (by decide) ⟨Nat.le_of_ble_eq_true rfl, Nat.le_of_ble_eq_true rfl⟩ dX0_choices_18 (fun v u H locs hp hM => ?_)
      rcases hp with ⟨rfl, hT_x3, t, hk_t, rfl⟩ | ⟨rfl, hT_x3⟩
      · have hM : tr_M D A s.heap H locs (tr_wX h ad cd tc c1 st tm wk bs bt rn ri) := hM
        refine tw_if_ne (tgt := 26) hx hb dX0_choices_21 (by decide) (by omega) (fun c_3 => ?_) (fun c_3 => absurd c_3 (by decide))
        refine lv_aload_n hx hb dX0_choices_26 rfl (lv_at hl 0 rfl) ?_
        refine lv_iload_n hx hb dX0_choices_27 rfl (lv_at hl 1 rfl) ?_
        refine lv_iload_n hx hb dX0_choices_28 rfl (lv_at hl 3 rfl) ?_
        refine lv_bipush (v := nI 10) hx hb dX0_choices_29 (by decide +kernel) ?_
        refine tx_callV (tx_searchM l D (a := a) (t := t) (n := 10) hJ (by omega) (by omega) (by omega) hbs hri) hC (cwV 3 hts (lw_V q87 q89 qs2 q14 q90) rfl rfl rfl (by decide +kernel) ⟨Nat.le_of_ble_eq_true rfl, Nat.le_of_ble_eq_true rfl⟩) hA hM rfl hl.1 rfl (by decide) ⟨Nat.le_of_ble_eq_true rfl, Nat.le_of_ble_eq_true rfl⟩ dX0_choices_31 (fun u H locs hp hM => ?_)
        obtain ⟨e1, hok1⟩ := hp
        obtain ⟨b1, t1, k1, r1⟩ := u
        have hb1 : ∀ j, b1 j ≤ 100000 := hok1.1
        have hk1 : k1 ≤ 10 := hok1.2.2.1
        have hr1 : ∀ j, r1 j ≤ 100000 := hok1.2.2.2
        have hM : tr_M D A s.heap H locs (tr_wX h ad cd tc c1 st tm wk b1 t1 k1 r1) := hM
        refine lv_iconst (v := nI 0) hx hb dX0_choices_34 (by decide +kernel) ?_
        refine lv_istore (lv' := [(4, .int (nI 0)), (0, .ref h), (1, .int (nI a)), (2, .int (nI b)), (3, .int (nI t))]) hx hb dX0_choices_35 hl (by decide) rfl (fun ls hl => ?_)
        refine tw_ldc hx hb hown (hts _ q91) dX0_choices_37 ?_
        refine lv_istore (lv' := [(5, .int (nI 100000)), (4, .int (nI 0)), (0, .ref h), (1, .int (nI a)), (2, .int (nI b)), (3, .int (nI t))]) hx hb dX0_choices_39 hl (by decide) rfl (fun ls hl => ?_)
        refine lv_iconst (v := nI 0) hx hb dX0_choices_41 (by decide +kernel) ?_
        refine lv_istore (lv' := [(6, .int (nI 0)), (5, .int (nI 100000)), (4, .int (nI 0)), (0, .ref h), (1, .int (nI a)), (2, .int (nI b)), (3, .int (nI t))]) hx hb dX0_choices_42 hl (by decide) rfl (fun ls hl => ?_)
        have lp_1 : ∀ (n_1 : Nat) (r : Nat) (n : Nat) (bf : Nat) (H : Heap) (locs : List Loc) (ls : Array Slot), (r ≤ k1 + 1) → (k1 + 2 ≤ r + n_1) → ((n, bf) = tr_falls (fun r => b1 (8 * r + b)) r) → (bf ≤ 100000) → tr_M D A s.heap H locs (tr_wX h ad cd tc c1 st tm wk b1 t1 k1 r1) → lv_has ls 8 [(0, .ref h), (1, .int (nI a)), (2, .int (nI b)), (3, .int (nI t)), (4, .int (nI n)), (5, .int (nI bf)), (6, .int (nI r))] → W p l e tr_r3 s m args below meth c H locs 0 0 Q (F0 m 44 ls []) := by
          intro n_1
          induction n_1 with
          | zero => intro r n bf H locs ls h1 h2; exact absurd h2 (by omega)
          | succ n_1 ih_1 =>
            intro r n bf H locs ls h1 h2 ef hbf hM hl
            refine lv_iload hx hb dX0_choices_44 (lv_at hl 6 rfl) ?_
            refine lv_aload_n hx hb dX0_choices_46 rfl (lv_at hl 0 rfl) ?_
            refine tx_get_rn hC hM dX0_choices_47 ?_
            refine tw_icmp_gt (tgt := 87) hx hb dX0_choices_50 (by decide) (by omega) (by omega) (fun c_4 => ?_) (fun c_4 => ?_)
            · refine lv_iload hx hb dX0_choices_87 (lv_at hl 4 rfl) ?_
              exact ret _ _ _ _ _ (b1, t1, k1, r1) dX0_choices_89 rfl ⟨by unfold tx_cho; rw [if_pos ⟨hS_x1, hS_x2, hT_x3⟩, nI_clamp (n := a) (by omega), nI_clamp (n := b) (by omega), nI_clamp (n := t) (by omega), ← e1]; show nI n = nI (tr_falls (fun r => b1 (8 * r + b)) (k1 + 1)).1; rw [show k1 + 1 = r by omega, ← ef], hok1⟩ hM
            · refine lv_aload_n hx hb dX0_choices_53 rfl (lv_at hl 0 rfl) ?_
              refine tx_get_bs hC hM dX0_choices_54 ?_
              refine lv_bipush (v := nI 8) hx hb dX0_choices_57 (by decide +kernel) ?_
              refine lv_iload hx hb dX0_choices_59 (lv_at hl 6 rfl) ?_
              refine tw_imul hx hb dX0_choices_61 ?_
              refine lv_iload_n hx hb dX0_choices_62 rfl (lv_at hl 2 rfl) ?_
              refine tw_iadd hx hb dX0_choices_63 ?_
              refine tx_ld_bs hC hM (by omega) dX0_choices_64 ?_
              have hv_1 := hb1 (8 * r + b)
              refine lv_istore (lv' := [(7, .int (nI (b1 (8 * r + b)))), (0, .ref h), (1, .int (nI a)), (2, .int (nI b)), (3, .int (nI t)), (4, .int (nI n)), (5, .int (nI bf)), (6, .int (nI r))]) hx hb dX0_choices_65 hl (by decide) rfl (fun ls hl => ?_)
              refine lv_iload hx hb dX0_choices_67 (lv_at hl 0 rfl) ?_
              refine lv_iload hx hb dX0_choices_69 (lv_at hl 6 rfl) ?_
              refine tw_icmp_ge (tgt := 77) hx hb dX0_choices_71 (by decide) (by omega) (by omega) (fun c_5 => ?_) (fun c_5 => ?_)
              · refine lv_iload hx hb dX0_choices_77 (lv_at hl 0 rfl) ?_
                refine lv_istore (lv' := [(5, .int (nI (b1 (8 * r + b)))), (7, .int (nI (b1 (8 * r + b)))), (0, .ref h), (1, .int (nI a)), (2, .int (nI b)), (3, .int (nI t)), (4, .int (nI n)), (6, .int (nI r))]) hx hb dX0_choices_79 hl (by decide) rfl (fun ls hl => ?_)
                refine lv_iinc (v := nI (r + 1)) (lv' := [(6, .int (nI (r + 1))), (5, .int (nI (b1 (8 * r + b)))), (7, .int (nI (b1 (8 * r + b)))), (0, .ref h), (1, .int (nI a)), (2, .int (nI b)), (3, .int (nI t)), (4, .int (nI n))]) hx hb dX0_choices_81 hl (k := 7) rfl (tr_inc r) (by decide) rfl (fun ls hl => ?_)
                refine lv_goto (tgt := 44) hx hb dX0_choices_84 (by decide) ?_
                exact ih_1 (r + 1) n (b1 (8 * r + b)) _ _ _ (by omega) (by omega) (tr_falls_n ef (if_neg (by omega)).symm rfl) (hb1 _) hM (lv_sub hl [3, 4, 5, 6, 7, 1, 0] rfl)
              · refine lv_iinc (v := nI (n + 1)) (lv' := [(4, .int (nI (n + 1))), (7, .int (nI (b1 (8 * r + b)))), (0, .ref h), (1, .int (nI a)), (2, .int (nI b)), (3, .int (nI t)), (5, .int (nI bf)), (6, .int (nI r))]) hx hb dX0_choices_74 hl (k := 5) rfl (tr_inc n) (by decide) rfl (fun ls hl => ?_)
                refine lv_iload hx hb dX0_choices_77 (lv_at hl 1 rfl) ?_
                refine lv_istore (lv' := [(5, .int (nI (b1 (8 * r + b)))), (4, .int (nI (n + 1))), (7, .int (nI (b1 (8 * r + b)))), (0, .ref h), (1, .int (nI a)), (2, .int (nI b)), (3, .int (nI t)), (6, .int (nI r))]) hx hb dX0_choices_79 hl (by decide) rfl (fun ls hl => ?_)
                refine lv_iinc (v := nI (r + 1)) (lv' := [(6, .int (nI (r + 1))), (5, .int (nI (b1 (8 * r + b)))), (4, .int (nI (n + 1))), (7, .int (nI (b1 (8 * r + b)))), (0, .ref h), (1, .int (nI a)), (2, .int (nI b)), (3, .int (nI t))]) hx hb dX0_choices_81 hl (k := 7) rfl (tr_inc r) (by decide) rfl (fun ls hl => ?_)
                refine lv_goto (tgt := 44) hx hb dX0_choices_84 (by decide) ?_
                exact ih_1 (r + 1) (n + 1) (b1 (8 * r + b)) _ _ _ (by omega) (by omega) (tr_falls_n ef (if_pos (by omega)).symm rfl) (hb1 _) hM (lv_sub hl [4, 5, 6, 7, 2, 1, 0] rfl)
        exact lp_1 (k1 + 2) 0 0 100000 _ _ _ (by omega) (by omega) rfl (by omega) hM (lv_sub hl [3, 4, 5, 6, 2, 1, 0] rfl)
      · have hM : tr_M D A s.heap H locs (tr_wX h ad cd tc c1 st tm wk bs bt rn ri) := hM
        refine tw_if_ne (tgt := 26) hx hb dX0_choices_21 (by decide) (by omega) (fun c_6 => absurd c_6 (by decide)) (fun c_6 => ?_)
        refine lv_iconst (v := (-1)) hx hb dX0_choices_24 (by decide +kernel) ?_
        exact ret _ _ _ _ _ (bs, bt, rn, ri) dX0_choices_25 rfl ⟨by unfold tx_cho; rw [if_neg]; rintro ⟨g1, g2, g3⟩; first | exact absurd g1 (by rw [hS_x1]; decide) | exact absurd g2 (by rw [hS_x2]; decide) | exact absurd g3 (by rw [hT_x3]; decide), hok⟩ hM
    · have hM : tr_M D A s.heap H locs (tr_wX h ad cd tc c1 st tm wk bs bt rn ri) := hM
      refine tw_if_eq (tgt := 24) hx hb dX0_choices_13 (by decide) (by omega) (fun c_7 => ?_) (fun c_7 => absurd c_7 (by decide))
      refine lv_iconst (v := (-1)) hx hb dX0_choices_24 (by decide +kernel) ?_
      exact ret _ _ _ _ _ (bs, bt, rn, ri) dX0_choices_25 rfl ⟨by unfold tx_cho; rw [if_neg]; rintro ⟨g1, g2, g3⟩; first | exact absurd g1 (by rw [hS_x1]; decide) | exact absurd g2 (by rw [hS_x2]; decide) | exact absurd g3 (by rw [hT_x3]; decide), hok⟩ hM
  · have hM : tr_M D A s.heap H locs (tr_wX h ad cd tc c1 st tm wk bs bt rn ri) := hM
    refine tw_if_eq (tgt := 24) hx hb dX0_choices_5 (by decide) (by omega) (fun c_8 => ?_) (fun c_8 => absurd c_8 (by decide))
    refine lv_iconst (v := (-1)) hx hb dX0_choices_24 (by decide +kernel) ?_
    exact ret _ _ _ _ _ (bs, bt, rn, ri) dX0_choices_25 rfl ⟨by unfold tx_cho; rw [if_neg]; rintro ⟨g1, g2, g3⟩; first | exact absurd g1 (by rw [hS_x1]; decide) | exact absurd g2 (by rw [hS_x2]; decide) | exact absurd g3 (by rw [hT_x3]; decide), hok⟩ hM
set_option maxHeartbeats 4000000 in
/-- X0.within -/
theorem tx_withinM (l : Launch) (D : va_G) {h : Nat} {ad : Nat → Nat} {cd : Nat → ClassId} {tc : Nat} {c1 st tm wk bs : Nat → Nat} {bt rn : Nat} {ri : Nat → Nat} {x1 x2 x3 : Int32} (hI : tr_I tc c1 st tm wk) (hok : tx_ok (bs, bt, rn, ri)) : tr_MI l yX0_within cX0_within 6 .int tr_r3 D (tr_tX cd) [.ref h, .int x1, .int x2, .int x3] (tr_wX h ad cd tc c1 st tm wk bs bt rn ri) (fun (v : Int32) (u : tx_Q) => v = tx_wit tc c1 st tm wk bs ri x1 x2 x3 ∧ tx_ok u) (fun (u : tx_Q) => (tr_wX h ad cd tc c1 st tm wk u.1 u.2.1 u.2.2.1 u.2.2.2)) := by
  refine tr_MI_mk (own := RX0) rfl (by decide +kernel) (Nat.le_of_ble_eq_true rfl) ?_
  intro p e s m args below meth c A Q hC hA hM ret ls hl
  have hx := hC.1.1
  have hb := hC.1.2.1
  have hown := hC.1.2.2.2.1
  have hts := hC.1.2.2.2.2
  have hl : lv_has ls 6 [(0, .ref h), (1, .int x1), (2, .int x2), (3, .int x3)] := hl
  have hJ := hI
  obtain ⟨htc, hc1, hc0, hst, htm, hwk, hmo⟩ := hI
  have hbs : ∀ j, bs j ≤ 100000 := hok.1
  have hri : ∀ j, ri j ≤ 100000 := hok.2.2.2
  refine lv_aload_n hx hb dX0_within_0 rfl (lv_at hl 0 rfl) ?_
  refine lv_iload_n hx hb dX0_within_1 rfl (lv_at hl 1 rfl) ?_
  refine tx_callI (tx_isStop l D (x := x1)) hC (cwV 1 hts (lw_V q59 q61 qs0 q14 q62) rfl rfl rfl (by decide +kernel) ⟨Nat.le_of_ble_eq_true rfl, Nat.le_of_ble_eq_true rfl⟩) hA hM rfl hl.1 rfl (by decide) ⟨Nat.le_of_ble_eq_true rfl, Nat.le_of_ble_eq_true rfl⟩ dX0_within_2 (fun v u H locs hp hM => ?_)
  rcases hp with ⟨rfl, hS_x1, a, hk_a, rfl⟩ | ⟨rfl, hS_x1⟩
  · have hM : tr_M D A s.heap H locs (tr_wX h ad cd tc c1 st tm wk bs bt rn ri) := hM
    refine tw_if_eq (tgt := 24) hx hb dX0_within_5 (by decide) (by omega) (fun c_1 => absurd c_1 (by decide)) (fun c_1 => ?_)
    refine lv_aload_n hx hb dX0_within_8 rfl (lv_at hl 0 rfl) ?_
    refine lv_iload_n hx hb dX0_within_9 rfl (lv_at hl 2 rfl) ?_
    refine tx_callI (tx_isTime l D (x := x2)) hC (cwV 1 hts (lw_V q63 q65 qs1 q14 q66) rfl rfl rfl (by decide +kernel) ⟨Nat.le_of_ble_eq_true rfl, Nat.le_of_ble_eq_true rfl⟩) hA hM rfl hl.1 rfl (by decide) ⟨Nat.le_of_ble_eq_true rfl, Nat.le_of_ble_eq_true rfl⟩ dX0_within_10 (fun v u H locs hp hM => ?_)
    rcases hp with ⟨rfl, hT_x2, t, hk_t, rfl⟩ | ⟨rfl, hT_x2⟩
    · have hM : tr_M D A s.heap H locs (tr_wX h ad cd tc c1 st tm wk bs bt rn ri) := hM
      refine tw_if_eq (tgt := 24) hx hb dX0_within_13 (by decide) (by omega) (fun c_2 => absurd c_2 (by decide)) (fun c_2 => ?_)
      refine lv_aload_n hx hb dX0_within_16 rfl (lv_at hl 0 rfl) ?_
      refine lv_iload_n hx hb dX0_within_17 rfl (lv_at hl 3 rfl) ?_
      refine tx_callI (tx_isTime l D (x := x3)) hC (cwV 1 hts (lw_V q63 q65 qs1 q14 q66) rfl rfl rfl (by decide +kernel) ⟨Nat.le_of_ble_eq_true rfl, Nat.le_of_ble_eq_true rfl⟩) hA hM rfl hl.1 rfl (by decide) ⟨Nat.le_of_ble_eq_true rfl, Nat.le_of_ble_eq_true rfl⟩ dX0_within_18 (fun v u H locs hp hM => ?_)
      rcases hp with ⟨rfl, hT_x3, y, hk_y, rfl⟩ | ⟨rfl, hT_x3⟩
      · have hM : tr_M D A s.heap H locs (tr_wX h ad cd tc c1 st tm wk bs bt rn ri) := hM
        refine tw_if_ne (tgt := 26) hx hb dX0_within_21 (by decide) (by omega) (fun c_3 => ?_) (fun c_3 => absurd c_3 (by decide))
        refine lv_aload_n hx hb dX0_within_26 rfl (lv_at hl 0 rfl) ?_
        refine lv_iload_n hx hb dX0_within_27 rfl (lv_at hl 1 rfl) ?_
        refine lv_iload_n hx hb dX0_within_28 rfl (lv_at hl 2 rfl) ?_
        refine lv_bipush (v := nI 10) hx hb dX0_within_29 (by decide +kernel) ?_
        refine tx_callV (tx_searchM l D (a := a) (t := t) (n := 10) hJ (by omega) (by omega) (by omega) hbs hri) hC (cwV 3 hts (lw_V q87 q89 qs2 q14 q90) rfl rfl rfl (by decide +kernel) ⟨Nat.le_of_ble_eq_true rfl, Nat.le_of_ble_eq_true rfl⟩) hA hM rfl hl.1 rfl (by decide) ⟨Nat.le_of_ble_eq_true rfl, Nat.le_of_ble_eq_true rfl⟩ dX0_within_31 (fun u H locs hp hM => ?_)
        obtain ⟨e1, hok1⟩ := hp
        obtain ⟨b1, t1, k1, r1⟩ := u
        have hb1 : ∀ j, b1 j ≤ 100000 := hok1.1
        have hk1 : k1 ≤ 10 := hok1.2.2.1
        have hr1 : ∀ j, r1 j ≤ 100000 := hok1.2.2.2
        have hM : tr_M D A s.heap H locs (tr_wX h ad cd tc c1 st tm wk b1 t1 k1 r1) := hM
        refine lv_iconst (v := nI 0) hx hb dX0_within_34 (by decide +kernel) ?_
        refine lv_istore (lv' := [(4, .int (nI 0)), (0, .ref h), (1, .int (nI a)), (2, .int (nI t)), (3, .int (nI y))]) hx hb dX0_within_35 hl (by decide) rfl (fun ls hl => ?_)
        refine lv_iconst (v := nI 0) hx hb dX0_within_37 (by decide +kernel) ?_
        refine lv_istore (lv' := [(5, .int (nI 0)), (4, .int (nI 0)), (0, .ref h), (1, .int (nI a)), (2, .int (nI t)), (3, .int (nI y))]) hx hb dX0_within_38 hl (by decide) rfl (fun ls hl => ?_)
        have lp_1 : ∀ (n_1 : Nat) (q : Nat) (z : Nat) (H : Heap) (locs : List Loc) (ls : Array Slot), (q ≤ 8) → (9 ≤ q + n_1) → (z = tr_set (fun q => decide (b1 (8 * k1 + q) ≤ y)) q) → tr_M D A s.heap H locs (tr_wX h ad cd tc c1 st tm wk b1 t1 k1 r1) → lv_has ls 6 [(0, .ref h), (1, .int (nI a)), (2, .int (nI t)), (3, .int (nI y)), (4, .int (nI z)), (5, .int (nI q))] → W p l e tr_r3 s m args below meth c H locs 0 0 Q (F0 m 40 ls []) := by
          intro n_1
          induction n_1 with
          | zero => intro q z H locs ls h1 h2; exact absurd h2 (by omega)
          | succ n_1 ih_1 =>
            intro q z H locs ls h1 h2 ez hM hl
            refine lv_iload hx hb dX0_within_40 (lv_at hl 5 rfl) ?_
            refine lv_bipush (v := nI 8) hx hb dX0_within_42 (by decide +kernel) ?_
            refine tw_icmp_ge (tgt := 81) hx hb dX0_within_44 (by decide) (by omega) (by omega) (fun c_4 => ?_) (fun c_4 => ?_)
            · refine lv_iload hx hb dX0_within_81 (lv_at hl 4 rfl) ?_
              exact ret _ _ _ _ _ (b1, t1, k1, r1) dX0_within_83 rfl ⟨by unfold tx_wit; rw [if_pos ⟨hS_x1, hT_x2, hT_x3⟩, nI_clamp (n := a) (by omega), nI_clamp (n := t) (by omega), nI_clamp (n := y) (by omega), ← e1]; rw [ez, show q = 8 by omega]; rfl, hok1⟩ hM
            · refine lv_aload_n hx hb dX0_within_47 rfl (lv_at hl 0 rfl) ?_
              refine tx_get_bs hC hM dX0_within_48 ?_
              refine lv_bipush (v := nI 8) hx hb dX0_within_51 (by decide +kernel) ?_
              refine lv_aload_n hx hb dX0_within_53 rfl (lv_at hl 0 rfl) ?_
              refine tx_get_rn hC hM dX0_within_54 ?_
              refine tw_imul hx hb dX0_within_57 ?_
              refine lv_iload hx hb dX0_within_58 (lv_at hl 5 rfl) ?_
              refine tw_iadd hx hb dX0_within_60 ?_
              refine tx_ld_bs hC hM (by omega) dX0_within_61 ?_
              have hv_1 := hb1 (8 * k1 + q)
              refine lv_iload_n hx hb dX0_within_62 rfl (lv_at hl 3 rfl) ?_
              refine tw_icmp_gt (tgt := 75) hx hb dX0_within_63 (by decide) (by omega) (by omega) (fun c_5 => ?_) (fun c_5 => ?_)
              · refine lv_iinc (v := nI (q + 1)) (lv' := [(5, .int (nI (q + 1))), (0, .ref h), (1, .int (nI a)), (2, .int (nI t)), (3, .int (nI y)), (4, .int (nI z))]) hx hb dX0_within_75 hl (k := 5) rfl (tr_inc q) (by decide) rfl (fun ls hl => ?_)
                refine lv_goto (tgt := 40) hx hb dX0_within_78 (by decide) ?_
                exact ih_1 (q + 1) z _ _ _ (by omega) (by omega) (tr_it_n ez (if_neg (fun z9 => absurd (of_decide_eq_true z9) (by omega))).symm) hM (lv_sub hl [1, 2, 3, 4, 5, 0] rfl)
              · refine lv_iload hx hb dX0_within_66 (lv_at hl 4 rfl) ?_
                refine lv_iconst (v := nI 1) hx hb dX0_within_68 (by decide +kernel) ?_
                refine lv_iload hx hb dX0_within_69 (lv_at hl 5 rfl) ?_
                refine tw_ishl1 hx hb dX0_within_71 (by omega) ?_
                refine tw_ior hx hb dX0_within_72 ?_
                refine lv_istore (lv' := [(4, .int (nI (z ||| (2 ^ q)))), (0, .ref h), (1, .int (nI a)), (2, .int (nI t)), (3, .int (nI y)), (5, .int (nI q))]) hx hb dX0_within_73 hl (by decide) rfl (fun ls hl => ?_)
                refine lv_iinc (v := nI (q + 1)) (lv' := [(5, .int (nI (q + 1))), (4, .int (nI (z ||| (2 ^ q)))), (0, .ref h), (1, .int (nI a)), (2, .int (nI t)), (3, .int (nI y))]) hx hb dX0_within_75 hl (k := 5) rfl (tr_inc q) (by decide) rfl (fun ls hl => ?_)
                refine lv_goto (tgt := 40) hx hb dX0_within_78 (by decide) ?_
                exact ih_1 (q + 1) (z ||| (2 ^ q)) _ _ _ (by omega) (by omega) (tr_it_n ez (if_pos (decide_eq_true (by omega))).symm) hM (lv_sub hl [2, 3, 4, 5, 1, 0] rfl)
        exact lp_1 9 0 0 _ _ _ (by omega) (by omega) rfl hM (lv_sub hl [2, 3, 4, 5, 1, 0] rfl)
      · have hM : tr_M D A s.heap H locs (tr_wX h ad cd tc c1 st tm wk bs bt rn ri) := hM
        refine tw_if_ne (tgt := 26) hx hb dX0_within_21 (by decide) (by omega) (fun c_6 => absurd c_6 (by decide)) (fun c_6 => ?_)
        refine lv_iconst (v := (-1)) hx hb dX0_within_24 (by decide +kernel) ?_
        exact ret _ _ _ _ _ (bs, bt, rn, ri) dX0_within_25 rfl ⟨by unfold tx_wit; rw [if_neg]; rintro ⟨g1, g2, g3⟩; first | exact absurd g1 (by rw [hS_x1]; decide) | exact absurd g2 (by rw [hT_x2]; decide) | exact absurd g3 (by rw [hT_x3]; decide), hok⟩ hM
    · have hM : tr_M D A s.heap H locs (tr_wX h ad cd tc c1 st tm wk bs bt rn ri) := hM
      refine tw_if_eq (tgt := 24) hx hb dX0_within_13 (by decide) (by omega) (fun c_7 => ?_) (fun c_7 => absurd c_7 (by decide))
      refine lv_iconst (v := (-1)) hx hb dX0_within_24 (by decide +kernel) ?_
      exact ret _ _ _ _ _ (bs, bt, rn, ri) dX0_within_25 rfl ⟨by unfold tx_wit; rw [if_neg]; rintro ⟨g1, g2, g3⟩; first | exact absurd g1 (by rw [hS_x1]; decide) | exact absurd g2 (by rw [hT_x2]; decide) | exact absurd g3 (by rw [hT_x3]; decide), hok⟩ hM
  · have hM : tr_M D A s.heap H locs (tr_wX h ad cd tc c1 st tm wk bs bt rn ri) := hM
    refine tw_if_eq (tgt := 24) hx hb dX0_within_5 (by decide) (by omega) (fun c_8 => ?_) (fun c_8 => absurd c_8 (by decide))
    refine lv_iconst (v := (-1)) hx hb dX0_within_24 (by decide +kernel) ?_
    exact ret _ _ _ _ _ (bs, bt, rn, ri) dX0_within_25 rfl ⟨by unfold tx_wit; rw [if_neg]; rintro ⟨g1, g2, g3⟩; first | exact absurd g1 (by rw [hS_x1]; decide) | exact absurd g2 (by rw [hT_x2]; decide) | exact absurd g3 (by rw [hT_x3]; decide), hok⟩ hM
end
section
set_option maxRecDepth 100000
set_option maxHeartbeats 4000000 in
/-- X1.isStop -/
theorem tm_isStop (l : Launch) (D : va_G) {h : Nat} {ad : Nat → Nat} {cd : Nat → ClassId} {tc : Nat} {c1 st tm wk fo th : Nat → Nat} {x : Int32} : tr_MI l yX1_isStop cX1_isStop 2 .boolean tr_r0 D (tr_tM cd) [.ref h, .int x] (tr_wM h ad cd tc c1 st tm wk fo th) (fun (v : Int32) (u : Unit) => (v = nI 1 ∧ tr_S x = true ∧ ∃ k : Nat, k < 8 ∧ x = nI k) ∨ (v = nI 0 ∧ tr_S x = false)) (fun (u : Unit) => (tr_wM h ad cd tc c1 st tm wk fo th)) := by
  refine tr_MI_mk (own := RX1) rfl (by decide +kernel) (Nat.le_of_ble_eq_true rfl) ?_
  intro p e s m args below meth c A Q hC hA hM ret ls hl
  have hx := hC.1.1
  have hb := hC.1.2.1
  have hown := hC.1.2.2.2.1
  have hts := hC.1.2.2.2.2
  have hl : lv_has ls 2 [(0, .ref h), (1, .int x)] := hl
  refine lv_iload_n hx hb dX1_isStop_0 rfl (lv_at hl 1 rfl) ?_
  refine lv_if_lt (tgt := 14) hx hb dX1_isStop_1 (by decide) (fun c_1 => ?_) (fun c_1 => ?_)
  · refine lv_iconst (v := nI 0) hx hb dX1_isStop_14 (by decide +kernel) ?_
    exact ret _ _ _ _ _ () dX1_isStop_15 rfl (Or.inr ⟨rfl, by first | exact tr_S_neg c_1 | exact tr_S_ge c_1 c_2⟩) hM
  · refine lv_iload_n hx hb dX1_isStop_4 rfl (lv_at hl 1 rfl) ?_
    refine lv_bipush (v := nI 8) hx hb dX1_isStop_5 (by decide +kernel) ?_
    refine lv_icmp_ge (tgt := 14) hx hb dX1_isStop_7 (by decide) (fun c_2 => ?_) (fun c_2 => ?_)
    · refine lv_iconst (v := nI 0) hx hb dX1_isStop_14 (by decide +kernel) ?_
      exact ret _ _ _ _ _ () dX1_isStop_15 rfl (Or.inr ⟨rfl, by first | exact tr_S_neg c_1 | exact tr_S_ge c_1 c_2⟩) hM
    · refine lv_iconst (v := nI 1) hx hb dX1_isStop_10 (by decide +kernel) ?_
      refine lv_goto (tgt := 15) hx hb dX1_isStop_11 (by decide) ?_
      exact ret _ _ _ _ _ () dX1_isStop_15 rfl (Or.inl ⟨rfl, tr_S_lt c_1 c_2⟩) hM
set_option maxHeartbeats 4000000 in
/-- X1.isTime -/
theorem tm_isTime (l : Launch) (D : va_G) {h : Nat} {ad : Nat → Nat} {cd : Nat → ClassId} {tc : Nat} {c1 st tm wk fo th : Nat → Nat} {x : Int32} : tr_MI l yX1_isTime cX1_isTime 2 .boolean tr_r0 D (tr_tM cd) [.ref h, .int x] (tr_wM h ad cd tc c1 st tm wk fo th) (fun (v : Int32) (u : Unit) => (v = nI 1 ∧ tr_T x = true ∧ ∃ k : Nat, k ≤ 999 ∧ x = nI k) ∨ (v = nI 0 ∧ tr_T x = false)) (fun (u : Unit) => (tr_wM h ad cd tc c1 st tm wk fo th)) := by
  refine tr_MI_mk (own := RX1) rfl (by decide +kernel) (Nat.le_of_ble_eq_true rfl) ?_
  intro p e s m args below meth c A Q hC hA hM ret ls hl
  have hx := hC.1.1
  have hb := hC.1.2.1
  have hown := hC.1.2.2.2.1
  have hts := hC.1.2.2.2.2
  have hl : lv_has ls 2 [(0, .ref h), (1, .int x)] := hl
  refine lv_iload_n hx hb dX1_isTime_0 rfl (lv_at hl 1 rfl) ?_
  refine lv_if_lt (tgt := 15) hx hb dX1_isTime_1 (by decide) (fun c_1 => ?_) (fun c_1 => ?_)
  · refine lv_iconst (v := nI 0) hx hb dX1_isTime_15 (by decide +kernel) ?_
    exact ret _ _ _ _ _ () dX1_isTime_16 rfl (Or.inr ⟨rfl, by first | exact tr_T_neg c_1 | exact tr_T_gt c_1 c_2⟩) hM
  · refine lv_iload_n hx hb dX1_isTime_4 rfl (lv_at hl 1 rfl) ?_
    refine lv_sipush (v := nI 999) hx hb dX1_isTime_5 (by decide +kernel) ?_
    refine lv_icmp_gt (tgt := 15) hx hb dX1_isTime_8 (by decide) (fun c_2 => ?_) (fun c_2 => ?_)
    · refine lv_iconst (v := nI 0) hx hb dX1_isTime_15 (by decide +kernel) ?_
      exact ret _ _ _ _ _ () dX1_isTime_16 rfl (Or.inr ⟨rfl, by first | exact tr_T_neg c_1 | exact tr_T_gt c_1 c_2⟩) hM
    · refine lv_iconst (v := nI 1) hx hb dX1_isTime_11 (by decide +kernel) ?_
      refine lv_goto (tgt := 16) hx hb dX1_isTime_12 (by decide) ?_
      exact ret _ _ _ _ _ () dX1_isTime_16 rfl (Or.inl ⟨rfl, tr_T_le c_1 c_2⟩) hM
set_option maxHeartbeats 4000000 in
/-- X1.walkOn -/
theorem tm_walkOn (l : Launch) (D : va_G) {h : Nat} {ad : Nat → Nat} {cd : Nat → ClassId} {tc : Nat} {c1 st tm wk fo th : Nat → Nat} {r : Nat} (hr : r ≤ 10) (hwk : ∀ j, wk j ≤ 99) (hfo : ∀ j, fo j ≤ 100000) (hth : ∀ j, th j ≤ 100000) : tr_MV l yX1_walkOn cX1_walkOn 6 tr_r0 D (tr_tM cd) [.ref h, .int (nI r)] (tr_wM h ad cd tc c1 st tm wk fo th) (fun (u : Nat → Nat) => u = tm_w wk fo r th 8 ∧ ∀ j, u j ≤ 100000) (fun (u : Nat → Nat) => (tr_wM h ad cd tc c1 st tm wk fo u)) := by
  refine tr_MV_mk (own := RX1) rfl (by decide +kernel) (Nat.le_of_ble_eq_true rfl) ?_
  intro p e s m args below meth c A Q hC hA hM ret ls hl
  have hx := hC.1.1
  have hb := hC.1.2.1
  have hown := hC.1.2.2.2.1
  have hts := hC.1.2.2.2.2
  have hl : lv_has ls 6 [(0, .ref h), (1, .int (nI r))] := hl
  refine lv_iconst (v := nI 0) hx hb dX1_walkOn_0 (by decide +kernel) ?_
  refine lv_istore_n (lv' := [(2, .int (nI 0)), (0, .ref h), (1, .int (nI r))]) hx hb dX1_walkOn_1 rfl hl (by decide) rfl (fun ls hl => ?_)
  have lp_1 : ∀ (n_1 : Nat) (q : Nat) (t1 : Nat → Nat) (H : Heap) (locs : List Loc) (ls : Array Slot), (q ≤ 8) → (9 ≤ q + n_1) → (t1 = tm_w wk fo r th q) → (∀ j, t1 j ≤ 100000) → tr_M D A s.heap H locs (tr_wM h ad cd tc c1 st tm wk fo t1) → lv_has ls 6 [(0, .ref h), (1, .int (nI r)), (2, .int (nI q))] → W p l e tr_r0 s m args below meth c H locs 0 0 Q (F0 m 2 ls []) := by
    intro n_1
    induction n_1 with
    | zero => intro q t1 H locs ls h1 h2; exact absurd h2 (by omega)
    | succ n_1 ih_1 =>
      intro q t1 H locs ls h1 h2 et1 ht1 hM hl
      refine lv_iload_n hx hb dX1_walkOn_2 rfl (lv_at hl 2 rfl) ?_
      refine lv_bipush (v := nI 8) hx hb dX1_walkOn_3 (by decide +kernel) ?_
      refine tw_icmp_ge (tgt := 108) hx hb dX1_walkOn_5 (by decide) (by omega) (by omega) (fun c_1 => ?_) (fun c_1 => ?_)
      · exact ret _ _ _ _ t1 dX1_walkOn_108 ⟨by rw [et1, show q = 8 by omega], ht1⟩ hM
      · refine lv_aload_n hx hb dX1_walkOn_8 rfl (lv_at hl 0 rfl) ?_
        refine tm_get_fo hC hM dX1_walkOn_9 ?_
        refine lv_iload_n hx hb dX1_walkOn_12 rfl (lv_at hl 1 rfl) ?_
        refine lv_bipush (v := nI 8) hx hb dX1_walkOn_13 (by decide +kernel) ?_
        refine tw_imul hx hb dX1_walkOn_15 ?_
        refine tw_eq (Nat.mul_comm _ _) ?_
        refine lv_iload_n hx hb dX1_walkOn_16 rfl (lv_at hl 2 rfl) ?_
        refine tw_iadd hx hb dX1_walkOn_17 ?_
        refine tm_ld_fo hC hM (by omega) dX1_walkOn_18 ?_
        have hv_1 := hfo (8 * r + q)
        refine lv_istore_n (lv' := [(3, .int (nI (fo (8 * r + q)))), (0, .ref h), (1, .int (nI r)), (2, .int (nI q))]) hx hb dX1_walkOn_19 rfl hl (by decide) rfl (fun ls hl => ?_)
        refine lv_iconst (v := nI 0) hx hb dX1_walkOn_20 (by decide +kernel) ?_
        refine lv_istore (lv' := [(4, .int (nI 0)), (3, .int (nI (fo (8 * r + q)))), (0, .ref h), (1, .int (nI r)), (2, .int (nI q))]) hx hb dX1_walkOn_21 hl (by decide) rfl (fun ls hl => ?_)
        have lp_2 : ∀ (n_2 : Nat) (g : Nat) (b : Nat) (H : Heap) (locs : List Loc) (ls : Array Slot), (g ≤ 8) → (9 ≤ g + n_2) → (b = tm_wi wk fo r q (fo (8 * r + q)) g) → (b ≤ 100000) → tr_M D A s.heap H locs (tr_wM h ad cd tc c1 st tm wk fo t1) → lv_has ls 6 [(0, .ref h), (1, .int (nI r)), (2, .int (nI q)), (3, .int (nI b)), (4, .int (nI g))] → W p l e tr_r0 s m args below meth c H locs 0 0 Q (F0 m 23 ls []) := by
          intro n_2
          induction n_2 with
          | zero => intro g b H locs ls h3 h4; exact absurd h4 (by omega)
          | succ n_2 ih_2 =>
            intro g b H locs ls h3 h4 eb hbz hM hl
            refine lv_iload hx hb dX1_walkOn_23 (lv_at hl 4 rfl) ?_
            refine lv_bipush (v := nI 8) hx hb dX1_walkOn_25 (by decide +kernel) ?_
            refine tw_icmp_ge (tgt := 90) hx hb dX1_walkOn_27 (by decide) (by omega) (by omega) (fun c_2 => ?_) (fun c_2 => ?_)
            · refine lv_aload_n hx hb dX1_walkOn_90 rfl (lv_at hl 0 rfl) ?_
              refine tm_get_th hC hM dX1_walkOn_91 ?_
              refine lv_iload_n hx hb dX1_walkOn_94 rfl (lv_at hl 1 rfl) ?_
              refine lv_bipush (v := nI 8) hx hb dX1_walkOn_95 (by decide +kernel) ?_
              refine tw_imul hx hb dX1_walkOn_97 ?_
              refine tw_eq (Nat.mul_comm _ _) ?_
              refine lv_iload_n hx hb dX1_walkOn_98 rfl (lv_at hl 2 rfl) ?_
              refine tw_iadd hx hb dX1_walkOn_99 ?_
              refine lv_iload_n hx hb dX1_walkOn_100 rfl (lv_at hl 3 rfl) ?_
              refine tm_st_th hC hM (by omega) dX1_walkOn_101 (fun H locs hM => ?_)
              refine lv_iinc (v := nI (q + 1)) (lv' := [(2, .int (nI (q + 1))), (0, .ref h), (1, .int (nI r)), (3, .int (nI b)), (4, .int (nI g))]) hx hb dX1_walkOn_102 hl (k := 2) rfl (tr_inc q) (by decide) rfl (fun ls hl => ?_)
              refine lv_goto (tgt := 2) hx hb dX1_walkOn_105 (by decide) ?_
              exact ih_1 (q + 1) (tr_up t1 (8 * r + q) b) _ _ _ (by omega) (by omega) (tr_it_n et1 (by rw [eb, show g = 8 by omega])) (tr_up_le ht1 (by omega)) hM (lv_sub hl [1, 2, 0] rfl)
            · refine lv_aload_n hx hb dX1_walkOn_30 rfl (lv_at hl 0 rfl) ?_
              refine tm_get_wk hC hM dX1_walkOn_31 ?_
              refine lv_iload hx hb dX1_walkOn_34 (lv_at hl 4 rfl) ?_
              refine lv_bipush (v := nI 8) hx hb dX1_walkOn_36 (by decide +kernel) ?_
              refine tw_imul hx hb dX1_walkOn_38 ?_
              refine tw_eq (Nat.mul_comm _ _) ?_
              refine lv_iload_n hx hb dX1_walkOn_39 rfl (lv_at hl 2 rfl) ?_
              refine tw_iadd hx hb dX1_walkOn_40 ?_
              refine tm_ld_wk hC hM (by omega) dX1_walkOn_41 ?_
              have hv_2 := hwk (8 * g + q)
              refine lv_istore (lv' := [(5, .int (nI (wk (8 * g + q)))), (0, .ref h), (1, .int (nI r)), (2, .int (nI q)), (3, .int (nI b)), (4, .int (nI g))]) hx hb dX1_walkOn_42 hl (by decide) rfl (fun ls hl => ?_)
              refine lv_iload hx hb dX1_walkOn_44 (lv_at hl 0 rfl) ?_
              refine tw_if_le (tgt := 84) hx hb dX1_walkOn_46 (by decide) (by omega) (fun c_3 => ?_) (fun c_3 => ?_)
              · refine lv_iinc (v := nI (g + 1)) (lv' := [(4, .int (nI (g + 1))), (5, .int (nI (wk (8 * g + q)))), (0, .ref h), (1, .int (nI r)), (2, .int (nI q)), (3, .int (nI b))]) hx hb dX1_walkOn_84 hl (k := 5) rfl (tr_inc g) (by decide) rfl (fun ls hl => ?_)
                refine lv_goto (tgt := 23) hx hb dX1_walkOn_87 (by decide) ?_
                exact ih_2 (g + 1) b _ _ _ (by omega) (by omega) (tr_it_n eb (if_neg (by omega)).symm) (by omega) hM (lv_sub hl [2, 3, 4, 5, 0] rfl)
              · refine lv_aload_n hx hb dX1_walkOn_49 rfl (lv_at hl 1 rfl) ?_
                refine tm_get_fo hC hM dX1_walkOn_50 ?_
                refine lv_iload_n hx hb dX1_walkOn_53 rfl (lv_at hl 2 rfl) ?_
                refine lv_bipush (v := nI 8) hx hb dX1_walkOn_54 (by decide +kernel) ?_
                refine tw_imul hx hb dX1_walkOn_56 ?_
                refine tw_eq (Nat.mul_comm _ _) ?_
                refine lv_iload hx hb dX1_walkOn_57 (lv_at hl 5 rfl) ?_
                refine tw_iadd hx hb dX1_walkOn_59 ?_
                refine tm_ld_fo hC hM (by omega) dX1_walkOn_60 ?_
                have hv_3 := hfo (8 * r + g)
                refine lv_iload hx hb dX1_walkOn_61 (lv_at hl 0 rfl) ?_
                refine tw_iadd hx hb dX1_walkOn_63 ?_
                refine lv_iload_n hx hb dX1_walkOn_64 rfl (lv_at hl 4 rfl) ?_
                refine tw_icmp_ge (tgt := 84) hx hb dX1_walkOn_65 (by decide) (by omega) (by omega) (fun c_4 => ?_) (fun c_4 => ?_)
                · refine lv_iinc (v := nI (g + 1)) (lv' := [(4, .int (nI (g + 1))), (5, .int (nI (wk (8 * g + q)))), (0, .ref h), (1, .int (nI r)), (2, .int (nI q)), (3, .int (nI b))]) hx hb dX1_walkOn_84 hl (k := 5) rfl (tr_inc g) (by decide) rfl (fun ls hl => ?_)
                  refine lv_goto (tgt := 23) hx hb dX1_walkOn_87 (by decide) ?_
                  exact ih_2 (g + 1) b _ _ _ (by omega) (by omega) (tr_it_n eb (if_neg (by omega)).symm) (by omega) hM (lv_sub hl [2, 3, 4, 5, 0] rfl)
                · refine lv_aload_n hx hb dX1_walkOn_68 rfl (lv_at hl 1 rfl) ?_
                  refine tm_get_fo hC hM dX1_walkOn_69 ?_
                  refine lv_iload_n hx hb dX1_walkOn_72 rfl (lv_at hl 2 rfl) ?_
                  refine lv_bipush (v := nI 8) hx hb dX1_walkOn_73 (by decide +kernel) ?_
                  refine tw_imul hx hb dX1_walkOn_75 ?_
                  refine tw_eq (Nat.mul_comm _ _) ?_
                  refine lv_iload hx hb dX1_walkOn_76 (lv_at hl 5 rfl) ?_
                  refine tw_iadd hx hb dX1_walkOn_78 ?_
                  refine tm_ld_fo hC hM (by omega) dX1_walkOn_79 ?_
                  have hv_4 := hfo (8 * r + g)
                  refine lv_iload hx hb dX1_walkOn_80 (lv_at hl 0 rfl) ?_
                  refine tw_iadd hx hb dX1_walkOn_82 ?_
                  refine lv_istore_n (lv' := [(3, .int (nI (fo (8 * r + g) + (wk (8 * g + q))))), (5, .int (nI (wk (8 * g + q)))), (0, .ref h), (1, .int (nI r)), (2, .int (nI q)), (4, .int (nI g))]) hx hb dX1_walkOn_83 rfl hl (by decide) rfl (fun ls hl => ?_)
                  refine lv_iinc (v := nI (g + 1)) (lv' := [(4, .int (nI (g + 1))), (3, .int (nI (fo (8 * r + g) + (wk (8 * g + q))))), (5, .int (nI (wk (8 * g + q)))), (0, .ref h), (1, .int (nI r)), (2, .int (nI q))]) hx hb dX1_walkOn_84 hl (k := 5) rfl (tr_inc g) (by decide) rfl (fun ls hl => ?_)
                  refine lv_goto (tgt := 23) hx hb dX1_walkOn_87 (by decide) ?_
                  exact ih_2 (g + 1) (fo (8 * r + g) + (wk (8 * g + q))) _ _ _ (by omega) (by omega) (tr_it_n eb (if_pos (by omega)).symm) (by omega) hM (lv_sub hl [3, 4, 5, 1, 0] rfl)
        exact lp_2 9 0 (fo (8 * r + q)) _ _ _ (by omega) (by omega) rfl (by omega) hM (lv_sub hl [2, 3, 4, 1, 0] rfl)
  exact lp_1 9 0 th _ _ _ (by omega) (by omega) rfl hth hM (lv_sub hl [1, 2, 0] rfl)
set_option maxHeartbeats 4000000 in
/-- X1.ride -/
theorem tm_rideM (l : Launch) (D : va_G) {h : Nat} {ad : Nat → Nat} {cd : Nat → ClassId} {tc : Nat} {c1 st tm wk fo th : Nat → Nat} {r i k : Nat} (hI : tr_I tc c1 st tm wk) (hr1 : 1 ≤ r) (hr2 : r ≤ 10) (hi : i < tc) (hk : k < c1 i) (hfo : ∀ j, fo j ≤ 100000) (hth : ∀ j, th j ≤ 100000) : tr_MV l yX1_ride cX1_ride 6 tr_r0 D (tr_tM cd) [.ref h, .int (nI r), .int (nI i), .int (nI k)] (tr_wM h ad cd tc c1 st tm wk fo th) (fun (u : Nat → Nat) => u = tm_ride c1 st tm th r i k fo ∧ ∀ j, u j ≤ 100000) (fun (u : Nat → Nat) => (tr_wM h ad cd tc c1 st tm wk u th)) := by
  refine tr_MV_mk (own := RX1) rfl (by decide +kernel) (Nat.le_of_ble_eq_true rfl) ?_
  intro p e s m args below meth c A Q hC hA hM ret ls hl
  have hx := hC.1.1
  have hb := hC.1.2.1
  have hown := hC.1.2.2.2.1
  have hts := hC.1.2.2.2.2
  have hl : lv_has ls 6 [(0, .ref h), (1, .int (nI r)), (2, .int (nI i)), (3, .int (nI k))] := hl
  obtain ⟨htc, hc1, hc0, hst, htm, hwk, hmo⟩ := hI
  have hci := hc1 i
  refine lv_aload_n hx hb dX1_ride_0 rfl (lv_at hl 0 rfl) ?_
  refine tm_get_th hC hM dX1_ride_1 ?_
  refine lv_iload_n hx hb dX1_ride_4 rfl (lv_at hl 1 rfl) ?_
  refine lv_iconst (v := nI 1) hx hb dX1_ride_5 (by decide +kernel) ?_
  refine tw_isub hx hb dX1_ride_6 (by omega) ?_
  refine lv_bipush (v := nI 8) hx hb dX1_ride_7 (by decide +kernel) ?_
  refine tw_imul hx hb dX1_ride_9 ?_
  refine tw_eq (Nat.mul_comm _ _) ?_
  refine lv_aload_n hx hb dX1_ride_10 rfl (lv_at hl 0 rfl) ?_
  refine tm_get_st hC hM dX1_ride_11 ?_
  refine lv_iload_n hx hb dX1_ride_14 rfl (lv_at hl 2 rfl) ?_
  refine lv_iconst (v := nI 5) hx hb dX1_ride_15 (by decide +kernel) ?_
  refine tw_imul hx hb dX1_ride_16 ?_
  refine tw_eq (Nat.mul_comm _ _) ?_
  refine lv_iload_n hx hb dX1_ride_17 rfl (lv_at hl 3 rfl) ?_
  refine tw_iadd hx hb dX1_ride_18 ?_
  refine tm_ld_st hC hM (by omega) dX1_ride_19 ?_
  have hv_1 := hst (5 * i + k)
  refine tw_iadd hx hb dX1_ride_20 ?_
  refine tm_ld_th hC hM (by omega) dX1_ride_21 ?_
  have hv_2 := hth ((8 * (r - 1)) + (st (5 * i + k)))
  refine lv_aload_n hx hb dX1_ride_22 rfl (lv_at hl 0 rfl) ?_
  refine tm_get_tm hC hM dX1_ride_23 ?_
  refine lv_iload_n hx hb dX1_ride_26 rfl (lv_at hl 2 rfl) ?_
  refine lv_iconst (v := nI 5) hx hb dX1_ride_27 (by decide +kernel) ?_
  refine tw_imul hx hb dX1_ride_28 ?_
  refine tw_eq (Nat.mul_comm _ _) ?_
  refine lv_iload_n hx hb dX1_ride_29 rfl (lv_at hl 3 rfl) ?_
  refine tw_iadd hx hb dX1_ride_30 ?_
  refine tm_ld_tm hC hM (by omega) dX1_ride_31 ?_
  have hv_3 := htm (5 * i + k)
  refine tw_icmp_le (tgt := 36) hx hb dX1_ride_32 (by decide) (by omega) (by omega) (fun c_1 => ?_) (fun c_1 => ?_)
  · refine lv_iload_n hx hb dX1_ride_36 rfl (lv_at hl 3 rfl) ?_
    refine lv_iconst (v := nI 1) hx hb dX1_ride_37 (by decide +kernel) ?_
    refine tw_iadd hx hb dX1_ride_38 ?_
    refine lv_istore (lv' := [(4, .int (nI (k + 1))), (0, .ref h), (1, .int (nI r)), (2, .int (nI i)), (3, .int (nI k))]) hx hb dX1_ride_39 hl (by decide) rfl (fun ls hl => ?_)
    have lp_1 : ∀ (n_1 : Nat) (j : Nat) (f1 : Nat → Nat) (H : Heap) (locs : List Loc) (ls : Array Slot), (j ≤ c1 i - (k + 1)) → (c1 i - (k + 1) + 1 ≤ j + n_1) → (f1 = tm_ri c1 st tm r i k fo j) → (∀ j, f1 j ≤ 100000) → tr_M D A s.heap H locs (tr_wM h ad cd tc c1 st tm wk f1 th) → lv_has ls 6 [(0, .ref h), (1, .int (nI r)), (2, .int (nI i)), (3, .int (nI k)), (4, .int (nI (k + 1 + j)))] → W p l e tr_r0 s m args below meth c H locs 0 0 Q (F0 m 41 ls []) := by
      intro n_1
      induction n_1 with
      | zero => intro j f1 H locs ls h1 h2; exact absurd h2 (by omega)
      | succ n_1 ih_1 =>
        intro j f1 H locs ls h1 h2 ef hf1 hM hl
        refine lv_iload hx hb dX1_ride_41 (lv_at hl 4 rfl) ?_
        refine lv_aload_n hx hb dX1_ride_43 rfl (lv_at hl 0 rfl) ?_
        refine tm_get_c1 hC hM dX1_ride_44 ?_
        refine lv_iload_n hx hb dX1_ride_47 rfl (lv_at hl 2 rfl) ?_
        refine tm_ld_c1 hC hM (by omega) dX1_ride_48 ?_
        have hv_4 := hc1 i
        refine tw_icmp_ge (tgt := 115) hx hb dX1_ride_49 (by decide) (by omega) (by omega) (fun c_2 => ?_) (fun c_2 => ?_)
        · exact ret _ _ _ _ f1 dX1_ride_115 ⟨by unfold tm_ride; rw [if_neg (by omega), ef, show j = c1 i - (k + 1) by omega], hf1⟩ hM
        · refine lv_iload_n hx hb dX1_ride_52 rfl (lv_at hl 1 rfl) ?_
          refine lv_bipush (v := nI 8) hx hb dX1_ride_53 (by decide +kernel) ?_
          refine tw_imul hx hb dX1_ride_55 ?_
          refine tw_eq (Nat.mul_comm _ _) ?_
          refine lv_aload_n hx hb dX1_ride_56 rfl (lv_at hl 0 rfl) ?_
          refine tm_get_st hC hM dX1_ride_57 ?_
          refine lv_iload_n hx hb dX1_ride_60 rfl (lv_at hl 2 rfl) ?_
          refine lv_iconst (v := nI 5) hx hb dX1_ride_61 (by decide +kernel) ?_
          refine tw_imul hx hb dX1_ride_62 ?_
          refine tw_eq (Nat.mul_comm _ _) ?_
          refine lv_iload hx hb dX1_ride_63 (lv_at hl 4 rfl) ?_
          refine tw_iadd hx hb dX1_ride_65 ?_
          refine tm_ld_st hC hM (by omega) dX1_ride_66 ?_
          have hv_5 := hst (5 * i + (k + 1 + j))
          refine tw_iadd hx hb dX1_ride_67 ?_
          refine lv_istore (lv' := [(5, .int (nI (8 * r + (st (5 * i + (k + 1 + j)))))), (0, .ref h), (1, .int (nI r)), (2, .int (nI i)), (3, .int (nI k)), (4, .int (nI (k + 1 + j)))]) hx hb dX1_ride_68 hl (by decide) rfl (fun ls hl => ?_)
          refine lv_aload_n hx hb dX1_ride_70 rfl (lv_at hl 1 rfl) ?_
          refine tm_get_tm hC hM dX1_ride_71 ?_
          refine lv_iload_n hx hb dX1_ride_74 rfl (lv_at hl 3 rfl) ?_
          refine lv_iconst (v := nI 5) hx hb dX1_ride_75 (by decide +kernel) ?_
          refine tw_imul hx hb dX1_ride_76 ?_
          refine tw_eq (Nat.mul_comm _ _) ?_
          refine lv_iload hx hb dX1_ride_77 (lv_at hl 5 rfl) ?_
          refine tw_iadd hx hb dX1_ride_79 ?_
          refine tm_ld_tm hC hM (by omega) dX1_ride_80 ?_
          have hv_6 := htm (5 * i + (k + 1 + j))
          refine lv_aload_n hx hb dX1_ride_81 rfl (lv_at hl 1 rfl) ?_
          refine tm_get_fo hC hM dX1_ride_82 ?_
          refine lv_iload hx hb dX1_ride_85 (lv_at hl 0 rfl) ?_
          refine tm_ld_fo hC hM (by omega) dX1_ride_87 ?_
          have hv_7 := hf1 (8 * r + (st (5 * i + (k + 1 + j))))
          refine tw_icmp_ge (tgt := 109) hx hb dX1_ride_88 (by decide) (by omega) (by omega) (fun c_3 => ?_) (fun c_3 => ?_)
          · refine lv_iinc (v := nI (k + 1 + j + 1)) (lv' := [(4, .int (nI (k + 1 + j + 1))), (5, .int (nI (8 * r + (st (5 * i + (k + 1 + j)))))), (0, .ref h), (1, .int (nI r)), (2, .int (nI i)), (3, .int (nI k))]) hx hb dX1_ride_109 hl (k := 5) rfl (tr_inc (k + 1 + j)) (by decide) rfl (fun ls hl => ?_)
            refine lv_goto (tgt := 41) hx hb dX1_ride_112 (by decide) ?_
            exact ih_1 (j + 1) f1 _ _ _ (by omega) (by omega) (tr_it_n ef (if_neg (by omega)).symm) hf1 hM (lv_sub hl [2, 3, 4, 5, 0] rfl)
          · refine lv_aload_n hx hb dX1_ride_91 rfl (lv_at hl 1 rfl) ?_
            refine tm_get_fo hC hM dX1_ride_92 ?_
            refine lv_iload hx hb dX1_ride_95 (lv_at hl 0 rfl) ?_
            refine lv_aload_n hx hb dX1_ride_97 rfl (lv_at hl 1 rfl) ?_
            refine tm_get_tm hC hM dX1_ride_98 ?_
            refine lv_iload_n hx hb dX1_ride_101 rfl (lv_at hl 3 rfl) ?_
            refine lv_iconst (v := nI 5) hx hb dX1_ride_102 (by decide +kernel) ?_
            refine tw_imul hx hb dX1_ride_103 ?_
            refine tw_eq (Nat.mul_comm _ _) ?_
            refine lv_iload hx hb dX1_ride_104 (lv_at hl 5 rfl) ?_
            refine tw_iadd hx hb dX1_ride_106 ?_
            refine tm_ld_tm hC hM (by omega) dX1_ride_107 ?_
            have hv_8 := htm (5 * i + (k + 1 + j))
            refine tm_st_fo hC hM (by omega) dX1_ride_108 (fun H locs hM => ?_)
            refine lv_iinc (v := nI (k + 1 + j + 1)) (lv' := [(4, .int (nI (k + 1 + j + 1))), (5, .int (nI (8 * r + (st (5 * i + (k + 1 + j)))))), (0, .ref h), (1, .int (nI r)), (2, .int (nI i)), (3, .int (nI k))]) hx hb dX1_ride_109 hl (k := 5) rfl (tr_inc (k + 1 + j)) (by decide) rfl (fun ls hl => ?_)
            refine lv_goto (tgt := 41) hx hb dX1_ride_112 (by decide) ?_
            exact ih_1 (j + 1) (tr_up f1 (8 * r + (st (5 * i + (k + 1 + j)))) (tm (5 * i + (k + 1 + j)))) _ _ _ (by omega) (by omega) (tr_it_n ef (if_pos (by omega)).symm) (tr_up_le hf1 (by omega)) hM (lv_sub hl [2, 3, 4, 5, 0] rfl)
    exact lp_1 (c1 i - (k + 1) + 1) 0 fo _ _ _ (by omega) (by omega) rfl hfo hM (lv_sub hl [1, 2, 3, 4, 0] rfl)
  · exact ret _ _ _ _ fo dX1_ride_35 ⟨by unfold tm_ride; rw [if_pos (by omega)], hfo⟩ hM
set_option maxHeartbeats 4000000 in
/-- X1.search -/
theorem tm_searchM (l : Launch) (D : va_G) {h : Nat} {ad : Nat → Nat} {cd : Nat → ClassId} {tc : Nat} {c1 st tm wk fo th : Nat → Nat} {a t : Nat} (hI : tr_I tc c1 st tm wk) (ha : a < 8) (ht : t ≤ 999) (hfo : ∀ j, fo j ≤ 100000) (hth : ∀ j, th j ≤ 100000) : tr_MV l yX1_search cX1_search 5 tr_r1 D (tr_tM cd) [.ref h, .int (nI a), .int (nI t)] (tr_wM h ad cd tc c1 st tm wk fo th) (fun (u : tm_Q) => u = tm_search tc c1 st tm wk a t fo th 10 ∧ tm_ok u) (fun (u : tm_Q) => (tr_wM h ad cd tc c1 st tm wk u.1 u.2)) := by
  refine tr_MV_mk (own := RX1) rfl (by decide +kernel) (Nat.le_of_ble_eq_true rfl) ?_
  intro p e s m args below meth c A Q hC hA hM ret ls hl
  have hx := hC.1.1
  have hb := hC.1.2.1
  have hown := hC.1.2.2.2.1
  have hts := hC.1.2.2.2.2
  have hl : lv_has ls 5 [(0, .ref h), (1, .int (nI a)), (2, .int (nI t))] := hl
  have hJ := hI
  obtain ⟨htc, hc1, hc0, hst, htm, hwk, hmo⟩ := hI
  refine lv_iconst (v := nI 0) hx hb dX1_search_0 (by decide +kernel) ?_
  refine lv_istore_n (lv' := [(3, .int (nI 0)), (0, .ref h), (1, .int (nI a)), (2, .int (nI t))]) hx hb dX1_search_1 rfl hl (by decide) rfl (fun ls hl => ?_)
  have lp_1 : ∀ (n_1 : Nat) (q : Nat) (f1 : Nat → Nat) (H : Heap) (locs : List Loc) (ls : Array Slot), (q ≤ 88) → (89 ≤ q + n_1) → (f1 = tm_init a t fo q) → (∀ j, f1 j ≤ 100000) → tr_M D A s.heap H locs (tr_wM h ad cd tc c1 st tm wk f1 th) → lv_has ls 5 [(0, .ref h), (1, .int (nI a)), (2, .int (nI t)), (3, .int (nI q))] → W p l e tr_r1 s m args below meth c H locs 0 0 Q (F0 m 2 ls []) := by
    intro n_1
    induction n_1 with
    | zero => intro q f1 H locs ls h1 h2; exact absurd h2 (by omega)
    | succ n_1 ih_1 =>
      intro q f1 H locs ls h1 h2 ef1 hf1 hM hl
      refine lv_iload_n hx hb dX1_search_2 rfl (lv_at hl 3 rfl) ?_
      refine lv_bipush (v := nI 88) hx hb dX1_search_3 (by decide +kernel) ?_
      refine tw_icmp_ge (tgt := 31) hx hb dX1_search_5 (by decide) (by omega) (by omega) (fun c_1 => ?_) (fun c_1 => ?_)
      · refine lv_aload_n hx hb dX1_search_31 rfl (lv_at hl 0 rfl) ?_
        refine lv_iconst (v := nI 0) hx hb dX1_search_32 (by decide +kernel) ?_
        refine tm_callV (tm_walkOn l D (r := 0) (by omega) hwk hf1 hth) hC (cwV 1 hts (lw_V q189 q191 qs10 q15 q192) rfl rfl rfl (by decide +kernel) ⟨Nat.le_of_ble_eq_true rfl, Nat.le_of_ble_eq_true rfl⟩) hA hM rfl hl.1 rfl (Nat.le_of_ble_eq_true rfl) ⟨Nat.le_of_ble_eq_true rfl, Nat.le_of_ble_eq_true rfl⟩ dX1_search_33 (fun t1 H locs hp hM => ?_)
        obtain ⟨et1, ht1⟩ := hp
        have hM : tr_M D A s.heap H locs (tr_wM h ad cd tc c1 st tm wk f1 t1) := hM
        refine lv_iconst (v := nI 1) hx hb dX1_search_36 (by decide +kernel) ?_
        refine lv_istore_n (lv' := [(3, .int (nI 1)), (0, .ref h), (1, .int (nI a)), (2, .int (nI t))]) hx hb dX1_search_37 rfl hl (by decide) rfl (fun ls hl => ?_)
        have lp_2 : ∀ (n_2 : Nat) (r : Nat) (f2 : Nat → Nat) (t2 : Nat → Nat) (H : Heap) (locs : List Loc) (ls : Array Slot), (r ≤ 10) → (11 ≤ r + n_2) → ((f2, t2) = tm_search tc c1 st tm wk a t fo th r) → (∀ j, f2 j ≤ 100000) → (∀ j, t2 j ≤ 100000) → tr_M D A s.heap H locs (tr_wM h ad cd tc c1 st tm wk f2 t2) → lv_has ls 5 [(0, .ref h), (1, .int (nI a)), (2, .int (nI t)), (3, .int (nI (r + 1)))] → W p l e tr_r1 s m args below meth c H locs 0 0 Q (F0 m 38 ls []) := by
          intro n_2
          induction n_2 with
          | zero => intro r f2 t2 H locs ls h3 h4; exact absurd h4 (by omega)
          | succ n_2 ih_2 =>
            intro r f2 t2 H locs ls h3 h4 e2 hf2 ht2 hM hl
            refine lv_iload_n hx hb dX1_search_38 rfl (lv_at hl 3 rfl) ?_
            refine lv_bipush (v := nI 10) hx hb dX1_search_39 (by decide +kernel) ?_
            refine tw_icmp_gt (tgt := 104) hx hb dX1_search_41 (by decide) (by omega) (by omega) (fun c_2 => ?_) (fun c_2 => ?_)
            · exact ret _ _ _ _ (f2, t2) dX1_search_104 ⟨by rw [e2, show r = 10 by omega], hf2, ht2⟩ hM
            · refine lv_iconst (v := nI 0) hx hb dX1_search_44 (by decide +kernel) ?_
              refine lv_istore (lv' := [(4, .int (nI 0)), (0, .ref h), (1, .int (nI a)), (2, .int (nI t)), (3, .int (nI (r + 1)))]) hx hb dX1_search_45 hl (by decide) rfl (fun ls hl => ?_)
              have lp_3 : ∀ (n_3 : Nat) (m5 : Nat) (f3 : Nat → Nat) (H : Heap) (locs : List Loc) (ls : Array Slot), (m5 ≤ 5 * tc) → (5 * tc + 1 ≤ m5 + n_3) → (f3 = tm_rides c1 st tm t2 (r + 1) f2 m5) → (∀ j, f3 j ≤ 100000) → tr_M D A s.heap H locs (tr_wM h ad cd tc c1 st tm wk f3 t2) → lv_has ls 5 [(0, .ref h), (1, .int (nI a)), (2, .int (nI t)), (3, .int (nI (r + 1))), (4, .int (nI m5))] → W p l e tr_r1 s m args below meth c H locs 0 0 Q (F0 m 47 ls []) := by
                intro n_3
                induction n_3 with
                | zero => intro m5 f3 H locs ls h5 h6; exact absurd h6 (by omega)
                | succ n_3 ih_3 =>
                  intro m5 f3 H locs ls h5 h6 ef3 hf3 hM hl
                  refine lv_iload hx hb dX1_search_47 (lv_at hl 4 rfl) ?_
                  refine lv_aload_n hx hb dX1_search_49 rfl (lv_at hl 0 rfl) ?_
                  refine tm_get_tc hC hM dX1_search_50 ?_
                  refine lv_iconst (v := nI 5) hx hb dX1_search_53 (by decide +kernel) ?_
                  refine tw_imul hx hb dX1_search_54 ?_
                  refine tw_eq (Nat.mul_comm _ _) ?_
                  refine tw_icmp_ge (tgt := 93) hx hb dX1_search_55 (by decide) (by omega) (by omega) (fun c_3 => ?_) (fun c_3 => ?_)
                  · refine lv_aload_n hx hb dX1_search_93 rfl (lv_at hl 0 rfl) ?_
                    refine lv_iload_n hx hb dX1_search_94 rfl (lv_at hl 3 rfl) ?_
                    refine tm_callV (tm_walkOn l D (r := r + 1) (by omega) hwk hf3 ht2) hC (cwV 1 hts (lw_V q189 q191 qs10 q15 q192) rfl rfl rfl (by decide +kernel) ⟨Nat.le_of_ble_eq_true rfl, Nat.le_of_ble_eq_true rfl⟩) hA hM rfl hl.1 rfl (Nat.le_of_ble_eq_true rfl) ⟨Nat.le_of_ble_eq_true rfl, Nat.le_of_ble_eq_true rfl⟩ dX1_search_95 (fun t4 H locs hp hM => ?_)
                    obtain ⟨et4, ht4⟩ := hp
                    have hM : tr_M D A s.heap H locs (tr_wM h ad cd tc c1 st tm wk f3 t4) := hM
                    refine lv_iinc (v := nI (r + 1 + 1)) (lv' := [(3, .int (nI (r + 1 + 1))), (0, .ref h), (1, .int (nI a)), (2, .int (nI t)), (4, .int (nI m5))]) hx hb dX1_search_98 hl (k := 3) rfl (tr_inc (r + 1)) (by decide) rfl (fun ls hl => ?_)
                    refine lv_goto (tgt := 38) hx hb dX1_search_101 (by decide) ?_
                    exact ih_2 (r + 1) f3 t4 _ _ _ (by omega) (by omega) (tr_it_n e2 (tm_round_e (by rw [ef3, show m5 = 5 * tc by omega]) et4)) hf3 ht4 hM (lv_sub hl [1, 2, 3, 0] rfl)
                  · refine lv_iload hx hb dX1_search_58 (lv_at hl 4 rfl) ?_
                    refine lv_iconst (v := nI 5) hx hb dX1_search_60 (by decide +kernel) ?_
                    refine tw_irem hx hb dX1_search_61 (by omega) (by omega) (by omega) ?_
                    refine lv_aload_n hx hb dX1_search_62 rfl (lv_at hl 0 rfl) ?_
                    refine tm_get_c1 hC hM dX1_search_63 ?_
                    refine lv_iload hx hb dX1_search_66 (lv_at hl 4 rfl) ?_
                    refine lv_iconst (v := nI 5) hx hb dX1_search_68 (by decide +kernel) ?_
                    refine tw_idiv hx hb dX1_search_69 (by omega) (by omega) (by omega) ?_
                    refine tm_ld_c1 hC hM (by omega) dX1_search_70 ?_
                    have hv_1 := hc1 (m5 / 5)
                    refine tw_icmp_ge (tgt := 87) hx hb dX1_search_71 (by decide) (by omega) (by omega) (fun c_4 => ?_) (fun c_4 => ?_)
                    · refine lv_iinc (v := nI (m5 + 1)) (lv' := [(4, .int (nI (m5 + 1))), (0, .ref h), (1, .int (nI a)), (2, .int (nI t)), (3, .int (nI (r + 1)))]) hx hb dX1_search_87 hl (k := 4) rfl (tr_inc m5) (by decide) rfl (fun ls hl => ?_)
                      refine lv_goto (tgt := 47) hx hb dX1_search_90 (by decide) ?_
                      exact ih_3 (m5 + 1) f3 _ _ _ (by omega) (by omega) (tr_it_n ef3 (if_neg (by omega)).symm) hf3 hM (lv_sub hl [1, 2, 3, 4, 0] rfl)
                    · refine lv_aload_n hx hb dX1_search_74 rfl (lv_at hl 0 rfl) ?_
                      refine lv_iload_n hx hb dX1_search_75 rfl (lv_at hl 3 rfl) ?_
                      refine lv_iload hx hb dX1_search_76 (lv_at hl 4 rfl) ?_
                      refine lv_iconst (v := nI 5) hx hb dX1_search_78 (by decide +kernel) ?_
                      refine tw_idiv hx hb dX1_search_79 (by omega) (by omega) (by omega) ?_
                      refine lv_iload hx hb dX1_search_80 (lv_at hl 4 rfl) ?_
                      refine lv_iconst (v := nI 5) hx hb dX1_search_82 (by decide +kernel) ?_
                      refine tw_irem hx hb dX1_search_83 (by omega) (by omega) (by omega) ?_
                      refine tm_callV (tm_rideM l D (r := r + 1) (i := m5 / 5) (k := m5 % 5) hJ (by omega) (by omega) (by omega) (by omega) hf3 ht2) hC (cwV 3 hts (lw_V q193 q195 qs11 q15 q196) rfl rfl rfl (by decide +kernel) ⟨Nat.le_of_ble_eq_true rfl, Nat.le_of_ble_eq_true rfl⟩) hA hM rfl hl.1 rfl (Nat.le_of_ble_eq_true rfl) ⟨Nat.le_of_ble_eq_true rfl, Nat.le_of_ble_eq_true rfl⟩ dX1_search_84 (fun f4 H locs hp hM => ?_)
                      obtain ⟨ef4, hf4⟩ := hp
                      have hM : tr_M D A s.heap H locs (tr_wM h ad cd tc c1 st tm wk f4 t2) := hM
                      refine lv_iinc (v := nI (m5 + 1)) (lv' := [(4, .int (nI (m5 + 1))), (0, .ref h), (1, .int (nI a)), (2, .int (nI t)), (3, .int (nI (r + 1)))]) hx hb dX1_search_87 hl (k := 4) rfl (tr_inc m5) (by decide) rfl (fun ls hl => ?_)
                      refine lv_goto (tgt := 47) hx hb dX1_search_90 (by decide) ?_
                      exact ih_3 (m5 + 1) f4 _ _ _ (by omega) (by omega) (tr_it_n ef3 (by rw [if_pos (by omega)]; exact ef4)) hf4 hM (lv_sub hl [1, 2, 3, 4, 0] rfl)
              exact lp_3 (5 * tc + 1) 0 f2 _ _ _ (by omega) (by omega) rfl hf2 hM (lv_sub hl [1, 2, 3, 4, 0] rfl)
        exact lp_2 11 0 f1 t1 _ _ _ (by omega) (by omega) (by rw [et1, ef1, show q = 88 by omega]; rfl) hf1 ht1 hM (lv_sub hl [1, 2, 3, 0] rfl)
      · refine lv_aload_n hx hb dX1_search_8 rfl (lv_at hl 0 rfl) ?_
        refine tm_get_fo hC hM dX1_search_9 ?_
        refine lv_iload_n hx hb dX1_search_12 rfl (lv_at hl 3 rfl) ?_
        refine lv_iload_n hx hb dX1_search_13 rfl (lv_at hl 3 rfl) ?_
        refine lv_iload_n hx hb dX1_search_14 rfl (lv_at hl 1 rfl) ?_
        refine tw_icmp_ne (tgt := 22) hx hb dX1_search_15 (by decide) (by omega) (by omega) (fun c_5 => ?_) (fun c_5 => ?_)
        · refine tw_ldc hx hb hown (hts _ q188) dX1_search_22 ?_
          refine tm_st_fo hC hM (by omega) dX1_search_24 (fun H locs hM => ?_)
          refine lv_iinc (v := nI (q + 1)) (lv' := [(3, .int (nI (q + 1))), (0, .ref h), (1, .int (nI a)), (2, .int (nI t))]) hx hb dX1_search_25 hl (k := 3) rfl (tr_inc q) (by decide) rfl (fun ls hl => ?_)
          refine lv_goto (tgt := 2) hx hb dX1_search_28 (by decide) ?_
          exact ih_1 (q + 1) (tr_up f1 q 100000) _ _ _ (by omega) (by omega) (tr_it_n ef1 (by show _ = tr_up f1 q (if q = a then t else 100000); rw [if_neg (by omega)])) (tr_up_le hf1 (by omega)) hM (lv_sub hl [1, 2, 3, 0] rfl)
        · refine lv_iload_n hx hb dX1_search_18 rfl (lv_at hl 2 rfl) ?_
          refine lv_goto (tgt := 24) hx hb dX1_search_19 (by decide) ?_
          refine tm_st_fo hC hM (by omega) dX1_search_24 (fun H locs hM => ?_)
          refine lv_iinc (v := nI (q + 1)) (lv' := [(3, .int (nI (q + 1))), (0, .ref h), (1, .int (nI a)), (2, .int (nI t))]) hx hb dX1_search_25 hl (k := 3) rfl (tr_inc q) (by decide) rfl (fun ls hl => ?_)
          refine lv_goto (tgt := 2) hx hb dX1_search_28 (by decide) ?_
          exact ih_1 (q + 1) (tr_up f1 q t) _ _ _ (by omega) (by omega) (tr_it_n ef1 (by show _ = tr_up f1 q (if q = a then t else 100000); rw [if_pos (by omega)])) (tr_up_le hf1 (by omega)) hM (lv_sub hl [1, 2, 3, 0] rfl)
  exact lp_1 89 0 fo _ _ _ (by omega) (by omega) rfl hfo hM (lv_sub hl [1, 2, 3, 0] rfl)
set_option maxHeartbeats 4000000 in
/-- X1.best -/
theorem tm_bestM (l : Launch) (D : va_G) {h : Nat} {ad : Nat → Nat} {cd : Nat → ClassId} {tc : Nat} {c1 st tm wk fo th : Nat → Nat} {b n : Nat} (hb8 : b < 8) (hn : n ≤ 10) (hth : ∀ j, th j ≤ 100000) : tr_MI l yX1_best cX1_best 5 .int tr_r0 D (tr_tM cd) [.ref h, .int (nI b), .int (nI n)] (tr_wM h ad cd tc c1 st tm wk fo th) (fun (v : Int32) (u : Unit) => v = nI (tm_best th b (n + 1)) ∧ tm_best th b (n + 1) ≤ 100000) (fun (u : Unit) => (tr_wM h ad cd tc c1 st tm wk fo th)) := by
  refine tr_MI_mk (own := RX1) rfl (by decide +kernel) (Nat.le_of_ble_eq_true rfl) ?_
  intro p e s m args below meth c A Q hC hA hM ret ls hl
  have hx := hC.1.1
  have hb := hC.1.2.1
  have hown := hC.1.2.2.2.1
  have hts := hC.1.2.2.2.2
  have hl : lv_has ls 5 [(0, .ref h), (1, .int (nI b)), (2, .int (nI n))] := hl
  refine tw_ldc hx hb hown (hts _ q188) dX1_best_0 ?_
  refine lv_istore_n (lv' := [(3, .int (nI 100000)), (0, .ref h), (1, .int (nI b)), (2, .int (nI n))]) hx hb dX1_best_2 rfl hl (by decide) rfl (fun ls hl => ?_)
  refine lv_iconst (v := nI 0) hx hb dX1_best_3 (by decide +kernel) ?_
  refine lv_istore (lv' := [(4, .int (nI 0)), (3, .int (nI 100000)), (0, .ref h), (1, .int (nI b)), (2, .int (nI n))]) hx hb dX1_best_4 hl (by decide) rfl (fun ls hl => ?_)
  have lp_1 : ∀ (n_1 : Nat) (k : Nat) (z : Nat) (H : Heap) (locs : List Loc) (ls : Array Slot), (k ≤ n + 1) → (n + 2 ≤ k + n_1) → (z = tm_best th b k) → (z ≤ 100000) → tr_M D A s.heap H locs (tr_wM h ad cd tc c1 st tm wk fo th) → lv_has ls 5 [(0, .ref h), (1, .int (nI b)), (2, .int (nI n)), (3, .int (nI z)), (4, .int (nI k))] → W p l e tr_r0 s m args below meth c H locs 0 0 Q (F0 m 6 ls []) := by
    intro n_1
    induction n_1 with
    | zero => intro k z H locs ls h1 h2; exact absurd h2 (by omega)
    | succ n_1 ih_1 =>
      intro k z H locs ls h1 h2 ez hz hM hl
      refine lv_iload hx hb dX1_best_6 (lv_at hl 4 rfl) ?_
      refine lv_iload_n hx hb dX1_best_8 rfl (lv_at hl 2 rfl) ?_
      refine tw_icmp_gt (tgt := 47) hx hb dX1_best_9 (by decide) (by omega) (by omega) (fun c_1 => ?_) (fun c_1 => ?_)
      · refine lv_iload_n hx hb dX1_best_47 rfl (lv_at hl 3 rfl) ?_
        exact ret _ _ _ _ _ () dX1_best_48 rfl ⟨by rw [ez, show n + 1 = k by omega], by rw [show n + 1 = k by omega, ← ez]; exact hz⟩ hM
      · refine lv_aload_n hx hb dX1_best_12 rfl (lv_at hl 0 rfl) ?_
        refine tm_get_th hC hM dX1_best_13 ?_
        refine lv_iload hx hb dX1_best_16 (lv_at hl 4 rfl) ?_
        refine lv_bipush (v := nI 8) hx hb dX1_best_18 (by decide +kernel) ?_
        refine tw_imul hx hb dX1_best_20 ?_
        refine tw_eq (Nat.mul_comm _ _) ?_
        refine lv_iload_n hx hb dX1_best_21 rfl (lv_at hl 1 rfl) ?_
        refine tw_iadd hx hb dX1_best_22 ?_
        refine tm_ld_th hC hM (by omega) dX1_best_23 ?_
        have hv_1 := hth (8 * k + b)
        refine lv_iload_n hx hb dX1_best_24 rfl (lv_at hl 3 rfl) ?_
        refine tw_icmp_ge (tgt := 41) hx hb dX1_best_25 (by decide) (by omega) (by omega) (fun c_2 => ?_) (fun c_2 => ?_)
        · refine lv_iinc (v := nI (k + 1)) (lv' := [(4, .int (nI (k + 1))), (0, .ref h), (1, .int (nI b)), (2, .int (nI n)), (3, .int (nI z))]) hx hb dX1_best_41 hl (k := 4) rfl (tr_inc k) (by decide) rfl (fun ls hl => ?_)
          refine lv_goto (tgt := 6) hx hb dX1_best_44 (by decide) ?_
          exact ih_1 (k + 1) z _ _ _ (by omega) (by omega) (tr_it_n ez (if_neg (by omega)).symm) (by omega) hM (lv_sub hl [1, 2, 3, 4, 0] rfl)
        · refine lv_aload_n hx hb dX1_best_28 rfl (lv_at hl 0 rfl) ?_
          refine tm_get_th hC hM dX1_best_29 ?_
          refine lv_iload hx hb dX1_best_32 (lv_at hl 4 rfl) ?_
          refine lv_bipush (v := nI 8) hx hb dX1_best_34 (by decide +kernel) ?_
          refine tw_imul hx hb dX1_best_36 ?_
          refine tw_eq (Nat.mul_comm _ _) ?_
          refine lv_iload_n hx hb dX1_best_37 rfl (lv_at hl 1 rfl) ?_
          refine tw_iadd hx hb dX1_best_38 ?_
          refine tm_ld_th hC hM (by omega) dX1_best_39 ?_
          have hv_2 := hth (8 * k + b)
          refine lv_istore_n (lv' := [(3, .int (nI (th (8 * k + b)))), (0, .ref h), (1, .int (nI b)), (2, .int (nI n)), (4, .int (nI k))]) hx hb dX1_best_40 rfl hl (by decide) rfl (fun ls hl => ?_)
          refine lv_iinc (v := nI (k + 1)) (lv' := [(4, .int (nI (k + 1))), (3, .int (nI (th (8 * k + b)))), (0, .ref h), (1, .int (nI b)), (2, .int (nI n))]) hx hb dX1_best_41 hl (k := 4) rfl (tr_inc k) (by decide) rfl (fun ls hl => ?_)
          refine lv_goto (tgt := 6) hx hb dX1_best_44 (by decide) ?_
          exact ih_1 (k + 1) (th (8 * k + b)) _ _ _ (by omega) (by omega) (tr_it_n ez (if_pos (by omega)).symm) (by omega) hM (lv_sub hl [2, 3, 4, 1, 0] rfl)
  exact lp_1 (n + 2) 0 100000 _ _ _ (by omega) (by omega) rfl (by omega) hM (lv_sub hl [2, 3, 4, 1, 0] rfl)
end
section
set_option maxRecDepth 100000
set_option maxHeartbeats 4000000 in
/-- X1.trip -/
theorem tm_tripM (l : Launch) (D : va_G) {h : Nat} {ad : Nat → Nat} {cd : Nat → ClassId} {tc : Nat} {c1 st tm wk fo th : Nat → Nat} {x1 x2 : Int32} (hI : tr_I tc c1 st tm wk) : tr_MI l yX1_trip cX1_trip 3 .int tr_r1 D (tr_tM cd) [.ref h, .int x1, .int x2] (tr_wM h ad cd tc c1 st tm wk fo th) (fun (v : Int32) (u : Nat × (Nat → Nat) × (Nat → Nat) × (Nat → Nat)) => tr_trip tc c1 st tm x1 x2 = (v, u)) (fun (u : Nat × (Nat → Nat) × (Nat → Nat) × (Nat → Nat)) => (tr_wM h ad cd u.1 u.2.1 u.2.2.1 u.2.2.2 wk fo th)) := by
  refine tr_MI_mk (own := RX1) rfl (by decide +kernel) (Nat.le_of_ble_eq_true rfl) ?_
  intro p e s m args below meth c A Q hC hA hM ret ls hl
  have hx := hC.1.1
  have hb := hC.1.2.1
  have hown := hC.1.2.2.2.1
  have hts := hC.1.2.2.2.2
  have hl : lv_has ls 3 [(0, .ref h), (1, .int x1), (2, .int x2)] := hl
  obtain ⟨htc, hc1, hc0, hst, htm, hwk, hmo⟩ := hI
  refine lv_aload_n hx hb dX1_trip_0 rfl (lv_at hl 0 rfl) ?_
  refine tm_get_tc hC hM dX1_trip_1 ?_
  refine lv_bipush (v := nI 10) hx hb dX1_trip_4 (by decide +kernel) ?_
  refine tw_icmp_ne (tgt := 12) hx hb dX1_trip_6 (by decide) (by omega) (by omega) (fun c_1 => ?_) (fun c_1 => ?_)
  · refine lv_aload_n hx hb dX1_trip_12 rfl (lv_at hl 0 rfl) ?_
    refine lv_iload_n hx hb dX1_trip_13 rfl (lv_at hl 1 rfl) ?_
    refine tm_callI (tm_isStop l D (x := x1)) hC (cwV 1 hts (lw_V q156 q158 qs7 q15 q159) rfl rfl rfl (by decide +kernel) ⟨Nat.le_of_ble_eq_true rfl, Nat.le_of_ble_eq_true rfl⟩) hA hM rfl hl.1 rfl (Nat.le_of_ble_eq_true rfl) ⟨Nat.le_of_ble_eq_true rfl, Nat.le_of_ble_eq_true rfl⟩ dX1_trip_14 (fun v u H locs hp hM => ?_)
    rcases hp with ⟨rfl, hS_x1, a, hk_a, rfl⟩ | ⟨rfl, hS_x1⟩
    · have hM : tr_M D A s.heap H locs (tr_wM h ad cd tc c1 st tm wk fo th) := hM
      refine tw_if_eq (tgt := 28) hx hb dX1_trip_17 (by decide) (by omega) (fun c_2 => absurd c_2 (by decide)) (fun c_2 => ?_)
      refine lv_aload_n hx hb dX1_trip_20 rfl (lv_at hl 0 rfl) ?_
      refine lv_iload_n hx hb dX1_trip_21 rfl (lv_at hl 2 rfl) ?_
      refine tm_callI (tm_isTime l D (x := x2)) hC (cwV 1 hts (lw_V q160 q162 qs8 q15 q163) rfl rfl rfl (by decide +kernel) ⟨Nat.le_of_ble_eq_true rfl, Nat.le_of_ble_eq_true rfl⟩) hA hM rfl hl.1 rfl (Nat.le_of_ble_eq_true rfl) ⟨Nat.le_of_ble_eq_true rfl, Nat.le_of_ble_eq_true rfl⟩ dX1_trip_22 (fun v u H locs hp hM => ?_)
      rcases hp with ⟨rfl, hT_x2, b, hk_b, rfl⟩ | ⟨rfl, hT_x2⟩
      · have hM : tr_M D A s.heap H locs (tr_wM h ad cd tc c1 st tm wk fo th) := hM
        refine tw_if_ne (tgt := 30) hx hb dX1_trip_25 (by decide) (by omega) (fun c_3 => ?_) (fun c_3 => absurd c_3 (by decide))
        refine lv_aload_n hx hb dX1_trip_30 rfl (lv_at hl 0 rfl) ?_
        refine tm_get_st hC hM dX1_trip_31 ?_
        refine lv_aload_n hx hb dX1_trip_34 rfl (lv_at hl 0 rfl) ?_
        refine tm_get_tc hC hM dX1_trip_35 ?_
        refine lv_iconst (v := nI 5) hx hb dX1_trip_38 (by decide +kernel) ?_
        refine tw_imul hx hb dX1_trip_39 ?_
        refine tw_eq (Nat.mul_comm _ _) ?_
        refine lv_iload_n hx hb dX1_trip_40 rfl (lv_at hl 1 rfl) ?_
        refine tm_st_st hC hM (by omega) dX1_trip_41 (fun H locs hM => ?_)
        refine lv_aload_n hx hb dX1_trip_42 rfl (lv_at hl 0 rfl) ?_
        refine tm_get_tm hC hM dX1_trip_43 ?_
        refine lv_aload_n hx hb dX1_trip_46 rfl (lv_at hl 0 rfl) ?_
        refine tm_get_tc hC hM dX1_trip_47 ?_
        refine lv_iconst (v := nI 5) hx hb dX1_trip_50 (by decide +kernel) ?_
        refine tw_imul hx hb dX1_trip_51 ?_
        refine tw_eq (Nat.mul_comm _ _) ?_
        refine lv_iload_n hx hb dX1_trip_52 rfl (lv_at hl 2 rfl) ?_
        refine tm_st_tm hC hM (by omega) dX1_trip_53 (fun H locs hM => ?_)
        refine lv_aload_n hx hb dX1_trip_54 rfl (lv_at hl 0 rfl) ?_
        refine tm_get_c1 hC hM dX1_trip_55 ?_
        refine lv_aload_n hx hb dX1_trip_58 rfl (lv_at hl 0 rfl) ?_
        refine tm_get_tc hC hM dX1_trip_59 ?_
        refine lv_iconst (v := nI 1) hx hb dX1_trip_62 (by decide +kernel) ?_
        refine tm_st_c1 hC hM (by omega) dX1_trip_63 (fun H locs hM => ?_)
        refine lv_aload_n hx hb dX1_trip_64 rfl (lv_at hl 0 rfl) ?_
        refine lv_dup hx hb dX1_trip_65 rfl ?_
        refine tm_get_tc hC hM dX1_trip_66 ?_
        refine lv_iconst (v := nI 1) hx hb dX1_trip_69 (by decide +kernel) ?_
        refine tw_iadd hx hb dX1_trip_70 ?_
        refine tm_put_tc hC hM dX1_trip_71 (fun H locs hM => ?_)
        refine lv_aload_n hx hb dX1_trip_74 rfl (lv_at hl 0 rfl) ?_
        refine tm_get_tc hC hM dX1_trip_75 ?_
        refine lv_iconst (v := nI 1) hx hb dX1_trip_78 (by decide +kernel) ?_
        refine tw_isub hx hb dX1_trip_79 (by omega) ?_
        exact ret _ _ _ _ _ (tc + 1, tr_up c1 tc 1, tr_up st (5 * tc) a, tr_up tm (5 * tc) b) dX1_trip_80 rfl (by unfold tr_trip; rw [if_neg (show ¬ 10 ≤ tc by omega), if_pos ⟨hS_x1, hT_x2⟩, nI_clamp (n := a) (by omega), nI_clamp (n := b) (by omega)]; try rfl) hM
      · have hM : tr_M D A s.heap H locs (tr_wM h ad cd tc c1 st tm wk fo th) := hM
        refine tw_if_ne (tgt := 30) hx hb dX1_trip_25 (by decide) (by omega) (fun c_4 => absurd c_4 (by decide)) (fun c_4 => ?_)
        refine lv_iconst (v := (-1)) hx hb dX1_trip_28 (by decide +kernel) ?_
        exact ret _ _ _ _ _ (tc, c1, st, tm) dX1_trip_29 rfl (by unfold tr_trip; rw [if_neg (show ¬ 10 ≤ tc by omega), if_neg (by rintro ⟨g1, g2⟩; first | exact absurd g1 (by rw [hS_x1]; decide) | exact absurd g2 (by rw [hT_x2]; decide))]) hM
    · have hM : tr_M D A s.heap H locs (tr_wM h ad cd tc c1 st tm wk fo th) := hM
      refine tw_if_eq (tgt := 28) hx hb dX1_trip_17 (by decide) (by omega) (fun c_5 => ?_) (fun c_5 => absurd c_5 (by decide))
      refine lv_iconst (v := (-1)) hx hb dX1_trip_28 (by decide +kernel) ?_
      exact ret _ _ _ _ _ (tc, c1, st, tm) dX1_trip_29 rfl (by unfold tr_trip; rw [if_neg (show ¬ 10 ≤ tc by omega), if_neg (by rintro ⟨g1, g2⟩; first | exact absurd g1 (by rw [hS_x1]; decide) | exact absurd g2 (by rw [hT_x2]; decide))]) hM
  · refine lv_bipush (v := (-2)) hx hb dX1_trip_9 (by decide +kernel) ?_
    exact ret _ _ _ _ _ (tc, c1, st, tm) dX1_trip_11 rfl (by unfold tr_trip; rw [if_pos (by omega)]) hM
set_option maxHeartbeats 4000000 in
/-- X1.call -/
theorem tm_callM (l : Launch) (D : va_G) {h : Nat} {ad : Nat → Nat} {cd : Nat → ClassId} {tc : Nat} {c1 st tm wk fo th : Nat → Nat} {x1 x2 : Int32} (hI : tr_I tc c1 st tm wk) : tr_MI l yX1_call cX1_call 5 .int tr_r1 D (tr_tM cd) [.ref h, .int x1, .int x2] (tr_wM h ad cd tc c1 st tm wk fo th) (fun (v : Int32) (u : (Nat → Nat) × (Nat → Nat) × (Nat → Nat)) => tr_call tc c1 st tm x1 x2 = (v, u)) (fun (u : (Nat → Nat) × (Nat → Nat) × (Nat → Nat)) => (tr_wM h ad cd tc u.1 u.2.1 u.2.2 wk fo th)) := by
  refine tr_MI_mk (own := RX1) rfl (by decide +kernel) (Nat.le_of_ble_eq_true rfl) ?_
  intro p e s m args below meth c A Q hC hA hM ret ls hl
  have hx := hC.1.1
  have hb := hC.1.2.1
  have hown := hC.1.2.2.2.1
  have hts := hC.1.2.2.2.2
  have hl : lv_has ls 5 [(0, .ref h), (1, .int x1), (2, .int x2)] := hl
  obtain ⟨htc, hc1, hc0, hst, htm, hwk, hmo⟩ := hI
  refine lv_aload_n hx hb dX1_call_0 rfl (lv_at hl 0 rfl) ?_
  refine tm_get_tc hC hM dX1_call_1 ?_
  refine tw_if_eq (tgt := 23) hx hb dX1_call_4 (by decide) (by omega) (fun c_1 => ?_) (fun c_1 => ?_)
  · refine lv_iconst (v := (-1)) hx hb dX1_call_23 (by decide +kernel) ?_
    exact ret _ _ _ _ _ (c1, st, tm) dX1_call_24 rfl (by unfold tr_call; rw [if_neg (by rintro ⟨g0, g1, g2⟩; first | exact absurd g1 (by rw [hS_x1]; decide) | exact absurd g2 (by rw [hT_x2]; decide) | omega)]) hM
  · refine lv_aload_n hx hb dX1_call_7 rfl (lv_at hl 0 rfl) ?_
    refine lv_iload_n hx hb dX1_call_8 rfl (lv_at hl 1 rfl) ?_
    refine tm_callI (tm_isStop l D (x := x1)) hC (cwV 1 hts (lw_V q156 q158 qs7 q15 q159) rfl rfl rfl (by decide +kernel) ⟨Nat.le_of_ble_eq_true rfl, Nat.le_of_ble_eq_true rfl⟩) hA hM rfl hl.1 rfl (Nat.le_of_ble_eq_true rfl) ⟨Nat.le_of_ble_eq_true rfl, Nat.le_of_ble_eq_true rfl⟩ dX1_call_9 (fun v u H locs hp hM => ?_)
    rcases hp with ⟨rfl, hS_x1, a, hk_a, rfl⟩ | ⟨rfl, hS_x1⟩
    · have hM : tr_M D A s.heap H locs (tr_wM h ad cd tc c1 st tm wk fo th) := hM
      refine tw_if_eq (tgt := 23) hx hb dX1_call_12 (by decide) (by omega) (fun c_2 => absurd c_2 (by decide)) (fun c_2 => ?_)
      refine lv_aload_n hx hb dX1_call_15 rfl (lv_at hl 0 rfl) ?_
      refine lv_iload_n hx hb dX1_call_16 rfl (lv_at hl 2 rfl) ?_
      refine tm_callI (tm_isTime l D (x := x2)) hC (cwV 1 hts (lw_V q160 q162 qs8 q15 q163) rfl rfl rfl (by decide +kernel) ⟨Nat.le_of_ble_eq_true rfl, Nat.le_of_ble_eq_true rfl⟩) hA hM rfl hl.1 rfl (Nat.le_of_ble_eq_true rfl) ⟨Nat.le_of_ble_eq_true rfl, Nat.le_of_ble_eq_true rfl⟩ dX1_call_17 (fun v u H locs hp hM => ?_)
      rcases hp with ⟨rfl, hT_x2, b, hk_b, rfl⟩ | ⟨rfl, hT_x2⟩
      · have hM : tr_M D A s.heap H locs (tr_wM h ad cd tc c1 st tm wk fo th) := hM
        refine tw_if_ne (tgt := 25) hx hb dX1_call_20 (by decide) (by omega) (fun c_3 => ?_) (fun c_3 => absurd c_3 (by decide))
        have hc9 := hc0 (tc - 1) (by omega)
        refine lv_aload_n hx hb dX1_call_25 rfl (lv_at hl 0 rfl) ?_
        refine tm_get_tc hC hM dX1_call_26 ?_
        refine lv_iconst (v := nI 1) hx hb dX1_call_29 (by decide +kernel) ?_
        refine tw_isub hx hb dX1_call_30 (by omega) ?_
        refine lv_istore_n (lv' := [(3, .int (nI (tc - 1))), (0, .ref h), (1, .int (nI a)), (2, .int (nI b))]) hx hb dX1_call_31 rfl hl (by decide) rfl (fun ls hl => ?_)
        refine lv_aload_n hx hb dX1_call_32 rfl (lv_at hl 1 rfl) ?_
        refine tm_get_c1 hC hM dX1_call_33 ?_
        refine lv_iload_n hx hb dX1_call_36 rfl (lv_at hl 0 rfl) ?_
        refine tm_ld_c1 hC hM (by omega) dX1_call_37 ?_
        have hv_1 := hc1 (tc - 1)
        refine lv_iconst (v := nI 5) hx hb dX1_call_38 (by decide +kernel) ?_
        refine tw_icmp_ne (tgt := 45) hx hb dX1_call_39 (by decide) (by omega) (by omega) (fun c_4 => ?_) (fun c_4 => ?_)
        · refine lv_iconst (v := nI 0) hx hb dX1_call_45 (by decide +kernel) ?_
          refine lv_istore (lv' := [(4, .int (nI 0)), (3, .int (nI (tc - 1))), (0, .ref h), (1, .int (nI a)), (2, .int (nI b))]) hx hb dX1_call_46 hl (by decide) rfl (fun ls hl => ?_)
          have lp_1 : ∀ (n_1 : Nat) (k : Nat) (H : Heap) (locs : List Loc) (ls : Array Slot), (k ≤ c1 (tc - 1)) → (c1 (tc - 1) + 1 ≤ k + n_1) → (tr_any (fun k => st (5 * (tc - 1) + k) == a) k = false) → tr_M D A s.heap H locs (tr_wM h ad cd tc c1 st tm wk fo th) → lv_has ls 5 [(0, .ref h), (1, .int (nI a)), (2, .int (nI b)), (3, .int (nI (tc - 1))), (4, .int (nI k))] → W p l e tr_r1 s m args below meth c H locs 0 0 Q (F0 m 48 ls []) := by
            intro n_1
            induction n_1 with
            | zero => intro k H locs ls h1 h2; exact absurd h2 (by omega)
            | succ n_1 ih_1 =>
              intro k H locs ls h1 h2 ea hM hl
              refine lv_iload hx hb dX1_call_48 (lv_at hl 4 rfl) ?_
              refine lv_aload_n hx hb dX1_call_50 rfl (lv_at hl 0 rfl) ?_
              refine tm_get_c1 hC hM dX1_call_51 ?_
              refine lv_iload_n hx hb dX1_call_54 rfl (lv_at hl 3 rfl) ?_
              refine tm_ld_c1 hC hM (by omega) dX1_call_55 ?_
              have hv_2 := hc1 (tc - 1)
              refine tw_icmp_ge (tgt := 82) hx hb dX1_call_56 (by decide) (by omega) (by omega) (fun c_5 => ?_) (fun c_5 => ?_)
              · refine lv_iload_n hx hb dX1_call_82 rfl (lv_at hl 2 rfl) ?_
                refine lv_aload_n hx hb dX1_call_83 rfl (lv_at hl 0 rfl) ?_
                refine tm_get_tm hC hM dX1_call_84 ?_
                refine lv_iload_n hx hb dX1_call_87 rfl (lv_at hl 3 rfl) ?_
                refine lv_iconst (v := nI 5) hx hb dX1_call_88 (by decide +kernel) ?_
                refine tw_imul hx hb dX1_call_89 ?_
                refine tw_eq (Nat.mul_comm _ _) ?_
                refine lv_aload_n hx hb dX1_call_90 rfl (lv_at hl 0 rfl) ?_
                refine tm_get_c1 hC hM dX1_call_91 ?_
                refine lv_iload_n hx hb dX1_call_94 rfl (lv_at hl 3 rfl) ?_
                refine tm_ld_c1 hC hM (by omega) dX1_call_95 ?_
                have hv_3 := hc1 (tc - 1)
                refine tw_iadd hx hb dX1_call_96 ?_
                refine lv_iconst (v := nI 1) hx hb dX1_call_97 (by decide +kernel) ?_
                refine tw_isub hx hb dX1_call_98 (by omega) ?_
                refine tm_ld_tm hC hM (by omega) dX1_call_99 ?_
                have hv_4 := htm ((5 * (tc - 1)) + (c1 (tc - 1)) - 1)
                refine tw_icmp_ge (tgt := 105) hx hb dX1_call_100 (by decide) (by omega) (by omega) (fun c_6 => ?_) (fun c_6 => ?_)
                · refine lv_aload_n hx hb dX1_call_105 rfl (lv_at hl 0 rfl) ?_
                  refine tm_get_st hC hM dX1_call_106 ?_
                  refine lv_iload_n hx hb dX1_call_109 rfl (lv_at hl 3 rfl) ?_
                  refine lv_iconst (v := nI 5) hx hb dX1_call_110 (by decide +kernel) ?_
                  refine tw_imul hx hb dX1_call_111 ?_
                  refine tw_eq (Nat.mul_comm _ _) ?_
                  refine lv_aload_n hx hb dX1_call_112 rfl (lv_at hl 0 rfl) ?_
                  refine tm_get_c1 hC hM dX1_call_113 ?_
                  refine lv_iload_n hx hb dX1_call_116 rfl (lv_at hl 3 rfl) ?_
                  refine tm_ld_c1 hC hM (by omega) dX1_call_117 ?_
                  have hv_5 := hc1 (tc - 1)
                  refine tw_iadd hx hb dX1_call_118 ?_
                  refine lv_iload_n hx hb dX1_call_119 rfl (lv_at hl 1 rfl) ?_
                  refine tm_st_st hC hM (by omega) dX1_call_120 (fun H locs hM => ?_)
                  refine lv_aload_n hx hb dX1_call_121 rfl (lv_at hl 0 rfl) ?_
                  refine tm_get_tm hC hM dX1_call_122 ?_
                  refine lv_iload_n hx hb dX1_call_125 rfl (lv_at hl 3 rfl) ?_
                  refine lv_iconst (v := nI 5) hx hb dX1_call_126 (by decide +kernel) ?_
                  refine tw_imul hx hb dX1_call_127 ?_
                  refine tw_eq (Nat.mul_comm _ _) ?_
                  refine lv_aload_n hx hb dX1_call_128 rfl (lv_at hl 0 rfl) ?_
                  refine tm_get_c1 hC hM dX1_call_129 ?_
                  refine lv_iload_n hx hb dX1_call_132 rfl (lv_at hl 3 rfl) ?_
                  refine tm_ld_c1 hC hM (by omega) dX1_call_133 ?_
                  have hv_6 := hc1 (tc - 1)
                  refine tw_iadd hx hb dX1_call_134 ?_
                  refine lv_iload_n hx hb dX1_call_135 rfl (lv_at hl 2 rfl) ?_
                  refine tm_st_tm hC hM (by omega) dX1_call_136 (fun H locs hM => ?_)
                  refine lv_aload_n hx hb dX1_call_137 rfl (lv_at hl 0 rfl) ?_
                  refine tm_get_c1 hC hM dX1_call_138 ?_
                  refine lv_iload_n hx hb dX1_call_141 rfl (lv_at hl 3 rfl) ?_
                  refine lv_dup2_11 hx hb dX1_call_142 rfl rfl ?_
                  refine tm_ld_c1 hC hM (by omega) dX1_call_143 ?_
                  have hv_7 := hc1 (tc - 1)
                  refine lv_iconst (v := nI 1) hx hb dX1_call_144 (by decide +kernel) ?_
                  refine tw_iadd hx hb dX1_call_145 ?_
                  refine tm_st_c1 hC hM (by omega) dX1_call_146 (fun H locs hM => ?_)
                  refine lv_aload_n hx hb dX1_call_147 rfl (lv_at hl 0 rfl) ?_
                  refine tm_get_c1 hC hM dX1_call_148 ?_
                  refine lv_iload_n hx hb dX1_call_151 rfl (lv_at hl 3 rfl) ?_
                  refine tm_ld_c1 hC hM (by omega) dX1_call_152 ?_
                  exact ret _ _ _ _ _ (tr_up c1 (tc - 1) (c1 (tc - 1) + 1), tr_up st (5 * (tc - 1) + c1 (tc - 1)) a, tr_up tm (5 * (tc - 1) + c1 (tc - 1)) b) dX1_call_153 rfl (by unfold tr_call; rw [if_pos ⟨by omega, hS_x1, hT_x2⟩, if_neg (show ¬ 5 ≤ c1 (tc - 1) by omega), nI_clamp (n := a) (by omega), nI_clamp (n := b) (by omega), if_neg (show ¬ tr_any (fun k => st (5 * (tc - 1) + k) == a) (c1 (tc - 1)) = true by rw [show c1 (tc - 1) = k by omega]; rw [ea]; decide), if_neg (by omega), tr_up_s]) hM
                · refine lv_iconst (v := (-1)) hx hb dX1_call_103 (by decide +kernel) ?_
                  exact ret _ _ _ _ _ (c1, st, tm) dX1_call_104 rfl (by unfold tr_call; rw [if_pos ⟨by omega, hS_x1, hT_x2⟩, if_neg (show ¬ 5 ≤ c1 (tc - 1) by omega), nI_clamp (n := a) (by omega), nI_clamp (n := b) (by omega), if_neg (by rw [show c1 (tc - 1) = k by omega]; rw [ea]; decide), if_pos (by omega)]) hM
              · refine lv_aload_n hx hb dX1_call_59 rfl (lv_at hl 0 rfl) ?_
                refine tm_get_st hC hM dX1_call_60 ?_
                refine lv_iload_n hx hb dX1_call_63 rfl (lv_at hl 3 rfl) ?_
                refine lv_iconst (v := nI 5) hx hb dX1_call_64 (by decide +kernel) ?_
                refine tw_imul hx hb dX1_call_65 ?_
                refine tw_eq (Nat.mul_comm _ _) ?_
                refine lv_iload hx hb dX1_call_66 (lv_at hl 4 rfl) ?_
                refine tw_iadd hx hb dX1_call_68 ?_
                refine tm_ld_st hC hM (by omega) dX1_call_69 ?_
                have hv_8 := hst ((5 * (tc - 1)) + k)
                refine lv_iload_n hx hb dX1_call_70 rfl (lv_at hl 1 rfl) ?_
                refine tw_icmp_ne (tgt := 76) hx hb dX1_call_71 (by decide) (by omega) (by omega) (fun c_7 => ?_) (fun c_7 => ?_)
                · refine lv_iinc (v := nI (k + 1)) (lv' := [(4, .int (nI (k + 1))), (0, .ref h), (1, .int (nI a)), (2, .int (nI b)), (3, .int (nI (tc - 1)))]) hx hb dX1_call_76 hl (k := 4) rfl (tr_inc k) (by decide) rfl (fun ls hl => ?_)
                  refine lv_goto (tgt := 48) hx hb dX1_call_79 (by decide) ?_
                  exact ih_1 (k + 1) _ _ _ (by omega) (by omega) (tr_any_n ea (beq_eq_false_iff_ne.mpr (by assumption))) hM (lv_sub hl [1, 2, 3, 4, 0] rfl)
                · refine lv_iconst (v := (-1)) hx hb dX1_call_74 (by decide +kernel) ?_
                  exact ret _ _ _ _ _ (c1, st, tm) dX1_call_75 rfl (by unfold tr_call; rw [if_pos ⟨by omega, hS_x1, hT_x2⟩, if_neg (show ¬ 5 ≤ c1 (tc - 1) by omega), nI_clamp (n := a) (by omega), if_pos (show tr_any (fun k => st (5 * (tc - 1) + k) == a) (c1 (tc - 1)) = true from tr_any_hit (k := k) (by omega) (beq_iff_eq.mpr (by assumption)))]) hM
          exact lp_1 (c1 (tc - 1) + 1) 0 _ _ _ (by omega) (by omega) rfl hM (lv_sub hl [2, 3, 4, 1, 0] rfl)
        · refine lv_bipush (v := (-2)) hx hb dX1_call_42 (by decide +kernel) ?_
          exact ret _ _ _ _ _ (c1, st, tm) dX1_call_44 rfl (by unfold tr_call; rw [if_pos ⟨by omega, hS_x1, hT_x2⟩, if_pos (show 5 ≤ c1 (tc - 1) by omega)]) hM
      · have hM : tr_M D A s.heap H locs (tr_wM h ad cd tc c1 st tm wk fo th) := hM
        refine tw_if_ne (tgt := 25) hx hb dX1_call_20 (by decide) (by omega) (fun c_8 => absurd c_8 (by decide)) (fun c_8 => ?_)
        refine lv_iconst (v := (-1)) hx hb dX1_call_23 (by decide +kernel) ?_
        exact ret _ _ _ _ _ (c1, st, tm) dX1_call_24 rfl (by unfold tr_call; rw [if_neg (by rintro ⟨g0, g1, g2⟩; first | exact absurd g1 (by rw [hS_x1]; decide) | exact absurd g2 (by rw [hT_x2]; decide) | omega)]) hM
    · have hM : tr_M D A s.heap H locs (tr_wM h ad cd tc c1 st tm wk fo th) := hM
      refine tw_if_eq (tgt := 23) hx hb dX1_call_12 (by decide) (by omega) (fun c_9 => ?_) (fun c_9 => absurd c_9 (by decide))
      refine lv_iconst (v := (-1)) hx hb dX1_call_23 (by decide +kernel) ?_
      exact ret _ _ _ _ _ (c1, st, tm) dX1_call_24 rfl (by unfold tr_call; rw [if_neg (by rintro ⟨g0, g1, g2⟩; first | exact absurd g1 (by rw [hS_x1]; decide) | exact absurd g2 (by rw [hT_x2]; decide) | omega)]) hM
set_option maxHeartbeats 4000000 in
/-- X1.cancel -/
theorem tm_cancelM (l : Launch) (D : va_G) {h : Nat} {ad : Nat → Nat} {cd : Nat → ClassId} {tc : Nat} {c1 st tm wk fo th : Nat → Nat} {x1 : Int32} (hI : tr_I tc c1 st tm wk) : tr_MI l yX1_cancel cX1_cancel 3 .int tr_r0 D (tr_tM cd) [.ref h, .int x1] (tr_wM h ad cd tc c1 st tm wk fo th) (fun (v : Int32) (u : Nat × (Nat → Nat) × (Nat → Nat) × (Nat → Nat)) => tr_cancel tc c1 st tm x1 = (v, u)) (fun (u : Nat × (Nat → Nat) × (Nat → Nat) × (Nat → Nat)) => (tr_wM h ad cd u.1 u.2.1 u.2.2.1 u.2.2.2 wk fo th)) := by
  refine tr_MI_mk (own := RX1) rfl (by decide +kernel) (Nat.le_of_ble_eq_true rfl) ?_
  intro p e s m args below meth c A Q hC hA hM ret ls hl
  have hx := hC.1.1
  have hb := hC.1.2.1
  have hown := hC.1.2.2.2.1
  have hts := hC.1.2.2.2.2
  have hl : lv_has ls 3 [(0, .ref h), (1, .int x1)] := hl
  obtain ⟨htc, hc1, hc0, hst, htm, hwk, hmo⟩ := hI
  refine lv_iload_n hx hb dX1_cancel_0 rfl (lv_at hl 1 rfl) ?_
  refine lv_if_lt (tgt := 12) hx hb dX1_cancel_1 (by decide) (fun c_1 => ?_) (fun c_1 => ?_)
  · refine lv_iconst (v := (-1)) hx hb dX1_cancel_12 (by decide +kernel) ?_
    exact ret _ _ _ _ _ (tc, c1, st, tm) dX1_cancel_13 rfl (by unfold tr_cancel; rw [if_pos (by first | exact Or.inl c_1 | exact Or.inr (Int32.not_lt.mp c_2))]) hM
  · refine lv_iload_n hx hb dX1_cancel_4 rfl (lv_at hl 1 rfl) ?_
    refine lv_aload_n hx hb dX1_cancel_5 rfl (lv_at hl 0 rfl) ?_
    refine tm_get_tc hC hM dX1_cancel_6 ?_
    refine lv_icmp_lt (tgt := 14) hx hb dX1_cancel_9 (by decide) (fun c_2 => ?_) (fun c_2 => ?_)
    · obtain ⟨i, hi, rfl⟩ := tr_ix c_1 c_2 (by omega)
      refine lv_aload_n hx hb dX1_cancel_14 rfl (lv_at hl 0 rfl) ?_
      refine lv_dup hx hb dX1_cancel_15 rfl ?_
      refine tm_get_tc hC hM dX1_cancel_16 ?_
      refine lv_iconst (v := nI 1) hx hb dX1_cancel_19 (by decide +kernel) ?_
      refine tw_isub hx hb dX1_cancel_20 (by omega) ?_
      refine tm_put_tc hC hM dX1_cancel_21 (fun H locs hM => ?_)
      refine lv_iload_n hx hb dX1_cancel_24 rfl (lv_at hl 1 rfl) ?_
      refine lv_istore_n (lv' := [(2, .int (nI i)), (0, .ref h), (1, .int (nI i))]) hx hb dX1_cancel_25 rfl hl (by decide) rfl (fun ls hl => ?_)
      have lp_1 : ∀ (n_1 : Nat) (k2 : Nat) (d1 : Nat → Nat) (H : Heap) (locs : List Loc) (ls : Array Slot), (k2 ≤ tc - 1 - i) → (tc - 1 - i + 1 ≤ k2 + n_1) → (d1 = tr_sh1 c1 i k2) → tr_M D A s.heap H locs (tr_wM h ad cd (tc - 1) d1 st tm wk fo th) → lv_has ls 3 [(0, .ref h), (1, .int (nI i)), (2, .int (nI (i + k2)))] → W p l e tr_r0 s m args below meth c H locs 0 0 Q (F0 m 26 ls []) := by
        intro n_1
        induction n_1 with
        | zero => intro k2 d1 H locs ls h3 h4; exact absurd h4 (by omega)
        | succ n_1 ih_1 =>
          intro k2 d1 H locs ls h3 h4 ed1 hM hl
          refine lv_iload_n hx hb dX1_cancel_26 rfl (lv_at hl 2 rfl) ?_
          refine lv_aload_n hx hb dX1_cancel_27 rfl (lv_at hl 0 rfl) ?_
          refine tm_get_tc hC hM dX1_cancel_28 ?_
          refine tw_icmp_ge (tgt := 54) hx hb dX1_cancel_31 (by decide) (by omega) (by omega) (fun c_3 => ?_) (fun c_3 => ?_)
          · refine lv_iload_n hx hb dX1_cancel_54 rfl (lv_at hl 1 rfl) ?_
            refine lv_iconst (v := nI 5) hx hb dX1_cancel_55 (by decide +kernel) ?_
            refine tw_imul hx hb dX1_cancel_56 ?_
            refine tw_eq (Nat.mul_comm _ _) ?_
            refine lv_istore_n (lv' := [(2, .int (nI (5 * i))), (0, .ref h), (1, .int (nI i))]) hx hb dX1_cancel_57 rfl hl (by decide) rfl (fun ls hl => ?_)
            have lp_2 : ∀ (n_2 : Nat) (k : Nat) (s1 : Nat → Nat) (t1 : Nat → Nat) (H : Heap) (locs : List Loc) (ls : Array Slot), (k ≤ 5 * (tc - 1) - 5 * i) → (5 * (tc - 1) - 5 * i + 1 ≤ k + n_2) → (s1 = tr_sh5 st i k) → (t1 = tr_sh5 tm i k) → tr_M D A s.heap H locs (tr_wM h ad cd (tc - 1) d1 s1 t1 wk fo th) → lv_has ls 3 [(0, .ref h), (1, .int (nI i)), (2, .int (nI (5 * i + k)))] → W p l e tr_r0 s m args below meth c H locs 0 0 Q (F0 m 58 ls []) := by
              intro n_2
              induction n_2 with
              | zero => intro k s1 t1 H locs ls h1 h2; exact absurd h2 (by omega)
              | succ n_2 ih_2 =>
                intro k s1 t1 H locs ls h1 h2 es1 et1 hM hl
                refine lv_iload_n hx hb dX1_cancel_58 rfl (lv_at hl 2 rfl) ?_
                refine lv_aload_n hx hb dX1_cancel_59 rfl (lv_at hl 0 rfl) ?_
                refine tm_get_tc hC hM dX1_cancel_60 ?_
                refine lv_iconst (v := nI 5) hx hb dX1_cancel_63 (by decide +kernel) ?_
                refine tw_imul hx hb dX1_cancel_64 ?_
                refine tw_eq (Nat.mul_comm _ _) ?_
                refine tw_icmp_ge (tgt := 102) hx hb dX1_cancel_65 (by decide) (by omega) (by omega) (fun c_4 => ?_) (fun c_4 => ?_)
                · refine lv_aload_n hx hb dX1_cancel_102 rfl (lv_at hl 0 rfl) ?_
                  refine tm_get_tc hC hM dX1_cancel_103 ?_
                  exact ret _ _ _ _ _ (tc - 1, d1, s1, t1) dX1_cancel_106 rfl (by unfold tr_cancel; rw [if_neg (by rintro (g | g); exact nI_pos (by omega) g; exact absurd ((nI_leI (by omega) (by omega)).mp g) (by omega)), nI_clamp (n := i) (by omega), ed1, es1, et1, show k = 5 * (tc - 1) - 5 * i by omega, show k2 = tc - 1 - i by omega]) hM
                · refine lv_aload_n hx hb dX1_cancel_68 rfl (lv_at hl 0 rfl) ?_
                  refine tm_get_st hC hM dX1_cancel_69 ?_
                  refine lv_iload_n hx hb dX1_cancel_72 rfl (lv_at hl 2 rfl) ?_
                  refine lv_aload_n hx hb dX1_cancel_73 rfl (lv_at hl 0 rfl) ?_
                  refine tm_get_st hC hM dX1_cancel_74 ?_
                  refine lv_iload_n hx hb dX1_cancel_77 rfl (lv_at hl 2 rfl) ?_
                  refine lv_iconst (v := nI 5) hx hb dX1_cancel_78 (by decide +kernel) ?_
                  refine tw_iadd hx hb dX1_cancel_79 ?_
                  refine tm_ld_st hC hM (by omega) dX1_cancel_80 ?_
                  refine tm_st_st hC hM (by omega) dX1_cancel_81 (fun H locs hM => ?_)
                  refine lv_aload_n hx hb dX1_cancel_82 rfl (lv_at hl 0 rfl) ?_
                  refine tm_get_tm hC hM dX1_cancel_83 ?_
                  refine lv_iload_n hx hb dX1_cancel_86 rfl (lv_at hl 2 rfl) ?_
                  refine lv_aload_n hx hb dX1_cancel_87 rfl (lv_at hl 0 rfl) ?_
                  refine tm_get_tm hC hM dX1_cancel_88 ?_
                  refine lv_iload_n hx hb dX1_cancel_91 rfl (lv_at hl 2 rfl) ?_
                  refine lv_iconst (v := nI 5) hx hb dX1_cancel_92 (by decide +kernel) ?_
                  refine tw_iadd hx hb dX1_cancel_93 ?_
                  refine tm_ld_tm hC hM (by omega) dX1_cancel_94 ?_
                  refine tm_st_tm hC hM (by omega) dX1_cancel_95 (fun H locs hM => ?_)
                  refine lv_iinc (v := nI (5 * i + k + 1)) (lv' := [(2, .int (nI (5 * i + k + 1))), (0, .ref h), (1, .int (nI i))]) hx hb dX1_cancel_96 hl (k := 2) rfl (tr_inc (5 * i + k)) (by decide) rfl (fun ls hl => ?_)
                  refine lv_goto (tgt := 58) hx hb dX1_cancel_99 (by decide) ?_
                  exact ih_2 (k + 1) (tr_up s1 (5 * i + k) (s1 (5 * i + k + 5))) (tr_up t1 (5 * i + k) (t1 (5 * i + k + 5))) _ _ _ (by omega) (by omega) (tr_it_n es1 rfl) (tr_it_n et1 rfl) hM (lv_sub hl [1, 2, 0] rfl)
            exact lp_2 (5 * (tc - 1) - 5 * i + 1) 0 st tm _ _ _ (by omega) (by omega) rfl rfl hM (lv_sub hl [1, 2, 0] rfl)
          · refine lv_aload_n hx hb dX1_cancel_34 rfl (lv_at hl 0 rfl) ?_
            refine tm_get_c1 hC hM dX1_cancel_35 ?_
            refine lv_iload_n hx hb dX1_cancel_38 rfl (lv_at hl 2 rfl) ?_
            refine lv_aload_n hx hb dX1_cancel_39 rfl (lv_at hl 0 rfl) ?_
            refine tm_get_c1 hC hM dX1_cancel_40 ?_
            refine lv_iload_n hx hb dX1_cancel_43 rfl (lv_at hl 2 rfl) ?_
            refine lv_iconst (v := nI 1) hx hb dX1_cancel_44 (by decide +kernel) ?_
            refine tw_iadd hx hb dX1_cancel_45 ?_
            refine tm_ld_c1 hC hM (by omega) dX1_cancel_46 ?_
            refine tm_st_c1 hC hM (by omega) dX1_cancel_47 (fun H locs hM => ?_)
            refine lv_iinc (v := nI (i + k2 + 1)) (lv' := [(2, .int (nI (i + k2 + 1))), (0, .ref h), (1, .int (nI i))]) hx hb dX1_cancel_48 hl (k := 2) rfl (tr_inc (i + k2)) (by decide) rfl (fun ls hl => ?_)
            refine lv_goto (tgt := 26) hx hb dX1_cancel_51 (by decide) ?_
            exact ih_1 (k2 + 1) (tr_up d1 (i + k2) (d1 (i + k2 + 1))) _ _ _ (by omega) (by omega) (tr_it_n ed1 rfl) hM (lv_sub hl [1, 2, 0] rfl)
      exact lp_1 (tc - 1 - i + 1) 0 c1 _ _ _ (by omega) (by omega) rfl hM (lv_sub hl [1, 2, 0] rfl)
    · refine lv_iconst (v := (-1)) hx hb dX1_cancel_12 (by decide +kernel) ?_
      exact ret _ _ _ _ _ (tc, c1, st, tm) dX1_cancel_13 rfl (by unfold tr_cancel; rw [if_pos (by first | exact Or.inl c_1 | exact Or.inr (Int32.not_lt.mp c_2))]) hM
set_option maxHeartbeats 4000000 in
/-- X1.delay -/
theorem tm_delayM (l : Launch) (D : va_G) {h : Nat} {ad : Nat → Nat} {cd : Nat → ClassId} {tc : Nat} {c1 st tm wk fo th : Nat → Nat} {x1 x2 x3 : Int32} (hI : tr_I tc c1 st tm wk) : tr_MI l yX1_delay cX1_delay 5 .boolean tr_r0 D (tr_tM cd) [.ref h, .int x1, .int x2, .int x3] (tr_wM h ad cd tc c1 st tm wk fo th) (fun (v : Int32) (u : Nat → Nat) => (tr_dbad tc c1 x1 x2 x3 ∧ v = nI 0 ∧ u = tm) ∨ ∃ i k d, tr_dok tc c1 x1 x2 x3 i k d ∧ (((∃ m, k + m < c1 i ∧ 999 < tm (5 * i + (k + m)) + d) ∧ v = nI 0 ∧ u = tm) ∨ ((∀ m, k + m < c1 i → tm (5 * i + (k + m)) + d ≤ 999) ∧ v = nI 1 ∧ u = tr_late tm i k d (c1 i - k)))) (fun (u : Nat → Nat) => (tr_wM h ad cd tc c1 st u wk fo th)) := by
  refine tr_MI_mk (own := RX1) rfl (by decide +kernel) (Nat.le_of_ble_eq_true rfl) ?_
  intro p e s m args below meth c A Q hC hA hM ret ls hl
  have hx := hC.1.1
  have hb := hC.1.2.1
  have hown := hC.1.2.2.2.1
  have hts := hC.1.2.2.2.2
  have hl : lv_has ls 5 [(0, .ref h), (1, .int x1), (2, .int x2), (3, .int x3)] := hl
  obtain ⟨htc, hc1, hc0, hst, htm, hwk, hmo⟩ := hI
  refine lv_iload_n hx hb dX1_delay_0 rfl (lv_at hl 1 rfl) ?_
  refine lv_if_lt (tgt := 36) hx hb dX1_delay_1 (by decide) (fun c_1 => ?_) (fun c_1 => ?_)
  · refine lv_iconst (v := nI 0) hx hb dX1_delay_36 (by decide +kernel) ?_
    exact ret _ _ _ _ _ tm dX1_delay_37 rfl (Or.inl ⟨tr_db htc hc1 (by first | exact Or.inl c_1 | exact Or.inr (Or.inl c_2) | exact Or.inr (Or.inr (Or.inl c_3)) | exact Or.inr (Or.inr (Or.inr (Or.inl ⟨i, rfl, hi, c_4⟩))) | exact Or.inr (Or.inr (Or.inr (Or.inr (Or.inl c_5)))) | exact Or.inr (Or.inr (Or.inr (Or.inr (Or.inr c_6))))), rfl, rfl⟩) hM
  · refine lv_iload_n hx hb dX1_delay_4 rfl (lv_at hl 1 rfl) ?_
    refine lv_aload_n hx hb dX1_delay_5 rfl (lv_at hl 0 rfl) ?_
    refine tm_get_tc hC hM dX1_delay_6 ?_
    refine lv_icmp_ge (tgt := 36) hx hb dX1_delay_9 (by decide) (fun c_2 => ?_) (fun c_2 => ?_)
    · refine lv_iconst (v := nI 0) hx hb dX1_delay_36 (by decide +kernel) ?_
      exact ret _ _ _ _ _ tm dX1_delay_37 rfl (Or.inl ⟨tr_db htc hc1 (by first | exact Or.inl c_1 | exact Or.inr (Or.inl c_2) | exact Or.inr (Or.inr (Or.inl c_3)) | exact Or.inr (Or.inr (Or.inr (Or.inl ⟨i, rfl, hi, c_4⟩))) | exact Or.inr (Or.inr (Or.inr (Or.inr (Or.inl c_5)))) | exact Or.inr (Or.inr (Or.inr (Or.inr (Or.inr c_6))))), rfl, rfl⟩) hM
    · obtain ⟨i, hi, rfl⟩ := tr_ixg c_1 c_2 (by omega)
      have hci := hc1 i
      have hc9 := hc0 i hi
      refine lv_iload_n hx hb dX1_delay_12 rfl (lv_at hl 2 rfl) ?_
      refine lv_if_lt (tgt := 36) hx hb dX1_delay_13 (by decide) (fun c_3 => ?_) (fun c_3 => ?_)
      · refine lv_iconst (v := nI 0) hx hb dX1_delay_36 (by decide +kernel) ?_
        exact ret _ _ _ _ _ tm dX1_delay_37 rfl (Or.inl ⟨tr_db htc hc1 (by first | exact Or.inl c_1 | exact Or.inr (Or.inl c_2) | exact Or.inr (Or.inr (Or.inl c_3)) | exact Or.inr (Or.inr (Or.inr (Or.inl ⟨i, rfl, hi, c_4⟩))) | exact Or.inr (Or.inr (Or.inr (Or.inr (Or.inl c_5)))) | exact Or.inr (Or.inr (Or.inr (Or.inr (Or.inr c_6))))), rfl, rfl⟩) hM
      · refine lv_iload_n hx hb dX1_delay_16 rfl (lv_at hl 2 rfl) ?_
        refine lv_aload_n hx hb dX1_delay_17 rfl (lv_at hl 0 rfl) ?_
        refine tm_get_c1 hC hM dX1_delay_18 ?_
        refine lv_iload_n hx hb dX1_delay_21 rfl (lv_at hl 1 rfl) ?_
        refine tm_ld_c1 hC hM (by omega) dX1_delay_22 ?_
        have hv_1 := hc1 i
        refine lv_icmp_ge (tgt := 36) hx hb dX1_delay_23 (by decide) (fun c_4 => ?_) (fun c_4 => ?_)
        · refine lv_iconst (v := nI 0) hx hb dX1_delay_36 (by decide +kernel) ?_
          exact ret _ _ _ _ _ tm dX1_delay_37 rfl (Or.inl ⟨tr_db htc hc1 (by first | exact Or.inl c_1 | exact Or.inr (Or.inl c_2) | exact Or.inr (Or.inr (Or.inl c_3)) | exact Or.inr (Or.inr (Or.inr (Or.inl ⟨i, rfl, hi, c_4⟩))) | exact Or.inr (Or.inr (Or.inr (Or.inr (Or.inl c_5)))) | exact Or.inr (Or.inr (Or.inr (Or.inr (Or.inr c_6))))), rfl, rfl⟩) hM
        · obtain ⟨k, hk, rfl⟩ := tr_ixg c_3 c_4 (by omega)
          refine lv_iload_n hx hb dX1_delay_26 rfl (lv_at hl 3 rfl) ?_
          refine lv_if_lt (tgt := 36) hx hb dX1_delay_27 (by decide) (fun c_5 => ?_) (fun c_5 => ?_)
          · refine lv_iconst (v := nI 0) hx hb dX1_delay_36 (by decide +kernel) ?_
            exact ret _ _ _ _ _ tm dX1_delay_37 rfl (Or.inl ⟨tr_db htc hc1 (by first | exact Or.inl c_1 | exact Or.inr (Or.inl c_2) | exact Or.inr (Or.inr (Or.inl c_3)) | exact Or.inr (Or.inr (Or.inr (Or.inl ⟨i, rfl, hi, c_4⟩))) | exact Or.inr (Or.inr (Or.inr (Or.inr (Or.inl c_5)))) | exact Or.inr (Or.inr (Or.inr (Or.inr (Or.inr c_6))))), rfl, rfl⟩) hM
          · refine lv_iload_n hx hb dX1_delay_30 rfl (lv_at hl 3 rfl) ?_
            refine lv_bipush (v := nI 99) hx hb dX1_delay_31 (by decide +kernel) ?_
            refine lv_icmp_le (tgt := 38) hx hb dX1_delay_33 (by decide) (fun c_6 => ?_) (fun c_6 => ?_)
            · obtain ⟨dd, hd, rfl⟩ := tr_ixle c_5 c_6 (by omega)
              refine lv_iload_n hx hb dX1_delay_38 rfl (lv_at hl 2 rfl) ?_
              refine lv_istore (lv' := [(4, .int (nI k)), (0, .ref h), (1, .int (nI i)), (2, .int (nI k)), (3, .int (nI dd))]) hx hb dX1_delay_39 hl (by decide) rfl (fun ls hl => ?_)
              have lp_1 : ∀ (n_1 : Nat) (j : Nat) (H : Heap) (locs : List Loc) (ls : Array Slot), (j ≤ c1 i - k) → (c1 i - k + 1 ≤ j + n_1) → (∀ m, m < j → tm (5 * i + (k + m)) + dd ≤ 999) → tr_M D A s.heap H locs (tr_wM h ad cd tc c1 st tm wk fo th) → lv_has ls 5 [(0, .ref h), (1, .int (nI i)), (2, .int (nI k)), (3, .int (nI dd)), (4, .int (nI (k + j)))] → W p l e tr_r0 s m args below meth c H locs 0 0 Q (F0 m 41 ls []) := by
                intro n_1
                induction n_1 with
                | zero => intro j H locs ls h1 h2; exact absurd h2 (by omega)
                | succ n_1 ih_1 =>
                  intro j H locs ls h1 h2 hall hM hl
                  refine lv_iload hx hb dX1_delay_41 (lv_at hl 4 rfl) ?_
                  refine lv_aload_n hx hb dX1_delay_43 rfl (lv_at hl 0 rfl) ?_
                  refine tm_get_c1 hC hM dX1_delay_44 ?_
                  refine lv_iload_n hx hb dX1_delay_47 rfl (lv_at hl 1 rfl) ?_
                  refine tm_ld_c1 hC hM (by omega) dX1_delay_48 ?_
                  have hv_2 := hc1 i
                  refine tw_icmp_ge (tgt := 79) hx hb dX1_delay_49 (by decide) (by omega) (by omega) (fun c_7 => ?_) (fun c_7 => ?_)
                  · refine lv_iload_n hx hb dX1_delay_79 rfl (lv_at hl 2 rfl) ?_
                    refine lv_istore (lv' := [(4, .int (nI k)), (0, .ref h), (1, .int (nI i)), (2, .int (nI k)), (3, .int (nI dd))]) hx hb dX1_delay_80 hl (by decide) rfl (fun ls hl => ?_)
                    have lp_2 : ∀ (n_2 : Nat) (j2 : Nat) (t1 : Nat → Nat) (H : Heap) (locs : List Loc) (ls : Array Slot), (j2 ≤ c1 i - k) → (c1 i - k + 1 ≤ j2 + n_2) → (t1 = tr_late tm i k dd j2) → tr_M D A s.heap H locs (tr_wM h ad cd tc c1 st t1 wk fo th) → lv_has ls 5 [(0, .ref h), (1, .int (nI i)), (2, .int (nI k)), (3, .int (nI dd)), (4, .int (nI (k + j2)))] → W p l e tr_r0 s m args below meth c H locs 0 0 Q (F0 m 82 ls []) := by
                      intro n_2
                      induction n_2 with
                      | zero => intro j2 t1 H locs ls h3 h4; exact absurd h4 (by omega)
                      | succ n_2 ih_2 =>
                        intro j2 t1 H locs ls h3 h4 et1 hM hl
                        refine lv_iload hx hb dX1_delay_82 (lv_at hl 4 rfl) ?_
                        refine lv_aload_n hx hb dX1_delay_84 rfl (lv_at hl 0 rfl) ?_
                        refine tm_get_c1 hC hM dX1_delay_85 ?_
                        refine lv_iload_n hx hb dX1_delay_88 rfl (lv_at hl 1 rfl) ?_
                        refine tm_ld_c1 hC hM (by omega) dX1_delay_89 ?_
                        have hv_3 := hc1 i
                        refine tw_icmp_ge (tgt := 114) hx hb dX1_delay_90 (by decide) (by omega) (by omega) (fun c_8 => ?_) (fun c_8 => ?_)
                        · refine lv_iconst (v := nI 1) hx hb dX1_delay_114 (by decide +kernel) ?_
                          exact ret _ _ _ _ _ t1 dX1_delay_115 rfl (Or.inr ⟨i, k, dd, ⟨hi, hk, hd, rfl, rfl, rfl⟩, Or.inr ⟨fun m9 h9 => hall m9 (by omega), rfl, by rw [et1, show j2 = c1 i - k by omega]⟩⟩) hM
                        · refine lv_aload_n hx hb dX1_delay_93 rfl (lv_at hl 0 rfl) ?_
                          refine tm_get_tm hC hM dX1_delay_94 ?_
                          refine lv_iload_n hx hb dX1_delay_97 rfl (lv_at hl 1 rfl) ?_
                          refine lv_iconst (v := nI 5) hx hb dX1_delay_98 (by decide +kernel) ?_
                          refine tw_imul hx hb dX1_delay_99 ?_
                          refine tw_eq (Nat.mul_comm _ _) ?_
                          refine lv_iload hx hb dX1_delay_100 (lv_at hl 4 rfl) ?_
                          refine tw_iadd hx hb dX1_delay_102 ?_
                          refine tw_eq (show 5 * i + (k + j2) = 5 * i + k + j2 by omega) ?_
                          refine lv_dup2_11 hx hb dX1_delay_103 rfl rfl ?_
                          refine tm_ld_tm hC hM (by omega) dX1_delay_104 ?_
                          refine lv_iload_n hx hb dX1_delay_105 rfl (lv_at hl 3 rfl) ?_
                          refine tw_iadd hx hb dX1_delay_106 ?_
                          refine tm_st_tm hC hM (by omega) dX1_delay_107 (fun H locs hM => ?_)
                          refine lv_iinc (v := nI (k + j2 + 1)) (lv' := [(4, .int (nI (k + j2 + 1))), (0, .ref h), (1, .int (nI i)), (2, .int (nI k)), (3, .int (nI dd))]) hx hb dX1_delay_108 hl (k := 4) rfl (tr_inc (k + j2)) (by decide) rfl (fun ls hl => ?_)
                          refine lv_goto (tgt := 82) hx hb dX1_delay_111 (by decide) ?_
                          exact ih_2 (j2 + 1) (tr_up t1 (5 * i + k + j2) (t1 (5 * i + k + j2) + dd)) _ _ _ (by omega) (by omega) (tr_it_n et1 rfl) hM (lv_sub hl [1, 2, 3, 4, 0] rfl)
                    exact lp_2 (c1 i - k + 1) 0 tm _ _ _ (by omega) (by omega) rfl hM (lv_sub hl [1, 2, 3, 4, 0] rfl)
                  · refine lv_aload_n hx hb dX1_delay_52 rfl (lv_at hl 0 rfl) ?_
                    refine tm_get_tm hC hM dX1_delay_53 ?_
                    refine lv_iload_n hx hb dX1_delay_56 rfl (lv_at hl 1 rfl) ?_
                    refine lv_iconst (v := nI 5) hx hb dX1_delay_57 (by decide +kernel) ?_
                    refine tw_imul hx hb dX1_delay_58 ?_
                    refine tw_eq (Nat.mul_comm _ _) ?_
                    refine lv_iload hx hb dX1_delay_59 (lv_at hl 4 rfl) ?_
                    refine tw_iadd hx hb dX1_delay_61 ?_
                    refine tm_ld_tm hC hM (by omega) dX1_delay_62 ?_
                    have hv_4 := htm (5 * i + (k + j))
                    refine lv_iload_n hx hb dX1_delay_63 rfl (lv_at hl 3 rfl) ?_
                    refine tw_iadd hx hb dX1_delay_64 ?_
                    refine lv_sipush (v := nI 999) hx hb dX1_delay_65 (by decide +kernel) ?_
                    refine tw_icmp_le (tgt := 73) hx hb dX1_delay_68 (by decide) (by omega) (by omega) (fun c_9 => ?_) (fun c_9 => ?_)
                    · refine lv_iinc (v := nI (k + j + 1)) (lv' := [(4, .int (nI (k + j + 1))), (0, .ref h), (1, .int (nI i)), (2, .int (nI k)), (3, .int (nI dd))]) hx hb dX1_delay_73 hl (k := 4) rfl (tr_inc (k + j)) (by decide) rfl (fun ls hl => ?_)
                      refine lv_goto (tgt := 41) hx hb dX1_delay_76 (by decide) ?_
                      exact ih_1 (j + 1) _ _ _ (by omega) (by omega) (fun m9 h9 => by rcases Nat.lt_or_ge m9 j with q9 | q9; exact hall m9 q9; rw [show m9 = j by omega]; omega) hM (lv_sub hl [1, 2, 3, 4, 0] rfl)
                    · refine lv_iconst (v := nI 0) hx hb dX1_delay_71 (by decide +kernel) ?_
                      exact ret _ _ _ _ _ tm dX1_delay_72 rfl (Or.inr ⟨i, k, dd, ⟨hi, hk, hd, rfl, rfl, rfl⟩, Or.inl ⟨⟨j, by omega, by omega⟩, rfl, rfl⟩⟩) hM
              exact lp_1 (c1 i - k + 1) 0 _ _ _ (by omega) (by omega) (fun m9 h9 => absurd h9 (by omega)) hM (lv_sub hl [1, 2, 3, 4, 0] rfl)
            · refine lv_iconst (v := nI 0) hx hb dX1_delay_36 (by decide +kernel) ?_
              exact ret _ _ _ _ _ tm dX1_delay_37 rfl (Or.inl ⟨tr_db htc hc1 (by first | exact Or.inl c_1 | exact Or.inr (Or.inl c_2) | exact Or.inr (Or.inr (Or.inl c_3)) | exact Or.inr (Or.inr (Or.inr (Or.inl ⟨i, rfl, hi, c_4⟩))) | exact Or.inr (Or.inr (Or.inr (Or.inr (Or.inl c_5)))) | exact Or.inr (Or.inr (Or.inr (Or.inr (Or.inr c_6))))), rfl, rfl⟩) hM
set_option maxHeartbeats 4000000 in
/-- X1.walk -/
theorem tm_walkM (l : Launch) (D : va_G) {h : Nat} {ad : Nat → Nat} {cd : Nat → ClassId} {tc : Nat} {c1 st tm wk fo th : Nat → Nat} {x1 x2 x3 : Int32} (hI : tr_I tc c1 st tm wk) : tr_MI l yX1_walk cX1_walk 4 .boolean tr_r1 D (tr_tM cd) [.ref h, .int x1, .int x2, .int x3] (tr_wM h ad cd tc c1 st tm wk fo th) (fun (v : Int32) (u : Nat → Nat) => tr_walk wk x1 x2 x3 = (v, u)) (fun (u : Nat → Nat) => (tr_wM h ad cd tc c1 st tm u fo th)) := by
  refine tr_MI_mk (own := RX1) rfl (by decide +kernel) (Nat.le_of_ble_eq_true rfl) ?_
  intro p e s m args below meth c A Q hC hA hM ret ls hl
  have hx := hC.1.1
  have hb := hC.1.2.1
  have hown := hC.1.2.2.2.1
  have hts := hC.1.2.2.2.2
  have hl : lv_has ls 4 [(0, .ref h), (1, .int x1), (2, .int x2), (3, .int x3)] := hl
  obtain ⟨htc, hc1, hc0, hst, htm, hwk, hmo⟩ := hI
  refine lv_aload_n hx hb dX1_walk_0 rfl (lv_at hl 0 rfl) ?_
  refine lv_iload_n hx hb dX1_walk_1 rfl (lv_at hl 1 rfl) ?_
  refine tm_callI (tm_isStop l D (x := x1)) hC (cwV 1 hts (lw_V q156 q158 qs7 q15 q159) rfl rfl rfl (by decide +kernel) ⟨Nat.le_of_ble_eq_true rfl, Nat.le_of_ble_eq_true rfl⟩) hA hM rfl hl.1 rfl (Nat.le_of_ble_eq_true rfl) ⟨Nat.le_of_ble_eq_true rfl, Nat.le_of_ble_eq_true rfl⟩ dX1_walk_2 (fun v u H locs hp hM => ?_)
  rcases hp with ⟨rfl, hS_x1, a, hk_a, rfl⟩ | ⟨rfl, hS_x1⟩
  · have hM : tr_M D A s.heap H locs (tr_wM h ad cd tc c1 st tm wk fo th) := hM
    refine tw_if_eq (tgt := 31) hx hb dX1_walk_5 (by decide) (by omega) (fun c_1 => absurd c_1 (by decide)) (fun c_1 => ?_)
    refine lv_aload_n hx hb dX1_walk_8 rfl (lv_at hl 0 rfl) ?_
    refine lv_iload_n hx hb dX1_walk_9 rfl (lv_at hl 2 rfl) ?_
    refine tm_callI (tm_isStop l D (x := x2)) hC (cwV 1 hts (lw_V q156 q158 qs7 q15 q159) rfl rfl rfl (by decide +kernel) ⟨Nat.le_of_ble_eq_true rfl, Nat.le_of_ble_eq_true rfl⟩) hA hM rfl hl.1 rfl (Nat.le_of_ble_eq_true rfl) ⟨Nat.le_of_ble_eq_true rfl, Nat.le_of_ble_eq_true rfl⟩ dX1_walk_10 (fun v u H locs hp hM => ?_)
    rcases hp with ⟨rfl, hS_x2, b, hk_b, rfl⟩ | ⟨rfl, hS_x2⟩
    · have hM : tr_M D A s.heap H locs (tr_wM h ad cd tc c1 st tm wk fo th) := hM
      refine tw_if_eq (tgt := 31) hx hb dX1_walk_13 (by decide) (by omega) (fun c_2 => absurd c_2 (by decide)) (fun c_2 => ?_)
      refine lv_iload_n hx hb dX1_walk_16 rfl (lv_at hl 1 rfl) ?_
      refine lv_iload_n hx hb dX1_walk_17 rfl (lv_at hl 2 rfl) ?_
      refine tw_icmp_eq (tgt := 31) hx hb dX1_walk_18 (by decide) (by omega) (by omega) (fun c_3 => ?_) (fun c_3 => ?_)
      · refine lv_iconst (v := nI 0) hx hb dX1_walk_31 (by decide +kernel) ?_
        exact ret _ _ _ _ _ wk dX1_walk_32 rfl (by unfold tr_walk; rw [if_neg]; rintro ⟨g1, g2, g3, g4, g5⟩; first | exact absurd g1 (by rw [hS_x1]; decide) | exact absurd g2 (by rw [hS_x2]; decide) | exact g3 (by rw [c_3]) | exact g4 c_4 | exact c_5 g5) hM
      · refine lv_iload_n hx hb dX1_walk_21 rfl (lv_at hl 3 rfl) ?_
        refine lv_if_lt (tgt := 31) hx hb dX1_walk_22 (by decide) (fun c_4 => ?_) (fun c_4 => ?_)
        · refine lv_iconst (v := nI 0) hx hb dX1_walk_31 (by decide +kernel) ?_
          exact ret _ _ _ _ _ wk dX1_walk_32 rfl (by unfold tr_walk; rw [if_neg]; rintro ⟨g1, g2, g3, g4, g5⟩; first | exact absurd g1 (by rw [hS_x1]; decide) | exact absurd g2 (by rw [hS_x2]; decide) | exact g3 (by rw [c_3]) | exact g4 c_4 | exact c_5 g5) hM
        · refine lv_iload_n hx hb dX1_walk_25 rfl (lv_at hl 3 rfl) ?_
          refine lv_bipush (v := nI 99) hx hb dX1_walk_26 (by decide +kernel) ?_
          refine lv_icmp_le (tgt := 33) hx hb dX1_walk_28 (by decide) (fun c_5 => ?_) (fun c_5 => ?_)
          · obtain ⟨t, ht, rfl⟩ := tr_ixle c_4 c_5 (by omega)
            refine lv_aload_n hx hb dX1_walk_33 rfl (lv_at hl 0 rfl) ?_
            refine tm_get_wk hC hM dX1_walk_34 ?_
            refine lv_iload_n hx hb dX1_walk_37 rfl (lv_at hl 1 rfl) ?_
            refine lv_bipush (v := nI 8) hx hb dX1_walk_38 (by decide +kernel) ?_
            refine tw_imul hx hb dX1_walk_40 ?_
            refine tw_eq (Nat.mul_comm _ _) ?_
            refine lv_iload_n hx hb dX1_walk_41 rfl (lv_at hl 2 rfl) ?_
            refine tw_iadd hx hb dX1_walk_42 ?_
            refine lv_iload_n hx hb dX1_walk_43 rfl (lv_at hl 3 rfl) ?_
            refine tm_st_wk hC hM (by omega) dX1_walk_44 (fun H locs hM => ?_)
            refine lv_aload_n hx hb dX1_walk_45 rfl (lv_at hl 0 rfl) ?_
            refine tm_get_wk hC hM dX1_walk_46 ?_
            refine lv_iload_n hx hb dX1_walk_49 rfl (lv_at hl 2 rfl) ?_
            refine lv_bipush (v := nI 8) hx hb dX1_walk_50 (by decide +kernel) ?_
            refine tw_imul hx hb dX1_walk_52 ?_
            refine tw_eq (Nat.mul_comm _ _) ?_
            refine lv_iload_n hx hb dX1_walk_53 rfl (lv_at hl 1 rfl) ?_
            refine tw_iadd hx hb dX1_walk_54 ?_
            refine lv_iload_n hx hb dX1_walk_55 rfl (lv_at hl 3 rfl) ?_
            refine tm_st_wk hC hM (by omega) dX1_walk_56 (fun H locs hM => ?_)
            refine lv_iconst (v := nI 1) hx hb dX1_walk_57 (by decide +kernel) ?_
            exact ret _ _ _ _ _ (tr_up (tr_up wk (8 * a + b) t) (8 * b + a) t) dX1_walk_58 rfl (by unfold tr_walk; rw [if_pos ⟨hS_x1, hS_x2, fun z => c_3 ((nI_eq (by omega) (by omega)).mp z), c_4, c_5⟩, nI_clamp (n := a) (by omega), nI_clamp (n := b) (by omega), nI_clamp (n := t) (by omega)]) hM
          · refine lv_iconst (v := nI 0) hx hb dX1_walk_31 (by decide +kernel) ?_
            exact ret _ _ _ _ _ wk dX1_walk_32 rfl (by unfold tr_walk; rw [if_neg]; rintro ⟨g1, g2, g3, g4, g5⟩; first | exact absurd g1 (by rw [hS_x1]; decide) | exact absurd g2 (by rw [hS_x2]; decide) | exact g3 (by rw [c_3]) | exact g4 c_4 | exact c_5 g5) hM
    · have hM : tr_M D A s.heap H locs (tr_wM h ad cd tc c1 st tm wk fo th) := hM
      refine tw_if_eq (tgt := 31) hx hb dX1_walk_13 (by decide) (by omega) (fun c_6 => ?_) (fun c_6 => absurd c_6 (by decide))
      refine lv_iconst (v := nI 0) hx hb dX1_walk_31 (by decide +kernel) ?_
      exact ret _ _ _ _ _ wk dX1_walk_32 rfl (by unfold tr_walk; rw [if_neg]; rintro ⟨g1, g2, g3, g4, g5⟩; first | exact absurd g1 (by rw [hS_x1]; decide) | exact absurd g2 (by rw [hS_x2]; decide) | exact g3 (by rw [c_3]) | exact g4 c_4 | exact c_5 g5) hM
  · have hM : tr_M D A s.heap H locs (tr_wM h ad cd tc c1 st tm wk fo th) := hM
    refine tw_if_eq (tgt := 31) hx hb dX1_walk_5 (by decide) (by omega) (fun c_7 => ?_) (fun c_7 => absurd c_7 (by decide))
    refine lv_iconst (v := nI 0) hx hb dX1_walk_31 (by decide +kernel) ?_
    exact ret _ _ _ _ _ wk dX1_walk_32 rfl (by unfold tr_walk; rw [if_neg]; rintro ⟨g1, g2, g3, g4, g5⟩; first | exact absurd g1 (by rw [hS_x1]; decide) | exact absurd g2 (by rw [hS_x2]; decide) | exact g3 (by rw [c_3]) | exact g4 c_4 | exact c_5 g5) hM
end
section
set_option maxRecDepth 100000
set_option maxHeartbeats 4000000 in
/-- X1.arrival -/
theorem tm_arrivalM (l : Launch) (D : va_G) {h : Nat} {ad : Nat → Nat} {cd : Nat → ClassId} {tc : Nat} {c1 st tm wk fo th : Nat → Nat} {x1 x2 x3 x4 : Int32} (hI : tr_I tc c1 st tm wk) (hok : tm_ok (fo, th)) : tr_MI l yX1_arrival cX1_arrival 6 .int tr_r2 D (tr_tM cd) [.ref h, .int x1, .int x2, .int x3, .int x4] (tr_wM h ad cd tc c1 st tm wk fo th) (fun (v : Int32) (u : tm_Q) => v = tm_arr tc c1 st tm wk fo th x1 x2 x3 x4 ∧ tm_ok u) (fun (u : tm_Q) => (tr_wM h ad cd tc c1 st tm wk u.1 u.2)) := by
  refine tr_MI_mk (own := RX1) rfl (by decide +kernel) (Nat.le_of_ble_eq_true rfl) ?_
  intro p e s m args below meth c A Q hC hA hM ret ls hl
  have hx := hC.1.1
  have hb := hC.1.2.1
  have hown := hC.1.2.2.2.1
  have hts := hC.1.2.2.2.2
  have hl : lv_has ls 6 [(0, .ref h), (1, .int x1), (2, .int x2), (3, .int x3), (4, .int x4)] := hl
  have hJ := hI
  obtain ⟨htc, hc1, hc0, hst, htm, hwk, hmo⟩ := hI
  have hfo : ∀ j, fo j ≤ 100000 := hok.1
  have hth : ∀ j, th j ≤ 100000 := hok.2
  refine lv_aload_n hx hb dX1_arrival_0 rfl (lv_at hl 0 rfl) ?_
  refine lv_iload_n hx hb dX1_arrival_1 rfl (lv_at hl 1 rfl) ?_
  refine tm_callI (tm_isStop l D (x := x1)) hC (cwV 1 hts (lw_V q156 q158 qs7 q15 q159) rfl rfl rfl (by decide +kernel) ⟨Nat.le_of_ble_eq_true rfl, Nat.le_of_ble_eq_true rfl⟩) hA hM rfl hl.1 rfl (Nat.le_of_ble_eq_true rfl) ⟨Nat.le_of_ble_eq_true rfl, Nat.le_of_ble_eq_true rfl⟩ dX1_arrival_2 (fun v u H locs hp hM => ?_)
  rcases hp with ⟨rfl, hS_x1, a, hk_a, rfl⟩ | ⟨rfl, hS_x1⟩
  · have hM : tr_M D A s.heap H locs (tr_wM h ad cd tc c1 st tm wk fo th) := hM
    refine tw_if_eq (tgt := 36) hx hb dX1_arrival_5 (by decide) (by omega) (fun c_1 => absurd c_1 (by decide)) (fun c_1 => ?_)
    refine lv_aload_n hx hb dX1_arrival_8 rfl (lv_at hl 0 rfl) ?_
    refine lv_iload_n hx hb dX1_arrival_9 rfl (lv_at hl 2 rfl) ?_
    refine tm_callI (tm_isStop l D (x := x2)) hC (cwV 1 hts (lw_V q156 q158 qs7 q15 q159) rfl rfl rfl (by decide +kernel) ⟨Nat.le_of_ble_eq_true rfl, Nat.le_of_ble_eq_true rfl⟩) hA hM rfl hl.1 rfl (Nat.le_of_ble_eq_true rfl) ⟨Nat.le_of_ble_eq_true rfl, Nat.le_of_ble_eq_true rfl⟩ dX1_arrival_10 (fun v u H locs hp hM => ?_)
    rcases hp with ⟨rfl, hS_x2, b, hk_b, rfl⟩ | ⟨rfl, hS_x2⟩
    · have hM : tr_M D A s.heap H locs (tr_wM h ad cd tc c1 st tm wk fo th) := hM
      refine tw_if_eq (tgt := 36) hx hb dX1_arrival_13 (by decide) (by omega) (fun c_2 => absurd c_2 (by decide)) (fun c_2 => ?_)
      refine lv_aload_n hx hb dX1_arrival_16 rfl (lv_at hl 0 rfl) ?_
      refine lv_iload_n hx hb dX1_arrival_17 rfl (lv_at hl 3 rfl) ?_
      refine tm_callI (tm_isTime l D (x := x3)) hC (cwV 1 hts (lw_V q160 q162 qs8 q15 q163) rfl rfl rfl (by decide +kernel) ⟨Nat.le_of_ble_eq_true rfl, Nat.le_of_ble_eq_true rfl⟩) hA hM rfl hl.1 rfl (Nat.le_of_ble_eq_true rfl) ⟨Nat.le_of_ble_eq_true rfl, Nat.le_of_ble_eq_true rfl⟩ dX1_arrival_18 (fun v u H locs hp hM => ?_)
      rcases hp with ⟨rfl, hT_x3, t, hk_t, rfl⟩ | ⟨rfl, hT_x3⟩
      · have hM : tr_M D A s.heap H locs (tr_wM h ad cd tc c1 st tm wk fo th) := hM
        refine tw_if_eq (tgt := 36) hx hb dX1_arrival_21 (by decide) (by omega) (fun c_3 => absurd c_3 (by decide)) (fun c_3 => ?_)
        refine lv_iload hx hb dX1_arrival_24 (lv_at hl 4 rfl) ?_
        refine lv_if_lt (tgt := 36) hx hb dX1_arrival_26 (by decide) (fun c_4 => ?_) (fun c_4 => ?_)
        · refine lv_iconst (v := (-1)) hx hb dX1_arrival_36 (by decide +kernel) ?_
          exact ret _ _ _ _ _ (fo, th) dX1_arrival_37 rfl ⟨by unfold tm_arr; rw [if_neg]; rintro ⟨g1, g2, g3, g4, g5⟩; first | exact absurd g1 (by rw [hS_x1]; decide) | exact absurd g2 (by rw [hS_x2]; decide) | exact absurd g3 (by rw [hT_x3]; decide) | exact g4 c_4 | exact c_5 g5, hok⟩ hM
        · refine lv_iload hx hb dX1_arrival_29 (lv_at hl 4 rfl) ?_
          refine lv_bipush (v := nI 10) hx hb dX1_arrival_31 (by decide +kernel) ?_
          refine lv_icmp_le (tgt := 38) hx hb dX1_arrival_33 (by decide) (fun c_5 => ?_) (fun c_5 => ?_)
          · obtain ⟨n, hn, rfl⟩ := tr_ixle c_4 c_5 (by omega)
            refine lv_aload_n hx hb dX1_arrival_38 rfl (lv_at hl 0 rfl) ?_
            refine lv_iload_n hx hb dX1_arrival_39 rfl (lv_at hl 1 rfl) ?_
            refine lv_iload_n hx hb dX1_arrival_40 rfl (lv_at hl 3 rfl) ?_
            refine tm_callV (tm_searchM l D (a := a) (t := t) hJ (by omega) (by omega) hfo hth) hC (cwV 2 hts (lw_V q184 q186 qs9 q15 q187) rfl rfl rfl (by decide +kernel) ⟨Nat.le_of_ble_eq_true rfl, Nat.le_of_ble_eq_true rfl⟩) hA hM rfl hl.1 rfl (Nat.le_of_ble_eq_true rfl) ⟨Nat.le_of_ble_eq_true rfl, Nat.le_of_ble_eq_true rfl⟩ dX1_arrival_41 (fun u H locs hp hM => ?_)
            obtain ⟨e1, hok1⟩ := hp
            obtain ⟨f1, t1⟩ := u
            have hf1 : ∀ j, f1 j ≤ 100000 := hok1.1
            have ht1 : ∀ j, t1 j ≤ 100000 := hok1.2
            have hM : tr_M D A s.heap H locs (tr_wM h ad cd tc c1 st tm wk f1 t1) := hM
            refine lv_aload_n hx hb dX1_arrival_44 rfl (lv_at hl 0 rfl) ?_
            refine lv_iload_n hx hb dX1_arrival_45 rfl (lv_at hl 2 rfl) ?_
            refine lv_iload hx hb dX1_arrival_46 (lv_at hl 4 rfl) ?_
            refine tm_callI (tm_bestM l D (b := b) (n := n) (by omega) (by omega) ht1) hC (cwV 2 hts (lw_V q197 q199 qs12 q15 q200) rfl rfl rfl (by decide +kernel) ⟨Nat.le_of_ble_eq_true rfl, Nat.le_of_ble_eq_true rfl⟩) hA hM rfl hl.1 rfl (Nat.le_of_ble_eq_true rfl) ⟨Nat.le_of_ble_eq_true rfl, Nat.le_of_ble_eq_true rfl⟩ dX1_arrival_48 (fun v u H locs hp hM => ?_)
            obtain ⟨rfl, hbv_1⟩ := hp
            have hM : tr_M D A s.heap H locs (tr_wM h ad cd tc c1 st tm wk f1 t1) := hM
            refine lv_istore (lv' := [(5, .int (nI (tm_best t1 b (n + 1)))), (0, .ref h), (1, .int (nI a)), (2, .int (nI b)), (3, .int (nI t)), (4, .int (nI n))]) hx hb dX1_arrival_51 hl (by decide) rfl (fun ls hl => ?_)
            refine lv_iload hx hb dX1_arrival_53 (lv_at hl 0 rfl) ?_
            refine tw_ldc hx hb hown (hts _ q188) dX1_arrival_55 ?_
            refine tw_icmp_ne (tgt := 65) hx hb dX1_arrival_57 (by decide) (by omega) (by omega) (fun c_6 => ?_) (fun c_6 => ?_)
            · refine lv_iload hx hb dX1_arrival_65 (lv_at hl 0 rfl) ?_
              exact ret _ _ _ _ _ (f1, t1) dX1_arrival_67 rfl ⟨by unfold tm_arr tm_th; rw [if_pos ⟨hS_x1, hS_x2, hT_x3, c_4, c_5⟩, nI_clamp (n := a) (by omega), nI_clamp (n := b) (by omega), nI_clamp (n := t) (by omega), nI_clamp (n := n) (by omega), ← e1]; exact (if_neg (show ¬ tm_best t1 b (n + 1) = 100000 by omega)).symm, hok1⟩ hM
            · refine lv_bipush (v := (-3)) hx hb dX1_arrival_60 (by decide +kernel) ?_
              refine lv_goto (tgt := 67) hx hb dX1_arrival_62 (by decide) ?_
              exact ret _ _ _ _ _ (f1, t1) dX1_arrival_67 rfl ⟨by unfold tm_arr tm_th; rw [if_pos ⟨hS_x1, hS_x2, hT_x3, c_4, c_5⟩, nI_clamp (n := a) (by omega), nI_clamp (n := b) (by omega), nI_clamp (n := t) (by omega), nI_clamp (n := n) (by omega), ← e1]; exact (if_pos (show tm_best t1 b (n + 1) = 100000 by omega)).symm, hok1⟩ hM
          · refine lv_iconst (v := (-1)) hx hb dX1_arrival_36 (by decide +kernel) ?_
            exact ret _ _ _ _ _ (fo, th) dX1_arrival_37 rfl ⟨by unfold tm_arr; rw [if_neg]; rintro ⟨g1, g2, g3, g4, g5⟩; first | exact absurd g1 (by rw [hS_x1]; decide) | exact absurd g2 (by rw [hS_x2]; decide) | exact absurd g3 (by rw [hT_x3]; decide) | exact g4 c_4 | exact c_5 g5, hok⟩ hM
      · have hM : tr_M D A s.heap H locs (tr_wM h ad cd tc c1 st tm wk fo th) := hM
        refine tw_if_eq (tgt := 36) hx hb dX1_arrival_21 (by decide) (by omega) (fun c_7 => ?_) (fun c_7 => absurd c_7 (by decide))
        refine lv_iconst (v := (-1)) hx hb dX1_arrival_36 (by decide +kernel) ?_
        exact ret _ _ _ _ _ (fo, th) dX1_arrival_37 rfl ⟨by unfold tm_arr; rw [if_neg]; rintro ⟨g1, g2, g3, g4, g5⟩; first | exact absurd g1 (by rw [hS_x1]; decide) | exact absurd g2 (by rw [hS_x2]; decide) | exact absurd g3 (by rw [hT_x3]; decide) | exact g4 c_4 | exact c_5 g5, hok⟩ hM
    · have hM : tr_M D A s.heap H locs (tr_wM h ad cd tc c1 st tm wk fo th) := hM
      refine tw_if_eq (tgt := 36) hx hb dX1_arrival_13 (by decide) (by omega) (fun c_8 => ?_) (fun c_8 => absurd c_8 (by decide))
      refine lv_iconst (v := (-1)) hx hb dX1_arrival_36 (by decide +kernel) ?_
      exact ret _ _ _ _ _ (fo, th) dX1_arrival_37 rfl ⟨by unfold tm_arr; rw [if_neg]; rintro ⟨g1, g2, g3, g4, g5⟩; first | exact absurd g1 (by rw [hS_x1]; decide) | exact absurd g2 (by rw [hS_x2]; decide) | exact absurd g3 (by rw [hT_x3]; decide) | exact g4 c_4 | exact c_5 g5, hok⟩ hM
  · have hM : tr_M D A s.heap H locs (tr_wM h ad cd tc c1 st tm wk fo th) := hM
    refine tw_if_eq (tgt := 36) hx hb dX1_arrival_5 (by decide) (by omega) (fun c_9 => ?_) (fun c_9 => absurd c_9 (by decide))
    refine lv_iconst (v := (-1)) hx hb dX1_arrival_36 (by decide +kernel) ?_
    exact ret _ _ _ _ _ (fo, th) dX1_arrival_37 rfl ⟨by unfold tm_arr; rw [if_neg]; rintro ⟨g1, g2, g3, g4, g5⟩; first | exact absurd g1 (by rw [hS_x1]; decide) | exact absurd g2 (by rw [hS_x2]; decide) | exact absurd g3 (by rw [hT_x3]; decide) | exact g4 c_4 | exact c_5 g5, hok⟩ hM
set_option maxHeartbeats 4000000 in
/-- X1.fewest -/
theorem tm_fewestM (l : Launch) (D : va_G) {h : Nat} {ad : Nat → Nat} {cd : Nat → ClassId} {tc : Nat} {c1 st tm wk fo th : Nat → Nat} {x1 x2 x3 : Int32} (hI : tr_I tc c1 st tm wk) (hok : tm_ok (fo, th)) : tr_MI l yX1_fewest cX1_fewest 5 .int tr_r2 D (tr_tM cd) [.ref h, .int x1, .int x2, .int x3] (tr_wM h ad cd tc c1 st tm wk fo th) (fun (v : Int32) (u : tm_Q) => v = tm_few tc c1 st tm wk fo th x1 x2 x3 ∧ tm_ok u) (fun (u : tm_Q) => (tr_wM h ad cd tc c1 st tm wk u.1 u.2)) := by
  refine tr_MI_mk (own := RX1) rfl (by decide +kernel) (Nat.le_of_ble_eq_true rfl) ?_
  intro p e s m args below meth c A Q hC hA hM ret ls hl
  have hx := hC.1.1
  have hb := hC.1.2.1
  have hown := hC.1.2.2.2.1
  have hts := hC.1.2.2.2.2
  have hl : lv_has ls 5 [(0, .ref h), (1, .int x1), (2, .int x2), (3, .int x3)] := hl
  have hJ := hI
  obtain ⟨htc, hc1, hc0, hst, htm, hwk, hmo⟩ := hI
  have hfo : ∀ j, fo j ≤ 100000 := hok.1
  have hth : ∀ j, th j ≤ 100000 := hok.2
  refine lv_aload_n hx hb dX1_fewest_0 rfl (lv_at hl 0 rfl) ?_
  refine lv_iload_n hx hb dX1_fewest_1 rfl (lv_at hl 1 rfl) ?_
  refine tm_callI (tm_isStop l D (x := x1)) hC (cwV 1 hts (lw_V q156 q158 qs7 q15 q159) rfl rfl rfl (by decide +kernel) ⟨Nat.le_of_ble_eq_true rfl, Nat.le_of_ble_eq_true rfl⟩) hA hM rfl hl.1 rfl (Nat.le_of_ble_eq_true rfl) ⟨Nat.le_of_ble_eq_true rfl, Nat.le_of_ble_eq_true rfl⟩ dX1_fewest_2 (fun v u H locs hp hM => ?_)
  rcases hp with ⟨rfl, hS_x1, a, hk_a, rfl⟩ | ⟨rfl, hS_x1⟩
  · have hM : tr_M D A s.heap H locs (tr_wM h ad cd tc c1 st tm wk fo th) := hM
    refine tw_if_eq (tgt := 24) hx hb dX1_fewest_5 (by decide) (by omega) (fun c_1 => absurd c_1 (by decide)) (fun c_1 => ?_)
    refine lv_aload_n hx hb dX1_fewest_8 rfl (lv_at hl 0 rfl) ?_
    refine lv_iload_n hx hb dX1_fewest_9 rfl (lv_at hl 2 rfl) ?_
    refine tm_callI (tm_isStop l D (x := x2)) hC (cwV 1 hts (lw_V q156 q158 qs7 q15 q159) rfl rfl rfl (by decide +kernel) ⟨Nat.le_of_ble_eq_true rfl, Nat.le_of_ble_eq_true rfl⟩) hA hM rfl hl.1 rfl (Nat.le_of_ble_eq_true rfl) ⟨Nat.le_of_ble_eq_true rfl, Nat.le_of_ble_eq_true rfl⟩ dX1_fewest_10 (fun v u H locs hp hM => ?_)
    rcases hp with ⟨rfl, hS_x2, b, hk_b, rfl⟩ | ⟨rfl, hS_x2⟩
    · have hM : tr_M D A s.heap H locs (tr_wM h ad cd tc c1 st tm wk fo th) := hM
      refine tw_if_eq (tgt := 24) hx hb dX1_fewest_13 (by decide) (by omega) (fun c_2 => absurd c_2 (by decide)) (fun c_2 => ?_)
      refine lv_aload_n hx hb dX1_fewest_16 rfl (lv_at hl 0 rfl) ?_
      refine lv_iload_n hx hb dX1_fewest_17 rfl (lv_at hl 3 rfl) ?_
      refine tm_callI (tm_isTime l D (x := x3)) hC (cwV 1 hts (lw_V q160 q162 qs8 q15 q163) rfl rfl rfl (by decide +kernel) ⟨Nat.le_of_ble_eq_true rfl, Nat.le_of_ble_eq_true rfl⟩) hA hM rfl hl.1 rfl (Nat.le_of_ble_eq_true rfl) ⟨Nat.le_of_ble_eq_true rfl, Nat.le_of_ble_eq_true rfl⟩ dX1_fewest_18 (fun v u H locs hp hM => ?_)
      rcases hp with ⟨rfl, hT_x3, t, hk_t, rfl⟩ | ⟨rfl, hT_x3⟩
      · have hM : tr_M D A s.heap H locs (tr_wM h ad cd tc c1 st tm wk fo th) := hM
        refine tw_if_ne (tgt := 26) hx hb dX1_fewest_21 (by decide) (by omega) (fun c_3 => ?_) (fun c_3 => absurd c_3 (by decide))
        refine lv_aload_n hx hb dX1_fewest_26 rfl (lv_at hl 0 rfl) ?_
        refine lv_iload_n hx hb dX1_fewest_27 rfl (lv_at hl 1 rfl) ?_
        refine lv_iload_n hx hb dX1_fewest_28 rfl (lv_at hl 3 rfl) ?_
        refine tm_callV (tm_searchM l D (a := a) (t := t) hJ (by omega) (by omega) hfo hth) hC (cwV 2 hts (lw_V q184 q186 qs9 q15 q187) rfl rfl rfl (by decide +kernel) ⟨Nat.le_of_ble_eq_true rfl, Nat.le_of_ble_eq_true rfl⟩) hA hM rfl hl.1 rfl (Nat.le_of_ble_eq_true rfl) ⟨Nat.le_of_ble_eq_true rfl, Nat.le_of_ble_eq_true rfl⟩ dX1_fewest_29 (fun u H locs hp hM => ?_)
        obtain ⟨e1, hok1⟩ := hp
        obtain ⟨f1, t1⟩ := u
        have hf1 : ∀ j, f1 j ≤ 100000 := hok1.1
        have ht1 : ∀ j, t1 j ≤ 100000 := hok1.2
        have hM : tr_M D A s.heap H locs (tr_wM h ad cd tc c1 st tm wk f1 t1) := hM
        refine lv_iconst (v := nI 0) hx hb dX1_fewest_32 (by decide +kernel) ?_
        refine lv_istore (lv' := [(4, .int (nI 0)), (0, .ref h), (1, .int (nI a)), (2, .int (nI b)), (3, .int (nI t))]) hx hb dX1_fewest_33 hl (by decide) rfl (fun ls hl => ?_)
        have lp_1 : ∀ (n_1 : Nat) (r : Nat) (H : Heap) (locs : List Loc) (ls : Array Slot), (r ≤ 11) → (12 ≤ r + n_1) → (tr_first (fun r => t1 (8 * r + b)) (11 - r) r = tm_few tc c1 st tm wk fo th (nI a) (nI b) (nI t)) → tr_M D A s.heap H locs (tr_wM h ad cd tc c1 st tm wk f1 t1) → lv_has ls 5 [(0, .ref h), (1, .int (nI a)), (2, .int (nI b)), (3, .int (nI t)), (4, .int (nI r))] → W p l e tr_r2 s m args below meth c H locs 0 0 Q (F0 m 35 ls []) := by
          intro n_1
          induction n_1 with
          | zero => intro r H locs ls h1 h2; exact absurd h2 (by omega)
          | succ n_1 ih_1 =>
            intro r H locs ls h1 h2 ez hM hl
            refine lv_iload hx hb dX1_fewest_35 (lv_at hl 4 rfl) ?_
            refine lv_bipush (v := nI 10) hx hb dX1_fewest_37 (by decide +kernel) ?_
            refine tw_icmp_gt (tgt := 68) hx hb dX1_fewest_39 (by decide) (by omega) (by omega) (fun c_4 => ?_) (fun c_4 => ?_)
            · refine lv_bipush (v := (-3)) hx hb dX1_fewest_68 (by decide +kernel) ?_
              exact ret _ _ _ _ _ (f1, t1) dX1_fewest_70 rfl ⟨(tr_first_0 (by omega) ez).symm, hok1⟩ hM
            · refine lv_aload_n hx hb dX1_fewest_42 rfl (lv_at hl 0 rfl) ?_
              refine tm_get_th hC hM dX1_fewest_43 ?_
              refine lv_iload hx hb dX1_fewest_46 (lv_at hl 4 rfl) ?_
              refine lv_bipush (v := nI 8) hx hb dX1_fewest_48 (by decide +kernel) ?_
              refine tw_imul hx hb dX1_fewest_50 ?_
              refine tw_eq (Nat.mul_comm _ _) ?_
              refine lv_iload_n hx hb dX1_fewest_51 rfl (lv_at hl 2 rfl) ?_
              refine tw_iadd hx hb dX1_fewest_52 ?_
              refine tm_ld_th hC hM (by omega) dX1_fewest_53 ?_
              have hv_1 := ht1 (8 * r + b)
              refine tw_ldc hx hb hown (hts _ q188) dX1_fewest_54 ?_
              refine tw_icmp_ge (tgt := 62) hx hb dX1_fewest_56 (by decide) (by omega) (by omega) (fun c_5 => ?_) (fun c_5 => ?_)
              · refine lv_iinc (v := nI (r + 1)) (lv' := [(4, .int (nI (r + 1))), (0, .ref h), (1, .int (nI a)), (2, .int (nI b)), (3, .int (nI t))]) hx hb dX1_fewest_62 hl (k := 4) rfl (tr_inc r) (by decide) rfl (fun ls hl => ?_)
                refine lv_goto (tgt := 35) hx hb dX1_fewest_65 (by decide) ?_
                exact ih_1 (r + 1) _ _ _ (by omega) (by omega) (tr_first_n (by omega) ez (by show ¬ t1 (8 * r + b) < 100000; omega)) hM (lv_sub hl [1, 2, 3, 4, 0] rfl)
              · refine lv_iload hx hb dX1_fewest_59 (lv_at hl 4 rfl) ?_
                exact ret _ _ _ _ _ (f1, t1) dX1_fewest_61 rfl ⟨(tr_first_y (by omega) ez (by show t1 (8 * r + b) < 100000; omega)).symm, hok1⟩ hM
        exact lp_1 12 0 _ _ _ (by omega) (by omega) (by unfold tm_few tm_th; rw [if_pos ⟨hS_x1, hS_x2, hT_x3⟩, nI_clamp (n := a) (by omega), nI_clamp (n := b) (by omega), nI_clamp (n := t) (by omega), ← e1]) hM (lv_sub hl [1, 2, 3, 4, 0] rfl)
      · have hM : tr_M D A s.heap H locs (tr_wM h ad cd tc c1 st tm wk fo th) := hM
        refine tw_if_ne (tgt := 26) hx hb dX1_fewest_21 (by decide) (by omega) (fun c_6 => absurd c_6 (by decide)) (fun c_6 => ?_)
        refine lv_iconst (v := (-1)) hx hb dX1_fewest_24 (by decide +kernel) ?_
        exact ret _ _ _ _ _ (fo, th) dX1_fewest_25 rfl ⟨by unfold tm_few; rw [if_neg]; rintro ⟨g1, g2, g3⟩; first | exact absurd g1 (by rw [hS_x1]; decide) | exact absurd g2 (by rw [hS_x2]; decide) | exact absurd g3 (by rw [hT_x3]; decide), hok⟩ hM
    · have hM : tr_M D A s.heap H locs (tr_wM h ad cd tc c1 st tm wk fo th) := hM
      refine tw_if_eq (tgt := 24) hx hb dX1_fewest_13 (by decide) (by omega) (fun c_7 => ?_) (fun c_7 => absurd c_7 (by decide))
      refine lv_iconst (v := (-1)) hx hb dX1_fewest_24 (by decide +kernel) ?_
      exact ret _ _ _ _ _ (fo, th) dX1_fewest_25 rfl ⟨by unfold tm_few; rw [if_neg]; rintro ⟨g1, g2, g3⟩; first | exact absurd g1 (by rw [hS_x1]; decide) | exact absurd g2 (by rw [hS_x2]; decide) | exact absurd g3 (by rw [hT_x3]; decide), hok⟩ hM
  · have hM : tr_M D A s.heap H locs (tr_wM h ad cd tc c1 st tm wk fo th) := hM
    refine tw_if_eq (tgt := 24) hx hb dX1_fewest_5 (by decide) (by omega) (fun c_8 => ?_) (fun c_8 => absurd c_8 (by decide))
    refine lv_iconst (v := (-1)) hx hb dX1_fewest_24 (by decide +kernel) ?_
    exact ret _ _ _ _ _ (fo, th) dX1_fewest_25 rfl ⟨by unfold tm_few; rw [if_neg]; rintro ⟨g1, g2, g3⟩; first | exact absurd g1 (by rw [hS_x1]; decide) | exact absurd g2 (by rw [hS_x2]; decide) | exact absurd g3 (by rw [hT_x3]; decide), hok⟩ hM
set_option maxHeartbeats 4000000 in
/-- X1.choices -/
theorem tm_choicesM (l : Launch) (D : va_G) {h : Nat} {ad : Nat → Nat} {cd : Nat → ClassId} {tc : Nat} {c1 st tm wk fo th : Nat → Nat} {x1 x2 x3 : Int32} (hI : tr_I tc c1 st tm wk) (hok : tm_ok (fo, th)) : tr_MI l yX1_choices cX1_choices 6 .int tr_r2 D (tr_tM cd) [.ref h, .int x1, .int x2, .int x3] (tr_wM h ad cd tc c1 st tm wk fo th) (fun (v : Int32) (u : tm_Q) => v = tm_cho tc c1 st tm wk fo th x1 x2 x3 ∧ tm_ok u) (fun (u : tm_Q) => (tr_wM h ad cd tc c1 st tm wk u.1 u.2)) := by
  refine tr_MI_mk (own := RX1) rfl (by decide +kernel) (Nat.le_of_ble_eq_true rfl) ?_
  intro p e s m args below meth c A Q hC hA hM ret ls hl
  have hx := hC.1.1
  have hb := hC.1.2.1
  have hown := hC.1.2.2.2.1
  have hts := hC.1.2.2.2.2
  have hl : lv_has ls 6 [(0, .ref h), (1, .int x1), (2, .int x2), (3, .int x3)] := hl
  have hJ := hI
  obtain ⟨htc, hc1, hc0, hst, htm, hwk, hmo⟩ := hI
  have hfo : ∀ j, fo j ≤ 100000 := hok.1
  have hth : ∀ j, th j ≤ 100000 := hok.2
  refine lv_aload_n hx hb dX1_choices_0 rfl (lv_at hl 0 rfl) ?_
  refine lv_iload_n hx hb dX1_choices_1 rfl (lv_at hl 1 rfl) ?_
  refine tm_callI (tm_isStop l D (x := x1)) hC (cwV 1 hts (lw_V q156 q158 qs7 q15 q159) rfl rfl rfl (by decide +kernel) ⟨Nat.le_of_ble_eq_true rfl, Nat.le_of_ble_eq_true rfl⟩) hA hM rfl hl.1 rfl (Nat.le_of_ble_eq_true rfl) ⟨Nat.le_of_ble_eq_true rfl, Nat.le_of_ble_eq_true rfl⟩ dX1_choices_2 (fun v u H locs hp hM => ?_)
  rcases hp with ⟨rfl, hS_x1, a, hk_a, rfl⟩ | ⟨rfl, hS_x1⟩
  · have hM : tr_M D A s.heap H locs (tr_wM h ad cd tc c1 st tm wk fo th) := hM
    refine tw_if_eq (tgt := 24) hx hb dX1_choices_5 (by decide) (by omega) (fun c_1 => absurd c_1 (by decide)) (fun c_1 => ?_)
    refine lv_aload_n hx hb dX1_choices_8 rfl (lv_at hl 0 rfl) ?_
    refine lv_iload_n hx hb dX1_choices_9 rfl (lv_at hl 2 rfl) ?_
    refine tm_callI (tm_isStop l D (x := x2)) hC (cwV 1 hts (lw_V q156 q158 qs7 q15 q159) rfl rfl rfl (by decide +kernel) ⟨Nat.le_of_ble_eq_true rfl, Nat.le_of_ble_eq_true rfl⟩) hA hM rfl hl.1 rfl (Nat.le_of_ble_eq_true rfl) ⟨Nat.le_of_ble_eq_true rfl, Nat.le_of_ble_eq_true rfl⟩ dX1_choices_10 (fun v u H locs hp hM => ?_)
    rcases hp with ⟨rfl, hS_x2, b, hk_b, rfl⟩ | ⟨rfl, hS_x2⟩
    · have hM : tr_M D A s.heap H locs (tr_wM h ad cd tc c1 st tm wk fo th) := hM
      refine tw_if_eq (tgt := 24) hx hb dX1_choices_13 (by decide) (by omega) (fun c_2 => absurd c_2 (by decide)) (fun c_2 => ?_)
      refine lv_aload_n hx hb dX1_choices_16 rfl (lv_at hl 0 rfl) ?_
      refine lv_iload_n hx hb dX1_choices_17 rfl (lv_at hl 3 rfl) ?_
      refine tm_callI (tm_isTime l D (x := x3)) hC (cwV 1 hts (lw_V q160 q162 qs8 q15 q163) rfl rfl rfl (by decide +kernel) ⟨Nat.le_of_ble_eq_true rfl, Nat.le_of_ble_eq_true rfl⟩) hA hM rfl hl.1 rfl (Nat.le_of_ble_eq_true rfl) ⟨Nat.le_of_ble_eq_true rfl, Nat.le_of_ble_eq_true rfl⟩ dX1_choices_18 (fun v u H locs hp hM => ?_)
      rcases hp with ⟨rfl, hT_x3, t, hk_t, rfl⟩ | ⟨rfl, hT_x3⟩
      · have hM : tr_M D A s.heap H locs (tr_wM h ad cd tc c1 st tm wk fo th) := hM
        refine tw_if_ne (tgt := 26) hx hb dX1_choices_21 (by decide) (by omega) (fun c_3 => ?_) (fun c_3 => absurd c_3 (by decide))
        refine lv_aload_n hx hb dX1_choices_26 rfl (lv_at hl 0 rfl) ?_
        refine lv_iload_n hx hb dX1_choices_27 rfl (lv_at hl 1 rfl) ?_
        refine lv_iload_n hx hb dX1_choices_28 rfl (lv_at hl 3 rfl) ?_
        refine tm_callV (tm_searchM l D (a := a) (t := t) hJ (by omega) (by omega) hfo hth) hC (cwV 2 hts (lw_V q184 q186 qs9 q15 q187) rfl rfl rfl (by decide +kernel) ⟨Nat.le_of_ble_eq_true rfl, Nat.le_of_ble_eq_true rfl⟩) hA hM rfl hl.1 rfl (Nat.le_of_ble_eq_true rfl) ⟨Nat.le_of_ble_eq_true rfl, Nat.le_of_ble_eq_true rfl⟩ dX1_choices_29 (fun u H locs hp hM => ?_)
        obtain ⟨e1, hok1⟩ := hp
        obtain ⟨f1, t1⟩ := u
        have hf1 : ∀ j, f1 j ≤ 100000 := hok1.1
        have ht1 : ∀ j, t1 j ≤ 100000 := hok1.2
        have hM : tr_M D A s.heap H locs (tr_wM h ad cd tc c1 st tm wk f1 t1) := hM
        refine lv_aload_n hx hb dX1_choices_32 rfl (lv_at hl 0 rfl) ?_
        refine tm_get_th hC hM dX1_choices_33 ?_
        refine lv_iload_n hx hb dX1_choices_36 rfl (lv_at hl 2 rfl) ?_
        refine tm_ld_th hC hM (by omega) dX1_choices_37 ?_
        have hv_1 := ht1 b
        refine tw_ldc hx hb hown (hts _ q188) dX1_choices_38 ?_
        refine tw_icmp_ge (tgt := 47) hx hb dX1_choices_40 (by decide) (by omega) (by omega) (fun c_4 => ?_) (fun c_4 => ?_)
        · refine lv_iconst (v := nI 0) hx hb dX1_choices_47 (by decide +kernel) ?_
          refine lv_istore (lv' := [(4, .int (nI 0)), (0, .ref h), (1, .int (nI a)), (2, .int (nI b)), (3, .int (nI t))]) hx hb dX1_choices_48 hl (by decide) rfl (fun ls hl => ?_)
          refine lv_iconst (v := nI 1) hx hb dX1_choices_50 (by decide +kernel) ?_
          refine lv_istore (lv' := [(5, .int (nI 1)), (4, .int (nI 0)), (0, .ref h), (1, .int (nI a)), (2, .int (nI b)), (3, .int (nI t))]) hx hb dX1_choices_51 hl (by decide) rfl (fun ls hl => ?_)
          have lp_1 : ∀ (n_1 : Nat) (j : Nat) (n : Nat) (H : Heap) (locs : List Loc) (ls : Array Slot), (j ≤ 10) → (11 ≤ j + n_1) → (n = tm_cnt t1 b j) → tr_M D A s.heap H locs (tr_wM h ad cd tc c1 st tm wk f1 t1) → lv_has ls 6 [(0, .ref h), (1, .int (nI a)), (2, .int (nI b)), (3, .int (nI t)), (4, .int (nI n)), (5, .int (nI (j + 1)))] → W p l e tr_r2 s m args below meth c H locs 0 0 Q (F0 m 53 ls []) := by
            intro n_1
            induction n_1 with
            | zero => intro j n H locs ls h1 h2; exact absurd h2 (by omega)
            | succ n_1 ih_1 =>
              intro j n H locs ls h1 h2 en hM hl
              refine lv_iload hx hb dX1_choices_53 (lv_at hl 5 rfl) ?_
              refine lv_bipush (v := nI 10) hx hb dX1_choices_55 (by decide +kernel) ?_
              refine tw_icmp_gt (tgt := 93) hx hb dX1_choices_57 (by decide) (by omega) (by omega) (fun c_5 => ?_) (fun c_5 => ?_)
              · refine lv_iload hx hb dX1_choices_93 (lv_at hl 4 rfl) ?_
                exact ret _ _ _ _ _ (f1, t1) dX1_choices_95 rfl ⟨by unfold tm_cho tm_th; rw [if_pos ⟨hS_x1, hS_x2, hT_x3⟩, nI_clamp (n := a) (by omega), nI_clamp (n := b) (by omega), nI_clamp (n := t) (by omega), ← e1, en, show j = 10 by omega], hok1⟩ hM
              · refine lv_aload_n hx hb dX1_choices_60 rfl (lv_at hl 0 rfl) ?_
                refine tm_get_th hC hM dX1_choices_61 ?_
                refine lv_iload hx hb dX1_choices_64 (lv_at hl 5 rfl) ?_
                refine lv_bipush (v := nI 8) hx hb dX1_choices_66 (by decide +kernel) ?_
                refine tw_imul hx hb dX1_choices_68 ?_
                refine tw_eq (Nat.mul_comm _ _) ?_
                refine lv_iload_n hx hb dX1_choices_69 rfl (lv_at hl 2 rfl) ?_
                refine tw_iadd hx hb dX1_choices_70 ?_
                refine tm_ld_th hC hM (by omega) dX1_choices_71 ?_
                have hv_2 := ht1 (8 * (j + 1) + b)
                refine lv_aload_n hx hb dX1_choices_72 rfl (lv_at hl 0 rfl) ?_
                refine lv_iload_n hx hb dX1_choices_73 rfl (lv_at hl 2 rfl) ?_
                refine lv_iload hx hb dX1_choices_74 (lv_at hl 5 rfl) ?_
                refine lv_iconst (v := nI 1) hx hb dX1_choices_76 (by decide +kernel) ?_
                refine tw_isub hx hb dX1_choices_77 (by omega) ?_
                refine tw_eq (show j + 1 - 1 = j by omega) ?_
                refine tm_callI (tm_bestM l D (b := b) (n := j) (by omega) (by omega) ht1) hC (cwV 2 hts (lw_V q197 q199 qs12 q15 q200) rfl rfl rfl (by decide +kernel) ⟨Nat.le_of_ble_eq_true rfl, Nat.le_of_ble_eq_true rfl⟩) hA hM rfl hl.1 rfl (Nat.le_of_ble_eq_true rfl) ⟨Nat.le_of_ble_eq_true rfl, Nat.le_of_ble_eq_true rfl⟩ dX1_choices_78 (fun v u H locs hp hM => ?_)
                obtain ⟨rfl, hbv_1⟩ := hp
                have hM : tr_M D A s.heap H locs (tr_wM h ad cd tc c1 st tm wk f1 t1) := hM
                refine tw_icmp_ge (tgt := 87) hx hb dX1_choices_81 (by decide) (by omega) (by omega) (fun c_6 => ?_) (fun c_6 => ?_)
                · refine lv_iinc (v := nI (j + 1 + 1)) (lv' := [(5, .int (nI (j + 1 + 1))), (0, .ref h), (1, .int (nI a)), (2, .int (nI b)), (3, .int (nI t)), (4, .int (nI n))]) hx hb dX1_choices_87 hl (k := 5) rfl (tr_inc (j + 1)) (by decide) rfl (fun ls hl => ?_)
                  refine lv_goto (tgt := 53) hx hb dX1_choices_90 (by decide) ?_
                  exact ih_1 (j + 1) n _ _ _ (by omega) (by omega) (tr_it_n en (if_neg (by omega)).symm) hM (lv_sub hl [1, 2, 3, 4, 5, 0] rfl)
                · refine lv_iinc (v := nI (n + 1)) (lv' := [(4, .int (nI (n + 1))), (0, .ref h), (1, .int (nI a)), (2, .int (nI b)), (3, .int (nI t)), (5, .int (nI (j + 1)))]) hx hb dX1_choices_84 hl (k := 4) rfl (tr_inc n) (by decide) rfl (fun ls hl => ?_)
                  refine lv_iinc (v := nI (j + 1 + 1)) (lv' := [(5, .int (nI (j + 1 + 1))), (4, .int (nI (n + 1))), (0, .ref h), (1, .int (nI a)), (2, .int (nI b)), (3, .int (nI t))]) hx hb dX1_choices_87 hl (k := 5) rfl (tr_inc (j + 1)) (by decide) rfl (fun ls hl => ?_)
                  refine lv_goto (tgt := 53) hx hb dX1_choices_90 (by decide) ?_
                  exact ih_1 (j + 1) (n + 1) _ _ _ (by omega) (by omega) (tr_it_n en (if_pos (by omega)).symm) hM (lv_sub hl [2, 3, 4, 5, 1, 0] rfl)
          exact lp_1 11 0 0 _ _ _ (by omega) (by omega) (by first | exact (if_pos (by omega)).symm | exact (if_neg (by omega)).symm) hM (lv_sub hl [2, 3, 4, 5, 1, 0] rfl)
        · refine lv_iconst (v := nI 1) hx hb dX1_choices_43 (by decide +kernel) ?_
          refine lv_goto (tgt := 48) hx hb dX1_choices_44 (by decide) ?_
          refine lv_istore (lv' := [(4, .int (nI 1)), (0, .ref h), (1, .int (nI a)), (2, .int (nI b)), (3, .int (nI t))]) hx hb dX1_choices_48 hl (by decide) rfl (fun ls hl => ?_)
          refine lv_iconst (v := nI 1) hx hb dX1_choices_50 (by decide +kernel) ?_
          refine lv_istore (lv' := [(5, .int (nI 1)), (4, .int (nI 1)), (0, .ref h), (1, .int (nI a)), (2, .int (nI b)), (3, .int (nI t))]) hx hb dX1_choices_51 hl (by decide) rfl (fun ls hl => ?_)
          have lp_2 : ∀ (n_2 : Nat) (j : Nat) (n : Nat) (H : Heap) (locs : List Loc) (ls : Array Slot), (j ≤ 10) → (11 ≤ j + n_2) → (n = tm_cnt t1 b j) → tr_M D A s.heap H locs (tr_wM h ad cd tc c1 st tm wk f1 t1) → lv_has ls 6 [(0, .ref h), (1, .int (nI a)), (2, .int (nI b)), (3, .int (nI t)), (4, .int (nI n)), (5, .int (nI (j + 1)))] → W p l e tr_r2 s m args below meth c H locs 0 0 Q (F0 m 53 ls []) := by
            intro n_2
            induction n_2 with
            | zero => intro j n H locs ls h1 h2; exact absurd h2 (by omega)
            | succ n_2 ih_2 =>
              intro j n H locs ls h1 h2 en hM hl
              refine lv_iload hx hb dX1_choices_53 (lv_at hl 5 rfl) ?_
              refine lv_bipush (v := nI 10) hx hb dX1_choices_55 (by decide +kernel) ?_
              refine tw_icmp_gt (tgt := 93) hx hb dX1_choices_57 (by decide) (by omega) (by omega) (fun c_7 => ?_) (fun c_7 => ?_)
              · refine lv_iload hx hb dX1_choices_93 (lv_at hl 4 rfl) ?_
                exact ret _ _ _ _ _ (f1, t1) dX1_choices_95 rfl ⟨by unfold tm_cho tm_th; rw [if_pos ⟨hS_x1, hS_x2, hT_x3⟩, nI_clamp (n := a) (by omega), nI_clamp (n := b) (by omega), nI_clamp (n := t) (by omega), ← e1, en, show j = 10 by omega], hok1⟩ hM
              · refine lv_aload_n hx hb dX1_choices_60 rfl (lv_at hl 0 rfl) ?_
                refine tm_get_th hC hM dX1_choices_61 ?_
                refine lv_iload hx hb dX1_choices_64 (lv_at hl 5 rfl) ?_
                refine lv_bipush (v := nI 8) hx hb dX1_choices_66 (by decide +kernel) ?_
                refine tw_imul hx hb dX1_choices_68 ?_
                refine tw_eq (Nat.mul_comm _ _) ?_
                refine lv_iload_n hx hb dX1_choices_69 rfl (lv_at hl 2 rfl) ?_
                refine tw_iadd hx hb dX1_choices_70 ?_
                refine tm_ld_th hC hM (by omega) dX1_choices_71 ?_
                have hv_3 := ht1 (8 * (j + 1) + b)
                refine lv_aload_n hx hb dX1_choices_72 rfl (lv_at hl 0 rfl) ?_
                refine lv_iload_n hx hb dX1_choices_73 rfl (lv_at hl 2 rfl) ?_
                refine lv_iload hx hb dX1_choices_74 (lv_at hl 5 rfl) ?_
                refine lv_iconst (v := nI 1) hx hb dX1_choices_76 (by decide +kernel) ?_
                refine tw_isub hx hb dX1_choices_77 (by omega) ?_
                refine tw_eq (show j + 1 - 1 = j by omega) ?_
                refine tm_callI (tm_bestM l D (b := b) (n := j) (by omega) (by omega) ht1) hC (cwV 2 hts (lw_V q197 q199 qs12 q15 q200) rfl rfl rfl (by decide +kernel) ⟨Nat.le_of_ble_eq_true rfl, Nat.le_of_ble_eq_true rfl⟩) hA hM rfl hl.1 rfl (Nat.le_of_ble_eq_true rfl) ⟨Nat.le_of_ble_eq_true rfl, Nat.le_of_ble_eq_true rfl⟩ dX1_choices_78 (fun v u H locs hp hM => ?_)
                obtain ⟨rfl, hbv_2⟩ := hp
                have hM : tr_M D A s.heap H locs (tr_wM h ad cd tc c1 st tm wk f1 t1) := hM
                refine tw_icmp_ge (tgt := 87) hx hb dX1_choices_81 (by decide) (by omega) (by omega) (fun c_8 => ?_) (fun c_8 => ?_)
                · refine lv_iinc (v := nI (j + 1 + 1)) (lv' := [(5, .int (nI (j + 1 + 1))), (0, .ref h), (1, .int (nI a)), (2, .int (nI b)), (3, .int (nI t)), (4, .int (nI n))]) hx hb dX1_choices_87 hl (k := 5) rfl (tr_inc (j + 1)) (by decide) rfl (fun ls hl => ?_)
                  refine lv_goto (tgt := 53) hx hb dX1_choices_90 (by decide) ?_
                  exact ih_2 (j + 1) n _ _ _ (by omega) (by omega) (tr_it_n en (if_neg (by omega)).symm) hM (lv_sub hl [1, 2, 3, 4, 5, 0] rfl)
                · refine lv_iinc (v := nI (n + 1)) (lv' := [(4, .int (nI (n + 1))), (0, .ref h), (1, .int (nI a)), (2, .int (nI b)), (3, .int (nI t)), (5, .int (nI (j + 1)))]) hx hb dX1_choices_84 hl (k := 4) rfl (tr_inc n) (by decide) rfl (fun ls hl => ?_)
                  refine lv_iinc (v := nI (j + 1 + 1)) (lv' := [(5, .int (nI (j + 1 + 1))), (4, .int (nI (n + 1))), (0, .ref h), (1, .int (nI a)), (2, .int (nI b)), (3, .int (nI t))]) hx hb dX1_choices_87 hl (k := 5) rfl (tr_inc (j + 1)) (by decide) rfl (fun ls hl => ?_)
                  refine lv_goto (tgt := 53) hx hb dX1_choices_90 (by decide) ?_
                  exact ih_2 (j + 1) (n + 1) _ _ _ (by omega) (by omega) (tr_it_n en (if_pos (by omega)).symm) hM (lv_sub hl [2, 3, 4, 5, 1, 0] rfl)
          exact lp_2 11 0 1 _ _ _ (by omega) (by omega) (by first | exact (if_pos (by omega)).symm | exact (if_neg (by omega)).symm) hM (lv_sub hl [2, 3, 4, 5, 1, 0] rfl)
      · have hM : tr_M D A s.heap H locs (tr_wM h ad cd tc c1 st tm wk fo th) := hM
        refine tw_if_ne (tgt := 26) hx hb dX1_choices_21 (by decide) (by omega) (fun c_9 => absurd c_9 (by decide)) (fun c_9 => ?_)
        refine lv_iconst (v := (-1)) hx hb dX1_choices_24 (by decide +kernel) ?_
        exact ret _ _ _ _ _ (fo, th) dX1_choices_25 rfl ⟨by unfold tm_cho; rw [if_neg]; rintro ⟨g1, g2, g3⟩; first | exact absurd g1 (by rw [hS_x1]; decide) | exact absurd g2 (by rw [hS_x2]; decide) | exact absurd g3 (by rw [hT_x3]; decide), hok⟩ hM
    · have hM : tr_M D A s.heap H locs (tr_wM h ad cd tc c1 st tm wk fo th) := hM
      refine tw_if_eq (tgt := 24) hx hb dX1_choices_13 (by decide) (by omega) (fun c_10 => ?_) (fun c_10 => absurd c_10 (by decide))
      refine lv_iconst (v := (-1)) hx hb dX1_choices_24 (by decide +kernel) ?_
      exact ret _ _ _ _ _ (fo, th) dX1_choices_25 rfl ⟨by unfold tm_cho; rw [if_neg]; rintro ⟨g1, g2, g3⟩; first | exact absurd g1 (by rw [hS_x1]; decide) | exact absurd g2 (by rw [hS_x2]; decide) | exact absurd g3 (by rw [hT_x3]; decide), hok⟩ hM
  · have hM : tr_M D A s.heap H locs (tr_wM h ad cd tc c1 st tm wk fo th) := hM
    refine tw_if_eq (tgt := 24) hx hb dX1_choices_5 (by decide) (by omega) (fun c_11 => ?_) (fun c_11 => absurd c_11 (by decide))
    refine lv_iconst (v := (-1)) hx hb dX1_choices_24 (by decide +kernel) ?_
    exact ret _ _ _ _ _ (fo, th) dX1_choices_25 rfl ⟨by unfold tm_cho; rw [if_neg]; rintro ⟨g1, g2, g3⟩; first | exact absurd g1 (by rw [hS_x1]; decide) | exact absurd g2 (by rw [hS_x2]; decide) | exact absurd g3 (by rw [hT_x3]; decide), hok⟩ hM
set_option maxHeartbeats 4000000 in
/-- X1.within -/
theorem tm_withinM (l : Launch) (D : va_G) {h : Nat} {ad : Nat → Nat} {cd : Nat → ClassId} {tc : Nat} {c1 st tm wk fo th : Nat → Nat} {x1 x2 x3 : Int32} (hI : tr_I tc c1 st tm wk) (hok : tm_ok (fo, th)) : tr_MI l yX1_within cX1_within 6 .int tr_r2 D (tr_tM cd) [.ref h, .int x1, .int x2, .int x3] (tr_wM h ad cd tc c1 st tm wk fo th) (fun (v : Int32) (u : tm_Q) => v = tm_wit tc c1 st tm wk fo th x1 x2 x3 ∧ tm_ok u) (fun (u : tm_Q) => (tr_wM h ad cd tc c1 st tm wk u.1 u.2)) := by
  refine tr_MI_mk (own := RX1) rfl (by decide +kernel) (Nat.le_of_ble_eq_true rfl) ?_
  intro p e s m args below meth c A Q hC hA hM ret ls hl
  have hx := hC.1.1
  have hb := hC.1.2.1
  have hown := hC.1.2.2.2.1
  have hts := hC.1.2.2.2.2
  have hl : lv_has ls 6 [(0, .ref h), (1, .int x1), (2, .int x2), (3, .int x3)] := hl
  have hJ := hI
  obtain ⟨htc, hc1, hc0, hst, htm, hwk, hmo⟩ := hI
  have hfo : ∀ j, fo j ≤ 100000 := hok.1
  have hth : ∀ j, th j ≤ 100000 := hok.2
  refine lv_aload_n hx hb dX1_within_0 rfl (lv_at hl 0 rfl) ?_
  refine lv_iload_n hx hb dX1_within_1 rfl (lv_at hl 1 rfl) ?_
  refine tm_callI (tm_isStop l D (x := x1)) hC (cwV 1 hts (lw_V q156 q158 qs7 q15 q159) rfl rfl rfl (by decide +kernel) ⟨Nat.le_of_ble_eq_true rfl, Nat.le_of_ble_eq_true rfl⟩) hA hM rfl hl.1 rfl (Nat.le_of_ble_eq_true rfl) ⟨Nat.le_of_ble_eq_true rfl, Nat.le_of_ble_eq_true rfl⟩ dX1_within_2 (fun v u H locs hp hM => ?_)
  rcases hp with ⟨rfl, hS_x1, a, hk_a, rfl⟩ | ⟨rfl, hS_x1⟩
  · have hM : tr_M D A s.heap H locs (tr_wM h ad cd tc c1 st tm wk fo th) := hM
    refine tw_if_eq (tgt := 24) hx hb dX1_within_5 (by decide) (by omega) (fun c_1 => absurd c_1 (by decide)) (fun c_1 => ?_)
    refine lv_aload_n hx hb dX1_within_8 rfl (lv_at hl 0 rfl) ?_
    refine lv_iload_n hx hb dX1_within_9 rfl (lv_at hl 2 rfl) ?_
    refine tm_callI (tm_isTime l D (x := x2)) hC (cwV 1 hts (lw_V q160 q162 qs8 q15 q163) rfl rfl rfl (by decide +kernel) ⟨Nat.le_of_ble_eq_true rfl, Nat.le_of_ble_eq_true rfl⟩) hA hM rfl hl.1 rfl (Nat.le_of_ble_eq_true rfl) ⟨Nat.le_of_ble_eq_true rfl, Nat.le_of_ble_eq_true rfl⟩ dX1_within_10 (fun v u H locs hp hM => ?_)
    rcases hp with ⟨rfl, hT_x2, t, hk_t, rfl⟩ | ⟨rfl, hT_x2⟩
    · have hM : tr_M D A s.heap H locs (tr_wM h ad cd tc c1 st tm wk fo th) := hM
      refine tw_if_eq (tgt := 24) hx hb dX1_within_13 (by decide) (by omega) (fun c_2 => absurd c_2 (by decide)) (fun c_2 => ?_)
      refine lv_aload_n hx hb dX1_within_16 rfl (lv_at hl 0 rfl) ?_
      refine lv_iload_n hx hb dX1_within_17 rfl (lv_at hl 3 rfl) ?_
      refine tm_callI (tm_isTime l D (x := x3)) hC (cwV 1 hts (lw_V q160 q162 qs8 q15 q163) rfl rfl rfl (by decide +kernel) ⟨Nat.le_of_ble_eq_true rfl, Nat.le_of_ble_eq_true rfl⟩) hA hM rfl hl.1 rfl (Nat.le_of_ble_eq_true rfl) ⟨Nat.le_of_ble_eq_true rfl, Nat.le_of_ble_eq_true rfl⟩ dX1_within_18 (fun v u H locs hp hM => ?_)
      rcases hp with ⟨rfl, hT_x3, y, hk_y, rfl⟩ | ⟨rfl, hT_x3⟩
      · have hM : tr_M D A s.heap H locs (tr_wM h ad cd tc c1 st tm wk fo th) := hM
        refine tw_if_ne (tgt := 26) hx hb dX1_within_21 (by decide) (by omega) (fun c_3 => ?_) (fun c_3 => absurd c_3 (by decide))
        refine lv_aload_n hx hb dX1_within_26 rfl (lv_at hl 0 rfl) ?_
        refine lv_iload_n hx hb dX1_within_27 rfl (lv_at hl 1 rfl) ?_
        refine lv_iload_n hx hb dX1_within_28 rfl (lv_at hl 2 rfl) ?_
        refine tm_callV (tm_searchM l D (a := a) (t := t) hJ (by omega) (by omega) hfo hth) hC (cwV 2 hts (lw_V q184 q186 qs9 q15 q187) rfl rfl rfl (by decide +kernel) ⟨Nat.le_of_ble_eq_true rfl, Nat.le_of_ble_eq_true rfl⟩) hA hM rfl hl.1 rfl (Nat.le_of_ble_eq_true rfl) ⟨Nat.le_of_ble_eq_true rfl, Nat.le_of_ble_eq_true rfl⟩ dX1_within_29 (fun u H locs hp hM => ?_)
        obtain ⟨e1, hok1⟩ := hp
        obtain ⟨f1, t1⟩ := u
        have hf1 : ∀ j, f1 j ≤ 100000 := hok1.1
        have ht1 : ∀ j, t1 j ≤ 100000 := hok1.2
        have hM : tr_M D A s.heap H locs (tr_wM h ad cd tc c1 st tm wk f1 t1) := hM
        refine lv_iconst (v := nI 0) hx hb dX1_within_32 (by decide +kernel) ?_
        refine lv_istore (lv' := [(4, .int (nI 0)), (0, .ref h), (1, .int (nI a)), (2, .int (nI t)), (3, .int (nI y))]) hx hb dX1_within_33 hl (by decide) rfl (fun ls hl => ?_)
        refine lv_iconst (v := nI 0) hx hb dX1_within_35 (by decide +kernel) ?_
        refine lv_istore (lv' := [(5, .int (nI 0)), (4, .int (nI 0)), (0, .ref h), (1, .int (nI a)), (2, .int (nI t)), (3, .int (nI y))]) hx hb dX1_within_36 hl (by decide) rfl (fun ls hl => ?_)
        have lp_1 : ∀ (n_1 : Nat) (q : Nat) (z : Nat) (H : Heap) (locs : List Loc) (ls : Array Slot), (q ≤ 8) → (9 ≤ q + n_1) → (z = tr_set (fun q => decide (tm_best t1 q 11 ≤ y)) q) → tr_M D A s.heap H locs (tr_wM h ad cd tc c1 st tm wk f1 t1) → lv_has ls 6 [(0, .ref h), (1, .int (nI a)), (2, .int (nI t)), (3, .int (nI y)), (4, .int (nI z)), (5, .int (nI q))] → W p l e tr_r2 s m args below meth c H locs 0 0 Q (F0 m 38 ls []) := by
          intro n_1
          induction n_1 with
          | zero => intro q z H locs ls h1 h2; exact absurd h2 (by omega)
          | succ n_1 ih_1 =>
            intro q z H locs ls h1 h2 ez hM hl
            refine lv_iload hx hb dX1_within_38 (lv_at hl 5 rfl) ?_
            refine lv_bipush (v := nI 8) hx hb dX1_within_40 (by decide +kernel) ?_
            refine tw_icmp_ge (tgt := 72) hx hb dX1_within_42 (by decide) (by omega) (by omega) (fun c_4 => ?_) (fun c_4 => ?_)
            · refine lv_iload hx hb dX1_within_72 (lv_at hl 4 rfl) ?_
              exact ret _ _ _ _ _ (f1, t1) dX1_within_74 rfl ⟨by unfold tm_wit tm_th; rw [if_pos ⟨hS_x1, hT_x2, hT_x3⟩, nI_clamp (n := a) (by omega), nI_clamp (n := t) (by omega), nI_clamp (n := y) (by omega), ← e1, ez, show q = 8 by omega], hok1⟩ hM
            · refine lv_aload_n hx hb dX1_within_45 rfl (lv_at hl 0 rfl) ?_
              refine lv_iload hx hb dX1_within_46 (lv_at hl 5 rfl) ?_
              refine lv_bipush (v := nI 10) hx hb dX1_within_48 (by decide +kernel) ?_
              refine tm_callI (tm_bestM l D (b := q) (n := 10) (by omega) (by omega) ht1) hC (cwV 2 hts (lw_V q197 q199 qs12 q15 q200) rfl rfl rfl (by decide +kernel) ⟨Nat.le_of_ble_eq_true rfl, Nat.le_of_ble_eq_true rfl⟩) hA hM rfl hl.1 rfl (Nat.le_of_ble_eq_true rfl) ⟨Nat.le_of_ble_eq_true rfl, Nat.le_of_ble_eq_true rfl⟩ dX1_within_50 (fun v u H locs hp hM => ?_)
              obtain ⟨rfl, hbv_1⟩ := hp
              have hM : tr_M D A s.heap H locs (tr_wM h ad cd tc c1 st tm wk f1 t1) := hM
              have hbv_1 : tm_best t1 q 11 ≤ 100000 := hbv_1
              refine tw_eq (show tm_best t1 q (10 + 1) = tm_best t1 q 11 from rfl) ?_
              refine lv_iload_n hx hb dX1_within_53 rfl (lv_at hl 3 rfl) ?_
              refine tw_icmp_gt (tgt := 66) hx hb dX1_within_54 (by decide) (by omega) (by omega) (fun c_5 => ?_) (fun c_5 => ?_)
              · refine lv_iinc (v := nI (q + 1)) (lv' := [(5, .int (nI (q + 1))), (0, .ref h), (1, .int (nI a)), (2, .int (nI t)), (3, .int (nI y)), (4, .int (nI z))]) hx hb dX1_within_66 hl (k := 5) rfl (tr_inc q) (by decide) rfl (fun ls hl => ?_)
                refine lv_goto (tgt := 38) hx hb dX1_within_69 (by decide) ?_
                exact ih_1 (q + 1) z _ _ _ (by omega) (by omega) (tr_it_n ez (if_neg (fun z9 => absurd (of_decide_eq_true z9) (by omega))).symm) hM (lv_sub hl [1, 2, 3, 4, 5, 0] rfl)
              · refine lv_iload hx hb dX1_within_57 (lv_at hl 4 rfl) ?_
                refine lv_iconst (v := nI 1) hx hb dX1_within_59 (by decide +kernel) ?_
                refine lv_iload hx hb dX1_within_60 (lv_at hl 5 rfl) ?_
                refine tw_ishl1 hx hb dX1_within_62 (by omega) ?_
                refine tw_ior hx hb dX1_within_63 ?_
                refine lv_istore (lv' := [(4, .int (nI (z ||| (2 ^ q)))), (0, .ref h), (1, .int (nI a)), (2, .int (nI t)), (3, .int (nI y)), (5, .int (nI q))]) hx hb dX1_within_64 hl (by decide) rfl (fun ls hl => ?_)
                refine lv_iinc (v := nI (q + 1)) (lv' := [(5, .int (nI (q + 1))), (4, .int (nI (z ||| (2 ^ q)))), (0, .ref h), (1, .int (nI a)), (2, .int (nI t)), (3, .int (nI y))]) hx hb dX1_within_66 hl (k := 5) rfl (tr_inc q) (by decide) rfl (fun ls hl => ?_)
                refine lv_goto (tgt := 38) hx hb dX1_within_69 (by decide) ?_
                exact ih_1 (q + 1) (z ||| (2 ^ q)) _ _ _ (by omega) (by omega) (tr_it_n ez (if_pos (decide_eq_true (by omega))).symm) hM (lv_sub hl [2, 3, 4, 5, 1, 0] rfl)
        exact lp_1 9 0 0 _ _ _ (by omega) (by omega) rfl hM (lv_sub hl [2, 3, 4, 5, 1, 0] rfl)
      · have hM : tr_M D A s.heap H locs (tr_wM h ad cd tc c1 st tm wk fo th) := hM
        refine tw_if_ne (tgt := 26) hx hb dX1_within_21 (by decide) (by omega) (fun c_6 => absurd c_6 (by decide)) (fun c_6 => ?_)
        refine lv_iconst (v := (-1)) hx hb dX1_within_24 (by decide +kernel) ?_
        exact ret _ _ _ _ _ (fo, th) dX1_within_25 rfl ⟨by unfold tm_wit; rw [if_neg]; rintro ⟨g1, g2, g3⟩; first | exact absurd g1 (by rw [hS_x1]; decide) | exact absurd g2 (by rw [hT_x2]; decide) | exact absurd g3 (by rw [hT_x3]; decide), hok⟩ hM
    · have hM : tr_M D A s.heap H locs (tr_wM h ad cd tc c1 st tm wk fo th) := hM
      refine tw_if_eq (tgt := 24) hx hb dX1_within_13 (by decide) (by omega) (fun c_7 => ?_) (fun c_7 => absurd c_7 (by decide))
      refine lv_iconst (v := (-1)) hx hb dX1_within_24 (by decide +kernel) ?_
      exact ret _ _ _ _ _ (fo, th) dX1_within_25 rfl ⟨by unfold tm_wit; rw [if_neg]; rintro ⟨g1, g2, g3⟩; first | exact absurd g1 (by rw [hS_x1]; decide) | exact absurd g2 (by rw [hT_x2]; decide) | exact absurd g3 (by rw [hT_x3]; decide), hok⟩ hM
  · have hM : tr_M D A s.heap H locs (tr_wM h ad cd tc c1 st tm wk fo th) := hM
    refine tw_if_eq (tgt := 24) hx hb dX1_within_5 (by decide) (by omega) (fun c_8 => ?_) (fun c_8 => absurd c_8 (by decide))
    refine lv_iconst (v := (-1)) hx hb dX1_within_24 (by decide +kernel) ?_
    exact ret _ _ _ _ _ (fo, th) dX1_within_25 rfl ⟨by unfold tm_wit; rw [if_neg]; rintro ⟨g1, g2, g3⟩; first | exact absurd g1 (by rw [hS_x1]; decide) | exact absurd g2 (by rw [hT_x2]; decide) | exact absurd g3 (by rw [hT_x3]; decide), hok⟩ hM
end
section
set_option maxRecDepth 100000
/-! the plain law: reachability as predicates: P s x: one can be at stop s by time x -/
section TP
variable {tc : Nat} {c1 st tm wk : Nat → Nat} {a t : Nat}
def tp_R (tc : Nat) (c1 st tm : Nat → Nat) (P : Nat → Nat → Prop) (s x : Nat) : Prop := ∃ i, i < tc ∧ ∃ c, c < c1 i ∧ st (5 * i + c) = s ∧ tm (5 * i + c) ≤ x ∧ ∃ k, k < c ∧ P (st (5 * i + k)) (tm (5 * i + k))
def tp_W (wk : Nat → Nat) (P : Nat → Nat → Prop) (s x : Nat) : Prop := P s x ∨ ∃ u, u < 8 ∧ 0 < wk (8 * u + s) ∧ wk (8 * u + s) ≤ x ∧ P u (x - wk (8 * u + s))
def tp_0 (a t : Nat) (s x : Nat) : Prop := s = a ∧ t ≤ x
/-- with just n rides -/
def tp_T (tc : Nat) (c1 st tm wk : Nat → Nat) (a t : Nat) : Nat → Nat → Nat → Prop
  | 0 => tp_W wk (tp_0 a t)
  | n + 1 => tp_W wk (tp_R tc c1 st tm (tp_T tc c1 st tm wk a t n))
/-- with at most n rides -/
def tp_B (tc : Nat) (c1 st tm wk : Nat → Nat) (a t : Nat) : Nat → Nat → Nat → Prop
  | 0 => tp_W wk (tp_0 a t)
  | n + 1 => fun s x => tp_B tc c1 st tm wk a t n s x ∨ tp_W wk (tp_R tc c1 st tm (tp_B tc c1 st tm wk a t n)) s x
theorem tp_W_m {P P' : Nat → Nat → Prop} {s x : Nat} (hs : s < 8) (h : ∀ u y, u < 8 → y ≤ x → P u y → P' u y) (g : tp_W wk P s x) : tp_W wk P' s x := by
  rcases g with g | ⟨u, hu, h1, h2, g⟩
  · exact Or.inl (h s x hs (Nat.le_refl _) g)
  · exact Or.inr ⟨u, hu, h1, h2, h u _ hu (Nat.sub_le _ _) g⟩
theorem tp_R_m {P P' : Nat → Nat → Prop} {s x : Nat} (hst : ∀ j, st j ≤ 7) (htm : ∀ j, tm j ≤ 999) (h : ∀ u y, u < 8 → y ≤ 999 → P u y → P' u y) (g : tp_R tc c1 st tm P s x) : tp_R tc c1 st tm P' s x := by
  obtain ⟨i, hi, c, hc, h1, h2, k, hk, g⟩ := g
  exact ⟨i, hi, c, hc, h1, h2, k, hk, h _ _ (by have := hst (5 * i + k); omega) (htm _) g⟩
theorem tp_BT (hst : ∀ j, st j ≤ 7) (htm : ∀ j, tm j ≤ 999) (n : Nat) : ∀ s x, s < 8 → (tp_B tc c1 st tm wk a t n s x ↔ ∃ k, k ≤ n ∧ tp_T tc c1 st tm wk a t k s x) := by
  induction n with
  | zero =>
    intro s x hs
    constructor
    · intro h
      exact ⟨0, Nat.le_refl _, h⟩
    · rintro ⟨k, hk, h⟩
      rw [show k = 0 by omega] at h
      exact h
  | succ n ih =>
    intro s x hs
    constructor
    · rintro (h | h)
      · obtain ⟨k, hk, g⟩ := (ih s x hs).mp h
        exact ⟨k, by omega, g⟩
      · -- some way through the boardings with at most n rides
        have key : ∀ u y, u < 8 → tp_R tc c1 st tm (tp_B tc c1 st tm wk a t n) u y → ∃ k, k ≤ n ∧ tp_R tc c1 st tm (tp_T tc c1 st tm wk a t k) u y := by
          rintro u y hu ⟨i, hi, c, hc, h1, h2, k, hk, g⟩
          obtain ⟨r, hr, g⟩ := (ih _ _ (by have := hst (5 * i + k); omega)).mp g
          exact ⟨r, hr, i, hi, c, hc, h1, h2, k, hk, g⟩
        rcases h with h | ⟨u, hu, h1, h2, h⟩
        · obtain ⟨k, hk, g⟩ := key s x hs h
          exact ⟨k + 1, by omega, Or.inl g⟩
        · obtain ⟨k, hk, g⟩ := key u _ hu h
          exact ⟨k + 1, by omega, Or.inr ⟨u, hu, h1, h2, g⟩⟩
    · rintro ⟨k, hk, h⟩
      rcases Nat.lt_or_ge n k with q | q
      · rw [show k = n + 1 by omega] at h
        exact Or.inr (tp_W_m hs (fun u y hu _ g => tp_R_m hst htm (fun u y hu _ g => (ih u y hu).mpr ⟨n, Nat.le_refl _, g⟩) g) h)
      · exact Or.inl ((ih s x hs).mpr ⟨k, q, h⟩)
theorem tp_B_up {n m s x : Nat} (h : n ≤ m) (g : tp_B tc c1 st tm wk a t n s x) : tp_B tc c1 st tm wk a t m s x := by
  induction m with
  | zero =>
    rw [show n = 0 by omega] at g
    exact g
  | succ m ih =>
    rcases Nat.lt_or_ge m n with q | q
    · rw [show n = m + 1 by omega] at g
      exact g
    · exact Or.inl (ih q)
/-- where one round adds nothing, no later one does -/
theorem tp_B_stop (hst : ∀ j, st j ≤ 7) (htm : ∀ j, tm j ≤ 999) {n : Nat} (h : ∀ s x, s < 8 → x < 100000 → tp_B tc c1 st tm wk a t (n + 1) s x → tp_B tc c1 st tm wk a t n s x) : ∀ m s x, s < 8 → x < 100000 → (tp_B tc c1 st tm wk a t (n + m) s x → tp_B tc c1 st tm wk a t n s x) := by
  intro m
  induction m with
  | zero => intro s x _ _ g; exact g
  | succ m ih =>
    intro s x hs hx g
    rcases g with g | g
    · exact ih s x hs hx g
    · refine h s x hs hx (Or.inr ?_)
      exact tp_W_m hs (fun u y hu _ g => tp_R_m hst htm (fun u y hu hy g => ih u y hu (by omega) g) g) g
/-- who leaves later arrives no earlier -/
theorem tp_T_late {t' : Nat} (h : t ≤ t') (n : Nat) : ∀ s x, tp_T tc c1 st tm wk a t' n s x → tp_T tc c1 st tm wk a t n s x := by
  induction n with
  | zero =>
    rintro s x (⟨h1, h2⟩ | ⟨u, hu, g1, g2, h1, h2⟩)
    · exact Or.inl ⟨h1, by omega⟩
    · exact Or.inr ⟨u, hu, g1, g2, h1, by omega⟩
  | succ n ih =>
    have key : ∀ u y, tp_R tc c1 st tm (tp_T tc c1 st tm wk a t' n) u y → tp_R tc c1 st tm (tp_T tc c1 st tm wk a t n) u y := by
      rintro u y ⟨i, hi, c, hc, h1, h2, k, hk, g⟩
      exact ⟨i, hi, c, hc, h1, h2, k, hk, ih _ _ g⟩
    rintro s x (g | ⟨u, hu, g1, g2, g⟩)
    · exact Or.inl (key _ _ g)
    · exact Or.inr ⟨u, hu, g1, g2, key _ _ g⟩
theorem tp_mono {i : Nat} (h : ∀ k, k + 1 < c1 i → tm (5 * i + k) ≤ tm (5 * i + k + 1)) {k c : Nat} (hk : k ≤ c) (hc : c < c1 i) : tm (5 * i + k) ≤ tm (5 * i + c) := by
  induction c with
  | zero =>
    rw [show k = 0 by omega]
    exact Nat.le_refl _
  | succ c ih =>
    rcases Nat.lt_or_ge c k with q | q
    · rw [show k = c + 1 by omega]
      exact Nat.le_refl _
    · exact Nat.le_trans (ih q (by omega)) (h c hc)
/-- nobody arrives before leaving -/
theorem tp_T_ge (hmo : ∀ i, i < tc → ∀ k, k + 1 < c1 i → tm (5 * i + k) ≤ tm (5 * i + k + 1)) (n : Nat) : ∀ s x, tp_T tc c1 st tm wk a t n s x → t ≤ x := by
  induction n with
  | zero =>
    rintro s x (⟨h1, h2⟩ | ⟨u, hu, g1, g2, h1, h2⟩) <;> omega
  | succ n ih =>
    have key : ∀ u y, tp_R tc c1 st tm (tp_T tc c1 st tm wk a t n) u y → t ≤ y := by
      rintro u y ⟨i, hi, c, hc, h1, h2, k, hk, g⟩
      have g1 := ih _ _ g
      have g2 := tp_mono (hmo i hi) (Nat.le_of_lt hk) hc
      omega
    rintro s x (g | ⟨u, hu, g1, g2, g⟩)
    · exact key _ _ g
    · have := key _ _ g
      omega
end TP
/-! the folds, by their upper bounds -/
theorem tf_wi {wk ri bs : Nat → Nat} {r f n : Nat} (hn : n ≤ 8) : (∀ s x, s < 8 → (tx_wi wk ri r f bs n (8 * r + s) ≤ x ↔ bs (8 * r + s) ≤ x ∨ (s < n ∧ 0 < wk (8 * f + s) ∧ ri f + wk (8 * f + s) ≤ x))) ∧ ∀ j, (j < 8 * r ∨ 8 * r + 8 ≤ j) → tx_wi wk ri r f bs n j = bs j := by
  induction n with
  | zero =>
    refine ⟨fun s x hs => ?_, fun j hj => rfl⟩
    show bs (8 * r + s) ≤ x ↔ _
    constructor
    · exact Or.inl
    · rintro (h | ⟨h, -⟩)
      · exact h
      · omega
  | succ n ih =>
    obtain ⟨h1, h2⟩ := ih (by omega)
    have e : tx_wi wk ri r f bs (n + 1) = if wk (8 * f + n) = 0 ∨ tx_wi wk ri r f bs n (8 * r + n) ≤ ri f + wk (8 * f + n) then tx_wi wk ri r f bs n else tr_up (tx_wi wk ri r f bs n) (8 * r + n) (ri f + wk (8 * f + n)) := rfl
    rw [e]
    generalize tx_wi wk ri r f bs n = b at *
    split
    · rename_i hc
      refine ⟨fun s x hs => ?_, h2⟩
      rw [h1 s x hs]
      have h3 := h1 n (ri f + wk (8 * f + n)) (by omega)
      by_cases hsn : s = n
      · subst hsn
        have h4 := h1 s x hs
        constructor
        · rintro (g | ⟨g, -⟩)
          · exact Or.inl g
          · omega
        · rintro (g | ⟨g, g1, g2⟩)
          · exact Or.inl g
          · exact h4.mp (by omega)
      · constructor
        · rintro (g | ⟨g, g1⟩)
          · exact Or.inl g
          · exact Or.inr ⟨by omega, g1⟩
        · rintro (g | ⟨g, g1⟩)
          · exact Or.inl g
          · exact Or.inr ⟨by omega, g1⟩
    · rename_i hc
      refine ⟨fun s x hs => ?_, fun j hj => ?_⟩
      · by_cases hsn : s = n
        · subst hsn
          rw [tr_up_s]
          have h4 := h1 s x hs
          constructor
          · intro g
            exact Or.inr ⟨by omega, by omega, g⟩
          · rintro (g | ⟨g, g1, g2⟩)
            · have := h4.mpr (Or.inl g)
              omega
            · exact g2
        · rw [tr_up_n (by omega), h1 s x hs]
          constructor
          · rintro (g | ⟨g, g1⟩)
            · exact Or.inl g
            · exact Or.inr ⟨by omega, g1⟩
          · rintro (g | ⟨g, g1⟩)
            · exact Or.inl g
            · exact Or.inr ⟨by omega, g1⟩
      · rw [tr_up_n (by omega)]
        exact h2 j hj
theorem tf_w {wk ri bs : Nat → Nat} {r n : Nat} : (∀ s x, s < 8 → (tx_w wk ri r bs n (8 * r + s) ≤ x ↔ bs (8 * r + s) ≤ x ∨ ∃ f, f < n ∧ ri f < 100000 ∧ 0 < wk (8 * f + s) ∧ ri f + wk (8 * f + s) ≤ x)) ∧ ∀ j, (j < 8 * r ∨ 8 * r + 8 ≤ j) → tx_w wk ri r bs n j = bs j := by
  induction n with
  | zero =>
    refine ⟨fun s x hs => ?_, fun j hj => rfl⟩
    show bs (8 * r + s) ≤ x ↔ _
    constructor
    · exact Or.inl
    · rintro (h | ⟨f, h, -⟩)
      · exact h
      · omega
  | succ n ih =>
    obtain ⟨h1, h2⟩ := ih
    have e : tx_w wk ri r bs (n + 1) = if 100000 ≤ ri n then tx_w wk ri r bs n else tx_wi wk ri r n (tx_w wk ri r bs n) 8 := rfl
    rw [e]
    generalize tx_w wk ri r bs n = b at *
    split
    · rename_i hc
      refine ⟨fun s x hs => ?_, h2⟩
      rw [h1 s x hs]
      constructor
      · rintro (g | ⟨f, g, g1⟩)
        · exact Or.inl g
        · exact Or.inr ⟨f, by omega, g1⟩
      · rintro (g | ⟨f, g, g1⟩)
        · exact Or.inl g
        · refine Or.inr ⟨f, ?_, g1⟩
          by_cases hf : f = n
          · subst hf
            omega
          · omega
    · rename_i hc
      obtain ⟨k1, k2⟩ := tf_wi (wk := wk) (ri := ri) (bs := b) (r := r) (f := n) (n := 8) (Nat.le_refl _)
      refine ⟨fun s x hs => ?_, fun j hj => by rw [k2 j hj]; exact h2 j hj⟩
      rw [k1 s x hs, h1 s x hs]
      constructor
      · rintro ((g | ⟨f, g, g1⟩) | ⟨g, g1⟩)
        · exact Or.inl g
        · exact Or.inr ⟨f, by omega, g1⟩
        · exact Or.inr ⟨n, by omega, by omega, g1⟩
      · rintro (g | ⟨f, g, g0, g1⟩)
        · exact Or.inl (Or.inl g)
        · by_cases hf : f = n
          · subst hf
            exact Or.inr ⟨hs, g1⟩
          · exact Or.inl (Or.inr ⟨f, by omega, g0, g1⟩)
theorem tf_f1 {ri bs : Nat → Nat} {r n : Nat} (hn : n ≤ 8) : (∀ s x, s < 8 → (tx_f1 ri r bs n (8 * r + s) ≤ x ↔ bs (8 * r + s) ≤ x ∨ (s < n ∧ ri s ≤ x))) ∧ ∀ j, (j < 8 * r ∨ 8 * r + 8 ≤ j) → tx_f1 ri r bs n j = bs j := by
  induction n with
  | zero =>
    refine ⟨fun s x hs => ?_, fun j hj => rfl⟩
    show bs (8 * r + s) ≤ x ↔ _
    constructor
    · exact Or.inl
    · rintro (h | ⟨h, -⟩)
      · exact h
      · omega
  | succ n ih =>
    obtain ⟨h1, h2⟩ := ih (by omega)
    have e : tx_f1 ri r bs (n + 1) = if ri n < tx_f1 ri r bs n (8 * r + n) then tr_up (tx_f1 ri r bs n) (8 * r + n) (ri n) else tx_f1 ri r bs n := rfl
    rw [e]
    generalize tx_f1 ri r bs n = b at *
    split
    · rename_i hc
      refine ⟨fun s x hs => ?_, fun j hj => by rw [tr_up_n (by omega)]; exact h2 j hj⟩
      by_cases hsn : s = n
      · subst hsn
        rw [tr_up_s]
        have h4 := h1 s x hs
        constructor
        · intro g
          exact Or.inr ⟨by omega, g⟩
        · rintro (g | ⟨g, g1⟩)
          · have := h4.mpr (Or.inl g)
            omega
          · exact g1
      · rw [tr_up_n (by omega), h1 s x hs]
        constructor
        · rintro (g | ⟨g, g1⟩)
          · exact Or.inl g
          · exact Or.inr ⟨by omega, g1⟩
        · rintro (g | ⟨g, g1⟩)
          · exact Or.inl g
          · exact Or.inr ⟨by omega, g1⟩
    · rename_i hc
      refine ⟨fun s x hs => ?_, h2⟩
      have h4 := h1 s x hs
      by_cases hsn : s = n
      · subst hsn
        rw [h4]
        constructor
        · rintro (g | ⟨g, g1⟩)
          · exact Or.inl g
          · omega
        · rintro (g | ⟨g, g1⟩)
          · exact Or.inl g
          · exact h4.mp (by omega)
      · rw [h4]
        constructor
        · rintro (g | ⟨g, g1⟩)
          · exact Or.inl g
          · exact Or.inr ⟨by omega, g1⟩
        · rintro (g | ⟨g, g1⟩)
          · exact Or.inl g
          · exact Or.inr ⟨by omega, g1⟩
theorem tf_f2 {wk ri bs : Nat → Nat} {r : Nat} : (∀ s x, s < 8 → x < 100000 → (tx_f2 wk ri r bs (8 * r + s) ≤ x ↔ bs (8 * r + s) ≤ x ∨ tp_W wk (fun u y => ri u ≤ y) s x)) ∧ ∀ j, (j < 8 * r ∨ 8 * r + 8 ≤ j) → tx_f2 wk ri r bs j = bs j := by
  obtain ⟨h1, h2⟩ := tf_w (wk := wk) (ri := ri) (bs := tx_f1 ri r bs 8) (r := r) (n := 8)
  obtain ⟨k1, k2⟩ := tf_f1 (ri := ri) (bs := bs) (r := r) (n := 8) (Nat.le_refl _)
  refine ⟨fun s x hs hx => ?_, fun j hj => by rw [← k2 j hj]; exact h2 j hj⟩
  unfold tx_f2
  rw [h1 s x hs, k1 s x hs]
  constructor
  · rintro ((g | ⟨-, g⟩) | ⟨f, hf, g0, g1, g2⟩)
    · exact Or.inl g
    · exact Or.inr (Or.inl g)
    · exact Or.inr (Or.inr ⟨f, hf, g1, by omega, show ri f ≤ x - _ by omega⟩)
  · rintro (g | (g | ⟨f, hf, g1, g2, g3⟩))
    · exact Or.inl (Or.inl g)
    · exact Or.inl (Or.inr ⟨hs, g⟩)
    · have g3 : ri f ≤ x - wk (8 * f + s) := g3
      exact Or.inr ⟨f, hf, by omega, g1, by omega⟩
end
section
set_option maxRecDepth 100000
theorem tf_ride {st tm bs ri : Nat → Nat} {rn i n : Nat} : ((tx_ride st tm bs rn i ri n).1 ≠ 0 ↔ ∃ k, k < n ∧ bs (8 * (rn - 1) + st (5 * i + k)) ≤ tm (5 * i + k)) ∧ ∀ s x, ((tx_ride st tm bs rn i ri n).2 s ≤ x ↔ ri s ≤ x ∨ ∃ c, c < n ∧ st (5 * i + c) = s ∧ tm (5 * i + c) ≤ x ∧ ∃ k, k < c ∧ bs (8 * (rn - 1) + st (5 * i + k)) ≤ tm (5 * i + k)) := by
  induction n with
  | zero =>
    refine ⟨⟨fun h => absurd rfl h, fun ⟨k, hk, _⟩ => by omega⟩, fun s x => ⟨fun h => Or.inl h, ?_⟩⟩
    rintro (h | ⟨c, hc, -⟩)
    · exact h
    · omega
  | succ n ih =>
    obtain ⟨h1, h2⟩ := ih
    have e : tx_ride st tm bs rn i ri (n + 1) = (if bs (8 * (rn - 1) + st (5 * i + n)) ≤ tm (5 * i + n) then 1 else (tx_ride st tm bs rn i ri n).1, if (tx_ride st tm bs rn i ri n).1 ≠ 0 ∧ tm (5 * i + n) < (tx_ride st tm bs rn i ri n).2 (st (5 * i + n)) then tr_up (tx_ride st tm bs rn i ri n).2 (st (5 * i + n)) (tm (5 * i + n)) else (tx_ride st tm bs rn i ri n).2) := rfl
    rw [e]
    generalize tx_ride st tm bs rn i ri n = q at *
    obtain ⟨ab, r⟩ := q
    dsimp only at h1 h2 ⊢
    refine ⟨?_, fun s x => ?_⟩
    · split
      · rename_i hc
        exact ⟨fun _ => ⟨n, by omega, hc⟩, fun _ => by decide⟩
      · rename_i hc
        rw [h1]
        constructor
        · rintro ⟨k, hk, g⟩
          exact ⟨k, by omega, g⟩
        · rintro ⟨k, hk, g⟩
          by_cases hkn : k = n
          · subst hkn
            exact absurd g hc
          · exact ⟨k, by omega, g⟩
    · have up : (∃ c, c < n + 1 ∧ st (5 * i + c) = s ∧ tm (5 * i + c) ≤ x ∧ ∃ k, k < c ∧ bs (8 * (rn - 1) + st (5 * i + k)) ≤ tm (5 * i + k)) ↔ (∃ c, c < n ∧ st (5 * i + c) = s ∧ tm (5 * i + c) ≤ x ∧ ∃ k, k < c ∧ bs (8 * (rn - 1) + st (5 * i + k)) ≤ tm (5 * i + k)) ∨ (st (5 * i + n) = s ∧ tm (5 * i + n) ≤ x ∧ ab ≠ 0) := by
        constructor
        · rintro ⟨c, hc, g1, g2, g3⟩
          by_cases hcn : c = n
          · subst hcn
            exact Or.inr ⟨g1, g2, h1.mpr g3⟩
          · exact Or.inl ⟨c, by omega, g1, g2, g3⟩
        · rintro (⟨c, hc, g⟩ | ⟨g1, g2, g3⟩)
          · exact ⟨c, by omega, g⟩
          · exact ⟨n, by omega, g1, g2, h1.mp g3⟩
      rw [up]
      have h3 := h2 s x
      split
      · rename_i hc
        by_cases hs : s = st (5 * i + n)
        · subst hs
          rw [tr_up_s]
          constructor
          · intro g
            exact Or.inr (Or.inr ⟨rfl, g, hc.1⟩)
          · rintro (g | (g | ⟨-, g, -⟩))
            · have := h3.mpr (Or.inl g)
              omega
            · have := h3.mpr (Or.inr g)
              omega
            · exact g
        · rw [tr_up_n hs, h3]
          constructor
          · rintro (g | g)
            · exact Or.inl g
            · exact Or.inr (Or.inl g)
          · rintro (g | (g | ⟨g, -⟩))
            · exact Or.inl g
            · exact Or.inr g
            · exact absurd g.symm hs
      · rename_i hc
        rw [h3]
        constructor
        · rintro (g | g)
          · exact Or.inl g
          · exact Or.inr (Or.inl g)
        · rintro (g | (g | ⟨rfl, g1, g2⟩))
          · exact Or.inl g
          · exact Or.inr g
          · exact h3.mp (by
              rcases Nat.lt_or_ge (tm (5 * i + n)) (r (st (5 * i + n))) with z | z
              · exact absurd ⟨g2, z⟩ hc
              · omega)
theorem tf_rides {c1 st tm bs ri : Nat → Nat} {bt rn n : Nat} : ∀ s x, (tx_rides c1 st tm bs bt rn ri n s ≤ x ↔ ri s ≤ x ∨ ∃ i, i < n ∧ tx_cab st bt i (c1 i) = true ∧ ∃ c, c < c1 i ∧ st (5 * i + c) = s ∧ tm (5 * i + c) ≤ x ∧ ∃ k, k < c ∧ bs (8 * (rn - 1) + st (5 * i + k)) ≤ tm (5 * i + k)) := by
  induction n with
  | zero =>
    intro s x
    refine ⟨fun h => Or.inl h, ?_⟩
    rintro (h | ⟨c, hc, -⟩)
    · exact h
    · omega
  | succ n ih =>
    intro s x
    have e : tx_rides c1 st tm bs bt rn ri (n + 1) = if tx_cab st bt n (c1 n) = true then (tx_ride st tm bs rn n (tx_rides c1 st tm bs bt rn ri n) (c1 n)).2 else tx_rides c1 st tm bs bt rn ri n := rfl
    rw [e]
    generalize tx_rides c1 st tm bs bt rn ri n = r at *
    split
    · rename_i hc
      rw [(tf_ride (ri := r)).2 s x, ih s x]
      constructor
      · rintro ((g | ⟨i, hi, g⟩) | g)
        · exact Or.inl g
        · exact Or.inr ⟨i, by omega, g⟩
        · exact Or.inr ⟨n, by omega, hc, g⟩
      · rintro (g | ⟨i, hi, g0, g⟩)
        · exact Or.inl (Or.inl g)
        · by_cases hin : i = n
          · subst hin
            exact Or.inr g
          · exact Or.inl (Or.inr ⟨i, by omega, g0, g⟩)
    · rename_i hc
      rw [ih s x]
      constructor
      · rintro (g | ⟨i, hi, g⟩)
        · exact Or.inl g
        · exact Or.inr ⟨i, by omega, g⟩
      · rintro (g | ⟨i, hi, g0, g⟩)
        · exact Or.inl g
        · by_cases hin : i = n
          · subst hin
            exact absurd g0 hc
          · exact Or.inr ⟨i, by omega, g0, g⟩
theorem tf_fill {f : Nat → Nat} {n j : Nat} : tx_fill f n j = if j < n then 100000 else f j := by
  induction n with
  | zero => rfl
  | succ n ih =>
    show tr_up (tx_fill f n) n 100000 j = _
    by_cases h : j = n
    · subst h
      rw [tr_up_s, if_pos (by omega)]
    · rw [tr_up_n h, ih]
      by_cases h2 : j < n
      · rw [if_pos h2, if_pos (by omega)]
      · rw [if_neg h2, if_neg (by omega)]
theorem tf_copy {bs : Nat → Nat} {r n : Nat} (hn : n ≤ 8) : (∀ s, s < n → tx_copy r bs n (8 * r + 8 + s) = bs (8 * r + s)) ∧ ∀ j, (j < 8 * r + 8 ∨ 8 * r + 8 + n ≤ j) → tx_copy r bs n j = bs j := by
  induction n with
  | zero => exact ⟨fun s hs => by omega, fun j hj => rfl⟩
  | succ n ih =>
    obtain ⟨h1, h2⟩ := ih (by omega)
    have e : tx_copy r bs (n + 1) = tr_up (tx_copy r bs n) (8 * r + 8 + n) (tx_copy r bs n (8 * r + n)) := rfl
    rw [e]
    refine ⟨fun s hs => ?_, fun j hj => by rw [tr_up_n (by omega)]; exact h2 j (by omega)⟩
    by_cases hsn : s = n
    · subst hsn
      rw [tr_up_s]
      exact h2 _ (by omega)
    · rw [tr_up_n (by omega)]
      exact h1 s (by omega)
/-! bits -/
theorem tb_it {P : Nat → Prop} {f : Nat → Nat → Nat} {n : Nat} (hf : ∀ q b, q < n → (P q → f q b = b ||| 2 ^ q) ∧ (¬ P q → f q b = b)) (s : Nat) : (tr_it f 0 n).testBit s = true ↔ s < n ∧ P s := by
  induction n with
  | zero =>
    show Nat.testBit 0 s = true ↔ _
    rw [Nat.zero_testBit]
    constructor
    · intro h; cases h
    · rintro ⟨h, -⟩; omega
  | succ n ih =>
    have ih := ih (fun q b hq => hf q b (by omega))
    show (f n (tr_it f 0 n)).testBit s = true ↔ _
    obtain ⟨g1, g2⟩ := hf n (tr_it f 0 n) (by omega)
    by_cases hp : P n
    · rw [g1 hp, Nat.testBit_or, Bool.or_eq_true, ih, Nat.testBit_two_pow]
      constructor
      · rintro (⟨h, h'⟩ | h)
        · exact ⟨by omega, h'⟩
        · have h := of_decide_eq_true h
          subst h
          exact ⟨by omega, hp⟩
      · rintro ⟨h, h'⟩
        by_cases hs : n = s
        · exact Or.inr (decide_eq_true hs)
        · exact Or.inl ⟨by omega, h'⟩
    · rw [g2 hp, ih]
      constructor
      · rintro ⟨h, h'⟩
        exact ⟨by omega, h'⟩
      · rintro ⟨h, h'⟩
        by_cases hs : n = s
        · subst hs
          exact absurd h' hp
        · exact ⟨by omega, h'⟩
theorem tb_fb {bs : Nat → Nat} {rn : Nat} (s : Nat) : (tx_fb rn bs 8).testBit s = true ↔ s < 8 ∧ bs (8 * rn + s) < bs (8 * rn - 8 + s) :=
  tb_it (P := fun s => bs (8 * rn + s) < bs (8 * rn - 8 + s)) (fun q b _ => ⟨fun h => if_pos h, fun h => if_neg h⟩) s
theorem tb_bt0 {bs : Nat → Nat} (s : Nat) : (tx_bt0 bs 8).testBit s = true ↔ s < 8 ∧ bs s < 100000 :=
  tb_it (P := fun s => bs s < 100000) (fun q b _ => ⟨fun h => if_pos h, fun h => if_neg h⟩) s
theorem tb_and (b s : Nat) : (b / 2 ^ s) &&& 1 ≠ 0 ↔ b.testBit s = true := by
  rw [Nat.testBit_eq_decide_div_mod_eq, Nat.and_one_is_mod]
  simp only [decide_eq_true_eq]
  omega
theorem tb_cab {st : Nat → Nat} {bt i n : Nat} : tx_cab st bt i n = true ↔ ∃ k, k < n ∧ bt.testBit (st (5 * i + k)) = true := by
  unfold tx_cab
  rw [tr_any_iff]
  constructor
  · rintro ⟨k, hk, h⟩
    exact ⟨k, hk, (tb_and _ _).mp (of_decide_eq_true h)⟩
  · rintro ⟨k, hk, h⟩
    exact ⟨k, hk, decide_eq_true ((tb_and _ _).mpr h)⟩
/-! the class's rounds -/
section TI
variable {tc : Nat} {c1 st tm wk : Nat → Nat} {a t : Nat}
/-- after k rounds -/
def ti_ok (tc : Nat) (c1 st tm wk : Nat → Nat) (a t : Nat) (q : tx_Q) : Prop :=
  (∀ r, r ≤ q.2.2.1 → ∀ s x, s < 8 → x < 100000 → (q.1 (8 * r + s) ≤ x ↔ tp_B tc c1 st tm wk a t r s x)) ∧
  (∀ s, s < 8 → (q.2.1.testBit s = true ↔ if q.2.2.1 = 0 then q.1 s < 100000 else q.1 (8 * q.2.2.1 + s) < q.1 (8 * q.2.2.1 - 8 + s)))
/-- a stop that wasn't bettered: what is reached there was reached a round before (or isn't reached at all) -/
theorem ti_old {q : tx_Q} (h : ti_ok tc c1 st tm wk a t q) {u y : Nat} (hu : u < 8) (hy : y < 100000) (hb : ¬ q.2.1.testBit u = true) (g : tp_B tc c1 st tm wk a t q.2.2.1 u y) : ∃ k, q.2.2.1 = k + 1 ∧ tp_B tc c1 st tm wk a t k u y := by
  obtain ⟨h1, h2⟩ := h
  rw [h2 u hu] at hb
  have g1 := (h1 _ (Nat.le_refl _) u y hu hy).mpr g
  by_cases hk : q.2.2.1 = 0
  · rw [if_pos hk] at hb
    rw [hk, show 8 * 0 + u = u by omega] at g1
    omega
  · rw [if_neg hk] at hb
    refine ⟨q.2.2.1 - 1, by omega, ?_⟩
    refine (h1 (q.2.2.1 - 1) (by omega) u y hu hy).mp ?_
    rw [show 8 * (q.2.2.1 - 1) + u = 8 * q.2.2.1 - 8 + u by omega]
    omega
theorem ti_skip (hst : ∀ j, st j ≤ 7) (htm : ∀ j, tm j ≤ 999) {q : tx_Q} (h : ti_ok tc c1 st tm wk a t q) {i : Nat} (hi : i < tc) (hc : ¬ tx_cab st q.2.1 i (c1 i) = true) {s x c k : Nat} (hcc : c < c1 i) (hk : k < c) (h1 : st (5 * i + c) = s) (h2 : tm (5 * i + c) ≤ x) (g : tp_B tc c1 st tm wk a t q.2.2.1 (st (5 * i + k)) (tm (5 * i + k))) : ∃ r, q.2.2.1 = r + 1 ∧ tp_R tc c1 st tm (tp_B tc c1 st tm wk a t r) s x := by
  have h3 := hst (5 * i + k)
  have h4 := htm (5 * i + k)
  obtain ⟨r, hr, g⟩ := ti_old h (by omega) (by omega) (fun z => hc (tb_cab.mpr ⟨k, by omega, z⟩)) g
  exact ⟨r, hr, i, hi, c, hcc, h1, h2, k, hk, g⟩
theorem ti_round (hst : ∀ j, st j ≤ 7) (htm : ∀ j, tm j ≤ 999) {q : tx_Q} (h : ti_ok tc c1 st tm wk a t q) : ti_ok tc c1 st tm wk a t (tx_round tc c1 st tm wk q) := by
  obtain ⟨bs, bt, k, ri⟩ := q
  obtain ⟨k1, k2⟩ := tf_copy (bs := bs) (r := k) (n := 8) (Nat.le_refl _)
  have e : tx_round tc c1 st tm wk (bs, bt, k, ri) = (tx_f2 wk (tx_rides c1 st tm (tx_copy k bs 8) bt (k + 1) (tx_fill ri 8) tc) (k + 1) (tx_copy k bs 8), tx_fb (k + 1) (tx_f2 wk (tx_rides c1 st tm (tx_copy k bs 8) bt (k + 1) (tx_fill ri 8) tc) (k + 1) (tx_copy k bs 8)) 8, k + 1, tx_rides c1 st tm (tx_copy k bs 8) bt (k + 1) (tx_fill ri 8) tc) := rfl
  rw [e]
  have hr := tf_rides (c1 := c1) (st := st) (tm := tm) (bs := tx_copy k bs 8) (ri := tx_fill ri 8) (bt := bt) (rn := k + 1) (n := tc)
  generalize tx_rides c1 st tm (tx_copy k bs 8) bt (k + 1) (tx_fill ri 8) tc = r2 at *
  obtain ⟨f1, f2⟩ := tf_f2 (wk := wk) (ri := r2) (bs := tx_copy k bs 8) (r := k + 1)
  generalize hb2 : tx_f2 wk r2 (k + 1) (tx_copy k bs 8) = b2 at *
  -- what was ridden to, in this round
  have hin : ∀ s x, s < 8 → x < 100000 → (r2 s ≤ x ↔ ∃ i, i < tc ∧ tx_cab st bt i (c1 i) = true ∧ ∃ c, c < c1 i ∧ st (5 * i + c) = s ∧ tm (5 * i + c) ≤ x ∧ ∃ j, j < c ∧ tp_B tc c1 st tm wk a t k (st (5 * i + j)) (tm (5 * i + j))) := by
    intro s x hs hx
    have val : ∀ i j, (tx_copy k bs 8 (8 * (k + 1 - 1) + st (5 * i + j)) ≤ tm (5 * i + j) ↔ tp_B tc c1 st tm wk a t k (st (5 * i + j)) (tm (5 * i + j))) := by
      intro i j
      have h3 := hst (5 * i + j)
      have h4 := htm (5 * i + j)
      rw [show k + 1 - 1 = k by omega, k2 _ (by omega)]
      exact h.1 k (Nat.le_refl _) _ _ (by omega) (by omega)
    rw [hr s x, tf_fill, if_pos hs]
    constructor
    · rintro (g | ⟨i, hi, g0, c, hc, g1, g2, j, hj, g3⟩)
      · omega
      · exact ⟨i, hi, g0, c, hc, g1, g2, j, hj, (val i j).mp g3⟩
    · rintro ⟨i, hi, g0, c, hc, g1, g2, j, hj, g3⟩
      exact Or.inr ⟨i, hi, g0, c, hc, g1, g2, j, hj, (val i j).mpr g3⟩
  refine ⟨fun r hr1 s x hs hx => ?_, fun s hs => ?_⟩
  · have hr1 : r ≤ k + 1 := hr1
    show b2 (8 * r + s) ≤ x ↔ _
    rcases Nat.lt_or_ge k r with z | z
    · rw [show r = k + 1 by omega, f1 s x hs hx, show 8 * (k + 1) + s = 8 * k + 8 + s by omega, k1 s hs, h.1 k (Nat.le_refl _) s x hs hx]
      constructor
      · rintro (g | g)
        · exact Or.inl g
        · refine Or.inr (tp_W_m hs (fun u y hu hy g => ?_) g)
          obtain ⟨i, hi, g0, c, hc, g1, g2, j, hj, g3⟩ := (hin u y hu (by omega)).mp g
          exact ⟨i, hi, c, hc, g1, g2, j, hj, g3⟩
      · have key : ∀ u y, u < 8 → y ≤ x → tp_R tc c1 st tm (tp_B tc c1 st tm wk a t k) u y → r2 u ≤ y ∨ ∃ r, k = r + 1 ∧ tp_R tc c1 st tm (tp_B tc c1 st tm wk a t r) u y := by
          rintro u y hu hy ⟨i, hi, c, hc, g1, g2, j, hj, g3⟩
          by_cases hcab : tx_cab st bt i (c1 i) = true
          · exact Or.inl ((hin u y hu (by omega)).mpr ⟨i, hi, hcab, c, hc, g1, g2, j, hj, g3⟩)
          · exact Or.inr (ti_skip hst htm h hi hcab hc hj g1 g2 g3)
        rintro (g | g)
        · exact Or.inl g
        · rcases g with g | ⟨u, hu, w1, w2, g⟩
          · rcases key s x hs (Nat.le_refl _) g with g' | ⟨r, hr, g'⟩
            · exact Or.inr (Or.inl g')
            · subst hr
              exact Or.inl (Or.inr (Or.inl g'))
          · rcases key u _ hu (Nat.sub_le _ _) g with g' | ⟨r, hr, g'⟩
            · exact Or.inr (Or.inr ⟨u, hu, w1, w2, g'⟩)
            · subst hr
              exact Or.inl (Or.inr (Or.inr ⟨u, hu, w1, w2, g'⟩))
    · rw [f2 _ (by omega), k2 _ (by omega)]
      exact h.1 r z s x hs hx
  · show (tx_fb (k + 1) b2 8).testBit s = true ↔ if k + 1 = 0 then _ else b2 (8 * (k + 1) + s) < b2 (8 * (k + 1) - 8 + s)
    rw [tb_fb, if_neg (by omega)]
    exact ⟨fun g => g.2, fun g => ⟨hs, g⟩⟩
theorem ti_start {bs ri : Nat → Nat} (ha : a < 8) (ht : t ≤ 999) : ti_ok tc c1 st tm wk a t (tx_start wk a t bs ri) := by
  have e : tx_start wk a t bs ri = (tx_w wk (tr_up (tx_fill ri 8) a t) 0 (tr_up (tx_fill bs 8) a t) 8, tx_bt0 (tx_w wk (tr_up (tx_fill ri 8) a t) 0 (tr_up (tx_fill bs 8) a t) 8) 8, 0, tr_up (tx_fill ri 8) a t) := rfl
  rw [e]
  have hf : ∀ (f : Nat → Nat) s x, s < 8 → x < 100000 → (tr_up (tx_fill f 8) a t s ≤ x ↔ tp_0 a t s x) := by
    intro f s x hs hx
    by_cases h : s = a
    · subst h
      rw [tr_up_s]
      exact ⟨fun g => ⟨rfl, g⟩, fun g => g.2⟩
    · rw [tr_up_n h, tf_fill, if_pos hs]
      constructor
      · intro g; omega
      · rintro ⟨g, -⟩; exact absurd g h
  obtain ⟨w1, w2⟩ := tf_w (wk := wk) (ri := tr_up (tx_fill ri 8) a t) (bs := tr_up (tx_fill bs 8) a t) (r := 0) (n := 8)
  refine ⟨fun r hr s x hs hx => ?_, fun s hs => ?_⟩
  · have hr : r ≤ 0 := hr
    rw [show r = 0 by omega]
    show tx_w wk (tr_up (tx_fill ri 8) a t) 0 (tr_up (tx_fill bs 8) a t) 8 (8 * 0 + s) ≤ x ↔ tp_W wk (tp_0 a t) s x
    rw [w1 s x hs, show 8 * 0 + s = s by omega, hf bs s x hs hx]
    constructor
    · rintro (g | ⟨f, hf1, g0, g1, g2⟩)
      · exact Or.inl g
      · exact Or.inr ⟨f, hf1, g1, by omega, (hf ri f _ hf1 (by omega)).mp (by omega)⟩
    · rintro (g | ⟨f, hf1, g1, g2, g3⟩)
      · exact Or.inl g
      · have g4 := (hf ri f _ hf1 (by omega)).mpr g3
        exact Or.inr ⟨f, hf1, by omega, g1, by omega⟩
  · show (tx_bt0 _ 8).testBit s = true ↔ if 0 = 0 then _ else _
    rw [tb_bt0, if_pos rfl]
    exact ⟨fun g => g.2, fun g => ⟨hs, g⟩⟩
/-- no stop bettered: the next round adds nothing -/
theorem ti_stop (hst : ∀ j, st j ≤ 7) (htm : ∀ j, tm j ≤ 999) {q : tx_Q} (h : ti_ok tc c1 st tm wk a t q) (h0 : q.2.1 = 0) : ∀ s x, s < 8 → x < 100000 → tp_B tc c1 st tm wk a t (q.2.2.1 + 1) s x → tp_B tc c1 st tm wk a t q.2.2.1 s x := by
  have key : ∀ u y, tp_R tc c1 st tm (tp_B tc c1 st tm wk a t q.2.2.1) u y → ∃ r, q.2.2.1 = r + 1 ∧ tp_R tc c1 st tm (tp_B tc c1 st tm wk a t r) u y := by
    rintro u y ⟨i, hi, c, hc, g1, g2, j, hj, g3⟩
    refine ti_skip hst htm h hi (fun z => ?_) hc hj g1 g2 g3
    obtain ⟨k, -, z⟩ := tb_cab.mp z
    rw [h0, Nat.zero_testBit] at z
    cases z
  rintro s x hs hx (g | (g | ⟨u, hu, w1, w2, g⟩))
  · exact g
  · obtain ⟨r, hr, g⟩ := key _ _ g
    rw [hr]
    exact Or.inr (Or.inl g)
  · obtain ⟨r, hr, g⟩ := key _ _ g
    rw [hr]
    exact Or.inr (Or.inr ⟨u, hu, w1, w2, g⟩)
theorem ti_rounds (hst : ∀ j, st j ≤ 7) (htm : ∀ j, tm j ≤ 999) (n : Nat) : ∀ (q : tx_Q), ti_ok tc c1 st tm wk a t q → ti_ok tc c1 st tm wk a t (tx_rounds tc c1 st tm wk n q) ∧ (tx_rounds tc c1 st tm wk n q).2.2.1 ≤ q.2.2.1 + n ∧ ∀ r s x, (tx_rounds tc c1 st tm wk n q).2.2.1 ≤ r → r ≤ q.2.2.1 + n → s < 8 → x < 100000 → (tp_B tc c1 st tm wk a t r s x ↔ tp_B tc c1 st tm wk a t (tx_rounds tc c1 st tm wk n q).2.2.1 s x) := by
  induction n with
  | zero =>
    intro q h
    refine ⟨h, Nat.le_refl _, fun r s x h1 h2 _ _ => ?_⟩
    have h1 : q.2.2.1 ≤ r := h1
    rw [show r = q.2.2.1 by omega]
    exact Iff.rfl
  | succ n ih =>
    intro q h
    by_cases h0 : q.2.1 = 0
    · rw [tx_rounds_z _ h0]
      refine ⟨h, by omega, fun r s x h1 h2 hs hx => ⟨fun g => ?_, fun g => tp_B_up h1 g⟩⟩
      refine tp_B_stop hst htm (ti_stop hst htm h h0) (r - q.2.2.1) s x hs hx ?_
      rw [show q.2.2.1 + (r - q.2.2.1) = r by omega]
      exact g
    · have e : tx_rounds tc c1 st tm wk (n + 1) q = tx_rounds tc c1 st tm wk n (tx_round tc c1 st tm wk q) := by
        show (if q.2.1 = 0 then _ else _) = _
        rw [if_neg h0]
      have e2 : (tx_round tc c1 st tm wk q).2.2.1 = q.2.2.1 + 1 := rfl
      obtain ⟨i1, i2, i3⟩ := ih _ (ti_round hst htm h)
      rw [e2] at i2 i3
      rw [e]
      exact ⟨i1, by omega, fun r s x h1 h2 => i3 r s x h1 (by omega)⟩
/-- a search's answers -/
theorem ti_search (hst : ∀ j, st j ≤ 7) (htm : ∀ j, tm j ≤ 999) (ha : a < 8) (ht : t ≤ 999) (n : Nat) (bs ri : Nat → Nat) : (tx_search tc c1 st tm wk a t n bs ri).2.2.1 ≤ n ∧ (∀ r, r ≤ (tx_search tc c1 st tm wk a t n bs ri).2.2.1 → ∀ s x, s < 8 → x < 100000 → ((tx_search tc c1 st tm wk a t n bs ri).1 (8 * r + s) ≤ x ↔ tp_B tc c1 st tm wk a t r s x)) ∧ ∀ r s x, (tx_search tc c1 st tm wk a t n bs ri).2.2.1 ≤ r → r ≤ n → s < 8 → x < 100000 → (tp_B tc c1 st tm wk a t r s x ↔ tp_B tc c1 st tm wk a t (tx_search tc c1 st tm wk a t n bs ri).2.2.1 s x) := by
  obtain ⟨h1, h2, h3⟩ := ti_rounds hst htm n _ (ti_start (tc := tc) (c1 := c1) (st := st) (tm := tm) (wk := wk) (bs := bs) (ri := ri) ha ht)
  have e : (tx_start wk a t bs ri).2.2.1 = 0 := rfl
  rw [e, Nat.zero_add] at h2 h3
  exact ⟨h2, h1.1, h3⟩
end TI
end
section
set_option maxRecDepth 100000
/-! the model's folds -/
theorem tg_wi {wk fo : Nat → Nat} {r q b n x : Nat} : tm_wi wk fo r q b n ≤ x ↔ b ≤ x ∨ ∃ u, u < n ∧ 0 < wk (8 * u + q) ∧ fo (8 * r + u) + wk (8 * u + q) ≤ x := by
  induction n generalizing x with
  | zero =>
    show b ≤ x ↔ _
    constructor
    · exact Or.inl
    · rintro (h | ⟨f, h, -⟩)
      · exact h
      · omega
  | succ n ih =>
    have e : tm_wi wk fo r q b (n + 1) = if 0 < wk (8 * n + q) ∧ fo (8 * r + n) + wk (8 * n + q) < tm_wi wk fo r q b n then fo (8 * r + n) + wk (8 * n + q) else tm_wi wk fo r q b n := rfl
    rw [e]
    have h3 := @ih x
    generalize tm_wi wk fo r q b n = z at *
    split
    · rename_i hc
      constructor
      · intro g
        exact Or.inr ⟨n, by omega, hc.1, g⟩
      · rintro (g | ⟨u, hu, g1, g2⟩)
        · have := h3.mpr (Or.inl g)
          omega
        · by_cases hun : u = n
          · subst hun
            exact g2
          · have := h3.mpr (Or.inr ⟨u, by omega, g1, g2⟩)
            omega
    · rename_i hc
      rw [h3]
      constructor
      · rintro (g | ⟨u, hu, g⟩)
        · exact Or.inl g
        · exact Or.inr ⟨u, by omega, g⟩
      · rintro (g | ⟨u, hu, g1, g2⟩)
        · exact Or.inl g
        · by_cases hun : u = n
          · subst hun
            exact h3.mp (by omega)
          · exact Or.inr ⟨u, by omega, g1, g2⟩
theorem tg_w {wk fo th : Nat → Nat} {r n : Nat} : (∀ s, s < n → tm_w wk fo r th n (8 * r + s) = tm_wi wk fo r s (fo (8 * r + s)) 8) ∧ ∀ j, (j < 8 * r ∨ 8 * r + n ≤ j) → tm_w wk fo r th n j = th j := by
  induction n with
  | zero => exact ⟨fun s hs => by omega, fun j hj => rfl⟩
  | succ n ih =>
    obtain ⟨h1, h2⟩ := ih
    have e : tm_w wk fo r th (n + 1) = tr_up (tm_w wk fo r th n) (8 * r + n) (tm_wi wk fo r n (fo (8 * r + n)) 8) := rfl
    rw [e]
    refine ⟨fun s hs => ?_, fun j hj => by rw [tr_up_n (by omega)]; exact h2 j (by omega)⟩
    by_cases hsn : s = n
    · subst hsn
      rw [tr_up_s]
    · rw [tr_up_n (by omega)]
      exact h1 s (by omega)
theorem tg_w8 {wk fo th : Nat → Nat} {r : Nat} : ∀ s x, s < 8 → (tm_w wk fo r th 8 (8 * r + s) ≤ x ↔ tp_W wk (fun u y => fo (8 * r + u) ≤ y) s x) := by
  intro s x hs
  rw [(tg_w (n := 8)).1 s hs, tg_wi]
  constructor
  · rintro (g | ⟨u, hu, g1, g2⟩)
    · exact Or.inl g
    · exact Or.inr ⟨u, hu, g1, by omega, show fo (8 * r + u) ≤ x - _ by omega⟩
  · rintro (g | ⟨u, hu, g1, g2, g3⟩)
    · exact Or.inl g
    · have g3 : fo (8 * r + u) ≤ x - wk (8 * u + s) := g3
      exact Or.inr ⟨u, hu, g1, by omega⟩
theorem tg_ri {c1 st tm fo : Nat → Nat} (hst : ∀ j, st j ≤ 7) {r i k n : Nat} : (∀ s x, s < 8 → (tm_ri c1 st tm r i k fo n (8 * r + s) ≤ x ↔ fo (8 * r + s) ≤ x ∨ ∃ j, j < n ∧ st (5 * i + (k + 1 + j)) = s ∧ tm (5 * i + (k + 1 + j)) ≤ x)) ∧ ∀ j, (j < 8 * r ∨ 8 * r + 8 ≤ j) → tm_ri c1 st tm r i k fo n j = fo j := by
  induction n with
  | zero =>
    refine ⟨fun s x hs => ?_, fun j hj => rfl⟩
    show fo (8 * r + s) ≤ x ↔ _
    constructor
    · exact Or.inl
    · rintro (h | ⟨f, h, -⟩)
      · exact h
      · omega
  | succ n ih =>
    obtain ⟨h1, h2⟩ := ih
    have e : tm_ri c1 st tm r i k fo (n + 1) = if tm (5 * i + (k + 1 + n)) < tm_ri c1 st tm r i k fo n (8 * r + st (5 * i + (k + 1 + n))) then tr_up (tm_ri c1 st tm r i k fo n) (8 * r + st (5 * i + (k + 1 + n))) (tm (5 * i + (k + 1 + n))) else tm_ri c1 st tm r i k fo n := rfl
    rw [e]
    have hs7 := hst (5 * i + (k + 1 + n))
    generalize tm_ri c1 st tm r i k fo n = f at *
    have up : ∀ s x, (∃ j, j < n + 1 ∧ st (5 * i + (k + 1 + j)) = s ∧ tm (5 * i + (k + 1 + j)) ≤ x) ↔ (∃ j, j < n ∧ st (5 * i + (k + 1 + j)) = s ∧ tm (5 * i + (k + 1 + j)) ≤ x) ∨ (st (5 * i + (k + 1 + n)) = s ∧ tm (5 * i + (k + 1 + n)) ≤ x) := by
      intro s x
      constructor
      · rintro ⟨j, hj, g⟩
        by_cases hjn : j = n
        · subst hjn
          exact Or.inr g
        · exact Or.inl ⟨j, by omega, g⟩
      · rintro (⟨j, hj, g⟩ | g)
        · exact ⟨j, by omega, g⟩
        · exact ⟨n, by omega, g⟩
    split
    · rename_i hc
      refine ⟨fun s x hs => ?_, fun j hj => by rw [tr_up_n (by omega)]; exact h2 j hj⟩
      rw [up]
      have h3 := h1 s x hs
      by_cases hse : s = st (5 * i + (k + 1 + n))
      · subst hse
        rw [tr_up_s]
        constructor
        · intro g
          exact Or.inr (Or.inr ⟨rfl, g⟩)
        · rintro (g | (g | ⟨-, g⟩))
          · have := h3.mpr (Or.inl g)
            omega
          · have := h3.mpr (Or.inr g)
            omega
          · exact g
      · rw [tr_up_n (by omega), h3]
        constructor
        · rintro (g | g)
          · exact Or.inl g
          · exact Or.inr (Or.inl g)
        · rintro (g | (g | ⟨g, -⟩))
          · exact Or.inl g
          · exact Or.inr g
          · exact absurd g.symm hse
    · rename_i hc
      refine ⟨fun s x hs => ?_, h2⟩
      rw [up]
      have h3 := h1 s x hs
      rw [h3]
      constructor
      · rintro (g | g)
        · exact Or.inl g
        · exact Or.inr (Or.inl g)
      · rintro (g | (g | ⟨rfl, g⟩))
        · exact Or.inl g
        · exact Or.inr g
        · exact h3.mp (by omega)
theorem tg_ride {c1 st tm th fo : Nat → Nat} (hst : ∀ j, st j ≤ 7) {r i k : Nat} : (∀ s x, s < 8 → (tm_ride c1 st tm th r i k fo (8 * r + s) ≤ x ↔ fo (8 * r + s) ≤ x ∨ (th (8 * (r - 1) + st (5 * i + k)) ≤ tm (5 * i + k) ∧ ∃ c, k < c ∧ c < c1 i ∧ st (5 * i + c) = s ∧ tm (5 * i + c) ≤ x))) ∧ ∀ j, (j < 8 * r ∨ 8 * r + 8 ≤ j) → tm_ride c1 st tm th r i k fo j = fo j := by
  unfold tm_ride
  split
  · rename_i hc
    refine ⟨fun s x hs => ⟨Or.inl, ?_⟩, fun j hj => rfl⟩
    rintro (g | ⟨g, -⟩)
    · exact g
    · omega
  · rename_i hc
    obtain ⟨h1, h2⟩ := tg_ri (c1 := c1) (tm := tm) (fo := fo) hst (r := r) (i := i) (k := k) (n := c1 i - (k + 1))
    refine ⟨fun s x hs => ?_, h2⟩
    rw [h1 s x hs]
    constructor
    · rintro (g | ⟨j, hj, g⟩)
      · exact Or.inl g
      · exact Or.inr ⟨by omega, k + 1 + j, by omega, by omega, g⟩
    · rintro (g | ⟨-, c, hc1, hc2, g⟩)
      · exact Or.inl g
      · refine Or.inr ⟨c - (k + 1), by omega, ?_⟩
        rw [show k + 1 + (c - (k + 1)) = c by omega]
        exact g
theorem tg_rides {c1 st tm th fo : Nat → Nat} (hst : ∀ j, st j ≤ 7) {r n : Nat} : (∀ s x, s < 8 → (tm_rides c1 st tm th r fo n (8 * r + s) ≤ x ↔ fo (8 * r + s) ≤ x ∨ ∃ m, m < n ∧ m % 5 < c1 (m / 5) ∧ th (8 * (r - 1) + st (5 * (m / 5) + m % 5)) ≤ tm (5 * (m / 5) + m % 5) ∧ ∃ c, m % 5 < c ∧ c < c1 (m / 5) ∧ st (5 * (m / 5) + c) = s ∧ tm (5 * (m / 5) + c) ≤ x)) ∧ ∀ j, (j < 8 * r ∨ 8 * r + 8 ≤ j) → tm_rides c1 st tm th r fo n j = fo j := by
  induction n with
  | zero =>
    refine ⟨fun s x hs => ?_, fun j hj => rfl⟩
    show fo (8 * r + s) ≤ x ↔ _
    constructor
    · exact Or.inl
    · rintro (h | ⟨f, h, -⟩)
      · exact h
      · omega
  | succ n ih =>
    obtain ⟨h1, h2⟩ := ih
    have e : tm_rides c1 st tm th r fo (n + 1) = if n % 5 < c1 (n / 5) then tm_ride c1 st tm th r (n / 5) (n % 5) (tm_rides c1 st tm th r fo n) else tm_rides c1 st tm th r fo n := rfl
    rw [e]
    generalize tm_rides c1 st tm th r fo n = f at *
    split
    · rename_i hc
      obtain ⟨k1, k2⟩ := tg_ride (c1 := c1) (tm := tm) (th := th) (fo := f) hst (r := r) (i := n / 5) (k := n % 5)
      refine ⟨fun s x hs => ?_, fun j hj => by rw [k2 j hj]; exact h2 j hj⟩
      rw [k1 s x hs, h1 s x hs]
      constructor
      · rintro ((g | ⟨m, hm, g⟩) | ⟨g1, g⟩)
        · exact Or.inl g
        · exact Or.inr ⟨m, by omega, g⟩
        · exact Or.inr ⟨n, by omega, hc, g1, g⟩
      · rintro (g | ⟨m, hm, g0, g1, g⟩)
        · exact Or.inl (Or.inl g)
        · by_cases hmn : m = n
          · subst hmn
            exact Or.inr ⟨g1, g⟩
          · exact Or.inl (Or.inr ⟨m, by omega, g0, g1, g⟩)
    · rename_i hc
      refine ⟨fun s x hs => ?_, h2⟩
      rw [h1 s x hs]
      constructor
      · rintro (g | ⟨m, hm, g⟩)
        · exact Or.inl g
        · exact Or.inr ⟨m, by omega, g⟩
      · rintro (g | ⟨m, hm, g0, g⟩)
        · exact Or.inl g
        · by_cases hmn : m = n
          · subst hmn
            exact absurd g0 hc
          · exact Or.inr ⟨m, by omega, g0, g⟩
theorem tg_init {fo : Nat → Nat} {a t n j : Nat} (hj : j < n) : tm_init a t fo n j = if j = a then t else 100000 := by
  induction n with
  | zero => omega
  | succ n ih =>
    show tr_up (tm_init a t fo n) n (if n = a then t else 100000) j = _
    by_cases h : j = n
    · subst h
      rw [tr_up_s]
    · rw [tr_up_n h]
      exact ih (by omega)
section TN
variable {tc : Nat} {c1 st tm wk : Nat → Nat} {a t : Nat}
def tn_ok (tc : Nat) (c1 st tm wk : Nat → Nat) (a t : Nat) (r : Nat) (q : tm_Q) : Prop :=
  (∀ k, k ≤ r → ∀ s x, s < 8 → x < 100000 → (q.2 (8 * k + s) ≤ x ↔ tp_T tc c1 st tm wk a t k s x)) ∧ ∀ k s, r < k → k ≤ 10 → s < 8 → q.1 (8 * k + s) = 100000
theorem tn_start (ha : a < 8) (fo th : Nat → Nat) : tn_ok tc c1 st tm wk a t 0 (tm_init a t fo 88, tm_w wk (tm_init a t fo 88) 0 th 8) := by
  refine ⟨fun k hk s x hs hx => ?_, fun k s h1 h2 hs => ?_⟩
  · rw [show k = 0 by omega]
    show tm_w wk (tm_init a t fo 88) 0 th 8 (8 * 0 + s) ≤ x ↔ tp_W wk (tp_0 a t) s x
    rw [tg_w8 s x hs]
    have key : ∀ u y, u < 8 → y < 100000 → (tm_init a t fo 88 (8 * 0 + u) ≤ y ↔ tp_0 a t u y) := by
      intro u y hu hy
      rw [tg_init (by omega), show 8 * 0 + u = u by omega]
      by_cases h : u = a
      · rw [if_pos h]
        exact ⟨fun g => ⟨h, g⟩, fun g => g.2⟩
      · rw [if_neg h]
        constructor
        · intro g; omega
        · rintro ⟨g, -⟩; exact absurd g h
    exact ⟨tp_W_m hs (fun u y hu hy g => (key u y hu (by omega)).mp g), tp_W_m hs (fun u y hu hy g => (key u y hu (by omega)).mpr g)⟩
  · show tm_init a t fo 88 (8 * k + s) = 100000
    rw [tg_init (by omega), if_neg (by omega)]
theorem tn_round (hc1 : ∀ j, c1 j ≤ 5) (hst : ∀ j, st j ≤ 7) (htm : ∀ j, tm j ≤ 999) {r : Nat} (hr : r < 10) {q : tm_Q} (h : tn_ok tc c1 st tm wk a t r q) : tn_ok tc c1 st tm wk a t (r + 1) (tm_round tc c1 st tm wk (r + 1) q) := by
  obtain ⟨fo, th⟩ := q
  obtain ⟨h1, h2⟩ := h
  dsimp only at h1 h2
  have e : tm_round tc c1 st tm wk (r + 1) (fo, th) = (tm_rides c1 st tm th (r + 1) fo (5 * tc), tm_w wk (tm_rides c1 st tm th (r + 1) fo (5 * tc)) (r + 1) th 8) := rfl
  rw [e]
  obtain ⟨k1, k2⟩ := tg_rides (c1 := c1) (tm := tm) (th := th) (fo := fo) hst (r := r + 1) (n := 5 * tc)
  generalize tm_rides c1 st tm th (r + 1) fo (5 * tc) = f at *
  have key : ∀ u y, u < 8 → y < 100000 → (f (8 * (r + 1) + u) ≤ y ↔ tp_R tc c1 st tm (tp_T tc c1 st tm wk a t r) u y) := by
    intro u y hu hy
    rw [k1 u y hu, h2 (r + 1) u (by omega) (by omega) hu]
    have val : ∀ j, (th (8 * (r + 1 - 1) + st j) ≤ tm j ↔ tp_T tc c1 st tm wk a t r (st j) (tm j)) := by
      intro j
      have h3 := hst j
      have h4 := htm j
      rw [show r + 1 - 1 = r by omega]
      exact h1 r (Nat.le_refl _) _ _ (by omega) (by omega)
    constructor
    · rintro (g | ⟨m, hm, g0, g1, c, g2, g3, g4, g5⟩)
      · omega
      · exact ⟨m / 5, by omega, c, g3, g4, g5, m % 5, g2, (val _).mp g1⟩
    · rintro ⟨i, hi, c, hc, g1, g2, k, hk, g3⟩
      have h5 := hc1 i
      refine Or.inr ⟨5 * i + k, by omega, ?_⟩
      rw [show (5 * i + k) / 5 = i by omega, show (5 * i + k) % 5 = k by omega]
      exact ⟨by omega, (val _).mpr g3, c, hk, hc, g1, g2⟩
  refine ⟨fun k hk s x hs hx => ?_, fun k s hk1 hk2 hs => ?_⟩
  · show tm_w wk f (r + 1) th 8 (8 * k + s) ≤ x ↔ _
    rcases Nat.lt_or_ge r k with z | z
    · rw [show k = r + 1 by omega, tg_w8 s x hs]
      exact ⟨tp_W_m hs (fun u y hu hy g => (key u y hu (by omega)).mp g), tp_W_m hs (fun u y hu hy g => (key u y hu (by omega)).mpr g)⟩
    · rw [(tg_w (n := 8)).2 _ (by omega)]
      exact h1 k z s x hs hx
  · show f (8 * k + s) = 100000
    rw [k2 _ (by omega)]
    exact h2 k s (by omega) hk2 hs
theorem tn_search (hc1 : ∀ j, c1 j ≤ 5) (hst : ∀ j, st j ≤ 7) (htm : ∀ j, tm j ≤ 999) (ha : a < 8) (fo th : Nat → Nat) : ∀ r, r ≤ 10 → tn_ok tc c1 st tm wk a t r (tm_search tc c1 st tm wk a t fo th r) := by
  intro r
  induction r with
  | zero => intro _; exact tn_start ha fo th
  | succ r ih => intro h; exact tn_round hc1 hst htm (by omega) (ih (by omega))
end TN
theorem tg_best {th : Nat → Nat} {b n : Nat} : tm_best th b n ≤ 100000 ∧ ∀ x, x < 100000 → (tm_best th b n ≤ x ↔ ∃ k, k < n ∧ th (8 * k + b) ≤ x) := by
  induction n with
  | zero =>
    refine ⟨Nat.le_refl _, fun x hx => ?_⟩
    show 100000 ≤ x ↔ _
    constructor
    · intro g; omega
    · rintro ⟨k, hk, -⟩; omega
  | succ n ih =>
    obtain ⟨h1, h2⟩ := ih
    have e : tm_best th b (n + 1) = if th (8 * n + b) < tm_best th b n then th (8 * n + b) else tm_best th b n := rfl
    rw [e]
    generalize tm_best th b n = z at *
    split
    · rename_i hc
      refine ⟨by omega, fun x hx => ?_⟩
      have h3 := h2 x hx
      constructor
      · intro g
        exact ⟨n, by omega, g⟩
      · rintro ⟨k, hk, g⟩
        by_cases hkn : k = n
        · subst hkn
          exact g
        · have := h3.mpr ⟨k, by omega, g⟩
          omega
    · rename_i hc
      refine ⟨h1, fun x hx => ?_⟩
      have h3 := h2 x hx
      rw [h3]
      constructor
      · rintro ⟨k, hk, g⟩
        exact ⟨k, by omega, g⟩
      · rintro ⟨k, hk, g⟩
        by_cases hkn : k = n
        · subst hkn
          exact h3.mp (by omega)
        · exact ⟨k, by omega, g⟩
/-! the answers agree -/
section TE
variable {tc : Nat} {c1 st tm wk bs ri fo th : Nat → Nat}
theorem te_B (hI : tr_I tc c1 st tm wk) {a t b n x : Nat} (ha : a < 8) (hb : b < 8) (hn : n ≤ 10) (hx : x < 100000) : tm_best (tm_th tc c1 st tm wk fo th a t) b (n + 1) ≤ x ↔ tp_B tc c1 st tm wk a t n b x := by
  obtain ⟨htc, hc1, hc0, hst, htm, hwk, hmo⟩ := hI
  rw [(tg_best (n := n + 1)).2 x hx, tp_BT hst htm n b x hb]
  have h := tn_search (tc := tc) (wk := wk) (t := t) hc1 hst htm ha fo th 10 (Nat.le_refl _)
  constructor
  · rintro ⟨k, hk, g⟩
    exact ⟨k, by omega, (h.1 k (by omega) b x hb hx).mp g⟩
  · rintro ⟨k, hk, g⟩
    exact ⟨k, by omega, (h.1 k (by omega) b x hb hx).mpr g⟩
theorem te_A (hI : tr_I tc c1 st tm wk) {a t b n x : Nat} (ha : a < 8) (ht : t ≤ 999) (hb : b < 8) (hx : x < 100000) : tx_at (tx_search tc c1 st tm wk a t n bs ri) b ≤ x ↔ tp_B tc c1 st tm wk a t n b x := by
  obtain ⟨htc, hc1, hc0, hst, htm, hwk, hmo⟩ := hI
  obtain ⟨h1, h2, h3⟩ := ti_search (tc := tc) (c1 := c1) (wk := wk) hst htm ha ht n bs ri
  unfold tx_at
  rw [h2 _ (Nat.le_refl _) b x hb hx, h3 n b x h1 (Nat.le_refl _) hb hx]
theorem te_le {A B : Nat} (hA : A ≤ 100000) (hB : B ≤ 100000) (h : ∀ x, x < 100000 → (A ≤ x ↔ B ≤ x)) : A = B := by
  rcases Nat.lt_trichotomy A B with g | g | g
  · have := (h A (by omega)).mp (Nat.le_refl _)
    omega
  · exact g
  · have := (h B (by omega)).mpr (Nat.le_refl _)
    omega
/-- bounds -/
theorem te_w {wk ri bs : Nat → Nat} {r : Nat} (h : ∀ j, bs j ≤ 100000) : ∀ j, tx_w wk ri r bs 8 j ≤ 100000 := by
  intro j
  obtain ⟨h1, h2⟩ := tf_w (wk := wk) (ri := ri) (bs := bs) (r := r) (n := 8)
  by_cases hj : j < 8 * r ∨ 8 * r + 8 ≤ j
  · rw [h2 j hj]
    exact h j
  · have h3 := (h1 (j - 8 * r) 100000 (by omega)).mpr (Or.inl (h _))
    rw [show 8 * r + (j - 8 * r) = j by omega] at h3
    exact h3
theorem te_f2 {wk ri bs : Nat → Nat} {r : Nat} (h : ∀ j, bs j ≤ 100000) : ∀ j, tx_f2 wk ri r bs j ≤ 100000 := by
  refine te_w (fun j => ?_)
  obtain ⟨h1, h2⟩ := tf_f1 (ri := ri) (bs := bs) (r := r) (n := 8) (Nat.le_refl _)
  by_cases hj : j < 8 * r ∨ 8 * r + 8 ≤ j
  · rw [h2 j hj]
    exact h j
  · have h3 := (h1 (j - 8 * r) 100000 (by omega)).mpr (Or.inl (h _))
    rw [show 8 * r + (j - 8 * r) = j by omega] at h3
    exact h3
theorem te_copy {bs : Nat → Nat} {r : Nat} (h : ∀ j, bs j ≤ 100000) : ∀ j, tx_copy r bs 8 j ≤ 100000 := by
  intro j
  obtain ⟨h1, h2⟩ := tf_copy (bs := bs) (r := r) (n := 8) (Nat.le_refl _)
  by_cases hj : j < 8 * r + 8 ∨ 8 * r + 8 + 8 ≤ j
  · rw [h2 j hj]
    exact h j
  · have h3 := h1 (j - (8 * r + 8)) (by omega)
    rw [show 8 * r + 8 + (j - (8 * r + 8)) = j by omega] at h3
    rw [h3]
    exact h _
theorem te_rounds (n : Nat) : ∀ q : tx_Q, (∀ j, q.1 j ≤ 100000) → ∀ j, (tx_rounds tc c1 st tm wk n q).1 j ≤ 100000 := by
  induction n with
  | zero => intro q h; exact h
  | succ n ih =>
    intro q h
    by_cases h0 : q.2.1 = 0
    · rw [tx_rounds_z _ h0]
      exact h
    · have e : tx_rounds tc c1 st tm wk (n + 1) q = tx_rounds tc c1 st tm wk n (tx_round tc c1 st tm wk q) := by
        show (if q.2.1 = 0 then _ else _) = _
        rw [if_neg h0]
      rw [e]
      exact ih _ (te_f2 (te_copy h))
theorem te_search {a t n : Nat} (ht : t ≤ 999) (hb : ∀ j, bs j ≤ 100000) : ∀ j, (tx_search tc c1 st tm wk a t n bs ri).1 j ≤ 100000 := by
  refine te_rounds n _ (te_w (tr_up_le (fun j => ?_) (by omega)))
  rw [tf_fill]
  split
  · exact Nat.le_refl _
  · exact hb j
theorem te_nS {x : Int32} (h : tr_S x = true) : ∃ k : Nat, k < 8 ∧ x = nI k := by
  by_cases h0 : x < 0
  · rw [tr_S_neg h0] at h; cases h
  · by_cases h8 : nI 8 ≤ x
    · rw [tr_S_ge h0 h8] at h; cases h
    · exact (tr_S_lt h0 h8).2
theorem te_nT {x : Int32} (h : tr_T x = true) : ∃ k : Nat, k ≤ 999 ∧ x = nI k := by
  by_cases h0 : x < 0
  · rw [tr_T_neg h0] at h; cases h
  · by_cases h8 : nI 999 < x
    · rw [tr_T_gt h0 h8] at h; cases h
    · exact (tr_T_le h0 h8).2
theorem te_arr (hI : tr_I tc c1 st tm wk) (x1 x2 x3 x4 : Int32) : tx_arr tc c1 st tm wk bs ri x1 x2 x3 x4 = tm_arr tc c1 st tm wk fo th x1 x2 x3 x4 := by
  unfold tx_arr tm_arr
  split
  · rename_i hc
    obtain ⟨g1, g2, g3, g4, g5⟩ := hc
    obtain ⟨a, ha, rfl⟩ := te_nS g1
    obtain ⟨b, hb, rfl⟩ := te_nS g2
    obtain ⟨t, ht, rfl⟩ := te_nT g3
    obtain ⟨n, hn, rfl⟩ := tr_ixle g4 g5 (by omega)
    rw [nI_clamp (n := a) (by omega), nI_clamp (n := b) (by omega), nI_clamp (n := t) (by omega), nI_clamp (n := n) (by omega)]
    have h1 := fun x hx => te_A (bs := bs) (ri := ri) hI (n := n) (x := x) ha ht hb hx
    have h2 := fun x hx => te_B (fo := fo) (th := th) hI (t := t) (n := n) (x := x) ha hb hn hx
    have h3 := (tg_best (th := tm_th tc c1 st tm wk fo th a t) (b := b) (n := n + 1)).1
    generalize tx_at (tx_search tc c1 st tm wk a t n bs ri) b = A at *
    generalize tm_best (tm_th tc c1 st tm wk fo th a t) b (n + 1) = B at *
    by_cases hA : A < 100000
    · have h4 := (h2 A hA).mpr ((h1 A hA).mp (Nat.le_refl _))
      have h5 := (h1 B (by omega)).mpr ((h2 B (by omega)).mp (Nat.le_refl _))
      rw [if_neg (by omega), if_neg (by omega), show A = B by omega]
    · rw [if_pos (by omega), if_pos]
      rcases Nat.lt_or_ge B 100000 with z | z
      · have h5 := (h1 B z).mpr ((h2 B z).mp (Nat.le_refl _))
        omega
      · omega
  · rfl
theorem te_first {f : Nat → Nat} (n : Nat) : ∀ k, (∃ r, k ≤ r ∧ r < k + n ∧ f r < 100000 ∧ (∀ j, k ≤ j → j < r → ¬ f j < 100000) ∧ tr_first f n k = nI r) ∨ ((∀ j, k ≤ j → j < k + n → ¬ f j < 100000) ∧ tr_first f n k = -3) := by
  induction n with
  | zero => intro k; exact Or.inr ⟨fun j h1 h2 => by omega, rfl⟩
  | succ n ih =>
    intro k
    have e : tr_first f (n + 1) k = if f k < 100000 then nI k else tr_first f n (k + 1) := rfl
    by_cases h : f k < 100000
    · exact Or.inl ⟨k, Nat.le_refl _, by omega, h, fun j h1 h2 => by omega, by rw [e, if_pos h]⟩
    · rw [e, if_neg h]
      rcases ih (k + 1) with ⟨r, h1, h2, h3, h4, h5⟩ | ⟨h1, h2⟩
      · refine Or.inl ⟨r, by omega, by omega, h3, fun j g1 g2 => ?_, h5⟩
        by_cases hj : j = k
        · rw [hj]; exact h
        · exact h4 j (by omega) g2
      · refine Or.inr ⟨fun j g1 g2 => ?_, h2⟩
        by_cases hj : j = k
        · rw [hj]; exact h
        · exact h1 j (by omega) (by omega)
theorem te_few (hI : tr_I tc c1 st tm wk) (x1 x2 x3 : Int32) : tx_few tc c1 st tm wk bs ri x1 x2 x3 = tm_few tc c1 st tm wk fo th x1 x2 x3 := by
  unfold tx_few tm_few
  split
  · rename_i hc
    obtain ⟨g1, g2, g3⟩ := hc
    obtain ⟨a, ha, rfl⟩ := te_nS g1
    obtain ⟨b, hb, rfl⟩ := te_nS g2
    obtain ⟨t, ht, rfl⟩ := te_nT g3
    rw [nI_clamp (n := a) (by omega), nI_clamp (n := b) (by omega), nI_clamp (n := t) (by omega)]
    obtain ⟨htc, hc1, hc0, hst, htm, hwk, hmo⟩ := hI
    obtain ⟨h1, h2, h3⟩ := ti_search (tc := tc) (c1 := c1) (wk := wk) hst htm ha ht 10 bs ri
    have k1 := (tn_search (tc := tc) (wk := wk) (t := t) hc1 hst htm ha fo th 10 (Nat.le_refl _)).1
    have kt : ∀ k, k ≤ 10 → (tm_th tc c1 st tm wk fo th a t (8 * k + b) < 100000 ↔ tp_T tc c1 st tm wk a t k b 99999) := fun k hk => by
      rw [← k1 k hk b 99999 hb (by omega)]
      show (tm_search tc c1 st tm wk a t fo th 10).2 (8 * k + b) < 100000 ↔ _
      omega
    have kb := fun n => tp_BT (tc := tc) (c1 := c1) (wk := wk) (a := a) (t := t) hst htm n b 99999 hb
    generalize hq : tx_search tc c1 st tm wk a t 10 bs ri = q at *
    obtain ⟨b1, t1, N, r1⟩ := q
    dsimp only at h1 h2 h3 ⊢
    have kx : ∀ r, r ≤ N → (b1 (8 * r + b) < 100000 ↔ tp_B tc c1 st tm wk a t r b 99999) := fun r hr => by
      rw [← h2 r hr b 99999 hb (by omega)]
      omega
    have ks : ∀ r, N ≤ r → r ≤ 10 → (tp_B tc c1 st tm wk a t r b 99999 ↔ tp_B tc c1 st tm wk a t N b 99999) := fun r g1 g2 => h3 r b 99999 g1 g2 hb (by omega)
    rcases te_first (f := fun r => b1 (8 * r + b)) (N + 1) 0 with ⟨r, i1, i2, i3, i4, i5⟩ | ⟨i1, i2⟩
    · rcases te_first (f := fun r => tm_th tc c1 st tm wk fo th a t (8 * r + b)) 11 0 with ⟨r', j1, j2, j3, j4, j5⟩ | ⟨j1, j2⟩
      · rw [i5, j5]
        have p1 := (kt r' (by omega)).mp j3
        have p2 := (kx r (by omega)).mp i3
        obtain ⟨k, hk, p3⟩ := (kb r).mp p2
        have p4 : ¬ k < r' := fun z => j4 k (by omega) z ((kt k (by omega)).mpr p3)
        have p5 : ¬ r' < r := fun z => i4 r' (by omega) z ((kx r' (by omega)).mpr ((kb r').mpr ⟨r', Nat.le_refl _, p1⟩))
        rw [show r = r' by omega]
      · have p2 := (kx r (by omega)).mp i3
        obtain ⟨k, hk, p3⟩ := (kb r).mp p2
        exact absurd ((kt k (by omega)).mpr p3) (j1 k (by omega) (by omega))
    · rcases te_first (f := fun r => tm_th tc c1 st tm wk fo th a t (8 * r + b)) 11 0 with ⟨r', j1, j2, j3, j4, j5⟩ | ⟨j1, j2⟩
      · have p1 := (kb r').mpr ⟨r', Nat.le_refl _, (kt r' (by omega)).mp j3⟩
        rcases Nat.lt_or_ge N r' with z | z
        · exact absurd ((kx N (Nat.le_refl _)).mpr ((ks r' (by omega) (by omega)).mp p1)) (i1 N (by omega) (by omega))
        · exact absurd ((kx r' z).mpr p1) (i1 r' (by omega) (by omega))
      · rw [i2, j2]
  · rfl
theorem te_falls_c {f g : Nat → Nat} {n : Nat} (h : ∀ r, r < n → f r = g r) : tr_falls f n = tr_falls g n := by
  induction n with
  | zero => rfl
  | succ n ih =>
    have e : ∀ f : Nat → Nat, tr_falls f (n + 1) = (if f n < (tr_falls f n).2 then (tr_falls f n).1 + 1 else (tr_falls f n).1, f n) := fun _ => rfl
    rw [e f, e g, ih (fun r hr => h r (by omega)), h n (by omega)]
theorem te_falls_s {f : Nat → Nat} {n : Nat} (m : Nat) (h : ∀ r, n ≤ r → r ≤ n + m → f r = f n) : tr_falls f (n + 1 + m) = tr_falls f (n + 1) := by
  induction m with
  | zero => rfl
  | succ m ih =>
    have e : ∀ k, tr_falls f (k + 1) = (if f k < (tr_falls f k).2 then (tr_falls f k).1 + 1 else (tr_falls f k).1, f k) := fun _ => rfl
    have i := ih (fun r h1 h2 => h r h1 (by omega))
    rw [show n + 1 + (m + 1) = (n + 1 + m) + 1 by omega, e, i, h (n + 1 + m) (by omega) (by omega)]
    have e2 : (tr_falls f (n + 1)).2 = f n := rfl
    rw [e2, if_neg (by omega), ← e2]
theorem te_cnt {th : Nat → Nat} {b : Nat} (n : Nat) : (tm_cnt th b n, tm_best th b (n + 1)) = tr_falls (fun r => tm_best th b (r + 1)) (n + 1) := by
  have eb : ∀ n, tm_best th b (n + 1) = if th (8 * n + b) < tm_best th b n then th (8 * n + b) else tm_best th b n := fun _ => rfl
  induction n with
  | zero =>
    have e : tr_falls (fun r => tm_best th b (r + 1)) (0 + 1) = (if tm_best th b (0 + 1) < 100000 then 0 + 1 else 0, tm_best th b (0 + 1)) := rfl
    rw [e]
    have e2 : tm_cnt th b 0 = if th b < 100000 then 1 else 0 := rfl
    have e3 : tm_best th b (0 + 1) = if th (8 * 0 + b) < 100000 then th (8 * 0 + b) else 100000 := rfl
    rw [e2, e3, show 8 * 0 + b = b by omega]
    by_cases h : th b < 100000
    · rw [if_pos h, if_pos h, if_pos h]
    · rw [if_neg h, if_neg h, if_neg (by omega)]
  | succ n ih =>
    have e : tr_falls (fun r => tm_best th b (r + 1)) (n + 1 + 1) = (if tm_best th b (n + 1 + 1) < (tr_falls (fun r => tm_best th b (r + 1)) (n + 1)).2 then (tr_falls (fun r => tm_best th b (r + 1)) (n + 1)).1 + 1 else (tr_falls (fun r => tm_best th b (r + 1)) (n + 1)).1, tm_best th b (n + 1 + 1)) := rfl
    rw [e, ← ih]
    have e2 : tm_cnt th b (n + 1) = if th (8 * (n + 1) + b) < tm_best th b (n + 1) then tm_cnt th b n + 1 else tm_cnt th b n := rfl
    rw [e2]
    have e3 := eb (n + 1)
    by_cases h : th (8 * (n + 1) + b) < tm_best th b (n + 1)
    · rw [if_pos h] at e3
      rw [if_pos h, if_pos (show tm_best th b (n + 1 + 1) < tm_best th b (n + 1) by omega)]
    · rw [if_neg h] at e3
      rw [if_neg h, if_neg (show ¬ tm_best th b (n + 1 + 1) < tm_best th b (n + 1) by omega)]
theorem te_cho (hI : tr_I tc c1 st tm wk) (hbs : ∀ j, bs j ≤ 100000) (x1 x2 x3 : Int32) : tx_cho tc c1 st tm wk bs ri x1 x2 x3 = tm_cho tc c1 st tm wk fo th x1 x2 x3 := by
  unfold tx_cho tm_cho
  split
  · rename_i hc
    obtain ⟨g1, g2, g3⟩ := hc
    obtain ⟨a, ha, rfl⟩ := te_nS g1
    obtain ⟨b, hb, rfl⟩ := te_nS g2
    obtain ⟨t, ht, rfl⟩ := te_nT g3
    rw [nI_clamp (n := a) (by omega), nI_clamp (n := b) (by omega), nI_clamp (n := t) (by omega)]
    obtain ⟨h1, h2, h3⟩ := ti_search (tc := tc) (c1 := c1) (wk := wk) hI.2.2.2.1 hI.2.2.2.2.1 ha ht 10 bs ri
    have hq := te_search (tc := tc) (c1 := c1) (st := st) (tm := tm) (wk := wk) (bs := bs) (ri := ri) (a := a) (n := 10) ht hbs
    have h4 := fun n hn x hx => te_B (fo := fo) (th := th) hI (t := t) (n := n) (x := x) ha hb hn hx
    have h5 := fun n => (tg_best (th := tm_th tc c1 st tm wk fo th a t) (b := b) (n := n)).1
    have h6 := te_cnt (th := tm_th tc c1 st tm wk fo th a t) (b := b) 10
    generalize tx_search tc c1 st tm wk a t 10 bs ri = q at *
    obtain ⟨b1, t1, N, r1⟩ := q
    dsimp only at h1 h2 h3 hq ⊢
    generalize tm_th tc c1 st tm wk fo th a t = T at *
    have e1 : tr_falls (fun r => b1 (8 * r + b)) (N + 1) = tr_falls (fun r => tm_best T b (r + 1)) (N + 1) := te_falls_c (fun r hr => te_le (hq _) (h5 _) (fun x hx => by
      rw [h2 r (by omega) b x hb hx, h4 r (by omega) x hx]))
    have e2 := te_falls_s (f := fun r => tm_best T b (r + 1)) (n := N) (10 - N) (fun r z1 z2 => te_le (h5 _) (h5 _) (fun x hx => by
      rw [h4 r (by omega) x hx, h4 N (by omega) x hx]
      exact h3 r b x z1 (by omega) hb hx))
    rw [show N + 1 + (10 - N) = 10 + 1 by omega, ← h6] at e2
    rw [e1, ← e2]
  · rfl
theorem te_set {f g : Nat → Bool} {n : Nat} (h : ∀ q, q < n → f q = g q) : tr_set f n = tr_set g n := by
  induction n with
  | zero => rfl
  | succ n ih =>
    have e : ∀ f : Nat → Bool, tr_set f (n + 1) = if f n = true then tr_set f n ||| 2 ^ n else tr_set f n := fun _ => rfl
    rw [e f, e g, ih (fun q hq => h q (by omega)), h n (by omega)]
theorem te_wit (hI : tr_I tc c1 st tm wk) (x1 x2 x3 : Int32) : tx_wit tc c1 st tm wk bs ri x1 x2 x3 = tm_wit tc c1 st tm wk fo th x1 x2 x3 := by
  unfold tx_wit tm_wit
  split
  · rename_i hc
    obtain ⟨g1, g2, g3⟩ := hc
    obtain ⟨a, ha, rfl⟩ := te_nS g1
    obtain ⟨t, ht, rfl⟩ := te_nT g2
    obtain ⟨y, hy, rfl⟩ := te_nT g3
    rw [nI_clamp (n := a) (by omega), nI_clamp (n := t) (by omega), nI_clamp (n := y) (by omega)]
    rw [te_set (fun q hq => ?_)]
    rw [Bool.eq_iff_iff, decide_eq_true_iff, decide_eq_true_iff, te_A hI ha ht hq (by omega)]
    exact (te_B (n := 10) hI ha hq (Nat.le_refl _) (by omega)).symm
  · rfl
end TE
end
section
set_option maxRecDepth 100000
/-! the timetable: its invariant stays -/
theorem ty_up {f : Nat → Nat} {k v j : Nat} : tr_up f k v j = if j = k then v else f j := rfl
theorem ty_sh5 {f : Nat → Nat} {i n : Nat} : ∀ j, tr_sh5 f i n j = if 5 * i ≤ j ∧ j < 5 * i + n then f (j + 5) else f j := by
  induction n with
  | zero => intro j; rw [if_neg (by omega)]; rfl
  | succ n ih =>
    intro j
    have e : tr_sh5 f i (n + 1) = tr_up (tr_sh5 f i n) (5 * i + n) (tr_sh5 f i n (5 * i + n + 5)) := rfl
    rw [e, ty_up]
    by_cases h : j = 5 * i + n
    · rw [if_pos h, if_pos (by omega), ih, if_neg (by omega), h]
    · rw [if_neg h, ih]
      by_cases h2 : 5 * i ≤ j ∧ j < 5 * i + n
      · rw [if_pos h2, if_pos (by omega)]
      · rw [if_neg h2, if_neg (by omega)]
theorem ty_sh1 {f : Nat → Nat} {i n : Nat} : ∀ j, tr_sh1 f i n j = if i ≤ j ∧ j < i + n then f (j + 1) else f j := by
  induction n with
  | zero => intro j; rw [if_neg (by omega)]; rfl
  | succ n ih =>
    intro j
    have e : tr_sh1 f i (n + 1) = tr_up (tr_sh1 f i n) (i + n) (tr_sh1 f i n (i + n + 1)) := rfl
    rw [e, ty_up]
    by_cases h : j = i + n
    · rw [if_pos h, if_pos (by omega), ih, if_neg (by omega), h]
    · rw [if_neg h, ih]
      by_cases h2 : i ≤ j ∧ j < i + n
      · rw [if_pos h2, if_pos (by omega)]
      · rw [if_neg h2, if_neg (by omega)]
theorem ty_late {f : Nat → Nat} {i k d n : Nat} : ∀ j, tr_late f i k d n j = if 5 * i + k ≤ j ∧ j < 5 * i + k + n then f j + d else f j := by
  induction n with
  | zero => intro j; rw [if_neg (by omega)]; rfl
  | succ n ih =>
    intro j
    have e : tr_late f i k d (n + 1) = tr_up (tr_late f i k d n) (5 * i + k + n) (tr_late f i k d n (5 * i + k + n) + d) := rfl
    rw [e, ty_up]
    by_cases h : j = 5 * i + k + n
    · rw [if_pos h, if_pos (by omega), ih, if_neg (by omega), h]
    · rw [if_neg h, ih]
      by_cases h2 : 5 * i + k ≤ j ∧ j < 5 * i + k + n
      · rw [if_pos h2, if_pos (by omega)]
      · rw [if_neg h2, if_neg (by omega)]
section TY
variable {tc : Nat} {c1 st tm wk : Nat → Nat}
theorem ty_trip (hI : tr_I tc c1 st tm wk) {x1 x2 v : Int32} {u : Nat × (Nat → Nat) × (Nat → Nat) × (Nat → Nat)} (h : tr_trip tc c1 st tm x1 x2 = (v, u)) : tr_I u.1 u.2.1 u.2.2.1 u.2.2.2 wk := by
  unfold tr_trip at h
  by_cases h10 : 10 ≤ tc
  · rw [if_pos h10] at h
    cases h
    exact hI
  · rw [if_neg h10] at h
    by_cases hg : tr_S x1 = true ∧ tr_T x2 = true
    · rw [if_pos hg] at h
      obtain ⟨a, ha, rfl⟩ := te_nS hg.1
      obtain ⟨b, hb, rfl⟩ := te_nT hg.2
      rw [nI_clamp (n := a) (by omega), nI_clamp (n := b) (by omega)] at h
      cases h
      obtain ⟨htc, hc1, hc0, hst, htm, hwk, hmo⟩ := hI
      refine ⟨show tc + 1 ≤ 10 by omega, tr_up_le hc1 (by omega), fun i hi => ?_, tr_up_le hst (by omega), tr_up_le htm hb, hwk, fun i hi k hk => ?_⟩
      · have hi : i < tc + 1 := hi
        show 1 ≤ tr_up c1 tc 1 i
        rw [ty_up]
        split
        · omega
        · exact hc0 i (by omega)
      · have hi : i < tc + 1 := hi
        have hk : k + 1 < tr_up c1 tc 1 i := hk
        show tr_up tm (5 * tc) b (5 * i + k) ≤ tr_up tm (5 * tc) b (5 * i + k + 1)
        rw [ty_up] at hk
        by_cases h : i = tc
        · rw [if_pos h] at hk
          omega
        · rw [if_neg h] at hk
          have := hc1 i
          rw [tr_up_n (by omega), tr_up_n (by omega)]
          exact hmo i (by omega) k hk
    · rw [if_neg hg] at h
      cases h
      exact hI
theorem ty_call (hI : tr_I tc c1 st tm wk) {x1 x2 v : Int32} {u : (Nat → Nat) × (Nat → Nat) × (Nat → Nat)} (h : tr_call tc c1 st tm x1 x2 = (v, u)) : tr_I tc u.1 u.2.1 u.2.2 wk := by
  unfold tr_call at h
  by_cases hg : tc ≠ 0 ∧ tr_S x1 = true ∧ tr_T x2 = true
  · rw [if_pos hg] at h
    by_cases h5 : 5 ≤ c1 (tc - 1)
    · rw [if_pos h5] at h
      cases h
      exact hI
    · rw [if_neg h5] at h
      obtain ⟨a, ha, rfl⟩ := te_nS hg.2.1
      obtain ⟨b, hb, rfl⟩ := te_nT hg.2.2
      rw [nI_clamp (n := a) (by omega), nI_clamp (n := b) (by omega)] at h
      split at h
      · cases h
        exact hI
      · split at h
        · cases h
          exact hI
        · rename_i hlt
          cases h
          obtain ⟨htc, hc1, hc0, hst, htm, hwk, hmo⟩ := hI
          have hn1 := hc0 (tc - 1) (by omega)
          refine ⟨htc, tr_up_le hc1 (by omega), fun i hi => ?_, tr_up_le hst (by omega), tr_up_le htm hb, hwk, fun i hi k hk => ?_⟩
          · show 1 ≤ tr_up c1 (tc - 1) (c1 (tc - 1) + 1) i
            rw [ty_up]
            split
            · omega
            · exact hc0 i hi
          · have hk : k + 1 < tr_up c1 (tc - 1) (c1 (tc - 1) + 1) i := hk
            show tr_up tm (5 * (tc - 1) + c1 (tc - 1)) b (5 * i + k) ≤ tr_up tm (5 * (tc - 1) + c1 (tc - 1)) b (5 * i + k + 1)
            rw [ty_up] at hk
            by_cases h : i = tc - 1
            · rw [if_pos h] at hk
              subst h
              rw [tr_up_n (show 5 * (tc - 1) + k ≠ 5 * (tc - 1) + c1 (tc - 1) by omega)]
              by_cases hkn : k + 1 = c1 (tc - 1)
              · rw [show 5 * (tc - 1) + k + 1 = 5 * (tc - 1) + c1 (tc - 1) by omega, tr_up_s]
                rw [show 5 * (tc - 1) + c1 (tc - 1) - 1 = 5 * (tc - 1) + k by omega] at hlt
                omega
              · rw [tr_up_n (by omega)]
                exact hmo _ hi k (by omega)
            · rw [if_neg h] at hk
              have := hc1 i
              rw [tr_up_n (by omega), tr_up_n (by omega)]
              exact hmo i hi k hk
  · rw [if_neg hg] at h
    cases h
    exact hI
theorem ty_cancel (hI : tr_I tc c1 st tm wk) {x v : Int32} {u : Nat × (Nat → Nat) × (Nat → Nat) × (Nat → Nat)} (h : tr_cancel tc c1 st tm x = (v, u)) : tr_I u.1 u.2.1 u.2.2.1 u.2.2.2 wk := by
  unfold tr_cancel at h
  by_cases hg : x < 0 ∨ nI tc ≤ x
  · rw [if_pos hg] at h
    cases h
    exact hI
  · rw [if_neg hg] at h
    obtain ⟨i, hi, rfl⟩ := tr_ixg (fun z => hg (Or.inl z)) (fun z => hg (Or.inr z)) (by have := hI.1; omega)
    obtain ⟨htc, hc1, hc0, hst, htm, hwk, hmo⟩ := hI
    rw [nI_clamp (n := i) (by omega)] at h
    cases h
    refine ⟨show tc - 1 ≤ 10 by omega, fun j => ?_, fun j hj => ?_, fun j => ?_, fun j => ?_, hwk, fun j hj k hk => ?_⟩
    · show tr_sh1 c1 i (tc - 1 - i) j ≤ 5
      rw [ty_sh1]
      split
      · exact hc1 _
      · exact hc1 _
    · have hj : j < tc - 1 := hj
      show 1 ≤ tr_sh1 c1 i (tc - 1 - i) j
      rw [ty_sh1]
      split
      · exact hc0 _ (by omega)
      · exact hc0 _ (by omega)
    · show tr_sh5 st i (5 * (tc - 1) - 5 * i) j ≤ 7
      rw [ty_sh5]
      split
      · exact hst _
      · exact hst _
    · show tr_sh5 tm i (5 * (tc - 1) - 5 * i) j ≤ 999
      rw [ty_sh5]
      split
      · exact htm _
      · exact htm _
    · have hj : j < tc - 1 := hj
      have hk : k + 1 < tr_sh1 c1 i (tc - 1 - i) j := hk
      show tr_sh5 tm i (5 * (tc - 1) - 5 * i) (5 * j + k) ≤ tr_sh5 tm i (5 * (tc - 1) - 5 * i) (5 * j + k + 1)
      rw [ty_sh1] at hk
      rw [ty_sh5, ty_sh5]
      by_cases hij : i ≤ j
      · rw [if_pos (by omega)] at hk
        have h5 := hc1 (j + 1)
        rw [if_pos (by omega), if_pos (by omega), show 5 * j + k + 5 = 5 * (j + 1) + k by omega, show 5 * j + k + 1 + 5 = 5 * (j + 1) + k + 1 by omega]
        exact hmo (j + 1) (by omega) k hk
      · rw [if_neg (by omega)] at hk
        have h5 := hc1 j
        rw [if_neg (by omega), if_neg (by omega)]
        exact hmo j (by omega) k hk
theorem ty_walk (hI : tr_I tc c1 st tm wk) {x1 x2 x3 v : Int32} {u : Nat → Nat} (h : tr_walk wk x1 x2 x3 = (v, u)) : tr_I tc c1 st tm u := by
  unfold tr_walk at h
  by_cases hg : tr_S x1 = true ∧ tr_S x2 = true ∧ x1 ≠ x2 ∧ ¬ x3 < 0 ∧ x3 ≤ nI 99
  · rw [if_pos hg] at h
    obtain ⟨t, ht, rfl⟩ := tr_ixle hg.2.2.2.1 hg.2.2.2.2 (by omega)
    rw [nI_clamp (n := t) (by omega)] at h
    cases h
    obtain ⟨htc, hc1, hc0, hst, htm, hwk, hmo⟩ := hI
    exact ⟨htc, hc1, hc0, hst, htm, tr_up_le (tr_up_le hwk ht) ht, hmo⟩
  · rw [if_neg hg] at h
    cases h
    exact hI
theorem ty_delayI (hI : tr_I tc c1 st tm wk) {i k d : Nat} (hi : i < tc) (hk : k < c1 i) (h9 : tm (5 * i + c1 i - 1) + d ≤ 999) : tr_I tc c1 st (tr_late tm i k d (c1 i - k)) wk := by
  obtain ⟨htc, hc1, hc0, hst, htm, hwk, hmo⟩ := hI
  have h5 := hc1 i
  refine ⟨htc, hc1, hc0, hst, fun j => ?_, hwk, fun j hj m hm => ?_⟩
  · rw [ty_late]
    split
    · rename_i hr
      have h1 := tp_mono (hmo i hi) (k := j - 5 * i) (c := c1 i - 1) (by omega) (by omega)
      rw [show 5 * i + (j - 5 * i) = j by omega, show 5 * i + (c1 i - 1) = 5 * i + c1 i - 1 by omega] at h1
      omega
    · exact htm j
  · have h6 := hc1 j
    have h7 := hmo j hj m hm
    rw [ty_late, ty_late]
    by_cases hij : j = i
    · subst hij
      split
      · rw [if_pos (by omega)]
        omega
      · split <;> omega
    · rw [if_neg (by omega), if_neg (by omega)]
      exact h7
theorem ty_delay (hI : tr_I tc c1 st tm wk) {x1 x2 x3 v v' : Int32} {u u' : Nat → Nat}
    (hX : (tr_dbad tc c1 x1 x2 x3 ∧ v = nI 0 ∧ u = tm) ∨ ∃ i k d, tr_dok tc c1 x1 x2 x3 i k d ∧ ((999 < tm (5 * i + c1 i - 1) + d ∧ v = nI 0 ∧ u = tm) ∨ (tm (5 * i + c1 i - 1) + d ≤ 999 ∧ v = nI 1 ∧ u = tr_late tm i k d (c1 i - k))))
    (hM : (tr_dbad tc c1 x1 x2 x3 ∧ v' = nI 0 ∧ u' = tm) ∨ ∃ i k d, tr_dok tc c1 x1 x2 x3 i k d ∧ (((∃ m, k + m < c1 i ∧ 999 < tm (5 * i + (k + m)) + d) ∧ v' = nI 0 ∧ u' = tm) ∨ ((∀ m, k + m < c1 i → tm (5 * i + (k + m)) + d ≤ 999) ∧ v' = nI 1 ∧ u' = tr_late tm i k d (c1 i - k)))) : v = v' ∧ u = u' ∧ tr_I tc c1 st u wk := by
  rcases hX with ⟨hb, rfl, rfl⟩ | ⟨i, k, d, hok, hX⟩
  · rcases hM with ⟨-, rfl, rfl⟩ | ⟨i, k, d, hok, -⟩
    · exact ⟨rfl, rfl, hI⟩
    · exact absurd hok (hb i k d)
  · rcases hM with ⟨hb, -⟩ | ⟨i', k', d', hok', hM⟩
    · exact absurd hok (hb i k d)
    · obtain ⟨rfl, rfl, rfl⟩ := tr_dok_u hI.1 hI.2.1 hok hok'
      obtain ⟨hi, hk, hd, -⟩ := hok
      have hmo := hI.2.2.2.2.2.2 i hi
      rcases hX with ⟨h9, rfl, rfl⟩ | ⟨h9, rfl, rfl⟩
      · rcases hM with ⟨-, rfl, rfl⟩ | ⟨h8, -⟩
        · exact ⟨rfl, rfl, hI⟩
        · have h7 := h8 (c1 i - 1 - k) (by omega)
          rw [show 5 * i + (k + (c1 i - 1 - k)) = 5 * i + c1 i - 1 by omega] at h7
          omega
      · rcases hM with ⟨⟨m, hm, h8⟩, -⟩ | ⟨-, rfl, rfl⟩
        · have h7 := tp_mono hmo (k := k + m) (c := c1 i - 1) (by omega) (by omega)
          rw [show 5 * i + (c1 i - 1) = 5 * i + c1 i - 1 by omega] at h7
          omega
        · exact ⟨rfl, rfl, ty_delayI hI hi hk h9⟩
theorem ty_0 : tr_I 0 (fun _ => 0) (fun _ => 0) (fun _ => 0) (fun _ => 0) := ⟨by decide, fun _ => Nat.zero_le _, fun i hi => by omega, fun _ => Nat.zero_le _, fun _ => Nat.zero_le _, fun _ => Nat.zero_le _, fun i hi => by omega⟩
/-! leave -/
/-- v: the latest minute of 0..999 at which B holds, or -3 -/
def tl_ok (B : Nat → Prop) (v : Int32) : Prop := (∃ m, m ≤ 999 ∧ v = nI m ∧ B m ∧ ∀ m', m < m' → m' ≤ 999 → ¬ B m') ∨ (v = -3 ∧ ∀ m, m ≤ 999 → ¬ B m)
theorem tl_u {B : Nat → Prop} {v v' : Int32} (h : tl_ok B v) (h' : tl_ok B v') : v = v' := by
  rcases h with ⟨m, h1, h2, h3, h4⟩ | ⟨h1, h2⟩
  · rcases h' with ⟨m', g1, g2, g3, g4⟩ | ⟨g1, g2⟩
    · rw [h2, g2]
      rcases Nat.lt_trichotomy m m' with z | z | z
      · exact absurd g3 (h4 m' z g1)
      · rw [z]
      · exact absurd h3 (g4 m z h1)
    · exact absurd h3 (g2 m h1)
  · rcases h' with ⟨m', g1, g2, g3, g4⟩ | ⟨g1, g2⟩
    · exact absurd g3 (h2 m' g1)
    · rw [h1, g1]
/-- from a one can be at b by y, leaving at m -/
def tl_B (tc : Nat) (c1 st tm wk : Nat → Nat) (a b y m : Nat) : Prop := tp_B tc c1 st tm wk a m 10 b y
theorem tl_late (hI : tr_I tc c1 st tm wk) {a b y m m' : Nat} (hb : b < 8) (h : m ≤ m') (g : tl_B tc c1 st tm wk a b y m') : tl_B tc c1 st tm wk a b y m := by
  obtain ⟨htc, hc1, hc0, hst, htm, hwk, hmo⟩ := hI
  obtain ⟨k, hk, g⟩ := (tp_BT hst htm 10 b y hb).mp g
  exact (tp_BT hst htm 10 b y hb).mpr ⟨k, hk, tp_T_late h k b y g⟩
theorem tl_ge (hI : tr_I tc c1 st tm wk) {a b y m : Nat} (hb : b < 8) (g : tl_B tc c1 st tm wk a b y m) : m ≤ y := by
  obtain ⟨htc, hc1, hc0, hst, htm, hwk, hmo⟩ := hI
  obtain ⟨k, hk, g⟩ := (tp_BT hst htm 10 b y hb).mp g
  exact tp_T_ge hmo k b y g
/-- what leave answers, both sides -/
def tl_lea (tc : Nat) (c1 st tm wk : Nat → Nat) (x1 x2 x3 v : Int32) : Prop := ((tr_S x1 = true ∧ tr_S x2 = true ∧ tr_T x3 = true) ∧ tl_ok (tl_B tc c1 st tm wk x1.toNatClampNeg x2.toNatClampNeg x3.toNatClampNeg) v) ∨ (¬ (tr_S x1 = true ∧ tr_S x2 = true ∧ tr_T x3 = true) ∧ v = -1)
theorem tl_lea_u {x1 x2 x3 v v' : Int32} (h : tl_lea tc c1 st tm wk x1 x2 x3 v) (h' : tl_lea tc c1 st tm wk x1 x2 x3 v') : v = v' := by
  rcases h with ⟨h1, h2⟩ | ⟨h1, h2⟩
  · rcases h' with ⟨g1, g2⟩ | ⟨g1, g2⟩
    · exact tl_u h2 g2
    · exact absurd h1 g1
  · rcases h' with ⟨g1, g2⟩ | ⟨g1, g2⟩
    · exact absurd g1 h1
    · rw [h2, g2]
end TY
end
section
set_option maxRecDepth 100000
theorem tr_lo0 {lw : Int32} {lo : Nat} (e : lw = nI lo + (-1)) (h : 1 ≤ lo) : lw = nI (lo - 1) := by
  obtain ⟨k, rfl⟩ : ∃ k, lo = k + 1 := ⟨lo - 1, by omega⟩
  rw [e, Nat.add_sub_cancel]
  exact pk_m1 k
theorem tr_lo1 {lw : Int32} {lo hi : Nat} (e : lw = nI lo + (-1)) (h : lo ≤ hi + 1) : nI hi - lw = nI (hi + 1 - lo) := by
  rw [e, ← pk_sub h, nI_succ]
  generalize nI hi = x
  generalize nI lo = y
  grind
theorem tr_lo2 {lw : Int32} {lo hi : Nat} (e : lw = nI lo + (-1)) (h : 1 ≤ lo + hi) : lw + nI hi = nI (lo + hi - 1) := by
  have h2 : nI (lo + hi - 1) = nI (lo + hi) - nI 1 := (pk_sub h).symm
  rw [e, h2, ← nI_add, show nI 1 = (1 : Int32) from rfl]
  generalize nI hi = x
  generalize nI lo = y
  grind
set_option maxHeartbeats 4000000 in
/-- X0.leave -/
theorem tx_leaveM (l : Launch) (D : va_G) {h : Nat} {ad : Nat → Nat} {cd : Nat → ClassId} {tc : Nat} {c1 st tm wk bs : Nat → Nat} {bt rn : Nat} {ri : Nat → Nat} {x1 x2 x3 : Int32} (hI : tr_I tc c1 st tm wk) (hok : tx_ok (bs, bt, rn, ri)) : tr_MI l yX0_leave cX0_leave 7 .int tr_r3 D (tr_tX cd) [.ref h, .int x1, .int x2, .int x3] (tr_wX h ad cd tc c1 st tm wk bs bt rn ri) (fun (v : Int32) (u : tx_Q) => tl_lea tc c1 st tm wk x1 x2 x3 v ∧ tx_ok u) (fun (u : tx_Q) => (tr_wX h ad cd tc c1 st tm wk u.1 u.2.1 u.2.2.1 u.2.2.2)) := by
  refine tr_MI_mk (own := RX0) rfl (by decide +kernel) (Nat.le_of_ble_eq_true rfl) ?_
  intro p e s m args below meth c A Q hC hA hM ret ls hl
  have hx := hC.1.1
  have hb := hC.1.2.1
  have hown := hC.1.2.2.2.1
  have hts := hC.1.2.2.2.2
  have hl : lv_has ls 7 [(0, .ref h), (1, .int x1), (2, .int x2), (3, .int x3)] := hl
  have hJ := hI
  obtain ⟨htc, hc1, hc0, hst, htm, hwk, hmo⟩ := hI
  have hbs : ∀ j, bs j ≤ 100000 := hok.1
  have hri : ∀ j, ri j ≤ 100000 := hok.2.2.2
  refine lv_aload_n hx hb dX0_leave_0 rfl (lv_at hl 0 rfl) ?_
  refine lv_iload_n hx hb dX0_leave_1 rfl (lv_at hl 1 rfl) ?_
  refine tx_callI (tx_isStop l D (x := x1)) hC (cwV 1 hts (lw_V q59 q61 qs0 q14 q62) rfl rfl rfl (by decide +kernel) ⟨Nat.le_of_ble_eq_true rfl, Nat.le_of_ble_eq_true rfl⟩) hA hM rfl hl.1 rfl (Nat.le_of_ble_eq_true rfl) ⟨Nat.le_of_ble_eq_true rfl, Nat.le_of_ble_eq_true rfl⟩ dX0_leave_2 (fun v u H locs hp hM => ?_)
  rcases hp with ⟨rfl, hS_x1, a, hk_a, rfl⟩ | ⟨rfl, hS_x1⟩
  · have hM : tr_M D A s.heap H locs (tr_wX h ad cd tc c1 st tm wk bs bt rn ri) := hM
    refine tw_if_eq (tgt := 24) hx hb dX0_leave_5 (by decide) (by omega) (fun c_1 => absurd c_1 (by decide)) (fun c_1 => ?_)
    refine lv_aload_n hx hb dX0_leave_8 rfl (lv_at hl 0 rfl) ?_
    refine lv_iload_n hx hb dX0_leave_9 rfl (lv_at hl 2 rfl) ?_
    refine tx_callI (tx_isStop l D (x := x2)) hC (cwV 1 hts (lw_V q59 q61 qs0 q14 q62) rfl rfl rfl (by decide +kernel) ⟨Nat.le_of_ble_eq_true rfl, Nat.le_of_ble_eq_true rfl⟩) hA hM rfl hl.1 rfl (Nat.le_of_ble_eq_true rfl) ⟨Nat.le_of_ble_eq_true rfl, Nat.le_of_ble_eq_true rfl⟩ dX0_leave_10 (fun v u H locs hp hM => ?_)
    rcases hp with ⟨rfl, hS_x2, b, hk_b, rfl⟩ | ⟨rfl, hS_x2⟩
    · have hM : tr_M D A s.heap H locs (tr_wX h ad cd tc c1 st tm wk bs bt rn ri) := hM
      refine tw_if_eq (tgt := 24) hx hb dX0_leave_13 (by decide) (by omega) (fun c_2 => absurd c_2 (by decide)) (fun c_2 => ?_)
      refine lv_aload_n hx hb dX0_leave_16 rfl (lv_at hl 0 rfl) ?_
      refine lv_iload_n hx hb dX0_leave_17 rfl (lv_at hl 3 rfl) ?_
      refine tx_callI (tx_isTime l D (x := x3)) hC (cwV 1 hts (lw_V q63 q65 qs1 q14 q66) rfl rfl rfl (by decide +kernel) ⟨Nat.le_of_ble_eq_true rfl, Nat.le_of_ble_eq_true rfl⟩) hA hM rfl hl.1 rfl (Nat.le_of_ble_eq_true rfl) ⟨Nat.le_of_ble_eq_true rfl, Nat.le_of_ble_eq_true rfl⟩ dX0_leave_18 (fun v u H locs hp hM => ?_)
      rcases hp with ⟨rfl, hT_x3, y, hk_y, rfl⟩ | ⟨rfl, hT_x3⟩
      · have hM : tr_M D A s.heap H locs (tr_wX h ad cd tc c1 st tm wk bs bt rn ri) := hM
        refine tw_if_ne (tgt := 26) hx hb dX0_leave_21 (by decide) (by omega) (fun c_3 => ?_) (fun c_3 => absurd c_3 (by decide))
        refine lv_iconst (v := (-1)) hx hb dX0_leave_26 (by decide +kernel) ?_
        refine lv_istore (lv' := [(4, .int ((-1))), (0, .ref h), (1, .int (nI a)), (2, .int (nI b)), (3, .int (nI y))]) hx hb dX0_leave_27 hl (by decide) rfl (fun ls hl => ?_)
        refine lv_sipush (v := nI 1000) hx hb dX0_leave_29 (by decide +kernel) ?_
        refine lv_istore (lv' := [(5, .int (nI 1000)), (4, .int ((-1))), (0, .ref h), (1, .int (nI a)), (2, .int (nI b)), (3, .int (nI y))]) hx hb dX0_leave_32 hl (by decide) rfl (fun ls hl => ?_)
        have lp_1 : ∀ (n_1 : Nat) (lw : Int32) (lo : Nat) (hi : Nat) (b0 : Nat → Nat) (t0 : Nat) (k0 : Nat) (r0 : Nat → Nat) (H : Heap) (locs : List Loc) (ls : Array Slot), (lo ≤ hi) → (hi + 1 ≤ lo + n_1) → (lw = nI lo + (-1)) → (hi ≤ 1000) → (lo = 0 ∨ tl_B tc c1 st tm wk a b y (lo - 1)) → (∀ m, hi ≤ m → m ≤ 999 → ¬ tl_B tc c1 st tm wk a b y m) → (tx_ok (b0, t0, k0, r0)) → tr_M D A s.heap H locs (tr_wX h ad cd tc c1 st tm wk b0 t0 k0 r0) → lv_has ls 7 [(0, .ref h), (1, .int (nI a)), (2, .int (nI b)), (3, .int (nI y)), (4, .int lw), (5, .int (nI hi))] → W p l e tr_r3 s m args below meth c H locs 0 0 Q (F0 m 34 ls []) := by
          intro n_1
          induction n_1 with
          | zero => intro lw lo hi b0 t0 k0 r0 H locs ls h1 h2; exact absurd h2 (by omega)
          | succ n_1 ih_1 =>
            intro lw lo hi b0 t0 k0 r0 H locs ls h1 h2 elw h3 hlo hhi hok0 hM hl
            have hb0 : ∀ j, b0 j ≤ 100000 := hok0.1
            have hr0 : ∀ j, r0 j ≤ 100000 := hok0.2.2.2
            refine lv_iload hx hb dX0_leave_34 (lv_at hl 5 rfl) ?_
            refine lv_iload hx hb dX0_leave_36 (lv_at hl 4 rfl) ?_
            refine lv_isub hx hb dX0_leave_38 ?_
            rw [tr_lo1 elw (show lo ≤ hi + 1 by omega)]
            refine lv_iconst (v := nI 1) hx hb dX0_leave_39 (by decide +kernel) ?_
            refine tw_icmp_le (tgt := 93) hx hb dX0_leave_40 (by decide) (by omega) (by omega) (fun c_4 => ?_) (fun c_4 => ?_)
            · refine lv_iload hx hb dX0_leave_93 (lv_at hl 4 rfl) ?_
              by_cases hz : lo = 0
              · refine lv_if_ge (tgt := 103) hx hb dX0_leave_95 (by decide) (fun c9 => absurd c9 (by rw [elw, hz]; decide +kernel)) (fun c9 => ?_)
                refine lv_bipush (v := (-3)) hx hb dX0_leave_98 (by decide +kernel) ?_
                refine lv_goto (tgt := 105) hx hb dX0_leave_100 (by decide) ?_
                exact ret _ _ _ _ _ (b0, t0, k0, r0) dX0_leave_105 rfl ⟨Or.inl ⟨⟨hS_x1, hS_x2, hT_x3⟩, by rw [nI_clamp (n := a) (by omega), nI_clamp (n := b) (by omega), nI_clamp (n := y) (by omega)]; exact Or.inr ⟨rfl, fun m9 h9 => hhi m9 (by omega) h9⟩⟩, hok0⟩ hM
              · refine lv_if_ge (tgt := 103) hx hb dX0_leave_95 (by decide) (fun c9 => ?_) (fun c9 => absurd (show 0 ≤ lw by rw [tr_lo0 elw (by omega)]; exact nI_pos' (by omega)) c9)
                refine lv_iload hx hb dX0_leave_103 (lv_at hl 4 rfl) ?_
                exact ret _ _ _ _ _ (b0, t0, k0, r0) dX0_leave_105 rfl ⟨Or.inl ⟨⟨hS_x1, hS_x2, hT_x3⟩, by rw [nI_clamp (n := a) (by omega), nI_clamp (n := b) (by omega), nI_clamp (n := y) (by omega)]; exact Or.inl ⟨lo - 1, by omega, tr_lo0 elw (by omega), by rcases hlo with z | z; omega; exact z, fun m9 h9 h99 => hhi m9 (by omega) h99⟩⟩, hok0⟩ hM
            · refine lv_iload hx hb dX0_leave_43 (lv_at hl 4 rfl) ?_
              refine lv_iload hx hb dX0_leave_45 (lv_at hl 5 rfl) ?_
              refine lv_iadd hx hb dX0_leave_47 ?_
              rw [tr_lo2 elw (show 1 ≤ lo + hi by omega)]
              refine lv_iconst (v := nI 2) hx hb dX0_leave_48 (by decide +kernel) ?_
              refine tw_idiv hx hb dX0_leave_49 (by omega) (by omega) (by omega) ?_
              refine lv_istore (lv' := [(6, .int (nI ((lo + hi - 1) / 2))), (0, .ref h), (1, .int (nI a)), (2, .int (nI b)), (3, .int (nI y)), (4, .int lw), (5, .int (nI hi))]) hx hb dX0_leave_50 hl (by decide) rfl (fun ls hl => ?_)
              refine lv_aload_n hx hb dX0_leave_52 rfl (lv_at hl 1 rfl) ?_
              refine lv_iload_n hx hb dX0_leave_53 rfl (lv_at hl 2 rfl) ?_
              refine lv_iload hx hb dX0_leave_54 (lv_at hl 0 rfl) ?_
              refine lv_bipush (v := nI 10) hx hb dX0_leave_56 (by decide +kernel) ?_
              refine tx_callV (tx_searchM l D (a := a) (t := (lo + hi - 1) / 2) (n := 10) hJ (by omega) (by omega) (by omega) hb0 hr0) hC (cwV 3 hts (lw_V q87 q89 qs2 q14 q90) rfl rfl rfl (by decide +kernel) ⟨Nat.le_of_ble_eq_true rfl, Nat.le_of_ble_eq_true rfl⟩) hA hM rfl hl.1 rfl (Nat.le_of_ble_eq_true rfl) ⟨Nat.le_of_ble_eq_true rfl, Nat.le_of_ble_eq_true rfl⟩ dX0_leave_58 (fun u H locs hp hM => ?_)
              obtain ⟨e1, hok1⟩ := hp
              obtain ⟨b1, t1, k1, r1⟩ := u
              have hb1 : ∀ j, b1 j ≤ 100000 := hok1.1
              have hk1 : k1 ≤ 10 := hok1.2.2.1
              have hr1 : ∀ j, r1 j ≤ 100000 := hok1.2.2.2
              have hM : tr_M D A s.heap H locs (tr_wX h ad cd tc c1 st tm wk b1 t1 k1 r1) := hM
              refine lv_aload_n hx hb dX0_leave_61 rfl (lv_at hl 1 rfl) ?_
              refine tx_get_bs hC hM dX0_leave_62 ?_
              refine lv_bipush (v := nI 8) hx hb dX0_leave_65 (by decide +kernel) ?_
              refine lv_aload_n hx hb dX0_leave_67 rfl (lv_at hl 1 rfl) ?_
              refine tx_get_rn hC hM dX0_leave_68 ?_
              refine tw_imul hx hb dX0_leave_71 ?_
              refine lv_iload_n hx hb dX0_leave_72 rfl (lv_at hl 3 rfl) ?_
              refine tw_iadd hx hb dX0_leave_73 ?_
              refine tx_ld_bs hC hM (by omega) dX0_leave_74 ?_
              have hv_1 := hb1 (8 * k1 + b)
              refine lv_iload_n hx hb dX0_leave_75 rfl (lv_at hl 4 rfl) ?_
              refine tw_icmp_gt (tgt := 86) hx hb dX0_leave_76 (by decide) (by omega) (by omega) (fun c_5 => ?_) (fun c_5 => ?_)
              · refine lv_iload hx hb dX0_leave_86 (lv_at hl 0 rfl) ?_
                refine lv_istore (lv' := [(5, .int (nI ((lo + hi - 1) / 2))), (6, .int (nI ((lo + hi - 1) / 2))), (0, .ref h), (1, .int (nI a)), (2, .int (nI b)), (3, .int (nI y)), (4, .int lw)]) hx hb dX0_leave_88 hl (by decide) rfl (fun ls hl => ?_)
                refine lv_goto (tgt := 34) hx hb dX0_leave_90 (by decide) ?_
                exact ih_1 lw lo ((lo + hi - 1) / 2) b1 t1 k1 r1 _ _ _ (by omega) (by omega) elw (by omega) hlo (fun m9 h9 h99 z9 => absurd ((te_A (bs := b0) (ri := r0) hJ (by omega) (by omega) (by omega) (by omega)).mpr (tl_late hJ (by omega) h9 z9)) (by rw [← e1]; show ¬ b1 (8 * k1 + b) ≤ y; omega)) hok1 hM (lv_sub hl [2, 3, 4, 5, 6, 0] rfl)
              · refine lv_iload hx hb dX0_leave_79 (lv_at hl 0 rfl) ?_
                refine lv_istore (lv' := [(4, .int (nI ((lo + hi - 1) / 2))), (6, .int (nI ((lo + hi - 1) / 2))), (0, .ref h), (1, .int (nI a)), (2, .int (nI b)), (3, .int (nI y)), (5, .int (nI hi))]) hx hb dX0_leave_81 hl (by decide) rfl (fun ls hl => ?_)
                refine lv_goto (tgt := 90) hx hb dX0_leave_83 (by decide) ?_
                refine lv_goto (tgt := 34) hx hb dX0_leave_90 (by decide) ?_
                exact ih_1 (nI ((lo + hi - 1) / 2)) ((lo + hi - 1) / 2 + 1) hi b1 t1 k1 r1 _ _ _ (by omega) (by omega) (pk_m1 _).symm (by omega) (Or.inr (by rw [Nat.add_sub_cancel]; exact (te_A (bs := b0) (ri := r0) hJ (by omega) (by omega) (by omega) (by omega)).mp (by rw [← e1]; show b1 (8 * k1 + b) ≤ y; omega))) hhi hok1 hM (lv_sub hl [2, 3, 4, 5, 0, 6] rfl)
        exact lp_1 1001 ((-1)) 0 1000 bs bt rn ri _ _ _ (by omega) (by omega) (by decide +kernel) (by omega) (Or.inl rfl) (fun m9 h9 h99 => absurd h9 (by omega)) hok hM (lv_sub hl [2, 3, 4, 5, 1, 0] rfl)
      · have hM : tr_M D A s.heap H locs (tr_wX h ad cd tc c1 st tm wk bs bt rn ri) := hM
        refine tw_if_ne (tgt := 26) hx hb dX0_leave_21 (by decide) (by omega) (fun c_6 => absurd c_6 (by decide)) (fun c_6 => ?_)
        refine lv_iconst (v := (-1)) hx hb dX0_leave_24 (by decide +kernel) ?_
        exact ret _ _ _ _ _ (bs, bt, rn, ri) dX0_leave_25 rfl ⟨Or.inr ⟨(by rintro ⟨g1, g2, g3⟩; first | exact absurd g1 (by rw [hS_x1]; decide) | exact absurd g2 (by rw [hS_x2]; decide) | exact absurd g3 (by rw [hT_x3]; decide)), rfl⟩, hok⟩ hM
    · have hM : tr_M D A s.heap H locs (tr_wX h ad cd tc c1 st tm wk bs bt rn ri) := hM
      refine tw_if_eq (tgt := 24) hx hb dX0_leave_13 (by decide) (by omega) (fun c_7 => ?_) (fun c_7 => absurd c_7 (by decide))
      refine lv_iconst (v := (-1)) hx hb dX0_leave_24 (by decide +kernel) ?_
      exact ret _ _ _ _ _ (bs, bt, rn, ri) dX0_leave_25 rfl ⟨Or.inr ⟨(by rintro ⟨g1, g2, g3⟩; first | exact absurd g1 (by rw [hS_x1]; decide) | exact absurd g2 (by rw [hS_x2]; decide) | exact absurd g3 (by rw [hT_x3]; decide)), rfl⟩, hok⟩ hM
  · have hM : tr_M D A s.heap H locs (tr_wX h ad cd tc c1 st tm wk bs bt rn ri) := hM
    refine tw_if_eq (tgt := 24) hx hb dX0_leave_5 (by decide) (by omega) (fun c_8 => ?_) (fun c_8 => absurd c_8 (by decide))
    refine lv_iconst (v := (-1)) hx hb dX0_leave_24 (by decide +kernel) ?_
    exact ret _ _ _ _ _ (bs, bt, rn, ri) dX0_leave_25 rfl ⟨Or.inr ⟨(by rintro ⟨g1, g2, g3⟩; first | exact absurd g1 (by rw [hS_x1]; decide) | exact absurd g2 (by rw [hS_x2]; decide) | exact absurd g3 (by rw [hT_x3]; decide)), rfl⟩, hok⟩ hM
set_option maxHeartbeats 4000000 in
/-- X1.leave -/
theorem tm_leaveM (l : Launch) (D : va_G) {h : Nat} {ad : Nat → Nat} {cd : Nat → ClassId} {tc : Nat} {c1 st tm wk fo th : Nat → Nat} {x1 x2 x3 : Int32} (hI : tr_I tc c1 st tm wk) (hok : tm_ok (fo, th)) : tr_MI l yX1_leave cX1_leave 5 .int tr_r2 D (tr_tM cd) [.ref h, .int x1, .int x2, .int x3] (tr_wM h ad cd tc c1 st tm wk fo th) (fun (v : Int32) (u : tm_Q) => tl_lea tc c1 st tm wk x1 x2 x3 v ∧ tm_ok u) (fun (u : tm_Q) => (tr_wM h ad cd tc c1 st tm wk u.1 u.2)) := by
  refine tr_MI_mk (own := RX1) rfl (by decide +kernel) (Nat.le_of_ble_eq_true rfl) ?_
  intro p e s m args below meth c A Q hC hA hM ret ls hl
  have hx := hC.1.1
  have hb := hC.1.2.1
  have hown := hC.1.2.2.2.1
  have hts := hC.1.2.2.2.2
  have hl : lv_has ls 5 [(0, .ref h), (1, .int x1), (2, .int x2), (3, .int x3)] := hl
  have hJ := hI
  obtain ⟨htc, hc1, hc0, hst, htm, hwk, hmo⟩ := hI
  have hfo : ∀ j, fo j ≤ 100000 := hok.1
  have hth : ∀ j, th j ≤ 100000 := hok.2
  refine lv_aload_n hx hb dX1_leave_0 rfl (lv_at hl 0 rfl) ?_
  refine lv_iload_n hx hb dX1_leave_1 rfl (lv_at hl 1 rfl) ?_
  refine tm_callI (tm_isStop l D (x := x1)) hC (cwV 1 hts (lw_V q156 q158 qs7 q15 q159) rfl rfl rfl (by decide +kernel) ⟨Nat.le_of_ble_eq_true rfl, Nat.le_of_ble_eq_true rfl⟩) hA hM rfl hl.1 rfl (Nat.le_of_ble_eq_true rfl) ⟨Nat.le_of_ble_eq_true rfl, Nat.le_of_ble_eq_true rfl⟩ dX1_leave_2 (fun v u H locs hp hM => ?_)
  rcases hp with ⟨rfl, hS_x1, a, hk_a, rfl⟩ | ⟨rfl, hS_x1⟩
  · have hM : tr_M D A s.heap H locs (tr_wM h ad cd tc c1 st tm wk fo th) := hM
    refine tw_if_eq (tgt := 24) hx hb dX1_leave_5 (by decide) (by omega) (fun c_1 => absurd c_1 (by decide)) (fun c_1 => ?_)
    refine lv_aload_n hx hb dX1_leave_8 rfl (lv_at hl 0 rfl) ?_
    refine lv_iload_n hx hb dX1_leave_9 rfl (lv_at hl 2 rfl) ?_
    refine tm_callI (tm_isStop l D (x := x2)) hC (cwV 1 hts (lw_V q156 q158 qs7 q15 q159) rfl rfl rfl (by decide +kernel) ⟨Nat.le_of_ble_eq_true rfl, Nat.le_of_ble_eq_true rfl⟩) hA hM rfl hl.1 rfl (Nat.le_of_ble_eq_true rfl) ⟨Nat.le_of_ble_eq_true rfl, Nat.le_of_ble_eq_true rfl⟩ dX1_leave_10 (fun v u H locs hp hM => ?_)
    rcases hp with ⟨rfl, hS_x2, b, hk_b, rfl⟩ | ⟨rfl, hS_x2⟩
    · have hM : tr_M D A s.heap H locs (tr_wM h ad cd tc c1 st tm wk fo th) := hM
      refine tw_if_eq (tgt := 24) hx hb dX1_leave_13 (by decide) (by omega) (fun c_2 => absurd c_2 (by decide)) (fun c_2 => ?_)
      refine lv_aload_n hx hb dX1_leave_16 rfl (lv_at hl 0 rfl) ?_
      refine lv_iload_n hx hb dX1_leave_17 rfl (lv_at hl 3 rfl) ?_
      refine tm_callI (tm_isTime l D (x := x3)) hC (cwV 1 hts (lw_V q160 q162 qs8 q15 q163) rfl rfl rfl (by decide +kernel) ⟨Nat.le_of_ble_eq_true rfl, Nat.le_of_ble_eq_true rfl⟩) hA hM rfl hl.1 rfl (Nat.le_of_ble_eq_true rfl) ⟨Nat.le_of_ble_eq_true rfl, Nat.le_of_ble_eq_true rfl⟩ dX1_leave_18 (fun v u H locs hp hM => ?_)
      rcases hp with ⟨rfl, hT_x3, y, hk_y, rfl⟩ | ⟨rfl, hT_x3⟩
      · have hM : tr_M D A s.heap H locs (tr_wM h ad cd tc c1 st tm wk fo th) := hM
        refine tw_if_ne (tgt := 26) hx hb dX1_leave_21 (by decide) (by omega) (fun c_3 => ?_) (fun c_3 => absurd c_3 (by decide))
        refine lv_iload_n hx hb dX1_leave_26 rfl (lv_at hl 3 rfl) ?_
        refine lv_istore (lv' := [(4, .int (nI y)), (0, .ref h), (1, .int (nI a)), (2, .int (nI b)), (3, .int (nI y))]) hx hb dX1_leave_27 hl (by decide) rfl (fun ls hl => ?_)
        have lp_1 : ∀ (n_1 : Nat) (lw : Int32) (T : Nat) (f0 : Nat → Nat) (t0 : Nat → Nat) (H : Heap) (locs : List Loc) (ls : Array Slot), (T ≤ y + 1) → (T + 1 ≤ n_1) → (lw = nI T + (-1)) → (∀ m, T ≤ m → m ≤ y → ¬ tl_B tc c1 st tm wk a b y m) → (tm_ok (f0, t0)) → tr_M D A s.heap H locs (tr_wM h ad cd tc c1 st tm wk f0 t0) → lv_has ls 5 [(0, .ref h), (1, .int (nI a)), (2, .int (nI b)), (3, .int (nI y)), (4, .int lw)] → W p l e tr_r2 s m args below meth c H locs 0 0 Q (F0 m 29 ls []) := by
          intro n_1
          induction n_1 with
          | zero => intro lw T f0 t0 H locs ls h1 h2; exact absurd h2 (by omega)
          | succ n_1 ih_1 =>
            intro lw T f0 t0 H locs ls h1 h2 elw hno hok0 hM hl
            have hf0 : ∀ j, f0 j ≤ 100000 := hok0.1
            have ht0 : ∀ j, t0 j ≤ 100000 := hok0.2
            refine lv_iload hx hb dX1_leave_29 (lv_at hl 4 rfl) ?_
            by_cases hz : T = 0
            · refine lv_if_lt (tgt := 61) hx hb dX1_leave_31 (by decide) (fun c9 => ?_) (fun c9 => absurd (show lw < 0 by rw [elw, hz]; decide +kernel) c9)
              subst hz
              refine lv_bipush (v := (-3)) hx hb dX1_leave_61 (by decide +kernel) ?_
              exact ret _ _ _ _ _ (f0, t0) dX1_leave_63 rfl ⟨Or.inl ⟨⟨hS_x1, hS_x2, hT_x3⟩, by rw [nI_clamp (n := a) (by omega), nI_clamp (n := b) (by omega), nI_clamp (n := y) (by omega)]; exact Or.inr ⟨rfl, fun m9 h9 z9 => hno m9 (by have := tl_ge hJ (by omega) z9; omega) (tl_ge hJ (by omega) z9) z9⟩⟩, hok0⟩ hM
            · obtain ⟨q, rfl⟩ : ∃ q, T = q + 1 := ⟨T - 1, by omega⟩
              have elq : lw = nI q := by rw [elw]; exact pk_m1 q
              refine lv_if_lt (tgt := 61) hx hb dX1_leave_31 (by decide) (fun c9 => absurd c9 (by rw [elq]; exact nI_pos (by omega))) (fun c9 => ?_)
              subst elq
              refine lv_aload_n hx hb dX1_leave_34 rfl (lv_at hl 0 rfl) ?_
              refine lv_iload_n hx hb dX1_leave_35 rfl (lv_at hl 1 rfl) ?_
              refine lv_iload hx hb dX1_leave_36 (lv_at hl 4 rfl) ?_
              refine tm_callV (tm_searchM l D (a := a) (t := q) hJ (by omega) (by omega) hf0 ht0) hC (cwV 2 hts (lw_V q184 q186 qs9 q15 q187) rfl rfl rfl (by decide +kernel) ⟨Nat.le_of_ble_eq_true rfl, Nat.le_of_ble_eq_true rfl⟩) hA hM rfl hl.1 rfl (Nat.le_of_ble_eq_true rfl) ⟨Nat.le_of_ble_eq_true rfl, Nat.le_of_ble_eq_true rfl⟩ dX1_leave_38 (fun u H locs hp hM => ?_)
              obtain ⟨e1, hok1⟩ := hp
              obtain ⟨f1, t1⟩ := u
              have hf1 : ∀ j, f1 j ≤ 100000 := hok1.1
              have ht1 : ∀ j, t1 j ≤ 100000 := hok1.2
              have hM : tr_M D A s.heap H locs (tr_wM h ad cd tc c1 st tm wk f1 t1) := hM
              refine lv_aload_n hx hb dX1_leave_41 rfl (lv_at hl 0 rfl) ?_
              refine lv_iload_n hx hb dX1_leave_42 rfl (lv_at hl 2 rfl) ?_
              refine lv_bipush (v := nI 10) hx hb dX1_leave_43 (by decide +kernel) ?_
              refine tm_callI (tm_bestM l D (b := b) (n := 10) (by omega) (by omega) ht1) hC (cwV 2 hts (lw_V q197 q199 qs12 q15 q200) rfl rfl rfl (by decide +kernel) ⟨Nat.le_of_ble_eq_true rfl, Nat.le_of_ble_eq_true rfl⟩) hA hM rfl hl.1 rfl (Nat.le_of_ble_eq_true rfl) ⟨Nat.le_of_ble_eq_true rfl, Nat.le_of_ble_eq_true rfl⟩ dX1_leave_45 (fun v u H locs hp hM => ?_)
              obtain ⟨rfl, hbv_1⟩ := hp
              have hM : tr_M D A s.heap H locs (tr_wM h ad cd tc c1 st tm wk f1 t1) := hM
              have hbv_1 : tm_best t1 b 11 ≤ 100000 := hbv_1
              refine tw_eq (show tm_best t1 b (10 + 1) = tm_best t1 b 11 from rfl) ?_
              refine lv_iload_n hx hb dX1_leave_48 rfl (lv_at hl 3 rfl) ?_
              refine tw_icmp_gt (tgt := 55) hx hb dX1_leave_49 (by decide) (by omega) (by omega) (fun c_4 => ?_) (fun c_4 => ?_)
              · refine lv_iinc (v := nI q + (-1)) (lv' := [(4, .int (nI q + (-1))), (0, .ref h), (1, .int (nI a)), (2, .int (nI b)), (3, .int (nI y))]) hx hb dX1_leave_55 hl (k := 4) rfl rfl (by decide) rfl (fun ls hl => ?_)
                refine lv_goto (tgt := 29) hx hb dX1_leave_58 (by decide) ?_
                exact ih_1 (nI q + (-1)) q f1 t1 _ _ _ (by omega) (by omega) rfl (fun m9 h9 h99 z9 => by by_cases hq : m9 = q; (rw [hq] at z9; exact absurd ((te_B (fo := f0) (th := t0) hJ (n := 10) (by omega) (by omega) (by omega) (by omega)).mpr z9) (by unfold tm_th; rw [← e1]; show ¬ tm_best t1 b 11 ≤ y; omega)); exact hno m9 (by omega) h99 z9) hok1 hM (lv_sub hl [1, 2, 3, 4, 0] rfl)
              · refine lv_iload hx hb dX1_leave_52 (lv_at hl 4 rfl) ?_
                exact ret _ _ _ _ _ (f1, t1) dX1_leave_54 rfl ⟨Or.inl ⟨⟨hS_x1, hS_x2, hT_x3⟩, by rw [nI_clamp (n := a) (by omega), nI_clamp (n := b) (by omega), nI_clamp (n := y) (by omega)]; exact Or.inl ⟨q, by omega, rfl, (te_B hJ (by omega) (by omega) (by omega) (by omega)).mp (by unfold tm_th; rw [← e1]; omega), fun m9 h9 h99 z9 => hno m9 (by omega) (tl_ge hJ (by omega) z9) z9⟩⟩, hok1⟩ hM
        exact lp_1 (y + 2) ((nI y)) ((y + 1)) fo th _ _ _ (by omega) (by omega) (pk_m1 _).symm (fun m9 h9 h99 => absurd h9 (by omega)) hok hM (lv_sub hl [1, 2, 3, 4, 0] rfl)
      · have hM : tr_M D A s.heap H locs (tr_wM h ad cd tc c1 st tm wk fo th) := hM
        refine tw_if_ne (tgt := 26) hx hb dX1_leave_21 (by decide) (by omega) (fun c_5 => absurd c_5 (by decide)) (fun c_5 => ?_)
        refine lv_iconst (v := (-1)) hx hb dX1_leave_24 (by decide +kernel) ?_
        exact ret _ _ _ _ _ (fo, th) dX1_leave_25 rfl ⟨Or.inr ⟨(by rintro ⟨g1, g2, g3⟩; first | exact absurd g1 (by rw [hS_x1]; decide) | exact absurd g2 (by rw [hS_x2]; decide) | exact absurd g3 (by rw [hT_x3]; decide)), rfl⟩, hok⟩ hM
    · have hM : tr_M D A s.heap H locs (tr_wM h ad cd tc c1 st tm wk fo th) := hM
      refine tw_if_eq (tgt := 24) hx hb dX1_leave_13 (by decide) (by omega) (fun c_6 => ?_) (fun c_6 => absurd c_6 (by decide))
      refine lv_iconst (v := (-1)) hx hb dX1_leave_24 (by decide +kernel) ?_
      exact ret _ _ _ _ _ (fo, th) dX1_leave_25 rfl ⟨Or.inr ⟨(by rintro ⟨g1, g2, g3⟩; first | exact absurd g1 (by rw [hS_x1]; decide) | exact absurd g2 (by rw [hS_x2]; decide) | exact absurd g3 (by rw [hT_x3]; decide)), rfl⟩, hok⟩ hM
  · have hM : tr_M D A s.heap H locs (tr_wM h ad cd tc c1 st tm wk fo th) := hM
    refine tw_if_eq (tgt := 24) hx hb dX1_leave_5 (by decide) (by omega) (fun c_7 => ?_) (fun c_7 => absurd c_7 (by decide))
    refine lv_iconst (v := (-1)) hx hb dX1_leave_24 (by decide +kernel) ?_
    exact ret _ _ _ _ _ (fo, th) dX1_leave_25 rfl ⟨Or.inr ⟨(by rintro ⟨g1, g2, g3⟩; first | exact absurd g1 (by rw [hS_x1]; decide) | exact absurd g2 (by rw [hS_x2]; decide) | exact absurd g3 (by rw [hT_x3]; decide)), rfl⟩, hok⟩ hM
end
section
set_option maxRecDepth 100000
abbrev tr_z : Nat → Nat := fun _ => 0
theorem tr_a0 (cA : ClassId) (n : Nat) : vp_cell cA (n, .inl (tr_ai tr_z)) = arrV cA n (fun _ => .int 0) := by
  rw [vp_cell_i]
  show arrV cA n (fun _ => .int (nI 0)) = _
  rw [nI_0]
abbrev ix_ri : Room := { frames := 1, cells := 6, slots := 270, locals := 12 }
abbrev ix_w0 (h : Nat) : va_W := [(h, .inr (0, [.int (nI 0), .null, .null, .null, .null, .null, .int (nI 0), .int (nI 0), .null]))]
set_option maxHeartbeats 4000000 in
/-- X0: the constructor -/
theorem ix_init (l : Launch) (D : va_G) (h sz : Nat) : Met l yX0_init (ws_ yX0_init cX0_init 1 none) ix_ri (tr_Pc D [] [.ref h] (ix_w0 h) sz) (va_Qv (fun _ : (Nat → Nat) × (Nat → ClassId) => True) (fun u t => va_P D tr_cl (tr_wX h u.1 u.2 0 tr_z tr_z tr_z tr_z tr_z 0 0 tr_z) t.heap ∧ va_K D tr_cl (tr_tX u.2) t ∧ va_D (va_A (ix_w0 h) sz) (tr_wX h u.1 u.2 0 tr_z tr_z tr_z tr_z tr_z 0 0 tr_z)) (va_A (ix_w0 h) sz)) 6 270 (va_A (ix_w0 h) sz) := by
  refine Met.ofW (cc := cX0_init) (maxL := 1) (ret := none) (by decide +kernel) rfl ?_
  intro p e s m args below meth c s₁ B hml hv
  obtain ⟨rfl, hsz, hP, hK, hD0⟩ := hv
  have hx := B.exec
  have hb := B.bytes
  have hr := B.returns
  have hts := atoms_spec (ws := ws_ yX0_init cX0_init 1 none) B.pre
  have hts : ∀ w ∈ lw_all, w.before _ s = true := fun w h => hts w (List.mem_cons_of_mem _ h)
  have hown : s.vm.findClass RX0 = some m.cls := findClass_of_methodNamed B.named
  have hlocks := B.notSynchronized
  have hin : meth.name = "<init>" := (name_of_methodNamed B.named B.method).1
  subst hsz
  have hD := hD0.self (sz := s.heap.size)
  generalize hAe : va_A (ix_w0 h) s.heap.size = A at hD ⊢
  have hA : ∀ q : Nat, s.heap.size ≤ q → A q := fun q h => by rw [← hAe]; exact Or.inr h
  have hS : va_S A s.heap s.heap [] := va_S.rf
  have hP : va_P D tr_cl [(h, .inr (0, [.int (nI 0), .null, .null, .null, .null, .null, .int (nI 0), .int (nI 0), .null]))] s.heap := hP
  have hl := lv_entry ([.ref h]) (n := 1) (Nat.le_of_ble_eq_true rfl)
  rw [lg_entry_eq]
  generalize (lg_sl ([.ref h]) ++ List.replicate (1 - (lg_sl ([.ref h])).length) Slot.unset).toArray = ls at hl ⊢
  have hl : lv_has ls 1 [(0, .ref h)] := hl
  refine lv_aload_n hx hb dX0_init_0 rfl (lv_at hl 0 rfl) ?_
  refine W.objInit hx hb hown (hts _ q21) (hts _ q22) (hts _ q23) rfl (by rw [hml]; exact hl.1) rfl dX0_init_1 (Nat.le_of_ble_eq_true rfl) (Nat.le_of_ble_eq_true rfl) ?_
  refine W.eq (g2 := F0 m 4 ls []) rfl ?_
  refine lv_aload_n hx hb dX0_init_4 rfl (lv_at hl 0 rfl) ?_
  refine lv_bipush (v := nI 10) hx hb dX0_init_5 (by decide +kernel) ?_
  refine va_newa (atype := .byte) (ty := .byte) (a0 := (10, .inl (tr_ai tr_z))) (N' := 10) hx hb (hts _ q52) rfl hK hP hD hS hA (fun cA => tr_a0 cA 10) (nI_pos (by decide)) (nI_clamp (by decide)) (by decide +kernel) (Nat.le_of_ble_eq_true rfl) (Nat.le_of_ble_eq_true rfl) dX0_init_7 (fun q1 g1 H hK hP hD hS => ?_)
  have hP : va_P D tr_cl [(h, .inr (0, [.int (nI 0), .null, .null, .null, .null, .null, .int (nI 0), .int (nI 0), .null])), (q1, .inl (g1, 10, .inl (tr_ai tr_z)))] H := hP
  have hD : va_D A [(h, .inr (0, [.int (nI 0), .null, .null, .null, .null, .null, .int (nI 0), .int (nI 0), .null])), (q1, .inl (g1, 10, .inl (tr_ai tr_z)))] := hD
  have hK : va_K D tr_cl [(g1, .byte)] s := hK
  refine va_putF (D := D) (ci := 0) (v := .ref q1) (ty := .array .byte) (C := RX0) (T := TX0) (N := 9) hx hb hts in_X0 tyX0 tyX0_ok nmX0 hown hK hP hD hS 0 rfl rfl 1 (by decide) (hts _ q25) (fun _ h9 => h9) rfl hin rfl (by decide +kernel) rfl rfl (Nat.le_of_ble_eq_true rfl) dX0_init_9 (fun H locs hP hD hS => ?_)
  have hP : va_P D tr_cl [(h, .inr (0, [.int (nI 0), .ref q1, .null, .null, .null, .null, .int (nI 0), .int (nI 0), .null])), (q1, .inl (g1, 10, .inl (tr_ai tr_z)))] H := hP
  have hD : va_D A [(h, .inr (0, [.int (nI 0), .ref q1, .null, .null, .null, .null, .int (nI 0), .int (nI 0), .null])), (q1, .inl (g1, 10, .inl (tr_ai tr_z)))] := hD
  refine lv_aload_n hx hb dX0_init_12 rfl (lv_at hl 0 rfl) ?_
  refine lv_bipush (v := nI 50) hx hb dX0_init_13 (by decide +kernel) ?_
  refine va_newa (atype := .byte) (ty := .byte) (a0 := (50, .inl (tr_ai tr_z))) (N' := 50) hx hb (hts _ q52) rfl hK hP hD hS hA (fun cA => tr_a0 cA 50) (nI_pos (by decide)) (nI_clamp (by decide)) (by decide +kernel) (Nat.le_of_ble_eq_true rfl) (Nat.le_of_ble_eq_true rfl) dX0_init_15 (fun q2 g2 H hK hP hD hS => ?_)
  have hP : va_P D tr_cl [(h, .inr (0, [.int (nI 0), .ref q1, .null, .null, .null, .null, .int (nI 0), .int (nI 0), .null])), (q1, .inl (g1, 10, .inl (tr_ai tr_z))), (q2, .inl (g2, 50, .inl (tr_ai tr_z)))] H := hP
  have hD : va_D A [(h, .inr (0, [.int (nI 0), .ref q1, .null, .null, .null, .null, .int (nI 0), .int (nI 0), .null])), (q1, .inl (g1, 10, .inl (tr_ai tr_z))), (q2, .inl (g2, 50, .inl (tr_ai tr_z)))] := hD
  have hK : va_K D tr_cl [(g1, .byte), (g2, .byte)] s := hK
  refine va_putF (D := D) (ci := 0) (v := .ref q2) (ty := .array .byte) (C := RX0) (T := TX0) (N := 9) hx hb hts in_X0 tyX0 tyX0_ok nmX0 hown hK hP hD hS 0 rfl rfl 2 (by decide) (hts _ q26) (fun _ h9 => h9) rfl hin rfl (by decide +kernel) rfl rfl (Nat.le_of_ble_eq_true rfl) dX0_init_17 (fun H locs hP hD hS => ?_)
  have hP : va_P D tr_cl [(h, .inr (0, [.int (nI 0), .ref q1, .ref q2, .null, .null, .null, .int (nI 0), .int (nI 0), .null])), (q1, .inl (g1, 10, .inl (tr_ai tr_z))), (q2, .inl (g2, 50, .inl (tr_ai tr_z)))] H := hP
  have hD : va_D A [(h, .inr (0, [.int (nI 0), .ref q1, .ref q2, .null, .null, .null, .int (nI 0), .int (nI 0), .null])), (q1, .inl (g1, 10, .inl (tr_ai tr_z))), (q2, .inl (g2, 50, .inl (tr_ai tr_z)))] := hD
  refine lv_aload_n hx hb dX0_init_20 rfl (lv_at hl 0 rfl) ?_
  refine lv_bipush (v := nI 50) hx hb dX0_init_21 (by decide +kernel) ?_
  refine va_newa (atype := .short) (ty := .short) (a0 := (50, .inl (tr_ai tr_z))) (N' := 50) hx hb (hts _ q53) rfl hK hP hD hS hA (fun cA => tr_a0 cA 50) (nI_pos (by decide)) (nI_clamp (by decide)) (by decide +kernel) (Nat.le_of_ble_eq_true rfl) (Nat.le_of_ble_eq_true rfl) dX0_init_23 (fun q3 g3 H hK hP hD hS => ?_)
  have hP : va_P D tr_cl [(h, .inr (0, [.int (nI 0), .ref q1, .ref q2, .null, .null, .null, .int (nI 0), .int (nI 0), .null])), (q1, .inl (g1, 10, .inl (tr_ai tr_z))), (q2, .inl (g2, 50, .inl (tr_ai tr_z))), (q3, .inl (g3, 50, .inl (tr_ai tr_z)))] H := hP
  have hD : va_D A [(h, .inr (0, [.int (nI 0), .ref q1, .ref q2, .null, .null, .null, .int (nI 0), .int (nI 0), .null])), (q1, .inl (g1, 10, .inl (tr_ai tr_z))), (q2, .inl (g2, 50, .inl (tr_ai tr_z))), (q3, .inl (g3, 50, .inl (tr_ai tr_z)))] := hD
  have hK : va_K D tr_cl [(g1, .byte), (g2, .byte), (g3, .short)] s := hK
  refine va_putF (D := D) (ci := 0) (v := .ref q3) (ty := .array .short) (C := RX0) (T := TX0) (N := 9) hx hb hts in_X0 tyX0 tyX0_ok nmX0 hown hK hP hD hS 0 rfl rfl 3 (by decide) (hts _ q27) (fun _ h9 => h9) rfl hin rfl (by decide +kernel) rfl rfl (Nat.le_of_ble_eq_true rfl) dX0_init_25 (fun H locs hP hD hS => ?_)
  have hP : va_P D tr_cl [(h, .inr (0, [.int (nI 0), .ref q1, .ref q2, .ref q3, .null, .null, .int (nI 0), .int (nI 0), .null])), (q1, .inl (g1, 10, .inl (tr_ai tr_z))), (q2, .inl (g2, 50, .inl (tr_ai tr_z))), (q3, .inl (g3, 50, .inl (tr_ai tr_z)))] H := hP
  have hD : va_D A [(h, .inr (0, [.int (nI 0), .ref q1, .ref q2, .ref q3, .null, .null, .int (nI 0), .int (nI 0), .null])), (q1, .inl (g1, 10, .inl (tr_ai tr_z))), (q2, .inl (g2, 50, .inl (tr_ai tr_z))), (q3, .inl (g3, 50, .inl (tr_ai tr_z)))] := hD
  refine lv_aload_n hx hb dX0_init_28 rfl (lv_at hl 0 rfl) ?_
  refine lv_bipush (v := nI 64) hx hb dX0_init_29 (by decide +kernel) ?_
  refine va_newa (atype := .byte) (ty := .byte) (a0 := (64, .inl (tr_ai tr_z))) (N' := 64) hx hb (hts _ q52) rfl hK hP hD hS hA (fun cA => tr_a0 cA 64) (nI_pos (by decide)) (nI_clamp (by decide)) (by decide +kernel) (Nat.le_of_ble_eq_true rfl) (Nat.le_of_ble_eq_true rfl) dX0_init_31 (fun q4 g4 H hK hP hD hS => ?_)
  have hP : va_P D tr_cl [(h, .inr (0, [.int (nI 0), .ref q1, .ref q2, .ref q3, .null, .null, .int (nI 0), .int (nI 0), .null])), (q1, .inl (g1, 10, .inl (tr_ai tr_z))), (q2, .inl (g2, 50, .inl (tr_ai tr_z))), (q3, .inl (g3, 50, .inl (tr_ai tr_z))), (q4, .inl (g4, 64, .inl (tr_ai tr_z)))] H := hP
  have hD : va_D A [(h, .inr (0, [.int (nI 0), .ref q1, .ref q2, .ref q3, .null, .null, .int (nI 0), .int (nI 0), .null])), (q1, .inl (g1, 10, .inl (tr_ai tr_z))), (q2, .inl (g2, 50, .inl (tr_ai tr_z))), (q3, .inl (g3, 50, .inl (tr_ai tr_z))), (q4, .inl (g4, 64, .inl (tr_ai tr_z)))] := hD
  have hK : va_K D tr_cl [(g1, .byte), (g2, .byte), (g3, .short), (g4, .byte)] s := hK
  refine va_putF (D := D) (ci := 0) (v := .ref q4) (ty := .array .byte) (C := RX0) (T := TX0) (N := 9) hx hb hts in_X0 tyX0 tyX0_ok nmX0 hown hK hP hD hS 0 rfl rfl 4 (by decide) (hts _ q28) (fun _ h9 => h9) rfl hin rfl (by decide +kernel) rfl rfl (Nat.le_of_ble_eq_true rfl) dX0_init_33 (fun H locs hP hD hS => ?_)
  have hP : va_P D tr_cl [(h, .inr (0, [.int (nI 0), .ref q1, .ref q2, .ref q3, .ref q4, .null, .int (nI 0), .int (nI 0), .null])), (q1, .inl (g1, 10, .inl (tr_ai tr_z))), (q2, .inl (g2, 50, .inl (tr_ai tr_z))), (q3, .inl (g3, 50, .inl (tr_ai tr_z))), (q4, .inl (g4, 64, .inl (tr_ai tr_z)))] H := hP
  have hD : va_D A [(h, .inr (0, [.int (nI 0), .ref q1, .ref q2, .ref q3, .ref q4, .null, .int (nI 0), .int (nI 0), .null])), (q1, .inl (g1, 10, .inl (tr_ai tr_z))), (q2, .inl (g2, 50, .inl (tr_ai tr_z))), (q3, .inl (g3, 50, .inl (tr_ai tr_z))), (q4, .inl (g4, 64, .inl (tr_ai tr_z)))] := hD
  refine lv_aload_n hx hb dX0_init_36 rfl (lv_at hl 0 rfl) ?_
  refine lv_bipush (v := nI 88) hx hb dX0_init_37 (by decide +kernel) ?_
  refine va_newa (atype := .int) (ty := .int) (a0 := (88, .inl (tr_ai tr_z))) (N' := 88) hx hb (hts _ q54) rfl hK hP hD hS hA (fun cA => tr_a0 cA 88) (nI_pos (by decide)) (nI_clamp (by decide)) (by decide +kernel) (Nat.le_of_ble_eq_true rfl) (Nat.le_of_ble_eq_true rfl) dX0_init_39 (fun q5 g5 H hK hP hD hS => ?_)
  have hP : va_P D tr_cl [(h, .inr (0, [.int (nI 0), .ref q1, .ref q2, .ref q3, .ref q4, .null, .int (nI 0), .int (nI 0), .null])), (q1, .inl (g1, 10, .inl (tr_ai tr_z))), (q2, .inl (g2, 50, .inl (tr_ai tr_z))), (q3, .inl (g3, 50, .inl (tr_ai tr_z))), (q4, .inl (g4, 64, .inl (tr_ai tr_z))), (q5, .inl (g5, 88, .inl (tr_ai tr_z)))] H := hP
  have hD : va_D A [(h, .inr (0, [.int (nI 0), .ref q1, .ref q2, .ref q3, .ref q4, .null, .int (nI 0), .int (nI 0), .null])), (q1, .inl (g1, 10, .inl (tr_ai tr_z))), (q2, .inl (g2, 50, .inl (tr_ai tr_z))), (q3, .inl (g3, 50, .inl (tr_ai tr_z))), (q4, .inl (g4, 64, .inl (tr_ai tr_z))), (q5, .inl (g5, 88, .inl (tr_ai tr_z)))] := hD
  have hK : va_K D tr_cl [(g1, .byte), (g2, .byte), (g3, .short), (g4, .byte), (g5, .int)] s := hK
  refine va_putF (D := D) (ci := 0) (v := .ref q5) (ty := .array .int) (C := RX0) (T := TX0) (N := 9) hx hb hts in_X0 tyX0 tyX0_ok nmX0 hown hK hP hD hS 0 rfl rfl 5 (by decide) (hts _ q29) (fun _ h9 => h9) rfl hin rfl (by decide +kernel) rfl rfl (Nat.le_of_ble_eq_true rfl) dX0_init_41 (fun H locs hP hD hS => ?_)
  have hP : va_P D tr_cl [(h, .inr (0, [.int (nI 0), .ref q1, .ref q2, .ref q3, .ref q4, .ref q5, .int (nI 0), .int (nI 0), .null])), (q1, .inl (g1, 10, .inl (tr_ai tr_z))), (q2, .inl (g2, 50, .inl (tr_ai tr_z))), (q3, .inl (g3, 50, .inl (tr_ai tr_z))), (q4, .inl (g4, 64, .inl (tr_ai tr_z))), (q5, .inl (g5, 88, .inl (tr_ai tr_z)))] H := hP
  have hD : va_D A [(h, .inr (0, [.int (nI 0), .ref q1, .ref q2, .ref q3, .ref q4, .ref q5, .int (nI 0), .int (nI 0), .null])), (q1, .inl (g1, 10, .inl (tr_ai tr_z))), (q2, .inl (g2, 50, .inl (tr_ai tr_z))), (q3, .inl (g3, 50, .inl (tr_ai tr_z))), (q4, .inl (g4, 64, .inl (tr_ai tr_z))), (q5, .inl (g5, 88, .inl (tr_ai tr_z)))] := hD
  refine lv_aload_n hx hb dX0_init_44 rfl (lv_at hl 0 rfl) ?_
  refine lv_bipush (v := nI 8) hx hb dX0_init_45 (by decide +kernel) ?_
  refine va_newa (atype := .int) (ty := .int) (a0 := (8, .inl (tr_ai tr_z))) (N' := 8) hx hb (hts _ q54) rfl hK hP hD hS hA (fun cA => tr_a0 cA 8) (nI_pos (by decide)) (nI_clamp (by decide)) (by decide +kernel) (Nat.le_of_ble_eq_true rfl) (Nat.le_of_ble_eq_true rfl) dX0_init_47 (fun q8 g8 H hK hP hD hS => ?_)
  have hP : va_P D tr_cl [(h, .inr (0, [.int (nI 0), .ref q1, .ref q2, .ref q3, .ref q4, .ref q5, .int (nI 0), .int (nI 0), .null])), (q1, .inl (g1, 10, .inl (tr_ai tr_z))), (q2, .inl (g2, 50, .inl (tr_ai tr_z))), (q3, .inl (g3, 50, .inl (tr_ai tr_z))), (q4, .inl (g4, 64, .inl (tr_ai tr_z))), (q5, .inl (g5, 88, .inl (tr_ai tr_z))), (q8, .inl (g8, 8, .inl (tr_ai tr_z)))] H := hP
  have hD : va_D A [(h, .inr (0, [.int (nI 0), .ref q1, .ref q2, .ref q3, .ref q4, .ref q5, .int (nI 0), .int (nI 0), .null])), (q1, .inl (g1, 10, .inl (tr_ai tr_z))), (q2, .inl (g2, 50, .inl (tr_ai tr_z))), (q3, .inl (g3, 50, .inl (tr_ai tr_z))), (q4, .inl (g4, 64, .inl (tr_ai tr_z))), (q5, .inl (g5, 88, .inl (tr_ai tr_z))), (q8, .inl (g8, 8, .inl (tr_ai tr_z)))] := hD
  have hK : va_K D tr_cl [(g1, .byte), (g2, .byte), (g3, .short), (g4, .byte), (g5, .int), (g8, .int)] s := hK
  refine va_putF (D := D) (ci := 0) (v := .ref q8) (ty := .array .int) (C := RX0) (T := TX0) (N := 9) hx hb hts in_X0 tyX0 tyX0_ok nmX0 hown hK hP hD hS 0 rfl rfl 8 (by decide) (hts _ q32) (fun _ h9 => h9) rfl hin rfl (by decide +kernel) rfl rfl (Nat.le_of_ble_eq_true rfl) dX0_init_49 (fun H locs hP hD hS => ?_)
  have hP : va_P D tr_cl [(h, .inr (0, [.int (nI 0), .ref q1, .ref q2, .ref q3, .ref q4, .ref q5, .int (nI 0), .int (nI 0), .ref q8])), (q1, .inl (g1, 10, .inl (tr_ai tr_z))), (q2, .inl (g2, 50, .inl (tr_ai tr_z))), (q3, .inl (g3, 50, .inl (tr_ai tr_z))), (q4, .inl (g4, 64, .inl (tr_ai tr_z))), (q5, .inl (g5, 88, .inl (tr_ai tr_z))), (q8, .inl (g8, 8, .inl (tr_ai tr_z)))] H := hP
  have hD : va_D A [(h, .inr (0, [.int (nI 0), .ref q1, .ref q2, .ref q3, .ref q4, .ref q5, .int (nI 0), .int (nI 0), .ref q8])), (q1, .inl (g1, 10, .inl (tr_ai tr_z))), (q2, .inl (g2, 50, .inl (tr_ai tr_z))), (q3, .inl (g3, 50, .inl (tr_ai tr_z))), (q4, .inl (g4, 64, .inl (tr_ai tr_z))), (q5, .inl (g5, 88, .inl (tr_ai tr_z))), (q8, .inl (g8, 8, .inl (tr_ai tr_z)))] := hD
  refine W.widen (k := 6) (n := 270) (Nat.le_of_ble_eq_true rfl) (Nat.le_of_ble_eq_true rfl) ?_
  exact W.vret hx hb hr (fun t ht hW => ⟨⟨((fun k => match k with | 1 => q1 | 2 => q2 | 3 => q3 | 4 => q4 | 5 => q5 | _ => q8), (fun k => match k with | 1 => g1 | 2 => g2 | 3 => g3 | 4 => g4 | 5 => g5 | _ => g8)), rfl, trivial, by rw [ht]; exact hP, va_K.moved hW.alike hK, hD⟩, hS.F ht⟩) hS.2.2 dX0_init_52
abbrev im_ri : Room := { frames := 1, cells := 6, slots := 350, locals := 12 }
abbrev im_w0 (h : Nat) : va_W := [(h, .inr (1, [.int (nI 0), .null, .null, .null, .null, .null, .null]))]
set_option maxHeartbeats 4000000 in
/-- X1: the constructor -/
theorem im_init (l : Launch) (D : va_G) (h sz : Nat) : Met l yX1_init (ws_ yX1_init cX1_init 1 none) im_ri (tr_Pc D [] [.ref h] (im_w0 h) sz) (va_Qv (fun _ : (Nat → Nat) × (Nat → ClassId) => True) (fun u t => va_P D tr_cl (tr_wM h u.1 u.2 0 tr_z tr_z tr_z tr_z tr_z tr_z) t.heap ∧ va_K D tr_cl (tr_tM u.2) t ∧ va_D (va_A (im_w0 h) sz) (tr_wM h u.1 u.2 0 tr_z tr_z tr_z tr_z tr_z tr_z)) (va_A (im_w0 h) sz)) 6 350 (va_A (im_w0 h) sz) := by
  refine Met.ofW (cc := cX1_init) (maxL := 1) (ret := none) (by decide +kernel) rfl ?_
  intro p e s m args below meth c s₁ B hml hv
  obtain ⟨rfl, hsz, hP, hK, hD0⟩ := hv
  have hx := B.exec
  have hb := B.bytes
  have hr := B.returns
  have hts := atoms_spec (ws := ws_ yX1_init cX1_init 1 none) B.pre
  have hts : ∀ w ∈ lw_all, w.before _ s = true := fun w h => hts w (List.mem_cons_of_mem _ h)
  have hown : s.vm.findClass RX1 = some m.cls := findClass_of_methodNamed B.named
  have hlocks := B.notSynchronized
  have hin : meth.name = "<init>" := (name_of_methodNamed B.named B.method).1
  subst hsz
  have hD := hD0.self (sz := s.heap.size)
  generalize hAe : va_A (im_w0 h) s.heap.size = A at hD ⊢
  have hA : ∀ q : Nat, s.heap.size ≤ q → A q := fun q h => by rw [← hAe]; exact Or.inr h
  have hS : va_S A s.heap s.heap [] := va_S.rf
  have hP : va_P D tr_cl [(h, .inr (1, [.int (nI 0), .null, .null, .null, .null, .null, .null]))] s.heap := hP
  have hl := lv_entry ([.ref h]) (n := 1) (Nat.le_of_ble_eq_true rfl)
  rw [lg_entry_eq]
  generalize (lg_sl ([.ref h]) ++ List.replicate (1 - (lg_sl ([.ref h])).length) Slot.unset).toArray = ls at hl ⊢
  have hl : lv_has ls 1 [(0, .ref h)] := hl
  refine lv_aload_n hx hb dX1_init_0 rfl (lv_at hl 0 rfl) ?_
  refine W.objInit hx hb hown (hts _ q129) (hts _ q22) (hts _ q23) rfl (by rw [hml]; exact hl.1) rfl dX1_init_1 (Nat.le_of_ble_eq_true rfl) (Nat.le_of_ble_eq_true rfl) ?_
  refine W.eq (g2 := F0 m 4 ls []) rfl ?_
  refine lv_aload_n hx hb dX1_init_4 rfl (lv_at hl 0 rfl) ?_
  refine lv_bipush (v := nI 10) hx hb dX1_init_5 (by decide +kernel) ?_
  refine va_newa (atype := .int) (ty := .int) (a0 := (10, .inl (tr_ai tr_z))) (N' := 10) hx hb (hts _ q54) rfl hK hP hD hS hA (fun cA => tr_a0 cA 10) (nI_pos (by decide)) (nI_clamp (by decide)) (by decide +kernel) (Nat.le_of_ble_eq_true rfl) (Nat.le_of_ble_eq_true rfl) dX1_init_7 (fun q1 g1 H hK hP hD hS => ?_)
  have hP : va_P D tr_cl [(h, .inr (1, [.int (nI 0), .null, .null, .null, .null, .null, .null])), (q1, .inl (g1, 10, .inl (tr_ai tr_z)))] H := hP
  have hD : va_D A [(h, .inr (1, [.int (nI 0), .null, .null, .null, .null, .null, .null])), (q1, .inl (g1, 10, .inl (tr_ai tr_z)))] := hD
  have hK : va_K D tr_cl [(g1, .int)] s := hK
  refine va_putF (D := D) (ci := 1) (v := .ref q1) (ty := .array .int) (C := RX1) (T := TX1) (N := 7) hx hb hts in_X1 tyX1 tyX1_ok nmX1 hown hK hP hD hS 0 rfl rfl 1 (by decide) (hts _ q131) (fun _ h9 => h9) rfl hin rfl (by decide +kernel) rfl rfl (Nat.le_of_ble_eq_true rfl) dX1_init_9 (fun H locs hP hD hS => ?_)
  have hP : va_P D tr_cl [(h, .inr (1, [.int (nI 0), .ref q1, .null, .null, .null, .null, .null])), (q1, .inl (g1, 10, .inl (tr_ai tr_z)))] H := hP
  have hD : va_D A [(h, .inr (1, [.int (nI 0), .ref q1, .null, .null, .null, .null, .null])), (q1, .inl (g1, 10, .inl (tr_ai tr_z)))] := hD
  refine lv_aload_n hx hb dX1_init_12 rfl (lv_at hl 0 rfl) ?_
  refine lv_bipush (v := nI 50) hx hb dX1_init_13 (by decide +kernel) ?_
  refine va_newa (atype := .int) (ty := .int) (a0 := (50, .inl (tr_ai tr_z))) (N' := 50) hx hb (hts _ q54) rfl hK hP hD hS hA (fun cA => tr_a0 cA 50) (nI_pos (by decide)) (nI_clamp (by decide)) (by decide +kernel) (Nat.le_of_ble_eq_true rfl) (Nat.le_of_ble_eq_true rfl) dX1_init_15 (fun q2 g2 H hK hP hD hS => ?_)
  have hP : va_P D tr_cl [(h, .inr (1, [.int (nI 0), .ref q1, .null, .null, .null, .null, .null])), (q1, .inl (g1, 10, .inl (tr_ai tr_z))), (q2, .inl (g2, 50, .inl (tr_ai tr_z)))] H := hP
  have hD : va_D A [(h, .inr (1, [.int (nI 0), .ref q1, .null, .null, .null, .null, .null])), (q1, .inl (g1, 10, .inl (tr_ai tr_z))), (q2, .inl (g2, 50, .inl (tr_ai tr_z)))] := hD
  have hK : va_K D tr_cl [(g1, .int), (g2, .int)] s := hK
  refine va_putF (D := D) (ci := 1) (v := .ref q2) (ty := .array .int) (C := RX1) (T := TX1) (N := 7) hx hb hts in_X1 tyX1 tyX1_ok nmX1 hown hK hP hD hS 0 rfl rfl 2 (by decide) (hts _ q132) (fun _ h9 => h9) rfl hin rfl (by decide +kernel) rfl rfl (Nat.le_of_ble_eq_true rfl) dX1_init_17 (fun H locs hP hD hS => ?_)
  have hP : va_P D tr_cl [(h, .inr (1, [.int (nI 0), .ref q1, .ref q2, .null, .null, .null, .null])), (q1, .inl (g1, 10, .inl (tr_ai tr_z))), (q2, .inl (g2, 50, .inl (tr_ai tr_z)))] H := hP
  have hD : va_D A [(h, .inr (1, [.int (nI 0), .ref q1, .ref q2, .null, .null, .null, .null])), (q1, .inl (g1, 10, .inl (tr_ai tr_z))), (q2, .inl (g2, 50, .inl (tr_ai tr_z)))] := hD
  refine lv_aload_n hx hb dX1_init_20 rfl (lv_at hl 0 rfl) ?_
  refine lv_bipush (v := nI 50) hx hb dX1_init_21 (by decide +kernel) ?_
  refine va_newa (atype := .int) (ty := .int) (a0 := (50, .inl (tr_ai tr_z))) (N' := 50) hx hb (hts _ q54) rfl hK hP hD hS hA (fun cA => tr_a0 cA 50) (nI_pos (by decide)) (nI_clamp (by decide)) (by decide +kernel) (Nat.le_of_ble_eq_true rfl) (Nat.le_of_ble_eq_true rfl) dX1_init_23 (fun q3 g3 H hK hP hD hS => ?_)
  have hP : va_P D tr_cl [(h, .inr (1, [.int (nI 0), .ref q1, .ref q2, .null, .null, .null, .null])), (q1, .inl (g1, 10, .inl (tr_ai tr_z))), (q2, .inl (g2, 50, .inl (tr_ai tr_z))), (q3, .inl (g3, 50, .inl (tr_ai tr_z)))] H := hP
  have hD : va_D A [(h, .inr (1, [.int (nI 0), .ref q1, .ref q2, .null, .null, .null, .null])), (q1, .inl (g1, 10, .inl (tr_ai tr_z))), (q2, .inl (g2, 50, .inl (tr_ai tr_z))), (q3, .inl (g3, 50, .inl (tr_ai tr_z)))] := hD
  have hK : va_K D tr_cl [(g1, .int), (g2, .int), (g3, .int)] s := hK
  refine va_putF (D := D) (ci := 1) (v := .ref q3) (ty := .array .int) (C := RX1) (T := TX1) (N := 7) hx hb hts in_X1 tyX1 tyX1_ok nmX1 hown hK hP hD hS 0 rfl rfl 3 (by decide) (hts _ q133) (fun _ h9 => h9) rfl hin rfl (by decide +kernel) rfl rfl (Nat.le_of_ble_eq_true rfl) dX1_init_25 (fun H locs hP hD hS => ?_)
  have hP : va_P D tr_cl [(h, .inr (1, [.int (nI 0), .ref q1, .ref q2, .ref q3, .null, .null, .null])), (q1, .inl (g1, 10, .inl (tr_ai tr_z))), (q2, .inl (g2, 50, .inl (tr_ai tr_z))), (q3, .inl (g3, 50, .inl (tr_ai tr_z)))] H := hP
  have hD : va_D A [(h, .inr (1, [.int (nI 0), .ref q1, .ref q2, .ref q3, .null, .null, .null])), (q1, .inl (g1, 10, .inl (tr_ai tr_z))), (q2, .inl (g2, 50, .inl (tr_ai tr_z))), (q3, .inl (g3, 50, .inl (tr_ai tr_z)))] := hD
  refine lv_aload_n hx hb dX1_init_28 rfl (lv_at hl 0 rfl) ?_
  refine lv_bipush (v := nI 64) hx hb dX1_init_29 (by decide +kernel) ?_
  refine va_newa (atype := .int) (ty := .int) (a0 := (64, .inl (tr_ai tr_z))) (N' := 64) hx hb (hts _ q54) rfl hK hP hD hS hA (fun cA => tr_a0 cA 64) (nI_pos (by decide)) (nI_clamp (by decide)) (by decide +kernel) (Nat.le_of_ble_eq_true rfl) (Nat.le_of_ble_eq_true rfl) dX1_init_31 (fun q4 g4 H hK hP hD hS => ?_)
  have hP : va_P D tr_cl [(h, .inr (1, [.int (nI 0), .ref q1, .ref q2, .ref q3, .null, .null, .null])), (q1, .inl (g1, 10, .inl (tr_ai tr_z))), (q2, .inl (g2, 50, .inl (tr_ai tr_z))), (q3, .inl (g3, 50, .inl (tr_ai tr_z))), (q4, .inl (g4, 64, .inl (tr_ai tr_z)))] H := hP
  have hD : va_D A [(h, .inr (1, [.int (nI 0), .ref q1, .ref q2, .ref q3, .null, .null, .null])), (q1, .inl (g1, 10, .inl (tr_ai tr_z))), (q2, .inl (g2, 50, .inl (tr_ai tr_z))), (q3, .inl (g3, 50, .inl (tr_ai tr_z))), (q4, .inl (g4, 64, .inl (tr_ai tr_z)))] := hD
  have hK : va_K D tr_cl [(g1, .int), (g2, .int), (g3, .int), (g4, .int)] s := hK
  refine va_putF (D := D) (ci := 1) (v := .ref q4) (ty := .array .int) (C := RX1) (T := TX1) (N := 7) hx hb hts in_X1 tyX1 tyX1_ok nmX1 hown hK hP hD hS 0 rfl rfl 4 (by decide) (hts _ q134) (fun _ h9 => h9) rfl hin rfl (by decide +kernel) rfl rfl (Nat.le_of_ble_eq_true rfl) dX1_init_33 (fun H locs hP hD hS => ?_)
  have hP : va_P D tr_cl [(h, .inr (1, [.int (nI 0), .ref q1, .ref q2, .ref q3, .ref q4, .null, .null])), (q1, .inl (g1, 10, .inl (tr_ai tr_z))), (q2, .inl (g2, 50, .inl (tr_ai tr_z))), (q3, .inl (g3, 50, .inl (tr_ai tr_z))), (q4, .inl (g4, 64, .inl (tr_ai tr_z)))] H := hP
  have hD : va_D A [(h, .inr (1, [.int (nI 0), .ref q1, .ref q2, .ref q3, .ref q4, .null, .null])), (q1, .inl (g1, 10, .inl (tr_ai tr_z))), (q2, .inl (g2, 50, .inl (tr_ai tr_z))), (q3, .inl (g3, 50, .inl (tr_ai tr_z))), (q4, .inl (g4, 64, .inl (tr_ai tr_z)))] := hD
  refine lv_aload_n hx hb dX1_init_36 rfl (lv_at hl 0 rfl) ?_
  refine lv_bipush (v := nI 88) hx hb dX1_init_37 (by decide +kernel) ?_
  refine va_newa (atype := .int) (ty := .int) (a0 := (88, .inl (tr_ai tr_z))) (N' := 88) hx hb (hts _ q54) rfl hK hP hD hS hA (fun cA => tr_a0 cA 88) (nI_pos (by decide)) (nI_clamp (by decide)) (by decide +kernel) (Nat.le_of_ble_eq_true rfl) (Nat.le_of_ble_eq_true rfl) dX1_init_39 (fun q5 g5 H hK hP hD hS => ?_)
  have hP : va_P D tr_cl [(h, .inr (1, [.int (nI 0), .ref q1, .ref q2, .ref q3, .ref q4, .null, .null])), (q1, .inl (g1, 10, .inl (tr_ai tr_z))), (q2, .inl (g2, 50, .inl (tr_ai tr_z))), (q3, .inl (g3, 50, .inl (tr_ai tr_z))), (q4, .inl (g4, 64, .inl (tr_ai tr_z))), (q5, .inl (g5, 88, .inl (tr_ai tr_z)))] H := hP
  have hD : va_D A [(h, .inr (1, [.int (nI 0), .ref q1, .ref q2, .ref q3, .ref q4, .null, .null])), (q1, .inl (g1, 10, .inl (tr_ai tr_z))), (q2, .inl (g2, 50, .inl (tr_ai tr_z))), (q3, .inl (g3, 50, .inl (tr_ai tr_z))), (q4, .inl (g4, 64, .inl (tr_ai tr_z))), (q5, .inl (g5, 88, .inl (tr_ai tr_z)))] := hD
  have hK : va_K D tr_cl [(g1, .int), (g2, .int), (g3, .int), (g4, .int), (g5, .int)] s := hK
  refine va_putF (D := D) (ci := 1) (v := .ref q5) (ty := .array .int) (C := RX1) (T := TX1) (N := 7) hx hb hts in_X1 tyX1 tyX1_ok nmX1 hown hK hP hD hS 0 rfl rfl 5 (by decide) (hts _ q135) (fun _ h9 => h9) rfl hin rfl (by decide +kernel) rfl rfl (Nat.le_of_ble_eq_true rfl) dX1_init_41 (fun H locs hP hD hS => ?_)
  have hP : va_P D tr_cl [(h, .inr (1, [.int (nI 0), .ref q1, .ref q2, .ref q3, .ref q4, .ref q5, .null])), (q1, .inl (g1, 10, .inl (tr_ai tr_z))), (q2, .inl (g2, 50, .inl (tr_ai tr_z))), (q3, .inl (g3, 50, .inl (tr_ai tr_z))), (q4, .inl (g4, 64, .inl (tr_ai tr_z))), (q5, .inl (g5, 88, .inl (tr_ai tr_z)))] H := hP
  have hD : va_D A [(h, .inr (1, [.int (nI 0), .ref q1, .ref q2, .ref q3, .ref q4, .ref q5, .null])), (q1, .inl (g1, 10, .inl (tr_ai tr_z))), (q2, .inl (g2, 50, .inl (tr_ai tr_z))), (q3, .inl (g3, 50, .inl (tr_ai tr_z))), (q4, .inl (g4, 64, .inl (tr_ai tr_z))), (q5, .inl (g5, 88, .inl (tr_ai tr_z)))] := hD
  refine lv_aload_n hx hb dX1_init_44 rfl (lv_at hl 0 rfl) ?_
  refine lv_bipush (v := nI 88) hx hb dX1_init_45 (by decide +kernel) ?_
  refine va_newa (atype := .int) (ty := .int) (a0 := (88, .inl (tr_ai tr_z))) (N' := 88) hx hb (hts _ q54) rfl hK hP hD hS hA (fun cA => tr_a0 cA 88) (nI_pos (by decide)) (nI_clamp (by decide)) (by decide +kernel) (Nat.le_of_ble_eq_true rfl) (Nat.le_of_ble_eq_true rfl) dX1_init_47 (fun q6 g6 H hK hP hD hS => ?_)
  have hP : va_P D tr_cl [(h, .inr (1, [.int (nI 0), .ref q1, .ref q2, .ref q3, .ref q4, .ref q5, .null])), (q1, .inl (g1, 10, .inl (tr_ai tr_z))), (q2, .inl (g2, 50, .inl (tr_ai tr_z))), (q3, .inl (g3, 50, .inl (tr_ai tr_z))), (q4, .inl (g4, 64, .inl (tr_ai tr_z))), (q5, .inl (g5, 88, .inl (tr_ai tr_z))), (q6, .inl (g6, 88, .inl (tr_ai tr_z)))] H := hP
  have hD : va_D A [(h, .inr (1, [.int (nI 0), .ref q1, .ref q2, .ref q3, .ref q4, .ref q5, .null])), (q1, .inl (g1, 10, .inl (tr_ai tr_z))), (q2, .inl (g2, 50, .inl (tr_ai tr_z))), (q3, .inl (g3, 50, .inl (tr_ai tr_z))), (q4, .inl (g4, 64, .inl (tr_ai tr_z))), (q5, .inl (g5, 88, .inl (tr_ai tr_z))), (q6, .inl (g6, 88, .inl (tr_ai tr_z)))] := hD
  have hK : va_K D tr_cl [(g1, .int), (g2, .int), (g3, .int), (g4, .int), (g5, .int), (g6, .int)] s := hK
  refine va_putF (D := D) (ci := 1) (v := .ref q6) (ty := .array .int) (C := RX1) (T := TX1) (N := 7) hx hb hts in_X1 tyX1 tyX1_ok nmX1 hown hK hP hD hS 0 rfl rfl 6 (by decide) (hts _ q136) (fun _ h9 => h9) rfl hin rfl (by decide +kernel) rfl rfl (Nat.le_of_ble_eq_true rfl) dX1_init_49 (fun H locs hP hD hS => ?_)
  have hP : va_P D tr_cl [(h, .inr (1, [.int (nI 0), .ref q1, .ref q2, .ref q3, .ref q4, .ref q5, .ref q6])), (q1, .inl (g1, 10, .inl (tr_ai tr_z))), (q2, .inl (g2, 50, .inl (tr_ai tr_z))), (q3, .inl (g3, 50, .inl (tr_ai tr_z))), (q4, .inl (g4, 64, .inl (tr_ai tr_z))), (q5, .inl (g5, 88, .inl (tr_ai tr_z))), (q6, .inl (g6, 88, .inl (tr_ai tr_z)))] H := hP
  have hD : va_D A [(h, .inr (1, [.int (nI 0), .ref q1, .ref q2, .ref q3, .ref q4, .ref q5, .ref q6])), (q1, .inl (g1, 10, .inl (tr_ai tr_z))), (q2, .inl (g2, 50, .inl (tr_ai tr_z))), (q3, .inl (g3, 50, .inl (tr_ai tr_z))), (q4, .inl (g4, 64, .inl (tr_ai tr_z))), (q5, .inl (g5, 88, .inl (tr_ai tr_z))), (q6, .inl (g6, 88, .inl (tr_ai tr_z)))] := hD
  refine W.widen (k := 6) (n := 350) (Nat.le_of_ble_eq_true rfl) (Nat.le_of_ble_eq_true rfl) ?_
  exact W.vret hx hb hr (fun t ht hW => ⟨⟨((fun k => match k with | 1 => q1 | 2 => q2 | 3 => q3 | 4 => q4 | 5 => q5 | _ => q6), (fun k => match k with | 1 => g1 | 2 => g2 | 3 => g3 | 4 => g4 | 5 => g5 | _ => g6)), rfl, trivial, by rw [ht]; exact hP, va_K.moved hW.alike hK, hD⟩, hS.F ht⟩) hS.2.2 dX1_init_52
end
section
set_option maxRecDepth 100000
/-! THE CLAIM OUT OF ONE WALK OF THE LAW'S BODY. Your part is whole_start (and what it stands on); all else here is the same for every law, but numbers. -/
def R_law : String := "TransitRoundsLaw"
def lw_P (b : Addr) (xs : List Int32) (args : Array Value) (s : State) : Prop := args = #[.ref b] ∧ s.IntsAt b xs ∧ xs.length ≤ 320 ∧ (Jvm.Cond.and given_1 narrow_1).before args s = true
def lw_Q (_ : Array Value) (s : State) (o : Outcome) (t : State) : Prop := o = .returned (some (.int 1)) ∧ Framed s o t [] 600000 7290000
def lw_Z (below : List Frame) (a : Array Value) (s : State) : State → Prop := fun t => ∃ o, t.status = .running ∧ Ended t below o ∧ lw_Q a s o t
/-- the law's own end, with 1 on the stack, nothing written that was there before, its room as the claim has it -/
theorem lw_ret {p : Program} {l : Launch} {e : Env} {s : State} {m : MethodId} {below : List Frame} {meth : Method} {c : Code} {b : Nat} (hx : p.tables.exec = Jvm.exec) (hb : c.code = code) (hr : meth.sig.returnType = ret) (hlocks : meth.locks = false) {pc : Nat} {H : Heap} {ls : Array Slot} (hdg : decode code pc = .ok (.ireturn, 1)) : W p l e room_1 s m #[Value.ref b] below meth c H [] 600000 7290000 (lw_Z below #[Value.ref b] s) (F0 m pc ls [.int 1]) := by
  intro T hT X
  obtain ⟨fs, hret, hrun, hended, hW, hframe⟩ := X.leave (v := some (.int 1)) (hlocks := hlocks) (fun h => by rw [hr] at h; cases h)
  have hmeth' : T.vm.method? m = some meth := X.method'
  refine ⟨T.setFrames fs, ?_, .returned (some (.int 1)), hrun, hended, rfl, ⟨_, rfl⟩, hW, hframe⟩
  jvm_step X.here [X.here.top, hx, hb, hdg, hmeth', hr, ret, narrow_b1]
  (try refine ⟨rfl, ?_⟩); (try refine ⟨rfl, ?_⟩)
  first | (intro acts; rw [hret _ acts rfl rfl rfl]) | rw [hret _ _ rfl rfl rfl]
  exact Steps.refl _
/-- what holds at the law's entry: the machine, the code, the tables' words (any of lw_tbl by 'hts w (by decide +kernel)'), the script of L ints xs at the cell b, what the Statement gives of the start (any of its parts by flat_of_before) -/
def lw_At (p : Program) (s : State) (m : MethodId) (meth : Method) (c : Code) (b L : Nat) (xs : Nat → Int32) : Prop :=
  p.tables.exec = Jvm.exec ∧ c.code = code ∧ meth.sig.returnType = ret ∧ c.maxLocals = 4 ∧ s.vm.findClass R_law = some m.cls ∧ (∀ w ∈ lw_tbl, w.before #[Value.ref b] s = true) ∧ va_X b L xs s s.heap ∧ b < s.heap.size ∧ meth.locks = false ∧ (Jvm.Cond.and given_1 narrow_1).before #[Value.ref b] s = true
end
section
set_option maxRecDepth 100000
/-! the law: what holds between two calls -/
def tl_C (p : Program) (m : MethodId) (c : Code) (s : State) (args : Array Value) (D : va_G) (cdx cdm : Nat → ClassId) (b L : Nat) (xs : Nat → Int32) (A : Nat → Prop) : Prop := CallFix p m c code 4 s args lw_all R_law ∧ va_K D tr_cl (tr_tX cdx) s ∧ va_K D tr_cl (tr_tM cdm) s ∧ va_X b L xs s s.heap ∧ b < s.heap.size ∧ ¬ A b ∧ (∀ q : Nat, s.heap.size ≤ q → A q) ∧ L ≤ 320
def tl_V (D : va_G) (A : Nat → Prop) (H0 H : Heap) (locs : List Loc) (qx : Nat) (adx : Nat → Nat) (cdx : Nat → ClassId) (qm : Nat) (adm : Nat → Nat) (cdm : Nat → ClassId) : Prop := ∃ (tc : Nat) (c1 st tm wk bs : Nat → Nat) (bt rn : Nat) (ri fo th : Nat → Nat), tr_I tc c1 st tm wk ∧ tx_ok (bs, bt, rn, ri) ∧ tm_ok (fo, th) ∧ tr_M D A H0 H locs (tr_wX qx adx cdx tc c1 st tm wk bs bt rn ri ++ tr_wM qm adm cdm tc c1 st tm wk fo th)
theorem tr_inc5 (a : Nat) : nI a + Int32.ofInt 5 = nI (a + 5) := nI_add a 5
theorem tl_5 {L i : Nat} (hL : L ≤ 320) (hi : i ≤ L) (h : ¬ Int32.ofNat L - nI 5 < nI i) : i + 5 ≤ L := by
  have h1 : (nI L - nI 5).toInt = (L : Int) - (5 : Nat) := pk_sub_toInt (by omega) (by omega)
  have h2 : (nI i).toInt = (i : Int) := nI_toInt (by omega)
  have h3 : ¬ (nI L - nI 5).toInt < (nI i).toInt := fun z => h (Int32.lt_iff_toInt_lt.mpr z)
  rw [h1, h2] at h3
  omega
section TLR
variable {p : Program} {l : Launch} {e : Env} {R : Room} {s : State} {m : MethodId} {args : Array Value} {below : List Frame} {meth : Method} {c : Code} {H : Heap} {locs : List Loc} {cells slots : Nat} {Q : State → Prop}
variable {cc : ByteArray} {pc : Nat} {ls : Array Slot} {rest : List Value}
variable {A : Nat → Prop} {b L : Nat} {xs : Nat → Int32}
theorem tl_ld (hx : p.tables.exec = Jvm.exec) (hb : c.code = cc) (hX : va_X b L xs s s.heap) (hbl : b < s.heap.size) (hbA : ¬ A b) (hS : va_S A s.heap H locs) {k : Nat} (hk : k < L) (hL : L ≤ 320) (hdg : decode cc pc = .ok (.iaload, 1)) (kk : W p l e R s m args below meth c H locs cells slots Q (F0 m (pc + 1) ls (.int (xs k) :: rest))) : W p l e R s m args below meth c H locs cells slots Q (F0 m pc ls (.int (nI k) :: .ref b :: rest)) := va_sld hx hb hX hbl hbA hS (vp_in_nI hk (by omega)) hdg (by rw [nI_clamp (by omega)]; exact kk)
variable {y : MethodName} {bb : ByteArray} {LL nL n index : Nat} {r : FieldType} {rm : Room} {D : va_G} {tys : List (ClassId × FieldType)} {As st0 : List Value} {S : Type} {W1 : S → va_W} {own : String} {h h2 tc bt rn tc2 : Nat} {ad ad2 : Nat → Nat} {cd cd2 : Nat → ClassId} {c1 st tm wk bs ri fo th c2 st2 tm2 wk2 : Nat → Nat}
theorem tl_callX {post : Int32 → S → Prop} (hm : tr_MI l y bb LL r rm D (tr_tX cd) (.ref h :: As) (tr_wX h ad cd tc c1 st tm wk bs bt rn ri) post W1) (hC : CallFix p m c cc nL s args lw_all own) (hK : va_K D tr_cl (tr_tX cd) s) (cw : CallW R s args own RX0 index y bb LL (some r) (ws_ y bb LL (some r)) rm 0 0 n) (hA : ∀ q : Nat, s.heap.size ≤ q → A q) (hM : tr_M D A s.heap H locs (tr_wX h ad cd tc c1 st tm wk bs bt rn ri ++ tr_wM h2 ad2 cd2 tc2 c2 st2 tm2 wk2 fo th)) (hn : As.length = n) (hls : ls.size = nL) (hst : st0 = As.reverse ++ .ref h :: rest) (hrest : (rest.map fun v => v.category).sum ≤ 8) (hf : cells ≤ R.cells ∧ slots ≤ R.slots) (hdg : decode cc pc = .ok (.invokevirtual index, 3)) (kk : ∀ (v : Int32) (u : S) (H1 : Heap) (locs1 : List Loc), post v u → tr_M D A s.heap H1 locs1 (tr_wM h2 ad2 cd2 tc2 c2 st2 tm2 wk2 fo th ++ W1 u) → W p l e R s m args below meth c H1 locs1 cells slots Q (F0 m (pc + 3) ls (.int v :: rest))) : W p l e R s m args below meth c H locs cells slots Q (F0 m pc ls st0) := tr_MI_call (Wr := tr_wM h2 ad2 cd2 tc2 c2 st2 tm2 wk2 fo th) hm ⟨hC, hK⟩ hK cw hA hM [0, 1, 2, 3, 4, 5, 6] [7, 8, 9, 10, 11, 12, 13] rfl rfl rfl rfl rfl (by decide) rfl rfl hn hls hst hrest hf hdg kk
theorem tl_callM {post : Int32 → S → Prop} (hm : tr_MI l y bb LL r rm D (tr_tM cd2) (.ref h2 :: As) (tr_wM h2 ad2 cd2 tc2 c2 st2 tm2 wk2 fo th) post W1) (hC : CallFix p m c cc nL s args lw_all own) (hK : va_K D tr_cl (tr_tM cd2) s) (cw : CallW R s args own RX1 index y bb LL (some r) (ws_ y bb LL (some r)) rm 0 0 n) (hA : ∀ q : Nat, s.heap.size ≤ q → A q) (hM : tr_M D A s.heap H locs (tr_wM h2 ad2 cd2 tc2 c2 st2 tm2 wk2 fo th ++ tr_wX h ad cd tc c1 st tm wk bs bt rn ri)) (hn : As.length = n) (hls : ls.size = nL) (hst : st0 = As.reverse ++ .ref h2 :: rest) (hrest : (rest.map fun v => v.category).sum ≤ 8) (hf : cells ≤ R.cells ∧ slots ≤ R.slots) (hdg : decode cc pc = .ok (.invokevirtual index, 3)) (kk : ∀ (v : Int32) (u : S) (H1 : Heap) (locs1 : List Loc), post v u → tr_M D A s.heap H1 locs1 (tr_wX h ad cd tc c1 st tm wk bs bt rn ri ++ W1 u) → W p l e R s m args below meth c H1 locs1 cells slots Q (F0 m (pc + 3) ls (.int v :: rest))) : W p l e R s m args below meth c H locs cells slots Q (F0 m pc ls st0) := tr_MI_call (Wr := tr_wX h ad cd tc c1 st tm wk bs bt rn ri) hm ⟨hC, hK⟩ hK cw hA hM [0, 1, 2, 3, 4, 5, 6] [7, 8, 9, 10, 11, 12, 13] rfl rfl rfl rfl rfl (by decide) rfl rfl hn hls hst hrest hf hdg kk
end TLR
set_option maxHeartbeats 4000000 in
theorem tl_c0 {p : Program} {l : Launch} {e : Env} {s : State} {m : MethodId} {args : Array Value} {below : List Frame} {meth : Method} {c : Code} {D : va_G} {cdx cdm : Nat → ClassId} {b L : Nat} {xs : Nat → Int32} {A : Nat → Prop} {qx qm : Nat} {adx adm : Nat → Nat} {H : Heap} {locs : List Loc} {ls : Array Slot} {Q : State → Prop} {i : Nat} (C : tl_C p m c s args D cdx cdm b L xs A) (hi : i + 5 ≤ L) (hl : lv_has ls 4 [(0, .ref b), (1, .ref qx), (2, .ref qm), (3, .int (nI i))]) (hV : tl_V D A s.heap H locs qx adx cdx qm adm cdm) (K : ∀ (H : Heap) (locs : List Loc), tl_V D A s.heap H locs qx adx cdx qm adm cdm → W p l e room_1 s m args below meth c H locs 14 636 Q (F0 m 488 ls [])) : W p l e room_1 s m args below meth c H locs 14 636 Q (F0 m 88 ls []) := by
  obtain ⟨tc, c1, st, tm, wk, bs, bt, rn, ri, fo, th, hI, hok, hom, hM⟩ := hV
  obtain ⟨hF, hKX, hKM, hX, hbl, hbA, hA, hL⟩ := C
  have hx := hF.1
  have hb := hF.2.1
  have hts := hF.2.2.2.2
  refine lv_aload_n hx hb dL_law_88 rfl (lv_at hl 1 rfl) ?_
  refine lv_aload_n hx hb dL_law_89 rfl (lv_at hl 0 rfl) ?_
  refine lv_iload_n hx hb dL_law_90 rfl (lv_at hl 3 rfl) ?_
  refine lv_iconst (v := nI 1) hx hb dL_law_91 (by decide +kernel) ?_
  refine tw_iadd hx hb dL_law_92 ?_
  refine tl_ld hx hb hX hbl hbA hM.2.2 (by omega) hL dL_law_93 ?_
  refine lv_aload_n hx hb dL_law_94 rfl (lv_at hl 0 rfl) ?_
  refine lv_iload_n hx hb dL_law_95 rfl (lv_at hl 3 rfl) ?_
  refine lv_iconst (v := nI 2) hx hb dL_law_96 (by decide +kernel) ?_
  refine tw_iadd hx hb dL_law_97 ?_
  refine tl_ld hx hb hX hbl hbA hM.2.2 (by omega) hL dL_law_98 ?_
  refine tl_callX (As := [.int (xs (i + 1)), .int (xs (i + 2))]) (tx_tripM l D (x1 := xs (i + 1)) (x2 := xs (i + 2)) hI) hF hKX (cwV 2 hts (lw_V q55 q56 q57 q14 q58) rfl rfl rfl (by decide +kernel) ⟨Nat.le_of_ble_eq_true rfl, Nat.le_of_ble_eq_true rfl⟩) hA hM rfl hl.1 rfl (Nat.le_of_ble_eq_true rfl) ⟨Nat.le_of_ble_eq_true rfl, Nat.le_of_ble_eq_true rfl⟩ dL_law_99 (fun v u H locs hp hM => ?_)
  have hM : tr_M D A s.heap H locs (tr_wM qm adm cdm tc c1 st tm wk fo th ++ tr_wX qx adx cdx u.1 u.2.1 u.2.2.1 u.2.2.2 wk bs bt rn ri) := hM
  refine lv_aload_n hx hb dL_law_102 rfl (lv_at hl 2 rfl) ?_
  refine lv_aload_n hx hb dL_law_103 rfl (lv_at hl 0 rfl) ?_
  refine lv_iload_n hx hb dL_law_104 rfl (lv_at hl 3 rfl) ?_
  refine lv_iconst (v := nI 1) hx hb dL_law_105 (by decide +kernel) ?_
  refine tw_iadd hx hb dL_law_106 ?_
  refine tl_ld hx hb hX hbl hbA hM.2.2 (by omega) hL dL_law_107 ?_
  refine lv_aload_n hx hb dL_law_108 rfl (lv_at hl 0 rfl) ?_
  refine lv_iload_n hx hb dL_law_109 rfl (lv_at hl 3 rfl) ?_
  refine lv_iconst (v := nI 2) hx hb dL_law_110 (by decide +kernel) ?_
  refine tw_iadd hx hb dL_law_111 ?_
  refine tl_ld hx hb hX hbl hbA hM.2.2 (by omega) hL dL_law_112 ?_
  refine tl_callM (As := [.int (xs (i + 1)), .int (xs (i + 2))]) (tm_tripM l D (x1 := xs (i + 1)) (x2 := xs (i + 2)) hI) hF hKM (cwV 2 hts (lw_V q152 q153 q154 q15 q155) rfl rfl rfl (by decide +kernel) ⟨Nat.le_of_ble_eq_true rfl, Nat.le_of_ble_eq_true rfl⟩) hA hM rfl hl.1 rfl (Nat.le_of_ble_eq_true rfl) ⟨Nat.le_of_ble_eq_true rfl, Nat.le_of_ble_eq_true rfl⟩ dL_law_113 (fun v2 w H locs hp2 hM => ?_)
  obtain ⟨ev, rfl⟩ := Prod.mk.inj (hp.symm.trans hp2)
  exact lv_icmp_eq (tgt := 488) hx hb dL_law_116 (by decide) (fun _ => K _ _ ⟨u.1, u.2.1, u.2.2.1, u.2.2.2, wk, bs, bt, rn, ri, fo, th, ty_trip hI hp, hok, hom, hM⟩) (fun c9 => absurd ev c9)
set_option maxHeartbeats 4000000 in
theorem tl_c1 {p : Program} {l : Launch} {e : Env} {s : State} {m : MethodId} {args : Array Value} {below : List Frame} {meth : Method} {c : Code} {D : va_G} {cdx cdm : Nat → ClassId} {b L : Nat} {xs : Nat → Int32} {A : Nat → Prop} {qx qm : Nat} {adx adm : Nat → Nat} {H : Heap} {locs : List Loc} {ls : Array Slot} {Q : State → Prop} {i : Nat} (C : tl_C p m c s args D cdx cdm b L xs A) (hi : i + 5 ≤ L) (hl : lv_has ls 4 [(0, .ref b), (1, .ref qx), (2, .ref qm), (3, .int (nI i))]) (hV : tl_V D A s.heap H locs qx adx cdx qm adm cdm) (K : ∀ (H : Heap) (locs : List Loc), tl_V D A s.heap H locs qx adx cdx qm adm cdm → W p l e room_1 s m args below meth c H locs 14 636 Q (F0 m 488 ls [])) : W p l e room_1 s m args below meth c H locs 14 636 Q (F0 m 121 ls []) := by
  obtain ⟨tc, c1, st, tm, wk, bs, bt, rn, ri, fo, th, hI, hok, hom, hM⟩ := hV
  obtain ⟨hF, hKX, hKM, hX, hbl, hbA, hA, hL⟩ := C
  have hx := hF.1
  have hb := hF.2.1
  have hts := hF.2.2.2.2
  refine lv_aload_n hx hb dL_law_121 rfl (lv_at hl 1 rfl) ?_
  refine lv_aload_n hx hb dL_law_122 rfl (lv_at hl 0 rfl) ?_
  refine lv_iload_n hx hb dL_law_123 rfl (lv_at hl 3 rfl) ?_
  refine lv_iconst (v := nI 1) hx hb dL_law_124 (by decide +kernel) ?_
  refine tw_iadd hx hb dL_law_125 ?_
  refine tl_ld hx hb hX hbl hbA hM.2.2 (by omega) hL dL_law_126 ?_
  refine lv_aload_n hx hb dL_law_127 rfl (lv_at hl 0 rfl) ?_
  refine lv_iload_n hx hb dL_law_128 rfl (lv_at hl 3 rfl) ?_
  refine lv_iconst (v := nI 2) hx hb dL_law_129 (by decide +kernel) ?_
  refine tw_iadd hx hb dL_law_130 ?_
  refine tl_ld hx hb hX hbl hbA hM.2.2 (by omega) hL dL_law_131 ?_
  refine tl_callX (As := [.int (xs (i + 1)), .int (xs (i + 2))]) (tx_callM l D (x1 := xs (i + 1)) (x2 := xs (i + 2)) hI) hF hKX (cwV 2 hts (lw_V q67 q68 q69 q14 q70) rfl rfl rfl (by decide +kernel) ⟨Nat.le_of_ble_eq_true rfl, Nat.le_of_ble_eq_true rfl⟩) hA hM rfl hl.1 rfl (Nat.le_of_ble_eq_true rfl) ⟨Nat.le_of_ble_eq_true rfl, Nat.le_of_ble_eq_true rfl⟩ dL_law_132 (fun v u H locs hp hM => ?_)
  have hM : tr_M D A s.heap H locs (tr_wM qm adm cdm tc c1 st tm wk fo th ++ tr_wX qx adx cdx tc u.1 u.2.1 u.2.2 wk bs bt rn ri) := hM
  refine lv_aload_n hx hb dL_law_135 rfl (lv_at hl 2 rfl) ?_
  refine lv_aload_n hx hb dL_law_136 rfl (lv_at hl 0 rfl) ?_
  refine lv_iload_n hx hb dL_law_137 rfl (lv_at hl 3 rfl) ?_
  refine lv_iconst (v := nI 1) hx hb dL_law_138 (by decide +kernel) ?_
  refine tw_iadd hx hb dL_law_139 ?_
  refine tl_ld hx hb hX hbl hbA hM.2.2 (by omega) hL dL_law_140 ?_
  refine lv_aload_n hx hb dL_law_141 rfl (lv_at hl 0 rfl) ?_
  refine lv_iload_n hx hb dL_law_142 rfl (lv_at hl 3 rfl) ?_
  refine lv_iconst (v := nI 2) hx hb dL_law_143 (by decide +kernel) ?_
  refine tw_iadd hx hb dL_law_144 ?_
  refine tl_ld hx hb hX hbl hbA hM.2.2 (by omega) hL dL_law_145 ?_
  refine tl_callM (As := [.int (xs (i + 1)), .int (xs (i + 2))]) (tm_callM l D (x1 := xs (i + 1)) (x2 := xs (i + 2)) hI) hF hKM (cwV 2 hts (lw_V q164 q165 q166 q15 q167) rfl rfl rfl (by decide +kernel) ⟨Nat.le_of_ble_eq_true rfl, Nat.le_of_ble_eq_true rfl⟩) hA hM rfl hl.1 rfl (Nat.le_of_ble_eq_true rfl) ⟨Nat.le_of_ble_eq_true rfl, Nat.le_of_ble_eq_true rfl⟩ dL_law_146 (fun v2 w H locs hp2 hM => ?_)
  obtain ⟨ev, rfl⟩ := Prod.mk.inj (hp.symm.trans hp2)
  exact lv_icmp_eq (tgt := 488) hx hb dL_law_149 (by decide) (fun _ => K _ _ ⟨tc, u.1, u.2.1, u.2.2, wk, bs, bt, rn, ri, fo, th, ty_call hI hp, hok, hom, hM⟩) (fun c9 => absurd ev c9)
set_option maxHeartbeats 4000000 in
theorem tl_c2 {p : Program} {l : Launch} {e : Env} {s : State} {m : MethodId} {args : Array Value} {below : List Frame} {meth : Method} {c : Code} {D : va_G} {cdx cdm : Nat → ClassId} {b L : Nat} {xs : Nat → Int32} {A : Nat → Prop} {qx qm : Nat} {adx adm : Nat → Nat} {H : Heap} {locs : List Loc} {ls : Array Slot} {Q : State → Prop} {i : Nat} (C : tl_C p m c s args D cdx cdm b L xs A) (hi : i + 5 ≤ L) (hl : lv_has ls 4 [(0, .ref b), (1, .ref qx), (2, .ref qm), (3, .int (nI i))]) (hV : tl_V D A s.heap H locs qx adx cdx qm adm cdm) (K : ∀ (H : Heap) (locs : List Loc), tl_V D A s.heap H locs qx adx cdx qm adm cdm → W p l e room_1 s m args below meth c H locs 14 636 Q (F0 m 488 ls [])) : W p l e room_1 s m args below meth c H locs 14 636 Q (F0 m 154 ls []) := by
  obtain ⟨tc, c1, st, tm, wk, bs, bt, rn, ri, fo, th, hI, hok, hom, hM⟩ := hV
  obtain ⟨hF, hKX, hKM, hX, hbl, hbA, hA, hL⟩ := C
  have hx := hF.1
  have hb := hF.2.1
  have hts := hF.2.2.2.2
  refine lv_aload_n hx hb dL_law_154 rfl (lv_at hl 1 rfl) ?_
  refine lv_aload_n hx hb dL_law_155 rfl (lv_at hl 0 rfl) ?_
  refine lv_iload_n hx hb dL_law_156 rfl (lv_at hl 3 rfl) ?_
  refine lv_iconst (v := nI 1) hx hb dL_law_157 (by decide +kernel) ?_
  refine tw_iadd hx hb dL_law_158 ?_
  refine tl_ld hx hb hX hbl hbA hM.2.2 (by omega) hL dL_law_159 ?_
  refine tl_callX (As := [.int (xs (i + 1))]) (tx_cancelM l D (x1 := xs (i + 1)) hI) hF hKX (cwV 1 hts (lw_V q71 q72 q73 q14 q74) rfl rfl rfl (by decide +kernel) ⟨Nat.le_of_ble_eq_true rfl, Nat.le_of_ble_eq_true rfl⟩) hA hM rfl hl.1 rfl (Nat.le_of_ble_eq_true rfl) ⟨Nat.le_of_ble_eq_true rfl, Nat.le_of_ble_eq_true rfl⟩ dL_law_160 (fun v u H locs hp hM => ?_)
  have hM : tr_M D A s.heap H locs (tr_wM qm adm cdm tc c1 st tm wk fo th ++ tr_wX qx adx cdx u.1 u.2.1 u.2.2.1 u.2.2.2 wk bs bt rn ri) := hM
  refine lv_aload_n hx hb dL_law_163 rfl (lv_at hl 2 rfl) ?_
  refine lv_aload_n hx hb dL_law_164 rfl (lv_at hl 0 rfl) ?_
  refine lv_iload_n hx hb dL_law_165 rfl (lv_at hl 3 rfl) ?_
  refine lv_iconst (v := nI 1) hx hb dL_law_166 (by decide +kernel) ?_
  refine tw_iadd hx hb dL_law_167 ?_
  refine tl_ld hx hb hX hbl hbA hM.2.2 (by omega) hL dL_law_168 ?_
  refine tl_callM (As := [.int (xs (i + 1))]) (tm_cancelM l D (x1 := xs (i + 1)) hI) hF hKM (cwV 1 hts (lw_V q168 q169 q170 q15 q171) rfl rfl rfl (by decide +kernel) ⟨Nat.le_of_ble_eq_true rfl, Nat.le_of_ble_eq_true rfl⟩) hA hM rfl hl.1 rfl (Nat.le_of_ble_eq_true rfl) ⟨Nat.le_of_ble_eq_true rfl, Nat.le_of_ble_eq_true rfl⟩ dL_law_169 (fun v2 w H locs hp2 hM => ?_)
  obtain ⟨ev, rfl⟩ := Prod.mk.inj (hp.symm.trans hp2)
  exact lv_icmp_eq (tgt := 488) hx hb dL_law_172 (by decide) (fun _ => K _ _ ⟨u.1, u.2.1, u.2.2.1, u.2.2.2, wk, bs, bt, rn, ri, fo, th, ty_cancel hI hp, hok, hom, hM⟩) (fun c9 => absurd ev c9)
set_option maxHeartbeats 4000000 in
theorem tl_c3 {p : Program} {l : Launch} {e : Env} {s : State} {m : MethodId} {args : Array Value} {below : List Frame} {meth : Method} {c : Code} {D : va_G} {cdx cdm : Nat → ClassId} {b L : Nat} {xs : Nat → Int32} {A : Nat → Prop} {qx qm : Nat} {adx adm : Nat → Nat} {H : Heap} {locs : List Loc} {ls : Array Slot} {Q : State → Prop} {i : Nat} (C : tl_C p m c s args D cdx cdm b L xs A) (hi : i + 5 ≤ L) (hl : lv_has ls 4 [(0, .ref b), (1, .ref qx), (2, .ref qm), (3, .int (nI i))]) (hV : tl_V D A s.heap H locs qx adx cdx qm adm cdm) (K : ∀ (H : Heap) (locs : List Loc), tl_V D A s.heap H locs qx adx cdx qm adm cdm → W p l e room_1 s m args below meth c H locs 14 636 Q (F0 m 488 ls [])) : W p l e room_1 s m args below meth c H locs 14 636 Q (F0 m 177 ls []) := by
  obtain ⟨tc, c1, st, tm, wk, bs, bt, rn, ri, fo, th, hI, hok, hom, hM⟩ := hV
  obtain ⟨hF, hKX, hKM, hX, hbl, hbA, hA, hL⟩ := C
  have hx := hF.1
  have hb := hF.2.1
  have hts := hF.2.2.2.2
  refine lv_aload_n hx hb dL_law_177 rfl (lv_at hl 1 rfl) ?_
  refine lv_aload_n hx hb dL_law_178 rfl (lv_at hl 0 rfl) ?_
  refine lv_iload_n hx hb dL_law_179 rfl (lv_at hl 3 rfl) ?_
  refine lv_iconst (v := nI 1) hx hb dL_law_180 (by decide +kernel) ?_
  refine tw_iadd hx hb dL_law_181 ?_
  refine tl_ld hx hb hX hbl hbA hM.2.2 (by omega) hL dL_law_182 ?_
  refine lv_aload_n hx hb dL_law_183 rfl (lv_at hl 0 rfl) ?_
  refine lv_iload_n hx hb dL_law_184 rfl (lv_at hl 3 rfl) ?_
  refine lv_iconst (v := nI 2) hx hb dL_law_185 (by decide +kernel) ?_
  refine tw_iadd hx hb dL_law_186 ?_
  refine tl_ld hx hb hX hbl hbA hM.2.2 (by omega) hL dL_law_187 ?_
  refine lv_aload_n hx hb dL_law_188 rfl (lv_at hl 0 rfl) ?_
  refine lv_iload_n hx hb dL_law_189 rfl (lv_at hl 3 rfl) ?_
  refine lv_iconst (v := nI 3) hx hb dL_law_190 (by decide +kernel) ?_
  refine tw_iadd hx hb dL_law_191 ?_
  refine tl_ld hx hb hX hbl hbA hM.2.2 (by omega) hL dL_law_192 ?_
  refine tl_callX (As := [.int (xs (i + 1)), .int (xs (i + 2)), .int (xs (i + 3))]) (tx_delayM l D (x1 := xs (i + 1)) (x2 := xs (i + 2)) (x3 := xs (i + 3)) hI) hF hKX (cwV 3 hts (lw_V q75 q76 q77 q14 q78) rfl rfl rfl (by decide +kernel) ⟨Nat.le_of_ble_eq_true rfl, Nat.le_of_ble_eq_true rfl⟩) hA hM rfl hl.1 rfl (Nat.le_of_ble_eq_true rfl) ⟨Nat.le_of_ble_eq_true rfl, Nat.le_of_ble_eq_true rfl⟩ dL_law_193 (fun v u H locs hp hM => ?_)
  have hM : tr_M D A s.heap H locs (tr_wM qm adm cdm tc c1 st tm wk fo th ++ tr_wX qx adx cdx tc c1 st u wk bs bt rn ri) := hM
  refine lv_aload_n hx hb dL_law_196 rfl (lv_at hl 2 rfl) ?_
  refine lv_aload_n hx hb dL_law_197 rfl (lv_at hl 0 rfl) ?_
  refine lv_iload_n hx hb dL_law_198 rfl (lv_at hl 3 rfl) ?_
  refine lv_iconst (v := nI 1) hx hb dL_law_199 (by decide +kernel) ?_
  refine tw_iadd hx hb dL_law_200 ?_
  refine tl_ld hx hb hX hbl hbA hM.2.2 (by omega) hL dL_law_201 ?_
  refine lv_aload_n hx hb dL_law_202 rfl (lv_at hl 0 rfl) ?_
  refine lv_iload_n hx hb dL_law_203 rfl (lv_at hl 3 rfl) ?_
  refine lv_iconst (v := nI 2) hx hb dL_law_204 (by decide +kernel) ?_
  refine tw_iadd hx hb dL_law_205 ?_
  refine tl_ld hx hb hX hbl hbA hM.2.2 (by omega) hL dL_law_206 ?_
  refine lv_aload_n hx hb dL_law_207 rfl (lv_at hl 0 rfl) ?_
  refine lv_iload_n hx hb dL_law_208 rfl (lv_at hl 3 rfl) ?_
  refine lv_iconst (v := nI 3) hx hb dL_law_209 (by decide +kernel) ?_
  refine tw_iadd hx hb dL_law_210 ?_
  refine tl_ld hx hb hX hbl hbA hM.2.2 (by omega) hL dL_law_211 ?_
  refine tl_callM (As := [.int (xs (i + 1)), .int (xs (i + 2)), .int (xs (i + 3))]) (tm_delayM l D (x1 := xs (i + 1)) (x2 := xs (i + 2)) (x3 := xs (i + 3)) hI) hF hKM (cwV 3 hts (lw_V q172 q173 q174 q15 q175) rfl rfl rfl (by decide +kernel) ⟨Nat.le_of_ble_eq_true rfl, Nat.le_of_ble_eq_true rfl⟩) hA hM rfl hl.1 rfl (Nat.le_of_ble_eq_true rfl) ⟨Nat.le_of_ble_eq_true rfl, Nat.le_of_ble_eq_true rfl⟩ dL_law_212 (fun v2 w H locs hp2 hM => ?_)
  obtain ⟨ev, rfl, hI2⟩ := ty_delay hI hp hp2
  exact lv_icmp_eq (tgt := 488) hx hb dL_law_215 (by decide) (fun _ => K _ _ ⟨tc, c1, st, u, wk, bs, bt, rn, ri, fo, th, hI2, hok, hom, hM⟩) (fun c9 => absurd ev c9)
set_option maxHeartbeats 4000000 in
theorem tl_c4 {p : Program} {l : Launch} {e : Env} {s : State} {m : MethodId} {args : Array Value} {below : List Frame} {meth : Method} {c : Code} {D : va_G} {cdx cdm : Nat → ClassId} {b L : Nat} {xs : Nat → Int32} {A : Nat → Prop} {qx qm : Nat} {adx adm : Nat → Nat} {H : Heap} {locs : List Loc} {ls : Array Slot} {Q : State → Prop} {i : Nat} (C : tl_C p m c s args D cdx cdm b L xs A) (hi : i + 5 ≤ L) (hl : lv_has ls 4 [(0, .ref b), (1, .ref qx), (2, .ref qm), (3, .int (nI i))]) (hV : tl_V D A s.heap H locs qx adx cdx qm adm cdm) (K : ∀ (H : Heap) (locs : List Loc), tl_V D A s.heap H locs qx adx cdx qm adm cdm → W p l e room_1 s m args below meth c H locs 14 636 Q (F0 m 488 ls [])) : W p l e room_1 s m args below meth c H locs 14 636 Q (F0 m 220 ls []) := by
  obtain ⟨tc, c1, st, tm, wk, bs, bt, rn, ri, fo, th, hI, hok, hom, hM⟩ := hV
  obtain ⟨hF, hKX, hKM, hX, hbl, hbA, hA, hL⟩ := C
  have hx := hF.1
  have hb := hF.2.1
  have hts := hF.2.2.2.2
  refine lv_aload_n hx hb dL_law_220 rfl (lv_at hl 1 rfl) ?_
  refine lv_aload_n hx hb dL_law_221 rfl (lv_at hl 0 rfl) ?_
  refine lv_iload_n hx hb dL_law_222 rfl (lv_at hl 3 rfl) ?_
  refine lv_iconst (v := nI 1) hx hb dL_law_223 (by decide +kernel) ?_
  refine tw_iadd hx hb dL_law_224 ?_
  refine tl_ld hx hb hX hbl hbA hM.2.2 (by omega) hL dL_law_225 ?_
  refine lv_aload_n hx hb dL_law_226 rfl (lv_at hl 0 rfl) ?_
  refine lv_iload_n hx hb dL_law_227 rfl (lv_at hl 3 rfl) ?_
  refine lv_iconst (v := nI 2) hx hb dL_law_228 (by decide +kernel) ?_
  refine tw_iadd hx hb dL_law_229 ?_
  refine tl_ld hx hb hX hbl hbA hM.2.2 (by omega) hL dL_law_230 ?_
  refine lv_aload_n hx hb dL_law_231 rfl (lv_at hl 0 rfl) ?_
  refine lv_iload_n hx hb dL_law_232 rfl (lv_at hl 3 rfl) ?_
  refine lv_iconst (v := nI 3) hx hb dL_law_233 (by decide +kernel) ?_
  refine tw_iadd hx hb dL_law_234 ?_
  refine tl_ld hx hb hX hbl hbA hM.2.2 (by omega) hL dL_law_235 ?_
  refine tl_callX (As := [.int (xs (i + 1)), .int (xs (i + 2)), .int (xs (i + 3))]) (tx_walkM l D (x1 := xs (i + 1)) (x2 := xs (i + 2)) (x3 := xs (i + 3)) hI) hF hKX (cwV 3 hts (lw_V q79 q80 q81 q14 q82) rfl rfl rfl (by decide +kernel) ⟨Nat.le_of_ble_eq_true rfl, Nat.le_of_ble_eq_true rfl⟩) hA hM rfl hl.1 rfl (Nat.le_of_ble_eq_true rfl) ⟨Nat.le_of_ble_eq_true rfl, Nat.le_of_ble_eq_true rfl⟩ dL_law_236 (fun v u H locs hp hM => ?_)
  have hM : tr_M D A s.heap H locs (tr_wM qm adm cdm tc c1 st tm wk fo th ++ tr_wX qx adx cdx tc c1 st tm u bs bt rn ri) := hM
  refine lv_aload_n hx hb dL_law_239 rfl (lv_at hl 2 rfl) ?_
  refine lv_aload_n hx hb dL_law_240 rfl (lv_at hl 0 rfl) ?_
  refine lv_iload_n hx hb dL_law_241 rfl (lv_at hl 3 rfl) ?_
  refine lv_iconst (v := nI 1) hx hb dL_law_242 (by decide +kernel) ?_
  refine tw_iadd hx hb dL_law_243 ?_
  refine tl_ld hx hb hX hbl hbA hM.2.2 (by omega) hL dL_law_244 ?_
  refine lv_aload_n hx hb dL_law_245 rfl (lv_at hl 0 rfl) ?_
  refine lv_iload_n hx hb dL_law_246 rfl (lv_at hl 3 rfl) ?_
  refine lv_iconst (v := nI 2) hx hb dL_law_247 (by decide +kernel) ?_
  refine tw_iadd hx hb dL_law_248 ?_
  refine tl_ld hx hb hX hbl hbA hM.2.2 (by omega) hL dL_law_249 ?_
  refine lv_aload_n hx hb dL_law_250 rfl (lv_at hl 0 rfl) ?_
  refine lv_iload_n hx hb dL_law_251 rfl (lv_at hl 3 rfl) ?_
  refine lv_iconst (v := nI 3) hx hb dL_law_252 (by decide +kernel) ?_
  refine tw_iadd hx hb dL_law_253 ?_
  refine tl_ld hx hb hX hbl hbA hM.2.2 (by omega) hL dL_law_254 ?_
  refine tl_callM (As := [.int (xs (i + 1)), .int (xs (i + 2)), .int (xs (i + 3))]) (tm_walkM l D (x1 := xs (i + 1)) (x2 := xs (i + 2)) (x3 := xs (i + 3)) hI) hF hKM (cwV 3 hts (lw_V q176 q177 q178 q15 q179) rfl rfl rfl (by decide +kernel) ⟨Nat.le_of_ble_eq_true rfl, Nat.le_of_ble_eq_true rfl⟩) hA hM rfl hl.1 rfl (Nat.le_of_ble_eq_true rfl) ⟨Nat.le_of_ble_eq_true rfl, Nat.le_of_ble_eq_true rfl⟩ dL_law_255 (fun v2 w H locs hp2 hM => ?_)
  obtain ⟨ev, rfl⟩ := Prod.mk.inj (hp.symm.trans hp2)
  exact lv_icmp_eq (tgt := 488) hx hb dL_law_258 (by decide) (fun _ => K _ _ ⟨tc, c1, st, tm, u, bs, bt, rn, ri, fo, th, ty_walk hI hp, hok, hom, hM⟩) (fun c9 => absurd ev c9)
set_option maxHeartbeats 4000000 in
theorem tl_c5 {p : Program} {l : Launch} {e : Env} {s : State} {m : MethodId} {args : Array Value} {below : List Frame} {meth : Method} {c : Code} {D : va_G} {cdx cdm : Nat → ClassId} {b L : Nat} {xs : Nat → Int32} {A : Nat → Prop} {qx qm : Nat} {adx adm : Nat → Nat} {H : Heap} {locs : List Loc} {ls : Array Slot} {Q : State → Prop} {i : Nat} (C : tl_C p m c s args D cdx cdm b L xs A) (hi : i + 5 ≤ L) (hl : lv_has ls 4 [(0, .ref b), (1, .ref qx), (2, .ref qm), (3, .int (nI i))]) (hV : tl_V D A s.heap H locs qx adx cdx qm adm cdm) (K : ∀ (H : Heap) (locs : List Loc), tl_V D A s.heap H locs qx adx cdx qm adm cdm → W p l e room_1 s m args below meth c H locs 14 636 Q (F0 m 488 ls [])) : W p l e room_1 s m args below meth c H locs 14 636 Q (F0 m 263 ls []) := by
  obtain ⟨tc, c1, st, tm, wk, bs, bt, rn, ri, fo, th, hI, hok, hom, hM⟩ := hV
  obtain ⟨hF, hKX, hKM, hX, hbl, hbA, hA, hL⟩ := C
  have hx := hF.1
  have hb := hF.2.1
  have hts := hF.2.2.2.2
  refine lv_aload_n hx hb dL_law_263 rfl (lv_at hl 1 rfl) ?_
  refine lv_aload_n hx hb dL_law_264 rfl (lv_at hl 0 rfl) ?_
  refine lv_iload_n hx hb dL_law_265 rfl (lv_at hl 3 rfl) ?_
  refine lv_iconst (v := nI 1) hx hb dL_law_266 (by decide +kernel) ?_
  refine tw_iadd hx hb dL_law_267 ?_
  refine tl_ld hx hb hX hbl hbA hM.2.2 (by omega) hL dL_law_268 ?_
  refine lv_aload_n hx hb dL_law_269 rfl (lv_at hl 0 rfl) ?_
  refine lv_iload_n hx hb dL_law_270 rfl (lv_at hl 3 rfl) ?_
  refine lv_iconst (v := nI 2) hx hb dL_law_271 (by decide +kernel) ?_
  refine tw_iadd hx hb dL_law_272 ?_
  refine tl_ld hx hb hX hbl hbA hM.2.2 (by omega) hL dL_law_273 ?_
  refine lv_aload_n hx hb dL_law_274 rfl (lv_at hl 0 rfl) ?_
  refine lv_iload_n hx hb dL_law_275 rfl (lv_at hl 3 rfl) ?_
  refine lv_iconst (v := nI 3) hx hb dL_law_276 (by decide +kernel) ?_
  refine tw_iadd hx hb dL_law_277 ?_
  refine tl_ld hx hb hX hbl hbA hM.2.2 (by omega) hL dL_law_278 ?_
  refine lv_aload_n hx hb dL_law_279 rfl (lv_at hl 0 rfl) ?_
  refine lv_iload_n hx hb dL_law_280 rfl (lv_at hl 3 rfl) ?_
  refine lv_iconst (v := nI 4) hx hb dL_law_281 (by decide +kernel) ?_
  refine tw_iadd hx hb dL_law_282 ?_
  refine tl_ld hx hb hX hbl hbA hM.2.2 (by omega) hL dL_law_283 ?_
  refine tl_callX (As := [.int (xs (i + 1)), .int (xs (i + 2)), .int (xs (i + 3)), .int (xs (i + 4))]) (tx_arrivalM l D (x1 := xs (i + 1)) (x2 := xs (i + 2)) (x3 := xs (i + 3)) (x4 := xs (i + 4)) hI hok) hF hKX (cwV 4 hts (lw_V q83 q84 q85 q14 q86) rfl rfl rfl (by decide +kernel) ⟨Nat.le_of_ble_eq_true rfl, Nat.le_of_ble_eq_true rfl⟩) hA hM rfl hl.1 rfl (Nat.le_of_ble_eq_true rfl) ⟨Nat.le_of_ble_eq_true rfl, Nat.le_of_ble_eq_true rfl⟩ dL_law_284 (fun v u H locs hp hM => ?_)
  have hM : tr_M D A s.heap H locs (tr_wM qm adm cdm tc c1 st tm wk fo th ++ tr_wX qx adx cdx tc c1 st tm wk u.1 u.2.1 u.2.2.1 u.2.2.2) := hM
  refine lv_aload_n hx hb dL_law_287 rfl (lv_at hl 2 rfl) ?_
  refine lv_aload_n hx hb dL_law_288 rfl (lv_at hl 0 rfl) ?_
  refine lv_iload_n hx hb dL_law_289 rfl (lv_at hl 3 rfl) ?_
  refine lv_iconst (v := nI 1) hx hb dL_law_290 (by decide +kernel) ?_
  refine tw_iadd hx hb dL_law_291 ?_
  refine tl_ld hx hb hX hbl hbA hM.2.2 (by omega) hL dL_law_292 ?_
  refine lv_aload_n hx hb dL_law_293 rfl (lv_at hl 0 rfl) ?_
  refine lv_iload_n hx hb dL_law_294 rfl (lv_at hl 3 rfl) ?_
  refine lv_iconst (v := nI 2) hx hb dL_law_295 (by decide +kernel) ?_
  refine tw_iadd hx hb dL_law_296 ?_
  refine tl_ld hx hb hX hbl hbA hM.2.2 (by omega) hL dL_law_297 ?_
  refine lv_aload_n hx hb dL_law_298 rfl (lv_at hl 0 rfl) ?_
  refine lv_iload_n hx hb dL_law_299 rfl (lv_at hl 3 rfl) ?_
  refine lv_iconst (v := nI 3) hx hb dL_law_300 (by decide +kernel) ?_
  refine tw_iadd hx hb dL_law_301 ?_
  refine tl_ld hx hb hX hbl hbA hM.2.2 (by omega) hL dL_law_302 ?_
  refine lv_aload_n hx hb dL_law_303 rfl (lv_at hl 0 rfl) ?_
  refine lv_iload_n hx hb dL_law_304 rfl (lv_at hl 3 rfl) ?_
  refine lv_iconst (v := nI 4) hx hb dL_law_305 (by decide +kernel) ?_
  refine tw_iadd hx hb dL_law_306 ?_
  refine tl_ld hx hb hX hbl hbA hM.2.2 (by omega) hL dL_law_307 ?_
  refine tl_callM (As := [.int (xs (i + 1)), .int (xs (i + 2)), .int (xs (i + 3)), .int (xs (i + 4))]) (tm_arrivalM l D (x1 := xs (i + 1)) (x2 := xs (i + 2)) (x3 := xs (i + 3)) (x4 := xs (i + 4)) hI hom) hF hKM (cwV 4 hts (lw_V q180 q181 q182 q15 q183) rfl rfl rfl (by decide +kernel) ⟨Nat.le_of_ble_eq_true rfl, Nat.le_of_ble_eq_true rfl⟩) hA hM rfl hl.1 rfl (Nat.le_of_ble_eq_true rfl) ⟨Nat.le_of_ble_eq_true rfl, Nat.le_of_ble_eq_true rfl⟩ dL_law_308 (fun v2 w H locs hp2 hM => ?_)
  have hM : tr_M D A s.heap H locs (tr_wX qx adx cdx tc c1 st tm wk u.1 u.2.1 u.2.2.1 u.2.2.2 ++ tr_wM qm adm cdm tc c1 st tm wk w.1 w.2) := hM
  have ev : v = v2 := hp.1.trans ((te_arr hI _ _ _ _).trans hp2.1.symm)
  exact lv_icmp_eq (tgt := 488) hx hb dL_law_311 (by decide) (fun _ => K _ _ ⟨tc, c1, st, tm, wk, u.1, u.2.1, u.2.2.1, u.2.2.2, w.1, w.2, hI, hp.2, hp2.2, hM⟩) (fun c9 => absurd ev c9)
set_option maxHeartbeats 4000000 in
theorem tl_c6 {p : Program} {l : Launch} {e : Env} {s : State} {m : MethodId} {args : Array Value} {below : List Frame} {meth : Method} {c : Code} {D : va_G} {cdx cdm : Nat → ClassId} {b L : Nat} {xs : Nat → Int32} {A : Nat → Prop} {qx qm : Nat} {adx adm : Nat → Nat} {H : Heap} {locs : List Loc} {ls : Array Slot} {Q : State → Prop} {i : Nat} (C : tl_C p m c s args D cdx cdm b L xs A) (hi : i + 5 ≤ L) (hl : lv_has ls 4 [(0, .ref b), (1, .ref qx), (2, .ref qm), (3, .int (nI i))]) (hV : tl_V D A s.heap H locs qx adx cdx qm adm cdm) (K : ∀ (H : Heap) (locs : List Loc), tl_V D A s.heap H locs qx adx cdx qm adm cdm → W p l e room_1 s m args below meth c H locs 14 636 Q (F0 m 488 ls [])) : W p l e room_1 s m args below meth c H locs 14 636 Q (F0 m 316 ls []) := by
  obtain ⟨tc, c1, st, tm, wk, bs, bt, rn, ri, fo, th, hI, hok, hom, hM⟩ := hV
  obtain ⟨hF, hKX, hKM, hX, hbl, hbA, hA, hL⟩ := C
  have hx := hF.1
  have hb := hF.2.1
  have hts := hF.2.2.2.2
  refine lv_aload_n hx hb dL_law_316 rfl (lv_at hl 1 rfl) ?_
  refine lv_aload_n hx hb dL_law_317 rfl (lv_at hl 0 rfl) ?_
  refine lv_iload_n hx hb dL_law_318 rfl (lv_at hl 3 rfl) ?_
  refine lv_iconst (v := nI 1) hx hb dL_law_319 (by decide +kernel) ?_
  refine tw_iadd hx hb dL_law_320 ?_
  refine tl_ld hx hb hX hbl hbA hM.2.2 (by omega) hL dL_law_321 ?_
  refine lv_aload_n hx hb dL_law_322 rfl (lv_at hl 0 rfl) ?_
  refine lv_iload_n hx hb dL_law_323 rfl (lv_at hl 3 rfl) ?_
  refine lv_iconst (v := nI 2) hx hb dL_law_324 (by decide +kernel) ?_
  refine tw_iadd hx hb dL_law_325 ?_
  refine tl_ld hx hb hX hbl hbA hM.2.2 (by omega) hL dL_law_326 ?_
  refine lv_aload_n hx hb dL_law_327 rfl (lv_at hl 0 rfl) ?_
  refine lv_iload_n hx hb dL_law_328 rfl (lv_at hl 3 rfl) ?_
  refine lv_iconst (v := nI 3) hx hb dL_law_329 (by decide +kernel) ?_
  refine tw_iadd hx hb dL_law_330 ?_
  refine tl_ld hx hb hX hbl hbA hM.2.2 (by omega) hL dL_law_331 ?_
  refine tl_callX (As := [.int (xs (i + 1)), .int (xs (i + 2)), .int (xs (i + 3))]) (tx_fewestM l D (x1 := xs (i + 1)) (x2 := xs (i + 2)) (x3 := xs (i + 3)) hI hok) hF hKX (cwV 3 hts (lw_V q108 q109 q110 q14 q111) rfl rfl rfl (by decide +kernel) ⟨Nat.le_of_ble_eq_true rfl, Nat.le_of_ble_eq_true rfl⟩) hA hM rfl hl.1 rfl (Nat.le_of_ble_eq_true rfl) ⟨Nat.le_of_ble_eq_true rfl, Nat.le_of_ble_eq_true rfl⟩ dL_law_332 (fun v u H locs hp hM => ?_)
  have hM : tr_M D A s.heap H locs (tr_wM qm adm cdm tc c1 st tm wk fo th ++ tr_wX qx adx cdx tc c1 st tm wk u.1 u.2.1 u.2.2.1 u.2.2.2) := hM
  refine lv_aload_n hx hb dL_law_335 rfl (lv_at hl 2 rfl) ?_
  refine lv_aload_n hx hb dL_law_336 rfl (lv_at hl 0 rfl) ?_
  refine lv_iload_n hx hb dL_law_337 rfl (lv_at hl 3 rfl) ?_
  refine lv_iconst (v := nI 1) hx hb dL_law_338 (by decide +kernel) ?_
  refine tw_iadd hx hb dL_law_339 ?_
  refine tl_ld hx hb hX hbl hbA hM.2.2 (by omega) hL dL_law_340 ?_
  refine lv_aload_n hx hb dL_law_341 rfl (lv_at hl 0 rfl) ?_
  refine lv_iload_n hx hb dL_law_342 rfl (lv_at hl 3 rfl) ?_
  refine lv_iconst (v := nI 2) hx hb dL_law_343 (by decide +kernel) ?_
  refine tw_iadd hx hb dL_law_344 ?_
  refine tl_ld hx hb hX hbl hbA hM.2.2 (by omega) hL dL_law_345 ?_
  refine lv_aload_n hx hb dL_law_346 rfl (lv_at hl 0 rfl) ?_
  refine lv_iload_n hx hb dL_law_347 rfl (lv_at hl 3 rfl) ?_
  refine lv_iconst (v := nI 3) hx hb dL_law_348 (by decide +kernel) ?_
  refine tw_iadd hx hb dL_law_349 ?_
  refine tl_ld hx hb hX hbl hbA hM.2.2 (by omega) hL dL_law_350 ?_
  refine tl_callM (As := [.int (xs (i + 1)), .int (xs (i + 2)), .int (xs (i + 3))]) (tm_fewestM l D (x1 := xs (i + 1)) (x2 := xs (i + 2)) (x3 := xs (i + 3)) hI hom) hF hKM (cwV 3 hts (lw_V q201 q202 q203 q15 q204) rfl rfl rfl (by decide +kernel) ⟨Nat.le_of_ble_eq_true rfl, Nat.le_of_ble_eq_true rfl⟩) hA hM rfl hl.1 rfl (Nat.le_of_ble_eq_true rfl) ⟨Nat.le_of_ble_eq_true rfl, Nat.le_of_ble_eq_true rfl⟩ dL_law_351 (fun v2 w H locs hp2 hM => ?_)
  have hM : tr_M D A s.heap H locs (tr_wX qx adx cdx tc c1 st tm wk u.1 u.2.1 u.2.2.1 u.2.2.2 ++ tr_wM qm adm cdm tc c1 st tm wk w.1 w.2) := hM
  have ev : v = v2 := hp.1.trans ((te_few hI _ _ _).trans hp2.1.symm)
  exact lv_icmp_eq (tgt := 488) hx hb dL_law_354 (by decide) (fun _ => K _ _ ⟨tc, c1, st, tm, wk, u.1, u.2.1, u.2.2.1, u.2.2.2, w.1, w.2, hI, hp.2, hp2.2, hM⟩) (fun c9 => absurd ev c9)
set_option maxHeartbeats 4000000 in
theorem tl_c7 {p : Program} {l : Launch} {e : Env} {s : State} {m : MethodId} {args : Array Value} {below : List Frame} {meth : Method} {c : Code} {D : va_G} {cdx cdm : Nat → ClassId} {b L : Nat} {xs : Nat → Int32} {A : Nat → Prop} {qx qm : Nat} {adx adm : Nat → Nat} {H : Heap} {locs : List Loc} {ls : Array Slot} {Q : State → Prop} {i : Nat} (C : tl_C p m c s args D cdx cdm b L xs A) (hi : i + 5 ≤ L) (hl : lv_has ls 4 [(0, .ref b), (1, .ref qx), (2, .ref qm), (3, .int (nI i))]) (hV : tl_V D A s.heap H locs qx adx cdx qm adm cdm) (K : ∀ (H : Heap) (locs : List Loc), tl_V D A s.heap H locs qx adx cdx qm adm cdm → W p l e room_1 s m args below meth c H locs 14 636 Q (F0 m 488 ls [])) : W p l e room_1 s m args below meth c H locs 14 636 Q (F0 m 359 ls []) := by
  obtain ⟨tc, c1, st, tm, wk, bs, bt, rn, ri, fo, th, hI, hok, hom, hM⟩ := hV
  obtain ⟨hF, hKX, hKM, hX, hbl, hbA, hA, hL⟩ := C
  have hx := hF.1
  have hb := hF.2.1
  have hts := hF.2.2.2.2
  refine lv_aload_n hx hb dL_law_359 rfl (lv_at hl 1 rfl) ?_
  refine lv_aload_n hx hb dL_law_360 rfl (lv_at hl 0 rfl) ?_
  refine lv_iload_n hx hb dL_law_361 rfl (lv_at hl 3 rfl) ?_
  refine lv_iconst (v := nI 1) hx hb dL_law_362 (by decide +kernel) ?_
  refine tw_iadd hx hb dL_law_363 ?_
  refine tl_ld hx hb hX hbl hbA hM.2.2 (by omega) hL dL_law_364 ?_
  refine lv_aload_n hx hb dL_law_365 rfl (lv_at hl 0 rfl) ?_
  refine lv_iload_n hx hb dL_law_366 rfl (lv_at hl 3 rfl) ?_
  refine lv_iconst (v := nI 2) hx hb dL_law_367 (by decide +kernel) ?_
  refine tw_iadd hx hb dL_law_368 ?_
  refine tl_ld hx hb hX hbl hbA hM.2.2 (by omega) hL dL_law_369 ?_
  refine lv_aload_n hx hb dL_law_370 rfl (lv_at hl 0 rfl) ?_
  refine lv_iload_n hx hb dL_law_371 rfl (lv_at hl 3 rfl) ?_
  refine lv_iconst (v := nI 3) hx hb dL_law_372 (by decide +kernel) ?_
  refine tw_iadd hx hb dL_law_373 ?_
  refine tl_ld hx hb hX hbl hbA hM.2.2 (by omega) hL dL_law_374 ?_
  refine tl_callX (As := [.int (xs (i + 1)), .int (xs (i + 2)), .int (xs (i + 3))]) (tx_choicesM l D (x1 := xs (i + 1)) (x2 := xs (i + 2)) (x3 := xs (i + 3)) hI hok) hF hKX (cwV 3 hts (lw_V q112 q113 q114 q14 q115) rfl rfl rfl (by decide +kernel) ⟨Nat.le_of_ble_eq_true rfl, Nat.le_of_ble_eq_true rfl⟩) hA hM rfl hl.1 rfl (Nat.le_of_ble_eq_true rfl) ⟨Nat.le_of_ble_eq_true rfl, Nat.le_of_ble_eq_true rfl⟩ dL_law_375 (fun v u H locs hp hM => ?_)
  have hM : tr_M D A s.heap H locs (tr_wM qm adm cdm tc c1 st tm wk fo th ++ tr_wX qx adx cdx tc c1 st tm wk u.1 u.2.1 u.2.2.1 u.2.2.2) := hM
  refine lv_aload_n hx hb dL_law_378 rfl (lv_at hl 2 rfl) ?_
  refine lv_aload_n hx hb dL_law_379 rfl (lv_at hl 0 rfl) ?_
  refine lv_iload_n hx hb dL_law_380 rfl (lv_at hl 3 rfl) ?_
  refine lv_iconst (v := nI 1) hx hb dL_law_381 (by decide +kernel) ?_
  refine tw_iadd hx hb dL_law_382 ?_
  refine tl_ld hx hb hX hbl hbA hM.2.2 (by omega) hL dL_law_383 ?_
  refine lv_aload_n hx hb dL_law_384 rfl (lv_at hl 0 rfl) ?_
  refine lv_iload_n hx hb dL_law_385 rfl (lv_at hl 3 rfl) ?_
  refine lv_iconst (v := nI 2) hx hb dL_law_386 (by decide +kernel) ?_
  refine tw_iadd hx hb dL_law_387 ?_
  refine tl_ld hx hb hX hbl hbA hM.2.2 (by omega) hL dL_law_388 ?_
  refine lv_aload_n hx hb dL_law_389 rfl (lv_at hl 0 rfl) ?_
  refine lv_iload_n hx hb dL_law_390 rfl (lv_at hl 3 rfl) ?_
  refine lv_iconst (v := nI 3) hx hb dL_law_391 (by decide +kernel) ?_
  refine tw_iadd hx hb dL_law_392 ?_
  refine tl_ld hx hb hX hbl hbA hM.2.2 (by omega) hL dL_law_393 ?_
  refine tl_callM (As := [.int (xs (i + 1)), .int (xs (i + 2)), .int (xs (i + 3))]) (tm_choicesM l D (x1 := xs (i + 1)) (x2 := xs (i + 2)) (x3 := xs (i + 3)) hI hom) hF hKM (cwV 3 hts (lw_V q205 q206 q207 q15 q208) rfl rfl rfl (by decide +kernel) ⟨Nat.le_of_ble_eq_true rfl, Nat.le_of_ble_eq_true rfl⟩) hA hM rfl hl.1 rfl (Nat.le_of_ble_eq_true rfl) ⟨Nat.le_of_ble_eq_true rfl, Nat.le_of_ble_eq_true rfl⟩ dL_law_394 (fun v2 w H locs hp2 hM => ?_)
  have hM : tr_M D A s.heap H locs (tr_wX qx adx cdx tc c1 st tm wk u.1 u.2.1 u.2.2.1 u.2.2.2 ++ tr_wM qm adm cdm tc c1 st tm wk w.1 w.2) := hM
  have ev : v = v2 := hp.1.trans ((te_cho hI hok.1 _ _ _).trans hp2.1.symm)
  exact lv_icmp_eq (tgt := 488) hx hb dL_law_397 (by decide) (fun _ => K _ _ ⟨tc, c1, st, tm, wk, u.1, u.2.1, u.2.2.1, u.2.2.2, w.1, w.2, hI, hp.2, hp2.2, hM⟩) (fun c9 => absurd ev c9)
set_option maxHeartbeats 4000000 in
theorem tl_c8 {p : Program} {l : Launch} {e : Env} {s : State} {m : MethodId} {args : Array Value} {below : List Frame} {meth : Method} {c : Code} {D : va_G} {cdx cdm : Nat → ClassId} {b L : Nat} {xs : Nat → Int32} {A : Nat → Prop} {qx qm : Nat} {adx adm : Nat → Nat} {H : Heap} {locs : List Loc} {ls : Array Slot} {Q : State → Prop} {i : Nat} (C : tl_C p m c s args D cdx cdm b L xs A) (hi : i + 5 ≤ L) (hl : lv_has ls 4 [(0, .ref b), (1, .ref qx), (2, .ref qm), (3, .int (nI i))]) (hV : tl_V D A s.heap H locs qx adx cdx qm adm cdm) (K : ∀ (H : Heap) (locs : List Loc), tl_V D A s.heap H locs qx adx cdx qm adm cdm → W p l e room_1 s m args below meth c H locs 14 636 Q (F0 m 488 ls [])) : W p l e room_1 s m args below meth c H locs 14 636 Q (F0 m 402 ls []) := by
  obtain ⟨tc, c1, st, tm, wk, bs, bt, rn, ri, fo, th, hI, hok, hom, hM⟩ := hV
  obtain ⟨hF, hKX, hKM, hX, hbl, hbA, hA, hL⟩ := C
  have hx := hF.1
  have hb := hF.2.1
  have hts := hF.2.2.2.2
  refine lv_aload_n hx hb dL_law_402 rfl (lv_at hl 1 rfl) ?_
  refine lv_aload_n hx hb dL_law_403 rfl (lv_at hl 0 rfl) ?_
  refine lv_iload_n hx hb dL_law_404 rfl (lv_at hl 3 rfl) ?_
  refine lv_iconst (v := nI 1) hx hb dL_law_405 (by decide +kernel) ?_
  refine tw_iadd hx hb dL_law_406 ?_
  refine tl_ld hx hb hX hbl hbA hM.2.2 (by omega) hL dL_law_407 ?_
  refine lv_aload_n hx hb dL_law_408 rfl (lv_at hl 0 rfl) ?_
  refine lv_iload_n hx hb dL_law_409 rfl (lv_at hl 3 rfl) ?_
  refine lv_iconst (v := nI 2) hx hb dL_law_410 (by decide +kernel) ?_
  refine tw_iadd hx hb dL_law_411 ?_
  refine tl_ld hx hb hX hbl hbA hM.2.2 (by omega) hL dL_law_412 ?_
  refine lv_aload_n hx hb dL_law_413 rfl (lv_at hl 0 rfl) ?_
  refine lv_iload_n hx hb dL_law_414 rfl (lv_at hl 3 rfl) ?_
  refine lv_iconst (v := nI 3) hx hb dL_law_415 (by decide +kernel) ?_
  refine tw_iadd hx hb dL_law_416 ?_
  refine tl_ld hx hb hX hbl hbA hM.2.2 (by omega) hL dL_law_417 ?_
  refine tl_callX (As := [.int (xs (i + 1)), .int (xs (i + 2)), .int (xs (i + 3))]) (tx_leaveM l D (x1 := xs (i + 1)) (x2 := xs (i + 2)) (x3 := xs (i + 3)) hI hok) hF hKX (cwV 3 hts (lw_V q116 q117 q118 q14 q119) rfl rfl rfl (by decide +kernel) ⟨Nat.le_of_ble_eq_true rfl, Nat.le_of_ble_eq_true rfl⟩) hA hM rfl hl.1 rfl (Nat.le_of_ble_eq_true rfl) ⟨Nat.le_of_ble_eq_true rfl, Nat.le_of_ble_eq_true rfl⟩ dL_law_418 (fun v u H locs hp hM => ?_)
  have hM : tr_M D A s.heap H locs (tr_wM qm adm cdm tc c1 st tm wk fo th ++ tr_wX qx adx cdx tc c1 st tm wk u.1 u.2.1 u.2.2.1 u.2.2.2) := hM
  refine lv_aload_n hx hb dL_law_421 rfl (lv_at hl 2 rfl) ?_
  refine lv_aload_n hx hb dL_law_422 rfl (lv_at hl 0 rfl) ?_
  refine lv_iload_n hx hb dL_law_423 rfl (lv_at hl 3 rfl) ?_
  refine lv_iconst (v := nI 1) hx hb dL_law_424 (by decide +kernel) ?_
  refine tw_iadd hx hb dL_law_425 ?_
  refine tl_ld hx hb hX hbl hbA hM.2.2 (by omega) hL dL_law_426 ?_
  refine lv_aload_n hx hb dL_law_427 rfl (lv_at hl 0 rfl) ?_
  refine lv_iload_n hx hb dL_law_428 rfl (lv_at hl 3 rfl) ?_
  refine lv_iconst (v := nI 2) hx hb dL_law_429 (by decide +kernel) ?_
  refine tw_iadd hx hb dL_law_430 ?_
  refine tl_ld hx hb hX hbl hbA hM.2.2 (by omega) hL dL_law_431 ?_
  refine lv_aload_n hx hb dL_law_432 rfl (lv_at hl 0 rfl) ?_
  refine lv_iload_n hx hb dL_law_433 rfl (lv_at hl 3 rfl) ?_
  refine lv_iconst (v := nI 3) hx hb dL_law_434 (by decide +kernel) ?_
  refine tw_iadd hx hb dL_law_435 ?_
  refine tl_ld hx hb hX hbl hbA hM.2.2 (by omega) hL dL_law_436 ?_
  refine tl_callM (As := [.int (xs (i + 1)), .int (xs (i + 2)), .int (xs (i + 3))]) (tm_leaveM l D (x1 := xs (i + 1)) (x2 := xs (i + 2)) (x3 := xs (i + 3)) hI hom) hF hKM (cwV 3 hts (lw_V q209 q210 q211 q15 q212) rfl rfl rfl (by decide +kernel) ⟨Nat.le_of_ble_eq_true rfl, Nat.le_of_ble_eq_true rfl⟩) hA hM rfl hl.1 rfl (Nat.le_of_ble_eq_true rfl) ⟨Nat.le_of_ble_eq_true rfl, Nat.le_of_ble_eq_true rfl⟩ dL_law_437 (fun v2 w H locs hp2 hM => ?_)
  have hM : tr_M D A s.heap H locs (tr_wX qx adx cdx tc c1 st tm wk u.1 u.2.1 u.2.2.1 u.2.2.2 ++ tr_wM qm adm cdm tc c1 st tm wk w.1 w.2) := hM
  have ev : v = v2 := tl_lea_u hp.1 hp2.1
  exact lv_icmp_eq (tgt := 488) hx hb dL_law_440 (by decide) (fun _ => K _ _ ⟨tc, c1, st, tm, wk, u.1, u.2.1, u.2.2.1, u.2.2.2, w.1, w.2, hI, hp.2, hp2.2, hM⟩) (fun c9 => absurd ev c9)
set_option maxHeartbeats 4000000 in
theorem tl_c9 {p : Program} {l : Launch} {e : Env} {s : State} {m : MethodId} {args : Array Value} {below : List Frame} {meth : Method} {c : Code} {D : va_G} {cdx cdm : Nat → ClassId} {b L : Nat} {xs : Nat → Int32} {A : Nat → Prop} {qx qm : Nat} {adx adm : Nat → Nat} {H : Heap} {locs : List Loc} {ls : Array Slot} {Q : State → Prop} {i : Nat} (C : tl_C p m c s args D cdx cdm b L xs A) (hi : i + 5 ≤ L) (hl : lv_has ls 4 [(0, .ref b), (1, .ref qx), (2, .ref qm), (3, .int (nI i))]) (hV : tl_V D A s.heap H locs qx adx cdx qm adm cdm) (K : ∀ (H : Heap) (locs : List Loc), tl_V D A s.heap H locs qx adx cdx qm adm cdm → W p l e room_1 s m args below meth c H locs 14 636 Q (F0 m 488 ls [])) : W p l e room_1 s m args below meth c H locs 14 636 Q (F0 m 445 ls []) := by
  obtain ⟨tc, c1, st, tm, wk, bs, bt, rn, ri, fo, th, hI, hok, hom, hM⟩ := hV
  obtain ⟨hF, hKX, hKM, hX, hbl, hbA, hA, hL⟩ := C
  have hx := hF.1
  have hb := hF.2.1
  have hts := hF.2.2.2.2
  refine lv_aload_n hx hb dL_law_445 rfl (lv_at hl 1 rfl) ?_
  refine lv_aload_n hx hb dL_law_446 rfl (lv_at hl 0 rfl) ?_
  refine lv_iload_n hx hb dL_law_447 rfl (lv_at hl 3 rfl) ?_
  refine lv_iconst (v := nI 1) hx hb dL_law_448 (by decide +kernel) ?_
  refine tw_iadd hx hb dL_law_449 ?_
  refine tl_ld hx hb hX hbl hbA hM.2.2 (by omega) hL dL_law_450 ?_
  refine lv_aload_n hx hb dL_law_451 rfl (lv_at hl 0 rfl) ?_
  refine lv_iload_n hx hb dL_law_452 rfl (lv_at hl 3 rfl) ?_
  refine lv_iconst (v := nI 2) hx hb dL_law_453 (by decide +kernel) ?_
  refine tw_iadd hx hb dL_law_454 ?_
  refine tl_ld hx hb hX hbl hbA hM.2.2 (by omega) hL dL_law_455 ?_
  refine lv_aload_n hx hb dL_law_456 rfl (lv_at hl 0 rfl) ?_
  refine lv_iload_n hx hb dL_law_457 rfl (lv_at hl 3 rfl) ?_
  refine lv_iconst (v := nI 3) hx hb dL_law_458 (by decide +kernel) ?_
  refine tw_iadd hx hb dL_law_459 ?_
  refine tl_ld hx hb hX hbl hbA hM.2.2 (by omega) hL dL_law_460 ?_
  refine tl_callX (As := [.int (xs (i + 1)), .int (xs (i + 2)), .int (xs (i + 3))]) (tx_withinM l D (x1 := xs (i + 1)) (x2 := xs (i + 2)) (x3 := xs (i + 3)) hI hok) hF hKX (cwV 3 hts (lw_V q120 q121 q122 q14 q123) rfl rfl rfl (by decide +kernel) ⟨Nat.le_of_ble_eq_true rfl, Nat.le_of_ble_eq_true rfl⟩) hA hM rfl hl.1 rfl (Nat.le_of_ble_eq_true rfl) ⟨Nat.le_of_ble_eq_true rfl, Nat.le_of_ble_eq_true rfl⟩ dL_law_461 (fun v u H locs hp hM => ?_)
  have hM : tr_M D A s.heap H locs (tr_wM qm adm cdm tc c1 st tm wk fo th ++ tr_wX qx adx cdx tc c1 st tm wk u.1 u.2.1 u.2.2.1 u.2.2.2) := hM
  refine lv_aload_n hx hb dL_law_464 rfl (lv_at hl 2 rfl) ?_
  refine lv_aload_n hx hb dL_law_465 rfl (lv_at hl 0 rfl) ?_
  refine lv_iload_n hx hb dL_law_466 rfl (lv_at hl 3 rfl) ?_
  refine lv_iconst (v := nI 1) hx hb dL_law_467 (by decide +kernel) ?_
  refine tw_iadd hx hb dL_law_468 ?_
  refine tl_ld hx hb hX hbl hbA hM.2.2 (by omega) hL dL_law_469 ?_
  refine lv_aload_n hx hb dL_law_470 rfl (lv_at hl 0 rfl) ?_
  refine lv_iload_n hx hb dL_law_471 rfl (lv_at hl 3 rfl) ?_
  refine lv_iconst (v := nI 2) hx hb dL_law_472 (by decide +kernel) ?_
  refine tw_iadd hx hb dL_law_473 ?_
  refine tl_ld hx hb hX hbl hbA hM.2.2 (by omega) hL dL_law_474 ?_
  refine lv_aload_n hx hb dL_law_475 rfl (lv_at hl 0 rfl) ?_
  refine lv_iload_n hx hb dL_law_476 rfl (lv_at hl 3 rfl) ?_
  refine lv_iconst (v := nI 3) hx hb dL_law_477 (by decide +kernel) ?_
  refine tw_iadd hx hb dL_law_478 ?_
  refine tl_ld hx hb hX hbl hbA hM.2.2 (by omega) hL dL_law_479 ?_
  refine tl_callM (As := [.int (xs (i + 1)), .int (xs (i + 2)), .int (xs (i + 3))]) (tm_withinM l D (x1 := xs (i + 1)) (x2 := xs (i + 2)) (x3 := xs (i + 3)) hI hom) hF hKM (cwV 3 hts (lw_V q213 q214 q215 q15 q216) rfl rfl rfl (by decide +kernel) ⟨Nat.le_of_ble_eq_true rfl, Nat.le_of_ble_eq_true rfl⟩) hA hM rfl hl.1 rfl (Nat.le_of_ble_eq_true rfl) ⟨Nat.le_of_ble_eq_true rfl, Nat.le_of_ble_eq_true rfl⟩ dL_law_480 (fun v2 w H locs hp2 hM => ?_)
  have hM : tr_M D A s.heap H locs (tr_wX qx adx cdx tc c1 st tm wk u.1 u.2.1 u.2.2.1 u.2.2.2 ++ tr_wM qm adm cdm tc c1 st tm wk w.1 w.2) := hM
  have ev : v = v2 := hp.1.trans ((te_wit hI _ _ _).trans hp2.1.symm)
  exact lv_icmp_eq (tgt := 488) hx hb dL_law_483 (by decide) (fun _ => K _ _ ⟨tc, c1, st, tm, wk, u.1, u.2.1, u.2.2.1, u.2.2.2, w.1, w.2, hI, hp.2, hp2.2, hM⟩) (fun c9 => absurd ev c9)
end
section
set_option maxRecDepth 100000
set_option maxHeartbeats 4000000 in
/-- the law's loop, at its head -/
theorem tl_loop {p : Program} {l : Launch} {e : Env} {s : State} {m : MethodId} {below : List Frame} {meth : Method} {c : Code} {D : va_G} {cdx cdm : Nat → ClassId} {b L : Nat} {xs : Nat → Int32} {A : Nat → Prop} {qx qm : Nat} {adx adm : Nat → Nat} (C : tl_C p m c s #[Value.ref b] D cdx cdm b L xs A) (hr : meth.sig.returnType = ret) (hlocks : meth.locks = false) (hAe : ∀ q : Nat, A q → s.heap.size ≤ q) :
    ∀ (n i : Nat) (H : Heap) (locs : List Loc) (ls : Array Slot), i ≤ L → L + 1 ≤ i + n → tl_V D A s.heap H locs qx adx cdx qm adm cdm → lv_has ls 4 [(0, .ref b), (1, .ref qx), (2, .ref qm), (3, .int (nI i))] → W p l e room_1 s m #[Value.ref b] below meth c H locs 14 636 (lw_Z below #[Value.ref b] s) (F0 m 18 ls []) := by
  intro n
  induction n with
  | zero => intro i H locs ls h1 h2; exact absurd h2 (by omega)
  | succ n ih =>
    intro i H locs ls h1 h2 hV hl
    have C' := C
    obtain ⟨hF, hKX, hKM, hX, hbl, hbA, hA, hL⟩ := C'
    have hx := hF.1
    have hb := hF.2.1
    have hS : va_S A s.heap H locs := by
      obtain ⟨tc, c1, st, tm, wk, bs, bt, rn, ri, fo, th, -, -, -, hM⟩ := hV
      exact hM.2.2
    refine lv_iload_n hx hb dL_law_18 rfl (lv_at hl 3 rfl) ?_
    refine lv_aload_n hx hb dL_law_19 rfl (lv_at hl 0 rfl) ?_
    refine va_slen hx hb hX hbl hbA hS dL_law_20 ?_
    refine lv_iconst (v := nI 5) hx hb dL_law_21 (by decide +kernel) ?_
    refine lv_isub hx hb dL_law_22 ?_
    refine lv_icmp_gt (tgt := 494) hx hb dL_law_23 (by decide) (fun c_1 => ?_) (fun c_1 => ?_)
    · refine lv_iconst (v := 1) hx hb dL_law_494 (by decide +kernel) ?_
      refine va_forget (fun q hq => hAe _ (hS.2.2 q hq)) ?_
      refine W.widen (k := 600000) (n := 7290000) (by decide) (by decide) ?_
      exact lw_ret hx hb hr hlocks dL_law_495
    · have hi5 : i + 5 ≤ L := tl_5 hL h1 c_1
      have K : ∀ (H : Heap) (locs : List Loc), tl_V D A s.heap H locs qx adx cdx qm adm cdm → W p l e room_1 s m #[Value.ref b] below meth c H locs 14 636 (lw_Z below #[Value.ref b] s) (F0 m 488 ls []) := by
        intro H locs hV
        refine lv_iinc (v := nI (i + 5)) (lv' := [(3, .int (nI (i + 5))), (0, .ref b), (1, .ref qx), (2, .ref qm)]) hx hb dL_law_488 hl (k := 3) rfl (tr_inc5 i) (by decide) rfl (fun ls hl => ?_)
        refine lv_goto (tgt := 18) hx hb dL_law_491 (by decide) ?_
        exact ih (i + 5) _ _ _ hi5 (by omega) hV (lv_sub hl [1, 2, 3, 0] rfl)
      refine lv_aload_n hx hb dL_law_26 rfl (lv_at hl 0 rfl) ?_
      refine lv_iload_n hx hb dL_law_27 rfl (lv_at hl 3 rfl) ?_
      refine tl_ld hx hb hX hbl hbA hS (by omega) hL dL_law_28 ?_
      refine lv_bipush (v := 15) hx hb dL_law_29 (by decide +kernel) ?_
      refine lv_iand hx hb dL_law_31 ?_
      obtain ⟨j, hj, ej⟩ := pk_andE (xs i) (m := 15) 4 (by decide +kernel)
      rw [ej]
      rcases (show j = 0 ∨ j = 1 ∨ j = 2 ∨ j = 3 ∨ j = 4 ∨ j = 5 ∨ j = 6 ∨ j = 7 ∨ j = 8 ∨ j = 9 ∨ 10 ≤ j by omega) with rfl | rfl | rfl | rfl | rfl | rfl | rfl | rfl | rfl | rfl | hj10
      · exact lv_tableIn (off := 56) (tgt := 88) hx hb dL_law_32 (by decide +kernel) (by decide +kernel) (by decide +kernel) (by decide) (tl_c0 C hi5 hl hV K)
      · exact lv_tableIn (off := 89) (tgt := 121) hx hb dL_law_32 (by decide +kernel) (by decide +kernel) (by decide +kernel) (by decide) (tl_c1 C hi5 hl hV K)
      · exact lv_tableIn (off := 122) (tgt := 154) hx hb dL_law_32 (by decide +kernel) (by decide +kernel) (by decide +kernel) (by decide) (tl_c2 C hi5 hl hV K)
      · exact lv_tableIn (off := 145) (tgt := 177) hx hb dL_law_32 (by decide +kernel) (by decide +kernel) (by decide +kernel) (by decide) (tl_c3 C hi5 hl hV K)
      · exact lv_tableIn (off := 188) (tgt := 220) hx hb dL_law_32 (by decide +kernel) (by decide +kernel) (by decide +kernel) (by decide) (tl_c4 C hi5 hl hV K)
      · exact lv_tableIn (off := 231) (tgt := 263) hx hb dL_law_32 (by decide +kernel) (by decide +kernel) (by decide +kernel) (by decide) (tl_c5 C hi5 hl hV K)
      · exact lv_tableIn (off := 284) (tgt := 316) hx hb dL_law_32 (by decide +kernel) (by decide +kernel) (by decide +kernel) (by decide) (tl_c6 C hi5 hl hV K)
      · exact lv_tableIn (off := 327) (tgt := 359) hx hb dL_law_32 (by decide +kernel) (by decide +kernel) (by decide +kernel) (by decide) (tl_c7 C hi5 hl hV K)
      · exact lv_tableIn (off := 370) (tgt := 402) hx hb dL_law_32 (by decide +kernel) (by decide +kernel) (by decide +kernel) (by decide) (tl_c8 C hi5 hl hV K)
      · exact lv_tableIn (off := 413) (tgt := 445) hx hb dL_law_32 (by decide +kernel) (by decide +kernel) (by decide +kernel) (by decide) (tl_c9 C hi5 hl hV K)
      · exact lv_tableOut (tgt := 488) hx hb dL_law_32 (Or.inr (by rw [nI_toInt (by omega)]; omega)) (by decide) (K _ _ hV)
set_option maxHeartbeats 4000000 in
/-- from the entry, for every script of at most 320 ints, the law comes to its end with true -/
theorem whole_start {p : Program} {e : Env} {s : State} {m : MethodId} {below : List Frame} {meth : Method} {c : Code} (l : Launch) {b L : Nat} {xs : Nat → Int32} (hL : L ≤ 320) (C0 : lw_At p s m meth c b L xs) : W p l e room_1 s m #[Value.ref b] below meth c s.heap [] 0 0 (lw_Z below #[Value.ref b] s) (entryFrame m ([Value.ref b] : List Value).toArray 4) := by
  obtain ⟨hx, hb, hr, hml, hown, hts0, hX, hbl, hlocks, hgv⟩ := C0
  have hts : ∀ w ∈ lw_all, w.before #[Value.ref b] s = true := fun w h => hts0 w (lw_all_tbl h)
  obtain ⟨c0_, iS0, hKn0⟩ := u_known (C := RX0) (T := TX0) (N := 9) (n := 9) hts in_X0 (hts _ q17)
  obtain ⟨c1_, iS1, hKn1⟩ := u_known (C := RX1) (T := TX1) (N := 7) (n := 7) hts in_X1 (hts _ q125)
  obtain ⟨D, hKc⟩ : ∃ D : va_G, ∀ (k : Nat) (q : vw_C), tr_cl[k]? = some q → u_Kn s q.1 q.2.1 q.2.2 (D.1 k) (D.2 k) := by
    refine ⟨(fun k => if k = 0 then c0_ else c1_, fun k => if k = 0 then iS0 else iS1), ?_⟩
    intro k q hq
    match k, hq with
    | 0, hq => cases hq; exact hKn0
    | 1, hq => cases hq; exact hKn1
    | k + 2, hq => simp [tr_cl] at hq
  have hK : va_K D tr_cl [] s := ⟨hKc, fun k q h => by simp at h⟩
  obtain ⟨A, hAd⟩ : ∃ A : Nat → Prop, A = fun q => s.heap.size ≤ q := ⟨_, rfl⟩
  have hA : ∀ q : Nat, s.heap.size ≤ q → A q := fun q h => by rw [hAd]; exact h
  have hAe : ∀ q : Nat, A q → s.heap.size ≤ q := fun q h => by rw [hAd] at h; exact h
  have hbA : ¬ A b := fun z => absurd (hAe b z) (by omega)
  have hP : va_P D tr_cl [] s.heap := fun k q h => by simp at h
  have hD : va_D A [] := ⟨fun i j p q h => by simp at h, fun k q h => by simp at h⟩
  have hS : va_S A s.heap s.heap [] := va_S.rf
  have hl := lv_entry ([.ref b]) (n := 4) (Nat.le_of_ble_eq_true rfl)
  rw [lg_entry_eq]
  generalize (lg_sl ([.ref b]) ++ List.replicate (4 - (lg_sl ([.ref b])).length) Slot.unset).toArray = ls at hl ⊢
  have hl : lv_has ls 4 [(0, .ref b)] := hl
  refine va_new (ci := 0) (fs := [.int (nI 0), .null, .null, .null, .null, .null, .int (nI 0), .int (nI 0), .null]) (C := RX0) (T := TX0) (N := 9) hx hb hts in_X0 tyX0 tyX0_ok hown (hts _ q16) (hts _ q17) (hts _ q14) hK hP hD hS hA rfl (fun j hj => by rcases (show j = 0 ∨ j = 1 ∨ j = 2 ∨ j = 3 ∨ j = 4 ∨ j = 5 ∨ j = 6 ∨ j = 7 ∨ j = 8 by omega) with rfl | rfl | rfl | rfl | rfl | rfl | rfl | rfl | rfl <;> rfl) (Nat.le_of_ble_eq_true rfl) (Nat.le_of_ble_eq_true rfl) dL_law_0 (fun qx H hP hD hS => ?_)
  have hP : va_P D tr_cl (ix_w0 qx) H := hP
  have hD : va_D A (ix_w0 qx) := hD
  refine lv_dup hx hb dL_law_3 rfl ?_
  have hFc := va_free (wc := ix_w0 qx) hD hS hA [0] rfl
  refine va_callv (va_runI (As := []) (rest := [.ref qx]) ⟨hx, hb, hml, hown, hts⟩ (ix_init l D qx H.size) (cwI 0 hts (lw_meth q20) rfl rfl rfl (hts _ q14) (hts _ q18) (hts _ q19) rfl (by decide +kernel) ⟨Nat.le_of_ble_eq_true rfl, Nat.le_of_ble_eq_true rfl⟩) ⟨fun a U g mk q => by obtain ⟨q0, q1, qP, qK, qD⟩ := q; exact ⟨q0, q1, qP, va_K.moved (u := U) (U := U.calling g mk a) (Vm.Alike.refl U.vm) qK, qD⟩, fun U hU hW => ⟨rfl, by rw [hU], by rw [hU]; exact hP, va_K.moved hW.alike hK, hD.weaken (fun _ _ _ _ => trivial)⟩⟩ rfl rfl hl.1 rfl (lv_room (Nat.le_of_ble_eq_true rfl)) dL_law_4 ⟨Nat.le_of_ble_eq_true rfl, Nat.le_of_ble_eq_true rfl⟩) hS (fun q _ h => hFc q h) hFc (fun u t H1 locs ht hvm hw1 hB hz1 hk1 hS => ?_)
  obtain ⟨adx, cdx⟩ := u
  obtain ⟨hP1, hK1, hD1⟩ := hB
  rw [ht] at hP1
  have hKX : va_K D tr_cl (tr_tX cdx) s := va_K.moved hvm.symm hK1
  obtain ⟨hP, hD⟩ := va_join (wr := []) (w1 := tr_wX qx adx cdx 0 tr_z tr_z tr_z tr_z tr_z 0 0 tr_z) hP hD [0] [] rfl rfl (by decide) (by decide) hk1 hFc hP1 hD1
  have hP : va_P D tr_cl (tr_wX qx adx cdx 0 tr_z tr_z tr_z tr_z tr_z 0 0 tr_z) H1 := hP
  have hD : va_D A (tr_wX qx adx cdx 0 tr_z tr_z tr_z tr_z tr_z 0 0 tr_z) := hD
  refine lv_astore_n (lv' := [(1, .ref qx), (0, .ref b)]) hx hb dL_law_7 rfl hl (by decide) rfl (fun ls hl => ?_)
  refine va_new (ci := 1) (fs := [.int (nI 0), .null, .null, .null, .null, .null, .null]) (C := RX1) (T := TX1) (N := 7) hx hb hts in_X1 tyX1 tyX1_ok hown (hts _ q124) (hts _ q125) (hts _ q15) hK hP hD hS hA rfl (fun j hj => by rcases (show j = 0 ∨ j = 1 ∨ j = 2 ∨ j = 3 ∨ j = 4 ∨ j = 5 ∨ j = 6 by omega) with rfl | rfl | rfl | rfl | rfl | rfl | rfl <;> rfl) (Nat.le_of_ble_eq_true rfl) (Nat.le_of_ble_eq_true rfl) dL_law_8 (fun qm H hP hD hS => ?_)
  refine lv_dup hx hb dL_law_11 rfl ?_
  have hPc : va_P D tr_cl (im_w0 qm) H := hP.sub (ws' := im_w0 qm) [7] rfl
  have hDc : va_D A (im_w0 qm) := hD.sub (ws' := im_w0 qm) [7] (by decide) rfl
  have hFc := va_free (wc := im_w0 qm) hD hS hA [7] rfl
  refine va_callv (va_runI (As := []) (rest := [.ref qm]) ⟨hx, hb, hml, hown, hts⟩ (im_init l D qm H.size) (cwI 0 hts (lw_meth q128) rfl rfl rfl (hts _ q15) (hts _ q126) (hts _ q127) rfl (by decide +kernel) ⟨Nat.le_of_ble_eq_true rfl, Nat.le_of_ble_eq_true rfl⟩) ⟨fun a U g mk q => by obtain ⟨q0, q1, qP, qK, qD⟩ := q; exact ⟨q0, q1, qP, va_K.moved (u := U) (U := U.calling g mk a) (Vm.Alike.refl U.vm) qK, qD⟩, fun U hU hW => ⟨rfl, by rw [hU], by rw [hU]; exact hPc, va_K.moved hW.alike hK, hDc.weaken (fun _ _ _ _ => trivial)⟩⟩ rfl rfl hl.1 rfl (lv_room (Nat.le_of_ble_eq_true rfl)) dL_law_12 ⟨Nat.le_of_ble_eq_true rfl, Nat.le_of_ble_eq_true rfl⟩) hS (fun q _ h => hFc q h) hFc (fun u t H1 locs ht hvm hw2 hB hz1 hk1 hS => ?_)
  obtain ⟨adm, cdm⟩ := u
  obtain ⟨hP1, hK1, hD1⟩ := hB
  rw [ht] at hP1
  have hKM : va_K D tr_cl (tr_tM cdm) s := va_K.moved hvm.symm hK1
  obtain ⟨hP, hD⟩ := va_join (wr := tr_wX qx adx cdx 0 tr_z tr_z tr_z tr_z tr_z 0 0 tr_z) (w1 := tr_wM qm adm cdm 0 tr_z tr_z tr_z tr_z tr_z tr_z) hP hD [7] [0, 1, 2, 3, 4, 5, 6] rfl rfl (by decide) (by decide) hk1 hFc hP1 hD1
  refine lv_astore_n (lv' := [(2, .ref qm), (1, .ref qx), (0, .ref b)]) hx hb dL_law_15 rfl hl (by decide) rfl (fun ls hl => ?_)
  refine lv_iconst (v := nI 0) hx hb dL_law_16 (by decide +kernel) ?_
  refine lv_istore_n (lv' := [(3, .int (nI 0)), (2, .ref qm), (1, .ref qx), (0, .ref b)]) hx hb dL_law_17 rfl hl (by decide) rfl (fun ls hl => ?_)
  refine W.widen (k := 14) (n := 636) (Nat.le_of_ble_eq_true rfl) (Nat.le_of_ble_eq_true rfl) ?_
  exact tl_loop ⟨⟨hx, hb, hml, hown, hts⟩, hKX, hKM, hX, hbl, hbA, hA, hL⟩ hr hlocks hAe (L + 1) 0 _ _ _ (by omega) (by omega) ⟨0, tr_z, tr_z, tr_z, tr_z, tr_z, 0, 0, tr_z, tr_z, tr_z, ty_0, ⟨fun _ => Nat.zero_le _, show 0 < 256 by decide, Nat.zero_le _, fun _ => Nat.zero_le _⟩, ⟨fun _ => Nat.zero_le _, fun _ => Nat.zero_le _⟩, hP, hD, hS⟩ (lv_sub hl [3, 2, 1, 0] rfl)
end
section
set_option maxRecDepth 100000
set_option maxHeartbeats 4000000 in
theorem lw_walk (l : Launch) (b : Addr) (xs : List Int32) : MetFree l x (headSpec (Jvm.Cond.code x code maxLocals ret :: tables_1) room_1) (lw_P b xs) (fun _ _ _ _ _ => True) lw_Q := by
  refine MetFree.of_bodyS (code := code) (maxLocals := maxLocals) (ret := ret) (by decide) ?_ ?_
  · intro args s m h hn
    obtain ⟨meth, c, h1, h2, h3, h4, h5, h6, -, -⟩ := Cond.code_spec hn (atoms_spec (ws := Jvm.Cond.code x code maxLocals ret :: tables_1) h _ List.mem_cons_self)
    exact ⟨meth, c, h1, h2, h3, h4, h5, h6⟩
  · intro p e s m args below meth c s₁ B hml0 hP _
    obtain ⟨rfl, hx, hbd, hgv⟩ := hP
    obtain ⟨scr, harrAt, hlist, hof, hsmall⟩ := hx
    obtain ⟨hcb, hkn, -, -⟩ := State.arrayAt?_spec harrAt
    have hown : s.vm.findClass R_law = some m.cls := findClass_of_methodNamed B.named
    have hts0 : ∀ c ∈ (Jvm.Cond.code x code maxLocals ret :: tables_1), c.before #[Value.ref b] s = true := atoms_spec (ws := Jvm.Cond.code x code maxLocals ret :: tables_1) B.pre
    have hts : ∀ w ∈ lw_tbl, w.before #[Value.ref b] s = true := k2_hts_sels lw_privs (fun w hw => hts0 w (List.mem_cons_of_mem _ hw)) lw_privs_ok
    have hml : c.maxLocals = 4 := B.maxLocals_eq (hts0 _ List.mem_cons_self)
    have X₀ : Stand p l e room_1 s m #[Value.ref b] below meth c s₁ [] 0 0 := Stand.of_body B
    have hh0 : s₁.heap = s.heap := by rw [B.state]; rfl
    have hsz : scr.slots.size = xs.length := by rw [← Array.length_toList, hlist, List.length_map]
    have hval : ∀ j : Nat, j < xs.length → scr.slots[j]? = some (.int (xs.getD j 0)) := fun j hj => by
      rw [← Array.getElem?_toList, hlist]
      simp [hj]
    have hbl : b < s.heap.size := (Array.getElem?_eq_some_iff.mp hcb).1
    have hX : va_X b xs.length (fun j => xs.getD j 0) s s.heap := ⟨scr, hcb, hof, hkn, hsz, hval⟩
    have K : W p l e room_1 s m #[Value.ref b] below meth c s₁.heap [] 0 0 (lw_Z below #[Value.ref b] s) (entryFrame m ([Value.ref b] : List Value).toArray 4) := by
      rw [hh0]
      exact whole_start l hbd ⟨B.exec, B.bytes, B.returns, hml, hown, hts, hX, hbl, B.notSynchronized, hgv⟩
    obtain ⟨t, a1, o, b1, b2, b3⟩ := K s₁ rfl X₀
    exact ⟨t, o, a1, b1, b2, b3⟩
theorem lw_pre_spec {args : Array Value} {s : State} (h : (Jvm.Cond.and given_1 narrow_1).before args s = true) (hr : rest_1_c.before args s = true) : ∃ (b : Addr) (xs : List Int32), lw_P b xs args s := by
  have hs := flat_of_before _ h
  have hq := flat_of_before _ hr
  have hc : (Cond.count 1).before args s = true := hs _ (by decide +kernel)
  have harr : (Cond.arrayOf (.arg 0) .int).before args s = true := hs _ (by decide +kernel)
  have hle : (Cond.le (.length (.arg 0)) (.int 320)).before args s = true := hs _ (by decide +kernel)
  have hlen : (Cond.isInt (.length (.arg 0))).before args s = true := hq _ (by decide +kernel)
  have hall : (Cond.all (.arg 0) (.isInt (.elem (.arg 0) (.index 0)))).before args s = true := hq _ (by decide +kernel)
  obtain ⟨b, xs, hb, hx⟩ := State.ints_of_pre rfl harr hlen hall
  have hsm : xs.length < 2 ^ 31 := hx.choose_spec.2.2.2
  have hev : (Term.length (.arg 0)).eval args s none [] s = some (.int xs.length.toInt32) := hx.length_eval hb
  have hv := Cond.le_ints hev (show (Term.int 320).eval args s none [] s = some (.int 320) from rfl)
  have hd : xs.length.toInt32 ≤ 320 := by
    simpa [Cond.before, Cond.holds, hv] using hle
  have hN : xs.length ≤ 320 := (Int32.ofNat_le_ofNat hsm (by decide)).mp (show Int32.ofNat xs.length ≤ Int32.ofNat 320 from hd)
  exact ⟨b, xs, Cond.one_arg hc (show args[0]? = some (.ref b) from hb), hx, hN, h⟩
theorem lw_comes (l : Launch) : Comes l x (Jvm.Cond.code x code maxLocals ret :: tables_1) room_1 (fun tb e args s => Calls_1 tb e args s ∧ rest_1 tb e args s ∧ Pre_1 tb e args s)
    (fun _ _ args s o t => lw_Q args s o t) := by
  intro p e ha hc hk s m args below hf hfit hheap happ hpre
  obtain ⟨b, xs, hP⟩ := lw_pre_spec hpre.2.2 hpre.2.1
  obtain ⟨k, o, h1, h2, h3, hQ⟩ := lw_walk l b xs p e ha hc hk s m args below hf ((Spec.applies_iff_loose hf).mp happ).1 hP trivial
  exact ⟨k, o, h1, h2, h3, hQ⟩
theorem lw_frame {s t : State} {o : Outcome} {args : Array Value} (h : Framed s o t [] 600000 7290000) :
    Framed s o t (fieldLocs frame_1_writes args s ++ arrayLocs frame_1_arrays args s ++ staticLocs frame_1_statics s) 600000 7290000 := h
theorem lw_limb (L : Cond) (hL : ∀ (args : Array Value) (s t : State), L.after args s (.returned (some (.int 1))) t = true) :
    ArmFor flags0 classFile x code maxLocals ret World_1 tables_1 room_1 Calls_1 rest_1 Pre_1
      (fun tb e a s o t => postC L tb e a s o t ∧ Framed s o t (fieldLocs frame_1_writes a s ++ arrayLocs frame_1_arrays a s ++ staticLocs frame_1_statics s) 600000 7290000) := by
  intro l _ _ _ p e ha hc hk s m args below hf hfit hheap happ hpre
  obtain ⟨k, o, h1, h2, h3, rfl, hF⟩ := lw_comes l p e ha hc hk s m args below hf hfit hheap happ hpre
  exact ⟨k, _, h1, h2, h3, hL args s _, lw_frame hF⟩
theorem i_vc : Claimed_1_1 ∧ Claimed_1_2 := ⟨lw_limb limb_1_1 (fun args s t => by simp [limb_1_1, Cond.after, Cond.holds, Cond.value]), lw_limb limb_1_2 (fun args s t => Cond.after_iff.mpr (by
  first | (rw [show limb_1_2 = Cond.eq .result (.int 1) from rfl, Cond.eq_ints (x := 1) (y := 1) rfl rfl]; simp; done) | (simp [limb_1_2, Cond.value, Term.eval]; done)))⟩
end
