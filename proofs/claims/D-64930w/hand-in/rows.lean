section
-- ===== PART A: goes FIRST, ahead of the names: the tables' words, and 'selects' of the private methods out of them =====
/-- a private method of a class that the tables say can be made, by its rows of tables_1 -/
def lw_okq (q : MethodName × Nat) : Prop := (q.1.cls ≠ "java/lang/invoke/MethodHandle" ∧ q.1.cls ≠ "java/lang/invoke/VarHandle") ∧ Cond.instantiable q.1.cls q.2 ∈ tables_1 ∧ Cond.privateMethod q.1 ∈ tables_1 ∧ Cond.instanceMethod q.1 ∈ tables_1
set_option maxRecDepth 100000
theorem lw_p0 : lw_okq (⟨"RankedPairs", "findUpTo", "(I)V"⟩, 22) := ⟨⟨by decide +kernel, by decide +kernel⟩, List.mem_of_getElem? (i := 4) rfl, List.mem_of_getElem? (i := 97) rfl, List.mem_of_getElem? (i := 98) rfl⟩
theorem lw_p1 : lw_okq (⟨"RankedPairs", "addPart", "(III)V"⟩, 22) := ⟨⟨by decide +kernel, by decide +kernel⟩, List.mem_of_getElem? (i := 4) rfl, List.mem_of_getElem? (i := 101) rfl, List.mem_of_getElem? (i := 102) rfl⟩
theorem lw_p2 : lw_okq (⟨"RankedPairs", "setPart", "(III)V"⟩, 22) := ⟨⟨by decide +kernel, by decide +kernel⟩, List.mem_of_getElem? (i := 4) rfl, List.mem_of_getElem? (i := 105) rfl, List.mem_of_getElem? (i := 106) rfl⟩
theorem lw_p3 : lw_okq (⟨"RankedPairs", "solve", "()J"⟩, 22) := ⟨⟨by decide +kernel, by decide +kernel⟩, List.mem_of_getElem? (i := 4) rfl, List.mem_of_getElem? (i := 109) rfl, List.mem_of_getElem? (i := 110) rfl⟩
theorem lw_p4 : lw_okq (⟨"RankedPairs", "bringIn", "(I)V"⟩, 22) := ⟨⟨by decide +kernel, by decide +kernel⟩, List.mem_of_getElem? (i := 4) rfl, List.mem_of_getElem? (i := 113) rfl, List.mem_of_getElem? (i := 114) rfl⟩
theorem lw_p5 : lw_okq (⟨"RankedPairs", "nextTask", "(I)I"⟩, 22) := ⟨⟨by decide +kernel, by decide +kernel⟩, List.mem_of_getElem? (i := 4) rfl, List.mem_of_getElem? (i := 118) rfl, List.mem_of_getElem? (i := 119) rfl⟩
theorem lw_p6 : lw_okq (⟨"RankedPairs", "valueOf", "(II)J"⟩, 22) := ⟨⟨by decide +kernel, by decide +kernel⟩, List.mem_of_getElem? (i := 4) rfl, List.mem_of_getElem? (i := 122) rfl, List.mem_of_getElem? (i := 123) rfl⟩
theorem lw_p7 : lw_okq (⟨"RankedPairs", "divide", "(I)V"⟩, 22) := ⟨⟨by decide +kernel, by decide +kernel⟩, List.mem_of_getElem? (i := 4) rfl, List.mem_of_getElem? (i := 134) rfl, List.mem_of_getElem? (i := 135) rfl⟩
theorem lw_p8 : lw_okq (⟨"RankedPairs", "hasRank", "(I)Z"⟩, 22) := ⟨⟨by decide +kernel, by decide +kernel⟩, List.mem_of_getElem? (i := 4) rfl, List.mem_of_getElem? (i := 142) rfl, List.mem_of_getElem? (i := 143) rfl⟩
theorem lw_p9 : lw_okq (⟨"RankedPairsModel", "list", "()V"⟩, 4) := ⟨⟨by decide +kernel, by decide +kernel⟩, List.mem_of_getElem? (i := 166) rfl, List.mem_of_getElem? (i := 200) rfl, List.mem_of_getElem? (i := 201) rfl⟩
theorem lw_p10 : lw_okq (⟨"RankedPairsModel", "costOf", "(I)I"⟩, 4) := ⟨⟨by decide +kernel, by decide +kernel⟩, List.mem_of_getElem? (i := 166) rfl, List.mem_of_getElem? (i := 204) rfl, List.mem_of_getElem? (i := 205) rfl⟩
def lw_privs_1 : List (MethodName × Nat) := [(⟨"RankedPairs", "findUpTo", "(I)V"⟩, 22), (⟨"RankedPairs", "addPart", "(III)V"⟩, 22), (⟨"RankedPairs", "setPart", "(III)V"⟩, 22), (⟨"RankedPairs", "solve", "()J"⟩, 22), (⟨"RankedPairs", "bringIn", "(I)V"⟩, 22), (⟨"RankedPairs", "nextTask", "(I)I"⟩, 22), (⟨"RankedPairs", "valueOf", "(II)J"⟩, 22), (⟨"RankedPairs", "divide", "(I)V"⟩, 22), (⟨"RankedPairs", "hasRank", "(I)Z"⟩, 22), (⟨"RankedPairsModel", "list", "()V"⟩, 4), (⟨"RankedPairsModel", "costOf", "(I)I"⟩, 4)]
theorem lw_r1 : ∀ q ∈ lw_privs_1, lw_okq q := List.forall_mem_cons.mpr ⟨lw_p0, List.forall_mem_cons.mpr ⟨lw_p1, List.forall_mem_cons.mpr ⟨lw_p2, List.forall_mem_cons.mpr ⟨lw_p3, List.forall_mem_cons.mpr ⟨lw_p4, List.forall_mem_cons.mpr ⟨lw_p5, List.forall_mem_cons.mpr ⟨lw_p6, List.forall_mem_cons.mpr ⟨lw_p7, List.forall_mem_cons.mpr ⟨lw_p8, List.forall_mem_cons.mpr ⟨lw_p9, List.forall_mem_cons.mpr ⟨lw_p10, fun _ h => absurd h List.not_mem_nil⟩⟩⟩⟩⟩⟩⟩⟩⟩⟩⟩
def lw_privs : List (MethodName × Nat) := lw_privs_1
def lw_tbl : List Cond := k2_sels lw_privs ++ tables_1
theorem lw_privs_ok : ∀ q ∈ lw_privs, lw_okq q := lw_r1
-- ===== ONE list of words for every method: the tables' words that hold all through a run =====
def lw_all : List Cond := lw_tbl.filter goodWord
/-- a word of the tables by its place: claim/WORDS.tsv -/
theorem lw_w {w : Cond} (i : Nat) (h : lw_tbl[i]? = some w) (g : goodWord w = true) : w ∈ lw_all := List.mem_filter.mpr ⟨List.mem_of_getElem? h, g⟩
theorem lw_all_tbl {w : Cond} (h : w ∈ lw_all) : w ∈ lw_tbl := (List.mem_filter.mp h).1
theorem lw_self : GoodIn lw_all lw_all := fun w h => ⟨h, good_of_word (List.mem_filter.mp h).2⟩
/-- a class's field words, by their places -/
theorem lw_in (ws : List Cond) (ps : List Nat) (hp : ws = ps.filterMap (fun i => lw_tbl[i]?)) (hg : ws.all goodWord = true) : ∀ w ∈ ws, w ∈ lw_all := by
  intro w h
  have h1 := List.all_eq_true.mp hg w h
  rw [hp] at h
  obtain ⟨i, -, hi⟩ := List.mem_filterMap.mp h
  exact lw_w i hi h1
/-- the words of a contract for the method y with code b, L locals, answer r -/
abbrev ws_ (y : MethodName) (b : ByteArray) (L : Nat) (r : Option FieldType) : List Cond := Cond.code y b L r :: lw_all
theorem lw_meth {y : MethodName} {b : ByteArray} {L : Nat} {r : Option FieldType} (h : Cond.code y b L r ∈ lw_all) : GoodIn lw_all (ws_ y b L r) := by
  intro w hw
  rcases List.mem_cons.mp hw with e | e
  · rw [e]
    exact lw_self _ h
  · exact lw_self _ e
theorem lw_app {a c : List Cond} (ha : ∀ w ∈ a, w ∈ lw_all) (hc : GoodIn lw_all c) : GoodIn lw_all (a ++ c) := by
  intro w hw
  rcases List.mem_append.mp hw with e | e
  · exact lw_self w (ha w e)
  · exact hc w e
/-- what a call through an object asks: cwV n hts (lw_V ..) -/
theorem lw_V {own : String} {idx : Nat} {C : String} {y : MethodName} {b : ByteArray} {L : Nat} {r : Option FieldType} (h1 : Cond.methodLink own idx y ∈ lw_all) (h2 : Cond.instanceMethod y ∈ lw_all) (h3 : Cond.selects C y y ∈ lw_all) (h4 : Cond.initialized C ∈ lw_all) (h5 : Cond.code y b L r ∈ lw_all) : GoodIn lw_all (wsV own idx C y (ws_ y b L r)) := by
  refine lw_app ?_ (lw_meth h5)
  intro w hw
  simp only [List.mem_cons, List.not_mem_nil, or_false] at hw
  rcases hw with e | e | e | e
  · rw [e]; exact h1
  · rw [e]; exact h2
  · rw [e]; exact h3
  · rw [e]; exact h4
/-- what a static call asks: va_cwS n hts (lw_S ..) -/
theorem lw_S {own : String} {idx : Nat} {y : MethodName} {b : ByteArray} {L : Nat} {r : Option FieldType} (h1 : Cond.methodLink own idx y ∈ lw_all) (h2 : Cond.static y ∈ lw_all) (h3 : Cond.initialized y.cls ∈ lw_all) (h4 : Cond.code y b L r ∈ lw_all) : GoodIn lw_all (va_wsS own idx y (ws_ y b L r)) := by
  refine lw_app ?_ (lw_meth h4)
  intro w hw
  simp only [List.mem_cons, List.not_mem_nil, or_false] at hw
  rcases hw with e | e | e
  · rw [e]; exact h1
  · rw [e]; exact h2
  · rw [e]; exact h3
/-- the words of a contract for a method WITH HANDLERS (hh: its table) -/
abbrev wsW_ (y : MethodName) (b : ByteArray) (L : Nat) (r : Option FieldType) (hh : List (Nat × Nat × Nat × Nat)) : List Cond := Cond.codeWith y b L r hh :: lw_all
theorem lw_methW {y : MethodName} {b : ByteArray} {L : Nat} {r : Option FieldType} {hh : List (Nat × Nat × Nat × Nat)} (h : Cond.codeWith y b L r hh ∈ lw_all) : GoodIn lw_all (wsW_ y b L r hh) := by
  intro w hw
  rcases List.mem_cons.mp hw with e | e
  · rw [e]
    exact lw_self _ h
  · exact lw_self _ e
/-- any list of words by their places (lw_in), good -/
theorem lw_good {ws : List Cond} (h : ∀ w ∈ ws, w ∈ lw_all) : GoodIn lw_all ws := fun w hw => lw_self w (h w hw)
/-- what a call of a method with handlers asks: vx_cwVW n hts (lw_VW ..), vx_cwSW n hts (lw_SW ..) -/
theorem lw_VW {own : String} {idx : Nat} {C : String} {y : MethodName} {b : ByteArray} {L : Nat} {r : Option FieldType} {hh : List (Nat × Nat × Nat × Nat)} (h1 : Cond.methodLink own idx y ∈ lw_all) (h2 : Cond.instanceMethod y ∈ lw_all) (h3 : Cond.selects C y y ∈ lw_all) (h4 : Cond.initialized C ∈ lw_all) (h5 : Cond.codeWith y b L r hh ∈ lw_all) : GoodIn lw_all (wsV own idx C y (wsW_ y b L r hh)) := by
  refine lw_app ?_ (lw_methW h5)
  intro w hw
  simp only [List.mem_cons, List.not_mem_nil, or_false] at hw
  rcases hw with e | e | e | e
  · rw [e]; exact h1
  · rw [e]; exact h2
  · rw [e]; exact h3
  · rw [e]; exact h4
theorem lw_SW {own : String} {idx : Nat} {y : MethodName} {b : ByteArray} {L : Nat} {r : Option FieldType} {hh : List (Nat × Nat × Nat × Nat)} (h1 : Cond.methodLink own idx y ∈ lw_all) (h2 : Cond.static y ∈ lw_all) (h3 : Cond.initialized y.cls ∈ lw_all) (h4 : Cond.codeWith y b L r hh ∈ lw_all) : GoodIn lw_all (va_wsS own idx y (wsW_ y b L r hh)) := by
  refine lw_app ?_ (lw_methW h4)
  intro w hw
  simp only [List.mem_cons, List.not_mem_nil, or_false] at hw
  rcases hw with e | e | e
  · rw [e]; exact h1
  · rw [e]; exact h2
  · rw [e]; exact h3
/-- a word by its place in its run of the tables -/
theorem lw_at {r : List Cond} (hr : ∀ w ∈ r, w ∈ lw_tbl) {w : Cond} (i : Nat) (h : r[i]? = some w) : w ∈ lw_tbl := hr w (List.mem_of_getElem? h)
theorem lw_g {w : Cond} (h : w ∈ lw_tbl) (g : goodWord w = true) : w ∈ lw_all := List.mem_filter.mpr ⟨h, g⟩
theorem lw_ms : ∀ w ∈ k2_sels lw_privs, w ∈ lw_tbl := fun w h => show w ∈ k2_sels lw_privs ++ tables_1 from List.mem_append_left _ h
theorem lw_m0 : ∀ w ∈ tables_1, w ∈ lw_tbl := fun w h => show w ∈ k2_sels lw_privs ++ tables_1 from List.mem_append_right (k2_sels lw_privs) h
theorem qs0 : (Cond.selects "RankedPairs" ⟨"RankedPairs", "findUpTo", "(I)V"⟩ ⟨"RankedPairs", "findUpTo", "(I)V"⟩) ∈ lw_all := lw_g (lw_at lw_ms 0 rfl) rfl
theorem qs1 : (Cond.selects "RankedPairs" ⟨"RankedPairs", "addPart", "(III)V"⟩ ⟨"RankedPairs", "addPart", "(III)V"⟩) ∈ lw_all := lw_g (lw_at lw_ms 1 rfl) rfl
theorem qs2 : (Cond.selects "RankedPairs" ⟨"RankedPairs", "setPart", "(III)V"⟩ ⟨"RankedPairs", "setPart", "(III)V"⟩) ∈ lw_all := lw_g (lw_at lw_ms 2 rfl) rfl
theorem qs3 : (Cond.selects "RankedPairs" ⟨"RankedPairs", "solve", "()J"⟩ ⟨"RankedPairs", "solve", "()J"⟩) ∈ lw_all := lw_g (lw_at lw_ms 3 rfl) rfl
theorem qs4 : (Cond.selects "RankedPairs" ⟨"RankedPairs", "bringIn", "(I)V"⟩ ⟨"RankedPairs", "bringIn", "(I)V"⟩) ∈ lw_all := lw_g (lw_at lw_ms 4 rfl) rfl
theorem qs5 : (Cond.selects "RankedPairs" ⟨"RankedPairs", "nextTask", "(I)I"⟩ ⟨"RankedPairs", "nextTask", "(I)I"⟩) ∈ lw_all := lw_g (lw_at lw_ms 5 rfl) rfl
theorem qs6 : (Cond.selects "RankedPairs" ⟨"RankedPairs", "valueOf", "(II)J"⟩ ⟨"RankedPairs", "valueOf", "(II)J"⟩) ∈ lw_all := lw_g (lw_at lw_ms 6 rfl) rfl
theorem qs7 : (Cond.selects "RankedPairs" ⟨"RankedPairs", "divide", "(I)V"⟩ ⟨"RankedPairs", "divide", "(I)V"⟩) ∈ lw_all := lw_g (lw_at lw_ms 7 rfl) rfl
theorem qs8 : (Cond.selects "RankedPairs" ⟨"RankedPairs", "hasRank", "(I)Z"⟩ ⟨"RankedPairs", "hasRank", "(I)Z"⟩) ∈ lw_all := lw_g (lw_at lw_ms 8 rfl) rfl
theorem qs9 : (Cond.selects "RankedPairsModel" ⟨"RankedPairsModel", "list", "()V"⟩ ⟨"RankedPairsModel", "list", "()V"⟩) ∈ lw_all := lw_g (lw_at lw_ms 9 rfl) rfl
theorem qs10 : (Cond.selects "RankedPairsModel" ⟨"RankedPairsModel", "costOf", "(I)I"⟩ ⟨"RankedPairsModel", "costOf", "(I)I"⟩) ∈ lw_all := lw_g (lw_at lw_ms 10 rfl) rfl
end
section
/-! RankedPairs -/
set_option maxRecDepth 100000
def RX0 : String := "RankedPairs"
def TX0 : u_T := fun k => match k with
  | 0 => ("RankedPairs", "priceOf", "[I", true)
  | 1 => ("RankedPairs", "barred", "[Z", true)
  | 2 => ("RankedPairs", "started", "Z", false)
  | 3 => ("RankedPairs", "ended", "Z", false)
  | 4 => ("RankedPairs", "found", "I", false)
  | 5 => ("RankedPairs", "planValue", "[J", true)
  | 6 => ("RankedPairs", "parts", "I", false)
  | 7 => ("RankedPairs", "waiting", "[Z", true)
  | 8 => ("RankedPairs", "fixed", "[I", true)
  | 9 => ("RankedPairs", "without", "[I", true)
  | 10 => ("RankedPairs", "cheapest", "[J", true)
  | 11 => ("RankedPairs", "fixedWorkers", "I", false)
  | 12 => ("RankedPairs", "withoutTasks", "I", false)
  | 13 => ("RankedPairs", "fixedPlan", "I", false)
  | 14 => ("RankedPairs", "pinnedWorker", "I", false)
  | 15 => ("RankedPairs", "pinnedTask", "I", false)
  | 16 => ("RankedPairs", "workerPrice", "[J", true)
  | 17 => ("RankedPairs", "taskPrice", "[J", true)
  | 18 => ("RankedPairs", "holder", "[I", true)
  | 19 => ("RankedPairs", "before", "[I", true)
  | 20 => ("RankedPairs", "slack", "[J", true)
  | _ => ("RankedPairs", "settled", "[Z", true)
def tyX0 : Nat → FieldType := fun k => match k with
  | 0 => .array .int
  | 1 => .array .boolean
  | 2 => .boolean
  | 3 => .boolean
  | 4 => .int
  | 5 => .array .long
  | 6 => .int
  | 7 => .array .boolean
  | 8 => .array .int
  | 9 => .array .int
  | 10 => .array .long
  | 11 => .int
  | 12 => .int
  | 13 => .int
  | 14 => .int
  | 15 => .int
  | 16 => .array .long
  | 17 => .array .long
  | 18 => .array .int
  | 19 => .array .int
  | 20 => .array .long
  | _ => .array .boolean
abbrev wsX00 : List Cond := u_ws RX0 TX0 22
set_option maxRecDepth 100000 in
theorem nmX0 : ∀ a, a < 22 → ∀ b, b < 22 → a ≠ b → (TX0 a).2.1 ≠ (TX0 b).2.1 := by decide +kernel
set_option maxRecDepth 100000 in
theorem tyX0_ok : ∀ k, k < 22 → parseFieldDescriptor (TX0 k).2.2.1 = some (tyX0 k) := by decide +kernel
abbrev cX0_init : ByteArray := prog_1_method_1_code
def yX0_init : MethodName := ⟨RX0, "<init>", "()V"⟩
abbrev cX0_price : ByteArray := prog_1_method_2_code
def yX0_price : MethodName := ⟨RX0, "price", "(III)I"⟩
abbrev cX0_inRange : ByteArray := prog_1_method_11_code
def yX0_inRange : MethodName := ⟨RX0, "inRange", "(I)Z"⟩
abbrev cX0_bar : ByteArray := prog_1_method_3_code
def yX0_bar : MethodName := ⟨RX0, "bar", "(II)I"⟩
abbrev cX0_plans : ByteArray := prog_1_method_4_code
def yX0_plans : MethodName := ⟨RX0, "plans", "()I"⟩
abbrev cX0_findUpTo : ByteArray := prog_1_method_15_code
def yX0_findUpTo : MethodName := ⟨RX0, "findUpTo", "(I)V"⟩
abbrev cX0_addPart : ByteArray := prog_1_method_17_code
def yX0_addPart : MethodName := ⟨RX0, "addPart", "(III)V"⟩
abbrev cX0_setPart : ByteArray := prog_1_method_18_code
def yX0_setPart : MethodName := ⟨RX0, "setPart", "(III)V"⟩
abbrev cX0_solve : ByteArray := prog_1_method_20_code
def yX0_solve : MethodName := ⟨RX0, "solve", "()J"⟩
abbrev cX0_bringIn : ByteArray := prog_1_method_21_code
def yX0_bringIn : MethodName := ⟨RX0, "bringIn", "(I)V"⟩
abbrev cX0_nextTask : ByteArray := prog_1_method_22_code
def yX0_nextTask : MethodName := ⟨RX0, "nextTask", "(I)I"⟩
abbrev cX0_valueOf : ByteArray := prog_1_method_19_code
def yX0_valueOf : MethodName := ⟨RX0, "valueOf", "(II)J"⟩
abbrev cX0_digit : ByteArray := prog_1_method_14_code
def yX0_digit : MethodName := ⟨RX0, "digit", "(II)I"⟩
abbrev cX0_weight : ByteArray := prog_1_method_13_code
def yX0_weight : MethodName := ⟨RX0, "weight", "(I)I"⟩
abbrev cX0_divide : ByteArray := prog_1_method_16_code
def yX0_divide : MethodName := ⟨RX0, "divide", "(I)V"⟩
abbrev cX0_cost : ByteArray := prog_1_method_5_code
def yX0_cost : MethodName := ⟨RX0, "cost", "(I)I"⟩
abbrev cX0_hasRank : ByteArray := prog_1_method_12_code
def yX0_hasRank : MethodName := ⟨RX0, "hasRank", "(I)Z"⟩
abbrev cX0_plan : ByteArray := prog_1_method_6_code
def yX0_plan : MethodName := ⟨RX0, "plan", "(I)I"⟩
abbrev cX0_task : ByteArray := prog_1_method_7_code
def yX0_task : MethodName := ⟨RX0, "task", "(II)I"⟩
abbrev cX0_within : ByteArray := prog_1_method_8_code
def yX0_within : MethodName := ⟨RX0, "within", "(I)I"⟩
abbrev cX0_rank : ByteArray := prog_1_method_9_code
def yX0_rank : MethodName := ⟨RX0, "rank", "(I)I"⟩
abbrev cX0_cheapestWith : ByteArray := prog_1_method_10_code
def yX0_cheapestWith : MethodName := ⟨RX0, "cheapestWith", "(II)I"⟩
theorem q12 : (Jvm.Cond.initialized "RankedPairs") ∈ lw_all := lw_g (lw_at lw_m0 1 rfl) rfl
theorem q15 : (Jvm.Cond.instantiable "RankedPairs" (22 : Nat)) ∈ lw_all := lw_g (lw_at lw_m0 4 rfl) rfl
theorem q17 : (Jvm.Cond.instanceMethod ({ cls := "RankedPairs", name := "<init>", desc := "()V" } : Jvm.MethodName)) ∈ lw_all := lw_g (lw_at lw_m0 6 rfl) rfl
theorem q18 : (Jvm.Cond.code ({ cls := "RankedPairs", name := "<init>", desc := "()V" } : Jvm.MethodName) prog_1_method_1_code (1 : Nat) (Option.none : Option Jvm.ClassFile.FieldType)) ∈ lw_all := lw_g (lw_at lw_m0 7 rfl) rfl
theorem q19 : (Jvm.Cond.methodLink "RankedPairs" (1 : Nat) ({ cls := "java/lang/Object", name := "<init>", desc := "()V" } : Jvm.MethodName)) ∈ lw_all := lw_g (lw_at lw_m0 8 rfl) rfl
theorem q22 : (Jvm.Cond.fieldLink "RankedPairs" (7 : Nat) "RankedPairs" "priceOf" "[I") ∈ lw_all := lw_g (lw_at lw_m0 11 rfl) rfl
theorem q23 : (Jvm.Cond.fieldLink "RankedPairs" (13 : Nat) "RankedPairs" "barred" "[Z") ∈ lw_all := lw_g (lw_at lw_m0 12 rfl) rfl
theorem q24 : (Jvm.Cond.fieldLink "RankedPairs" (59 : Nat) "RankedPairs" "started" "Z") ∈ lw_all := lw_g (lw_at lw_m0 13 rfl) rfl
theorem q25 : (Jvm.Cond.fieldLink "RankedPairs" (96 : Nat) "RankedPairs" "ended" "Z") ∈ lw_all := lw_g (lw_at lw_m0 14 rfl) rfl
theorem q26 : (Jvm.Cond.fieldLink "RankedPairs" (67 : Nat) "RankedPairs" "found" "I") ∈ lw_all := lw_g (lw_at lw_m0 15 rfl) rfl
theorem q27 : (Jvm.Cond.fieldLink "RankedPairs" (17 : Nat) "RankedPairs" "planValue" "[J") ∈ lw_all := lw_g (lw_at lw_m0 16 rfl) rfl
theorem q28 : (Jvm.Cond.fieldLink "RankedPairs" (99 : Nat) "RankedPairs" "parts" "I") ∈ lw_all := lw_g (lw_at lw_m0 17 rfl) rfl
theorem q29 : (Jvm.Cond.fieldLink "RankedPairs" (21 : Nat) "RankedPairs" "waiting" "[Z") ∈ lw_all := lw_g (lw_at lw_m0 18 rfl) rfl
theorem q30 : (Jvm.Cond.fieldLink "RankedPairs" (24 : Nat) "RankedPairs" "fixed" "[I") ∈ lw_all := lw_g (lw_at lw_m0 19 rfl) rfl
theorem q31 : (Jvm.Cond.fieldLink "RankedPairs" (27 : Nat) "RankedPairs" "without" "[I") ∈ lw_all := lw_g (lw_at lw_m0 20 rfl) rfl
theorem q32 : (Jvm.Cond.fieldLink "RankedPairs" (30 : Nat) "RankedPairs" "cheapest" "[J") ∈ lw_all := lw_g (lw_at lw_m0 21 rfl) rfl
theorem q33 : (Jvm.Cond.fieldLink "RankedPairs" (108 : Nat) "RankedPairs" "fixedWorkers" "I") ∈ lw_all := lw_g (lw_at lw_m0 22 rfl) rfl
theorem q34 : (Jvm.Cond.fieldLink "RankedPairs" (111 : Nat) "RankedPairs" "withoutTasks" "I") ∈ lw_all := lw_g (lw_at lw_m0 23 rfl) rfl
theorem q35 : (Jvm.Cond.fieldLink "RankedPairs" (114 : Nat) "RankedPairs" "fixedPlan" "I") ∈ lw_all := lw_g (lw_at lw_m0 24 rfl) rfl
theorem q36 : (Jvm.Cond.fieldLink "RankedPairs" (51 : Nat) "RankedPairs" "pinnedWorker" "I") ∈ lw_all := lw_g (lw_at lw_m0 25 rfl) rfl
theorem q37 : (Jvm.Cond.fieldLink "RankedPairs" (79 : Nat) "RankedPairs" "pinnedTask" "I") ∈ lw_all := lw_g (lw_at lw_m0 26 rfl) rfl
theorem q38 : (Jvm.Cond.fieldLink "RankedPairs" (33 : Nat) "RankedPairs" "workerPrice" "[J") ∈ lw_all := lw_g (lw_at lw_m0 27 rfl) rfl
theorem q39 : (Jvm.Cond.fieldLink "RankedPairs" (36 : Nat) "RankedPairs" "taskPrice" "[J") ∈ lw_all := lw_g (lw_at lw_m0 28 rfl) rfl
theorem q40 : (Jvm.Cond.fieldLink "RankedPairs" (39 : Nat) "RankedPairs" "holder" "[I") ∈ lw_all := lw_g (lw_at lw_m0 29 rfl) rfl
theorem q41 : (Jvm.Cond.fieldLink "RankedPairs" (42 : Nat) "RankedPairs" "before" "[I") ∈ lw_all := lw_g (lw_at lw_m0 30 rfl) rfl
theorem q42 : (Jvm.Cond.fieldLink "RankedPairs" (45 : Nat) "RankedPairs" "slack" "[J") ∈ lw_all := lw_g (lw_at lw_m0 31 rfl) rfl
theorem q43 : (Jvm.Cond.fieldLink "RankedPairs" (48 : Nat) "RankedPairs" "settled" "[Z") ∈ lw_all := lw_g (lw_at lw_m0 32 rfl) rfl
theorem q44 : (Jvm.Cond.laysFinal "RankedPairs" "RankedPairs" "priceOf" "[I") ∈ lw_all := lw_g (lw_at lw_m0 33 rfl) rfl
theorem q45 : (Jvm.Cond.soleField "RankedPairs" "priceOf") ∈ lw_all := lw_g (lw_at lw_m0 34 rfl) rfl
theorem q46 : (Jvm.Cond.laysFinal "RankedPairs" "RankedPairs" "barred" "[Z") ∈ lw_all := lw_g (lw_at lw_m0 35 rfl) rfl
theorem q47 : (Jvm.Cond.soleField "RankedPairs" "barred") ∈ lw_all := lw_g (lw_at lw_m0 36 rfl) rfl
theorem q48 : (Jvm.Cond.lays "RankedPairs" "RankedPairs" "started" "Z") ∈ lw_all := lw_g (lw_at lw_m0 37 rfl) rfl
theorem q49 : (Jvm.Cond.soleField "RankedPairs" "started") ∈ lw_all := lw_g (lw_at lw_m0 38 rfl) rfl
theorem q50 : (Jvm.Cond.lays "RankedPairs" "RankedPairs" "ended" "Z") ∈ lw_all := lw_g (lw_at lw_m0 39 rfl) rfl
theorem q51 : (Jvm.Cond.soleField "RankedPairs" "ended") ∈ lw_all := lw_g (lw_at lw_m0 40 rfl) rfl
theorem q52 : (Jvm.Cond.lays "RankedPairs" "RankedPairs" "found" "I") ∈ lw_all := lw_g (lw_at lw_m0 41 rfl) rfl
theorem q53 : (Jvm.Cond.soleField "RankedPairs" "found") ∈ lw_all := lw_g (lw_at lw_m0 42 rfl) rfl
theorem q54 : (Jvm.Cond.laysFinal "RankedPairs" "RankedPairs" "planValue" "[J") ∈ lw_all := lw_g (lw_at lw_m0 43 rfl) rfl
theorem q55 : (Jvm.Cond.soleField "RankedPairs" "planValue") ∈ lw_all := lw_g (lw_at lw_m0 44 rfl) rfl
theorem q56 : (Jvm.Cond.lays "RankedPairs" "RankedPairs" "parts" "I") ∈ lw_all := lw_g (lw_at lw_m0 45 rfl) rfl
theorem q57 : (Jvm.Cond.soleField "RankedPairs" "parts") ∈ lw_all := lw_g (lw_at lw_m0 46 rfl) rfl
theorem q58 : (Jvm.Cond.laysFinal "RankedPairs" "RankedPairs" "waiting" "[Z") ∈ lw_all := lw_g (lw_at lw_m0 47 rfl) rfl
theorem q59 : (Jvm.Cond.soleField "RankedPairs" "waiting") ∈ lw_all := lw_g (lw_at lw_m0 48 rfl) rfl
theorem q60 : (Jvm.Cond.laysFinal "RankedPairs" "RankedPairs" "fixed" "[I") ∈ lw_all := lw_g (lw_at lw_m0 49 rfl) rfl
theorem q61 : (Jvm.Cond.soleField "RankedPairs" "fixed") ∈ lw_all := lw_g (lw_at lw_m0 50 rfl) rfl
theorem q62 : (Jvm.Cond.laysFinal "RankedPairs" "RankedPairs" "without" "[I") ∈ lw_all := lw_g (lw_at lw_m0 51 rfl) rfl
theorem q63 : (Jvm.Cond.soleField "RankedPairs" "without") ∈ lw_all := lw_g (lw_at lw_m0 52 rfl) rfl
theorem q64 : (Jvm.Cond.laysFinal "RankedPairs" "RankedPairs" "cheapest" "[J") ∈ lw_all := lw_g (lw_at lw_m0 53 rfl) rfl
theorem q65 : (Jvm.Cond.soleField "RankedPairs" "cheapest") ∈ lw_all := lw_g (lw_at lw_m0 54 rfl) rfl
theorem q66 : (Jvm.Cond.lays "RankedPairs" "RankedPairs" "fixedWorkers" "I") ∈ lw_all := lw_g (lw_at lw_m0 55 rfl) rfl
theorem q67 : (Jvm.Cond.soleField "RankedPairs" "fixedWorkers") ∈ lw_all := lw_g (lw_at lw_m0 56 rfl) rfl
theorem q68 : (Jvm.Cond.lays "RankedPairs" "RankedPairs" "withoutTasks" "I") ∈ lw_all := lw_g (lw_at lw_m0 57 rfl) rfl
theorem q69 : (Jvm.Cond.soleField "RankedPairs" "withoutTasks") ∈ lw_all := lw_g (lw_at lw_m0 58 rfl) rfl
theorem q70 : (Jvm.Cond.lays "RankedPairs" "RankedPairs" "fixedPlan" "I") ∈ lw_all := lw_g (lw_at lw_m0 59 rfl) rfl
theorem q71 : (Jvm.Cond.soleField "RankedPairs" "fixedPlan") ∈ lw_all := lw_g (lw_at lw_m0 60 rfl) rfl
theorem q72 : (Jvm.Cond.lays "RankedPairs" "RankedPairs" "pinnedWorker" "I") ∈ lw_all := lw_g (lw_at lw_m0 61 rfl) rfl
theorem q73 : (Jvm.Cond.soleField "RankedPairs" "pinnedWorker") ∈ lw_all := lw_g (lw_at lw_m0 62 rfl) rfl
theorem q74 : (Jvm.Cond.lays "RankedPairs" "RankedPairs" "pinnedTask" "I") ∈ lw_all := lw_g (lw_at lw_m0 63 rfl) rfl
theorem q75 : (Jvm.Cond.soleField "RankedPairs" "pinnedTask") ∈ lw_all := lw_g (lw_at lw_m0 64 rfl) rfl
theorem q76 : (Jvm.Cond.laysFinal "RankedPairs" "RankedPairs" "workerPrice" "[J") ∈ lw_all := lw_g (lw_at lw_m0 65 rfl) rfl
theorem q77 : (Jvm.Cond.soleField "RankedPairs" "workerPrice") ∈ lw_all := lw_g (lw_at lw_m0 66 rfl) rfl
theorem q78 : (Jvm.Cond.laysFinal "RankedPairs" "RankedPairs" "taskPrice" "[J") ∈ lw_all := lw_g (lw_at lw_m0 67 rfl) rfl
theorem q79 : (Jvm.Cond.soleField "RankedPairs" "taskPrice") ∈ lw_all := lw_g (lw_at lw_m0 68 rfl) rfl
theorem q80 : (Jvm.Cond.laysFinal "RankedPairs" "RankedPairs" "holder" "[I") ∈ lw_all := lw_g (lw_at lw_m0 69 rfl) rfl
theorem q81 : (Jvm.Cond.soleField "RankedPairs" "holder") ∈ lw_all := lw_g (lw_at lw_m0 70 rfl) rfl
theorem q82 : (Jvm.Cond.laysFinal "RankedPairs" "RankedPairs" "before" "[I") ∈ lw_all := lw_g (lw_at lw_m0 71 rfl) rfl
theorem q83 : (Jvm.Cond.soleField "RankedPairs" "before") ∈ lw_all := lw_g (lw_at lw_m0 72 rfl) rfl
theorem q84 : (Jvm.Cond.laysFinal "RankedPairs" "RankedPairs" "slack" "[J") ∈ lw_all := lw_g (lw_at lw_m0 73 rfl) rfl
theorem q85 : (Jvm.Cond.soleField "RankedPairs" "slack") ∈ lw_all := lw_g (lw_at lw_m0 74 rfl) rfl
theorem q86 : (Jvm.Cond.laysFinal "RankedPairs" "RankedPairs" "settled" "[Z") ∈ lw_all := lw_g (lw_at lw_m0 75 rfl) rfl
theorem q87 : (Jvm.Cond.soleField "RankedPairs" "settled") ∈ lw_all := lw_g (lw_at lw_m0 76 rfl) rfl
theorem q88 : (Jvm.Cond.superclass "RankedPairs" "java/lang/Object") ∈ lw_all := lw_g (lw_at lw_m0 77 rfl) rfl
theorem q93 : (Jvm.Cond.instanceMethod ({ cls := "RankedPairs", name := "price", desc := "(III)I" } : Jvm.MethodName)) ∈ lw_all := lw_g (lw_at lw_m0 82 rfl) rfl
theorem q94 : (Jvm.Cond.selects "RankedPairs" ({ cls := "RankedPairs", name := "price", desc := "(III)I" } : Jvm.MethodName) ({ cls := "RankedPairs", name := "price", desc := "(III)I" } : Jvm.MethodName)) ∈ lw_all := lw_g (lw_at lw_m0 83 rfl) rfl
theorem q95 : (Jvm.Cond.code ({ cls := "RankedPairs", name := "price", desc := "(III)I" } : Jvm.MethodName) prog_1_method_2_code (4 : Nat) (Option.some Jvm.ClassFile.FieldType.int)) ∈ lw_all := lw_g (lw_at lw_m0 84 rfl) rfl
theorem q96 : (Jvm.Cond.methodLink "RankedPairs" (55 : Nat) ({ cls := "RankedPairs", name := "inRange", desc := "(I)Z" } : Jvm.MethodName)) ∈ lw_all := lw_g (lw_at lw_m0 85 rfl) rfl
theorem q97 : (Jvm.Cond.static ({ cls := "RankedPairs", name := "inRange", desc := "(I)Z" } : Jvm.MethodName)) ∈ lw_all := lw_g (lw_at lw_m0 86 rfl) rfl
theorem q98 : (Jvm.Cond.code ({ cls := "RankedPairs", name := "inRange", desc := "(I)Z" } : Jvm.MethodName) prog_1_method_11_code (1 : Nat) (Option.some Jvm.ClassFile.FieldType.boolean)) ∈ lw_all := lw_g (lw_at lw_m0 87 rfl) rfl
theorem q100 : (Jvm.Cond.instanceMethod ({ cls := "RankedPairs", name := "bar", desc := "(II)I" } : Jvm.MethodName)) ∈ lw_all := lw_g (lw_at lw_m0 89 rfl) rfl
theorem q101 : (Jvm.Cond.selects "RankedPairs" ({ cls := "RankedPairs", name := "bar", desc := "(II)I" } : Jvm.MethodName) ({ cls := "RankedPairs", name := "bar", desc := "(II)I" } : Jvm.MethodName)) ∈ lw_all := lw_g (lw_at lw_m0 90 rfl) rfl
theorem q102 : (Jvm.Cond.code ({ cls := "RankedPairs", name := "bar", desc := "(II)I" } : Jvm.MethodName) prog_1_method_3_code (3 : Nat) (Option.some Jvm.ClassFile.FieldType.int)) ∈ lw_all := lw_g (lw_at lw_m0 91 rfl) rfl
theorem q104 : (Jvm.Cond.instanceMethod ({ cls := "RankedPairs", name := "plans", desc := "()I" } : Jvm.MethodName)) ∈ lw_all := lw_g (lw_at lw_m0 93 rfl) rfl
theorem q105 : (Jvm.Cond.selects "RankedPairs" ({ cls := "RankedPairs", name := "plans", desc := "()I" } : Jvm.MethodName) ({ cls := "RankedPairs", name := "plans", desc := "()I" } : Jvm.MethodName)) ∈ lw_all := lw_g (lw_at lw_m0 94 rfl) rfl
theorem q106 : (Jvm.Cond.code ({ cls := "RankedPairs", name := "plans", desc := "()I" } : Jvm.MethodName) prog_1_method_4_code (1 : Nat) (Option.some Jvm.ClassFile.FieldType.int)) ∈ lw_all := lw_g (lw_at lw_m0 95 rfl) rfl
theorem q107 : (Jvm.Cond.methodLink "RankedPairs" (63 : Nat) ({ cls := "RankedPairs", name := "findUpTo", desc := "(I)V" } : Jvm.MethodName)) ∈ lw_all := lw_g (lw_at lw_m0 96 rfl) rfl
theorem q108 : (Jvm.Cond.privateMethod ({ cls := "RankedPairs", name := "findUpTo", desc := "(I)V" } : Jvm.MethodName)) ∈ lw_tbl := lw_at lw_m0 97 rfl
theorem q109 : (Jvm.Cond.instanceMethod ({ cls := "RankedPairs", name := "findUpTo", desc := "(I)V" } : Jvm.MethodName)) ∈ lw_all := lw_g (lw_at lw_m0 98 rfl) rfl
theorem q110 : (Jvm.Cond.code ({ cls := "RankedPairs", name := "findUpTo", desc := "(I)V" } : Jvm.MethodName) prog_1_method_15_code (5 : Nat) (Option.none : Option Jvm.ClassFile.FieldType)) ∈ lw_all := lw_g (lw_at lw_m0 99 rfl) rfl
theorem q111 : (Jvm.Cond.methodLink "RankedPairs" (102 : Nat) ({ cls := "RankedPairs", name := "addPart", desc := "(III)V" } : Jvm.MethodName)) ∈ lw_all := lw_g (lw_at lw_m0 100 rfl) rfl
theorem q112 : (Jvm.Cond.privateMethod ({ cls := "RankedPairs", name := "addPart", desc := "(III)V" } : Jvm.MethodName)) ∈ lw_tbl := lw_at lw_m0 101 rfl
theorem q113 : (Jvm.Cond.instanceMethod ({ cls := "RankedPairs", name := "addPart", desc := "(III)V" } : Jvm.MethodName)) ∈ lw_all := lw_g (lw_at lw_m0 102 rfl) rfl
theorem q114 : (Jvm.Cond.code ({ cls := "RankedPairs", name := "addPart", desc := "(III)V" } : Jvm.MethodName) prog_1_method_17_code (6 : Nat) (Option.none : Option Jvm.ClassFile.FieldType)) ∈ lw_all := lw_g (lw_at lw_m0 103 rfl) rfl
theorem q115 : (Jvm.Cond.methodLink "RankedPairs" (82 : Nat) ({ cls := "RankedPairs", name := "setPart", desc := "(III)V" } : Jvm.MethodName)) ∈ lw_all := lw_g (lw_at lw_m0 104 rfl) rfl
theorem q116 : (Jvm.Cond.privateMethod ({ cls := "RankedPairs", name := "setPart", desc := "(III)V" } : Jvm.MethodName)) ∈ lw_tbl := lw_at lw_m0 105 rfl
theorem q117 : (Jvm.Cond.instanceMethod ({ cls := "RankedPairs", name := "setPart", desc := "(III)V" } : Jvm.MethodName)) ∈ lw_all := lw_g (lw_at lw_m0 106 rfl) rfl
theorem q118 : (Jvm.Cond.code ({ cls := "RankedPairs", name := "setPart", desc := "(III)V" } : Jvm.MethodName) prog_1_method_18_code (4 : Nat) (Option.none : Option Jvm.ClassFile.FieldType)) ∈ lw_all := lw_g (lw_at lw_m0 107 rfl) rfl
theorem q119 : (Jvm.Cond.methodLink "RankedPairs" (86 : Nat) ({ cls := "RankedPairs", name := "solve", desc := "()J" } : Jvm.MethodName)) ∈ lw_all := lw_g (lw_at lw_m0 108 rfl) rfl
theorem q120 : (Jvm.Cond.privateMethod ({ cls := "RankedPairs", name := "solve", desc := "()J" } : Jvm.MethodName)) ∈ lw_tbl := lw_at lw_m0 109 rfl
theorem q121 : (Jvm.Cond.instanceMethod ({ cls := "RankedPairs", name := "solve", desc := "()J" } : Jvm.MethodName)) ∈ lw_all := lw_g (lw_at lw_m0 110 rfl) rfl
theorem q122 : (Jvm.Cond.code ({ cls := "RankedPairs", name := "solve", desc := "()J" } : Jvm.MethodName) prog_1_method_20_code (4 : Nat) (Option.some Jvm.ClassFile.FieldType.long)) ∈ lw_all := lw_g (lw_at lw_m0 111 rfl) rfl
theorem q123 : (Jvm.Cond.methodLink "RankedPairs" (117 : Nat) ({ cls := "RankedPairs", name := "bringIn", desc := "(I)V" } : Jvm.MethodName)) ∈ lw_all := lw_g (lw_at lw_m0 112 rfl) rfl
theorem q124 : (Jvm.Cond.privateMethod ({ cls := "RankedPairs", name := "bringIn", desc := "(I)V" } : Jvm.MethodName)) ∈ lw_tbl := lw_at lw_m0 113 rfl
theorem q125 : (Jvm.Cond.instanceMethod ({ cls := "RankedPairs", name := "bringIn", desc := "(I)V" } : Jvm.MethodName)) ∈ lw_all := lw_g (lw_at lw_m0 114 rfl) rfl
theorem q126 : (Jvm.Cond.code ({ cls := "RankedPairs", name := "bringIn", desc := "(I)V" } : Jvm.MethodName) prog_1_method_21_code (5 : Nat) (Option.none : Option Jvm.ClassFile.FieldType)) ∈ lw_all := lw_g (lw_at lw_m0 115 rfl) rfl
theorem q127 : (Jvm.Cond.constantLong "RankedPairs" (124 : Nat) (100000000000 : Int64)) ∈ lw_all := lw_g (lw_at lw_m0 116 rfl) rfl
theorem q128 : (Jvm.Cond.methodLink "RankedPairs" (126 : Nat) ({ cls := "RankedPairs", name := "nextTask", desc := "(I)I" } : Jvm.MethodName)) ∈ lw_all := lw_g (lw_at lw_m0 117 rfl) rfl
theorem q129 : (Jvm.Cond.privateMethod ({ cls := "RankedPairs", name := "nextTask", desc := "(I)I" } : Jvm.MethodName)) ∈ lw_tbl := lw_at lw_m0 118 rfl
theorem q130 : (Jvm.Cond.instanceMethod ({ cls := "RankedPairs", name := "nextTask", desc := "(I)I" } : Jvm.MethodName)) ∈ lw_all := lw_g (lw_at lw_m0 119 rfl) rfl
theorem q131 : (Jvm.Cond.code ({ cls := "RankedPairs", name := "nextTask", desc := "(I)I" } : Jvm.MethodName) prog_1_method_22_code (7 : Nat) (Option.some Jvm.ClassFile.FieldType.int)) ∈ lw_all := lw_g (lw_at lw_m0 120 rfl) rfl
theorem q132 : (Jvm.Cond.methodLink "RankedPairs" (120 : Nat) ({ cls := "RankedPairs", name := "valueOf", desc := "(II)J" } : Jvm.MethodName)) ∈ lw_all := lw_g (lw_at lw_m0 121 rfl) rfl
theorem q133 : (Jvm.Cond.privateMethod ({ cls := "RankedPairs", name := "valueOf", desc := "(II)J" } : Jvm.MethodName)) ∈ lw_tbl := lw_at lw_m0 122 rfl
theorem q134 : (Jvm.Cond.instanceMethod ({ cls := "RankedPairs", name := "valueOf", desc := "(II)J" } : Jvm.MethodName)) ∈ lw_all := lw_g (lw_at lw_m0 123 rfl) rfl
theorem q135 : (Jvm.Cond.code ({ cls := "RankedPairs", name := "valueOf", desc := "(II)J" } : Jvm.MethodName) prog_1_method_19_code (4 : Nat) (Option.some Jvm.ClassFile.FieldType.long)) ∈ lw_all := lw_g (lw_at lw_m0 124 rfl) rfl
theorem q136 : (Jvm.Cond.methodLink "RankedPairs" (75 : Nat) ({ cls := "RankedPairs", name := "digit", desc := "(II)I" } : Jvm.MethodName)) ∈ lw_all := lw_g (lw_at lw_m0 125 rfl) rfl
theorem q137 : (Jvm.Cond.static ({ cls := "RankedPairs", name := "digit", desc := "(II)I" } : Jvm.MethodName)) ∈ lw_all := lw_g (lw_at lw_m0 126 rfl) rfl
theorem q138 : (Jvm.Cond.code ({ cls := "RankedPairs", name := "digit", desc := "(II)I" } : Jvm.MethodName) prog_1_method_14_code (2 : Nat) (Option.some Jvm.ClassFile.FieldType.int)) ∈ lw_all := lw_g (lw_at lw_m0 127 rfl) rfl
theorem q139 : (Jvm.Cond.methodLink "RankedPairs" (92 : Nat) ({ cls := "RankedPairs", name := "weight", desc := "(I)I" } : Jvm.MethodName)) ∈ lw_all := lw_g (lw_at lw_m0 128 rfl) rfl
theorem q140 : (Jvm.Cond.static ({ cls := "RankedPairs", name := "weight", desc := "(I)I" } : Jvm.MethodName)) ∈ lw_all := lw_g (lw_at lw_m0 129 rfl) rfl
theorem q141 : (Jvm.Cond.code ({ cls := "RankedPairs", name := "weight", desc := "(I)I" } : Jvm.MethodName) prog_1_method_13_code (3 : Nat) (Option.some Jvm.ClassFile.FieldType.int)) ∈ lw_all := lw_g (lw_at lw_m0 130 rfl) rfl
theorem q142 : (Jvm.Cond.constantLong "RankedPairs" (73 : Nat) (3125 : Int64)) ∈ lw_all := lw_g (lw_at lw_m0 131 rfl) rfl
theorem q143 : (Jvm.Cond.constantLong "RankedPairs" (90 : Nat) (1000000000 : Int64)) ∈ lw_all := lw_g (lw_at lw_m0 132 rfl) rfl
theorem q144 : (Jvm.Cond.methodLink "RankedPairs" (105 : Nat) ({ cls := "RankedPairs", name := "divide", desc := "(I)V" } : Jvm.MethodName)) ∈ lw_all := lw_g (lw_at lw_m0 133 rfl) rfl
theorem q145 : (Jvm.Cond.privateMethod ({ cls := "RankedPairs", name := "divide", desc := "(I)V" } : Jvm.MethodName)) ∈ lw_tbl := lw_at lw_m0 134 rfl
theorem q146 : (Jvm.Cond.instanceMethod ({ cls := "RankedPairs", name := "divide", desc := "(I)V" } : Jvm.MethodName)) ∈ lw_all := lw_g (lw_at lw_m0 135 rfl) rfl
theorem q147 : (Jvm.Cond.code ({ cls := "RankedPairs", name := "divide", desc := "(I)V" } : Jvm.MethodName) prog_1_method_16_code (6 : Nat) (Option.none : Option Jvm.ClassFile.FieldType)) ∈ lw_all := lw_g (lw_at lw_m0 136 rfl) rfl
theorem q149 : (Jvm.Cond.instanceMethod ({ cls := "RankedPairs", name := "cost", desc := "(I)I" } : Jvm.MethodName)) ∈ lw_all := lw_g (lw_at lw_m0 138 rfl) rfl
theorem q150 : (Jvm.Cond.selects "RankedPairs" ({ cls := "RankedPairs", name := "cost", desc := "(I)I" } : Jvm.MethodName) ({ cls := "RankedPairs", name := "cost", desc := "(I)I" } : Jvm.MethodName)) ∈ lw_all := lw_g (lw_at lw_m0 139 rfl) rfl
theorem q151 : (Jvm.Cond.code ({ cls := "RankedPairs", name := "cost", desc := "(I)I" } : Jvm.MethodName) prog_1_method_5_code (2 : Nat) (Option.some Jvm.ClassFile.FieldType.int)) ∈ lw_all := lw_g (lw_at lw_m0 140 rfl) rfl
theorem q152 : (Jvm.Cond.methodLink "RankedPairs" (70 : Nat) ({ cls := "RankedPairs", name := "hasRank", desc := "(I)Z" } : Jvm.MethodName)) ∈ lw_all := lw_g (lw_at lw_m0 141 rfl) rfl
theorem q153 : (Jvm.Cond.privateMethod ({ cls := "RankedPairs", name := "hasRank", desc := "(I)Z" } : Jvm.MethodName)) ∈ lw_tbl := lw_at lw_m0 142 rfl
theorem q154 : (Jvm.Cond.instanceMethod ({ cls := "RankedPairs", name := "hasRank", desc := "(I)Z" } : Jvm.MethodName)) ∈ lw_all := lw_g (lw_at lw_m0 143 rfl) rfl
theorem q155 : (Jvm.Cond.code ({ cls := "RankedPairs", name := "hasRank", desc := "(I)Z" } : Jvm.MethodName) prog_1_method_12_code (2 : Nat) (Option.some Jvm.ClassFile.FieldType.boolean)) ∈ lw_all := lw_g (lw_at lw_m0 144 rfl) rfl
theorem q157 : (Jvm.Cond.instanceMethod ({ cls := "RankedPairs", name := "plan", desc := "(I)I" } : Jvm.MethodName)) ∈ lw_all := lw_g (lw_at lw_m0 146 rfl) rfl
theorem q158 : (Jvm.Cond.selects "RankedPairs" ({ cls := "RankedPairs", name := "plan", desc := "(I)I" } : Jvm.MethodName) ({ cls := "RankedPairs", name := "plan", desc := "(I)I" } : Jvm.MethodName)) ∈ lw_all := lw_g (lw_at lw_m0 147 rfl) rfl
theorem q159 : (Jvm.Cond.code ({ cls := "RankedPairs", name := "plan", desc := "(I)I" } : Jvm.MethodName) prog_1_method_6_code (2 : Nat) (Option.some Jvm.ClassFile.FieldType.int)) ∈ lw_all := lw_g (lw_at lw_m0 148 rfl) rfl
theorem q161 : (Jvm.Cond.instanceMethod ({ cls := "RankedPairs", name := "task", desc := "(II)I" } : Jvm.MethodName)) ∈ lw_all := lw_g (lw_at lw_m0 150 rfl) rfl
theorem q162 : (Jvm.Cond.selects "RankedPairs" ({ cls := "RankedPairs", name := "task", desc := "(II)I" } : Jvm.MethodName) ({ cls := "RankedPairs", name := "task", desc := "(II)I" } : Jvm.MethodName)) ∈ lw_all := lw_g (lw_at lw_m0 151 rfl) rfl
theorem q163 : (Jvm.Cond.code ({ cls := "RankedPairs", name := "task", desc := "(II)I" } : Jvm.MethodName) prog_1_method_7_code (4 : Nat) (Option.some Jvm.ClassFile.FieldType.int)) ∈ lw_all := lw_g (lw_at lw_m0 152 rfl) rfl
theorem q165 : (Jvm.Cond.instanceMethod ({ cls := "RankedPairs", name := "within", desc := "(I)I" } : Jvm.MethodName)) ∈ lw_all := lw_g (lw_at lw_m0 154 rfl) rfl
theorem q166 : (Jvm.Cond.selects "RankedPairs" ({ cls := "RankedPairs", name := "within", desc := "(I)I" } : Jvm.MethodName) ({ cls := "RankedPairs", name := "within", desc := "(I)I" } : Jvm.MethodName)) ∈ lw_all := lw_g (lw_at lw_m0 155 rfl) rfl
theorem q167 : (Jvm.Cond.code ({ cls := "RankedPairs", name := "within", desc := "(I)I" } : Jvm.MethodName) prog_1_method_8_code (4 : Nat) (Option.some Jvm.ClassFile.FieldType.int)) ∈ lw_all := lw_g (lw_at lw_m0 156 rfl) rfl
theorem q169 : (Jvm.Cond.instanceMethod ({ cls := "RankedPairs", name := "rank", desc := "(I)I" } : Jvm.MethodName)) ∈ lw_all := lw_g (lw_at lw_m0 158 rfl) rfl
theorem q170 : (Jvm.Cond.selects "RankedPairs" ({ cls := "RankedPairs", name := "rank", desc := "(I)I" } : Jvm.MethodName) ({ cls := "RankedPairs", name := "rank", desc := "(I)I" } : Jvm.MethodName)) ∈ lw_all := lw_g (lw_at lw_m0 159 rfl) rfl
theorem q171 : (Jvm.Cond.code ({ cls := "RankedPairs", name := "rank", desc := "(I)I" } : Jvm.MethodName) prog_1_method_9_code (3 : Nat) (Option.some Jvm.ClassFile.FieldType.int)) ∈ lw_all := lw_g (lw_at lw_m0 160 rfl) rfl
theorem q173 : (Jvm.Cond.instanceMethod ({ cls := "RankedPairs", name := "cheapestWith", desc := "(II)I" } : Jvm.MethodName)) ∈ lw_all := lw_g (lw_at lw_m0 162 rfl) rfl
theorem q174 : (Jvm.Cond.selects "RankedPairs" ({ cls := "RankedPairs", name := "cheapestWith", desc := "(II)I" } : Jvm.MethodName) ({ cls := "RankedPairs", name := "cheapestWith", desc := "(II)I" } : Jvm.MethodName)) ∈ lw_all := lw_g (lw_at lw_m0 163 rfl) rfl
theorem q175 : (Jvm.Cond.code ({ cls := "RankedPairs", name := "cheapestWith", desc := "(II)I" } : Jvm.MethodName) prog_1_method_10_code (5 : Nat) (Option.some Jvm.ClassFile.FieldType.int)) ∈ lw_all := lw_g (lw_at lw_m0 164 rfl) rfl
theorem in_X0 : ∀ w ∈ wsX00, w ∈ lw_all := lw_in wsX00 [44, 46, 48, 50, 52, 54, 56, 58, 60, 62, 64, 66, 68, 70, 72, 74, 76, 78, 80, 82, 84, 86] (by decide +kernel) (by decide +kernel)
end
section
set_option maxRecDepth 100000
theorem dX0_init_0 : decode cX0_init 0 = .ok (.aload_n 0, 1) := by decide +kernel
theorem dX0_init_1 : decode cX0_init 1 = .ok (.invokespecial 1, 3) := by decide +kernel
theorem dX0_init_4 : decode cX0_init 4 = .ok (.aload_n 0, 1) := by decide +kernel
theorem dX0_init_5 : decode cX0_init 5 = .ok (.bipush 25, 2) := by decide +kernel
theorem dX0_init_7 : decode cX0_init 7 = .ok (.newarray .int, 2) := by decide +kernel
theorem dX0_init_9 : decode cX0_init 9 = .ok (.putfield 7, 3) := by decide +kernel
theorem dX0_init_12 : decode cX0_init 12 = .ok (.aload_n 0, 1) := by decide +kernel
theorem dX0_init_13 : decode cX0_init 13 = .ok (.bipush 25, 2) := by decide +kernel
theorem dX0_init_15 : decode cX0_init 15 = .ok (.newarray .boolean, 2) := by decide +kernel
theorem dX0_init_17 : decode cX0_init 17 = .ok (.putfield 13, 3) := by decide +kernel
theorem dX0_init_20 : decode cX0_init 20 = .ok (.aload_n 0, 1) := by decide +kernel
theorem dX0_init_21 : decode cX0_init 21 = .ok (.bipush 120, 2) := by decide +kernel
theorem dX0_init_23 : decode cX0_init 23 = .ok (.newarray .long, 2) := by decide +kernel
theorem dX0_init_25 : decode cX0_init 25 = .ok (.putfield 17, 3) := by decide +kernel
theorem dX0_init_28 : decode cX0_init 28 = .ok (.aload_n 0, 1) := by decide +kernel
theorem dX0_init_29 : decode cX0_init 29 = .ok (.sipush 640, 3) := by decide +kernel
theorem dX0_init_32 : decode cX0_init 32 = .ok (.newarray .boolean, 2) := by decide +kernel
theorem dX0_init_34 : decode cX0_init 34 = .ok (.putfield 21, 3) := by decide +kernel
theorem dX0_init_37 : decode cX0_init 37 = .ok (.aload_n 0, 1) := by decide +kernel
theorem dX0_init_38 : decode cX0_init 38 = .ok (.sipush 640, 3) := by decide +kernel
theorem dX0_init_41 : decode cX0_init 41 = .ok (.newarray .int, 2) := by decide +kernel
theorem dX0_init_43 : decode cX0_init 43 = .ok (.putfield 24, 3) := by decide +kernel
theorem dX0_init_46 : decode cX0_init 46 = .ok (.aload_n 0, 1) := by decide +kernel
theorem dX0_init_47 : decode cX0_init 47 = .ok (.sipush 640, 3) := by decide +kernel
theorem dX0_init_50 : decode cX0_init 50 = .ok (.newarray .int, 2) := by decide +kernel
theorem dX0_init_52 : decode cX0_init 52 = .ok (.putfield 27, 3) := by decide +kernel
theorem dX0_init_55 : decode cX0_init 55 = .ok (.aload_n 0, 1) := by decide +kernel
theorem dX0_init_56 : decode cX0_init 56 = .ok (.sipush 640, 3) := by decide +kernel
theorem dX0_init_59 : decode cX0_init 59 = .ok (.newarray .long, 2) := by decide +kernel
theorem dX0_init_61 : decode cX0_init 61 = .ok (.putfield 30, 3) := by decide +kernel
theorem dX0_init_64 : decode cX0_init 64 = .ok (.aload_n 0, 1) := by decide +kernel
theorem dX0_init_65 : decode cX0_init 65 = .ok (.bipush 6, 2) := by decide +kernel
theorem dX0_init_67 : decode cX0_init 67 = .ok (.newarray .long, 2) := by decide +kernel
theorem dX0_init_69 : decode cX0_init 69 = .ok (.putfield 33, 3) := by decide +kernel
theorem dX0_init_72 : decode cX0_init 72 = .ok (.aload_n 0, 1) := by decide +kernel
theorem dX0_init_73 : decode cX0_init 73 = .ok (.bipush 6, 2) := by decide +kernel
theorem dX0_init_75 : decode cX0_init 75 = .ok (.newarray .long, 2) := by decide +kernel
theorem dX0_init_77 : decode cX0_init 77 = .ok (.putfield 36, 3) := by decide +kernel
theorem dX0_init_80 : decode cX0_init 80 = .ok (.aload_n 0, 1) := by decide +kernel
theorem dX0_init_81 : decode cX0_init 81 = .ok (.bipush 6, 2) := by decide +kernel
theorem dX0_init_83 : decode cX0_init 83 = .ok (.newarray .int, 2) := by decide +kernel
theorem dX0_init_85 : decode cX0_init 85 = .ok (.putfield 39, 3) := by decide +kernel
theorem dX0_init_88 : decode cX0_init 88 = .ok (.aload_n 0, 1) := by decide +kernel
theorem dX0_init_89 : decode cX0_init 89 = .ok (.bipush 6, 2) := by decide +kernel
theorem dX0_init_91 : decode cX0_init 91 = .ok (.newarray .int, 2) := by decide +kernel
theorem dX0_init_93 : decode cX0_init 93 = .ok (.putfield 42, 3) := by decide +kernel
theorem dX0_init_96 : decode cX0_init 96 = .ok (.aload_n 0, 1) := by decide +kernel
theorem dX0_init_97 : decode cX0_init 97 = .ok (.bipush 6, 2) := by decide +kernel
theorem dX0_init_99 : decode cX0_init 99 = .ok (.newarray .long, 2) := by decide +kernel
theorem dX0_init_101 : decode cX0_init 101 = .ok (.putfield 45, 3) := by decide +kernel
theorem dX0_init_104 : decode cX0_init 104 = .ok (.aload_n 0, 1) := by decide +kernel
theorem dX0_init_105 : decode cX0_init 105 = .ok (.bipush 6, 2) := by decide +kernel
theorem dX0_init_107 : decode cX0_init 107 = .ok (.newarray .boolean, 2) := by decide +kernel
theorem dX0_init_109 : decode cX0_init 109 = .ok (.putfield 48, 3) := by decide +kernel
theorem dX0_init_112 : decode cX0_init 112 = .ok (.aload_n 0, 1) := by decide +kernel
theorem dX0_init_113 : decode cX0_init 113 = .ok (.iconst (-1), 1) := by decide +kernel
theorem dX0_init_114 : decode cX0_init 114 = .ok (.putfield 51, 3) := by decide +kernel
theorem dX0_init_117 : decode cX0_init 117 = .ok (.return_, 1) := by decide +kernel
theorem dX0_price_0 : decode cX0_price 0 = .ok (.iload_n 1, 1) := by decide +kernel
theorem dX0_price_1 : decode cX0_price 1 = .ok (.invokestatic 55, 3) := by decide +kernel
theorem dX0_price_4 : decode cX0_price 4 = .ok (.ifCond .eq 20, 3) := by decide +kernel
theorem dX0_price_7 : decode cX0_price 7 = .ok (.iload_n 2, 1) := by decide +kernel
theorem dX0_price_8 : decode cX0_price 8 = .ok (.invokestatic 55, 3) := by decide +kernel
theorem dX0_price_11 : decode cX0_price 11 = .ok (.ifCond .eq 13, 3) := by decide +kernel
theorem dX0_price_14 : decode cX0_price 14 = .ok (.iload_n 3, 1) := by decide +kernel
theorem dX0_price_15 : decode cX0_price 15 = .ok (.ifCond .lt 9, 3) := by decide +kernel
theorem dX0_price_18 : decode cX0_price 18 = .ok (.iload_n 3, 1) := by decide +kernel
theorem dX0_price_19 : decode cX0_price 19 = .ok (.bipush 99, 2) := by decide +kernel
theorem dX0_price_21 : decode cX0_price 21 = .ok (.if_icmp .le 5, 3) := by decide +kernel
theorem dX0_price_24 : decode cX0_price 24 = .ok (.iconst (-1), 1) := by decide +kernel
theorem dX0_price_25 : decode cX0_price 25 = .ok (.ireturn, 1) := by decide +kernel
theorem dX0_price_26 : decode cX0_price 26 = .ok (.aload_n 0, 1) := by decide +kernel
theorem dX0_price_27 : decode cX0_price 27 = .ok (.getfield 7, 3) := by decide +kernel
theorem dX0_price_30 : decode cX0_price 30 = .ok (.iconst 5, 1) := by decide +kernel
theorem dX0_price_31 : decode cX0_price 31 = .ok (.iload_n 1, 1) := by decide +kernel
theorem dX0_price_32 : decode cX0_price 32 = .ok (.imul, 1) := by decide +kernel
theorem dX0_price_33 : decode cX0_price 33 = .ok (.iload_n 2, 1) := by decide +kernel
theorem dX0_price_34 : decode cX0_price 34 = .ok (.iadd, 1) := by decide +kernel
theorem dX0_price_35 : decode cX0_price 35 = .ok (.iload_n 3, 1) := by decide +kernel
theorem dX0_price_36 : decode cX0_price 36 = .ok (.iastore, 1) := by decide +kernel
theorem dX0_price_37 : decode cX0_price 37 = .ok (.aload_n 0, 1) := by decide +kernel
theorem dX0_price_38 : decode cX0_price 38 = .ok (.getfield 13, 3) := by decide +kernel
theorem dX0_price_41 : decode cX0_price 41 = .ok (.iconst 5, 1) := by decide +kernel
theorem dX0_price_42 : decode cX0_price 42 = .ok (.iload_n 1, 1) := by decide +kernel
theorem dX0_price_43 : decode cX0_price 43 = .ok (.imul, 1) := by decide +kernel
theorem dX0_price_44 : decode cX0_price 44 = .ok (.iload_n 2, 1) := by decide +kernel
theorem dX0_price_45 : decode cX0_price 45 = .ok (.iadd, 1) := by decide +kernel
theorem dX0_price_46 : decode cX0_price 46 = .ok (.iconst 0, 1) := by decide +kernel
theorem dX0_price_47 : decode cX0_price 47 = .ok (.bastore, 1) := by decide +kernel
theorem dX0_price_48 : decode cX0_price 48 = .ok (.aload_n 0, 1) := by decide +kernel
theorem dX0_price_49 : decode cX0_price 49 = .ok (.iconst 0, 1) := by decide +kernel
theorem dX0_price_50 : decode cX0_price 50 = .ok (.putfield 59, 3) := by decide +kernel
theorem dX0_price_53 : decode cX0_price 53 = .ok (.iconst 0, 1) := by decide +kernel
theorem dX0_price_54 : decode cX0_price 54 = .ok (.ireturn, 1) := by decide +kernel
theorem dX0_inRange_0 : decode cX0_inRange 0 = .ok (.iload_n 0, 1) := by decide +kernel
theorem dX0_inRange_1 : decode cX0_inRange 1 = .ok (.ifCond .lt 12, 3) := by decide +kernel
theorem dX0_inRange_4 : decode cX0_inRange 4 = .ok (.iload_n 0, 1) := by decide +kernel
theorem dX0_inRange_5 : decode cX0_inRange 5 = .ok (.iconst 4, 1) := by decide +kernel
theorem dX0_inRange_6 : decode cX0_inRange 6 = .ok (.if_icmp .gt 7, 3) := by decide +kernel
theorem dX0_inRange_9 : decode cX0_inRange 9 = .ok (.iconst 1, 1) := by decide +kernel
theorem dX0_inRange_10 : decode cX0_inRange 10 = .ok (.goto 4, 3) := by decide +kernel
theorem dX0_inRange_13 : decode cX0_inRange 13 = .ok (.iconst 0, 1) := by decide +kernel
theorem dX0_inRange_14 : decode cX0_inRange 14 = .ok (.ireturn, 1) := by decide +kernel
theorem dX0_bar_0 : decode cX0_bar 0 = .ok (.iload_n 1, 1) := by decide +kernel
theorem dX0_bar_1 : decode cX0_bar 1 = .ok (.invokestatic 55, 3) := by decide +kernel
theorem dX0_bar_4 : decode cX0_bar 4 = .ok (.ifCond .eq 10, 3) := by decide +kernel
theorem dX0_bar_7 : decode cX0_bar 7 = .ok (.iload_n 2, 1) := by decide +kernel
theorem dX0_bar_8 : decode cX0_bar 8 = .ok (.invokestatic 55, 3) := by decide +kernel
theorem dX0_bar_11 : decode cX0_bar 11 = .ok (.ifCond .ne 5, 3) := by decide +kernel
theorem dX0_bar_14 : decode cX0_bar 14 = .ok (.iconst (-1), 1) := by decide +kernel
theorem dX0_bar_15 : decode cX0_bar 15 = .ok (.ireturn, 1) := by decide +kernel
theorem dX0_bar_16 : decode cX0_bar 16 = .ok (.aload_n 0, 1) := by decide +kernel
theorem dX0_bar_17 : decode cX0_bar 17 = .ok (.getfield 13, 3) := by decide +kernel
theorem dX0_bar_20 : decode cX0_bar 20 = .ok (.iconst 5, 1) := by decide +kernel
theorem dX0_bar_21 : decode cX0_bar 21 = .ok (.iload_n 1, 1) := by decide +kernel
theorem dX0_bar_22 : decode cX0_bar 22 = .ok (.imul, 1) := by decide +kernel
theorem dX0_bar_23 : decode cX0_bar 23 = .ok (.iload_n 2, 1) := by decide +kernel
theorem dX0_bar_24 : decode cX0_bar 24 = .ok (.iadd, 1) := by decide +kernel
theorem dX0_bar_25 : decode cX0_bar 25 = .ok (.iconst 1, 1) := by decide +kernel
theorem dX0_bar_26 : decode cX0_bar 26 = .ok (.bastore, 1) := by decide +kernel
theorem dX0_bar_27 : decode cX0_bar 27 = .ok (.aload_n 0, 1) := by decide +kernel
theorem dX0_bar_28 : decode cX0_bar 28 = .ok (.iconst 0, 1) := by decide +kernel
theorem dX0_bar_29 : decode cX0_bar 29 = .ok (.putfield 59, 3) := by decide +kernel
theorem dX0_bar_32 : decode cX0_bar 32 = .ok (.iconst 0, 1) := by decide +kernel
theorem dX0_bar_33 : decode cX0_bar 33 = .ok (.ireturn, 1) := by decide +kernel
theorem dX0_plans_0 : decode cX0_plans 0 = .ok (.aload_n 0, 1) := by decide +kernel
theorem dX0_plans_1 : decode cX0_plans 1 = .ok (.bipush 120, 2) := by decide +kernel
theorem dX0_plans_3 : decode cX0_plans 3 = .ok (.invokevirtual 63, 3) := by decide +kernel
theorem dX0_plans_6 : decode cX0_plans 6 = .ok (.aload_n 0, 1) := by decide +kernel
theorem dX0_plans_7 : decode cX0_plans 7 = .ok (.getfield 67, 3) := by decide +kernel
theorem dX0_plans_10 : decode cX0_plans 10 = .ok (.ireturn, 1) := by decide +kernel
theorem dX0_findUpTo_0 : decode cX0_findUpTo 0 = .ok (.aload_n 0, 1) := by decide +kernel
theorem dX0_findUpTo_1 : decode cX0_findUpTo 1 = .ok (.getfield 59, 3) := by decide +kernel
theorem dX0_findUpTo_4 : decode cX0_findUpTo 4 = .ok (.ifCond .ne 30, 3) := by decide +kernel
theorem dX0_findUpTo_7 : decode cX0_findUpTo 7 = .ok (.aload_n 0, 1) := by decide +kernel
theorem dX0_findUpTo_8 : decode cX0_findUpTo 8 = .ok (.iconst 1, 1) := by decide +kernel
theorem dX0_findUpTo_9 : decode cX0_findUpTo 9 = .ok (.putfield 59, 3) := by decide +kernel
theorem dX0_findUpTo_12 : decode cX0_findUpTo 12 = .ok (.aload_n 0, 1) := by decide +kernel
theorem dX0_findUpTo_13 : decode cX0_findUpTo 13 = .ok (.iconst 0, 1) := by decide +kernel
theorem dX0_findUpTo_14 : decode cX0_findUpTo 14 = .ok (.putfield 96, 3) := by decide +kernel
theorem dX0_findUpTo_17 : decode cX0_findUpTo 17 = .ok (.aload_n 0, 1) := by decide +kernel
theorem dX0_findUpTo_18 : decode cX0_findUpTo 18 = .ok (.iconst 0, 1) := by decide +kernel
theorem dX0_findUpTo_19 : decode cX0_findUpTo 19 = .ok (.putfield 67, 3) := by decide +kernel
theorem dX0_findUpTo_22 : decode cX0_findUpTo 22 = .ok (.aload_n 0, 1) := by decide +kernel
theorem dX0_findUpTo_23 : decode cX0_findUpTo 23 = .ok (.iconst 0, 1) := by decide +kernel
theorem dX0_findUpTo_24 : decode cX0_findUpTo 24 = .ok (.putfield 99, 3) := by decide +kernel
theorem dX0_findUpTo_27 : decode cX0_findUpTo 27 = .ok (.aload_n 0, 1) := by decide +kernel
theorem dX0_findUpTo_28 : decode cX0_findUpTo 28 = .ok (.iconst 0, 1) := by decide +kernel
theorem dX0_findUpTo_29 : decode cX0_findUpTo 29 = .ok (.iconst 0, 1) := by decide +kernel
theorem dX0_findUpTo_30 : decode cX0_findUpTo 30 = .ok (.iconst 0, 1) := by decide +kernel
theorem dX0_findUpTo_31 : decode cX0_findUpTo 31 = .ok (.invokevirtual 102, 3) := by decide +kernel
theorem dX0_findUpTo_34 : decode cX0_findUpTo 34 = .ok (.iconst 0, 1) := by decide +kernel
theorem dX0_findUpTo_35 : decode cX0_findUpTo 35 = .ok (.istore_n 2, 1) := by decide +kernel
theorem dX0_findUpTo_36 : decode cX0_findUpTo 36 = .ok (.iload_n 2, 1) := by decide +kernel
theorem dX0_findUpTo_37 : decode cX0_findUpTo 37 = .ok (.bipush 120, 2) := by decide +kernel
theorem dX0_findUpTo_39 : decode cX0_findUpTo 39 = .ok (.if_icmp .ge 139, 3) := by decide +kernel
theorem dX0_findUpTo_42 : decode cX0_findUpTo 42 = .ok (.aload_n 0, 1) := by decide +kernel
theorem dX0_findUpTo_43 : decode cX0_findUpTo 43 = .ok (.getfield 67, 3) := by decide +kernel
theorem dX0_findUpTo_46 : decode cX0_findUpTo 46 = .ok (.iload_n 1, 1) := by decide +kernel
theorem dX0_findUpTo_47 : decode cX0_findUpTo 47 = .ok (.if_icmp .ge 131, 3) := by decide +kernel
theorem dX0_findUpTo_50 : decode cX0_findUpTo 50 = .ok (.aload_n 0, 1) := by decide +kernel
theorem dX0_findUpTo_51 : decode cX0_findUpTo 51 = .ok (.getfield 96, 3) := by decide +kernel
theorem dX0_findUpTo_54 : decode cX0_findUpTo 54 = .ok (.ifCond .ne 124, 3) := by decide +kernel
theorem dX0_findUpTo_57 : decode cX0_findUpTo 57 = .ok (.iconst (-1), 1) := by decide +kernel
theorem dX0_findUpTo_58 : decode cX0_findUpTo 58 = .ok (.istore_n 3, 1) := by decide +kernel
theorem dX0_findUpTo_59 : decode cX0_findUpTo 59 = .ok (.iconst 0, 1) := by decide +kernel
theorem dX0_findUpTo_60 : decode cX0_findUpTo 60 = .ok (.istore 4, 2) := by decide +kernel
theorem dX0_findUpTo_62 : decode cX0_findUpTo 62 = .ok (.iload 4, 2) := by decide +kernel
theorem dX0_findUpTo_64 : decode cX0_findUpTo 64 = .ok (.aload_n 0, 1) := by decide +kernel
theorem dX0_findUpTo_65 : decode cX0_findUpTo 65 = .ok (.getfield 99, 3) := by decide +kernel
theorem dX0_findUpTo_68 : decode cX0_findUpTo 68 = .ok (.if_icmp .ge 47, 3) := by decide +kernel
theorem dX0_findUpTo_71 : decode cX0_findUpTo 71 = .ok (.aload_n 0, 1) := by decide +kernel
theorem dX0_findUpTo_72 : decode cX0_findUpTo 72 = .ok (.getfield 21, 3) := by decide +kernel
theorem dX0_findUpTo_75 : decode cX0_findUpTo 75 = .ok (.iload 4, 2) := by decide +kernel
theorem dX0_findUpTo_77 : decode cX0_findUpTo 77 = .ok (.baload, 1) := by decide +kernel
theorem dX0_findUpTo_78 : decode cX0_findUpTo 78 = .ok (.ifCond .eq 29, 3) := by decide +kernel
theorem dX0_findUpTo_81 : decode cX0_findUpTo 81 = .ok (.iload_n 3, 1) := by decide +kernel
theorem dX0_findUpTo_82 : decode cX0_findUpTo 82 = .ok (.ifCond .lt 20, 3) := by decide +kernel
theorem dX0_findUpTo_85 : decode cX0_findUpTo 85 = .ok (.aload_n 0, 1) := by decide +kernel
theorem dX0_findUpTo_86 : decode cX0_findUpTo 86 = .ok (.getfield 30, 3) := by decide +kernel
theorem dX0_findUpTo_89 : decode cX0_findUpTo 89 = .ok (.iload 4, 2) := by decide +kernel
theorem dX0_findUpTo_91 : decode cX0_findUpTo 91 = .ok (.laload, 1) := by decide +kernel
theorem dX0_findUpTo_92 : decode cX0_findUpTo 92 = .ok (.aload_n 0, 1) := by decide +kernel
theorem dX0_findUpTo_93 : decode cX0_findUpTo 93 = .ok (.getfield 30, 3) := by decide +kernel
theorem dX0_findUpTo_96 : decode cX0_findUpTo 96 = .ok (.iload_n 3, 1) := by decide +kernel
theorem dX0_findUpTo_97 : decode cX0_findUpTo 97 = .ok (.laload, 1) := by decide +kernel
theorem dX0_findUpTo_98 : decode cX0_findUpTo 98 = .ok (.lcmp, 1) := by decide +kernel
theorem dX0_findUpTo_99 : decode cX0_findUpTo 99 = .ok (.ifCond .ge 8, 3) := by decide +kernel
theorem dX0_findUpTo_102 : decode cX0_findUpTo 102 = .ok (.iload 4, 2) := by decide +kernel
theorem dX0_findUpTo_104 : decode cX0_findUpTo 104 = .ok (.goto 4, 3) := by decide +kernel
theorem dX0_findUpTo_107 : decode cX0_findUpTo 107 = .ok (.iload_n 3, 1) := by decide +kernel
theorem dX0_findUpTo_108 : decode cX0_findUpTo 108 = .ok (.istore_n 3, 1) := by decide +kernel
theorem dX0_findUpTo_109 : decode cX0_findUpTo 109 = .ok (.iinc 4 1, 3) := by decide +kernel
theorem dX0_findUpTo_112 : decode cX0_findUpTo 112 = .ok (.goto (-50), 3) := by decide +kernel
theorem dX0_findUpTo_115 : decode cX0_findUpTo 115 = .ok (.aload_n 0, 1) := by decide +kernel
theorem dX0_findUpTo_116 : decode cX0_findUpTo 116 = .ok (.iload_n 3, 1) := by decide +kernel
theorem dX0_findUpTo_117 : decode cX0_findUpTo 117 = .ok (.ifCond .ge 7, 3) := by decide +kernel
theorem dX0_findUpTo_120 : decode cX0_findUpTo 120 = .ok (.iconst 1, 1) := by decide +kernel
theorem dX0_findUpTo_121 : decode cX0_findUpTo 121 = .ok (.goto 4, 3) := by decide +kernel
theorem dX0_findUpTo_124 : decode cX0_findUpTo 124 = .ok (.iconst 0, 1) := by decide +kernel
theorem dX0_findUpTo_125 : decode cX0_findUpTo 125 = .ok (.putfield 96, 3) := by decide +kernel
theorem dX0_findUpTo_128 : decode cX0_findUpTo 128 = .ok (.aload_n 0, 1) := by decide +kernel
theorem dX0_findUpTo_129 : decode cX0_findUpTo 129 = .ok (.getfield 96, 3) := by decide +kernel
theorem dX0_findUpTo_132 : decode cX0_findUpTo 132 = .ok (.ifCond .ne 40, 3) := by decide +kernel
theorem dX0_findUpTo_135 : decode cX0_findUpTo 135 = .ok (.aload_n 0, 1) := by decide +kernel
theorem dX0_findUpTo_136 : decode cX0_findUpTo 136 = .ok (.getfield 17, 3) := by decide +kernel
theorem dX0_findUpTo_139 : decode cX0_findUpTo 139 = .ok (.aload_n 0, 1) := by decide +kernel
theorem dX0_findUpTo_140 : decode cX0_findUpTo 140 = .ok (.getfield 67, 3) := by decide +kernel
theorem dX0_findUpTo_143 : decode cX0_findUpTo 143 = .ok (.aload_n 0, 1) := by decide +kernel
theorem dX0_findUpTo_144 : decode cX0_findUpTo 144 = .ok (.getfield 30, 3) := by decide +kernel
theorem dX0_findUpTo_147 : decode cX0_findUpTo 147 = .ok (.iload_n 3, 1) := by decide +kernel
theorem dX0_findUpTo_148 : decode cX0_findUpTo 148 = .ok (.laload, 1) := by decide +kernel
theorem dX0_findUpTo_149 : decode cX0_findUpTo 149 = .ok (.lastore, 1) := by decide +kernel
theorem dX0_findUpTo_150 : decode cX0_findUpTo 150 = .ok (.aload_n 0, 1) := by decide +kernel
theorem dX0_findUpTo_151 : decode cX0_findUpTo 151 = .ok (.dup, 1) := by decide +kernel
theorem dX0_findUpTo_152 : decode cX0_findUpTo 152 = .ok (.getfield 67, 3) := by decide +kernel
theorem dX0_findUpTo_155 : decode cX0_findUpTo 155 = .ok (.iconst 1, 1) := by decide +kernel
theorem dX0_findUpTo_156 : decode cX0_findUpTo 156 = .ok (.iadd, 1) := by decide +kernel
theorem dX0_findUpTo_157 : decode cX0_findUpTo 157 = .ok (.putfield 67, 3) := by decide +kernel
theorem dX0_findUpTo_160 : decode cX0_findUpTo 160 = .ok (.aload_n 0, 1) := by decide +kernel
theorem dX0_findUpTo_161 : decode cX0_findUpTo 161 = .ok (.getfield 21, 3) := by decide +kernel
theorem dX0_findUpTo_164 : decode cX0_findUpTo 164 = .ok (.iload_n 3, 1) := by decide +kernel
theorem dX0_findUpTo_165 : decode cX0_findUpTo 165 = .ok (.iconst 0, 1) := by decide +kernel
theorem dX0_findUpTo_166 : decode cX0_findUpTo 166 = .ok (.bastore, 1) := by decide +kernel
theorem dX0_findUpTo_167 : decode cX0_findUpTo 167 = .ok (.aload_n 0, 1) := by decide +kernel
theorem dX0_findUpTo_168 : decode cX0_findUpTo 168 = .ok (.iload_n 3, 1) := by decide +kernel
theorem dX0_findUpTo_169 : decode cX0_findUpTo 169 = .ok (.invokevirtual 105, 3) := by decide +kernel
theorem dX0_findUpTo_172 : decode cX0_findUpTo 172 = .ok (.iinc 2 1, 3) := by decide +kernel
theorem dX0_findUpTo_175 : decode cX0_findUpTo 175 = .ok (.goto (-139), 3) := by decide +kernel
theorem dX0_findUpTo_178 : decode cX0_findUpTo 178 = .ok (.return_, 1) := by decide +kernel
theorem dX0_addPart_0 : decode cX0_addPart 0 = .ok (.aload_n 0, 1) := by decide +kernel
theorem dX0_addPart_1 : decode cX0_addPart 1 = .ok (.iload_n 1, 1) := by decide +kernel
theorem dX0_addPart_2 : decode cX0_addPart 2 = .ok (.iload_n 2, 1) := by decide +kernel
theorem dX0_addPart_3 : decode cX0_addPart 3 = .ok (.iload_n 3, 1) := by decide +kernel
theorem dX0_addPart_4 : decode cX0_addPart 4 = .ok (.invokevirtual 82, 3) := by decide +kernel
theorem dX0_addPart_7 : decode cX0_addPart 7 = .ok (.aload_n 0, 1) := by decide +kernel
theorem dX0_addPart_8 : decode cX0_addPart 8 = .ok (.invokevirtual 86, 3) := by decide +kernel
theorem dX0_addPart_11 : decode cX0_addPart 11 = .ok (.lstore 4, 2) := by decide +kernel
theorem dX0_addPart_13 : decode cX0_addPart 13 = .ok (.lload 4, 2) := by decide +kernel
theorem dX0_addPart_15 : decode cX0_addPart 15 = .ok (.ldc2_w 90, 3) := by decide +kernel
theorem dX0_addPart_18 : decode cX0_addPart 18 = .ok (.lcmp, 1) := by decide +kernel
theorem dX0_addPart_19 : decode cX0_addPart 19 = .ok (.ifCond .ge 54, 3) := by decide +kernel
theorem dX0_addPart_22 : decode cX0_addPart 22 = .ok (.aload_n 0, 1) := by decide +kernel
theorem dX0_addPart_23 : decode cX0_addPart 23 = .ok (.getfield 21, 3) := by decide +kernel
theorem dX0_addPart_26 : decode cX0_addPart 26 = .ok (.aload_n 0, 1) := by decide +kernel
theorem dX0_addPart_27 : decode cX0_addPart 27 = .ok (.getfield 99, 3) := by decide +kernel
theorem dX0_addPart_30 : decode cX0_addPart 30 = .ok (.iconst 1, 1) := by decide +kernel
theorem dX0_addPart_31 : decode cX0_addPart 31 = .ok (.bastore, 1) := by decide +kernel
theorem dX0_addPart_32 : decode cX0_addPart 32 = .ok (.aload_n 0, 1) := by decide +kernel
theorem dX0_addPart_33 : decode cX0_addPart 33 = .ok (.getfield 24, 3) := by decide +kernel
theorem dX0_addPart_36 : decode cX0_addPart 36 = .ok (.aload_n 0, 1) := by decide +kernel
theorem dX0_addPart_37 : decode cX0_addPart 37 = .ok (.getfield 99, 3) := by decide +kernel
theorem dX0_addPart_40 : decode cX0_addPart 40 = .ok (.iload_n 1, 1) := by decide +kernel
theorem dX0_addPart_41 : decode cX0_addPart 41 = .ok (.iastore, 1) := by decide +kernel
theorem dX0_addPart_42 : decode cX0_addPart 42 = .ok (.aload_n 0, 1) := by decide +kernel
theorem dX0_addPart_43 : decode cX0_addPart 43 = .ok (.getfield 27, 3) := by decide +kernel
theorem dX0_addPart_46 : decode cX0_addPart 46 = .ok (.aload_n 0, 1) := by decide +kernel
theorem dX0_addPart_47 : decode cX0_addPart 47 = .ok (.getfield 99, 3) := by decide +kernel
theorem dX0_addPart_50 : decode cX0_addPart 50 = .ok (.iload_n 2, 1) := by decide +kernel
theorem dX0_addPart_51 : decode cX0_addPart 51 = .ok (.iastore, 1) := by decide +kernel
theorem dX0_addPart_52 : decode cX0_addPart 52 = .ok (.aload_n 0, 1) := by decide +kernel
theorem dX0_addPart_53 : decode cX0_addPart 53 = .ok (.getfield 30, 3) := by decide +kernel
theorem dX0_addPart_56 : decode cX0_addPart 56 = .ok (.aload_n 0, 1) := by decide +kernel
theorem dX0_addPart_57 : decode cX0_addPart 57 = .ok (.getfield 99, 3) := by decide +kernel
theorem dX0_addPart_60 : decode cX0_addPart 60 = .ok (.lload 4, 2) := by decide +kernel
theorem dX0_addPart_62 : decode cX0_addPart 62 = .ok (.lastore, 1) := by decide +kernel
theorem dX0_addPart_63 : decode cX0_addPart 63 = .ok (.aload_n 0, 1) := by decide +kernel
theorem dX0_addPart_64 : decode cX0_addPart 64 = .ok (.dup, 1) := by decide +kernel
theorem dX0_addPart_65 : decode cX0_addPart 65 = .ok (.getfield 99, 3) := by decide +kernel
theorem dX0_addPart_68 : decode cX0_addPart 68 = .ok (.iconst 1, 1) := by decide +kernel
theorem dX0_addPart_69 : decode cX0_addPart 69 = .ok (.iadd, 1) := by decide +kernel
theorem dX0_addPart_70 : decode cX0_addPart 70 = .ok (.putfield 99, 3) := by decide +kernel
theorem dX0_addPart_73 : decode cX0_addPart 73 = .ok (.return_, 1) := by decide +kernel
theorem dX0_setPart_0 : decode cX0_setPart 0 = .ok (.aload_n 0, 1) := by decide +kernel
theorem dX0_setPart_1 : decode cX0_setPart 1 = .ok (.iload_n 1, 1) := by decide +kernel
theorem dX0_setPart_2 : decode cX0_setPart 2 = .ok (.putfield 108, 3) := by decide +kernel
theorem dX0_setPart_5 : decode cX0_setPart 5 = .ok (.aload_n 0, 1) := by decide +kernel
theorem dX0_setPart_6 : decode cX0_setPart 6 = .ok (.iload_n 2, 1) := by decide +kernel
theorem dX0_setPart_7 : decode cX0_setPart 7 = .ok (.putfield 111, 3) := by decide +kernel
theorem dX0_setPart_10 : decode cX0_setPart 10 = .ok (.aload_n 0, 1) := by decide +kernel
theorem dX0_setPart_11 : decode cX0_setPart 11 = .ok (.iload_n 3, 1) := by decide +kernel
theorem dX0_setPart_12 : decode cX0_setPart 12 = .ok (.putfield 114, 3) := by decide +kernel
theorem dX0_setPart_15 : decode cX0_setPart 15 = .ok (.return_, 1) := by decide +kernel
theorem dX0_solve_0 : decode cX0_solve 0 = .ok (.iconst 0, 1) := by decide +kernel
theorem dX0_solve_1 : decode cX0_solve 1 = .ok (.istore_n 1, 1) := by decide +kernel
theorem dX0_solve_2 : decode cX0_solve 2 = .ok (.iload_n 1, 1) := by decide +kernel
theorem dX0_solve_3 : decode cX0_solve 3 = .ok (.bipush 6, 2) := by decide +kernel
theorem dX0_solve_5 : decode cX0_solve 5 = .ok (.if_icmp .ge 30, 3) := by decide +kernel
theorem dX0_solve_8 : decode cX0_solve 8 = .ok (.aload_n 0, 1) := by decide +kernel
theorem dX0_solve_9 : decode cX0_solve 9 = .ok (.getfield 33, 3) := by decide +kernel
theorem dX0_solve_12 : decode cX0_solve 12 = .ok (.iload_n 1, 1) := by decide +kernel
theorem dX0_solve_13 : decode cX0_solve 13 = .ok (.lconst 0, 1) := by decide +kernel
theorem dX0_solve_14 : decode cX0_solve 14 = .ok (.lastore, 1) := by decide +kernel
theorem dX0_solve_15 : decode cX0_solve 15 = .ok (.aload_n 0, 1) := by decide +kernel
theorem dX0_solve_16 : decode cX0_solve 16 = .ok (.getfield 36, 3) := by decide +kernel
theorem dX0_solve_19 : decode cX0_solve 19 = .ok (.iload_n 1, 1) := by decide +kernel
theorem dX0_solve_20 : decode cX0_solve 20 = .ok (.lconst 0, 1) := by decide +kernel
theorem dX0_solve_21 : decode cX0_solve 21 = .ok (.lastore, 1) := by decide +kernel
theorem dX0_solve_22 : decode cX0_solve 22 = .ok (.aload_n 0, 1) := by decide +kernel
theorem dX0_solve_23 : decode cX0_solve 23 = .ok (.getfield 39, 3) := by decide +kernel
theorem dX0_solve_26 : decode cX0_solve 26 = .ok (.iload_n 1, 1) := by decide +kernel
theorem dX0_solve_27 : decode cX0_solve 27 = .ok (.iconst 0, 1) := by decide +kernel
theorem dX0_solve_28 : decode cX0_solve 28 = .ok (.iastore, 1) := by decide +kernel
theorem dX0_solve_29 : decode cX0_solve 29 = .ok (.iinc 1 1, 3) := by decide +kernel
theorem dX0_solve_32 : decode cX0_solve 32 = .ok (.goto (-30), 3) := by decide +kernel
theorem dX0_solve_35 : decode cX0_solve 35 = .ok (.iconst 1, 1) := by decide +kernel
theorem dX0_solve_36 : decode cX0_solve 36 = .ok (.istore_n 1, 1) := by decide +kernel
theorem dX0_solve_37 : decode cX0_solve 37 = .ok (.iload_n 1, 1) := by decide +kernel
theorem dX0_solve_38 : decode cX0_solve 38 = .ok (.iconst 5, 1) := by decide +kernel
theorem dX0_solve_39 : decode cX0_solve 39 = .ok (.if_icmp .gt 14, 3) := by decide +kernel
theorem dX0_solve_42 : decode cX0_solve 42 = .ok (.aload_n 0, 1) := by decide +kernel
theorem dX0_solve_43 : decode cX0_solve 43 = .ok (.iload_n 1, 1) := by decide +kernel
theorem dX0_solve_44 : decode cX0_solve 44 = .ok (.invokevirtual 117, 3) := by decide +kernel
theorem dX0_solve_47 : decode cX0_solve 47 = .ok (.iinc 1 1, 3) := by decide +kernel
theorem dX0_solve_50 : decode cX0_solve 50 = .ok (.goto (-13), 3) := by decide +kernel
theorem dX0_solve_53 : decode cX0_solve 53 = .ok (.lconst 0, 1) := by decide +kernel
theorem dX0_solve_54 : decode cX0_solve 54 = .ok (.lstore_n 1, 1) := by decide +kernel
theorem dX0_solve_55 : decode cX0_solve 55 = .ok (.iconst 1, 1) := by decide +kernel
theorem dX0_solve_56 : decode cX0_solve 56 = .ok (.istore_n 3, 1) := by decide +kernel
theorem dX0_solve_57 : decode cX0_solve 57 = .ok (.iload_n 3, 1) := by decide +kernel
theorem dX0_solve_58 : decode cX0_solve 58 = .ok (.iconst 5, 1) := by decide +kernel
theorem dX0_solve_59 : decode cX0_solve 59 = .ok (.if_icmp .gt 27, 3) := by decide +kernel
theorem dX0_solve_62 : decode cX0_solve 62 = .ok (.lload_n 1, 1) := by decide +kernel
theorem dX0_solve_63 : decode cX0_solve 63 = .ok (.aload_n 0, 1) := by decide +kernel
theorem dX0_solve_64 : decode cX0_solve 64 = .ok (.aload_n 0, 1) := by decide +kernel
theorem dX0_solve_65 : decode cX0_solve 65 = .ok (.getfield 39, 3) := by decide +kernel
theorem dX0_solve_68 : decode cX0_solve 68 = .ok (.iload_n 3, 1) := by decide +kernel
theorem dX0_solve_69 : decode cX0_solve 69 = .ok (.iaload, 1) := by decide +kernel
theorem dX0_solve_70 : decode cX0_solve 70 = .ok (.iconst 1, 1) := by decide +kernel
theorem dX0_solve_71 : decode cX0_solve 71 = .ok (.isub, 1) := by decide +kernel
theorem dX0_solve_72 : decode cX0_solve 72 = .ok (.iload_n 3, 1) := by decide +kernel
theorem dX0_solve_73 : decode cX0_solve 73 = .ok (.iconst 1, 1) := by decide +kernel
theorem dX0_solve_74 : decode cX0_solve 74 = .ok (.isub, 1) := by decide +kernel
theorem dX0_solve_75 : decode cX0_solve 75 = .ok (.invokevirtual 120, 3) := by decide +kernel
theorem dX0_solve_78 : decode cX0_solve 78 = .ok (.ladd, 1) := by decide +kernel
theorem dX0_solve_79 : decode cX0_solve 79 = .ok (.lstore_n 1, 1) := by decide +kernel
theorem dX0_solve_80 : decode cX0_solve 80 = .ok (.iinc 3 1, 3) := by decide +kernel
theorem dX0_solve_83 : decode cX0_solve 83 = .ok (.goto (-26), 3) := by decide +kernel
theorem dX0_solve_86 : decode cX0_solve 86 = .ok (.lload_n 1, 1) := by decide +kernel
theorem dX0_solve_87 : decode cX0_solve 87 = .ok (.lreturn, 1) := by decide +kernel
theorem dX0_bringIn_0 : decode cX0_bringIn 0 = .ok (.aload_n 0, 1) := by decide +kernel
theorem dX0_bringIn_1 : decode cX0_bringIn 1 = .ok (.getfield 39, 3) := by decide +kernel
theorem dX0_bringIn_4 : decode cX0_bringIn 4 = .ok (.iconst 0, 1) := by decide +kernel
theorem dX0_bringIn_5 : decode cX0_bringIn 5 = .ok (.iload_n 1, 1) := by decide +kernel
theorem dX0_bringIn_6 : decode cX0_bringIn 6 = .ok (.iastore, 1) := by decide +kernel
theorem dX0_bringIn_7 : decode cX0_bringIn 7 = .ok (.iconst 0, 1) := by decide +kernel
theorem dX0_bringIn_8 : decode cX0_bringIn 8 = .ok (.istore_n 2, 1) := by decide +kernel
theorem dX0_bringIn_9 : decode cX0_bringIn 9 = .ok (.iload_n 2, 1) := by decide +kernel
theorem dX0_bringIn_10 : decode cX0_bringIn 10 = .ok (.bipush 6, 2) := by decide +kernel
theorem dX0_bringIn_12 : decode cX0_bringIn 12 = .ok (.if_icmp .ge 32, 3) := by decide +kernel
theorem dX0_bringIn_15 : decode cX0_bringIn 15 = .ok (.aload_n 0, 1) := by decide +kernel
theorem dX0_bringIn_16 : decode cX0_bringIn 16 = .ok (.getfield 45, 3) := by decide +kernel
theorem dX0_bringIn_19 : decode cX0_bringIn 19 = .ok (.iload_n 2, 1) := by decide +kernel
theorem dX0_bringIn_20 : decode cX0_bringIn 20 = .ok (.ldc2_w 124, 3) := by decide +kernel
theorem dX0_bringIn_23 : decode cX0_bringIn 23 = .ok (.lastore, 1) := by decide +kernel
theorem dX0_bringIn_24 : decode cX0_bringIn 24 = .ok (.aload_n 0, 1) := by decide +kernel
theorem dX0_bringIn_25 : decode cX0_bringIn 25 = .ok (.getfield 48, 3) := by decide +kernel
theorem dX0_bringIn_28 : decode cX0_bringIn 28 = .ok (.iload_n 2, 1) := by decide +kernel
theorem dX0_bringIn_29 : decode cX0_bringIn 29 = .ok (.iconst 0, 1) := by decide +kernel
theorem dX0_bringIn_30 : decode cX0_bringIn 30 = .ok (.bastore, 1) := by decide +kernel
theorem dX0_bringIn_31 : decode cX0_bringIn 31 = .ok (.aload_n 0, 1) := by decide +kernel
theorem dX0_bringIn_32 : decode cX0_bringIn 32 = .ok (.getfield 42, 3) := by decide +kernel
theorem dX0_bringIn_35 : decode cX0_bringIn 35 = .ok (.iload_n 2, 1) := by decide +kernel
theorem dX0_bringIn_36 : decode cX0_bringIn 36 = .ok (.iconst 0, 1) := by decide +kernel
theorem dX0_bringIn_37 : decode cX0_bringIn 37 = .ok (.iastore, 1) := by decide +kernel
theorem dX0_bringIn_38 : decode cX0_bringIn 38 = .ok (.iinc 2 1, 3) := by decide +kernel
theorem dX0_bringIn_41 : decode cX0_bringIn 41 = .ok (.goto (-32), 3) := by decide +kernel
theorem dX0_bringIn_44 : decode cX0_bringIn 44 = .ok (.iconst 0, 1) := by decide +kernel
theorem dX0_bringIn_45 : decode cX0_bringIn 45 = .ok (.istore_n 2, 1) := by decide +kernel
theorem dX0_bringIn_46 : decode cX0_bringIn 46 = .ok (.iconst 0, 1) := by decide +kernel
theorem dX0_bringIn_47 : decode cX0_bringIn 47 = .ok (.istore_n 3, 1) := by decide +kernel
theorem dX0_bringIn_48 : decode cX0_bringIn 48 = .ok (.iload_n 3, 1) := by decide +kernel
theorem dX0_bringIn_49 : decode cX0_bringIn 49 = .ok (.bipush 6, 2) := by decide +kernel
theorem dX0_bringIn_51 : decode cX0_bringIn 51 = .ok (.if_icmp .ge 31, 3) := by decide +kernel
theorem dX0_bringIn_54 : decode cX0_bringIn 54 = .ok (.aload_n 0, 1) := by decide +kernel
theorem dX0_bringIn_55 : decode cX0_bringIn 55 = .ok (.getfield 39, 3) := by decide +kernel
theorem dX0_bringIn_58 : decode cX0_bringIn 58 = .ok (.iload_n 2, 1) := by decide +kernel
theorem dX0_bringIn_59 : decode cX0_bringIn 59 = .ok (.iaload, 1) := by decide +kernel
theorem dX0_bringIn_60 : decode cX0_bringIn 60 = .ok (.ifCond .eq 22, 3) := by decide +kernel
theorem dX0_bringIn_63 : decode cX0_bringIn 63 = .ok (.aload_n 0, 1) := by decide +kernel
theorem dX0_bringIn_64 : decode cX0_bringIn 64 = .ok (.getfield 48, 3) := by decide +kernel
theorem dX0_bringIn_67 : decode cX0_bringIn 67 = .ok (.iload_n 2, 1) := by decide +kernel
theorem dX0_bringIn_68 : decode cX0_bringIn 68 = .ok (.iconst 1, 1) := by decide +kernel
theorem dX0_bringIn_69 : decode cX0_bringIn 69 = .ok (.bastore, 1) := by decide +kernel
theorem dX0_bringIn_70 : decode cX0_bringIn 70 = .ok (.aload_n 0, 1) := by decide +kernel
theorem dX0_bringIn_71 : decode cX0_bringIn 71 = .ok (.iload_n 2, 1) := by decide +kernel
theorem dX0_bringIn_72 : decode cX0_bringIn 72 = .ok (.invokevirtual 126, 3) := by decide +kernel
theorem dX0_bringIn_75 : decode cX0_bringIn 75 = .ok (.istore_n 2, 1) := by decide +kernel
theorem dX0_bringIn_76 : decode cX0_bringIn 76 = .ok (.iinc 3 1, 3) := by decide +kernel
theorem dX0_bringIn_79 : decode cX0_bringIn 79 = .ok (.goto (-31), 3) := by decide +kernel
theorem dX0_bringIn_82 : decode cX0_bringIn 82 = .ok (.iconst 0, 1) := by decide +kernel
theorem dX0_bringIn_83 : decode cX0_bringIn 83 = .ok (.istore_n 3, 1) := by decide +kernel
theorem dX0_bringIn_84 : decode cX0_bringIn 84 = .ok (.iload_n 3, 1) := by decide +kernel
theorem dX0_bringIn_85 : decode cX0_bringIn 85 = .ok (.bipush 6, 2) := by decide +kernel
theorem dX0_bringIn_87 : decode cX0_bringIn 87 = .ok (.if_icmp .ge 37, 3) := by decide +kernel
theorem dX0_bringIn_90 : decode cX0_bringIn 90 = .ok (.iload_n 2, 1) := by decide +kernel
theorem dX0_bringIn_91 : decode cX0_bringIn 91 = .ok (.ifCond .eq 33, 3) := by decide +kernel
theorem dX0_bringIn_94 : decode cX0_bringIn 94 = .ok (.aload_n 0, 1) := by decide +kernel
theorem dX0_bringIn_95 : decode cX0_bringIn 95 = .ok (.getfield 42, 3) := by decide +kernel
theorem dX0_bringIn_98 : decode cX0_bringIn 98 = .ok (.iload_n 2, 1) := by decide +kernel
theorem dX0_bringIn_99 : decode cX0_bringIn 99 = .ok (.iaload, 1) := by decide +kernel
theorem dX0_bringIn_100 : decode cX0_bringIn 100 = .ok (.istore 4, 2) := by decide +kernel
theorem dX0_bringIn_102 : decode cX0_bringIn 102 = .ok (.aload_n 0, 1) := by decide +kernel
theorem dX0_bringIn_103 : decode cX0_bringIn 103 = .ok (.getfield 39, 3) := by decide +kernel
theorem dX0_bringIn_106 : decode cX0_bringIn 106 = .ok (.iload_n 2, 1) := by decide +kernel
theorem dX0_bringIn_107 : decode cX0_bringIn 107 = .ok (.aload_n 0, 1) := by decide +kernel
theorem dX0_bringIn_108 : decode cX0_bringIn 108 = .ok (.getfield 39, 3) := by decide +kernel
theorem dX0_bringIn_111 : decode cX0_bringIn 111 = .ok (.iload 4, 2) := by decide +kernel
theorem dX0_bringIn_113 : decode cX0_bringIn 113 = .ok (.iaload, 1) := by decide +kernel
theorem dX0_bringIn_114 : decode cX0_bringIn 114 = .ok (.iastore, 1) := by decide +kernel
theorem dX0_bringIn_115 : decode cX0_bringIn 115 = .ok (.iload 4, 2) := by decide +kernel
theorem dX0_bringIn_117 : decode cX0_bringIn 117 = .ok (.istore_n 2, 1) := by decide +kernel
theorem dX0_bringIn_118 : decode cX0_bringIn 118 = .ok (.iinc 3 1, 3) := by decide +kernel
theorem dX0_bringIn_121 : decode cX0_bringIn 121 = .ok (.goto (-37), 3) := by decide +kernel
theorem dX0_bringIn_124 : decode cX0_bringIn 124 = .ok (.return_, 1) := by decide +kernel
theorem dX0_nextTask_0 : decode cX0_nextTask 0 = .ok (.aload_n 0, 1) := by decide +kernel
theorem dX0_nextTask_1 : decode cX0_nextTask 1 = .ok (.getfield 39, 3) := by decide +kernel
theorem dX0_nextTask_4 : decode cX0_nextTask 4 = .ok (.iload_n 1, 1) := by decide +kernel
theorem dX0_nextTask_5 : decode cX0_nextTask 5 = .ok (.iaload, 1) := by decide +kernel
theorem dX0_nextTask_6 : decode cX0_nextTask 6 = .ok (.istore_n 2, 1) := by decide +kernel
theorem dX0_nextTask_7 : decode cX0_nextTask 7 = .ok (.iconst 1, 1) := by decide +kernel
theorem dX0_nextTask_8 : decode cX0_nextTask 8 = .ok (.istore_n 3, 1) := by decide +kernel
theorem dX0_nextTask_9 : decode cX0_nextTask 9 = .ok (.iload_n 3, 1) := by decide +kernel
theorem dX0_nextTask_10 : decode cX0_nextTask 10 = .ok (.bipush 6, 2) := by decide +kernel
theorem dX0_nextTask_12 : decode cX0_nextTask 12 = .ok (.if_icmp .ge 71, 3) := by decide +kernel
theorem dX0_nextTask_15 : decode cX0_nextTask 15 = .ok (.aload_n 0, 1) := by decide +kernel
end
section
set_option maxRecDepth 100000
theorem dX0_nextTask_16 : decode cX0_nextTask 16 = .ok (.getfield 48, 3) := by decide +kernel
theorem dX0_nextTask_19 : decode cX0_nextTask 19 = .ok (.iload_n 3, 1) := by decide +kernel
theorem dX0_nextTask_20 : decode cX0_nextTask 20 = .ok (.baload, 1) := by decide +kernel
theorem dX0_nextTask_21 : decode cX0_nextTask 21 = .ok (.ifCond .ne 56, 3) := by decide +kernel
theorem dX0_nextTask_24 : decode cX0_nextTask 24 = .ok (.aload_n 0, 1) := by decide +kernel
theorem dX0_nextTask_25 : decode cX0_nextTask 25 = .ok (.iload_n 2, 1) := by decide +kernel
theorem dX0_nextTask_26 : decode cX0_nextTask 26 = .ok (.iconst 1, 1) := by decide +kernel
theorem dX0_nextTask_27 : decode cX0_nextTask 27 = .ok (.isub, 1) := by decide +kernel
theorem dX0_nextTask_28 : decode cX0_nextTask 28 = .ok (.iload_n 3, 1) := by decide +kernel
theorem dX0_nextTask_29 : decode cX0_nextTask 29 = .ok (.iconst 1, 1) := by decide +kernel
theorem dX0_nextTask_30 : decode cX0_nextTask 30 = .ok (.isub, 1) := by decide +kernel
theorem dX0_nextTask_31 : decode cX0_nextTask 31 = .ok (.invokevirtual 120, 3) := by decide +kernel
theorem dX0_nextTask_34 : decode cX0_nextTask 34 = .ok (.aload_n 0, 1) := by decide +kernel
theorem dX0_nextTask_35 : decode cX0_nextTask 35 = .ok (.getfield 33, 3) := by decide +kernel
theorem dX0_nextTask_38 : decode cX0_nextTask 38 = .ok (.iload_n 2, 1) := by decide +kernel
theorem dX0_nextTask_39 : decode cX0_nextTask 39 = .ok (.laload, 1) := by decide +kernel
theorem dX0_nextTask_40 : decode cX0_nextTask 40 = .ok (.lsub, 1) := by decide +kernel
theorem dX0_nextTask_41 : decode cX0_nextTask 41 = .ok (.aload_n 0, 1) := by decide +kernel
theorem dX0_nextTask_42 : decode cX0_nextTask 42 = .ok (.getfield 36, 3) := by decide +kernel
theorem dX0_nextTask_45 : decode cX0_nextTask 45 = .ok (.iload_n 3, 1) := by decide +kernel
theorem dX0_nextTask_46 : decode cX0_nextTask 46 = .ok (.laload, 1) := by decide +kernel
theorem dX0_nextTask_47 : decode cX0_nextTask 47 = .ok (.lsub, 1) := by decide +kernel
theorem dX0_nextTask_48 : decode cX0_nextTask 48 = .ok (.lstore 4, 2) := by decide +kernel
theorem dX0_nextTask_50 : decode cX0_nextTask 50 = .ok (.lload 4, 2) := by decide +kernel
theorem dX0_nextTask_52 : decode cX0_nextTask 52 = .ok (.aload_n 0, 1) := by decide +kernel
theorem dX0_nextTask_53 : decode cX0_nextTask 53 = .ok (.getfield 45, 3) := by decide +kernel
theorem dX0_nextTask_56 : decode cX0_nextTask 56 = .ok (.iload_n 3, 1) := by decide +kernel
theorem dX0_nextTask_57 : decode cX0_nextTask 57 = .ok (.laload, 1) := by decide +kernel
theorem dX0_nextTask_58 : decode cX0_nextTask 58 = .ok (.lcmp, 1) := by decide +kernel
theorem dX0_nextTask_59 : decode cX0_nextTask 59 = .ok (.ifCond .ge 18, 3) := by decide +kernel
theorem dX0_nextTask_62 : decode cX0_nextTask 62 = .ok (.aload_n 0, 1) := by decide +kernel
theorem dX0_nextTask_63 : decode cX0_nextTask 63 = .ok (.getfield 45, 3) := by decide +kernel
theorem dX0_nextTask_66 : decode cX0_nextTask 66 = .ok (.iload_n 3, 1) := by decide +kernel
theorem dX0_nextTask_67 : decode cX0_nextTask 67 = .ok (.lload 4, 2) := by decide +kernel
theorem dX0_nextTask_69 : decode cX0_nextTask 69 = .ok (.lastore, 1) := by decide +kernel
theorem dX0_nextTask_70 : decode cX0_nextTask 70 = .ok (.aload_n 0, 1) := by decide +kernel
theorem dX0_nextTask_71 : decode cX0_nextTask 71 = .ok (.getfield 42, 3) := by decide +kernel
theorem dX0_nextTask_74 : decode cX0_nextTask 74 = .ok (.iload_n 3, 1) := by decide +kernel
theorem dX0_nextTask_75 : decode cX0_nextTask 75 = .ok (.iload_n 1, 1) := by decide +kernel
theorem dX0_nextTask_76 : decode cX0_nextTask 76 = .ok (.iastore, 1) := by decide +kernel
theorem dX0_nextTask_77 : decode cX0_nextTask 77 = .ok (.iinc 3 1, 3) := by decide +kernel
theorem dX0_nextTask_80 : decode cX0_nextTask 80 = .ok (.goto (-71), 3) := by decide +kernel
theorem dX0_nextTask_83 : decode cX0_nextTask 83 = .ok (.iconst 0, 1) := by decide +kernel
theorem dX0_nextTask_84 : decode cX0_nextTask 84 = .ok (.istore_n 3, 1) := by decide +kernel
theorem dX0_nextTask_85 : decode cX0_nextTask 85 = .ok (.iconst 1, 1) := by decide +kernel
theorem dX0_nextTask_86 : decode cX0_nextTask 86 = .ok (.istore 4, 2) := by decide +kernel
theorem dX0_nextTask_88 : decode cX0_nextTask 88 = .ok (.iload 4, 2) := by decide +kernel
theorem dX0_nextTask_90 : decode cX0_nextTask 90 = .ok (.bipush 6, 2) := by decide +kernel
theorem dX0_nextTask_92 : decode cX0_nextTask 92 = .ok (.if_icmp .ge 47, 3) := by decide +kernel
theorem dX0_nextTask_95 : decode cX0_nextTask 95 = .ok (.aload_n 0, 1) := by decide +kernel
theorem dX0_nextTask_96 : decode cX0_nextTask 96 = .ok (.getfield 48, 3) := by decide +kernel
theorem dX0_nextTask_99 : decode cX0_nextTask 99 = .ok (.iload 4, 2) := by decide +kernel
theorem dX0_nextTask_101 : decode cX0_nextTask 101 = .ok (.baload, 1) := by decide +kernel
theorem dX0_nextTask_102 : decode cX0_nextTask 102 = .ok (.ifCond .ne 29, 3) := by decide +kernel
theorem dX0_nextTask_105 : decode cX0_nextTask 105 = .ok (.iload_n 3, 1) := by decide +kernel
theorem dX0_nextTask_106 : decode cX0_nextTask 106 = .ok (.ifCond .eq 20, 3) := by decide +kernel
theorem dX0_nextTask_109 : decode cX0_nextTask 109 = .ok (.aload_n 0, 1) := by decide +kernel
theorem dX0_nextTask_110 : decode cX0_nextTask 110 = .ok (.getfield 45, 3) := by decide +kernel
theorem dX0_nextTask_113 : decode cX0_nextTask 113 = .ok (.iload 4, 2) := by decide +kernel
theorem dX0_nextTask_115 : decode cX0_nextTask 115 = .ok (.laload, 1) := by decide +kernel
theorem dX0_nextTask_116 : decode cX0_nextTask 116 = .ok (.aload_n 0, 1) := by decide +kernel
theorem dX0_nextTask_117 : decode cX0_nextTask 117 = .ok (.getfield 45, 3) := by decide +kernel
theorem dX0_nextTask_120 : decode cX0_nextTask 120 = .ok (.iload_n 3, 1) := by decide +kernel
theorem dX0_nextTask_121 : decode cX0_nextTask 121 = .ok (.laload, 1) := by decide +kernel
theorem dX0_nextTask_122 : decode cX0_nextTask 122 = .ok (.lcmp, 1) := by decide +kernel
theorem dX0_nextTask_123 : decode cX0_nextTask 123 = .ok (.ifCond .ge 8, 3) := by decide +kernel
theorem dX0_nextTask_126 : decode cX0_nextTask 126 = .ok (.iload 4, 2) := by decide +kernel
theorem dX0_nextTask_128 : decode cX0_nextTask 128 = .ok (.goto 4, 3) := by decide +kernel
theorem dX0_nextTask_131 : decode cX0_nextTask 131 = .ok (.iload_n 3, 1) := by decide +kernel
theorem dX0_nextTask_132 : decode cX0_nextTask 132 = .ok (.istore_n 3, 1) := by decide +kernel
theorem dX0_nextTask_133 : decode cX0_nextTask 133 = .ok (.iinc 4 1, 3) := by decide +kernel
theorem dX0_nextTask_136 : decode cX0_nextTask 136 = .ok (.goto (-48), 3) := by decide +kernel
theorem dX0_nextTask_139 : decode cX0_nextTask 139 = .ok (.aload_n 0, 1) := by decide +kernel
theorem dX0_nextTask_140 : decode cX0_nextTask 140 = .ok (.getfield 45, 3) := by decide +kernel
theorem dX0_nextTask_143 : decode cX0_nextTask 143 = .ok (.iload_n 3, 1) := by decide +kernel
theorem dX0_nextTask_144 : decode cX0_nextTask 144 = .ok (.laload, 1) := by decide +kernel
theorem dX0_nextTask_145 : decode cX0_nextTask 145 = .ok (.lstore 4, 2) := by decide +kernel
theorem dX0_nextTask_147 : decode cX0_nextTask 147 = .ok (.iconst 0, 1) := by decide +kernel
theorem dX0_nextTask_148 : decode cX0_nextTask 148 = .ok (.istore 6, 2) := by decide +kernel
theorem dX0_nextTask_150 : decode cX0_nextTask 150 = .ok (.iload 6, 2) := by decide +kernel
theorem dX0_nextTask_152 : decode cX0_nextTask 152 = .ok (.bipush 6, 2) := by decide +kernel
theorem dX0_nextTask_154 : decode cX0_nextTask 154 = .ok (.if_icmp .ge 63, 3) := by decide +kernel
theorem dX0_nextTask_157 : decode cX0_nextTask 157 = .ok (.aload_n 0, 1) := by decide +kernel
theorem dX0_nextTask_158 : decode cX0_nextTask 158 = .ok (.getfield 48, 3) := by decide +kernel
theorem dX0_nextTask_161 : decode cX0_nextTask 161 = .ok (.iload 6, 2) := by decide +kernel
theorem dX0_nextTask_163 : decode cX0_nextTask 163 = .ok (.baload, 1) := by decide +kernel
theorem dX0_nextTask_164 : decode cX0_nextTask 164 = .ok (.ifCond .eq 35, 3) := by decide +kernel
theorem dX0_nextTask_167 : decode cX0_nextTask 167 = .ok (.aload_n 0, 1) := by decide +kernel
theorem dX0_nextTask_168 : decode cX0_nextTask 168 = .ok (.getfield 33, 3) := by decide +kernel
theorem dX0_nextTask_171 : decode cX0_nextTask 171 = .ok (.aload_n 0, 1) := by decide +kernel
theorem dX0_nextTask_172 : decode cX0_nextTask 172 = .ok (.getfield 39, 3) := by decide +kernel
theorem dX0_nextTask_175 : decode cX0_nextTask 175 = .ok (.iload 6, 2) := by decide +kernel
theorem dX0_nextTask_177 : decode cX0_nextTask 177 = .ok (.iaload, 1) := by decide +kernel
theorem dX0_nextTask_178 : decode cX0_nextTask 178 = .ok (.dup2, 1) := by decide +kernel
theorem dX0_nextTask_179 : decode cX0_nextTask 179 = .ok (.laload, 1) := by decide +kernel
theorem dX0_nextTask_180 : decode cX0_nextTask 180 = .ok (.lload 4, 2) := by decide +kernel
theorem dX0_nextTask_182 : decode cX0_nextTask 182 = .ok (.ladd, 1) := by decide +kernel
theorem dX0_nextTask_183 : decode cX0_nextTask 183 = .ok (.lastore, 1) := by decide +kernel
theorem dX0_nextTask_184 : decode cX0_nextTask 184 = .ok (.aload_n 0, 1) := by decide +kernel
theorem dX0_nextTask_185 : decode cX0_nextTask 185 = .ok (.getfield 36, 3) := by decide +kernel
theorem dX0_nextTask_188 : decode cX0_nextTask 188 = .ok (.iload 6, 2) := by decide +kernel
theorem dX0_nextTask_190 : decode cX0_nextTask 190 = .ok (.dup2, 1) := by decide +kernel
theorem dX0_nextTask_191 : decode cX0_nextTask 191 = .ok (.laload, 1) := by decide +kernel
theorem dX0_nextTask_192 : decode cX0_nextTask 192 = .ok (.lload 4, 2) := by decide +kernel
theorem dX0_nextTask_194 : decode cX0_nextTask 194 = .ok (.lsub, 1) := by decide +kernel
theorem dX0_nextTask_195 : decode cX0_nextTask 195 = .ok (.lastore, 1) := by decide +kernel
theorem dX0_nextTask_196 : decode cX0_nextTask 196 = .ok (.goto 15, 3) := by decide +kernel
theorem dX0_nextTask_199 : decode cX0_nextTask 199 = .ok (.aload_n 0, 1) := by decide +kernel
theorem dX0_nextTask_200 : decode cX0_nextTask 200 = .ok (.getfield 45, 3) := by decide +kernel
theorem dX0_nextTask_203 : decode cX0_nextTask 203 = .ok (.iload 6, 2) := by decide +kernel
theorem dX0_nextTask_205 : decode cX0_nextTask 205 = .ok (.dup2, 1) := by decide +kernel
theorem dX0_nextTask_206 : decode cX0_nextTask 206 = .ok (.laload, 1) := by decide +kernel
theorem dX0_nextTask_207 : decode cX0_nextTask 207 = .ok (.lload 4, 2) := by decide +kernel
theorem dX0_nextTask_209 : decode cX0_nextTask 209 = .ok (.lsub, 1) := by decide +kernel
theorem dX0_nextTask_210 : decode cX0_nextTask 210 = .ok (.lastore, 1) := by decide +kernel
theorem dX0_nextTask_211 : decode cX0_nextTask 211 = .ok (.iinc 6 1, 3) := by decide +kernel
theorem dX0_nextTask_214 : decode cX0_nextTask 214 = .ok (.goto (-64), 3) := by decide +kernel
theorem dX0_nextTask_217 : decode cX0_nextTask 217 = .ok (.iload_n 3, 1) := by decide +kernel
theorem dX0_nextTask_218 : decode cX0_nextTask 218 = .ok (.ireturn, 1) := by decide +kernel
theorem dX0_valueOf_0 : decode cX0_valueOf 0 = .ok (.aload_n 0, 1) := by decide +kernel
theorem dX0_valueOf_1 : decode cX0_valueOf 1 = .ok (.getfield 13, 3) := by decide +kernel
theorem dX0_valueOf_4 : decode cX0_valueOf 4 = .ok (.iconst 5, 1) := by decide +kernel
theorem dX0_valueOf_5 : decode cX0_valueOf 5 = .ok (.iload_n 1, 1) := by decide +kernel
theorem dX0_valueOf_6 : decode cX0_valueOf 6 = .ok (.imul, 1) := by decide +kernel
theorem dX0_valueOf_7 : decode cX0_valueOf 7 = .ok (.iload_n 2, 1) := by decide +kernel
theorem dX0_valueOf_8 : decode cX0_valueOf 8 = .ok (.iadd, 1) := by decide +kernel
theorem dX0_valueOf_9 : decode cX0_valueOf 9 = .ok (.baload, 1) := by decide +kernel
theorem dX0_valueOf_10 : decode cX0_valueOf 10 = .ok (.ifCond .ne 7, 3) := by decide +kernel
theorem dX0_valueOf_13 : decode cX0_valueOf 13 = .ok (.iconst 1, 1) := by decide +kernel
theorem dX0_valueOf_14 : decode cX0_valueOf 14 = .ok (.goto 4, 3) := by decide +kernel
theorem dX0_valueOf_17 : decode cX0_valueOf 17 = .ok (.iconst 0, 1) := by decide +kernel
theorem dX0_valueOf_18 : decode cX0_valueOf 18 = .ok (.istore_n 3, 1) := by decide +kernel
theorem dX0_valueOf_19 : decode cX0_valueOf 19 = .ok (.iload_n 1, 1) := by decide +kernel
theorem dX0_valueOf_20 : decode cX0_valueOf 20 = .ok (.aload_n 0, 1) := by decide +kernel
theorem dX0_valueOf_21 : decode cX0_valueOf 21 = .ok (.getfield 108, 3) := by decide +kernel
theorem dX0_valueOf_24 : decode cX0_valueOf 24 = .ok (.if_icmp .ge 28, 3) := by decide +kernel
theorem dX0_valueOf_27 : decode cX0_valueOf 27 = .ok (.iload_n 3, 1) := by decide +kernel
theorem dX0_valueOf_28 : decode cX0_valueOf 28 = .ok (.ifCond .eq 19, 3) := by decide +kernel
theorem dX0_valueOf_31 : decode cX0_valueOf 31 = .ok (.aload_n 0, 1) := by decide +kernel
theorem dX0_valueOf_32 : decode cX0_valueOf 32 = .ok (.getfield 114, 3) := by decide +kernel
theorem dX0_valueOf_35 : decode cX0_valueOf 35 = .ok (.iload_n 1, 1) := by decide +kernel
theorem dX0_valueOf_36 : decode cX0_valueOf 36 = .ok (.invokestatic 75, 3) := by decide +kernel
theorem dX0_valueOf_39 : decode cX0_valueOf 39 = .ok (.iload_n 2, 1) := by decide +kernel
theorem dX0_valueOf_40 : decode cX0_valueOf 40 = .ok (.if_icmp .ne 7, 3) := by decide +kernel
theorem dX0_valueOf_43 : decode cX0_valueOf 43 = .ok (.iconst 1, 1) := by decide +kernel
theorem dX0_valueOf_44 : decode cX0_valueOf 44 = .ok (.goto 4, 3) := by decide +kernel
theorem dX0_valueOf_47 : decode cX0_valueOf 47 = .ok (.iconst 0, 1) := by decide +kernel
theorem dX0_valueOf_48 : decode cX0_valueOf 48 = .ok (.istore_n 3, 1) := by decide +kernel
theorem dX0_valueOf_49 : decode cX0_valueOf 49 = .ok (.goto 32, 3) := by decide +kernel
theorem dX0_valueOf_52 : decode cX0_valueOf 52 = .ok (.iload_n 1, 1) := by decide +kernel
theorem dX0_valueOf_53 : decode cX0_valueOf 53 = .ok (.aload_n 0, 1) := by decide +kernel
theorem dX0_valueOf_54 : decode cX0_valueOf 54 = .ok (.getfield 108, 3) := by decide +kernel
theorem dX0_valueOf_57 : decode cX0_valueOf 57 = .ok (.if_icmp .ne 24, 3) := by decide +kernel
theorem dX0_valueOf_60 : decode cX0_valueOf 60 = .ok (.iload_n 3, 1) := by decide +kernel
theorem dX0_valueOf_61 : decode cX0_valueOf 61 = .ok (.ifCond .eq 18, 3) := by decide +kernel
theorem dX0_valueOf_64 : decode cX0_valueOf 64 = .ok (.aload_n 0, 1) := by decide +kernel
theorem dX0_valueOf_65 : decode cX0_valueOf 65 = .ok (.getfield 111, 3) := by decide +kernel
theorem dX0_valueOf_68 : decode cX0_valueOf 68 = .ok (.iload_n 2, 1) := by decide +kernel
theorem dX0_valueOf_69 : decode cX0_valueOf 69 = .ok (.iushr, 1) := by decide +kernel
theorem dX0_valueOf_70 : decode cX0_valueOf 70 = .ok (.iconst 1, 1) := by decide +kernel
theorem dX0_valueOf_71 : decode cX0_valueOf 71 = .ok (.iand, 1) := by decide +kernel
theorem dX0_valueOf_72 : decode cX0_valueOf 72 = .ok (.ifCond .ne 7, 3) := by decide +kernel
theorem dX0_valueOf_75 : decode cX0_valueOf 75 = .ok (.iconst 1, 1) := by decide +kernel
theorem dX0_valueOf_76 : decode cX0_valueOf 76 = .ok (.goto 4, 3) := by decide +kernel
theorem dX0_valueOf_79 : decode cX0_valueOf 79 = .ok (.iconst 0, 1) := by decide +kernel
theorem dX0_valueOf_80 : decode cX0_valueOf 80 = .ok (.istore_n 3, 1) := by decide +kernel
theorem dX0_valueOf_81 : decode cX0_valueOf 81 = .ok (.iload_n 1, 1) := by decide +kernel
theorem dX0_valueOf_82 : decode cX0_valueOf 82 = .ok (.aload_n 0, 1) := by decide +kernel
theorem dX0_valueOf_83 : decode cX0_valueOf 83 = .ok (.getfield 51, 3) := by decide +kernel
theorem dX0_valueOf_86 : decode cX0_valueOf 86 = .ok (.if_icmp .ne 21, 3) := by decide +kernel
theorem dX0_valueOf_89 : decode cX0_valueOf 89 = .ok (.iload_n 3, 1) := by decide +kernel
theorem dX0_valueOf_90 : decode cX0_valueOf 90 = .ok (.ifCond .eq 15, 3) := by decide +kernel
theorem dX0_valueOf_93 : decode cX0_valueOf 93 = .ok (.iload_n 2, 1) := by decide +kernel
theorem dX0_valueOf_94 : decode cX0_valueOf 94 = .ok (.aload_n 0, 1) := by decide +kernel
theorem dX0_valueOf_95 : decode cX0_valueOf 95 = .ok (.getfield 79, 3) := by decide +kernel
theorem dX0_valueOf_98 : decode cX0_valueOf 98 = .ok (.if_icmp .ne 7, 3) := by decide +kernel
theorem dX0_valueOf_101 : decode cX0_valueOf 101 = .ok (.iconst 1, 1) := by decide +kernel
theorem dX0_valueOf_102 : decode cX0_valueOf 102 = .ok (.goto 4, 3) := by decide +kernel
theorem dX0_valueOf_105 : decode cX0_valueOf 105 = .ok (.iconst 0, 1) := by decide +kernel
theorem dX0_valueOf_106 : decode cX0_valueOf 106 = .ok (.istore_n 3, 1) := by decide +kernel
theorem dX0_valueOf_107 : decode cX0_valueOf 107 = .ok (.iload_n 3, 1) := by decide +kernel
theorem dX0_valueOf_108 : decode cX0_valueOf 108 = .ok (.ifCond .eq 29, 3) := by decide +kernel
theorem dX0_valueOf_111 : decode cX0_valueOf 111 = .ok (.ldc2_w 73, 3) := by decide +kernel
theorem dX0_valueOf_114 : decode cX0_valueOf 114 = .ok (.aload_n 0, 1) := by decide +kernel
theorem dX0_valueOf_115 : decode cX0_valueOf 115 = .ok (.getfield 7, 3) := by decide +kernel
theorem dX0_valueOf_118 : decode cX0_valueOf 118 = .ok (.iconst 5, 1) := by decide +kernel
theorem dX0_valueOf_119 : decode cX0_valueOf 119 = .ok (.iload_n 1, 1) := by decide +kernel
theorem dX0_valueOf_120 : decode cX0_valueOf 120 = .ok (.imul, 1) := by decide +kernel
theorem dX0_valueOf_121 : decode cX0_valueOf 121 = .ok (.iload_n 2, 1) := by decide +kernel
theorem dX0_valueOf_122 : decode cX0_valueOf 122 = .ok (.iadd, 1) := by decide +kernel
theorem dX0_valueOf_123 : decode cX0_valueOf 123 = .ok (.iaload, 1) := by decide +kernel
theorem dX0_valueOf_124 : decode cX0_valueOf 124 = .ok (.i2l, 1) := by decide +kernel
theorem dX0_valueOf_125 : decode cX0_valueOf 125 = .ok (.lmul, 1) := by decide +kernel
theorem dX0_valueOf_126 : decode cX0_valueOf 126 = .ok (.iload_n 2, 1) := by decide +kernel
theorem dX0_valueOf_127 : decode cX0_valueOf 127 = .ok (.iload_n 1, 1) := by decide +kernel
theorem dX0_valueOf_128 : decode cX0_valueOf 128 = .ok (.invokestatic 92, 3) := by decide +kernel
theorem dX0_valueOf_131 : decode cX0_valueOf 131 = .ok (.imul, 1) := by decide +kernel
theorem dX0_valueOf_132 : decode cX0_valueOf 132 = .ok (.i2l, 1) := by decide +kernel
theorem dX0_valueOf_133 : decode cX0_valueOf 133 = .ok (.ladd, 1) := by decide +kernel
theorem dX0_valueOf_134 : decode cX0_valueOf 134 = .ok (.goto 6, 3) := by decide +kernel
theorem dX0_valueOf_137 : decode cX0_valueOf 137 = .ok (.ldc2_w 90, 3) := by decide +kernel
theorem dX0_valueOf_140 : decode cX0_valueOf 140 = .ok (.lreturn, 1) := by decide +kernel
theorem dX0_digit_0 : decode cX0_digit 0 = .ok (.iload_n 0, 1) := by decide +kernel
theorem dX0_digit_1 : decode cX0_digit 1 = .ok (.iload_n 1, 1) := by decide +kernel
theorem dX0_digit_2 : decode cX0_digit 2 = .ok (.invokestatic 92, 3) := by decide +kernel
theorem dX0_digit_5 : decode cX0_digit 5 = .ok (.idiv, 1) := by decide +kernel
theorem dX0_digit_6 : decode cX0_digit 6 = .ok (.iconst 5, 1) := by decide +kernel
theorem dX0_digit_7 : decode cX0_digit 7 = .ok (.irem, 1) := by decide +kernel
theorem dX0_digit_8 : decode cX0_digit 8 = .ok (.ireturn, 1) := by decide +kernel
theorem dX0_weight_0 : decode cX0_weight 0 = .ok (.iconst 1, 1) := by decide +kernel
theorem dX0_weight_1 : decode cX0_weight 1 = .ok (.istore_n 1, 1) := by decide +kernel
theorem dX0_weight_2 : decode cX0_weight 2 = .ok (.iload_n 0, 1) := by decide +kernel
theorem dX0_weight_3 : decode cX0_weight 3 = .ok (.istore_n 2, 1) := by decide +kernel
theorem dX0_weight_4 : decode cX0_weight 4 = .ok (.iload_n 2, 1) := by decide +kernel
theorem dX0_weight_5 : decode cX0_weight 5 = .ok (.iconst 4, 1) := by decide +kernel
theorem dX0_weight_6 : decode cX0_weight 6 = .ok (.if_icmp .ge 13, 3) := by decide +kernel
theorem dX0_weight_9 : decode cX0_weight 9 = .ok (.iload_n 1, 1) := by decide +kernel
theorem dX0_weight_10 : decode cX0_weight 10 = .ok (.iconst 5, 1) := by decide +kernel
theorem dX0_weight_11 : decode cX0_weight 11 = .ok (.imul, 1) := by decide +kernel
theorem dX0_weight_12 : decode cX0_weight 12 = .ok (.istore_n 1, 1) := by decide +kernel
theorem dX0_weight_13 : decode cX0_weight 13 = .ok (.iinc 2 1, 3) := by decide +kernel
theorem dX0_weight_16 : decode cX0_weight 16 = .ok (.goto (-12), 3) := by decide +kernel
theorem dX0_weight_19 : decode cX0_weight 19 = .ok (.iload_n 1, 1) := by decide +kernel
theorem dX0_weight_20 : decode cX0_weight 20 = .ok (.ireturn, 1) := by decide +kernel
theorem dX0_divide_0 : decode cX0_divide 0 = .ok (.aload_n 0, 1) := by decide +kernel
theorem dX0_divide_1 : decode cX0_divide 1 = .ok (.getfield 30, 3) := by decide +kernel
theorem dX0_divide_4 : decode cX0_divide 4 = .ok (.iload_n 1, 1) := by decide +kernel
theorem dX0_divide_5 : decode cX0_divide 5 = .ok (.laload, 1) := by decide +kernel
theorem dX0_divide_6 : decode cX0_divide 6 = .ok (.ldc2_w 73, 3) := by decide +kernel
theorem dX0_divide_9 : decode cX0_divide 9 = .ok (.lrem, 1) := by decide +kernel
theorem dX0_divide_10 : decode cX0_divide 10 = .ok (.l2i, 1) := by decide +kernel
theorem dX0_divide_11 : decode cX0_divide 11 = .ok (.istore_n 2, 1) := by decide +kernel
theorem dX0_divide_12 : decode cX0_divide 12 = .ok (.aload_n 0, 1) := by decide +kernel
theorem dX0_divide_13 : decode cX0_divide 13 = .ok (.getfield 24, 3) := by decide +kernel
theorem dX0_divide_16 : decode cX0_divide 16 = .ok (.iload_n 1, 1) := by decide +kernel
theorem dX0_divide_17 : decode cX0_divide 17 = .ok (.iaload, 1) := by decide +kernel
theorem dX0_divide_18 : decode cX0_divide 18 = .ok (.istore_n 3, 1) := by decide +kernel
theorem dX0_divide_19 : decode cX0_divide 19 = .ok (.iload_n 3, 1) := by decide +kernel
theorem dX0_divide_20 : decode cX0_divide 20 = .ok (.iconst 5, 1) := by decide +kernel
theorem dX0_divide_21 : decode cX0_divide 21 = .ok (.if_icmp .ge 51, 3) := by decide +kernel
theorem dX0_divide_24 : decode cX0_divide 24 = .ok (.iload_n 3, 1) := by decide +kernel
theorem dX0_divide_25 : decode cX0_divide 25 = .ok (.aload_n 0, 1) := by decide +kernel
theorem dX0_divide_26 : decode cX0_divide 26 = .ok (.getfield 24, 3) := by decide +kernel
theorem dX0_divide_29 : decode cX0_divide 29 = .ok (.iload_n 1, 1) := by decide +kernel
theorem dX0_divide_30 : decode cX0_divide 30 = .ok (.iaload, 1) := by decide +kernel
theorem dX0_divide_31 : decode cX0_divide 31 = .ok (.if_icmp .ne 12, 3) := by decide +kernel
theorem dX0_divide_34 : decode cX0_divide 34 = .ok (.aload_n 0, 1) := by decide +kernel
theorem dX0_divide_35 : decode cX0_divide 35 = .ok (.getfield 27, 3) := by decide +kernel
theorem dX0_divide_38 : decode cX0_divide 38 = .ok (.iload_n 1, 1) := by decide +kernel
theorem dX0_divide_39 : decode cX0_divide 39 = .ok (.iaload, 1) := by decide +kernel
theorem dX0_divide_40 : decode cX0_divide 40 = .ok (.goto 4, 3) := by decide +kernel
theorem dX0_divide_43 : decode cX0_divide 43 = .ok (.iconst 0, 1) := by decide +kernel
theorem dX0_divide_44 : decode cX0_divide 44 = .ok (.istore 4, 2) := by decide +kernel
theorem dX0_divide_46 : decode cX0_divide 46 = .ok (.iload_n 2, 1) := by decide +kernel
theorem dX0_divide_47 : decode cX0_divide 47 = .ok (.iload_n 3, 1) := by decide +kernel
theorem dX0_divide_48 : decode cX0_divide 48 = .ok (.invokestatic 75, 3) := by decide +kernel
theorem dX0_divide_51 : decode cX0_divide 51 = .ok (.istore 5, 2) := by decide +kernel
theorem dX0_divide_53 : decode cX0_divide 53 = .ok (.aload_n 0, 1) := by decide +kernel
theorem dX0_divide_54 : decode cX0_divide 54 = .ok (.iload_n 3, 1) := by decide +kernel
theorem dX0_divide_55 : decode cX0_divide 55 = .ok (.iload 4, 2) := by decide +kernel
theorem dX0_divide_57 : decode cX0_divide 57 = .ok (.iconst 1, 1) := by decide +kernel
theorem dX0_divide_58 : decode cX0_divide 58 = .ok (.iload 5, 2) := by decide +kernel
theorem dX0_divide_60 : decode cX0_divide 60 = .ok (.ishl, 1) := by decide +kernel
theorem dX0_divide_61 : decode cX0_divide 61 = .ok (.ior, 1) := by decide +kernel
theorem dX0_divide_62 : decode cX0_divide 62 = .ok (.iload_n 2, 1) := by decide +kernel
theorem dX0_divide_63 : decode cX0_divide 63 = .ok (.invokevirtual 102, 3) := by decide +kernel
theorem dX0_divide_66 : decode cX0_divide 66 = .ok (.iinc 3 1, 3) := by decide +kernel
theorem dX0_divide_69 : decode cX0_divide 69 = .ok (.goto (-50), 3) := by decide +kernel
theorem dX0_divide_72 : decode cX0_divide 72 = .ok (.return_, 1) := by decide +kernel
theorem dX0_cost_0 : decode cX0_cost 0 = .ok (.aload_n 0, 1) := by decide +kernel
theorem dX0_cost_1 : decode cX0_cost 1 = .ok (.iload_n 1, 1) := by decide +kernel
theorem dX0_cost_2 : decode cX0_cost 2 = .ok (.invokevirtual 70, 3) := by decide +kernel
theorem dX0_cost_5 : decode cX0_cost 5 = .ok (.ifCond .eq 17, 3) := by decide +kernel
theorem dX0_cost_8 : decode cX0_cost 8 = .ok (.aload_n 0, 1) := by decide +kernel
theorem dX0_cost_9 : decode cX0_cost 9 = .ok (.getfield 17, 3) := by decide +kernel
theorem dX0_cost_12 : decode cX0_cost 12 = .ok (.iload_n 1, 1) := by decide +kernel
theorem dX0_cost_13 : decode cX0_cost 13 = .ok (.laload, 1) := by decide +kernel
theorem dX0_cost_14 : decode cX0_cost 14 = .ok (.ldc2_w 73, 3) := by decide +kernel
theorem dX0_cost_17 : decode cX0_cost 17 = .ok (.ldiv, 1) := by decide +kernel
theorem dX0_cost_18 : decode cX0_cost 18 = .ok (.l2i, 1) := by decide +kernel
theorem dX0_cost_19 : decode cX0_cost 19 = .ok (.goto 4, 3) := by decide +kernel
theorem dX0_cost_22 : decode cX0_cost 22 = .ok (.iconst (-1), 1) := by decide +kernel
theorem dX0_cost_23 : decode cX0_cost 23 = .ok (.ireturn, 1) := by decide +kernel
theorem dX0_hasRank_0 : decode cX0_hasRank 0 = .ok (.iload_n 1, 1) := by decide +kernel
theorem dX0_hasRank_1 : decode cX0_hasRank 1 = .ok (.ifCond .lt 9, 3) := by decide +kernel
theorem dX0_hasRank_4 : decode cX0_hasRank 4 = .ok (.iload_n 1, 1) := by decide +kernel
theorem dX0_hasRank_5 : decode cX0_hasRank 5 = .ok (.bipush 119, 2) := by decide +kernel
theorem dX0_hasRank_7 : decode cX0_hasRank 7 = .ok (.if_icmp .le 5, 3) := by decide +kernel
theorem dX0_hasRank_10 : decode cX0_hasRank 10 = .ok (.iconst 0, 1) := by decide +kernel
theorem dX0_hasRank_11 : decode cX0_hasRank 11 = .ok (.ireturn, 1) := by decide +kernel
theorem dX0_hasRank_12 : decode cX0_hasRank 12 = .ok (.aload_n 0, 1) := by decide +kernel
theorem dX0_hasRank_13 : decode cX0_hasRank 13 = .ok (.iload_n 1, 1) := by decide +kernel
theorem dX0_hasRank_14 : decode cX0_hasRank 14 = .ok (.iconst 1, 1) := by decide +kernel
theorem dX0_hasRank_15 : decode cX0_hasRank 15 = .ok (.iadd, 1) := by decide +kernel
theorem dX0_hasRank_16 : decode cX0_hasRank 16 = .ok (.invokevirtual 63, 3) := by decide +kernel
theorem dX0_hasRank_19 : decode cX0_hasRank 19 = .ok (.iload_n 1, 1) := by decide +kernel
theorem dX0_hasRank_20 : decode cX0_hasRank 20 = .ok (.aload_n 0, 1) := by decide +kernel
theorem dX0_hasRank_21 : decode cX0_hasRank 21 = .ok (.getfield 67, 3) := by decide +kernel
theorem dX0_hasRank_24 : decode cX0_hasRank 24 = .ok (.if_icmp .ge 7, 3) := by decide +kernel
theorem dX0_hasRank_27 : decode cX0_hasRank 27 = .ok (.iconst 1, 1) := by decide +kernel
theorem dX0_hasRank_28 : decode cX0_hasRank 28 = .ok (.goto 4, 3) := by decide +kernel
theorem dX0_hasRank_31 : decode cX0_hasRank 31 = .ok (.iconst 0, 1) := by decide +kernel
theorem dX0_hasRank_32 : decode cX0_hasRank 32 = .ok (.ireturn, 1) := by decide +kernel
theorem dX0_plan_0 : decode cX0_plan 0 = .ok (.aload_n 0, 1) := by decide +kernel
theorem dX0_plan_1 : decode cX0_plan 1 = .ok (.iload_n 1, 1) := by decide +kernel
theorem dX0_plan_2 : decode cX0_plan 2 = .ok (.invokevirtual 70, 3) := by decide +kernel
theorem dX0_plan_5 : decode cX0_plan 5 = .ok (.ifCond .eq 17, 3) := by decide +kernel
theorem dX0_plan_8 : decode cX0_plan 8 = .ok (.aload_n 0, 1) := by decide +kernel
theorem dX0_plan_9 : decode cX0_plan 9 = .ok (.getfield 17, 3) := by decide +kernel
theorem dX0_plan_12 : decode cX0_plan 12 = .ok (.iload_n 1, 1) := by decide +kernel
theorem dX0_plan_13 : decode cX0_plan 13 = .ok (.laload, 1) := by decide +kernel
theorem dX0_plan_14 : decode cX0_plan 14 = .ok (.ldc2_w 73, 3) := by decide +kernel
theorem dX0_plan_17 : decode cX0_plan 17 = .ok (.lrem, 1) := by decide +kernel
theorem dX0_plan_18 : decode cX0_plan 18 = .ok (.l2i, 1) := by decide +kernel
theorem dX0_plan_19 : decode cX0_plan 19 = .ok (.goto 4, 3) := by decide +kernel
theorem dX0_plan_22 : decode cX0_plan 22 = .ok (.iconst (-1), 1) := by decide +kernel
theorem dX0_plan_23 : decode cX0_plan 23 = .ok (.ireturn, 1) := by decide +kernel
theorem dX0_task_0 : decode cX0_task 0 = .ok (.iload_n 2, 1) := by decide +kernel
theorem dX0_task_1 : decode cX0_task 1 = .ok (.invokestatic 55, 3) := by decide +kernel
theorem dX0_task_4 : decode cX0_task 4 = .ok (.ifCond .eq 11, 3) := by decide +kernel
theorem dX0_task_7 : decode cX0_task 7 = .ok (.aload_n 0, 1) := by decide +kernel
theorem dX0_task_8 : decode cX0_task 8 = .ok (.iload_n 1, 1) := by decide +kernel
theorem dX0_task_9 : decode cX0_task 9 = .ok (.invokevirtual 70, 3) := by decide +kernel
theorem dX0_task_12 : decode cX0_task 12 = .ok (.ifCond .ne 5, 3) := by decide +kernel
theorem dX0_task_15 : decode cX0_task 15 = .ok (.iconst (-1), 1) := by decide +kernel
theorem dX0_task_16 : decode cX0_task 16 = .ok (.ireturn, 1) := by decide +kernel
theorem dX0_task_17 : decode cX0_task 17 = .ok (.aload_n 0, 1) := by decide +kernel
theorem dX0_task_18 : decode cX0_task 18 = .ok (.getfield 17, 3) := by decide +kernel
theorem dX0_task_21 : decode cX0_task 21 = .ok (.iload_n 1, 1) := by decide +kernel
theorem dX0_task_22 : decode cX0_task 22 = .ok (.laload, 1) := by decide +kernel
theorem dX0_task_23 : decode cX0_task 23 = .ok (.ldc2_w 73, 3) := by decide +kernel
theorem dX0_task_26 : decode cX0_task 26 = .ok (.lrem, 1) := by decide +kernel
theorem dX0_task_27 : decode cX0_task 27 = .ok (.l2i, 1) := by decide +kernel
theorem dX0_task_28 : decode cX0_task 28 = .ok (.istore_n 3, 1) := by decide +kernel
theorem dX0_task_29 : decode cX0_task 29 = .ok (.iload_n 3, 1) := by decide +kernel
theorem dX0_task_30 : decode cX0_task 30 = .ok (.iload_n 2, 1) := by decide +kernel
theorem dX0_task_31 : decode cX0_task 31 = .ok (.invokestatic 75, 3) := by decide +kernel
theorem dX0_task_34 : decode cX0_task 34 = .ok (.ireturn, 1) := by decide +kernel
theorem dX0_within_0 : decode cX0_within 0 = .ok (.iconst 0, 1) := by decide +kernel
theorem dX0_within_1 : decode cX0_within 1 = .ok (.istore_n 2, 1) := by decide +kernel
theorem dX0_within_2 : decode cX0_within 2 = .ok (.iconst 0, 1) := by decide +kernel
theorem dX0_within_3 : decode cX0_within 3 = .ok (.istore_n 3, 1) := by decide +kernel
theorem dX0_within_4 : decode cX0_within 4 = .ok (.iload_n 3, 1) := by decide +kernel
theorem dX0_within_5 : decode cX0_within 5 = .ok (.bipush 120, 2) := by decide +kernel
theorem dX0_within_7 : decode cX0_within 7 = .ok (.if_icmp .ge 38, 3) := by decide +kernel
theorem dX0_within_10 : decode cX0_within 10 = .ok (.aload_n 0, 1) := by decide +kernel
theorem dX0_within_11 : decode cX0_within 11 = .ok (.iload_n 3, 1) := by decide +kernel
theorem dX0_within_12 : decode cX0_within 12 = .ok (.invokevirtual 70, 3) := by decide +kernel
theorem dX0_within_15 : decode cX0_within 15 = .ok (.ifCond .eq 19, 3) := by decide +kernel
theorem dX0_within_18 : decode cX0_within 18 = .ok (.aload_n 0, 1) := by decide +kernel
theorem dX0_within_19 : decode cX0_within 19 = .ok (.getfield 17, 3) := by decide +kernel
theorem dX0_within_22 : decode cX0_within 22 = .ok (.iload_n 3, 1) := by decide +kernel
theorem dX0_within_23 : decode cX0_within 23 = .ok (.laload, 1) := by decide +kernel
theorem dX0_within_24 : decode cX0_within 24 = .ok (.ldc2_w 73, 3) := by decide +kernel
theorem dX0_within_27 : decode cX0_within 27 = .ok (.ldiv, 1) := by decide +kernel
theorem dX0_within_28 : decode cX0_within 28 = .ok (.iload_n 1, 1) := by decide +kernel
theorem dX0_within_29 : decode cX0_within 29 = .ok (.i2l, 1) := by decide +kernel
theorem dX0_within_30 : decode cX0_within 30 = .ok (.lcmp, 1) := by decide +kernel
theorem dX0_within_31 : decode cX0_within 31 = .ok (.ifCond .le 5, 3) := by decide +kernel
theorem dX0_within_34 : decode cX0_within 34 = .ok (.iload_n 2, 1) := by decide +kernel
theorem dX0_within_35 : decode cX0_within 35 = .ok (.ireturn, 1) := by decide +kernel
theorem dX0_within_36 : decode cX0_within 36 = .ok (.iinc 2 1, 3) := by decide +kernel
theorem dX0_within_39 : decode cX0_within 39 = .ok (.iinc 3 1, 3) := by decide +kernel
theorem dX0_within_42 : decode cX0_within 42 = .ok (.goto (-38), 3) := by decide +kernel
theorem dX0_within_45 : decode cX0_within 45 = .ok (.iload_n 2, 1) := by decide +kernel
theorem dX0_within_46 : decode cX0_within 46 = .ok (.ireturn, 1) := by decide +kernel
theorem dX0_rank_0 : decode cX0_rank 0 = .ok (.aload_n 0, 1) := by decide +kernel
theorem dX0_rank_1 : decode cX0_rank 1 = .ok (.bipush 120, 2) := by decide +kernel
theorem dX0_rank_3 : decode cX0_rank 3 = .ok (.invokevirtual 63, 3) := by decide +kernel
theorem dX0_rank_6 : decode cX0_rank 6 = .ok (.iconst 0, 1) := by decide +kernel
theorem dX0_rank_7 : decode cX0_rank 7 = .ok (.istore_n 2, 1) := by decide +kernel
theorem dX0_rank_8 : decode cX0_rank 8 = .ok (.iload_n 2, 1) := by decide +kernel
theorem dX0_rank_9 : decode cX0_rank 9 = .ok (.aload_n 0, 1) := by decide +kernel
theorem dX0_rank_10 : decode cX0_rank 10 = .ok (.getfield 67, 3) := by decide +kernel
theorem dX0_rank_13 : decode cX0_rank 13 = .ok (.if_icmp .ge 27, 3) := by decide +kernel
theorem dX0_rank_16 : decode cX0_rank 16 = .ok (.aload_n 0, 1) := by decide +kernel
theorem dX0_rank_17 : decode cX0_rank 17 = .ok (.getfield 17, 3) := by decide +kernel
theorem dX0_rank_20 : decode cX0_rank 20 = .ok (.iload_n 2, 1) := by decide +kernel
theorem dX0_rank_21 : decode cX0_rank 21 = .ok (.laload, 1) := by decide +kernel
theorem dX0_rank_22 : decode cX0_rank 22 = .ok (.ldc2_w 73, 3) := by decide +kernel
theorem dX0_rank_25 : decode cX0_rank 25 = .ok (.lrem, 1) := by decide +kernel
theorem dX0_rank_26 : decode cX0_rank 26 = .ok (.iload_n 1, 1) := by decide +kernel
theorem dX0_rank_27 : decode cX0_rank 27 = .ok (.i2l, 1) := by decide +kernel
theorem dX0_rank_28 : decode cX0_rank 28 = .ok (.lcmp, 1) := by decide +kernel
theorem dX0_rank_29 : decode cX0_rank 29 = .ok (.ifCond .ne 5, 3) := by decide +kernel
theorem dX0_rank_32 : decode cX0_rank 32 = .ok (.iload_n 2, 1) := by decide +kernel
theorem dX0_rank_33 : decode cX0_rank 33 = .ok (.ireturn, 1) := by decide +kernel
theorem dX0_rank_34 : decode cX0_rank 34 = .ok (.iinc 2 1, 3) := by decide +kernel
theorem dX0_rank_37 : decode cX0_rank 37 = .ok (.goto (-29), 3) := by decide +kernel
theorem dX0_rank_40 : decode cX0_rank 40 = .ok (.iconst (-1), 1) := by decide +kernel
theorem dX0_rank_41 : decode cX0_rank 41 = .ok (.ireturn, 1) := by decide +kernel
theorem dX0_cheapestWith_0 : decode cX0_cheapestWith 0 = .ok (.iload_n 1, 1) := by decide +kernel
theorem dX0_cheapestWith_1 : decode cX0_cheapestWith 1 = .ok (.invokestatic 55, 3) := by decide +kernel
theorem dX0_cheapestWith_4 : decode cX0_cheapestWith 4 = .ok (.ifCond .eq 10, 3) := by decide +kernel
theorem dX0_cheapestWith_7 : decode cX0_cheapestWith 7 = .ok (.iload_n 2, 1) := by decide +kernel
theorem dX0_cheapestWith_8 : decode cX0_cheapestWith 8 = .ok (.invokestatic 55, 3) := by decide +kernel
theorem dX0_cheapestWith_11 : decode cX0_cheapestWith 11 = .ok (.ifCond .ne 5, 3) := by decide +kernel
theorem dX0_cheapestWith_14 : decode cX0_cheapestWith 14 = .ok (.iconst (-1), 1) := by decide +kernel
theorem dX0_cheapestWith_15 : decode cX0_cheapestWith 15 = .ok (.ireturn, 1) := by decide +kernel
theorem dX0_cheapestWith_16 : decode cX0_cheapestWith 16 = .ok (.aload_n 0, 1) := by decide +kernel
theorem dX0_cheapestWith_17 : decode cX0_cheapestWith 17 = .ok (.iload_n 1, 1) := by decide +kernel
theorem dX0_cheapestWith_18 : decode cX0_cheapestWith 18 = .ok (.putfield 51, 3) := by decide +kernel
theorem dX0_cheapestWith_21 : decode cX0_cheapestWith 21 = .ok (.aload_n 0, 1) := by decide +kernel
theorem dX0_cheapestWith_22 : decode cX0_cheapestWith 22 = .ok (.iload_n 2, 1) := by decide +kernel
theorem dX0_cheapestWith_23 : decode cX0_cheapestWith 23 = .ok (.putfield 79, 3) := by decide +kernel
theorem dX0_cheapestWith_26 : decode cX0_cheapestWith 26 = .ok (.aload_n 0, 1) := by decide +kernel
theorem dX0_cheapestWith_27 : decode cX0_cheapestWith 27 = .ok (.iconst 0, 1) := by decide +kernel
theorem dX0_cheapestWith_28 : decode cX0_cheapestWith 28 = .ok (.iconst 0, 1) := by decide +kernel
theorem dX0_cheapestWith_29 : decode cX0_cheapestWith 29 = .ok (.iconst 0, 1) := by decide +kernel
theorem dX0_cheapestWith_30 : decode cX0_cheapestWith 30 = .ok (.invokevirtual 82, 3) := by decide +kernel
theorem dX0_cheapestWith_33 : decode cX0_cheapestWith 33 = .ok (.aload_n 0, 1) := by decide +kernel
theorem dX0_cheapestWith_34 : decode cX0_cheapestWith 34 = .ok (.invokevirtual 86, 3) := by decide +kernel
theorem dX0_cheapestWith_37 : decode cX0_cheapestWith 37 = .ok (.lstore_n 3, 1) := by decide +kernel
theorem dX0_cheapestWith_38 : decode cX0_cheapestWith 38 = .ok (.aload_n 0, 1) := by decide +kernel
theorem dX0_cheapestWith_39 : decode cX0_cheapestWith 39 = .ok (.iconst (-1), 1) := by decide +kernel
theorem dX0_cheapestWith_40 : decode cX0_cheapestWith 40 = .ok (.putfield 51, 3) := by decide +kernel
theorem dX0_cheapestWith_43 : decode cX0_cheapestWith 43 = .ok (.lload_n 3, 1) := by decide +kernel
theorem dX0_cheapestWith_44 : decode cX0_cheapestWith 44 = .ok (.ldc2_w 90, 3) := by decide +kernel
theorem dX0_cheapestWith_47 : decode cX0_cheapestWith 47 = .ok (.lcmp, 1) := by decide +kernel
theorem dX0_cheapestWith_48 : decode cX0_cheapestWith 48 = .ok (.ifCond .lt 7, 3) := by decide +kernel
theorem dX0_cheapestWith_51 : decode cX0_cheapestWith 51 = .ok (.iconst (-1), 1) := by decide +kernel
theorem dX0_cheapestWith_52 : decode cX0_cheapestWith 52 = .ok (.goto 9, 3) := by decide +kernel
theorem dX0_cheapestWith_55 : decode cX0_cheapestWith 55 = .ok (.lload_n 3, 1) := by decide +kernel
theorem dX0_cheapestWith_56 : decode cX0_cheapestWith 56 = .ok (.ldc2_w 73, 3) := by decide +kernel
theorem dX0_cheapestWith_59 : decode cX0_cheapestWith 59 = .ok (.ldiv, 1) := by decide +kernel
theorem dX0_cheapestWith_60 : decode cX0_cheapestWith 60 = .ok (.l2i, 1) := by decide +kernel
theorem dX0_cheapestWith_61 : decode cX0_cheapestWith 61 = .ok (.ireturn, 1) := by decide +kernel
end
section
/-! RankedPairsModel -/
set_option maxRecDepth 100000
def RX1 : String := "RankedPairsModel"
def TX1 : u_T := fun k => match k with
  | 0 => ("RankedPairsModel", "prices", "[I", true)
  | 1 => ("RankedPairsModel", "count", "I", false)
  | 2 => ("RankedPairsModel", "numbers", "[I", true)
  | _ => ("RankedPairsModel", "costs", "[I", true)
def tyX1 : Nat → FieldType := fun k => match k with
  | 0 => .array .int
  | 1 => .int
  | 2 => .array .int
  | _ => .array .int
abbrev wsX10 : List Cond := u_ws RX1 TX1 4
theorem nmX1 : ∀ a, a < 4 → ∀ b, b < 4 → a ≠ b → (TX1 a).2.1 ≠ (TX1 b).2.1 := by decide +kernel
theorem tyX1_ok : ∀ k, k < 4 → parseFieldDescriptor (TX1 k).2.2.1 = some (tyX1 k) := by decide +kernel
abbrev cX1_init : ByteArray := prog_3_method_1_code
def yX1_init : MethodName := ⟨RX1, "<init>", "()V"⟩
theorem dX1_init_0 : decode cX1_init 0 = .ok (.aload_n 0, 1) := by decide +kernel
theorem dX1_init_1 : decode cX1_init 1 = .ok (.invokespecial 1, 3) := by decide +kernel
theorem dX1_init_4 : decode cX1_init 4 = .ok (.aload_n 0, 1) := by decide +kernel
theorem dX1_init_5 : decode cX1_init 5 = .ok (.bipush 25, 2) := by decide +kernel
theorem dX1_init_7 : decode cX1_init 7 = .ok (.newarray .int, 2) := by decide +kernel
theorem dX1_init_9 : decode cX1_init 9 = .ok (.putfield 7, 3) := by decide +kernel
theorem dX1_init_12 : decode cX1_init 12 = .ok (.aload_n 0, 1) := by decide +kernel
theorem dX1_init_13 : decode cX1_init 13 = .ok (.bipush 120, 2) := by decide +kernel
theorem dX1_init_15 : decode cX1_init 15 = .ok (.newarray .int, 2) := by decide +kernel
theorem dX1_init_17 : decode cX1_init 17 = .ok (.putfield 13, 3) := by decide +kernel
theorem dX1_init_20 : decode cX1_init 20 = .ok (.aload_n 0, 1) := by decide +kernel
theorem dX1_init_21 : decode cX1_init 21 = .ok (.bipush 120, 2) := by decide +kernel
theorem dX1_init_23 : decode cX1_init 23 = .ok (.newarray .int, 2) := by decide +kernel
theorem dX1_init_25 : decode cX1_init 25 = .ok (.putfield 16, 3) := by decide +kernel
theorem dX1_init_28 : decode cX1_init 28 = .ok (.return_, 1) := by decide +kernel
abbrev cX1_price : ByteArray := prog_3_method_3_code
def yX1_price : MethodName := ⟨RX1, "price", "(III)I"⟩
theorem dX1_price_0 : decode cX1_price 0 = .ok (.iload_n 1, 1) := by decide +kernel
theorem dX1_price_1 : decode cX1_price 1 = .ok (.invokestatic 19, 3) := by decide +kernel
theorem dX1_price_4 : decode cX1_price 4 = .ok (.ifCond .ne 20, 3) := by decide +kernel
theorem dX1_price_7 : decode cX1_price 7 = .ok (.iload_n 2, 1) := by decide +kernel
theorem dX1_price_8 : decode cX1_price 8 = .ok (.invokestatic 19, 3) := by decide +kernel
theorem dX1_price_11 : decode cX1_price 11 = .ok (.ifCond .ne 13, 3) := by decide +kernel
theorem dX1_price_14 : decode cX1_price 14 = .ok (.iload_n 3, 1) := by decide +kernel
theorem dX1_price_15 : decode cX1_price 15 = .ok (.ifCond .lt 9, 3) := by decide +kernel
theorem dX1_price_18 : decode cX1_price 18 = .ok (.iload_n 3, 1) := by decide +kernel
theorem dX1_price_19 : decode cX1_price 19 = .ok (.bipush 99, 2) := by decide +kernel
theorem dX1_price_21 : decode cX1_price 21 = .ok (.if_icmp .le 5, 3) := by decide +kernel
theorem dX1_price_24 : decode cX1_price 24 = .ok (.iconst (-1), 1) := by decide +kernel
theorem dX1_price_25 : decode cX1_price 25 = .ok (.ireturn, 1) := by decide +kernel
theorem dX1_price_26 : decode cX1_price 26 = .ok (.aload_n 0, 1) := by decide +kernel
theorem dX1_price_27 : decode cX1_price 27 = .ok (.getfield 7, 3) := by decide +kernel
theorem dX1_price_30 : decode cX1_price 30 = .ok (.iconst 5, 1) := by decide +kernel
theorem dX1_price_31 : decode cX1_price 31 = .ok (.iload_n 1, 1) := by decide +kernel
theorem dX1_price_32 : decode cX1_price 32 = .ok (.imul, 1) := by decide +kernel
theorem dX1_price_33 : decode cX1_price 33 = .ok (.iload_n 2, 1) := by decide +kernel
theorem dX1_price_34 : decode cX1_price 34 = .ok (.iadd, 1) := by decide +kernel
theorem dX1_price_35 : decode cX1_price 35 = .ok (.iload_n 3, 1) := by decide +kernel
theorem dX1_price_36 : decode cX1_price 36 = .ok (.iastore, 1) := by decide +kernel
theorem dX1_price_37 : decode cX1_price 37 = .ok (.iconst 0, 1) := by decide +kernel
theorem dX1_price_38 : decode cX1_price 38 = .ok (.ireturn, 1) := by decide +kernel
abbrev cX1_bad : ByteArray := prog_3_method_2_code
def yX1_bad : MethodName := ⟨RX1, "bad", "(I)Z"⟩
theorem dX1_bad_0 : decode cX1_bad 0 = .ok (.iload_n 0, 1) := by decide +kernel
theorem dX1_bad_1 : decode cX1_bad 1 = .ok (.ifCond .lt 8, 3) := by decide +kernel
theorem dX1_bad_4 : decode cX1_bad 4 = .ok (.iload_n 0, 1) := by decide +kernel
theorem dX1_bad_5 : decode cX1_bad 5 = .ok (.iconst 4, 1) := by decide +kernel
theorem dX1_bad_6 : decode cX1_bad 6 = .ok (.if_icmp .le 7, 3) := by decide +kernel
theorem dX1_bad_9 : decode cX1_bad 9 = .ok (.iconst 1, 1) := by decide +kernel
theorem dX1_bad_10 : decode cX1_bad 10 = .ok (.goto 4, 3) := by decide +kernel
theorem dX1_bad_13 : decode cX1_bad 13 = .ok (.iconst 0, 1) := by decide +kernel
theorem dX1_bad_14 : decode cX1_bad 14 = .ok (.ireturn, 1) := by decide +kernel
abbrev cX1_bar : ByteArray := prog_3_method_4_code
def yX1_bar : MethodName := ⟨RX1, "bar", "(II)I"⟩
theorem dX1_bar_0 : decode cX1_bar 0 = .ok (.iload_n 1, 1) := by decide +kernel
theorem dX1_bar_1 : decode cX1_bar 1 = .ok (.invokestatic 19, 3) := by decide +kernel
theorem dX1_bar_4 : decode cX1_bar 4 = .ok (.ifCond .ne 10, 3) := by decide +kernel
theorem dX1_bar_7 : decode cX1_bar 7 = .ok (.iload_n 2, 1) := by decide +kernel
theorem dX1_bar_8 : decode cX1_bar 8 = .ok (.invokestatic 19, 3) := by decide +kernel
theorem dX1_bar_11 : decode cX1_bar 11 = .ok (.ifCond .eq 5, 3) := by decide +kernel
theorem dX1_bar_14 : decode cX1_bar 14 = .ok (.iconst (-1), 1) := by decide +kernel
theorem dX1_bar_15 : decode cX1_bar 15 = .ok (.ireturn, 1) := by decide +kernel
theorem dX1_bar_16 : decode cX1_bar 16 = .ok (.aload_n 0, 1) := by decide +kernel
theorem dX1_bar_17 : decode cX1_bar 17 = .ok (.getfield 7, 3) := by decide +kernel
theorem dX1_bar_20 : decode cX1_bar 20 = .ok (.iconst 5, 1) := by decide +kernel
theorem dX1_bar_21 : decode cX1_bar 21 = .ok (.iload_n 1, 1) := by decide +kernel
theorem dX1_bar_22 : decode cX1_bar 22 = .ok (.imul, 1) := by decide +kernel
theorem dX1_bar_23 : decode cX1_bar 23 = .ok (.iload_n 2, 1) := by decide +kernel
theorem dX1_bar_24 : decode cX1_bar 24 = .ok (.iadd, 1) := by decide +kernel
theorem dX1_bar_25 : decode cX1_bar 25 = .ok (.iconst (-1), 1) := by decide +kernel
theorem dX1_bar_26 : decode cX1_bar 26 = .ok (.iastore, 1) := by decide +kernel
theorem dX1_bar_27 : decode cX1_bar 27 = .ok (.iconst 0, 1) := by decide +kernel
theorem dX1_bar_28 : decode cX1_bar 28 = .ok (.ireturn, 1) := by decide +kernel
abbrev cX1_plans : ByteArray := prog_3_method_8_code
def yX1_plans : MethodName := ⟨RX1, "plans", "()I"⟩
theorem dX1_plans_0 : decode cX1_plans 0 = .ok (.aload_n 0, 1) := by decide +kernel
theorem dX1_plans_1 : decode cX1_plans 1 = .ok (.invokevirtual 35, 3) := by decide +kernel
theorem dX1_plans_4 : decode cX1_plans 4 = .ok (.aload_n 0, 1) := by decide +kernel
theorem dX1_plans_5 : decode cX1_plans 5 = .ok (.getfield 27, 3) := by decide +kernel
theorem dX1_plans_8 : decode cX1_plans 8 = .ok (.ireturn, 1) := by decide +kernel
abbrev cX1_list : ByteArray := prog_3_method_7_code
def yX1_list : MethodName := ⟨RX1, "list", "()V"⟩
theorem dX1_list_0 : decode cX1_list 0 = .ok (.aload_n 0, 1) := by decide +kernel
theorem dX1_list_1 : decode cX1_list 1 = .ok (.iconst 0, 1) := by decide +kernel
theorem dX1_list_2 : decode cX1_list 2 = .ok (.putfield 27, 3) := by decide +kernel
theorem dX1_list_5 : decode cX1_list 5 = .ok (.iconst 0, 1) := by decide +kernel
theorem dX1_list_6 : decode cX1_list 6 = .ok (.istore_n 1, 1) := by decide +kernel
theorem dX1_list_7 : decode cX1_list 7 = .ok (.iload_n 1, 1) := by decide +kernel
theorem dX1_list_8 : decode cX1_list 8 = .ok (.sipush 3125, 3) := by decide +kernel
theorem dX1_list_11 : decode cX1_list 11 = .ok (.if_icmp .ge 98, 3) := by decide +kernel
theorem dX1_list_14 : decode cX1_list 14 = .ok (.aload_n 0, 1) := by decide +kernel
theorem dX1_list_15 : decode cX1_list 15 = .ok (.iload_n 1, 1) := by decide +kernel
theorem dX1_list_16 : decode cX1_list 16 = .ok (.invokevirtual 31, 3) := by decide +kernel
theorem dX1_list_19 : decode cX1_list 19 = .ok (.istore_n 2, 1) := by decide +kernel
theorem dX1_list_20 : decode cX1_list 20 = .ok (.iload_n 2, 1) := by decide +kernel
theorem dX1_list_21 : decode cX1_list 21 = .ok (.ifCond .lt 82, 3) := by decide +kernel
theorem dX1_list_24 : decode cX1_list 24 = .ok (.aload_n 0, 1) := by decide +kernel
theorem dX1_list_25 : decode cX1_list 25 = .ok (.getfield 27, 3) := by decide +kernel
theorem dX1_list_28 : decode cX1_list 28 = .ok (.istore_n 3, 1) := by decide +kernel
theorem dX1_list_29 : decode cX1_list 29 = .ok (.iload_n 3, 1) := by decide +kernel
theorem dX1_list_30 : decode cX1_list 30 = .ok (.ifCond .le 49, 3) := by decide +kernel
theorem dX1_list_33 : decode cX1_list 33 = .ok (.aload_n 0, 1) := by decide +kernel
theorem dX1_list_34 : decode cX1_list 34 = .ok (.getfield 16, 3) := by decide +kernel
theorem dX1_list_37 : decode cX1_list 37 = .ok (.iload_n 3, 1) := by decide +kernel
theorem dX1_list_38 : decode cX1_list 38 = .ok (.iconst 1, 1) := by decide +kernel
theorem dX1_list_39 : decode cX1_list 39 = .ok (.isub, 1) := by decide +kernel
theorem dX1_list_40 : decode cX1_list 40 = .ok (.iaload, 1) := by decide +kernel
theorem dX1_list_41 : decode cX1_list 41 = .ok (.iload_n 2, 1) := by decide +kernel
theorem dX1_list_42 : decode cX1_list 42 = .ok (.if_icmp .le 37, 3) := by decide +kernel
theorem dX1_list_45 : decode cX1_list 45 = .ok (.aload_n 0, 1) := by decide +kernel
theorem dX1_list_46 : decode cX1_list 46 = .ok (.getfield 16, 3) := by decide +kernel
theorem dX1_list_49 : decode cX1_list 49 = .ok (.iload_n 3, 1) := by decide +kernel
theorem dX1_list_50 : decode cX1_list 50 = .ok (.aload_n 0, 1) := by decide +kernel
theorem dX1_list_51 : decode cX1_list 51 = .ok (.getfield 16, 3) := by decide +kernel
theorem dX1_list_54 : decode cX1_list 54 = .ok (.iload_n 3, 1) := by decide +kernel
theorem dX1_list_55 : decode cX1_list 55 = .ok (.iconst 1, 1) := by decide +kernel
theorem dX1_list_56 : decode cX1_list 56 = .ok (.isub, 1) := by decide +kernel
theorem dX1_list_57 : decode cX1_list 57 = .ok (.iaload, 1) := by decide +kernel
theorem dX1_list_58 : decode cX1_list 58 = .ok (.iastore, 1) := by decide +kernel
theorem dX1_list_59 : decode cX1_list 59 = .ok (.aload_n 0, 1) := by decide +kernel
theorem dX1_list_60 : decode cX1_list 60 = .ok (.getfield 13, 3) := by decide +kernel
theorem dX1_list_63 : decode cX1_list 63 = .ok (.iload_n 3, 1) := by decide +kernel
theorem dX1_list_64 : decode cX1_list 64 = .ok (.aload_n 0, 1) := by decide +kernel
theorem dX1_list_65 : decode cX1_list 65 = .ok (.getfield 13, 3) := by decide +kernel
theorem dX1_list_68 : decode cX1_list 68 = .ok (.iload_n 3, 1) := by decide +kernel
theorem dX1_list_69 : decode cX1_list 69 = .ok (.iconst 1, 1) := by decide +kernel
theorem dX1_list_70 : decode cX1_list 70 = .ok (.isub, 1) := by decide +kernel
theorem dX1_list_71 : decode cX1_list 71 = .ok (.iaload, 1) := by decide +kernel
theorem dX1_list_72 : decode cX1_list 72 = .ok (.iastore, 1) := by decide +kernel
theorem dX1_list_73 : decode cX1_list 73 = .ok (.iinc 3 (-1), 3) := by decide +kernel
theorem dX1_list_76 : decode cX1_list 76 = .ok (.goto (-47), 3) := by decide +kernel
theorem dX1_list_79 : decode cX1_list 79 = .ok (.aload_n 0, 1) := by decide +kernel
theorem dX1_list_80 : decode cX1_list 80 = .ok (.getfield 16, 3) := by decide +kernel
theorem dX1_list_83 : decode cX1_list 83 = .ok (.iload_n 3, 1) := by decide +kernel
theorem dX1_list_84 : decode cX1_list 84 = .ok (.iload_n 2, 1) := by decide +kernel
theorem dX1_list_85 : decode cX1_list 85 = .ok (.iastore, 1) := by decide +kernel
theorem dX1_list_86 : decode cX1_list 86 = .ok (.aload_n 0, 1) := by decide +kernel
theorem dX1_list_87 : decode cX1_list 87 = .ok (.getfield 13, 3) := by decide +kernel
theorem dX1_list_90 : decode cX1_list 90 = .ok (.iload_n 3, 1) := by decide +kernel
theorem dX1_list_91 : decode cX1_list 91 = .ok (.iload_n 1, 1) := by decide +kernel
theorem dX1_list_92 : decode cX1_list 92 = .ok (.iastore, 1) := by decide +kernel
theorem dX1_list_93 : decode cX1_list 93 = .ok (.aload_n 0, 1) := by decide +kernel
theorem dX1_list_94 : decode cX1_list 94 = .ok (.dup, 1) := by decide +kernel
theorem dX1_list_95 : decode cX1_list 95 = .ok (.getfield 27, 3) := by decide +kernel
theorem dX1_list_98 : decode cX1_list 98 = .ok (.iconst 1, 1) := by decide +kernel
theorem dX1_list_99 : decode cX1_list 99 = .ok (.iadd, 1) := by decide +kernel
theorem dX1_list_100 : decode cX1_list 100 = .ok (.putfield 27, 3) := by decide +kernel
theorem dX1_list_103 : decode cX1_list 103 = .ok (.iinc 1 1, 3) := by decide +kernel
theorem dX1_list_106 : decode cX1_list 106 = .ok (.goto (-99), 3) := by decide +kernel
theorem dX1_list_109 : decode cX1_list 109 = .ok (.return_, 1) := by decide +kernel
abbrev cX1_costOf : ByteArray := prog_3_method_6_code
def yX1_costOf : MethodName := ⟨RX1, "costOf", "(I)I"⟩
theorem dX1_costOf_0 : decode cX1_costOf 0 = .ok (.iconst 0, 1) := by decide +kernel
theorem dX1_costOf_1 : decode cX1_costOf 1 = .ok (.istore_n 2, 1) := by decide +kernel
theorem dX1_costOf_2 : decode cX1_costOf 2 = .ok (.iconst 0, 1) := by decide +kernel
theorem dX1_costOf_3 : decode cX1_costOf 3 = .ok (.istore_n 3, 1) := by decide +kernel
theorem dX1_costOf_4 : decode cX1_costOf 4 = .ok (.iconst 0, 1) := by decide +kernel
theorem dX1_costOf_5 : decode cX1_costOf 5 = .ok (.istore 4, 2) := by decide +kernel
theorem dX1_costOf_7 : decode cX1_costOf 7 = .ok (.iload 4, 2) := by decide +kernel
theorem dX1_costOf_9 : decode cX1_costOf 9 = .ok (.iconst 5, 1) := by decide +kernel
theorem dX1_costOf_10 : decode cX1_costOf 10 = .ok (.if_icmp .ge 66, 3) := by decide +kernel
theorem dX1_costOf_13 : decode cX1_costOf 13 = .ok (.iload_n 1, 1) := by decide +kernel
theorem dX1_costOf_14 : decode cX1_costOf 14 = .ok (.iload 4, 2) := by decide +kernel
theorem dX1_costOf_16 : decode cX1_costOf 16 = .ok (.invokestatic 23, 3) := by decide +kernel
theorem dX1_costOf_19 : decode cX1_costOf 19 = .ok (.istore 5, 2) := by decide +kernel
theorem dX1_costOf_21 : decode cX1_costOf 21 = .ok (.iload_n 2, 1) := by decide +kernel
theorem dX1_costOf_22 : decode cX1_costOf 22 = .ok (.iload 5, 2) := by decide +kernel
theorem dX1_costOf_24 : decode cX1_costOf 24 = .ok (.ishr, 1) := by decide +kernel
theorem dX1_costOf_25 : decode cX1_costOf 25 = .ok (.iconst 1, 1) := by decide +kernel
theorem dX1_costOf_26 : decode cX1_costOf 26 = .ok (.iand, 1) := by decide +kernel
theorem dX1_costOf_27 : decode cX1_costOf 27 = .ok (.iconst 1, 1) := by decide +kernel
theorem dX1_costOf_28 : decode cX1_costOf 28 = .ok (.if_icmp .eq 18, 3) := by decide +kernel
theorem dX1_costOf_31 : decode cX1_costOf 31 = .ok (.aload_n 0, 1) := by decide +kernel
theorem dX1_costOf_32 : decode cX1_costOf 32 = .ok (.getfield 7, 3) := by decide +kernel
theorem dX1_costOf_35 : decode cX1_costOf 35 = .ok (.iconst 5, 1) := by decide +kernel
theorem dX1_costOf_36 : decode cX1_costOf 36 = .ok (.iload 4, 2) := by decide +kernel
theorem dX1_costOf_38 : decode cX1_costOf 38 = .ok (.imul, 1) := by decide +kernel
theorem dX1_costOf_39 : decode cX1_costOf 39 = .ok (.iload 5, 2) := by decide +kernel
theorem dX1_costOf_41 : decode cX1_costOf 41 = .ok (.iadd, 1) := by decide +kernel
theorem dX1_costOf_42 : decode cX1_costOf 42 = .ok (.iaload, 1) := by decide +kernel
theorem dX1_costOf_43 : decode cX1_costOf 43 = .ok (.ifCond .ge 5, 3) := by decide +kernel
theorem dX1_costOf_46 : decode cX1_costOf 46 = .ok (.iconst (-1), 1) := by decide +kernel
theorem dX1_costOf_47 : decode cX1_costOf 47 = .ok (.ireturn, 1) := by decide +kernel
theorem dX1_costOf_48 : decode cX1_costOf 48 = .ok (.iload_n 2, 1) := by decide +kernel
theorem dX1_costOf_49 : decode cX1_costOf 49 = .ok (.iconst 1, 1) := by decide +kernel
theorem dX1_costOf_50 : decode cX1_costOf 50 = .ok (.iload 5, 2) := by decide +kernel
theorem dX1_costOf_52 : decode cX1_costOf 52 = .ok (.ishl, 1) := by decide +kernel
theorem dX1_costOf_53 : decode cX1_costOf 53 = .ok (.ior, 1) := by decide +kernel
theorem dX1_costOf_54 : decode cX1_costOf 54 = .ok (.istore_n 2, 1) := by decide +kernel
theorem dX1_costOf_55 : decode cX1_costOf 55 = .ok (.iload_n 3, 1) := by decide +kernel
theorem dX1_costOf_56 : decode cX1_costOf 56 = .ok (.aload_n 0, 1) := by decide +kernel
theorem dX1_costOf_57 : decode cX1_costOf 57 = .ok (.getfield 7, 3) := by decide +kernel
theorem dX1_costOf_60 : decode cX1_costOf 60 = .ok (.iconst 5, 1) := by decide +kernel
theorem dX1_costOf_61 : decode cX1_costOf 61 = .ok (.iload 4, 2) := by decide +kernel
theorem dX1_costOf_63 : decode cX1_costOf 63 = .ok (.imul, 1) := by decide +kernel
theorem dX1_costOf_64 : decode cX1_costOf 64 = .ok (.iload 5, 2) := by decide +kernel
theorem dX1_costOf_66 : decode cX1_costOf 66 = .ok (.iadd, 1) := by decide +kernel
theorem dX1_costOf_67 : decode cX1_costOf 67 = .ok (.iaload, 1) := by decide +kernel
theorem dX1_costOf_68 : decode cX1_costOf 68 = .ok (.iadd, 1) := by decide +kernel
theorem dX1_costOf_69 : decode cX1_costOf 69 = .ok (.istore_n 3, 1) := by decide +kernel
theorem dX1_costOf_70 : decode cX1_costOf 70 = .ok (.iinc 4 1, 3) := by decide +kernel
theorem dX1_costOf_73 : decode cX1_costOf 73 = .ok (.goto (-66), 3) := by decide +kernel
theorem dX1_costOf_76 : decode cX1_costOf 76 = .ok (.iload_n 3, 1) := by decide +kernel
theorem dX1_costOf_77 : decode cX1_costOf 77 = .ok (.ireturn, 1) := by decide +kernel
abbrev cX1_digit : ByteArray := prog_3_method_5_code
def yX1_digit : MethodName := ⟨RX1, "digit", "(II)I"⟩
theorem dX1_digit_0 : decode cX1_digit 0 = .ok (.iconst 1, 1) := by decide +kernel
theorem dX1_digit_1 : decode cX1_digit 1 = .ok (.istore_n 2, 1) := by decide +kernel
theorem dX1_digit_2 : decode cX1_digit 2 = .ok (.iload_n 1, 1) := by decide +kernel
theorem dX1_digit_3 : decode cX1_digit 3 = .ok (.istore_n 3, 1) := by decide +kernel
theorem dX1_digit_4 : decode cX1_digit 4 = .ok (.iload_n 3, 1) := by decide +kernel
theorem dX1_digit_5 : decode cX1_digit 5 = .ok (.iconst 4, 1) := by decide +kernel
theorem dX1_digit_6 : decode cX1_digit 6 = .ok (.if_icmp .ge 13, 3) := by decide +kernel
theorem dX1_digit_9 : decode cX1_digit 9 = .ok (.iconst 5, 1) := by decide +kernel
theorem dX1_digit_10 : decode cX1_digit 10 = .ok (.iload_n 2, 1) := by decide +kernel
theorem dX1_digit_11 : decode cX1_digit 11 = .ok (.imul, 1) := by decide +kernel
theorem dX1_digit_12 : decode cX1_digit 12 = .ok (.istore_n 2, 1) := by decide +kernel
theorem dX1_digit_13 : decode cX1_digit 13 = .ok (.iinc 3 1, 3) := by decide +kernel
theorem dX1_digit_16 : decode cX1_digit 16 = .ok (.goto (-12), 3) := by decide +kernel
theorem dX1_digit_19 : decode cX1_digit 19 = .ok (.iload_n 2, 1) := by decide +kernel
theorem dX1_digit_20 : decode cX1_digit 20 = .ok (.ifCond .le 11, 3) := by decide +kernel
theorem dX1_digit_23 : decode cX1_digit 23 = .ok (.iload_n 0, 1) := by decide +kernel
theorem dX1_digit_24 : decode cX1_digit 24 = .ok (.iload_n 2, 1) := by decide +kernel
theorem dX1_digit_25 : decode cX1_digit 25 = .ok (.idiv, 1) := by decide +kernel
theorem dX1_digit_26 : decode cX1_digit 26 = .ok (.iconst 5, 1) := by decide +kernel
theorem dX1_digit_27 : decode cX1_digit 27 = .ok (.irem, 1) := by decide +kernel
theorem dX1_digit_28 : decode cX1_digit 28 = .ok (.goto 4, 3) := by decide +kernel
theorem dX1_digit_31 : decode cX1_digit 31 = .ok (.iconst 0, 1) := by decide +kernel
theorem dX1_digit_32 : decode cX1_digit 32 = .ok (.ireturn, 1) := by decide +kernel
abbrev cX1_cost : ByteArray := prog_3_method_9_code
def yX1_cost : MethodName := ⟨RX1, "cost", "(I)I"⟩
theorem dX1_cost_0 : decode cX1_cost 0 = .ok (.aload_n 0, 1) := by decide +kernel
theorem dX1_cost_1 : decode cX1_cost 1 = .ok (.invokevirtual 35, 3) := by decide +kernel
theorem dX1_cost_4 : decode cX1_cost 4 = .ok (.iload_n 1, 1) := by decide +kernel
theorem dX1_cost_5 : decode cX1_cost 5 = .ok (.ifCond .lt 11, 3) := by decide +kernel
theorem dX1_cost_8 : decode cX1_cost 8 = .ok (.iload_n 1, 1) := by decide +kernel
theorem dX1_cost_9 : decode cX1_cost 9 = .ok (.aload_n 0, 1) := by decide +kernel
theorem dX1_cost_10 : decode cX1_cost 10 = .ok (.getfield 27, 3) := by decide +kernel
theorem dX1_cost_13 : decode cX1_cost 13 = .ok (.if_icmp .lt 7, 3) := by decide +kernel
theorem dX1_cost_16 : decode cX1_cost 16 = .ok (.iconst (-1), 1) := by decide +kernel
theorem dX1_cost_17 : decode cX1_cost 17 = .ok (.goto 9, 3) := by decide +kernel
theorem dX1_cost_20 : decode cX1_cost 20 = .ok (.aload_n 0, 1) := by decide +kernel
theorem dX1_cost_21 : decode cX1_cost 21 = .ok (.getfield 16, 3) := by decide +kernel
theorem dX1_cost_24 : decode cX1_cost 24 = .ok (.iload_n 1, 1) := by decide +kernel
theorem dX1_cost_25 : decode cX1_cost 25 = .ok (.iaload, 1) := by decide +kernel
theorem dX1_cost_26 : decode cX1_cost 26 = .ok (.ireturn, 1) := by decide +kernel
abbrev cX1_plan : ByteArray := prog_3_method_10_code
def yX1_plan : MethodName := ⟨RX1, "plan", "(I)I"⟩
theorem dX1_plan_0 : decode cX1_plan 0 = .ok (.aload_n 0, 1) := by decide +kernel
theorem dX1_plan_1 : decode cX1_plan 1 = .ok (.invokevirtual 35, 3) := by decide +kernel
theorem dX1_plan_4 : decode cX1_plan 4 = .ok (.iload_n 1, 1) := by decide +kernel
theorem dX1_plan_5 : decode cX1_plan 5 = .ok (.ifCond .lt 11, 3) := by decide +kernel
theorem dX1_plan_8 : decode cX1_plan 8 = .ok (.iload_n 1, 1) := by decide +kernel
theorem dX1_plan_9 : decode cX1_plan 9 = .ok (.aload_n 0, 1) := by decide +kernel
theorem dX1_plan_10 : decode cX1_plan 10 = .ok (.getfield 27, 3) := by decide +kernel
theorem dX1_plan_13 : decode cX1_plan 13 = .ok (.if_icmp .lt 7, 3) := by decide +kernel
theorem dX1_plan_16 : decode cX1_plan 16 = .ok (.iconst (-1), 1) := by decide +kernel
theorem dX1_plan_17 : decode cX1_plan 17 = .ok (.goto 9, 3) := by decide +kernel
theorem dX1_plan_20 : decode cX1_plan 20 = .ok (.aload_n 0, 1) := by decide +kernel
theorem dX1_plan_21 : decode cX1_plan 21 = .ok (.getfield 13, 3) := by decide +kernel
theorem dX1_plan_24 : decode cX1_plan 24 = .ok (.iload_n 1, 1) := by decide +kernel
theorem dX1_plan_25 : decode cX1_plan 25 = .ok (.iaload, 1) := by decide +kernel
theorem dX1_plan_26 : decode cX1_plan 26 = .ok (.ireturn, 1) := by decide +kernel
abbrev cX1_task : ByteArray := prog_3_method_11_code
def yX1_task : MethodName := ⟨RX1, "task", "(II)I"⟩
theorem dX1_task_0 : decode cX1_task 0 = .ok (.aload_n 0, 1) := by decide +kernel
theorem dX1_task_1 : decode cX1_task 1 = .ok (.invokevirtual 35, 3) := by decide +kernel
theorem dX1_task_4 : decode cX1_task 4 = .ok (.iload_n 2, 1) := by decide +kernel
theorem dX1_task_5 : decode cX1_task 5 = .ok (.invokestatic 19, 3) := by decide +kernel
theorem dX1_task_8 : decode cX1_task 8 = .ok (.ifCond .ne 15, 3) := by decide +kernel
theorem dX1_task_11 : decode cX1_task 11 = .ok (.iload_n 1, 1) := by decide +kernel
theorem dX1_task_12 : decode cX1_task 12 = .ok (.ifCond .lt 11, 3) := by decide +kernel
theorem dX1_task_15 : decode cX1_task 15 = .ok (.iload_n 1, 1) := by decide +kernel
theorem dX1_task_16 : decode cX1_task 16 = .ok (.aload_n 0, 1) := by decide +kernel
theorem dX1_task_17 : decode cX1_task 17 = .ok (.getfield 27, 3) := by decide +kernel
theorem dX1_task_20 : decode cX1_task 20 = .ok (.if_icmp .lt 7, 3) := by decide +kernel
theorem dX1_task_23 : decode cX1_task 23 = .ok (.iconst (-1), 1) := by decide +kernel
theorem dX1_task_24 : decode cX1_task 24 = .ok (.goto 13, 3) := by decide +kernel
theorem dX1_task_27 : decode cX1_task 27 = .ok (.aload_n 0, 1) := by decide +kernel
theorem dX1_task_28 : decode cX1_task 28 = .ok (.getfield 13, 3) := by decide +kernel
theorem dX1_task_31 : decode cX1_task 31 = .ok (.iload_n 1, 1) := by decide +kernel
theorem dX1_task_32 : decode cX1_task 32 = .ok (.iaload, 1) := by decide +kernel
theorem dX1_task_33 : decode cX1_task 33 = .ok (.iload_n 2, 1) := by decide +kernel
theorem dX1_task_34 : decode cX1_task 34 = .ok (.invokestatic 23, 3) := by decide +kernel
theorem dX1_task_37 : decode cX1_task 37 = .ok (.ireturn, 1) := by decide +kernel
abbrev cX1_within : ByteArray := prog_3_method_12_code
def yX1_within : MethodName := ⟨RX1, "within", "(I)I"⟩
theorem dX1_within_0 : decode cX1_within 0 = .ok (.aload_n 0, 1) := by decide +kernel
theorem dX1_within_1 : decode cX1_within 1 = .ok (.invokevirtual 35, 3) := by decide +kernel
theorem dX1_within_4 : decode cX1_within 4 = .ok (.iconst 0, 1) := by decide +kernel
theorem dX1_within_5 : decode cX1_within 5 = .ok (.istore_n 2, 1) := by decide +kernel
theorem dX1_within_6 : decode cX1_within 6 = .ok (.iconst 0, 1) := by decide +kernel
theorem dX1_within_7 : decode cX1_within 7 = .ok (.istore_n 3, 1) := by decide +kernel
theorem dX1_within_8 : decode cX1_within 8 = .ok (.iload_n 3, 1) := by decide +kernel
theorem dX1_within_9 : decode cX1_within 9 = .ok (.aload_n 0, 1) := by decide +kernel
theorem dX1_within_10 : decode cX1_within 10 = .ok (.getfield 27, 3) := by decide +kernel
theorem dX1_within_13 : decode cX1_within 13 = .ok (.if_icmp .ge 22, 3) := by decide +kernel
theorem dX1_within_16 : decode cX1_within 16 = .ok (.aload_n 0, 1) := by decide +kernel
theorem dX1_within_17 : decode cX1_within 17 = .ok (.getfield 16, 3) := by decide +kernel
theorem dX1_within_20 : decode cX1_within 20 = .ok (.iload_n 3, 1) := by decide +kernel
theorem dX1_within_21 : decode cX1_within 21 = .ok (.iaload, 1) := by decide +kernel
theorem dX1_within_22 : decode cX1_within 22 = .ok (.iload_n 1, 1) := by decide +kernel
theorem dX1_within_23 : decode cX1_within 23 = .ok (.if_icmp .gt 6, 3) := by decide +kernel
theorem dX1_within_26 : decode cX1_within 26 = .ok (.iinc 2 1, 3) := by decide +kernel
theorem dX1_within_29 : decode cX1_within 29 = .ok (.iinc 3 1, 3) := by decide +kernel
theorem dX1_within_32 : decode cX1_within 32 = .ok (.goto (-24), 3) := by decide +kernel
theorem dX1_within_35 : decode cX1_within 35 = .ok (.iload_n 2, 1) := by decide +kernel
theorem dX1_within_36 : decode cX1_within 36 = .ok (.ireturn, 1) := by decide +kernel
abbrev cX1_rank : ByteArray := prog_3_method_13_code
def yX1_rank : MethodName := ⟨RX1, "rank", "(I)I"⟩
theorem dX1_rank_0 : decode cX1_rank 0 = .ok (.aload_n 0, 1) := by decide +kernel
theorem dX1_rank_1 : decode cX1_rank 1 = .ok (.invokevirtual 35, 3) := by decide +kernel
theorem dX1_rank_4 : decode cX1_rank 4 = .ok (.iconst 0, 1) := by decide +kernel
theorem dX1_rank_5 : decode cX1_rank 5 = .ok (.istore_n 2, 1) := by decide +kernel
theorem dX1_rank_6 : decode cX1_rank 6 = .ok (.iload_n 2, 1) := by decide +kernel
theorem dX1_rank_7 : decode cX1_rank 7 = .ok (.aload_n 0, 1) := by decide +kernel
theorem dX1_rank_8 : decode cX1_rank 8 = .ok (.getfield 27, 3) := by decide +kernel
theorem dX1_rank_11 : decode cX1_rank 11 = .ok (.if_icmp .ge 21, 3) := by decide +kernel
theorem dX1_rank_14 : decode cX1_rank 14 = .ok (.aload_n 0, 1) := by decide +kernel
theorem dX1_rank_15 : decode cX1_rank 15 = .ok (.getfield 13, 3) := by decide +kernel
theorem dX1_rank_18 : decode cX1_rank 18 = .ok (.iload_n 2, 1) := by decide +kernel
theorem dX1_rank_19 : decode cX1_rank 19 = .ok (.iaload, 1) := by decide +kernel
theorem dX1_rank_20 : decode cX1_rank 20 = .ok (.iload_n 1, 1) := by decide +kernel
theorem dX1_rank_21 : decode cX1_rank 21 = .ok (.if_icmp .ne 5, 3) := by decide +kernel
theorem dX1_rank_24 : decode cX1_rank 24 = .ok (.iload_n 2, 1) := by decide +kernel
theorem dX1_rank_25 : decode cX1_rank 25 = .ok (.ireturn, 1) := by decide +kernel
theorem dX1_rank_26 : decode cX1_rank 26 = .ok (.iinc 2 1, 3) := by decide +kernel
theorem dX1_rank_29 : decode cX1_rank 29 = .ok (.goto (-23), 3) := by decide +kernel
theorem dX1_rank_32 : decode cX1_rank 32 = .ok (.iconst (-1), 1) := by decide +kernel
theorem dX1_rank_33 : decode cX1_rank 33 = .ok (.ireturn, 1) := by decide +kernel
abbrev cX1_cheapestWith : ByteArray := prog_3_method_14_code
def yX1_cheapestWith : MethodName := ⟨RX1, "cheapestWith", "(II)I"⟩
theorem dX1_cheapestWith_0 : decode cX1_cheapestWith 0 = .ok (.iload_n 1, 1) := by decide +kernel
theorem dX1_cheapestWith_1 : decode cX1_cheapestWith 1 = .ok (.invokestatic 19, 3) := by decide +kernel
theorem dX1_cheapestWith_4 : decode cX1_cheapestWith 4 = .ok (.ifCond .ne 10, 3) := by decide +kernel
theorem dX1_cheapestWith_7 : decode cX1_cheapestWith 7 = .ok (.iload_n 2, 1) := by decide +kernel
theorem dX1_cheapestWith_8 : decode cX1_cheapestWith 8 = .ok (.invokestatic 19, 3) := by decide +kernel
theorem dX1_cheapestWith_11 : decode cX1_cheapestWith 11 = .ok (.ifCond .eq 5, 3) := by decide +kernel
theorem dX1_cheapestWith_14 : decode cX1_cheapestWith 14 = .ok (.iconst (-1), 1) := by decide +kernel
theorem dX1_cheapestWith_15 : decode cX1_cheapestWith 15 = .ok (.ireturn, 1) := by decide +kernel
theorem dX1_cheapestWith_16 : decode cX1_cheapestWith 16 = .ok (.aload_n 0, 1) := by decide +kernel
theorem dX1_cheapestWith_17 : decode cX1_cheapestWith 17 = .ok (.invokevirtual 35, 3) := by decide +kernel
theorem dX1_cheapestWith_20 : decode cX1_cheapestWith 20 = .ok (.iconst 0, 1) := by decide +kernel
theorem dX1_cheapestWith_21 : decode cX1_cheapestWith 21 = .ok (.istore_n 3, 1) := by decide +kernel
theorem dX1_cheapestWith_22 : decode cX1_cheapestWith 22 = .ok (.iload_n 3, 1) := by decide +kernel
theorem dX1_cheapestWith_23 : decode cX1_cheapestWith 23 = .ok (.aload_n 0, 1) := by decide +kernel
theorem dX1_cheapestWith_24 : decode cX1_cheapestWith 24 = .ok (.getfield 27, 3) := by decide +kernel
theorem dX1_cheapestWith_27 : decode cX1_cheapestWith 27 = .ok (.if_icmp .ge 30, 3) := by decide +kernel
theorem dX1_cheapestWith_30 : decode cX1_cheapestWith 30 = .ok (.aload_n 0, 1) := by decide +kernel
theorem dX1_cheapestWith_31 : decode cX1_cheapestWith 31 = .ok (.getfield 13, 3) := by decide +kernel
theorem dX1_cheapestWith_34 : decode cX1_cheapestWith 34 = .ok (.iload_n 3, 1) := by decide +kernel
theorem dX1_cheapestWith_35 : decode cX1_cheapestWith 35 = .ok (.iaload, 1) := by decide +kernel
theorem dX1_cheapestWith_36 : decode cX1_cheapestWith 36 = .ok (.iload_n 1, 1) := by decide +kernel
theorem dX1_cheapestWith_37 : decode cX1_cheapestWith 37 = .ok (.invokestatic 23, 3) := by decide +kernel
theorem dX1_cheapestWith_40 : decode cX1_cheapestWith 40 = .ok (.iload_n 2, 1) := by decide +kernel
theorem dX1_cheapestWith_41 : decode cX1_cheapestWith 41 = .ok (.if_icmp .ne 10, 3) := by decide +kernel
theorem dX1_cheapestWith_44 : decode cX1_cheapestWith 44 = .ok (.aload_n 0, 1) := by decide +kernel
theorem dX1_cheapestWith_45 : decode cX1_cheapestWith 45 = .ok (.getfield 16, 3) := by decide +kernel
theorem dX1_cheapestWith_48 : decode cX1_cheapestWith 48 = .ok (.iload_n 3, 1) := by decide +kernel
theorem dX1_cheapestWith_49 : decode cX1_cheapestWith 49 = .ok (.iaload, 1) := by decide +kernel
theorem dX1_cheapestWith_50 : decode cX1_cheapestWith 50 = .ok (.ireturn, 1) := by decide +kernel
theorem dX1_cheapestWith_51 : decode cX1_cheapestWith 51 = .ok (.iinc 3 1, 3) := by decide +kernel
theorem dX1_cheapestWith_54 : decode cX1_cheapestWith 54 = .ok (.goto (-32), 3) := by decide +kernel
theorem dX1_cheapestWith_57 : decode cX1_cheapestWith 57 = .ok (.iconst (-1), 1) := by decide +kernel
theorem dX1_cheapestWith_58 : decode cX1_cheapestWith 58 = .ok (.ireturn, 1) := by decide +kernel
theorem q13 : (Jvm.Cond.initialized "RankedPairsModel") ∈ lw_all := lw_g (lw_at lw_m0 2 rfl) rfl
theorem q177 : (Jvm.Cond.instantiable "RankedPairsModel" (4 : Nat)) ∈ lw_all := lw_g (lw_at lw_m0 166 rfl) rfl
theorem q179 : (Jvm.Cond.instanceMethod ({ cls := "RankedPairsModel", name := "<init>", desc := "()V" } : Jvm.MethodName)) ∈ lw_all := lw_g (lw_at lw_m0 168 rfl) rfl
theorem q180 : (Jvm.Cond.code ({ cls := "RankedPairsModel", name := "<init>", desc := "()V" } : Jvm.MethodName) prog_3_method_1_code (1 : Nat) (Option.none : Option Jvm.ClassFile.FieldType)) ∈ lw_all := lw_g (lw_at lw_m0 169 rfl) rfl
theorem q181 : (Jvm.Cond.methodLink "RankedPairsModel" (1 : Nat) ({ cls := "java/lang/Object", name := "<init>", desc := "()V" } : Jvm.MethodName)) ∈ lw_all := lw_g (lw_at lw_m0 170 rfl) rfl
theorem q182 : (Jvm.Cond.fieldLink "RankedPairsModel" (7 : Nat) "RankedPairsModel" "prices" "[I") ∈ lw_all := lw_g (lw_at lw_m0 171 rfl) rfl
theorem q183 : (Jvm.Cond.fieldLink "RankedPairsModel" (27 : Nat) "RankedPairsModel" "count" "I") ∈ lw_all := lw_g (lw_at lw_m0 172 rfl) rfl
theorem q184 : (Jvm.Cond.fieldLink "RankedPairsModel" (13 : Nat) "RankedPairsModel" "numbers" "[I") ∈ lw_all := lw_g (lw_at lw_m0 173 rfl) rfl
theorem q185 : (Jvm.Cond.fieldLink "RankedPairsModel" (16 : Nat) "RankedPairsModel" "costs" "[I") ∈ lw_all := lw_g (lw_at lw_m0 174 rfl) rfl
theorem q186 : (Jvm.Cond.laysFinal "RankedPairsModel" "RankedPairsModel" "prices" "[I") ∈ lw_all := lw_g (lw_at lw_m0 175 rfl) rfl
theorem q187 : (Jvm.Cond.soleField "RankedPairsModel" "prices") ∈ lw_all := lw_g (lw_at lw_m0 176 rfl) rfl
theorem q188 : (Jvm.Cond.lays "RankedPairsModel" "RankedPairsModel" "count" "I") ∈ lw_all := lw_g (lw_at lw_m0 177 rfl) rfl
theorem q189 : (Jvm.Cond.soleField "RankedPairsModel" "count") ∈ lw_all := lw_g (lw_at lw_m0 178 rfl) rfl
theorem q190 : (Jvm.Cond.laysFinal "RankedPairsModel" "RankedPairsModel" "numbers" "[I") ∈ lw_all := lw_g (lw_at lw_m0 179 rfl) rfl
theorem q191 : (Jvm.Cond.soleField "RankedPairsModel" "numbers") ∈ lw_all := lw_g (lw_at lw_m0 180 rfl) rfl
theorem q192 : (Jvm.Cond.laysFinal "RankedPairsModel" "RankedPairsModel" "costs" "[I") ∈ lw_all := lw_g (lw_at lw_m0 181 rfl) rfl
theorem q193 : (Jvm.Cond.soleField "RankedPairsModel" "costs") ∈ lw_all := lw_g (lw_at lw_m0 182 rfl) rfl
theorem q194 : (Jvm.Cond.superclass "RankedPairsModel" "java/lang/Object") ∈ lw_all := lw_g (lw_at lw_m0 183 rfl) rfl
theorem q196 : (Jvm.Cond.instanceMethod ({ cls := "RankedPairsModel", name := "price", desc := "(III)I" } : Jvm.MethodName)) ∈ lw_all := lw_g (lw_at lw_m0 185 rfl) rfl
theorem q197 : (Jvm.Cond.selects "RankedPairsModel" ({ cls := "RankedPairsModel", name := "price", desc := "(III)I" } : Jvm.MethodName) ({ cls := "RankedPairsModel", name := "price", desc := "(III)I" } : Jvm.MethodName)) ∈ lw_all := lw_g (lw_at lw_m0 186 rfl) rfl
theorem q198 : (Jvm.Cond.code ({ cls := "RankedPairsModel", name := "price", desc := "(III)I" } : Jvm.MethodName) prog_3_method_3_code (4 : Nat) (Option.some Jvm.ClassFile.FieldType.int)) ∈ lw_all := lw_g (lw_at lw_m0 187 rfl) rfl
theorem q199 : (Jvm.Cond.methodLink "RankedPairsModel" (19 : Nat) ({ cls := "RankedPairsModel", name := "bad", desc := "(I)Z" } : Jvm.MethodName)) ∈ lw_all := lw_g (lw_at lw_m0 188 rfl) rfl
theorem q200 : (Jvm.Cond.static ({ cls := "RankedPairsModel", name := "bad", desc := "(I)Z" } : Jvm.MethodName)) ∈ lw_all := lw_g (lw_at lw_m0 189 rfl) rfl
theorem q201 : (Jvm.Cond.code ({ cls := "RankedPairsModel", name := "bad", desc := "(I)Z" } : Jvm.MethodName) prog_3_method_2_code (1 : Nat) (Option.some Jvm.ClassFile.FieldType.boolean)) ∈ lw_all := lw_g (lw_at lw_m0 190 rfl) rfl
theorem q203 : (Jvm.Cond.instanceMethod ({ cls := "RankedPairsModel", name := "bar", desc := "(II)I" } : Jvm.MethodName)) ∈ lw_all := lw_g (lw_at lw_m0 192 rfl) rfl
theorem q204 : (Jvm.Cond.selects "RankedPairsModel" ({ cls := "RankedPairsModel", name := "bar", desc := "(II)I" } : Jvm.MethodName) ({ cls := "RankedPairsModel", name := "bar", desc := "(II)I" } : Jvm.MethodName)) ∈ lw_all := lw_g (lw_at lw_m0 193 rfl) rfl
theorem q205 : (Jvm.Cond.code ({ cls := "RankedPairsModel", name := "bar", desc := "(II)I" } : Jvm.MethodName) prog_3_method_4_code (3 : Nat) (Option.some Jvm.ClassFile.FieldType.int)) ∈ lw_all := lw_g (lw_at lw_m0 194 rfl) rfl
theorem q207 : (Jvm.Cond.instanceMethod ({ cls := "RankedPairsModel", name := "plans", desc := "()I" } : Jvm.MethodName)) ∈ lw_all := lw_g (lw_at lw_m0 196 rfl) rfl
theorem q208 : (Jvm.Cond.selects "RankedPairsModel" ({ cls := "RankedPairsModel", name := "plans", desc := "()I" } : Jvm.MethodName) ({ cls := "RankedPairsModel", name := "plans", desc := "()I" } : Jvm.MethodName)) ∈ lw_all := lw_g (lw_at lw_m0 197 rfl) rfl
theorem q209 : (Jvm.Cond.code ({ cls := "RankedPairsModel", name := "plans", desc := "()I" } : Jvm.MethodName) prog_3_method_8_code (1 : Nat) (Option.some Jvm.ClassFile.FieldType.int)) ∈ lw_all := lw_g (lw_at lw_m0 198 rfl) rfl
theorem q210 : (Jvm.Cond.methodLink "RankedPairsModel" (35 : Nat) ({ cls := "RankedPairsModel", name := "list", desc := "()V" } : Jvm.MethodName)) ∈ lw_all := lw_g (lw_at lw_m0 199 rfl) rfl
theorem q211 : (Jvm.Cond.privateMethod ({ cls := "RankedPairsModel", name := "list", desc := "()V" } : Jvm.MethodName)) ∈ lw_tbl := lw_at lw_m0 200 rfl
theorem q212 : (Jvm.Cond.instanceMethod ({ cls := "RankedPairsModel", name := "list", desc := "()V" } : Jvm.MethodName)) ∈ lw_all := lw_g (lw_at lw_m0 201 rfl) rfl
theorem q213 : (Jvm.Cond.code ({ cls := "RankedPairsModel", name := "list", desc := "()V" } : Jvm.MethodName) prog_3_method_7_code (4 : Nat) (Option.none : Option Jvm.ClassFile.FieldType)) ∈ lw_all := lw_g (lw_at lw_m0 202 rfl) rfl
theorem q214 : (Jvm.Cond.methodLink "RankedPairsModel" (31 : Nat) ({ cls := "RankedPairsModel", name := "costOf", desc := "(I)I" } : Jvm.MethodName)) ∈ lw_all := lw_g (lw_at lw_m0 203 rfl) rfl
theorem q215 : (Jvm.Cond.privateMethod ({ cls := "RankedPairsModel", name := "costOf", desc := "(I)I" } : Jvm.MethodName)) ∈ lw_tbl := lw_at lw_m0 204 rfl
theorem q216 : (Jvm.Cond.instanceMethod ({ cls := "RankedPairsModel", name := "costOf", desc := "(I)I" } : Jvm.MethodName)) ∈ lw_all := lw_g (lw_at lw_m0 205 rfl) rfl
theorem q217 : (Jvm.Cond.code ({ cls := "RankedPairsModel", name := "costOf", desc := "(I)I" } : Jvm.MethodName) prog_3_method_6_code (6 : Nat) (Option.some Jvm.ClassFile.FieldType.int)) ∈ lw_all := lw_g (lw_at lw_m0 206 rfl) rfl
theorem q218 : (Jvm.Cond.methodLink "RankedPairsModel" (23 : Nat) ({ cls := "RankedPairsModel", name := "digit", desc := "(II)I" } : Jvm.MethodName)) ∈ lw_all := lw_g (lw_at lw_m0 207 rfl) rfl
theorem q219 : (Jvm.Cond.static ({ cls := "RankedPairsModel", name := "digit", desc := "(II)I" } : Jvm.MethodName)) ∈ lw_all := lw_g (lw_at lw_m0 208 rfl) rfl
theorem q220 : (Jvm.Cond.code ({ cls := "RankedPairsModel", name := "digit", desc := "(II)I" } : Jvm.MethodName) prog_3_method_5_code (4 : Nat) (Option.some Jvm.ClassFile.FieldType.int)) ∈ lw_all := lw_g (lw_at lw_m0 209 rfl) rfl
theorem q222 : (Jvm.Cond.instanceMethod ({ cls := "RankedPairsModel", name := "cost", desc := "(I)I" } : Jvm.MethodName)) ∈ lw_all := lw_g (lw_at lw_m0 211 rfl) rfl
theorem q223 : (Jvm.Cond.selects "RankedPairsModel" ({ cls := "RankedPairsModel", name := "cost", desc := "(I)I" } : Jvm.MethodName) ({ cls := "RankedPairsModel", name := "cost", desc := "(I)I" } : Jvm.MethodName)) ∈ lw_all := lw_g (lw_at lw_m0 212 rfl) rfl
theorem q224 : (Jvm.Cond.code ({ cls := "RankedPairsModel", name := "cost", desc := "(I)I" } : Jvm.MethodName) prog_3_method_9_code (2 : Nat) (Option.some Jvm.ClassFile.FieldType.int)) ∈ lw_all := lw_g (lw_at lw_m0 213 rfl) rfl
theorem q226 : (Jvm.Cond.instanceMethod ({ cls := "RankedPairsModel", name := "plan", desc := "(I)I" } : Jvm.MethodName)) ∈ lw_all := lw_g (lw_at lw_m0 215 rfl) rfl
theorem q227 : (Jvm.Cond.selects "RankedPairsModel" ({ cls := "RankedPairsModel", name := "plan", desc := "(I)I" } : Jvm.MethodName) ({ cls := "RankedPairsModel", name := "plan", desc := "(I)I" } : Jvm.MethodName)) ∈ lw_all := lw_g (lw_at lw_m0 216 rfl) rfl
theorem q228 : (Jvm.Cond.code ({ cls := "RankedPairsModel", name := "plan", desc := "(I)I" } : Jvm.MethodName) prog_3_method_10_code (2 : Nat) (Option.some Jvm.ClassFile.FieldType.int)) ∈ lw_all := lw_g (lw_at lw_m0 217 rfl) rfl
theorem q230 : (Jvm.Cond.instanceMethod ({ cls := "RankedPairsModel", name := "task", desc := "(II)I" } : Jvm.MethodName)) ∈ lw_all := lw_g (lw_at lw_m0 219 rfl) rfl
theorem q231 : (Jvm.Cond.selects "RankedPairsModel" ({ cls := "RankedPairsModel", name := "task", desc := "(II)I" } : Jvm.MethodName) ({ cls := "RankedPairsModel", name := "task", desc := "(II)I" } : Jvm.MethodName)) ∈ lw_all := lw_g (lw_at lw_m0 220 rfl) rfl
theorem q232 : (Jvm.Cond.code ({ cls := "RankedPairsModel", name := "task", desc := "(II)I" } : Jvm.MethodName) prog_3_method_11_code (3 : Nat) (Option.some Jvm.ClassFile.FieldType.int)) ∈ lw_all := lw_g (lw_at lw_m0 221 rfl) rfl
theorem q234 : (Jvm.Cond.instanceMethod ({ cls := "RankedPairsModel", name := "within", desc := "(I)I" } : Jvm.MethodName)) ∈ lw_all := lw_g (lw_at lw_m0 223 rfl) rfl
theorem q235 : (Jvm.Cond.selects "RankedPairsModel" ({ cls := "RankedPairsModel", name := "within", desc := "(I)I" } : Jvm.MethodName) ({ cls := "RankedPairsModel", name := "within", desc := "(I)I" } : Jvm.MethodName)) ∈ lw_all := lw_g (lw_at lw_m0 224 rfl) rfl
theorem q236 : (Jvm.Cond.code ({ cls := "RankedPairsModel", name := "within", desc := "(I)I" } : Jvm.MethodName) prog_3_method_12_code (4 : Nat) (Option.some Jvm.ClassFile.FieldType.int)) ∈ lw_all := lw_g (lw_at lw_m0 225 rfl) rfl
theorem q238 : (Jvm.Cond.instanceMethod ({ cls := "RankedPairsModel", name := "rank", desc := "(I)I" } : Jvm.MethodName)) ∈ lw_all := lw_g (lw_at lw_m0 227 rfl) rfl
theorem q239 : (Jvm.Cond.selects "RankedPairsModel" ({ cls := "RankedPairsModel", name := "rank", desc := "(I)I" } : Jvm.MethodName) ({ cls := "RankedPairsModel", name := "rank", desc := "(I)I" } : Jvm.MethodName)) ∈ lw_all := lw_g (lw_at lw_m0 228 rfl) rfl
theorem q240 : (Jvm.Cond.code ({ cls := "RankedPairsModel", name := "rank", desc := "(I)I" } : Jvm.MethodName) prog_3_method_13_code (3 : Nat) (Option.some Jvm.ClassFile.FieldType.int)) ∈ lw_all := lw_g (lw_at lw_m0 229 rfl) rfl
theorem q242 : (Jvm.Cond.instanceMethod ({ cls := "RankedPairsModel", name := "cheapestWith", desc := "(II)I" } : Jvm.MethodName)) ∈ lw_all := lw_g (lw_at lw_m0 231 rfl) rfl
theorem q243 : (Jvm.Cond.selects "RankedPairsModel" ({ cls := "RankedPairsModel", name := "cheapestWith", desc := "(II)I" } : Jvm.MethodName) ({ cls := "RankedPairsModel", name := "cheapestWith", desc := "(II)I" } : Jvm.MethodName)) ∈ lw_all := lw_g (lw_at lw_m0 232 rfl) rfl
theorem q244 : (Jvm.Cond.code ({ cls := "RankedPairsModel", name := "cheapestWith", desc := "(II)I" } : Jvm.MethodName) prog_3_method_14_code (4 : Nat) (Option.some Jvm.ClassFile.FieldType.int)) ∈ lw_all := lw_g (lw_at lw_m0 233 rfl) rfl
theorem in_X1 : ∀ w ∈ wsX10, w ∈ lw_all := lw_in wsX10 [186, 188, 190, 192] (by decide +kernel) (by decide +kernel)

/-! java/lang/Object -/
def RJ0 : String := "java/lang/Object"
abbrev cJ0_init : ByteArray := object_method_1_code
def yJ0_init : MethodName := ⟨RJ0, "<init>", "()V"⟩
theorem dJ0_init_0 : decode cJ0_init 0 = .ok (.return_, 1) := by decide +kernel
theorem q20 : (Jvm.Cond.instanceMethod ({ cls := "java/lang/Object", name := "<init>", desc := "()V" } : Jvm.MethodName)) ∈ lw_all := lw_g (lw_at lw_m0 9 rfl) rfl
theorem q21 : (Jvm.Cond.code ({ cls := "java/lang/Object", name := "<init>", desc := "()V" } : Jvm.MethodName) object_method_1_code (1 : Nat) (Option.none : Option Jvm.ClassFile.FieldType)) ∈ lw_all := lw_g (lw_at lw_m0 10 rfl) rfl

theorem q89 : (Jvm.Cond.arrayClass Jvm.ClassFile.FieldType.int) ∈ lw_all := lw_g (lw_at lw_m0 78 rfl) rfl
theorem q90 : (Jvm.Cond.arrayClass Jvm.ClassFile.FieldType.boolean) ∈ lw_all := lw_g (lw_at lw_m0 79 rfl) rfl
theorem q91 : (Jvm.Cond.arrayClass Jvm.ClassFile.FieldType.long) ∈ lw_all := lw_g (lw_at lw_m0 80 rfl) rfl

theorem q11 : (Jvm.Cond.initialized "RankedPairsLaw") ∈ lw_all := lw_g (lw_at lw_m0 0 rfl) rfl
theorem q14 : (Jvm.Cond.classLink "RankedPairsLaw" (7 : Nat) "RankedPairs") ∈ lw_all := lw_g (lw_at lw_m0 3 rfl) rfl
theorem q16 : (Jvm.Cond.methodLink "RankedPairsLaw" (9 : Nat) ({ cls := "RankedPairs", name := "<init>", desc := "()V" } : Jvm.MethodName)) ∈ lw_all := lw_g (lw_at lw_m0 5 rfl) rfl
theorem q92 : (Jvm.Cond.methodLink "RankedPairsLaw" (13 : Nat) ({ cls := "RankedPairs", name := "price", desc := "(III)I" } : Jvm.MethodName)) ∈ lw_all := lw_g (lw_at lw_m0 81 rfl) rfl
theorem q99 : (Jvm.Cond.methodLink "RankedPairsLaw" (18 : Nat) ({ cls := "RankedPairs", name := "bar", desc := "(II)I" } : Jvm.MethodName)) ∈ lw_all := lw_g (lw_at lw_m0 88 rfl) rfl
theorem q103 : (Jvm.Cond.methodLink "RankedPairsLaw" (23 : Nat) ({ cls := "RankedPairs", name := "plans", desc := "()I" } : Jvm.MethodName)) ∈ lw_all := lw_g (lw_at lw_m0 92 rfl) rfl
theorem q148 : (Jvm.Cond.methodLink "RankedPairsLaw" (28 : Nat) ({ cls := "RankedPairs", name := "cost", desc := "(I)I" } : Jvm.MethodName)) ∈ lw_all := lw_g (lw_at lw_m0 137 rfl) rfl
theorem q156 : (Jvm.Cond.methodLink "RankedPairsLaw" (33 : Nat) ({ cls := "RankedPairs", name := "plan", desc := "(I)I" } : Jvm.MethodName)) ∈ lw_all := lw_g (lw_at lw_m0 145 rfl) rfl
theorem q160 : (Jvm.Cond.methodLink "RankedPairsLaw" (37 : Nat) ({ cls := "RankedPairs", name := "task", desc := "(II)I" } : Jvm.MethodName)) ∈ lw_all := lw_g (lw_at lw_m0 149 rfl) rfl
theorem q164 : (Jvm.Cond.methodLink "RankedPairsLaw" (41 : Nat) ({ cls := "RankedPairs", name := "within", desc := "(I)I" } : Jvm.MethodName)) ∈ lw_all := lw_g (lw_at lw_m0 153 rfl) rfl
theorem q168 : (Jvm.Cond.methodLink "RankedPairsLaw" (45 : Nat) ({ cls := "RankedPairs", name := "rank", desc := "(I)I" } : Jvm.MethodName)) ∈ lw_all := lw_g (lw_at lw_m0 157 rfl) rfl
theorem q172 : (Jvm.Cond.methodLink "RankedPairsLaw" (49 : Nat) ({ cls := "RankedPairs", name := "cheapestWith", desc := "(II)I" } : Jvm.MethodName)) ∈ lw_all := lw_g (lw_at lw_m0 161 rfl) rfl
theorem q176 : (Jvm.Cond.classLink "RankedPairsLaw" (10 : Nat) "RankedPairsModel") ∈ lw_all := lw_g (lw_at lw_m0 165 rfl) rfl
theorem q178 : (Jvm.Cond.methodLink "RankedPairsLaw" (12 : Nat) ({ cls := "RankedPairsModel", name := "<init>", desc := "()V" } : Jvm.MethodName)) ∈ lw_all := lw_g (lw_at lw_m0 167 rfl) rfl
theorem q195 : (Jvm.Cond.methodLink "RankedPairsLaw" (17 : Nat) ({ cls := "RankedPairsModel", name := "price", desc := "(III)I" } : Jvm.MethodName)) ∈ lw_all := lw_g (lw_at lw_m0 184 rfl) rfl
theorem q202 : (Jvm.Cond.methodLink "RankedPairsLaw" (22 : Nat) ({ cls := "RankedPairsModel", name := "bar", desc := "(II)I" } : Jvm.MethodName)) ∈ lw_all := lw_g (lw_at lw_m0 191 rfl) rfl
theorem q206 : (Jvm.Cond.methodLink "RankedPairsLaw" (27 : Nat) ({ cls := "RankedPairsModel", name := "plans", desc := "()I" } : Jvm.MethodName)) ∈ lw_all := lw_g (lw_at lw_m0 195 rfl) rfl
theorem q221 : (Jvm.Cond.methodLink "RankedPairsLaw" (32 : Nat) ({ cls := "RankedPairsModel", name := "cost", desc := "(I)I" } : Jvm.MethodName)) ∈ lw_all := lw_g (lw_at lw_m0 210 rfl) rfl
theorem q225 : (Jvm.Cond.methodLink "RankedPairsLaw" (36 : Nat) ({ cls := "RankedPairsModel", name := "plan", desc := "(I)I" } : Jvm.MethodName)) ∈ lw_all := lw_g (lw_at lw_m0 214 rfl) rfl
theorem q229 : (Jvm.Cond.methodLink "RankedPairsLaw" (40 : Nat) ({ cls := "RankedPairsModel", name := "task", desc := "(II)I" } : Jvm.MethodName)) ∈ lw_all := lw_g (lw_at lw_m0 218 rfl) rfl
theorem q233 : (Jvm.Cond.methodLink "RankedPairsLaw" (44 : Nat) ({ cls := "RankedPairsModel", name := "within", desc := "(I)I" } : Jvm.MethodName)) ∈ lw_all := lw_g (lw_at lw_m0 222 rfl) rfl
theorem q237 : (Jvm.Cond.methodLink "RankedPairsLaw" (48 : Nat) ({ cls := "RankedPairsModel", name := "rank", desc := "(I)I" } : Jvm.MethodName)) ∈ lw_all := lw_g (lw_at lw_m0 226 rfl) rfl
theorem q241 : (Jvm.Cond.methodLink "RankedPairsLaw" (52 : Nat) ({ cls := "RankedPairsModel", name := "cheapestWith", desc := "(II)I" } : Jvm.MethodName)) ∈ lw_all := lw_g (lw_at lw_m0 230 rfl) rfl
end
section
/-! the law's own entry -/
set_option maxRecDepth 100000
abbrev cL_law : ByteArray := code
theorem dL_law_0 : decode cL_law 0 = .ok (.new 7, 3) := by decide +kernel
theorem dL_law_3 : decode cL_law 3 = .ok (.dup, 1) := by decide +kernel
theorem dL_law_4 : decode cL_law 4 = .ok (.invokespecial 9, 3) := by decide +kernel
theorem dL_law_7 : decode cL_law 7 = .ok (.astore_n 1, 1) := by decide +kernel
theorem dL_law_8 : decode cL_law 8 = .ok (.new 10, 3) := by decide +kernel
theorem dL_law_11 : decode cL_law 11 = .ok (.dup, 1) := by decide +kernel
theorem dL_law_12 : decode cL_law 12 = .ok (.invokespecial 12, 3) := by decide +kernel
theorem dL_law_15 : decode cL_law 15 = .ok (.astore_n 2, 1) := by decide +kernel
theorem dL_law_16 : decode cL_law 16 = .ok (.iconst 0, 1) := by decide +kernel
theorem dL_law_17 : decode cL_law 17 = .ok (.istore_n 3, 1) := by decide +kernel
theorem dL_law_18 : decode cL_law 18 = .ok (.iload_n 3, 1) := by decide +kernel
theorem dL_law_19 : decode cL_law 19 = .ok (.aload_n 0, 1) := by decide +kernel
theorem dL_law_20 : decode cL_law 20 = .ok (.arraylength, 1) := by decide +kernel
theorem dL_law_21 : decode cL_law 21 = .ok (.iconst 4, 1) := by decide +kernel
theorem dL_law_22 : decode cL_law 22 = .ok (.isub, 1) := by decide +kernel
theorem dL_law_23 : decode cL_law 23 = .ok (.if_icmp .gt 314, 3) := by decide +kernel
theorem dL_law_26 : decode cL_law 26 = .ok (.aload_n 0, 1) := by decide +kernel
theorem dL_law_27 : decode cL_law 27 = .ok (.iload_n 3, 1) := by decide +kernel
theorem dL_law_28 : decode cL_law 28 = .ok (.iaload, 1) := by decide +kernel
theorem dL_law_29 : decode cL_law 29 = .ok (.bipush 15, 2) := by decide +kernel
theorem dL_law_31 : decode cL_law 31 = .ok (.iand, 1) := by decide +kernel
theorem dL_law_32 : decode cL_law 32 = .ok (.tableswitch 299 0 8 #[52, 95, 128, 141, 164, 187, 220, 243, 266], 52) := by decide +kernel
theorem dL_law_84 : decode cL_law 84 = .ok (.aload_n 1, 1) := by decide +kernel
theorem dL_law_85 : decode cL_law 85 = .ok (.aload_n 0, 1) := by decide +kernel
theorem dL_law_86 : decode cL_law 86 = .ok (.iload_n 3, 1) := by decide +kernel
theorem dL_law_87 : decode cL_law 87 = .ok (.iconst 1, 1) := by decide +kernel
theorem dL_law_88 : decode cL_law 88 = .ok (.iadd, 1) := by decide +kernel
theorem dL_law_89 : decode cL_law 89 = .ok (.iaload, 1) := by decide +kernel
theorem dL_law_90 : decode cL_law 90 = .ok (.aload_n 0, 1) := by decide +kernel
theorem dL_law_91 : decode cL_law 91 = .ok (.iload_n 3, 1) := by decide +kernel
theorem dL_law_92 : decode cL_law 92 = .ok (.iconst 2, 1) := by decide +kernel
theorem dL_law_93 : decode cL_law 93 = .ok (.iadd, 1) := by decide +kernel
theorem dL_law_94 : decode cL_law 94 = .ok (.iaload, 1) := by decide +kernel
theorem dL_law_95 : decode cL_law 95 = .ok (.aload_n 0, 1) := by decide +kernel
theorem dL_law_96 : decode cL_law 96 = .ok (.iload_n 3, 1) := by decide +kernel
theorem dL_law_97 : decode cL_law 97 = .ok (.iconst 3, 1) := by decide +kernel
theorem dL_law_98 : decode cL_law 98 = .ok (.iadd, 1) := by decide +kernel
theorem dL_law_99 : decode cL_law 99 = .ok (.iaload, 1) := by decide +kernel
theorem dL_law_100 : decode cL_law 100 = .ok (.invokevirtual 13, 3) := by decide +kernel
theorem dL_law_103 : decode cL_law 103 = .ok (.aload_n 2, 1) := by decide +kernel
theorem dL_law_104 : decode cL_law 104 = .ok (.aload_n 0, 1) := by decide +kernel
theorem dL_law_105 : decode cL_law 105 = .ok (.iload_n 3, 1) := by decide +kernel
theorem dL_law_106 : decode cL_law 106 = .ok (.iconst 1, 1) := by decide +kernel
theorem dL_law_107 : decode cL_law 107 = .ok (.iadd, 1) := by decide +kernel
theorem dL_law_108 : decode cL_law 108 = .ok (.iaload, 1) := by decide +kernel
theorem dL_law_109 : decode cL_law 109 = .ok (.aload_n 0, 1) := by decide +kernel
theorem dL_law_110 : decode cL_law 110 = .ok (.iload_n 3, 1) := by decide +kernel
theorem dL_law_111 : decode cL_law 111 = .ok (.iconst 2, 1) := by decide +kernel
theorem dL_law_112 : decode cL_law 112 = .ok (.iadd, 1) := by decide +kernel
theorem dL_law_113 : decode cL_law 113 = .ok (.iaload, 1) := by decide +kernel
theorem dL_law_114 : decode cL_law 114 = .ok (.aload_n 0, 1) := by decide +kernel
theorem dL_law_115 : decode cL_law 115 = .ok (.iload_n 3, 1) := by decide +kernel
theorem dL_law_116 : decode cL_law 116 = .ok (.iconst 3, 1) := by decide +kernel
theorem dL_law_117 : decode cL_law 117 = .ok (.iadd, 1) := by decide +kernel
theorem dL_law_118 : decode cL_law 118 = .ok (.iaload, 1) := by decide +kernel
theorem dL_law_119 : decode cL_law 119 = .ok (.invokevirtual 17, 3) := by decide +kernel
theorem dL_law_122 : decode cL_law 122 = .ok (.if_icmp .eq 209, 3) := by decide +kernel
theorem dL_law_125 : decode cL_law 125 = .ok (.iconst 0, 1) := by decide +kernel
theorem dL_law_126 : decode cL_law 126 = .ok (.ireturn, 1) := by decide +kernel
theorem dL_law_127 : decode cL_law 127 = .ok (.aload_n 1, 1) := by decide +kernel
theorem dL_law_128 : decode cL_law 128 = .ok (.aload_n 0, 1) := by decide +kernel
theorem dL_law_129 : decode cL_law 129 = .ok (.iload_n 3, 1) := by decide +kernel
theorem dL_law_130 : decode cL_law 130 = .ok (.iconst 1, 1) := by decide +kernel
theorem dL_law_131 : decode cL_law 131 = .ok (.iadd, 1) := by decide +kernel
theorem dL_law_132 : decode cL_law 132 = .ok (.iaload, 1) := by decide +kernel
theorem dL_law_133 : decode cL_law 133 = .ok (.aload_n 0, 1) := by decide +kernel
theorem dL_law_134 : decode cL_law 134 = .ok (.iload_n 3, 1) := by decide +kernel
theorem dL_law_135 : decode cL_law 135 = .ok (.iconst 2, 1) := by decide +kernel
theorem dL_law_136 : decode cL_law 136 = .ok (.iadd, 1) := by decide +kernel
theorem dL_law_137 : decode cL_law 137 = .ok (.iaload, 1) := by decide +kernel
theorem dL_law_138 : decode cL_law 138 = .ok (.invokevirtual 18, 3) := by decide +kernel
theorem dL_law_141 : decode cL_law 141 = .ok (.aload_n 2, 1) := by decide +kernel
theorem dL_law_142 : decode cL_law 142 = .ok (.aload_n 0, 1) := by decide +kernel
theorem dL_law_143 : decode cL_law 143 = .ok (.iload_n 3, 1) := by decide +kernel
theorem dL_law_144 : decode cL_law 144 = .ok (.iconst 1, 1) := by decide +kernel
theorem dL_law_145 : decode cL_law 145 = .ok (.iadd, 1) := by decide +kernel
theorem dL_law_146 : decode cL_law 146 = .ok (.iaload, 1) := by decide +kernel
theorem dL_law_147 : decode cL_law 147 = .ok (.aload_n 0, 1) := by decide +kernel
theorem dL_law_148 : decode cL_law 148 = .ok (.iload_n 3, 1) := by decide +kernel
theorem dL_law_149 : decode cL_law 149 = .ok (.iconst 2, 1) := by decide +kernel
theorem dL_law_150 : decode cL_law 150 = .ok (.iadd, 1) := by decide +kernel
theorem dL_law_151 : decode cL_law 151 = .ok (.iaload, 1) := by decide +kernel
theorem dL_law_152 : decode cL_law 152 = .ok (.invokevirtual 22, 3) := by decide +kernel
theorem dL_law_155 : decode cL_law 155 = .ok (.if_icmp .eq 176, 3) := by decide +kernel
theorem dL_law_158 : decode cL_law 158 = .ok (.iconst 0, 1) := by decide +kernel
theorem dL_law_159 : decode cL_law 159 = .ok (.ireturn, 1) := by decide +kernel
theorem dL_law_160 : decode cL_law 160 = .ok (.aload_n 1, 1) := by decide +kernel
theorem dL_law_161 : decode cL_law 161 = .ok (.invokevirtual 23, 3) := by decide +kernel
theorem dL_law_164 : decode cL_law 164 = .ok (.aload_n 2, 1) := by decide +kernel
theorem dL_law_165 : decode cL_law 165 = .ok (.invokevirtual 27, 3) := by decide +kernel
theorem dL_law_168 : decode cL_law 168 = .ok (.if_icmp .eq 163, 3) := by decide +kernel
theorem dL_law_171 : decode cL_law 171 = .ok (.iconst 0, 1) := by decide +kernel
theorem dL_law_172 : decode cL_law 172 = .ok (.ireturn, 1) := by decide +kernel
theorem dL_law_173 : decode cL_law 173 = .ok (.aload_n 1, 1) := by decide +kernel
theorem dL_law_174 : decode cL_law 174 = .ok (.aload_n 0, 1) := by decide +kernel
theorem dL_law_175 : decode cL_law 175 = .ok (.iload_n 3, 1) := by decide +kernel
theorem dL_law_176 : decode cL_law 176 = .ok (.iconst 1, 1) := by decide +kernel
theorem dL_law_177 : decode cL_law 177 = .ok (.iadd, 1) := by decide +kernel
theorem dL_law_178 : decode cL_law 178 = .ok (.iaload, 1) := by decide +kernel
theorem dL_law_179 : decode cL_law 179 = .ok (.invokevirtual 28, 3) := by decide +kernel
theorem dL_law_182 : decode cL_law 182 = .ok (.aload_n 2, 1) := by decide +kernel
theorem dL_law_183 : decode cL_law 183 = .ok (.aload_n 0, 1) := by decide +kernel
theorem dL_law_184 : decode cL_law 184 = .ok (.iload_n 3, 1) := by decide +kernel
theorem dL_law_185 : decode cL_law 185 = .ok (.iconst 1, 1) := by decide +kernel
theorem dL_law_186 : decode cL_law 186 = .ok (.iadd, 1) := by decide +kernel
theorem dL_law_187 : decode cL_law 187 = .ok (.iaload, 1) := by decide +kernel
theorem dL_law_188 : decode cL_law 188 = .ok (.invokevirtual 32, 3) := by decide +kernel
theorem dL_law_191 : decode cL_law 191 = .ok (.if_icmp .eq 140, 3) := by decide +kernel
theorem dL_law_194 : decode cL_law 194 = .ok (.iconst 0, 1) := by decide +kernel
theorem dL_law_195 : decode cL_law 195 = .ok (.ireturn, 1) := by decide +kernel
theorem dL_law_196 : decode cL_law 196 = .ok (.aload_n 1, 1) := by decide +kernel
theorem dL_law_197 : decode cL_law 197 = .ok (.aload_n 0, 1) := by decide +kernel
theorem dL_law_198 : decode cL_law 198 = .ok (.iload_n 3, 1) := by decide +kernel
theorem dL_law_199 : decode cL_law 199 = .ok (.iconst 1, 1) := by decide +kernel
theorem dL_law_200 : decode cL_law 200 = .ok (.iadd, 1) := by decide +kernel
theorem dL_law_201 : decode cL_law 201 = .ok (.iaload, 1) := by decide +kernel
theorem dL_law_202 : decode cL_law 202 = .ok (.invokevirtual 33, 3) := by decide +kernel
theorem dL_law_205 : decode cL_law 205 = .ok (.aload_n 2, 1) := by decide +kernel
theorem dL_law_206 : decode cL_law 206 = .ok (.aload_n 0, 1) := by decide +kernel
theorem dL_law_207 : decode cL_law 207 = .ok (.iload_n 3, 1) := by decide +kernel
theorem dL_law_208 : decode cL_law 208 = .ok (.iconst 1, 1) := by decide +kernel
theorem dL_law_209 : decode cL_law 209 = .ok (.iadd, 1) := by decide +kernel
theorem dL_law_210 : decode cL_law 210 = .ok (.iaload, 1) := by decide +kernel
theorem dL_law_211 : decode cL_law 211 = .ok (.invokevirtual 36, 3) := by decide +kernel
theorem dL_law_214 : decode cL_law 214 = .ok (.if_icmp .eq 117, 3) := by decide +kernel
theorem dL_law_217 : decode cL_law 217 = .ok (.iconst 0, 1) := by decide +kernel
theorem dL_law_218 : decode cL_law 218 = .ok (.ireturn, 1) := by decide +kernel
theorem dL_law_219 : decode cL_law 219 = .ok (.aload_n 1, 1) := by decide +kernel
theorem dL_law_220 : decode cL_law 220 = .ok (.aload_n 0, 1) := by decide +kernel
theorem dL_law_221 : decode cL_law 221 = .ok (.iload_n 3, 1) := by decide +kernel
theorem dL_law_222 : decode cL_law 222 = .ok (.iconst 1, 1) := by decide +kernel
theorem dL_law_223 : decode cL_law 223 = .ok (.iadd, 1) := by decide +kernel
theorem dL_law_224 : decode cL_law 224 = .ok (.iaload, 1) := by decide +kernel
theorem dL_law_225 : decode cL_law 225 = .ok (.aload_n 0, 1) := by decide +kernel
theorem dL_law_226 : decode cL_law 226 = .ok (.iload_n 3, 1) := by decide +kernel
theorem dL_law_227 : decode cL_law 227 = .ok (.iconst 2, 1) := by decide +kernel
theorem dL_law_228 : decode cL_law 228 = .ok (.iadd, 1) := by decide +kernel
theorem dL_law_229 : decode cL_law 229 = .ok (.iaload, 1) := by decide +kernel
theorem dL_law_230 : decode cL_law 230 = .ok (.invokevirtual 37, 3) := by decide +kernel
theorem dL_law_233 : decode cL_law 233 = .ok (.aload_n 2, 1) := by decide +kernel
theorem dL_law_234 : decode cL_law 234 = .ok (.aload_n 0, 1) := by decide +kernel
theorem dL_law_235 : decode cL_law 235 = .ok (.iload_n 3, 1) := by decide +kernel
theorem dL_law_236 : decode cL_law 236 = .ok (.iconst 1, 1) := by decide +kernel
theorem dL_law_237 : decode cL_law 237 = .ok (.iadd, 1) := by decide +kernel
theorem dL_law_238 : decode cL_law 238 = .ok (.iaload, 1) := by decide +kernel
theorem dL_law_239 : decode cL_law 239 = .ok (.aload_n 0, 1) := by decide +kernel
theorem dL_law_240 : decode cL_law 240 = .ok (.iload_n 3, 1) := by decide +kernel
theorem dL_law_241 : decode cL_law 241 = .ok (.iconst 2, 1) := by decide +kernel
theorem dL_law_242 : decode cL_law 242 = .ok (.iadd, 1) := by decide +kernel
theorem dL_law_243 : decode cL_law 243 = .ok (.iaload, 1) := by decide +kernel
theorem dL_law_244 : decode cL_law 244 = .ok (.invokevirtual 40, 3) := by decide +kernel
theorem dL_law_247 : decode cL_law 247 = .ok (.if_icmp .eq 84, 3) := by decide +kernel
theorem dL_law_250 : decode cL_law 250 = .ok (.iconst 0, 1) := by decide +kernel
theorem dL_law_251 : decode cL_law 251 = .ok (.ireturn, 1) := by decide +kernel
theorem dL_law_252 : decode cL_law 252 = .ok (.aload_n 1, 1) := by decide +kernel
theorem dL_law_253 : decode cL_law 253 = .ok (.aload_n 0, 1) := by decide +kernel
theorem dL_law_254 : decode cL_law 254 = .ok (.iload_n 3, 1) := by decide +kernel
theorem dL_law_255 : decode cL_law 255 = .ok (.iconst 1, 1) := by decide +kernel
theorem dL_law_256 : decode cL_law 256 = .ok (.iadd, 1) := by decide +kernel
theorem dL_law_257 : decode cL_law 257 = .ok (.iaload, 1) := by decide +kernel
theorem dL_law_258 : decode cL_law 258 = .ok (.invokevirtual 41, 3) := by decide +kernel
theorem dL_law_261 : decode cL_law 261 = .ok (.aload_n 2, 1) := by decide +kernel
theorem dL_law_262 : decode cL_law 262 = .ok (.aload_n 0, 1) := by decide +kernel
theorem dL_law_263 : decode cL_law 263 = .ok (.iload_n 3, 1) := by decide +kernel
theorem dL_law_264 : decode cL_law 264 = .ok (.iconst 1, 1) := by decide +kernel
theorem dL_law_265 : decode cL_law 265 = .ok (.iadd, 1) := by decide +kernel
theorem dL_law_266 : decode cL_law 266 = .ok (.iaload, 1) := by decide +kernel
theorem dL_law_267 : decode cL_law 267 = .ok (.invokevirtual 44, 3) := by decide +kernel
theorem dL_law_270 : decode cL_law 270 = .ok (.if_icmp .eq 61, 3) := by decide +kernel
theorem dL_law_273 : decode cL_law 273 = .ok (.iconst 0, 1) := by decide +kernel
theorem dL_law_274 : decode cL_law 274 = .ok (.ireturn, 1) := by decide +kernel
theorem dL_law_275 : decode cL_law 275 = .ok (.aload_n 1, 1) := by decide +kernel
theorem dL_law_276 : decode cL_law 276 = .ok (.aload_n 0, 1) := by decide +kernel
theorem dL_law_277 : decode cL_law 277 = .ok (.iload_n 3, 1) := by decide +kernel
theorem dL_law_278 : decode cL_law 278 = .ok (.iconst 1, 1) := by decide +kernel
theorem dL_law_279 : decode cL_law 279 = .ok (.iadd, 1) := by decide +kernel
theorem dL_law_280 : decode cL_law 280 = .ok (.iaload, 1) := by decide +kernel
theorem dL_law_281 : decode cL_law 281 = .ok (.invokevirtual 45, 3) := by decide +kernel
theorem dL_law_284 : decode cL_law 284 = .ok (.aload_n 2, 1) := by decide +kernel
theorem dL_law_285 : decode cL_law 285 = .ok (.aload_n 0, 1) := by decide +kernel
theorem dL_law_286 : decode cL_law 286 = .ok (.iload_n 3, 1) := by decide +kernel
theorem dL_law_287 : decode cL_law 287 = .ok (.iconst 1, 1) := by decide +kernel
theorem dL_law_288 : decode cL_law 288 = .ok (.iadd, 1) := by decide +kernel
theorem dL_law_289 : decode cL_law 289 = .ok (.iaload, 1) := by decide +kernel
theorem dL_law_290 : decode cL_law 290 = .ok (.invokevirtual 48, 3) := by decide +kernel
theorem dL_law_293 : decode cL_law 293 = .ok (.if_icmp .eq 38, 3) := by decide +kernel
theorem dL_law_296 : decode cL_law 296 = .ok (.iconst 0, 1) := by decide +kernel
theorem dL_law_297 : decode cL_law 297 = .ok (.ireturn, 1) := by decide +kernel
theorem dL_law_298 : decode cL_law 298 = .ok (.aload_n 1, 1) := by decide +kernel
theorem dL_law_299 : decode cL_law 299 = .ok (.aload_n 0, 1) := by decide +kernel
theorem dL_law_300 : decode cL_law 300 = .ok (.iload_n 3, 1) := by decide +kernel
theorem dL_law_301 : decode cL_law 301 = .ok (.iconst 1, 1) := by decide +kernel
theorem dL_law_302 : decode cL_law 302 = .ok (.iadd, 1) := by decide +kernel
theorem dL_law_303 : decode cL_law 303 = .ok (.iaload, 1) := by decide +kernel
theorem dL_law_304 : decode cL_law 304 = .ok (.aload_n 0, 1) := by decide +kernel
theorem dL_law_305 : decode cL_law 305 = .ok (.iload_n 3, 1) := by decide +kernel
theorem dL_law_306 : decode cL_law 306 = .ok (.iconst 2, 1) := by decide +kernel
theorem dL_law_307 : decode cL_law 307 = .ok (.iadd, 1) := by decide +kernel
theorem dL_law_308 : decode cL_law 308 = .ok (.iaload, 1) := by decide +kernel
theorem dL_law_309 : decode cL_law 309 = .ok (.invokevirtual 49, 3) := by decide +kernel
theorem dL_law_312 : decode cL_law 312 = .ok (.aload_n 2, 1) := by decide +kernel
theorem dL_law_313 : decode cL_law 313 = .ok (.aload_n 0, 1) := by decide +kernel
theorem dL_law_314 : decode cL_law 314 = .ok (.iload_n 3, 1) := by decide +kernel
theorem dL_law_315 : decode cL_law 315 = .ok (.iconst 1, 1) := by decide +kernel
theorem dL_law_316 : decode cL_law 316 = .ok (.iadd, 1) := by decide +kernel
theorem dL_law_317 : decode cL_law 317 = .ok (.iaload, 1) := by decide +kernel
theorem dL_law_318 : decode cL_law 318 = .ok (.aload_n 0, 1) := by decide +kernel
theorem dL_law_319 : decode cL_law 319 = .ok (.iload_n 3, 1) := by decide +kernel
theorem dL_law_320 : decode cL_law 320 = .ok (.iconst 2, 1) := by decide +kernel
theorem dL_law_321 : decode cL_law 321 = .ok (.iadd, 1) := by decide +kernel
theorem dL_law_322 : decode cL_law 322 = .ok (.iaload, 1) := by decide +kernel
theorem dL_law_323 : decode cL_law 323 = .ok (.invokevirtual 52, 3) := by decide +kernel
theorem dL_law_326 : decode cL_law 326 = .ok (.if_icmp .eq 5, 3) := by decide +kernel
theorem dL_law_329 : decode cL_law 329 = .ok (.iconst 0, 1) := by decide +kernel
theorem dL_law_330 : decode cL_law 330 = .ok (.ireturn, 1) := by decide +kernel
theorem dL_law_331 : decode cL_law 331 = .ok (.iinc 3 4, 3) := by decide +kernel
theorem dL_law_334 : decode cL_law 334 = .ok (.goto (-316), 3) := by decide +kernel
theorem dL_law_337 : decode cL_law 337 = .ok (.iconst 1, 1) := by decide +kernel
theorem dL_law_338 : decode cL_law 338 = .ok (.ireturn, 1) := by decide +kernel
end
section
/-! rows at the level of Nat, Int, Bool: my own wrappers over the kit's rows -/
set_option maxRecDepth 100000
def rp_B (b : Bool) : Int32 := if b then 1 else 0
def rp_Z (z : Int) : Int64 := Int64.ofInt z
theorem rp_Z_add (a b : Int) : rp_Z a + rp_Z b = rp_Z (a + b) := (Int64.ofInt_add a b).symm
theorem rp_Z_sub (a b : Int) : rp_Z a - rp_Z b = rp_Z (a - b) := (Int64.ofInt_sub a b).symm
theorem rp_ZN (n : Nat) : lN n = rp_Z (n : Int) := by
  unfold lN rp_Z
  first | rfl | simp
theorem rp_Z_toInt {a : Int} (h1 : -2 ^ 62 ≤ a) (h2 : a ≤ 2 ^ 62) : (rp_Z a).toInt = a := by
  unfold rp_Z
  exact Int64.toInt_ofInt_of_le (by omega) (by omega)
theorem rp_Z_lt {a b : Int} (h1 : -2 ^ 62 ≤ a) (h2 : a ≤ 2 ^ 62) (h3 : -2 ^ 62 ≤ b) (h4 : b ≤ 2 ^ 62) : rp_Z a < rp_Z b ↔ a < b := by
  rw [Int64.lt_iff_toInt_lt, rp_Z_toInt h1 h2, rp_Z_toInt h3 h4]
theorem rp_Z_le {a b : Int} (h1 : -2 ^ 62 ≤ a) (h2 : a ≤ 2 ^ 62) (h3 : -2 ^ 62 ≤ b) (h4 : b ≤ 2 ^ 62) : rp_Z a ≤ rp_Z b ↔ a ≤ b := by
  rw [Int64.le_iff_toInt_le, rp_Z_toInt h1 h2, rp_Z_toInt h3 h4]
theorem rp_or (a b : Nat) : nI a ||| nI b = nI (a ||| b) := by
  unfold nI
  apply Int32.toBitVec_inj.mp
  simp [BitVec.ofNat_or]
theorem rp_B0 : rp_B false = 0 := rfl
theorem rp_B1 : rp_B true = 1 := rfl
theorem rp_B_eq0 {b : Bool} : rp_B b = 0 ↔ b = false := by cases b <;> decide
theorem rp_upd {α : Type} (L : α → Int32) (g : Nat → α) (i : Nat) (v : α) : upd (fun j => L (g j)) i (L v) = fun j => L (va_up g i v j) := by
  funext j
  unfold upd va_up
  split <;> rfl
theorem rp_updL {α : Type} (L : α → Int64) (g : Nat → α) (i : Nat) (v : α) : vp_updL (fun j => L (g j)) i (L v) = fun j => L (va_up g i v j) := by
  funext j
  unfold vp_updL va_up
  split <;> rfl
theorem rp_us {α : Type} (g : Nat → α) (i : Nat) (v : α) : va_up g i v i = v := by simp [va_up]
theorem rp_un {α : Type} (g : Nat → α) {i j : Nat} (v : α) (h : j ≠ i) : va_up g i v j = g j := by simp [va_up, h]
section RPW
variable {p : Program} {l : Launch} {e : Env} {R : Room} {s : State} {m : MethodId} {args : Array Value} {below : List Frame} {meth : Method} {c : Code} {H : Heap} {locs : List Loc} {cells slots : Nat} {Q : State → Prop}
variable {cc : ByteArray} {pc : Nat} {ls : Array Slot} {rest : List Value} {D : va_G} {cl : List vw_C} {A : Nat → Prop} {a : Nat} {tys : List (ClassId × FieldType)} {ws : va_W} {H0 : Heap}
/-- the int on top by another name -/
theorem rp_ti {x y : Int32} (h : x = y) (k : W p l e R s m args below meth c H locs cells slots Q (F0 m pc ls (.int y :: rest))) : W p l e R s m args below meth c H locs cells slots Q (F0 m pc ls (.int x :: rest)) := by
  rw [h]; exact k
theorem rp_tl {x y : Int64} (h : x = y) (k : W p l e R s m args below meth c H locs cells slots Q (F0 m pc ls (.long y :: rest))) : W p l e R s m args below meth c H locs cells slots Q (F0 m pc ls (.long x :: rest)) := by
  rw [h]; exact k
theorem rp_iald {α : Type} (L : α → Int32) (g : Nat → α) (hexec : p.tables.exec = Jvm.exec) (hb : c.code = cc) (hK : va_K D cl tys s) (hP : va_P D cl ws H) (q0 t0 : Nat) {cA : ClassId} {n : Nat} (ha : ws[q0]? = some (a, .inl (cA, n, .inl (fun j => L (g j))))) (ht : tys[t0]? = some (cA, .int)) {i : Nat} (hi : i < n) (hn : n ≤ 1000) (hdg : decode cc pc = .ok (.iaload, 1))
    (kk : W p l e R s m args below meth c H locs cells slots Q (F0 m (pc + 1) ls (.int (L (g i)) :: rest))) : W p l e R s m args below meth c H locs cells slots Q (F0 m pc ls (.int (nI i) :: .ref a :: rest)) := by
  refine va_iald hexec hb hK hP q0 t0 ha ht (vp_in_nI hi (by omega)) hdg ?_
  rw [nI_clamp (by omega)]
  exact kk
theorem rp_zald (g : Nat → Bool) (hexec : p.tables.exec = Jvm.exec) (hb : c.code = cc) (hK : va_K D cl tys s) (hP : va_P D cl ws H) (q0 t0 : Nat) {cA : ClassId} {n : Nat} (ha : ws[q0]? = some (a, .inl (cA, n, .inl (fun j => rp_B (g j))))) (ht : tys[t0]? = some (cA, .boolean)) {i : Nat} (hi : i < n) (hn : n ≤ 1000) (hdg : decode cc pc = .ok (.baload, 1))
    (kk : W p l e R s m args below meth c H locs cells slots Q (F0 m (pc + 1) ls (.int (rp_B (g i)) :: rest))) : W p l e R s m args below meth c H locs cells slots Q (F0 m pc ls (.int (nI i) :: .ref a :: rest)) := by
  refine va_zald hexec hb hK hP q0 t0 ha ht (vp_in_nI hi (by omega)) hdg ?_
  rw [nI_clamp (by omega)]
  exact kk
theorem rp_lald {α : Type} (L : α → Int64) (g : Nat → α) (hexec : p.tables.exec = Jvm.exec) (hb : c.code = cc) (hK : va_K D cl tys s) (hP : va_P D cl ws H) (q0 t0 : Nat) {cA : ClassId} {n : Nat} (ha : ws[q0]? = some (a, .inl (cA, n, .inr (.inl (fun j => L (g j)))))) (ht : tys[t0]? = some (cA, .long)) {i : Nat} (hi : i < n) (hn : n ≤ 1000) (hdg : decode cc pc = .ok (.laload, 1))
    (kk : W p l e R s m args below meth c H locs cells slots Q (F0 m (pc + 1) ls (.long (L (g i)) :: rest))) : W p l e R s m args below meth c H locs cells slots Q (F0 m pc ls (.int (nI i) :: .ref a :: rest)) := by
  refine va_lald hexec hb hK hP q0 t0 ha ht (vp_in_nI hi (by omega)) hdg ?_
  rw [nI_clamp (by omega)]
  exact kk
theorem rp_iast {α : Type} (L : α → Int32) (g : Nat → α) (v : α) (hexec : p.tables.exec = Jvm.exec) (hb : c.code = cc) (hK : va_K D cl tys s) (hP : va_P D cl ws H) (hD : va_D A ws) (hS : va_S A H0 H locs) (q0 t0 : Nat) {cA : ClassId} {n : Nat} (ha : ws[q0]? = some (a, .inl (cA, n, .inl (fun j => L (g j))))) (ht : tys[t0]? = some (cA, .int)) {i : Nat} (hi : i < n) (hn : n ≤ 1000) (hdg : decode cc pc = .ok (.iastore, 1))
    (kk : ∀ (H1 : Heap) (locs1 : List Loc), va_P D cl (ws.set q0 (a, .inl (cA, n, .inl (fun j => L (va_up g i v j))))) H1 → va_D A (ws.set q0 (a, .inl (cA, n, .inl (fun j => L (va_up g i v j))))) → va_S A H0 H1 locs1 → W p l e R s m args below meth c H1 locs1 cells slots Q (F0 m (pc + 1) ls rest)) : W p l e R s m args below meth c H locs cells slots Q (F0 m pc ls (.int (L v) :: .int (nI i) :: .ref a :: rest)) := by
  refine va_iast hexec hb hK hP hD hS q0 t0 ha ht (vp_in_nI hi (by omega)) hdg ?_
  rw [nI_clamp (by omega), rp_upd]
  exact kk
theorem rp_zast (g : Nat → Bool) (v : Bool) (hexec : p.tables.exec = Jvm.exec) (hb : c.code = cc) (hK : va_K D cl tys s) (hP : va_P D cl ws H) (hD : va_D A ws) (hS : va_S A H0 H locs) (q0 t0 : Nat) {cA : ClassId} {n : Nat} (ha : ws[q0]? = some (a, .inl (cA, n, .inl (fun j => rp_B (g j))))) (ht : tys[t0]? = some (cA, .boolean)) {i : Nat} (hi : i < n) (hn : n ≤ 1000) (hdg : decode cc pc = .ok (.bastore, 1))
    (kk : ∀ (H1 : Heap) (locs1 : List Loc), va_P D cl (ws.set q0 (a, .inl (cA, n, .inl (fun j => rp_B (va_up g i v j))))) H1 → va_D A (ws.set q0 (a, .inl (cA, n, .inl (fun j => rp_B (va_up g i v j))))) → va_S A H0 H1 locs1 → W p l e R s m args below meth c H1 locs1 cells slots Q (F0 m (pc + 1) ls rest)) : W p l e R s m args below meth c H locs cells slots Q (F0 m pc ls (.int (rp_B v) :: .int (nI i) :: .ref a :: rest)) := by
  refine va_zast hexec hb hK hP hD hS q0 t0 ha ht (vp_in_nI hi (by omega)) hdg ?_
  have e : vp_nar .boolean (rp_B v) = rp_B v := by cases v <;> decide
  rw [nI_clamp (by omega), e, rp_upd]
  exact kk
theorem rp_last {α : Type} (L : α → Int64) (g : Nat → α) (v : α) (hexec : p.tables.exec = Jvm.exec) (hb : c.code = cc) (hK : va_K D cl tys s) (hP : va_P D cl ws H) (hD : va_D A ws) (hS : va_S A H0 H locs) (q0 t0 : Nat) {cA : ClassId} {n : Nat} (ha : ws[q0]? = some (a, .inl (cA, n, .inr (.inl (fun j => L (g j)))))) (ht : tys[t0]? = some (cA, .long)) {i : Nat} (hi : i < n) (hn : n ≤ 1000) (hdg : decode cc pc = .ok (.lastore, 1))
    (kk : ∀ (H1 : Heap) (locs1 : List Loc), va_P D cl (ws.set q0 (a, .inl (cA, n, .inr (.inl (fun j => L (va_up g i v j)))))) H1 → va_D A (ws.set q0 (a, .inl (cA, n, .inr (.inl (fun j => L (va_up g i v j)))))) → va_S A H0 H1 locs1 → W p l e R s m args below meth c H1 locs1 cells slots Q (F0 m (pc + 1) ls rest)) : W p l e R s m args below meth c H locs cells slots Q (F0 m pc ls (.long (L v) :: .int (nI i) :: .ref a :: rest)) := by
  refine va_last hexec hb hK hP hD hS q0 t0 ha ht (vp_in_nI hi (by omega)) hdg ?_
  rw [nI_clamp (by omega), rp_updL]
  exact kk
-- arithmetic
theorem rp_iadd (hexec : p.tables.exec = Jvm.exec) (hb : c.code = cc) {x y : Nat} (hdg : decode cc pc = .ok (.iadd, 1)) (k : W p l e R s m args below meth c H locs cells slots Q (F0 m (pc + 1) ls (.int (nI (x + y)) :: rest))) : W p l e R s m args below meth c H locs cells slots Q (F0 m pc ls (.int (nI y) :: .int (nI x) :: rest)) := by
  refine lv_iadd hexec hb hdg ?_
  rw [nI_add]; exact k
theorem rp_isub (hexec : p.tables.exec = Jvm.exec) (hb : c.code = cc) {x y : Nat} (h : y ≤ x) (hdg : decode cc pc = .ok (.isub, 1)) (k : W p l e R s m args below meth c H locs cells slots Q (F0 m (pc + 1) ls (.int (nI (x - y)) :: rest))) : W p l e R s m args below meth c H locs cells slots Q (F0 m pc ls (.int (nI y) :: .int (nI x) :: rest)) := by
  refine lv_isub hexec hb hdg ?_
  rw [pk_sub h]; exact k
theorem rp_imul (hexec : p.tables.exec = Jvm.exec) (hb : c.code = cc) {x y : Nat} (hdg : decode cc pc = .ok (.imul, 1)) (k : W p l e R s m args below meth c H locs cells slots Q (F0 m (pc + 1) ls (.int (nI (x * y)) :: rest))) : W p l e R s m args below meth c H locs cells slots Q (F0 m pc ls (.int (nI y) :: .int (nI x) :: rest)) := by
  refine lv_imul hexec hb hdg ?_
  rw [pk_mul]; exact k
theorem rp_idiv (hexec : p.tables.exec = Jvm.exec) (hb : c.code = cc) {x y : Nat} (h1 : x < 2 ^ 31) (h2 : 0 < y) (h3 : y < 2 ^ 31) (hdg : decode cc pc = .ok (.idiv, 1)) (k : W p l e R s m args below meth c H locs cells slots Q (F0 m (pc + 1) ls (.int (nI (x / y)) :: rest))) : W p l e R s m args below meth c H locs cells slots Q (F0 m pc ls (.int (nI y) :: .int (nI x) :: rest)) := by
  refine lv_idiv hexec hb hdg (nI_ne0 h2 h3) ?_
  rw [pk_div h1 h2 h3]; exact k
theorem rp_irem (hexec : p.tables.exec = Jvm.exec) (hb : c.code = cc) {x y : Nat} (h1 : x < 2 ^ 31) (h2 : 0 < y) (h3 : y < 2 ^ 31) (hdg : decode cc pc = .ok (.irem, 1)) (k : W p l e R s m args below meth c H locs cells slots Q (F0 m (pc + 1) ls (.int (nI (x % y)) :: rest))) : W p l e R s m args below meth c H locs cells slots Q (F0 m pc ls (.int (nI y) :: .int (nI x) :: rest)) := by
  refine lv_irem hexec hb hdg (nI_ne0 h2 h3) ?_
  rw [pk_rem h1 h2 h3]; exact k
theorem rp_ior (hexec : p.tables.exec = Jvm.exec) (hb : c.code = cc) {x y : Nat} (hdg : decode cc pc = .ok (.ior, 1)) (k : W p l e R s m args below meth c H locs cells slots Q (F0 m (pc + 1) ls (.int (nI (x ||| y)) :: rest))) : W p l e R s m args below meth c H locs cells slots Q (F0 m pc ls (.int (nI y) :: .int (nI x) :: rest)) := by
  refine lv_ior hexec hb hdg ?_
  rw [rp_or]; exact k
theorem rp_smod : ∀ n, n < 32 → ((nI n &&& 31).toBitVec.smod 32).toNat = n := by decide +kernel
theorem rp_umod : ∀ n, n < 32 → (((nI n).toUInt32 &&& Int32.toUInt32 31).toBitVec % 32).toNat = n := by decide +kernel
theorem rp_ishl (hexec : p.tables.exec = Jvm.exec) (hb : c.code = cc) {x y : Nat} (h1 : y < 8) (h2 : x < 1000) (hdg : decode cc pc = .ok (.ishl, 1)) (k : W p l e R s m args below meth c H locs cells slots Q (F0 m (pc + 1) ls (.int (nI (x * 2 ^ y)) :: rest))) : W p l e R s m args below meth c H locs cells slots Q (F0 m pc ls (.int (nI y) :: .int (nI x) :: rest)) := by
  refine lv_ishl hexec hb hdg ?_
  have h3 : 2 ^ y ≤ 2 ^ 8 := Nat.pow_le_pow_right (by decide) (by omega)
  have h4 : x * 2 ^ y ≤ 1000 * 2 ^ 8 := Nat.mul_le_mul (by omega) h3
  rw [pk_shlN _ y (rp_smod y (by omega)) (by omega)]; exact k
theorem rp_ishr (hexec : p.tables.exec = Jvm.exec) (hb : c.code = cc) {x y : Nat} (h1 : y < 8) (h2 : x < 1000) (hdg : decode cc pc = .ok (.ishr, 1)) (k : W p l e R s m args below meth c H locs cells slots Q (F0 m (pc + 1) ls (.int (nI (x / 2 ^ y)) :: rest))) : W p l e R s m args below meth c H locs cells slots Q (F0 m pc ls (.int (nI y) :: .int (nI x) :: rest)) := by
  refine lv_ishr hexec hb hdg ?_
  rw [pk_shrN (by omega) _ y (rp_smod y (by omega))]; exact k
theorem rp_iushr (hexec : p.tables.exec = Jvm.exec) (hb : c.code = cc) {x y : Nat} (h1 : y < 8) (h2 : x < 1000) (hdg : decode cc pc = .ok (.iushr, 1)) (k : W p l e R s m args below meth c H locs cells slots Q (F0 m (pc + 1) ls (.int (nI (x / 2 ^ y)) :: rest))) : W p l e R s m args below meth c H locs cells slots Q (F0 m pc ls (.int (nI y) :: .int (nI x) :: rest)) :=
  lv_iushr hexec hb hdg (pk_ushrN (by omega) _ y (rp_umod y (by omega))) k
theorem rp_iand1 (hexec : p.tables.exec = Jvm.exec) (hb : c.code = cc) {x : Nat} (h2 : x < 1000) (hdg : decode cc pc = .ok (.iand, 1)) (k : W p l e R s m args below meth c H locs cells slots Q (F0 m (pc + 1) ls (.int (nI (x % 2)) :: rest))) : W p l e R s m args below meth c H locs cells slots Q (F0 m pc ls (.int (nI 1) :: .int (nI x) :: rest)) := by
  refine lv_iand hexec hb hdg ?_
  rw [pk_andN (by omega) 1 (m := nI 1) (by decide +kernel)]; exact k
theorem rp_ladd (hexec : p.tables.exec = Jvm.exec) (hb : c.code = cc) {x y : Int} (hdg : decode cc pc = .ok (.ladd, 1)) (k : W p l e R s m args below meth c H locs cells slots Q (F0 m (pc + 1) ls (.long (rp_Z (x + y)) :: rest))) : W p l e R s m args below meth c H locs cells slots Q (F0 m pc ls (.long (rp_Z y) :: .long (rp_Z x) :: rest)) := by
  refine lv_ladd hexec hb hdg ?_
  rw [rp_Z_add]; exact k
theorem rp_lsub (hexec : p.tables.exec = Jvm.exec) (hb : c.code = cc) {x y : Int} (hdg : decode cc pc = .ok (.lsub, 1)) (k : W p l e R s m args below meth c H locs cells slots Q (F0 m (pc + 1) ls (.long (rp_Z (x - y)) :: rest))) : W p l e R s m args below meth c H locs cells slots Q (F0 m pc ls (.long (rp_Z y) :: .long (rp_Z x) :: rest)) := by
  refine lv_lsub hexec hb hdg ?_
  rw [rp_Z_sub]; exact k
theorem rp_laddN (hexec : p.tables.exec = Jvm.exec) (hb : c.code = cc) {x y : Nat} (hdg : decode cc pc = .ok (.ladd, 1)) (k : W p l e R s m args below meth c H locs cells slots Q (F0 m (pc + 1) ls (.long (lN (x + y)) :: rest))) : W p l e R s m args below meth c H locs cells slots Q (F0 m pc ls (.long (lN y) :: .long (lN x) :: rest)) := by
  refine lv_ladd hexec hb hdg ?_
  rw [lN_add]; exact k
theorem rp_lmulN (hexec : p.tables.exec = Jvm.exec) (hb : c.code = cc) {x y : Nat} (hdg : decode cc pc = .ok (.lmul, 1)) (k : W p l e R s m args below meth c H locs cells slots Q (F0 m (pc + 1) ls (.long (lN (x * y)) :: rest))) : W p l e R s m args below meth c H locs cells slots Q (F0 m pc ls (.long (lN y) :: .long (lN x) :: rest)) := by
  refine lv_lmul hexec hb hdg ?_
  rw [lN_mul]; exact k
theorem rp_ldivN (hexec : p.tables.exec = Jvm.exec) (hb : c.code = cc) {x : Nat} (h1 : x < 2 ^ 62) (hdg : decode cc pc = .ok (.ldiv, 1)) (k : W p l e R s m args below meth c H locs cells slots Q (F0 m (pc + 1) ls (.long (lN (x / 3125)) :: rest))) : W p l e R s m args below meth c H locs cells slots Q (F0 m pc ls (.long (lN 3125) :: .long (lN x) :: rest)) := by
  refine lv_ldiv hexec hb hdg (by decide +kernel) ?_
  rw [pk_lDiv (by omega) (by decide) (by decide)]; exact k
theorem rp_lremN (hexec : p.tables.exec = Jvm.exec) (hb : c.code = cc) {x : Nat} (h1 : x < 2 ^ 62) (hdg : decode cc pc = .ok (.lrem, 1)) (k : W p l e R s m args below meth c H locs cells slots Q (F0 m (pc + 1) ls (.long (lN (x % 3125)) :: rest))) : W p l e R s m args below meth c H locs cells slots Q (F0 m pc ls (.long (lN 3125) :: .long (lN x) :: rest)) := by
  refine lv_lrem hexec hb hdg (by decide +kernel) ?_
  rw [pk_lRem (by omega) (by decide) (by decide)]; exact k
theorem rp_i2lN (hexec : p.tables.exec = Jvm.exec) (hb : c.code = cc) {x : Nat} (h1 : x < 2 ^ 31) (hdg : decode cc pc = .ok (.i2l, 1)) (k : W p l e R s m args below meth c H locs cells slots Q (F0 m (pc + 1) ls (.long (lN x) :: rest))) : W p l e R s m args below meth c H locs cells slots Q (F0 m pc ls (.int (nI x) :: rest)) :=
  lv_i2l hexec hb hdg (nI_l h1) k
theorem rp_l2iN (hexec : p.tables.exec = Jvm.exec) (hb : c.code = cc) {x : Nat} (hdg : decode cc pc = .ok (.l2i, 1)) (k : W p l e R s m args below meth c H locs cells slots Q (F0 m (pc + 1) ls (.int (nI x) :: rest))) : W p l e R s m args below meth c H locs cells slots Q (F0 m pc ls (.long (lN x) :: rest)) :=
  lv_l2i hexec hb hdg (lN_i x) k
-- branches
theorem rp_icge (hexec : p.tables.exec = Jvm.exec) (hb : c.code = cc) {x y : Nat} (hx : x < 2 ^ 31) (hy : y < 2 ^ 31) {off : Int} {tgt : Nat} (hdg : decode cc pc = .ok (.if_icmp .ge off, 3)) (ht : (pc : Int) + off = (tgt : Int))
    (kt : y ≤ x → W p l e R s m args below meth c H locs cells slots Q (F0 m tgt ls rest)) (kf : x < y → W p l e R s m args below meth c H locs cells slots Q (F0 m (pc + 3) ls rest)) : W p l e R s m args below meth c H locs cells slots Q (F0 m pc ls (.int (nI y) :: .int (nI x) :: rest)) :=
  lv_icmp_ge hexec hb hdg ht (fun h => kt ((nI_leI hy hx).mp h)) (fun h => kf (Nat.not_le.mp fun q => h ((nI_leI hy hx).mpr q)))
theorem rp_icle (hexec : p.tables.exec = Jvm.exec) (hb : c.code = cc) {x y : Nat} (hx : x < 2 ^ 31) (hy : y < 2 ^ 31) {off : Int} {tgt : Nat} (hdg : decode cc pc = .ok (.if_icmp .le off, 3)) (ht : (pc : Int) + off = (tgt : Int))
    (kt : x ≤ y → W p l e R s m args below meth c H locs cells slots Q (F0 m tgt ls rest)) (kf : y < x → W p l e R s m args below meth c H locs cells slots Q (F0 m (pc + 3) ls rest)) : W p l e R s m args below meth c H locs cells slots Q (F0 m pc ls (.int (nI y) :: .int (nI x) :: rest)) :=
  lv_icmp_le hexec hb hdg ht (fun h => kt ((nI_leI hx hy).mp h)) (fun h => kf (Nat.not_le.mp fun q => h ((nI_leI hx hy).mpr q)))
theorem rp_icgt (hexec : p.tables.exec = Jvm.exec) (hb : c.code = cc) {x y : Nat} (hx : x < 2 ^ 31) (hy : y < 2 ^ 31) {off : Int} {tgt : Nat} (hdg : decode cc pc = .ok (.if_icmp .gt off, 3)) (ht : (pc : Int) + off = (tgt : Int))
    (kt : y < x → W p l e R s m args below meth c H locs cells slots Q (F0 m tgt ls rest)) (kf : x ≤ y → W p l e R s m args below meth c H locs cells slots Q (F0 m (pc + 3) ls rest)) : W p l e R s m args below meth c H locs cells slots Q (F0 m pc ls (.int (nI y) :: .int (nI x) :: rest)) :=
  lv_icmp_gt hexec hb hdg ht (fun h => kt ((nI_ltI hy hx).mp h)) (fun h => kf (Nat.not_lt.mp fun q => h ((nI_ltI hy hx).mpr q)))
theorem rp_iclt (hexec : p.tables.exec = Jvm.exec) (hb : c.code = cc) {x y : Nat} (hx : x < 2 ^ 31) (hy : y < 2 ^ 31) {off : Int} {tgt : Nat} (hdg : decode cc pc = .ok (.if_icmp .lt off, 3)) (ht : (pc : Int) + off = (tgt : Int))
    (kt : x < y → W p l e R s m args below meth c H locs cells slots Q (F0 m tgt ls rest)) (kf : y ≤ x → W p l e R s m args below meth c H locs cells slots Q (F0 m (pc + 3) ls rest)) : W p l e R s m args below meth c H locs cells slots Q (F0 m pc ls (.int (nI y) :: .int (nI x) :: rest)) :=
  lv_icmp_lt hexec hb hdg ht (fun h => kt ((nI_ltI hx hy).mp h)) (fun h => kf (Nat.not_lt.mp fun q => h ((nI_ltI hx hy).mpr q)))
theorem rp_iceq (hexec : p.tables.exec = Jvm.exec) (hb : c.code = cc) {x y : Nat} (hx : x < 2 ^ 31) (hy : y < 2 ^ 31) {off : Int} {tgt : Nat} (hdg : decode cc pc = .ok (.if_icmp .eq off, 3)) (ht : (pc : Int) + off = (tgt : Int))
    (kt : x = y → W p l e R s m args below meth c H locs cells slots Q (F0 m tgt ls rest)) (kf : x ≠ y → W p l e R s m args below meth c H locs cells slots Q (F0 m (pc + 3) ls rest)) : W p l e R s m args below meth c H locs cells slots Q (F0 m pc ls (.int (nI y) :: .int (nI x) :: rest)) :=
  lv_icmp_eq hexec hb hdg ht (fun h => kt ((nI_eq hx hy).mp h)) (fun h => kf (fun q => h ((nI_eq hx hy).mpr q)))
theorem rp_icne (hexec : p.tables.exec = Jvm.exec) (hb : c.code = cc) {x y : Nat} (hx : x < 2 ^ 31) (hy : y < 2 ^ 31) {off : Int} {tgt : Nat} (hdg : decode cc pc = .ok (.if_icmp .ne off, 3)) (ht : (pc : Int) + off = (tgt : Int))
    (kt : x ≠ y → W p l e R s m args below meth c H locs cells slots Q (F0 m tgt ls rest)) (kf : x = y → W p l e R s m args below meth c H locs cells slots Q (F0 m (pc + 3) ls rest)) : W p l e R s m args below meth c H locs cells slots Q (F0 m pc ls (.int (nI y) :: .int (nI x) :: rest)) :=
  lv_icmp_ne hexec hb hdg ht (fun h => kt (fun q => h ((nI_eq hx hy).mpr q))) (fun h => kf ((nI_eq hx hy).mp h))
theorem rp_beq (hexec : p.tables.exec = Jvm.exec) (hb : c.code = cc) {x : Bool} {off : Int} {tgt : Nat} (hdg : decode cc pc = .ok (.ifCond .eq off, 3)) (ht : (pc : Int) + off = (tgt : Int))
    (kt : x = false → W p l e R s m args below meth c H locs cells slots Q (F0 m tgt ls rest)) (kf : x = true → W p l e R s m args below meth c H locs cells slots Q (F0 m (pc + 3) ls rest)) : W p l e R s m args below meth c H locs cells slots Q (F0 m pc ls (.int (rp_B x) :: rest)) :=
  lv_if_eq hexec hb hdg ht (fun h => kt (rp_B_eq0.mp h)) (fun h => kf (by cases x <;> first | rfl | exact absurd rfl h))
theorem rp_bne (hexec : p.tables.exec = Jvm.exec) (hb : c.code = cc) {x : Bool} {off : Int} {tgt : Nat} (hdg : decode cc pc = .ok (.ifCond .ne off, 3)) (ht : (pc : Int) + off = (tgt : Int))
    (kt : x = true → W p l e R s m args below meth c H locs cells slots Q (F0 m tgt ls rest)) (kf : x = false → W p l e R s m args below meth c H locs cells slots Q (F0 m (pc + 3) ls rest)) : W p l e R s m args below meth c H locs cells slots Q (F0 m pc ls (.int (rp_B x) :: rest)) :=
  lv_if_ne hexec hb hdg ht (fun h => kt (by cases x <;> first | rfl | exact absurd rfl h)) (fun h => kf (rp_B_eq0.mp h))
theorem rp_zeq (hexec : p.tables.exec = Jvm.exec) (hb : c.code = cc) {x : Nat} (hx : x < 2 ^ 31) {off : Int} {tgt : Nat} (hdg : decode cc pc = .ok (.ifCond .eq off, 3)) (ht : (pc : Int) + off = (tgt : Int))
    (kt : x = 0 → W p l e R s m args below meth c H locs cells slots Q (F0 m tgt ls rest)) (kf : x ≠ 0 → W p l e R s m args below meth c H locs cells slots Q (F0 m (pc + 3) ls rest)) : W p l e R s m args below meth c H locs cells slots Q (F0 m pc ls (.int (nI x) :: rest)) :=
  lv_if_eq hexec hb hdg ht (fun h => kt ((nI_eq hx (by decide)).mp (h.trans nI_0.symm))) (fun h => kf (fun q => h (by rw [q, nI_0])))
theorem rp_zne (hexec : p.tables.exec = Jvm.exec) (hb : c.code = cc) {x : Nat} (hx : x < 2 ^ 31) {off : Int} {tgt : Nat} (hdg : decode cc pc = .ok (.ifCond .ne off, 3)) (ht : (pc : Int) + off = (tgt : Int))
    (kt : x ≠ 0 → W p l e R s m args below meth c H locs cells slots Q (F0 m tgt ls rest)) (kf : x = 0 → W p l e R s m args below meth c H locs cells slots Q (F0 m (pc + 3) ls rest)) : W p l e R s m args below meth c H locs cells slots Q (F0 m pc ls (.int (nI x) :: rest)) :=
  lv_if_ne hexec hb hdg ht (fun h => kt (fun q => h (by rw [q, nI_0]))) (fun h => kf ((nI_eq hx (by decide)).mp (h.trans nI_0.symm)))
theorem rp_zle (hexec : p.tables.exec = Jvm.exec) (hb : c.code = cc) {x : Nat} (hx : x < 2 ^ 31) {off : Int} {tgt : Nat} (hdg : decode cc pc = .ok (.ifCond .le off, 3)) (ht : (pc : Int) + off = (tgt : Int))
    (kt : x = 0 → W p l e R s m args below meth c H locs cells slots Q (F0 m tgt ls rest)) (kf : 0 < x → W p l e R s m args below meth c H locs cells slots Q (F0 m (pc + 3) ls rest)) : W p l e R s m args below meth c H locs cells slots Q (F0 m pc ls (.int (nI x) :: rest)) :=
  lv_if_le hexec hb hdg ht (fun h => kt (by rcases Nat.eq_zero_or_pos x with q | q; exact q; exact absurd h (nI_nle q hx))) (fun h => kf (by rcases Nat.eq_zero_or_pos x with q | q; exact absurd (by rw [q, nI_0]; decide) h; exact q))
/-- lcmp and a branch behind it -/
theorem rp_lcge (hexec : p.tables.exec = Jvm.exec) (hb : c.code = cc) {x y : Int64} (hd1 : decode cc pc = .ok (.lcmp, 1)) {off : Int} {tgt : Nat} (hd2 : decode cc (pc + 1) = .ok (.ifCond .ge off, 3)) (ht : ((pc + 1 : Nat) : Int) + off = (tgt : Int))
    (kt : y ≤ x → W p l e R s m args below meth c H locs cells slots Q (F0 m tgt ls rest)) (kf : ¬ y ≤ x → W p l e R s m args below meth c H locs cells slots Q (F0 m (pc + 1 + 3) ls rest)) : W p l e R s m args below meth c H locs cells slots Q (F0 m pc ls (.long y :: .long x :: rest)) :=
  W.lcmp hexec hb hd1 (lv_if_ge hexec hb hd2 ht (fun h => kt ((lg_cmp_ge x y).mp h)) (fun h => kf (fun q => h ((lg_cmp_ge x y).mpr q))))
theorem rp_lclt (hexec : p.tables.exec = Jvm.exec) (hb : c.code = cc) {x y : Int64} (hd1 : decode cc pc = .ok (.lcmp, 1)) {off : Int} {tgt : Nat} (hd2 : decode cc (pc + 1) = .ok (.ifCond .lt off, 3)) (ht : ((pc + 1 : Nat) : Int) + off = (tgt : Int))
    (kt : x < y → W p l e R s m args below meth c H locs cells slots Q (F0 m tgt ls rest)) (kf : ¬ x < y → W p l e R s m args below meth c H locs cells slots Q (F0 m (pc + 1 + 3) ls rest)) : W p l e R s m args below meth c H locs cells slots Q (F0 m pc ls (.long y :: .long x :: rest)) :=
  W.lcmp hexec hb hd1 (lv_if_lt hexec hb hd2 ht (fun h => kt ((lg_cmp_lt x y).mp h)) (fun h => kf (fun q => h ((lg_cmp_lt x y).mpr q))))
theorem rp_lcle (hexec : p.tables.exec = Jvm.exec) (hb : c.code = cc) {x y : Int64} (hd1 : decode cc pc = .ok (.lcmp, 1)) {off : Int} {tgt : Nat} (hd2 : decode cc (pc + 1) = .ok (.ifCond .le off, 3)) (ht : ((pc + 1 : Nat) : Int) + off = (tgt : Int))
    (kt : x ≤ y → W p l e R s m args below meth c H locs cells slots Q (F0 m tgt ls rest)) (kf : ¬ x ≤ y → W p l e R s m args below meth c H locs cells slots Q (F0 m (pc + 1 + 3) ls rest)) : W p l e R s m args below meth c H locs cells slots Q (F0 m pc ls (.long y :: .long x :: rest)) :=
  W.lcmp hexec hb hd1 (lv_if_le hexec hb hd2 ht (fun h => kt ((lg_cmp_le x y).mp h)) (fun h => kf (fun q => h ((lg_cmp_le x y).mpr q))))
theorem rp_lcne (hexec : p.tables.exec = Jvm.exec) (hb : c.code = cc) {x y : Int64} (hd1 : decode cc pc = .ok (.lcmp, 1)) {off : Int} {tgt : Nat} (hd2 : decode cc (pc + 1) = .ok (.ifCond .ne off, 3)) (ht : ((pc + 1 : Nat) : Int) + off = (tgt : Int))
    (kt : ¬ x = y → W p l e R s m args below meth c H locs cells slots Q (F0 m tgt ls rest)) (kf : x = y → W p l e R s m args below meth c H locs cells slots Q (F0 m (pc + 1 + 3) ls rest)) : W p l e R s m args below meth c H locs cells slots Q (F0 m pc ls (.long y :: .long x :: rest)) :=
  W.lcmp hexec hb hd1 (lv_if_ne hexec hb hd2 ht (fun h => kt (fun q => h ((lg_cmp_eq x y).mpr q))) (fun h => kf ((lg_cmp_eq x y).mp h)))
end RPW
end
section
/-! words of mine: digits of a plan's number, the worlds of the two classes, rooms -/
set_option maxRecDepth 100000
def rp_dg (n w : Nat) : Nat := n / 5 ^ (4 - w) % 5
/-- the pinned worker: 5 for none (-1 in the cell) -/
def rp_P (k : Nat) : Int32 := if k = 5 then -1 else nI k
/-- a price of the model: -1 if barred -/
def rp_M (pr : Nat → Nat) (ba : Nat → Bool) (j : Nat) : Int32 := if ba j then -1 else nI (pr j)
abbrev rp_cl : List vw_C := [(RX0, TX0, 22), (RX1, TX1, 4)]
abbrev rp_xw (h0 : Nat) (ad : Nat → Nat) (dA : Nat → ClassId) (pr : Nat → Nat) (ba : Nat → Bool) (st en : Bool) (fo : Nat) (pl : Nat → Nat) (pa : Nat) (wa : Nat → Bool) (fx wo ch : Nat → Nat) (fw wt fp pw pt : Nat) (u v : Nat → Int) (ho be : Nat → Nat) (sl : Nat → Int) (se : Nat → Bool) : va_W :=
  [(h0, .inr (0, [.ref (ad 0), .ref (ad 1), .int (rp_B st), .int (rp_B en), .int (nI fo), .ref (ad 5), .int (nI pa), .ref (ad 7), .ref (ad 8), .ref (ad 9), .ref (ad 10), .int (nI fw), .int (nI wt), .int (nI fp), .int (rp_P pw), .int (nI pt), .ref (ad 16), .ref (ad 17), .ref (ad 18), .ref (ad 19), .ref (ad 20), .ref (ad 21)])),
   (ad 0, .inl (dA 0, 25, .inl (fun j => nI (pr j)))), (ad 1, .inl (dA 1, 25, .inl (fun j => rp_B (ba j)))), (ad 5, .inl (dA 5, 120, .inr (.inl (fun j => lN (pl j))))), (ad 7, .inl (dA 7, 640, .inl (fun j => rp_B (wa j)))), (ad 8, .inl (dA 8, 640, .inl (fun j => nI (fx j)))), (ad 9, .inl (dA 9, 640, .inl (fun j => nI (wo j)))), (ad 10, .inl (dA 10, 640, .inr (.inl (fun j => lN (ch j))))),
   (ad 16, .inl (dA 16, 6, .inr (.inl (fun j => rp_Z (u j))))), (ad 17, .inl (dA 17, 6, .inr (.inl (fun j => rp_Z (v j))))), (ad 18, .inl (dA 18, 6, .inl (fun j => nI (ho j)))), (ad 19, .inl (dA 19, 6, .inl (fun j => nI (be j)))), (ad 20, .inl (dA 20, 6, .inr (.inl (fun j => rp_Z (sl j))))), (ad 21, .inl (dA 21, 6, .inl (fun j => rp_B (se j))))]
abbrev rp_xk (dA : Nat → ClassId) : List (ClassId × FieldType) := [(dA 0, .int), (dA 1, .boolean), (dA 5, .long), (dA 7, .boolean), (dA 8, .int), (dA 9, .int), (dA 10, .long), (dA 16, .long), (dA 17, .long), (dA 18, .int), (dA 19, .int), (dA 20, .long), (dA 21, .boolean)]
abbrev rp_mw (h1 : Nat) (ae : Nat → Nat) (dE : Nat → ClassId) (pr : Nat → Nat) (ba : Nat → Bool) (cn : Nat) (nu co : Nat → Nat) : va_W :=
  [(h1, .inr (1, [.ref (ae 0), .int (nI cn), .ref (ae 2), .ref (ae 3)])), (ae 0, .inl (dE 0, 25, .inl (fun j => rp_M pr ba j))), (ae 2, .inl (dE 2, 120, .inl (fun j => nI (nu j)))), (ae 3, .inl (dE 3, 120, .inl (fun j => nI (co j))))]
abbrev rp_mk (dE : Nat → ClassId) : List (ClassId × FieldType) := [(dE 0, .int), (dE 2, .int), (dE 3, .int)]
/-- a contract's start and end over a world -/
abbrev rp_Pc (dC : Nat → ClassId) (dI : Nat → Nat → Nat) (av : List Value) (sz : Nat) (w : va_W) (ks : List (ClassId × FieldType)) : Array Value → State → Prop := va_Pc av (fun U => U.heap.size = sz ∧ va_P (dC, dI) rp_cl w U.heap ∧ va_K (dC, dI) rp_cl ks U ∧ va_D (fun _ => True) w)
abbrev rp_Bc (dC : Nat → ClassId) (dI : Nat → Nat → Nat) (A : Nat → Prop) (w : va_W) (ks : List (ClassId × FieldType)) (t : State) : Prop := va_P (dC, dI) rp_cl w t.heap ∧ va_K (dC, dI) rp_cl ks t ∧ va_D A w
abbrev rp_Sc : Type := (Nat → Int) × (Nat → Int) × (Nat → Nat) × (Nat → Nat) × (Nat → Int) × (Nat → Bool)
abbrev rp_rm (f n : Nat) : Room := { frames := f, cells := 0, slots := 0, locals := n }
/-- a pair is open in a part -/
def rp_op (ba : Nat → Bool) (fw wt fp pw pt w t : Nat) : Bool := !ba (5 * w + t) && (if w < fw then decide (rp_dg fp w = t) else if w = fw then decide (wt / 2 ^ t % 2 = 0) else true) && (if w = pw then decide (t = pt) else true)
def rp_C (pr : Nat → Nat) (ba : Nat → Bool) (fw wt fp pw pt w t : Nat) : Nat := if rp_op ba fw wt fp pw pt w t then 3125 * pr (5 * w + t) + t * 5 ^ (4 - w) else 1000000000
theorem rp_P_eq : ∀ w, w < 5 → ∀ pw, pw < 6 → (nI w = rp_P pw ↔ w = pw) := by decide +kernel
theorem rp_P_lt : ∀ w, w < 5 → nI w = rp_P w := by decide +kernel
theorem rp_w_pos : ∀ w, w < 5 → 0 < 5 ^ (4 - w) ∧ 5 ^ (4 - w) ≤ 625 := by decide +kernel
theorem rp_wl {k acc x : Nat} (hk : k < 4) (h : acc * 5 ^ (4 - k) = x) : acc * 5 * 5 ^ (4 - (k + 1)) = x := by
  have e : 4 - k = (4 - (k + 1)) + 1 := by omega
  rw [e, Nat.pow_succ] at h
  rw [← h, Nat.mul_assoc, Nat.mul_comm 5]
theorem rp_wr {k acc x : Nat} (hk : 4 ≤ k) (h : acc * 5 ^ (4 - k) = x) : acc = x := by
  rw [show 4 - k = 0 by omega] at h
  omega
theorem rp_dg_lt (n w : Nat) : rp_dg n w < 5 := Nat.mod_lt _ (by decide)
/-- worker or task in range -/
def rp_ir (x : Int32) : Bool := decide (0 ≤ x.toInt ∧ x.toInt ≤ 4)
theorem rp_ir_lt {x : Int32} (h : x < 0) : rp_ir x = false := by
  have h1 := Int32.lt_iff_toInt_lt.mp h
  rw [Int32.toInt_zero] at h1
  exact decide_eq_false (by omega)
theorem rp_4 : (nI 4).toInt = 4 := by decide
theorem rp_ir_gt {x : Int32} (h : nI 4 < x) : rp_ir x = false := by
  have h1 := Int32.lt_iff_toInt_lt.mp h
  rw [rp_4] at h1
  exact decide_eq_false (by omega)
theorem rp_ir_in {x : Int32} (h1 : ¬ x < 0) (h2 : ¬ nI 4 < x) : rp_ir x = true := by
  rw [Int32.lt_iff_toInt_lt, Int32.toInt_zero] at h1
  rw [Int32.lt_iff_toInt_lt, rp_4] at h2
  exact decide_eq_true (by omega)
theorem rp_ir_of {x : Int32} (h : rp_ir x = true) : ∃ j, j < 5 ∧ x = nI j := by
  have h1 := of_decide_eq_true h
  obtain ⟨j, hj, e⟩ := nI_of (x := x) (by rw [Int32.lt_iff_toInt_lt, Int32.toInt_zero]; omega)
  refine ⟨j, ?_, e⟩
  rw [e, nI_toInt hj] at h1
  omega
theorem rp_ir_nI : ∀ j, j < 5 → rp_ir (nI j) = true := by decide +kernel
end
section
/-! leaves -/
set_option maxRecDepth 100000
set_option maxHeartbeats 4000000 in
/-- weight(w): 5 to the 4 - w -/
theorem metX0_weight (l : Launch) (w : Nat) (hw : w < 5) : Met l yX0_weight (ws_ yX0_weight cX0_weight 3 (some .int)) (rp_rm 0 0) (va_Pc [.int (nI w)] (fun _ => True)) (vp_Si (fun r => r = nI (5 ^ (4 - w)))) 0 0 (fun _ => False) := by
  refine Met.ofW (cc := cX0_weight) (maxL := 3) (ret := (some .int)) (by decide) rfl ?_
  intro p e s m args below meth c s₁ B hml hv
  obtain ⟨rfl, -⟩ := hv
  have hx := B.exec
  have hb := B.bytes
  have hr := B.returns
  have hts := atoms_spec (ws := (ws_ yX0_weight cX0_weight 3 (some .int))) B.pre
  have hts : ∀ w ∈ lw_all, w.before _ s = true := fun w h => hts w (List.mem_cons_of_mem _ h)
  have hown : s.vm.findClass RX0 = some m.cls := findClass_of_methodNamed B.named
  have hlocks := B.notSynchronized
  have hl := lv_entry ([.int (nI w)]) (n := 3) (Nat.le_of_ble_eq_true rfl)
  rw [lg_entry_eq]
  generalize (lg_sl ([.int (nI w)]) ++ List.replicate (3 - (lg_sl ([.int (nI w)])).length) Slot.unset).toArray = ls at hl ⊢
  have hl : lv_has ls 3 [(0, .int (nI w))] := hl
  have L4 : ∀ (n : Nat) (k acc : Nat), (4 - k < n) → (k ≤ 4) → (acc * 5 ^ (4 - k) = 5 ^ (4 - w)) → ∀ (ls : Array Slot), lv_has ls 3 [(2, .int (nI k)), (1, .int (nI acc)), (0, .int (nI w))] → W p l e (headSpec (ws_ yX0_weight cX0_weight 3 (some .int)) (rp_rm 0 0)).room s m ([.int (nI w)] : List Value).toArray below meth c s.heap [] 0 0 (MQ below (vp_Si (fun r => r = nI (5 ^ (4 - w)))) ([.int (nI w)] : List Value).toArray s 0 0 (fun _ => False)) (F0 m 4 ls []) := by
    intro n
    induction n with
    | zero =>
      intro k acc hn hk ha
      exact absurd hn (by omega)
    | succ n ih =>
      intro k acc hn hk ha ls hl
      refine lv_iload_n hx hb dX0_weight_4 rfl (lv_at hl 0 rfl) ?_
      refine lv_iconst (v := nI 4) hx hb dX0_weight_5 (by decide) ?_
      refine rp_icge (tgt := 19) hx hb (by omega) (by omega) dX0_weight_6 (by decide) (fun c_6 => ?_) (fun c_6 => ?_)
      · refine lv_iload_n hx hb dX0_weight_19 rfl (lv_at hl 1 rfl) ?_
        exact W.iret (v := nI acc) hx hb hr (fun t ht hW => ⟨_, rfl, by rw [rp_wr c_6 ha], ht⟩) (fun q h => by cases h) dX0_weight_20
      · refine lv_iload_n hx hb dX0_weight_9 rfl (lv_at hl 1 rfl) ?_
        refine lv_iconst (v := nI 5) hx hb dX0_weight_10 (by decide) ?_
        refine rp_imul hx hb dX0_weight_11 ?_
        refine lv_istore_n (lv' := [(1, .int (nI (acc * 5))), (2, .int (nI k)), (0, .int (nI w))]) hx hb dX0_weight_12 rfl hl (by decide) rfl (fun ls hl => ?_)
        refine lv_iinc (v := nI (k + 1)) (lv' := [(2, .int (nI (k + 1))), (1, .int (nI (acc * 5))), (0, .int (nI w))]) hx hb dX0_weight_13 hl (k := 1) rfl (by exact nI_1 _) (by decide) rfl (fun ls hl => ?_)
        refine lv_goto (tgt := 4) hx hb dX0_weight_16 (by decide) ?_
        exact ih (k + 1) (acc * 5) (by omega) (by omega) (rp_wl c_6 ha) ls (lv_sub hl [0, 1, 2] rfl)
  refine lv_iconst (v := nI 1) hx hb dX0_weight_0 (by decide) ?_
  refine lv_istore_n (lv' := [(1, .int (nI 1)), (0, .int (nI w))]) hx hb dX0_weight_1 rfl hl (by decide) rfl (fun ls hl => ?_)
  refine lv_iload_n hx hb dX0_weight_2 rfl (lv_at hl 1 rfl) ?_
  refine lv_istore_n (lv' := [(2, .int (nI w)), (1, .int (nI 1)), (0, .int (nI w))]) hx hb dX0_weight_3 rfl hl (by decide) rfl (fun ls hl => ?_)
  exact L4 5 w 1 (by omega) (by omega) (by omega) ls (lv_sub hl [0, 1, 2] rfl)
set_option maxHeartbeats 4000000 in
/-- digit(n, w) -/
theorem metX0_digit (l : Launch) (n w : Nat) (hn : n < 2 ^ 31) (hw : w < 5) : Met l yX0_digit (ws_ yX0_digit cX0_digit 2 (some .int)) (rp_rm 1 22) (va_Pc [.int (nI n), .int (nI w)] (fun _ => True)) (vp_Si (fun r => r = nI (rp_dg n w))) 0 0 (fun _ => False) := by
  refine Met.ofW (cc := cX0_digit) (maxL := 2) (ret := (some .int)) (by decide) rfl ?_
  intro p e s m args below meth c s₁ B hml hv
  obtain ⟨rfl, -⟩ := hv
  have hx := B.exec
  have hb := B.bytes
  have hr := B.returns
  have hts := atoms_spec (ws := (ws_ yX0_digit cX0_digit 2 (some .int))) B.pre
  have hts : ∀ w ∈ lw_all, w.before _ s = true := fun w h => hts w (List.mem_cons_of_mem _ h)
  have hown : s.vm.findClass RX0 = some m.cls := findClass_of_methodNamed B.named
  have hlocks := B.notSynchronized
  have hl := lv_entry ([.int (nI n), .int (nI w)]) (n := 2) (Nat.le_of_ble_eq_true rfl)
  rw [lg_entry_eq]
  generalize (lg_sl ([.int (nI n), .int (nI w)]) ++ List.replicate (2 - (lg_sl ([.int (nI n), .int (nI w)])).length) Slot.unset).toArray = ls at hl ⊢
  have hl : lv_has ls 2 [(0, .int (nI n)), (1, .int (nI w))] := hl
  have hp := rp_w_pos w hw
  refine lv_iload_n hx hb dX0_digit_0 rfl (lv_at hl 0 rfl) ?_
  refine lv_iload_n hx hb dX0_digit_1 rfl (lv_at hl 1 rfl) ?_
  refine vp_callSi (W.runS (As := [.int (nI w)]) (rest := [.int (nI n)]) ⟨hx, hb, hml, hown, hts⟩ (metX0_weight l w hw) (va_cwS 1 hts (lw_S q139 q140 q12 q141) rfl rfl rfl (by decide +kernel) ⟨Nat.le_of_ble_eq_true rfl, Nat.le_of_ble_eq_true rfl⟩) ⟨fun a U g mk q => q, fun U hU hW => ⟨rfl, trivial⟩⟩ rfl rfl hl.1 rfl (lv_room (Nat.le_of_ble_eq_true rfl)) dX0_digit_2 ⟨Nat.le_of_ble_eq_true rfl, Nat.le_of_ble_eq_true rfl⟩) (fun r hr9 => ?_)
  subst hr9
  refine rp_idiv hx hb hn hp.1 (by omega) dX0_digit_5 ?_
  refine lv_iconst (v := nI 5) hx hb dX0_digit_6 (by decide) ?_
  refine rp_irem hx hb (Nat.lt_of_le_of_lt (Nat.div_le_self _ _) hn) (by decide) (by decide) dX0_digit_7 ?_
  exact W.iret (v := nI ((n / (5 ^ (4 - w))) % 5)) hx hb hr (fun t ht hW => ⟨_, rfl, rfl, ht⟩) (fun q h => by cases h) dX0_digit_8
set_option maxHeartbeats 4000000 in
/-- inRange(x) -/
theorem metX0_inRange (l : Launch) (x : Int32) : Met l yX0_inRange (ws_ yX0_inRange cX0_inRange 1 (some .boolean)) (rp_rm 0 0) (va_Pc [.int x] (fun _ => True)) (vp_Si (fun r => r = rp_B (rp_ir x))) 0 0 (fun _ => False) := by
  refine Met.ofW (cc := cX0_inRange) (maxL := 1) (ret := (some .boolean)) (by decide) rfl ?_
  intro p e s m args below meth c s₁ B hml hv
  obtain ⟨rfl, -⟩ := hv
  have hx := B.exec
  have hb := B.bytes
  have hr := B.returns
  have hts := atoms_spec (ws := (ws_ yX0_inRange cX0_inRange 1 (some .boolean))) B.pre
  have hts : ∀ w ∈ lw_all, w.before _ s = true := fun w h => hts w (List.mem_cons_of_mem _ h)
  have hown : s.vm.findClass RX0 = some m.cls := findClass_of_methodNamed B.named
  have hlocks := B.notSynchronized
  have hl := lv_entry ([.int x]) (n := 1) (Nat.le_of_ble_eq_true rfl)
  rw [lg_entry_eq]
  generalize (lg_sl ([.int x]) ++ List.replicate (1 - (lg_sl ([.int x])).length) Slot.unset).toArray = ls at hl ⊢
  have hl : lv_has ls 1 [(0, .int x)] := hl
  refine lv_iload_n hx hb dX0_inRange_0 rfl (lv_at hl 0 rfl) ?_
  refine lv_if_lt (tgt := 13) hx hb dX0_inRange_1 (by decide) (fun c_1 => ?_) (fun c_1 => ?_)
  · have hq := rp_ir_lt c_1
    refine lv_iconst (v := rp_B false) hx hb dX0_inRange_13 (by decide) ?_
    exact W.zret (v := rp_B false) hx hb hr (by first | rfl | (cases false <;> rfl)) (fun t ht hW => ⟨_, rfl, by rw [hq]; try rfl, ht⟩) (fun q h => by cases h) dX0_inRange_14
  · refine lv_iload_n hx hb dX0_inRange_4 rfl (lv_at hl 0 rfl) ?_
    refine lv_iconst (v := nI 4) hx hb dX0_inRange_5 (by decide) ?_
    refine lv_icmp_gt (tgt := 13) hx hb dX0_inRange_6 (by decide) (fun c_6 => ?_) (fun c_6 => ?_)
    · have hq := rp_ir_gt c_6
      refine lv_iconst (v := rp_B false) hx hb dX0_inRange_13 (by decide) ?_
      exact W.zret (v := rp_B false) hx hb hr (by first | rfl | (cases false <;> rfl)) (fun t ht hW => ⟨_, rfl, by rw [hq]; try rfl, ht⟩) (fun q h => by cases h) dX0_inRange_14
    · have hq := rp_ir_in c_1 c_6
      refine lv_iconst (v := rp_B true) hx hb dX0_inRange_9 (by decide) ?_
      refine lv_goto (tgt := 14) hx hb dX0_inRange_10 (by decide) ?_
      exact W.zret (v := rp_B true) hx hb hr (by first | rfl | (cases true <;> rfl)) (fun t ht hW => ⟨_, rfl, by rw [hq]; try rfl, ht⟩) (fun q h => by cases h) dX0_inRange_14
set_option maxHeartbeats 4000000 in
/-- bad(x) -/
theorem metX1_bad (l : Launch) (x : Int32) : Met l yX1_bad (ws_ yX1_bad cX1_bad 1 (some .boolean)) (rp_rm 0 0) (va_Pc [.int x] (fun _ => True)) (vp_Si (fun r => r = rp_B (!rp_ir x))) 0 0 (fun _ => False) := by
  refine Met.ofW (cc := cX1_bad) (maxL := 1) (ret := (some .boolean)) (by decide) rfl ?_
  intro p e s m args below meth c s₁ B hml hv
  obtain ⟨rfl, -⟩ := hv
  have hx := B.exec
  have hb := B.bytes
  have hr := B.returns
  have hts := atoms_spec (ws := (ws_ yX1_bad cX1_bad 1 (some .boolean))) B.pre
  have hts : ∀ w ∈ lw_all, w.before _ s = true := fun w h => hts w (List.mem_cons_of_mem _ h)
  have hown : s.vm.findClass RX1 = some m.cls := findClass_of_methodNamed B.named
  have hlocks := B.notSynchronized
  have hl := lv_entry ([.int x]) (n := 1) (Nat.le_of_ble_eq_true rfl)
  rw [lg_entry_eq]
  generalize (lg_sl ([.int x]) ++ List.replicate (1 - (lg_sl ([.int x])).length) Slot.unset).toArray = ls at hl ⊢
  have hl : lv_has ls 1 [(0, .int x)] := hl
  refine lv_iload_n hx hb dX1_bad_0 rfl (lv_at hl 0 rfl) ?_
  refine lv_if_lt (tgt := 9) hx hb dX1_bad_1 (by decide) (fun c_1 => ?_) (fun c_1 => ?_)
  · have hq := rp_ir_lt c_1
    refine lv_iconst (v := rp_B true) hx hb dX1_bad_9 (by decide) ?_
    refine lv_goto (tgt := 14) hx hb dX1_bad_10 (by decide) ?_
    exact W.zret (v := rp_B true) hx hb hr (by first | rfl | (cases true <;> rfl)) (fun t ht hW => ⟨_, rfl, by rw [hq]; try rfl, ht⟩) (fun q h => by cases h) dX1_bad_14
  · refine lv_iload_n hx hb dX1_bad_4 rfl (lv_at hl 0 rfl) ?_
    refine lv_iconst (v := nI 4) hx hb dX1_bad_5 (by decide) ?_
    refine lv_icmp_le (tgt := 13) hx hb dX1_bad_6 (by decide) (fun c_6 => ?_) (fun c_6 => ?_)
    · have hq := rp_ir_in c_1 (fun h => absurd c_6 (by rw [Int32.le_iff_toInt_le]; rw [Int32.lt_iff_toInt_lt] at h; omega))
      refine lv_iconst (v := rp_B false) hx hb dX1_bad_13 (by decide) ?_
      exact W.zret (v := rp_B false) hx hb hr (by first | rfl | (cases false <;> rfl)) (fun t ht hW => ⟨_, rfl, by rw [hq]; try rfl, ht⟩) (fun q h => by cases h) dX1_bad_14
    · have hq := rp_ir_gt (x := x) (by rw [Int32.le_iff_toInt_le] at c_6; rw [Int32.lt_iff_toInt_lt]; omega)
      refine lv_iconst (v := rp_B true) hx hb dX1_bad_9 (by decide) ?_
      refine lv_goto (tgt := 14) hx hb dX1_bad_10 (by decide) ?_
      exact W.zret (v := rp_B true) hx hb hr (by first | rfl | (cases true <;> rfl)) (fun t ht hW => ⟨_, rfl, by rw [hq]; try rfl, ht⟩) (fun q h => by cases h) dX1_bad_14
set_option maxHeartbeats 4000000 in
/-- valueOf(w, t) -/
theorem metX0_valueOf (l : Launch) (dC : Nat → ClassId) (dI : Nat → Nat → Nat) (h0 : Nat) (ad : Nat → Nat) (dA : Nat → ClassId) (pr : Nat → Nat) (ba : Nat → Bool) (st : Bool) (en : Bool) (fo : Nat) (pl : Nat → Nat) (pa : Nat) (wa : Nat → Bool) (fx : Nat → Nat) (wo : Nat → Nat) (ch : Nat → Nat) (fw : Nat) (wt : Nat) (fp : Nat) (pw : Nat) (pt : Nat) (u : Nat → Int) (v : Nat → Int) (ho : Nat → Nat) (be : Nat → Nat) (sl : Nat → Int) (se : Nat → Bool) (w t : Nat) (hw : w < 5) (ht : t < 5) (hpr : ∀ j, j < 25 → pr j < 100) (hfw : fw < 6) (hwt : wt < 32) (hfp : fp < 3125) (hpw : pw < 6) (hpt : pt < 5) : Met l yX0_valueOf (ws_ yX0_valueOf cX0_valueOf 4 (some .long)) (rp_rm 2 43) (va_Pc [.ref h0, .int (nI w), .int (nI t)] (fun U => va_P (dC, dI) rp_cl (rp_xw h0 ad dA pr ba st en fo pl pa wa fx wo ch fw wt fp pw pt u v ho be sl se) U.heap ∧ va_K (dC, dI) rp_cl (rp_xk dA) U)) (vp_Sl (fun r => r = lN (rp_C pr ba fw wt fp pw pt w t))) 0 0 (fun _ => False) := by
  refine Met.ofW (cc := cX0_valueOf) (maxL := 4) (ret := (some .long)) (by decide) rfl ?_
  intro p e s m args below meth c s₁ B hml hv
  obtain ⟨rfl, hP, hK⟩ := hv
  have hx := B.exec
  have hb := B.bytes
  have hr := B.returns
  have hts := atoms_spec (ws := (ws_ yX0_valueOf cX0_valueOf 4 (some .long))) B.pre
  have hts : ∀ w ∈ lw_all, w.before _ s = true := fun w h => hts w (List.mem_cons_of_mem _ h)
  have hown : s.vm.findClass RX0 = some m.cls := findClass_of_methodNamed B.named
  have hlocks := B.notSynchronized
  have hl := lv_entry ([.ref h0, .int (nI w), .int (nI t)]) (n := 4) (Nat.le_of_ble_eq_true rfl)
  rw [lg_entry_eq]
  generalize (lg_sl ([.ref h0, .int (nI w), .int (nI t)]) ++ List.replicate (4 - (lg_sl ([.ref h0, .int (nI w), .int (nI t)])).length) Slot.unset).toArray = ls at hl ⊢
  have hl : lv_has ls 4 [(0, .ref h0), (1, .int (nI w)), (2, .int (nI t))] := hl
  have hp := rp_w_pos w hw
  have hdf := rp_dg_lt fp w
  have hwd : wt / 2 ^ t ≤ wt := Nat.div_le_self _ _
  have hpj := hpr (5 * w + t) (by omega)
  have htw : t * 5 ^ (4 - w) ≤ 4 * 625 := Nat.mul_le_mul (by omega) hp.2
  have L107 : ∀ (o3 : Bool), (o3 = rp_op ba fw wt fp pw pt w t) → ∀ (ls : Array Slot), lv_has ls 4 [(3, .int (rp_B o3)), (0, .ref h0), (1, .int (nI w)), (2, .int (nI t))] → W p l e (headSpec (ws_ yX0_valueOf cX0_valueOf 4 (some .long)) (rp_rm 2 43)).room s m ([.ref h0, .int (nI w), .int (nI t)] : List Value).toArray below meth c s.heap [] 0 0 (MQ below (vp_Sl (fun r => r = lN (rp_C pr ba fw wt fp pw pt w t))) ([.ref h0, .int (nI w), .int (nI t)] : List Value).toArray s 0 0 (fun _ => False)) (F0 m 107 ls []) := by
    intro o3 ho3 ls hl
    refine lv_iload_n hx hb dX0_valueOf_107 rfl (lv_at hl 0 rfl) ?_
    refine rp_beq (tgt := 137) hx hb dX0_valueOf_108 (by decide) (fun c_108 => ?_) (fun c_108 => ?_)
    · refine lv_ldc2 (v := 1000000000) hx hb hown (hts _ q143) dX0_valueOf_137 ?_
      refine rp_tl (y := lN 1000000000) (by decide +kernel) ?_
      exact W.lret (v := lN 1000000000) hx hb hr (fun t ht hW => ⟨_, rfl, by unfold rp_C; rw [← ho3, c_108]; rfl, ht⟩) (fun q h => by cases h) dX0_valueOf_140
    · refine lv_ldc2 (v := 3125) hx hb hown (hts _ q142) dX0_valueOf_111 ?_
      refine rp_tl (y := lN 3125) (by decide +kernel) ?_
      refine lv_aload_n hx hb dX0_valueOf_114 rfl (lv_at hl 1 rfl) ?_
      refine va_get (D := (dC, dI)) (ci := 0) (v := .ref (ad 0)) (C := RX0) (T := TX0) (N := 22) hx hb hts in_X0 hown hK hP 0 rfl rfl 0 (by decide) (hts _ q22) (fun _ h9 => h9) rfl dX0_valueOf_115 ?_
      refine lv_iconst (v := nI 5) hx hb dX0_valueOf_118 (by decide) ?_
      refine lv_iload_n hx hb dX0_valueOf_119 rfl (lv_at hl 2 rfl) ?_
      refine rp_imul hx hb dX0_valueOf_120 ?_
      refine lv_iload_n hx hb dX0_valueOf_121 rfl (lv_at hl 3 rfl) ?_
      refine rp_iadd hx hb dX0_valueOf_122 ?_
      refine rp_iald nI pr hx hb hK hP 1 0 rfl rfl (i := (5 * w) + t) (by omega) (by decide) dX0_valueOf_123 ?_
      refine rp_i2lN hx hb (by omega) dX0_valueOf_124 ?_
      refine rp_lmulN hx hb dX0_valueOf_125 ?_
      refine lv_iload_n hx hb dX0_valueOf_126 rfl (lv_at hl 3 rfl) ?_
      refine lv_iload_n hx hb dX0_valueOf_127 rfl (lv_at hl 2 rfl) ?_
      refine vp_callSi (W.runS (As := [.int (nI w)]) (rest := [.int (nI t), .long (lN (3125 * (pr ((5 * w) + t))))]) ⟨hx, hb, hml, hown, hts⟩ (metX0_weight l w hw) (va_cwS 1 hts (lw_S q139 q140 q12 q141) rfl rfl rfl (by decide +kernel) ⟨Nat.le_of_ble_eq_true rfl, Nat.le_of_ble_eq_true rfl⟩) ⟨fun a U g mk q => q, fun U hU hW => ⟨rfl, trivial⟩⟩ rfl rfl hl.1 rfl (lv_room (Nat.le_of_ble_eq_true rfl)) dX0_valueOf_128 ⟨Nat.le_of_ble_eq_true rfl, Nat.le_of_ble_eq_true rfl⟩) (fun r hr9 => ?_)
      subst hr9
      refine rp_imul hx hb dX0_valueOf_131 ?_
      refine rp_i2lN hx hb (by omega) dX0_valueOf_132 ?_
      refine rp_laddN hx hb dX0_valueOf_133 ?_
      refine lv_goto (tgt := 140) hx hb dX0_valueOf_134 (by decide) ?_
      exact W.lret (v := lN ((3125 * (pr ((5 * w) + t))) + (t * (5 ^ (4 - w))))) hx hb hr (fun t ht hW => ⟨_, rfl, by unfold rp_C; rw [← ho3, c_108]; rfl, ht⟩) (fun q h => by cases h) dX0_valueOf_140
  have L81 : ∀ (o2 : Bool), (o2 = (!ba (5 * w + t) && (if w < fw then decide (rp_dg fp w = t) else if w = fw then decide (wt / 2 ^ t % 2 = 0) else true))) → ∀ (ls : Array Slot), lv_has ls 4 [(3, .int (rp_B o2)), (0, .ref h0), (1, .int (nI w)), (2, .int (nI t))] → W p l e (headSpec (ws_ yX0_valueOf cX0_valueOf 4 (some .long)) (rp_rm 2 43)).room s m ([.ref h0, .int (nI w), .int (nI t)] : List Value).toArray below meth c s.heap [] 0 0 (MQ below (vp_Sl (fun r => r = lN (rp_C pr ba fw wt fp pw pt w t))) ([.ref h0, .int (nI w), .int (nI t)] : List Value).toArray s 0 0 (fun _ => False)) (F0 m 81 ls []) := by
    intro o2 ho2 ls hl
    refine lv_iload_n hx hb dX0_valueOf_81 rfl (lv_at hl 2 rfl) ?_
    refine lv_aload_n hx hb dX0_valueOf_82 rfl (lv_at hl 1 rfl) ?_
    refine va_get (D := (dC, dI)) (ci := 0) (v := .int (rp_P pw)) (C := RX0) (T := TX0) (N := 22) hx hb hts in_X0 hown hK hP 0 rfl rfl 14 (by decide) (hts _ q36) (fun _ h9 => h9) rfl dX0_valueOf_83 ?_
    refine lv_icmp_ne (tgt := 107) hx hb dX0_valueOf_86 (by decide) (fun c_86 => ?_) (fun c_86 => ?_)
    · exact L107 o2 (by unfold rp_op; rw [← ho2]; simp_all [rp_P_eq w hw pw hpw]) ls (lv_sub hl [0, 1, 2, 3] rfl)
    · refine lv_iload_n hx hb dX0_valueOf_89 rfl (lv_at hl 0 rfl) ?_
      refine rp_beq (tgt := 105) hx hb dX0_valueOf_90 (by decide) (fun c_90 => ?_) (fun c_90 => ?_)
      · refine lv_iconst (v := rp_B false) hx hb dX0_valueOf_105 (by decide) ?_
        refine lv_istore_n (lv' := [(3, .int (rp_B false)), (0, .ref h0), (1, .int (nI w)), (2, .int (nI t))]) hx hb dX0_valueOf_106 rfl hl (by decide) rfl (fun ls hl => ?_)
        exact L107 false (by unfold rp_op; rw [← ho2]; simp_all [rp_P_eq w hw pw hpw]) ls (lv_sub hl [0, 1, 2, 3] rfl)
      · refine lv_iload_n hx hb dX0_valueOf_93 rfl (lv_at hl 3 rfl) ?_
        refine lv_aload_n hx hb dX0_valueOf_94 rfl (lv_at hl 1 rfl) ?_
        refine va_get (D := (dC, dI)) (ci := 0) (v := .int (nI pt)) (C := RX0) (T := TX0) (N := 22) hx hb hts in_X0 hown hK hP 0 rfl rfl 15 (by decide) (hts _ q37) (fun _ h9 => h9) rfl dX0_valueOf_95 ?_
        refine rp_icne (tgt := 105) hx hb (by omega) (by omega) dX0_valueOf_98 (by decide) (fun c_98 => ?_) (fun c_98 => ?_)
        · refine lv_iconst (v := rp_B false) hx hb dX0_valueOf_105 (by decide) ?_
          refine lv_istore_n (lv' := [(3, .int (rp_B false)), (0, .ref h0), (1, .int (nI w)), (2, .int (nI t))]) hx hb dX0_valueOf_106 rfl hl (by decide) rfl (fun ls hl => ?_)
          exact L107 false (by unfold rp_op; rw [← ho2]; simp_all [rp_P_eq w hw pw hpw]) ls (lv_sub hl [0, 1, 2, 3] rfl)
        · refine lv_iconst (v := rp_B true) hx hb dX0_valueOf_101 (by decide) ?_
          refine lv_goto (tgt := 106) hx hb dX0_valueOf_102 (by decide) ?_
          refine lv_istore_n (lv' := [(3, .int (rp_B true)), (0, .ref h0), (1, .int (nI w)), (2, .int (nI t))]) hx hb dX0_valueOf_106 rfl hl (by decide) rfl (fun ls hl => ?_)
          exact L107 true (by unfold rp_op; rw [← ho2]; simp_all [rp_P_eq w hw pw hpw]) ls (lv_sub hl [0, 1, 2, 3] rfl)
  have L18 : ∀ (o1 : Bool), (o1 = !ba (5 * w + t)) → ∀ (ls : Array Slot), lv_has ls 4 [(0, .ref h0), (1, .int (nI w)), (2, .int (nI t))] → W p l e (headSpec (ws_ yX0_valueOf cX0_valueOf 4 (some .long)) (rp_rm 2 43)).room s m ([.ref h0, .int (nI w), .int (nI t)] : List Value).toArray below meth c s.heap [] 0 0 (MQ below (vp_Sl (fun r => r = lN (rp_C pr ba fw wt fp pw pt w t))) ([.ref h0, .int (nI w), .int (nI t)] : List Value).toArray s 0 0 (fun _ => False)) (F0 m 18 ls [.int (rp_B o1)]) := by
    intro o1 ho1 ls hl
    refine lv_istore_n (lv' := [(3, .int (rp_B o1)), (0, .ref h0), (1, .int (nI w)), (2, .int (nI t))]) hx hb dX0_valueOf_18 rfl hl (by decide) rfl (fun ls hl => ?_)
    refine lv_iload_n hx hb dX0_valueOf_19 rfl (lv_at hl 2 rfl) ?_
    refine lv_aload_n hx hb dX0_valueOf_20 rfl (lv_at hl 1 rfl) ?_
    refine va_get (D := (dC, dI)) (ci := 0) (v := .int (nI fw)) (C := RX0) (T := TX0) (N := 22) hx hb hts in_X0 hown hK hP 0 rfl rfl 11 (by decide) (hts _ q33) (fun _ h9 => h9) rfl dX0_valueOf_21 ?_
    refine rp_icge (tgt := 52) hx hb (by omega) (by omega) dX0_valueOf_24 (by decide) (fun c_24 => ?_) (fun c_24 => ?_)
    · refine lv_iload_n hx hb dX0_valueOf_52 rfl (lv_at hl 2 rfl) ?_
      refine lv_aload_n hx hb dX0_valueOf_53 rfl (lv_at hl 1 rfl) ?_
      refine va_get (D := (dC, dI)) (ci := 0) (v := .int (nI fw)) (C := RX0) (T := TX0) (N := 22) hx hb hts in_X0 hown hK hP 0 rfl rfl 11 (by decide) (hts _ q33) (fun _ h9 => h9) rfl dX0_valueOf_54 ?_
      refine rp_icne (tgt := 81) hx hb (by omega) (by omega) dX0_valueOf_57 (by decide) (fun c_57 => ?_) (fun c_57 => ?_)
      · exact L81 o1 (by rw [← ho1]; simp_all; try omega) ls (lv_sub hl [0, 1, 2, 3] rfl)
      · refine lv_iload_n hx hb dX0_valueOf_60 rfl (lv_at hl 0 rfl) ?_
        refine rp_beq (tgt := 79) hx hb dX0_valueOf_61 (by decide) (fun c_61 => ?_) (fun c_61 => ?_)
        · refine lv_iconst (v := rp_B false) hx hb dX0_valueOf_79 (by decide) ?_
          refine lv_istore_n (lv' := [(3, .int (rp_B false)), (0, .ref h0), (1, .int (nI w)), (2, .int (nI t))]) hx hb dX0_valueOf_80 rfl hl (by decide) rfl (fun ls hl => ?_)
          exact L81 false (by rw [← ho1]; simp_all; try omega) ls (lv_sub hl [0, 1, 2, 3] rfl)
        · refine lv_aload_n hx hb dX0_valueOf_64 rfl (lv_at hl 1 rfl) ?_
          refine va_get (D := (dC, dI)) (ci := 0) (v := .int (nI wt)) (C := RX0) (T := TX0) (N := 22) hx hb hts in_X0 hown hK hP 0 rfl rfl 12 (by decide) (hts _ q34) (fun _ h9 => h9) rfl dX0_valueOf_65 ?_
          refine lv_iload_n hx hb dX0_valueOf_68 rfl (lv_at hl 3 rfl) ?_
          refine rp_iushr hx hb (by omega) (by omega) dX0_valueOf_69 ?_
          refine lv_iconst (v := nI 1) hx hb dX0_valueOf_70 (by decide) ?_
          refine rp_iand1 hx hb (by omega) dX0_valueOf_71 ?_
          refine rp_zne (tgt := 79) hx hb (by omega) dX0_valueOf_72 (by decide) (fun c_72 => ?_) (fun c_72 => ?_)
          · refine lv_iconst (v := rp_B false) hx hb dX0_valueOf_79 (by decide) ?_
            refine lv_istore_n (lv' := [(3, .int (rp_B false)), (0, .ref h0), (1, .int (nI w)), (2, .int (nI t))]) hx hb dX0_valueOf_80 rfl hl (by decide) rfl (fun ls hl => ?_)
            exact L81 false (by rw [← ho1]; simp_all; try omega) ls (lv_sub hl [0, 1, 2, 3] rfl)
          · refine lv_iconst (v := rp_B true) hx hb dX0_valueOf_75 (by decide) ?_
            refine lv_goto (tgt := 80) hx hb dX0_valueOf_76 (by decide) ?_
            refine lv_istore_n (lv' := [(3, .int (rp_B true)), (0, .ref h0), (1, .int (nI w)), (2, .int (nI t))]) hx hb dX0_valueOf_80 rfl hl (by decide) rfl (fun ls hl => ?_)
            exact L81 true (by rw [← ho1]; simp_all; try omega) ls (lv_sub hl [0, 1, 2, 3] rfl)
    · refine lv_iload_n hx hb dX0_valueOf_27 rfl (lv_at hl 0 rfl) ?_
      refine rp_beq (tgt := 47) hx hb dX0_valueOf_28 (by decide) (fun c_28 => ?_) (fun c_28 => ?_)
      · refine lv_iconst (v := rp_B false) hx hb dX0_valueOf_47 (by decide) ?_
        refine lv_istore_n (lv' := [(3, .int (rp_B false)), (0, .ref h0), (1, .int (nI w)), (2, .int (nI t))]) hx hb dX0_valueOf_48 rfl hl (by decide) rfl (fun ls hl => ?_)
        refine lv_goto (tgt := 81) hx hb dX0_valueOf_49 (by decide) ?_
        exact L81 false (by rw [← ho1]; simp_all; try omega) ls (lv_sub hl [0, 1, 2, 3] rfl)
      · refine lv_aload_n hx hb dX0_valueOf_31 rfl (lv_at hl 1 rfl) ?_
        refine va_get (D := (dC, dI)) (ci := 0) (v := .int (nI fp)) (C := RX0) (T := TX0) (N := 22) hx hb hts in_X0 hown hK hP 0 rfl rfl 13 (by decide) (hts _ q35) (fun _ h9 => h9) rfl dX0_valueOf_32 ?_
        refine lv_iload_n hx hb dX0_valueOf_35 rfl (lv_at hl 2 rfl) ?_
        refine vp_callSi (W.runS (As := [.int (nI fp), .int (nI w)]) (rest := []) ⟨hx, hb, hml, hown, hts⟩ (metX0_digit l fp w (by omega) hw) (va_cwS 2 hts (lw_S q136 q137 q12 q138) rfl rfl rfl (by decide +kernel) ⟨Nat.le_of_ble_eq_true rfl, Nat.le_of_ble_eq_true rfl⟩) ⟨fun a U g mk q => q, fun U hU hW => ⟨rfl, trivial⟩⟩ rfl rfl hl.1 rfl (lv_room (Nat.le_of_ble_eq_true rfl)) dX0_valueOf_36 ⟨Nat.le_of_ble_eq_true rfl, Nat.le_of_ble_eq_true rfl⟩) (fun r hr9 => ?_)
        subst hr9
        refine lv_iload_n hx hb dX0_valueOf_39 rfl (lv_at hl 3 rfl) ?_
        refine rp_icne (tgt := 47) hx hb (by omega) (by omega) dX0_valueOf_40 (by decide) (fun c_40 => ?_) (fun c_40 => ?_)
        · refine lv_iconst (v := rp_B false) hx hb dX0_valueOf_47 (by decide) ?_
          refine lv_istore_n (lv' := [(3, .int (rp_B false)), (0, .ref h0), (1, .int (nI w)), (2, .int (nI t))]) hx hb dX0_valueOf_48 rfl hl (by decide) rfl (fun ls hl => ?_)
          refine lv_goto (tgt := 81) hx hb dX0_valueOf_49 (by decide) ?_
          exact L81 false (by rw [← ho1]; simp_all; try omega) ls (lv_sub hl [0, 1, 2, 3] rfl)
        · refine lv_iconst (v := rp_B true) hx hb dX0_valueOf_43 (by decide) ?_
          refine lv_goto (tgt := 48) hx hb dX0_valueOf_44 (by decide) ?_
          refine lv_istore_n (lv' := [(3, .int (rp_B true)), (0, .ref h0), (1, .int (nI w)), (2, .int (nI t))]) hx hb dX0_valueOf_48 rfl hl (by decide) rfl (fun ls hl => ?_)
          refine lv_goto (tgt := 81) hx hb dX0_valueOf_49 (by decide) ?_
          exact L81 true (by rw [← ho1]; simp_all; try omega) ls (lv_sub hl [0, 1, 2, 3] rfl)
  refine lv_aload_n hx hb dX0_valueOf_0 rfl (lv_at hl 0 rfl) ?_
  refine va_get (D := (dC, dI)) (ci := 0) (v := .ref (ad 1)) (C := RX0) (T := TX0) (N := 22) hx hb hts in_X0 hown hK hP 0 rfl rfl 1 (by decide) (hts _ q23) (fun _ h9 => h9) rfl dX0_valueOf_1 ?_
  refine lv_iconst (v := nI 5) hx hb dX0_valueOf_4 (by decide) ?_
  refine lv_iload_n hx hb dX0_valueOf_5 rfl (lv_at hl 1 rfl) ?_
  refine rp_imul hx hb dX0_valueOf_6 ?_
  refine lv_iload_n hx hb dX0_valueOf_7 rfl (lv_at hl 2 rfl) ?_
  refine rp_iadd hx hb dX0_valueOf_8 ?_
  refine rp_zald ba hx hb hK hP 2 1 rfl rfl (i := (5 * w) + t) (by omega) (by decide) dX0_valueOf_9 ?_
  refine rp_bne (tgt := 17) hx hb dX0_valueOf_10 (by decide) (fun c_10 => ?_) (fun c_10 => ?_)
  · refine lv_iconst (v := rp_B false) hx hb dX0_valueOf_17 (by decide) ?_
    exact L18 false (by rw [c_10]; rfl) ls (lv_sub hl [0, 1, 2] rfl)
  · refine lv_iconst (v := rp_B true) hx hb dX0_valueOf_13 (by decide) ?_
    refine lv_goto (tgt := 18) hx hb dX0_valueOf_14 (by decide) ?_
    exact L18 true (by rw [c_10]; rfl) ls (lv_sub hl [0, 1, 2] rfl)
end
section
/-! the Hungarian method, pure: prices u of workers 1..5, v of tasks 1..5, who has a task (ho), the search (be, sl, se) -/
set_option maxRecDepth 100000
def rp_ov (C : Nat → Nat → Nat) (u v : Nat → Int) (o j : Nat) : Int := (C (o - 1) (j - 1) : Int) - u o - v j
def rp_s1 (C : Nat → Nat → Nat) (u v : Nat → Int) (o : Nat) (se : Nat → Bool) (sl : Nat → Int) (i j : Nat) : Int := if 1 ≤ j ∧ j < i ∧ se j = false ∧ rp_ov C u v o j < sl j then rp_ov C u v o j else sl j
def rp_b1 (C : Nat → Nat → Nat) (u v : Nat → Int) (o : Nat) (se : Nat → Bool) (sl : Nat → Int) (be : Nat → Nat) (tk i j : Nat) : Nat := if 1 ≤ j ∧ j < i ∧ se j = false ∧ rp_ov C u v o j < sl j then tk else be j
def rp_u3 (ho : Nat → Nat) (se : Nat → Bool) (d : Int) (u : Nat → Int) : Nat → Nat → Int
  | 0 => u
  | i + 1 => if se i then va_up (rp_u3 ho se d u i) (ho i) (rp_u3 ho se d u i (ho i) + d) else rp_u3 ho se d u i
def rp_v3 (se : Nat → Bool) (d : Int) (v : Nat → Int) (i j : Nat) : Int := if j < i ∧ se j = true then v j - d else v j
def rp_s3 (se : Nat → Bool) (d : Int) (sl : Nat → Int) (i j : Nat) : Int := if j < i ∧ se j = false then sl j - d else sl j
/-- the best task so far -/
def rp_bi (se : Nat → Bool) (sl : Nat → Int) (i b : Nat) : Prop := (b = 0 ∧ ∀ j, 1 ≤ j → j < i → se j = true) ∨ (1 ≤ b ∧ b < i ∧ se b = false ∧ ∀ j, 1 ≤ j → j < i → se j = false → sl b ≤ sl j)
-- loop 1 of nextTask
theorem rp_s1_0 {C : Nat → Nat → Nat} {u v : Nat → Int} {o : Nat} {se : Nat → Bool} {sl : Nat → Int} : rp_s1 C u v o se sl 1 = sl := by
  funext j; unfold rp_s1; rw [if_neg (by omega)]
theorem rp_b1_0 {C : Nat → Nat → Nat} {u v : Nat → Int} {o : Nat} {se : Nat → Bool} {sl : Nat → Int} {be : Nat → Nat} {tk : Nat} : rp_b1 C u v o se sl be tk 1 = be := by
  funext j; unfold rp_b1; rw [if_neg (by omega)]
theorem rp_s1_at {C : Nat → Nat → Nat} {u v : Nat → Int} {o : Nat} {se : Nat → Bool} {sl : Nat → Int} {i : Nat} : rp_s1 C u v o se sl i i = sl i := by
  unfold rp_s1; rw [if_neg (by omega)]
theorem rp_s1_put {C : Nat → Nat → Nat} {u v : Nat → Int} {o : Nat} {se : Nat → Bool} {sl : Nat → Int} {i : Nat} (h1 : 1 ≤ i) (h2 : se i = false) (h3 : rp_ov C u v o i < sl i) : va_up (rp_s1 C u v o se sl i) i (rp_ov C u v o i) = rp_s1 C u v o se sl (i + 1) := by
  funext j
  by_cases hj : j = i
  · subst hj; rw [rp_us]; unfold rp_s1; rw [if_pos ⟨h1, by omega, h2, h3⟩]
  · rw [rp_un _ _ hj]; unfold rp_s1
    by_cases hc : 1 ≤ j ∧ j < i ∧ se j = false ∧ rp_ov C u v o j < sl j
    · rw [if_pos hc, if_pos ⟨hc.1, by omega, hc.2.2⟩]
    · rw [if_neg hc, if_neg (fun q => hc ⟨q.1, by omega, q.2.2⟩)]
theorem rp_b1_put {C : Nat → Nat → Nat} {u v : Nat → Int} {o : Nat} {se : Nat → Bool} {sl : Nat → Int} {be : Nat → Nat} {tk i : Nat} (h1 : 1 ≤ i) (h2 : se i = false) (h3 : rp_ov C u v o i < sl i) : va_up (rp_b1 C u v o se sl be tk i) i tk = rp_b1 C u v o se sl be tk (i + 1) := by
  funext j
  by_cases hj : j = i
  · subst hj; rw [rp_us]; unfold rp_b1; rw [if_pos ⟨h1, by omega, h2, h3⟩]
  · rw [rp_un _ _ hj]; unfold rp_b1
    by_cases hc : 1 ≤ j ∧ j < i ∧ se j = false ∧ rp_ov C u v o j < sl j
    · rw [if_pos hc, if_pos ⟨hc.1, by omega, hc.2.2⟩]
    · rw [if_neg hc, if_neg (fun q => hc ⟨q.1, by omega, q.2.2⟩)]
theorem rp_s1_skip {C : Nat → Nat → Nat} {u v : Nat → Int} {o : Nat} {se : Nat → Bool} {sl : Nat → Int} {i : Nat} (h : se i = true ∨ sl i ≤ rp_ov C u v o i) : rp_s1 C u v o se sl i = rp_s1 C u v o se sl (i + 1) := by
  funext j; unfold rp_s1
  by_cases hc : 1 ≤ j ∧ j < i ∧ se j = false ∧ rp_ov C u v o j < sl j
  · rw [if_pos hc, if_pos ⟨hc.1, by omega, hc.2.2⟩]
  · rw [if_neg hc, if_neg]
    intro q
    rcases Nat.lt_or_ge j i with hj | hj
    · exact hc ⟨q.1, hj, q.2.2⟩
    · have e : j = i := by omega
      subst e
      rcases h with h | h
      · rw [h] at q; exact absurd q.2.2.1 (by decide)
      · omega
theorem rp_b1_skip {C : Nat → Nat → Nat} {u v : Nat → Int} {o : Nat} {se : Nat → Bool} {sl : Nat → Int} {be : Nat → Nat} {tk i : Nat} (h : se i = true ∨ sl i ≤ rp_ov C u v o i) : rp_b1 C u v o se sl be tk i = rp_b1 C u v o se sl be tk (i + 1) := by
  funext j; unfold rp_b1
  by_cases hc : 1 ≤ j ∧ j < i ∧ se j = false ∧ rp_ov C u v o j < sl j
  · rw [if_pos hc, if_pos ⟨hc.1, by omega, hc.2.2⟩]
  · rw [if_neg hc, if_neg]
    intro q
    rcases Nat.lt_or_ge j i with hj | hj
    · exact hc ⟨q.1, hj, q.2.2⟩
    · have e : j = i := by omega
      subst e
      rcases h with h | h
      · rw [h] at q; exact absurd q.2.2.1 (by decide)
      · omega
-- loop 2
theorem rp_bi_0 {se : Nat → Bool} {sl : Nat → Int} : rp_bi se sl 1 0 := Or.inl ⟨rfl, fun j h1 h2 => absurd h2 (by omega)⟩
theorem rp_bi_set {se : Nat → Bool} {sl : Nat → Int} {i b : Nat} (h : rp_bi se sl i b) (hs : se i = true) : rp_bi se sl (i + 1) b := by
  rcases h with ⟨h1, h2⟩ | ⟨h1, h2, h3, h4⟩
  · refine Or.inl ⟨h1, fun j a c => ?_⟩
    rcases Nat.lt_or_ge j i with q | q
    · exact h2 j a q
    · rw [show j = i by omega]; exact hs
  · refine Or.inr ⟨h1, by omega, h3, fun j a c d => ?_⟩
    rcases Nat.lt_or_ge j i with q | q
    · exact h4 j a q d
    · rw [show j = i by omega, hs] at d; cases d
theorem rp_bi_new {se : Nat → Bool} {sl : Nat → Int} {i b : Nat} (h : rp_bi se sl i b) (hi : 1 ≤ i) (hs : se i = false) (hc : b = 0 ∨ sl i < sl b) : rp_bi se sl (i + 1) i := by
  refine Or.inr ⟨hi, by omega, hs, fun j a c d => ?_⟩
  rcases Nat.lt_or_ge j i with q | q
  · rcases h with ⟨h1, h2⟩ | ⟨h1, h2, h3, h4⟩
    · rw [h2 j a q] at d; cases d
    · have := h4 j a q d
      rcases hc with hc | hc <;> omega
  · rw [show j = i by omega]; exact Int.le_refl _
theorem rp_bi_old {se : Nat → Bool} {sl : Nat → Int} {i b : Nat} (h : rp_bi se sl i b) (hb : b ≠ 0) (hc : sl b ≤ sl i) : rp_bi se sl (i + 1) b := by
  rcases h with ⟨h1, h2⟩ | ⟨h1, h2, h3, h4⟩
  · exact absurd h1 hb
  · refine Or.inr ⟨h1, by omega, h3, fun j a c d => ?_⟩
    rcases Nat.lt_or_ge j i with q | q
    · exact h4 j a q d
    · rw [show j = i by omega]; exact hc
theorem rp_bi_lt {se : Nat → Bool} {sl : Nat → Int} {i b : Nat} (h : rp_bi se sl i b) (hi : 1 ≤ i) : b < i := by
  rcases h with ⟨h1, -⟩ | ⟨-, h2, -⟩ <;> omega
theorem rp_bi_f {se : Nat → Bool} {sl : Nat → Int} {i b : Nat} (h : rp_bi se sl i b) (hb : b ≠ 0) : se b = false := by
  rcases h with ⟨h1, -⟩ | ⟨-, -, h2, -⟩
  · exact absurd h1 hb
  · exact h2
-- loop 3
theorem rp_v3_0 {se : Nat → Bool} {d : Int} {v : Nat → Int} : rp_v3 se d v 0 = v := by
  funext j; unfold rp_v3; rw [if_neg (by omega)]
theorem rp_s3_0 {se : Nat → Bool} {d : Int} {v : Nat → Int} : rp_s3 se d v 0 = v := by
  funext j; unfold rp_s3; rw [if_neg (by omega)]
theorem rp_v3_at {se : Nat → Bool} {d : Int} {v : Nat → Int} {i : Nat} : rp_v3 se d v i i = v i := by
  unfold rp_v3; rw [if_neg (by omega)]
theorem rp_s3_at {se : Nat → Bool} {d : Int} {v : Nat → Int} {i : Nat} : rp_s3 se d v i i = v i := by
  unfold rp_s3; rw [if_neg (by omega)]
theorem rp_v3_put {se : Nat → Bool} {d : Int} {v : Nat → Int} {i : Nat} (h : se i = true) : va_up (rp_v3 se d v i) i (rp_v3 se d v i i - d) = rp_v3 se d v (i + 1) := by
  funext j
  by_cases hj : j = i
  · subst hj; rw [rp_us, rp_v3_at]; unfold rp_v3; rw [if_pos ⟨by omega, h⟩]
  · rw [rp_un _ _ hj]; unfold rp_v3
    by_cases hc : j < i ∧ se j = true
    · rw [if_pos hc, if_pos ⟨by omega, hc.2⟩]
    · rw [if_neg hc, if_neg (fun q => hc ⟨by omega, q.2⟩)]
theorem rp_s3_put {se : Nat → Bool} {d : Int} {v : Nat → Int} {i : Nat} (h : se i = false) : va_up (rp_s3 se d v i) i (rp_s3 se d v i i - d) = rp_s3 se d v (i + 1) := by
  funext j
  by_cases hj : j = i
  · subst hj; rw [rp_us, rp_s3_at]; unfold rp_s3; rw [if_pos ⟨by omega, h⟩]
  · rw [rp_un _ _ hj]; unfold rp_s3
    by_cases hc : j < i ∧ se j = false
    · rw [if_pos hc, if_pos ⟨by omega, hc.2⟩]
    · rw [if_neg hc, if_neg (fun q => hc ⟨by omega, q.2⟩)]
theorem rp_v3_skip {se : Nat → Bool} {d : Int} {v : Nat → Int} {i : Nat} (h : se i = false) : rp_v3 se d v i = rp_v3 se d v (i + 1) := by
  funext j; unfold rp_v3
  by_cases hj : j = i
  · subst hj; rw [if_neg (by omega), if_neg (by rw [h]; exact fun q => absurd q.2 (by decide))]
  · by_cases hc : j < i ∧ se j = true
    · rw [if_pos hc, if_pos ⟨by omega, hc.2⟩]
    · rw [if_neg hc, if_neg (fun q => hc ⟨by omega, q.2⟩)]
theorem rp_s3_skip {se : Nat → Bool} {d : Int} {v : Nat → Int} {i : Nat} (h : se i = true) : rp_s3 se d v i = rp_s3 se d v (i + 1) := by
  funext j; unfold rp_s3
  by_cases hj : j = i
  · subst hj; rw [if_neg (by omega), if_neg (by rw [h]; exact fun q => absurd q.2 (by decide))]
  · by_cases hc : j < i ∧ se j = false
    · rw [if_pos hc, if_pos ⟨by omega, hc.2⟩]
    · rw [if_neg hc, if_neg (fun q => hc ⟨by omega, q.2⟩)]
theorem rp_u3_put {ho : Nat → Nat} {se : Nat → Bool} {d : Int} {u : Nat → Int} {i : Nat} (h : se i = true) : va_up (rp_u3 ho se d u i) (ho i) (rp_u3 ho se d u i (ho i) + d) = rp_u3 ho se d u (i + 1) := by
  show _ = (if se i then _ else _)
  rw [if_pos h]
theorem rp_u3_skip {ho : Nat → Nat} {se : Nat → Bool} {d : Int} {u : Nat → Int} {i : Nat} (h : se i = false) : rp_u3 ho se d u i = rp_u3 ho se d u (i + 1) := by
  show _ = (if se i then _ else _)
  rw [h]; rfl
theorem rp_u3_out {ho : Nat → Nat} {se : Nat → Bool} {d : Int} {u : Nat → Int} {x : Nat} : ∀ i, (∀ k, k < i → se k = true → ho k ≠ x) → rp_u3 ho se d u i x = u x := by
  intro i
  induction i with
  | zero => intro _; rfl
  | succ i ih =>
    intro h
    cases hs : se i with
    | false => rw [← rp_u3_skip hs]; exact ih (fun k a b => h k (by omega) b)
    | true => rw [← rp_u3_put hs, rp_un _ _ (fun e => h i (by omega) hs e.symm)]; exact ih (fun k a b => h k (by omega) b)
theorem rp_u3_in {ho : Nat → Nat} {se : Nat → Bool} {d : Int} {u : Nat → Int} {k : Nat} (hk : se k = true) : ∀ i, k < i → (∀ a b, a < i → b < i → se a = true → se b = true → ho a = ho b → a = b) → rp_u3 ho se d u i (ho k) = u (ho k) + d := by
  intro i
  induction i with
  | zero => intro h _; omega
  | succ i ih =>
    intro h hi
    by_cases e : k = i
    · subst e
      rw [← rp_u3_put hk, rp_us, rp_u3_out k (fun a b c q => absurd (hi a k (by omega) (by omega) c hk q) (by omega))]
    · cases hs : se i with
      | false => rw [← rp_u3_skip hs]; exact ih (by omega) (fun a b x y => hi a b (by omega) (by omega))
      | true =>
        rw [← rp_u3_put hs, rp_un _ _ (fun q => e (hi k i (by omega) (by omega) hk hs q))]
        exact ih (by omega) (fun a b x y => hi a b (by omega) (by omega))
end
section
/-! nextTask -/
set_option maxRecDepth 100000
set_option maxHeartbeats 4000000 in
/-- nextTask(tk): the three loops -/
theorem metX0_nextTask (l : Launch) (dC : Nat → ClassId) (dI : Nat → Nat → Nat) (h0 : Nat) (ad : Nat → Nat) (dA : Nat → ClassId) (sz : Nat) (pr : Nat → Nat) (ba : Nat → Bool) (st : Bool) (en : Bool) (fo : Nat) (pl : Nat → Nat) (pa : Nat) (wa : Nat → Bool) (fx : Nat → Nat) (wo : Nat → Nat) (ch : Nat → Nat) (fw : Nat) (wt : Nat) (fp : Nat) (pw : Nat) (pt : Nat) (u : Nat → Int) (v : Nat → Int) (ho : Nat → Nat) (be : Nat → Nat) (sl : Nat → Int) (se : Nat → Bool) (tk : Nat) (hpr : ∀ j, j < 25 → pr j < 100) (hfw : fw < 6) (hwt : wt < 32) (hfp : fp < 3125) (hpw : pw < 6) (hpt : pt < 5) (htk : tk < 6) (ho1 : 1 ≤ ho tk) (hho : ∀ j, j < 6 → ho j < 6) (hbd : ∀ j, 1 ≤ j → j < 6 → se j = false → -2 ^ 62 ≤ sl j ∧ sl j ≤ 2 ^ 62 ∧ -2 ^ 62 ≤ rp_ov (rp_C pr ba fw wt fp pw pt) u v (ho tk) j ∧ rp_ov (rp_C pr ba fw wt fp pw pt) u v (ho tk) j ≤ 2 ^ 62) : Met l yX0_nextTask (ws_ yX0_nextTask cX0_nextTask 7 (some .int)) (rp_rm 3 66) (rp_Pc dC dI [.ref h0, .int (nI tk)] sz (rp_xw h0 ad dA pr ba st en fo pl pa wa fx wo ch fw wt fp pw pt u v ho be sl se) (rp_xk dA)) (va_Qi (fun (r : Int32) (z : Nat) => r = nI z ∧ rp_bi se (rp_s1 (rp_C pr ba fw wt fp pw pt) u v (ho tk) se sl 6) 6 z) (fun z t => rp_Bc dC dI (va_A (rp_xw h0 ad dA pr ba st en fo pl pa wa fx wo ch fw wt fp pw pt u v ho be sl se) sz) (rp_xw h0 ad dA pr ba st en fo pl pa wa fx wo ch fw wt fp pw pt (rp_u3 ho se (rp_s1 (rp_C pr ba fw wt fp pw pt) u v (ho tk) se sl 6 z) u 6) (rp_v3 se (rp_s1 (rp_C pr ba fw wt fp pw pt) u v (ho tk) se sl 6 z) v 6) ho (rp_b1 (rp_C pr ba fw wt fp pw pt) u v (ho tk) se sl be tk 6) (rp_s3 se (rp_s1 (rp_C pr ba fw wt fp pw pt) u v (ho tk) se sl 6 z) (rp_s1 (rp_C pr ba fw wt fp pw pt) u v (ho tk) se sl 6) 6) se) (rp_xk dA) t) (va_A (rp_xw h0 ad dA pr ba st en fo pl pa wa fx wo ch fw wt fp pw pt u v ho be sl se) sz)) 0 0 (va_A (rp_xw h0 ad dA pr ba st en fo pl pa wa fx wo ch fw wt fp pw pt u v ho be sl se) sz) := by
  refine Met.ofW (cc := cX0_nextTask) (maxL := 7) (ret := (some .int)) (by decide) rfl ?_
  intro p e s m args below meth c s₁ B hml hv
  obtain ⟨rfl, hsz, hP, hK, hD0⟩ := hv
  have hx := B.exec
  have hb := B.bytes
  have hr := B.returns
  have hts := atoms_spec (ws := (ws_ yX0_nextTask cX0_nextTask 7 (some .int))) B.pre
  have hts : ∀ w ∈ lw_all, w.before _ s = true := fun w h => hts w (List.mem_cons_of_mem _ h)
  have hown : s.vm.findClass RX0 = some m.cls := findClass_of_methodNamed B.named
  have hlocks := B.notSynchronized
  subst hsz
  have hD := hD0.self (sz := s.heap.size)
  generalize hAe : va_A (rp_xw h0 ad dA pr ba st en fo pl pa wa fx wo ch fw wt fp pw pt u v ho be sl se) s.heap.size = A at hD ⊢
  have hA : ∀ q : Nat, s.heap.size ≤ q → A q := fun q h => by rw [← hAe]; exact Or.inr h
  have hS : va_S A s.heap s.heap [] := va_S.rf
  have hP : va_P (dC, dI) rp_cl (rp_xw h0 ad dA pr ba st en fo pl pa wa fx wo ch fw wt fp pw pt u v ho be sl se) s.heap := hP
  have hl := lv_entry ([.ref h0, .int (nI tk)]) (n := 7) (Nat.le_of_ble_eq_true rfl)
  rw [lg_entry_eq]
  generalize (lg_sl ([.ref h0, .int (nI tk)]) ++ List.replicate (7 - (lg_sl ([.ref h0, .int (nI tk)])).length) Slot.unset).toArray = ls at hl ⊢
  have hl : lv_has ls 7 [(0, .ref h0), (1, .int (nI tk))] := hl
  have hot := hho tk htk
  have hb1 : ∀ j, 1 ≤ j → j < 6 → se j = false → -2 ^ 62 ≤ rp_s1 (rp_C pr ba fw wt fp pw pt) u v (ho tk) se sl 6 j ∧ rp_s1 (rp_C pr ba fw wt fp pw pt) u v (ho tk) se sl 6 j ≤ 2 ^ 62 := fun j h1 h2 h3 => by
    have := hbd j h1 h2 h3
    unfold rp_s1
    split <;> omega
  have L150 : ∀ (n : Nat) (b i : Nat), (6 - i < n) → (rp_bi se (rp_s1 (rp_C pr ba fw wt fp pw pt) u v (ho tk) se sl 6) 6 b) → (b < 6) → (i ≤ 6) → ∀ (H : Heap) (locs : List Loc), va_P (dC, dI) rp_cl (rp_xw h0 ad dA pr ba st en fo pl pa wa fx wo ch fw wt fp pw pt (rp_u3 ho se (rp_s1 (rp_C pr ba fw wt fp pw pt) u v (ho tk) se sl 6 b) u i) (rp_v3 se (rp_s1 (rp_C pr ba fw wt fp pw pt) u v (ho tk) se sl 6 b) v i) ho (rp_b1 (rp_C pr ba fw wt fp pw pt) u v (ho tk) se sl be tk 6) (rp_s3 se (rp_s1 (rp_C pr ba fw wt fp pw pt) u v (ho tk) se sl 6 b) (rp_s1 (rp_C pr ba fw wt fp pw pt) u v (ho tk) se sl 6) i) se) H → va_D A (rp_xw h0 ad dA pr ba st en fo pl pa wa fx wo ch fw wt fp pw pt (rp_u3 ho se (rp_s1 (rp_C pr ba fw wt fp pw pt) u v (ho tk) se sl 6 b) u i) (rp_v3 se (rp_s1 (rp_C pr ba fw wt fp pw pt) u v (ho tk) se sl 6 b) v i) ho (rp_b1 (rp_C pr ba fw wt fp pw pt) u v (ho tk) se sl be tk 6) (rp_s3 se (rp_s1 (rp_C pr ba fw wt fp pw pt) u v (ho tk) se sl 6 b) (rp_s1 (rp_C pr ba fw wt fp pw pt) u v (ho tk) se sl 6) i) se) → va_S A s.heap H locs → ∀ (ls : Array Slot), lv_has ls 7 [(6, .int (nI i)), (4, .long (rp_Z (rp_s1 (rp_C pr ba fw wt fp pw pt) u v (ho tk) se sl 6 b))), (3, .int (nI b)), (2, .int (nI (ho tk))), (1, .int (nI tk)), (0, .ref h0)] → W p l e (headSpec (ws_ yX0_nextTask cX0_nextTask 7 (some .int)) (rp_rm 3 66)).room s m ([.ref h0, .int (nI tk)] : List Value).toArray below meth c H locs 0 0 (MQ below (va_Qi (fun (r : Int32) (z : Nat) => r = nI z ∧ rp_bi se (rp_s1 (rp_C pr ba fw wt fp pw pt) u v (ho tk) se sl 6) 6 z) (fun z t => rp_Bc dC dI A (rp_xw h0 ad dA pr ba st en fo pl pa wa fx wo ch fw wt fp pw pt (rp_u3 ho se (rp_s1 (rp_C pr ba fw wt fp pw pt) u v (ho tk) se sl 6 z) u 6) (rp_v3 se (rp_s1 (rp_C pr ba fw wt fp pw pt) u v (ho tk) se sl 6 z) v 6) ho (rp_b1 (rp_C pr ba fw wt fp pw pt) u v (ho tk) se sl be tk 6) (rp_s3 se (rp_s1 (rp_C pr ba fw wt fp pw pt) u v (ho tk) se sl 6 z) (rp_s1 (rp_C pr ba fw wt fp pw pt) u v (ho tk) se sl 6) 6) se) (rp_xk dA) t) A) ([.ref h0, .int (nI tk)] : List Value).toArray s 0 0 A) (F0 m 150 ls []) := by
    intro n
    induction n with
    | zero =>
      intro b i hn hbi hb6 hi
      exact absurd hn (by omega)
    | succ n ih =>
      intro b i hn hbi hb6 hi H locs hP hD hS ls hl
      refine lv_iload hx hb dX0_nextTask_150 (lv_at hl 0 rfl) ?_
      refine lv_bipush (v := nI 6) hx hb dX0_nextTask_152 (by decide) ?_
      refine rp_icge (tgt := 217) hx hb (by omega) (by omega) dX0_nextTask_154 (by decide) (fun c_154 => ?_) (fun c_154 => ?_)
      · have e6 : i = 6 := by omega
        subst e6
        refine lv_iload_n hx hb dX0_nextTask_217 rfl (lv_at hl 2 rfl) ?_
        exact W.iret (v := nI b) hx hb hr (fun t ht hW => ⟨⟨nI b, b, rfl, ⟨rfl, hbi⟩, by rw [ht]; exact hP, va_K.moved hW.alike hK, hD⟩, hS.F ht⟩) hS.2.2 dX0_nextTask_218
      · refine lv_aload_n hx hb dX0_nextTask_157 rfl (lv_at hl 5 rfl) ?_
        refine va_get (D := (dC, dI)) (ci := 0) (v := .ref (ad 21)) (C := RX0) (T := TX0) (N := 22) hx hb hts in_X0 hown hK hP 0 rfl rfl 21 (by decide) (hts _ q43) (fun _ h9 => h9) rfl dX0_nextTask_158 ?_
        refine lv_iload hx hb dX0_nextTask_161 (lv_at hl 0 rfl) ?_
        refine rp_zald se hx hb hK hP 13 12 rfl rfl (i := i) (by omega) (by decide) dX0_nextTask_163 ?_
        refine rp_beq (tgt := 199) hx hb dX0_nextTask_164 (by decide) (fun c_164 => ?_) (fun c_164 => ?_)
        · refine lv_aload_n hx hb dX0_nextTask_199 rfl (lv_at hl 5 rfl) ?_
          refine va_get (D := (dC, dI)) (ci := 0) (v := .ref (ad 20)) (C := RX0) (T := TX0) (N := 22) hx hb hts in_X0 hown hK hP 0 rfl rfl 20 (by decide) (hts _ q42) (fun _ h9 => h9) rfl dX0_nextTask_200 ?_
          refine lv_iload hx hb dX0_nextTask_203 (lv_at hl 0 rfl) ?_
          refine lv_dup2_11 hx hb dX0_nextTask_205 rfl rfl ?_
          refine rp_lald rp_Z (rp_s3 se (rp_s1 (rp_C pr ba fw wt fp pw pt) u v (ho tk) se sl 6 b) (rp_s1 (rp_C pr ba fw wt fp pw pt) u v (ho tk) se sl 6) i) hx hb hK hP 12 11 rfl rfl (i := i) (by omega) (by decide) dX0_nextTask_206 ?_
          refine lv_lload hx hb dX0_nextTask_207 (lv_at hl 1 rfl) ?_
          refine rp_lsub hx hb dX0_nextTask_209 ?_
          refine rp_last rp_Z (rp_s3 se (rp_s1 (rp_C pr ba fw wt fp pw pt) u v (ho tk) se sl 6 b) (rp_s1 (rp_C pr ba fw wt fp pw pt) u v (ho tk) se sl 6) i) (((rp_s3 se (rp_s1 (rp_C pr ba fw wt fp pw pt) u v (ho tk) se sl 6 b) (rp_s1 (rp_C pr ba fw wt fp pw pt) u v (ho tk) se sl 6) i) i) - (rp_s1 (rp_C pr ba fw wt fp pw pt) u v (ho tk) se sl 6 b)) hx hb hK hP hD hS 12 11 rfl rfl (i := i) (by omega) (by decide) dX0_nextTask_210 (fun H locs hP hD hS => ?_)
          have hP : va_P (dC, dI) rp_cl (rp_xw h0 ad dA pr ba st en fo pl pa wa fx wo ch fw wt fp pw pt (rp_u3 ho se (rp_s1 (rp_C pr ba fw wt fp pw pt) u v (ho tk) se sl 6 b) u i) (rp_v3 se (rp_s1 (rp_C pr ba fw wt fp pw pt) u v (ho tk) se sl 6 b) v i) ho (rp_b1 (rp_C pr ba fw wt fp pw pt) u v (ho tk) se sl be tk 6) (va_up (rp_s3 se (rp_s1 (rp_C pr ba fw wt fp pw pt) u v (ho tk) se sl 6 b) (rp_s1 (rp_C pr ba fw wt fp pw pt) u v (ho tk) se sl 6) i) i (((rp_s3 se (rp_s1 (rp_C pr ba fw wt fp pw pt) u v (ho tk) se sl 6 b) (rp_s1 (rp_C pr ba fw wt fp pw pt) u v (ho tk) se sl 6) i) i) - (rp_s1 (rp_C pr ba fw wt fp pw pt) u v (ho tk) se sl 6 b))) se) H := hP
          have hD : va_D A (rp_xw h0 ad dA pr ba st en fo pl pa wa fx wo ch fw wt fp pw pt (rp_u3 ho se (rp_s1 (rp_C pr ba fw wt fp pw pt) u v (ho tk) se sl 6 b) u i) (rp_v3 se (rp_s1 (rp_C pr ba fw wt fp pw pt) u v (ho tk) se sl 6 b) v i) ho (rp_b1 (rp_C pr ba fw wt fp pw pt) u v (ho tk) se sl be tk 6) (va_up (rp_s3 se (rp_s1 (rp_C pr ba fw wt fp pw pt) u v (ho tk) se sl 6 b) (rp_s1 (rp_C pr ba fw wt fp pw pt) u v (ho tk) se sl 6) i) i (((rp_s3 se (rp_s1 (rp_C pr ba fw wt fp pw pt) u v (ho tk) se sl 6 b) (rp_s1 (rp_C pr ba fw wt fp pw pt) u v (ho tk) se sl 6) i) i) - (rp_s1 (rp_C pr ba fw wt fp pw pt) u v (ho tk) se sl 6 b))) se) := hD
          rw [rp_s3_put c_164, rp_u3_skip c_164, rp_v3_skip c_164] at hP hD
          refine lv_iinc (v := nI (i + 1)) (lv' := [(6, .int (nI (i + 1))), (4, .long (rp_Z (rp_s1 (rp_C pr ba fw wt fp pw pt) u v (ho tk) se sl 6 b))), (3, .int (nI b)), (2, .int (nI (ho tk))), (1, .int (nI tk)), (0, .ref h0)]) hx hb dX0_nextTask_211 hl (k := 0) rfl (by exact nI_1 _) (by decide) rfl (fun ls hl => ?_)
          refine lv_goto (tgt := 150) hx hb dX0_nextTask_214 (by decide) ?_
          exact ih b (i + 1) (by omega) hbi hb6 (by omega) _ _ hP hD hS ls (lv_sub hl [0, 1, 2, 3, 4, 5] rfl)
        · refine lv_aload_n hx hb dX0_nextTask_167 rfl (lv_at hl 5 rfl) ?_
          refine va_get (D := (dC, dI)) (ci := 0) (v := .ref (ad 16)) (C := RX0) (T := TX0) (N := 22) hx hb hts in_X0 hown hK hP 0 rfl rfl 16 (by decide) (hts _ q38) (fun _ h9 => h9) rfl dX0_nextTask_168 ?_
          refine lv_aload_n hx hb dX0_nextTask_171 rfl (lv_at hl 5 rfl) ?_
          refine va_get (D := (dC, dI)) (ci := 0) (v := .ref (ad 18)) (C := RX0) (T := TX0) (N := 22) hx hb hts in_X0 hown hK hP 0 rfl rfl 18 (by decide) (hts _ q40) (fun _ h9 => h9) rfl dX0_nextTask_172 ?_
          refine lv_iload hx hb dX0_nextTask_175 (lv_at hl 0 rfl) ?_
          refine rp_iald nI ho hx hb hK hP 10 9 rfl rfl (i := i) (by omega) (by decide) dX0_nextTask_177 ?_
          refine lv_dup2_11 hx hb dX0_nextTask_178 rfl rfl ?_
          refine rp_lald rp_Z (rp_u3 ho se (rp_s1 (rp_C pr ba fw wt fp pw pt) u v (ho tk) se sl 6 b) u i) hx hb hK hP 8 7 rfl rfl (i := ho i) (hho i (by omega)) (by decide) dX0_nextTask_179 ?_
          refine lv_lload hx hb dX0_nextTask_180 (lv_at hl 1 rfl) ?_
          refine rp_ladd hx hb dX0_nextTask_182 ?_
          refine rp_last rp_Z (rp_u3 ho se (rp_s1 (rp_C pr ba fw wt fp pw pt) u v (ho tk) se sl 6 b) u i) (((rp_u3 ho se (rp_s1 (rp_C pr ba fw wt fp pw pt) u v (ho tk) se sl 6 b) u i) (ho i)) + (rp_s1 (rp_C pr ba fw wt fp pw pt) u v (ho tk) se sl 6 b)) hx hb hK hP hD hS 8 7 rfl rfl (i := ho i) (hho i (by omega)) (by decide) dX0_nextTask_183 (fun H locs hP hD hS => ?_)
          have hP : va_P (dC, dI) rp_cl (rp_xw h0 ad dA pr ba st en fo pl pa wa fx wo ch fw wt fp pw pt (va_up (rp_u3 ho se (rp_s1 (rp_C pr ba fw wt fp pw pt) u v (ho tk) se sl 6 b) u i) (ho i) (((rp_u3 ho se (rp_s1 (rp_C pr ba fw wt fp pw pt) u v (ho tk) se sl 6 b) u i) (ho i)) + (rp_s1 (rp_C pr ba fw wt fp pw pt) u v (ho tk) se sl 6 b))) (rp_v3 se (rp_s1 (rp_C pr ba fw wt fp pw pt) u v (ho tk) se sl 6 b) v i) ho (rp_b1 (rp_C pr ba fw wt fp pw pt) u v (ho tk) se sl be tk 6) (rp_s3 se (rp_s1 (rp_C pr ba fw wt fp pw pt) u v (ho tk) se sl 6 b) (rp_s1 (rp_C pr ba fw wt fp pw pt) u v (ho tk) se sl 6) i) se) H := hP
          have hD : va_D A (rp_xw h0 ad dA pr ba st en fo pl pa wa fx wo ch fw wt fp pw pt (va_up (rp_u3 ho se (rp_s1 (rp_C pr ba fw wt fp pw pt) u v (ho tk) se sl 6 b) u i) (ho i) (((rp_u3 ho se (rp_s1 (rp_C pr ba fw wt fp pw pt) u v (ho tk) se sl 6 b) u i) (ho i)) + (rp_s1 (rp_C pr ba fw wt fp pw pt) u v (ho tk) se sl 6 b))) (rp_v3 se (rp_s1 (rp_C pr ba fw wt fp pw pt) u v (ho tk) se sl 6 b) v i) ho (rp_b1 (rp_C pr ba fw wt fp pw pt) u v (ho tk) se sl be tk 6) (rp_s3 se (rp_s1 (rp_C pr ba fw wt fp pw pt) u v (ho tk) se sl 6 b) (rp_s1 (rp_C pr ba fw wt fp pw pt) u v (ho tk) se sl 6) i) se) := hD
          refine lv_aload_n hx hb dX0_nextTask_184 rfl (lv_at hl 5 rfl) ?_
          refine va_get (D := (dC, dI)) (ci := 0) (v := .ref (ad 17)) (C := RX0) (T := TX0) (N := 22) hx hb hts in_X0 hown hK hP 0 rfl rfl 17 (by decide) (hts _ q39) (fun _ h9 => h9) rfl dX0_nextTask_185 ?_
          refine lv_iload hx hb dX0_nextTask_188 (lv_at hl 0 rfl) ?_
          refine lv_dup2_11 hx hb dX0_nextTask_190 rfl rfl ?_
          refine rp_lald rp_Z (rp_v3 se (rp_s1 (rp_C pr ba fw wt fp pw pt) u v (ho tk) se sl 6 b) v i) hx hb hK hP 9 8 rfl rfl (i := i) (by omega) (by decide) dX0_nextTask_191 ?_
          refine lv_lload hx hb dX0_nextTask_192 (lv_at hl 1 rfl) ?_
          refine rp_lsub hx hb dX0_nextTask_194 ?_
          refine rp_last rp_Z (rp_v3 se (rp_s1 (rp_C pr ba fw wt fp pw pt) u v (ho tk) se sl 6 b) v i) (((rp_v3 se (rp_s1 (rp_C pr ba fw wt fp pw pt) u v (ho tk) se sl 6 b) v i) i) - (rp_s1 (rp_C pr ba fw wt fp pw pt) u v (ho tk) se sl 6 b)) hx hb hK hP hD hS 9 8 rfl rfl (i := i) (by omega) (by decide) dX0_nextTask_195 (fun H locs hP hD hS => ?_)
          have hP : va_P (dC, dI) rp_cl (rp_xw h0 ad dA pr ba st en fo pl pa wa fx wo ch fw wt fp pw pt (va_up (rp_u3 ho se (rp_s1 (rp_C pr ba fw wt fp pw pt) u v (ho tk) se sl 6 b) u i) (ho i) (((rp_u3 ho se (rp_s1 (rp_C pr ba fw wt fp pw pt) u v (ho tk) se sl 6 b) u i) (ho i)) + (rp_s1 (rp_C pr ba fw wt fp pw pt) u v (ho tk) se sl 6 b))) (va_up (rp_v3 se (rp_s1 (rp_C pr ba fw wt fp pw pt) u v (ho tk) se sl 6 b) v i) i (((rp_v3 se (rp_s1 (rp_C pr ba fw wt fp pw pt) u v (ho tk) se sl 6 b) v i) i) - (rp_s1 (rp_C pr ba fw wt fp pw pt) u v (ho tk) se sl 6 b))) ho (rp_b1 (rp_C pr ba fw wt fp pw pt) u v (ho tk) se sl be tk 6) (rp_s3 se (rp_s1 (rp_C pr ba fw wt fp pw pt) u v (ho tk) se sl 6 b) (rp_s1 (rp_C pr ba fw wt fp pw pt) u v (ho tk) se sl 6) i) se) H := hP
          have hD : va_D A (rp_xw h0 ad dA pr ba st en fo pl pa wa fx wo ch fw wt fp pw pt (va_up (rp_u3 ho se (rp_s1 (rp_C pr ba fw wt fp pw pt) u v (ho tk) se sl 6 b) u i) (ho i) (((rp_u3 ho se (rp_s1 (rp_C pr ba fw wt fp pw pt) u v (ho tk) se sl 6 b) u i) (ho i)) + (rp_s1 (rp_C pr ba fw wt fp pw pt) u v (ho tk) se sl 6 b))) (va_up (rp_v3 se (rp_s1 (rp_C pr ba fw wt fp pw pt) u v (ho tk) se sl 6 b) v i) i (((rp_v3 se (rp_s1 (rp_C pr ba fw wt fp pw pt) u v (ho tk) se sl 6 b) v i) i) - (rp_s1 (rp_C pr ba fw wt fp pw pt) u v (ho tk) se sl 6 b))) ho (rp_b1 (rp_C pr ba fw wt fp pw pt) u v (ho tk) se sl be tk 6) (rp_s3 se (rp_s1 (rp_C pr ba fw wt fp pw pt) u v (ho tk) se sl 6 b) (rp_s1 (rp_C pr ba fw wt fp pw pt) u v (ho tk) se sl 6) i) se) := hD
          refine lv_goto (tgt := 211) hx hb dX0_nextTask_196 (by decide) ?_
          rw [rp_u3_put c_164, rp_v3_put c_164, rp_s3_skip c_164] at hP hD
          refine lv_iinc (v := nI (i + 1)) (lv' := [(6, .int (nI (i + 1))), (4, .long (rp_Z (rp_s1 (rp_C pr ba fw wt fp pw pt) u v (ho tk) se sl 6 b))), (3, .int (nI b)), (2, .int (nI (ho tk))), (1, .int (nI tk)), (0, .ref h0)]) hx hb dX0_nextTask_211 hl (k := 0) rfl (by exact nI_1 _) (by decide) rfl (fun ls hl => ?_)
          refine lv_goto (tgt := 150) hx hb dX0_nextTask_214 (by decide) ?_
          exact ih b (i + 1) (by omega) hbi hb6 (by omega) _ _ hP hD hS ls (lv_sub hl [0, 1, 2, 3, 4, 5] rfl)
  have L88 : ∀ (n : Nat) (i b : Nat), (6 - i < n) → (1 ≤ i) → (i ≤ 6) → (rp_bi se (rp_s1 (rp_C pr ba fw wt fp pw pt) u v (ho tk) se sl 6) i b) → ∀ (H : Heap) (locs : List Loc), va_P (dC, dI) rp_cl (rp_xw h0 ad dA pr ba st en fo pl pa wa fx wo ch fw wt fp pw pt u v ho (rp_b1 (rp_C pr ba fw wt fp pw pt) u v (ho tk) se sl be tk 6) (rp_s1 (rp_C pr ba fw wt fp pw pt) u v (ho tk) se sl 6) se) H → va_D A (rp_xw h0 ad dA pr ba st en fo pl pa wa fx wo ch fw wt fp pw pt u v ho (rp_b1 (rp_C pr ba fw wt fp pw pt) u v (ho tk) se sl be tk 6) (rp_s1 (rp_C pr ba fw wt fp pw pt) u v (ho tk) se sl 6) se) → va_S A s.heap H locs → ∀ (ls : Array Slot), lv_has ls 7 [(4, .int (nI i)), (3, .int (nI b)), (2, .int (nI (ho tk))), (1, .int (nI tk)), (0, .ref h0)] → W p l e (headSpec (ws_ yX0_nextTask cX0_nextTask 7 (some .int)) (rp_rm 3 66)).room s m ([.ref h0, .int (nI tk)] : List Value).toArray below meth c H locs 0 0 (MQ below (va_Qi (fun (r : Int32) (z : Nat) => r = nI z ∧ rp_bi se (rp_s1 (rp_C pr ba fw wt fp pw pt) u v (ho tk) se sl 6) 6 z) (fun z t => rp_Bc dC dI A (rp_xw h0 ad dA pr ba st en fo pl pa wa fx wo ch fw wt fp pw pt (rp_u3 ho se (rp_s1 (rp_C pr ba fw wt fp pw pt) u v (ho tk) se sl 6 z) u 6) (rp_v3 se (rp_s1 (rp_C pr ba fw wt fp pw pt) u v (ho tk) se sl 6 z) v 6) ho (rp_b1 (rp_C pr ba fw wt fp pw pt) u v (ho tk) se sl be tk 6) (rp_s3 se (rp_s1 (rp_C pr ba fw wt fp pw pt) u v (ho tk) se sl 6 z) (rp_s1 (rp_C pr ba fw wt fp pw pt) u v (ho tk) se sl 6) 6) se) (rp_xk dA) t) A) ([.ref h0, .int (nI tk)] : List Value).toArray s 0 0 A) (F0 m 88 ls []) := by
    intro n
    induction n with
    | zero =>
      intro i b hn hi1 hi hbi
      exact absurd hn (by omega)
    | succ n ih =>
      intro i b hn hi1 hi hbi H locs hP hD hS ls hl
      refine lv_iload hx hb dX0_nextTask_88 (lv_at hl 0 rfl) ?_
      refine lv_bipush (v := nI 6) hx hb dX0_nextTask_90 (by decide) ?_
      refine rp_icge (tgt := 139) hx hb (by omega) (by omega) dX0_nextTask_92 (by decide) (fun c_92 => ?_) (fun c_92 => ?_)
      · have e6 : i = 6 := by omega
        subst e6
        have hb6 := rp_bi_lt hbi (by omega)
        refine lv_aload_n hx hb dX0_nextTask_139 rfl (lv_at hl 4 rfl) ?_
        refine va_get (D := (dC, dI)) (ci := 0) (v := .ref (ad 20)) (C := RX0) (T := TX0) (N := 22) hx hb hts in_X0 hown hK hP 0 rfl rfl 20 (by decide) (hts _ q42) (fun _ h9 => h9) rfl dX0_nextTask_140 ?_
        refine lv_iload_n hx hb dX0_nextTask_143 rfl (lv_at hl 1 rfl) ?_
        refine rp_lald rp_Z (rp_s1 (rp_C pr ba fw wt fp pw pt) u v (ho tk) se sl 6) hx hb hK hP 12 11 rfl rfl (i := b) (by omega) (by decide) dX0_nextTask_144 ?_
        refine lv_lstore (lv' := [(4, .long (rp_Z ((rp_s1 (rp_C pr ba fw wt fp pw pt) u v (ho tk) se sl 6) b))), (3, .int (nI b)), (2, .int (nI (ho tk))), (1, .int (nI tk)), (0, .ref h0)]) hx hb dX0_nextTask_145 hl (by decide) rfl (fun ls hl => ?_)
        refine lv_iconst (v := nI 0) hx hb dX0_nextTask_147 (by decide) ?_
        refine lv_istore (lv' := [(6, .int (nI 0)), (4, .long (rp_Z ((rp_s1 (rp_C pr ba fw wt fp pw pt) u v (ho tk) se sl 6) b))), (3, .int (nI b)), (2, .int (nI (ho tk))), (1, .int (nI tk)), (0, .ref h0)]) hx hb dX0_nextTask_148 hl (by decide) rfl (fun ls hl => ?_)
        rw [← rp_v3_0 (se := se) (d := rp_s1 (rp_C pr ba fw wt fp pw pt) u v (ho tk) se sl 6 b) (v := v), ← rp_s3_0 (se := se) (d := rp_s1 (rp_C pr ba fw wt fp pw pt) u v (ho tk) se sl 6 b) (v := rp_s1 (rp_C pr ba fw wt fp pw pt) u v (ho tk) se sl 6)] at hP hD
        have hP : va_P (dC, dI) rp_cl (rp_xw h0 ad dA pr ba st en fo pl pa wa fx wo ch fw wt fp pw pt (rp_u3 ho se (rp_s1 (rp_C pr ba fw wt fp pw pt) u v (ho tk) se sl 6 b) u 0) (rp_v3 se (rp_s1 (rp_C pr ba fw wt fp pw pt) u v (ho tk) se sl 6 b) v 0) ho (rp_b1 (rp_C pr ba fw wt fp pw pt) u v (ho tk) se sl be tk 6) (rp_s3 se (rp_s1 (rp_C pr ba fw wt fp pw pt) u v (ho tk) se sl 6 b) (rp_s1 (rp_C pr ba fw wt fp pw pt) u v (ho tk) se sl 6) 0) se) H := hP
        exact L150 7 b 0 (by omega) hbi hb6 (by omega) _ _ hP hD hS ls (lv_sub hl [0, 1, 2, 3, 4, 5] rfl)
      · refine lv_aload_n hx hb dX0_nextTask_95 rfl (lv_at hl 4 rfl) ?_
        refine va_get (D := (dC, dI)) (ci := 0) (v := .ref (ad 21)) (C := RX0) (T := TX0) (N := 22) hx hb hts in_X0 hown hK hP 0 rfl rfl 21 (by decide) (hts _ q43) (fun _ h9 => h9) rfl dX0_nextTask_96 ?_
        refine lv_iload hx hb dX0_nextTask_99 (lv_at hl 0 rfl) ?_
        refine rp_zald se hx hb hK hP 13 12 rfl rfl (i := i) (by omega) (by decide) dX0_nextTask_101 ?_
        refine rp_bne (tgt := 131) hx hb dX0_nextTask_102 (by decide) (fun c_102 => ?_) (fun c_102 => ?_)
        · have hnew := rp_bi_set hbi c_102
          refine lv_iload_n hx hb dX0_nextTask_131 rfl (lv_at hl 1 rfl) ?_
          refine lv_istore_n (lv' := [(3, .int (nI b)), (4, .int (nI i)), (2, .int (nI (ho tk))), (1, .int (nI tk)), (0, .ref h0)]) hx hb dX0_nextTask_132 rfl hl (by decide) rfl (fun ls hl => ?_)
          refine lv_iinc (v := nI (i + 1)) (lv' := [(4, .int (nI (i + 1))), (3, .int (nI b)), (2, .int (nI (ho tk))), (1, .int (nI tk)), (0, .ref h0)]) hx hb dX0_nextTask_133 hl (k := 1) rfl (by exact nI_1 _) (by decide) rfl (fun ls hl => ?_)
          refine lv_goto (tgt := 88) hx hb dX0_nextTask_136 (by decide) ?_
          exact ih (i + 1) b (by omega) (by omega) (by omega) hnew _ _ hP hD hS ls (lv_sub hl [0, 1, 2, 3, 4] rfl)
        · refine lv_iload_n hx hb dX0_nextTask_105 rfl (lv_at hl 1 rfl) ?_
          refine rp_zeq (tgt := 126) hx hb (by have := rp_bi_lt hbi hi1; omega) dX0_nextTask_106 (by decide) (fun c_106 => ?_) (fun c_106 => ?_)
          · have hnew := rp_bi_new hbi hi1 c_102 (Or.inl c_106)
            refine lv_iload hx hb dX0_nextTask_126 (lv_at hl 0 rfl) ?_
            refine lv_goto (tgt := 132) hx hb dX0_nextTask_128 (by decide) ?_
            refine lv_istore_n (lv' := [(3, .int (nI i)), (4, .int (nI i)), (2, .int (nI (ho tk))), (1, .int (nI tk)), (0, .ref h0)]) hx hb dX0_nextTask_132 rfl hl (by decide) rfl (fun ls hl => ?_)
            refine lv_iinc (v := nI (i + 1)) (lv' := [(4, .int (nI (i + 1))), (3, .int (nI i)), (2, .int (nI (ho tk))), (1, .int (nI tk)), (0, .ref h0)]) hx hb dX0_nextTask_133 hl (k := 1) rfl (by exact nI_1 _) (by decide) rfl (fun ls hl => ?_)
            refine lv_goto (tgt := 88) hx hb dX0_nextTask_136 (by decide) ?_
            exact ih (i + 1) i (by omega) (by omega) (by omega) hnew _ _ hP hD hS ls (lv_sub hl [0, 1, 2, 3, 4] rfl)
          · refine lv_aload_n hx hb dX0_nextTask_109 rfl (lv_at hl 4 rfl) ?_
            refine va_get (D := (dC, dI)) (ci := 0) (v := .ref (ad 20)) (C := RX0) (T := TX0) (N := 22) hx hb hts in_X0 hown hK hP 0 rfl rfl 20 (by decide) (hts _ q42) (fun _ h9 => h9) rfl dX0_nextTask_110 ?_
            refine lv_iload hx hb dX0_nextTask_113 (lv_at hl 0 rfl) ?_
            refine rp_lald rp_Z (rp_s1 (rp_C pr ba fw wt fp pw pt) u v (ho tk) se sl 6) hx hb hK hP 12 11 rfl rfl (i := i) (by omega) (by decide) dX0_nextTask_115 ?_
            refine lv_aload_n hx hb dX0_nextTask_116 rfl (lv_at hl 4 rfl) ?_
            refine va_get (D := (dC, dI)) (ci := 0) (v := .ref (ad 20)) (C := RX0) (T := TX0) (N := 22) hx hb hts in_X0 hown hK hP 0 rfl rfl 20 (by decide) (hts _ q42) (fun _ h9 => h9) rfl dX0_nextTask_117 ?_
            refine lv_iload_n hx hb dX0_nextTask_120 rfl (lv_at hl 1 rfl) ?_
            refine rp_lald rp_Z (rp_s1 (rp_C pr ba fw wt fp pw pt) u v (ho tk) se sl 6) hx hb hK hP 12 11 rfl rfl (i := b) (by have := rp_bi_lt hbi hi1; omega) (by decide) dX0_nextTask_121 ?_
            refine rp_lcge (tgt := 131) hx hb dX0_nextTask_122 dX0_nextTask_123 (by decide) (fun c_122 => ?_) (fun c_122 => ?_)
            · have q1 := hb1 i hi1 (by omega) c_102
              have q2 := hb1 b (by omega) (by have := rp_bi_lt hbi hi1; omega) (rp_bi_f hbi c_106)
              rw [rp_Z_le q2.1 q2.2 q1.1 q1.2] at c_122
              have hnew := rp_bi_old hbi c_106 c_122
              refine lv_iload_n hx hb dX0_nextTask_131 rfl (lv_at hl 1 rfl) ?_
              refine lv_istore_n (lv' := [(3, .int (nI b)), (4, .int (nI i)), (2, .int (nI (ho tk))), (1, .int (nI tk)), (0, .ref h0)]) hx hb dX0_nextTask_132 rfl hl (by decide) rfl (fun ls hl => ?_)
              refine lv_iinc (v := nI (i + 1)) (lv' := [(4, .int (nI (i + 1))), (3, .int (nI b)), (2, .int (nI (ho tk))), (1, .int (nI tk)), (0, .ref h0)]) hx hb dX0_nextTask_133 hl (k := 1) rfl (by exact nI_1 _) (by decide) rfl (fun ls hl => ?_)
              refine lv_goto (tgt := 88) hx hb dX0_nextTask_136 (by decide) ?_
              exact ih (i + 1) b (by omega) (by omega) (by omega) hnew _ _ hP hD hS ls (lv_sub hl [0, 1, 2, 3, 4] rfl)
            · have q1 := hb1 i hi1 (by omega) c_102
              have q2 := hb1 b (by omega) (by have := rp_bi_lt hbi hi1; omega) (rp_bi_f hbi c_106)
              rw [rp_Z_le q2.1 q2.2 q1.1 q1.2] at c_122
              have hnew := rp_bi_new hbi hi1 c_102 (Or.inr (by omega))
              refine lv_iload hx hb dX0_nextTask_126 (lv_at hl 0 rfl) ?_
              refine lv_goto (tgt := 132) hx hb dX0_nextTask_128 (by decide) ?_
              refine lv_istore_n (lv' := [(3, .int (nI i)), (4, .int (nI i)), (2, .int (nI (ho tk))), (1, .int (nI tk)), (0, .ref h0)]) hx hb dX0_nextTask_132 rfl hl (by decide) rfl (fun ls hl => ?_)
              refine lv_iinc (v := nI (i + 1)) (lv' := [(4, .int (nI (i + 1))), (3, .int (nI i)), (2, .int (nI (ho tk))), (1, .int (nI tk)), (0, .ref h0)]) hx hb dX0_nextTask_133 hl (k := 1) rfl (by exact nI_1 _) (by decide) rfl (fun ls hl => ?_)
              refine lv_goto (tgt := 88) hx hb dX0_nextTask_136 (by decide) ?_
              exact ih (i + 1) i (by omega) (by omega) (by omega) hnew _ _ hP hD hS ls (lv_sub hl [0, 1, 2, 3, 4] rfl)
  have L9 : ∀ (n : Nat) (i : Nat), (6 - i < n) → (1 ≤ i) → (i ≤ 6) → ∀ (H : Heap) (locs : List Loc), va_P (dC, dI) rp_cl (rp_xw h0 ad dA pr ba st en fo pl pa wa fx wo ch fw wt fp pw pt u v ho (rp_b1 (rp_C pr ba fw wt fp pw pt) u v (ho tk) se sl be tk i) (rp_s1 (rp_C pr ba fw wt fp pw pt) u v (ho tk) se sl i) se) H → va_D A (rp_xw h0 ad dA pr ba st en fo pl pa wa fx wo ch fw wt fp pw pt u v ho (rp_b1 (rp_C pr ba fw wt fp pw pt) u v (ho tk) se sl be tk i) (rp_s1 (rp_C pr ba fw wt fp pw pt) u v (ho tk) se sl i) se) → va_S A s.heap H locs → ∀ (ls : Array Slot), lv_has ls 7 [(3, .int (nI i)), (2, .int (nI (ho tk))), (1, .int (nI tk)), (0, .ref h0)] → W p l e (headSpec (ws_ yX0_nextTask cX0_nextTask 7 (some .int)) (rp_rm 3 66)).room s m ([.ref h0, .int (nI tk)] : List Value).toArray below meth c H locs 0 0 (MQ below (va_Qi (fun (r : Int32) (z : Nat) => r = nI z ∧ rp_bi se (rp_s1 (rp_C pr ba fw wt fp pw pt) u v (ho tk) se sl 6) 6 z) (fun z t => rp_Bc dC dI A (rp_xw h0 ad dA pr ba st en fo pl pa wa fx wo ch fw wt fp pw pt (rp_u3 ho se (rp_s1 (rp_C pr ba fw wt fp pw pt) u v (ho tk) se sl 6 z) u 6) (rp_v3 se (rp_s1 (rp_C pr ba fw wt fp pw pt) u v (ho tk) se sl 6 z) v 6) ho (rp_b1 (rp_C pr ba fw wt fp pw pt) u v (ho tk) se sl be tk 6) (rp_s3 se (rp_s1 (rp_C pr ba fw wt fp pw pt) u v (ho tk) se sl 6 z) (rp_s1 (rp_C pr ba fw wt fp pw pt) u v (ho tk) se sl 6) 6) se) (rp_xk dA) t) A) ([.ref h0, .int (nI tk)] : List Value).toArray s 0 0 A) (F0 m 9 ls []) := by
    intro n
    induction n with
    | zero =>
      intro i hn hi1 hi
      exact absurd hn (by omega)
    | succ n ih =>
      intro i hn hi1 hi H locs hP hD hS ls hl
      refine lv_iload_n hx hb dX0_nextTask_9 rfl (lv_at hl 0 rfl) ?_
      refine lv_bipush (v := nI 6) hx hb dX0_nextTask_10 (by decide) ?_
      refine rp_icge (tgt := 83) hx hb (by omega) (by omega) dX0_nextTask_12 (by decide) (fun c_12 => ?_) (fun c_12 => ?_)
      · have e6 : i = 6 := by omega
        subst e6
        refine lv_iconst (v := nI 0) hx hb dX0_nextTask_83 (by decide) ?_
        refine lv_istore_n (lv' := [(3, .int (nI 0)), (2, .int (nI (ho tk))), (1, .int (nI tk)), (0, .ref h0)]) hx hb dX0_nextTask_84 rfl hl (by decide) rfl (fun ls hl => ?_)
        refine lv_iconst (v := nI 1) hx hb dX0_nextTask_85 (by decide) ?_
        refine lv_istore (lv' := [(4, .int (nI 1)), (3, .int (nI 0)), (2, .int (nI (ho tk))), (1, .int (nI tk)), (0, .ref h0)]) hx hb dX0_nextTask_86 hl (by decide) rfl (fun ls hl => ?_)
        exact L88 6 1 0 (by omega) (by omega) (by omega) rp_bi_0 _ _ hP hD hS ls (lv_sub hl [0, 1, 2, 3, 4] rfl)
      · refine lv_aload_n hx hb dX0_nextTask_15 rfl (lv_at hl 3 rfl) ?_
        refine va_get (D := (dC, dI)) (ci := 0) (v := .ref (ad 21)) (C := RX0) (T := TX0) (N := 22) hx hb hts in_X0 hown hK hP 0 rfl rfl 21 (by decide) (hts _ q43) (fun _ h9 => h9) rfl dX0_nextTask_16 ?_
        refine lv_iload_n hx hb dX0_nextTask_19 rfl (lv_at hl 0 rfl) ?_
        refine rp_zald se hx hb hK hP 13 12 rfl rfl (i := i) (by omega) (by decide) dX0_nextTask_20 ?_
        refine rp_bne (tgt := 77) hx hb dX0_nextTask_21 (by decide) (fun c_21 => ?_) (fun c_21 => ?_)
        · rw [rp_s1_skip (Or.inl c_21), rp_b1_skip (Or.inl c_21)] at hP hD
          refine lv_iinc (v := nI (i + 1)) (lv' := [(3, .int (nI (i + 1))), (2, .int (nI (ho tk))), (1, .int (nI tk)), (0, .ref h0)]) hx hb dX0_nextTask_77 hl (k := 0) rfl (by exact nI_1 _) (by decide) rfl (fun ls hl => ?_)
          refine lv_goto (tgt := 9) hx hb dX0_nextTask_80 (by decide) ?_
          exact ih (i + 1) (by omega) (by omega) (by omega) _ _ hP hD hS ls (lv_sub hl [0, 1, 2, 3] rfl)
        · refine lv_aload_n hx hb dX0_nextTask_24 rfl (lv_at hl 3 rfl) ?_
          refine lv_iload_n hx hb dX0_nextTask_25 rfl (lv_at hl 1 rfl) ?_
          refine lv_iconst (v := nI 1) hx hb dX0_nextTask_26 (by decide) ?_
          refine rp_isub hx hb (by omega) dX0_nextTask_27 ?_
          refine lv_iload_n hx hb dX0_nextTask_28 rfl (lv_at hl 0 rfl) ?_
          refine lv_iconst (v := nI 1) hx hb dX0_nextTask_29 (by decide) ?_
          refine rp_isub hx hb (by omega) dX0_nextTask_30 ?_
          refine vp_callSl (W.runV (As := [.int (nI ((ho tk) - 1)), .int (nI (i - 1))]) (rest := []) ⟨hx, hb, hml, hown, hts⟩ (metX0_valueOf l dC dI h0 ad dA pr ba st en fo pl pa wa fx wo ch fw wt fp pw pt u v ho (rp_b1 (rp_C pr ba fw wt fp pw pt) u v (ho tk) se sl be tk i) (rp_s1 (rp_C pr ba fw wt fp pw pt) u v (ho tk) se sl i) se (ho tk - 1) (i - 1) (by omega) (by omega) hpr hfw hwt hfp hpw hpt) (cwV 2 hts (lw_V q132 q134 qs6 q12 q135) rfl rfl rfl (by decide +kernel) ⟨Nat.le_of_ble_eq_true rfl, Nat.le_of_ble_eq_true rfl⟩) ⟨fun a U g mk q => by obtain ⟨q0, qP, qK⟩ := q; exact ⟨q0, qP, va_K.moved (u := U) (U := U.calling g mk a) (Vm.Alike.refl U.vm) qK⟩, va_recv hK hP (ci := 0) (q0 := 0) rfl rfl, fun U hU hW => ⟨rfl, by rw [hU]; exact hP, va_K.moved hW.alike hK⟩⟩ rfl rfl hl.1 rfl (lv_room (Nat.le_of_ble_eq_true rfl)) dX0_nextTask_31 ⟨Nat.le_of_ble_eq_true rfl, Nat.le_of_ble_eq_true rfl⟩) (fun r hr9 => ?_)
          subst hr9
          refine rp_tl (rp_ZN _) ?_
          refine lv_aload_n hx hb dX0_nextTask_34 rfl (lv_at hl 3 rfl) ?_
          refine va_get (D := (dC, dI)) (ci := 0) (v := .ref (ad 16)) (C := RX0) (T := TX0) (N := 22) hx hb hts in_X0 hown hK hP 0 rfl rfl 16 (by decide) (hts _ q38) (fun _ h9 => h9) rfl dX0_nextTask_35 ?_
          refine lv_iload_n hx hb dX0_nextTask_38 rfl (lv_at hl 1 rfl) ?_
          refine rp_lald rp_Z u hx hb hK hP 8 7 rfl rfl (i := ho tk) (by omega) (by decide) dX0_nextTask_39 ?_
          refine rp_lsub hx hb dX0_nextTask_40 ?_
          refine lv_aload_n hx hb dX0_nextTask_41 rfl (lv_at hl 3 rfl) ?_
          refine va_get (D := (dC, dI)) (ci := 0) (v := .ref (ad 17)) (C := RX0) (T := TX0) (N := 22) hx hb hts in_X0 hown hK hP 0 rfl rfl 17 (by decide) (hts _ q39) (fun _ h9 => h9) rfl dX0_nextTask_42 ?_
          refine lv_iload_n hx hb dX0_nextTask_45 rfl (lv_at hl 0 rfl) ?_
          refine rp_lald rp_Z v hx hb hK hP 9 8 rfl rfl (i := i) (by omega) (by decide) dX0_nextTask_46 ?_
          refine rp_lsub hx hb dX0_nextTask_47 ?_
          refine lv_lstore (lv' := [(4, .long (rp_Z ((((rp_C pr ba fw wt fp pw pt) (ho tk - 1) (i - 1) : Int) - (u (ho tk))) - (v i)))), (3, .int (nI i)), (2, .int (nI (ho tk))), (1, .int (nI tk)), (0, .ref h0)]) hx hb dX0_nextTask_48 hl (by decide) rfl (fun ls hl => ?_)
          have hov : rp_ov (rp_C pr ba fw wt fp pw pt) u v (ho tk) i = rp_ov (rp_C pr ba fw wt fp pw pt) u v (ho tk) i := rfl
          have hl : lv_has ls 7 [(4, .long (rp_Z (rp_ov (rp_C pr ba fw wt fp pw pt) u v (ho tk) i))), (3, .int (nI i)), (2, .int (nI (ho tk))), (1, .int (nI tk)), (0, .ref h0)] := hl
          refine lv_lload hx hb dX0_nextTask_50 (lv_at hl 0 rfl) ?_
          refine lv_aload_n hx hb dX0_nextTask_52 rfl (lv_at hl 4 rfl) ?_
          refine va_get (D := (dC, dI)) (ci := 0) (v := .ref (ad 20)) (C := RX0) (T := TX0) (N := 22) hx hb hts in_X0 hown hK hP 0 rfl rfl 20 (by decide) (hts _ q42) (fun _ h9 => h9) rfl dX0_nextTask_53 ?_
          refine lv_iload_n hx hb dX0_nextTask_56 rfl (lv_at hl 1 rfl) ?_
          refine rp_lald rp_Z (rp_s1 (rp_C pr ba fw wt fp pw pt) u v (ho tk) se sl i) hx hb hK hP 12 11 rfl rfl (i := i) (by omega) (by decide) dX0_nextTask_57 ?_
          refine rp_lcge (tgt := 77) hx hb dX0_nextTask_58 dX0_nextTask_59 (by decide) (fun c_58 => ?_) (fun c_58 => ?_)
          · have q1 := hbd i hi1 (by omega) c_21
            rw [rp_s1_at, rp_Z_le q1.1 q1.2.1 q1.2.2.1 q1.2.2.2] at c_58
            rw [rp_s1_skip (Or.inr c_58), rp_b1_skip (Or.inr c_58)] at hP hD
            refine lv_iinc (v := nI (i + 1)) (lv' := [(3, .int (nI (i + 1))), (4, .long (rp_Z (rp_ov (rp_C pr ba fw wt fp pw pt) u v (ho tk) i))), (2, .int (nI (ho tk))), (1, .int (nI tk)), (0, .ref h0)]) hx hb dX0_nextTask_77 hl (k := 1) rfl (by exact nI_1 _) (by decide) rfl (fun ls hl => ?_)
            refine lv_goto (tgt := 9) hx hb dX0_nextTask_80 (by decide) ?_
            exact ih (i + 1) (by omega) (by omega) (by omega) _ _ hP hD hS ls (lv_sub hl [0, 2, 3, 4] rfl)
          · have q1 := hbd i hi1 (by omega) c_21
            rw [rp_s1_at, rp_Z_le q1.1 q1.2.1 q1.2.2.1 q1.2.2.2] at c_58
            have c_58 := Int.not_le.mp c_58
            refine lv_aload_n hx hb dX0_nextTask_62 rfl (lv_at hl 4 rfl) ?_
            refine va_get (D := (dC, dI)) (ci := 0) (v := .ref (ad 20)) (C := RX0) (T := TX0) (N := 22) hx hb hts in_X0 hown hK hP 0 rfl rfl 20 (by decide) (hts _ q42) (fun _ h9 => h9) rfl dX0_nextTask_63 ?_
            refine lv_iload_n hx hb dX0_nextTask_66 rfl (lv_at hl 1 rfl) ?_
            refine lv_lload hx hb dX0_nextTask_67 (lv_at hl 0 rfl) ?_
            refine rp_last rp_Z (rp_s1 (rp_C pr ba fw wt fp pw pt) u v (ho tk) se sl i) (rp_ov (rp_C pr ba fw wt fp pw pt) u v (ho tk) i) hx hb hK hP hD hS 12 11 rfl rfl (i := i) (by omega) (by decide) dX0_nextTask_69 (fun H locs hP hD hS => ?_)
            have hP : va_P (dC, dI) rp_cl (rp_xw h0 ad dA pr ba st en fo pl pa wa fx wo ch fw wt fp pw pt u v ho (rp_b1 (rp_C pr ba fw wt fp pw pt) u v (ho tk) se sl be tk i) (va_up (rp_s1 (rp_C pr ba fw wt fp pw pt) u v (ho tk) se sl i) i (rp_ov (rp_C pr ba fw wt fp pw pt) u v (ho tk) i)) se) H := hP
            have hD : va_D A (rp_xw h0 ad dA pr ba st en fo pl pa wa fx wo ch fw wt fp pw pt u v ho (rp_b1 (rp_C pr ba fw wt fp pw pt) u v (ho tk) se sl be tk i) (va_up (rp_s1 (rp_C pr ba fw wt fp pw pt) u v (ho tk) se sl i) i (rp_ov (rp_C pr ba fw wt fp pw pt) u v (ho tk) i)) se) := hD
            refine lv_aload_n hx hb dX0_nextTask_70 rfl (lv_at hl 4 rfl) ?_
            refine va_get (D := (dC, dI)) (ci := 0) (v := .ref (ad 19)) (C := RX0) (T := TX0) (N := 22) hx hb hts in_X0 hown hK hP 0 rfl rfl 19 (by decide) (hts _ q41) (fun _ h9 => h9) rfl dX0_nextTask_71 ?_
            refine lv_iload_n hx hb dX0_nextTask_74 rfl (lv_at hl 1 rfl) ?_
            refine lv_iload_n hx hb dX0_nextTask_75 rfl (lv_at hl 3 rfl) ?_
            refine rp_iast nI (rp_b1 (rp_C pr ba fw wt fp pw pt) u v (ho tk) se sl be tk i) tk hx hb hK hP hD hS 11 10 rfl rfl (i := i) (by omega) (by decide) dX0_nextTask_76 (fun H locs hP hD hS => ?_)
            have hP : va_P (dC, dI) rp_cl (rp_xw h0 ad dA pr ba st en fo pl pa wa fx wo ch fw wt fp pw pt u v ho (va_up (rp_b1 (rp_C pr ba fw wt fp pw pt) u v (ho tk) se sl be tk i) i tk) (va_up (rp_s1 (rp_C pr ba fw wt fp pw pt) u v (ho tk) se sl i) i (rp_ov (rp_C pr ba fw wt fp pw pt) u v (ho tk) i)) se) H := hP
            have hD : va_D A (rp_xw h0 ad dA pr ba st en fo pl pa wa fx wo ch fw wt fp pw pt u v ho (va_up (rp_b1 (rp_C pr ba fw wt fp pw pt) u v (ho tk) se sl be tk i) i tk) (va_up (rp_s1 (rp_C pr ba fw wt fp pw pt) u v (ho tk) se sl i) i (rp_ov (rp_C pr ba fw wt fp pw pt) u v (ho tk) i)) se) := hD
            rw [rp_s1_put hi1 c_21 c_58, rp_b1_put hi1 c_21 c_58] at hP hD
            refine lv_iinc (v := nI (i + 1)) (lv' := [(3, .int (nI (i + 1))), (4, .long (rp_Z (rp_ov (rp_C pr ba fw wt fp pw pt) u v (ho tk) i))), (2, .int (nI (ho tk))), (1, .int (nI tk)), (0, .ref h0)]) hx hb dX0_nextTask_77 hl (k := 1) rfl (by exact nI_1 _) (by decide) rfl (fun ls hl => ?_)
            refine lv_goto (tgt := 9) hx hb dX0_nextTask_80 (by decide) ?_
            exact ih (i + 1) (by omega) (by omega) (by omega) _ _ hP hD hS ls (lv_sub hl [0, 2, 3, 4] rfl)
  refine lv_aload_n hx hb dX0_nextTask_0 rfl (lv_at hl 0 rfl) ?_
  refine va_get (D := (dC, dI)) (ci := 0) (v := .ref (ad 18)) (C := RX0) (T := TX0) (N := 22) hx hb hts in_X0 hown hK hP 0 rfl rfl 18 (by decide) (hts _ q40) (fun _ h9 => h9) rfl dX0_nextTask_1 ?_
  refine lv_iload_n hx hb dX0_nextTask_4 rfl (lv_at hl 1 rfl) ?_
  refine rp_iald nI ho hx hb hK hP 10 9 rfl rfl (i := tk) (by omega) (by decide) dX0_nextTask_5 ?_
  refine lv_istore_n (lv' := [(2, .int (nI (ho tk))), (0, .ref h0), (1, .int (nI tk))]) hx hb dX0_nextTask_6 rfl hl (by decide) rfl (fun ls hl => ?_)
  refine lv_iconst (v := nI 1) hx hb dX0_nextTask_7 (by decide) ?_
  refine lv_istore_n (lv' := [(3, .int (nI 1)), (2, .int (nI (ho tk))), (0, .ref h0), (1, .int (nI tk))]) hx hb dX0_nextTask_8 rfl hl (by decide) rfl (fun ls hl => ?_)
  rw [← rp_s1_0 (C := (rp_C pr ba fw wt fp pw pt)) (u := u) (v := v) (o := ho tk) (se := se) (sl := sl), ← rp_b1_0 (C := (rp_C pr ba fw wt fp pw pt)) (u := u) (v := v) (o := ho tk) (se := se) (sl := sl) (be := be) (tk := tk)] at hP hD
  exact L9 6 1 (by omega) (by omega) (by omega) _ _ hP hD hS ls (lv_sub hl [0, 1, 3, 2] rfl)
end
section
/-! the Hungarian method, pure: what holds between the steps -/
set_option maxRecDepth 100000
def rp_bd : Nat → Int
  | 0 => 0
  | 1 => 0
  | k + 2 => 2 * rp_bd (k + 1) + 1000000000
theorem rp_bd_in {k : Nat} (h1 : 1 ≤ k) (h2 : k < 6) : 0 ≤ rp_bd k ∧ rp_bd k ≤ 15000000000 ∧ rp_bd (k + 1) = 2 * rp_bd k + 1000000000 := by
  have : k = 1 ∨ k = 2 ∨ k = 3 ∨ k = 4 ∨ k = 5 := by omega
  rcases this with rfl | rfl | rfl | rfl | rfl <;> simp [rp_bd]
/-- before worker k is brought in: workers 1 .. k - 1 have tasks -/
def rp_HP (C : Nat → Nat → Nat) (k : Nat) (u v : Nat → Int) (ho : Nat → Nat) : Prop :=
  (∀ i j, 1 ≤ i → i < 6 → 1 ≤ j → j < 6 → 0 ≤ rp_ov C u v i j) ∧
  (∀ j, 1 ≤ j → j < 6 → ho j ≠ 0 → rp_ov C u v (ho j) j = 0) ∧
  (∀ j, 1 ≤ j → j < 6 → ho j < k) ∧
  (∀ i j, 1 ≤ i → i < 6 → 1 ≤ j → j < 6 → ho i = ho j → ho i ≠ 0 → i = j) ∧
  (∀ w, 1 ≤ w → w < k → ∃ j, 1 ≤ j ∧ j < 6 ∧ ho j = w) ∧
  (∀ i, k ≤ i → i < 6 → u i = 0) ∧
  (∀ i, 1 ≤ i → i < 6 → 0 ≤ u i ∧ u i ≤ rp_bd k) ∧
  (∀ j, 1 ≤ j → j < 6 → -rp_bd k ≤ v j ∧ v j ≤ 0)
/-- who has a task, while worker k is brought in -/
def rp_HO (k : Nat) (ho : Nat → Nat) : Prop :=
  ho 0 = k ∧ (∀ j, 1 ≤ j → j < 6 → ho j < k) ∧ (∀ i j, i < 6 → j < 6 → ho i = ho j → ho i ≠ 0 → i = j) ∧ (∀ w, 1 ≤ w → w ≤ k → ∃ j, j < 6 ∧ ho j = w)
def rp_HU (C : Nat → Nat → Nat) (k : Nat) (u v : Nat → Int) (ho : Nat → Nat) : Prop :=
  (∀ i j, 1 ≤ i → i < 6 → 1 ≤ j → j < 6 → 0 ≤ rp_ov C u v i j) ∧
  (∀ j, 1 ≤ j → j < 6 → ho j ≠ 0 → rp_ov C u v (ho j) j = 0) ∧
  (∀ i, k < i → i < 6 → u i = 0) ∧
  (∀ i, 1 ≤ i → i < 6 → 0 ≤ u i ∧ u i ≤ rp_bd k + u k) ∧
  (∀ j, 1 ≤ j → j < 6 → -rp_bd k - u k ≤ v j ∧ v j ≤ 0) ∧ u k ≤ rp_bd k + 1000000000
def rp_HT (C : Nat → Nat → Nat) (s : Nat) (u v : Nat → Int) (ho be : Nat → Nat) (sl : Nat → Int) (se : Nat → Bool) (ta : Nat → Nat) : Prop :=
  (∀ j, j < 6 → se j = true → ho j ≠ 0) ∧
  (∀ j, 1 ≤ j → j < 6 → se j = false → ∀ k, k < 6 → se k = true → sl j ≤ rp_ov C u v (ho k) j) ∧
  (∀ j, 1 ≤ j → j < 6 → se j = false → (s = 0 ∧ sl j = 100000000000) ∨ (be j < 6 ∧ se (be j) = true ∧ sl j = rp_ov C u v (ho (be j)) j)) ∧
  (∀ j, 1 ≤ j → j < 6 → se j = true → be j < 6 ∧ se (be j) = true ∧ rp_ov C u v (ho (be j)) j = 0 ∧ ta (be j) < ta j) ∧
  (∀ j, j < 6 → se j = true → ta j < s)
def rp_cn (se : Nat → Bool) : Nat := (if se 0 then 1 else 0) + (if se 1 then 1 else 0) + (if se 2 then 1 else 0) + (if se 3 then 1 else 0) + (if se 4 then 1 else 0) + (if se 5 then 1 else 0)
def rp_cu (s tk : Nat) (sl : Nat → Int) (se : Nat → Bool) : Prop := (tk = 0 ∧ s = 0 ∧ ∀ j, j < 6 → se j = false) ∨ (1 ≤ tk ∧ tk < 6 ∧ se tk = false ∧ sl tk = 0 ∧ 1 ≤ s ∧ se 0 = true)
def rp_HI (C : Nat → Nat → Nat) (k s tk : Nat) (u v : Nat → Int) (ho be : Nat → Nat) (sl : Nat → Int) (se : Nat → Bool) (ta : Nat → Nat) : Prop :=
  rp_HO k ho ∧ rp_HU C k u v ho ∧ rp_HT C s u v ho be sl se ta ∧ rp_cn se = s ∧ rp_cu s tk sl se ∧ (∀ j, 1 ≤ j → j < 6 → se j = false → -rp_bd k ≤ v j)
theorem rp_cn_put {se : Nat → Bool} {i : Nat} (hi : i < 6) (h : se i = false) : rp_cn (va_up se i true) = rp_cn se + 1 := by
  have : i = 0 ∨ i = 1 ∨ i = 2 ∨ i = 3 ∨ i = 4 ∨ i = 5 := by omega
  rcases this with rfl | rfl | rfl | rfl | rfl | rfl <;> simp [rp_cn, va_up, h] <;> omega
theorem rp_cn_all {se : Nat → Bool} (h : 6 ≤ rp_cn se) : ∀ j, j < 6 → se j = true := by
  intro j hj
  cases hs : se j with
  | true => rfl
  | false =>
    have : j = 0 ∨ j = 1 ∨ j = 2 ∨ j = 3 ∨ j = 4 ∨ j = 5 := by omega
    unfold rp_cn at h
    rcases this with rfl | rfl | rfl | rfl | rfl | rfl <;> rw [hs] at h <;> simp at h <;> repeat' (split at h <;> try omega)
/-- a task is free -/
theorem rp_pig : ∀ a b c d e : Fin 4, (a = b ∨ a = c ∨ a = d ∨ a = e ∨ b = c ∨ b = d ∨ b = e ∨ c = d ∨ c = e ∨ d = e) := by decide +kernel
theorem rp_HO_free {k : Nat} {ho : Nat → Nat} (hk : k < 6) (h : rp_HO k ho) : ∃ f, 1 ≤ f ∧ f < 6 ∧ ho f = 0 := by
  obtain ⟨h0, h1, h2, -⟩ := h
  by_cases q1 : ho 1 = 0
  · exact ⟨1, by omega, by omega, q1⟩
  by_cases q2 : ho 2 = 0
  · exact ⟨2, by omega, by omega, q2⟩
  by_cases q3 : ho 3 = 0
  · exact ⟨3, by omega, by omega, q3⟩
  by_cases q4 : ho 4 = 0
  · exact ⟨4, by omega, by omega, q4⟩
  by_cases q5 : ho 5 = 0
  · exact ⟨5, by omega, by omega, q5⟩
  have g1 := h1 1 (by omega) (by omega)
  have g2 := h1 2 (by omega) (by omega)
  have g3 := h1 3 (by omega) (by omega)
  have g4 := h1 4 (by omega) (by omega)
  have g5 := h1 5 (by omega) (by omega)
  have := rp_pig ⟨ho 1 - 1, by omega⟩ ⟨ho 2 - 1, by omega⟩ ⟨ho 3 - 1, by omega⟩ ⟨ho 4 - 1, by omega⟩ ⟨ho 5 - 1, by omega⟩
  simp only [Fin.mk.injEq] at this
  rcases this with e | e | e | e | e | e | e | e | e | e
  · exact absurd (h2 1 2 (by omega) (by omega) (by omega) q1) (by omega)
  · exact absurd (h2 1 3 (by omega) (by omega) (by omega) q1) (by omega)
  · exact absurd (h2 1 4 (by omega) (by omega) (by omega) q1) (by omega)
  · exact absurd (h2 1 5 (by omega) (by omega) (by omega) q1) (by omega)
  · exact absurd (h2 2 3 (by omega) (by omega) (by omega) q2) (by omega)
  · exact absurd (h2 2 4 (by omega) (by omega) (by omega) q2) (by omega)
  · exact absurd (h2 2 5 (by omega) (by omega) (by omega) q2) (by omega)
  · exact absurd (h2 3 4 (by omega) (by omega) (by omega) q3) (by omega)
  · exact absurd (h2 3 5 (by omega) (by omega) (by omega) q3) (by omega)
  · exact absurd (h2 4 5 (by omega) (by omega) (by omega) q4) (by omega)
theorem rp_HO_le {k : Nat} {ho : Nat → Nat} (h : rp_HO k ho) {j : Nat} (hj : j < 6) : ho j ≤ k := by
  obtain ⟨h0, h1, -⟩ := h
  rcases Nat.eq_zero_or_pos j with rfl | q
  · omega
  · exact Nat.le_of_lt (h1 j q hj)
/-- the start -/
theorem rp_HI_0 {C : Nat → Nat → Nat} {k : Nat} {u v : Nat → Int} {ho be : Nat → Nat} {sl : Nat → Int} {se : Nat → Bool} (hk1 : 1 ≤ k) (hk : k < 6) (h : rp_HP C k u v ho) (hs : ∀ j, j < 6 → se j = false) (hl : ∀ j, j < 6 → sl j = 100000000000) : rp_HI C k 0 0 u v (va_up ho 0 k) be sl se (fun _ => 0) := by
  obtain ⟨h1, h2, h3, h4, h5, h6, h7, h8⟩ := h
  have hz : ∀ j, 1 ≤ j → va_up ho 0 k j = ho j := fun j hj => rp_un _ _ (by omega)
  have h00 : va_up ho 0 k 0 = k := rp_us _ _ _
  have hu := h6 k (Nat.le_refl _) hk
  refine ⟨⟨h00, fun j a b => by rw [hz j a]; exact h3 j a b, fun i j a b e ne => ?_, fun w a b => ?_⟩, ⟨h1, fun j a b c => by rw [hz j a] at c ⊢; exact h2 j a b c, fun i a b => h6 i (by omega) b, fun i a b => by rw [hu]; have := h7 i a b; omega, fun j a b => by rw [hu]; have := h8 j a b; omega, by rw [hu]; have := rp_bd_in hk1 hk; omega⟩, ⟨fun j a b => ?_, fun j a b c q d e => ?_, fun j a b c => Or.inl ⟨rfl, hl j b⟩, fun j a b c => ?_, fun j a b => ?_⟩, ?_, Or.inl ⟨rfl, rfl, hs⟩, fun j a b _ => (h8 j a b).1⟩
  · rcases Nat.eq_zero_or_pos i with rfl | qi <;> rcases Nat.eq_zero_or_pos j with rfl | qj
    · rfl
    · rw [h00, hz j qj] at e; have := h3 j qj b; omega
    · rw [h00, hz i qi] at e; have := h3 i qi a; omega
    · rw [hz i qi, hz j qj] at e; rw [hz i qi] at ne; exact h4 i j qi a qj b e ne
  · rcases Nat.lt_or_ge w k with q | q
    · obtain ⟨j, j1, j2, j3⟩ := h5 w a q
      exact ⟨j, j2, by rw [hz j j1]; exact j3⟩
    · exact ⟨0, by omega, by rw [h00]; omega⟩
  · rw [hs j a] at b; cases b
  · rw [hs q d] at e; cases e
  · rw [hs j b] at c; cases c
  · rw [hs j a] at b; cases b
  · simp [rp_cn, hs 0, hs 1, hs 2, hs 3, hs 4, hs 5]
/-- what nextTask asks -/
theorem rp_HI_pre {C : Nat → Nat → Nat} {k s tk : Nat} {u v : Nat → Int} {ho be : Nat → Nat} {sl : Nat → Int} {se : Nat → Bool} {ta : Nat → Nat} (hC : ∀ a b, a < 5 → b < 5 → C a b ≤ 1000000000) (hk1 : 1 ≤ k) (hk : k < 6) (h : rp_HI C k s tk u v ho be sl se ta) (hne : ho tk ≠ 0) :
    tk < 6 ∧ (∀ j, j < 6 → ho j < 6) ∧ ∀ j, 1 ≤ j → j < 6 → se j = false → 0 ≤ sl j ∧ sl j ≤ 100000000000 ∧ 0 ≤ rp_ov C u v (ho tk) j ∧ rp_ov C u v (ho tk) j < 100000000000 := by
  obtain ⟨hO, ⟨u1, u2, u3, u4, u5, u6⟩, ⟨t1, t2, t3, t4, t5⟩, hc, hcu, hb⟩ := h
  have hbd := rp_bd_in hk1 hk
  have htk : tk < 6 := by rcases hcu with q | q <;> omega
  have ho6 : ∀ j, j < 6 → ho j < 6 := fun j hj => by have := rp_HO_le hO hj; omega
  have ovb : ∀ o j, 1 ≤ o → o < 6 → 1 ≤ j → j < 6 → se j = false → 0 ≤ rp_ov C u v o j ∧ rp_ov C u v o j < 100000000000 := by
    intro o j a b c d e
    refine ⟨u1 o j a b c d, ?_⟩
    have q1 := hb j c d e
    have q2 := (u4 o a b).1
    have q3 := hC (o - 1) (j - 1) (by omega) (by omega)
    unfold rp_ov
    omega
  refine ⟨htk, ho6, fun j a b c => ?_⟩
  have q := ovb (ho tk) j (by omega) (ho6 tk htk) a b c
  refine ⟨?_, ?_, q.1, q.2⟩
  · rcases t3 j a b c with ⟨-, e⟩ | ⟨e1, e2, e3⟩
    · omega
    · have := ovb (ho (be j)) j (by have := t1 _ e1 e2; omega) (ho6 _ e1) a b c; omega
  · rcases t3 j a b c with ⟨-, e⟩ | ⟨e1, e2, e3⟩
    · omega
    · have := ovb (ho (be j)) j (by have := t1 _ e1 e2; omega) (ho6 _ e1) a b c; omega
theorem rp_C_le {pr : Nat → Nat} {ba : Nat → Bool} {fw wt fp pw pt : Nat} (hpr : ∀ j, j < 25 → pr j < 100) (a b : Nat) (ha : a < 5) (hb : b < 5) : rp_C pr ba fw wt fp pw pt a b ≤ 1000000000 := by
  unfold rp_C
  split
  · have h1 := hpr (5 * a + b) (by omega)
    have h2 := rp_w_pos a ha
    have h3 : b * 5 ^ (4 - a) ≤ 4 * 625 := Nat.mul_le_mul (by omega) h2.2
    omega
  · omega
/-- the first i cells set to x -/
def rp_fl {α : Type} (f : Nat → α) (x : α) (i j : Nat) : α := if j < i then x else f j
theorem rp_fl_0 {α : Type} (f : Nat → α) (x : α) : rp_fl f x 0 = f := by
  funext j; unfold rp_fl; rw [if_neg (by omega)]
theorem rp_fl_put {α : Type} (f : Nat → α) (x : α) (i : Nat) : va_up (rp_fl f x i) i x = rp_fl f x (i + 1) := by
  funext j
  by_cases hj : j = i
  · subst hj; rw [rp_us]; unfold rp_fl; rw [if_pos (by omega)]
  · rw [rp_un _ _ hj]; unfold rp_fl
    by_cases hc : j < i
    · rw [if_pos hc, if_pos (by omega)]
    · rw [if_neg hc, if_neg (by omega)]
theorem rp_fl_in {α : Type} (f : Nat → α) (x : α) {i j : Nat} (h : j < i) : rp_fl f x i j = x := if_pos h
end
section
/-! the Hungarian method, pure: one step of the search, the way back -/
set_option maxRecDepth 100000
set_option maxHeartbeats 4000000 in
theorem rp_HI_step {C : Nat → Nat → Nat} {k s tk : Nat} {u v : Nat → Int} {ho be : Nat → Nat} {sl : Nat → Int} {se : Nat → Bool} {ta : Nat → Nat} (hC : ∀ a b, a < 5 → b < 5 → C a b ≤ 1000000000) (hk1 : 1 ≤ k) (hk : k < 6) (h : rp_HI C k s tk u v ho be sl se ta) (hne : ho tk ≠ 0) {b : Nat}
    (hb : rp_bi (va_up se tk true) (rp_s1 C u v (ho tk) (va_up se tk true) sl 6) 6 b) :
    rp_HI C k (s + 1) b (rp_u3 ho (va_up se tk true) (rp_s1 C u v (ho tk) (va_up se tk true) sl 6 b) u 6) (rp_v3 (va_up se tk true) (rp_s1 C u v (ho tk) (va_up se tk true) sl 6 b) v 6) ho (rp_b1 C u v (ho tk) (va_up se tk true) sl be tk 6) (rp_s3 (va_up se tk true) (rp_s1 C u v (ho tk) (va_up se tk true) sl 6 b) (rp_s1 C u v (ho tk) (va_up se tk true) sl 6) 6) (va_up se tk true) (va_up ta tk s) := by
  have hpre := rp_HI_pre hC hk1 hk h hne
  obtain ⟨hO, ⟨u1, u2, u3, u4, u5, u6⟩, ⟨t1, t2, t3, t4, t5⟩, hc, hcu, hb3⟩ := h
  obtain ⟨htk, ho6, hov⟩ := hpre
  have htf : se tk = false := by
    rcases hcu with q | q
    · exact q.2.2 tk htk
    · exact q.2.2.1
  have hcp := rp_cn_put htk htf
  generalize hse : va_up se tk true = se' at hb hcp ⊢
  have e1 : se' tk = true := by rw [← hse]; exact rp_us _ _ _
  have e2 : ∀ j, j ≠ tk → se' j = se j := fun j hj => by rw [← hse]; exact rp_un _ _ hj
  have e3 : ∀ j, se' j = false → j ≠ tk ∧ se j = false := fun j q => by
    have n : j ≠ tk := fun e => by rw [e, e1] at q; cases q
    exact ⟨n, by rw [← e2 j n]; exact q⟩
  have e4 : ∀ j, se j = true → se' j = true ∧ j ≠ tk := fun j q => by
    have n : j ≠ tk := fun e => by rw [e, htf] at q; cases q
    exact ⟨by rw [e2 j n]; exact q, n⟩
  have e5 : ∀ j, se' j = true → j = tk ∨ se j = true := fun j q => by
    by_cases n : j = tk
    · exact Or.inl n
    · right; rw [← e2 j n]; exact q
  have hT : ∀ j, j < 6 → se' j = true → ho j ≠ 0 := fun j a q => by
    rcases e5 j q with e | q
    · rw [e]; exact hne
    · exact t1 j a q
  have e0 : se' 0 = true := by
    rcases hcu with q | q
    · rw [← q.1]; exact e1
    · exact (e4 0 q.2.2.2.2.2).1
  generalize hs1 : rp_s1 C u v (ho tk) se' sl 6 = s1 at hb ⊢
  generalize hb1 : rp_b1 C u v (ho tk) se' sl be tk 6 = b1
  have s1p : ∀ j, 1 ≤ j → j < 6 → se' j = false → (s1 j ≤ rp_ov C u v (ho tk) j ∧ s1 j ≤ sl j) ∧ ((rp_ov C u v (ho tk) j < sl j ∧ s1 j = rp_ov C u v (ho tk) j ∧ b1 j = tk) ∨ (sl j ≤ rp_ov C u v (ho tk) j ∧ s1 j = sl j ∧ b1 j = be j)) := by
    intro j a b c
    rw [← hs1, ← hb1]
    unfold rp_s1 rp_b1
    by_cases q : rp_ov C u v (ho tk) j < sl j
    · rw [if_pos ⟨a, b, c, q⟩, if_pos ⟨a, b, c, q⟩]
      exact ⟨⟨by omega, by omega⟩, Or.inl ⟨q, rfl, rfl⟩⟩
    · rw [if_neg (fun z => q z.2.2.2), if_neg (fun z => q z.2.2.2)]
      exact ⟨⟨by omega, by omega⟩, Or.inr ⟨by omega, rfl, rfl⟩⟩
  have b1p : ∀ j, se' j = true → b1 j = be j := fun j q => by
    rw [← hb1]; unfold rp_b1
    exact if_neg (fun z => by rw [q] at z; cases z.2.2.1)
  have S1 : ∀ j, 1 ≤ j → j < 6 → se' j = false → ∀ q, q < 6 → se' q = true → s1 j ≤ rp_ov C u v (ho q) j := by
    intro j a b c q hq hq1
    rcases e5 q hq1 with e | q1
    · rw [e]; exact (s1p j a b c).1.1
    · exact Int.le_trans (s1p j a b c).1.2 (t2 j a b (e3 j c).2 q hq q1)
  have S2 : ∀ j, 1 ≤ j → j < 6 → se' j = false → b1 j < 6 ∧ se' (b1 j) = true ∧ s1 j = rp_ov C u v (ho (b1 j)) j := by
    intro j a b c
    rcases (s1p j a b c).2 with ⟨q1, q2, q3⟩ | ⟨q1, q2, q3⟩
    · rw [q3]; exact ⟨htk, e1, q2⟩
    · rw [q3]
      rcases t3 j a b (e3 j c).2 with ⟨-, e⟩ | ⟨f1, f2, f3⟩
      · have := (hov j a b (e3 j c).2).2.2.2
        omega
      · exact ⟨f1, (e4 _ f2).1, by rw [q2]; exact f3⟩
  obtain ⟨f, f1, f2, f3⟩ := rp_HO_free hk hO
  have hfu : se' f = false := by
    cases hq : se' f with
    | false => rfl
    | true => exact absurd f3 (hT f f2 hq)
  have hbb : 1 ≤ b ∧ b < 6 ∧ se' b = false ∧ ∀ j, 1 ≤ j → j < 6 → se' j = false → s1 b ≤ s1 j := by
    rcases hb with ⟨-, q⟩ | q
    · rw [q f f1 f2] at hfu; cases hfu
    · exact q
  obtain ⟨c1, c2, c3, c4⟩ := hbb
  generalize hd : s1 b = d at c4 ⊢
  have d0 : 0 ≤ d := by
    rw [← hd]
    obtain ⟨g1, g2, g3⟩ := S2 b c1 c2 c3
    rw [g3]
    exact u1 _ b (by have := hT _ g1 g2; omega) (ho6 _ g1) c1 c2
  have inj : ∀ a b, a < 6 → b < 6 → se' a = true → se' b = true → ho a = ho b → a = b := fun a b x y p q e => hO.2.2.1 a b x y e (hT a x p)
  have U1 : ∀ q, q < 6 → se' q = true → rp_u3 ho se' d u 6 (ho q) = u (ho q) + d := fun q a c => rp_u3_in c 6 a inj
  have U2 : ∀ x, (∀ q, q < 6 → se' q = true → ho q ≠ x) → rp_u3 ho se' d u 6 x = u x := fun x h => rp_u3_out 6 h
  generalize rp_u3 ho se' d u 6 = u' at U1 U2 ⊢
  have V1 : ∀ j, j < 6 → se' j = true → rp_v3 se' d v 6 j = v j - d := fun j a c => by unfold rp_v3; exact if_pos ⟨a, c⟩
  have V2 : ∀ j, se' j = false → rp_v3 se' d v 6 j = v j := fun j c => by unfold rp_v3; exact if_neg (fun z => by rw [c] at z; cases z.2)
  generalize rp_v3 se' d v 6 = v' at V1 V2 ⊢
  have L1 : ∀ j, j < 6 → se' j = false → rp_s3 se' d s1 6 j = s1 j - d := fun j a c => by unfold rp_s3; exact if_pos ⟨a, c⟩
  generalize rp_s3 se' d s1 6 = s' at L1 ⊢
  have O1 : ∀ q j, q < 6 → se' q = true → j < 6 → se' j = true → rp_ov C u' v' (ho q) j = rp_ov C u v (ho q) j := fun q j a b c e => by
    unfold rp_ov; rw [U1 q a b, V1 j c e]; omega
  have O2 : ∀ q j, q < 6 → se' q = true → se' j = false → rp_ov C u' v' (ho q) j = rp_ov C u v (ho q) j - d := fun q j a b e => by
    unfold rp_ov; rw [U1 q a b, V2 j e]; omega
  have Uc : ∀ x, (∃ q, q < 6 ∧ se' q = true ∧ ho q = x) ∨ (∀ q, q < 6 → se' q = true → ho q ≠ x) := fun x => by
    rcases Classical.em (∃ q, q < 6 ∧ se' q = true ∧ ho q = x) with h | h
    · exact Or.inl h
    · exact Or.inr (fun q a b c => h ⟨q, a, b, c⟩)
  have Uk : u' k = u k + d := by
    have := U1 0 (by omega) e0
    rw [hO.1] at this
    exact this
  have feas : ∀ i j, 1 ≤ i → i < 6 → 1 ≤ j → j < 6 → 0 ≤ rp_ov C u' v' i j := by
    intro i j a b c e
    rcases Uc i with ⟨q, q1, q2, q3⟩ | hn
    · rw [← q3]
      cases hj : se' j with
      | true => rw [O1 q j q1 q2 e hj, q3]; exact u1 i j a b c e
      | false =>
        rw [O2 q j q1 q2 hj]
        have g1 := S1 j c e hj q q1 q2
        have g2 := c4 j c e hj
        omega
    · have h1 := u1 i j a b c e
      unfold rp_ov at h1 ⊢
      rw [U2 i hn]
      cases hj : se' j with
      | true => rw [V1 j e hj]; omega
      | false => rw [V2 j hj]; omega
  refine ⟨hO, ⟨feas, ?_, ?_, ?_, ?_, ?_⟩, ⟨hT, ?_, ?_, ?_, ?_⟩, ?_, ?_, ?_⟩
  · intro j a b c
    cases hj : se' j with
    | true => rw [O1 j j b hj b hj]; exact u2 j a b c
    | false =>
      have := u2 j a b c
      unfold rp_ov at this ⊢
      rw [U2 (ho j) (fun q q1 q2 e => by have := hO.2.2.1 q j q1 b e (hT q q1 q2); rw [this, hj] at q2; cases q2), V2 j hj]
      exact this
  · intro i a b
    rw [U2 i (fun q q1 q2 e => by have := rp_HO_le hO q1; omega)]
    exact u3 i a b
  · intro i a b
    have h1 := u4 i a b
    rw [Uk]
    rcases Uc i with ⟨q, q1, q2, q3⟩ | hn
    · rw [← q3, U1 q q1 q2, q3]; omega
    · rw [U2 i hn]; omega
  · intro j a b
    have h1 := u5 j a b
    rw [Uk]
    cases hj : se' j with
    | true => rw [V1 j b hj]; omega
    | false => rw [V2 j hj]; omega
  · have h1 := feas k b hk1 hk c1 c2
    unfold rp_ov at h1
    rw [V2 b c3] at h1
    have h2 := hb3 b c1 c2 (e3 b c3).2
    have h3 := hC (k - 1) (b - 1) (by omega) (by omega)
    omega
  · intro j a b c q q1 q2
    rw [L1 j b c, O2 q j q1 q2 c]
    have := S1 j a b c q q1 q2
    omega
  · intro j a b c
    obtain ⟨g1, g2, g3⟩ := S2 j a b c
    exact Or.inr ⟨g1, g2, by rw [L1 j b c, O2 _ j g1 g2 c, g3]⟩
  · intro j a b c
    rw [b1p j c]
    rcases e5 j c with e | q
    · subst e
      rcases hcu with w | ⟨w1, w2, w3, w4, w5, w6⟩
      · omega
      · rcases t3 j a b w3 with ⟨w, -⟩ | ⟨g1, g2, g3⟩
        · omega
        · exact ⟨g1, (e4 _ g2).1, by rw [O1 _ _ g1 (e4 _ g2).1 b c, ← g3]; exact w4, by rw [rp_us, rp_un _ _ (e4 _ g2).2]; exact t5 _ g1 g2⟩
    · obtain ⟨g1, g2, g3, g4⟩ := t4 j a b q
      exact ⟨g1, (e4 _ g2).1, by rw [O1 _ _ g1 (e4 _ g2).1 b c]; exact g3, by rw [rp_un _ _ (e4 _ g2).2, rp_un _ _ (e4 j q).2]; exact g4⟩
  · intro j a c
    rcases e5 j c with e | q
    · rw [e, rp_us]; omega
    · rw [rp_un _ _ (e4 j q).2]; have := t5 j a q; omega
  · rw [hcp, hc]
  · exact Or.inr ⟨c1, c2, c3, by rw [L1 b c2 c3, hd]; omega, by omega, e0⟩
  · intro j a b c
    rw [V2 j c]
    exact hb3 j a b (e3 j c).2
theorem rp_HI_lt {C : Nat → Nat → Nat} {k s tk : Nat} {u v : Nat → Int} {ho be : Nat → Nat} {sl : Nat → Int} {se : Nat → Bool} {ta : Nat → Nat} (hk : k < 6) (h : rp_HI C k s tk u v ho be sl se ta) : s < 6 := by
  obtain ⟨hO, -, ⟨t1, -⟩, hc, -, -⟩ := h
  rcases Nat.lt_or_ge s 6 with q | q
  · exact q
  · obtain ⟨f, f1, f2, f3⟩ := rp_HO_free hk hO
    exact absurd f3 (t1 f f2 (rp_cn_all (by omega) f f2))
/-- the way back: tk is the task to be given away -/
def rp_FI (C : Nat → Nat → Nat) (k : Nat) (u v : Nat → Int) (ho be : Nat → Nat) (se : Nat → Bool) (ta : Nat → Nat) (n tk : Nat) (hp : Nat → Nat) : Prop :=
  tk < 6 ∧ (∀ j, 1 ≤ j → j < 6 → j ≠ tk → hp j ≠ 0 → rp_ov C u v (hp j) j = 0) ∧ (∀ j, j < 6 → j ≠ tk → hp j ≤ k) ∧
  (∀ i j, i < 6 → j < 6 → i ≠ tk → j ≠ tk → hp i = hp j → hp i ≠ 0 → i = j) ∧ (∀ w, 1 ≤ w → w ≤ k → ∃ j, j < 6 ∧ j ≠ tk ∧ hp j = w) ∧
  (∀ j, j < 6 → se j = true → ta j < ta tk → hp j = ho j) ∧
  (tk ≠ 0 → be tk < 6 ∧ se (be tk) = true ∧ rp_ov C u v (ho (be tk)) tk = 0 ∧ ta (be tk) < ta tk) ∧
  (∀ j, 1 ≤ j → j < 6 → se j = true → be j < 6 ∧ se (be j) = true ∧ rp_ov C u v (ho (be j)) j = 0 ∧ ta (be j) < ta j) ∧ n + ta tk ≤ 5
theorem rp_FI_0 {C : Nat → Nat → Nat} {k s tk : Nat} {u v : Nat → Int} {ho be : Nat → Nat} {sl : Nat → Int} {se : Nat → Bool} {ta : Nat → Nat} (hk1 : 1 ≤ k) (hk : k < 6) (h : rp_HI C k s tk u v ho be sl se ta) (hz : ho tk = 0) : rp_FI C k u v ho be se (va_up ta tk s) 0 tk ho := by
  have hs := rp_HI_lt hk h
  obtain ⟨hO, ⟨u1, u2, -⟩, ⟨t1, t2, t3, t4, t5⟩, hc, hcu, hb3⟩ := h
  have hcu : 1 ≤ tk ∧ tk < 6 ∧ se tk = false ∧ sl tk = 0 ∧ 1 ≤ s ∧ se 0 = true := by
    rcases hcu with ⟨q, -⟩ | q
    · rw [q, hO.1] at hz; omega
    · exact q
  obtain ⟨w1, w2, w3, w4, w5, w6⟩ := hcu
  have ne : ∀ j, se j = true → j ≠ tk := fun j q e => by rw [e, w3] at q; cases q
  refine ⟨w2, fun j a b _ c => u2 j a b c, fun j a _ => rp_HO_le hO a, fun i j a b _ _ e q => hO.2.2.1 i j a b e q, fun w a b => ?_, fun j a b _ => rfl, fun _ => ?_, fun j a b c => ?_, by rw [rp_us]; omega⟩
  · obtain ⟨j, j1, j2⟩ := hO.2.2.2 w a b
    exact ⟨j, j1, fun e => by rw [e, hz] at j2; omega, j2⟩
  · rcases t3 tk w1 w2 w3 with ⟨w, -⟩ | ⟨g1, g2, g3⟩
    · omega
    · exact ⟨g1, g2, by rw [← g3]; exact w4, by rw [rp_us, rp_un _ _ (ne _ g2)]; exact t5 _ g1 g2⟩
  · obtain ⟨g1, g2, g3, g4⟩ := t4 j a b c
    exact ⟨g1, g2, g3, by rw [rp_un _ _ (ne _ g2), rp_un _ _ (ne _ c)]; exact g4⟩
theorem rp_FI_step {C : Nat → Nat → Nat} {k n tk : Nat} {u v : Nat → Int} {ho be hp : Nat → Nat} {se : Nat → Bool} {ta : Nat → Nat} (h : rp_FI C k u v ho be se ta n tk hp) (hne : tk ≠ 0) : rp_FI C k u v ho be se ta (n + 1) (be tk) (va_up hp tk (hp (be tk))) := by
  obtain ⟨h1, h2, h3, h4, h5, h6, h7, h8, h9⟩ := h
  obtain ⟨g1, g2, g3, g4⟩ := h7 hne
  have nb : be tk ≠ tk := fun e => by rw [e] at g4; omega
  have hb := h6 _ g1 g2 g4
  have hN : ∀ j, j ≠ tk → va_up hp tk (hp (be tk)) j = hp j := fun j a => rp_un _ _ a
  have hT : va_up hp tk (hp (be tk)) tk = hp (be tk) := rp_us _ _ _
  refine ⟨g1, fun j a b c e => ?_, fun j a b => ?_, fun i j a b c d e f => ?_, fun w a b => ?_, fun j a b c => ?_, fun q => h8 _ (by omega) g1 g2, h8, by omega⟩
  · by_cases q : j = tk
    · subst q; rw [hT, hb]; exact g3
    · rw [hN j q] at e ⊢; exact h2 j a b q e
  · by_cases q : j = tk
    · subst q; rw [hT]; exact h3 _ g1 nb
    · rw [hN j q]; exact h3 j a q
  · by_cases q : i = tk
    · by_cases r : j = tk
      · omega
      · subst q
        rw [hT, hN j r] at e
        rw [hT] at f
        exact absurd (h4 _ j g1 b nb r e f).symm d
    · by_cases r : j = tk
      · subst r
        rw [hN i q, hT] at e
        rw [hN i q] at f
        exact absurd (h4 i _ a g1 q nb e f) c
      · rw [hN i q, hN j r] at e
        rw [hN i q] at f
        exact h4 i j a b q r e f
  · obtain ⟨j, j1, j2, j3⟩ := h5 w a b
    by_cases q : j = be tk
    · exact ⟨tk, h1, fun e => nb e.symm, by rw [hT, ← q]; exact j3⟩
    · exact ⟨j, j1, q, by rw [hN j j2]; exact j3⟩
  · rw [hN j (fun e => by rw [e] at c; omega)]
    exact h6 j a b (by omega)
theorem rp_FI_end {C : Nat → Nat → Nat} {k s n tk : Nat} {u v : Nat → Int} {ho be hp : Nat → Nat} {sl : Nat → Int} {se : Nat → Bool} {ta tb : Nat → Nat} (hk1 : 1 ≤ k) (hk : k < 6) (h : rp_HI C k s tk u v ho be sl se ta) (hf : rp_FI C k u v ho be se tb n 0 hp) : rp_HP C (k + 1) u v hp := by
  obtain ⟨hO, ⟨u1, u2, u3, u4, u5, u6⟩, -⟩ := h
  obtain ⟨h1, h2, h3, h4, h5, h6, h7, h8, h9⟩ := hf
  have hbd := rp_bd_in hk1 hk
  refine ⟨u1, fun j a b c => h2 j a b (by omega) c, fun j a b => ?_, fun i j a b c d e f => h4 i j b d (by omega) (by omega) e f, fun w a b => ?_, fun i a b => u3 i (by omega) b, fun i a b => ?_, fun j a b => ?_⟩
  · have := h3 j b (by omega); omega
  · obtain ⟨j, j1, j2, j3⟩ := h5 w a (by omega)
    exact ⟨j, by omega, j1, j3⟩
  · have := u4 i a b; omega
  · have := u5 j a b; omega
end
section
/-! bringIn -/
set_option maxRecDepth 100000
set_option maxHeartbeats 4000000 in
/-- bringIn(k0): worker k0 gets a task -/
theorem metX0_bringIn (l : Launch) (dC : Nat → ClassId) (dI : Nat → Nat → Nat) (h0 : Nat) (ad : Nat → Nat) (dA : Nat → ClassId) (sz : Nat) (pr : Nat → Nat) (ba : Nat → Bool) (st : Bool) (en : Bool) (fo : Nat) (pl : Nat → Nat) (pa : Nat) (wa : Nat → Bool) (fx : Nat → Nat) (wo : Nat → Nat) (ch : Nat → Nat) (fw : Nat) (wt : Nat) (fp : Nat) (pw : Nat) (pt : Nat) (u : Nat → Int) (v : Nat → Int) (ho : Nat → Nat) (be : Nat → Nat) (sl : Nat → Int) (se : Nat → Bool) (k0 : Nat) (hpr : ∀ j, j < 25 → pr j < 100) (hfw : fw < 6) (hwt : wt < 32) (hfp : fp < 3125) (hpw : pw < 6) (hpt : pt < 5) (hk1 : 1 ≤ k0) (hk : k0 < 6) (hHP : rp_HP (rp_C pr ba fw wt fp pw pt) k0 u v ho) : Met l yX0_bringIn (ws_ yX0_bringIn cX0_bringIn 5 none) (rp_rm 4 92) (rp_Pc dC dI [.ref h0, .int (nI k0)] sz (rp_xw h0 ad dA pr ba st en fo pl pa wa fx wo ch fw wt fp pw pt u v ho be sl se) (rp_xk dA)) (va_Qv (fun (z : rp_Sc) => rp_HP (rp_C pr ba fw wt fp pw pt) (k0 + 1) z.1 z.2.1 z.2.2.1) (fun z t => rp_Bc dC dI (va_A (rp_xw h0 ad dA pr ba st en fo pl pa wa fx wo ch fw wt fp pw pt u v ho be sl se) sz) (rp_xw h0 ad dA pr ba st en fo pl pa wa fx wo ch fw wt fp pw pt z.1 z.2.1 z.2.2.1 z.2.2.2.1 z.2.2.2.2.1 z.2.2.2.2.2) (rp_xk dA) t) (va_A (rp_xw h0 ad dA pr ba st en fo pl pa wa fx wo ch fw wt fp pw pt u v ho be sl se) sz)) 0 0 (va_A (rp_xw h0 ad dA pr ba st en fo pl pa wa fx wo ch fw wt fp pw pt u v ho be sl se) sz) := by
  refine Met.ofW (cc := cX0_bringIn) (maxL := 5) (ret := none) (by decide) rfl ?_
  intro p e s m args below meth c s₁ B hml hv
  obtain ⟨rfl, hsz, hP, hK, hD0⟩ := hv
  have hx := B.exec
  have hb := B.bytes
  have hr := B.returns
  have hts := atoms_spec (ws := (ws_ yX0_bringIn cX0_bringIn 5 none)) B.pre
  have hts : ∀ w ∈ lw_all, w.before _ s = true := fun w h => hts w (List.mem_cons_of_mem _ h)
  have hown : s.vm.findClass RX0 = some m.cls := findClass_of_methodNamed B.named
  have hlocks := B.notSynchronized
  subst hsz
  have hD := hD0.self (sz := s.heap.size)
  generalize hAe : va_A (rp_xw h0 ad dA pr ba st en fo pl pa wa fx wo ch fw wt fp pw pt u v ho be sl se) s.heap.size = A at hD ⊢
  have hA : ∀ q : Nat, s.heap.size ≤ q → A q := fun q h => by rw [← hAe]; exact Or.inr h
  have hS : va_S A s.heap s.heap [] := va_S.rf
  have hP : va_P (dC, dI) rp_cl (rp_xw h0 ad dA pr ba st en fo pl pa wa fx wo ch fw wt fp pw pt u v ho be sl se) s.heap := hP
  have hl := lv_entry ([.ref h0, .int (nI k0)]) (n := 5) (Nat.le_of_ble_eq_true rfl)
  rw [lg_entry_eq]
  generalize (lg_sl ([.ref h0, .int (nI k0)]) ++ List.replicate (5 - (lg_sl ([.ref h0, .int (nI k0)])).length) Slot.unset).toArray = ls at hl ⊢
  have hl : lv_has ls 5 [(0, .ref h0), (1, .int (nI k0))] := hl
  have hC := rp_C_le (ba := ba) (fw := fw) (wt := wt) (fp := fp) (pw := pw) (pt := pt) hpr
  have L48 : ∀ (n : Nat) (k tk : Nat) (u1 v1 : Nat → Int) (be1 : Nat → Nat) (sl1 : Nat → Int) (se1 : Nat → Bool) (ta : Nat → Nat), (6 - k < n) → (rp_HI (rp_C pr ba fw wt fp pw pt) k0 k tk u1 v1 (va_up ho 0 k0) be1 sl1 se1 ta) → ∀ (H : Heap) (locs : List Loc), va_P (dC, dI) rp_cl (rp_xw h0 ad dA pr ba st en fo pl pa wa fx wo ch fw wt fp pw pt u1 v1 (va_up ho 0 k0) be1 sl1 se1) H → va_D A (rp_xw h0 ad dA pr ba st en fo pl pa wa fx wo ch fw wt fp pw pt u1 v1 (va_up ho 0 k0) be1 sl1 se1) → va_S A s.heap H locs → ∀ (ls : Array Slot), lv_has ls 5 [(3, .int (nI k)), (2, .int (nI tk)), (1, .int (nI k0)), (0, .ref h0)] → W p l e (headSpec (ws_ yX0_bringIn cX0_bringIn 5 none) (rp_rm 4 92)).room s m ([.ref h0, .int (nI k0)] : List Value).toArray below meth c H locs 0 0 (MQ below (va_Qv (fun (z : rp_Sc) => rp_HP (rp_C pr ba fw wt fp pw pt) (k0 + 1) z.1 z.2.1 z.2.2.1) (fun z t => rp_Bc dC dI A (rp_xw h0 ad dA pr ba st en fo pl pa wa fx wo ch fw wt fp pw pt z.1 z.2.1 z.2.2.1 z.2.2.2.1 z.2.2.2.2.1 z.2.2.2.2.2) (rp_xk dA) t) A) ([.ref h0, .int (nI k0)] : List Value).toArray s 0 0 A) (F0 m 48 ls []) := by
    intro n
    induction n with
    | zero =>
      intro k tk u1 v1 be1 sl1 se1 ta hn hI
      exact absurd hn (by omega)
    | succ n ih =>
      intro k tk u1 v1 be1 sl1 se1 ta hn hI H locs hP hD hS ls hl
      have hlt := rp_HI_lt hk hI
      have htk : tk < 6 := by rcases hI.2.2.2.2.1 with q | q <;> omega
      have hoo := rp_HO_le hI.1 htk
      refine lv_iload_n hx hb dX0_bringIn_48 rfl (lv_at hl 0 rfl) ?_
      refine lv_bipush (v := nI 6) hx hb dX0_bringIn_49 (by decide) ?_
      refine rp_icge (tgt := 82) hx hb (by omega) (by omega) dX0_bringIn_51 (by decide) (fun c_51 => ?_) (fun c_51 => ?_)
      · exact absurd c_51 (by omega)
      · refine lv_aload_n hx hb dX0_bringIn_54 rfl (lv_at hl 3 rfl) ?_
        refine va_get (D := (dC, dI)) (ci := 0) (v := .ref (ad 18)) (C := RX0) (T := TX0) (N := 22) hx hb hts in_X0 hown hK hP 0 rfl rfl 18 (by decide) (hts _ q40) (fun _ h9 => h9) rfl dX0_bringIn_55 ?_
        refine lv_iload_n hx hb dX0_bringIn_58 rfl (lv_at hl 1 rfl) ?_
        refine rp_iald nI (va_up ho 0 k0) hx hb hK hP 10 9 rfl rfl (i := tk) (by omega) (by decide) dX0_bringIn_59 ?_
        refine rp_zeq (tgt := 82) hx hb (by omega) dX0_bringIn_60 (by decide) (fun c_60 => ?_) (fun c_60 => ?_)
        · refine lv_iconst (v := nI 0) hx hb dX0_bringIn_82 (by decide) ?_
          refine lv_istore_n (lv' := [(3, .int (nI 0)), (2, .int (nI tk)), (1, .int (nI k0)), (0, .ref h0)]) hx hb dX0_bringIn_83 rfl hl (by decide) rfl (fun ls hl => ?_)
          have L84 : ∀ (n : Nat) (k2 tk2 : Nat) (hp : Nat → Nat), (6 - k2 < n) → (rp_FI (rp_C pr ba fw wt fp pw pt) k0 u1 v1 (va_up ho 0 k0) be1 se1 (va_up ta tk k) k2 tk2 hp) → ∀ (H : Heap) (locs : List Loc), va_P (dC, dI) rp_cl (rp_xw h0 ad dA pr ba st en fo pl pa wa fx wo ch fw wt fp pw pt u1 v1 hp be1 sl1 se1) H → va_D A (rp_xw h0 ad dA pr ba st en fo pl pa wa fx wo ch fw wt fp pw pt u1 v1 hp be1 sl1 se1) → va_S A s.heap H locs → ∀ (ls : Array Slot), lv_has ls 5 [(3, .int (nI k2)), (2, .int (nI tk2)), (1, .int (nI k0)), (0, .ref h0)] → W p l e (headSpec (ws_ yX0_bringIn cX0_bringIn 5 none) (rp_rm 4 92)).room s m ([.ref h0, .int (nI k0)] : List Value).toArray below meth c H locs 0 0 (MQ below (va_Qv (fun (z : rp_Sc) => rp_HP (rp_C pr ba fw wt fp pw pt) (k0 + 1) z.1 z.2.1 z.2.2.1) (fun z t => rp_Bc dC dI A (rp_xw h0 ad dA pr ba st en fo pl pa wa fx wo ch fw wt fp pw pt z.1 z.2.1 z.2.2.1 z.2.2.2.1 z.2.2.2.2.1 z.2.2.2.2.2) (rp_xk dA) t) A) ([.ref h0, .int (nI k0)] : List Value).toArray s 0 0 A) (F0 m 84 ls []) := by
            intro n
            induction n with
            | zero =>
              intro k2 tk2 hp hn2 hF
              exact absurd hn2 (by omega)
            | succ n ih =>
              intro k2 tk2 hp hn2 hF H locs hP hD hS ls hl
              have htk2 : tk2 < 6 := hF.1
              have hk2 : k2 ≤ 5 := by have := hF.2.2.2.2.2.2.2.2; omega
              refine lv_iload_n hx hb dX0_bringIn_84 rfl (lv_at hl 0 rfl) ?_
              refine lv_bipush (v := nI 6) hx hb dX0_bringIn_85 (by decide) ?_
              refine rp_icge (tgt := 124) hx hb (by omega) (by omega) dX0_bringIn_87 (by decide) (fun c_87 => ?_) (fun c_87 => ?_)
              · exact absurd c_87 (by omega)
              · refine lv_iload_n hx hb dX0_bringIn_90 rfl (lv_at hl 1 rfl) ?_
                refine rp_zeq (tgt := 124) hx hb (by omega) dX0_bringIn_91 (by decide) (fun c_91 => ?_) (fun c_91 => ?_)
                · rw [c_91] at hF
                  exact W.vret hx hb hr (fun t ht hW => ⟨⟨(u1, v1, hp, be1, sl1, se1), rfl, rp_FI_end hk1 hk hI hF, by rw [ht]; exact hP, va_K.moved hW.alike hK, hD⟩, hS.F ht⟩) hS.2.2 dX0_bringIn_124
                · have hbe := (hF.2.2.2.2.2.2.1 c_91).1
                  refine lv_aload_n hx hb dX0_bringIn_94 rfl (lv_at hl 3 rfl) ?_
                  refine va_get (D := (dC, dI)) (ci := 0) (v := .ref (ad 19)) (C := RX0) (T := TX0) (N := 22) hx hb hts in_X0 hown hK hP 0 rfl rfl 19 (by decide) (hts _ q41) (fun _ h9 => h9) rfl dX0_bringIn_95 ?_
                  refine lv_iload_n hx hb dX0_bringIn_98 rfl (lv_at hl 1 rfl) ?_
                  refine rp_iald nI be1 hx hb hK hP 11 10 rfl rfl (i := tk2) (by omega) (by decide) dX0_bringIn_99 ?_
                  refine lv_istore (lv' := [(4, .int (nI (be1 tk2))), (3, .int (nI k2)), (2, .int (nI tk2)), (1, .int (nI k0)), (0, .ref h0)]) hx hb dX0_bringIn_100 hl (by decide) rfl (fun ls hl => ?_)
                  refine lv_aload_n hx hb dX0_bringIn_102 rfl (lv_at hl 4 rfl) ?_
                  refine va_get (D := (dC, dI)) (ci := 0) (v := .ref (ad 18)) (C := RX0) (T := TX0) (N := 22) hx hb hts in_X0 hown hK hP 0 rfl rfl 18 (by decide) (hts _ q40) (fun _ h9 => h9) rfl dX0_bringIn_103 ?_
                  refine lv_iload_n hx hb dX0_bringIn_106 rfl (lv_at hl 2 rfl) ?_
                  refine lv_aload_n hx hb dX0_bringIn_107 rfl (lv_at hl 4 rfl) ?_
                  refine va_get (D := (dC, dI)) (ci := 0) (v := .ref (ad 18)) (C := RX0) (T := TX0) (N := 22) hx hb hts in_X0 hown hK hP 0 rfl rfl 18 (by decide) (hts _ q40) (fun _ h9 => h9) rfl dX0_bringIn_108 ?_
                  refine lv_iload hx hb dX0_bringIn_111 (lv_at hl 0 rfl) ?_
                  refine rp_iald nI hp hx hb hK hP 10 9 rfl rfl (i := be1 tk2) hbe (by decide) dX0_bringIn_113 ?_
                  refine rp_iast nI hp (hp (be1 tk2)) hx hb hK hP hD hS 10 9 rfl rfl (i := tk2) (by omega) (by decide) dX0_bringIn_114 (fun H locs hP hD hS => ?_)
                  have hP : va_P (dC, dI) rp_cl (rp_xw h0 ad dA pr ba st en fo pl pa wa fx wo ch fw wt fp pw pt u1 v1 (va_up hp tk2 (hp (be1 tk2))) be1 sl1 se1) H := hP
                  have hD : va_D A (rp_xw h0 ad dA pr ba st en fo pl pa wa fx wo ch fw wt fp pw pt u1 v1 (va_up hp tk2 (hp (be1 tk2))) be1 sl1 se1) := hD
                  refine lv_iload hx hb dX0_bringIn_115 (lv_at hl 0 rfl) ?_
                  refine lv_istore_n (lv' := [(2, .int (nI (be1 tk2))), (4, .int (nI (be1 tk2))), (3, .int (nI k2)), (1, .int (nI k0)), (0, .ref h0)]) hx hb dX0_bringIn_117 rfl hl (by decide) rfl (fun ls hl => ?_)
                  refine lv_iinc (v := nI (k2 + 1)) (lv' := [(3, .int (nI (k2 + 1))), (2, .int (nI (be1 tk2))), (4, .int (nI (be1 tk2))), (1, .int (nI k0)), (0, .ref h0)]) hx hb dX0_bringIn_118 hl (k := 2) rfl (by exact nI_1 _) (by decide) rfl (fun ls hl => ?_)
                  refine lv_goto (tgt := 84) hx hb dX0_bringIn_121 (by decide) ?_
                  exact ih (k2 + 1) (be1 tk2) (va_up hp tk2 (hp (be1 tk2))) (by omega) (rp_FI_step hF c_91) _ _ hP hD hS ls (lv_sub hl [0, 1, 3, 4] rfl)
          exact L84 7 0 tk (va_up ho 0 k0) (by omega) (rp_FI_0 hk1 hk hI c_60) _ _ hP hD hS ls (lv_sub hl [0, 1, 2, 3] rfl)
        · have hpre := rp_HI_pre hC hk1 hk hI c_60
          have hbd2 : ∀ j, 1 ≤ j → j < 6 → va_up se1 tk true j = false → -2 ^ 62 ≤ sl1 j ∧ sl1 j ≤ 2 ^ 62 ∧ -2 ^ 62 ≤ rp_ov (rp_C pr ba fw wt fp pw pt) u1 v1 (va_up ho 0 k0 tk) j ∧ rp_ov (rp_C pr ba fw wt fp pw pt) u1 v1 (va_up ho 0 k0 tk) j ≤ 2 ^ 62 := by
            intro j h1 h2 h3
            have hj : j ≠ tk := fun e => by rw [e, rp_us] at h3; cases h3
            rw [rp_un _ _ hj] at h3
            have := hpre.2.2 j h1 h2 h3
            omega
          refine lv_aload_n hx hb dX0_bringIn_63 rfl (lv_at hl 3 rfl) ?_
          refine va_get (D := (dC, dI)) (ci := 0) (v := .ref (ad 21)) (C := RX0) (T := TX0) (N := 22) hx hb hts in_X0 hown hK hP 0 rfl rfl 21 (by decide) (hts _ q43) (fun _ h9 => h9) rfl dX0_bringIn_64 ?_
          refine lv_iload_n hx hb dX0_bringIn_67 rfl (lv_at hl 1 rfl) ?_
          refine lv_iconst (v := rp_B true) hx hb dX0_bringIn_68 (by decide) ?_
          refine rp_zast se1 true hx hb hK hP hD hS 13 12 rfl rfl (i := tk) (by omega) (by decide) dX0_bringIn_69 (fun H locs hP hD hS => ?_)
          have hP : va_P (dC, dI) rp_cl (rp_xw h0 ad dA pr ba st en fo pl pa wa fx wo ch fw wt fp pw pt u1 v1 (va_up ho 0 k0) be1 sl1 (va_up se1 tk true)) H := hP
          have hD : va_D A (rp_xw h0 ad dA pr ba st en fo pl pa wa fx wo ch fw wt fp pw pt u1 v1 (va_up ho 0 k0) be1 sl1 (va_up se1 tk true)) := hD
          refine lv_aload_n hx hb dX0_bringIn_70 rfl (lv_at hl 3 rfl) ?_
          refine lv_iload_n hx hb dX0_bringIn_71 rfl (lv_at hl 1 rfl) ?_
          have hFc := va_free (wc := rp_xw h0 ad dA pr ba st en fo pl pa wa fx wo ch fw wt fp pw pt u1 v1 (va_up ho 0 k0) be1 sl1 (va_up se1 tk true)) hD hS hA [0, 1, 2, 3, 4, 5, 6, 7, 8, 9, 10, 11, 12, 13] rfl
          refine va_calli (va_runV (As := [.int (nI tk)]) (rest := []) ⟨hx, hb, hml, hown, hts⟩ (metX0_nextTask l dC dI h0 ad dA H.size pr ba st en fo pl pa wa fx wo ch fw wt fp pw pt u1 v1 (va_up ho 0 k0) be1 sl1 (va_up se1 tk true) tk hpr hfw hwt hfp hpw hpt htk (by omega) hpre.2.1 hbd2) (cwV 1 hts (lw_V q128 q130 qs5 q12 q131) rfl rfl rfl (by decide +kernel) ⟨Nat.le_of_ble_eq_true rfl, Nat.le_of_ble_eq_true rfl⟩) ⟨fun a U g mk q => by obtain ⟨q0, q1, qP, qK, qD⟩ := q; exact ⟨q0, q1, qP, va_K.moved (u := U) (U := U.calling g mk a) (Vm.Alike.refl U.vm) qK, qD⟩, va_recv hK hP (ci := 0) (q0 := 0) rfl rfl, fun U hU hW => ⟨rfl, by rw [hU], by rw [hU]; exact hP, va_K.moved hW.alike hK, hD.weaken (fun _ _ _ _ => trivial)⟩⟩ rfl rfl hl.1 rfl (lv_room (Nat.le_of_ble_eq_true rfl)) dX0_bringIn_72 ⟨Nat.le_of_ble_eq_true rfl, Nat.le_of_ble_eq_true rfl⟩) hS (fun q _ h => hFc q h) hFc (fun r u_ t H1 locs ht hvm hw hB hz1 hk1 hS => ?_)
          obtain ⟨hP1, hK1, hD1⟩ := hB
          rw [ht] at hP1
          have hD := hD1.weaken (fun k q _ h => hFc q.1 h)
          have hP := hP1
          obtain ⟨hr9, hbi⟩ := hw
          subst hr9
          clear hFc hK1 hz1 hk1 hD1 hP1 ht hvm
          generalize H1 = H at hP hS ⊢
          have hP : va_P (dC, dI) rp_cl (rp_xw h0 ad dA pr ba st en fo pl pa wa fx wo ch fw wt fp pw pt (rp_u3 (va_up ho 0 k0) (va_up se1 tk true) (rp_s1 (rp_C pr ba fw wt fp pw pt) u1 v1 (va_up ho 0 k0 tk) (va_up se1 tk true) sl1 6 u_) u1 6) (rp_v3 (va_up se1 tk true) (rp_s1 (rp_C pr ba fw wt fp pw pt) u1 v1 (va_up ho 0 k0 tk) (va_up se1 tk true) sl1 6 u_) v1 6) (va_up ho 0 k0) (rp_b1 (rp_C pr ba fw wt fp pw pt) u1 v1 (va_up ho 0 k0 tk) (va_up se1 tk true) sl1 be1 tk 6) (rp_s3 (va_up se1 tk true) (rp_s1 (rp_C pr ba fw wt fp pw pt) u1 v1 (va_up ho 0 k0 tk) (va_up se1 tk true) sl1 6 u_) (rp_s1 (rp_C pr ba fw wt fp pw pt) u1 v1 (va_up ho 0 k0 tk) (va_up se1 tk true) sl1 6) 6) (va_up se1 tk true)) H := hP
          have hD : va_D A (rp_xw h0 ad dA pr ba st en fo pl pa wa fx wo ch fw wt fp pw pt (rp_u3 (va_up ho 0 k0) (va_up se1 tk true) (rp_s1 (rp_C pr ba fw wt fp pw pt) u1 v1 (va_up ho 0 k0 tk) (va_up se1 tk true) sl1 6 u_) u1 6) (rp_v3 (va_up se1 tk true) (rp_s1 (rp_C pr ba fw wt fp pw pt) u1 v1 (va_up ho 0 k0 tk) (va_up se1 tk true) sl1 6 u_) v1 6) (va_up ho 0 k0) (rp_b1 (rp_C pr ba fw wt fp pw pt) u1 v1 (va_up ho 0 k0 tk) (va_up se1 tk true) sl1 be1 tk 6) (rp_s3 (va_up se1 tk true) (rp_s1 (rp_C pr ba fw wt fp pw pt) u1 v1 (va_up ho 0 k0 tk) (va_up se1 tk true) sl1 6 u_) (rp_s1 (rp_C pr ba fw wt fp pw pt) u1 v1 (va_up ho 0 k0 tk) (va_up se1 tk true) sl1 6) 6) (va_up se1 tk true)) := hD
          refine lv_istore_n (lv' := [(2, .int (nI u_)), (3, .int (nI k)), (1, .int (nI k0)), (0, .ref h0)]) hx hb dX0_bringIn_75 rfl hl (by decide) rfl (fun ls hl => ?_)
          refine lv_iinc (v := nI (k + 1)) (lv' := [(3, .int (nI (k + 1))), (2, .int (nI u_)), (1, .int (nI k0)), (0, .ref h0)]) hx hb dX0_bringIn_76 hl (k := 1) rfl (by exact nI_1 _) (by decide) rfl (fun ls hl => ?_)
          refine lv_goto (tgt := 48) hx hb dX0_bringIn_79 (by decide) ?_
          exact ih (k + 1) u_ (rp_u3 (va_up ho 0 k0) (va_up se1 tk true) (rp_s1 (rp_C pr ba fw wt fp pw pt) u1 v1 (va_up ho 0 k0 tk) (va_up se1 tk true) sl1 6 u_) u1 6) (rp_v3 (va_up se1 tk true) (rp_s1 (rp_C pr ba fw wt fp pw pt) u1 v1 (va_up ho 0 k0 tk) (va_up se1 tk true) sl1 6 u_) v1 6) (rp_b1 (rp_C pr ba fw wt fp pw pt) u1 v1 (va_up ho 0 k0 tk) (va_up se1 tk true) sl1 be1 tk 6) (rp_s3 (va_up se1 tk true) (rp_s1 (rp_C pr ba fw wt fp pw pt) u1 v1 (va_up ho 0 k0 tk) (va_up se1 tk true) sl1 6 u_) (rp_s1 (rp_C pr ba fw wt fp pw pt) u1 v1 (va_up ho 0 k0 tk) (va_up se1 tk true) sl1 6) 6) (va_up se1 tk true) (va_up ta tk k) (by omega) (rp_HI_step hC hk1 hk hI c_60 hbi) _ _ hP hD hS ls (lv_sub hl [0, 1, 2, 3] rfl)
  have L9 : ∀ (n : Nat) (i : Nat), (6 - i < n) → (i ≤ 6) → ∀ (H : Heap) (locs : List Loc), va_P (dC, dI) rp_cl (rp_xw h0 ad dA pr ba st en fo pl pa wa fx wo ch fw wt fp pw pt u v (va_up ho 0 k0) (rp_fl be 0 i) (rp_fl sl 100000000000 i) (rp_fl se false i)) H → va_D A (rp_xw h0 ad dA pr ba st en fo pl pa wa fx wo ch fw wt fp pw pt u v (va_up ho 0 k0) (rp_fl be 0 i) (rp_fl sl 100000000000 i) (rp_fl se false i)) → va_S A s.heap H locs → ∀ (ls : Array Slot), lv_has ls 5 [(2, .int (nI i)), (1, .int (nI k0)), (0, .ref h0)] → W p l e (headSpec (ws_ yX0_bringIn cX0_bringIn 5 none) (rp_rm 4 92)).room s m ([.ref h0, .int (nI k0)] : List Value).toArray below meth c H locs 0 0 (MQ below (va_Qv (fun (z : rp_Sc) => rp_HP (rp_C pr ba fw wt fp pw pt) (k0 + 1) z.1 z.2.1 z.2.2.1) (fun z t => rp_Bc dC dI A (rp_xw h0 ad dA pr ba st en fo pl pa wa fx wo ch fw wt fp pw pt z.1 z.2.1 z.2.2.1 z.2.2.2.1 z.2.2.2.2.1 z.2.2.2.2.2) (rp_xk dA) t) A) ([.ref h0, .int (nI k0)] : List Value).toArray s 0 0 A) (F0 m 9 ls []) := by
    intro n
    induction n with
    | zero =>
      intro i hn hi
      exact absurd hn (by omega)
    | succ n ih =>
      intro i hn hi H locs hP hD hS ls hl
      refine lv_iload_n hx hb dX0_bringIn_9 rfl (lv_at hl 0 rfl) ?_
      refine lv_bipush (v := nI 6) hx hb dX0_bringIn_10 (by decide) ?_
      refine rp_icge (tgt := 44) hx hb (by omega) (by omega) dX0_bringIn_12 (by decide) (fun c_12 => ?_) (fun c_12 => ?_)
      · have e6 : i = 6 := by omega
        subst e6
        refine lv_iconst (v := nI 0) hx hb dX0_bringIn_44 (by decide) ?_
        refine lv_istore_n (lv' := [(2, .int (nI 0)), (1, .int (nI k0)), (0, .ref h0)]) hx hb dX0_bringIn_45 rfl hl (by decide) rfl (fun ls hl => ?_)
        refine lv_iconst (v := nI 0) hx hb dX0_bringIn_46 (by decide) ?_
        refine lv_istore_n (lv' := [(3, .int (nI 0)), (2, .int (nI 0)), (1, .int (nI k0)), (0, .ref h0)]) hx hb dX0_bringIn_47 rfl hl (by decide) rfl (fun ls hl => ?_)
        have hI := rp_HI_0 (be := rp_fl be 0 6) hk1 hk hHP (se := rp_fl se false 6) (sl := rp_fl sl 100000000000 6) (fun j h => rp_fl_in _ _ h) (fun j h => rp_fl_in _ _ h)
        exact L48 7 0 0 u v (rp_fl be 0 6) (rp_fl sl 100000000000 6) (rp_fl se false 6) (fun _ => 0) (by omega) hI _ _ hP hD hS ls (lv_sub hl [0, 1, 2, 3] rfl)
      · refine lv_aload_n hx hb dX0_bringIn_15 rfl (lv_at hl 2 rfl) ?_
        refine va_get (D := (dC, dI)) (ci := 0) (v := .ref (ad 20)) (C := RX0) (T := TX0) (N := 22) hx hb hts in_X0 hown hK hP 0 rfl rfl 20 (by decide) (hts _ q42) (fun _ h9 => h9) rfl dX0_bringIn_16 ?_
        refine lv_iload_n hx hb dX0_bringIn_19 rfl (lv_at hl 0 rfl) ?_
        refine lv_ldc2 (v := 100000000000) hx hb hown (hts _ q127) dX0_bringIn_20 ?_
        refine rp_tl (y := rp_Z 100000000000) (by decide +kernel) ?_
        refine rp_last rp_Z (rp_fl sl 100000000000 i) 100000000000 hx hb hK hP hD hS 12 11 rfl rfl (i := i) (by omega) (by decide) dX0_bringIn_23 (fun H locs hP hD hS => ?_)
        have hP : va_P (dC, dI) rp_cl (rp_xw h0 ad dA pr ba st en fo pl pa wa fx wo ch fw wt fp pw pt u v (va_up ho 0 k0) (rp_fl be 0 i) (va_up (rp_fl sl 100000000000 i) i 100000000000) (rp_fl se false i)) H := hP
        have hD : va_D A (rp_xw h0 ad dA pr ba st en fo pl pa wa fx wo ch fw wt fp pw pt u v (va_up ho 0 k0) (rp_fl be 0 i) (va_up (rp_fl sl 100000000000 i) i 100000000000) (rp_fl se false i)) := hD
        refine lv_aload_n hx hb dX0_bringIn_24 rfl (lv_at hl 2 rfl) ?_
        refine va_get (D := (dC, dI)) (ci := 0) (v := .ref (ad 21)) (C := RX0) (T := TX0) (N := 22) hx hb hts in_X0 hown hK hP 0 rfl rfl 21 (by decide) (hts _ q43) (fun _ h9 => h9) rfl dX0_bringIn_25 ?_
        refine lv_iload_n hx hb dX0_bringIn_28 rfl (lv_at hl 0 rfl) ?_
        refine lv_iconst (v := rp_B false) hx hb dX0_bringIn_29 (by decide) ?_
        refine rp_zast (rp_fl se false i) false hx hb hK hP hD hS 13 12 rfl rfl (i := i) (by omega) (by decide) dX0_bringIn_30 (fun H locs hP hD hS => ?_)
        have hP : va_P (dC, dI) rp_cl (rp_xw h0 ad dA pr ba st en fo pl pa wa fx wo ch fw wt fp pw pt u v (va_up ho 0 k0) (rp_fl be 0 i) (va_up (rp_fl sl 100000000000 i) i 100000000000) (va_up (rp_fl se false i) i false)) H := hP
        have hD : va_D A (rp_xw h0 ad dA pr ba st en fo pl pa wa fx wo ch fw wt fp pw pt u v (va_up ho 0 k0) (rp_fl be 0 i) (va_up (rp_fl sl 100000000000 i) i 100000000000) (va_up (rp_fl se false i) i false)) := hD
        refine lv_aload_n hx hb dX0_bringIn_31 rfl (lv_at hl 2 rfl) ?_
        refine va_get (D := (dC, dI)) (ci := 0) (v := .ref (ad 19)) (C := RX0) (T := TX0) (N := 22) hx hb hts in_X0 hown hK hP 0 rfl rfl 19 (by decide) (hts _ q41) (fun _ h9 => h9) rfl dX0_bringIn_32 ?_
        refine lv_iload_n hx hb dX0_bringIn_35 rfl (lv_at hl 0 rfl) ?_
        refine lv_iconst (v := nI 0) hx hb dX0_bringIn_36 (by decide) ?_
        refine rp_iast nI (rp_fl be 0 i) 0 hx hb hK hP hD hS 11 10 rfl rfl (i := i) (by omega) (by decide) dX0_bringIn_37 (fun H locs hP hD hS => ?_)
        have hP : va_P (dC, dI) rp_cl (rp_xw h0 ad dA pr ba st en fo pl pa wa fx wo ch fw wt fp pw pt u v (va_up ho 0 k0) (va_up (rp_fl be 0 i) i 0) (va_up (rp_fl sl 100000000000 i) i 100000000000) (va_up (rp_fl se false i) i false)) H := hP
        have hD : va_D A (rp_xw h0 ad dA pr ba st en fo pl pa wa fx wo ch fw wt fp pw pt u v (va_up ho 0 k0) (va_up (rp_fl be 0 i) i 0) (va_up (rp_fl sl 100000000000 i) i 100000000000) (va_up (rp_fl se false i) i false)) := hD
        rw [rp_fl_put, rp_fl_put, rp_fl_put] at hP hD
        refine lv_iinc (v := nI (i + 1)) (lv' := [(2, .int (nI (i + 1))), (1, .int (nI k0)), (0, .ref h0)]) hx hb dX0_bringIn_38 hl (k := 0) rfl (by exact nI_1 _) (by decide) rfl (fun ls hl => ?_)
        refine lv_goto (tgt := 9) hx hb dX0_bringIn_41 (by decide) ?_
        exact ih (i + 1) (by omega) (by omega) _ _ hP hD hS ls (lv_sub hl [0, 1, 2] rfl)
  refine lv_aload_n hx hb dX0_bringIn_0 rfl (lv_at hl 0 rfl) ?_
  refine va_get (D := (dC, dI)) (ci := 0) (v := .ref (ad 18)) (C := RX0) (T := TX0) (N := 22) hx hb hts in_X0 hown hK hP 0 rfl rfl 18 (by decide) (hts _ q40) (fun _ h9 => h9) rfl dX0_bringIn_1 ?_
  refine lv_iconst (v := nI 0) hx hb dX0_bringIn_4 (by decide) ?_
  refine lv_iload_n hx hb dX0_bringIn_5 rfl (lv_at hl 1 rfl) ?_
  refine rp_iast nI ho k0 hx hb hK hP hD hS 10 9 rfl rfl (i := 0) (by omega) (by decide) dX0_bringIn_6 (fun H locs hP hD hS => ?_)
  have hP : va_P (dC, dI) rp_cl (rp_xw h0 ad dA pr ba st en fo pl pa wa fx wo ch fw wt fp pw pt u v (va_up ho 0 k0) be sl se) H := hP
  have hD : va_D A (rp_xw h0 ad dA pr ba st en fo pl pa wa fx wo ch fw wt fp pw pt u v (va_up ho 0 k0) be sl se) := hD
  refine lv_iconst (v := nI 0) hx hb dX0_bringIn_7 (by decide) ?_
  refine lv_istore_n (lv' := [(2, .int (nI 0)), (0, .ref h0), (1, .int (nI k0))]) hx hb dX0_bringIn_8 rfl hl (by decide) rfl (fun ls hl => ?_)
  rw [← rp_fl_0 sl 100000000000, ← rp_fl_0 se false, ← rp_fl_0 be 0] at hP hD
  exact L9 7 0 (by omega) (by omega) _ _ hP hD hS ls (lv_sub hl [0, 2, 1] rfl)
end
section
/-! plans as numbers of five digits; the end of the Hungarian method is the cheapest plan -/
set_option maxRecDepth 100000
def rp_pm (n : Nat) : Bool := [rp_dg n 0, rp_dg n 1, rp_dg n 2, rp_dg n 3, rp_dg n 4].isPerm [0, 1, 2, 3, 4]
def rp_tot (C : Nat → Nat → Nat) (n : Nat) : Nat := C 0 (rp_dg n 0) + C 1 (rp_dg n 1) + C 2 (rp_dg n 2) + C 3 (rp_dg n 3) + C 4 (rp_dg n 4)
def rp_min (C : Nat → Nat → Nat) (mn : Nat) : Prop := (∃ n, n < 3125 ∧ rp_pm n = true ∧ mn = rp_tot C n) ∧ ∀ n, n < 3125 → rp_pm n = true → mn ≤ rp_tot C n
def rp_sm (C : Nat → Nat → Nat) (ho : Nat → Nat) : Nat → Nat
  | 0 => 0
  | 1 => 0
  | t + 2 => rp_sm C ho (t + 1) + C (ho (t + 1) - 1) t
theorem rp_sm_s {C : Nat → Nat → Nat} {ho : Nat → Nat} {t : Nat} (h : 1 ≤ t) : rp_sm C ho t + C (ho t - 1) (t - 1) = rp_sm C ho (t + 1) := by
  obtain ⟨s, rfl⟩ : ∃ s, t = s + 1 := ⟨t - 1, by omega⟩
  rfl
theorem rp_psum {α : Type} (f : α → Int) {l l' : List α} (h : l.Perm l') : (l.map f).sum = (l'.map f).sum := by
  induction h with
  | nil => rfl
  | cons x _ ih => simp [ih]
  | swap x y l => simp; omega
  | trans _ _ a b => exact a.trans b
theorem rp_psumN {α : Type} (f : α → Nat) {l l' : List α} (h : l.Perm l') : (l.map f).sum = (l'.map f).sum := by
  induction h with
  | nil => rfl
  | cons x _ ih => simp [ih]
  | swap x y l => simp; omega
  | trans _ _ a b => exact a.trans b
theorem rp_cov : ∀ a b c d e : Fin 6, ((List.range 5).all fun w => [a.val, b.val, c.val, d.val, e.val].contains (w + 1)) = true → (a.val != 0 && b.val != 0 && c.val != 0 && d.val != 0 && e.val != 0 && [a.val - 1, b.val - 1, c.val - 1, d.val - 1, e.val - 1].isPerm [0, 1, 2, 3, 4]) = true := by decide +kernel
def rp_num (a b c d e : Nat) : Nat := 0 * 5 ^ (4 - a) + 1 * 5 ^ (4 - b) + 2 * 5 ^ (4 - c) + 3 * 5 ^ (4 - d) + 4 * 5 ^ (4 - e)
def rp_prs (n : Nat) : List (Nat × Nat) := [(0, rp_dg n 0), (1, rp_dg n 1), (2, rp_dg n 2), (3, rp_dg n 3), (4, rp_dg n 4)]
theorem rp_inv : ∀ a b c d e : Fin 5, [a.val, b.val, c.val, d.val, e.val].isPerm [0, 1, 2, 3, 4] = true → (decide (rp_num a.val b.val c.val d.val e.val < 3125) && rp_pm (rp_num a.val b.val c.val d.val e.val) && [(a.val, 0), (b.val, 1), (c.val, 2), (d.val, 3), (e.val, 4)].isPerm (rp_prs (rp_num a.val b.val c.val d.val e.val))) = true := by decide +kernel
theorem rp_HP_6 {C : Nat → Nat → Nat} {u v : Nat → Int} {ho : Nat → Nat} (h : rp_HP C 6 u v ho) : (∀ j, 1 ≤ j → j < 6 → 1 ≤ ho j ∧ ho j < 6) ∧ [ho 1 - 1, ho 2 - 1, ho 3 - 1, ho 4 - 1, ho 5 - 1].isPerm [0, 1, 2, 3, 4] = true := by
  obtain ⟨h1, h2, h3, h4, h5, h6, h7, h8⟩ := h
  have g := rp_cov ⟨ho 1, h3 1 (by omega) (by omega)⟩ ⟨ho 2, h3 2 (by omega) (by omega)⟩ ⟨ho 3, h3 3 (by omega) (by omega)⟩ ⟨ho 4, h3 4 (by omega) (by omega)⟩ ⟨ho 5, h3 5 (by omega) (by omega)⟩ (by
    rw [List.all_eq_true]
    intro w hw
    rw [List.mem_range] at hw
    obtain ⟨j, j1, j2, j3⟩ := h5 (w + 1) (by omega) (by omega)
    rw [List.contains_iff_mem, ← j3]
    have : j = 1 ∨ j = 2 ∨ j = 3 ∨ j = 4 ∨ j = 5 := by omega
    rcases this with rfl | rfl | rfl | rfl | rfl <;> simp)
  simp only [Bool.and_eq_true, bne_iff_ne, ne_eq] at g
  obtain ⟨⟨⟨⟨⟨g1, g2⟩, g3⟩, g4⟩, g5⟩, g6⟩ := g
  refine ⟨fun j a b => ⟨?_, h3 j a b⟩, g6⟩
  have : j = 1 ∨ j = 2 ∨ j = 3 ∨ j = 4 ∨ j = 5 := by omega
  rcases this with rfl | rfl | rfl | rfl | rfl <;> omega
theorem rp_HP_min {C : Nat → Nat → Nat} {u v : Nat → Int} {ho : Nat → Nat} (h : rp_HP C 6 u v ho) : rp_min C (rp_sm C ho 6) := by
  obtain ⟨hr, hp⟩ := rp_HP_6 h
  obtain ⟨h1, h2, -⟩ := h
  have r1 := hr 1 (by omega) (by omega)
  have r2 := hr 2 (by omega) (by omega)
  have r3 := hr 3 (by omega) (by omega)
  have r4 := hr 4 (by omega) (by omega)
  have r5 := hr 5 (by omega) (by omega)
  have hsm : rp_sm C ho 6 = C (ho 1 - 1) 0 + C (ho 2 - 1) 1 + C (ho 3 - 1) 2 + C (ho 4 - 1) 3 + C (ho 5 - 1) 4 := by
    show 0 + C (ho 1 - 1) 0 + C (ho 2 - 1) 1 + C (ho 3 - 1) 2 + C (ho 4 - 1) 3 + C (ho 5 - 1) 4 = _
    omega
  constructor
  · have g := rp_inv ⟨ho 1 - 1, by omega⟩ ⟨ho 2 - 1, by omega⟩ ⟨ho 3 - 1, by omega⟩ ⟨ho 4 - 1, by omega⟩ ⟨ho 5 - 1, by omega⟩ hp
    simp only [Bool.and_eq_true, decide_eq_true_eq] at g
    obtain ⟨⟨g1, g2⟩, g3⟩ := g
    refine ⟨_, g1, g2, ?_⟩
    have e := rp_psumN (fun p : Nat × Nat => C p.1 p.2) (List.isPerm_iff.mp g3)
    unfold rp_prs at e
    simp only [List.map_cons, List.map_nil, List.sum_cons, List.sum_nil] at e
    rw [hsm]
    unfold rp_tot
    omega
  · intro n hn hpm
    have e1 := rp_psum (fun t : Nat => u (t + 1)) (List.isPerm_iff.mp hp)
    have e2 := rp_psum (fun t : Nat => v (t + 1)) (List.isPerm_iff.mp hpm)
    simp only [List.map_cons, List.map_nil, List.sum_cons, List.sum_nil] at e1 e2
    rw [Nat.sub_add_cancel r1.1, Nat.sub_add_cancel r2.1, Nat.sub_add_cancel r3.1, Nat.sub_add_cancel r4.1, Nat.sub_add_cancel r5.1] at e1
    have t1 := h2 1 (by omega) (by omega) (by omega)
    have t2 := h2 2 (by omega) (by omega) (by omega)
    have t3 := h2 3 (by omega) (by omega) (by omega)
    have t4 := h2 4 (by omega) (by omega) (by omega)
    have t5 := h2 5 (by omega) (by omega) (by omega)
    have f1 := h1 1 (rp_dg n 0 + 1) (by omega) (by omega) (by omega) (by have := rp_dg_lt n 0; omega)
    have f2 := h1 2 (rp_dg n 1 + 1) (by omega) (by omega) (by omega) (by have := rp_dg_lt n 1; omega)
    have f3 := h1 3 (rp_dg n 2 + 1) (by omega) (by omega) (by omega) (by have := rp_dg_lt n 2; omega)
    have f4 := h1 4 (rp_dg n 3 + 1) (by omega) (by omega) (by omega) (by have := rp_dg_lt n 3; omega)
    have f5 := h1 5 (rp_dg n 4 + 1) (by omega) (by omega) (by omega) (by have := rp_dg_lt n 4; omega)
    simp only [rp_ov, Nat.add_sub_cancel, Nat.reduceSub] at t1 t2 t3 t4 t5 f1 f2 f3 f4 f5
    rw [hsm]
    unfold rp_tot
    simp only [Nat.reduceAdd] at e1 e2
    omega
theorem rp_HP_1 {C : Nat → Nat → Nat} {u v : Nat → Int} {ho : Nat → Nat} : rp_HP C 1 (rp_fl u 0 6) (rp_fl v 0 6) (rp_fl ho 0 6) := by
  have hu : ∀ i, i < 6 → rp_fl u 0 6 i = 0 := fun i h => rp_fl_in _ _ h
  have hv : ∀ i, i < 6 → rp_fl v 0 6 i = 0 := fun i h => rp_fl_in _ _ h
  have hh : ∀ i, i < 6 → rp_fl ho 0 6 i = 0 := fun i h => rp_fl_in _ _ h
  refine ⟨fun i j a b c d => ?_, fun j a b c => absurd (hh j b) c, fun j a b => by rw [hh j b]; omega, fun i j a b c d e f => absurd (hh i b) f, fun w a b => by omega, fun i a b => hu i b, fun i a b => by rw [hu i b]; simp [rp_bd], fun j a b => by rw [hv j b]; simp [rp_bd]⟩
  unfold rp_ov
  rw [hu i b, hv j d]
  omega
end
section
/-! solve, setPart -/
set_option maxRecDepth 100000
set_option maxHeartbeats 4000000 in
/-- solve(): the cheapest plan of the part -/
theorem metX0_solve (l : Launch) (dC : Nat → ClassId) (dI : Nat → Nat → Nat) (h0 : Nat) (ad : Nat → Nat) (dA : Nat → ClassId) (sz : Nat) (pr : Nat → Nat) (ba : Nat → Bool) (st : Bool) (en : Bool) (fo : Nat) (pl : Nat → Nat) (pa : Nat) (wa : Nat → Bool) (fx : Nat → Nat) (wo : Nat → Nat) (ch : Nat → Nat) (fw : Nat) (wt : Nat) (fp : Nat) (pw : Nat) (pt : Nat) (u : Nat → Int) (v : Nat → Int) (ho : Nat → Nat) (be : Nat → Nat) (sl : Nat → Int) (se : Nat → Bool) (hpr : ∀ j, j < 25 → pr j < 100) (hfw : fw < 6) (hwt : wt < 32) (hfp : fp < 3125) (hpw : pw < 6) (hpt : pt < 5) : Met l yX0_solve (ws_ yX0_solve cX0_solve 4 (some .long)) (rp_rm 5 116) (rp_Pc dC dI [.ref h0] sz (rp_xw h0 ad dA pr ba st en fo pl pa wa fx wo ch fw wt fp pw pt u v ho be sl se) (rp_xk dA)) (va_Ql (fun (r : Int64) (z : rp_Sc) => ∃ mn, r = lN mn ∧ rp_min (rp_C pr ba fw wt fp pw pt) mn) (fun z t => rp_Bc dC dI (va_A (rp_xw h0 ad dA pr ba st en fo pl pa wa fx wo ch fw wt fp pw pt u v ho be sl se) sz) (rp_xw h0 ad dA pr ba st en fo pl pa wa fx wo ch fw wt fp pw pt z.1 z.2.1 z.2.2.1 z.2.2.2.1 z.2.2.2.2.1 z.2.2.2.2.2) (rp_xk dA) t) (va_A (rp_xw h0 ad dA pr ba st en fo pl pa wa fx wo ch fw wt fp pw pt u v ho be sl se) sz)) 0 0 (va_A (rp_xw h0 ad dA pr ba st en fo pl pa wa fx wo ch fw wt fp pw pt u v ho be sl se) sz) := by
  refine Met.ofW (cc := cX0_solve) (maxL := 4) (ret := (some .long)) (by decide) rfl ?_
  intro p e s m args below meth c s₁ B hml hv
  obtain ⟨rfl, hsz, hP, hK, hD0⟩ := hv
  have hx := B.exec
  have hb := B.bytes
  have hr := B.returns
  have hts := atoms_spec (ws := (ws_ yX0_solve cX0_solve 4 (some .long))) B.pre
  have hts : ∀ w ∈ lw_all, w.before _ s = true := fun w h => hts w (List.mem_cons_of_mem _ h)
  have hown : s.vm.findClass RX0 = some m.cls := findClass_of_methodNamed B.named
  have hlocks := B.notSynchronized
  subst hsz
  have hD := hD0.self (sz := s.heap.size)
  generalize hAe : va_A (rp_xw h0 ad dA pr ba st en fo pl pa wa fx wo ch fw wt fp pw pt u v ho be sl se) s.heap.size = A at hD ⊢
  have hA : ∀ q : Nat, s.heap.size ≤ q → A q := fun q h => by rw [← hAe]; exact Or.inr h
  have hS : va_S A s.heap s.heap [] := va_S.rf
  have hP : va_P (dC, dI) rp_cl (rp_xw h0 ad dA pr ba st en fo pl pa wa fx wo ch fw wt fp pw pt u v ho be sl se) s.heap := hP
  have hl := lv_entry ([.ref h0]) (n := 4) (Nat.le_of_ble_eq_true rfl)
  rw [lg_entry_eq]
  generalize (lg_sl ([.ref h0]) ++ List.replicate (4 - (lg_sl ([.ref h0])).length) Slot.unset).toArray = ls at hl ⊢
  have hl : lv_has ls 4 [(0, .ref h0)] := hl
  have L37 : ∀ (n : Nat) (k : Nat) (u1 v1 : Nat → Int) (ho1 be1 : Nat → Nat) (sl1 : Nat → Int) (se1 : Nat → Bool), (6 - k < n) → (1 ≤ k) → (k ≤ 6) → (rp_HP (rp_C pr ba fw wt fp pw pt) k u1 v1 ho1) → ∀ (H : Heap) (locs : List Loc), va_P (dC, dI) rp_cl (rp_xw h0 ad dA pr ba st en fo pl pa wa fx wo ch fw wt fp pw pt u1 v1 ho1 be1 sl1 se1) H → va_D A (rp_xw h0 ad dA pr ba st en fo pl pa wa fx wo ch fw wt fp pw pt u1 v1 ho1 be1 sl1 se1) → va_S A s.heap H locs → ∀ (ls : Array Slot), lv_has ls 4 [(1, .int (nI k)), (0, .ref h0)] → W p l e (headSpec (ws_ yX0_solve cX0_solve 4 (some .long)) (rp_rm 5 116)).room s m ([.ref h0] : List Value).toArray below meth c H locs 0 0 (MQ below (va_Ql (fun (r : Int64) (z : rp_Sc) => ∃ mn, r = lN mn ∧ rp_min (rp_C pr ba fw wt fp pw pt) mn) (fun z t => rp_Bc dC dI A (rp_xw h0 ad dA pr ba st en fo pl pa wa fx wo ch fw wt fp pw pt z.1 z.2.1 z.2.2.1 z.2.2.2.1 z.2.2.2.2.1 z.2.2.2.2.2) (rp_xk dA) t) A) ([.ref h0] : List Value).toArray s 0 0 A) (F0 m 37 ls []) := by
    intro n
    induction n with
    | zero =>
      intro k u1 v1 ho1 be1 sl1 se1 hn hk1 hk hH
      exact absurd hn (by omega)
    | succ n ih =>
      intro k u1 v1 ho1 be1 sl1 se1 hn hk1 hk hH H locs hP hD hS ls hl
      refine lv_iload_n hx hb dX0_solve_37 rfl (lv_at hl 0 rfl) ?_
      refine lv_iconst (v := nI 5) hx hb dX0_solve_38 (by decide) ?_
      refine rp_icgt (tgt := 53) hx hb (by omega) (by omega) dX0_solve_39 (by decide) (fun c_39 => ?_) (fun c_39 => ?_)
      · have e6 : k = 6 := by omega
        subst e6
        have hr6 := (rp_HP_6 hH).1
        refine lv_lconst (v := lN 0) hx hb dX0_solve_53 (by decide +kernel) ?_
        refine lv_lstore_n (lv' := [(1, .long (lN 0)), (0, .ref h0)]) hx hb dX0_solve_54 rfl hl (by decide) rfl (fun ls hl => ?_)
        refine lv_iconst (v := nI 1) hx hb dX0_solve_55 (by decide) ?_
        refine lv_istore_n (lv' := [(3, .int (nI 1)), (1, .long (lN 0)), (0, .ref h0)]) hx hb dX0_solve_56 rfl hl (by decide) rfl (fun ls hl => ?_)
        have L57 : ∀ (n : Nat) (t : Nat), (6 - t < n) → (1 ≤ t) → (t ≤ 6) → ∀ (H : Heap) (locs : List Loc), va_P (dC, dI) rp_cl (rp_xw h0 ad dA pr ba st en fo pl pa wa fx wo ch fw wt fp pw pt u1 v1 ho1 be1 sl1 se1) H → va_D A (rp_xw h0 ad dA pr ba st en fo pl pa wa fx wo ch fw wt fp pw pt u1 v1 ho1 be1 sl1 se1) → va_S A s.heap H locs → ∀ (ls : Array Slot), lv_has ls 4 [(3, .int (nI t)), (1, .long (lN (rp_sm (rp_C pr ba fw wt fp pw pt) ho1 t))), (0, .ref h0)] → W p l e (headSpec (ws_ yX0_solve cX0_solve 4 (some .long)) (rp_rm 5 116)).room s m ([.ref h0] : List Value).toArray below meth c H locs 0 0 (MQ below (va_Ql (fun (r : Int64) (z : rp_Sc) => ∃ mn, r = lN mn ∧ rp_min (rp_C pr ba fw wt fp pw pt) mn) (fun z t => rp_Bc dC dI A (rp_xw h0 ad dA pr ba st en fo pl pa wa fx wo ch fw wt fp pw pt z.1 z.2.1 z.2.2.1 z.2.2.2.1 z.2.2.2.2.1 z.2.2.2.2.2) (rp_xk dA) t) A) ([.ref h0] : List Value).toArray s 0 0 A) (F0 m 57 ls []) := by
          intro n
          induction n with
          | zero =>
            intro t hn2 ht1 ht
            exact absurd hn2 (by omega)
          | succ n ih =>
            intro t hn2 ht1 ht H locs hP hD hS ls hl
            refine lv_iload_n hx hb dX0_solve_57 rfl (lv_at hl 0 rfl) ?_
            refine lv_iconst (v := nI 5) hx hb dX0_solve_58 (by decide) ?_
            refine rp_icgt (tgt := 86) hx hb (by omega) (by omega) dX0_solve_59 (by decide) (fun c_59 => ?_) (fun c_59 => ?_)
            · have e6 : t = 6 := by omega
              subst e6
              refine lv_lload_n hx hb dX0_solve_86 rfl (lv_at hl 1 rfl) ?_
              exact W.lret (v := lN (rp_sm (rp_C pr ba fw wt fp pw pt) ho1 6)) hx hb hr (fun t9 ht9 hW9 => ⟨⟨lN (rp_sm (rp_C pr ba fw wt fp pw pt) ho1 6), (u1, v1, ho1, be1, sl1, se1), rfl, ⟨_, rfl, rp_HP_min hH⟩, by rw [ht9]; exact hP, va_K.moved hW9.alike hK, hD⟩, hS.F ht9⟩) hS.2.2 dX0_solve_87
            · refine lv_lload_n hx hb dX0_solve_62 rfl (lv_at hl 1 rfl) ?_
              refine lv_aload_n hx hb dX0_solve_63 rfl (lv_at hl 2 rfl) ?_
              refine lv_aload_n hx hb dX0_solve_64 rfl (lv_at hl 2 rfl) ?_
              refine va_get (D := (dC, dI)) (ci := 0) (v := .ref (ad 18)) (C := RX0) (T := TX0) (N := 22) hx hb hts in_X0 hown hK hP 0 rfl rfl 18 (by decide) (hts _ q40) (fun _ h9 => h9) rfl dX0_solve_65 ?_
              refine lv_iload_n hx hb dX0_solve_68 rfl (lv_at hl 0 rfl) ?_
              refine rp_iald nI ho1 hx hb hK hP 10 9 rfl rfl (i := t) (by omega) (by decide) dX0_solve_69 ?_
              refine lv_iconst (v := nI 1) hx hb dX0_solve_70 (by decide) ?_
              refine rp_isub hx hb (by have := hr6 t ht1 (by omega); omega) dX0_solve_71 ?_
              refine lv_iload_n hx hb dX0_solve_72 rfl (lv_at hl 0 rfl) ?_
              refine lv_iconst (v := nI 1) hx hb dX0_solve_73 (by decide) ?_
              refine rp_isub hx hb (by omega) dX0_solve_74 ?_
              refine vp_callSl (W.runV (As := [.int (nI ((ho1 t) - 1)), .int (nI (t - 1))]) (rest := [.long (lN (rp_sm (rp_C pr ba fw wt fp pw pt) ho1 t))]) ⟨hx, hb, hml, hown, hts⟩ (metX0_valueOf l dC dI h0 ad dA pr ba st en fo pl pa wa fx wo ch fw wt fp pw pt u1 v1 ho1 be1 sl1 se1 (ho1 t - 1) (t - 1) (by have := hr6 t ht1 (by omega); omega) (by omega) hpr hfw hwt hfp hpw hpt) (cwV 2 hts (lw_V q132 q134 qs6 q12 q135) rfl rfl rfl (by decide +kernel) ⟨Nat.le_of_ble_eq_true rfl, Nat.le_of_ble_eq_true rfl⟩) ⟨fun a U g mk q => by obtain ⟨q0, qP, qK⟩ := q; exact ⟨q0, qP, va_K.moved (u := U) (U := U.calling g mk a) (Vm.Alike.refl U.vm) qK⟩, va_recv hK hP (ci := 0) (q0 := 0) rfl rfl, fun U hU hW => ⟨rfl, by rw [hU]; exact hP, va_K.moved hW.alike hK⟩⟩ rfl rfl hl.1 rfl (lv_room (Nat.le_of_ble_eq_true rfl)) dX0_solve_75 ⟨Nat.le_of_ble_eq_true rfl, Nat.le_of_ble_eq_true rfl⟩) (fun r hr9 => ?_)
              subst hr9
              refine rp_laddN hx hb dX0_solve_78 ?_
              refine rp_tl (y := lN (rp_sm (rp_C pr ba fw wt fp pw pt) ho1 (t + 1))) (by rw [rp_sm_s ht1]) ?_
              refine lv_lstore_n (lv' := [(1, .long (lN (rp_sm (rp_C pr ba fw wt fp pw pt) ho1 (t + 1)))), (3, .int (nI t)), (0, .ref h0)]) hx hb dX0_solve_79 rfl hl (by decide) rfl (fun ls hl => ?_)
              refine lv_iinc (v := nI (t + 1)) (lv' := [(3, .int (nI (t + 1))), (1, .long (lN (rp_sm (rp_C pr ba fw wt fp pw pt) ho1 (t + 1)))), (0, .ref h0)]) hx hb dX0_solve_80 hl (k := 1) rfl (by exact nI_1 _) (by decide) rfl (fun ls hl => ?_)
              refine lv_goto (tgt := 57) hx hb dX0_solve_83 (by decide) ?_
              exact ih (t + 1) (by omega) (by omega) (by omega) _ _ hP hD hS ls (lv_sub hl [0, 1, 2] rfl)
        exact L57 6 1 (by omega) (by omega) (by omega) _ _ hP hD hS ls (lv_sub hl [0, 1, 2] rfl)
      · refine lv_aload_n hx hb dX0_solve_42 rfl (lv_at hl 1 rfl) ?_
        refine lv_iload_n hx hb dX0_solve_43 rfl (lv_at hl 0 rfl) ?_
        have hFc := va_free (wc := rp_xw h0 ad dA pr ba st en fo pl pa wa fx wo ch fw wt fp pw pt u1 v1 ho1 be1 sl1 se1) hD hS hA [0, 1, 2, 3, 4, 5, 6, 7, 8, 9, 10, 11, 12, 13] rfl
        refine va_callv (va_runV (As := [.int (nI k)]) (rest := []) ⟨hx, hb, hml, hown, hts⟩ (metX0_bringIn l dC dI h0 ad dA H.size pr ba st en fo pl pa wa fx wo ch fw wt fp pw pt u1 v1 ho1 be1 sl1 se1 k hpr hfw hwt hfp hpw hpt hk1 (by omega) hH) (cwV 1 hts (lw_V q123 q125 qs4 q12 q126) rfl rfl rfl (by decide +kernel) ⟨Nat.le_of_ble_eq_true rfl, Nat.le_of_ble_eq_true rfl⟩) ⟨fun a U g mk q => by obtain ⟨q0, q1, qP, qK, qD⟩ := q; exact ⟨q0, q1, qP, va_K.moved (u := U) (U := U.calling g mk a) (Vm.Alike.refl U.vm) qK, qD⟩, va_recv hK hP (ci := 0) (q0 := 0) rfl rfl, fun U hU hW => ⟨rfl, by rw [hU], by rw [hU]; exact hP, va_K.moved hW.alike hK, hD.weaken (fun _ _ _ _ => trivial)⟩⟩ rfl rfl hl.1 rfl (lv_room (Nat.le_of_ble_eq_true rfl)) dX0_solve_44 ⟨Nat.le_of_ble_eq_true rfl, Nat.le_of_ble_eq_true rfl⟩) hS (fun q _ h => hFc q h) hFc (fun u_ t H1 locs ht hvm hw hB hz1 hk1 hS => ?_)
        obtain ⟨hP1, hK1, hD1⟩ := hB
        rw [ht] at hP1
        have hD := hD1.weaken (fun k q _ h => hFc q.1 h)
        have hP := hP1
        obtain ⟨u2, v2, ho2, be2, sl2, se2⟩ := u_
        have hw : rp_HP (rp_C pr ba fw wt fp pw pt) (k + 1) u2 v2 ho2 := hw
        clear hFc hK1 hz1 hk1 hD1 hP1 ht hvm
        generalize H1 = H at hP hS ⊢
        have hP : va_P (dC, dI) rp_cl (rp_xw h0 ad dA pr ba st en fo pl pa wa fx wo ch fw wt fp pw pt u2 v2 ho2 be2 sl2 se2) H := hP
        have hD : va_D A (rp_xw h0 ad dA pr ba st en fo pl pa wa fx wo ch fw wt fp pw pt u2 v2 ho2 be2 sl2 se2) := hD
        refine lv_iinc (v := nI (k + 1)) (lv' := [(1, .int (nI (k + 1))), (0, .ref h0)]) hx hb dX0_solve_47 hl (k := 0) rfl (by exact nI_1 _) (by decide) rfl (fun ls hl => ?_)
        refine lv_goto (tgt := 37) hx hb dX0_solve_50 (by decide) ?_
        exact ih (k + 1) u2 v2 ho2 be2 sl2 se2 (by omega) (by omega) (by omega) hw _ _ hP hD hS ls (lv_sub hl [0, 1] rfl)
  have L2 : ∀ (n : Nat) (i : Nat), (6 - i < n) → (i ≤ 6) → ∀ (H : Heap) (locs : List Loc), va_P (dC, dI) rp_cl (rp_xw h0 ad dA pr ba st en fo pl pa wa fx wo ch fw wt fp pw pt (rp_fl u 0 i) (rp_fl v 0 i) (rp_fl ho 0 i) be sl se) H → va_D A (rp_xw h0 ad dA pr ba st en fo pl pa wa fx wo ch fw wt fp pw pt (rp_fl u 0 i) (rp_fl v 0 i) (rp_fl ho 0 i) be sl se) → va_S A s.heap H locs → ∀ (ls : Array Slot), lv_has ls 4 [(1, .int (nI i)), (0, .ref h0)] → W p l e (headSpec (ws_ yX0_solve cX0_solve 4 (some .long)) (rp_rm 5 116)).room s m ([.ref h0] : List Value).toArray below meth c H locs 0 0 (MQ below (va_Ql (fun (r : Int64) (z : rp_Sc) => ∃ mn, r = lN mn ∧ rp_min (rp_C pr ba fw wt fp pw pt) mn) (fun z t => rp_Bc dC dI A (rp_xw h0 ad dA pr ba st en fo pl pa wa fx wo ch fw wt fp pw pt z.1 z.2.1 z.2.2.1 z.2.2.2.1 z.2.2.2.2.1 z.2.2.2.2.2) (rp_xk dA) t) A) ([.ref h0] : List Value).toArray s 0 0 A) (F0 m 2 ls []) := by
    intro n
    induction n with
    | zero =>
      intro i hn hi
      exact absurd hn (by omega)
    | succ n ih =>
      intro i hn hi H locs hP hD hS ls hl
      refine lv_iload_n hx hb dX0_solve_2 rfl (lv_at hl 0 rfl) ?_
      refine lv_bipush (v := nI 6) hx hb dX0_solve_3 (by decide) ?_
      refine rp_icge (tgt := 35) hx hb (by omega) (by omega) dX0_solve_5 (by decide) (fun c_5 => ?_) (fun c_5 => ?_)
      · have e6 : i = 6 := by omega
        subst e6
        refine lv_iconst (v := nI 1) hx hb dX0_solve_35 (by decide) ?_
        refine lv_istore_n (lv' := [(1, .int (nI 1)), (0, .ref h0)]) hx hb dX0_solve_36 rfl hl (by decide) rfl (fun ls hl => ?_)
        exact L37 6 1 (rp_fl u 0 6) (rp_fl v 0 6) (rp_fl ho 0 6) be sl se (by omega) (by omega) (by omega) rp_HP_1 _ _ hP hD hS ls (lv_sub hl [0, 1] rfl)
      · refine lv_aload_n hx hb dX0_solve_8 rfl (lv_at hl 1 rfl) ?_
        refine va_get (D := (dC, dI)) (ci := 0) (v := .ref (ad 16)) (C := RX0) (T := TX0) (N := 22) hx hb hts in_X0 hown hK hP 0 rfl rfl 16 (by decide) (hts _ q38) (fun _ h9 => h9) rfl dX0_solve_9 ?_
        refine lv_iload_n hx hb dX0_solve_12 rfl (lv_at hl 0 rfl) ?_
        refine lv_lconst (v := rp_Z 0) hx hb dX0_solve_13 (by decide +kernel) ?_
        refine rp_last rp_Z (rp_fl u 0 i) 0 hx hb hK hP hD hS 8 7 rfl rfl (i := i) (by omega) (by decide) dX0_solve_14 (fun H locs hP hD hS => ?_)
        have hP : va_P (dC, dI) rp_cl (rp_xw h0 ad dA pr ba st en fo pl pa wa fx wo ch fw wt fp pw pt (va_up (rp_fl u 0 i) i 0) (rp_fl v 0 i) (rp_fl ho 0 i) be sl se) H := hP
        have hD : va_D A (rp_xw h0 ad dA pr ba st en fo pl pa wa fx wo ch fw wt fp pw pt (va_up (rp_fl u 0 i) i 0) (rp_fl v 0 i) (rp_fl ho 0 i) be sl se) := hD
        refine lv_aload_n hx hb dX0_solve_15 rfl (lv_at hl 1 rfl) ?_
        refine va_get (D := (dC, dI)) (ci := 0) (v := .ref (ad 17)) (C := RX0) (T := TX0) (N := 22) hx hb hts in_X0 hown hK hP 0 rfl rfl 17 (by decide) (hts _ q39) (fun _ h9 => h9) rfl dX0_solve_16 ?_
        refine lv_iload_n hx hb dX0_solve_19 rfl (lv_at hl 0 rfl) ?_
        refine lv_lconst (v := rp_Z 0) hx hb dX0_solve_20 (by decide +kernel) ?_
        refine rp_last rp_Z (rp_fl v 0 i) 0 hx hb hK hP hD hS 9 8 rfl rfl (i := i) (by omega) (by decide) dX0_solve_21 (fun H locs hP hD hS => ?_)
        have hP : va_P (dC, dI) rp_cl (rp_xw h0 ad dA pr ba st en fo pl pa wa fx wo ch fw wt fp pw pt (va_up (rp_fl u 0 i) i 0) (va_up (rp_fl v 0 i) i 0) (rp_fl ho 0 i) be sl se) H := hP
        have hD : va_D A (rp_xw h0 ad dA pr ba st en fo pl pa wa fx wo ch fw wt fp pw pt (va_up (rp_fl u 0 i) i 0) (va_up (rp_fl v 0 i) i 0) (rp_fl ho 0 i) be sl se) := hD
        refine lv_aload_n hx hb dX0_solve_22 rfl (lv_at hl 1 rfl) ?_
        refine va_get (D := (dC, dI)) (ci := 0) (v := .ref (ad 18)) (C := RX0) (T := TX0) (N := 22) hx hb hts in_X0 hown hK hP 0 rfl rfl 18 (by decide) (hts _ q40) (fun _ h9 => h9) rfl dX0_solve_23 ?_
        refine lv_iload_n hx hb dX0_solve_26 rfl (lv_at hl 0 rfl) ?_
        refine lv_iconst (v := nI 0) hx hb dX0_solve_27 (by decide) ?_
        refine rp_iast nI (rp_fl ho 0 i) 0 hx hb hK hP hD hS 10 9 rfl rfl (i := i) (by omega) (by decide) dX0_solve_28 (fun H locs hP hD hS => ?_)
        have hP : va_P (dC, dI) rp_cl (rp_xw h0 ad dA pr ba st en fo pl pa wa fx wo ch fw wt fp pw pt (va_up (rp_fl u 0 i) i 0) (va_up (rp_fl v 0 i) i 0) (va_up (rp_fl ho 0 i) i 0) be sl se) H := hP
        have hD : va_D A (rp_xw h0 ad dA pr ba st en fo pl pa wa fx wo ch fw wt fp pw pt (va_up (rp_fl u 0 i) i 0) (va_up (rp_fl v 0 i) i 0) (va_up (rp_fl ho 0 i) i 0) be sl se) := hD
        rw [rp_fl_put, rp_fl_put, rp_fl_put] at hP hD
        refine lv_iinc (v := nI (i + 1)) (lv' := [(1, .int (nI (i + 1))), (0, .ref h0)]) hx hb dX0_solve_29 hl (k := 0) rfl (by exact nI_1 _) (by decide) rfl (fun ls hl => ?_)
        refine lv_goto (tgt := 2) hx hb dX0_solve_32 (by decide) ?_
        exact ih (i + 1) (by omega) (by omega) _ _ hP hD hS ls (lv_sub hl [0, 1] rfl)
  refine lv_iconst (v := nI 0) hx hb dX0_solve_0 (by decide) ?_
  refine lv_istore_n (lv' := [(1, .int (nI 0)), (0, .ref h0)]) hx hb dX0_solve_1 rfl hl (by decide) rfl (fun ls hl => ?_)
  rw [← rp_fl_0 u 0, ← rp_fl_0 v 0, ← rp_fl_0 ho 0] at hP hD
  exact L2 7 0 (by omega) (by omega) _ _ hP hD hS ls (lv_sub hl [0, 1] rfl)
set_option maxHeartbeats 4000000 in
/-- setPart(a0, a1, a2) -/
theorem metX0_setPart (l : Launch) (dC : Nat → ClassId) (dI : Nat → Nat → Nat) (h0 : Nat) (ad : Nat → Nat) (dA : Nat → ClassId) (sz : Nat) (pr : Nat → Nat) (ba : Nat → Bool) (st : Bool) (en : Bool) (fo : Nat) (pl : Nat → Nat) (pa : Nat) (wa : Nat → Bool) (fx : Nat → Nat) (wo : Nat → Nat) (ch : Nat → Nat) (fw : Nat) (wt : Nat) (fp : Nat) (pw : Nat) (pt : Nat) (u : Nat → Int) (v : Nat → Int) (ho : Nat → Nat) (be : Nat → Nat) (sl : Nat → Int) (se : Nat → Bool) (a0 a1 a2 : Nat) : Met l yX0_setPart (ws_ yX0_setPart cX0_setPart 4 none) (rp_rm 0 0) (rp_Pc dC dI [.ref h0, .int (nI a0), .int (nI a1), .int (nI a2)] sz (rp_xw h0 ad dA pr ba st en fo pl pa wa fx wo ch fw wt fp pw pt u v ho be sl se) (rp_xk dA)) (va_Qv (fun (_ : Unit) => True) (fun _ t => rp_Bc dC dI (va_A (rp_xw h0 ad dA pr ba st en fo pl pa wa fx wo ch fw wt fp pw pt u v ho be sl se) sz) (rp_xw h0 ad dA pr ba st en fo pl pa wa fx wo ch a0 a1 a2 pw pt u v ho be sl se) (rp_xk dA) t) (va_A (rp_xw h0 ad dA pr ba st en fo pl pa wa fx wo ch fw wt fp pw pt u v ho be sl se) sz)) 0 0 (va_A (rp_xw h0 ad dA pr ba st en fo pl pa wa fx wo ch fw wt fp pw pt u v ho be sl se) sz) := by
  refine Met.ofW (cc := cX0_setPart) (maxL := 4) (ret := none) (by decide) rfl ?_
  intro p e s m args below meth c s₁ B hml hv
  obtain ⟨rfl, hsz, hP, hK, hD0⟩ := hv
  have hx := B.exec
  have hb := B.bytes
  have hr := B.returns
  have hts := atoms_spec (ws := (ws_ yX0_setPart cX0_setPart 4 none)) B.pre
  have hts : ∀ w ∈ lw_all, w.before _ s = true := fun w h => hts w (List.mem_cons_of_mem _ h)
  have hown : s.vm.findClass RX0 = some m.cls := findClass_of_methodNamed B.named
  have hlocks := B.notSynchronized
  subst hsz
  have hD := hD0.self (sz := s.heap.size)
  generalize hAe : va_A (rp_xw h0 ad dA pr ba st en fo pl pa wa fx wo ch fw wt fp pw pt u v ho be sl se) s.heap.size = A at hD ⊢
  have hA : ∀ q : Nat, s.heap.size ≤ q → A q := fun q h => by rw [← hAe]; exact Or.inr h
  have hS : va_S A s.heap s.heap [] := va_S.rf
  have hP : va_P (dC, dI) rp_cl (rp_xw h0 ad dA pr ba st en fo pl pa wa fx wo ch fw wt fp pw pt u v ho be sl se) s.heap := hP
  have hl := lv_entry ([.ref h0, .int (nI a0), .int (nI a1), .int (nI a2)]) (n := 4) (Nat.le_of_ble_eq_true rfl)
  rw [lg_entry_eq]
  generalize (lg_sl ([.ref h0, .int (nI a0), .int (nI a1), .int (nI a2)]) ++ List.replicate (4 - (lg_sl ([.ref h0, .int (nI a0), .int (nI a1), .int (nI a2)])).length) Slot.unset).toArray = ls at hl ⊢
  have hl : lv_has ls 4 [(0, .ref h0), (1, .int (nI a0)), (2, .int (nI a1)), (3, .int (nI a2))] := hl
  refine lv_aload_n hx hb dX0_setPart_0 rfl (lv_at hl 0 rfl) ?_
  refine lv_iload_n hx hb dX0_setPart_1 rfl (lv_at hl 1 rfl) ?_
  refine va_put (D := (dC, dI)) (ci := 0) (v := .int (nI a0)) (ty := .int) (C := RX0) (T := TX0) (N := 22) hx hb hts in_X0 tyX0 tyX0_ok nmX0 hown hK hP hD hS 0 rfl rfl 11 (by decide) (hts _ q33) (fun _ h9 => h9) rfl (by decide +kernel) rfl rfl (Nat.le_of_ble_eq_true rfl) dX0_setPart_2 (fun H locs hP hD hS => ?_)
  have hP : va_P (dC, dI) rp_cl (rp_xw h0 ad dA pr ba st en fo pl pa wa fx wo ch a0 wt fp pw pt u v ho be sl se) H := hP
  have hD : va_D A (rp_xw h0 ad dA pr ba st en fo pl pa wa fx wo ch a0 wt fp pw pt u v ho be sl se) := hD
  refine lv_aload_n hx hb dX0_setPart_5 rfl (lv_at hl 0 rfl) ?_
  refine lv_iload_n hx hb dX0_setPart_6 rfl (lv_at hl 2 rfl) ?_
  refine va_put (D := (dC, dI)) (ci := 0) (v := .int (nI a1)) (ty := .int) (C := RX0) (T := TX0) (N := 22) hx hb hts in_X0 tyX0 tyX0_ok nmX0 hown hK hP hD hS 0 rfl rfl 12 (by decide) (hts _ q34) (fun _ h9 => h9) rfl (by decide +kernel) rfl rfl (Nat.le_of_ble_eq_true rfl) dX0_setPart_7 (fun H locs hP hD hS => ?_)
  have hP : va_P (dC, dI) rp_cl (rp_xw h0 ad dA pr ba st en fo pl pa wa fx wo ch a0 a1 fp pw pt u v ho be sl se) H := hP
  have hD : va_D A (rp_xw h0 ad dA pr ba st en fo pl pa wa fx wo ch a0 a1 fp pw pt u v ho be sl se) := hD
  refine lv_aload_n hx hb dX0_setPart_10 rfl (lv_at hl 0 rfl) ?_
  refine lv_iload_n hx hb dX0_setPart_11 rfl (lv_at hl 3 rfl) ?_
  refine va_put (D := (dC, dI)) (ci := 0) (v := .int (nI a2)) (ty := .int) (C := RX0) (T := TX0) (N := 22) hx hb hts in_X0 tyX0 tyX0_ok nmX0 hown hK hP hD hS 0 rfl rfl 13 (by decide) (hts _ q35) (fun _ h9 => h9) rfl (by decide +kernel) rfl rfl (Nat.le_of_ble_eq_true rfl) dX0_setPart_12 (fun H locs hP hD hS => ?_)
  have hP : va_P (dC, dI) rp_cl (rp_xw h0 ad dA pr ba st en fo pl pa wa fx wo ch a0 a1 a2 pw pt u v ho be sl se) H := hP
  have hD : va_D A (rp_xw h0 ad dA pr ba st en fo pl pa wa fx wo ch a0 a1 a2 pw pt u v ho be sl se) := hD
  exact W.vret hx hb hr (fun t9 ht9 hW9 => ⟨⟨(), rfl, trivial, by rw [ht9]; exact hP, va_K.moved hW9.alike hK, hD⟩, hS.F ht9⟩) hS.2.2 dX0_setPart_15
end
section
/-! plans in order, pure: values, parts, what holds of the parts and of what is found -/
set_option maxRecDepth 100000
def rp_ok (ba : Nat → Bool) (n : Nat) : Bool := rp_pm n && !ba (5 * 0 + rp_dg n 0) && !ba (5 * 1 + rp_dg n 1) && !ba (5 * 2 + rp_dg n 2) && !ba (5 * 3 + rp_dg n 3) && !ba (5 * 4 + rp_dg n 4)
def rp_cs (pr : Nat → Nat) (n : Nat) : Nat := pr (5 * 0 + rp_dg n 0) + pr (5 * 1 + rp_dg n 1) + pr (5 * 2 + rp_dg n 2) + pr (5 * 3 + rp_dg n 3) + pr (5 * 4 + rp_dg n 4)
def rp_vl (pr : Nat → Nat) (n : Nat) : Nat := 3125 * rp_cs pr n + n
/-- the values of all plans, rising -/
def rp_RL (pr : Nat → Nat) (ba : Nat → Bool) (S : List Nat) : Prop := S.Pairwise (· < ·) ∧ ∀ x, x ∈ S ↔ ∃ n, n < 3125 ∧ rp_ok ba n = true ∧ x = rp_vl pr n
theorem rp_dgs {n : Nat} (h : n < 3125) : rp_dg n 0 * 5 ^ (4 - 0) + rp_dg n 1 * 5 ^ (4 - 1) + rp_dg n 2 * 5 ^ (4 - 2) + rp_dg n 3 * 5 ^ (4 - 3) + rp_dg n 4 * 5 ^ (4 - 4) = n := by
  simp only [rp_dg, Nat.reduceSub, Nat.reducePow]
  omega
theorem rp_dg_inj {n m : Nat} (hn : n < 3125) (hm : m < 3125) (h : ∀ w, w < 5 → rp_dg n w = rp_dg m w) : n = m := by
  rw [← rp_dgs hn, ← rp_dgs hm, h 0 (by omega), h 1 (by omega), h 2 (by omega), h 3 (by omega), h 4 (by omega)]
theorem rp_5 {P : Nat → Prop} : (∀ w, w < 5 → P w) ↔ P 0 ∧ P 1 ∧ P 2 ∧ P 3 ∧ P 4 := by
  constructor
  · intro h; exact ⟨h 0 (by omega), h 1 (by omega), h 2 (by omega), h 3 (by omega), h 4 (by omega)⟩
  · rintro ⟨h0, h1, h2, h3, h4⟩ w hw
    have : w = 0 ∨ w = 1 ∨ w = 2 ∨ w = 3 ∨ w = 4 := by omega
    rcases this with rfl | rfl | rfl | rfl | rfl <;> assumption
theorem rp_ok_iff {ba : Nat → Bool} {n : Nat} : rp_ok ba n = true ↔ rp_pm n = true ∧ ∀ w, w < 5 → ba (5 * w + rp_dg n w) = false := by
  rw [rp_5 (P := fun w => ba (5 * w + rp_dg n w) = false)]
  unfold rp_ok
  simp only [Bool.and_eq_true, Bool.not_eq_true']
  constructor
  · rintro ⟨⟨⟨⟨⟨a, b⟩, c⟩, d⟩, e⟩, f⟩; exact ⟨a, b, c, d, e, f⟩
  · rintro ⟨a, b, c, d, e, f⟩; exact ⟨⟨⟨⟨⟨a, b⟩, c⟩, d⟩, e⟩, f⟩
theorem rp_cs_le {pr : Nat → Nat} (hpr : ∀ j, j < 25 → pr j < 100) (n : Nat) : rp_cs pr n ≤ 495 := by
  unfold rp_cs
  have d0 := rp_dg_lt n 0
  have d1 := rp_dg_lt n 1
  have d2 := rp_dg_lt n 2
  have d3 := rp_dg_lt n 3
  have d4 := rp_dg_lt n 4
  have h0 := hpr (5 * 0 + rp_dg n 0) (by omega)
  have h1 := hpr (5 * 1 + rp_dg n 1) (by omega)
  have h2 := hpr (5 * 2 + rp_dg n 2) (by omega)
  have h3 := hpr (5 * 3 + rp_dg n 3) (by omega)
  have h4 := hpr (5 * 4 + rp_dg n 4) (by omega)
  omega
theorem rp_vl_lt {pr : Nat → Nat} (hpr : ∀ j, j < 25 → pr j < 100) {n : Nat} (hn : n < 3125) : rp_vl pr n < 1000000000 := by
  have := rp_cs_le hpr n
  unfold rp_vl
  omega
theorem rp_vl_mod {pr : Nat → Nat} {n : Nat} (hn : n < 3125) : rp_vl pr n % 3125 = n := by unfold rp_vl; omega
theorem rp_vl_div {pr : Nat → Nat} {n : Nat} (hn : n < 3125) : rp_vl pr n / 3125 = rp_cs pr n := by unfold rp_vl; omega
/-- all pairs of the plan are open in the part -/
def rp_al (ba : Nat → Bool) (fw wt fp pw pt n : Nat) : Prop := ∀ w, w < 5 → rp_op ba fw wt fp pw pt w (rp_dg n w) = true
theorem rp_tot_open {pr : Nat → Nat} {ba : Nat → Bool} {fw wt fp pw pt n : Nat} (hn : n < 3125) (h : rp_al ba fw wt fp pw pt n) : rp_tot (rp_C pr ba fw wt fp pw pt) n = rp_vl pr n := by
  have e : ∀ w, w < 5 → rp_C pr ba fw wt fp pw pt w (rp_dg n w) = 3125 * pr (5 * w + rp_dg n w) + rp_dg n w * 5 ^ (4 - w) := fun w hw => by unfold rp_C; rw [if_pos (h w hw)]
  have hd := rp_dgs hn
  unfold rp_tot rp_vl rp_cs
  rw [e 0 (by omega), e 1 (by omega), e 2 (by omega), e 3 (by omega), e 4 (by omega)]
  omega
theorem rp_tot_shut {pr : Nat → Nat} {ba : Nat → Bool} {fw wt fp pw pt n : Nat} (h : ¬ rp_al ba fw wt fp pw pt n) : 1000000000 ≤ rp_tot (rp_C pr ba fw wt fp pw pt) n := by
  rcases Nat.lt_or_ge (rp_tot (rp_C pr ba fw wt fp pw pt) n) 1000000000 with q | q
  · refine absurd (fun w hw => ?_) h
    cases ho : rp_op ba fw wt fp pw pt w (rp_dg n w) with
    | true => rfl
    | false =>
      have e : rp_C pr ba fw wt fp pw pt w (rp_dg n w) = 1000000000 := by unfold rp_C; rw [ho]; rfl
      unfold rp_tot at q
      have : w = 0 ∨ w = 1 ∨ w = 2 ∨ w = 3 ∨ w = 4 := by omega
      rcases this with rfl | rfl | rfl | rfl | rfl <;> omega
  · exact q
theorem rp_min_cases {pr : Nat → Nat} {ba : Nat → Bool} {fw wt fp pw pt mn : Nat} (hpr : ∀ j, j < 25 → pr j < 100) (h : rp_min (rp_C pr ba fw wt fp pw pt) mn) :
    (mn < 1000000000 ∧ (∃ n, n < 3125 ∧ rp_pm n = true ∧ rp_al ba fw wt fp pw pt n ∧ mn = rp_vl pr n) ∧ ∀ n, n < 3125 → rp_pm n = true → rp_al ba fw wt fp pw pt n → mn ≤ rp_vl pr n) ∨ (1000000000 ≤ mn ∧ ∀ n, n < 3125 → rp_pm n = true → ¬ rp_al ba fw wt fp pw pt n) := by
  obtain ⟨⟨n, h1, h2, h3⟩, h4⟩ := h
  by_cases q : rp_al ba fw wt fp pw pt n
  · rw [rp_tot_open h1 q] at h3
    refine Or.inl ⟨by rw [h3]; exact rp_vl_lt hpr h1, ⟨n, h1, h2, q, h3⟩, fun m a b c => ?_⟩
    have := h4 m a b
    rw [rp_tot_open a c] at this
    exact this
  · have g := rp_tot_shut (pr := pr) q
    refine Or.inr ⟨by omega, fun m a b c => ?_⟩
    have g1 := h4 m a b
    rw [rp_tot_open a c] at g1
    have g2 := rp_vl_lt hpr a
    omega
/-- the plans of a part -/
def rp_rg (ba : Nat → Bool) (fw wt fp n : Nat) : Prop := n < 3125 ∧ rp_ok ba n = true ∧ (∀ w, w < fw → rp_dg n w = rp_dg fp w) ∧ wt / 2 ^ (rp_dg n fw) % 2 = 0
theorem rp_al_rg {ba : Nat → Bool} {fw wt fp pt n : Nat} (hf : fw < 5) (hn : n < 3125) (hp : rp_pm n = true) : rp_al ba fw wt fp 5 pt n ↔ rp_rg ba fw wt fp n := by
  unfold rp_al rp_rg
  rw [rp_ok_iff]
  constructor
  · intro h
    refine ⟨hn, ⟨hp, fun w hw => ?_⟩, fun w hw => ?_, ?_⟩
    · have := h w hw
      unfold rp_op at this
      simp only [Bool.and_eq_true, Bool.not_eq_true'] at this
      exact this.1.1
    · have := h w (by omega)
      unfold rp_op at this
      rw [if_pos hw] at this
      simp only [Bool.and_eq_true, decide_eq_true_eq] at this
      exact this.1.2.symm
    · have := h fw hf
      unfold rp_op at this
      rw [if_neg (by omega), if_pos rfl] at this
      simp only [Bool.and_eq_true, decide_eq_true_eq] at this
      exact this.1.2
  · rintro ⟨-, ⟨-, h1⟩, h2, h3⟩ w hw
    unfold rp_op
    rw [h1 w hw, if_neg (show ¬ w = 5 by omega)]
    by_cases q : w < fw
    · rw [if_pos q, decide_eq_true (h2 w q).symm]; rfl
    · rw [if_neg q]
      by_cases r : w = fw
      · rw [if_pos r, r, decide_eq_true h3]; rfl
      · rw [if_neg r]; rfl
/-- what addPart does to the parts -/
def rp_AP (pr : Nat → Nat) (ba : Nat → Bool) (w sv fp : Nat) (pa : Nat) (wa : Nat → Bool) (fx wo ch : Nat → Nat) (pa' : Nat) (wa' : Nat → Bool) (fx' wo' ch' : Nat → Nat) : Prop :=
  (pa' = pa ∧ wa' = wa ∧ fx' = fx ∧ wo' = wo ∧ ch' = ch ∧ ∀ n, ¬ rp_rg ba w sv fp n) ∨
  (∃ mn, pa' = pa + 1 ∧ wa' = va_up wa pa true ∧ fx' = va_up fx pa w ∧ wo' = va_up wo pa sv ∧ ch' = va_up ch pa mn ∧ mn < 1000000000 ∧ (∃ n, rp_rg ba w sv fp n ∧ mn = rp_vl pr n) ∧ ∀ n, rp_rg ba w sv fp n → mn ≤ rp_vl pr n)
theorem rp_AP_no {pr : Nat → Nat} {ba : Nat → Bool} {w sv fp pt mn pa : Nat} {wa : Nat → Bool} {fx wo ch : Nat → Nat} (hpr : ∀ j, j < 25 → pr j < 100) (hw : w < 5) (h : rp_min (rp_C pr ba w sv fp 5 pt) mn) (hm : 1000000000 ≤ mn) : rp_AP pr ba w sv fp pa wa fx wo ch pa wa fx wo ch := by
  refine Or.inl ⟨rfl, rfl, rfl, rfl, rfl, fun n hn => ?_⟩
  rcases rp_min_cases hpr h with ⟨q, -⟩ | ⟨-, q⟩
  · omega
  · have hp := (rp_ok_iff.mp hn.2.1).1
    exact q n hn.1 hp ((rp_al_rg hw hn.1 hp).mpr hn)
theorem rp_AP_yes {pr : Nat → Nat} {ba : Nat → Bool} {w sv fp pt mn pa : Nat} {wa : Nat → Bool} {fx wo ch : Nat → Nat} (hpr : ∀ j, j < 25 → pr j < 100) (hw : w < 5) (h : rp_min (rp_C pr ba w sv fp 5 pt) mn) (hm : mn < 1000000000) : rp_AP pr ba w sv fp pa wa fx wo ch (pa + 1) (va_up wa pa true) (va_up fx pa w) (va_up wo pa sv) (va_up ch pa mn) := by
  refine Or.inr ⟨mn, rfl, rfl, rfl, rfl, rfl, hm, ?_⟩
  rcases rp_min_cases hpr h with ⟨-, ⟨n, h1, h2, h3, h4⟩, h5⟩ | ⟨q, -⟩
  · refine ⟨⟨n, (rp_al_rg hw h1 h2).mp h3, h4⟩, fun m hm => ?_⟩
    have hp := (rp_ok_iff.mp hm.2.1).1
    exact h5 m hm.1 hp ((rp_al_rg hw hm.1 hp).mpr hm)
  · omega
/-- one part in order -/
def rp_pk (pr : Nat → Nat) (ba : Nat → Bool) (f o x : Nat) : Prop := f < 5 ∧ o < 32 ∧ x < 1000000000 ∧ rp_rg ba f o (x % 3125) (x % 3125) ∧ x = rp_vl pr (x % 3125) ∧ ∀ n, rp_rg ba f o (x % 3125) n → x ≤ rp_vl pr n
def rp_XI (pr : Nat → Nat) (ba : Nat → Bool) (S : List Nat) (fo : Nat) (pl : Nat → Nat) (pa : Nat) (wa : Nat → Bool) (fx wo ch : Nat → Nat) (P : Nat → Prop) : Prop :=
  (∀ r, r < fo → S[r]? = some (pl r)) ∧
  (∀ k, k < pa → wa k = true → rp_pk pr ba (fx k) (wo k) (ch k)) ∧
  (∀ n, n < 3125 → rp_ok ba n = true → (∃ r, r < fo ∧ pl r = rp_vl pr n) ∨ (∃ k, k < pa ∧ wa k = true ∧ rp_rg ba (fx k) (wo k) (ch k % 3125) n) ∨ P n) ∧
  (∀ k, k < pa → wa k = true → ∀ n, rp_rg ba (fx k) (wo k) (ch k % 3125) n → ∀ r, r < fo → pl r ≠ rp_vl pr n) ∧
  (∀ k, k < pa → wa k = true → ∀ k', k' < pa → wa k' = true → ∀ n, rp_rg ba (fx k) (wo k) (ch k % 3125) n → rp_rg ba (fx k') (wo k') (ch k' % 3125) n → k = k') ∧
  (∀ n, P n → (∀ r, r < fo → pl r ≠ rp_vl pr n) ∧ ∀ k, k < pa → wa k = true → ¬ rp_rg ba (fx k) (wo k) (ch k % 3125) n)
theorem rp_XI_P {pr : Nat → Nat} {ba : Nat → Bool} {S : List Nat} {fo : Nat} {pl : Nat → Nat} {pa : Nat} {wa : Nat → Bool} {fx wo ch : Nat → Nat} {P P' : Nat → Prop} (h : rp_XI pr ba S fo pl pa wa fx wo ch P) (e : ∀ n, P n ↔ P' n) : rp_XI pr ba S fo pl pa wa fx wo ch P' := by
  have : P = P' := funext fun n => propext (e n)
  rw [← this]; exact h
theorem rp_rg_own {ba : Nat → Bool} {w sv fp m n : Nat} (h : rp_rg ba w sv fp m) : rp_rg ba w sv m n ↔ rp_rg ba w sv fp n := by
  obtain ⟨-, -, h3, -⟩ := h
  constructor
  · rintro ⟨a, b, c, d⟩; exact ⟨a, b, fun x hx => (c x hx).trans (h3 x hx), d⟩
  · rintro ⟨a, b, c, d⟩; exact ⟨a, b, fun x hx => (c x hx).trans (h3 x hx).symm, d⟩
/-- a part is added -/
theorem rp_XI_add {pr : Nat → Nat} {ba : Nat → Bool} {S : List Nat} {fo : Nat} {pl : Nat → Nat} {pa : Nat} {wa : Nat → Bool} {fx wo ch : Nat → Nat} {P : Nat → Prop} {w sv fp pa' : Nat} {wa' : Nat → Bool} {fx' wo' ch' : Nat → Nat} (h : rp_XI pr ba S fo pl pa wa fx wo ch P) (hw : w < 5) (hs : sv < 32) (hA : ∀ n, rp_rg ba w sv fp n → P n) (ha : rp_AP pr ba w sv fp pa wa fx wo ch pa' wa' fx' wo' ch') : rp_XI pr ba S fo pl pa' wa' fx' wo' ch' (fun n => P n ∧ ¬ rp_rg ba w sv fp n) := by
  obtain ⟨h1, h2, h3, h4, h5, h6⟩ := h
  rcases ha with ⟨rfl, rfl, rfl, rfl, rfl, hE⟩ | ⟨mn, rfl, rfl, rfl, rfl, rfl, hm, ⟨m, hm1, hm2⟩, hm3⟩
  · refine ⟨h1, h2, fun n a b => ?_, h4, h5, fun n a => h6 n a.1⟩
    rcases h3 n a b with q | q | q
    · exact Or.inl q
    · exact Or.inr (Or.inl q)
    · exact Or.inr (Or.inr ⟨q, hE n⟩)
  · have hmod : mn % 3125 = m := by rw [hm2]; exact rp_vl_mod hm1.1
    have eo : ∀ k, k < pa → va_up wa pa true k = wa k ∧ va_up fx pa w k = fx k ∧ va_up wo pa sv k = wo k ∧ va_up ch pa mn k = ch k := fun k hk => ⟨rp_un _ _ (by omega), rp_un _ _ (by omega), rp_un _ _ (by omega), rp_un _ _ (by omega)⟩
    have en : va_up wa pa true pa = true ∧ va_up fx pa w pa = w ∧ va_up wo pa sv pa = sv ∧ va_up ch pa mn pa = mn := ⟨rp_us _ _ _, rp_us _ _ _, rp_us _ _ _, rp_us _ _ _⟩
    have hN : ∀ n, rp_rg ba (va_up fx pa w pa) (va_up wo pa sv pa) (va_up ch pa mn pa % 3125) n ↔ rp_rg ba w sv fp n := fun n => by
      rw [en.2.1, en.2.2.1, en.2.2.2, hmod]; exact rp_rg_own hm1
    have hO : ∀ k, k < pa → ∀ n, rp_rg ba (va_up fx pa w k) (va_up wo pa sv k) (va_up ch pa mn k % 3125) n ↔ rp_rg ba (fx k) (wo k) (ch k % 3125) n := fun k hk n => by
      rw [(eo k hk).2.1, (eo k hk).2.2.1, (eo k hk).2.2.2]
    refine ⟨h1, fun k hk a => ?_, fun n a b => ?_, fun k hk a n hn r hr => ?_, fun k hk a k' hk' a' n hn hn' => ?_, fun n hn => ⟨(h6 n hn.1).1, fun k hk a hq => ?_⟩⟩
    · rcases Nat.lt_or_ge k pa with q | q
      · rw [(eo k q).1] at a
        rw [(eo k q).2.1, (eo k q).2.2.1, (eo k q).2.2.2]
        exact h2 k q a
      · have e : k = pa := by omega
        subst e
        rw [en.2.1, en.2.2.1, en.2.2.2]
        refine ⟨hw, hs, hm, ?_, ?_, fun n hn => ?_⟩
        · rw [hmod]; exact (rp_rg_own hm1).mpr hm1
        · rw [hmod]; exact hm2
        · rw [hmod] at hn; exact hm3 n ((rp_rg_own hm1).mp hn)
    · rcases h3 n a b with q | ⟨k, q1, q2, q3⟩ | q
      · exact Or.inl q
      · exact Or.inr (Or.inl ⟨k, by omega, by rw [(eo k q1).1]; exact q2, (hO k q1 n).mpr q3⟩)
      · rcases Classical.em (rp_rg ba w sv fp n) with g | g
        · exact Or.inr (Or.inl ⟨pa, by omega, en.1, (hN n).mpr g⟩)
        · exact Or.inr (Or.inr ⟨q, g⟩)
    · rcases Nat.lt_or_ge k pa with q | q
      · rw [(eo k q).1] at a
        exact h4 k q a n ((hO k q n).mp hn) r hr
      · have e : k = pa := by omega
        subst e
        exact (h6 n (hA n ((hN n).mp hn))).1 r hr
    · rcases Nat.lt_or_ge k pa with q | q
      · rw [(eo k q).1] at a
        rcases Nat.lt_or_ge k' pa with q' | q'
        · rw [(eo k' q').1] at a'
          exact h5 k q a k' q' a' n ((hO k q n).mp hn) ((hO k' q' n).mp hn')
        · have e : k' = pa := by omega
          subst e
          exact absurd ((hO k q n).mp hn) ((h6 n (hA n ((hN n).mp hn'))).2 k q a)
      · have e : k = pa := by omega
        subst e
        rcases Nat.lt_or_ge k' k with q' | q'
        · rw [(eo k' q').1] at a'
          exact absurd ((hO k' q' n).mp hn') ((h6 n (hA n ((hN n).mp hn))).2 k' q' a')
        · omega
    · rcases Nat.lt_or_ge k pa with q | q
      · rw [(eo k q).1] at a
        exact (h6 n hn.1).2 k q a ((hO k q n).mp hq)
      · have e : k = pa := by omega
        subst e
        exact hn.2 ((hN n).mp hq)
end
section
/-! plans in order, pure: the ranked list, the search for the cheapest part, taking it, dividing it -/
set_option maxRecDepth 100000
def rp_ins (x : Nat) : List Nat → List Nat
  | [] => [x]
  | y :: l => if x < y then x :: y :: l else y :: rp_ins x l
/-- the rising list of the values of all plans with numbers below n -/
def rp_SN (pr : Nat → Nat) (ba : Nat → Bool) : Nat → List Nat
  | 0 => []
  | n + 1 => if rp_ok ba n = true then rp_ins (rp_vl pr n) (rp_SN pr ba n) else rp_SN pr ba n
def rp_SL (pr : Nat → Nat) (ba : Nat → Bool) : List Nat := rp_SN pr ba 3125
theorem rp_ins_mem {x y : Nat} : ∀ {l : List Nat}, y ∈ rp_ins x l ↔ y = x ∨ y ∈ l := by
  intro l
  induction l with
  | nil => simp [rp_ins]
  | cons z l ih =>
    unfold rp_ins
    split
    · simp
    · simp only [List.mem_cons, ih]
      constructor
      · rintro (h | h | h)
        · exact Or.inr (Or.inl h)
        · exact Or.inl h
        · exact Or.inr (Or.inr h)
      · rintro (h | h | h)
        · exact Or.inr (Or.inl h)
        · exact Or.inl h
        · exact Or.inr (Or.inr h)
theorem rp_ins_len {x : Nat} : ∀ {l : List Nat}, (rp_ins x l).length = l.length + 1 := by
  intro l
  induction l with
  | nil => rfl
  | cons z l ih =>
    unfold rp_ins
    split
    · rfl
    · simp only [List.length_cons, ih]
theorem rp_ins_pw {x : Nat} : ∀ {l : List Nat}, l.Pairwise (· < ·) → x ∉ l → (rp_ins x l).Pairwise (· < ·) := by
  intro l
  induction l with
  | nil => intro _ _; simp [rp_ins]
  | cons z l ih =>
    intro h hx
    rw [List.pairwise_cons] at h
    rw [List.mem_cons, not_or] at hx
    unfold rp_ins
    split
    · rename_i q
      rw [List.pairwise_cons]
      refine ⟨fun y hy => ?_, List.pairwise_cons.mpr h⟩
      rcases List.mem_cons.mp hy with e | e
      · omega
      · have := h.1 y e
        omega
    · rename_i q
      rw [List.pairwise_cons]
      refine ⟨fun y hy => ?_, ih h.2 hx.2⟩
      rcases rp_ins_mem.mp hy with e | e
      · omega
      · exact h.1 y e
theorem rp_SN_mem {pr : Nat → Nat} {ba : Nat → Bool} {x : Nat} : ∀ {n : Nat}, x ∈ rp_SN pr ba n ↔ ∃ m, m < n ∧ rp_ok ba m = true ∧ x = rp_vl pr m := by
  intro n
  induction n with
  | zero =>
    constructor
    · intro h; cases h
    · rintro ⟨m, h, -⟩; omega
  | succ n ih =>
    unfold rp_SN
    split
    · rename_i q
      rw [rp_ins_mem, ih]
      constructor
      · rintro (h | ⟨m, a, b, c⟩)
        · exact ⟨n, by omega, q, h⟩
        · exact ⟨m, by omega, b, c⟩
      · rintro ⟨m, a, b, c⟩
        rcases Nat.lt_or_ge m n with g | g
        · exact Or.inr ⟨m, g, b, c⟩
        · have e : m = n := by omega
          rw [e] at c
          exact Or.inl c
    · rename_i q
      rw [ih]
      constructor
      · rintro ⟨m, a, b, c⟩; exact ⟨m, by omega, b, c⟩
      · rintro ⟨m, a, b, c⟩
        rcases Nat.lt_or_ge m n with g | g
        · exact ⟨m, g, b, c⟩
        · have e : m = n := by omega
          rw [e] at b
          exact absurd b q
theorem rp_vl_inj {pr : Nat → Nat} {n m : Nat} (hn : n < 3125) (hm : m < 3125) (h : rp_vl pr n = rp_vl pr m) : n = m := by
  rw [← rp_vl_mod (pr := pr) hn, ← rp_vl_mod (pr := pr) hm, h]
theorem rp_SN_pw {pr : Nat → Nat} {ba : Nat → Bool} : ∀ {n : Nat}, n ≤ 3125 → (rp_SN pr ba n).Pairwise (· < ·) := by
  intro n
  induction n with
  | zero => intro _; exact List.Pairwise.nil
  | succ n ih =>
    intro hn
    unfold rp_SN
    split
    · refine rp_ins_pw (ih (by omega)) (fun h => ?_)
      obtain ⟨m, a, -, c⟩ := rp_SN_mem.mp h
      have := rp_vl_inj (by omega) (by omega) c
      omega
    · exact ih (by omega)
def rp_ct : Nat → Nat
  | 0 => 0
  | n + 1 => rp_ct n + (if rp_pm n = true then 1 else 0)
theorem rp_SN_len {pr : Nat → Nat} {ba : Nat → Bool} : ∀ {n : Nat}, (rp_SN pr ba n).length ≤ rp_ct n := by
  intro n
  induction n with
  | zero => exact Nat.le_refl 0
  | succ n ih =>
    unfold rp_SN rp_ct
    split
    · rename_i q
      rw [rp_ins_len, if_pos (rp_ok_iff.mp q).1]
      omega
    · omega
theorem rp_ct_add (a : Nat) : ∀ b, rp_ct (a + b) = rp_ct a + (List.range b).countP (fun i => rp_pm (a + i)) := by
  intro b
  induction b with
  | zero => rfl
  | succ b ih =>
    rw [← Nat.add_assoc]
    show rp_ct (a + b) + (if rp_pm (a + b) = true then 1 else 0) = _
    rw [ih, List.range_succ, List.countP_append, List.countP_cons, List.countP_nil]
    omega
theorem rp_ct5 : (List.range 3125).countP (fun i => rp_pm (0 + i)) = 120 := by decide +kernel
theorem rp_ct_all : rp_ct 3125 = 120 := by
  have h := rp_ct_add 0 3125
  rw [rp_ct5] at h
  rw [Nat.zero_add] at h
  exact h
theorem rp_SL_len {pr : Nat → Nat} {ba : Nat → Bool} : (rp_SL pr ba).length ≤ 120 := by
  have := rp_SN_len (pr := pr) (ba := ba) (n := 3125)
  rw [rp_ct_all] at this
  exact this
theorem rp_SL_RL {pr : Nat → Nat} {ba : Nat → Bool} : rp_RL pr ba (rp_SL pr ba) := ⟨rp_SN_pw (Nat.le_refl _), fun _ => rp_SN_mem⟩
theorem rp_pw_lt {S : List Nat} (h : S.Pairwise (· < ·)) {i j x y : Nat} (hi : S[i]? = some x) (hj : S[j]? = some y) (hij : i < j) : x < y := by
  obtain ⟨h1, h2⟩ := List.getElem?_eq_some_iff.mp hi
  obtain ⟨h3, h4⟩ := List.getElem?_eq_some_iff.mp hj
  rw [← h2, ← h4]
  exact List.pairwise_iff_getElem.mp h i j h1 h3 hij
theorem rp_pw_inj {S : List Nat} (h : S.Pairwise (· < ·)) {i j x : Nat} (hi : S[i]? = some x) (hj : S[j]? = some x) : i = j := by
  rcases Nat.lt_trichotomy i j with q | q | q
  · exact absurd (rp_pw_lt h hi hj q) (Nat.lt_irrefl _)
  · exact q
  · exact absurd (rp_pw_lt h hj hi q) (Nat.lt_irrefl _)
/-- before any part: every plan is still to come -/
theorem rp_XI_0 {pr : Nat → Nat} {ba : Nat → Bool} {S : List Nat} {pl : Nat → Nat} {wa : Nat → Bool} {fx wo ch : Nat → Nat} : rp_XI pr ba S 0 pl 0 wa fx wo ch (fun n => rp_rg ba 0 0 0 n) := by
  refine ⟨fun r h => by omega, fun k h => by omega, fun n a b => Or.inr (Or.inr ⟨a, b, fun w h => by omega, by simp⟩), fun k h => by omega, fun k h => by omega, fun n _ => ⟨fun r h => by omega, fun k h => by omega⟩⟩
theorem rp_XI_1 {pr : Nat → Nat} {ba : Nat → Bool} {S : List Nat} {pl : Nat → Nat} {wa : Nat → Bool} {fx wo ch : Nat → Nat} {pa' : Nat} {wa' : Nat → Bool} {fx' wo' ch' : Nat → Nat} (ha : rp_AP pr ba 0 0 0 0 wa fx wo ch pa' wa' fx' wo' ch') : rp_XI pr ba S 0 pl pa' wa' fx' wo' ch' (fun _ => False) :=
  rp_XI_P (rp_XI_add rp_XI_0 (by omega) (by omega) (fun _ h => h) ha) (fun n => ⟨fun h => h.2 h.1, fun h => h.elim⟩)
theorem rp_AP_old {pr : Nat → Nat} {ba : Nat → Bool} {w sv fp pa : Nat} {wa : Nat → Bool} {fx wo ch : Nat → Nat} {pa' : Nat} {wa' : Nat → Bool} {fx' wo' ch' : Nat → Nat} (ha : rp_AP pr ba w sv fp pa wa fx wo ch pa' wa' fx' wo' ch') : pa ≤ pa' ∧ pa' ≤ pa + 1 ∧ ∀ k, k < pa → fx' k = fx k ∧ wo' k = wo k := by
  rcases ha with ⟨rfl, rfl, rfl, rfl, rfl, -⟩ | ⟨mn, rfl, rfl, rfl, rfl, rfl, -⟩
  · exact ⟨Nat.le_refl _, by omega, fun k _ => ⟨rfl, rfl⟩⟩
  · exact ⟨by omega, Nat.le_refl _, fun k hk => ⟨rp_un _ _ (by omega), rp_un _ _ (by omega)⟩⟩
/-- the cheapest waiting part below i: b = 0 for none, k + 1 for k -/
def rp_bw (wa : Nat → Bool) (ch : Nat → Nat) (i b : Nat) : Prop := (b = 0 ∧ ∀ j, j < i → wa j = false) ∨ (∃ k, b = k + 1 ∧ k < i ∧ wa k = true ∧ ∀ j, j < i → wa j = true → ch k ≤ ch j)
theorem rp_bw_0 {wa : Nat → Bool} {ch : Nat → Nat} : rp_bw wa ch 0 0 := Or.inl ⟨rfl, fun j h => by omega⟩
theorem rp_bw_skip {wa : Nat → Bool} {ch : Nat → Nat} {i b : Nat} (h : rp_bw wa ch i b) (hw : wa i = false) : rp_bw wa ch (i + 1) b := by
  rcases h with ⟨e, h⟩ | ⟨k, e, h1, h2, h3⟩
  · refine Or.inl ⟨e, fun j hj => ?_⟩
    rcases Nat.lt_or_ge j i with q | q
    · exact h j q
    · rw [show j = i by omega]; exact hw
  · refine Or.inr ⟨k, e, by omega, h2, fun j hj hj2 => ?_⟩
    rcases Nat.lt_or_ge j i with q | q
    · exact h3 j q hj2
    · rw [show j = i by omega, hw] at hj2; cases hj2
theorem rp_bw_first {wa : Nat → Bool} {ch : Nat → Nat} {i b : Nat} (h : rp_bw wa ch i b) (hb : b = 0) (hw : wa i = true) : rp_bw wa ch (i + 1) (i + 1) := by
  rcases h with ⟨-, h⟩ | ⟨k, e, -⟩
  · refine Or.inr ⟨i, rfl, by omega, hw, fun j hj hj2 => ?_⟩
    rcases Nat.lt_or_ge j i with q | q
    · rw [h j q] at hj2; cases hj2
    · rw [show j = i by omega]; exact Nat.le_refl _
  · omega
theorem rp_bw_at {wa : Nat → Bool} {ch : Nat → Nat} {i b : Nat} (h : rp_bw wa ch i b) (hb : 0 < b) : b - 1 < i ∧ wa (b - 1) = true ∧ ∀ j, j < i → wa j = true → ch (b - 1) ≤ ch j := by
  rcases h with ⟨e, -⟩ | ⟨k, e, h1, h2, h3⟩
  · omega
  · rw [show b - 1 = k by omega]
    exact ⟨h1, h2, h3⟩
theorem rp_bw_new {wa : Nat → Bool} {ch : Nat → Nat} {i b : Nat} (h : rp_bw wa ch i b) (hb : 0 < b) (hw : wa i = true) (hc : ch i < ch (b - 1)) : rp_bw wa ch (i + 1) (i + 1) := by
  obtain ⟨h1, h2, h3⟩ := rp_bw_at h hb
  refine Or.inr ⟨i, rfl, by omega, hw, fun j hj hj2 => ?_⟩
  rcases Nat.lt_or_ge j i with q | q
  · have := h3 j q hj2
    omega
  · rw [show j = i by omega]; exact Nat.le_refl _
theorem rp_bw_old {wa : Nat → Bool} {ch : Nat → Nat} {i b : Nat} (h : rp_bw wa ch i b) (hb : 0 < b) (hc : ch (b - 1) ≤ ch i) : rp_bw wa ch (i + 1) b := by
  obtain ⟨h1, h2, h3⟩ := rp_bw_at h hb
  refine Or.inr ⟨b - 1, by omega, by omega, h2, fun j hj hj2 => ?_⟩
  rcases Nat.lt_or_ge j i with q | q
  · exact h3 j q hj2
  · rw [show j = i by omega]; exact hc
theorem rp_bw_none {wa : Nat → Bool} {ch : Nat → Nat} {i b : Nat} (h : rp_bw wa ch i b) (hb : b = 0) : ∀ j, j < i → wa j = false := by
  rcases h with ⟨-, h⟩ | ⟨k, e, -⟩
  · exact h
  · omega
/-- the plans of a divided part that are still to come: the first w workers as in the plan p -/
def rp_Pw (ba : Nat → Bool) (f o p w n : Nat) : Prop := rp_rg ba f o p n ∧ (∀ x, x < w → rp_dg n x = rp_dg p x) ∧ n ≠ p
theorem rp_XI_le {pr : Nat → Nat} {ba : Nat → Bool} {S : List Nat} {fo : Nat} {pl : Nat → Nat} {pa : Nat} {wa : Nat → Bool} {fx wo ch : Nat → Nat} {P : Nat → Prop} (h : rp_XI pr ba S fo pl pa wa fx wo ch P) : fo ≤ S.length := by
  rcases Nat.eq_zero_or_pos fo with q | q
  · omega
  · have := (List.getElem?_eq_some_iff.mp (h.1 (fo - 1) (by omega))).1
    omega
/-- nothing waits: all are found -/
theorem rp_XI_end {pr : Nat → Nat} {ba : Nat → Bool} {S : List Nat} {fo : Nat} {pl : Nat → Nat} {pa : Nat} {wa : Nat → Bool} {fx wo ch : Nat → Nat} (hR : rp_RL pr ba S) (h : rp_XI pr ba S fo pl pa wa fx wo ch (fun _ => False)) (hn : ∀ k, k < pa → wa k = false) : fo = S.length := by
  have hle := rp_XI_le h
  obtain ⟨h1, h2, h3, h4, h5, h6⟩ := h
  rcases Nat.lt_or_ge fo S.length with q | q
  · have hS : S[fo]? = some S[fo] := List.getElem?_eq_getElem q
    obtain ⟨n, a, b, c⟩ := (hR.2 S[fo]).mp (List.getElem_mem q)
    rcases h3 n a b with ⟨r, hr, e⟩ | ⟨k, hk, e, -⟩ | g
    · have := h1 r hr
      rw [e, ← c] at this
      have := rp_pw_inj hR.1 this hS
      omega
    · rw [hn k hk] at e; cases e
    · exact g.elim
  · omega
theorem rp_XI_next {pr : Nat → Nat} {ba : Nat → Bool} {S : List Nat} {fo : Nat} {pl : Nat → Nat} {pa : Nat} {wa : Nat → Bool} {fx wo ch : Nat → Nat} {k : Nat} (hR : rp_RL pr ba S) (h : rp_XI pr ba S fo pl pa wa fx wo ch (fun _ => False)) (hk : k < pa) (hw : wa k = true) (hm : ∀ j, j < pa → wa j = true → ch k ≤ ch j) : S[fo]? = some (ch k) := by
  obtain ⟨h1, h2, h3, h4, h5, h6⟩ := h
  obtain ⟨p1, p2, p3, p4, p5, p6⟩ := h2 k hk hw
  have hmem : ch k ∈ S := (hR.2 _).mpr ⟨ch k % 3125, p4.1, p4.2.1, p5⟩
  obtain ⟨i, hi⟩ := List.mem_iff_getElem?.mp hmem
  rcases Nat.lt_trichotomy i fo with q | q | q
  · have := h1 i q
    rw [hi] at this
    injection this with this
    exact absurd (this.symm.trans p5) (h4 k hk hw _ p4 i q)
  · rw [← q]; exact hi
  · have hl := (List.getElem?_eq_some_iff.mp hi).1
    have hS : S[fo]? = some (S[fo]'(by omega)) := List.getElem?_eq_getElem (by omega)
    obtain ⟨n, a, b, c⟩ := (hR.2 (S[fo]'(by omega))).mp (List.getElem_mem (by omega))
    have hlt := rp_pw_lt hR.1 hS hi q
    rcases h3 n a b with ⟨r, hr, e⟩ | ⟨k', hk', e, g⟩ | g
    · have := h1 r hr
      rw [e, ← c] at this
      have := rp_pw_inj hR.1 this hS
      omega
    · obtain ⟨-, -, -, -, -, q6⟩ := h2 k' hk' e
      have g1 := q6 n g
      have g2 := hm k' hk' e
      omega
    · exact g.elim
/-- the cheapest plan is found, its part is divided -/
theorem rp_XI_take {pr : Nat → Nat} {ba : Nat → Bool} {S : List Nat} {fo : Nat} {pl : Nat → Nat} {pa : Nat} {wa : Nat → Bool} {fx wo ch : Nat → Nat} {k : Nat} (hR : rp_RL pr ba S) (h : rp_XI pr ba S fo pl pa wa fx wo ch (fun _ => False)) (hk : k < pa) (hw : wa k = true) (hm : ∀ j, j < pa → wa j = true → ch k ≤ ch j) :
    rp_XI pr ba S (fo + 1) (va_up pl fo (ch k)) pa (va_up wa k false) fx wo ch (rp_Pw ba (fx k) (wo k) (ch k % 3125) (fx k)) := by
  have hnx := rp_XI_next hR h hk hw hm
  obtain ⟨h1, h2, h3, h4, h5, h6⟩ := h
  obtain ⟨p1, p2, p3, p4, p5, p6⟩ := h2 k hk hw
  have hwa : ∀ j, va_up wa k false j = true → j ≠ k ∧ wa j = true := fun j hj => by
    rcases Nat.decEq j k with q | q
    · rw [rp_un _ _ q] at hj; exact ⟨q, hj⟩
    · rw [q, rp_us] at hj; cases hj
  have hpl : ∀ r, r < fo → va_up pl fo (ch k) r = pl r := fun r hr => rp_un _ _ (by omega)
  refine ⟨fun r hr => ?_, fun j hj a => h2 j hj (hwa j a).2, fun n a b => ?_, fun j hj a n hn r hr => ?_, fun j hj a j' hj' a' n hn hn' => h5 j hj (hwa j a).2 j' hj' (hwa j' a').2 n hn hn', fun n hn => ⟨fun r hr => ?_, fun j hj a hq => ?_⟩⟩
  · rcases Nat.lt_or_ge r fo with q | q
    · rw [hpl r q]; exact h1 r q
    · rw [show r = fo by omega, rp_us]; exact hnx
  · rcases h3 n a b with ⟨r, hr, e⟩ | ⟨j, hj, e, g⟩ | g
    · exact Or.inl ⟨r, by omega, by rw [hpl r hr]; exact e⟩
    · rcases Nat.decEq j k with q | q
      · exact Or.inr (Or.inl ⟨j, hj, by rw [rp_un _ _ q]; exact e, g⟩)
      · subst q
        rcases Nat.decEq n (ch j % 3125) with t | t
        · exact Or.inr (Or.inr ⟨g, g.2.2.1, t⟩)
        · exact Or.inl ⟨fo, by omega, by rw [rp_us, t]; exact p5⟩
    · exact g.elim
  · obtain ⟨q1, q2⟩ := hwa j a
    rcases Nat.lt_or_ge r fo with q | q
    · rw [hpl r q]; exact h4 j hj q2 n hn r q
    · rw [show r = fo by omega, rp_us]
      intro e
      have e2 : n = ch k % 3125 := rp_vl_inj (pr := pr) hn.1 p4.1 (by rw [← e]; exact p5)
      rw [e2] at hn
      exact q1 (h5 j hj q2 k hk hw _ hn p4)
  · rcases Nat.lt_or_ge r fo with q | q
    · rw [hpl r q]; exact h4 k hk hw n hn.1 r q
    · rw [show r = fo by omega, rp_us]
      intro e
      exact hn.2.2 (rp_vl_inj (pr := pr) hn.1.1 p4.1 (by rw [← e]; exact p5))
  · obtain ⟨q1, q2⟩ := hwa j a
    exact q1 (h5 j hj q2 k hk hw n hq hn.1)
theorem rp_bits : ∀ o : Fin 32, ∀ t s : Fin 5, (o.val ||| 1 * 2 ^ s.val) < 32 ∧ ((o.val ||| 1 * 2 ^ s.val) / 2 ^ t.val % 2 = 0 ↔ o.val / 2 ^ t.val % 2 = 0 ∧ t ≠ s) := by decide +kernel
theorem rp_bit {o t s : Nat} (ho : o < 32) (ht : t < 5) (hs : s < 5) : (o ||| 1 * 2 ^ s) < 32 ∧ ((o ||| 1 * 2 ^ s) / 2 ^ t % 2 = 0 ↔ o / 2 ^ t % 2 = 0 ∧ t ≠ s) := by
  have h := rp_bits ⟨o, ho⟩ ⟨t, ht⟩ ⟨s, hs⟩
  refine ⟨h.1, h.2.trans ?_⟩
  constructor
  · rintro ⟨a, b⟩; exact ⟨a, fun e => b (Fin.ext e)⟩
  · rintro ⟨a, b⟩; exact ⟨a, fun e => b (Fin.mk.inj e)⟩
/-- the set of the next part at worker w -/
theorem rp_Pw_in {ba : Nat → Bool} {f o p w n sv : Nat} (ho : o < 32) (hf : f ≤ w) (hp : rp_rg ba f o p p) (hs : sv = if w = f then o else 0) (h : rp_rg ba w (sv ||| 1 * 2 ^ rp_dg p w) p n) : rp_Pw ba f o p w n := by
  obtain ⟨a, b, c, d⟩ := h
  have hsv : sv < 32 := by rw [hs]; split <;> omega
  obtain ⟨d1, d2⟩ := (rp_bit hsv (rp_dg_lt n w) (rp_dg_lt p w)).2.mp d
  refine ⟨⟨a, b, fun x hx => c x (by omega), ?_⟩, c, fun e => d2 (by rw [e])⟩
  rcases Nat.lt_or_ge f w with q | q
  · rw [c f q]; exact hp.2.2.2
  · have e : w = f := by omega
    rw [if_pos e] at hs
    rw [← hs, ← e]; exact d1
theorem rp_Pw_s {ba : Nat → Bool} {f o p w n sv : Nat} (ho : o < 32) (hf : f ≤ w) (hs : sv = if w = f then o else 0) : (rp_Pw ba f o p w n ∧ ¬ rp_rg ba w (sv ||| 1 * 2 ^ rp_dg p w) p n) ↔ rp_Pw ba f o p (w + 1) n := by
  have hsv : sv < 32 := by rw [hs]; split <;> omega
  have hb := (rp_bit hsv (rp_dg_lt n w) (rp_dg_lt p w)).2
  constructor
  · rintro ⟨⟨a, b, c⟩, d⟩
    refine ⟨a, fun x hx => ?_, c⟩
    rcases Nat.lt_or_ge x w with q | q
    · exact b x q
    · have e : x = w := by omega
      subst e
      rcases Nat.decEq (rp_dg n x) (rp_dg p x) with g | g
      · refine absurd ⟨a.1, a.2.1, b, hb.mpr ⟨?_, g⟩⟩ d
        rw [hs]
        split
        · rename_i e; rw [e]; exact a.2.2.2
        · simp
      · exact g
  · rintro ⟨a, b, c⟩
    refine ⟨⟨a, fun x hx => b x (by omega), c⟩, fun d => ?_⟩
    exact (hb.mp d.2.2.2).2 (b w (by omega))
theorem rp_Pw_5 {ba : Nat → Bool} {f o p n : Nat} (hp : p < 3125) : rp_Pw ba f o p 5 n ↔ False := by
  constructor
  · rintro ⟨a, b, c⟩; exact c (rp_dg_inj a.1 hp b)
  · intro h; exact h.elim
/-- one step of the division -/
theorem rp_XI_div {pr : Nat → Nat} {ba : Nat → Bool} {S : List Nat} {fo : Nat} {pl : Nat → Nat} {pa : Nat} {wa : Nat → Bool} {fx wo ch : Nat → Nat} {f o p w sv pa' : Nat} {wa' : Nat → Bool} {fx' wo' ch' : Nat → Nat} (h : rp_XI pr ba S fo pl pa wa fx wo ch (rp_Pw ba f o p w)) (hw : w < 5) (ho : o < 32) (hf : f ≤ w) (hp : rp_rg ba f o p p) (hs : sv = if w = f then o else 0) (ha : rp_AP pr ba w (sv ||| 1 * 2 ^ rp_dg p w) p pa wa fx wo ch pa' wa' fx' wo' ch') : rp_XI pr ba S fo pl pa' wa' fx' wo' ch' (rp_Pw ba f o p (w + 1)) := by
  have hsv : sv < 32 := by rw [hs]; split <;> omega
  exact rp_XI_P (rp_XI_add h hw (rp_bit hsv (rp_dg_lt p w) (rp_dg_lt p w)).1 (fun n hn => rp_Pw_in ho hf hp hs hn) ha) (fun n => rp_Pw_s ho hf hs)
end
section
/-! more rows: an index or -1, longs against ints; the answers of the public methods, pure -/
set_option maxRecDepth 100000
/-- the index of a part in a cell, or -1 -/
def rp_Q (b : Nat) : Int32 := if b = 0 then -1 else nI (b - 1)
theorem rp_Q_pos {b : Nat} (h : 0 < b) : rp_Q b = nI (b - 1) := if_neg (by omega)
theorem rp_Q_s (i : Nat) : nI i = rp_Q (i + 1) := by
  rw [rp_Q_pos (by omega), Nat.add_sub_cancel]
theorem rp_Q_lt {b : Nat} (h : b < 2 ^ 31) : rp_Q b < 0 ↔ b = 0 := by
  constructor
  · intro q
    rcases Nat.eq_zero_or_pos b with e | e
    · exact e
    · rw [rp_Q_pos e] at q
      exact absurd q (nI_pos (by omega))
  · intro e
    rw [e]; decide
theorem rp_Q_ge {b : Nat} (h : b < 2 ^ 31) : 0 ≤ rp_Q b ↔ 0 < b := by
  have h1 := rp_Q_lt h
  rw [Int32.lt_iff_toInt_lt] at h1
  rw [Int32.le_iff_toInt_le]
  omega
section RPX
variable {p : Program} {l : Launch} {e : Env} {R : Room} {s : State} {m : MethodId} {args : Array Value} {below : List Frame} {meth : Method} {c : Code} {H : Heap} {locs : List Loc} {cells slots : Nat} {Q : State → Prop}
variable {cc : ByteArray} {pc : Nat} {ls : Array Slot} {rest : List Value}
theorem rp_qlt (hexec : p.tables.exec = Jvm.exec) (hb : c.code = cc) {x : Nat} (hx : x < 2 ^ 31) {off : Int} {tgt : Nat} (hdg : decode cc pc = .ok (.ifCond .lt off, 3)) (ht : (pc : Int) + off = (tgt : Int))
    (kt : x = 0 → W p l e R s m args below meth c H locs cells slots Q (F0 m tgt ls rest)) (kf : 0 < x → W p l e R s m args below meth c H locs cells slots Q (F0 m (pc + 3) ls rest)) : W p l e R s m args below meth c H locs cells slots Q (F0 m pc ls (.int (rp_Q x) :: rest)) :=
  lv_if_lt hexec hb hdg ht (fun h => kt ((rp_Q_lt hx).mp h)) (fun h => kf (Nat.pos_of_ne_zero fun q => h ((rp_Q_lt hx).mpr q)))
theorem rp_qge (hexec : p.tables.exec = Jvm.exec) (hb : c.code = cc) {x : Nat} (hx : x < 2 ^ 31) {off : Int} {tgt : Nat} (hdg : decode cc pc = .ok (.ifCond .ge off, 3)) (ht : (pc : Int) + off = (tgt : Int))
    (kt : 0 < x → W p l e R s m args below meth c H locs cells slots Q (F0 m tgt ls rest)) (kf : x = 0 → W p l e R s m args below meth c H locs cells slots Q (F0 m (pc + 3) ls rest)) : W p l e R s m args below meth c H locs cells slots Q (F0 m pc ls (.int (rp_Q x) :: rest)) :=
  lv_if_ge hexec hb hdg ht (fun h => kt ((rp_Q_ge hx).mp h)) (fun h => kf (by
    rcases Nat.eq_zero_or_pos x with q | q
    · exact q
    · exact absurd ((rp_Q_ge hx).mpr q) h))
end RPX
theorem rp_l_eq {a : Nat} {k : Int32} (h : a < 2 ^ 31) : lN a = k.toInt64 ↔ nI a = k := by
  rw [← Int64.toInt_inj, ← Int32.toInt_inj, Int32.toInt_toInt64, lN_toInt h, nI_toInt h]
theorem rp_l_le {a : Nat} {k : Int32} (h : a < 2 ^ 31) : lN a ≤ k.toInt64 ↔ (a : Int) ≤ k.toInt := by
  rw [Int64.le_iff_toInt_le, Int32.toInt_toInt64, lN_toInt h]
/-- an int in 0 .. 119 -/
theorem rp_k_of {k : Int32} (h1 : ¬ k < 0) (h2 : k ≤ nI 119) : ∃ j, j < 120 ∧ k = nI j := by
  obtain ⟨j, hj, e⟩ := nI_of2 (M := nI 119) (n := 119) (by decide) h1 h2
  exact ⟨j, by omega, e⟩
/-- what holds between the calls: if started, the found are the first of the list -/
def rp_XJ (pr : Nat → Nat) (ba : Nat → Bool) (S : List Nat) (st en : Bool) (fo : Nat) (pl : Nat → Nat) (pa : Nat) (wa : Nat → Bool) (fx wo ch : Nat → Nat) : Prop :=
  st = true → rp_XI pr ba S fo pl pa wa fx wo ch (fun _ => False) ∧ pa ≤ 1 + 5 * fo ∧ (en = true → fo = S.length)
theorem rp_RL_lt {pr : Nat → Nat} {ba : Nat → Bool} {S : List Nat} (hpr : ∀ j, j < 25 → pr j < 100) (hR : rp_RL pr ba S) {i x : Nat} (h : S[i]? = some x) : x < 1000000000 := by
  obtain ⟨n, a, b, c⟩ := (hR.2 x).mp (List.mem_iff_getElem?.mpr ⟨i, h⟩)
  rw [c]; exact rp_vl_lt hpr a
def rp_at (S : List Nat) (k : Int32) : Option Nat := if k.toInt < 0 then none else S[k.toInt.toNat]?
theorem rp_at_nI {S : List Nat} {j : Nat} (h : j < 2 ^ 31) : rp_at S (nI j) = S[j]? := by
  unfold rp_at
  rw [nI_toInt h, if_neg (by omega), Int.toNat_natCast]
theorem rp_at_neg {S : List Nat} {k : Int32} (h : k < 0) : rp_at S k = none := by
  rw [Int32.lt_iff_toInt_lt, Int32.toInt_zero] at h
  exact if_pos h
theorem rp_at_big {S : List Nat} {k : Int32} (hS : S.length ≤ 120) (h : nI 119 < k) : rp_at S k = none := by
  rw [Int32.lt_iff_toInt_lt, show (nI 119).toInt = 119 by decide] at h
  unfold rp_at
  rw [if_neg (by omega)]
  exact List.getElem?_eq_none (by omega)
def rp_hr (S : List Nat) (k : Int32) : Bool := (rp_at S k).isSome
def rp_a_cost (S : List Nat) (k : Int32) : Int32 := match rp_at S k with
  | some x => nI (x / 3125)
  | none => -1
def rp_a_plan (S : List Nat) (k : Int32) : Int32 := match rp_at S k with
  | some x => nI (x % 3125)
  | none => -1
def rp_a_task (S : List Nat) (k w : Int32) : Int32 := if rp_ir w = true then (match rp_at S k with
  | some x => nI (rp_dg (x % 3125) w.toInt.toNat)
  | none => -1) else -1
def rp_cw (lim : Int32) (x : Nat) : Bool := decide (((x / 3125 : Nat) : Int) ≤ lim.toInt)
def rp_a_within (S : List Nat) (lim : Int32) : Int32 := nI (S.countP (rp_cw lim))
def rp_a_rank (S : List Nat) (k : Int32) : Int32 := match S.findIdx? (fun x => decide (nI (x % 3125) = k)) with
  | some r => nI r
  | none => -1
def rp_a_with (S : List Nat) (w t : Int32) : Int32 := if rp_ir w = true ∧ rp_ir t = true then (match S.find? (fun x => decide (rp_dg (x % 3125) w.toInt.toNat = t.toInt.toNat)) with
  | some x => nI (x / 3125)
  | none => -1) else -1
/-- the valid prices -/
def rp_vp (w t p : Int32) : Bool := rp_ir w && rp_ir t && decide (0 ≤ p.toInt ∧ p.toInt ≤ 99)
def rp_ix (w t : Int32) : Nat := 5 * w.toInt.toNat + t.toInt.toNat
def rp_npr (pr : Nat → Nat) (w t p : Int32) : Nat → Nat := if rp_vp w t p = true then va_up pr (rp_ix w t) p.toInt.toNat else pr
def rp_nba (ba : Nat → Bool) (w t p : Int32) : Nat → Bool := if rp_vp w t p = true then va_up ba (rp_ix w t) false else ba
def rp_nbb (ba : Nat → Bool) (w t : Int32) : Nat → Bool := if (rp_ir w && rp_ir t) = true then va_up ba (rp_ix w t) true else ba
theorem rp_cnt_pre {f : Nat → Bool} : ∀ {S : List Nat} {r : Nat}, r ≤ S.length → (∀ j x, j < r → S[j]? = some x → f x = true) → (∀ j x, r ≤ j → S[j]? = some x → f x = false) → S.countP f = r := by
  intro S
  induction S with
  | nil => intro r h _ _; simp at h; simp [h]
  | cons y l ih =>
    intro r h h1 h2
    cases r with
    | zero =>
      have hy := h2 0 y (Nat.le_refl _) rfl
      rw [List.countP_cons, hy]
      have := ih (r := 0) (Nat.zero_le _) (fun j x hj => by omega) (fun j x _ hx => h2 (j + 1) x (by omega) (by simpa using hx))
      simp [this]
    | succ r =>
      have hy := h1 0 y (by omega) rfl
      rw [List.countP_cons, hy]
      have := ih (r := r) (by simpa using h) (fun j x hj hx => h1 (j + 1) x (by omega) (by simpa using hx)) (fun j x hj hx => h2 (j + 1) x (by omega) (by simpa using hx))
      simp [this]
theorem rp_cw_mono {lim : Int32} {x y : Nat} (h : x < y) (hy : rp_cw lim y = true) : rp_cw lim x = true := by
  have h1 := of_decide_eq_true hy
  refine decide_eq_true ?_
  have : x / 3125 ≤ y / 3125 := Nat.div_le_div_right (by omega)
  omega
/-- the count within a limit, from the first that is beyond it -/
theorem rp_within_at {S : List Nat} {lim : Int32} {r : Nat} (hS : S.Pairwise (· < ·)) (hr : r ≤ S.length) (h1 : ∀ j x, j < r → S[j]? = some x → rp_cw lim x = true) (h2 : ∀ x, S[r]? = some x → rp_cw lim x = false) : rp_a_within S lim = nI r := by
  unfold rp_a_within
  rw [rp_cnt_pre hr h1 (fun j x hj hx => ?_)]
  rcases Nat.lt_or_ge r j with q | q
  · cases hc : rp_cw lim x with
    | false => rfl
    | true =>
      have hl := (List.getElem?_eq_some_iff.mp hx).1
      have hs : S[r]? = some (S[r]'(by omega)) := List.getElem?_eq_getElem (by omega)
      have := rp_cw_mono (rp_pw_lt hS hs hx q) hc
      rw [h2 _ hs] at this
      exact this.symm
  · have e : j = r := by omega
    rw [e] at hx
    exact h2 x hx
theorem rp_rank_at {S : List Nat} {k : Int32} {r x : Nat} (h1 : ∀ j y, j < r → S[j]? = some y → nI (y % 3125) ≠ k) (hx : S[r]? = some x) (h2 : nI (x % 3125) = k) : rp_a_rank S k = nI r := by
  have : S.findIdx? (fun x => decide (nI (x % 3125) = k)) = some r := by
    rw [List.findIdx?_eq_some_iff_getElem]
    obtain ⟨a, b⟩ := List.getElem?_eq_some_iff.mp hx
    refine ⟨a, by rw [b]; exact decide_eq_true h2, fun j hj => ?_⟩
    have := h1 j _ hj (List.getElem?_eq_getElem (by omega))
    simp [this]
  unfold rp_a_rank
  rw [this]
theorem rp_rank_no {S : List Nat} {k : Int32} (h1 : ∀ j y : Nat, S[j]? = some y → nI (y % 3125) ≠ k) : rp_a_rank S k = -1 := by
  have : S.findIdx? (fun x => decide (nI (x % 3125) = k)) = none := by
    rw [List.findIdx?_eq_none_iff]
    intro x hx
    obtain ⟨j, hj⟩ := List.mem_iff_getElem?.mp hx
    exact decide_eq_false (h1 j x hj)
  unfold rp_a_rank
  rw [this]
theorem rp_find_at {S : List Nat} {f : Nat → Bool} {r x : Nat} (h1 : ∀ j y, j < r → S[j]? = some y → f y = false) (hx : S[r]? = some x) (h2 : f x = true) : S.find? f = some x := by
  rw [List.find?_eq_some_iff_getElem]
  obtain ⟨a, b⟩ := List.getElem?_eq_some_iff.mp hx
  refine ⟨h2, r, a, b, fun j hj => ?_⟩
  rw [h1 j _ hj (List.getElem?_eq_getElem (by omega))]
  rfl
theorem rp_find_no {S : List Nat} {f : Nat → Bool} (h1 : ∀ j y : Nat, S[j]? = some y → f y = false) : S.find? f = none := by
  rw [List.find?_eq_none]
  intro x hx
  obtain ⟨j, hj⟩ := List.mem_iff_getElem?.mp hx
  rw [h1 j x hj]
  exact Bool.false_ne_true
end
section
/-! addPart, divide -/
set_option maxRecDepth 100000
theorem rp_min_le {pr : Nat → Nat} {ba : Nat → Bool} {fw wt fp pw pt mn : Nat} (hpr : ∀ j, j < 25 → pr j < 100) (h : rp_min (rp_C pr ba fw wt fp pw pt) mn) : mn ≤ 5000000000 := by
  obtain ⟨⟨n, -, -, e⟩, -⟩ := h
  have hC := rp_C_le (ba := ba) (fw := fw) (wt := wt) (fp := fp) (pw := pw) (pt := pt) hpr
  have h0 := hC 0 (rp_dg n 0) (by omega) (rp_dg_lt n 0)
  have h1 := hC 1 (rp_dg n 1) (by omega) (rp_dg_lt n 1)
  have h2 := hC 2 (rp_dg n 2) (by omega) (rp_dg_lt n 2)
  have h3 := hC 3 (rp_dg n 3) (by omega) (rp_dg_lt n 3)
  have h4 := hC 4 (rp_dg n 4) (by omega) (rp_dg_lt n 4)
  rw [e]
  unfold rp_tot
  omega
set_option maxHeartbeats 4000000 in
/-- addPart(a0, a1, a2): the part, if it has a plan, waits with its cheapest -/
theorem metX0_addPart (l : Launch) (dC : Nat → ClassId) (dI : Nat → Nat → Nat) (h0 : Nat) (ad : Nat → Nat) (dA : Nat → ClassId) (sz : Nat) (pr : Nat → Nat) (ba : Nat → Bool) (st : Bool) (en : Bool) (fo : Nat) (pl : Nat → Nat) (pa : Nat) (wa : Nat → Bool) (fx : Nat → Nat) (wo : Nat → Nat) (ch : Nat → Nat) (fw : Nat) (wt : Nat) (fp : Nat) (pw : Nat) (pt : Nat) (u : Nat → Int) (v : Nat → Int) (ho : Nat → Nat) (be : Nat → Nat) (sl : Nat → Int) (se : Nat → Bool) (a0 a1 a2 : Nat) (hpr : ∀ j, j < 25 → pr j < 100) (ha0 : a0 < 5) (ha1 : a1 < 32) (ha2 : a2 < 3125) (hpw5 : pw = 5) (hpt : pt < 5) (hpa : pa < 640) : Met l yX0_addPart (ws_ yX0_addPart cX0_addPart 6 none) (rp_rm 6 139) (rp_Pc dC dI [.ref h0, .int (nI a0), .int (nI a1), .int (nI a2)] sz (rp_xw h0 ad dA pr ba st en fo pl pa wa fx wo ch fw wt fp pw pt u v ho be sl se) (rp_xk dA)) (va_Qv (fun (z : Nat × (Nat → Bool) × (Nat → Nat) × (Nat → Nat) × (Nat → Nat) × (Nat → Int) × (Nat → Int) × (Nat → Nat) × (Nat → Nat) × (Nat → Int) × (Nat → Bool)) => rp_AP pr ba a0 a1 a2 pa wa fx wo ch z.1 z.2.1 z.2.2.1 z.2.2.2.1 z.2.2.2.2.1) (fun z t => rp_Bc dC dI (va_A (rp_xw h0 ad dA pr ba st en fo pl pa wa fx wo ch fw wt fp pw pt u v ho be sl se) sz) (rp_xw h0 ad dA pr ba st en fo pl z.1 z.2.1 z.2.2.1 z.2.2.2.1 z.2.2.2.2.1 a0 a1 a2 pw pt z.2.2.2.2.2.1 z.2.2.2.2.2.2.1 z.2.2.2.2.2.2.2.1 z.2.2.2.2.2.2.2.2.1 z.2.2.2.2.2.2.2.2.2.1 z.2.2.2.2.2.2.2.2.2.2) (rp_xk dA) t) (va_A (rp_xw h0 ad dA pr ba st en fo pl pa wa fx wo ch fw wt fp pw pt u v ho be sl se) sz)) 0 0 (va_A (rp_xw h0 ad dA pr ba st en fo pl pa wa fx wo ch fw wt fp pw pt u v ho be sl se) sz) := by
  refine Met.ofW (cc := cX0_addPart) (maxL := 6) (ret := none) (by decide) rfl ?_
  intro p e s m args below meth c s₁ B hml hv
  obtain ⟨rfl, hsz, hP, hK, hD0⟩ := hv
  have hx := B.exec
  have hb := B.bytes
  have hr := B.returns
  have hts := atoms_spec (ws := (ws_ yX0_addPart cX0_addPart 6 none)) B.pre
  have hts : ∀ w ∈ lw_all, w.before _ s = true := fun w h => hts w (List.mem_cons_of_mem _ h)
  have hown : s.vm.findClass RX0 = some m.cls := findClass_of_methodNamed B.named
  have hlocks := B.notSynchronized
  subst hsz
  have hD := hD0.self (sz := s.heap.size)
  generalize hAe : va_A (rp_xw h0 ad dA pr ba st en fo pl pa wa fx wo ch fw wt fp pw pt u v ho be sl se) s.heap.size = A at hD ⊢
  have hA : ∀ q : Nat, s.heap.size ≤ q → A q := fun q h => by rw [← hAe]; exact Or.inr h
  have hS : va_S A s.heap s.heap [] := va_S.rf
  have hP : va_P (dC, dI) rp_cl (rp_xw h0 ad dA pr ba st en fo pl pa wa fx wo ch fw wt fp pw pt u v ho be sl se) s.heap := hP
  have hl := lv_entry ([.ref h0, .int (nI a0), .int (nI a1), .int (nI a2)]) (n := 6) (Nat.le_of_ble_eq_true rfl)
  rw [lg_entry_eq]
  generalize (lg_sl ([.ref h0, .int (nI a0), .int (nI a1), .int (nI a2)]) ++ List.replicate (6 - (lg_sl ([.ref h0, .int (nI a0), .int (nI a1), .int (nI a2)])).length) Slot.unset).toArray = ls at hl ⊢
  have hl : lv_has ls 6 [(0, .ref h0), (1, .int (nI a0)), (2, .int (nI a1)), (3, .int (nI a2))] := hl
  have L0 : ∀ (H : Heap) (locs : List Loc), va_P (dC, dI) rp_cl (rp_xw h0 ad dA pr ba st en fo pl pa wa fx wo ch fw wt fp pw pt u v ho be sl se) H → va_D A (rp_xw h0 ad dA pr ba st en fo pl pa wa fx wo ch fw wt fp pw pt u v ho be sl se) → va_S A s.heap H locs → ∀ (ls : Array Slot), lv_has ls 6 [(0, .ref h0), (1, .int (nI a0)), (2, .int (nI a1)), (3, .int (nI a2))] → W p l e (headSpec (ws_ yX0_addPart cX0_addPart 6 none) (rp_rm 6 139)).room s m ([.ref h0, .int (nI a0), .int (nI a1), .int (nI a2)] : List Value).toArray below meth c H locs 0 0 (MQ below (va_Qv (fun (z : Nat × (Nat → Bool) × (Nat → Nat) × (Nat → Nat) × (Nat → Nat) × (Nat → Int) × (Nat → Int) × (Nat → Nat) × (Nat → Nat) × (Nat → Int) × (Nat → Bool)) => rp_AP pr ba a0 a1 a2 pa wa fx wo ch z.1 z.2.1 z.2.2.1 z.2.2.2.1 z.2.2.2.2.1) (fun z t => rp_Bc dC dI A (rp_xw h0 ad dA pr ba st en fo pl z.1 z.2.1 z.2.2.1 z.2.2.2.1 z.2.2.2.2.1 a0 a1 a2 pw pt z.2.2.2.2.2.1 z.2.2.2.2.2.2.1 z.2.2.2.2.2.2.2.1 z.2.2.2.2.2.2.2.2.1 z.2.2.2.2.2.2.2.2.2.1 z.2.2.2.2.2.2.2.2.2.2) (rp_xk dA) t) A) ([.ref h0, .int (nI a0), .int (nI a1), .int (nI a2)] : List Value).toArray s 0 0 A) (F0 m 0 ls []) := by
    intro   H locs hP hD hS ls hl
    refine lv_aload_n hx hb dX0_addPart_0 rfl (lv_at hl 0 rfl) ?_
    refine lv_iload_n hx hb dX0_addPart_1 rfl (lv_at hl 1 rfl) ?_
    refine lv_iload_n hx hb dX0_addPart_2 rfl (lv_at hl 2 rfl) ?_
    refine lv_iload_n hx hb dX0_addPart_3 rfl (lv_at hl 3 rfl) ?_
    have hFc := va_free (wc := rp_xw h0 ad dA pr ba st en fo pl pa wa fx wo ch fw wt fp pw pt u v ho be sl se) hD hS hA [0, 1, 2, 3, 4, 5, 6, 7, 8, 9, 10, 11, 12, 13] rfl
    refine va_callv (va_runV (As := [.int (nI a0), .int (nI a1), .int (nI a2)]) (rest := []) ⟨hx, hb, hml, hown, hts⟩ (metX0_setPart l dC dI h0 ad dA H.size pr ba st en fo pl pa wa fx wo ch fw wt fp pw pt u v ho be sl se a0 a1 a2) (cwV 3 hts (lw_V q115 q117 qs2 q12 q118) rfl rfl rfl (by decide +kernel) ⟨Nat.le_of_ble_eq_true rfl, Nat.le_of_ble_eq_true rfl⟩) ⟨fun a U g mk q => by obtain ⟨q0, q1, qP, qK, qD⟩ := q; exact ⟨q0, q1, qP, va_K.moved (u := U) (U := U.calling g mk a) (Vm.Alike.refl U.vm) qK, qD⟩, va_recv hK hP (ci := 0) (q0 := 0) rfl rfl, fun U hU hW => ⟨rfl, by rw [hU], by rw [hU]; exact hP, va_K.moved hW.alike hK, hD.weaken (fun _ _ _ _ => trivial)⟩⟩ rfl rfl hl.1 rfl (lv_room (Nat.le_of_ble_eq_true rfl)) dX0_addPart_4 ⟨Nat.le_of_ble_eq_true rfl, Nat.le_of_ble_eq_true rfl⟩) hS (fun q _ h => hFc q h) hFc (fun u_ t H1 locs ht hvm hw hB hz1 hk1 hS => ?_)
    obtain ⟨hP1, hK1, hD1⟩ := hB
    rw [ht] at hP1
    have hD := hD1.weaken (fun k q _ h => hFc q.1 h)
    have hP := hP1
    clear hFc hK1 hz1 hk1 hD1 hP1 ht hvm
    generalize H1 = H at hP hS ⊢
    have hP : va_P (dC, dI) rp_cl (rp_xw h0 ad dA pr ba st en fo pl pa wa fx wo ch a0 a1 a2 pw pt u v ho be sl se) H := hP
    have hD : va_D A (rp_xw h0 ad dA pr ba st en fo pl pa wa fx wo ch a0 a1 a2 pw pt u v ho be sl se) := hD
    refine lv_aload_n hx hb dX0_addPart_7 rfl (lv_at hl 0 rfl) ?_
    have hFc := va_free (wc := rp_xw h0 ad dA pr ba st en fo pl pa wa fx wo ch a0 a1 a2 pw pt u v ho be sl se) hD hS hA [0, 1, 2, 3, 4, 5, 6, 7, 8, 9, 10, 11, 12, 13] rfl
    refine va_calll (va_runV (As := []) (rest := []) ⟨hx, hb, hml, hown, hts⟩ (metX0_solve l dC dI h0 ad dA H.size pr ba st en fo pl pa wa fx wo ch a0 a1 a2 pw pt u v ho be sl se hpr (by omega) ha1 ha2 (by omega) hpt) (cwV 0 hts (lw_V q119 q121 qs3 q12 q122) rfl rfl rfl (by decide +kernel) ⟨Nat.le_of_ble_eq_true rfl, Nat.le_of_ble_eq_true rfl⟩) ⟨fun a U g mk q => by obtain ⟨q0, q1, qP, qK, qD⟩ := q; exact ⟨q0, q1, qP, va_K.moved (u := U) (U := U.calling g mk a) (Vm.Alike.refl U.vm) qK, qD⟩, va_recv hK hP (ci := 0) (q0 := 0) rfl rfl, fun U hU hW => ⟨rfl, by rw [hU], by rw [hU]; exact hP, va_K.moved hW.alike hK, hD.weaken (fun _ _ _ _ => trivial)⟩⟩ rfl rfl hl.1 rfl (lv_room (Nat.le_of_ble_eq_true rfl)) dX0_addPart_8 ⟨Nat.le_of_ble_eq_true rfl, Nat.le_of_ble_eq_true rfl⟩) hS (fun q _ h => hFc q h) hFc (fun r u_ t H1 locs ht hvm hw hB hz1 hk1 hS => ?_)
    obtain ⟨hP1, hK1, hD1⟩ := hB
    rw [ht] at hP1
    have hD := hD1.weaken (fun k q _ h => hFc q.1 h)
    have hP := hP1
    obtain ⟨u2, v2, ho2, be2, sl2, se2⟩ := u_
    have hw : ∃ mn, r = lN mn ∧ rp_min (rp_C pr ba a0 a1 a2 pw pt) mn := hw
    obtain ⟨mn, hr9, hmn⟩ := hw
    subst hr9
    rw [hpw5] at hmn
    have hmb := rp_min_le hpr hmn
    clear hFc hK1 hz1 hk1 hD1 hP1 ht hvm
    generalize H1 = H at hP hS ⊢
    have hP : va_P (dC, dI) rp_cl (rp_xw h0 ad dA pr ba st en fo pl pa wa fx wo ch a0 a1 a2 pw pt u2 v2 ho2 be2 sl2 se2) H := hP
    have hD : va_D A (rp_xw h0 ad dA pr ba st en fo pl pa wa fx wo ch a0 a1 a2 pw pt u2 v2 ho2 be2 sl2 se2) := hD
    refine lv_lstore (lv' := [(4, .long (lN mn)), (0, .ref h0), (1, .int (nI a0)), (2, .int (nI a1)), (3, .int (nI a2))]) hx hb dX0_addPart_11 hl (by decide) rfl (fun ls hl => ?_)
    refine lv_lload hx hb dX0_addPart_13 (lv_at hl 0 rfl) ?_
    refine lv_ldc2 (v := 1000000000) hx hb hown (hts _ q143) dX0_addPart_15 ?_
    refine rp_tl (y := lN 1000000000) (by decide +kernel) ?_
    refine rp_lcge (tgt := 73) hx hb dX0_addPart_18 dX0_addPart_19 (by decide) (fun c_18 => ?_) (fun c_18 => ?_)
    · rw [pk_lLE (by omega) (by omega)] at c_18
      have hAP := rp_AP_no (pa := pa) (wa := wa) (fx := fx) (wo := wo) (ch := ch) hpr ha0 hmn c_18
      exact W.vret hx hb hr (fun t9 ht9 hW9 => ⟨⟨(pa, wa, fx, wo, ch, u2, v2, ho2, be2, sl2, se2), rfl, hAP, by rw [ht9]; exact hP, va_K.moved hW9.alike hK, hD⟩, hS.F ht9⟩) hS.2.2 dX0_addPart_73
    · rw [pk_lLE (by omega) (by omega)] at c_18
      have hAP := rp_AP_yes (pa := pa) (wa := wa) (fx := fx) (wo := wo) (ch := ch) hpr ha0 hmn (by omega)
      refine lv_aload_n hx hb dX0_addPart_22 rfl (lv_at hl 1 rfl) ?_
      refine va_get (D := (dC, dI)) (ci := 0) (v := .ref (ad 7)) (C := RX0) (T := TX0) (N := 22) hx hb hts in_X0 hown hK hP 0 rfl rfl 7 (by decide) (hts _ q29) (fun _ h9 => h9) rfl dX0_addPart_23 ?_
      refine lv_aload_n hx hb dX0_addPart_26 rfl (lv_at hl 1 rfl) ?_
      refine va_get (D := (dC, dI)) (ci := 0) (v := .int (nI pa)) (C := RX0) (T := TX0) (N := 22) hx hb hts in_X0 hown hK hP 0 rfl rfl 6 (by decide) (hts _ q28) (fun _ h9 => h9) rfl dX0_addPart_27 ?_
      refine lv_iconst (v := rp_B true) hx hb dX0_addPart_30 (by decide) ?_
      refine rp_zast wa true hx hb hK hP hD hS 4 3 rfl rfl (i := pa) (by omega) (by decide) dX0_addPart_31 (fun H locs hP hD hS => ?_)
      have hP : va_P (dC, dI) rp_cl (rp_xw h0 ad dA pr ba st en fo pl pa (va_up wa pa true) fx wo ch a0 a1 a2 pw pt u2 v2 ho2 be2 sl2 se2) H := hP
      have hD : va_D A (rp_xw h0 ad dA pr ba st en fo pl pa (va_up wa pa true) fx wo ch a0 a1 a2 pw pt u2 v2 ho2 be2 sl2 se2) := hD
      refine lv_aload_n hx hb dX0_addPart_32 rfl (lv_at hl 1 rfl) ?_
      refine va_get (D := (dC, dI)) (ci := 0) (v := .ref (ad 8)) (C := RX0) (T := TX0) (N := 22) hx hb hts in_X0 hown hK hP 0 rfl rfl 8 (by decide) (hts _ q30) (fun _ h9 => h9) rfl dX0_addPart_33 ?_
      refine lv_aload_n hx hb dX0_addPart_36 rfl (lv_at hl 1 rfl) ?_
      refine va_get (D := (dC, dI)) (ci := 0) (v := .int (nI pa)) (C := RX0) (T := TX0) (N := 22) hx hb hts in_X0 hown hK hP 0 rfl rfl 6 (by decide) (hts _ q28) (fun _ h9 => h9) rfl dX0_addPart_37 ?_
      refine lv_iload_n hx hb dX0_addPart_40 rfl (lv_at hl 2 rfl) ?_
      refine rp_iast nI fx a0 hx hb hK hP hD hS 5 4 rfl rfl (i := pa) (by omega) (by decide) dX0_addPart_41 (fun H locs hP hD hS => ?_)
      have hP : va_P (dC, dI) rp_cl (rp_xw h0 ad dA pr ba st en fo pl pa (va_up wa pa true) (va_up fx pa a0) wo ch a0 a1 a2 pw pt u2 v2 ho2 be2 sl2 se2) H := hP
      have hD : va_D A (rp_xw h0 ad dA pr ba st en fo pl pa (va_up wa pa true) (va_up fx pa a0) wo ch a0 a1 a2 pw pt u2 v2 ho2 be2 sl2 se2) := hD
      refine lv_aload_n hx hb dX0_addPart_42 rfl (lv_at hl 1 rfl) ?_
      refine va_get (D := (dC, dI)) (ci := 0) (v := .ref (ad 9)) (C := RX0) (T := TX0) (N := 22) hx hb hts in_X0 hown hK hP 0 rfl rfl 9 (by decide) (hts _ q31) (fun _ h9 => h9) rfl dX0_addPart_43 ?_
      refine lv_aload_n hx hb dX0_addPart_46 rfl (lv_at hl 1 rfl) ?_
      refine va_get (D := (dC, dI)) (ci := 0) (v := .int (nI pa)) (C := RX0) (T := TX0) (N := 22) hx hb hts in_X0 hown hK hP 0 rfl rfl 6 (by decide) (hts _ q28) (fun _ h9 => h9) rfl dX0_addPart_47 ?_
      refine lv_iload_n hx hb dX0_addPart_50 rfl (lv_at hl 3 rfl) ?_
      refine rp_iast nI wo a1 hx hb hK hP hD hS 6 5 rfl rfl (i := pa) (by omega) (by decide) dX0_addPart_51 (fun H locs hP hD hS => ?_)
      have hP : va_P (dC, dI) rp_cl (rp_xw h0 ad dA pr ba st en fo pl pa (va_up wa pa true) (va_up fx pa a0) (va_up wo pa a1) ch a0 a1 a2 pw pt u2 v2 ho2 be2 sl2 se2) H := hP
      have hD : va_D A (rp_xw h0 ad dA pr ba st en fo pl pa (va_up wa pa true) (va_up fx pa a0) (va_up wo pa a1) ch a0 a1 a2 pw pt u2 v2 ho2 be2 sl2 se2) := hD
      refine lv_aload_n hx hb dX0_addPart_52 rfl (lv_at hl 1 rfl) ?_
      refine va_get (D := (dC, dI)) (ci := 0) (v := .ref (ad 10)) (C := RX0) (T := TX0) (N := 22) hx hb hts in_X0 hown hK hP 0 rfl rfl 10 (by decide) (hts _ q32) (fun _ h9 => h9) rfl dX0_addPart_53 ?_
      refine lv_aload_n hx hb dX0_addPart_56 rfl (lv_at hl 1 rfl) ?_
      refine va_get (D := (dC, dI)) (ci := 0) (v := .int (nI pa)) (C := RX0) (T := TX0) (N := 22) hx hb hts in_X0 hown hK hP 0 rfl rfl 6 (by decide) (hts _ q28) (fun _ h9 => h9) rfl dX0_addPart_57 ?_
      refine lv_lload hx hb dX0_addPart_60 (lv_at hl 0 rfl) ?_
      refine rp_last lN ch mn hx hb hK hP hD hS 7 6 rfl rfl (i := pa) (by omega) (by decide) dX0_addPart_62 (fun H locs hP hD hS => ?_)
      have hP : va_P (dC, dI) rp_cl (rp_xw h0 ad dA pr ba st en fo pl pa (va_up wa pa true) (va_up fx pa a0) (va_up wo pa a1) (va_up ch pa mn) a0 a1 a2 pw pt u2 v2 ho2 be2 sl2 se2) H := hP
      have hD : va_D A (rp_xw h0 ad dA pr ba st en fo pl pa (va_up wa pa true) (va_up fx pa a0) (va_up wo pa a1) (va_up ch pa mn) a0 a1 a2 pw pt u2 v2 ho2 be2 sl2 se2) := hD
      refine lv_aload_n hx hb dX0_addPart_63 rfl (lv_at hl 1 rfl) ?_
      refine lv_dup hx hb dX0_addPart_64 rfl ?_
      refine va_get (D := (dC, dI)) (ci := 0) (v := .int (nI pa)) (C := RX0) (T := TX0) (N := 22) hx hb hts in_X0 hown hK hP 0 rfl rfl 6 (by decide) (hts _ q28) (fun _ h9 => h9) rfl dX0_addPart_65 ?_
      refine lv_iconst (v := nI 1) hx hb dX0_addPart_68 (by decide) ?_
      refine rp_iadd hx hb dX0_addPart_69 ?_
      refine va_put (D := (dC, dI)) (ci := 0) (v := .int (nI (pa + 1))) (ty := .int) (C := RX0) (T := TX0) (N := 22) hx hb hts in_X0 tyX0 tyX0_ok nmX0 hown hK hP hD hS 0 rfl rfl 6 (by decide) (hts _ q28) (fun _ h9 => h9) rfl (by decide +kernel) rfl rfl (Nat.le_of_ble_eq_true rfl) dX0_addPart_70 (fun H locs hP hD hS => ?_)
      have hP : va_P (dC, dI) rp_cl (rp_xw h0 ad dA pr ba st en fo pl (pa + 1) (va_up wa pa true) (va_up fx pa a0) (va_up wo pa a1) (va_up ch pa mn) a0 a1 a2 pw pt u2 v2 ho2 be2 sl2 se2) H := hP
      have hD : va_D A (rp_xw h0 ad dA pr ba st en fo pl (pa + 1) (va_up wa pa true) (va_up fx pa a0) (va_up wo pa a1) (va_up ch pa mn) a0 a1 a2 pw pt u2 v2 ho2 be2 sl2 se2) := hD
      exact W.vret hx hb hr (fun t9 ht9 hW9 => ⟨⟨(pa + 1, va_up wa pa true, va_up fx pa a0, va_up wo pa a1, va_up ch pa mn, u2, v2, ho2, be2, sl2, se2), rfl, hAP, by rw [ht9]; exact hP, va_K.moved hW9.alike hK, hD⟩, hS.F ht9⟩) hS.2.2 dX0_addPart_73
  exact L0 _ _ hP hD hS ls hl
set_option maxHeartbeats 4000000 in
/-- divide(k): the other plans of the part -/
theorem metX0_divide (l : Launch) (dC : Nat → ClassId) (dI : Nat → Nat → Nat) (h0 : Nat) (ad : Nat → Nat) (dA : Nat → ClassId) (sz : Nat) (pr : Nat → Nat) (ba : Nat → Bool) (st : Bool) (en : Bool) (fo : Nat) (pl : Nat → Nat) (pa : Nat) (wa : Nat → Bool) (fx : Nat → Nat) (wo : Nat → Nat) (ch : Nat → Nat) (fw : Nat) (wt : Nat) (fp : Nat) (pw : Nat) (pt : Nat) (u : Nat → Int) (v : Nat → Int) (ho : Nat → Nat) (be : Nat → Nat) (sl : Nat → Int) (se : Nat → Bool) (S : List Nat) (k : Nat) (hpr : ∀ j, j < 25 → pr j < 100) (hpw5 : pw = 5) (hpt : pt < 5) (hI0 : rp_XI pr ba S fo pl pa wa fx wo ch (rp_Pw ba (fx k) (wo k) (ch k % 3125) (fx k))) (hk : k < pa) (hfx : fx k < 5) (hwo : wo k < 32) (hch : ch k < 1000000000) (hrg : rp_rg ba (fx k) (wo k) (ch k % 3125) (ch k % 3125)) (hpa : pa + 5 ≤ 640) : Met l yX0_divide (ws_ yX0_divide cX0_divide 6 none) (rp_rm 7 164) (rp_Pc dC dI [.ref h0, .int (nI k)] sz (rp_xw h0 ad dA pr ba st en fo pl pa wa fx wo ch fw wt fp pw pt u v ho be sl se) (rp_xk dA)) (va_Qv (fun (z : Nat × (Nat → Bool) × (Nat → Nat) × (Nat → Nat) × (Nat → Nat) × Nat × Nat × Nat × (Nat → Int) × (Nat → Int) × (Nat → Nat) × (Nat → Nat) × (Nat → Int) × (Nat → Bool)) => rp_XI pr ba S fo pl z.1 z.2.1 z.2.2.1 z.2.2.2.1 z.2.2.2.2.1 (fun _ => False) ∧ z.1 ≤ pa + 5) (fun z t => rp_Bc dC dI (va_A (rp_xw h0 ad dA pr ba st en fo pl pa wa fx wo ch fw wt fp pw pt u v ho be sl se) sz) (rp_xw h0 ad dA pr ba st en fo pl z.1 z.2.1 z.2.2.1 z.2.2.2.1 z.2.2.2.2.1 z.2.2.2.2.2.1 z.2.2.2.2.2.2.1 z.2.2.2.2.2.2.2.1 pw pt z.2.2.2.2.2.2.2.2.1 z.2.2.2.2.2.2.2.2.2.1 z.2.2.2.2.2.2.2.2.2.2.1 z.2.2.2.2.2.2.2.2.2.2.2.1 z.2.2.2.2.2.2.2.2.2.2.2.2.1 z.2.2.2.2.2.2.2.2.2.2.2.2.2) (rp_xk dA) t) (va_A (rp_xw h0 ad dA pr ba st en fo pl pa wa fx wo ch fw wt fp pw pt u v ho be sl se) sz)) 0 0 (va_A (rp_xw h0 ad dA pr ba st en fo pl pa wa fx wo ch fw wt fp pw pt u v ho be sl se) sz) := by
  refine Met.ofW (cc := cX0_divide) (maxL := 6) (ret := none) (by decide) rfl ?_
  intro p e s m args below meth c s₁ B hml hv
  obtain ⟨rfl, hsz, hP, hK, hD0⟩ := hv
  have hx := B.exec
  have hb := B.bytes
  have hr := B.returns
  have hts := atoms_spec (ws := (ws_ yX0_divide cX0_divide 6 none)) B.pre
  have hts : ∀ w ∈ lw_all, w.before _ s = true := fun w h => hts w (List.mem_cons_of_mem _ h)
  have hown : s.vm.findClass RX0 = some m.cls := findClass_of_methodNamed B.named
  have hlocks := B.notSynchronized
  subst hsz
  have hD := hD0.self (sz := s.heap.size)
  generalize hAe : va_A (rp_xw h0 ad dA pr ba st en fo pl pa wa fx wo ch fw wt fp pw pt u v ho be sl se) s.heap.size = A at hD ⊢
  have hA : ∀ q : Nat, s.heap.size ≤ q → A q := fun q h => by rw [← hAe]; exact Or.inr h
  have hS : va_S A s.heap s.heap [] := va_S.rf
  have hP : va_P (dC, dI) rp_cl (rp_xw h0 ad dA pr ba st en fo pl pa wa fx wo ch fw wt fp pw pt u v ho be sl se) s.heap := hP
  have hl := lv_entry ([.ref h0, .int (nI k)]) (n := 6) (Nat.le_of_ble_eq_true rfl)
  rw [lg_entry_eq]
  generalize (lg_sl ([.ref h0, .int (nI k)]) ++ List.replicate (6 - (lg_sl ([.ref h0, .int (nI k)])).length) Slot.unset).toArray = ls at hl ⊢
  have hl : lv_has ls 6 [(0, .ref h0), (1, .int (nI k))] := hl
  have L19 : ∀ (n : Nat) (w : Nat) (pa1 : Nat) (wa1 : Nat → Bool) (fx1 : Nat → Nat) (wo1 : Nat → Nat) (ch1 : Nat → Nat) (fw1 : Nat) (wt1 : Nat) (fp1 : Nat) (u1 : Nat → Int) (v1 : Nat → Int) (ho1 : Nat → Nat) (be1 : Nat → Nat) (sl1 : Nat → Int) (se1 : Nat → Bool), (5 - w < n) → (w ≤ 5) → (fx k ≤ w) → (rp_XI pr ba S fo pl pa1 wa1 fx1 wo1 ch1 (rp_Pw ba (fx k) (wo k) (ch k % 3125) w)) → (pa ≤ pa1) → (pa1 + fx k ≤ pa + w) → (fx1 k = fx k) → (wo1 k = wo k) → ∀ (H : Heap) (locs : List Loc), va_P (dC, dI) rp_cl (rp_xw h0 ad dA pr ba st en fo pl pa1 wa1 fx1 wo1 ch1 fw1 wt1 fp1 pw pt u1 v1 ho1 be1 sl1 se1) H → va_D A (rp_xw h0 ad dA pr ba st en fo pl pa1 wa1 fx1 wo1 ch1 fw1 wt1 fp1 pw pt u1 v1 ho1 be1 sl1 se1) → va_S A s.heap H locs → ∀ (ls : Array Slot), lv_has ls 6 [(3, .int (nI w)), (2, .int (nI (ch k % 3125))), (1, .int (nI k)), (0, .ref h0)] → W p l e (headSpec (ws_ yX0_divide cX0_divide 6 none) (rp_rm 7 164)).room s m ([.ref h0, .int (nI k)] : List Value).toArray below meth c H locs 0 0 (MQ below (va_Qv (fun (z : Nat × (Nat → Bool) × (Nat → Nat) × (Nat → Nat) × (Nat → Nat) × Nat × Nat × Nat × (Nat → Int) × (Nat → Int) × (Nat → Nat) × (Nat → Nat) × (Nat → Int) × (Nat → Bool)) => rp_XI pr ba S fo pl z.1 z.2.1 z.2.2.1 z.2.2.2.1 z.2.2.2.2.1 (fun _ => False) ∧ z.1 ≤ pa + 5) (fun z t => rp_Bc dC dI A (rp_xw h0 ad dA pr ba st en fo pl z.1 z.2.1 z.2.2.1 z.2.2.2.1 z.2.2.2.2.1 z.2.2.2.2.2.1 z.2.2.2.2.2.2.1 z.2.2.2.2.2.2.2.1 pw pt z.2.2.2.2.2.2.2.2.1 z.2.2.2.2.2.2.2.2.2.1 z.2.2.2.2.2.2.2.2.2.2.1 z.2.2.2.2.2.2.2.2.2.2.2.1 z.2.2.2.2.2.2.2.2.2.2.2.2.1 z.2.2.2.2.2.2.2.2.2.2.2.2.2) (rp_xk dA) t) A) ([.ref h0, .int (nI k)] : List Value).toArray s 0 0 A) (F0 m 19 ls []) := by
    intro n
    induction n with
    | zero =>
      intro w pa1 wa1 fx1 wo1 ch1 fw1 wt1 fp1 u1 v1 ho1 be1 sl1 se1 hn hw5 hfw1 hI hpa1 hpa2 hfx1 hwo1
      exact absurd hn (by omega)
    | succ n ih =>
      intro w pa1 wa1 fx1 wo1 ch1 fw1 wt1 fp1 u1 v1 ho1 be1 sl1 se1 hn hw5 hfw1 hI hpa1 hpa2 hfx1 hwo1 H locs hP hD hS ls hl
      refine lv_iload_n hx hb dX0_divide_19 rfl (lv_at hl 0 rfl) ?_
      refine lv_iconst (v := nI 5) hx hb dX0_divide_20 (by decide) ?_
      refine rp_icge (tgt := 72) hx hb (by omega) (by omega) dX0_divide_21 (by decide) (fun c_21 => ?_) (fun c_21 => ?_)
      · have e5 : w = 5 := by omega
        subst e5
        have hI3 := rp_XI_P hI (fun n => rp_Pw_5 (by omega))
        exact W.vret hx hb hr (fun t9 ht9 hW9 => ⟨⟨(pa1, wa1, fx1, wo1, ch1, fw1, wt1, fp1, u1, v1, ho1, be1, sl1, se1), rfl, ⟨hI3, by omega⟩, by rw [ht9]; exact hP, va_K.moved hW9.alike hK, hD⟩, hS.F ht9⟩) hS.2.2 dX0_divide_72
      · refine lv_iload_n hx hb dX0_divide_24 rfl (lv_at hl 0 rfl) ?_
        refine lv_aload_n hx hb dX0_divide_25 rfl (lv_at hl 3 rfl) ?_
        refine va_get (D := (dC, dI)) (ci := 0) (v := .ref (ad 8)) (C := RX0) (T := TX0) (N := 22) hx hb hts in_X0 hown hK hP 0 rfl rfl 8 (by decide) (hts _ q30) (fun _ h9 => h9) rfl dX0_divide_26 ?_
        refine lv_iload_n hx hb dX0_divide_29 rfl (lv_at hl 2 rfl) ?_
        refine rp_iald nI fx1 hx hb hK hP 5 4 rfl rfl (i := k) (by omega) (by decide) dX0_divide_30 ?_
        refine rp_icne (tgt := 43) hx hb (by omega) (by omega) dX0_divide_31 (by decide) (fun c_31 => ?_) (fun c_31 => ?_)
        · refine lv_iconst (v := nI 0) hx hb dX0_divide_43 (by decide) ?_
          have hs : 0 = if w = fx k then wo k else 0 := by rw [if_neg (by omega)]
          refine lv_istore (lv' := [(4, .int (nI 0)), (3, .int (nI w)), (2, .int (nI (ch k % 3125))), (1, .int (nI k)), (0, .ref h0)]) hx hb dX0_divide_44 hl (by decide) rfl (fun ls hl => ?_)
          refine lv_iload_n hx hb dX0_divide_46 rfl (lv_at hl 2 rfl) ?_
          refine lv_iload_n hx hb dX0_divide_47 rfl (lv_at hl 1 rfl) ?_
          refine vp_callSi (W.runS (As := [.int (nI (ch k % 3125)), .int (nI w)]) (rest := []) ⟨hx, hb, hml, hown, hts⟩ (metX0_digit l (ch k % 3125) w (by omega) (by omega)) (va_cwS 2 hts (lw_S q136 q137 q12 q138) rfl rfl rfl (by decide +kernel) ⟨Nat.le_of_ble_eq_true rfl, Nat.le_of_ble_eq_true rfl⟩) ⟨fun a U g mk q => q, fun U hU hW => ⟨rfl, trivial⟩⟩ rfl rfl hl.1 rfl (lv_room (Nat.le_of_ble_eq_true rfl)) dX0_divide_48 ⟨Nat.le_of_ble_eq_true rfl, Nat.le_of_ble_eq_true rfl⟩) (fun r hr9 => ?_)
          subst hr9
          refine lv_istore (lv' := [(5, .int (nI (rp_dg (ch k % 3125) w))), (4, .int (nI 0)), (3, .int (nI w)), (2, .int (nI (ch k % 3125))), (1, .int (nI k)), (0, .ref h0)]) hx hb dX0_divide_51 hl (by decide) rfl (fun ls hl => ?_)
          refine lv_aload_n hx hb dX0_divide_53 rfl (lv_at hl 5 rfl) ?_
          refine lv_iload_n hx hb dX0_divide_54 rfl (lv_at hl 2 rfl) ?_
          refine lv_iload hx hb dX0_divide_55 (lv_at hl 1 rfl) ?_
          refine lv_iconst (v := nI 1) hx hb dX0_divide_57 (by decide) ?_
          refine lv_iload hx hb dX0_divide_58 (lv_at hl 0 rfl) ?_
          refine rp_ishl hx hb (by have := rp_dg_lt (ch k % 3125) w; omega) (by omega) dX0_divide_60 ?_
          refine rp_ior hx hb dX0_divide_61 ?_
          refine lv_iload_n hx hb dX0_divide_62 rfl (lv_at hl 3 rfl) ?_
          have hFc := va_free (wc := rp_xw h0 ad dA pr ba st en fo pl pa1 wa1 fx1 wo1 ch1 fw1 wt1 fp1 pw pt u1 v1 ho1 be1 sl1 se1) hD hS hA [0, 1, 2, 3, 4, 5, 6, 7, 8, 9, 10, 11, 12, 13] rfl
          refine va_callv (va_runV (As := [.int (nI w), .int (nI (0 ||| (1 * 2 ^ (rp_dg (ch k % 3125) w)))), .int (nI (ch k % 3125))]) (rest := []) ⟨hx, hb, hml, hown, hts⟩ (metX0_addPart l dC dI h0 ad dA H.size pr ba st en fo pl pa1 wa1 fx1 wo1 ch1 fw1 wt1 fp1 pw pt u1 v1 ho1 be1 sl1 se1 w (0 ||| (1 * 2 ^ (rp_dg (ch k % 3125) w))) (ch k % 3125) hpr (by omega) (rp_bit (by rw [hs]; split <;> omega) (rp_dg_lt (ch k % 3125) w) (rp_dg_lt (ch k % 3125) w)).1 (by omega) hpw5 hpt (by omega)) (cwV 3 hts (lw_V q111 q113 qs1 q12 q114) rfl rfl rfl (by decide +kernel) ⟨Nat.le_of_ble_eq_true rfl, Nat.le_of_ble_eq_true rfl⟩) ⟨fun a U g mk q => by obtain ⟨q0, q1, qP, qK, qD⟩ := q; exact ⟨q0, q1, qP, va_K.moved (u := U) (U := U.calling g mk a) (Vm.Alike.refl U.vm) qK, qD⟩, va_recv hK hP (ci := 0) (q0 := 0) rfl rfl, fun U hU hW => ⟨rfl, by rw [hU], by rw [hU]; exact hP, va_K.moved hW.alike hK, hD.weaken (fun _ _ _ _ => trivial)⟩⟩ rfl rfl hl.1 rfl (lv_room (Nat.le_of_ble_eq_true rfl)) dX0_divide_63 ⟨Nat.le_of_ble_eq_true rfl, Nat.le_of_ble_eq_true rfl⟩) hS (fun q _ h => hFc q h) hFc (fun u_ t H1 locs ht hvm hw hB hz1 hk1 hS => ?_)
          obtain ⟨hP1, hK1, hD1⟩ := hB
          rw [ht] at hP1
          have hD := hD1.weaken (fun k q _ h => hFc q.1 h)
          have hP := hP1
          obtain ⟨pa2, wa2, fx2, wo2, ch2, u2, v2, ho2, be2, sl2, se2⟩ := u_
          have hw : rp_AP pr ba w (0 ||| (1 * 2 ^ (rp_dg (ch k % 3125) w))) (ch k % 3125) pa1 wa1 fx1 wo1 ch1 pa2 wa2 fx2 wo2 ch2 := hw
          have hO := rp_AP_old hw
          have hO1 := hO.2.2 k (by omega)
          have hI2 := rp_XI_div hI (by omega) hwo hfw1 hrg hs hw
          clear hFc hK1 hz1 hk1 hD1 hP1 ht hvm
          generalize H1 = H at hP hS ⊢
          have hP : va_P (dC, dI) rp_cl (rp_xw h0 ad dA pr ba st en fo pl pa2 wa2 fx2 wo2 ch2 w (0 ||| (1 * 2 ^ (rp_dg (ch k % 3125) w))) (ch k % 3125) pw pt u2 v2 ho2 be2 sl2 se2) H := hP
          have hD : va_D A (rp_xw h0 ad dA pr ba st en fo pl pa2 wa2 fx2 wo2 ch2 w (0 ||| (1 * 2 ^ (rp_dg (ch k % 3125) w))) (ch k % 3125) pw pt u2 v2 ho2 be2 sl2 se2) := hD
          refine lv_iinc (v := nI (w + 1)) (lv' := [(3, .int (nI (w + 1))), (5, .int (nI (rp_dg (ch k % 3125) w))), (4, .int (nI 0)), (2, .int (nI (ch k % 3125))), (1, .int (nI k)), (0, .ref h0)]) hx hb dX0_divide_66 hl (k := 2) rfl (by exact nI_1 _) (by decide) rfl (fun ls hl => ?_)
          refine lv_goto (tgt := 19) hx hb dX0_divide_69 (by decide) ?_
          exact ih (w + 1) pa2 wa2 fx2 wo2 ch2 w (0 ||| (1 * 2 ^ (rp_dg (ch k % 3125) w))) (ch k % 3125) u2 v2 ho2 be2 sl2 se2 (by omega) (by omega) (by omega) hI2 (by omega) (by omega) (hO1.1.trans hfx1) (hO1.2.trans hwo1) _ _ hP hD hS ls (lv_sub hl [0, 3, 4, 5] rfl)
        · refine lv_aload_n hx hb dX0_divide_34 rfl (lv_at hl 3 rfl) ?_
          refine va_get (D := (dC, dI)) (ci := 0) (v := .ref (ad 9)) (C := RX0) (T := TX0) (N := 22) hx hb hts in_X0 hown hK hP 0 rfl rfl 9 (by decide) (hts _ q31) (fun _ h9 => h9) rfl dX0_divide_35 ?_
          refine lv_iload_n hx hb dX0_divide_38 rfl (lv_at hl 2 rfl) ?_
          refine rp_iald nI wo1 hx hb hK hP 6 5 rfl rfl (i := k) (by omega) (by decide) dX0_divide_39 ?_
          refine lv_goto (tgt := 44) hx hb dX0_divide_40 (by decide) ?_
          have hs : wo1 k = if w = fx k then wo k else 0 := by rw [if_pos (by omega), hwo1]
          refine lv_istore (lv' := [(4, .int (nI (wo1 k))), (3, .int (nI w)), (2, .int (nI (ch k % 3125))), (1, .int (nI k)), (0, .ref h0)]) hx hb dX0_divide_44 hl (by decide) rfl (fun ls hl => ?_)
          refine lv_iload_n hx hb dX0_divide_46 rfl (lv_at hl 2 rfl) ?_
          refine lv_iload_n hx hb dX0_divide_47 rfl (lv_at hl 1 rfl) ?_
          refine vp_callSi (W.runS (As := [.int (nI (ch k % 3125)), .int (nI w)]) (rest := []) ⟨hx, hb, hml, hown, hts⟩ (metX0_digit l (ch k % 3125) w (by omega) (by omega)) (va_cwS 2 hts (lw_S q136 q137 q12 q138) rfl rfl rfl (by decide +kernel) ⟨Nat.le_of_ble_eq_true rfl, Nat.le_of_ble_eq_true rfl⟩) ⟨fun a U g mk q => q, fun U hU hW => ⟨rfl, trivial⟩⟩ rfl rfl hl.1 rfl (lv_room (Nat.le_of_ble_eq_true rfl)) dX0_divide_48 ⟨Nat.le_of_ble_eq_true rfl, Nat.le_of_ble_eq_true rfl⟩) (fun r hr9 => ?_)
          subst hr9
          refine lv_istore (lv' := [(5, .int (nI (rp_dg (ch k % 3125) w))), (4, .int (nI (wo1 k))), (3, .int (nI w)), (2, .int (nI (ch k % 3125))), (1, .int (nI k)), (0, .ref h0)]) hx hb dX0_divide_51 hl (by decide) rfl (fun ls hl => ?_)
          refine lv_aload_n hx hb dX0_divide_53 rfl (lv_at hl 5 rfl) ?_
          refine lv_iload_n hx hb dX0_divide_54 rfl (lv_at hl 2 rfl) ?_
          refine lv_iload hx hb dX0_divide_55 (lv_at hl 1 rfl) ?_
          refine lv_iconst (v := nI 1) hx hb dX0_divide_57 (by decide) ?_
          refine lv_iload hx hb dX0_divide_58 (lv_at hl 0 rfl) ?_
          refine rp_ishl hx hb (by have := rp_dg_lt (ch k % 3125) w; omega) (by omega) dX0_divide_60 ?_
          refine rp_ior hx hb dX0_divide_61 ?_
          refine lv_iload_n hx hb dX0_divide_62 rfl (lv_at hl 3 rfl) ?_
          have hFc := va_free (wc := rp_xw h0 ad dA pr ba st en fo pl pa1 wa1 fx1 wo1 ch1 fw1 wt1 fp1 pw pt u1 v1 ho1 be1 sl1 se1) hD hS hA [0, 1, 2, 3, 4, 5, 6, 7, 8, 9, 10, 11, 12, 13] rfl
          refine va_callv (va_runV (As := [.int (nI w), .int (nI ((wo1 k) ||| (1 * 2 ^ (rp_dg (ch k % 3125) w)))), .int (nI (ch k % 3125))]) (rest := []) ⟨hx, hb, hml, hown, hts⟩ (metX0_addPart l dC dI h0 ad dA H.size pr ba st en fo pl pa1 wa1 fx1 wo1 ch1 fw1 wt1 fp1 pw pt u1 v1 ho1 be1 sl1 se1 w ((wo1 k) ||| (1 * 2 ^ (rp_dg (ch k % 3125) w))) (ch k % 3125) hpr (by omega) (rp_bit (by rw [hs]; split <;> omega) (rp_dg_lt (ch k % 3125) w) (rp_dg_lt (ch k % 3125) w)).1 (by omega) hpw5 hpt (by omega)) (cwV 3 hts (lw_V q111 q113 qs1 q12 q114) rfl rfl rfl (by decide +kernel) ⟨Nat.le_of_ble_eq_true rfl, Nat.le_of_ble_eq_true rfl⟩) ⟨fun a U g mk q => by obtain ⟨q0, q1, qP, qK, qD⟩ := q; exact ⟨q0, q1, qP, va_K.moved (u := U) (U := U.calling g mk a) (Vm.Alike.refl U.vm) qK, qD⟩, va_recv hK hP (ci := 0) (q0 := 0) rfl rfl, fun U hU hW => ⟨rfl, by rw [hU], by rw [hU]; exact hP, va_K.moved hW.alike hK, hD.weaken (fun _ _ _ _ => trivial)⟩⟩ rfl rfl hl.1 rfl (lv_room (Nat.le_of_ble_eq_true rfl)) dX0_divide_63 ⟨Nat.le_of_ble_eq_true rfl, Nat.le_of_ble_eq_true rfl⟩) hS (fun q _ h => hFc q h) hFc (fun u_ t H1 locs ht hvm hw hB hz1 hk1 hS => ?_)
          obtain ⟨hP1, hK1, hD1⟩ := hB
          rw [ht] at hP1
          have hD := hD1.weaken (fun k q _ h => hFc q.1 h)
          have hP := hP1
          obtain ⟨pa2, wa2, fx2, wo2, ch2, u2, v2, ho2, be2, sl2, se2⟩ := u_
          have hw : rp_AP pr ba w ((wo1 k) ||| (1 * 2 ^ (rp_dg (ch k % 3125) w))) (ch k % 3125) pa1 wa1 fx1 wo1 ch1 pa2 wa2 fx2 wo2 ch2 := hw
          have hO := rp_AP_old hw
          have hO1 := hO.2.2 k (by omega)
          have hI2 := rp_XI_div hI (by omega) hwo hfw1 hrg hs hw
          clear hFc hK1 hz1 hk1 hD1 hP1 ht hvm
          generalize H1 = H at hP hS ⊢
          have hP : va_P (dC, dI) rp_cl (rp_xw h0 ad dA pr ba st en fo pl pa2 wa2 fx2 wo2 ch2 w ((wo1 k) ||| (1 * 2 ^ (rp_dg (ch k % 3125) w))) (ch k % 3125) pw pt u2 v2 ho2 be2 sl2 se2) H := hP
          have hD : va_D A (rp_xw h0 ad dA pr ba st en fo pl pa2 wa2 fx2 wo2 ch2 w ((wo1 k) ||| (1 * 2 ^ (rp_dg (ch k % 3125) w))) (ch k % 3125) pw pt u2 v2 ho2 be2 sl2 se2) := hD
          refine lv_iinc (v := nI (w + 1)) (lv' := [(3, .int (nI (w + 1))), (5, .int (nI (rp_dg (ch k % 3125) w))), (4, .int (nI (wo1 k))), (2, .int (nI (ch k % 3125))), (1, .int (nI k)), (0, .ref h0)]) hx hb dX0_divide_66 hl (k := 2) rfl (by exact nI_1 _) (by decide) rfl (fun ls hl => ?_)
          refine lv_goto (tgt := 19) hx hb dX0_divide_69 (by decide) ?_
          exact ih (w + 1) pa2 wa2 fx2 wo2 ch2 w ((wo1 k) ||| (1 * 2 ^ (rp_dg (ch k % 3125) w))) (ch k % 3125) u2 v2 ho2 be2 sl2 se2 (by omega) (by omega) (by omega) hI2 (by omega) (by omega) (hO1.1.trans hfx1) (hO1.2.trans hwo1) _ _ hP hD hS ls (lv_sub hl [0, 3, 4, 5] rfl)
  refine lv_aload_n hx hb dX0_divide_0 rfl (lv_at hl 0 rfl) ?_
  refine va_get (D := (dC, dI)) (ci := 0) (v := .ref (ad 10)) (C := RX0) (T := TX0) (N := 22) hx hb hts in_X0 hown hK hP 0 rfl rfl 10 (by decide) (hts _ q32) (fun _ h9 => h9) rfl dX0_divide_1 ?_
  refine lv_iload_n hx hb dX0_divide_4 rfl (lv_at hl 1 rfl) ?_
  refine rp_lald lN ch hx hb hK hP 7 6 rfl rfl (i := k) (by omega) (by decide) dX0_divide_5 ?_
  refine lv_ldc2 (v := 3125) hx hb hown (hts _ q142) dX0_divide_6 ?_
  refine rp_tl (y := lN 3125) (by decide +kernel) ?_
  refine rp_lremN hx hb (by omega) dX0_divide_9 ?_
  refine rp_l2iN hx hb dX0_divide_10 ?_
  refine lv_istore_n (lv' := [(2, .int (nI ((ch k) % 3125))), (0, .ref h0), (1, .int (nI k))]) hx hb dX0_divide_11 rfl hl (by decide) rfl (fun ls hl => ?_)
  refine lv_aload_n hx hb dX0_divide_12 rfl (lv_at hl 1 rfl) ?_
  refine va_get (D := (dC, dI)) (ci := 0) (v := .ref (ad 8)) (C := RX0) (T := TX0) (N := 22) hx hb hts in_X0 hown hK hP 0 rfl rfl 8 (by decide) (hts _ q30) (fun _ h9 => h9) rfl dX0_divide_13 ?_
  refine lv_iload_n hx hb dX0_divide_16 rfl (lv_at hl 2 rfl) ?_
  refine rp_iald nI fx hx hb hK hP 5 4 rfl rfl (i := k) (by omega) (by decide) dX0_divide_17 ?_
  refine lv_istore_n (lv' := [(3, .int (nI (fx k))), (2, .int (nI ((ch k) % 3125))), (0, .ref h0), (1, .int (nI k))]) hx hb dX0_divide_18 rfl hl (by decide) rfl (fun ls hl => ?_)
  exact L19 6 (fx k) pa wa fx wo ch fw wt fp u v ho be sl se (by omega) (by omega) (Nat.le_refl _) hI0 (by omega) (by omega) rfl rfl _ _ hP hD hS ls (lv_sub hl [0, 1, 3, 2] rfl)
end
section
/-! findUpTo, hasRank -/
set_option maxRecDepth 100000
set_option maxHeartbeats 4000000 in
/-- findUpTo(cc): cc plans are found, or all -/
theorem metX0_findUpTo (l : Launch) (dC : Nat → ClassId) (dI : Nat → Nat → Nat) (h0 : Nat) (ad : Nat → Nat) (dA : Nat → ClassId) (sz : Nat) (pr : Nat → Nat) (ba : Nat → Bool) (st : Bool) (en : Bool) (fo : Nat) (pl : Nat → Nat) (pa : Nat) (wa : Nat → Bool) (fx : Nat → Nat) (wo : Nat → Nat) (ch : Nat → Nat) (fw : Nat) (wt : Nat) (fp : Nat) (pw : Nat) (pt : Nat) (u : Nat → Int) (v : Nat → Int) (ho : Nat → Nat) (be : Nat → Nat) (sl : Nat → Int) (se : Nat → Bool) (S : List Nat) (cc : Nat) (hpr : ∀ j, j < 25 → pr j < 100) (hR : rp_RL pr ba S) (hSl : S.length ≤ 120) (hpw5 : pw = 5) (hpt : pt < 5) (hJ : rp_XJ pr ba S st en fo pl pa wa fx wo ch) (hc : cc ≤ 120) : Met l yX0_findUpTo (ws_ yX0_findUpTo cX0_findUpTo 5 none) (rp_rm 8 189) (rp_Pc dC dI [.ref h0, .int (nI cc)] sz (rp_xw h0 ad dA pr ba st en fo pl pa wa fx wo ch fw wt fp pw pt u v ho be sl se) (rp_xk dA)) (va_Qv (fun (z : Bool × Nat × (Nat → Nat) × Nat × (Nat → Bool) × (Nat → Nat) × (Nat → Nat) × (Nat → Nat) × Nat × Nat × Nat × (Nat → Int) × (Nat → Int) × (Nat → Nat) × (Nat → Nat) × (Nat → Int) × (Nat → Bool)) => rp_XJ pr ba S true z.1 z.2.1 z.2.2.1 z.2.2.2.1 z.2.2.2.2.1 z.2.2.2.2.2.1 z.2.2.2.2.2.2.1 z.2.2.2.2.2.2.2.1 ∧ (cc ≤ z.2.1 ∨ z.2.1 = S.length)) (fun z t => rp_Bc dC dI (va_A (rp_xw h0 ad dA pr ba st en fo pl pa wa fx wo ch fw wt fp pw pt u v ho be sl se) sz) (rp_xw h0 ad dA pr ba true z.1 z.2.1 z.2.2.1 z.2.2.2.1 z.2.2.2.2.1 z.2.2.2.2.2.1 z.2.2.2.2.2.2.1 z.2.2.2.2.2.2.2.1 z.2.2.2.2.2.2.2.2.1 z.2.2.2.2.2.2.2.2.2.1 z.2.2.2.2.2.2.2.2.2.2.1 pw pt z.2.2.2.2.2.2.2.2.2.2.2.1 z.2.2.2.2.2.2.2.2.2.2.2.2.1 z.2.2.2.2.2.2.2.2.2.2.2.2.2.1 z.2.2.2.2.2.2.2.2.2.2.2.2.2.2.1 z.2.2.2.2.2.2.2.2.2.2.2.2.2.2.2.1 z.2.2.2.2.2.2.2.2.2.2.2.2.2.2.2.2) (rp_xk dA) t) (va_A (rp_xw h0 ad dA pr ba st en fo pl pa wa fx wo ch fw wt fp pw pt u v ho be sl se) sz)) 0 0 (va_A (rp_xw h0 ad dA pr ba st en fo pl pa wa fx wo ch fw wt fp pw pt u v ho be sl se) sz) := by
  refine Met.ofW (cc := cX0_findUpTo) (maxL := 5) (ret := none) (by decide) rfl ?_
  intro p e s m args below meth c s₁ B hml hv
  obtain ⟨rfl, hsz, hP, hK, hD0⟩ := hv
  have hx := B.exec
  have hb := B.bytes
  have hr := B.returns
  have hts := atoms_spec (ws := (ws_ yX0_findUpTo cX0_findUpTo 5 none)) B.pre
  have hts : ∀ w ∈ lw_all, w.before _ s = true := fun w h => hts w (List.mem_cons_of_mem _ h)
  have hown : s.vm.findClass RX0 = some m.cls := findClass_of_methodNamed B.named
  have hlocks := B.notSynchronized
  subst hsz
  have hD := hD0.self (sz := s.heap.size)
  generalize hAe : va_A (rp_xw h0 ad dA pr ba st en fo pl pa wa fx wo ch fw wt fp pw pt u v ho be sl se) s.heap.size = A at hD ⊢
  have hA : ∀ q : Nat, s.heap.size ≤ q → A q := fun q h => by rw [← hAe]; exact Or.inr h
  have hS : va_S A s.heap s.heap [] := va_S.rf
  have hP : va_P (dC, dI) rp_cl (rp_xw h0 ad dA pr ba st en fo pl pa wa fx wo ch fw wt fp pw pt u v ho be sl se) s.heap := hP
  have hl := lv_entry ([.ref h0, .int (nI cc)]) (n := 5) (Nat.le_of_ble_eq_true rfl)
  rw [lg_entry_eq]
  generalize (lg_sl ([.ref h0, .int (nI cc)]) ++ List.replicate (5 - (lg_sl ([.ref h0, .int (nI cc)])).length) Slot.unset).toArray = ls at hl ⊢
  have hl : lv_has ls 5 [(0, .ref h0), (1, .int (nI cc))] := hl
  have L36 : ∀ (n : Nat) (k : Nat) (en1 : Bool) (fo1 : Nat) (pl1 : Nat → Nat) (pa1 : Nat) (wa1 : Nat → Bool) (fx1 : Nat → Nat) (wo1 : Nat → Nat) (ch1 : Nat → Nat) (fw1 : Nat) (wt1 : Nat) (fp1 : Nat) (u1 : Nat → Int) (v1 : Nat → Int) (ho1 : Nat → Nat) (be1 : Nat → Nat) (sl1 : Nat → Int) (se1 : Nat → Bool), (120 - k < n) → (k ≤ 120) → (k ≤ fo1 ∨ en1 = true) → (rp_XI pr ba S fo1 pl1 pa1 wa1 fx1 wo1 ch1 (fun _ => False)) → (pa1 ≤ 1 + 5 * fo1) → (en1 = true → fo1 = S.length) → ∀ (H : Heap) (locs : List Loc), va_P (dC, dI) rp_cl (rp_xw h0 ad dA pr ba true en1 fo1 pl1 pa1 wa1 fx1 wo1 ch1 fw1 wt1 fp1 pw pt u1 v1 ho1 be1 sl1 se1) H → va_D A (rp_xw h0 ad dA pr ba true en1 fo1 pl1 pa1 wa1 fx1 wo1 ch1 fw1 wt1 fp1 pw pt u1 v1 ho1 be1 sl1 se1) → va_S A s.heap H locs → ∀ (ls : Array Slot), lv_has ls 5 [(2, .int (nI k)), (1, .int (nI cc)), (0, .ref h0)] → W p l e (headSpec (ws_ yX0_findUpTo cX0_findUpTo 5 none) (rp_rm 8 189)).room s m ([.ref h0, .int (nI cc)] : List Value).toArray below meth c H locs 0 0 (MQ below (va_Qv (fun (z : Bool × Nat × (Nat → Nat) × Nat × (Nat → Bool) × (Nat → Nat) × (Nat → Nat) × (Nat → Nat) × Nat × Nat × Nat × (Nat → Int) × (Nat → Int) × (Nat → Nat) × (Nat → Nat) × (Nat → Int) × (Nat → Bool)) => rp_XJ pr ba S true z.1 z.2.1 z.2.2.1 z.2.2.2.1 z.2.2.2.2.1 z.2.2.2.2.2.1 z.2.2.2.2.2.2.1 z.2.2.2.2.2.2.2.1 ∧ (cc ≤ z.2.1 ∨ z.2.1 = S.length)) (fun z t => rp_Bc dC dI A (rp_xw h0 ad dA pr ba true z.1 z.2.1 z.2.2.1 z.2.2.2.1 z.2.2.2.2.1 z.2.2.2.2.2.1 z.2.2.2.2.2.2.1 z.2.2.2.2.2.2.2.1 z.2.2.2.2.2.2.2.2.1 z.2.2.2.2.2.2.2.2.2.1 z.2.2.2.2.2.2.2.2.2.2.1 pw pt z.2.2.2.2.2.2.2.2.2.2.2.1 z.2.2.2.2.2.2.2.2.2.2.2.2.1 z.2.2.2.2.2.2.2.2.2.2.2.2.2.1 z.2.2.2.2.2.2.2.2.2.2.2.2.2.2.1 z.2.2.2.2.2.2.2.2.2.2.2.2.2.2.2.1 z.2.2.2.2.2.2.2.2.2.2.2.2.2.2.2.2) (rp_xk dA) t) A) ([.ref h0, .int (nI cc)] : List Value).toArray s 0 0 A) (F0 m 36 ls []) := by
    intro n
    induction n with
    | zero =>
      intro k en1 fo1 pl1 pa1 wa1 fx1 wo1 ch1 fw1 wt1 fp1 u1 v1 ho1 be1 sl1 se1 hn hk hkf hI hpa hen
      exact absurd hn (by omega)
    | succ n ih =>
      intro k en1 fo1 pl1 pa1 wa1 fx1 wo1 ch1 fw1 wt1 fp1 u1 v1 ho1 be1 sl1 se1 hn hk hkf hI hpa hen H locs hP hD hS ls hl
      have hfl := rp_XI_le hI
      refine lv_iload_n hx hb dX0_findUpTo_36 rfl (lv_at hl 0 rfl) ?_
      refine lv_bipush (v := nI 120) hx hb dX0_findUpTo_37 (by decide) ?_
      refine rp_icge (tgt := 178) hx hb (by omega) (by omega) dX0_findUpTo_39 (by decide) (fun c_39 => ?_) (fun c_39 => ?_)
      · have hor : cc ≤ fo1 ∨ fo1 = S.length := by
          rcases hkf with q | q
          · exact Or.inl (by omega)
          · exact Or.inr (hen q)
        exact W.vret hx hb hr (fun t9 ht9 hW9 => ⟨⟨(en1, fo1, pl1, pa1, wa1, fx1, wo1, ch1, fw1, wt1, fp1, u1, v1, ho1, be1, sl1, se1), rfl, ⟨fun _ => ⟨hI, hpa, hen⟩, hor⟩, by rw [ht9]; exact hP, va_K.moved hW9.alike hK, hD⟩, hS.F ht9⟩) hS.2.2 dX0_findUpTo_178
      · refine lv_aload_n hx hb dX0_findUpTo_42 rfl (lv_at hl 2 rfl) ?_
        refine va_get (D := (dC, dI)) (ci := 0) (v := .int (nI fo1)) (C := RX0) (T := TX0) (N := 22) hx hb hts in_X0 hown hK hP 0 rfl rfl 4 (by decide) (hts _ q26) (fun _ h9 => h9) rfl dX0_findUpTo_43 ?_
        refine lv_iload_n hx hb dX0_findUpTo_46 rfl (lv_at hl 1 rfl) ?_
        refine rp_icge (tgt := 178) hx hb (by omega) (by omega) dX0_findUpTo_47 (by decide) (fun c_47 => ?_) (fun c_47 => ?_)
        · have hor : cc ≤ fo1 ∨ fo1 = S.length := Or.inl c_47
          exact W.vret hx hb hr (fun t9 ht9 hW9 => ⟨⟨(en1, fo1, pl1, pa1, wa1, fx1, wo1, ch1, fw1, wt1, fp1, u1, v1, ho1, be1, sl1, se1), rfl, ⟨fun _ => ⟨hI, hpa, hen⟩, hor⟩, by rw [ht9]; exact hP, va_K.moved hW9.alike hK, hD⟩, hS.F ht9⟩) hS.2.2 dX0_findUpTo_178
        · refine lv_aload_n hx hb dX0_findUpTo_50 rfl (lv_at hl 2 rfl) ?_
          refine va_get (D := (dC, dI)) (ci := 0) (v := .int (rp_B en1)) (C := RX0) (T := TX0) (N := 22) hx hb hts in_X0 hown hK hP 0 rfl rfl 3 (by decide) (hts _ q25) (fun _ h9 => h9) rfl dX0_findUpTo_51 ?_
          refine rp_bne (tgt := 178) hx hb dX0_findUpTo_54 (by decide) (fun c_54 => ?_) (fun c_54 => ?_)
          · have hor : cc ≤ fo1 ∨ fo1 = S.length := Or.inr (hen c_54)
            exact W.vret hx hb hr (fun t9 ht9 hW9 => ⟨⟨(en1, fo1, pl1, pa1, wa1, fx1, wo1, ch1, fw1, wt1, fp1, u1, v1, ho1, be1, sl1, se1), rfl, ⟨fun _ => ⟨hI, hpa, hen⟩, hor⟩, by rw [ht9]; exact hP, va_K.moved hW9.alike hK, hD⟩, hS.F ht9⟩) hS.2.2 dX0_findUpTo_178
          · refine lv_iconst (v := rp_Q 0) hx hb dX0_findUpTo_57 (by decide) ?_
            refine lv_istore_n (lv' := [(3, .int (rp_Q 0)), (2, .int (nI k)), (1, .int (nI cc)), (0, .ref h0)]) hx hb dX0_findUpTo_58 rfl hl (by decide) rfl (fun ls hl => ?_)
            refine lv_iconst (v := nI 0) hx hb dX0_findUpTo_59 (by decide) ?_
            refine lv_istore (lv' := [(4, .int (nI 0)), (3, .int (rp_Q 0)), (2, .int (nI k)), (1, .int (nI cc)), (0, .ref h0)]) hx hb dX0_findUpTo_60 hl (by decide) rfl (fun ls hl => ?_)
            have L115 : ∀ (b : Nat), (rp_bw wa1 ch1 pa1 b) → (b ≤ pa1) → ∀ (H : Heap) (locs : List Loc), va_P (dC, dI) rp_cl (rp_xw h0 ad dA pr ba true en1 fo1 pl1 pa1 wa1 fx1 wo1 ch1 fw1 wt1 fp1 pw pt u1 v1 ho1 be1 sl1 se1) H → va_D A (rp_xw h0 ad dA pr ba true en1 fo1 pl1 pa1 wa1 fx1 wo1 ch1 fw1 wt1 fp1 pw pt u1 v1 ho1 be1 sl1 se1) → va_S A s.heap H locs → ∀ (ls : Array Slot), lv_has ls 5 [(3, .int (rp_Q b)), (2, .int (nI k)), (1, .int (nI cc)), (0, .ref h0)] → W p l e (headSpec (ws_ yX0_findUpTo cX0_findUpTo 5 none) (rp_rm 8 189)).room s m ([.ref h0, .int (nI cc)] : List Value).toArray below meth c H locs 0 0 (MQ below (va_Qv (fun (z : Bool × Nat × (Nat → Nat) × Nat × (Nat → Bool) × (Nat → Nat) × (Nat → Nat) × (Nat → Nat) × Nat × Nat × Nat × (Nat → Int) × (Nat → Int) × (Nat → Nat) × (Nat → Nat) × (Nat → Int) × (Nat → Bool)) => rp_XJ pr ba S true z.1 z.2.1 z.2.2.1 z.2.2.2.1 z.2.2.2.2.1 z.2.2.2.2.2.1 z.2.2.2.2.2.2.1 z.2.2.2.2.2.2.2.1 ∧ (cc ≤ z.2.1 ∨ z.2.1 = S.length)) (fun z t => rp_Bc dC dI A (rp_xw h0 ad dA pr ba true z.1 z.2.1 z.2.2.1 z.2.2.2.1 z.2.2.2.2.1 z.2.2.2.2.2.1 z.2.2.2.2.2.2.1 z.2.2.2.2.2.2.2.1 z.2.2.2.2.2.2.2.2.1 z.2.2.2.2.2.2.2.2.2.1 z.2.2.2.2.2.2.2.2.2.2.1 pw pt z.2.2.2.2.2.2.2.2.2.2.2.1 z.2.2.2.2.2.2.2.2.2.2.2.2.1 z.2.2.2.2.2.2.2.2.2.2.2.2.2.1 z.2.2.2.2.2.2.2.2.2.2.2.2.2.2.1 z.2.2.2.2.2.2.2.2.2.2.2.2.2.2.2.1 z.2.2.2.2.2.2.2.2.2.2.2.2.2.2.2.2) (rp_xk dA) t) A) ([.ref h0, .int (nI cc)] : List Value).toArray s 0 0 A) (F0 m 115 ls []) := by
              intro b hbw hb2 H locs hP hD hS ls hl
              refine lv_aload_n hx hb dX0_findUpTo_115 rfl (lv_at hl 3 rfl) ?_
              refine lv_iload_n hx hb dX0_findUpTo_116 rfl (lv_at hl 0 rfl) ?_
              refine rp_qge (tgt := 124) hx hb (by omega) dX0_findUpTo_117 (by decide) (fun c_117 => ?_) (fun c_117 => ?_)
              · obtain ⟨hb1, hb2, hb3⟩ := rp_bw_at hbw c_117
                have hT := rp_XI_take hR hI hb1 hb2 hb3
                have hf := rp_XI_le hT
                obtain ⟨p1, p2, p3, p4, p5, p6⟩ := hI.2.1 _ hb1 hb2
                refine lv_iconst (v := rp_B false) hx hb dX0_findUpTo_124 (by decide) ?_
                refine va_put (D := (dC, dI)) (ci := 0) (v := .int (rp_B false)) (ty := .boolean) (C := RX0) (T := TX0) (N := 22) hx hb hts in_X0 tyX0 tyX0_ok nmX0 hown hK hP hD hS 0 rfl rfl 3 (by decide) (hts _ q25) (fun _ h9 => h9) rfl (by decide +kernel) (by first | rfl | (cases false <;> rfl)) (by first | rfl | (cases false <;> rfl)) (Nat.le_of_ble_eq_true rfl) dX0_findUpTo_125 (fun H locs hP hD hS => ?_)
                have hP : va_P (dC, dI) rp_cl (rp_xw h0 ad dA pr ba true false fo1 pl1 pa1 wa1 fx1 wo1 ch1 fw1 wt1 fp1 pw pt u1 v1 ho1 be1 sl1 se1) H := hP
                have hD : va_D A (rp_xw h0 ad dA pr ba true false fo1 pl1 pa1 wa1 fx1 wo1 ch1 fw1 wt1 fp1 pw pt u1 v1 ho1 be1 sl1 se1) := hD
                refine lv_aload_n hx hb dX0_findUpTo_128 rfl (lv_at hl 3 rfl) ?_
                refine va_get (D := (dC, dI)) (ci := 0) (v := .int (rp_B false)) (C := RX0) (T := TX0) (N := 22) hx hb hts in_X0 hown hK hP 0 rfl rfl 3 (by decide) (hts _ q25) (fun _ h9 => h9) rfl dX0_findUpTo_129 ?_
                refine rp_bne (tgt := 172) hx hb dX0_findUpTo_132 (by decide) (fun c_132 => ?_) (fun c_132 => ?_)
                · exact absurd c_132 (by decide)
                · refine lv_aload_n hx hb dX0_findUpTo_135 rfl (lv_at hl 3 rfl) ?_
                  refine va_get (D := (dC, dI)) (ci := 0) (v := .ref (ad 5)) (C := RX0) (T := TX0) (N := 22) hx hb hts in_X0 hown hK hP 0 rfl rfl 5 (by decide) (hts _ q27) (fun _ h9 => h9) rfl dX0_findUpTo_136 ?_
                  refine lv_aload_n hx hb dX0_findUpTo_139 rfl (lv_at hl 3 rfl) ?_
                  refine va_get (D := (dC, dI)) (ci := 0) (v := .int (nI fo1)) (C := RX0) (T := TX0) (N := 22) hx hb hts in_X0 hown hK hP 0 rfl rfl 4 (by decide) (hts _ q26) (fun _ h9 => h9) rfl dX0_findUpTo_140 ?_
                  refine lv_aload_n hx hb dX0_findUpTo_143 rfl (lv_at hl 3 rfl) ?_
                  refine va_get (D := (dC, dI)) (ci := 0) (v := .ref (ad 10)) (C := RX0) (T := TX0) (N := 22) hx hb hts in_X0 hown hK hP 0 rfl rfl 10 (by decide) (hts _ q32) (fun _ h9 => h9) rfl dX0_findUpTo_144 ?_
                  refine lv_iload_n hx hb dX0_findUpTo_147 rfl (lv_at hl 0 rfl) ?_
                  refine rp_ti (rp_Q_pos c_117) ?_
                  refine rp_lald lN ch1 hx hb hK hP 7 6 rfl rfl (i := b - 1) (by omega) (by decide) dX0_findUpTo_148 ?_
                  refine rp_last lN pl1 (ch1 (b - 1)) hx hb hK hP hD hS 3 2 rfl rfl (i := fo1) (by omega) (by decide) dX0_findUpTo_149 (fun H locs hP hD hS => ?_)
                  have hP : va_P (dC, dI) rp_cl (rp_xw h0 ad dA pr ba true false fo1 (va_up pl1 fo1 (ch1 (b - 1))) pa1 wa1 fx1 wo1 ch1 fw1 wt1 fp1 pw pt u1 v1 ho1 be1 sl1 se1) H := hP
                  have hD : va_D A (rp_xw h0 ad dA pr ba true false fo1 (va_up pl1 fo1 (ch1 (b - 1))) pa1 wa1 fx1 wo1 ch1 fw1 wt1 fp1 pw pt u1 v1 ho1 be1 sl1 se1) := hD
                  refine lv_aload_n hx hb dX0_findUpTo_150 rfl (lv_at hl 3 rfl) ?_
                  refine lv_dup hx hb dX0_findUpTo_151 rfl ?_
                  refine va_get (D := (dC, dI)) (ci := 0) (v := .int (nI fo1)) (C := RX0) (T := TX0) (N := 22) hx hb hts in_X0 hown hK hP 0 rfl rfl 4 (by decide) (hts _ q26) (fun _ h9 => h9) rfl dX0_findUpTo_152 ?_
                  refine lv_iconst (v := nI 1) hx hb dX0_findUpTo_155 (by decide) ?_
                  refine rp_iadd hx hb dX0_findUpTo_156 ?_
                  refine va_put (D := (dC, dI)) (ci := 0) (v := .int (nI (fo1 + 1))) (ty := .int) (C := RX0) (T := TX0) (N := 22) hx hb hts in_X0 tyX0 tyX0_ok nmX0 hown hK hP hD hS 0 rfl rfl 4 (by decide) (hts _ q26) (fun _ h9 => h9) rfl (by decide +kernel) rfl rfl (Nat.le_of_ble_eq_true rfl) dX0_findUpTo_157 (fun H locs hP hD hS => ?_)
                  have hP : va_P (dC, dI) rp_cl (rp_xw h0 ad dA pr ba true false (fo1 + 1) (va_up pl1 fo1 (ch1 (b - 1))) pa1 wa1 fx1 wo1 ch1 fw1 wt1 fp1 pw pt u1 v1 ho1 be1 sl1 se1) H := hP
                  have hD : va_D A (rp_xw h0 ad dA pr ba true false (fo1 + 1) (va_up pl1 fo1 (ch1 (b - 1))) pa1 wa1 fx1 wo1 ch1 fw1 wt1 fp1 pw pt u1 v1 ho1 be1 sl1 se1) := hD
                  refine lv_aload_n hx hb dX0_findUpTo_160 rfl (lv_at hl 3 rfl) ?_
                  refine va_get (D := (dC, dI)) (ci := 0) (v := .ref (ad 7)) (C := RX0) (T := TX0) (N := 22) hx hb hts in_X0 hown hK hP 0 rfl rfl 7 (by decide) (hts _ q29) (fun _ h9 => h9) rfl dX0_findUpTo_161 ?_
                  refine lv_iload_n hx hb dX0_findUpTo_164 rfl (lv_at hl 0 rfl) ?_
                  refine rp_ti (rp_Q_pos c_117) ?_
                  refine lv_iconst (v := rp_B false) hx hb dX0_findUpTo_165 (by decide) ?_
                  refine rp_zast wa1 false hx hb hK hP hD hS 4 3 rfl rfl (i := b - 1) (by omega) (by decide) dX0_findUpTo_166 (fun H locs hP hD hS => ?_)
                  have hP : va_P (dC, dI) rp_cl (rp_xw h0 ad dA pr ba true false (fo1 + 1) (va_up pl1 fo1 (ch1 (b - 1))) pa1 (va_up wa1 (b - 1) false) fx1 wo1 ch1 fw1 wt1 fp1 pw pt u1 v1 ho1 be1 sl1 se1) H := hP
                  have hD : va_D A (rp_xw h0 ad dA pr ba true false (fo1 + 1) (va_up pl1 fo1 (ch1 (b - 1))) pa1 (va_up wa1 (b - 1) false) fx1 wo1 ch1 fw1 wt1 fp1 pw pt u1 v1 ho1 be1 sl1 se1) := hD
                  refine lv_aload_n hx hb dX0_findUpTo_167 rfl (lv_at hl 3 rfl) ?_
                  refine lv_iload_n hx hb dX0_findUpTo_168 rfl (lv_at hl 0 rfl) ?_
                  refine rp_ti (rp_Q_pos c_117) ?_
                  have hFc := va_free (wc := rp_xw h0 ad dA pr ba true false (fo1 + 1) (va_up pl1 fo1 (ch1 (b - 1))) pa1 (va_up wa1 (b - 1) false) fx1 wo1 ch1 fw1 wt1 fp1 pw pt u1 v1 ho1 be1 sl1 se1) hD hS hA [0, 1, 2, 3, 4, 5, 6, 7, 8, 9, 10, 11, 12, 13] rfl
                  refine va_callv (va_runV (As := [.int (nI (b - 1))]) (rest := []) ⟨hx, hb, hml, hown, hts⟩ (metX0_divide l dC dI h0 ad dA H.size pr ba true false (fo1 + 1) (va_up pl1 fo1 (ch1 (b - 1))) pa1 (va_up wa1 (b - 1) false) fx1 wo1 ch1 fw1 wt1 fp1 pw pt u1 v1 ho1 be1 sl1 se1 S (b - 1) hpr hpw5 hpt hT hb1 p1 p2 p3 p4 (by omega)) (cwV 1 hts (lw_V q144 q146 qs7 q12 q147) rfl rfl rfl (by decide +kernel) ⟨Nat.le_of_ble_eq_true rfl, Nat.le_of_ble_eq_true rfl⟩) ⟨fun a U g mk q => by obtain ⟨q0, q1, qP, qK, qD⟩ := q; exact ⟨q0, q1, qP, va_K.moved (u := U) (U := U.calling g mk a) (Vm.Alike.refl U.vm) qK, qD⟩, va_recv hK hP (ci := 0) (q0 := 0) rfl rfl, fun U hU hW => ⟨rfl, by rw [hU], by rw [hU]; exact hP, va_K.moved hW.alike hK, hD.weaken (fun _ _ _ _ => trivial)⟩⟩ rfl rfl hl.1 rfl (lv_room (Nat.le_of_ble_eq_true rfl)) dX0_findUpTo_169 ⟨Nat.le_of_ble_eq_true rfl, Nat.le_of_ble_eq_true rfl⟩) hS (fun q _ h => hFc q h) hFc (fun u_ t H1 locs ht hvm hw hB hz1 hk1 hS => ?_)
                  obtain ⟨hP1, hK1, hD1⟩ := hB
                  rw [ht] at hP1
                  have hD := hD1.weaken (fun k q _ h => hFc q.1 h)
                  have hP := hP1
                  obtain ⟨pa2, wa2, fx2, wo2, ch2, fw2, wt2, fp2, u2, v2, ho2, be2, sl2, se2⟩ := u_
                  have hw : rp_XI pr ba S (fo1 + 1) (va_up pl1 fo1 (ch1 (b - 1))) pa2 wa2 fx2 wo2 ch2 (fun _ => False) ∧ pa2 ≤ pa1 + 5 := hw
                  clear hFc hK1 hz1 hk1 hD1 hP1 ht hvm
                  generalize H1 = H at hP hS ⊢
                  have hP : va_P (dC, dI) rp_cl (rp_xw h0 ad dA pr ba true false (fo1 + 1) (va_up pl1 fo1 (ch1 (b - 1))) pa2 wa2 fx2 wo2 ch2 fw2 wt2 fp2 pw pt u2 v2 ho2 be2 sl2 se2) H := hP
                  have hD : va_D A (rp_xw h0 ad dA pr ba true false (fo1 + 1) (va_up pl1 fo1 (ch1 (b - 1))) pa2 wa2 fx2 wo2 ch2 fw2 wt2 fp2 pw pt u2 v2 ho2 be2 sl2 se2) := hD
                  refine lv_iinc (v := nI (k + 1)) (lv' := [(2, .int (nI (k + 1))), (3, .int (rp_Q b)), (1, .int (nI cc)), (0, .ref h0)]) hx hb dX0_findUpTo_172 hl (k := 1) rfl (by exact nI_1 _) (by decide) rfl (fun ls hl => ?_)
                  refine lv_goto (tgt := 36) hx hb dX0_findUpTo_175 (by decide) ?_
                  exact ih (k + 1) false (fo1 + 1) (va_up pl1 fo1 (ch1 (b - 1))) pa2 wa2 fx2 wo2 ch2 fw2 wt2 fp2 u2 v2 ho2 be2 sl2 se2 (by omega) (by omega) (Or.inl (by rcases hkf with q | q; omega; rw [c_54] at q; cases q)) (hw.1) (by omega) (fun h => by cases h) _ _ hP hD hS ls (lv_sub hl [0, 2, 3] rfl)
              · refine lv_iconst (v := rp_B true) hx hb dX0_findUpTo_120 (by decide) ?_
                refine lv_goto (tgt := 125) hx hb dX0_findUpTo_121 (by decide) ?_
                refine va_put (D := (dC, dI)) (ci := 0) (v := .int (rp_B true)) (ty := .boolean) (C := RX0) (T := TX0) (N := 22) hx hb hts in_X0 tyX0 tyX0_ok nmX0 hown hK hP hD hS 0 rfl rfl 3 (by decide) (hts _ q25) (fun _ h9 => h9) rfl (by decide +kernel) (by first | rfl | (cases true <;> rfl)) (by first | rfl | (cases true <;> rfl)) (Nat.le_of_ble_eq_true rfl) dX0_findUpTo_125 (fun H locs hP hD hS => ?_)
                have hP : va_P (dC, dI) rp_cl (rp_xw h0 ad dA pr ba true true fo1 pl1 pa1 wa1 fx1 wo1 ch1 fw1 wt1 fp1 pw pt u1 v1 ho1 be1 sl1 se1) H := hP
                have hD : va_D A (rp_xw h0 ad dA pr ba true true fo1 pl1 pa1 wa1 fx1 wo1 ch1 fw1 wt1 fp1 pw pt u1 v1 ho1 be1 sl1 se1) := hD
                refine lv_aload_n hx hb dX0_findUpTo_128 rfl (lv_at hl 3 rfl) ?_
                refine va_get (D := (dC, dI)) (ci := 0) (v := .int (rp_B true)) (C := RX0) (T := TX0) (N := 22) hx hb hts in_X0 hown hK hP 0 rfl rfl 3 (by decide) (hts _ q25) (fun _ h9 => h9) rfl dX0_findUpTo_129 ?_
                refine rp_bne (tgt := 172) hx hb dX0_findUpTo_132 (by decide) (fun c_132 => ?_) (fun c_132 => ?_)
                · refine lv_iinc (v := nI (k + 1)) (lv' := [(2, .int (nI (k + 1))), (3, .int (rp_Q b)), (1, .int (nI cc)), (0, .ref h0)]) hx hb dX0_findUpTo_172 hl (k := 1) rfl (by exact nI_1 _) (by decide) rfl (fun ls hl => ?_)
                  refine lv_goto (tgt := 36) hx hb dX0_findUpTo_175 (by decide) ?_
                  exact ih (k + 1) true fo1 pl1 pa1 wa1 fx1 wo1 ch1 fw1 wt1 fp1 u1 v1 ho1 be1 sl1 se1 (by omega) (by omega) (Or.inr rfl) hI hpa (fun _ => rp_XI_end hR hI (rp_bw_none hbw c_117)) _ _ hP hD hS ls (lv_sub hl [0, 2, 3] rfl)
                · exact absurd c_132 (by decide)
            have L62 : ∀ (n : Nat) (i b : Nat), (pa1 - i < n) → (i ≤ pa1) → (rp_bw wa1 ch1 i b) → (b ≤ i) → ∀ (H : Heap) (locs : List Loc), va_P (dC, dI) rp_cl (rp_xw h0 ad dA pr ba true en1 fo1 pl1 pa1 wa1 fx1 wo1 ch1 fw1 wt1 fp1 pw pt u1 v1 ho1 be1 sl1 se1) H → va_D A (rp_xw h0 ad dA pr ba true en1 fo1 pl1 pa1 wa1 fx1 wo1 ch1 fw1 wt1 fp1 pw pt u1 v1 ho1 be1 sl1 se1) → va_S A s.heap H locs → ∀ (ls : Array Slot), lv_has ls 5 [(4, .int (nI i)), (3, .int (rp_Q b)), (2, .int (nI k)), (1, .int (nI cc)), (0, .ref h0)] → W p l e (headSpec (ws_ yX0_findUpTo cX0_findUpTo 5 none) (rp_rm 8 189)).room s m ([.ref h0, .int (nI cc)] : List Value).toArray below meth c H locs 0 0 (MQ below (va_Qv (fun (z : Bool × Nat × (Nat → Nat) × Nat × (Nat → Bool) × (Nat → Nat) × (Nat → Nat) × (Nat → Nat) × Nat × Nat × Nat × (Nat → Int) × (Nat → Int) × (Nat → Nat) × (Nat → Nat) × (Nat → Int) × (Nat → Bool)) => rp_XJ pr ba S true z.1 z.2.1 z.2.2.1 z.2.2.2.1 z.2.2.2.2.1 z.2.2.2.2.2.1 z.2.2.2.2.2.2.1 z.2.2.2.2.2.2.2.1 ∧ (cc ≤ z.2.1 ∨ z.2.1 = S.length)) (fun z t => rp_Bc dC dI A (rp_xw h0 ad dA pr ba true z.1 z.2.1 z.2.2.1 z.2.2.2.1 z.2.2.2.2.1 z.2.2.2.2.2.1 z.2.2.2.2.2.2.1 z.2.2.2.2.2.2.2.1 z.2.2.2.2.2.2.2.2.1 z.2.2.2.2.2.2.2.2.2.1 z.2.2.2.2.2.2.2.2.2.2.1 pw pt z.2.2.2.2.2.2.2.2.2.2.2.1 z.2.2.2.2.2.2.2.2.2.2.2.2.1 z.2.2.2.2.2.2.2.2.2.2.2.2.2.1 z.2.2.2.2.2.2.2.2.2.2.2.2.2.2.1 z.2.2.2.2.2.2.2.2.2.2.2.2.2.2.2.1 z.2.2.2.2.2.2.2.2.2.2.2.2.2.2.2.2) (rp_xk dA) t) A) ([.ref h0, .int (nI cc)] : List Value).toArray s 0 0 A) (F0 m 62 ls []) := by
              intro n
              induction n with
              | zero =>
                intro i b hn2 hi hbw hbi
                exact absurd hn2 (by omega)
              | succ n ih =>
                intro i b hn2 hi hbw hbi H locs hP hD hS ls hl
                refine lv_iload hx hb dX0_findUpTo_62 (lv_at hl 0 rfl) ?_
                refine lv_aload_n hx hb dX0_findUpTo_64 rfl (lv_at hl 4 rfl) ?_
                refine va_get (D := (dC, dI)) (ci := 0) (v := .int (nI pa1)) (C := RX0) (T := TX0) (N := 22) hx hb hts in_X0 hown hK hP 0 rfl rfl 6 (by decide) (hts _ q28) (fun _ h9 => h9) rfl dX0_findUpTo_65 ?_
                refine rp_icge (tgt := 115) hx hb (by omega) (by omega) dX0_findUpTo_68 (by decide) (fun c_68 => ?_) (fun c_68 => ?_)
                · have ei : i = pa1 := by omega
                  have hbe : rp_bw wa1 ch1 pa1 b := by rw [← ei]; exact hbw
                  exact L115 b hbe (by omega) _ _ hP hD hS ls (lv_sub hl [1, 2, 3, 4] rfl)
                · refine lv_aload_n hx hb dX0_findUpTo_71 rfl (lv_at hl 4 rfl) ?_
                  refine va_get (D := (dC, dI)) (ci := 0) (v := .ref (ad 7)) (C := RX0) (T := TX0) (N := 22) hx hb hts in_X0 hown hK hP 0 rfl rfl 7 (by decide) (hts _ q29) (fun _ h9 => h9) rfl dX0_findUpTo_72 ?_
                  refine lv_iload hx hb dX0_findUpTo_75 (lv_at hl 0 rfl) ?_
                  refine rp_zald wa1 hx hb hK hP 4 3 rfl rfl (i := i) (by omega) (by decide) dX0_findUpTo_77 ?_
                  refine rp_beq (tgt := 107) hx hb dX0_findUpTo_78 (by decide) (fun c_78 => ?_) (fun c_78 => ?_)
                  · have hnew := rp_bw_skip hbw c_78
                    refine lv_iload_n hx hb dX0_findUpTo_107 rfl (lv_at hl 1 rfl) ?_
                    refine lv_istore_n (lv' := [(3, .int (rp_Q b)), (4, .int (nI i)), (2, .int (nI k)), (1, .int (nI cc)), (0, .ref h0)]) hx hb dX0_findUpTo_108 rfl hl (by decide) rfl (fun ls hl => ?_)
                    refine lv_iinc (v := nI (i + 1)) (lv' := [(4, .int (nI (i + 1))), (3, .int (rp_Q b)), (2, .int (nI k)), (1, .int (nI cc)), (0, .ref h0)]) hx hb dX0_findUpTo_109 hl (k := 1) rfl (by exact nI_1 _) (by decide) rfl (fun ls hl => ?_)
                    refine lv_goto (tgt := 62) hx hb dX0_findUpTo_112 (by decide) ?_
                    exact ih (i + 1) b (by omega) (by omega) hnew (by omega) _ _ hP hD hS ls (lv_sub hl [0, 1, 2, 3, 4] rfl)
                  · refine lv_iload_n hx hb dX0_findUpTo_81 rfl (lv_at hl 1 rfl) ?_
                    refine rp_qlt (tgt := 102) hx hb (by omega) dX0_findUpTo_82 (by decide) (fun c_82 => ?_) (fun c_82 => ?_)
                    · have hnew := rp_bw_first hbw c_82 c_78
                      refine lv_iload hx hb dX0_findUpTo_102 (lv_at hl 0 rfl) ?_
                      refine lv_goto (tgt := 108) hx hb dX0_findUpTo_104 (by decide) ?_
                      refine rp_ti (rp_Q_s i) ?_
                      refine lv_istore_n (lv' := [(3, .int (rp_Q (i + 1))), (4, .int (nI i)), (2, .int (nI k)), (1, .int (nI cc)), (0, .ref h0)]) hx hb dX0_findUpTo_108 rfl hl (by decide) rfl (fun ls hl => ?_)
                      refine lv_iinc (v := nI (i + 1)) (lv' := [(4, .int (nI (i + 1))), (3, .int (rp_Q (i + 1))), (2, .int (nI k)), (1, .int (nI cc)), (0, .ref h0)]) hx hb dX0_findUpTo_109 hl (k := 1) rfl (by exact nI_1 _) (by decide) rfl (fun ls hl => ?_)
                      refine lv_goto (tgt := 62) hx hb dX0_findUpTo_112 (by decide) ?_
                      exact ih (i + 1) (i + 1) (by omega) (by omega) hnew (by omega) _ _ hP hD hS ls (lv_sub hl [0, 1, 2, 3, 4] rfl)
                    · obtain ⟨hb1, hb2, hb3⟩ := rp_bw_at hbw c_82
                      have q1 := (hI.2.1 _ (by omega : b - 1 < pa1) hb2).2.2.1
                      have q2 := (hI.2.1 i (by omega) c_78).2.2.1
                      refine lv_aload_n hx hb dX0_findUpTo_85 rfl (lv_at hl 4 rfl) ?_
                      refine va_get (D := (dC, dI)) (ci := 0) (v := .ref (ad 10)) (C := RX0) (T := TX0) (N := 22) hx hb hts in_X0 hown hK hP 0 rfl rfl 10 (by decide) (hts _ q32) (fun _ h9 => h9) rfl dX0_findUpTo_86 ?_
                      refine lv_iload hx hb dX0_findUpTo_89 (lv_at hl 0 rfl) ?_
                      refine rp_lald lN ch1 hx hb hK hP 7 6 rfl rfl (i := i) (by omega) (by decide) dX0_findUpTo_91 ?_
                      refine lv_aload_n hx hb dX0_findUpTo_92 rfl (lv_at hl 4 rfl) ?_
                      refine va_get (D := (dC, dI)) (ci := 0) (v := .ref (ad 10)) (C := RX0) (T := TX0) (N := 22) hx hb hts in_X0 hown hK hP 0 rfl rfl 10 (by decide) (hts _ q32) (fun _ h9 => h9) rfl dX0_findUpTo_93 ?_
                      refine lv_iload_n hx hb dX0_findUpTo_96 rfl (lv_at hl 1 rfl) ?_
                      refine rp_ti (rp_Q_pos c_82) ?_
                      refine rp_lald lN ch1 hx hb hK hP 7 6 rfl rfl (i := b - 1) (by omega) (by decide) dX0_findUpTo_97 ?_
                      refine rp_lcge (tgt := 107) hx hb dX0_findUpTo_98 dX0_findUpTo_99 (by decide) (fun c_98 => ?_) (fun c_98 => ?_)
                      · rw [pk_lLE (by omega) (by omega)] at c_98
                        have hnew := rp_bw_old hbw c_82 c_98
                        refine lv_iload_n hx hb dX0_findUpTo_107 rfl (lv_at hl 1 rfl) ?_
                        refine lv_istore_n (lv' := [(3, .int (rp_Q b)), (4, .int (nI i)), (2, .int (nI k)), (1, .int (nI cc)), (0, .ref h0)]) hx hb dX0_findUpTo_108 rfl hl (by decide) rfl (fun ls hl => ?_)
                        refine lv_iinc (v := nI (i + 1)) (lv' := [(4, .int (nI (i + 1))), (3, .int (rp_Q b)), (2, .int (nI k)), (1, .int (nI cc)), (0, .ref h0)]) hx hb dX0_findUpTo_109 hl (k := 1) rfl (by exact nI_1 _) (by decide) rfl (fun ls hl => ?_)
                        refine lv_goto (tgt := 62) hx hb dX0_findUpTo_112 (by decide) ?_
                        exact ih (i + 1) b (by omega) (by omega) hnew (by omega) _ _ hP hD hS ls (lv_sub hl [0, 1, 2, 3, 4] rfl)
                      · rw [pk_lLE (by omega) (by omega)] at c_98
                        have hnew := rp_bw_new hbw c_82 c_78 (by omega)
                        refine lv_iload hx hb dX0_findUpTo_102 (lv_at hl 0 rfl) ?_
                        refine lv_goto (tgt := 108) hx hb dX0_findUpTo_104 (by decide) ?_
                        refine rp_ti (rp_Q_s i) ?_
                        refine lv_istore_n (lv' := [(3, .int (rp_Q (i + 1))), (4, .int (nI i)), (2, .int (nI k)), (1, .int (nI cc)), (0, .ref h0)]) hx hb dX0_findUpTo_108 rfl hl (by decide) rfl (fun ls hl => ?_)
                        refine lv_iinc (v := nI (i + 1)) (lv' := [(4, .int (nI (i + 1))), (3, .int (rp_Q (i + 1))), (2, .int (nI k)), (1, .int (nI cc)), (0, .ref h0)]) hx hb dX0_findUpTo_109 hl (k := 1) rfl (by exact nI_1 _) (by decide) rfl (fun ls hl => ?_)
                        refine lv_goto (tgt := 62) hx hb dX0_findUpTo_112 (by decide) ?_
                        exact ih (i + 1) (i + 1) (by omega) (by omega) hnew (by omega) _ _ hP hD hS ls (lv_sub hl [0, 1, 2, 3, 4] rfl)
            exact L62 (pa1 + 1) 0 0 (by omega) (by omega) rp_bw_0 (by omega) _ _ hP hD hS ls (lv_sub hl [0, 1, 2, 3, 4] rfl)
  have L0 : ∀ (H : Heap) (locs : List Loc), va_P (dC, dI) rp_cl (rp_xw h0 ad dA pr ba st en fo pl pa wa fx wo ch fw wt fp pw pt u v ho be sl se) H → va_D A (rp_xw h0 ad dA pr ba st en fo pl pa wa fx wo ch fw wt fp pw pt u v ho be sl se) → va_S A s.heap H locs → ∀ (ls : Array Slot), lv_has ls 5 [(0, .ref h0), (1, .int (nI cc))] → W p l e (headSpec (ws_ yX0_findUpTo cX0_findUpTo 5 none) (rp_rm 8 189)).room s m ([.ref h0, .int (nI cc)] : List Value).toArray below meth c H locs 0 0 (MQ below (va_Qv (fun (z : Bool × Nat × (Nat → Nat) × Nat × (Nat → Bool) × (Nat → Nat) × (Nat → Nat) × (Nat → Nat) × Nat × Nat × Nat × (Nat → Int) × (Nat → Int) × (Nat → Nat) × (Nat → Nat) × (Nat → Int) × (Nat → Bool)) => rp_XJ pr ba S true z.1 z.2.1 z.2.2.1 z.2.2.2.1 z.2.2.2.2.1 z.2.2.2.2.2.1 z.2.2.2.2.2.2.1 z.2.2.2.2.2.2.2.1 ∧ (cc ≤ z.2.1 ∨ z.2.1 = S.length)) (fun z t => rp_Bc dC dI A (rp_xw h0 ad dA pr ba true z.1 z.2.1 z.2.2.1 z.2.2.2.1 z.2.2.2.2.1 z.2.2.2.2.2.1 z.2.2.2.2.2.2.1 z.2.2.2.2.2.2.2.1 z.2.2.2.2.2.2.2.2.1 z.2.2.2.2.2.2.2.2.2.1 z.2.2.2.2.2.2.2.2.2.2.1 pw pt z.2.2.2.2.2.2.2.2.2.2.2.1 z.2.2.2.2.2.2.2.2.2.2.2.2.1 z.2.2.2.2.2.2.2.2.2.2.2.2.2.1 z.2.2.2.2.2.2.2.2.2.2.2.2.2.2.1 z.2.2.2.2.2.2.2.2.2.2.2.2.2.2.2.1 z.2.2.2.2.2.2.2.2.2.2.2.2.2.2.2.2) (rp_xk dA) t) A) ([.ref h0, .int (nI cc)] : List Value).toArray s 0 0 A) (F0 m 0 ls []) := by
    intro   H locs hP hD hS ls hl
    refine lv_aload_n hx hb dX0_findUpTo_0 rfl (lv_at hl 0 rfl) ?_
    refine va_get (D := (dC, dI)) (ci := 0) (v := .int (rp_B st)) (C := RX0) (T := TX0) (N := 22) hx hb hts in_X0 hown hK hP 0 rfl rfl 2 (by decide) (hts _ q24) (fun _ h9 => h9) rfl dX0_findUpTo_1 ?_
    refine rp_bne (tgt := 34) hx hb dX0_findUpTo_4 (by decide) (fun c_4 => ?_) (fun c_4 => ?_)
    · rw [c_4] at hP hD
      refine lv_iconst (v := nI 0) hx hb dX0_findUpTo_34 (by decide) ?_
      refine lv_istore_n (lv' := [(2, .int (nI 0)), (0, .ref h0), (1, .int (nI cc))]) hx hb dX0_findUpTo_35 rfl hl (by decide) rfl (fun ls hl => ?_)
      exact L36 121 0 en fo pl pa wa fx wo ch fw wt fp u v ho be sl se (by omega) (by omega) (Or.inl (by omega)) (hJ c_4).1 (hJ c_4).2.1 (hJ c_4).2.2 _ _ hP hD hS ls (lv_sub hl [0, 2, 1] rfl)
    · refine lv_aload_n hx hb dX0_findUpTo_7 rfl (lv_at hl 0 rfl) ?_
      refine lv_iconst (v := rp_B true) hx hb dX0_findUpTo_8 (by decide) ?_
      refine va_put (D := (dC, dI)) (ci := 0) (v := .int (rp_B true)) (ty := .boolean) (C := RX0) (T := TX0) (N := 22) hx hb hts in_X0 tyX0 tyX0_ok nmX0 hown hK hP hD hS 0 rfl rfl 2 (by decide) (hts _ q24) (fun _ h9 => h9) rfl (by decide +kernel) (by first | rfl | (cases true <;> rfl)) (by first | rfl | (cases true <;> rfl)) (Nat.le_of_ble_eq_true rfl) dX0_findUpTo_9 (fun H locs hP hD hS => ?_)
      have hP : va_P (dC, dI) rp_cl (rp_xw h0 ad dA pr ba true en fo pl pa wa fx wo ch fw wt fp pw pt u v ho be sl se) H := hP
      have hD : va_D A (rp_xw h0 ad dA pr ba true en fo pl pa wa fx wo ch fw wt fp pw pt u v ho be sl se) := hD
      refine lv_aload_n hx hb dX0_findUpTo_12 rfl (lv_at hl 0 rfl) ?_
      refine lv_iconst (v := rp_B false) hx hb dX0_findUpTo_13 (by decide) ?_
      refine va_put (D := (dC, dI)) (ci := 0) (v := .int (rp_B false)) (ty := .boolean) (C := RX0) (T := TX0) (N := 22) hx hb hts in_X0 tyX0 tyX0_ok nmX0 hown hK hP hD hS 0 rfl rfl 3 (by decide) (hts _ q25) (fun _ h9 => h9) rfl (by decide +kernel) (by first | rfl | (cases false <;> rfl)) (by first | rfl | (cases false <;> rfl)) (Nat.le_of_ble_eq_true rfl) dX0_findUpTo_14 (fun H locs hP hD hS => ?_)
      have hP : va_P (dC, dI) rp_cl (rp_xw h0 ad dA pr ba true false fo pl pa wa fx wo ch fw wt fp pw pt u v ho be sl se) H := hP
      have hD : va_D A (rp_xw h0 ad dA pr ba true false fo pl pa wa fx wo ch fw wt fp pw pt u v ho be sl se) := hD
      refine lv_aload_n hx hb dX0_findUpTo_17 rfl (lv_at hl 0 rfl) ?_
      refine lv_iconst (v := nI 0) hx hb dX0_findUpTo_18 (by decide) ?_
      refine va_put (D := (dC, dI)) (ci := 0) (v := .int (nI 0)) (ty := .int) (C := RX0) (T := TX0) (N := 22) hx hb hts in_X0 tyX0 tyX0_ok nmX0 hown hK hP hD hS 0 rfl rfl 4 (by decide) (hts _ q26) (fun _ h9 => h9) rfl (by decide +kernel) rfl rfl (Nat.le_of_ble_eq_true rfl) dX0_findUpTo_19 (fun H locs hP hD hS => ?_)
      have hP : va_P (dC, dI) rp_cl (rp_xw h0 ad dA pr ba true false 0 pl pa wa fx wo ch fw wt fp pw pt u v ho be sl se) H := hP
      have hD : va_D A (rp_xw h0 ad dA pr ba true false 0 pl pa wa fx wo ch fw wt fp pw pt u v ho be sl se) := hD
      refine lv_aload_n hx hb dX0_findUpTo_22 rfl (lv_at hl 0 rfl) ?_
      refine lv_iconst (v := nI 0) hx hb dX0_findUpTo_23 (by decide) ?_
      refine va_put (D := (dC, dI)) (ci := 0) (v := .int (nI 0)) (ty := .int) (C := RX0) (T := TX0) (N := 22) hx hb hts in_X0 tyX0 tyX0_ok nmX0 hown hK hP hD hS 0 rfl rfl 6 (by decide) (hts _ q28) (fun _ h9 => h9) rfl (by decide +kernel) rfl rfl (Nat.le_of_ble_eq_true rfl) dX0_findUpTo_24 (fun H locs hP hD hS => ?_)
      have hP : va_P (dC, dI) rp_cl (rp_xw h0 ad dA pr ba true false 0 pl 0 wa fx wo ch fw wt fp pw pt u v ho be sl se) H := hP
      have hD : va_D A (rp_xw h0 ad dA pr ba true false 0 pl 0 wa fx wo ch fw wt fp pw pt u v ho be sl se) := hD
      refine lv_aload_n hx hb dX0_findUpTo_27 rfl (lv_at hl 0 rfl) ?_
      refine lv_iconst (v := nI 0) hx hb dX0_findUpTo_28 (by decide) ?_
      refine lv_iconst (v := nI 0) hx hb dX0_findUpTo_29 (by decide) ?_
      refine lv_iconst (v := nI 0) hx hb dX0_findUpTo_30 (by decide) ?_
      have hFc := va_free (wc := rp_xw h0 ad dA pr ba true false 0 pl 0 wa fx wo ch fw wt fp pw pt u v ho be sl se) hD hS hA [0, 1, 2, 3, 4, 5, 6, 7, 8, 9, 10, 11, 12, 13] rfl
      refine va_callv (va_runV (As := [.int (nI 0), .int (nI 0), .int (nI 0)]) (rest := []) ⟨hx, hb, hml, hown, hts⟩ (metX0_addPart l dC dI h0 ad dA H.size pr ba true false 0 pl 0 wa fx wo ch fw wt fp pw pt u v ho be sl se 0 0 0 hpr (by omega) (by omega) (by omega) hpw5 hpt (by omega)) (cwV 3 hts (lw_V q111 q113 qs1 q12 q114) rfl rfl rfl (by decide +kernel) ⟨Nat.le_of_ble_eq_true rfl, Nat.le_of_ble_eq_true rfl⟩) ⟨fun a U g mk q => by obtain ⟨q0, q1, qP, qK, qD⟩ := q; exact ⟨q0, q1, qP, va_K.moved (u := U) (U := U.calling g mk a) (Vm.Alike.refl U.vm) qK, qD⟩, va_recv hK hP (ci := 0) (q0 := 0) rfl rfl, fun U hU hW => ⟨rfl, by rw [hU], by rw [hU]; exact hP, va_K.moved hW.alike hK, hD.weaken (fun _ _ _ _ => trivial)⟩⟩ rfl rfl hl.1 rfl (lv_room (Nat.le_of_ble_eq_true rfl)) dX0_findUpTo_31 ⟨Nat.le_of_ble_eq_true rfl, Nat.le_of_ble_eq_true rfl⟩) hS (fun q _ h => hFc q h) hFc (fun u_ t H1 locs ht hvm hw hB hz1 hk1 hS => ?_)
      obtain ⟨hP1, hK1, hD1⟩ := hB
      rw [ht] at hP1
      have hD := hD1.weaken (fun k q _ h => hFc q.1 h)
      have hP := hP1
      obtain ⟨pa2, wa2, fx2, wo2, ch2, u2, v2, ho2, be2, sl2, se2⟩ := u_
      have hw : rp_AP pr ba 0 0 0 0 wa fx wo ch pa2 wa2 fx2 wo2 ch2 := hw
      have hI2 := rp_XI_1 (S := S) (pl := pl) hw
      have hO := rp_AP_old hw
      clear hFc hK1 hz1 hk1 hD1 hP1 ht hvm
      generalize H1 = H at hP hS ⊢
      have hP : va_P (dC, dI) rp_cl (rp_xw h0 ad dA pr ba true false 0 pl pa2 wa2 fx2 wo2 ch2 0 0 0 pw pt u2 v2 ho2 be2 sl2 se2) H := hP
      have hD : va_D A (rp_xw h0 ad dA pr ba true false 0 pl pa2 wa2 fx2 wo2 ch2 0 0 0 pw pt u2 v2 ho2 be2 sl2 se2) := hD
      refine lv_iconst (v := nI 0) hx hb dX0_findUpTo_34 (by decide) ?_
      refine lv_istore_n (lv' := [(2, .int (nI 0)), (0, .ref h0), (1, .int (nI cc))]) hx hb dX0_findUpTo_35 rfl hl (by decide) rfl (fun ls hl => ?_)
      exact L36 121 0 false 0 pl pa2 wa2 fx2 wo2 ch2 0 0 0 u2 v2 ho2 be2 sl2 se2 (by omega) (by omega) (Or.inl (by omega)) hI2 (by omega) (fun h => by cases h) _ _ hP hD hS ls (lv_sub hl [0, 2, 1] rfl)
  exact L0 _ _ hP hD hS ls hl
set_option maxHeartbeats 4000000 in
/-- hasRank(k) -/
theorem metX0_hasRank (l : Launch) (dC : Nat → ClassId) (dI : Nat → Nat → Nat) (h0 : Nat) (ad : Nat → Nat) (dA : Nat → ClassId) (sz : Nat) (pr : Nat → Nat) (ba : Nat → Bool) (st : Bool) (en : Bool) (fo : Nat) (pl : Nat → Nat) (pa : Nat) (wa : Nat → Bool) (fx : Nat → Nat) (wo : Nat → Nat) (ch : Nat → Nat) (fw : Nat) (wt : Nat) (fp : Nat) (pw : Nat) (pt : Nat) (u : Nat → Int) (v : Nat → Int) (ho : Nat → Nat) (be : Nat → Nat) (sl : Nat → Int) (se : Nat → Bool) (S : List Nat) (k : Int32) (hpr : ∀ j, j < 25 → pr j < 100) (hR : rp_RL pr ba S) (hSl : S.length ≤ 120) (hpw5 : pw = 5) (hpt : pt < 5) (hJ : rp_XJ pr ba S st en fo pl pa wa fx wo ch) : Met l yX0_hasRank (ws_ yX0_hasRank cX0_hasRank 2 (some .boolean)) (rp_rm 9 213) (rp_Pc dC dI [.ref h0, .int k] sz (rp_xw h0 ad dA pr ba st en fo pl pa wa fx wo ch fw wt fp pw pt u v ho be sl se) (rp_xk dA)) (va_Qi (fun (r : Int32) (z : Bool × Bool × Nat × (Nat → Nat) × Nat × (Nat → Bool) × (Nat → Nat) × (Nat → Nat) × (Nat → Nat) × Nat × Nat × Nat × (Nat → Int) × (Nat → Int) × (Nat → Nat) × (Nat → Nat) × (Nat → Int) × (Nat → Bool)) => r = rp_B (rp_hr S k) ∧ rp_XJ pr ba S z.1 z.2.1 z.2.2.1 z.2.2.2.1 z.2.2.2.2.1 z.2.2.2.2.2.1 z.2.2.2.2.2.2.1 z.2.2.2.2.2.2.2.1 z.2.2.2.2.2.2.2.2.1 ∧ (rp_hr S k = true → ∃ j, j < 120 ∧ k = nI j ∧ S[j]? = some (z.2.2.2.1 j))) (fun z t => rp_Bc dC dI (va_A (rp_xw h0 ad dA pr ba st en fo pl pa wa fx wo ch fw wt fp pw pt u v ho be sl se) sz) (rp_xw h0 ad dA pr ba z.1 z.2.1 z.2.2.1 z.2.2.2.1 z.2.2.2.2.1 z.2.2.2.2.2.1 z.2.2.2.2.2.2.1 z.2.2.2.2.2.2.2.1 z.2.2.2.2.2.2.2.2.1 z.2.2.2.2.2.2.2.2.2.1 z.2.2.2.2.2.2.2.2.2.2.1 z.2.2.2.2.2.2.2.2.2.2.2.1 pw pt z.2.2.2.2.2.2.2.2.2.2.2.2.1 z.2.2.2.2.2.2.2.2.2.2.2.2.2.1 z.2.2.2.2.2.2.2.2.2.2.2.2.2.2.1 z.2.2.2.2.2.2.2.2.2.2.2.2.2.2.2.1 z.2.2.2.2.2.2.2.2.2.2.2.2.2.2.2.2.1 z.2.2.2.2.2.2.2.2.2.2.2.2.2.2.2.2.2) (rp_xk dA) t) (va_A (rp_xw h0 ad dA pr ba st en fo pl pa wa fx wo ch fw wt fp pw pt u v ho be sl se) sz)) 0 0 (va_A (rp_xw h0 ad dA pr ba st en fo pl pa wa fx wo ch fw wt fp pw pt u v ho be sl se) sz) := by
  refine Met.ofW (cc := cX0_hasRank) (maxL := 2) (ret := (some .boolean)) (by decide) rfl ?_
  intro p e s m args below meth c s₁ B hml hv
  obtain ⟨rfl, hsz, hP, hK, hD0⟩ := hv
  have hx := B.exec
  have hb := B.bytes
  have hr := B.returns
  have hts := atoms_spec (ws := (ws_ yX0_hasRank cX0_hasRank 2 (some .boolean))) B.pre
  have hts : ∀ w ∈ lw_all, w.before _ s = true := fun w h => hts w (List.mem_cons_of_mem _ h)
  have hown : s.vm.findClass RX0 = some m.cls := findClass_of_methodNamed B.named
  have hlocks := B.notSynchronized
  subst hsz
  have hD := hD0.self (sz := s.heap.size)
  generalize hAe : va_A (rp_xw h0 ad dA pr ba st en fo pl pa wa fx wo ch fw wt fp pw pt u v ho be sl se) s.heap.size = A at hD ⊢
  have hA : ∀ q : Nat, s.heap.size ≤ q → A q := fun q h => by rw [← hAe]; exact Or.inr h
  have hS : va_S A s.heap s.heap [] := va_S.rf
  have hP : va_P (dC, dI) rp_cl (rp_xw h0 ad dA pr ba st en fo pl pa wa fx wo ch fw wt fp pw pt u v ho be sl se) s.heap := hP
  have hl := lv_entry ([.ref h0, .int k]) (n := 2) (Nat.le_of_ble_eq_true rfl)
  rw [lg_entry_eq]
  generalize (lg_sl ([.ref h0, .int k]) ++ List.replicate (2 - (lg_sl ([.ref h0, .int k])).length) Slot.unset).toArray = ls at hl ⊢
  have hl : lv_has ls 2 [(0, .ref h0), (1, .int k)] := hl
  have L0 : ∀ (H : Heap) (locs : List Loc), va_P (dC, dI) rp_cl (rp_xw h0 ad dA pr ba st en fo pl pa wa fx wo ch fw wt fp pw pt u v ho be sl se) H → va_D A (rp_xw h0 ad dA pr ba st en fo pl pa wa fx wo ch fw wt fp pw pt u v ho be sl se) → va_S A s.heap H locs → ∀ (ls : Array Slot), lv_has ls 2 [(0, .ref h0), (1, .int k)] → W p l e (headSpec (ws_ yX0_hasRank cX0_hasRank 2 (some .boolean)) (rp_rm 9 213)).room s m ([.ref h0, .int k] : List Value).toArray below meth c H locs 0 0 (MQ below (va_Qi (fun (r : Int32) (z : Bool × Bool × Nat × (Nat → Nat) × Nat × (Nat → Bool) × (Nat → Nat) × (Nat → Nat) × (Nat → Nat) × Nat × Nat × Nat × (Nat → Int) × (Nat → Int) × (Nat → Nat) × (Nat → Nat) × (Nat → Int) × (Nat → Bool)) => r = rp_B (rp_hr S k) ∧ rp_XJ pr ba S z.1 z.2.1 z.2.2.1 z.2.2.2.1 z.2.2.2.2.1 z.2.2.2.2.2.1 z.2.2.2.2.2.2.1 z.2.2.2.2.2.2.2.1 z.2.2.2.2.2.2.2.2.1 ∧ (rp_hr S k = true → ∃ j, j < 120 ∧ k = nI j ∧ S[j]? = some (z.2.2.2.1 j))) (fun z t => rp_Bc dC dI A (rp_xw h0 ad dA pr ba z.1 z.2.1 z.2.2.1 z.2.2.2.1 z.2.2.2.2.1 z.2.2.2.2.2.1 z.2.2.2.2.2.2.1 z.2.2.2.2.2.2.2.1 z.2.2.2.2.2.2.2.2.1 z.2.2.2.2.2.2.2.2.2.1 z.2.2.2.2.2.2.2.2.2.2.1 z.2.2.2.2.2.2.2.2.2.2.2.1 pw pt z.2.2.2.2.2.2.2.2.2.2.2.2.1 z.2.2.2.2.2.2.2.2.2.2.2.2.2.1 z.2.2.2.2.2.2.2.2.2.2.2.2.2.2.1 z.2.2.2.2.2.2.2.2.2.2.2.2.2.2.2.1 z.2.2.2.2.2.2.2.2.2.2.2.2.2.2.2.2.1 z.2.2.2.2.2.2.2.2.2.2.2.2.2.2.2.2.2) (rp_xk dA) t) A) ([.ref h0, .int k] : List Value).toArray s 0 0 A) (F0 m 0 ls []) := by
    intro   H locs hP hD hS ls hl
    refine lv_iload_n hx hb dX0_hasRank_0 rfl (lv_at hl 1 rfl) ?_
    refine lv_if_lt (tgt := 10) hx hb dX0_hasRank_1 (by decide) (fun c_1 => ?_) (fun c_1 => ?_)
    · have hn := rp_at_neg (S := S) c_1
      refine lv_iconst (v := rp_B false) hx hb dX0_hasRank_10 (by decide) ?_
      exact W.zret (v := rp_B false) hx hb hr (by first | rfl | (cases false <;> rfl)) (fun t9 ht9 hW9 => ⟨⟨rp_B false, (st, en, fo, pl, pa, wa, fx, wo, ch, fw, wt, fp, u, v, ho, be, sl, se), rfl, ⟨by unfold rp_hr; rw [hn]; rfl, hJ, fun h => by unfold rp_hr at h; rw [hn] at h; cases h⟩, by rw [ht9]; exact hP, va_K.moved hW9.alike hK, hD⟩, hS.F ht9⟩) hS.2.2 dX0_hasRank_11
    · refine lv_iload_n hx hb dX0_hasRank_4 rfl (lv_at hl 1 rfl) ?_
      refine lv_bipush (v := nI 119) hx hb dX0_hasRank_5 (by decide) ?_
      refine lv_icmp_le (tgt := 12) hx hb dX0_hasRank_7 (by decide) (fun c_7 => ?_) (fun c_7 => ?_)
      · obtain ⟨j, hj, rfl⟩ := rp_k_of c_1 c_7
        refine lv_aload_n hx hb dX0_hasRank_12 rfl (lv_at hl 0 rfl) ?_
        refine lv_iload_n hx hb dX0_hasRank_13 rfl (lv_at hl 1 rfl) ?_
        refine lv_iconst (v := nI 1) hx hb dX0_hasRank_14 (by decide) ?_
        refine rp_iadd hx hb dX0_hasRank_15 ?_
        have hFc := va_free (wc := rp_xw h0 ad dA pr ba st en fo pl pa wa fx wo ch fw wt fp pw pt u v ho be sl se) hD hS hA [0, 1, 2, 3, 4, 5, 6, 7, 8, 9, 10, 11, 12, 13] rfl
        refine va_callv (va_runV (As := [.int (nI (j + 1))]) (rest := []) ⟨hx, hb, hml, hown, hts⟩ (metX0_findUpTo l dC dI h0 ad dA H.size pr ba st en fo pl pa wa fx wo ch fw wt fp pw pt u v ho be sl se S (j + 1) hpr hR hSl hpw5 hpt hJ (by omega)) (cwV 1 hts (lw_V q107 q109 qs0 q12 q110) rfl rfl rfl (by decide +kernel) ⟨Nat.le_of_ble_eq_true rfl, Nat.le_of_ble_eq_true rfl⟩) ⟨fun a U g mk q => by obtain ⟨q0, q1, qP, qK, qD⟩ := q; exact ⟨q0, q1, qP, va_K.moved (u := U) (U := U.calling g mk a) (Vm.Alike.refl U.vm) qK, qD⟩, va_recv hK hP (ci := 0) (q0 := 0) rfl rfl, fun U hU hW => ⟨rfl, by rw [hU], by rw [hU]; exact hP, va_K.moved hW.alike hK, hD.weaken (fun _ _ _ _ => trivial)⟩⟩ rfl rfl hl.1 rfl (lv_room (Nat.le_of_ble_eq_true rfl)) dX0_hasRank_16 ⟨Nat.le_of_ble_eq_true rfl, Nat.le_of_ble_eq_true rfl⟩) hS (fun q _ h => hFc q h) hFc (fun u_ t H1 locs ht hvm hw hB hz1 hk1 hS => ?_)
        obtain ⟨hP1, hK1, hD1⟩ := hB
        rw [ht] at hP1
        have hD := hD1.weaken (fun k q _ h => hFc q.1 h)
        have hP := hP1
        obtain ⟨en2, fo2, pl2, pa2, wa2, fx2, wo2, ch2, fw2, wt2, fp2, u2, v2, ho2, be2, sl2, se2⟩ := u_
        have hw : rp_XJ pr ba S true en2 fo2 pl2 pa2 wa2 fx2 wo2 ch2 ∧ (j + 1 ≤ fo2 ∨ fo2 = S.length) := hw
        have hI := (hw.1 rfl).1
        have hfl := rp_XI_le hI
        clear hFc hK1 hz1 hk1 hD1 hP1 ht hvm
        generalize H1 = H at hP hS ⊢
        have hP : va_P (dC, dI) rp_cl (rp_xw h0 ad dA pr ba true en2 fo2 pl2 pa2 wa2 fx2 wo2 ch2 fw2 wt2 fp2 pw pt u2 v2 ho2 be2 sl2 se2) H := hP
        have hD : va_D A (rp_xw h0 ad dA pr ba true en2 fo2 pl2 pa2 wa2 fx2 wo2 ch2 fw2 wt2 fp2 pw pt u2 v2 ho2 be2 sl2 se2) := hD
        refine lv_iload_n hx hb dX0_hasRank_19 rfl (lv_at hl 1 rfl) ?_
        refine lv_aload_n hx hb dX0_hasRank_20 rfl (lv_at hl 0 rfl) ?_
        refine va_get (D := (dC, dI)) (ci := 0) (v := .int (nI fo2)) (C := RX0) (T := TX0) (N := 22) hx hb hts in_X0 hown hK hP 0 rfl rfl 4 (by decide) (hts _ q26) (fun _ h9 => h9) rfl dX0_hasRank_21 ?_
        refine rp_icge (tgt := 31) hx hb (by omega) (by omega) dX0_hasRank_24 (by decide) (fun c_24 => ?_) (fun c_24 => ?_)
        · have hn : rp_at S (nI j) = none := by rw [rp_at_nI (by omega)]; exact List.getElem?_eq_none (by omega)
          refine lv_iconst (v := rp_B false) hx hb dX0_hasRank_31 (by decide) ?_
          exact W.zret (v := rp_B false) hx hb hr (by first | rfl | (cases false <;> rfl)) (fun t9 ht9 hW9 => ⟨⟨rp_B false, (true, en2, fo2, pl2, pa2, wa2, fx2, wo2, ch2, fw2, wt2, fp2, u2, v2, ho2, be2, sl2, se2), rfl, ⟨by unfold rp_hr; rw [hn]; rfl, hw.1, fun h => by unfold rp_hr at h; rw [hn] at h; cases h⟩, by rw [ht9]; exact hP, va_K.moved hW9.alike hK, hD⟩, hS.F ht9⟩) hS.2.2 dX0_hasRank_32
        · have hn : rp_at S (nI j) = some (pl2 j) := by rw [rp_at_nI (by omega)]; exact hI.1 j c_24
          refine lv_iconst (v := rp_B true) hx hb dX0_hasRank_27 (by decide) ?_
          refine lv_goto (tgt := 32) hx hb dX0_hasRank_28 (by decide) ?_
          exact W.zret (v := rp_B true) hx hb hr (by first | rfl | (cases true <;> rfl)) (fun t9 ht9 hW9 => ⟨⟨rp_B true, (true, en2, fo2, pl2, pa2, wa2, fx2, wo2, ch2, fw2, wt2, fp2, u2, v2, ho2, be2, sl2, se2), rfl, ⟨by unfold rp_hr; rw [hn]; rfl, hw.1, fun _ => ⟨j, hj, rfl, hI.1 j c_24⟩⟩, by rw [ht9]; exact hP, va_K.moved hW9.alike hK, hD⟩, hS.F ht9⟩) hS.2.2 dX0_hasRank_32
      · have hn := rp_at_big (k := k) hSl (by rw [Int32.le_iff_toInt_le] at c_7; rw [Int32.lt_iff_toInt_lt]; omega)
        refine lv_iconst (v := rp_B false) hx hb dX0_hasRank_10 (by decide) ?_
        exact W.zret (v := rp_B false) hx hb hr (by first | rfl | (cases false <;> rfl)) (fun t9 ht9 hW9 => ⟨⟨rp_B false, (st, en, fo, pl, pa, wa, fx, wo, ch, fw, wt, fp, u, v, ho, be, sl, se), rfl, ⟨by unfold rp_hr; rw [hn]; rfl, hJ, fun h => by unfold rp_hr at h; rw [hn] at h; cases h⟩, by rw [ht9]; exact hP, va_K.moved hW9.alike hK, hD⟩, hS.F ht9⟩) hS.2.2 dX0_hasRank_11
  exact L0 _ _ hP hD hS ls hl
end
section
/-! the answers, pure: what the public walks need -/
set_option maxRecDepth 100000
theorem rp_hr_f {S : List Nat} {k : Int32} (h : rp_hr S k = false) : rp_at S k = none := by
  unfold rp_hr at h
  cases e : rp_at S k with
  | none => rfl
  | some x => rw [e] at h; cases h
theorem rp_cost_some {S : List Nat} {k : Int32} {x : Nat} (h : rp_at S k = some x) : rp_a_cost S k = nI (x / 3125) := by simp only [rp_a_cost, h]
theorem rp_cost_none {S : List Nat} {k : Int32} (h : rp_at S k = none) : rp_a_cost S k = -1 := by simp only [rp_a_cost, h]
theorem rp_plan_some {S : List Nat} {k : Int32} {x : Nat} (h : rp_at S k = some x) : rp_a_plan S k = nI (x % 3125) := by simp only [rp_a_plan, h]
theorem rp_plan_none {S : List Nat} {k : Int32} (h : rp_at S k = none) : rp_a_plan S k = -1 := by simp only [rp_a_plan, h]
theorem rp_task_none {S : List Nat} {k w : Int32} (h : rp_at S k = none) : rp_a_task S k w = -1 := by
  unfold rp_a_task
  split
  · simp only [h]
  · rfl
theorem rp_nat {j : Nat} (h : j < 2 ^ 31) : (nI j).toInt.toNat = j := by rw [nI_toInt h, Int.toNat_natCast]
theorem rp_task_some {S : List Nat} {k : Int32} {x j : Nat} (hj : j < 5) (h : rp_at S k = some x) : rp_a_task S k (nI j) = nI (rp_dg (x % 3125) j) := by
  unfold rp_a_task
  rw [if_pos (rp_ir_nI j hj), rp_nat (by omega)]
  simp only [h]
theorem rp_vp_1 {w t p : Int32} (h : rp_ir w = false) : rp_vp w t p = false := by unfold rp_vp; rw [h]; rfl
theorem rp_vp_2 {w t p : Int32} (h : rp_ir t = false) : rp_vp w t p = false := by unfold rp_vp; rw [h, Bool.and_false]; rfl
theorem rp_vp_3 {w t p : Int32} (h : p < 0) : rp_vp w t p = false := by
  rw [Int32.lt_iff_toInt_lt, Int32.toInt_zero] at h
  unfold rp_vp
  rw [decide_eq_false (by omega), Bool.and_false]
theorem rp_vp_4 {w t p : Int32} (h : ¬ p ≤ nI 99) : rp_vp w t p = false := by
  rw [Int32.le_iff_toInt_le, show (nI 99).toInt = 99 by decide] at h
  unfold rp_vp
  rw [decide_eq_false (by omega), Bool.and_false]
theorem rp_vp_nI {w t p : Nat} (hw : w < 5) (ht : t < 5) (hp : p < 100) : rp_vp (nI w) (nI t) (nI p) = true := by
  unfold rp_vp
  rw [rp_ir_nI w hw, rp_ir_nI t ht, nI_toInt (by omega), decide_eq_true (by omega)]
  rfl
theorem rp_p_of {k : Int32} (h1 : ¬ k < 0) (h2 : k ≤ nI 99) : ∃ j, j < 100 ∧ k = nI j := by
  obtain ⟨j, hj, e⟩ := nI_of2 (M := nI 99) (n := 99) (by decide) h1 h2
  exact ⟨j, by omega, e⟩
theorem rp_ix_nI {w t : Nat} (hw : w < 5) (ht : t < 5) : rp_ix (nI w) (nI t) = 5 * w + t := by
  unfold rp_ix
  rw [rp_nat (by omega), rp_nat (by omega)]
theorem rp_al_pin {ba : Nat → Bool} {w t n : Nat} (hw : w < 5) : rp_al ba 0 0 0 w t n ↔ (∀ x, x < 5 → ba (5 * x + rp_dg n x) = false) ∧ rp_dg n w = t := by
  unfold rp_al
  constructor
  · intro h
    refine ⟨fun x hx => ?_, ?_⟩
    · have := h x hx
      unfold rp_op at this
      simp only [Bool.and_eq_true, Bool.not_eq_true'] at this
      exact this.1.1
    · have := h w hw
      unfold rp_op at this
      rw [if_pos (rfl : w = w)] at this
      simp only [Bool.and_eq_true, decide_eq_true_eq] at this
      exact this.2
  · rintro ⟨h1, h2⟩ x hx
    unfold rp_op
    rw [h1 x hx, if_neg (Nat.not_lt_zero x)]
    have e0 : (if x = 0 then decide (0 / 2 ^ rp_dg n x % 2 = 0) else true) = true := by
      split
      · simp
      · rfl
    rw [e0]
    by_cases q : x = w
    · rw [if_pos q, q, decide_eq_true h2]; rfl
    · rw [if_neg q]; rfl
theorem rp_with_def {S : List Nat} {w t : Nat} (hw : w < 5) (ht : t < 5) : rp_a_with S (nI w) (nI t) = (match S.find? (fun x => decide (rp_dg (x % 3125) w = t)) with
  | some x => nI (x / 3125)
  | none => -1) := by
  unfold rp_a_with
  rw [if_pos ⟨rp_ir_nI w hw, rp_ir_nI t ht⟩, rp_nat (by omega), rp_nat (by omega)]
  first | rfl | (cases S.find? (fun x => decide (rp_dg (x % 3125) w = t)) <;> rfl)
theorem rp_with_yes {pr : Nat → Nat} {ba : Nat → Bool} {S : List Nat} {w t mn : Nat} (hpr : ∀ j, j < 25 → pr j < 100) (hR : rp_RL pr ba S) (hw : w < 5) (ht : t < 5) (h : rp_min (rp_C pr ba 0 0 0 w t) mn) (hm : mn < 1000000000) : rp_a_with S (nI w) (nI t) = nI (mn / 3125) := by
  rcases rp_min_cases hpr h with ⟨-, ⟨n, h1, h2, h3, h4⟩, h5⟩ | ⟨q, -⟩
  · obtain ⟨g1, g2⟩ := (rp_al_pin hw).mp h3
    have hmem : mn ∈ S := (hR.2 mn).mpr ⟨n, h1, rp_ok_iff.mpr ⟨h2, g1⟩, h4⟩
    obtain ⟨r, hr⟩ := List.mem_iff_getElem?.mp hmem
    have hf : S.find? (fun x => decide (rp_dg (x % 3125) w = t)) = some mn := by
      refine rp_find_at (r := r) (fun j y hj hy => ?_) hr ?_
      · have hlt := rp_pw_lt hR.1 hy hr hj
        obtain ⟨m, a, b, c⟩ := (hR.2 y).mp (List.mem_iff_getElem?.mpr ⟨j, hy⟩)
        obtain ⟨b1, b2⟩ := rp_ok_iff.mp b
        refine decide_eq_false (fun e => ?_)
        rw [c, rp_vl_mod a] at e
        have := h5 m a b1 ((rp_al_pin hw).mpr ⟨b2, e⟩)
        omega
      · rw [h4, rp_vl_mod h1]; exact decide_eq_true g2
    rw [rp_with_def hw ht, hf]
  · omega
theorem rp_with_no {pr : Nat → Nat} {ba : Nat → Bool} {S : List Nat} {w t mn : Nat} (hpr : ∀ j, j < 25 → pr j < 100) (hR : rp_RL pr ba S) (hw : w < 5) (ht : t < 5) (h : rp_min (rp_C pr ba 0 0 0 w t) mn) (hm : 1000000000 ≤ mn) : rp_a_with S (nI w) (nI t) = -1 := by
  rcases rp_min_cases hpr h with ⟨q, -⟩ | ⟨-, q⟩
  · omega
  · have hf : S.find? (fun x => decide (rp_dg (x % 3125) w = t)) = none := by
      refine rp_find_no (fun j y hy => decide_eq_false (fun e => ?_))
      obtain ⟨m, a, b, c⟩ := (hR.2 y).mp (List.mem_iff_getElem?.mpr ⟨j, hy⟩)
      obtain ⟨b1, b2⟩ := rp_ok_iff.mp b
      rw [c, rp_vl_mod a] at e
      exact q m a b1 ((rp_al_pin hw).mpr ⟨b2, e⟩)
    rw [rp_with_def hw ht, hf]
end
section
/-! price, bar, plans, cost, plan, task -/
set_option maxRecDepth 100000
set_option maxHeartbeats 4000000 in
/-- price(w, t, p) -/
theorem metX0_price (l : Launch) (dC : Nat → ClassId) (dI : Nat → Nat → Nat) (h0 : Nat) (ad : Nat → Nat) (dA : Nat → ClassId) (sz : Nat) (pr : Nat → Nat) (ba : Nat → Bool) (st : Bool) (en : Bool) (fo : Nat) (pl : Nat → Nat) (pa : Nat) (wa : Nat → Bool) (fx : Nat → Nat) (wo : Nat → Nat) (ch : Nat → Nat) (fw : Nat) (wt : Nat) (fp : Nat) (pw : Nat) (pt : Nat) (u : Nat → Int) (v : Nat → Int) (ho : Nat → Nat) (be : Nat → Nat) (sl : Nat → Int) (se : Nat → Bool) (w t p0 : Int32) : Met l yX0_price (ws_ yX0_price cX0_price 4 (some .int)) (rp_rm 1 20) (rp_Pc dC dI [.ref h0, .int w, .int t, .int p0] sz (rp_xw h0 ad dA pr ba st en fo pl pa wa fx wo ch fw wt fp pw pt u v ho be sl se) (rp_xk dA)) (va_Qi (fun (r : Int32) (z : Bool) => r = (if rp_vp w t p0 = true then 0 else -1) ∧ (z = false ∨ z = st ∧ rp_vp w t p0 = false)) (fun z t1 => rp_Bc dC dI (va_A (rp_xw h0 ad dA pr ba st en fo pl pa wa fx wo ch fw wt fp pw pt u v ho be sl se) sz) (rp_xw h0 ad dA (rp_npr pr w t p0) (rp_nba ba w t p0) z en fo pl pa wa fx wo ch fw wt fp pw pt u v ho be sl se) (rp_xk dA) t1) (va_A (rp_xw h0 ad dA pr ba st en fo pl pa wa fx wo ch fw wt fp pw pt u v ho be sl se) sz)) 0 0 (va_A (rp_xw h0 ad dA pr ba st en fo pl pa wa fx wo ch fw wt fp pw pt u v ho be sl se) sz) := by
  refine Met.ofW (cc := cX0_price) (maxL := 4) (ret := (some .int)) (by decide) rfl ?_
  intro p e s m args below meth c s₁ B hml hv
  obtain ⟨rfl, hsz, hP, hK, hD0⟩ := hv
  have hx := B.exec
  have hb := B.bytes
  have hr := B.returns
  have hts := atoms_spec (ws := (ws_ yX0_price cX0_price 4 (some .int))) B.pre
  have hts : ∀ w ∈ lw_all, w.before _ s = true := fun w h => hts w (List.mem_cons_of_mem _ h)
  have hown : s.vm.findClass RX0 = some m.cls := findClass_of_methodNamed B.named
  have hlocks := B.notSynchronized
  subst hsz
  have hD := hD0.self (sz := s.heap.size)
  generalize hAe : va_A (rp_xw h0 ad dA pr ba st en fo pl pa wa fx wo ch fw wt fp pw pt u v ho be sl se) s.heap.size = A at hD ⊢
  have hA : ∀ q : Nat, s.heap.size ≤ q → A q := fun q h => by rw [← hAe]; exact Or.inr h
  have hS : va_S A s.heap s.heap [] := va_S.rf
  have hP : va_P (dC, dI) rp_cl (rp_xw h0 ad dA pr ba st en fo pl pa wa fx wo ch fw wt fp pw pt u v ho be sl se) s.heap := hP
  have hl := lv_entry ([.ref h0, .int w, .int t, .int p0]) (n := 4) (Nat.le_of_ble_eq_true rfl)
  rw [lg_entry_eq]
  generalize (lg_sl ([.ref h0, .int w, .int t, .int p0]) ++ List.replicate (4 - (lg_sl ([.ref h0, .int w, .int t, .int p0])).length) Slot.unset).toArray = ls at hl ⊢
  have hl : lv_has ls 4 [(0, .ref h0), (1, .int w), (2, .int t), (3, .int p0)] := hl
  have L0 : ∀ (H : Heap) (locs : List Loc), va_P (dC, dI) rp_cl (rp_xw h0 ad dA pr ba st en fo pl pa wa fx wo ch fw wt fp pw pt u v ho be sl se) H → va_D A (rp_xw h0 ad dA pr ba st en fo pl pa wa fx wo ch fw wt fp pw pt u v ho be sl se) → va_S A s.heap H locs → ∀ (ls : Array Slot), lv_has ls 4 [(0, .ref h0), (1, .int w), (2, .int t), (3, .int p0)] → W p l e (headSpec (ws_ yX0_price cX0_price 4 (some .int)) (rp_rm 1 20)).room s m ([.ref h0, .int w, .int t, .int p0] : List Value).toArray below meth c H locs 0 0 (MQ below (va_Qi (fun (r : Int32) (z : Bool) => r = (if rp_vp w t p0 = true then 0 else -1) ∧ (z = false ∨ z = st ∧ rp_vp w t p0 = false)) (fun z t1 => rp_Bc dC dI A (rp_xw h0 ad dA (rp_npr pr w t p0) (rp_nba ba w t p0) z en fo pl pa wa fx wo ch fw wt fp pw pt u v ho be sl se) (rp_xk dA) t1) A) ([.ref h0, .int w, .int t, .int p0] : List Value).toArray s 0 0 A) (F0 m 0 ls []) := by
    intro   H locs hP hD hS ls hl
    refine lv_iload_n hx hb dX0_price_0 rfl (lv_at hl 1 rfl) ?_
    refine vp_callSi (W.runS (As := [.int w]) (rest := []) ⟨hx, hb, hml, hown, hts⟩ (metX0_inRange l w) (va_cwS 1 hts (lw_S q96 q97 q12 q98) rfl rfl rfl (by decide +kernel) ⟨Nat.le_of_ble_eq_true rfl, Nat.le_of_ble_eq_true rfl⟩) ⟨fun a U g mk q => q, fun U hU hW => ⟨rfl, trivial⟩⟩ rfl rfl hl.1 rfl (lv_room (Nat.le_of_ble_eq_true rfl)) dX0_price_1 ⟨Nat.le_of_ble_eq_true rfl, Nat.le_of_ble_eq_true rfl⟩) (fun r hr9 => ?_)
    subst hr9
    refine rp_beq (tgt := 24) hx hb dX0_price_4 (by decide) (fun c_4 => ?_) (fun c_4 => ?_)
    · have hv : rp_vp w t p0 = false := rp_vp_1 c_4
      refine lv_iconst (v := (-1)) hx hb dX0_price_24 (by decide) ?_
      have e1 : rp_npr pr w t p0 = pr := by unfold rp_npr; rw [hv]; rfl
      have e2 : rp_nba ba w t p0 = ba := by unfold rp_nba; rw [hv]; rfl
      have hP : va_P (dC, dI) rp_cl (rp_xw h0 ad dA (rp_npr pr w t p0) (rp_nba ba w t p0) st en fo pl pa wa fx wo ch fw wt fp pw pt u v ho be sl se) H := by rw [e1, e2]; exact hP
      have hD : va_D A (rp_xw h0 ad dA (rp_npr pr w t p0) (rp_nba ba w t p0) st en fo pl pa wa fx wo ch fw wt fp pw pt u v ho be sl se) := by rw [e1, e2]; exact hD
      exact W.iret (v := (-1)) hx hb hr (fun t9 ht9 hW9 => ⟨⟨(-1), st, rfl, ⟨by rw [hv]; rfl, Or.inr ⟨rfl, hv⟩⟩, by rw [ht9]; exact hP, va_K.moved hW9.alike hK, hD⟩, hS.F ht9⟩) hS.2.2 dX0_price_25
    · refine lv_iload_n hx hb dX0_price_7 rfl (lv_at hl 2 rfl) ?_
      refine vp_callSi (W.runS (As := [.int t]) (rest := []) ⟨hx, hb, hml, hown, hts⟩ (metX0_inRange l t) (va_cwS 1 hts (lw_S q96 q97 q12 q98) rfl rfl rfl (by decide +kernel) ⟨Nat.le_of_ble_eq_true rfl, Nat.le_of_ble_eq_true rfl⟩) ⟨fun a U g mk q => q, fun U hU hW => ⟨rfl, trivial⟩⟩ rfl rfl hl.1 rfl (lv_room (Nat.le_of_ble_eq_true rfl)) dX0_price_8 ⟨Nat.le_of_ble_eq_true rfl, Nat.le_of_ble_eq_true rfl⟩) (fun r hr9 => ?_)
      subst hr9
      refine rp_beq (tgt := 24) hx hb dX0_price_11 (by decide) (fun c_11 => ?_) (fun c_11 => ?_)
      · have hv : rp_vp w t p0 = false := rp_vp_2 c_11
        refine lv_iconst (v := (-1)) hx hb dX0_price_24 (by decide) ?_
        have e1 : rp_npr pr w t p0 = pr := by unfold rp_npr; rw [hv]; rfl
        have e2 : rp_nba ba w t p0 = ba := by unfold rp_nba; rw [hv]; rfl
        have hP : va_P (dC, dI) rp_cl (rp_xw h0 ad dA (rp_npr pr w t p0) (rp_nba ba w t p0) st en fo pl pa wa fx wo ch fw wt fp pw pt u v ho be sl se) H := by rw [e1, e2]; exact hP
        have hD : va_D A (rp_xw h0 ad dA (rp_npr pr w t p0) (rp_nba ba w t p0) st en fo pl pa wa fx wo ch fw wt fp pw pt u v ho be sl se) := by rw [e1, e2]; exact hD
        exact W.iret (v := (-1)) hx hb hr (fun t9 ht9 hW9 => ⟨⟨(-1), st, rfl, ⟨by rw [hv]; rfl, Or.inr ⟨rfl, hv⟩⟩, by rw [ht9]; exact hP, va_K.moved hW9.alike hK, hD⟩, hS.F ht9⟩) hS.2.2 dX0_price_25
      · refine lv_iload_n hx hb dX0_price_14 rfl (lv_at hl 3 rfl) ?_
        refine lv_if_lt (tgt := 24) hx hb dX0_price_15 (by decide) (fun c_15 => ?_) (fun c_15 => ?_)
        · have hv : rp_vp w t p0 = false := rp_vp_3 c_15
          refine lv_iconst (v := (-1)) hx hb dX0_price_24 (by decide) ?_
          have e1 : rp_npr pr w t p0 = pr := by unfold rp_npr; rw [hv]; rfl
          have e2 : rp_nba ba w t p0 = ba := by unfold rp_nba; rw [hv]; rfl
          have hP : va_P (dC, dI) rp_cl (rp_xw h0 ad dA (rp_npr pr w t p0) (rp_nba ba w t p0) st en fo pl pa wa fx wo ch fw wt fp pw pt u v ho be sl se) H := by rw [e1, e2]; exact hP
          have hD : va_D A (rp_xw h0 ad dA (rp_npr pr w t p0) (rp_nba ba w t p0) st en fo pl pa wa fx wo ch fw wt fp pw pt u v ho be sl se) := by rw [e1, e2]; exact hD
          exact W.iret (v := (-1)) hx hb hr (fun t9 ht9 hW9 => ⟨⟨(-1), st, rfl, ⟨by rw [hv]; rfl, Or.inr ⟨rfl, hv⟩⟩, by rw [ht9]; exact hP, va_K.moved hW9.alike hK, hD⟩, hS.F ht9⟩) hS.2.2 dX0_price_25
        · refine lv_iload_n hx hb dX0_price_18 rfl (lv_at hl 3 rfl) ?_
          refine lv_bipush (v := nI 99) hx hb dX0_price_19 (by decide) ?_
          refine lv_icmp_le (tgt := 26) hx hb dX0_price_21 (by decide) (fun c_21 => ?_) (fun c_21 => ?_)
          · obtain ⟨jp, hjp, rfl⟩ := rp_p_of c_15 c_21
            obtain ⟨jw, hjw, rfl⟩ := rp_ir_of c_4
            obtain ⟨jt, hjt, rfl⟩ := rp_ir_of c_11
            refine lv_aload_n hx hb dX0_price_26 rfl (lv_at hl 0 rfl) ?_
            refine va_get (D := (dC, dI)) (ci := 0) (v := .ref (ad 0)) (C := RX0) (T := TX0) (N := 22) hx hb hts in_X0 hown hK hP 0 rfl rfl 0 (by decide) (hts _ q22) (fun _ h9 => h9) rfl dX0_price_27 ?_
            refine lv_iconst (v := nI 5) hx hb dX0_price_30 (by decide) ?_
            refine lv_iload_n hx hb dX0_price_31 rfl (lv_at hl 1 rfl) ?_
            refine rp_imul hx hb dX0_price_32 ?_
            refine lv_iload_n hx hb dX0_price_33 rfl (lv_at hl 2 rfl) ?_
            refine rp_iadd hx hb dX0_price_34 ?_
            refine lv_iload_n hx hb dX0_price_35 rfl (lv_at hl 3 rfl) ?_
            refine rp_iast nI pr jp hx hb hK hP hD hS 1 0 rfl rfl (i := (5 * jw) + jt) (by omega) (by decide) dX0_price_36 (fun H locs hP hD hS => ?_)
            have hP : va_P (dC, dI) rp_cl (rp_xw h0 ad dA (va_up pr ((5 * jw) + jt) jp) ba st en fo pl pa wa fx wo ch fw wt fp pw pt u v ho be sl se) H := hP
            have hD : va_D A (rp_xw h0 ad dA (va_up pr ((5 * jw) + jt) jp) ba st en fo pl pa wa fx wo ch fw wt fp pw pt u v ho be sl se) := hD
            refine lv_aload_n hx hb dX0_price_37 rfl (lv_at hl 0 rfl) ?_
            refine va_get (D := (dC, dI)) (ci := 0) (v := .ref (ad 1)) (C := RX0) (T := TX0) (N := 22) hx hb hts in_X0 hown hK hP 0 rfl rfl 1 (by decide) (hts _ q23) (fun _ h9 => h9) rfl dX0_price_38 ?_
            refine lv_iconst (v := nI 5) hx hb dX0_price_41 (by decide) ?_
            refine lv_iload_n hx hb dX0_price_42 rfl (lv_at hl 1 rfl) ?_
            refine rp_imul hx hb dX0_price_43 ?_
            refine lv_iload_n hx hb dX0_price_44 rfl (lv_at hl 2 rfl) ?_
            refine rp_iadd hx hb dX0_price_45 ?_
            refine lv_iconst (v := rp_B false) hx hb dX0_price_46 (by decide) ?_
            refine rp_zast ba false hx hb hK hP hD hS 2 1 rfl rfl (i := (5 * jw) + jt) (by omega) (by decide) dX0_price_47 (fun H locs hP hD hS => ?_)
            have hP : va_P (dC, dI) rp_cl (rp_xw h0 ad dA (va_up pr ((5 * jw) + jt) jp) (va_up ba ((5 * jw) + jt) false) st en fo pl pa wa fx wo ch fw wt fp pw pt u v ho be sl se) H := hP
            have hD : va_D A (rp_xw h0 ad dA (va_up pr ((5 * jw) + jt) jp) (va_up ba ((5 * jw) + jt) false) st en fo pl pa wa fx wo ch fw wt fp pw pt u v ho be sl se) := hD
            refine lv_aload_n hx hb dX0_price_48 rfl (lv_at hl 0 rfl) ?_
            refine lv_iconst (v := rp_B false) hx hb dX0_price_49 (by decide) ?_
            refine va_put (D := (dC, dI)) (ci := 0) (v := .int (rp_B false)) (ty := .boolean) (C := RX0) (T := TX0) (N := 22) hx hb hts in_X0 tyX0 tyX0_ok nmX0 hown hK hP hD hS 0 rfl rfl 2 (by decide) (hts _ q24) (fun _ h9 => h9) rfl (by decide +kernel) (by first | rfl | (cases false <;> rfl)) (by first | rfl | (cases false <;> rfl)) (Nat.le_of_ble_eq_true rfl) dX0_price_50 (fun H locs hP hD hS => ?_)
            have hP : va_P (dC, dI) rp_cl (rp_xw h0 ad dA (va_up pr ((5 * jw) + jt) jp) (va_up ba ((5 * jw) + jt) false) false en fo pl pa wa fx wo ch fw wt fp pw pt u v ho be sl se) H := hP
            have hD : va_D A (rp_xw h0 ad dA (va_up pr ((5 * jw) + jt) jp) (va_up ba ((5 * jw) + jt) false) false en fo pl pa wa fx wo ch fw wt fp pw pt u v ho be sl se) := hD
            refine lv_iconst (v := nI 0) hx hb dX0_price_53 (by decide) ?_
            have hv : rp_vp (nI jw) (nI jt) (nI jp) = true := rp_vp_nI hjw hjt hjp
            have e1 : rp_npr pr (nI jw) (nI jt) (nI jp) = va_up pr (5 * jw + jt) jp := by unfold rp_npr; rw [if_pos hv, rp_ix_nI hjw hjt, nI_toInt (by omega)]; rfl
            have e2 : rp_nba ba (nI jw) (nI jt) (nI jp) = va_up ba (5 * jw + jt) false := by unfold rp_nba; rw [if_pos hv, rp_ix_nI hjw hjt]
            have hP : va_P (dC, dI) rp_cl (rp_xw h0 ad dA (rp_npr pr (nI jw) (nI jt) (nI jp)) (rp_nba ba (nI jw) (nI jt) (nI jp)) false en fo pl pa wa fx wo ch fw wt fp pw pt u v ho be sl se) H := by rw [e1, e2]; exact hP
            have hD : va_D A (rp_xw h0 ad dA (rp_npr pr (nI jw) (nI jt) (nI jp)) (rp_nba ba (nI jw) (nI jt) (nI jp)) false en fo pl pa wa fx wo ch fw wt fp pw pt u v ho be sl se) := by rw [e1, e2]; exact hD
            exact W.iret (v := nI 0) hx hb hr (fun t9 ht9 hW9 => ⟨⟨nI 0, false, rfl, ⟨by rw [hv, if_pos rfl]; exact nI_0, Or.inl rfl⟩, by rw [ht9]; exact hP, va_K.moved hW9.alike hK, hD⟩, hS.F ht9⟩) hS.2.2 dX0_price_54
          · have hv : rp_vp w t p0 = false := rp_vp_4 c_21
            refine lv_iconst (v := (-1)) hx hb dX0_price_24 (by decide) ?_
            have e1 : rp_npr pr w t p0 = pr := by unfold rp_npr; rw [hv]; rfl
            have e2 : rp_nba ba w t p0 = ba := by unfold rp_nba; rw [hv]; rfl
            have hP : va_P (dC, dI) rp_cl (rp_xw h0 ad dA (rp_npr pr w t p0) (rp_nba ba w t p0) st en fo pl pa wa fx wo ch fw wt fp pw pt u v ho be sl se) H := by rw [e1, e2]; exact hP
            have hD : va_D A (rp_xw h0 ad dA (rp_npr pr w t p0) (rp_nba ba w t p0) st en fo pl pa wa fx wo ch fw wt fp pw pt u v ho be sl se) := by rw [e1, e2]; exact hD
            exact W.iret (v := (-1)) hx hb hr (fun t9 ht9 hW9 => ⟨⟨(-1), st, rfl, ⟨by rw [hv]; rfl, Or.inr ⟨rfl, hv⟩⟩, by rw [ht9]; exact hP, va_K.moved hW9.alike hK, hD⟩, hS.F ht9⟩) hS.2.2 dX0_price_25
  exact L0 _ _ hP hD hS ls hl
set_option maxHeartbeats 4000000 in
/-- bar(w, t) -/
theorem metX0_bar (l : Launch) (dC : Nat → ClassId) (dI : Nat → Nat → Nat) (h0 : Nat) (ad : Nat → Nat) (dA : Nat → ClassId) (sz : Nat) (pr : Nat → Nat) (ba : Nat → Bool) (st : Bool) (en : Bool) (fo : Nat) (pl : Nat → Nat) (pa : Nat) (wa : Nat → Bool) (fx : Nat → Nat) (wo : Nat → Nat) (ch : Nat → Nat) (fw : Nat) (wt : Nat) (fp : Nat) (pw : Nat) (pt : Nat) (u : Nat → Int) (v : Nat → Int) (ho : Nat → Nat) (be : Nat → Nat) (sl : Nat → Int) (se : Nat → Bool) (w t : Int32) : Met l yX0_bar (ws_ yX0_bar cX0_bar 3 (some .int)) (rp_rm 1 20) (rp_Pc dC dI [.ref h0, .int w, .int t] sz (rp_xw h0 ad dA pr ba st en fo pl pa wa fx wo ch fw wt fp pw pt u v ho be sl se) (rp_xk dA)) (va_Qi (fun (r : Int32) (z : Bool) => r = (if (rp_ir w && rp_ir t) = true then 0 else -1) ∧ (z = false ∨ z = st ∧ (rp_ir w && rp_ir t) = false)) (fun z t1 => rp_Bc dC dI (va_A (rp_xw h0 ad dA pr ba st en fo pl pa wa fx wo ch fw wt fp pw pt u v ho be sl se) sz) (rp_xw h0 ad dA pr (rp_nbb ba w t) z en fo pl pa wa fx wo ch fw wt fp pw pt u v ho be sl se) (rp_xk dA) t1) (va_A (rp_xw h0 ad dA pr ba st en fo pl pa wa fx wo ch fw wt fp pw pt u v ho be sl se) sz)) 0 0 (va_A (rp_xw h0 ad dA pr ba st en fo pl pa wa fx wo ch fw wt fp pw pt u v ho be sl se) sz) := by
  refine Met.ofW (cc := cX0_bar) (maxL := 3) (ret := (some .int)) (by decide) rfl ?_
  intro p e s m args below meth c s₁ B hml hv
  obtain ⟨rfl, hsz, hP, hK, hD0⟩ := hv
  have hx := B.exec
  have hb := B.bytes
  have hr := B.returns
  have hts := atoms_spec (ws := (ws_ yX0_bar cX0_bar 3 (some .int))) B.pre
  have hts : ∀ w ∈ lw_all, w.before _ s = true := fun w h => hts w (List.mem_cons_of_mem _ h)
  have hown : s.vm.findClass RX0 = some m.cls := findClass_of_methodNamed B.named
  have hlocks := B.notSynchronized
  subst hsz
  have hD := hD0.self (sz := s.heap.size)
  generalize hAe : va_A (rp_xw h0 ad dA pr ba st en fo pl pa wa fx wo ch fw wt fp pw pt u v ho be sl se) s.heap.size = A at hD ⊢
  have hA : ∀ q : Nat, s.heap.size ≤ q → A q := fun q h => by rw [← hAe]; exact Or.inr h
  have hS : va_S A s.heap s.heap [] := va_S.rf
  have hP : va_P (dC, dI) rp_cl (rp_xw h0 ad dA pr ba st en fo pl pa wa fx wo ch fw wt fp pw pt u v ho be sl se) s.heap := hP
  have hl := lv_entry ([.ref h0, .int w, .int t]) (n := 3) (Nat.le_of_ble_eq_true rfl)
  rw [lg_entry_eq]
  generalize (lg_sl ([.ref h0, .int w, .int t]) ++ List.replicate (3 - (lg_sl ([.ref h0, .int w, .int t])).length) Slot.unset).toArray = ls at hl ⊢
  have hl : lv_has ls 3 [(0, .ref h0), (1, .int w), (2, .int t)] := hl
  have L0 : ∀ (H : Heap) (locs : List Loc), va_P (dC, dI) rp_cl (rp_xw h0 ad dA pr ba st en fo pl pa wa fx wo ch fw wt fp pw pt u v ho be sl se) H → va_D A (rp_xw h0 ad dA pr ba st en fo pl pa wa fx wo ch fw wt fp pw pt u v ho be sl se) → va_S A s.heap H locs → ∀ (ls : Array Slot), lv_has ls 3 [(0, .ref h0), (1, .int w), (2, .int t)] → W p l e (headSpec (ws_ yX0_bar cX0_bar 3 (some .int)) (rp_rm 1 20)).room s m ([.ref h0, .int w, .int t] : List Value).toArray below meth c H locs 0 0 (MQ below (va_Qi (fun (r : Int32) (z : Bool) => r = (if (rp_ir w && rp_ir t) = true then 0 else -1) ∧ (z = false ∨ z = st ∧ (rp_ir w && rp_ir t) = false)) (fun z t1 => rp_Bc dC dI A (rp_xw h0 ad dA pr (rp_nbb ba w t) z en fo pl pa wa fx wo ch fw wt fp pw pt u v ho be sl se) (rp_xk dA) t1) A) ([.ref h0, .int w, .int t] : List Value).toArray s 0 0 A) (F0 m 0 ls []) := by
    intro   H locs hP hD hS ls hl
    refine lv_iload_n hx hb dX0_bar_0 rfl (lv_at hl 1 rfl) ?_
    refine vp_callSi (W.runS (As := [.int w]) (rest := []) ⟨hx, hb, hml, hown, hts⟩ (metX0_inRange l w) (va_cwS 1 hts (lw_S q96 q97 q12 q98) rfl rfl rfl (by decide +kernel) ⟨Nat.le_of_ble_eq_true rfl, Nat.le_of_ble_eq_true rfl⟩) ⟨fun a U g mk q => q, fun U hU hW => ⟨rfl, trivial⟩⟩ rfl rfl hl.1 rfl (lv_room (Nat.le_of_ble_eq_true rfl)) dX0_bar_1 ⟨Nat.le_of_ble_eq_true rfl, Nat.le_of_ble_eq_true rfl⟩) (fun r hr9 => ?_)
    subst hr9
    refine rp_beq (tgt := 14) hx hb dX0_bar_4 (by decide) (fun c_4 => ?_) (fun c_4 => ?_)
    · have hv : (rp_ir w && rp_ir t) = false := by rw [c_4]; rfl
      refine lv_iconst (v := (-1)) hx hb dX0_bar_14 (by decide) ?_
      have e2 : rp_nbb ba w t = ba := by unfold rp_nbb; rw [hv]; rfl
      have hP : va_P (dC, dI) rp_cl (rp_xw h0 ad dA pr (rp_nbb ba w t) st en fo pl pa wa fx wo ch fw wt fp pw pt u v ho be sl se) H := by rw [e2]; exact hP
      have hD : va_D A (rp_xw h0 ad dA pr (rp_nbb ba w t) st en fo pl pa wa fx wo ch fw wt fp pw pt u v ho be sl se) := by rw [e2]; exact hD
      exact W.iret (v := (-1)) hx hb hr (fun t9 ht9 hW9 => ⟨⟨(-1), st, rfl, ⟨by rw [hv]; rfl, Or.inr ⟨rfl, hv⟩⟩, by rw [ht9]; exact hP, va_K.moved hW9.alike hK, hD⟩, hS.F ht9⟩) hS.2.2 dX0_bar_15
    · refine lv_iload_n hx hb dX0_bar_7 rfl (lv_at hl 2 rfl) ?_
      refine vp_callSi (W.runS (As := [.int t]) (rest := []) ⟨hx, hb, hml, hown, hts⟩ (metX0_inRange l t) (va_cwS 1 hts (lw_S q96 q97 q12 q98) rfl rfl rfl (by decide +kernel) ⟨Nat.le_of_ble_eq_true rfl, Nat.le_of_ble_eq_true rfl⟩) ⟨fun a U g mk q => q, fun U hU hW => ⟨rfl, trivial⟩⟩ rfl rfl hl.1 rfl (lv_room (Nat.le_of_ble_eq_true rfl)) dX0_bar_8 ⟨Nat.le_of_ble_eq_true rfl, Nat.le_of_ble_eq_true rfl⟩) (fun r hr9 => ?_)
      subst hr9
      refine rp_bne (tgt := 16) hx hb dX0_bar_11 (by decide) (fun c_11 => ?_) (fun c_11 => ?_)
      · obtain ⟨jw, hjw, rfl⟩ := rp_ir_of c_4
        obtain ⟨jt, hjt, rfl⟩ := rp_ir_of c_11
        refine lv_aload_n hx hb dX0_bar_16 rfl (lv_at hl 0 rfl) ?_
        refine va_get (D := (dC, dI)) (ci := 0) (v := .ref (ad 1)) (C := RX0) (T := TX0) (N := 22) hx hb hts in_X0 hown hK hP 0 rfl rfl 1 (by decide) (hts _ q23) (fun _ h9 => h9) rfl dX0_bar_17 ?_
        refine lv_iconst (v := nI 5) hx hb dX0_bar_20 (by decide) ?_
        refine lv_iload_n hx hb dX0_bar_21 rfl (lv_at hl 1 rfl) ?_
        refine rp_imul hx hb dX0_bar_22 ?_
        refine lv_iload_n hx hb dX0_bar_23 rfl (lv_at hl 2 rfl) ?_
        refine rp_iadd hx hb dX0_bar_24 ?_
        refine lv_iconst (v := rp_B true) hx hb dX0_bar_25 (by decide) ?_
        refine rp_zast ba true hx hb hK hP hD hS 2 1 rfl rfl (i := (5 * jw) + jt) (by omega) (by decide) dX0_bar_26 (fun H locs hP hD hS => ?_)
        have hP : va_P (dC, dI) rp_cl (rp_xw h0 ad dA pr (va_up ba ((5 * jw) + jt) true) st en fo pl pa wa fx wo ch fw wt fp pw pt u v ho be sl se) H := hP
        have hD : va_D A (rp_xw h0 ad dA pr (va_up ba ((5 * jw) + jt) true) st en fo pl pa wa fx wo ch fw wt fp pw pt u v ho be sl se) := hD
        refine lv_aload_n hx hb dX0_bar_27 rfl (lv_at hl 0 rfl) ?_
        refine lv_iconst (v := rp_B false) hx hb dX0_bar_28 (by decide) ?_
        refine va_put (D := (dC, dI)) (ci := 0) (v := .int (rp_B false)) (ty := .boolean) (C := RX0) (T := TX0) (N := 22) hx hb hts in_X0 tyX0 tyX0_ok nmX0 hown hK hP hD hS 0 rfl rfl 2 (by decide) (hts _ q24) (fun _ h9 => h9) rfl (by decide +kernel) (by first | rfl | (cases false <;> rfl)) (by first | rfl | (cases false <;> rfl)) (Nat.le_of_ble_eq_true rfl) dX0_bar_29 (fun H locs hP hD hS => ?_)
        have hP : va_P (dC, dI) rp_cl (rp_xw h0 ad dA pr (va_up ba ((5 * jw) + jt) true) false en fo pl pa wa fx wo ch fw wt fp pw pt u v ho be sl se) H := hP
        have hD : va_D A (rp_xw h0 ad dA pr (va_up ba ((5 * jw) + jt) true) false en fo pl pa wa fx wo ch fw wt fp pw pt u v ho be sl se) := hD
        refine lv_iconst (v := nI 0) hx hb dX0_bar_32 (by decide) ?_
        have hv : (rp_ir (nI jw) && rp_ir (nI jt)) = true := by rw [c_4, c_11]; rfl
        have e2 : rp_nbb ba (nI jw) (nI jt) = va_up ba (5 * jw + jt) true := by unfold rp_nbb; rw [if_pos hv, rp_ix_nI hjw hjt]
        have hP : va_P (dC, dI) rp_cl (rp_xw h0 ad dA pr (rp_nbb ba (nI jw) (nI jt)) false en fo pl pa wa fx wo ch fw wt fp pw pt u v ho be sl se) H := by rw [e2]; exact hP
        have hD : va_D A (rp_xw h0 ad dA pr (rp_nbb ba (nI jw) (nI jt)) false en fo pl pa wa fx wo ch fw wt fp pw pt u v ho be sl se) := by rw [e2]; exact hD
        exact W.iret (v := nI 0) hx hb hr (fun t9 ht9 hW9 => ⟨⟨nI 0, false, rfl, ⟨by rw [hv, if_pos rfl]; exact nI_0, Or.inl rfl⟩, by rw [ht9]; exact hP, va_K.moved hW9.alike hK, hD⟩, hS.F ht9⟩) hS.2.2 dX0_bar_33
      · have hv : (rp_ir w && rp_ir t) = false := by rw [c_11, Bool.and_false]
        refine lv_iconst (v := (-1)) hx hb dX0_bar_14 (by decide) ?_
        have e2 : rp_nbb ba w t = ba := by unfold rp_nbb; rw [hv]; rfl
        have hP : va_P (dC, dI) rp_cl (rp_xw h0 ad dA pr (rp_nbb ba w t) st en fo pl pa wa fx wo ch fw wt fp pw pt u v ho be sl se) H := by rw [e2]; exact hP
        have hD : va_D A (rp_xw h0 ad dA pr (rp_nbb ba w t) st en fo pl pa wa fx wo ch fw wt fp pw pt u v ho be sl se) := by rw [e2]; exact hD
        exact W.iret (v := (-1)) hx hb hr (fun t9 ht9 hW9 => ⟨⟨(-1), st, rfl, ⟨by rw [hv]; rfl, Or.inr ⟨rfl, hv⟩⟩, by rw [ht9]; exact hP, va_K.moved hW9.alike hK, hD⟩, hS.F ht9⟩) hS.2.2 dX0_bar_15
  exact L0 _ _ hP hD hS ls hl
set_option maxHeartbeats 4000000 in
/-- plans() -/
theorem metX0_plans (l : Launch) (dC : Nat → ClassId) (dI : Nat → Nat → Nat) (h0 : Nat) (ad : Nat → Nat) (dA : Nat → ClassId) (sz : Nat) (pr : Nat → Nat) (ba : Nat → Bool) (st : Bool) (en : Bool) (fo : Nat) (pl : Nat → Nat) (pa : Nat) (wa : Nat → Bool) (fx : Nat → Nat) (wo : Nat → Nat) (ch : Nat → Nat) (fw : Nat) (wt : Nat) (fp : Nat) (pw : Nat) (pt : Nat) (u : Nat → Int) (v : Nat → Int) (ho : Nat → Nat) (be : Nat → Nat) (sl : Nat → Int) (se : Nat → Bool) (S : List Nat) (hpr : ∀ j, j < 25 → pr j < 100) (hR : rp_RL pr ba S) (hSl : S.length ≤ 120) (hpw5 : pw = 5) (hpt : pt < 5) (hJ : rp_XJ pr ba S st en fo pl pa wa fx wo ch) : Met l yX0_plans (ws_ yX0_plans cX0_plans 1 (some .int)) (rp_rm 9 213) (rp_Pc dC dI [.ref h0] sz (rp_xw h0 ad dA pr ba st en fo pl pa wa fx wo ch fw wt fp pw pt u v ho be sl se) (rp_xk dA)) (va_Qi (fun (r : Int32) (z : Bool × Bool × Nat × (Nat → Nat) × Nat × (Nat → Bool) × (Nat → Nat) × (Nat → Nat) × (Nat → Nat) × Nat × Nat × Nat × (Nat → Int) × (Nat → Int) × (Nat → Nat) × (Nat → Nat) × (Nat → Int) × (Nat → Bool) × Nat) => r = nI S.length ∧ rp_XJ pr ba S z.1 z.2.1 z.2.2.1 z.2.2.2.1 z.2.2.2.2.1 z.2.2.2.2.2.1 z.2.2.2.2.2.2.1 z.2.2.2.2.2.2.2.1 z.2.2.2.2.2.2.2.2.1 ∧ z.2.2.2.2.2.2.2.2.2.2.2.2.2.2.2.2.2.2 < 5) (fun z t => rp_Bc dC dI (va_A (rp_xw h0 ad dA pr ba st en fo pl pa wa fx wo ch fw wt fp pw pt u v ho be sl se) sz) (rp_xw h0 ad dA pr ba z.1 z.2.1 z.2.2.1 z.2.2.2.1 z.2.2.2.2.1 z.2.2.2.2.2.1 z.2.2.2.2.2.2.1 z.2.2.2.2.2.2.2.1 z.2.2.2.2.2.2.2.2.1 z.2.2.2.2.2.2.2.2.2.1 z.2.2.2.2.2.2.2.2.2.2.1 z.2.2.2.2.2.2.2.2.2.2.2.1 pw z.2.2.2.2.2.2.2.2.2.2.2.2.2.2.2.2.2.2 z.2.2.2.2.2.2.2.2.2.2.2.2.1 z.2.2.2.2.2.2.2.2.2.2.2.2.2.1 z.2.2.2.2.2.2.2.2.2.2.2.2.2.2.1 z.2.2.2.2.2.2.2.2.2.2.2.2.2.2.2.1 z.2.2.2.2.2.2.2.2.2.2.2.2.2.2.2.2.1 z.2.2.2.2.2.2.2.2.2.2.2.2.2.2.2.2.2.1) (rp_xk dA) t) (va_A (rp_xw h0 ad dA pr ba st en fo pl pa wa fx wo ch fw wt fp pw pt u v ho be sl se) sz)) 0 0 (va_A (rp_xw h0 ad dA pr ba st en fo pl pa wa fx wo ch fw wt fp pw pt u v ho be sl se) sz) := by
  refine Met.ofW (cc := cX0_plans) (maxL := 1) (ret := (some .int)) (by decide) rfl ?_
  intro p e s m args below meth c s₁ B hml hv
  obtain ⟨rfl, hsz, hP, hK, hD0⟩ := hv
  have hx := B.exec
  have hb := B.bytes
  have hr := B.returns
  have hts := atoms_spec (ws := (ws_ yX0_plans cX0_plans 1 (some .int))) B.pre
  have hts : ∀ w ∈ lw_all, w.before _ s = true := fun w h => hts w (List.mem_cons_of_mem _ h)
  have hown : s.vm.findClass RX0 = some m.cls := findClass_of_methodNamed B.named
  have hlocks := B.notSynchronized
  subst hsz
  have hD := hD0.self (sz := s.heap.size)
  generalize hAe : va_A (rp_xw h0 ad dA pr ba st en fo pl pa wa fx wo ch fw wt fp pw pt u v ho be sl se) s.heap.size = A at hD ⊢
  have hA : ∀ q : Nat, s.heap.size ≤ q → A q := fun q h => by rw [← hAe]; exact Or.inr h
  have hS : va_S A s.heap s.heap [] := va_S.rf
  have hP : va_P (dC, dI) rp_cl (rp_xw h0 ad dA pr ba st en fo pl pa wa fx wo ch fw wt fp pw pt u v ho be sl se) s.heap := hP
  have hl := lv_entry ([.ref h0]) (n := 1) (Nat.le_of_ble_eq_true rfl)
  rw [lg_entry_eq]
  generalize (lg_sl ([.ref h0]) ++ List.replicate (1 - (lg_sl ([.ref h0])).length) Slot.unset).toArray = ls at hl ⊢
  have hl : lv_has ls 1 [(0, .ref h0)] := hl
  have L0 : ∀ (H : Heap) (locs : List Loc), va_P (dC, dI) rp_cl (rp_xw h0 ad dA pr ba st en fo pl pa wa fx wo ch fw wt fp pw pt u v ho be sl se) H → va_D A (rp_xw h0 ad dA pr ba st en fo pl pa wa fx wo ch fw wt fp pw pt u v ho be sl se) → va_S A s.heap H locs → ∀ (ls : Array Slot), lv_has ls 1 [(0, .ref h0)] → W p l e (headSpec (ws_ yX0_plans cX0_plans 1 (some .int)) (rp_rm 9 213)).room s m ([.ref h0] : List Value).toArray below meth c H locs 0 0 (MQ below (va_Qi (fun (r : Int32) (z : Bool × Bool × Nat × (Nat → Nat) × Nat × (Nat → Bool) × (Nat → Nat) × (Nat → Nat) × (Nat → Nat) × Nat × Nat × Nat × (Nat → Int) × (Nat → Int) × (Nat → Nat) × (Nat → Nat) × (Nat → Int) × (Nat → Bool) × Nat) => r = nI S.length ∧ rp_XJ pr ba S z.1 z.2.1 z.2.2.1 z.2.2.2.1 z.2.2.2.2.1 z.2.2.2.2.2.1 z.2.2.2.2.2.2.1 z.2.2.2.2.2.2.2.1 z.2.2.2.2.2.2.2.2.1 ∧ z.2.2.2.2.2.2.2.2.2.2.2.2.2.2.2.2.2.2 < 5) (fun z t => rp_Bc dC dI A (rp_xw h0 ad dA pr ba z.1 z.2.1 z.2.2.1 z.2.2.2.1 z.2.2.2.2.1 z.2.2.2.2.2.1 z.2.2.2.2.2.2.1 z.2.2.2.2.2.2.2.1 z.2.2.2.2.2.2.2.2.1 z.2.2.2.2.2.2.2.2.2.1 z.2.2.2.2.2.2.2.2.2.2.1 z.2.2.2.2.2.2.2.2.2.2.2.1 pw z.2.2.2.2.2.2.2.2.2.2.2.2.2.2.2.2.2.2 z.2.2.2.2.2.2.2.2.2.2.2.2.1 z.2.2.2.2.2.2.2.2.2.2.2.2.2.1 z.2.2.2.2.2.2.2.2.2.2.2.2.2.2.1 z.2.2.2.2.2.2.2.2.2.2.2.2.2.2.2.1 z.2.2.2.2.2.2.2.2.2.2.2.2.2.2.2.2.1 z.2.2.2.2.2.2.2.2.2.2.2.2.2.2.2.2.2.1) (rp_xk dA) t) A) ([.ref h0] : List Value).toArray s 0 0 A) (F0 m 0 ls []) := by
    intro   H locs hP hD hS ls hl
    refine lv_aload_n hx hb dX0_plans_0 rfl (lv_at hl 0 rfl) ?_
    refine lv_bipush (v := nI 120) hx hb dX0_plans_1 (by decide) ?_
    have hFc := va_free (wc := rp_xw h0 ad dA pr ba st en fo pl pa wa fx wo ch fw wt fp pw pt u v ho be sl se) hD hS hA [0, 1, 2, 3, 4, 5, 6, 7, 8, 9, 10, 11, 12, 13] rfl
    refine va_callv (va_runV (As := [.int (nI 120)]) (rest := []) ⟨hx, hb, hml, hown, hts⟩ (metX0_findUpTo l dC dI h0 ad dA H.size pr ba st en fo pl pa wa fx wo ch fw wt fp pw pt u v ho be sl se S 120 hpr hR hSl hpw5 hpt hJ (by omega)) (cwV 1 hts (lw_V q107 q109 qs0 q12 q110) rfl rfl rfl (by decide +kernel) ⟨Nat.le_of_ble_eq_true rfl, Nat.le_of_ble_eq_true rfl⟩) ⟨fun a U g mk q => by obtain ⟨q0, q1, qP, qK, qD⟩ := q; exact ⟨q0, q1, qP, va_K.moved (u := U) (U := U.calling g mk a) (Vm.Alike.refl U.vm) qK, qD⟩, va_recv hK hP (ci := 0) (q0 := 0) rfl rfl, fun U hU hW => ⟨rfl, by rw [hU], by rw [hU]; exact hP, va_K.moved hW.alike hK, hD.weaken (fun _ _ _ _ => trivial)⟩⟩ rfl rfl hl.1 rfl (lv_room (Nat.le_of_ble_eq_true rfl)) dX0_plans_3 ⟨Nat.le_of_ble_eq_true rfl, Nat.le_of_ble_eq_true rfl⟩) hS (fun q _ h => hFc q h) hFc (fun u_ t H1 locs ht hvm hw hB hz1 hk1 hS => ?_)
    obtain ⟨hP1, hK1, hD1⟩ := hB
    rw [ht] at hP1
    have hD := hD1.weaken (fun k q _ h => hFc q.1 h)
    have hP := hP1
    obtain ⟨en2, fo2, pl2, pa2, wa2, fx2, wo2, ch2, fw2, wt2, fp2, u2, v2, ho2, be2, sl2, se2⟩ := u_
    have hw : rp_XJ pr ba S true en2 fo2 pl2 pa2 wa2 fx2 wo2 ch2 ∧ (120 ≤ fo2 ∨ fo2 = S.length) := hw
    have hI := (hw.1 rfl).1
    have hfl := rp_XI_le hI
    have hfe : fo2 = S.length := by omega
    clear hFc hK1 hz1 hk1 hD1 hP1 ht hvm
    generalize H1 = H at hP hS ⊢
    have hP : va_P (dC, dI) rp_cl (rp_xw h0 ad dA pr ba true en2 fo2 pl2 pa2 wa2 fx2 wo2 ch2 fw2 wt2 fp2 pw pt u2 v2 ho2 be2 sl2 se2) H := hP
    have hD : va_D A (rp_xw h0 ad dA pr ba true en2 fo2 pl2 pa2 wa2 fx2 wo2 ch2 fw2 wt2 fp2 pw pt u2 v2 ho2 be2 sl2 se2) := hD
    refine lv_aload_n hx hb dX0_plans_6 rfl (lv_at hl 0 rfl) ?_
    refine va_get (D := (dC, dI)) (ci := 0) (v := .int (nI fo2)) (C := RX0) (T := TX0) (N := 22) hx hb hts in_X0 hown hK hP 0 rfl rfl 4 (by decide) (hts _ q26) (fun _ h9 => h9) rfl dX0_plans_7 ?_
    exact W.iret (v := nI fo2) hx hb hr (fun t9 ht9 hW9 => ⟨⟨nI fo2, (true, en2, fo2, pl2, pa2, wa2, fx2, wo2, ch2, fw2, wt2, fp2, u2, v2, ho2, be2, sl2, se2, pt), rfl, ⟨by rw [hfe], hw.1, hpt⟩, by rw [ht9]; exact hP, va_K.moved hW9.alike hK, hD⟩, hS.F ht9⟩) hS.2.2 dX0_plans_10
  exact L0 _ _ hP hD hS ls hl
set_option maxHeartbeats 4000000 in
/-- cost(k) -/
theorem metX0_cost (l : Launch) (dC : Nat → ClassId) (dI : Nat → Nat → Nat) (h0 : Nat) (ad : Nat → Nat) (dA : Nat → ClassId) (sz : Nat) (pr : Nat → Nat) (ba : Nat → Bool) (st : Bool) (en : Bool) (fo : Nat) (pl : Nat → Nat) (pa : Nat) (wa : Nat → Bool) (fx : Nat → Nat) (wo : Nat → Nat) (ch : Nat → Nat) (fw : Nat) (wt : Nat) (fp : Nat) (pw : Nat) (pt : Nat) (u : Nat → Int) (v : Nat → Int) (ho : Nat → Nat) (be : Nat → Nat) (sl : Nat → Int) (se : Nat → Bool) (S : List Nat) (k : Int32) (hpr : ∀ j, j < 25 → pr j < 100) (hR : rp_RL pr ba S) (hSl : S.length ≤ 120) (hpw5 : pw = 5) (hpt : pt < 5) (hJ : rp_XJ pr ba S st en fo pl pa wa fx wo ch) : Met l yX0_cost (ws_ yX0_cost cX0_cost 2 (some .int)) (rp_rm 10 234) (rp_Pc dC dI [.ref h0, .int k] sz (rp_xw h0 ad dA pr ba st en fo pl pa wa fx wo ch fw wt fp pw pt u v ho be sl se) (rp_xk dA)) (va_Qi (fun (r : Int32) (z : Bool × Bool × Nat × (Nat → Nat) × Nat × (Nat → Bool) × (Nat → Nat) × (Nat → Nat) × (Nat → Nat) × Nat × Nat × Nat × (Nat → Int) × (Nat → Int) × (Nat → Nat) × (Nat → Nat) × (Nat → Int) × (Nat → Bool) × Nat) => r = rp_a_cost S k ∧ rp_XJ pr ba S z.1 z.2.1 z.2.2.1 z.2.2.2.1 z.2.2.2.2.1 z.2.2.2.2.2.1 z.2.2.2.2.2.2.1 z.2.2.2.2.2.2.2.1 z.2.2.2.2.2.2.2.2.1 ∧ z.2.2.2.2.2.2.2.2.2.2.2.2.2.2.2.2.2.2 < 5) (fun z t => rp_Bc dC dI (va_A (rp_xw h0 ad dA pr ba st en fo pl pa wa fx wo ch fw wt fp pw pt u v ho be sl se) sz) (rp_xw h0 ad dA pr ba z.1 z.2.1 z.2.2.1 z.2.2.2.1 z.2.2.2.2.1 z.2.2.2.2.2.1 z.2.2.2.2.2.2.1 z.2.2.2.2.2.2.2.1 z.2.2.2.2.2.2.2.2.1 z.2.2.2.2.2.2.2.2.2.1 z.2.2.2.2.2.2.2.2.2.2.1 z.2.2.2.2.2.2.2.2.2.2.2.1 pw z.2.2.2.2.2.2.2.2.2.2.2.2.2.2.2.2.2.2 z.2.2.2.2.2.2.2.2.2.2.2.2.1 z.2.2.2.2.2.2.2.2.2.2.2.2.2.1 z.2.2.2.2.2.2.2.2.2.2.2.2.2.2.1 z.2.2.2.2.2.2.2.2.2.2.2.2.2.2.2.1 z.2.2.2.2.2.2.2.2.2.2.2.2.2.2.2.2.1 z.2.2.2.2.2.2.2.2.2.2.2.2.2.2.2.2.2.1) (rp_xk dA) t) (va_A (rp_xw h0 ad dA pr ba st en fo pl pa wa fx wo ch fw wt fp pw pt u v ho be sl se) sz)) 0 0 (va_A (rp_xw h0 ad dA pr ba st en fo pl pa wa fx wo ch fw wt fp pw pt u v ho be sl se) sz) := by
  refine Met.ofW (cc := cX0_cost) (maxL := 2) (ret := (some .int)) (by decide) rfl ?_
  intro p e s m args below meth c s₁ B hml hv
  obtain ⟨rfl, hsz, hP, hK, hD0⟩ := hv
  have hx := B.exec
  have hb := B.bytes
  have hr := B.returns
  have hts := atoms_spec (ws := (ws_ yX0_cost cX0_cost 2 (some .int))) B.pre
  have hts : ∀ w ∈ lw_all, w.before _ s = true := fun w h => hts w (List.mem_cons_of_mem _ h)
  have hown : s.vm.findClass RX0 = some m.cls := findClass_of_methodNamed B.named
  have hlocks := B.notSynchronized
  subst hsz
  have hD := hD0.self (sz := s.heap.size)
  generalize hAe : va_A (rp_xw h0 ad dA pr ba st en fo pl pa wa fx wo ch fw wt fp pw pt u v ho be sl se) s.heap.size = A at hD ⊢
  have hA : ∀ q : Nat, s.heap.size ≤ q → A q := fun q h => by rw [← hAe]; exact Or.inr h
  have hS : va_S A s.heap s.heap [] := va_S.rf
  have hP : va_P (dC, dI) rp_cl (rp_xw h0 ad dA pr ba st en fo pl pa wa fx wo ch fw wt fp pw pt u v ho be sl se) s.heap := hP
  have hl := lv_entry ([.ref h0, .int k]) (n := 2) (Nat.le_of_ble_eq_true rfl)
  rw [lg_entry_eq]
  generalize (lg_sl ([.ref h0, .int k]) ++ List.replicate (2 - (lg_sl ([.ref h0, .int k])).length) Slot.unset).toArray = ls at hl ⊢
  have hl : lv_has ls 2 [(0, .ref h0), (1, .int k)] := hl
  have L0 : ∀ (H : Heap) (locs : List Loc), va_P (dC, dI) rp_cl (rp_xw h0 ad dA pr ba st en fo pl pa wa fx wo ch fw wt fp pw pt u v ho be sl se) H → va_D A (rp_xw h0 ad dA pr ba st en fo pl pa wa fx wo ch fw wt fp pw pt u v ho be sl se) → va_S A s.heap H locs → ∀ (ls : Array Slot), lv_has ls 2 [(0, .ref h0), (1, .int k)] → W p l e (headSpec (ws_ yX0_cost cX0_cost 2 (some .int)) (rp_rm 10 234)).room s m ([.ref h0, .int k] : List Value).toArray below meth c H locs 0 0 (MQ below (va_Qi (fun (r : Int32) (z : Bool × Bool × Nat × (Nat → Nat) × Nat × (Nat → Bool) × (Nat → Nat) × (Nat → Nat) × (Nat → Nat) × Nat × Nat × Nat × (Nat → Int) × (Nat → Int) × (Nat → Nat) × (Nat → Nat) × (Nat → Int) × (Nat → Bool) × Nat) => r = rp_a_cost S k ∧ rp_XJ pr ba S z.1 z.2.1 z.2.2.1 z.2.2.2.1 z.2.2.2.2.1 z.2.2.2.2.2.1 z.2.2.2.2.2.2.1 z.2.2.2.2.2.2.2.1 z.2.2.2.2.2.2.2.2.1 ∧ z.2.2.2.2.2.2.2.2.2.2.2.2.2.2.2.2.2.2 < 5) (fun z t => rp_Bc dC dI A (rp_xw h0 ad dA pr ba z.1 z.2.1 z.2.2.1 z.2.2.2.1 z.2.2.2.2.1 z.2.2.2.2.2.1 z.2.2.2.2.2.2.1 z.2.2.2.2.2.2.2.1 z.2.2.2.2.2.2.2.2.1 z.2.2.2.2.2.2.2.2.2.1 z.2.2.2.2.2.2.2.2.2.2.1 z.2.2.2.2.2.2.2.2.2.2.2.1 pw z.2.2.2.2.2.2.2.2.2.2.2.2.2.2.2.2.2.2 z.2.2.2.2.2.2.2.2.2.2.2.2.1 z.2.2.2.2.2.2.2.2.2.2.2.2.2.1 z.2.2.2.2.2.2.2.2.2.2.2.2.2.2.1 z.2.2.2.2.2.2.2.2.2.2.2.2.2.2.2.1 z.2.2.2.2.2.2.2.2.2.2.2.2.2.2.2.2.1 z.2.2.2.2.2.2.2.2.2.2.2.2.2.2.2.2.2.1) (rp_xk dA) t) A) ([.ref h0, .int k] : List Value).toArray s 0 0 A) (F0 m 0 ls []) := by
    intro   H locs hP hD hS ls hl
    refine lv_aload_n hx hb dX0_cost_0 rfl (lv_at hl 0 rfl) ?_
    refine lv_iload_n hx hb dX0_cost_1 rfl (lv_at hl 1 rfl) ?_
    have hFc := va_free (wc := rp_xw h0 ad dA pr ba st en fo pl pa wa fx wo ch fw wt fp pw pt u v ho be sl se) hD hS hA [0, 1, 2, 3, 4, 5, 6, 7, 8, 9, 10, 11, 12, 13] rfl
    refine va_calli (va_runV (As := [.int k]) (rest := []) ⟨hx, hb, hml, hown, hts⟩ (metX0_hasRank l dC dI h0 ad dA H.size pr ba st en fo pl pa wa fx wo ch fw wt fp pw pt u v ho be sl se S k hpr hR hSl hpw5 hpt hJ) (cwV 1 hts (lw_V q152 q154 qs8 q12 q155) rfl rfl rfl (by decide +kernel) ⟨Nat.le_of_ble_eq_true rfl, Nat.le_of_ble_eq_true rfl⟩) ⟨fun a U g mk q => by obtain ⟨q0, q1, qP, qK, qD⟩ := q; exact ⟨q0, q1, qP, va_K.moved (u := U) (U := U.calling g mk a) (Vm.Alike.refl U.vm) qK, qD⟩, va_recv hK hP (ci := 0) (q0 := 0) rfl rfl, fun U hU hW => ⟨rfl, by rw [hU], by rw [hU]; exact hP, va_K.moved hW.alike hK, hD.weaken (fun _ _ _ _ => trivial)⟩⟩ rfl rfl hl.1 rfl (lv_room (Nat.le_of_ble_eq_true rfl)) dX0_cost_2 ⟨Nat.le_of_ble_eq_true rfl, Nat.le_of_ble_eq_true rfl⟩) hS (fun q _ h => hFc q h) hFc (fun r u_ t H1 locs ht hvm hw hB hz1 hk1 hS => ?_)
    obtain ⟨hP1, hK1, hD1⟩ := hB
    rw [ht] at hP1
    have hD := hD1.weaken (fun k q _ h => hFc q.1 h)
    have hP := hP1
    obtain ⟨st2, en2, fo2, pl2, pa2, wa2, fx2, wo2, ch2, fw2, wt2, fp2, u2, v2, ho2, be2, sl2, se2⟩ := u_
    have hw : r = rp_B (rp_hr S k) ∧ rp_XJ pr ba S st2 en2 fo2 pl2 pa2 wa2 fx2 wo2 ch2 ∧ (rp_hr S k = true → ∃ j, j < 120 ∧ k = nI j ∧ S[j]? = some (pl2 j)) := hw
    obtain ⟨hr9, hJ2, hex⟩ := hw
    subst hr9
    clear hFc hK1 hz1 hk1 hD1 hP1 ht hvm
    generalize H1 = H at hP hS ⊢
    have hP : va_P (dC, dI) rp_cl (rp_xw h0 ad dA pr ba st2 en2 fo2 pl2 pa2 wa2 fx2 wo2 ch2 fw2 wt2 fp2 pw pt u2 v2 ho2 be2 sl2 se2) H := hP
    have hD : va_D A (rp_xw h0 ad dA pr ba st2 en2 fo2 pl2 pa2 wa2 fx2 wo2 ch2 fw2 wt2 fp2 pw pt u2 v2 ho2 be2 sl2 se2) := hD
    refine rp_beq (tgt := 22) hx hb dX0_cost_5 (by decide) (fun c_5 => ?_) (fun c_5 => ?_)
    · refine lv_iconst (v := (-1)) hx hb dX0_cost_22 (by decide) ?_
      exact W.iret (v := (-1)) hx hb hr (fun t9 ht9 hW9 => ⟨⟨(-1), (st2, en2, fo2, pl2, pa2, wa2, fx2, wo2, ch2, fw2, wt2, fp2, u2, v2, ho2, be2, sl2, se2, pt), rfl, ⟨(rp_cost_none (rp_hr_f c_5)).symm, hJ2, hpt⟩, by rw [ht9]; exact hP, va_K.moved hW9.alike hK, hD⟩, hS.F ht9⟩) hS.2.2 dX0_cost_23
    · obtain ⟨j, hj, rfl, hSj⟩ := hex c_5
      have hlt := rp_RL_lt hpr hR hSj
      have hat : rp_at S (nI j) = some (pl2 j) := by rw [rp_at_nI (by omega)]; exact hSj
      refine lv_aload_n hx hb dX0_cost_8 rfl (lv_at hl 0 rfl) ?_
      refine va_get (D := (dC, dI)) (ci := 0) (v := .ref (ad 5)) (C := RX0) (T := TX0) (N := 22) hx hb hts in_X0 hown hK hP 0 rfl rfl 5 (by decide) (hts _ q27) (fun _ h9 => h9) rfl dX0_cost_9 ?_
      refine lv_iload_n hx hb dX0_cost_12 rfl (lv_at hl 1 rfl) ?_
      refine rp_lald lN pl2 hx hb hK hP 3 2 rfl rfl (i := j) (by omega) (by decide) dX0_cost_13 ?_
      refine lv_ldc2 (v := 3125) hx hb hown (hts _ q142) dX0_cost_14 ?_
      refine rp_tl (y := lN 3125) (by decide +kernel) ?_
      refine rp_ldivN hx hb (by omega) dX0_cost_17 ?_
      refine rp_l2iN hx hb dX0_cost_18 ?_
      refine lv_goto (tgt := 23) hx hb dX0_cost_19 (by decide) ?_
      exact W.iret (v := nI ((pl2 j) / 3125)) hx hb hr (fun t9 ht9 hW9 => ⟨⟨nI ((pl2 j) / 3125), (st2, en2, fo2, pl2, pa2, wa2, fx2, wo2, ch2, fw2, wt2, fp2, u2, v2, ho2, be2, sl2, se2, pt), rfl, ⟨(rp_cost_some hat).symm, hJ2, hpt⟩, by rw [ht9]; exact hP, va_K.moved hW9.alike hK, hD⟩, hS.F ht9⟩) hS.2.2 dX0_cost_23
  exact L0 _ _ hP hD hS ls hl
set_option maxHeartbeats 4000000 in
/-- plan(k) -/
theorem metX0_plan (l : Launch) (dC : Nat → ClassId) (dI : Nat → Nat → Nat) (h0 : Nat) (ad : Nat → Nat) (dA : Nat → ClassId) (sz : Nat) (pr : Nat → Nat) (ba : Nat → Bool) (st : Bool) (en : Bool) (fo : Nat) (pl : Nat → Nat) (pa : Nat) (wa : Nat → Bool) (fx : Nat → Nat) (wo : Nat → Nat) (ch : Nat → Nat) (fw : Nat) (wt : Nat) (fp : Nat) (pw : Nat) (pt : Nat) (u : Nat → Int) (v : Nat → Int) (ho : Nat → Nat) (be : Nat → Nat) (sl : Nat → Int) (se : Nat → Bool) (S : List Nat) (k : Int32) (hpr : ∀ j, j < 25 → pr j < 100) (hR : rp_RL pr ba S) (hSl : S.length ≤ 120) (hpw5 : pw = 5) (hpt : pt < 5) (hJ : rp_XJ pr ba S st en fo pl pa wa fx wo ch) : Met l yX0_plan (ws_ yX0_plan cX0_plan 2 (some .int)) (rp_rm 10 234) (rp_Pc dC dI [.ref h0, .int k] sz (rp_xw h0 ad dA pr ba st en fo pl pa wa fx wo ch fw wt fp pw pt u v ho be sl se) (rp_xk dA)) (va_Qi (fun (r : Int32) (z : Bool × Bool × Nat × (Nat → Nat) × Nat × (Nat → Bool) × (Nat → Nat) × (Nat → Nat) × (Nat → Nat) × Nat × Nat × Nat × (Nat → Int) × (Nat → Int) × (Nat → Nat) × (Nat → Nat) × (Nat → Int) × (Nat → Bool) × Nat) => r = rp_a_plan S k ∧ rp_XJ pr ba S z.1 z.2.1 z.2.2.1 z.2.2.2.1 z.2.2.2.2.1 z.2.2.2.2.2.1 z.2.2.2.2.2.2.1 z.2.2.2.2.2.2.2.1 z.2.2.2.2.2.2.2.2.1 ∧ z.2.2.2.2.2.2.2.2.2.2.2.2.2.2.2.2.2.2 < 5) (fun z t => rp_Bc dC dI (va_A (rp_xw h0 ad dA pr ba st en fo pl pa wa fx wo ch fw wt fp pw pt u v ho be sl se) sz) (rp_xw h0 ad dA pr ba z.1 z.2.1 z.2.2.1 z.2.2.2.1 z.2.2.2.2.1 z.2.2.2.2.2.1 z.2.2.2.2.2.2.1 z.2.2.2.2.2.2.2.1 z.2.2.2.2.2.2.2.2.1 z.2.2.2.2.2.2.2.2.2.1 z.2.2.2.2.2.2.2.2.2.2.1 z.2.2.2.2.2.2.2.2.2.2.2.1 pw z.2.2.2.2.2.2.2.2.2.2.2.2.2.2.2.2.2.2 z.2.2.2.2.2.2.2.2.2.2.2.2.1 z.2.2.2.2.2.2.2.2.2.2.2.2.2.1 z.2.2.2.2.2.2.2.2.2.2.2.2.2.2.1 z.2.2.2.2.2.2.2.2.2.2.2.2.2.2.2.1 z.2.2.2.2.2.2.2.2.2.2.2.2.2.2.2.2.1 z.2.2.2.2.2.2.2.2.2.2.2.2.2.2.2.2.2.1) (rp_xk dA) t) (va_A (rp_xw h0 ad dA pr ba st en fo pl pa wa fx wo ch fw wt fp pw pt u v ho be sl se) sz)) 0 0 (va_A (rp_xw h0 ad dA pr ba st en fo pl pa wa fx wo ch fw wt fp pw pt u v ho be sl se) sz) := by
  refine Met.ofW (cc := cX0_plan) (maxL := 2) (ret := (some .int)) (by decide) rfl ?_
  intro p e s m args below meth c s₁ B hml hv
  obtain ⟨rfl, hsz, hP, hK, hD0⟩ := hv
  have hx := B.exec
  have hb := B.bytes
  have hr := B.returns
  have hts := atoms_spec (ws := (ws_ yX0_plan cX0_plan 2 (some .int))) B.pre
  have hts : ∀ w ∈ lw_all, w.before _ s = true := fun w h => hts w (List.mem_cons_of_mem _ h)
  have hown : s.vm.findClass RX0 = some m.cls := findClass_of_methodNamed B.named
  have hlocks := B.notSynchronized
  subst hsz
  have hD := hD0.self (sz := s.heap.size)
  generalize hAe : va_A (rp_xw h0 ad dA pr ba st en fo pl pa wa fx wo ch fw wt fp pw pt u v ho be sl se) s.heap.size = A at hD ⊢
  have hA : ∀ q : Nat, s.heap.size ≤ q → A q := fun q h => by rw [← hAe]; exact Or.inr h
  have hS : va_S A s.heap s.heap [] := va_S.rf
  have hP : va_P (dC, dI) rp_cl (rp_xw h0 ad dA pr ba st en fo pl pa wa fx wo ch fw wt fp pw pt u v ho be sl se) s.heap := hP
  have hl := lv_entry ([.ref h0, .int k]) (n := 2) (Nat.le_of_ble_eq_true rfl)
  rw [lg_entry_eq]
  generalize (lg_sl ([.ref h0, .int k]) ++ List.replicate (2 - (lg_sl ([.ref h0, .int k])).length) Slot.unset).toArray = ls at hl ⊢
  have hl : lv_has ls 2 [(0, .ref h0), (1, .int k)] := hl
  have L0 : ∀ (H : Heap) (locs : List Loc), va_P (dC, dI) rp_cl (rp_xw h0 ad dA pr ba st en fo pl pa wa fx wo ch fw wt fp pw pt u v ho be sl se) H → va_D A (rp_xw h0 ad dA pr ba st en fo pl pa wa fx wo ch fw wt fp pw pt u v ho be sl se) → va_S A s.heap H locs → ∀ (ls : Array Slot), lv_has ls 2 [(0, .ref h0), (1, .int k)] → W p l e (headSpec (ws_ yX0_plan cX0_plan 2 (some .int)) (rp_rm 10 234)).room s m ([.ref h0, .int k] : List Value).toArray below meth c H locs 0 0 (MQ below (va_Qi (fun (r : Int32) (z : Bool × Bool × Nat × (Nat → Nat) × Nat × (Nat → Bool) × (Nat → Nat) × (Nat → Nat) × (Nat → Nat) × Nat × Nat × Nat × (Nat → Int) × (Nat → Int) × (Nat → Nat) × (Nat → Nat) × (Nat → Int) × (Nat → Bool) × Nat) => r = rp_a_plan S k ∧ rp_XJ pr ba S z.1 z.2.1 z.2.2.1 z.2.2.2.1 z.2.2.2.2.1 z.2.2.2.2.2.1 z.2.2.2.2.2.2.1 z.2.2.2.2.2.2.2.1 z.2.2.2.2.2.2.2.2.1 ∧ z.2.2.2.2.2.2.2.2.2.2.2.2.2.2.2.2.2.2 < 5) (fun z t => rp_Bc dC dI A (rp_xw h0 ad dA pr ba z.1 z.2.1 z.2.2.1 z.2.2.2.1 z.2.2.2.2.1 z.2.2.2.2.2.1 z.2.2.2.2.2.2.1 z.2.2.2.2.2.2.2.1 z.2.2.2.2.2.2.2.2.1 z.2.2.2.2.2.2.2.2.2.1 z.2.2.2.2.2.2.2.2.2.2.1 z.2.2.2.2.2.2.2.2.2.2.2.1 pw z.2.2.2.2.2.2.2.2.2.2.2.2.2.2.2.2.2.2 z.2.2.2.2.2.2.2.2.2.2.2.2.1 z.2.2.2.2.2.2.2.2.2.2.2.2.2.1 z.2.2.2.2.2.2.2.2.2.2.2.2.2.2.1 z.2.2.2.2.2.2.2.2.2.2.2.2.2.2.2.1 z.2.2.2.2.2.2.2.2.2.2.2.2.2.2.2.2.1 z.2.2.2.2.2.2.2.2.2.2.2.2.2.2.2.2.2.1) (rp_xk dA) t) A) ([.ref h0, .int k] : List Value).toArray s 0 0 A) (F0 m 0 ls []) := by
    intro   H locs hP hD hS ls hl
    refine lv_aload_n hx hb dX0_plan_0 rfl (lv_at hl 0 rfl) ?_
    refine lv_iload_n hx hb dX0_plan_1 rfl (lv_at hl 1 rfl) ?_
    have hFc := va_free (wc := rp_xw h0 ad dA pr ba st en fo pl pa wa fx wo ch fw wt fp pw pt u v ho be sl se) hD hS hA [0, 1, 2, 3, 4, 5, 6, 7, 8, 9, 10, 11, 12, 13] rfl
    refine va_calli (va_runV (As := [.int k]) (rest := []) ⟨hx, hb, hml, hown, hts⟩ (metX0_hasRank l dC dI h0 ad dA H.size pr ba st en fo pl pa wa fx wo ch fw wt fp pw pt u v ho be sl se S k hpr hR hSl hpw5 hpt hJ) (cwV 1 hts (lw_V q152 q154 qs8 q12 q155) rfl rfl rfl (by decide +kernel) ⟨Nat.le_of_ble_eq_true rfl, Nat.le_of_ble_eq_true rfl⟩) ⟨fun a U g mk q => by obtain ⟨q0, q1, qP, qK, qD⟩ := q; exact ⟨q0, q1, qP, va_K.moved (u := U) (U := U.calling g mk a) (Vm.Alike.refl U.vm) qK, qD⟩, va_recv hK hP (ci := 0) (q0 := 0) rfl rfl, fun U hU hW => ⟨rfl, by rw [hU], by rw [hU]; exact hP, va_K.moved hW.alike hK, hD.weaken (fun _ _ _ _ => trivial)⟩⟩ rfl rfl hl.1 rfl (lv_room (Nat.le_of_ble_eq_true rfl)) dX0_plan_2 ⟨Nat.le_of_ble_eq_true rfl, Nat.le_of_ble_eq_true rfl⟩) hS (fun q _ h => hFc q h) hFc (fun r u_ t H1 locs ht hvm hw hB hz1 hk1 hS => ?_)
    obtain ⟨hP1, hK1, hD1⟩ := hB
    rw [ht] at hP1
    have hD := hD1.weaken (fun k q _ h => hFc q.1 h)
    have hP := hP1
    obtain ⟨st2, en2, fo2, pl2, pa2, wa2, fx2, wo2, ch2, fw2, wt2, fp2, u2, v2, ho2, be2, sl2, se2⟩ := u_
    have hw : r = rp_B (rp_hr S k) ∧ rp_XJ pr ba S st2 en2 fo2 pl2 pa2 wa2 fx2 wo2 ch2 ∧ (rp_hr S k = true → ∃ j, j < 120 ∧ k = nI j ∧ S[j]? = some (pl2 j)) := hw
    obtain ⟨hr9, hJ2, hex⟩ := hw
    subst hr9
    clear hFc hK1 hz1 hk1 hD1 hP1 ht hvm
    generalize H1 = H at hP hS ⊢
    have hP : va_P (dC, dI) rp_cl (rp_xw h0 ad dA pr ba st2 en2 fo2 pl2 pa2 wa2 fx2 wo2 ch2 fw2 wt2 fp2 pw pt u2 v2 ho2 be2 sl2 se2) H := hP
    have hD : va_D A (rp_xw h0 ad dA pr ba st2 en2 fo2 pl2 pa2 wa2 fx2 wo2 ch2 fw2 wt2 fp2 pw pt u2 v2 ho2 be2 sl2 se2) := hD
    refine rp_beq (tgt := 22) hx hb dX0_plan_5 (by decide) (fun c_5 => ?_) (fun c_5 => ?_)
    · refine lv_iconst (v := (-1)) hx hb dX0_plan_22 (by decide) ?_
      exact W.iret (v := (-1)) hx hb hr (fun t9 ht9 hW9 => ⟨⟨(-1), (st2, en2, fo2, pl2, pa2, wa2, fx2, wo2, ch2, fw2, wt2, fp2, u2, v2, ho2, be2, sl2, se2, pt), rfl, ⟨(rp_plan_none (rp_hr_f c_5)).symm, hJ2, hpt⟩, by rw [ht9]; exact hP, va_K.moved hW9.alike hK, hD⟩, hS.F ht9⟩) hS.2.2 dX0_plan_23
    · obtain ⟨j, hj, rfl, hSj⟩ := hex c_5
      have hlt := rp_RL_lt hpr hR hSj
      have hat : rp_at S (nI j) = some (pl2 j) := by rw [rp_at_nI (by omega)]; exact hSj
      refine lv_aload_n hx hb dX0_plan_8 rfl (lv_at hl 0 rfl) ?_
      refine va_get (D := (dC, dI)) (ci := 0) (v := .ref (ad 5)) (C := RX0) (T := TX0) (N := 22) hx hb hts in_X0 hown hK hP 0 rfl rfl 5 (by decide) (hts _ q27) (fun _ h9 => h9) rfl dX0_plan_9 ?_
      refine lv_iload_n hx hb dX0_plan_12 rfl (lv_at hl 1 rfl) ?_
      refine rp_lald lN pl2 hx hb hK hP 3 2 rfl rfl (i := j) (by omega) (by decide) dX0_plan_13 ?_
      refine lv_ldc2 (v := 3125) hx hb hown (hts _ q142) dX0_plan_14 ?_
      refine rp_tl (y := lN 3125) (by decide +kernel) ?_
      refine rp_lremN hx hb (by omega) dX0_plan_17 ?_
      refine rp_l2iN hx hb dX0_plan_18 ?_
      refine lv_goto (tgt := 23) hx hb dX0_plan_19 (by decide) ?_
      exact W.iret (v := nI ((pl2 j) % 3125)) hx hb hr (fun t9 ht9 hW9 => ⟨⟨nI ((pl2 j) % 3125), (st2, en2, fo2, pl2, pa2, wa2, fx2, wo2, ch2, fw2, wt2, fp2, u2, v2, ho2, be2, sl2, se2, pt), rfl, ⟨(rp_plan_some hat).symm, hJ2, hpt⟩, by rw [ht9]; exact hP, va_K.moved hW9.alike hK, hD⟩, hS.F ht9⟩) hS.2.2 dX0_plan_23
  exact L0 _ _ hP hD hS ls hl
set_option maxHeartbeats 4000000 in
/-- task(k, w) -/
theorem metX0_task (l : Launch) (dC : Nat → ClassId) (dI : Nat → Nat → Nat) (h0 : Nat) (ad : Nat → Nat) (dA : Nat → ClassId) (sz : Nat) (pr : Nat → Nat) (ba : Nat → Bool) (st : Bool) (en : Bool) (fo : Nat) (pl : Nat → Nat) (pa : Nat) (wa : Nat → Bool) (fx : Nat → Nat) (wo : Nat → Nat) (ch : Nat → Nat) (fw : Nat) (wt : Nat) (fp : Nat) (pw : Nat) (pt : Nat) (u : Nat → Int) (v : Nat → Int) (ho : Nat → Nat) (be : Nat → Nat) (sl : Nat → Int) (se : Nat → Bool) (S : List Nat) (k w : Int32) (hpr : ∀ j, j < 25 → pr j < 100) (hR : rp_RL pr ba S) (hSl : S.length ≤ 120) (hpw5 : pw = 5) (hpt : pt < 5) (hJ : rp_XJ pr ba S st en fo pl pa wa fx wo ch) : Met l yX0_task (ws_ yX0_task cX0_task 4 (some .int)) (rp_rm 10 234) (rp_Pc dC dI [.ref h0, .int k, .int w] sz (rp_xw h0 ad dA pr ba st en fo pl pa wa fx wo ch fw wt fp pw pt u v ho be sl se) (rp_xk dA)) (va_Qi (fun (r : Int32) (z : Bool × Bool × Nat × (Nat → Nat) × Nat × (Nat → Bool) × (Nat → Nat) × (Nat → Nat) × (Nat → Nat) × Nat × Nat × Nat × (Nat → Int) × (Nat → Int) × (Nat → Nat) × (Nat → Nat) × (Nat → Int) × (Nat → Bool) × Nat) => r = rp_a_task S k w ∧ rp_XJ pr ba S z.1 z.2.1 z.2.2.1 z.2.2.2.1 z.2.2.2.2.1 z.2.2.2.2.2.1 z.2.2.2.2.2.2.1 z.2.2.2.2.2.2.2.1 z.2.2.2.2.2.2.2.2.1 ∧ z.2.2.2.2.2.2.2.2.2.2.2.2.2.2.2.2.2.2 < 5) (fun z t => rp_Bc dC dI (va_A (rp_xw h0 ad dA pr ba st en fo pl pa wa fx wo ch fw wt fp pw pt u v ho be sl se) sz) (rp_xw h0 ad dA pr ba z.1 z.2.1 z.2.2.1 z.2.2.2.1 z.2.2.2.2.1 z.2.2.2.2.2.1 z.2.2.2.2.2.2.1 z.2.2.2.2.2.2.2.1 z.2.2.2.2.2.2.2.2.1 z.2.2.2.2.2.2.2.2.2.1 z.2.2.2.2.2.2.2.2.2.2.1 z.2.2.2.2.2.2.2.2.2.2.2.1 pw z.2.2.2.2.2.2.2.2.2.2.2.2.2.2.2.2.2.2 z.2.2.2.2.2.2.2.2.2.2.2.2.1 z.2.2.2.2.2.2.2.2.2.2.2.2.2.1 z.2.2.2.2.2.2.2.2.2.2.2.2.2.2.1 z.2.2.2.2.2.2.2.2.2.2.2.2.2.2.2.1 z.2.2.2.2.2.2.2.2.2.2.2.2.2.2.2.2.1 z.2.2.2.2.2.2.2.2.2.2.2.2.2.2.2.2.2.1) (rp_xk dA) t) (va_A (rp_xw h0 ad dA pr ba st en fo pl pa wa fx wo ch fw wt fp pw pt u v ho be sl se) sz)) 0 0 (va_A (rp_xw h0 ad dA pr ba st en fo pl pa wa fx wo ch fw wt fp pw pt u v ho be sl se) sz) := by
  refine Met.ofW (cc := cX0_task) (maxL := 4) (ret := (some .int)) (by decide) rfl ?_
  intro p e s m args below meth c s₁ B hml hv
  obtain ⟨rfl, hsz, hP, hK, hD0⟩ := hv
  have hx := B.exec
  have hb := B.bytes
  have hr := B.returns
  have hts := atoms_spec (ws := (ws_ yX0_task cX0_task 4 (some .int))) B.pre
  have hts : ∀ w ∈ lw_all, w.before _ s = true := fun w h => hts w (List.mem_cons_of_mem _ h)
  have hown : s.vm.findClass RX0 = some m.cls := findClass_of_methodNamed B.named
  have hlocks := B.notSynchronized
  subst hsz
  have hD := hD0.self (sz := s.heap.size)
  generalize hAe : va_A (rp_xw h0 ad dA pr ba st en fo pl pa wa fx wo ch fw wt fp pw pt u v ho be sl se) s.heap.size = A at hD ⊢
  have hA : ∀ q : Nat, s.heap.size ≤ q → A q := fun q h => by rw [← hAe]; exact Or.inr h
  have hS : va_S A s.heap s.heap [] := va_S.rf
  have hP : va_P (dC, dI) rp_cl (rp_xw h0 ad dA pr ba st en fo pl pa wa fx wo ch fw wt fp pw pt u v ho be sl se) s.heap := hP
  have hl := lv_entry ([.ref h0, .int k, .int w]) (n := 4) (Nat.le_of_ble_eq_true rfl)
  rw [lg_entry_eq]
  generalize (lg_sl ([.ref h0, .int k, .int w]) ++ List.replicate (4 - (lg_sl ([.ref h0, .int k, .int w])).length) Slot.unset).toArray = ls at hl ⊢
  have hl : lv_has ls 4 [(0, .ref h0), (1, .int k), (2, .int w)] := hl
  have L0 : ∀ (H : Heap) (locs : List Loc), va_P (dC, dI) rp_cl (rp_xw h0 ad dA pr ba st en fo pl pa wa fx wo ch fw wt fp pw pt u v ho be sl se) H → va_D A (rp_xw h0 ad dA pr ba st en fo pl pa wa fx wo ch fw wt fp pw pt u v ho be sl se) → va_S A s.heap H locs → ∀ (ls : Array Slot), lv_has ls 4 [(0, .ref h0), (1, .int k), (2, .int w)] → W p l e (headSpec (ws_ yX0_task cX0_task 4 (some .int)) (rp_rm 10 234)).room s m ([.ref h0, .int k, .int w] : List Value).toArray below meth c H locs 0 0 (MQ below (va_Qi (fun (r : Int32) (z : Bool × Bool × Nat × (Nat → Nat) × Nat × (Nat → Bool) × (Nat → Nat) × (Nat → Nat) × (Nat → Nat) × Nat × Nat × Nat × (Nat → Int) × (Nat → Int) × (Nat → Nat) × (Nat → Nat) × (Nat → Int) × (Nat → Bool) × Nat) => r = rp_a_task S k w ∧ rp_XJ pr ba S z.1 z.2.1 z.2.2.1 z.2.2.2.1 z.2.2.2.2.1 z.2.2.2.2.2.1 z.2.2.2.2.2.2.1 z.2.2.2.2.2.2.2.1 z.2.2.2.2.2.2.2.2.1 ∧ z.2.2.2.2.2.2.2.2.2.2.2.2.2.2.2.2.2.2 < 5) (fun z t => rp_Bc dC dI A (rp_xw h0 ad dA pr ba z.1 z.2.1 z.2.2.1 z.2.2.2.1 z.2.2.2.2.1 z.2.2.2.2.2.1 z.2.2.2.2.2.2.1 z.2.2.2.2.2.2.2.1 z.2.2.2.2.2.2.2.2.1 z.2.2.2.2.2.2.2.2.2.1 z.2.2.2.2.2.2.2.2.2.2.1 z.2.2.2.2.2.2.2.2.2.2.2.1 pw z.2.2.2.2.2.2.2.2.2.2.2.2.2.2.2.2.2.2 z.2.2.2.2.2.2.2.2.2.2.2.2.1 z.2.2.2.2.2.2.2.2.2.2.2.2.2.1 z.2.2.2.2.2.2.2.2.2.2.2.2.2.2.1 z.2.2.2.2.2.2.2.2.2.2.2.2.2.2.2.1 z.2.2.2.2.2.2.2.2.2.2.2.2.2.2.2.2.1 z.2.2.2.2.2.2.2.2.2.2.2.2.2.2.2.2.2.1) (rp_xk dA) t) A) ([.ref h0, .int k, .int w] : List Value).toArray s 0 0 A) (F0 m 0 ls []) := by
    intro   H locs hP hD hS ls hl
    refine lv_iload_n hx hb dX0_task_0 rfl (lv_at hl 2 rfl) ?_
    refine vp_callSi (W.runS (As := [.int w]) (rest := []) ⟨hx, hb, hml, hown, hts⟩ (metX0_inRange l w) (va_cwS 1 hts (lw_S q96 q97 q12 q98) rfl rfl rfl (by decide +kernel) ⟨Nat.le_of_ble_eq_true rfl, Nat.le_of_ble_eq_true rfl⟩) ⟨fun a U g mk q => q, fun U hU hW => ⟨rfl, trivial⟩⟩ rfl rfl hl.1 rfl (lv_room (Nat.le_of_ble_eq_true rfl)) dX0_task_1 ⟨Nat.le_of_ble_eq_true rfl, Nat.le_of_ble_eq_true rfl⟩) (fun r hr9 => ?_)
    subst hr9
    refine rp_beq (tgt := 15) hx hb dX0_task_4 (by decide) (fun c_4 => ?_) (fun c_4 => ?_)
    · have hJ2 := hJ
      have han : rp_a_task S k w = -1 := by unfold rp_a_task; rw [c_4]; rfl
      refine lv_iconst (v := (-1)) hx hb dX0_task_15 (by decide) ?_
      exact W.iret (v := (-1)) hx hb hr (fun t9 ht9 hW9 => ⟨⟨(-1), (st, en, fo, pl, pa, wa, fx, wo, ch, fw, wt, fp, u, v, ho, be, sl, se, pt), rfl, ⟨han.symm, hJ2, hpt⟩, by rw [ht9]; exact hP, va_K.moved hW9.alike hK, hD⟩, hS.F ht9⟩) hS.2.2 dX0_task_16
    · refine lv_aload_n hx hb dX0_task_7 rfl (lv_at hl 0 rfl) ?_
      refine lv_iload_n hx hb dX0_task_8 rfl (lv_at hl 1 rfl) ?_
      have hFc := va_free (wc := rp_xw h0 ad dA pr ba st en fo pl pa wa fx wo ch fw wt fp pw pt u v ho be sl se) hD hS hA [0, 1, 2, 3, 4, 5, 6, 7, 8, 9, 10, 11, 12, 13] rfl
      refine va_calli (va_runV (As := [.int k]) (rest := []) ⟨hx, hb, hml, hown, hts⟩ (metX0_hasRank l dC dI h0 ad dA H.size pr ba st en fo pl pa wa fx wo ch fw wt fp pw pt u v ho be sl se S k hpr hR hSl hpw5 hpt hJ) (cwV 1 hts (lw_V q152 q154 qs8 q12 q155) rfl rfl rfl (by decide +kernel) ⟨Nat.le_of_ble_eq_true rfl, Nat.le_of_ble_eq_true rfl⟩) ⟨fun a U g mk q => by obtain ⟨q0, q1, qP, qK, qD⟩ := q; exact ⟨q0, q1, qP, va_K.moved (u := U) (U := U.calling g mk a) (Vm.Alike.refl U.vm) qK, qD⟩, va_recv hK hP (ci := 0) (q0 := 0) rfl rfl, fun U hU hW => ⟨rfl, by rw [hU], by rw [hU]; exact hP, va_K.moved hW.alike hK, hD.weaken (fun _ _ _ _ => trivial)⟩⟩ rfl rfl hl.1 rfl (lv_room (Nat.le_of_ble_eq_true rfl)) dX0_task_9 ⟨Nat.le_of_ble_eq_true rfl, Nat.le_of_ble_eq_true rfl⟩) hS (fun q _ h => hFc q h) hFc (fun r u_ t H1 locs ht hvm hw hB hz1 hk1 hS => ?_)
      obtain ⟨hP1, hK1, hD1⟩ := hB
      rw [ht] at hP1
      have hD := hD1.weaken (fun k q _ h => hFc q.1 h)
      have hP := hP1
      obtain ⟨st2, en2, fo2, pl2, pa2, wa2, fx2, wo2, ch2, fw2, wt2, fp2, u2, v2, ho2, be2, sl2, se2⟩ := u_
      have hw : r = rp_B (rp_hr S k) ∧ rp_XJ pr ba S st2 en2 fo2 pl2 pa2 wa2 fx2 wo2 ch2 ∧ (rp_hr S k = true → ∃ j, j < 120 ∧ k = nI j ∧ S[j]? = some (pl2 j)) := hw
      obtain ⟨hr9, hJ2, hex⟩ := hw
      subst hr9
      clear hFc hK1 hz1 hk1 hD1 hP1 ht hvm
      generalize H1 = H at hP hS ⊢
      have hP : va_P (dC, dI) rp_cl (rp_xw h0 ad dA pr ba st2 en2 fo2 pl2 pa2 wa2 fx2 wo2 ch2 fw2 wt2 fp2 pw pt u2 v2 ho2 be2 sl2 se2) H := hP
      have hD : va_D A (rp_xw h0 ad dA pr ba st2 en2 fo2 pl2 pa2 wa2 fx2 wo2 ch2 fw2 wt2 fp2 pw pt u2 v2 ho2 be2 sl2 se2) := hD
      refine rp_bne (tgt := 17) hx hb dX0_task_12 (by decide) (fun c_12 => ?_) (fun c_12 => ?_)
      · obtain ⟨j, hj, rfl, hSj⟩ := hex c_12
        have hlt := rp_RL_lt hpr hR hSj
        have hat : rp_at S (nI j) = some (pl2 j) := by rw [rp_at_nI (by omega)]; exact hSj
        obtain ⟨jw, hjw, rfl⟩ := rp_ir_of c_4
        refine lv_aload_n hx hb dX0_task_17 rfl (lv_at hl 0 rfl) ?_
        refine va_get (D := (dC, dI)) (ci := 0) (v := .ref (ad 5)) (C := RX0) (T := TX0) (N := 22) hx hb hts in_X0 hown hK hP 0 rfl rfl 5 (by decide) (hts _ q27) (fun _ h9 => h9) rfl dX0_task_18 ?_
        refine lv_iload_n hx hb dX0_task_21 rfl (lv_at hl 1 rfl) ?_
        refine rp_lald lN pl2 hx hb hK hP 3 2 rfl rfl (i := j) (by omega) (by decide) dX0_task_22 ?_
        refine lv_ldc2 (v := 3125) hx hb hown (hts _ q142) dX0_task_23 ?_
        refine rp_tl (y := lN 3125) (by decide +kernel) ?_
        refine rp_lremN hx hb (by omega) dX0_task_26 ?_
        refine rp_l2iN hx hb dX0_task_27 ?_
        refine lv_istore_n (lv' := [(3, .int (nI ((pl2 j) % 3125))), (0, .ref h0), (1, .int (nI j)), (2, .int (nI jw))]) hx hb dX0_task_28 rfl hl (by decide) rfl (fun ls hl => ?_)
        refine lv_iload_n hx hb dX0_task_29 rfl (lv_at hl 0 rfl) ?_
        refine lv_iload_n hx hb dX0_task_30 rfl (lv_at hl 3 rfl) ?_
        refine vp_callSi (W.runS (As := [.int (nI ((pl2 j) % 3125)), .int (nI jw)]) (rest := []) ⟨hx, hb, hml, hown, hts⟩ (metX0_digit l (pl2 j % 3125) jw (by omega) hjw) (va_cwS 2 hts (lw_S q136 q137 q12 q138) rfl rfl rfl (by decide +kernel) ⟨Nat.le_of_ble_eq_true rfl, Nat.le_of_ble_eq_true rfl⟩) ⟨fun a U g mk q => q, fun U hU hW => ⟨rfl, trivial⟩⟩ rfl rfl hl.1 rfl (lv_room (Nat.le_of_ble_eq_true rfl)) dX0_task_31 ⟨Nat.le_of_ble_eq_true rfl, Nat.le_of_ble_eq_true rfl⟩) (fun r hr9 => ?_)
        subst hr9
        exact W.iret (v := nI (rp_dg (pl2 j % 3125) jw)) hx hb hr (fun t9 ht9 hW9 => ⟨⟨nI (rp_dg (pl2 j % 3125) jw), (st2, en2, fo2, pl2, pa2, wa2, fx2, wo2, ch2, fw2, wt2, fp2, u2, v2, ho2, be2, sl2, se2, pt), rfl, ⟨(rp_task_some hjw hat).symm, hJ2, hpt⟩, by rw [ht9]; exact hP, va_K.moved hW9.alike hK, hD⟩, hS.F ht9⟩) hS.2.2 dX0_task_34
      · have han := rp_task_none (w := w) (rp_hr_f c_12)
        refine lv_iconst (v := (-1)) hx hb dX0_task_15 (by decide) ?_
        exact W.iret (v := (-1)) hx hb hr (fun t9 ht9 hW9 => ⟨⟨(-1), (st2, en2, fo2, pl2, pa2, wa2, fx2, wo2, ch2, fw2, wt2, fp2, u2, v2, ho2, be2, sl2, se2, pt), rfl, ⟨han.symm, hJ2, hpt⟩, by rw [ht9]; exact hP, va_K.moved hW9.alike hK, hD⟩, hS.F ht9⟩) hS.2.2 dX0_task_16
  exact L0 _ _ hP hD hS ls hl
end
section
/-! within, rank, cheapestWith -/
set_option maxRecDepth 100000
set_option maxHeartbeats 4000000 in
/-- within(lim) -/
theorem metX0_within (l : Launch) (dC : Nat → ClassId) (dI : Nat → Nat → Nat) (h0 : Nat) (ad : Nat → Nat) (dA : Nat → ClassId) (sz : Nat) (pr : Nat → Nat) (ba : Nat → Bool) (st : Bool) (en : Bool) (fo : Nat) (pl : Nat → Nat) (pa : Nat) (wa : Nat → Bool) (fx : Nat → Nat) (wo : Nat → Nat) (ch : Nat → Nat) (fw : Nat) (wt : Nat) (fp : Nat) (pw : Nat) (pt : Nat) (u : Nat → Int) (v : Nat → Int) (ho : Nat → Nat) (be : Nat → Nat) (sl : Nat → Int) (se : Nat → Bool) (S : List Nat) (lim : Int32) (hpr : ∀ j, j < 25 → pr j < 100) (hR : rp_RL pr ba S) (hSl : S.length ≤ 120) (hpw5 : pw = 5) (hpt : pt < 5) (hJ : rp_XJ pr ba S st en fo pl pa wa fx wo ch) : Met l yX0_within (ws_ yX0_within cX0_within 4 (some .int)) (rp_rm 10 234) (rp_Pc dC dI [.ref h0, .int lim] sz (rp_xw h0 ad dA pr ba st en fo pl pa wa fx wo ch fw wt fp pw pt u v ho be sl se) (rp_xk dA)) (va_Qi (fun (r : Int32) (z : Bool × Bool × Nat × (Nat → Nat) × Nat × (Nat → Bool) × (Nat → Nat) × (Nat → Nat) × (Nat → Nat) × Nat × Nat × Nat × (Nat → Int) × (Nat → Int) × (Nat → Nat) × (Nat → Nat) × (Nat → Int) × (Nat → Bool) × Nat) => r = rp_a_within S lim ∧ rp_XJ pr ba S z.1 z.2.1 z.2.2.1 z.2.2.2.1 z.2.2.2.2.1 z.2.2.2.2.2.1 z.2.2.2.2.2.2.1 z.2.2.2.2.2.2.2.1 z.2.2.2.2.2.2.2.2.1 ∧ z.2.2.2.2.2.2.2.2.2.2.2.2.2.2.2.2.2.2 < 5) (fun z t => rp_Bc dC dI (va_A (rp_xw h0 ad dA pr ba st en fo pl pa wa fx wo ch fw wt fp pw pt u v ho be sl se) sz) (rp_xw h0 ad dA pr ba z.1 z.2.1 z.2.2.1 z.2.2.2.1 z.2.2.2.2.1 z.2.2.2.2.2.1 z.2.2.2.2.2.2.1 z.2.2.2.2.2.2.2.1 z.2.2.2.2.2.2.2.2.1 z.2.2.2.2.2.2.2.2.2.1 z.2.2.2.2.2.2.2.2.2.2.1 z.2.2.2.2.2.2.2.2.2.2.2.1 pw z.2.2.2.2.2.2.2.2.2.2.2.2.2.2.2.2.2.2 z.2.2.2.2.2.2.2.2.2.2.2.2.1 z.2.2.2.2.2.2.2.2.2.2.2.2.2.1 z.2.2.2.2.2.2.2.2.2.2.2.2.2.2.1 z.2.2.2.2.2.2.2.2.2.2.2.2.2.2.2.1 z.2.2.2.2.2.2.2.2.2.2.2.2.2.2.2.2.1 z.2.2.2.2.2.2.2.2.2.2.2.2.2.2.2.2.2.1) (rp_xk dA) t) (va_A (rp_xw h0 ad dA pr ba st en fo pl pa wa fx wo ch fw wt fp pw pt u v ho be sl se) sz)) 0 0 (va_A (rp_xw h0 ad dA pr ba st en fo pl pa wa fx wo ch fw wt fp pw pt u v ho be sl se) sz) := by
  refine Met.ofW (cc := cX0_within) (maxL := 4) (ret := (some .int)) (by decide) rfl ?_
  intro p e s m args below meth c s₁ B hml hv
  obtain ⟨rfl, hsz, hP, hK, hD0⟩ := hv
  have hx := B.exec
  have hb := B.bytes
  have hr := B.returns
  have hts := atoms_spec (ws := (ws_ yX0_within cX0_within 4 (some .int))) B.pre
  have hts : ∀ w ∈ lw_all, w.before _ s = true := fun w h => hts w (List.mem_cons_of_mem _ h)
  have hown : s.vm.findClass RX0 = some m.cls := findClass_of_methodNamed B.named
  have hlocks := B.notSynchronized
  subst hsz
  have hD := hD0.self (sz := s.heap.size)
  generalize hAe : va_A (rp_xw h0 ad dA pr ba st en fo pl pa wa fx wo ch fw wt fp pw pt u v ho be sl se) s.heap.size = A at hD ⊢
  have hA : ∀ q : Nat, s.heap.size ≤ q → A q := fun q h => by rw [← hAe]; exact Or.inr h
  have hS : va_S A s.heap s.heap [] := va_S.rf
  have hP : va_P (dC, dI) rp_cl (rp_xw h0 ad dA pr ba st en fo pl pa wa fx wo ch fw wt fp pw pt u v ho be sl se) s.heap := hP
  have hl := lv_entry ([.ref h0, .int lim]) (n := 4) (Nat.le_of_ble_eq_true rfl)
  rw [lg_entry_eq]
  generalize (lg_sl ([.ref h0, .int lim]) ++ List.replicate (4 - (lg_sl ([.ref h0, .int lim])).length) Slot.unset).toArray = ls at hl ⊢
  have hl : lv_has ls 4 [(0, .ref h0), (1, .int lim)] := hl
  have L4 : ∀ (n : Nat) (r0 : Nat) (st1 : Bool) (en1 : Bool) (fo1 : Nat) (pl1 : Nat → Nat) (pa1 : Nat) (wa1 : Nat → Bool) (fx1 : Nat → Nat) (wo1 : Nat → Nat) (ch1 : Nat → Nat) (fw1 : Nat) (wt1 : Nat) (fp1 : Nat) (u1 : Nat → Int) (v1 : Nat → Int) (ho1 : Nat → Nat) (be1 : Nat → Nat) (sl1 : Nat → Int) (se1 : Nat → Bool), (120 - r0 < n) → (r0 ≤ 120) → (rp_XJ pr ba S st1 en1 fo1 pl1 pa1 wa1 fx1 wo1 ch1) → (∀ j x, j < r0 → S[j]? = some x → rp_cw lim x = true) → (r0 ≤ S.length) → ∀ (H : Heap) (locs : List Loc), va_P (dC, dI) rp_cl (rp_xw h0 ad dA pr ba st1 en1 fo1 pl1 pa1 wa1 fx1 wo1 ch1 fw1 wt1 fp1 pw pt u1 v1 ho1 be1 sl1 se1) H → va_D A (rp_xw h0 ad dA pr ba st1 en1 fo1 pl1 pa1 wa1 fx1 wo1 ch1 fw1 wt1 fp1 pw pt u1 v1 ho1 be1 sl1 se1) → va_S A s.heap H locs → ∀ (ls : Array Slot), lv_has ls 4 [(3, .int (nI r0)), (2, .int (nI r0)), (1, .int lim), (0, .ref h0)] → W p l e (headSpec (ws_ yX0_within cX0_within 4 (some .int)) (rp_rm 10 234)).room s m ([.ref h0, .int lim] : List Value).toArray below meth c H locs 0 0 (MQ below (va_Qi (fun (r : Int32) (z : Bool × Bool × Nat × (Nat → Nat) × Nat × (Nat → Bool) × (Nat → Nat) × (Nat → Nat) × (Nat → Nat) × Nat × Nat × Nat × (Nat → Int) × (Nat → Int) × (Nat → Nat) × (Nat → Nat) × (Nat → Int) × (Nat → Bool) × Nat) => r = rp_a_within S lim ∧ rp_XJ pr ba S z.1 z.2.1 z.2.2.1 z.2.2.2.1 z.2.2.2.2.1 z.2.2.2.2.2.1 z.2.2.2.2.2.2.1 z.2.2.2.2.2.2.2.1 z.2.2.2.2.2.2.2.2.1 ∧ z.2.2.2.2.2.2.2.2.2.2.2.2.2.2.2.2.2.2 < 5) (fun z t => rp_Bc dC dI A (rp_xw h0 ad dA pr ba z.1 z.2.1 z.2.2.1 z.2.2.2.1 z.2.2.2.2.1 z.2.2.2.2.2.1 z.2.2.2.2.2.2.1 z.2.2.2.2.2.2.2.1 z.2.2.2.2.2.2.2.2.1 z.2.2.2.2.2.2.2.2.2.1 z.2.2.2.2.2.2.2.2.2.2.1 z.2.2.2.2.2.2.2.2.2.2.2.1 pw z.2.2.2.2.2.2.2.2.2.2.2.2.2.2.2.2.2.2 z.2.2.2.2.2.2.2.2.2.2.2.2.1 z.2.2.2.2.2.2.2.2.2.2.2.2.2.1 z.2.2.2.2.2.2.2.2.2.2.2.2.2.2.1 z.2.2.2.2.2.2.2.2.2.2.2.2.2.2.2.1 z.2.2.2.2.2.2.2.2.2.2.2.2.2.2.2.2.1 z.2.2.2.2.2.2.2.2.2.2.2.2.2.2.2.2.2.1) (rp_xk dA) t) A) ([.ref h0, .int lim] : List Value).toArray s 0 0 A) (F0 m 4 ls []) := by
    intro n
    induction n with
    | zero =>
      intro r0 st1 en1 fo1 pl1 pa1 wa1 fx1 wo1 ch1 fw1 wt1 fp1 u1 v1 ho1 be1 sl1 se1 hn hr0 hJ1 hall hrl
      exact absurd hn (by omega)
    | succ n ih =>
      intro r0 st1 en1 fo1 pl1 pa1 wa1 fx1 wo1 ch1 fw1 wt1 fp1 u1 v1 ho1 be1 sl1 se1 hn hr0 hJ1 hall hrl H locs hP hD hS ls hl
      refine lv_iload_n hx hb dX0_within_4 rfl (lv_at hl 0 rfl) ?_
      refine lv_bipush (v := nI 120) hx hb dX0_within_5 (by decide) ?_
      refine rp_icge (tgt := 45) hx hb (by omega) (by omega) dX0_within_7 (by decide) (fun c_7 => ?_) (fun c_7 => ?_)
      · have han : rp_a_within S lim = nI r0 := rp_within_at hR.1 hrl hall (fun x hx => by rw [List.getElem?_eq_none (by omega)] at hx; cases hx)
        have hJ2 := hJ1
        refine lv_iload_n hx hb dX0_within_45 rfl (lv_at hl 1 rfl) ?_
        exact W.iret (v := nI r0) hx hb hr (fun t9 ht9 hW9 => ⟨⟨nI r0, (st1, en1, fo1, pl1, pa1, wa1, fx1, wo1, ch1, fw1, wt1, fp1, u1, v1, ho1, be1, sl1, se1, pt), rfl, ⟨han.symm, hJ2, hpt⟩, by rw [ht9]; exact hP, va_K.moved hW9.alike hK, hD⟩, hS.F ht9⟩) hS.2.2 dX0_within_46
      · refine lv_aload_n hx hb dX0_within_10 rfl (lv_at hl 3 rfl) ?_
        refine lv_iload_n hx hb dX0_within_11 rfl (lv_at hl 0 rfl) ?_
        have hFc := va_free (wc := rp_xw h0 ad dA pr ba st1 en1 fo1 pl1 pa1 wa1 fx1 wo1 ch1 fw1 wt1 fp1 pw pt u1 v1 ho1 be1 sl1 se1) hD hS hA [0, 1, 2, 3, 4, 5, 6, 7, 8, 9, 10, 11, 12, 13] rfl
        refine va_calli (va_runV (As := [.int (nI r0)]) (rest := []) ⟨hx, hb, hml, hown, hts⟩ (metX0_hasRank l dC dI h0 ad dA H.size pr ba st1 en1 fo1 pl1 pa1 wa1 fx1 wo1 ch1 fw1 wt1 fp1 pw pt u1 v1 ho1 be1 sl1 se1 S (nI r0) hpr hR hSl hpw5 hpt hJ1) (cwV 1 hts (lw_V q152 q154 qs8 q12 q155) rfl rfl rfl (by decide +kernel) ⟨Nat.le_of_ble_eq_true rfl, Nat.le_of_ble_eq_true rfl⟩) ⟨fun a U g mk q => by obtain ⟨q0, q1, qP, qK, qD⟩ := q; exact ⟨q0, q1, qP, va_K.moved (u := U) (U := U.calling g mk a) (Vm.Alike.refl U.vm) qK, qD⟩, va_recv hK hP (ci := 0) (q0 := 0) rfl rfl, fun U hU hW => ⟨rfl, by rw [hU], by rw [hU]; exact hP, va_K.moved hW.alike hK, hD.weaken (fun _ _ _ _ => trivial)⟩⟩ rfl rfl hl.1 rfl (lv_room (Nat.le_of_ble_eq_true rfl)) dX0_within_12 ⟨Nat.le_of_ble_eq_true rfl, Nat.le_of_ble_eq_true rfl⟩) hS (fun q _ h => hFc q h) hFc (fun r u_ t H1 locs ht hvm hw hB hz1 hk1 hS => ?_)
        obtain ⟨hP1, hK1, hD1⟩ := hB
        rw [ht] at hP1
        have hD := hD1.weaken (fun k q _ h => hFc q.1 h)
        have hP := hP1
        obtain ⟨st2, en2, fo2, pl2, pa2, wa2, fx2, wo2, ch2, fw2, wt2, fp2, u2, v2, ho2, be2, sl2, se2⟩ := u_
        have hw : r = rp_B (rp_hr S (nI r0)) ∧ rp_XJ pr ba S st2 en2 fo2 pl2 pa2 wa2 fx2 wo2 ch2 ∧ (rp_hr S (nI r0) = true → ∃ j, j < 120 ∧ nI r0 = nI j ∧ S[j]? = some (pl2 j)) := hw
        obtain ⟨hr9, hJ2, hex⟩ := hw
        subst hr9
        clear hFc hK1 hz1 hk1 hD1 hP1 ht hvm
        generalize H1 = H at hP hS ⊢
        have hP : va_P (dC, dI) rp_cl (rp_xw h0 ad dA pr ba st2 en2 fo2 pl2 pa2 wa2 fx2 wo2 ch2 fw2 wt2 fp2 pw pt u2 v2 ho2 be2 sl2 se2) H := hP
        have hD : va_D A (rp_xw h0 ad dA pr ba st2 en2 fo2 pl2 pa2 wa2 fx2 wo2 ch2 fw2 wt2 fp2 pw pt u2 v2 ho2 be2 sl2 se2) := hD
        refine rp_beq (tgt := 34) hx hb dX0_within_15 (by decide) (fun c_15 => ?_) (fun c_15 => ?_)
        · have hno := rp_hr_f c_15
          rw [rp_at_nI (by omega)] at hno
          have han : rp_a_within S lim = nI r0 := rp_within_at hR.1 hrl hall (fun x hx => by rw [hno] at hx; cases hx)
          refine lv_iload_n hx hb dX0_within_34 rfl (lv_at hl 1 rfl) ?_
          exact W.iret (v := nI r0) hx hb hr (fun t9 ht9 hW9 => ⟨⟨nI r0, (st2, en2, fo2, pl2, pa2, wa2, fx2, wo2, ch2, fw2, wt2, fp2, u2, v2, ho2, be2, sl2, se2, pt), rfl, ⟨han.symm, hJ2, hpt⟩, by rw [ht9]; exact hP, va_K.moved hW9.alike hK, hD⟩, hS.F ht9⟩) hS.2.2 dX0_within_35
        · obtain ⟨j, hj, hjr, hSj⟩ := hex c_15
          rw [nI_eq (by omega) (by omega)] at hjr
          subst hjr
          have hlt := rp_RL_lt hpr hR hSj
          have hrl2 := (List.getElem?_eq_some_iff.mp hSj).1
          refine lv_aload_n hx hb dX0_within_18 rfl (lv_at hl 3 rfl) ?_
          refine va_get (D := (dC, dI)) (ci := 0) (v := .ref (ad 5)) (C := RX0) (T := TX0) (N := 22) hx hb hts in_X0 hown hK hP 0 rfl rfl 5 (by decide) (hts _ q27) (fun _ h9 => h9) rfl dX0_within_19 ?_
          refine lv_iload_n hx hb dX0_within_22 rfl (lv_at hl 0 rfl) ?_
          refine rp_lald lN pl2 hx hb hK hP 3 2 rfl rfl (i := r0) (by omega) (by decide) dX0_within_23 ?_
          refine lv_ldc2 (v := 3125) hx hb hown (hts _ q142) dX0_within_24 ?_
          refine rp_tl (y := lN 3125) (by decide +kernel) ?_
          refine rp_ldivN hx hb (by omega) dX0_within_27 ?_
          refine lv_iload_n hx hb dX0_within_28 rfl (lv_at hl 2 rfl) ?_
          refine lv_i2l (v := (lim).toInt64) hx hb dX0_within_29 rfl ?_
          refine rp_lcle (tgt := 36) hx hb dX0_within_30 dX0_within_31 (by decide) (fun c_30 => ?_) (fun c_30 => ?_)
          · rw [rp_l_le (by omega)] at c_30
            have hall2 : ∀ j x, j < r0 + 1 → S[j]? = some x → rp_cw lim x = true := fun j x h1 h2 => by
              rcases Nat.lt_or_ge j r0 with q | q
              · exact hall j x q h2
              · have e : j = r0 := by omega
                rw [e, hSj] at h2
                cases h2
                exact decide_eq_true c_30
            refine lv_iinc (v := nI (r0 + 1)) (lv' := [(2, .int (nI (r0 + 1))), (3, .int (nI r0)), (1, .int lim), (0, .ref h0)]) hx hb dX0_within_36 hl (k := 1) rfl (by exact nI_1 _) (by decide) rfl (fun ls hl => ?_)
            refine lv_iinc (v := nI (r0 + 1)) (lv' := [(3, .int (nI (r0 + 1))), (2, .int (nI (r0 + 1))), (1, .int lim), (0, .ref h0)]) hx hb dX0_within_39 hl (k := 1) rfl (by exact nI_1 _) (by decide) rfl (fun ls hl => ?_)
            refine lv_goto (tgt := 4) hx hb dX0_within_42 (by decide) ?_
            exact ih (r0 + 1) st2 en2 fo2 pl2 pa2 wa2 fx2 wo2 ch2 fw2 wt2 fp2 u2 v2 ho2 be2 sl2 se2 (by omega) (by omega) hJ2 hall2 (by omega) _ _ hP hD hS ls (lv_sub hl [0, 1, 2, 3] rfl)
          · rw [rp_l_le (by omega)] at c_30
            have han : rp_a_within S lim = nI r0 := rp_within_at hR.1 hrl hall (fun x hx => by rw [hSj] at hx; cases hx; exact decide_eq_false c_30)
            refine lv_iload_n hx hb dX0_within_34 rfl (lv_at hl 1 rfl) ?_
            exact W.iret (v := nI r0) hx hb hr (fun t9 ht9 hW9 => ⟨⟨nI r0, (st2, en2, fo2, pl2, pa2, wa2, fx2, wo2, ch2, fw2, wt2, fp2, u2, v2, ho2, be2, sl2, se2, pt), rfl, ⟨han.symm, hJ2, hpt⟩, by rw [ht9]; exact hP, va_K.moved hW9.alike hK, hD⟩, hS.F ht9⟩) hS.2.2 dX0_within_35
  refine lv_iconst (v := nI 0) hx hb dX0_within_0 (by decide) ?_
  refine lv_istore_n (lv' := [(2, .int (nI 0)), (0, .ref h0), (1, .int lim)]) hx hb dX0_within_1 rfl hl (by decide) rfl (fun ls hl => ?_)
  refine lv_iconst (v := nI 0) hx hb dX0_within_2 (by decide) ?_
  refine lv_istore_n (lv' := [(3, .int (nI 0)), (2, .int (nI 0)), (0, .ref h0), (1, .int lim)]) hx hb dX0_within_3 rfl hl (by decide) rfl (fun ls hl => ?_)
  exact L4 121 0 st en fo pl pa wa fx wo ch fw wt fp u v ho be sl se (by omega) (by omega) hJ (fun j x h => by omega) (by omega) _ _ hP hD hS ls (lv_sub hl [0, 1, 3, 2] rfl)
set_option maxHeartbeats 4000000 in
/-- rank(k) -/
theorem metX0_rank (l : Launch) (dC : Nat → ClassId) (dI : Nat → Nat → Nat) (h0 : Nat) (ad : Nat → Nat) (dA : Nat → ClassId) (sz : Nat) (pr : Nat → Nat) (ba : Nat → Bool) (st : Bool) (en : Bool) (fo : Nat) (pl : Nat → Nat) (pa : Nat) (wa : Nat → Bool) (fx : Nat → Nat) (wo : Nat → Nat) (ch : Nat → Nat) (fw : Nat) (wt : Nat) (fp : Nat) (pw : Nat) (pt : Nat) (u : Nat → Int) (v : Nat → Int) (ho : Nat → Nat) (be : Nat → Nat) (sl : Nat → Int) (se : Nat → Bool) (S : List Nat) (k : Int32) (hpr : ∀ j, j < 25 → pr j < 100) (hR : rp_RL pr ba S) (hSl : S.length ≤ 120) (hpw5 : pw = 5) (hpt : pt < 5) (hJ : rp_XJ pr ba S st en fo pl pa wa fx wo ch) : Met l yX0_rank (ws_ yX0_rank cX0_rank 3 (some .int)) (rp_rm 9 213) (rp_Pc dC dI [.ref h0, .int k] sz (rp_xw h0 ad dA pr ba st en fo pl pa wa fx wo ch fw wt fp pw pt u v ho be sl se) (rp_xk dA)) (va_Qi (fun (r : Int32) (z : Bool × Bool × Nat × (Nat → Nat) × Nat × (Nat → Bool) × (Nat → Nat) × (Nat → Nat) × (Nat → Nat) × Nat × Nat × Nat × (Nat → Int) × (Nat → Int) × (Nat → Nat) × (Nat → Nat) × (Nat → Int) × (Nat → Bool) × Nat) => r = rp_a_rank S k ∧ rp_XJ pr ba S z.1 z.2.1 z.2.2.1 z.2.2.2.1 z.2.2.2.2.1 z.2.2.2.2.2.1 z.2.2.2.2.2.2.1 z.2.2.2.2.2.2.2.1 z.2.2.2.2.2.2.2.2.1 ∧ z.2.2.2.2.2.2.2.2.2.2.2.2.2.2.2.2.2.2 < 5) (fun z t => rp_Bc dC dI (va_A (rp_xw h0 ad dA pr ba st en fo pl pa wa fx wo ch fw wt fp pw pt u v ho be sl se) sz) (rp_xw h0 ad dA pr ba z.1 z.2.1 z.2.2.1 z.2.2.2.1 z.2.2.2.2.1 z.2.2.2.2.2.1 z.2.2.2.2.2.2.1 z.2.2.2.2.2.2.2.1 z.2.2.2.2.2.2.2.2.1 z.2.2.2.2.2.2.2.2.2.1 z.2.2.2.2.2.2.2.2.2.2.1 z.2.2.2.2.2.2.2.2.2.2.2.1 pw z.2.2.2.2.2.2.2.2.2.2.2.2.2.2.2.2.2.2 z.2.2.2.2.2.2.2.2.2.2.2.2.1 z.2.2.2.2.2.2.2.2.2.2.2.2.2.1 z.2.2.2.2.2.2.2.2.2.2.2.2.2.2.1 z.2.2.2.2.2.2.2.2.2.2.2.2.2.2.2.1 z.2.2.2.2.2.2.2.2.2.2.2.2.2.2.2.2.1 z.2.2.2.2.2.2.2.2.2.2.2.2.2.2.2.2.2.1) (rp_xk dA) t) (va_A (rp_xw h0 ad dA pr ba st en fo pl pa wa fx wo ch fw wt fp pw pt u v ho be sl se) sz)) 0 0 (va_A (rp_xw h0 ad dA pr ba st en fo pl pa wa fx wo ch fw wt fp pw pt u v ho be sl se) sz) := by
  refine Met.ofW (cc := cX0_rank) (maxL := 3) (ret := (some .int)) (by decide) rfl ?_
  intro p e s m args below meth c s₁ B hml hv
  obtain ⟨rfl, hsz, hP, hK, hD0⟩ := hv
  have hx := B.exec
  have hb := B.bytes
  have hr := B.returns
  have hts := atoms_spec (ws := (ws_ yX0_rank cX0_rank 3 (some .int))) B.pre
  have hts : ∀ w ∈ lw_all, w.before _ s = true := fun w h => hts w (List.mem_cons_of_mem _ h)
  have hown : s.vm.findClass RX0 = some m.cls := findClass_of_methodNamed B.named
  have hlocks := B.notSynchronized
  subst hsz
  have hD := hD0.self (sz := s.heap.size)
  generalize hAe : va_A (rp_xw h0 ad dA pr ba st en fo pl pa wa fx wo ch fw wt fp pw pt u v ho be sl se) s.heap.size = A at hD ⊢
  have hA : ∀ q : Nat, s.heap.size ≤ q → A q := fun q h => by rw [← hAe]; exact Or.inr h
  have hS : va_S A s.heap s.heap [] := va_S.rf
  have hP : va_P (dC, dI) rp_cl (rp_xw h0 ad dA pr ba st en fo pl pa wa fx wo ch fw wt fp pw pt u v ho be sl se) s.heap := hP
  have hl := lv_entry ([.ref h0, .int k]) (n := 3) (Nat.le_of_ble_eq_true rfl)
  rw [lg_entry_eq]
  generalize (lg_sl ([.ref h0, .int k]) ++ List.replicate (3 - (lg_sl ([.ref h0, .int k])).length) Slot.unset).toArray = ls at hl ⊢
  have hl : lv_has ls 3 [(0, .ref h0), (1, .int k)] := hl
  have L0 : ∀ (H : Heap) (locs : List Loc), va_P (dC, dI) rp_cl (rp_xw h0 ad dA pr ba st en fo pl pa wa fx wo ch fw wt fp pw pt u v ho be sl se) H → va_D A (rp_xw h0 ad dA pr ba st en fo pl pa wa fx wo ch fw wt fp pw pt u v ho be sl se) → va_S A s.heap H locs → ∀ (ls : Array Slot), lv_has ls 3 [(0, .ref h0), (1, .int k)] → W p l e (headSpec (ws_ yX0_rank cX0_rank 3 (some .int)) (rp_rm 9 213)).room s m ([.ref h0, .int k] : List Value).toArray below meth c H locs 0 0 (MQ below (va_Qi (fun (r : Int32) (z : Bool × Bool × Nat × (Nat → Nat) × Nat × (Nat → Bool) × (Nat → Nat) × (Nat → Nat) × (Nat → Nat) × Nat × Nat × Nat × (Nat → Int) × (Nat → Int) × (Nat → Nat) × (Nat → Nat) × (Nat → Int) × (Nat → Bool) × Nat) => r = rp_a_rank S k ∧ rp_XJ pr ba S z.1 z.2.1 z.2.2.1 z.2.2.2.1 z.2.2.2.2.1 z.2.2.2.2.2.1 z.2.2.2.2.2.2.1 z.2.2.2.2.2.2.2.1 z.2.2.2.2.2.2.2.2.1 ∧ z.2.2.2.2.2.2.2.2.2.2.2.2.2.2.2.2.2.2 < 5) (fun z t => rp_Bc dC dI A (rp_xw h0 ad dA pr ba z.1 z.2.1 z.2.2.1 z.2.2.2.1 z.2.2.2.2.1 z.2.2.2.2.2.1 z.2.2.2.2.2.2.1 z.2.2.2.2.2.2.2.1 z.2.2.2.2.2.2.2.2.1 z.2.2.2.2.2.2.2.2.2.1 z.2.2.2.2.2.2.2.2.2.2.1 z.2.2.2.2.2.2.2.2.2.2.2.1 pw z.2.2.2.2.2.2.2.2.2.2.2.2.2.2.2.2.2.2 z.2.2.2.2.2.2.2.2.2.2.2.2.1 z.2.2.2.2.2.2.2.2.2.2.2.2.2.1 z.2.2.2.2.2.2.2.2.2.2.2.2.2.2.1 z.2.2.2.2.2.2.2.2.2.2.2.2.2.2.2.1 z.2.2.2.2.2.2.2.2.2.2.2.2.2.2.2.2.1 z.2.2.2.2.2.2.2.2.2.2.2.2.2.2.2.2.2.1) (rp_xk dA) t) A) ([.ref h0, .int k] : List Value).toArray s 0 0 A) (F0 m 0 ls []) := by
    intro   H locs hP hD hS ls hl
    refine lv_aload_n hx hb dX0_rank_0 rfl (lv_at hl 0 rfl) ?_
    refine lv_bipush (v := nI 120) hx hb dX0_rank_1 (by decide) ?_
    have hFc := va_free (wc := rp_xw h0 ad dA pr ba st en fo pl pa wa fx wo ch fw wt fp pw pt u v ho be sl se) hD hS hA [0, 1, 2, 3, 4, 5, 6, 7, 8, 9, 10, 11, 12, 13] rfl
    refine va_callv (va_runV (As := [.int (nI 120)]) (rest := []) ⟨hx, hb, hml, hown, hts⟩ (metX0_findUpTo l dC dI h0 ad dA H.size pr ba st en fo pl pa wa fx wo ch fw wt fp pw pt u v ho be sl se S 120 hpr hR hSl hpw5 hpt hJ (by omega)) (cwV 1 hts (lw_V q107 q109 qs0 q12 q110) rfl rfl rfl (by decide +kernel) ⟨Nat.le_of_ble_eq_true rfl, Nat.le_of_ble_eq_true rfl⟩) ⟨fun a U g mk q => by obtain ⟨q0, q1, qP, qK, qD⟩ := q; exact ⟨q0, q1, qP, va_K.moved (u := U) (U := U.calling g mk a) (Vm.Alike.refl U.vm) qK, qD⟩, va_recv hK hP (ci := 0) (q0 := 0) rfl rfl, fun U hU hW => ⟨rfl, by rw [hU], by rw [hU]; exact hP, va_K.moved hW.alike hK, hD.weaken (fun _ _ _ _ => trivial)⟩⟩ rfl rfl hl.1 rfl (lv_room (Nat.le_of_ble_eq_true rfl)) dX0_rank_3 ⟨Nat.le_of_ble_eq_true rfl, Nat.le_of_ble_eq_true rfl⟩) hS (fun q _ h => hFc q h) hFc (fun u_ t H1 locs ht hvm hw hB hz1 hk1 hS => ?_)
    obtain ⟨hP1, hK1, hD1⟩ := hB
    rw [ht] at hP1
    have hD := hD1.weaken (fun k q _ h => hFc q.1 h)
    have hP := hP1
    obtain ⟨en2, fo2, pl2, pa2, wa2, fx2, wo2, ch2, fw2, wt2, fp2, u2, v2, ho2, be2, sl2, se2⟩ := u_
    have hw : rp_XJ pr ba S true en2 fo2 pl2 pa2 wa2 fx2 wo2 ch2 ∧ (120 ≤ fo2 ∨ fo2 = S.length) := hw
    have hI := (hw.1 rfl).1
    have hfl := rp_XI_le hI
    have hfe : fo2 = S.length := by omega
    clear hFc hK1 hz1 hk1 hD1 hP1 ht hvm
    generalize H1 = H at hP hS ⊢
    have hP : va_P (dC, dI) rp_cl (rp_xw h0 ad dA pr ba true en2 fo2 pl2 pa2 wa2 fx2 wo2 ch2 fw2 wt2 fp2 pw pt u2 v2 ho2 be2 sl2 se2) H := hP
    have hD : va_D A (rp_xw h0 ad dA pr ba true en2 fo2 pl2 pa2 wa2 fx2 wo2 ch2 fw2 wt2 fp2 pw pt u2 v2 ho2 be2 sl2 se2) := hD
    refine lv_iconst (v := nI 0) hx hb dX0_rank_6 (by decide) ?_
    refine lv_istore_n (lv' := [(2, .int (nI 0)), (0, .ref h0), (1, .int k)]) hx hb dX0_rank_7 rfl hl (by decide) rfl (fun ls hl => ?_)
    have L8 : ∀ (n : Nat) (r0 : Nat), (S.length - r0 < n) → (r0 ≤ S.length) → (∀ j y, j < r0 → S[j]? = some y → nI (y % 3125) ≠ k) → ∀ (H : Heap) (locs : List Loc), va_P (dC, dI) rp_cl (rp_xw h0 ad dA pr ba true en2 fo2 pl2 pa2 wa2 fx2 wo2 ch2 fw2 wt2 fp2 pw pt u2 v2 ho2 be2 sl2 se2) H → va_D A (rp_xw h0 ad dA pr ba true en2 fo2 pl2 pa2 wa2 fx2 wo2 ch2 fw2 wt2 fp2 pw pt u2 v2 ho2 be2 sl2 se2) → va_S A s.heap H locs → ∀ (ls : Array Slot), lv_has ls 3 [(2, .int (nI r0)), (1, .int k), (0, .ref h0)] → W p l e (headSpec (ws_ yX0_rank cX0_rank 3 (some .int)) (rp_rm 9 213)).room s m ([.ref h0, .int k] : List Value).toArray below meth c H locs 0 0 (MQ below (va_Qi (fun (r : Int32) (z : Bool × Bool × Nat × (Nat → Nat) × Nat × (Nat → Bool) × (Nat → Nat) × (Nat → Nat) × (Nat → Nat) × Nat × Nat × Nat × (Nat → Int) × (Nat → Int) × (Nat → Nat) × (Nat → Nat) × (Nat → Int) × (Nat → Bool) × Nat) => r = rp_a_rank S k ∧ rp_XJ pr ba S z.1 z.2.1 z.2.2.1 z.2.2.2.1 z.2.2.2.2.1 z.2.2.2.2.2.1 z.2.2.2.2.2.2.1 z.2.2.2.2.2.2.2.1 z.2.2.2.2.2.2.2.2.1 ∧ z.2.2.2.2.2.2.2.2.2.2.2.2.2.2.2.2.2.2 < 5) (fun z t => rp_Bc dC dI A (rp_xw h0 ad dA pr ba z.1 z.2.1 z.2.2.1 z.2.2.2.1 z.2.2.2.2.1 z.2.2.2.2.2.1 z.2.2.2.2.2.2.1 z.2.2.2.2.2.2.2.1 z.2.2.2.2.2.2.2.2.1 z.2.2.2.2.2.2.2.2.2.1 z.2.2.2.2.2.2.2.2.2.2.1 z.2.2.2.2.2.2.2.2.2.2.2.1 pw z.2.2.2.2.2.2.2.2.2.2.2.2.2.2.2.2.2.2 z.2.2.2.2.2.2.2.2.2.2.2.2.1 z.2.2.2.2.2.2.2.2.2.2.2.2.2.1 z.2.2.2.2.2.2.2.2.2.2.2.2.2.2.1 z.2.2.2.2.2.2.2.2.2.2.2.2.2.2.2.1 z.2.2.2.2.2.2.2.2.2.2.2.2.2.2.2.2.1 z.2.2.2.2.2.2.2.2.2.2.2.2.2.2.2.2.2.1) (rp_xk dA) t) A) ([.ref h0, .int k] : List Value).toArray s 0 0 A) (F0 m 8 ls []) := by
      intro n
      induction n with
      | zero =>
        intro r0 hn hr0 hall
        exact absurd hn (by omega)
      | succ n ih =>
        intro r0 hn hr0 hall H locs hP hD hS ls hl
        refine lv_iload_n hx hb dX0_rank_8 rfl (lv_at hl 0 rfl) ?_
        refine lv_aload_n hx hb dX0_rank_9 rfl (lv_at hl 2 rfl) ?_
        refine va_get (D := (dC, dI)) (ci := 0) (v := .int (nI fo2)) (C := RX0) (T := TX0) (N := 22) hx hb hts in_X0 hown hK hP 0 rfl rfl 4 (by decide) (hts _ q26) (fun _ h9 => h9) rfl dX0_rank_10 ?_
        refine rp_icge (tgt := 40) hx hb (by omega) (by omega) dX0_rank_13 (by decide) (fun c_13 => ?_) (fun c_13 => ?_)
        · have han : rp_a_rank S k = -1 := rp_rank_no (fun j y h => hall j y (by have := (List.getElem?_eq_some_iff.mp h).1; omega) h)
          refine lv_iconst (v := (-1)) hx hb dX0_rank_40 (by decide) ?_
          exact W.iret (v := (-1)) hx hb hr (fun t9 ht9 hW9 => ⟨⟨(-1), (true, en2, fo2, pl2, pa2, wa2, fx2, wo2, ch2, fw2, wt2, fp2, u2, v2, ho2, be2, sl2, se2, pt), rfl, ⟨han.symm, hw.1, hpt⟩, by rw [ht9]; exact hP, va_K.moved hW9.alike hK, hD⟩, hS.F ht9⟩) hS.2.2 dX0_rank_41
        · have hSj := hI.1 r0 c_13
          have hlt := rp_RL_lt hpr hR hSj
          refine lv_aload_n hx hb dX0_rank_16 rfl (lv_at hl 2 rfl) ?_
          refine va_get (D := (dC, dI)) (ci := 0) (v := .ref (ad 5)) (C := RX0) (T := TX0) (N := 22) hx hb hts in_X0 hown hK hP 0 rfl rfl 5 (by decide) (hts _ q27) (fun _ h9 => h9) rfl dX0_rank_17 ?_
          refine lv_iload_n hx hb dX0_rank_20 rfl (lv_at hl 0 rfl) ?_
          refine rp_lald lN pl2 hx hb hK hP 3 2 rfl rfl (i := r0) (by omega) (by decide) dX0_rank_21 ?_
          refine lv_ldc2 (v := 3125) hx hb hown (hts _ q142) dX0_rank_22 ?_
          refine rp_tl (y := lN 3125) (by decide +kernel) ?_
          refine rp_lremN hx hb (by omega) dX0_rank_25 ?_
          refine lv_iload_n hx hb dX0_rank_26 rfl (lv_at hl 1 rfl) ?_
          refine lv_i2l (v := (k).toInt64) hx hb dX0_rank_27 rfl ?_
          refine rp_lcne (tgt := 34) hx hb dX0_rank_28 dX0_rank_29 (by decide) (fun c_28 => ?_) (fun c_28 => ?_)
          · rw [rp_l_eq (by omega)] at c_28
            have hall2 : ∀ j y, j < r0 + 1 → S[j]? = some y → nI (y % 3125) ≠ k := fun j x h1 h2 => by
              rcases Nat.lt_or_ge j r0 with q | q
              · exact hall j x q h2
              · have e : j = r0 := by omega
                rw [e, hSj] at h2
                cases h2
                exact c_28
            refine lv_iinc (v := nI (r0 + 1)) (lv' := [(2, .int (nI (r0 + 1))), (1, .int k), (0, .ref h0)]) hx hb dX0_rank_34 hl (k := 0) rfl (by exact nI_1 _) (by decide) rfl (fun ls hl => ?_)
            refine lv_goto (tgt := 8) hx hb dX0_rank_37 (by decide) ?_
            exact ih (r0 + 1) (by omega) (by omega) hall2 _ _ hP hD hS ls (lv_sub hl [0, 1, 2] rfl)
          · rw [rp_l_eq (by omega)] at c_28
            have han := rp_rank_at hall hSj c_28
            refine lv_iload_n hx hb dX0_rank_32 rfl (lv_at hl 0 rfl) ?_
            exact W.iret (v := nI r0) hx hb hr (fun t9 ht9 hW9 => ⟨⟨nI r0, (true, en2, fo2, pl2, pa2, wa2, fx2, wo2, ch2, fw2, wt2, fp2, u2, v2, ho2, be2, sl2, se2, pt), rfl, ⟨han.symm, hw.1, hpt⟩, by rw [ht9]; exact hP, va_K.moved hW9.alike hK, hD⟩, hS.F ht9⟩) hS.2.2 dX0_rank_33
    exact L8 (S.length + 1) 0 (by omega) (by omega) (fun j y h => by omega) _ _ hP hD hS ls (lv_sub hl [0, 2, 1] rfl)
  exact L0 _ _ hP hD hS ls hl
set_option maxHeartbeats 4000000 in
/-- cheapestWith(w, t) -/
theorem metX0_cheapestWith (l : Launch) (dC : Nat → ClassId) (dI : Nat → Nat → Nat) (h0 : Nat) (ad : Nat → Nat) (dA : Nat → ClassId) (sz : Nat) (pr : Nat → Nat) (ba : Nat → Bool) (st : Bool) (en : Bool) (fo : Nat) (pl : Nat → Nat) (pa : Nat) (wa : Nat → Bool) (fx : Nat → Nat) (wo : Nat → Nat) (ch : Nat → Nat) (fw : Nat) (wt : Nat) (fp : Nat) (pw : Nat) (pt : Nat) (u : Nat → Int) (v : Nat → Int) (ho : Nat → Nat) (be : Nat → Nat) (sl : Nat → Int) (se : Nat → Bool) (S : List Nat) (w t : Int32) (hpr : ∀ j, j < 25 → pr j < 100) (hR : rp_RL pr ba S) (hSl : S.length ≤ 120) (hpw5 : pw = 5) (hpt : pt < 5) (hJ : rp_XJ pr ba S st en fo pl pa wa fx wo ch) : Met l yX0_cheapestWith (ws_ yX0_cheapestWith cX0_cheapestWith 5 (some .int)) (rp_rm 6 139) (rp_Pc dC dI [.ref h0, .int w, .int t] sz (rp_xw h0 ad dA pr ba st en fo pl pa wa fx wo ch fw wt fp pw pt u v ho be sl se) (rp_xk dA)) (va_Qi (fun (r : Int32) (z : Bool × Bool × Nat × (Nat → Nat) × Nat × (Nat → Bool) × (Nat → Nat) × (Nat → Nat) × (Nat → Nat) × Nat × Nat × Nat × (Nat → Int) × (Nat → Int) × (Nat → Nat) × (Nat → Nat) × (Nat → Int) × (Nat → Bool) × Nat) => r = rp_a_with S w t ∧ rp_XJ pr ba S z.1 z.2.1 z.2.2.1 z.2.2.2.1 z.2.2.2.2.1 z.2.2.2.2.2.1 z.2.2.2.2.2.2.1 z.2.2.2.2.2.2.2.1 z.2.2.2.2.2.2.2.2.1 ∧ z.2.2.2.2.2.2.2.2.2.2.2.2.2.2.2.2.2.2 < 5) (fun z t => rp_Bc dC dI (va_A (rp_xw h0 ad dA pr ba st en fo pl pa wa fx wo ch fw wt fp pw pt u v ho be sl se) sz) (rp_xw h0 ad dA pr ba z.1 z.2.1 z.2.2.1 z.2.2.2.1 z.2.2.2.2.1 z.2.2.2.2.2.1 z.2.2.2.2.2.2.1 z.2.2.2.2.2.2.2.1 z.2.2.2.2.2.2.2.2.1 z.2.2.2.2.2.2.2.2.2.1 z.2.2.2.2.2.2.2.2.2.2.1 z.2.2.2.2.2.2.2.2.2.2.2.1 pw z.2.2.2.2.2.2.2.2.2.2.2.2.2.2.2.2.2.2 z.2.2.2.2.2.2.2.2.2.2.2.2.1 z.2.2.2.2.2.2.2.2.2.2.2.2.2.1 z.2.2.2.2.2.2.2.2.2.2.2.2.2.2.1 z.2.2.2.2.2.2.2.2.2.2.2.2.2.2.2.1 z.2.2.2.2.2.2.2.2.2.2.2.2.2.2.2.2.1 z.2.2.2.2.2.2.2.2.2.2.2.2.2.2.2.2.2.1) (rp_xk dA) t) (va_A (rp_xw h0 ad dA pr ba st en fo pl pa wa fx wo ch fw wt fp pw pt u v ho be sl se) sz)) 0 0 (va_A (rp_xw h0 ad dA pr ba st en fo pl pa wa fx wo ch fw wt fp pw pt u v ho be sl se) sz) := by
  refine Met.ofW (cc := cX0_cheapestWith) (maxL := 5) (ret := (some .int)) (by decide) rfl ?_
  intro p e s m args below meth c s₁ B hml hv
  obtain ⟨rfl, hsz, hP, hK, hD0⟩ := hv
  have hx := B.exec
  have hb := B.bytes
  have hr := B.returns
  have hts := atoms_spec (ws := (ws_ yX0_cheapestWith cX0_cheapestWith 5 (some .int))) B.pre
  have hts : ∀ w ∈ lw_all, w.before _ s = true := fun w h => hts w (List.mem_cons_of_mem _ h)
  have hown : s.vm.findClass RX0 = some m.cls := findClass_of_methodNamed B.named
  have hlocks := B.notSynchronized
  subst hsz
  have hD := hD0.self (sz := s.heap.size)
  generalize hAe : va_A (rp_xw h0 ad dA pr ba st en fo pl pa wa fx wo ch fw wt fp pw pt u v ho be sl se) s.heap.size = A at hD ⊢
  have hA : ∀ q : Nat, s.heap.size ≤ q → A q := fun q h => by rw [← hAe]; exact Or.inr h
  have hS : va_S A s.heap s.heap [] := va_S.rf
  have hP : va_P (dC, dI) rp_cl (rp_xw h0 ad dA pr ba st en fo pl pa wa fx wo ch fw wt fp pw pt u v ho be sl se) s.heap := hP
  have hl := lv_entry ([.ref h0, .int w, .int t]) (n := 5) (Nat.le_of_ble_eq_true rfl)
  rw [lg_entry_eq]
  generalize (lg_sl ([.ref h0, .int w, .int t]) ++ List.replicate (5 - (lg_sl ([.ref h0, .int w, .int t])).length) Slot.unset).toArray = ls at hl ⊢
  have hl : lv_has ls 5 [(0, .ref h0), (1, .int w), (2, .int t)] := hl
  have L0 : ∀ (H : Heap) (locs : List Loc), va_P (dC, dI) rp_cl (rp_xw h0 ad dA pr ba st en fo pl pa wa fx wo ch fw wt fp pw pt u v ho be sl se) H → va_D A (rp_xw h0 ad dA pr ba st en fo pl pa wa fx wo ch fw wt fp pw pt u v ho be sl se) → va_S A s.heap H locs → ∀ (ls : Array Slot), lv_has ls 5 [(0, .ref h0), (1, .int w), (2, .int t)] → W p l e (headSpec (ws_ yX0_cheapestWith cX0_cheapestWith 5 (some .int)) (rp_rm 6 139)).room s m ([.ref h0, .int w, .int t] : List Value).toArray below meth c H locs 0 0 (MQ below (va_Qi (fun (r : Int32) (z : Bool × Bool × Nat × (Nat → Nat) × Nat × (Nat → Bool) × (Nat → Nat) × (Nat → Nat) × (Nat → Nat) × Nat × Nat × Nat × (Nat → Int) × (Nat → Int) × (Nat → Nat) × (Nat → Nat) × (Nat → Int) × (Nat → Bool) × Nat) => r = rp_a_with S w t ∧ rp_XJ pr ba S z.1 z.2.1 z.2.2.1 z.2.2.2.1 z.2.2.2.2.1 z.2.2.2.2.2.1 z.2.2.2.2.2.2.1 z.2.2.2.2.2.2.2.1 z.2.2.2.2.2.2.2.2.1 ∧ z.2.2.2.2.2.2.2.2.2.2.2.2.2.2.2.2.2.2 < 5) (fun z t => rp_Bc dC dI A (rp_xw h0 ad dA pr ba z.1 z.2.1 z.2.2.1 z.2.2.2.1 z.2.2.2.2.1 z.2.2.2.2.2.1 z.2.2.2.2.2.2.1 z.2.2.2.2.2.2.2.1 z.2.2.2.2.2.2.2.2.1 z.2.2.2.2.2.2.2.2.2.1 z.2.2.2.2.2.2.2.2.2.2.1 z.2.2.2.2.2.2.2.2.2.2.2.1 pw z.2.2.2.2.2.2.2.2.2.2.2.2.2.2.2.2.2.2 z.2.2.2.2.2.2.2.2.2.2.2.2.1 z.2.2.2.2.2.2.2.2.2.2.2.2.2.1 z.2.2.2.2.2.2.2.2.2.2.2.2.2.2.1 z.2.2.2.2.2.2.2.2.2.2.2.2.2.2.2.1 z.2.2.2.2.2.2.2.2.2.2.2.2.2.2.2.2.1 z.2.2.2.2.2.2.2.2.2.2.2.2.2.2.2.2.2.1) (rp_xk dA) t) A) ([.ref h0, .int w, .int t] : List Value).toArray s 0 0 A) (F0 m 0 ls []) := by
    intro   H locs hP hD hS ls hl
    refine lv_iload_n hx hb dX0_cheapestWith_0 rfl (lv_at hl 1 rfl) ?_
    refine vp_callSi (W.runS (As := [.int w]) (rest := []) ⟨hx, hb, hml, hown, hts⟩ (metX0_inRange l w) (va_cwS 1 hts (lw_S q96 q97 q12 q98) rfl rfl rfl (by decide +kernel) ⟨Nat.le_of_ble_eq_true rfl, Nat.le_of_ble_eq_true rfl⟩) ⟨fun a U g mk q => q, fun U hU hW => ⟨rfl, trivial⟩⟩ rfl rfl hl.1 rfl (lv_room (Nat.le_of_ble_eq_true rfl)) dX0_cheapestWith_1 ⟨Nat.le_of_ble_eq_true rfl, Nat.le_of_ble_eq_true rfl⟩) (fun r hr9 => ?_)
    subst hr9
    refine rp_beq (tgt := 14) hx hb dX0_cheapestWith_4 (by decide) (fun c_4 => ?_) (fun c_4 => ?_)
    · have han : rp_a_with S w t = -1 := by unfold rp_a_with; rw [if_neg (fun h => by rw [c_4] at h; cases h.1)]
      refine lv_iconst (v := (-1)) hx hb dX0_cheapestWith_14 (by decide) ?_
      exact W.iret (v := (-1)) hx hb hr (fun t9 ht9 hW9 => ⟨⟨(-1), (st, en, fo, pl, pa, wa, fx, wo, ch, fw, wt, fp, u, v, ho, be, sl, se, pt), rfl, ⟨han.symm, hJ, hpt⟩, by rw [ht9]; exact hP, va_K.moved hW9.alike hK, hD⟩, hS.F ht9⟩) hS.2.2 dX0_cheapestWith_15
    · refine lv_iload_n hx hb dX0_cheapestWith_7 rfl (lv_at hl 2 rfl) ?_
      refine vp_callSi (W.runS (As := [.int t]) (rest := []) ⟨hx, hb, hml, hown, hts⟩ (metX0_inRange l t) (va_cwS 1 hts (lw_S q96 q97 q12 q98) rfl rfl rfl (by decide +kernel) ⟨Nat.le_of_ble_eq_true rfl, Nat.le_of_ble_eq_true rfl⟩) ⟨fun a U g mk q => q, fun U hU hW => ⟨rfl, trivial⟩⟩ rfl rfl hl.1 rfl (lv_room (Nat.le_of_ble_eq_true rfl)) dX0_cheapestWith_8 ⟨Nat.le_of_ble_eq_true rfl, Nat.le_of_ble_eq_true rfl⟩) (fun r hr9 => ?_)
      subst hr9
      refine rp_bne (tgt := 16) hx hb dX0_cheapestWith_11 (by decide) (fun c_11 => ?_) (fun c_11 => ?_)
      · obtain ⟨jw, hjw, rfl⟩ := rp_ir_of c_4
        obtain ⟨jt, hjt, rfl⟩ := rp_ir_of c_11
        refine lv_aload_n hx hb dX0_cheapestWith_16 rfl (lv_at hl 0 rfl) ?_
        refine lv_iload_n hx hb dX0_cheapestWith_17 rfl (lv_at hl 1 rfl) ?_
        refine rp_ti (rp_P_lt jw hjw) ?_
        refine va_put (D := (dC, dI)) (ci := 0) (v := .int (rp_P jw)) (ty := .int) (C := RX0) (T := TX0) (N := 22) hx hb hts in_X0 tyX0 tyX0_ok nmX0 hown hK hP hD hS 0 rfl rfl 14 (by decide) (hts _ q36) (fun _ h9 => h9) rfl (by decide +kernel) rfl rfl (Nat.le_of_ble_eq_true rfl) dX0_cheapestWith_18 (fun H locs hP hD hS => ?_)
        have hP : va_P (dC, dI) rp_cl (rp_xw h0 ad dA pr ba st en fo pl pa wa fx wo ch fw wt fp jw pt u v ho be sl se) H := hP
        have hD : va_D A (rp_xw h0 ad dA pr ba st en fo pl pa wa fx wo ch fw wt fp jw pt u v ho be sl se) := hD
        refine lv_aload_n hx hb dX0_cheapestWith_21 rfl (lv_at hl 0 rfl) ?_
        refine lv_iload_n hx hb dX0_cheapestWith_22 rfl (lv_at hl 2 rfl) ?_
        refine va_put (D := (dC, dI)) (ci := 0) (v := .int (nI jt)) (ty := .int) (C := RX0) (T := TX0) (N := 22) hx hb hts in_X0 tyX0 tyX0_ok nmX0 hown hK hP hD hS 0 rfl rfl 15 (by decide) (hts _ q37) (fun _ h9 => h9) rfl (by decide +kernel) rfl rfl (Nat.le_of_ble_eq_true rfl) dX0_cheapestWith_23 (fun H locs hP hD hS => ?_)
        have hP : va_P (dC, dI) rp_cl (rp_xw h0 ad dA pr ba st en fo pl pa wa fx wo ch fw wt fp jw jt u v ho be sl se) H := hP
        have hD : va_D A (rp_xw h0 ad dA pr ba st en fo pl pa wa fx wo ch fw wt fp jw jt u v ho be sl se) := hD
        refine lv_aload_n hx hb dX0_cheapestWith_26 rfl (lv_at hl 0 rfl) ?_
        refine lv_iconst (v := nI 0) hx hb dX0_cheapestWith_27 (by decide) ?_
        refine lv_iconst (v := nI 0) hx hb dX0_cheapestWith_28 (by decide) ?_
        refine lv_iconst (v := nI 0) hx hb dX0_cheapestWith_29 (by decide) ?_
        have hFc := va_free (wc := rp_xw h0 ad dA pr ba st en fo pl pa wa fx wo ch fw wt fp jw jt u v ho be sl se) hD hS hA [0, 1, 2, 3, 4, 5, 6, 7, 8, 9, 10, 11, 12, 13] rfl
        refine va_callv (va_runV (As := [.int (nI 0), .int (nI 0), .int (nI 0)]) (rest := []) ⟨hx, hb, hml, hown, hts⟩ (metX0_setPart l dC dI h0 ad dA H.size pr ba st en fo pl pa wa fx wo ch fw wt fp jw jt u v ho be sl se 0 0 0) (cwV 3 hts (lw_V q115 q117 qs2 q12 q118) rfl rfl rfl (by decide +kernel) ⟨Nat.le_of_ble_eq_true rfl, Nat.le_of_ble_eq_true rfl⟩) ⟨fun a U g mk q => by obtain ⟨q0, q1, qP, qK, qD⟩ := q; exact ⟨q0, q1, qP, va_K.moved (u := U) (U := U.calling g mk a) (Vm.Alike.refl U.vm) qK, qD⟩, va_recv hK hP (ci := 0) (q0 := 0) rfl rfl, fun U hU hW => ⟨rfl, by rw [hU], by rw [hU]; exact hP, va_K.moved hW.alike hK, hD.weaken (fun _ _ _ _ => trivial)⟩⟩ rfl rfl hl.1 rfl (lv_room (Nat.le_of_ble_eq_true rfl)) dX0_cheapestWith_30 ⟨Nat.le_of_ble_eq_true rfl, Nat.le_of_ble_eq_true rfl⟩) hS (fun q _ h => hFc q h) hFc (fun u_ t H1 locs ht hvm hw hB hz1 hk1 hS => ?_)
        obtain ⟨hP1, hK1, hD1⟩ := hB
        rw [ht] at hP1
        have hD := hD1.weaken (fun k q _ h => hFc q.1 h)
        have hP := hP1
        clear hFc hK1 hz1 hk1 hD1 hP1 ht hvm
        generalize H1 = H at hP hS ⊢
        have hP : va_P (dC, dI) rp_cl (rp_xw h0 ad dA pr ba st en fo pl pa wa fx wo ch 0 0 0 jw jt u v ho be sl se) H := hP
        have hD : va_D A (rp_xw h0 ad dA pr ba st en fo pl pa wa fx wo ch 0 0 0 jw jt u v ho be sl se) := hD
        refine lv_aload_n hx hb dX0_cheapestWith_33 rfl (lv_at hl 0 rfl) ?_
        have hFc := va_free (wc := rp_xw h0 ad dA pr ba st en fo pl pa wa fx wo ch 0 0 0 jw jt u v ho be sl se) hD hS hA [0, 1, 2, 3, 4, 5, 6, 7, 8, 9, 10, 11, 12, 13] rfl
        refine va_calll (va_runV (As := []) (rest := []) ⟨hx, hb, hml, hown, hts⟩ (metX0_solve l dC dI h0 ad dA H.size pr ba st en fo pl pa wa fx wo ch 0 0 0 jw jt u v ho be sl se hpr (by omega) (by omega) (by omega) (by omega) hjt) (cwV 0 hts (lw_V q119 q121 qs3 q12 q122) rfl rfl rfl (by decide +kernel) ⟨Nat.le_of_ble_eq_true rfl, Nat.le_of_ble_eq_true rfl⟩) ⟨fun a U g mk q => by obtain ⟨q0, q1, qP, qK, qD⟩ := q; exact ⟨q0, q1, qP, va_K.moved (u := U) (U := U.calling g mk a) (Vm.Alike.refl U.vm) qK, qD⟩, va_recv hK hP (ci := 0) (q0 := 0) rfl rfl, fun U hU hW => ⟨rfl, by rw [hU], by rw [hU]; exact hP, va_K.moved hW.alike hK, hD.weaken (fun _ _ _ _ => trivial)⟩⟩ rfl rfl hl.1 rfl (lv_room (Nat.le_of_ble_eq_true rfl)) dX0_cheapestWith_34 ⟨Nat.le_of_ble_eq_true rfl, Nat.le_of_ble_eq_true rfl⟩) hS (fun q _ h => hFc q h) hFc (fun r u_ t H1 locs ht hvm hw hB hz1 hk1 hS => ?_)
        obtain ⟨hP1, hK1, hD1⟩ := hB
        rw [ht] at hP1
        have hD := hD1.weaken (fun k q _ h => hFc q.1 h)
        have hP := hP1
        obtain ⟨u2, v2, ho2, be2, sl2, se2⟩ := u_
        have hw : ∃ mn, r = lN mn ∧ rp_min (rp_C pr ba 0 0 0 jw jt) mn := hw
        obtain ⟨mn, hr9, hmn⟩ := hw
        subst hr9
        have hmb := rp_min_le hpr hmn
        clear hFc hK1 hz1 hk1 hD1 hP1 ht hvm
        generalize H1 = H at hP hS ⊢
        have hP : va_P (dC, dI) rp_cl (rp_xw h0 ad dA pr ba st en fo pl pa wa fx wo ch 0 0 0 jw jt u2 v2 ho2 be2 sl2 se2) H := hP
        have hD : va_D A (rp_xw h0 ad dA pr ba st en fo pl pa wa fx wo ch 0 0 0 jw jt u2 v2 ho2 be2 sl2 se2) := hD
        refine lv_lstore_n (lv' := [(3, .long (lN mn)), (0, .ref h0), (1, .int (nI jw)), (2, .int (nI jt))]) hx hb dX0_cheapestWith_37 rfl hl (by decide) rfl (fun ls hl => ?_)
        refine lv_aload_n hx hb dX0_cheapestWith_38 rfl (lv_at hl 1 rfl) ?_
        refine lv_iconst (v := rp_P 5) hx hb dX0_cheapestWith_39 (by decide) ?_
        refine va_put (D := (dC, dI)) (ci := 0) (v := .int (rp_P 5)) (ty := .int) (C := RX0) (T := TX0) (N := 22) hx hb hts in_X0 tyX0 tyX0_ok nmX0 hown hK hP hD hS 0 rfl rfl 14 (by decide) (hts _ q36) (fun _ h9 => h9) rfl (by decide +kernel) rfl rfl (Nat.le_of_ble_eq_true rfl) dX0_cheapestWith_40 (fun H locs hP hD hS => ?_)
        have hP : va_P (dC, dI) rp_cl (rp_xw h0 ad dA pr ba st en fo pl pa wa fx wo ch 0 0 0 5 jt u2 v2 ho2 be2 sl2 se2) H := hP
        have hD : va_D A (rp_xw h0 ad dA pr ba st en fo pl pa wa fx wo ch 0 0 0 5 jt u2 v2 ho2 be2 sl2 se2) := hD
        refine lv_lload_n hx hb dX0_cheapestWith_43 rfl (lv_at hl 0 rfl) ?_
        refine lv_ldc2 (v := 1000000000) hx hb hown (hts _ q143) dX0_cheapestWith_44 ?_
        refine rp_tl (y := lN 1000000000) (by decide +kernel) ?_
        refine rp_lclt (tgt := 55) hx hb dX0_cheapestWith_47 dX0_cheapestWith_48 (by decide) (fun c_47 => ?_) (fun c_47 => ?_)
        · rw [pk_lLT (by omega) (by omega)] at c_47
          have han := rp_with_yes hpr hR hjw hjt hmn c_47
          have hP : va_P (dC, dI) rp_cl (rp_xw h0 ad dA pr ba st en fo pl pa wa fx wo ch 0 0 0 pw jt u2 v2 ho2 be2 sl2 se2) H := by rw [hpw5]; exact hP
          have hD : va_D A (rp_xw h0 ad dA pr ba st en fo pl pa wa fx wo ch 0 0 0 pw jt u2 v2 ho2 be2 sl2 se2) := by rw [hpw5]; exact hD
          refine lv_lload_n hx hb dX0_cheapestWith_55 rfl (lv_at hl 0 rfl) ?_
          refine lv_ldc2 (v := 3125) hx hb hown (hts _ q142) dX0_cheapestWith_56 ?_
          refine rp_tl (y := lN 3125) (by decide +kernel) ?_
          refine rp_ldivN hx hb (by omega) dX0_cheapestWith_59 ?_
          refine rp_l2iN hx hb dX0_cheapestWith_60 ?_
          exact W.iret (v := nI (mn / 3125)) hx hb hr (fun t9 ht9 hW9 => ⟨⟨nI (mn / 3125), (st, en, fo, pl, pa, wa, fx, wo, ch, 0, 0, 0, u2, v2, ho2, be2, sl2, se2, jt), rfl, ⟨han.symm, hJ, hjt⟩, by rw [ht9]; exact hP, va_K.moved hW9.alike hK, hD⟩, hS.F ht9⟩) hS.2.2 dX0_cheapestWith_61
        · rw [pk_lLT (by omega) (by omega)] at c_47
          have han := rp_with_no hpr hR hjw hjt hmn (by omega)
          have hP : va_P (dC, dI) rp_cl (rp_xw h0 ad dA pr ba st en fo pl pa wa fx wo ch 0 0 0 pw jt u2 v2 ho2 be2 sl2 se2) H := by rw [hpw5]; exact hP
          have hD : va_D A (rp_xw h0 ad dA pr ba st en fo pl pa wa fx wo ch 0 0 0 pw jt u2 v2 ho2 be2 sl2 se2) := by rw [hpw5]; exact hD
          refine lv_iconst (v := (-1)) hx hb dX0_cheapestWith_51 (by decide) ?_
          refine lv_goto (tgt := 61) hx hb dX0_cheapestWith_52 (by decide) ?_
          exact W.iret (v := (-1)) hx hb hr (fun t9 ht9 hW9 => ⟨⟨(-1), (st, en, fo, pl, pa, wa, fx, wo, ch, 0, 0, 0, u2, v2, ho2, be2, sl2, se2, jt), rfl, ⟨han.symm, hJ, hjt⟩, by rw [ht9]; exact hP, va_K.moved hW9.alike hK, hD⟩, hS.F ht9⟩) hS.2.2 dX0_cheapestWith_61
      · have han : rp_a_with S w t = -1 := by unfold rp_a_with; rw [if_neg (fun h => by rw [c_11] at h; cases h.2)]
        refine lv_iconst (v := (-1)) hx hb dX0_cheapestWith_14 (by decide) ?_
        exact W.iret (v := (-1)) hx hb hr (fun t9 ht9 hW9 => ⟨⟨(-1), (st, en, fo, pl, pa, wa, fx, wo, ch, fw, wt, fp, u, v, ho, be, sl, se, pt), rfl, ⟨han.symm, hJ, hpt⟩, by rw [ht9]; exact hP, va_K.moved hW9.alike hK, hD⟩, hS.F ht9⟩) hS.2.2 dX0_cheapestWith_15
  exact L0 _ _ hP hD hS ls hl
end
section
/-! the reference, pure: the price of a plan, the listing -/
set_option maxRecDepth 100000
def rp_co (pr : Nat → Nat) (ba : Nat → Bool) (n : Nat) : Int32 := if rp_ok ba n = true then nI (rp_cs pr n) else -1
theorem rp_M_f {pr : Nat → Nat} {ba : Nat → Bool} {j : Nat} (h : ba j = false) : rp_M pr ba j = nI (pr j) := by unfold rp_M; rw [h]; rfl
theorem rp_M_ge {pr : Nat → Nat} {ba : Nat → Bool} {j : Nat} (hp : pr j < 100) : 0 ≤ rp_M pr ba j ↔ ba j = false := by
  cases h : ba j with
  | true =>
    unfold rp_M
    rw [h, if_pos rfl]
    decide
  | false =>
    rw [rp_M_f h]
    exact ⟨fun _ => rfl, fun _ => nI_pos' (by omega)⟩
theorem rp_pm_dec : ∀ a b c d e : Fin 5, ([a.val, b.val, c.val, d.val, e.val].isPerm [0, 1, 2, 3, 4] = true) ↔ (a.val ≠ b.val ∧ a.val ≠ c.val ∧ a.val ≠ d.val ∧ a.val ≠ e.val ∧ b.val ≠ c.val ∧ b.val ≠ d.val ∧ b.val ≠ e.val ∧ c.val ≠ d.val ∧ c.val ≠ e.val ∧ d.val ≠ e.val) := by decide +kernel
theorem rp_pm_iff {n : Nat} : rp_pm n = true ↔ ∀ x y, x < y → y < 5 → rp_dg n x ≠ rp_dg n y := by
  have h := rp_pm_dec ⟨rp_dg n 0, rp_dg_lt n 0⟩ ⟨rp_dg n 1, rp_dg_lt n 1⟩ ⟨rp_dg n 2, rp_dg_lt n 2⟩ ⟨rp_dg n 3, rp_dg_lt n 3⟩ ⟨rp_dg n 4, rp_dg_lt n 4⟩
  unfold rp_pm
  rw [h]
  constructor
  · rintro ⟨h1, h2, h3, h4, h5, h6, h7, h8, h9, h10⟩ x y hx hy
    have : (x = 0 ∧ y = 1) ∨ (x = 0 ∧ y = 2) ∨ (x = 0 ∧ y = 3) ∨ (x = 0 ∧ y = 4) ∨ (x = 1 ∧ y = 2) ∨ (x = 1 ∧ y = 3) ∨ (x = 1 ∧ y = 4) ∨ (x = 2 ∧ y = 3) ∨ (x = 2 ∧ y = 4) ∨ (x = 3 ∧ y = 4) := by omega
    rcases this with ⟨rfl, rfl⟩ | ⟨rfl, rfl⟩ | ⟨rfl, rfl⟩ | ⟨rfl, rfl⟩ | ⟨rfl, rfl⟩ | ⟨rfl, rfl⟩ | ⟨rfl, rfl⟩ | ⟨rfl, rfl⟩ | ⟨rfl, rfl⟩ | ⟨rfl, rfl⟩ <;> assumption
  · intro q
    exact ⟨q 0 1 (by omega) (by omega), q 0 2 (by omega) (by omega), q 0 3 (by omega) (by omega), q 0 4 (by omega) (by omega), q 1 2 (by omega) (by omega), q 1 3 (by omega) (by omega), q 1 4 (by omega) (by omega), q 2 3 (by omega) (by omega), q 2 4 (by omega) (by omega), q 3 4 (by omega) (by omega)⟩
/-- the sum of the first w prices -/
def rp_su (pr : Nat → Nat) (n : Nat) : Nat → Nat
  | 0 => 0
  | w + 1 => rp_su pr n w + pr (5 * w + rp_dg n w)
theorem rp_su_5 {pr : Nat → Nat} {n : Nat} : rp_su pr n 5 = rp_cs pr n := by
  show 0 + pr (5 * 0 + rp_dg n 0) + pr (5 * 1 + rp_dg n 1) + pr (5 * 2 + rp_dg n 2) + pr (5 * 3 + rp_dg n 3) + pr (5 * 4 + rp_dg n 4) = _
  unfold rp_cs
  omega
theorem rp_su_le {pr : Nat → Nat} {n : Nat} (hpr : ∀ j, j < 25 → pr j < 100) : ∀ w, w ≤ 5 → rp_su pr n w ≤ 99 * w := by
  intro w
  induction w with
  | zero => intro _; exact Nat.le_refl 0
  | succ w ih =>
    intro hw
    have h1 := ih (by omega)
    have h2 := rp_dg_lt n w
    have h3 := hpr (5 * w + rp_dg n w) (by omega)
    show rp_su pr n w + pr (5 * w + rp_dg n w) ≤ _
    omega
/-- after w workers: the set of their tasks, all apart, none barred -/
def rp_sn (ba : Nat → Bool) (n w sn : Nat) : Prop := sn < 32 ∧ (∀ t, t < 5 → (sn / 2 ^ t % 2 = 0 ↔ ∀ x, x < w → rp_dg n x ≠ t)) ∧ (∀ x y, x < y → y < w → rp_dg n x ≠ rp_dg n y) ∧ ∀ x, x < w → ba (5 * x + rp_dg n x) = false
theorem rp_sn_0 {ba : Nat → Bool} {n : Nat} : rp_sn ba n 0 0 := ⟨by omega, fun t _ => ⟨fun _ x hx => by omega, fun _ => by simp⟩, fun x y _ h => by omega, fun x h => by omega⟩
theorem rp_sn_s {ba : Nat → Bool} {n w sn : Nat} (h : rp_sn ba n w sn) (h1 : ¬ sn / 2 ^ rp_dg n w % 2 = 1) (h2 : ba (5 * w + rp_dg n w) = false) : rp_sn ba n (w + 1) (sn ||| 1 * 2 ^ rp_dg n w) := by
  obtain ⟨a, b, c, d⟩ := h
  have hb := fun t (ht : t < 5) => rp_bit (t := t) a ht (rp_dg_lt n w)
  refine ⟨(hb 0 (by omega)).1, fun t ht => ?_, fun x y hx hy => ?_, fun x hx => ?_⟩
  · rw [(hb t ht).2, b t ht]
    constructor
    · rintro ⟨g1, g2⟩ x hx
      rcases Nat.lt_or_ge x w with q | q
      · exact g1 x q
      · rw [show x = w by omega]; exact fun e => g2 e.symm
    · intro g
      exact ⟨fun x hx => g x (by omega), fun e => g w (by omega) e.symm⟩
  · rcases Nat.lt_or_ge y w with q | q
    · exact c x y hx q
    · have e : y = w := by omega
      subst e
      exact (b _ (rp_dg_lt n y)).mp (by omega) x hx
  · rcases Nat.lt_or_ge x w with q | q
    · exact d x q
    · rw [show x = w by omega]; exact h2
theorem rp_sn_ok {ba : Nat → Bool} {n sn : Nat} (h : rp_sn ba n 5 sn) : rp_ok ba n = true := by
  obtain ⟨a, b, c, d⟩ := h
  exact rp_ok_iff.mpr ⟨rp_pm_iff.mpr c, d⟩
theorem rp_sn_rep {ba : Nat → Bool} {n w sn : Nat} (h : rp_sn ba n w sn) (hw : w < 5) (h1 : sn / 2 ^ rp_dg n w % 2 = 1) : rp_ok ba n = false := by
  obtain ⟨a, b, c, d⟩ := h
  cases q : rp_ok ba n with
  | false => rfl
  | true =>
    have hp := rp_pm_iff.mp (rp_ok_iff.mp q).1
    have := (b _ (rp_dg_lt n w)).mpr (fun x hx => hp x w hx hw)
    omega
theorem rp_ok_bar {ba : Nat → Bool} {n w : Nat} (hw : w < 5) (h : ¬ ba (5 * w + rp_dg n w) = false) : rp_ok ba n = false := by
  cases q : rp_ok ba n with
  | false => rfl
  | true => exact absurd ((rp_ok_iff.mp q).2 w hw) h
theorem rp_co_t {pr : Nat → Nat} {ba : Nat → Bool} {n : Nat} (h : rp_ok ba n = true) : rp_co pr ba n = nI (rp_cs pr n) := if_pos h
theorem rp_co_f {pr : Nat → Nat} {ba : Nat → Bool} {n : Nat} (h : rp_ok ba n = false) : rp_co pr ba n = -1 := by unfold rp_co; rw [h]; rfl
theorem rp_co_lt {pr : Nat → Nat} {ba : Nat → Bool} {n : Nat} (hpr : ∀ j, j < 25 → pr j < 100) : rp_co pr ba n < 0 ↔ rp_ok ba n = false := by
  cases h : rp_ok ba n with
  | true =>
    rw [rp_co_t h]
    have := rp_cs_le hpr n
    exact ⟨fun q => absurd q (nI_pos (by omega)), fun q => by cases q⟩
  | false =>
    rw [rp_co_f h]
    decide
theorem rp_SN_t {pr : Nat → Nat} {ba : Nat → Bool} {n : Nat} (h : rp_ok ba n = true) : rp_SN pr ba (n + 1) = rp_ins (rp_vl pr n) (rp_SN pr ba n) := if_pos h
theorem rp_SN_f {pr : Nat → Nat} {ba : Nat → Bool} {n : Nat} (h : rp_ok ba n = false) : rp_SN pr ba (n + 1) = rp_SN pr ba n := if_neg (by rw [h]; exact Bool.false_ne_true)
theorem rp_ct_mono : ∀ b a, rp_ct a ≤ rp_ct (a + b) := by
  intro b
  induction b with
  | zero => intro a; exact Nat.le_refl _
  | succ b ih =>
    intro a
    have := ih a
    show rp_ct a ≤ rp_ct (a + b) + (if rp_pm (a + b) = true then 1 else 0)
    omega
theorem rp_SN_120 {pr : Nat → Nat} {ba : Nat → Bool} {n : Nat} (h : n ≤ 3125) : (rp_SN pr ba n).length ≤ 120 := by
  have h1 := rp_SN_len (pr := pr) (ba := ba) (n := n)
  have h2 := rp_ct_mono (3125 - n) n
  rw [show n + (3125 - n) = 3125 by omega, rp_ct_all] at h2
  omega
/-- the two arrays hold the list, all numbers below k -/
def rp_HL (L : List Nat) (nu co : Nat → Nat) (k : Nat) : Prop := ∀ r, r < L.length → L[r]? = some (3125 * co r + nu r) ∧ nu r < k
theorem rp_HL_0 {nu co : Nat → Nat} {k : Nat} : rp_HL [] nu co k := fun r h => by simp at h
theorem rp_HL_up {L : List Nat} {nu co : Nat → Nat} {k : Nat} (h : rp_HL L nu co k) : rp_HL L nu co (k + 1) := fun r hr => ⟨(h r hr).1, by have := (h r hr).2; omega⟩
theorem rp_HL_co {pr : Nat → Nat} {ba : Nat → Bool} {nu co : Nat → Nat} {k : Nat} (hpr : ∀ j, j < 25 → pr j < 100) (hk : k ≤ 3125) (h : rp_HL (rp_SN pr ba k) nu co k) : ∀ r, r < (rp_SN pr ba k).length → co r < 1000000 := by
  intro r hr
  obtain ⟨m, a, b, c⟩ := rp_SN_mem.mp (List.mem_iff_getElem?.mpr ⟨r, (h r hr).1⟩)
  have := rp_vl_lt hpr (n := m) (by omega)
  omega
/-- the shift: the entries from i on have moved up by one, all dearer than c -/
def rp_IN (len : Nat) (nu co nu' co' : Nat → Nat) (c i : Nat) : Prop := (∀ r, r < i → nu' r = nu r ∧ co' r = co r) ∧ (∀ r, i < r → r ≤ len → nu' r = nu (r - 1) ∧ co' r = co (r - 1)) ∧ ∀ r, i ≤ r → r < len → c < co r
theorem rp_IN_0 {len : Nat} {nu co : Nat → Nat} {c : Nat} : rp_IN len nu co nu co c len := ⟨fun _ _ => ⟨rfl, rfl⟩, fun r h1 h2 => by omega, fun r h1 h2 => by omega⟩
theorem rp_IN_s {len : Nat} {nu co nu' co' : Nat → Nat} {c i : Nat} (h : rp_IN len nu co nu' co' c i) (hi : 0 < i) (hl : i ≤ len) (hc : c < co' (i - 1)) : rp_IN len nu co (va_up nu' i (nu' (i - 1))) (va_up co' i (co' (i - 1))) c (i - 1) := by
  obtain ⟨a, b, d⟩ := h
  have e := a (i - 1) (by omega)
  refine ⟨fun r hr => ?_, fun r h1 h2 => ?_, fun r h1 h2 => ?_⟩
  · rw [rp_un _ _ (by omega), rp_un _ _ (by omega)]
    exact a r (by omega)
  · rcases Nat.lt_or_ge i r with q | q
    · rw [rp_un _ _ (by omega), rp_un _ _ (by omega)]
      exact b r q h2
    · have er : r = i := by omega
      rw [er, rp_us, rp_us]
      exact e
  · rcases Nat.lt_or_ge r i with q | q
    · rw [show r = i - 1 by omega, ← e.2]; exact hc
    · exact d r q h2
theorem rp_ins_at {x : Nat} : ∀ {L : List Nat} {i : Nat}, i ≤ L.length → (∀ r y, r < i → L[r]? = some y → y < x) → (∀ y, L[i]? = some y → x < y) → rp_ins x L = L.take i ++ x :: L.drop i := by
  intro L
  induction L with
  | nil => intro i _ _ _; simp [rp_ins]
  | cons z l ih =>
    intro i hi h1 h2
    cases i with
    | zero =>
      have := h2 z rfl
      unfold rp_ins
      rw [if_pos this]
      rfl
    | succ i =>
      have := h1 0 z (by omega) rfl
      unfold rp_ins
      rw [if_neg (by omega), ih (i := i) (by simpa using hi) (fun r y hr hy => h1 (r + 1) y (by omega) (by simpa using hy)) (fun y hy => h2 y (by simpa using hy))]
      rfl
theorem rp_ins_get {x : Nat} {L : List Nat} {i : Nat} (hi : i ≤ L.length) (e : rp_ins x L = L.take i ++ x :: L.drop i) (r : Nat) : (rp_ins x L)[r]? = if r < i then L[r]? else if r = i then some x else L[r - 1]? := by
  have hlen : (L.take i).length = i := by rw [List.length_take]; omega
  rw [e]
  split
  · rename_i q
    rw [List.getElem?_append_left (by omega), List.getElem?_take, if_pos q]
  · rename_i q
    rw [List.getElem?_append_right (by omega), hlen]
    split
    · rename_i g
      rw [g, Nat.sub_self]
      rfl
    · rename_i g
      rw [show r - i = (r - i - 1) + 1 by omega, List.getElem?_cons_succ, List.getElem?_drop]
      congr 1
      omega
/-- the plan is put where it belongs -/
theorem rp_HL_ins {pr : Nat → Nat} {ba : Nat → Bool} {nu co nu' co' : Nat → Nat} {k i : Nat} (hk : k < 3125) (hok : rp_ok ba k = true) (h : rp_HL (rp_SN pr ba k) nu co k) (hI : rp_IN (rp_SN pr ba k).length nu co nu' co' (rp_cs pr k) i) (hi : i ≤ (rp_SN pr ba k).length) (hlow : i = 0 ∨ co' (i - 1) ≤ rp_cs pr k) : rp_HL (rp_SN pr ba (k + 1)) (va_up nu' i k) (va_up co' i (rp_cs pr k)) (k + 1) := by
  have hpw := rp_SN_pw (pr := pr) (ba := ba) (n := k) (by omega)
  obtain ⟨a, b, d⟩ := hI
  have hx : rp_vl pr k = 3125 * rp_cs pr k + k := rfl
  have e : rp_ins (rp_vl pr k) (rp_SN pr ba k) = (rp_SN pr ba k).take i ++ rp_vl pr k :: (rp_SN pr ba k).drop i := by
    refine rp_ins_at hi (fun r y hr hy => ?_) (fun y hy => ?_)
    · have hlow : co' (i - 1) ≤ rp_cs pr k := by rcases hlow with q | q; omega; exact q
      rw [(a (i - 1) (by omega)).2] at hlow
      have g := h (i - 1) (by omega)
      rcases Nat.lt_or_ge r (i - 1) with q | q
      · have := rp_pw_lt hpw hy g.1 q
        omega
      · have er : r = i - 1 := by omega
        rw [er, g.1] at hy
        cases hy
        omega
    · have hl := (List.getElem?_eq_some_iff.mp hy).1
      have g := h i hl
      rw [g.1] at hy
      cases hy
      have := d i (Nat.le_refl _) hl
      omega
  intro r hr
  rw [rp_SN_t hok] at hr ⊢
  rw [rp_ins_len] at hr
  rw [rp_ins_get hi e]
  rcases Nat.lt_trichotomy r i with q | q | q
  · rw [if_pos q, rp_un _ _ (by omega), rp_un _ _ (by omega), (a r q).1, (a r q).2]
    have g := h r (by omega)
    exact ⟨g.1, by omega⟩
  · rw [if_neg (by omega), if_pos q, q, rp_us, rp_us]
    exact ⟨by rw [hx], by omega⟩
  · rw [if_neg (by omega), if_neg (by omega), rp_un _ _ (by omega), rp_un _ _ (by omega), (b r q (by omega)).1, (b r q (by omega)).2]
    have g := h (r - 1) (by omega)
    exact ⟨g.1, by omega⟩
theorem rp_HL_at {S : List Nat} {nu co : Nat → Nat} {j : Nat} (h : rp_HL S nu co 3125) (hS : S.length ≤ 120) (hj : j < S.length) : rp_at S (nI j) = some (3125 * co j + nu j) ∧ (3125 * co j + nu j) / 3125 = co j ∧ (3125 * co j + nu j) % 3125 = nu j := by
  have g := h j hj
  rw [rp_at_nI (by omega)]
  exact ⟨g.1, by omega, by omega⟩
theorem rp_ge_none {S : List Nat} {k : Int32} (hS : S.length ≤ 120) (h : ¬ k < nI S.length) : rp_at S k = none := by
  rw [Int32.lt_iff_toInt_lt, nI_toInt (by omega)] at h
  unfold rp_at
  rw [if_neg (by omega)]
  exact List.getElem?_eq_none (by omega)
theorem rp_lt_ex {S : List Nat} {k : Int32} (hS : S.length ≤ 120) (h0 : ¬ k < 0) (h : k < nI S.length) : ∃ j, j < S.length ∧ k = nI j := by
  obtain ⟨j, hj, rfl⟩ := nI_of h0
  exact ⟨j, (nI_ltI hj (by omega)).mp h, rfl⟩
theorem rp_cnt_s {f : Nat → Bool} {S : List Nat} {r x : Nat} (h : S[r]? = some x) : (S.take (r + 1)).countP f = (S.take r).countP f + (if f x = true then 1 else 0) := by
  rw [List.take_add_one, h, Option.toList_some, List.countP_append, List.countP_cons, List.countP_nil]
  omega
theorem rp_cnt_all {f : Nat → Bool} {S : List Nat} {r : Nat} (h : S.length ≤ r) : (S.take r).countP f = S.countP f := by rw [List.take_of_length_le h]
theorem rp_M_put {pr : Nat → Nat} {ba : Nat → Bool} {i p : Nat} : (fun j => va_up (fun j => rp_M pr ba j) i (nI p) j) = fun j => rp_M (va_up pr i p) (va_up ba i false) j := by
  funext j
  rcases Nat.decEq j i with q | q
  · unfold rp_M
    rw [rp_un _ _ q, rp_un _ _ q, rp_un _ _ q]
  · rw [q]
    unfold rp_M
    rw [rp_us, rp_us, rp_us]
    rfl
theorem rp_M_bar {pr : Nat → Nat} {ba : Nat → Bool} {i : Nat} : (fun j => va_up (fun j => rp_M pr ba j) i (-1) j) = fun j => rp_M pr (va_up ba i true) j := by
  funext j
  rcases Nat.decEq j i with q | q
  · unfold rp_M
    rw [rp_un _ _ q, rp_un _ _ q]
  · rw [q]
    unfold rp_M
    rw [rp_us, rp_us]
    rfl
end
section
/-! the reference: digit, costOf, list -/
set_option maxRecDepth 100000
set_option maxHeartbeats 4000000 in
/-- digit(n, w) -/
theorem metX1_digit (l : Launch) (n0 w : Nat) (hn0 : n0 < 2 ^ 31) (hw : w < 5) : Met l yX1_digit (ws_ yX1_digit cX1_digit 4 (some .int)) (rp_rm 0 0) (va_Pc [.int (nI n0), .int (nI w)] (fun _ => True)) (vp_Si (fun r => r = nI (rp_dg n0 w))) 0 0 (fun _ => False) := by
  refine Met.ofW (cc := cX1_digit) (maxL := 4) (ret := (some .int)) (by decide) rfl ?_
  intro p e s m args below meth c s₁ B hml hv
  obtain ⟨rfl, -⟩ := hv
  have hx := B.exec
  have hb := B.bytes
  have hr := B.returns
  have hts := atoms_spec (ws := (ws_ yX1_digit cX1_digit 4 (some .int))) B.pre
  have hts : ∀ w ∈ lw_all, w.before _ s = true := fun w h => hts w (List.mem_cons_of_mem _ h)
  have hown : s.vm.findClass RX1 = some m.cls := findClass_of_methodNamed B.named
  have hlocks := B.notSynchronized
  have hl := lv_entry ([.int (nI n0), .int (nI w)]) (n := 4) (Nat.le_of_ble_eq_true rfl)
  rw [lg_entry_eq]
  generalize (lg_sl ([.int (nI n0), .int (nI w)]) ++ List.replicate (4 - (lg_sl ([.int (nI n0), .int (nI w)])).length) Slot.unset).toArray = ls at hl ⊢
  have hl : lv_has ls 4 [(0, .int (nI n0)), (1, .int (nI w))] := hl
  have hp := rp_w_pos w hw
  have L4 : ∀ (n : Nat) (k acc : Nat), (4 - k < n) → (k ≤ 4) → (acc * 5 ^ (4 - k) = 5 ^ (4 - w)) → ∀ (ls : Array Slot), lv_has ls 4 [(3, .int (nI k)), (2, .int (nI acc)), (1, .int (nI w)), (0, .int (nI n0))] → W p l e (headSpec (ws_ yX1_digit cX1_digit 4 (some .int)) (rp_rm 0 0)).room s m ([.int (nI n0), .int (nI w)] : List Value).toArray below meth c s.heap [] 0 0 (MQ below (vp_Si (fun r => r = nI (rp_dg n0 w))) ([.int (nI n0), .int (nI w)] : List Value).toArray s 0 0 (fun _ => False)) (F0 m 4 ls []) := by
    intro n
    induction n with
    | zero =>
      intro k acc hn hk ha
      exact absurd hn (by omega)
    | succ n ih =>
      intro k acc hn hk ha ls hl
      refine lv_iload_n hx hb dX1_digit_4 rfl (lv_at hl 0 rfl) ?_
      refine lv_iconst (v := nI 4) hx hb dX1_digit_5 (by decide) ?_
      refine rp_icge (tgt := 19) hx hb (by omega) (by omega) dX1_digit_6 (by decide) (fun c_6 => ?_) (fun c_6 => ?_)
      · have e := rp_wr c_6 ha
        subst e
        refine lv_iload_n hx hb dX1_digit_19 rfl (lv_at hl 1 rfl) ?_
        refine rp_zle (tgt := 31) hx hb (by omega) dX1_digit_20 (by decide) (fun c_20 => ?_) (fun c_20 => ?_)
        · exact absurd c_20 (by omega)
        · refine lv_iload_n hx hb dX1_digit_23 rfl (lv_at hl 3 rfl) ?_
          refine lv_iload_n hx hb dX1_digit_24 rfl (lv_at hl 1 rfl) ?_
          refine rp_idiv hx hb hn0 hp.1 (by omega) dX1_digit_25 ?_
          refine lv_iconst (v := nI 5) hx hb dX1_digit_26 (by decide) ?_
          refine rp_irem hx hb (Nat.lt_of_le_of_lt (Nat.div_le_self _ _) hn0) (by decide) (by decide) dX1_digit_27 ?_
          refine lv_goto (tgt := 32) hx hb dX1_digit_28 (by decide) ?_
          exact W.iret (v := nI ((n0 / (5 ^ (4 - w))) % 5)) hx hb hr (fun t ht hW => ⟨_, rfl, rfl, ht⟩) (fun q h => by cases h) dX1_digit_32
      · refine lv_iconst (v := nI 5) hx hb dX1_digit_9 (by decide) ?_
        refine lv_iload_n hx hb dX1_digit_10 rfl (lv_at hl 1 rfl) ?_
        refine rp_imul hx hb dX1_digit_11 ?_
        refine lv_istore_n (lv' := [(2, .int (nI (5 * acc))), (3, .int (nI k)), (1, .int (nI w)), (0, .int (nI n0))]) hx hb dX1_digit_12 rfl hl (by decide) rfl (fun ls hl => ?_)
        refine lv_iinc (v := nI (k + 1)) (lv' := [(3, .int (nI (k + 1))), (2, .int (nI (5 * acc))), (1, .int (nI w)), (0, .int (nI n0))]) hx hb dX1_digit_13 hl (k := 1) rfl (by exact nI_1 _) (by decide) rfl (fun ls hl => ?_)
        refine lv_goto (tgt := 4) hx hb dX1_digit_16 (by decide) ?_
        exact ih (k + 1) (5 * acc) (by omega) (by omega) (by rw [Nat.mul_comm 5 acc]; exact rp_wl c_6 ha) ls (lv_sub hl [0, 1, 2, 3] rfl)
  refine lv_iconst (v := nI 1) hx hb dX1_digit_0 (by decide) ?_
  refine lv_istore_n (lv' := [(2, .int (nI 1)), (0, .int (nI n0)), (1, .int (nI w))]) hx hb dX1_digit_1 rfl hl (by decide) rfl (fun ls hl => ?_)
  refine lv_iload_n hx hb dX1_digit_2 rfl (lv_at hl 2 rfl) ?_
  refine lv_istore_n (lv' := [(3, .int (nI w)), (2, .int (nI 1)), (0, .int (nI n0)), (1, .int (nI w))]) hx hb dX1_digit_3 rfl hl (by decide) rfl (fun ls hl => ?_)
  exact L4 5 w 1 (by omega) (by omega) (by omega) ls (lv_sub hl [0, 1, 3, 2] rfl)
set_option maxHeartbeats 4000000 in
/-- costOf(n) -/
theorem metX1_costOf (l : Launch) (dC : Nat → ClassId) (dI : Nat → Nat → Nat) (h1 : Nat) (ae : Nat → Nat) (dE : Nat → ClassId) (pr : Nat → Nat) (ba : Nat → Bool) (cn : Nat) (nu : Nat → Nat) (co : Nat → Nat) (n0 : Nat) (hpr : ∀ j, j < 25 → pr j < 100) (hn0 : n0 < 3125) : Met l yX1_costOf (ws_ yX1_costOf cX1_costOf 6 (some .int)) (rp_rm 1 23) (va_Pc [.ref h1, .int (nI n0)] (fun U => va_P (dC, dI) rp_cl (rp_mw h1 ae dE pr ba cn nu co) U.heap ∧ va_K (dC, dI) rp_cl (rp_mk dE) U)) (vp_Si (fun r => r = rp_co pr ba n0)) 0 0 (fun _ => False) := by
  refine Met.ofW (cc := cX1_costOf) (maxL := 6) (ret := (some .int)) (by decide) rfl ?_
  intro p e s m args below meth c s₁ B hml hv
  obtain ⟨rfl, hP, hK⟩ := hv
  have hx := B.exec
  have hb := B.bytes
  have hr := B.returns
  have hts := atoms_spec (ws := (ws_ yX1_costOf cX1_costOf 6 (some .int))) B.pre
  have hts : ∀ w ∈ lw_all, w.before _ s = true := fun w h => hts w (List.mem_cons_of_mem _ h)
  have hown : s.vm.findClass RX1 = some m.cls := findClass_of_methodNamed B.named
  have hlocks := B.notSynchronized
  have hl := lv_entry ([.ref h1, .int (nI n0)]) (n := 6) (Nat.le_of_ble_eq_true rfl)
  rw [lg_entry_eq]
  generalize (lg_sl ([.ref h1, .int (nI n0)]) ++ List.replicate (6 - (lg_sl ([.ref h1, .int (nI n0)])).length) Slot.unset).toArray = ls at hl ⊢
  have hl : lv_has ls 6 [(0, .ref h1), (1, .int (nI n0))] := hl
  have hsu := rp_su_le (n := n0) hpr
  have L7 : ∀ (n : Nat) (w sn : Nat), (5 - w < n) → (w ≤ 5) → (rp_sn ba n0 w sn) → ∀ (ls : Array Slot), lv_has ls 6 [(4, .int (nI w)), (3, .int (nI (rp_su pr n0 w))), (2, .int (nI sn)), (1, .int (nI n0)), (0, .ref h1)] → W p l e (headSpec (ws_ yX1_costOf cX1_costOf 6 (some .int)) (rp_rm 1 23)).room s m ([.ref h1, .int (nI n0)] : List Value).toArray below meth c s.heap [] 0 0 (MQ below (vp_Si (fun r => r = rp_co pr ba n0)) ([.ref h1, .int (nI n0)] : List Value).toArray s 0 0 (fun _ => False)) (F0 m 7 ls []) := by
    intro n
    induction n with
    | zero =>
      intro w sn hn hw5 hsn
      exact absurd hn (by omega)
    | succ n ih =>
      intro w sn hn hw5 hsn ls hl
      refine lv_iload hx hb dX1_costOf_7 (lv_at hl 0 rfl) ?_
      refine lv_iconst (v := nI 5) hx hb dX1_costOf_9 (by decide) ?_
      refine rp_icge (tgt := 76) hx hb (by omega) (by omega) dX1_costOf_10 (by decide) (fun c_10 => ?_) (fun c_10 => ?_)
      · have e5 : w = 5 := by omega
        subst e5
        have hco : rp_co pr ba n0 = nI (rp_su pr n0 5) := by rw [rp_co_t (rp_sn_ok hsn), rp_su_5]
        refine lv_iload_n hx hb dX1_costOf_76 rfl (lv_at hl 1 rfl) ?_
        exact W.iret (v := nI (rp_su pr n0 5)) hx hb hr (fun t ht hW => ⟨_, rfl, hco.symm, ht⟩) (fun q h => by cases h) dX1_costOf_77
      · have hdl := rp_dg_lt n0 w
        have hpj := hpr (5 * w + rp_dg n0 w) (by omega)
        have hs32 := hsn.1
        refine lv_iload_n hx hb dX1_costOf_13 rfl (lv_at hl 3 rfl) ?_
        refine lv_iload hx hb dX1_costOf_14 (lv_at hl 0 rfl) ?_
        refine vp_callSi (W.runS (As := [.int (nI n0), .int (nI w)]) (rest := []) ⟨hx, hb, hml, hown, hts⟩ (metX1_digit l n0 w (by omega) (by omega)) (va_cwS 2 hts (lw_S q218 q219 q13 q220) rfl rfl rfl (by decide +kernel) ⟨Nat.le_of_ble_eq_true rfl, Nat.le_of_ble_eq_true rfl⟩) ⟨fun a U g mk q => q, fun U hU hW => ⟨rfl, trivial⟩⟩ rfl rfl hl.1 rfl (lv_room (Nat.le_of_ble_eq_true rfl)) dX1_costOf_16 ⟨Nat.le_of_ble_eq_true rfl, Nat.le_of_ble_eq_true rfl⟩) (fun r hr9 => ?_)
        subst hr9
        refine lv_istore (lv' := [(5, .int (nI (rp_dg n0 w))), (4, .int (nI w)), (3, .int (nI (rp_su pr n0 w))), (2, .int (nI sn)), (1, .int (nI n0)), (0, .ref h1)]) hx hb dX1_costOf_19 hl (by decide) rfl (fun ls hl => ?_)
        refine lv_iload_n hx hb dX1_costOf_21 rfl (lv_at hl 3 rfl) ?_
        refine lv_iload hx hb dX1_costOf_22 (lv_at hl 0 rfl) ?_
        refine rp_ishr hx hb (by omega) (by omega) dX1_costOf_24 ?_
        refine lv_iconst (v := nI 1) hx hb dX1_costOf_25 (by decide) ?_
        refine rp_iand1 hx hb (Nat.lt_of_le_of_lt (Nat.div_le_self _ _) (by omega)) dX1_costOf_26 ?_
        refine lv_iconst (v := nI 1) hx hb dX1_costOf_27 (by decide) ?_
        refine rp_iceq (tgt := 46) hx hb (by omega) (by omega) dX1_costOf_28 (by decide) (fun c_28 => ?_) (fun c_28 => ?_)
        · have hco : rp_co pr ba n0 = -1 := rp_co_f (rp_sn_rep hsn (by omega) c_28)
          refine lv_iconst (v := (-1)) hx hb dX1_costOf_46 (by decide) ?_
          exact W.iret (v := (-1)) hx hb hr (fun t ht hW => ⟨_, rfl, hco.symm, ht⟩) (fun q h => by cases h) dX1_costOf_47
        · refine lv_aload_n hx hb dX1_costOf_31 rfl (lv_at hl 5 rfl) ?_
          refine va_get (D := (dC, dI)) (ci := 1) (v := .ref (ae 0)) (C := RX1) (T := TX1) (N := 4) hx hb hts in_X1 hown hK hP 0 rfl rfl 0 (by decide) (hts _ q182) (fun _ h9 => h9) rfl dX1_costOf_32 ?_
          refine lv_iconst (v := nI 5) hx hb dX1_costOf_35 (by decide) ?_
          refine lv_iload hx hb dX1_costOf_36 (lv_at hl 1 rfl) ?_
          refine rp_imul hx hb dX1_costOf_38 ?_
          refine lv_iload hx hb dX1_costOf_39 (lv_at hl 0 rfl) ?_
          refine rp_iadd hx hb dX1_costOf_41 ?_
          refine rp_iald (fun j => rp_M pr ba j) (fun j => j) hx hb hK hP 1 0 rfl rfl (i := (5 * w) + (rp_dg n0 w)) (by omega) (by decide) dX1_costOf_42 ?_
          refine lv_if_ge (tgt := 48) hx hb dX1_costOf_43 (by decide) (fun c_43 => ?_) (fun c_43 => ?_)
          · have c_43 := (rp_M_ge hpj).mp c_43
            refine lv_iload_n hx hb dX1_costOf_48 rfl (lv_at hl 3 rfl) ?_
            refine lv_iconst (v := nI 1) hx hb dX1_costOf_49 (by decide) ?_
            refine lv_iload hx hb dX1_costOf_50 (lv_at hl 0 rfl) ?_
            refine rp_ishl hx hb (by omega) (by omega) dX1_costOf_52 ?_
            refine rp_ior hx hb dX1_costOf_53 ?_
            refine lv_istore_n (lv' := [(2, .int (nI (sn ||| (1 * 2 ^ (rp_dg n0 w))))), (5, .int (nI (rp_dg n0 w))), (4, .int (nI w)), (3, .int (nI (rp_su pr n0 w))), (1, .int (nI n0)), (0, .ref h1)]) hx hb dX1_costOf_54 rfl hl (by decide) rfl (fun ls hl => ?_)
            refine lv_iload_n hx hb dX1_costOf_55 rfl (lv_at hl 3 rfl) ?_
            refine lv_aload_n hx hb dX1_costOf_56 rfl (lv_at hl 5 rfl) ?_
            refine va_get (D := (dC, dI)) (ci := 1) (v := .ref (ae 0)) (C := RX1) (T := TX1) (N := 4) hx hb hts in_X1 hown hK hP 0 rfl rfl 0 (by decide) (hts _ q182) (fun _ h9 => h9) rfl dX1_costOf_57 ?_
            refine lv_iconst (v := nI 5) hx hb dX1_costOf_60 (by decide) ?_
            refine lv_iload hx hb dX1_costOf_61 (lv_at hl 2 rfl) ?_
            refine rp_imul hx hb dX1_costOf_63 ?_
            refine lv_iload hx hb dX1_costOf_64 (lv_at hl 1 rfl) ?_
            refine rp_iadd hx hb dX1_costOf_66 ?_
            refine rp_iald (fun j => rp_M pr ba j) (fun j => j) hx hb hK hP 1 0 rfl rfl (i := (5 * w) + (rp_dg n0 w)) (by omega) (by decide) dX1_costOf_67 ?_
            refine rp_ti (rp_M_f c_43) ?_
            refine rp_iadd hx hb dX1_costOf_68 ?_
            refine lv_istore_n (lv' := [(3, .int (nI ((rp_su pr n0 w) + (pr (5 * w + rp_dg n0 w))))), (2, .int (nI (sn ||| (1 * 2 ^ (rp_dg n0 w))))), (5, .int (nI (rp_dg n0 w))), (4, .int (nI w)), (1, .int (nI n0)), (0, .ref h1)]) hx hb dX1_costOf_69 rfl hl (by decide) rfl (fun ls hl => ?_)
            refine lv_iinc (v := nI (w + 1)) (lv' := [(4, .int (nI (w + 1))), (3, .int (nI ((rp_su pr n0 w) + (pr (5 * w + rp_dg n0 w))))), (2, .int (nI (sn ||| (1 * 2 ^ (rp_dg n0 w))))), (5, .int (nI (rp_dg n0 w))), (1, .int (nI n0)), (0, .ref h1)]) hx hb dX1_costOf_70 hl (k := 3) rfl (by exact nI_1 _) (by decide) rfl (fun ls hl => ?_)
            refine lv_goto (tgt := 7) hx hb dX1_costOf_73 (by decide) ?_
            exact ih (w + 1) (sn ||| (1 * 2 ^ (rp_dg n0 w))) (by omega) (by omega) (rp_sn_s hsn c_28 c_43) ls (lv_sub hl [0, 1, 2, 4, 5] rfl)
          · have hco : rp_co pr ba n0 = -1 := rp_co_f (rp_ok_bar (w := w) (by omega) (fun h => c_43 ((rp_M_ge hpj).mpr h)))
            refine lv_iconst (v := (-1)) hx hb dX1_costOf_46 (by decide) ?_
            exact W.iret (v := (-1)) hx hb hr (fun t ht hW => ⟨_, rfl, hco.symm, ht⟩) (fun q h => by cases h) dX1_costOf_47
  refine lv_iconst (v := nI 0) hx hb dX1_costOf_0 (by decide) ?_
  refine lv_istore_n (lv' := [(2, .int (nI 0)), (0, .ref h1), (1, .int (nI n0))]) hx hb dX1_costOf_1 rfl hl (by decide) rfl (fun ls hl => ?_)
  refine lv_iconst (v := nI 0) hx hb dX1_costOf_2 (by decide) ?_
  refine lv_istore_n (lv' := [(3, .int (nI 0)), (2, .int (nI 0)), (0, .ref h1), (1, .int (nI n0))]) hx hb dX1_costOf_3 rfl hl (by decide) rfl (fun ls hl => ?_)
  refine lv_iconst (v := nI 0) hx hb dX1_costOf_4 (by decide) ?_
  refine lv_istore (lv' := [(4, .int (nI 0)), (3, .int (nI 0)), (2, .int (nI 0)), (0, .ref h1), (1, .int (nI n0))]) hx hb dX1_costOf_5 hl (by decide) rfl (fun ls hl => ?_)
  exact L7 6 0 0 (by omega) (by omega) rp_sn_0 ls (lv_sub hl [0, 1, 2, 4, 3] rfl)
set_option maxHeartbeats 4000000 in
/-- list(): all plans, rising -/
theorem metX1_list (l : Launch) (dC : Nat → ClassId) (dI : Nat → Nat → Nat) (h1 : Nat) (ae : Nat → Nat) (dE : Nat → ClassId) (sz : Nat) (pr : Nat → Nat) (ba : Nat → Bool) (cn : Nat) (nu : Nat → Nat) (co : Nat → Nat) (S : List Nat) (hpr : ∀ j, j < 25 → pr j < 100) (hSS : rp_SN pr ba 3125 = S) (hSl : S.length ≤ 120) : Met l yX1_list (ws_ yX1_list cX1_list 4 none) (rp_rm 2 48) (rp_Pc dC dI [.ref h1] sz (rp_mw h1 ae dE pr ba cn nu co) (rp_mk dE)) (va_Qv (fun (z : (Nat → Nat) × (Nat → Nat)) => rp_HL S z.1 z.2 3125) (fun z t1 => rp_Bc dC dI (va_A (rp_mw h1 ae dE pr ba cn nu co) sz) (rp_mw h1 ae dE pr ba S.length z.1 z.2) (rp_mk dE) t1) (va_A (rp_mw h1 ae dE pr ba cn nu co) sz)) 0 0 (va_A (rp_mw h1 ae dE pr ba cn nu co) sz) := by
  refine Met.ofW (cc := cX1_list) (maxL := 4) (ret := none) (by decide) rfl ?_
  intro p e s m args below meth c s₁ B hml hv
  obtain ⟨rfl, hsz, hP, hK, hD0⟩ := hv
  have hx := B.exec
  have hb := B.bytes
  have hr := B.returns
  have hts := atoms_spec (ws := (ws_ yX1_list cX1_list 4 none)) B.pre
  have hts : ∀ w ∈ lw_all, w.before _ s = true := fun w h => hts w (List.mem_cons_of_mem _ h)
  have hown : s.vm.findClass RX1 = some m.cls := findClass_of_methodNamed B.named
  have hlocks := B.notSynchronized
  subst hsz
  have hD := hD0.self (sz := s.heap.size)
  generalize hAe : va_A (rp_mw h1 ae dE pr ba cn nu co) s.heap.size = A at hD ⊢
  have hA : ∀ q : Nat, s.heap.size ≤ q → A q := fun q h => by rw [← hAe]; exact Or.inr h
  have hS : va_S A s.heap s.heap [] := va_S.rf
  have hP : va_P (dC, dI) rp_cl (rp_mw h1 ae dE pr ba cn nu co) s.heap := hP
  have hl := lv_entry ([.ref h1]) (n := 4) (Nat.le_of_ble_eq_true rfl)
  rw [lg_entry_eq]
  generalize (lg_sl ([.ref h1]) ++ List.replicate (4 - (lg_sl ([.ref h1])).length) Slot.unset).toArray = ls at hl ⊢
  have hl : lv_has ls 4 [(0, .ref h1)] := hl
  have L7 : ∀ (n : Nat) (k : Nat) (nu1 co1 : Nat → Nat), (3125 - k < n) → (k ≤ 3125) → (rp_HL (rp_SN pr ba k) nu1 co1 k) → ∀ (H : Heap) (locs : List Loc), va_P (dC, dI) rp_cl (rp_mw h1 ae dE pr ba ((rp_SN pr ba k).length) nu1 co1) H → va_D A (rp_mw h1 ae dE pr ba ((rp_SN pr ba k).length) nu1 co1) → va_S A s.heap H locs → ∀ (ls : Array Slot), lv_has ls 4 [(1, .int (nI k)), (0, .ref h1)] → W p l e (headSpec (ws_ yX1_list cX1_list 4 none) (rp_rm 2 48)).room s m ([.ref h1] : List Value).toArray below meth c H locs 0 0 (MQ below (va_Qv (fun (z : (Nat → Nat) × (Nat → Nat)) => rp_HL S z.1 z.2 3125) (fun z t1 => rp_Bc dC dI A (rp_mw h1 ae dE pr ba S.length z.1 z.2) (rp_mk dE) t1) A) ([.ref h1] : List Value).toArray s 0 0 A) (F0 m 7 ls []) := by
    intro n
    induction n with
    | zero =>
      intro k nu1 co1 hn hk hH
      exact absurd hn (by omega)
    | succ n ih =>
      intro k nu1 co1 hn hk hH H locs hP hD hS ls hl
      refine lv_iload_n hx hb dX1_list_7 rfl (lv_at hl 0 rfl) ?_
      refine lv_sipush (v := nI 3125) hx hb dX1_list_8 (by decide) ?_
      refine rp_icge (tgt := 109) hx hb (by omega) (by omega) dX1_list_11 (by decide) (fun c_11 => ?_) (fun c_11 => ?_)
      · have e5 : k = 3125 := by omega
        subst e5
        rw [hSS] at hH
        have hP : va_P (dC, dI) rp_cl (rp_mw h1 ae dE pr ba S.length nu1 co1) H := by rw [← hSS]; exact hP
        have hD : va_D A (rp_mw h1 ae dE pr ba S.length nu1 co1) := by rw [← hSS]; exact hD
        exact W.vret hx hb hr (fun t9 ht9 hW9 => ⟨⟨(nu1, co1), rfl, hH, by rw [ht9]; exact hP, va_K.moved hW9.alike hK, hD⟩, hS.F ht9⟩) hS.2.2 dX1_list_109
      · refine lv_aload_n hx hb dX1_list_14 rfl (lv_at hl 1 rfl) ?_
        refine lv_iload_n hx hb dX1_list_15 rfl (lv_at hl 0 rfl) ?_
        refine vp_callSi (W.runV (As := [.int (nI k)]) (rest := []) ⟨hx, hb, hml, hown, hts⟩ (metX1_costOf l dC dI h1 ae dE pr ba ((rp_SN pr ba k).length) nu1 co1 k hpr (by omega)) (cwV 1 hts (lw_V q214 q216 qs10 q13 q217) rfl rfl rfl (by decide +kernel) ⟨Nat.le_of_ble_eq_true rfl, Nat.le_of_ble_eq_true rfl⟩) ⟨fun a U g mk q => by obtain ⟨q0, qP, qK⟩ := q; exact ⟨q0, qP, va_K.moved (u := U) (U := U.calling g mk a) (Vm.Alike.refl U.vm) qK⟩, va_recv hK hP (ci := 1) (q0 := 0) rfl rfl, fun U hU hW => ⟨rfl, by rw [hU]; exact hP, va_K.moved hW.alike hK⟩⟩ rfl rfl hl.1 rfl (lv_room (Nat.le_of_ble_eq_true rfl)) dX1_list_16 ⟨Nat.le_of_ble_eq_true rfl, Nat.le_of_ble_eq_true rfl⟩) (fun r hr9 => ?_)
        subst hr9
        refine lv_istore_n (lv' := [(2, .int (rp_co pr ba k)), (1, .int (nI k)), (0, .ref h1)]) hx hb dX1_list_19 rfl hl (by decide) rfl (fun ls hl => ?_)
        refine lv_iload_n hx hb dX1_list_20 rfl (lv_at hl 0 rfl) ?_
        refine lv_if_lt (tgt := 103) hx hb dX1_list_21 (by decide) (fun c_21 => ?_) (fun c_21 => ?_)
        · have hok := (rp_co_lt hpr).mp c_21
          have hP : va_P (dC, dI) rp_cl (rp_mw h1 ae dE pr ba ((rp_SN pr ba (k + 1)).length) nu1 co1) H := by rw [rp_SN_f hok]; exact hP
          have hD : va_D A (rp_mw h1 ae dE pr ba ((rp_SN pr ba (k + 1)).length) nu1 co1) := by rw [rp_SN_f hok]; exact hD
          have hH2 : rp_HL (rp_SN pr ba (k + 1)) nu1 co1 (k + 1) := by rw [rp_SN_f hok]; exact rp_HL_up hH
          refine lv_iinc (v := nI (k + 1)) (lv' := [(1, .int (nI (k + 1))), (2, .int (rp_co pr ba k)), (0, .ref h1)]) hx hb dX1_list_103 hl (k := 1) rfl (by exact nI_1 _) (by decide) rfl (fun ls hl => ?_)
          refine lv_goto (tgt := 7) hx hb dX1_list_106 (by decide) ?_
          exact ih (k + 1) nu1 co1 (by omega) (by omega) hH2 _ _ hP hD hS ls (lv_sub hl [0, 2] rfl)
        · have hok : rp_ok ba k = true := by cases q : rp_ok ba k with | true => rfl | false => exact absurd ((rp_co_lt hpr).mpr q) c_21
          have hco := rp_HL_co hpr hk hH
          have hcl := rp_cs_le hpr k
          have hlen : (rp_SN pr ba k).length + 1 = (rp_SN pr ba (k + 1)).length := by rw [rp_SN_t hok, rp_ins_len]
          have hl12 := rp_SN_120 (pr := pr) (ba := ba) (n := k + 1) (by omega)
          rw [rp_co_t hok] at hl
          have hl : lv_has ls 4 [(2, .int (nI (rp_cs pr k))), (1, .int (nI k)), (0, .ref h1)] := hl
          refine lv_aload_n hx hb dX1_list_24 rfl (lv_at hl 2 rfl) ?_
          refine va_get (D := (dC, dI)) (ci := 1) (v := .int (nI ((rp_SN pr ba k).length))) (C := RX1) (T := TX1) (N := 4) hx hb hts in_X1 hown hK hP 0 rfl rfl 1 (by decide) (hts _ q183) (fun _ h9 => h9) rfl dX1_list_25 ?_
          refine lv_istore_n (lv' := [(3, .int (nI ((rp_SN pr ba k).length))), (2, .int (nI (rp_cs pr k))), (1, .int (nI k)), (0, .ref h1)]) hx hb dX1_list_28 rfl hl (by decide) rfl (fun ls hl => ?_)
          have L79 : ∀ (i : Nat) (nu2 co2 : Nat → Nat), (i ≤ (rp_SN pr ba k).length) → (rp_IN (rp_SN pr ba k).length nu1 co1 nu2 co2 (rp_cs pr k) i) → (i = 0 ∨ co2 (i - 1) ≤ rp_cs pr k) → ∀ (H : Heap) (locs : List Loc), va_P (dC, dI) rp_cl (rp_mw h1 ae dE pr ba ((rp_SN pr ba k).length) nu2 co2) H → va_D A (rp_mw h1 ae dE pr ba ((rp_SN pr ba k).length) nu2 co2) → va_S A s.heap H locs → ∀ (ls : Array Slot), lv_has ls 4 [(3, .int (nI i)), (2, .int (nI (rp_cs pr k))), (1, .int (nI k)), (0, .ref h1)] → W p l e (headSpec (ws_ yX1_list cX1_list 4 none) (rp_rm 2 48)).room s m ([.ref h1] : List Value).toArray below meth c H locs 0 0 (MQ below (va_Qv (fun (z : (Nat → Nat) × (Nat → Nat)) => rp_HL S z.1 z.2 3125) (fun z t1 => rp_Bc dC dI A (rp_mw h1 ae dE pr ba S.length z.1 z.2) (rp_mk dE) t1) A) ([.ref h1] : List Value).toArray s 0 0 A) (F0 m 79 ls []) := by
            intro i nu2 co2 hi hG hlow H locs hP hD hS ls hl
            refine lv_aload_n hx hb dX1_list_79 rfl (lv_at hl 3 rfl) ?_
            refine va_get (D := (dC, dI)) (ci := 1) (v := .ref (ae 3)) (C := RX1) (T := TX1) (N := 4) hx hb hts in_X1 hown hK hP 0 rfl rfl 3 (by decide) (hts _ q185) (fun _ h9 => h9) rfl dX1_list_80 ?_
            refine lv_iload_n hx hb dX1_list_83 rfl (lv_at hl 0 rfl) ?_
            refine lv_iload_n hx hb dX1_list_84 rfl (lv_at hl 1 rfl) ?_
            refine rp_iast nI co2 (rp_cs pr k) hx hb hK hP hD hS 3 2 rfl rfl (i := i) (by omega) (by decide) dX1_list_85 (fun H locs hP hD hS => ?_)
            have hP : va_P (dC, dI) rp_cl (rp_mw h1 ae dE pr ba ((rp_SN pr ba k).length) nu2 (va_up co2 i (rp_cs pr k))) H := hP
            have hD : va_D A (rp_mw h1 ae dE pr ba ((rp_SN pr ba k).length) nu2 (va_up co2 i (rp_cs pr k))) := hD
            refine lv_aload_n hx hb dX1_list_86 rfl (lv_at hl 3 rfl) ?_
            refine va_get (D := (dC, dI)) (ci := 1) (v := .ref (ae 2)) (C := RX1) (T := TX1) (N := 4) hx hb hts in_X1 hown hK hP 0 rfl rfl 2 (by decide) (hts _ q184) (fun _ h9 => h9) rfl dX1_list_87 ?_
            refine lv_iload_n hx hb dX1_list_90 rfl (lv_at hl 0 rfl) ?_
            refine lv_iload_n hx hb dX1_list_91 rfl (lv_at hl 2 rfl) ?_
            refine rp_iast nI nu2 k hx hb hK hP hD hS 2 1 rfl rfl (i := i) (by omega) (by decide) dX1_list_92 (fun H locs hP hD hS => ?_)
            have hP : va_P (dC, dI) rp_cl (rp_mw h1 ae dE pr ba ((rp_SN pr ba k).length) (va_up nu2 i k) (va_up co2 i (rp_cs pr k))) H := hP
            have hD : va_D A (rp_mw h1 ae dE pr ba ((rp_SN pr ba k).length) (va_up nu2 i k) (va_up co2 i (rp_cs pr k))) := hD
            refine lv_aload_n hx hb dX1_list_93 rfl (lv_at hl 3 rfl) ?_
            refine lv_dup hx hb dX1_list_94 rfl ?_
            refine va_get (D := (dC, dI)) (ci := 1) (v := .int (nI ((rp_SN pr ba k).length))) (C := RX1) (T := TX1) (N := 4) hx hb hts in_X1 hown hK hP 0 rfl rfl 1 (by decide) (hts _ q183) (fun _ h9 => h9) rfl dX1_list_95 ?_
            refine lv_iconst (v := nI 1) hx hb dX1_list_98 (by decide) ?_
            refine rp_iadd hx hb dX1_list_99 ?_
            refine va_put (D := (dC, dI)) (ci := 1) (v := .int (nI (((rp_SN pr ba k).length) + 1))) (ty := .int) (C := RX1) (T := TX1) (N := 4) hx hb hts in_X1 tyX1 tyX1_ok nmX1 hown hK hP hD hS 0 rfl rfl 1 (by decide) (hts _ q183) (fun _ h9 => h9) rfl (by decide +kernel) rfl rfl (Nat.le_of_ble_eq_true rfl) dX1_list_100 (fun H locs hP hD hS => ?_)
            have hP : va_P (dC, dI) rp_cl (rp_mw h1 ae dE pr ba (((rp_SN pr ba k).length) + 1) (va_up nu2 i k) (va_up co2 i (rp_cs pr k))) H := hP
            have hD : va_D A (rp_mw h1 ae dE pr ba (((rp_SN pr ba k).length) + 1) (va_up nu2 i k) (va_up co2 i (rp_cs pr k))) := hD
            have hP : va_P (dC, dI) rp_cl (rp_mw h1 ae dE pr ba ((rp_SN pr ba (k + 1)).length) (va_up nu2 i k) (va_up co2 i (rp_cs pr k))) H := by rw [← hlen]; exact hP
            have hD : va_D A (rp_mw h1 ae dE pr ba ((rp_SN pr ba (k + 1)).length) (va_up nu2 i k) (va_up co2 i (rp_cs pr k))) := by rw [← hlen]; exact hD
            have hH2 := rp_HL_ins (by omega) hok hH hG hi hlow
            refine lv_iinc (v := nI (k + 1)) (lv' := [(1, .int (nI (k + 1))), (3, .int (nI i)), (2, .int (nI (rp_cs pr k))), (0, .ref h1)]) hx hb dX1_list_103 hl (k := 2) rfl (by exact nI_1 _) (by decide) rfl (fun ls hl => ?_)
            refine lv_goto (tgt := 7) hx hb dX1_list_106 (by decide) ?_
            exact ih (k + 1) (va_up nu2 i k) (va_up co2 i (rp_cs pr k)) (by omega) (by omega) hH2 _ _ hP hD hS ls (lv_sub hl [0, 3] rfl)
          have L29 : ∀ (n : Nat) (i : Nat) (nu2 co2 : Nat → Nat), (i < n) → (i ≤ (rp_SN pr ba k).length) → (rp_IN (rp_SN pr ba k).length nu1 co1 nu2 co2 (rp_cs pr k) i) → ∀ (H : Heap) (locs : List Loc), va_P (dC, dI) rp_cl (rp_mw h1 ae dE pr ba ((rp_SN pr ba k).length) nu2 co2) H → va_D A (rp_mw h1 ae dE pr ba ((rp_SN pr ba k).length) nu2 co2) → va_S A s.heap H locs → ∀ (ls : Array Slot), lv_has ls 4 [(3, .int (nI i)), (2, .int (nI (rp_cs pr k))), (1, .int (nI k)), (0, .ref h1)] → W p l e (headSpec (ws_ yX1_list cX1_list 4 none) (rp_rm 2 48)).room s m ([.ref h1] : List Value).toArray below meth c H locs 0 0 (MQ below (va_Qv (fun (z : (Nat → Nat) × (Nat → Nat)) => rp_HL S z.1 z.2 3125) (fun z t1 => rp_Bc dC dI A (rp_mw h1 ae dE pr ba S.length z.1 z.2) (rp_mk dE) t1) A) ([.ref h1] : List Value).toArray s 0 0 A) (F0 m 29 ls []) := by
            intro n
            induction n with
            | zero =>
              intro i nu2 co2 hn2 hi hG
              exact absurd hn2 (by omega)
            | succ n ih =>
              intro i nu2 co2 hn2 hi hG H locs hP hD hS ls hl
              refine lv_iload_n hx hb dX1_list_29 rfl (lv_at hl 0 rfl) ?_
              refine rp_zle (tgt := 79) hx hb (by omega) dX1_list_30 (by decide) (fun c_30 => ?_) (fun c_30 => ?_)
              · have hlow : i = 0 ∨ co2 (i - 1) ≤ rp_cs pr k := Or.inl c_30
                exact L79 i nu2 co2 hi hG hlow _ _ hP hD hS ls (lv_sub hl [0, 1, 2, 3] rfl)
              · have hcb := hco (i - 1) (by omega)
                rw [← (hG.1 (i - 1) (by omega)).2] at hcb
                refine lv_aload_n hx hb dX1_list_33 rfl (lv_at hl 3 rfl) ?_
                refine va_get (D := (dC, dI)) (ci := 1) (v := .ref (ae 3)) (C := RX1) (T := TX1) (N := 4) hx hb hts in_X1 hown hK hP 0 rfl rfl 3 (by decide) (hts _ q185) (fun _ h9 => h9) rfl dX1_list_34 ?_
                refine lv_iload_n hx hb dX1_list_37 rfl (lv_at hl 0 rfl) ?_
                refine lv_iconst (v := nI 1) hx hb dX1_list_38 (by decide) ?_
                refine rp_isub hx hb (by omega) dX1_list_39 ?_
                refine rp_iald nI co2 hx hb hK hP 3 2 rfl rfl (i := i - 1) (by omega) (by decide) dX1_list_40 ?_
                refine lv_iload_n hx hb dX1_list_41 rfl (lv_at hl 1 rfl) ?_
                refine rp_icle (tgt := 79) hx hb (by omega) (by omega) dX1_list_42 (by decide) (fun c_42 => ?_) (fun c_42 => ?_)
                · have hlow : i = 0 ∨ co2 (i - 1) ≤ rp_cs pr k := Or.inr c_42
                  exact L79 i nu2 co2 hi hG hlow _ _ hP hD hS ls (lv_sub hl [0, 1, 2, 3] rfl)
                · refine lv_aload_n hx hb dX1_list_45 rfl (lv_at hl 3 rfl) ?_
                  refine va_get (D := (dC, dI)) (ci := 1) (v := .ref (ae 3)) (C := RX1) (T := TX1) (N := 4) hx hb hts in_X1 hown hK hP 0 rfl rfl 3 (by decide) (hts _ q185) (fun _ h9 => h9) rfl dX1_list_46 ?_
                  refine lv_iload_n hx hb dX1_list_49 rfl (lv_at hl 0 rfl) ?_
                  refine lv_aload_n hx hb dX1_list_50 rfl (lv_at hl 3 rfl) ?_
                  refine va_get (D := (dC, dI)) (ci := 1) (v := .ref (ae 3)) (C := RX1) (T := TX1) (N := 4) hx hb hts in_X1 hown hK hP 0 rfl rfl 3 (by decide) (hts _ q185) (fun _ h9 => h9) rfl dX1_list_51 ?_
                  refine lv_iload_n hx hb dX1_list_54 rfl (lv_at hl 0 rfl) ?_
                  refine lv_iconst (v := nI 1) hx hb dX1_list_55 (by decide) ?_
                  refine rp_isub hx hb (by omega) dX1_list_56 ?_
                  refine rp_iald nI co2 hx hb hK hP 3 2 rfl rfl (i := i - 1) (by omega) (by decide) dX1_list_57 ?_
                  refine rp_iast nI co2 (co2 (i - 1)) hx hb hK hP hD hS 3 2 rfl rfl (i := i) (by omega) (by decide) dX1_list_58 (fun H locs hP hD hS => ?_)
                  have hP : va_P (dC, dI) rp_cl (rp_mw h1 ae dE pr ba ((rp_SN pr ba k).length) nu2 (va_up co2 i (co2 (i - 1)))) H := hP
                  have hD : va_D A (rp_mw h1 ae dE pr ba ((rp_SN pr ba k).length) nu2 (va_up co2 i (co2 (i - 1)))) := hD
                  refine lv_aload_n hx hb dX1_list_59 rfl (lv_at hl 3 rfl) ?_
                  refine va_get (D := (dC, dI)) (ci := 1) (v := .ref (ae 2)) (C := RX1) (T := TX1) (N := 4) hx hb hts in_X1 hown hK hP 0 rfl rfl 2 (by decide) (hts _ q184) (fun _ h9 => h9) rfl dX1_list_60 ?_
                  refine lv_iload_n hx hb dX1_list_63 rfl (lv_at hl 0 rfl) ?_
                  refine lv_aload_n hx hb dX1_list_64 rfl (lv_at hl 3 rfl) ?_
                  refine va_get (D := (dC, dI)) (ci := 1) (v := .ref (ae 2)) (C := RX1) (T := TX1) (N := 4) hx hb hts in_X1 hown hK hP 0 rfl rfl 2 (by decide) (hts _ q184) (fun _ h9 => h9) rfl dX1_list_65 ?_
                  refine lv_iload_n hx hb dX1_list_68 rfl (lv_at hl 0 rfl) ?_
                  refine lv_iconst (v := nI 1) hx hb dX1_list_69 (by decide) ?_
                  refine rp_isub hx hb (by omega) dX1_list_70 ?_
                  refine rp_iald nI nu2 hx hb hK hP 2 1 rfl rfl (i := i - 1) (by omega) (by decide) dX1_list_71 ?_
                  refine rp_iast nI nu2 (nu2 (i - 1)) hx hb hK hP hD hS 2 1 rfl rfl (i := i) (by omega) (by decide) dX1_list_72 (fun H locs hP hD hS => ?_)
                  have hP : va_P (dC, dI) rp_cl (rp_mw h1 ae dE pr ba ((rp_SN pr ba k).length) (va_up nu2 i (nu2 (i - 1))) (va_up co2 i (co2 (i - 1)))) H := hP
                  have hD : va_D A (rp_mw h1 ae dE pr ba ((rp_SN pr ba k).length) (va_up nu2 i (nu2 (i - 1))) (va_up co2 i (co2 (i - 1)))) := hD
                  refine lv_iinc (v := nI (i - 1)) (lv' := [(3, .int (nI (i - 1))), (2, .int (nI (rp_cs pr k))), (1, .int (nI k)), (0, .ref h1)]) hx hb dX1_list_73 hl (k := 0) rfl (by exact sb_m1 (by omega)) (by decide) rfl (fun ls hl => ?_)
                  refine lv_goto (tgt := 29) hx hb dX1_list_76 (by decide) ?_
                  exact ih (i - 1) (va_up nu2 i (nu2 (i - 1))) (va_up co2 i (co2 (i - 1))) (by omega) (by omega) (rp_IN_s hG c_30 hi c_42) _ _ hP hD hS ls (lv_sub hl [0, 1, 2, 3] rfl)
          exact L29 ((rp_SN pr ba k).length + 1) ((rp_SN pr ba k).length) nu1 co1 (by omega) (by omega) rp_IN_0 _ _ hP hD hS ls (lv_sub hl [0, 1, 2, 3] rfl)
  refine lv_aload_n hx hb dX1_list_0 rfl (lv_at hl 0 rfl) ?_
  refine lv_iconst (v := nI 0) hx hb dX1_list_1 (by decide) ?_
  refine va_put (D := (dC, dI)) (ci := 1) (v := .int (nI 0)) (ty := .int) (C := RX1) (T := TX1) (N := 4) hx hb hts in_X1 tyX1 tyX1_ok nmX1 hown hK hP hD hS 0 rfl rfl 1 (by decide) (hts _ q183) (fun _ h9 => h9) rfl (by decide +kernel) rfl rfl (Nat.le_of_ble_eq_true rfl) dX1_list_2 (fun H locs hP hD hS => ?_)
  have hP : va_P (dC, dI) rp_cl (rp_mw h1 ae dE pr ba 0 nu co) H := hP
  have hD : va_D A (rp_mw h1 ae dE pr ba 0 nu co) := hD
  refine lv_iconst (v := nI 0) hx hb dX1_list_5 (by decide) ?_
  refine lv_istore_n (lv' := [(1, .int (nI 0)), (0, .ref h1)]) hx hb dX1_list_6 rfl hl (by decide) rfl (fun ls hl => ?_)
  exact L7 3126 0 nu co (by omega) (by omega) rp_HL_0 _ _ hP hD hS ls (lv_sub hl [0, 1] rfl)
end
section
/-! the reference: price, bar, plans, cost, plan, task -/
set_option maxRecDepth 100000
set_option maxHeartbeats 4000000 in
/-- price(w, t, p) -/
theorem metX1_price (l : Launch) (dC : Nat → ClassId) (dI : Nat → Nat → Nat) (h1 : Nat) (ae : Nat → Nat) (dE : Nat → ClassId) (sz : Nat) (pr : Nat → Nat) (ba : Nat → Bool) (cn : Nat) (nu : Nat → Nat) (co : Nat → Nat) (w t p0 : Int32) : Met l yX1_price (ws_ yX1_price cX1_price 4 (some .int)) (rp_rm 1 20) (rp_Pc dC dI [.ref h1, .int w, .int t, .int p0] sz (rp_mw h1 ae dE pr ba cn nu co) (rp_mk dE)) (va_Qi (fun (r : Int32) (_ : Unit) => r = (if rp_vp w t p0 = true then 0 else -1)) (fun _ t1 => rp_Bc dC dI (va_A (rp_mw h1 ae dE pr ba cn nu co) sz) (rp_mw h1 ae dE (rp_npr pr w t p0) (rp_nba ba w t p0) cn nu co) (rp_mk dE) t1) (va_A (rp_mw h1 ae dE pr ba cn nu co) sz)) 0 0 (va_A (rp_mw h1 ae dE pr ba cn nu co) sz) := by
  refine Met.ofW (cc := cX1_price) (maxL := 4) (ret := (some .int)) (by decide) rfl ?_
  intro p e s m args below meth c s₁ B hml hv
  obtain ⟨rfl, hsz, hP, hK, hD0⟩ := hv
  have hx := B.exec
  have hb := B.bytes
  have hr := B.returns
  have hts := atoms_spec (ws := (ws_ yX1_price cX1_price 4 (some .int))) B.pre
  have hts : ∀ w ∈ lw_all, w.before _ s = true := fun w h => hts w (List.mem_cons_of_mem _ h)
  have hown : s.vm.findClass RX1 = some m.cls := findClass_of_methodNamed B.named
  have hlocks := B.notSynchronized
  subst hsz
  have hD := hD0.self (sz := s.heap.size)
  generalize hAe : va_A (rp_mw h1 ae dE pr ba cn nu co) s.heap.size = A at hD ⊢
  have hA : ∀ q : Nat, s.heap.size ≤ q → A q := fun q h => by rw [← hAe]; exact Or.inr h
  have hS : va_S A s.heap s.heap [] := va_S.rf
  have hP : va_P (dC, dI) rp_cl (rp_mw h1 ae dE pr ba cn nu co) s.heap := hP
  have hl := lv_entry ([.ref h1, .int w, .int t, .int p0]) (n := 4) (Nat.le_of_ble_eq_true rfl)
  rw [lg_entry_eq]
  generalize (lg_sl ([.ref h1, .int w, .int t, .int p0]) ++ List.replicate (4 - (lg_sl ([.ref h1, .int w, .int t, .int p0])).length) Slot.unset).toArray = ls at hl ⊢
  have hl : lv_has ls 4 [(0, .ref h1), (1, .int w), (2, .int t), (3, .int p0)] := hl
  have L0 : ∀ (H : Heap) (locs : List Loc), va_P (dC, dI) rp_cl (rp_mw h1 ae dE pr ba cn nu co) H → va_D A (rp_mw h1 ae dE pr ba cn nu co) → va_S A s.heap H locs → ∀ (ls : Array Slot), lv_has ls 4 [(0, .ref h1), (1, .int w), (2, .int t), (3, .int p0)] → W p l e (headSpec (ws_ yX1_price cX1_price 4 (some .int)) (rp_rm 1 20)).room s m ([.ref h1, .int w, .int t, .int p0] : List Value).toArray below meth c H locs 0 0 (MQ below (va_Qi (fun (r : Int32) (_ : Unit) => r = (if rp_vp w t p0 = true then 0 else -1)) (fun _ t1 => rp_Bc dC dI A (rp_mw h1 ae dE (rp_npr pr w t p0) (rp_nba ba w t p0) cn nu co) (rp_mk dE) t1) A) ([.ref h1, .int w, .int t, .int p0] : List Value).toArray s 0 0 A) (F0 m 0 ls []) := by
    intro   H locs hP hD hS ls hl
    refine lv_iload_n hx hb dX1_price_0 rfl (lv_at hl 1 rfl) ?_
    refine vp_callSi (W.runS (As := [.int w]) (rest := []) ⟨hx, hb, hml, hown, hts⟩ (metX1_bad l w) (va_cwS 1 hts (lw_S q199 q200 q13 q201) rfl rfl rfl (by decide +kernel) ⟨Nat.le_of_ble_eq_true rfl, Nat.le_of_ble_eq_true rfl⟩) ⟨fun a U g mk q => q, fun U hU hW => ⟨rfl, trivial⟩⟩ rfl rfl hl.1 rfl (lv_room (Nat.le_of_ble_eq_true rfl)) dX1_price_1 ⟨Nat.le_of_ble_eq_true rfl, Nat.le_of_ble_eq_true rfl⟩) (fun r hr9 => ?_)
    subst hr9
    refine rp_bne (tgt := 24) hx hb dX1_price_4 (by decide) (fun c_4 => ?_) (fun c_4 => ?_)
    · have hv : rp_vp w t p0 = false := rp_vp_1 (by simpa using c_4)
      refine lv_iconst (v := (-1)) hx hb dX1_price_24 (by decide) ?_
      have e1 : rp_npr pr w t p0 = pr := by unfold rp_npr; rw [hv]; rfl
      have e2 : rp_nba ba w t p0 = ba := by unfold rp_nba; rw [hv]; rfl
      have hP : va_P (dC, dI) rp_cl (rp_mw h1 ae dE (rp_npr pr w t p0) (rp_nba ba w t p0) cn nu co) H := by rw [e1, e2]; exact hP
      have hD : va_D A (rp_mw h1 ae dE (rp_npr pr w t p0) (rp_nba ba w t p0) cn nu co) := by rw [e1, e2]; exact hD
      exact W.iret (v := (-1)) hx hb hr (fun t9 ht9 hW9 => ⟨⟨(-1), (), rfl, by rw [hv]; rfl, by rw [ht9]; exact hP, va_K.moved hW9.alike hK, hD⟩, hS.F ht9⟩) hS.2.2 dX1_price_25
    · refine lv_iload_n hx hb dX1_price_7 rfl (lv_at hl 2 rfl) ?_
      refine vp_callSi (W.runS (As := [.int t]) (rest := []) ⟨hx, hb, hml, hown, hts⟩ (metX1_bad l t) (va_cwS 1 hts (lw_S q199 q200 q13 q201) rfl rfl rfl (by decide +kernel) ⟨Nat.le_of_ble_eq_true rfl, Nat.le_of_ble_eq_true rfl⟩) ⟨fun a U g mk q => q, fun U hU hW => ⟨rfl, trivial⟩⟩ rfl rfl hl.1 rfl (lv_room (Nat.le_of_ble_eq_true rfl)) dX1_price_8 ⟨Nat.le_of_ble_eq_true rfl, Nat.le_of_ble_eq_true rfl⟩) (fun r hr9 => ?_)
      subst hr9
      refine rp_bne (tgt := 24) hx hb dX1_price_11 (by decide) (fun c_11 => ?_) (fun c_11 => ?_)
      · have hv : rp_vp w t p0 = false := rp_vp_2 (by simpa using c_11)
        refine lv_iconst (v := (-1)) hx hb dX1_price_24 (by decide) ?_
        have e1 : rp_npr pr w t p0 = pr := by unfold rp_npr; rw [hv]; rfl
        have e2 : rp_nba ba w t p0 = ba := by unfold rp_nba; rw [hv]; rfl
        have hP : va_P (dC, dI) rp_cl (rp_mw h1 ae dE (rp_npr pr w t p0) (rp_nba ba w t p0) cn nu co) H := by rw [e1, e2]; exact hP
        have hD : va_D A (rp_mw h1 ae dE (rp_npr pr w t p0) (rp_nba ba w t p0) cn nu co) := by rw [e1, e2]; exact hD
        exact W.iret (v := (-1)) hx hb hr (fun t9 ht9 hW9 => ⟨⟨(-1), (), rfl, by rw [hv]; rfl, by rw [ht9]; exact hP, va_K.moved hW9.alike hK, hD⟩, hS.F ht9⟩) hS.2.2 dX1_price_25
      · refine lv_iload_n hx hb dX1_price_14 rfl (lv_at hl 3 rfl) ?_
        refine lv_if_lt (tgt := 24) hx hb dX1_price_15 (by decide) (fun c_15 => ?_) (fun c_15 => ?_)
        · have hv : rp_vp w t p0 = false := rp_vp_3 c_15
          refine lv_iconst (v := (-1)) hx hb dX1_price_24 (by decide) ?_
          have e1 : rp_npr pr w t p0 = pr := by unfold rp_npr; rw [hv]; rfl
          have e2 : rp_nba ba w t p0 = ba := by unfold rp_nba; rw [hv]; rfl
          have hP : va_P (dC, dI) rp_cl (rp_mw h1 ae dE (rp_npr pr w t p0) (rp_nba ba w t p0) cn nu co) H := by rw [e1, e2]; exact hP
          have hD : va_D A (rp_mw h1 ae dE (rp_npr pr w t p0) (rp_nba ba w t p0) cn nu co) := by rw [e1, e2]; exact hD
          exact W.iret (v := (-1)) hx hb hr (fun t9 ht9 hW9 => ⟨⟨(-1), (), rfl, by rw [hv]; rfl, by rw [ht9]; exact hP, va_K.moved hW9.alike hK, hD⟩, hS.F ht9⟩) hS.2.2 dX1_price_25
        · refine lv_iload_n hx hb dX1_price_18 rfl (lv_at hl 3 rfl) ?_
          refine lv_bipush (v := nI 99) hx hb dX1_price_19 (by decide) ?_
          refine lv_icmp_le (tgt := 26) hx hb dX1_price_21 (by decide) (fun c_21 => ?_) (fun c_21 => ?_)
          · obtain ⟨jp, hjp, rfl⟩ := rp_p_of c_15 c_21
            obtain ⟨jw, hjw, rfl⟩ := rp_ir_of (by simpa using c_4)
            obtain ⟨jt, hjt, rfl⟩ := rp_ir_of (by simpa using c_11)
            refine lv_aload_n hx hb dX1_price_26 rfl (lv_at hl 0 rfl) ?_
            refine va_get (D := (dC, dI)) (ci := 1) (v := .ref (ae 0)) (C := RX1) (T := TX1) (N := 4) hx hb hts in_X1 hown hK hP 0 rfl rfl 0 (by decide) (hts _ q182) (fun _ h9 => h9) rfl dX1_price_27 ?_
            refine lv_iconst (v := nI 5) hx hb dX1_price_30 (by decide) ?_
            refine lv_iload_n hx hb dX1_price_31 rfl (lv_at hl 1 rfl) ?_
            refine rp_imul hx hb dX1_price_32 ?_
            refine lv_iload_n hx hb dX1_price_33 rfl (lv_at hl 2 rfl) ?_
            refine rp_iadd hx hb dX1_price_34 ?_
            refine lv_iload_n hx hb dX1_price_35 rfl (lv_at hl 3 rfl) ?_
            refine rp_iast (fun x : Int32 => x) (fun j => rp_M pr ba j) (nI jp) hx hb hK hP hD hS 1 0 rfl rfl (i := 5 * jw + jt) (by omega) (by decide) dX1_price_36 (fun H locs hP hD hS => ?_)
            have hP : va_P (dC, dI) rp_cl [(h1, .inr (1, [.ref (ae 0), .int (nI cn), .ref (ae 2), .ref (ae 3)])), (ae 0, .inl (dE 0, 25, .inl (fun j => va_up (fun j => rp_M pr ba j) (5 * jw + jt) (nI jp) j))), (ae 2, .inl (dE 2, 120, .inl (fun j => nI (nu j)))), (ae 3, .inl (dE 3, 120, .inl (fun j => nI (co j))))] H := hP
            have hD : va_D A [(h1, .inr (1, [.ref (ae 0), .int (nI cn), .ref (ae 2), .ref (ae 3)])), (ae 0, .inl (dE 0, 25, .inl (fun j => va_up (fun j => rp_M pr ba j) (5 * jw + jt) (nI jp) j))), (ae 2, .inl (dE 2, 120, .inl (fun j => nI (nu j)))), (ae 3, .inl (dE 3, 120, .inl (fun j => nI (co j))))] := hD
            rw [rp_M_put] at hP hD
            have hP : va_P (dC, dI) rp_cl (rp_mw h1 ae dE (va_up pr (5 * jw + jt) jp) (va_up ba (5 * jw + jt) false) cn nu co) H := hP
            have hD : va_D A (rp_mw h1 ae dE (va_up pr (5 * jw + jt) jp) (va_up ba (5 * jw + jt) false) cn nu co) := hD
            have hv : rp_vp (nI jw) (nI jt) (nI jp) = true := rp_vp_nI hjw hjt hjp
            have e1 : rp_npr pr (nI jw) (nI jt) (nI jp) = va_up pr (5 * jw + jt) jp := by unfold rp_npr; rw [if_pos hv, rp_ix_nI hjw hjt, nI_toInt (by omega)]; rfl
            have e2 : rp_nba ba (nI jw) (nI jt) (nI jp) = va_up ba (5 * jw + jt) false := by unfold rp_nba; rw [if_pos hv, rp_ix_nI hjw hjt]
            have hP : va_P (dC, dI) rp_cl (rp_mw h1 ae dE (rp_npr pr (nI jw) (nI jt) (nI jp)) (rp_nba ba (nI jw) (nI jt) (nI jp)) cn nu co) H := by rw [e1, e2]; exact hP
            have hD : va_D A (rp_mw h1 ae dE (rp_npr pr (nI jw) (nI jt) (nI jp)) (rp_nba ba (nI jw) (nI jt) (nI jp)) cn nu co) := by rw [e1, e2]; exact hD
            refine lv_iconst (v := nI 0) hx hb dX1_price_37 (by decide) ?_
            exact W.iret (v := nI 0) hx hb hr (fun t9 ht9 hW9 => ⟨⟨nI 0, (), rfl, by rw [hv, if_pos rfl]; exact nI_0, by rw [ht9]; exact hP, va_K.moved hW9.alike hK, hD⟩, hS.F ht9⟩) hS.2.2 dX1_price_38
          · have hv : rp_vp w t p0 = false := rp_vp_4 c_21
            refine lv_iconst (v := (-1)) hx hb dX1_price_24 (by decide) ?_
            have e1 : rp_npr pr w t p0 = pr := by unfold rp_npr; rw [hv]; rfl
            have e2 : rp_nba ba w t p0 = ba := by unfold rp_nba; rw [hv]; rfl
            have hP : va_P (dC, dI) rp_cl (rp_mw h1 ae dE (rp_npr pr w t p0) (rp_nba ba w t p0) cn nu co) H := by rw [e1, e2]; exact hP
            have hD : va_D A (rp_mw h1 ae dE (rp_npr pr w t p0) (rp_nba ba w t p0) cn nu co) := by rw [e1, e2]; exact hD
            exact W.iret (v := (-1)) hx hb hr (fun t9 ht9 hW9 => ⟨⟨(-1), (), rfl, by rw [hv]; rfl, by rw [ht9]; exact hP, va_K.moved hW9.alike hK, hD⟩, hS.F ht9⟩) hS.2.2 dX1_price_25
  exact L0 _ _ hP hD hS ls hl
set_option maxHeartbeats 4000000 in
/-- bar(w, t) -/
theorem metX1_bar (l : Launch) (dC : Nat → ClassId) (dI : Nat → Nat → Nat) (h1 : Nat) (ae : Nat → Nat) (dE : Nat → ClassId) (sz : Nat) (pr : Nat → Nat) (ba : Nat → Bool) (cn : Nat) (nu : Nat → Nat) (co : Nat → Nat) (w t : Int32) : Met l yX1_bar (ws_ yX1_bar cX1_bar 3 (some .int)) (rp_rm 1 20) (rp_Pc dC dI [.ref h1, .int w, .int t] sz (rp_mw h1 ae dE pr ba cn nu co) (rp_mk dE)) (va_Qi (fun (r : Int32) (_ : Unit) => r = (if (rp_ir w && rp_ir t) = true then 0 else -1)) (fun _ t1 => rp_Bc dC dI (va_A (rp_mw h1 ae dE pr ba cn nu co) sz) (rp_mw h1 ae dE pr (rp_nbb ba w t) cn nu co) (rp_mk dE) t1) (va_A (rp_mw h1 ae dE pr ba cn nu co) sz)) 0 0 (va_A (rp_mw h1 ae dE pr ba cn nu co) sz) := by
  refine Met.ofW (cc := cX1_bar) (maxL := 3) (ret := (some .int)) (by decide) rfl ?_
  intro p e s m args below meth c s₁ B hml hv
  obtain ⟨rfl, hsz, hP, hK, hD0⟩ := hv
  have hx := B.exec
  have hb := B.bytes
  have hr := B.returns
  have hts := atoms_spec (ws := (ws_ yX1_bar cX1_bar 3 (some .int))) B.pre
  have hts : ∀ w ∈ lw_all, w.before _ s = true := fun w h => hts w (List.mem_cons_of_mem _ h)
  have hown : s.vm.findClass RX1 = some m.cls := findClass_of_methodNamed B.named
  have hlocks := B.notSynchronized
  subst hsz
  have hD := hD0.self (sz := s.heap.size)
  generalize hAe : va_A (rp_mw h1 ae dE pr ba cn nu co) s.heap.size = A at hD ⊢
  have hA : ∀ q : Nat, s.heap.size ≤ q → A q := fun q h => by rw [← hAe]; exact Or.inr h
  have hS : va_S A s.heap s.heap [] := va_S.rf
  have hP : va_P (dC, dI) rp_cl (rp_mw h1 ae dE pr ba cn nu co) s.heap := hP
  have hl := lv_entry ([.ref h1, .int w, .int t]) (n := 3) (Nat.le_of_ble_eq_true rfl)
  rw [lg_entry_eq]
  generalize (lg_sl ([.ref h1, .int w, .int t]) ++ List.replicate (3 - (lg_sl ([.ref h1, .int w, .int t])).length) Slot.unset).toArray = ls at hl ⊢
  have hl : lv_has ls 3 [(0, .ref h1), (1, .int w), (2, .int t)] := hl
  have L0 : ∀ (H : Heap) (locs : List Loc), va_P (dC, dI) rp_cl (rp_mw h1 ae dE pr ba cn nu co) H → va_D A (rp_mw h1 ae dE pr ba cn nu co) → va_S A s.heap H locs → ∀ (ls : Array Slot), lv_has ls 3 [(0, .ref h1), (1, .int w), (2, .int t)] → W p l e (headSpec (ws_ yX1_bar cX1_bar 3 (some .int)) (rp_rm 1 20)).room s m ([.ref h1, .int w, .int t] : List Value).toArray below meth c H locs 0 0 (MQ below (va_Qi (fun (r : Int32) (_ : Unit) => r = (if (rp_ir w && rp_ir t) = true then 0 else -1)) (fun _ t1 => rp_Bc dC dI A (rp_mw h1 ae dE pr (rp_nbb ba w t) cn nu co) (rp_mk dE) t1) A) ([.ref h1, .int w, .int t] : List Value).toArray s 0 0 A) (F0 m 0 ls []) := by
    intro   H locs hP hD hS ls hl
    refine lv_iload_n hx hb dX1_bar_0 rfl (lv_at hl 1 rfl) ?_
    refine vp_callSi (W.runS (As := [.int w]) (rest := []) ⟨hx, hb, hml, hown, hts⟩ (metX1_bad l w) (va_cwS 1 hts (lw_S q199 q200 q13 q201) rfl rfl rfl (by decide +kernel) ⟨Nat.le_of_ble_eq_true rfl, Nat.le_of_ble_eq_true rfl⟩) ⟨fun a U g mk q => q, fun U hU hW => ⟨rfl, trivial⟩⟩ rfl rfl hl.1 rfl (lv_room (Nat.le_of_ble_eq_true rfl)) dX1_bar_1 ⟨Nat.le_of_ble_eq_true rfl, Nat.le_of_ble_eq_true rfl⟩) (fun r hr9 => ?_)
    subst hr9
    refine rp_bne (tgt := 14) hx hb dX1_bar_4 (by decide) (fun c_4 => ?_) (fun c_4 => ?_)
    · have hv : (rp_ir w && rp_ir t) = false := by rw [show rp_ir w = false by simpa using c_4]; rfl
      refine lv_iconst (v := (-1)) hx hb dX1_bar_14 (by decide) ?_
      have e2 : rp_nbb ba w t = ba := by unfold rp_nbb; rw [hv]; rfl
      have hP : va_P (dC, dI) rp_cl (rp_mw h1 ae dE pr (rp_nbb ba w t) cn nu co) H := by rw [e2]; exact hP
      have hD : va_D A (rp_mw h1 ae dE pr (rp_nbb ba w t) cn nu co) := by rw [e2]; exact hD
      exact W.iret (v := (-1)) hx hb hr (fun t9 ht9 hW9 => ⟨⟨(-1), (), rfl, by rw [hv]; rfl, by rw [ht9]; exact hP, va_K.moved hW9.alike hK, hD⟩, hS.F ht9⟩) hS.2.2 dX1_bar_15
    · refine lv_iload_n hx hb dX1_bar_7 rfl (lv_at hl 2 rfl) ?_
      refine vp_callSi (W.runS (As := [.int t]) (rest := []) ⟨hx, hb, hml, hown, hts⟩ (metX1_bad l t) (va_cwS 1 hts (lw_S q199 q200 q13 q201) rfl rfl rfl (by decide +kernel) ⟨Nat.le_of_ble_eq_true rfl, Nat.le_of_ble_eq_true rfl⟩) ⟨fun a U g mk q => q, fun U hU hW => ⟨rfl, trivial⟩⟩ rfl rfl hl.1 rfl (lv_room (Nat.le_of_ble_eq_true rfl)) dX1_bar_8 ⟨Nat.le_of_ble_eq_true rfl, Nat.le_of_ble_eq_true rfl⟩) (fun r hr9 => ?_)
      subst hr9
      refine rp_beq (tgt := 16) hx hb dX1_bar_11 (by decide) (fun c_11 => ?_) (fun c_11 => ?_)
      · obtain ⟨jw, hjw, rfl⟩ := rp_ir_of (by simpa using c_4)
        obtain ⟨jt, hjt, rfl⟩ := rp_ir_of (by simpa using c_11)
        refine lv_aload_n hx hb dX1_bar_16 rfl (lv_at hl 0 rfl) ?_
        refine va_get (D := (dC, dI)) (ci := 1) (v := .ref (ae 0)) (C := RX1) (T := TX1) (N := 4) hx hb hts in_X1 hown hK hP 0 rfl rfl 0 (by decide) (hts _ q182) (fun _ h9 => h9) rfl dX1_bar_17 ?_
        refine lv_iconst (v := nI 5) hx hb dX1_bar_20 (by decide) ?_
        refine lv_iload_n hx hb dX1_bar_21 rfl (lv_at hl 1 rfl) ?_
        refine rp_imul hx hb dX1_bar_22 ?_
        refine lv_iload_n hx hb dX1_bar_23 rfl (lv_at hl 2 rfl) ?_
        refine rp_iadd hx hb dX1_bar_24 ?_
        refine lv_iconst (v := (-1)) hx hb dX1_bar_25 (by decide) ?_
        refine rp_iast (fun x : Int32 => x) (fun j => rp_M pr ba j) (-1) hx hb hK hP hD hS 1 0 rfl rfl (i := 5 * jw + jt) (by omega) (by decide) dX1_bar_26 (fun H locs hP hD hS => ?_)
        have hP : va_P (dC, dI) rp_cl [(h1, .inr (1, [.ref (ae 0), .int (nI cn), .ref (ae 2), .ref (ae 3)])), (ae 0, .inl (dE 0, 25, .inl (fun j => va_up (fun j => rp_M pr ba j) (5 * jw + jt) (-1) j))), (ae 2, .inl (dE 2, 120, .inl (fun j => nI (nu j)))), (ae 3, .inl (dE 3, 120, .inl (fun j => nI (co j))))] H := hP
        have hD : va_D A [(h1, .inr (1, [.ref (ae 0), .int (nI cn), .ref (ae 2), .ref (ae 3)])), (ae 0, .inl (dE 0, 25, .inl (fun j => va_up (fun j => rp_M pr ba j) (5 * jw + jt) (-1) j))), (ae 2, .inl (dE 2, 120, .inl (fun j => nI (nu j)))), (ae 3, .inl (dE 3, 120, .inl (fun j => nI (co j))))] := hD
        rw [rp_M_bar] at hP hD
        have hP : va_P (dC, dI) rp_cl (rp_mw h1 ae dE pr (va_up ba (5 * jw + jt) true) cn nu co) H := hP
        have hD : va_D A (rp_mw h1 ae dE pr (va_up ba (5 * jw + jt) true) cn nu co) := hD
        have hv : (rp_ir (nI jw) && rp_ir (nI jt)) = true := by rw [rp_ir_nI jw hjw, rp_ir_nI jt hjt]; rfl
        have e2 : rp_nbb ba (nI jw) (nI jt) = va_up ba (5 * jw + jt) true := by unfold rp_nbb; rw [if_pos hv, rp_ix_nI hjw hjt]
        have hP : va_P (dC, dI) rp_cl (rp_mw h1 ae dE pr (rp_nbb ba (nI jw) (nI jt)) cn nu co) H := by rw [e2]; exact hP
        have hD : va_D A (rp_mw h1 ae dE pr (rp_nbb ba (nI jw) (nI jt)) cn nu co) := by rw [e2]; exact hD
        refine lv_iconst (v := nI 0) hx hb dX1_bar_27 (by decide) ?_
        exact W.iret (v := nI 0) hx hb hr (fun t9 ht9 hW9 => ⟨⟨nI 0, (), rfl, by rw [hv, if_pos rfl]; exact nI_0, by rw [ht9]; exact hP, va_K.moved hW9.alike hK, hD⟩, hS.F ht9⟩) hS.2.2 dX1_bar_28
      · have hv : (rp_ir w && rp_ir t) = false := by rw [show rp_ir t = false by simpa using c_11, Bool.and_false]
        refine lv_iconst (v := (-1)) hx hb dX1_bar_14 (by decide) ?_
        have e2 : rp_nbb ba w t = ba := by unfold rp_nbb; rw [hv]; rfl
        have hP : va_P (dC, dI) rp_cl (rp_mw h1 ae dE pr (rp_nbb ba w t) cn nu co) H := by rw [e2]; exact hP
        have hD : va_D A (rp_mw h1 ae dE pr (rp_nbb ba w t) cn nu co) := by rw [e2]; exact hD
        exact W.iret (v := (-1)) hx hb hr (fun t9 ht9 hW9 => ⟨⟨(-1), (), rfl, by rw [hv]; rfl, by rw [ht9]; exact hP, va_K.moved hW9.alike hK, hD⟩, hS.F ht9⟩) hS.2.2 dX1_bar_15
  exact L0 _ _ hP hD hS ls hl
set_option maxHeartbeats 4000000 in
/-- plans -/
theorem metX1_plans (l : Launch) (dC : Nat → ClassId) (dI : Nat → Nat → Nat) (h1 : Nat) (ae : Nat → Nat) (dE : Nat → ClassId) (sz : Nat) (pr : Nat → Nat) (ba : Nat → Bool) (cn : Nat) (nu : Nat → Nat) (co : Nat → Nat) (S : List Nat) (hpr : ∀ j, j < 25 → pr j < 100) (hSS : rp_SN pr ba 3125 = S) (hSl : S.length ≤ 120) : Met l yX1_plans (ws_ yX1_plans cX1_plans 1 (some .int)) (rp_rm 3 71) (rp_Pc dC dI [.ref h1] sz (rp_mw h1 ae dE pr ba cn nu co) (rp_mk dE)) (va_Qi (fun (r : Int32) (z : Nat × (Nat → Nat) × (Nat → Nat)) => r = nI S.length) (fun z t1 => rp_Bc dC dI (va_A (rp_mw h1 ae dE pr ba cn nu co) sz) (rp_mw h1 ae dE pr ba z.1 z.2.1 z.2.2) (rp_mk dE) t1) (va_A (rp_mw h1 ae dE pr ba cn nu co) sz)) 0 0 (va_A (rp_mw h1 ae dE pr ba cn nu co) sz) := by
  refine Met.ofW (cc := cX1_plans) (maxL := 1) (ret := (some .int)) (by decide) rfl ?_
  intro p e s m args below meth c s₁ B hml hv
  obtain ⟨rfl, hsz, hP, hK, hD0⟩ := hv
  have hx := B.exec
  have hb := B.bytes
  have hr := B.returns
  have hts := atoms_spec (ws := (ws_ yX1_plans cX1_plans 1 (some .int))) B.pre
  have hts : ∀ w ∈ lw_all, w.before _ s = true := fun w h => hts w (List.mem_cons_of_mem _ h)
  have hown : s.vm.findClass RX1 = some m.cls := findClass_of_methodNamed B.named
  have hlocks := B.notSynchronized
  subst hsz
  have hD := hD0.self (sz := s.heap.size)
  generalize hAe : va_A (rp_mw h1 ae dE pr ba cn nu co) s.heap.size = A at hD ⊢
  have hA : ∀ q : Nat, s.heap.size ≤ q → A q := fun q h => by rw [← hAe]; exact Or.inr h
  have hS : va_S A s.heap s.heap [] := va_S.rf
  have hP : va_P (dC, dI) rp_cl (rp_mw h1 ae dE pr ba cn nu co) s.heap := hP
  have hl := lv_entry ([.ref h1]) (n := 1) (Nat.le_of_ble_eq_true rfl)
  rw [lg_entry_eq]
  generalize (lg_sl ([.ref h1]) ++ List.replicate (1 - (lg_sl ([.ref h1])).length) Slot.unset).toArray = ls at hl ⊢
  have hl : lv_has ls 1 [(0, .ref h1)] := hl
  have L0 : ∀ (H : Heap) (locs : List Loc), va_P (dC, dI) rp_cl (rp_mw h1 ae dE pr ba cn nu co) H → va_D A (rp_mw h1 ae dE pr ba cn nu co) → va_S A s.heap H locs → ∀ (ls : Array Slot), lv_has ls 1 [(0, .ref h1)] → W p l e (headSpec (ws_ yX1_plans cX1_plans 1 (some .int)) (rp_rm 3 71)).room s m ([.ref h1] : List Value).toArray below meth c H locs 0 0 (MQ below (va_Qi (fun (r : Int32) (z : Nat × (Nat → Nat) × (Nat → Nat)) => r = nI S.length) (fun z t1 => rp_Bc dC dI A (rp_mw h1 ae dE pr ba z.1 z.2.1 z.2.2) (rp_mk dE) t1) A) ([.ref h1] : List Value).toArray s 0 0 A) (F0 m 0 ls []) := by
    intro   H locs hP hD hS ls hl
    refine lv_aload_n hx hb dX1_plans_0 rfl (lv_at hl 0 rfl) ?_
    have hFc := va_free (wc := rp_mw h1 ae dE pr ba cn nu co) hD hS hA [0, 1, 2, 3] rfl
    refine va_callv (va_runV (As := []) (rest := []) ⟨hx, hb, hml, hown, hts⟩ (metX1_list l dC dI h1 ae dE H.size pr ba cn nu co S hpr hSS hSl) (cwV 0 hts (lw_V q210 q212 qs9 q13 q213) rfl rfl rfl (by decide +kernel) ⟨Nat.le_of_ble_eq_true rfl, Nat.le_of_ble_eq_true rfl⟩) ⟨fun a U g mk q => by obtain ⟨q0, q1, qP, qK, qD⟩ := q; exact ⟨q0, q1, qP, va_K.moved (u := U) (U := U.calling g mk a) (Vm.Alike.refl U.vm) qK, qD⟩, va_recv hK hP (ci := 1) (q0 := 0) rfl rfl, fun U hU hW => ⟨rfl, by rw [hU], by rw [hU]; exact hP, va_K.moved hW.alike hK, hD.weaken (fun _ _ _ _ => trivial)⟩⟩ rfl rfl hl.1 rfl (lv_room (Nat.le_of_ble_eq_true rfl)) dX1_plans_1 ⟨Nat.le_of_ble_eq_true rfl, Nat.le_of_ble_eq_true rfl⟩) hS (fun q _ h => hFc q h) hFc (fun u_ t H1 locs ht hvm hw hB hz1 hk1 hS => ?_)
    obtain ⟨hP1, hK1, hD1⟩ := hB
    rw [ht] at hP1
    have hD := hD1.weaken (fun k q _ h => hFc q.1 h)
    have hP := hP1
    obtain ⟨nu2, co2⟩ := u_
    have hH : rp_HL S nu2 co2 3125 := hw
    clear hFc hK1 hz1 hk1 hD1 hP1 ht hvm
    generalize H1 = H at hP hS ⊢
    have hP : va_P (dC, dI) rp_cl (rp_mw h1 ae dE pr ba S.length nu2 co2) H := hP
    have hD : va_D A (rp_mw h1 ae dE pr ba S.length nu2 co2) := hD
    refine lv_aload_n hx hb dX1_plans_4 rfl (lv_at hl 0 rfl) ?_
    refine va_get (D := (dC, dI)) (ci := 1) (v := .int (nI S.length)) (C := RX1) (T := TX1) (N := 4) hx hb hts in_X1 hown hK hP 0 rfl rfl 1 (by decide) (hts _ q183) (fun _ h9 => h9) rfl dX1_plans_5 ?_
    exact W.iret (v := nI S.length) hx hb hr (fun t9 ht9 hW9 => ⟨⟨nI S.length, (S.length, nu2, co2), rfl, rfl, by rw [ht9]; exact hP, va_K.moved hW9.alike hK, hD⟩, hS.F ht9⟩) hS.2.2 dX1_plans_8
  exact L0 _ _ hP hD hS ls hl
set_option maxHeartbeats 4000000 in
/-- cost -/
theorem metX1_cost (l : Launch) (dC : Nat → ClassId) (dI : Nat → Nat → Nat) (h1 : Nat) (ae : Nat → Nat) (dE : Nat → ClassId) (sz : Nat) (pr : Nat → Nat) (ba : Nat → Bool) (cn : Nat) (nu : Nat → Nat) (co : Nat → Nat) (S : List Nat) (k : Int32) (hpr : ∀ j, j < 25 → pr j < 100) (hSS : rp_SN pr ba 3125 = S) (hSl : S.length ≤ 120) : Met l yX1_cost (ws_ yX1_cost cX1_cost 2 (some .int)) (rp_rm 3 71) (rp_Pc dC dI [.ref h1, .int k] sz (rp_mw h1 ae dE pr ba cn nu co) (rp_mk dE)) (va_Qi (fun (r : Int32) (z : Nat × (Nat → Nat) × (Nat → Nat)) => r = rp_a_cost S k) (fun z t1 => rp_Bc dC dI (va_A (rp_mw h1 ae dE pr ba cn nu co) sz) (rp_mw h1 ae dE pr ba z.1 z.2.1 z.2.2) (rp_mk dE) t1) (va_A (rp_mw h1 ae dE pr ba cn nu co) sz)) 0 0 (va_A (rp_mw h1 ae dE pr ba cn nu co) sz) := by
  refine Met.ofW (cc := cX1_cost) (maxL := 2) (ret := (some .int)) (by decide) rfl ?_
  intro p e s m args below meth c s₁ B hml hv
  obtain ⟨rfl, hsz, hP, hK, hD0⟩ := hv
  have hx := B.exec
  have hb := B.bytes
  have hr := B.returns
  have hts := atoms_spec (ws := (ws_ yX1_cost cX1_cost 2 (some .int))) B.pre
  have hts : ∀ w ∈ lw_all, w.before _ s = true := fun w h => hts w (List.mem_cons_of_mem _ h)
  have hown : s.vm.findClass RX1 = some m.cls := findClass_of_methodNamed B.named
  have hlocks := B.notSynchronized
  subst hsz
  have hD := hD0.self (sz := s.heap.size)
  generalize hAe : va_A (rp_mw h1 ae dE pr ba cn nu co) s.heap.size = A at hD ⊢
  have hA : ∀ q : Nat, s.heap.size ≤ q → A q := fun q h => by rw [← hAe]; exact Or.inr h
  have hS : va_S A s.heap s.heap [] := va_S.rf
  have hP : va_P (dC, dI) rp_cl (rp_mw h1 ae dE pr ba cn nu co) s.heap := hP
  have hl := lv_entry ([.ref h1, .int k]) (n := 2) (Nat.le_of_ble_eq_true rfl)
  rw [lg_entry_eq]
  generalize (lg_sl ([.ref h1, .int k]) ++ List.replicate (2 - (lg_sl ([.ref h1, .int k])).length) Slot.unset).toArray = ls at hl ⊢
  have hl : lv_has ls 2 [(0, .ref h1), (1, .int k)] := hl
  have L0 : ∀ (H : Heap) (locs : List Loc), va_P (dC, dI) rp_cl (rp_mw h1 ae dE pr ba cn nu co) H → va_D A (rp_mw h1 ae dE pr ba cn nu co) → va_S A s.heap H locs → ∀ (ls : Array Slot), lv_has ls 2 [(0, .ref h1), (1, .int k)] → W p l e (headSpec (ws_ yX1_cost cX1_cost 2 (some .int)) (rp_rm 3 71)).room s m ([.ref h1, .int k] : List Value).toArray below meth c H locs 0 0 (MQ below (va_Qi (fun (r : Int32) (z : Nat × (Nat → Nat) × (Nat → Nat)) => r = rp_a_cost S k) (fun z t1 => rp_Bc dC dI A (rp_mw h1 ae dE pr ba z.1 z.2.1 z.2.2) (rp_mk dE) t1) A) ([.ref h1, .int k] : List Value).toArray s 0 0 A) (F0 m 0 ls []) := by
    intro   H locs hP hD hS ls hl
    refine lv_aload_n hx hb dX1_cost_0 rfl (lv_at hl 0 rfl) ?_
    have hFc := va_free (wc := rp_mw h1 ae dE pr ba cn nu co) hD hS hA [0, 1, 2, 3] rfl
    refine va_callv (va_runV (As := []) (rest := []) ⟨hx, hb, hml, hown, hts⟩ (metX1_list l dC dI h1 ae dE H.size pr ba cn nu co S hpr hSS hSl) (cwV 0 hts (lw_V q210 q212 qs9 q13 q213) rfl rfl rfl (by decide +kernel) ⟨Nat.le_of_ble_eq_true rfl, Nat.le_of_ble_eq_true rfl⟩) ⟨fun a U g mk q => by obtain ⟨q0, q1, qP, qK, qD⟩ := q; exact ⟨q0, q1, qP, va_K.moved (u := U) (U := U.calling g mk a) (Vm.Alike.refl U.vm) qK, qD⟩, va_recv hK hP (ci := 1) (q0 := 0) rfl rfl, fun U hU hW => ⟨rfl, by rw [hU], by rw [hU]; exact hP, va_K.moved hW.alike hK, hD.weaken (fun _ _ _ _ => trivial)⟩⟩ rfl rfl hl.1 rfl (lv_room (Nat.le_of_ble_eq_true rfl)) dX1_cost_1 ⟨Nat.le_of_ble_eq_true rfl, Nat.le_of_ble_eq_true rfl⟩) hS (fun q _ h => hFc q h) hFc (fun u_ t H1 locs ht hvm hw hB hz1 hk1 hS => ?_)
    obtain ⟨hP1, hK1, hD1⟩ := hB
    rw [ht] at hP1
    have hD := hD1.weaken (fun k q _ h => hFc q.1 h)
    have hP := hP1
    obtain ⟨nu2, co2⟩ := u_
    have hH : rp_HL S nu2 co2 3125 := hw
    clear hFc hK1 hz1 hk1 hD1 hP1 ht hvm
    generalize H1 = H at hP hS ⊢
    have hP : va_P (dC, dI) rp_cl (rp_mw h1 ae dE pr ba S.length nu2 co2) H := hP
    have hD : va_D A (rp_mw h1 ae dE pr ba S.length nu2 co2) := hD
    refine lv_iload_n hx hb dX1_cost_4 rfl (lv_at hl 1 rfl) ?_
    refine lv_if_lt (tgt := 16) hx hb dX1_cost_5 (by decide) (fun c_5 => ?_) (fun c_5 => ?_)
    · have han := rp_cost_none (rp_at_neg (S := S) c_5)
      refine lv_iconst (v := (-1)) hx hb dX1_cost_16 (by decide) ?_
      refine lv_goto (tgt := 26) hx hb dX1_cost_17 (by decide) ?_
      exact W.iret (v := (-1)) hx hb hr (fun t9 ht9 hW9 => ⟨⟨(-1), (S.length, nu2, co2), rfl, han.symm, by rw [ht9]; exact hP, va_K.moved hW9.alike hK, hD⟩, hS.F ht9⟩) hS.2.2 dX1_cost_26
    · refine lv_iload_n hx hb dX1_cost_8 rfl (lv_at hl 1 rfl) ?_
      refine lv_aload_n hx hb dX1_cost_9 rfl (lv_at hl 0 rfl) ?_
      refine va_get (D := (dC, dI)) (ci := 1) (v := .int (nI S.length)) (C := RX1) (T := TX1) (N := 4) hx hb hts in_X1 hown hK hP 0 rfl rfl 1 (by decide) (hts _ q183) (fun _ h9 => h9) rfl dX1_cost_10 ?_
      refine lv_icmp_lt (tgt := 20) hx hb dX1_cost_13 (by decide) (fun c_13 => ?_) (fun c_13 => ?_)
      · obtain ⟨j, hj, rfl⟩ := rp_lt_ex hSl c_5 c_13
        obtain ⟨h5, h6, h7⟩ := rp_HL_at hH hSl hj
        have han := rp_cost_some h5
        rw [h6] at han
        refine lv_aload_n hx hb dX1_cost_20 rfl (lv_at hl 0 rfl) ?_
        refine va_get (D := (dC, dI)) (ci := 1) (v := .ref (ae 3)) (C := RX1) (T := TX1) (N := 4) hx hb hts in_X1 hown hK hP 0 rfl rfl 3 (by decide) (hts _ q185) (fun _ h9 => h9) rfl dX1_cost_21 ?_
        refine lv_iload_n hx hb dX1_cost_24 rfl (lv_at hl 1 rfl) ?_
        refine rp_iald nI co2 hx hb hK hP 3 2 rfl rfl (i := j) (by omega) (by decide) dX1_cost_25 ?_
        exact W.iret (v := nI (co2 j)) hx hb hr (fun t9 ht9 hW9 => ⟨⟨nI (co2 j), (S.length, nu2, co2), rfl, han.symm, by rw [ht9]; exact hP, va_K.moved hW9.alike hK, hD⟩, hS.F ht9⟩) hS.2.2 dX1_cost_26
      · have han := rp_cost_none (rp_ge_none hSl c_13)
        refine lv_iconst (v := (-1)) hx hb dX1_cost_16 (by decide) ?_
        refine lv_goto (tgt := 26) hx hb dX1_cost_17 (by decide) ?_
        exact W.iret (v := (-1)) hx hb hr (fun t9 ht9 hW9 => ⟨⟨(-1), (S.length, nu2, co2), rfl, han.symm, by rw [ht9]; exact hP, va_K.moved hW9.alike hK, hD⟩, hS.F ht9⟩) hS.2.2 dX1_cost_26
  exact L0 _ _ hP hD hS ls hl
set_option maxHeartbeats 4000000 in
/-- plan -/
theorem metX1_plan (l : Launch) (dC : Nat → ClassId) (dI : Nat → Nat → Nat) (h1 : Nat) (ae : Nat → Nat) (dE : Nat → ClassId) (sz : Nat) (pr : Nat → Nat) (ba : Nat → Bool) (cn : Nat) (nu : Nat → Nat) (co : Nat → Nat) (S : List Nat) (k : Int32) (hpr : ∀ j, j < 25 → pr j < 100) (hSS : rp_SN pr ba 3125 = S) (hSl : S.length ≤ 120) : Met l yX1_plan (ws_ yX1_plan cX1_plan 2 (some .int)) (rp_rm 3 71) (rp_Pc dC dI [.ref h1, .int k] sz (rp_mw h1 ae dE pr ba cn nu co) (rp_mk dE)) (va_Qi (fun (r : Int32) (z : Nat × (Nat → Nat) × (Nat → Nat)) => r = rp_a_plan S k) (fun z t1 => rp_Bc dC dI (va_A (rp_mw h1 ae dE pr ba cn nu co) sz) (rp_mw h1 ae dE pr ba z.1 z.2.1 z.2.2) (rp_mk dE) t1) (va_A (rp_mw h1 ae dE pr ba cn nu co) sz)) 0 0 (va_A (rp_mw h1 ae dE pr ba cn nu co) sz) := by
  refine Met.ofW (cc := cX1_plan) (maxL := 2) (ret := (some .int)) (by decide) rfl ?_
  intro p e s m args below meth c s₁ B hml hv
  obtain ⟨rfl, hsz, hP, hK, hD0⟩ := hv
  have hx := B.exec
  have hb := B.bytes
  have hr := B.returns
  have hts := atoms_spec (ws := (ws_ yX1_plan cX1_plan 2 (some .int))) B.pre
  have hts : ∀ w ∈ lw_all, w.before _ s = true := fun w h => hts w (List.mem_cons_of_mem _ h)
  have hown : s.vm.findClass RX1 = some m.cls := findClass_of_methodNamed B.named
  have hlocks := B.notSynchronized
  subst hsz
  have hD := hD0.self (sz := s.heap.size)
  generalize hAe : va_A (rp_mw h1 ae dE pr ba cn nu co) s.heap.size = A at hD ⊢
  have hA : ∀ q : Nat, s.heap.size ≤ q → A q := fun q h => by rw [← hAe]; exact Or.inr h
  have hS : va_S A s.heap s.heap [] := va_S.rf
  have hP : va_P (dC, dI) rp_cl (rp_mw h1 ae dE pr ba cn nu co) s.heap := hP
  have hl := lv_entry ([.ref h1, .int k]) (n := 2) (Nat.le_of_ble_eq_true rfl)
  rw [lg_entry_eq]
  generalize (lg_sl ([.ref h1, .int k]) ++ List.replicate (2 - (lg_sl ([.ref h1, .int k])).length) Slot.unset).toArray = ls at hl ⊢
  have hl : lv_has ls 2 [(0, .ref h1), (1, .int k)] := hl
  have L0 : ∀ (H : Heap) (locs : List Loc), va_P (dC, dI) rp_cl (rp_mw h1 ae dE pr ba cn nu co) H → va_D A (rp_mw h1 ae dE pr ba cn nu co) → va_S A s.heap H locs → ∀ (ls : Array Slot), lv_has ls 2 [(0, .ref h1), (1, .int k)] → W p l e (headSpec (ws_ yX1_plan cX1_plan 2 (some .int)) (rp_rm 3 71)).room s m ([.ref h1, .int k] : List Value).toArray below meth c H locs 0 0 (MQ below (va_Qi (fun (r : Int32) (z : Nat × (Nat → Nat) × (Nat → Nat)) => r = rp_a_plan S k) (fun z t1 => rp_Bc dC dI A (rp_mw h1 ae dE pr ba z.1 z.2.1 z.2.2) (rp_mk dE) t1) A) ([.ref h1, .int k] : List Value).toArray s 0 0 A) (F0 m 0 ls []) := by
    intro   H locs hP hD hS ls hl
    refine lv_aload_n hx hb dX1_plan_0 rfl (lv_at hl 0 rfl) ?_
    have hFc := va_free (wc := rp_mw h1 ae dE pr ba cn nu co) hD hS hA [0, 1, 2, 3] rfl
    refine va_callv (va_runV (As := []) (rest := []) ⟨hx, hb, hml, hown, hts⟩ (metX1_list l dC dI h1 ae dE H.size pr ba cn nu co S hpr hSS hSl) (cwV 0 hts (lw_V q210 q212 qs9 q13 q213) rfl rfl rfl (by decide +kernel) ⟨Nat.le_of_ble_eq_true rfl, Nat.le_of_ble_eq_true rfl⟩) ⟨fun a U g mk q => by obtain ⟨q0, q1, qP, qK, qD⟩ := q; exact ⟨q0, q1, qP, va_K.moved (u := U) (U := U.calling g mk a) (Vm.Alike.refl U.vm) qK, qD⟩, va_recv hK hP (ci := 1) (q0 := 0) rfl rfl, fun U hU hW => ⟨rfl, by rw [hU], by rw [hU]; exact hP, va_K.moved hW.alike hK, hD.weaken (fun _ _ _ _ => trivial)⟩⟩ rfl rfl hl.1 rfl (lv_room (Nat.le_of_ble_eq_true rfl)) dX1_plan_1 ⟨Nat.le_of_ble_eq_true rfl, Nat.le_of_ble_eq_true rfl⟩) hS (fun q _ h => hFc q h) hFc (fun u_ t H1 locs ht hvm hw hB hz1 hk1 hS => ?_)
    obtain ⟨hP1, hK1, hD1⟩ := hB
    rw [ht] at hP1
    have hD := hD1.weaken (fun k q _ h => hFc q.1 h)
    have hP := hP1
    obtain ⟨nu2, co2⟩ := u_
    have hH : rp_HL S nu2 co2 3125 := hw
    clear hFc hK1 hz1 hk1 hD1 hP1 ht hvm
    generalize H1 = H at hP hS ⊢
    have hP : va_P (dC, dI) rp_cl (rp_mw h1 ae dE pr ba S.length nu2 co2) H := hP
    have hD : va_D A (rp_mw h1 ae dE pr ba S.length nu2 co2) := hD
    refine lv_iload_n hx hb dX1_plan_4 rfl (lv_at hl 1 rfl) ?_
    refine lv_if_lt (tgt := 16) hx hb dX1_plan_5 (by decide) (fun c_5 => ?_) (fun c_5 => ?_)
    · have han := rp_plan_none (rp_at_neg (S := S) c_5)
      refine lv_iconst (v := (-1)) hx hb dX1_plan_16 (by decide) ?_
      refine lv_goto (tgt := 26) hx hb dX1_plan_17 (by decide) ?_
      exact W.iret (v := (-1)) hx hb hr (fun t9 ht9 hW9 => ⟨⟨(-1), (S.length, nu2, co2), rfl, han.symm, by rw [ht9]; exact hP, va_K.moved hW9.alike hK, hD⟩, hS.F ht9⟩) hS.2.2 dX1_plan_26
    · refine lv_iload_n hx hb dX1_plan_8 rfl (lv_at hl 1 rfl) ?_
      refine lv_aload_n hx hb dX1_plan_9 rfl (lv_at hl 0 rfl) ?_
      refine va_get (D := (dC, dI)) (ci := 1) (v := .int (nI S.length)) (C := RX1) (T := TX1) (N := 4) hx hb hts in_X1 hown hK hP 0 rfl rfl 1 (by decide) (hts _ q183) (fun _ h9 => h9) rfl dX1_plan_10 ?_
      refine lv_icmp_lt (tgt := 20) hx hb dX1_plan_13 (by decide) (fun c_13 => ?_) (fun c_13 => ?_)
      · obtain ⟨j, hj, rfl⟩ := rp_lt_ex hSl c_5 c_13
        obtain ⟨h5, h6, h7⟩ := rp_HL_at hH hSl hj
        have han := rp_plan_some h5
        rw [h7] at han
        refine lv_aload_n hx hb dX1_plan_20 rfl (lv_at hl 0 rfl) ?_
        refine va_get (D := (dC, dI)) (ci := 1) (v := .ref (ae 2)) (C := RX1) (T := TX1) (N := 4) hx hb hts in_X1 hown hK hP 0 rfl rfl 2 (by decide) (hts _ q184) (fun _ h9 => h9) rfl dX1_plan_21 ?_
        refine lv_iload_n hx hb dX1_plan_24 rfl (lv_at hl 1 rfl) ?_
        refine rp_iald nI nu2 hx hb hK hP 2 1 rfl rfl (i := j) (by omega) (by decide) dX1_plan_25 ?_
        exact W.iret (v := nI (nu2 j)) hx hb hr (fun t9 ht9 hW9 => ⟨⟨nI (nu2 j), (S.length, nu2, co2), rfl, han.symm, by rw [ht9]; exact hP, va_K.moved hW9.alike hK, hD⟩, hS.F ht9⟩) hS.2.2 dX1_plan_26
      · have han := rp_plan_none (rp_ge_none hSl c_13)
        refine lv_iconst (v := (-1)) hx hb dX1_plan_16 (by decide) ?_
        refine lv_goto (tgt := 26) hx hb dX1_plan_17 (by decide) ?_
        exact W.iret (v := (-1)) hx hb hr (fun t9 ht9 hW9 => ⟨⟨(-1), (S.length, nu2, co2), rfl, han.symm, by rw [ht9]; exact hP, va_K.moved hW9.alike hK, hD⟩, hS.F ht9⟩) hS.2.2 dX1_plan_26
  exact L0 _ _ hP hD hS ls hl
set_option maxHeartbeats 4000000 in
/-- task -/
theorem metX1_task (l : Launch) (dC : Nat → ClassId) (dI : Nat → Nat → Nat) (h1 : Nat) (ae : Nat → Nat) (dE : Nat → ClassId) (sz : Nat) (pr : Nat → Nat) (ba : Nat → Bool) (cn : Nat) (nu : Nat → Nat) (co : Nat → Nat) (S : List Nat) (k w : Int32) (hpr : ∀ j, j < 25 → pr j < 100) (hSS : rp_SN pr ba 3125 = S) (hSl : S.length ≤ 120) : Met l yX1_task (ws_ yX1_task cX1_task 3 (some .int)) (rp_rm 3 71) (rp_Pc dC dI [.ref h1, .int k, .int w] sz (rp_mw h1 ae dE pr ba cn nu co) (rp_mk dE)) (va_Qi (fun (r : Int32) (z : Nat × (Nat → Nat) × (Nat → Nat)) => r = rp_a_task S k w) (fun z t1 => rp_Bc dC dI (va_A (rp_mw h1 ae dE pr ba cn nu co) sz) (rp_mw h1 ae dE pr ba z.1 z.2.1 z.2.2) (rp_mk dE) t1) (va_A (rp_mw h1 ae dE pr ba cn nu co) sz)) 0 0 (va_A (rp_mw h1 ae dE pr ba cn nu co) sz) := by
  refine Met.ofW (cc := cX1_task) (maxL := 3) (ret := (some .int)) (by decide) rfl ?_
  intro p e s m args below meth c s₁ B hml hv
  obtain ⟨rfl, hsz, hP, hK, hD0⟩ := hv
  have hx := B.exec
  have hb := B.bytes
  have hr := B.returns
  have hts := atoms_spec (ws := (ws_ yX1_task cX1_task 3 (some .int))) B.pre
  have hts : ∀ w ∈ lw_all, w.before _ s = true := fun w h => hts w (List.mem_cons_of_mem _ h)
  have hown : s.vm.findClass RX1 = some m.cls := findClass_of_methodNamed B.named
  have hlocks := B.notSynchronized
  subst hsz
  have hD := hD0.self (sz := s.heap.size)
  generalize hAe : va_A (rp_mw h1 ae dE pr ba cn nu co) s.heap.size = A at hD ⊢
  have hA : ∀ q : Nat, s.heap.size ≤ q → A q := fun q h => by rw [← hAe]; exact Or.inr h
  have hS : va_S A s.heap s.heap [] := va_S.rf
  have hP : va_P (dC, dI) rp_cl (rp_mw h1 ae dE pr ba cn nu co) s.heap := hP
  have hl := lv_entry ([.ref h1, .int k, .int w]) (n := 3) (Nat.le_of_ble_eq_true rfl)
  rw [lg_entry_eq]
  generalize (lg_sl ([.ref h1, .int k, .int w]) ++ List.replicate (3 - (lg_sl ([.ref h1, .int k, .int w])).length) Slot.unset).toArray = ls at hl ⊢
  have hl : lv_has ls 3 [(0, .ref h1), (1, .int k), (2, .int w)] := hl
  have L0 : ∀ (H : Heap) (locs : List Loc), va_P (dC, dI) rp_cl (rp_mw h1 ae dE pr ba cn nu co) H → va_D A (rp_mw h1 ae dE pr ba cn nu co) → va_S A s.heap H locs → ∀ (ls : Array Slot), lv_has ls 3 [(0, .ref h1), (1, .int k), (2, .int w)] → W p l e (headSpec (ws_ yX1_task cX1_task 3 (some .int)) (rp_rm 3 71)).room s m ([.ref h1, .int k, .int w] : List Value).toArray below meth c H locs 0 0 (MQ below (va_Qi (fun (r : Int32) (z : Nat × (Nat → Nat) × (Nat → Nat)) => r = rp_a_task S k w) (fun z t1 => rp_Bc dC dI A (rp_mw h1 ae dE pr ba z.1 z.2.1 z.2.2) (rp_mk dE) t1) A) ([.ref h1, .int k, .int w] : List Value).toArray s 0 0 A) (F0 m 0 ls []) := by
    intro   H locs hP hD hS ls hl
    refine lv_aload_n hx hb dX1_task_0 rfl (lv_at hl 0 rfl) ?_
    have hFc := va_free (wc := rp_mw h1 ae dE pr ba cn nu co) hD hS hA [0, 1, 2, 3] rfl
    refine va_callv (va_runV (As := []) (rest := []) ⟨hx, hb, hml, hown, hts⟩ (metX1_list l dC dI h1 ae dE H.size pr ba cn nu co S hpr hSS hSl) (cwV 0 hts (lw_V q210 q212 qs9 q13 q213) rfl rfl rfl (by decide +kernel) ⟨Nat.le_of_ble_eq_true rfl, Nat.le_of_ble_eq_true rfl⟩) ⟨fun a U g mk q => by obtain ⟨q0, q1, qP, qK, qD⟩ := q; exact ⟨q0, q1, qP, va_K.moved (u := U) (U := U.calling g mk a) (Vm.Alike.refl U.vm) qK, qD⟩, va_recv hK hP (ci := 1) (q0 := 0) rfl rfl, fun U hU hW => ⟨rfl, by rw [hU], by rw [hU]; exact hP, va_K.moved hW.alike hK, hD.weaken (fun _ _ _ _ => trivial)⟩⟩ rfl rfl hl.1 rfl (lv_room (Nat.le_of_ble_eq_true rfl)) dX1_task_1 ⟨Nat.le_of_ble_eq_true rfl, Nat.le_of_ble_eq_true rfl⟩) hS (fun q _ h => hFc q h) hFc (fun u_ t H1 locs ht hvm hw hB hz1 hk1 hS => ?_)
    obtain ⟨hP1, hK1, hD1⟩ := hB
    rw [ht] at hP1
    have hD := hD1.weaken (fun k q _ h => hFc q.1 h)
    have hP := hP1
    obtain ⟨nu2, co2⟩ := u_
    have hH : rp_HL S nu2 co2 3125 := hw
    clear hFc hK1 hz1 hk1 hD1 hP1 ht hvm
    generalize H1 = H at hP hS ⊢
    have hP : va_P (dC, dI) rp_cl (rp_mw h1 ae dE pr ba S.length nu2 co2) H := hP
    have hD : va_D A (rp_mw h1 ae dE pr ba S.length nu2 co2) := hD
    refine lv_iload_n hx hb dX1_task_4 rfl (lv_at hl 2 rfl) ?_
    refine vp_callSi (W.runS (As := [.int w]) (rest := []) ⟨hx, hb, hml, hown, hts⟩ (metX1_bad l w) (va_cwS 1 hts (lw_S q199 q200 q13 q201) rfl rfl rfl (by decide +kernel) ⟨Nat.le_of_ble_eq_true rfl, Nat.le_of_ble_eq_true rfl⟩) ⟨fun a U g mk q => q, fun U hU hW => ⟨rfl, trivial⟩⟩ rfl rfl hl.1 rfl (lv_room (Nat.le_of_ble_eq_true rfl)) dX1_task_5 ⟨Nat.le_of_ble_eq_true rfl, Nat.le_of_ble_eq_true rfl⟩) (fun r hr9 => ?_)
    subst hr9
    refine rp_bne (tgt := 23) hx hb dX1_task_8 (by decide) (fun c_8 => ?_) (fun c_8 => ?_)
    · have han : rp_a_task S k w = -1 := by unfold rp_a_task; rw [show rp_ir w = false by simpa using c_8]; rfl
      refine lv_iconst (v := (-1)) hx hb dX1_task_23 (by decide) ?_
      refine lv_goto (tgt := 37) hx hb dX1_task_24 (by decide) ?_
      exact W.iret (v := (-1)) hx hb hr (fun t9 ht9 hW9 => ⟨⟨(-1), (S.length, nu2, co2), rfl, han.symm, by rw [ht9]; exact hP, va_K.moved hW9.alike hK, hD⟩, hS.F ht9⟩) hS.2.2 dX1_task_37
    · refine lv_iload_n hx hb dX1_task_11 rfl (lv_at hl 1 rfl) ?_
      refine lv_if_lt (tgt := 23) hx hb dX1_task_12 (by decide) (fun c_12 => ?_) (fun c_12 => ?_)
      · have han := rp_task_none (w := w) (rp_at_neg (S := S) c_12)
        refine lv_iconst (v := (-1)) hx hb dX1_task_23 (by decide) ?_
        refine lv_goto (tgt := 37) hx hb dX1_task_24 (by decide) ?_
        exact W.iret (v := (-1)) hx hb hr (fun t9 ht9 hW9 => ⟨⟨(-1), (S.length, nu2, co2), rfl, han.symm, by rw [ht9]; exact hP, va_K.moved hW9.alike hK, hD⟩, hS.F ht9⟩) hS.2.2 dX1_task_37
      · refine lv_iload_n hx hb dX1_task_15 rfl (lv_at hl 1 rfl) ?_
        refine lv_aload_n hx hb dX1_task_16 rfl (lv_at hl 0 rfl) ?_
        refine va_get (D := (dC, dI)) (ci := 1) (v := .int (nI S.length)) (C := RX1) (T := TX1) (N := 4) hx hb hts in_X1 hown hK hP 0 rfl rfl 1 (by decide) (hts _ q183) (fun _ h9 => h9) rfl dX1_task_17 ?_
        refine lv_icmp_lt (tgt := 27) hx hb dX1_task_20 (by decide) (fun c_20 => ?_) (fun c_20 => ?_)
        · obtain ⟨j, hj, rfl⟩ := rp_lt_ex hSl c_12 c_20
          obtain ⟨h5, h6, h7⟩ := rp_HL_at hH hSl hj
          obtain ⟨jw, hjw, rfl⟩ := rp_ir_of (by simpa using c_8)
          have han := rp_task_some hjw h5
          rw [h7] at han
          have hnu := (hH j hj).2
          refine lv_aload_n hx hb dX1_task_27 rfl (lv_at hl 0 rfl) ?_
          refine va_get (D := (dC, dI)) (ci := 1) (v := .ref (ae 2)) (C := RX1) (T := TX1) (N := 4) hx hb hts in_X1 hown hK hP 0 rfl rfl 2 (by decide) (hts _ q184) (fun _ h9 => h9) rfl dX1_task_28 ?_
          refine lv_iload_n hx hb dX1_task_31 rfl (lv_at hl 1 rfl) ?_
          refine rp_iald nI nu2 hx hb hK hP 2 1 rfl rfl (i := j) (by omega) (by decide) dX1_task_32 ?_
          refine lv_iload_n hx hb dX1_task_33 rfl (lv_at hl 2 rfl) ?_
          refine vp_callSi (W.runS (As := [.int (nI (nu2 j)), .int (nI jw)]) (rest := []) ⟨hx, hb, hml, hown, hts⟩ (metX1_digit l (nu2 j) jw (by omega) hjw) (va_cwS 2 hts (lw_S q218 q219 q13 q220) rfl rfl rfl (by decide +kernel) ⟨Nat.le_of_ble_eq_true rfl, Nat.le_of_ble_eq_true rfl⟩) ⟨fun a U g mk q => q, fun U hU hW => ⟨rfl, trivial⟩⟩ rfl rfl hl.1 rfl (lv_room (Nat.le_of_ble_eq_true rfl)) dX1_task_34 ⟨Nat.le_of_ble_eq_true rfl, Nat.le_of_ble_eq_true rfl⟩) (fun r hr9 => ?_)
          subst hr9
          exact W.iret (v := nI (rp_dg (nu2 j) jw)) hx hb hr (fun t9 ht9 hW9 => ⟨⟨nI (rp_dg (nu2 j) jw), (S.length, nu2, co2), rfl, han.symm, by rw [ht9]; exact hP, va_K.moved hW9.alike hK, hD⟩, hS.F ht9⟩) hS.2.2 dX1_task_37
        · have han := rp_task_none (w := w) (rp_ge_none hSl c_20)
          refine lv_iconst (v := (-1)) hx hb dX1_task_23 (by decide) ?_
          refine lv_goto (tgt := 37) hx hb dX1_task_24 (by decide) ?_
          exact W.iret (v := (-1)) hx hb hr (fun t9 ht9 hW9 => ⟨⟨(-1), (S.length, nu2, co2), rfl, han.symm, by rw [ht9]; exact hP, va_K.moved hW9.alike hK, hD⟩, hS.F ht9⟩) hS.2.2 dX1_task_37
  exact L0 _ _ hP hD hS ls hl
end
section
/-! the reference: within, rank, cheapestWith -/
set_option maxRecDepth 100000
set_option maxHeartbeats 4000000 in
/-- within -/
theorem metX1_within (l : Launch) (dC : Nat → ClassId) (dI : Nat → Nat → Nat) (h1 : Nat) (ae : Nat → Nat) (dE : Nat → ClassId) (sz : Nat) (pr : Nat → Nat) (ba : Nat → Bool) (cn : Nat) (nu : Nat → Nat) (co : Nat → Nat) (S : List Nat) (lim : Int32) (hpr : ∀ j, j < 25 → pr j < 100) (hSS : rp_SN pr ba 3125 = S) (hSl : S.length ≤ 120) : Met l yX1_within (ws_ yX1_within cX1_within 4 (some .int)) (rp_rm 3 71) (rp_Pc dC dI [.ref h1, .int lim] sz (rp_mw h1 ae dE pr ba cn nu co) (rp_mk dE)) (va_Qi (fun (r : Int32) (z : Nat × (Nat → Nat) × (Nat → Nat)) => r = rp_a_within S lim) (fun z t1 => rp_Bc dC dI (va_A (rp_mw h1 ae dE pr ba cn nu co) sz) (rp_mw h1 ae dE pr ba z.1 z.2.1 z.2.2) (rp_mk dE) t1) (va_A (rp_mw h1 ae dE pr ba cn nu co) sz)) 0 0 (va_A (rp_mw h1 ae dE pr ba cn nu co) sz) := by
  refine Met.ofW (cc := cX1_within) (maxL := 4) (ret := (some .int)) (by decide) rfl ?_
  intro p e s m args below meth c s₁ B hml hv
  obtain ⟨rfl, hsz, hP, hK, hD0⟩ := hv
  have hx := B.exec
  have hb := B.bytes
  have hr := B.returns
  have hts := atoms_spec (ws := (ws_ yX1_within cX1_within 4 (some .int))) B.pre
  have hts : ∀ w ∈ lw_all, w.before _ s = true := fun w h => hts w (List.mem_cons_of_mem _ h)
  have hown : s.vm.findClass RX1 = some m.cls := findClass_of_methodNamed B.named
  have hlocks := B.notSynchronized
  subst hsz
  have hD := hD0.self (sz := s.heap.size)
  generalize hAe : va_A (rp_mw h1 ae dE pr ba cn nu co) s.heap.size = A at hD ⊢
  have hA : ∀ q : Nat, s.heap.size ≤ q → A q := fun q h => by rw [← hAe]; exact Or.inr h
  have hS : va_S A s.heap s.heap [] := va_S.rf
  have hP : va_P (dC, dI) rp_cl (rp_mw h1 ae dE pr ba cn nu co) s.heap := hP
  have hl := lv_entry ([.ref h1, .int lim]) (n := 4) (Nat.le_of_ble_eq_true rfl)
  rw [lg_entry_eq]
  generalize (lg_sl ([.ref h1, .int lim]) ++ List.replicate (4 - (lg_sl ([.ref h1, .int lim])).length) Slot.unset).toArray = ls at hl ⊢
  have hl : lv_has ls 4 [(0, .ref h1), (1, .int lim)] := hl
  have L0 : ∀ (H : Heap) (locs : List Loc), va_P (dC, dI) rp_cl (rp_mw h1 ae dE pr ba cn nu co) H → va_D A (rp_mw h1 ae dE pr ba cn nu co) → va_S A s.heap H locs → ∀ (ls : Array Slot), lv_has ls 4 [(0, .ref h1), (1, .int lim)] → W p l e (headSpec (ws_ yX1_within cX1_within 4 (some .int)) (rp_rm 3 71)).room s m ([.ref h1, .int lim] : List Value).toArray below meth c H locs 0 0 (MQ below (va_Qi (fun (r : Int32) (z : Nat × (Nat → Nat) × (Nat → Nat)) => r = rp_a_within S lim) (fun z t1 => rp_Bc dC dI A (rp_mw h1 ae dE pr ba z.1 z.2.1 z.2.2) (rp_mk dE) t1) A) ([.ref h1, .int lim] : List Value).toArray s 0 0 A) (F0 m 0 ls []) := by
    intro   H locs hP hD hS ls hl
    refine lv_aload_n hx hb dX1_within_0 rfl (lv_at hl 0 rfl) ?_
    have hFc := va_free (wc := rp_mw h1 ae dE pr ba cn nu co) hD hS hA [0, 1, 2, 3] rfl
    refine va_callv (va_runV (As := []) (rest := []) ⟨hx, hb, hml, hown, hts⟩ (metX1_list l dC dI h1 ae dE H.size pr ba cn nu co S hpr hSS hSl) (cwV 0 hts (lw_V q210 q212 qs9 q13 q213) rfl rfl rfl (by decide +kernel) ⟨Nat.le_of_ble_eq_true rfl, Nat.le_of_ble_eq_true rfl⟩) ⟨fun a U g mk q => by obtain ⟨q0, q1, qP, qK, qD⟩ := q; exact ⟨q0, q1, qP, va_K.moved (u := U) (U := U.calling g mk a) (Vm.Alike.refl U.vm) qK, qD⟩, va_recv hK hP (ci := 1) (q0 := 0) rfl rfl, fun U hU hW => ⟨rfl, by rw [hU], by rw [hU]; exact hP, va_K.moved hW.alike hK, hD.weaken (fun _ _ _ _ => trivial)⟩⟩ rfl rfl hl.1 rfl (lv_room (Nat.le_of_ble_eq_true rfl)) dX1_within_1 ⟨Nat.le_of_ble_eq_true rfl, Nat.le_of_ble_eq_true rfl⟩) hS (fun q _ h => hFc q h) hFc (fun u_ t H1 locs ht hvm hw hB hz1 hk1 hS => ?_)
    obtain ⟨hP1, hK1, hD1⟩ := hB
    rw [ht] at hP1
    have hD := hD1.weaken (fun k q _ h => hFc q.1 h)
    have hP := hP1
    obtain ⟨nu2, co2⟩ := u_
    have hH : rp_HL S nu2 co2 3125 := hw
    clear hFc hK1 hz1 hk1 hD1 hP1 ht hvm
    generalize H1 = H at hP hS ⊢
    have hP : va_P (dC, dI) rp_cl (rp_mw h1 ae dE pr ba S.length nu2 co2) H := hP
    have hD : va_D A (rp_mw h1 ae dE pr ba S.length nu2 co2) := hD
    refine lv_iconst (v := nI 0) hx hb dX1_within_4 (by decide) ?_
    refine lv_istore_n (lv' := [(2, .int (nI 0)), (0, .ref h1), (1, .int lim)]) hx hb dX1_within_5 rfl hl (by decide) rfl (fun ls hl => ?_)
    refine lv_iconst (v := nI 0) hx hb dX1_within_6 (by decide) ?_
    refine lv_istore_n (lv' := [(3, .int (nI 0)), (2, .int (nI 0)), (0, .ref h1), (1, .int lim)]) hx hb dX1_within_7 rfl hl (by decide) rfl (fun ls hl => ?_)
    have L8 : ∀ (n : Nat) (r0 : Nat), (S.length - r0 < n) → (r0 ≤ S.length) → ∀ (H : Heap) (locs : List Loc), va_P (dC, dI) rp_cl (rp_mw h1 ae dE pr ba S.length nu2 co2) H → va_D A (rp_mw h1 ae dE pr ba S.length nu2 co2) → va_S A s.heap H locs → ∀ (ls : Array Slot), lv_has ls 4 [(3, .int (nI r0)), (2, .int (nI ((S.take r0).countP (rp_cw lim)))), (1, .int lim), (0, .ref h1)] → W p l e (headSpec (ws_ yX1_within cX1_within 4 (some .int)) (rp_rm 3 71)).room s m ([.ref h1, .int lim] : List Value).toArray below meth c H locs 0 0 (MQ below (va_Qi (fun (r : Int32) (z : Nat × (Nat → Nat) × (Nat → Nat)) => r = rp_a_within S lim) (fun z t1 => rp_Bc dC dI A (rp_mw h1 ae dE pr ba z.1 z.2.1 z.2.2) (rp_mk dE) t1) A) ([.ref h1, .int lim] : List Value).toArray s 0 0 A) (F0 m 8 ls []) := by
      intro n
      induction n with
      | zero =>
        intro r0 hn hr0
        exact absurd hn (by omega)
      | succ n ih =>
        intro r0 hn hr0 H locs hP hD hS ls hl
        refine lv_iload_n hx hb dX1_within_8 rfl (lv_at hl 0 rfl) ?_
        refine lv_aload_n hx hb dX1_within_9 rfl (lv_at hl 3 rfl) ?_
        refine va_get (D := (dC, dI)) (ci := 1) (v := .int (nI S.length)) (C := RX1) (T := TX1) (N := 4) hx hb hts in_X1 hown hK hP 0 rfl rfl 1 (by decide) (hts _ q183) (fun _ h9 => h9) rfl dX1_within_10 ?_
        refine rp_icge (tgt := 35) hx hb (by omega) (by omega) dX1_within_13 (by decide) (fun c_13 => ?_) (fun c_13 => ?_)
        · have han : rp_a_within S lim = nI ((S.take r0).countP (rp_cw lim)) := by unfold rp_a_within; rw [rp_cnt_all c_13]
          refine lv_iload_n hx hb dX1_within_35 rfl (lv_at hl 1 rfl) ?_
          exact W.iret (v := nI ((S.take r0).countP (rp_cw lim))) hx hb hr (fun t9 ht9 hW9 => ⟨⟨nI ((S.take r0).countP (rp_cw lim)), (S.length, nu2, co2), rfl, han.symm, by rw [ht9]; exact hP, va_K.moved hW9.alike hK, hD⟩, hS.F ht9⟩) hS.2.2 dX1_within_36
        · have g := hH r0 c_13
          have hcs := rp_cnt_s (f := rp_cw lim) g.1
          have hcl : co2 r0 < 1000000 := rp_HL_co hpr (Nat.le_refl _) (by rw [hSS]; exact hH) r0 (by rw [hSS]; exact c_13)
          have hdv : (3125 * co2 r0 + nu2 r0) / 3125 = co2 r0 := by omega
          refine lv_aload_n hx hb dX1_within_16 rfl (lv_at hl 3 rfl) ?_
          refine va_get (D := (dC, dI)) (ci := 1) (v := .ref (ae 3)) (C := RX1) (T := TX1) (N := 4) hx hb hts in_X1 hown hK hP 0 rfl rfl 3 (by decide) (hts _ q185) (fun _ h9 => h9) rfl dX1_within_17 ?_
          refine lv_iload_n hx hb dX1_within_20 rfl (lv_at hl 0 rfl) ?_
          refine rp_iald nI co2 hx hb hK hP 3 2 rfl rfl (i := r0) (by omega) (by decide) dX1_within_21 ?_
          refine lv_iload_n hx hb dX1_within_22 rfl (lv_at hl 2 rfl) ?_
          refine lv_icmp_gt (tgt := 29) hx hb dX1_within_23 (by decide) (fun c_23 => ?_) (fun c_23 => ?_)
          · rw [Int32.lt_iff_toInt_lt, nI_toInt (by omega)] at c_23
            have hcs : (S.take (r0 + 1)).countP (rp_cw lim) = (S.take r0).countP (rp_cw lim) := by rw [hcs, if_neg (by unfold rp_cw; rw [hdv, decide_eq_false (by omega)]; exact Bool.false_ne_true)]; rfl
            refine lv_iinc (v := nI (r0 + 1)) (lv' := [(3, .int (nI (r0 + 1))), (2, .int (nI ((S.take r0).countP (rp_cw lim)))), (1, .int lim), (0, .ref h1)]) hx hb dX1_within_29 hl (k := 0) rfl (by exact nI_1 _) (by decide) rfl (fun ls hl => ?_)
            refine lv_goto (tgt := 8) hx hb dX1_within_32 (by decide) ?_
            rw [← hcs] at hl
            exact ih (r0 + 1) (by omega) (by omega) _ _ hP hD hS ls (lv_sub hl [0, 1, 2, 3] rfl)
          · rw [Int32.lt_iff_toInt_lt, nI_toInt (by omega)] at c_23
            have hcs : (S.take (r0 + 1)).countP (rp_cw lim) = (S.take r0).countP (rp_cw lim) + 1 := by rw [hcs, if_pos (by unfold rp_cw; rw [hdv]; exact decide_eq_true (by omega))]
            refine lv_iinc (v := nI ((S.take r0).countP (rp_cw lim) + 1)) (lv' := [(2, .int (nI ((S.take r0).countP (rp_cw lim) + 1))), (3, .int (nI r0)), (1, .int lim), (0, .ref h1)]) hx hb dX1_within_26 hl (k := 1) rfl (by exact nI_1 _) (by decide) rfl (fun ls hl => ?_)
            refine lv_iinc (v := nI (r0 + 1)) (lv' := [(3, .int (nI (r0 + 1))), (2, .int (nI ((S.take r0).countP (rp_cw lim) + 1))), (1, .int lim), (0, .ref h1)]) hx hb dX1_within_29 hl (k := 1) rfl (by exact nI_1 _) (by decide) rfl (fun ls hl => ?_)
            refine lv_goto (tgt := 8) hx hb dX1_within_32 (by decide) ?_
            rw [← hcs] at hl
            exact ih (r0 + 1) (by omega) (by omega) _ _ hP hD hS ls (lv_sub hl [0, 1, 2, 3] rfl)
    exact L8 (S.length + 1) 0 (by omega) (by omega) _ _ hP hD hS ls (lv_sub hl [0, 1, 3, 2] rfl)
  exact L0 _ _ hP hD hS ls hl
set_option maxHeartbeats 4000000 in
/-- rank -/
theorem metX1_rank (l : Launch) (dC : Nat → ClassId) (dI : Nat → Nat → Nat) (h1 : Nat) (ae : Nat → Nat) (dE : Nat → ClassId) (sz : Nat) (pr : Nat → Nat) (ba : Nat → Bool) (cn : Nat) (nu : Nat → Nat) (co : Nat → Nat) (S : List Nat) (k : Int32) (hpr : ∀ j, j < 25 → pr j < 100) (hSS : rp_SN pr ba 3125 = S) (hSl : S.length ≤ 120) : Met l yX1_rank (ws_ yX1_rank cX1_rank 3 (some .int)) (rp_rm 3 71) (rp_Pc dC dI [.ref h1, .int k] sz (rp_mw h1 ae dE pr ba cn nu co) (rp_mk dE)) (va_Qi (fun (r : Int32) (z : Nat × (Nat → Nat) × (Nat → Nat)) => r = rp_a_rank S k) (fun z t1 => rp_Bc dC dI (va_A (rp_mw h1 ae dE pr ba cn nu co) sz) (rp_mw h1 ae dE pr ba z.1 z.2.1 z.2.2) (rp_mk dE) t1) (va_A (rp_mw h1 ae dE pr ba cn nu co) sz)) 0 0 (va_A (rp_mw h1 ae dE pr ba cn nu co) sz) := by
  refine Met.ofW (cc := cX1_rank) (maxL := 3) (ret := (some .int)) (by decide) rfl ?_
  intro p e s m args below meth c s₁ B hml hv
  obtain ⟨rfl, hsz, hP, hK, hD0⟩ := hv
  have hx := B.exec
  have hb := B.bytes
  have hr := B.returns
  have hts := atoms_spec (ws := (ws_ yX1_rank cX1_rank 3 (some .int))) B.pre
  have hts : ∀ w ∈ lw_all, w.before _ s = true := fun w h => hts w (List.mem_cons_of_mem _ h)
  have hown : s.vm.findClass RX1 = some m.cls := findClass_of_methodNamed B.named
  have hlocks := B.notSynchronized
  subst hsz
  have hD := hD0.self (sz := s.heap.size)
  generalize hAe : va_A (rp_mw h1 ae dE pr ba cn nu co) s.heap.size = A at hD ⊢
  have hA : ∀ q : Nat, s.heap.size ≤ q → A q := fun q h => by rw [← hAe]; exact Or.inr h
  have hS : va_S A s.heap s.heap [] := va_S.rf
  have hP : va_P (dC, dI) rp_cl (rp_mw h1 ae dE pr ba cn nu co) s.heap := hP
  have hl := lv_entry ([.ref h1, .int k]) (n := 3) (Nat.le_of_ble_eq_true rfl)
  rw [lg_entry_eq]
  generalize (lg_sl ([.ref h1, .int k]) ++ List.replicate (3 - (lg_sl ([.ref h1, .int k])).length) Slot.unset).toArray = ls at hl ⊢
  have hl : lv_has ls 3 [(0, .ref h1), (1, .int k)] := hl
  have L0 : ∀ (H : Heap) (locs : List Loc), va_P (dC, dI) rp_cl (rp_mw h1 ae dE pr ba cn nu co) H → va_D A (rp_mw h1 ae dE pr ba cn nu co) → va_S A s.heap H locs → ∀ (ls : Array Slot), lv_has ls 3 [(0, .ref h1), (1, .int k)] → W p l e (headSpec (ws_ yX1_rank cX1_rank 3 (some .int)) (rp_rm 3 71)).room s m ([.ref h1, .int k] : List Value).toArray below meth c H locs 0 0 (MQ below (va_Qi (fun (r : Int32) (z : Nat × (Nat → Nat) × (Nat → Nat)) => r = rp_a_rank S k) (fun z t1 => rp_Bc dC dI A (rp_mw h1 ae dE pr ba z.1 z.2.1 z.2.2) (rp_mk dE) t1) A) ([.ref h1, .int k] : List Value).toArray s 0 0 A) (F0 m 0 ls []) := by
    intro   H locs hP hD hS ls hl
    refine lv_aload_n hx hb dX1_rank_0 rfl (lv_at hl 0 rfl) ?_
    have hFc := va_free (wc := rp_mw h1 ae dE pr ba cn nu co) hD hS hA [0, 1, 2, 3] rfl
    refine va_callv (va_runV (As := []) (rest := []) ⟨hx, hb, hml, hown, hts⟩ (metX1_list l dC dI h1 ae dE H.size pr ba cn nu co S hpr hSS hSl) (cwV 0 hts (lw_V q210 q212 qs9 q13 q213) rfl rfl rfl (by decide +kernel) ⟨Nat.le_of_ble_eq_true rfl, Nat.le_of_ble_eq_true rfl⟩) ⟨fun a U g mk q => by obtain ⟨q0, q1, qP, qK, qD⟩ := q; exact ⟨q0, q1, qP, va_K.moved (u := U) (U := U.calling g mk a) (Vm.Alike.refl U.vm) qK, qD⟩, va_recv hK hP (ci := 1) (q0 := 0) rfl rfl, fun U hU hW => ⟨rfl, by rw [hU], by rw [hU]; exact hP, va_K.moved hW.alike hK, hD.weaken (fun _ _ _ _ => trivial)⟩⟩ rfl rfl hl.1 rfl (lv_room (Nat.le_of_ble_eq_true rfl)) dX1_rank_1 ⟨Nat.le_of_ble_eq_true rfl, Nat.le_of_ble_eq_true rfl⟩) hS (fun q _ h => hFc q h) hFc (fun u_ t H1 locs ht hvm hw hB hz1 hk1 hS => ?_)
    obtain ⟨hP1, hK1, hD1⟩ := hB
    rw [ht] at hP1
    have hD := hD1.weaken (fun k q _ h => hFc q.1 h)
    have hP := hP1
    obtain ⟨nu2, co2⟩ := u_
    have hH : rp_HL S nu2 co2 3125 := hw
    clear hFc hK1 hz1 hk1 hD1 hP1 ht hvm
    generalize H1 = H at hP hS ⊢
    have hP : va_P (dC, dI) rp_cl (rp_mw h1 ae dE pr ba S.length nu2 co2) H := hP
    have hD : va_D A (rp_mw h1 ae dE pr ba S.length nu2 co2) := hD
    refine lv_iconst (v := nI 0) hx hb dX1_rank_4 (by decide) ?_
    refine lv_istore_n (lv' := [(2, .int (nI 0)), (0, .ref h1), (1, .int k)]) hx hb dX1_rank_5 rfl hl (by decide) rfl (fun ls hl => ?_)
    have L6 : ∀ (n : Nat) (r0 : Nat), (S.length - r0 < n) → (r0 ≤ S.length) → (∀ j y, j < r0 → S[j]? = some y → nI (y % 3125) ≠ k) → ∀ (H : Heap) (locs : List Loc), va_P (dC, dI) rp_cl (rp_mw h1 ae dE pr ba S.length nu2 co2) H → va_D A (rp_mw h1 ae dE pr ba S.length nu2 co2) → va_S A s.heap H locs → ∀ (ls : Array Slot), lv_has ls 3 [(2, .int (nI r0)), (1, .int k), (0, .ref h1)] → W p l e (headSpec (ws_ yX1_rank cX1_rank 3 (some .int)) (rp_rm 3 71)).room s m ([.ref h1, .int k] : List Value).toArray below meth c H locs 0 0 (MQ below (va_Qi (fun (r : Int32) (z : Nat × (Nat → Nat) × (Nat → Nat)) => r = rp_a_rank S k) (fun z t1 => rp_Bc dC dI A (rp_mw h1 ae dE pr ba z.1 z.2.1 z.2.2) (rp_mk dE) t1) A) ([.ref h1, .int k] : List Value).toArray s 0 0 A) (F0 m 6 ls []) := by
      intro n
      induction n with
      | zero =>
        intro r0 hn hr0 hall
        exact absurd hn (by omega)
      | succ n ih =>
        intro r0 hn hr0 hall H locs hP hD hS ls hl
        refine lv_iload_n hx hb dX1_rank_6 rfl (lv_at hl 0 rfl) ?_
        refine lv_aload_n hx hb dX1_rank_7 rfl (lv_at hl 2 rfl) ?_
        refine va_get (D := (dC, dI)) (ci := 1) (v := .int (nI S.length)) (C := RX1) (T := TX1) (N := 4) hx hb hts in_X1 hown hK hP 0 rfl rfl 1 (by decide) (hts _ q183) (fun _ h9 => h9) rfl dX1_rank_8 ?_
        refine rp_icge (tgt := 32) hx hb (by omega) (by omega) dX1_rank_11 (by decide) (fun c_11 => ?_) (fun c_11 => ?_)
        · have han : rp_a_rank S k = -1 := rp_rank_no (fun j y h => hall j y (by have := (List.getElem?_eq_some_iff.mp h).1; omega) h)
          refine lv_iconst (v := (-1)) hx hb dX1_rank_32 (by decide) ?_
          exact W.iret (v := (-1)) hx hb hr (fun t9 ht9 hW9 => ⟨⟨(-1), (S.length, nu2, co2), rfl, han.symm, by rw [ht9]; exact hP, va_K.moved hW9.alike hK, hD⟩, hS.F ht9⟩) hS.2.2 dX1_rank_33
        · have g := hH r0 c_11
          have hmd : (3125 * co2 r0 + nu2 r0) % 3125 = nu2 r0 := by omega
          refine lv_aload_n hx hb dX1_rank_14 rfl (lv_at hl 2 rfl) ?_
          refine va_get (D := (dC, dI)) (ci := 1) (v := .ref (ae 2)) (C := RX1) (T := TX1) (N := 4) hx hb hts in_X1 hown hK hP 0 rfl rfl 2 (by decide) (hts _ q184) (fun _ h9 => h9) rfl dX1_rank_15 ?_
          refine lv_iload_n hx hb dX1_rank_18 rfl (lv_at hl 0 rfl) ?_
          refine rp_iald nI nu2 hx hb hK hP 2 1 rfl rfl (i := r0) (by omega) (by decide) dX1_rank_19 ?_
          refine lv_iload_n hx hb dX1_rank_20 rfl (lv_at hl 1 rfl) ?_
          refine lv_icmp_ne (tgt := 26) hx hb dX1_rank_21 (by decide) (fun c_21 => ?_) (fun c_21 => ?_)
          · have hall2 : ∀ j y, j < r0 + 1 → S[j]? = some y → nI (y % 3125) ≠ k := fun j x h1 h2 => by
              rcases Nat.lt_or_ge j r0 with q | q
              · exact hall j x q h2
              · have e : j = r0 := by omega
                rw [e, g.1] at h2
                cases h2
                rw [hmd]; exact c_21
            refine lv_iinc (v := nI (r0 + 1)) (lv' := [(2, .int (nI (r0 + 1))), (1, .int k), (0, .ref h1)]) hx hb dX1_rank_26 hl (k := 0) rfl (by exact nI_1 _) (by decide) rfl (fun ls hl => ?_)
            refine lv_goto (tgt := 6) hx hb dX1_rank_29 (by decide) ?_
            exact ih (r0 + 1) (by omega) (by omega) hall2 _ _ hP hD hS ls (lv_sub hl [0, 1, 2] rfl)
          · have han := rp_rank_at (k := k) hall g.1 (by rw [hmd]; exact c_21)
            refine lv_iload_n hx hb dX1_rank_24 rfl (lv_at hl 0 rfl) ?_
            exact W.iret (v := nI r0) hx hb hr (fun t9 ht9 hW9 => ⟨⟨nI r0, (S.length, nu2, co2), rfl, han.symm, by rw [ht9]; exact hP, va_K.moved hW9.alike hK, hD⟩, hS.F ht9⟩) hS.2.2 dX1_rank_25
    exact L6 (S.length + 1) 0 (by omega) (by omega) (fun j y h => by omega) _ _ hP hD hS ls (lv_sub hl [0, 2, 1] rfl)
  exact L0 _ _ hP hD hS ls hl
set_option maxHeartbeats 4000000 in
/-- cheapestWith -/
theorem metX1_cheapestWith (l : Launch) (dC : Nat → ClassId) (dI : Nat → Nat → Nat) (h1 : Nat) (ae : Nat → Nat) (dE : Nat → ClassId) (sz : Nat) (pr : Nat → Nat) (ba : Nat → Bool) (cn : Nat) (nu : Nat → Nat) (co : Nat → Nat) (S : List Nat) (w t : Int32) (hpr : ∀ j, j < 25 → pr j < 100) (hSS : rp_SN pr ba 3125 = S) (hSl : S.length ≤ 120) : Met l yX1_cheapestWith (ws_ yX1_cheapestWith cX1_cheapestWith 4 (some .int)) (rp_rm 3 71) (rp_Pc dC dI [.ref h1, .int w, .int t] sz (rp_mw h1 ae dE pr ba cn nu co) (rp_mk dE)) (va_Qi (fun (r : Int32) (z : Nat × (Nat → Nat) × (Nat → Nat)) => r = rp_a_with S w t) (fun z t1 => rp_Bc dC dI (va_A (rp_mw h1 ae dE pr ba cn nu co) sz) (rp_mw h1 ae dE pr ba z.1 z.2.1 z.2.2) (rp_mk dE) t1) (va_A (rp_mw h1 ae dE pr ba cn nu co) sz)) 0 0 (va_A (rp_mw h1 ae dE pr ba cn nu co) sz) := by
  refine Met.ofW (cc := cX1_cheapestWith) (maxL := 4) (ret := (some .int)) (by decide) rfl ?_
  intro p e s m args below meth c s₁ B hml hv
  obtain ⟨rfl, hsz, hP, hK, hD0⟩ := hv
  have hx := B.exec
  have hb := B.bytes
  have hr := B.returns
  have hts := atoms_spec (ws := (ws_ yX1_cheapestWith cX1_cheapestWith 4 (some .int))) B.pre
  have hts : ∀ w ∈ lw_all, w.before _ s = true := fun w h => hts w (List.mem_cons_of_mem _ h)
  have hown : s.vm.findClass RX1 = some m.cls := findClass_of_methodNamed B.named
  have hlocks := B.notSynchronized
  subst hsz
  have hD := hD0.self (sz := s.heap.size)
  generalize hAe : va_A (rp_mw h1 ae dE pr ba cn nu co) s.heap.size = A at hD ⊢
  have hA : ∀ q : Nat, s.heap.size ≤ q → A q := fun q h => by rw [← hAe]; exact Or.inr h
  have hS : va_S A s.heap s.heap [] := va_S.rf
  have hP : va_P (dC, dI) rp_cl (rp_mw h1 ae dE pr ba cn nu co) s.heap := hP
  have hl := lv_entry ([.ref h1, .int w, .int t]) (n := 4) (Nat.le_of_ble_eq_true rfl)
  rw [lg_entry_eq]
  generalize (lg_sl ([.ref h1, .int w, .int t]) ++ List.replicate (4 - (lg_sl ([.ref h1, .int w, .int t])).length) Slot.unset).toArray = ls at hl ⊢
  have hl : lv_has ls 4 [(0, .ref h1), (1, .int w), (2, .int t)] := hl
  have L0 : ∀ (H : Heap) (locs : List Loc), va_P (dC, dI) rp_cl (rp_mw h1 ae dE pr ba cn nu co) H → va_D A (rp_mw h1 ae dE pr ba cn nu co) → va_S A s.heap H locs → ∀ (ls : Array Slot), lv_has ls 4 [(0, .ref h1), (1, .int w), (2, .int t)] → W p l e (headSpec (ws_ yX1_cheapestWith cX1_cheapestWith 4 (some .int)) (rp_rm 3 71)).room s m ([.ref h1, .int w, .int t] : List Value).toArray below meth c H locs 0 0 (MQ below (va_Qi (fun (r : Int32) (z : Nat × (Nat → Nat) × (Nat → Nat)) => r = rp_a_with S w t) (fun z t1 => rp_Bc dC dI A (rp_mw h1 ae dE pr ba z.1 z.2.1 z.2.2) (rp_mk dE) t1) A) ([.ref h1, .int w, .int t] : List Value).toArray s 0 0 A) (F0 m 0 ls []) := by
    intro   H locs hP hD hS ls hl
    refine lv_iload_n hx hb dX1_cheapestWith_0 rfl (lv_at hl 1 rfl) ?_
    refine vp_callSi (W.runS (As := [.int w]) (rest := []) ⟨hx, hb, hml, hown, hts⟩ (metX1_bad l w) (va_cwS 1 hts (lw_S q199 q200 q13 q201) rfl rfl rfl (by decide +kernel) ⟨Nat.le_of_ble_eq_true rfl, Nat.le_of_ble_eq_true rfl⟩) ⟨fun a U g mk q => q, fun U hU hW => ⟨rfl, trivial⟩⟩ rfl rfl hl.1 rfl (lv_room (Nat.le_of_ble_eq_true rfl)) dX1_cheapestWith_1 ⟨Nat.le_of_ble_eq_true rfl, Nat.le_of_ble_eq_true rfl⟩) (fun r hr9 => ?_)
    subst hr9
    refine rp_bne (tgt := 14) hx hb dX1_cheapestWith_4 (by decide) (fun c_4 => ?_) (fun c_4 => ?_)
    · have han : rp_a_with S w t = -1 := by unfold rp_a_with; rw [if_neg (fun h => by rw [show rp_ir w = false by simpa using c_4] at h; cases h.1)]
      refine lv_iconst (v := (-1)) hx hb dX1_cheapestWith_14 (by decide) ?_
      exact W.iret (v := (-1)) hx hb hr (fun t9 ht9 hW9 => ⟨⟨(-1), (cn, nu, co), rfl, han.symm, by rw [ht9]; exact hP, va_K.moved hW9.alike hK, hD⟩, hS.F ht9⟩) hS.2.2 dX1_cheapestWith_15
    · refine lv_iload_n hx hb dX1_cheapestWith_7 rfl (lv_at hl 2 rfl) ?_
      refine vp_callSi (W.runS (As := [.int t]) (rest := []) ⟨hx, hb, hml, hown, hts⟩ (metX1_bad l t) (va_cwS 1 hts (lw_S q199 q200 q13 q201) rfl rfl rfl (by decide +kernel) ⟨Nat.le_of_ble_eq_true rfl, Nat.le_of_ble_eq_true rfl⟩) ⟨fun a U g mk q => q, fun U hU hW => ⟨rfl, trivial⟩⟩ rfl rfl hl.1 rfl (lv_room (Nat.le_of_ble_eq_true rfl)) dX1_cheapestWith_8 ⟨Nat.le_of_ble_eq_true rfl, Nat.le_of_ble_eq_true rfl⟩) (fun r hr9 => ?_)
      subst hr9
      refine rp_beq (tgt := 16) hx hb dX1_cheapestWith_11 (by decide) (fun c_11 => ?_) (fun c_11 => ?_)
      · obtain ⟨jw, hjw, rfl⟩ := rp_ir_of (by simpa using c_4)
        obtain ⟨jt, hjt, rfl⟩ := rp_ir_of (by simpa using c_11)
        refine lv_aload_n hx hb dX1_cheapestWith_16 rfl (lv_at hl 0 rfl) ?_
        have hFc := va_free (wc := rp_mw h1 ae dE pr ba cn nu co) hD hS hA [0, 1, 2, 3] rfl
        refine va_callv (va_runV (As := []) (rest := []) ⟨hx, hb, hml, hown, hts⟩ (metX1_list l dC dI h1 ae dE H.size pr ba cn nu co S hpr hSS hSl) (cwV 0 hts (lw_V q210 q212 qs9 q13 q213) rfl rfl rfl (by decide +kernel) ⟨Nat.le_of_ble_eq_true rfl, Nat.le_of_ble_eq_true rfl⟩) ⟨fun a U g mk q => by obtain ⟨q0, q1, qP, qK, qD⟩ := q; exact ⟨q0, q1, qP, va_K.moved (u := U) (U := U.calling g mk a) (Vm.Alike.refl U.vm) qK, qD⟩, va_recv hK hP (ci := 1) (q0 := 0) rfl rfl, fun U hU hW => ⟨rfl, by rw [hU], by rw [hU]; exact hP, va_K.moved hW.alike hK, hD.weaken (fun _ _ _ _ => trivial)⟩⟩ rfl rfl hl.1 rfl (lv_room (Nat.le_of_ble_eq_true rfl)) dX1_cheapestWith_17 ⟨Nat.le_of_ble_eq_true rfl, Nat.le_of_ble_eq_true rfl⟩) hS (fun q _ h => hFc q h) hFc (fun u_ t H1 locs ht hvm hw hB hz1 hk1 hS => ?_)
        obtain ⟨hP1, hK1, hD1⟩ := hB
        rw [ht] at hP1
        have hD := hD1.weaken (fun k q _ h => hFc q.1 h)
        have hP := hP1
        obtain ⟨nu2, co2⟩ := u_
        have hH : rp_HL S nu2 co2 3125 := hw
        clear hFc hK1 hz1 hk1 hD1 hP1 ht hvm
        generalize H1 = H at hP hS ⊢
        have hP : va_P (dC, dI) rp_cl (rp_mw h1 ae dE pr ba S.length nu2 co2) H := hP
        have hD : va_D A (rp_mw h1 ae dE pr ba S.length nu2 co2) := hD
        refine lv_iconst (v := nI 0) hx hb dX1_cheapestWith_20 (by decide) ?_
        refine lv_istore_n (lv' := [(3, .int (nI 0)), (0, .ref h1), (1, .int (nI jw)), (2, .int (nI jt))]) hx hb dX1_cheapestWith_21 rfl hl (by decide) rfl (fun ls hl => ?_)
        have L22 : ∀ (n : Nat) (r0 : Nat), (S.length - r0 < n) → (r0 ≤ S.length) → (∀ j y, j < r0 → S[j]? = some y → decide (rp_dg (y % 3125) jw = jt) = false) → ∀ (H : Heap) (locs : List Loc), va_P (dC, dI) rp_cl (rp_mw h1 ae dE pr ba S.length nu2 co2) H → va_D A (rp_mw h1 ae dE pr ba S.length nu2 co2) → va_S A s.heap H locs → ∀ (ls : Array Slot), lv_has ls 4 [(3, .int (nI r0)), (2, .int (nI jt)), (1, .int (nI jw)), (0, .ref h1)] → W p l e (headSpec (ws_ yX1_cheapestWith cX1_cheapestWith 4 (some .int)) (rp_rm 3 71)).room s m ([.ref h1, .int (nI jw), .int (nI jt)] : List Value).toArray below meth c H locs 0 0 (MQ below (va_Qi (fun (r : Int32) (z : Nat × (Nat → Nat) × (Nat → Nat)) => r = rp_a_with S (nI jw) (nI jt)) (fun z t1 => rp_Bc dC dI A (rp_mw h1 ae dE pr ba z.1 z.2.1 z.2.2) (rp_mk dE) t1) A) ([.ref h1, .int (nI jw), .int (nI jt)] : List Value).toArray s 0 0 A) (F0 m 22 ls []) := by
          intro n
          induction n with
          | zero =>
            intro r0 hn hr0 hall
            exact absurd hn (by omega)
          | succ n ih =>
            intro r0 hn hr0 hall H locs hP hD hS ls hl
            refine lv_iload_n hx hb dX1_cheapestWith_22 rfl (lv_at hl 0 rfl) ?_
            refine lv_aload_n hx hb dX1_cheapestWith_23 rfl (lv_at hl 3 rfl) ?_
            refine va_get (D := (dC, dI)) (ci := 1) (v := .int (nI S.length)) (C := RX1) (T := TX1) (N := 4) hx hb hts in_X1 hown hK hP 0 rfl rfl 1 (by decide) (hts _ q183) (fun _ h9 => h9) rfl dX1_cheapestWith_24 ?_
            refine rp_icge (tgt := 57) hx hb (by omega) (by omega) dX1_cheapestWith_27 (by decide) (fun c_27 => ?_) (fun c_27 => ?_)
            · have han : rp_a_with S (nI jw) (nI jt) = -1 := by rw [rp_with_def hjw hjt, rp_find_no (fun j y h => hall j y (by have := (List.getElem?_eq_some_iff.mp h).1; omega) h)]
              refine lv_iconst (v := (-1)) hx hb dX1_cheapestWith_57 (by decide) ?_
              exact W.iret (v := (-1)) hx hb hr (fun t9 ht9 hW9 => ⟨⟨(-1), (S.length, nu2, co2), rfl, han.symm, by rw [ht9]; exact hP, va_K.moved hW9.alike hK, hD⟩, hS.F ht9⟩) hS.2.2 dX1_cheapestWith_58
            · have g := hH r0 c_27
              have hmd : (3125 * co2 r0 + nu2 r0) % 3125 = nu2 r0 := by omega
              have hdv : (3125 * co2 r0 + nu2 r0) / 3125 = co2 r0 := by omega
              have hdl := rp_dg_lt (nu2 r0) jw
              refine lv_aload_n hx hb dX1_cheapestWith_30 rfl (lv_at hl 3 rfl) ?_
              refine va_get (D := (dC, dI)) (ci := 1) (v := .ref (ae 2)) (C := RX1) (T := TX1) (N := 4) hx hb hts in_X1 hown hK hP 0 rfl rfl 2 (by decide) (hts _ q184) (fun _ h9 => h9) rfl dX1_cheapestWith_31 ?_
              refine lv_iload_n hx hb dX1_cheapestWith_34 rfl (lv_at hl 0 rfl) ?_
              refine rp_iald nI nu2 hx hb hK hP 2 1 rfl rfl (i := r0) (by omega) (by decide) dX1_cheapestWith_35 ?_
              refine lv_iload_n hx hb dX1_cheapestWith_36 rfl (lv_at hl 2 rfl) ?_
              refine vp_callSi (W.runS (As := [.int (nI (nu2 r0)), .int (nI jw)]) (rest := []) ⟨hx, hb, hml, hown, hts⟩ (metX1_digit l (nu2 r0) jw (by omega) hjw) (va_cwS 2 hts (lw_S q218 q219 q13 q220) rfl rfl rfl (by decide +kernel) ⟨Nat.le_of_ble_eq_true rfl, Nat.le_of_ble_eq_true rfl⟩) ⟨fun a U g mk q => q, fun U hU hW => ⟨rfl, trivial⟩⟩ rfl rfl hl.1 rfl (lv_room (Nat.le_of_ble_eq_true rfl)) dX1_cheapestWith_37 ⟨Nat.le_of_ble_eq_true rfl, Nat.le_of_ble_eq_true rfl⟩) (fun r hr9 => ?_)
              subst hr9
              refine lv_iload_n hx hb dX1_cheapestWith_40 rfl (lv_at hl 1 rfl) ?_
              refine rp_icne (tgt := 51) hx hb (by omega) (by omega) dX1_cheapestWith_41 (by decide) (fun c_41 => ?_) (fun c_41 => ?_)
              · have hall2 : ∀ j y, j < r0 + 1 → S[j]? = some y → decide (rp_dg (y % 3125) jw = jt) = false := fun j x h1 h2 => by
                  rcases Nat.lt_or_ge j r0 with q | q
                  · exact hall j x q h2
                  · have e : j = r0 := by omega
                    rw [e, g.1] at h2
                    cases h2
                    rw [hmd]; exact decide_eq_false c_41
                refine lv_iinc (v := nI (r0 + 1)) (lv' := [(3, .int (nI (r0 + 1))), (2, .int (nI jt)), (1, .int (nI jw)), (0, .ref h1)]) hx hb dX1_cheapestWith_51 hl (k := 0) rfl (by exact nI_1 _) (by decide) rfl (fun ls hl => ?_)
                refine lv_goto (tgt := 22) hx hb dX1_cheapestWith_54 (by decide) ?_
                exact ih (r0 + 1) (by omega) (by omega) hall2 _ _ hP hD hS ls (lv_sub hl [0, 1, 2, 3] rfl)
              · have han : rp_a_with S (nI jw) (nI jt) = nI (co2 r0) := by rw [rp_with_def hjw hjt, rp_find_at hall g.1 (by rw [hmd]; exact decide_eq_true c_41)]; show nI ((3125 * co2 r0 + nu2 r0) / 3125) = _; rw [hdv]
                refine lv_aload_n hx hb dX1_cheapestWith_44 rfl (lv_at hl 3 rfl) ?_
                refine va_get (D := (dC, dI)) (ci := 1) (v := .ref (ae 3)) (C := RX1) (T := TX1) (N := 4) hx hb hts in_X1 hown hK hP 0 rfl rfl 3 (by decide) (hts _ q185) (fun _ h9 => h9) rfl dX1_cheapestWith_45 ?_
                refine lv_iload_n hx hb dX1_cheapestWith_48 rfl (lv_at hl 0 rfl) ?_
                refine rp_iald nI co2 hx hb hK hP 3 2 rfl rfl (i := r0) (by omega) (by decide) dX1_cheapestWith_49 ?_
                exact W.iret (v := nI (co2 r0)) hx hb hr (fun t9 ht9 hW9 => ⟨⟨nI (co2 r0), (S.length, nu2, co2), rfl, han.symm, by rw [ht9]; exact hP, va_K.moved hW9.alike hK, hD⟩, hS.F ht9⟩) hS.2.2 dX1_cheapestWith_50
        exact L22 (S.length + 1) 0 (by omega) (by omega) (fun j y h => by omega) _ _ hP hD hS ls (lv_sub hl [0, 3, 2, 1] rfl)
      · have han : rp_a_with S w t = -1 := by unfold rp_a_with; rw [if_neg (fun h => by rw [show rp_ir t = false by simpa using c_11] at h; cases h.2)]
        refine lv_iconst (v := (-1)) hx hb dX1_cheapestWith_14 (by decide) ?_
        exact W.iret (v := (-1)) hx hb hr (fun t9 ht9 hW9 => ⟨⟨(-1), (cn, nu, co), rfl, han.symm, by rw [ht9]; exact hP, va_K.moved hW9.alike hK, hD⟩, hS.F ht9⟩) hS.2.2 dX1_cheapestWith_15
  exact L0 _ _ hP hD hS ls hl
end
section
/-! the two constructors -/
set_option maxRecDepth 100000
theorem rp_cN (cA : ClassId) (n : Nat) : vp_cell cA (n, .inl (fun _ => nI 0)) = arrV cA n (fun _ => defaultValue .int) := by rw [vp_cell_i, nI_0]; rfl
theorem rp_cB (cA : ClassId) (n : Nat) : vp_cell cA (n, .inl (fun _ => rp_B false)) = arrV cA n (fun _ => defaultValue .boolean) := by rw [vp_cell_i, rp_B0]; rfl
theorem rp_cL (cA : ClassId) (n : Nat) : vp_cell cA (n, .inr (.inl (fun _ => lN 0))) = arrV cA n (fun _ => defaultValue .long) := by rw [vp_cell_l, show lN 0 = 0 by decide +kernel]; rfl
theorem rp_cZ (cA : ClassId) (n : Nat) : vp_cell cA (n, .inr (.inl (fun _ => rp_Z 0))) = arrV cA n (fun _ => defaultValue .long) := by rw [vp_cell_l, show rp_Z 0 = 0 by decide +kernel]; rfl
theorem rp_cM (cA : ClassId) (n : Nat) : vp_cell cA (n, .inl (fun j => rp_M (fun _ => 0) (fun _ => false) j)) = arrV cA n (fun _ => defaultValue .int) := by rw [show (fun j => rp_M (fun _ => 0) (fun _ => false) j) = fun _ => nI 0 from rfl]; exact rp_cN cA n
abbrev rp_w0 (h0 : Nat) : va_W := [(h0, .inr (0, [.null, .null, .int (rp_B false), .int (rp_B false), .int (nI 0), .null, .int (nI 0), .null, .null, .null, .null, .int (nI 0), .int (nI 0), .int (nI 0), .int (nI 0), .int (nI 0), .null, .null, .null, .null, .null, .null]))]
set_option maxHeartbeats 4000000 in
/-- the constructor: its arrays, all empty -/
theorem metX0_init (l : Launch) (dC : Nat → ClassId) (dI : Nat → Nat → Nat) (h0 sz : Nat) : Met l yX0_init (ws_ yX0_init cX0_init 1 none) { frames := 1, cells := 13, slots := 2766, locals := 12 } (rp_Pc dC dI [.ref h0] sz (rp_w0 h0) []) (va_Qv (fun (_ : (Nat → Nat) × (Nat → ClassId)) => True) (fun z t => rp_Bc dC dI (va_A (rp_w0 h0) sz) (rp_xw h0 z.1 z.2 (fun _ => 0) (fun _ => false) false false 0 (fun _ => 0) 0 (fun _ => false) (fun _ => 0) (fun _ => 0) (fun _ => 0) 0 0 0 5 0 (fun _ => 0) (fun _ => 0) (fun _ => 0) (fun _ => 0) (fun _ => 0) (fun _ => false)) (rp_xk z.2) t) (va_A (rp_w0 h0) sz)) 13 2766 (va_A (rp_w0 h0) sz) := by
  refine Met.ofW (cc := cX0_init) (maxL := 1) (ret := none) (by decide) rfl ?_
  intro p e s m args below meth c s₁ B hml hv
  obtain ⟨rfl, hsz, hP, hK, hD0⟩ := hv
  have hx := B.exec
  have hb := B.bytes
  have hr := B.returns
  have hts := atoms_spec (ws := (ws_ yX0_init cX0_init 1 none)) B.pre
  have hts : ∀ w ∈ lw_all, w.before _ s = true := fun w h => hts w (List.mem_cons_of_mem _ h)
  have hown : s.vm.findClass RX0 = some m.cls := findClass_of_methodNamed B.named
  have hlocks := B.notSynchronized
  have hin : meth.name = "<init>" := (name_of_methodNamed B.named B.method).1
  subst hsz
  have hD := hD0.self (sz := s.heap.size)
  generalize hAe : va_A (rp_w0 h0) s.heap.size = A at hD ⊢
  have hA : ∀ q : Nat, s.heap.size ≤ q → A q := fun q h => by rw [← hAe]; exact Or.inr h
  have hS : va_S A s.heap s.heap [] := va_S.rf
  have hP : va_P (dC, dI) rp_cl [(h0, .inr (0, [.null, .null, .int (rp_B false), .int (rp_B false), .int (nI 0), .null, .int (nI 0), .null, .null, .null, .null, .int (nI 0), .int (nI 0), .int (nI 0), .int (nI 0), .int (nI 0), .null, .null, .null, .null, .null, .null]))] s.heap := hP
  have hl := lv_entry ([.ref h0]) (n := 1) (Nat.le_of_ble_eq_true rfl)
  rw [lg_entry_eq]
  generalize (lg_sl ([.ref h0]) ++ List.replicate (1 - (lg_sl ([.ref h0])).length) Slot.unset).toArray = ls at hl ⊢
  have hl : lv_has ls 1 [(0, .ref h0)] := hl
  refine lv_aload_n hx hb dX0_init_0 rfl (lv_at hl 0 rfl) ?_
  refine W.objInit hx hb hown (hts _ q19) (hts _ q20) (hts _ q21) rfl (by rw [hml]; exact hl.1) rfl dX0_init_1 (Nat.le_of_ble_eq_true rfl) (Nat.le_of_ble_eq_true rfl) ?_
  refine W.eq (g2 := F0 m 4 ls []) rfl ?_
  refine lv_aload_n hx hb dX0_init_4 rfl (lv_at hl 0 rfl) ?_
  refine lv_bipush (v := nI 25) hx hb dX0_init_5 (by decide) ?_
  refine va_newa (atype := .int) (a0 := (25, .inl (fun _ => nI 0))) (N' := 25) hx hb (hts _ q89) (ty := .int) rfl hK hP hD hS hA (fun cA => rp_cN cA 25) (by decide) (by decide) (by decide) (Nat.le_of_ble_eq_true rfl) (Nat.le_of_ble_eq_true rfl) dX0_init_7 (fun q0 c0 H hK hP hD hS => ?_)
  have hP : va_P (dC, dI) rp_cl [(h0, .inr (0, [.null, .null, .int (rp_B false), .int (rp_B false), .int (nI 0), .null, .int (nI 0), .null, .null, .null, .null, .int (nI 0), .int (nI 0), .int (nI 0), .int (nI 0), .int (nI 0), .null, .null, .null, .null, .null, .null])), (q0, .inl (c0, 25, .inl (fun _ => nI 0)))] H := hP
  have hD : va_D A [(h0, .inr (0, [.null, .null, .int (rp_B false), .int (rp_B false), .int (nI 0), .null, .int (nI 0), .null, .null, .null, .null, .int (nI 0), .int (nI 0), .int (nI 0), .int (nI 0), .int (nI 0), .null, .null, .null, .null, .null, .null])), (q0, .inl (c0, 25, .inl (fun _ => nI 0)))] := hD
  have hK : va_K (dC, dI) rp_cl [(c0, .int)] s := hK
  refine W.widen (k := 1) (n := 25) (by omega) (by omega) ?_
  refine va_putF (D := (dC, dI)) (ci := 0) (v := .ref q0) (ty := .array .int) (C := RX0) (T := TX0) (N := 22) hx hb hts in_X0 tyX0 tyX0_ok nmX0 hown hK hP hD hS 0 rfl rfl 0 (by decide) (hts _ q22) (fun _ h9 => h9) rfl hin rfl (by decide +kernel) rfl rfl (Nat.le_of_ble_eq_true rfl) dX0_init_9 (fun H locs hP hD hS => ?_)
  have hP : va_P (dC, dI) rp_cl [(h0, .inr (0, [.ref q0, .null, .int (rp_B false), .int (rp_B false), .int (nI 0), .null, .int (nI 0), .null, .null, .null, .null, .int (nI 0), .int (nI 0), .int (nI 0), .int (nI 0), .int (nI 0), .null, .null, .null, .null, .null, .null])), (q0, .inl (c0, 25, .inl (fun _ => nI 0)))] H := hP
  have hD : va_D A [(h0, .inr (0, [.ref q0, .null, .int (rp_B false), .int (rp_B false), .int (nI 0), .null, .int (nI 0), .null, .null, .null, .null, .int (nI 0), .int (nI 0), .int (nI 0), .int (nI 0), .int (nI 0), .null, .null, .null, .null, .null, .null])), (q0, .inl (c0, 25, .inl (fun _ => nI 0)))] := hD
  refine lv_aload_n hx hb dX0_init_12 rfl (lv_at hl 0 rfl) ?_
  refine lv_bipush (v := nI 25) hx hb dX0_init_13 (by decide) ?_
  refine va_newa (atype := .boolean) (a0 := (25, .inl (fun _ => rp_B false))) (N' := 25) hx hb (hts _ q90) (ty := .boolean) rfl hK hP hD hS hA (fun cA => rp_cB cA 25) (by decide) (by decide) (by decide) (Nat.le_of_ble_eq_true rfl) (Nat.le_of_ble_eq_true rfl) dX0_init_15 (fun q1 c1 H hK hP hD hS => ?_)
  have hP : va_P (dC, dI) rp_cl [(h0, .inr (0, [.ref q0, .null, .int (rp_B false), .int (rp_B false), .int (nI 0), .null, .int (nI 0), .null, .null, .null, .null, .int (nI 0), .int (nI 0), .int (nI 0), .int (nI 0), .int (nI 0), .null, .null, .null, .null, .null, .null])), (q0, .inl (c0, 25, .inl (fun _ => nI 0))), (q1, .inl (c1, 25, .inl (fun _ => rp_B false)))] H := hP
  have hD : va_D A [(h0, .inr (0, [.ref q0, .null, .int (rp_B false), .int (rp_B false), .int (nI 0), .null, .int (nI 0), .null, .null, .null, .null, .int (nI 0), .int (nI 0), .int (nI 0), .int (nI 0), .int (nI 0), .null, .null, .null, .null, .null, .null])), (q0, .inl (c0, 25, .inl (fun _ => nI 0))), (q1, .inl (c1, 25, .inl (fun _ => rp_B false)))] := hD
  have hK : va_K (dC, dI) rp_cl [(c0, .int), (c1, .boolean)] s := hK
  refine W.widen (k := 2) (n := 50) (by omega) (by omega) ?_
  refine va_putF (D := (dC, dI)) (ci := 0) (v := .ref q1) (ty := .array .boolean) (C := RX0) (T := TX0) (N := 22) hx hb hts in_X0 tyX0 tyX0_ok nmX0 hown hK hP hD hS 0 rfl rfl 1 (by decide) (hts _ q23) (fun _ h9 => h9) rfl hin rfl (by decide +kernel) rfl rfl (Nat.le_of_ble_eq_true rfl) dX0_init_17 (fun H locs hP hD hS => ?_)
  have hP : va_P (dC, dI) rp_cl [(h0, .inr (0, [.ref q0, .ref q1, .int (rp_B false), .int (rp_B false), .int (nI 0), .null, .int (nI 0), .null, .null, .null, .null, .int (nI 0), .int (nI 0), .int (nI 0), .int (nI 0), .int (nI 0), .null, .null, .null, .null, .null, .null])), (q0, .inl (c0, 25, .inl (fun _ => nI 0))), (q1, .inl (c1, 25, .inl (fun _ => rp_B false)))] H := hP
  have hD : va_D A [(h0, .inr (0, [.ref q0, .ref q1, .int (rp_B false), .int (rp_B false), .int (nI 0), .null, .int (nI 0), .null, .null, .null, .null, .int (nI 0), .int (nI 0), .int (nI 0), .int (nI 0), .int (nI 0), .null, .null, .null, .null, .null, .null])), (q0, .inl (c0, 25, .inl (fun _ => nI 0))), (q1, .inl (c1, 25, .inl (fun _ => rp_B false)))] := hD
  refine lv_aload_n hx hb dX0_init_20 rfl (lv_at hl 0 rfl) ?_
  refine lv_bipush (v := nI 120) hx hb dX0_init_21 (by decide) ?_
  refine va_newa (atype := .long) (a0 := (120, .inr (.inl (fun _ => lN 0)))) (N' := 120) hx hb (hts _ q91) (ty := .long) rfl hK hP hD hS hA (fun cA => rp_cL cA 120) (by decide) (by decide) (by decide) (Nat.le_of_ble_eq_true rfl) (Nat.le_of_ble_eq_true rfl) dX0_init_23 (fun q5 c5 H hK hP hD hS => ?_)
  have hP : va_P (dC, dI) rp_cl [(h0, .inr (0, [.ref q0, .ref q1, .int (rp_B false), .int (rp_B false), .int (nI 0), .null, .int (nI 0), .null, .null, .null, .null, .int (nI 0), .int (nI 0), .int (nI 0), .int (nI 0), .int (nI 0), .null, .null, .null, .null, .null, .null])), (q0, .inl (c0, 25, .inl (fun _ => nI 0))), (q1, .inl (c1, 25, .inl (fun _ => rp_B false))), (q5, .inl (c5, 120, .inr (.inl (fun _ => lN 0))))] H := hP
  have hD : va_D A [(h0, .inr (0, [.ref q0, .ref q1, .int (rp_B false), .int (rp_B false), .int (nI 0), .null, .int (nI 0), .null, .null, .null, .null, .int (nI 0), .int (nI 0), .int (nI 0), .int (nI 0), .int (nI 0), .null, .null, .null, .null, .null, .null])), (q0, .inl (c0, 25, .inl (fun _ => nI 0))), (q1, .inl (c1, 25, .inl (fun _ => rp_B false))), (q5, .inl (c5, 120, .inr (.inl (fun _ => lN 0))))] := hD
  have hK : va_K (dC, dI) rp_cl [(c0, .int), (c1, .boolean), (c5, .long)] s := hK
  refine W.widen (k := 3) (n := 170) (by omega) (by omega) ?_
  refine va_putF (D := (dC, dI)) (ci := 0) (v := .ref q5) (ty := .array .long) (C := RX0) (T := TX0) (N := 22) hx hb hts in_X0 tyX0 tyX0_ok nmX0 hown hK hP hD hS 0 rfl rfl 5 (by decide) (hts _ q27) (fun _ h9 => h9) rfl hin rfl (by decide +kernel) rfl rfl (Nat.le_of_ble_eq_true rfl) dX0_init_25 (fun H locs hP hD hS => ?_)
  have hP : va_P (dC, dI) rp_cl [(h0, .inr (0, [.ref q0, .ref q1, .int (rp_B false), .int (rp_B false), .int (nI 0), .ref q5, .int (nI 0), .null, .null, .null, .null, .int (nI 0), .int (nI 0), .int (nI 0), .int (nI 0), .int (nI 0), .null, .null, .null, .null, .null, .null])), (q0, .inl (c0, 25, .inl (fun _ => nI 0))), (q1, .inl (c1, 25, .inl (fun _ => rp_B false))), (q5, .inl (c5, 120, .inr (.inl (fun _ => lN 0))))] H := hP
  have hD : va_D A [(h0, .inr (0, [.ref q0, .ref q1, .int (rp_B false), .int (rp_B false), .int (nI 0), .ref q5, .int (nI 0), .null, .null, .null, .null, .int (nI 0), .int (nI 0), .int (nI 0), .int (nI 0), .int (nI 0), .null, .null, .null, .null, .null, .null])), (q0, .inl (c0, 25, .inl (fun _ => nI 0))), (q1, .inl (c1, 25, .inl (fun _ => rp_B false))), (q5, .inl (c5, 120, .inr (.inl (fun _ => lN 0))))] := hD
  refine lv_aload_n hx hb dX0_init_28 rfl (lv_at hl 0 rfl) ?_
  refine lv_sipush (v := nI 640) hx hb dX0_init_29 (by decide) ?_
  refine va_newa (atype := .boolean) (a0 := (640, .inl (fun _ => rp_B false))) (N' := 640) hx hb (hts _ q90) (ty := .boolean) rfl hK hP hD hS hA (fun cA => rp_cB cA 640) (by decide) (by decide) (by decide) (Nat.le_of_ble_eq_true rfl) (Nat.le_of_ble_eq_true rfl) dX0_init_32 (fun q7 c7 H hK hP hD hS => ?_)
  have hP : va_P (dC, dI) rp_cl [(h0, .inr (0, [.ref q0, .ref q1, .int (rp_B false), .int (rp_B false), .int (nI 0), .ref q5, .int (nI 0), .null, .null, .null, .null, .int (nI 0), .int (nI 0), .int (nI 0), .int (nI 0), .int (nI 0), .null, .null, .null, .null, .null, .null])), (q0, .inl (c0, 25, .inl (fun _ => nI 0))), (q1, .inl (c1, 25, .inl (fun _ => rp_B false))), (q5, .inl (c5, 120, .inr (.inl (fun _ => lN 0)))), (q7, .inl (c7, 640, .inl (fun _ => rp_B false)))] H := hP
  have hD : va_D A [(h0, .inr (0, [.ref q0, .ref q1, .int (rp_B false), .int (rp_B false), .int (nI 0), .ref q5, .int (nI 0), .null, .null, .null, .null, .int (nI 0), .int (nI 0), .int (nI 0), .int (nI 0), .int (nI 0), .null, .null, .null, .null, .null, .null])), (q0, .inl (c0, 25, .inl (fun _ => nI 0))), (q1, .inl (c1, 25, .inl (fun _ => rp_B false))), (q5, .inl (c5, 120, .inr (.inl (fun _ => lN 0)))), (q7, .inl (c7, 640, .inl (fun _ => rp_B false)))] := hD
  have hK : va_K (dC, dI) rp_cl [(c0, .int), (c1, .boolean), (c5, .long), (c7, .boolean)] s := hK
  refine W.widen (k := 4) (n := 810) (by omega) (by omega) ?_
  refine va_putF (D := (dC, dI)) (ci := 0) (v := .ref q7) (ty := .array .boolean) (C := RX0) (T := TX0) (N := 22) hx hb hts in_X0 tyX0 tyX0_ok nmX0 hown hK hP hD hS 0 rfl rfl 7 (by decide) (hts _ q29) (fun _ h9 => h9) rfl hin rfl (by decide +kernel) rfl rfl (Nat.le_of_ble_eq_true rfl) dX0_init_34 (fun H locs hP hD hS => ?_)
  have hP : va_P (dC, dI) rp_cl [(h0, .inr (0, [.ref q0, .ref q1, .int (rp_B false), .int (rp_B false), .int (nI 0), .ref q5, .int (nI 0), .ref q7, .null, .null, .null, .int (nI 0), .int (nI 0), .int (nI 0), .int (nI 0), .int (nI 0), .null, .null, .null, .null, .null, .null])), (q0, .inl (c0, 25, .inl (fun _ => nI 0))), (q1, .inl (c1, 25, .inl (fun _ => rp_B false))), (q5, .inl (c5, 120, .inr (.inl (fun _ => lN 0)))), (q7, .inl (c7, 640, .inl (fun _ => rp_B false)))] H := hP
  have hD : va_D A [(h0, .inr (0, [.ref q0, .ref q1, .int (rp_B false), .int (rp_B false), .int (nI 0), .ref q5, .int (nI 0), .ref q7, .null, .null, .null, .int (nI 0), .int (nI 0), .int (nI 0), .int (nI 0), .int (nI 0), .null, .null, .null, .null, .null, .null])), (q0, .inl (c0, 25, .inl (fun _ => nI 0))), (q1, .inl (c1, 25, .inl (fun _ => rp_B false))), (q5, .inl (c5, 120, .inr (.inl (fun _ => lN 0)))), (q7, .inl (c7, 640, .inl (fun _ => rp_B false)))] := hD
  refine lv_aload_n hx hb dX0_init_37 rfl (lv_at hl 0 rfl) ?_
  refine lv_sipush (v := nI 640) hx hb dX0_init_38 (by decide) ?_
  refine va_newa (atype := .int) (a0 := (640, .inl (fun _ => nI 0))) (N' := 640) hx hb (hts _ q89) (ty := .int) rfl hK hP hD hS hA (fun cA => rp_cN cA 640) (by decide) (by decide) (by decide) (Nat.le_of_ble_eq_true rfl) (Nat.le_of_ble_eq_true rfl) dX0_init_41 (fun q8 c8 H hK hP hD hS => ?_)
  have hP : va_P (dC, dI) rp_cl [(h0, .inr (0, [.ref q0, .ref q1, .int (rp_B false), .int (rp_B false), .int (nI 0), .ref q5, .int (nI 0), .ref q7, .null, .null, .null, .int (nI 0), .int (nI 0), .int (nI 0), .int (nI 0), .int (nI 0), .null, .null, .null, .null, .null, .null])), (q0, .inl (c0, 25, .inl (fun _ => nI 0))), (q1, .inl (c1, 25, .inl (fun _ => rp_B false))), (q5, .inl (c5, 120, .inr (.inl (fun _ => lN 0)))), (q7, .inl (c7, 640, .inl (fun _ => rp_B false))), (q8, .inl (c8, 640, .inl (fun _ => nI 0)))] H := hP
  have hD : va_D A [(h0, .inr (0, [.ref q0, .ref q1, .int (rp_B false), .int (rp_B false), .int (nI 0), .ref q5, .int (nI 0), .ref q7, .null, .null, .null, .int (nI 0), .int (nI 0), .int (nI 0), .int (nI 0), .int (nI 0), .null, .null, .null, .null, .null, .null])), (q0, .inl (c0, 25, .inl (fun _ => nI 0))), (q1, .inl (c1, 25, .inl (fun _ => rp_B false))), (q5, .inl (c5, 120, .inr (.inl (fun _ => lN 0)))), (q7, .inl (c7, 640, .inl (fun _ => rp_B false))), (q8, .inl (c8, 640, .inl (fun _ => nI 0)))] := hD
  have hK : va_K (dC, dI) rp_cl [(c0, .int), (c1, .boolean), (c5, .long), (c7, .boolean), (c8, .int)] s := hK
  refine W.widen (k := 5) (n := 1450) (by omega) (by omega) ?_
  refine va_putF (D := (dC, dI)) (ci := 0) (v := .ref q8) (ty := .array .int) (C := RX0) (T := TX0) (N := 22) hx hb hts in_X0 tyX0 tyX0_ok nmX0 hown hK hP hD hS 0 rfl rfl 8 (by decide) (hts _ q30) (fun _ h9 => h9) rfl hin rfl (by decide +kernel) rfl rfl (Nat.le_of_ble_eq_true rfl) dX0_init_43 (fun H locs hP hD hS => ?_)
  have hP : va_P (dC, dI) rp_cl [(h0, .inr (0, [.ref q0, .ref q1, .int (rp_B false), .int (rp_B false), .int (nI 0), .ref q5, .int (nI 0), .ref q7, .ref q8, .null, .null, .int (nI 0), .int (nI 0), .int (nI 0), .int (nI 0), .int (nI 0), .null, .null, .null, .null, .null, .null])), (q0, .inl (c0, 25, .inl (fun _ => nI 0))), (q1, .inl (c1, 25, .inl (fun _ => rp_B false))), (q5, .inl (c5, 120, .inr (.inl (fun _ => lN 0)))), (q7, .inl (c7, 640, .inl (fun _ => rp_B false))), (q8, .inl (c8, 640, .inl (fun _ => nI 0)))] H := hP
  have hD : va_D A [(h0, .inr (0, [.ref q0, .ref q1, .int (rp_B false), .int (rp_B false), .int (nI 0), .ref q5, .int (nI 0), .ref q7, .ref q8, .null, .null, .int (nI 0), .int (nI 0), .int (nI 0), .int (nI 0), .int (nI 0), .null, .null, .null, .null, .null, .null])), (q0, .inl (c0, 25, .inl (fun _ => nI 0))), (q1, .inl (c1, 25, .inl (fun _ => rp_B false))), (q5, .inl (c5, 120, .inr (.inl (fun _ => lN 0)))), (q7, .inl (c7, 640, .inl (fun _ => rp_B false))), (q8, .inl (c8, 640, .inl (fun _ => nI 0)))] := hD
  refine lv_aload_n hx hb dX0_init_46 rfl (lv_at hl 0 rfl) ?_
  refine lv_sipush (v := nI 640) hx hb dX0_init_47 (by decide) ?_
  refine va_newa (atype := .int) (a0 := (640, .inl (fun _ => nI 0))) (N' := 640) hx hb (hts _ q89) (ty := .int) rfl hK hP hD hS hA (fun cA => rp_cN cA 640) (by decide) (by decide) (by decide) (Nat.le_of_ble_eq_true rfl) (Nat.le_of_ble_eq_true rfl) dX0_init_50 (fun q9 c9 H hK hP hD hS => ?_)
  have hP : va_P (dC, dI) rp_cl [(h0, .inr (0, [.ref q0, .ref q1, .int (rp_B false), .int (rp_B false), .int (nI 0), .ref q5, .int (nI 0), .ref q7, .ref q8, .null, .null, .int (nI 0), .int (nI 0), .int (nI 0), .int (nI 0), .int (nI 0), .null, .null, .null, .null, .null, .null])), (q0, .inl (c0, 25, .inl (fun _ => nI 0))), (q1, .inl (c1, 25, .inl (fun _ => rp_B false))), (q5, .inl (c5, 120, .inr (.inl (fun _ => lN 0)))), (q7, .inl (c7, 640, .inl (fun _ => rp_B false))), (q8, .inl (c8, 640, .inl (fun _ => nI 0))), (q9, .inl (c9, 640, .inl (fun _ => nI 0)))] H := hP
  have hD : va_D A [(h0, .inr (0, [.ref q0, .ref q1, .int (rp_B false), .int (rp_B false), .int (nI 0), .ref q5, .int (nI 0), .ref q7, .ref q8, .null, .null, .int (nI 0), .int (nI 0), .int (nI 0), .int (nI 0), .int (nI 0), .null, .null, .null, .null, .null, .null])), (q0, .inl (c0, 25, .inl (fun _ => nI 0))), (q1, .inl (c1, 25, .inl (fun _ => rp_B false))), (q5, .inl (c5, 120, .inr (.inl (fun _ => lN 0)))), (q7, .inl (c7, 640, .inl (fun _ => rp_B false))), (q8, .inl (c8, 640, .inl (fun _ => nI 0))), (q9, .inl (c9, 640, .inl (fun _ => nI 0)))] := hD
  have hK : va_K (dC, dI) rp_cl [(c0, .int), (c1, .boolean), (c5, .long), (c7, .boolean), (c8, .int), (c9, .int)] s := hK
  refine W.widen (k := 6) (n := 2090) (by omega) (by omega) ?_
  refine va_putF (D := (dC, dI)) (ci := 0) (v := .ref q9) (ty := .array .int) (C := RX0) (T := TX0) (N := 22) hx hb hts in_X0 tyX0 tyX0_ok nmX0 hown hK hP hD hS 0 rfl rfl 9 (by decide) (hts _ q31) (fun _ h9 => h9) rfl hin rfl (by decide +kernel) rfl rfl (Nat.le_of_ble_eq_true rfl) dX0_init_52 (fun H locs hP hD hS => ?_)
  have hP : va_P (dC, dI) rp_cl [(h0, .inr (0, [.ref q0, .ref q1, .int (rp_B false), .int (rp_B false), .int (nI 0), .ref q5, .int (nI 0), .ref q7, .ref q8, .ref q9, .null, .int (nI 0), .int (nI 0), .int (nI 0), .int (nI 0), .int (nI 0), .null, .null, .null, .null, .null, .null])), (q0, .inl (c0, 25, .inl (fun _ => nI 0))), (q1, .inl (c1, 25, .inl (fun _ => rp_B false))), (q5, .inl (c5, 120, .inr (.inl (fun _ => lN 0)))), (q7, .inl (c7, 640, .inl (fun _ => rp_B false))), (q8, .inl (c8, 640, .inl (fun _ => nI 0))), (q9, .inl (c9, 640, .inl (fun _ => nI 0)))] H := hP
  have hD : va_D A [(h0, .inr (0, [.ref q0, .ref q1, .int (rp_B false), .int (rp_B false), .int (nI 0), .ref q5, .int (nI 0), .ref q7, .ref q8, .ref q9, .null, .int (nI 0), .int (nI 0), .int (nI 0), .int (nI 0), .int (nI 0), .null, .null, .null, .null, .null, .null])), (q0, .inl (c0, 25, .inl (fun _ => nI 0))), (q1, .inl (c1, 25, .inl (fun _ => rp_B false))), (q5, .inl (c5, 120, .inr (.inl (fun _ => lN 0)))), (q7, .inl (c7, 640, .inl (fun _ => rp_B false))), (q8, .inl (c8, 640, .inl (fun _ => nI 0))), (q9, .inl (c9, 640, .inl (fun _ => nI 0)))] := hD
  refine lv_aload_n hx hb dX0_init_55 rfl (lv_at hl 0 rfl) ?_
  refine lv_sipush (v := nI 640) hx hb dX0_init_56 (by decide) ?_
  refine va_newa (atype := .long) (a0 := (640, .inr (.inl (fun _ => lN 0)))) (N' := 640) hx hb (hts _ q91) (ty := .long) rfl hK hP hD hS hA (fun cA => rp_cL cA 640) (by decide) (by decide) (by decide) (Nat.le_of_ble_eq_true rfl) (Nat.le_of_ble_eq_true rfl) dX0_init_59 (fun q10 c10 H hK hP hD hS => ?_)
  have hP : va_P (dC, dI) rp_cl [(h0, .inr (0, [.ref q0, .ref q1, .int (rp_B false), .int (rp_B false), .int (nI 0), .ref q5, .int (nI 0), .ref q7, .ref q8, .ref q9, .null, .int (nI 0), .int (nI 0), .int (nI 0), .int (nI 0), .int (nI 0), .null, .null, .null, .null, .null, .null])), (q0, .inl (c0, 25, .inl (fun _ => nI 0))), (q1, .inl (c1, 25, .inl (fun _ => rp_B false))), (q5, .inl (c5, 120, .inr (.inl (fun _ => lN 0)))), (q7, .inl (c7, 640, .inl (fun _ => rp_B false))), (q8, .inl (c8, 640, .inl (fun _ => nI 0))), (q9, .inl (c9, 640, .inl (fun _ => nI 0))), (q10, .inl (c10, 640, .inr (.inl (fun _ => lN 0))))] H := hP
  have hD : va_D A [(h0, .inr (0, [.ref q0, .ref q1, .int (rp_B false), .int (rp_B false), .int (nI 0), .ref q5, .int (nI 0), .ref q7, .ref q8, .ref q9, .null, .int (nI 0), .int (nI 0), .int (nI 0), .int (nI 0), .int (nI 0), .null, .null, .null, .null, .null, .null])), (q0, .inl (c0, 25, .inl (fun _ => nI 0))), (q1, .inl (c1, 25, .inl (fun _ => rp_B false))), (q5, .inl (c5, 120, .inr (.inl (fun _ => lN 0)))), (q7, .inl (c7, 640, .inl (fun _ => rp_B false))), (q8, .inl (c8, 640, .inl (fun _ => nI 0))), (q9, .inl (c9, 640, .inl (fun _ => nI 0))), (q10, .inl (c10, 640, .inr (.inl (fun _ => lN 0))))] := hD
  have hK : va_K (dC, dI) rp_cl [(c0, .int), (c1, .boolean), (c5, .long), (c7, .boolean), (c8, .int), (c9, .int), (c10, .long)] s := hK
  refine W.widen (k := 7) (n := 2730) (by omega) (by omega) ?_
  refine va_putF (D := (dC, dI)) (ci := 0) (v := .ref q10) (ty := .array .long) (C := RX0) (T := TX0) (N := 22) hx hb hts in_X0 tyX0 tyX0_ok nmX0 hown hK hP hD hS 0 rfl rfl 10 (by decide) (hts _ q32) (fun _ h9 => h9) rfl hin rfl (by decide +kernel) rfl rfl (Nat.le_of_ble_eq_true rfl) dX0_init_61 (fun H locs hP hD hS => ?_)
  have hP : va_P (dC, dI) rp_cl [(h0, .inr (0, [.ref q0, .ref q1, .int (rp_B false), .int (rp_B false), .int (nI 0), .ref q5, .int (nI 0), .ref q7, .ref q8, .ref q9, .ref q10, .int (nI 0), .int (nI 0), .int (nI 0), .int (nI 0), .int (nI 0), .null, .null, .null, .null, .null, .null])), (q0, .inl (c0, 25, .inl (fun _ => nI 0))), (q1, .inl (c1, 25, .inl (fun _ => rp_B false))), (q5, .inl (c5, 120, .inr (.inl (fun _ => lN 0)))), (q7, .inl (c7, 640, .inl (fun _ => rp_B false))), (q8, .inl (c8, 640, .inl (fun _ => nI 0))), (q9, .inl (c9, 640, .inl (fun _ => nI 0))), (q10, .inl (c10, 640, .inr (.inl (fun _ => lN 0))))] H := hP
  have hD : va_D A [(h0, .inr (0, [.ref q0, .ref q1, .int (rp_B false), .int (rp_B false), .int (nI 0), .ref q5, .int (nI 0), .ref q7, .ref q8, .ref q9, .ref q10, .int (nI 0), .int (nI 0), .int (nI 0), .int (nI 0), .int (nI 0), .null, .null, .null, .null, .null, .null])), (q0, .inl (c0, 25, .inl (fun _ => nI 0))), (q1, .inl (c1, 25, .inl (fun _ => rp_B false))), (q5, .inl (c5, 120, .inr (.inl (fun _ => lN 0)))), (q7, .inl (c7, 640, .inl (fun _ => rp_B false))), (q8, .inl (c8, 640, .inl (fun _ => nI 0))), (q9, .inl (c9, 640, .inl (fun _ => nI 0))), (q10, .inl (c10, 640, .inr (.inl (fun _ => lN 0))))] := hD
  refine lv_aload_n hx hb dX0_init_64 rfl (lv_at hl 0 rfl) ?_
  refine lv_bipush (v := nI 6) hx hb dX0_init_65 (by decide) ?_
  refine va_newa (atype := .long) (a0 := (6, .inr (.inl (fun _ => rp_Z 0)))) (N' := 6) hx hb (hts _ q91) (ty := .long) rfl hK hP hD hS hA (fun cA => rp_cZ cA 6) (by decide) (by decide) (by decide) (Nat.le_of_ble_eq_true rfl) (Nat.le_of_ble_eq_true rfl) dX0_init_67 (fun q16 c16 H hK hP hD hS => ?_)
  have hP : va_P (dC, dI) rp_cl [(h0, .inr (0, [.ref q0, .ref q1, .int (rp_B false), .int (rp_B false), .int (nI 0), .ref q5, .int (nI 0), .ref q7, .ref q8, .ref q9, .ref q10, .int (nI 0), .int (nI 0), .int (nI 0), .int (nI 0), .int (nI 0), .null, .null, .null, .null, .null, .null])), (q0, .inl (c0, 25, .inl (fun _ => nI 0))), (q1, .inl (c1, 25, .inl (fun _ => rp_B false))), (q5, .inl (c5, 120, .inr (.inl (fun _ => lN 0)))), (q7, .inl (c7, 640, .inl (fun _ => rp_B false))), (q8, .inl (c8, 640, .inl (fun _ => nI 0))), (q9, .inl (c9, 640, .inl (fun _ => nI 0))), (q10, .inl (c10, 640, .inr (.inl (fun _ => lN 0)))), (q16, .inl (c16, 6, .inr (.inl (fun _ => rp_Z 0))))] H := hP
  have hD : va_D A [(h0, .inr (0, [.ref q0, .ref q1, .int (rp_B false), .int (rp_B false), .int (nI 0), .ref q5, .int (nI 0), .ref q7, .ref q8, .ref q9, .ref q10, .int (nI 0), .int (nI 0), .int (nI 0), .int (nI 0), .int (nI 0), .null, .null, .null, .null, .null, .null])), (q0, .inl (c0, 25, .inl (fun _ => nI 0))), (q1, .inl (c1, 25, .inl (fun _ => rp_B false))), (q5, .inl (c5, 120, .inr (.inl (fun _ => lN 0)))), (q7, .inl (c7, 640, .inl (fun _ => rp_B false))), (q8, .inl (c8, 640, .inl (fun _ => nI 0))), (q9, .inl (c9, 640, .inl (fun _ => nI 0))), (q10, .inl (c10, 640, .inr (.inl (fun _ => lN 0)))), (q16, .inl (c16, 6, .inr (.inl (fun _ => rp_Z 0))))] := hD
  have hK : va_K (dC, dI) rp_cl [(c0, .int), (c1, .boolean), (c5, .long), (c7, .boolean), (c8, .int), (c9, .int), (c10, .long), (c16, .long)] s := hK
  refine W.widen (k := 8) (n := 2736) (by omega) (by omega) ?_
  refine va_putF (D := (dC, dI)) (ci := 0) (v := .ref q16) (ty := .array .long) (C := RX0) (T := TX0) (N := 22) hx hb hts in_X0 tyX0 tyX0_ok nmX0 hown hK hP hD hS 0 rfl rfl 16 (by decide) (hts _ q38) (fun _ h9 => h9) rfl hin rfl (by decide +kernel) rfl rfl (Nat.le_of_ble_eq_true rfl) dX0_init_69 (fun H locs hP hD hS => ?_)
  have hP : va_P (dC, dI) rp_cl [(h0, .inr (0, [.ref q0, .ref q1, .int (rp_B false), .int (rp_B false), .int (nI 0), .ref q5, .int (nI 0), .ref q7, .ref q8, .ref q9, .ref q10, .int (nI 0), .int (nI 0), .int (nI 0), .int (nI 0), .int (nI 0), .ref q16, .null, .null, .null, .null, .null])), (q0, .inl (c0, 25, .inl (fun _ => nI 0))), (q1, .inl (c1, 25, .inl (fun _ => rp_B false))), (q5, .inl (c5, 120, .inr (.inl (fun _ => lN 0)))), (q7, .inl (c7, 640, .inl (fun _ => rp_B false))), (q8, .inl (c8, 640, .inl (fun _ => nI 0))), (q9, .inl (c9, 640, .inl (fun _ => nI 0))), (q10, .inl (c10, 640, .inr (.inl (fun _ => lN 0)))), (q16, .inl (c16, 6, .inr (.inl (fun _ => rp_Z 0))))] H := hP
  have hD : va_D A [(h0, .inr (0, [.ref q0, .ref q1, .int (rp_B false), .int (rp_B false), .int (nI 0), .ref q5, .int (nI 0), .ref q7, .ref q8, .ref q9, .ref q10, .int (nI 0), .int (nI 0), .int (nI 0), .int (nI 0), .int (nI 0), .ref q16, .null, .null, .null, .null, .null])), (q0, .inl (c0, 25, .inl (fun _ => nI 0))), (q1, .inl (c1, 25, .inl (fun _ => rp_B false))), (q5, .inl (c5, 120, .inr (.inl (fun _ => lN 0)))), (q7, .inl (c7, 640, .inl (fun _ => rp_B false))), (q8, .inl (c8, 640, .inl (fun _ => nI 0))), (q9, .inl (c9, 640, .inl (fun _ => nI 0))), (q10, .inl (c10, 640, .inr (.inl (fun _ => lN 0)))), (q16, .inl (c16, 6, .inr (.inl (fun _ => rp_Z 0))))] := hD
  refine lv_aload_n hx hb dX0_init_72 rfl (lv_at hl 0 rfl) ?_
  refine lv_bipush (v := nI 6) hx hb dX0_init_73 (by decide) ?_
  refine va_newa (atype := .long) (a0 := (6, .inr (.inl (fun _ => rp_Z 0)))) (N' := 6) hx hb (hts _ q91) (ty := .long) rfl hK hP hD hS hA (fun cA => rp_cZ cA 6) (by decide) (by decide) (by decide) (Nat.le_of_ble_eq_true rfl) (Nat.le_of_ble_eq_true rfl) dX0_init_75 (fun q17 c17 H hK hP hD hS => ?_)
  have hP : va_P (dC, dI) rp_cl [(h0, .inr (0, [.ref q0, .ref q1, .int (rp_B false), .int (rp_B false), .int (nI 0), .ref q5, .int (nI 0), .ref q7, .ref q8, .ref q9, .ref q10, .int (nI 0), .int (nI 0), .int (nI 0), .int (nI 0), .int (nI 0), .ref q16, .null, .null, .null, .null, .null])), (q0, .inl (c0, 25, .inl (fun _ => nI 0))), (q1, .inl (c1, 25, .inl (fun _ => rp_B false))), (q5, .inl (c5, 120, .inr (.inl (fun _ => lN 0)))), (q7, .inl (c7, 640, .inl (fun _ => rp_B false))), (q8, .inl (c8, 640, .inl (fun _ => nI 0))), (q9, .inl (c9, 640, .inl (fun _ => nI 0))), (q10, .inl (c10, 640, .inr (.inl (fun _ => lN 0)))), (q16, .inl (c16, 6, .inr (.inl (fun _ => rp_Z 0)))), (q17, .inl (c17, 6, .inr (.inl (fun _ => rp_Z 0))))] H := hP
  have hD : va_D A [(h0, .inr (0, [.ref q0, .ref q1, .int (rp_B false), .int (rp_B false), .int (nI 0), .ref q5, .int (nI 0), .ref q7, .ref q8, .ref q9, .ref q10, .int (nI 0), .int (nI 0), .int (nI 0), .int (nI 0), .int (nI 0), .ref q16, .null, .null, .null, .null, .null])), (q0, .inl (c0, 25, .inl (fun _ => nI 0))), (q1, .inl (c1, 25, .inl (fun _ => rp_B false))), (q5, .inl (c5, 120, .inr (.inl (fun _ => lN 0)))), (q7, .inl (c7, 640, .inl (fun _ => rp_B false))), (q8, .inl (c8, 640, .inl (fun _ => nI 0))), (q9, .inl (c9, 640, .inl (fun _ => nI 0))), (q10, .inl (c10, 640, .inr (.inl (fun _ => lN 0)))), (q16, .inl (c16, 6, .inr (.inl (fun _ => rp_Z 0)))), (q17, .inl (c17, 6, .inr (.inl (fun _ => rp_Z 0))))] := hD
  have hK : va_K (dC, dI) rp_cl [(c0, .int), (c1, .boolean), (c5, .long), (c7, .boolean), (c8, .int), (c9, .int), (c10, .long), (c16, .long), (c17, .long)] s := hK
  refine W.widen (k := 9) (n := 2742) (by omega) (by omega) ?_
  refine va_putF (D := (dC, dI)) (ci := 0) (v := .ref q17) (ty := .array .long) (C := RX0) (T := TX0) (N := 22) hx hb hts in_X0 tyX0 tyX0_ok nmX0 hown hK hP hD hS 0 rfl rfl 17 (by decide) (hts _ q39) (fun _ h9 => h9) rfl hin rfl (by decide +kernel) rfl rfl (Nat.le_of_ble_eq_true rfl) dX0_init_77 (fun H locs hP hD hS => ?_)
  have hP : va_P (dC, dI) rp_cl [(h0, .inr (0, [.ref q0, .ref q1, .int (rp_B false), .int (rp_B false), .int (nI 0), .ref q5, .int (nI 0), .ref q7, .ref q8, .ref q9, .ref q10, .int (nI 0), .int (nI 0), .int (nI 0), .int (nI 0), .int (nI 0), .ref q16, .ref q17, .null, .null, .null, .null])), (q0, .inl (c0, 25, .inl (fun _ => nI 0))), (q1, .inl (c1, 25, .inl (fun _ => rp_B false))), (q5, .inl (c5, 120, .inr (.inl (fun _ => lN 0)))), (q7, .inl (c7, 640, .inl (fun _ => rp_B false))), (q8, .inl (c8, 640, .inl (fun _ => nI 0))), (q9, .inl (c9, 640, .inl (fun _ => nI 0))), (q10, .inl (c10, 640, .inr (.inl (fun _ => lN 0)))), (q16, .inl (c16, 6, .inr (.inl (fun _ => rp_Z 0)))), (q17, .inl (c17, 6, .inr (.inl (fun _ => rp_Z 0))))] H := hP
  have hD : va_D A [(h0, .inr (0, [.ref q0, .ref q1, .int (rp_B false), .int (rp_B false), .int (nI 0), .ref q5, .int (nI 0), .ref q7, .ref q8, .ref q9, .ref q10, .int (nI 0), .int (nI 0), .int (nI 0), .int (nI 0), .int (nI 0), .ref q16, .ref q17, .null, .null, .null, .null])), (q0, .inl (c0, 25, .inl (fun _ => nI 0))), (q1, .inl (c1, 25, .inl (fun _ => rp_B false))), (q5, .inl (c5, 120, .inr (.inl (fun _ => lN 0)))), (q7, .inl (c7, 640, .inl (fun _ => rp_B false))), (q8, .inl (c8, 640, .inl (fun _ => nI 0))), (q9, .inl (c9, 640, .inl (fun _ => nI 0))), (q10, .inl (c10, 640, .inr (.inl (fun _ => lN 0)))), (q16, .inl (c16, 6, .inr (.inl (fun _ => rp_Z 0)))), (q17, .inl (c17, 6, .inr (.inl (fun _ => rp_Z 0))))] := hD
  refine lv_aload_n hx hb dX0_init_80 rfl (lv_at hl 0 rfl) ?_
  refine lv_bipush (v := nI 6) hx hb dX0_init_81 (by decide) ?_
  refine va_newa (atype := .int) (a0 := (6, .inl (fun _ => nI 0))) (N' := 6) hx hb (hts _ q89) (ty := .int) rfl hK hP hD hS hA (fun cA => rp_cN cA 6) (by decide) (by decide) (by decide) (Nat.le_of_ble_eq_true rfl) (Nat.le_of_ble_eq_true rfl) dX0_init_83 (fun q18 c18 H hK hP hD hS => ?_)
  have hP : va_P (dC, dI) rp_cl [(h0, .inr (0, [.ref q0, .ref q1, .int (rp_B false), .int (rp_B false), .int (nI 0), .ref q5, .int (nI 0), .ref q7, .ref q8, .ref q9, .ref q10, .int (nI 0), .int (nI 0), .int (nI 0), .int (nI 0), .int (nI 0), .ref q16, .ref q17, .null, .null, .null, .null])), (q0, .inl (c0, 25, .inl (fun _ => nI 0))), (q1, .inl (c1, 25, .inl (fun _ => rp_B false))), (q5, .inl (c5, 120, .inr (.inl (fun _ => lN 0)))), (q7, .inl (c7, 640, .inl (fun _ => rp_B false))), (q8, .inl (c8, 640, .inl (fun _ => nI 0))), (q9, .inl (c9, 640, .inl (fun _ => nI 0))), (q10, .inl (c10, 640, .inr (.inl (fun _ => lN 0)))), (q16, .inl (c16, 6, .inr (.inl (fun _ => rp_Z 0)))), (q17, .inl (c17, 6, .inr (.inl (fun _ => rp_Z 0)))), (q18, .inl (c18, 6, .inl (fun _ => nI 0)))] H := hP
  have hD : va_D A [(h0, .inr (0, [.ref q0, .ref q1, .int (rp_B false), .int (rp_B false), .int (nI 0), .ref q5, .int (nI 0), .ref q7, .ref q8, .ref q9, .ref q10, .int (nI 0), .int (nI 0), .int (nI 0), .int (nI 0), .int (nI 0), .ref q16, .ref q17, .null, .null, .null, .null])), (q0, .inl (c0, 25, .inl (fun _ => nI 0))), (q1, .inl (c1, 25, .inl (fun _ => rp_B false))), (q5, .inl (c5, 120, .inr (.inl (fun _ => lN 0)))), (q7, .inl (c7, 640, .inl (fun _ => rp_B false))), (q8, .inl (c8, 640, .inl (fun _ => nI 0))), (q9, .inl (c9, 640, .inl (fun _ => nI 0))), (q10, .inl (c10, 640, .inr (.inl (fun _ => lN 0)))), (q16, .inl (c16, 6, .inr (.inl (fun _ => rp_Z 0)))), (q17, .inl (c17, 6, .inr (.inl (fun _ => rp_Z 0)))), (q18, .inl (c18, 6, .inl (fun _ => nI 0)))] := hD
  have hK : va_K (dC, dI) rp_cl [(c0, .int), (c1, .boolean), (c5, .long), (c7, .boolean), (c8, .int), (c9, .int), (c10, .long), (c16, .long), (c17, .long), (c18, .int)] s := hK
  refine W.widen (k := 10) (n := 2748) (by omega) (by omega) ?_
  refine va_putF (D := (dC, dI)) (ci := 0) (v := .ref q18) (ty := .array .int) (C := RX0) (T := TX0) (N := 22) hx hb hts in_X0 tyX0 tyX0_ok nmX0 hown hK hP hD hS 0 rfl rfl 18 (by decide) (hts _ q40) (fun _ h9 => h9) rfl hin rfl (by decide +kernel) rfl rfl (Nat.le_of_ble_eq_true rfl) dX0_init_85 (fun H locs hP hD hS => ?_)
  have hP : va_P (dC, dI) rp_cl [(h0, .inr (0, [.ref q0, .ref q1, .int (rp_B false), .int (rp_B false), .int (nI 0), .ref q5, .int (nI 0), .ref q7, .ref q8, .ref q9, .ref q10, .int (nI 0), .int (nI 0), .int (nI 0), .int (nI 0), .int (nI 0), .ref q16, .ref q17, .ref q18, .null, .null, .null])), (q0, .inl (c0, 25, .inl (fun _ => nI 0))), (q1, .inl (c1, 25, .inl (fun _ => rp_B false))), (q5, .inl (c5, 120, .inr (.inl (fun _ => lN 0)))), (q7, .inl (c7, 640, .inl (fun _ => rp_B false))), (q8, .inl (c8, 640, .inl (fun _ => nI 0))), (q9, .inl (c9, 640, .inl (fun _ => nI 0))), (q10, .inl (c10, 640, .inr (.inl (fun _ => lN 0)))), (q16, .inl (c16, 6, .inr (.inl (fun _ => rp_Z 0)))), (q17, .inl (c17, 6, .inr (.inl (fun _ => rp_Z 0)))), (q18, .inl (c18, 6, .inl (fun _ => nI 0)))] H := hP
  have hD : va_D A [(h0, .inr (0, [.ref q0, .ref q1, .int (rp_B false), .int (rp_B false), .int (nI 0), .ref q5, .int (nI 0), .ref q7, .ref q8, .ref q9, .ref q10, .int (nI 0), .int (nI 0), .int (nI 0), .int (nI 0), .int (nI 0), .ref q16, .ref q17, .ref q18, .null, .null, .null])), (q0, .inl (c0, 25, .inl (fun _ => nI 0))), (q1, .inl (c1, 25, .inl (fun _ => rp_B false))), (q5, .inl (c5, 120, .inr (.inl (fun _ => lN 0)))), (q7, .inl (c7, 640, .inl (fun _ => rp_B false))), (q8, .inl (c8, 640, .inl (fun _ => nI 0))), (q9, .inl (c9, 640, .inl (fun _ => nI 0))), (q10, .inl (c10, 640, .inr (.inl (fun _ => lN 0)))), (q16, .inl (c16, 6, .inr (.inl (fun _ => rp_Z 0)))), (q17, .inl (c17, 6, .inr (.inl (fun _ => rp_Z 0)))), (q18, .inl (c18, 6, .inl (fun _ => nI 0)))] := hD
  refine lv_aload_n hx hb dX0_init_88 rfl (lv_at hl 0 rfl) ?_
  refine lv_bipush (v := nI 6) hx hb dX0_init_89 (by decide) ?_
  refine va_newa (atype := .int) (a0 := (6, .inl (fun _ => nI 0))) (N' := 6) hx hb (hts _ q89) (ty := .int) rfl hK hP hD hS hA (fun cA => rp_cN cA 6) (by decide) (by decide) (by decide) (Nat.le_of_ble_eq_true rfl) (Nat.le_of_ble_eq_true rfl) dX0_init_91 (fun q19 c19 H hK hP hD hS => ?_)
  have hP : va_P (dC, dI) rp_cl [(h0, .inr (0, [.ref q0, .ref q1, .int (rp_B false), .int (rp_B false), .int (nI 0), .ref q5, .int (nI 0), .ref q7, .ref q8, .ref q9, .ref q10, .int (nI 0), .int (nI 0), .int (nI 0), .int (nI 0), .int (nI 0), .ref q16, .ref q17, .ref q18, .null, .null, .null])), (q0, .inl (c0, 25, .inl (fun _ => nI 0))), (q1, .inl (c1, 25, .inl (fun _ => rp_B false))), (q5, .inl (c5, 120, .inr (.inl (fun _ => lN 0)))), (q7, .inl (c7, 640, .inl (fun _ => rp_B false))), (q8, .inl (c8, 640, .inl (fun _ => nI 0))), (q9, .inl (c9, 640, .inl (fun _ => nI 0))), (q10, .inl (c10, 640, .inr (.inl (fun _ => lN 0)))), (q16, .inl (c16, 6, .inr (.inl (fun _ => rp_Z 0)))), (q17, .inl (c17, 6, .inr (.inl (fun _ => rp_Z 0)))), (q18, .inl (c18, 6, .inl (fun _ => nI 0))), (q19, .inl (c19, 6, .inl (fun _ => nI 0)))] H := hP
  have hD : va_D A [(h0, .inr (0, [.ref q0, .ref q1, .int (rp_B false), .int (rp_B false), .int (nI 0), .ref q5, .int (nI 0), .ref q7, .ref q8, .ref q9, .ref q10, .int (nI 0), .int (nI 0), .int (nI 0), .int (nI 0), .int (nI 0), .ref q16, .ref q17, .ref q18, .null, .null, .null])), (q0, .inl (c0, 25, .inl (fun _ => nI 0))), (q1, .inl (c1, 25, .inl (fun _ => rp_B false))), (q5, .inl (c5, 120, .inr (.inl (fun _ => lN 0)))), (q7, .inl (c7, 640, .inl (fun _ => rp_B false))), (q8, .inl (c8, 640, .inl (fun _ => nI 0))), (q9, .inl (c9, 640, .inl (fun _ => nI 0))), (q10, .inl (c10, 640, .inr (.inl (fun _ => lN 0)))), (q16, .inl (c16, 6, .inr (.inl (fun _ => rp_Z 0)))), (q17, .inl (c17, 6, .inr (.inl (fun _ => rp_Z 0)))), (q18, .inl (c18, 6, .inl (fun _ => nI 0))), (q19, .inl (c19, 6, .inl (fun _ => nI 0)))] := hD
  have hK : va_K (dC, dI) rp_cl [(c0, .int), (c1, .boolean), (c5, .long), (c7, .boolean), (c8, .int), (c9, .int), (c10, .long), (c16, .long), (c17, .long), (c18, .int), (c19, .int)] s := hK
  refine W.widen (k := 11) (n := 2754) (by omega) (by omega) ?_
  refine va_putF (D := (dC, dI)) (ci := 0) (v := .ref q19) (ty := .array .int) (C := RX0) (T := TX0) (N := 22) hx hb hts in_X0 tyX0 tyX0_ok nmX0 hown hK hP hD hS 0 rfl rfl 19 (by decide) (hts _ q41) (fun _ h9 => h9) rfl hin rfl (by decide +kernel) rfl rfl (Nat.le_of_ble_eq_true rfl) dX0_init_93 (fun H locs hP hD hS => ?_)
  have hP : va_P (dC, dI) rp_cl [(h0, .inr (0, [.ref q0, .ref q1, .int (rp_B false), .int (rp_B false), .int (nI 0), .ref q5, .int (nI 0), .ref q7, .ref q8, .ref q9, .ref q10, .int (nI 0), .int (nI 0), .int (nI 0), .int (nI 0), .int (nI 0), .ref q16, .ref q17, .ref q18, .ref q19, .null, .null])), (q0, .inl (c0, 25, .inl (fun _ => nI 0))), (q1, .inl (c1, 25, .inl (fun _ => rp_B false))), (q5, .inl (c5, 120, .inr (.inl (fun _ => lN 0)))), (q7, .inl (c7, 640, .inl (fun _ => rp_B false))), (q8, .inl (c8, 640, .inl (fun _ => nI 0))), (q9, .inl (c9, 640, .inl (fun _ => nI 0))), (q10, .inl (c10, 640, .inr (.inl (fun _ => lN 0)))), (q16, .inl (c16, 6, .inr (.inl (fun _ => rp_Z 0)))), (q17, .inl (c17, 6, .inr (.inl (fun _ => rp_Z 0)))), (q18, .inl (c18, 6, .inl (fun _ => nI 0))), (q19, .inl (c19, 6, .inl (fun _ => nI 0)))] H := hP
  have hD : va_D A [(h0, .inr (0, [.ref q0, .ref q1, .int (rp_B false), .int (rp_B false), .int (nI 0), .ref q5, .int (nI 0), .ref q7, .ref q8, .ref q9, .ref q10, .int (nI 0), .int (nI 0), .int (nI 0), .int (nI 0), .int (nI 0), .ref q16, .ref q17, .ref q18, .ref q19, .null, .null])), (q0, .inl (c0, 25, .inl (fun _ => nI 0))), (q1, .inl (c1, 25, .inl (fun _ => rp_B false))), (q5, .inl (c5, 120, .inr (.inl (fun _ => lN 0)))), (q7, .inl (c7, 640, .inl (fun _ => rp_B false))), (q8, .inl (c8, 640, .inl (fun _ => nI 0))), (q9, .inl (c9, 640, .inl (fun _ => nI 0))), (q10, .inl (c10, 640, .inr (.inl (fun _ => lN 0)))), (q16, .inl (c16, 6, .inr (.inl (fun _ => rp_Z 0)))), (q17, .inl (c17, 6, .inr (.inl (fun _ => rp_Z 0)))), (q18, .inl (c18, 6, .inl (fun _ => nI 0))), (q19, .inl (c19, 6, .inl (fun _ => nI 0)))] := hD
  refine lv_aload_n hx hb dX0_init_96 rfl (lv_at hl 0 rfl) ?_
  refine lv_bipush (v := nI 6) hx hb dX0_init_97 (by decide) ?_
  refine va_newa (atype := .long) (a0 := (6, .inr (.inl (fun _ => rp_Z 0)))) (N' := 6) hx hb (hts _ q91) (ty := .long) rfl hK hP hD hS hA (fun cA => rp_cZ cA 6) (by decide) (by decide) (by decide) (Nat.le_of_ble_eq_true rfl) (Nat.le_of_ble_eq_true rfl) dX0_init_99 (fun q20 c20 H hK hP hD hS => ?_)
  have hP : va_P (dC, dI) rp_cl [(h0, .inr (0, [.ref q0, .ref q1, .int (rp_B false), .int (rp_B false), .int (nI 0), .ref q5, .int (nI 0), .ref q7, .ref q8, .ref q9, .ref q10, .int (nI 0), .int (nI 0), .int (nI 0), .int (nI 0), .int (nI 0), .ref q16, .ref q17, .ref q18, .ref q19, .null, .null])), (q0, .inl (c0, 25, .inl (fun _ => nI 0))), (q1, .inl (c1, 25, .inl (fun _ => rp_B false))), (q5, .inl (c5, 120, .inr (.inl (fun _ => lN 0)))), (q7, .inl (c7, 640, .inl (fun _ => rp_B false))), (q8, .inl (c8, 640, .inl (fun _ => nI 0))), (q9, .inl (c9, 640, .inl (fun _ => nI 0))), (q10, .inl (c10, 640, .inr (.inl (fun _ => lN 0)))), (q16, .inl (c16, 6, .inr (.inl (fun _ => rp_Z 0)))), (q17, .inl (c17, 6, .inr (.inl (fun _ => rp_Z 0)))), (q18, .inl (c18, 6, .inl (fun _ => nI 0))), (q19, .inl (c19, 6, .inl (fun _ => nI 0))), (q20, .inl (c20, 6, .inr (.inl (fun _ => rp_Z 0))))] H := hP
  have hD : va_D A [(h0, .inr (0, [.ref q0, .ref q1, .int (rp_B false), .int (rp_B false), .int (nI 0), .ref q5, .int (nI 0), .ref q7, .ref q8, .ref q9, .ref q10, .int (nI 0), .int (nI 0), .int (nI 0), .int (nI 0), .int (nI 0), .ref q16, .ref q17, .ref q18, .ref q19, .null, .null])), (q0, .inl (c0, 25, .inl (fun _ => nI 0))), (q1, .inl (c1, 25, .inl (fun _ => rp_B false))), (q5, .inl (c5, 120, .inr (.inl (fun _ => lN 0)))), (q7, .inl (c7, 640, .inl (fun _ => rp_B false))), (q8, .inl (c8, 640, .inl (fun _ => nI 0))), (q9, .inl (c9, 640, .inl (fun _ => nI 0))), (q10, .inl (c10, 640, .inr (.inl (fun _ => lN 0)))), (q16, .inl (c16, 6, .inr (.inl (fun _ => rp_Z 0)))), (q17, .inl (c17, 6, .inr (.inl (fun _ => rp_Z 0)))), (q18, .inl (c18, 6, .inl (fun _ => nI 0))), (q19, .inl (c19, 6, .inl (fun _ => nI 0))), (q20, .inl (c20, 6, .inr (.inl (fun _ => rp_Z 0))))] := hD
  have hK : va_K (dC, dI) rp_cl [(c0, .int), (c1, .boolean), (c5, .long), (c7, .boolean), (c8, .int), (c9, .int), (c10, .long), (c16, .long), (c17, .long), (c18, .int), (c19, .int), (c20, .long)] s := hK
  refine W.widen (k := 12) (n := 2760) (by omega) (by omega) ?_
  refine va_putF (D := (dC, dI)) (ci := 0) (v := .ref q20) (ty := .array .long) (C := RX0) (T := TX0) (N := 22) hx hb hts in_X0 tyX0 tyX0_ok nmX0 hown hK hP hD hS 0 rfl rfl 20 (by decide) (hts _ q42) (fun _ h9 => h9) rfl hin rfl (by decide +kernel) rfl rfl (Nat.le_of_ble_eq_true rfl) dX0_init_101 (fun H locs hP hD hS => ?_)
  have hP : va_P (dC, dI) rp_cl [(h0, .inr (0, [.ref q0, .ref q1, .int (rp_B false), .int (rp_B false), .int (nI 0), .ref q5, .int (nI 0), .ref q7, .ref q8, .ref q9, .ref q10, .int (nI 0), .int (nI 0), .int (nI 0), .int (nI 0), .int (nI 0), .ref q16, .ref q17, .ref q18, .ref q19, .ref q20, .null])), (q0, .inl (c0, 25, .inl (fun _ => nI 0))), (q1, .inl (c1, 25, .inl (fun _ => rp_B false))), (q5, .inl (c5, 120, .inr (.inl (fun _ => lN 0)))), (q7, .inl (c7, 640, .inl (fun _ => rp_B false))), (q8, .inl (c8, 640, .inl (fun _ => nI 0))), (q9, .inl (c9, 640, .inl (fun _ => nI 0))), (q10, .inl (c10, 640, .inr (.inl (fun _ => lN 0)))), (q16, .inl (c16, 6, .inr (.inl (fun _ => rp_Z 0)))), (q17, .inl (c17, 6, .inr (.inl (fun _ => rp_Z 0)))), (q18, .inl (c18, 6, .inl (fun _ => nI 0))), (q19, .inl (c19, 6, .inl (fun _ => nI 0))), (q20, .inl (c20, 6, .inr (.inl (fun _ => rp_Z 0))))] H := hP
  have hD : va_D A [(h0, .inr (0, [.ref q0, .ref q1, .int (rp_B false), .int (rp_B false), .int (nI 0), .ref q5, .int (nI 0), .ref q7, .ref q8, .ref q9, .ref q10, .int (nI 0), .int (nI 0), .int (nI 0), .int (nI 0), .int (nI 0), .ref q16, .ref q17, .ref q18, .ref q19, .ref q20, .null])), (q0, .inl (c0, 25, .inl (fun _ => nI 0))), (q1, .inl (c1, 25, .inl (fun _ => rp_B false))), (q5, .inl (c5, 120, .inr (.inl (fun _ => lN 0)))), (q7, .inl (c7, 640, .inl (fun _ => rp_B false))), (q8, .inl (c8, 640, .inl (fun _ => nI 0))), (q9, .inl (c9, 640, .inl (fun _ => nI 0))), (q10, .inl (c10, 640, .inr (.inl (fun _ => lN 0)))), (q16, .inl (c16, 6, .inr (.inl (fun _ => rp_Z 0)))), (q17, .inl (c17, 6, .inr (.inl (fun _ => rp_Z 0)))), (q18, .inl (c18, 6, .inl (fun _ => nI 0))), (q19, .inl (c19, 6, .inl (fun _ => nI 0))), (q20, .inl (c20, 6, .inr (.inl (fun _ => rp_Z 0))))] := hD
  refine lv_aload_n hx hb dX0_init_104 rfl (lv_at hl 0 rfl) ?_
  refine lv_bipush (v := nI 6) hx hb dX0_init_105 (by decide) ?_
  refine va_newa (atype := .boolean) (a0 := (6, .inl (fun _ => rp_B false))) (N' := 6) hx hb (hts _ q90) (ty := .boolean) rfl hK hP hD hS hA (fun cA => rp_cB cA 6) (by decide) (by decide) (by decide) (Nat.le_of_ble_eq_true rfl) (Nat.le_of_ble_eq_true rfl) dX0_init_107 (fun q21 c21 H hK hP hD hS => ?_)
  have hP : va_P (dC, dI) rp_cl [(h0, .inr (0, [.ref q0, .ref q1, .int (rp_B false), .int (rp_B false), .int (nI 0), .ref q5, .int (nI 0), .ref q7, .ref q8, .ref q9, .ref q10, .int (nI 0), .int (nI 0), .int (nI 0), .int (nI 0), .int (nI 0), .ref q16, .ref q17, .ref q18, .ref q19, .ref q20, .null])), (q0, .inl (c0, 25, .inl (fun _ => nI 0))), (q1, .inl (c1, 25, .inl (fun _ => rp_B false))), (q5, .inl (c5, 120, .inr (.inl (fun _ => lN 0)))), (q7, .inl (c7, 640, .inl (fun _ => rp_B false))), (q8, .inl (c8, 640, .inl (fun _ => nI 0))), (q9, .inl (c9, 640, .inl (fun _ => nI 0))), (q10, .inl (c10, 640, .inr (.inl (fun _ => lN 0)))), (q16, .inl (c16, 6, .inr (.inl (fun _ => rp_Z 0)))), (q17, .inl (c17, 6, .inr (.inl (fun _ => rp_Z 0)))), (q18, .inl (c18, 6, .inl (fun _ => nI 0))), (q19, .inl (c19, 6, .inl (fun _ => nI 0))), (q20, .inl (c20, 6, .inr (.inl (fun _ => rp_Z 0)))), (q21, .inl (c21, 6, .inl (fun _ => rp_B false)))] H := hP
  have hD : va_D A [(h0, .inr (0, [.ref q0, .ref q1, .int (rp_B false), .int (rp_B false), .int (nI 0), .ref q5, .int (nI 0), .ref q7, .ref q8, .ref q9, .ref q10, .int (nI 0), .int (nI 0), .int (nI 0), .int (nI 0), .int (nI 0), .ref q16, .ref q17, .ref q18, .ref q19, .ref q20, .null])), (q0, .inl (c0, 25, .inl (fun _ => nI 0))), (q1, .inl (c1, 25, .inl (fun _ => rp_B false))), (q5, .inl (c5, 120, .inr (.inl (fun _ => lN 0)))), (q7, .inl (c7, 640, .inl (fun _ => rp_B false))), (q8, .inl (c8, 640, .inl (fun _ => nI 0))), (q9, .inl (c9, 640, .inl (fun _ => nI 0))), (q10, .inl (c10, 640, .inr (.inl (fun _ => lN 0)))), (q16, .inl (c16, 6, .inr (.inl (fun _ => rp_Z 0)))), (q17, .inl (c17, 6, .inr (.inl (fun _ => rp_Z 0)))), (q18, .inl (c18, 6, .inl (fun _ => nI 0))), (q19, .inl (c19, 6, .inl (fun _ => nI 0))), (q20, .inl (c20, 6, .inr (.inl (fun _ => rp_Z 0)))), (q21, .inl (c21, 6, .inl (fun _ => rp_B false)))] := hD
  have hK : va_K (dC, dI) rp_cl [(c0, .int), (c1, .boolean), (c5, .long), (c7, .boolean), (c8, .int), (c9, .int), (c10, .long), (c16, .long), (c17, .long), (c18, .int), (c19, .int), (c20, .long), (c21, .boolean)] s := hK
  refine W.widen (k := 13) (n := 2766) (by omega) (by omega) ?_
  refine va_putF (D := (dC, dI)) (ci := 0) (v := .ref q21) (ty := .array .boolean) (C := RX0) (T := TX0) (N := 22) hx hb hts in_X0 tyX0 tyX0_ok nmX0 hown hK hP hD hS 0 rfl rfl 21 (by decide) (hts _ q43) (fun _ h9 => h9) rfl hin rfl (by decide +kernel) rfl rfl (Nat.le_of_ble_eq_true rfl) dX0_init_109 (fun H locs hP hD hS => ?_)
  have hP : va_P (dC, dI) rp_cl [(h0, .inr (0, [.ref q0, .ref q1, .int (rp_B false), .int (rp_B false), .int (nI 0), .ref q5, .int (nI 0), .ref q7, .ref q8, .ref q9, .ref q10, .int (nI 0), .int (nI 0), .int (nI 0), .int (nI 0), .int (nI 0), .ref q16, .ref q17, .ref q18, .ref q19, .ref q20, .ref q21])), (q0, .inl (c0, 25, .inl (fun _ => nI 0))), (q1, .inl (c1, 25, .inl (fun _ => rp_B false))), (q5, .inl (c5, 120, .inr (.inl (fun _ => lN 0)))), (q7, .inl (c7, 640, .inl (fun _ => rp_B false))), (q8, .inl (c8, 640, .inl (fun _ => nI 0))), (q9, .inl (c9, 640, .inl (fun _ => nI 0))), (q10, .inl (c10, 640, .inr (.inl (fun _ => lN 0)))), (q16, .inl (c16, 6, .inr (.inl (fun _ => rp_Z 0)))), (q17, .inl (c17, 6, .inr (.inl (fun _ => rp_Z 0)))), (q18, .inl (c18, 6, .inl (fun _ => nI 0))), (q19, .inl (c19, 6, .inl (fun _ => nI 0))), (q20, .inl (c20, 6, .inr (.inl (fun _ => rp_Z 0)))), (q21, .inl (c21, 6, .inl (fun _ => rp_B false)))] H := hP
  have hD : va_D A [(h0, .inr (0, [.ref q0, .ref q1, .int (rp_B false), .int (rp_B false), .int (nI 0), .ref q5, .int (nI 0), .ref q7, .ref q8, .ref q9, .ref q10, .int (nI 0), .int (nI 0), .int (nI 0), .int (nI 0), .int (nI 0), .ref q16, .ref q17, .ref q18, .ref q19, .ref q20, .ref q21])), (q0, .inl (c0, 25, .inl (fun _ => nI 0))), (q1, .inl (c1, 25, .inl (fun _ => rp_B false))), (q5, .inl (c5, 120, .inr (.inl (fun _ => lN 0)))), (q7, .inl (c7, 640, .inl (fun _ => rp_B false))), (q8, .inl (c8, 640, .inl (fun _ => nI 0))), (q9, .inl (c9, 640, .inl (fun _ => nI 0))), (q10, .inl (c10, 640, .inr (.inl (fun _ => lN 0)))), (q16, .inl (c16, 6, .inr (.inl (fun _ => rp_Z 0)))), (q17, .inl (c17, 6, .inr (.inl (fun _ => rp_Z 0)))), (q18, .inl (c18, 6, .inl (fun _ => nI 0))), (q19, .inl (c19, 6, .inl (fun _ => nI 0))), (q20, .inl (c20, 6, .inr (.inl (fun _ => rp_Z 0)))), (q21, .inl (c21, 6, .inl (fun _ => rp_B false)))] := hD
  refine lv_aload_n hx hb dX0_init_112 rfl (lv_at hl 0 rfl) ?_
  refine lv_iconst (v := rp_P 5) hx hb dX0_init_113 (by decide) ?_
  refine va_put (D := (dC, dI)) (ci := 0) (v := .int (rp_P 5)) (ty := .int) (C := RX0) (T := TX0) (N := 22) hx hb hts in_X0 tyX0 tyX0_ok nmX0 hown hK hP hD hS 0 rfl rfl 14 (by decide) (hts _ q36) (fun _ h9 => h9) rfl (by decide +kernel) rfl rfl (Nat.le_of_ble_eq_true rfl) dX0_init_114 (fun H locs hP hD hS => ?_)
  have hP : va_P (dC, dI) rp_cl [(h0, .inr (0, [.ref q0, .ref q1, .int (rp_B false), .int (rp_B false), .int (nI 0), .ref q5, .int (nI 0), .ref q7, .ref q8, .ref q9, .ref q10, .int (nI 0), .int (nI 0), .int (nI 0), .int (rp_P 5), .int (nI 0), .ref q16, .ref q17, .ref q18, .ref q19, .ref q20, .ref q21])), (q0, .inl (c0, 25, .inl (fun _ => nI 0))), (q1, .inl (c1, 25, .inl (fun _ => rp_B false))), (q5, .inl (c5, 120, .inr (.inl (fun _ => lN 0)))), (q7, .inl (c7, 640, .inl (fun _ => rp_B false))), (q8, .inl (c8, 640, .inl (fun _ => nI 0))), (q9, .inl (c9, 640, .inl (fun _ => nI 0))), (q10, .inl (c10, 640, .inr (.inl (fun _ => lN 0)))), (q16, .inl (c16, 6, .inr (.inl (fun _ => rp_Z 0)))), (q17, .inl (c17, 6, .inr (.inl (fun _ => rp_Z 0)))), (q18, .inl (c18, 6, .inl (fun _ => nI 0))), (q19, .inl (c19, 6, .inl (fun _ => nI 0))), (q20, .inl (c20, 6, .inr (.inl (fun _ => rp_Z 0)))), (q21, .inl (c21, 6, .inl (fun _ => rp_B false)))] H := hP
  have hD : va_D A [(h0, .inr (0, [.ref q0, .ref q1, .int (rp_B false), .int (rp_B false), .int (nI 0), .ref q5, .int (nI 0), .ref q7, .ref q8, .ref q9, .ref q10, .int (nI 0), .int (nI 0), .int (nI 0), .int (rp_P 5), .int (nI 0), .ref q16, .ref q17, .ref q18, .ref q19, .ref q20, .ref q21])), (q0, .inl (c0, 25, .inl (fun _ => nI 0))), (q1, .inl (c1, 25, .inl (fun _ => rp_B false))), (q5, .inl (c5, 120, .inr (.inl (fun _ => lN 0)))), (q7, .inl (c7, 640, .inl (fun _ => rp_B false))), (q8, .inl (c8, 640, .inl (fun _ => nI 0))), (q9, .inl (c9, 640, .inl (fun _ => nI 0))), (q10, .inl (c10, 640, .inr (.inl (fun _ => lN 0)))), (q16, .inl (c16, 6, .inr (.inl (fun _ => rp_Z 0)))), (q17, .inl (c17, 6, .inr (.inl (fun _ => rp_Z 0)))), (q18, .inl (c18, 6, .inl (fun _ => nI 0))), (q19, .inl (c19, 6, .inl (fun _ => nI 0))), (q20, .inl (c20, 6, .inr (.inl (fun _ => rp_Z 0)))), (q21, .inl (c21, 6, .inl (fun _ => rp_B false)))] := hD
  exact W.vret hx hb hr (fun t ht hW => ⟨⟨((fun k => match k with | 0 => q0 | 1 => q1 | 5 => q5 | 7 => q7 | 8 => q8 | 9 => q9 | 10 => q10 | 16 => q16 | 17 => q17 | 18 => q18 | 19 => q19 | 20 => q20 | _ => q21), (fun k => match k with | 0 => c0 | 1 => c1 | 5 => c5 | 7 => c7 | 8 => c8 | 9 => c9 | 10 => c10 | 16 => c16 | 17 => c17 | 18 => c18 | 19 => c19 | 20 => c20 | _ => c21)), rfl, trivial, by rw [ht]; exact hP, va_K.moved hW.alike hK, hD⟩, hS.F ht⟩) hS.2.2 dX0_init_117
abbrev rp_w1 (h1 : Nat) : va_W := [(h1, .inr (1, [.null, .int (nI 0), .null, .null]))]
set_option maxHeartbeats 4000000 in
/-- the constructor: its arrays, all empty -/
theorem metX1_init (l : Launch) (dC : Nat → ClassId) (dI : Nat → Nat → Nat) (h1 sz : Nat) : Met l yX1_init (ws_ yX1_init cX1_init 1 none) { frames := 1, cells := 3, slots := 265, locals := 12 } (rp_Pc dC dI [.ref h1] sz (rp_w1 h1) []) (va_Qv (fun (_ : (Nat → Nat) × (Nat → ClassId)) => True) (fun z t => rp_Bc dC dI (va_A (rp_w1 h1) sz) (rp_mw h1 z.1 z.2 (fun _ => 0) (fun _ => false) 0 (fun _ => 0) (fun _ => 0)) (rp_mk z.2) t) (va_A (rp_w1 h1) sz)) 3 265 (va_A (rp_w1 h1) sz) := by
  refine Met.ofW (cc := cX1_init) (maxL := 1) (ret := none) (by decide) rfl ?_
  intro p e s m args below meth c s₁ B hml hv
  obtain ⟨rfl, hsz, hP, hK, hD0⟩ := hv
  have hx := B.exec
  have hb := B.bytes
  have hr := B.returns
  have hts := atoms_spec (ws := (ws_ yX1_init cX1_init 1 none)) B.pre
  have hts : ∀ w ∈ lw_all, w.before _ s = true := fun w h => hts w (List.mem_cons_of_mem _ h)
  have hown : s.vm.findClass RX1 = some m.cls := findClass_of_methodNamed B.named
  have hlocks := B.notSynchronized
  have hin : meth.name = "<init>" := (name_of_methodNamed B.named B.method).1
  subst hsz
  have hD := hD0.self (sz := s.heap.size)
  generalize hAe : va_A (rp_w1 h1) s.heap.size = A at hD ⊢
  have hA : ∀ q : Nat, s.heap.size ≤ q → A q := fun q h => by rw [← hAe]; exact Or.inr h
  have hS : va_S A s.heap s.heap [] := va_S.rf
  have hP : va_P (dC, dI) rp_cl [(h1, .inr (1, [.null, .int (nI 0), .null, .null]))] s.heap := hP
  have hl := lv_entry ([.ref h1]) (n := 1) (Nat.le_of_ble_eq_true rfl)
  rw [lg_entry_eq]
  generalize (lg_sl ([.ref h1]) ++ List.replicate (1 - (lg_sl ([.ref h1])).length) Slot.unset).toArray = ls at hl ⊢
  have hl : lv_has ls 1 [(0, .ref h1)] := hl
  refine lv_aload_n hx hb dX1_init_0 rfl (lv_at hl 0 rfl) ?_
  refine W.objInit hx hb hown (hts _ q181) (hts _ q20) (hts _ q21) rfl (by rw [hml]; exact hl.1) rfl dX1_init_1 (Nat.le_of_ble_eq_true rfl) (Nat.le_of_ble_eq_true rfl) ?_
  refine W.eq (g2 := F0 m 4 ls []) rfl ?_
  refine lv_aload_n hx hb dX1_init_4 rfl (lv_at hl 0 rfl) ?_
  refine lv_bipush (v := nI 25) hx hb dX1_init_5 (by decide) ?_
  refine va_newa (atype := .int) (a0 := (25, .inl (fun j => rp_M (fun _ => 0) (fun _ => false) j))) (N' := 25) hx hb (hts _ q89) (ty := .int) rfl hK hP hD hS hA (fun cA => rp_cM cA 25) (by decide) (by decide) (by decide) (Nat.le_of_ble_eq_true rfl) (Nat.le_of_ble_eq_true rfl) dX1_init_7 (fun q0 c0 H hK hP hD hS => ?_)
  have hP : va_P (dC, dI) rp_cl [(h1, .inr (1, [.null, .int (nI 0), .null, .null])), (q0, .inl (c0, 25, .inl (fun j => rp_M (fun _ => 0) (fun _ => false) j)))] H := hP
  have hD : va_D A [(h1, .inr (1, [.null, .int (nI 0), .null, .null])), (q0, .inl (c0, 25, .inl (fun j => rp_M (fun _ => 0) (fun _ => false) j)))] := hD
  have hK : va_K (dC, dI) rp_cl [(c0, .int)] s := hK
  refine W.widen (k := 1) (n := 25) (by omega) (by omega) ?_
  refine va_putF (D := (dC, dI)) (ci := 1) (v := .ref q0) (ty := .array .int) (C := RX1) (T := TX1) (N := 4) hx hb hts in_X1 tyX1 tyX1_ok nmX1 hown hK hP hD hS 0 rfl rfl 0 (by decide) (hts _ q182) (fun _ h9 => h9) rfl hin rfl (by decide +kernel) rfl rfl (Nat.le_of_ble_eq_true rfl) dX1_init_9 (fun H locs hP hD hS => ?_)
  have hP : va_P (dC, dI) rp_cl [(h1, .inr (1, [.ref q0, .int (nI 0), .null, .null])), (q0, .inl (c0, 25, .inl (fun j => rp_M (fun _ => 0) (fun _ => false) j)))] H := hP
  have hD : va_D A [(h1, .inr (1, [.ref q0, .int (nI 0), .null, .null])), (q0, .inl (c0, 25, .inl (fun j => rp_M (fun _ => 0) (fun _ => false) j)))] := hD
  refine lv_aload_n hx hb dX1_init_12 rfl (lv_at hl 0 rfl) ?_
  refine lv_bipush (v := nI 120) hx hb dX1_init_13 (by decide) ?_
  refine va_newa (atype := .int) (a0 := (120, .inl (fun _ => nI 0))) (N' := 120) hx hb (hts _ q89) (ty := .int) rfl hK hP hD hS hA (fun cA => rp_cN cA 120) (by decide) (by decide) (by decide) (Nat.le_of_ble_eq_true rfl) (Nat.le_of_ble_eq_true rfl) dX1_init_15 (fun q2 c2 H hK hP hD hS => ?_)
  have hP : va_P (dC, dI) rp_cl [(h1, .inr (1, [.ref q0, .int (nI 0), .null, .null])), (q0, .inl (c0, 25, .inl (fun j => rp_M (fun _ => 0) (fun _ => false) j))), (q2, .inl (c2, 120, .inl (fun _ => nI 0)))] H := hP
  have hD : va_D A [(h1, .inr (1, [.ref q0, .int (nI 0), .null, .null])), (q0, .inl (c0, 25, .inl (fun j => rp_M (fun _ => 0) (fun _ => false) j))), (q2, .inl (c2, 120, .inl (fun _ => nI 0)))] := hD
  have hK : va_K (dC, dI) rp_cl [(c0, .int), (c2, .int)] s := hK
  refine W.widen (k := 2) (n := 145) (by omega) (by omega) ?_
  refine va_putF (D := (dC, dI)) (ci := 1) (v := .ref q2) (ty := .array .int) (C := RX1) (T := TX1) (N := 4) hx hb hts in_X1 tyX1 tyX1_ok nmX1 hown hK hP hD hS 0 rfl rfl 2 (by decide) (hts _ q184) (fun _ h9 => h9) rfl hin rfl (by decide +kernel) rfl rfl (Nat.le_of_ble_eq_true rfl) dX1_init_17 (fun H locs hP hD hS => ?_)
  have hP : va_P (dC, dI) rp_cl [(h1, .inr (1, [.ref q0, .int (nI 0), .ref q2, .null])), (q0, .inl (c0, 25, .inl (fun j => rp_M (fun _ => 0) (fun _ => false) j))), (q2, .inl (c2, 120, .inl (fun _ => nI 0)))] H := hP
  have hD : va_D A [(h1, .inr (1, [.ref q0, .int (nI 0), .ref q2, .null])), (q0, .inl (c0, 25, .inl (fun j => rp_M (fun _ => 0) (fun _ => false) j))), (q2, .inl (c2, 120, .inl (fun _ => nI 0)))] := hD
  refine lv_aload_n hx hb dX1_init_20 rfl (lv_at hl 0 rfl) ?_
  refine lv_bipush (v := nI 120) hx hb dX1_init_21 (by decide) ?_
  refine va_newa (atype := .int) (a0 := (120, .inl (fun _ => nI 0))) (N' := 120) hx hb (hts _ q89) (ty := .int) rfl hK hP hD hS hA (fun cA => rp_cN cA 120) (by decide) (by decide) (by decide) (Nat.le_of_ble_eq_true rfl) (Nat.le_of_ble_eq_true rfl) dX1_init_23 (fun q3 c3 H hK hP hD hS => ?_)
  have hP : va_P (dC, dI) rp_cl [(h1, .inr (1, [.ref q0, .int (nI 0), .ref q2, .null])), (q0, .inl (c0, 25, .inl (fun j => rp_M (fun _ => 0) (fun _ => false) j))), (q2, .inl (c2, 120, .inl (fun _ => nI 0))), (q3, .inl (c3, 120, .inl (fun _ => nI 0)))] H := hP
  have hD : va_D A [(h1, .inr (1, [.ref q0, .int (nI 0), .ref q2, .null])), (q0, .inl (c0, 25, .inl (fun j => rp_M (fun _ => 0) (fun _ => false) j))), (q2, .inl (c2, 120, .inl (fun _ => nI 0))), (q3, .inl (c3, 120, .inl (fun _ => nI 0)))] := hD
  have hK : va_K (dC, dI) rp_cl [(c0, .int), (c2, .int), (c3, .int)] s := hK
  refine W.widen (k := 3) (n := 265) (by omega) (by omega) ?_
  refine va_putF (D := (dC, dI)) (ci := 1) (v := .ref q3) (ty := .array .int) (C := RX1) (T := TX1) (N := 4) hx hb hts in_X1 tyX1 tyX1_ok nmX1 hown hK hP hD hS 0 rfl rfl 3 (by decide) (hts _ q185) (fun _ h9 => h9) rfl hin rfl (by decide +kernel) rfl rfl (Nat.le_of_ble_eq_true rfl) dX1_init_25 (fun H locs hP hD hS => ?_)
  have hP : va_P (dC, dI) rp_cl [(h1, .inr (1, [.ref q0, .int (nI 0), .ref q2, .ref q3])), (q0, .inl (c0, 25, .inl (fun j => rp_M (fun _ => 0) (fun _ => false) j))), (q2, .inl (c2, 120, .inl (fun _ => nI 0))), (q3, .inl (c3, 120, .inl (fun _ => nI 0)))] H := hP
  have hD : va_D A [(h1, .inr (1, [.ref q0, .int (nI 0), .ref q2, .ref q3])), (q0, .inl (c0, 25, .inl (fun j => rp_M (fun _ => 0) (fun _ => false) j))), (q2, .inl (c2, 120, .inl (fun _ => nI 0))), (q3, .inl (c3, 120, .inl (fun _ => nI 0)))] := hD
  exact W.vret hx hb hr (fun t ht hW => ⟨⟨((fun k => match k with | 0 => q0 | 2 => q2 | _ => q3), (fun k => match k with | 0 => c0 | 2 => c2 | _ => c3)), rfl, trivial, by rw [ht]; exact hP, va_K.moved hW.alike hK, hD⟩, hS.F ht⟩) hS.2.2 dX1_init_28
end
section
/-! for the law: its script, its loop's bound, what price and bar leave -/
set_option maxRecDepth 100000
section RPY
variable {p : Program} {l : Launch} {e : Env} {R : Room} {s : State} {m : MethodId} {args : Array Value} {below : List Frame} {meth : Method} {c : Code} {H : Heap} {locs : List Loc} {cells slots : Nat} {Q : State → Prop}
variable {cc : ByteArray} {pc : Nat} {ls : Array Slot} {rest : List Value} {A : Nat → Prop} {H0 : Heap}
theorem rp_sld (hexec : p.tables.exec = Jvm.exec) (hb : c.code = cc) {b L : Nat} {xs : Nat → Int32} (hX : va_X b L xs s H0) (hbl : b < H0.size) (hbA : ¬ A b) (hS : va_S A H0 H locs) {i : Nat} (hi : i < L) (hL : L ≤ 256) (hdg : decode cc pc = .ok (.iaload, 1))
    (kk : W p l e R s m args below meth c H locs cells slots Q (F0 m (pc + 1) ls (.int (xs i) :: rest))) : W p l e R s m args below meth c H locs cells slots Q (F0 m pc ls (.int (nI i) :: .ref b :: rest)) := by
  refine va_sld hexec hb hX hbl hbA hS (vp_in_nI hi (by omega)) hdg ?_
  rw [nI_clamp (by omega)]
  exact kk
end RPY
theorem rp_i4 {L i : Nat} (hL : L ≤ 256) (hi : i ≤ 260) (h : ¬ nI L - nI 4 < nI i) : i + 4 ≤ L := by
  rw [Int32.lt_iff_toInt_lt, pk_sub_toInt (by omega) (by omega), nI_toInt (by omega)] at h
  omega
theorem rp_SL_eq {pr : Nat → Nat} {ba : Nat → Bool} : rp_SN pr ba 3125 = rp_SL pr ba := rfl
theorem rp_npr_lt {pr : Nat → Nat} {w t p : Int32} (hpr : ∀ j, j < 25 → pr j < 100) : ∀ j, j < 25 → rp_npr pr w t p j < 100 := by
  intro j hj
  unfold rp_npr
  split
  · rename_i hv
    unfold rp_vp at hv
    simp only [Bool.and_eq_true, decide_eq_true_eq] at hv
    rcases Nat.decEq j (rp_ix w t) with q | q
    · rw [rp_un _ _ q]; exact hpr j hj
    · rw [q, rp_us]; omega
  · exact hpr j hj
theorem rp_XJ_price {pr : Nat → Nat} {ba : Nat → Bool} {st en z : Bool} {fo : Nat} {pl : Nat → Nat} {pa : Nat} {wa : Nat → Bool} {fx wo ch : Nat → Nat} {w t p : Int32} (h : rp_XJ pr ba (rp_SL pr ba) st en fo pl pa wa fx wo ch) (hz : z = false ∨ z = st ∧ rp_vp w t p = false) : rp_XJ (rp_npr pr w t p) (rp_nba ba w t p) (rp_SL (rp_npr pr w t p) (rp_nba ba w t p)) z en fo pl pa wa fx wo ch := by
  rcases hz with e | ⟨e, hv⟩
  · intro q; rw [e] at q; cases q
  · have e1 : rp_npr pr w t p = pr := by unfold rp_npr; rw [hv]; rfl
    have e2 : rp_nba ba w t p = ba := by unfold rp_nba; rw [hv]; rfl
    rw [e, e1, e2]; exact h
theorem rp_XJ_bar {pr : Nat → Nat} {ba : Nat → Bool} {st en z : Bool} {fo : Nat} {pl : Nat → Nat} {pa : Nat} {wa : Nat → Bool} {fx wo ch : Nat → Nat} {w t : Int32} (h : rp_XJ pr ba (rp_SL pr ba) st en fo pl pa wa fx wo ch) (hz : z = false ∨ z = st ∧ (rp_ir w && rp_ir t) = false) : rp_XJ pr (rp_nbb ba w t) (rp_SL pr (rp_nbb ba w t)) z en fo pl pa wa fx wo ch := by
  rcases hz with e | ⟨e, hv⟩
  · intro q; rw [e] at q; cases q
  · have e2 : rp_nbb ba w t = ba := by unfold rp_nbb; rw [hv]; rfl
    rw [e, e2]; exact h
theorem rp_fs0 : ∀ j, j < 22 → defaultValue (tyX0 j) = vp_V [.null, .null, .int (rp_B false), .int (rp_B false), .int (nI 0), .null, .int (nI 0), .null, .null, .null, .null, .int (nI 0), .int (nI 0), .int (nI 0), .int (nI 0), .int (nI 0), .null, .null, .null, .null, .null, .null] j := by
  intro j hj
  rcases (show j = 0 ∨ j = 1 ∨ j = 2 ∨ j = 3 ∨ j = 4 ∨ j = 5 ∨ j = 6 ∨ j = 7 ∨ j = 8 ∨ j = 9 ∨ j = 10 ∨ j = 11 ∨ j = 12 ∨ j = 13 ∨ j = 14 ∨ j = 15 ∨ j = 16 ∨ j = 17 ∨ j = 18 ∨ j = 19 ∨ j = 20 ∨ j = 21 by omega) with rfl | rfl | rfl | rfl | rfl | rfl | rfl | rfl | rfl | rfl | rfl | rfl | rfl | rfl | rfl | rfl | rfl | rfl | rfl | rfl | rfl | rfl <;> rfl
theorem rp_fs1 : ∀ j, j < 4 → defaultValue (tyX1 j) = vp_V [.null, .int (nI 0), .null, .null] j := by
  intro j hj
  rcases (show j = 0 ∨ j = 1 ∨ j = 2 ∨ j = 3 by omega) with rfl | rfl | rfl | rfl <;> rfl
end
section
/-! the law's loop (the head is the skeleton's) -/
set_option maxRecDepth 100000
/-! THE CLAIM OUT OF ONE WALK OF THE LAW'S BODY. Your part is whole_start (and what it stands on); all else here is the same for every law, but numbers. -/
def R_law : String := "RankedPairsLaw"
def lw_P (b : Addr) (xs : List Int32) (args : Array Value) (s : State) : Prop := args = #[.ref b] ∧ s.IntsAt b xs ∧ xs.length ≤ 256 ∧ (Jvm.Cond.and given_1 narrow_1).before args s = true
def lw_Q (_ : Array Value) (s : State) (o : Outcome) (t : State) : Prop := o = .returned (some (.int 1)) ∧ Framed s o t [] 600000 7290000
def lw_Z (below : List Frame) (a : Array Value) (s : State) : State → Prop := fun t => ∃ o, t.status = .running ∧ Ended t below o ∧ lw_Q a s o t
/-- the law's own end, with 1 on the stack, nothing written that was there before, its room as the claim has it -/
theorem lw_ret {p : Program} {l : Launch} {e : Env} {s : State} {m : MethodId} {below : List Frame} {meth : Method} {c : Code} {b : Nat} (hx : p.tables.exec = Jvm.exec) (hb : c.code = code) (hr : meth.sig.returnType = ret) (hlocks : meth.locks = false) {pc : Nat} {H : Heap} {ls : Array Slot} (hdg : decode code pc = .ok (.ireturn, 1)) : W p l e room_1 s m #[Value.ref b] below meth c H [] 600000 7290000 (lw_Z below #[Value.ref b] s) (F0 m pc ls [.int 1]) := by
  intro T hT X
  obtain ⟨fs, hret, hrun, hended, hW, hframe⟩ := X.leave (v := some (.int 1)) (hlocks := hlocks) (fun h => by rw [hr] at h; cases h)
  have hmeth' : T.vm.method? m = some meth := X.method'
  refine ⟨T.setFrames fs, ?_, .returned (some (.int 1)), hrun, hended, rfl, ⟨_, rfl⟩, hW, hframe⟩
  jvm_step X.here [X.here.top, hx, hb, hdg, hmeth', hr, ret, narrow_b1]
  (try refine ⟨rfl, ?_⟩); (try refine ⟨rfl, ?_⟩)
  first | (intro acts; rw [hret _ acts rfl rfl rfl]) | rw [hret _ _ rfl rfl rfl]
  exact Steps.refl _
/-- what holds at the law's entry: the machine, the code, the tables' words (any of lw_tbl by 'hts w (by decide +kernel)'), the script of L ints xs at the cell b, what the Statement gives of the start (any of its parts by flat_of_before) -/
def lw_At (p : Program) (s : State) (m : MethodId) (meth : Method) (c : Code) (b L : Nat) (xs : Nat → Int32) : Prop :=
  p.tables.exec = Jvm.exec ∧ c.code = code ∧ meth.sig.returnType = ret ∧ c.maxLocals = 4 ∧ s.vm.findClass R_law = some m.cls ∧ (∀ w ∈ lw_tbl, w.before #[Value.ref b] s = true) ∧ va_X b L xs s s.heap ∧ b < s.heap.size ∧ meth.locks = false ∧ (Jvm.Cond.and given_1 narrow_1).before #[Value.ref b] s = true
set_option maxHeartbeats 8000000 in
/-- the law's loop: i ints read, both classes hold the same prices -/
theorem rp_loop {p : Program} {l : Launch} {e : Env} {s : State} {m : MethodId} {below : List Frame} {meth : Method} {c : Code} {dC : Nat → ClassId} {dI : Nat → Nat → Nat} {b L : Nat} {xs : Nat → Int32} {h0 h1 : Nat} {ad ae : Nat → Nat} {dA dE : Nat → ClassId} (hL : L ≤ 256) (C0 : lw_At p s m meth c b L xs) (hKx : va_K (dC, dI) rp_cl (rp_xk dA) s) (hKm : va_K (dC, dI) rp_cl (rp_mk dE) s) :
  ∀ (n i : Nat) (pr : Nat → Nat) (ba : Nat → Bool) (st : Bool) (en : Bool) (fo : Nat) (pl : Nat → Nat) (pa : Nat) (wa : Nat → Bool) (fx : Nat → Nat) (wo : Nat → Nat) (ch : Nat → Nat) (fw : Nat) (wt : Nat) (fp : Nat) (pt : Nat) (u : Nat → Int) (v : Nat → Int) (ho : Nat → Nat) (be : Nat → Nat) (sl : Nat → Int) (se : Nat → Bool) (cn : Nat) (nu : Nat → Nat) (co : Nat → Nat), L + 1 - i < n → i ≤ 260 → (∀ j, j < 25 → pr j < 100) → (rp_XJ pr ba (rp_SL pr ba) st en fo pl pa wa fx wo ch) → (pt < 5) → ∀ (H : Heap) (locs : List Loc), va_P (dC, dI) rp_cl (rp_xw h0 ad dA pr ba st en fo pl pa wa fx wo ch fw wt fp 5 pt u v ho be sl se ++ rp_mw h1 ae dE pr ba cn nu co) H → va_D (fun q : Nat => s.heap.size ≤ q) (rp_xw h0 ad dA pr ba st en fo pl pa wa fx wo ch fw wt fp 5 pt u v ho be sl se ++ rp_mw h1 ae dE pr ba cn nu co) → va_S (fun q : Nat => s.heap.size ≤ q) s.heap H locs → ∀ (ls : Array Slot), lv_has ls 4 [(0, .ref b), (1, .ref h0), (2, .ref h1), (3, .int (nI i))] → W p l e room_1 s m #[Value.ref b] below meth c H locs 18 3057 (lw_Z below #[Value.ref b] s) (F0 m 18 ls []) := by
  obtain ⟨hx, hb, hr, hml, hown, hts0, hX, hbl, hlocks, hgv⟩ := C0
  have hown : s.vm.findClass "RankedPairsLaw" = some m.cls := hown
  have hts : ∀ w ∈ lw_all, w.before #[Value.ref b] s = true := fun w h => hts0 w (lw_all_tbl h)
  have hA : ∀ q : Nat, s.heap.size ≤ q → (fun q : Nat => s.heap.size ≤ q) q := fun _ h => h
  have hbA : ¬ (fun q : Nat => s.heap.size ≤ q) b := Nat.not_le.mpr hbl
  intro n
  induction n with
  | zero =>
    intro i pr ba st en fo pl pa wa fx wo ch fw wt fp pt u v ho be sl se cn nu co hn
    exact absurd hn (by omega)
  | succ n ih =>
    intro i pr ba st en fo pl pa wa fx wo ch fw wt fp pt u v ho be sl se cn nu co hn hi hpr hJ hpt H locs hP hD hS ls hl
    have L331 : i + 4 ≤ L → ∀ (pr : Nat → Nat) (ba : Nat → Bool) (st : Bool) (en : Bool) (fo : Nat) (pl : Nat → Nat) (pa : Nat) (wa : Nat → Bool) (fx : Nat → Nat) (wo : Nat → Nat) (ch : Nat → Nat) (fw : Nat) (wt : Nat) (fp : Nat) (pt : Nat) (u : Nat → Int) (v : Nat → Int) (ho : Nat → Nat) (be : Nat → Nat) (sl : Nat → Int) (se : Nat → Bool) (cn : Nat) (nu : Nat → Nat) (co : Nat → Nat), (∀ j, j < 25 → pr j < 100) → (rp_XJ pr ba (rp_SL pr ba) st en fo pl pa wa fx wo ch) → (pt < 5) → ∀ (H : Heap) (locs : List Loc), va_P (dC, dI) rp_cl (rp_xw h0 ad dA pr ba st en fo pl pa wa fx wo ch fw wt fp 5 pt u v ho be sl se ++ rp_mw h1 ae dE pr ba cn nu co) H → va_D (fun q : Nat => s.heap.size ≤ q) (rp_xw h0 ad dA pr ba st en fo pl pa wa fx wo ch fw wt fp 5 pt u v ho be sl se ++ rp_mw h1 ae dE pr ba cn nu co) → va_S (fun q : Nat => s.heap.size ≤ q) s.heap H locs → W p l e room_1 s m #[Value.ref b] below meth c H locs 18 3057 (lw_Z below #[Value.ref b] s) (F0 m 331 ls []) := by
      intro hi4 pr ba st en fo pl pa wa fx wo ch fw wt fp pt u v ho be sl se cn nu co hpr hJ hpt H locs hP hD hS
      refine lv_iinc (v := nI (i + 4)) (lv' := [(3, .int (nI (i + 4))), (0, .ref b), (1, .ref h0), (2, .ref h1)]) hx hb dL_law_331 hl (k := 3) rfl (by exact nI_add i 4) (by decide) rfl (fun ls hl => ?_)
      refine lv_goto (tgt := 18) hx hb dL_law_334 (by decide) ?_
      exact ih (i + 4) pr ba st en fo pl pa wa fx wo ch fw wt fp pt u v ho be sl se cn nu co (by omega) (by omega) hpr hJ hpt _ _ hP hD hS ls (lv_sub hl [1, 2, 3, 0] rfl)
    refine lv_iload_n hx hb dL_law_18 rfl (lv_at hl 3 rfl) ?_
    refine lv_aload_n hx hb dL_law_19 rfl (lv_at hl 0 rfl) ?_
    refine va_slen hx hb hX hbl hbA hS dL_law_20 ?_
    refine lv_iconst (v := nI 4) hx hb dL_law_21 (by decide) ?_
    refine lv_isub hx hb dL_law_22 ?_
    refine lv_icmp_gt (tgt := 337) hx hb dL_law_23 (by decide) (fun c_23 => ?_) (fun c_23 => ?_)
    · refine lv_iconst (v := 1) hx hb dL_law_337 (by decide) ?_
      refine va_forget (fun q hq => hS.2.2 q hq) ?_
      refine W.widen (k := 600000) (n := 7290000) (Nat.le_of_ble_eq_true rfl) (Nat.le_of_ble_eq_true rfl) ?_
      exact lw_ret hx hb hr hlocks dL_law_338
    · have hi4 : i + 4 ≤ L := rp_i4 hL hi c_23
      have L331 := L331 hi4
      refine lv_aload_n hx hb dL_law_26 rfl (lv_at hl 0 rfl) ?_
      refine lv_iload_n hx hb dL_law_27 rfl (lv_at hl 3 rfl) ?_
      refine rp_sld hx hb hX hbl hbA hS (i := i) (by omega) hL dL_law_28 ?_
      refine lv_bipush (v := nI 15) hx hb dL_law_29 (by decide) ?_
      refine lv_iand hx hb dL_law_31 ?_
      obtain ⟨op, hop, eop⟩ := pk_andE (xs i) (m := nI 15) 4 (by decide)
      refine rp_ti eop ?_
      clear eop
      rcases (show 9 ≤ op ∨ op = 0 ∨ op = 1 ∨ op = 2 ∨ op = 3 ∨ op = 4 ∨ op = 5 ∨ op = 6 ∨ op = 7 ∨ op = 8 by omega) with q9 | rfl | rfl | rfl | rfl | rfl | rfl | rfl | rfl | rfl
      · refine lv_tableOut (tgt := 331) hx hb dL_law_32 (Or.inr (by rw [nI_toInt (by omega)]; omega)) (by decide) ?_
        exact L331 pr ba st en fo pl pa wa fx wo ch fw wt fp pt u v ho be sl se cn nu co hpr hJ hpt _ _ hP hD hS
      · refine lv_tableIn (off := 52) (tgt := 84) hx hb dL_law_32 (by decide +kernel) (by decide +kernel) (by decide +kernel) (by decide) ?_
        refine lv_aload_n hx hb dL_law_84 rfl (lv_at hl 1 rfl) ?_
        refine lv_aload_n hx hb dL_law_85 rfl (lv_at hl 0 rfl) ?_
        refine lv_iload_n hx hb dL_law_86 rfl (lv_at hl 3 rfl) ?_
        refine lv_iconst (v := nI 1) hx hb dL_law_87 (by decide) ?_
        refine rp_iadd hx hb dL_law_88 ?_
        refine rp_sld hx hb hX hbl hbA hS (i := i + 1) (by omega) hL dL_law_89 ?_
        refine lv_aload_n hx hb dL_law_90 rfl (lv_at hl 0 rfl) ?_
        refine lv_iload_n hx hb dL_law_91 rfl (lv_at hl 3 rfl) ?_
        refine lv_iconst (v := nI 2) hx hb dL_law_92 (by decide) ?_
        refine rp_iadd hx hb dL_law_93 ?_
        refine rp_sld hx hb hX hbl hbA hS (i := i + 2) (by omega) hL dL_law_94 ?_
        refine lv_aload_n hx hb dL_law_95 rfl (lv_at hl 0 rfl) ?_
        refine lv_iload_n hx hb dL_law_96 rfl (lv_at hl 3 rfl) ?_
        refine lv_iconst (v := nI 3) hx hb dL_law_97 (by decide) ?_
        refine rp_iadd hx hb dL_law_98 ?_
        refine rp_sld hx hb hX hbl hbA hS (i := i + 3) (by omega) hL dL_law_99 ?_
        have hPc := hP.sub (ws' := rp_xw h0 ad dA pr ba st en fo pl pa wa fx wo ch fw wt fp 5 pt u v ho be sl se) [0, 1, 2, 3, 4, 5, 6, 7, 8, 9, 10, 11, 12, 13] rfl
        have hDc := hD.sub (ws' := rp_xw h0 ad dA pr ba st en fo pl pa wa fx wo ch fw wt fp 5 pt u v ho be sl se) [0, 1, 2, 3, 4, 5, 6, 7, 8, 9, 10, 11, 12, 13] (by decide) rfl
        have hFc := va_free (wc := rp_xw h0 ad dA pr ba st en fo pl pa wa fx wo ch fw wt fp 5 pt u v ho be sl se) hD hS hA [0, 1, 2, 3, 4, 5, 6, 7, 8, 9, 10, 11, 12, 13] rfl
        refine va_calli (va_runV (As := [.int (xs (i + 1)), .int (xs (i + 2)), .int (xs (i + 3))]) (rest := []) ⟨hx, hb, hml, hown, hts⟩ (metX0_price l dC dI h0 ad dA H.size pr ba st en fo pl pa wa fx wo ch fw wt fp 5 pt u v ho be sl se (xs (i + 1)) (xs (i + 2)) (xs (i + 3))) (cwV 3 hts (lw_V q92 q93 q94 q12 q95) rfl rfl rfl (by decide +kernel) ⟨Nat.le_of_ble_eq_true rfl, Nat.le_of_ble_eq_true rfl⟩) ⟨fun a U g mk q => by obtain ⟨q0, q1, qP, qK, qD⟩ := q; exact ⟨q0, q1, qP, va_K.moved (u := U) (U := U.calling g mk a) (Vm.Alike.refl U.vm) qK, qD⟩, va_recv hKx hPc (ci := 0) (q0 := 0) rfl rfl, fun U hU hW => ⟨rfl, by rw [hU], by rw [hU]; exact hPc, va_K.moved hW.alike hKx, hDc.weaken (fun _ _ _ _ => trivial)⟩⟩ rfl rfl hl.1 rfl (lv_room (Nat.le_of_ble_eq_true rfl)) dL_law_100 ⟨Nat.le_of_ble_eq_true rfl, Nat.le_of_ble_eq_true rfl⟩) hS (fun q _ h => hFc q h) hFc (fun r u_ t H1 locs ht hvm hw hB hz1 hk1 hS => ?_)
        obtain ⟨hP1, hK1, hD1⟩ := hB
        rw [ht] at hP1
        have hw : r = (if rp_vp (xs (i + 1)) (xs (i + 2)) (xs (i + 3)) = true then 0 else -1) ∧ (u_ = false ∨ u_ = st ∧ rp_vp (xs (i + 1)) (xs (i + 2)) (xs (i + 3)) = false) := hw
        obtain ⟨hr9, hz9⟩ := hw
        subst hr9
        have hJ2 := rp_XJ_price hJ hz9
        have hpr2 := rp_npr_lt (w := xs (i + 1)) (t := xs (i + 2)) (p := xs (i + 3)) hpr
        have hpt2 := hpt
        generalize u_ = z at hJ2 hz9 hP1 hD1
        obtain ⟨hP, hD⟩ := va_join (wr := rp_mw h1 ae dE pr ba cn nu co) (w1 := rp_xw h0 ad dA (rp_npr pr (xs (i + 1)) (xs (i + 2)) (xs (i + 3))) (rp_nba ba (xs (i + 1)) (xs (i + 2)) (xs (i + 3))) z en fo pl pa wa fx wo ch fw wt fp 5 pt u v ho be sl se) hP hD [0, 1, 2, 3, 4, 5, 6, 7, 8, 9, 10, 11, 12, 13] [14, 15, 16, 17] rfl rfl (by decide) (by decide) hk1 hFc hP1 hD1
        clear hPc hDc hFc hP1 hK1 hD1 hz1 hk1 ht hvm
        generalize H1 = H at hP hS ⊢
        have hP : va_P (dC, dI) rp_cl (rp_mw h1 ae dE pr ba cn nu co ++ rp_xw h0 ad dA (rp_npr pr (xs (i + 1)) (xs (i + 2)) (xs (i + 3))) (rp_nba ba (xs (i + 1)) (xs (i + 2)) (xs (i + 3))) z en fo pl pa wa fx wo ch fw wt fp 5 pt u v ho be sl se) H := hP
        have hD : va_D (fun q : Nat => s.heap.size ≤ q) (rp_mw h1 ae dE pr ba cn nu co ++ rp_xw h0 ad dA (rp_npr pr (xs (i + 1)) (xs (i + 2)) (xs (i + 3))) (rp_nba ba (xs (i + 1)) (xs (i + 2)) (xs (i + 3))) z en fo pl pa wa fx wo ch fw wt fp 5 pt u v ho be sl se) := hD
        refine lv_aload_n hx hb dL_law_103 rfl (lv_at hl 2 rfl) ?_
        refine lv_aload_n hx hb dL_law_104 rfl (lv_at hl 0 rfl) ?_
        refine lv_iload_n hx hb dL_law_105 rfl (lv_at hl 3 rfl) ?_
        refine lv_iconst (v := nI 1) hx hb dL_law_106 (by decide) ?_
        refine rp_iadd hx hb dL_law_107 ?_
        refine rp_sld hx hb hX hbl hbA hS (i := i + 1) (by omega) hL dL_law_108 ?_
        refine lv_aload_n hx hb dL_law_109 rfl (lv_at hl 0 rfl) ?_
        refine lv_iload_n hx hb dL_law_110 rfl (lv_at hl 3 rfl) ?_
        refine lv_iconst (v := nI 2) hx hb dL_law_111 (by decide) ?_
        refine rp_iadd hx hb dL_law_112 ?_
        refine rp_sld hx hb hX hbl hbA hS (i := i + 2) (by omega) hL dL_law_113 ?_
        refine lv_aload_n hx hb dL_law_114 rfl (lv_at hl 0 rfl) ?_
        refine lv_iload_n hx hb dL_law_115 rfl (lv_at hl 3 rfl) ?_
        refine lv_iconst (v := nI 3) hx hb dL_law_116 (by decide) ?_
        refine rp_iadd hx hb dL_law_117 ?_
        refine rp_sld hx hb hX hbl hbA hS (i := i + 3) (by omega) hL dL_law_118 ?_
        have hPc := hP.sub (ws' := rp_mw h1 ae dE pr ba cn nu co) [0, 1, 2, 3] rfl
        have hDc := hD.sub (ws' := rp_mw h1 ae dE pr ba cn nu co) [0, 1, 2, 3] (by decide) rfl
        have hFc := va_free (wc := rp_mw h1 ae dE pr ba cn nu co) hD hS hA [0, 1, 2, 3] rfl
        refine va_calli (va_runV (As := [.int (xs (i + 1)), .int (xs (i + 2)), .int (xs (i + 3))]) (rest := [.int (if rp_vp (xs (i + 1)) (xs (i + 2)) (xs (i + 3)) = true then 0 else -1)]) ⟨hx, hb, hml, hown, hts⟩ (metX1_price l dC dI h1 ae dE H.size pr ba cn nu co (xs (i + 1)) (xs (i + 2)) (xs (i + 3))) (cwV 3 hts (lw_V q195 q196 q197 q13 q198) rfl rfl rfl (by decide +kernel) ⟨Nat.le_of_ble_eq_true rfl, Nat.le_of_ble_eq_true rfl⟩) ⟨fun a U g mk q => by obtain ⟨q0, q1, qP, qK, qD⟩ := q; exact ⟨q0, q1, qP, va_K.moved (u := U) (U := U.calling g mk a) (Vm.Alike.refl U.vm) qK, qD⟩, va_recv hKm hPc (ci := 1) (q0 := 0) rfl rfl, fun U hU hW => ⟨rfl, by rw [hU], by rw [hU]; exact hPc, va_K.moved hW.alike hKm, hDc.weaken (fun _ _ _ _ => trivial)⟩⟩ rfl rfl hl.1 rfl (lv_room (Nat.le_of_ble_eq_true rfl)) dL_law_119 ⟨Nat.le_of_ble_eq_true rfl, Nat.le_of_ble_eq_true rfl⟩) hS (fun q _ h => hFc q h) hFc (fun r u_ t H1 locs ht hvm hw hB hz1 hk1 hS => ?_)
        obtain ⟨hP1, hK1, hD1⟩ := hB
        rw [ht] at hP1
        have hw : r = (if rp_vp (xs (i + 1)) (xs (i + 2)) (xs (i + 3)) = true then 0 else -1) := hw
        subst hw
        obtain ⟨hP, hD⟩ := va_join (wr := rp_xw h0 ad dA (rp_npr pr (xs (i + 1)) (xs (i + 2)) (xs (i + 3))) (rp_nba ba (xs (i + 1)) (xs (i + 2)) (xs (i + 3))) z en fo pl pa wa fx wo ch fw wt fp 5 pt u v ho be sl se) (w1 := rp_mw h1 ae dE (rp_npr pr (xs (i + 1)) (xs (i + 2)) (xs (i + 3))) (rp_nba ba (xs (i + 1)) (xs (i + 2)) (xs (i + 3))) cn nu co) hP hD [0, 1, 2, 3] [4, 5, 6, 7, 8, 9, 10, 11, 12, 13, 14, 15, 16, 17] rfl rfl (by decide) (by decide) hk1 hFc hP1 hD1
        clear hPc hDc hFc hP1 hK1 hD1 hz1 hk1 ht hvm
        generalize H1 = H at hP hS ⊢
        have hP : va_P (dC, dI) rp_cl (rp_xw h0 ad dA (rp_npr pr (xs (i + 1)) (xs (i + 2)) (xs (i + 3))) (rp_nba ba (xs (i + 1)) (xs (i + 2)) (xs (i + 3))) z en fo pl pa wa fx wo ch fw wt fp 5 pt u v ho be sl se ++ rp_mw h1 ae dE (rp_npr pr (xs (i + 1)) (xs (i + 2)) (xs (i + 3))) (rp_nba ba (xs (i + 1)) (xs (i + 2)) (xs (i + 3))) cn nu co) H := hP
        have hD : va_D (fun q : Nat => s.heap.size ≤ q) (rp_xw h0 ad dA (rp_npr pr (xs (i + 1)) (xs (i + 2)) (xs (i + 3))) (rp_nba ba (xs (i + 1)) (xs (i + 2)) (xs (i + 3))) z en fo pl pa wa fx wo ch fw wt fp 5 pt u v ho be sl se ++ rp_mw h1 ae dE (rp_npr pr (xs (i + 1)) (xs (i + 2)) (xs (i + 3))) (rp_nba ba (xs (i + 1)) (xs (i + 2)) (xs (i + 3))) cn nu co) := hD
        refine lv_icmp_eq (tgt := 331) hx hb dL_law_122 (by decide) (fun c_9 => ?_) (fun c_9 => ?_)
        · exact L331 (rp_npr pr (xs (i + 1)) (xs (i + 2)) (xs (i + 3))) (rp_nba ba (xs (i + 1)) (xs (i + 2)) (xs (i + 3))) z en fo pl pa wa fx wo ch fw wt fp pt u v ho be sl se cn nu co hpr2 hJ2 hpt2 _ _ hP hD hS
        · exact absurd rfl c_9
      · refine lv_tableIn (off := 95) (tgt := 127) hx hb dL_law_32 (by decide +kernel) (by decide +kernel) (by decide +kernel) (by decide) ?_
        refine lv_aload_n hx hb dL_law_127 rfl (lv_at hl 1 rfl) ?_
        refine lv_aload_n hx hb dL_law_128 rfl (lv_at hl 0 rfl) ?_
        refine lv_iload_n hx hb dL_law_129 rfl (lv_at hl 3 rfl) ?_
        refine lv_iconst (v := nI 1) hx hb dL_law_130 (by decide) ?_
        refine rp_iadd hx hb dL_law_131 ?_
        refine rp_sld hx hb hX hbl hbA hS (i := i + 1) (by omega) hL dL_law_132 ?_
        refine lv_aload_n hx hb dL_law_133 rfl (lv_at hl 0 rfl) ?_
        refine lv_iload_n hx hb dL_law_134 rfl (lv_at hl 3 rfl) ?_
        refine lv_iconst (v := nI 2) hx hb dL_law_135 (by decide) ?_
        refine rp_iadd hx hb dL_law_136 ?_
        refine rp_sld hx hb hX hbl hbA hS (i := i + 2) (by omega) hL dL_law_137 ?_
        have hPc := hP.sub (ws' := rp_xw h0 ad dA pr ba st en fo pl pa wa fx wo ch fw wt fp 5 pt u v ho be sl se) [0, 1, 2, 3, 4, 5, 6, 7, 8, 9, 10, 11, 12, 13] rfl
        have hDc := hD.sub (ws' := rp_xw h0 ad dA pr ba st en fo pl pa wa fx wo ch fw wt fp 5 pt u v ho be sl se) [0, 1, 2, 3, 4, 5, 6, 7, 8, 9, 10, 11, 12, 13] (by decide) rfl
        have hFc := va_free (wc := rp_xw h0 ad dA pr ba st en fo pl pa wa fx wo ch fw wt fp 5 pt u v ho be sl se) hD hS hA [0, 1, 2, 3, 4, 5, 6, 7, 8, 9, 10, 11, 12, 13] rfl
        refine va_calli (va_runV (As := [.int (xs (i + 1)), .int (xs (i + 2))]) (rest := []) ⟨hx, hb, hml, hown, hts⟩ (metX0_bar l dC dI h0 ad dA H.size pr ba st en fo pl pa wa fx wo ch fw wt fp 5 pt u v ho be sl se (xs (i + 1)) (xs (i + 2))) (cwV 2 hts (lw_V q99 q100 q101 q12 q102) rfl rfl rfl (by decide +kernel) ⟨Nat.le_of_ble_eq_true rfl, Nat.le_of_ble_eq_true rfl⟩) ⟨fun a U g mk q => by obtain ⟨q0, q1, qP, qK, qD⟩ := q; exact ⟨q0, q1, qP, va_K.moved (u := U) (U := U.calling g mk a) (Vm.Alike.refl U.vm) qK, qD⟩, va_recv hKx hPc (ci := 0) (q0 := 0) rfl rfl, fun U hU hW => ⟨rfl, by rw [hU], by rw [hU]; exact hPc, va_K.moved hW.alike hKx, hDc.weaken (fun _ _ _ _ => trivial)⟩⟩ rfl rfl hl.1 rfl (lv_room (Nat.le_of_ble_eq_true rfl)) dL_law_138 ⟨Nat.le_of_ble_eq_true rfl, Nat.le_of_ble_eq_true rfl⟩) hS (fun q _ h => hFc q h) hFc (fun r u_ t H1 locs ht hvm hw hB hz1 hk1 hS => ?_)
        obtain ⟨hP1, hK1, hD1⟩ := hB
        rw [ht] at hP1
        have hw : r = (if (rp_ir (xs (i + 1)) && rp_ir (xs (i + 2))) = true then 0 else -1) ∧ (u_ = false ∨ u_ = st ∧ (rp_ir (xs (i + 1)) && rp_ir (xs (i + 2))) = false) := hw
        obtain ⟨hr9, hz9⟩ := hw
        subst hr9
        have hJ2 := rp_XJ_bar hJ hz9
        have hpr2 := hpr
        have hpt2 := hpt
        generalize u_ = z at hJ2 hz9 hP1 hD1
        obtain ⟨hP, hD⟩ := va_join (wr := rp_mw h1 ae dE pr ba cn nu co) (w1 := rp_xw h0 ad dA pr (rp_nbb ba (xs (i + 1)) (xs (i + 2))) z en fo pl pa wa fx wo ch fw wt fp 5 pt u v ho be sl se) hP hD [0, 1, 2, 3, 4, 5, 6, 7, 8, 9, 10, 11, 12, 13] [14, 15, 16, 17] rfl rfl (by decide) (by decide) hk1 hFc hP1 hD1
        clear hPc hDc hFc hP1 hK1 hD1 hz1 hk1 ht hvm
        generalize H1 = H at hP hS ⊢
        have hP : va_P (dC, dI) rp_cl (rp_mw h1 ae dE pr ba cn nu co ++ rp_xw h0 ad dA pr (rp_nbb ba (xs (i + 1)) (xs (i + 2))) z en fo pl pa wa fx wo ch fw wt fp 5 pt u v ho be sl se) H := hP
        have hD : va_D (fun q : Nat => s.heap.size ≤ q) (rp_mw h1 ae dE pr ba cn nu co ++ rp_xw h0 ad dA pr (rp_nbb ba (xs (i + 1)) (xs (i + 2))) z en fo pl pa wa fx wo ch fw wt fp 5 pt u v ho be sl se) := hD
        refine lv_aload_n hx hb dL_law_141 rfl (lv_at hl 2 rfl) ?_
        refine lv_aload_n hx hb dL_law_142 rfl (lv_at hl 0 rfl) ?_
        refine lv_iload_n hx hb dL_law_143 rfl (lv_at hl 3 rfl) ?_
        refine lv_iconst (v := nI 1) hx hb dL_law_144 (by decide) ?_
        refine rp_iadd hx hb dL_law_145 ?_
        refine rp_sld hx hb hX hbl hbA hS (i := i + 1) (by omega) hL dL_law_146 ?_
        refine lv_aload_n hx hb dL_law_147 rfl (lv_at hl 0 rfl) ?_
        refine lv_iload_n hx hb dL_law_148 rfl (lv_at hl 3 rfl) ?_
        refine lv_iconst (v := nI 2) hx hb dL_law_149 (by decide) ?_
        refine rp_iadd hx hb dL_law_150 ?_
        refine rp_sld hx hb hX hbl hbA hS (i := i + 2) (by omega) hL dL_law_151 ?_
        have hPc := hP.sub (ws' := rp_mw h1 ae dE pr ba cn nu co) [0, 1, 2, 3] rfl
        have hDc := hD.sub (ws' := rp_mw h1 ae dE pr ba cn nu co) [0, 1, 2, 3] (by decide) rfl
        have hFc := va_free (wc := rp_mw h1 ae dE pr ba cn nu co) hD hS hA [0, 1, 2, 3] rfl
        refine va_calli (va_runV (As := [.int (xs (i + 1)), .int (xs (i + 2))]) (rest := [.int (if (rp_ir (xs (i + 1)) && rp_ir (xs (i + 2))) = true then 0 else -1)]) ⟨hx, hb, hml, hown, hts⟩ (metX1_bar l dC dI h1 ae dE H.size pr ba cn nu co (xs (i + 1)) (xs (i + 2))) (cwV 2 hts (lw_V q202 q203 q204 q13 q205) rfl rfl rfl (by decide +kernel) ⟨Nat.le_of_ble_eq_true rfl, Nat.le_of_ble_eq_true rfl⟩) ⟨fun a U g mk q => by obtain ⟨q0, q1, qP, qK, qD⟩ := q; exact ⟨q0, q1, qP, va_K.moved (u := U) (U := U.calling g mk a) (Vm.Alike.refl U.vm) qK, qD⟩, va_recv hKm hPc (ci := 1) (q0 := 0) rfl rfl, fun U hU hW => ⟨rfl, by rw [hU], by rw [hU]; exact hPc, va_K.moved hW.alike hKm, hDc.weaken (fun _ _ _ _ => trivial)⟩⟩ rfl rfl hl.1 rfl (lv_room (Nat.le_of_ble_eq_true rfl)) dL_law_152 ⟨Nat.le_of_ble_eq_true rfl, Nat.le_of_ble_eq_true rfl⟩) hS (fun q _ h => hFc q h) hFc (fun r u_ t H1 locs ht hvm hw hB hz1 hk1 hS => ?_)
        obtain ⟨hP1, hK1, hD1⟩ := hB
        rw [ht] at hP1
        have hw : r = (if (rp_ir (xs (i + 1)) && rp_ir (xs (i + 2))) = true then 0 else -1) := hw
        subst hw
        obtain ⟨hP, hD⟩ := va_join (wr := rp_xw h0 ad dA pr (rp_nbb ba (xs (i + 1)) (xs (i + 2))) z en fo pl pa wa fx wo ch fw wt fp 5 pt u v ho be sl se) (w1 := rp_mw h1 ae dE pr (rp_nbb ba (xs (i + 1)) (xs (i + 2))) cn nu co) hP hD [0, 1, 2, 3] [4, 5, 6, 7, 8, 9, 10, 11, 12, 13, 14, 15, 16, 17] rfl rfl (by decide) (by decide) hk1 hFc hP1 hD1
        clear hPc hDc hFc hP1 hK1 hD1 hz1 hk1 ht hvm
        generalize H1 = H at hP hS ⊢
        have hP : va_P (dC, dI) rp_cl (rp_xw h0 ad dA pr (rp_nbb ba (xs (i + 1)) (xs (i + 2))) z en fo pl pa wa fx wo ch fw wt fp 5 pt u v ho be sl se ++ rp_mw h1 ae dE pr (rp_nbb ba (xs (i + 1)) (xs (i + 2))) cn nu co) H := hP
        have hD : va_D (fun q : Nat => s.heap.size ≤ q) (rp_xw h0 ad dA pr (rp_nbb ba (xs (i + 1)) (xs (i + 2))) z en fo pl pa wa fx wo ch fw wt fp 5 pt u v ho be sl se ++ rp_mw h1 ae dE pr (rp_nbb ba (xs (i + 1)) (xs (i + 2))) cn nu co) := hD
        refine lv_icmp_eq (tgt := 331) hx hb dL_law_155 (by decide) (fun c_9 => ?_) (fun c_9 => ?_)
        · exact L331 pr (rp_nbb ba (xs (i + 1)) (xs (i + 2))) z en fo pl pa wa fx wo ch fw wt fp pt u v ho be sl se cn nu co hpr2 hJ2 hpt2 _ _ hP hD hS
        · exact absurd rfl c_9
      · refine lv_tableIn (off := 128) (tgt := 160) hx hb dL_law_32 (by decide +kernel) (by decide +kernel) (by decide +kernel) (by decide) ?_
        refine lv_aload_n hx hb dL_law_160 rfl (lv_at hl 1 rfl) ?_
        have hPc := hP.sub (ws' := rp_xw h0 ad dA pr ba st en fo pl pa wa fx wo ch fw wt fp 5 pt u v ho be sl se) [0, 1, 2, 3, 4, 5, 6, 7, 8, 9, 10, 11, 12, 13] rfl
        have hDc := hD.sub (ws' := rp_xw h0 ad dA pr ba st en fo pl pa wa fx wo ch fw wt fp 5 pt u v ho be sl se) [0, 1, 2, 3, 4, 5, 6, 7, 8, 9, 10, 11, 12, 13] (by decide) rfl
        have hFc := va_free (wc := rp_xw h0 ad dA pr ba st en fo pl pa wa fx wo ch fw wt fp 5 pt u v ho be sl se) hD hS hA [0, 1, 2, 3, 4, 5, 6, 7, 8, 9, 10, 11, 12, 13] rfl
        refine va_calli (va_runV (As := []) (rest := []) ⟨hx, hb, hml, hown, hts⟩ (metX0_plans l dC dI h0 ad dA H.size pr ba st en fo pl pa wa fx wo ch fw wt fp 5 pt u v ho be sl se (rp_SL pr ba)  hpr rp_SL_RL rp_SL_len rfl hpt hJ) (cwV 0 hts (lw_V q103 q104 q105 q12 q106) rfl rfl rfl (by decide +kernel) ⟨Nat.le_of_ble_eq_true rfl, Nat.le_of_ble_eq_true rfl⟩) ⟨fun a U g mk q => by obtain ⟨q0, q1, qP, qK, qD⟩ := q; exact ⟨q0, q1, qP, va_K.moved (u := U) (U := U.calling g mk a) (Vm.Alike.refl U.vm) qK, qD⟩, va_recv hKx hPc (ci := 0) (q0 := 0) rfl rfl, fun U hU hW => ⟨rfl, by rw [hU], by rw [hU]; exact hPc, va_K.moved hW.alike hKx, hDc.weaken (fun _ _ _ _ => trivial)⟩⟩ rfl rfl hl.1 rfl (lv_room (Nat.le_of_ble_eq_true rfl)) dL_law_161 ⟨Nat.le_of_ble_eq_true rfl, Nat.le_of_ble_eq_true rfl⟩) hS (fun q _ h => hFc q h) hFc (fun r u_ t H1 locs ht hvm hw hB hz1 hk1 hS => ?_)
        obtain ⟨hP1, hK1, hD1⟩ := hB
        rw [ht] at hP1
        obtain ⟨st2, en2, fo2, pl2, pa2, wa2, fx2, wo2, ch2, fw2, wt2, fp2, u2, v2, ho2, be2, sl2, se2, pt2⟩ := u_
        have hw : r = nI (rp_SL pr ba).length ∧ rp_XJ pr ba (rp_SL pr ba) st2 en2 fo2 pl2 pa2 wa2 fx2 wo2 ch2 ∧ pt2 < 5 := hw
        obtain ⟨hr9, hJ2, hpt2⟩ := hw
        subst hr9
        have hpr2 := hpr
        obtain ⟨hP, hD⟩ := va_join (wr := rp_mw h1 ae dE pr ba cn nu co) (w1 := rp_xw h0 ad dA pr ba st2 en2 fo2 pl2 pa2 wa2 fx2 wo2 ch2 fw2 wt2 fp2 5 pt2 u2 v2 ho2 be2 sl2 se2) hP hD [0, 1, 2, 3, 4, 5, 6, 7, 8, 9, 10, 11, 12, 13] [14, 15, 16, 17] rfl rfl (by decide) (by decide) hk1 hFc hP1 hD1
        clear hPc hDc hFc hP1 hK1 hD1 hz1 hk1 ht hvm
        generalize H1 = H at hP hS ⊢
        have hP : va_P (dC, dI) rp_cl (rp_mw h1 ae dE pr ba cn nu co ++ rp_xw h0 ad dA pr ba st2 en2 fo2 pl2 pa2 wa2 fx2 wo2 ch2 fw2 wt2 fp2 5 pt2 u2 v2 ho2 be2 sl2 se2) H := hP
        have hD : va_D (fun q : Nat => s.heap.size ≤ q) (rp_mw h1 ae dE pr ba cn nu co ++ rp_xw h0 ad dA pr ba st2 en2 fo2 pl2 pa2 wa2 fx2 wo2 ch2 fw2 wt2 fp2 5 pt2 u2 v2 ho2 be2 sl2 se2) := hD
        refine lv_aload_n hx hb dL_law_164 rfl (lv_at hl 2 rfl) ?_
        have hPc := hP.sub (ws' := rp_mw h1 ae dE pr ba cn nu co) [0, 1, 2, 3] rfl
        have hDc := hD.sub (ws' := rp_mw h1 ae dE pr ba cn nu co) [0, 1, 2, 3] (by decide) rfl
        have hFc := va_free (wc := rp_mw h1 ae dE pr ba cn nu co) hD hS hA [0, 1, 2, 3] rfl
        refine va_calli (va_runV (As := []) (rest := [.int (nI (rp_SL pr ba).length)]) ⟨hx, hb, hml, hown, hts⟩ (metX1_plans l dC dI h1 ae dE H.size pr ba cn nu co (rp_SL pr ba)  hpr rp_SL_eq rp_SL_len) (cwV 0 hts (lw_V q206 q207 q208 q13 q209) rfl rfl rfl (by decide +kernel) ⟨Nat.le_of_ble_eq_true rfl, Nat.le_of_ble_eq_true rfl⟩) ⟨fun a U g mk q => by obtain ⟨q0, q1, qP, qK, qD⟩ := q; exact ⟨q0, q1, qP, va_K.moved (u := U) (U := U.calling g mk a) (Vm.Alike.refl U.vm) qK, qD⟩, va_recv hKm hPc (ci := 1) (q0 := 0) rfl rfl, fun U hU hW => ⟨rfl, by rw [hU], by rw [hU]; exact hPc, va_K.moved hW.alike hKm, hDc.weaken (fun _ _ _ _ => trivial)⟩⟩ rfl rfl hl.1 rfl (lv_room (Nat.le_of_ble_eq_true rfl)) dL_law_165 ⟨Nat.le_of_ble_eq_true rfl, Nat.le_of_ble_eq_true rfl⟩) hS (fun q _ h => hFc q h) hFc (fun r u_ t H1 locs ht hvm hw hB hz1 hk1 hS => ?_)
        obtain ⟨hP1, hK1, hD1⟩ := hB
        rw [ht] at hP1
        obtain ⟨cn2, nu2, co2⟩ := u_
        have hw : r = nI (rp_SL pr ba).length := hw
        subst hw
        obtain ⟨hP, hD⟩ := va_join (wr := rp_xw h0 ad dA pr ba st2 en2 fo2 pl2 pa2 wa2 fx2 wo2 ch2 fw2 wt2 fp2 5 pt2 u2 v2 ho2 be2 sl2 se2) (w1 := rp_mw h1 ae dE pr ba cn2 nu2 co2) hP hD [0, 1, 2, 3] [4, 5, 6, 7, 8, 9, 10, 11, 12, 13, 14, 15, 16, 17] rfl rfl (by decide) (by decide) hk1 hFc hP1 hD1
        clear hPc hDc hFc hP1 hK1 hD1 hz1 hk1 ht hvm
        generalize H1 = H at hP hS ⊢
        have hP : va_P (dC, dI) rp_cl (rp_xw h0 ad dA pr ba st2 en2 fo2 pl2 pa2 wa2 fx2 wo2 ch2 fw2 wt2 fp2 5 pt2 u2 v2 ho2 be2 sl2 se2 ++ rp_mw h1 ae dE pr ba cn2 nu2 co2) H := hP
        have hD : va_D (fun q : Nat => s.heap.size ≤ q) (rp_xw h0 ad dA pr ba st2 en2 fo2 pl2 pa2 wa2 fx2 wo2 ch2 fw2 wt2 fp2 5 pt2 u2 v2 ho2 be2 sl2 se2 ++ rp_mw h1 ae dE pr ba cn2 nu2 co2) := hD
        refine lv_icmp_eq (tgt := 331) hx hb dL_law_168 (by decide) (fun c_9 => ?_) (fun c_9 => ?_)
        · exact L331 pr ba st2 en2 fo2 pl2 pa2 wa2 fx2 wo2 ch2 fw2 wt2 fp2 pt2 u2 v2 ho2 be2 sl2 se2 cn2 nu2 co2 hpr2 hJ2 hpt2 _ _ hP hD hS
        · exact absurd rfl c_9
      · refine lv_tableIn (off := 141) (tgt := 173) hx hb dL_law_32 (by decide +kernel) (by decide +kernel) (by decide +kernel) (by decide) ?_
        refine lv_aload_n hx hb dL_law_173 rfl (lv_at hl 1 rfl) ?_
        refine lv_aload_n hx hb dL_law_174 rfl (lv_at hl 0 rfl) ?_
        refine lv_iload_n hx hb dL_law_175 rfl (lv_at hl 3 rfl) ?_
        refine lv_iconst (v := nI 1) hx hb dL_law_176 (by decide) ?_
        refine rp_iadd hx hb dL_law_177 ?_
        refine rp_sld hx hb hX hbl hbA hS (i := i + 1) (by omega) hL dL_law_178 ?_
        have hPc := hP.sub (ws' := rp_xw h0 ad dA pr ba st en fo pl pa wa fx wo ch fw wt fp 5 pt u v ho be sl se) [0, 1, 2, 3, 4, 5, 6, 7, 8, 9, 10, 11, 12, 13] rfl
        have hDc := hD.sub (ws' := rp_xw h0 ad dA pr ba st en fo pl pa wa fx wo ch fw wt fp 5 pt u v ho be sl se) [0, 1, 2, 3, 4, 5, 6, 7, 8, 9, 10, 11, 12, 13] (by decide) rfl
        have hFc := va_free (wc := rp_xw h0 ad dA pr ba st en fo pl pa wa fx wo ch fw wt fp 5 pt u v ho be sl se) hD hS hA [0, 1, 2, 3, 4, 5, 6, 7, 8, 9, 10, 11, 12, 13] rfl
        refine va_calli (va_runV (As := [.int (xs (i + 1))]) (rest := []) ⟨hx, hb, hml, hown, hts⟩ (metX0_cost l dC dI h0 ad dA H.size pr ba st en fo pl pa wa fx wo ch fw wt fp 5 pt u v ho be sl se (rp_SL pr ba) (xs (i + 1)) hpr rp_SL_RL rp_SL_len rfl hpt hJ) (cwV 1 hts (lw_V q148 q149 q150 q12 q151) rfl rfl rfl (by decide +kernel) ⟨Nat.le_of_ble_eq_true rfl, Nat.le_of_ble_eq_true rfl⟩) ⟨fun a U g mk q => by obtain ⟨q0, q1, qP, qK, qD⟩ := q; exact ⟨q0, q1, qP, va_K.moved (u := U) (U := U.calling g mk a) (Vm.Alike.refl U.vm) qK, qD⟩, va_recv hKx hPc (ci := 0) (q0 := 0) rfl rfl, fun U hU hW => ⟨rfl, by rw [hU], by rw [hU]; exact hPc, va_K.moved hW.alike hKx, hDc.weaken (fun _ _ _ _ => trivial)⟩⟩ rfl rfl hl.1 rfl (lv_room (Nat.le_of_ble_eq_true rfl)) dL_law_179 ⟨Nat.le_of_ble_eq_true rfl, Nat.le_of_ble_eq_true rfl⟩) hS (fun q _ h => hFc q h) hFc (fun r u_ t H1 locs ht hvm hw hB hz1 hk1 hS => ?_)
        obtain ⟨hP1, hK1, hD1⟩ := hB
        rw [ht] at hP1
        obtain ⟨st2, en2, fo2, pl2, pa2, wa2, fx2, wo2, ch2, fw2, wt2, fp2, u2, v2, ho2, be2, sl2, se2, pt2⟩ := u_
        have hw : r = rp_a_cost (rp_SL pr ba) (xs (i + 1)) ∧ rp_XJ pr ba (rp_SL pr ba) st2 en2 fo2 pl2 pa2 wa2 fx2 wo2 ch2 ∧ pt2 < 5 := hw
        obtain ⟨hr9, hJ2, hpt2⟩ := hw
        subst hr9
        have hpr2 := hpr
        obtain ⟨hP, hD⟩ := va_join (wr := rp_mw h1 ae dE pr ba cn nu co) (w1 := rp_xw h0 ad dA pr ba st2 en2 fo2 pl2 pa2 wa2 fx2 wo2 ch2 fw2 wt2 fp2 5 pt2 u2 v2 ho2 be2 sl2 se2) hP hD [0, 1, 2, 3, 4, 5, 6, 7, 8, 9, 10, 11, 12, 13] [14, 15, 16, 17] rfl rfl (by decide) (by decide) hk1 hFc hP1 hD1
        clear hPc hDc hFc hP1 hK1 hD1 hz1 hk1 ht hvm
        generalize H1 = H at hP hS ⊢
        have hP : va_P (dC, dI) rp_cl (rp_mw h1 ae dE pr ba cn nu co ++ rp_xw h0 ad dA pr ba st2 en2 fo2 pl2 pa2 wa2 fx2 wo2 ch2 fw2 wt2 fp2 5 pt2 u2 v2 ho2 be2 sl2 se2) H := hP
        have hD : va_D (fun q : Nat => s.heap.size ≤ q) (rp_mw h1 ae dE pr ba cn nu co ++ rp_xw h0 ad dA pr ba st2 en2 fo2 pl2 pa2 wa2 fx2 wo2 ch2 fw2 wt2 fp2 5 pt2 u2 v2 ho2 be2 sl2 se2) := hD
        refine lv_aload_n hx hb dL_law_182 rfl (lv_at hl 2 rfl) ?_
        refine lv_aload_n hx hb dL_law_183 rfl (lv_at hl 0 rfl) ?_
        refine lv_iload_n hx hb dL_law_184 rfl (lv_at hl 3 rfl) ?_
        refine lv_iconst (v := nI 1) hx hb dL_law_185 (by decide) ?_
        refine rp_iadd hx hb dL_law_186 ?_
        refine rp_sld hx hb hX hbl hbA hS (i := i + 1) (by omega) hL dL_law_187 ?_
        have hPc := hP.sub (ws' := rp_mw h1 ae dE pr ba cn nu co) [0, 1, 2, 3] rfl
        have hDc := hD.sub (ws' := rp_mw h1 ae dE pr ba cn nu co) [0, 1, 2, 3] (by decide) rfl
        have hFc := va_free (wc := rp_mw h1 ae dE pr ba cn nu co) hD hS hA [0, 1, 2, 3] rfl
        refine va_calli (va_runV (As := [.int (xs (i + 1))]) (rest := [.int (rp_a_cost (rp_SL pr ba) (xs (i + 1)))]) ⟨hx, hb, hml, hown, hts⟩ (metX1_cost l dC dI h1 ae dE H.size pr ba cn nu co (rp_SL pr ba) (xs (i + 1)) hpr rp_SL_eq rp_SL_len) (cwV 1 hts (lw_V q221 q222 q223 q13 q224) rfl rfl rfl (by decide +kernel) ⟨Nat.le_of_ble_eq_true rfl, Nat.le_of_ble_eq_true rfl⟩) ⟨fun a U g mk q => by obtain ⟨q0, q1, qP, qK, qD⟩ := q; exact ⟨q0, q1, qP, va_K.moved (u := U) (U := U.calling g mk a) (Vm.Alike.refl U.vm) qK, qD⟩, va_recv hKm hPc (ci := 1) (q0 := 0) rfl rfl, fun U hU hW => ⟨rfl, by rw [hU], by rw [hU]; exact hPc, va_K.moved hW.alike hKm, hDc.weaken (fun _ _ _ _ => trivial)⟩⟩ rfl rfl hl.1 rfl (lv_room (Nat.le_of_ble_eq_true rfl)) dL_law_188 ⟨Nat.le_of_ble_eq_true rfl, Nat.le_of_ble_eq_true rfl⟩) hS (fun q _ h => hFc q h) hFc (fun r u_ t H1 locs ht hvm hw hB hz1 hk1 hS => ?_)
        obtain ⟨hP1, hK1, hD1⟩ := hB
        rw [ht] at hP1
        obtain ⟨cn2, nu2, co2⟩ := u_
        have hw : r = rp_a_cost (rp_SL pr ba) (xs (i + 1)) := hw
        subst hw
        obtain ⟨hP, hD⟩ := va_join (wr := rp_xw h0 ad dA pr ba st2 en2 fo2 pl2 pa2 wa2 fx2 wo2 ch2 fw2 wt2 fp2 5 pt2 u2 v2 ho2 be2 sl2 se2) (w1 := rp_mw h1 ae dE pr ba cn2 nu2 co2) hP hD [0, 1, 2, 3] [4, 5, 6, 7, 8, 9, 10, 11, 12, 13, 14, 15, 16, 17] rfl rfl (by decide) (by decide) hk1 hFc hP1 hD1
        clear hPc hDc hFc hP1 hK1 hD1 hz1 hk1 ht hvm
        generalize H1 = H at hP hS ⊢
        have hP : va_P (dC, dI) rp_cl (rp_xw h0 ad dA pr ba st2 en2 fo2 pl2 pa2 wa2 fx2 wo2 ch2 fw2 wt2 fp2 5 pt2 u2 v2 ho2 be2 sl2 se2 ++ rp_mw h1 ae dE pr ba cn2 nu2 co2) H := hP
        have hD : va_D (fun q : Nat => s.heap.size ≤ q) (rp_xw h0 ad dA pr ba st2 en2 fo2 pl2 pa2 wa2 fx2 wo2 ch2 fw2 wt2 fp2 5 pt2 u2 v2 ho2 be2 sl2 se2 ++ rp_mw h1 ae dE pr ba cn2 nu2 co2) := hD
        refine lv_icmp_eq (tgt := 331) hx hb dL_law_191 (by decide) (fun c_9 => ?_) (fun c_9 => ?_)
        · exact L331 pr ba st2 en2 fo2 pl2 pa2 wa2 fx2 wo2 ch2 fw2 wt2 fp2 pt2 u2 v2 ho2 be2 sl2 se2 cn2 nu2 co2 hpr2 hJ2 hpt2 _ _ hP hD hS
        · exact absurd rfl c_9
      · refine lv_tableIn (off := 164) (tgt := 196) hx hb dL_law_32 (by decide +kernel) (by decide +kernel) (by decide +kernel) (by decide) ?_
        refine lv_aload_n hx hb dL_law_196 rfl (lv_at hl 1 rfl) ?_
        refine lv_aload_n hx hb dL_law_197 rfl (lv_at hl 0 rfl) ?_
        refine lv_iload_n hx hb dL_law_198 rfl (lv_at hl 3 rfl) ?_
        refine lv_iconst (v := nI 1) hx hb dL_law_199 (by decide) ?_
        refine rp_iadd hx hb dL_law_200 ?_
        refine rp_sld hx hb hX hbl hbA hS (i := i + 1) (by omega) hL dL_law_201 ?_
        have hPc := hP.sub (ws' := rp_xw h0 ad dA pr ba st en fo pl pa wa fx wo ch fw wt fp 5 pt u v ho be sl se) [0, 1, 2, 3, 4, 5, 6, 7, 8, 9, 10, 11, 12, 13] rfl
        have hDc := hD.sub (ws' := rp_xw h0 ad dA pr ba st en fo pl pa wa fx wo ch fw wt fp 5 pt u v ho be sl se) [0, 1, 2, 3, 4, 5, 6, 7, 8, 9, 10, 11, 12, 13] (by decide) rfl
        have hFc := va_free (wc := rp_xw h0 ad dA pr ba st en fo pl pa wa fx wo ch fw wt fp 5 pt u v ho be sl se) hD hS hA [0, 1, 2, 3, 4, 5, 6, 7, 8, 9, 10, 11, 12, 13] rfl
        refine va_calli (va_runV (As := [.int (xs (i + 1))]) (rest := []) ⟨hx, hb, hml, hown, hts⟩ (metX0_plan l dC dI h0 ad dA H.size pr ba st en fo pl pa wa fx wo ch fw wt fp 5 pt u v ho be sl se (rp_SL pr ba) (xs (i + 1)) hpr rp_SL_RL rp_SL_len rfl hpt hJ) (cwV 1 hts (lw_V q156 q157 q158 q12 q159) rfl rfl rfl (by decide +kernel) ⟨Nat.le_of_ble_eq_true rfl, Nat.le_of_ble_eq_true rfl⟩) ⟨fun a U g mk q => by obtain ⟨q0, q1, qP, qK, qD⟩ := q; exact ⟨q0, q1, qP, va_K.moved (u := U) (U := U.calling g mk a) (Vm.Alike.refl U.vm) qK, qD⟩, va_recv hKx hPc (ci := 0) (q0 := 0) rfl rfl, fun U hU hW => ⟨rfl, by rw [hU], by rw [hU]; exact hPc, va_K.moved hW.alike hKx, hDc.weaken (fun _ _ _ _ => trivial)⟩⟩ rfl rfl hl.1 rfl (lv_room (Nat.le_of_ble_eq_true rfl)) dL_law_202 ⟨Nat.le_of_ble_eq_true rfl, Nat.le_of_ble_eq_true rfl⟩) hS (fun q _ h => hFc q h) hFc (fun r u_ t H1 locs ht hvm hw hB hz1 hk1 hS => ?_)
        obtain ⟨hP1, hK1, hD1⟩ := hB
        rw [ht] at hP1
        obtain ⟨st2, en2, fo2, pl2, pa2, wa2, fx2, wo2, ch2, fw2, wt2, fp2, u2, v2, ho2, be2, sl2, se2, pt2⟩ := u_
        have hw : r = rp_a_plan (rp_SL pr ba) (xs (i + 1)) ∧ rp_XJ pr ba (rp_SL pr ba) st2 en2 fo2 pl2 pa2 wa2 fx2 wo2 ch2 ∧ pt2 < 5 := hw
        obtain ⟨hr9, hJ2, hpt2⟩ := hw
        subst hr9
        have hpr2 := hpr
        obtain ⟨hP, hD⟩ := va_join (wr := rp_mw h1 ae dE pr ba cn nu co) (w1 := rp_xw h0 ad dA pr ba st2 en2 fo2 pl2 pa2 wa2 fx2 wo2 ch2 fw2 wt2 fp2 5 pt2 u2 v2 ho2 be2 sl2 se2) hP hD [0, 1, 2, 3, 4, 5, 6, 7, 8, 9, 10, 11, 12, 13] [14, 15, 16, 17] rfl rfl (by decide) (by decide) hk1 hFc hP1 hD1
        clear hPc hDc hFc hP1 hK1 hD1 hz1 hk1 ht hvm
        generalize H1 = H at hP hS ⊢
        have hP : va_P (dC, dI) rp_cl (rp_mw h1 ae dE pr ba cn nu co ++ rp_xw h0 ad dA pr ba st2 en2 fo2 pl2 pa2 wa2 fx2 wo2 ch2 fw2 wt2 fp2 5 pt2 u2 v2 ho2 be2 sl2 se2) H := hP
        have hD : va_D (fun q : Nat => s.heap.size ≤ q) (rp_mw h1 ae dE pr ba cn nu co ++ rp_xw h0 ad dA pr ba st2 en2 fo2 pl2 pa2 wa2 fx2 wo2 ch2 fw2 wt2 fp2 5 pt2 u2 v2 ho2 be2 sl2 se2) := hD
        refine lv_aload_n hx hb dL_law_205 rfl (lv_at hl 2 rfl) ?_
        refine lv_aload_n hx hb dL_law_206 rfl (lv_at hl 0 rfl) ?_
        refine lv_iload_n hx hb dL_law_207 rfl (lv_at hl 3 rfl) ?_
        refine lv_iconst (v := nI 1) hx hb dL_law_208 (by decide) ?_
        refine rp_iadd hx hb dL_law_209 ?_
        refine rp_sld hx hb hX hbl hbA hS (i := i + 1) (by omega) hL dL_law_210 ?_
        have hPc := hP.sub (ws' := rp_mw h1 ae dE pr ba cn nu co) [0, 1, 2, 3] rfl
        have hDc := hD.sub (ws' := rp_mw h1 ae dE pr ba cn nu co) [0, 1, 2, 3] (by decide) rfl
        have hFc := va_free (wc := rp_mw h1 ae dE pr ba cn nu co) hD hS hA [0, 1, 2, 3] rfl
        refine va_calli (va_runV (As := [.int (xs (i + 1))]) (rest := [.int (rp_a_plan (rp_SL pr ba) (xs (i + 1)))]) ⟨hx, hb, hml, hown, hts⟩ (metX1_plan l dC dI h1 ae dE H.size pr ba cn nu co (rp_SL pr ba) (xs (i + 1)) hpr rp_SL_eq rp_SL_len) (cwV 1 hts (lw_V q225 q226 q227 q13 q228) rfl rfl rfl (by decide +kernel) ⟨Nat.le_of_ble_eq_true rfl, Nat.le_of_ble_eq_true rfl⟩) ⟨fun a U g mk q => by obtain ⟨q0, q1, qP, qK, qD⟩ := q; exact ⟨q0, q1, qP, va_K.moved (u := U) (U := U.calling g mk a) (Vm.Alike.refl U.vm) qK, qD⟩, va_recv hKm hPc (ci := 1) (q0 := 0) rfl rfl, fun U hU hW => ⟨rfl, by rw [hU], by rw [hU]; exact hPc, va_K.moved hW.alike hKm, hDc.weaken (fun _ _ _ _ => trivial)⟩⟩ rfl rfl hl.1 rfl (lv_room (Nat.le_of_ble_eq_true rfl)) dL_law_211 ⟨Nat.le_of_ble_eq_true rfl, Nat.le_of_ble_eq_true rfl⟩) hS (fun q _ h => hFc q h) hFc (fun r u_ t H1 locs ht hvm hw hB hz1 hk1 hS => ?_)
        obtain ⟨hP1, hK1, hD1⟩ := hB
        rw [ht] at hP1
        obtain ⟨cn2, nu2, co2⟩ := u_
        have hw : r = rp_a_plan (rp_SL pr ba) (xs (i + 1)) := hw
        subst hw
        obtain ⟨hP, hD⟩ := va_join (wr := rp_xw h0 ad dA pr ba st2 en2 fo2 pl2 pa2 wa2 fx2 wo2 ch2 fw2 wt2 fp2 5 pt2 u2 v2 ho2 be2 sl2 se2) (w1 := rp_mw h1 ae dE pr ba cn2 nu2 co2) hP hD [0, 1, 2, 3] [4, 5, 6, 7, 8, 9, 10, 11, 12, 13, 14, 15, 16, 17] rfl rfl (by decide) (by decide) hk1 hFc hP1 hD1
        clear hPc hDc hFc hP1 hK1 hD1 hz1 hk1 ht hvm
        generalize H1 = H at hP hS ⊢
        have hP : va_P (dC, dI) rp_cl (rp_xw h0 ad dA pr ba st2 en2 fo2 pl2 pa2 wa2 fx2 wo2 ch2 fw2 wt2 fp2 5 pt2 u2 v2 ho2 be2 sl2 se2 ++ rp_mw h1 ae dE pr ba cn2 nu2 co2) H := hP
        have hD : va_D (fun q : Nat => s.heap.size ≤ q) (rp_xw h0 ad dA pr ba st2 en2 fo2 pl2 pa2 wa2 fx2 wo2 ch2 fw2 wt2 fp2 5 pt2 u2 v2 ho2 be2 sl2 se2 ++ rp_mw h1 ae dE pr ba cn2 nu2 co2) := hD
        refine lv_icmp_eq (tgt := 331) hx hb dL_law_214 (by decide) (fun c_9 => ?_) (fun c_9 => ?_)
        · exact L331 pr ba st2 en2 fo2 pl2 pa2 wa2 fx2 wo2 ch2 fw2 wt2 fp2 pt2 u2 v2 ho2 be2 sl2 se2 cn2 nu2 co2 hpr2 hJ2 hpt2 _ _ hP hD hS
        · exact absurd rfl c_9
      · refine lv_tableIn (off := 187) (tgt := 219) hx hb dL_law_32 (by decide +kernel) (by decide +kernel) (by decide +kernel) (by decide) ?_
        refine lv_aload_n hx hb dL_law_219 rfl (lv_at hl 1 rfl) ?_
        refine lv_aload_n hx hb dL_law_220 rfl (lv_at hl 0 rfl) ?_
        refine lv_iload_n hx hb dL_law_221 rfl (lv_at hl 3 rfl) ?_
        refine lv_iconst (v := nI 1) hx hb dL_law_222 (by decide) ?_
        refine rp_iadd hx hb dL_law_223 ?_
        refine rp_sld hx hb hX hbl hbA hS (i := i + 1) (by omega) hL dL_law_224 ?_
        refine lv_aload_n hx hb dL_law_225 rfl (lv_at hl 0 rfl) ?_
        refine lv_iload_n hx hb dL_law_226 rfl (lv_at hl 3 rfl) ?_
        refine lv_iconst (v := nI 2) hx hb dL_law_227 (by decide) ?_
        refine rp_iadd hx hb dL_law_228 ?_
        refine rp_sld hx hb hX hbl hbA hS (i := i + 2) (by omega) hL dL_law_229 ?_
        have hPc := hP.sub (ws' := rp_xw h0 ad dA pr ba st en fo pl pa wa fx wo ch fw wt fp 5 pt u v ho be sl se) [0, 1, 2, 3, 4, 5, 6, 7, 8, 9, 10, 11, 12, 13] rfl
        have hDc := hD.sub (ws' := rp_xw h0 ad dA pr ba st en fo pl pa wa fx wo ch fw wt fp 5 pt u v ho be sl se) [0, 1, 2, 3, 4, 5, 6, 7, 8, 9, 10, 11, 12, 13] (by decide) rfl
        have hFc := va_free (wc := rp_xw h0 ad dA pr ba st en fo pl pa wa fx wo ch fw wt fp 5 pt u v ho be sl se) hD hS hA [0, 1, 2, 3, 4, 5, 6, 7, 8, 9, 10, 11, 12, 13] rfl
        refine va_calli (va_runV (As := [.int (xs (i + 1)), .int (xs (i + 2))]) (rest := []) ⟨hx, hb, hml, hown, hts⟩ (metX0_task l dC dI h0 ad dA H.size pr ba st en fo pl pa wa fx wo ch fw wt fp 5 pt u v ho be sl se (rp_SL pr ba) (xs (i + 1)) (xs (i + 2)) hpr rp_SL_RL rp_SL_len rfl hpt hJ) (cwV 2 hts (lw_V q160 q161 q162 q12 q163) rfl rfl rfl (by decide +kernel) ⟨Nat.le_of_ble_eq_true rfl, Nat.le_of_ble_eq_true rfl⟩) ⟨fun a U g mk q => by obtain ⟨q0, q1, qP, qK, qD⟩ := q; exact ⟨q0, q1, qP, va_K.moved (u := U) (U := U.calling g mk a) (Vm.Alike.refl U.vm) qK, qD⟩, va_recv hKx hPc (ci := 0) (q0 := 0) rfl rfl, fun U hU hW => ⟨rfl, by rw [hU], by rw [hU]; exact hPc, va_K.moved hW.alike hKx, hDc.weaken (fun _ _ _ _ => trivial)⟩⟩ rfl rfl hl.1 rfl (lv_room (Nat.le_of_ble_eq_true rfl)) dL_law_230 ⟨Nat.le_of_ble_eq_true rfl, Nat.le_of_ble_eq_true rfl⟩) hS (fun q _ h => hFc q h) hFc (fun r u_ t H1 locs ht hvm hw hB hz1 hk1 hS => ?_)
        obtain ⟨hP1, hK1, hD1⟩ := hB
        rw [ht] at hP1
        obtain ⟨st2, en2, fo2, pl2, pa2, wa2, fx2, wo2, ch2, fw2, wt2, fp2, u2, v2, ho2, be2, sl2, se2, pt2⟩ := u_
        have hw : r = rp_a_task (rp_SL pr ba) (xs (i + 1)) (xs (i + 2)) ∧ rp_XJ pr ba (rp_SL pr ba) st2 en2 fo2 pl2 pa2 wa2 fx2 wo2 ch2 ∧ pt2 < 5 := hw
        obtain ⟨hr9, hJ2, hpt2⟩ := hw
        subst hr9
        have hpr2 := hpr
        obtain ⟨hP, hD⟩ := va_join (wr := rp_mw h1 ae dE pr ba cn nu co) (w1 := rp_xw h0 ad dA pr ba st2 en2 fo2 pl2 pa2 wa2 fx2 wo2 ch2 fw2 wt2 fp2 5 pt2 u2 v2 ho2 be2 sl2 se2) hP hD [0, 1, 2, 3, 4, 5, 6, 7, 8, 9, 10, 11, 12, 13] [14, 15, 16, 17] rfl rfl (by decide) (by decide) hk1 hFc hP1 hD1
        clear hPc hDc hFc hP1 hK1 hD1 hz1 hk1 ht hvm
        generalize H1 = H at hP hS ⊢
        have hP : va_P (dC, dI) rp_cl (rp_mw h1 ae dE pr ba cn nu co ++ rp_xw h0 ad dA pr ba st2 en2 fo2 pl2 pa2 wa2 fx2 wo2 ch2 fw2 wt2 fp2 5 pt2 u2 v2 ho2 be2 sl2 se2) H := hP
        have hD : va_D (fun q : Nat => s.heap.size ≤ q) (rp_mw h1 ae dE pr ba cn nu co ++ rp_xw h0 ad dA pr ba st2 en2 fo2 pl2 pa2 wa2 fx2 wo2 ch2 fw2 wt2 fp2 5 pt2 u2 v2 ho2 be2 sl2 se2) := hD
        refine lv_aload_n hx hb dL_law_233 rfl (lv_at hl 2 rfl) ?_
        refine lv_aload_n hx hb dL_law_234 rfl (lv_at hl 0 rfl) ?_
        refine lv_iload_n hx hb dL_law_235 rfl (lv_at hl 3 rfl) ?_
        refine lv_iconst (v := nI 1) hx hb dL_law_236 (by decide) ?_
        refine rp_iadd hx hb dL_law_237 ?_
        refine rp_sld hx hb hX hbl hbA hS (i := i + 1) (by omega) hL dL_law_238 ?_
        refine lv_aload_n hx hb dL_law_239 rfl (lv_at hl 0 rfl) ?_
        refine lv_iload_n hx hb dL_law_240 rfl (lv_at hl 3 rfl) ?_
        refine lv_iconst (v := nI 2) hx hb dL_law_241 (by decide) ?_
        refine rp_iadd hx hb dL_law_242 ?_
        refine rp_sld hx hb hX hbl hbA hS (i := i + 2) (by omega) hL dL_law_243 ?_
        have hPc := hP.sub (ws' := rp_mw h1 ae dE pr ba cn nu co) [0, 1, 2, 3] rfl
        have hDc := hD.sub (ws' := rp_mw h1 ae dE pr ba cn nu co) [0, 1, 2, 3] (by decide) rfl
        have hFc := va_free (wc := rp_mw h1 ae dE pr ba cn nu co) hD hS hA [0, 1, 2, 3] rfl
        refine va_calli (va_runV (As := [.int (xs (i + 1)), .int (xs (i + 2))]) (rest := [.int (rp_a_task (rp_SL pr ba) (xs (i + 1)) (xs (i + 2)))]) ⟨hx, hb, hml, hown, hts⟩ (metX1_task l dC dI h1 ae dE H.size pr ba cn nu co (rp_SL pr ba) (xs (i + 1)) (xs (i + 2)) hpr rp_SL_eq rp_SL_len) (cwV 2 hts (lw_V q229 q230 q231 q13 q232) rfl rfl rfl (by decide +kernel) ⟨Nat.le_of_ble_eq_true rfl, Nat.le_of_ble_eq_true rfl⟩) ⟨fun a U g mk q => by obtain ⟨q0, q1, qP, qK, qD⟩ := q; exact ⟨q0, q1, qP, va_K.moved (u := U) (U := U.calling g mk a) (Vm.Alike.refl U.vm) qK, qD⟩, va_recv hKm hPc (ci := 1) (q0 := 0) rfl rfl, fun U hU hW => ⟨rfl, by rw [hU], by rw [hU]; exact hPc, va_K.moved hW.alike hKm, hDc.weaken (fun _ _ _ _ => trivial)⟩⟩ rfl rfl hl.1 rfl (lv_room (Nat.le_of_ble_eq_true rfl)) dL_law_244 ⟨Nat.le_of_ble_eq_true rfl, Nat.le_of_ble_eq_true rfl⟩) hS (fun q _ h => hFc q h) hFc (fun r u_ t H1 locs ht hvm hw hB hz1 hk1 hS => ?_)
        obtain ⟨hP1, hK1, hD1⟩ := hB
        rw [ht] at hP1
        obtain ⟨cn2, nu2, co2⟩ := u_
        have hw : r = rp_a_task (rp_SL pr ba) (xs (i + 1)) (xs (i + 2)) := hw
        subst hw
        obtain ⟨hP, hD⟩ := va_join (wr := rp_xw h0 ad dA pr ba st2 en2 fo2 pl2 pa2 wa2 fx2 wo2 ch2 fw2 wt2 fp2 5 pt2 u2 v2 ho2 be2 sl2 se2) (w1 := rp_mw h1 ae dE pr ba cn2 nu2 co2) hP hD [0, 1, 2, 3] [4, 5, 6, 7, 8, 9, 10, 11, 12, 13, 14, 15, 16, 17] rfl rfl (by decide) (by decide) hk1 hFc hP1 hD1
        clear hPc hDc hFc hP1 hK1 hD1 hz1 hk1 ht hvm
        generalize H1 = H at hP hS ⊢
        have hP : va_P (dC, dI) rp_cl (rp_xw h0 ad dA pr ba st2 en2 fo2 pl2 pa2 wa2 fx2 wo2 ch2 fw2 wt2 fp2 5 pt2 u2 v2 ho2 be2 sl2 se2 ++ rp_mw h1 ae dE pr ba cn2 nu2 co2) H := hP
        have hD : va_D (fun q : Nat => s.heap.size ≤ q) (rp_xw h0 ad dA pr ba st2 en2 fo2 pl2 pa2 wa2 fx2 wo2 ch2 fw2 wt2 fp2 5 pt2 u2 v2 ho2 be2 sl2 se2 ++ rp_mw h1 ae dE pr ba cn2 nu2 co2) := hD
        refine lv_icmp_eq (tgt := 331) hx hb dL_law_247 (by decide) (fun c_9 => ?_) (fun c_9 => ?_)
        · exact L331 pr ba st2 en2 fo2 pl2 pa2 wa2 fx2 wo2 ch2 fw2 wt2 fp2 pt2 u2 v2 ho2 be2 sl2 se2 cn2 nu2 co2 hpr2 hJ2 hpt2 _ _ hP hD hS
        · exact absurd rfl c_9
      · refine lv_tableIn (off := 220) (tgt := 252) hx hb dL_law_32 (by decide +kernel) (by decide +kernel) (by decide +kernel) (by decide) ?_
        refine lv_aload_n hx hb dL_law_252 rfl (lv_at hl 1 rfl) ?_
        refine lv_aload_n hx hb dL_law_253 rfl (lv_at hl 0 rfl) ?_
        refine lv_iload_n hx hb dL_law_254 rfl (lv_at hl 3 rfl) ?_
        refine lv_iconst (v := nI 1) hx hb dL_law_255 (by decide) ?_
        refine rp_iadd hx hb dL_law_256 ?_
        refine rp_sld hx hb hX hbl hbA hS (i := i + 1) (by omega) hL dL_law_257 ?_
        have hPc := hP.sub (ws' := rp_xw h0 ad dA pr ba st en fo pl pa wa fx wo ch fw wt fp 5 pt u v ho be sl se) [0, 1, 2, 3, 4, 5, 6, 7, 8, 9, 10, 11, 12, 13] rfl
        have hDc := hD.sub (ws' := rp_xw h0 ad dA pr ba st en fo pl pa wa fx wo ch fw wt fp 5 pt u v ho be sl se) [0, 1, 2, 3, 4, 5, 6, 7, 8, 9, 10, 11, 12, 13] (by decide) rfl
        have hFc := va_free (wc := rp_xw h0 ad dA pr ba st en fo pl pa wa fx wo ch fw wt fp 5 pt u v ho be sl se) hD hS hA [0, 1, 2, 3, 4, 5, 6, 7, 8, 9, 10, 11, 12, 13] rfl
        refine va_calli (va_runV (As := [.int (xs (i + 1))]) (rest := []) ⟨hx, hb, hml, hown, hts⟩ (metX0_within l dC dI h0 ad dA H.size pr ba st en fo pl pa wa fx wo ch fw wt fp 5 pt u v ho be sl se (rp_SL pr ba) (xs (i + 1)) hpr rp_SL_RL rp_SL_len rfl hpt hJ) (cwV 1 hts (lw_V q164 q165 q166 q12 q167) rfl rfl rfl (by decide +kernel) ⟨Nat.le_of_ble_eq_true rfl, Nat.le_of_ble_eq_true rfl⟩) ⟨fun a U g mk q => by obtain ⟨q0, q1, qP, qK, qD⟩ := q; exact ⟨q0, q1, qP, va_K.moved (u := U) (U := U.calling g mk a) (Vm.Alike.refl U.vm) qK, qD⟩, va_recv hKx hPc (ci := 0) (q0 := 0) rfl rfl, fun U hU hW => ⟨rfl, by rw [hU], by rw [hU]; exact hPc, va_K.moved hW.alike hKx, hDc.weaken (fun _ _ _ _ => trivial)⟩⟩ rfl rfl hl.1 rfl (lv_room (Nat.le_of_ble_eq_true rfl)) dL_law_258 ⟨Nat.le_of_ble_eq_true rfl, Nat.le_of_ble_eq_true rfl⟩) hS (fun q _ h => hFc q h) hFc (fun r u_ t H1 locs ht hvm hw hB hz1 hk1 hS => ?_)
        obtain ⟨hP1, hK1, hD1⟩ := hB
        rw [ht] at hP1
        obtain ⟨st2, en2, fo2, pl2, pa2, wa2, fx2, wo2, ch2, fw2, wt2, fp2, u2, v2, ho2, be2, sl2, se2, pt2⟩ := u_
        have hw : r = rp_a_within (rp_SL pr ba) (xs (i + 1)) ∧ rp_XJ pr ba (rp_SL pr ba) st2 en2 fo2 pl2 pa2 wa2 fx2 wo2 ch2 ∧ pt2 < 5 := hw
        obtain ⟨hr9, hJ2, hpt2⟩ := hw
        subst hr9
        have hpr2 := hpr
        obtain ⟨hP, hD⟩ := va_join (wr := rp_mw h1 ae dE pr ba cn nu co) (w1 := rp_xw h0 ad dA pr ba st2 en2 fo2 pl2 pa2 wa2 fx2 wo2 ch2 fw2 wt2 fp2 5 pt2 u2 v2 ho2 be2 sl2 se2) hP hD [0, 1, 2, 3, 4, 5, 6, 7, 8, 9, 10, 11, 12, 13] [14, 15, 16, 17] rfl rfl (by decide) (by decide) hk1 hFc hP1 hD1
        clear hPc hDc hFc hP1 hK1 hD1 hz1 hk1 ht hvm
        generalize H1 = H at hP hS ⊢
        have hP : va_P (dC, dI) rp_cl (rp_mw h1 ae dE pr ba cn nu co ++ rp_xw h0 ad dA pr ba st2 en2 fo2 pl2 pa2 wa2 fx2 wo2 ch2 fw2 wt2 fp2 5 pt2 u2 v2 ho2 be2 sl2 se2) H := hP
        have hD : va_D (fun q : Nat => s.heap.size ≤ q) (rp_mw h1 ae dE pr ba cn nu co ++ rp_xw h0 ad dA pr ba st2 en2 fo2 pl2 pa2 wa2 fx2 wo2 ch2 fw2 wt2 fp2 5 pt2 u2 v2 ho2 be2 sl2 se2) := hD
        refine lv_aload_n hx hb dL_law_261 rfl (lv_at hl 2 rfl) ?_
        refine lv_aload_n hx hb dL_law_262 rfl (lv_at hl 0 rfl) ?_
        refine lv_iload_n hx hb dL_law_263 rfl (lv_at hl 3 rfl) ?_
        refine lv_iconst (v := nI 1) hx hb dL_law_264 (by decide) ?_
        refine rp_iadd hx hb dL_law_265 ?_
        refine rp_sld hx hb hX hbl hbA hS (i := i + 1) (by omega) hL dL_law_266 ?_
        have hPc := hP.sub (ws' := rp_mw h1 ae dE pr ba cn nu co) [0, 1, 2, 3] rfl
        have hDc := hD.sub (ws' := rp_mw h1 ae dE pr ba cn nu co) [0, 1, 2, 3] (by decide) rfl
        have hFc := va_free (wc := rp_mw h1 ae dE pr ba cn nu co) hD hS hA [0, 1, 2, 3] rfl
        refine va_calli (va_runV (As := [.int (xs (i + 1))]) (rest := [.int (rp_a_within (rp_SL pr ba) (xs (i + 1)))]) ⟨hx, hb, hml, hown, hts⟩ (metX1_within l dC dI h1 ae dE H.size pr ba cn nu co (rp_SL pr ba) (xs (i + 1)) hpr rp_SL_eq rp_SL_len) (cwV 1 hts (lw_V q233 q234 q235 q13 q236) rfl rfl rfl (by decide +kernel) ⟨Nat.le_of_ble_eq_true rfl, Nat.le_of_ble_eq_true rfl⟩) ⟨fun a U g mk q => by obtain ⟨q0, q1, qP, qK, qD⟩ := q; exact ⟨q0, q1, qP, va_K.moved (u := U) (U := U.calling g mk a) (Vm.Alike.refl U.vm) qK, qD⟩, va_recv hKm hPc (ci := 1) (q0 := 0) rfl rfl, fun U hU hW => ⟨rfl, by rw [hU], by rw [hU]; exact hPc, va_K.moved hW.alike hKm, hDc.weaken (fun _ _ _ _ => trivial)⟩⟩ rfl rfl hl.1 rfl (lv_room (Nat.le_of_ble_eq_true rfl)) dL_law_267 ⟨Nat.le_of_ble_eq_true rfl, Nat.le_of_ble_eq_true rfl⟩) hS (fun q _ h => hFc q h) hFc (fun r u_ t H1 locs ht hvm hw hB hz1 hk1 hS => ?_)
        obtain ⟨hP1, hK1, hD1⟩ := hB
        rw [ht] at hP1
        obtain ⟨cn2, nu2, co2⟩ := u_
        have hw : r = rp_a_within (rp_SL pr ba) (xs (i + 1)) := hw
        subst hw
        obtain ⟨hP, hD⟩ := va_join (wr := rp_xw h0 ad dA pr ba st2 en2 fo2 pl2 pa2 wa2 fx2 wo2 ch2 fw2 wt2 fp2 5 pt2 u2 v2 ho2 be2 sl2 se2) (w1 := rp_mw h1 ae dE pr ba cn2 nu2 co2) hP hD [0, 1, 2, 3] [4, 5, 6, 7, 8, 9, 10, 11, 12, 13, 14, 15, 16, 17] rfl rfl (by decide) (by decide) hk1 hFc hP1 hD1
        clear hPc hDc hFc hP1 hK1 hD1 hz1 hk1 ht hvm
        generalize H1 = H at hP hS ⊢
        have hP : va_P (dC, dI) rp_cl (rp_xw h0 ad dA pr ba st2 en2 fo2 pl2 pa2 wa2 fx2 wo2 ch2 fw2 wt2 fp2 5 pt2 u2 v2 ho2 be2 sl2 se2 ++ rp_mw h1 ae dE pr ba cn2 nu2 co2) H := hP
        have hD : va_D (fun q : Nat => s.heap.size ≤ q) (rp_xw h0 ad dA pr ba st2 en2 fo2 pl2 pa2 wa2 fx2 wo2 ch2 fw2 wt2 fp2 5 pt2 u2 v2 ho2 be2 sl2 se2 ++ rp_mw h1 ae dE pr ba cn2 nu2 co2) := hD
        refine lv_icmp_eq (tgt := 331) hx hb dL_law_270 (by decide) (fun c_9 => ?_) (fun c_9 => ?_)
        · exact L331 pr ba st2 en2 fo2 pl2 pa2 wa2 fx2 wo2 ch2 fw2 wt2 fp2 pt2 u2 v2 ho2 be2 sl2 se2 cn2 nu2 co2 hpr2 hJ2 hpt2 _ _ hP hD hS
        · exact absurd rfl c_9
      · refine lv_tableIn (off := 243) (tgt := 275) hx hb dL_law_32 (by decide +kernel) (by decide +kernel) (by decide +kernel) (by decide) ?_
        refine lv_aload_n hx hb dL_law_275 rfl (lv_at hl 1 rfl) ?_
        refine lv_aload_n hx hb dL_law_276 rfl (lv_at hl 0 rfl) ?_
        refine lv_iload_n hx hb dL_law_277 rfl (lv_at hl 3 rfl) ?_
        refine lv_iconst (v := nI 1) hx hb dL_law_278 (by decide) ?_
        refine rp_iadd hx hb dL_law_279 ?_
        refine rp_sld hx hb hX hbl hbA hS (i := i + 1) (by omega) hL dL_law_280 ?_
        have hPc := hP.sub (ws' := rp_xw h0 ad dA pr ba st en fo pl pa wa fx wo ch fw wt fp 5 pt u v ho be sl se) [0, 1, 2, 3, 4, 5, 6, 7, 8, 9, 10, 11, 12, 13] rfl
        have hDc := hD.sub (ws' := rp_xw h0 ad dA pr ba st en fo pl pa wa fx wo ch fw wt fp 5 pt u v ho be sl se) [0, 1, 2, 3, 4, 5, 6, 7, 8, 9, 10, 11, 12, 13] (by decide) rfl
        have hFc := va_free (wc := rp_xw h0 ad dA pr ba st en fo pl pa wa fx wo ch fw wt fp 5 pt u v ho be sl se) hD hS hA [0, 1, 2, 3, 4, 5, 6, 7, 8, 9, 10, 11, 12, 13] rfl
        refine va_calli (va_runV (As := [.int (xs (i + 1))]) (rest := []) ⟨hx, hb, hml, hown, hts⟩ (metX0_rank l dC dI h0 ad dA H.size pr ba st en fo pl pa wa fx wo ch fw wt fp 5 pt u v ho be sl se (rp_SL pr ba) (xs (i + 1)) hpr rp_SL_RL rp_SL_len rfl hpt hJ) (cwV 1 hts (lw_V q168 q169 q170 q12 q171) rfl rfl rfl (by decide +kernel) ⟨Nat.le_of_ble_eq_true rfl, Nat.le_of_ble_eq_true rfl⟩) ⟨fun a U g mk q => by obtain ⟨q0, q1, qP, qK, qD⟩ := q; exact ⟨q0, q1, qP, va_K.moved (u := U) (U := U.calling g mk a) (Vm.Alike.refl U.vm) qK, qD⟩, va_recv hKx hPc (ci := 0) (q0 := 0) rfl rfl, fun U hU hW => ⟨rfl, by rw [hU], by rw [hU]; exact hPc, va_K.moved hW.alike hKx, hDc.weaken (fun _ _ _ _ => trivial)⟩⟩ rfl rfl hl.1 rfl (lv_room (Nat.le_of_ble_eq_true rfl)) dL_law_281 ⟨Nat.le_of_ble_eq_true rfl, Nat.le_of_ble_eq_true rfl⟩) hS (fun q _ h => hFc q h) hFc (fun r u_ t H1 locs ht hvm hw hB hz1 hk1 hS => ?_)
        obtain ⟨hP1, hK1, hD1⟩ := hB
        rw [ht] at hP1
        obtain ⟨st2, en2, fo2, pl2, pa2, wa2, fx2, wo2, ch2, fw2, wt2, fp2, u2, v2, ho2, be2, sl2, se2, pt2⟩ := u_
        have hw : r = rp_a_rank (rp_SL pr ba) (xs (i + 1)) ∧ rp_XJ pr ba (rp_SL pr ba) st2 en2 fo2 pl2 pa2 wa2 fx2 wo2 ch2 ∧ pt2 < 5 := hw
        obtain ⟨hr9, hJ2, hpt2⟩ := hw
        subst hr9
        have hpr2 := hpr
        obtain ⟨hP, hD⟩ := va_join (wr := rp_mw h1 ae dE pr ba cn nu co) (w1 := rp_xw h0 ad dA pr ba st2 en2 fo2 pl2 pa2 wa2 fx2 wo2 ch2 fw2 wt2 fp2 5 pt2 u2 v2 ho2 be2 sl2 se2) hP hD [0, 1, 2, 3, 4, 5, 6, 7, 8, 9, 10, 11, 12, 13] [14, 15, 16, 17] rfl rfl (by decide) (by decide) hk1 hFc hP1 hD1
        clear hPc hDc hFc hP1 hK1 hD1 hz1 hk1 ht hvm
        generalize H1 = H at hP hS ⊢
        have hP : va_P (dC, dI) rp_cl (rp_mw h1 ae dE pr ba cn nu co ++ rp_xw h0 ad dA pr ba st2 en2 fo2 pl2 pa2 wa2 fx2 wo2 ch2 fw2 wt2 fp2 5 pt2 u2 v2 ho2 be2 sl2 se2) H := hP
        have hD : va_D (fun q : Nat => s.heap.size ≤ q) (rp_mw h1 ae dE pr ba cn nu co ++ rp_xw h0 ad dA pr ba st2 en2 fo2 pl2 pa2 wa2 fx2 wo2 ch2 fw2 wt2 fp2 5 pt2 u2 v2 ho2 be2 sl2 se2) := hD
        refine lv_aload_n hx hb dL_law_284 rfl (lv_at hl 2 rfl) ?_
        refine lv_aload_n hx hb dL_law_285 rfl (lv_at hl 0 rfl) ?_
        refine lv_iload_n hx hb dL_law_286 rfl (lv_at hl 3 rfl) ?_
        refine lv_iconst (v := nI 1) hx hb dL_law_287 (by decide) ?_
        refine rp_iadd hx hb dL_law_288 ?_
        refine rp_sld hx hb hX hbl hbA hS (i := i + 1) (by omega) hL dL_law_289 ?_
        have hPc := hP.sub (ws' := rp_mw h1 ae dE pr ba cn nu co) [0, 1, 2, 3] rfl
        have hDc := hD.sub (ws' := rp_mw h1 ae dE pr ba cn nu co) [0, 1, 2, 3] (by decide) rfl
        have hFc := va_free (wc := rp_mw h1 ae dE pr ba cn nu co) hD hS hA [0, 1, 2, 3] rfl
        refine va_calli (va_runV (As := [.int (xs (i + 1))]) (rest := [.int (rp_a_rank (rp_SL pr ba) (xs (i + 1)))]) ⟨hx, hb, hml, hown, hts⟩ (metX1_rank l dC dI h1 ae dE H.size pr ba cn nu co (rp_SL pr ba) (xs (i + 1)) hpr rp_SL_eq rp_SL_len) (cwV 1 hts (lw_V q237 q238 q239 q13 q240) rfl rfl rfl (by decide +kernel) ⟨Nat.le_of_ble_eq_true rfl, Nat.le_of_ble_eq_true rfl⟩) ⟨fun a U g mk q => by obtain ⟨q0, q1, qP, qK, qD⟩ := q; exact ⟨q0, q1, qP, va_K.moved (u := U) (U := U.calling g mk a) (Vm.Alike.refl U.vm) qK, qD⟩, va_recv hKm hPc (ci := 1) (q0 := 0) rfl rfl, fun U hU hW => ⟨rfl, by rw [hU], by rw [hU]; exact hPc, va_K.moved hW.alike hKm, hDc.weaken (fun _ _ _ _ => trivial)⟩⟩ rfl rfl hl.1 rfl (lv_room (Nat.le_of_ble_eq_true rfl)) dL_law_290 ⟨Nat.le_of_ble_eq_true rfl, Nat.le_of_ble_eq_true rfl⟩) hS (fun q _ h => hFc q h) hFc (fun r u_ t H1 locs ht hvm hw hB hz1 hk1 hS => ?_)
        obtain ⟨hP1, hK1, hD1⟩ := hB
        rw [ht] at hP1
        obtain ⟨cn2, nu2, co2⟩ := u_
        have hw : r = rp_a_rank (rp_SL pr ba) (xs (i + 1)) := hw
        subst hw
        obtain ⟨hP, hD⟩ := va_join (wr := rp_xw h0 ad dA pr ba st2 en2 fo2 pl2 pa2 wa2 fx2 wo2 ch2 fw2 wt2 fp2 5 pt2 u2 v2 ho2 be2 sl2 se2) (w1 := rp_mw h1 ae dE pr ba cn2 nu2 co2) hP hD [0, 1, 2, 3] [4, 5, 6, 7, 8, 9, 10, 11, 12, 13, 14, 15, 16, 17] rfl rfl (by decide) (by decide) hk1 hFc hP1 hD1
        clear hPc hDc hFc hP1 hK1 hD1 hz1 hk1 ht hvm
        generalize H1 = H at hP hS ⊢
        have hP : va_P (dC, dI) rp_cl (rp_xw h0 ad dA pr ba st2 en2 fo2 pl2 pa2 wa2 fx2 wo2 ch2 fw2 wt2 fp2 5 pt2 u2 v2 ho2 be2 sl2 se2 ++ rp_mw h1 ae dE pr ba cn2 nu2 co2) H := hP
        have hD : va_D (fun q : Nat => s.heap.size ≤ q) (rp_xw h0 ad dA pr ba st2 en2 fo2 pl2 pa2 wa2 fx2 wo2 ch2 fw2 wt2 fp2 5 pt2 u2 v2 ho2 be2 sl2 se2 ++ rp_mw h1 ae dE pr ba cn2 nu2 co2) := hD
        refine lv_icmp_eq (tgt := 331) hx hb dL_law_293 (by decide) (fun c_9 => ?_) (fun c_9 => ?_)
        · exact L331 pr ba st2 en2 fo2 pl2 pa2 wa2 fx2 wo2 ch2 fw2 wt2 fp2 pt2 u2 v2 ho2 be2 sl2 se2 cn2 nu2 co2 hpr2 hJ2 hpt2 _ _ hP hD hS
        · exact absurd rfl c_9
      · refine lv_tableIn (off := 266) (tgt := 298) hx hb dL_law_32 (by decide +kernel) (by decide +kernel) (by decide +kernel) (by decide) ?_
        refine lv_aload_n hx hb dL_law_298 rfl (lv_at hl 1 rfl) ?_
        refine lv_aload_n hx hb dL_law_299 rfl (lv_at hl 0 rfl) ?_
        refine lv_iload_n hx hb dL_law_300 rfl (lv_at hl 3 rfl) ?_
        refine lv_iconst (v := nI 1) hx hb dL_law_301 (by decide) ?_
        refine rp_iadd hx hb dL_law_302 ?_
        refine rp_sld hx hb hX hbl hbA hS (i := i + 1) (by omega) hL dL_law_303 ?_
        refine lv_aload_n hx hb dL_law_304 rfl (lv_at hl 0 rfl) ?_
        refine lv_iload_n hx hb dL_law_305 rfl (lv_at hl 3 rfl) ?_
        refine lv_iconst (v := nI 2) hx hb dL_law_306 (by decide) ?_
        refine rp_iadd hx hb dL_law_307 ?_
        refine rp_sld hx hb hX hbl hbA hS (i := i + 2) (by omega) hL dL_law_308 ?_
        have hPc := hP.sub (ws' := rp_xw h0 ad dA pr ba st en fo pl pa wa fx wo ch fw wt fp 5 pt u v ho be sl se) [0, 1, 2, 3, 4, 5, 6, 7, 8, 9, 10, 11, 12, 13] rfl
        have hDc := hD.sub (ws' := rp_xw h0 ad dA pr ba st en fo pl pa wa fx wo ch fw wt fp 5 pt u v ho be sl se) [0, 1, 2, 3, 4, 5, 6, 7, 8, 9, 10, 11, 12, 13] (by decide) rfl
        have hFc := va_free (wc := rp_xw h0 ad dA pr ba st en fo pl pa wa fx wo ch fw wt fp 5 pt u v ho be sl se) hD hS hA [0, 1, 2, 3, 4, 5, 6, 7, 8, 9, 10, 11, 12, 13] rfl
        refine va_calli (va_runV (As := [.int (xs (i + 1)), .int (xs (i + 2))]) (rest := []) ⟨hx, hb, hml, hown, hts⟩ (metX0_cheapestWith l dC dI h0 ad dA H.size pr ba st en fo pl pa wa fx wo ch fw wt fp 5 pt u v ho be sl se (rp_SL pr ba) (xs (i + 1)) (xs (i + 2)) hpr rp_SL_RL rp_SL_len rfl hpt hJ) (cwV 2 hts (lw_V q172 q173 q174 q12 q175) rfl rfl rfl (by decide +kernel) ⟨Nat.le_of_ble_eq_true rfl, Nat.le_of_ble_eq_true rfl⟩) ⟨fun a U g mk q => by obtain ⟨q0, q1, qP, qK, qD⟩ := q; exact ⟨q0, q1, qP, va_K.moved (u := U) (U := U.calling g mk a) (Vm.Alike.refl U.vm) qK, qD⟩, va_recv hKx hPc (ci := 0) (q0 := 0) rfl rfl, fun U hU hW => ⟨rfl, by rw [hU], by rw [hU]; exact hPc, va_K.moved hW.alike hKx, hDc.weaken (fun _ _ _ _ => trivial)⟩⟩ rfl rfl hl.1 rfl (lv_room (Nat.le_of_ble_eq_true rfl)) dL_law_309 ⟨Nat.le_of_ble_eq_true rfl, Nat.le_of_ble_eq_true rfl⟩) hS (fun q _ h => hFc q h) hFc (fun r u_ t H1 locs ht hvm hw hB hz1 hk1 hS => ?_)
        obtain ⟨hP1, hK1, hD1⟩ := hB
        rw [ht] at hP1
        obtain ⟨st2, en2, fo2, pl2, pa2, wa2, fx2, wo2, ch2, fw2, wt2, fp2, u2, v2, ho2, be2, sl2, se2, pt2⟩ := u_
        have hw : r = rp_a_with (rp_SL pr ba) (xs (i + 1)) (xs (i + 2)) ∧ rp_XJ pr ba (rp_SL pr ba) st2 en2 fo2 pl2 pa2 wa2 fx2 wo2 ch2 ∧ pt2 < 5 := hw
        obtain ⟨hr9, hJ2, hpt2⟩ := hw
        subst hr9
        have hpr2 := hpr
        obtain ⟨hP, hD⟩ := va_join (wr := rp_mw h1 ae dE pr ba cn nu co) (w1 := rp_xw h0 ad dA pr ba st2 en2 fo2 pl2 pa2 wa2 fx2 wo2 ch2 fw2 wt2 fp2 5 pt2 u2 v2 ho2 be2 sl2 se2) hP hD [0, 1, 2, 3, 4, 5, 6, 7, 8, 9, 10, 11, 12, 13] [14, 15, 16, 17] rfl rfl (by decide) (by decide) hk1 hFc hP1 hD1
        clear hPc hDc hFc hP1 hK1 hD1 hz1 hk1 ht hvm
        generalize H1 = H at hP hS ⊢
        have hP : va_P (dC, dI) rp_cl (rp_mw h1 ae dE pr ba cn nu co ++ rp_xw h0 ad dA pr ba st2 en2 fo2 pl2 pa2 wa2 fx2 wo2 ch2 fw2 wt2 fp2 5 pt2 u2 v2 ho2 be2 sl2 se2) H := hP
        have hD : va_D (fun q : Nat => s.heap.size ≤ q) (rp_mw h1 ae dE pr ba cn nu co ++ rp_xw h0 ad dA pr ba st2 en2 fo2 pl2 pa2 wa2 fx2 wo2 ch2 fw2 wt2 fp2 5 pt2 u2 v2 ho2 be2 sl2 se2) := hD
        refine lv_aload_n hx hb dL_law_312 rfl (lv_at hl 2 rfl) ?_
        refine lv_aload_n hx hb dL_law_313 rfl (lv_at hl 0 rfl) ?_
        refine lv_iload_n hx hb dL_law_314 rfl (lv_at hl 3 rfl) ?_
        refine lv_iconst (v := nI 1) hx hb dL_law_315 (by decide) ?_
        refine rp_iadd hx hb dL_law_316 ?_
        refine rp_sld hx hb hX hbl hbA hS (i := i + 1) (by omega) hL dL_law_317 ?_
        refine lv_aload_n hx hb dL_law_318 rfl (lv_at hl 0 rfl) ?_
        refine lv_iload_n hx hb dL_law_319 rfl (lv_at hl 3 rfl) ?_
        refine lv_iconst (v := nI 2) hx hb dL_law_320 (by decide) ?_
        refine rp_iadd hx hb dL_law_321 ?_
        refine rp_sld hx hb hX hbl hbA hS (i := i + 2) (by omega) hL dL_law_322 ?_
        have hPc := hP.sub (ws' := rp_mw h1 ae dE pr ba cn nu co) [0, 1, 2, 3] rfl
        have hDc := hD.sub (ws' := rp_mw h1 ae dE pr ba cn nu co) [0, 1, 2, 3] (by decide) rfl
        have hFc := va_free (wc := rp_mw h1 ae dE pr ba cn nu co) hD hS hA [0, 1, 2, 3] rfl
        refine va_calli (va_runV (As := [.int (xs (i + 1)), .int (xs (i + 2))]) (rest := [.int (rp_a_with (rp_SL pr ba) (xs (i + 1)) (xs (i + 2)))]) ⟨hx, hb, hml, hown, hts⟩ (metX1_cheapestWith l dC dI h1 ae dE H.size pr ba cn nu co (rp_SL pr ba) (xs (i + 1)) (xs (i + 2)) hpr rp_SL_eq rp_SL_len) (cwV 2 hts (lw_V q241 q242 q243 q13 q244) rfl rfl rfl (by decide +kernel) ⟨Nat.le_of_ble_eq_true rfl, Nat.le_of_ble_eq_true rfl⟩) ⟨fun a U g mk q => by obtain ⟨q0, q1, qP, qK, qD⟩ := q; exact ⟨q0, q1, qP, va_K.moved (u := U) (U := U.calling g mk a) (Vm.Alike.refl U.vm) qK, qD⟩, va_recv hKm hPc (ci := 1) (q0 := 0) rfl rfl, fun U hU hW => ⟨rfl, by rw [hU], by rw [hU]; exact hPc, va_K.moved hW.alike hKm, hDc.weaken (fun _ _ _ _ => trivial)⟩⟩ rfl rfl hl.1 rfl (lv_room (Nat.le_of_ble_eq_true rfl)) dL_law_323 ⟨Nat.le_of_ble_eq_true rfl, Nat.le_of_ble_eq_true rfl⟩) hS (fun q _ h => hFc q h) hFc (fun r u_ t H1 locs ht hvm hw hB hz1 hk1 hS => ?_)
        obtain ⟨hP1, hK1, hD1⟩ := hB
        rw [ht] at hP1
        obtain ⟨cn2, nu2, co2⟩ := u_
        have hw : r = rp_a_with (rp_SL pr ba) (xs (i + 1)) (xs (i + 2)) := hw
        subst hw
        obtain ⟨hP, hD⟩ := va_join (wr := rp_xw h0 ad dA pr ba st2 en2 fo2 pl2 pa2 wa2 fx2 wo2 ch2 fw2 wt2 fp2 5 pt2 u2 v2 ho2 be2 sl2 se2) (w1 := rp_mw h1 ae dE pr ba cn2 nu2 co2) hP hD [0, 1, 2, 3] [4, 5, 6, 7, 8, 9, 10, 11, 12, 13, 14, 15, 16, 17] rfl rfl (by decide) (by decide) hk1 hFc hP1 hD1
        clear hPc hDc hFc hP1 hK1 hD1 hz1 hk1 ht hvm
        generalize H1 = H at hP hS ⊢
        have hP : va_P (dC, dI) rp_cl (rp_xw h0 ad dA pr ba st2 en2 fo2 pl2 pa2 wa2 fx2 wo2 ch2 fw2 wt2 fp2 5 pt2 u2 v2 ho2 be2 sl2 se2 ++ rp_mw h1 ae dE pr ba cn2 nu2 co2) H := hP
        have hD : va_D (fun q : Nat => s.heap.size ≤ q) (rp_xw h0 ad dA pr ba st2 en2 fo2 pl2 pa2 wa2 fx2 wo2 ch2 fw2 wt2 fp2 5 pt2 u2 v2 ho2 be2 sl2 se2 ++ rp_mw h1 ae dE pr ba cn2 nu2 co2) := hD
        refine lv_icmp_eq (tgt := 331) hx hb dL_law_326 (by decide) (fun c_9 => ?_) (fun c_9 => ?_)
        · exact L331 pr ba st2 en2 fo2 pl2 pa2 wa2 fx2 wo2 ch2 fw2 wt2 fp2 pt2 u2 v2 ho2 be2 sl2 se2 cn2 nu2 co2 hpr2 hJ2 hpt2 _ _ hP hD hS
        · exact absurd rfl c_9
end
section
/-! the law from its entry; the rest is the skeleton's end -/
set_option maxRecDepth 100000
set_option maxHeartbeats 8000000 in
theorem whole_start {p : Program} {e : Env} {s : State} {m : MethodId} {below : List Frame} {meth : Method} {c : Code} (l : Launch) {b L : Nat} {xs : Nat → Int32} (hL : L ≤ 256) (C0 : lw_At p s m meth c b L xs) : W p l e room_1 s m #[Value.ref b] below meth c s.heap [] 0 0 (lw_Z below #[Value.ref b] s) (entryFrame m ([Value.ref b] : List Value).toArray 4) := by
  obtain ⟨hx, hb, hr, hml, hown, hts0, hX, hbl, hlocks, hgv⟩ := id C0
  have hown : s.vm.findClass "RankedPairsLaw" = some m.cls := hown
  have hts : ∀ w ∈ lw_all, w.before #[Value.ref b] s = true := fun w h => hts0 w (lw_all_tbl h)
  have hA : ∀ q : Nat, s.heap.size ≤ q → (fun q : Nat => s.heap.size ≤ q) q := fun _ h => h
  obtain ⟨c0, iS0, hKn0⟩ := u_known (C := RX0) (T := TX0) (N := 22) (n := 22) hts0 (fun w h => lw_all_tbl (in_X0 w h)) (hts _ q15)
  obtain ⟨c1, iS1, hKn1⟩ := u_known (C := RX1) (T := TX1) (N := 4) (n := 4) hts0 (fun w h => lw_all_tbl (in_X1 w h)) (hts _ q177)
  obtain ⟨dC, dI, hKc⟩ : ∃ (dC : Nat → ClassId) (dI : Nat → Nat → Nat), ∀ (k : Nat) (q : vw_C), rp_cl[k]? = some q → u_Kn s q.1 q.2.1 q.2.2 (dC k) (dI k) := by
    refine ⟨fun k => if k = 0 then c0 else c1, fun k => if k = 0 then iS0 else iS1, ?_⟩
    intro k q hq
    match k, hq with
    | 0, hq => cases hq; exact hKn0
    | 1, hq => cases hq; exact hKn1
    | k + 2, hq => simp [rp_cl] at hq
  have hS : va_S (fun q : Nat => s.heap.size ≤ q) s.heap s.heap [] := va_S.rf
  have hK : va_K (dC, dI) rp_cl [] s := ⟨hKc, fun k q h => by simp at h⟩
  have hP : va_P (dC, dI) rp_cl [] s.heap := fun k q h => by simp at h
  have hD : va_D (fun q : Nat => s.heap.size ≤ q) [] := ⟨fun i j p q h => by simp at h, fun k q h => by simp at h⟩
  have hl := lv_entry ([.ref b]) (n := 4) (Nat.le_of_ble_eq_true rfl)
  rw [lg_entry_eq]
  generalize (lg_sl ([.ref b]) ++ List.replicate (4 - (lg_sl ([.ref b])).length) Slot.unset).toArray = ls at hl ⊢
  have hl : lv_has ls 4 [(0, .ref b)] := hl
  have hK0 := hK
  refine va_new (ci := 0) (fs := [.null, .null, .int (rp_B false), .int (rp_B false), .int (nI 0), .null, .int (nI 0), .null, .null, .null, .null, .int (nI 0), .int (nI 0), .int (nI 0), .int (nI 0), .int (nI 0), .null, .null, .null, .null, .null, .null]) (C := RX0) (T := TX0) (N := 22) hx hb hts in_X0 tyX0 tyX0_ok hown (hts _ q14) (hts _ q15) (hts _ q12) hK0 hP hD hS hA rfl rp_fs0 (Nat.le_of_ble_eq_true rfl) (Nat.le_of_ble_eq_true rfl) dL_law_0 (fun h0 H hP hD hS => ?_)
  have hP : va_P (dC, dI) rp_cl (rp_w0 h0) H := hP
  have hD : va_D (fun q : Nat => s.heap.size ≤ q) (rp_w0 h0) := hD
  refine W.widen (k := 1) (n := 22) (Nat.le_of_ble_eq_true rfl) (Nat.le_of_ble_eq_true rfl) ?_
  refine lv_dup hx hb dL_law_3 rfl ?_
  have hPc := hP.sub (ws' := rp_w0 h0) [0] rfl
  have hDc := hD.sub (ws' := rp_w0 h0) [0] (by decide) rfl
  have hFc := va_free (wc := rp_w0 h0) hD hS hA [0] rfl
  refine va_callv (va_runI (As := []) (rest := [.ref h0]) ⟨hx, hb, hml, hown, hts⟩ (metX0_init l dC dI h0 H.size) (cwI 0 hts (lw_meth q18) rfl rfl rfl (hts _ q12) (hts _ q16) (hts _ q17) rfl (by decide +kernel) ⟨Nat.le_of_ble_eq_true rfl, Nat.le_of_ble_eq_true rfl⟩) ⟨fun a U g mk q => by obtain ⟨q0, q1, qP, qK, qD⟩ := q; exact ⟨q0, q1, qP, va_K.moved (u := U) (U := U.calling g mk a) (Vm.Alike.refl U.vm) qK, qD⟩, fun U hU hW => ⟨rfl, by rw [hU], by rw [hU]; exact hPc, va_K.moved hW.alike hK, hDc.weaken (fun _ _ _ _ => trivial)⟩⟩ rfl rfl hl.1 rfl (lv_room (Nat.le_of_ble_eq_true rfl)) dL_law_4 ⟨Nat.le_of_ble_eq_true rfl, Nat.le_of_ble_eq_true rfl⟩) hS (fun q _ h => hFc q h) hFc (fun u_ t H1 locs ht hvm hw hB hz1 hk1 hS => ?_)
  obtain ⟨ad, dA⟩ := u_
  obtain ⟨hP1, hK1, hD1⟩ := hB
  rw [ht] at hP1
  have hKx := va_K.moved hvm.symm hK1
  obtain ⟨hP, hD⟩ := va_join (wr := []) (w1 := rp_xw h0 ad dA (fun _ => 0) (fun _ => false) false false 0 (fun _ => 0) 0 (fun _ => false) (fun _ => 0) (fun _ => 0) (fun _ => 0) 0 0 0 5 0 (fun _ => 0) (fun _ => 0) (fun _ => 0) (fun _ => 0) (fun _ => 0) (fun _ => false)) hP hD [0] [] rfl rfl (by decide) (by decide) hk1 hFc hP1 hD1
  clear hPc hDc hFc hP1 hK1 hD1 hz1 hk1 ht hvm hw
  generalize H1 = H at hP hS ⊢
  have hP : va_P (dC, dI) rp_cl (rp_xw h0 ad dA (fun _ => 0) (fun _ => false) false false 0 (fun _ => 0) 0 (fun _ => false) (fun _ => 0) (fun _ => 0) (fun _ => 0) 0 0 0 5 0 (fun _ => 0) (fun _ => 0) (fun _ => 0) (fun _ => 0) (fun _ => 0) (fun _ => false)) H := hP
  have hD : va_D (fun q : Nat => s.heap.size ≤ q) (rp_xw h0 ad dA (fun _ => 0) (fun _ => false) false false 0 (fun _ => 0) 0 (fun _ => false) (fun _ => 0) (fun _ => 0) (fun _ => 0) 0 0 0 5 0 (fun _ => 0) (fun _ => 0) (fun _ => 0) (fun _ => 0) (fun _ => 0) (fun _ => false)) := hD
  refine W.widen (k := 14) (n := 2788) (Nat.le_of_ble_eq_true rfl) (Nat.le_of_ble_eq_true rfl) ?_
  have hKx : va_K (dC, dI) rp_cl (rp_xk dA) s := hKx
  refine lv_astore_n (lv' := [(1, .ref h0), (0, .ref b)]) hx hb dL_law_7 rfl hl (by decide) rfl (fun ls hl => ?_)
  refine va_new (ci := 1) (fs := [.null, .int (nI 0), .null, .null]) (C := RX1) (T := TX1) (N := 4) hx hb hts in_X1 tyX1 tyX1_ok hown (hts _ q176) (hts _ q177) (hts _ q13) hK0 hP hD hS hA rfl rp_fs1 (Nat.le_of_ble_eq_true rfl) (Nat.le_of_ble_eq_true rfl) dL_law_8 (fun h1 H hP hD hS => ?_)
  have hP : va_P (dC, dI) rp_cl (rp_xw h0 ad dA (fun _ => 0) (fun _ => false) false false 0 (fun _ => 0) 0 (fun _ => false) (fun _ => 0) (fun _ => 0) (fun _ => 0) 0 0 0 5 0 (fun _ => 0) (fun _ => 0) (fun _ => 0) (fun _ => 0) (fun _ => 0) (fun _ => false) ++ rp_w1 h1) H := hP
  have hD : va_D (fun q : Nat => s.heap.size ≤ q) (rp_xw h0 ad dA (fun _ => 0) (fun _ => false) false false 0 (fun _ => 0) 0 (fun _ => false) (fun _ => 0) (fun _ => 0) (fun _ => 0) 0 0 0 5 0 (fun _ => 0) (fun _ => 0) (fun _ => 0) (fun _ => 0) (fun _ => 0) (fun _ => false) ++ rp_w1 h1) := hD
  refine W.widen (k := 15) (n := 2792) (Nat.le_of_ble_eq_true rfl) (Nat.le_of_ble_eq_true rfl) ?_
  refine lv_dup hx hb dL_law_11 rfl ?_
  have hPc := hP.sub (ws' := rp_w1 h1) [14] rfl
  have hDc := hD.sub (ws' := rp_w1 h1) [14] (by decide) rfl
  have hFc := va_free (wc := rp_w1 h1) hD hS hA [14] rfl
  refine va_callv (va_runI (As := []) (rest := [.ref h1]) ⟨hx, hb, hml, hown, hts⟩ (metX1_init l dC dI h1 H.size) (cwI 0 hts (lw_meth q180) rfl rfl rfl (hts _ q13) (hts _ q178) (hts _ q179) rfl (by decide +kernel) ⟨Nat.le_of_ble_eq_true rfl, Nat.le_of_ble_eq_true rfl⟩) ⟨fun a U g mk q => by obtain ⟨q0, q1, qP, qK, qD⟩ := q; exact ⟨q0, q1, qP, va_K.moved (u := U) (U := U.calling g mk a) (Vm.Alike.refl U.vm) qK, qD⟩, fun U hU hW => ⟨rfl, by rw [hU], by rw [hU]; exact hPc, va_K.moved hW.alike hK, hDc.weaken (fun _ _ _ _ => trivial)⟩⟩ rfl rfl hl.1 rfl (lv_room (Nat.le_of_ble_eq_true rfl)) dL_law_12 ⟨Nat.le_of_ble_eq_true rfl, Nat.le_of_ble_eq_true rfl⟩) hS (fun q _ h => hFc q h) hFc (fun u_ t H1 locs ht hvm hw hB hz1 hk1 hS => ?_)
  obtain ⟨ae, dE⟩ := u_
  obtain ⟨hP1, hK1, hD1⟩ := hB
  rw [ht] at hP1
  have hKm := va_K.moved hvm.symm hK1
  obtain ⟨hP, hD⟩ := va_join (wr := rp_xw h0 ad dA (fun _ => 0) (fun _ => false) false false 0 (fun _ => 0) 0 (fun _ => false) (fun _ => 0) (fun _ => 0) (fun _ => 0) 0 0 0 5 0 (fun _ => 0) (fun _ => 0) (fun _ => 0) (fun _ => 0) (fun _ => 0) (fun _ => false)) (w1 := rp_mw h1 ae dE (fun _ => 0) (fun _ => false) 0 (fun _ => 0) (fun _ => 0)) hP hD [14] [0, 1, 2, 3, 4, 5, 6, 7, 8, 9, 10, 11, 12, 13] rfl rfl (by decide) (by decide) hk1 hFc hP1 hD1
  clear hPc hDc hFc hP1 hK1 hD1 hz1 hk1 ht hvm hw
  generalize H1 = H at hP hS ⊢
  have hP : va_P (dC, dI) rp_cl (rp_xw h0 ad dA (fun _ => 0) (fun _ => false) false false 0 (fun _ => 0) 0 (fun _ => false) (fun _ => 0) (fun _ => 0) (fun _ => 0) 0 0 0 5 0 (fun _ => 0) (fun _ => 0) (fun _ => 0) (fun _ => 0) (fun _ => 0) (fun _ => false) ++ rp_mw h1 ae dE (fun _ => 0) (fun _ => false) 0 (fun _ => 0) (fun _ => 0)) H := hP
  have hD : va_D (fun q : Nat => s.heap.size ≤ q) (rp_xw h0 ad dA (fun _ => 0) (fun _ => false) false false 0 (fun _ => 0) 0 (fun _ => false) (fun _ => 0) (fun _ => 0) (fun _ => 0) 0 0 0 5 0 (fun _ => 0) (fun _ => 0) (fun _ => 0) (fun _ => 0) (fun _ => 0) (fun _ => false) ++ rp_mw h1 ae dE (fun _ => 0) (fun _ => false) 0 (fun _ => 0) (fun _ => 0)) := hD
  refine W.widen (k := 18) (n := 3057) (Nat.le_of_ble_eq_true rfl) (Nat.le_of_ble_eq_true rfl) ?_
  have hKm : va_K (dC, dI) rp_cl (rp_mk dE) s := hKm
  refine lv_astore_n (lv' := [(2, .ref h1), (1, .ref h0), (0, .ref b)]) hx hb dL_law_15 rfl hl (by decide) rfl (fun ls hl => ?_)
  refine lv_iconst (v := nI 0) hx hb dL_law_16 (by decide) ?_
  refine lv_istore_n (lv' := [(3, .int (nI 0)), (2, .ref h1), (1, .ref h0), (0, .ref b)]) hx hb dL_law_17 rfl hl (by decide) rfl (fun ls hl => ?_)
  exact rp_loop hL C0 hKx hKm (L + 2) 0 (fun _ => 0) (fun _ => false) false false 0 (fun _ => 0) 0 (fun _ => false) (fun _ => 0) (fun _ => 0) (fun _ => 0) 0 0 0 0 (fun _ => 0) (fun _ => 0) (fun _ => 0) (fun _ => 0) (fun _ => 0) (fun _ => false) 0 (fun _ => 0) (fun _ => 0) (by omega) (by omega) (fun _ _ => by decide) (fun h => by cases h) (by omega) _ _ hP hD hS ls (lv_sub hl [3, 2, 1, 0] rfl)
set_option maxHeartbeats 4000000 in
theorem lw_walk (l : Launch) (b : Addr) (xs : List Int32) : MetFree l x (headSpec (Jvm.Cond.code x code maxLocals ret :: tables_1) room_1) (lw_P b xs) (fun _ _ _ _ _ => True) lw_Q := by
  refine MetFree.of_bodyS (code := code) (maxLocals := maxLocals) (ret := ret) (by decide) ?_ ?_
  · intro args s m h hn
    obtain ⟨meth, c, h1, h2, h3, h4, h5, h6, -, -⟩ := Cond.code_spec hn (atoms_spec (ws := Jvm.Cond.code x code maxLocals ret :: tables_1) h _ List.mem_cons_self)
    exact ⟨meth, c, h1, h2, h3, h4, h5, h6⟩
  · intro p e s m args below meth c s₁ B hml0 hP _
    obtain ⟨rfl, hx, hbd, hgv⟩ := hP
    obtain ⟨scr, harrAt, hlist, hof, hsmall⟩ := hx
    obtain ⟨hcb, hkn, -, -⟩ := State.arrayAt?_spec harrAt
    have hown : s.vm.findClass R_law = some m.cls := findClass_of_methodNamed B.named
    have hts0 : ∀ c ∈ (Jvm.Cond.code x code maxLocals ret :: tables_1), c.before #[Value.ref b] s = true := atoms_spec (ws := Jvm.Cond.code x code maxLocals ret :: tables_1) B.pre
    have hts : ∀ w ∈ lw_tbl, w.before #[Value.ref b] s = true := k2_hts_sels lw_privs (fun w hw => hts0 w (List.mem_cons_of_mem _ hw)) lw_privs_ok
    have hml : c.maxLocals = 4 := B.maxLocals_eq (hts0 _ List.mem_cons_self)
    have X₀ : Stand p l e room_1 s m #[Value.ref b] below meth c s₁ [] 0 0 := Stand.of_body B
    have hh0 : s₁.heap = s.heap := by rw [B.state]; rfl
    have hsz : scr.slots.size = xs.length := by rw [← Array.length_toList, hlist, List.length_map]
    have hval : ∀ j : Nat, j < xs.length → scr.slots[j]? = some (.int (xs.getD j 0)) := fun j hj => by
      rw [← Array.getElem?_toList, hlist]
      simp [hj]
    have hbl : b < s.heap.size := (Array.getElem?_eq_some_iff.mp hcb).1
    have hX : va_X b xs.length (fun j => xs.getD j 0) s s.heap := ⟨scr, hcb, hof, hkn, hsz, hval⟩
    have K : W p l e room_1 s m #[Value.ref b] below meth c s₁.heap [] 0 0 (lw_Z below #[Value.ref b] s) (entryFrame m ([Value.ref b] : List Value).toArray 4) := by
      rw [hh0]
      exact whole_start l hbd ⟨B.exec, B.bytes, B.returns, hml, hown, hts, hX, hbl, B.notSynchronized, hgv⟩
    obtain ⟨t, a1, o, b1, b2, b3⟩ := K s₁ rfl X₀
    exact ⟨t, o, a1, b1, b2, b3⟩
theorem lw_pre_spec {args : Array Value} {s : State} (h : (Jvm.Cond.and given_1 narrow_1).before args s = true) (hr : rest_1_c.before args s = true) : ∃ (b : Addr) (xs : List Int32), lw_P b xs args s := by
  have hs := flat_of_before _ h
  have hq := flat_of_before _ hr
  have hc : (Cond.count 1).before args s = true := hs _ (by decide +kernel)
  have harr : (Cond.arrayOf (.arg 0) .int).before args s = true := hs _ (by decide +kernel)
  have hle : (Cond.le (.length (.arg 0)) (.int 256)).before args s = true := hs _ (by decide +kernel)
  have hlen : (Cond.isInt (.length (.arg 0))).before args s = true := hq _ (by decide +kernel)
  have hall : (Cond.all (.arg 0) (.isInt (.elem (.arg 0) (.index 0)))).before args s = true := hq _ (by decide +kernel)
  obtain ⟨b, xs, hb, hx⟩ := State.ints_of_pre rfl harr hlen hall
  have hsm : xs.length < 2 ^ 31 := hx.choose_spec.2.2.2
  have hev : (Term.length (.arg 0)).eval args s none [] s = some (.int xs.length.toInt32) := hx.length_eval hb
  have hv := Cond.le_ints hev (show (Term.int 256).eval args s none [] s = some (.int 256) from rfl)
  have hd : xs.length.toInt32 ≤ 256 := by
    simpa [Cond.before, Cond.holds, hv] using hle
  have hN : xs.length ≤ 256 := (Int32.ofNat_le_ofNat hsm (by decide)).mp (show Int32.ofNat xs.length ≤ Int32.ofNat 256 from hd)
  exact ⟨b, xs, Cond.one_arg hc (show args[0]? = some (.ref b) from hb), hx, hN, h⟩
theorem lw_comes (l : Launch) : Comes l x (Jvm.Cond.code x code maxLocals ret :: tables_1) room_1 (fun tb e args s => Calls_1 tb e args s ∧ rest_1 tb e args s ∧ Pre_1 tb e args s)
    (fun _ _ args s o t => lw_Q args s o t) := by
  intro p e ha hc hk s m args below hf hfit hheap happ hpre
  obtain ⟨b, xs, hP⟩ := lw_pre_spec hpre.2.2 hpre.2.1
  obtain ⟨k, o, h1, h2, h3, hQ⟩ := lw_walk l b xs p e ha hc hk s m args below hf ((Spec.applies_iff_loose hf).mp happ).1 hP trivial
  exact ⟨k, o, h1, h2, h3, hQ⟩
theorem lw_frame {s t : State} {o : Outcome} {args : Array Value} (h : Framed s o t [] 600000 7290000) :
    Framed s o t (fieldLocs frame_1_writes args s ++ arrayLocs frame_1_arrays args s ++ staticLocs frame_1_statics s) 600000 7290000 := h
theorem lw_limb (L : Cond) (hL : ∀ (args : Array Value) (s t : State), L.after args s (.returned (some (.int 1))) t = true) :
    ArmFor flags0 classFile x code maxLocals ret World_1 tables_1 room_1 Calls_1 rest_1 Pre_1
      (fun tb e a s o t => postC L tb e a s o t ∧ Framed s o t (fieldLocs frame_1_writes a s ++ arrayLocs frame_1_arrays a s ++ staticLocs frame_1_statics s) 600000 7290000) := by
  intro l _ _ _ p e ha hc hk s m args below hf hfit hheap happ hpre
  obtain ⟨k, o, h1, h2, h3, rfl, hF⟩ := lw_comes l p e ha hc hk s m args below hf hfit hheap happ hpre
  exact ⟨k, _, h1, h2, h3, hL args s _, lw_frame hF⟩
theorem i_vc : Claimed_1_1 ∧ Claimed_1_2 := ⟨lw_limb limb_1_1 (fun args s t => by simp [limb_1_1, Cond.after, Cond.holds, Cond.value]), lw_limb limb_1_2 (fun args s t => Cond.after_iff.mpr (by
  first | (rw [show limb_1_2 = Cond.eq .result (.int 1) from rfl, Cond.eq_ints (x := 1) (y := 1) rfl rfl]; simp; done) | (simp [limb_1_2, Cond.value, Term.eval]; done)))⟩
end
