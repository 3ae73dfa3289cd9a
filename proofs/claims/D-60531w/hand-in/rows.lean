section
-- ===== PART A: goes FIRST, ahead of the names: the tables' words, and 'selects' of the private methods out of them =====
/-- a private method of a class that the tables say can be made, by its rows of tables_1 -/
def lw_okq (q : MethodName × Nat) : Prop := (q.1.cls ≠ "java/lang/invoke/MethodHandle" ∧ q.1.cls ≠ "java/lang/invoke/VarHandle") ∧ Cond.instantiable q.1.cls q.2 ∈ tables_1 ∧ Cond.privateMethod q.1 ∈ tables_1 ∧ Cond.instanceMethod q.1 ∈ tables_1
set_option maxRecDepth 100000
theorem lw_p0 : lw_okq (⟨"ProductShelf", "weight", "(II)I"⟩, 8) := ⟨⟨by decide +kernel, by decide +kernel⟩, List.mem_of_getElem? (i := 4) rfl, List.mem_of_getElem? (i := 46) rfl, List.mem_of_getElem? (i := 47) rfl⟩
theorem lw_p1 : lw_okq (⟨"ProductShelf", "times", "(II)I"⟩, 8) := ⟨⟨by decide +kernel, by decide +kernel⟩, List.mem_of_getElem? (i := 4) rfl, List.mem_of_getElem? (i := 50) rfl, List.mem_of_getElem? (i := 51) rfl⟩
theorem lw_p2 : lw_okq (⟨"ProductShelf", "alter", "(III)V"⟩, 8) := ⟨⟨by decide +kernel, by decide +kernel⟩, List.mem_of_getElem? (i := 4) rfl, List.mem_of_getElem? (i := 54) rfl, List.mem_of_getElem? (i := 55) rfl⟩
theorem lw_p3 : lw_okq (⟨"ProductShelf", "mendLine", "(II)I"⟩, 8) := ⟨⟨by decide +kernel, by decide +kernel⟩, List.mem_of_getElem? (i := 4) rfl, List.mem_of_getElem? (i := 82) rfl, List.mem_of_getElem? (i := 83) rfl⟩
theorem lw_p4 : lw_okq (⟨"ProductShelf", "findLost", "(II)V"⟩, 8) := ⟨⟨by decide +kernel, by decide +kernel⟩, List.mem_of_getElem? (i := 4) rfl, List.mem_of_getElem? (i := 86) rfl, List.mem_of_getElem? (i := 87) rfl⟩
theorem lw_p5 : lw_okq (⟨"ProductShelf", "sumOf", "(I)I"⟩, 8) := ⟨⟨by decide +kernel, by decide +kernel⟩, List.mem_of_getElem? (i := 4) rfl, List.mem_of_getElem? (i := 90) rfl, List.mem_of_getElem? (i := 91) rfl⟩
theorem lw_p6 : lw_okq (⟨"ProductShelf", "mendOne", "(II)V"⟩, 8) := ⟨⟨by decide +kernel, by decide +kernel⟩, List.mem_of_getElem? (i := 4) rfl, List.mem_of_getElem? (i := 94) rfl, List.mem_of_getElem? (i := 95) rfl⟩
theorem lw_p7 : lw_okq (⟨"ProductShelf", "divide", "(II)I"⟩, 8) := ⟨⟨by decide +kernel, by decide +kernel⟩, List.mem_of_getElem? (i := 4) rfl, List.mem_of_getElem? (i := 98) rfl, List.mem_of_getElem? (i := 99) rfl⟩
theorem lw_p8 : lw_okq (⟨"ProductShelf", "mendTwo", "(II)V"⟩, 8) := ⟨⟨by decide +kernel, by decide +kernel⟩, List.mem_of_getElem? (i := 4) rfl, List.mem_of_getElem? (i := 102) rfl, List.mem_of_getElem? (i := 103) rfl⟩
theorem lw_p9 : lw_okq (⟨"ProductShelf", "keep", "(III)V"⟩, 8) := ⟨⟨by decide +kernel, by decide +kernel⟩, List.mem_of_getElem? (i := 4) rfl, List.mem_of_getElem? (i := 106) rfl, List.mem_of_getElem? (i := 107) rfl⟩
theorem lw_p10 : lw_okq (⟨"ProductShelfModel", "mendLine", "(II)I"⟩, 2) := ⟨⟨by decide +kernel, by decide +kernel⟩, List.mem_of_getElem? (i := 130) rfl, List.mem_of_getElem? (i := 171) rfl, List.mem_of_getElem? (i := 172) rfl⟩
def lw_privs_1 : List (MethodName × Nat) := [(⟨"ProductShelf", "weight", "(II)I"⟩, 8), (⟨"ProductShelf", "times", "(II)I"⟩, 8), (⟨"ProductShelf", "alter", "(III)V"⟩, 8), (⟨"ProductShelf", "mendLine", "(II)I"⟩, 8), (⟨"ProductShelf", "findLost", "(II)V"⟩, 8), (⟨"ProductShelf", "sumOf", "(I)I"⟩, 8), (⟨"ProductShelf", "mendOne", "(II)V"⟩, 8), (⟨"ProductShelf", "divide", "(II)I"⟩, 8), (⟨"ProductShelf", "mendTwo", "(II)V"⟩, 8), (⟨"ProductShelf", "keep", "(III)V"⟩, 8), (⟨"ProductShelfModel", "mendLine", "(II)I"⟩, 2)]
theorem lw_r1 : ∀ q ∈ lw_privs_1, lw_okq q := List.forall_mem_cons.mpr ⟨lw_p0, List.forall_mem_cons.mpr ⟨lw_p1, List.forall_mem_cons.mpr ⟨lw_p2, List.forall_mem_cons.mpr ⟨lw_p3, List.forall_mem_cons.mpr ⟨lw_p4, List.forall_mem_cons.mpr ⟨lw_p5, List.forall_mem_cons.mpr ⟨lw_p6, List.forall_mem_cons.mpr ⟨lw_p7, List.forall_mem_cons.mpr ⟨lw_p8, List.forall_mem_cons.mpr ⟨lw_p9, List.forall_mem_cons.mpr ⟨lw_p10, fun _ h => absurd h List.not_mem_nil⟩⟩⟩⟩⟩⟩⟩⟩⟩⟩⟩
def lw_privs : List (MethodName × Nat) := lw_privs_1
def lw_tbl : List Cond := k2_sels lw_privs ++ tables_1
theorem lw_privs_ok : ∀ q ∈ lw_privs, lw_okq q := lw_r1
-- ===== ONE list of words for every method: the tables' words that hold all through a run =====
def lw_all : List Cond := lw_tbl.filter goodWord
/-- a word of the tables by its place: claim/WORDS.tsv -/
theorem lw_w {w : Cond} (i : Nat) (h : lw_tbl[i]? = some w) (g : goodWord w = true) : w ∈ lw_all := List.mem_filter.mpr ⟨List.mem_of_getElem? h, g⟩
theorem lw_all_tbl {w : Cond} (h : w ∈ lw_all) : w ∈ lw_tbl := (List.mem_filter.mp h).1
theorem lw_self : GoodIn lw_all lw_all := fun w h => ⟨h, good_of_word (List.mem_filter.mp h).2⟩
/-- a class's field words, by their places -/
theorem lw_in (ws : List Cond) (ps : List Nat) (hp : ws = ps.filterMap (fun i => lw_tbl[i]?)) (hg : ws.all goodWord = true) : ∀ w ∈ ws, w ∈ lw_all := by
  intro w h
  have h1 := List.all_eq_true.mp hg w h
  rw [hp] at h
  obtain ⟨i, -, hi⟩ := List.mem_filterMap.mp h
  exact lw_w i hi h1
/-- the words of a contract for the method y with code b, L locals, answer r -/
abbrev ws_ (y : MethodName) (b : ByteArray) (L : Nat) (r : Option FieldType) : List Cond := Cond.code y b L r :: lw_all
theorem lw_meth {y : MethodName} {b : ByteArray} {L : Nat} {r : Option FieldType} (h : Cond.code y b L r ∈ lw_all) : GoodIn lw_all (ws_ y b L r) := by
  intro w hw
  rcases List.mem_cons.mp hw with e | e
  · rw [e]
    exact lw_self _ h
  · exact lw_self _ e
theorem lw_app {a c : List Cond} (ha : ∀ w ∈ a, w ∈ lw_all) (hc : GoodIn lw_all c) : GoodIn lw_all (a ++ c) := by
  intro w hw
  rcases List.mem_append.mp hw with e | e
  · exact lw_self w (ha w e)
  · exact hc w e
/-- what a call through an object asks: cwV n hts (lw_V ..) -/
theorem lw_V {own : String} {idx : Nat} {C : String} {y : MethodName} {b : ByteArray} {L : Nat} {r : Option FieldType} (h1 : Cond.methodLink own idx y ∈ lw_all) (h2 : Cond.instanceMethod y ∈ lw_all) (h3 : Cond.selects C y y ∈ lw_all) (h4 : Cond.initialized C ∈ lw_all) (h5 : Cond.code y b L r ∈ lw_all) : GoodIn lw_all (wsV own idx C y (ws_ y b L r)) := by
  refine lw_app ?_ (lw_meth h5)
  intro w hw
  simp only [List.mem_cons, List.not_mem_nil, or_false] at hw
  rcases hw with e | e | e | e
  · rw [e]; exact h1
  · rw [e]; exact h2
  · rw [e]; exact h3
  · rw [e]; exact h4
/-- what a static call asks: va_cwS n hts (lw_S ..) -/
theorem lw_S {own : String} {idx : Nat} {y : MethodName} {b : ByteArray} {L : Nat} {r : Option FieldType} (h1 : Cond.methodLink own idx y ∈ lw_all) (h2 : Cond.static y ∈ lw_all) (h3 : Cond.initialized y.cls ∈ lw_all) (h4 : Cond.code y b L r ∈ lw_all) : GoodIn lw_all (va_wsS own idx y (ws_ y b L r)) := by
  refine lw_app ?_ (lw_meth h4)
  intro w hw
  simp only [List.mem_cons, List.not_mem_nil, or_false] at hw
  rcases hw with e | e | e
  · rw [e]; exact h1
  · rw [e]; exact h2
  · rw [e]; exact h3
/-- the words of a contract for a method WITH HANDLERS (hh: its table) -/
abbrev wsW_ (y : MethodName) (b : ByteArray) (L : Nat) (r : Option FieldType) (hh : List (Nat × Nat × Nat × Nat)) : List Cond := Cond.codeWith y b L r hh :: lw_all
theorem lw_methW {y : MethodName} {b : ByteArray} {L : Nat} {r : Option FieldType} {hh : List (Nat × Nat × Nat × Nat)} (h : Cond.codeWith y b L r hh ∈ lw_all) : GoodIn lw_all (wsW_ y b L r hh) := by
  intro w hw
  rcases List.mem_cons.mp hw with e | e
  · rw [e]
    exact lw_self _ h
  · exact lw_self _ e
/-- any list of words by their places (lw_in), good -/
theorem lw_good {ws : List Cond} (h : ∀ w ∈ ws, w ∈ lw_all) : GoodIn lw_all ws := fun w hw => lw_self w (h w hw)
/-- what a call of a method with handlers asks: vx_cwVW n hts (lw_VW ..), vx_cwSW n hts (lw_SW ..) -/
theorem lw_VW {own : String} {idx : Nat} {C : String} {y : MethodName} {b : ByteArray} {L : Nat} {r : Option FieldType} {hh : List (Nat × Nat × Nat × Nat)} (h1 : Cond.methodLink own idx y ∈ lw_all) (h2 : Cond.instanceMethod y ∈ lw_all) (h3 : Cond.selects C y y ∈ lw_all) (h4 : Cond.initialized C ∈ lw_all) (h5 : Cond.codeWith y b L r hh ∈ lw_all) : GoodIn lw_all (wsV own idx C y (wsW_ y b L r hh)) := by
  refine lw_app ?_ (lw_methW h5)
  intro w hw
  simp only [List.mem_cons, List.not_mem_nil, or_false] at hw
  rcases hw with e | e | e | e
  · rw [e]; exact h1
  · rw [e]; exact h2
  · rw [e]; exact h3
  · rw [e]; exact h4
theorem lw_SW {own : String} {idx : Nat} {y : MethodName} {b : ByteArray} {L : Nat} {r : Option FieldType} {hh : List (Nat × Nat × Nat × Nat)} (h1 : Cond.methodLink own idx y ∈ lw_all) (h2 : Cond.static y ∈ lw_all) (h3 : Cond.initialized y.cls ∈ lw_all) (h4 : Cond.codeWith y b L r hh ∈ lw_all) : GoodIn lw_all (va_wsS own idx y (wsW_ y b L r hh)) := by
  refine lw_app ?_ (lw_methW h4)
  intro w hw
  simp only [List.mem_cons, List.not_mem_nil, or_false] at hw
  rcases hw with e | e | e
  · rw [e]; exact h1
  · rw [e]; exact h2
  · rw [e]; exact h3
/-- a word by its place in its run of the tables -/
theorem lw_at {r : List Cond} (hr : ∀ w ∈ r, w ∈ lw_tbl) {w : Cond} (i : Nat) (h : r[i]? = some w) : w ∈ lw_tbl := hr w (List.mem_of_getElem? h)
theorem lw_g {w : Cond} (h : w ∈ lw_tbl) (g : goodWord w = true) : w ∈ lw_all := List.mem_filter.mpr ⟨h, g⟩
theorem lw_ms : ∀ w ∈ k2_sels lw_privs, w ∈ lw_tbl := fun w h => show w ∈ k2_sels lw_privs ++ tables_1 from List.mem_append_left _ h
theorem lw_m0 : ∀ w ∈ tables_1, w ∈ lw_tbl := fun w h => show w ∈ k2_sels lw_privs ++ tables_1 from List.mem_append_right (k2_sels lw_privs) h
theorem qs0 : (Cond.selects "ProductShelf" ⟨"ProductShelf", "weight", "(II)I"⟩ ⟨"ProductShelf", "weight", "(II)I"⟩) ∈ lw_all := lw_g (lw_at lw_ms 0 rfl) rfl
theorem qs1 : (Cond.selects "ProductShelf" ⟨"ProductShelf", "times", "(II)I"⟩ ⟨"ProductShelf", "times", "(II)I"⟩) ∈ lw_all := lw_g (lw_at lw_ms 1 rfl) rfl
theorem qs2 : (Cond.selects "ProductShelf" ⟨"ProductShelf", "alter", "(III)V"⟩ ⟨"ProductShelf", "alter", "(III)V"⟩) ∈ lw_all := lw_g (lw_at lw_ms 2 rfl) rfl
theorem qs3 : (Cond.selects "ProductShelf" ⟨"ProductShelf", "mendLine", "(II)I"⟩ ⟨"ProductShelf", "mendLine", "(II)I"⟩) ∈ lw_all := lw_g (lw_at lw_ms 3 rfl) rfl
theorem qs4 : (Cond.selects "ProductShelf" ⟨"ProductShelf", "findLost", "(II)V"⟩ ⟨"ProductShelf", "findLost", "(II)V"⟩) ∈ lw_all := lw_g (lw_at lw_ms 4 rfl) rfl
theorem qs5 : (Cond.selects "ProductShelf" ⟨"ProductShelf", "sumOf", "(I)I"⟩ ⟨"ProductShelf", "sumOf", "(I)I"⟩) ∈ lw_all := lw_g (lw_at lw_ms 5 rfl) rfl
theorem qs6 : (Cond.selects "ProductShelf" ⟨"ProductShelf", "mendOne", "(II)V"⟩ ⟨"ProductShelf", "mendOne", "(II)V"⟩) ∈ lw_all := lw_g (lw_at lw_ms 6 rfl) rfl
theorem qs7 : (Cond.selects "ProductShelf" ⟨"ProductShelf", "divide", "(II)I"⟩ ⟨"ProductShelf", "divide", "(II)I"⟩) ∈ lw_all := lw_g (lw_at lw_ms 7 rfl) rfl
theorem qs8 : (Cond.selects "ProductShelf" ⟨"ProductShelf", "mendTwo", "(II)V"⟩ ⟨"ProductShelf", "mendTwo", "(II)V"⟩) ∈ lw_all := lw_g (lw_at lw_ms 8 rfl) rfl
theorem qs9 : (Cond.selects "ProductShelf" ⟨"ProductShelf", "keep", "(III)V"⟩ ⟨"ProductShelf", "keep", "(III)V"⟩) ∈ lw_all := lw_g (lw_at lw_ms 9 rfl) rfl
theorem qs10 : (Cond.selects "ProductShelfModel" ⟨"ProductShelfModel", "mendLine", "(II)I"⟩ ⟨"ProductShelfModel", "mendLine", "(II)I"⟩) ∈ lw_all := lw_g (lw_at lw_ms 10 rfl) rfl
end
section
set_option maxRecDepth 100000
def RX0 : String := "ProductShelf"
def TX0 : u_T := fun k => match k with
  | 0 => ("ProductShelf", "symbol", "[I", true)
  | 1 => ("ProductShelf", "gone", "[Z", true)
  | 2 => ("ProductShelf", "power", "[I", true)
  | 3 => ("ProductShelf", "logarithm", "[I", true)
  | 4 => ("ProductShelf", "line", "[I", true)
  | 5 => ("ProductShelf", "firstLost", "I", false)
  | 6 => ("ProductShelf", "secondLost", "I", false)
  | _ => ("ProductShelf", "lostCount", "I", false)
def tyX0 : Nat → FieldType := fun k => match k with
  | 0 => .array .int
  | 1 => .array .boolean
  | 2 => .array .int
  | 3 => .array .int
  | 4 => .array .int
  | 5 => .int
  | 6 => .int
  | _ => .int
abbrev wsX00 : List Cond := u_ws RX0 TX0 8
theorem nmX0 : ∀ a, a < 8 → ∀ b, b < 8 → a ≠ b → (TX0 a).2.1 ≠ (TX0 b).2.1 := by decide +kernel
theorem tyX0_ok : ∀ k, k < 8 → parseFieldDescriptor (TX0 k).2.2.1 = some (tyX0 k) := by decide +kernel
abbrev cX0_init : ByteArray := prog_1_method_1_code
def yX0_init : MethodName := ⟨RX0, "<init>", "()V"⟩
abbrev cX0_write : ByteArray := prog_1_method_2_code
def yX0_write : MethodName := ⟨RX0, "write", "(III)I"⟩
abbrev cX0_isData : ByteArray := prog_1_method_14_code
def yX0_isData : MethodName := ⟨RX0, "isData", "(II)Z"⟩
abbrev cX0_weight : ByteArray := prog_1_method_18_code
def yX0_weight : MethodName := ⟨RX0, "weight", "(II)I"⟩
abbrev cX0_times : ByteArray := prog_1_method_16_code
def yX0_times : MethodName := ⟨RX0, "times", "(II)I"⟩
abbrev cX0_alter : ByteArray := prog_1_method_15_code
def yX0_alter : MethodName := ⟨RX0, "alter", "(III)V"⟩
abbrev cX0_read : ByteArray := prog_1_method_3_code
def yX0_read : MethodName := ⟨RX0, "read", "(II)I"⟩
abbrev cX0_lose : ByteArray := prog_1_method_4_code
def yX0_lose : MethodName := ⟨RX0, "lose", "(II)I"⟩
abbrev cX0_isCell : ByteArray := prog_1_method_13_code
def yX0_isCell : MethodName := ⟨RX0, "isCell", "(II)Z"⟩
abbrev cX0_loseRow : ByteArray := prog_1_method_5_code
def yX0_loseRow : MethodName := ⟨RX0, "loseRow", "(I)I"⟩
abbrev cX0_loseColumn : ByteArray := prog_1_method_6_code
def yX0_loseColumn : MethodName := ⟨RX0, "loseColumn", "(I)I"⟩
abbrev cX0_mendRow : ByteArray := prog_1_method_7_code
def yX0_mendRow : MethodName := ⟨RX0, "mendRow", "(I)I"⟩
abbrev cX0_mendLine : ByteArray := prog_1_method_19_code
def yX0_mendLine : MethodName := ⟨RX0, "mendLine", "(II)I"⟩
abbrev cX0_findLost : ByteArray := prog_1_method_20_code
def yX0_findLost : MethodName := ⟨RX0, "findLost", "(II)V"⟩
abbrev cX0_sumOf : ByteArray := prog_1_method_21_code
def yX0_sumOf : MethodName := ⟨RX0, "sumOf", "(I)I"⟩
abbrev cX0_mendOne : ByteArray := prog_1_method_22_code
def yX0_mendOne : MethodName := ⟨RX0, "mendOne", "(II)V"⟩
abbrev cX0_divide : ByteArray := prog_1_method_17_code
def yX0_divide : MethodName := ⟨RX0, "divide", "(II)I"⟩
abbrev cX0_mendTwo : ByteArray := prog_1_method_23_code
def yX0_mendTwo : MethodName := ⟨RX0, "mendTwo", "(II)V"⟩
abbrev cX0_keep : ByteArray := prog_1_method_24_code
def yX0_keep : MethodName := ⟨RX0, "keep", "(III)V"⟩
abbrev cX0_mendColumn : ByteArray := prog_1_method_8_code
def yX0_mendColumn : MethodName := ⟨RX0, "mendColumn", "(I)I"⟩
abbrev cX0_mend : ByteArray := prog_1_method_9_code
def yX0_mend : MethodName := ⟨RX0, "mend", "()I"⟩
abbrev cX0_lost : ByteArray := prog_1_method_10_code
def yX0_lost : MethodName := ⟨RX0, "lost", "(II)I"⟩
abbrev cX0_losses : ByteArray := prog_1_method_11_code
def yX0_losses : MethodName := ⟨RX0, "losses", "()I"⟩
abbrev cX0_total : ByteArray := prog_1_method_12_code
def yX0_total : MethodName := ⟨RX0, "total", "()I"⟩
theorem q12 : (Jvm.Cond.initialized "ProductShelf") ∈ lw_all := lw_g (lw_at lw_m0 1 rfl) rfl
theorem q15 : (Jvm.Cond.instantiable "ProductShelf" (8 : Nat)) ∈ lw_all := lw_g (lw_at lw_m0 4 rfl) rfl
theorem q17 : (Jvm.Cond.instanceMethod ({ cls := "ProductShelf", name := "<init>", desc := "()V" } : Jvm.MethodName)) ∈ lw_all := lw_g (lw_at lw_m0 6 rfl) rfl
theorem q18 : (Jvm.Cond.code ({ cls := "ProductShelf", name := "<init>", desc := "()V" } : Jvm.MethodName) prog_1_method_1_code (3 : Nat) (Option.none : Option Jvm.ClassFile.FieldType)) ∈ lw_all := lw_g (lw_at lw_m0 7 rfl) rfl
theorem q19 : (Jvm.Cond.methodLink "ProductShelf" (1 : Nat) ({ cls := "java/lang/Object", name := "<init>", desc := "()V" } : Jvm.MethodName)) ∈ lw_all := lw_g (lw_at lw_m0 8 rfl) rfl
theorem q22 : (Jvm.Cond.fieldLink "ProductShelf" (7 : Nat) "ProductShelf" "symbol" "[I") ∈ lw_all := lw_g (lw_at lw_m0 11 rfl) rfl
theorem q23 : (Jvm.Cond.fieldLink "ProductShelf" (13 : Nat) "ProductShelf" "gone" "[Z") ∈ lw_all := lw_g (lw_at lw_m0 12 rfl) rfl
theorem q24 : (Jvm.Cond.fieldLink "ProductShelf" (17 : Nat) "ProductShelf" "power" "[I") ∈ lw_all := lw_g (lw_at lw_m0 13 rfl) rfl
theorem q25 : (Jvm.Cond.fieldLink "ProductShelf" (20 : Nat) "ProductShelf" "logarithm" "[I") ∈ lw_all := lw_g (lw_at lw_m0 14 rfl) rfl
theorem q26 : (Jvm.Cond.fieldLink "ProductShelf" (23 : Nat) "ProductShelf" "line" "[I") ∈ lw_all := lw_g (lw_at lw_m0 15 rfl) rfl
theorem q27 : (Jvm.Cond.fieldLink "ProductShelf" (68 : Nat) "ProductShelf" "firstLost" "I") ∈ lw_all := lw_g (lw_at lw_m0 16 rfl) rfl
theorem q28 : (Jvm.Cond.fieldLink "ProductShelf" (74 : Nat) "ProductShelf" "secondLost" "I") ∈ lw_all := lw_g (lw_at lw_m0 17 rfl) rfl
theorem q29 : (Jvm.Cond.fieldLink "ProductShelf" (54 : Nat) "ProductShelf" "lostCount" "I") ∈ lw_all := lw_g (lw_at lw_m0 18 rfl) rfl
theorem q30 : (Jvm.Cond.laysFinal "ProductShelf" "ProductShelf" "symbol" "[I") ∈ lw_all := lw_g (lw_at lw_m0 19 rfl) rfl
theorem q31 : (Jvm.Cond.soleField "ProductShelf" "symbol") ∈ lw_all := lw_g (lw_at lw_m0 20 rfl) rfl
theorem q32 : (Jvm.Cond.laysFinal "ProductShelf" "ProductShelf" "gone" "[Z") ∈ lw_all := lw_g (lw_at lw_m0 21 rfl) rfl
theorem q33 : (Jvm.Cond.soleField "ProductShelf" "gone") ∈ lw_all := lw_g (lw_at lw_m0 22 rfl) rfl
theorem q34 : (Jvm.Cond.laysFinal "ProductShelf" "ProductShelf" "power" "[I") ∈ lw_all := lw_g (lw_at lw_m0 23 rfl) rfl
theorem q35 : (Jvm.Cond.soleField "ProductShelf" "power") ∈ lw_all := lw_g (lw_at lw_m0 24 rfl) rfl
theorem q36 : (Jvm.Cond.laysFinal "ProductShelf" "ProductShelf" "logarithm" "[I") ∈ lw_all := lw_g (lw_at lw_m0 25 rfl) rfl
theorem q37 : (Jvm.Cond.soleField "ProductShelf" "logarithm") ∈ lw_all := lw_g (lw_at lw_m0 26 rfl) rfl
theorem q38 : (Jvm.Cond.laysFinal "ProductShelf" "ProductShelf" "line" "[I") ∈ lw_all := lw_g (lw_at lw_m0 27 rfl) rfl
theorem q39 : (Jvm.Cond.soleField "ProductShelf" "line") ∈ lw_all := lw_g (lw_at lw_m0 28 rfl) rfl
theorem q40 : (Jvm.Cond.lays "ProductShelf" "ProductShelf" "firstLost" "I") ∈ lw_all := lw_g (lw_at lw_m0 29 rfl) rfl
theorem q41 : (Jvm.Cond.soleField "ProductShelf" "firstLost") ∈ lw_all := lw_g (lw_at lw_m0 30 rfl) rfl
theorem q42 : (Jvm.Cond.lays "ProductShelf" "ProductShelf" "secondLost" "I") ∈ lw_all := lw_g (lw_at lw_m0 31 rfl) rfl
theorem q43 : (Jvm.Cond.soleField "ProductShelf" "secondLost") ∈ lw_all := lw_g (lw_at lw_m0 32 rfl) rfl
theorem q44 : (Jvm.Cond.lays "ProductShelf" "ProductShelf" "lostCount" "I") ∈ lw_all := lw_g (lw_at lw_m0 33 rfl) rfl
theorem q45 : (Jvm.Cond.soleField "ProductShelf" "lostCount") ∈ lw_all := lw_g (lw_at lw_m0 34 rfl) rfl
theorem q46 : (Jvm.Cond.superclass "ProductShelf" "java/lang/Object") ∈ lw_all := lw_g (lw_at lw_m0 35 rfl) rfl
theorem q50 : (Jvm.Cond.instanceMethod ({ cls := "ProductShelf", name := "write", desc := "(III)I" } : Jvm.MethodName)) ∈ lw_all := lw_g (lw_at lw_m0 39 rfl) rfl
theorem q51 : (Jvm.Cond.selects "ProductShelf" ({ cls := "ProductShelf", name := "write", desc := "(III)I" } : Jvm.MethodName) ({ cls := "ProductShelf", name := "write", desc := "(III)I" } : Jvm.MethodName)) ∈ lw_all := lw_g (lw_at lw_m0 40 rfl) rfl
theorem q52 : (Jvm.Cond.code ({ cls := "ProductShelf", name := "write", desc := "(III)I" } : Jvm.MethodName) prog_1_method_2_code (12 : Nat) (Option.some Jvm.ClassFile.FieldType.int)) ∈ lw_all := lw_g (lw_at lw_m0 41 rfl) rfl
theorem q53 : (Jvm.Cond.methodLink "ProductShelf" (26 : Nat) ({ cls := "ProductShelf", name := "isData", desc := "(II)Z" } : Jvm.MethodName)) ∈ lw_all := lw_g (lw_at lw_m0 42 rfl) rfl
theorem q54 : (Jvm.Cond.static ({ cls := "ProductShelf", name := "isData", desc := "(II)Z" } : Jvm.MethodName)) ∈ lw_all := lw_g (lw_at lw_m0 43 rfl) rfl
theorem q55 : (Jvm.Cond.code ({ cls := "ProductShelf", name := "isData", desc := "(II)Z" } : Jvm.MethodName) prog_1_method_14_code (2 : Nat) (Option.some Jvm.ClassFile.FieldType.boolean)) ∈ lw_all := lw_g (lw_at lw_m0 44 rfl) rfl
theorem q56 : (Jvm.Cond.methodLink "ProductShelf" (30 : Nat) ({ cls := "ProductShelf", name := "weight", desc := "(II)I" } : Jvm.MethodName)) ∈ lw_all := lw_g (lw_at lw_m0 45 rfl) rfl
theorem q57 : (Jvm.Cond.privateMethod ({ cls := "ProductShelf", name := "weight", desc := "(II)I" } : Jvm.MethodName)) ∈ lw_tbl := lw_at lw_m0 46 rfl
theorem q58 : (Jvm.Cond.instanceMethod ({ cls := "ProductShelf", name := "weight", desc := "(II)I" } : Jvm.MethodName)) ∈ lw_all := lw_g (lw_at lw_m0 47 rfl) rfl
theorem q59 : (Jvm.Cond.code ({ cls := "ProductShelf", name := "weight", desc := "(II)I" } : Jvm.MethodName) prog_1_method_18_code (3 : Nat) (Option.some Jvm.ClassFile.FieldType.int)) ∈ lw_all := lw_g (lw_at lw_m0 48 rfl) rfl
theorem q60 : (Jvm.Cond.methodLink "ProductShelf" (34 : Nat) ({ cls := "ProductShelf", name := "times", desc := "(II)I" } : Jvm.MethodName)) ∈ lw_all := lw_g (lw_at lw_m0 49 rfl) rfl
theorem q61 : (Jvm.Cond.privateMethod ({ cls := "ProductShelf", name := "times", desc := "(II)I" } : Jvm.MethodName)) ∈ lw_tbl := lw_at lw_m0 50 rfl
theorem q62 : (Jvm.Cond.instanceMethod ({ cls := "ProductShelf", name := "times", desc := "(II)I" } : Jvm.MethodName)) ∈ lw_all := lw_g (lw_at lw_m0 51 rfl) rfl
theorem q63 : (Jvm.Cond.code ({ cls := "ProductShelf", name := "times", desc := "(II)I" } : Jvm.MethodName) prog_1_method_16_code (3 : Nat) (Option.some Jvm.ClassFile.FieldType.int)) ∈ lw_all := lw_g (lw_at lw_m0 52 rfl) rfl
theorem q64 : (Jvm.Cond.methodLink "ProductShelf" (37 : Nat) ({ cls := "ProductShelf", name := "alter", desc := "(III)V" } : Jvm.MethodName)) ∈ lw_all := lw_g (lw_at lw_m0 53 rfl) rfl
theorem q65 : (Jvm.Cond.privateMethod ({ cls := "ProductShelf", name := "alter", desc := "(III)V" } : Jvm.MethodName)) ∈ lw_tbl := lw_at lw_m0 54 rfl
theorem q66 : (Jvm.Cond.instanceMethod ({ cls := "ProductShelf", name := "alter", desc := "(III)V" } : Jvm.MethodName)) ∈ lw_all := lw_g (lw_at lw_m0 55 rfl) rfl
theorem q67 : (Jvm.Cond.code ({ cls := "ProductShelf", name := "alter", desc := "(III)V" } : Jvm.MethodName) prog_1_method_15_code (4 : Nat) (Option.none : Option Jvm.ClassFile.FieldType)) ∈ lw_all := lw_g (lw_at lw_m0 56 rfl) rfl
theorem q69 : (Jvm.Cond.instanceMethod ({ cls := "ProductShelf", name := "read", desc := "(II)I" } : Jvm.MethodName)) ∈ lw_all := lw_g (lw_at lw_m0 58 rfl) rfl
theorem q70 : (Jvm.Cond.selects "ProductShelf" ({ cls := "ProductShelf", name := "read", desc := "(II)I" } : Jvm.MethodName) ({ cls := "ProductShelf", name := "read", desc := "(II)I" } : Jvm.MethodName)) ∈ lw_all := lw_g (lw_at lw_m0 59 rfl) rfl
theorem q71 : (Jvm.Cond.code ({ cls := "ProductShelf", name := "read", desc := "(II)I" } : Jvm.MethodName) prog_1_method_3_code (3 : Nat) (Option.some Jvm.ClassFile.FieldType.int)) ∈ lw_all := lw_g (lw_at lw_m0 60 rfl) rfl
theorem q73 : (Jvm.Cond.instanceMethod ({ cls := "ProductShelf", name := "lose", desc := "(II)I" } : Jvm.MethodName)) ∈ lw_all := lw_g (lw_at lw_m0 62 rfl) rfl
theorem q74 : (Jvm.Cond.selects "ProductShelf" ({ cls := "ProductShelf", name := "lose", desc := "(II)I" } : Jvm.MethodName) ({ cls := "ProductShelf", name := "lose", desc := "(II)I" } : Jvm.MethodName)) ∈ lw_all := lw_g (lw_at lw_m0 63 rfl) rfl
theorem q75 : (Jvm.Cond.code ({ cls := "ProductShelf", name := "lose", desc := "(II)I" } : Jvm.MethodName) prog_1_method_4_code (5 : Nat) (Option.some Jvm.ClassFile.FieldType.int)) ∈ lw_all := lw_g (lw_at lw_m0 64 rfl) rfl
theorem q76 : (Jvm.Cond.methodLink "ProductShelf" (41 : Nat) ({ cls := "ProductShelf", name := "isCell", desc := "(II)Z" } : Jvm.MethodName)) ∈ lw_all := lw_g (lw_at lw_m0 65 rfl) rfl
theorem q77 : (Jvm.Cond.static ({ cls := "ProductShelf", name := "isCell", desc := "(II)Z" } : Jvm.MethodName)) ∈ lw_all := lw_g (lw_at lw_m0 66 rfl) rfl
theorem q78 : (Jvm.Cond.code ({ cls := "ProductShelf", name := "isCell", desc := "(II)Z" } : Jvm.MethodName) prog_1_method_13_code (2 : Nat) (Option.some Jvm.ClassFile.FieldType.boolean)) ∈ lw_all := lw_g (lw_at lw_m0 67 rfl) rfl
theorem q80 : (Jvm.Cond.instanceMethod ({ cls := "ProductShelf", name := "loseRow", desc := "(I)I" } : Jvm.MethodName)) ∈ lw_all := lw_g (lw_at lw_m0 69 rfl) rfl
theorem q81 : (Jvm.Cond.selects "ProductShelf" ({ cls := "ProductShelf", name := "loseRow", desc := "(I)I" } : Jvm.MethodName) ({ cls := "ProductShelf", name := "loseRow", desc := "(I)I" } : Jvm.MethodName)) ∈ lw_all := lw_g (lw_at lw_m0 70 rfl) rfl
theorem q82 : (Jvm.Cond.code ({ cls := "ProductShelf", name := "loseRow", desc := "(I)I" } : Jvm.MethodName) prog_1_method_5_code (4 : Nat) (Option.some Jvm.ClassFile.FieldType.int)) ∈ lw_all := lw_g (lw_at lw_m0 71 rfl) rfl
theorem q83 : (Jvm.Cond.methodLink "ProductShelf" (44 : Nat) ({ cls := "ProductShelf", name := "lose", desc := "(II)I" } : Jvm.MethodName)) ∈ lw_all := lw_g (lw_at lw_m0 72 rfl) rfl
theorem q85 : (Jvm.Cond.instanceMethod ({ cls := "ProductShelf", name := "loseColumn", desc := "(I)I" } : Jvm.MethodName)) ∈ lw_all := lw_g (lw_at lw_m0 74 rfl) rfl
theorem q86 : (Jvm.Cond.selects "ProductShelf" ({ cls := "ProductShelf", name := "loseColumn", desc := "(I)I" } : Jvm.MethodName) ({ cls := "ProductShelf", name := "loseColumn", desc := "(I)I" } : Jvm.MethodName)) ∈ lw_all := lw_g (lw_at lw_m0 75 rfl) rfl
theorem q87 : (Jvm.Cond.code ({ cls := "ProductShelf", name := "loseColumn", desc := "(I)I" } : Jvm.MethodName) prog_1_method_6_code (4 : Nat) (Option.some Jvm.ClassFile.FieldType.int)) ∈ lw_all := lw_g (lw_at lw_m0 76 rfl) rfl
theorem q89 : (Jvm.Cond.instanceMethod ({ cls := "ProductShelf", name := "mendRow", desc := "(I)I" } : Jvm.MethodName)) ∈ lw_all := lw_g (lw_at lw_m0 78 rfl) rfl
theorem q90 : (Jvm.Cond.selects "ProductShelf" ({ cls := "ProductShelf", name := "mendRow", desc := "(I)I" } : Jvm.MethodName) ({ cls := "ProductShelf", name := "mendRow", desc := "(I)I" } : Jvm.MethodName)) ∈ lw_all := lw_g (lw_at lw_m0 79 rfl) rfl
theorem q91 : (Jvm.Cond.code ({ cls := "ProductShelf", name := "mendRow", desc := "(I)I" } : Jvm.MethodName) prog_1_method_7_code (2 : Nat) (Option.some Jvm.ClassFile.FieldType.int)) ∈ lw_all := lw_g (lw_at lw_m0 80 rfl) rfl
theorem q92 : (Jvm.Cond.methodLink "ProductShelf" (47 : Nat) ({ cls := "ProductShelf", name := "mendLine", desc := "(II)I" } : Jvm.MethodName)) ∈ lw_all := lw_g (lw_at lw_m0 81 rfl) rfl
theorem q93 : (Jvm.Cond.privateMethod ({ cls := "ProductShelf", name := "mendLine", desc := "(II)I" } : Jvm.MethodName)) ∈ lw_tbl := lw_at lw_m0 82 rfl
theorem q94 : (Jvm.Cond.instanceMethod ({ cls := "ProductShelf", name := "mendLine", desc := "(II)I" } : Jvm.MethodName)) ∈ lw_all := lw_g (lw_at lw_m0 83 rfl) rfl
theorem q95 : (Jvm.Cond.code ({ cls := "ProductShelf", name := "mendLine", desc := "(II)I" } : Jvm.MethodName) prog_1_method_19_code (5 : Nat) (Option.some Jvm.ClassFile.FieldType.int)) ∈ lw_all := lw_g (lw_at lw_m0 84 rfl) rfl
theorem q96 : (Jvm.Cond.methodLink "ProductShelf" (50 : Nat) ({ cls := "ProductShelf", name := "findLost", desc := "(II)V" } : Jvm.MethodName)) ∈ lw_all := lw_g (lw_at lw_m0 85 rfl) rfl
theorem q97 : (Jvm.Cond.privateMethod ({ cls := "ProductShelf", name := "findLost", desc := "(II)V" } : Jvm.MethodName)) ∈ lw_tbl := lw_at lw_m0 86 rfl
theorem q98 : (Jvm.Cond.instanceMethod ({ cls := "ProductShelf", name := "findLost", desc := "(II)V" } : Jvm.MethodName)) ∈ lw_all := lw_g (lw_at lw_m0 87 rfl) rfl
theorem q99 : (Jvm.Cond.code ({ cls := "ProductShelf", name := "findLost", desc := "(II)V" } : Jvm.MethodName) prog_1_method_20_code (5 : Nat) (Option.none : Option Jvm.ClassFile.FieldType)) ∈ lw_all := lw_g (lw_at lw_m0 88 rfl) rfl
theorem q100 : (Jvm.Cond.methodLink "ProductShelf" (58 : Nat) ({ cls := "ProductShelf", name := "sumOf", desc := "(I)I" } : Jvm.MethodName)) ∈ lw_all := lw_g (lw_at lw_m0 89 rfl) rfl
theorem q101 : (Jvm.Cond.privateMethod ({ cls := "ProductShelf", name := "sumOf", desc := "(I)I" } : Jvm.MethodName)) ∈ lw_tbl := lw_at lw_m0 90 rfl
theorem q102 : (Jvm.Cond.instanceMethod ({ cls := "ProductShelf", name := "sumOf", desc := "(I)I" } : Jvm.MethodName)) ∈ lw_all := lw_g (lw_at lw_m0 91 rfl) rfl
theorem q103 : (Jvm.Cond.code ({ cls := "ProductShelf", name := "sumOf", desc := "(I)I" } : Jvm.MethodName) prog_1_method_21_code (5 : Nat) (Option.some Jvm.ClassFile.FieldType.int)) ∈ lw_all := lw_g (lw_at lw_m0 92 rfl) rfl
theorem q104 : (Jvm.Cond.methodLink "ProductShelf" (62 : Nat) ({ cls := "ProductShelf", name := "mendOne", desc := "(II)V" } : Jvm.MethodName)) ∈ lw_all := lw_g (lw_at lw_m0 93 rfl) rfl
theorem q105 : (Jvm.Cond.privateMethod ({ cls := "ProductShelf", name := "mendOne", desc := "(II)V" } : Jvm.MethodName)) ∈ lw_tbl := lw_at lw_m0 94 rfl
theorem q106 : (Jvm.Cond.instanceMethod ({ cls := "ProductShelf", name := "mendOne", desc := "(II)V" } : Jvm.MethodName)) ∈ lw_all := lw_g (lw_at lw_m0 95 rfl) rfl
theorem q107 : (Jvm.Cond.code ({ cls := "ProductShelf", name := "mendOne", desc := "(II)V" } : Jvm.MethodName) prog_1_method_22_code (5 : Nat) (Option.none : Option Jvm.ClassFile.FieldType)) ∈ lw_all := lw_g (lw_at lw_m0 96 rfl) rfl
theorem q108 : (Jvm.Cond.methodLink "ProductShelf" (77 : Nat) ({ cls := "ProductShelf", name := "divide", desc := "(II)I" } : Jvm.MethodName)) ∈ lw_all := lw_g (lw_at lw_m0 97 rfl) rfl
theorem q109 : (Jvm.Cond.privateMethod ({ cls := "ProductShelf", name := "divide", desc := "(II)I" } : Jvm.MethodName)) ∈ lw_tbl := lw_at lw_m0 98 rfl
theorem q110 : (Jvm.Cond.instanceMethod ({ cls := "ProductShelf", name := "divide", desc := "(II)I" } : Jvm.MethodName)) ∈ lw_all := lw_g (lw_at lw_m0 99 rfl) rfl
theorem q111 : (Jvm.Cond.code ({ cls := "ProductShelf", name := "divide", desc := "(II)I" } : Jvm.MethodName) prog_1_method_17_code (3 : Nat) (Option.some Jvm.ClassFile.FieldType.int)) ∈ lw_all := lw_g (lw_at lw_m0 100 rfl) rfl
theorem q112 : (Jvm.Cond.methodLink "ProductShelf" (65 : Nat) ({ cls := "ProductShelf", name := "mendTwo", desc := "(II)V" } : Jvm.MethodName)) ∈ lw_all := lw_g (lw_at lw_m0 101 rfl) rfl
theorem q113 : (Jvm.Cond.privateMethod ({ cls := "ProductShelf", name := "mendTwo", desc := "(II)V" } : Jvm.MethodName)) ∈ lw_tbl := lw_at lw_m0 102 rfl
theorem q114 : (Jvm.Cond.instanceMethod ({ cls := "ProductShelf", name := "mendTwo", desc := "(II)V" } : Jvm.MethodName)) ∈ lw_all := lw_g (lw_at lw_m0 103 rfl) rfl
theorem q115 : (Jvm.Cond.code ({ cls := "ProductShelf", name := "mendTwo", desc := "(II)V" } : Jvm.MethodName) prog_1_method_23_code (10 : Nat) (Option.none : Option Jvm.ClassFile.FieldType)) ∈ lw_all := lw_g (lw_at lw_m0 104 rfl) rfl
theorem q116 : (Jvm.Cond.methodLink "ProductShelf" (71 : Nat) ({ cls := "ProductShelf", name := "keep", desc := "(III)V" } : Jvm.MethodName)) ∈ lw_all := lw_g (lw_at lw_m0 105 rfl) rfl
theorem q117 : (Jvm.Cond.privateMethod ({ cls := "ProductShelf", name := "keep", desc := "(III)V" } : Jvm.MethodName)) ∈ lw_tbl := lw_at lw_m0 106 rfl
theorem q118 : (Jvm.Cond.instanceMethod ({ cls := "ProductShelf", name := "keep", desc := "(III)V" } : Jvm.MethodName)) ∈ lw_all := lw_g (lw_at lw_m0 107 rfl) rfl
theorem q119 : (Jvm.Cond.code ({ cls := "ProductShelf", name := "keep", desc := "(III)V" } : Jvm.MethodName) prog_1_method_24_code (5 : Nat) (Option.none : Option Jvm.ClassFile.FieldType)) ∈ lw_all := lw_g (lw_at lw_m0 108 rfl) rfl
theorem q121 : (Jvm.Cond.instanceMethod ({ cls := "ProductShelf", name := "mendColumn", desc := "(I)I" } : Jvm.MethodName)) ∈ lw_all := lw_g (lw_at lw_m0 110 rfl) rfl
theorem q122 : (Jvm.Cond.selects "ProductShelf" ({ cls := "ProductShelf", name := "mendColumn", desc := "(I)I" } : Jvm.MethodName) ({ cls := "ProductShelf", name := "mendColumn", desc := "(I)I" } : Jvm.MethodName)) ∈ lw_all := lw_g (lw_at lw_m0 111 rfl) rfl
theorem q123 : (Jvm.Cond.code ({ cls := "ProductShelf", name := "mendColumn", desc := "(I)I" } : Jvm.MethodName) prog_1_method_8_code (2 : Nat) (Option.some Jvm.ClassFile.FieldType.int)) ∈ lw_all := lw_g (lw_at lw_m0 112 rfl) rfl
theorem q125 : (Jvm.Cond.instanceMethod ({ cls := "ProductShelf", name := "mend", desc := "()I" } : Jvm.MethodName)) ∈ lw_all := lw_g (lw_at lw_m0 114 rfl) rfl
theorem q126 : (Jvm.Cond.selects "ProductShelf" ({ cls := "ProductShelf", name := "mend", desc := "()I" } : Jvm.MethodName) ({ cls := "ProductShelf", name := "mend", desc := "()I" } : Jvm.MethodName)) ∈ lw_all := lw_g (lw_at lw_m0 115 rfl) rfl
theorem q127 : (Jvm.Cond.code ({ cls := "ProductShelf", name := "mend", desc := "()I" } : Jvm.MethodName) prog_1_method_9_code (6 : Nat) (Option.some Jvm.ClassFile.FieldType.int)) ∈ lw_all := lw_g (lw_at lw_m0 116 rfl) rfl
theorem q129 : (Jvm.Cond.instanceMethod ({ cls := "ProductShelf", name := "lost", desc := "(II)I" } : Jvm.MethodName)) ∈ lw_all := lw_g (lw_at lw_m0 118 rfl) rfl
theorem q130 : (Jvm.Cond.selects "ProductShelf" ({ cls := "ProductShelf", name := "lost", desc := "(II)I" } : Jvm.MethodName) ({ cls := "ProductShelf", name := "lost", desc := "(II)I" } : Jvm.MethodName)) ∈ lw_all := lw_g (lw_at lw_m0 119 rfl) rfl
theorem q131 : (Jvm.Cond.code ({ cls := "ProductShelf", name := "lost", desc := "(II)I" } : Jvm.MethodName) prog_1_method_10_code (3 : Nat) (Option.some Jvm.ClassFile.FieldType.int)) ∈ lw_all := lw_g (lw_at lw_m0 120 rfl) rfl
theorem q133 : (Jvm.Cond.instanceMethod ({ cls := "ProductShelf", name := "losses", desc := "()I" } : Jvm.MethodName)) ∈ lw_all := lw_g (lw_at lw_m0 122 rfl) rfl
theorem q134 : (Jvm.Cond.selects "ProductShelf" ({ cls := "ProductShelf", name := "losses", desc := "()I" } : Jvm.MethodName) ({ cls := "ProductShelf", name := "losses", desc := "()I" } : Jvm.MethodName)) ∈ lw_all := lw_g (lw_at lw_m0 123 rfl) rfl
theorem q135 : (Jvm.Cond.code ({ cls := "ProductShelf", name := "losses", desc := "()I" } : Jvm.MethodName) prog_1_method_11_code (3 : Nat) (Option.some Jvm.ClassFile.FieldType.int)) ∈ lw_all := lw_g (lw_at lw_m0 124 rfl) rfl
theorem q137 : (Jvm.Cond.instanceMethod ({ cls := "ProductShelf", name := "total", desc := "()I" } : Jvm.MethodName)) ∈ lw_all := lw_g (lw_at lw_m0 126 rfl) rfl
theorem q138 : (Jvm.Cond.selects "ProductShelf" ({ cls := "ProductShelf", name := "total", desc := "()I" } : Jvm.MethodName) ({ cls := "ProductShelf", name := "total", desc := "()I" } : Jvm.MethodName)) ∈ lw_all := lw_g (lw_at lw_m0 127 rfl) rfl
theorem q139 : (Jvm.Cond.code ({ cls := "ProductShelf", name := "total", desc := "()I" } : Jvm.MethodName) prog_1_method_12_code (4 : Nat) (Option.some Jvm.ClassFile.FieldType.int)) ∈ lw_all := lw_g (lw_at lw_m0 128 rfl) rfl
theorem in_X0 : ∀ w ∈ wsX00, w ∈ lw_all := lw_in wsX00 [30, 32, 34, 36, 38, 40, 42, 44] (by decide +kernel) (by decide +kernel)
def RX1 : String := "ProductShelfModel"
def TX1 : u_T := fun k => match k with
  | 0 => ("ProductShelfModel", "value", "[I", true)
  | _ => ("ProductShelfModel", "gone", "[Z", true)
def tyX1 : Nat → FieldType := fun k => match k with
  | 0 => .array .int
  | _ => .array .boolean
abbrev wsX10 : List Cond := u_ws RX1 TX1 2
theorem nmX1 : ∀ a, a < 2 → ∀ b, b < 2 → a ≠ b → (TX1 a).2.1 ≠ (TX1 b).2.1 := by decide +kernel
theorem tyX1_ok : ∀ k, k < 2 → parseFieldDescriptor (TX1 k).2.2.1 = some (tyX1 k) := by decide +kernel
abbrev cX1_init : ByteArray := prog_3_method_1_code
def yX1_init : MethodName := ⟨RX1, "<init>", "()V"⟩
abbrev cX1_write : ByteArray := prog_3_method_3_code
def yX1_write : MethodName := ⟨RX1, "write", "(III)I"⟩
abbrev cX1_outside : ByteArray := prog_3_method_2_code
def yX1_outside : MethodName := ⟨RX1, "outside", "(II)Z"⟩
abbrev cX1_read : ByteArray := prog_3_method_4_code
def yX1_read : MethodName := ⟨RX1, "read", "(II)I"⟩
abbrev cX1_lose : ByteArray := prog_3_method_5_code
def yX1_lose : MethodName := ⟨RX1, "lose", "(II)I"⟩
abbrev cX1_loseRow : ByteArray := prog_3_method_6_code
def yX1_loseRow : MethodName := ⟨RX1, "loseRow", "(I)I"⟩
abbrev cX1_loseColumn : ByteArray := prog_3_method_7_code
def yX1_loseColumn : MethodName := ⟨RX1, "loseColumn", "(I)I"⟩
abbrev cX1_mendRow : ByteArray := prog_3_method_9_code
def yX1_mendRow : MethodName := ⟨RX1, "mendRow", "(I)I"⟩
abbrev cX1_mendLine : ByteArray := prog_3_method_8_code
def yX1_mendLine : MethodName := ⟨RX1, "mendLine", "(II)I"⟩
abbrev cX1_mendColumn : ByteArray := prog_3_method_10_code
def yX1_mendColumn : MethodName := ⟨RX1, "mendColumn", "(I)I"⟩
abbrev cX1_mend : ByteArray := prog_3_method_11_code
def yX1_mend : MethodName := ⟨RX1, "mend", "()I"⟩
abbrev cX1_lost : ByteArray := prog_3_method_12_code
def yX1_lost : MethodName := ⟨RX1, "lost", "(II)I"⟩
abbrev cX1_losses : ByteArray := prog_3_method_13_code
def yX1_losses : MethodName := ⟨RX1, "losses", "()I"⟩
abbrev cX1_total : ByteArray := prog_3_method_14_code
def yX1_total : MethodName := ⟨RX1, "total", "()I"⟩
theorem q13 : (Jvm.Cond.initialized "ProductShelfModel") ∈ lw_all := lw_g (lw_at lw_m0 2 rfl) rfl
theorem q141 : (Jvm.Cond.instantiable "ProductShelfModel" (2 : Nat)) ∈ lw_all := lw_g (lw_at lw_m0 130 rfl) rfl
theorem q143 : (Jvm.Cond.instanceMethod ({ cls := "ProductShelfModel", name := "<init>", desc := "()V" } : Jvm.MethodName)) ∈ lw_all := lw_g (lw_at lw_m0 132 rfl) rfl
theorem q144 : (Jvm.Cond.code ({ cls := "ProductShelfModel", name := "<init>", desc := "()V" } : Jvm.MethodName) prog_3_method_1_code (1 : Nat) (Option.none : Option Jvm.ClassFile.FieldType)) ∈ lw_all := lw_g (lw_at lw_m0 133 rfl) rfl
theorem q145 : (Jvm.Cond.methodLink "ProductShelfModel" (1 : Nat) ({ cls := "java/lang/Object", name := "<init>", desc := "()V" } : Jvm.MethodName)) ∈ lw_all := lw_g (lw_at lw_m0 134 rfl) rfl
theorem q146 : (Jvm.Cond.fieldLink "ProductShelfModel" (7 : Nat) "ProductShelfModel" "value" "[I") ∈ lw_all := lw_g (lw_at lw_m0 135 rfl) rfl
theorem q147 : (Jvm.Cond.fieldLink "ProductShelfModel" (13 : Nat) "ProductShelfModel" "gone" "[Z") ∈ lw_all := lw_g (lw_at lw_m0 136 rfl) rfl
theorem q148 : (Jvm.Cond.laysFinal "ProductShelfModel" "ProductShelfModel" "value" "[I") ∈ lw_all := lw_g (lw_at lw_m0 137 rfl) rfl
theorem q149 : (Jvm.Cond.soleField "ProductShelfModel" "value") ∈ lw_all := lw_g (lw_at lw_m0 138 rfl) rfl
theorem q150 : (Jvm.Cond.laysFinal "ProductShelfModel" "ProductShelfModel" "gone" "[Z") ∈ lw_all := lw_g (lw_at lw_m0 139 rfl) rfl
theorem q151 : (Jvm.Cond.soleField "ProductShelfModel" "gone") ∈ lw_all := lw_g (lw_at lw_m0 140 rfl) rfl
theorem q152 : (Jvm.Cond.superclass "ProductShelfModel" "java/lang/Object") ∈ lw_all := lw_g (lw_at lw_m0 141 rfl) rfl
theorem q154 : (Jvm.Cond.instanceMethod ({ cls := "ProductShelfModel", name := "write", desc := "(III)I" } : Jvm.MethodName)) ∈ lw_all := lw_g (lw_at lw_m0 143 rfl) rfl
theorem q155 : (Jvm.Cond.selects "ProductShelfModel" ({ cls := "ProductShelfModel", name := "write", desc := "(III)I" } : Jvm.MethodName) ({ cls := "ProductShelfModel", name := "write", desc := "(III)I" } : Jvm.MethodName)) ∈ lw_all := lw_g (lw_at lw_m0 144 rfl) rfl
theorem q156 : (Jvm.Cond.code ({ cls := "ProductShelfModel", name := "write", desc := "(III)I" } : Jvm.MethodName) prog_3_method_3_code (5 : Nat) (Option.some Jvm.ClassFile.FieldType.int)) ∈ lw_all := lw_g (lw_at lw_m0 145 rfl) rfl
theorem q157 : (Jvm.Cond.methodLink "ProductShelfModel" (17 : Nat) ({ cls := "ProductShelfModel", name := "outside", desc := "(II)Z" } : Jvm.MethodName)) ∈ lw_all := lw_g (lw_at lw_m0 146 rfl) rfl
theorem q158 : (Jvm.Cond.static ({ cls := "ProductShelfModel", name := "outside", desc := "(II)Z" } : Jvm.MethodName)) ∈ lw_all := lw_g (lw_at lw_m0 147 rfl) rfl
theorem q159 : (Jvm.Cond.code ({ cls := "ProductShelfModel", name := "outside", desc := "(II)Z" } : Jvm.MethodName) prog_3_method_2_code (2 : Nat) (Option.some Jvm.ClassFile.FieldType.boolean)) ∈ lw_all := lw_g (lw_at lw_m0 148 rfl) rfl
theorem q161 : (Jvm.Cond.instanceMethod ({ cls := "ProductShelfModel", name := "read", desc := "(II)I" } : Jvm.MethodName)) ∈ lw_all := lw_g (lw_at lw_m0 150 rfl) rfl
theorem q162 : (Jvm.Cond.selects "ProductShelfModel" ({ cls := "ProductShelfModel", name := "read", desc := "(II)I" } : Jvm.MethodName) ({ cls := "ProductShelfModel", name := "read", desc := "(II)I" } : Jvm.MethodName)) ∈ lw_all := lw_g (lw_at lw_m0 151 rfl) rfl
theorem q163 : (Jvm.Cond.code ({ cls := "ProductShelfModel", name := "read", desc := "(II)I" } : Jvm.MethodName) prog_3_method_4_code (3 : Nat) (Option.some Jvm.ClassFile.FieldType.int)) ∈ lw_all := lw_g (lw_at lw_m0 152 rfl) rfl
theorem q165 : (Jvm.Cond.instanceMethod ({ cls := "ProductShelfModel", name := "lose", desc := "(II)I" } : Jvm.MethodName)) ∈ lw_all := lw_g (lw_at lw_m0 154 rfl) rfl
theorem q166 : (Jvm.Cond.selects "ProductShelfModel" ({ cls := "ProductShelfModel", name := "lose", desc := "(II)I" } : Jvm.MethodName) ({ cls := "ProductShelfModel", name := "lose", desc := "(II)I" } : Jvm.MethodName)) ∈ lw_all := lw_g (lw_at lw_m0 155 rfl) rfl
theorem q167 : (Jvm.Cond.code ({ cls := "ProductShelfModel", name := "lose", desc := "(II)I" } : Jvm.MethodName) prog_3_method_5_code (4 : Nat) (Option.some Jvm.ClassFile.FieldType.int)) ∈ lw_all := lw_g (lw_at lw_m0 156 rfl) rfl
theorem q169 : (Jvm.Cond.instanceMethod ({ cls := "ProductShelfModel", name := "loseRow", desc := "(I)I" } : Jvm.MethodName)) ∈ lw_all := lw_g (lw_at lw_m0 158 rfl) rfl
theorem q170 : (Jvm.Cond.selects "ProductShelfModel" ({ cls := "ProductShelfModel", name := "loseRow", desc := "(I)I" } : Jvm.MethodName) ({ cls := "ProductShelfModel", name := "loseRow", desc := "(I)I" } : Jvm.MethodName)) ∈ lw_all := lw_g (lw_at lw_m0 159 rfl) rfl
theorem q171 : (Jvm.Cond.code ({ cls := "ProductShelfModel", name := "loseRow", desc := "(I)I" } : Jvm.MethodName) prog_3_method_6_code (4 : Nat) (Option.some Jvm.ClassFile.FieldType.int)) ∈ lw_all := lw_g (lw_at lw_m0 160 rfl) rfl
theorem q172 : (Jvm.Cond.methodLink "ProductShelfModel" (21 : Nat) ({ cls := "ProductShelfModel", name := "lose", desc := "(II)I" } : Jvm.MethodName)) ∈ lw_all := lw_g (lw_at lw_m0 161 rfl) rfl
theorem q174 : (Jvm.Cond.instanceMethod ({ cls := "ProductShelfModel", name := "loseColumn", desc := "(I)I" } : Jvm.MethodName)) ∈ lw_all := lw_g (lw_at lw_m0 163 rfl) rfl
theorem q175 : (Jvm.Cond.selects "ProductShelfModel" ({ cls := "ProductShelfModel", name := "loseColumn", desc := "(I)I" } : Jvm.MethodName) ({ cls := "ProductShelfModel", name := "loseColumn", desc := "(I)I" } : Jvm.MethodName)) ∈ lw_all := lw_g (lw_at lw_m0 164 rfl) rfl
theorem q176 : (Jvm.Cond.code ({ cls := "ProductShelfModel", name := "loseColumn", desc := "(I)I" } : Jvm.MethodName) prog_3_method_7_code (4 : Nat) (Option.some Jvm.ClassFile.FieldType.int)) ∈ lw_all := lw_g (lw_at lw_m0 165 rfl) rfl
theorem q178 : (Jvm.Cond.instanceMethod ({ cls := "ProductShelfModel", name := "mendRow", desc := "(I)I" } : Jvm.MethodName)) ∈ lw_all := lw_g (lw_at lw_m0 167 rfl) rfl
theorem q179 : (Jvm.Cond.selects "ProductShelfModel" ({ cls := "ProductShelfModel", name := "mendRow", desc := "(I)I" } : Jvm.MethodName) ({ cls := "ProductShelfModel", name := "mendRow", desc := "(I)I" } : Jvm.MethodName)) ∈ lw_all := lw_g (lw_at lw_m0 168 rfl) rfl
theorem q180 : (Jvm.Cond.code ({ cls := "ProductShelfModel", name := "mendRow", desc := "(I)I" } : Jvm.MethodName) prog_3_method_9_code (2 : Nat) (Option.some Jvm.ClassFile.FieldType.int)) ∈ lw_all := lw_g (lw_at lw_m0 169 rfl) rfl
theorem q181 : (Jvm.Cond.methodLink "ProductShelfModel" (25 : Nat) ({ cls := "ProductShelfModel", name := "mendLine", desc := "(II)I" } : Jvm.MethodName)) ∈ lw_all := lw_g (lw_at lw_m0 170 rfl) rfl
theorem q182 : (Jvm.Cond.privateMethod ({ cls := "ProductShelfModel", name := "mendLine", desc := "(II)I" } : Jvm.MethodName)) ∈ lw_tbl := lw_at lw_m0 171 rfl
theorem q183 : (Jvm.Cond.instanceMethod ({ cls := "ProductShelfModel", name := "mendLine", desc := "(II)I" } : Jvm.MethodName)) ∈ lw_all := lw_g (lw_at lw_m0 172 rfl) rfl
theorem q184 : (Jvm.Cond.code ({ cls := "ProductShelfModel", name := "mendLine", desc := "(II)I" } : Jvm.MethodName) prog_3_method_8_code (5 : Nat) (Option.some Jvm.ClassFile.FieldType.int)) ∈ lw_all := lw_g (lw_at lw_m0 173 rfl) rfl
theorem q186 : (Jvm.Cond.instanceMethod ({ cls := "ProductShelfModel", name := "mendColumn", desc := "(I)I" } : Jvm.MethodName)) ∈ lw_all := lw_g (lw_at lw_m0 175 rfl) rfl
theorem q187 : (Jvm.Cond.selects "ProductShelfModel" ({ cls := "ProductShelfModel", name := "mendColumn", desc := "(I)I" } : Jvm.MethodName) ({ cls := "ProductShelfModel", name := "mendColumn", desc := "(I)I" } : Jvm.MethodName)) ∈ lw_all := lw_g (lw_at lw_m0 176 rfl) rfl
theorem q188 : (Jvm.Cond.code ({ cls := "ProductShelfModel", name := "mendColumn", desc := "(I)I" } : Jvm.MethodName) prog_3_method_10_code (2 : Nat) (Option.some Jvm.ClassFile.FieldType.int)) ∈ lw_all := lw_g (lw_at lw_m0 177 rfl) rfl
theorem q190 : (Jvm.Cond.instanceMethod ({ cls := "ProductShelfModel", name := "mend", desc := "()I" } : Jvm.MethodName)) ∈ lw_all := lw_g (lw_at lw_m0 179 rfl) rfl
theorem q191 : (Jvm.Cond.selects "ProductShelfModel" ({ cls := "ProductShelfModel", name := "mend", desc := "()I" } : Jvm.MethodName) ({ cls := "ProductShelfModel", name := "mend", desc := "()I" } : Jvm.MethodName)) ∈ lw_all := lw_g (lw_at lw_m0 180 rfl) rfl
theorem q192 : (Jvm.Cond.code ({ cls := "ProductShelfModel", name := "mend", desc := "()I" } : Jvm.MethodName) prog_3_method_11_code (6 : Nat) (Option.some Jvm.ClassFile.FieldType.int)) ∈ lw_all := lw_g (lw_at lw_m0 181 rfl) rfl
theorem q193 : (Jvm.Cond.methodLink "ProductShelfModel" (28 : Nat) ({ cls := "ProductShelfModel", name := "mendRow", desc := "(I)I" } : Jvm.MethodName)) ∈ lw_all := lw_g (lw_at lw_m0 182 rfl) rfl
theorem q194 : (Jvm.Cond.methodLink "ProductShelfModel" (32 : Nat) ({ cls := "ProductShelfModel", name := "mendColumn", desc := "(I)I" } : Jvm.MethodName)) ∈ lw_all := lw_g (lw_at lw_m0 183 rfl) rfl
theorem q196 : (Jvm.Cond.instanceMethod ({ cls := "ProductShelfModel", name := "lost", desc := "(II)I" } : Jvm.MethodName)) ∈ lw_all := lw_g (lw_at lw_m0 185 rfl) rfl
theorem q197 : (Jvm.Cond.selects "ProductShelfModel" ({ cls := "ProductShelfModel", name := "lost", desc := "(II)I" } : Jvm.MethodName) ({ cls := "ProductShelfModel", name := "lost", desc := "(II)I" } : Jvm.MethodName)) ∈ lw_all := lw_g (lw_at lw_m0 186 rfl) rfl
theorem q198 : (Jvm.Cond.code ({ cls := "ProductShelfModel", name := "lost", desc := "(II)I" } : Jvm.MethodName) prog_3_method_12_code (3 : Nat) (Option.some Jvm.ClassFile.FieldType.int)) ∈ lw_all := lw_g (lw_at lw_m0 187 rfl) rfl
theorem q200 : (Jvm.Cond.instanceMethod ({ cls := "ProductShelfModel", name := "losses", desc := "()I" } : Jvm.MethodName)) ∈ lw_all := lw_g (lw_at lw_m0 189 rfl) rfl
theorem q201 : (Jvm.Cond.selects "ProductShelfModel" ({ cls := "ProductShelfModel", name := "losses", desc := "()I" } : Jvm.MethodName) ({ cls := "ProductShelfModel", name := "losses", desc := "()I" } : Jvm.MethodName)) ∈ lw_all := lw_g (lw_at lw_m0 190 rfl) rfl
theorem q202 : (Jvm.Cond.code ({ cls := "ProductShelfModel", name := "losses", desc := "()I" } : Jvm.MethodName) prog_3_method_13_code (3 : Nat) (Option.some Jvm.ClassFile.FieldType.int)) ∈ lw_all := lw_g (lw_at lw_m0 191 rfl) rfl
theorem q204 : (Jvm.Cond.instanceMethod ({ cls := "ProductShelfModel", name := "total", desc := "()I" } : Jvm.MethodName)) ∈ lw_all := lw_g (lw_at lw_m0 193 rfl) rfl
theorem q205 : (Jvm.Cond.selects "ProductShelfModel" ({ cls := "ProductShelfModel", name := "total", desc := "()I" } : Jvm.MethodName) ({ cls := "ProductShelfModel", name := "total", desc := "()I" } : Jvm.MethodName)) ∈ lw_all := lw_g (lw_at lw_m0 194 rfl) rfl
theorem q206 : (Jvm.Cond.code ({ cls := "ProductShelfModel", name := "total", desc := "()I" } : Jvm.MethodName) prog_3_method_14_code (3 : Nat) (Option.some Jvm.ClassFile.FieldType.int)) ∈ lw_all := lw_g (lw_at lw_m0 195 rfl) rfl
theorem in_X1 : ∀ w ∈ wsX10, w ∈ lw_all := lw_in wsX10 [148, 150] (by decide +kernel) (by decide +kernel)
abbrev cL_law : ByteArray := code
def RJ0 : String := "java/lang/Object"
abbrev cJ0_init : ByteArray := object_method_1_code
def yJ0_init : MethodName := ⟨RJ0, "<init>", "()V"⟩
theorem dJ0_init_0 : decode cJ0_init 0 = .ok (.return_, 1) := by decide +kernel
theorem q20 : (Jvm.Cond.instanceMethod ({ cls := "java/lang/Object", name := "<init>", desc := "()V" } : Jvm.MethodName)) ∈ lw_all := lw_g (lw_at lw_m0 9 rfl) rfl
theorem q21 : (Jvm.Cond.code ({ cls := "java/lang/Object", name := "<init>", desc := "()V" } : Jvm.MethodName) object_method_1_code (1 : Nat) (Option.none : Option Jvm.ClassFile.FieldType)) ∈ lw_all := lw_g (lw_at lw_m0 10 rfl) rfl
theorem q47 : (Jvm.Cond.arrayClass Jvm.ClassFile.FieldType.int) ∈ lw_all := lw_g (lw_at lw_m0 36 rfl) rfl
theorem q48 : (Jvm.Cond.arrayClass Jvm.ClassFile.FieldType.boolean) ∈ lw_all := lw_g (lw_at lw_m0 37 rfl) rfl
theorem q11 : (Jvm.Cond.initialized "ProductShelfLaw") ∈ lw_all := lw_g (lw_at lw_m0 0 rfl) rfl
theorem q14 : (Jvm.Cond.classLink "ProductShelfLaw" (7 : Nat) "ProductShelf") ∈ lw_all := lw_g (lw_at lw_m0 3 rfl) rfl
theorem q16 : (Jvm.Cond.methodLink "ProductShelfLaw" (9 : Nat) ({ cls := "ProductShelf", name := "<init>", desc := "()V" } : Jvm.MethodName)) ∈ lw_all := lw_g (lw_at lw_m0 5 rfl) rfl
theorem q49 : (Jvm.Cond.methodLink "ProductShelfLaw" (13 : Nat) ({ cls := "ProductShelf", name := "write", desc := "(III)I" } : Jvm.MethodName)) ∈ lw_all := lw_g (lw_at lw_m0 38 rfl) rfl
theorem q68 : (Jvm.Cond.methodLink "ProductShelfLaw" (18 : Nat) ({ cls := "ProductShelf", name := "read", desc := "(II)I" } : Jvm.MethodName)) ∈ lw_all := lw_g (lw_at lw_m0 57 rfl) rfl
theorem q72 : (Jvm.Cond.methodLink "ProductShelfLaw" (23 : Nat) ({ cls := "ProductShelf", name := "lose", desc := "(II)I" } : Jvm.MethodName)) ∈ lw_all := lw_g (lw_at lw_m0 61 rfl) rfl
theorem q79 : (Jvm.Cond.methodLink "ProductShelfLaw" (27 : Nat) ({ cls := "ProductShelf", name := "loseRow", desc := "(I)I" } : Jvm.MethodName)) ∈ lw_all := lw_g (lw_at lw_m0 68 rfl) rfl
theorem q84 : (Jvm.Cond.methodLink "ProductShelfLaw" (32 : Nat) ({ cls := "ProductShelf", name := "loseColumn", desc := "(I)I" } : Jvm.MethodName)) ∈ lw_all := lw_g (lw_at lw_m0 73 rfl) rfl
theorem q88 : (Jvm.Cond.methodLink "ProductShelfLaw" (36 : Nat) ({ cls := "ProductShelf", name := "mendRow", desc := "(I)I" } : Jvm.MethodName)) ∈ lw_all := lw_g (lw_at lw_m0 77 rfl) rfl
theorem q120 : (Jvm.Cond.methodLink "ProductShelfLaw" (40 : Nat) ({ cls := "ProductShelf", name := "mendColumn", desc := "(I)I" } : Jvm.MethodName)) ∈ lw_all := lw_g (lw_at lw_m0 109 rfl) rfl
theorem q124 : (Jvm.Cond.methodLink "ProductShelfLaw" (44 : Nat) ({ cls := "ProductShelf", name := "mend", desc := "()I" } : Jvm.MethodName)) ∈ lw_all := lw_g (lw_at lw_m0 113 rfl) rfl
theorem q128 : (Jvm.Cond.methodLink "ProductShelfLaw" (49 : Nat) ({ cls := "ProductShelf", name := "lost", desc := "(II)I" } : Jvm.MethodName)) ∈ lw_all := lw_g (lw_at lw_m0 117 rfl) rfl
theorem q132 : (Jvm.Cond.methodLink "ProductShelfLaw" (53 : Nat) ({ cls := "ProductShelf", name := "losses", desc := "()I" } : Jvm.MethodName)) ∈ lw_all := lw_g (lw_at lw_m0 121 rfl) rfl
theorem q136 : (Jvm.Cond.methodLink "ProductShelfLaw" (57 : Nat) ({ cls := "ProductShelf", name := "total", desc := "()I" } : Jvm.MethodName)) ∈ lw_all := lw_g (lw_at lw_m0 125 rfl) rfl
theorem q140 : (Jvm.Cond.classLink "ProductShelfLaw" (10 : Nat) "ProductShelfModel") ∈ lw_all := lw_g (lw_at lw_m0 129 rfl) rfl
theorem q142 : (Jvm.Cond.methodLink "ProductShelfLaw" (12 : Nat) ({ cls := "ProductShelfModel", name := "<init>", desc := "()V" } : Jvm.MethodName)) ∈ lw_all := lw_g (lw_at lw_m0 131 rfl) rfl
theorem q153 : (Jvm.Cond.methodLink "ProductShelfLaw" (17 : Nat) ({ cls := "ProductShelfModel", name := "write", desc := "(III)I" } : Jvm.MethodName)) ∈ lw_all := lw_g (lw_at lw_m0 142 rfl) rfl
theorem q160 : (Jvm.Cond.methodLink "ProductShelfLaw" (22 : Nat) ({ cls := "ProductShelfModel", name := "read", desc := "(II)I" } : Jvm.MethodName)) ∈ lw_all := lw_g (lw_at lw_m0 149 rfl) rfl
theorem q164 : (Jvm.Cond.methodLink "ProductShelfLaw" (26 : Nat) ({ cls := "ProductShelfModel", name := "lose", desc := "(II)I" } : Jvm.MethodName)) ∈ lw_all := lw_g (lw_at lw_m0 153 rfl) rfl
theorem q168 : (Jvm.Cond.methodLink "ProductShelfLaw" (31 : Nat) ({ cls := "ProductShelfModel", name := "loseRow", desc := "(I)I" } : Jvm.MethodName)) ∈ lw_all := lw_g (lw_at lw_m0 157 rfl) rfl
theorem q173 : (Jvm.Cond.methodLink "ProductShelfLaw" (35 : Nat) ({ cls := "ProductShelfModel", name := "loseColumn", desc := "(I)I" } : Jvm.MethodName)) ∈ lw_all := lw_g (lw_at lw_m0 162 rfl) rfl
theorem q177 : (Jvm.Cond.methodLink "ProductShelfLaw" (39 : Nat) ({ cls := "ProductShelfModel", name := "mendRow", desc := "(I)I" } : Jvm.MethodName)) ∈ lw_all := lw_g (lw_at lw_m0 166 rfl) rfl
theorem q185 : (Jvm.Cond.methodLink "ProductShelfLaw" (43 : Nat) ({ cls := "ProductShelfModel", name := "mendColumn", desc := "(I)I" } : Jvm.MethodName)) ∈ lw_all := lw_g (lw_at lw_m0 174 rfl) rfl
theorem q189 : (Jvm.Cond.methodLink "ProductShelfLaw" (48 : Nat) ({ cls := "ProductShelfModel", name := "mend", desc := "()I" } : Jvm.MethodName)) ∈ lw_all := lw_g (lw_at lw_m0 178 rfl) rfl
theorem q195 : (Jvm.Cond.methodLink "ProductShelfLaw" (52 : Nat) ({ cls := "ProductShelfModel", name := "lost", desc := "(II)I" } : Jvm.MethodName)) ∈ lw_all := lw_g (lw_at lw_m0 184 rfl) rfl
theorem q199 : (Jvm.Cond.methodLink "ProductShelfLaw" (56 : Nat) ({ cls := "ProductShelfModel", name := "losses", desc := "()I" } : Jvm.MethodName)) ∈ lw_all := lw_g (lw_at lw_m0 188 rfl) rfl
theorem q203 : (Jvm.Cond.methodLink "ProductShelfLaw" (60 : Nat) ({ cls := "ProductShelfModel", name := "total", desc := "()I" } : Jvm.MethodName)) ∈ lw_all := lw_g (lw_at lw_m0 192 rfl) rfl
abbrev vwCl : List vw_C := [(RX0, TX0, 8), (RX1, TX1, 2)]
end
section
set_option maxRecDepth 100000
theorem dX0_init_0 : decode cX0_init 0 = .ok (.aload_n 0, 1) := by decide +kernel
theorem dX0_init_1 : decode cX0_init 1 = .ok (.invokespecial 1, 3) := by decide +kernel
theorem dX0_init_4 : decode cX0_init 4 = .ok (.aload_n 0, 1) := by decide +kernel
theorem dX0_init_5 : decode cX0_init 5 = .ok (.bipush 36, 2) := by decide +kernel
theorem dX0_init_7 : decode cX0_init 7 = .ok (.newarray .int, 2) := by decide +kernel
theorem dX0_init_9 : decode cX0_init 9 = .ok (.putfield 7, 3) := by decide +kernel
theorem dX0_init_12 : decode cX0_init 12 = .ok (.aload_n 0, 1) := by decide +kernel
theorem dX0_init_13 : decode cX0_init 13 = .ok (.bipush 36, 2) := by decide +kernel
theorem dX0_init_15 : decode cX0_init 15 = .ok (.newarray .boolean, 2) := by decide +kernel
theorem dX0_init_17 : decode cX0_init 17 = .ok (.putfield 13, 3) := by decide +kernel
theorem dX0_init_20 : decode cX0_init 20 = .ok (.aload_n 0, 1) := by decide +kernel
theorem dX0_init_21 : decode cX0_init 21 = .ok (.sipush 512, 3) := by decide +kernel
theorem dX0_init_24 : decode cX0_init 24 = .ok (.newarray .int, 2) := by decide +kernel
theorem dX0_init_26 : decode cX0_init 26 = .ok (.putfield 17, 3) := by decide +kernel
theorem dX0_init_29 : decode cX0_init 29 = .ok (.aload_n 0, 1) := by decide +kernel
theorem dX0_init_30 : decode cX0_init 30 = .ok (.sipush 256, 3) := by decide +kernel
theorem dX0_init_33 : decode cX0_init 33 = .ok (.newarray .int, 2) := by decide +kernel
theorem dX0_init_35 : decode cX0_init 35 = .ok (.putfield 20, 3) := by decide +kernel
theorem dX0_init_38 : decode cX0_init 38 = .ok (.aload_n 0, 1) := by decide +kernel
theorem dX0_init_39 : decode cX0_init 39 = .ok (.bipush 6, 2) := by decide +kernel
theorem dX0_init_41 : decode cX0_init 41 = .ok (.newarray .int, 2) := by decide +kernel
theorem dX0_init_43 : decode cX0_init 43 = .ok (.putfield 23, 3) := by decide +kernel
theorem dX0_init_46 : decode cX0_init 46 = .ok (.iconst 1, 1) := by decide +kernel
theorem dX0_init_47 : decode cX0_init 47 = .ok (.istore_n 1, 1) := by decide +kernel
theorem dX0_init_48 : decode cX0_init 48 = .ok (.iconst 0, 1) := by decide +kernel
theorem dX0_init_49 : decode cX0_init 49 = .ok (.istore_n 2, 1) := by decide +kernel
theorem dX0_init_50 : decode cX0_init 50 = .ok (.iload_n 2, 1) := by decide +kernel
theorem dX0_init_51 : decode cX0_init 51 = .ok (.sipush 255, 3) := by decide +kernel
theorem dX0_init_54 : decode cX0_init 54 = .ok (.if_icmp .ge 51, 3) := by decide +kernel
theorem dX0_init_57 : decode cX0_init 57 = .ok (.aload_n 0, 1) := by decide +kernel
theorem dX0_init_58 : decode cX0_init 58 = .ok (.getfield 17, 3) := by decide +kernel
theorem dX0_init_61 : decode cX0_init 61 = .ok (.iload_n 2, 1) := by decide +kernel
theorem dX0_init_62 : decode cX0_init 62 = .ok (.iload_n 1, 1) := by decide +kernel
theorem dX0_init_63 : decode cX0_init 63 = .ok (.iastore, 1) := by decide +kernel
theorem dX0_init_64 : decode cX0_init 64 = .ok (.aload_n 0, 1) := by decide +kernel
theorem dX0_init_65 : decode cX0_init 65 = .ok (.getfield 17, 3) := by decide +kernel
theorem dX0_init_68 : decode cX0_init 68 = .ok (.iload_n 2, 1) := by decide +kernel
theorem dX0_init_69 : decode cX0_init 69 = .ok (.sipush 255, 3) := by decide +kernel
theorem dX0_init_72 : decode cX0_init 72 = .ok (.iadd, 1) := by decide +kernel
theorem dX0_init_73 : decode cX0_init 73 = .ok (.iload_n 1, 1) := by decide +kernel
theorem dX0_init_74 : decode cX0_init 74 = .ok (.iastore, 1) := by decide +kernel
theorem dX0_init_75 : decode cX0_init 75 = .ok (.aload_n 0, 1) := by decide +kernel
theorem dX0_init_76 : decode cX0_init 76 = .ok (.getfield 20, 3) := by decide +kernel
theorem dX0_init_79 : decode cX0_init 79 = .ok (.iload_n 1, 1) := by decide +kernel
theorem dX0_init_80 : decode cX0_init 80 = .ok (.iload_n 2, 1) := by decide +kernel
theorem dX0_init_81 : decode cX0_init 81 = .ok (.iastore, 1) := by decide +kernel
theorem dX0_init_82 : decode cX0_init 82 = .ok (.iload_n 1, 1) := by decide +kernel
theorem dX0_init_83 : decode cX0_init 83 = .ok (.iconst 1, 1) := by decide +kernel
theorem dX0_init_84 : decode cX0_init 84 = .ok (.ishl, 1) := by decide +kernel
theorem dX0_init_85 : decode cX0_init 85 = .ok (.istore_n 1, 1) := by decide +kernel
theorem dX0_init_86 : decode cX0_init 86 = .ok (.iload_n 1, 1) := by decide +kernel
theorem dX0_init_87 : decode cX0_init 87 = .ok (.sipush 255, 3) := by decide +kernel
theorem dX0_init_90 : decode cX0_init 90 = .ok (.if_icmp .le 9, 3) := by decide +kernel
theorem dX0_init_93 : decode cX0_init 93 = .ok (.iload_n 1, 1) := by decide +kernel
theorem dX0_init_94 : decode cX0_init 94 = .ok (.sipush 285, 3) := by decide +kernel
theorem dX0_init_97 : decode cX0_init 97 = .ok (.ixor, 1) := by decide +kernel
theorem dX0_init_98 : decode cX0_init 98 = .ok (.istore_n 1, 1) := by decide +kernel
theorem dX0_init_99 : decode cX0_init 99 = .ok (.iinc 2 1, 3) := by decide +kernel
theorem dX0_init_102 : decode cX0_init 102 = .ok (.goto (-52), 3) := by decide +kernel
theorem dX0_init_105 : decode cX0_init 105 = .ok (.return_, 1) := by decide +kernel
theorem dX0_write_0 : decode cX0_write 0 = .ok (.iload_n 1, 1) := by decide +kernel
theorem dX0_write_1 : decode cX0_write 1 = .ok (.iload_n 2, 1) := by decide +kernel
theorem dX0_write_2 : decode cX0_write 2 = .ok (.invokestatic 26, 3) := by decide +kernel
theorem dX0_write_5 : decode cX0_write 5 = .ok (.ifCond .eq 17, 3) := by decide +kernel
theorem dX0_write_8 : decode cX0_write 8 = .ok (.aload_n 0, 1) := by decide +kernel
theorem dX0_write_9 : decode cX0_write 9 = .ok (.getfield 13, 3) := by decide +kernel
theorem dX0_write_12 : decode cX0_write 12 = .ok (.bipush 6, 2) := by decide +kernel
theorem dX0_write_14 : decode cX0_write 14 = .ok (.iload_n 1, 1) := by decide +kernel
theorem dX0_write_15 : decode cX0_write 15 = .ok (.imul, 1) := by decide +kernel
theorem dX0_write_16 : decode cX0_write 16 = .ok (.iload_n 2, 1) := by decide +kernel
theorem dX0_write_17 : decode cX0_write 17 = .ok (.iadd, 1) := by decide +kernel
theorem dX0_write_18 : decode cX0_write 18 = .ok (.baload, 1) := by decide +kernel
theorem dX0_write_19 : decode cX0_write 19 = .ok (.ifCond .eq 5, 3) := by decide +kernel
theorem dX0_write_22 : decode cX0_write 22 = .ok (.iconst (-1), 1) := by decide +kernel
theorem dX0_write_23 : decode cX0_write 23 = .ok (.ireturn, 1) := by decide +kernel
theorem dX0_write_24 : decode cX0_write 24 = .ok (.aload_n 0, 1) := by decide +kernel
theorem dX0_write_25 : decode cX0_write 25 = .ok (.getfield 7, 3) := by decide +kernel
theorem dX0_write_28 : decode cX0_write 28 = .ok (.bipush 6, 2) := by decide +kernel
theorem dX0_write_30 : decode cX0_write 30 = .ok (.iload_n 1, 1) := by decide +kernel
theorem dX0_write_31 : decode cX0_write 31 = .ok (.imul, 1) := by decide +kernel
theorem dX0_write_32 : decode cX0_write 32 = .ok (.iload_n 2, 1) := by decide +kernel
theorem dX0_write_33 : decode cX0_write 33 = .ok (.iadd, 1) := by decide +kernel
theorem dX0_write_34 : decode cX0_write 34 = .ok (.iaload, 1) := by decide +kernel
theorem dX0_write_35 : decode cX0_write 35 = .ok (.istore 4, 2) := by decide +kernel
theorem dX0_write_37 : decode cX0_write 37 = .ok (.iload 4, 2) := by decide +kernel
theorem dX0_write_39 : decode cX0_write 39 = .ok (.iload_n 3, 1) := by decide +kernel
theorem dX0_write_40 : decode cX0_write 40 = .ok (.sipush 255, 3) := by decide +kernel
theorem dX0_write_43 : decode cX0_write 43 = .ok (.iand, 1) := by decide +kernel
theorem dX0_write_44 : decode cX0_write 44 = .ok (.ixor, 1) := by decide +kernel
theorem dX0_write_45 : decode cX0_write 45 = .ok (.istore 5, 2) := by decide +kernel
theorem dX0_write_47 : decode cX0_write 47 = .ok (.aload_n 0, 1) := by decide +kernel
theorem dX0_write_48 : decode cX0_write 48 = .ok (.getfield 7, 3) := by decide +kernel
theorem dX0_write_51 : decode cX0_write 51 = .ok (.bipush 6, 2) := by decide +kernel
theorem dX0_write_53 : decode cX0_write 53 = .ok (.iload_n 1, 1) := by decide +kernel
theorem dX0_write_54 : decode cX0_write 54 = .ok (.imul, 1) := by decide +kernel
theorem dX0_write_55 : decode cX0_write 55 = .ok (.iload_n 2, 1) := by decide +kernel
theorem dX0_write_56 : decode cX0_write 56 = .ok (.iadd, 1) := by decide +kernel
theorem dX0_write_57 : decode cX0_write 57 = .ok (.iload_n 3, 1) := by decide +kernel
theorem dX0_write_58 : decode cX0_write 58 = .ok (.sipush 255, 3) := by decide +kernel
theorem dX0_write_61 : decode cX0_write 61 = .ok (.iand, 1) := by decide +kernel
theorem dX0_write_62 : decode cX0_write 62 = .ok (.iastore, 1) := by decide +kernel
theorem dX0_write_63 : decode cX0_write 63 = .ok (.iconst 4, 1) := by decide +kernel
theorem dX0_write_64 : decode cX0_write 64 = .ok (.istore 6, 2) := by decide +kernel
theorem dX0_write_66 : decode cX0_write 66 = .ok (.iload 6, 2) := by decide +kernel
theorem dX0_write_68 : decode cX0_write 68 = .ok (.bipush 6, 2) := by decide +kernel
theorem dX0_write_70 : decode cX0_write 70 = .ok (.if_icmp .ge 86, 3) := by decide +kernel
theorem dX0_write_73 : decode cX0_write 73 = .ok (.aload_n 0, 1) := by decide +kernel
theorem dX0_write_74 : decode cX0_write 74 = .ok (.iload 6, 2) := by decide +kernel
theorem dX0_write_76 : decode cX0_write 76 = .ok (.iconst 4, 1) := by decide +kernel
theorem dX0_write_77 : decode cX0_write 77 = .ok (.isub, 1) := by decide +kernel
theorem dX0_write_78 : decode cX0_write 78 = .ok (.iload_n 1, 1) := by decide +kernel
theorem dX0_write_79 : decode cX0_write 79 = .ok (.invokevirtual 30, 3) := by decide +kernel
theorem dX0_write_82 : decode cX0_write 82 = .ok (.istore 7, 2) := by decide +kernel
theorem dX0_write_84 : decode cX0_write 84 = .ok (.aload_n 0, 1) := by decide +kernel
theorem dX0_write_85 : decode cX0_write 85 = .ok (.iload 7, 2) := by decide +kernel
theorem dX0_write_87 : decode cX0_write 87 = .ok (.iload 5, 2) := by decide +kernel
theorem dX0_write_89 : decode cX0_write 89 = .ok (.invokevirtual 34, 3) := by decide +kernel
theorem dX0_write_92 : decode cX0_write 92 = .ok (.istore 8, 2) := by decide +kernel
theorem dX0_write_94 : decode cX0_write 94 = .ok (.aload_n 0, 1) := by decide +kernel
theorem dX0_write_95 : decode cX0_write 95 = .ok (.iload 6, 2) := by decide +kernel
theorem dX0_write_97 : decode cX0_write 97 = .ok (.iload_n 2, 1) := by decide +kernel
theorem dX0_write_98 : decode cX0_write 98 = .ok (.iload 8, 2) := by decide +kernel
theorem dX0_write_100 : decode cX0_write 100 = .ok (.invokevirtual 37, 3) := by decide +kernel
theorem dX0_write_103 : decode cX0_write 103 = .ok (.iconst 4, 1) := by decide +kernel
theorem dX0_write_104 : decode cX0_write 104 = .ok (.istore 9, 2) := by decide +kernel
theorem dX0_write_106 : decode cX0_write 106 = .ok (.iload 9, 2) := by decide +kernel
theorem dX0_write_108 : decode cX0_write 108 = .ok (.bipush 6, 2) := by decide +kernel
theorem dX0_write_110 : decode cX0_write 110 = .ok (.if_icmp .ge 40, 3) := by decide +kernel
theorem dX0_write_113 : decode cX0_write 113 = .ok (.aload_n 0, 1) := by decide +kernel
theorem dX0_write_114 : decode cX0_write 114 = .ok (.iload 9, 2) := by decide +kernel
theorem dX0_write_116 : decode cX0_write 116 = .ok (.iconst 4, 1) := by decide +kernel
theorem dX0_write_117 : decode cX0_write 117 = .ok (.isub, 1) := by decide +kernel
theorem dX0_write_118 : decode cX0_write 118 = .ok (.iload_n 2, 1) := by decide +kernel
theorem dX0_write_119 : decode cX0_write 119 = .ok (.invokevirtual 30, 3) := by decide +kernel
theorem dX0_write_122 : decode cX0_write 122 = .ok (.istore 10, 2) := by decide +kernel
theorem dX0_write_124 : decode cX0_write 124 = .ok (.aload_n 0, 1) := by decide +kernel
theorem dX0_write_125 : decode cX0_write 125 = .ok (.iload 10, 2) := by decide +kernel
theorem dX0_write_127 : decode cX0_write 127 = .ok (.iload 8, 2) := by decide +kernel
theorem dX0_write_129 : decode cX0_write 129 = .ok (.invokevirtual 34, 3) := by decide +kernel
theorem dX0_write_132 : decode cX0_write 132 = .ok (.istore 11, 2) := by decide +kernel
theorem dX0_write_134 : decode cX0_write 134 = .ok (.aload_n 0, 1) := by decide +kernel
theorem dX0_write_135 : decode cX0_write 135 = .ok (.iload 6, 2) := by decide +kernel
theorem dX0_write_137 : decode cX0_write 137 = .ok (.iload 9, 2) := by decide +kernel
theorem dX0_write_139 : decode cX0_write 139 = .ok (.iload 11, 2) := by decide +kernel
theorem dX0_write_141 : decode cX0_write 141 = .ok (.invokevirtual 37, 3) := by decide +kernel
theorem dX0_write_144 : decode cX0_write 144 = .ok (.iinc 9 1, 3) := by decide +kernel
theorem dX0_write_147 : decode cX0_write 147 = .ok (.goto (-41), 3) := by decide +kernel
theorem dX0_write_150 : decode cX0_write 150 = .ok (.iinc 6 1, 3) := by decide +kernel
theorem dX0_write_153 : decode cX0_write 153 = .ok (.goto (-87), 3) := by decide +kernel
theorem dX0_write_156 : decode cX0_write 156 = .ok (.iconst 4, 1) := by decide +kernel
theorem dX0_write_157 : decode cX0_write 157 = .ok (.istore 6, 2) := by decide +kernel
theorem dX0_write_159 : decode cX0_write 159 = .ok (.iload 6, 2) := by decide +kernel
theorem dX0_write_161 : decode cX0_write 161 = .ok (.bipush 6, 2) := by decide +kernel
theorem dX0_write_163 : decode cX0_write 163 = .ok (.if_icmp .ge 39, 3) := by decide +kernel
theorem dX0_write_166 : decode cX0_write 166 = .ok (.aload_n 0, 1) := by decide +kernel
theorem dX0_write_167 : decode cX0_write 167 = .ok (.iload 6, 2) := by decide +kernel
theorem dX0_write_169 : decode cX0_write 169 = .ok (.iconst 4, 1) := by decide +kernel
theorem dX0_write_170 : decode cX0_write 170 = .ok (.isub, 1) := by decide +kernel
theorem dX0_write_171 : decode cX0_write 171 = .ok (.iload_n 2, 1) := by decide +kernel
theorem dX0_write_172 : decode cX0_write 172 = .ok (.invokevirtual 30, 3) := by decide +kernel
theorem dX0_write_175 : decode cX0_write 175 = .ok (.istore 7, 2) := by decide +kernel
theorem dX0_write_177 : decode cX0_write 177 = .ok (.aload_n 0, 1) := by decide +kernel
theorem dX0_write_178 : decode cX0_write 178 = .ok (.iload 7, 2) := by decide +kernel
theorem dX0_write_180 : decode cX0_write 180 = .ok (.iload 5, 2) := by decide +kernel
theorem dX0_write_182 : decode cX0_write 182 = .ok (.invokevirtual 34, 3) := by decide +kernel
theorem dX0_write_185 : decode cX0_write 185 = .ok (.istore 8, 2) := by decide +kernel
theorem dX0_write_187 : decode cX0_write 187 = .ok (.aload_n 0, 1) := by decide +kernel
theorem dX0_write_188 : decode cX0_write 188 = .ok (.iload_n 1, 1) := by decide +kernel
theorem dX0_write_189 : decode cX0_write 189 = .ok (.iload 6, 2) := by decide +kernel
theorem dX0_write_191 : decode cX0_write 191 = .ok (.iload 8, 2) := by decide +kernel
theorem dX0_write_193 : decode cX0_write 193 = .ok (.invokevirtual 37, 3) := by decide +kernel
theorem dX0_write_196 : decode cX0_write 196 = .ok (.iinc 6 1, 3) := by decide +kernel
theorem dX0_write_199 : decode cX0_write 199 = .ok (.goto (-40), 3) := by decide +kernel
theorem dX0_write_202 : decode cX0_write 202 = .ok (.iload 4, 2) := by decide +kernel
theorem dX0_write_204 : decode cX0_write 204 = .ok (.ireturn, 1) := by decide +kernel
theorem dX0_isData_0 : decode cX0_isData 0 = .ok (.iload_n 0, 1) := by decide +kernel
theorem dX0_isData_1 : decode cX0_isData 1 = .ok (.ifCond .lt 21, 3) := by decide +kernel
theorem dX0_isData_4 : decode cX0_isData 4 = .ok (.iload_n 0, 1) := by decide +kernel
theorem dX0_isData_5 : decode cX0_isData 5 = .ok (.iconst 3, 1) := by decide +kernel
theorem dX0_isData_6 : decode cX0_isData 6 = .ok (.if_icmp .gt 16, 3) := by decide +kernel
theorem dX0_isData_9 : decode cX0_isData 9 = .ok (.iload_n 1, 1) := by decide +kernel
theorem dX0_isData_10 : decode cX0_isData 10 = .ok (.ifCond .lt 12, 3) := by decide +kernel
theorem dX0_isData_13 : decode cX0_isData 13 = .ok (.iload_n 1, 1) := by decide +kernel
theorem dX0_isData_14 : decode cX0_isData 14 = .ok (.iconst 3, 1) := by decide +kernel
theorem dX0_isData_15 : decode cX0_isData 15 = .ok (.if_icmp .gt 7, 3) := by decide +kernel
theorem dX0_isData_18 : decode cX0_isData 18 = .ok (.iconst 1, 1) := by decide +kernel
theorem dX0_isData_19 : decode cX0_isData 19 = .ok (.goto 4, 3) := by decide +kernel
theorem dX0_isData_22 : decode cX0_isData 22 = .ok (.iconst 0, 1) := by decide +kernel
theorem dX0_isData_23 : decode cX0_isData 23 = .ok (.ireturn, 1) := by decide +kernel
theorem dX0_weight_0 : decode cX0_weight 0 = .ok (.iload_n 1, 1) := by decide +kernel
theorem dX0_weight_1 : decode cX0_weight 1 = .ok (.ifCond .ne 14, 3) := by decide +kernel
theorem dX0_weight_4 : decode cX0_weight 4 = .ok (.iload_n 2, 1) := by decide +kernel
theorem dX0_weight_5 : decode cX0_weight 5 = .ok (.iconst 4, 1) := by decide +kernel
theorem dX0_weight_6 : decode cX0_weight 6 = .ok (.if_icmp .gt 7, 3) := by decide +kernel
theorem dX0_weight_9 : decode cX0_weight 9 = .ok (.iconst 1, 1) := by decide +kernel
theorem dX0_weight_10 : decode cX0_weight 10 = .ok (.goto 4, 3) := by decide +kernel
theorem dX0_weight_13 : decode cX0_weight 13 = .ok (.iconst 0, 1) := by decide +kernel
theorem dX0_weight_14 : decode cX0_weight 14 = .ok (.ireturn, 1) := by decide +kernel
theorem dX0_weight_15 : decode cX0_weight 15 = .ok (.iload_n 2, 1) := by decide +kernel
theorem dX0_weight_16 : decode cX0_weight 16 = .ok (.iconst 3, 1) := by decide +kernel
theorem dX0_weight_17 : decode cX0_weight 17 = .ok (.if_icmp .gt 10, 3) := by decide +kernel
theorem dX0_weight_20 : decode cX0_weight 20 = .ok (.aload_n 0, 1) := by decide +kernel
theorem dX0_weight_21 : decode cX0_weight 21 = .ok (.getfield 17, 3) := by decide +kernel
theorem dX0_weight_24 : decode cX0_weight 24 = .ok (.iload_n 2, 1) := by decide +kernel
theorem dX0_weight_25 : decode cX0_weight 25 = .ok (.iaload, 1) := by decide +kernel
theorem dX0_weight_26 : decode cX0_weight 26 = .ok (.ireturn, 1) := by decide +kernel
theorem dX0_weight_27 : decode cX0_weight 27 = .ok (.iload_n 2, 1) := by decide +kernel
theorem dX0_weight_28 : decode cX0_weight 28 = .ok (.iconst 5, 1) := by decide +kernel
theorem dX0_weight_29 : decode cX0_weight 29 = .ok (.if_icmp .ne 7, 3) := by decide +kernel
theorem dX0_weight_32 : decode cX0_weight 32 = .ok (.iconst 1, 1) := by decide +kernel
theorem dX0_weight_33 : decode cX0_weight 33 = .ok (.goto 4, 3) := by decide +kernel
theorem dX0_weight_36 : decode cX0_weight 36 = .ok (.iconst 0, 1) := by decide +kernel
theorem dX0_weight_37 : decode cX0_weight 37 = .ok (.ireturn, 1) := by decide +kernel
theorem dX0_times_0 : decode cX0_times 0 = .ok (.iload_n 1, 1) := by decide +kernel
theorem dX0_times_1 : decode cX0_times 1 = .ok (.ifCond .eq 7, 3) := by decide +kernel
theorem dX0_times_4 : decode cX0_times 4 = .ok (.iload_n 2, 1) := by decide +kernel
theorem dX0_times_5 : decode cX0_times 5 = .ok (.ifCond .ne 7, 3) := by decide +kernel
theorem dX0_times_8 : decode cX0_times 8 = .ok (.iconst 0, 1) := by decide +kernel
theorem dX0_times_9 : decode cX0_times 9 = .ok (.goto 21, 3) := by decide +kernel
theorem dX0_times_12 : decode cX0_times 12 = .ok (.aload_n 0, 1) := by decide +kernel
theorem dX0_times_13 : decode cX0_times 13 = .ok (.getfield 17, 3) := by decide +kernel
theorem dX0_times_16 : decode cX0_times 16 = .ok (.aload_n 0, 1) := by decide +kernel
theorem dX0_times_17 : decode cX0_times 17 = .ok (.getfield 20, 3) := by decide +kernel
theorem dX0_times_20 : decode cX0_times 20 = .ok (.iload_n 1, 1) := by decide +kernel
theorem dX0_times_21 : decode cX0_times 21 = .ok (.iaload, 1) := by decide +kernel
theorem dX0_times_22 : decode cX0_times 22 = .ok (.aload_n 0, 1) := by decide +kernel
theorem dX0_times_23 : decode cX0_times 23 = .ok (.getfield 20, 3) := by decide +kernel
theorem dX0_times_26 : decode cX0_times 26 = .ok (.iload_n 2, 1) := by decide +kernel
theorem dX0_times_27 : decode cX0_times 27 = .ok (.iaload, 1) := by decide +kernel
theorem dX0_times_28 : decode cX0_times 28 = .ok (.iadd, 1) := by decide +kernel
theorem dX0_times_29 : decode cX0_times 29 = .ok (.iaload, 1) := by decide +kernel
theorem dX0_times_30 : decode cX0_times 30 = .ok (.ireturn, 1) := by decide +kernel
theorem dX0_alter_0 : decode cX0_alter 0 = .ok (.aload_n 0, 1) := by decide +kernel
theorem dX0_alter_1 : decode cX0_alter 1 = .ok (.getfield 13, 3) := by decide +kernel
theorem dX0_alter_4 : decode cX0_alter 4 = .ok (.bipush 6, 2) := by decide +kernel
theorem dX0_alter_6 : decode cX0_alter 6 = .ok (.iload_n 1, 1) := by decide +kernel
theorem dX0_alter_7 : decode cX0_alter 7 = .ok (.imul, 1) := by decide +kernel
theorem dX0_alter_8 : decode cX0_alter 8 = .ok (.iload_n 2, 1) := by decide +kernel
theorem dX0_alter_9 : decode cX0_alter 9 = .ok (.iadd, 1) := by decide +kernel
theorem dX0_alter_10 : decode cX0_alter 10 = .ok (.baload, 1) := by decide +kernel
theorem dX0_alter_11 : decode cX0_alter 11 = .ok (.ifCond .ne 18, 3) := by decide +kernel
theorem dX0_alter_14 : decode cX0_alter 14 = .ok (.aload_n 0, 1) := by decide +kernel
theorem dX0_alter_15 : decode cX0_alter 15 = .ok (.getfield 7, 3) := by decide +kernel
theorem dX0_alter_18 : decode cX0_alter 18 = .ok (.bipush 6, 2) := by decide +kernel
theorem dX0_alter_20 : decode cX0_alter 20 = .ok (.iload_n 1, 1) := by decide +kernel
theorem dX0_alter_21 : decode cX0_alter 21 = .ok (.imul, 1) := by decide +kernel
theorem dX0_alter_22 : decode cX0_alter 22 = .ok (.iload_n 2, 1) := by decide +kernel
theorem dX0_alter_23 : decode cX0_alter 23 = .ok (.iadd, 1) := by decide +kernel
theorem dX0_alter_24 : decode cX0_alter 24 = .ok (.dup2, 1) := by decide +kernel
theorem dX0_alter_25 : decode cX0_alter 25 = .ok (.iaload, 1) := by decide +kernel
theorem dX0_alter_26 : decode cX0_alter 26 = .ok (.iload_n 3, 1) := by decide +kernel
theorem dX0_alter_27 : decode cX0_alter 27 = .ok (.ixor, 1) := by decide +kernel
theorem dX0_alter_28 : decode cX0_alter 28 = .ok (.iastore, 1) := by decide +kernel
theorem dX0_alter_29 : decode cX0_alter 29 = .ok (.return_, 1) := by decide +kernel
theorem dX0_read_0 : decode cX0_read 0 = .ok (.iload_n 1, 1) := by decide +kernel
theorem dX0_read_1 : decode cX0_read 1 = .ok (.iload_n 2, 1) := by decide +kernel
theorem dX0_read_2 : decode cX0_read 2 = .ok (.invokestatic 26, 3) := by decide +kernel
theorem dX0_read_5 : decode cX0_read 5 = .ok (.ifCond .eq 31, 3) := by decide +kernel
theorem dX0_read_8 : decode cX0_read 8 = .ok (.aload_n 0, 1) := by decide +kernel
theorem dX0_read_9 : decode cX0_read 9 = .ok (.getfield 13, 3) := by decide +kernel
theorem dX0_read_12 : decode cX0_read 12 = .ok (.bipush 6, 2) := by decide +kernel
theorem dX0_read_14 : decode cX0_read 14 = .ok (.iload_n 1, 1) := by decide +kernel
theorem dX0_read_15 : decode cX0_read 15 = .ok (.imul, 1) := by decide +kernel
theorem dX0_read_16 : decode cX0_read 16 = .ok (.iload_n 2, 1) := by decide +kernel
theorem dX0_read_17 : decode cX0_read 17 = .ok (.iadd, 1) := by decide +kernel
theorem dX0_read_18 : decode cX0_read 18 = .ok (.baload, 1) := by decide +kernel
theorem dX0_read_19 : decode cX0_read 19 = .ok (.ifCond .ne 17, 3) := by decide +kernel
theorem dX0_read_22 : decode cX0_read 22 = .ok (.aload_n 0, 1) := by decide +kernel
theorem dX0_read_23 : decode cX0_read 23 = .ok (.getfield 7, 3) := by decide +kernel
theorem dX0_read_26 : decode cX0_read 26 = .ok (.bipush 6, 2) := by decide +kernel
theorem dX0_read_28 : decode cX0_read 28 = .ok (.iload_n 1, 1) := by decide +kernel
theorem dX0_read_29 : decode cX0_read 29 = .ok (.imul, 1) := by decide +kernel
theorem dX0_read_30 : decode cX0_read 30 = .ok (.iload_n 2, 1) := by decide +kernel
theorem dX0_read_31 : decode cX0_read 31 = .ok (.iadd, 1) := by decide +kernel
theorem dX0_read_32 : decode cX0_read 32 = .ok (.iaload, 1) := by decide +kernel
theorem dX0_read_33 : decode cX0_read 33 = .ok (.goto 4, 3) := by decide +kernel
theorem dX0_read_36 : decode cX0_read 36 = .ok (.iconst (-1), 1) := by decide +kernel
theorem dX0_read_37 : decode cX0_read 37 = .ok (.ireturn, 1) := by decide +kernel
theorem dX0_lose_0 : decode cX0_lose 0 = .ok (.iload_n 1, 1) := by decide +kernel
theorem dX0_lose_1 : decode cX0_lose 1 = .ok (.iload_n 2, 1) := by decide +kernel
theorem dX0_lose_2 : decode cX0_lose 2 = .ok (.invokestatic 41, 3) := by decide +kernel
theorem dX0_lose_5 : decode cX0_lose 5 = .ok (.ifCond .ne 5, 3) := by decide +kernel
theorem dX0_lose_8 : decode cX0_lose 8 = .ok (.iconst (-1), 1) := by decide +kernel
theorem dX0_lose_9 : decode cX0_lose 9 = .ok (.ireturn, 1) := by decide +kernel
theorem dX0_lose_10 : decode cX0_lose 10 = .ok (.bipush 6, 2) := by decide +kernel
theorem dX0_lose_12 : decode cX0_lose 12 = .ok (.iload_n 1, 1) := by decide +kernel
theorem dX0_lose_13 : decode cX0_lose 13 = .ok (.imul, 1) := by decide +kernel
theorem dX0_lose_14 : decode cX0_lose 14 = .ok (.iload_n 2, 1) := by decide +kernel
theorem dX0_lose_15 : decode cX0_lose 15 = .ok (.iadd, 1) := by decide +kernel
theorem dX0_lose_16 : decode cX0_lose 16 = .ok (.istore_n 3, 1) := by decide +kernel
theorem dX0_lose_17 : decode cX0_lose 17 = .ok (.aload_n 0, 1) := by decide +kernel
theorem dX0_lose_18 : decode cX0_lose 18 = .ok (.getfield 13, 3) := by decide +kernel
theorem dX0_lose_21 : decode cX0_lose 21 = .ok (.iload_n 3, 1) := by decide +kernel
theorem dX0_lose_22 : decode cX0_lose 22 = .ok (.baload, 1) := by decide +kernel
theorem dX0_lose_23 : decode cX0_lose 23 = .ok (.ifCond .eq 7, 3) := by decide +kernel
theorem dX0_lose_26 : decode cX0_lose 26 = .ok (.iconst 0, 1) := by decide +kernel
theorem dX0_lose_27 : decode cX0_lose 27 = .ok (.goto 4, 3) := by decide +kernel
theorem dX0_lose_30 : decode cX0_lose 30 = .ok (.iconst 1, 1) := by decide +kernel
theorem dX0_lose_31 : decode cX0_lose 31 = .ok (.istore 4, 2) := by decide +kernel
theorem dX0_lose_33 : decode cX0_lose 33 = .ok (.aload_n 0, 1) := by decide +kernel
theorem dX0_lose_34 : decode cX0_lose 34 = .ok (.getfield 13, 3) := by decide +kernel
theorem dX0_lose_37 : decode cX0_lose 37 = .ok (.iload_n 3, 1) := by decide +kernel
theorem dX0_lose_38 : decode cX0_lose 38 = .ok (.iconst 1, 1) := by decide +kernel
theorem dX0_lose_39 : decode cX0_lose 39 = .ok (.bastore, 1) := by decide +kernel
theorem dX0_lose_40 : decode cX0_lose 40 = .ok (.aload_n 0, 1) := by decide +kernel
theorem dX0_lose_41 : decode cX0_lose 41 = .ok (.getfield 7, 3) := by decide +kernel
theorem dX0_lose_44 : decode cX0_lose 44 = .ok (.iload_n 3, 1) := by decide +kernel
theorem dX0_lose_45 : decode cX0_lose 45 = .ok (.iconst 0, 1) := by decide +kernel
theorem dX0_lose_46 : decode cX0_lose 46 = .ok (.iastore, 1) := by decide +kernel
theorem dX0_lose_47 : decode cX0_lose 47 = .ok (.iload 4, 2) := by decide +kernel
theorem dX0_lose_49 : decode cX0_lose 49 = .ok (.ireturn, 1) := by decide +kernel
theorem dX0_isCell_0 : decode cX0_isCell 0 = .ok (.iload_n 0, 1) := by decide +kernel
theorem dX0_isCell_1 : decode cX0_isCell 1 = .ok (.ifCond .lt 21, 3) := by decide +kernel
theorem dX0_isCell_4 : decode cX0_isCell 4 = .ok (.iload_n 0, 1) := by decide +kernel
theorem dX0_isCell_5 : decode cX0_isCell 5 = .ok (.iconst 5, 1) := by decide +kernel
theorem dX0_isCell_6 : decode cX0_isCell 6 = .ok (.if_icmp .gt 16, 3) := by decide +kernel
theorem dX0_isCell_9 : decode cX0_isCell 9 = .ok (.iload_n 1, 1) := by decide +kernel
theorem dX0_isCell_10 : decode cX0_isCell 10 = .ok (.ifCond .lt 12, 3) := by decide +kernel
theorem dX0_isCell_13 : decode cX0_isCell 13 = .ok (.iload_n 1, 1) := by decide +kernel
theorem dX0_isCell_14 : decode cX0_isCell 14 = .ok (.iconst 5, 1) := by decide +kernel
theorem dX0_isCell_15 : decode cX0_isCell 15 = .ok (.if_icmp .gt 7, 3) := by decide +kernel
theorem dX0_isCell_18 : decode cX0_isCell 18 = .ok (.iconst 1, 1) := by decide +kernel
theorem dX0_isCell_19 : decode cX0_isCell 19 = .ok (.goto 4, 3) := by decide +kernel
theorem dX0_isCell_22 : decode cX0_isCell 22 = .ok (.iconst 0, 1) := by decide +kernel
theorem dX0_isCell_23 : decode cX0_isCell 23 = .ok (.ireturn, 1) := by decide +kernel
theorem dX0_loseRow_0 : decode cX0_loseRow 0 = .ok (.iload_n 1, 1) := by decide +kernel
theorem dX0_loseRow_1 : decode cX0_loseRow 1 = .ok (.iconst 0, 1) := by decide +kernel
theorem dX0_loseRow_2 : decode cX0_loseRow 2 = .ok (.invokestatic 41, 3) := by decide +kernel
theorem dX0_loseRow_5 : decode cX0_loseRow 5 = .ok (.ifCond .ne 5, 3) := by decide +kernel
theorem dX0_loseRow_8 : decode cX0_loseRow 8 = .ok (.iconst (-1), 1) := by decide +kernel
theorem dX0_loseRow_9 : decode cX0_loseRow 9 = .ok (.ireturn, 1) := by decide +kernel
theorem dX0_loseRow_10 : decode cX0_loseRow 10 = .ok (.iconst 0, 1) := by decide +kernel
theorem dX0_loseRow_11 : decode cX0_loseRow 11 = .ok (.istore_n 2, 1) := by decide +kernel
theorem dX0_loseRow_12 : decode cX0_loseRow 12 = .ok (.iconst 0, 1) := by decide +kernel
theorem dX0_loseRow_13 : decode cX0_loseRow 13 = .ok (.istore_n 3, 1) := by decide +kernel
theorem dX0_loseRow_14 : decode cX0_loseRow 14 = .ok (.iload_n 3, 1) := by decide +kernel
theorem dX0_loseRow_15 : decode cX0_loseRow 15 = .ok (.bipush 6, 2) := by decide +kernel
theorem dX0_loseRow_17 : decode cX0_loseRow 17 = .ok (.if_icmp .ge 18, 3) := by decide +kernel
theorem dX0_loseRow_20 : decode cX0_loseRow 20 = .ok (.iload_n 2, 1) := by decide +kernel
theorem dX0_loseRow_21 : decode cX0_loseRow 21 = .ok (.aload_n 0, 1) := by decide +kernel
theorem dX0_loseRow_22 : decode cX0_loseRow 22 = .ok (.iload_n 1, 1) := by decide +kernel
theorem dX0_loseRow_23 : decode cX0_loseRow 23 = .ok (.iload_n 3, 1) := by decide +kernel
theorem dX0_loseRow_24 : decode cX0_loseRow 24 = .ok (.invokevirtual 44, 3) := by decide +kernel
theorem dX0_loseRow_27 : decode cX0_loseRow 27 = .ok (.iadd, 1) := by decide +kernel
theorem dX0_loseRow_28 : decode cX0_loseRow 28 = .ok (.istore_n 2, 1) := by decide +kernel
theorem dX0_loseRow_29 : decode cX0_loseRow 29 = .ok (.iinc 3 1, 3) := by decide +kernel
theorem dX0_loseRow_32 : decode cX0_loseRow 32 = .ok (.goto (-18), 3) := by decide +kernel
theorem dX0_loseRow_35 : decode cX0_loseRow 35 = .ok (.iload_n 2, 1) := by decide +kernel
theorem dX0_loseRow_36 : decode cX0_loseRow 36 = .ok (.ireturn, 1) := by decide +kernel
theorem dX0_loseColumn_0 : decode cX0_loseColumn 0 = .ok (.iconst 0, 1) := by decide +kernel
theorem dX0_loseColumn_1 : decode cX0_loseColumn 1 = .ok (.iload_n 1, 1) := by decide +kernel
theorem dX0_loseColumn_2 : decode cX0_loseColumn 2 = .ok (.invokestatic 41, 3) := by decide +kernel
theorem dX0_loseColumn_5 : decode cX0_loseColumn 5 = .ok (.ifCond .ne 5, 3) := by decide +kernel
theorem dX0_loseColumn_8 : decode cX0_loseColumn 8 = .ok (.iconst (-1), 1) := by decide +kernel
theorem dX0_loseColumn_9 : decode cX0_loseColumn 9 = .ok (.ireturn, 1) := by decide +kernel
theorem dX0_loseColumn_10 : decode cX0_loseColumn 10 = .ok (.iconst 0, 1) := by decide +kernel
theorem dX0_loseColumn_11 : decode cX0_loseColumn 11 = .ok (.istore_n 2, 1) := by decide +kernel
theorem dX0_loseColumn_12 : decode cX0_loseColumn 12 = .ok (.iconst 0, 1) := by decide +kernel
theorem dX0_loseColumn_13 : decode cX0_loseColumn 13 = .ok (.istore_n 3, 1) := by decide +kernel
theorem dX0_loseColumn_14 : decode cX0_loseColumn 14 = .ok (.iload_n 3, 1) := by decide +kernel
theorem dX0_loseColumn_15 : decode cX0_loseColumn 15 = .ok (.bipush 6, 2) := by decide +kernel
theorem dX0_loseColumn_17 : decode cX0_loseColumn 17 = .ok (.if_icmp .ge 18, 3) := by decide +kernel
theorem dX0_loseColumn_20 : decode cX0_loseColumn 20 = .ok (.iload_n 2, 1) := by decide +kernel
theorem dX0_loseColumn_21 : decode cX0_loseColumn 21 = .ok (.aload_n 0, 1) := by decide +kernel
theorem dX0_loseColumn_22 : decode cX0_loseColumn 22 = .ok (.iload_n 3, 1) := by decide +kernel
theorem dX0_loseColumn_23 : decode cX0_loseColumn 23 = .ok (.iload_n 1, 1) := by decide +kernel
theorem dX0_loseColumn_24 : decode cX0_loseColumn 24 = .ok (.invokevirtual 44, 3) := by decide +kernel
theorem dX0_loseColumn_27 : decode cX0_loseColumn 27 = .ok (.iadd, 1) := by decide +kernel
theorem dX0_loseColumn_28 : decode cX0_loseColumn 28 = .ok (.istore_n 2, 1) := by decide +kernel
theorem dX0_loseColumn_29 : decode cX0_loseColumn 29 = .ok (.iinc 3 1, 3) := by decide +kernel
theorem dX0_loseColumn_32 : decode cX0_loseColumn 32 = .ok (.goto (-18), 3) := by decide +kernel
theorem dX0_loseColumn_35 : decode cX0_loseColumn 35 = .ok (.iload_n 2, 1) := by decide +kernel
theorem dX0_loseColumn_36 : decode cX0_loseColumn 36 = .ok (.ireturn, 1) := by decide +kernel
theorem dX0_mendRow_0 : decode cX0_mendRow 0 = .ok (.iload_n 1, 1) := by decide +kernel
theorem dX0_mendRow_1 : decode cX0_mendRow 1 = .ok (.iconst 0, 1) := by decide +kernel
theorem dX0_mendRow_2 : decode cX0_mendRow 2 = .ok (.invokestatic 41, 3) := by decide +kernel
theorem dX0_mendRow_5 : decode cX0_mendRow 5 = .ok (.ifCond .eq 15, 3) := by decide +kernel
theorem dX0_mendRow_8 : decode cX0_mendRow 8 = .ok (.aload_n 0, 1) := by decide +kernel
theorem dX0_mendRow_9 : decode cX0_mendRow 9 = .ok (.bipush 6, 2) := by decide +kernel
theorem dX0_mendRow_11 : decode cX0_mendRow 11 = .ok (.iload_n 1, 1) := by decide +kernel
theorem dX0_mendRow_12 : decode cX0_mendRow 12 = .ok (.imul, 1) := by decide +kernel
theorem dX0_mendRow_13 : decode cX0_mendRow 13 = .ok (.iconst 1, 1) := by decide +kernel
theorem dX0_mendRow_14 : decode cX0_mendRow 14 = .ok (.invokevirtual 47, 3) := by decide +kernel
theorem dX0_mendRow_17 : decode cX0_mendRow 17 = .ok (.goto 4, 3) := by decide +kernel
theorem dX0_mendRow_20 : decode cX0_mendRow 20 = .ok (.iconst (-1), 1) := by decide +kernel
theorem dX0_mendRow_21 : decode cX0_mendRow 21 = .ok (.ireturn, 1) := by decide +kernel
theorem dX0_mendLine_0 : decode cX0_mendLine 0 = .ok (.aload_n 0, 1) := by decide +kernel
theorem dX0_mendLine_1 : decode cX0_mendLine 1 = .ok (.iload_n 1, 1) := by decide +kernel
theorem dX0_mendLine_2 : decode cX0_mendLine 2 = .ok (.iload_n 2, 1) := by decide +kernel
theorem dX0_mendLine_3 : decode cX0_mendLine 3 = .ok (.invokevirtual 50, 3) := by decide +kernel
theorem dX0_mendLine_6 : decode cX0_mendLine 6 = .ok (.aload_n 0, 1) := by decide +kernel
theorem dX0_mendLine_7 : decode cX0_mendLine 7 = .ok (.getfield 54, 3) := by decide +kernel
theorem dX0_mendLine_10 : decode cX0_mendLine 10 = .ok (.iconst 1, 1) := by decide +kernel
theorem dX0_mendLine_11 : decode cX0_mendLine 11 = .ok (.if_icmp .lt 11, 3) := by decide +kernel
theorem dX0_mendLine_14 : decode cX0_mendLine 14 = .ok (.aload_n 0, 1) := by decide +kernel
theorem dX0_mendLine_15 : decode cX0_mendLine 15 = .ok (.getfield 54, 3) := by decide +kernel
theorem dX0_mendLine_18 : decode cX0_mendLine 18 = .ok (.iconst 2, 1) := by decide +kernel
theorem dX0_mendLine_19 : decode cX0_mendLine 19 = .ok (.if_icmp .le 5, 3) := by decide +kernel
theorem dX0_mendLine_22 : decode cX0_mendLine 22 = .ok (.iconst 0, 1) := by decide +kernel
theorem dX0_mendLine_23 : decode cX0_mendLine 23 = .ok (.ireturn, 1) := by decide +kernel
theorem dX0_mendLine_24 : decode cX0_mendLine 24 = .ok (.aload_n 0, 1) := by decide +kernel
theorem dX0_mendLine_25 : decode cX0_mendLine 25 = .ok (.iconst 0, 1) := by decide +kernel
theorem dX0_mendLine_26 : decode cX0_mendLine 26 = .ok (.invokevirtual 58, 3) := by decide +kernel
end
section
set_option maxRecDepth 100000
theorem dX0_mendLine_29 : decode cX0_mendLine 29 = .ok (.istore_n 3, 1) := by decide +kernel
theorem dX0_mendLine_30 : decode cX0_mendLine 30 = .ok (.aload_n 0, 1) := by decide +kernel
theorem dX0_mendLine_31 : decode cX0_mendLine 31 = .ok (.iconst 1, 1) := by decide +kernel
theorem dX0_mendLine_32 : decode cX0_mendLine 32 = .ok (.invokevirtual 58, 3) := by decide +kernel
theorem dX0_mendLine_35 : decode cX0_mendLine 35 = .ok (.istore 4, 2) := by decide +kernel
theorem dX0_mendLine_37 : decode cX0_mendLine 37 = .ok (.aload_n 0, 1) := by decide +kernel
theorem dX0_mendLine_38 : decode cX0_mendLine 38 = .ok (.getfield 54, 3) := by decide +kernel
theorem dX0_mendLine_41 : decode cX0_mendLine 41 = .ok (.iconst 1, 1) := by decide +kernel
theorem dX0_mendLine_42 : decode cX0_mendLine 42 = .ok (.if_icmp .ne 13, 3) := by decide +kernel
theorem dX0_mendLine_45 : decode cX0_mendLine 45 = .ok (.aload_n 0, 1) := by decide +kernel
theorem dX0_mendLine_46 : decode cX0_mendLine 46 = .ok (.iload_n 3, 1) := by decide +kernel
theorem dX0_mendLine_47 : decode cX0_mendLine 47 = .ok (.iload 4, 2) := by decide +kernel
theorem dX0_mendLine_49 : decode cX0_mendLine 49 = .ok (.invokevirtual 62, 3) := by decide +kernel
theorem dX0_mendLine_52 : decode cX0_mendLine 52 = .ok (.goto 10, 3) := by decide +kernel
theorem dX0_mendLine_55 : decode cX0_mendLine 55 = .ok (.aload_n 0, 1) := by decide +kernel
theorem dX0_mendLine_56 : decode cX0_mendLine 56 = .ok (.iload_n 3, 1) := by decide +kernel
theorem dX0_mendLine_57 : decode cX0_mendLine 57 = .ok (.iload 4, 2) := by decide +kernel
theorem dX0_mendLine_59 : decode cX0_mendLine 59 = .ok (.invokevirtual 65, 3) := by decide +kernel
theorem dX0_mendLine_62 : decode cX0_mendLine 62 = .ok (.aload_n 0, 1) := by decide +kernel
theorem dX0_mendLine_63 : decode cX0_mendLine 63 = .ok (.iload_n 1, 1) := by decide +kernel
theorem dX0_mendLine_64 : decode cX0_mendLine 64 = .ok (.iload_n 2, 1) := by decide +kernel
theorem dX0_mendLine_65 : decode cX0_mendLine 65 = .ok (.aload_n 0, 1) := by decide +kernel
theorem dX0_mendLine_66 : decode cX0_mendLine 66 = .ok (.getfield 68, 3) := by decide +kernel
theorem dX0_mendLine_69 : decode cX0_mendLine 69 = .ok (.invokevirtual 71, 3) := by decide +kernel
theorem dX0_mendLine_72 : decode cX0_mendLine 72 = .ok (.aload_n 0, 1) := by decide +kernel
theorem dX0_mendLine_73 : decode cX0_mendLine 73 = .ok (.getfield 54, 3) := by decide +kernel
theorem dX0_mendLine_76 : decode cX0_mendLine 76 = .ok (.iconst 2, 1) := by decide +kernel
theorem dX0_mendLine_77 : decode cX0_mendLine 77 = .ok (.if_icmp .ne 13, 3) := by decide +kernel
theorem dX0_mendLine_80 : decode cX0_mendLine 80 = .ok (.aload_n 0, 1) := by decide +kernel
theorem dX0_mendLine_81 : decode cX0_mendLine 81 = .ok (.iload_n 1, 1) := by decide +kernel
theorem dX0_mendLine_82 : decode cX0_mendLine 82 = .ok (.iload_n 2, 1) := by decide +kernel
theorem dX0_mendLine_83 : decode cX0_mendLine 83 = .ok (.aload_n 0, 1) := by decide +kernel
theorem dX0_mendLine_84 : decode cX0_mendLine 84 = .ok (.getfield 74, 3) := by decide +kernel
theorem dX0_mendLine_87 : decode cX0_mendLine 87 = .ok (.invokevirtual 71, 3) := by decide +kernel
theorem dX0_mendLine_90 : decode cX0_mendLine 90 = .ok (.aload_n 0, 1) := by decide +kernel
theorem dX0_mendLine_91 : decode cX0_mendLine 91 = .ok (.getfield 54, 3) := by decide +kernel
theorem dX0_mendLine_94 : decode cX0_mendLine 94 = .ok (.ireturn, 1) := by decide +kernel
theorem dX0_findLost_0 : decode cX0_findLost 0 = .ok (.aload_n 0, 1) := by decide +kernel
theorem dX0_findLost_1 : decode cX0_findLost 1 = .ok (.iconst 0, 1) := by decide +kernel
theorem dX0_findLost_2 : decode cX0_findLost 2 = .ok (.putfield 54, 3) := by decide +kernel
theorem dX0_findLost_5 : decode cX0_findLost 5 = .ok (.iconst 0, 1) := by decide +kernel
theorem dX0_findLost_6 : decode cX0_findLost 6 = .ok (.istore_n 3, 1) := by decide +kernel
theorem dX0_findLost_7 : decode cX0_findLost 7 = .ok (.iload_n 3, 1) := by decide +kernel
theorem dX0_findLost_8 : decode cX0_findLost 8 = .ok (.bipush 6, 2) := by decide +kernel
theorem dX0_findLost_10 : decode cX0_findLost 10 = .ok (.if_icmp .ge 83, 3) := by decide +kernel
theorem dX0_findLost_13 : decode cX0_findLost 13 = .ok (.iload_n 1, 1) := by decide +kernel
theorem dX0_findLost_14 : decode cX0_findLost 14 = .ok (.iload_n 2, 1) := by decide +kernel
theorem dX0_findLost_15 : decode cX0_findLost 15 = .ok (.iload_n 3, 1) := by decide +kernel
theorem dX0_findLost_16 : decode cX0_findLost 16 = .ok (.imul, 1) := by decide +kernel
theorem dX0_findLost_17 : decode cX0_findLost 17 = .ok (.iadd, 1) := by decide +kernel
theorem dX0_findLost_18 : decode cX0_findLost 18 = .ok (.istore 4, 2) := by decide +kernel
theorem dX0_findLost_20 : decode cX0_findLost 20 = .ok (.aload_n 0, 1) := by decide +kernel
theorem dX0_findLost_21 : decode cX0_findLost 21 = .ok (.getfield 23, 3) := by decide +kernel
theorem dX0_findLost_24 : decode cX0_findLost 24 = .ok (.iload_n 3, 1) := by decide +kernel
theorem dX0_findLost_25 : decode cX0_findLost 25 = .ok (.aload_n 0, 1) := by decide +kernel
theorem dX0_findLost_26 : decode cX0_findLost 26 = .ok (.getfield 13, 3) := by decide +kernel
theorem dX0_findLost_29 : decode cX0_findLost 29 = .ok (.iload 4, 2) := by decide +kernel
theorem dX0_findLost_31 : decode cX0_findLost 31 = .ok (.baload, 1) := by decide +kernel
theorem dX0_findLost_32 : decode cX0_findLost 32 = .ok (.ifCond .eq 7, 3) := by decide +kernel
theorem dX0_findLost_35 : decode cX0_findLost 35 = .ok (.iconst 0, 1) := by decide +kernel
theorem dX0_findLost_36 : decode cX0_findLost 36 = .ok (.goto 10, 3) := by decide +kernel
theorem dX0_findLost_39 : decode cX0_findLost 39 = .ok (.aload_n 0, 1) := by decide +kernel
theorem dX0_findLost_40 : decode cX0_findLost 40 = .ok (.getfield 7, 3) := by decide +kernel
theorem dX0_findLost_43 : decode cX0_findLost 43 = .ok (.iload 4, 2) := by decide +kernel
theorem dX0_findLost_45 : decode cX0_findLost 45 = .ok (.iaload, 1) := by decide +kernel
theorem dX0_findLost_46 : decode cX0_findLost 46 = .ok (.iastore, 1) := by decide +kernel
theorem dX0_findLost_47 : decode cX0_findLost 47 = .ok (.aload_n 0, 1) := by decide +kernel
theorem dX0_findLost_48 : decode cX0_findLost 48 = .ok (.getfield 13, 3) := by decide +kernel
theorem dX0_findLost_51 : decode cX0_findLost 51 = .ok (.iload 4, 2) := by decide +kernel
theorem dX0_findLost_53 : decode cX0_findLost 53 = .ok (.baload, 1) := by decide +kernel
theorem dX0_findLost_54 : decode cX0_findLost 54 = .ok (.ifCond .eq 33, 3) := by decide +kernel
theorem dX0_findLost_57 : decode cX0_findLost 57 = .ok (.aload_n 0, 1) := by decide +kernel
theorem dX0_findLost_58 : decode cX0_findLost 58 = .ok (.getfield 54, 3) := by decide +kernel
theorem dX0_findLost_61 : decode cX0_findLost 61 = .ok (.ifCond .ne 11, 3) := by decide +kernel
theorem dX0_findLost_64 : decode cX0_findLost 64 = .ok (.aload_n 0, 1) := by decide +kernel
theorem dX0_findLost_65 : decode cX0_findLost 65 = .ok (.iload_n 3, 1) := by decide +kernel
theorem dX0_findLost_66 : decode cX0_findLost 66 = .ok (.putfield 68, 3) := by decide +kernel
theorem dX0_findLost_69 : decode cX0_findLost 69 = .ok (.goto 8, 3) := by decide +kernel
theorem dX0_findLost_72 : decode cX0_findLost 72 = .ok (.aload_n 0, 1) := by decide +kernel
theorem dX0_findLost_73 : decode cX0_findLost 73 = .ok (.iload_n 3, 1) := by decide +kernel
theorem dX0_findLost_74 : decode cX0_findLost 74 = .ok (.putfield 74, 3) := by decide +kernel
theorem dX0_findLost_77 : decode cX0_findLost 77 = .ok (.aload_n 0, 1) := by decide +kernel
theorem dX0_findLost_78 : decode cX0_findLost 78 = .ok (.dup, 1) := by decide +kernel
theorem dX0_findLost_79 : decode cX0_findLost 79 = .ok (.getfield 54, 3) := by decide +kernel
theorem dX0_findLost_82 : decode cX0_findLost 82 = .ok (.iconst 1, 1) := by decide +kernel
theorem dX0_findLost_83 : decode cX0_findLost 83 = .ok (.iadd, 1) := by decide +kernel
theorem dX0_findLost_84 : decode cX0_findLost 84 = .ok (.putfield 54, 3) := by decide +kernel
theorem dX0_findLost_87 : decode cX0_findLost 87 = .ok (.iinc 3 1, 3) := by decide +kernel
theorem dX0_findLost_90 : decode cX0_findLost 90 = .ok (.goto (-83), 3) := by decide +kernel
theorem dX0_findLost_93 : decode cX0_findLost 93 = .ok (.return_, 1) := by decide +kernel
theorem dX0_sumOf_0 : decode cX0_sumOf 0 = .ok (.iconst 0, 1) := by decide +kernel
theorem dX0_sumOf_1 : decode cX0_sumOf 1 = .ok (.istore_n 2, 1) := by decide +kernel
theorem dX0_sumOf_2 : decode cX0_sumOf 2 = .ok (.iconst 0, 1) := by decide +kernel
theorem dX0_sumOf_3 : decode cX0_sumOf 3 = .ok (.istore_n 3, 1) := by decide +kernel
theorem dX0_sumOf_4 : decode cX0_sumOf 4 = .ok (.iload_n 3, 1) := by decide +kernel
theorem dX0_sumOf_5 : decode cX0_sumOf 5 = .ok (.bipush 6, 2) := by decide +kernel
theorem dX0_sumOf_7 : decode cX0_sumOf 7 = .ok (.if_icmp .ge 32, 3) := by decide +kernel
theorem dX0_sumOf_10 : decode cX0_sumOf 10 = .ok (.aload_n 0, 1) := by decide +kernel
theorem dX0_sumOf_11 : decode cX0_sumOf 11 = .ok (.iload_n 1, 1) := by decide +kernel
theorem dX0_sumOf_12 : decode cX0_sumOf 12 = .ok (.iload_n 3, 1) := by decide +kernel
theorem dX0_sumOf_13 : decode cX0_sumOf 13 = .ok (.invokevirtual 30, 3) := by decide +kernel
theorem dX0_sumOf_16 : decode cX0_sumOf 16 = .ok (.istore 4, 2) := by decide +kernel
theorem dX0_sumOf_18 : decode cX0_sumOf 18 = .ok (.iload_n 2, 1) := by decide +kernel
theorem dX0_sumOf_19 : decode cX0_sumOf 19 = .ok (.aload_n 0, 1) := by decide +kernel
theorem dX0_sumOf_20 : decode cX0_sumOf 20 = .ok (.iload 4, 2) := by decide +kernel
theorem dX0_sumOf_22 : decode cX0_sumOf 22 = .ok (.aload_n 0, 1) := by decide +kernel
theorem dX0_sumOf_23 : decode cX0_sumOf 23 = .ok (.getfield 23, 3) := by decide +kernel
theorem dX0_sumOf_26 : decode cX0_sumOf 26 = .ok (.iload_n 3, 1) := by decide +kernel
theorem dX0_sumOf_27 : decode cX0_sumOf 27 = .ok (.iaload, 1) := by decide +kernel
theorem dX0_sumOf_28 : decode cX0_sumOf 28 = .ok (.invokevirtual 34, 3) := by decide +kernel
theorem dX0_sumOf_31 : decode cX0_sumOf 31 = .ok (.ixor, 1) := by decide +kernel
theorem dX0_sumOf_32 : decode cX0_sumOf 32 = .ok (.istore_n 2, 1) := by decide +kernel
theorem dX0_sumOf_33 : decode cX0_sumOf 33 = .ok (.iinc 3 1, 3) := by decide +kernel
theorem dX0_sumOf_36 : decode cX0_sumOf 36 = .ok (.goto (-32), 3) := by decide +kernel
theorem dX0_sumOf_39 : decode cX0_sumOf 39 = .ok (.iload_n 2, 1) := by decide +kernel
theorem dX0_sumOf_40 : decode cX0_sumOf 40 = .ok (.ireturn, 1) := by decide +kernel
theorem dX0_mendOne_0 : decode cX0_mendOne 0 = .ok (.aload_n 0, 1) := by decide +kernel
theorem dX0_mendOne_1 : decode cX0_mendOne 1 = .ok (.iconst 0, 1) := by decide +kernel
theorem dX0_mendOne_2 : decode cX0_mendOne 2 = .ok (.aload_n 0, 1) := by decide +kernel
theorem dX0_mendOne_3 : decode cX0_mendOne 3 = .ok (.getfield 68, 3) := by decide +kernel
theorem dX0_mendOne_6 : decode cX0_mendOne 6 = .ok (.invokevirtual 30, 3) := by decide +kernel
theorem dX0_mendOne_9 : decode cX0_mendOne 9 = .ok (.istore_n 3, 1) := by decide +kernel
theorem dX0_mendOne_10 : decode cX0_mendOne 10 = .ok (.iload_n 3, 1) := by decide +kernel
theorem dX0_mendOne_11 : decode cX0_mendOne 11 = .ok (.ifCond .eq 21, 3) := by decide +kernel
theorem dX0_mendOne_14 : decode cX0_mendOne 14 = .ok (.aload_n 0, 1) := by decide +kernel
theorem dX0_mendOne_15 : decode cX0_mendOne 15 = .ok (.getfield 23, 3) := by decide +kernel
theorem dX0_mendOne_18 : decode cX0_mendOne 18 = .ok (.aload_n 0, 1) := by decide +kernel
theorem dX0_mendOne_19 : decode cX0_mendOne 19 = .ok (.getfield 68, 3) := by decide +kernel
theorem dX0_mendOne_22 : decode cX0_mendOne 22 = .ok (.aload_n 0, 1) := by decide +kernel
theorem dX0_mendOne_23 : decode cX0_mendOne 23 = .ok (.iload_n 1, 1) := by decide +kernel
theorem dX0_mendOne_24 : decode cX0_mendOne 24 = .ok (.iload_n 3, 1) := by decide +kernel
theorem dX0_mendOne_25 : decode cX0_mendOne 25 = .ok (.invokevirtual 77, 3) := by decide +kernel
theorem dX0_mendOne_28 : decode cX0_mendOne 28 = .ok (.iastore, 1) := by decide +kernel
theorem dX0_mendOne_29 : decode cX0_mendOne 29 = .ok (.goto 30, 3) := by decide +kernel
theorem dX0_mendOne_32 : decode cX0_mendOne 32 = .ok (.aload_n 0, 1) := by decide +kernel
theorem dX0_mendOne_33 : decode cX0_mendOne 33 = .ok (.iconst 1, 1) := by decide +kernel
theorem dX0_mendOne_34 : decode cX0_mendOne 34 = .ok (.aload_n 0, 1) := by decide +kernel
theorem dX0_mendOne_35 : decode cX0_mendOne 35 = .ok (.getfield 68, 3) := by decide +kernel
theorem dX0_mendOne_38 : decode cX0_mendOne 38 = .ok (.invokevirtual 30, 3) := by decide +kernel
theorem dX0_mendOne_41 : decode cX0_mendOne 41 = .ok (.istore 4, 2) := by decide +kernel
theorem dX0_mendOne_43 : decode cX0_mendOne 43 = .ok (.aload_n 0, 1) := by decide +kernel
theorem dX0_mendOne_44 : decode cX0_mendOne 44 = .ok (.getfield 23, 3) := by decide +kernel
theorem dX0_mendOne_47 : decode cX0_mendOne 47 = .ok (.aload_n 0, 1) := by decide +kernel
theorem dX0_mendOne_48 : decode cX0_mendOne 48 = .ok (.getfield 68, 3) := by decide +kernel
theorem dX0_mendOne_51 : decode cX0_mendOne 51 = .ok (.aload_n 0, 1) := by decide +kernel
theorem dX0_mendOne_52 : decode cX0_mendOne 52 = .ok (.iload_n 2, 1) := by decide +kernel
theorem dX0_mendOne_53 : decode cX0_mendOne 53 = .ok (.iload 4, 2) := by decide +kernel
theorem dX0_mendOne_55 : decode cX0_mendOne 55 = .ok (.invokevirtual 77, 3) := by decide +kernel
theorem dX0_mendOne_58 : decode cX0_mendOne 58 = .ok (.iastore, 1) := by decide +kernel
theorem dX0_mendOne_59 : decode cX0_mendOne 59 = .ok (.return_, 1) := by decide +kernel
theorem dX0_divide_0 : decode cX0_divide 0 = .ok (.iload_n 1, 1) := by decide +kernel
theorem dX0_divide_1 : decode cX0_divide 1 = .ok (.ifCond .ne 7, 3) := by decide +kernel
theorem dX0_divide_4 : decode cX0_divide 4 = .ok (.iconst 0, 1) := by decide +kernel
theorem dX0_divide_5 : decode cX0_divide 5 = .ok (.goto 25, 3) := by decide +kernel
theorem dX0_divide_8 : decode cX0_divide 8 = .ok (.aload_n 0, 1) := by decide +kernel
theorem dX0_divide_9 : decode cX0_divide 9 = .ok (.getfield 17, 3) := by decide +kernel
theorem dX0_divide_12 : decode cX0_divide 12 = .ok (.aload_n 0, 1) := by decide +kernel
theorem dX0_divide_13 : decode cX0_divide 13 = .ok (.getfield 20, 3) := by decide +kernel
theorem dX0_divide_16 : decode cX0_divide 16 = .ok (.iload_n 1, 1) := by decide +kernel
theorem dX0_divide_17 : decode cX0_divide 17 = .ok (.iaload, 1) := by decide +kernel
theorem dX0_divide_18 : decode cX0_divide 18 = .ok (.sipush 255, 3) := by decide +kernel
theorem dX0_divide_21 : decode cX0_divide 21 = .ok (.iadd, 1) := by decide +kernel
theorem dX0_divide_22 : decode cX0_divide 22 = .ok (.aload_n 0, 1) := by decide +kernel
theorem dX0_divide_23 : decode cX0_divide 23 = .ok (.getfield 20, 3) := by decide +kernel
theorem dX0_divide_26 : decode cX0_divide 26 = .ok (.iload_n 2, 1) := by decide +kernel
theorem dX0_divide_27 : decode cX0_divide 27 = .ok (.iaload, 1) := by decide +kernel
theorem dX0_divide_28 : decode cX0_divide 28 = .ok (.isub, 1) := by decide +kernel
theorem dX0_divide_29 : decode cX0_divide 29 = .ok (.iaload, 1) := by decide +kernel
theorem dX0_divide_30 : decode cX0_divide 30 = .ok (.ireturn, 1) := by decide +kernel
theorem dX0_mendTwo_0 : decode cX0_mendTwo 0 = .ok (.aload_n 0, 1) := by decide +kernel
theorem dX0_mendTwo_1 : decode cX0_mendTwo 1 = .ok (.iconst 0, 1) := by decide +kernel
theorem dX0_mendTwo_2 : decode cX0_mendTwo 2 = .ok (.aload_n 0, 1) := by decide +kernel
theorem dX0_mendTwo_3 : decode cX0_mendTwo 3 = .ok (.getfield 68, 3) := by decide +kernel
theorem dX0_mendTwo_6 : decode cX0_mendTwo 6 = .ok (.invokevirtual 30, 3) := by decide +kernel
theorem dX0_mendTwo_9 : decode cX0_mendTwo 9 = .ok (.istore_n 3, 1) := by decide +kernel
theorem dX0_mendTwo_10 : decode cX0_mendTwo 10 = .ok (.aload_n 0, 1) := by decide +kernel
theorem dX0_mendTwo_11 : decode cX0_mendTwo 11 = .ok (.iconst 0, 1) := by decide +kernel
theorem dX0_mendTwo_12 : decode cX0_mendTwo 12 = .ok (.aload_n 0, 1) := by decide +kernel
theorem dX0_mendTwo_13 : decode cX0_mendTwo 13 = .ok (.getfield 74, 3) := by decide +kernel
theorem dX0_mendTwo_16 : decode cX0_mendTwo 16 = .ok (.invokevirtual 30, 3) := by decide +kernel
theorem dX0_mendTwo_19 : decode cX0_mendTwo 19 = .ok (.istore 4, 2) := by decide +kernel
theorem dX0_mendTwo_21 : decode cX0_mendTwo 21 = .ok (.aload_n 0, 1) := by decide +kernel
theorem dX0_mendTwo_22 : decode cX0_mendTwo 22 = .ok (.iconst 1, 1) := by decide +kernel
theorem dX0_mendTwo_23 : decode cX0_mendTwo 23 = .ok (.aload_n 0, 1) := by decide +kernel
theorem dX0_mendTwo_24 : decode cX0_mendTwo 24 = .ok (.getfield 68, 3) := by decide +kernel
theorem dX0_mendTwo_27 : decode cX0_mendTwo 27 = .ok (.invokevirtual 30, 3) := by decide +kernel
theorem dX0_mendTwo_30 : decode cX0_mendTwo 30 = .ok (.istore 5, 2) := by decide +kernel
theorem dX0_mendTwo_32 : decode cX0_mendTwo 32 = .ok (.aload_n 0, 1) := by decide +kernel
theorem dX0_mendTwo_33 : decode cX0_mendTwo 33 = .ok (.iconst 1, 1) := by decide +kernel
theorem dX0_mendTwo_34 : decode cX0_mendTwo 34 = .ok (.aload_n 0, 1) := by decide +kernel
theorem dX0_mendTwo_35 : decode cX0_mendTwo 35 = .ok (.getfield 74, 3) := by decide +kernel
theorem dX0_mendTwo_38 : decode cX0_mendTwo 38 = .ok (.invokevirtual 30, 3) := by decide +kernel
theorem dX0_mendTwo_41 : decode cX0_mendTwo 41 = .ok (.istore 6, 2) := by decide +kernel
theorem dX0_mendTwo_43 : decode cX0_mendTwo 43 = .ok (.aload_n 0, 1) := by decide +kernel
theorem dX0_mendTwo_44 : decode cX0_mendTwo 44 = .ok (.iload_n 3, 1) := by decide +kernel
theorem dX0_mendTwo_45 : decode cX0_mendTwo 45 = .ok (.iload 6, 2) := by decide +kernel
theorem dX0_mendTwo_47 : decode cX0_mendTwo 47 = .ok (.invokevirtual 34, 3) := by decide +kernel
theorem dX0_mendTwo_50 : decode cX0_mendTwo 50 = .ok (.aload_n 0, 1) := by decide +kernel
theorem dX0_mendTwo_51 : decode cX0_mendTwo 51 = .ok (.iload 4, 2) := by decide +kernel
theorem dX0_mendTwo_53 : decode cX0_mendTwo 53 = .ok (.iload 5, 2) := by decide +kernel
theorem dX0_mendTwo_55 : decode cX0_mendTwo 55 = .ok (.invokevirtual 34, 3) := by decide +kernel
theorem dX0_mendTwo_58 : decode cX0_mendTwo 58 = .ok (.ixor, 1) := by decide +kernel
theorem dX0_mendTwo_59 : decode cX0_mendTwo 59 = .ok (.istore 7, 2) := by decide +kernel
theorem dX0_mendTwo_61 : decode cX0_mendTwo 61 = .ok (.aload_n 0, 1) := by decide +kernel
theorem dX0_mendTwo_62 : decode cX0_mendTwo 62 = .ok (.iload_n 1, 1) := by decide +kernel
theorem dX0_mendTwo_63 : decode cX0_mendTwo 63 = .ok (.iload 6, 2) := by decide +kernel
theorem dX0_mendTwo_65 : decode cX0_mendTwo 65 = .ok (.invokevirtual 34, 3) := by decide +kernel
theorem dX0_mendTwo_68 : decode cX0_mendTwo 68 = .ok (.aload_n 0, 1) := by decide +kernel
theorem dX0_mendTwo_69 : decode cX0_mendTwo 69 = .ok (.iload_n 2, 1) := by decide +kernel
theorem dX0_mendTwo_70 : decode cX0_mendTwo 70 = .ok (.iload 4, 2) := by decide +kernel
theorem dX0_mendTwo_72 : decode cX0_mendTwo 72 = .ok (.invokevirtual 34, 3) := by decide +kernel
theorem dX0_mendTwo_75 : decode cX0_mendTwo 75 = .ok (.ixor, 1) := by decide +kernel
theorem dX0_mendTwo_76 : decode cX0_mendTwo 76 = .ok (.istore 8, 2) := by decide +kernel
theorem dX0_mendTwo_78 : decode cX0_mendTwo 78 = .ok (.aload_n 0, 1) := by decide +kernel
theorem dX0_mendTwo_79 : decode cX0_mendTwo 79 = .ok (.iload_n 3, 1) := by decide +kernel
theorem dX0_mendTwo_80 : decode cX0_mendTwo 80 = .ok (.iload_n 2, 1) := by decide +kernel
theorem dX0_mendTwo_81 : decode cX0_mendTwo 81 = .ok (.invokevirtual 34, 3) := by decide +kernel
theorem dX0_mendTwo_84 : decode cX0_mendTwo 84 = .ok (.aload_n 0, 1) := by decide +kernel
theorem dX0_mendTwo_85 : decode cX0_mendTwo 85 = .ok (.iload 5, 2) := by decide +kernel
theorem dX0_mendTwo_87 : decode cX0_mendTwo 87 = .ok (.iload_n 1, 1) := by decide +kernel
theorem dX0_mendTwo_88 : decode cX0_mendTwo 88 = .ok (.invokevirtual 34, 3) := by decide +kernel
theorem dX0_mendTwo_91 : decode cX0_mendTwo 91 = .ok (.ixor, 1) := by decide +kernel
theorem dX0_mendTwo_92 : decode cX0_mendTwo 92 = .ok (.istore 9, 2) := by decide +kernel
theorem dX0_mendTwo_94 : decode cX0_mendTwo 94 = .ok (.aload_n 0, 1) := by decide +kernel
theorem dX0_mendTwo_95 : decode cX0_mendTwo 95 = .ok (.getfield 23, 3) := by decide +kernel
theorem dX0_mendTwo_98 : decode cX0_mendTwo 98 = .ok (.aload_n 0, 1) := by decide +kernel
theorem dX0_mendTwo_99 : decode cX0_mendTwo 99 = .ok (.getfield 68, 3) := by decide +kernel
theorem dX0_mendTwo_102 : decode cX0_mendTwo 102 = .ok (.aload_n 0, 1) := by decide +kernel
theorem dX0_mendTwo_103 : decode cX0_mendTwo 103 = .ok (.iload 8, 2) := by decide +kernel
theorem dX0_mendTwo_105 : decode cX0_mendTwo 105 = .ok (.iload 7, 2) := by decide +kernel
theorem dX0_mendTwo_107 : decode cX0_mendTwo 107 = .ok (.invokevirtual 77, 3) := by decide +kernel
theorem dX0_mendTwo_110 : decode cX0_mendTwo 110 = .ok (.iastore, 1) := by decide +kernel
theorem dX0_mendTwo_111 : decode cX0_mendTwo 111 = .ok (.aload_n 0, 1) := by decide +kernel
theorem dX0_mendTwo_112 : decode cX0_mendTwo 112 = .ok (.getfield 23, 3) := by decide +kernel
theorem dX0_mendTwo_115 : decode cX0_mendTwo 115 = .ok (.aload_n 0, 1) := by decide +kernel
theorem dX0_mendTwo_116 : decode cX0_mendTwo 116 = .ok (.getfield 74, 3) := by decide +kernel
theorem dX0_mendTwo_119 : decode cX0_mendTwo 119 = .ok (.aload_n 0, 1) := by decide +kernel
theorem dX0_mendTwo_120 : decode cX0_mendTwo 120 = .ok (.iload 9, 2) := by decide +kernel
theorem dX0_mendTwo_122 : decode cX0_mendTwo 122 = .ok (.iload 7, 2) := by decide +kernel
theorem dX0_mendTwo_124 : decode cX0_mendTwo 124 = .ok (.invokevirtual 77, 3) := by decide +kernel
theorem dX0_mendTwo_127 : decode cX0_mendTwo 127 = .ok (.iastore, 1) := by decide +kernel
theorem dX0_mendTwo_128 : decode cX0_mendTwo 128 = .ok (.return_, 1) := by decide +kernel
theorem dX0_keep_0 : decode cX0_keep 0 = .ok (.iload_n 1, 1) := by decide +kernel
theorem dX0_keep_1 : decode cX0_keep 1 = .ok (.iload_n 2, 1) := by decide +kernel
theorem dX0_keep_2 : decode cX0_keep 2 = .ok (.iload_n 3, 1) := by decide +kernel
theorem dX0_keep_3 : decode cX0_keep 3 = .ok (.imul, 1) := by decide +kernel
theorem dX0_keep_4 : decode cX0_keep 4 = .ok (.iadd, 1) := by decide +kernel
theorem dX0_keep_5 : decode cX0_keep 5 = .ok (.istore 4, 2) := by decide +kernel
theorem dX0_keep_7 : decode cX0_keep 7 = .ok (.aload_n 0, 1) := by decide +kernel
theorem dX0_keep_8 : decode cX0_keep 8 = .ok (.getfield 7, 3) := by decide +kernel
theorem dX0_keep_11 : decode cX0_keep 11 = .ok (.iload 4, 2) := by decide +kernel
theorem dX0_keep_13 : decode cX0_keep 13 = .ok (.aload_n 0, 1) := by decide +kernel
theorem dX0_keep_14 : decode cX0_keep 14 = .ok (.getfield 23, 3) := by decide +kernel
theorem dX0_keep_17 : decode cX0_keep 17 = .ok (.iload_n 3, 1) := by decide +kernel
theorem dX0_keep_18 : decode cX0_keep 18 = .ok (.iaload, 1) := by decide +kernel
theorem dX0_keep_19 : decode cX0_keep 19 = .ok (.iastore, 1) := by decide +kernel
theorem dX0_keep_20 : decode cX0_keep 20 = .ok (.aload_n 0, 1) := by decide +kernel
theorem dX0_keep_21 : decode cX0_keep 21 = .ok (.getfield 13, 3) := by decide +kernel
theorem dX0_keep_24 : decode cX0_keep 24 = .ok (.iload 4, 2) := by decide +kernel
theorem dX0_keep_26 : decode cX0_keep 26 = .ok (.iconst 0, 1) := by decide +kernel
theorem dX0_keep_27 : decode cX0_keep 27 = .ok (.bastore, 1) := by decide +kernel
theorem dX0_keep_28 : decode cX0_keep 28 = .ok (.return_, 1) := by decide +kernel
theorem dX0_mendColumn_0 : decode cX0_mendColumn 0 = .ok (.iconst 0, 1) := by decide +kernel
theorem dX0_mendColumn_1 : decode cX0_mendColumn 1 = .ok (.iload_n 1, 1) := by decide +kernel
theorem dX0_mendColumn_2 : decode cX0_mendColumn 2 = .ok (.invokestatic 41, 3) := by decide +kernel
theorem dX0_mendColumn_5 : decode cX0_mendColumn 5 = .ok (.ifCond .eq 13, 3) := by decide +kernel
theorem dX0_mendColumn_8 : decode cX0_mendColumn 8 = .ok (.aload_n 0, 1) := by decide +kernel
theorem dX0_mendColumn_9 : decode cX0_mendColumn 9 = .ok (.iload_n 1, 1) := by decide +kernel
theorem dX0_mendColumn_10 : decode cX0_mendColumn 10 = .ok (.bipush 6, 2) := by decide +kernel
theorem dX0_mendColumn_12 : decode cX0_mendColumn 12 = .ok (.invokevirtual 47, 3) := by decide +kernel
theorem dX0_mendColumn_15 : decode cX0_mendColumn 15 = .ok (.goto 4, 3) := by decide +kernel
theorem dX0_mendColumn_18 : decode cX0_mendColumn 18 = .ok (.iconst (-1), 1) := by decide +kernel
theorem dX0_mendColumn_19 : decode cX0_mendColumn 19 = .ok (.ireturn, 1) := by decide +kernel
theorem dX0_mend_0 : decode cX0_mend 0 = .ok (.iconst 0, 1) := by decide +kernel
theorem dX0_mend_1 : decode cX0_mend 1 = .ok (.istore_n 1, 1) := by decide +kernel
theorem dX0_mend_2 : decode cX0_mend 2 = .ok (.iconst 1, 1) := by decide +kernel
theorem dX0_mend_3 : decode cX0_mend 3 = .ok (.istore_n 2, 1) := by decide +kernel
theorem dX0_mend_4 : decode cX0_mend 4 = .ok (.iconst 0, 1) := by decide +kernel
theorem dX0_mend_5 : decode cX0_mend 5 = .ok (.istore_n 3, 1) := by decide +kernel
theorem dX0_mend_6 : decode cX0_mend 6 = .ok (.iload_n 3, 1) := by decide +kernel
theorem dX0_mend_7 : decode cX0_mend 7 = .ok (.bipush 37, 2) := by decide +kernel
theorem dX0_mend_9 : decode cX0_mend 9 = .ok (.if_icmp .ge 76, 3) := by decide +kernel
theorem dX0_mend_12 : decode cX0_mend 12 = .ok (.iload_n 2, 1) := by decide +kernel
theorem dX0_mend_13 : decode cX0_mend 13 = .ok (.ifCond .eq 72, 3) := by decide +kernel
theorem dX0_mend_16 : decode cX0_mend 16 = .ok (.iconst 0, 1) := by decide +kernel
theorem dX0_mend_17 : decode cX0_mend 17 = .ok (.istore 4, 2) := by decide +kernel
theorem dX0_mend_19 : decode cX0_mend 19 = .ok (.iconst 0, 1) := by decide +kernel
theorem dX0_mend_20 : decode cX0_mend 20 = .ok (.istore 5, 2) := by decide +kernel
theorem dX0_mend_22 : decode cX0_mend 22 = .ok (.iload 5, 2) := by decide +kernel
theorem dX0_mend_24 : decode cX0_mend 24 = .ok (.bipush 6, 2) := by decide +kernel
theorem dX0_mend_26 : decode cX0_mend 26 = .ok (.if_icmp .ge 37, 3) := by decide +kernel
theorem dX0_mend_29 : decode cX0_mend 29 = .ok (.iload 4, 2) := by decide +kernel
theorem dX0_mend_31 : decode cX0_mend 31 = .ok (.aload_n 0, 1) := by decide +kernel
theorem dX0_mend_32 : decode cX0_mend 32 = .ok (.bipush 6, 2) := by decide +kernel
theorem dX0_mend_34 : decode cX0_mend 34 = .ok (.iload 5, 2) := by decide +kernel
theorem dX0_mend_36 : decode cX0_mend 36 = .ok (.imul, 1) := by decide +kernel
theorem dX0_mend_37 : decode cX0_mend 37 = .ok (.iconst 1, 1) := by decide +kernel
theorem dX0_mend_38 : decode cX0_mend 38 = .ok (.invokevirtual 47, 3) := by decide +kernel
theorem dX0_mend_41 : decode cX0_mend 41 = .ok (.iadd, 1) := by decide +kernel
theorem dX0_mend_42 : decode cX0_mend 42 = .ok (.istore 4, 2) := by decide +kernel
theorem dX0_mend_44 : decode cX0_mend 44 = .ok (.iload 4, 2) := by decide +kernel
theorem dX0_mend_46 : decode cX0_mend 46 = .ok (.aload_n 0, 1) := by decide +kernel
theorem dX0_mend_47 : decode cX0_mend 47 = .ok (.iload 5, 2) := by decide +kernel
theorem dX0_mend_49 : decode cX0_mend 49 = .ok (.bipush 6, 2) := by decide +kernel
theorem dX0_mend_51 : decode cX0_mend 51 = .ok (.invokevirtual 47, 3) := by decide +kernel
theorem dX0_mend_54 : decode cX0_mend 54 = .ok (.iadd, 1) := by decide +kernel
theorem dX0_mend_55 : decode cX0_mend 55 = .ok (.istore 4, 2) := by decide +kernel
theorem dX0_mend_57 : decode cX0_mend 57 = .ok (.iinc 5 1, 3) := by decide +kernel
theorem dX0_mend_60 : decode cX0_mend 60 = .ok (.goto (-38), 3) := by decide +kernel
theorem dX0_mend_63 : decode cX0_mend 63 = .ok (.iload_n 1, 1) := by decide +kernel
theorem dX0_mend_64 : decode cX0_mend 64 = .ok (.iload 4, 2) := by decide +kernel
theorem dX0_mend_66 : decode cX0_mend 66 = .ok (.iadd, 1) := by decide +kernel
theorem dX0_mend_67 : decode cX0_mend 67 = .ok (.istore_n 1, 1) := by decide +kernel
theorem dX0_mend_68 : decode cX0_mend 68 = .ok (.iload 4, 2) := by decide +kernel
theorem dX0_mend_70 : decode cX0_mend 70 = .ok (.ifCond .le 7, 3) := by decide +kernel
theorem dX0_mend_73 : decode cX0_mend 73 = .ok (.iconst 1, 1) := by decide +kernel
theorem dX0_mend_74 : decode cX0_mend 74 = .ok (.goto 4, 3) := by decide +kernel
theorem dX0_mend_77 : decode cX0_mend 77 = .ok (.iconst 0, 1) := by decide +kernel
theorem dX0_mend_78 : decode cX0_mend 78 = .ok (.istore_n 2, 1) := by decide +kernel
theorem dX0_mend_79 : decode cX0_mend 79 = .ok (.iinc 3 1, 3) := by decide +kernel
theorem dX0_mend_82 : decode cX0_mend 82 = .ok (.goto (-76), 3) := by decide +kernel
theorem dX0_mend_85 : decode cX0_mend 85 = .ok (.iload_n 1, 1) := by decide +kernel
theorem dX0_mend_86 : decode cX0_mend 86 = .ok (.ireturn, 1) := by decide +kernel
theorem dX0_lost_0 : decode cX0_lost 0 = .ok (.iload_n 1, 1) := by decide +kernel
theorem dX0_lost_1 : decode cX0_lost 1 = .ok (.iload_n 2, 1) := by decide +kernel
theorem dX0_lost_2 : decode cX0_lost 2 = .ok (.invokestatic 41, 3) := by decide +kernel
theorem dX0_lost_5 : decode cX0_lost 5 = .ok (.ifCond .ne 5, 3) := by decide +kernel
theorem dX0_lost_8 : decode cX0_lost 8 = .ok (.iconst (-1), 1) := by decide +kernel
theorem dX0_lost_9 : decode cX0_lost 9 = .ok (.ireturn, 1) := by decide +kernel
theorem dX0_lost_10 : decode cX0_lost 10 = .ok (.aload_n 0, 1) := by decide +kernel
theorem dX0_lost_11 : decode cX0_lost 11 = .ok (.getfield 13, 3) := by decide +kernel
theorem dX0_lost_14 : decode cX0_lost 14 = .ok (.bipush 6, 2) := by decide +kernel
theorem dX0_lost_16 : decode cX0_lost 16 = .ok (.iload_n 1, 1) := by decide +kernel
theorem dX0_lost_17 : decode cX0_lost 17 = .ok (.imul, 1) := by decide +kernel
theorem dX0_lost_18 : decode cX0_lost 18 = .ok (.iload_n 2, 1) := by decide +kernel
theorem dX0_lost_19 : decode cX0_lost 19 = .ok (.iadd, 1) := by decide +kernel
theorem dX0_lost_20 : decode cX0_lost 20 = .ok (.baload, 1) := by decide +kernel
theorem dX0_lost_21 : decode cX0_lost 21 = .ok (.ifCond .eq 7, 3) := by decide +kernel
theorem dX0_lost_24 : decode cX0_lost 24 = .ok (.iconst 1, 1) := by decide +kernel
theorem dX0_lost_25 : decode cX0_lost 25 = .ok (.goto 4, 3) := by decide +kernel
theorem dX0_lost_28 : decode cX0_lost 28 = .ok (.iconst 0, 1) := by decide +kernel
theorem dX0_lost_29 : decode cX0_lost 29 = .ok (.ireturn, 1) := by decide +kernel
theorem dX0_losses_0 : decode cX0_losses 0 = .ok (.iconst 0, 1) := by decide +kernel
theorem dX0_losses_1 : decode cX0_losses 1 = .ok (.istore_n 1, 1) := by decide +kernel
theorem dX0_losses_2 : decode cX0_losses 2 = .ok (.iconst 0, 1) := by decide +kernel
theorem dX0_losses_3 : decode cX0_losses 3 = .ok (.istore_n 2, 1) := by decide +kernel
theorem dX0_losses_4 : decode cX0_losses 4 = .ok (.iload_n 2, 1) := by decide +kernel
theorem dX0_losses_5 : decode cX0_losses 5 = .ok (.bipush 36, 2) := by decide +kernel
theorem dX0_losses_7 : decode cX0_losses 7 = .ok (.if_icmp .ge 26, 3) := by decide +kernel
theorem dX0_losses_10 : decode cX0_losses 10 = .ok (.iload_n 1, 1) := by decide +kernel
theorem dX0_losses_11 : decode cX0_losses 11 = .ok (.aload_n 0, 1) := by decide +kernel
theorem dX0_losses_12 : decode cX0_losses 12 = .ok (.getfield 13, 3) := by decide +kernel
theorem dX0_losses_15 : decode cX0_losses 15 = .ok (.iload_n 2, 1) := by decide +kernel
theorem dX0_losses_16 : decode cX0_losses 16 = .ok (.baload, 1) := by decide +kernel
theorem dX0_losses_17 : decode cX0_losses 17 = .ok (.ifCond .eq 7, 3) := by decide +kernel
theorem dX0_losses_20 : decode cX0_losses 20 = .ok (.iconst 1, 1) := by decide +kernel
theorem dX0_losses_21 : decode cX0_losses 21 = .ok (.goto 4, 3) := by decide +kernel
theorem dX0_losses_24 : decode cX0_losses 24 = .ok (.iconst 0, 1) := by decide +kernel
theorem dX0_losses_25 : decode cX0_losses 25 = .ok (.iadd, 1) := by decide +kernel
theorem dX0_losses_26 : decode cX0_losses 26 = .ok (.istore_n 1, 1) := by decide +kernel
theorem dX0_losses_27 : decode cX0_losses 27 = .ok (.iinc 2 1, 3) := by decide +kernel
theorem dX0_losses_30 : decode cX0_losses 30 = .ok (.goto (-26), 3) := by decide +kernel
theorem dX0_losses_33 : decode cX0_losses 33 = .ok (.iload_n 1, 1) := by decide +kernel
theorem dX0_losses_34 : decode cX0_losses 34 = .ok (.ireturn, 1) := by decide +kernel
theorem dX0_total_0 : decode cX0_total 0 = .ok (.iconst 0, 1) := by decide +kernel
theorem dX0_total_1 : decode cX0_total 1 = .ok (.istore_n 1, 1) := by decide +kernel
theorem dX0_total_2 : decode cX0_total 2 = .ok (.iconst 0, 1) := by decide +kernel
theorem dX0_total_3 : decode cX0_total 3 = .ok (.istore_n 2, 1) := by decide +kernel
theorem dX0_total_4 : decode cX0_total 4 = .ok (.iload_n 2, 1) := by decide +kernel
theorem dX0_total_5 : decode cX0_total 5 = .ok (.iconst 4, 1) := by decide +kernel
theorem dX0_total_6 : decode cX0_total 6 = .ok (.if_icmp .ge 54, 3) := by decide +kernel
theorem dX0_total_9 : decode cX0_total 9 = .ok (.iconst 0, 1) := by decide +kernel
theorem dX0_total_10 : decode cX0_total 10 = .ok (.istore_n 3, 1) := by decide +kernel
theorem dX0_total_11 : decode cX0_total 11 = .ok (.iload_n 3, 1) := by decide +kernel
theorem dX0_total_12 : decode cX0_total 12 = .ok (.iconst 4, 1) := by decide +kernel
theorem dX0_total_13 : decode cX0_total 13 = .ok (.if_icmp .ge 41, 3) := by decide +kernel
theorem dX0_total_16 : decode cX0_total 16 = .ok (.iload_n 1, 1) := by decide +kernel
theorem dX0_total_17 : decode cX0_total 17 = .ok (.aload_n 0, 1) := by decide +kernel
theorem dX0_total_18 : decode cX0_total 18 = .ok (.getfield 13, 3) := by decide +kernel
theorem dX0_total_21 : decode cX0_total 21 = .ok (.bipush 6, 2) := by decide +kernel
theorem dX0_total_23 : decode cX0_total 23 = .ok (.iload_n 2, 1) := by decide +kernel
theorem dX0_total_24 : decode cX0_total 24 = .ok (.imul, 1) := by decide +kernel
theorem dX0_total_25 : decode cX0_total 25 = .ok (.iload_n 3, 1) := by decide +kernel
theorem dX0_total_26 : decode cX0_total 26 = .ok (.iadd, 1) := by decide +kernel
theorem dX0_total_27 : decode cX0_total 27 = .ok (.baload, 1) := by decide +kernel
theorem dX0_total_28 : decode cX0_total 28 = .ok (.ifCond .eq 7, 3) := by decide +kernel
theorem dX0_total_31 : decode cX0_total 31 = .ok (.iconst 0, 1) := by decide +kernel
theorem dX0_total_32 : decode cX0_total 32 = .ok (.goto 14, 3) := by decide +kernel
theorem dX0_total_35 : decode cX0_total 35 = .ok (.aload_n 0, 1) := by decide +kernel
theorem dX0_total_36 : decode cX0_total 36 = .ok (.getfield 7, 3) := by decide +kernel
theorem dX0_total_39 : decode cX0_total 39 = .ok (.bipush 6, 2) := by decide +kernel
theorem dX0_total_41 : decode cX0_total 41 = .ok (.iload_n 2, 1) := by decide +kernel
theorem dX0_total_42 : decode cX0_total 42 = .ok (.imul, 1) := by decide +kernel
theorem dX0_total_43 : decode cX0_total 43 = .ok (.iload_n 3, 1) := by decide +kernel
theorem dX0_total_44 : decode cX0_total 44 = .ok (.iadd, 1) := by decide +kernel
theorem dX0_total_45 : decode cX0_total 45 = .ok (.iaload, 1) := by decide +kernel
theorem dX0_total_46 : decode cX0_total 46 = .ok (.iadd, 1) := by decide +kernel
theorem dX0_total_47 : decode cX0_total 47 = .ok (.istore_n 1, 1) := by decide +kernel
theorem dX0_total_48 : decode cX0_total 48 = .ok (.iinc 3 1, 3) := by decide +kernel
theorem dX0_total_51 : decode cX0_total 51 = .ok (.goto (-40), 3) := by decide +kernel
theorem dX0_total_54 : decode cX0_total 54 = .ok (.iinc 2 1, 3) := by decide +kernel
theorem dX0_total_57 : decode cX0_total 57 = .ok (.goto (-53), 3) := by decide +kernel
theorem dX0_total_60 : decode cX0_total 60 = .ok (.iload_n 1, 1) := by decide +kernel
theorem dX0_total_61 : decode cX0_total 61 = .ok (.ireturn, 1) := by decide +kernel
end
section
set_option maxRecDepth 100000
theorem dX1_init_0 : decode cX1_init 0 = .ok (.aload_n 0, 1) := by decide +kernel
theorem dX1_init_1 : decode cX1_init 1 = .ok (.invokespecial 1, 3) := by decide +kernel
theorem dX1_init_4 : decode cX1_init 4 = .ok (.aload_n 0, 1) := by decide +kernel
theorem dX1_init_5 : decode cX1_init 5 = .ok (.bipush 16, 2) := by decide +kernel
theorem dX1_init_7 : decode cX1_init 7 = .ok (.newarray .int, 2) := by decide +kernel
theorem dX1_init_9 : decode cX1_init 9 = .ok (.putfield 7, 3) := by decide +kernel
theorem dX1_init_12 : decode cX1_init 12 = .ok (.aload_n 0, 1) := by decide +kernel
theorem dX1_init_13 : decode cX1_init 13 = .ok (.bipush 36, 2) := by decide +kernel
theorem dX1_init_15 : decode cX1_init 15 = .ok (.newarray .boolean, 2) := by decide +kernel
theorem dX1_init_17 : decode cX1_init 17 = .ok (.putfield 13, 3) := by decide +kernel
theorem dX1_init_20 : decode cX1_init 20 = .ok (.return_, 1) := by decide +kernel
theorem dX1_write_0 : decode cX1_write 0 = .ok (.iload_n 1, 1) := by decide +kernel
theorem dX1_write_1 : decode cX1_write 1 = .ok (.iconst 3, 1) := by decide +kernel
theorem dX1_write_2 : decode cX1_write 2 = .ok (.invokestatic 17, 3) := by decide +kernel
theorem dX1_write_5 : decode cX1_write 5 = .ok (.ifCond .ne 25, 3) := by decide +kernel
theorem dX1_write_8 : decode cX1_write 8 = .ok (.iload_n 2, 1) := by decide +kernel
theorem dX1_write_9 : decode cX1_write 9 = .ok (.iconst 3, 1) := by decide +kernel
theorem dX1_write_10 : decode cX1_write 10 = .ok (.invokestatic 17, 3) := by decide +kernel
theorem dX1_write_13 : decode cX1_write 13 = .ok (.ifCond .ne 17, 3) := by decide +kernel
theorem dX1_write_16 : decode cX1_write 16 = .ok (.aload_n 0, 1) := by decide +kernel
theorem dX1_write_17 : decode cX1_write 17 = .ok (.getfield 13, 3) := by decide +kernel
theorem dX1_write_20 : decode cX1_write 20 = .ok (.bipush 6, 2) := by decide +kernel
theorem dX1_write_22 : decode cX1_write 22 = .ok (.iload_n 1, 1) := by decide +kernel
theorem dX1_write_23 : decode cX1_write 23 = .ok (.imul, 1) := by decide +kernel
theorem dX1_write_24 : decode cX1_write 24 = .ok (.iload_n 2, 1) := by decide +kernel
theorem dX1_write_25 : decode cX1_write 25 = .ok (.iadd, 1) := by decide +kernel
theorem dX1_write_26 : decode cX1_write 26 = .ok (.baload, 1) := by decide +kernel
theorem dX1_write_27 : decode cX1_write 27 = .ok (.ifCond .eq 5, 3) := by decide +kernel
theorem dX1_write_30 : decode cX1_write 30 = .ok (.iconst (-1), 1) := by decide +kernel
theorem dX1_write_31 : decode cX1_write 31 = .ok (.ireturn, 1) := by decide +kernel
theorem dX1_write_32 : decode cX1_write 32 = .ok (.aload_n 0, 1) := by decide +kernel
theorem dX1_write_33 : decode cX1_write 33 = .ok (.getfield 7, 3) := by decide +kernel
theorem dX1_write_36 : decode cX1_write 36 = .ok (.iconst 4, 1) := by decide +kernel
theorem dX1_write_37 : decode cX1_write 37 = .ok (.iload_n 1, 1) := by decide +kernel
theorem dX1_write_38 : decode cX1_write 38 = .ok (.imul, 1) := by decide +kernel
theorem dX1_write_39 : decode cX1_write 39 = .ok (.iload_n 2, 1) := by decide +kernel
theorem dX1_write_40 : decode cX1_write 40 = .ok (.iadd, 1) := by decide +kernel
theorem dX1_write_41 : decode cX1_write 41 = .ok (.iaload, 1) := by decide +kernel
theorem dX1_write_42 : decode cX1_write 42 = .ok (.istore 4, 2) := by decide +kernel
theorem dX1_write_44 : decode cX1_write 44 = .ok (.aload_n 0, 1) := by decide +kernel
theorem dX1_write_45 : decode cX1_write 45 = .ok (.getfield 7, 3) := by decide +kernel
theorem dX1_write_48 : decode cX1_write 48 = .ok (.iconst 4, 1) := by decide +kernel
theorem dX1_write_49 : decode cX1_write 49 = .ok (.iload_n 1, 1) := by decide +kernel
theorem dX1_write_50 : decode cX1_write 50 = .ok (.imul, 1) := by decide +kernel
theorem dX1_write_51 : decode cX1_write 51 = .ok (.iload_n 2, 1) := by decide +kernel
theorem dX1_write_52 : decode cX1_write 52 = .ok (.iadd, 1) := by decide +kernel
theorem dX1_write_53 : decode cX1_write 53 = .ok (.iload_n 3, 1) := by decide +kernel
theorem dX1_write_54 : decode cX1_write 54 = .ok (.sipush 255, 3) := by decide +kernel
theorem dX1_write_57 : decode cX1_write 57 = .ok (.iand, 1) := by decide +kernel
theorem dX1_write_58 : decode cX1_write 58 = .ok (.iastore, 1) := by decide +kernel
theorem dX1_write_59 : decode cX1_write 59 = .ok (.iload 4, 2) := by decide +kernel
theorem dX1_write_61 : decode cX1_write 61 = .ok (.ireturn, 1) := by decide +kernel
theorem dX1_outside_0 : decode cX1_outside 0 = .ok (.iload_n 0, 1) := by decide +kernel
theorem dX1_outside_1 : decode cX1_outside 1 = .ok (.ifCond .lt 8, 3) := by decide +kernel
theorem dX1_outside_4 : decode cX1_outside 4 = .ok (.iload_n 0, 1) := by decide +kernel
theorem dX1_outside_5 : decode cX1_outside 5 = .ok (.iload_n 1, 1) := by decide +kernel
theorem dX1_outside_6 : decode cX1_outside 6 = .ok (.if_icmp .le 7, 3) := by decide +kernel
theorem dX1_outside_9 : decode cX1_outside 9 = .ok (.iconst 1, 1) := by decide +kernel
theorem dX1_outside_10 : decode cX1_outside 10 = .ok (.goto 4, 3) := by decide +kernel
theorem dX1_outside_13 : decode cX1_outside 13 = .ok (.iconst 0, 1) := by decide +kernel
theorem dX1_outside_14 : decode cX1_outside 14 = .ok (.ireturn, 1) := by decide +kernel
theorem dX1_read_0 : decode cX1_read 0 = .ok (.iload_n 1, 1) := by decide +kernel
theorem dX1_read_1 : decode cX1_read 1 = .ok (.iconst 3, 1) := by decide +kernel
theorem dX1_read_2 : decode cX1_read 2 = .ok (.invokestatic 17, 3) := by decide +kernel
theorem dX1_read_5 : decode cX1_read 5 = .ok (.ifCond .ne 25, 3) := by decide +kernel
theorem dX1_read_8 : decode cX1_read 8 = .ok (.iload_n 2, 1) := by decide +kernel
theorem dX1_read_9 : decode cX1_read 9 = .ok (.iconst 3, 1) := by decide +kernel
theorem dX1_read_10 : decode cX1_read 10 = .ok (.invokestatic 17, 3) := by decide +kernel
theorem dX1_read_13 : decode cX1_read 13 = .ok (.ifCond .ne 17, 3) := by decide +kernel
theorem dX1_read_16 : decode cX1_read 16 = .ok (.aload_n 0, 1) := by decide +kernel
theorem dX1_read_17 : decode cX1_read 17 = .ok (.getfield 13, 3) := by decide +kernel
theorem dX1_read_20 : decode cX1_read 20 = .ok (.bipush 6, 2) := by decide +kernel
theorem dX1_read_22 : decode cX1_read 22 = .ok (.iload_n 1, 1) := by decide +kernel
theorem dX1_read_23 : decode cX1_read 23 = .ok (.imul, 1) := by decide +kernel
theorem dX1_read_24 : decode cX1_read 24 = .ok (.iload_n 2, 1) := by decide +kernel
theorem dX1_read_25 : decode cX1_read 25 = .ok (.iadd, 1) := by decide +kernel
theorem dX1_read_26 : decode cX1_read 26 = .ok (.baload, 1) := by decide +kernel
theorem dX1_read_27 : decode cX1_read 27 = .ok (.ifCond .eq 5, 3) := by decide +kernel
theorem dX1_read_30 : decode cX1_read 30 = .ok (.iconst (-1), 1) := by decide +kernel
theorem dX1_read_31 : decode cX1_read 31 = .ok (.ireturn, 1) := by decide +kernel
theorem dX1_read_32 : decode cX1_read 32 = .ok (.aload_n 0, 1) := by decide +kernel
theorem dX1_read_33 : decode cX1_read 33 = .ok (.getfield 7, 3) := by decide +kernel
theorem dX1_read_36 : decode cX1_read 36 = .ok (.iconst 4, 1) := by decide +kernel
theorem dX1_read_37 : decode cX1_read 37 = .ok (.iload_n 1, 1) := by decide +kernel
theorem dX1_read_38 : decode cX1_read 38 = .ok (.imul, 1) := by decide +kernel
theorem dX1_read_39 : decode cX1_read 39 = .ok (.iload_n 2, 1) := by decide +kernel
theorem dX1_read_40 : decode cX1_read 40 = .ok (.iadd, 1) := by decide +kernel
theorem dX1_read_41 : decode cX1_read 41 = .ok (.iaload, 1) := by decide +kernel
theorem dX1_read_42 : decode cX1_read 42 = .ok (.ireturn, 1) := by decide +kernel
theorem dX1_lose_0 : decode cX1_lose 0 = .ok (.iload_n 1, 1) := by decide +kernel
theorem dX1_lose_1 : decode cX1_lose 1 = .ok (.iconst 5, 1) := by decide +kernel
theorem dX1_lose_2 : decode cX1_lose 2 = .ok (.invokestatic 17, 3) := by decide +kernel
theorem dX1_lose_5 : decode cX1_lose 5 = .ok (.ifCond .ne 11, 3) := by decide +kernel
theorem dX1_lose_8 : decode cX1_lose 8 = .ok (.iload_n 2, 1) := by decide +kernel
theorem dX1_lose_9 : decode cX1_lose 9 = .ok (.iconst 5, 1) := by decide +kernel
theorem dX1_lose_10 : decode cX1_lose 10 = .ok (.invokestatic 17, 3) := by decide +kernel
theorem dX1_lose_13 : decode cX1_lose 13 = .ok (.ifCond .eq 5, 3) := by decide +kernel
theorem dX1_lose_16 : decode cX1_lose 16 = .ok (.iconst (-1), 1) := by decide +kernel
theorem dX1_lose_17 : decode cX1_lose 17 = .ok (.ireturn, 1) := by decide +kernel
theorem dX1_lose_18 : decode cX1_lose 18 = .ok (.aload_n 0, 1) := by decide +kernel
theorem dX1_lose_19 : decode cX1_lose 19 = .ok (.getfield 13, 3) := by decide +kernel
theorem dX1_lose_22 : decode cX1_lose 22 = .ok (.bipush 6, 2) := by decide +kernel
theorem dX1_lose_24 : decode cX1_lose 24 = .ok (.iload_n 1, 1) := by decide +kernel
theorem dX1_lose_25 : decode cX1_lose 25 = .ok (.imul, 1) := by decide +kernel
theorem dX1_lose_26 : decode cX1_lose 26 = .ok (.iload_n 2, 1) := by decide +kernel
theorem dX1_lose_27 : decode cX1_lose 27 = .ok (.iadd, 1) := by decide +kernel
theorem dX1_lose_28 : decode cX1_lose 28 = .ok (.baload, 1) := by decide +kernel
theorem dX1_lose_29 : decode cX1_lose 29 = .ok (.ifCond .eq 7, 3) := by decide +kernel
theorem dX1_lose_32 : decode cX1_lose 32 = .ok (.iconst 0, 1) := by decide +kernel
theorem dX1_lose_33 : decode cX1_lose 33 = .ok (.goto 4, 3) := by decide +kernel
theorem dX1_lose_36 : decode cX1_lose 36 = .ok (.iconst 1, 1) := by decide +kernel
theorem dX1_lose_37 : decode cX1_lose 37 = .ok (.istore_n 3, 1) := by decide +kernel
theorem dX1_lose_38 : decode cX1_lose 38 = .ok (.aload_n 0, 1) := by decide +kernel
theorem dX1_lose_39 : decode cX1_lose 39 = .ok (.getfield 13, 3) := by decide +kernel
theorem dX1_lose_42 : decode cX1_lose 42 = .ok (.bipush 6, 2) := by decide +kernel
theorem dX1_lose_44 : decode cX1_lose 44 = .ok (.iload_n 1, 1) := by decide +kernel
theorem dX1_lose_45 : decode cX1_lose 45 = .ok (.imul, 1) := by decide +kernel
theorem dX1_lose_46 : decode cX1_lose 46 = .ok (.iload_n 2, 1) := by decide +kernel
theorem dX1_lose_47 : decode cX1_lose 47 = .ok (.iadd, 1) := by decide +kernel
theorem dX1_lose_48 : decode cX1_lose 48 = .ok (.iconst 1, 1) := by decide +kernel
theorem dX1_lose_49 : decode cX1_lose 49 = .ok (.bastore, 1) := by decide +kernel
theorem dX1_lose_50 : decode cX1_lose 50 = .ok (.iload_n 3, 1) := by decide +kernel
theorem dX1_lose_51 : decode cX1_lose 51 = .ok (.ireturn, 1) := by decide +kernel
theorem dX1_loseRow_0 : decode cX1_loseRow 0 = .ok (.iload_n 1, 1) := by decide +kernel
theorem dX1_loseRow_1 : decode cX1_loseRow 1 = .ok (.iconst 5, 1) := by decide +kernel
theorem dX1_loseRow_2 : decode cX1_loseRow 2 = .ok (.invokestatic 17, 3) := by decide +kernel
theorem dX1_loseRow_5 : decode cX1_loseRow 5 = .ok (.ifCond .eq 5, 3) := by decide +kernel
theorem dX1_loseRow_8 : decode cX1_loseRow 8 = .ok (.iconst (-1), 1) := by decide +kernel
theorem dX1_loseRow_9 : decode cX1_loseRow 9 = .ok (.ireturn, 1) := by decide +kernel
theorem dX1_loseRow_10 : decode cX1_loseRow 10 = .ok (.iconst 0, 1) := by decide +kernel
theorem dX1_loseRow_11 : decode cX1_loseRow 11 = .ok (.istore_n 2, 1) := by decide +kernel
theorem dX1_loseRow_12 : decode cX1_loseRow 12 = .ok (.iconst 0, 1) := by decide +kernel
theorem dX1_loseRow_13 : decode cX1_loseRow 13 = .ok (.istore_n 3, 1) := by decide +kernel
theorem dX1_loseRow_14 : decode cX1_loseRow 14 = .ok (.iload_n 3, 1) := by decide +kernel
theorem dX1_loseRow_15 : decode cX1_loseRow 15 = .ok (.bipush 6, 2) := by decide +kernel
theorem dX1_loseRow_17 : decode cX1_loseRow 17 = .ok (.if_icmp .ge 18, 3) := by decide +kernel
theorem dX1_loseRow_20 : decode cX1_loseRow 20 = .ok (.iload_n 2, 1) := by decide +kernel
theorem dX1_loseRow_21 : decode cX1_loseRow 21 = .ok (.aload_n 0, 1) := by decide +kernel
theorem dX1_loseRow_22 : decode cX1_loseRow 22 = .ok (.iload_n 1, 1) := by decide +kernel
theorem dX1_loseRow_23 : decode cX1_loseRow 23 = .ok (.iload_n 3, 1) := by decide +kernel
theorem dX1_loseRow_24 : decode cX1_loseRow 24 = .ok (.invokevirtual 21, 3) := by decide +kernel
theorem dX1_loseRow_27 : decode cX1_loseRow 27 = .ok (.iadd, 1) := by decide +kernel
theorem dX1_loseRow_28 : decode cX1_loseRow 28 = .ok (.istore_n 2, 1) := by decide +kernel
theorem dX1_loseRow_29 : decode cX1_loseRow 29 = .ok (.iinc 3 1, 3) := by decide +kernel
theorem dX1_loseRow_32 : decode cX1_loseRow 32 = .ok (.goto (-18), 3) := by decide +kernel
theorem dX1_loseRow_35 : decode cX1_loseRow 35 = .ok (.iload_n 2, 1) := by decide +kernel
theorem dX1_loseRow_36 : decode cX1_loseRow 36 = .ok (.ireturn, 1) := by decide +kernel
theorem dX1_loseColumn_0 : decode cX1_loseColumn 0 = .ok (.iload_n 1, 1) := by decide +kernel
theorem dX1_loseColumn_1 : decode cX1_loseColumn 1 = .ok (.iconst 5, 1) := by decide +kernel
theorem dX1_loseColumn_2 : decode cX1_loseColumn 2 = .ok (.invokestatic 17, 3) := by decide +kernel
theorem dX1_loseColumn_5 : decode cX1_loseColumn 5 = .ok (.ifCond .eq 5, 3) := by decide +kernel
theorem dX1_loseColumn_8 : decode cX1_loseColumn 8 = .ok (.iconst (-1), 1) := by decide +kernel
theorem dX1_loseColumn_9 : decode cX1_loseColumn 9 = .ok (.ireturn, 1) := by decide +kernel
theorem dX1_loseColumn_10 : decode cX1_loseColumn 10 = .ok (.iconst 0, 1) := by decide +kernel
theorem dX1_loseColumn_11 : decode cX1_loseColumn 11 = .ok (.istore_n 2, 1) := by decide +kernel
theorem dX1_loseColumn_12 : decode cX1_loseColumn 12 = .ok (.iconst 0, 1) := by decide +kernel
theorem dX1_loseColumn_13 : decode cX1_loseColumn 13 = .ok (.istore_n 3, 1) := by decide +kernel
theorem dX1_loseColumn_14 : decode cX1_loseColumn 14 = .ok (.iload_n 3, 1) := by decide +kernel
theorem dX1_loseColumn_15 : decode cX1_loseColumn 15 = .ok (.bipush 6, 2) := by decide +kernel
theorem dX1_loseColumn_17 : decode cX1_loseColumn 17 = .ok (.if_icmp .ge 18, 3) := by decide +kernel
theorem dX1_loseColumn_20 : decode cX1_loseColumn 20 = .ok (.iload_n 2, 1) := by decide +kernel
theorem dX1_loseColumn_21 : decode cX1_loseColumn 21 = .ok (.aload_n 0, 1) := by decide +kernel
theorem dX1_loseColumn_22 : decode cX1_loseColumn 22 = .ok (.iload_n 3, 1) := by decide +kernel
theorem dX1_loseColumn_23 : decode cX1_loseColumn 23 = .ok (.iload_n 1, 1) := by decide +kernel
theorem dX1_loseColumn_24 : decode cX1_loseColumn 24 = .ok (.invokevirtual 21, 3) := by decide +kernel
theorem dX1_loseColumn_27 : decode cX1_loseColumn 27 = .ok (.iadd, 1) := by decide +kernel
theorem dX1_loseColumn_28 : decode cX1_loseColumn 28 = .ok (.istore_n 2, 1) := by decide +kernel
theorem dX1_loseColumn_29 : decode cX1_loseColumn 29 = .ok (.iinc 3 1, 3) := by decide +kernel
theorem dX1_loseColumn_32 : decode cX1_loseColumn 32 = .ok (.goto (-18), 3) := by decide +kernel
theorem dX1_loseColumn_35 : decode cX1_loseColumn 35 = .ok (.iload_n 2, 1) := by decide +kernel
theorem dX1_loseColumn_36 : decode cX1_loseColumn 36 = .ok (.ireturn, 1) := by decide +kernel
theorem dX1_mendRow_0 : decode cX1_mendRow 0 = .ok (.iload_n 1, 1) := by decide +kernel
theorem dX1_mendRow_1 : decode cX1_mendRow 1 = .ok (.iconst 5, 1) := by decide +kernel
theorem dX1_mendRow_2 : decode cX1_mendRow 2 = .ok (.invokestatic 17, 3) := by decide +kernel
theorem dX1_mendRow_5 : decode cX1_mendRow 5 = .ok (.ifCond .eq 7, 3) := by decide +kernel
theorem dX1_mendRow_8 : decode cX1_mendRow 8 = .ok (.iconst (-1), 1) := by decide +kernel
theorem dX1_mendRow_9 : decode cX1_mendRow 9 = .ok (.goto 12, 3) := by decide +kernel
theorem dX1_mendRow_12 : decode cX1_mendRow 12 = .ok (.aload_n 0, 1) := by decide +kernel
theorem dX1_mendRow_13 : decode cX1_mendRow 13 = .ok (.bipush 6, 2) := by decide +kernel
theorem dX1_mendRow_15 : decode cX1_mendRow 15 = .ok (.iload_n 1, 1) := by decide +kernel
theorem dX1_mendRow_16 : decode cX1_mendRow 16 = .ok (.imul, 1) := by decide +kernel
theorem dX1_mendRow_17 : decode cX1_mendRow 17 = .ok (.iconst 1, 1) := by decide +kernel
theorem dX1_mendRow_18 : decode cX1_mendRow 18 = .ok (.invokevirtual 25, 3) := by decide +kernel
theorem dX1_mendRow_21 : decode cX1_mendRow 21 = .ok (.ireturn, 1) := by decide +kernel
theorem dX1_mendLine_0 : decode cX1_mendLine 0 = .ok (.iconst 0, 1) := by decide +kernel
theorem dX1_mendLine_1 : decode cX1_mendLine 1 = .ok (.istore_n 3, 1) := by decide +kernel
theorem dX1_mendLine_2 : decode cX1_mendLine 2 = .ok (.iconst 0, 1) := by decide +kernel
theorem dX1_mendLine_3 : decode cX1_mendLine 3 = .ok (.istore 4, 2) := by decide +kernel
theorem dX1_mendLine_5 : decode cX1_mendLine 5 = .ok (.iload 4, 2) := by decide +kernel
theorem dX1_mendLine_7 : decode cX1_mendLine 7 = .ok (.bipush 6, 2) := by decide +kernel
theorem dX1_mendLine_9 : decode cX1_mendLine 9 = .ok (.if_icmp .ge 26, 3) := by decide +kernel
theorem dX1_mendLine_12 : decode cX1_mendLine 12 = .ok (.aload_n 0, 1) := by decide +kernel
theorem dX1_mendLine_13 : decode cX1_mendLine 13 = .ok (.getfield 13, 3) := by decide +kernel
theorem dX1_mendLine_16 : decode cX1_mendLine 16 = .ok (.iload_n 1, 1) := by decide +kernel
theorem dX1_mendLine_17 : decode cX1_mendLine 17 = .ok (.iload 4, 2) := by decide +kernel
theorem dX1_mendLine_19 : decode cX1_mendLine 19 = .ok (.iload_n 2, 1) := by decide +kernel
theorem dX1_mendLine_20 : decode cX1_mendLine 20 = .ok (.imul, 1) := by decide +kernel
theorem dX1_mendLine_21 : decode cX1_mendLine 21 = .ok (.iadd, 1) := by decide +kernel
theorem dX1_mendLine_22 : decode cX1_mendLine 22 = .ok (.baload, 1) := by decide +kernel
theorem dX1_mendLine_23 : decode cX1_mendLine 23 = .ok (.ifCond .eq 6, 3) := by decide +kernel
theorem dX1_mendLine_26 : decode cX1_mendLine 26 = .ok (.iinc 3 1, 3) := by decide +kernel
theorem dX1_mendLine_29 : decode cX1_mendLine 29 = .ok (.iinc 4 1, 3) := by decide +kernel
theorem dX1_mendLine_32 : decode cX1_mendLine 32 = .ok (.goto (-27), 3) := by decide +kernel
theorem dX1_mendLine_35 : decode cX1_mendLine 35 = .ok (.iload_n 3, 1) := by decide +kernel
theorem dX1_mendLine_36 : decode cX1_mendLine 36 = .ok (.iconst 2, 1) := by decide +kernel
theorem dX1_mendLine_37 : decode cX1_mendLine 37 = .ok (.if_icmp .le 5, 3) := by decide +kernel
theorem dX1_mendLine_40 : decode cX1_mendLine 40 = .ok (.iconst 0, 1) := by decide +kernel
theorem dX1_mendLine_41 : decode cX1_mendLine 41 = .ok (.ireturn, 1) := by decide +kernel
theorem dX1_mendLine_42 : decode cX1_mendLine 42 = .ok (.iconst 0, 1) := by decide +kernel
theorem dX1_mendLine_43 : decode cX1_mendLine 43 = .ok (.istore 4, 2) := by decide +kernel
theorem dX1_mendLine_45 : decode cX1_mendLine 45 = .ok (.iload 4, 2) := by decide +kernel
theorem dX1_mendLine_47 : decode cX1_mendLine 47 = .ok (.bipush 6, 2) := by decide +kernel
theorem dX1_mendLine_49 : decode cX1_mendLine 49 = .ok (.if_icmp .ge 21, 3) := by decide +kernel
theorem dX1_mendLine_52 : decode cX1_mendLine 52 = .ok (.aload_n 0, 1) := by decide +kernel
theorem dX1_mendLine_53 : decode cX1_mendLine 53 = .ok (.getfield 13, 3) := by decide +kernel
theorem dX1_mendLine_56 : decode cX1_mendLine 56 = .ok (.iload_n 1, 1) := by decide +kernel
theorem dX1_mendLine_57 : decode cX1_mendLine 57 = .ok (.iload 4, 2) := by decide +kernel
theorem dX1_mendLine_59 : decode cX1_mendLine 59 = .ok (.iload_n 2, 1) := by decide +kernel
theorem dX1_mendLine_60 : decode cX1_mendLine 60 = .ok (.imul, 1) := by decide +kernel
theorem dX1_mendLine_61 : decode cX1_mendLine 61 = .ok (.iadd, 1) := by decide +kernel
theorem dX1_mendLine_62 : decode cX1_mendLine 62 = .ok (.iconst 0, 1) := by decide +kernel
theorem dX1_mendLine_63 : decode cX1_mendLine 63 = .ok (.bastore, 1) := by decide +kernel
theorem dX1_mendLine_64 : decode cX1_mendLine 64 = .ok (.iinc 4 1, 3) := by decide +kernel
theorem dX1_mendLine_67 : decode cX1_mendLine 67 = .ok (.goto (-22), 3) := by decide +kernel
theorem dX1_mendLine_70 : decode cX1_mendLine 70 = .ok (.iload_n 3, 1) := by decide +kernel
theorem dX1_mendLine_71 : decode cX1_mendLine 71 = .ok (.ireturn, 1) := by decide +kernel
theorem dX1_mendColumn_0 : decode cX1_mendColumn 0 = .ok (.iload_n 1, 1) := by decide +kernel
theorem dX1_mendColumn_1 : decode cX1_mendColumn 1 = .ok (.iconst 5, 1) := by decide +kernel
theorem dX1_mendColumn_2 : decode cX1_mendColumn 2 = .ok (.invokestatic 17, 3) := by decide +kernel
theorem dX1_mendColumn_5 : decode cX1_mendColumn 5 = .ok (.ifCond .eq 7, 3) := by decide +kernel
theorem dX1_mendColumn_8 : decode cX1_mendColumn 8 = .ok (.iconst (-1), 1) := by decide +kernel
theorem dX1_mendColumn_9 : decode cX1_mendColumn 9 = .ok (.goto 10, 3) := by decide +kernel
theorem dX1_mendColumn_12 : decode cX1_mendColumn 12 = .ok (.aload_n 0, 1) := by decide +kernel
theorem dX1_mendColumn_13 : decode cX1_mendColumn 13 = .ok (.iload_n 1, 1) := by decide +kernel
theorem dX1_mendColumn_14 : decode cX1_mendColumn 14 = .ok (.bipush 6, 2) := by decide +kernel
theorem dX1_mendColumn_16 : decode cX1_mendColumn 16 = .ok (.invokevirtual 25, 3) := by decide +kernel
theorem dX1_mendColumn_19 : decode cX1_mendColumn 19 = .ok (.ireturn, 1) := by decide +kernel
theorem dX1_mend_0 : decode cX1_mend 0 = .ok (.iconst 0, 1) := by decide +kernel
theorem dX1_mend_1 : decode cX1_mend 1 = .ok (.istore_n 1, 1) := by decide +kernel
theorem dX1_mend_2 : decode cX1_mend 2 = .ok (.iconst 1, 1) := by decide +kernel
theorem dX1_mend_3 : decode cX1_mend 3 = .ok (.istore_n 2, 1) := by decide +kernel
theorem dX1_mend_4 : decode cX1_mend 4 = .ok (.iconst 0, 1) := by decide +kernel
theorem dX1_mend_5 : decode cX1_mend 5 = .ok (.istore_n 3, 1) := by decide +kernel
theorem dX1_mend_6 : decode cX1_mend 6 = .ok (.iload_n 3, 1) := by decide +kernel
theorem dX1_mend_7 : decode cX1_mend 7 = .ok (.bipush 37, 2) := by decide +kernel
theorem dX1_mend_9 : decode cX1_mend 9 = .ok (.if_icmp .ge 62, 3) := by decide +kernel
theorem dX1_mend_12 : decode cX1_mend 12 = .ok (.iload_n 2, 1) := by decide +kernel
theorem dX1_mend_13 : decode cX1_mend 13 = .ok (.ifCond .eq 58, 3) := by decide +kernel
theorem dX1_mend_16 : decode cX1_mend 16 = .ok (.iload_n 1, 1) := by decide +kernel
theorem dX1_mend_17 : decode cX1_mend 17 = .ok (.istore 4, 2) := by decide +kernel
theorem dX1_mend_19 : decode cX1_mend 19 = .ok (.iconst 0, 1) := by decide +kernel
theorem dX1_mend_20 : decode cX1_mend 20 = .ok (.istore 5, 2) := by decide +kernel
theorem dX1_mend_22 : decode cX1_mend 22 = .ok (.iload 5, 2) := by decide +kernel
theorem dX1_mend_24 : decode cX1_mend 24 = .ok (.bipush 6, 2) := by decide +kernel
theorem dX1_mend_26 : decode cX1_mend 26 = .ok (.if_icmp .ge 27, 3) := by decide +kernel
theorem dX1_mend_29 : decode cX1_mend 29 = .ok (.iload_n 1, 1) := by decide +kernel
theorem dX1_mend_30 : decode cX1_mend 30 = .ok (.aload_n 0, 1) := by decide +kernel
theorem dX1_mend_31 : decode cX1_mend 31 = .ok (.iload 5, 2) := by decide +kernel
theorem dX1_mend_33 : decode cX1_mend 33 = .ok (.invokevirtual 28, 3) := by decide +kernel
theorem dX1_mend_36 : decode cX1_mend 36 = .ok (.iadd, 1) := by decide +kernel
theorem dX1_mend_37 : decode cX1_mend 37 = .ok (.istore_n 1, 1) := by decide +kernel
theorem dX1_mend_38 : decode cX1_mend 38 = .ok (.iload_n 1, 1) := by decide +kernel
theorem dX1_mend_39 : decode cX1_mend 39 = .ok (.aload_n 0, 1) := by decide +kernel
theorem dX1_mend_40 : decode cX1_mend 40 = .ok (.iload 5, 2) := by decide +kernel
theorem dX1_mend_42 : decode cX1_mend 42 = .ok (.invokevirtual 32, 3) := by decide +kernel
theorem dX1_mend_45 : decode cX1_mend 45 = .ok (.iadd, 1) := by decide +kernel
theorem dX1_mend_46 : decode cX1_mend 46 = .ok (.istore_n 1, 1) := by decide +kernel
theorem dX1_mend_47 : decode cX1_mend 47 = .ok (.iinc 5 1, 3) := by decide +kernel
theorem dX1_mend_50 : decode cX1_mend 50 = .ok (.goto (-28), 3) := by decide +kernel
theorem dX1_mend_53 : decode cX1_mend 53 = .ok (.iload_n 1, 1) := by decide +kernel
theorem dX1_mend_54 : decode cX1_mend 54 = .ok (.iload 4, 2) := by decide +kernel
theorem dX1_mend_56 : decode cX1_mend 56 = .ok (.if_icmp .le 7, 3) := by decide +kernel
theorem dX1_mend_59 : decode cX1_mend 59 = .ok (.iconst 1, 1) := by decide +kernel
theorem dX1_mend_60 : decode cX1_mend 60 = .ok (.goto 4, 3) := by decide +kernel
theorem dX1_mend_63 : decode cX1_mend 63 = .ok (.iconst 0, 1) := by decide +kernel
theorem dX1_mend_64 : decode cX1_mend 64 = .ok (.istore_n 2, 1) := by decide +kernel
theorem dX1_mend_65 : decode cX1_mend 65 = .ok (.iinc 3 1, 3) := by decide +kernel
theorem dX1_mend_68 : decode cX1_mend 68 = .ok (.goto (-62), 3) := by decide +kernel
theorem dX1_mend_71 : decode cX1_mend 71 = .ok (.iload_n 1, 1) := by decide +kernel
theorem dX1_mend_72 : decode cX1_mend 72 = .ok (.ireturn, 1) := by decide +kernel
theorem dX1_lost_0 : decode cX1_lost 0 = .ok (.iload_n 1, 1) := by decide +kernel
theorem dX1_lost_1 : decode cX1_lost 1 = .ok (.iconst 5, 1) := by decide +kernel
theorem dX1_lost_2 : decode cX1_lost 2 = .ok (.invokestatic 17, 3) := by decide +kernel
theorem dX1_lost_5 : decode cX1_lost 5 = .ok (.ifCond .ne 11, 3) := by decide +kernel
theorem dX1_lost_8 : decode cX1_lost 8 = .ok (.iload_n 2, 1) := by decide +kernel
theorem dX1_lost_9 : decode cX1_lost 9 = .ok (.iconst 5, 1) := by decide +kernel
theorem dX1_lost_10 : decode cX1_lost 10 = .ok (.invokestatic 17, 3) := by decide +kernel
theorem dX1_lost_13 : decode cX1_lost 13 = .ok (.ifCond .eq 5, 3) := by decide +kernel
theorem dX1_lost_16 : decode cX1_lost 16 = .ok (.iconst (-1), 1) := by decide +kernel
theorem dX1_lost_17 : decode cX1_lost 17 = .ok (.ireturn, 1) := by decide +kernel
theorem dX1_lost_18 : decode cX1_lost 18 = .ok (.aload_n 0, 1) := by decide +kernel
theorem dX1_lost_19 : decode cX1_lost 19 = .ok (.getfield 13, 3) := by decide +kernel
theorem dX1_lost_22 : decode cX1_lost 22 = .ok (.bipush 6, 2) := by decide +kernel
theorem dX1_lost_24 : decode cX1_lost 24 = .ok (.iload_n 1, 1) := by decide +kernel
theorem dX1_lost_25 : decode cX1_lost 25 = .ok (.imul, 1) := by decide +kernel
theorem dX1_lost_26 : decode cX1_lost 26 = .ok (.iload_n 2, 1) := by decide +kernel
theorem dX1_lost_27 : decode cX1_lost 27 = .ok (.iadd, 1) := by decide +kernel
theorem dX1_lost_28 : decode cX1_lost 28 = .ok (.baload, 1) := by decide +kernel
theorem dX1_lost_29 : decode cX1_lost 29 = .ok (.ifCond .eq 7, 3) := by decide +kernel
theorem dX1_lost_32 : decode cX1_lost 32 = .ok (.iconst 1, 1) := by decide +kernel
theorem dX1_lost_33 : decode cX1_lost 33 = .ok (.goto 4, 3) := by decide +kernel
theorem dX1_lost_36 : decode cX1_lost 36 = .ok (.iconst 0, 1) := by decide +kernel
theorem dX1_lost_37 : decode cX1_lost 37 = .ok (.ireturn, 1) := by decide +kernel
theorem dX1_losses_0 : decode cX1_losses 0 = .ok (.iconst 0, 1) := by decide +kernel
theorem dX1_losses_1 : decode cX1_losses 1 = .ok (.istore_n 1, 1) := by decide +kernel
theorem dX1_losses_2 : decode cX1_losses 2 = .ok (.iconst 0, 1) := by decide +kernel
theorem dX1_losses_3 : decode cX1_losses 3 = .ok (.istore_n 2, 1) := by decide +kernel
theorem dX1_losses_4 : decode cX1_losses 4 = .ok (.iload_n 2, 1) := by decide +kernel
theorem dX1_losses_5 : decode cX1_losses 5 = .ok (.bipush 36, 2) := by decide +kernel
theorem dX1_losses_7 : decode cX1_losses 7 = .ok (.if_icmp .ge 21, 3) := by decide +kernel
theorem dX1_losses_10 : decode cX1_losses 10 = .ok (.aload_n 0, 1) := by decide +kernel
theorem dX1_losses_11 : decode cX1_losses 11 = .ok (.getfield 13, 3) := by decide +kernel
theorem dX1_losses_14 : decode cX1_losses 14 = .ok (.iload_n 2, 1) := by decide +kernel
theorem dX1_losses_15 : decode cX1_losses 15 = .ok (.baload, 1) := by decide +kernel
theorem dX1_losses_16 : decode cX1_losses 16 = .ok (.ifCond .eq 6, 3) := by decide +kernel
theorem dX1_losses_19 : decode cX1_losses 19 = .ok (.iinc 1 1, 3) := by decide +kernel
theorem dX1_losses_22 : decode cX1_losses 22 = .ok (.iinc 2 1, 3) := by decide +kernel
theorem dX1_losses_25 : decode cX1_losses 25 = .ok (.goto (-21), 3) := by decide +kernel
theorem dX1_losses_28 : decode cX1_losses 28 = .ok (.iload_n 1, 1) := by decide +kernel
theorem dX1_losses_29 : decode cX1_losses 29 = .ok (.ireturn, 1) := by decide +kernel
theorem dX1_total_0 : decode cX1_total 0 = .ok (.iconst 0, 1) := by decide +kernel
theorem dX1_total_1 : decode cX1_total 1 = .ok (.istore_n 1, 1) := by decide +kernel
theorem dX1_total_2 : decode cX1_total 2 = .ok (.iconst 0, 1) := by decide +kernel
theorem dX1_total_3 : decode cX1_total 3 = .ok (.istore_n 2, 1) := by decide +kernel
theorem dX1_total_4 : decode cX1_total 4 = .ok (.iload_n 2, 1) := by decide +kernel
theorem dX1_total_5 : decode cX1_total 5 = .ok (.bipush 16, 2) := by decide +kernel
theorem dX1_total_7 : decode cX1_total 7 = .ok (.if_icmp .ge 36, 3) := by decide +kernel
theorem dX1_total_10 : decode cX1_total 10 = .ok (.aload_n 0, 1) := by decide +kernel
theorem dX1_total_11 : decode cX1_total 11 = .ok (.getfield 13, 3) := by decide +kernel
theorem dX1_total_14 : decode cX1_total 14 = .ok (.bipush 6, 2) := by decide +kernel
theorem dX1_total_16 : decode cX1_total 16 = .ok (.iload_n 2, 1) := by decide +kernel
theorem dX1_total_17 : decode cX1_total 17 = .ok (.iconst 4, 1) := by decide +kernel
theorem dX1_total_18 : decode cX1_total 18 = .ok (.idiv, 1) := by decide +kernel
theorem dX1_total_19 : decode cX1_total 19 = .ok (.imul, 1) := by decide +kernel
theorem dX1_total_20 : decode cX1_total 20 = .ok (.iload_n 2, 1) := by decide +kernel
theorem dX1_total_21 : decode cX1_total 21 = .ok (.iconst 4, 1) := by decide +kernel
theorem dX1_total_22 : decode cX1_total 22 = .ok (.irem, 1) := by decide +kernel
theorem dX1_total_23 : decode cX1_total 23 = .ok (.iadd, 1) := by decide +kernel
theorem dX1_total_24 : decode cX1_total 24 = .ok (.baload, 1) := by decide +kernel
theorem dX1_total_25 : decode cX1_total 25 = .ok (.ifCond .ne 12, 3) := by decide +kernel
theorem dX1_total_28 : decode cX1_total 28 = .ok (.iload_n 1, 1) := by decide +kernel
theorem dX1_total_29 : decode cX1_total 29 = .ok (.aload_n 0, 1) := by decide +kernel
theorem dX1_total_30 : decode cX1_total 30 = .ok (.getfield 7, 3) := by decide +kernel
theorem dX1_total_33 : decode cX1_total 33 = .ok (.iload_n 2, 1) := by decide +kernel
theorem dX1_total_34 : decode cX1_total 34 = .ok (.iaload, 1) := by decide +kernel
theorem dX1_total_35 : decode cX1_total 35 = .ok (.iadd, 1) := by decide +kernel
theorem dX1_total_36 : decode cX1_total 36 = .ok (.istore_n 1, 1) := by decide +kernel
theorem dX1_total_37 : decode cX1_total 37 = .ok (.iinc 2 1, 3) := by decide +kernel
theorem dX1_total_40 : decode cX1_total 40 = .ok (.goto (-36), 3) := by decide +kernel
theorem dX1_total_43 : decode cX1_total 43 = .ok (.iload_n 1, 1) := by decide +kernel
theorem dX1_total_44 : decode cX1_total 44 = .ok (.ireturn, 1) := by decide +kernel
end
section
set_option maxRecDepth 100000
theorem dL_law_0 : decode cL_law 0 = .ok (.new 7, 3) := by decide +kernel
theorem dL_law_3 : decode cL_law 3 = .ok (.dup, 1) := by decide +kernel
theorem dL_law_4 : decode cL_law 4 = .ok (.invokespecial 9, 3) := by decide +kernel
theorem dL_law_7 : decode cL_law 7 = .ok (.astore_n 1, 1) := by decide +kernel
theorem dL_law_8 : decode cL_law 8 = .ok (.new 10, 3) := by decide +kernel
theorem dL_law_11 : decode cL_law 11 = .ok (.dup, 1) := by decide +kernel
theorem dL_law_12 : decode cL_law 12 = .ok (.invokespecial 12, 3) := by decide +kernel
theorem dL_law_15 : decode cL_law 15 = .ok (.astore_n 2, 1) := by decide +kernel
theorem dL_law_16 : decode cL_law 16 = .ok (.iconst 0, 1) := by decide +kernel
theorem dL_law_17 : decode cL_law 17 = .ok (.istore_n 3, 1) := by decide +kernel
theorem dL_law_18 : decode cL_law 18 = .ok (.iload_n 3, 1) := by decide +kernel
theorem dL_law_19 : decode cL_law 19 = .ok (.aload_n 0, 1) := by decide +kernel
theorem dL_law_20 : decode cL_law 20 = .ok (.arraylength, 1) := by decide +kernel
theorem dL_law_21 : decode cL_law 21 = .ok (.iconst 4, 1) := by decide +kernel
theorem dL_law_22 : decode cL_law 22 = .ok (.isub, 1) := by decide +kernel
theorem dL_law_23 : decode cL_law 23 = .ok (.if_icmp .gt 348, 3) := by decide +kernel
theorem dL_law_26 : decode cL_law 26 = .ok (.aload_n 0, 1) := by decide +kernel
theorem dL_law_27 : decode cL_law 27 = .ok (.iload_n 3, 1) := by decide +kernel
theorem dL_law_28 : decode cL_law 28 = .ok (.iaload, 1) := by decide +kernel
theorem dL_law_29 : decode cL_law 29 = .ok (.bipush 15, 2) := by decide +kernel
theorem dL_law_31 : decode cL_law 31 = .ok (.iand, 1) := by decide +kernel
theorem dL_law_32 : decode cL_law 32 = .ok (.tableswitch 333 0 10 #[60, 103, 136, 169, 192, 215, 238, 261, 274, 307, 320], 60) := by decide +kernel
theorem dL_law_92 : decode cL_law 92 = .ok (.aload_n 1, 1) := by decide +kernel
theorem dL_law_93 : decode cL_law 93 = .ok (.aload_n 0, 1) := by decide +kernel
theorem dL_law_94 : decode cL_law 94 = .ok (.iload_n 3, 1) := by decide +kernel
theorem dL_law_95 : decode cL_law 95 = .ok (.iconst 1, 1) := by decide +kernel
theorem dL_law_96 : decode cL_law 96 = .ok (.iadd, 1) := by decide +kernel
theorem dL_law_97 : decode cL_law 97 = .ok (.iaload, 1) := by decide +kernel
theorem dL_law_98 : decode cL_law 98 = .ok (.aload_n 0, 1) := by decide +kernel
theorem dL_law_99 : decode cL_law 99 = .ok (.iload_n 3, 1) := by decide +kernel
theorem dL_law_100 : decode cL_law 100 = .ok (.iconst 2, 1) := by decide +kernel
theorem dL_law_101 : decode cL_law 101 = .ok (.iadd, 1) := by decide +kernel
theorem dL_law_102 : decode cL_law 102 = .ok (.iaload, 1) := by decide +kernel
theorem dL_law_103 : decode cL_law 103 = .ok (.aload_n 0, 1) := by decide +kernel
theorem dL_law_104 : decode cL_law 104 = .ok (.iload_n 3, 1) := by decide +kernel
theorem dL_law_105 : decode cL_law 105 = .ok (.iconst 3, 1) := by decide +kernel
theorem dL_law_106 : decode cL_law 106 = .ok (.iadd, 1) := by decide +kernel
theorem dL_law_107 : decode cL_law 107 = .ok (.iaload, 1) := by decide +kernel
theorem dL_law_108 : decode cL_law 108 = .ok (.invokevirtual 13, 3) := by decide +kernel
theorem dL_law_111 : decode cL_law 111 = .ok (.aload_n 2, 1) := by decide +kernel
theorem dL_law_112 : decode cL_law 112 = .ok (.aload_n 0, 1) := by decide +kernel
theorem dL_law_113 : decode cL_law 113 = .ok (.iload_n 3, 1) := by decide +kernel
theorem dL_law_114 : decode cL_law 114 = .ok (.iconst 1, 1) := by decide +kernel
theorem dL_law_115 : decode cL_law 115 = .ok (.iadd, 1) := by decide +kernel
theorem dL_law_116 : decode cL_law 116 = .ok (.iaload, 1) := by decide +kernel
theorem dL_law_117 : decode cL_law 117 = .ok (.aload_n 0, 1) := by decide +kernel
theorem dL_law_118 : decode cL_law 118 = .ok (.iload_n 3, 1) := by decide +kernel
theorem dL_law_119 : decode cL_law 119 = .ok (.iconst 2, 1) := by decide +kernel
theorem dL_law_120 : decode cL_law 120 = .ok (.iadd, 1) := by decide +kernel
theorem dL_law_121 : decode cL_law 121 = .ok (.iaload, 1) := by decide +kernel
theorem dL_law_122 : decode cL_law 122 = .ok (.aload_n 0, 1) := by decide +kernel
theorem dL_law_123 : decode cL_law 123 = .ok (.iload_n 3, 1) := by decide +kernel
theorem dL_law_124 : decode cL_law 124 = .ok (.iconst 3, 1) := by decide +kernel
theorem dL_law_125 : decode cL_law 125 = .ok (.iadd, 1) := by decide +kernel
theorem dL_law_126 : decode cL_law 126 = .ok (.iaload, 1) := by decide +kernel
theorem dL_law_127 : decode cL_law 127 = .ok (.invokevirtual 17, 3) := by decide +kernel
theorem dL_law_130 : decode cL_law 130 = .ok (.if_icmp .eq 235, 3) := by decide +kernel
theorem dL_law_133 : decode cL_law 133 = .ok (.iconst 0, 1) := by decide +kernel
theorem dL_law_134 : decode cL_law 134 = .ok (.ireturn, 1) := by decide +kernel
theorem dL_law_135 : decode cL_law 135 = .ok (.aload_n 1, 1) := by decide +kernel
theorem dL_law_136 : decode cL_law 136 = .ok (.aload_n 0, 1) := by decide +kernel
theorem dL_law_137 : decode cL_law 137 = .ok (.iload_n 3, 1) := by decide +kernel
theorem dL_law_138 : decode cL_law 138 = .ok (.iconst 1, 1) := by decide +kernel
theorem dL_law_139 : decode cL_law 139 = .ok (.iadd, 1) := by decide +kernel
theorem dL_law_140 : decode cL_law 140 = .ok (.iaload, 1) := by decide +kernel
theorem dL_law_141 : decode cL_law 141 = .ok (.aload_n 0, 1) := by decide +kernel
theorem dL_law_142 : decode cL_law 142 = .ok (.iload_n 3, 1) := by decide +kernel
theorem dL_law_143 : decode cL_law 143 = .ok (.iconst 2, 1) := by decide +kernel
theorem dL_law_144 : decode cL_law 144 = .ok (.iadd, 1) := by decide +kernel
theorem dL_law_145 : decode cL_law 145 = .ok (.iaload, 1) := by decide +kernel
theorem dL_law_146 : decode cL_law 146 = .ok (.invokevirtual 18, 3) := by decide +kernel
theorem dL_law_149 : decode cL_law 149 = .ok (.aload_n 2, 1) := by decide +kernel
theorem dL_law_150 : decode cL_law 150 = .ok (.aload_n 0, 1) := by decide +kernel
theorem dL_law_151 : decode cL_law 151 = .ok (.iload_n 3, 1) := by decide +kernel
theorem dL_law_152 : decode cL_law 152 = .ok (.iconst 1, 1) := by decide +kernel
theorem dL_law_153 : decode cL_law 153 = .ok (.iadd, 1) := by decide +kernel
theorem dL_law_154 : decode cL_law 154 = .ok (.iaload, 1) := by decide +kernel
theorem dL_law_155 : decode cL_law 155 = .ok (.aload_n 0, 1) := by decide +kernel
theorem dL_law_156 : decode cL_law 156 = .ok (.iload_n 3, 1) := by decide +kernel
theorem dL_law_157 : decode cL_law 157 = .ok (.iconst 2, 1) := by decide +kernel
theorem dL_law_158 : decode cL_law 158 = .ok (.iadd, 1) := by decide +kernel
theorem dL_law_159 : decode cL_law 159 = .ok (.iaload, 1) := by decide +kernel
theorem dL_law_160 : decode cL_law 160 = .ok (.invokevirtual 22, 3) := by decide +kernel
theorem dL_law_163 : decode cL_law 163 = .ok (.if_icmp .eq 202, 3) := by decide +kernel
theorem dL_law_166 : decode cL_law 166 = .ok (.iconst 0, 1) := by decide +kernel
theorem dL_law_167 : decode cL_law 167 = .ok (.ireturn, 1) := by decide +kernel
theorem dL_law_168 : decode cL_law 168 = .ok (.aload_n 1, 1) := by decide +kernel
theorem dL_law_169 : decode cL_law 169 = .ok (.aload_n 0, 1) := by decide +kernel
theorem dL_law_170 : decode cL_law 170 = .ok (.iload_n 3, 1) := by decide +kernel
theorem dL_law_171 : decode cL_law 171 = .ok (.iconst 1, 1) := by decide +kernel
theorem dL_law_172 : decode cL_law 172 = .ok (.iadd, 1) := by decide +kernel
theorem dL_law_173 : decode cL_law 173 = .ok (.iaload, 1) := by decide +kernel
theorem dL_law_174 : decode cL_law 174 = .ok (.aload_n 0, 1) := by decide +kernel
theorem dL_law_175 : decode cL_law 175 = .ok (.iload_n 3, 1) := by decide +kernel
theorem dL_law_176 : decode cL_law 176 = .ok (.iconst 2, 1) := by decide +kernel
theorem dL_law_177 : decode cL_law 177 = .ok (.iadd, 1) := by decide +kernel
theorem dL_law_178 : decode cL_law 178 = .ok (.iaload, 1) := by decide +kernel
theorem dL_law_179 : decode cL_law 179 = .ok (.invokevirtual 23, 3) := by decide +kernel
theorem dL_law_182 : decode cL_law 182 = .ok (.aload_n 2, 1) := by decide +kernel
theorem dL_law_183 : decode cL_law 183 = .ok (.aload_n 0, 1) := by decide +kernel
theorem dL_law_184 : decode cL_law 184 = .ok (.iload_n 3, 1) := by decide +kernel
theorem dL_law_185 : decode cL_law 185 = .ok (.iconst 1, 1) := by decide +kernel
theorem dL_law_186 : decode cL_law 186 = .ok (.iadd, 1) := by decide +kernel
theorem dL_law_187 : decode cL_law 187 = .ok (.iaload, 1) := by decide +kernel
theorem dL_law_188 : decode cL_law 188 = .ok (.aload_n 0, 1) := by decide +kernel
theorem dL_law_189 : decode cL_law 189 = .ok (.iload_n 3, 1) := by decide +kernel
theorem dL_law_190 : decode cL_law 190 = .ok (.iconst 2, 1) := by decide +kernel
theorem dL_law_191 : decode cL_law 191 = .ok (.iadd, 1) := by decide +kernel
theorem dL_law_192 : decode cL_law 192 = .ok (.iaload, 1) := by decide +kernel
theorem dL_law_193 : decode cL_law 193 = .ok (.invokevirtual 26, 3) := by decide +kernel
theorem dL_law_196 : decode cL_law 196 = .ok (.if_icmp .eq 169, 3) := by decide +kernel
theorem dL_law_199 : decode cL_law 199 = .ok (.iconst 0, 1) := by decide +kernel
theorem dL_law_200 : decode cL_law 200 = .ok (.ireturn, 1) := by decide +kernel
theorem dL_law_201 : decode cL_law 201 = .ok (.aload_n 1, 1) := by decide +kernel
theorem dL_law_202 : decode cL_law 202 = .ok (.aload_n 0, 1) := by decide +kernel
theorem dL_law_203 : decode cL_law 203 = .ok (.iload_n 3, 1) := by decide +kernel
theorem dL_law_204 : decode cL_law 204 = .ok (.iconst 1, 1) := by decide +kernel
theorem dL_law_205 : decode cL_law 205 = .ok (.iadd, 1) := by decide +kernel
theorem dL_law_206 : decode cL_law 206 = .ok (.iaload, 1) := by decide +kernel
theorem dL_law_207 : decode cL_law 207 = .ok (.invokevirtual 27, 3) := by decide +kernel
theorem dL_law_210 : decode cL_law 210 = .ok (.aload_n 2, 1) := by decide +kernel
theorem dL_law_211 : decode cL_law 211 = .ok (.aload_n 0, 1) := by decide +kernel
theorem dL_law_212 : decode cL_law 212 = .ok (.iload_n 3, 1) := by decide +kernel
theorem dL_law_213 : decode cL_law 213 = .ok (.iconst 1, 1) := by decide +kernel
theorem dL_law_214 : decode cL_law 214 = .ok (.iadd, 1) := by decide +kernel
theorem dL_law_215 : decode cL_law 215 = .ok (.iaload, 1) := by decide +kernel
theorem dL_law_216 : decode cL_law 216 = .ok (.invokevirtual 31, 3) := by decide +kernel
theorem dL_law_219 : decode cL_law 219 = .ok (.if_icmp .eq 146, 3) := by decide +kernel
theorem dL_law_222 : decode cL_law 222 = .ok (.iconst 0, 1) := by decide +kernel
theorem dL_law_223 : decode cL_law 223 = .ok (.ireturn, 1) := by decide +kernel
theorem dL_law_224 : decode cL_law 224 = .ok (.aload_n 1, 1) := by decide +kernel
theorem dL_law_225 : decode cL_law 225 = .ok (.aload_n 0, 1) := by decide +kernel
theorem dL_law_226 : decode cL_law 226 = .ok (.iload_n 3, 1) := by decide +kernel
theorem dL_law_227 : decode cL_law 227 = .ok (.iconst 1, 1) := by decide +kernel
theorem dL_law_228 : decode cL_law 228 = .ok (.iadd, 1) := by decide +kernel
theorem dL_law_229 : decode cL_law 229 = .ok (.iaload, 1) := by decide +kernel
theorem dL_law_230 : decode cL_law 230 = .ok (.invokevirtual 32, 3) := by decide +kernel
theorem dL_law_233 : decode cL_law 233 = .ok (.aload_n 2, 1) := by decide +kernel
theorem dL_law_234 : decode cL_law 234 = .ok (.aload_n 0, 1) := by decide +kernel
theorem dL_law_235 : decode cL_law 235 = .ok (.iload_n 3, 1) := by decide +kernel
theorem dL_law_236 : decode cL_law 236 = .ok (.iconst 1, 1) := by decide +kernel
theorem dL_law_237 : decode cL_law 237 = .ok (.iadd, 1) := by decide +kernel
theorem dL_law_238 : decode cL_law 238 = .ok (.iaload, 1) := by decide +kernel
theorem dL_law_239 : decode cL_law 239 = .ok (.invokevirtual 35, 3) := by decide +kernel
theorem dL_law_242 : decode cL_law 242 = .ok (.if_icmp .eq 123, 3) := by decide +kernel
theorem dL_law_245 : decode cL_law 245 = .ok (.iconst 0, 1) := by decide +kernel
theorem dL_law_246 : decode cL_law 246 = .ok (.ireturn, 1) := by decide +kernel
theorem dL_law_247 : decode cL_law 247 = .ok (.aload_n 1, 1) := by decide +kernel
theorem dL_law_248 : decode cL_law 248 = .ok (.aload_n 0, 1) := by decide +kernel
theorem dL_law_249 : decode cL_law 249 = .ok (.iload_n 3, 1) := by decide +kernel
theorem dL_law_250 : decode cL_law 250 = .ok (.iconst 1, 1) := by decide +kernel
theorem dL_law_251 : decode cL_law 251 = .ok (.iadd, 1) := by decide +kernel
theorem dL_law_252 : decode cL_law 252 = .ok (.iaload, 1) := by decide +kernel
theorem dL_law_253 : decode cL_law 253 = .ok (.invokevirtual 36, 3) := by decide +kernel
theorem dL_law_256 : decode cL_law 256 = .ok (.aload_n 2, 1) := by decide +kernel
theorem dL_law_257 : decode cL_law 257 = .ok (.aload_n 0, 1) := by decide +kernel
theorem dL_law_258 : decode cL_law 258 = .ok (.iload_n 3, 1) := by decide +kernel
theorem dL_law_259 : decode cL_law 259 = .ok (.iconst 1, 1) := by decide +kernel
theorem dL_law_260 : decode cL_law 260 = .ok (.iadd, 1) := by decide +kernel
theorem dL_law_261 : decode cL_law 261 = .ok (.iaload, 1) := by decide +kernel
theorem dL_law_262 : decode cL_law 262 = .ok (.invokevirtual 39, 3) := by decide +kernel
theorem dL_law_265 : decode cL_law 265 = .ok (.if_icmp .eq 100, 3) := by decide +kernel
theorem dL_law_268 : decode cL_law 268 = .ok (.iconst 0, 1) := by decide +kernel
theorem dL_law_269 : decode cL_law 269 = .ok (.ireturn, 1) := by decide +kernel
theorem dL_law_270 : decode cL_law 270 = .ok (.aload_n 1, 1) := by decide +kernel
theorem dL_law_271 : decode cL_law 271 = .ok (.aload_n 0, 1) := by decide +kernel
theorem dL_law_272 : decode cL_law 272 = .ok (.iload_n 3, 1) := by decide +kernel
theorem dL_law_273 : decode cL_law 273 = .ok (.iconst 1, 1) := by decide +kernel
theorem dL_law_274 : decode cL_law 274 = .ok (.iadd, 1) := by decide +kernel
theorem dL_law_275 : decode cL_law 275 = .ok (.iaload, 1) := by decide +kernel
theorem dL_law_276 : decode cL_law 276 = .ok (.invokevirtual 40, 3) := by decide +kernel
theorem dL_law_279 : decode cL_law 279 = .ok (.aload_n 2, 1) := by decide +kernel
theorem dL_law_280 : decode cL_law 280 = .ok (.aload_n 0, 1) := by decide +kernel
theorem dL_law_281 : decode cL_law 281 = .ok (.iload_n 3, 1) := by decide +kernel
theorem dL_law_282 : decode cL_law 282 = .ok (.iconst 1, 1) := by decide +kernel
theorem dL_law_283 : decode cL_law 283 = .ok (.iadd, 1) := by decide +kernel
theorem dL_law_284 : decode cL_law 284 = .ok (.iaload, 1) := by decide +kernel
theorem dL_law_285 : decode cL_law 285 = .ok (.invokevirtual 43, 3) := by decide +kernel
theorem dL_law_288 : decode cL_law 288 = .ok (.if_icmp .eq 77, 3) := by decide +kernel
theorem dL_law_291 : decode cL_law 291 = .ok (.iconst 0, 1) := by decide +kernel
theorem dL_law_292 : decode cL_law 292 = .ok (.ireturn, 1) := by decide +kernel
theorem dL_law_293 : decode cL_law 293 = .ok (.aload_n 1, 1) := by decide +kernel
theorem dL_law_294 : decode cL_law 294 = .ok (.invokevirtual 44, 3) := by decide +kernel
theorem dL_law_297 : decode cL_law 297 = .ok (.aload_n 2, 1) := by decide +kernel
theorem dL_law_298 : decode cL_law 298 = .ok (.invokevirtual 48, 3) := by decide +kernel
theorem dL_law_301 : decode cL_law 301 = .ok (.if_icmp .eq 64, 3) := by decide +kernel
theorem dL_law_304 : decode cL_law 304 = .ok (.iconst 0, 1) := by decide +kernel
theorem dL_law_305 : decode cL_law 305 = .ok (.ireturn, 1) := by decide +kernel
theorem dL_law_306 : decode cL_law 306 = .ok (.aload_n 1, 1) := by decide +kernel
theorem dL_law_307 : decode cL_law 307 = .ok (.aload_n 0, 1) := by decide +kernel
theorem dL_law_308 : decode cL_law 308 = .ok (.iload_n 3, 1) := by decide +kernel
theorem dL_law_309 : decode cL_law 309 = .ok (.iconst 1, 1) := by decide +kernel
theorem dL_law_310 : decode cL_law 310 = .ok (.iadd, 1) := by decide +kernel
theorem dL_law_311 : decode cL_law 311 = .ok (.iaload, 1) := by decide +kernel
theorem dL_law_312 : decode cL_law 312 = .ok (.aload_n 0, 1) := by decide +kernel
theorem dL_law_313 : decode cL_law 313 = .ok (.iload_n 3, 1) := by decide +kernel
theorem dL_law_314 : decode cL_law 314 = .ok (.iconst 2, 1) := by decide +kernel
theorem dL_law_315 : decode cL_law 315 = .ok (.iadd, 1) := by decide +kernel
theorem dL_law_316 : decode cL_law 316 = .ok (.iaload, 1) := by decide +kernel
theorem dL_law_317 : decode cL_law 317 = .ok (.invokevirtual 49, 3) := by decide +kernel
theorem dL_law_320 : decode cL_law 320 = .ok (.aload_n 2, 1) := by decide +kernel
theorem dL_law_321 : decode cL_law 321 = .ok (.aload_n 0, 1) := by decide +kernel
theorem dL_law_322 : decode cL_law 322 = .ok (.iload_n 3, 1) := by decide +kernel
theorem dL_law_323 : decode cL_law 323 = .ok (.iconst 1, 1) := by decide +kernel
theorem dL_law_324 : decode cL_law 324 = .ok (.iadd, 1) := by decide +kernel
theorem dL_law_325 : decode cL_law 325 = .ok (.iaload, 1) := by decide +kernel
theorem dL_law_326 : decode cL_law 326 = .ok (.aload_n 0, 1) := by decide +kernel
theorem dL_law_327 : decode cL_law 327 = .ok (.iload_n 3, 1) := by decide +kernel
theorem dL_law_328 : decode cL_law 328 = .ok (.iconst 2, 1) := by decide +kernel
theorem dL_law_329 : decode cL_law 329 = .ok (.iadd, 1) := by decide +kernel
theorem dL_law_330 : decode cL_law 330 = .ok (.iaload, 1) := by decide +kernel
theorem dL_law_331 : decode cL_law 331 = .ok (.invokevirtual 52, 3) := by decide +kernel
theorem dL_law_334 : decode cL_law 334 = .ok (.if_icmp .eq 31, 3) := by decide +kernel
theorem dL_law_337 : decode cL_law 337 = .ok (.iconst 0, 1) := by decide +kernel
theorem dL_law_338 : decode cL_law 338 = .ok (.ireturn, 1) := by decide +kernel
theorem dL_law_339 : decode cL_law 339 = .ok (.aload_n 1, 1) := by decide +kernel
theorem dL_law_340 : decode cL_law 340 = .ok (.invokevirtual 53, 3) := by decide +kernel
theorem dL_law_343 : decode cL_law 343 = .ok (.aload_n 2, 1) := by decide +kernel
theorem dL_law_344 : decode cL_law 344 = .ok (.invokevirtual 56, 3) := by decide +kernel
theorem dL_law_347 : decode cL_law 347 = .ok (.if_icmp .eq 18, 3) := by decide +kernel
theorem dL_law_350 : decode cL_law 350 = .ok (.iconst 0, 1) := by decide +kernel
theorem dL_law_351 : decode cL_law 351 = .ok (.ireturn, 1) := by decide +kernel
theorem dL_law_352 : decode cL_law 352 = .ok (.aload_n 1, 1) := by decide +kernel
theorem dL_law_353 : decode cL_law 353 = .ok (.invokevirtual 57, 3) := by decide +kernel
theorem dL_law_356 : decode cL_law 356 = .ok (.aload_n 2, 1) := by decide +kernel
theorem dL_law_357 : decode cL_law 357 = .ok (.invokevirtual 60, 3) := by decide +kernel
theorem dL_law_360 : decode cL_law 360 = .ok (.if_icmp .eq 5, 3) := by decide +kernel
theorem dL_law_363 : decode cL_law 363 = .ok (.iconst 0, 1) := by decide +kernel
theorem dL_law_364 : decode cL_law 364 = .ok (.ireturn, 1) := by decide +kernel
theorem dL_law_365 : decode cL_law 365 = .ok (.iinc 3 4, 3) := by decide +kernel
theorem dL_law_368 : decode cL_law 368 = .ok (.goto (-350), 3) := by decide +kernel
theorem dL_law_371 : decode cL_law 371 = .ok (.iconst 1, 1) := by decide +kernel
theorem dL_law_372 : decode cL_law 372 = .ok (.ireturn, 1) := by decide +kernel
end
section
/-! rows of our own: arrays of small numbers and of truths; contracts of one shape (ys_I, ys_V); calls over a whole world -/
def vI (f : Nat → Nat) : Nat → Int32 := fun j => nI (f j)
def bI (b : Bool) : Int32 := match b with
  | true => 1
  | false => 0
def vB (g : Nat → Bool) : Nat → Int32 := fun j => bI (g j)
theorem vI_up (f : Nat → Nat) (k v : Nat) : upd (vI f) k (nI v) = vI (va_up f k v) := by
  funext j
  unfold upd vI va_up
  by_cases h : j = k
  · simp [h]
  · simp [h]
theorem vB_up (f : Nat → Bool) (k : Nat) (v : Bool) : upd (vB f) k (bI v) = vB (va_up f k v) := by
  funext j
  unfold upd vB va_up
  by_cases h : j = k
  · simp [h]
  · simp [h]
theorem bI_nar (v : Bool) : vp_nar .boolean (bI v) = bI v := by cases v <;> rfl
theorem bI_narrow (v : Bool) : narrow .boolean (.int (bI v)) = .int (bI v) := by cases v <;> rfl
theorem bI_0 (v : Bool) : bI v = 0 ↔ v = false := by cases v <;> decide
theorem bI_1 (v : Bool) : ¬ bI v = 0 → v = true := by cases v <;> decide
theorem ys_inc (k : Nat) : nI k + Int32.ofInt 1 = nI (k + 1) := nI_1 k
theorem ys_xor (a b : Nat) : nI a ^^^ nI b = nI (a ^^^ b) := by
  apply Int32.toBitVec_inj.mp
  show (BitVec.ofNat 32 a) ^^^ (BitVec.ofNat 32 b) = BitVec.ofNat 32 (a ^^^ b)
  apply BitVec.eq_of_getLsbD_eq
  intro i hi
  simp [BitVec.getLsbD_ofNat, Nat.testBit_xor, hi]
abbrev ys_E (p : Program) (s : State) (m : MethodId) (args : Array Value) (meth : Method) (c : Code) (own : String) (cc : ByteArray) (n : Nat) (ret : Option FieldType) : Prop :=
  p.tables.exec = Jvm.exec ∧ c.code = cc ∧ meth.sig.returnType = ret ∧ c.maxLocals = n ∧ s.vm.findClass own = some m.cls ∧ (∀ w ∈ lw_all, w.before args s = true) ∧ meth.locks = false
/-- the world w stands in the heap H, apart, inside A; outside A nothing changed since the method's start -/
def ys_M (D : va_G) (A : Nat → Prop) (s : State) (w : va_W) (H : Heap) (locs : List Loc) : Prop := va_P D vwCl w H ∧ va_D A w ∧ va_S A s.heap H locs
def ys_QI (D : va_G) (tys : List (ClassId × FieldType)) (below : List Frame) (args : Array Value) (s : State) (A : Nat → Prop) (w1 : va_W) (r : Int32) : State → Prop := MQ below (va_Qi (fun r' (_ : Unit) => r' = r) (fun _ t => va_P D vwCl w1 t.heap ∧ va_K D vwCl tys t ∧ va_D A w1) A) args s 0 0 A
def ys_QV (D : va_G) (tys : List (ClassId × FieldType)) (below : List Frame) (args : Array Value) (s : State) (A : Nat → Prop) (w1 : va_W) : State → Prop := MQ below (va_Qv (fun (_ : Unit) => True) (fun _ t => va_P D vwCl w1 t.heap ∧ va_K D vwCl tys t ∧ va_D A w1) A) args s 0 0 A
/-- CONTRACT, an int's (a boolean's) method: from the world w0 with the arguments av it answers r and leaves the world w1 -/
def ys_I (l : Launch) (y : MethodName) (ws : List Cond) (rm : Room) (D : va_G) (tys : List (ClassId × FieldType)) (av : List Value) (w0 w1 : va_W) (r : Int32) : Prop := ∀ sz : Nat, Met l y ws rm (va_Pc av (fun U => U.heap.size = sz ∧ va_P D vwCl w0 U.heap ∧ va_K D vwCl tys U ∧ va_D (fun _ => True) w0)) (va_Qi (fun r' (_ : Unit) => r' = r) (fun _ t => va_P D vwCl w1 t.heap ∧ va_K D vwCl tys t ∧ va_D (va_A w0 sz) w1) (va_A w0 sz)) 0 0 (va_A w0 sz)
/-- CONTRACT, a void method -/
def ys_V (l : Launch) (y : MethodName) (ws : List Cond) (rm : Room) (D : va_G) (tys : List (ClassId × FieldType)) (av : List Value) (w0 w1 : va_W) : Prop := ∀ sz : Nat, Met l y ws rm (va_Pc av (fun U => U.heap.size = sz ∧ va_P D vwCl w0 U.heap ∧ va_K D vwCl tys U ∧ va_D (fun _ => True) w0)) (va_Qv (fun (_ : Unit) => True) (fun _ t => va_P D vwCl w1 t.heap ∧ va_K D vwCl tys t ∧ va_D (va_A w0 sz) w1) (va_A w0 sz)) 0 0 (va_A w0 sz)
theorem ys_I.mk {l : Launch} {y : MethodName} {cc : ByteArray} {n : Nat} {ret : Option FieldType} {rm : Room} {D : va_G} {tys : List (ClassId × FieldType)} {av : List Value} {w0 w1 : va_W} {r : Int32} {own : String} (hy : plainName y.cls = true) (ho : y.cls = own) (hn : (lg_sl av).length ≤ n)
    (body : ∀ (p : Program) (e : Env) (s : State) (m : MethodId) (below : List Frame) (meth : Method) (c : Code) (A : Nat → Prop) (ls : Array Slot), ys_E p s m av.toArray meth c own cc n ret → va_K D vwCl tys s → (∀ q, s.heap.size ≤ q → A q) → ys_M D A s w0 s.heap [] → lv_has ls n (lv_args 0 av) → W p l e rm s m av.toArray below meth c s.heap [] 0 0 (ys_QI D tys below av.toArray s A w1 r) (F0 m 0 ls [])) :
    ys_I l y (ws_ y cc n ret) rm D tys av w0 w1 r := by
  intro sz
  refine Met.ofW (cc := cc) (maxL := n) (ret := ret) hy rfl ?_
  intro p e s m args below meth c s₁ B hml hv
  obtain ⟨rfl, hsz, hP, hK, hD0⟩ := hv
  have hts := atoms_spec (ws := ws_ y cc n ret) B.pre
  have hts : ∀ w ∈ lw_all, w.before _ s = true := fun w h => hts w (List.mem_cons_of_mem _ h)
  subst hsz
  subst ho
  rw [lg_entry_eq]
  exact body p e s m below meth c (va_A w0 s.heap.size) _ ⟨B.exec, B.bytes, B.returns, hml, findClass_of_methodNamed B.named, hts, B.notSynchronized⟩ hK (fun q h => Or.inr h) ⟨hP, hD0.self, va_S.rf⟩ (lv_entry av hn)
theorem ys_V.mk {l : Launch} {y : MethodName} {cc : ByteArray} {n : Nat} {ret : Option FieldType} {rm : Room} {D : va_G} {tys : List (ClassId × FieldType)} {av : List Value} {w0 w1 : va_W} {own : String} (hy : plainName y.cls = true) (ho : y.cls = own) (hn : (lg_sl av).length ≤ n)
    (body : ∀ (p : Program) (e : Env) (s : State) (m : MethodId) (below : List Frame) (meth : Method) (c : Code) (A : Nat → Prop) (ls : Array Slot), ys_E p s m av.toArray meth c own cc n ret → va_K D vwCl tys s → (∀ q, s.heap.size ≤ q → A q) → ys_M D A s w0 s.heap [] → lv_has ls n (lv_args 0 av) → W p l e rm s m av.toArray below meth c s.heap [] 0 0 (ys_QV D tys below av.toArray s A w1) (F0 m 0 ls [])) :
    ys_V l y (ws_ y cc n ret) rm D tys av w0 w1 := by
  intro sz
  refine Met.ofW (cc := cc) (maxL := n) (ret := ret) hy rfl ?_
  intro p e s m args below meth c s₁ B hml hv
  obtain ⟨rfl, hsz, hP, hK, hD0⟩ := hv
  have hts := atoms_spec (ws := ws_ y cc n ret) B.pre
  have hts : ∀ w ∈ lw_all, w.before _ s = true := fun w h => hts w (List.mem_cons_of_mem _ h)
  subst hsz
  subst ho
  rw [lg_entry_eq]
  exact body p e s m below meth c (va_A w0 s.heap.size) _ ⟨B.exec, B.bytes, B.returns, hml, findClass_of_methodNamed B.named, hts, B.notSynchronized⟩ hK (fun q h => Or.inr h) ⟨hP, hD0.self, va_S.rf⟩ (lv_entry av hn)
section YS
variable {p : Program} {l : Launch} {e : Env} {R : Room} {s : State} {m : MethodId} {args : Array Value} {below : List Frame} {meth : Method} {c : Code} {H : Heap} {locs : List Loc} {cells slots : Nat} {Q : State → Prop}
variable {cc : ByteArray} {pc : Nat} {ls : Array Slot} {rest : List Value} {D : va_G} {A : Nat → Prop} {a : Nat} {tys : List (ClassId × FieldType)} {w : va_W}
theorem ys_iadd (hx : p.tables.exec = Jvm.exec) (hb : c.code = cc) {i j : Nat} (hdg : decode cc pc = .ok (.iadd, 1)) (k : W p l e R s m args below meth c H locs cells slots Q (F0 m (pc + 1) ls (.int (nI (i + j)) :: rest))) : W p l e R s m args below meth c H locs cells slots Q (F0 m pc ls (.int (nI j) :: .int (nI i) :: rest)) := by
  refine lv_iadd hx hb hdg ?_
  rw [nI_add]
  exact k
theorem ys_imul (hx : p.tables.exec = Jvm.exec) (hb : c.code = cc) {i j : Nat} (hdg : decode cc pc = .ok (.imul, 1)) (k : W p l e R s m args below meth c H locs cells slots Q (F0 m (pc + 1) ls (.int (nI (i * j)) :: rest))) : W p l e R s m args below meth c H locs cells slots Q (F0 m pc ls (.int (nI j) :: .int (nI i) :: rest)) := by
  refine lv_imul hx hb hdg ?_
  rw [pk_mul]
  exact k
theorem ys_isub (hx : p.tables.exec = Jvm.exec) (hb : c.code = cc) {i j : Nat} (h : j ≤ i) (hdg : decode cc pc = .ok (.isub, 1)) (k : W p l e R s m args below meth c H locs cells slots Q (F0 m (pc + 1) ls (.int (nI (i - j)) :: rest))) : W p l e R s m args below meth c H locs cells slots Q (F0 m pc ls (.int (nI j) :: .int (nI i) :: rest)) := by
  refine lv_isub hx hb hdg ?_
  rw [pk_sub h]
  exact k
theorem ys_ixor (hx : p.tables.exec = Jvm.exec) (hb : c.code = cc) {i j : Nat} (hdg : decode cc pc = .ok (.ixor, 1)) (k : W p l e R s m args below meth c H locs cells slots Q (F0 m (pc + 1) ls (.int (nI (i ^^^ j)) :: rest))) : W p l e R s m args below meth c H locs cells slots Q (F0 m pc ls (.int (nI j) :: .int (nI i) :: rest)) := by
  refine lv_ixor hx hb hdg ?_
  rw [ys_xor]
  exact k
/-- the low byte of an int -/
theorem ys_iand255 (hx : p.tables.exec = Jvm.exec) (hb : c.code = cc) {x : Int32} (hdg : decode cc pc = .ok (.iand, 1)) (k : W p l e R s m args below meth c H locs cells slots Q (F0 m (pc + 1) ls (.int (nI (x.toBitVec.toNat % 256)) :: rest))) : W p l e R s m args below meth c H locs cells slots Q (F0 m pc ls (.int (nI 255) :: .int x :: rest)) := by
  refine lv_iand hx hb hdg ?_
  rw [pk_and x (m := nI 255) 8 (by decide)]
  exact k
theorem ys_idiv (hx : p.tables.exec = Jvm.exec) (hb : c.code = cc) {i j : Nat} (hi : i < 2 ^ 31) (h0 : 0 < j) (hj : j < 2 ^ 31) (hdg : decode cc pc = .ok (.idiv, 1)) (k : W p l e R s m args below meth c H locs cells slots Q (F0 m (pc + 1) ls (.int (nI (i / j)) :: rest))) : W p l e R s m args below meth c H locs cells slots Q (F0 m pc ls (.int (nI j) :: .int (nI i) :: rest)) := by
  refine lv_idiv hx hb hdg (nI_ne0 h0 hj) ?_
  rw [pk_div hi h0 hj]
  exact k
theorem ys_irem (hx : p.tables.exec = Jvm.exec) (hb : c.code = cc) {i j : Nat} (hi : i < 2 ^ 31) (h0 : 0 < j) (hj : j < 2 ^ 31) (hdg : decode cc pc = .ok (.irem, 1)) (k : W p l e R s m args below meth c H locs cells slots Q (F0 m (pc + 1) ls (.int (nI (i % j)) :: rest))) : W p l e R s m args below meth c H locs cells slots Q (F0 m pc ls (.int (nI j) :: .int (nI i) :: rest)) := by
  refine lv_irem hx hb hdg (nI_ne0 h0 hj) ?_
  rw [pk_rem hi h0 hj]
  exact k
theorem ys_ishl1 (hx : p.tables.exec = Jvm.exec) (hb : c.code = cc) {i : Nat} (h : i * 2 < 2 ^ 32) (hdg : decode cc pc = .ok (.ishl, 1)) (k : W p l e R s m args below meth c H locs cells slots Q (F0 m (pc + 1) ls (.int (nI (i * 2)) :: rest))) : W p l e R s m args below meth c H locs cells slots Q (F0 m pc ls (.int (nI 1) :: .int (nI i) :: rest)) := by
  refine lv_ishl hx hb hdg ?_
  rw [pk_shlN (nI 1 &&& 31) 1 (by decide) h]
  exact k
-- branches: two goals, over plain numbers
theorem ys_icmp_ge (hx : p.tables.exec = Jvm.exec) (hb : c.code = cc) {i j : Nat} {off : Int} {tgt : Nat} (hdg : decode cc pc = .ok (.if_icmp .ge off, 3)) (ht : (pc : Int) + off = (tgt : Int)) (hi : i < 2 ^ 31) (hj : j < 2 ^ 31)
    (kt : j ≤ i → W p l e R s m args below meth c H locs cells slots Q (F0 m tgt ls rest)) (kf : i < j → W p l e R s m args below meth c H locs cells slots Q (F0 m (pc + 3) ls rest)) : W p l e R s m args below meth c H locs cells slots Q (F0 m pc ls (.int (nI j) :: .int (nI i) :: rest)) :=
  lv_icmp_ge hx hb hdg ht (fun h => kt ((nI_leI hj hi).mp h)) (fun h => kf (Nat.not_le.mp (fun q => h ((nI_leI hj hi).mpr q))))
theorem ys_icmp_gt (hx : p.tables.exec = Jvm.exec) (hb : c.code = cc) {i j : Nat} {off : Int} {tgt : Nat} (hdg : decode cc pc = .ok (.if_icmp .gt off, 3)) (ht : (pc : Int) + off = (tgt : Int)) (hi : i < 2 ^ 31) (hj : j < 2 ^ 31)
    (kt : j < i → W p l e R s m args below meth c H locs cells slots Q (F0 m tgt ls rest)) (kf : i ≤ j → W p l e R s m args below meth c H locs cells slots Q (F0 m (pc + 3) ls rest)) : W p l e R s m args below meth c H locs cells slots Q (F0 m pc ls (.int (nI j) :: .int (nI i) :: rest)) :=
  lv_icmp_gt hx hb hdg ht (fun h => kt ((nI_ltI hj hi).mp h)) (fun h => kf (Nat.not_lt.mp (fun q => h ((nI_ltI hj hi).mpr q))))
theorem ys_icmp_le (hx : p.tables.exec = Jvm.exec) (hb : c.code = cc) {i j : Nat} {off : Int} {tgt : Nat} (hdg : decode cc pc = .ok (.if_icmp .le off, 3)) (ht : (pc : Int) + off = (tgt : Int)) (hi : i < 2 ^ 31) (hj : j < 2 ^ 31)
    (kt : i ≤ j → W p l e R s m args below meth c H locs cells slots Q (F0 m tgt ls rest)) (kf : j < i → W p l e R s m args below meth c H locs cells slots Q (F0 m (pc + 3) ls rest)) : W p l e R s m args below meth c H locs cells slots Q (F0 m pc ls (.int (nI j) :: .int (nI i) :: rest)) :=
  lv_icmp_le hx hb hdg ht (fun h => kt ((nI_leI hi hj).mp h)) (fun h => kf (Nat.not_le.mp (fun q => h ((nI_leI hi hj).mpr q))))
theorem ys_icmp_lt (hx : p.tables.exec = Jvm.exec) (hb : c.code = cc) {i j : Nat} {off : Int} {tgt : Nat} (hdg : decode cc pc = .ok (.if_icmp .lt off, 3)) (ht : (pc : Int) + off = (tgt : Int)) (hi : i < 2 ^ 31) (hj : j < 2 ^ 31)
    (kt : i < j → W p l e R s m args below meth c H locs cells slots Q (F0 m tgt ls rest)) (kf : j ≤ i → W p l e R s m args below meth c H locs cells slots Q (F0 m (pc + 3) ls rest)) : W p l e R s m args below meth c H locs cells slots Q (F0 m pc ls (.int (nI j) :: .int (nI i) :: rest)) :=
  lv_icmp_lt hx hb hdg ht (fun h => kt ((nI_ltI hi hj).mp h)) (fun h => kf (Nat.not_lt.mp (fun q => h ((nI_ltI hi hj).mpr q))))
theorem ys_icmp_ne (hx : p.tables.exec = Jvm.exec) (hb : c.code = cc) {i j : Nat} {off : Int} {tgt : Nat} (hdg : decode cc pc = .ok (.if_icmp .ne off, 3)) (ht : (pc : Int) + off = (tgt : Int)) (hi : i < 2 ^ 31) (hj : j < 2 ^ 31)
    (kt : ¬ i = j → W p l e R s m args below meth c H locs cells slots Q (F0 m tgt ls rest)) (kf : i = j → W p l e R s m args below meth c H locs cells slots Q (F0 m (pc + 3) ls rest)) : W p l e R s m args below meth c H locs cells slots Q (F0 m pc ls (.int (nI j) :: .int (nI i) :: rest)) :=
  lv_icmp_ne hx hb hdg ht (fun h => kt (fun q => h (by rw [q]))) (fun h => kf ((nI_eq hi hj).mp h))
theorem ys_if_eq (hx : p.tables.exec = Jvm.exec) (hb : c.code = cc) {i : Nat} {off : Int} {tgt : Nat} (hdg : decode cc pc = .ok (.ifCond .eq off, 3)) (ht : (pc : Int) + off = (tgt : Int)) (hi : i < 2 ^ 31)
    (kt : i = 0 → W p l e R s m args below meth c H locs cells slots Q (F0 m tgt ls rest)) (kf : ¬ i = 0 → W p l e R s m args below meth c H locs cells slots Q (F0 m (pc + 3) ls rest)) : W p l e R s m args below meth c H locs cells slots Q (F0 m pc ls (.int (nI i) :: rest)) :=
  lv_if_eq hx hb hdg ht (fun h => kt ((nI_eq hi (by decide : 0 < 2 ^ 31)).mp h)) (fun h => kf (fun q => h (by rw [q]; rfl)))
theorem ys_if_ne (hx : p.tables.exec = Jvm.exec) (hb : c.code = cc) {i : Nat} {off : Int} {tgt : Nat} (hdg : decode cc pc = .ok (.ifCond .ne off, 3)) (ht : (pc : Int) + off = (tgt : Int)) (hi : i < 2 ^ 31)
    (kt : ¬ i = 0 → W p l e R s m args below meth c H locs cells slots Q (F0 m tgt ls rest)) (kf : i = 0 → W p l e R s m args below meth c H locs cells slots Q (F0 m (pc + 3) ls rest)) : W p l e R s m args below meth c H locs cells slots Q (F0 m pc ls (.int (nI i) :: rest)) :=
  lv_if_ne hx hb hdg ht (fun h => kt (fun q => h (by rw [q]; rfl))) (fun h => kf ((nI_eq hi (by decide : 0 < 2 ^ 31)).mp h))
theorem ys_if_le (hx : p.tables.exec = Jvm.exec) (hb : c.code = cc) {i : Nat} {off : Int} {tgt : Nat} (hdg : decode cc pc = .ok (.ifCond .le off, 3)) (ht : (pc : Int) + off = (tgt : Int)) (hi : i < 2 ^ 31)
    (kt : i = 0 → W p l e R s m args below meth c H locs cells slots Q (F0 m tgt ls rest)) (kf : 0 < i → W p l e R s m args below meth c H locs cells slots Q (F0 m (pc + 3) ls rest)) : W p l e R s m args below meth c H locs cells slots Q (F0 m pc ls (.int (nI i) :: rest)) :=
  lv_if_le hx hb hdg ht (fun h => kt (Nat.le_zero.mp ((nI_leI hi (by decide : 0 < 2 ^ 31)).mp h))) (fun h => kf (Nat.pos_of_ne_zero (fun q => h (by rw [q]; exact (nI_leI (a := 0) (b := 0) (by decide) (by decide)).mpr (Nat.le_refl 0)))))
-- a truth on the stack
theorem ys_ifb_eq (hx : p.tables.exec = Jvm.exec) (hb : c.code = cc) {b : Bool} {off : Int} {tgt : Nat} (hdg : decode cc pc = .ok (.ifCond .eq off, 3)) (ht : (pc : Int) + off = (tgt : Int))
    (kt : b = false → W p l e R s m args below meth c H locs cells slots Q (F0 m tgt ls rest)) (kf : b = true → W p l e R s m args below meth c H locs cells slots Q (F0 m (pc + 3) ls rest)) : W p l e R s m args below meth c H locs cells slots Q (F0 m pc ls (.int (bI b) :: rest)) :=
  lv_if_eq hx hb hdg ht (fun h => kt ((bI_0 b).mp h)) (fun h => kf (bI_1 b h))
theorem ys_ifb_ne (hx : p.tables.exec = Jvm.exec) (hb : c.code = cc) {b : Bool} {off : Int} {tgt : Nat} (hdg : decode cc pc = .ok (.ifCond .ne off, 3)) (ht : (pc : Int) + off = (tgt : Int))
    (kt : b = true → W p l e R s m args below meth c H locs cells slots Q (F0 m tgt ls rest)) (kf : b = false → W p l e R s m args below meth c H locs cells slots Q (F0 m (pc + 3) ls rest)) : W p l e R s m args below meth c H locs cells slots Q (F0 m pc ls (.int (bI b) :: rest)) :=
  lv_if_ne hx hb hdg ht (fun h => kt (bI_1 b h)) (fun h => kf ((bI_0 b).mp h))
-- arrays
theorem ys_iald (hx : p.tables.exec = Jvm.exec) (hb : c.code = cc) (hK : va_K D vwCl tys s) (hM : ys_M D A s w H locs) (q0 t0 : Nat) {cA : ClassId} {n : Nat} {f : Nat → Nat} {i : Nat} (ha : w[q0]? = some (a, .inl (cA, n, .inl (vI f)))) (ht : tys[t0]? = some (cA, .int)) (hi : i < n) (hn : n < 2 ^ 31) (hdg : decode cc pc = .ok (.iaload, 1))
    (k : W p l e R s m args below meth c H locs cells slots Q (F0 m (pc + 1) ls (.int (nI (f i)) :: rest))) : W p l e R s m args below meth c H locs cells slots Q (F0 m pc ls (.int (nI i) :: .ref a :: rest)) := by
  refine va_iald hx hb hK hM.1 q0 t0 ha ht (vp_in_nI hi hn) hdg ?_
  rw [nI_clamp (by omega)]
  exact k
theorem ys_zald (hx : p.tables.exec = Jvm.exec) (hb : c.code = cc) (hK : va_K D vwCl tys s) (hM : ys_M D A s w H locs) (q0 t0 : Nat) {cA : ClassId} {n : Nat} {f : Nat → Bool} {i : Nat} (ha : w[q0]? = some (a, .inl (cA, n, .inl (vB f)))) (ht : tys[t0]? = some (cA, .boolean)) (hi : i < n) (hn : n < 2 ^ 31) (hdg : decode cc pc = .ok (.baload, 1))
    (k : W p l e R s m args below meth c H locs cells slots Q (F0 m (pc + 1) ls (.int (bI (f i)) :: rest))) : W p l e R s m args below meth c H locs cells slots Q (F0 m pc ls (.int (nI i) :: .ref a :: rest)) := by
  refine va_zald hx hb hK hM.1 q0 t0 ha ht (vp_in_nI hi hn) hdg ?_
  rw [nI_clamp (by omega)]
  exact k
theorem ys_iast (hx : p.tables.exec = Jvm.exec) (hb : c.code = cc) (hK : va_K D vwCl tys s) (hM : ys_M D A s w H locs) (q0 t0 : Nat) {cA : ClassId} {n : Nat} {f : Nat → Nat} {i v : Nat} (ha : w[q0]? = some (a, .inl (cA, n, .inl (vI f)))) (ht : tys[t0]? = some (cA, .int)) (hi : i < n) (hn : n < 2 ^ 31) (hdg : decode cc pc = .ok (.iastore, 1)) {w' : va_W} (hw : w.set q0 (a, .inl (cA, n, .inl (vI (va_up f i v)))) = w')
    (k : ∀ (H1 : Heap) (locs1 : List Loc), ys_M D A s w' H1 locs1 → W p l e R s m args below meth c H1 locs1 cells slots Q (F0 m (pc + 1) ls rest)) : W p l e R s m args below meth c H locs cells slots Q (F0 m pc ls (.int (nI v) :: .int (nI i) :: .ref a :: rest)) := by
  refine va_iast hx hb hK hM.1 hM.2.1 hM.2.2 q0 t0 ha ht (vp_in_nI hi hn) hdg (fun H1 locs1 h1 h2 h3 => ?_)
  rw [nI_clamp (by omega), vI_up, hw] at h1 h2
  exact k H1 locs1 ⟨h1, h2, h3⟩
theorem ys_zast (hx : p.tables.exec = Jvm.exec) (hb : c.code = cc) (hK : va_K D vwCl tys s) (hM : ys_M D A s w H locs) (q0 t0 : Nat) {cA : ClassId} {n : Nat} {f : Nat → Bool} {i : Nat} {v : Bool} (ha : w[q0]? = some (a, .inl (cA, n, .inl (vB f)))) (ht : tys[t0]? = some (cA, .boolean)) (hi : i < n) (hn : n < 2 ^ 31) (hdg : decode cc pc = .ok (.bastore, 1)) {w' : va_W} (hw : w.set q0 (a, .inl (cA, n, .inl (vB (va_up f i v)))) = w')
    (k : ∀ (H1 : Heap) (locs1 : List Loc), ys_M D A s w' H1 locs1 → W p l e R s m args below meth c H1 locs1 cells slots Q (F0 m (pc + 1) ls rest)) : W p l e R s m args below meth c H locs cells slots Q (F0 m pc ls (.int (bI v) :: .int (nI i) :: .ref a :: rest)) := by
  refine va_zast hx hb hK hM.1 hM.2.1 hM.2.2 q0 t0 ha ht (vp_in_nI hi hn) hdg (fun H1 locs1 h1 h2 h3 => ?_)
  rw [nI_clamp (by omega), bI_nar, vB_up, hw] at h1 h2
  exact k H1 locs1 ⟨h1, h2, h3⟩
/-- a store into a field -/
theorem ys_put (hx : p.tables.exec = Jvm.exec) (hb : c.code = cc) {own ref C : String} {T : u_T} {N ci index : Nat} (hts : ∀ w ∈ lw_all, w.before args s = true) (hin : ∀ w ∈ u_ws C T N, w ∈ lw_all) (ty0 : Nat → FieldType) (hty : ∀ k, k < N → parseFieldDescriptor (T k).2.2.1 = some (ty0 k)) (hnm : ∀ a, a < N → ∀ b, b < N → a ≠ b → (T a).2.1 ≠ (T b).2.1) (hown : s.vm.findClass own = some m.cls) (hK : va_K D vwCl tys s) (hM : ys_M D A s w H locs) (q0 : Nat) {fs : List Value} (he : w[q0]? = some (a, .inr (ci, fs))) (hc : vwCl[ci]? = some (C, T, N)) (k : Nat) (hk : k < N) (hlink : (Cond.fieldLink own index ref (T k).2.1 (T k).2.2.1).before args s = true) (hsame : ∀ x, s.fieldFound? (T k).1 (T k).2.1 (T k).2.2.1 = some x → s.fieldFound? ref (T k).2.1 (T k).2.2.1 = some x) (hfin : (T k).2.2.2 = false) {ty : FieldType} {v : Value} (hd : parseFieldDescriptor (T k).2.2.1 = some ty) (hn : narrow ty v = v) (hfit : fits ty v = true) (hl : k < fs.length)
    (hdg : decode cc pc = .ok (.putfield index, 3)) {w' : va_W} (hw : w.set q0 (a, .inr (ci, fs.set k v)) = w') (kk : ∀ (H1 : Heap) (locs1 : List Loc), ys_M D A s w' H1 locs1 → W p l e R s m args below meth c H1 locs1 cells slots Q (F0 m (pc + 3) ls rest)) : W p l e R s m args below meth c H locs cells slots Q (F0 m pc ls (v :: .ref a :: rest)) := by
  refine va_put hx hb hts hin ty0 hty hnm hown hK hM.1 hM.2.1 hM.2.2 q0 he hc k hk hlink hsame hfin hd hn hfit hl hdg (fun H1 locs1 h1 h2 h3 => ?_)
  rw [hw] at h1 h2
  exact kk H1 locs1 ⟨h1, h2, h3⟩
-- ends
theorem ys_iret (hx : p.tables.exec = Jvm.exec) (hb : c.code = cc) (hr : meth.sig.returnType = some .int) (hlocks : meth.locks = false) (hK : va_K D vwCl tys s) (hM : ys_M D A s w H locs) {v r : Int32} (hv : v = r) (hdg : decode cc pc = .ok (.ireturn, 1)) : W p l e R s m args below meth c H locs 0 0 (ys_QI D tys below args s A w r) (F0 m pc ls [.int v]) := by
  subst hv
  exact W.iret hx hb hr (fun t ht hW => ⟨⟨v, (), rfl, rfl, by rw [ht]; exact hM.1, va_K.moved hW.alike hK, hM.2.1⟩, hM.2.2.F ht⟩) hM.2.2.2.2 hdg hlocks
theorem ys_zret (hx : p.tables.exec = Jvm.exec) (hb : c.code = cc) (hr : meth.sig.returnType = some .boolean) (hlocks : meth.locks = false) (hK : va_K D vwCl tys s) (hM : ys_M D A s w H locs) {v r : Bool} (hv : v = r) (hdg : decode cc pc = .ok (.ireturn, 1)) : W p l e R s m args below meth c H locs 0 0 (ys_QI D tys below args s A w (bI r)) (F0 m pc ls [.int (bI v)]) := by
  subst hv
  exact W.zret hx hb hr (bI_narrow v) (fun t ht hW => ⟨⟨bI v, (), rfl, rfl, by rw [ht]; exact hM.1, va_K.moved hW.alike hK, hM.2.1⟩, hM.2.2.F ht⟩) hM.2.2.2.2 hdg hlocks
theorem ys_vret (hx : p.tables.exec = Jvm.exec) (hb : c.code = cc) (hr : meth.sig.returnType = none) (hlocks : meth.locks = false) (hK : va_K D vwCl tys s) (hM : ys_M D A s w H locs) (hdg : decode cc pc = .ok (.return_, 1)) : W p l e R s m args below meth c H locs 0 0 (ys_QV D tys below args s A w) (F0 m pc ls []) :=
  W.vret hx hb hr (fun t ht hW => ⟨⟨(), rfl, trivial, by rw [ht]; exact hM.1, va_K.moved hW.alike hK, hM.2.1⟩, hM.2.2.F ht⟩) hM.2.2.2.2 hdg hlocks
-- calls: the callee's world is the caller's
theorem ys_free (hA : ∀ q, s.heap.size ≤ q → A q) (hM : ys_M D A s w H locs) : ∀ q, va_A w H.size q → A q := by
  intro q h
  rcases h with ⟨k, e, h⟩ | h
  · exact hM.2.1.2 k (q, e) h
  · exact hA q (Nat.le_trans hM.2.2.1 h)
theorem ys_blind {av : List Value} {sz : Nat} : FrameBlind (va_Pc av (fun U => U.heap.size = sz ∧ va_P D vwCl w U.heap ∧ va_K D vwCl tys U ∧ va_D (fun _ => True) w)) := by
  intro a U g mk q
  obtain ⟨q0, q1, qP, qK, qD⟩ := q
  exact ⟨q0, q1, qP, va_K.moved (u := U) (U := U.calling g mk a) (Vm.Alike.refl U.vm) qK, qD⟩
variable {y : MethodName} {bytes : ByteArray} {maxL nL n index : Nat} {ret : Option FieldType} {ws : List Cond} {rm : Room} {own : String} {b : Addr} {As st0 : List Value} {w1 : va_W} {r : Int32}
theorem ys_callI (S : CallFix p m c cc nL s args lw_all own) (hC : ys_I l y ws rm D tys (.ref b :: As) w w1 r) {ci q0 : Nat} {qq : vw_C} {fs : List Value} (cw : CallW R s args own qq.1 index y bytes maxL ret ws rm 0 0 n) (hK : va_K D vwCl tys s) (hA : ∀ q, s.heap.size ≤ q → A q) (hM : ys_M D A s w H locs) (hc : vwCl[ci]? = some qq) (he : w[q0]? = some (b, .inr (ci, fs))) (hsz : ls.size = nL) (hn : As.length = n) (hst : st0 = As.reverse ++ .ref b :: rest) (hW : (rest.map fun v => v.category).sum ≤ 8) (hf : cells ≤ R.cells ∧ slots ≤ R.slots) (hdg : decode cc pc = .ok (.invokevirtual index, 3))
    (kk : ∀ (H1 : Heap) (locs1 : List Loc), ys_M D A s w1 H1 locs1 → W p l e R s m args below meth c H1 locs1 cells slots Q (F0 m (pc + 3) ls (.int r :: rest))) : W p l e R s m args below meth c H locs cells slots Q (F0 m pc ls st0) := by
  have hF := ys_free hA hM
  refine va_calli (va_runV (As := As) (rest := rest) S (hC H.size) cw ⟨ys_blind, va_recv hK hM.1 hc he, fun U hU hW => ⟨rfl, by rw [hU], by rw [hU]; exact hM.1, va_K.moved hW.alike hK, hM.2.1.weaken (fun _ _ _ _ => trivial)⟩⟩ rfl hn hsz hst (lv_room hW) hdg hf) hM.2.2 (fun q _ h => hF q h) hF (fun r' u t H1 locs1 ht hvm hw hB hz hk hS => ?_)
  subst hw
  obtain ⟨hP1, hK1, hD1⟩ := hB
  rw [ht] at hP1
  exact kk H1 locs1 ⟨hP1, hD1.weaken (fun _ q _ h => hF q.1 h), hS⟩
theorem ys_callV (S : CallFix p m c cc nL s args lw_all own) (hC : ys_V l y ws rm D tys (.ref b :: As) w w1) {ci q0 : Nat} {qq : vw_C} {fs : List Value} (cw : CallW R s args own qq.1 index y bytes maxL ret ws rm 0 0 n) (hK : va_K D vwCl tys s) (hA : ∀ q, s.heap.size ≤ q → A q) (hM : ys_M D A s w H locs) (hc : vwCl[ci]? = some qq) (he : w[q0]? = some (b, .inr (ci, fs))) (hsz : ls.size = nL) (hn : As.length = n) (hst : st0 = As.reverse ++ .ref b :: rest) (hW : (rest.map fun v => v.category).sum ≤ 8) (hf : cells ≤ R.cells ∧ slots ≤ R.slots) (hdg : decode cc pc = .ok (.invokevirtual index, 3))
    (kk : ∀ (H1 : Heap) (locs1 : List Loc), ys_M D A s w1 H1 locs1 → W p l e R s m args below meth c H1 locs1 cells slots Q (F0 m (pc + 3) ls rest)) : W p l e R s m args below meth c H locs cells slots Q (F0 m pc ls st0) := by
  have hF := ys_free hA hM
  refine va_callv (va_runV (As := As) (rest := rest) S (hC H.size) cw ⟨ys_blind, va_recv hK hM.1 hc he, fun U hU hW => ⟨rfl, by rw [hU], by rw [hU]; exact hM.1, va_K.moved hW.alike hK, hM.2.1.weaken (fun _ _ _ _ => trivial)⟩⟩ rfl hn hsz hst (lv_room hW) hdg hf) hM.2.2 (fun q _ h => hF q h) hF (fun u t H1 locs1 ht hvm hw hB hz hk hS => ?_)
  obtain ⟨hP1, hK1, hD1⟩ := hB
  rw [ht] at hP1
  exact kk H1 locs1 ⟨hP1, hD1.weaken (fun _ q _ h => hF q.1 h), hS⟩
theorem ys_callS (S : CallFix p m c cc nL s args lw_all own) (hC : ys_I l y ws rm D tys As w w1 r) (cw : CallB R s args own index y bytes maxL ret ws rm 0 0 n ∧ (Cond.static y).before args s = true) (hK : va_K D vwCl tys s) (hA : ∀ q, s.heap.size ≤ q → A q) (hM : ys_M D A s w H locs) (hsz : ls.size = nL) (hn : As.length = n) (hst : st0 = As.reverse ++ rest) (hW : (rest.map fun v => v.category).sum ≤ 8) (hf : cells ≤ R.cells ∧ slots ≤ R.slots) (hdg : decode cc pc = .ok (.invokestatic index, 3))
    (kk : ∀ (H1 : Heap) (locs1 : List Loc), ys_M D A s w1 H1 locs1 → W p l e R s m args below meth c H1 locs1 cells slots Q (F0 m (pc + 3) ls (.int r :: rest))) : W p l e R s m args below meth c H locs cells slots Q (F0 m pc ls st0) := by
  have hF := ys_free hA hM
  refine va_calli (va_runS (As := As) (rest := rest) S (hC H.size) cw ⟨ys_blind, fun U hU hW => ⟨rfl, by rw [hU], by rw [hU]; exact hM.1, va_K.moved hW.alike hK, hM.2.1.weaken (fun _ _ _ _ => trivial)⟩⟩ rfl hn hsz hst (lv_room hW) hdg hf) hM.2.2 (fun q _ h => hF q h) hF (fun r' u t H1 locs1 ht hvm hw hB hz hk hS => ?_)
  subst hw
  obtain ⟨hP1, hK1, hD1⟩ := hB
  rw [ht] at hP1
  exact kk H1 locs1 ⟨hP1, hD1.weaken (fun _ q _ h => hF q.1 h), hS⟩
end YS
end
section
/-! the field of 256 elements as the class computes it, and what its methods do, in plain numbers -/
def z_bP : Nat := 0x8e47add86c361b83cfe9fa7db0582c160b8bcbebfbf3f7f5f47a3d90482412098a45ac562b9bc3eff9f279b259a251a653a7dde070381c0e078dc86432198241ae57a5dc6e3795c46231964babdbe3fff1f67bb3d7e5fc7e3f91c663bfd1e673b7d5e472399249aa55a452299a4da8542a158442219e4fa9da6db85c2e1785cc663397c5ec763b93c7edf87c3e1f81ce67bdd068341a0d884422118643afd9e271b65ba3dfe1fe7fb1d66bbbd3e7fdf0783c1e0f89ca65bc5e2f99c261be5fa1de6fb9d269ba5da05028140a058c46239fc1ee77b5d46a35944a259c4e279dc06030180c06038fc9ea75b45a2d984c261387cde8743a1d80402010080402018e47add86c361b83cfe9fa7db0582c160b8bcbebfbf3f7f5f47a3d90482412098a45ac562b9bc3eff9f279b259a251a653a7dde070381c0e078dc86432198241ae57a5dc6e3795c46231964babdbe3fff1f67bb3d7e5fc7e3f91c663bfd1e673b7d5e472399249aa55a452299a4da8542a158442219e4fa9da6db85c2e1785cc663397c5ec763b93c7edf87c3e1f81ce67bdd068341a0d884422118643afd9e271b65ba3dfe1fe7fb1d66bbbd3e7fdf0783c1e0f89ca65bc5e2f99c261be5fa1de6fb9d269ba5da05028140a058c46239fc1ee77b5d46a35944a259c4e279dc06030180c06038fc9ea75b45a2d984c261387cde8743a1d8040201008040201
def z_bL : Nat := 0xaf5850a8eaf4d674e8ade7e6e9d5ae4fd72c757aeb16f50b51a0a99cb05f59cb5a3eccbbb18660fbaa559d29523ba16cf66f0c7fec4917c476a47bb7d8432d1fa2416d4753393c849e5d2a14abd356f261befcdcb2978790cdcfbc955bd13f372e892023d99244117cb4b8267799a5e318fec531edde4a670d63808cf7c0700757a7f373ace5d44e2b79150a9f9b5eca3dba85fa54283a6b6e7e48c3a3b6421e404638835c13d2f1bddb968fce94d03688229110b32598e2fd30dd66628bbf06a672e44d78099ac9b9f9276a7dc2b51d458212f0da8e9335210f24e12f658a05714c08c8f869c11c81ef8d340ee064044bc7681bee33df03c61a320219010000
/-- what the array power holds, what the array logarithm holds -/
def z_pw (j : Nat) : Nat := (z_bP >>> (8 * j)) % 256
def z_lg (x : Nat) : Nat := (z_bL >>> (8 * x)) % 256
def z_gm (a b : Nat) : Nat := if a = 0 then 0 else if b = 0 then 0 else z_pw (z_lg a + z_lg b)
def z_dv (a b : Nat) : Nat := if a = 0 then 0 else z_pw (z_lg a + 255 - z_lg b)
def z_wt (sm k : Nat) : Nat := if sm = 0 then (if k ≤ 4 then 1 else 0) else if k ≤ 3 then z_pw k else if k = 5 then 1 else 0
theorem z_pw_lt (j : Nat) : z_pw j < 256 := Nat.mod_lt _ (by decide)
theorem z_lg_lt (j : Nat) : z_lg j < 256 := Nat.mod_lt _ (by decide)
theorem z_gm_lt (a b : Nat) : z_gm a b < 256 := by
  unfold z_gm
  split
  · decide
  · split
    · decide
    · exact z_pw_lt _
theorem z_dv_lt (a b : Nat) : z_dv a b < 256 := by
  unfold z_dv
  split
  · decide
  · exact z_pw_lt _
theorem z_wt_lt (a b : Nat) : z_wt a b < 256 := by
  unfold z_wt
  split
  · split <;> decide
  · split
    · exact z_pw_lt _
    · split <;> decide
theorem z_xor_lt {a b : Nat} (ha : a < 256) (hb : b < 256) : a ^^^ b < 256 := Nat.xor_lt_two_pow (n := 8) ha hb
end
section
/-! the worlds of the shelf and of the model, and what their methods do, in plain numbers -/
/-- a shelf: what the cells hold, which are gone, the line, first lost, second lost, how many lost -/
abbrev zS : Type := (Nat → Nat) × (Nat → Bool) × (Nat → Nat) × Nat × Nat × Nat
/-- a model: the values, which are gone -/
abbrev zM : Type := (Nat → Nat) × (Nat → Bool)
def wX (ad : Nat → Nat) (kd : Nat → ClassId) (u : zS) : va_W := [(ad 0, .inr (0, [.ref (ad 1), .ref (ad 2), .ref (ad 3), .ref (ad 4), .ref (ad 5), .int (nI u.2.2.2.1), .int (nI u.2.2.2.2.1), .int (nI u.2.2.2.2.2)])), (ad 1, .inl (kd 1, 36, .inl (vI u.1))), (ad 2, .inl (kd 2, 36, .inl (vB u.2.1))), (ad 3, .inl (kd 3, 512, .inl (vI z_pw))), (ad 4, .inl (kd 4, 256, .inl (vI z_lg))), (ad 5, .inl (kd 5, 6, .inl (vI u.2.2.1)))]
def tX (kd : Nat → ClassId) : List (ClassId × FieldType) := [(kd 1, .int), (kd 2, .boolean), (kd 3, .int), (kd 4, .int), (kd 5, .int)]
def wM (ae : Nat → Nat) (ke : Nat → ClassId) (u : zM) : va_W := [(ae 0, .inr (1, [.ref (ae 1), .ref (ae 2)])), (ae 1, .inl (ke 1, 16, .inl (vI u.1))), (ae 2, .inl (ke 2, 36, .inl (vB u.2)))]
def tM (ke : Nat → ClassId) : List (ClassId × FieldType) := [(ke 1, .int), (ke 2, .boolean)]
/-- an int within 0 .. n -/
def z_in (n x : Int32) : Bool := decide (¬ x < 0 ∧ ¬ n < x)
theorem z_in_f {n x : Int32} (h : ¬ (¬ x < 0 ∧ ¬ n < x)) : z_in n x = false := by
  unfold z_in
  exact decide_eq_false h
theorem z_in_t {n x : Int32} (h1 : ¬ x < 0) (h2 : ¬ n < x) : z_in n x = true := by
  unfold z_in
  exact decide_eq_true ⟨h1, h2⟩
theorem z_in_nI {n k : Nat} (hn : n < 2 ^ 31) (h : k ≤ n) : z_in (nI n) (nI k) = true := z_in_t (nI_pos (by omega)) (nI_nlt h hn)
theorem z_in_of {n : Nat} (hn : n < 2 ^ 31) {x : Int32} (h : z_in (nI n) x = true) : ∃ k : Nat, k ≤ n ∧ x = nI k := by
  obtain ⟨h1, h2⟩ := of_decide_eq_true h
  exact nI_of2 (M := nI n) (n := n) (nI_toInt hn) h1 (Int32.not_lt.mp h2)
-- the shelf's methods
def z_alter (sym : Nat → Nat) (gone : Nat → Bool) (r c ch : Nat) : Nat → Nat := if gone (6 * r + c) = true then sym else va_up sym (6 * r + c) (sym (6 * r + c) ^^^ ch)
def z_wr1 (sym : Nat → Nat) (gone : Nat → Bool) (r c d : Nat) : Nat → Nat := z_alter (z_alter (z_alter sym gone r c d) gone r 4 (z_gm (z_wt 0 c) d)) gone r 5 (z_gm (z_wt 1 c) d)
def z_wr2 (sym : Nat → Nat) (gone : Nat → Bool) (r c ch : Nat) : Nat → Nat := z_wr1 (z_wr1 sym gone 4 c (z_gm (z_wt 0 r) ch)) gone 5 c (z_gm (z_wt 1 r) ch)
def z_write (sym : Nat → Nat) (gone : Nat → Bool) (r c v : Nat) : Nat → Nat := z_alter (z_alter (z_wr2 (va_up sym (6 * r + c) v) gone r c (sym (6 * r + c) ^^^ v)) gone r 4 (z_gm (z_wt 0 c) (sym (6 * r + c) ^^^ v))) gone r 5 (z_gm (z_wt 1 c) (sym (6 * r + c) ^^^ v))
def z_was (gone : Nat → Bool) (cell : Nat) : Nat := if gone cell = true then 0 else 1
def z_lose (u : zS) (cell : Nat) : zS := (va_up u.1 cell 0, va_up u.2.1 cell true, u.2.2)
/-- k cells lost, one behind another; how many of them were there -/
def z_lr (u : zS) (f : Nat → Nat) : Nat → Nat × zS
  | 0 => (0, u)
  | k + 1 => ((z_lr u f k).1 + z_was (z_lr u f k).2.2.1 (f k), z_lose (z_lr u f k).2 (f k))
def z_fs (b : Bool) (x k : Nat) (t : (Nat → Nat) × Nat × Nat × Nat) : (Nat → Nat) × Nat × Nat × Nat := match b with
  | true => (va_up t.1 k 0, (if t.2.2.2 = 0 then k else t.2.1), (if t.2.2.2 = 0 then t.2.2.1 else k), t.2.2.2 + 1)
  | false => (va_up t.1 k x, t.2)
/-- findLost, k cells looked at -/
def z_fl (sym : Nat → Nat) (gone : Nat → Bool) (st sd : Nat) (v : (Nat → Nat) × Nat × Nat × Nat) : Nat → (Nat → Nat) × Nat × Nat × Nat
  | 0 => (v.1, v.2.1, v.2.2.1, 0)
  | k + 1 => z_fs (gone (st + sd * k)) (sym (st + sd * k)) k (z_fl sym gone st sd v k)
def z_sm (sm : Nat) (line : Nat → Nat) : Nat → Nat
  | 0 => 0
  | k + 1 => z_sm sm line k ^^^ z_gm (z_wt sm k) (line k)
def z_m1 (line : Nat → Nat) (f p w : Nat) : Nat → Nat := if z_wt 0 f = 0 then va_up line f (z_dv w (z_wt 1 f)) else va_up line f (z_dv p (z_wt 0 f))
def z_det (f g : Nat) : Nat := z_gm (z_wt 0 f) (z_wt 1 g) ^^^ z_gm (z_wt 0 g) (z_wt 1 f)
def z_m2 (line : Nat → Nat) (f g p w : Nat) : Nat → Nat := va_up (va_up line f (z_dv (z_gm p (z_wt 1 g) ^^^ z_gm w (z_wt 0 g)) (z_det f g))) g (z_dv (z_gm (z_wt 0 f) w ^^^ z_gm (z_wt 1 f) p) (z_det f g))
def z_keep (u : zS) (st sd pl : Nat) : zS := (va_up u.1 (st + sd * pl) (u.2.2.1 pl), va_up u.2.1 (st + sd * pl) false, u.2.2)
def z_ml3 (t : zS) : zS := (t.1, t.2.1, (if t.2.2.2.2.2 = 1 then z_m1 t.2.2.1 t.2.2.2.1 (z_sm 0 t.2.2.1 6) (z_sm 1 t.2.2.1 6) else z_m2 t.2.2.1 t.2.2.2.1 t.2.2.2.2.1 (z_sm 0 t.2.2.1 6) (z_sm 1 t.2.2.1 6)), t.2.2.2)
def z_ml4 (st sd : Nat) (t : zS) : zS := if t.2.2.2.2.2 = 2 then z_keep (z_keep t st sd t.2.2.2.1) st sd t.2.2.2.2.1 else z_keep t st sd t.2.2.2.1
def z_ml2 (st sd : Nat) (t : zS) : Nat × zS := if t.2.2.2.2.2 < 1 ∨ 2 < t.2.2.2.2.2 then (0, t) else (t.2.2.2.2.2, z_ml4 st sd (z_ml3 t))
def z_ml (st sd : Nat) (u : zS) : Nat × zS := z_ml2 st sd (u.1, u.2.1, z_fl u.1 u.2.1 st sd u.2.2 6)
/-- a round of mend, k rows and columns done -/
def z_rk (u : zS) : Nat → Nat × zS
  | 0 => (0, u)
  | k + 1 => ((z_rk u k).1 + (z_ml (6 * k) 1 (z_rk u k).2).1 + (z_ml k 6 (z_ml (6 * k) 1 (z_rk u k).2).2).1, (z_ml k 6 (z_ml (6 * k) 1 (z_rk u k).2).2).2)
def z_md : Nat → Nat → zS → Nat × zS
  | 0, t, u => (t, u)
  | f + 1, t, u => if (z_rk u 6).1 = 0 then (t + (z_rk u 6).1, (z_rk u 6).2) else z_md f (t + (z_rk u 6).1) (z_rk u 6).2
def z_ls (gone : Nat → Bool) : Nat → Nat
  | 0 => 0
  | k + 1 => z_ls gone k + (if gone k = true then 1 else 0)
def z_tc (sym : Nat → Nat) (gone : Nat → Bool) (r acc : Nat) : Nat → Nat
  | 0 => acc
  | k + 1 => z_tc sym gone r acc k + (if gone (6 * r + k) = true then 0 else sym (6 * r + k))
def z_tt (sym : Nat → Nat) (gone : Nat → Bool) : Nat → Nat
  | 0 => 0
  | k + 1 => z_tc sym gone k (z_tt sym gone k) 4
-- the model's methods
def y_lose (u : zM) (cell : Nat) : zM := (u.1, va_up u.2 cell true)
def y_lr (u : zM) (f : Nat → Nat) : Nat → Nat × zM
  | 0 => (0, u)
  | k + 1 => ((y_lr u f k).1 + z_was (y_lr u f k).2.2 (f k), y_lose (y_lr u f k).2 (f k))
def y_mc (gone : Nat → Bool) (st sd : Nat) : Nat → Nat
  | 0 => 0
  | k + 1 => y_mc gone st sd k + (if gone (st + k * sd) = true then 1 else 0)
def y_mg (gone : Nat → Bool) (st sd : Nat) : Nat → (Nat → Bool)
  | 0 => gone
  | k + 1 => va_up (y_mg gone st sd k) (st + k * sd) false
def y_ml (st sd : Nat) (u : zM) : Nat × zM := if 2 < y_mc u.2 st sd 6 then (0, u) else (y_mc u.2 st sd 6, (u.1, y_mg u.2 st sd 6))
def y_rk (a : Nat) (u : zM) : Nat → Nat × zM
  | 0 => (a, u)
  | k + 1 => ((y_rk a u k).1 + (y_ml (6 * k) 1 (y_rk a u k).2).1 + (y_ml k 6 (y_ml (6 * k) 1 (y_rk a u k).2).2).1, (y_ml k 6 (y_ml (6 * k) 1 (y_rk a u k).2).2).2)
def y_md : Nat → Nat → zM → Nat × zM
  | 0, t, u => (t, u)
  | f + 1, t, u => if (y_rk t u 6).1 ≤ t then y_rk t u 6 else y_md f (y_rk t u 6).1 (y_rk t u 6).2
def y_tt (val : Nat → Nat) (gone : Nat → Bool) : Nat → Nat
  | 0 => 0
  | k + 1 => y_tt val gone k + (if gone (6 * (k / 4) + k % 4) = true then 0 else val k)
-- numbers that stay small
def zOk (u : zS) : Prop := (∀ j, u.1 j < 256) ∧ ∀ j, u.2.2.1 j < 256
theorem z_up_lt {f : Nat → Nat} {k v : Nat} (h : ∀ j, f j < 256) (hv : v < 256) : ∀ j, va_up f k v j < 256 := by
  intro j
  unfold va_up
  split
  · exact hv
  · exact h j
theorem z_fl_n (sym : Nat → Nat) (gone : Nat → Bool) (st sd : Nat) (v : (Nat → Nat) × Nat × Nat × Nat) (k : Nat) : (z_fl sym gone st sd v k).2.2.2 ≤ k := by
  induction k with
  | zero => exact Nat.le_refl 0
  | succ k ih =>
    show (z_fs _ _ k (z_fl sym gone st sd v k)).2.2.2 ≤ k + 1
    unfold z_fs
    split
    · exact Nat.succ_le_succ ih
    · exact Nat.le_succ_of_le ih
theorem z_fl_f (sym : Nat → Nat) (gone : Nat → Bool) (st sd : Nat) (v : (Nat → Nat) × Nat × Nat × Nat) (k : Nat) : (1 ≤ (z_fl sym gone st sd v k).2.2.2 → (z_fl sym gone st sd v k).2.1 < k) ∧ (2 ≤ (z_fl sym gone st sd v k).2.2.2 → (z_fl sym gone st sd v k).2.2.1 < k) := by
  induction k with
  | zero => exact ⟨fun h => absurd h (by simp [z_fl]), fun h => absurd h (by simp [z_fl])⟩
  | succ k ih =>
    show (1 ≤ (z_fs _ _ k (z_fl sym gone st sd v k)).2.2.2 → (z_fs _ _ k (z_fl sym gone st sd v k)).2.1 < k + 1) ∧ (2 ≤ (z_fs _ _ k (z_fl sym gone st sd v k)).2.2.2 → (z_fs _ _ k (z_fl sym gone st sd v k)).2.2.1 < k + 1)
    generalize z_fl sym gone st sd v k = t at ih
    obtain ⟨ln, f, g, n⟩ := t
    unfold z_fs
    split
    · dsimp only at ih ⊢
      by_cases h0 : n = 0
      · simp [h0]
      · rw [if_neg h0, if_neg h0]
        exact ⟨fun _ => Nat.lt_succ_of_lt (ih.1 (by omega)), fun _ => Nat.lt_succ_self k⟩
    · dsimp only at ih ⊢
      exact ⟨fun h => Nat.lt_succ_of_lt (ih.1 h), fun h => Nat.lt_succ_of_lt (ih.2 h)⟩
theorem z_fl_line {sym : Nat → Nat} {gone : Nat → Bool} {st sd : Nat} {v : (Nat → Nat) × Nat × Nat × Nat} (hs : ∀ j, sym j < 256) (hv : ∀ j, v.1 j < 256) (k : Nat) : ∀ j, (z_fl sym gone st sd v k).1 j < 256 := by
  induction k with
  | zero => exact hv
  | succ k ih =>
    show ∀ j, (z_fs _ _ k (z_fl sym gone st sd v k)).1 j < 256
    unfold z_fs
    split
    · exact z_up_lt ih (by decide)
    · exact z_up_lt ih (hs _)
theorem z_sm_lt (sm : Nat) (line : Nat → Nat) (k : Nat) : z_sm sm line k < 256 := by
  induction k with
  | zero => exact (by decide : 0 < 256)
  | succ k ih => exact z_xor_lt ih (z_gm_lt _ _)
theorem z_m1_lt {line : Nat → Nat} (h : ∀ j, line j < 256) (f p w : Nat) : ∀ j, z_m1 line f p w j < 256 := by
  unfold z_m1
  split
  · exact z_up_lt h (z_dv_lt _ _)
  · exact z_up_lt h (z_dv_lt _ _)
theorem z_m2_lt {line : Nat → Nat} (h : ∀ j, line j < 256) (f g p w : Nat) : ∀ j, z_m2 line f g p w j < 256 := z_up_lt (z_up_lt h (z_dv_lt _ _)) (z_dv_lt _ _)
theorem z_keep_ok {u : zS} (h : zOk u) (st sd pl : Nat) : zOk (z_keep u st sd pl) := ⟨z_up_lt h.1 (h.2 pl), h.2⟩
theorem z_ml3_ok {u : zS} (h : zOk u) : zOk (z_ml3 u) := by
  refine ⟨h.1, ?_⟩
  show ∀ j, (if u.2.2.2.2.2 = 1 then _ else _ : Nat → Nat) j < 256
  split
  · exact z_m1_lt h.2 _ _ _
  · exact z_m2_lt h.2 _ _ _ _
theorem z_ml4_ok {u : zS} (h : zOk u) (st sd : Nat) : zOk (z_ml4 st sd u) := by
  unfold z_ml4
  split
  · exact z_keep_ok (z_keep_ok h _ _ _) _ _ _
  · exact z_keep_ok h _ _ _
theorem z_ml_ok {u : zS} (h : zOk u) (st sd : Nat) : zOk (z_ml st sd u).2 := by
  have h1 : zOk (u.1, u.2.1, z_fl u.1 u.2.1 st sd u.2.2 6) := ⟨h.1, z_fl_line h.1 h.2 6⟩
  unfold z_ml z_ml2
  split
  · exact h1
  · exact z_ml4_ok (z_ml3_ok h1) _ _
theorem z_ml_le (st sd : Nat) (u : zS) : (z_ml st sd u).1 ≤ 2 := by
  unfold z_ml z_ml2
  split
  · exact Nat.zero_le 2
  · omega
theorem z_rk_ok {u : zS} (h : zOk u) (k : Nat) : zOk (z_rk u k).2 := by
  induction k with
  | zero => exact h
  | succ k ih => exact z_ml_ok (z_ml_ok ih _ _) _ _
theorem z_rk_le (u : zS) (k : Nat) : (z_rk u k).1 ≤ 4 * k := by
  induction k with
  | zero => exact Nat.le_refl 0
  | succ k ih =>
    have h1 := z_ml_le (6 * k) 1 (z_rk u k).2
    have h2 := z_ml_le k 6 (z_ml (6 * k) 1 (z_rk u k).2).2
    show (z_rk u k).1 + _ + _ ≤ 4 * (k + 1)
    omega
theorem y_mc_le (gone : Nat → Bool) (st sd k : Nat) : y_mc gone st sd k ≤ k := by
  induction k with
  | zero => exact Nat.le_refl 0
  | succ k ih =>
    show y_mc gone st sd k + _ ≤ k + 1
    split <;> omega
theorem y_ml_le (st sd : Nat) (u : zM) : (y_ml st sd u).1 ≤ 2 := by
  unfold y_ml
  split
  · exact Nat.zero_le 2
  · show y_mc u.2 st sd 6 ≤ 2
    omega
theorem y_rk_le (a : Nat) (u : zM) (k : Nat) : (y_rk a u k).1 ≤ a + 4 * k := by
  induction k with
  | zero => exact Nat.le_refl a
  | succ k ih =>
    have h1 := y_ml_le (6 * k) 1 (y_rk a u k).2
    have h2 := y_ml_le k 6 (y_ml (6 * k) 1 (y_rk a u k).2).2
    show (y_rk a u k).1 + _ + _ ≤ a + 4 * (k + 1)
    omega
end
section
set_option maxHeartbeats 4000000 in
set_option maxRecDepth 100000 in
/-- isCell: both within 0 .. 5 -/
theorem cx_isCell (l : Launch) (D : va_G) (tys : List (ClassId × FieldType)) (w : va_W) (x y : Int32) : ys_I l yX0_isCell (ws_ yX0_isCell cX0_isCell 2 (some .boolean)) ({ frames := 0, cells := 0, slots := 0, locals := 0 } : Room) D tys [.int x, .int y] w w (bI (z_in (nI 5) x && z_in (nI 5) y)) := by
  refine ys_I.mk (own := RX0) (by decide) rfl (Nat.le_of_ble_eq_true rfl) ?_
  intro p e s m below meth cd A ls E hK hA hM hl
  obtain ⟨hx, hb, hr, hml, hown, hts, hlocks⟩ := E
  have hl : lv_has ls 2 [(0, .int x), (1, .int y)] := hl
  refine lv_iload_n hx hb dX0_isCell_0 rfl (lv_at hl 0 rfl) ?_
  refine lv_if_lt (tgt := 22) hx hb dX0_isCell_1 (by decide) (fun h1 => ?_) (fun h1 => ?_)
  · refine lv_iconst (v := (bI false)) hx hb dX0_isCell_22 (by decide) ?_
    exact ys_zret hx hb hr hlocks hK hM (by rw [z_in_f (n := nI 5) (x := x) (fun q => q.1 h1), Bool.false_and]) dX0_isCell_23
  · refine lv_iload_n hx hb dX0_isCell_4 rfl (lv_at hl 0 rfl) ?_
    refine lv_iconst (v := (nI 5)) hx hb dX0_isCell_5 (by decide) ?_
    refine lv_icmp_gt (tgt := 22) hx hb dX0_isCell_6 (by decide) (fun h2 => ?_) (fun h2 => ?_)
    · refine lv_iconst (v := (bI false)) hx hb dX0_isCell_22 (by decide) ?_
      exact ys_zret hx hb hr hlocks hK hM (by rw [z_in_f (n := nI 5) (x := x) (fun q => q.2 h2), Bool.false_and]) dX0_isCell_23
    · refine lv_iload_n hx hb dX0_isCell_9 rfl (lv_at hl 1 rfl) ?_
      refine lv_if_lt (tgt := 22) hx hb dX0_isCell_10 (by decide) (fun h3 => ?_) (fun h3 => ?_)
      · refine lv_iconst (v := (bI false)) hx hb dX0_isCell_22 (by decide) ?_
        exact ys_zret hx hb hr hlocks hK hM (by rw [z_in_f (n := nI 5) (x := y) (fun q => q.1 h3), Bool.and_false]) dX0_isCell_23
      · refine lv_iload_n hx hb dX0_isCell_13 rfl (lv_at hl 1 rfl) ?_
        refine lv_iconst (v := (nI 5)) hx hb dX0_isCell_14 (by decide) ?_
        refine lv_icmp_gt (tgt := 22) hx hb dX0_isCell_15 (by decide) (fun h4 => ?_) (fun h4 => ?_)
        · refine lv_iconst (v := (bI false)) hx hb dX0_isCell_22 (by decide) ?_
          exact ys_zret hx hb hr hlocks hK hM (by rw [z_in_f (n := nI 5) (x := y) (fun q => q.2 h4), Bool.and_false]) dX0_isCell_23
        · refine lv_iconst (v := (bI true)) hx hb dX0_isCell_18 (by decide) ?_
          refine lv_goto (tgt := 23) hx hb dX0_isCell_19 (by decide) ?_
          exact ys_zret hx hb hr hlocks hK hM (by rw [z_in_t h1 h2, z_in_t h3 h4]; rfl) dX0_isCell_23
theorem cx_isCell_in (l : Launch) (D : va_G) (tys : List (ClassId × FieldType)) (w : va_W) {r c : Nat} (hr : r ≤ 5) (hc : c ≤ 5) : ys_I l yX0_isCell (ws_ yX0_isCell cX0_isCell 2 (some .boolean)) ({ frames := 0, cells := 0, slots := 0, locals := 0 } : Room) D tys [.int (nI r), .int (nI c)] w w (bI true) := by
  have q := cx_isCell l D tys w (nI r) (nI c)
  rw [z_in_nI (by decide) hr, z_in_nI (by decide) hc] at q
  exact q
theorem cx_isCell_out (l : Launch) (D : va_G) (tys : List (ClassId × FieldType)) (w : va_W) {x y : Int32} (h : (z_in (nI 5) x && z_in (nI 5) y) = false) : ys_I l yX0_isCell (ws_ yX0_isCell cX0_isCell 2 (some .boolean)) ({ frames := 0, cells := 0, slots := 0, locals := 0 } : Room) D tys [.int x, .int y] w w (bI false) := by
  have q := cx_isCell l D tys w x y
  rw [h] at q
  exact q
set_option maxHeartbeats 4000000 in
set_option maxRecDepth 100000 in
/-- isData: both within 0 .. 3 -/
theorem cx_isData (l : Launch) (D : va_G) (tys : List (ClassId × FieldType)) (w : va_W) (x y : Int32) : ys_I l yX0_isData (ws_ yX0_isData cX0_isData 2 (some .boolean)) ({ frames := 0, cells := 0, slots := 0, locals := 0 } : Room) D tys [.int x, .int y] w w (bI (z_in (nI 3) x && z_in (nI 3) y)) := by
  refine ys_I.mk (own := RX0) (by decide) rfl (Nat.le_of_ble_eq_true rfl) ?_
  intro p e s m below meth cd A ls E hK hA hM hl
  obtain ⟨hx, hb, hr, hml, hown, hts, hlocks⟩ := E
  have hl : lv_has ls 2 [(0, .int x), (1, .int y)] := hl
  refine lv_iload_n hx hb dX0_isData_0 rfl (lv_at hl 0 rfl) ?_
  refine lv_if_lt (tgt := 22) hx hb dX0_isData_1 (by decide) (fun h1 => ?_) (fun h1 => ?_)
  · refine lv_iconst (v := (bI false)) hx hb dX0_isData_22 (by decide) ?_
    exact ys_zret hx hb hr hlocks hK hM (by rw [z_in_f (n := nI 3) (x := x) (fun q => q.1 h1), Bool.false_and]) dX0_isData_23
  · refine lv_iload_n hx hb dX0_isData_4 rfl (lv_at hl 0 rfl) ?_
    refine lv_iconst (v := (nI 3)) hx hb dX0_isData_5 (by decide) ?_
    refine lv_icmp_gt (tgt := 22) hx hb dX0_isData_6 (by decide) (fun h2 => ?_) (fun h2 => ?_)
    · refine lv_iconst (v := (bI false)) hx hb dX0_isData_22 (by decide) ?_
      exact ys_zret hx hb hr hlocks hK hM (by rw [z_in_f (n := nI 3) (x := x) (fun q => q.2 h2), Bool.false_and]) dX0_isData_23
    · refine lv_iload_n hx hb dX0_isData_9 rfl (lv_at hl 1 rfl) ?_
      refine lv_if_lt (tgt := 22) hx hb dX0_isData_10 (by decide) (fun h3 => ?_) (fun h3 => ?_)
      · refine lv_iconst (v := (bI false)) hx hb dX0_isData_22 (by decide) ?_
        exact ys_zret hx hb hr hlocks hK hM (by rw [z_in_f (n := nI 3) (x := y) (fun q => q.1 h3), Bool.and_false]) dX0_isData_23
      · refine lv_iload_n hx hb dX0_isData_13 rfl (lv_at hl 1 rfl) ?_
        refine lv_iconst (v := (nI 3)) hx hb dX0_isData_14 (by decide) ?_
        refine lv_icmp_gt (tgt := 22) hx hb dX0_isData_15 (by decide) (fun h4 => ?_) (fun h4 => ?_)
        · refine lv_iconst (v := (bI false)) hx hb dX0_isData_22 (by decide) ?_
          exact ys_zret hx hb hr hlocks hK hM (by rw [z_in_f (n := nI 3) (x := y) (fun q => q.2 h4), Bool.and_false]) dX0_isData_23
        · refine lv_iconst (v := (bI true)) hx hb dX0_isData_18 (by decide) ?_
          refine lv_goto (tgt := 23) hx hb dX0_isData_19 (by decide) ?_
          exact ys_zret hx hb hr hlocks hK hM (by rw [z_in_t h1 h2, z_in_t h3 h4]; rfl) dX0_isData_23
theorem cx_isData_in (l : Launch) (D : va_G) (tys : List (ClassId × FieldType)) (w : va_W) {r c : Nat} (hr : r ≤ 3) (hc : c ≤ 3) : ys_I l yX0_isData (ws_ yX0_isData cX0_isData 2 (some .boolean)) ({ frames := 0, cells := 0, slots := 0, locals := 0 } : Room) D tys [.int (nI r), .int (nI c)] w w (bI true) := by
  have q := cx_isData l D tys w (nI r) (nI c)
  rw [z_in_nI (by decide) hr, z_in_nI (by decide) hc] at q
  exact q
theorem cx_isData_out (l : Launch) (D : va_G) (tys : List (ClassId × FieldType)) (w : va_W) {x y : Int32} (h : (z_in (nI 3) x && z_in (nI 3) y) = false) : ys_I l yX0_isData (ws_ yX0_isData cX0_isData 2 (some .boolean)) ({ frames := 0, cells := 0, slots := 0, locals := 0 } : Room) D tys [.int x, .int y] w w (bI false) := by
  have q := cx_isData l D tys w x y
  rw [h] at q
  exact q
set_option maxHeartbeats 4000000 in
set_option maxRecDepth 100000 in
/-- the weight of a place in a sum -/
theorem cx_weight (l : Launch) (D : va_G) (ad : Nat → Nat) (kd : Nat → ClassId) (u : zS) (sm k : Nat) (hs : sm < 2 ^ 31) (hk : k < 2 ^ 31) : ys_I l yX0_weight (ws_ yX0_weight cX0_weight 3 (some .int)) ({ frames := 0, cells := 0, slots := 0, locals := 0 } : Room) D (tX kd) [.ref (ad 0), .int (nI sm), .int (nI k)] (wX ad kd u) (wX ad kd u) (nI (z_wt sm k)) := by
  refine ys_I.mk (own := RX0) (by decide) rfl (Nat.le_of_ble_eq_true rfl) ?_
  intro p e s m below meth cd A ls E hK hA hM hl
  obtain ⟨hx, hb, hr, hml, hown, hts, hlocks⟩ := E
  have hl : lv_has ls 3 [(0, .ref (ad 0)), (1, .int (nI sm)), (2, .int (nI k))] := hl
  refine lv_iload_n hx hb dX0_weight_0 rfl (lv_at hl 1 rfl) ?_
  refine ys_if_ne (i := sm) (tgt := 15) hx hb dX0_weight_1 (by decide) (by omega) (fun h1 => ?_) (fun h1 => ?_)
  · refine lv_iload_n hx hb dX0_weight_15 rfl (lv_at hl 2 rfl) ?_
    refine lv_iconst (v := (nI 3)) hx hb dX0_weight_16 (by decide) ?_
    refine ys_icmp_gt (i := k) (j := 3) (tgt := 27) hx hb dX0_weight_17 (by decide) (by omega) (by omega) (fun h2 => ?_) (fun h2 => ?_)
    · refine lv_iload_n hx hb dX0_weight_27 rfl (lv_at hl 2 rfl) ?_
      refine lv_iconst (v := (nI 5)) hx hb dX0_weight_28 (by decide) ?_
      refine ys_icmp_ne (i := k) (j := 5) (tgt := 36) hx hb dX0_weight_29 (by decide) (by omega) (by omega) (fun h3 => ?_) (fun h3 => ?_)
      · refine lv_iconst (v := (nI 0)) hx hb dX0_weight_36 (by decide) ?_
        exact ys_iret hx hb hr hlocks hK hM (by rw [z_wt, if_neg h1, if_neg (Nat.not_le.mpr h2), if_neg h3]) dX0_weight_37
      · refine lv_iconst (v := (nI 1)) hx hb dX0_weight_32 (by decide) ?_
        refine lv_goto (tgt := 37) hx hb dX0_weight_33 (by decide) ?_
        exact ys_iret hx hb hr hlocks hK hM (by rw [z_wt, if_neg h1, if_neg (Nat.not_le.mpr h2), if_pos h3]) dX0_weight_37
    · refine lv_aload_n hx hb dX0_weight_20 rfl (lv_at hl 0 rfl) ?_
      refine va_get (D := D) (ci := 0) (v := .ref (ad 3)) (C := RX0) (T := TX0) (N := 8) hx hb hts in_X0 hown hK hM.1 0 rfl rfl 2 (by decide) (hts _ q24) (fun _ h9 => h9) rfl dX0_weight_21 ?_
      refine lv_iload_n hx hb dX0_weight_24 rfl (lv_at hl 2 rfl) ?_
      refine ys_iald (i := k) hx hb hK hM 3 2 rfl rfl (by omega) (by decide) dX0_weight_25 ?_
      exact ys_iret hx hb hr hlocks hK hM (by rw [z_wt, if_neg h1, if_pos h2]) dX0_weight_26
  · refine lv_iload_n hx hb dX0_weight_4 rfl (lv_at hl 2 rfl) ?_
    refine lv_iconst (v := (nI 4)) hx hb dX0_weight_5 (by decide) ?_
    refine ys_icmp_gt (i := k) (j := 4) (tgt := 13) hx hb dX0_weight_6 (by decide) (by omega) (by omega) (fun h2 => ?_) (fun h2 => ?_)
    · refine lv_iconst (v := (nI 0)) hx hb dX0_weight_13 (by decide) ?_
      exact ys_iret hx hb hr hlocks hK hM (by rw [z_wt, if_pos h1, if_neg (Nat.not_le.mpr h2)]) dX0_weight_14
    · refine lv_iconst (v := (nI 1)) hx hb dX0_weight_9 (by decide) ?_
      refine lv_goto (tgt := 14) hx hb dX0_weight_10 (by decide) ?_
      exact ys_iret hx hb hr hlocks hK hM (by rw [z_wt, if_pos h1, if_pos h2]) dX0_weight_14
set_option maxHeartbeats 4000000 in
set_option maxRecDepth 100000 in
/-- the product in the field -/
theorem cx_times (l : Launch) (D : va_G) (ad : Nat → Nat) (kd : Nat → ClassId) (u : zS) (a b : Nat) (ha : a < 256) (hb0 : b < 256) : ys_I l yX0_times (ws_ yX0_times cX0_times 3 (some .int)) ({ frames := 0, cells := 0, slots := 0, locals := 0 } : Room) D (tX kd) [.ref (ad 0), .int (nI a), .int (nI b)] (wX ad kd u) (wX ad kd u) (nI (z_gm a b)) := by
  have q1 := z_lg_lt a
  have q2 := z_lg_lt b
  refine ys_I.mk (own := RX0) (by decide) rfl (Nat.le_of_ble_eq_true rfl) ?_
  intro p e s m below meth cd A ls E hK hA hM hl
  obtain ⟨hx, hb, hr, hml, hown, hts, hlocks⟩ := E
  have hl : lv_has ls 3 [(0, .ref (ad 0)), (1, .int (nI a)), (2, .int (nI b))] := hl
  refine lv_iload_n hx hb dX0_times_0 rfl (lv_at hl 1 rfl) ?_
  refine ys_if_eq (i := a) (tgt := 8) hx hb dX0_times_1 (by decide) (by omega) (fun h1 => ?_) (fun h1 => ?_)
  · refine lv_iconst (v := (nI 0)) hx hb dX0_times_8 (by decide) ?_
    refine lv_goto (tgt := 30) hx hb dX0_times_9 (by decide) ?_
    exact ys_iret hx hb hr hlocks hK hM (by rw [z_gm, if_pos h1]) dX0_times_30
  · refine lv_iload_n hx hb dX0_times_4 rfl (lv_at hl 2 rfl) ?_
    refine ys_if_ne (i := b) (tgt := 12) hx hb dX0_times_5 (by decide) (by omega) (fun h2 => ?_) (fun h2 => ?_)
    · refine lv_aload_n hx hb dX0_times_12 rfl (lv_at hl 0 rfl) ?_
      refine va_get (D := D) (ci := 0) (v := .ref (ad 3)) (C := RX0) (T := TX0) (N := 8) hx hb hts in_X0 hown hK hM.1 0 rfl rfl 2 (by decide) (hts _ q24) (fun _ h9 => h9) rfl dX0_times_13 ?_
      refine lv_aload_n hx hb dX0_times_16 rfl (lv_at hl 0 rfl) ?_
      refine va_get (D := D) (ci := 0) (v := .ref (ad 4)) (C := RX0) (T := TX0) (N := 8) hx hb hts in_X0 hown hK hM.1 0 rfl rfl 3 (by decide) (hts _ q25) (fun _ h9 => h9) rfl dX0_times_17 ?_
      refine lv_iload_n hx hb dX0_times_20 rfl (lv_at hl 1 rfl) ?_
      refine ys_iald (i := a) hx hb hK hM 4 3 rfl rfl (by omega) (by decide) dX0_times_21 ?_
      refine lv_aload_n hx hb dX0_times_22 rfl (lv_at hl 0 rfl) ?_
      refine va_get (D := D) (ci := 0) (v := .ref (ad 4)) (C := RX0) (T := TX0) (N := 8) hx hb hts in_X0 hown hK hM.1 0 rfl rfl 3 (by decide) (hts _ q25) (fun _ h9 => h9) rfl dX0_times_23 ?_
      refine lv_iload_n hx hb dX0_times_26 rfl (lv_at hl 2 rfl) ?_
      refine ys_iald (i := b) hx hb hK hM 4 3 rfl rfl (by omega) (by decide) dX0_times_27 ?_
      refine ys_iadd (i := (z_lg a)) (j := (z_lg b)) hx hb dX0_times_28 ?_
      refine ys_iald (i := ((z_lg a) + (z_lg b))) hx hb hK hM 3 2 rfl rfl (by omega) (by decide) dX0_times_29 ?_
      exact ys_iret hx hb hr hlocks hK hM (by rw [z_gm, if_neg h1, if_neg h2]) dX0_times_30
    · refine lv_iconst (v := (nI 0)) hx hb dX0_times_8 (by decide) ?_
      refine lv_goto (tgt := 30) hx hb dX0_times_9 (by decide) ?_
      exact ys_iret hx hb hr hlocks hK hM (by rw [z_gm, if_neg h1, if_pos h2]) dX0_times_30
set_option maxHeartbeats 4000000 in
set_option maxRecDepth 100000 in
/-- the quotient in the field -/
theorem cx_divide (l : Launch) (D : va_G) (ad : Nat → Nat) (kd : Nat → ClassId) (u : zS) (a b : Nat) (ha : a < 256) (hb0 : b < 256) : ys_I l yX0_divide (ws_ yX0_divide cX0_divide 3 (some .int)) ({ frames := 0, cells := 0, slots := 0, locals := 0 } : Room) D (tX kd) [.ref (ad 0), .int (nI a), .int (nI b)] (wX ad kd u) (wX ad kd u) (nI (z_dv a b)) := by
  have q1 := z_lg_lt a
  have q2 := z_lg_lt b
  refine ys_I.mk (own := RX0) (by decide) rfl (Nat.le_of_ble_eq_true rfl) ?_
  intro p e s m below meth cd A ls E hK hA hM hl
  obtain ⟨hx, hb, hr, hml, hown, hts, hlocks⟩ := E
  have hl : lv_has ls 3 [(0, .ref (ad 0)), (1, .int (nI a)), (2, .int (nI b))] := hl
  refine lv_iload_n hx hb dX0_divide_0 rfl (lv_at hl 1 rfl) ?_
  refine ys_if_ne (i := a) (tgt := 8) hx hb dX0_divide_1 (by decide) (by omega) (fun h1 => ?_) (fun h1 => ?_)
  · refine lv_aload_n hx hb dX0_divide_8 rfl (lv_at hl 0 rfl) ?_
    refine va_get (D := D) (ci := 0) (v := .ref (ad 3)) (C := RX0) (T := TX0) (N := 8) hx hb hts in_X0 hown hK hM.1 0 rfl rfl 2 (by decide) (hts _ q24) (fun _ h9 => h9) rfl dX0_divide_9 ?_
    refine lv_aload_n hx hb dX0_divide_12 rfl (lv_at hl 0 rfl) ?_
    refine va_get (D := D) (ci := 0) (v := .ref (ad 4)) (C := RX0) (T := TX0) (N := 8) hx hb hts in_X0 hown hK hM.1 0 rfl rfl 3 (by decide) (hts _ q25) (fun _ h9 => h9) rfl dX0_divide_13 ?_
    refine lv_iload_n hx hb dX0_divide_16 rfl (lv_at hl 1 rfl) ?_
    refine ys_iald (i := a) hx hb hK hM 4 3 rfl rfl (by omega) (by decide) dX0_divide_17 ?_
    refine lv_sipush (v := (nI 255)) hx hb dX0_divide_18 (by decide) ?_
    refine ys_iadd (i := (z_lg a)) (j := 255) hx hb dX0_divide_21 ?_
    refine lv_aload_n hx hb dX0_divide_22 rfl (lv_at hl 0 rfl) ?_
    refine va_get (D := D) (ci := 0) (v := .ref (ad 4)) (C := RX0) (T := TX0) (N := 8) hx hb hts in_X0 hown hK hM.1 0 rfl rfl 3 (by decide) (hts _ q25) (fun _ h9 => h9) rfl dX0_divide_23 ?_
    refine lv_iload_n hx hb dX0_divide_26 rfl (lv_at hl 2 rfl) ?_
    refine ys_iald (i := b) hx hb hK hM 4 3 rfl rfl (by omega) (by decide) dX0_divide_27 ?_
    refine ys_isub (i := ((z_lg a) + 255)) (j := (z_lg b)) hx hb (by omega) dX0_divide_28 ?_
    refine ys_iald (i := (((z_lg a) + 255) - (z_lg b))) hx hb hK hM 3 2 rfl rfl (by omega) (by decide) dX0_divide_29 ?_
    exact ys_iret hx hb hr hlocks hK hM (by rw [z_dv, if_neg h1]) dX0_divide_30
  · refine lv_iconst (v := (nI 0)) hx hb dX0_divide_4 (by decide) ?_
    refine lv_goto (tgt := 30) hx hb dX0_divide_5 (by decide) ?_
    exact ys_iret hx hb hr hlocks hK hM (by rw [z_dv, if_pos h1]) dX0_divide_30
set_option maxHeartbeats 4000000 in
set_option maxRecDepth 100000 in
/-- a cell that is there is changed -/
theorem cx_alter (l : Launch) (D : va_G) (ad : Nat → Nat) (kd : Nat → ClassId) (u : zS) (r c ch : Nat) (hk : 6 * r + c < 36) : ys_V l yX0_alter (ws_ yX0_alter cX0_alter 4 none) ({ frames := 0, cells := 0, slots := 0, locals := 0 } : Room) D (tX kd) [.ref (ad 0), .int (nI r), .int (nI c), .int (nI ch)] (wX ad kd u) (wX ad kd (z_alter u.1 u.2.1 r c ch, u.2)) := by
  refine ys_V.mk (own := RX0) (by decide) rfl (Nat.le_of_ble_eq_true rfl) ?_
  intro p e s m below meth cd A ls E hK hA hM hl
  obtain ⟨hx, hb, hr, hml, hown, hts, hlocks⟩ := E
  have hl : lv_has ls 4 [(0, .ref (ad 0)), (1, .int (nI r)), (2, .int (nI c)), (3, .int (nI ch))] := hl
  refine lv_aload_n hx hb dX0_alter_0 rfl (lv_at hl 0 rfl) ?_
  refine va_get (D := D) (ci := 0) (v := .ref (ad 2)) (C := RX0) (T := TX0) (N := 8) hx hb hts in_X0 hown hK hM.1 0 rfl rfl 1 (by decide) (hts _ q23) (fun _ h9 => h9) rfl dX0_alter_1 ?_
  refine lv_bipush (v := (nI 6)) hx hb dX0_alter_4 (by decide) ?_
  refine lv_iload_n hx hb dX0_alter_6 rfl (lv_at hl 1 rfl) ?_
  refine ys_imul (i := 6) (j := r) hx hb dX0_alter_7 ?_
  refine lv_iload_n hx hb dX0_alter_8 rfl (lv_at hl 2 rfl) ?_
  refine ys_iadd (i := (6 * r)) (j := c) hx hb dX0_alter_9 ?_
  refine ys_zald (i := ((6 * r) + c)) hx hb hK hM 2 1 rfl rfl (by omega) (by decide) dX0_alter_10 ?_
  refine ys_ifb_ne (b := (u.2.1 ((6 * r) + c))) (tgt := 29) hx hb dX0_alter_11 (by decide) (fun h1 => ?_) (fun h1 => ?_)
  · rw [show z_alter u.1 u.2.1 r c ch = u.1 from if_pos h1]
    exact ys_vret hx hb hr hlocks hK hM dX0_alter_29
  · rw [show z_alter u.1 u.2.1 r c ch = va_up u.1 (6 * r + c) (u.1 (6 * r + c) ^^^ ch) from if_neg (by rw [h1]; decide)]
    refine lv_aload_n hx hb dX0_alter_14 rfl (lv_at hl 0 rfl) ?_
    refine va_get (D := D) (ci := 0) (v := .ref (ad 1)) (C := RX0) (T := TX0) (N := 8) hx hb hts in_X0 hown hK hM.1 0 rfl rfl 0 (by decide) (hts _ q22) (fun _ h9 => h9) rfl dX0_alter_15 ?_
    refine lv_bipush (v := (nI 6)) hx hb dX0_alter_18 (by decide) ?_
    refine lv_iload_n hx hb dX0_alter_20 rfl (lv_at hl 1 rfl) ?_
    refine ys_imul (i := 6) (j := r) hx hb dX0_alter_21 ?_
    refine lv_iload_n hx hb dX0_alter_22 rfl (lv_at hl 2 rfl) ?_
    refine ys_iadd (i := (6 * r)) (j := c) hx hb dX0_alter_23 ?_
    refine lv_dup2_11 hx hb dX0_alter_24 rfl rfl ?_
    refine ys_iald (i := ((6 * r) + c)) hx hb hK hM 1 0 rfl rfl (by omega) (by decide) dX0_alter_25 ?_
    refine lv_iload_n hx hb dX0_alter_26 rfl (lv_at hl 3 rfl) ?_
    refine ys_ixor (i := (u.1 ((6 * r) + c))) (j := ch) hx hb dX0_alter_27 ?_
    refine ys_iast (i := ((6 * r) + c)) (v := ((u.1 ((6 * r) + c)) ^^^ ch)) (w' := (wX ad kd (va_up u.1 ((6 * r) + c) ((u.1 ((6 * r) + c)) ^^^ ch), u.2.1, u.2.2.1, u.2.2.2.1, u.2.2.2.2.1, u.2.2.2.2.2))) hx hb hK hM 1 0 rfl rfl (by omega) (by decide) dX0_alter_28 rfl (fun H locs hM => ?_)
    exact ys_vret hx hb hr hlocks hK hM dX0_alter_29
set_option maxHeartbeats 4000000 in
set_option maxRecDepth 100000 in
/-- a place of the line is kept in its cell -/
theorem cx_keep (l : Launch) (D : va_G) (ad : Nat → Nat) (kd : Nat → ClassId) (u : zS) (st sd pl : Nat) (hk : st + sd * pl < 36) (hp : pl < 6) : ys_V l yX0_keep (ws_ yX0_keep cX0_keep 5 none) ({ frames := 0, cells := 0, slots := 0, locals := 0 } : Room) D (tX kd) [.ref (ad 0), .int (nI st), .int (nI sd), .int (nI pl)] (wX ad kd u) (wX ad kd (z_keep u st sd pl)) := by
  refine ys_V.mk (own := RX0) (by decide) rfl (Nat.le_of_ble_eq_true rfl) ?_
  intro p e s m below meth cd A ls E hK hA hM hl
  obtain ⟨hx, hb, hr, hml, hown, hts, hlocks⟩ := E
  have hl : lv_has ls 5 [(0, .ref (ad 0)), (1, .int (nI st)), (2, .int (nI sd)), (3, .int (nI pl))] := hl
  refine lv_iload_n hx hb dX0_keep_0 rfl (lv_at hl 1 rfl) ?_
  refine lv_iload_n hx hb dX0_keep_1 rfl (lv_at hl 2 rfl) ?_
  refine lv_iload_n hx hb dX0_keep_2 rfl (lv_at hl 3 rfl) ?_
  refine ys_imul (i := sd) (j := pl) hx hb dX0_keep_3 ?_
  refine ys_iadd (i := st) (j := (sd * pl)) hx hb dX0_keep_4 ?_
  refine lv_istore (lv' := [(4, .int (nI (st + (sd * pl)))), (0, .ref (ad 0)), (1, .int (nI st)), (2, .int (nI sd)), (3, .int (nI pl))]) hx hb dX0_keep_5 hl (by decide) rfl (fun ls hl => ?_)
  refine lv_aload_n hx hb dX0_keep_7 rfl (lv_at hl 1 rfl) ?_
  refine va_get (D := D) (ci := 0) (v := .ref (ad 1)) (C := RX0) (T := TX0) (N := 8) hx hb hts in_X0 hown hK hM.1 0 rfl rfl 0 (by decide) (hts _ q22) (fun _ h9 => h9) rfl dX0_keep_8 ?_
  refine lv_iload hx hb dX0_keep_11 (lv_at hl 0 rfl) ?_
  refine lv_aload_n hx hb dX0_keep_13 rfl (lv_at hl 1 rfl) ?_
  refine va_get (D := D) (ci := 0) (v := .ref (ad 5)) (C := RX0) (T := TX0) (N := 8) hx hb hts in_X0 hown hK hM.1 0 rfl rfl 4 (by decide) (hts _ q26) (fun _ h9 => h9) rfl dX0_keep_14 ?_
  refine lv_iload_n hx hb dX0_keep_17 rfl (lv_at hl 4 rfl) ?_
  refine ys_iald (i := pl) hx hb hK hM 5 4 rfl rfl (by omega) (by decide) dX0_keep_18 ?_
  refine ys_iast (i := (st + (sd * pl))) (v := (u.2.2.1 pl)) (w' := (wX ad kd (va_up u.1 (st + (sd * pl)) (u.2.2.1 pl), u.2.1, u.2.2.1, u.2.2.2.1, u.2.2.2.2.1, u.2.2.2.2.2))) hx hb hK hM 1 0 rfl rfl (by omega) (by decide) dX0_keep_19 rfl (fun H locs hM => ?_)
  refine lv_aload_n hx hb dX0_keep_20 rfl (lv_at hl 1 rfl) ?_
  refine va_get (D := D) (ci := 0) (v := .ref (ad 2)) (C := RX0) (T := TX0) (N := 8) hx hb hts in_X0 hown hK hM.1 0 rfl rfl 1 (by decide) (hts _ q23) (fun _ h9 => h9) rfl dX0_keep_21 ?_
  refine lv_iload hx hb dX0_keep_24 (lv_at hl 0 rfl) ?_
  refine lv_iconst (v := (bI false)) hx hb dX0_keep_26 (by decide) ?_
  refine ys_zast (i := (st + (sd * pl))) (v := false) (w' := (wX ad kd (va_up u.1 (st + (sd * pl)) (u.2.2.1 pl), va_up u.2.1 (st + (sd * pl)) false, u.2.2.1, u.2.2.2.1, u.2.2.2.2.1, u.2.2.2.2.2))) hx hb hK hM 2 1 rfl rfl (by omega) (by decide) dX0_keep_27 rfl (fun H locs hM => ?_)
  exact ys_vret hx hb hr hlocks hK hM dX0_keep_28
end
section
set_option maxHeartbeats 4000000 in
set_option maxRecDepth 100000 in
theorem cx_read_out (l : Launch) (D : va_G) (ad : Nat → Nat) (kd : Nat → ClassId) (u : zS) (x y : Int32) (hout : (z_in (nI 3) x && z_in (nI 3) y) = false) : ys_I l yX0_read (ws_ yX0_read cX0_read 3 (some .int)) ({ frames := 1, cells := 0, slots := 0, locals := 21 } : Room) D (tX kd) [.ref (ad 0), .int x, .int y] (wX ad kd u) (wX ad kd u) (-1) := by
  refine ys_I.mk (own := RX0) (by decide) rfl (Nat.le_of_ble_eq_true rfl) ?_
  intro p e s m below meth cd A ls E hK hA hM hl
  obtain ⟨hx, hb, hr, hml, hown, hts, hlocks⟩ := E
  have hl : lv_has ls 3 [(0, .ref (ad 0)), (1, .int x), (2, .int y)] := hl
  refine lv_iload_n hx hb dX0_read_0 rfl (lv_at hl 1 rfl) ?_
  refine lv_iload_n hx hb dX0_read_1 rfl (lv_at hl 2 rfl) ?_
  refine ys_callS (As := [.int x, .int y]) (rest := []) (w1 := (wX ad kd u)) ⟨hx, hb, hml, hown, hts⟩ (cx_isData_out l D (tX kd) (wX ad kd u) hout) (va_cwS 2 hts (lw_S q53 q54 q12 q55) rfl rfl rfl (by decide +kernel) ⟨Nat.le_of_ble_eq_true rfl, Nat.le_of_ble_eq_true rfl⟩) hK hA hM hl.1 rfl rfl (Nat.le_of_ble_eq_true rfl) ⟨Nat.zero_le _, Nat.zero_le _⟩ dX0_read_2 (fun H locs hM => ?_)
  refine ys_ifb_eq (b := false) (tgt := 36) hx hb dX0_read_5 (by decide) (fun h0 => ?_) (fun h0 => ?_)
  · refine lv_iconst (v := -1) hx hb dX0_read_36 (by decide) ?_
    exact ys_iret hx hb hr hlocks hK hM rfl dX0_read_37
  · exact absurd h0 (by decide)
set_option maxHeartbeats 4000000 in
set_option maxRecDepth 100000 in
theorem cx_read_gone (l : Launch) (D : va_G) (ad : Nat → Nat) (kd : Nat → ClassId) (u : zS) (r c : Nat) (hr3 : r ≤ 3) (hc3 : c ≤ 3) (hg : u.2.1 (6 * r + c) = true) : ys_I l yX0_read (ws_ yX0_read cX0_read 3 (some .int)) ({ frames := 1, cells := 0, slots := 0, locals := 21 } : Room) D (tX kd) [.ref (ad 0), .int (nI r), .int (nI c)] (wX ad kd u) (wX ad kd u) (-1) := by
  refine ys_I.mk (own := RX0) (by decide) rfl (Nat.le_of_ble_eq_true rfl) ?_
  intro p e s m below meth cd A ls E hK hA hM hl
  obtain ⟨hx, hb, hr, hml, hown, hts, hlocks⟩ := E
  have hl : lv_has ls 3 [(0, .ref (ad 0)), (1, .int (nI r)), (2, .int (nI c))] := hl
  refine lv_iload_n hx hb dX0_read_0 rfl (lv_at hl 1 rfl) ?_
  refine lv_iload_n hx hb dX0_read_1 rfl (lv_at hl 2 rfl) ?_
  refine ys_callS (As := [.int (nI r), .int (nI c)]) (rest := []) (w1 := (wX ad kd u)) ⟨hx, hb, hml, hown, hts⟩ (cx_isData_in l D (tX kd) (wX ad kd u) hr3 hc3) (va_cwS 2 hts (lw_S q53 q54 q12 q55) rfl rfl rfl (by decide +kernel) ⟨Nat.le_of_ble_eq_true rfl, Nat.le_of_ble_eq_true rfl⟩) hK hA hM hl.1 rfl rfl (Nat.le_of_ble_eq_true rfl) ⟨Nat.zero_le _, Nat.zero_le _⟩ dX0_read_2 (fun H locs hM => ?_)
  refine ys_ifb_eq (b := true) (tgt := 36) hx hb dX0_read_5 (by decide) (fun h0 => ?_) (fun h0 => ?_)
  · exact absurd h0 (by decide)
  · refine lv_aload_n hx hb dX0_read_8 rfl (lv_at hl 0 rfl) ?_
    refine va_get (D := D) (ci := 0) (v := .ref (ad 2)) (C := RX0) (T := TX0) (N := 8) hx hb hts in_X0 hown hK hM.1 0 rfl rfl 1 (by decide) (hts _ q23) (fun _ h9 => h9) rfl dX0_read_9 ?_
    refine lv_bipush (v := (nI 6)) hx hb dX0_read_12 (by decide) ?_
    refine lv_iload_n hx hb dX0_read_14 rfl (lv_at hl 1 rfl) ?_
    refine ys_imul (i := 6) (j := r) hx hb dX0_read_15 ?_
    refine lv_iload_n hx hb dX0_read_16 rfl (lv_at hl 2 rfl) ?_
    refine ys_iadd (i := (6 * r)) (j := c) hx hb dX0_read_17 ?_
    refine ys_zald (i := ((6 * r) + c)) hx hb hK hM 2 1 rfl rfl (by omega) (by decide) dX0_read_18 ?_
    refine ys_ifb_ne (b := (u.2.1 ((6 * r) + c))) (tgt := 36) hx hb dX0_read_19 (by decide) (fun h1 => ?_) (fun h1 => ?_)
    · refine lv_iconst (v := -1) hx hb dX0_read_36 (by decide) ?_
      exact ys_iret hx hb hr hlocks hK hM rfl dX0_read_37
    · exact absurd (hg.symm.trans h1) (by decide)
set_option maxHeartbeats 4000000 in
set_option maxRecDepth 100000 in
theorem cx_read_ok (l : Launch) (D : va_G) (ad : Nat → Nat) (kd : Nat → ClassId) (u : zS) (r c : Nat) (hr3 : r ≤ 3) (hc3 : c ≤ 3) (hg : u.2.1 (6 * r + c) = false) : ys_I l yX0_read (ws_ yX0_read cX0_read 3 (some .int)) ({ frames := 1, cells := 0, slots := 0, locals := 21 } : Room) D (tX kd) [.ref (ad 0), .int (nI r), .int (nI c)] (wX ad kd u) (wX ad kd u) (nI (u.1 (6 * r + c))) := by
  refine ys_I.mk (own := RX0) (by decide) rfl (Nat.le_of_ble_eq_true rfl) ?_
  intro p e s m below meth cd A ls E hK hA hM hl
  obtain ⟨hx, hb, hr, hml, hown, hts, hlocks⟩ := E
  have hl : lv_has ls 3 [(0, .ref (ad 0)), (1, .int (nI r)), (2, .int (nI c))] := hl
  refine lv_iload_n hx hb dX0_read_0 rfl (lv_at hl 1 rfl) ?_
  refine lv_iload_n hx hb dX0_read_1 rfl (lv_at hl 2 rfl) ?_
  refine ys_callS (As := [.int (nI r), .int (nI c)]) (rest := []) (w1 := (wX ad kd u)) ⟨hx, hb, hml, hown, hts⟩ (cx_isData_in l D (tX kd) (wX ad kd u) hr3 hc3) (va_cwS 2 hts (lw_S q53 q54 q12 q55) rfl rfl rfl (by decide +kernel) ⟨Nat.le_of_ble_eq_true rfl, Nat.le_of_ble_eq_true rfl⟩) hK hA hM hl.1 rfl rfl (Nat.le_of_ble_eq_true rfl) ⟨Nat.zero_le _, Nat.zero_le _⟩ dX0_read_2 (fun H locs hM => ?_)
  refine ys_ifb_eq (b := true) (tgt := 36) hx hb dX0_read_5 (by decide) (fun h0 => ?_) (fun h0 => ?_)
  · exact absurd h0 (by decide)
  · refine lv_aload_n hx hb dX0_read_8 rfl (lv_at hl 0 rfl) ?_
    refine va_get (D := D) (ci := 0) (v := .ref (ad 2)) (C := RX0) (T := TX0) (N := 8) hx hb hts in_X0 hown hK hM.1 0 rfl rfl 1 (by decide) (hts _ q23) (fun _ h9 => h9) rfl dX0_read_9 ?_
    refine lv_bipush (v := (nI 6)) hx hb dX0_read_12 (by decide) ?_
    refine lv_iload_n hx hb dX0_read_14 rfl (lv_at hl 1 rfl) ?_
    refine ys_imul (i := 6) (j := r) hx hb dX0_read_15 ?_
    refine lv_iload_n hx hb dX0_read_16 rfl (lv_at hl 2 rfl) ?_
    refine ys_iadd (i := (6 * r)) (j := c) hx hb dX0_read_17 ?_
    refine ys_zald (i := ((6 * r) + c)) hx hb hK hM 2 1 rfl rfl (by omega) (by decide) dX0_read_18 ?_
    refine ys_ifb_ne (b := (u.2.1 ((6 * r) + c))) (tgt := 36) hx hb dX0_read_19 (by decide) (fun h1 => ?_) (fun h1 => ?_)
    · exact absurd (hg.symm.trans h1) (by decide)
    · refine lv_aload_n hx hb dX0_read_22 rfl (lv_at hl 0 rfl) ?_
      refine va_get (D := D) (ci := 0) (v := .ref (ad 1)) (C := RX0) (T := TX0) (N := 8) hx hb hts in_X0 hown hK hM.1 0 rfl rfl 0 (by decide) (hts _ q22) (fun _ h9 => h9) rfl dX0_read_23 ?_
      refine lv_bipush (v := (nI 6)) hx hb dX0_read_26 (by decide) ?_
      refine lv_iload_n hx hb dX0_read_28 rfl (lv_at hl 1 rfl) ?_
      refine ys_imul (i := 6) (j := r) hx hb dX0_read_29 ?_
      refine lv_iload_n hx hb dX0_read_30 rfl (lv_at hl 2 rfl) ?_
      refine ys_iadd (i := (6 * r)) (j := c) hx hb dX0_read_31 ?_
      refine ys_iald (i := ((6 * r) + c)) hx hb hK hM 1 0 rfl rfl (by omega) (by decide) dX0_read_32 ?_
      refine lv_goto (tgt := 37) hx hb dX0_read_33 (by decide) ?_
      exact ys_iret hx hb hr hlocks hK hM rfl dX0_read_37
set_option maxHeartbeats 4000000 in
set_option maxRecDepth 100000 in
theorem cx_lose_out (l : Launch) (D : va_G) (ad : Nat → Nat) (kd : Nat → ClassId) (u : zS) (x y : Int32) (hout : (z_in (nI 5) x && z_in (nI 5) y) = false) : ys_I l yX0_lose (ws_ yX0_lose cX0_lose 5 (some .int)) ({ frames := 1, cells := 0, slots := 0, locals := 21 } : Room) D (tX kd) [.ref (ad 0), .int x, .int y] (wX ad kd u) (wX ad kd u) (-1) := by
  refine ys_I.mk (own := RX0) (by decide) rfl (Nat.le_of_ble_eq_true rfl) ?_
  intro p e s m below meth cd A ls E hK hA hM hl
  obtain ⟨hx, hb, hr, hml, hown, hts, hlocks⟩ := E
  have hl : lv_has ls 5 [(0, .ref (ad 0)), (1, .int x), (2, .int y)] := hl
  refine lv_iload_n hx hb dX0_lose_0 rfl (lv_at hl 1 rfl) ?_
  refine lv_iload_n hx hb dX0_lose_1 rfl (lv_at hl 2 rfl) ?_
  refine ys_callS (As := [.int x, .int y]) (rest := []) (w1 := (wX ad kd u)) ⟨hx, hb, hml, hown, hts⟩ (cx_isCell_out l D (tX kd) (wX ad kd u) hout) (va_cwS 2 hts (lw_S q76 q77 q12 q78) rfl rfl rfl (by decide +kernel) ⟨Nat.le_of_ble_eq_true rfl, Nat.le_of_ble_eq_true rfl⟩) hK hA hM hl.1 rfl rfl (Nat.le_of_ble_eq_true rfl) ⟨Nat.zero_le _, Nat.zero_le _⟩ dX0_lose_2 (fun H locs hM => ?_)
  refine ys_ifb_ne (b := false) (tgt := 10) hx hb dX0_lose_5 (by decide) (fun h0 => ?_) (fun h0 => ?_)
  · exact absurd h0 (by decide)
  · refine lv_iconst (v := -1) hx hb dX0_lose_8 (by decide) ?_
    exact ys_iret hx hb hr hlocks hK hM rfl dX0_lose_9
set_option maxHeartbeats 4000000 in
set_option maxRecDepth 100000 in
/-- a cell is lost; was it there -/
theorem cx_lose (l : Launch) (D : va_G) (ad : Nat → Nat) (kd : Nat → ClassId) (u : zS) (r c : Nat) (hr5 : r ≤ 5) (hc5 : c ≤ 5) : ys_I l yX0_lose (ws_ yX0_lose cX0_lose 5 (some .int)) ({ frames := 1, cells := 0, slots := 0, locals := 21 } : Room) D (tX kd) [.ref (ad 0), .int (nI r), .int (nI c)] (wX ad kd u) (wX ad kd (z_lose u (6 * r + c))) (nI (z_was u.2.1 (6 * r + c))) := by
  refine ys_I.mk (own := RX0) (by decide) rfl (Nat.le_of_ble_eq_true rfl) ?_
  intro p e s m below meth cd A ls E hK hA hM hl
  obtain ⟨hx, hb, hr, hml, hown, hts, hlocks⟩ := E
  have hl : lv_has ls 5 [(0, .ref (ad 0)), (1, .int (nI r)), (2, .int (nI c))] := hl
  refine lv_iload_n hx hb dX0_lose_0 rfl (lv_at hl 1 rfl) ?_
  refine lv_iload_n hx hb dX0_lose_1 rfl (lv_at hl 2 rfl) ?_
  refine ys_callS (As := [.int (nI r), .int (nI c)]) (rest := []) (w1 := (wX ad kd u)) ⟨hx, hb, hml, hown, hts⟩ (cx_isCell_in l D (tX kd) (wX ad kd u) hr5 hc5) (va_cwS 2 hts (lw_S q76 q77 q12 q78) rfl rfl rfl (by decide +kernel) ⟨Nat.le_of_ble_eq_true rfl, Nat.le_of_ble_eq_true rfl⟩) hK hA hM hl.1 rfl rfl (Nat.le_of_ble_eq_true rfl) ⟨Nat.zero_le _, Nat.zero_le _⟩ dX0_lose_2 (fun H locs hM => ?_)
  refine ys_ifb_ne (b := true) (tgt := 10) hx hb dX0_lose_5 (by decide) (fun h0 => ?_) (fun h0 => ?_)
  · refine lv_bipush (v := (nI 6)) hx hb dX0_lose_10 (by decide) ?_
    refine lv_iload_n hx hb dX0_lose_12 rfl (lv_at hl 1 rfl) ?_
    refine ys_imul (i := 6) (j := r) hx hb dX0_lose_13 ?_
    refine lv_iload_n hx hb dX0_lose_14 rfl (lv_at hl 2 rfl) ?_
    refine ys_iadd (i := (6 * r)) (j := c) hx hb dX0_lose_15 ?_
    refine lv_istore_n (lv' := [(3, .int (nI ((6 * r) + c))), (0, .ref (ad 0)), (1, .int (nI r)), (2, .int (nI c))]) hx hb dX0_lose_16 rfl hl (by decide) rfl (fun ls hl => ?_)
    refine lv_aload_n hx hb dX0_lose_17 rfl (lv_at hl 1 rfl) ?_
    refine va_get (D := D) (ci := 0) (v := .ref (ad 2)) (C := RX0) (T := TX0) (N := 8) hx hb hts in_X0 hown hK hM.1 0 rfl rfl 1 (by decide) (hts _ q23) (fun _ h9 => h9) rfl dX0_lose_18 ?_
    refine lv_iload_n hx hb dX0_lose_21 rfl (lv_at hl 0 rfl) ?_
    refine ys_zald (i := ((6 * r) + c)) hx hb hK hM 2 1 rfl rfl (by omega) (by decide) dX0_lose_22 ?_
    refine ys_ifb_eq (b := (u.2.1 ((6 * r) + c))) (tgt := 30) hx hb dX0_lose_23 (by decide) (fun h1 => ?_) (fun h1 => ?_)
    · refine lv_iconst (v := (nI 1)) hx hb dX0_lose_30 (by decide) ?_
      refine lv_istore (lv' := [(4, .int (nI 1)), (3, .int (nI ((6 * r) + c))), (0, .ref (ad 0)), (1, .int (nI r)), (2, .int (nI c))]) hx hb dX0_lose_31 hl (by decide) rfl (fun ls hl => ?_)
      refine lv_aload_n hx hb dX0_lose_33 rfl (lv_at hl 2 rfl) ?_
      refine va_get (D := D) (ci := 0) (v := .ref (ad 2)) (C := RX0) (T := TX0) (N := 8) hx hb hts in_X0 hown hK hM.1 0 rfl rfl 1 (by decide) (hts _ q23) (fun _ h9 => h9) rfl dX0_lose_34 ?_
      refine lv_iload_n hx hb dX0_lose_37 rfl (lv_at hl 1 rfl) ?_
      refine lv_iconst (v := (bI true)) hx hb dX0_lose_38 (by decide) ?_
      refine ys_zast (i := ((6 * r) + c)) (v := true) (w' := (wX ad kd (u.1, va_up u.2.1 ((6 * r) + c) true, u.2.2.1, u.2.2.2.1, u.2.2.2.2.1, u.2.2.2.2.2))) hx hb hK hM 2 1 rfl rfl (by omega) (by decide) dX0_lose_39 rfl (fun H locs hM => ?_)
      refine lv_aload_n hx hb dX0_lose_40 rfl (lv_at hl 2 rfl) ?_
      refine va_get (D := D) (ci := 0) (v := .ref (ad 1)) (C := RX0) (T := TX0) (N := 8) hx hb hts in_X0 hown hK hM.1 0 rfl rfl 0 (by decide) (hts _ q22) (fun _ h9 => h9) rfl dX0_lose_41 ?_
      refine lv_iload_n hx hb dX0_lose_44 rfl (lv_at hl 1 rfl) ?_
      refine lv_iconst (v := (nI 0)) hx hb dX0_lose_45 (by decide) ?_
      refine ys_iast (i := ((6 * r) + c)) (v := 0) (w' := (wX ad kd (va_up u.1 ((6 * r) + c) 0, va_up u.2.1 ((6 * r) + c) true, u.2.2.1, u.2.2.2.1, u.2.2.2.2.1, u.2.2.2.2.2))) hx hb hK hM 1 0 rfl rfl (by omega) (by decide) dX0_lose_46 rfl (fun H locs hM => ?_)
      refine lv_iload hx hb dX0_lose_47 (lv_at hl 0 rfl) ?_
      exact ys_iret hx hb hr hlocks hK hM (by rw [z_was, if_neg (by rw [h1]; decide)]) dX0_lose_49
    · refine lv_iconst (v := (nI 0)) hx hb dX0_lose_26 (by decide) ?_
      refine lv_goto (tgt := 31) hx hb dX0_lose_27 (by decide) ?_
      refine lv_istore (lv' := [(4, .int (nI 0)), (3, .int (nI ((6 * r) + c))), (0, .ref (ad 0)), (1, .int (nI r)), (2, .int (nI c))]) hx hb dX0_lose_31 hl (by decide) rfl (fun ls hl => ?_)
      refine lv_aload_n hx hb dX0_lose_33 rfl (lv_at hl 2 rfl) ?_
      refine va_get (D := D) (ci := 0) (v := .ref (ad 2)) (C := RX0) (T := TX0) (N := 8) hx hb hts in_X0 hown hK hM.1 0 rfl rfl 1 (by decide) (hts _ q23) (fun _ h9 => h9) rfl dX0_lose_34 ?_
      refine lv_iload_n hx hb dX0_lose_37 rfl (lv_at hl 1 rfl) ?_
      refine lv_iconst (v := (bI true)) hx hb dX0_lose_38 (by decide) ?_
      refine ys_zast (i := ((6 * r) + c)) (v := true) (w' := (wX ad kd (u.1, va_up u.2.1 ((6 * r) + c) true, u.2.2.1, u.2.2.2.1, u.2.2.2.2.1, u.2.2.2.2.2))) hx hb hK hM 2 1 rfl rfl (by omega) (by decide) dX0_lose_39 rfl (fun H locs hM => ?_)
      refine lv_aload_n hx hb dX0_lose_40 rfl (lv_at hl 2 rfl) ?_
      refine va_get (D := D) (ci := 0) (v := .ref (ad 1)) (C := RX0) (T := TX0) (N := 8) hx hb hts in_X0 hown hK hM.1 0 rfl rfl 0 (by decide) (hts _ q22) (fun _ h9 => h9) rfl dX0_lose_41 ?_
      refine lv_iload_n hx hb dX0_lose_44 rfl (lv_at hl 1 rfl) ?_
      refine lv_iconst (v := (nI 0)) hx hb dX0_lose_45 (by decide) ?_
      refine ys_iast (i := ((6 * r) + c)) (v := 0) (w' := (wX ad kd (va_up u.1 ((6 * r) + c) 0, va_up u.2.1 ((6 * r) + c) true, u.2.2.1, u.2.2.2.1, u.2.2.2.2.1, u.2.2.2.2.2))) hx hb hK hM 1 0 rfl rfl (by omega) (by decide) dX0_lose_46 rfl (fun H locs hM => ?_)
      refine lv_iload hx hb dX0_lose_47 (lv_at hl 0 rfl) ?_
      exact ys_iret hx hb hr hlocks hK hM (by rw [z_was, if_pos h1]) dX0_lose_49
  · exact absurd h0 (by decide)
set_option maxHeartbeats 4000000 in
set_option maxRecDepth 100000 in
theorem cx_lost_out (l : Launch) (D : va_G) (ad : Nat → Nat) (kd : Nat → ClassId) (u : zS) (x y : Int32) (hout : (z_in (nI 5) x && z_in (nI 5) y) = false) : ys_I l yX0_lost (ws_ yX0_lost cX0_lost 3 (some .int)) ({ frames := 1, cells := 0, slots := 0, locals := 21 } : Room) D (tX kd) [.ref (ad 0), .int x, .int y] (wX ad kd u) (wX ad kd u) (-1) := by
  refine ys_I.mk (own := RX0) (by decide) rfl (Nat.le_of_ble_eq_true rfl) ?_
  intro p e s m below meth cd A ls E hK hA hM hl
  obtain ⟨hx, hb, hr, hml, hown, hts, hlocks⟩ := E
  have hl : lv_has ls 3 [(0, .ref (ad 0)), (1, .int x), (2, .int y)] := hl
  refine lv_iload_n hx hb dX0_lost_0 rfl (lv_at hl 1 rfl) ?_
  refine lv_iload_n hx hb dX0_lost_1 rfl (lv_at hl 2 rfl) ?_
  refine ys_callS (As := [.int x, .int y]) (rest := []) (w1 := (wX ad kd u)) ⟨hx, hb, hml, hown, hts⟩ (cx_isCell_out l D (tX kd) (wX ad kd u) hout) (va_cwS 2 hts (lw_S q76 q77 q12 q78) rfl rfl rfl (by decide +kernel) ⟨Nat.le_of_ble_eq_true rfl, Nat.le_of_ble_eq_true rfl⟩) hK hA hM hl.1 rfl rfl (Nat.le_of_ble_eq_true rfl) ⟨Nat.zero_le _, Nat.zero_le _⟩ dX0_lost_2 (fun H locs hM => ?_)
  refine ys_ifb_ne (b := false) (tgt := 10) hx hb dX0_lost_5 (by decide) (fun h0 => ?_) (fun h0 => ?_)
  · exact absurd h0 (by decide)
  · refine lv_iconst (v := -1) hx hb dX0_lost_8 (by decide) ?_
    exact ys_iret hx hb hr hlocks hK hM rfl dX0_lost_9
set_option maxHeartbeats 4000000 in
set_option maxRecDepth 100000 in
theorem cx_lost (l : Launch) (D : va_G) (ad : Nat → Nat) (kd : Nat → ClassId) (u : zS) (r c : Nat) (hr5 : r ≤ 5) (hc5 : c ≤ 5) : ys_I l yX0_lost (ws_ yX0_lost cX0_lost 3 (some .int)) ({ frames := 1, cells := 0, slots := 0, locals := 21 } : Room) D (tX kd) [.ref (ad 0), .int (nI r), .int (nI c)] (wX ad kd u) (wX ad kd u) (nI (if u.2.1 (6 * r + c) = true then 1 else 0)) := by
  refine ys_I.mk (own := RX0) (by decide) rfl (Nat.le_of_ble_eq_true rfl) ?_
  intro p e s m below meth cd A ls E hK hA hM hl
  obtain ⟨hx, hb, hr, hml, hown, hts, hlocks⟩ := E
  have hl : lv_has ls 3 [(0, .ref (ad 0)), (1, .int (nI r)), (2, .int (nI c))] := hl
  refine lv_iload_n hx hb dX0_lost_0 rfl (lv_at hl 1 rfl) ?_
  refine lv_iload_n hx hb dX0_lost_1 rfl (lv_at hl 2 rfl) ?_
  refine ys_callS (As := [.int (nI r), .int (nI c)]) (rest := []) (w1 := (wX ad kd u)) ⟨hx, hb, hml, hown, hts⟩ (cx_isCell_in l D (tX kd) (wX ad kd u) hr5 hc5) (va_cwS 2 hts (lw_S q76 q77 q12 q78) rfl rfl rfl (by decide +kernel) ⟨Nat.le_of_ble_eq_true rfl, Nat.le_of_ble_eq_true rfl⟩) hK hA hM hl.1 rfl rfl (Nat.le_of_ble_eq_true rfl) ⟨Nat.zero_le _, Nat.zero_le _⟩ dX0_lost_2 (fun H locs hM => ?_)
  refine ys_ifb_ne (b := true) (tgt := 10) hx hb dX0_lost_5 (by decide) (fun h0 => ?_) (fun h0 => ?_)
  · refine lv_aload_n hx hb dX0_lost_10 rfl (lv_at hl 0 rfl) ?_
    refine va_get (D := D) (ci := 0) (v := .ref (ad 2)) (C := RX0) (T := TX0) (N := 8) hx hb hts in_X0 hown hK hM.1 0 rfl rfl 1 (by decide) (hts _ q23) (fun _ h9 => h9) rfl dX0_lost_11 ?_
    refine lv_bipush (v := (nI 6)) hx hb dX0_lost_14 (by decide) ?_
    refine lv_iload_n hx hb dX0_lost_16 rfl (lv_at hl 1 rfl) ?_
    refine ys_imul (i := 6) (j := r) hx hb dX0_lost_17 ?_
    refine lv_iload_n hx hb dX0_lost_18 rfl (lv_at hl 2 rfl) ?_
    refine ys_iadd (i := (6 * r)) (j := c) hx hb dX0_lost_19 ?_
    refine ys_zald (i := ((6 * r) + c)) hx hb hK hM 2 1 rfl rfl (by omega) (by decide) dX0_lost_20 ?_
    refine ys_ifb_eq (b := (u.2.1 ((6 * r) + c))) (tgt := 28) hx hb dX0_lost_21 (by decide) (fun h1 => ?_) (fun h1 => ?_)
    · refine lv_iconst (v := (nI 0)) hx hb dX0_lost_28 (by decide) ?_
      exact ys_iret hx hb hr hlocks hK hM (by rw [if_neg (by rw [h1]; decide)]) dX0_lost_29
    · refine lv_iconst (v := (nI 1)) hx hb dX0_lost_24 (by decide) ?_
      refine lv_goto (tgt := 29) hx hb dX0_lost_25 (by decide) ?_
      exact ys_iret hx hb hr hlocks hK hM (by rw [if_pos h1]) dX0_lost_29
  · exact absurd h0 (by decide)
set_option maxHeartbeats 4000000 in
set_option maxRecDepth 100000 in
theorem cx_losses (l : Launch) (D : va_G) (ad : Nat → Nat) (kd : Nat → ClassId) (u : zS)  : ys_I l yX0_losses (ws_ yX0_losses cX0_losses 3 (some .int)) ({ frames := 0, cells := 0, slots := 0, locals := 0 } : Room) D (tX kd) [.ref (ad 0)] (wX ad kd u) (wX ad kd u) (nI (z_ls u.2.1 36)) := by
  refine ys_I.mk (own := RX0) (by decide) rfl (Nat.le_of_ble_eq_true rfl) ?_
  intro p e s m below meth cd A ls E hK hA hM hl
  obtain ⟨hx, hb, hr, hml, hown, hts, hlocks⟩ := E
  have hl : lv_has ls 3 [(0, .ref (ad 0))] := hl
  refine lv_iconst (v := (nI 0)) hx hb dX0_losses_0 (by decide) ?_
  refine lv_istore_n (lv' := [(1, .int (nI 0)), (0, .ref (ad 0))]) hx hb dX0_losses_1 rfl hl (by decide) rfl (fun ls hl => ?_)
  refine lv_iconst (v := (nI 0)) hx hb dX0_losses_2 (by decide) ?_
  refine lv_istore_n (lv' := [(2, .int (nI 0)), (1, .int (nI 0)), (0, .ref (ad 0))]) hx hb dX0_losses_3 rfl hl (by decide) rfl (fun ls hl => ?_)
  have loop : ∀ (n k : Nat) (ls : Array Slot) (H : Heap) (locs : List Loc), k + n = 36 → ys_M D A s (wX ad kd u) H locs → lv_has ls 3 [(0, .ref (ad 0)), (1, .int (nI (z_ls u.2.1 k))), (2, .int (nI k))] → W p l e ({ frames := 0, cells := 0, slots := 0, locals := 0 } : Room) s m ([.ref (ad 0)] : List Value).toArray below meth cd H locs 0 0 (ys_QI D (tX kd) below ([.ref (ad 0)] : List Value).toArray s A (wX ad kd u) (nI (z_ls u.2.1 36))) (F0 m 4 ls []) := by
    intro n
    induction n with
    | zero =>
      intro k ls H locs hkn hM hl
      refine lv_iload_n hx hb dX0_losses_4 rfl (lv_at hl 2 rfl) ?_
      refine lv_bipush (v := (nI 36)) hx hb dX0_losses_5 (by decide) ?_
      refine ys_icmp_ge (i := k) (j := 36) (tgt := 33) hx hb dX0_losses_7 (by decide) (by omega) (by omega) (fun h0 => ?_) (fun h0 => ?_)
      · refine lv_iload_n hx hb dX0_losses_33 rfl (lv_at hl 1 rfl) ?_
        obtain rfl : k = 36 := by omega
        exact ys_iret hx hb hr hlocks hK hM rfl dX0_losses_34
      · exact absurd h0 (by omega)
    | succ n ih =>
      intro k ls H locs hkn hM hl
      refine lv_iload_n hx hb dX0_losses_4 rfl (lv_at hl 2 rfl) ?_
      refine lv_bipush (v := (nI 36)) hx hb dX0_losses_5 (by decide) ?_
      refine ys_icmp_ge (i := k) (j := 36) (tgt := 33) hx hb dX0_losses_7 (by decide) (by omega) (by omega) (fun h0 => ?_) (fun h0 => ?_)
      · exact absurd h0 (by omega)
      · refine lv_iload_n hx hb dX0_losses_10 rfl (lv_at hl 1 rfl) ?_
        refine lv_aload_n hx hb dX0_losses_11 rfl (lv_at hl 0 rfl) ?_
        refine va_get (D := D) (ci := 0) (v := .ref (ad 2)) (C := RX0) (T := TX0) (N := 8) hx hb hts in_X0 hown hK hM.1 0 rfl rfl 1 (by decide) (hts _ q23) (fun _ h9 => h9) rfl dX0_losses_12 ?_
        refine lv_iload_n hx hb dX0_losses_15 rfl (lv_at hl 2 rfl) ?_
        refine ys_zald (i := k) hx hb hK hM 2 1 rfl rfl (by omega) (by decide) dX0_losses_16 ?_
        refine ys_ifb_eq (b := (u.2.1 k)) (tgt := 24) hx hb dX0_losses_17 (by decide) (fun h1 => ?_) (fun h1 => ?_)
        · refine lv_iconst (v := (nI 0)) hx hb dX0_losses_24 (by decide) ?_
          refine ys_iadd (i := (z_ls u.2.1 k)) (j := 0) hx hb dX0_losses_25 ?_
          refine lv_istore_n (lv' := [(1, .int (nI ((z_ls u.2.1 k) + 0))), (0, .ref (ad 0)), (2, .int (nI k))]) hx hb dX0_losses_26 rfl hl (by decide) rfl (fun ls hl => ?_)
          refine lv_iinc (v := (nI (k + 1))) (lv' := [(2, .int (nI (k + 1))), (1, .int (nI ((z_ls u.2.1 k) + 0))), (0, .ref (ad 0))]) hx hb dX0_losses_27 hl (k := 2) rfl (ys_inc k) (by decide) rfl (fun ls hl => ?_)
          refine lv_goto (tgt := 4) hx hb dX0_losses_30 (by decide) ?_
          have hz : z_ls u.2.1 (k + 1) = z_ls u.2.1 k + 0 := by show _ + _ = _; rw [if_neg (by rw [h1]; decide)]
          refine ih (k + 1) ls _ _ (by omega) hM ?_
          rw [hz]
          exact lv_sub hl [2, 1, 0] rfl
        · refine lv_iconst (v := (nI 1)) hx hb dX0_losses_20 (by decide) ?_
          refine lv_goto (tgt := 25) hx hb dX0_losses_21 (by decide) ?_
          refine ys_iadd (i := (z_ls u.2.1 k)) (j := 1) hx hb dX0_losses_25 ?_
          refine lv_istore_n (lv' := [(1, .int (nI ((z_ls u.2.1 k) + 1))), (0, .ref (ad 0)), (2, .int (nI k))]) hx hb dX0_losses_26 rfl hl (by decide) rfl (fun ls hl => ?_)
          refine lv_iinc (v := (nI (k + 1))) (lv' := [(2, .int (nI (k + 1))), (1, .int (nI ((z_ls u.2.1 k) + 1))), (0, .ref (ad 0))]) hx hb dX0_losses_27 hl (k := 2) rfl (ys_inc k) (by decide) rfl (fun ls hl => ?_)
          refine lv_goto (tgt := 4) hx hb dX0_losses_30 (by decide) ?_
          have hz : z_ls u.2.1 (k + 1) = z_ls u.2.1 k + 1 := by show _ + _ = _; rw [if_pos h1]
          refine ih (k + 1) ls _ _ (by omega) hM ?_
          rw [hz]
          exact lv_sub hl [2, 1, 0] rfl
  exact loop 36 0 ls _ _ (by omega) hM (lv_sub hl [2, 1, 0] rfl)
set_option maxHeartbeats 4000000 in
set_option maxRecDepth 100000 in
theorem cx_total (l : Launch) (D : va_G) (ad : Nat → Nat) (kd : Nat → ClassId) (u : zS)  : ys_I l yX0_total (ws_ yX0_total cX0_total 4 (some .int)) ({ frames := 0, cells := 0, slots := 0, locals := 0 } : Room) D (tX kd) [.ref (ad 0)] (wX ad kd u) (wX ad kd u) (nI (z_tt u.1 u.2.1 4)) := by
  refine ys_I.mk (own := RX0) (by decide) rfl (Nat.le_of_ble_eq_true rfl) ?_
  intro p e s m below meth cd A ls E hK hA hM hl
  obtain ⟨hx, hb, hr, hml, hown, hts, hlocks⟩ := E
  have hl : lv_has ls 4 [(0, .ref (ad 0))] := hl
  refine lv_iconst (v := (nI 0)) hx hb dX0_total_0 (by decide) ?_
  refine lv_istore_n (lv' := [(1, .int (nI 0)), (0, .ref (ad 0))]) hx hb dX0_total_1 rfl hl (by decide) rfl (fun ls hl => ?_)
  refine lv_iconst (v := (nI 0)) hx hb dX0_total_2 (by decide) ?_
  refine lv_istore_n (lv' := [(2, .int (nI 0)), (1, .int (nI 0)), (0, .ref (ad 0))]) hx hb dX0_total_3 rfl hl (by decide) rfl (fun ls hl => ?_)
  have loop : ∀ (n k : Nat) (ls : Array Slot) (H : Heap) (locs : List Loc), k + n = 4 → ys_M D A s (wX ad kd u) H locs → lv_has ls 4 [(0, .ref (ad 0)), (1, .int (nI (z_tt u.1 u.2.1 k))), (2, .int (nI k))] → W p l e ({ frames := 0, cells := 0, slots := 0, locals := 0 } : Room) s m ([.ref (ad 0)] : List Value).toArray below meth cd H locs 0 0 (ys_QI D (tX kd) below ([.ref (ad 0)] : List Value).toArray s A (wX ad kd u) (nI (z_tt u.1 u.2.1 4))) (F0 m 4 ls []) := by
    intro n
    induction n with
    | zero =>
      intro k ls H locs hkn hM hl
      refine lv_iload_n hx hb dX0_total_4 rfl (lv_at hl 2 rfl) ?_
      refine lv_iconst (v := (nI 4)) hx hb dX0_total_5 (by decide) ?_
      refine ys_icmp_ge (i := k) (j := 4) (tgt := 60) hx hb dX0_total_6 (by decide) (by omega) (by omega) (fun h0 => ?_) (fun h0 => ?_)
      · refine lv_iload_n hx hb dX0_total_60 rfl (lv_at hl 1 rfl) ?_
        obtain rfl : k = 4 := by omega
        exact ys_iret hx hb hr hlocks hK hM rfl dX0_total_61
      · exact absurd h0 (by omega)
    | succ n ih =>
      intro k ls H locs hkn hM hl
      refine lv_iload_n hx hb dX0_total_4 rfl (lv_at hl 2 rfl) ?_
      refine lv_iconst (v := (nI 4)) hx hb dX0_total_5 (by decide) ?_
      refine ys_icmp_ge (i := k) (j := 4) (tgt := 60) hx hb dX0_total_6 (by decide) (by omega) (by omega) (fun h0 => ?_) (fun h0 => ?_)
      · exact absurd h0 (by omega)
      · refine lv_iconst (v := (nI 0)) hx hb dX0_total_9 (by decide) ?_
        refine lv_istore_n (lv' := [(3, .int (nI 0)), (0, .ref (ad 0)), (1, .int (nI (z_tt u.1 u.2.1 k))), (2, .int (nI k))]) hx hb dX0_total_10 rfl hl (by decide) rfl (fun ls hl => ?_)
        have inner : ∀ (n2 j : Nat) (ls : Array Slot) (H : Heap) (locs : List Loc), j + n2 = 4 → ys_M D A s (wX ad kd u) H locs → lv_has ls 4 [(0, .ref (ad 0)), (1, .int (nI (z_tc u.1 u.2.1 k (z_tt u.1 u.2.1 k) j))), (2, .int (nI k)), (3, .int (nI j))] → W p l e ({ frames := 0, cells := 0, slots := 0, locals := 0 } : Room) s m ([.ref (ad 0)] : List Value).toArray below meth cd H locs 0 0 (ys_QI D (tX kd) below ([.ref (ad 0)] : List Value).toArray s A (wX ad kd u) (nI (z_tt u.1 u.2.1 4))) (F0 m 11 ls []) := by
          intro n2
          induction n2 with
          | zero =>
            intro j ls H locs hkn hM hl
            refine lv_iload_n hx hb dX0_total_11 rfl (lv_at hl 3 rfl) ?_
            refine lv_iconst (v := (nI 4)) hx hb dX0_total_12 (by decide) ?_
            refine ys_icmp_ge (i := j) (j := 4) (tgt := 54) hx hb dX0_total_13 (by decide) (by omega) (by omega) (fun h2 => ?_) (fun h2 => ?_)
            · refine lv_iinc (v := (nI (k + 1))) (lv' := [(2, .int (nI (k + 1))), (0, .ref (ad 0)), (1, .int (nI (z_tc u.1 u.2.1 k (z_tt u.1 u.2.1 k) j))), (3, .int (nI j))]) hx hb dX0_total_54 hl (k := 2) rfl (ys_inc k) (by decide) rfl (fun ls hl => ?_)
              refine lv_goto (tgt := 4) hx hb dX0_total_57 (by decide) ?_
              obtain rfl : j = 4 := by omega
              exact ih (k + 1) ls _ _ (by omega) hM (lv_sub hl [1, 2, 0] rfl)
            · exact absurd h2 (by omega)
          | succ n2 ih2 =>
            intro j ls H locs hkn hM hl
            refine lv_iload_n hx hb dX0_total_11 rfl (lv_at hl 3 rfl) ?_
            refine lv_iconst (v := (nI 4)) hx hb dX0_total_12 (by decide) ?_
            refine ys_icmp_ge (i := j) (j := 4) (tgt := 54) hx hb dX0_total_13 (by decide) (by omega) (by omega) (fun h2 => ?_) (fun h2 => ?_)
            · exact absurd h2 (by omega)
            · refine lv_iload_n hx hb dX0_total_16 rfl (lv_at hl 1 rfl) ?_
              refine lv_aload_n hx hb dX0_total_17 rfl (lv_at hl 0 rfl) ?_
              refine va_get (D := D) (ci := 0) (v := .ref (ad 2)) (C := RX0) (T := TX0) (N := 8) hx hb hts in_X0 hown hK hM.1 0 rfl rfl 1 (by decide) (hts _ q23) (fun _ h9 => h9) rfl dX0_total_18 ?_
              refine lv_bipush (v := (nI 6)) hx hb dX0_total_21 (by decide) ?_
              refine lv_iload_n hx hb dX0_total_23 rfl (lv_at hl 2 rfl) ?_
              refine ys_imul (i := 6) (j := k) hx hb dX0_total_24 ?_
              refine lv_iload_n hx hb dX0_total_25 rfl (lv_at hl 3 rfl) ?_
              refine ys_iadd (i := (6 * k)) (j := j) hx hb dX0_total_26 ?_
              refine ys_zald (i := ((6 * k) + j)) hx hb hK hM 2 1 rfl rfl (by omega) (by decide) dX0_total_27 ?_
              refine ys_ifb_eq (b := (u.2.1 ((6 * k) + j))) (tgt := 35) hx hb dX0_total_28 (by decide) (fun h1 => ?_) (fun h1 => ?_)
              · refine lv_aload_n hx hb dX0_total_35 rfl (lv_at hl 0 rfl) ?_
                refine va_get (D := D) (ci := 0) (v := .ref (ad 1)) (C := RX0) (T := TX0) (N := 8) hx hb hts in_X0 hown hK hM.1 0 rfl rfl 0 (by decide) (hts _ q22) (fun _ h9 => h9) rfl dX0_total_36 ?_
                refine lv_bipush (v := (nI 6)) hx hb dX0_total_39 (by decide) ?_
                refine lv_iload_n hx hb dX0_total_41 rfl (lv_at hl 2 rfl) ?_
                refine ys_imul (i := 6) (j := k) hx hb dX0_total_42 ?_
                refine lv_iload_n hx hb dX0_total_43 rfl (lv_at hl 3 rfl) ?_
                refine ys_iadd (i := (6 * k)) (j := j) hx hb dX0_total_44 ?_
                refine ys_iald (i := ((6 * k) + j)) hx hb hK hM 1 0 rfl rfl (by omega) (by decide) dX0_total_45 ?_
                refine ys_iadd (i := (z_tc u.1 u.2.1 k (z_tt u.1 u.2.1 k) j)) (j := (u.1 ((6 * k) + j))) hx hb dX0_total_46 ?_
                refine lv_istore_n (lv' := [(1, .int (nI ((z_tc u.1 u.2.1 k (z_tt u.1 u.2.1 k) j) + (u.1 ((6 * k) + j))))), (0, .ref (ad 0)), (2, .int (nI k)), (3, .int (nI j))]) hx hb dX0_total_47 rfl hl (by decide) rfl (fun ls hl => ?_)
                refine lv_iinc (v := (nI (j + 1))) (lv' := [(3, .int (nI (j + 1))), (1, .int (nI ((z_tc u.1 u.2.1 k (z_tt u.1 u.2.1 k) j) + (u.1 ((6 * k) + j))))), (0, .ref (ad 0)), (2, .int (nI k))]) hx hb dX0_total_48 hl (k := 3) rfl (ys_inc j) (by decide) rfl (fun ls hl => ?_)
                refine lv_goto (tgt := 11) hx hb dX0_total_51 (by decide) ?_
                have hz : z_tc u.1 u.2.1 k (z_tt u.1 u.2.1 k) (j + 1) = z_tc u.1 u.2.1 k (z_tt u.1 u.2.1 k) j + u.1 (6 * k + j) := by show _ + _ = _; rw [if_neg (by rw [h1]; decide)]
                refine ih2 (j + 1) ls _ _ (by omega) hM ?_
                rw [hz]
                exact lv_sub hl [2, 1, 3, 0] rfl
              · refine lv_iconst (v := (nI 0)) hx hb dX0_total_31 (by decide) ?_
                refine lv_goto (tgt := 46) hx hb dX0_total_32 (by decide) ?_
                refine ys_iadd (i := (z_tc u.1 u.2.1 k (z_tt u.1 u.2.1 k) j)) (j := 0) hx hb dX0_total_46 ?_
                refine lv_istore_n (lv' := [(1, .int (nI ((z_tc u.1 u.2.1 k (z_tt u.1 u.2.1 k) j) + 0))), (0, .ref (ad 0)), (2, .int (nI k)), (3, .int (nI j))]) hx hb dX0_total_47 rfl hl (by decide) rfl (fun ls hl => ?_)
                refine lv_iinc (v := (nI (j + 1))) (lv' := [(3, .int (nI (j + 1))), (1, .int (nI ((z_tc u.1 u.2.1 k (z_tt u.1 u.2.1 k) j) + 0))), (0, .ref (ad 0)), (2, .int (nI k))]) hx hb dX0_total_48 hl (k := 3) rfl (ys_inc j) (by decide) rfl (fun ls hl => ?_)
                refine lv_goto (tgt := 11) hx hb dX0_total_51 (by decide) ?_
                have hz : z_tc u.1 u.2.1 k (z_tt u.1 u.2.1 k) (j + 1) = z_tc u.1 u.2.1 k (z_tt u.1 u.2.1 k) j + 0 := by show _ + _ = _; rw [if_pos h1]
                refine ih2 (j + 1) ls _ _ (by omega) hM ?_
                rw [hz]
                exact lv_sub hl [2, 1, 3, 0] rfl
        exact inner 4 0 ls _ _ (by omega) hM (lv_sub hl [1, 2, 3, 0] rfl)
  exact loop 4 0 ls _ _ (by omega) hM (lv_sub hl [2, 1, 0] rfl)
set_option maxHeartbeats 4000000 in
set_option maxRecDepth 100000 in
theorem cx_loseRow_out (l : Launch) (D : va_G) (ad : Nat → Nat) (kd : Nat → ClassId) (u : zS) (x : Int32) (hout : (z_in (nI 5) x && z_in (nI 5) (nI 0)) = false) : ys_I l yX0_loseRow (ws_ yX0_loseRow cX0_loseRow 4 (some .int)) ({ frames := 2, cells := 0, slots := 0, locals := 45 } : Room) D (tX kd) [.ref (ad 0), .int x] (wX ad kd u) (wX ad kd u) (-1) := by
  refine ys_I.mk (own := RX0) (by decide) rfl (Nat.le_of_ble_eq_true rfl) ?_
  intro p e s m below meth cd A ls E hK hA hM hl
  obtain ⟨hx, hb, hr, hml, hown, hts, hlocks⟩ := E
  have hl : lv_has ls 4 [(0, .ref (ad 0)), (1, .int x)] := hl
  refine lv_iload_n hx hb dX0_loseRow_0 rfl (lv_at hl 1 rfl) ?_
  refine lv_iconst (v := (nI 0)) hx hb dX0_loseRow_1 (by decide) ?_
  refine ys_callS (As := [.int x, .int (nI 0)]) (rest := []) (w1 := (wX ad kd u)) ⟨hx, hb, hml, hown, hts⟩ (cx_isCell_out l D (tX kd) (wX ad kd u) hout) (va_cwS 2 hts (lw_S q76 q77 q12 q78) rfl rfl rfl (by decide +kernel) ⟨Nat.le_of_ble_eq_true rfl, Nat.le_of_ble_eq_true rfl⟩) hK hA hM hl.1 rfl rfl (Nat.le_of_ble_eq_true rfl) ⟨Nat.zero_le _, Nat.zero_le _⟩ dX0_loseRow_2 (fun H locs hM => ?_)
  refine ys_ifb_ne (b := false) (tgt := 10) hx hb dX0_loseRow_5 (by decide) (fun h0 => ?_) (fun h0 => ?_)
  · exact absurd h0 (by decide)
  · refine lv_iconst (v := -1) hx hb dX0_loseRow_8 (by decide) ?_
    exact ys_iret hx hb hr hlocks hK hM rfl dX0_loseRow_9
set_option maxHeartbeats 4000000 in
set_option maxRecDepth 100000 in
theorem cx_loseRow (l : Launch) (D : va_G) (ad : Nat → Nat) (kd : Nat → ClassId) (u : zS) (r : Nat) (hr5 : r ≤ 5) : ys_I l yX0_loseRow (ws_ yX0_loseRow cX0_loseRow 4 (some .int)) ({ frames := 2, cells := 0, slots := 0, locals := 45 } : Room) D (tX kd) [.ref (ad 0), .int (nI r)] (wX ad kd u) (wX ad kd ((z_lr u (fun k => 6 * r + k) 6).2)) (nI (z_lr u (fun k => 6 * r + k) 6).1) := by
  refine ys_I.mk (own := RX0) (by decide) rfl (Nat.le_of_ble_eq_true rfl) ?_
  intro p e s m below meth cd A ls E hK hA hM hl
  obtain ⟨hx, hb, hr, hml, hown, hts, hlocks⟩ := E
  have hl : lv_has ls 4 [(0, .ref (ad 0)), (1, .int (nI r))] := hl
  refine lv_iload_n hx hb dX0_loseRow_0 rfl (lv_at hl 1 rfl) ?_
  refine lv_iconst (v := (nI 0)) hx hb dX0_loseRow_1 (by decide) ?_
  refine ys_callS (As := [.int (nI r), .int (nI 0)]) (rest := []) (w1 := (wX ad kd u)) ⟨hx, hb, hml, hown, hts⟩ (cx_isCell_in l D (tX kd) (wX ad kd u) hr5 (Nat.zero_le 5)) (va_cwS 2 hts (lw_S q76 q77 q12 q78) rfl rfl rfl (by decide +kernel) ⟨Nat.le_of_ble_eq_true rfl, Nat.le_of_ble_eq_true rfl⟩) hK hA hM hl.1 rfl rfl (Nat.le_of_ble_eq_true rfl) ⟨Nat.zero_le _, Nat.zero_le _⟩ dX0_loseRow_2 (fun H locs hM => ?_)
  refine ys_ifb_ne (b := true) (tgt := 10) hx hb dX0_loseRow_5 (by decide) (fun h0 => ?_) (fun h0 => ?_)
  · refine lv_iconst (v := (nI 0)) hx hb dX0_loseRow_10 (by decide) ?_
    refine lv_istore_n (lv' := [(2, .int (nI 0)), (0, .ref (ad 0)), (1, .int (nI r))]) hx hb dX0_loseRow_11 rfl hl (by decide) rfl (fun ls hl => ?_)
    refine lv_iconst (v := (nI 0)) hx hb dX0_loseRow_12 (by decide) ?_
    refine lv_istore_n (lv' := [(3, .int (nI 0)), (2, .int (nI 0)), (0, .ref (ad 0)), (1, .int (nI r))]) hx hb dX0_loseRow_13 rfl hl (by decide) rfl (fun ls hl => ?_)
    have loop : ∀ (n k : Nat) (ls : Array Slot) (H : Heap) (locs : List Loc), k + n = 6 → ys_M D A s (wX ad kd ((z_lr u (fun k => 6 * r + k) k).2)) H locs → lv_has ls 4 [(0, .ref (ad 0)), (1, .int (nI r)), (2, .int (nI ((z_lr u (fun k => 6 * r + k) k).1))), (3, .int (nI k))] → W p l e ({ frames := 2, cells := 0, slots := 0, locals := 45 } : Room) s m ([.ref (ad 0), .int (nI r)] : List Value).toArray below meth cd H locs 0 0 (ys_QI D (tX kd) below ([.ref (ad 0), .int (nI r)] : List Value).toArray s A (wX ad kd ((z_lr u (fun k => 6 * r + k) 6).2)) (nI (z_lr u (fun k => 6 * r + k) 6).1)) (F0 m 14 ls []) := by
      intro n
      induction n with
      | zero =>
        intro k ls H locs hkn hM hl
        refine lv_iload_n hx hb dX0_loseRow_14 rfl (lv_at hl 3 rfl) ?_
        refine lv_bipush (v := (nI 6)) hx hb dX0_loseRow_15 (by decide) ?_
        refine ys_icmp_ge (i := k) (j := 6) (tgt := 35) hx hb dX0_loseRow_17 (by decide) (by omega) (by omega) (fun h1 => ?_) (fun h1 => ?_)
        · refine lv_iload_n hx hb dX0_loseRow_35 rfl (lv_at hl 2 rfl) ?_
          obtain rfl : k = 6 := by omega
          exact ys_iret hx hb hr hlocks hK hM rfl dX0_loseRow_36
        · exact absurd h1 (by omega)
      | succ n ih =>
        intro k ls H locs hkn hM hl
        refine lv_iload_n hx hb dX0_loseRow_14 rfl (lv_at hl 3 rfl) ?_
        refine lv_bipush (v := (nI 6)) hx hb dX0_loseRow_15 (by decide) ?_
        refine ys_icmp_ge (i := k) (j := 6) (tgt := 35) hx hb dX0_loseRow_17 (by decide) (by omega) (by omega) (fun h1 => ?_) (fun h1 => ?_)
        · exact absurd h1 (by omega)
        · refine lv_iload_n hx hb dX0_loseRow_20 rfl (lv_at hl 2 rfl) ?_
          refine lv_aload_n hx hb dX0_loseRow_21 rfl (lv_at hl 0 rfl) ?_
          refine lv_iload_n hx hb dX0_loseRow_22 rfl (lv_at hl 1 rfl) ?_
          refine lv_iload_n hx hb dX0_loseRow_23 rfl (lv_at hl 3 rfl) ?_
          refine ys_callI (As := [.int (nI r), .int (nI k)]) (rest := [.int (nI ((z_lr u (fun k => 6 * r + k) k).1))]) (w1 := (wX ad kd (z_lose (z_lr u (fun k => 6 * r + k) k).2 (6 * r + k)))) (ci := 0) (q0 := 0) (qq := (RX0, TX0, 8)) ⟨hx, hb, hml, hown, hts⟩ (cx_lose l D ad kd (z_lr u (fun k => 6 * r + k) k).2 r k hr5 (by omega)) (cwV 2 hts (lw_V q83 q73 q74 q12 q75) rfl rfl rfl (by decide +kernel) ⟨Nat.le_of_ble_eq_true rfl, Nat.le_of_ble_eq_true rfl⟩) hK hA hM rfl rfl hl.1 rfl rfl (Nat.le_of_ble_eq_true rfl) ⟨Nat.zero_le _, Nat.zero_le _⟩ dX0_loseRow_24 (fun H locs hM => ?_)
          refine ys_iadd (i := ((z_lr u (fun k => 6 * r + k) k).1)) (j := (z_was (z_lr u (fun k => 6 * r + k) k).2.2.1 (6 * r + k))) hx hb dX0_loseRow_27 ?_
          refine lv_istore_n (lv' := [(2, .int (nI (((z_lr u (fun k => 6 * r + k) k).1) + (z_was (z_lr u (fun k => 6 * r + k) k).2.2.1 (6 * r + k))))), (0, .ref (ad 0)), (1, .int (nI r)), (3, .int (nI k))]) hx hb dX0_loseRow_28 rfl hl (by decide) rfl (fun ls hl => ?_)
          refine lv_iinc (v := (nI (k + 1))) (lv' := [(3, .int (nI (k + 1))), (2, .int (nI (((z_lr u (fun k => 6 * r + k) k).1) + (z_was (z_lr u (fun k => 6 * r + k) k).2.2.1 (6 * r + k))))), (0, .ref (ad 0)), (1, .int (nI r))]) hx hb dX0_loseRow_29 hl (k := 3) rfl (ys_inc k) (by decide) rfl (fun ls hl => ?_)
          refine lv_goto (tgt := 14) hx hb dX0_loseRow_32 (by decide) ?_
          exact ih (k + 1) ls _ _ (by omega) hM (lv_sub hl [2, 3, 1, 0] rfl)
    exact loop 6 0 ls _ _ (by omega) hM (lv_sub hl [2, 3, 1, 0] rfl)
  · exact absurd h0 (by decide)
set_option maxHeartbeats 4000000 in
set_option maxRecDepth 100000 in
theorem cx_loseColumn_out (l : Launch) (D : va_G) (ad : Nat → Nat) (kd : Nat → ClassId) (u : zS) (x : Int32) (hout : (z_in (nI 5) (nI 0) && z_in (nI 5) x) = false) : ys_I l yX0_loseColumn (ws_ yX0_loseColumn cX0_loseColumn 4 (some .int)) ({ frames := 2, cells := 0, slots := 0, locals := 45 } : Room) D (tX kd) [.ref (ad 0), .int x] (wX ad kd u) (wX ad kd u) (-1) := by
  refine ys_I.mk (own := RX0) (by decide) rfl (Nat.le_of_ble_eq_true rfl) ?_
  intro p e s m below meth cd A ls E hK hA hM hl
  obtain ⟨hx, hb, hr, hml, hown, hts, hlocks⟩ := E
  have hl : lv_has ls 4 [(0, .ref (ad 0)), (1, .int x)] := hl
  refine lv_iconst (v := (nI 0)) hx hb dX0_loseColumn_0 (by decide) ?_
  refine lv_iload_n hx hb dX0_loseColumn_1 rfl (lv_at hl 1 rfl) ?_
  refine ys_callS (As := [.int (nI 0), .int x]) (rest := []) (w1 := (wX ad kd u)) ⟨hx, hb, hml, hown, hts⟩ (cx_isCell_out l D (tX kd) (wX ad kd u) hout) (va_cwS 2 hts (lw_S q76 q77 q12 q78) rfl rfl rfl (by decide +kernel) ⟨Nat.le_of_ble_eq_true rfl, Nat.le_of_ble_eq_true rfl⟩) hK hA hM hl.1 rfl rfl (Nat.le_of_ble_eq_true rfl) ⟨Nat.zero_le _, Nat.zero_le _⟩ dX0_loseColumn_2 (fun H locs hM => ?_)
  refine ys_ifb_ne (b := false) (tgt := 10) hx hb dX0_loseColumn_5 (by decide) (fun h0 => ?_) (fun h0 => ?_)
  · exact absurd h0 (by decide)
  · refine lv_iconst (v := -1) hx hb dX0_loseColumn_8 (by decide) ?_
    exact ys_iret hx hb hr hlocks hK hM rfl dX0_loseColumn_9
set_option maxHeartbeats 4000000 in
set_option maxRecDepth 100000 in
theorem cx_loseColumn (l : Launch) (D : va_G) (ad : Nat → Nat) (kd : Nat → ClassId) (u : zS) (r : Nat) (hr5 : r ≤ 5) : ys_I l yX0_loseColumn (ws_ yX0_loseColumn cX0_loseColumn 4 (some .int)) ({ frames := 2, cells := 0, slots := 0, locals := 45 } : Room) D (tX kd) [.ref (ad 0), .int (nI r)] (wX ad kd u) (wX ad kd ((z_lr u (fun k => 6 * k + r) 6).2)) (nI (z_lr u (fun k => 6 * k + r) 6).1) := by
  refine ys_I.mk (own := RX0) (by decide) rfl (Nat.le_of_ble_eq_true rfl) ?_
  intro p e s m below meth cd A ls E hK hA hM hl
  obtain ⟨hx, hb, hr, hml, hown, hts, hlocks⟩ := E
  have hl : lv_has ls 4 [(0, .ref (ad 0)), (1, .int (nI r))] := hl
  refine lv_iconst (v := (nI 0)) hx hb dX0_loseColumn_0 (by decide) ?_
  refine lv_iload_n hx hb dX0_loseColumn_1 rfl (lv_at hl 1 rfl) ?_
  refine ys_callS (As := [.int (nI 0), .int (nI r)]) (rest := []) (w1 := (wX ad kd u)) ⟨hx, hb, hml, hown, hts⟩ (cx_isCell_in l D (tX kd) (wX ad kd u) (Nat.zero_le 5) hr5) (va_cwS 2 hts (lw_S q76 q77 q12 q78) rfl rfl rfl (by decide +kernel) ⟨Nat.le_of_ble_eq_true rfl, Nat.le_of_ble_eq_true rfl⟩) hK hA hM hl.1 rfl rfl (Nat.le_of_ble_eq_true rfl) ⟨Nat.zero_le _, Nat.zero_le _⟩ dX0_loseColumn_2 (fun H locs hM => ?_)
  refine ys_ifb_ne (b := true) (tgt := 10) hx hb dX0_loseColumn_5 (by decide) (fun h0 => ?_) (fun h0 => ?_)
  · refine lv_iconst (v := (nI 0)) hx hb dX0_loseColumn_10 (by decide) ?_
    refine lv_istore_n (lv' := [(2, .int (nI 0)), (0, .ref (ad 0)), (1, .int (nI r))]) hx hb dX0_loseColumn_11 rfl hl (by decide) rfl (fun ls hl => ?_)
    refine lv_iconst (v := (nI 0)) hx hb dX0_loseColumn_12 (by decide) ?_
    refine lv_istore_n (lv' := [(3, .int (nI 0)), (2, .int (nI 0)), (0, .ref (ad 0)), (1, .int (nI r))]) hx hb dX0_loseColumn_13 rfl hl (by decide) rfl (fun ls hl => ?_)
    have loop : ∀ (n k : Nat) (ls : Array Slot) (H : Heap) (locs : List Loc), k + n = 6 → ys_M D A s (wX ad kd ((z_lr u (fun k => 6 * k + r) k).2)) H locs → lv_has ls 4 [(0, .ref (ad 0)), (1, .int (nI r)), (2, .int (nI ((z_lr u (fun k => 6 * k + r) k).1))), (3, .int (nI k))] → W p l e ({ frames := 2, cells := 0, slots := 0, locals := 45 } : Room) s m ([.ref (ad 0), .int (nI r)] : List Value).toArray below meth cd H locs 0 0 (ys_QI D (tX kd) below ([.ref (ad 0), .int (nI r)] : List Value).toArray s A (wX ad kd ((z_lr u (fun k => 6 * k + r) 6).2)) (nI (z_lr u (fun k => 6 * k + r) 6).1)) (F0 m 14 ls []) := by
      intro n
      induction n with
      | zero =>
        intro k ls H locs hkn hM hl
        refine lv_iload_n hx hb dX0_loseColumn_14 rfl (lv_at hl 3 rfl) ?_
        refine lv_bipush (v := (nI 6)) hx hb dX0_loseColumn_15 (by decide) ?_
        refine ys_icmp_ge (i := k) (j := 6) (tgt := 35) hx hb dX0_loseColumn_17 (by decide) (by omega) (by omega) (fun h1 => ?_) (fun h1 => ?_)
        · refine lv_iload_n hx hb dX0_loseColumn_35 rfl (lv_at hl 2 rfl) ?_
          obtain rfl : k = 6 := by omega
          exact ys_iret hx hb hr hlocks hK hM rfl dX0_loseColumn_36
        · exact absurd h1 (by omega)
      | succ n ih =>
        intro k ls H locs hkn hM hl
        refine lv_iload_n hx hb dX0_loseColumn_14 rfl (lv_at hl 3 rfl) ?_
        refine lv_bipush (v := (nI 6)) hx hb dX0_loseColumn_15 (by decide) ?_
        refine ys_icmp_ge (i := k) (j := 6) (tgt := 35) hx hb dX0_loseColumn_17 (by decide) (by omega) (by omega) (fun h1 => ?_) (fun h1 => ?_)
        · exact absurd h1 (by omega)
        · refine lv_iload_n hx hb dX0_loseColumn_20 rfl (lv_at hl 2 rfl) ?_
          refine lv_aload_n hx hb dX0_loseColumn_21 rfl (lv_at hl 0 rfl) ?_
          refine lv_iload_n hx hb dX0_loseColumn_22 rfl (lv_at hl 3 rfl) ?_
          refine lv_iload_n hx hb dX0_loseColumn_23 rfl (lv_at hl 1 rfl) ?_
          refine ys_callI (As := [.int (nI k), .int (nI r)]) (rest := [.int (nI ((z_lr u (fun k => 6 * k + r) k).1))]) (w1 := (wX ad kd (z_lose (z_lr u (fun k => 6 * k + r) k).2 (6 * k + r)))) (ci := 0) (q0 := 0) (qq := (RX0, TX0, 8)) ⟨hx, hb, hml, hown, hts⟩ (cx_lose l D ad kd (z_lr u (fun k => 6 * k + r) k).2 k r (by omega) hr5) (cwV 2 hts (lw_V q83 q73 q74 q12 q75) rfl rfl rfl (by decide +kernel) ⟨Nat.le_of_ble_eq_true rfl, Nat.le_of_ble_eq_true rfl⟩) hK hA hM rfl rfl hl.1 rfl rfl (Nat.le_of_ble_eq_true rfl) ⟨Nat.zero_le _, Nat.zero_le _⟩ dX0_loseColumn_24 (fun H locs hM => ?_)
          refine ys_iadd (i := ((z_lr u (fun k => 6 * k + r) k).1)) (j := (z_was (z_lr u (fun k => 6 * k + r) k).2.2.1 (6 * k + r))) hx hb dX0_loseColumn_27 ?_
          refine lv_istore_n (lv' := [(2, .int (nI (((z_lr u (fun k => 6 * k + r) k).1) + (z_was (z_lr u (fun k => 6 * k + r) k).2.2.1 (6 * k + r))))), (0, .ref (ad 0)), (1, .int (nI r)), (3, .int (nI k))]) hx hb dX0_loseColumn_28 rfl hl (by decide) rfl (fun ls hl => ?_)
          refine lv_iinc (v := (nI (k + 1))) (lv' := [(3, .int (nI (k + 1))), (2, .int (nI (((z_lr u (fun k => 6 * k + r) k).1) + (z_was (z_lr u (fun k => 6 * k + r) k).2.2.1 (6 * k + r))))), (0, .ref (ad 0)), (1, .int (nI r))]) hx hb dX0_loseColumn_29 hl (k := 3) rfl (ys_inc k) (by decide) rfl (fun ls hl => ?_)
          refine lv_goto (tgt := 14) hx hb dX0_loseColumn_32 (by decide) ?_
          exact ih (k + 1) ls _ _ (by omega) hM (lv_sub hl [2, 3, 1, 0] rfl)
    exact loop 6 0 ls _ _ (by omega) hM (lv_sub hl [2, 3, 1, 0] rfl)
  · exact absurd h0 (by decide)
end
section
theorem z_fl_t0 {sym : Nat → Nat} {gone : Nat → Bool} {st sd : Nat} {v : (Nat → Nat) × Nat × Nat × Nat} {k : Nat} (hg : gone (st + sd * k) = true) (h : (z_fl sym gone st sd v k).2.2.2 = 0) : z_fl sym gone st sd v (k + 1) = (va_up (z_fl sym gone st sd v k).1 k 0, k, (z_fl sym gone st sd v k).2.2.1, (z_fl sym gone st sd v k).2.2.2 + 1) := by
  show z_fs (gone (st + sd * k)) _ k _ = _
  rw [hg]
  unfold z_fs
  dsimp only
  rw [if_pos h, if_pos h]
theorem z_fl_t1 {sym : Nat → Nat} {gone : Nat → Bool} {st sd : Nat} {v : (Nat → Nat) × Nat × Nat × Nat} {k : Nat} (hg : gone (st + sd * k) = true) (h : ¬ (z_fl sym gone st sd v k).2.2.2 = 0) : z_fl sym gone st sd v (k + 1) = (va_up (z_fl sym gone st sd v k).1 k 0, (z_fl sym gone st sd v k).2.1, k, (z_fl sym gone st sd v k).2.2.2 + 1) := by
  show z_fs (gone (st + sd * k)) _ k _ = _
  rw [hg]
  unfold z_fs
  dsimp only
  rw [if_neg h, if_neg h]
theorem z_fl_no {sym : Nat → Nat} {gone : Nat → Bool} {st sd : Nat} {v : (Nat → Nat) × Nat × Nat × Nat} {k : Nat} (hg : gone (st + sd * k) = false) : z_fl sym gone st sd v (k + 1) = (va_up (z_fl sym gone st sd v k).1 k (sym (st + sd * k)), (z_fl sym gone st sd v k).2) := by
  show z_fs (gone (st + sd * k)) _ k _ = _
  rw [hg]
  unfold z_fs
  rfl
theorem z_ml34_1 {t : zS} (st sd : Nat) (h : t.2.2.2.2.2 = 1) : z_ml4 st sd (z_ml3 t) = z_keep (t.1, t.2.1, z_m1 t.2.2.1 t.2.2.2.1 (z_sm 0 t.2.2.1 6) (z_sm 1 t.2.2.1 6), t.2.2.2.1, t.2.2.2.2.1, t.2.2.2.2.2) st sd t.2.2.2.1 := by
  unfold z_ml4 z_ml3
  dsimp only
  rw [if_pos h, if_neg (by omega)]
theorem z_ml34_2 {t : zS} (st sd : Nat) (h : t.2.2.2.2.2 = 2) : z_ml4 st sd (z_ml3 t) = z_keep (z_keep (t.1, t.2.1, z_m2 t.2.2.1 t.2.2.2.1 t.2.2.2.2.1 (z_sm 0 t.2.2.1 6) (z_sm 1 t.2.2.1 6), t.2.2.2.1, t.2.2.2.2.1, t.2.2.2.2.2) st sd t.2.2.2.1) st sd t.2.2.2.2.1 := by
  unfold z_ml4 z_ml3
  dsimp only
  rw [if_pos h, if_neg (show ¬ t.2.2.2.2.2 = 1 by omega)]
set_option maxHeartbeats 4000000 in
set_option maxRecDepth 100000 in
/-- the line is read, its lost cells are found -/
theorem cx_findLost (l : Launch) (D : va_G) (ad : Nat → Nat) (kd : Nat → ClassId) (u : zS) (st sd : Nat) (hc : ∀ k, k < 6 → st + sd * k < 36) : ys_V l yX0_findLost (ws_ yX0_findLost cX0_findLost 5 none) ({ frames := 0, cells := 0, slots := 0, locals := 0 } : Room) D (tX kd) [.ref (ad 0), .int (nI st), .int (nI sd)] (wX ad kd u) (wX ad kd (u.1, u.2.1, z_fl u.1 u.2.1 st sd u.2.2 6)) := by
  refine ys_V.mk (own := RX0) (by decide) rfl (Nat.le_of_ble_eq_true rfl) ?_
  intro p e s m below meth cd A ls E hK hA hM hl
  obtain ⟨hx, hb, hr, hml, hown, hts, hlocks⟩ := E
  have hl : lv_has ls 5 [(0, .ref (ad 0)), (1, .int (nI st)), (2, .int (nI sd))] := hl
  refine lv_aload_n hx hb dX0_findLost_0 rfl (lv_at hl 0 rfl) ?_
  refine lv_iconst (v := (nI 0)) hx hb dX0_findLost_1 (by decide) ?_
  refine ys_put (ci := 0) (v := .int (nI 0)) (ty := .int) (C := RX0) (T := TX0) (N := 8) (w' := (wX ad kd (u.1, u.2.1, u.2.2.1, u.2.2.2.1, u.2.2.2.2.1, 0))) hx hb hts in_X0 tyX0 tyX0_ok nmX0 hown hK hM 0 rfl rfl 7 (by decide) (hts _ q29) (fun _ h9 => h9) rfl (by decide +kernel) rfl rfl (Nat.le_of_ble_eq_true rfl) dX0_findLost_2 rfl (fun H locs hM => ?_)
  refine lv_iconst (v := (nI 0)) hx hb dX0_findLost_5 (by decide) ?_
  refine lv_istore_n (lv' := [(3, .int (nI 0)), (0, .ref (ad 0)), (1, .int (nI st)), (2, .int (nI sd))]) hx hb dX0_findLost_6 rfl hl (by decide) rfl (fun ls hl => ?_)
  have loop : ∀ (n k : Nat) (ls : Array Slot) (H : Heap) (locs : List Loc), k + n = 6 → ys_M D A s (wX ad kd (u.1, u.2.1, (z_fl u.1 u.2.1 st sd u.2.2 k).1, (z_fl u.1 u.2.1 st sd u.2.2 k).2.1, (z_fl u.1 u.2.1 st sd u.2.2 k).2.2.1, (z_fl u.1 u.2.1 st sd u.2.2 k).2.2.2)) H locs → lv_has ls 5 [(0, .ref (ad 0)), (1, .int (nI st)), (2, .int (nI sd)), (3, .int (nI k))] → W p l e ({ frames := 0, cells := 0, slots := 0, locals := 0 } : Room) s m ([.ref (ad 0), .int (nI st), .int (nI sd)] : List Value).toArray below meth cd H locs 0 0 (ys_QV D (tX kd) below ([.ref (ad 0), .int (nI st), .int (nI sd)] : List Value).toArray s A (wX ad kd (u.1, u.2.1, z_fl u.1 u.2.1 st sd u.2.2 6))) (F0 m 7 ls []) := by
    intro n
    induction n with
    | zero =>
      intro k ls H locs hkn hM hl
      refine lv_iload_n hx hb dX0_findLost_7 rfl (lv_at hl 3 rfl) ?_
      refine lv_bipush (v := (nI 6)) hx hb dX0_findLost_8 (by decide) ?_
      refine ys_icmp_ge (i := k) (j := 6) (tgt := 93) hx hb dX0_findLost_10 (by decide) (by omega) (by omega) (fun h0 => ?_) (fun h0 => ?_)
      · obtain rfl : k = 6 := by omega
        exact ys_vret hx hb hr hlocks hK hM dX0_findLost_93
      · exact absurd h0 (by omega)
    | succ n ih =>
      intro k ls H locs hkn hM hl
      have hn := z_fl_n u.1 u.2.1 st sd u.2.2 k
      refine lv_iload_n hx hb dX0_findLost_7 rfl (lv_at hl 3 rfl) ?_
      refine lv_bipush (v := (nI 6)) hx hb dX0_findLost_8 (by decide) ?_
      refine ys_icmp_ge (i := k) (j := 6) (tgt := 93) hx hb dX0_findLost_10 (by decide) (by omega) (by omega) (fun h0 => ?_) (fun h0 => ?_)
      · exact absurd h0 (by omega)
      · have hck := hc k h0
        refine lv_iload_n hx hb dX0_findLost_13 rfl (lv_at hl 1 rfl) ?_
        refine lv_iload_n hx hb dX0_findLost_14 rfl (lv_at hl 2 rfl) ?_
        refine lv_iload_n hx hb dX0_findLost_15 rfl (lv_at hl 3 rfl) ?_
        refine ys_imul (i := sd) (j := k) hx hb dX0_findLost_16 ?_
        refine ys_iadd (i := st) (j := (sd * k)) hx hb dX0_findLost_17 ?_
        refine lv_istore (lv' := [(4, .int (nI (st + (sd * k)))), (0, .ref (ad 0)), (1, .int (nI st)), (2, .int (nI sd)), (3, .int (nI k))]) hx hb dX0_findLost_18 hl (by decide) rfl (fun ls hl => ?_)
        refine lv_aload_n hx hb dX0_findLost_20 rfl (lv_at hl 1 rfl) ?_
        refine va_get (D := D) (ci := 0) (v := .ref (ad 5)) (C := RX0) (T := TX0) (N := 8) hx hb hts in_X0 hown hK hM.1 0 rfl rfl 4 (by decide) (hts _ q26) (fun _ h9 => h9) rfl dX0_findLost_21 ?_
        refine lv_iload_n hx hb dX0_findLost_24 rfl (lv_at hl 4 rfl) ?_
        refine lv_aload_n hx hb dX0_findLost_25 rfl (lv_at hl 1 rfl) ?_
        refine va_get (D := D) (ci := 0) (v := .ref (ad 2)) (C := RX0) (T := TX0) (N := 8) hx hb hts in_X0 hown hK hM.1 0 rfl rfl 1 (by decide) (hts _ q23) (fun _ h9 => h9) rfl dX0_findLost_26 ?_
        refine lv_iload hx hb dX0_findLost_29 (lv_at hl 0 rfl) ?_
        refine ys_zald (i := (st + (sd * k))) hx hb hK hM 2 1 rfl rfl (by omega) (by decide) dX0_findLost_31 ?_
        refine ys_ifb_eq (b := (u.2.1 (st + (sd * k)))) (tgt := 39) hx hb dX0_findLost_32 (by decide) (fun h1 => ?_) (fun h1 => ?_)
        · refine lv_aload_n hx hb dX0_findLost_39 rfl (lv_at hl 1 rfl) ?_
          refine va_get (D := D) (ci := 0) (v := .ref (ad 1)) (C := RX0) (T := TX0) (N := 8) hx hb hts in_X0 hown hK hM.1 0 rfl rfl 0 (by decide) (hts _ q22) (fun _ h9 => h9) rfl dX0_findLost_40 ?_
          refine lv_iload hx hb dX0_findLost_43 (lv_at hl 0 rfl) ?_
          refine ys_iald (i := (st + (sd * k))) hx hb hK hM 1 0 rfl rfl (by omega) (by decide) dX0_findLost_45 ?_
          refine ys_iast (i := k) (v := (u.1 (st + (sd * k)))) (w' := (wX ad kd (u.1, u.2.1, va_up ((z_fl u.1 u.2.1 st sd u.2.2 k).1) k (u.1 (st + (sd * k))), (z_fl u.1 u.2.1 st sd u.2.2 k).2.1, (z_fl u.1 u.2.1 st sd u.2.2 k).2.2.1, (z_fl u.1 u.2.1 st sd u.2.2 k).2.2.2))) hx hb hK hM 5 4 rfl rfl (by omega) (by decide) dX0_findLost_46 rfl (fun H locs hM => ?_)
          refine lv_aload_n hx hb dX0_findLost_47 rfl (lv_at hl 1 rfl) ?_
          refine va_get (D := D) (ci := 0) (v := .ref (ad 2)) (C := RX0) (T := TX0) (N := 8) hx hb hts in_X0 hown hK hM.1 0 rfl rfl 1 (by decide) (hts _ q23) (fun _ h9 => h9) rfl dX0_findLost_48 ?_
          refine lv_iload hx hb dX0_findLost_51 (lv_at hl 0 rfl) ?_
          refine ys_zald (i := (st + (sd * k))) hx hb hK hM 2 1 rfl rfl (by omega) (by decide) dX0_findLost_53 ?_
          refine ys_ifb_eq (b := (u.2.1 (st + (sd * k)))) (tgt := 87) hx hb dX0_findLost_54 (by decide) (fun h2 => ?_) (fun h2 => ?_)
          · refine lv_iinc (v := (nI (k + 1))) (lv' := [(3, .int (nI (k + 1))), (4, .int (nI (st + (sd * k)))), (0, .ref (ad 0)), (1, .int (nI st)), (2, .int (nI sd))]) hx hb dX0_findLost_87 hl (k := 4) rfl (ys_inc k) (by decide) rfl (fun ls hl => ?_)
            refine lv_goto (tgt := 7) hx hb dX0_findLost_90 (by decide) ?_
            refine ih (k + 1) ls _ _ (by omega) ?_ (lv_sub hl [2, 3, 4, 0] rfl)
            rw [z_fl_no h1]
            exact hM
          · exact absurd (h1.symm.trans h2) (by decide)
        · refine lv_iconst (v := (nI 0)) hx hb dX0_findLost_35 (by decide) ?_
          refine lv_goto (tgt := 46) hx hb dX0_findLost_36 (by decide) ?_
          refine ys_iast (i := k) (v := 0) (w' := (wX ad kd (u.1, u.2.1, va_up ((z_fl u.1 u.2.1 st sd u.2.2 k).1) k 0, (z_fl u.1 u.2.1 st sd u.2.2 k).2.1, (z_fl u.1 u.2.1 st sd u.2.2 k).2.2.1, (z_fl u.1 u.2.1 st sd u.2.2 k).2.2.2))) hx hb hK hM 5 4 rfl rfl (by omega) (by decide) dX0_findLost_46 rfl (fun H locs hM => ?_)
          refine lv_aload_n hx hb dX0_findLost_47 rfl (lv_at hl 1 rfl) ?_
          refine va_get (D := D) (ci := 0) (v := .ref (ad 2)) (C := RX0) (T := TX0) (N := 8) hx hb hts in_X0 hown hK hM.1 0 rfl rfl 1 (by decide) (hts _ q23) (fun _ h9 => h9) rfl dX0_findLost_48 ?_
          refine lv_iload hx hb dX0_findLost_51 (lv_at hl 0 rfl) ?_
          refine ys_zald (i := (st + (sd * k))) hx hb hK hM 2 1 rfl rfl (by omega) (by decide) dX0_findLost_53 ?_
          refine ys_ifb_eq (b := (u.2.1 (st + (sd * k)))) (tgt := 87) hx hb dX0_findLost_54 (by decide) (fun h2 => ?_) (fun h2 => ?_)
          · exact absurd (h1.symm.trans h2) (by decide)
          · refine lv_aload_n hx hb dX0_findLost_57 rfl (lv_at hl 1 rfl) ?_
            refine va_get (D := D) (ci := 0) (v := .int (nI ((z_fl u.1 u.2.1 st sd u.2.2 k).2.2.2))) (C := RX0) (T := TX0) (N := 8) hx hb hts in_X0 hown hK hM.1 0 rfl rfl 7 (by decide) (hts _ q29) (fun _ h9 => h9) rfl dX0_findLost_58 ?_
            refine ys_if_ne (i := ((z_fl u.1 u.2.1 st sd u.2.2 k).2.2.2)) (tgt := 72) hx hb dX0_findLost_61 (by decide) (by omega) (fun h3 => ?_) (fun h3 => ?_)
            · refine lv_aload_n hx hb dX0_findLost_72 rfl (lv_at hl 1 rfl) ?_
              refine lv_iload_n hx hb dX0_findLost_73 rfl (lv_at hl 4 rfl) ?_
              refine ys_put (ci := 0) (v := .int (nI k)) (ty := .int) (C := RX0) (T := TX0) (N := 8) (w' := (wX ad kd (u.1, u.2.1, va_up ((z_fl u.1 u.2.1 st sd u.2.2 k).1) k 0, (z_fl u.1 u.2.1 st sd u.2.2 k).2.1, k, (z_fl u.1 u.2.1 st sd u.2.2 k).2.2.2))) hx hb hts in_X0 tyX0 tyX0_ok nmX0 hown hK hM 0 rfl rfl 6 (by decide) (hts _ q28) (fun _ h9 => h9) rfl (by decide +kernel) rfl rfl (Nat.le_of_ble_eq_true rfl) dX0_findLost_74 rfl (fun H locs hM => ?_)
              refine lv_aload_n hx hb dX0_findLost_77 rfl (lv_at hl 1 rfl) ?_
              refine lv_dup hx hb dX0_findLost_78 rfl ?_
              refine va_get (D := D) (ci := 0) (v := .int (nI ((z_fl u.1 u.2.1 st sd u.2.2 k).2.2.2))) (C := RX0) (T := TX0) (N := 8) hx hb hts in_X0 hown hK hM.1 0 rfl rfl 7 (by decide) (hts _ q29) (fun _ h9 => h9) rfl dX0_findLost_79 ?_
              refine lv_iconst (v := (nI 1)) hx hb dX0_findLost_82 (by decide) ?_
              refine ys_iadd (i := ((z_fl u.1 u.2.1 st sd u.2.2 k).2.2.2)) (j := 1) hx hb dX0_findLost_83 ?_
              refine ys_put (ci := 0) (v := .int (nI (((z_fl u.1 u.2.1 st sd u.2.2 k).2.2.2) + 1))) (ty := .int) (C := RX0) (T := TX0) (N := 8) (w' := (wX ad kd (u.1, u.2.1, va_up ((z_fl u.1 u.2.1 st sd u.2.2 k).1) k 0, (z_fl u.1 u.2.1 st sd u.2.2 k).2.1, k, ((z_fl u.1 u.2.1 st sd u.2.2 k).2.2.2) + 1))) hx hb hts in_X0 tyX0 tyX0_ok nmX0 hown hK hM 0 rfl rfl 7 (by decide) (hts _ q29) (fun _ h9 => h9) rfl (by decide +kernel) rfl rfl (Nat.le_of_ble_eq_true rfl) dX0_findLost_84 rfl (fun H locs hM => ?_)
              refine lv_iinc (v := (nI (k + 1))) (lv' := [(3, .int (nI (k + 1))), (4, .int (nI (st + (sd * k)))), (0, .ref (ad 0)), (1, .int (nI st)), (2, .int (nI sd))]) hx hb dX0_findLost_87 hl (k := 4) rfl (ys_inc k) (by decide) rfl (fun ls hl => ?_)
              refine lv_goto (tgt := 7) hx hb dX0_findLost_90 (by decide) ?_
              refine ih (k + 1) ls _ _ (by omega) ?_ (lv_sub hl [2, 3, 4, 0] rfl)
              rw [z_fl_t1 h1 h3]
              exact hM
            · refine lv_aload_n hx hb dX0_findLost_64 rfl (lv_at hl 1 rfl) ?_
              refine lv_iload_n hx hb dX0_findLost_65 rfl (lv_at hl 4 rfl) ?_
              refine ys_put (ci := 0) (v := .int (nI k)) (ty := .int) (C := RX0) (T := TX0) (N := 8) (w' := (wX ad kd (u.1, u.2.1, va_up ((z_fl u.1 u.2.1 st sd u.2.2 k).1) k 0, k, (z_fl u.1 u.2.1 st sd u.2.2 k).2.2.1, (z_fl u.1 u.2.1 st sd u.2.2 k).2.2.2))) hx hb hts in_X0 tyX0 tyX0_ok nmX0 hown hK hM 0 rfl rfl 5 (by decide) (hts _ q27) (fun _ h9 => h9) rfl (by decide +kernel) rfl rfl (Nat.le_of_ble_eq_true rfl) dX0_findLost_66 rfl (fun H locs hM => ?_)
              refine lv_goto (tgt := 77) hx hb dX0_findLost_69 (by decide) ?_
              refine lv_aload_n hx hb dX0_findLost_77 rfl (lv_at hl 1 rfl) ?_
              refine lv_dup hx hb dX0_findLost_78 rfl ?_
              refine va_get (D := D) (ci := 0) (v := .int (nI ((z_fl u.1 u.2.1 st sd u.2.2 k).2.2.2))) (C := RX0) (T := TX0) (N := 8) hx hb hts in_X0 hown hK hM.1 0 rfl rfl 7 (by decide) (hts _ q29) (fun _ h9 => h9) rfl dX0_findLost_79 ?_
              refine lv_iconst (v := (nI 1)) hx hb dX0_findLost_82 (by decide) ?_
              refine ys_iadd (i := ((z_fl u.1 u.2.1 st sd u.2.2 k).2.2.2)) (j := 1) hx hb dX0_findLost_83 ?_
              refine ys_put (ci := 0) (v := .int (nI (((z_fl u.1 u.2.1 st sd u.2.2 k).2.2.2) + 1))) (ty := .int) (C := RX0) (T := TX0) (N := 8) (w' := (wX ad kd (u.1, u.2.1, va_up ((z_fl u.1 u.2.1 st sd u.2.2 k).1) k 0, k, (z_fl u.1 u.2.1 st sd u.2.2 k).2.2.1, ((z_fl u.1 u.2.1 st sd u.2.2 k).2.2.2) + 1))) hx hb hts in_X0 tyX0 tyX0_ok nmX0 hown hK hM 0 rfl rfl 7 (by decide) (hts _ q29) (fun _ h9 => h9) rfl (by decide +kernel) rfl rfl (Nat.le_of_ble_eq_true rfl) dX0_findLost_84 rfl (fun H locs hM => ?_)
              refine lv_iinc (v := (nI (k + 1))) (lv' := [(3, .int (nI (k + 1))), (4, .int (nI (st + (sd * k)))), (0, .ref (ad 0)), (1, .int (nI st)), (2, .int (nI sd))]) hx hb dX0_findLost_87 hl (k := 4) rfl (ys_inc k) (by decide) rfl (fun ls hl => ?_)
              refine lv_goto (tgt := 7) hx hb dX0_findLost_90 (by decide) ?_
              refine ih (k + 1) ls _ _ (by omega) ?_ (lv_sub hl [2, 3, 4, 0] rfl)
              rw [z_fl_t0 h1 h3]
              exact hM
  exact loop 6 0 ls _ _ (by omega) hM (lv_sub hl [1, 2, 3, 0] rfl)
set_option maxHeartbeats 4000000 in
set_option maxRecDepth 100000 in
/-- a sum of the line -/
theorem cx_sumOf (l : Launch) (D : va_G) (ad : Nat → Nat) (kd : Nat → ClassId) (u : zS) (sm : Nat) (hs : sm < 2 ^ 31) (hu : ∀ j, u.2.2.1 j < 256) : ys_I l yX0_sumOf (ws_ yX0_sumOf cX0_sumOf 5 (some .int)) ({ frames := 1, cells := 0, slots := 0, locals := 22 } : Room) D (tX kd) [.ref (ad 0), .int (nI sm)] (wX ad kd u) (wX ad kd u) (nI (z_sm sm u.2.2.1 6)) := by
  refine ys_I.mk (own := RX0) (by decide) rfl (Nat.le_of_ble_eq_true rfl) ?_
  intro p e s m below meth cd A ls E hK hA hM hl
  obtain ⟨hx, hb, hr, hml, hown, hts, hlocks⟩ := E
  have hl : lv_has ls 5 [(0, .ref (ad 0)), (1, .int (nI sm))] := hl
  refine lv_iconst (v := (nI 0)) hx hb dX0_sumOf_0 (by decide) ?_
  refine lv_istore_n (lv' := [(2, .int (nI 0)), (0, .ref (ad 0)), (1, .int (nI sm))]) hx hb dX0_sumOf_1 rfl hl (by decide) rfl (fun ls hl => ?_)
  refine lv_iconst (v := (nI 0)) hx hb dX0_sumOf_2 (by decide) ?_
  refine lv_istore_n (lv' := [(3, .int (nI 0)), (2, .int (nI 0)), (0, .ref (ad 0)), (1, .int (nI sm))]) hx hb dX0_sumOf_3 rfl hl (by decide) rfl (fun ls hl => ?_)
  have loop : ∀ (n k : Nat) (ls : Array Slot) (H : Heap) (locs : List Loc), k + n = 6 → ys_M D A s (wX ad kd u) H locs → lv_has ls 5 [(0, .ref (ad 0)), (1, .int (nI sm)), (2, .int (nI (z_sm sm u.2.2.1 k))), (3, .int (nI k))] → W p l e ({ frames := 1, cells := 0, slots := 0, locals := 22 } : Room) s m ([.ref (ad 0), .int (nI sm)] : List Value).toArray below meth cd H locs 0 0 (ys_QI D (tX kd) below ([.ref (ad 0), .int (nI sm)] : List Value).toArray s A (wX ad kd u) (nI (z_sm sm u.2.2.1 6))) (F0 m 4 ls []) := by
    intro n
    induction n with
    | zero =>
      intro k ls H locs hkn hM hl
      refine lv_iload_n hx hb dX0_sumOf_4 rfl (lv_at hl 3 rfl) ?_
      refine lv_bipush (v := (nI 6)) hx hb dX0_sumOf_5 (by decide) ?_
      refine ys_icmp_ge (i := k) (j := 6) (tgt := 39) hx hb dX0_sumOf_7 (by decide) (by omega) (by omega) (fun h0 => ?_) (fun h0 => ?_)
      · refine lv_iload_n hx hb dX0_sumOf_39 rfl (lv_at hl 2 rfl) ?_
        obtain rfl : k = 6 := by omega
        exact ys_iret hx hb hr hlocks hK hM rfl dX0_sumOf_40
      · exact absurd h0 (by omega)
    | succ n ih =>
      intro k ls H locs hkn hM hl
      refine lv_iload_n hx hb dX0_sumOf_4 rfl (lv_at hl 3 rfl) ?_
      refine lv_bipush (v := (nI 6)) hx hb dX0_sumOf_5 (by decide) ?_
      refine ys_icmp_ge (i := k) (j := 6) (tgt := 39) hx hb dX0_sumOf_7 (by decide) (by omega) (by omega) (fun h0 => ?_) (fun h0 => ?_)
      · exact absurd h0 (by omega)
      · refine lv_aload_n hx hb dX0_sumOf_10 rfl (lv_at hl 0 rfl) ?_
        refine lv_iload_n hx hb dX0_sumOf_11 rfl (lv_at hl 1 rfl) ?_
        refine lv_iload_n hx hb dX0_sumOf_12 rfl (lv_at hl 3 rfl) ?_
        refine ys_callI (As := [.int (nI sm), .int (nI k)]) (rest := []) (w1 := (wX ad kd u)) (ci := 0) (q0 := 0) (qq := (RX0, TX0, 8)) ⟨hx, hb, hml, hown, hts⟩ (cx_weight l D ad kd u sm k hs (by omega)) (cwV 2 hts (lw_V q56 q58 qs0 q12 q59) rfl rfl rfl (by decide +kernel) ⟨Nat.le_of_ble_eq_true rfl, Nat.le_of_ble_eq_true rfl⟩) hK hA hM rfl rfl hl.1 rfl rfl (Nat.le_of_ble_eq_true rfl) ⟨Nat.zero_le _, Nat.zero_le _⟩ dX0_sumOf_13 (fun H locs hM => ?_)
        refine lv_istore (lv' := [(4, .int (nI (z_wt sm k))), (0, .ref (ad 0)), (1, .int (nI sm)), (2, .int (nI (z_sm sm u.2.2.1 k))), (3, .int (nI k))]) hx hb dX0_sumOf_16 hl (by decide) rfl (fun ls hl => ?_)
        refine lv_iload_n hx hb dX0_sumOf_18 rfl (lv_at hl 3 rfl) ?_
        refine lv_aload_n hx hb dX0_sumOf_19 rfl (lv_at hl 1 rfl) ?_
        refine lv_iload hx hb dX0_sumOf_20 (lv_at hl 0 rfl) ?_
        refine lv_aload_n hx hb dX0_sumOf_22 rfl (lv_at hl 1 rfl) ?_
        refine va_get (D := D) (ci := 0) (v := .ref (ad 5)) (C := RX0) (T := TX0) (N := 8) hx hb hts in_X0 hown hK hM.1 0 rfl rfl 4 (by decide) (hts _ q26) (fun _ h9 => h9) rfl dX0_sumOf_23 ?_
        refine lv_iload_n hx hb dX0_sumOf_26 rfl (lv_at hl 4 rfl) ?_
        refine ys_iald (i := k) hx hb hK hM 5 4 rfl rfl (by omega) (by decide) dX0_sumOf_27 ?_
        refine ys_callI (As := [.int (nI (z_wt sm k)), .int (nI (u.2.2.1 k))]) (rest := [.int (nI (z_sm sm u.2.2.1 k))]) (w1 := (wX ad kd u)) (ci := 0) (q0 := 0) (qq := (RX0, TX0, 8)) ⟨hx, hb, hml, hown, hts⟩ (cx_times l D ad kd u (z_wt sm k) (u.2.2.1 k) (z_wt_lt _ _) (hu k)) (cwV 2 hts (lw_V q60 q62 qs1 q12 q63) rfl rfl rfl (by decide +kernel) ⟨Nat.le_of_ble_eq_true rfl, Nat.le_of_ble_eq_true rfl⟩) hK hA hM rfl rfl hl.1 rfl rfl (Nat.le_of_ble_eq_true rfl) ⟨Nat.zero_le _, Nat.zero_le _⟩ dX0_sumOf_28 (fun H locs hM => ?_)
        refine ys_ixor (i := (z_sm sm u.2.2.1 k)) (j := (z_gm (z_wt sm k) (u.2.2.1 k))) hx hb dX0_sumOf_31 ?_
        refine lv_istore_n (lv' := [(2, .int (nI ((z_sm sm u.2.2.1 k) ^^^ (z_gm (z_wt sm k) (u.2.2.1 k))))), (4, .int (nI (z_wt sm k))), (0, .ref (ad 0)), (1, .int (nI sm)), (3, .int (nI k))]) hx hb dX0_sumOf_32 rfl hl (by decide) rfl (fun ls hl => ?_)
        refine lv_iinc (v := (nI (k + 1))) (lv' := [(3, .int (nI (k + 1))), (2, .int (nI ((z_sm sm u.2.2.1 k) ^^^ (z_gm (z_wt sm k) (u.2.2.1 k))))), (4, .int (nI (z_wt sm k))), (0, .ref (ad 0)), (1, .int (nI sm))]) hx hb dX0_sumOf_33 hl (k := 4) rfl (ys_inc k) (by decide) rfl (fun ls hl => ?_)
        refine lv_goto (tgt := 4) hx hb dX0_sumOf_36 (by decide) ?_
        exact ih (k + 1) ls _ _ (by omega) hM (lv_sub hl [3, 4, 1, 0] rfl)
  exact loop 6 0 ls _ _ (by omega) hM (lv_sub hl [2, 3, 1, 0] rfl)
set_option maxHeartbeats 4000000 in
set_option maxRecDepth 100000 in
/-- one lost cell of the line -/
theorem cx_mendOne (l : Launch) (D : va_G) (ad : Nat → Nat) (kd : Nat → ClassId) (u : zS) (p0 w0 : Nat) (hp : p0 < 256) (hw : w0 < 256) (hf : u.2.2.2.1 < 6) : ys_V l yX0_mendOne (ws_ yX0_mendOne cX0_mendOne 5 none) ({ frames := 1, cells := 0, slots := 0, locals := 22 } : Room) D (tX kd) [.ref (ad 0), .int (nI p0), .int (nI w0)] (wX ad kd u) (wX ad kd (u.1, u.2.1, z_m1 u.2.2.1 u.2.2.2.1 p0 w0, u.2.2.2.1, u.2.2.2.2.1, u.2.2.2.2.2)) := by
  have q1 := z_wt_lt 0 u.2.2.2.1
  refine ys_V.mk (own := RX0) (by decide) rfl (Nat.le_of_ble_eq_true rfl) ?_
  intro p e s m below meth cd A ls E hK hA hM hl
  obtain ⟨hx, hb, hr, hml, hown, hts, hlocks⟩ := E
  have hl : lv_has ls 5 [(0, .ref (ad 0)), (1, .int (nI p0)), (2, .int (nI w0))] := hl
  refine lv_aload_n hx hb dX0_mendOne_0 rfl (lv_at hl 0 rfl) ?_
  refine lv_iconst (v := (nI 0)) hx hb dX0_mendOne_1 (by decide) ?_
  refine lv_aload_n hx hb dX0_mendOne_2 rfl (lv_at hl 0 rfl) ?_
  refine va_get (D := D) (ci := 0) (v := .int (nI u.2.2.2.1)) (C := RX0) (T := TX0) (N := 8) hx hb hts in_X0 hown hK hM.1 0 rfl rfl 5 (by decide) (hts _ q27) (fun _ h9 => h9) rfl dX0_mendOne_3 ?_
  refine ys_callI (As := [.int (nI 0), .int (nI u.2.2.2.1)]) (rest := []) (w1 := (wX ad kd u)) (ci := 0) (q0 := 0) (qq := (RX0, TX0, 8)) ⟨hx, hb, hml, hown, hts⟩ (cx_weight l D ad kd u 0 u.2.2.2.1 (by decide) (by omega)) (cwV 2 hts (lw_V q56 q58 qs0 q12 q59) rfl rfl rfl (by decide +kernel) ⟨Nat.le_of_ble_eq_true rfl, Nat.le_of_ble_eq_true rfl⟩) hK hA hM rfl rfl hl.1 rfl rfl (Nat.le_of_ble_eq_true rfl) ⟨Nat.zero_le _, Nat.zero_le _⟩ dX0_mendOne_6 (fun H locs hM => ?_)
  refine lv_istore_n (lv' := [(3, .int (nI (z_wt 0 u.2.2.2.1))), (0, .ref (ad 0)), (1, .int (nI p0)), (2, .int (nI w0))]) hx hb dX0_mendOne_9 rfl hl (by decide) rfl (fun ls hl => ?_)
  refine lv_iload_n hx hb dX0_mendOne_10 rfl (lv_at hl 0 rfl) ?_
  refine ys_if_eq (i := (z_wt 0 u.2.2.2.1)) (tgt := 32) hx hb dX0_mendOne_11 (by decide) (by omega) (fun h1 => ?_) (fun h1 => ?_)
  · rw [show z_m1 u.2.2.1 u.2.2.2.1 p0 w0 = va_up u.2.2.1 u.2.2.2.1 (z_dv w0 (z_wt 1 u.2.2.2.1)) from if_pos h1]
    refine lv_aload_n hx hb dX0_mendOne_32 rfl (lv_at hl 1 rfl) ?_
    refine lv_iconst (v := (nI 1)) hx hb dX0_mendOne_33 (by decide) ?_
    refine lv_aload_n hx hb dX0_mendOne_34 rfl (lv_at hl 1 rfl) ?_
    refine va_get (D := D) (ci := 0) (v := .int (nI u.2.2.2.1)) (C := RX0) (T := TX0) (N := 8) hx hb hts in_X0 hown hK hM.1 0 rfl rfl 5 (by decide) (hts _ q27) (fun _ h9 => h9) rfl dX0_mendOne_35 ?_
    refine ys_callI (As := [.int (nI 1), .int (nI u.2.2.2.1)]) (rest := []) (w1 := (wX ad kd u)) (ci := 0) (q0 := 0) (qq := (RX0, TX0, 8)) ⟨hx, hb, hml, hown, hts⟩ (cx_weight l D ad kd u 1 u.2.2.2.1 (by decide) (by omega)) (cwV 2 hts (lw_V q56 q58 qs0 q12 q59) rfl rfl rfl (by decide +kernel) ⟨Nat.le_of_ble_eq_true rfl, Nat.le_of_ble_eq_true rfl⟩) hK hA hM rfl rfl hl.1 rfl rfl (Nat.le_of_ble_eq_true rfl) ⟨Nat.zero_le _, Nat.zero_le _⟩ dX0_mendOne_38 (fun H locs hM => ?_)
    refine lv_istore (lv' := [(4, .int (nI (z_wt 1 u.2.2.2.1))), (3, .int (nI (z_wt 0 u.2.2.2.1))), (0, .ref (ad 0)), (1, .int (nI p0)), (2, .int (nI w0))]) hx hb dX0_mendOne_41 hl (by decide) rfl (fun ls hl => ?_)
    refine lv_aload_n hx hb dX0_mendOne_43 rfl (lv_at hl 2 rfl) ?_
    refine va_get (D := D) (ci := 0) (v := .ref (ad 5)) (C := RX0) (T := TX0) (N := 8) hx hb hts in_X0 hown hK hM.1 0 rfl rfl 4 (by decide) (hts _ q26) (fun _ h9 => h9) rfl dX0_mendOne_44 ?_
    refine lv_aload_n hx hb dX0_mendOne_47 rfl (lv_at hl 2 rfl) ?_
    refine va_get (D := D) (ci := 0) (v := .int (nI u.2.2.2.1)) (C := RX0) (T := TX0) (N := 8) hx hb hts in_X0 hown hK hM.1 0 rfl rfl 5 (by decide) (hts _ q27) (fun _ h9 => h9) rfl dX0_mendOne_48 ?_
    refine lv_aload_n hx hb dX0_mendOne_51 rfl (lv_at hl 2 rfl) ?_
    refine lv_iload_n hx hb dX0_mendOne_52 rfl (lv_at hl 4 rfl) ?_
    refine lv_iload hx hb dX0_mendOne_53 (lv_at hl 0 rfl) ?_
    refine ys_callI (As := [.int (nI w0), .int (nI (z_wt 1 u.2.2.2.1))]) (rest := [.int (nI u.2.2.2.1), .ref (ad 5)]) (w1 := (wX ad kd u)) (ci := 0) (q0 := 0) (qq := (RX0, TX0, 8)) ⟨hx, hb, hml, hown, hts⟩ (cx_divide l D ad kd u w0 (z_wt 1 u.2.2.2.1) hw (z_wt_lt _ _)) (cwV 2 hts (lw_V q108 q110 qs7 q12 q111) rfl rfl rfl (by decide +kernel) ⟨Nat.le_of_ble_eq_true rfl, Nat.le_of_ble_eq_true rfl⟩) hK hA hM rfl rfl hl.1 rfl rfl (Nat.le_of_ble_eq_true rfl) ⟨Nat.zero_le _, Nat.zero_le _⟩ dX0_mendOne_55 (fun H locs hM => ?_)
    refine ys_iast (i := u.2.2.2.1) (v := (z_dv w0 (z_wt 1 u.2.2.2.1))) (w' := (wX ad kd (u.1, u.2.1, va_up u.2.2.1 u.2.2.2.1 (z_dv w0 (z_wt 1 u.2.2.2.1)), u.2.2.2.1, u.2.2.2.2.1, u.2.2.2.2.2))) hx hb hK hM 5 4 rfl rfl (by omega) (by decide) dX0_mendOne_58 rfl (fun H locs hM => ?_)
    exact ys_vret hx hb hr hlocks hK hM dX0_mendOne_59
  · rw [show z_m1 u.2.2.1 u.2.2.2.1 p0 w0 = va_up u.2.2.1 u.2.2.2.1 (z_dv p0 (z_wt 0 u.2.2.2.1)) from if_neg h1]
    refine lv_aload_n hx hb dX0_mendOne_14 rfl (lv_at hl 1 rfl) ?_
    refine va_get (D := D) (ci := 0) (v := .ref (ad 5)) (C := RX0) (T := TX0) (N := 8) hx hb hts in_X0 hown hK hM.1 0 rfl rfl 4 (by decide) (hts _ q26) (fun _ h9 => h9) rfl dX0_mendOne_15 ?_
    refine lv_aload_n hx hb dX0_mendOne_18 rfl (lv_at hl 1 rfl) ?_
    refine va_get (D := D) (ci := 0) (v := .int (nI u.2.2.2.1)) (C := RX0) (T := TX0) (N := 8) hx hb hts in_X0 hown hK hM.1 0 rfl rfl 5 (by decide) (hts _ q27) (fun _ h9 => h9) rfl dX0_mendOne_19 ?_
    refine lv_aload_n hx hb dX0_mendOne_22 rfl (lv_at hl 1 rfl) ?_
    refine lv_iload_n hx hb dX0_mendOne_23 rfl (lv_at hl 2 rfl) ?_
    refine lv_iload_n hx hb dX0_mendOne_24 rfl (lv_at hl 0 rfl) ?_
    refine ys_callI (As := [.int (nI p0), .int (nI (z_wt 0 u.2.2.2.1))]) (rest := [.int (nI u.2.2.2.1), .ref (ad 5)]) (w1 := (wX ad kd u)) (ci := 0) (q0 := 0) (qq := (RX0, TX0, 8)) ⟨hx, hb, hml, hown, hts⟩ (cx_divide l D ad kd u p0 (z_wt 0 u.2.2.2.1) hp (z_wt_lt _ _)) (cwV 2 hts (lw_V q108 q110 qs7 q12 q111) rfl rfl rfl (by decide +kernel) ⟨Nat.le_of_ble_eq_true rfl, Nat.le_of_ble_eq_true rfl⟩) hK hA hM rfl rfl hl.1 rfl rfl (Nat.le_of_ble_eq_true rfl) ⟨Nat.zero_le _, Nat.zero_le _⟩ dX0_mendOne_25 (fun H locs hM => ?_)
    refine ys_iast (i := u.2.2.2.1) (v := (z_dv p0 (z_wt 0 u.2.2.2.1))) (w' := (wX ad kd (u.1, u.2.1, va_up u.2.2.1 u.2.2.2.1 (z_dv p0 (z_wt 0 u.2.2.2.1)), u.2.2.2.1, u.2.2.2.2.1, u.2.2.2.2.2))) hx hb hK hM 5 4 rfl rfl (by omega) (by decide) dX0_mendOne_28 rfl (fun H locs hM => ?_)
    refine lv_goto (tgt := 59) hx hb dX0_mendOne_29 (by decide) ?_
    exact ys_vret hx hb hr hlocks hK hM dX0_mendOne_59
set_option maxHeartbeats 4000000 in
set_option maxRecDepth 100000 in
/-- two lost cells of the line -/
theorem cx_mendTwo (l : Launch) (D : va_G) (ad : Nat → Nat) (kd : Nat → ClassId) (u : zS) (p0 w0 : Nat) (hp : p0 < 256) (hw : w0 < 256) (hf : u.2.2.2.1 < 6) (hg : u.2.2.2.2.1 < 6) : ys_V l yX0_mendTwo (ws_ yX0_mendTwo cX0_mendTwo 10 none) ({ frames := 1, cells := 0, slots := 0, locals := 22 } : Room) D (tX kd) [.ref (ad 0), .int (nI p0), .int (nI w0)] (wX ad kd u) (wX ad kd (u.1, u.2.1, z_m2 u.2.2.1 u.2.2.2.1 u.2.2.2.2.1 p0 w0, u.2.2.2.1, u.2.2.2.2.1, u.2.2.2.2.2)) := by
  refine ys_V.mk (own := RX0) (by decide) rfl (Nat.le_of_ble_eq_true rfl) ?_
  intro p e s m below meth cd A ls E hK hA hM hl
  obtain ⟨hx, hb, hr, hml, hown, hts, hlocks⟩ := E
  have hl : lv_has ls 10 [(0, .ref (ad 0)), (1, .int (nI p0)), (2, .int (nI w0))] := hl
  refine lv_aload_n hx hb dX0_mendTwo_0 rfl (lv_at hl 0 rfl) ?_
  refine lv_iconst (v := (nI 0)) hx hb dX0_mendTwo_1 (by decide) ?_
  refine lv_aload_n hx hb dX0_mendTwo_2 rfl (lv_at hl 0 rfl) ?_
  refine va_get (D := D) (ci := 0) (v := .int (nI u.2.2.2.1)) (C := RX0) (T := TX0) (N := 8) hx hb hts in_X0 hown hK hM.1 0 rfl rfl 5 (by decide) (hts _ q27) (fun _ h9 => h9) rfl dX0_mendTwo_3 ?_
  refine ys_callI (As := [.int (nI 0), .int (nI u.2.2.2.1)]) (rest := []) (w1 := (wX ad kd u)) (ci := 0) (q0 := 0) (qq := (RX0, TX0, 8)) ⟨hx, hb, hml, hown, hts⟩ (cx_weight l D ad kd u 0 u.2.2.2.1 (by decide) (by omega)) (cwV 2 hts (lw_V q56 q58 qs0 q12 q59) rfl rfl rfl (by decide +kernel) ⟨Nat.le_of_ble_eq_true rfl, Nat.le_of_ble_eq_true rfl⟩) hK hA hM rfl rfl hl.1 rfl rfl (Nat.le_of_ble_eq_true rfl) ⟨Nat.zero_le _, Nat.zero_le _⟩ dX0_mendTwo_6 (fun H locs hM => ?_)
  refine lv_istore_n (lv' := [(3, .int (nI (z_wt 0 u.2.2.2.1))), (0, .ref (ad 0)), (1, .int (nI p0)), (2, .int (nI w0))]) hx hb dX0_mendTwo_9 rfl hl (by decide) rfl (fun ls hl => ?_)
  refine lv_aload_n hx hb dX0_mendTwo_10 rfl (lv_at hl 1 rfl) ?_
  refine lv_iconst (v := (nI 0)) hx hb dX0_mendTwo_11 (by decide) ?_
  refine lv_aload_n hx hb dX0_mendTwo_12 rfl (lv_at hl 1 rfl) ?_
  refine va_get (D := D) (ci := 0) (v := .int (nI u.2.2.2.2.1)) (C := RX0) (T := TX0) (N := 8) hx hb hts in_X0 hown hK hM.1 0 rfl rfl 6 (by decide) (hts _ q28) (fun _ h9 => h9) rfl dX0_mendTwo_13 ?_
  refine ys_callI (As := [.int (nI 0), .int (nI u.2.2.2.2.1)]) (rest := []) (w1 := (wX ad kd u)) (ci := 0) (q0 := 0) (qq := (RX0, TX0, 8)) ⟨hx, hb, hml, hown, hts⟩ (cx_weight l D ad kd u 0 u.2.2.2.2.1 (by decide) (by omega)) (cwV 2 hts (lw_V q56 q58 qs0 q12 q59) rfl rfl rfl (by decide +kernel) ⟨Nat.le_of_ble_eq_true rfl, Nat.le_of_ble_eq_true rfl⟩) hK hA hM rfl rfl hl.1 rfl rfl (Nat.le_of_ble_eq_true rfl) ⟨Nat.zero_le _, Nat.zero_le _⟩ dX0_mendTwo_16 (fun H locs hM => ?_)
  refine lv_istore (lv' := [(4, .int (nI (z_wt 0 u.2.2.2.2.1))), (3, .int (nI (z_wt 0 u.2.2.2.1))), (0, .ref (ad 0)), (1, .int (nI p0)), (2, .int (nI w0))]) hx hb dX0_mendTwo_19 hl (by decide) rfl (fun ls hl => ?_)
  refine lv_aload_n hx hb dX0_mendTwo_21 rfl (lv_at hl 2 rfl) ?_
  refine lv_iconst (v := (nI 1)) hx hb dX0_mendTwo_22 (by decide) ?_
  refine lv_aload_n hx hb dX0_mendTwo_23 rfl (lv_at hl 2 rfl) ?_
  refine va_get (D := D) (ci := 0) (v := .int (nI u.2.2.2.1)) (C := RX0) (T := TX0) (N := 8) hx hb hts in_X0 hown hK hM.1 0 rfl rfl 5 (by decide) (hts _ q27) (fun _ h9 => h9) rfl dX0_mendTwo_24 ?_
  refine ys_callI (As := [.int (nI 1), .int (nI u.2.2.2.1)]) (rest := []) (w1 := (wX ad kd u)) (ci := 0) (q0 := 0) (qq := (RX0, TX0, 8)) ⟨hx, hb, hml, hown, hts⟩ (cx_weight l D ad kd u 1 u.2.2.2.1 (by decide) (by omega)) (cwV 2 hts (lw_V q56 q58 qs0 q12 q59) rfl rfl rfl (by decide +kernel) ⟨Nat.le_of_ble_eq_true rfl, Nat.le_of_ble_eq_true rfl⟩) hK hA hM rfl rfl hl.1 rfl rfl (Nat.le_of_ble_eq_true rfl) ⟨Nat.zero_le _, Nat.zero_le _⟩ dX0_mendTwo_27 (fun H locs hM => ?_)
  refine lv_istore (lv' := [(5, .int (nI (z_wt 1 u.2.2.2.1))), (4, .int (nI (z_wt 0 u.2.2.2.2.1))), (3, .int (nI (z_wt 0 u.2.2.2.1))), (0, .ref (ad 0)), (1, .int (nI p0)), (2, .int (nI w0))]) hx hb dX0_mendTwo_30 hl (by decide) rfl (fun ls hl => ?_)
  refine lv_aload_n hx hb dX0_mendTwo_32 rfl (lv_at hl 3 rfl) ?_
  refine lv_iconst (v := (nI 1)) hx hb dX0_mendTwo_33 (by decide) ?_
  refine lv_aload_n hx hb dX0_mendTwo_34 rfl (lv_at hl 3 rfl) ?_
  refine va_get (D := D) (ci := 0) (v := .int (nI u.2.2.2.2.1)) (C := RX0) (T := TX0) (N := 8) hx hb hts in_X0 hown hK hM.1 0 rfl rfl 6 (by decide) (hts _ q28) (fun _ h9 => h9) rfl dX0_mendTwo_35 ?_
  refine ys_callI (As := [.int (nI 1), .int (nI u.2.2.2.2.1)]) (rest := []) (w1 := (wX ad kd u)) (ci := 0) (q0 := 0) (qq := (RX0, TX0, 8)) ⟨hx, hb, hml, hown, hts⟩ (cx_weight l D ad kd u 1 u.2.2.2.2.1 (by decide) (by omega)) (cwV 2 hts (lw_V q56 q58 qs0 q12 q59) rfl rfl rfl (by decide +kernel) ⟨Nat.le_of_ble_eq_true rfl, Nat.le_of_ble_eq_true rfl⟩) hK hA hM rfl rfl hl.1 rfl rfl (Nat.le_of_ble_eq_true rfl) ⟨Nat.zero_le _, Nat.zero_le _⟩ dX0_mendTwo_38 (fun H locs hM => ?_)
  refine lv_istore (lv' := [(6, .int (nI (z_wt 1 u.2.2.2.2.1))), (5, .int (nI (z_wt 1 u.2.2.2.1))), (4, .int (nI (z_wt 0 u.2.2.2.2.1))), (3, .int (nI (z_wt 0 u.2.2.2.1))), (0, .ref (ad 0)), (1, .int (nI p0)), (2, .int (nI w0))]) hx hb dX0_mendTwo_41 hl (by decide) rfl (fun ls hl => ?_)
  refine lv_aload_n hx hb dX0_mendTwo_43 rfl (lv_at hl 4 rfl) ?_
  refine lv_iload_n hx hb dX0_mendTwo_44 rfl (lv_at hl 3 rfl) ?_
  refine lv_iload hx hb dX0_mendTwo_45 (lv_at hl 0 rfl) ?_
  refine ys_callI (As := [.int (nI (z_wt 0 u.2.2.2.1)), .int (nI (z_wt 1 u.2.2.2.2.1))]) (rest := []) (w1 := (wX ad kd u)) (ci := 0) (q0 := 0) (qq := (RX0, TX0, 8)) ⟨hx, hb, hml, hown, hts⟩ (cx_times l D ad kd u (z_wt 0 u.2.2.2.1) (z_wt 1 u.2.2.2.2.1) (z_wt_lt _ _) (z_wt_lt _ _)) (cwV 2 hts (lw_V q60 q62 qs1 q12 q63) rfl rfl rfl (by decide +kernel) ⟨Nat.le_of_ble_eq_true rfl, Nat.le_of_ble_eq_true rfl⟩) hK hA hM rfl rfl hl.1 rfl rfl (Nat.le_of_ble_eq_true rfl) ⟨Nat.zero_le _, Nat.zero_le _⟩ dX0_mendTwo_47 (fun H locs hM => ?_)
  refine lv_aload_n hx hb dX0_mendTwo_50 rfl (lv_at hl 4 rfl) ?_
  refine lv_iload hx hb dX0_mendTwo_51 (lv_at hl 2 rfl) ?_
  refine lv_iload hx hb dX0_mendTwo_53 (lv_at hl 1 rfl) ?_
  refine ys_callI (As := [.int (nI (z_wt 0 u.2.2.2.2.1)), .int (nI (z_wt 1 u.2.2.2.1))]) (rest := [.int (nI (z_gm (z_wt 0 u.2.2.2.1) (z_wt 1 u.2.2.2.2.1)))]) (w1 := (wX ad kd u)) (ci := 0) (q0 := 0) (qq := (RX0, TX0, 8)) ⟨hx, hb, hml, hown, hts⟩ (cx_times l D ad kd u (z_wt 0 u.2.2.2.2.1) (z_wt 1 u.2.2.2.1) (z_wt_lt _ _) (z_wt_lt _ _)) (cwV 2 hts (lw_V q60 q62 qs1 q12 q63) rfl rfl rfl (by decide +kernel) ⟨Nat.le_of_ble_eq_true rfl, Nat.le_of_ble_eq_true rfl⟩) hK hA hM rfl rfl hl.1 rfl rfl (Nat.le_of_ble_eq_true rfl) ⟨Nat.zero_le _, Nat.zero_le _⟩ dX0_mendTwo_55 (fun H locs hM => ?_)
  refine ys_ixor (i := (z_gm (z_wt 0 u.2.2.2.1) (z_wt 1 u.2.2.2.2.1))) (j := (z_gm (z_wt 0 u.2.2.2.2.1) (z_wt 1 u.2.2.2.1))) hx hb dX0_mendTwo_58 ?_
  refine lv_istore (lv' := [(7, .int (nI ((z_gm (z_wt 0 u.2.2.2.1) (z_wt 1 u.2.2.2.2.1)) ^^^ (z_gm (z_wt 0 u.2.2.2.2.1) (z_wt 1 u.2.2.2.1))))), (6, .int (nI (z_wt 1 u.2.2.2.2.1))), (5, .int (nI (z_wt 1 u.2.2.2.1))), (4, .int (nI (z_wt 0 u.2.2.2.2.1))), (3, .int (nI (z_wt 0 u.2.2.2.1))), (0, .ref (ad 0)), (1, .int (nI p0)), (2, .int (nI w0))]) hx hb dX0_mendTwo_59 hl (by decide) rfl (fun ls hl => ?_)
  refine lv_aload_n hx hb dX0_mendTwo_61 rfl (lv_at hl 5 rfl) ?_
  refine lv_iload_n hx hb dX0_mendTwo_62 rfl (lv_at hl 6 rfl) ?_
  refine lv_iload hx hb dX0_mendTwo_63 (lv_at hl 1 rfl) ?_
  refine ys_callI (As := [.int (nI p0), .int (nI (z_wt 1 u.2.2.2.2.1))]) (rest := []) (w1 := (wX ad kd u)) (ci := 0) (q0 := 0) (qq := (RX0, TX0, 8)) ⟨hx, hb, hml, hown, hts⟩ (cx_times l D ad kd u p0 (z_wt 1 u.2.2.2.2.1) hp (z_wt_lt _ _)) (cwV 2 hts (lw_V q60 q62 qs1 q12 q63) rfl rfl rfl (by decide +kernel) ⟨Nat.le_of_ble_eq_true rfl, Nat.le_of_ble_eq_true rfl⟩) hK hA hM rfl rfl hl.1 rfl rfl (Nat.le_of_ble_eq_true rfl) ⟨Nat.zero_le _, Nat.zero_le _⟩ dX0_mendTwo_65 (fun H locs hM => ?_)
  refine lv_aload_n hx hb dX0_mendTwo_68 rfl (lv_at hl 5 rfl) ?_
  refine lv_iload_n hx hb dX0_mendTwo_69 rfl (lv_at hl 7 rfl) ?_
  refine lv_iload hx hb dX0_mendTwo_70 (lv_at hl 3 rfl) ?_
  refine ys_callI (As := [.int (nI w0), .int (nI (z_wt 0 u.2.2.2.2.1))]) (rest := [.int (nI (z_gm p0 (z_wt 1 u.2.2.2.2.1)))]) (w1 := (wX ad kd u)) (ci := 0) (q0 := 0) (qq := (RX0, TX0, 8)) ⟨hx, hb, hml, hown, hts⟩ (cx_times l D ad kd u w0 (z_wt 0 u.2.2.2.2.1) hw (z_wt_lt _ _)) (cwV 2 hts (lw_V q60 q62 qs1 q12 q63) rfl rfl rfl (by decide +kernel) ⟨Nat.le_of_ble_eq_true rfl, Nat.le_of_ble_eq_true rfl⟩) hK hA hM rfl rfl hl.1 rfl rfl (Nat.le_of_ble_eq_true rfl) ⟨Nat.zero_le _, Nat.zero_le _⟩ dX0_mendTwo_72 (fun H locs hM => ?_)
  refine ys_ixor (i := (z_gm p0 (z_wt 1 u.2.2.2.2.1))) (j := (z_gm w0 (z_wt 0 u.2.2.2.2.1))) hx hb dX0_mendTwo_75 ?_
  refine lv_istore (lv' := [(8, .int (nI ((z_gm p0 (z_wt 1 u.2.2.2.2.1)) ^^^ (z_gm w0 (z_wt 0 u.2.2.2.2.1))))), (7, .int (nI ((z_gm (z_wt 0 u.2.2.2.1) (z_wt 1 u.2.2.2.2.1)) ^^^ (z_gm (z_wt 0 u.2.2.2.2.1) (z_wt 1 u.2.2.2.1))))), (6, .int (nI (z_wt 1 u.2.2.2.2.1))), (5, .int (nI (z_wt 1 u.2.2.2.1))), (4, .int (nI (z_wt 0 u.2.2.2.2.1))), (3, .int (nI (z_wt 0 u.2.2.2.1))), (0, .ref (ad 0)), (1, .int (nI p0)), (2, .int (nI w0))]) hx hb dX0_mendTwo_76 hl (by decide) rfl (fun ls hl => ?_)
  refine lv_aload_n hx hb dX0_mendTwo_78 rfl (lv_at hl 6 rfl) ?_
  refine lv_iload_n hx hb dX0_mendTwo_79 rfl (lv_at hl 5 rfl) ?_
  refine lv_iload_n hx hb dX0_mendTwo_80 rfl (lv_at hl 8 rfl) ?_
  refine ys_callI (As := [.int (nI (z_wt 0 u.2.2.2.1)), .int (nI w0)]) (rest := []) (w1 := (wX ad kd u)) (ci := 0) (q0 := 0) (qq := (RX0, TX0, 8)) ⟨hx, hb, hml, hown, hts⟩ (cx_times l D ad kd u (z_wt 0 u.2.2.2.1) w0 (z_wt_lt _ _) hw) (cwV 2 hts (lw_V q60 q62 qs1 q12 q63) rfl rfl rfl (by decide +kernel) ⟨Nat.le_of_ble_eq_true rfl, Nat.le_of_ble_eq_true rfl⟩) hK hA hM rfl rfl hl.1 rfl rfl (Nat.le_of_ble_eq_true rfl) ⟨Nat.zero_le _, Nat.zero_le _⟩ dX0_mendTwo_81 (fun H locs hM => ?_)
  refine lv_aload_n hx hb dX0_mendTwo_84 rfl (lv_at hl 6 rfl) ?_
  refine lv_iload hx hb dX0_mendTwo_85 (lv_at hl 3 rfl) ?_
  refine lv_iload_n hx hb dX0_mendTwo_87 rfl (lv_at hl 7 rfl) ?_
  refine ys_callI (As := [.int (nI (z_wt 1 u.2.2.2.1)), .int (nI p0)]) (rest := [.int (nI (z_gm (z_wt 0 u.2.2.2.1) w0))]) (w1 := (wX ad kd u)) (ci := 0) (q0 := 0) (qq := (RX0, TX0, 8)) ⟨hx, hb, hml, hown, hts⟩ (cx_times l D ad kd u (z_wt 1 u.2.2.2.1) p0 (z_wt_lt _ _) hp) (cwV 2 hts (lw_V q60 q62 qs1 q12 q63) rfl rfl rfl (by decide +kernel) ⟨Nat.le_of_ble_eq_true rfl, Nat.le_of_ble_eq_true rfl⟩) hK hA hM rfl rfl hl.1 rfl rfl (Nat.le_of_ble_eq_true rfl) ⟨Nat.zero_le _, Nat.zero_le _⟩ dX0_mendTwo_88 (fun H locs hM => ?_)
  refine ys_ixor (i := (z_gm (z_wt 0 u.2.2.2.1) w0)) (j := (z_gm (z_wt 1 u.2.2.2.1) p0)) hx hb dX0_mendTwo_91 ?_
  refine lv_istore (lv' := [(9, .int (nI ((z_gm (z_wt 0 u.2.2.2.1) w0) ^^^ (z_gm (z_wt 1 u.2.2.2.1) p0)))), (8, .int (nI ((z_gm p0 (z_wt 1 u.2.2.2.2.1)) ^^^ (z_gm w0 (z_wt 0 u.2.2.2.2.1))))), (7, .int (nI ((z_gm (z_wt 0 u.2.2.2.1) (z_wt 1 u.2.2.2.2.1)) ^^^ (z_gm (z_wt 0 u.2.2.2.2.1) (z_wt 1 u.2.2.2.1))))), (6, .int (nI (z_wt 1 u.2.2.2.2.1))), (5, .int (nI (z_wt 1 u.2.2.2.1))), (4, .int (nI (z_wt 0 u.2.2.2.2.1))), (3, .int (nI (z_wt 0 u.2.2.2.1))), (0, .ref (ad 0)), (1, .int (nI p0)), (2, .int (nI w0))]) hx hb dX0_mendTwo_92 hl (by decide) rfl (fun ls hl => ?_)
  refine lv_aload_n hx hb dX0_mendTwo_94 rfl (lv_at hl 7 rfl) ?_
  refine va_get (D := D) (ci := 0) (v := .ref (ad 5)) (C := RX0) (T := TX0) (N := 8) hx hb hts in_X0 hown hK hM.1 0 rfl rfl 4 (by decide) (hts _ q26) (fun _ h9 => h9) rfl dX0_mendTwo_95 ?_
  refine lv_aload_n hx hb dX0_mendTwo_98 rfl (lv_at hl 7 rfl) ?_
  refine va_get (D := D) (ci := 0) (v := .int (nI u.2.2.2.1)) (C := RX0) (T := TX0) (N := 8) hx hb hts in_X0 hown hK hM.1 0 rfl rfl 5 (by decide) (hts _ q27) (fun _ h9 => h9) rfl dX0_mendTwo_99 ?_
  refine lv_aload_n hx hb dX0_mendTwo_102 rfl (lv_at hl 7 rfl) ?_
  refine lv_iload hx hb dX0_mendTwo_103 (lv_at hl 1 rfl) ?_
  refine lv_iload hx hb dX0_mendTwo_105 (lv_at hl 2 rfl) ?_
  refine ys_callI (As := [.int (nI ((z_gm p0 (z_wt 1 u.2.2.2.2.1)) ^^^ (z_gm w0 (z_wt 0 u.2.2.2.2.1)))), .int (nI ((z_gm (z_wt 0 u.2.2.2.1) (z_wt 1 u.2.2.2.2.1)) ^^^ (z_gm (z_wt 0 u.2.2.2.2.1) (z_wt 1 u.2.2.2.1))))]) (rest := [.int (nI u.2.2.2.1), .ref (ad 5)]) (w1 := (wX ad kd u)) (ci := 0) (q0 := 0) (qq := (RX0, TX0, 8)) ⟨hx, hb, hml, hown, hts⟩ (cx_divide l D ad kd u (z_gm p0 (z_wt 1 u.2.2.2.2.1) ^^^ z_gm w0 (z_wt 0 u.2.2.2.2.1)) (z_gm (z_wt 0 u.2.2.2.1) (z_wt 1 u.2.2.2.2.1) ^^^ z_gm (z_wt 0 u.2.2.2.2.1) (z_wt 1 u.2.2.2.1)) (z_xor_lt (z_gm_lt _ _) (z_gm_lt _ _)) (z_xor_lt (z_gm_lt _ _) (z_gm_lt _ _))) (cwV 2 hts (lw_V q108 q110 qs7 q12 q111) rfl rfl rfl (by decide +kernel) ⟨Nat.le_of_ble_eq_true rfl, Nat.le_of_ble_eq_true rfl⟩) hK hA hM rfl rfl hl.1 rfl rfl (Nat.le_of_ble_eq_true rfl) ⟨Nat.zero_le _, Nat.zero_le _⟩ dX0_mendTwo_107 (fun H locs hM => ?_)
  refine ys_iast (i := u.2.2.2.1) (v := (z_dv (z_gm p0 (z_wt 1 u.2.2.2.2.1) ^^^ z_gm w0 (z_wt 0 u.2.2.2.2.1)) (z_gm (z_wt 0 u.2.2.2.1) (z_wt 1 u.2.2.2.2.1) ^^^ z_gm (z_wt 0 u.2.2.2.2.1) (z_wt 1 u.2.2.2.1)))) (w' := (wX ad kd (u.1, u.2.1, va_up u.2.2.1 u.2.2.2.1 (z_dv (z_gm p0 (z_wt 1 u.2.2.2.2.1) ^^^ z_gm w0 (z_wt 0 u.2.2.2.2.1)) (z_gm (z_wt 0 u.2.2.2.1) (z_wt 1 u.2.2.2.2.1) ^^^ z_gm (z_wt 0 u.2.2.2.2.1) (z_wt 1 u.2.2.2.1))), u.2.2.2.1, u.2.2.2.2.1, u.2.2.2.2.2))) hx hb hK hM 5 4 rfl rfl (by omega) (by decide) dX0_mendTwo_110 rfl (fun H locs hM => ?_)
  refine lv_aload_n hx hb dX0_mendTwo_111 rfl (lv_at hl 7 rfl) ?_
  refine va_get (D := D) (ci := 0) (v := .ref (ad 5)) (C := RX0) (T := TX0) (N := 8) hx hb hts in_X0 hown hK hM.1 0 rfl rfl 4 (by decide) (hts _ q26) (fun _ h9 => h9) rfl dX0_mendTwo_112 ?_
  refine lv_aload_n hx hb dX0_mendTwo_115 rfl (lv_at hl 7 rfl) ?_
  refine va_get (D := D) (ci := 0) (v := .int (nI u.2.2.2.2.1)) (C := RX0) (T := TX0) (N := 8) hx hb hts in_X0 hown hK hM.1 0 rfl rfl 6 (by decide) (hts _ q28) (fun _ h9 => h9) rfl dX0_mendTwo_116 ?_
  refine lv_aload_n hx hb dX0_mendTwo_119 rfl (lv_at hl 7 rfl) ?_
  refine lv_iload hx hb dX0_mendTwo_120 (lv_at hl 0 rfl) ?_
  refine lv_iload hx hb dX0_mendTwo_122 (lv_at hl 2 rfl) ?_
  refine ys_callI (As := [.int (nI ((z_gm (z_wt 0 u.2.2.2.1) w0) ^^^ (z_gm (z_wt 1 u.2.2.2.1) p0))), .int (nI ((z_gm (z_wt 0 u.2.2.2.1) (z_wt 1 u.2.2.2.2.1)) ^^^ (z_gm (z_wt 0 u.2.2.2.2.1) (z_wt 1 u.2.2.2.1))))]) (rest := [.int (nI u.2.2.2.2.1), .ref (ad 5)]) (w1 := (wX ad kd (u.1, u.2.1, va_up u.2.2.1 u.2.2.2.1 (z_dv (z_gm p0 (z_wt 1 u.2.2.2.2.1) ^^^ z_gm w0 (z_wt 0 u.2.2.2.2.1)) (z_gm (z_wt 0 u.2.2.2.1) (z_wt 1 u.2.2.2.2.1) ^^^ z_gm (z_wt 0 u.2.2.2.2.1) (z_wt 1 u.2.2.2.1))), u.2.2.2.1, u.2.2.2.2.1, u.2.2.2.2.2))) (ci := 0) (q0 := 0) (qq := (RX0, TX0, 8)) ⟨hx, hb, hml, hown, hts⟩ (cx_divide l D ad kd (u.1, u.2.1, va_up u.2.2.1 u.2.2.2.1 (z_dv (z_gm p0 (z_wt 1 u.2.2.2.2.1) ^^^ z_gm w0 (z_wt 0 u.2.2.2.2.1)) (z_gm (z_wt 0 u.2.2.2.1) (z_wt 1 u.2.2.2.2.1) ^^^ z_gm (z_wt 0 u.2.2.2.2.1) (z_wt 1 u.2.2.2.1))), u.2.2.2.1, u.2.2.2.2.1, u.2.2.2.2.2) (z_gm (z_wt 0 u.2.2.2.1) w0 ^^^ z_gm (z_wt 1 u.2.2.2.1) p0) (z_gm (z_wt 0 u.2.2.2.1) (z_wt 1 u.2.2.2.2.1) ^^^ z_gm (z_wt 0 u.2.2.2.2.1) (z_wt 1 u.2.2.2.1)) (z_xor_lt (z_gm_lt _ _) (z_gm_lt _ _)) (z_xor_lt (z_gm_lt _ _) (z_gm_lt _ _))) (cwV 2 hts (lw_V q108 q110 qs7 q12 q111) rfl rfl rfl (by decide +kernel) ⟨Nat.le_of_ble_eq_true rfl, Nat.le_of_ble_eq_true rfl⟩) hK hA hM rfl rfl hl.1 rfl rfl (Nat.le_of_ble_eq_true rfl) ⟨Nat.zero_le _, Nat.zero_le _⟩ dX0_mendTwo_124 (fun H locs hM => ?_)
  refine ys_iast (i := u.2.2.2.2.1) (v := (z_dv (z_gm (z_wt 0 u.2.2.2.1) w0 ^^^ z_gm (z_wt 1 u.2.2.2.1) p0) (z_gm (z_wt 0 u.2.2.2.1) (z_wt 1 u.2.2.2.2.1) ^^^ z_gm (z_wt 0 u.2.2.2.2.1) (z_wt 1 u.2.2.2.1)))) (w' := (wX ad kd (u.1, u.2.1, va_up (va_up u.2.2.1 u.2.2.2.1 (z_dv (z_gm p0 (z_wt 1 u.2.2.2.2.1) ^^^ z_gm w0 (z_wt 0 u.2.2.2.2.1)) (z_gm (z_wt 0 u.2.2.2.1) (z_wt 1 u.2.2.2.2.1) ^^^ z_gm (z_wt 0 u.2.2.2.2.1) (z_wt 1 u.2.2.2.1)))) u.2.2.2.2.1 (z_dv (z_gm (z_wt 0 u.2.2.2.1) w0 ^^^ z_gm (z_wt 1 u.2.2.2.1) p0) (z_gm (z_wt 0 u.2.2.2.1) (z_wt 1 u.2.2.2.2.1) ^^^ z_gm (z_wt 0 u.2.2.2.2.1) (z_wt 1 u.2.2.2.1))), u.2.2.2.1, u.2.2.2.2.1, u.2.2.2.2.2))) hx hb hK hM 5 4 rfl rfl (by omega) (by decide) dX0_mendTwo_127 rfl (fun H locs hM => ?_)
  exact ys_vret hx hb hr hlocks hK hM dX0_mendTwo_128
set_option maxHeartbeats 4000000 in
set_option maxRecDepth 100000 in
/-- a line is mended -/
theorem cx_mendLine (l : Launch) (D : va_G) (ad : Nat → Nat) (kd : Nat → ClassId) (u : zS) (st sd : Nat) (hc : ∀ k, k < 6 → st + sd * k < 36) (hu : zOk u) : ys_I l yX0_mendLine (ws_ yX0_mendLine cX0_mendLine 5 (some .int)) ({ frames := 2, cells := 0, slots := 0, locals := 51 } : Room) D (tX kd) [.ref (ad 0), .int (nI st), .int (nI sd)] (wX ad kd u) (wX ad kd ((z_ml st sd u).2)) (nI (z_ml st sd u).1) := by
  have hF := cx_findLost l D ad kd u st sd hc
  have hT : zOk (u.1, u.2.1, z_fl u.1 u.2.1 st sd u.2.2 6) := ⟨hu.1, z_fl_line hu.1 hu.2 6⟩
  have hN : (u.1, u.2.1, z_fl u.1 u.2.1 st sd u.2.2 6).2.2.2.2.2 ≤ 6 := z_fl_n u.1 u.2.1 st sd u.2.2 6
  have h12 : (1 ≤ (u.1, u.2.1, z_fl u.1 u.2.1 st sd u.2.2 6).2.2.2.2.2 → (u.1, u.2.1, z_fl u.1 u.2.1 st sd u.2.2 6).2.2.2.1 < 6) ∧ (2 ≤ (u.1, u.2.1, z_fl u.1 u.2.1 st sd u.2.2 6).2.2.2.2.2 → (u.1, u.2.1, z_fl u.1 u.2.1 st sd u.2.2 6).2.2.2.2.1 < 6) := z_fl_f u.1 u.2.1 st sd u.2.2 6
  rw [show z_ml st sd u = z_ml2 st sd (u.1, u.2.1, z_fl u.1 u.2.1 st sd u.2.2 6) from rfl]
  generalize (u.1, u.2.1, z_fl u.1 u.2.1 st sd u.2.2 6) = t at hF hT hN h12 ⊢
  refine ys_I.mk (own := RX0) (by decide) rfl (Nat.le_of_ble_eq_true rfl) ?_
  intro p e s m below meth cd A ls E hK hA hM hl
  obtain ⟨hx, hb, hr, hml, hown, hts, hlocks⟩ := E
  have hl : lv_has ls 5 [(0, .ref (ad 0)), (1, .int (nI st)), (2, .int (nI sd))] := hl
  refine lv_aload_n hx hb dX0_mendLine_0 rfl (lv_at hl 0 rfl) ?_
  refine lv_iload_n hx hb dX0_mendLine_1 rfl (lv_at hl 1 rfl) ?_
  refine lv_iload_n hx hb dX0_mendLine_2 rfl (lv_at hl 2 rfl) ?_
  refine ys_callV (As := [.int (nI st), .int (nI sd)]) (rest := []) (w1 := (wX ad kd t)) (ci := 0) (q0 := 0) (qq := (RX0, TX0, 8)) ⟨hx, hb, hml, hown, hts⟩ (hF) (cwV 2 hts (lw_V q96 q98 qs4 q12 q99) rfl rfl rfl (by decide +kernel) ⟨Nat.le_of_ble_eq_true rfl, Nat.le_of_ble_eq_true rfl⟩) hK hA hM rfl rfl hl.1 rfl rfl (Nat.le_of_ble_eq_true rfl) ⟨Nat.zero_le _, Nat.zero_le _⟩ dX0_mendLine_3 (fun H locs hM => ?_)
  refine lv_aload_n hx hb dX0_mendLine_6 rfl (lv_at hl 0 rfl) ?_
  refine va_get (D := D) (ci := 0) (v := .int (nI t.2.2.2.2.2)) (C := RX0) (T := TX0) (N := 8) hx hb hts in_X0 hown hK hM.1 0 rfl rfl 7 (by decide) (hts _ q29) (fun _ h9 => h9) rfl dX0_mendLine_7 ?_
  refine lv_iconst (v := (nI 1)) hx hb dX0_mendLine_10 (by decide) ?_
  refine ys_icmp_lt (i := t.2.2.2.2.2) (j := 1) (tgt := 22) hx hb dX0_mendLine_11 (by decide) (by omega) (by omega) (fun h1 => ?_) (fun h1 => ?_)
  · rw [show z_ml2 st sd t = (0, t) from if_pos (Or.inl h1)]
    refine lv_iconst (v := (nI 0)) hx hb dX0_mendLine_22 (by decide) ?_
    exact ys_iret hx hb hr hlocks hK hM rfl dX0_mendLine_23
  · refine lv_aload_n hx hb dX0_mendLine_14 rfl (lv_at hl 0 rfl) ?_
    refine va_get (D := D) (ci := 0) (v := .int (nI t.2.2.2.2.2)) (C := RX0) (T := TX0) (N := 8) hx hb hts in_X0 hown hK hM.1 0 rfl rfl 7 (by decide) (hts _ q29) (fun _ h9 => h9) rfl dX0_mendLine_15 ?_
    refine lv_iconst (v := (nI 2)) hx hb dX0_mendLine_18 (by decide) ?_
    refine ys_icmp_le (i := t.2.2.2.2.2) (j := 2) (tgt := 24) hx hb dX0_mendLine_19 (by decide) (by omega) (by omega) (fun h2 => ?_) (fun h2 => ?_)
    · rw [show z_ml2 st sd t = (t.2.2.2.2.2, z_ml4 st sd (z_ml3 t)) from if_neg (by omega)]
      refine lv_aload_n hx hb dX0_mendLine_24 rfl (lv_at hl 0 rfl) ?_
      refine lv_iconst (v := (nI 0)) hx hb dX0_mendLine_25 (by decide) ?_
      refine ys_callI (As := [.int (nI 0)]) (rest := []) (w1 := (wX ad kd t)) (ci := 0) (q0 := 0) (qq := (RX0, TX0, 8)) ⟨hx, hb, hml, hown, hts⟩ (cx_sumOf l D ad kd t 0 (by decide) hT.2) (cwV 1 hts (lw_V q100 q102 qs5 q12 q103) rfl rfl rfl (by decide +kernel) ⟨Nat.le_of_ble_eq_true rfl, Nat.le_of_ble_eq_true rfl⟩) hK hA hM rfl rfl hl.1 rfl rfl (Nat.le_of_ble_eq_true rfl) ⟨Nat.zero_le _, Nat.zero_le _⟩ dX0_mendLine_26 (fun H locs hM => ?_)
      refine lv_istore_n (lv' := [(3, .int (nI (z_sm 0 t.2.2.1 6))), (0, .ref (ad 0)), (1, .int (nI st)), (2, .int (nI sd))]) hx hb dX0_mendLine_29 rfl hl (by decide) rfl (fun ls hl => ?_)
      refine lv_aload_n hx hb dX0_mendLine_30 rfl (lv_at hl 1 rfl) ?_
      refine lv_iconst (v := (nI 1)) hx hb dX0_mendLine_31 (by decide) ?_
      refine ys_callI (As := [.int (nI 1)]) (rest := []) (w1 := (wX ad kd t)) (ci := 0) (q0 := 0) (qq := (RX0, TX0, 8)) ⟨hx, hb, hml, hown, hts⟩ (cx_sumOf l D ad kd t 1 (by decide) hT.2) (cwV 1 hts (lw_V q100 q102 qs5 q12 q103) rfl rfl rfl (by decide +kernel) ⟨Nat.le_of_ble_eq_true rfl, Nat.le_of_ble_eq_true rfl⟩) hK hA hM rfl rfl hl.1 rfl rfl (Nat.le_of_ble_eq_true rfl) ⟨Nat.zero_le _, Nat.zero_le _⟩ dX0_mendLine_32 (fun H locs hM => ?_)
      refine lv_istore (lv' := [(4, .int (nI (z_sm 1 t.2.2.1 6))), (3, .int (nI (z_sm 0 t.2.2.1 6))), (0, .ref (ad 0)), (1, .int (nI st)), (2, .int (nI sd))]) hx hb dX0_mendLine_35 hl (by decide) rfl (fun ls hl => ?_)
      refine lv_aload_n hx hb dX0_mendLine_37 rfl (lv_at hl 2 rfl) ?_
      refine va_get (D := D) (ci := 0) (v := .int (nI t.2.2.2.2.2)) (C := RX0) (T := TX0) (N := 8) hx hb hts in_X0 hown hK hM.1 0 rfl rfl 7 (by decide) (hts _ q29) (fun _ h9 => h9) rfl dX0_mendLine_38 ?_
      refine lv_iconst (v := (nI 1)) hx hb dX0_mendLine_41 (by decide) ?_
      refine ys_icmp_ne (i := t.2.2.2.2.2) (j := 1) (tgt := 55) hx hb dX0_mendLine_42 (by decide) (by omega) (by omega) (fun h3 => ?_) (fun h3 => ?_)
      · have h5 : t.2.2.2.2.2 = 2 := by omega
        refine lv_aload_n hx hb dX0_mendLine_55 rfl (lv_at hl 2 rfl) ?_
        refine lv_iload_n hx hb dX0_mendLine_56 rfl (lv_at hl 1 rfl) ?_
        refine lv_iload hx hb dX0_mendLine_57 (lv_at hl 0 rfl) ?_
        have hf6 := h12.1 (by omega)
        have hg6 := h12.2 (by omega)
        rw [z_ml34_2 st sd h5]
        refine ys_callV (As := [.int (nI (z_sm 0 t.2.2.1 6)), .int (nI (z_sm 1 t.2.2.1 6))]) (rest := []) (w1 := (wX ad kd (t.1, t.2.1, z_m2 t.2.2.1 t.2.2.2.1 t.2.2.2.2.1 (z_sm 0 t.2.2.1 6) (z_sm 1 t.2.2.1 6), t.2.2.2.1, t.2.2.2.2.1, t.2.2.2.2.2))) (ci := 0) (q0 := 0) (qq := (RX0, TX0, 8)) ⟨hx, hb, hml, hown, hts⟩ (cx_mendTwo l D ad kd t (z_sm 0 t.2.2.1 6) (z_sm 1 t.2.2.1 6) (z_sm_lt _ _ _) (z_sm_lt _ _ _) hf6 hg6) (cwV 2 hts (lw_V q112 q114 qs8 q12 q115) rfl rfl rfl (by decide +kernel) ⟨Nat.le_of_ble_eq_true rfl, Nat.le_of_ble_eq_true rfl⟩) hK hA hM rfl rfl hl.1 rfl rfl (Nat.le_of_ble_eq_true rfl) ⟨Nat.zero_le _, Nat.zero_le _⟩ dX0_mendLine_59 (fun H locs hM => ?_)
        refine lv_aload_n hx hb dX0_mendLine_62 rfl (lv_at hl 2 rfl) ?_
        refine lv_iload_n hx hb dX0_mendLine_63 rfl (lv_at hl 3 rfl) ?_
        refine lv_iload_n hx hb dX0_mendLine_64 rfl (lv_at hl 4 rfl) ?_
        refine lv_aload_n hx hb dX0_mendLine_65 rfl (lv_at hl 2 rfl) ?_
        refine va_get (D := D) (ci := 0) (v := .int (nI t.2.2.2.1)) (C := RX0) (T := TX0) (N := 8) hx hb hts in_X0 hown hK hM.1 0 rfl rfl 5 (by decide) (hts _ q27) (fun _ h9 => h9) rfl dX0_mendLine_66 ?_
        refine ys_callV (As := [.int (nI st), .int (nI sd), .int (nI t.2.2.2.1)]) (rest := []) (w1 := (wX ad kd (z_keep (t.1, t.2.1, z_m2 t.2.2.1 t.2.2.2.1 t.2.2.2.2.1 (z_sm 0 t.2.2.1 6) (z_sm 1 t.2.2.1 6), t.2.2.2.1, t.2.2.2.2.1, t.2.2.2.2.2) st sd t.2.2.2.1))) (ci := 0) (q0 := 0) (qq := (RX0, TX0, 8)) ⟨hx, hb, hml, hown, hts⟩ (cx_keep l D ad kd (t.1, t.2.1, z_m2 t.2.2.1 t.2.2.2.1 t.2.2.2.2.1 (z_sm 0 t.2.2.1 6) (z_sm 1 t.2.2.1 6), t.2.2.2.1, t.2.2.2.2.1, t.2.2.2.2.2) st sd t.2.2.2.1 (hc _ hf6) hf6) (cwV 3 hts (lw_V q116 q118 qs9 q12 q119) rfl rfl rfl (by decide +kernel) ⟨Nat.le_of_ble_eq_true rfl, Nat.le_of_ble_eq_true rfl⟩) hK hA hM rfl rfl hl.1 rfl rfl (Nat.le_of_ble_eq_true rfl) ⟨Nat.zero_le _, Nat.zero_le _⟩ dX0_mendLine_69 (fun H locs hM => ?_)
        refine lv_aload_n hx hb dX0_mendLine_72 rfl (lv_at hl 2 rfl) ?_
        refine va_get (D := D) (ci := 0) (v := .int (nI t.2.2.2.2.2)) (C := RX0) (T := TX0) (N := 8) hx hb hts in_X0 hown hK hM.1 0 rfl rfl 7 (by decide) (hts _ q29) (fun _ h9 => h9) rfl dX0_mendLine_73 ?_
        refine lv_iconst (v := (nI 2)) hx hb dX0_mendLine_76 (by decide) ?_
        refine ys_icmp_ne (i := t.2.2.2.2.2) (j := 2) (tgt := 90) hx hb dX0_mendLine_77 (by decide) (by omega) (by omega) (fun h4 => ?_) (fun h4 => ?_)
        · exact absurd h5 h4
        · refine lv_aload_n hx hb dX0_mendLine_80 rfl (lv_at hl 2 rfl) ?_
          refine lv_iload_n hx hb dX0_mendLine_81 rfl (lv_at hl 3 rfl) ?_
          refine lv_iload_n hx hb dX0_mendLine_82 rfl (lv_at hl 4 rfl) ?_
          refine lv_aload_n hx hb dX0_mendLine_83 rfl (lv_at hl 2 rfl) ?_
          refine va_get (D := D) (ci := 0) (v := .int (nI t.2.2.2.2.1)) (C := RX0) (T := TX0) (N := 8) hx hb hts in_X0 hown hK hM.1 0 rfl rfl 6 (by decide) (hts _ q28) (fun _ h9 => h9) rfl dX0_mendLine_84 ?_
          refine ys_callV (As := [.int (nI st), .int (nI sd), .int (nI t.2.2.2.2.1)]) (rest := []) (w1 := (wX ad kd (z_keep (z_keep (t.1, t.2.1, z_m2 t.2.2.1 t.2.2.2.1 t.2.2.2.2.1 (z_sm 0 t.2.2.1 6) (z_sm 1 t.2.2.1 6), t.2.2.2.1, t.2.2.2.2.1, t.2.2.2.2.2) st sd t.2.2.2.1) st sd t.2.2.2.2.1))) (ci := 0) (q0 := 0) (qq := (RX0, TX0, 8)) ⟨hx, hb, hml, hown, hts⟩ (cx_keep l D ad kd (z_keep (t.1, t.2.1, z_m2 t.2.2.1 t.2.2.2.1 t.2.2.2.2.1 (z_sm 0 t.2.2.1 6) (z_sm 1 t.2.2.1 6), t.2.2.2.1, t.2.2.2.2.1, t.2.2.2.2.2) st sd t.2.2.2.1) st sd t.2.2.2.2.1 (hc _ hg6) hg6) (cwV 3 hts (lw_V q116 q118 qs9 q12 q119) rfl rfl rfl (by decide +kernel) ⟨Nat.le_of_ble_eq_true rfl, Nat.le_of_ble_eq_true rfl⟩) hK hA hM rfl rfl hl.1 rfl rfl (Nat.le_of_ble_eq_true rfl) ⟨Nat.zero_le _, Nat.zero_le _⟩ dX0_mendLine_87 (fun H locs hM => ?_)
          refine lv_aload_n hx hb dX0_mendLine_90 rfl (lv_at hl 2 rfl) ?_
          refine va_get (D := D) (ci := 0) (v := .int (nI t.2.2.2.2.2)) (C := RX0) (T := TX0) (N := 8) hx hb hts in_X0 hown hK hM.1 0 rfl rfl 7 (by decide) (hts _ q29) (fun _ h9 => h9) rfl dX0_mendLine_91 ?_
          exact ys_iret hx hb hr hlocks hK hM rfl dX0_mendLine_94
      · refine lv_aload_n hx hb dX0_mendLine_45 rfl (lv_at hl 2 rfl) ?_
        refine lv_iload_n hx hb dX0_mendLine_46 rfl (lv_at hl 1 rfl) ?_
        refine lv_iload hx hb dX0_mendLine_47 (lv_at hl 0 rfl) ?_
        have hf6 := h12.1 (by omega)
        rw [z_ml34_1 st sd h3]
        refine ys_callV (As := [.int (nI (z_sm 0 t.2.2.1 6)), .int (nI (z_sm 1 t.2.2.1 6))]) (rest := []) (w1 := (wX ad kd (t.1, t.2.1, z_m1 t.2.2.1 t.2.2.2.1 (z_sm 0 t.2.2.1 6) (z_sm 1 t.2.2.1 6), t.2.2.2.1, t.2.2.2.2.1, t.2.2.2.2.2))) (ci := 0) (q0 := 0) (qq := (RX0, TX0, 8)) ⟨hx, hb, hml, hown, hts⟩ (cx_mendOne l D ad kd t (z_sm 0 t.2.2.1 6) (z_sm 1 t.2.2.1 6) (z_sm_lt _ _ _) (z_sm_lt _ _ _) hf6) (cwV 2 hts (lw_V q104 q106 qs6 q12 q107) rfl rfl rfl (by decide +kernel) ⟨Nat.le_of_ble_eq_true rfl, Nat.le_of_ble_eq_true rfl⟩) hK hA hM rfl rfl hl.1 rfl rfl (Nat.le_of_ble_eq_true rfl) ⟨Nat.zero_le _, Nat.zero_le _⟩ dX0_mendLine_49 (fun H locs hM => ?_)
        refine lv_goto (tgt := 62) hx hb dX0_mendLine_52 (by decide) ?_
        refine lv_aload_n hx hb dX0_mendLine_62 rfl (lv_at hl 2 rfl) ?_
        refine lv_iload_n hx hb dX0_mendLine_63 rfl (lv_at hl 3 rfl) ?_
        refine lv_iload_n hx hb dX0_mendLine_64 rfl (lv_at hl 4 rfl) ?_
        refine lv_aload_n hx hb dX0_mendLine_65 rfl (lv_at hl 2 rfl) ?_
        refine va_get (D := D) (ci := 0) (v := .int (nI t.2.2.2.1)) (C := RX0) (T := TX0) (N := 8) hx hb hts in_X0 hown hK hM.1 0 rfl rfl 5 (by decide) (hts _ q27) (fun _ h9 => h9) rfl dX0_mendLine_66 ?_
        refine ys_callV (As := [.int (nI st), .int (nI sd), .int (nI t.2.2.2.1)]) (rest := []) (w1 := (wX ad kd (z_keep (t.1, t.2.1, z_m1 t.2.2.1 t.2.2.2.1 (z_sm 0 t.2.2.1 6) (z_sm 1 t.2.2.1 6), t.2.2.2.1, t.2.2.2.2.1, t.2.2.2.2.2) st sd t.2.2.2.1))) (ci := 0) (q0 := 0) (qq := (RX0, TX0, 8)) ⟨hx, hb, hml, hown, hts⟩ (cx_keep l D ad kd (t.1, t.2.1, z_m1 t.2.2.1 t.2.2.2.1 (z_sm 0 t.2.2.1 6) (z_sm 1 t.2.2.1 6), t.2.2.2.1, t.2.2.2.2.1, t.2.2.2.2.2) st sd t.2.2.2.1 (hc _ hf6) hf6) (cwV 3 hts (lw_V q116 q118 qs9 q12 q119) rfl rfl rfl (by decide +kernel) ⟨Nat.le_of_ble_eq_true rfl, Nat.le_of_ble_eq_true rfl⟩) hK hA hM rfl rfl hl.1 rfl rfl (Nat.le_of_ble_eq_true rfl) ⟨Nat.zero_le _, Nat.zero_le _⟩ dX0_mendLine_69 (fun H locs hM => ?_)
        refine lv_aload_n hx hb dX0_mendLine_72 rfl (lv_at hl 2 rfl) ?_
        refine va_get (D := D) (ci := 0) (v := .int (nI t.2.2.2.2.2)) (C := RX0) (T := TX0) (N := 8) hx hb hts in_X0 hown hK hM.1 0 rfl rfl 7 (by decide) (hts _ q29) (fun _ h9 => h9) rfl dX0_mendLine_73 ?_
        refine lv_iconst (v := (nI 2)) hx hb dX0_mendLine_76 (by decide) ?_
        refine ys_icmp_ne (i := t.2.2.2.2.2) (j := 2) (tgt := 90) hx hb dX0_mendLine_77 (by decide) (by omega) (by omega) (fun h4 => ?_) (fun h4 => ?_)
        · refine lv_aload_n hx hb dX0_mendLine_90 rfl (lv_at hl 2 rfl) ?_
          refine va_get (D := D) (ci := 0) (v := .int (nI t.2.2.2.2.2)) (C := RX0) (T := TX0) (N := 8) hx hb hts in_X0 hown hK hM.1 0 rfl rfl 7 (by decide) (hts _ q29) (fun _ h9 => h9) rfl dX0_mendLine_91 ?_
          exact ys_iret hx hb hr hlocks hK hM rfl dX0_mendLine_94
        · exact absurd h4 (by omega)
    · rw [show z_ml2 st sd t = (0, t) from if_pos (Or.inr h2)]
      refine lv_iconst (v := (nI 0)) hx hb dX0_mendLine_22 (by decide) ?_
      exact ys_iret hx hb hr hlocks hK hM rfl dX0_mendLine_23
set_option maxHeartbeats 4000000 in
set_option maxRecDepth 100000 in
theorem cx_mendRow_out (l : Launch) (D : va_G) (ad : Nat → Nat) (kd : Nat → ClassId) (u : zS) (x : Int32) (hout : (z_in (nI 5) x && z_in (nI 5) (nI 0)) = false) : ys_I l yX0_mendRow (ws_ yX0_mendRow cX0_mendRow 2 (some .int)) ({ frames := 3, cells := 0, slots := 0, locals := 75 } : Room) D (tX kd) [.ref (ad 0), .int x] (wX ad kd u) (wX ad kd u) (-1) := by
  refine ys_I.mk (own := RX0) (by decide) rfl (Nat.le_of_ble_eq_true rfl) ?_
  intro p e s m below meth cd A ls E hK hA hM hl
  obtain ⟨hx, hb, hr, hml, hown, hts, hlocks⟩ := E
  have hl : lv_has ls 2 [(0, .ref (ad 0)), (1, .int x)] := hl
  refine lv_iload_n hx hb dX0_mendRow_0 rfl (lv_at hl 1 rfl) ?_
  refine lv_iconst (v := (nI 0)) hx hb dX0_mendRow_1 (by decide) ?_
  refine ys_callS (As := [.int x, .int (nI 0)]) (rest := []) (w1 := (wX ad kd u)) ⟨hx, hb, hml, hown, hts⟩ (cx_isCell_out l D (tX kd) (wX ad kd u) hout) (va_cwS 2 hts (lw_S q76 q77 q12 q78) rfl rfl rfl (by decide +kernel) ⟨Nat.le_of_ble_eq_true rfl, Nat.le_of_ble_eq_true rfl⟩) hK hA hM hl.1 rfl rfl (Nat.le_of_ble_eq_true rfl) ⟨Nat.zero_le _, Nat.zero_le _⟩ dX0_mendRow_2 (fun H locs hM => ?_)
  refine ys_ifb_eq (b := false) (tgt := 20) hx hb dX0_mendRow_5 (by decide) (fun h0 => ?_) (fun h0 => ?_)
  · refine lv_iconst (v := -1) hx hb dX0_mendRow_20 (by decide) ?_
    exact ys_iret hx hb hr hlocks hK hM rfl dX0_mendRow_21
  · exact absurd h0 (by decide)
set_option maxHeartbeats 4000000 in
set_option maxRecDepth 100000 in
theorem cx_mendRow (l : Launch) (D : va_G) (ad : Nat → Nat) (kd : Nat → ClassId) (u : zS) (r : Nat) (hr5 : r ≤ 5) (hu : zOk u) : ys_I l yX0_mendRow (ws_ yX0_mendRow cX0_mendRow 2 (some .int)) ({ frames := 3, cells := 0, slots := 0, locals := 75 } : Room) D (tX kd) [.ref (ad 0), .int (nI r)] (wX ad kd u) (wX ad kd ((z_ml (6 * r) 1 u).2)) (nI (z_ml (6 * r) 1 u).1) := by
  refine ys_I.mk (own := RX0) (by decide) rfl (Nat.le_of_ble_eq_true rfl) ?_
  intro p e s m below meth cd A ls E hK hA hM hl
  obtain ⟨hx, hb, hr, hml, hown, hts, hlocks⟩ := E
  have hl : lv_has ls 2 [(0, .ref (ad 0)), (1, .int (nI r))] := hl
  refine lv_iload_n hx hb dX0_mendRow_0 rfl (lv_at hl 1 rfl) ?_
  refine lv_iconst (v := (nI 0)) hx hb dX0_mendRow_1 (by decide) ?_
  refine ys_callS (As := [.int (nI r), .int (nI 0)]) (rest := []) (w1 := (wX ad kd u)) ⟨hx, hb, hml, hown, hts⟩ (cx_isCell_in l D (tX kd) (wX ad kd u) hr5 (Nat.zero_le 5)) (va_cwS 2 hts (lw_S q76 q77 q12 q78) rfl rfl rfl (by decide +kernel) ⟨Nat.le_of_ble_eq_true rfl, Nat.le_of_ble_eq_true rfl⟩) hK hA hM hl.1 rfl rfl (Nat.le_of_ble_eq_true rfl) ⟨Nat.zero_le _, Nat.zero_le _⟩ dX0_mendRow_2 (fun H locs hM => ?_)
  refine ys_ifb_eq (b := true) (tgt := 20) hx hb dX0_mendRow_5 (by decide) (fun h0 => ?_) (fun h0 => ?_)
  · exact absurd h0 (by decide)
  · refine lv_aload_n hx hb dX0_mendRow_8 rfl (lv_at hl 0 rfl) ?_
    refine lv_bipush (v := (nI 6)) hx hb dX0_mendRow_9 (by decide) ?_
    refine lv_iload_n hx hb dX0_mendRow_11 rfl (lv_at hl 1 rfl) ?_
    refine ys_imul (i := 6) (j := r) hx hb dX0_mendRow_12 ?_
    refine lv_iconst (v := (nI 1)) hx hb dX0_mendRow_13 (by decide) ?_
    refine ys_callI (As := [.int (nI (6 * r)), .int (nI 1)]) (rest := []) (w1 := (wX ad kd ((z_ml (6 * r) 1 u).2))) (ci := 0) (q0 := 0) (qq := (RX0, TX0, 8)) ⟨hx, hb, hml, hown, hts⟩ (cx_mendLine l D ad kd u (6 * r) 1 (fun k hk => by omega) hu) (cwV 2 hts (lw_V q92 q94 qs3 q12 q95) rfl rfl rfl (by decide +kernel) ⟨Nat.le_of_ble_eq_true rfl, Nat.le_of_ble_eq_true rfl⟩) hK hA hM rfl rfl hl.1 rfl rfl (Nat.le_of_ble_eq_true rfl) ⟨Nat.zero_le _, Nat.zero_le _⟩ dX0_mendRow_14 (fun H locs hM => ?_)
    refine lv_goto (tgt := 21) hx hb dX0_mendRow_17 (by decide) ?_
    exact ys_iret hx hb hr hlocks hK hM rfl dX0_mendRow_21
set_option maxHeartbeats 4000000 in
set_option maxRecDepth 100000 in
theorem cx_mendColumn_out (l : Launch) (D : va_G) (ad : Nat → Nat) (kd : Nat → ClassId) (u : zS) (x : Int32) (hout : (z_in (nI 5) (nI 0) && z_in (nI 5) x) = false) : ys_I l yX0_mendColumn (ws_ yX0_mendColumn cX0_mendColumn 2 (some .int)) ({ frames := 3, cells := 0, slots := 0, locals := 75 } : Room) D (tX kd) [.ref (ad 0), .int x] (wX ad kd u) (wX ad kd u) (-1) := by
  refine ys_I.mk (own := RX0) (by decide) rfl (Nat.le_of_ble_eq_true rfl) ?_
  intro p e s m below meth cd A ls E hK hA hM hl
  obtain ⟨hx, hb, hr, hml, hown, hts, hlocks⟩ := E
  have hl : lv_has ls 2 [(0, .ref (ad 0)), (1, .int x)] := hl
  refine lv_iconst (v := (nI 0)) hx hb dX0_mendColumn_0 (by decide) ?_
  refine lv_iload_n hx hb dX0_mendColumn_1 rfl (lv_at hl 1 rfl) ?_
  refine ys_callS (As := [.int (nI 0), .int x]) (rest := []) (w1 := (wX ad kd u)) ⟨hx, hb, hml, hown, hts⟩ (cx_isCell_out l D (tX kd) (wX ad kd u) hout) (va_cwS 2 hts (lw_S q76 q77 q12 q78) rfl rfl rfl (by decide +kernel) ⟨Nat.le_of_ble_eq_true rfl, Nat.le_of_ble_eq_true rfl⟩) hK hA hM hl.1 rfl rfl (Nat.le_of_ble_eq_true rfl) ⟨Nat.zero_le _, Nat.zero_le _⟩ dX0_mendColumn_2 (fun H locs hM => ?_)
  refine ys_ifb_eq (b := false) (tgt := 18) hx hb dX0_mendColumn_5 (by decide) (fun h0 => ?_) (fun h0 => ?_)
  · refine lv_iconst (v := -1) hx hb dX0_mendColumn_18 (by decide) ?_
    exact ys_iret hx hb hr hlocks hK hM rfl dX0_mendColumn_19
  · exact absurd h0 (by decide)
set_option maxHeartbeats 4000000 in
set_option maxRecDepth 100000 in
theorem cx_mendColumn (l : Launch) (D : va_G) (ad : Nat → Nat) (kd : Nat → ClassId) (u : zS) (r : Nat) (hr5 : r ≤ 5) (hu : zOk u) : ys_I l yX0_mendColumn (ws_ yX0_mendColumn cX0_mendColumn 2 (some .int)) ({ frames := 3, cells := 0, slots := 0, locals := 75 } : Room) D (tX kd) [.ref (ad 0), .int (nI r)] (wX ad kd u) (wX ad kd ((z_ml r 6 u).2)) (nI (z_ml r 6 u).1) := by
  refine ys_I.mk (own := RX0) (by decide) rfl (Nat.le_of_ble_eq_true rfl) ?_
  intro p e s m below meth cd A ls E hK hA hM hl
  obtain ⟨hx, hb, hr, hml, hown, hts, hlocks⟩ := E
  have hl : lv_has ls 2 [(0, .ref (ad 0)), (1, .int (nI r))] := hl
  refine lv_iconst (v := (nI 0)) hx hb dX0_mendColumn_0 (by decide) ?_
  refine lv_iload_n hx hb dX0_mendColumn_1 rfl (lv_at hl 1 rfl) ?_
  refine ys_callS (As := [.int (nI 0), .int (nI r)]) (rest := []) (w1 := (wX ad kd u)) ⟨hx, hb, hml, hown, hts⟩ (cx_isCell_in l D (tX kd) (wX ad kd u) (Nat.zero_le 5) hr5) (va_cwS 2 hts (lw_S q76 q77 q12 q78) rfl rfl rfl (by decide +kernel) ⟨Nat.le_of_ble_eq_true rfl, Nat.le_of_ble_eq_true rfl⟩) hK hA hM hl.1 rfl rfl (Nat.le_of_ble_eq_true rfl) ⟨Nat.zero_le _, Nat.zero_le _⟩ dX0_mendColumn_2 (fun H locs hM => ?_)
  refine ys_ifb_eq (b := true) (tgt := 18) hx hb dX0_mendColumn_5 (by decide) (fun h0 => ?_) (fun h0 => ?_)
  · exact absurd h0 (by decide)
  · refine lv_aload_n hx hb dX0_mendColumn_8 rfl (lv_at hl 0 rfl) ?_
    refine lv_iload_n hx hb dX0_mendColumn_9 rfl (lv_at hl 1 rfl) ?_
    refine lv_bipush (v := (nI 6)) hx hb dX0_mendColumn_10 (by decide) ?_
    refine ys_callI (As := [.int (nI r), .int (nI 6)]) (rest := []) (w1 := (wX ad kd ((z_ml r 6 u).2))) (ci := 0) (q0 := 0) (qq := (RX0, TX0, 8)) ⟨hx, hb, hml, hown, hts⟩ (cx_mendLine l D ad kd u r 6 (fun k hk => by omega) hu) (cwV 2 hts (lw_V q92 q94 qs3 q12 q95) rfl rfl rfl (by decide +kernel) ⟨Nat.le_of_ble_eq_true rfl, Nat.le_of_ble_eq_true rfl⟩) hK hA hM rfl rfl hl.1 rfl rfl (Nat.le_of_ble_eq_true rfl) ⟨Nat.zero_le _, Nat.zero_le _⟩ dX0_mendColumn_12 (fun H locs hM => ?_)
    refine lv_goto (tgt := 19) hx hb dX0_mendColumn_15 (by decide) ?_
    exact ys_iret hx hb hr hlocks hK hM rfl dX0_mendColumn_19
set_option maxHeartbeats 4000000 in
set_option maxRecDepth 100000 in
/-- rounds of mending -/
theorem cx_mend (l : Launch) (D : va_G) (ad : Nat → Nat) (kd : Nat → ClassId) (u : zS) (hu : zOk u) : ys_I l yX0_mend (ws_ yX0_mend cX0_mend 6 (some .int)) ({ frames := 3, cells := 0, slots := 0, locals := 75 } : Room) D (tX kd) [.ref (ad 0)] (wX ad kd u) (wX ad kd ((z_md 37 0 u).2)) (nI (z_md 37 0 u).1) := by
  obtain ⟨Z, hZ⟩ : ∃ Z, Z = z_md 37 0 u := ⟨_, rfl⟩
  rw [← hZ]
  refine ys_I.mk (own := RX0) (by decide) rfl (Nat.le_of_ble_eq_true rfl) ?_
  intro p e s m below meth cd A ls E hK hA hM hl
  obtain ⟨hx, hb, hr, hml, hown, hts, hlocks⟩ := E
  have hl : lv_has ls 6 [(0, .ref (ad 0))] := hl
  refine lv_iconst (v := (nI 0)) hx hb dX0_mend_0 (by decide) ?_
  refine lv_istore_n (lv' := [(1, .int (nI 0)), (0, .ref (ad 0))]) hx hb dX0_mend_1 rfl hl (by decide) rfl (fun ls hl => ?_)
  refine lv_iconst (v := (bI true)) hx hb dX0_mend_2 (by decide) ?_
  refine lv_istore_n (lv' := [(2, .int (bI true)), (1, .int (nI 0)), (0, .ref (ad 0))]) hx hb dX0_mend_3 rfl hl (by decide) rfl (fun ls hl => ?_)
  refine lv_iconst (v := (nI 0)) hx hb dX0_mend_4 (by decide) ?_
  refine lv_istore_n (lv' := [(3, .int (nI 0)), (2, .int (bI true)), (1, .int (nI 0)), (0, .ref (ad 0))]) hx hb dX0_mend_5 rfl hl (by decide) rfl (fun ls hl => ?_)
  have loop : ∀ (fu rd t : Nat) (v : zS) (ls : Array Slot) (H : Heap) (locs : List Loc), rd + fu = 37 → zOk v → Z = z_md fu t v → ys_M D A s (wX ad kd v) H locs → lv_has ls 6 [(0, .ref (ad 0)), (1, .int (nI t)), (2, .int (bI true)), (3, .int (nI rd))] → W p l e ({ frames := 3, cells := 0, slots := 0, locals := 75 } : Room) s m ([.ref (ad 0)] : List Value).toArray below meth cd H locs 0 0 (ys_QI D (tX kd) below ([.ref (ad 0)] : List Value).toArray s A (wX ad kd Z.2) (nI Z.1)) (F0 m 6 ls []) := by
    intro fu
    induction fu with
    | zero =>
      intro rd t v ls H locs hrd hv hR hM hl
      have hR : Z = (t, v) := hR
      refine lv_iload_n hx hb dX0_mend_6 rfl (lv_at hl 3 rfl) ?_
      refine lv_bipush (v := (nI 37)) hx hb dX0_mend_7 (by decide) ?_
      refine ys_icmp_ge (i := rd) (j := 37) (tgt := 85) hx hb dX0_mend_9 (by decide) (by omega) (by omega) (fun h0 => ?_) (fun h0 => ?_)
      · rw [hR]
        refine lv_iload_n hx hb dX0_mend_85 rfl (lv_at hl 1 rfl) ?_
        exact ys_iret hx hb hr hlocks hK hM rfl dX0_mend_86
      · exact absurd h0 (by omega)
    | succ fu ih =>
      intro rd t v ls H locs hrd hv hR hM hl
      have hR : Z = if (z_rk v 6).1 = 0 then (t + (z_rk v 6).1, (z_rk v 6).2) else z_md fu (t + (z_rk v 6).1) (z_rk v 6).2 := hR
      have hle := z_rk_le v 6
      have hok6 := z_rk_ok hv 6
      refine lv_iload_n hx hb dX0_mend_6 rfl (lv_at hl 3 rfl) ?_
      refine lv_bipush (v := (nI 37)) hx hb dX0_mend_7 (by decide) ?_
      refine ys_icmp_ge (i := rd) (j := 37) (tgt := 85) hx hb dX0_mend_9 (by decide) (by omega) (by omega) (fun h0 => ?_) (fun h0 => ?_)
      · exact absurd h0 (by omega)
      · refine lv_iload_n hx hb dX0_mend_12 rfl (lv_at hl 2 rfl) ?_
        refine ys_ifb_eq (b := true) (tgt := 85) hx hb dX0_mend_13 (by decide) (fun h1 => ?_) (fun h1 => ?_)
        · exact absurd h1 (by decide)
        · refine lv_iconst (v := (nI 0)) hx hb dX0_mend_16 (by decide) ?_
          refine lv_istore (lv' := [(4, .int (nI 0)), (0, .ref (ad 0)), (1, .int (nI t)), (2, .int (bI true)), (3, .int (nI rd))]) hx hb dX0_mend_17 hl (by decide) rfl (fun ls hl => ?_)
          refine lv_iconst (v := (nI 0)) hx hb dX0_mend_19 (by decide) ?_
          refine lv_istore (lv' := [(5, .int (nI 0)), (4, .int (nI 0)), (0, .ref (ad 0)), (1, .int (nI t)), (2, .int (bI true)), (3, .int (nI rd))]) hx hb dX0_mend_20 hl (by decide) rfl (fun ls hl => ?_)
          have inner : ∀ (n2 k : Nat) (ls : Array Slot) (H : Heap) (locs : List Loc), k + n2 = 6 → ys_M D A s (wX ad kd ((z_rk v k).2)) H locs → lv_has ls 6 [(0, .ref (ad 0)), (1, .int (nI t)), (2, .int (bI true)), (3, .int (nI rd)), (4, .int (nI ((z_rk v k).1))), (5, .int (nI k))] → W p l e ({ frames := 3, cells := 0, slots := 0, locals := 75 } : Room) s m ([.ref (ad 0)] : List Value).toArray below meth cd H locs 0 0 (ys_QI D (tX kd) below ([.ref (ad 0)] : List Value).toArray s A (wX ad kd Z.2) (nI Z.1)) (F0 m 22 ls []) := by
            intro n2
            induction n2 with
            | zero =>
              intro k ls H locs hkn hM hl
              refine lv_iload hx hb dX0_mend_22 (lv_at hl 5 rfl) ?_
              refine lv_bipush (v := (nI 6)) hx hb dX0_mend_24 (by decide) ?_
              refine ys_icmp_ge (i := k) (j := 6) (tgt := 63) hx hb dX0_mend_26 (by decide) (by omega) (by omega) (fun h2 => ?_) (fun h2 => ?_)
              · obtain rfl : k = 6 := by omega
                generalize z_rk v 6 = z at hM hl hR hle hok6 ⊢
                refine lv_iload_n hx hb dX0_mend_63 rfl (lv_at hl 1 rfl) ?_
                refine lv_iload hx hb dX0_mend_64 (lv_at hl 4 rfl) ?_
                refine ys_iadd (i := t) (j := z.1) hx hb dX0_mend_66 ?_
                refine lv_istore_n (lv' := [(1, .int (nI (t + z.1))), (0, .ref (ad 0)), (2, .int (bI true)), (3, .int (nI rd)), (4, .int (nI z.1)), (5, .int (nI 6))]) hx hb dX0_mend_67 rfl hl (by decide) rfl (fun ls hl => ?_)
                refine lv_iload hx hb dX0_mend_68 (lv_at hl 4 rfl) ?_
                refine ys_if_le (i := z.1) (tgt := 77) hx hb dX0_mend_70 (by decide) (by omega) (fun h3 => ?_) (fun h3 => ?_)
                · have hR2 : Z = (t + z.1, z.2) := by rw [hR]; exact if_pos h3
                  rw [hR2]
                  refine lv_iconst (v := (bI false)) hx hb dX0_mend_77 (by decide) ?_
                  refine lv_istore_n (lv' := [(2, .int (bI false)), (1, .int (nI (t + z.1))), (0, .ref (ad 0)), (3, .int (nI rd)), (4, .int (nI z.1)), (5, .int (nI 6))]) hx hb dX0_mend_78 rfl hl (by decide) rfl (fun ls hl => ?_)
                  refine lv_iinc (v := (nI (rd + 1))) (lv' := [(3, .int (nI (rd + 1))), (2, .int (bI false)), (1, .int (nI (t + z.1))), (0, .ref (ad 0)), (4, .int (nI z.1)), (5, .int (nI 6))]) hx hb dX0_mend_79 hl (k := 3) rfl (ys_inc rd) (by decide) rfl (fun ls hl => ?_)
                  refine lv_goto (tgt := 6) hx hb dX0_mend_82 (by decide) ?_
                  refine lv_iload_n hx hb dX0_mend_6 rfl (lv_at hl 0 rfl) ?_
                  refine lv_bipush (v := (nI 37)) hx hb dX0_mend_7 (by decide) ?_
                  refine ys_icmp_ge (i := (rd + 1)) (j := 37) (tgt := 85) hx hb dX0_mend_9 (by decide) (by omega) (by omega) (fun h4 => ?_) (fun h4 => ?_)
                  · refine lv_iload_n hx hb dX0_mend_85 rfl (lv_at hl 2 rfl) ?_
                    exact ys_iret hx hb hr hlocks hK hM rfl dX0_mend_86
                  · refine lv_iload_n hx hb dX0_mend_12 rfl (lv_at hl 1 rfl) ?_
                    refine ys_ifb_eq (b := false) (tgt := 85) hx hb dX0_mend_13 (by decide) (fun h5 => ?_) (fun h5 => ?_)
                    · refine lv_iload_n hx hb dX0_mend_85 rfl (lv_at hl 2 rfl) ?_
                      exact ys_iret hx hb hr hlocks hK hM rfl dX0_mend_86
                    · exact absurd h5 (by decide)
                · refine lv_iconst (v := (bI true)) hx hb dX0_mend_73 (by decide) ?_
                  refine lv_goto (tgt := 78) hx hb dX0_mend_74 (by decide) ?_
                  refine lv_istore_n (lv' := [(2, .int (bI true)), (1, .int (nI (t + z.1))), (0, .ref (ad 0)), (3, .int (nI rd)), (4, .int (nI z.1)), (5, .int (nI 6))]) hx hb dX0_mend_78 rfl hl (by decide) rfl (fun ls hl => ?_)
                  refine lv_iinc (v := (nI (rd + 1))) (lv' := [(3, .int (nI (rd + 1))), (2, .int (bI true)), (1, .int (nI (t + z.1))), (0, .ref (ad 0)), (4, .int (nI z.1)), (5, .int (nI 6))]) hx hb dX0_mend_79 hl (k := 3) rfl (ys_inc rd) (by decide) rfl (fun ls hl => ?_)
                  refine lv_goto (tgt := 6) hx hb dX0_mend_82 (by decide) ?_
                  exact ih (rd + 1) (t + z.1) z.2 ls _ _ (by omega) hok6 (by rw [hR]; exact if_neg (Nat.ne_of_gt h3)) hM (lv_sub hl [3, 2, 1, 0] rfl)
              · exact absurd h2 (by omega)
            | succ n2 ih2 =>
              intro k ls H locs hkn hM hl
              refine lv_iload hx hb dX0_mend_22 (lv_at hl 5 rfl) ?_
              refine lv_bipush (v := (nI 6)) hx hb dX0_mend_24 (by decide) ?_
              refine ys_icmp_ge (i := k) (j := 6) (tgt := 63) hx hb dX0_mend_26 (by decide) (by omega) (by omega) (fun h2 => ?_) (fun h2 => ?_)
              · exact absurd h2 (by omega)
              · have hok := z_rk_ok hv k
                refine lv_iload hx hb dX0_mend_29 (lv_at hl 4 rfl) ?_
                refine lv_aload_n hx hb dX0_mend_31 rfl (lv_at hl 0 rfl) ?_
                refine lv_bipush (v := (nI 6)) hx hb dX0_mend_32 (by decide) ?_
                refine lv_iload hx hb dX0_mend_34 (lv_at hl 5 rfl) ?_
                refine ys_imul (i := 6) (j := k) hx hb dX0_mend_36 ?_
                refine lv_iconst (v := (nI 1)) hx hb dX0_mend_37 (by decide) ?_
                refine ys_callI (As := [.int (nI (6 * k)), .int (nI 1)]) (rest := [.int (nI ((z_rk v k).1))]) (w1 := (wX ad kd ((z_ml (6 * k) 1 (z_rk v k).2).2))) (ci := 0) (q0 := 0) (qq := (RX0, TX0, 8)) ⟨hx, hb, hml, hown, hts⟩ (cx_mendLine l D ad kd (z_rk v k).2 (6 * k) 1 (fun j hj => by omega) hok) (cwV 2 hts (lw_V q92 q94 qs3 q12 q95) rfl rfl rfl (by decide +kernel) ⟨Nat.le_of_ble_eq_true rfl, Nat.le_of_ble_eq_true rfl⟩) hK hA hM rfl rfl hl.1 rfl rfl (Nat.le_of_ble_eq_true rfl) ⟨Nat.zero_le _, Nat.zero_le _⟩ dX0_mend_38 (fun H locs hM => ?_)
                refine ys_iadd (i := ((z_rk v k).1)) (j := ((z_ml (6 * k) 1 (z_rk v k).2).1)) hx hb dX0_mend_41 ?_
                refine lv_istore (lv' := [(4, .int (nI (((z_rk v k).1) + ((z_ml (6 * k) 1 (z_rk v k).2).1)))), (0, .ref (ad 0)), (1, .int (nI t)), (2, .int (bI true)), (3, .int (nI rd)), (5, .int (nI k))]) hx hb dX0_mend_42 hl (by decide) rfl (fun ls hl => ?_)
                refine lv_iload hx hb dX0_mend_44 (lv_at hl 0 rfl) ?_
                refine lv_aload_n hx hb dX0_mend_46 rfl (lv_at hl 1 rfl) ?_
                refine lv_iload hx hb dX0_mend_47 (lv_at hl 5 rfl) ?_
                refine lv_bipush (v := (nI 6)) hx hb dX0_mend_49 (by decide) ?_
                refine ys_callI (As := [.int (nI k), .int (nI 6)]) (rest := [.int (nI (((z_rk v k).1) + ((z_ml (6 * k) 1 (z_rk v k).2).1)))]) (w1 := (wX ad kd ((z_ml k 6 (z_ml (6 * k) 1 (z_rk v k).2).2).2))) (ci := 0) (q0 := 0) (qq := (RX0, TX0, 8)) ⟨hx, hb, hml, hown, hts⟩ (cx_mendLine l D ad kd (z_ml (6 * k) 1 (z_rk v k).2).2 k 6 (fun j hj => by omega) (z_ml_ok hok _ _)) (cwV 2 hts (lw_V q92 q94 qs3 q12 q95) rfl rfl rfl (by decide +kernel) ⟨Nat.le_of_ble_eq_true rfl, Nat.le_of_ble_eq_true rfl⟩) hK hA hM rfl rfl hl.1 rfl rfl (Nat.le_of_ble_eq_true rfl) ⟨Nat.zero_le _, Nat.zero_le _⟩ dX0_mend_51 (fun H locs hM => ?_)
                refine ys_iadd (i := (((z_rk v k).1) + ((z_ml (6 * k) 1 (z_rk v k).2).1))) (j := ((z_ml k 6 (z_ml (6 * k) 1 (z_rk v k).2).2).1)) hx hb dX0_mend_54 ?_
                refine lv_istore (lv' := [(4, .int (nI ((((z_rk v k).1) + ((z_ml (6 * k) 1 (z_rk v k).2).1)) + ((z_ml k 6 (z_ml (6 * k) 1 (z_rk v k).2).2).1)))), (0, .ref (ad 0)), (1, .int (nI t)), (2, .int (bI true)), (3, .int (nI rd)), (5, .int (nI k))]) hx hb dX0_mend_55 hl (by decide) rfl (fun ls hl => ?_)
                refine lv_iinc (v := (nI (k + 1))) (lv' := [(5, .int (nI (k + 1))), (4, .int (nI ((((z_rk v k).1) + ((z_ml (6 * k) 1 (z_rk v k).2).1)) + ((z_ml k 6 (z_ml (6 * k) 1 (z_rk v k).2).2).1)))), (0, .ref (ad 0)), (1, .int (nI t)), (2, .int (bI true)), (3, .int (nI rd))]) hx hb dX0_mend_57 hl (k := 5) rfl (ys_inc k) (by decide) rfl (fun ls hl => ?_)
                refine lv_goto (tgt := 22) hx hb dX0_mend_60 (by decide) ?_
                exact ih2 (k + 1) ls _ _ (by omega) hM (lv_sub hl [2, 3, 4, 5, 1, 0] rfl)
          exact inner 6 0 ls _ _ (by omega) hM (lv_sub hl [2, 3, 4, 5, 1, 0] rfl)
  exact loop 37 0 0 u ls _ _ rfl hu hZ hM (lv_sub hl [3, 2, 1, 0] rfl)
end
section
set_option maxHeartbeats 4000000 in
set_option maxRecDepth 100000 in
theorem cx_write_out (l : Launch) (D : va_G) (ad : Nat → Nat) (kd : Nat → ClassId) (u : zS) (x y v : Int32) (hout : (z_in (nI 3) x && z_in (nI 3) y) = false) : ys_I l yX0_write (ws_ yX0_write cX0_write 12 (some .int)) ({ frames := 1, cells := 0, slots := 0, locals := 23 } : Room) D (tX kd) [.ref (ad 0), .int x, .int y, .int v] (wX ad kd u) (wX ad kd u) (-1) := by
  refine ys_I.mk (own := RX0) (by decide) rfl (Nat.le_of_ble_eq_true rfl) ?_
  intro p e s m below meth cd A ls E hK hA hM hl
  obtain ⟨hx, hb, hr, hml, hown, hts, hlocks⟩ := E
  have hl : lv_has ls 12 [(0, .ref (ad 0)), (1, .int x), (2, .int y), (3, .int v)] := hl
  refine lv_iload_n hx hb dX0_write_0 rfl (lv_at hl 1 rfl) ?_
  refine lv_iload_n hx hb dX0_write_1 rfl (lv_at hl 2 rfl) ?_
  refine ys_callS (As := [.int x, .int y]) (rest := []) (w1 := (wX ad kd u)) ⟨hx, hb, hml, hown, hts⟩ (cx_isData_out l D (tX kd) (wX ad kd u) hout) (va_cwS 2 hts (lw_S q53 q54 q12 q55) rfl rfl rfl (by decide +kernel) ⟨Nat.le_of_ble_eq_true rfl, Nat.le_of_ble_eq_true rfl⟩) hK hA hM hl.1 rfl rfl (Nat.le_of_ble_eq_true rfl) ⟨Nat.zero_le _, Nat.zero_le _⟩ dX0_write_2 (fun H locs hM => ?_)
  refine ys_ifb_eq (b := false) (tgt := 22) hx hb dX0_write_5 (by decide) (fun h0 => ?_) (fun h0 => ?_)
  · refine lv_iconst (v := -1) hx hb dX0_write_22 (by decide) ?_
    exact ys_iret hx hb hr hlocks hK hM rfl dX0_write_23
  · exact absurd h0 (by decide)
set_option maxHeartbeats 4000000 in
set_option maxRecDepth 100000 in
theorem cx_write_gone (l : Launch) (D : va_G) (ad : Nat → Nat) (kd : Nat → ClassId) (u : zS) (r c : Nat) (hr3 : r ≤ 3) (hc3 : c ≤ 3) (v : Int32) (hg : u.2.1 (6 * r + c) = true) : ys_I l yX0_write (ws_ yX0_write cX0_write 12 (some .int)) ({ frames := 1, cells := 0, slots := 0, locals := 23 } : Room) D (tX kd) [.ref (ad 0), .int (nI r), .int (nI c), .int v] (wX ad kd u) (wX ad kd u) (-1) := by
  refine ys_I.mk (own := RX0) (by decide) rfl (Nat.le_of_ble_eq_true rfl) ?_
  intro p e s m below meth cd A ls E hK hA hM hl
  obtain ⟨hx, hb, hr, hml, hown, hts, hlocks⟩ := E
  have hl : lv_has ls 12 [(0, .ref (ad 0)), (1, .int (nI r)), (2, .int (nI c)), (3, .int v)] := hl
  refine lv_iload_n hx hb dX0_write_0 rfl (lv_at hl 1 rfl) ?_
  refine lv_iload_n hx hb dX0_write_1 rfl (lv_at hl 2 rfl) ?_
  refine ys_callS (As := [.int (nI r), .int (nI c)]) (rest := []) (w1 := (wX ad kd u)) ⟨hx, hb, hml, hown, hts⟩ (cx_isData_in l D (tX kd) (wX ad kd u) hr3 hc3) (va_cwS 2 hts (lw_S q53 q54 q12 q55) rfl rfl rfl (by decide +kernel) ⟨Nat.le_of_ble_eq_true rfl, Nat.le_of_ble_eq_true rfl⟩) hK hA hM hl.1 rfl rfl (Nat.le_of_ble_eq_true rfl) ⟨Nat.zero_le _, Nat.zero_le _⟩ dX0_write_2 (fun H locs hM => ?_)
  refine ys_ifb_eq (b := true) (tgt := 22) hx hb dX0_write_5 (by decide) (fun h0 => ?_) (fun h0 => ?_)
  · exact absurd h0 (by decide)
  · refine lv_aload_n hx hb dX0_write_8 rfl (lv_at hl 0 rfl) ?_
    refine va_get (D := D) (ci := 0) (v := .ref (ad 2)) (C := RX0) (T := TX0) (N := 8) hx hb hts in_X0 hown hK hM.1 0 rfl rfl 1 (by decide) (hts _ q23) (fun _ h9 => h9) rfl dX0_write_9 ?_
    refine lv_bipush (v := (nI 6)) hx hb dX0_write_12 (by decide) ?_
    refine lv_iload_n hx hb dX0_write_14 rfl (lv_at hl 1 rfl) ?_
    refine ys_imul (i := 6) (j := r) hx hb dX0_write_15 ?_
    refine lv_iload_n hx hb dX0_write_16 rfl (lv_at hl 2 rfl) ?_
    refine ys_iadd (i := (6 * r)) (j := c) hx hb dX0_write_17 ?_
    refine ys_zald (i := ((6 * r) + c)) hx hb hK hM 2 1 rfl rfl (by omega) (by decide) dX0_write_18 ?_
    refine ys_ifb_eq (b := (u.2.1 ((6 * r) + c))) (tgt := 24) hx hb dX0_write_19 (by decide) (fun h1 => ?_) (fun h1 => ?_)
    · exact absurd (hg.symm.trans h1) (by decide)
    · refine lv_iconst (v := -1) hx hb dX0_write_22 (by decide) ?_
      exact ys_iret hx hb hr hlocks hK hM rfl dX0_write_23
set_option maxHeartbeats 4000000 in
set_option maxRecDepth 100000 in
/-- a value is written, its checks are altered -/
theorem cx_write_ok (l : Launch) (D : va_G) (ad : Nat → Nat) (kd : Nat → ClassId) (u : zS) (r c : Nat) (hr3 : r ≤ 3) (hc3 : c ≤ 3) (v : Int32) (hg : u.2.1 (6 * r + c) = false) (hu : ∀ j, u.1 j < 256) : ys_I l yX0_write (ws_ yX0_write cX0_write 12 (some .int)) ({ frames := 1, cells := 0, slots := 0, locals := 23 } : Room) D (tX kd) [.ref (ad 0), .int (nI r), .int (nI c), .int v] (wX ad kd u) (wX ad kd (z_write u.1 u.2.1 r c (v.toBitVec.toNat % 256), u.2)) (nI (u.1 (6 * r + c))) := by
  have hch : u.1 (6 * r + c) ^^^ (v.toBitVec.toNat % 256) < 256 := z_xor_lt (hu _) (Nat.mod_lt _ (by decide))
  refine ys_I.mk (own := RX0) (by decide) rfl (Nat.le_of_ble_eq_true rfl) ?_
  intro p e s m below meth cd A ls E hK hA hM hl
  obtain ⟨hx, hb, hr, hml, hown, hts, hlocks⟩ := E
  have hl : lv_has ls 12 [(0, .ref (ad 0)), (1, .int (nI r)), (2, .int (nI c)), (3, .int v)] := hl
  refine lv_iload_n hx hb dX0_write_0 rfl (lv_at hl 1 rfl) ?_
  refine lv_iload_n hx hb dX0_write_1 rfl (lv_at hl 2 rfl) ?_
  refine ys_callS (As := [.int (nI r), .int (nI c)]) (rest := []) (w1 := (wX ad kd u)) ⟨hx, hb, hml, hown, hts⟩ (cx_isData_in l D (tX kd) (wX ad kd u) hr3 hc3) (va_cwS 2 hts (lw_S q53 q54 q12 q55) rfl rfl rfl (by decide +kernel) ⟨Nat.le_of_ble_eq_true rfl, Nat.le_of_ble_eq_true rfl⟩) hK hA hM hl.1 rfl rfl (Nat.le_of_ble_eq_true rfl) ⟨Nat.zero_le _, Nat.zero_le _⟩ dX0_write_2 (fun H locs hM => ?_)
  refine ys_ifb_eq (b := true) (tgt := 22) hx hb dX0_write_5 (by decide) (fun h0 => ?_) (fun h0 => ?_)
  · exact absurd h0 (by decide)
  · refine lv_aload_n hx hb dX0_write_8 rfl (lv_at hl 0 rfl) ?_
    refine va_get (D := D) (ci := 0) (v := .ref (ad 2)) (C := RX0) (T := TX0) (N := 8) hx hb hts in_X0 hown hK hM.1 0 rfl rfl 1 (by decide) (hts _ q23) (fun _ h9 => h9) rfl dX0_write_9 ?_
    refine lv_bipush (v := (nI 6)) hx hb dX0_write_12 (by decide) ?_
    refine lv_iload_n hx hb dX0_write_14 rfl (lv_at hl 1 rfl) ?_
    refine ys_imul (i := 6) (j := r) hx hb dX0_write_15 ?_
    refine lv_iload_n hx hb dX0_write_16 rfl (lv_at hl 2 rfl) ?_
    refine ys_iadd (i := (6 * r)) (j := c) hx hb dX0_write_17 ?_
    refine ys_zald (i := ((6 * r) + c)) hx hb hK hM 2 1 rfl rfl (by omega) (by decide) dX0_write_18 ?_
    refine ys_ifb_eq (b := (u.2.1 ((6 * r) + c))) (tgt := 24) hx hb dX0_write_19 (by decide) (fun h1 => ?_) (fun h1 => ?_)
    · refine lv_aload_n hx hb dX0_write_24 rfl (lv_at hl 0 rfl) ?_
      refine va_get (D := D) (ci := 0) (v := .ref (ad 1)) (C := RX0) (T := TX0) (N := 8) hx hb hts in_X0 hown hK hM.1 0 rfl rfl 0 (by decide) (hts _ q22) (fun _ h9 => h9) rfl dX0_write_25 ?_
      refine lv_bipush (v := (nI 6)) hx hb dX0_write_28 (by decide) ?_
      refine lv_iload_n hx hb dX0_write_30 rfl (lv_at hl 1 rfl) ?_
      refine ys_imul (i := 6) (j := r) hx hb dX0_write_31 ?_
      refine lv_iload_n hx hb dX0_write_32 rfl (lv_at hl 2 rfl) ?_
      refine ys_iadd (i := (6 * r)) (j := c) hx hb dX0_write_33 ?_
      refine ys_iald (i := ((6 * r) + c)) hx hb hK hM 1 0 rfl rfl (by omega) (by decide) dX0_write_34 ?_
      refine lv_istore (lv' := [(4, .int (nI (u.1 ((6 * r) + c)))), (0, .ref (ad 0)), (1, .int (nI r)), (2, .int (nI c)), (3, .int v)]) hx hb dX0_write_35 hl (by decide) rfl (fun ls hl => ?_)
      refine lv_iload hx hb dX0_write_37 (lv_at hl 0 rfl) ?_
      refine lv_iload_n hx hb dX0_write_39 rfl (lv_at hl 4 rfl) ?_
      refine lv_sipush (v := (nI 255)) hx hb dX0_write_40 (by decide) ?_
      refine ys_iand255 hx hb dX0_write_43 ?_
      refine ys_ixor (i := (u.1 ((6 * r) + c))) (j := (v.toBitVec.toNat % 256)) hx hb dX0_write_44 ?_
      refine lv_istore (lv' := [(5, .int (nI ((u.1 ((6 * r) + c)) ^^^ (v.toBitVec.toNat % 256)))), (4, .int (nI (u.1 ((6 * r) + c)))), (0, .ref (ad 0)), (1, .int (nI r)), (2, .int (nI c)), (3, .int v)]) hx hb dX0_write_45 hl (by decide) rfl (fun ls hl => ?_)
      refine lv_aload_n hx hb dX0_write_47 rfl (lv_at hl 2 rfl) ?_
      refine va_get (D := D) (ci := 0) (v := .ref (ad 1)) (C := RX0) (T := TX0) (N := 8) hx hb hts in_X0 hown hK hM.1 0 rfl rfl 0 (by decide) (hts _ q22) (fun _ h9 => h9) rfl dX0_write_48 ?_
      refine lv_bipush (v := (nI 6)) hx hb dX0_write_51 (by decide) ?_
      refine lv_iload_n hx hb dX0_write_53 rfl (lv_at hl 3 rfl) ?_
      refine ys_imul (i := 6) (j := r) hx hb dX0_write_54 ?_
      refine lv_iload_n hx hb dX0_write_55 rfl (lv_at hl 4 rfl) ?_
      refine ys_iadd (i := (6 * r)) (j := c) hx hb dX0_write_56 ?_
      refine lv_iload_n hx hb dX0_write_57 rfl (lv_at hl 5 rfl) ?_
      refine lv_sipush (v := (nI 255)) hx hb dX0_write_58 (by decide) ?_
      refine ys_iand255 hx hb dX0_write_61 ?_
      refine ys_iast (i := ((6 * r) + c)) (v := (v.toBitVec.toNat % 256)) (w' := (wX ad kd (va_up u.1 ((6 * r) + c) (v.toBitVec.toNat % 256), u.2.1, u.2.2.1, u.2.2.2.1, u.2.2.2.2.1, u.2.2.2.2.2))) hx hb hK hM 1 0 rfl rfl (by omega) (by decide) dX0_write_62 rfl (fun H locs hM => ?_)
      refine lv_iconst (v := (nI 4)) hx hb dX0_write_63 (by decide) ?_
      refine lv_istore (lv' := [(6, .int (nI 4)), (5, .int (nI ((u.1 ((6 * r) + c)) ^^^ (v.toBitVec.toNat % 256)))), (4, .int (nI (u.1 ((6 * r) + c)))), (0, .ref (ad 0)), (1, .int (nI r)), (2, .int (nI c)), (3, .int v)]) hx hb dX0_write_64 hl (by decide) rfl (fun ls hl => ?_)
      refine lv_iload hx hb dX0_write_66 (lv_at hl 0 rfl) ?_
      refine lv_bipush (v := (nI 6)) hx hb dX0_write_68 (by decide) ?_
      refine ys_icmp_ge (i := 4) (j := 6) (tgt := 156) hx hb dX0_write_70 (by decide) (by omega) (by omega) (fun h2 => ?_) (fun h2 => ?_)
      · exact absurd h2 (by omega)
      · refine lv_aload_n hx hb dX0_write_73 rfl (lv_at hl 3 rfl) ?_
        refine lv_iload hx hb dX0_write_74 (lv_at hl 0 rfl) ?_
        refine lv_iconst (v := (nI 4)) hx hb dX0_write_76 (by decide) ?_
        refine ys_isub (i := 4) (j := 4) hx hb (by omega) dX0_write_77 ?_
        refine lv_iload_n hx hb dX0_write_78 rfl (lv_at hl 4 rfl) ?_
        refine ys_callI (As := [.int (nI 0), .int (nI r)]) (rest := []) (w1 := (wX ad kd (va_up u.1 ((6 * r) + c) (v.toBitVec.toNat % 256), u.2.1, u.2.2.1, u.2.2.2.1, u.2.2.2.2.1, u.2.2.2.2.2))) (ci := 0) (q0 := 0) (qq := (RX0, TX0, 8)) ⟨hx, hb, hml, hown, hts⟩ (cx_weight l D ad kd (va_up u.1 ((6 * r) + c) (v.toBitVec.toNat % 256), u.2.1, u.2.2.1, u.2.2.2.1, u.2.2.2.2.1, u.2.2.2.2.2) 0 r (by decide) (by omega)) (cwV 2 hts (lw_V q56 q58 qs0 q12 q59) rfl rfl rfl (by decide +kernel) ⟨Nat.le_of_ble_eq_true rfl, Nat.le_of_ble_eq_true rfl⟩) hK hA hM rfl rfl hl.1 rfl rfl (Nat.le_of_ble_eq_true rfl) ⟨Nat.zero_le _, Nat.zero_le _⟩ dX0_write_79 (fun H locs hM => ?_)
        refine lv_istore (lv' := [(7, .int (nI (z_wt 0 r))), (6, .int (nI 4)), (5, .int (nI ((u.1 ((6 * r) + c)) ^^^ (v.toBitVec.toNat % 256)))), (4, .int (nI (u.1 ((6 * r) + c)))), (0, .ref (ad 0)), (1, .int (nI r)), (2, .int (nI c)), (3, .int v)]) hx hb dX0_write_82 hl (by decide) rfl (fun ls hl => ?_)
        refine lv_aload_n hx hb dX0_write_84 rfl (lv_at hl 4 rfl) ?_
        refine lv_iload hx hb dX0_write_85 (lv_at hl 0 rfl) ?_
        refine lv_iload hx hb dX0_write_87 (lv_at hl 2 rfl) ?_
        refine ys_callI (As := [.int (nI (z_wt 0 r)), .int (nI ((u.1 ((6 * r) + c)) ^^^ (v.toBitVec.toNat % 256)))]) (rest := []) (w1 := (wX ad kd (va_up u.1 ((6 * r) + c) (v.toBitVec.toNat % 256), u.2.1, u.2.2.1, u.2.2.2.1, u.2.2.2.2.1, u.2.2.2.2.2))) (ci := 0) (q0 := 0) (qq := (RX0, TX0, 8)) ⟨hx, hb, hml, hown, hts⟩ (cx_times l D ad kd (va_up u.1 ((6 * r) + c) (v.toBitVec.toNat % 256), u.2.1, u.2.2.1, u.2.2.2.1, u.2.2.2.2.1, u.2.2.2.2.2) (z_wt 0 r) (u.1 (6 * r + c) ^^^ (v.toBitVec.toNat % 256)) (z_wt_lt _ _) hch) (cwV 2 hts (lw_V q60 q62 qs1 q12 q63) rfl rfl rfl (by decide +kernel) ⟨Nat.le_of_ble_eq_true rfl, Nat.le_of_ble_eq_true rfl⟩) hK hA hM rfl rfl hl.1 rfl rfl (Nat.le_of_ble_eq_true rfl) ⟨Nat.zero_le _, Nat.zero_le _⟩ dX0_write_89 (fun H locs hM => ?_)
        refine lv_istore (lv' := [(8, .int (nI (z_gm (z_wt 0 r) (u.1 (6 * r + c) ^^^ (v.toBitVec.toNat % 256))))), (7, .int (nI (z_wt 0 r))), (6, .int (nI 4)), (5, .int (nI ((u.1 ((6 * r) + c)) ^^^ (v.toBitVec.toNat % 256)))), (4, .int (nI (u.1 ((6 * r) + c)))), (0, .ref (ad 0)), (1, .int (nI r)), (2, .int (nI c)), (3, .int v)]) hx hb dX0_write_92 hl (by decide) rfl (fun ls hl => ?_)
        refine lv_aload_n hx hb dX0_write_94 rfl (lv_at hl 5 rfl) ?_
        refine lv_iload hx hb dX0_write_95 (lv_at hl 2 rfl) ?_
        refine lv_iload_n hx hb dX0_write_97 rfl (lv_at hl 7 rfl) ?_
        refine lv_iload hx hb dX0_write_98 (lv_at hl 0 rfl) ?_
        refine ys_callV (As := [.int (nI 4), .int (nI c), .int (nI (z_gm (z_wt 0 r) (u.1 (6 * r + c) ^^^ (v.toBitVec.toNat % 256))))]) (rest := []) (w1 := (wX ad kd (z_alter (va_up u.1 ((6 * r) + c) (v.toBitVec.toNat % 256)) u.2.1 4 c (z_gm (z_wt 0 r) (u.1 (6 * r + c) ^^^ (v.toBitVec.toNat % 256))), u.2.1, u.2.2.1, u.2.2.2.1, u.2.2.2.2.1, u.2.2.2.2.2))) (ci := 0) (q0 := 0) (qq := (RX0, TX0, 8)) ⟨hx, hb, hml, hown, hts⟩ (cx_alter l D ad kd (va_up u.1 ((6 * r) + c) (v.toBitVec.toNat % 256), u.2.1, u.2.2.1, u.2.2.2.1, u.2.2.2.2.1, u.2.2.2.2.2) 4 c (z_gm (z_wt 0 r) (u.1 (6 * r + c) ^^^ (v.toBitVec.toNat % 256))) (by omega)) (cwV 3 hts (lw_V q64 q66 qs2 q12 q67) rfl rfl rfl (by decide +kernel) ⟨Nat.le_of_ble_eq_true rfl, Nat.le_of_ble_eq_true rfl⟩) hK hA hM rfl rfl hl.1 rfl rfl (Nat.le_of_ble_eq_true rfl) ⟨Nat.zero_le _, Nat.zero_le _⟩ dX0_write_100 (fun H locs hM => ?_)
        refine lv_iconst (v := (nI 4)) hx hb dX0_write_103 (by decide) ?_
        refine lv_istore (lv' := [(9, .int (nI 4)), (8, .int (nI (z_gm (z_wt 0 r) (u.1 (6 * r + c) ^^^ (v.toBitVec.toNat % 256))))), (7, .int (nI (z_wt 0 r))), (6, .int (nI 4)), (5, .int (nI ((u.1 ((6 * r) + c)) ^^^ (v.toBitVec.toNat % 256)))), (4, .int (nI (u.1 ((6 * r) + c)))), (0, .ref (ad 0)), (1, .int (nI r)), (2, .int (nI c)), (3, .int v)]) hx hb dX0_write_104 hl (by decide) rfl (fun ls hl => ?_)
        refine lv_iload hx hb dX0_write_106 (lv_at hl 0 rfl) ?_
        refine lv_bipush (v := (nI 6)) hx hb dX0_write_108 (by decide) ?_
        refine ys_icmp_ge (i := 4) (j := 6) (tgt := 150) hx hb dX0_write_110 (by decide) (by omega) (by omega) (fun h3 => ?_) (fun h3 => ?_)
        · exact absurd h3 (by omega)
        · refine lv_aload_n hx hb dX0_write_113 rfl (lv_at hl 6 rfl) ?_
          refine lv_iload hx hb dX0_write_114 (lv_at hl 0 rfl) ?_
          refine lv_iconst (v := (nI 4)) hx hb dX0_write_116 (by decide) ?_
          refine ys_isub (i := 4) (j := 4) hx hb (by omega) dX0_write_117 ?_
          refine lv_iload_n hx hb dX0_write_118 rfl (lv_at hl 8 rfl) ?_
          refine ys_callI (As := [.int (nI 0), .int (nI c)]) (rest := []) (w1 := (wX ad kd (z_alter (va_up u.1 ((6 * r) + c) (v.toBitVec.toNat % 256)) u.2.1 4 c (z_gm (z_wt 0 r) (u.1 (6 * r + c) ^^^ (v.toBitVec.toNat % 256))), u.2.1, u.2.2.1, u.2.2.2.1, u.2.2.2.2.1, u.2.2.2.2.2))) (ci := 0) (q0 := 0) (qq := (RX0, TX0, 8)) ⟨hx, hb, hml, hown, hts⟩ (cx_weight l D ad kd (z_alter (va_up u.1 ((6 * r) + c) (v.toBitVec.toNat % 256)) u.2.1 4 c (z_gm (z_wt 0 r) (u.1 (6 * r + c) ^^^ (v.toBitVec.toNat % 256))), u.2.1, u.2.2.1, u.2.2.2.1, u.2.2.2.2.1, u.2.2.2.2.2) 0 c (by decide) (by omega)) (cwV 2 hts (lw_V q56 q58 qs0 q12 q59) rfl rfl rfl (by decide +kernel) ⟨Nat.le_of_ble_eq_true rfl, Nat.le_of_ble_eq_true rfl⟩) hK hA hM rfl rfl hl.1 rfl rfl (Nat.le_of_ble_eq_true rfl) ⟨Nat.zero_le _, Nat.zero_le _⟩ dX0_write_119 (fun H locs hM => ?_)
          refine lv_istore (lv' := [(10, .int (nI (z_wt 0 c))), (9, .int (nI 4)), (8, .int (nI (z_gm (z_wt 0 r) (u.1 (6 * r + c) ^^^ (v.toBitVec.toNat % 256))))), (7, .int (nI (z_wt 0 r))), (6, .int (nI 4)), (5, .int (nI ((u.1 ((6 * r) + c)) ^^^ (v.toBitVec.toNat % 256)))), (4, .int (nI (u.1 ((6 * r) + c)))), (0, .ref (ad 0)), (1, .int (nI r)), (2, .int (nI c)), (3, .int v)]) hx hb dX0_write_122 hl (by decide) rfl (fun ls hl => ?_)
          refine lv_aload_n hx hb dX0_write_124 rfl (lv_at hl 7 rfl) ?_
          refine lv_iload hx hb dX0_write_125 (lv_at hl 0 rfl) ?_
          refine lv_iload hx hb dX0_write_127 (lv_at hl 2 rfl) ?_
          refine ys_callI (As := [.int (nI (z_wt 0 c)), .int (nI (z_gm (z_wt 0 r) (u.1 (6 * r + c) ^^^ (v.toBitVec.toNat % 256))))]) (rest := []) (w1 := (wX ad kd (z_alter (va_up u.1 ((6 * r) + c) (v.toBitVec.toNat % 256)) u.2.1 4 c (z_gm (z_wt 0 r) (u.1 (6 * r + c) ^^^ (v.toBitVec.toNat % 256))), u.2.1, u.2.2.1, u.2.2.2.1, u.2.2.2.2.1, u.2.2.2.2.2))) (ci := 0) (q0 := 0) (qq := (RX0, TX0, 8)) ⟨hx, hb, hml, hown, hts⟩ (cx_times l D ad kd (z_alter (va_up u.1 ((6 * r) + c) (v.toBitVec.toNat % 256)) u.2.1 4 c (z_gm (z_wt 0 r) (u.1 (6 * r + c) ^^^ (v.toBitVec.toNat % 256))), u.2.1, u.2.2.1, u.2.2.2.1, u.2.2.2.2.1, u.2.2.2.2.2) (z_wt 0 c) (z_gm (z_wt 0 r) (u.1 (6 * r + c) ^^^ (v.toBitVec.toNat % 256))) (z_wt_lt _ _) (z_gm_lt _ _)) (cwV 2 hts (lw_V q60 q62 qs1 q12 q63) rfl rfl rfl (by decide +kernel) ⟨Nat.le_of_ble_eq_true rfl, Nat.le_of_ble_eq_true rfl⟩) hK hA hM rfl rfl hl.1 rfl rfl (Nat.le_of_ble_eq_true rfl) ⟨Nat.zero_le _, Nat.zero_le _⟩ dX0_write_129 (fun H locs hM => ?_)
          refine lv_istore (lv' := [(11, .int (nI (z_gm (z_wt 0 c) (z_gm (z_wt 0 r) (u.1 (6 * r + c) ^^^ (v.toBitVec.toNat % 256)))))), (10, .int (nI (z_wt 0 c))), (9, .int (nI 4)), (8, .int (nI (z_gm (z_wt 0 r) (u.1 (6 * r + c) ^^^ (v.toBitVec.toNat % 256))))), (7, .int (nI (z_wt 0 r))), (6, .int (nI 4)), (5, .int (nI ((u.1 ((6 * r) + c)) ^^^ (v.toBitVec.toNat % 256)))), (4, .int (nI (u.1 ((6 * r) + c)))), (0, .ref (ad 0)), (1, .int (nI r)), (2, .int (nI c)), (3, .int v)]) hx hb dX0_write_132 hl (by decide) rfl (fun ls hl => ?_)
          refine lv_aload_n hx hb dX0_write_134 rfl (lv_at hl 8 rfl) ?_
          refine lv_iload hx hb dX0_write_135 (lv_at hl 5 rfl) ?_
          refine lv_iload hx hb dX0_write_137 (lv_at hl 2 rfl) ?_
          refine lv_iload hx hb dX0_write_139 (lv_at hl 0 rfl) ?_
          refine ys_callV (As := [.int (nI 4), .int (nI 4), .int (nI (z_gm (z_wt 0 c) (z_gm (z_wt 0 r) (u.1 (6 * r + c) ^^^ (v.toBitVec.toNat % 256)))))]) (rest := []) (w1 := (wX ad kd (z_alter (z_alter (va_up u.1 ((6 * r) + c) (v.toBitVec.toNat % 256)) u.2.1 4 c (z_gm (z_wt 0 r) (u.1 (6 * r + c) ^^^ (v.toBitVec.toNat % 256)))) u.2.1 4 4 (z_gm (z_wt 0 c) (z_gm (z_wt 0 r) (u.1 (6 * r + c) ^^^ (v.toBitVec.toNat % 256)))), u.2.1, u.2.2.1, u.2.2.2.1, u.2.2.2.2.1, u.2.2.2.2.2))) (ci := 0) (q0 := 0) (qq := (RX0, TX0, 8)) ⟨hx, hb, hml, hown, hts⟩ (cx_alter l D ad kd (z_alter (va_up u.1 ((6 * r) + c) (v.toBitVec.toNat % 256)) u.2.1 4 c (z_gm (z_wt 0 r) (u.1 (6 * r + c) ^^^ (v.toBitVec.toNat % 256))), u.2.1, u.2.2.1, u.2.2.2.1, u.2.2.2.2.1, u.2.2.2.2.2) 4 4 (z_gm (z_wt 0 c) (z_gm (z_wt 0 r) (u.1 (6 * r + c) ^^^ (v.toBitVec.toNat % 256)))) (by omega)) (cwV 3 hts (lw_V q64 q66 qs2 q12 q67) rfl rfl rfl (by decide +kernel) ⟨Nat.le_of_ble_eq_true rfl, Nat.le_of_ble_eq_true rfl⟩) hK hA hM rfl rfl hl.1 rfl rfl (Nat.le_of_ble_eq_true rfl) ⟨Nat.zero_le _, Nat.zero_le _⟩ dX0_write_141 (fun H locs hM => ?_)
          refine lv_iinc (v := (nI 5)) (lv' := [(9, .int (nI 5)), (11, .int (nI (z_gm (z_wt 0 c) (z_gm (z_wt 0 r) (u.1 (6 * r + c) ^^^ (v.toBitVec.toNat % 256)))))), (10, .int (nI (z_wt 0 c))), (8, .int (nI (z_gm (z_wt 0 r) (u.1 (6 * r + c) ^^^ (v.toBitVec.toNat % 256))))), (7, .int (nI (z_wt 0 r))), (6, .int (nI 4)), (5, .int (nI ((u.1 ((6 * r) + c)) ^^^ (v.toBitVec.toNat % 256)))), (4, .int (nI (u.1 ((6 * r) + c)))), (0, .ref (ad 0)), (1, .int (nI r)), (2, .int (nI c)), (3, .int v)]) hx hb dX0_write_144 hl (k := 2) rfl (ys_inc 4) (by decide) rfl (fun ls hl => ?_)
          refine lv_goto (tgt := 106) hx hb dX0_write_147 (by decide) ?_
          refine lv_iload hx hb dX0_write_106 (lv_at hl 0 rfl) ?_
          refine lv_bipush (v := (nI 6)) hx hb dX0_write_108 (by decide) ?_
          refine ys_icmp_ge (i := 5) (j := 6) (tgt := 150) hx hb dX0_write_110 (by decide) (by omega) (by omega) (fun h3 => ?_) (fun h3 => ?_)
          · exact absurd h3 (by omega)
          · refine lv_aload_n hx hb dX0_write_113 rfl (lv_at hl 8 rfl) ?_
            refine lv_iload hx hb dX0_write_114 (lv_at hl 0 rfl) ?_
            refine lv_iconst (v := (nI 4)) hx hb dX0_write_116 (by decide) ?_
            refine ys_isub (i := 5) (j := 4) hx hb (by omega) dX0_write_117 ?_
            refine lv_iload_n hx hb dX0_write_118 rfl (lv_at hl 10 rfl) ?_
            refine ys_callI (As := [.int (nI 1), .int (nI c)]) (rest := []) (w1 := (wX ad kd (z_alter (z_alter (va_up u.1 ((6 * r) + c) (v.toBitVec.toNat % 256)) u.2.1 4 c (z_gm (z_wt 0 r) (u.1 (6 * r + c) ^^^ (v.toBitVec.toNat % 256)))) u.2.1 4 4 (z_gm (z_wt 0 c) (z_gm (z_wt 0 r) (u.1 (6 * r + c) ^^^ (v.toBitVec.toNat % 256)))), u.2.1, u.2.2.1, u.2.2.2.1, u.2.2.2.2.1, u.2.2.2.2.2))) (ci := 0) (q0 := 0) (qq := (RX0, TX0, 8)) ⟨hx, hb, hml, hown, hts⟩ (cx_weight l D ad kd (z_alter (z_alter (va_up u.1 ((6 * r) + c) (v.toBitVec.toNat % 256)) u.2.1 4 c (z_gm (z_wt 0 r) (u.1 (6 * r + c) ^^^ (v.toBitVec.toNat % 256)))) u.2.1 4 4 (z_gm (z_wt 0 c) (z_gm (z_wt 0 r) (u.1 (6 * r + c) ^^^ (v.toBitVec.toNat % 256)))), u.2.1, u.2.2.1, u.2.2.2.1, u.2.2.2.2.1, u.2.2.2.2.2) 1 c (by decide) (by omega)) (cwV 2 hts (lw_V q56 q58 qs0 q12 q59) rfl rfl rfl (by decide +kernel) ⟨Nat.le_of_ble_eq_true rfl, Nat.le_of_ble_eq_true rfl⟩) hK hA hM rfl rfl hl.1 rfl rfl (Nat.le_of_ble_eq_true rfl) ⟨Nat.zero_le _, Nat.zero_le _⟩ dX0_write_119 (fun H locs hM => ?_)
            refine lv_istore (lv' := [(10, .int (nI (z_wt 1 c))), (9, .int (nI 5)), (11, .int (nI (z_gm (z_wt 0 c) (z_gm (z_wt 0 r) (u.1 (6 * r + c) ^^^ (v.toBitVec.toNat % 256)))))), (8, .int (nI (z_gm (z_wt 0 r) (u.1 (6 * r + c) ^^^ (v.toBitVec.toNat % 256))))), (7, .int (nI (z_wt 0 r))), (6, .int (nI 4)), (5, .int (nI ((u.1 ((6 * r) + c)) ^^^ (v.toBitVec.toNat % 256)))), (4, .int (nI (u.1 ((6 * r) + c)))), (0, .ref (ad 0)), (1, .int (nI r)), (2, .int (nI c)), (3, .int v)]) hx hb dX0_write_122 hl (by decide) rfl (fun ls hl => ?_)
            refine lv_aload_n hx hb dX0_write_124 rfl (lv_at hl 8 rfl) ?_
            refine lv_iload hx hb dX0_write_125 (lv_at hl 0 rfl) ?_
            refine lv_iload hx hb dX0_write_127 (lv_at hl 3 rfl) ?_
            refine ys_callI (As := [.int (nI (z_wt 1 c)), .int (nI (z_gm (z_wt 0 r) (u.1 (6 * r + c) ^^^ (v.toBitVec.toNat % 256))))]) (rest := []) (w1 := (wX ad kd (z_alter (z_alter (va_up u.1 ((6 * r) + c) (v.toBitVec.toNat % 256)) u.2.1 4 c (z_gm (z_wt 0 r) (u.1 (6 * r + c) ^^^ (v.toBitVec.toNat % 256)))) u.2.1 4 4 (z_gm (z_wt 0 c) (z_gm (z_wt 0 r) (u.1 (6 * r + c) ^^^ (v.toBitVec.toNat % 256)))), u.2.1, u.2.2.1, u.2.2.2.1, u.2.2.2.2.1, u.2.2.2.2.2))) (ci := 0) (q0 := 0) (qq := (RX0, TX0, 8)) ⟨hx, hb, hml, hown, hts⟩ (cx_times l D ad kd (z_alter (z_alter (va_up u.1 ((6 * r) + c) (v.toBitVec.toNat % 256)) u.2.1 4 c (z_gm (z_wt 0 r) (u.1 (6 * r + c) ^^^ (v.toBitVec.toNat % 256)))) u.2.1 4 4 (z_gm (z_wt 0 c) (z_gm (z_wt 0 r) (u.1 (6 * r + c) ^^^ (v.toBitVec.toNat % 256)))), u.2.1, u.2.2.1, u.2.2.2.1, u.2.2.2.2.1, u.2.2.2.2.2) (z_wt 1 c) (z_gm (z_wt 0 r) (u.1 (6 * r + c) ^^^ (v.toBitVec.toNat % 256))) (z_wt_lt _ _) (z_gm_lt _ _)) (cwV 2 hts (lw_V q60 q62 qs1 q12 q63) rfl rfl rfl (by decide +kernel) ⟨Nat.le_of_ble_eq_true rfl, Nat.le_of_ble_eq_true rfl⟩) hK hA hM rfl rfl hl.1 rfl rfl (Nat.le_of_ble_eq_true rfl) ⟨Nat.zero_le _, Nat.zero_le _⟩ dX0_write_129 (fun H locs hM => ?_)
            refine lv_istore (lv' := [(11, .int (nI (z_gm (z_wt 1 c) (z_gm (z_wt 0 r) (u.1 (6 * r + c) ^^^ (v.toBitVec.toNat % 256)))))), (10, .int (nI (z_wt 1 c))), (9, .int (nI 5)), (8, .int (nI (z_gm (z_wt 0 r) (u.1 (6 * r + c) ^^^ (v.toBitVec.toNat % 256))))), (7, .int (nI (z_wt 0 r))), (6, .int (nI 4)), (5, .int (nI ((u.1 ((6 * r) + c)) ^^^ (v.toBitVec.toNat % 256)))), (4, .int (nI (u.1 ((6 * r) + c)))), (0, .ref (ad 0)), (1, .int (nI r)), (2, .int (nI c)), (3, .int v)]) hx hb dX0_write_132 hl (by decide) rfl (fun ls hl => ?_)
            refine lv_aload_n hx hb dX0_write_134 rfl (lv_at hl 8 rfl) ?_
            refine lv_iload hx hb dX0_write_135 (lv_at hl 5 rfl) ?_
            refine lv_iload hx hb dX0_write_137 (lv_at hl 2 rfl) ?_
            refine lv_iload hx hb dX0_write_139 (lv_at hl 0 rfl) ?_
            refine ys_callV (As := [.int (nI 4), .int (nI 5), .int (nI (z_gm (z_wt 1 c) (z_gm (z_wt 0 r) (u.1 (6 * r + c) ^^^ (v.toBitVec.toNat % 256)))))]) (rest := []) (w1 := (wX ad kd (z_alter (z_alter (z_alter (va_up u.1 ((6 * r) + c) (v.toBitVec.toNat % 256)) u.2.1 4 c (z_gm (z_wt 0 r) (u.1 (6 * r + c) ^^^ (v.toBitVec.toNat % 256)))) u.2.1 4 4 (z_gm (z_wt 0 c) (z_gm (z_wt 0 r) (u.1 (6 * r + c) ^^^ (v.toBitVec.toNat % 256))))) u.2.1 4 5 (z_gm (z_wt 1 c) (z_gm (z_wt 0 r) (u.1 (6 * r + c) ^^^ (v.toBitVec.toNat % 256)))), u.2.1, u.2.2.1, u.2.2.2.1, u.2.2.2.2.1, u.2.2.2.2.2))) (ci := 0) (q0 := 0) (qq := (RX0, TX0, 8)) ⟨hx, hb, hml, hown, hts⟩ (cx_alter l D ad kd (z_alter (z_alter (va_up u.1 ((6 * r) + c) (v.toBitVec.toNat % 256)) u.2.1 4 c (z_gm (z_wt 0 r) (u.1 (6 * r + c) ^^^ (v.toBitVec.toNat % 256)))) u.2.1 4 4 (z_gm (z_wt 0 c) (z_gm (z_wt 0 r) (u.1 (6 * r + c) ^^^ (v.toBitVec.toNat % 256)))), u.2.1, u.2.2.1, u.2.2.2.1, u.2.2.2.2.1, u.2.2.2.2.2) 4 5 (z_gm (z_wt 1 c) (z_gm (z_wt 0 r) (u.1 (6 * r + c) ^^^ (v.toBitVec.toNat % 256)))) (by omega)) (cwV 3 hts (lw_V q64 q66 qs2 q12 q67) rfl rfl rfl (by decide +kernel) ⟨Nat.le_of_ble_eq_true rfl, Nat.le_of_ble_eq_true rfl⟩) hK hA hM rfl rfl hl.1 rfl rfl (Nat.le_of_ble_eq_true rfl) ⟨Nat.zero_le _, Nat.zero_le _⟩ dX0_write_141 (fun H locs hM => ?_)
            refine lv_iinc (v := (nI 6)) (lv' := [(9, .int (nI 6)), (11, .int (nI (z_gm (z_wt 1 c) (z_gm (z_wt 0 r) (u.1 (6 * r + c) ^^^ (v.toBitVec.toNat % 256)))))), (10, .int (nI (z_wt 1 c))), (8, .int (nI (z_gm (z_wt 0 r) (u.1 (6 * r + c) ^^^ (v.toBitVec.toNat % 256))))), (7, .int (nI (z_wt 0 r))), (6, .int (nI 4)), (5, .int (nI ((u.1 ((6 * r) + c)) ^^^ (v.toBitVec.toNat % 256)))), (4, .int (nI (u.1 ((6 * r) + c)))), (0, .ref (ad 0)), (1, .int (nI r)), (2, .int (nI c)), (3, .int v)]) hx hb dX0_write_144 hl (k := 2) rfl (ys_inc 5) (by decide) rfl (fun ls hl => ?_)
            refine lv_goto (tgt := 106) hx hb dX0_write_147 (by decide) ?_
            refine lv_iload hx hb dX0_write_106 (lv_at hl 0 rfl) ?_
            refine lv_bipush (v := (nI 6)) hx hb dX0_write_108 (by decide) ?_
            refine ys_icmp_ge (i := 6) (j := 6) (tgt := 150) hx hb dX0_write_110 (by decide) (by omega) (by omega) (fun h3 => ?_) (fun h3 => ?_)
            · refine lv_iinc (v := (nI 5)) (lv' := [(6, .int (nI 5)), (9, .int (nI 6)), (11, .int (nI (z_gm (z_wt 1 c) (z_gm (z_wt 0 r) (u.1 (6 * r + c) ^^^ (v.toBitVec.toNat % 256)))))), (10, .int (nI (z_wt 1 c))), (8, .int (nI (z_gm (z_wt 0 r) (u.1 (6 * r + c) ^^^ (v.toBitVec.toNat % 256))))), (7, .int (nI (z_wt 0 r))), (5, .int (nI ((u.1 ((6 * r) + c)) ^^^ (v.toBitVec.toNat % 256)))), (4, .int (nI (u.1 ((6 * r) + c)))), (0, .ref (ad 0)), (1, .int (nI r)), (2, .int (nI c)), (3, .int v)]) hx hb dX0_write_150 hl (k := 5) rfl (ys_inc 4) (by decide) rfl (fun ls hl => ?_)
              refine lv_goto (tgt := 66) hx hb dX0_write_153 (by decide) ?_
              refine lv_iload hx hb dX0_write_66 (lv_at hl 0 rfl) ?_
              refine lv_bipush (v := (nI 6)) hx hb dX0_write_68 (by decide) ?_
              refine ys_icmp_ge (i := 5) (j := 6) (tgt := 156) hx hb dX0_write_70 (by decide) (by omega) (by omega) (fun h2 => ?_) (fun h2 => ?_)
              · exact absurd h2 (by omega)
              · refine lv_aload_n hx hb dX0_write_73 rfl (lv_at hl 8 rfl) ?_
                refine lv_iload hx hb dX0_write_74 (lv_at hl 0 rfl) ?_
                refine lv_iconst (v := (nI 4)) hx hb dX0_write_76 (by decide) ?_
                refine ys_isub (i := 5) (j := 4) hx hb (by omega) dX0_write_77 ?_
                refine lv_iload_n hx hb dX0_write_78 rfl (lv_at hl 9 rfl) ?_
                refine ys_callI (As := [.int (nI 1), .int (nI r)]) (rest := []) (w1 := (wX ad kd (z_alter (z_alter (z_alter (va_up u.1 ((6 * r) + c) (v.toBitVec.toNat % 256)) u.2.1 4 c (z_gm (z_wt 0 r) (u.1 (6 * r + c) ^^^ (v.toBitVec.toNat % 256)))) u.2.1 4 4 (z_gm (z_wt 0 c) (z_gm (z_wt 0 r) (u.1 (6 * r + c) ^^^ (v.toBitVec.toNat % 256))))) u.2.1 4 5 (z_gm (z_wt 1 c) (z_gm (z_wt 0 r) (u.1 (6 * r + c) ^^^ (v.toBitVec.toNat % 256)))), u.2.1, u.2.2.1, u.2.2.2.1, u.2.2.2.2.1, u.2.2.2.2.2))) (ci := 0) (q0 := 0) (qq := (RX0, TX0, 8)) ⟨hx, hb, hml, hown, hts⟩ (cx_weight l D ad kd (z_alter (z_alter (z_alter (va_up u.1 ((6 * r) + c) (v.toBitVec.toNat % 256)) u.2.1 4 c (z_gm (z_wt 0 r) (u.1 (6 * r + c) ^^^ (v.toBitVec.toNat % 256)))) u.2.1 4 4 (z_gm (z_wt 0 c) (z_gm (z_wt 0 r) (u.1 (6 * r + c) ^^^ (v.toBitVec.toNat % 256))))) u.2.1 4 5 (z_gm (z_wt 1 c) (z_gm (z_wt 0 r) (u.1 (6 * r + c) ^^^ (v.toBitVec.toNat % 256)))), u.2.1, u.2.2.1, u.2.2.2.1, u.2.2.2.2.1, u.2.2.2.2.2) 1 r (by decide) (by omega)) (cwV 2 hts (lw_V q56 q58 qs0 q12 q59) rfl rfl rfl (by decide +kernel) ⟨Nat.le_of_ble_eq_true rfl, Nat.le_of_ble_eq_true rfl⟩) hK hA hM rfl rfl hl.1 rfl rfl (Nat.le_of_ble_eq_true rfl) ⟨Nat.zero_le _, Nat.zero_le _⟩ dX0_write_79 (fun H locs hM => ?_)
                refine lv_istore (lv' := [(7, .int (nI (z_wt 1 r))), (6, .int (nI 5)), (9, .int (nI 6)), (11, .int (nI (z_gm (z_wt 1 c) (z_gm (z_wt 0 r) (u.1 (6 * r + c) ^^^ (v.toBitVec.toNat % 256)))))), (10, .int (nI (z_wt 1 c))), (8, .int (nI (z_gm (z_wt 0 r) (u.1 (6 * r + c) ^^^ (v.toBitVec.toNat % 256))))), (5, .int (nI ((u.1 ((6 * r) + c)) ^^^ (v.toBitVec.toNat % 256)))), (4, .int (nI (u.1 ((6 * r) + c)))), (0, .ref (ad 0)), (1, .int (nI r)), (2, .int (nI c)), (3, .int v)]) hx hb dX0_write_82 hl (by decide) rfl (fun ls hl => ?_)
                refine lv_aload_n hx hb dX0_write_84 rfl (lv_at hl 8 rfl) ?_
                refine lv_iload hx hb dX0_write_85 (lv_at hl 0 rfl) ?_
                refine lv_iload hx hb dX0_write_87 (lv_at hl 6 rfl) ?_
                refine ys_callI (As := [.int (nI (z_wt 1 r)), .int (nI ((u.1 ((6 * r) + c)) ^^^ (v.toBitVec.toNat % 256)))]) (rest := []) (w1 := (wX ad kd (z_alter (z_alter (z_alter (va_up u.1 ((6 * r) + c) (v.toBitVec.toNat % 256)) u.2.1 4 c (z_gm (z_wt 0 r) (u.1 (6 * r + c) ^^^ (v.toBitVec.toNat % 256)))) u.2.1 4 4 (z_gm (z_wt 0 c) (z_gm (z_wt 0 r) (u.1 (6 * r + c) ^^^ (v.toBitVec.toNat % 256))))) u.2.1 4 5 (z_gm (z_wt 1 c) (z_gm (z_wt 0 r) (u.1 (6 * r + c) ^^^ (v.toBitVec.toNat % 256)))), u.2.1, u.2.2.1, u.2.2.2.1, u.2.2.2.2.1, u.2.2.2.2.2))) (ci := 0) (q0 := 0) (qq := (RX0, TX0, 8)) ⟨hx, hb, hml, hown, hts⟩ (cx_times l D ad kd (z_alter (z_alter (z_alter (va_up u.1 ((6 * r) + c) (v.toBitVec.toNat % 256)) u.2.1 4 c (z_gm (z_wt 0 r) (u.1 (6 * r + c) ^^^ (v.toBitVec.toNat % 256)))) u.2.1 4 4 (z_gm (z_wt 0 c) (z_gm (z_wt 0 r) (u.1 (6 * r + c) ^^^ (v.toBitVec.toNat % 256))))) u.2.1 4 5 (z_gm (z_wt 1 c) (z_gm (z_wt 0 r) (u.1 (6 * r + c) ^^^ (v.toBitVec.toNat % 256)))), u.2.1, u.2.2.1, u.2.2.2.1, u.2.2.2.2.1, u.2.2.2.2.2) (z_wt 1 r) (u.1 (6 * r + c) ^^^ (v.toBitVec.toNat % 256)) (z_wt_lt _ _) hch) (cwV 2 hts (lw_V q60 q62 qs1 q12 q63) rfl rfl rfl (by decide +kernel) ⟨Nat.le_of_ble_eq_true rfl, Nat.le_of_ble_eq_true rfl⟩) hK hA hM rfl rfl hl.1 rfl rfl (Nat.le_of_ble_eq_true rfl) ⟨Nat.zero_le _, Nat.zero_le _⟩ dX0_write_89 (fun H locs hM => ?_)
                refine lv_istore (lv' := [(8, .int (nI (z_gm (z_wt 1 r) (u.1 (6 * r + c) ^^^ (v.toBitVec.toNat % 256))))), (7, .int (nI (z_wt 1 r))), (6, .int (nI 5)), (9, .int (nI 6)), (11, .int (nI (z_gm (z_wt 1 c) (z_gm (z_wt 0 r) (u.1 (6 * r + c) ^^^ (v.toBitVec.toNat % 256)))))), (10, .int (nI (z_wt 1 c))), (5, .int (nI ((u.1 ((6 * r) + c)) ^^^ (v.toBitVec.toNat % 256)))), (4, .int (nI (u.1 ((6 * r) + c)))), (0, .ref (ad 0)), (1, .int (nI r)), (2, .int (nI c)), (3, .int v)]) hx hb dX0_write_92 hl (by decide) rfl (fun ls hl => ?_)
                refine lv_aload_n hx hb dX0_write_94 rfl (lv_at hl 8 rfl) ?_
                refine lv_iload hx hb dX0_write_95 (lv_at hl 2 rfl) ?_
                refine lv_iload_n hx hb dX0_write_97 rfl (lv_at hl 10 rfl) ?_
                refine lv_iload hx hb dX0_write_98 (lv_at hl 0 rfl) ?_
                refine ys_callV (As := [.int (nI 5), .int (nI c), .int (nI (z_gm (z_wt 1 r) (u.1 (6 * r + c) ^^^ (v.toBitVec.toNat % 256))))]) (rest := []) (w1 := (wX ad kd (z_alter (z_alter (z_alter (z_alter (va_up u.1 ((6 * r) + c) (v.toBitVec.toNat % 256)) u.2.1 4 c (z_gm (z_wt 0 r) (u.1 (6 * r + c) ^^^ (v.toBitVec.toNat % 256)))) u.2.1 4 4 (z_gm (z_wt 0 c) (z_gm (z_wt 0 r) (u.1 (6 * r + c) ^^^ (v.toBitVec.toNat % 256))))) u.2.1 4 5 (z_gm (z_wt 1 c) (z_gm (z_wt 0 r) (u.1 (6 * r + c) ^^^ (v.toBitVec.toNat % 256))))) u.2.1 5 c (z_gm (z_wt 1 r) (u.1 (6 * r + c) ^^^ (v.toBitVec.toNat % 256))), u.2.1, u.2.2.1, u.2.2.2.1, u.2.2.2.2.1, u.2.2.2.2.2))) (ci := 0) (q0 := 0) (qq := (RX0, TX0, 8)) ⟨hx, hb, hml, hown, hts⟩ (cx_alter l D ad kd (z_alter (z_alter (z_alter (va_up u.1 ((6 * r) + c) (v.toBitVec.toNat % 256)) u.2.1 4 c (z_gm (z_wt 0 r) (u.1 (6 * r + c) ^^^ (v.toBitVec.toNat % 256)))) u.2.1 4 4 (z_gm (z_wt 0 c) (z_gm (z_wt 0 r) (u.1 (6 * r + c) ^^^ (v.toBitVec.toNat % 256))))) u.2.1 4 5 (z_gm (z_wt 1 c) (z_gm (z_wt 0 r) (u.1 (6 * r + c) ^^^ (v.toBitVec.toNat % 256)))), u.2.1, u.2.2.1, u.2.2.2.1, u.2.2.2.2.1, u.2.2.2.2.2) 5 c (z_gm (z_wt 1 r) (u.1 (6 * r + c) ^^^ (v.toBitVec.toNat % 256))) (by omega)) (cwV 3 hts (lw_V q64 q66 qs2 q12 q67) rfl rfl rfl (by decide +kernel) ⟨Nat.le_of_ble_eq_true rfl, Nat.le_of_ble_eq_true rfl⟩) hK hA hM rfl rfl hl.1 rfl rfl (Nat.le_of_ble_eq_true rfl) ⟨Nat.zero_le _, Nat.zero_le _⟩ dX0_write_100 (fun H locs hM => ?_)
                refine lv_iconst (v := (nI 4)) hx hb dX0_write_103 (by decide) ?_
                refine lv_istore (lv' := [(9, .int (nI 4)), (8, .int (nI (z_gm (z_wt 1 r) (u.1 (6 * r + c) ^^^ (v.toBitVec.toNat % 256))))), (7, .int (nI (z_wt 1 r))), (6, .int (nI 5)), (11, .int (nI (z_gm (z_wt 1 c) (z_gm (z_wt 0 r) (u.1 (6 * r + c) ^^^ (v.toBitVec.toNat % 256)))))), (10, .int (nI (z_wt 1 c))), (5, .int (nI ((u.1 ((6 * r) + c)) ^^^ (v.toBitVec.toNat % 256)))), (4, .int (nI (u.1 ((6 * r) + c)))), (0, .ref (ad 0)), (1, .int (nI r)), (2, .int (nI c)), (3, .int v)]) hx hb dX0_write_104 hl (by decide) rfl (fun ls hl => ?_)
                refine lv_iload hx hb dX0_write_106 (lv_at hl 0 rfl) ?_
                refine lv_bipush (v := (nI 6)) hx hb dX0_write_108 (by decide) ?_
                refine ys_icmp_ge (i := 4) (j := 6) (tgt := 150) hx hb dX0_write_110 (by decide) (by omega) (by omega) (fun h3 => ?_) (fun h3 => ?_)
                · exact absurd h3 (by omega)
                · refine lv_aload_n hx hb dX0_write_113 rfl (lv_at hl 8 rfl) ?_
                  refine lv_iload hx hb dX0_write_114 (lv_at hl 0 rfl) ?_
                  refine lv_iconst (v := (nI 4)) hx hb dX0_write_116 (by decide) ?_
                  refine ys_isub (i := 4) (j := 4) hx hb (by omega) dX0_write_117 ?_
                  refine lv_iload_n hx hb dX0_write_118 rfl (lv_at hl 10 rfl) ?_
                  refine ys_callI (As := [.int (nI 0), .int (nI c)]) (rest := []) (w1 := (wX ad kd (z_alter (z_alter (z_alter (z_alter (va_up u.1 ((6 * r) + c) (v.toBitVec.toNat % 256)) u.2.1 4 c (z_gm (z_wt 0 r) (u.1 (6 * r + c) ^^^ (v.toBitVec.toNat % 256)))) u.2.1 4 4 (z_gm (z_wt 0 c) (z_gm (z_wt 0 r) (u.1 (6 * r + c) ^^^ (v.toBitVec.toNat % 256))))) u.2.1 4 5 (z_gm (z_wt 1 c) (z_gm (z_wt 0 r) (u.1 (6 * r + c) ^^^ (v.toBitVec.toNat % 256))))) u.2.1 5 c (z_gm (z_wt 1 r) (u.1 (6 * r + c) ^^^ (v.toBitVec.toNat % 256))), u.2.1, u.2.2.1, u.2.2.2.1, u.2.2.2.2.1, u.2.2.2.2.2))) (ci := 0) (q0 := 0) (qq := (RX0, TX0, 8)) ⟨hx, hb, hml, hown, hts⟩ (cx_weight l D ad kd (z_alter (z_alter (z_alter (z_alter (va_up u.1 ((6 * r) + c) (v.toBitVec.toNat % 256)) u.2.1 4 c (z_gm (z_wt 0 r) (u.1 (6 * r + c) ^^^ (v.toBitVec.toNat % 256)))) u.2.1 4 4 (z_gm (z_wt 0 c) (z_gm (z_wt 0 r) (u.1 (6 * r + c) ^^^ (v.toBitVec.toNat % 256))))) u.2.1 4 5 (z_gm (z_wt 1 c) (z_gm (z_wt 0 r) (u.1 (6 * r + c) ^^^ (v.toBitVec.toNat % 256))))) u.2.1 5 c (z_gm (z_wt 1 r) (u.1 (6 * r + c) ^^^ (v.toBitVec.toNat % 256))), u.2.1, u.2.2.1, u.2.2.2.1, u.2.2.2.2.1, u.2.2.2.2.2) 0 c (by decide) (by omega)) (cwV 2 hts (lw_V q56 q58 qs0 q12 q59) rfl rfl rfl (by decide +kernel) ⟨Nat.le_of_ble_eq_true rfl, Nat.le_of_ble_eq_true rfl⟩) hK hA hM rfl rfl hl.1 rfl rfl (Nat.le_of_ble_eq_true rfl) ⟨Nat.zero_le _, Nat.zero_le _⟩ dX0_write_119 (fun H locs hM => ?_)
                  refine lv_istore (lv' := [(10, .int (nI (z_wt 0 c))), (9, .int (nI 4)), (8, .int (nI (z_gm (z_wt 1 r) (u.1 (6 * r + c) ^^^ (v.toBitVec.toNat % 256))))), (7, .int (nI (z_wt 1 r))), (6, .int (nI 5)), (11, .int (nI (z_gm (z_wt 1 c) (z_gm (z_wt 0 r) (u.1 (6 * r + c) ^^^ (v.toBitVec.toNat % 256)))))), (5, .int (nI ((u.1 ((6 * r) + c)) ^^^ (v.toBitVec.toNat % 256)))), (4, .int (nI (u.1 ((6 * r) + c)))), (0, .ref (ad 0)), (1, .int (nI r)), (2, .int (nI c)), (3, .int v)]) hx hb dX0_write_122 hl (by decide) rfl (fun ls hl => ?_)
                  refine lv_aload_n hx hb dX0_write_124 rfl (lv_at hl 8 rfl) ?_
                  refine lv_iload hx hb dX0_write_125 (lv_at hl 0 rfl) ?_
                  refine lv_iload hx hb dX0_write_127 (lv_at hl 2 rfl) ?_
                  refine ys_callI (As := [.int (nI (z_wt 0 c)), .int (nI (z_gm (z_wt 1 r) (u.1 (6 * r + c) ^^^ (v.toBitVec.toNat % 256))))]) (rest := []) (w1 := (wX ad kd (z_alter (z_alter (z_alter (z_alter (va_up u.1 ((6 * r) + c) (v.toBitVec.toNat % 256)) u.2.1 4 c (z_gm (z_wt 0 r) (u.1 (6 * r + c) ^^^ (v.toBitVec.toNat % 256)))) u.2.1 4 4 (z_gm (z_wt 0 c) (z_gm (z_wt 0 r) (u.1 (6 * r + c) ^^^ (v.toBitVec.toNat % 256))))) u.2.1 4 5 (z_gm (z_wt 1 c) (z_gm (z_wt 0 r) (u.1 (6 * r + c) ^^^ (v.toBitVec.toNat % 256))))) u.2.1 5 c (z_gm (z_wt 1 r) (u.1 (6 * r + c) ^^^ (v.toBitVec.toNat % 256))), u.2.1, u.2.2.1, u.2.2.2.1, u.2.2.2.2.1, u.2.2.2.2.2))) (ci := 0) (q0 := 0) (qq := (RX0, TX0, 8)) ⟨hx, hb, hml, hown, hts⟩ (cx_times l D ad kd (z_alter (z_alter (z_alter (z_alter (va_up u.1 ((6 * r) + c) (v.toBitVec.toNat % 256)) u.2.1 4 c (z_gm (z_wt 0 r) (u.1 (6 * r + c) ^^^ (v.toBitVec.toNat % 256)))) u.2.1 4 4 (z_gm (z_wt 0 c) (z_gm (z_wt 0 r) (u.1 (6 * r + c) ^^^ (v.toBitVec.toNat % 256))))) u.2.1 4 5 (z_gm (z_wt 1 c) (z_gm (z_wt 0 r) (u.1 (6 * r + c) ^^^ (v.toBitVec.toNat % 256))))) u.2.1 5 c (z_gm (z_wt 1 r) (u.1 (6 * r + c) ^^^ (v.toBitVec.toNat % 256))), u.2.1, u.2.2.1, u.2.2.2.1, u.2.2.2.2.1, u.2.2.2.2.2) (z_wt 0 c) (z_gm (z_wt 1 r) (u.1 (6 * r + c) ^^^ (v.toBitVec.toNat % 256))) (z_wt_lt _ _) (z_gm_lt _ _)) (cwV 2 hts (lw_V q60 q62 qs1 q12 q63) rfl rfl rfl (by decide +kernel) ⟨Nat.le_of_ble_eq_true rfl, Nat.le_of_ble_eq_true rfl⟩) hK hA hM rfl rfl hl.1 rfl rfl (Nat.le_of_ble_eq_true rfl) ⟨Nat.zero_le _, Nat.zero_le _⟩ dX0_write_129 (fun H locs hM => ?_)
                  refine lv_istore (lv' := [(11, .int (nI (z_gm (z_wt 0 c) (z_gm (z_wt 1 r) (u.1 (6 * r + c) ^^^ (v.toBitVec.toNat % 256)))))), (10, .int (nI (z_wt 0 c))), (9, .int (nI 4)), (8, .int (nI (z_gm (z_wt 1 r) (u.1 (6 * r + c) ^^^ (v.toBitVec.toNat % 256))))), (7, .int (nI (z_wt 1 r))), (6, .int (nI 5)), (5, .int (nI ((u.1 ((6 * r) + c)) ^^^ (v.toBitVec.toNat % 256)))), (4, .int (nI (u.1 ((6 * r) + c)))), (0, .ref (ad 0)), (1, .int (nI r)), (2, .int (nI c)), (3, .int v)]) hx hb dX0_write_132 hl (by decide) rfl (fun ls hl => ?_)
                  refine lv_aload_n hx hb dX0_write_134 rfl (lv_at hl 8 rfl) ?_
                  refine lv_iload hx hb dX0_write_135 (lv_at hl 5 rfl) ?_
                  refine lv_iload hx hb dX0_write_137 (lv_at hl 2 rfl) ?_
                  refine lv_iload hx hb dX0_write_139 (lv_at hl 0 rfl) ?_
                  refine ys_callV (As := [.int (nI 5), .int (nI 4), .int (nI (z_gm (z_wt 0 c) (z_gm (z_wt 1 r) (u.1 (6 * r + c) ^^^ (v.toBitVec.toNat % 256)))))]) (rest := []) (w1 := (wX ad kd (z_alter (z_alter (z_alter (z_alter (z_alter (va_up u.1 ((6 * r) + c) (v.toBitVec.toNat % 256)) u.2.1 4 c (z_gm (z_wt 0 r) (u.1 (6 * r + c) ^^^ (v.toBitVec.toNat % 256)))) u.2.1 4 4 (z_gm (z_wt 0 c) (z_gm (z_wt 0 r) (u.1 (6 * r + c) ^^^ (v.toBitVec.toNat % 256))))) u.2.1 4 5 (z_gm (z_wt 1 c) (z_gm (z_wt 0 r) (u.1 (6 * r + c) ^^^ (v.toBitVec.toNat % 256))))) u.2.1 5 c (z_gm (z_wt 1 r) (u.1 (6 * r + c) ^^^ (v.toBitVec.toNat % 256)))) u.2.1 5 4 (z_gm (z_wt 0 c) (z_gm (z_wt 1 r) (u.1 (6 * r + c) ^^^ (v.toBitVec.toNat % 256)))), u.2.1, u.2.2.1, u.2.2.2.1, u.2.2.2.2.1, u.2.2.2.2.2))) (ci := 0) (q0 := 0) (qq := (RX0, TX0, 8)) ⟨hx, hb, hml, hown, hts⟩ (cx_alter l D ad kd (z_alter (z_alter (z_alter (z_alter (va_up u.1 ((6 * r) + c) (v.toBitVec.toNat % 256)) u.2.1 4 c (z_gm (z_wt 0 r) (u.1 (6 * r + c) ^^^ (v.toBitVec.toNat % 256)))) u.2.1 4 4 (z_gm (z_wt 0 c) (z_gm (z_wt 0 r) (u.1 (6 * r + c) ^^^ (v.toBitVec.toNat % 256))))) u.2.1 4 5 (z_gm (z_wt 1 c) (z_gm (z_wt 0 r) (u.1 (6 * r + c) ^^^ (v.toBitVec.toNat % 256))))) u.2.1 5 c (z_gm (z_wt 1 r) (u.1 (6 * r + c) ^^^ (v.toBitVec.toNat % 256))), u.2.1, u.2.2.1, u.2.2.2.1, u.2.2.2.2.1, u.2.2.2.2.2) 5 4 (z_gm (z_wt 0 c) (z_gm (z_wt 1 r) (u.1 (6 * r + c) ^^^ (v.toBitVec.toNat % 256)))) (by omega)) (cwV 3 hts (lw_V q64 q66 qs2 q12 q67) rfl rfl rfl (by decide +kernel) ⟨Nat.le_of_ble_eq_true rfl, Nat.le_of_ble_eq_true rfl⟩) hK hA hM rfl rfl hl.1 rfl rfl (Nat.le_of_ble_eq_true rfl) ⟨Nat.zero_le _, Nat.zero_le _⟩ dX0_write_141 (fun H locs hM => ?_)
                  refine lv_iinc (v := (nI 5)) (lv' := [(9, .int (nI 5)), (11, .int (nI (z_gm (z_wt 0 c) (z_gm (z_wt 1 r) (u.1 (6 * r + c) ^^^ (v.toBitVec.toNat % 256)))))), (10, .int (nI (z_wt 0 c))), (8, .int (nI (z_gm (z_wt 1 r) (u.1 (6 * r + c) ^^^ (v.toBitVec.toNat % 256))))), (7, .int (nI (z_wt 1 r))), (6, .int (nI 5)), (5, .int (nI ((u.1 ((6 * r) + c)) ^^^ (v.toBitVec.toNat % 256)))), (4, .int (nI (u.1 ((6 * r) + c)))), (0, .ref (ad 0)), (1, .int (nI r)), (2, .int (nI c)), (3, .int v)]) hx hb dX0_write_144 hl (k := 2) rfl (ys_inc 4) (by decide) rfl (fun ls hl => ?_)
                  refine lv_goto (tgt := 106) hx hb dX0_write_147 (by decide) ?_
                  refine lv_iload hx hb dX0_write_106 (lv_at hl 0 rfl) ?_
                  refine lv_bipush (v := (nI 6)) hx hb dX0_write_108 (by decide) ?_
                  refine ys_icmp_ge (i := 5) (j := 6) (tgt := 150) hx hb dX0_write_110 (by decide) (by omega) (by omega) (fun h3 => ?_) (fun h3 => ?_)
                  · exact absurd h3 (by omega)
                  · refine lv_aload_n hx hb dX0_write_113 rfl (lv_at hl 8 rfl) ?_
                    refine lv_iload hx hb dX0_write_114 (lv_at hl 0 rfl) ?_
                    refine lv_iconst (v := (nI 4)) hx hb dX0_write_116 (by decide) ?_
                    refine ys_isub (i := 5) (j := 4) hx hb (by omega) dX0_write_117 ?_
                    refine lv_iload_n hx hb dX0_write_118 rfl (lv_at hl 10 rfl) ?_
                    refine ys_callI (As := [.int (nI 1), .int (nI c)]) (rest := []) (w1 := (wX ad kd (z_alter (z_alter (z_alter (z_alter (z_alter (va_up u.1 ((6 * r) + c) (v.toBitVec.toNat % 256)) u.2.1 4 c (z_gm (z_wt 0 r) (u.1 (6 * r + c) ^^^ (v.toBitVec.toNat % 256)))) u.2.1 4 4 (z_gm (z_wt 0 c) (z_gm (z_wt 0 r) (u.1 (6 * r + c) ^^^ (v.toBitVec.toNat % 256))))) u.2.1 4 5 (z_gm (z_wt 1 c) (z_gm (z_wt 0 r) (u.1 (6 * r + c) ^^^ (v.toBitVec.toNat % 256))))) u.2.1 5 c (z_gm (z_wt 1 r) (u.1 (6 * r + c) ^^^ (v.toBitVec.toNat % 256)))) u.2.1 5 4 (z_gm (z_wt 0 c) (z_gm (z_wt 1 r) (u.1 (6 * r + c) ^^^ (v.toBitVec.toNat % 256)))), u.2.1, u.2.2.1, u.2.2.2.1, u.2.2.2.2.1, u.2.2.2.2.2))) (ci := 0) (q0 := 0) (qq := (RX0, TX0, 8)) ⟨hx, hb, hml, hown, hts⟩ (cx_weight l D ad kd (z_alter (z_alter (z_alter (z_alter (z_alter (va_up u.1 ((6 * r) + c) (v.toBitVec.toNat % 256)) u.2.1 4 c (z_gm (z_wt 0 r) (u.1 (6 * r + c) ^^^ (v.toBitVec.toNat % 256)))) u.2.1 4 4 (z_gm (z_wt 0 c) (z_gm (z_wt 0 r) (u.1 (6 * r + c) ^^^ (v.toBitVec.toNat % 256))))) u.2.1 4 5 (z_gm (z_wt 1 c) (z_gm (z_wt 0 r) (u.1 (6 * r + c) ^^^ (v.toBitVec.toNat % 256))))) u.2.1 5 c (z_gm (z_wt 1 r) (u.1 (6 * r + c) ^^^ (v.toBitVec.toNat % 256)))) u.2.1 5 4 (z_gm (z_wt 0 c) (z_gm (z_wt 1 r) (u.1 (6 * r + c) ^^^ (v.toBitVec.toNat % 256)))), u.2.1, u.2.2.1, u.2.2.2.1, u.2.2.2.2.1, u.2.2.2.2.2) 1 c (by decide) (by omega)) (cwV 2 hts (lw_V q56 q58 qs0 q12 q59) rfl rfl rfl (by decide +kernel) ⟨Nat.le_of_ble_eq_true rfl, Nat.le_of_ble_eq_true rfl⟩) hK hA hM rfl rfl hl.1 rfl rfl (Nat.le_of_ble_eq_true rfl) ⟨Nat.zero_le _, Nat.zero_le _⟩ dX0_write_119 (fun H locs hM => ?_)
                    refine lv_istore (lv' := [(10, .int (nI (z_wt 1 c))), (9, .int (nI 5)), (11, .int (nI (z_gm (z_wt 0 c) (z_gm (z_wt 1 r) (u.1 (6 * r + c) ^^^ (v.toBitVec.toNat % 256)))))), (8, .int (nI (z_gm (z_wt 1 r) (u.1 (6 * r + c) ^^^ (v.toBitVec.toNat % 256))))), (7, .int (nI (z_wt 1 r))), (6, .int (nI 5)), (5, .int (nI ((u.1 ((6 * r) + c)) ^^^ (v.toBitVec.toNat % 256)))), (4, .int (nI (u.1 ((6 * r) + c)))), (0, .ref (ad 0)), (1, .int (nI r)), (2, .int (nI c)), (3, .int v)]) hx hb dX0_write_122 hl (by decide) rfl (fun ls hl => ?_)
                    refine lv_aload_n hx hb dX0_write_124 rfl (lv_at hl 8 rfl) ?_
                    refine lv_iload hx hb dX0_write_125 (lv_at hl 0 rfl) ?_
                    refine lv_iload hx hb dX0_write_127 (lv_at hl 3 rfl) ?_
                    refine ys_callI (As := [.int (nI (z_wt 1 c)), .int (nI (z_gm (z_wt 1 r) (u.1 (6 * r + c) ^^^ (v.toBitVec.toNat % 256))))]) (rest := []) (w1 := (wX ad kd (z_alter (z_alter (z_alter (z_alter (z_alter (va_up u.1 ((6 * r) + c) (v.toBitVec.toNat % 256)) u.2.1 4 c (z_gm (z_wt 0 r) (u.1 (6 * r + c) ^^^ (v.toBitVec.toNat % 256)))) u.2.1 4 4 (z_gm (z_wt 0 c) (z_gm (z_wt 0 r) (u.1 (6 * r + c) ^^^ (v.toBitVec.toNat % 256))))) u.2.1 4 5 (z_gm (z_wt 1 c) (z_gm (z_wt 0 r) (u.1 (6 * r + c) ^^^ (v.toBitVec.toNat % 256))))) u.2.1 5 c (z_gm (z_wt 1 r) (u.1 (6 * r + c) ^^^ (v.toBitVec.toNat % 256)))) u.2.1 5 4 (z_gm (z_wt 0 c) (z_gm (z_wt 1 r) (u.1 (6 * r + c) ^^^ (v.toBitVec.toNat % 256)))), u.2.1, u.2.2.1, u.2.2.2.1, u.2.2.2.2.1, u.2.2.2.2.2))) (ci := 0) (q0 := 0) (qq := (RX0, TX0, 8)) ⟨hx, hb, hml, hown, hts⟩ (cx_times l D ad kd (z_alter (z_alter (z_alter (z_alter (z_alter (va_up u.1 ((6 * r) + c) (v.toBitVec.toNat % 256)) u.2.1 4 c (z_gm (z_wt 0 r) (u.1 (6 * r + c) ^^^ (v.toBitVec.toNat % 256)))) u.2.1 4 4 (z_gm (z_wt 0 c) (z_gm (z_wt 0 r) (u.1 (6 * r + c) ^^^ (v.toBitVec.toNat % 256))))) u.2.1 4 5 (z_gm (z_wt 1 c) (z_gm (z_wt 0 r) (u.1 (6 * r + c) ^^^ (v.toBitVec.toNat % 256))))) u.2.1 5 c (z_gm (z_wt 1 r) (u.1 (6 * r + c) ^^^ (v.toBitVec.toNat % 256)))) u.2.1 5 4 (z_gm (z_wt 0 c) (z_gm (z_wt 1 r) (u.1 (6 * r + c) ^^^ (v.toBitVec.toNat % 256)))), u.2.1, u.2.2.1, u.2.2.2.1, u.2.2.2.2.1, u.2.2.2.2.2) (z_wt 1 c) (z_gm (z_wt 1 r) (u.1 (6 * r + c) ^^^ (v.toBitVec.toNat % 256))) (z_wt_lt _ _) (z_gm_lt _ _)) (cwV 2 hts (lw_V q60 q62 qs1 q12 q63) rfl rfl rfl (by decide +kernel) ⟨Nat.le_of_ble_eq_true rfl, Nat.le_of_ble_eq_true rfl⟩) hK hA hM rfl rfl hl.1 rfl rfl (Nat.le_of_ble_eq_true rfl) ⟨Nat.zero_le _, Nat.zero_le _⟩ dX0_write_129 (fun H locs hM => ?_)
                    refine lv_istore (lv' := [(11, .int (nI (z_gm (z_wt 1 c) (z_gm (z_wt 1 r) (u.1 (6 * r + c) ^^^ (v.toBitVec.toNat % 256)))))), (10, .int (nI (z_wt 1 c))), (9, .int (nI 5)), (8, .int (nI (z_gm (z_wt 1 r) (u.1 (6 * r + c) ^^^ (v.toBitVec.toNat % 256))))), (7, .int (nI (z_wt 1 r))), (6, .int (nI 5)), (5, .int (nI ((u.1 ((6 * r) + c)) ^^^ (v.toBitVec.toNat % 256)))), (4, .int (nI (u.1 ((6 * r) + c)))), (0, .ref (ad 0)), (1, .int (nI r)), (2, .int (nI c)), (3, .int v)]) hx hb dX0_write_132 hl (by decide) rfl (fun ls hl => ?_)
                    refine lv_aload_n hx hb dX0_write_134 rfl (lv_at hl 8 rfl) ?_
                    refine lv_iload hx hb dX0_write_135 (lv_at hl 5 rfl) ?_
                    refine lv_iload hx hb dX0_write_137 (lv_at hl 2 rfl) ?_
                    refine lv_iload hx hb dX0_write_139 (lv_at hl 0 rfl) ?_
                    refine ys_callV (As := [.int (nI 5), .int (nI 5), .int (nI (z_gm (z_wt 1 c) (z_gm (z_wt 1 r) (u.1 (6 * r + c) ^^^ (v.toBitVec.toNat % 256)))))]) (rest := []) (w1 := (wX ad kd (z_alter (z_alter (z_alter (z_alter (z_alter (z_alter (va_up u.1 ((6 * r) + c) (v.toBitVec.toNat % 256)) u.2.1 4 c (z_gm (z_wt 0 r) (u.1 (6 * r + c) ^^^ (v.toBitVec.toNat % 256)))) u.2.1 4 4 (z_gm (z_wt 0 c) (z_gm (z_wt 0 r) (u.1 (6 * r + c) ^^^ (v.toBitVec.toNat % 256))))) u.2.1 4 5 (z_gm (z_wt 1 c) (z_gm (z_wt 0 r) (u.1 (6 * r + c) ^^^ (v.toBitVec.toNat % 256))))) u.2.1 5 c (z_gm (z_wt 1 r) (u.1 (6 * r + c) ^^^ (v.toBitVec.toNat % 256)))) u.2.1 5 4 (z_gm (z_wt 0 c) (z_gm (z_wt 1 r) (u.1 (6 * r + c) ^^^ (v.toBitVec.toNat % 256))))) u.2.1 5 5 (z_gm (z_wt 1 c) (z_gm (z_wt 1 r) (u.1 (6 * r + c) ^^^ (v.toBitVec.toNat % 256)))), u.2.1, u.2.2.1, u.2.2.2.1, u.2.2.2.2.1, u.2.2.2.2.2))) (ci := 0) (q0 := 0) (qq := (RX0, TX0, 8)) ⟨hx, hb, hml, hown, hts⟩ (cx_alter l D ad kd (z_alter (z_alter (z_alter (z_alter (z_alter (va_up u.1 ((6 * r) + c) (v.toBitVec.toNat % 256)) u.2.1 4 c (z_gm (z_wt 0 r) (u.1 (6 * r + c) ^^^ (v.toBitVec.toNat % 256)))) u.2.1 4 4 (z_gm (z_wt 0 c) (z_gm (z_wt 0 r) (u.1 (6 * r + c) ^^^ (v.toBitVec.toNat % 256))))) u.2.1 4 5 (z_gm (z_wt 1 c) (z_gm (z_wt 0 r) (u.1 (6 * r + c) ^^^ (v.toBitVec.toNat % 256))))) u.2.1 5 c (z_gm (z_wt 1 r) (u.1 (6 * r + c) ^^^ (v.toBitVec.toNat % 256)))) u.2.1 5 4 (z_gm (z_wt 0 c) (z_gm (z_wt 1 r) (u.1 (6 * r + c) ^^^ (v.toBitVec.toNat % 256)))), u.2.1, u.2.2.1, u.2.2.2.1, u.2.2.2.2.1, u.2.2.2.2.2) 5 5 (z_gm (z_wt 1 c) (z_gm (z_wt 1 r) (u.1 (6 * r + c) ^^^ (v.toBitVec.toNat % 256)))) (by omega)) (cwV 3 hts (lw_V q64 q66 qs2 q12 q67) rfl rfl rfl (by decide +kernel) ⟨Nat.le_of_ble_eq_true rfl, Nat.le_of_ble_eq_true rfl⟩) hK hA hM rfl rfl hl.1 rfl rfl (Nat.le_of_ble_eq_true rfl) ⟨Nat.zero_le _, Nat.zero_le _⟩ dX0_write_141 (fun H locs hM => ?_)
                    refine lv_iinc (v := (nI 6)) (lv' := [(9, .int (nI 6)), (11, .int (nI (z_gm (z_wt 1 c) (z_gm (z_wt 1 r) (u.1 (6 * r + c) ^^^ (v.toBitVec.toNat % 256)))))), (10, .int (nI (z_wt 1 c))), (8, .int (nI (z_gm (z_wt 1 r) (u.1 (6 * r + c) ^^^ (v.toBitVec.toNat % 256))))), (7, .int (nI (z_wt 1 r))), (6, .int (nI 5)), (5, .int (nI ((u.1 ((6 * r) + c)) ^^^ (v.toBitVec.toNat % 256)))), (4, .int (nI (u.1 ((6 * r) + c)))), (0, .ref (ad 0)), (1, .int (nI r)), (2, .int (nI c)), (3, .int v)]) hx hb dX0_write_144 hl (k := 2) rfl (ys_inc 5) (by decide) rfl (fun ls hl => ?_)
                    refine lv_goto (tgt := 106) hx hb dX0_write_147 (by decide) ?_
                    refine lv_iload hx hb dX0_write_106 (lv_at hl 0 rfl) ?_
                    refine lv_bipush (v := (nI 6)) hx hb dX0_write_108 (by decide) ?_
                    refine ys_icmp_ge (i := 6) (j := 6) (tgt := 150) hx hb dX0_write_110 (by decide) (by omega) (by omega) (fun h3 => ?_) (fun h3 => ?_)
                    · refine lv_iinc (v := (nI 6)) (lv' := [(6, .int (nI 6)), (9, .int (nI 6)), (11, .int (nI (z_gm (z_wt 1 c) (z_gm (z_wt 1 r) (u.1 (6 * r + c) ^^^ (v.toBitVec.toNat % 256)))))), (10, .int (nI (z_wt 1 c))), (8, .int (nI (z_gm (z_wt 1 r) (u.1 (6 * r + c) ^^^ (v.toBitVec.toNat % 256))))), (7, .int (nI (z_wt 1 r))), (5, .int (nI ((u.1 ((6 * r) + c)) ^^^ (v.toBitVec.toNat % 256)))), (4, .int (nI (u.1 ((6 * r) + c)))), (0, .ref (ad 0)), (1, .int (nI r)), (2, .int (nI c)), (3, .int v)]) hx hb dX0_write_150 hl (k := 5) rfl (ys_inc 5) (by decide) rfl (fun ls hl => ?_)
                      refine lv_goto (tgt := 66) hx hb dX0_write_153 (by decide) ?_
                      refine lv_iload hx hb dX0_write_66 (lv_at hl 0 rfl) ?_
                      refine lv_bipush (v := (nI 6)) hx hb dX0_write_68 (by decide) ?_
                      refine ys_icmp_ge (i := 6) (j := 6) (tgt := 156) hx hb dX0_write_70 (by decide) (by omega) (by omega) (fun h2 => ?_) (fun h2 => ?_)
                      · refine lv_iconst (v := (nI 4)) hx hb dX0_write_156 (by decide) ?_
                        refine lv_istore (lv' := [(6, .int (nI 4)), (9, .int (nI 6)), (11, .int (nI (z_gm (z_wt 1 c) (z_gm (z_wt 1 r) (u.1 (6 * r + c) ^^^ (v.toBitVec.toNat % 256)))))), (10, .int (nI (z_wt 1 c))), (8, .int (nI (z_gm (z_wt 1 r) (u.1 (6 * r + c) ^^^ (v.toBitVec.toNat % 256))))), (7, .int (nI (z_wt 1 r))), (5, .int (nI ((u.1 ((6 * r) + c)) ^^^ (v.toBitVec.toNat % 256)))), (4, .int (nI (u.1 ((6 * r) + c)))), (0, .ref (ad 0)), (1, .int (nI r)), (2, .int (nI c)), (3, .int v)]) hx hb dX0_write_157 hl (by decide) rfl (fun ls hl => ?_)
                        refine lv_iload hx hb dX0_write_159 (lv_at hl 0 rfl) ?_
                        refine lv_bipush (v := (nI 6)) hx hb dX0_write_161 (by decide) ?_
                        refine ys_icmp_ge (i := 4) (j := 6) (tgt := 202) hx hb dX0_write_163 (by decide) (by omega) (by omega) (fun h4 => ?_) (fun h4 => ?_)
                        · exact absurd h4 (by omega)
                        · refine lv_aload_n hx hb dX0_write_166 rfl (lv_at hl 8 rfl) ?_
                          refine lv_iload hx hb dX0_write_167 (lv_at hl 0 rfl) ?_
                          refine lv_iconst (v := (nI 4)) hx hb dX0_write_169 (by decide) ?_
                          refine ys_isub (i := 4) (j := 4) hx hb (by omega) dX0_write_170 ?_
                          refine lv_iload_n hx hb dX0_write_171 rfl (lv_at hl 10 rfl) ?_
                          refine ys_callI (As := [.int (nI 0), .int (nI c)]) (rest := []) (w1 := (wX ad kd (z_alter (z_alter (z_alter (z_alter (z_alter (z_alter (va_up u.1 ((6 * r) + c) (v.toBitVec.toNat % 256)) u.2.1 4 c (z_gm (z_wt 0 r) (u.1 (6 * r + c) ^^^ (v.toBitVec.toNat % 256)))) u.2.1 4 4 (z_gm (z_wt 0 c) (z_gm (z_wt 0 r) (u.1 (6 * r + c) ^^^ (v.toBitVec.toNat % 256))))) u.2.1 4 5 (z_gm (z_wt 1 c) (z_gm (z_wt 0 r) (u.1 (6 * r + c) ^^^ (v.toBitVec.toNat % 256))))) u.2.1 5 c (z_gm (z_wt 1 r) (u.1 (6 * r + c) ^^^ (v.toBitVec.toNat % 256)))) u.2.1 5 4 (z_gm (z_wt 0 c) (z_gm (z_wt 1 r) (u.1 (6 * r + c) ^^^ (v.toBitVec.toNat % 256))))) u.2.1 5 5 (z_gm (z_wt 1 c) (z_gm (z_wt 1 r) (u.1 (6 * r + c) ^^^ (v.toBitVec.toNat % 256)))), u.2.1, u.2.2.1, u.2.2.2.1, u.2.2.2.2.1, u.2.2.2.2.2))) (ci := 0) (q0 := 0) (qq := (RX0, TX0, 8)) ⟨hx, hb, hml, hown, hts⟩ (cx_weight l D ad kd (z_alter (z_alter (z_alter (z_alter (z_alter (z_alter (va_up u.1 ((6 * r) + c) (v.toBitVec.toNat % 256)) u.2.1 4 c (z_gm (z_wt 0 r) (u.1 (6 * r + c) ^^^ (v.toBitVec.toNat % 256)))) u.2.1 4 4 (z_gm (z_wt 0 c) (z_gm (z_wt 0 r) (u.1 (6 * r + c) ^^^ (v.toBitVec.toNat % 256))))) u.2.1 4 5 (z_gm (z_wt 1 c) (z_gm (z_wt 0 r) (u.1 (6 * r + c) ^^^ (v.toBitVec.toNat % 256))))) u.2.1 5 c (z_gm (z_wt 1 r) (u.1 (6 * r + c) ^^^ (v.toBitVec.toNat % 256)))) u.2.1 5 4 (z_gm (z_wt 0 c) (z_gm (z_wt 1 r) (u.1 (6 * r + c) ^^^ (v.toBitVec.toNat % 256))))) u.2.1 5 5 (z_gm (z_wt 1 c) (z_gm (z_wt 1 r) (u.1 (6 * r + c) ^^^ (v.toBitVec.toNat % 256)))), u.2.1, u.2.2.1, u.2.2.2.1, u.2.2.2.2.1, u.2.2.2.2.2) 0 c (by decide) (by omega)) (cwV 2 hts (lw_V q56 q58 qs0 q12 q59) rfl rfl rfl (by decide +kernel) ⟨Nat.le_of_ble_eq_true rfl, Nat.le_of_ble_eq_true rfl⟩) hK hA hM rfl rfl hl.1 rfl rfl (Nat.le_of_ble_eq_true rfl) ⟨Nat.zero_le _, Nat.zero_le _⟩ dX0_write_172 (fun H locs hM => ?_)
                          refine lv_istore (lv' := [(7, .int (nI (z_wt 0 c))), (6, .int (nI 4)), (9, .int (nI 6)), (11, .int (nI (z_gm (z_wt 1 c) (z_gm (z_wt 1 r) (u.1 (6 * r + c) ^^^ (v.toBitVec.toNat % 256)))))), (10, .int (nI (z_wt 1 c))), (8, .int (nI (z_gm (z_wt 1 r) (u.1 (6 * r + c) ^^^ (v.toBitVec.toNat % 256))))), (5, .int (nI ((u.1 ((6 * r) + c)) ^^^ (v.toBitVec.toNat % 256)))), (4, .int (nI (u.1 ((6 * r) + c)))), (0, .ref (ad 0)), (1, .int (nI r)), (2, .int (nI c)), (3, .int v)]) hx hb dX0_write_175 hl (by decide) rfl (fun ls hl => ?_)
                          refine lv_aload_n hx hb dX0_write_177 rfl (lv_at hl 8 rfl) ?_
                          refine lv_iload hx hb dX0_write_178 (lv_at hl 0 rfl) ?_
                          refine lv_iload hx hb dX0_write_180 (lv_at hl 6 rfl) ?_
                          refine ys_callI (As := [.int (nI (z_wt 0 c)), .int (nI ((u.1 ((6 * r) + c)) ^^^ (v.toBitVec.toNat % 256)))]) (rest := []) (w1 := (wX ad kd (z_alter (z_alter (z_alter (z_alter (z_alter (z_alter (va_up u.1 ((6 * r) + c) (v.toBitVec.toNat % 256)) u.2.1 4 c (z_gm (z_wt 0 r) (u.1 (6 * r + c) ^^^ (v.toBitVec.toNat % 256)))) u.2.1 4 4 (z_gm (z_wt 0 c) (z_gm (z_wt 0 r) (u.1 (6 * r + c) ^^^ (v.toBitVec.toNat % 256))))) u.2.1 4 5 (z_gm (z_wt 1 c) (z_gm (z_wt 0 r) (u.1 (6 * r + c) ^^^ (v.toBitVec.toNat % 256))))) u.2.1 5 c (z_gm (z_wt 1 r) (u.1 (6 * r + c) ^^^ (v.toBitVec.toNat % 256)))) u.2.1 5 4 (z_gm (z_wt 0 c) (z_gm (z_wt 1 r) (u.1 (6 * r + c) ^^^ (v.toBitVec.toNat % 256))))) u.2.1 5 5 (z_gm (z_wt 1 c) (z_gm (z_wt 1 r) (u.1 (6 * r + c) ^^^ (v.toBitVec.toNat % 256)))), u.2.1, u.2.2.1, u.2.2.2.1, u.2.2.2.2.1, u.2.2.2.2.2))) (ci := 0) (q0 := 0) (qq := (RX0, TX0, 8)) ⟨hx, hb, hml, hown, hts⟩ (cx_times l D ad kd (z_alter (z_alter (z_alter (z_alter (z_alter (z_alter (va_up u.1 ((6 * r) + c) (v.toBitVec.toNat % 256)) u.2.1 4 c (z_gm (z_wt 0 r) (u.1 (6 * r + c) ^^^ (v.toBitVec.toNat % 256)))) u.2.1 4 4 (z_gm (z_wt 0 c) (z_gm (z_wt 0 r) (u.1 (6 * r + c) ^^^ (v.toBitVec.toNat % 256))))) u.2.1 4 5 (z_gm (z_wt 1 c) (z_gm (z_wt 0 r) (u.1 (6 * r + c) ^^^ (v.toBitVec.toNat % 256))))) u.2.1 5 c (z_gm (z_wt 1 r) (u.1 (6 * r + c) ^^^ (v.toBitVec.toNat % 256)))) u.2.1 5 4 (z_gm (z_wt 0 c) (z_gm (z_wt 1 r) (u.1 (6 * r + c) ^^^ (v.toBitVec.toNat % 256))))) u.2.1 5 5 (z_gm (z_wt 1 c) (z_gm (z_wt 1 r) (u.1 (6 * r + c) ^^^ (v.toBitVec.toNat % 256)))), u.2.1, u.2.2.1, u.2.2.2.1, u.2.2.2.2.1, u.2.2.2.2.2) (z_wt 0 c) (u.1 (6 * r + c) ^^^ (v.toBitVec.toNat % 256)) (z_wt_lt _ _) hch) (cwV 2 hts (lw_V q60 q62 qs1 q12 q63) rfl rfl rfl (by decide +kernel) ⟨Nat.le_of_ble_eq_true rfl, Nat.le_of_ble_eq_true rfl⟩) hK hA hM rfl rfl hl.1 rfl rfl (Nat.le_of_ble_eq_true rfl) ⟨Nat.zero_le _, Nat.zero_le _⟩ dX0_write_182 (fun H locs hM => ?_)
                          refine lv_istore (lv' := [(8, .int (nI (z_gm (z_wt 0 c) (u.1 (6 * r + c) ^^^ (v.toBitVec.toNat % 256))))), (7, .int (nI (z_wt 0 c))), (6, .int (nI 4)), (9, .int (nI 6)), (11, .int (nI (z_gm (z_wt 1 c) (z_gm (z_wt 1 r) (u.1 (6 * r + c) ^^^ (v.toBitVec.toNat % 256)))))), (10, .int (nI (z_wt 1 c))), (5, .int (nI ((u.1 ((6 * r) + c)) ^^^ (v.toBitVec.toNat % 256)))), (4, .int (nI (u.1 ((6 * r) + c)))), (0, .ref (ad 0)), (1, .int (nI r)), (2, .int (nI c)), (3, .int v)]) hx hb dX0_write_185 hl (by decide) rfl (fun ls hl => ?_)
                          refine lv_aload_n hx hb dX0_write_187 rfl (lv_at hl 8 rfl) ?_
                          refine lv_iload_n hx hb dX0_write_188 rfl (lv_at hl 9 rfl) ?_
                          refine lv_iload hx hb dX0_write_189 (lv_at hl 2 rfl) ?_
                          refine lv_iload hx hb dX0_write_191 (lv_at hl 0 rfl) ?_
                          refine ys_callV (As := [.int (nI r), .int (nI 4), .int (nI (z_gm (z_wt 0 c) (u.1 (6 * r + c) ^^^ (v.toBitVec.toNat % 256))))]) (rest := []) (w1 := (wX ad kd (z_alter (z_alter (z_alter (z_alter (z_alter (z_alter (z_alter (va_up u.1 ((6 * r) + c) (v.toBitVec.toNat % 256)) u.2.1 4 c (z_gm (z_wt 0 r) (u.1 (6 * r + c) ^^^ (v.toBitVec.toNat % 256)))) u.2.1 4 4 (z_gm (z_wt 0 c) (z_gm (z_wt 0 r) (u.1 (6 * r + c) ^^^ (v.toBitVec.toNat % 256))))) u.2.1 4 5 (z_gm (z_wt 1 c) (z_gm (z_wt 0 r) (u.1 (6 * r + c) ^^^ (v.toBitVec.toNat % 256))))) u.2.1 5 c (z_gm (z_wt 1 r) (u.1 (6 * r + c) ^^^ (v.toBitVec.toNat % 256)))) u.2.1 5 4 (z_gm (z_wt 0 c) (z_gm (z_wt 1 r) (u.1 (6 * r + c) ^^^ (v.toBitVec.toNat % 256))))) u.2.1 5 5 (z_gm (z_wt 1 c) (z_gm (z_wt 1 r) (u.1 (6 * r + c) ^^^ (v.toBitVec.toNat % 256))))) u.2.1 r 4 (z_gm (z_wt 0 c) (u.1 (6 * r + c) ^^^ (v.toBitVec.toNat % 256))), u.2.1, u.2.2.1, u.2.2.2.1, u.2.2.2.2.1, u.2.2.2.2.2))) (ci := 0) (q0 := 0) (qq := (RX0, TX0, 8)) ⟨hx, hb, hml, hown, hts⟩ (cx_alter l D ad kd (z_alter (z_alter (z_alter (z_alter (z_alter (z_alter (va_up u.1 ((6 * r) + c) (v.toBitVec.toNat % 256)) u.2.1 4 c (z_gm (z_wt 0 r) (u.1 (6 * r + c) ^^^ (v.toBitVec.toNat % 256)))) u.2.1 4 4 (z_gm (z_wt 0 c) (z_gm (z_wt 0 r) (u.1 (6 * r + c) ^^^ (v.toBitVec.toNat % 256))))) u.2.1 4 5 (z_gm (z_wt 1 c) (z_gm (z_wt 0 r) (u.1 (6 * r + c) ^^^ (v.toBitVec.toNat % 256))))) u.2.1 5 c (z_gm (z_wt 1 r) (u.1 (6 * r + c) ^^^ (v.toBitVec.toNat % 256)))) u.2.1 5 4 (z_gm (z_wt 0 c) (z_gm (z_wt 1 r) (u.1 (6 * r + c) ^^^ (v.toBitVec.toNat % 256))))) u.2.1 5 5 (z_gm (z_wt 1 c) (z_gm (z_wt 1 r) (u.1 (6 * r + c) ^^^ (v.toBitVec.toNat % 256)))), u.2.1, u.2.2.1, u.2.2.2.1, u.2.2.2.2.1, u.2.2.2.2.2) r 4 (z_gm (z_wt 0 c) (u.1 (6 * r + c) ^^^ (v.toBitVec.toNat % 256))) (by omega)) (cwV 3 hts (lw_V q64 q66 qs2 q12 q67) rfl rfl rfl (by decide +kernel) ⟨Nat.le_of_ble_eq_true rfl, Nat.le_of_ble_eq_true rfl⟩) hK hA hM rfl rfl hl.1 rfl rfl (Nat.le_of_ble_eq_true rfl) ⟨Nat.zero_le _, Nat.zero_le _⟩ dX0_write_193 (fun H locs hM => ?_)
                          refine lv_iinc (v := (nI 5)) (lv' := [(6, .int (nI 5)), (8, .int (nI (z_gm (z_wt 0 c) (u.1 (6 * r + c) ^^^ (v.toBitVec.toNat % 256))))), (7, .int (nI (z_wt 0 c))), (9, .int (nI 6)), (11, .int (nI (z_gm (z_wt 1 c) (z_gm (z_wt 1 r) (u.1 (6 * r + c) ^^^ (v.toBitVec.toNat % 256)))))), (10, .int (nI (z_wt 1 c))), (5, .int (nI ((u.1 ((6 * r) + c)) ^^^ (v.toBitVec.toNat % 256)))), (4, .int (nI (u.1 ((6 * r) + c)))), (0, .ref (ad 0)), (1, .int (nI r)), (2, .int (nI c)), (3, .int v)]) hx hb dX0_write_196 hl (k := 2) rfl (ys_inc 4) (by decide) rfl (fun ls hl => ?_)
                          refine lv_goto (tgt := 159) hx hb dX0_write_199 (by decide) ?_
                          refine lv_iload hx hb dX0_write_159 (lv_at hl 0 rfl) ?_
                          refine lv_bipush (v := (nI 6)) hx hb dX0_write_161 (by decide) ?_
                          refine ys_icmp_ge (i := 5) (j := 6) (tgt := 202) hx hb dX0_write_163 (by decide) (by omega) (by omega) (fun h4 => ?_) (fun h4 => ?_)
                          · exact absurd h4 (by omega)
                          · refine lv_aload_n hx hb dX0_write_166 rfl (lv_at hl 8 rfl) ?_
                            refine lv_iload hx hb dX0_write_167 (lv_at hl 0 rfl) ?_
                            refine lv_iconst (v := (nI 4)) hx hb dX0_write_169 (by decide) ?_
                            refine ys_isub (i := 5) (j := 4) hx hb (by omega) dX0_write_170 ?_
                            refine lv_iload_n hx hb dX0_write_171 rfl (lv_at hl 10 rfl) ?_
                            refine ys_callI (As := [.int (nI 1), .int (nI c)]) (rest := []) (w1 := (wX ad kd (z_alter (z_alter (z_alter (z_alter (z_alter (z_alter (z_alter (va_up u.1 ((6 * r) + c) (v.toBitVec.toNat % 256)) u.2.1 4 c (z_gm (z_wt 0 r) (u.1 (6 * r + c) ^^^ (v.toBitVec.toNat % 256)))) u.2.1 4 4 (z_gm (z_wt 0 c) (z_gm (z_wt 0 r) (u.1 (6 * r + c) ^^^ (v.toBitVec.toNat % 256))))) u.2.1 4 5 (z_gm (z_wt 1 c) (z_gm (z_wt 0 r) (u.1 (6 * r + c) ^^^ (v.toBitVec.toNat % 256))))) u.2.1 5 c (z_gm (z_wt 1 r) (u.1 (6 * r + c) ^^^ (v.toBitVec.toNat % 256)))) u.2.1 5 4 (z_gm (z_wt 0 c) (z_gm (z_wt 1 r) (u.1 (6 * r + c) ^^^ (v.toBitVec.toNat % 256))))) u.2.1 5 5 (z_gm (z_wt 1 c) (z_gm (z_wt 1 r) (u.1 (6 * r + c) ^^^ (v.toBitVec.toNat % 256))))) u.2.1 r 4 (z_gm (z_wt 0 c) (u.1 (6 * r + c) ^^^ (v.toBitVec.toNat % 256))), u.2.1, u.2.2.1, u.2.2.2.1, u.2.2.2.2.1, u.2.2.2.2.2))) (ci := 0) (q0 := 0) (qq := (RX0, TX0, 8)) ⟨hx, hb, hml, hown, hts⟩ (cx_weight l D ad kd (z_alter (z_alter (z_alter (z_alter (z_alter (z_alter (z_alter (va_up u.1 ((6 * r) + c) (v.toBitVec.toNat % 256)) u.2.1 4 c (z_gm (z_wt 0 r) (u.1 (6 * r + c) ^^^ (v.toBitVec.toNat % 256)))) u.2.1 4 4 (z_gm (z_wt 0 c) (z_gm (z_wt 0 r) (u.1 (6 * r + c) ^^^ (v.toBitVec.toNat % 256))))) u.2.1 4 5 (z_gm (z_wt 1 c) (z_gm (z_wt 0 r) (u.1 (6 * r + c) ^^^ (v.toBitVec.toNat % 256))))) u.2.1 5 c (z_gm (z_wt 1 r) (u.1 (6 * r + c) ^^^ (v.toBitVec.toNat % 256)))) u.2.1 5 4 (z_gm (z_wt 0 c) (z_gm (z_wt 1 r) (u.1 (6 * r + c) ^^^ (v.toBitVec.toNat % 256))))) u.2.1 5 5 (z_gm (z_wt 1 c) (z_gm (z_wt 1 r) (u.1 (6 * r + c) ^^^ (v.toBitVec.toNat % 256))))) u.2.1 r 4 (z_gm (z_wt 0 c) (u.1 (6 * r + c) ^^^ (v.toBitVec.toNat % 256))), u.2.1, u.2.2.1, u.2.2.2.1, u.2.2.2.2.1, u.2.2.2.2.2) 1 c (by decide) (by omega)) (cwV 2 hts (lw_V q56 q58 qs0 q12 q59) rfl rfl rfl (by decide +kernel) ⟨Nat.le_of_ble_eq_true rfl, Nat.le_of_ble_eq_true rfl⟩) hK hA hM rfl rfl hl.1 rfl rfl (Nat.le_of_ble_eq_true rfl) ⟨Nat.zero_le _, Nat.zero_le _⟩ dX0_write_172 (fun H locs hM => ?_)
                            refine lv_istore (lv' := [(7, .int (nI (z_wt 1 c))), (6, .int (nI 5)), (8, .int (nI (z_gm (z_wt 0 c) (u.1 (6 * r + c) ^^^ (v.toBitVec.toNat % 256))))), (9, .int (nI 6)), (11, .int (nI (z_gm (z_wt 1 c) (z_gm (z_wt 1 r) (u.1 (6 * r + c) ^^^ (v.toBitVec.toNat % 256)))))), (10, .int (nI (z_wt 1 c))), (5, .int (nI ((u.1 ((6 * r) + c)) ^^^ (v.toBitVec.toNat % 256)))), (4, .int (nI (u.1 ((6 * r) + c)))), (0, .ref (ad 0)), (1, .int (nI r)), (2, .int (nI c)), (3, .int v)]) hx hb dX0_write_175 hl (by decide) rfl (fun ls hl => ?_)
                            refine lv_aload_n hx hb dX0_write_177 rfl (lv_at hl 8 rfl) ?_
                            refine lv_iload hx hb dX0_write_178 (lv_at hl 0 rfl) ?_
                            refine lv_iload hx hb dX0_write_180 (lv_at hl 6 rfl) ?_
                            refine ys_callI (As := [.int (nI (z_wt 1 c)), .int (nI ((u.1 ((6 * r) + c)) ^^^ (v.toBitVec.toNat % 256)))]) (rest := []) (w1 := (wX ad kd (z_alter (z_alter (z_alter (z_alter (z_alter (z_alter (z_alter (va_up u.1 ((6 * r) + c) (v.toBitVec.toNat % 256)) u.2.1 4 c (z_gm (z_wt 0 r) (u.1 (6 * r + c) ^^^ (v.toBitVec.toNat % 256)))) u.2.1 4 4 (z_gm (z_wt 0 c) (z_gm (z_wt 0 r) (u.1 (6 * r + c) ^^^ (v.toBitVec.toNat % 256))))) u.2.1 4 5 (z_gm (z_wt 1 c) (z_gm (z_wt 0 r) (u.1 (6 * r + c) ^^^ (v.toBitVec.toNat % 256))))) u.2.1 5 c (z_gm (z_wt 1 r) (u.1 (6 * r + c) ^^^ (v.toBitVec.toNat % 256)))) u.2.1 5 4 (z_gm (z_wt 0 c) (z_gm (z_wt 1 r) (u.1 (6 * r + c) ^^^ (v.toBitVec.toNat % 256))))) u.2.1 5 5 (z_gm (z_wt 1 c) (z_gm (z_wt 1 r) (u.1 (6 * r + c) ^^^ (v.toBitVec.toNat % 256))))) u.2.1 r 4 (z_gm (z_wt 0 c) (u.1 (6 * r + c) ^^^ (v.toBitVec.toNat % 256))), u.2.1, u.2.2.1, u.2.2.2.1, u.2.2.2.2.1, u.2.2.2.2.2))) (ci := 0) (q0 := 0) (qq := (RX0, TX0, 8)) ⟨hx, hb, hml, hown, hts⟩ (cx_times l D ad kd (z_alter (z_alter (z_alter (z_alter (z_alter (z_alter (z_alter (va_up u.1 ((6 * r) + c) (v.toBitVec.toNat % 256)) u.2.1 4 c (z_gm (z_wt 0 r) (u.1 (6 * r + c) ^^^ (v.toBitVec.toNat % 256)))) u.2.1 4 4 (z_gm (z_wt 0 c) (z_gm (z_wt 0 r) (u.1 (6 * r + c) ^^^ (v.toBitVec.toNat % 256))))) u.2.1 4 5 (z_gm (z_wt 1 c) (z_gm (z_wt 0 r) (u.1 (6 * r + c) ^^^ (v.toBitVec.toNat % 256))))) u.2.1 5 c (z_gm (z_wt 1 r) (u.1 (6 * r + c) ^^^ (v.toBitVec.toNat % 256)))) u.2.1 5 4 (z_gm (z_wt 0 c) (z_gm (z_wt 1 r) (u.1 (6 * r + c) ^^^ (v.toBitVec.toNat % 256))))) u.2.1 5 5 (z_gm (z_wt 1 c) (z_gm (z_wt 1 r) (u.1 (6 * r + c) ^^^ (v.toBitVec.toNat % 256))))) u.2.1 r 4 (z_gm (z_wt 0 c) (u.1 (6 * r + c) ^^^ (v.toBitVec.toNat % 256))), u.2.1, u.2.2.1, u.2.2.2.1, u.2.2.2.2.1, u.2.2.2.2.2) (z_wt 1 c) (u.1 (6 * r + c) ^^^ (v.toBitVec.toNat % 256)) (z_wt_lt _ _) hch) (cwV 2 hts (lw_V q60 q62 qs1 q12 q63) rfl rfl rfl (by decide +kernel) ⟨Nat.le_of_ble_eq_true rfl, Nat.le_of_ble_eq_true rfl⟩) hK hA hM rfl rfl hl.1 rfl rfl (Nat.le_of_ble_eq_true rfl) ⟨Nat.zero_le _, Nat.zero_le _⟩ dX0_write_182 (fun H locs hM => ?_)
                            refine lv_istore (lv' := [(8, .int (nI (z_gm (z_wt 1 c) (u.1 (6 * r + c) ^^^ (v.toBitVec.toNat % 256))))), (7, .int (nI (z_wt 1 c))), (6, .int (nI 5)), (9, .int (nI 6)), (11, .int (nI (z_gm (z_wt 1 c) (z_gm (z_wt 1 r) (u.1 (6 * r + c) ^^^ (v.toBitVec.toNat % 256)))))), (10, .int (nI (z_wt 1 c))), (5, .int (nI ((u.1 ((6 * r) + c)) ^^^ (v.toBitVec.toNat % 256)))), (4, .int (nI (u.1 ((6 * r) + c)))), (0, .ref (ad 0)), (1, .int (nI r)), (2, .int (nI c)), (3, .int v)]) hx hb dX0_write_185 hl (by decide) rfl (fun ls hl => ?_)
                            refine lv_aload_n hx hb dX0_write_187 rfl (lv_at hl 8 rfl) ?_
                            refine lv_iload_n hx hb dX0_write_188 rfl (lv_at hl 9 rfl) ?_
                            refine lv_iload hx hb dX0_write_189 (lv_at hl 2 rfl) ?_
                            refine lv_iload hx hb dX0_write_191 (lv_at hl 0 rfl) ?_
                            refine ys_callV (As := [.int (nI r), .int (nI 5), .int (nI (z_gm (z_wt 1 c) (u.1 (6 * r + c) ^^^ (v.toBitVec.toNat % 256))))]) (rest := []) (w1 := (wX ad kd (z_alter (z_alter (z_alter (z_alter (z_alter (z_alter (z_alter (z_alter (va_up u.1 ((6 * r) + c) (v.toBitVec.toNat % 256)) u.2.1 4 c (z_gm (z_wt 0 r) (u.1 (6 * r + c) ^^^ (v.toBitVec.toNat % 256)))) u.2.1 4 4 (z_gm (z_wt 0 c) (z_gm (z_wt 0 r) (u.1 (6 * r + c) ^^^ (v.toBitVec.toNat % 256))))) u.2.1 4 5 (z_gm (z_wt 1 c) (z_gm (z_wt 0 r) (u.1 (6 * r + c) ^^^ (v.toBitVec.toNat % 256))))) u.2.1 5 c (z_gm (z_wt 1 r) (u.1 (6 * r + c) ^^^ (v.toBitVec.toNat % 256)))) u.2.1 5 4 (z_gm (z_wt 0 c) (z_gm (z_wt 1 r) (u.1 (6 * r + c) ^^^ (v.toBitVec.toNat % 256))))) u.2.1 5 5 (z_gm (z_wt 1 c) (z_gm (z_wt 1 r) (u.1 (6 * r + c) ^^^ (v.toBitVec.toNat % 256))))) u.2.1 r 4 (z_gm (z_wt 0 c) (u.1 (6 * r + c) ^^^ (v.toBitVec.toNat % 256)))) u.2.1 r 5 (z_gm (z_wt 1 c) (u.1 (6 * r + c) ^^^ (v.toBitVec.toNat % 256))), u.2.1, u.2.2.1, u.2.2.2.1, u.2.2.2.2.1, u.2.2.2.2.2))) (ci := 0) (q0 := 0) (qq := (RX0, TX0, 8)) ⟨hx, hb, hml, hown, hts⟩ (cx_alter l D ad kd (z_alter (z_alter (z_alter (z_alter (z_alter (z_alter (z_alter (va_up u.1 ((6 * r) + c) (v.toBitVec.toNat % 256)) u.2.1 4 c (z_gm (z_wt 0 r) (u.1 (6 * r + c) ^^^ (v.toBitVec.toNat % 256)))) u.2.1 4 4 (z_gm (z_wt 0 c) (z_gm (z_wt 0 r) (u.1 (6 * r + c) ^^^ (v.toBitVec.toNat % 256))))) u.2.1 4 5 (z_gm (z_wt 1 c) (z_gm (z_wt 0 r) (u.1 (6 * r + c) ^^^ (v.toBitVec.toNat % 256))))) u.2.1 5 c (z_gm (z_wt 1 r) (u.1 (6 * r + c) ^^^ (v.toBitVec.toNat % 256)))) u.2.1 5 4 (z_gm (z_wt 0 c) (z_gm (z_wt 1 r) (u.1 (6 * r + c) ^^^ (v.toBitVec.toNat % 256))))) u.2.1 5 5 (z_gm (z_wt 1 c) (z_gm (z_wt 1 r) (u.1 (6 * r + c) ^^^ (v.toBitVec.toNat % 256))))) u.2.1 r 4 (z_gm (z_wt 0 c) (u.1 (6 * r + c) ^^^ (v.toBitVec.toNat % 256))), u.2.1, u.2.2.1, u.2.2.2.1, u.2.2.2.2.1, u.2.2.2.2.2) r 5 (z_gm (z_wt 1 c) (u.1 (6 * r + c) ^^^ (v.toBitVec.toNat % 256))) (by omega)) (cwV 3 hts (lw_V q64 q66 qs2 q12 q67) rfl rfl rfl (by decide +kernel) ⟨Nat.le_of_ble_eq_true rfl, Nat.le_of_ble_eq_true rfl⟩) hK hA hM rfl rfl hl.1 rfl rfl (Nat.le_of_ble_eq_true rfl) ⟨Nat.zero_le _, Nat.zero_le _⟩ dX0_write_193 (fun H locs hM => ?_)
                            refine lv_iinc (v := (nI 6)) (lv' := [(6, .int (nI 6)), (8, .int (nI (z_gm (z_wt 1 c) (u.1 (6 * r + c) ^^^ (v.toBitVec.toNat % 256))))), (7, .int (nI (z_wt 1 c))), (9, .int (nI 6)), (11, .int (nI (z_gm (z_wt 1 c) (z_gm (z_wt 1 r) (u.1 (6 * r + c) ^^^ (v.toBitVec.toNat % 256)))))), (10, .int (nI (z_wt 1 c))), (5, .int (nI ((u.1 ((6 * r) + c)) ^^^ (v.toBitVec.toNat % 256)))), (4, .int (nI (u.1 ((6 * r) + c)))), (0, .ref (ad 0)), (1, .int (nI r)), (2, .int (nI c)), (3, .int v)]) hx hb dX0_write_196 hl (k := 2) rfl (ys_inc 5) (by decide) rfl (fun ls hl => ?_)
                            refine lv_goto (tgt := 159) hx hb dX0_write_199 (by decide) ?_
                            refine lv_iload hx hb dX0_write_159 (lv_at hl 0 rfl) ?_
                            refine lv_bipush (v := (nI 6)) hx hb dX0_write_161 (by decide) ?_
                            refine ys_icmp_ge (i := 6) (j := 6) (tgt := 202) hx hb dX0_write_163 (by decide) (by omega) (by omega) (fun h4 => ?_) (fun h4 => ?_)
                            · refine lv_iload hx hb dX0_write_202 (lv_at hl 7 rfl) ?_
                              exact ys_iret hx hb hr hlocks hK hM rfl dX0_write_204
                            · exact absurd h4 (by omega)
                      · exact absurd h2 (by omega)
                    · exact absurd h3 (by omega)
            · exact absurd h3 (by omega)
    · exact absurd (hg.symm.trans h1) (by decide)
end
section
set_option maxHeartbeats 4000000 in
set_option maxRecDepth 100000 in
theorem cy_outside (l : Launch) (D : va_G) (tys : List (ClassId × FieldType)) (w : va_W) (x y : Int32) : ys_I l yX1_outside (ws_ yX1_outside cX1_outside 2 (some .boolean)) ({ frames := 0, cells := 0, slots := 0, locals := 0 } : Room) D tys [.int x, .int y] w w (bI (!(z_in y x))) := by
  refine ys_I.mk (own := RX1) (by decide) rfl (Nat.le_of_ble_eq_true rfl) ?_
  intro p e s m below meth cd A ls E hK hA hM hl
  obtain ⟨hx, hb, hr, hml, hown, hts, hlocks⟩ := E
  have hl : lv_has ls 2 [(0, .int x), (1, .int y)] := hl
  refine lv_iload_n hx hb dX1_outside_0 rfl (lv_at hl 0 rfl) ?_
  refine lv_if_lt (tgt := 9) hx hb dX1_outside_1 (by decide) (fun h1 => ?_) (fun h1 => ?_)
  · refine lv_iconst (v := (bI true)) hx hb dX1_outside_9 (by decide) ?_
    refine lv_goto (tgt := 14) hx hb dX1_outside_10 (by decide) ?_
    exact ys_zret hx hb hr hlocks hK hM (by rw [z_in_f (n := y) (x := x) (fun q => q.1 h1)]; rfl) dX1_outside_14
  · refine lv_iload_n hx hb dX1_outside_4 rfl (lv_at hl 0 rfl) ?_
    refine lv_iload_n hx hb dX1_outside_5 rfl (lv_at hl 1 rfl) ?_
    refine lv_icmp_le (tgt := 13) hx hb dX1_outside_6 (by decide) (fun h2 => ?_) (fun h2 => ?_)
    · refine lv_iconst (v := (bI false)) hx hb dX1_outside_13 (by decide) ?_
      exact ys_zret hx hb hr hlocks hK hM (by rw [z_in_t h1 (Int32.not_lt.mpr h2)]; rfl) dX1_outside_14
    · refine lv_iconst (v := (bI true)) hx hb dX1_outside_9 (by decide) ?_
      refine lv_goto (tgt := 14) hx hb dX1_outside_10 (by decide) ?_
      exact ys_zret hx hb hr hlocks hK hM (by rw [z_in_f (n := y) (x := x) (fun q => q.2 (Int32.not_le.mp h2))]; rfl) dX1_outside_14
theorem cy_outside_in (l : Launch) (D : va_G) (tys : List (ClassId × FieldType)) (w : va_W) {n k : Nat} (hn : n < 2 ^ 31) (h : k ≤ n) : ys_I l yX1_outside (ws_ yX1_outside cX1_outside 2 (some .boolean)) ({ frames := 0, cells := 0, slots := 0, locals := 0 } : Room) D tys [.int (nI k), .int (nI n)] w w (bI false) := by
  have q := cy_outside l D tys w (nI k) (nI n)
  rw [z_in_nI hn h] at q
  exact q
theorem cy_outside_out (l : Launch) (D : va_G) (tys : List (ClassId × FieldType)) (w : va_W) {n x : Int32} (h : z_in n x = false) : ys_I l yX1_outside (ws_ yX1_outside cX1_outside 2 (some .boolean)) ({ frames := 0, cells := 0, slots := 0, locals := 0 } : Room) D tys [.int x, .int n] w w (bI true) := by
  have q := cy_outside l D tys w x n
  rw [h] at q
  exact q
theorem z_out2 {a b : Bool} (h1 : (!a) = false) (h2 : (!b) = false) (h : (a && b) = false) : False := by
  cases a <;> cases b <;> simp_all
set_option maxHeartbeats 4000000 in
set_option maxRecDepth 100000 in
theorem cy_write_out (l : Launch) (D : va_G) (ae : Nat → Nat) (ke : Nat → ClassId) (u : zM) (x y v : Int32) (hout : (z_in (nI 3) x && z_in (nI 3) y) = false) : ys_I l yX1_write (ws_ yX1_write cX1_write 5 (some .int)) ({ frames := 1, cells := 0, slots := 0, locals := 21 } : Room) D (tM ke) [.ref (ae 0), .int x, .int y, .int v] (wM ae ke u) (wM ae ke u) (-1) := by
  refine ys_I.mk (own := RX1) (by decide) rfl (Nat.le_of_ble_eq_true rfl) ?_
  intro p e s m below meth cd A ls E hK hA hM hl
  obtain ⟨hx, hb, hr, hml, hown, hts, hlocks⟩ := E
  have hl : lv_has ls 5 [(0, .ref (ae 0)), (1, .int x), (2, .int y), (3, .int v)] := hl
  refine lv_iload_n hx hb dX1_write_0 rfl (lv_at hl 1 rfl) ?_
  refine lv_iconst (v := (nI 3)) hx hb dX1_write_1 (by decide) ?_
  refine ys_callS (As := [.int x, .int (nI 3)]) (rest := []) (w1 := (wM ae ke u)) ⟨hx, hb, hml, hown, hts⟩ (cy_outside l D (tM ke) (wM ae ke u) x (nI 3)) (va_cwS 2 hts (lw_S q157 q158 q13 q159) rfl rfl rfl (by decide +kernel) ⟨Nat.le_of_ble_eq_true rfl, Nat.le_of_ble_eq_true rfl⟩) hK hA hM hl.1 rfl rfl (Nat.le_of_ble_eq_true rfl) ⟨Nat.zero_le _, Nat.zero_le _⟩ dX1_write_2 (fun H locs hM => ?_)
  refine ys_ifb_ne (b := (!(z_in (nI 3) x))) (tgt := 30) hx hb dX1_write_5 (by decide) (fun h1 => ?_) (fun h1 => ?_)
  · refine lv_iconst (v := -1) hx hb dX1_write_30 (by decide) ?_
    exact ys_iret hx hb hr hlocks hK hM rfl dX1_write_31
  · refine lv_iload_n hx hb dX1_write_8 rfl (lv_at hl 2 rfl) ?_
    refine lv_iconst (v := (nI 3)) hx hb dX1_write_9 (by decide) ?_
    refine ys_callS (As := [.int y, .int (nI 3)]) (rest := []) (w1 := (wM ae ke u)) ⟨hx, hb, hml, hown, hts⟩ (cy_outside l D (tM ke) (wM ae ke u) y (nI 3)) (va_cwS 2 hts (lw_S q157 q158 q13 q159) rfl rfl rfl (by decide +kernel) ⟨Nat.le_of_ble_eq_true rfl, Nat.le_of_ble_eq_true rfl⟩) hK hA hM hl.1 rfl rfl (Nat.le_of_ble_eq_true rfl) ⟨Nat.zero_le _, Nat.zero_le _⟩ dX1_write_10 (fun H locs hM => ?_)
    refine ys_ifb_ne (b := (!(z_in (nI 3) y))) (tgt := 30) hx hb dX1_write_13 (by decide) (fun h2 => ?_) (fun h2 => ?_)
    · refine lv_iconst (v := -1) hx hb dX1_write_30 (by decide) ?_
      exact ys_iret hx hb hr hlocks hK hM rfl dX1_write_31
    · exact absurd hout (fun q => z_out2 h1 h2 q)
set_option maxHeartbeats 4000000 in
set_option maxRecDepth 100000 in
theorem cy_write_gone (l : Launch) (D : va_G) (ae : Nat → Nat) (ke : Nat → ClassId) (u : zM) (r c : Nat) (hr3 : r ≤ 3) (hc3 : c ≤ 3) (v : Int32) (hg : u.2 (6 * r + c) = true) : ys_I l yX1_write (ws_ yX1_write cX1_write 5 (some .int)) ({ frames := 1, cells := 0, slots := 0, locals := 21 } : Room) D (tM ke) [.ref (ae 0), .int (nI r), .int (nI c), .int v] (wM ae ke u) (wM ae ke u) (-1) := by
  refine ys_I.mk (own := RX1) (by decide) rfl (Nat.le_of_ble_eq_true rfl) ?_
  intro p e s m below meth cd A ls E hK hA hM hl
  obtain ⟨hx, hb, hr, hml, hown, hts, hlocks⟩ := E
  have hl : lv_has ls 5 [(0, .ref (ae 0)), (1, .int (nI r)), (2, .int (nI c)), (3, .int v)] := hl
  refine lv_iload_n hx hb dX1_write_0 rfl (lv_at hl 1 rfl) ?_
  refine lv_iconst (v := (nI 3)) hx hb dX1_write_1 (by decide) ?_
  refine ys_callS (As := [.int (nI r), .int (nI 3)]) (rest := []) (w1 := (wM ae ke u)) ⟨hx, hb, hml, hown, hts⟩ (cy_outside_in l D (tM ke) (wM ae ke u) (by decide) hr3) (va_cwS 2 hts (lw_S q157 q158 q13 q159) rfl rfl rfl (by decide +kernel) ⟨Nat.le_of_ble_eq_true rfl, Nat.le_of_ble_eq_true rfl⟩) hK hA hM hl.1 rfl rfl (Nat.le_of_ble_eq_true rfl) ⟨Nat.zero_le _, Nat.zero_le _⟩ dX1_write_2 (fun H locs hM => ?_)
  refine ys_ifb_ne (b := false) (tgt := 30) hx hb dX1_write_5 (by decide) (fun h0 => ?_) (fun h0 => ?_)
  · exact absurd h0 (by decide)
  · refine lv_iload_n hx hb dX1_write_8 rfl (lv_at hl 2 rfl) ?_
    refine lv_iconst (v := (nI 3)) hx hb dX1_write_9 (by decide) ?_
    refine ys_callS (As := [.int (nI c), .int (nI 3)]) (rest := []) (w1 := (wM ae ke u)) ⟨hx, hb, hml, hown, hts⟩ (cy_outside_in l D (tM ke) (wM ae ke u) (by decide) hc3) (va_cwS 2 hts (lw_S q157 q158 q13 q159) rfl rfl rfl (by decide +kernel) ⟨Nat.le_of_ble_eq_true rfl, Nat.le_of_ble_eq_true rfl⟩) hK hA hM hl.1 rfl rfl (Nat.le_of_ble_eq_true rfl) ⟨Nat.zero_le _, Nat.zero_le _⟩ dX1_write_10 (fun H locs hM => ?_)
    refine ys_ifb_ne (b := false) (tgt := 30) hx hb dX1_write_13 (by decide) (fun h0 => ?_) (fun h0 => ?_)
    · exact absurd h0 (by decide)
    · refine lv_aload_n hx hb dX1_write_16 rfl (lv_at hl 0 rfl) ?_
      refine va_get (D := D) (ci := 1) (v := .ref (ae 2)) (C := RX1) (T := TX1) (N := 2) hx hb hts in_X1 hown hK hM.1 0 rfl rfl 1 (by decide) (hts _ q147) (fun _ h9 => h9) rfl dX1_write_17 ?_
      refine lv_bipush (v := (nI 6)) hx hb dX1_write_20 (by decide) ?_
      refine lv_iload_n hx hb dX1_write_22 rfl (lv_at hl 1 rfl) ?_
      refine ys_imul (i := 6) (j := r) hx hb dX1_write_23 ?_
      refine lv_iload_n hx hb dX1_write_24 rfl (lv_at hl 2 rfl) ?_
      refine ys_iadd (i := (6 * r)) (j := c) hx hb dX1_write_25 ?_
      refine ys_zald (i := ((6 * r) + c)) hx hb hK hM 2 1 rfl rfl (by omega) (by decide) dX1_write_26 ?_
      refine ys_ifb_eq (b := (u.2 ((6 * r) + c))) (tgt := 32) hx hb dX1_write_27 (by decide) (fun h1 => ?_) (fun h1 => ?_)
      · exact absurd (hg.symm.trans h1) (by decide)
      · refine lv_iconst (v := -1) hx hb dX1_write_30 (by decide) ?_
        exact ys_iret hx hb hr hlocks hK hM rfl dX1_write_31
set_option maxHeartbeats 4000000 in
set_option maxRecDepth 100000 in
theorem cy_write_ok (l : Launch) (D : va_G) (ae : Nat → Nat) (ke : Nat → ClassId) (u : zM) (r c : Nat) (hr3 : r ≤ 3) (hc3 : c ≤ 3) (v : Int32) (hg : u.2 (6 * r + c) = false) : ys_I l yX1_write (ws_ yX1_write cX1_write 5 (some .int)) ({ frames := 1, cells := 0, slots := 0, locals := 21 } : Room) D (tM ke) [.ref (ae 0), .int (nI r), .int (nI c), .int v] (wM ae ke u) (wM ae ke (va_up u.1 (4 * r + c) (v.toBitVec.toNat % 256), u.2)) (nI (u.1 (4 * r + c))) := by
  refine ys_I.mk (own := RX1) (by decide) rfl (Nat.le_of_ble_eq_true rfl) ?_
  intro p e s m below meth cd A ls E hK hA hM hl
  obtain ⟨hx, hb, hr, hml, hown, hts, hlocks⟩ := E
  have hl : lv_has ls 5 [(0, .ref (ae 0)), (1, .int (nI r)), (2, .int (nI c)), (3, .int v)] := hl
  refine lv_iload_n hx hb dX1_write_0 rfl (lv_at hl 1 rfl) ?_
  refine lv_iconst (v := (nI 3)) hx hb dX1_write_1 (by decide) ?_
  refine ys_callS (As := [.int (nI r), .int (nI 3)]) (rest := []) (w1 := (wM ae ke u)) ⟨hx, hb, hml, hown, hts⟩ (cy_outside_in l D (tM ke) (wM ae ke u) (by decide) hr3) (va_cwS 2 hts (lw_S q157 q158 q13 q159) rfl rfl rfl (by decide +kernel) ⟨Nat.le_of_ble_eq_true rfl, Nat.le_of_ble_eq_true rfl⟩) hK hA hM hl.1 rfl rfl (Nat.le_of_ble_eq_true rfl) ⟨Nat.zero_le _, Nat.zero_le _⟩ dX1_write_2 (fun H locs hM => ?_)
  refine ys_ifb_ne (b := false) (tgt := 30) hx hb dX1_write_5 (by decide) (fun h0 => ?_) (fun h0 => ?_)
  · exact absurd h0 (by decide)
  · refine lv_iload_n hx hb dX1_write_8 rfl (lv_at hl 2 rfl) ?_
    refine lv_iconst (v := (nI 3)) hx hb dX1_write_9 (by decide) ?_
    refine ys_callS (As := [.int (nI c), .int (nI 3)]) (rest := []) (w1 := (wM ae ke u)) ⟨hx, hb, hml, hown, hts⟩ (cy_outside_in l D (tM ke) (wM ae ke u) (by decide) hc3) (va_cwS 2 hts (lw_S q157 q158 q13 q159) rfl rfl rfl (by decide +kernel) ⟨Nat.le_of_ble_eq_true rfl, Nat.le_of_ble_eq_true rfl⟩) hK hA hM hl.1 rfl rfl (Nat.le_of_ble_eq_true rfl) ⟨Nat.zero_le _, Nat.zero_le _⟩ dX1_write_10 (fun H locs hM => ?_)
    refine ys_ifb_ne (b := false) (tgt := 30) hx hb dX1_write_13 (by decide) (fun h0 => ?_) (fun h0 => ?_)
    · exact absurd h0 (by decide)
    · refine lv_aload_n hx hb dX1_write_16 rfl (lv_at hl 0 rfl) ?_
      refine va_get (D := D) (ci := 1) (v := .ref (ae 2)) (C := RX1) (T := TX1) (N := 2) hx hb hts in_X1 hown hK hM.1 0 rfl rfl 1 (by decide) (hts _ q147) (fun _ h9 => h9) rfl dX1_write_17 ?_
      refine lv_bipush (v := (nI 6)) hx hb dX1_write_20 (by decide) ?_
      refine lv_iload_n hx hb dX1_write_22 rfl (lv_at hl 1 rfl) ?_
      refine ys_imul (i := 6) (j := r) hx hb dX1_write_23 ?_
      refine lv_iload_n hx hb dX1_write_24 rfl (lv_at hl 2 rfl) ?_
      refine ys_iadd (i := (6 * r)) (j := c) hx hb dX1_write_25 ?_
      refine ys_zald (i := ((6 * r) + c)) hx hb hK hM 2 1 rfl rfl (by omega) (by decide) dX1_write_26 ?_
      refine ys_ifb_eq (b := (u.2 ((6 * r) + c))) (tgt := 32) hx hb dX1_write_27 (by decide) (fun h1 => ?_) (fun h1 => ?_)
      · refine lv_aload_n hx hb dX1_write_32 rfl (lv_at hl 0 rfl) ?_
        refine va_get (D := D) (ci := 1) (v := .ref (ae 1)) (C := RX1) (T := TX1) (N := 2) hx hb hts in_X1 hown hK hM.1 0 rfl rfl 0 (by decide) (hts _ q146) (fun _ h9 => h9) rfl dX1_write_33 ?_
        refine lv_iconst (v := (nI 4)) hx hb dX1_write_36 (by decide) ?_
        refine lv_iload_n hx hb dX1_write_37 rfl (lv_at hl 1 rfl) ?_
        refine ys_imul (i := 4) (j := r) hx hb dX1_write_38 ?_
        refine lv_iload_n hx hb dX1_write_39 rfl (lv_at hl 2 rfl) ?_
        refine ys_iadd (i := (4 * r)) (j := c) hx hb dX1_write_40 ?_
        refine ys_iald (i := ((4 * r) + c)) hx hb hK hM 1 0 rfl rfl (by omega) (by decide) dX1_write_41 ?_
        refine lv_istore (lv' := [(4, .int (nI (u.1 ((4 * r) + c)))), (0, .ref (ae 0)), (1, .int (nI r)), (2, .int (nI c)), (3, .int v)]) hx hb dX1_write_42 hl (by decide) rfl (fun ls hl => ?_)
        refine lv_aload_n hx hb dX1_write_44 rfl (lv_at hl 1 rfl) ?_
        refine va_get (D := D) (ci := 1) (v := .ref (ae 1)) (C := RX1) (T := TX1) (N := 2) hx hb hts in_X1 hown hK hM.1 0 rfl rfl 0 (by decide) (hts _ q146) (fun _ h9 => h9) rfl dX1_write_45 ?_
        refine lv_iconst (v := (nI 4)) hx hb dX1_write_48 (by decide) ?_
        refine lv_iload_n hx hb dX1_write_49 rfl (lv_at hl 2 rfl) ?_
        refine ys_imul (i := 4) (j := r) hx hb dX1_write_50 ?_
        refine lv_iload_n hx hb dX1_write_51 rfl (lv_at hl 3 rfl) ?_
        refine ys_iadd (i := (4 * r)) (j := c) hx hb dX1_write_52 ?_
        refine lv_iload_n hx hb dX1_write_53 rfl (lv_at hl 4 rfl) ?_
        refine lv_sipush (v := (nI 255)) hx hb dX1_write_54 (by decide) ?_
        refine ys_iand255 hx hb dX1_write_57 ?_
        refine ys_iast (i := ((4 * r) + c)) (v := (v.toBitVec.toNat % 256)) (w' := (wM ae ke (va_up u.1 ((4 * r) + c) (v.toBitVec.toNat % 256), u.2))) hx hb hK hM 1 0 rfl rfl (by omega) (by decide) dX1_write_58 rfl (fun H locs hM => ?_)
        refine lv_iload hx hb dX1_write_59 (lv_at hl 0 rfl) ?_
        exact ys_iret hx hb hr hlocks hK hM rfl dX1_write_61
      · exact absurd (hg.symm.trans h1) (by decide)
set_option maxHeartbeats 4000000 in
set_option maxRecDepth 100000 in
theorem cy_read_out (l : Launch) (D : va_G) (ae : Nat → Nat) (ke : Nat → ClassId) (u : zM) (x y : Int32) (hout : (z_in (nI 3) x && z_in (nI 3) y) = false) : ys_I l yX1_read (ws_ yX1_read cX1_read 3 (some .int)) ({ frames := 1, cells := 0, slots := 0, locals := 21 } : Room) D (tM ke) [.ref (ae 0), .int x, .int y] (wM ae ke u) (wM ae ke u) (-1) := by
  refine ys_I.mk (own := RX1) (by decide) rfl (Nat.le_of_ble_eq_true rfl) ?_
  intro p e s m below meth cd A ls E hK hA hM hl
  obtain ⟨hx, hb, hr, hml, hown, hts, hlocks⟩ := E
  have hl : lv_has ls 3 [(0, .ref (ae 0)), (1, .int x), (2, .int y)] := hl
  refine lv_iload_n hx hb dX1_read_0 rfl (lv_at hl 1 rfl) ?_
  refine lv_iconst (v := (nI 3)) hx hb dX1_read_1 (by decide) ?_
  refine ys_callS (As := [.int x, .int (nI 3)]) (rest := []) (w1 := (wM ae ke u)) ⟨hx, hb, hml, hown, hts⟩ (cy_outside l D (tM ke) (wM ae ke u) x (nI 3)) (va_cwS 2 hts (lw_S q157 q158 q13 q159) rfl rfl rfl (by decide +kernel) ⟨Nat.le_of_ble_eq_true rfl, Nat.le_of_ble_eq_true rfl⟩) hK hA hM hl.1 rfl rfl (Nat.le_of_ble_eq_true rfl) ⟨Nat.zero_le _, Nat.zero_le _⟩ dX1_read_2 (fun H locs hM => ?_)
  refine ys_ifb_ne (b := (!(z_in (nI 3) x))) (tgt := 30) hx hb dX1_read_5 (by decide) (fun h1 => ?_) (fun h1 => ?_)
  · refine lv_iconst (v := -1) hx hb dX1_read_30 (by decide) ?_
    exact ys_iret hx hb hr hlocks hK hM rfl dX1_read_31
  · refine lv_iload_n hx hb dX1_read_8 rfl (lv_at hl 2 rfl) ?_
    refine lv_iconst (v := (nI 3)) hx hb dX1_read_9 (by decide) ?_
    refine ys_callS (As := [.int y, .int (nI 3)]) (rest := []) (w1 := (wM ae ke u)) ⟨hx, hb, hml, hown, hts⟩ (cy_outside l D (tM ke) (wM ae ke u) y (nI 3)) (va_cwS 2 hts (lw_S q157 q158 q13 q159) rfl rfl rfl (by decide +kernel) ⟨Nat.le_of_ble_eq_true rfl, Nat.le_of_ble_eq_true rfl⟩) hK hA hM hl.1 rfl rfl (Nat.le_of_ble_eq_true rfl) ⟨Nat.zero_le _, Nat.zero_le _⟩ dX1_read_10 (fun H locs hM => ?_)
    refine ys_ifb_ne (b := (!(z_in (nI 3) y))) (tgt := 30) hx hb dX1_read_13 (by decide) (fun h2 => ?_) (fun h2 => ?_)
    · refine lv_iconst (v := -1) hx hb dX1_read_30 (by decide) ?_
      exact ys_iret hx hb hr hlocks hK hM rfl dX1_read_31
    · exact absurd hout (fun q => z_out2 h1 h2 q)
set_option maxHeartbeats 4000000 in
set_option maxRecDepth 100000 in
theorem cy_read_gone (l : Launch) (D : va_G) (ae : Nat → Nat) (ke : Nat → ClassId) (u : zM) (r c : Nat) (hr3 : r ≤ 3) (hc3 : c ≤ 3) (hg : u.2 (6 * r + c) = true) : ys_I l yX1_read (ws_ yX1_read cX1_read 3 (some .int)) ({ frames := 1, cells := 0, slots := 0, locals := 21 } : Room) D (tM ke) [.ref (ae 0), .int (nI r), .int (nI c)] (wM ae ke u) (wM ae ke u) (-1) := by
  refine ys_I.mk (own := RX1) (by decide) rfl (Nat.le_of_ble_eq_true rfl) ?_
  intro p e s m below meth cd A ls E hK hA hM hl
  obtain ⟨hx, hb, hr, hml, hown, hts, hlocks⟩ := E
  have hl : lv_has ls 3 [(0, .ref (ae 0)), (1, .int (nI r)), (2, .int (nI c))] := hl
  refine lv_iload_n hx hb dX1_read_0 rfl (lv_at hl 1 rfl) ?_
  refine lv_iconst (v := (nI 3)) hx hb dX1_read_1 (by decide) ?_
  refine ys_callS (As := [.int (nI r), .int (nI 3)]) (rest := []) (w1 := (wM ae ke u)) ⟨hx, hb, hml, hown, hts⟩ (cy_outside_in l D (tM ke) (wM ae ke u) (by decide) hr3) (va_cwS 2 hts (lw_S q157 q158 q13 q159) rfl rfl rfl (by decide +kernel) ⟨Nat.le_of_ble_eq_true rfl, Nat.le_of_ble_eq_true rfl⟩) hK hA hM hl.1 rfl rfl (Nat.le_of_ble_eq_true rfl) ⟨Nat.zero_le _, Nat.zero_le _⟩ dX1_read_2 (fun H locs hM => ?_)
  refine ys_ifb_ne (b := false) (tgt := 30) hx hb dX1_read_5 (by decide) (fun h0 => ?_) (fun h0 => ?_)
  · exact absurd h0 (by decide)
  · refine lv_iload_n hx hb dX1_read_8 rfl (lv_at hl 2 rfl) ?_
    refine lv_iconst (v := (nI 3)) hx hb dX1_read_9 (by decide) ?_
    refine ys_callS (As := [.int (nI c), .int (nI 3)]) (rest := []) (w1 := (wM ae ke u)) ⟨hx, hb, hml, hown, hts⟩ (cy_outside_in l D (tM ke) (wM ae ke u) (by decide) hc3) (va_cwS 2 hts (lw_S q157 q158 q13 q159) rfl rfl rfl (by decide +kernel) ⟨Nat.le_of_ble_eq_true rfl, Nat.le_of_ble_eq_true rfl⟩) hK hA hM hl.1 rfl rfl (Nat.le_of_ble_eq_true rfl) ⟨Nat.zero_le _, Nat.zero_le _⟩ dX1_read_10 (fun H locs hM => ?_)
    refine ys_ifb_ne (b := false) (tgt := 30) hx hb dX1_read_13 (by decide) (fun h0 => ?_) (fun h0 => ?_)
    · exact absurd h0 (by decide)
    · refine lv_aload_n hx hb dX1_read_16 rfl (lv_at hl 0 rfl) ?_
      refine va_get (D := D) (ci := 1) (v := .ref (ae 2)) (C := RX1) (T := TX1) (N := 2) hx hb hts in_X1 hown hK hM.1 0 rfl rfl 1 (by decide) (hts _ q147) (fun _ h9 => h9) rfl dX1_read_17 ?_
      refine lv_bipush (v := (nI 6)) hx hb dX1_read_20 (by decide) ?_
      refine lv_iload_n hx hb dX1_read_22 rfl (lv_at hl 1 rfl) ?_
      refine ys_imul (i := 6) (j := r) hx hb dX1_read_23 ?_
      refine lv_iload_n hx hb dX1_read_24 rfl (lv_at hl 2 rfl) ?_
      refine ys_iadd (i := (6 * r)) (j := c) hx hb dX1_read_25 ?_
      refine ys_zald (i := ((6 * r) + c)) hx hb hK hM 2 1 rfl rfl (by omega) (by decide) dX1_read_26 ?_
      refine ys_ifb_eq (b := (u.2 ((6 * r) + c))) (tgt := 32) hx hb dX1_read_27 (by decide) (fun h1 => ?_) (fun h1 => ?_)
      · exact absurd (hg.symm.trans h1) (by decide)
      · refine lv_iconst (v := -1) hx hb dX1_read_30 (by decide) ?_
        exact ys_iret hx hb hr hlocks hK hM rfl dX1_read_31
set_option maxHeartbeats 4000000 in
set_option maxRecDepth 100000 in
theorem cy_read_ok (l : Launch) (D : va_G) (ae : Nat → Nat) (ke : Nat → ClassId) (u : zM) (r c : Nat) (hr3 : r ≤ 3) (hc3 : c ≤ 3) (hg : u.2 (6 * r + c) = false) : ys_I l yX1_read (ws_ yX1_read cX1_read 3 (some .int)) ({ frames := 1, cells := 0, slots := 0, locals := 21 } : Room) D (tM ke) [.ref (ae 0), .int (nI r), .int (nI c)] (wM ae ke u) (wM ae ke u) (nI (u.1 (4 * r + c))) := by
  refine ys_I.mk (own := RX1) (by decide) rfl (Nat.le_of_ble_eq_true rfl) ?_
  intro p e s m below meth cd A ls E hK hA hM hl
  obtain ⟨hx, hb, hr, hml, hown, hts, hlocks⟩ := E
  have hl : lv_has ls 3 [(0, .ref (ae 0)), (1, .int (nI r)), (2, .int (nI c))] := hl
  refine lv_iload_n hx hb dX1_read_0 rfl (lv_at hl 1 rfl) ?_
  refine lv_iconst (v := (nI 3)) hx hb dX1_read_1 (by decide) ?_
  refine ys_callS (As := [.int (nI r), .int (nI 3)]) (rest := []) (w1 := (wM ae ke u)) ⟨hx, hb, hml, hown, hts⟩ (cy_outside_in l D (tM ke) (wM ae ke u) (by decide) hr3) (va_cwS 2 hts (lw_S q157 q158 q13 q159) rfl rfl rfl (by decide +kernel) ⟨Nat.le_of_ble_eq_true rfl, Nat.le_of_ble_eq_true rfl⟩) hK hA hM hl.1 rfl rfl (Nat.le_of_ble_eq_true rfl) ⟨Nat.zero_le _, Nat.zero_le _⟩ dX1_read_2 (fun H locs hM => ?_)
  refine ys_ifb_ne (b := false) (tgt := 30) hx hb dX1_read_5 (by decide) (fun h0 => ?_) (fun h0 => ?_)
  · exact absurd h0 (by decide)
  · refine lv_iload_n hx hb dX1_read_8 rfl (lv_at hl 2 rfl) ?_
    refine lv_iconst (v := (nI 3)) hx hb dX1_read_9 (by decide) ?_
    refine ys_callS (As := [.int (nI c), .int (nI 3)]) (rest := []) (w1 := (wM ae ke u)) ⟨hx, hb, hml, hown, hts⟩ (cy_outside_in l D (tM ke) (wM ae ke u) (by decide) hc3) (va_cwS 2 hts (lw_S q157 q158 q13 q159) rfl rfl rfl (by decide +kernel) ⟨Nat.le_of_ble_eq_true rfl, Nat.le_of_ble_eq_true rfl⟩) hK hA hM hl.1 rfl rfl (Nat.le_of_ble_eq_true rfl) ⟨Nat.zero_le _, Nat.zero_le _⟩ dX1_read_10 (fun H locs hM => ?_)
    refine ys_ifb_ne (b := false) (tgt := 30) hx hb dX1_read_13 (by decide) (fun h0 => ?_) (fun h0 => ?_)
    · exact absurd h0 (by decide)
    · refine lv_aload_n hx hb dX1_read_16 rfl (lv_at hl 0 rfl) ?_
      refine va_get (D := D) (ci := 1) (v := .ref (ae 2)) (C := RX1) (T := TX1) (N := 2) hx hb hts in_X1 hown hK hM.1 0 rfl rfl 1 (by decide) (hts _ q147) (fun _ h9 => h9) rfl dX1_read_17 ?_
      refine lv_bipush (v := (nI 6)) hx hb dX1_read_20 (by decide) ?_
      refine lv_iload_n hx hb dX1_read_22 rfl (lv_at hl 1 rfl) ?_
      refine ys_imul (i := 6) (j := r) hx hb dX1_read_23 ?_
      refine lv_iload_n hx hb dX1_read_24 rfl (lv_at hl 2 rfl) ?_
      refine ys_iadd (i := (6 * r)) (j := c) hx hb dX1_read_25 ?_
      refine ys_zald (i := ((6 * r) + c)) hx hb hK hM 2 1 rfl rfl (by omega) (by decide) dX1_read_26 ?_
      refine ys_ifb_eq (b := (u.2 ((6 * r) + c))) (tgt := 32) hx hb dX1_read_27 (by decide) (fun h1 => ?_) (fun h1 => ?_)
      · refine lv_aload_n hx hb dX1_read_32 rfl (lv_at hl 0 rfl) ?_
        refine va_get (D := D) (ci := 1) (v := .ref (ae 1)) (C := RX1) (T := TX1) (N := 2) hx hb hts in_X1 hown hK hM.1 0 rfl rfl 0 (by decide) (hts _ q146) (fun _ h9 => h9) rfl dX1_read_33 ?_
        refine lv_iconst (v := (nI 4)) hx hb dX1_read_36 (by decide) ?_
        refine lv_iload_n hx hb dX1_read_37 rfl (lv_at hl 1 rfl) ?_
        refine ys_imul (i := 4) (j := r) hx hb dX1_read_38 ?_
        refine lv_iload_n hx hb dX1_read_39 rfl (lv_at hl 2 rfl) ?_
        refine ys_iadd (i := (4 * r)) (j := c) hx hb dX1_read_40 ?_
        refine ys_iald (i := ((4 * r) + c)) hx hb hK hM 1 0 rfl rfl (by omega) (by decide) dX1_read_41 ?_
        exact ys_iret hx hb hr hlocks hK hM rfl dX1_read_42
      · exact absurd (hg.symm.trans h1) (by decide)
set_option maxHeartbeats 4000000 in
set_option maxRecDepth 100000 in
theorem cy_lose_out (l : Launch) (D : va_G) (ae : Nat → Nat) (ke : Nat → ClassId) (u : zM) (x y : Int32) (hout : (z_in (nI 5) x && z_in (nI 5) y) = false) : ys_I l yX1_lose (ws_ yX1_lose cX1_lose 4 (some .int)) ({ frames := 1, cells := 0, slots := 0, locals := 21 } : Room) D (tM ke) [.ref (ae 0), .int x, .int y] (wM ae ke u) (wM ae ke u) (-1) := by
  refine ys_I.mk (own := RX1) (by decide) rfl (Nat.le_of_ble_eq_true rfl) ?_
  intro p e s m below meth cd A ls E hK hA hM hl
  obtain ⟨hx, hb, hr, hml, hown, hts, hlocks⟩ := E
  have hl : lv_has ls 4 [(0, .ref (ae 0)), (1, .int x), (2, .int y)] := hl
  refine lv_iload_n hx hb dX1_lose_0 rfl (lv_at hl 1 rfl) ?_
  refine lv_iconst (v := (nI 5)) hx hb dX1_lose_1 (by decide) ?_
  refine ys_callS (As := [.int x, .int (nI 5)]) (rest := []) (w1 := (wM ae ke u)) ⟨hx, hb, hml, hown, hts⟩ (cy_outside l D (tM ke) (wM ae ke u) x (nI 5)) (va_cwS 2 hts (lw_S q157 q158 q13 q159) rfl rfl rfl (by decide +kernel) ⟨Nat.le_of_ble_eq_true rfl, Nat.le_of_ble_eq_true rfl⟩) hK hA hM hl.1 rfl rfl (Nat.le_of_ble_eq_true rfl) ⟨Nat.zero_le _, Nat.zero_le _⟩ dX1_lose_2 (fun H locs hM => ?_)
  refine ys_ifb_ne (b := (!(z_in (nI 5) x))) (tgt := 16) hx hb dX1_lose_5 (by decide) (fun h1 => ?_) (fun h1 => ?_)
  · refine lv_iconst (v := -1) hx hb dX1_lose_16 (by decide) ?_
    exact ys_iret hx hb hr hlocks hK hM rfl dX1_lose_17
  · refine lv_iload_n hx hb dX1_lose_8 rfl (lv_at hl 2 rfl) ?_
    refine lv_iconst (v := (nI 5)) hx hb dX1_lose_9 (by decide) ?_
    refine ys_callS (As := [.int y, .int (nI 5)]) (rest := []) (w1 := (wM ae ke u)) ⟨hx, hb, hml, hown, hts⟩ (cy_outside l D (tM ke) (wM ae ke u) y (nI 5)) (va_cwS 2 hts (lw_S q157 q158 q13 q159) rfl rfl rfl (by decide +kernel) ⟨Nat.le_of_ble_eq_true rfl, Nat.le_of_ble_eq_true rfl⟩) hK hA hM hl.1 rfl rfl (Nat.le_of_ble_eq_true rfl) ⟨Nat.zero_le _, Nat.zero_le _⟩ dX1_lose_10 (fun H locs hM => ?_)
    refine ys_ifb_eq (b := (!(z_in (nI 5) y))) (tgt := 18) hx hb dX1_lose_13 (by decide) (fun h2 => ?_) (fun h2 => ?_)
    · exact absurd hout (fun q => z_out2 h1 h2 q)
    · refine lv_iconst (v := -1) hx hb dX1_lose_16 (by decide) ?_
      exact ys_iret hx hb hr hlocks hK hM rfl dX1_lose_17
set_option maxHeartbeats 4000000 in
set_option maxRecDepth 100000 in
theorem cy_lose (l : Launch) (D : va_G) (ae : Nat → Nat) (ke : Nat → ClassId) (u : zM) (r c : Nat) (hr5 : r ≤ 5) (hc5 : c ≤ 5) : ys_I l yX1_lose (ws_ yX1_lose cX1_lose 4 (some .int)) ({ frames := 1, cells := 0, slots := 0, locals := 21 } : Room) D (tM ke) [.ref (ae 0), .int (nI r), .int (nI c)] (wM ae ke u) (wM ae ke (y_lose u (6 * r + c))) (nI (z_was u.2 (6 * r + c))) := by
  refine ys_I.mk (own := RX1) (by decide) rfl (Nat.le_of_ble_eq_true rfl) ?_
  intro p e s m below meth cd A ls E hK hA hM hl
  obtain ⟨hx, hb, hr, hml, hown, hts, hlocks⟩ := E
  have hl : lv_has ls 4 [(0, .ref (ae 0)), (1, .int (nI r)), (2, .int (nI c))] := hl
  refine lv_iload_n hx hb dX1_lose_0 rfl (lv_at hl 1 rfl) ?_
  refine lv_iconst (v := (nI 5)) hx hb dX1_lose_1 (by decide) ?_
  refine ys_callS (As := [.int (nI r), .int (nI 5)]) (rest := []) (w1 := (wM ae ke u)) ⟨hx, hb, hml, hown, hts⟩ (cy_outside_in l D (tM ke) (wM ae ke u) (by decide) hr5) (va_cwS 2 hts (lw_S q157 q158 q13 q159) rfl rfl rfl (by decide +kernel) ⟨Nat.le_of_ble_eq_true rfl, Nat.le_of_ble_eq_true rfl⟩) hK hA hM hl.1 rfl rfl (Nat.le_of_ble_eq_true rfl) ⟨Nat.zero_le _, Nat.zero_le _⟩ dX1_lose_2 (fun H locs hM => ?_)
  refine ys_ifb_ne (b := false) (tgt := 16) hx hb dX1_lose_5 (by decide) (fun h0 => ?_) (fun h0 => ?_)
  · exact absurd h0 (by decide)
  · refine lv_iload_n hx hb dX1_lose_8 rfl (lv_at hl 2 rfl) ?_
    refine lv_iconst (v := (nI 5)) hx hb dX1_lose_9 (by decide) ?_
    refine ys_callS (As := [.int (nI c), .int (nI 5)]) (rest := []) (w1 := (wM ae ke u)) ⟨hx, hb, hml, hown, hts⟩ (cy_outside_in l D (tM ke) (wM ae ke u) (by decide) hc5) (va_cwS 2 hts (lw_S q157 q158 q13 q159) rfl rfl rfl (by decide +kernel) ⟨Nat.le_of_ble_eq_true rfl, Nat.le_of_ble_eq_true rfl⟩) hK hA hM hl.1 rfl rfl (Nat.le_of_ble_eq_true rfl) ⟨Nat.zero_le _, Nat.zero_le _⟩ dX1_lose_10 (fun H locs hM => ?_)
    refine ys_ifb_eq (b := false) (tgt := 18) hx hb dX1_lose_13 (by decide) (fun h0 => ?_) (fun h0 => ?_)
    · refine lv_aload_n hx hb dX1_lose_18 rfl (lv_at hl 0 rfl) ?_
      refine va_get (D := D) (ci := 1) (v := .ref (ae 2)) (C := RX1) (T := TX1) (N := 2) hx hb hts in_X1 hown hK hM.1 0 rfl rfl 1 (by decide) (hts _ q147) (fun _ h9 => h9) rfl dX1_lose_19 ?_
      refine lv_bipush (v := (nI 6)) hx hb dX1_lose_22 (by decide) ?_
      refine lv_iload_n hx hb dX1_lose_24 rfl (lv_at hl 1 rfl) ?_
      refine ys_imul (i := 6) (j := r) hx hb dX1_lose_25 ?_
      refine lv_iload_n hx hb dX1_lose_26 rfl (lv_at hl 2 rfl) ?_
      refine ys_iadd (i := (6 * r)) (j := c) hx hb dX1_lose_27 ?_
      refine ys_zald (i := ((6 * r) + c)) hx hb hK hM 2 1 rfl rfl (by omega) (by decide) dX1_lose_28 ?_
      refine ys_ifb_eq (b := (u.2 ((6 * r) + c))) (tgt := 36) hx hb dX1_lose_29 (by decide) (fun h1 => ?_) (fun h1 => ?_)
      · refine lv_iconst (v := (nI 1)) hx hb dX1_lose_36 (by decide) ?_
        refine lv_istore_n (lv' := [(3, .int (nI 1)), (0, .ref (ae 0)), (1, .int (nI r)), (2, .int (nI c))]) hx hb dX1_lose_37 rfl hl (by decide) rfl (fun ls hl => ?_)
        refine lv_aload_n hx hb dX1_lose_38 rfl (lv_at hl 1 rfl) ?_
        refine va_get (D := D) (ci := 1) (v := .ref (ae 2)) (C := RX1) (T := TX1) (N := 2) hx hb hts in_X1 hown hK hM.1 0 rfl rfl 1 (by decide) (hts _ q147) (fun _ h9 => h9) rfl dX1_lose_39 ?_
        refine lv_bipush (v := (nI 6)) hx hb dX1_lose_42 (by decide) ?_
        refine lv_iload_n hx hb dX1_lose_44 rfl (lv_at hl 2 rfl) ?_
        refine ys_imul (i := 6) (j := r) hx hb dX1_lose_45 ?_
        refine lv_iload_n hx hb dX1_lose_46 rfl (lv_at hl 3 rfl) ?_
        refine ys_iadd (i := (6 * r)) (j := c) hx hb dX1_lose_47 ?_
        refine lv_iconst (v := (bI true)) hx hb dX1_lose_48 (by decide) ?_
        refine ys_zast (i := ((6 * r) + c)) (v := true) (w' := (wM ae ke (u.1, va_up u.2 ((6 * r) + c) true))) hx hb hK hM 2 1 rfl rfl (by omega) (by decide) dX1_lose_49 rfl (fun H locs hM => ?_)
        refine lv_iload_n hx hb dX1_lose_50 rfl (lv_at hl 0 rfl) ?_
        exact ys_iret hx hb hr hlocks hK hM (by rw [z_was, if_neg (by rw [h1]; decide)]) dX1_lose_51
      · refine lv_iconst (v := (nI 0)) hx hb dX1_lose_32 (by decide) ?_
        refine lv_goto (tgt := 37) hx hb dX1_lose_33 (by decide) ?_
        refine lv_istore_n (lv' := [(3, .int (nI 0)), (0, .ref (ae 0)), (1, .int (nI r)), (2, .int (nI c))]) hx hb dX1_lose_37 rfl hl (by decide) rfl (fun ls hl => ?_)
        refine lv_aload_n hx hb dX1_lose_38 rfl (lv_at hl 1 rfl) ?_
        refine va_get (D := D) (ci := 1) (v := .ref (ae 2)) (C := RX1) (T := TX1) (N := 2) hx hb hts in_X1 hown hK hM.1 0 rfl rfl 1 (by decide) (hts _ q147) (fun _ h9 => h9) rfl dX1_lose_39 ?_
        refine lv_bipush (v := (nI 6)) hx hb dX1_lose_42 (by decide) ?_
        refine lv_iload_n hx hb dX1_lose_44 rfl (lv_at hl 2 rfl) ?_
        refine ys_imul (i := 6) (j := r) hx hb dX1_lose_45 ?_
        refine lv_iload_n hx hb dX1_lose_46 rfl (lv_at hl 3 rfl) ?_
        refine ys_iadd (i := (6 * r)) (j := c) hx hb dX1_lose_47 ?_
        refine lv_iconst (v := (bI true)) hx hb dX1_lose_48 (by decide) ?_
        refine ys_zast (i := ((6 * r) + c)) (v := true) (w' := (wM ae ke (u.1, va_up u.2 ((6 * r) + c) true))) hx hb hK hM 2 1 rfl rfl (by omega) (by decide) dX1_lose_49 rfl (fun H locs hM => ?_)
        refine lv_iload_n hx hb dX1_lose_50 rfl (lv_at hl 0 rfl) ?_
        exact ys_iret hx hb hr hlocks hK hM (by rw [z_was, if_pos h1]) dX1_lose_51
    · exact absurd h0 (by decide)
set_option maxHeartbeats 4000000 in
set_option maxRecDepth 100000 in
theorem cy_lost_out (l : Launch) (D : va_G) (ae : Nat → Nat) (ke : Nat → ClassId) (u : zM) (x y : Int32) (hout : (z_in (nI 5) x && z_in (nI 5) y) = false) : ys_I l yX1_lost (ws_ yX1_lost cX1_lost 3 (some .int)) ({ frames := 1, cells := 0, slots := 0, locals := 21 } : Room) D (tM ke) [.ref (ae 0), .int x, .int y] (wM ae ke u) (wM ae ke u) (-1) := by
  refine ys_I.mk (own := RX1) (by decide) rfl (Nat.le_of_ble_eq_true rfl) ?_
  intro p e s m below meth cd A ls E hK hA hM hl
  obtain ⟨hx, hb, hr, hml, hown, hts, hlocks⟩ := E
  have hl : lv_has ls 3 [(0, .ref (ae 0)), (1, .int x), (2, .int y)] := hl
  refine lv_iload_n hx hb dX1_lost_0 rfl (lv_at hl 1 rfl) ?_
  refine lv_iconst (v := (nI 5)) hx hb dX1_lost_1 (by decide) ?_
  refine ys_callS (As := [.int x, .int (nI 5)]) (rest := []) (w1 := (wM ae ke u)) ⟨hx, hb, hml, hown, hts⟩ (cy_outside l D (tM ke) (wM ae ke u) x (nI 5)) (va_cwS 2 hts (lw_S q157 q158 q13 q159) rfl rfl rfl (by decide +kernel) ⟨Nat.le_of_ble_eq_true rfl, Nat.le_of_ble_eq_true rfl⟩) hK hA hM hl.1 rfl rfl (Nat.le_of_ble_eq_true rfl) ⟨Nat.zero_le _, Nat.zero_le _⟩ dX1_lost_2 (fun H locs hM => ?_)
  refine ys_ifb_ne (b := (!(z_in (nI 5) x))) (tgt := 16) hx hb dX1_lost_5 (by decide) (fun h1 => ?_) (fun h1 => ?_)
  · refine lv_iconst (v := -1) hx hb dX1_lost_16 (by decide) ?_
    exact ys_iret hx hb hr hlocks hK hM rfl dX1_lost_17
  · refine lv_iload_n hx hb dX1_lost_8 rfl (lv_at hl 2 rfl) ?_
    refine lv_iconst (v := (nI 5)) hx hb dX1_lost_9 (by decide) ?_
    refine ys_callS (As := [.int y, .int (nI 5)]) (rest := []) (w1 := (wM ae ke u)) ⟨hx, hb, hml, hown, hts⟩ (cy_outside l D (tM ke) (wM ae ke u) y (nI 5)) (va_cwS 2 hts (lw_S q157 q158 q13 q159) rfl rfl rfl (by decide +kernel) ⟨Nat.le_of_ble_eq_true rfl, Nat.le_of_ble_eq_true rfl⟩) hK hA hM hl.1 rfl rfl (Nat.le_of_ble_eq_true rfl) ⟨Nat.zero_le _, Nat.zero_le _⟩ dX1_lost_10 (fun H locs hM => ?_)
    refine ys_ifb_eq (b := (!(z_in (nI 5) y))) (tgt := 18) hx hb dX1_lost_13 (by decide) (fun h2 => ?_) (fun h2 => ?_)
    · exact absurd hout (fun q => z_out2 h1 h2 q)
    · refine lv_iconst (v := -1) hx hb dX1_lost_16 (by decide) ?_
      exact ys_iret hx hb hr hlocks hK hM rfl dX1_lost_17
set_option maxHeartbeats 4000000 in
set_option maxRecDepth 100000 in
theorem cy_lost (l : Launch) (D : va_G) (ae : Nat → Nat) (ke : Nat → ClassId) (u : zM) (r c : Nat) (hr5 : r ≤ 5) (hc5 : c ≤ 5) : ys_I l yX1_lost (ws_ yX1_lost cX1_lost 3 (some .int)) ({ frames := 1, cells := 0, slots := 0, locals := 21 } : Room) D (tM ke) [.ref (ae 0), .int (nI r), .int (nI c)] (wM ae ke u) (wM ae ke u) (nI (if u.2 (6 * r + c) = true then 1 else 0)) := by
  refine ys_I.mk (own := RX1) (by decide) rfl (Nat.le_of_ble_eq_true rfl) ?_
  intro p e s m below meth cd A ls E hK hA hM hl
  obtain ⟨hx, hb, hr, hml, hown, hts, hlocks⟩ := E
  have hl : lv_has ls 3 [(0, .ref (ae 0)), (1, .int (nI r)), (2, .int (nI c))] := hl
  refine lv_iload_n hx hb dX1_lost_0 rfl (lv_at hl 1 rfl) ?_
  refine lv_iconst (v := (nI 5)) hx hb dX1_lost_1 (by decide) ?_
  refine ys_callS (As := [.int (nI r), .int (nI 5)]) (rest := []) (w1 := (wM ae ke u)) ⟨hx, hb, hml, hown, hts⟩ (cy_outside_in l D (tM ke) (wM ae ke u) (by decide) hr5) (va_cwS 2 hts (lw_S q157 q158 q13 q159) rfl rfl rfl (by decide +kernel) ⟨Nat.le_of_ble_eq_true rfl, Nat.le_of_ble_eq_true rfl⟩) hK hA hM hl.1 rfl rfl (Nat.le_of_ble_eq_true rfl) ⟨Nat.zero_le _, Nat.zero_le _⟩ dX1_lost_2 (fun H locs hM => ?_)
  refine ys_ifb_ne (b := false) (tgt := 16) hx hb dX1_lost_5 (by decide) (fun h0 => ?_) (fun h0 => ?_)
  · exact absurd h0 (by decide)
  · refine lv_iload_n hx hb dX1_lost_8 rfl (lv_at hl 2 rfl) ?_
    refine lv_iconst (v := (nI 5)) hx hb dX1_lost_9 (by decide) ?_
    refine ys_callS (As := [.int (nI c), .int (nI 5)]) (rest := []) (w1 := (wM ae ke u)) ⟨hx, hb, hml, hown, hts⟩ (cy_outside_in l D (tM ke) (wM ae ke u) (by decide) hc5) (va_cwS 2 hts (lw_S q157 q158 q13 q159) rfl rfl rfl (by decide +kernel) ⟨Nat.le_of_ble_eq_true rfl, Nat.le_of_ble_eq_true rfl⟩) hK hA hM hl.1 rfl rfl (Nat.le_of_ble_eq_true rfl) ⟨Nat.zero_le _, Nat.zero_le _⟩ dX1_lost_10 (fun H locs hM => ?_)
    refine ys_ifb_eq (b := false) (tgt := 18) hx hb dX1_lost_13 (by decide) (fun h0 => ?_) (fun h0 => ?_)
    · refine lv_aload_n hx hb dX1_lost_18 rfl (lv_at hl 0 rfl) ?_
      refine va_get (D := D) (ci := 1) (v := .ref (ae 2)) (C := RX1) (T := TX1) (N := 2) hx hb hts in_X1 hown hK hM.1 0 rfl rfl 1 (by decide) (hts _ q147) (fun _ h9 => h9) rfl dX1_lost_19 ?_
      refine lv_bipush (v := (nI 6)) hx hb dX1_lost_22 (by decide) ?_
      refine lv_iload_n hx hb dX1_lost_24 rfl (lv_at hl 1 rfl) ?_
      refine ys_imul (i := 6) (j := r) hx hb dX1_lost_25 ?_
      refine lv_iload_n hx hb dX1_lost_26 rfl (lv_at hl 2 rfl) ?_
      refine ys_iadd (i := (6 * r)) (j := c) hx hb dX1_lost_27 ?_
      refine ys_zald (i := ((6 * r) + c)) hx hb hK hM 2 1 rfl rfl (by omega) (by decide) dX1_lost_28 ?_
      refine ys_ifb_eq (b := (u.2 ((6 * r) + c))) (tgt := 36) hx hb dX1_lost_29 (by decide) (fun h1 => ?_) (fun h1 => ?_)
      · refine lv_iconst (v := (nI 0)) hx hb dX1_lost_36 (by decide) ?_
        exact ys_iret hx hb hr hlocks hK hM (by rw [if_neg (by rw [h1]; decide)]) dX1_lost_37
      · refine lv_iconst (v := (nI 1)) hx hb dX1_lost_32 (by decide) ?_
        refine lv_goto (tgt := 37) hx hb dX1_lost_33 (by decide) ?_
        exact ys_iret hx hb hr hlocks hK hM (by rw [if_pos h1]) dX1_lost_37
    · exact absurd h0 (by decide)
set_option maxHeartbeats 4000000 in
set_option maxRecDepth 100000 in
theorem cy_losses (l : Launch) (D : va_G) (ae : Nat → Nat) (ke : Nat → ClassId) (u : zM)  : ys_I l yX1_losses (ws_ yX1_losses cX1_losses 3 (some .int)) ({ frames := 0, cells := 0, slots := 0, locals := 0 } : Room) D (tM ke) [.ref (ae 0)] (wM ae ke u) (wM ae ke u) (nI (z_ls u.2 36)) := by
  refine ys_I.mk (own := RX1) (by decide) rfl (Nat.le_of_ble_eq_true rfl) ?_
  intro p e s m below meth cd A ls E hK hA hM hl
  obtain ⟨hx, hb, hr, hml, hown, hts, hlocks⟩ := E
  have hl : lv_has ls 3 [(0, .ref (ae 0))] := hl
  refine lv_iconst (v := (nI 0)) hx hb dX1_losses_0 (by decide) ?_
  refine lv_istore_n (lv' := [(1, .int (nI 0)), (0, .ref (ae 0))]) hx hb dX1_losses_1 rfl hl (by decide) rfl (fun ls hl => ?_)
  refine lv_iconst (v := (nI 0)) hx hb dX1_losses_2 (by decide) ?_
  refine lv_istore_n (lv' := [(2, .int (nI 0)), (1, .int (nI 0)), (0, .ref (ae 0))]) hx hb dX1_losses_3 rfl hl (by decide) rfl (fun ls hl => ?_)
  have loop : ∀ (n k : Nat) (ls : Array Slot) (H : Heap) (locs : List Loc), k + n = 36 → ys_M D A s (wM ae ke u) H locs → lv_has ls 3 [(0, .ref (ae 0)), (1, .int (nI (z_ls u.2 k))), (2, .int (nI k))] → W p l e ({ frames := 0, cells := 0, slots := 0, locals := 0 } : Room) s m ([.ref (ae 0)] : List Value).toArray below meth cd H locs 0 0 (ys_QI D (tM ke) below ([.ref (ae 0)] : List Value).toArray s A (wM ae ke u) (nI (z_ls u.2 36))) (F0 m 4 ls []) := by
    intro n
    induction n with
    | zero =>
      intro k ls H locs hkn hM hl
      refine lv_iload_n hx hb dX1_losses_4 rfl (lv_at hl 2 rfl) ?_
      refine lv_bipush (v := (nI 36)) hx hb dX1_losses_5 (by decide) ?_
      refine ys_icmp_ge (i := k) (j := 36) (tgt := 28) hx hb dX1_losses_7 (by decide) (by omega) (by omega) (fun h0 => ?_) (fun h0 => ?_)
      · refine lv_iload_n hx hb dX1_losses_28 rfl (lv_at hl 1 rfl) ?_
        obtain rfl : k = 36 := by omega
        exact ys_iret hx hb hr hlocks hK hM rfl dX1_losses_29
      · exact absurd h0 (by omega)
    | succ n ih =>
      intro k ls H locs hkn hM hl
      refine lv_iload_n hx hb dX1_losses_4 rfl (lv_at hl 2 rfl) ?_
      refine lv_bipush (v := (nI 36)) hx hb dX1_losses_5 (by decide) ?_
      refine ys_icmp_ge (i := k) (j := 36) (tgt := 28) hx hb dX1_losses_7 (by decide) (by omega) (by omega) (fun h0 => ?_) (fun h0 => ?_)
      · exact absurd h0 (by omega)
      · refine lv_aload_n hx hb dX1_losses_10 rfl (lv_at hl 0 rfl) ?_
        refine va_get (D := D) (ci := 1) (v := .ref (ae 2)) (C := RX1) (T := TX1) (N := 2) hx hb hts in_X1 hown hK hM.1 0 rfl rfl 1 (by decide) (hts _ q147) (fun _ h9 => h9) rfl dX1_losses_11 ?_
        refine lv_iload_n hx hb dX1_losses_14 rfl (lv_at hl 2 rfl) ?_
        refine ys_zald (i := k) hx hb hK hM 2 1 rfl rfl (by omega) (by decide) dX1_losses_15 ?_
        refine ys_ifb_eq (b := (u.2 k)) (tgt := 22) hx hb dX1_losses_16 (by decide) (fun h1 => ?_) (fun h1 => ?_)
        · refine lv_iinc (v := (nI (k + 1))) (lv' := [(2, .int (nI (k + 1))), (0, .ref (ae 0)), (1, .int (nI (z_ls u.2 k)))]) hx hb dX1_losses_22 hl (k := 2) rfl (ys_inc k) (by decide) rfl (fun ls hl => ?_)
          refine lv_goto (tgt := 4) hx hb dX1_losses_25 (by decide) ?_
          have hz : z_ls u.2 (k + 1) = z_ls u.2 k := by show _ + _ = _; rw [if_neg (by rw [h1]; decide), Nat.add_zero]
          refine ih (k + 1) ls _ _ (by omega) hM ?_
          rw [hz]
          exact lv_sub hl [1, 2, 0] rfl
        · refine lv_iinc (v := (nI ((z_ls u.2 k) + 1))) (lv' := [(1, .int (nI ((z_ls u.2 k) + 1))), (0, .ref (ae 0)), (2, .int (nI k))]) hx hb dX1_losses_19 hl (k := 1) rfl (ys_inc (z_ls u.2 k)) (by decide) rfl (fun ls hl => ?_)
          refine lv_iinc (v := (nI (k + 1))) (lv' := [(2, .int (nI (k + 1))), (1, .int (nI ((z_ls u.2 k) + 1))), (0, .ref (ae 0))]) hx hb dX1_losses_22 hl (k := 2) rfl (ys_inc k) (by decide) rfl (fun ls hl => ?_)
          refine lv_goto (tgt := 4) hx hb dX1_losses_25 (by decide) ?_
          have hz : z_ls u.2 (k + 1) = z_ls u.2 k + 1 := by show _ + _ = _; rw [if_pos h1]
          refine ih (k + 1) ls _ _ (by omega) hM ?_
          rw [hz]
          exact lv_sub hl [2, 1, 0] rfl
  exact loop 36 0 ls _ _ (by omega) hM (lv_sub hl [2, 1, 0] rfl)
set_option maxHeartbeats 4000000 in
set_option maxRecDepth 100000 in
theorem cy_total (l : Launch) (D : va_G) (ae : Nat → Nat) (ke : Nat → ClassId) (u : zM)  : ys_I l yX1_total (ws_ yX1_total cX1_total 3 (some .int)) ({ frames := 0, cells := 0, slots := 0, locals := 0 } : Room) D (tM ke) [.ref (ae 0)] (wM ae ke u) (wM ae ke u) (nI (y_tt u.1 u.2 16)) := by
  refine ys_I.mk (own := RX1) (by decide) rfl (Nat.le_of_ble_eq_true rfl) ?_
  intro p e s m below meth cd A ls E hK hA hM hl
  obtain ⟨hx, hb, hr, hml, hown, hts, hlocks⟩ := E
  have hl : lv_has ls 3 [(0, .ref (ae 0))] := hl
  refine lv_iconst (v := (nI 0)) hx hb dX1_total_0 (by decide) ?_
  refine lv_istore_n (lv' := [(1, .int (nI 0)), (0, .ref (ae 0))]) hx hb dX1_total_1 rfl hl (by decide) rfl (fun ls hl => ?_)
  refine lv_iconst (v := (nI 0)) hx hb dX1_total_2 (by decide) ?_
  refine lv_istore_n (lv' := [(2, .int (nI 0)), (1, .int (nI 0)), (0, .ref (ae 0))]) hx hb dX1_total_3 rfl hl (by decide) rfl (fun ls hl => ?_)
  have loop : ∀ (n k : Nat) (ls : Array Slot) (H : Heap) (locs : List Loc), k + n = 16 → ys_M D A s (wM ae ke u) H locs → lv_has ls 3 [(0, .ref (ae 0)), (1, .int (nI (y_tt u.1 u.2 k))), (2, .int (nI k))] → W p l e ({ frames := 0, cells := 0, slots := 0, locals := 0 } : Room) s m ([.ref (ae 0)] : List Value).toArray below meth cd H locs 0 0 (ys_QI D (tM ke) below ([.ref (ae 0)] : List Value).toArray s A (wM ae ke u) (nI (y_tt u.1 u.2 16))) (F0 m 4 ls []) := by
    intro n
    induction n with
    | zero =>
      intro k ls H locs hkn hM hl
      refine lv_iload_n hx hb dX1_total_4 rfl (lv_at hl 2 rfl) ?_
      refine lv_bipush (v := (nI 16)) hx hb dX1_total_5 (by decide) ?_
      refine ys_icmp_ge (i := k) (j := 16) (tgt := 43) hx hb dX1_total_7 (by decide) (by omega) (by omega) (fun h0 => ?_) (fun h0 => ?_)
      · refine lv_iload_n hx hb dX1_total_43 rfl (lv_at hl 1 rfl) ?_
        obtain rfl : k = 16 := by omega
        exact ys_iret hx hb hr hlocks hK hM rfl dX1_total_44
      · exact absurd h0 (by omega)
    | succ n ih =>
      intro k ls H locs hkn hM hl
      refine lv_iload_n hx hb dX1_total_4 rfl (lv_at hl 2 rfl) ?_
      refine lv_bipush (v := (nI 16)) hx hb dX1_total_5 (by decide) ?_
      refine ys_icmp_ge (i := k) (j := 16) (tgt := 43) hx hb dX1_total_7 (by decide) (by omega) (by omega) (fun h0 => ?_) (fun h0 => ?_)
      · exact absurd h0 (by omega)
      · refine lv_aload_n hx hb dX1_total_10 rfl (lv_at hl 0 rfl) ?_
        refine va_get (D := D) (ci := 1) (v := .ref (ae 2)) (C := RX1) (T := TX1) (N := 2) hx hb hts in_X1 hown hK hM.1 0 rfl rfl 1 (by decide) (hts _ q147) (fun _ h9 => h9) rfl dX1_total_11 ?_
        refine lv_bipush (v := (nI 6)) hx hb dX1_total_14 (by decide) ?_
        refine lv_iload_n hx hb dX1_total_16 rfl (lv_at hl 2 rfl) ?_
        refine lv_iconst (v := (nI 4)) hx hb dX1_total_17 (by decide) ?_
        refine ys_idiv (i := k) (j := 4) hx hb (by omega) (by decide) (by decide) dX1_total_18 ?_
        refine ys_imul (i := 6) (j := (k / 4)) hx hb dX1_total_19 ?_
        refine lv_iload_n hx hb dX1_total_20 rfl (lv_at hl 2 rfl) ?_
        refine lv_iconst (v := (nI 4)) hx hb dX1_total_21 (by decide) ?_
        refine ys_irem (i := k) (j := 4) hx hb (by omega) (by decide) (by decide) dX1_total_22 ?_
        refine ys_iadd (i := (6 * (k / 4))) (j := (k % 4)) hx hb dX1_total_23 ?_
        refine ys_zald (i := ((6 * (k / 4)) + (k % 4))) hx hb hK hM 2 1 rfl rfl (by omega) (by decide) dX1_total_24 ?_
        refine ys_ifb_ne (b := (u.2 ((6 * (k / 4)) + (k % 4)))) (tgt := 37) hx hb dX1_total_25 (by decide) (fun h1 => ?_) (fun h1 => ?_)
        · refine lv_iinc (v := (nI (k + 1))) (lv' := [(2, .int (nI (k + 1))), (0, .ref (ae 0)), (1, .int (nI (y_tt u.1 u.2 k)))]) hx hb dX1_total_37 hl (k := 2) rfl (ys_inc k) (by decide) rfl (fun ls hl => ?_)
          refine lv_goto (tgt := 4) hx hb dX1_total_40 (by decide) ?_
          have hz : y_tt u.1 u.2 (k + 1) = y_tt u.1 u.2 k := by show _ + _ = _; rw [if_pos h1, Nat.add_zero]
          refine ih (k + 1) ls _ _ (by omega) hM ?_
          rw [hz]
          exact lv_sub hl [1, 2, 0] rfl
        · refine lv_iload_n hx hb dX1_total_28 rfl (lv_at hl 1 rfl) ?_
          refine lv_aload_n hx hb dX1_total_29 rfl (lv_at hl 0 rfl) ?_
          refine va_get (D := D) (ci := 1) (v := .ref (ae 1)) (C := RX1) (T := TX1) (N := 2) hx hb hts in_X1 hown hK hM.1 0 rfl rfl 0 (by decide) (hts _ q146) (fun _ h9 => h9) rfl dX1_total_30 ?_
          refine lv_iload_n hx hb dX1_total_33 rfl (lv_at hl 2 rfl) ?_
          refine ys_iald (i := k) hx hb hK hM 1 0 rfl rfl (by omega) (by decide) dX1_total_34 ?_
          refine ys_iadd (i := (y_tt u.1 u.2 k)) (j := (u.1 k)) hx hb dX1_total_35 ?_
          refine lv_istore_n (lv' := [(1, .int (nI ((y_tt u.1 u.2 k) + (u.1 k)))), (0, .ref (ae 0)), (2, .int (nI k))]) hx hb dX1_total_36 rfl hl (by decide) rfl (fun ls hl => ?_)
          refine lv_iinc (v := (nI (k + 1))) (lv' := [(2, .int (nI (k + 1))), (1, .int (nI ((y_tt u.1 u.2 k) + (u.1 k)))), (0, .ref (ae 0))]) hx hb dX1_total_37 hl (k := 2) rfl (ys_inc k) (by decide) rfl (fun ls hl => ?_)
          refine lv_goto (tgt := 4) hx hb dX1_total_40 (by decide) ?_
          have hz : y_tt u.1 u.2 (k + 1) = y_tt u.1 u.2 k + u.1 k := by show _ + _ = _; rw [if_neg (by rw [h1]; decide)]
          refine ih (k + 1) ls _ _ (by omega) hM ?_
          rw [hz]
          exact lv_sub hl [2, 1, 0] rfl
  exact loop 16 0 ls _ _ (by omega) hM (lv_sub hl [2, 1, 0] rfl)
set_option maxHeartbeats 4000000 in
set_option maxRecDepth 100000 in
theorem cy_loseRow_out (l : Launch) (D : va_G) (ae : Nat → Nat) (ke : Nat → ClassId) (u : zM) (x : Int32) (hout : z_in (nI 5) x = false) : ys_I l yX1_loseRow (ws_ yX1_loseRow cX1_loseRow 4 (some .int)) ({ frames := 2, cells := 0, slots := 0, locals := 44 } : Room) D (tM ke) [.ref (ae 0), .int x] (wM ae ke u) (wM ae ke u) (-1) := by
  refine ys_I.mk (own := RX1) (by decide) rfl (Nat.le_of_ble_eq_true rfl) ?_
  intro p e s m below meth cd A ls E hK hA hM hl
  obtain ⟨hx, hb, hr, hml, hown, hts, hlocks⟩ := E
  have hl : lv_has ls 4 [(0, .ref (ae 0)), (1, .int x)] := hl
  refine lv_iload_n hx hb dX1_loseRow_0 rfl (lv_at hl 1 rfl) ?_
  refine lv_iconst (v := (nI 5)) hx hb dX1_loseRow_1 (by decide) ?_
  refine ys_callS (As := [.int x, .int (nI 5)]) (rest := []) (w1 := (wM ae ke u)) ⟨hx, hb, hml, hown, hts⟩ (cy_outside_out l D (tM ke) (wM ae ke u) hout) (va_cwS 2 hts (lw_S q157 q158 q13 q159) rfl rfl rfl (by decide +kernel) ⟨Nat.le_of_ble_eq_true rfl, Nat.le_of_ble_eq_true rfl⟩) hK hA hM hl.1 rfl rfl (Nat.le_of_ble_eq_true rfl) ⟨Nat.zero_le _, Nat.zero_le _⟩ dX1_loseRow_2 (fun H locs hM => ?_)
  refine ys_ifb_eq (b := true) (tgt := 10) hx hb dX1_loseRow_5 (by decide) (fun h0 => ?_) (fun h0 => ?_)
  · exact absurd h0 (by decide)
  · refine lv_iconst (v := -1) hx hb dX1_loseRow_8 (by decide) ?_
    exact ys_iret hx hb hr hlocks hK hM rfl dX1_loseRow_9
set_option maxHeartbeats 4000000 in
set_option maxRecDepth 100000 in
theorem cy_loseRow (l : Launch) (D : va_G) (ae : Nat → Nat) (ke : Nat → ClassId) (u : zM) (r : Nat) (hr5 : r ≤ 5) : ys_I l yX1_loseRow (ws_ yX1_loseRow cX1_loseRow 4 (some .int)) ({ frames := 2, cells := 0, slots := 0, locals := 44 } : Room) D (tM ke) [.ref (ae 0), .int (nI r)] (wM ae ke u) (wM ae ke ((y_lr u (fun k => 6 * r + k) 6).2)) (nI (y_lr u (fun k => 6 * r + k) 6).1) := by
  refine ys_I.mk (own := RX1) (by decide) rfl (Nat.le_of_ble_eq_true rfl) ?_
  intro p e s m below meth cd A ls E hK hA hM hl
  obtain ⟨hx, hb, hr, hml, hown, hts, hlocks⟩ := E
  have hl : lv_has ls 4 [(0, .ref (ae 0)), (1, .int (nI r))] := hl
  refine lv_iload_n hx hb dX1_loseRow_0 rfl (lv_at hl 1 rfl) ?_
  refine lv_iconst (v := (nI 5)) hx hb dX1_loseRow_1 (by decide) ?_
  refine ys_callS (As := [.int (nI r), .int (nI 5)]) (rest := []) (w1 := (wM ae ke u)) ⟨hx, hb, hml, hown, hts⟩ (cy_outside_in l D (tM ke) (wM ae ke u) (by decide) hr5) (va_cwS 2 hts (lw_S q157 q158 q13 q159) rfl rfl rfl (by decide +kernel) ⟨Nat.le_of_ble_eq_true rfl, Nat.le_of_ble_eq_true rfl⟩) hK hA hM hl.1 rfl rfl (Nat.le_of_ble_eq_true rfl) ⟨Nat.zero_le _, Nat.zero_le _⟩ dX1_loseRow_2 (fun H locs hM => ?_)
  refine ys_ifb_eq (b := false) (tgt := 10) hx hb dX1_loseRow_5 (by decide) (fun h0 => ?_) (fun h0 => ?_)
  · refine lv_iconst (v := (nI 0)) hx hb dX1_loseRow_10 (by decide) ?_
    refine lv_istore_n (lv' := [(2, .int (nI 0)), (0, .ref (ae 0)), (1, .int (nI r))]) hx hb dX1_loseRow_11 rfl hl (by decide) rfl (fun ls hl => ?_)
    refine lv_iconst (v := (nI 0)) hx hb dX1_loseRow_12 (by decide) ?_
    refine lv_istore_n (lv' := [(3, .int (nI 0)), (2, .int (nI 0)), (0, .ref (ae 0)), (1, .int (nI r))]) hx hb dX1_loseRow_13 rfl hl (by decide) rfl (fun ls hl => ?_)
    have loop : ∀ (n k : Nat) (ls : Array Slot) (H : Heap) (locs : List Loc), k + n = 6 → ys_M D A s (wM ae ke ((y_lr u (fun k => 6 * r + k) k).2)) H locs → lv_has ls 4 [(0, .ref (ae 0)), (1, .int (nI r)), (2, .int (nI ((y_lr u (fun k => 6 * r + k) k).1))), (3, .int (nI k))] → W p l e ({ frames := 2, cells := 0, slots := 0, locals := 44 } : Room) s m ([.ref (ae 0), .int (nI r)] : List Value).toArray below meth cd H locs 0 0 (ys_QI D (tM ke) below ([.ref (ae 0), .int (nI r)] : List Value).toArray s A (wM ae ke ((y_lr u (fun k => 6 * r + k) 6).2)) (nI (y_lr u (fun k => 6 * r + k) 6).1)) (F0 m 14 ls []) := by
      intro n
      induction n with
      | zero =>
        intro k ls H locs hkn hM hl
        refine lv_iload_n hx hb dX1_loseRow_14 rfl (lv_at hl 3 rfl) ?_
        refine lv_bipush (v := (nI 6)) hx hb dX1_loseRow_15 (by decide) ?_
        refine ys_icmp_ge (i := k) (j := 6) (tgt := 35) hx hb dX1_loseRow_17 (by decide) (by omega) (by omega) (fun h1 => ?_) (fun h1 => ?_)
        · refine lv_iload_n hx hb dX1_loseRow_35 rfl (lv_at hl 2 rfl) ?_
          obtain rfl : k = 6 := by omega
          exact ys_iret hx hb hr hlocks hK hM rfl dX1_loseRow_36
        · exact absurd h1 (by omega)
      | succ n ih =>
        intro k ls H locs hkn hM hl
        refine lv_iload_n hx hb dX1_loseRow_14 rfl (lv_at hl 3 rfl) ?_
        refine lv_bipush (v := (nI 6)) hx hb dX1_loseRow_15 (by decide) ?_
        refine ys_icmp_ge (i := k) (j := 6) (tgt := 35) hx hb dX1_loseRow_17 (by decide) (by omega) (by omega) (fun h1 => ?_) (fun h1 => ?_)
        · exact absurd h1 (by omega)
        · refine lv_iload_n hx hb dX1_loseRow_20 rfl (lv_at hl 2 rfl) ?_
          refine lv_aload_n hx hb dX1_loseRow_21 rfl (lv_at hl 0 rfl) ?_
          refine lv_iload_n hx hb dX1_loseRow_22 rfl (lv_at hl 1 rfl) ?_
          refine lv_iload_n hx hb dX1_loseRow_23 rfl (lv_at hl 3 rfl) ?_
          refine ys_callI (As := [.int (nI r), .int (nI k)]) (rest := [.int (nI ((y_lr u (fun k => 6 * r + k) k).1))]) (w1 := (wM ae ke (y_lose (y_lr u (fun k => 6 * r + k) k).2 (6 * r + k)))) (ci := 1) (q0 := 0) (qq := (RX1, TX1, 2)) ⟨hx, hb, hml, hown, hts⟩ (cy_lose l D ae ke (y_lr u (fun k => 6 * r + k) k).2 r k hr5 (by omega)) (cwV 2 hts (lw_V q172 q165 q166 q13 q167) rfl rfl rfl (by decide +kernel) ⟨Nat.le_of_ble_eq_true rfl, Nat.le_of_ble_eq_true rfl⟩) hK hA hM rfl rfl hl.1 rfl rfl (Nat.le_of_ble_eq_true rfl) ⟨Nat.zero_le _, Nat.zero_le _⟩ dX1_loseRow_24 (fun H locs hM => ?_)
          refine ys_iadd (i := ((y_lr u (fun k => 6 * r + k) k).1)) (j := (z_was (y_lr u (fun k => 6 * r + k) k).2.2 (6 * r + k))) hx hb dX1_loseRow_27 ?_
          refine lv_istore_n (lv' := [(2, .int (nI (((y_lr u (fun k => 6 * r + k) k).1) + (z_was (y_lr u (fun k => 6 * r + k) k).2.2 (6 * r + k))))), (0, .ref (ae 0)), (1, .int (nI r)), (3, .int (nI k))]) hx hb dX1_loseRow_28 rfl hl (by decide) rfl (fun ls hl => ?_)
          refine lv_iinc (v := (nI (k + 1))) (lv' := [(3, .int (nI (k + 1))), (2, .int (nI (((y_lr u (fun k => 6 * r + k) k).1) + (z_was (y_lr u (fun k => 6 * r + k) k).2.2 (6 * r + k))))), (0, .ref (ae 0)), (1, .int (nI r))]) hx hb dX1_loseRow_29 hl (k := 3) rfl (ys_inc k) (by decide) rfl (fun ls hl => ?_)
          refine lv_goto (tgt := 14) hx hb dX1_loseRow_32 (by decide) ?_
          exact ih (k + 1) ls _ _ (by omega) hM (lv_sub hl [2, 3, 1, 0] rfl)
    exact loop 6 0 ls _ _ (by omega) hM (lv_sub hl [2, 3, 1, 0] rfl)
  · exact absurd h0 (by decide)
set_option maxHeartbeats 4000000 in
set_option maxRecDepth 100000 in
theorem cy_loseColumn_out (l : Launch) (D : va_G) (ae : Nat → Nat) (ke : Nat → ClassId) (u : zM) (x : Int32) (hout : z_in (nI 5) x = false) : ys_I l yX1_loseColumn (ws_ yX1_loseColumn cX1_loseColumn 4 (some .int)) ({ frames := 2, cells := 0, slots := 0, locals := 44 } : Room) D (tM ke) [.ref (ae 0), .int x] (wM ae ke u) (wM ae ke u) (-1) := by
  refine ys_I.mk (own := RX1) (by decide) rfl (Nat.le_of_ble_eq_true rfl) ?_
  intro p e s m below meth cd A ls E hK hA hM hl
  obtain ⟨hx, hb, hr, hml, hown, hts, hlocks⟩ := E
  have hl : lv_has ls 4 [(0, .ref (ae 0)), (1, .int x)] := hl
  refine lv_iload_n hx hb dX1_loseColumn_0 rfl (lv_at hl 1 rfl) ?_
  refine lv_iconst (v := (nI 5)) hx hb dX1_loseColumn_1 (by decide) ?_
  refine ys_callS (As := [.int x, .int (nI 5)]) (rest := []) (w1 := (wM ae ke u)) ⟨hx, hb, hml, hown, hts⟩ (cy_outside_out l D (tM ke) (wM ae ke u) hout) (va_cwS 2 hts (lw_S q157 q158 q13 q159) rfl rfl rfl (by decide +kernel) ⟨Nat.le_of_ble_eq_true rfl, Nat.le_of_ble_eq_true rfl⟩) hK hA hM hl.1 rfl rfl (Nat.le_of_ble_eq_true rfl) ⟨Nat.zero_le _, Nat.zero_le _⟩ dX1_loseColumn_2 (fun H locs hM => ?_)
  refine ys_ifb_eq (b := true) (tgt := 10) hx hb dX1_loseColumn_5 (by decide) (fun h0 => ?_) (fun h0 => ?_)
  · exact absurd h0 (by decide)
  · refine lv_iconst (v := -1) hx hb dX1_loseColumn_8 (by decide) ?_
    exact ys_iret hx hb hr hlocks hK hM rfl dX1_loseColumn_9
set_option maxHeartbeats 4000000 in
set_option maxRecDepth 100000 in
theorem cy_loseColumn (l : Launch) (D : va_G) (ae : Nat → Nat) (ke : Nat → ClassId) (u : zM) (r : Nat) (hr5 : r ≤ 5) : ys_I l yX1_loseColumn (ws_ yX1_loseColumn cX1_loseColumn 4 (some .int)) ({ frames := 2, cells := 0, slots := 0, locals := 44 } : Room) D (tM ke) [.ref (ae 0), .int (nI r)] (wM ae ke u) (wM ae ke ((y_lr u (fun k => 6 * k + r) 6).2)) (nI (y_lr u (fun k => 6 * k + r) 6).1) := by
  refine ys_I.mk (own := RX1) (by decide) rfl (Nat.le_of_ble_eq_true rfl) ?_
  intro p e s m below meth cd A ls E hK hA hM hl
  obtain ⟨hx, hb, hr, hml, hown, hts, hlocks⟩ := E
  have hl : lv_has ls 4 [(0, .ref (ae 0)), (1, .int (nI r))] := hl
  refine lv_iload_n hx hb dX1_loseColumn_0 rfl (lv_at hl 1 rfl) ?_
  refine lv_iconst (v := (nI 5)) hx hb dX1_loseColumn_1 (by decide) ?_
  refine ys_callS (As := [.int (nI r), .int (nI 5)]) (rest := []) (w1 := (wM ae ke u)) ⟨hx, hb, hml, hown, hts⟩ (cy_outside_in l D (tM ke) (wM ae ke u) (by decide) hr5) (va_cwS 2 hts (lw_S q157 q158 q13 q159) rfl rfl rfl (by decide +kernel) ⟨Nat.le_of_ble_eq_true rfl, Nat.le_of_ble_eq_true rfl⟩) hK hA hM hl.1 rfl rfl (Nat.le_of_ble_eq_true rfl) ⟨Nat.zero_le _, Nat.zero_le _⟩ dX1_loseColumn_2 (fun H locs hM => ?_)
  refine ys_ifb_eq (b := false) (tgt := 10) hx hb dX1_loseColumn_5 (by decide) (fun h0 => ?_) (fun h0 => ?_)
  · refine lv_iconst (v := (nI 0)) hx hb dX1_loseColumn_10 (by decide) ?_
    refine lv_istore_n (lv' := [(2, .int (nI 0)), (0, .ref (ae 0)), (1, .int (nI r))]) hx hb dX1_loseColumn_11 rfl hl (by decide) rfl (fun ls hl => ?_)
    refine lv_iconst (v := (nI 0)) hx hb dX1_loseColumn_12 (by decide) ?_
    refine lv_istore_n (lv' := [(3, .int (nI 0)), (2, .int (nI 0)), (0, .ref (ae 0)), (1, .int (nI r))]) hx hb dX1_loseColumn_13 rfl hl (by decide) rfl (fun ls hl => ?_)
    have loop : ∀ (n k : Nat) (ls : Array Slot) (H : Heap) (locs : List Loc), k + n = 6 → ys_M D A s (wM ae ke ((y_lr u (fun k => 6 * k + r) k).2)) H locs → lv_has ls 4 [(0, .ref (ae 0)), (1, .int (nI r)), (2, .int (nI ((y_lr u (fun k => 6 * k + r) k).1))), (3, .int (nI k))] → W p l e ({ frames := 2, cells := 0, slots := 0, locals := 44 } : Room) s m ([.ref (ae 0), .int (nI r)] : List Value).toArray below meth cd H locs 0 0 (ys_QI D (tM ke) below ([.ref (ae 0), .int (nI r)] : List Value).toArray s A (wM ae ke ((y_lr u (fun k => 6 * k + r) 6).2)) (nI (y_lr u (fun k => 6 * k + r) 6).1)) (F0 m 14 ls []) := by
      intro n
      induction n with
      | zero =>
        intro k ls H locs hkn hM hl
        refine lv_iload_n hx hb dX1_loseColumn_14 rfl (lv_at hl 3 rfl) ?_
        refine lv_bipush (v := (nI 6)) hx hb dX1_loseColumn_15 (by decide) ?_
        refine ys_icmp_ge (i := k) (j := 6) (tgt := 35) hx hb dX1_loseColumn_17 (by decide) (by omega) (by omega) (fun h1 => ?_) (fun h1 => ?_)
        · refine lv_iload_n hx hb dX1_loseColumn_35 rfl (lv_at hl 2 rfl) ?_
          obtain rfl : k = 6 := by omega
          exact ys_iret hx hb hr hlocks hK hM rfl dX1_loseColumn_36
        · exact absurd h1 (by omega)
      | succ n ih =>
        intro k ls H locs hkn hM hl
        refine lv_iload_n hx hb dX1_loseColumn_14 rfl (lv_at hl 3 rfl) ?_
        refine lv_bipush (v := (nI 6)) hx hb dX1_loseColumn_15 (by decide) ?_
        refine ys_icmp_ge (i := k) (j := 6) (tgt := 35) hx hb dX1_loseColumn_17 (by decide) (by omega) (by omega) (fun h1 => ?_) (fun h1 => ?_)
        · exact absurd h1 (by omega)
        · refine lv_iload_n hx hb dX1_loseColumn_20 rfl (lv_at hl 2 rfl) ?_
          refine lv_aload_n hx hb dX1_loseColumn_21 rfl (lv_at hl 0 rfl) ?_
          refine lv_iload_n hx hb dX1_loseColumn_22 rfl (lv_at hl 3 rfl) ?_
          refine lv_iload_n hx hb dX1_loseColumn_23 rfl (lv_at hl 1 rfl) ?_
          refine ys_callI (As := [.int (nI k), .int (nI r)]) (rest := [.int (nI ((y_lr u (fun k => 6 * k + r) k).1))]) (w1 := (wM ae ke (y_lose (y_lr u (fun k => 6 * k + r) k).2 (6 * k + r)))) (ci := 1) (q0 := 0) (qq := (RX1, TX1, 2)) ⟨hx, hb, hml, hown, hts⟩ (cy_lose l D ae ke (y_lr u (fun k => 6 * k + r) k).2 k r (by omega) hr5) (cwV 2 hts (lw_V q172 q165 q166 q13 q167) rfl rfl rfl (by decide +kernel) ⟨Nat.le_of_ble_eq_true rfl, Nat.le_of_ble_eq_true rfl⟩) hK hA hM rfl rfl hl.1 rfl rfl (Nat.le_of_ble_eq_true rfl) ⟨Nat.zero_le _, Nat.zero_le _⟩ dX1_loseColumn_24 (fun H locs hM => ?_)
          refine ys_iadd (i := ((y_lr u (fun k => 6 * k + r) k).1)) (j := (z_was (y_lr u (fun k => 6 * k + r) k).2.2 (6 * k + r))) hx hb dX1_loseColumn_27 ?_
          refine lv_istore_n (lv' := [(2, .int (nI (((y_lr u (fun k => 6 * k + r) k).1) + (z_was (y_lr u (fun k => 6 * k + r) k).2.2 (6 * k + r))))), (0, .ref (ae 0)), (1, .int (nI r)), (3, .int (nI k))]) hx hb dX1_loseColumn_28 rfl hl (by decide) rfl (fun ls hl => ?_)
          refine lv_iinc (v := (nI (k + 1))) (lv' := [(3, .int (nI (k + 1))), (2, .int (nI (((y_lr u (fun k => 6 * k + r) k).1) + (z_was (y_lr u (fun k => 6 * k + r) k).2.2 (6 * k + r))))), (0, .ref (ae 0)), (1, .int (nI r))]) hx hb dX1_loseColumn_29 hl (k := 3) rfl (ys_inc k) (by decide) rfl (fun ls hl => ?_)
          refine lv_goto (tgt := 14) hx hb dX1_loseColumn_32 (by decide) ?_
          exact ih (k + 1) ls _ _ (by omega) hM (lv_sub hl [2, 3, 1, 0] rfl)
    exact loop 6 0 ls _ _ (by omega) hM (lv_sub hl [2, 3, 1, 0] rfl)
  · exact absurd h0 (by decide)
set_option maxHeartbeats 4000000 in
set_option maxRecDepth 100000 in
theorem cy_mendLine (l : Launch) (D : va_G) (ae : Nat → Nat) (ke : Nat → ClassId) (u : zM) (st sd : Nat) (hc : ∀ k, k < 6 → st + k * sd < 36) : ys_I l yX1_mendLine (ws_ yX1_mendLine cX1_mendLine 5 (some .int)) ({ frames := 0, cells := 0, slots := 0, locals := 0 } : Room) D (tM ke) [.ref (ae 0), .int (nI st), .int (nI sd)] (wM ae ke u) (wM ae ke ((y_ml st sd u).2)) (nI (y_ml st sd u).1) := by
  refine ys_I.mk (own := RX1) (by decide) rfl (Nat.le_of_ble_eq_true rfl) ?_
  intro p e s m below meth cd A ls E hK hA hM hl
  obtain ⟨hx, hb, hr, hml, hown, hts, hlocks⟩ := E
  have hl : lv_has ls 5 [(0, .ref (ae 0)), (1, .int (nI st)), (2, .int (nI sd))] := hl
  refine lv_iconst (v := (nI 0)) hx hb dX1_mendLine_0 (by decide) ?_
  refine lv_istore_n (lv' := [(3, .int (nI 0)), (0, .ref (ae 0)), (1, .int (nI st)), (2, .int (nI sd))]) hx hb dX1_mendLine_1 rfl hl (by decide) rfl (fun ls hl => ?_)
  refine lv_iconst (v := (nI 0)) hx hb dX1_mendLine_2 (by decide) ?_
  refine lv_istore (lv' := [(4, .int (nI 0)), (3, .int (nI 0)), (0, .ref (ae 0)), (1, .int (nI st)), (2, .int (nI sd))]) hx hb dX1_mendLine_3 hl (by decide) rfl (fun ls hl => ?_)
  have loop : ∀ (n k : Nat) (ls : Array Slot) (H : Heap) (locs : List Loc), k + n = 6 → ys_M D A s (wM ae ke u) H locs → lv_has ls 5 [(0, .ref (ae 0)), (1, .int (nI st)), (2, .int (nI sd)), (3, .int (nI (y_mc u.2 st sd k))), (4, .int (nI k))] → W p l e ({ frames := 0, cells := 0, slots := 0, locals := 0 } : Room) s m ([.ref (ae 0), .int (nI st), .int (nI sd)] : List Value).toArray below meth cd H locs 0 0 (ys_QI D (tM ke) below ([.ref (ae 0), .int (nI st), .int (nI sd)] : List Value).toArray s A (wM ae ke ((y_ml st sd u).2)) (nI (y_ml st sd u).1)) (F0 m 5 ls []) := by
    intro n
    induction n with
    | zero =>
      intro k ls H locs hkn hM hl
      refine lv_iload hx hb dX1_mendLine_5 (lv_at hl 4 rfl) ?_
      refine lv_bipush (v := (nI 6)) hx hb dX1_mendLine_7 (by decide) ?_
      refine ys_icmp_ge (i := k) (j := 6) (tgt := 35) hx hb dX1_mendLine_9 (by decide) (by omega) (by omega) (fun h0 => ?_) (fun h0 => ?_)
      · obtain rfl : k = 6 := by omega
        have hle := y_mc_le u.2 st sd 6
        refine lv_iload_n hx hb dX1_mendLine_35 rfl (lv_at hl 3 rfl) ?_
        refine lv_iconst (v := (nI 2)) hx hb dX1_mendLine_36 (by decide) ?_
        refine ys_icmp_le (i := (y_mc u.2 st sd 6)) (j := 2) (tgt := 42) hx hb dX1_mendLine_37 (by decide) (by omega) (by omega) (fun h1 => ?_) (fun h1 => ?_)
        · rw [show y_ml st sd u = (y_mc u.2 st sd 6, (u.1, y_mg u.2 st sd 6)) from if_neg (by omega)]
          refine lv_iconst (v := (nI 0)) hx hb dX1_mendLine_42 (by decide) ?_
          refine lv_istore (lv' := [(4, .int (nI 0)), (0, .ref (ae 0)), (1, .int (nI st)), (2, .int (nI sd)), (3, .int (nI (y_mc u.2 st sd 6)))]) hx hb dX1_mendLine_43 hl (by decide) rfl (fun ls hl => ?_)
          have inner : ∀ (n2 j : Nat) (ls : Array Slot) (H : Heap) (locs : List Loc), j + n2 = 6 → ys_M D A s (wM ae ke (u.1, y_mg u.2 st sd j)) H locs → lv_has ls 5 [(0, .ref (ae 0)), (1, .int (nI st)), (2, .int (nI sd)), (3, .int (nI (y_mc u.2 st sd 6))), (4, .int (nI j))] → W p l e ({ frames := 0, cells := 0, slots := 0, locals := 0 } : Room) s m ([.ref (ae 0), .int (nI st), .int (nI sd)] : List Value).toArray below meth cd H locs 0 0 (ys_QI D (tM ke) below ([.ref (ae 0), .int (nI st), .int (nI sd)] : List Value).toArray s A (wM ae ke (y_mc u.2 st sd 6, ((u.1, y_mg u.2 st sd 6) : zM)).2) (nI (y_mc u.2 st sd 6, ((u.1, y_mg u.2 st sd 6) : zM)).1)) (F0 m 45 ls []) := by
            intro n2
            induction n2 with
            | zero =>
              intro j ls H locs hkn hM hl
              refine lv_iload hx hb dX1_mendLine_45 (lv_at hl 4 rfl) ?_
              refine lv_bipush (v := (nI 6)) hx hb dX1_mendLine_47 (by decide) ?_
              refine ys_icmp_ge (i := j) (j := 6) (tgt := 70) hx hb dX1_mendLine_49 (by decide) (by omega) (by omega) (fun h2 => ?_) (fun h2 => ?_)
              · refine lv_iload_n hx hb dX1_mendLine_70 rfl (lv_at hl 3 rfl) ?_
                obtain rfl : j = 6 := by omega
                exact ys_iret hx hb hr hlocks hK hM rfl dX1_mendLine_71
              · exact absurd h2 (by omega)
            | succ n2 ih2 =>
              intro j ls H locs hkn hM hl
              refine lv_iload hx hb dX1_mendLine_45 (lv_at hl 4 rfl) ?_
              refine lv_bipush (v := (nI 6)) hx hb dX1_mendLine_47 (by decide) ?_
              refine ys_icmp_ge (i := j) (j := 6) (tgt := 70) hx hb dX1_mendLine_49 (by decide) (by omega) (by omega) (fun h2 => ?_) (fun h2 => ?_)
              · exact absurd h2 (by omega)
              · have hck := hc j h2
                refine lv_aload_n hx hb dX1_mendLine_52 rfl (lv_at hl 0 rfl) ?_
                refine va_get (D := D) (ci := 1) (v := .ref (ae 2)) (C := RX1) (T := TX1) (N := 2) hx hb hts in_X1 hown hK hM.1 0 rfl rfl 1 (by decide) (hts _ q147) (fun _ h9 => h9) rfl dX1_mendLine_53 ?_
                refine lv_iload_n hx hb dX1_mendLine_56 rfl (lv_at hl 1 rfl) ?_
                refine lv_iload hx hb dX1_mendLine_57 (lv_at hl 4 rfl) ?_
                refine lv_iload_n hx hb dX1_mendLine_59 rfl (lv_at hl 2 rfl) ?_
                refine ys_imul (i := j) (j := sd) hx hb dX1_mendLine_60 ?_
                refine ys_iadd (i := st) (j := (j * sd)) hx hb dX1_mendLine_61 ?_
                refine lv_iconst (v := (bI false)) hx hb dX1_mendLine_62 (by decide) ?_
                refine ys_zast (i := (st + (j * sd))) (v := false) (w' := (wM ae ke (u.1, va_up (y_mg u.2 st sd j) (st + (j * sd)) false))) hx hb hK hM 2 1 rfl rfl (by omega) (by decide) dX1_mendLine_63 rfl (fun H locs hM => ?_)
                refine lv_iinc (v := (nI (j + 1))) (lv' := [(4, .int (nI (j + 1))), (0, .ref (ae 0)), (1, .int (nI st)), (2, .int (nI sd)), (3, .int (nI (y_mc u.2 st sd 6)))]) hx hb dX1_mendLine_64 hl (k := 4) rfl (ys_inc j) (by decide) rfl (fun ls hl => ?_)
                refine lv_goto (tgt := 45) hx hb dX1_mendLine_67 (by decide) ?_
                exact ih2 (j + 1) ls _ _ (by omega) hM (lv_sub hl [1, 2, 3, 4, 0] rfl)
          exact inner 6 0 ls _ _ (by omega) hM (lv_sub hl [1, 2, 3, 4, 0] rfl)
        · rw [show y_ml st sd u = (0, u) from if_pos (by omega)]
          refine lv_iconst (v := (nI 0)) hx hb dX1_mendLine_40 (by decide) ?_
          exact ys_iret hx hb hr hlocks hK hM rfl dX1_mendLine_41
      · exact absurd h0 (by omega)
    | succ n ih =>
      intro k ls H locs hkn hM hl
      refine lv_iload hx hb dX1_mendLine_5 (lv_at hl 4 rfl) ?_
      refine lv_bipush (v := (nI 6)) hx hb dX1_mendLine_7 (by decide) ?_
      refine ys_icmp_ge (i := k) (j := 6) (tgt := 35) hx hb dX1_mendLine_9 (by decide) (by omega) (by omega) (fun h0 => ?_) (fun h0 => ?_)
      · exact absurd h0 (by omega)
      · have hck := hc k h0
        refine lv_aload_n hx hb dX1_mendLine_12 rfl (lv_at hl 0 rfl) ?_
        refine va_get (D := D) (ci := 1) (v := .ref (ae 2)) (C := RX1) (T := TX1) (N := 2) hx hb hts in_X1 hown hK hM.1 0 rfl rfl 1 (by decide) (hts _ q147) (fun _ h9 => h9) rfl dX1_mendLine_13 ?_
        refine lv_iload_n hx hb dX1_mendLine_16 rfl (lv_at hl 1 rfl) ?_
        refine lv_iload hx hb dX1_mendLine_17 (lv_at hl 4 rfl) ?_
        refine lv_iload_n hx hb dX1_mendLine_19 rfl (lv_at hl 2 rfl) ?_
        refine ys_imul (i := k) (j := sd) hx hb dX1_mendLine_20 ?_
        refine ys_iadd (i := st) (j := (k * sd)) hx hb dX1_mendLine_21 ?_
        refine ys_zald (i := (st + (k * sd))) hx hb hK hM 2 1 rfl rfl (by omega) (by decide) dX1_mendLine_22 ?_
        refine ys_ifb_eq (b := (u.2 (st + (k * sd)))) (tgt := 29) hx hb dX1_mendLine_23 (by decide) (fun h1 => ?_) (fun h1 => ?_)
        · refine lv_iinc (v := (nI (k + 1))) (lv' := [(4, .int (nI (k + 1))), (0, .ref (ae 0)), (1, .int (nI st)), (2, .int (nI sd)), (3, .int (nI (y_mc u.2 st sd k)))]) hx hb dX1_mendLine_29 hl (k := 4) rfl (ys_inc k) (by decide) rfl (fun ls hl => ?_)
          refine lv_goto (tgt := 5) hx hb dX1_mendLine_32 (by decide) ?_
          have hz : y_mc u.2 st sd (k + 1) = y_mc u.2 st sd k := by show _ + _ = _; rw [if_neg (by rw [h1]; decide), Nat.add_zero]
          refine ih (k + 1) ls _ _ (by omega) hM ?_
          rw [hz]
          exact lv_sub hl [1, 2, 3, 4, 0] rfl
        · refine lv_iinc (v := (nI ((y_mc u.2 st sd k) + 1))) (lv' := [(3, .int (nI ((y_mc u.2 st sd k) + 1))), (0, .ref (ae 0)), (1, .int (nI st)), (2, .int (nI sd)), (4, .int (nI k))]) hx hb dX1_mendLine_26 hl (k := 3) rfl (ys_inc (y_mc u.2 st sd k)) (by decide) rfl (fun ls hl => ?_)
          refine lv_iinc (v := (nI (k + 1))) (lv' := [(4, .int (nI (k + 1))), (3, .int (nI ((y_mc u.2 st sd k) + 1))), (0, .ref (ae 0)), (1, .int (nI st)), (2, .int (nI sd))]) hx hb dX1_mendLine_29 hl (k := 4) rfl (ys_inc k) (by decide) rfl (fun ls hl => ?_)
          refine lv_goto (tgt := 5) hx hb dX1_mendLine_32 (by decide) ?_
          have hz : y_mc u.2 st sd (k + 1) = y_mc u.2 st sd k + 1 := by show _ + _ = _; rw [if_pos h1]
          refine ih (k + 1) ls _ _ (by omega) hM ?_
          rw [hz]
          exact lv_sub hl [2, 3, 4, 1, 0] rfl
  exact loop 6 0 ls _ _ (by omega) hM (lv_sub hl [2, 3, 4, 1, 0] rfl)
set_option maxHeartbeats 4000000 in
set_option maxRecDepth 100000 in
theorem cy_mendRow_out (l : Launch) (D : va_G) (ae : Nat → Nat) (ke : Nat → ClassId) (u : zM) (x : Int32) (hout : z_in (nI 5) x = false) : ys_I l yX1_mendRow (ws_ yX1_mendRow cX1_mendRow 2 (some .int)) ({ frames := 1, cells := 0, slots := 0, locals := 24 } : Room) D (tM ke) [.ref (ae 0), .int x] (wM ae ke u) (wM ae ke u) (-1) := by
  refine ys_I.mk (own := RX1) (by decide) rfl (Nat.le_of_ble_eq_true rfl) ?_
  intro p e s m below meth cd A ls E hK hA hM hl
  obtain ⟨hx, hb, hr, hml, hown, hts, hlocks⟩ := E
  have hl : lv_has ls 2 [(0, .ref (ae 0)), (1, .int x)] := hl
  refine lv_iload_n hx hb dX1_mendRow_0 rfl (lv_at hl 1 rfl) ?_
  refine lv_iconst (v := (nI 5)) hx hb dX1_mendRow_1 (by decide) ?_
  refine ys_callS (As := [.int x, .int (nI 5)]) (rest := []) (w1 := (wM ae ke u)) ⟨hx, hb, hml, hown, hts⟩ (cy_outside_out l D (tM ke) (wM ae ke u) hout) (va_cwS 2 hts (lw_S q157 q158 q13 q159) rfl rfl rfl (by decide +kernel) ⟨Nat.le_of_ble_eq_true rfl, Nat.le_of_ble_eq_true rfl⟩) hK hA hM hl.1 rfl rfl (Nat.le_of_ble_eq_true rfl) ⟨Nat.zero_le _, Nat.zero_le _⟩ dX1_mendRow_2 (fun H locs hM => ?_)
  refine ys_ifb_eq (b := true) (tgt := 12) hx hb dX1_mendRow_5 (by decide) (fun h0 => ?_) (fun h0 => ?_)
  · exact absurd h0 (by decide)
  · refine lv_iconst (v := -1) hx hb dX1_mendRow_8 (by decide) ?_
    refine lv_goto (tgt := 21) hx hb dX1_mendRow_9 (by decide) ?_
    exact ys_iret hx hb hr hlocks hK hM rfl dX1_mendRow_21
set_option maxHeartbeats 4000000 in
set_option maxRecDepth 100000 in
theorem cy_mendRow (l : Launch) (D : va_G) (ae : Nat → Nat) (ke : Nat → ClassId) (u : zM) (r : Nat) (hr5 : r ≤ 5) : ys_I l yX1_mendRow (ws_ yX1_mendRow cX1_mendRow 2 (some .int)) ({ frames := 1, cells := 0, slots := 0, locals := 24 } : Room) D (tM ke) [.ref (ae 0), .int (nI r)] (wM ae ke u) (wM ae ke ((y_ml (6 * r) 1 u).2)) (nI (y_ml (6 * r) 1 u).1) := by
  refine ys_I.mk (own := RX1) (by decide) rfl (Nat.le_of_ble_eq_true rfl) ?_
  intro p e s m below meth cd A ls E hK hA hM hl
  obtain ⟨hx, hb, hr, hml, hown, hts, hlocks⟩ := E
  have hl : lv_has ls 2 [(0, .ref (ae 0)), (1, .int (nI r))] := hl
  refine lv_iload_n hx hb dX1_mendRow_0 rfl (lv_at hl 1 rfl) ?_
  refine lv_iconst (v := (nI 5)) hx hb dX1_mendRow_1 (by decide) ?_
  refine ys_callS (As := [.int (nI r), .int (nI 5)]) (rest := []) (w1 := (wM ae ke u)) ⟨hx, hb, hml, hown, hts⟩ (cy_outside_in l D (tM ke) (wM ae ke u) (by decide) hr5) (va_cwS 2 hts (lw_S q157 q158 q13 q159) rfl rfl rfl (by decide +kernel) ⟨Nat.le_of_ble_eq_true rfl, Nat.le_of_ble_eq_true rfl⟩) hK hA hM hl.1 rfl rfl (Nat.le_of_ble_eq_true rfl) ⟨Nat.zero_le _, Nat.zero_le _⟩ dX1_mendRow_2 (fun H locs hM => ?_)
  refine ys_ifb_eq (b := false) (tgt := 12) hx hb dX1_mendRow_5 (by decide) (fun h0 => ?_) (fun h0 => ?_)
  · refine lv_aload_n hx hb dX1_mendRow_12 rfl (lv_at hl 0 rfl) ?_
    refine lv_bipush (v := (nI 6)) hx hb dX1_mendRow_13 (by decide) ?_
    refine lv_iload_n hx hb dX1_mendRow_15 rfl (lv_at hl 1 rfl) ?_
    refine ys_imul (i := 6) (j := r) hx hb dX1_mendRow_16 ?_
    refine lv_iconst (v := (nI 1)) hx hb dX1_mendRow_17 (by decide) ?_
    refine ys_callI (As := [.int (nI (6 * r)), .int (nI 1)]) (rest := []) (w1 := (wM ae ke ((y_ml (6 * r) 1 u).2))) (ci := 1) (q0 := 0) (qq := (RX1, TX1, 2)) ⟨hx, hb, hml, hown, hts⟩ (cy_mendLine l D ae ke u (6 * r) 1 (fun k hk => by omega)) (cwV 2 hts (lw_V q181 q183 qs10 q13 q184) rfl rfl rfl (by decide +kernel) ⟨Nat.le_of_ble_eq_true rfl, Nat.le_of_ble_eq_true rfl⟩) hK hA hM rfl rfl hl.1 rfl rfl (Nat.le_of_ble_eq_true rfl) ⟨Nat.zero_le _, Nat.zero_le _⟩ dX1_mendRow_18 (fun H locs hM => ?_)
    exact ys_iret hx hb hr hlocks hK hM rfl dX1_mendRow_21
  · exact absurd h0 (by decide)
set_option maxHeartbeats 4000000 in
set_option maxRecDepth 100000 in
theorem cy_mendColumn_out (l : Launch) (D : va_G) (ae : Nat → Nat) (ke : Nat → ClassId) (u : zM) (x : Int32) (hout : z_in (nI 5) x = false) : ys_I l yX1_mendColumn (ws_ yX1_mendColumn cX1_mendColumn 2 (some .int)) ({ frames := 1, cells := 0, slots := 0, locals := 24 } : Room) D (tM ke) [.ref (ae 0), .int x] (wM ae ke u) (wM ae ke u) (-1) := by
  refine ys_I.mk (own := RX1) (by decide) rfl (Nat.le_of_ble_eq_true rfl) ?_
  intro p e s m below meth cd A ls E hK hA hM hl
  obtain ⟨hx, hb, hr, hml, hown, hts, hlocks⟩ := E
  have hl : lv_has ls 2 [(0, .ref (ae 0)), (1, .int x)] := hl
  refine lv_iload_n hx hb dX1_mendColumn_0 rfl (lv_at hl 1 rfl) ?_
  refine lv_iconst (v := (nI 5)) hx hb dX1_mendColumn_1 (by decide) ?_
  refine ys_callS (As := [.int x, .int (nI 5)]) (rest := []) (w1 := (wM ae ke u)) ⟨hx, hb, hml, hown, hts⟩ (cy_outside_out l D (tM ke) (wM ae ke u) hout) (va_cwS 2 hts (lw_S q157 q158 q13 q159) rfl rfl rfl (by decide +kernel) ⟨Nat.le_of_ble_eq_true rfl, Nat.le_of_ble_eq_true rfl⟩) hK hA hM hl.1 rfl rfl (Nat.le_of_ble_eq_true rfl) ⟨Nat.zero_le _, Nat.zero_le _⟩ dX1_mendColumn_2 (fun H locs hM => ?_)
  refine ys_ifb_eq (b := true) (tgt := 12) hx hb dX1_mendColumn_5 (by decide) (fun h0 => ?_) (fun h0 => ?_)
  · exact absurd h0 (by decide)
  · refine lv_iconst (v := -1) hx hb dX1_mendColumn_8 (by decide) ?_
    refine lv_goto (tgt := 19) hx hb dX1_mendColumn_9 (by decide) ?_
    exact ys_iret hx hb hr hlocks hK hM rfl dX1_mendColumn_19
set_option maxHeartbeats 4000000 in
set_option maxRecDepth 100000 in
theorem cy_mendColumn (l : Launch) (D : va_G) (ae : Nat → Nat) (ke : Nat → ClassId) (u : zM) (r : Nat) (hr5 : r ≤ 5) : ys_I l yX1_mendColumn (ws_ yX1_mendColumn cX1_mendColumn 2 (some .int)) ({ frames := 1, cells := 0, slots := 0, locals := 24 } : Room) D (tM ke) [.ref (ae 0), .int (nI r)] (wM ae ke u) (wM ae ke ((y_ml r 6 u).2)) (nI (y_ml r 6 u).1) := by
  refine ys_I.mk (own := RX1) (by decide) rfl (Nat.le_of_ble_eq_true rfl) ?_
  intro p e s m below meth cd A ls E hK hA hM hl
  obtain ⟨hx, hb, hr, hml, hown, hts, hlocks⟩ := E
  have hl : lv_has ls 2 [(0, .ref (ae 0)), (1, .int (nI r))] := hl
  refine lv_iload_n hx hb dX1_mendColumn_0 rfl (lv_at hl 1 rfl) ?_
  refine lv_iconst (v := (nI 5)) hx hb dX1_mendColumn_1 (by decide) ?_
  refine ys_callS (As := [.int (nI r), .int (nI 5)]) (rest := []) (w1 := (wM ae ke u)) ⟨hx, hb, hml, hown, hts⟩ (cy_outside_in l D (tM ke) (wM ae ke u) (by decide) hr5) (va_cwS 2 hts (lw_S q157 q158 q13 q159) rfl rfl rfl (by decide +kernel) ⟨Nat.le_of_ble_eq_true rfl, Nat.le_of_ble_eq_true rfl⟩) hK hA hM hl.1 rfl rfl (Nat.le_of_ble_eq_true rfl) ⟨Nat.zero_le _, Nat.zero_le _⟩ dX1_mendColumn_2 (fun H locs hM => ?_)
  refine ys_ifb_eq (b := false) (tgt := 12) hx hb dX1_mendColumn_5 (by decide) (fun h0 => ?_) (fun h0 => ?_)
  · refine lv_aload_n hx hb dX1_mendColumn_12 rfl (lv_at hl 0 rfl) ?_
    refine lv_iload_n hx hb dX1_mendColumn_13 rfl (lv_at hl 1 rfl) ?_
    refine lv_bipush (v := (nI 6)) hx hb dX1_mendColumn_14 (by decide) ?_
    refine ys_callI (As := [.int (nI r), .int (nI 6)]) (rest := []) (w1 := (wM ae ke ((y_ml r 6 u).2))) (ci := 1) (q0 := 0) (qq := (RX1, TX1, 2)) ⟨hx, hb, hml, hown, hts⟩ (cy_mendLine l D ae ke u r 6 (fun k hk => by omega)) (cwV 2 hts (lw_V q181 q183 qs10 q13 q184) rfl rfl rfl (by decide +kernel) ⟨Nat.le_of_ble_eq_true rfl, Nat.le_of_ble_eq_true rfl⟩) hK hA hM rfl rfl hl.1 rfl rfl (Nat.le_of_ble_eq_true rfl) ⟨Nat.zero_le _, Nat.zero_le _⟩ dX1_mendColumn_16 (fun H locs hM => ?_)
    exact ys_iret hx hb hr hlocks hK hM rfl dX1_mendColumn_19
  · exact absurd h0 (by decide)
set_option maxHeartbeats 4000000 in
set_option maxRecDepth 100000 in
theorem cy_mend (l : Launch) (D : va_G) (ae : Nat → Nat) (ke : Nat → ClassId) (u : zM)  : ys_I l yX1_mend (ws_ yX1_mend cX1_mend 6 (some .int)) ({ frames := 2, cells := 0, slots := 0, locals := 45 } : Room) D (tM ke) [.ref (ae 0)] (wM ae ke u) (wM ae ke ((y_md 37 0 u).2)) (nI (y_md 37 0 u).1) := by
  obtain ⟨Z, hZ⟩ : ∃ Z, Z = y_md 37 0 u := ⟨_, rfl⟩
  rw [← hZ]
  refine ys_I.mk (own := RX1) (by decide) rfl (Nat.le_of_ble_eq_true rfl) ?_
  intro p e s m below meth cd A ls E hK hA hM hl
  obtain ⟨hx, hb, hr, hml, hown, hts, hlocks⟩ := E
  have hl : lv_has ls 6 [(0, .ref (ae 0))] := hl
  refine lv_iconst (v := (nI 0)) hx hb dX1_mend_0 (by decide) ?_
  refine lv_istore_n (lv' := [(1, .int (nI 0)), (0, .ref (ae 0))]) hx hb dX1_mend_1 rfl hl (by decide) rfl (fun ls hl => ?_)
  refine lv_iconst (v := (bI true)) hx hb dX1_mend_2 (by decide) ?_
  refine lv_istore_n (lv' := [(2, .int (bI true)), (1, .int (nI 0)), (0, .ref (ae 0))]) hx hb dX1_mend_3 rfl hl (by decide) rfl (fun ls hl => ?_)
  refine lv_iconst (v := (nI 0)) hx hb dX1_mend_4 (by decide) ?_
  refine lv_istore_n (lv' := [(3, .int (nI 0)), (2, .int (bI true)), (1, .int (nI 0)), (0, .ref (ae 0))]) hx hb dX1_mend_5 rfl hl (by decide) rfl (fun ls hl => ?_)
  have loop : ∀ (fu rd t : Nat) (v : zM) (ls : Array Slot) (H : Heap) (locs : List Loc), rd + fu = 37 → t ≤ 24 * rd → Z = y_md fu t v → ys_M D A s (wM ae ke v) H locs → lv_has ls 6 [(0, .ref (ae 0)), (1, .int (nI t)), (2, .int (bI true)), (3, .int (nI rd))] → W p l e ({ frames := 2, cells := 0, slots := 0, locals := 45 } : Room) s m ([.ref (ae 0)] : List Value).toArray below meth cd H locs 0 0 (ys_QI D (tM ke) below ([.ref (ae 0)] : List Value).toArray s A (wM ae ke Z.2) (nI Z.1)) (F0 m 6 ls []) := by
    intro fu
    induction fu with
    | zero =>
      intro rd t v ls H locs hrd ht hR hM hl
      have hR : Z = (t, v) := hR
      refine lv_iload_n hx hb dX1_mend_6 rfl (lv_at hl 3 rfl) ?_
      refine lv_bipush (v := (nI 37)) hx hb dX1_mend_7 (by decide) ?_
      refine ys_icmp_ge (i := rd) (j := 37) (tgt := 71) hx hb dX1_mend_9 (by decide) (by omega) (by omega) (fun h0 => ?_) (fun h0 => ?_)
      · rw [hR]
        refine lv_iload_n hx hb dX1_mend_71 rfl (lv_at hl 1 rfl) ?_
        exact ys_iret hx hb hr hlocks hK hM rfl dX1_mend_72
      · exact absurd h0 (by omega)
    | succ fu ih =>
      intro rd t v ls H locs hrd ht hR hM hl
      have hR : Z = if (y_rk t v 6).1 ≤ t then y_rk t v 6 else y_md fu (y_rk t v 6).1 (y_rk t v 6).2 := hR
      have hle := y_rk_le t v 6
      refine lv_iload_n hx hb dX1_mend_6 rfl (lv_at hl 3 rfl) ?_
      refine lv_bipush (v := (nI 37)) hx hb dX1_mend_7 (by decide) ?_
      refine ys_icmp_ge (i := rd) (j := 37) (tgt := 71) hx hb dX1_mend_9 (by decide) (by omega) (by omega) (fun h0 => ?_) (fun h0 => ?_)
      · exact absurd h0 (by omega)
      · refine lv_iload_n hx hb dX1_mend_12 rfl (lv_at hl 2 rfl) ?_
        refine ys_ifb_eq (b := true) (tgt := 71) hx hb dX1_mend_13 (by decide) (fun h1 => ?_) (fun h1 => ?_)
        · exact absurd h1 (by decide)
        · refine lv_iload_n hx hb dX1_mend_16 rfl (lv_at hl 1 rfl) ?_
          refine lv_istore (lv' := [(4, .int (nI t)), (0, .ref (ae 0)), (1, .int (nI t)), (2, .int (bI true)), (3, .int (nI rd))]) hx hb dX1_mend_17 hl (by decide) rfl (fun ls hl => ?_)
          refine lv_iconst (v := (nI 0)) hx hb dX1_mend_19 (by decide) ?_
          refine lv_istore (lv' := [(5, .int (nI 0)), (4, .int (nI t)), (0, .ref (ae 0)), (1, .int (nI t)), (2, .int (bI true)), (3, .int (nI rd))]) hx hb dX1_mend_20 hl (by decide) rfl (fun ls hl => ?_)
          have inner : ∀ (n2 k : Nat) (ls : Array Slot) (H : Heap) (locs : List Loc), k + n2 = 6 → ys_M D A s (wM ae ke ((y_rk t v k).2)) H locs → lv_has ls 6 [(0, .ref (ae 0)), (1, .int (nI ((y_rk t v k).1))), (2, .int (bI true)), (3, .int (nI rd)), (4, .int (nI t)), (5, .int (nI k))] → W p l e ({ frames := 2, cells := 0, slots := 0, locals := 45 } : Room) s m ([.ref (ae 0)] : List Value).toArray below meth cd H locs 0 0 (ys_QI D (tM ke) below ([.ref (ae 0)] : List Value).toArray s A (wM ae ke Z.2) (nI Z.1)) (F0 m 22 ls []) := by
            intro n2
            induction n2 with
            | zero =>
              intro k ls H locs hkn hM hl
              refine lv_iload hx hb dX1_mend_22 (lv_at hl 5 rfl) ?_
              refine lv_bipush (v := (nI 6)) hx hb dX1_mend_24 (by decide) ?_
              refine ys_icmp_ge (i := k) (j := 6) (tgt := 53) hx hb dX1_mend_26 (by decide) (by omega) (by omega) (fun h2 => ?_) (fun h2 => ?_)
              · obtain rfl : k = 6 := by omega
                generalize y_rk t v 6 = z at hM hl hR hle ⊢
                refine lv_iload_n hx hb dX1_mend_53 rfl (lv_at hl 1 rfl) ?_
                refine lv_iload hx hb dX1_mend_54 (lv_at hl 4 rfl) ?_
                refine ys_icmp_le (i := z.1) (j := t) (tgt := 63) hx hb dX1_mend_56 (by decide) (by omega) (by omega) (fun h3 => ?_) (fun h3 => ?_)
                · have hR2 : Z = z := by rw [hR]; exact if_pos h3
                  rw [hR2]
                  refine lv_iconst (v := (bI false)) hx hb dX1_mend_63 (by decide) ?_
                  refine lv_istore_n (lv' := [(2, .int (bI false)), (0, .ref (ae 0)), (1, .int (nI z.1)), (3, .int (nI rd)), (4, .int (nI t)), (5, .int (nI 6))]) hx hb dX1_mend_64 rfl hl (by decide) rfl (fun ls hl => ?_)
                  refine lv_iinc (v := (nI (rd + 1))) (lv' := [(3, .int (nI (rd + 1))), (2, .int (bI false)), (0, .ref (ae 0)), (1, .int (nI z.1)), (4, .int (nI t)), (5, .int (nI 6))]) hx hb dX1_mend_65 hl (k := 3) rfl (ys_inc rd) (by decide) rfl (fun ls hl => ?_)
                  refine lv_goto (tgt := 6) hx hb dX1_mend_68 (by decide) ?_
                  refine lv_iload_n hx hb dX1_mend_6 rfl (lv_at hl 0 rfl) ?_
                  refine lv_bipush (v := (nI 37)) hx hb dX1_mend_7 (by decide) ?_
                  refine ys_icmp_ge (i := (rd + 1)) (j := 37) (tgt := 71) hx hb dX1_mend_9 (by decide) (by omega) (by omega) (fun h4 => ?_) (fun h4 => ?_)
                  · refine lv_iload_n hx hb dX1_mend_71 rfl (lv_at hl 3 rfl) ?_
                    exact ys_iret hx hb hr hlocks hK hM rfl dX1_mend_72
                  · refine lv_iload_n hx hb dX1_mend_12 rfl (lv_at hl 1 rfl) ?_
                    refine ys_ifb_eq (b := false) (tgt := 71) hx hb dX1_mend_13 (by decide) (fun h5 => ?_) (fun h5 => ?_)
                    · refine lv_iload_n hx hb dX1_mend_71 rfl (lv_at hl 3 rfl) ?_
                      exact ys_iret hx hb hr hlocks hK hM rfl dX1_mend_72
                    · exact absurd h5 (by decide)
                · refine lv_iconst (v := (bI true)) hx hb dX1_mend_59 (by decide) ?_
                  refine lv_goto (tgt := 64) hx hb dX1_mend_60 (by decide) ?_
                  refine lv_istore_n (lv' := [(2, .int (bI true)), (0, .ref (ae 0)), (1, .int (nI z.1)), (3, .int (nI rd)), (4, .int (nI t)), (5, .int (nI 6))]) hx hb dX1_mend_64 rfl hl (by decide) rfl (fun ls hl => ?_)
                  refine lv_iinc (v := (nI (rd + 1))) (lv' := [(3, .int (nI (rd + 1))), (2, .int (bI true)), (0, .ref (ae 0)), (1, .int (nI z.1)), (4, .int (nI t)), (5, .int (nI 6))]) hx hb dX1_mend_65 hl (k := 3) rfl (ys_inc rd) (by decide) rfl (fun ls hl => ?_)
                  refine lv_goto (tgt := 6) hx hb dX1_mend_68 (by decide) ?_
                  exact ih (rd + 1) z.1 z.2 ls _ _ (by omega) (by omega) (by rw [hR]; exact if_neg (Nat.not_le.mpr h3)) hM (lv_sub hl [2, 3, 1, 0] rfl)
              · exact absurd h2 (by omega)
            | succ n2 ih2 =>
              intro k ls H locs hkn hM hl
              refine lv_iload hx hb dX1_mend_22 (lv_at hl 5 rfl) ?_
              refine lv_bipush (v := (nI 6)) hx hb dX1_mend_24 (by decide) ?_
              refine ys_icmp_ge (i := k) (j := 6) (tgt := 53) hx hb dX1_mend_26 (by decide) (by omega) (by omega) (fun h2 => ?_) (fun h2 => ?_)
              · exact absurd h2 (by omega)
              · refine lv_iload_n hx hb dX1_mend_29 rfl (lv_at hl 1 rfl) ?_
                refine lv_aload_n hx hb dX1_mend_30 rfl (lv_at hl 0 rfl) ?_
                refine lv_iload hx hb dX1_mend_31 (lv_at hl 5 rfl) ?_
                refine ys_callI (As := [.int (nI k)]) (rest := [.int (nI ((y_rk t v k).1))]) (w1 := (wM ae ke ((y_ml (6 * k) 1 (y_rk t v k).2).2))) (ci := 1) (q0 := 0) (qq := (RX1, TX1, 2)) ⟨hx, hb, hml, hown, hts⟩ (cy_mendRow l D ae ke (y_rk t v k).2 k (by omega)) (cwV 1 hts (lw_V q193 q178 q179 q13 q180) rfl rfl rfl (by decide +kernel) ⟨Nat.le_of_ble_eq_true rfl, Nat.le_of_ble_eq_true rfl⟩) hK hA hM rfl rfl hl.1 rfl rfl (Nat.le_of_ble_eq_true rfl) ⟨Nat.zero_le _, Nat.zero_le _⟩ dX1_mend_33 (fun H locs hM => ?_)
                refine ys_iadd (i := ((y_rk t v k).1)) (j := ((y_ml (6 * k) 1 (y_rk t v k).2).1)) hx hb dX1_mend_36 ?_
                refine lv_istore_n (lv' := [(1, .int (nI (((y_rk t v k).1) + ((y_ml (6 * k) 1 (y_rk t v k).2).1)))), (0, .ref (ae 0)), (2, .int (bI true)), (3, .int (nI rd)), (4, .int (nI t)), (5, .int (nI k))]) hx hb dX1_mend_37 rfl hl (by decide) rfl (fun ls hl => ?_)
                refine lv_iload_n hx hb dX1_mend_38 rfl (lv_at hl 0 rfl) ?_
                refine lv_aload_n hx hb dX1_mend_39 rfl (lv_at hl 1 rfl) ?_
                refine lv_iload hx hb dX1_mend_40 (lv_at hl 5 rfl) ?_
                refine ys_callI (As := [.int (nI k)]) (rest := [.int (nI (((y_rk t v k).1) + ((y_ml (6 * k) 1 (y_rk t v k).2).1)))]) (w1 := (wM ae ke ((y_ml k 6 (y_ml (6 * k) 1 (y_rk t v k).2).2).2))) (ci := 1) (q0 := 0) (qq := (RX1, TX1, 2)) ⟨hx, hb, hml, hown, hts⟩ (cy_mendColumn l D ae ke (y_ml (6 * k) 1 (y_rk t v k).2).2 k (by omega)) (cwV 1 hts (lw_V q194 q186 q187 q13 q188) rfl rfl rfl (by decide +kernel) ⟨Nat.le_of_ble_eq_true rfl, Nat.le_of_ble_eq_true rfl⟩) hK hA hM rfl rfl hl.1 rfl rfl (Nat.le_of_ble_eq_true rfl) ⟨Nat.zero_le _, Nat.zero_le _⟩ dX1_mend_42 (fun H locs hM => ?_)
                refine ys_iadd (i := (((y_rk t v k).1) + ((y_ml (6 * k) 1 (y_rk t v k).2).1))) (j := ((y_ml k 6 (y_ml (6 * k) 1 (y_rk t v k).2).2).1)) hx hb dX1_mend_45 ?_
                refine lv_istore_n (lv' := [(1, .int (nI ((((y_rk t v k).1) + ((y_ml (6 * k) 1 (y_rk t v k).2).1)) + ((y_ml k 6 (y_ml (6 * k) 1 (y_rk t v k).2).2).1)))), (0, .ref (ae 0)), (2, .int (bI true)), (3, .int (nI rd)), (4, .int (nI t)), (5, .int (nI k))]) hx hb dX1_mend_46 rfl hl (by decide) rfl (fun ls hl => ?_)
                refine lv_iinc (v := (nI (k + 1))) (lv' := [(5, .int (nI (k + 1))), (1, .int (nI ((((y_rk t v k).1) + ((y_ml (6 * k) 1 (y_rk t v k).2).1)) + ((y_ml k 6 (y_ml (6 * k) 1 (y_rk t v k).2).2).1)))), (0, .ref (ae 0)), (2, .int (bI true)), (3, .int (nI rd)), (4, .int (nI t))]) hx hb dX1_mend_47 hl (k := 5) rfl (ys_inc k) (by decide) rfl (fun ls hl => ?_)
                refine lv_goto (tgt := 22) hx hb dX1_mend_50 (by decide) ?_
                exact ih2 (k + 1) ls _ _ (by omega) hM (lv_sub hl [2, 1, 3, 4, 5, 0] rfl)
          exact inner 6 0 ls _ _ (by omega) hM (lv_sub hl [2, 3, 4, 5, 1, 0] rfl)
  exact loop 37 0 0 u ls _ _ rfl (Nat.zero_le _) hZ hM (lv_sub hl [3, 2, 1, 0] rfl)
end
section
/-! the constructors -/
def z0 : zS := (fun _ => 0, fun _ => false, fun _ => 0, 0, 0, 0)
def y0 : zM := (fun _ => 0, fun _ => false)
def z_pk (k : Nat) : Nat → Nat := fun j => if j < k ∨ (255 ≤ j ∧ j < 255 + k) then z_pw j else 0
def z_lk (k : Nat) : Nat → Nat := fun j => if j ≠ 0 ∧ z_lg j < k ∧ j < 256 then z_lg j else 0
theorem z_t1 : ∀ k, k < 255 → z_lg (z_pw k) = k ∧ z_pw k ≠ 0 ∧ z_pw (k + 255) = z_pw k ∧ z_pw (k + 1) = (if 255 < z_pw k * 2 then (z_pw k * 2) ^^^ 285 else z_pw k * 2) := by decide +kernel
theorem z_t2 : ∀ j, j < 256 → j ≠ 0 → z_pw (z_lg j) = j ∧ z_lg j < 255 := by decide +kernel
theorem z_sh {b n j : Nat} (hb : b < 2 ^ (8 * n)) (h : n ≤ j) : b >>> (8 * j) = 0 := by
  rw [Nat.shiftRight_eq_div_pow]
  exact Nat.div_eq_of_lt (Nat.lt_of_lt_of_le hb (Nat.pow_le_pow_right (by decide) (by omega)))
theorem z_pw_hi {j : Nat} (h : 510 ≤ j) : z_pw j = 0 := by
  unfold z_pw
  rw [z_sh (n := 510) (by decide +kernel) h]
theorem z_lg_hi {j : Nat} (h : 256 ≤ j) : z_lg j = 0 := by
  unfold z_lg
  rw [z_sh (n := 256) (by decide +kernel) h]
theorem z_lg_0 : z_lg 0 = 0 := by decide +kernel
theorem z_pk_0 : z_pk 0 = fun _ => 0 := by
  funext j
  unfold z_pk
  rw [if_neg (by omega)]
theorem z_lk_0 : z_lk 0 = fun _ => 0 := by
  funext j
  unfold z_lk
  rw [if_neg (by omega)]
theorem z_pk_s {k : Nat} (h : k < 255) : va_up (va_up (z_pk k) k (z_pw k)) (k + 255) (z_pw k) = z_pk (k + 1) := by
  funext j
  unfold va_up z_pk
  by_cases h1 : j = k + 255
  · rw [if_pos h1, if_pos (by omega), h1, (z_t1 k h).2.2.1]
  · rw [if_neg h1]
    by_cases h2 : j = k
    · rw [if_pos h2, if_pos (by omega), h2]
    · rw [if_neg h2]
      by_cases h3 : j < k ∨ (255 ≤ j ∧ j < 255 + k)
      · rw [if_pos h3, if_pos (by omega)]
      · rw [if_neg h3, if_neg (by omega)]
theorem z_lk_s {k : Nat} (h : k < 255) : va_up (z_lk k) (z_pw k) k = z_lk (k + 1) := by
  obtain ⟨h1, h2, -, -⟩ := z_t1 k h
  have h3 := z_pw_lt k
  funext j
  unfold va_up z_lk
  by_cases hj : j = z_pw k
  · rw [if_pos hj, if_pos ⟨by rw [hj]; exact h2, by rw [hj, h1]; exact Nat.lt_succ_self k, by omega⟩, hj, h1]
  · rw [if_neg hj]
    by_cases hc : j ≠ 0 ∧ z_lg j < k ∧ j < 256
    · rw [if_pos hc, if_pos ⟨hc.1, by omega, hc.2.2⟩]
    · rw [if_neg hc]
      by_cases hd : j ≠ 0 ∧ z_lg j < k + 1 ∧ j < 256
      · exact absurd (by rw [← (z_t2 j hd.2.2 hd.1).1, show z_lg j = k by omega]) hj
      · rw [if_neg hd]
theorem z_pk_e : z_pk 255 = z_pw := by
  funext j
  unfold z_pk
  by_cases h : j < 510
  · rw [if_pos (by omega)]
  · rw [if_neg (by omega), z_pw_hi (by omega)]
theorem z_lk_e : z_lk 255 = z_lg := by
  funext j
  unfold z_lk
  by_cases h : j ≠ 0 ∧ z_lg j < 255 ∧ j < 256
  · rw [if_pos h]
  · rw [if_neg h]
    by_cases h0 : j = 0
    · rw [h0, z_lg_0]
    · by_cases h1 : j < 256
      · exact absurd ⟨h0, (z_t2 j h1 h0).2, h1⟩ h
      · rw [z_lg_hi (by omega)]
set_option maxHeartbeats 4000000 in
set_option maxRecDepth 100000 in
/-- a new model -/
theorem cy_init (l : Launch) (D : va_G) (h0 sz : Nat) : Met l yX1_init (ws_ yX1_init cX1_init 1 none) ({ frames := 1, cells := 2, slots := 52, locals := 12 } : Room) (va_Pc [.ref h0] (fun U => U.heap.size = sz ∧ va_P D vwCl [(h0, .inr (1, [.null, .null]))] U.heap ∧ va_K D vwCl [] U ∧ va_D (fun _ => True) [(h0, .inr (1, [.null, .null]))])) (va_Qv (fun u : (Nat → Nat) × (Nat → ClassId) => u.1 0 = h0) (fun u t => va_P D vwCl (wM u.1 u.2 y0) t.heap ∧ va_K D vwCl (tM u.2) t ∧ va_D (va_A [(h0, .inr (1, [.null, .null]))] sz) (wM u.1 u.2 y0)) (va_A [(h0, .inr (1, [.null, .null]))] sz)) 2 52 (va_A [(h0, .inr (1, [.null, .null]))] sz) := by
  refine Met.ofW (cc := cX1_init) (maxL := 1) (ret := none) (by decide) rfl ?_
  intro p e s m args below meth cd s₁ B hml hv
  obtain ⟨rfl, hsz, hP, hK, hD0⟩ := hv
  have hx := B.exec
  have hb := B.bytes
  have hr := B.returns
  have hts := atoms_spec (ws := ws_ yX1_init cX1_init 1 none) B.pre
  have hts : ∀ w ∈ lw_all, w.before _ s = true := fun w h => hts w (List.mem_cons_of_mem _ h)
  have hown : s.vm.findClass RX1 = some m.cls := findClass_of_methodNamed B.named
  have hlocks := B.notSynchronized
  have hin : meth.name = "<init>" := (name_of_methodNamed B.named B.method).1
  subst hsz
  have hD := hD0.self (sz := s.heap.size)
  generalize hAe : va_A [(h0, .inr (1, [.null, .null]))] s.heap.size = A at hD ⊢
  have hA : ∀ q : Nat, s.heap.size ≤ q → A q := fun q h => by rw [← hAe]; exact Or.inr h
  have hS : va_S A s.heap s.heap [] := va_S.rf
  have hl := lv_entry ([.ref h0]) (n := 1) (Nat.le_of_ble_eq_true rfl)
  rw [lg_entry_eq]
  generalize (lg_sl ([.ref h0]) ++ List.replicate (1 - (lg_sl ([.ref h0])).length) Slot.unset).toArray = ls at hl ⊢
  have hl : lv_has ls 1 [(0, .ref h0)] := hl
  refine lv_aload_n hx hb dX1_init_0 rfl (lv_at hl 0 rfl) ?_
  refine W.objInit hx hb hown (hts _ q145) (hts _ q20) (hts _ q21) rfl (by rw [hml]; exact hl.1) rfl dX1_init_1 (Nat.le_of_ble_eq_true rfl) (Nat.le_of_ble_eq_true rfl) ?_
  refine W.eq (g2 := F0 m 4 ls []) rfl ?_
  refine lv_aload_n hx hb dX1_init_4 rfl (lv_at hl 0 rfl) ?_
  refine lv_bipush (v := (nI 16)) hx hb dX1_init_5 (by decide) ?_
  refine va_newa (atype := .int) (N' := 16) (a0 := (16, .inl (vI (fun _ => 0)))) (ty := .int) hx hb (hts _ q47) rfl hK hP hD hS hA (fun _ => rfl) (by decide) (by decide) (by decide) (Nat.le_of_ble_eq_true rfl) (Nat.le_of_ble_eq_true rfl) dX1_init_7 (fun q1 c1 H hK hP hD hS => ?_)
  have hK : va_K D vwCl [(c1, .int)] s := hK
  have hP : va_P D vwCl [(h0, .inr (1, [.null, .null])), (q1, .inl (c1, 16, .inl (vI (fun _ => 0))))] H := hP
  have hD : va_D A [(h0, .inr (1, [.null, .null])), (q1, .inl (c1, 16, .inl (vI (fun _ => 0))))] := hD
  refine W.widen (k := 1) (n := 16) (by omega) (by first | omega | (dsimp only; omega)) ?_
  refine va_putF (D := D) (ci := 1) (v := .ref q1) (ty := .array .int) (C := RX1) (T := TX1) (N := 2) hx hb hts in_X1 tyX1 tyX1_ok nmX1 hown hK hP hD hS 0 rfl rfl 0 (by decide) (hts _ q146) (fun _ h9 => h9) rfl hin rfl (by decide +kernel) rfl rfl (Nat.le_of_ble_eq_true rfl) dX1_init_9 (fun H locs hP hD hS => ?_)
  have hP : va_P D vwCl [(h0, .inr (1, [.ref q1, .null])), (q1, .inl (c1, 16, .inl (vI (fun _ => 0))))] H := hP
  have hD : va_D A [(h0, .inr (1, [.ref q1, .null])), (q1, .inl (c1, 16, .inl (vI (fun _ => 0))))] := hD
  refine lv_aload_n hx hb dX1_init_12 rfl (lv_at hl 0 rfl) ?_
  refine lv_bipush (v := (nI 36)) hx hb dX1_init_13 (by decide) ?_
  refine va_newa (atype := .boolean) (N' := 36) (a0 := (36, .inl (vB (fun _ => false)))) (ty := .boolean) hx hb (hts _ q48) rfl hK hP hD hS hA (fun _ => rfl) (by decide) (by decide) (by decide) (Nat.le_of_ble_eq_true rfl) (Nat.le_of_ble_eq_true rfl) dX1_init_15 (fun q2 c2 H hK hP hD hS => ?_)
  have hK : va_K D vwCl [(c1, .int), (c2, .boolean)] s := hK
  have hP : va_P D vwCl [(h0, .inr (1, [.ref q1, .null])), (q1, .inl (c1, 16, .inl (vI (fun _ => 0)))), (q2, .inl (c2, 36, .inl (vB (fun _ => false))))] H := hP
  have hD : va_D A [(h0, .inr (1, [.ref q1, .null])), (q1, .inl (c1, 16, .inl (vI (fun _ => 0)))), (q2, .inl (c2, 36, .inl (vB (fun _ => false))))] := hD
  refine W.widen (k := 2) (n := 52) (by omega) (by first | omega | (dsimp only; omega)) ?_
  refine va_putF (D := D) (ci := 1) (v := .ref q2) (ty := .array .boolean) (C := RX1) (T := TX1) (N := 2) hx hb hts in_X1 tyX1 tyX1_ok nmX1 hown hK hP hD hS 0 rfl rfl 1 (by decide) (hts _ q147) (fun _ h9 => h9) rfl hin rfl (by decide +kernel) rfl rfl (Nat.le_of_ble_eq_true rfl) dX1_init_17 (fun H locs hP hD hS => ?_)
  have hP : va_P D vwCl [(h0, .inr (1, [.ref q1, .ref q2])), (q1, .inl (c1, 16, .inl (vI (fun _ => 0)))), (q2, .inl (c2, 36, .inl (vB (fun _ => false))))] H := hP
  have hD : va_D A [(h0, .inr (1, [.ref q1, .ref q2])), (q1, .inl (c1, 16, .inl (vI (fun _ => 0)))), (q2, .inl (c2, 36, .inl (vB (fun _ => false))))] := hD
  have hM : ys_M D A s (wM (fun k => match k with | 0 => h0 | 1 => q1 | _ => q2) (fun k => match k with | 1 => c1 | _ => c2) y0) H locs := ⟨hP, hD, hS⟩
  exact W.vret hx hb hr (fun t ht hW => ⟨⟨((fun k => match k with | 0 => h0 | 1 => q1 | _ => q2), (fun k => match k with | 1 => c1 | _ => c2)), rfl, rfl, by rw [ht]; exact hM.1, va_K.moved hW.alike hK, hM.2.1⟩, hM.2.2.F ht⟩) hM.2.2.2.2 dX1_init_20 hlocks
set_option maxHeartbeats 4000000 in
set_option maxRecDepth 100000 in
/-- a new shelf -/
theorem cx_init (l : Launch) (D : va_G) (h0 sz : Nat) : Met l yX0_init (ws_ yX0_init cX0_init 3 none) ({ frames := 1, cells := 5, slots := 846, locals := 12 } : Room) (va_Pc [.ref h0] (fun U => U.heap.size = sz ∧ va_P D vwCl [(h0, .inr (0, [.null, .null, .null, .null, .null, .int (nI 0), .int (nI 0), .int (nI 0)]))] U.heap ∧ va_K D vwCl [] U ∧ va_D (fun _ => True) [(h0, .inr (0, [.null, .null, .null, .null, .null, .int (nI 0), .int (nI 0), .int (nI 0)]))])) (va_Qv (fun u : (Nat → Nat) × (Nat → ClassId) => u.1 0 = h0) (fun u t => va_P D vwCl (wX u.1 u.2 z0) t.heap ∧ va_K D vwCl (tX u.2) t ∧ va_D (va_A [(h0, .inr (0, [.null, .null, .null, .null, .null, .int (nI 0), .int (nI 0), .int (nI 0)]))] sz) (wX u.1 u.2 z0)) (va_A [(h0, .inr (0, [.null, .null, .null, .null, .null, .int (nI 0), .int (nI 0), .int (nI 0)]))] sz)) 5 846 (va_A [(h0, .inr (0, [.null, .null, .null, .null, .null, .int (nI 0), .int (nI 0), .int (nI 0)]))] sz) := by
  refine Met.ofW (cc := cX0_init) (maxL := 3) (ret := none) (by decide) rfl ?_
  intro p e s m args below meth cd s₁ B hml hv
  obtain ⟨rfl, hsz, hP, hK, hD0⟩ := hv
  have hx := B.exec
  have hb := B.bytes
  have hr := B.returns
  have hts := atoms_spec (ws := ws_ yX0_init cX0_init 3 none) B.pre
  have hts : ∀ w ∈ lw_all, w.before _ s = true := fun w h => hts w (List.mem_cons_of_mem _ h)
  have hown : s.vm.findClass RX0 = some m.cls := findClass_of_methodNamed B.named
  have hlocks := B.notSynchronized
  have hin : meth.name = "<init>" := (name_of_methodNamed B.named B.method).1
  subst hsz
  have hD := hD0.self (sz := s.heap.size)
  generalize hAe : va_A [(h0, .inr (0, [.null, .null, .null, .null, .null, .int (nI 0), .int (nI 0), .int (nI 0)]))] s.heap.size = A at hD ⊢
  have hA : ∀ q : Nat, s.heap.size ≤ q → A q := fun q h => by rw [← hAe]; exact Or.inr h
  have hS : va_S A s.heap s.heap [] := va_S.rf
  have hl := lv_entry ([.ref h0]) (n := 3) (Nat.le_of_ble_eq_true rfl)
  rw [lg_entry_eq]
  generalize (lg_sl ([.ref h0]) ++ List.replicate (3 - (lg_sl ([.ref h0])).length) Slot.unset).toArray = ls at hl ⊢
  have hl : lv_has ls 3 [(0, .ref h0)] := hl
  refine lv_aload_n hx hb dX0_init_0 rfl (lv_at hl 0 rfl) ?_
  refine W.objInit hx hb hown (hts _ q19) (hts _ q20) (hts _ q21) rfl (by rw [hml]; exact hl.1) rfl dX0_init_1 (Nat.le_of_ble_eq_true rfl) (Nat.le_of_ble_eq_true rfl) ?_
  refine W.eq (g2 := F0 m 4 ls []) rfl ?_
  refine lv_aload_n hx hb dX0_init_4 rfl (lv_at hl 0 rfl) ?_
  refine lv_bipush (v := (nI 36)) hx hb dX0_init_5 (by decide) ?_
  refine va_newa (atype := .int) (N' := 36) (a0 := (36, .inl (vI (fun _ => 0)))) (ty := .int) hx hb (hts _ q47) rfl hK hP hD hS hA (fun _ => rfl) (by decide) (by decide) (by decide) (Nat.le_of_ble_eq_true rfl) (Nat.le_of_ble_eq_true rfl) dX0_init_7 (fun q1 c1 H hK hP hD hS => ?_)
  have hK : va_K D vwCl [(c1, .int)] s := hK
  have hP : va_P D vwCl [(h0, .inr (0, [.null, .null, .null, .null, .null, .int (nI 0), .int (nI 0), .int (nI 0)])), (q1, .inl (c1, 36, .inl (vI (fun _ => 0))))] H := hP
  have hD : va_D A [(h0, .inr (0, [.null, .null, .null, .null, .null, .int (nI 0), .int (nI 0), .int (nI 0)])), (q1, .inl (c1, 36, .inl (vI (fun _ => 0))))] := hD
  refine W.widen (k := 1) (n := 36) (by omega) (by first | omega | (dsimp only; omega)) ?_
  refine va_putF (D := D) (ci := 0) (v := .ref q1) (ty := .array .int) (C := RX0) (T := TX0) (N := 8) hx hb hts in_X0 tyX0 tyX0_ok nmX0 hown hK hP hD hS 0 rfl rfl 0 (by decide) (hts _ q22) (fun _ h9 => h9) rfl hin rfl (by decide +kernel) rfl rfl (Nat.le_of_ble_eq_true rfl) dX0_init_9 (fun H locs hP hD hS => ?_)
  have hP : va_P D vwCl [(h0, .inr (0, [.ref q1, .null, .null, .null, .null, .int (nI 0), .int (nI 0), .int (nI 0)])), (q1, .inl (c1, 36, .inl (vI (fun _ => 0))))] H := hP
  have hD : va_D A [(h0, .inr (0, [.ref q1, .null, .null, .null, .null, .int (nI 0), .int (nI 0), .int (nI 0)])), (q1, .inl (c1, 36, .inl (vI (fun _ => 0))))] := hD
  refine lv_aload_n hx hb dX0_init_12 rfl (lv_at hl 0 rfl) ?_
  refine lv_bipush (v := (nI 36)) hx hb dX0_init_13 (by decide) ?_
  refine va_newa (atype := .boolean) (N' := 36) (a0 := (36, .inl (vB (fun _ => false)))) (ty := .boolean) hx hb (hts _ q48) rfl hK hP hD hS hA (fun _ => rfl) (by decide) (by decide) (by decide) (Nat.le_of_ble_eq_true rfl) (Nat.le_of_ble_eq_true rfl) dX0_init_15 (fun q2 c2 H hK hP hD hS => ?_)
  have hK : va_K D vwCl [(c1, .int), (c2, .boolean)] s := hK
  have hP : va_P D vwCl [(h0, .inr (0, [.ref q1, .null, .null, .null, .null, .int (nI 0), .int (nI 0), .int (nI 0)])), (q1, .inl (c1, 36, .inl (vI (fun _ => 0)))), (q2, .inl (c2, 36, .inl (vB (fun _ => false))))] H := hP
  have hD : va_D A [(h0, .inr (0, [.ref q1, .null, .null, .null, .null, .int (nI 0), .int (nI 0), .int (nI 0)])), (q1, .inl (c1, 36, .inl (vI (fun _ => 0)))), (q2, .inl (c2, 36, .inl (vB (fun _ => false))))] := hD
  refine W.widen (k := 2) (n := 72) (by omega) (by first | omega | (dsimp only; omega)) ?_
  refine va_putF (D := D) (ci := 0) (v := .ref q2) (ty := .array .boolean) (C := RX0) (T := TX0) (N := 8) hx hb hts in_X0 tyX0 tyX0_ok nmX0 hown hK hP hD hS 0 rfl rfl 1 (by decide) (hts _ q23) (fun _ h9 => h9) rfl hin rfl (by decide +kernel) rfl rfl (Nat.le_of_ble_eq_true rfl) dX0_init_17 (fun H locs hP hD hS => ?_)
  have hP : va_P D vwCl [(h0, .inr (0, [.ref q1, .ref q2, .null, .null, .null, .int (nI 0), .int (nI 0), .int (nI 0)])), (q1, .inl (c1, 36, .inl (vI (fun _ => 0)))), (q2, .inl (c2, 36, .inl (vB (fun _ => false))))] H := hP
  have hD : va_D A [(h0, .inr (0, [.ref q1, .ref q2, .null, .null, .null, .int (nI 0), .int (nI 0), .int (nI 0)])), (q1, .inl (c1, 36, .inl (vI (fun _ => 0)))), (q2, .inl (c2, 36, .inl (vB (fun _ => false))))] := hD
  refine lv_aload_n hx hb dX0_init_20 rfl (lv_at hl 0 rfl) ?_
  refine lv_sipush (v := (nI 512)) hx hb dX0_init_21 (by decide) ?_
  refine va_newa (atype := .int) (N' := 512) (a0 := (512, .inl (vI (fun _ => 0)))) (ty := .int) hx hb (hts _ q47) rfl hK hP hD hS hA (fun _ => rfl) (by decide) (by decide) (by decide) (Nat.le_of_ble_eq_true rfl) (Nat.le_of_ble_eq_true rfl) dX0_init_24 (fun q3 c3 H hK hP hD hS => ?_)
  have hK : va_K D vwCl [(c1, .int), (c2, .boolean), (c3, .int)] s := hK
  have hP : va_P D vwCl [(h0, .inr (0, [.ref q1, .ref q2, .null, .null, .null, .int (nI 0), .int (nI 0), .int (nI 0)])), (q1, .inl (c1, 36, .inl (vI (fun _ => 0)))), (q2, .inl (c2, 36, .inl (vB (fun _ => false)))), (q3, .inl (c3, 512, .inl (vI (fun _ => 0))))] H := hP
  have hD : va_D A [(h0, .inr (0, [.ref q1, .ref q2, .null, .null, .null, .int (nI 0), .int (nI 0), .int (nI 0)])), (q1, .inl (c1, 36, .inl (vI (fun _ => 0)))), (q2, .inl (c2, 36, .inl (vB (fun _ => false)))), (q3, .inl (c3, 512, .inl (vI (fun _ => 0))))] := hD
  refine W.widen (k := 3) (n := 584) (by omega) (by first | omega | (dsimp only; omega)) ?_
  refine va_putF (D := D) (ci := 0) (v := .ref q3) (ty := .array .int) (C := RX0) (T := TX0) (N := 8) hx hb hts in_X0 tyX0 tyX0_ok nmX0 hown hK hP hD hS 0 rfl rfl 2 (by decide) (hts _ q24) (fun _ h9 => h9) rfl hin rfl (by decide +kernel) rfl rfl (Nat.le_of_ble_eq_true rfl) dX0_init_26 (fun H locs hP hD hS => ?_)
  have hP : va_P D vwCl [(h0, .inr (0, [.ref q1, .ref q2, .ref q3, .null, .null, .int (nI 0), .int (nI 0), .int (nI 0)])), (q1, .inl (c1, 36, .inl (vI (fun _ => 0)))), (q2, .inl (c2, 36, .inl (vB (fun _ => false)))), (q3, .inl (c3, 512, .inl (vI (fun _ => 0))))] H := hP
  have hD : va_D A [(h0, .inr (0, [.ref q1, .ref q2, .ref q3, .null, .null, .int (nI 0), .int (nI 0), .int (nI 0)])), (q1, .inl (c1, 36, .inl (vI (fun _ => 0)))), (q2, .inl (c2, 36, .inl (vB (fun _ => false)))), (q3, .inl (c3, 512, .inl (vI (fun _ => 0))))] := hD
  refine lv_aload_n hx hb dX0_init_29 rfl (lv_at hl 0 rfl) ?_
  refine lv_sipush (v := (nI 256)) hx hb dX0_init_30 (by decide) ?_
  refine va_newa (atype := .int) (N' := 256) (a0 := (256, .inl (vI (fun _ => 0)))) (ty := .int) hx hb (hts _ q47) rfl hK hP hD hS hA (fun _ => rfl) (by decide) (by decide) (by decide) (Nat.le_of_ble_eq_true rfl) (Nat.le_of_ble_eq_true rfl) dX0_init_33 (fun q4 c4 H hK hP hD hS => ?_)
  have hK : va_K D vwCl [(c1, .int), (c2, .boolean), (c3, .int), (c4, .int)] s := hK
  have hP : va_P D vwCl [(h0, .inr (0, [.ref q1, .ref q2, .ref q3, .null, .null, .int (nI 0), .int (nI 0), .int (nI 0)])), (q1, .inl (c1, 36, .inl (vI (fun _ => 0)))), (q2, .inl (c2, 36, .inl (vB (fun _ => false)))), (q3, .inl (c3, 512, .inl (vI (fun _ => 0)))), (q4, .inl (c4, 256, .inl (vI (fun _ => 0))))] H := hP
  have hD : va_D A [(h0, .inr (0, [.ref q1, .ref q2, .ref q3, .null, .null, .int (nI 0), .int (nI 0), .int (nI 0)])), (q1, .inl (c1, 36, .inl (vI (fun _ => 0)))), (q2, .inl (c2, 36, .inl (vB (fun _ => false)))), (q3, .inl (c3, 512, .inl (vI (fun _ => 0)))), (q4, .inl (c4, 256, .inl (vI (fun _ => 0))))] := hD
  refine W.widen (k := 4) (n := 840) (by omega) (by first | omega | (dsimp only; omega)) ?_
  refine va_putF (D := D) (ci := 0) (v := .ref q4) (ty := .array .int) (C := RX0) (T := TX0) (N := 8) hx hb hts in_X0 tyX0 tyX0_ok nmX0 hown hK hP hD hS 0 rfl rfl 3 (by decide) (hts _ q25) (fun _ h9 => h9) rfl hin rfl (by decide +kernel) rfl rfl (Nat.le_of_ble_eq_true rfl) dX0_init_35 (fun H locs hP hD hS => ?_)
  have hP : va_P D vwCl [(h0, .inr (0, [.ref q1, .ref q2, .ref q3, .ref q4, .null, .int (nI 0), .int (nI 0), .int (nI 0)])), (q1, .inl (c1, 36, .inl (vI (fun _ => 0)))), (q2, .inl (c2, 36, .inl (vB (fun _ => false)))), (q3, .inl (c3, 512, .inl (vI (fun _ => 0)))), (q4, .inl (c4, 256, .inl (vI (fun _ => 0))))] H := hP
  have hD : va_D A [(h0, .inr (0, [.ref q1, .ref q2, .ref q3, .ref q4, .null, .int (nI 0), .int (nI 0), .int (nI 0)])), (q1, .inl (c1, 36, .inl (vI (fun _ => 0)))), (q2, .inl (c2, 36, .inl (vB (fun _ => false)))), (q3, .inl (c3, 512, .inl (vI (fun _ => 0)))), (q4, .inl (c4, 256, .inl (vI (fun _ => 0))))] := hD
  refine lv_aload_n hx hb dX0_init_38 rfl (lv_at hl 0 rfl) ?_
  refine lv_bipush (v := (nI 6)) hx hb dX0_init_39 (by decide) ?_
  refine va_newa (atype := .int) (N' := 6) (a0 := (6, .inl (vI (fun _ => 0)))) (ty := .int) hx hb (hts _ q47) rfl hK hP hD hS hA (fun _ => rfl) (by decide) (by decide) (by decide) (Nat.le_of_ble_eq_true rfl) (Nat.le_of_ble_eq_true rfl) dX0_init_41 (fun q5 c5 H hK hP hD hS => ?_)
  have hK : va_K D vwCl [(c1, .int), (c2, .boolean), (c3, .int), (c4, .int), (c5, .int)] s := hK
  have hP : va_P D vwCl [(h0, .inr (0, [.ref q1, .ref q2, .ref q3, .ref q4, .null, .int (nI 0), .int (nI 0), .int (nI 0)])), (q1, .inl (c1, 36, .inl (vI (fun _ => 0)))), (q2, .inl (c2, 36, .inl (vB (fun _ => false)))), (q3, .inl (c3, 512, .inl (vI (fun _ => 0)))), (q4, .inl (c4, 256, .inl (vI (fun _ => 0)))), (q5, .inl (c5, 6, .inl (vI (fun _ => 0))))] H := hP
  have hD : va_D A [(h0, .inr (0, [.ref q1, .ref q2, .ref q3, .ref q4, .null, .int (nI 0), .int (nI 0), .int (nI 0)])), (q1, .inl (c1, 36, .inl (vI (fun _ => 0)))), (q2, .inl (c2, 36, .inl (vB (fun _ => false)))), (q3, .inl (c3, 512, .inl (vI (fun _ => 0)))), (q4, .inl (c4, 256, .inl (vI (fun _ => 0)))), (q5, .inl (c5, 6, .inl (vI (fun _ => 0))))] := hD
  refine W.widen (k := 5) (n := 846) (by omega) (by first | omega | (dsimp only; omega)) ?_
  refine va_putF (D := D) (ci := 0) (v := .ref q5) (ty := .array .int) (C := RX0) (T := TX0) (N := 8) hx hb hts in_X0 tyX0 tyX0_ok nmX0 hown hK hP hD hS 0 rfl rfl 4 (by decide) (hts _ q26) (fun _ h9 => h9) rfl hin rfl (by decide +kernel) rfl rfl (Nat.le_of_ble_eq_true rfl) dX0_init_43 (fun H locs hP hD hS => ?_)
  have hP : va_P D vwCl [(h0, .inr (0, [.ref q1, .ref q2, .ref q3, .ref q4, .ref q5, .int (nI 0), .int (nI 0), .int (nI 0)])), (q1, .inl (c1, 36, .inl (vI (fun _ => 0)))), (q2, .inl (c2, 36, .inl (vB (fun _ => false)))), (q3, .inl (c3, 512, .inl (vI (fun _ => 0)))), (q4, .inl (c4, 256, .inl (vI (fun _ => 0)))), (q5, .inl (c5, 6, .inl (vI (fun _ => 0))))] H := hP
  have hD : va_D A [(h0, .inr (0, [.ref q1, .ref q2, .ref q3, .ref q4, .ref q5, .int (nI 0), .int (nI 0), .int (nI 0)])), (q1, .inl (c1, 36, .inl (vI (fun _ => 0)))), (q2, .inl (c2, 36, .inl (vB (fun _ => false)))), (q3, .inl (c3, 512, .inl (vI (fun _ => 0)))), (q4, .inl (c4, 256, .inl (vI (fun _ => 0)))), (q5, .inl (c5, 6, .inl (vI (fun _ => 0))))] := hD
  refine lv_iconst (v := (nI 1)) hx hb dX0_init_46 (by decide) ?_
  refine lv_istore_n (lv' := [(1, .int (nI 1)), (0, .ref h0)]) hx hb dX0_init_47 rfl hl (by decide) rfl (fun ls hl => ?_)
  refine lv_iconst (v := (nI 0)) hx hb dX0_init_48 (by decide) ?_
  refine lv_istore_n (lv' := [(2, .int (nI 0)), (1, .int (nI 1)), (0, .ref h0)]) hx hb dX0_init_49 rfl hl (by decide) rfl (fun ls hl => ?_)
  have hKp := hK
  have loop : ∀ (n k : Nat) (ls : Array Slot) (H : Heap) (locs : List Loc), k + n = 255 → ys_M D A s ([(h0, .inr (0, [.ref q1, .ref q2, .ref q3, .ref q4, .ref q5, .int (nI 0), .int (nI 0), .int (nI 0)])), (q1, .inl (c1, 36, .inl (vI (fun _ => 0)))), (q2, .inl (c2, 36, .inl (vB (fun _ => false)))), (q3, .inl (c3, 512, .inl (vI (z_pk k)))), (q4, .inl (c4, 256, .inl (vI (z_lk k)))), (q5, .inl (c5, 6, .inl (vI (fun _ => 0))))] : va_W) H locs → lv_has ls 3 [(0, .ref h0), (1, .int (nI (z_pw k))), (2, .int (nI k))] → W p l e ({ frames := 1, cells := 5, slots := 846, locals := 12 } : Room) s m ([.ref h0] : List Value).toArray below meth cd H locs 5 846 (MQ below (va_Qv (fun u : (Nat → Nat) × (Nat → ClassId) => u.1 0 = h0) (fun u t => va_P D vwCl (wX u.1 u.2 z0) t.heap ∧ va_K D vwCl (tX u.2) t ∧ va_D A (wX u.1 u.2 z0)) A) ([.ref h0] : List Value).toArray s 5 846 A) (F0 m 50 ls []) := by
    intro n
    induction n with
    | zero =>
      intro k ls H locs hkn hM hl
      refine lv_iload_n hx hb dX0_init_50 rfl (lv_at hl 2 rfl) ?_
      refine lv_sipush (v := (nI 255)) hx hb dX0_init_51 (by decide) ?_
      refine ys_icmp_ge (i := k) (j := 255) (tgt := 105) hx hb dX0_init_54 (by decide) (by omega) (by omega) (fun hq0 => ?_) (fun hq0 => ?_)
      · obtain rfl : k = 255 := by omega
        rw [z_pk_e, z_lk_e] at hM
        have hM : ys_M D A s (wX (fun k => match k with | 0 => h0 | 1 => q1 | 2 => q2 | 3 => q3 | 4 => q4 | _ => q5) (fun k => match k with | 1 => c1 | 2 => c2 | 3 => c3 | 4 => c4 | _ => c5) z0) H locs := hM
        exact W.vret hx hb hr (fun t ht hW => ⟨⟨((fun k => match k with | 0 => h0 | 1 => q1 | 2 => q2 | 3 => q3 | 4 => q4 | _ => q5), (fun k => match k with | 1 => c1 | 2 => c2 | 3 => c3 | 4 => c4 | _ => c5)), rfl, rfl, by rw [ht]; exact hM.1, va_K.moved hW.alike hK, hM.2.1⟩, hM.2.2.F ht⟩) hM.2.2.2.2 dX0_init_105 hlocks
      · exact absurd hq0 (by omega)
    | succ n ih =>
      intro k ls H locs hkn hM hl
      refine lv_iload_n hx hb dX0_init_50 rfl (lv_at hl 2 rfl) ?_
      refine lv_sipush (v := (nI 255)) hx hb dX0_init_51 (by decide) ?_
      refine ys_icmp_ge (i := k) (j := 255) (tgt := 105) hx hb dX0_init_54 (by decide) (by omega) (by omega) (fun hq0 => ?_) (fun hq0 => ?_)
      · exact absurd hq0 (by omega)
      · obtain ⟨t1, t2, t3, t4⟩ := z_t1 k hq0
        have t5 := z_pw_lt k
        refine lv_aload_n hx hb dX0_init_57 rfl (lv_at hl 0 rfl) ?_
        refine va_get (D := D) (ci := 0) (v := .ref q3) (C := RX0) (T := TX0) (N := 8) hx hb hts in_X0 hown hK hM.1 0 rfl rfl 2 (by decide) (hts _ q24) (fun _ h9 => h9) rfl dX0_init_58 ?_
        refine lv_iload_n hx hb dX0_init_61 rfl (lv_at hl 2 rfl) ?_
        refine lv_iload_n hx hb dX0_init_62 rfl (lv_at hl 1 rfl) ?_
        refine ys_iast (i := k) (v := (z_pw k)) (w' := ([(h0, .inr (0, [.ref q1, .ref q2, .ref q3, .ref q4, .ref q5, .int (nI 0), .int (nI 0), .int (nI 0)])), (q1, .inl (c1, 36, .inl (vI (fun _ => 0)))), (q2, .inl (c2, 36, .inl (vB (fun _ => false)))), (q3, .inl (c3, 512, .inl (vI (va_up (z_pk k) k (z_pw k))))), (q4, .inl (c4, 256, .inl (vI (z_lk k)))), (q5, .inl (c5, 6, .inl (vI (fun _ => 0))))] : va_W)) hx hb hK hM 3 2 rfl rfl (by omega) (by decide) dX0_init_63 rfl (fun H locs hM => ?_)
        refine lv_aload_n hx hb dX0_init_64 rfl (lv_at hl 0 rfl) ?_
        refine va_get (D := D) (ci := 0) (v := .ref q3) (C := RX0) (T := TX0) (N := 8) hx hb hts in_X0 hown hK hM.1 0 rfl rfl 2 (by decide) (hts _ q24) (fun _ h9 => h9) rfl dX0_init_65 ?_
        refine lv_iload_n hx hb dX0_init_68 rfl (lv_at hl 2 rfl) ?_
        refine lv_sipush (v := (nI 255)) hx hb dX0_init_69 (by decide) ?_
        refine ys_iadd (i := k) (j := 255) hx hb dX0_init_72 ?_
        refine lv_iload_n hx hb dX0_init_73 rfl (lv_at hl 1 rfl) ?_
        refine ys_iast (i := (k + 255)) (v := (z_pw k)) (w' := ([(h0, .inr (0, [.ref q1, .ref q2, .ref q3, .ref q4, .ref q5, .int (nI 0), .int (nI 0), .int (nI 0)])), (q1, .inl (c1, 36, .inl (vI (fun _ => 0)))), (q2, .inl (c2, 36, .inl (vB (fun _ => false)))), (q3, .inl (c3, 512, .inl (vI (va_up (va_up (z_pk k) k (z_pw k)) (k + 255) (z_pw k))))), (q4, .inl (c4, 256, .inl (vI (z_lk k)))), (q5, .inl (c5, 6, .inl (vI (fun _ => 0))))] : va_W)) hx hb hK hM 3 2 rfl rfl (by omega) (by decide) dX0_init_74 rfl (fun H locs hM => ?_)
        refine lv_aload_n hx hb dX0_init_75 rfl (lv_at hl 0 rfl) ?_
        refine va_get (D := D) (ci := 0) (v := .ref q4) (C := RX0) (T := TX0) (N := 8) hx hb hts in_X0 hown hK hM.1 0 rfl rfl 3 (by decide) (hts _ q25) (fun _ h9 => h9) rfl dX0_init_76 ?_
        refine lv_iload_n hx hb dX0_init_79 rfl (lv_at hl 1 rfl) ?_
        refine lv_iload_n hx hb dX0_init_80 rfl (lv_at hl 2 rfl) ?_
        refine ys_iast (i := (z_pw k)) (v := k) (w' := ([(h0, .inr (0, [.ref q1, .ref q2, .ref q3, .ref q4, .ref q5, .int (nI 0), .int (nI 0), .int (nI 0)])), (q1, .inl (c1, 36, .inl (vI (fun _ => 0)))), (q2, .inl (c2, 36, .inl (vB (fun _ => false)))), (q3, .inl (c3, 512, .inl (vI (va_up (va_up (z_pk k) k (z_pw k)) (k + 255) (z_pw k))))), (q4, .inl (c4, 256, .inl (vI (va_up (z_lk k) (z_pw k) k)))), (q5, .inl (c5, 6, .inl (vI (fun _ => 0))))] : va_W)) hx hb hK hM 4 3 rfl rfl (by omega) (by decide) dX0_init_81 rfl (fun H locs hM => ?_)
        refine lv_iload_n hx hb dX0_init_82 rfl (lv_at hl 1 rfl) ?_
        refine lv_iconst (v := (nI 1)) hx hb dX0_init_83 (by decide) ?_
        refine ys_ishl1 (i := (z_pw k)) hx hb (by omega) dX0_init_84 ?_
        refine lv_istore_n (lv' := [(1, .int (nI ((z_pw k) * 2))), (0, .ref h0), (2, .int (nI k))]) hx hb dX0_init_85 rfl hl (by decide) rfl (fun ls hl => ?_)
        refine lv_iload_n hx hb dX0_init_86 rfl (lv_at hl 0 rfl) ?_
        refine lv_sipush (v := (nI 255)) hx hb dX0_init_87 (by decide) ?_
        rw [z_pk_s hq0, z_lk_s hq0] at hM
        refine ys_icmp_le (i := ((z_pw k) * 2)) (j := 255) (tgt := 99) hx hb dX0_init_90 (by decide) (by omega) (by omega) (fun h1 => ?_) (fun h1 => ?_)
        · refine lv_iinc (v := (nI (k + 1))) (lv' := [(2, .int (nI (k + 1))), (1, .int (nI ((z_pw k) * 2))), (0, .ref h0)]) hx hb dX0_init_99 hl (k := 2) rfl (ys_inc k) (by decide) rfl (fun ls hl => ?_)
          refine lv_goto (tgt := 50) hx hb dX0_init_102 (by decide) ?_
          rw [if_neg (Nat.not_lt.mpr h1)] at t4
          refine ih (k + 1) ls _ _ (by omega) hM ?_
          rw [t4]
          exact lv_sub hl [2, 1, 0] rfl
        · refine lv_iload_n hx hb dX0_init_93 rfl (lv_at hl 0 rfl) ?_
          refine lv_sipush (v := (nI 285)) hx hb dX0_init_94 (by decide) ?_
          refine ys_ixor (i := ((z_pw k) * 2)) (j := 285) hx hb dX0_init_97 ?_
          refine lv_istore_n (lv' := [(1, .int (nI (((z_pw k) * 2) ^^^ 285))), (0, .ref h0), (2, .int (nI k))]) hx hb dX0_init_98 rfl hl (by decide) rfl (fun ls hl => ?_)
          refine lv_iinc (v := (nI (k + 1))) (lv' := [(2, .int (nI (k + 1))), (1, .int (nI (((z_pw k) * 2) ^^^ 285))), (0, .ref h0)]) hx hb dX0_init_99 hl (k := 2) rfl (ys_inc k) (by decide) rfl (fun ls hl => ?_)
          refine lv_goto (tgt := 50) hx hb dX0_init_102 (by decide) ?_
          rw [if_pos h1] at t4
          refine ih (k + 1) ls _ _ (by omega) hM ?_
          rw [t4]
          exact lv_sub hl [2, 1, 0] rfl
  refine loop 255 0 ls _ _ (by omega) ⟨?_, ?_, hS⟩ (lv_sub hl [2, 1, 0] rfl)
  · rw [z_pk_0, z_lk_0]; exact hP
  · rw [z_pk_0, z_lk_0]; exact hD
end
section
/-! the field, in plain numbers: what the sums of a line and its mending come to -/
def z_xt (x : Nat) : Nat := if 255 < x * 2 then (x * 2) ^^^ 285 else x * 2
theorem z_xt_lt : ∀ x, x < 256 → z_xt x < 256 := by decide +kernel
theorem z_gm_tab : ∀ x, x < 256 → z_gm 1 x = x ∧ z_gm 2 x = z_xt x ∧ z_gm 4 x = z_xt (z_xt x) ∧ z_gm 8 x = z_xt (z_xt (z_xt x)) := by decide +kernel
theorem z_xt_lo : ∀ x, x < 128 → z_xt x = x * 2 := by decide +kernel
theorem z_xt_hi : ∀ x, x < 128 → z_xt (128 ^^^ x) = 29 ^^^ (x * 2) := by decide +kernel
theorem z_xt_sp : ∀ x, x < 256 → ∃ a b : Nat, (a = 0 ∨ a = 1) ∧ b < 128 ∧ x = (a * 128) ^^^ b ∧ z_xt x = (a * 29) ^^^ (b * 2) := by
  intro x hx
  by_cases h : x < 128
  · exact ⟨0, x, Or.inl rfl, h, by simp, by rw [z_xt_lo x h]; simp⟩
  · have h1 : ∀ x, x < 256 → ¬ x < 128 → 128 ^^^ (128 ^^^ x) = x ∧ 128 ^^^ x < 128 := by decide +kernel
    obtain ⟨h2, h3⟩ := h1 x hx h
    refine ⟨1, 128 ^^^ x, Or.inr rfl, h3, by rw [Nat.one_mul, h2], ?_⟩
    have h4 := z_xt_hi _ h3
    rw [h2] at h4
    rw [h4, Nat.one_mul]
theorem z_xl (a b : Nat) : a ^^^ (a ^^^ b) = b := by rw [← Nat.xor_assoc, Nat.xor_self, Nat.zero_xor]
theorem z_dbl (a b : Nat) : (a ^^^ b) * 2 = (a * 2) ^^^ (b * 2) := by
  have h := Nat.shiftLeft_xor_distrib (i := 1) (a := a) (b := b)
  simpa [Nat.shiftLeft_eq] using h
theorem z_xt_xor {x y : Nat} (hx : x < 256) (hy : y < 256) : z_xt (x ^^^ y) = z_xt x ^^^ z_xt y := by
  obtain ⟨a, b, ha, hb, e1, e2⟩ := z_xt_sp x hx
  obtain ⟨c, d, hc, hd, e3, e4⟩ := z_xt_sp y hy
  have hbd : b ^^^ d < 128 := Nat.xor_lt_two_pow (n := 7) hb hd
  rw [e2, e4, e1, e3]
  rcases ha with rfl | rfl <;> rcases hc with rfl | rfl
  · simp only [Nat.zero_mul, Nat.zero_xor]
    rw [z_xt_lo _ hbd, z_dbl]
  · simp only [Nat.zero_mul, Nat.zero_xor, Nat.one_mul]
    rw [show b ^^^ (128 ^^^ d) = 128 ^^^ (b ^^^ d) by ac_rfl, z_xt_hi _ hbd, z_dbl]
    ac_rfl
  · simp only [Nat.zero_mul, Nat.zero_xor, Nat.one_mul]
    rw [show 128 ^^^ b ^^^ d = 128 ^^^ (b ^^^ d) by ac_rfl, z_xt_hi _ hbd, z_dbl]
    ac_rfl
  · simp only [Nat.one_mul]
    rw [show 128 ^^^ b ^^^ (128 ^^^ d) = 128 ^^^ (128 ^^^ (b ^^^ d)) by ac_rfl, z_xl, z_xt_lo _ hbd, z_dbl, show 29 ^^^ b * 2 ^^^ (29 ^^^ d * 2) = 29 ^^^ (29 ^^^ (b * 2 ^^^ d * 2)) by ac_rfl, z_xl]
/-- the weights that occur -/
def z_W (w : Nat) : Prop := w = 0 ∨ w = 1 ∨ w = 2 ∨ w = 4 ∨ w = 8
theorem z_gm_0l (x : Nat) : z_gm 0 x = 0 := if_pos rfl
theorem z_gm_0r (x : Nat) : z_gm x 0 = 0 := by
  unfold z_gm
  split
  · rfl
  · rfl
theorem z_gm_comm (a b : Nat) : z_gm a b = z_gm b a := by
  unfold z_gm
  by_cases ha : a = 0
  · by_cases hb : b = 0
    · simp [ha, hb]
    · simp [ha]
  · by_cases hb : b = 0
    · simp [hb]
    · rw [if_neg ha, if_neg hb, if_neg hb, if_neg ha, Nat.add_comm]
theorem z_gm_lin {w x y : Nat} (hw : z_W w) (hx : x < 256) (hy : y < 256) : z_gm w (x ^^^ y) = z_gm w x ^^^ z_gm w y := by
  obtain ⟨a1, a2, a3, a4⟩ := z_gm_tab x hx
  obtain ⟨b1, b2, b3, b4⟩ := z_gm_tab y hy
  obtain ⟨c1, c2, c3, c4⟩ := z_gm_tab (x ^^^ y) (z_xor_lt hx hy)
  have hx1 := z_xt_lt x hx
  have hy1 := z_xt_lt y hy
  have hx2 := z_xt_lt _ hx1
  have hy2 := z_xt_lt _ hy1
  rcases hw with rfl | rfl | rfl | rfl | rfl
  · simp [z_gm_0l]
  · rw [a1, b1, c1]
  · rw [a2, b2, c2, z_xt_xor hx hy]
  · rw [a3, b3, c3, z_xt_xor hx hy, z_xt_xor hx1 hy1]
  · rw [a4, b4, c4, z_xt_xor hx hy, z_xt_xor hx1 hy1, z_xt_xor hx2 hy2]
theorem z_wt_W (sm k : Nat) : z_W (z_wt sm k) := by
  unfold z_wt
  split
  · split
    · exact Or.inr (Or.inl rfl)
    · exact Or.inl rfl
  · split
    · rename_i h
      have h1 : ∀ k, k ≤ 3 → z_pw k = 0 ∨ z_pw k = 1 ∨ z_pw k = 2 ∨ z_pw k = 4 ∨ z_pw k = 8 := by decide +kernel
      exact h1 k h
    · split
      · exact Or.inr (Or.inl rfl)
      · exact Or.inl rfl
theorem z_gm_cm {a b x : Nat} (ha : z_W a) (hb : z_W b) (hx : x < 256) : z_gm a (z_gm b x) = z_gm b (z_gm a x) := by
  have h : ∀ x, x < 256 → z_gm 2 (z_gm 4 x) = z_gm 4 (z_gm 2 x) ∧ z_gm 2 (z_gm 8 x) = z_gm 8 (z_gm 2 x) ∧ z_gm 4 (z_gm 8 x) = z_gm 8 (z_gm 4 x) := by decide +kernel
  obtain ⟨h1, h2, h3⟩ := h x hx
  have i1 := (z_gm_tab x hx).1
  have i2 : ∀ w, z_gm 1 (z_gm w x) = z_gm w x := fun w => (z_gm_tab _ (z_gm_lt _ _)).1
  rcases ha with rfl | rfl | rfl | rfl | rfl <;> rcases hb with rfl | rfl | rfl | rfl | rfl <;> simp only [z_gm_0l, z_gm_0r, i1, i2, h1, h2, h3]
/-- a code word: both sums are 0 -/
def z_cw (F : Nat → Nat) : Prop := z_sm 0 F 6 = 0 ∧ z_sm 1 F 6 = 0
theorem z_sm_cg {s : Nat} {F G : Nat → Nat} (n : Nat) (h : ∀ k, k < n → F k = G k) : z_sm s F n = z_sm s G n := by
  induction n with
  | zero => rfl
  | succ n ih =>
    show z_sm s F n ^^^ z_gm (z_wt s n) (F n) = z_sm s G n ^^^ z_gm (z_wt s n) (G n)
    rw [ih (fun k hk => h k (Nat.lt_succ_of_lt hk)), h n (Nat.lt_succ_self n)]
theorem z_sm_add {s : Nat} {F G : Nat → Nat} (hF : ∀ k, F k < 256) (hG : ∀ k, G k < 256) (n : Nat) : z_sm s (fun k => F k ^^^ G k) n = z_sm s F n ^^^ z_sm s G n := by
  induction n with
  | zero => exact (Nat.xor_self 0).symm
  | succ n ih =>
    show z_sm s (fun k => F k ^^^ G k) n ^^^ z_gm (z_wt s n) (F n ^^^ G n) = z_sm s F n ^^^ z_gm (z_wt s n) (F n) ^^^ (z_sm s G n ^^^ z_gm (z_wt s n) (G n))
    rw [ih, z_gm_lin (z_wt_W s n) (hF n) (hG n)]
    ac_rfl
theorem z_sm_0 (s n : Nat) : z_sm s (fun _ => 0) n = 0 := by
  induction n with
  | zero => rfl
  | succ n ih =>
    show z_sm s (fun _ => 0) n ^^^ z_gm (z_wt s n) 0 = 0
    rw [ih, z_gm_0r]
    rfl
theorem z_sm_hi {s i v : Nat} {F : Nat → Nat} {n : Nat} (h : n ≤ i) : z_sm s (va_up F i v) n = z_sm s F n := z_sm_cg n (fun k hk => if_neg (by omega))
theorem z_sm_up {s i v : Nat} {F : Nat → Nat} (n : Nat) (h : i < n) : z_sm s (va_up F i v) n = z_sm s F n ^^^ z_gm (z_wt s i) (F i) ^^^ z_gm (z_wt s i) v := by
  induction n with
  | zero => omega
  | succ n ih =>
    show z_sm s (va_up F i v) n ^^^ z_gm (z_wt s n) (va_up F i v n) = z_sm s F n ^^^ z_gm (z_wt s n) (F n) ^^^ z_gm (z_wt s i) (F i) ^^^ z_gm (z_wt s i) v
    by_cases hn : i = n
    · subst hn
      rw [z_sm_hi (Nat.le_refl i), show va_up F i v i = v from if_pos rfl, Nat.xor_assoc (z_sm s F i), Nat.xor_self, Nat.xor_zero]
    · rw [ih (by omega), show va_up F i v n = F n from if_neg (fun q => hn q.symm)]
      ac_rfl
/-- one place of a code word is wiped: the sums say what it was -/
theorem z_lost1 {F L : Nat → Nat} {i : Nat} (hF : z_cw F) (hi : i < 6) (hL : ∀ k, k < 6 → L k = va_up F i 0 k) : z_sm 0 L 6 = z_gm (z_wt 0 i) (F i) ∧ z_sm 1 L 6 = z_gm (z_wt 1 i) (F i) := by
  refine ⟨?_, ?_⟩
  · rw [z_sm_cg 6 hL, z_sm_up 6 hi, hF.1, z_gm_0r, Nat.zero_xor, Nat.xor_zero]
  · rw [z_sm_cg 6 hL, z_sm_up 6 hi, hF.2, z_gm_0r, Nat.zero_xor, Nat.xor_zero]
theorem z_lost2 {F L : Nat → Nat} {i j : Nat} (hF : z_cw F) (hij : i < j) (hj : j < 6) (hL : ∀ k, k < 6 → L k = va_up (va_up F i 0) j 0 k) : z_sm 0 L 6 = z_gm (z_wt 0 i) (F i) ^^^ z_gm (z_wt 0 j) (F j) ∧ z_sm 1 L 6 = z_gm (z_wt 1 i) (F i) ^^^ z_gm (z_wt 1 j) (F j) := by
  have e : va_up F i 0 j = F j := if_neg (by omega)
  refine ⟨?_, ?_⟩
  · rw [z_sm_cg 6 hL, z_sm_up 6 hj, z_sm_up 6 (by omega), hF.1, z_gm_0r, z_gm_0r, Nat.zero_xor, Nat.xor_zero, Nat.xor_zero, e]
  · rw [z_sm_cg 6 hL, z_sm_up 6 hj, z_sm_up 6 (by omega), hF.2, z_gm_0r, z_gm_0r, Nat.zero_xor, Nat.xor_zero, Nat.xor_zero, e]
theorem z_one : ∀ i, i < 6 → ∀ x, x < 256 → (z_wt 0 i = 0 → z_dv (z_gm (z_wt 1 i) x) (z_wt 1 i) = x) ∧ (¬ z_wt 0 i = 0 → z_dv (z_gm (z_wt 0 i) x) (z_wt 0 i) = x) := by decide +kernel
theorem z_two : ∀ i, i < 6 → ∀ j, j < 6 → i < j → ∀ x, x < 256 → z_dv (z_gm (z_wt 1 j) (z_gm (z_wt 0 i) x) ^^^ z_gm (z_wt 0 j) (z_gm (z_wt 1 i) x)) (z_det i j) = x ∧ z_dv (z_gm (z_wt 0 i) (z_gm (z_wt 1 j) x) ^^^ z_gm (z_wt 1 i) (z_gm (z_wt 0 j) x)) (z_det i j) = x := by decide +kernel
theorem z_mend1 {F L : Nat → Nat} {i : Nat} (hF : z_cw F) (hi : i < 6) (hx : F i < 256) (hL : ∀ k, k < 6 → L k = va_up F i 0 k) : z_m1 L i (z_sm 0 L 6) (z_sm 1 L 6) i = F i := by
  obtain ⟨e0, e1⟩ := z_lost1 hF hi hL
  rw [e0, e1]
  unfold z_m1
  by_cases h : z_wt 0 i = 0
  · rw [if_pos h, show va_up L i _ i = _ from if_pos rfl]
    exact (z_one i hi _ hx).1 h
  · rw [if_neg h, show va_up L i _ i = _ from if_pos rfl]
    exact (z_one i hi _ hx).2 h
theorem z_mend2 {F L : Nat → Nat} {i j : Nat} (hF : z_cw F) (hij : i < j) (hj : j < 6) (hx : F i < 256) (hy : F j < 256) (hL : ∀ k, k < 6 → L k = va_up (va_up F i 0) j 0 k) : z_m2 L i j (z_sm 0 L 6) (z_sm 1 L 6) i = F i ∧ z_m2 L i j (z_sm 0 L 6) (z_sm 1 L 6) j = F j := by
  obtain ⟨e0, e1⟩ := z_lost2 hF hij hj hL
  have t1 := (z_two i (by omega) j hj hij (F i) hx).1
  have t2 := (z_two i (by omega) j hj hij (F j) hy).2
  rw [e0, e1]
  unfold z_m2
  refine ⟨?_, ?_⟩
  · rw [show ∀ (f : Nat → Nat) (v : Nat), va_up f j v i = f i from fun f v => if_neg (by omega), show va_up L i _ i = _ from if_pos rfl]
    rw [z_gm_comm _ (z_wt 1 j), z_gm_comm _ (z_wt 0 j), z_gm_lin (z_wt_W 1 j) (z_gm_lt _ _) (z_gm_lt _ _), z_gm_lin (z_wt_W 0 j) (z_gm_lt _ _) (z_gm_lt _ _), z_gm_cm (z_wt_W 1 j) (z_wt_W 0 j) hy]
    rw [show ∀ a b c : Nat, (a ^^^ b) ^^^ (c ^^^ b) = b ^^^ (b ^^^ (a ^^^ c)) from fun a b c => by ac_rfl, z_xl]
    exact t1
  · rw [show ∀ (f : Nat → Nat) (v : Nat), va_up f j v j = v from fun f v => if_pos rfl]
    rw [z_gm_lin (z_wt_W 0 i) (z_gm_lt _ _) (z_gm_lt _ _), z_gm_lin (z_wt_W 1 i) (z_gm_lt _ _) (z_gm_lt _ _), z_gm_cm (z_wt_W 0 i) (z_wt_W 1 i) hx]
    rw [show ∀ a b c : Nat, (a ^^^ b) ^^^ (a ^^^ c) = a ^^^ (a ^^^ (b ^^^ c)) from fun a b c => by ac_rfl, z_xl]
    exact t2
end
section
/-! the plain law: shelf and model hold one grid of code words -/
def z_no : Nat → Bool := fun _ => false
def zI (g : Nat → Nat) (u : zS) (v : zM) : Prop := (∀ j, g j < 256) ∧ (∀ r, r < 6 → z_cw (fun k => g (6 * r + 1 * k))) ∧ (∀ c, c < 6 → z_cw (fun k => g (c + 6 * k))) ∧ (∀ j, u.2.1 j = false → u.1 j = g j) ∧ v.2 = u.2.1 ∧ (∀ r, r < 4 → ∀ c, c < 4 → v.1 (4 * r + c) = g (6 * r + c)) ∧ zOk u
def zJ (u : zS) (v : zM) : Prop := ∃ g, zI g u v
theorem zJ_0 : zJ z0 y0 := ⟨fun _ => 0, fun _ => (by decide : 0 < 256), fun _ _ => ⟨z_sm_0 0 6, z_sm_0 1 6⟩, fun _ _ => ⟨z_sm_0 0 6, z_sm_0 1 6⟩, fun _ _ => rfl, rfl, fun _ _ _ _ => rfl, fun _ => (by decide : 0 < 256), fun _ => (by decide : 0 < 256)⟩
-- losing
theorem zI_lose {g : Nat → Nat} {u : zS} {v : zM} (h : zI g u v) (cell : Nat) : zI g (z_lose u cell) (y_lose v cell) := by
  obtain ⟨h1, h2, h3, h4, h5, h6, h7⟩ := h
  refine ⟨h1, h2, h3, ?_, ?_, h6, z_up_lt h7.1 (by decide), h7.2⟩
  · intro j hj
    have hj : va_up u.2.1 cell true j = false := hj
    show va_up u.1 cell 0 j = g j
    unfold va_up at hj ⊢
    by_cases e : j = cell
    · rw [if_pos e] at hj
      cases hj
    · rw [if_neg e] at hj ⊢
      exact h4 j hj
  · show va_up v.2 cell true = va_up u.2.1 cell true
    rw [h5]
theorem zI_lr {g : Nat → Nat} {u : zS} {v : zM} (h : zI g u v) (f : Nat → Nat) (k : Nat) : (z_lr u f k).1 = (y_lr v f k).1 ∧ zI g (z_lr u f k).2 (y_lr v f k).2 := by
  induction k with
  | zero => exact ⟨rfl, h⟩
  | succ k ih =>
    obtain ⟨e, hi⟩ := ih
    refine ⟨?_, zI_lose hi (f k)⟩
    show (z_lr u f k).1 + z_was (z_lr u f k).2.2.1 (f k) = (y_lr v f k).1 + z_was (y_lr v f k).2.2 (f k)
    rw [e, hi.2.2.2.2.1]
-- mending
theorem y_mc_s (gone : Nat → Bool) (st sd k : Nat) : y_mc gone st sd (k + 1) = y_mc gone st sd k + (if gone (st + sd * k) = true then 1 else 0) := by
  show y_mc gone st sd k + (if gone (st + k * sd) = true then 1 else 0) = _
  rw [Nat.mul_comm k sd]
/-- what findLost has found, k cells looked at -/
def z_fp (sym : Nat → Nat) (gone : Nat → Bool) (st sd k : Nat) (t : (Nat → Nat) × Nat × Nat × Nat) : Prop :=
  (∀ m, m < k → t.1 m = if gone (st + sd * m) = true then 0 else sym (st + sd * m)) ∧ t.2.2.2 = y_mc gone st sd k ∧ (t.2.2.2 = 0 → ∀ m, m < k → gone (st + sd * m) = false) ∧
  (t.2.2.2 = 1 → t.2.1 < k ∧ gone (st + sd * t.2.1) = true ∧ ∀ m, m < k → m ≠ t.2.1 → gone (st + sd * m) = false) ∧
  (t.2.2.2 = 2 → t.2.1 < t.2.2.1 ∧ t.2.2.1 < k ∧ gone (st + sd * t.2.1) = true ∧ gone (st + sd * t.2.2.1) = true ∧ ∀ m, m < k → m ≠ t.2.1 → m ≠ t.2.2.1 → gone (st + sd * m) = false)
theorem z_fl_p (sym : Nat → Nat) (gone : Nat → Bool) (st sd : Nat) (v : (Nat → Nat) × Nat × Nat × Nat) (k : Nat) : z_fp sym gone st sd k (z_fl sym gone st sd v k) := by
  induction k with
  | zero =>
    refine ⟨fun m hm => absurd hm (Nat.not_lt_zero m), rfl, fun _ m hm => absurd hm (Nat.not_lt_zero m), fun h => ?_, fun h => ?_⟩
    · exact absurd (show (0 : Nat) = 1 from h) (by decide)
    · exact absurd (show (0 : Nat) = 2 from h) (by decide)
  | succ k ih =>
    by_cases hg : gone (st + sd * k) = true
    · by_cases h0 : (z_fl sym gone st sd v k).2.2.2 = 0
      · rw [z_fl_t0 hg h0]
        generalize z_fl sym gone st sd v k = t at ih h0
        obtain ⟨ln, f, s, n⟩ := t
        obtain ⟨a1, a2, a3, a4, a5⟩ := ih
        dsimp only at a1 a2 a3 a4 a5 h0
        unfold z_fp
        dsimp only
        rw [y_mc_s, if_pos hg]
        refine ⟨?_, by omega, fun h => by omega, fun _ => ⟨Nat.lt_succ_self k, hg, fun m hm hne => a3 h0 m (by omega)⟩, fun h => by omega⟩
        intro m hm
        by_cases e : m = k
        · rw [e, if_pos hg]
          exact if_pos rfl
        · rw [← a1 m (by omega)]
          exact if_neg e
      · rw [z_fl_t1 hg h0]
        generalize z_fl sym gone st sd v k = t at ih h0
        obtain ⟨ln, f, s, n⟩ := t
        obtain ⟨a1, a2, a3, a4, a5⟩ := ih
        dsimp only at a1 a2 a3 a4 a5 h0
        unfold z_fp
        dsimp only
        rw [y_mc_s, if_pos hg]
        refine ⟨?_, by omega, fun h => by omega, fun h => by omega, fun h => ?_⟩
        · intro m hm
          by_cases e : m = k
          · rw [e, if_pos hg]
            exact if_pos rfl
          · rw [← a1 m (by omega)]
            exact if_neg e
        · obtain ⟨b1, b2, b3⟩ := a4 (by omega)
          exact ⟨b1, Nat.lt_succ_self k, b2, hg, fun m hm h1 h2 => b3 m (by omega) h1⟩
    · have hg' : gone (st + sd * k) = false := by
        cases hq : gone (st + sd * k) with
        | true => exact absurd hq hg
        | false => rfl
      rw [z_fl_no hg']
      generalize z_fl sym gone st sd v k = t at ih
      obtain ⟨ln, f, s, n⟩ := t
      obtain ⟨a1, a2, a3, a4, a5⟩ := ih
      dsimp only at a1 a2 a3 a4 a5
      have last : ∀ m, m < k + 1 → ¬ m < k → gone (st + sd * m) = false := fun m h1 h2 => by
        have e : m = k := by omega
        rw [e]
        exact hg'
      unfold z_fp
      dsimp only
      rw [y_mc_s, if_neg hg]
      refine ⟨?_, by omega, fun h m hm => ?_, fun h => ?_, fun h => ?_⟩
      · intro m hm
        by_cases e : m = k
        · rw [e, if_neg hg]
          exact if_pos rfl
        · rw [← a1 m (by omega)]
          exact if_neg e
      · by_cases e : m < k
        · exact a3 h m e
        · exact last m hm e
      · obtain ⟨b1, b2, b3⟩ := a4 h
        refine ⟨by omega, b2, fun m hm hne => ?_⟩
        by_cases e : m < k
        · exact b3 m e hne
        · exact last m hm e
      · obtain ⟨b1, b2, b3, b4, b5⟩ := a5 h
        refine ⟨b1, by omega, b3, b4, fun m hm h1 h2 => ?_⟩
        by_cases e : m < k
        · exact b5 m e h1 h2
        · exact last m hm e
theorem y_mg_on (gone : Nat → Bool) (st sd k : Nat) : ∀ m, m < k → y_mg gone st sd k (st + sd * m) = false := by
  induction k with
  | zero => exact fun m hm => absurd hm (Nat.not_lt_zero m)
  | succ k ih =>
    intro m hm
    show va_up (y_mg gone st sd k) (st + k * sd) false (st + sd * m) = false
    unfold va_up
    by_cases e : st + sd * m = st + k * sd
    · rw [if_pos e]
    · rw [if_neg e]
      refine ih m ?_
      rcases Nat.lt_or_ge m k with q | q
      · exact q
      · have : m = k := by omega
        rw [this, Nat.mul_comm sd k] at e
        exact absurd rfl e
theorem y_mg_off (gone : Nat → Bool) (st sd j : Nat) (k : Nat) (h : ∀ m, m < k → j ≠ st + sd * m) : y_mg gone st sd k j = gone j := by
  induction k with
  | zero => rfl
  | succ k ih =>
    show va_up (y_mg gone st sd k) (st + k * sd) false j = gone j
    unfold va_up
    rw [if_neg (by rw [Nat.mul_comm k sd]; exact h k (Nat.lt_succ_self k))]
    exact ih (fun m hm => h m (Nat.lt_succ_of_lt hm))
theorem y_mg_eq {gone gone' : Nat → Bool} {st sd : Nat} (h1 : ∀ m, m < 6 → gone' (st + sd * m) = false) (h2 : ∀ j, (∀ m, m < 6 → j ≠ st + sd * m) → gone' j = gone j) : y_mg gone st sd 6 = gone' := by
  funext j
  by_cases h : ∃ m, m < 6 ∧ j = st + sd * m
  · obtain ⟨m, hm, rfl⟩ := h
    rw [y_mg_on gone st sd 6 m hm, h1 m hm]
  · have h' : ∀ m, m < 6 → j ≠ st + sd * m := fun m hm e => h ⟨m, hm, e⟩
    rw [y_mg_off gone st sd j 6 h', h2 j h']
theorem va_up_at {α : Type} (f : Nat → α) (k : Nat) (v : α) : va_up f k v k = v := if_pos rfl
theorem va_up_off {α : Type} (f : Nat → α) {k j : Nat} (v : α) (h : j ≠ k) : va_up f k v j = f j := if_neg h
/-- a line is mended -/
theorem zI_ml {g : Nat → Nat} {u : zS} {v : zM} (h : zI g u v) (st sd : Nat) (hF : z_cw (fun k => g (st + sd * k))) : (z_ml st sd u).1 = (y_ml st sd v).1 ∧ zI g (z_ml st sd u).2 (y_ml st sd v).2 := by
  have hok := z_ml_ok h.2.2.2.2.2.2 st sd
  obtain ⟨h1, h2, h3, h4, h5, h6, h7⟩ := h
  have hp := z_fl_p u.1 u.2.1 st sd u.2.2 6
  have e1 : y_mc v.2 st sd 6 = (z_fl u.1 u.2.1 st sd u.2.2 6).2.2.2 := by
    rw [h5]
    exact hp.2.1.symm
  unfold z_ml at hok ⊢
  unfold y_ml
  rw [e1]
  generalize z_fl u.1 u.2.1 st sd u.2.2 6 = t at hp e1 hok ⊢
  obtain ⟨ln, f, s, n⟩ := t
  obtain ⟨a1, a2, a3, a4, a5⟩ := hp
  dsimp only at a1 a2 a3 a4 a5
  unfold z_ml2 at hok ⊢
  dsimp only at hok ⊢
  rcases (show n = 0 ∨ n = 1 ∨ n = 2 ∨ 2 < n by omega) with e | e | e | e
  · subst e
    rw [if_pos (by omega)] at hok ⊢
    rw [if_neg (by omega)]
    refine ⟨rfl, h1, h2, h3, h4, ?_, h6, hok⟩
    show y_mg v.2 st sd 6 = u.2.1
    exact y_mg_eq (a3 rfl) (fun j _ => by rw [h5])
  · subst e
    rw [if_neg (by omega)] at hok ⊢
    rw [if_neg (by omega)]
    obtain ⟨b1, b2, b3⟩ := a4 rfl
    rw [z_ml34_1 (t := (u.1, u.2.1, ln, f, s, 1)) st sd rfl] at hok ⊢
    have hL : ∀ k, k < 6 → ln k = va_up (fun k => g (st + sd * k)) f 0 k := by
      intro k hk
      rw [a1 k hk]
      by_cases e : k = f
      · rw [e, if_pos b2, va_up_at]
      · have hgk := b3 k hk e
        rw [if_neg (by rw [hgk]; decide), va_up_off _ _ e]
        exact h4 _ hgk
    have hm := z_mend1 hF b1 (h1 _) hL
    refine ⟨rfl, h1, h2, h3, ?_, ?_, h6, hok⟩
    · intro j hj
      have hj : va_up u.2.1 (st + sd * f) false j = false := hj
      show va_up u.1 (st + sd * f) (z_m1 ln f (z_sm 0 ln 6) (z_sm 1 ln 6) f) j = g j
      by_cases e : j = st + sd * f
      · rw [e, va_up_at]
        exact hm
      · rw [va_up_off _ _ e] at hj ⊢
        exact h4 j hj
    · show y_mg v.2 st sd 6 = va_up u.2.1 (st + sd * f) false
      refine y_mg_eq (fun m hm => ?_) (fun j hj => ?_)
      · by_cases e : st + sd * m = st + sd * f
        · rw [e, va_up_at]
        · rw [va_up_off _ _ e]
          exact b3 m hm (fun q => e (by rw [q]))
      · rw [va_up_off _ _ (hj f b1), h5]
  · subst e
    rw [if_neg (by omega)] at hok ⊢
    rw [if_neg (by omega)]
    obtain ⟨b1, b2, b3, b4, b5⟩ := a5 rfl
    rw [z_ml34_2 (t := (u.1, u.2.1, ln, f, s, 2)) st sd rfl] at hok ⊢
    have hL : ∀ k, k < 6 → ln k = va_up (va_up (fun k => g (st + sd * k)) f 0) s 0 k := by
      intro k hk
      rw [a1 k hk]
      by_cases e : k = s
      · rw [e, if_pos b4, va_up_at]
      · rw [va_up_off _ _ e]
        by_cases e2 : k = f
        · rw [e2, if_pos b3, va_up_at]
        · have hgk := b5 k hk e2 e
          rw [if_neg (by rw [hgk]; decide), va_up_off _ _ e2]
          exact h4 _ hgk
    obtain ⟨hm1, hm2⟩ := z_mend2 hF b1 b2 (h1 _) (h1 _) hL
    refine ⟨rfl, h1, h2, h3, ?_, ?_, h6, hok⟩
    · intro j hj
      have hj : va_up (va_up u.2.1 (st + sd * f) false) (st + sd * s) false j = false := hj
      show va_up (va_up u.1 (st + sd * f) (z_m2 ln f s (z_sm 0 ln 6) (z_sm 1 ln 6) f)) (st + sd * s) (z_m2 ln f s (z_sm 0 ln 6) (z_sm 1 ln 6) s) j = g j
      by_cases e : j = st + sd * s
      · rw [e, va_up_at]
        exact hm2
      · rw [va_up_off _ _ e] at hj ⊢
        by_cases e2 : j = st + sd * f
        · rw [e2, va_up_at]
          exact hm1
        · rw [va_up_off _ _ e2] at hj ⊢
          exact h4 j hj
    · show y_mg v.2 st sd 6 = va_up (va_up u.2.1 (st + sd * f) false) (st + sd * s) false
      refine y_mg_eq (fun m hm => ?_) (fun j hj => ?_)
      · by_cases e : st + sd * m = st + sd * s
        · rw [e, va_up_at]
        · rw [va_up_off _ _ e]
          by_cases e2 : st + sd * m = st + sd * f
          · rw [e2, va_up_at]
          · rw [va_up_off _ _ e2]
            exact b5 m hm (fun q => e2 (by rw [q])) (fun q => e (by rw [q]))
      · rw [va_up_off _ _ (hj s b2), va_up_off _ _ (hj f (by omega)), h5]
  · rw [if_pos (by omega)] at hok ⊢
    rw [if_pos e]
    exact ⟨rfl, h1, h2, h3, h4, h5, h6, hok⟩
theorem zI_row {g : Nat → Nat} {u : zS} {v : zM} (h : zI g u v) {r : Nat} (hr : r < 6) : (z_ml (6 * r) 1 u).1 = (y_ml (6 * r) 1 v).1 ∧ zI g (z_ml (6 * r) 1 u).2 (y_ml (6 * r) 1 v).2 := zI_ml h (6 * r) 1 (h.2.1 r hr)
theorem zI_col {g : Nat → Nat} {u : zS} {v : zM} (h : zI g u v) {c : Nat} (hc : c < 6) : (z_ml c 6 u).1 = (y_ml c 6 v).1 ∧ zI g (z_ml c 6 u).2 (y_ml c 6 v).2 := zI_ml h c 6 (h.2.2.1 c hc)
theorem zI_rk {g : Nat → Nat} {u : zS} {v : zM} (h : zI g u v) (a k : Nat) (hk : k ≤ 6) : (y_rk a v k).1 = a + (z_rk u k).1 ∧ zI g (z_rk u k).2 (y_rk a v k).2 := by
  induction k with
  | zero => exact ⟨rfl, h⟩
  | succ k ih =>
    obtain ⟨e, hi⟩ := ih (by omega)
    obtain ⟨e1, i1⟩ := zI_row hi (show k < 6 by omega)
    obtain ⟨e2, i2⟩ := zI_col i1 (show k < 6 by omega)
    refine ⟨?_, i2⟩
    show (y_rk a v k).1 + (y_ml (6 * k) 1 (y_rk a v k).2).1 + (y_ml k 6 (y_ml (6 * k) 1 (y_rk a v k).2).2).1 = a + ((z_rk u k).1 + (z_ml (6 * k) 1 (z_rk u k).2).1 + (z_ml k 6 (z_ml (6 * k) 1 (z_rk u k).2).2).1)
    rw [e, ← e1, ← e2]
    omega
theorem z_md_s (f t : Nat) (u : zS) : z_md (f + 1) t u = if (z_rk u 6).1 = 0 then (t + (z_rk u 6).1, (z_rk u 6).2) else z_md f (t + (z_rk u 6).1) (z_rk u 6).2 := by rw [z_md]
theorem y_md_s (f t : Nat) (v : zM) : y_md (f + 1) t v = if (y_rk t v 6).1 ≤ t then y_rk t v 6 else y_md f (y_rk t v 6).1 (y_rk t v 6).2 := by rw [y_md]
theorem zI_md {g : Nat → Nat} (f : Nat) : ∀ (t : Nat) (u : zS) (v : zM), zI g u v → (z_md f t u).1 = (y_md f t v).1 ∧ zI g (z_md f t u).2 (y_md f t v).2 := by
  induction f with
  | zero => exact fun t u v h => ⟨rfl, h⟩
  | succ f ih =>
    intro t u v h
    obtain ⟨e, hi⟩ := zI_rk h t 6 (Nat.le_refl 6)
    rw [z_md_s, y_md_s]
    generalize z_rk u 6 = p at e hi ⊢
    generalize y_rk t v 6 = q at e hi ⊢
    obtain ⟨n, u1⟩ := p
    obtain ⟨n2, v1⟩ := q
    dsimp only at e hi ⊢
    by_cases h0 : n = 0
    · rw [if_pos h0, if_pos (by omega)]
      exact ⟨e.symm, hi⟩
    · rw [if_neg h0, if_neg (by omega), ← e]
      exact ih _ _ _ hi
-- what is there in all
theorem z_tot {g : Nat → Nat} {u : zS} {v : zM} (h : zI g u v) : z_tt u.1 u.2.1 4 = y_tt v.1 v.2 16 := by
  obtain ⟨h1, h2, h3, h4, h5, h6, h7⟩ := h
  have row : ∀ r, r < 4 → ∀ c, c ≤ 4 → y_tt v.1 v.2 (4 * r + c) = z_tc u.1 u.2.1 r (y_tt v.1 v.2 (4 * r)) c := by
    intro r hr c
    induction c with
    | zero => exact fun _ => rfl
    | succ c ih =>
      intro hc
      show y_tt v.1 v.2 (4 * r + c) + (if v.2 (6 * ((4 * r + c) / 4) + (4 * r + c) % 4) = true then 0 else v.1 (4 * r + c)) = z_tc u.1 u.2.1 r (y_tt v.1 v.2 (4 * r)) c + (if u.2.1 (6 * r + c) = true then 0 else u.1 (6 * r + c))
      rw [ih (by omega), show (4 * r + c) / 4 = r by omega, show (4 * r + c) % 4 = c by omega, h5]
      cases hg : u.2.1 (6 * r + c) with
      | true => rfl
      | false => rw [h6 r hr c (by omega), h4 _ hg]
  have all : ∀ r, r ≤ 4 → z_tt u.1 u.2.1 r = y_tt v.1 v.2 (4 * r) := by
    intro r
    induction r with
    | zero => exact fun _ => rfl
    | succ r ih =>
      intro hr
      show z_tc u.1 u.2.1 r (z_tt u.1 u.2.1 r) 4 = y_tt v.1 v.2 (4 * r + 4)
      rw [row r (by omega) 4 (Nat.le_refl 4), ih (by omega)]
  exact all 4 (Nat.le_refl 4)
end
section
/-! the plain law of write: the grid changes by a code word of code words -/
/-- the change d at the place c of a line, and what the line's two sums then owe -/
def z_e (c k d : Nat) : Nat := if k = c then d else if k = 4 then z_gm (z_wt 0 c) d else if k = 5 then z_gm (z_wt 1 c) d else 0
theorem z_e_lt {c k d : Nat} (h : d < 256) : z_e c k d < 256 := by
  unfold z_e
  split
  · exact h
  · split
    · exact z_gm_lt _ _
    · split
      · exact z_gm_lt _ _
      · decide
theorem z_e_tab : ∀ c, c < 4 → ∀ d, d < 256 → z_sm 0 (fun k => z_e c k d) 6 = 0 ∧ z_sm 1 (fun k => z_e c k d) 6 = 0 := by decide +kernel
theorem z_e_cw {c d : Nat} (hc : c < 4) (hd : d < 256) : z_cw (fun k => z_e c k d) := z_e_tab c hc d hd
theorem z_e_0 (c k : Nat) : z_e c k 0 = 0 := by
  unfold z_e
  rw [z_gm_0r, z_gm_0r]
  split
  · rfl
  · split
    · rfl
    · split <;> rfl
theorem z_e_gm {w c k d : Nat} (hw : z_W w) (hd : d < 256) : z_e c k (z_gm w d) = z_gm w (z_e c k d) := by
  unfold z_e
  by_cases h1 : k = c
  · rw [if_pos h1, if_pos h1]
  · rw [if_neg h1, if_neg h1]
    by_cases h2 : k = 4
    · rw [if_pos h2, if_pos h2]
      exact z_gm_cm (z_wt_W 0 c) hw hd
    · rw [if_neg h2, if_neg h2]
      by_cases h3 : k = 5
      · rw [if_pos h3, if_pos h3]
        exact z_gm_cm (z_wt_W 1 c) hw hd
      · rw [if_neg h3, if_neg h3, z_gm_0r]
theorem z_e_cm (c C r R : Nat) {d : Nat} (hd : d < 256) : z_e c C (z_e r R d) = z_e r R (z_e c C d) := by
  by_cases h1 : C = c
  · rw [show ∀ x, z_e c C x = x from fun x => if_pos h1, show z_e c C d = d from if_pos h1]
  · by_cases h2 : C = 4
    · have q : ∀ x, z_e c C x = z_gm (z_wt 0 c) x := fun x => by
        unfold z_e
        rw [if_neg h1, if_pos h2]
      rw [q, q, z_e_gm (z_wt_W 0 c) hd]
    · by_cases h3 : C = 5
      · have q : ∀ x, z_e c C x = z_gm (z_wt 1 c) x := fun x => by
          unfold z_e
          rw [if_neg h1, if_neg h2, if_pos h3]
        rw [q, q, z_e_gm (z_wt_W 1 c) hd]
      · have q : ∀ x, z_e c C x = 0 := fun x => by
          unfold z_e
          rw [if_neg h1, if_neg h2, if_neg h3]
        rw [q, q, z_e_0]
theorem z_cw_add {F G E : Nat → Nat} (hG : ∀ k, G k < 256) (hE : ∀ k, E k < 256) (h : ∀ k, k < 6 → F k = G k ^^^ E k) (cG : z_cw G) (cE : z_cw E) : z_cw F := by
  refine ⟨?_, ?_⟩
  · rw [z_sm_cg 6 h, z_sm_add hG hE, cG.1, cE.1, Nat.xor_self]
  · rw [z_sm_cg 6 h, z_sm_add hG hE, cG.2, cE.2, Nat.xor_self]
-- the grid itself: nothing of it is gone
def z_x (f : Nat → Nat) (i d : Nat) : Nat → Nat := va_up f i (f i ^^^ d)
theorem z_x_at (f : Nat → Nat) (i d j : Nat) : z_x f i d j = f j ^^^ (if j = i then d else 0) := by
  unfold z_x va_up
  by_cases h : j = i
  · rw [if_pos h, if_pos h, h]
  · rw [if_neg h, if_neg h, Nat.xor_zero]
theorem z_alter_no (f : Nat → Nat) (r c d : Nat) : z_alter f z_no r c d = z_x f (6 * r + c) d := if_neg (fun h : false = true => Bool.noConfusion h)
theorem z_up_x (f : Nat → Nat) (i v : Nat) : va_up f i v = z_x f i (f i ^^^ v) := by
  unfold z_x
  rw [z_xl]
theorem z_at2 {R C : Nat} (hC : C < 6) (a b : Nat) (hb : b < 6) : (6 * R + C = 6 * a + b) ↔ (R = a ∧ C = b) := by omega
theorem z_write_at (g : Nat → Nat) {r c : Nat} (x : Nat) (hr : r < 4) (hc : c < 4) {R C : Nat} (hC : C < 6) : z_write g z_no r c x (6 * R + C) = g (6 * R + C) ^^^ z_e c C (z_e r R (g (6 * r + c) ^^^ x)) := by
  unfold z_write z_wr2 z_wr1
  simp only [z_alter_no]
  rw [z_up_x]
  simp only [z_x_at]
  generalize g (6 * r + c) ^^^ x = d
  have n1 : r ≠ 4 := by omega
  have n2 : r ≠ 5 := by omega
  have n3 : c ≠ 4 := by omega
  have n4 : c ≠ 5 := by omega
  have hcc : c < 6 := by omega
  simp only [z_at2 hC r c hcc, z_at2 hC 4 c hcc, z_at2 hC 5 c hcc, z_at2 hC r 4 (by decide), z_at2 hC r 5 (by decide), z_at2 hC 4 4 (by decide), z_at2 hC 4 5 (by decide), z_at2 hC 5 4 (by decide), z_at2 hC 5 5 (by decide)]
  unfold z_e
  rcases (show R = r ∨ R = 4 ∨ R = 5 ∨ (R ≠ r ∧ R ≠ 4 ∧ R ≠ 5) by omega) with e1 | e1 | e1 | ⟨e1, e2, e3⟩ <;> rcases (show C = c ∨ C = 4 ∨ C = 5 ∨ (C ≠ c ∧ C ≠ 4 ∧ C ≠ 5) by omega) with f1 | f1 | f1 | ⟨f1, f2, f3⟩ <;> simp [*, n1.symm, n2.symm, n3.symm, n4.symm, z_gm_0r]
theorem z_alter_lt {f : Nat → Nat} {gone : Nat → Bool} {r c d : Nat} (hf : ∀ j, f j < 256) (hd : d < 256) : ∀ j, z_alter f gone r c d j < 256 := by
  unfold z_alter
  split
  · exact hf
  · exact z_up_lt hf (z_xor_lt (hf _) hd)
theorem z_wr1_lt {f : Nat → Nat} {gone : Nat → Bool} {r c d : Nat} (hf : ∀ j, f j < 256) (hd : d < 256) : ∀ j, z_wr1 f gone r c d j < 256 := z_alter_lt (z_alter_lt (z_alter_lt hf hd) (z_gm_lt _ _)) (z_gm_lt _ _)
theorem z_write_lt {f : Nat → Nat} {gone : Nat → Bool} {r c x : Nat} (hf : ∀ j, f j < 256) (hx : x < 256) : ∀ j, z_write f gone r c x j < 256 := z_alter_lt (z_alter_lt (z_wr1_lt (z_wr1_lt (z_up_lt hf hx) (z_gm_lt _ _)) (z_gm_lt _ _)) (z_gm_lt _ _)) (z_gm_lt _ _)
/-- where a cell is there, the shelf holds the grid's value -/
def zH (gone : Nat → Bool) (sym g : Nat → Nat) : Prop := ∀ j, gone j = false → sym j = g j
theorem zH_up {gone : Nat → Bool} {sym g : Nat → Nat} (h : zH gone sym g) (i x : Nat) : zH gone (va_up sym i x) (va_up g i x) := by
  intro j hj
  by_cases e : j = i
  · rw [e, va_up_at, va_up_at]
  · rw [va_up_off _ _ e, va_up_off _ _ e]
    exact h j hj
theorem zH_alter {gone : Nat → Bool} {sym g : Nat → Nat} (h : zH gone sym g) (r c d : Nat) : zH gone (z_alter sym gone r c d) (z_alter g z_no r c d) := by
  rw [z_alter_no]
  intro j hj
  rw [z_x_at]
  unfold z_alter
  by_cases hg : gone (6 * r + c) = true
  · rw [if_pos hg]
    have e : j ≠ 6 * r + c := fun q => by
      rw [q, hg] at hj
      cases hj
    rw [if_neg e, Nat.xor_zero]
    exact h j hj
  · rw [if_neg hg]
    by_cases e : j = 6 * r + c
    · rw [if_pos e, ← e, va_up_at, h j hj]
    · rw [if_neg e, Nat.xor_zero, va_up_off _ _ e]
      exact h j hj
theorem zH_wr1 {gone : Nat → Bool} {sym g : Nat → Nat} (h : zH gone sym g) (r c d : Nat) : zH gone (z_wr1 sym gone r c d) (z_wr1 g z_no r c d) := zH_alter (zH_alter (zH_alter h _ _ _) _ _ _) _ _ _
theorem zH_write {gone : Nat → Bool} {sym g : Nat → Nat} (h : zH gone sym g) (r c x : Nat) (hg : gone (6 * r + c) = false) : zH gone (z_write sym gone r c x) (z_write g z_no r c x) := by
  unfold z_write
  rw [h _ hg]
  exact zH_alter (zH_alter (zH_wr1 (zH_wr1 (zH_up h _ _) _ _ _) _ _ _) _ _ _) _ _ _
/-- a value is written -/
theorem zI_write {g : Nat → Nat} {u : zS} {v : zM} (h : zI g u v) {r c x : Nat} (hr : r < 4) (hc : c < 4) (hx : x < 256) (hg : u.2.1 (6 * r + c) = false) : zI (z_write g z_no r c x) (z_write u.1 u.2.1 r c x, u.2) (va_up v.1 (4 * r + c) x, v.2) := by
  obtain ⟨h1, h2, h3, h4, h5, h6, h7⟩ := h
  have hd : g (6 * r + c) ^^^ x < 256 := z_xor_lt (h1 _) hx
  refine ⟨z_write_lt h1 hx, fun R hR => ?_, fun C hC => ?_, zH_write h4 r c x hg, h5, fun R hR C hC => ?_, z_write_lt h7.1 hx, h7.2⟩
  · refine z_cw_add (G := fun k => g (6 * R + 1 * k)) (E := fun k => z_e c k (z_e r R (g (6 * r + c) ^^^ x))) (fun k => h1 _) (fun k => z_e_lt (z_e_lt hd)) (fun k hk => ?_) (h2 R hR) (z_e_cw hc (z_e_lt hd))
    show z_write g z_no r c x (6 * R + 1 * k) = g (6 * R + 1 * k) ^^^ z_e c k (z_e r R (g (6 * r + c) ^^^ x))
    rw [Nat.one_mul]
    exact z_write_at g x hr hc hk
  · refine z_cw_add (G := fun k => g (C + 6 * k)) (E := fun k => z_e r k (z_e c C (g (6 * r + c) ^^^ x))) (fun k => h1 _) (fun k => z_e_lt (z_e_lt hd)) (fun k hk => ?_) (h3 C hC) (z_e_cw hr (z_e_lt hd))
    show z_write g z_no r c x (C + 6 * k) = g (C + 6 * k) ^^^ z_e r k (z_e c C (g (6 * r + c) ^^^ x))
    rw [Nat.add_comm C, ← z_e_cm c C r k hd]
    exact z_write_at g x hr hc hC
  · show va_up v.1 (4 * r + c) x (4 * R + C) = z_write g z_no r c x (6 * R + C)
    rw [z_write_at g x hr hc (by omega)]
    by_cases eR : R = r
    · rw [show z_e r R (g (6 * r + c) ^^^ x) = g (6 * r + c) ^^^ x from if_pos eR]
      by_cases eC : C = c
      · rw [eR, eC, va_up_at, show z_e c c (g (6 * r + c) ^^^ x) = g (6 * r + c) ^^^ x from if_pos rfl, z_xl]
      · rw [va_up_off _ _ (by omega), h6 R hR C hC, show z_e c C (g (6 * r + c) ^^^ x) = 0 by unfold z_e; rw [if_neg eC, if_neg (by omega), if_neg (by omega)], Nat.xor_zero]
    · rw [va_up_off _ _ (by omega), h6 R hR C hC, show z_e r R (g (6 * r + c) ^^^ x) = 0 by unfold z_e; rw [if_neg eR, if_neg (by omega), if_neg (by omega)], z_e_0, Nat.xor_zero]
end
section
/-! each call of the law, on both sides: one answer, and the two still hold one grid -/
def op_P (l : Launch) (D : va_G) (ad : Nat → Nat) (kd : Nat → ClassId) (ae : Nat → Nat) (ke : Nat → ClassId) (u : zS) (v : zM) (yx : MethodName) (wx : List Cond) (rx : Room) (ym : MethodName) (wm : List Cond) (ry : Room) (av : List Value) : Prop :=
  ∃ (r : Int32) (u' : zS) (v' : zM), ys_I l yx wx rx D (tX kd) (.ref (ad 0) :: av) (wX ad kd u) (wX ad kd u') r ∧ ys_I l ym wm ry D (tM ke) (.ref (ae 0) :: av) (wM ae ke v) (wM ae ke v') r ∧ zJ u' v'
theorem z_in2 {n : Nat} (hn : n < 2 ^ 31) {a b : Int32} (h : (z_in (nI n) a && z_in (nI n) b) = true) : ∃ r c : Nat, r ≤ n ∧ c ≤ n ∧ a = nI r ∧ b = nI c := by
  rw [Bool.and_eq_true] at h
  obtain ⟨r, hr, e1⟩ := z_in_of hn h.1
  obtain ⟨c, hc, e2⟩ := z_in_of hn h.2
  exact ⟨r, c, hr, hc, e1, e2⟩
theorem op_write (l : Launch) (D : va_G) (ad : Nat → Nat) (kd : Nat → ClassId) (ae : Nat → Nat) (ke : Nat → ClassId) {u : zS} {v : zM} (h : zJ u v) (a : Int32) (b : Int32) (d : Int32) : op_P l D ad kd ae ke u v yX0_write (ws_ yX0_write cX0_write 12 (some .int)) ({ frames := 1, cells := 0, slots := 0, locals := 23 } : Room) yX1_write (ws_ yX1_write cX1_write 5 (some .int)) ({ frames := 1, cells := 0, slots := 0, locals := 21 } : Room) [.int a, .int b, .int d] := by
  cases ho : (z_in (nI 3) a && z_in (nI 3) b) with
  | false => exact ⟨-1, u, v, cx_write_out l D ad kd u a b d ho, cy_write_out l D ae ke v a b d ho, h⟩
  | true =>
    obtain ⟨r, c, hr, hc, rfl, rfl⟩ := z_in2 (n := 3) (by decide) ho
    obtain ⟨g, hI⟩ := h
    cases hg : u.2.1 (6 * r + c) with
    | true => exact ⟨-1, u, v, cx_write_gone l D ad kd u r c hr hc d hg, cy_write_gone l D ae ke v r c hr hc d (by rw [hI.2.2.2.2.1]; exact hg), g, hI⟩
    | false =>
      have e : u.1 (6 * r + c) = v.1 (4 * r + c) := by rw [hI.2.2.2.2.2.1 r (by omega) c (by omega), hI.2.2.2.1 _ hg]
      have hg' : v.2 (6 * r + c) = false := by
        rw [hI.2.2.2.2.1]
        exact hg
      refine ⟨nI (u.1 (6 * r + c)), (z_write u.1 u.2.1 r c (d.toBitVec.toNat % 256), u.2), (va_up v.1 (4 * r + c) (d.toBitVec.toNat % 256), v.2), cx_write_ok l D ad kd u r c hr hc d hg hI.2.2.2.2.2.2.1, ?_, _, zI_write hI (by omega) (by omega) (Nat.mod_lt _ (by decide)) hg⟩
      rw [e]
      exact cy_write_ok l D ae ke v r c hr hc d hg'
theorem op_read (l : Launch) (D : va_G) (ad : Nat → Nat) (kd : Nat → ClassId) (ae : Nat → Nat) (ke : Nat → ClassId) {u : zS} {v : zM} (h : zJ u v) (a : Int32) (b : Int32) : op_P l D ad kd ae ke u v yX0_read (ws_ yX0_read cX0_read 3 (some .int)) ({ frames := 1, cells := 0, slots := 0, locals := 21 } : Room) yX1_read (ws_ yX1_read cX1_read 3 (some .int)) ({ frames := 1, cells := 0, slots := 0, locals := 21 } : Room) [.int a, .int b] := by
  cases ho : (z_in (nI 3) a && z_in (nI 3) b) with
  | false => exact ⟨-1, u, v, cx_read_out l D ad kd u a b ho, cy_read_out l D ae ke v a b ho, h⟩
  | true =>
    obtain ⟨r, c, hr, hc, rfl, rfl⟩ := z_in2 (n := 3) (by decide) ho
    obtain ⟨g, hI⟩ := h
    cases hg : u.2.1 (6 * r + c) with
    | true => exact ⟨-1, u, v, cx_read_gone l D ad kd u r c hr hc hg, cy_read_gone l D ae ke v r c hr hc (by rw [hI.2.2.2.2.1]; exact hg), g, hI⟩
    | false =>
      have e : u.1 (6 * r + c) = v.1 (4 * r + c) := by rw [hI.2.2.2.2.2.1 r (by omega) c (by omega), hI.2.2.2.1 _ hg]
      have hg' : v.2 (6 * r + c) = false := by
        rw [hI.2.2.2.2.1]
        exact hg
      refine ⟨nI (u.1 (6 * r + c)), u, v, cx_read_ok l D ad kd u r c hr hc hg, ?_, g, hI⟩
      rw [e]
      exact cy_read_ok l D ae ke v r c hr hc hg'
theorem op_lose (l : Launch) (D : va_G) (ad : Nat → Nat) (kd : Nat → ClassId) (ae : Nat → Nat) (ke : Nat → ClassId) {u : zS} {v : zM} (h : zJ u v) (a : Int32) (b : Int32) : op_P l D ad kd ae ke u v yX0_lose (ws_ yX0_lose cX0_lose 5 (some .int)) ({ frames := 1, cells := 0, slots := 0, locals := 21 } : Room) yX1_lose (ws_ yX1_lose cX1_lose 4 (some .int)) ({ frames := 1, cells := 0, slots := 0, locals := 21 } : Room) [.int a, .int b] := by
  cases ho : (z_in (nI 5) a && z_in (nI 5) b) with
  | false => exact ⟨-1, u, v, cx_lose_out l D ad kd u a b ho, cy_lose_out l D ae ke v a b ho, h⟩
  | true =>
    obtain ⟨r, c, hr, hc, rfl, rfl⟩ := z_in2 (n := 5) (by decide) ho
    obtain ⟨g, hI⟩ := h
    have q := cy_lose l D ae ke v r c hr hc
    rw [hI.2.2.2.2.1] at q
    exact ⟨_, _, _, cx_lose l D ad kd u r c hr hc, q, g, zI_lose hI (6 * r + c)⟩
theorem op_loseRow (l : Launch) (D : va_G) (ad : Nat → Nat) (kd : Nat → ClassId) (ae : Nat → Nat) (ke : Nat → ClassId) {u : zS} {v : zM} (h : zJ u v) (a : Int32) : op_P l D ad kd ae ke u v yX0_loseRow (ws_ yX0_loseRow cX0_loseRow 4 (some .int)) ({ frames := 2, cells := 0, slots := 0, locals := 45 } : Room) yX1_loseRow (ws_ yX1_loseRow cX1_loseRow 4 (some .int)) ({ frames := 2, cells := 0, slots := 0, locals := 44 } : Room) [.int a] := by
  cases ho : z_in (nI 5) a with
  | false => exact ⟨-1, u, v, cx_loseRow_out l D ad kd u a (by rw [ho]; exact Bool.false_and _), cy_loseRow_out l D ae ke v a ho, h⟩
  | true =>
    obtain ⟨r, hr, rfl⟩ := z_in_of (n := 5) (by decide) ho
    obtain ⟨g, hI⟩ := h
    obtain ⟨e, hi⟩ := zI_lr hI (fun k => 6 * r + k) 6
    refine ⟨_, _, _, cx_loseRow l D ad kd u r hr, ?_, g, hi⟩
    rw [e]
    exact cy_loseRow l D ae ke v r hr
theorem op_loseColumn (l : Launch) (D : va_G) (ad : Nat → Nat) (kd : Nat → ClassId) (ae : Nat → Nat) (ke : Nat → ClassId) {u : zS} {v : zM} (h : zJ u v) (a : Int32) : op_P l D ad kd ae ke u v yX0_loseColumn (ws_ yX0_loseColumn cX0_loseColumn 4 (some .int)) ({ frames := 2, cells := 0, slots := 0, locals := 45 } : Room) yX1_loseColumn (ws_ yX1_loseColumn cX1_loseColumn 4 (some .int)) ({ frames := 2, cells := 0, slots := 0, locals := 44 } : Room) [.int a] := by
  cases ho : z_in (nI 5) a with
  | false => exact ⟨-1, u, v, cx_loseColumn_out l D ad kd u a (by rw [ho]; exact Bool.and_false _), cy_loseColumn_out l D ae ke v a ho, h⟩
  | true =>
    obtain ⟨r, hr, rfl⟩ := z_in_of (n := 5) (by decide) ho
    obtain ⟨g, hI⟩ := h
    obtain ⟨e, hi⟩ := zI_lr hI (fun k => 6 * k + r) 6
    refine ⟨_, _, _, cx_loseColumn l D ad kd u r hr, ?_, g, hi⟩
    rw [e]
    exact cy_loseColumn l D ae ke v r hr
theorem op_mendRow (l : Launch) (D : va_G) (ad : Nat → Nat) (kd : Nat → ClassId) (ae : Nat → Nat) (ke : Nat → ClassId) {u : zS} {v : zM} (h : zJ u v) (a : Int32) : op_P l D ad kd ae ke u v yX0_mendRow (ws_ yX0_mendRow cX0_mendRow 2 (some .int)) ({ frames := 3, cells := 0, slots := 0, locals := 75 } : Room) yX1_mendRow (ws_ yX1_mendRow cX1_mendRow 2 (some .int)) ({ frames := 1, cells := 0, slots := 0, locals := 24 } : Room) [.int a] := by
  cases ho : z_in (nI 5) a with
  | false => exact ⟨-1, u, v, cx_mendRow_out l D ad kd u a (by rw [ho]; exact Bool.false_and _), cy_mendRow_out l D ae ke v a ho, h⟩
  | true =>
    obtain ⟨r, hr, rfl⟩ := z_in_of (n := 5) (by decide) ho
    obtain ⟨g, hI⟩ := h
    obtain ⟨e, hi⟩ := zI_row hI (show r < 6 by omega)
    refine ⟨_, _, _, cx_mendRow l D ad kd u r hr hI.2.2.2.2.2.2, ?_, g, hi⟩
    rw [e]
    exact cy_mendRow l D ae ke v r hr
theorem op_mendColumn (l : Launch) (D : va_G) (ad : Nat → Nat) (kd : Nat → ClassId) (ae : Nat → Nat) (ke : Nat → ClassId) {u : zS} {v : zM} (h : zJ u v) (a : Int32) : op_P l D ad kd ae ke u v yX0_mendColumn (ws_ yX0_mendColumn cX0_mendColumn 2 (some .int)) ({ frames := 3, cells := 0, slots := 0, locals := 75 } : Room) yX1_mendColumn (ws_ yX1_mendColumn cX1_mendColumn 2 (some .int)) ({ frames := 1, cells := 0, slots := 0, locals := 24 } : Room) [.int a] := by
  cases ho : z_in (nI 5) a with
  | false => exact ⟨-1, u, v, cx_mendColumn_out l D ad kd u a (by rw [ho]; exact Bool.and_false _), cy_mendColumn_out l D ae ke v a ho, h⟩
  | true =>
    obtain ⟨r, hr, rfl⟩ := z_in_of (n := 5) (by decide) ho
    obtain ⟨g, hI⟩ := h
    obtain ⟨e, hi⟩ := zI_col hI (show r < 6 by omega)
    refine ⟨_, _, _, cx_mendColumn l D ad kd u r hr hI.2.2.2.2.2.2, ?_, g, hi⟩
    rw [e]
    exact cy_mendColumn l D ae ke v r hr
theorem op_mend (l : Launch) (D : va_G) (ad : Nat → Nat) (kd : Nat → ClassId) (ae : Nat → Nat) (ke : Nat → ClassId) {u : zS} {v : zM} (h : zJ u v) : op_P l D ad kd ae ke u v yX0_mend (ws_ yX0_mend cX0_mend 6 (some .int)) ({ frames := 3, cells := 0, slots := 0, locals := 75 } : Room) yX1_mend (ws_ yX1_mend cX1_mend 6 (some .int)) ({ frames := 2, cells := 0, slots := 0, locals := 45 } : Room) [] := by
  obtain ⟨g, hI⟩ := h
  obtain ⟨e, hi⟩ := zI_md 37 0 u v hI
  refine ⟨_, _, _, cx_mend l D ad kd u hI.2.2.2.2.2.2, ?_, g, hi⟩
  rw [e]
  exact cy_mend l D ae ke v
theorem op_lost (l : Launch) (D : va_G) (ad : Nat → Nat) (kd : Nat → ClassId) (ae : Nat → Nat) (ke : Nat → ClassId) {u : zS} {v : zM} (h : zJ u v) (a : Int32) (b : Int32) : op_P l D ad kd ae ke u v yX0_lost (ws_ yX0_lost cX0_lost 3 (some .int)) ({ frames := 1, cells := 0, slots := 0, locals := 21 } : Room) yX1_lost (ws_ yX1_lost cX1_lost 3 (some .int)) ({ frames := 1, cells := 0, slots := 0, locals := 21 } : Room) [.int a, .int b] := by
  cases ho : (z_in (nI 5) a && z_in (nI 5) b) with
  | false => exact ⟨-1, u, v, cx_lost_out l D ad kd u a b ho, cy_lost_out l D ae ke v a b ho, h⟩
  | true =>
    obtain ⟨r, c, hr, hc, rfl, rfl⟩ := z_in2 (n := 5) (by decide) ho
    obtain ⟨g, hI⟩ := h
    have q := cy_lost l D ae ke v r c hr hc
    rw [hI.2.2.2.2.1] at q
    exact ⟨_, u, v, cx_lost l D ad kd u r c hr hc, q, g, hI⟩
theorem op_losses (l : Launch) (D : va_G) (ad : Nat → Nat) (kd : Nat → ClassId) (ae : Nat → Nat) (ke : Nat → ClassId) {u : zS} {v : zM} (h : zJ u v) : op_P l D ad kd ae ke u v yX0_losses (ws_ yX0_losses cX0_losses 3 (some .int)) ({ frames := 0, cells := 0, slots := 0, locals := 0 } : Room) yX1_losses (ws_ yX1_losses cX1_losses 3 (some .int)) ({ frames := 0, cells := 0, slots := 0, locals := 0 } : Room) [] := by
  obtain ⟨g, hI⟩ := h
  have q := cy_losses l D ae ke v
  rw [hI.2.2.2.2.1] at q
  exact ⟨_, u, v, cx_losses l D ad kd u, q, g, hI⟩
theorem op_total (l : Launch) (D : va_G) (ad : Nat → Nat) (kd : Nat → ClassId) (ae : Nat → Nat) (ke : Nat → ClassId) {u : zS} {v : zM} (h : zJ u v) : op_P l D ad kd ae ke u v yX0_total (ws_ yX0_total cX0_total 4 (some .int)) ({ frames := 0, cells := 0, slots := 0, locals := 0 } : Room) yX1_total (ws_ yX1_total cX1_total 3 (some .int)) ({ frames := 0, cells := 0, slots := 0, locals := 0 } : Room) [] := by
  obtain ⟨g, hI⟩ := h
  have q := cy_total l D ae ke v
  rw [← z_tot hI] at q
  exact ⟨_, u, v, cx_total l D ad kd u, q, g, hI⟩
end
section
/-! THE CLAIM OUT OF ONE WALK OF THE LAW'S BODY. Your part is whole_start (and what it stands on); all else here is the same for every law, but numbers. -/
def R_law : String := "ProductShelfLaw"
def lw_P (b : Addr) (xs : List Int32) (args : Array Value) (s : State) : Prop := args = #[.ref b] ∧ s.IntsAt b xs ∧ xs.length ≤ 256 ∧ (Jvm.Cond.and given_1 narrow_1).before args s = true
def lw_Q (_ : Array Value) (s : State) (o : Outcome) (t : State) : Prop := o = .returned (some (.int 1)) ∧ Framed s o t [] 600000 7290000
def lw_Z (below : List Frame) (a : Array Value) (s : State) : State → Prop := fun t => ∃ o, t.status = .running ∧ Ended t below o ∧ lw_Q a s o t
/-- the law's own end, with 1 on the stack, nothing written that was there before, its room as the claim has it -/
theorem lw_ret {p : Program} {l : Launch} {e : Env} {s : State} {m : MethodId} {below : List Frame} {meth : Method} {c : Code} {b : Nat} (hx : p.tables.exec = Jvm.exec) (hb : c.code = code) (hr : meth.sig.returnType = ret) (hlocks : meth.locks = false) {pc : Nat} {H : Heap} {ls : Array Slot} (hdg : decode code pc = .ok (.ireturn, 1)) : W p l e room_1 s m #[Value.ref b] below meth c H [] 600000 7290000 (lw_Z below #[Value.ref b] s) (F0 m pc ls [.int 1]) := by
  intro T hT X
  obtain ⟨fs, hret, hrun, hended, hW, hframe⟩ := X.leave (v := some (.int 1)) (hlocks := hlocks) (fun h => by rw [hr] at h; cases h)
  have hmeth' : T.vm.method? m = some meth := X.method'
  refine ⟨T.setFrames fs, ?_, .returned (some (.int 1)), hrun, hended, rfl, ⟨_, rfl⟩, hW, hframe⟩
  jvm_step X.here [X.here.top, hx, hb, hdg, hmeth', hr, ret, narrow_b1]
  (try refine ⟨rfl, ?_⟩); (try refine ⟨rfl, ?_⟩)
  first | (intro acts; rw [hret _ acts rfl rfl rfl]) | rw [hret _ _ rfl rfl rfl]
  exact Steps.refl _
/-- what holds at the law's entry: the machine, the code, the tables' words (any of lw_tbl by 'hts w (by decide +kernel)'), the script of L ints xs at the cell b, what the Statement gives of the start (any of its parts by flat_of_before) -/
def lw_At (p : Program) (s : State) (m : MethodId) (meth : Method) (c : Code) (b L : Nat) (xs : Nat → Int32) : Prop :=
  p.tables.exec = Jvm.exec ∧ c.code = code ∧ meth.sig.returnType = ret ∧ c.maxLocals = 4 ∧ s.vm.findClass R_law = some m.cls ∧ (∀ w ∈ lw_tbl, w.before #[Value.ref b] s = true) ∧ va_X b L xs s s.heap ∧ b < s.heap.size ∧ meth.locks = false ∧ (Jvm.Cond.and given_1 narrow_1).before #[Value.ref b] s = true
end
section
/-! the law's arms: from its switch to its loop's foot -/
section YL
variable {p : Program} {l : Launch} {e : Env} {R : Room} {s : State} {m : MethodId} {args : Array Value} {below : List Frame} {meth : Method} {c : Code} {H : Heap} {locs : List Loc} {cells slots : Nat} {Q : State → Prop}
variable {cc : ByteArray} {pc : Nat} {ls : Array Slot} {rest : List Value} {D : va_G} {A : Nat → Prop} {w : va_W}
/-- a row of the script -/
theorem ys_sld (hx : p.tables.exec = Jvm.exec) (hb : c.code = cc) {b L : Nat} {xs : Nat → Int32} (hX : va_X b L xs s s.heap) (hbl : b < s.heap.size) (hbA : ¬ A b) (hM : ys_M D A s w H locs) {i : Nat} (hi : i < L) (hL : L < 2 ^ 31) (hdg : decode cc pc = .ok (.iaload, 1))
    (k : W p l e R s m args below meth c H locs cells slots Q (F0 m (pc + 1) ls (.int (xs i) :: rest))) : W p l e R s m args below meth c H locs cells slots Q (F0 m pc ls (.int (nI i) :: .ref b :: rest)) := by
  refine va_sld hx hb hX hbl hbA hM.2.2 (vp_in_nI hi hL) hdg ?_
  rw [nI_clamp (by omega)]
  exact k
theorem ys_iand15 (hx : p.tables.exec = Jvm.exec) (hb : c.code = cc) {x : Int32} (hdg : decode cc pc = .ok (.iand, 1)) (k : W p l e R s m args below meth c H locs cells slots Q (F0 m (pc + 1) ls (.int (nI (x.toBitVec.toNat % 16)) :: rest))) : W p l e R s m args below meth c H locs cells slots Q (F0 m pc ls (.int (nI 15) :: .int x :: rest)) := by
  refine lv_iand hx hb hdg ?_
  rw [pk_and x (m := nI 15) 4 (by decide)]
  exact k
variable {y : MethodName} {bytes : ByteArray} {maxL nL n index : Nat} {ret : Option FieldType} {ws : List Cond} {rm : Room} {own : String} {b : Addr} {As st0 : List Value} {wc wr w1 : va_W} {r : Int32} {tys : List (ClassId × FieldType)}
/-- a call over a part of the world: the rest stays -/
theorem ys_callF (S : CallFix p m c cc nL s args lw_all own) (hC : ys_I l y ws rm D tys (.ref b :: As) wc w1 r) {ci q0 : Nat} {qq : vw_C} {fs : List Value} (cw : CallW R s args own qq.1 index y bytes maxL ret ws rm 0 0 n) (hK : va_K D vwCl tys s) (hA : ∀ q, s.heap.size ≤ q → A q) (hM : ys_M D A s w H locs) (isC isR : List Nat) (h0 : isC.filterMap (fun i => w[i]?) = wc) (h1 : isC.map (fun i => w[i]?) = wc.map some) (h2 : isR.map (fun i => w[i]?) = wr.map some) (h3 : va_nd isC = true) (h4 : va_nd isR = true) (h5 : ∀ i ∈ isR, i ∉ isC) (hc : vwCl[ci]? = some qq) (he : wc[q0]? = some (b, .inr (ci, fs))) (hsz : ls.size = nL) (hn : As.length = n) (hst : st0 = As.reverse ++ .ref b :: rest) (hW : (rest.map fun v => v.category).sum ≤ 8) (hf : cells ≤ R.cells ∧ slots ≤ R.slots) (hdg : decode cc pc = .ok (.invokevirtual index, 3))
    (kk : ∀ (H1 : Heap) (locs1 : List Loc), ys_M D A s (wr ++ w1) H1 locs1 → W p l e R s m args below meth c H1 locs1 cells slots Q (F0 m (pc + 3) ls (.int r :: rest))) : W p l e R s m args below meth c H locs cells slots Q (F0 m pc ls st0) := by
  have hPc := hM.1.sub (ws' := wc) isC h0
  have hDc := hM.2.1.sub (ws' := wc) isC h3 h1
  have hF := va_free (wc := wc) hM.2.1 hM.2.2 hA isC h1
  refine va_calli (va_runV (As := As) (rest := rest) S (hC H.size) cw ⟨ys_blind, va_recv hK hPc hc he, fun U hU hW => ⟨rfl, by rw [hU], by rw [hU]; exact hPc, va_K.moved hW.alike hK, hDc.weaken (fun _ _ _ _ => trivial)⟩⟩ rfl hn hsz hst (lv_room hW) hdg hf) hM.2.2 (fun q _ h => hF q h) hF (fun r' u t H1 locs1 ht hvm hw hB hz hk hS => ?_)
  subst hw
  obtain ⟨hP1, hK1, hD1⟩ := hB
  rw [ht] at hP1
  obtain ⟨hP, hD⟩ := va_join (wr := wr) (w1 := w1) hM.1 hM.2.1 isC isR h1 h2 h4 h5 hk hF hP1 hD1
  exact kk H1 locs1 ⟨hP, hD, hS⟩
end YL
set_option maxHeartbeats 4000000 in
set_option maxRecDepth 100000 in
theorem lo_write {p : Program} {l : Launch} {e : Env} {s : State} {m : MethodId} {below : List Frame} {meth : Method} {c : Code} {D : va_G} {ad : Nat → Nat} {kd : Nat → ClassId} {ae : Nat → Nat} {ke : Nat → ClassId} {b L : Nat} {xs : Nat → Int32} (hL : L ≤ 256) (C0 : lw_At p s m meth c b L xs) (hKX : va_K D vwCl (tX kd) s) (hKM : va_K D vwCl (tM ke) s) {i : Nat} (hi : i + 4 ≤ L) {u : zS} {v : zM} (hJ : zJ u v) {H : Heap} {locs : List Loc} (hM : ys_M D (fun q : Nat => s.heap.size ≤ q) s (wX ad kd u ++ wM ae ke v) H locs) {ls : Array Slot} (hl : lv_has ls 4 [(0, .ref b), (1, .ref (ad 0)), (2, .ref (ae 0)), (3, .int (nI i))])
    (kk : ∀ (u' : zS) (v' : zM) (H' : Heap) (locs' : List Loc), zJ u' v' → ys_M D (fun q : Nat => s.heap.size ≤ q) s (wX ad kd u' ++ wM ae ke v') H' locs' → W p l e room_1 s m #[Value.ref b] below meth c H' locs' 9 908 (lw_Z below #[Value.ref b] s) (F0 m 365 ls [])) : W p l e room_1 s m #[Value.ref b] below meth c H locs 9 908 (lw_Z below #[Value.ref b] s) (F0 m 92 ls []) := by
  obtain ⟨hx, hb, hr, hml, hown, hts0, hX, hbl, hlocks, hgv⟩ := C0
  have hts : ∀ w ∈ lw_all, w.before #[Value.ref b] s = true := fun w h => hts0 w (lw_all_tbl h)
  have hA : ∀ q : Nat, s.heap.size ≤ q → (fun q : Nat => s.heap.size ≤ q) q := fun _ h => h
  have hbA : ¬ (fun q : Nat => s.heap.size ≤ q) b := Nat.not_le.mpr hbl
  obtain ⟨r, u', v', cX, cM, hJ'⟩ := op_write l D ad kd ae ke hJ (xs (i + 1)) (xs (i + 2)) (xs (i + 3))
  refine lv_aload_n hx hb dL_law_92 rfl (lv_at hl 1 rfl) ?_
  refine lv_aload_n hx hb dL_law_93 rfl (lv_at hl 0 rfl) ?_
  refine lv_iload_n hx hb dL_law_94 rfl (lv_at hl 3 rfl) ?_
  refine lv_iconst (v := (nI 1)) hx hb dL_law_95 (by decide) ?_
  refine ys_iadd (i := i) (j := 1) hx hb dL_law_96 ?_
  refine ys_sld (i := i + 1) hx hb hX hbl hbA hM (by omega) (by omega) dL_law_97 ?_
  refine lv_aload_n hx hb dL_law_98 rfl (lv_at hl 0 rfl) ?_
  refine lv_iload_n hx hb dL_law_99 rfl (lv_at hl 3 rfl) ?_
  refine lv_iconst (v := (nI 2)) hx hb dL_law_100 (by decide) ?_
  refine ys_iadd (i := i) (j := 2) hx hb dL_law_101 ?_
  refine ys_sld (i := i + 2) hx hb hX hbl hbA hM (by omega) (by omega) dL_law_102 ?_
  refine lv_aload_n hx hb dL_law_103 rfl (lv_at hl 0 rfl) ?_
  refine lv_iload_n hx hb dL_law_104 rfl (lv_at hl 3 rfl) ?_
  refine lv_iconst (v := (nI 3)) hx hb dL_law_105 (by decide) ?_
  refine ys_iadd (i := i) (j := 3) hx hb dL_law_106 ?_
  refine ys_sld (i := i + 3) hx hb hX hbl hbA hM (by omega) (by omega) dL_law_107 ?_
  refine ys_callF (As := [.int (xs (i + 1)), .int (xs (i + 2)), .int (xs (i + 3))]) (rest := []) (w1 := wX ad kd u') (wr := wM ae ke v) (ci := 0) (q0 := 0) ⟨hx, hb, hml, hown, hts⟩ cX (cwV 3 hts (lw_V q49 q50 q51 q12 q52) rfl rfl rfl (by decide +kernel) ⟨Nat.le_of_ble_eq_true rfl, Nat.le_of_ble_eq_true rfl⟩) hKX hA hM [0, 1, 2, 3, 4, 5] [6, 7, 8] rfl rfl rfl rfl rfl (by decide) rfl rfl hl.1 rfl rfl (Nat.le_of_ble_eq_true rfl) ⟨Nat.le_of_ble_eq_true rfl, Nat.le_of_ble_eq_true rfl⟩ dL_law_108 (fun H locs hM => ?_)
  refine lv_aload_n hx hb dL_law_111 rfl (lv_at hl 2 rfl) ?_
  refine lv_aload_n hx hb dL_law_112 rfl (lv_at hl 0 rfl) ?_
  refine lv_iload_n hx hb dL_law_113 rfl (lv_at hl 3 rfl) ?_
  refine lv_iconst (v := (nI 1)) hx hb dL_law_114 (by decide) ?_
  refine ys_iadd (i := i) (j := 1) hx hb dL_law_115 ?_
  refine ys_sld (i := i + 1) hx hb hX hbl hbA hM (by omega) (by omega) dL_law_116 ?_
  refine lv_aload_n hx hb dL_law_117 rfl (lv_at hl 0 rfl) ?_
  refine lv_iload_n hx hb dL_law_118 rfl (lv_at hl 3 rfl) ?_
  refine lv_iconst (v := (nI 2)) hx hb dL_law_119 (by decide) ?_
  refine ys_iadd (i := i) (j := 2) hx hb dL_law_120 ?_
  refine ys_sld (i := i + 2) hx hb hX hbl hbA hM (by omega) (by omega) dL_law_121 ?_
  refine lv_aload_n hx hb dL_law_122 rfl (lv_at hl 0 rfl) ?_
  refine lv_iload_n hx hb dL_law_123 rfl (lv_at hl 3 rfl) ?_
  refine lv_iconst (v := (nI 3)) hx hb dL_law_124 (by decide) ?_
  refine ys_iadd (i := i) (j := 3) hx hb dL_law_125 ?_
  refine ys_sld (i := i + 3) hx hb hX hbl hbA hM (by omega) (by omega) dL_law_126 ?_
  refine ys_callF (As := [.int (xs (i + 1)), .int (xs (i + 2)), .int (xs (i + 3))]) (rest := [.int r]) (w1 := wM ae ke v') (wr := wX ad kd u') (ci := 1) (q0 := 0) ⟨hx, hb, hml, hown, hts⟩ cM (cwV 3 hts (lw_V q153 q154 q155 q13 q156) rfl rfl rfl (by decide +kernel) ⟨Nat.le_of_ble_eq_true rfl, Nat.le_of_ble_eq_true rfl⟩) hKM hA hM [0, 1, 2] [3, 4, 5, 6, 7, 8] rfl rfl rfl rfl rfl (by decide) rfl rfl hl.1 rfl rfl (Nat.le_of_ble_eq_true rfl) ⟨Nat.le_of_ble_eq_true rfl, Nat.le_of_ble_eq_true rfl⟩ dL_law_127 (fun H locs hM => ?_)
  refine lv_icmp_eq (tgt := 365) hx hb dL_law_130 (by decide) (fun _ => ?_) (fun h => absurd rfl h)
  exact kk u' v' H locs hJ' hM
set_option maxHeartbeats 4000000 in
set_option maxRecDepth 100000 in
theorem lo_read {p : Program} {l : Launch} {e : Env} {s : State} {m : MethodId} {below : List Frame} {meth : Method} {c : Code} {D : va_G} {ad : Nat → Nat} {kd : Nat → ClassId} {ae : Nat → Nat} {ke : Nat → ClassId} {b L : Nat} {xs : Nat → Int32} (hL : L ≤ 256) (C0 : lw_At p s m meth c b L xs) (hKX : va_K D vwCl (tX kd) s) (hKM : va_K D vwCl (tM ke) s) {i : Nat} (hi : i + 4 ≤ L) {u : zS} {v : zM} (hJ : zJ u v) {H : Heap} {locs : List Loc} (hM : ys_M D (fun q : Nat => s.heap.size ≤ q) s (wX ad kd u ++ wM ae ke v) H locs) {ls : Array Slot} (hl : lv_has ls 4 [(0, .ref b), (1, .ref (ad 0)), (2, .ref (ae 0)), (3, .int (nI i))])
    (kk : ∀ (u' : zS) (v' : zM) (H' : Heap) (locs' : List Loc), zJ u' v' → ys_M D (fun q : Nat => s.heap.size ≤ q) s (wX ad kd u' ++ wM ae ke v') H' locs' → W p l e room_1 s m #[Value.ref b] below meth c H' locs' 9 908 (lw_Z below #[Value.ref b] s) (F0 m 365 ls [])) : W p l e room_1 s m #[Value.ref b] below meth c H locs 9 908 (lw_Z below #[Value.ref b] s) (F0 m 135 ls []) := by
  obtain ⟨hx, hb, hr, hml, hown, hts0, hX, hbl, hlocks, hgv⟩ := C0
  have hts : ∀ w ∈ lw_all, w.before #[Value.ref b] s = true := fun w h => hts0 w (lw_all_tbl h)
  have hA : ∀ q : Nat, s.heap.size ≤ q → (fun q : Nat => s.heap.size ≤ q) q := fun _ h => h
  have hbA : ¬ (fun q : Nat => s.heap.size ≤ q) b := Nat.not_le.mpr hbl
  obtain ⟨r, u', v', cX, cM, hJ'⟩ := op_read l D ad kd ae ke hJ (xs (i + 1)) (xs (i + 2))
  refine lv_aload_n hx hb dL_law_135 rfl (lv_at hl 1 rfl) ?_
  refine lv_aload_n hx hb dL_law_136 rfl (lv_at hl 0 rfl) ?_
  refine lv_iload_n hx hb dL_law_137 rfl (lv_at hl 3 rfl) ?_
  refine lv_iconst (v := (nI 1)) hx hb dL_law_138 (by decide) ?_
  refine ys_iadd (i := i) (j := 1) hx hb dL_law_139 ?_
  refine ys_sld (i := i + 1) hx hb hX hbl hbA hM (by omega) (by omega) dL_law_140 ?_
  refine lv_aload_n hx hb dL_law_141 rfl (lv_at hl 0 rfl) ?_
  refine lv_iload_n hx hb dL_law_142 rfl (lv_at hl 3 rfl) ?_
  refine lv_iconst (v := (nI 2)) hx hb dL_law_143 (by decide) ?_
  refine ys_iadd (i := i) (j := 2) hx hb dL_law_144 ?_
  refine ys_sld (i := i + 2) hx hb hX hbl hbA hM (by omega) (by omega) dL_law_145 ?_
  refine ys_callF (As := [.int (xs (i + 1)), .int (xs (i + 2))]) (rest := []) (w1 := wX ad kd u') (wr := wM ae ke v) (ci := 0) (q0 := 0) ⟨hx, hb, hml, hown, hts⟩ cX (cwV 2 hts (lw_V q68 q69 q70 q12 q71) rfl rfl rfl (by decide +kernel) ⟨Nat.le_of_ble_eq_true rfl, Nat.le_of_ble_eq_true rfl⟩) hKX hA hM [0, 1, 2, 3, 4, 5] [6, 7, 8] rfl rfl rfl rfl rfl (by decide) rfl rfl hl.1 rfl rfl (Nat.le_of_ble_eq_true rfl) ⟨Nat.le_of_ble_eq_true rfl, Nat.le_of_ble_eq_true rfl⟩ dL_law_146 (fun H locs hM => ?_)
  refine lv_aload_n hx hb dL_law_149 rfl (lv_at hl 2 rfl) ?_
  refine lv_aload_n hx hb dL_law_150 rfl (lv_at hl 0 rfl) ?_
  refine lv_iload_n hx hb dL_law_151 rfl (lv_at hl 3 rfl) ?_
  refine lv_iconst (v := (nI 1)) hx hb dL_law_152 (by decide) ?_
  refine ys_iadd (i := i) (j := 1) hx hb dL_law_153 ?_
  refine ys_sld (i := i + 1) hx hb hX hbl hbA hM (by omega) (by omega) dL_law_154 ?_
  refine lv_aload_n hx hb dL_law_155 rfl (lv_at hl 0 rfl) ?_
  refine lv_iload_n hx hb dL_law_156 rfl (lv_at hl 3 rfl) ?_
  refine lv_iconst (v := (nI 2)) hx hb dL_law_157 (by decide) ?_
  refine ys_iadd (i := i) (j := 2) hx hb dL_law_158 ?_
  refine ys_sld (i := i + 2) hx hb hX hbl hbA hM (by omega) (by omega) dL_law_159 ?_
  refine ys_callF (As := [.int (xs (i + 1)), .int (xs (i + 2))]) (rest := [.int r]) (w1 := wM ae ke v') (wr := wX ad kd u') (ci := 1) (q0 := 0) ⟨hx, hb, hml, hown, hts⟩ cM (cwV 2 hts (lw_V q160 q161 q162 q13 q163) rfl rfl rfl (by decide +kernel) ⟨Nat.le_of_ble_eq_true rfl, Nat.le_of_ble_eq_true rfl⟩) hKM hA hM [0, 1, 2] [3, 4, 5, 6, 7, 8] rfl rfl rfl rfl rfl (by decide) rfl rfl hl.1 rfl rfl (Nat.le_of_ble_eq_true rfl) ⟨Nat.le_of_ble_eq_true rfl, Nat.le_of_ble_eq_true rfl⟩ dL_law_160 (fun H locs hM => ?_)
  refine lv_icmp_eq (tgt := 365) hx hb dL_law_163 (by decide) (fun _ => ?_) (fun h => absurd rfl h)
  exact kk u' v' H locs hJ' hM
set_option maxHeartbeats 4000000 in
set_option maxRecDepth 100000 in
theorem lo_lose {p : Program} {l : Launch} {e : Env} {s : State} {m : MethodId} {below : List Frame} {meth : Method} {c : Code} {D : va_G} {ad : Nat → Nat} {kd : Nat → ClassId} {ae : Nat → Nat} {ke : Nat → ClassId} {b L : Nat} {xs : Nat → Int32} (hL : L ≤ 256) (C0 : lw_At p s m meth c b L xs) (hKX : va_K D vwCl (tX kd) s) (hKM : va_K D vwCl (tM ke) s) {i : Nat} (hi : i + 4 ≤ L) {u : zS} {v : zM} (hJ : zJ u v) {H : Heap} {locs : List Loc} (hM : ys_M D (fun q : Nat => s.heap.size ≤ q) s (wX ad kd u ++ wM ae ke v) H locs) {ls : Array Slot} (hl : lv_has ls 4 [(0, .ref b), (1, .ref (ad 0)), (2, .ref (ae 0)), (3, .int (nI i))])
    (kk : ∀ (u' : zS) (v' : zM) (H' : Heap) (locs' : List Loc), zJ u' v' → ys_M D (fun q : Nat => s.heap.size ≤ q) s (wX ad kd u' ++ wM ae ke v') H' locs' → W p l e room_1 s m #[Value.ref b] below meth c H' locs' 9 908 (lw_Z below #[Value.ref b] s) (F0 m 365 ls [])) : W p l e room_1 s m #[Value.ref b] below meth c H locs 9 908 (lw_Z below #[Value.ref b] s) (F0 m 168 ls []) := by
  obtain ⟨hx, hb, hr, hml, hown, hts0, hX, hbl, hlocks, hgv⟩ := C0
  have hts : ∀ w ∈ lw_all, w.before #[Value.ref b] s = true := fun w h => hts0 w (lw_all_tbl h)
  have hA : ∀ q : Nat, s.heap.size ≤ q → (fun q : Nat => s.heap.size ≤ q) q := fun _ h => h
  have hbA : ¬ (fun q : Nat => s.heap.size ≤ q) b := Nat.not_le.mpr hbl
  obtain ⟨r, u', v', cX, cM, hJ'⟩ := op_lose l D ad kd ae ke hJ (xs (i + 1)) (xs (i + 2))
  refine lv_aload_n hx hb dL_law_168 rfl (lv_at hl 1 rfl) ?_
  refine lv_aload_n hx hb dL_law_169 rfl (lv_at hl 0 rfl) ?_
  refine lv_iload_n hx hb dL_law_170 rfl (lv_at hl 3 rfl) ?_
  refine lv_iconst (v := (nI 1)) hx hb dL_law_171 (by decide) ?_
  refine ys_iadd (i := i) (j := 1) hx hb dL_law_172 ?_
  refine ys_sld (i := i + 1) hx hb hX hbl hbA hM (by omega) (by omega) dL_law_173 ?_
  refine lv_aload_n hx hb dL_law_174 rfl (lv_at hl 0 rfl) ?_
  refine lv_iload_n hx hb dL_law_175 rfl (lv_at hl 3 rfl) ?_
  refine lv_iconst (v := (nI 2)) hx hb dL_law_176 (by decide) ?_
  refine ys_iadd (i := i) (j := 2) hx hb dL_law_177 ?_
  refine ys_sld (i := i + 2) hx hb hX hbl hbA hM (by omega) (by omega) dL_law_178 ?_
  refine ys_callF (As := [.int (xs (i + 1)), .int (xs (i + 2))]) (rest := []) (w1 := wX ad kd u') (wr := wM ae ke v) (ci := 0) (q0 := 0) ⟨hx, hb, hml, hown, hts⟩ cX (cwV 2 hts (lw_V q72 q73 q74 q12 q75) rfl rfl rfl (by decide +kernel) ⟨Nat.le_of_ble_eq_true rfl, Nat.le_of_ble_eq_true rfl⟩) hKX hA hM [0, 1, 2, 3, 4, 5] [6, 7, 8] rfl rfl rfl rfl rfl (by decide) rfl rfl hl.1 rfl rfl (Nat.le_of_ble_eq_true rfl) ⟨Nat.le_of_ble_eq_true rfl, Nat.le_of_ble_eq_true rfl⟩ dL_law_179 (fun H locs hM => ?_)
  refine lv_aload_n hx hb dL_law_182 rfl (lv_at hl 2 rfl) ?_
  refine lv_aload_n hx hb dL_law_183 rfl (lv_at hl 0 rfl) ?_
  refine lv_iload_n hx hb dL_law_184 rfl (lv_at hl 3 rfl) ?_
  refine lv_iconst (v := (nI 1)) hx hb dL_law_185 (by decide) ?_
  refine ys_iadd (i := i) (j := 1) hx hb dL_law_186 ?_
  refine ys_sld (i := i + 1) hx hb hX hbl hbA hM (by omega) (by omega) dL_law_187 ?_
  refine lv_aload_n hx hb dL_law_188 rfl (lv_at hl 0 rfl) ?_
  refine lv_iload_n hx hb dL_law_189 rfl (lv_at hl 3 rfl) ?_
  refine lv_iconst (v := (nI 2)) hx hb dL_law_190 (by decide) ?_
  refine ys_iadd (i := i) (j := 2) hx hb dL_law_191 ?_
  refine ys_sld (i := i + 2) hx hb hX hbl hbA hM (by omega) (by omega) dL_law_192 ?_
  refine ys_callF (As := [.int (xs (i + 1)), .int (xs (i + 2))]) (rest := [.int r]) (w1 := wM ae ke v') (wr := wX ad kd u') (ci := 1) (q0 := 0) ⟨hx, hb, hml, hown, hts⟩ cM (cwV 2 hts (lw_V q164 q165 q166 q13 q167) rfl rfl rfl (by decide +kernel) ⟨Nat.le_of_ble_eq_true rfl, Nat.le_of_ble_eq_true rfl⟩) hKM hA hM [0, 1, 2] [3, 4, 5, 6, 7, 8] rfl rfl rfl rfl rfl (by decide) rfl rfl hl.1 rfl rfl (Nat.le_of_ble_eq_true rfl) ⟨Nat.le_of_ble_eq_true rfl, Nat.le_of_ble_eq_true rfl⟩ dL_law_193 (fun H locs hM => ?_)
  refine lv_icmp_eq (tgt := 365) hx hb dL_law_196 (by decide) (fun _ => ?_) (fun h => absurd rfl h)
  exact kk u' v' H locs hJ' hM
set_option maxHeartbeats 4000000 in
set_option maxRecDepth 100000 in
theorem lo_loseRow {p : Program} {l : Launch} {e : Env} {s : State} {m : MethodId} {below : List Frame} {meth : Method} {c : Code} {D : va_G} {ad : Nat → Nat} {kd : Nat → ClassId} {ae : Nat → Nat} {ke : Nat → ClassId} {b L : Nat} {xs : Nat → Int32} (hL : L ≤ 256) (C0 : lw_At p s m meth c b L xs) (hKX : va_K D vwCl (tX kd) s) (hKM : va_K D vwCl (tM ke) s) {i : Nat} (hi : i + 4 ≤ L) {u : zS} {v : zM} (hJ : zJ u v) {H : Heap} {locs : List Loc} (hM : ys_M D (fun q : Nat => s.heap.size ≤ q) s (wX ad kd u ++ wM ae ke v) H locs) {ls : Array Slot} (hl : lv_has ls 4 [(0, .ref b), (1, .ref (ad 0)), (2, .ref (ae 0)), (3, .int (nI i))])
    (kk : ∀ (u' : zS) (v' : zM) (H' : Heap) (locs' : List Loc), zJ u' v' → ys_M D (fun q : Nat => s.heap.size ≤ q) s (wX ad kd u' ++ wM ae ke v') H' locs' → W p l e room_1 s m #[Value.ref b] below meth c H' locs' 9 908 (lw_Z below #[Value.ref b] s) (F0 m 365 ls [])) : W p l e room_1 s m #[Value.ref b] below meth c H locs 9 908 (lw_Z below #[Value.ref b] s) (F0 m 201 ls []) := by
  obtain ⟨hx, hb, hr, hml, hown, hts0, hX, hbl, hlocks, hgv⟩ := C0
  have hts : ∀ w ∈ lw_all, w.before #[Value.ref b] s = true := fun w h => hts0 w (lw_all_tbl h)
  have hA : ∀ q : Nat, s.heap.size ≤ q → (fun q : Nat => s.heap.size ≤ q) q := fun _ h => h
  have hbA : ¬ (fun q : Nat => s.heap.size ≤ q) b := Nat.not_le.mpr hbl
  obtain ⟨r, u', v', cX, cM, hJ'⟩ := op_loseRow l D ad kd ae ke hJ (xs (i + 1))
  refine lv_aload_n hx hb dL_law_201 rfl (lv_at hl 1 rfl) ?_
  refine lv_aload_n hx hb dL_law_202 rfl (lv_at hl 0 rfl) ?_
  refine lv_iload_n hx hb dL_law_203 rfl (lv_at hl 3 rfl) ?_
  refine lv_iconst (v := (nI 1)) hx hb dL_law_204 (by decide) ?_
  refine ys_iadd (i := i) (j := 1) hx hb dL_law_205 ?_
  refine ys_sld (i := i + 1) hx hb hX hbl hbA hM (by omega) (by omega) dL_law_206 ?_
  refine ys_callF (As := [.int (xs (i + 1))]) (rest := []) (w1 := wX ad kd u') (wr := wM ae ke v) (ci := 0) (q0 := 0) ⟨hx, hb, hml, hown, hts⟩ cX (cwV 1 hts (lw_V q79 q80 q81 q12 q82) rfl rfl rfl (by decide +kernel) ⟨Nat.le_of_ble_eq_true rfl, Nat.le_of_ble_eq_true rfl⟩) hKX hA hM [0, 1, 2, 3, 4, 5] [6, 7, 8] rfl rfl rfl rfl rfl (by decide) rfl rfl hl.1 rfl rfl (Nat.le_of_ble_eq_true rfl) ⟨Nat.le_of_ble_eq_true rfl, Nat.le_of_ble_eq_true rfl⟩ dL_law_207 (fun H locs hM => ?_)
  refine lv_aload_n hx hb dL_law_210 rfl (lv_at hl 2 rfl) ?_
  refine lv_aload_n hx hb dL_law_211 rfl (lv_at hl 0 rfl) ?_
  refine lv_iload_n hx hb dL_law_212 rfl (lv_at hl 3 rfl) ?_
  refine lv_iconst (v := (nI 1)) hx hb dL_law_213 (by decide) ?_
  refine ys_iadd (i := i) (j := 1) hx hb dL_law_214 ?_
  refine ys_sld (i := i + 1) hx hb hX hbl hbA hM (by omega) (by omega) dL_law_215 ?_
  refine ys_callF (As := [.int (xs (i + 1))]) (rest := [.int r]) (w1 := wM ae ke v') (wr := wX ad kd u') (ci := 1) (q0 := 0) ⟨hx, hb, hml, hown, hts⟩ cM (cwV 1 hts (lw_V q168 q169 q170 q13 q171) rfl rfl rfl (by decide +kernel) ⟨Nat.le_of_ble_eq_true rfl, Nat.le_of_ble_eq_true rfl⟩) hKM hA hM [0, 1, 2] [3, 4, 5, 6, 7, 8] rfl rfl rfl rfl rfl (by decide) rfl rfl hl.1 rfl rfl (Nat.le_of_ble_eq_true rfl) ⟨Nat.le_of_ble_eq_true rfl, Nat.le_of_ble_eq_true rfl⟩ dL_law_216 (fun H locs hM => ?_)
  refine lv_icmp_eq (tgt := 365) hx hb dL_law_219 (by decide) (fun _ => ?_) (fun h => absurd rfl h)
  exact kk u' v' H locs hJ' hM
set_option maxHeartbeats 4000000 in
set_option maxRecDepth 100000 in
theorem lo_loseColumn {p : Program} {l : Launch} {e : Env} {s : State} {m : MethodId} {below : List Frame} {meth : Method} {c : Code} {D : va_G} {ad : Nat → Nat} {kd : Nat → ClassId} {ae : Nat → Nat} {ke : Nat → ClassId} {b L : Nat} {xs : Nat → Int32} (hL : L ≤ 256) (C0 : lw_At p s m meth c b L xs) (hKX : va_K D vwCl (tX kd) s) (hKM : va_K D vwCl (tM ke) s) {i : Nat} (hi : i + 4 ≤ L) {u : zS} {v : zM} (hJ : zJ u v) {H : Heap} {locs : List Loc} (hM : ys_M D (fun q : Nat => s.heap.size ≤ q) s (wX ad kd u ++ wM ae ke v) H locs) {ls : Array Slot} (hl : lv_has ls 4 [(0, .ref b), (1, .ref (ad 0)), (2, .ref (ae 0)), (3, .int (nI i))])
    (kk : ∀ (u' : zS) (v' : zM) (H' : Heap) (locs' : List Loc), zJ u' v' → ys_M D (fun q : Nat => s.heap.size ≤ q) s (wX ad kd u' ++ wM ae ke v') H' locs' → W p l e room_1 s m #[Value.ref b] below meth c H' locs' 9 908 (lw_Z below #[Value.ref b] s) (F0 m 365 ls [])) : W p l e room_1 s m #[Value.ref b] below meth c H locs 9 908 (lw_Z below #[Value.ref b] s) (F0 m 224 ls []) := by
  obtain ⟨hx, hb, hr, hml, hown, hts0, hX, hbl, hlocks, hgv⟩ := C0
  have hts : ∀ w ∈ lw_all, w.before #[Value.ref b] s = true := fun w h => hts0 w (lw_all_tbl h)
  have hA : ∀ q : Nat, s.heap.size ≤ q → (fun q : Nat => s.heap.size ≤ q) q := fun _ h => h
  have hbA : ¬ (fun q : Nat => s.heap.size ≤ q) b := Nat.not_le.mpr hbl
  obtain ⟨r, u', v', cX, cM, hJ'⟩ := op_loseColumn l D ad kd ae ke hJ (xs (i + 1))
  refine lv_aload_n hx hb dL_law_224 rfl (lv_at hl 1 rfl) ?_
  refine lv_aload_n hx hb dL_law_225 rfl (lv_at hl 0 rfl) ?_
  refine lv_iload_n hx hb dL_law_226 rfl (lv_at hl 3 rfl) ?_
  refine lv_iconst (v := (nI 1)) hx hb dL_law_227 (by decide) ?_
  refine ys_iadd (i := i) (j := 1) hx hb dL_law_228 ?_
  refine ys_sld (i := i + 1) hx hb hX hbl hbA hM (by omega) (by omega) dL_law_229 ?_
  refine ys_callF (As := [.int (xs (i + 1))]) (rest := []) (w1 := wX ad kd u') (wr := wM ae ke v) (ci := 0) (q0 := 0) ⟨hx, hb, hml, hown, hts⟩ cX (cwV 1 hts (lw_V q84 q85 q86 q12 q87) rfl rfl rfl (by decide +kernel) ⟨Nat.le_of_ble_eq_true rfl, Nat.le_of_ble_eq_true rfl⟩) hKX hA hM [0, 1, 2, 3, 4, 5] [6, 7, 8] rfl rfl rfl rfl rfl (by decide) rfl rfl hl.1 rfl rfl (Nat.le_of_ble_eq_true rfl) ⟨Nat.le_of_ble_eq_true rfl, Nat.le_of_ble_eq_true rfl⟩ dL_law_230 (fun H locs hM => ?_)
  refine lv_aload_n hx hb dL_law_233 rfl (lv_at hl 2 rfl) ?_
  refine lv_aload_n hx hb dL_law_234 rfl (lv_at hl 0 rfl) ?_
  refine lv_iload_n hx hb dL_law_235 rfl (lv_at hl 3 rfl) ?_
  refine lv_iconst (v := (nI 1)) hx hb dL_law_236 (by decide) ?_
  refine ys_iadd (i := i) (j := 1) hx hb dL_law_237 ?_
  refine ys_sld (i := i + 1) hx hb hX hbl hbA hM (by omega) (by omega) dL_law_238 ?_
  refine ys_callF (As := [.int (xs (i + 1))]) (rest := [.int r]) (w1 := wM ae ke v') (wr := wX ad kd u') (ci := 1) (q0 := 0) ⟨hx, hb, hml, hown, hts⟩ cM (cwV 1 hts (lw_V q173 q174 q175 q13 q176) rfl rfl rfl (by decide +kernel) ⟨Nat.le_of_ble_eq_true rfl, Nat.le_of_ble_eq_true rfl⟩) hKM hA hM [0, 1, 2] [3, 4, 5, 6, 7, 8] rfl rfl rfl rfl rfl (by decide) rfl rfl hl.1 rfl rfl (Nat.le_of_ble_eq_true rfl) ⟨Nat.le_of_ble_eq_true rfl, Nat.le_of_ble_eq_true rfl⟩ dL_law_239 (fun H locs hM => ?_)
  refine lv_icmp_eq (tgt := 365) hx hb dL_law_242 (by decide) (fun _ => ?_) (fun h => absurd rfl h)
  exact kk u' v' H locs hJ' hM
set_option maxHeartbeats 4000000 in
set_option maxRecDepth 100000 in
theorem lo_mendRow {p : Program} {l : Launch} {e : Env} {s : State} {m : MethodId} {below : List Frame} {meth : Method} {c : Code} {D : va_G} {ad : Nat → Nat} {kd : Nat → ClassId} {ae : Nat → Nat} {ke : Nat → ClassId} {b L : Nat} {xs : Nat → Int32} (hL : L ≤ 256) (C0 : lw_At p s m meth c b L xs) (hKX : va_K D vwCl (tX kd) s) (hKM : va_K D vwCl (tM ke) s) {i : Nat} (hi : i + 4 ≤ L) {u : zS} {v : zM} (hJ : zJ u v) {H : Heap} {locs : List Loc} (hM : ys_M D (fun q : Nat => s.heap.size ≤ q) s (wX ad kd u ++ wM ae ke v) H locs) {ls : Array Slot} (hl : lv_has ls 4 [(0, .ref b), (1, .ref (ad 0)), (2, .ref (ae 0)), (3, .int (nI i))])
    (kk : ∀ (u' : zS) (v' : zM) (H' : Heap) (locs' : List Loc), zJ u' v' → ys_M D (fun q : Nat => s.heap.size ≤ q) s (wX ad kd u' ++ wM ae ke v') H' locs' → W p l e room_1 s m #[Value.ref b] below meth c H' locs' 9 908 (lw_Z below #[Value.ref b] s) (F0 m 365 ls [])) : W p l e room_1 s m #[Value.ref b] below meth c H locs 9 908 (lw_Z below #[Value.ref b] s) (F0 m 247 ls []) := by
  obtain ⟨hx, hb, hr, hml, hown, hts0, hX, hbl, hlocks, hgv⟩ := C0
  have hts : ∀ w ∈ lw_all, w.before #[Value.ref b] s = true := fun w h => hts0 w (lw_all_tbl h)
  have hA : ∀ q : Nat, s.heap.size ≤ q → (fun q : Nat => s.heap.size ≤ q) q := fun _ h => h
  have hbA : ¬ (fun q : Nat => s.heap.size ≤ q) b := Nat.not_le.mpr hbl
  obtain ⟨r, u', v', cX, cM, hJ'⟩ := op_mendRow l D ad kd ae ke hJ (xs (i + 1))
  refine lv_aload_n hx hb dL_law_247 rfl (lv_at hl 1 rfl) ?_
  refine lv_aload_n hx hb dL_law_248 rfl (lv_at hl 0 rfl) ?_
  refine lv_iload_n hx hb dL_law_249 rfl (lv_at hl 3 rfl) ?_
  refine lv_iconst (v := (nI 1)) hx hb dL_law_250 (by decide) ?_
  refine ys_iadd (i := i) (j := 1) hx hb dL_law_251 ?_
  refine ys_sld (i := i + 1) hx hb hX hbl hbA hM (by omega) (by omega) dL_law_252 ?_
  refine ys_callF (As := [.int (xs (i + 1))]) (rest := []) (w1 := wX ad kd u') (wr := wM ae ke v) (ci := 0) (q0 := 0) ⟨hx, hb, hml, hown, hts⟩ cX (cwV 1 hts (lw_V q88 q89 q90 q12 q91) rfl rfl rfl (by decide +kernel) ⟨Nat.le_of_ble_eq_true rfl, Nat.le_of_ble_eq_true rfl⟩) hKX hA hM [0, 1, 2, 3, 4, 5] [6, 7, 8] rfl rfl rfl rfl rfl (by decide) rfl rfl hl.1 rfl rfl (Nat.le_of_ble_eq_true rfl) ⟨Nat.le_of_ble_eq_true rfl, Nat.le_of_ble_eq_true rfl⟩ dL_law_253 (fun H locs hM => ?_)
  refine lv_aload_n hx hb dL_law_256 rfl (lv_at hl 2 rfl) ?_
  refine lv_aload_n hx hb dL_law_257 rfl (lv_at hl 0 rfl) ?_
  refine lv_iload_n hx hb dL_law_258 rfl (lv_at hl 3 rfl) ?_
  refine lv_iconst (v := (nI 1)) hx hb dL_law_259 (by decide) ?_
  refine ys_iadd (i := i) (j := 1) hx hb dL_law_260 ?_
  refine ys_sld (i := i + 1) hx hb hX hbl hbA hM (by omega) (by omega) dL_law_261 ?_
  refine ys_callF (As := [.int (xs (i + 1))]) (rest := [.int r]) (w1 := wM ae ke v') (wr := wX ad kd u') (ci := 1) (q0 := 0) ⟨hx, hb, hml, hown, hts⟩ cM (cwV 1 hts (lw_V q177 q178 q179 q13 q180) rfl rfl rfl (by decide +kernel) ⟨Nat.le_of_ble_eq_true rfl, Nat.le_of_ble_eq_true rfl⟩) hKM hA hM [0, 1, 2] [3, 4, 5, 6, 7, 8] rfl rfl rfl rfl rfl (by decide) rfl rfl hl.1 rfl rfl (Nat.le_of_ble_eq_true rfl) ⟨Nat.le_of_ble_eq_true rfl, Nat.le_of_ble_eq_true rfl⟩ dL_law_262 (fun H locs hM => ?_)
  refine lv_icmp_eq (tgt := 365) hx hb dL_law_265 (by decide) (fun _ => ?_) (fun h => absurd rfl h)
  exact kk u' v' H locs hJ' hM
set_option maxHeartbeats 4000000 in
set_option maxRecDepth 100000 in
theorem lo_mendColumn {p : Program} {l : Launch} {e : Env} {s : State} {m : MethodId} {below : List Frame} {meth : Method} {c : Code} {D : va_G} {ad : Nat → Nat} {kd : Nat → ClassId} {ae : Nat → Nat} {ke : Nat → ClassId} {b L : Nat} {xs : Nat → Int32} (hL : L ≤ 256) (C0 : lw_At p s m meth c b L xs) (hKX : va_K D vwCl (tX kd) s) (hKM : va_K D vwCl (tM ke) s) {i : Nat} (hi : i + 4 ≤ L) {u : zS} {v : zM} (hJ : zJ u v) {H : Heap} {locs : List Loc} (hM : ys_M D (fun q : Nat => s.heap.size ≤ q) s (wX ad kd u ++ wM ae ke v) H locs) {ls : Array Slot} (hl : lv_has ls 4 [(0, .ref b), (1, .ref (ad 0)), (2, .ref (ae 0)), (3, .int (nI i))])
    (kk : ∀ (u' : zS) (v' : zM) (H' : Heap) (locs' : List Loc), zJ u' v' → ys_M D (fun q : Nat => s.heap.size ≤ q) s (wX ad kd u' ++ wM ae ke v') H' locs' → W p l e room_1 s m #[Value.ref b] below meth c H' locs' 9 908 (lw_Z below #[Value.ref b] s) (F0 m 365 ls [])) : W p l e room_1 s m #[Value.ref b] below meth c H locs 9 908 (lw_Z below #[Value.ref b] s) (F0 m 270 ls []) := by
  obtain ⟨hx, hb, hr, hml, hown, hts0, hX, hbl, hlocks, hgv⟩ := C0
  have hts : ∀ w ∈ lw_all, w.before #[Value.ref b] s = true := fun w h => hts0 w (lw_all_tbl h)
  have hA : ∀ q : Nat, s.heap.size ≤ q → (fun q : Nat => s.heap.size ≤ q) q := fun _ h => h
  have hbA : ¬ (fun q : Nat => s.heap.size ≤ q) b := Nat.not_le.mpr hbl
  obtain ⟨r, u', v', cX, cM, hJ'⟩ := op_mendColumn l D ad kd ae ke hJ (xs (i + 1))
  refine lv_aload_n hx hb dL_law_270 rfl (lv_at hl 1 rfl) ?_
  refine lv_aload_n hx hb dL_law_271 rfl (lv_at hl 0 rfl) ?_
  refine lv_iload_n hx hb dL_law_272 rfl (lv_at hl 3 rfl) ?_
  refine lv_iconst (v := (nI 1)) hx hb dL_law_273 (by decide) ?_
  refine ys_iadd (i := i) (j := 1) hx hb dL_law_274 ?_
  refine ys_sld (i := i + 1) hx hb hX hbl hbA hM (by omega) (by omega) dL_law_275 ?_
  refine ys_callF (As := [.int (xs (i + 1))]) (rest := []) (w1 := wX ad kd u') (wr := wM ae ke v) (ci := 0) (q0 := 0) ⟨hx, hb, hml, hown, hts⟩ cX (cwV 1 hts (lw_V q120 q121 q122 q12 q123) rfl rfl rfl (by decide +kernel) ⟨Nat.le_of_ble_eq_true rfl, Nat.le_of_ble_eq_true rfl⟩) hKX hA hM [0, 1, 2, 3, 4, 5] [6, 7, 8] rfl rfl rfl rfl rfl (by decide) rfl rfl hl.1 rfl rfl (Nat.le_of_ble_eq_true rfl) ⟨Nat.le_of_ble_eq_true rfl, Nat.le_of_ble_eq_true rfl⟩ dL_law_276 (fun H locs hM => ?_)
  refine lv_aload_n hx hb dL_law_279 rfl (lv_at hl 2 rfl) ?_
  refine lv_aload_n hx hb dL_law_280 rfl (lv_at hl 0 rfl) ?_
  refine lv_iload_n hx hb dL_law_281 rfl (lv_at hl 3 rfl) ?_
  refine lv_iconst (v := (nI 1)) hx hb dL_law_282 (by decide) ?_
  refine ys_iadd (i := i) (j := 1) hx hb dL_law_283 ?_
  refine ys_sld (i := i + 1) hx hb hX hbl hbA hM (by omega) (by omega) dL_law_284 ?_
  refine ys_callF (As := [.int (xs (i + 1))]) (rest := [.int r]) (w1 := wM ae ke v') (wr := wX ad kd u') (ci := 1) (q0 := 0) ⟨hx, hb, hml, hown, hts⟩ cM (cwV 1 hts (lw_V q185 q186 q187 q13 q188) rfl rfl rfl (by decide +kernel) ⟨Nat.le_of_ble_eq_true rfl, Nat.le_of_ble_eq_true rfl⟩) hKM hA hM [0, 1, 2] [3, 4, 5, 6, 7, 8] rfl rfl rfl rfl rfl (by decide) rfl rfl hl.1 rfl rfl (Nat.le_of_ble_eq_true rfl) ⟨Nat.le_of_ble_eq_true rfl, Nat.le_of_ble_eq_true rfl⟩ dL_law_285 (fun H locs hM => ?_)
  refine lv_icmp_eq (tgt := 365) hx hb dL_law_288 (by decide) (fun _ => ?_) (fun h => absurd rfl h)
  exact kk u' v' H locs hJ' hM
set_option maxHeartbeats 4000000 in
set_option maxRecDepth 100000 in
theorem lo_mend {p : Program} {l : Launch} {e : Env} {s : State} {m : MethodId} {below : List Frame} {meth : Method} {c : Code} {D : va_G} {ad : Nat → Nat} {kd : Nat → ClassId} {ae : Nat → Nat} {ke : Nat → ClassId} {b L : Nat} {xs : Nat → Int32} (hL : L ≤ 256) (C0 : lw_At p s m meth c b L xs) (hKX : va_K D vwCl (tX kd) s) (hKM : va_K D vwCl (tM ke) s) {i : Nat} (hi : i + 4 ≤ L) {u : zS} {v : zM} (hJ : zJ u v) {H : Heap} {locs : List Loc} (hM : ys_M D (fun q : Nat => s.heap.size ≤ q) s (wX ad kd u ++ wM ae ke v) H locs) {ls : Array Slot} (hl : lv_has ls 4 [(0, .ref b), (1, .ref (ad 0)), (2, .ref (ae 0)), (3, .int (nI i))])
    (kk : ∀ (u' : zS) (v' : zM) (H' : Heap) (locs' : List Loc), zJ u' v' → ys_M D (fun q : Nat => s.heap.size ≤ q) s (wX ad kd u' ++ wM ae ke v') H' locs' → W p l e room_1 s m #[Value.ref b] below meth c H' locs' 9 908 (lw_Z below #[Value.ref b] s) (F0 m 365 ls [])) : W p l e room_1 s m #[Value.ref b] below meth c H locs 9 908 (lw_Z below #[Value.ref b] s) (F0 m 293 ls []) := by
  obtain ⟨hx, hb, hr, hml, hown, hts0, hX, hbl, hlocks, hgv⟩ := C0
  have hts : ∀ w ∈ lw_all, w.before #[Value.ref b] s = true := fun w h => hts0 w (lw_all_tbl h)
  have hA : ∀ q : Nat, s.heap.size ≤ q → (fun q : Nat => s.heap.size ≤ q) q := fun _ h => h
  have hbA : ¬ (fun q : Nat => s.heap.size ≤ q) b := Nat.not_le.mpr hbl
  obtain ⟨r, u', v', cX, cM, hJ'⟩ := op_mend l D ad kd ae ke hJ
  refine lv_aload_n hx hb dL_law_293 rfl (lv_at hl 1 rfl) ?_
  refine ys_callF (As := []) (rest := []) (w1 := wX ad kd u') (wr := wM ae ke v) (ci := 0) (q0 := 0) ⟨hx, hb, hml, hown, hts⟩ cX (cwV 0 hts (lw_V q124 q125 q126 q12 q127) rfl rfl rfl (by decide +kernel) ⟨Nat.le_of_ble_eq_true rfl, Nat.le_of_ble_eq_true rfl⟩) hKX hA hM [0, 1, 2, 3, 4, 5] [6, 7, 8] rfl rfl rfl rfl rfl (by decide) rfl rfl hl.1 rfl rfl (Nat.le_of_ble_eq_true rfl) ⟨Nat.le_of_ble_eq_true rfl, Nat.le_of_ble_eq_true rfl⟩ dL_law_294 (fun H locs hM => ?_)
  refine lv_aload_n hx hb dL_law_297 rfl (lv_at hl 2 rfl) ?_
  refine ys_callF (As := []) (rest := [.int r]) (w1 := wM ae ke v') (wr := wX ad kd u') (ci := 1) (q0 := 0) ⟨hx, hb, hml, hown, hts⟩ cM (cwV 0 hts (lw_V q189 q190 q191 q13 q192) rfl rfl rfl (by decide +kernel) ⟨Nat.le_of_ble_eq_true rfl, Nat.le_of_ble_eq_true rfl⟩) hKM hA hM [0, 1, 2] [3, 4, 5, 6, 7, 8] rfl rfl rfl rfl rfl (by decide) rfl rfl hl.1 rfl rfl (Nat.le_of_ble_eq_true rfl) ⟨Nat.le_of_ble_eq_true rfl, Nat.le_of_ble_eq_true rfl⟩ dL_law_298 (fun H locs hM => ?_)
  refine lv_icmp_eq (tgt := 365) hx hb dL_law_301 (by decide) (fun _ => ?_) (fun h => absurd rfl h)
  exact kk u' v' H locs hJ' hM
set_option maxHeartbeats 4000000 in
set_option maxRecDepth 100000 in
theorem lo_lost {p : Program} {l : Launch} {e : Env} {s : State} {m : MethodId} {below : List Frame} {meth : Method} {c : Code} {D : va_G} {ad : Nat → Nat} {kd : Nat → ClassId} {ae : Nat → Nat} {ke : Nat → ClassId} {b L : Nat} {xs : Nat → Int32} (hL : L ≤ 256) (C0 : lw_At p s m meth c b L xs) (hKX : va_K D vwCl (tX kd) s) (hKM : va_K D vwCl (tM ke) s) {i : Nat} (hi : i + 4 ≤ L) {u : zS} {v : zM} (hJ : zJ u v) {H : Heap} {locs : List Loc} (hM : ys_M D (fun q : Nat => s.heap.size ≤ q) s (wX ad kd u ++ wM ae ke v) H locs) {ls : Array Slot} (hl : lv_has ls 4 [(0, .ref b), (1, .ref (ad 0)), (2, .ref (ae 0)), (3, .int (nI i))])
    (kk : ∀ (u' : zS) (v' : zM) (H' : Heap) (locs' : List Loc), zJ u' v' → ys_M D (fun q : Nat => s.heap.size ≤ q) s (wX ad kd u' ++ wM ae ke v') H' locs' → W p l e room_1 s m #[Value.ref b] below meth c H' locs' 9 908 (lw_Z below #[Value.ref b] s) (F0 m 365 ls [])) : W p l e room_1 s m #[Value.ref b] below meth c H locs 9 908 (lw_Z below #[Value.ref b] s) (F0 m 306 ls []) := by
  obtain ⟨hx, hb, hr, hml, hown, hts0, hX, hbl, hlocks, hgv⟩ := C0
  have hts : ∀ w ∈ lw_all, w.before #[Value.ref b] s = true := fun w h => hts0 w (lw_all_tbl h)
  have hA : ∀ q : Nat, s.heap.size ≤ q → (fun q : Nat => s.heap.size ≤ q) q := fun _ h => h
  have hbA : ¬ (fun q : Nat => s.heap.size ≤ q) b := Nat.not_le.mpr hbl
  obtain ⟨r, u', v', cX, cM, hJ'⟩ := op_lost l D ad kd ae ke hJ (xs (i + 1)) (xs (i + 2))
  refine lv_aload_n hx hb dL_law_306 rfl (lv_at hl 1 rfl) ?_
  refine lv_aload_n hx hb dL_law_307 rfl (lv_at hl 0 rfl) ?_
  refine lv_iload_n hx hb dL_law_308 rfl (lv_at hl 3 rfl) ?_
  refine lv_iconst (v := (nI 1)) hx hb dL_law_309 (by decide) ?_
  refine ys_iadd (i := i) (j := 1) hx hb dL_law_310 ?_
  refine ys_sld (i := i + 1) hx hb hX hbl hbA hM (by omega) (by omega) dL_law_311 ?_
  refine lv_aload_n hx hb dL_law_312 rfl (lv_at hl 0 rfl) ?_
  refine lv_iload_n hx hb dL_law_313 rfl (lv_at hl 3 rfl) ?_
  refine lv_iconst (v := (nI 2)) hx hb dL_law_314 (by decide) ?_
  refine ys_iadd (i := i) (j := 2) hx hb dL_law_315 ?_
  refine ys_sld (i := i + 2) hx hb hX hbl hbA hM (by omega) (by omega) dL_law_316 ?_
  refine ys_callF (As := [.int (xs (i + 1)), .int (xs (i + 2))]) (rest := []) (w1 := wX ad kd u') (wr := wM ae ke v) (ci := 0) (q0 := 0) ⟨hx, hb, hml, hown, hts⟩ cX (cwV 2 hts (lw_V q128 q129 q130 q12 q131) rfl rfl rfl (by decide +kernel) ⟨Nat.le_of_ble_eq_true rfl, Nat.le_of_ble_eq_true rfl⟩) hKX hA hM [0, 1, 2, 3, 4, 5] [6, 7, 8] rfl rfl rfl rfl rfl (by decide) rfl rfl hl.1 rfl rfl (Nat.le_of_ble_eq_true rfl) ⟨Nat.le_of_ble_eq_true rfl, Nat.le_of_ble_eq_true rfl⟩ dL_law_317 (fun H locs hM => ?_)
  refine lv_aload_n hx hb dL_law_320 rfl (lv_at hl 2 rfl) ?_
  refine lv_aload_n hx hb dL_law_321 rfl (lv_at hl 0 rfl) ?_
  refine lv_iload_n hx hb dL_law_322 rfl (lv_at hl 3 rfl) ?_
  refine lv_iconst (v := (nI 1)) hx hb dL_law_323 (by decide) ?_
  refine ys_iadd (i := i) (j := 1) hx hb dL_law_324 ?_
  refine ys_sld (i := i + 1) hx hb hX hbl hbA hM (by omega) (by omega) dL_law_325 ?_
  refine lv_aload_n hx hb dL_law_326 rfl (lv_at hl 0 rfl) ?_
  refine lv_iload_n hx hb dL_law_327 rfl (lv_at hl 3 rfl) ?_
  refine lv_iconst (v := (nI 2)) hx hb dL_law_328 (by decide) ?_
  refine ys_iadd (i := i) (j := 2) hx hb dL_law_329 ?_
  refine ys_sld (i := i + 2) hx hb hX hbl hbA hM (by omega) (by omega) dL_law_330 ?_
  refine ys_callF (As := [.int (xs (i + 1)), .int (xs (i + 2))]) (rest := [.int r]) (w1 := wM ae ke v') (wr := wX ad kd u') (ci := 1) (q0 := 0) ⟨hx, hb, hml, hown, hts⟩ cM (cwV 2 hts (lw_V q195 q196 q197 q13 q198) rfl rfl rfl (by decide +kernel) ⟨Nat.le_of_ble_eq_true rfl, Nat.le_of_ble_eq_true rfl⟩) hKM hA hM [0, 1, 2] [3, 4, 5, 6, 7, 8] rfl rfl rfl rfl rfl (by decide) rfl rfl hl.1 rfl rfl (Nat.le_of_ble_eq_true rfl) ⟨Nat.le_of_ble_eq_true rfl, Nat.le_of_ble_eq_true rfl⟩ dL_law_331 (fun H locs hM => ?_)
  refine lv_icmp_eq (tgt := 365) hx hb dL_law_334 (by decide) (fun _ => ?_) (fun h => absurd rfl h)
  exact kk u' v' H locs hJ' hM
set_option maxHeartbeats 4000000 in
set_option maxRecDepth 100000 in
theorem lo_losses {p : Program} {l : Launch} {e : Env} {s : State} {m : MethodId} {below : List Frame} {meth : Method} {c : Code} {D : va_G} {ad : Nat → Nat} {kd : Nat → ClassId} {ae : Nat → Nat} {ke : Nat → ClassId} {b L : Nat} {xs : Nat → Int32} (hL : L ≤ 256) (C0 : lw_At p s m meth c b L xs) (hKX : va_K D vwCl (tX kd) s) (hKM : va_K D vwCl (tM ke) s) {i : Nat} (hi : i + 4 ≤ L) {u : zS} {v : zM} (hJ : zJ u v) {H : Heap} {locs : List Loc} (hM : ys_M D (fun q : Nat => s.heap.size ≤ q) s (wX ad kd u ++ wM ae ke v) H locs) {ls : Array Slot} (hl : lv_has ls 4 [(0, .ref b), (1, .ref (ad 0)), (2, .ref (ae 0)), (3, .int (nI i))])
    (kk : ∀ (u' : zS) (v' : zM) (H' : Heap) (locs' : List Loc), zJ u' v' → ys_M D (fun q : Nat => s.heap.size ≤ q) s (wX ad kd u' ++ wM ae ke v') H' locs' → W p l e room_1 s m #[Value.ref b] below meth c H' locs' 9 908 (lw_Z below #[Value.ref b] s) (F0 m 365 ls [])) : W p l e room_1 s m #[Value.ref b] below meth c H locs 9 908 (lw_Z below #[Value.ref b] s) (F0 m 339 ls []) := by
  obtain ⟨hx, hb, hr, hml, hown, hts0, hX, hbl, hlocks, hgv⟩ := C0
  have hts : ∀ w ∈ lw_all, w.before #[Value.ref b] s = true := fun w h => hts0 w (lw_all_tbl h)
  have hA : ∀ q : Nat, s.heap.size ≤ q → (fun q : Nat => s.heap.size ≤ q) q := fun _ h => h
  have hbA : ¬ (fun q : Nat => s.heap.size ≤ q) b := Nat.not_le.mpr hbl
  obtain ⟨r, u', v', cX, cM, hJ'⟩ := op_losses l D ad kd ae ke hJ
  refine lv_aload_n hx hb dL_law_339 rfl (lv_at hl 1 rfl) ?_
  refine ys_callF (As := []) (rest := []) (w1 := wX ad kd u') (wr := wM ae ke v) (ci := 0) (q0 := 0) ⟨hx, hb, hml, hown, hts⟩ cX (cwV 0 hts (lw_V q132 q133 q134 q12 q135) rfl rfl rfl (by decide +kernel) ⟨Nat.le_of_ble_eq_true rfl, Nat.le_of_ble_eq_true rfl⟩) hKX hA hM [0, 1, 2, 3, 4, 5] [6, 7, 8] rfl rfl rfl rfl rfl (by decide) rfl rfl hl.1 rfl rfl (Nat.le_of_ble_eq_true rfl) ⟨Nat.le_of_ble_eq_true rfl, Nat.le_of_ble_eq_true rfl⟩ dL_law_340 (fun H locs hM => ?_)
  refine lv_aload_n hx hb dL_law_343 rfl (lv_at hl 2 rfl) ?_
  refine ys_callF (As := []) (rest := [.int r]) (w1 := wM ae ke v') (wr := wX ad kd u') (ci := 1) (q0 := 0) ⟨hx, hb, hml, hown, hts⟩ cM (cwV 0 hts (lw_V q199 q200 q201 q13 q202) rfl rfl rfl (by decide +kernel) ⟨Nat.le_of_ble_eq_true rfl, Nat.le_of_ble_eq_true rfl⟩) hKM hA hM [0, 1, 2] [3, 4, 5, 6, 7, 8] rfl rfl rfl rfl rfl (by decide) rfl rfl hl.1 rfl rfl (Nat.le_of_ble_eq_true rfl) ⟨Nat.le_of_ble_eq_true rfl, Nat.le_of_ble_eq_true rfl⟩ dL_law_344 (fun H locs hM => ?_)
  refine lv_icmp_eq (tgt := 365) hx hb dL_law_347 (by decide) (fun _ => ?_) (fun h => absurd rfl h)
  exact kk u' v' H locs hJ' hM
set_option maxHeartbeats 4000000 in
set_option maxRecDepth 100000 in
theorem lo_total {p : Program} {l : Launch} {e : Env} {s : State} {m : MethodId} {below : List Frame} {meth : Method} {c : Code} {D : va_G} {ad : Nat → Nat} {kd : Nat → ClassId} {ae : Nat → Nat} {ke : Nat → ClassId} {b L : Nat} {xs : Nat → Int32} (hL : L ≤ 256) (C0 : lw_At p s m meth c b L xs) (hKX : va_K D vwCl (tX kd) s) (hKM : va_K D vwCl (tM ke) s) {i : Nat} (hi : i + 4 ≤ L) {u : zS} {v : zM} (hJ : zJ u v) {H : Heap} {locs : List Loc} (hM : ys_M D (fun q : Nat => s.heap.size ≤ q) s (wX ad kd u ++ wM ae ke v) H locs) {ls : Array Slot} (hl : lv_has ls 4 [(0, .ref b), (1, .ref (ad 0)), (2, .ref (ae 0)), (3, .int (nI i))])
    (kk : ∀ (u' : zS) (v' : zM) (H' : Heap) (locs' : List Loc), zJ u' v' → ys_M D (fun q : Nat => s.heap.size ≤ q) s (wX ad kd u' ++ wM ae ke v') H' locs' → W p l e room_1 s m #[Value.ref b] below meth c H' locs' 9 908 (lw_Z below #[Value.ref b] s) (F0 m 365 ls [])) : W p l e room_1 s m #[Value.ref b] below meth c H locs 9 908 (lw_Z below #[Value.ref b] s) (F0 m 352 ls []) := by
  obtain ⟨hx, hb, hr, hml, hown, hts0, hX, hbl, hlocks, hgv⟩ := C0
  have hts : ∀ w ∈ lw_all, w.before #[Value.ref b] s = true := fun w h => hts0 w (lw_all_tbl h)
  have hA : ∀ q : Nat, s.heap.size ≤ q → (fun q : Nat => s.heap.size ≤ q) q := fun _ h => h
  have hbA : ¬ (fun q : Nat => s.heap.size ≤ q) b := Nat.not_le.mpr hbl
  obtain ⟨r, u', v', cX, cM, hJ'⟩ := op_total l D ad kd ae ke hJ
  refine lv_aload_n hx hb dL_law_352 rfl (lv_at hl 1 rfl) ?_
  refine ys_callF (As := []) (rest := []) (w1 := wX ad kd u') (wr := wM ae ke v) (ci := 0) (q0 := 0) ⟨hx, hb, hml, hown, hts⟩ cX (cwV 0 hts (lw_V q136 q137 q138 q12 q139) rfl rfl rfl (by decide +kernel) ⟨Nat.le_of_ble_eq_true rfl, Nat.le_of_ble_eq_true rfl⟩) hKX hA hM [0, 1, 2, 3, 4, 5] [6, 7, 8] rfl rfl rfl rfl rfl (by decide) rfl rfl hl.1 rfl rfl (Nat.le_of_ble_eq_true rfl) ⟨Nat.le_of_ble_eq_true rfl, Nat.le_of_ble_eq_true rfl⟩ dL_law_353 (fun H locs hM => ?_)
  refine lv_aload_n hx hb dL_law_356 rfl (lv_at hl 2 rfl) ?_
  refine ys_callF (As := []) (rest := [.int r]) (w1 := wM ae ke v') (wr := wX ad kd u') (ci := 1) (q0 := 0) ⟨hx, hb, hml, hown, hts⟩ cM (cwV 0 hts (lw_V q203 q204 q205 q13 q206) rfl rfl rfl (by decide +kernel) ⟨Nat.le_of_ble_eq_true rfl, Nat.le_of_ble_eq_true rfl⟩) hKM hA hM [0, 1, 2] [3, 4, 5, 6, 7, 8] rfl rfl rfl rfl rfl (by decide) rfl rfl hl.1 rfl rfl (Nat.le_of_ble_eq_true rfl) ⟨Nat.le_of_ble_eq_true rfl, Nat.le_of_ble_eq_true rfl⟩ dL_law_357 (fun H locs hM => ?_)
  refine lv_icmp_eq (tgt := 365) hx hb dL_law_360 (by decide) (fun _ => ?_) (fun h => absurd rfl h)
  exact kk u' v' H locs hJ' hM
end
section
theorem law_lt : ∀ L, L < 4 → ∀ i, i < 4 → nI L - nI 4 < nI i := by decide
theorem law_inc (k : Nat) : nI k + Int32.ofInt 4 = nI (k + 4) := by
  rw [show Int32.ofInt 4 = nI 4 from rfl, nI_add]
/-- the law goes on just when a whole row of four is left -/
theorem law_go {L i : Nat} (hL : L ≤ 256) (hi : i ≤ L) : (nI L - nI 4 < nI i) ↔ L < i + 4 := by
  by_cases h : 4 ≤ L
  · rw [pk_sub h, nI_ltI (by omega) (by omega)]
    omega
  · exact ⟨fun _ => by omega, fun _ => law_lt L (by omega) i (by omega)⟩
set_option maxHeartbeats 4000000 in
set_option maxRecDepth 100000 in
/-- THE LAW'S LOOP: at its head, with i ints read, the shelf and the model hold one grid -/
theorem law_loop {p : Program} {l : Launch} {e : Env} {s : State} {m : MethodId} {below : List Frame} {meth : Method} {c : Code} {D : va_G} {ad : Nat → Nat} {kd : Nat → ClassId} {ae : Nat → Nat} {ke : Nat → ClassId} {b L : Nat} {xs : Nat → Int32} (hL : L ≤ 256) (C0 : lw_At p s m meth c b L xs) (hKX : va_K D vwCl (tX kd) s) (hKM : va_K D vwCl (tM ke) s) :
    ∀ (n i : Nat), i ≤ L → L + 1 ≤ i + n → ∀ (u : zS) (v : zM), zJ u v → ∀ (H : Heap) (locs : List Loc), ys_M D (fun q : Nat => s.heap.size ≤ q) s (wX ad kd u ++ wM ae ke v) H locs → ∀ (ls : Array Slot), lv_has ls 4 [(0, .ref b), (1, .ref (ad 0)), (2, .ref (ae 0)), (3, .int (nI i))] → W p l e room_1 s m #[Value.ref b] below meth c H locs 9 908 (lw_Z below #[Value.ref b] s) (F0 m 18 ls []) := by
  obtain ⟨hx, hb, hr, hml, hown, hts0, hX, hbl, hlocks, hgv⟩ := id C0
  have hbA : ¬ (fun q : Nat => s.heap.size ≤ q) b := Nat.not_le.mpr hbl
  intro n
  induction n with
  | zero =>
    intro i h1 h2
    exact absurd h2 (by omega)
  | succ n ih =>
    intro i hi hin u v hJ H locs hM ls hl
    refine lv_iload_n hx hb dL_law_18 rfl (lv_at hl 3 rfl) ?_
    refine lv_aload_n hx hb dL_law_19 rfl (lv_at hl 0 rfl) ?_
    refine va_slen hx hb hX hbl hbA hM.2.2 dL_law_20 ?_
    refine lv_iconst (v := nI 4) hx hb dL_law_21 (by decide) ?_
    refine lv_isub hx hb dL_law_22 ?_
    refine lv_icmp_gt (tgt := 371) hx hb dL_law_23 (by decide) (fun h0 => ?_) (fun h0 => ?_)
    · refine lv_iconst (v := 1) hx hb dL_law_371 (by decide) ?_
      refine va_forget (fun q hq => hM.2.2.2.2 q hq) ?_
      refine W.widen (k := 600000) (n := 7290000) (Nat.le_of_ble_eq_true rfl) (Nat.le_of_ble_eq_true rfl) ?_
      exact lw_ret hx hb hr hlocks dL_law_372
    · have hgo : i + 4 ≤ L := Nat.not_lt.mp (fun q => h0 ((law_go hL hi).mpr q))
      have foot : ∀ (u' : zS) (v' : zM) (H' : Heap) (locs' : List Loc), zJ u' v' → ys_M D (fun q : Nat => s.heap.size ≤ q) s (wX ad kd u' ++ wM ae ke v') H' locs' → W p l e room_1 s m #[Value.ref b] below meth c H' locs' 9 908 (lw_Z below #[Value.ref b] s) (F0 m 365 ls []) := by
        intro u' v' H' locs' hJ' hM'
        refine lv_iinc (v := nI (i + 4)) (lv' := [(3, .int (nI (i + 4))), (0, .ref b), (1, .ref (ad 0)), (2, .ref (ae 0))]) hx hb dL_law_365 hl (k := 3) rfl (law_inc i) (by decide) rfl (fun ls hl => ?_)
        refine lv_goto (tgt := 18) hx hb dL_law_368 (by decide) ?_
        exact ih (i + 4) hgo (by omega) u' v' hJ' H' locs' hM' ls (lv_sub hl [1, 2, 3, 0] rfl)
      refine lv_aload_n hx hb dL_law_26 rfl (lv_at hl 0 rfl) ?_
      refine lv_iload_n hx hb dL_law_27 rfl (lv_at hl 3 rfl) ?_
      refine ys_sld (i := i) hx hb hX hbl hbA hM (by omega) (by omega) dL_law_28 ?_
      refine lv_bipush (v := (nI 15)) hx hb dL_law_29 (by decide) ?_
      refine ys_iand15 hx hb dL_law_31 ?_
      have hd : (xs i).toBitVec.toNat % 16 < 16 := Nat.mod_lt _ (by decide)
      generalize (xs i).toBitVec.toNat % 16 = d at hd ⊢
      rcases (show d = 0 ∨ d = 1 ∨ d = 2 ∨ d = 3 ∨ d = 4 ∨ d = 5 ∨ d = 6 ∨ d = 7 ∨ d = 8 ∨ d = 9 ∨ d = 10 ∨ d = 11 ∨ d = 12 ∨ d = 13 ∨ d = 14 ∨ d = 15 by omega) with rfl | rfl | rfl | rfl | rfl | rfl | rfl | rfl | rfl | rfl | rfl | rfl | rfl | rfl | rfl | rfl
      · exact lv_tableIn (off := 60) (tgt := 92) hx hb dL_law_32 (by decide) (by decide) (by first | rfl | decide) (by decide) (lo_write hL C0 hKX hKM hgo hJ hM hl foot)
      · exact lv_tableIn (off := 103) (tgt := 135) hx hb dL_law_32 (by decide) (by decide) (by first | rfl | decide) (by decide) (lo_read hL C0 hKX hKM hgo hJ hM hl foot)
      · exact lv_tableIn (off := 136) (tgt := 168) hx hb dL_law_32 (by decide) (by decide) (by first | rfl | decide) (by decide) (lo_lose hL C0 hKX hKM hgo hJ hM hl foot)
      · exact lv_tableIn (off := 169) (tgt := 201) hx hb dL_law_32 (by decide) (by decide) (by first | rfl | decide) (by decide) (lo_loseRow hL C0 hKX hKM hgo hJ hM hl foot)
      · exact lv_tableIn (off := 192) (tgt := 224) hx hb dL_law_32 (by decide) (by decide) (by first | rfl | decide) (by decide) (lo_loseColumn hL C0 hKX hKM hgo hJ hM hl foot)
      · exact lv_tableIn (off := 215) (tgt := 247) hx hb dL_law_32 (by decide) (by decide) (by first | rfl | decide) (by decide) (lo_mendRow hL C0 hKX hKM hgo hJ hM hl foot)
      · exact lv_tableIn (off := 238) (tgt := 270) hx hb dL_law_32 (by decide) (by decide) (by first | rfl | decide) (by decide) (lo_mendColumn hL C0 hKX hKM hgo hJ hM hl foot)
      · exact lv_tableIn (off := 261) (tgt := 293) hx hb dL_law_32 (by decide) (by decide) (by first | rfl | decide) (by decide) (lo_mend hL C0 hKX hKM hgo hJ hM hl foot)
      · exact lv_tableIn (off := 274) (tgt := 306) hx hb dL_law_32 (by decide) (by decide) (by first | rfl | decide) (by decide) (lo_lost hL C0 hKX hKM hgo hJ hM hl foot)
      · exact lv_tableIn (off := 307) (tgt := 339) hx hb dL_law_32 (by decide) (by decide) (by first | rfl | decide) (by decide) (lo_losses hL C0 hKX hKM hgo hJ hM hl foot)
      · exact lv_tableIn (off := 320) (tgt := 352) hx hb dL_law_32 (by decide) (by decide) (by first | rfl | decide) (by decide) (lo_total hL C0 hKX hKM hgo hJ hM hl foot)
      · exact lv_tableOut (tgt := 365) hx hb dL_law_32 (by decide) (by decide) (foot u v H locs hJ hM)
      · exact lv_tableOut (tgt := 365) hx hb dL_law_32 (by decide) (by decide) (foot u v H locs hJ hM)
      · exact lv_tableOut (tgt := 365) hx hb dL_law_32 (by decide) (by decide) (foot u v H locs hJ hM)
      · exact lv_tableOut (tgt := 365) hx hb dL_law_32 (by decide) (by decide) (foot u v H locs hJ hM)
      · exact lv_tableOut (tgt := 365) hx hb dL_law_32 (by decide) (by decide) (foot u v H locs hJ hM)
set_option maxHeartbeats 4000000 in
set_option maxRecDepth 100000 in
/-- THE LAW, from its entry -/
theorem whole_start {p : Program} {e : Env} {s : State} {m : MethodId} {below : List Frame} {meth : Method} {c : Code} (l : Launch) {b L : Nat} {xs : Nat → Int32} (hL : L ≤ 256) (C0 : lw_At p s m meth c b L xs) : W p l e room_1 s m #[Value.ref b] below meth c s.heap [] 0 0 (lw_Z below #[Value.ref b] s) (entryFrame m ([Value.ref b] : List Value).toArray 4) := by
  obtain ⟨hx, hb, hr, hml, hown, hts0, hX, hbl, hlocks, hgv⟩ := id C0
  have hts : ∀ w ∈ lw_all, w.before #[Value.ref b] s = true := fun w h => hts0 w (lw_all_tbl h)
  have hA : ∀ q : Nat, s.heap.size ≤ q → (fun q : Nat => s.heap.size ≤ q) q := fun _ h => h
  have hbA : ¬ (fun q : Nat => s.heap.size ≤ q) b := Nat.not_le.mpr hbl
  obtain ⟨c0, iS0, hKn0⟩ := u_known (C := RX0) (T := TX0) (N := 8) (n := 8) hts0 (fun w h => lw_all_tbl (in_X0 w h)) (hts _ q15)
  obtain ⟨c1, iS1, hKn1⟩ := u_known (C := RX1) (T := TX1) (N := 2) (n := 2) hts0 (fun w h => lw_all_tbl (in_X1 w h)) (hts _ q141)
  obtain ⟨dC, dI, hKc⟩ : ∃ (dC : Nat → ClassId) (dI : Nat → Nat → Nat), ∀ (k : Nat) (q : vw_C), vwCl[k]? = some q → u_Kn s q.1 q.2.1 q.2.2 (dC k) (dI k) := by
    refine ⟨fun k => if k = 0 then c0 else c1, fun k => if k = 0 then iS0 else iS1, ?_⟩
    intro k q hq
    match k, hq with
    | 0, hq => cases hq; exact hKn0
    | 1, hq => cases hq; exact hKn1
    | k + 2, hq => simp [vwCl] at hq
  have hS : va_S (fun q : Nat => s.heap.size ≤ q) s.heap s.heap [] := va_S.rf
  have hK : va_K (dC, dI) vwCl [] s := ⟨hKc, fun k q h => by simp at h⟩
  have hP : va_P (dC, dI) vwCl [] s.heap := fun k q h => by simp at h
  have hD : va_D (fun q : Nat => s.heap.size ≤ q) [] := ⟨fun i j p q h => by simp at h, fun k q h => by simp at h⟩
  have hl := lv_entry ([.ref b]) (n := 4) (Nat.le_of_ble_eq_true rfl)
  rw [lg_entry_eq]
  generalize (lg_sl ([.ref b]) ++ List.replicate (4 - (lg_sl ([.ref b])).length) Slot.unset).toArray = ls at hl ⊢
  have hl : lv_has ls 4 [(0, .ref b)] := hl
  refine va_new (ci := 0) (fs := [.null, .null, .null, .null, .null, .int (nI 0), .int (nI 0), .int (nI 0)]) (C := RX0) (T := TX0) (N := 8) hx hb hts in_X0 tyX0 tyX0_ok hown (hts _ q14) (hts _ q15) (hts _ q12) hK hP hD hS hA rfl (fun j hj => by rcases (show j = 0 ∨ j = 1 ∨ j = 2 ∨ j = 3 ∨ j = 4 ∨ j = 5 ∨ j = 6 ∨ j = 7 by omega) with rfl | rfl | rfl | rfl | rfl | rfl | rfl | rfl <;> rfl) (Nat.le_of_ble_eq_true rfl) (Nat.le_of_ble_eq_true rfl) dL_law_0 (fun a0 H hP hD hS => ?_)
  have hP : va_P (dC, dI) vwCl [(a0, .inr (0, [.null, .null, .null, .null, .null, .int (nI 0), .int (nI 0), .int (nI 0)]))] H := hP
  have hD : va_D (fun q : Nat => s.heap.size ≤ q) [(a0, .inr (0, [.null, .null, .null, .null, .null, .int (nI 0), .int (nI 0), .int (nI 0)]))] := hD
  refine W.widen (k := 1) (n := 8) (Nat.le_of_ble_eq_true rfl) (Nat.le_of_ble_eq_true rfl) ?_
  refine lv_dup hx hb dL_law_3 rfl ?_
  have hFc := va_free (wc := [(a0, .inr (0, [.null, .null, .null, .null, .null, .int (nI 0), .int (nI 0), .int (nI 0)]))]) hD hS hA [0] rfl
  refine va_callv (va_runI (As := []) (rest := [.ref a0]) ⟨hx, hb, hml, hown, hts⟩ (cx_init l (dC, dI) a0 H.size) (cwI 0 hts (lw_meth q18) rfl rfl rfl (hts _ q12) (hts _ q16) (hts _ q17) rfl (by decide +kernel) ⟨Nat.le_of_ble_eq_true rfl, Nat.le_of_ble_eq_true rfl⟩) ⟨fun a U g mk q => by obtain ⟨q0, q1, qP, qK, qD⟩ := q; exact ⟨q0, q1, qP, va_K.moved (u := U) (U := U.calling g mk a) (Vm.Alike.refl U.vm) qK, qD⟩, fun U hU hW => ⟨rfl, by rw [hU], by rw [hU]; exact hP, va_K.moved hW.alike hK, hD.weaken (fun _ _ _ _ => trivial)⟩⟩ rfl rfl hl.1 rfl (lv_room (Nat.le_of_ble_eq_true rfl)) dL_law_4 ⟨Nat.le_of_ble_eq_true rfl, Nat.le_of_ble_eq_true rfl⟩) hS (fun q _ h => hFc q h) hFc (fun ux t H1 locs ht hvm hw1 hB hz1 hk1 hS => ?_)
  obtain ⟨ad, kd⟩ := ux
  have hw1 : ad 0 = a0 := hw1
  obtain ⟨hP1, hK1, hD1⟩ := hB
  rw [ht] at hP1
  have hKX : va_K (dC, dI) vwCl (tX kd) s := va_K.moved hvm.symm hK1
  obtain ⟨hP, hD⟩ := va_join (wr := []) (w1 := wX ad kd z0) hP hD [0] [] rfl rfl (by decide) (by decide) hk1 hFc hP1 hD1
  have hP : va_P (dC, dI) vwCl (wX ad kd z0) H1 := hP
  have hD : va_D (fun q : Nat => s.heap.size ≤ q) (wX ad kd z0) := hD
  refine W.widen (k := 6) (n := 854) (Nat.le_of_ble_eq_true rfl) (Nat.le_of_ble_eq_true rfl) ?_
  refine lv_astore_n (lv' := [(1, .ref a0), (0, .ref b)]) hx hb dL_law_7 rfl hl (by decide) rfl (fun ls hl => ?_)
  refine va_new (ci := 1) (fs := [.null, .null]) (C := RX1) (T := TX1) (N := 2) hx hb hts in_X1 tyX1 tyX1_ok hown (hts _ q140) (hts _ q141) (hts _ q13) hKX hP hD hS hA rfl (fun j hj => by rcases (show j = 0 ∨ j = 1 by omega) with rfl | rfl <;> rfl) (Nat.le_of_ble_eq_true rfl) (Nat.le_of_ble_eq_true rfl) dL_law_8 (fun e0 H hP hD hS => ?_)
  refine W.widen (k := 7) (n := 856) (Nat.le_of_ble_eq_true rfl) (Nat.le_of_ble_eq_true rfl) ?_
  refine lv_dup hx hb dL_law_11 rfl ?_
  have hPc := hP.sub (ws' := [(e0, .inr (1, [.null, .null]))]) [6] rfl
  have hDc := hD.sub (ws' := [(e0, .inr (1, [.null, .null]))]) [6] (by decide) rfl
  have hFc := va_free (wc := [(e0, .inr (1, [.null, .null]))]) hD hS hA [6] rfl
  refine va_callv (va_runI (As := []) (rest := [.ref e0]) ⟨hx, hb, hml, hown, hts⟩ (cy_init l (dC, dI) e0 H.size) (cwI 0 hts (lw_meth q144) rfl rfl rfl (hts _ q13) (hts _ q142) (hts _ q143) rfl (by decide +kernel) ⟨Nat.le_of_ble_eq_true rfl, Nat.le_of_ble_eq_true rfl⟩) ⟨fun a U g mk q => by obtain ⟨q0, q1, qP, qK, qD⟩ := q; exact ⟨q0, q1, qP, va_K.moved (u := U) (U := U.calling g mk a) (Vm.Alike.refl U.vm) qK, qD⟩, fun U hU hW => ⟨rfl, by rw [hU], by rw [hU]; exact hPc, va_K.moved hW.alike hK, hDc.weaken (fun _ _ _ _ => trivial)⟩⟩ rfl rfl hl.1 rfl (lv_room (Nat.le_of_ble_eq_true rfl)) dL_law_12 ⟨Nat.le_of_ble_eq_true rfl, Nat.le_of_ble_eq_true rfl⟩) hS (fun q _ h => hFc q h) hFc (fun um t H1 locs ht hvm hw2 hB hz1 hk1 hS => ?_)
  obtain ⟨ae, ke⟩ := um
  have hw2 : ae 0 = e0 := hw2
  obtain ⟨hP1, hK1, hD1⟩ := hB
  rw [ht] at hP1
  have hKM : va_K (dC, dI) vwCl (tM ke) s := va_K.moved hvm.symm hK1
  obtain ⟨hPe, hDe⟩ := va_join (wr := wX ad kd z0) (w1 := wM ae ke y0) hP hD [6] [0, 1, 2, 3, 4, 5] rfl rfl (by decide) (by decide) hk1 hFc hP1 hD1
  refine W.widen (k := 9) (n := 908) (Nat.le_of_ble_eq_true rfl) (Nat.le_of_ble_eq_true rfl) ?_
  refine lv_astore_n (lv' := [(2, .ref e0), (1, .ref a0), (0, .ref b)]) hx hb dL_law_15 rfl hl (by decide) rfl (fun ls hl => ?_)
  refine lv_iconst (v := nI 0) hx hb dL_law_16 (by decide) ?_
  refine lv_istore_n (lv' := [(3, .int (nI 0)), (2, .ref e0), (1, .ref a0), (0, .ref b)]) hx hb dL_law_17 rfl hl (by decide) rfl (fun ls hl => ?_)
  have hMe : ys_M (dC, dI) (fun q : Nat => s.heap.size ≤ q) s (wX ad kd z0 ++ wM ae ke y0) H1 locs := ⟨hPe, hDe, hS⟩
  subst hw1
  subst hw2
  exact law_loop hL C0 hKX hKM (L + 1) 0 (Nat.zero_le L) (by omega) z0 y0 zJ_0 _ _ hMe ls (lv_sub hl [3, 2, 1, 0] rfl)
set_option maxHeartbeats 4000000 in
theorem lw_walk (l : Launch) (b : Addr) (xs : List Int32) : MetFree l x (headSpec (Jvm.Cond.code x code maxLocals ret :: tables_1) room_1) (lw_P b xs) (fun _ _ _ _ _ => True) lw_Q := by
  refine MetFree.of_bodyS (code := code) (maxLocals := maxLocals) (ret := ret) (by decide) ?_ ?_
  · intro args s m h hn
    obtain ⟨meth, c, h1, h2, h3, h4, h5, h6, -, -⟩ := Cond.code_spec hn (atoms_spec (ws := Jvm.Cond.code x code maxLocals ret :: tables_1) h _ List.mem_cons_self)
    exact ⟨meth, c, h1, h2, h3, h4, h5, h6⟩
  · intro p e s m args below meth c s₁ B hml0 hP _
    obtain ⟨rfl, hx, hbd, hgv⟩ := hP
    obtain ⟨scr, harrAt, hlist, hof, hsmall⟩ := hx
    obtain ⟨hcb, hkn, -, -⟩ := State.arrayAt?_spec harrAt
    have hown : s.vm.findClass R_law = some m.cls := findClass_of_methodNamed B.named
    have hts0 : ∀ c ∈ (Jvm.Cond.code x code maxLocals ret :: tables_1), c.before #[Value.ref b] s = true := atoms_spec (ws := Jvm.Cond.code x code maxLocals ret :: tables_1) B.pre
    have hts : ∀ w ∈ lw_tbl, w.before #[Value.ref b] s = true := k2_hts_sels lw_privs (fun w hw => hts0 w (List.mem_cons_of_mem _ hw)) lw_privs_ok
    have hml : c.maxLocals = 4 := B.maxLocals_eq (hts0 _ List.mem_cons_self)
    have X₀ : Stand p l e room_1 s m #[Value.ref b] below meth c s₁ [] 0 0 := Stand.of_body B
    have hh0 : s₁.heap = s.heap := by rw [B.state]; rfl
    have hsz : scr.slots.size = xs.length := by rw [← Array.length_toList, hlist, List.length_map]
    have hval : ∀ j : Nat, j < xs.length → scr.slots[j]? = some (.int (xs.getD j 0)) := fun j hj => by
      rw [← Array.getElem?_toList, hlist]
      simp [hj]
    have hbl : b < s.heap.size := (Array.getElem?_eq_some_iff.mp hcb).1
    have hX : va_X b xs.length (fun j => xs.getD j 0) s s.heap := ⟨scr, hcb, hof, hkn, hsz, hval⟩
    have K : W p l e room_1 s m #[Value.ref b] below meth c s₁.heap [] 0 0 (lw_Z below #[Value.ref b] s) (entryFrame m ([Value.ref b] : List Value).toArray 4) := by
      rw [hh0]
      exact whole_start l hbd ⟨B.exec, B.bytes, B.returns, hml, hown, hts, hX, hbl, B.notSynchronized, hgv⟩
    obtain ⟨t, a1, o, b1, b2, b3⟩ := K s₁ rfl X₀
    exact ⟨t, o, a1, b1, b2, b3⟩
theorem lw_pre_spec {args : Array Value} {s : State} (h : (Jvm.Cond.and given_1 narrow_1).before args s = true) (hr : rest_1_c.before args s = true) : ∃ (b : Addr) (xs : List Int32), lw_P b xs args s := by
  have hs := flat_of_before _ h
  have hq := flat_of_before _ hr
  have hc : (Cond.count 1).before args s = true := hs _ (by decide +kernel)
  have harr : (Cond.arrayOf (.arg 0) .int).before args s = true := hs _ (by decide +kernel)
  have hle : (Cond.le (.length (.arg 0)) (.int 256)).before args s = true := hs _ (by decide +kernel)
  have hlen : (Cond.isInt (.length (.arg 0))).before args s = true := hq _ (by decide +kernel)
  have hall : (Cond.all (.arg 0) (.isInt (.elem (.arg 0) (.index 0)))).before args s = true := hq _ (by decide +kernel)
  obtain ⟨b, xs, hb, hx⟩ := State.ints_of_pre rfl harr hlen hall
  have hsm : xs.length < 2 ^ 31 := hx.choose_spec.2.2.2
  have hev : (Term.length (.arg 0)).eval args s none [] s = some (.int xs.length.toInt32) := hx.length_eval hb
  have hv := Cond.le_ints hev (show (Term.int 256).eval args s none [] s = some (.int 256) from rfl)
  have hd : xs.length.toInt32 ≤ 256 := by
    simpa [Cond.before, Cond.holds, hv] using hle
  have hN : xs.length ≤ 256 := (Int32.ofNat_le_ofNat hsm (by decide)).mp (show Int32.ofNat xs.length ≤ Int32.ofNat 256 from hd)
  exact ⟨b, xs, Cond.one_arg hc (show args[0]? = some (.ref b) from hb), hx, hN, h⟩
theorem lw_comes (l : Launch) : Comes l x (Jvm.Cond.code x code maxLocals ret :: tables_1) room_1 (fun tb e args s => Calls_1 tb e args s ∧ rest_1 tb e args s ∧ Pre_1 tb e args s)
    (fun _ _ args s o t => lw_Q args s o t) := by
  intro p e ha hc hk s m args below hf hfit hheap happ hpre
  obtain ⟨b, xs, hP⟩ := lw_pre_spec hpre.2.2 hpre.2.1
  obtain ⟨k, o, h1, h2, h3, hQ⟩ := lw_walk l b xs p e ha hc hk s m args below hf ((Spec.applies_iff_loose hf).mp happ).1 hP trivial
  exact ⟨k, o, h1, h2, h3, hQ⟩
theorem lw_frame {s t : State} {o : Outcome} {args : Array Value} (h : Framed s o t [] 600000 7290000) :
    Framed s o t (fieldLocs frame_1_writes args s ++ arrayLocs frame_1_arrays args s ++ staticLocs frame_1_statics s) 600000 7290000 := h
theorem lw_limb (L : Cond) (hL : ∀ (args : Array Value) (s t : State), L.after args s (.returned (some (.int 1))) t = true) :
    ArmFor flags0 classFile x code maxLocals ret World_1 tables_1 room_1 Calls_1 rest_1 Pre_1
      (fun tb e a s o t => postC L tb e a s o t ∧ Framed s o t (fieldLocs frame_1_writes a s ++ arrayLocs frame_1_arrays a s ++ staticLocs frame_1_statics s) 600000 7290000) := by
  intro l _ _ _ p e ha hc hk s m args below hf hfit hheap happ hpre
  obtain ⟨k, o, h1, h2, h3, rfl, hF⟩ := lw_comes l p e ha hc hk s m args below hf hfit hheap happ hpre
  exact ⟨k, _, h1, h2, h3, hL args s _, lw_frame hF⟩
theorem i_vc : Claimed_1_1 ∧ Claimed_1_2 := ⟨lw_limb limb_1_1 (fun args s t => by simp [limb_1_1, Cond.after, Cond.holds, Cond.value]), lw_limb limb_1_2 (fun args s t => Cond.after_iff.mpr (by
  first | (rw [show limb_1_2 = Cond.eq .result (.int 1) from rfl, Cond.eq_ints (x := 1) (y := 1) rfl rfl]; simp; done) | (simp [limb_1_2, Cond.value, Term.eval]; done)))⟩
end
