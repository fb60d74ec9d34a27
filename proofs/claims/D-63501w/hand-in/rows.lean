section
/-- a private method of a class that the tables say can be made, by its rows of tables_1 -/
def lw_okq (q : MethodName × Nat) : Prop := (q.1.cls ≠ "java/lang/invoke/MethodHandle" ∧ q.1.cls ≠ "java/lang/invoke/VarHandle") ∧ Cond.instantiable q.1.cls q.2 ∈ tables_1 ∧ Cond.privateMethod q.1 ∈ tables_1 ∧ Cond.instanceMethod q.1 ∈ tables_1
set_option maxRecDepth 100000
theorem lw_p0 : lw_okq (⟨"DimerCounter", "useWeights", "()V"⟩, 4) := ⟨⟨by decide +kernel, by decide +kernel⟩, List.mem_of_getElem? (i := 4) rfl, List.mem_of_getElem? (i := 63) rfl, List.mem_of_getElem? (i := 64) rfl⟩
theorem lw_p1 : lw_okq (⟨"DimerCounter", "sumUsed", "()I"⟩, 4) := ⟨⟨by decide +kernel, by decide +kernel⟩, List.mem_of_getElem? (i := 4) rfl, List.mem_of_getElem? (i := 67) rfl, List.mem_of_getElem? (i := 68) rfl⟩
theorem lw_p2 : lw_okq (⟨"DimerCounter", "enter", "(I)V"⟩, 4) := ⟨⟨by decide +kernel, by decide +kernel⟩, List.mem_of_getElem? (i := 4) rfl, List.mem_of_getElem? (i := 71) rfl, List.mem_of_getElem? (i := 72) rfl⟩
theorem lw_p3 : lw_okq (⟨"DimerCounter", "pivotRow", "(I)I"⟩, 4) := ⟨⟨by decide +kernel, by decide +kernel⟩, List.mem_of_getElem? (i := 4) rfl, List.mem_of_getElem? (i := 78) rfl, List.mem_of_getElem? (i := 79) rfl⟩
theorem lw_p4 : lw_okq (⟨"DimerCounter", "swapRows", "(II)V"⟩, 4) := ⟨⟨by decide +kernel, by decide +kernel⟩, List.mem_of_getElem? (i := 4) rfl, List.mem_of_getElem? (i := 82) rfl, List.mem_of_getElem? (i := 83) rfl⟩
theorem lw_p5 : lw_okq (⟨"DimerCounter", "eliminate", "(IJ)V"⟩, 4) := ⟨⟨by decide +kernel, by decide +kernel⟩, List.mem_of_getElem? (i := 4) rfl, List.mem_of_getElem? (i := 86) rfl, List.mem_of_getElem? (i := 87) rfl⟩
theorem lw_p6 : lw_okq (⟨"DimerCounter", "sumWith", "(I)I"⟩, 4) := ⟨⟨by decide +kernel, by decide +kernel⟩, List.mem_of_getElem? (i := 4) rfl, List.mem_of_getElem? (i := 94) rfl, List.mem_of_getElem? (i := 95) rfl⟩
theorem lw_p7 : lw_okq (⟨"DimerCounter", "sumWithout", "(I)I"⟩, 4) := ⟨⟨by decide +kernel, by decide +kernel⟩, List.mem_of_getElem? (i := 4) rfl, List.mem_of_getElem? (i := 98) rfl, List.mem_of_getElem? (i := 99) rfl⟩
theorem lw_p8 : lw_okq (⟨"DimerCounter", "useOnes", "()V"⟩, 4) := ⟨⟨by decide +kernel, by decide +kernel⟩, List.mem_of_getElem? (i := 4) rfl, List.mem_of_getElem? (i := 110) rfl, List.mem_of_getElem? (i := 111) rfl⟩
theorem lw_p9 : lw_okq (⟨"DimerCounterModel", "bad", "(I)Z"⟩, 2) := ⟨⟨by decide +kernel, by decide +kernel⟩, List.mem_of_getElem? (i := 126) rfl, List.mem_of_getElem? (i := 143) rfl, List.mem_of_getElem? (i := 144) rfl⟩
theorem lw_p10 : lw_okq (⟨"DimerCounterModel", "covers", "(II)Z"⟩, 2) := ⟨⟨by decide +kernel, by decide +kernel⟩, List.mem_of_getElem? (i := 126) rfl, List.mem_of_getElem? (i := 159) rfl, List.mem_of_getElem? (i := 160) rfl⟩
theorem lw_p11 : lw_okq (⟨"DimerCounterModel", "first", "(I)I"⟩, 2) := ⟨⟨by decide +kernel, by decide +kernel⟩, List.mem_of_getElem? (i := 126) rfl, List.mem_of_getElem? (i := 163) rfl, List.mem_of_getElem? (i := 164) rfl⟩
theorem lw_p12 : lw_okq (⟨"DimerCounterModel", "sumWith", "(I)I"⟩, 2) := ⟨⟨by decide +kernel, by decide +kernel⟩, List.mem_of_getElem? (i := 126) rfl, List.mem_of_getElem? (i := 175) rfl, List.mem_of_getElem? (i := 176) rfl⟩
theorem lw_p13 : lw_okq (⟨"DimerCounterModel", "tiling", "(I)I"⟩, 2) := ⟨⟨by decide +kernel, by decide +kernel⟩, List.mem_of_getElem? (i := 126) rfl, List.mem_of_getElem? (i := 179) rfl, List.mem_of_getElem? (i := 180) rfl⟩
theorem lw_p14 : lw_okq (⟨"DimerCounterModel", "firstOpen", "(I)I"⟩, 2) := ⟨⟨by decide +kernel, by decide +kernel⟩, List.mem_of_getElem? (i := 126) rfl, List.mem_of_getElem? (i := 183) rfl, List.mem_of_getElem? (i := 184) rfl⟩
theorem lw_p15 : lw_okq (⟨"DimerCounterModel", "worth", "(I)I"⟩, 2) := ⟨⟨by decide +kernel, by decide +kernel⟩, List.mem_of_getElem? (i := 126) rfl, List.mem_of_getElem? (i := 187) rfl, List.mem_of_getElem? (i := 188) rfl⟩
def lw_privs_1 : List (MethodName × Nat) := [(⟨"DimerCounter", "useWeights", "()V"⟩, 4), (⟨"DimerCounter", "sumUsed", "()I"⟩, 4), (⟨"DimerCounter", "enter", "(I)V"⟩, 4), (⟨"DimerCounter", "pivotRow", "(I)I"⟩, 4), (⟨"DimerCounter", "swapRows", "(II)V"⟩, 4), (⟨"DimerCounter", "eliminate", "(IJ)V"⟩, 4), (⟨"DimerCounter", "sumWith", "(I)I"⟩, 4), (⟨"DimerCounter", "sumWithout", "(I)I"⟩, 4), (⟨"DimerCounter", "useOnes", "()V"⟩, 4), (⟨"DimerCounterModel", "bad", "(I)Z"⟩, 2), (⟨"DimerCounterModel", "covers", "(II)Z"⟩, 2), (⟨"DimerCounterModel", "first", "(I)I"⟩, 2), (⟨"DimerCounterModel", "sumWith", "(I)I"⟩, 2), (⟨"DimerCounterModel", "tiling", "(I)I"⟩, 2), (⟨"DimerCounterModel", "firstOpen", "(I)I"⟩, 2), (⟨"DimerCounterModel", "worth", "(I)I"⟩, 2)]
theorem lw_r1 : ∀ q ∈ lw_privs_1, lw_okq q := List.forall_mem_cons.mpr ⟨lw_p0, List.forall_mem_cons.mpr ⟨lw_p1, List.forall_mem_cons.mpr ⟨lw_p2, List.forall_mem_cons.mpr ⟨lw_p3, List.forall_mem_cons.mpr ⟨lw_p4, List.forall_mem_cons.mpr ⟨lw_p5, List.forall_mem_cons.mpr ⟨lw_p6, List.forall_mem_cons.mpr ⟨lw_p7, List.forall_mem_cons.mpr ⟨lw_p8, List.forall_mem_cons.mpr ⟨lw_p9, List.forall_mem_cons.mpr ⟨lw_p10, List.forall_mem_cons.mpr ⟨lw_p11, List.forall_mem_cons.mpr ⟨lw_p12, List.forall_mem_cons.mpr ⟨lw_p13, List.forall_mem_cons.mpr ⟨lw_p14, List.forall_mem_cons.mpr ⟨lw_p15, fun _ h => absurd h List.not_mem_nil⟩⟩⟩⟩⟩⟩⟩⟩⟩⟩⟩⟩⟩⟩⟩⟩
def lw_privs : List (MethodName × Nat) := lw_privs_1
def lw_tbl : List Cond := k2_sels lw_privs ++ tables_1
theorem lw_privs_ok : ∀ q ∈ lw_privs, lw_okq q := lw_r1
-- ===== ONE list of words for every method: the tables' words that hold all through a run =====
def lw_all : List Cond := lw_tbl.filter goodWord
/-- a word of the tables by its place: claim/WORDS.tsv -/
theorem lw_w {w : Cond} (i : Nat) (h : lw_tbl[i]? = some w) (g : goodWord w = true) : w ∈ lw_all := List.mem_filter.mpr ⟨List.mem_of_getElem? h, g⟩
theorem lw_all_tbl {w : Cond} (h : w ∈ lw_all) : w ∈ lw_tbl := (List.mem_filter.mp h).1
theorem lw_self : GoodIn lw_all lw_all := fun w h => ⟨h, good_of_word (List.mem_filter.mp h).2⟩
/-- a class's field words, by their places -/
theorem lw_in (ws : List Cond) (ps : List Nat) (hp : ws = ps.filterMap (fun i => lw_tbl[i]?)) (hg : ws.all goodWord = true) : ∀ w ∈ ws, w ∈ lw_all := by
  intro w h
  have h1 := List.all_eq_true.mp hg w h
  rw [hp] at h
  obtain ⟨i, -, hi⟩ := List.mem_filterMap.mp h
  exact lw_w i hi h1
/-- the words of a contract for the method y with code b, L locals, answer r -/
abbrev ws_ (y : MethodName) (b : ByteArray) (L : Nat) (r : Option FieldType) : List Cond := Cond.code y b L r :: lw_all
theorem lw_meth {y : MethodName} {b : ByteArray} {L : Nat} {r : Option FieldType} (h : Cond.code y b L r ∈ lw_all) : GoodIn lw_all (ws_ y b L r) := by
  intro w hw
  rcases List.mem_cons.mp hw with e | e
  · rw [e]
    exact lw_self _ h
  · exact lw_self _ e
theorem lw_app {a c : List Cond} (ha : ∀ w ∈ a, w ∈ lw_all) (hc : GoodIn lw_all c) : GoodIn lw_all (a ++ c) := by
  intro w hw
  rcases List.mem_append.mp hw with e | e
  · exact lw_self w (ha w e)
  · exact hc w e
/-- what a call through an object asks: cwV n hts (lw_V ..) -/
theorem lw_V {own : String} {idx : Nat} {C : String} {y : MethodName} {b : ByteArray} {L : Nat} {r : Option FieldType} (h1 : Cond.methodLink own idx y ∈ lw_all) (h2 : Cond.instanceMethod y ∈ lw_all) (h3 : Cond.selects C y y ∈ lw_all) (h4 : Cond.initialized C ∈ lw_all) (h5 : Cond.code y b L r ∈ lw_all) : GoodIn lw_all (wsV own idx C y (ws_ y b L r)) := by
  refine lw_app ?_ (lw_meth h5)
  intro w hw
  simp only [List.mem_cons, List.not_mem_nil, or_false] at hw
  rcases hw with e | e | e | e
  · rw [e]; exact h1
  · rw [e]; exact h2
  · rw [e]; exact h3
  · rw [e]; exact h4
/-- what a static call asks: va_cwS n hts (lw_S ..) -/
theorem lw_S {own : String} {idx : Nat} {y : MethodName} {b : ByteArray} {L : Nat} {r : Option FieldType} (h1 : Cond.methodLink own idx y ∈ lw_all) (h2 : Cond.static y ∈ lw_all) (h3 : Cond.initialized y.cls ∈ lw_all) (h4 : Cond.code y b L r ∈ lw_all) : GoodIn lw_all (va_wsS own idx y (ws_ y b L r)) := by
  refine lw_app ?_ (lw_meth h4)
  intro w hw
  simp only [List.mem_cons, List.not_mem_nil, or_false] at hw
  rcases hw with e | e | e
  · rw [e]; exact h1
  · rw [e]; exact h2
  · rw [e]; exact h3
/-- the words of a contract for a method WITH HANDLERS (hh: its table) -/
abbrev wsW_ (y : MethodName) (b : ByteArray) (L : Nat) (r : Option FieldType) (hh : List (Nat × Nat × Nat × Nat)) : List Cond := Cond.codeWith y b L r hh :: lw_all
theorem lw_methW {y : MethodName} {b : ByteArray} {L : Nat} {r : Option FieldType} {hh : List (Nat × Nat × Nat × Nat)} (h : Cond.codeWith y b L r hh ∈ lw_all) : GoodIn lw_all (wsW_ y b L r hh) := by
  intro w hw
  rcases List.mem_cons.mp hw with e | e
  · rw [e]
    exact lw_self _ h
  · exact lw_self _ e
/-- any list of words by their places (lw_in), good -/
theorem lw_good {ws : List Cond} (h : ∀ w ∈ ws, w ∈ lw_all) : GoodIn lw_all ws := fun w hw => lw_self w (h w hw)
/-- what a call of a method with handlers asks: vx_cwVW n hts (lw_VW ..), vx_cwSW n hts (lw_SW ..) -/
theorem lw_VW {own : String} {idx : Nat} {C : String} {y : MethodName} {b : ByteArray} {L : Nat} {r : Option FieldType} {hh : List (Nat × Nat × Nat × Nat)} (h1 : Cond.methodLink own idx y ∈ lw_all) (h2 : Cond.instanceMethod y ∈ lw_all) (h3 : Cond.selects C y y ∈ lw_all) (h4 : Cond.initialized C ∈ lw_all) (h5 : Cond.codeWith y b L r hh ∈ lw_all) : GoodIn lw_all (wsV own idx C y (wsW_ y b L r hh)) := by
  refine lw_app ?_ (lw_methW h5)
  intro w hw
  simp only [List.mem_cons, List.not_mem_nil, or_false] at hw
  rcases hw with e | e | e | e
  · rw [e]; exact h1
  · rw [e]; exact h2
  · rw [e]; exact h3
  · rw [e]; exact h4
theorem lw_SW {own : String} {idx : Nat} {y : MethodName} {b : ByteArray} {L : Nat} {r : Option FieldType} {hh : List (Nat × Nat × Nat × Nat)} (h1 : Cond.methodLink own idx y ∈ lw_all) (h2 : Cond.static y ∈ lw_all) (h3 : Cond.initialized y.cls ∈ lw_all) (h4 : Cond.codeWith y b L r hh ∈ lw_all) : GoodIn lw_all (va_wsS own idx y (wsW_ y b L r hh)) := by
  refine lw_app ?_ (lw_methW h4)
  intro w hw
  simp only [List.mem_cons, List.not_mem_nil, or_false] at hw
  rcases hw with e | e | e
  · rw [e]; exact h1
  · rw [e]; exact h2
  · rw [e]; exact h3
/-- a word by its place in its run of the tables -/
theorem lw_at {r : List Cond} (hr : ∀ w ∈ r, w ∈ lw_tbl) {w : Cond} (i : Nat) (h : r[i]? = some w) : w ∈ lw_tbl := hr w (List.mem_of_getElem? h)
theorem lw_g {w : Cond} (h : w ∈ lw_tbl) (g : goodWord w = true) : w ∈ lw_all := List.mem_filter.mpr ⟨h, g⟩
theorem lw_ms : ∀ w ∈ k2_sels lw_privs, w ∈ lw_tbl := fun w h => show w ∈ k2_sels lw_privs ++ tables_1 from List.mem_append_left _ h
theorem lw_m0 : ∀ w ∈ tables_1, w ∈ lw_tbl := fun w h => show w ∈ k2_sels lw_privs ++ tables_1 from List.mem_append_right (k2_sels lw_privs) h
theorem qs0 : (Cond.selects "DimerCounter" ⟨"DimerCounter", "useWeights", "()V"⟩ ⟨"DimerCounter", "useWeights", "()V"⟩) ∈ lw_all := lw_g (lw_at lw_ms 0 rfl) rfl
theorem qs1 : (Cond.selects "DimerCounter" ⟨"DimerCounter", "sumUsed", "()I"⟩ ⟨"DimerCounter", "sumUsed", "()I"⟩) ∈ lw_all := lw_g (lw_at lw_ms 1 rfl) rfl
theorem qs2 : (Cond.selects "DimerCounter" ⟨"DimerCounter", "enter", "(I)V"⟩ ⟨"DimerCounter", "enter", "(I)V"⟩) ∈ lw_all := lw_g (lw_at lw_ms 2 rfl) rfl
theorem qs3 : (Cond.selects "DimerCounter" ⟨"DimerCounter", "pivotRow", "(I)I"⟩ ⟨"DimerCounter", "pivotRow", "(I)I"⟩) ∈ lw_all := lw_g (lw_at lw_ms 3 rfl) rfl
theorem qs4 : (Cond.selects "DimerCounter" ⟨"DimerCounter", "swapRows", "(II)V"⟩ ⟨"DimerCounter", "swapRows", "(II)V"⟩) ∈ lw_all := lw_g (lw_at lw_ms 4 rfl) rfl
theorem qs5 : (Cond.selects "DimerCounter" ⟨"DimerCounter", "eliminate", "(IJ)V"⟩ ⟨"DimerCounter", "eliminate", "(IJ)V"⟩) ∈ lw_all := lw_g (lw_at lw_ms 5 rfl) rfl
theorem qs6 : (Cond.selects "DimerCounter" ⟨"DimerCounter", "sumWith", "(I)I"⟩ ⟨"DimerCounter", "sumWith", "(I)I"⟩) ∈ lw_all := lw_g (lw_at lw_ms 6 rfl) rfl
theorem qs7 : (Cond.selects "DimerCounter" ⟨"DimerCounter", "sumWithout", "(I)I"⟩ ⟨"DimerCounter", "sumWithout", "(I)I"⟩) ∈ lw_all := lw_g (lw_at lw_ms 7 rfl) rfl
theorem qs8 : (Cond.selects "DimerCounter" ⟨"DimerCounter", "useOnes", "()V"⟩ ⟨"DimerCounter", "useOnes", "()V"⟩) ∈ lw_all := lw_g (lw_at lw_ms 8 rfl) rfl
theorem qs9 : (Cond.selects "DimerCounterModel" ⟨"DimerCounterModel", "bad", "(I)Z"⟩ ⟨"DimerCounterModel", "bad", "(I)Z"⟩) ∈ lw_all := lw_g (lw_at lw_ms 9 rfl) rfl
theorem qs10 : (Cond.selects "DimerCounterModel" ⟨"DimerCounterModel", "covers", "(II)Z"⟩ ⟨"DimerCounterModel", "covers", "(II)Z"⟩) ∈ lw_all := lw_g (lw_at lw_ms 10 rfl) rfl
theorem qs11 : (Cond.selects "DimerCounterModel" ⟨"DimerCounterModel", "first", "(I)I"⟩ ⟨"DimerCounterModel", "first", "(I)I"⟩) ∈ lw_all := lw_g (lw_at lw_ms 11 rfl) rfl
theorem qs12 : (Cond.selects "DimerCounterModel" ⟨"DimerCounterModel", "sumWith", "(I)I"⟩ ⟨"DimerCounterModel", "sumWith", "(I)I"⟩) ∈ lw_all := lw_g (lw_at lw_ms 12 rfl) rfl
theorem qs13 : (Cond.selects "DimerCounterModel" ⟨"DimerCounterModel", "tiling", "(I)I"⟩ ⟨"DimerCounterModel", "tiling", "(I)I"⟩) ∈ lw_all := lw_g (lw_at lw_ms 13 rfl) rfl
theorem qs14 : (Cond.selects "DimerCounterModel" ⟨"DimerCounterModel", "firstOpen", "(I)I"⟩ ⟨"DimerCounterModel", "firstOpen", "(I)I"⟩) ∈ lw_all := lw_g (lw_at lw_ms 14 rfl) rfl
theorem qs15 : (Cond.selects "DimerCounterModel" ⟨"DimerCounterModel", "worth", "(I)I"⟩ ⟨"DimerCounterModel", "worth", "(I)I"⟩) ∈ lw_all := lw_g (lw_at lw_ms 15 rfl) rfl
end
section
set_option maxRecDepth 100000
/-! java/lang/Object -/
def RJ0 : String := "java/lang/Object"
abbrev cJ0_init : ByteArray := object_method_1_code
def yJ0_init : MethodName := ⟨RJ0, "<init>", "()V"⟩
theorem q25 : (Jvm.Cond.instanceMethod ({ cls := "java/lang/Object", name := "<init>", desc := "()V" } : Jvm.MethodName)) ∈ lw_all := lw_g (lw_at lw_m0 9 rfl) rfl
theorem q26 : (Jvm.Cond.code ({ cls := "java/lang/Object", name := "<init>", desc := "()V" } : Jvm.MethodName) object_method_1_code (1 : Nat) (Option.none : Option Jvm.ClassFile.FieldType)) ∈ lw_all := lw_g (lw_at lw_m0 10 rfl) rfl
/-! DimerCounter -/
def RX0 : String := "DimerCounter"
def TX0 : u_T := fun k => match k with
  | 0 => ("DimerCounter", "weights", "[I", true)
  | 1 => ("DimerCounter", "moved", "[I", true)
  | 2 => ("DimerCounter", "used", "[I", true)
  | _ => ("DimerCounter", "table", "[J", true)
def tyX0 : Nat → FieldType := fun k => match k with
  | 0 => .array .int
  | 1 => .array .int
  | 2 => .array .int
  | _ => .array .long
abbrev wsX00 : List Cond := u_ws RX0 TX0 4
theorem nmX0 : ∀ a, a < 4 → ∀ b, b < 4 → a ≠ b → (TX0 a).2.1 ≠ (TX0 b).2.1 := by decide +kernel
theorem tyX0_ok : ∀ k, k < 4 → parseFieldDescriptor (TX0 k).2.2.1 = some (tyX0 k) := by decide +kernel
abbrev cX0_init : ByteArray := prog_1_method_1_code
def yX0_init : MethodName := ⟨RX0, "<init>", "()V"⟩
abbrev cX0_weight : ByteArray := prog_1_method_6_code
def yX0_weight : MethodName := ⟨RX0, "weight", "(II)I"⟩
abbrev cX0_bad : ByteArray := prog_1_method_2_code
def yX0_bad : MethodName := ⟨RX0, "bad", "(I)Z"⟩
abbrev cX0_all : ByteArray := prog_1_method_7_code
def yX0_all : MethodName := ⟨RX0, "all", "(I)I"⟩
abbrev cX0_turn : ByteArray := prog_1_method_8_code
def yX0_turn : MethodName := ⟨RX0, "turn", "()V"⟩
abbrev cX0_firstSquare : ByteArray := prog_1_method_3_code
def yX0_firstSquare : MethodName := ⟨RX0, "firstSquare", "(I)I"⟩
abbrev cX0_force : ByteArray := prog_1_method_9_code
def yX0_force : MethodName := ⟨RX0, "force", "(II)I"⟩
abbrev cX0_covers : ByteArray := prog_1_method_5_code
def yX0_covers : MethodName := ⟨RX0, "covers", "(II)Z"⟩
abbrev cX0_secondSquare : ByteArray := prog_1_method_4_code
def yX0_secondSquare : MethodName := ⟨RX0, "secondSquare", "(I)I"⟩
abbrev cX0_weightOf : ByteArray := prog_1_method_20_code
def yX0_weightOf : MethodName := ⟨RX0, "weightOf", "(I)I"⟩
abbrev cX0_total : ByteArray := prog_1_method_21_code
def yX0_total : MethodName := ⟨RX0, "total", "()I"⟩
abbrev cX0_useWeights : ByteArray := prog_1_method_16_code
def yX0_useWeights : MethodName := ⟨RX0, "useWeights", "()V"⟩
abbrev cX0_sumUsed : ByteArray := prog_1_method_15_code
def yX0_sumUsed : MethodName := ⟨RX0, "sumUsed", "()I"⟩
abbrev cX0_enter : ByteArray := prog_1_method_11_code
def yX0_enter : MethodName := ⟨RX0, "enter", "(I)V"⟩
abbrev cX0_black : ByteArray := prog_1_method_10_code
def yX0_black : MethodName := ⟨RX0, "black", "(I)Z"⟩
abbrev cX0_pivotRow : ByteArray := prog_1_method_12_code
def yX0_pivotRow : MethodName := ⟨RX0, "pivotRow", "(I)I"⟩
abbrev cX0_swapRows : ByteArray := prog_1_method_13_code
def yX0_swapRows : MethodName := ⟨RX0, "swapRows", "(II)V"⟩
abbrev cX0_eliminate : ByteArray := prog_1_method_14_code
def yX0_eliminate : MethodName := ⟨RX0, "eliminate", "(IJ)V"⟩
abbrev cX0_totalWith : ByteArray := prog_1_method_22_code
def yX0_totalWith : MethodName := ⟨RX0, "totalWith", "(I)I"⟩
abbrev cX0_sumWith : ByteArray := prog_1_method_19_code
def yX0_sumWith : MethodName := ⟨RX0, "sumWith", "(I)I"⟩
abbrev cX0_sumWithout : ByteArray := prog_1_method_18_code
def yX0_sumWithout : MethodName := ⟨RX0, "sumWithout", "(I)I"⟩
abbrev cX0_totalWithBoth : ByteArray := prog_1_method_23_code
def yX0_totalWithBoth : MethodName := ⟨RX0, "totalWithBoth", "(II)I"⟩
abbrev cX0_possible : ByteArray := prog_1_method_24_code
def yX0_possible : MethodName := ⟨RX0, "possible", "()I"⟩
abbrev cX0_useOnes : ByteArray := prog_1_method_17_code
def yX0_useOnes : MethodName := ⟨RX0, "useOnes", "()V"⟩
abbrev cX0_canUse : ByteArray := prog_1_method_25_code
def yX0_canUse : MethodName := ⟨RX0, "canUse", "(I)Z"⟩
abbrev cX0_settled : ByteArray := prog_1_method_26_code
def yX0_settled : MethodName := ⟨RX0, "settled", "()I"⟩
abbrev cX0_acrossTotal : ByteArray := prog_1_method_27_code
def yX0_acrossTotal : MethodName := ⟨RX0, "acrossTotal", "()I"⟩
theorem q17 : (Jvm.Cond.initialized "DimerCounter") ∈ lw_all := lw_g (lw_at lw_m0 1 rfl) rfl
theorem q20 : (Jvm.Cond.instantiable "DimerCounter" (4 : Nat)) ∈ lw_all := lw_g (lw_at lw_m0 4 rfl) rfl
theorem q22 : (Jvm.Cond.instanceMethod ({ cls := "DimerCounter", name := "<init>", desc := "()V" } : Jvm.MethodName)) ∈ lw_all := lw_g (lw_at lw_m0 6 rfl) rfl
theorem q23 : (Jvm.Cond.code ({ cls := "DimerCounter", name := "<init>", desc := "()V" } : Jvm.MethodName) prog_1_method_1_code (2 : Nat) (Option.none : Option Jvm.ClassFile.FieldType)) ∈ lw_all := lw_g (lw_at lw_m0 7 rfl) rfl
theorem q24 : (Jvm.Cond.methodLink "DimerCounter" (1 : Nat) ({ cls := "java/lang/Object", name := "<init>", desc := "()V" } : Jvm.MethodName)) ∈ lw_all := lw_g (lw_at lw_m0 8 rfl) rfl
theorem q27 : (Jvm.Cond.fieldLink "DimerCounter" (7 : Nat) "DimerCounter" "weights" "[I") ∈ lw_all := lw_g (lw_at lw_m0 11 rfl) rfl
theorem q28 : (Jvm.Cond.fieldLink "DimerCounter" (13 : Nat) "DimerCounter" "moved" "[I") ∈ lw_all := lw_g (lw_at lw_m0 12 rfl) rfl
theorem q29 : (Jvm.Cond.fieldLink "DimerCounter" (16 : Nat) "DimerCounter" "used" "[I") ∈ lw_all := lw_g (lw_at lw_m0 13 rfl) rfl
theorem q30 : (Jvm.Cond.fieldLink "DimerCounter" (19 : Nat) "DimerCounter" "table" "[J") ∈ lw_all := lw_g (lw_at lw_m0 14 rfl) rfl
theorem q31 : (Jvm.Cond.laysFinal "DimerCounter" "DimerCounter" "weights" "[I") ∈ lw_all := lw_g (lw_at lw_m0 15 rfl) rfl
theorem q32 : (Jvm.Cond.soleField "DimerCounter" "weights") ∈ lw_all := lw_g (lw_at lw_m0 16 rfl) rfl
theorem q33 : (Jvm.Cond.laysFinal "DimerCounter" "DimerCounter" "moved" "[I") ∈ lw_all := lw_g (lw_at lw_m0 17 rfl) rfl
theorem q34 : (Jvm.Cond.soleField "DimerCounter" "moved") ∈ lw_all := lw_g (lw_at lw_m0 18 rfl) rfl
theorem q35 : (Jvm.Cond.laysFinal "DimerCounter" "DimerCounter" "used" "[I") ∈ lw_all := lw_g (lw_at lw_m0 19 rfl) rfl
theorem q36 : (Jvm.Cond.soleField "DimerCounter" "used") ∈ lw_all := lw_g (lw_at lw_m0 20 rfl) rfl
theorem q37 : (Jvm.Cond.laysFinal "DimerCounter" "DimerCounter" "table" "[J") ∈ lw_all := lw_g (lw_at lw_m0 21 rfl) rfl
theorem q38 : (Jvm.Cond.soleField "DimerCounter" "table") ∈ lw_all := lw_g (lw_at lw_m0 22 rfl) rfl
theorem q39 : (Jvm.Cond.superclass "DimerCounter" "java/lang/Object") ∈ lw_all := lw_g (lw_at lw_m0 23 rfl) rfl
theorem q43 : (Jvm.Cond.instanceMethod ({ cls := "DimerCounter", name := "weight", desc := "(II)I" } : Jvm.MethodName)) ∈ lw_all := lw_g (lw_at lw_m0 27 rfl) rfl
theorem q44 : (Jvm.Cond.selects "DimerCounter" ({ cls := "DimerCounter", name := "weight", desc := "(II)I" } : Jvm.MethodName) ({ cls := "DimerCounter", name := "weight", desc := "(II)I" } : Jvm.MethodName)) ∈ lw_all := lw_g (lw_at lw_m0 28 rfl) rfl
theorem q45 : (Jvm.Cond.code ({ cls := "DimerCounter", name := "weight", desc := "(II)I" } : Jvm.MethodName) prog_1_method_6_code (4 : Nat) (Option.some Jvm.ClassFile.FieldType.int)) ∈ lw_all := lw_g (lw_at lw_m0 29 rfl) rfl
theorem q46 : (Jvm.Cond.methodLink "DimerCounter" (30 : Nat) ({ cls := "DimerCounter", name := "bad", desc := "(I)Z" } : Jvm.MethodName)) ∈ lw_all := lw_g (lw_at lw_m0 30 rfl) rfl
theorem q47 : (Jvm.Cond.static ({ cls := "DimerCounter", name := "bad", desc := "(I)Z" } : Jvm.MethodName)) ∈ lw_all := lw_g (lw_at lw_m0 31 rfl) rfl
theorem q48 : (Jvm.Cond.code ({ cls := "DimerCounter", name := "bad", desc := "(I)Z" } : Jvm.MethodName) prog_1_method_2_code (1 : Nat) (Option.some Jvm.ClassFile.FieldType.boolean)) ∈ lw_all := lw_g (lw_at lw_m0 32 rfl) rfl
theorem q50 : (Jvm.Cond.instanceMethod ({ cls := "DimerCounter", name := "all", desc := "(I)I" } : Jvm.MethodName)) ∈ lw_all := lw_g (lw_at lw_m0 34 rfl) rfl
theorem q51 : (Jvm.Cond.selects "DimerCounter" ({ cls := "DimerCounter", name := "all", desc := "(I)I" } : Jvm.MethodName) ({ cls := "DimerCounter", name := "all", desc := "(I)I" } : Jvm.MethodName)) ∈ lw_all := lw_g (lw_at lw_m0 35 rfl) rfl
theorem q52 : (Jvm.Cond.code ({ cls := "DimerCounter", name := "all", desc := "(I)I" } : Jvm.MethodName) prog_1_method_7_code (3 : Nat) (Option.some Jvm.ClassFile.FieldType.int)) ∈ lw_all := lw_g (lw_at lw_m0 36 rfl) rfl
theorem q54 : (Jvm.Cond.instanceMethod ({ cls := "DimerCounter", name := "turn", desc := "()V" } : Jvm.MethodName)) ∈ lw_all := lw_g (lw_at lw_m0 38 rfl) rfl
theorem q55 : (Jvm.Cond.selects "DimerCounter" ({ cls := "DimerCounter", name := "turn", desc := "()V" } : Jvm.MethodName) ({ cls := "DimerCounter", name := "turn", desc := "()V" } : Jvm.MethodName)) ∈ lw_all := lw_g (lw_at lw_m0 39 rfl) rfl
theorem q56 : (Jvm.Cond.code ({ cls := "DimerCounter", name := "turn", desc := "()V" } : Jvm.MethodName) prog_1_method_8_code (6 : Nat) (Option.none : Option Jvm.ClassFile.FieldType)) ∈ lw_all := lw_g (lw_at lw_m0 40 rfl) rfl
theorem q57 : (Jvm.Cond.methodLink "DimerCounter" (23 : Nat) ({ cls := "DimerCounter", name := "firstSquare", desc := "(I)I" } : Jvm.MethodName)) ∈ lw_all := lw_g (lw_at lw_m0 41 rfl) rfl
theorem q58 : (Jvm.Cond.static ({ cls := "DimerCounter", name := "firstSquare", desc := "(I)I" } : Jvm.MethodName)) ∈ lw_all := lw_g (lw_at lw_m0 42 rfl) rfl
theorem q59 : (Jvm.Cond.code ({ cls := "DimerCounter", name := "firstSquare", desc := "(I)I" } : Jvm.MethodName) prog_1_method_3_code (1 : Nat) (Option.some Jvm.ClassFile.FieldType.int)) ∈ lw_all := lw_g (lw_at lw_m0 43 rfl) rfl
theorem q61 : (Jvm.Cond.instanceMethod ({ cls := "DimerCounter", name := "force", desc := "(II)I" } : Jvm.MethodName)) ∈ lw_all := lw_g (lw_at lw_m0 45 rfl) rfl
theorem q62 : (Jvm.Cond.selects "DimerCounter" ({ cls := "DimerCounter", name := "force", desc := "(II)I" } : Jvm.MethodName) ({ cls := "DimerCounter", name := "force", desc := "(II)I" } : Jvm.MethodName)) ∈ lw_all := lw_g (lw_at lw_m0 46 rfl) rfl
theorem q63 : (Jvm.Cond.code ({ cls := "DimerCounter", name := "force", desc := "(II)I" } : Jvm.MethodName) prog_1_method_9_code (7 : Nat) (Option.some Jvm.ClassFile.FieldType.int)) ∈ lw_all := lw_g (lw_at lw_m0 47 rfl) rfl
theorem q64 : (Jvm.Cond.methodLink "DimerCounter" (34 : Nat) ({ cls := "DimerCounter", name := "covers", desc := "(II)Z" } : Jvm.MethodName)) ∈ lw_all := lw_g (lw_at lw_m0 48 rfl) rfl
theorem q65 : (Jvm.Cond.static ({ cls := "DimerCounter", name := "covers", desc := "(II)Z" } : Jvm.MethodName)) ∈ lw_all := lw_g (lw_at lw_m0 49 rfl) rfl
theorem q66 : (Jvm.Cond.code ({ cls := "DimerCounter", name := "covers", desc := "(II)Z" } : Jvm.MethodName) prog_1_method_5_code (4 : Nat) (Option.some Jvm.ClassFile.FieldType.boolean)) ∈ lw_all := lw_g (lw_at lw_m0 50 rfl) rfl
theorem q67 : (Jvm.Cond.methodLink "DimerCounter" (27 : Nat) ({ cls := "DimerCounter", name := "secondSquare", desc := "(I)I" } : Jvm.MethodName)) ∈ lw_all := lw_g (lw_at lw_m0 51 rfl) rfl
theorem q68 : (Jvm.Cond.static ({ cls := "DimerCounter", name := "secondSquare", desc := "(I)I" } : Jvm.MethodName)) ∈ lw_all := lw_g (lw_at lw_m0 52 rfl) rfl
theorem q69 : (Jvm.Cond.code ({ cls := "DimerCounter", name := "secondSquare", desc := "(I)I" } : Jvm.MethodName) prog_1_method_4_code (2 : Nat) (Option.some Jvm.ClassFile.FieldType.int)) ∈ lw_all := lw_g (lw_at lw_m0 53 rfl) rfl
theorem q71 : (Jvm.Cond.instanceMethod ({ cls := "DimerCounter", name := "weightOf", desc := "(I)I" } : Jvm.MethodName)) ∈ lw_all := lw_g (lw_at lw_m0 55 rfl) rfl
theorem q72 : (Jvm.Cond.selects "DimerCounter" ({ cls := "DimerCounter", name := "weightOf", desc := "(I)I" } : Jvm.MethodName) ({ cls := "DimerCounter", name := "weightOf", desc := "(I)I" } : Jvm.MethodName)) ∈ lw_all := lw_g (lw_at lw_m0 56 rfl) rfl
theorem q73 : (Jvm.Cond.code ({ cls := "DimerCounter", name := "weightOf", desc := "(I)I" } : Jvm.MethodName) prog_1_method_20_code (2 : Nat) (Option.some Jvm.ClassFile.FieldType.int)) ∈ lw_all := lw_g (lw_at lw_m0 57 rfl) rfl
theorem q75 : (Jvm.Cond.instanceMethod ({ cls := "DimerCounter", name := "total", desc := "()I" } : Jvm.MethodName)) ∈ lw_all := lw_g (lw_at lw_m0 59 rfl) rfl
theorem q76 : (Jvm.Cond.selects "DimerCounter" ({ cls := "DimerCounter", name := "total", desc := "()I" } : Jvm.MethodName) ({ cls := "DimerCounter", name := "total", desc := "()I" } : Jvm.MethodName)) ∈ lw_all := lw_g (lw_at lw_m0 60 rfl) rfl
theorem q77 : (Jvm.Cond.code ({ cls := "DimerCounter", name := "total", desc := "()I" } : Jvm.MethodName) prog_1_method_21_code (1 : Nat) (Option.some Jvm.ClassFile.FieldType.int)) ∈ lw_all := lw_g (lw_at lw_m0 61 rfl) rfl
theorem q78 : (Jvm.Cond.methodLink "DimerCounter" (63 : Nat) ({ cls := "DimerCounter", name := "useWeights", desc := "()V" } : Jvm.MethodName)) ∈ lw_all := lw_g (lw_at lw_m0 62 rfl) rfl
theorem q79 : (Jvm.Cond.privateMethod ({ cls := "DimerCounter", name := "useWeights", desc := "()V" } : Jvm.MethodName)) ∈ lw_tbl := lw_at lw_m0 63 rfl
theorem q80 : (Jvm.Cond.instanceMethod ({ cls := "DimerCounter", name := "useWeights", desc := "()V" } : Jvm.MethodName)) ∈ lw_all := lw_g (lw_at lw_m0 64 rfl) rfl
theorem q81 : (Jvm.Cond.code ({ cls := "DimerCounter", name := "useWeights", desc := "()V" } : Jvm.MethodName) prog_1_method_16_code (2 : Nat) (Option.none : Option Jvm.ClassFile.FieldType)) ∈ lw_all := lw_g (lw_at lw_m0 65 rfl) rfl
theorem q82 : (Jvm.Cond.methodLink "DimerCounter" (56 : Nat) ({ cls := "DimerCounter", name := "sumUsed", desc := "()I" } : Jvm.MethodName)) ∈ lw_all := lw_g (lw_at lw_m0 66 rfl) rfl
theorem q83 : (Jvm.Cond.privateMethod ({ cls := "DimerCounter", name := "sumUsed", desc := "()I" } : Jvm.MethodName)) ∈ lw_tbl := lw_at lw_m0 67 rfl
theorem q84 : (Jvm.Cond.instanceMethod ({ cls := "DimerCounter", name := "sumUsed", desc := "()I" } : Jvm.MethodName)) ∈ lw_all := lw_g (lw_at lw_m0 68 rfl) rfl
theorem q85 : (Jvm.Cond.code ({ cls := "DimerCounter", name := "sumUsed", desc := "()I" } : Jvm.MethodName) prog_1_method_15_code (5 : Nat) (Option.some Jvm.ClassFile.FieldType.int)) ∈ lw_all := lw_g (lw_at lw_m0 69 rfl) rfl
theorem q86 : (Jvm.Cond.methodLink "DimerCounter" (41 : Nat) ({ cls := "DimerCounter", name := "enter", desc := "(I)V" } : Jvm.MethodName)) ∈ lw_all := lw_g (lw_at lw_m0 70 rfl) rfl
theorem q87 : (Jvm.Cond.privateMethod ({ cls := "DimerCounter", name := "enter", desc := "(I)V" } : Jvm.MethodName)) ∈ lw_tbl := lw_at lw_m0 71 rfl
theorem q88 : (Jvm.Cond.instanceMethod ({ cls := "DimerCounter", name := "enter", desc := "(I)V" } : Jvm.MethodName)) ∈ lw_all := lw_g (lw_at lw_m0 72 rfl) rfl
theorem q89 : (Jvm.Cond.code ({ cls := "DimerCounter", name := "enter", desc := "(I)V" } : Jvm.MethodName) prog_1_method_11_code (8 : Nat) (Option.none : Option Jvm.ClassFile.FieldType)) ∈ lw_all := lw_g (lw_at lw_m0 73 rfl) rfl
theorem q90 : (Jvm.Cond.methodLink "DimerCounter" (38 : Nat) ({ cls := "DimerCounter", name := "black", desc := "(I)Z" } : Jvm.MethodName)) ∈ lw_all := lw_g (lw_at lw_m0 74 rfl) rfl
theorem q91 : (Jvm.Cond.static ({ cls := "DimerCounter", name := "black", desc := "(I)Z" } : Jvm.MethodName)) ∈ lw_all := lw_g (lw_at lw_m0 75 rfl) rfl
theorem q92 : (Jvm.Cond.code ({ cls := "DimerCounter", name := "black", desc := "(I)Z" } : Jvm.MethodName) prog_1_method_10_code (1 : Nat) (Option.some Jvm.ClassFile.FieldType.boolean)) ∈ lw_all := lw_g (lw_at lw_m0 76 rfl) rfl
theorem q93 : (Jvm.Cond.methodLink "DimerCounter" (45 : Nat) ({ cls := "DimerCounter", name := "pivotRow", desc := "(I)I" } : Jvm.MethodName)) ∈ lw_all := lw_g (lw_at lw_m0 77 rfl) rfl
theorem q94 : (Jvm.Cond.privateMethod ({ cls := "DimerCounter", name := "pivotRow", desc := "(I)I" } : Jvm.MethodName)) ∈ lw_tbl := lw_at lw_m0 78 rfl
theorem q95 : (Jvm.Cond.instanceMethod ({ cls := "DimerCounter", name := "pivotRow", desc := "(I)I" } : Jvm.MethodName)) ∈ lw_all := lw_g (lw_at lw_m0 79 rfl) rfl
theorem q96 : (Jvm.Cond.code ({ cls := "DimerCounter", name := "pivotRow", desc := "(I)I" } : Jvm.MethodName) prog_1_method_12_code (3 : Nat) (Option.some Jvm.ClassFile.FieldType.int)) ∈ lw_all := lw_g (lw_at lw_m0 80 rfl) rfl
theorem q97 : (Jvm.Cond.methodLink "DimerCounter" (48 : Nat) ({ cls := "DimerCounter", name := "swapRows", desc := "(II)V" } : Jvm.MethodName)) ∈ lw_all := lw_g (lw_at lw_m0 81 rfl) rfl
theorem q98 : (Jvm.Cond.privateMethod ({ cls := "DimerCounter", name := "swapRows", desc := "(II)V" } : Jvm.MethodName)) ∈ lw_tbl := lw_at lw_m0 82 rfl
theorem q99 : (Jvm.Cond.instanceMethod ({ cls := "DimerCounter", name := "swapRows", desc := "(II)V" } : Jvm.MethodName)) ∈ lw_all := lw_g (lw_at lw_m0 83 rfl) rfl
theorem q100 : (Jvm.Cond.code ({ cls := "DimerCounter", name := "swapRows", desc := "(II)V" } : Jvm.MethodName) prog_1_method_13_code (6 : Nat) (Option.none : Option Jvm.ClassFile.FieldType)) ∈ lw_all := lw_g (lw_at lw_m0 84 rfl) rfl
theorem q101 : (Jvm.Cond.methodLink "DimerCounter" (52 : Nat) ({ cls := "DimerCounter", name := "eliminate", desc := "(IJ)V" } : Jvm.MethodName)) ∈ lw_all := lw_g (lw_at lw_m0 85 rfl) rfl
theorem q102 : (Jvm.Cond.privateMethod ({ cls := "DimerCounter", name := "eliminate", desc := "(IJ)V" } : Jvm.MethodName)) ∈ lw_tbl := lw_at lw_m0 86 rfl
theorem q103 : (Jvm.Cond.instanceMethod ({ cls := "DimerCounter", name := "eliminate", desc := "(IJ)V" } : Jvm.MethodName)) ∈ lw_all := lw_g (lw_at lw_m0 87 rfl) rfl
theorem q104 : (Jvm.Cond.code ({ cls := "DimerCounter", name := "eliminate", desc := "(IJ)V" } : Jvm.MethodName) prog_1_method_14_code (12 : Nat) (Option.none : Option Jvm.ClassFile.FieldType)) ∈ lw_all := lw_g (lw_at lw_m0 88 rfl) rfl
theorem q106 : (Jvm.Cond.instanceMethod ({ cls := "DimerCounter", name := "totalWith", desc := "(I)I" } : Jvm.MethodName)) ∈ lw_all := lw_g (lw_at lw_m0 90 rfl) rfl
theorem q107 : (Jvm.Cond.selects "DimerCounter" ({ cls := "DimerCounter", name := "totalWith", desc := "(I)I" } : Jvm.MethodName) ({ cls := "DimerCounter", name := "totalWith", desc := "(I)I" } : Jvm.MethodName)) ∈ lw_all := lw_g (lw_at lw_m0 91 rfl) rfl
theorem q108 : (Jvm.Cond.code ({ cls := "DimerCounter", name := "totalWith", desc := "(I)I" } : Jvm.MethodName) prog_1_method_22_code (2 : Nat) (Option.some Jvm.ClassFile.FieldType.int)) ∈ lw_all := lw_g (lw_at lw_m0 92 rfl) rfl
theorem q109 : (Jvm.Cond.methodLink "DimerCounter" (66 : Nat) ({ cls := "DimerCounter", name := "sumWith", desc := "(I)I" } : Jvm.MethodName)) ∈ lw_all := lw_g (lw_at lw_m0 93 rfl) rfl
theorem q110 : (Jvm.Cond.privateMethod ({ cls := "DimerCounter", name := "sumWith", desc := "(I)I" } : Jvm.MethodName)) ∈ lw_tbl := lw_at lw_m0 94 rfl
theorem q111 : (Jvm.Cond.instanceMethod ({ cls := "DimerCounter", name := "sumWith", desc := "(I)I" } : Jvm.MethodName)) ∈ lw_all := lw_g (lw_at lw_m0 95 rfl) rfl
theorem q112 : (Jvm.Cond.code ({ cls := "DimerCounter", name := "sumWith", desc := "(I)I" } : Jvm.MethodName) prog_1_method_19_code (4 : Nat) (Option.some Jvm.ClassFile.FieldType.int)) ∈ lw_all := lw_g (lw_at lw_m0 96 rfl) rfl
theorem q113 : (Jvm.Cond.methodLink "DimerCounter" (60 : Nat) ({ cls := "DimerCounter", name := "sumWithout", desc := "(I)I" } : Jvm.MethodName)) ∈ lw_all := lw_g (lw_at lw_m0 97 rfl) rfl
theorem q114 : (Jvm.Cond.privateMethod ({ cls := "DimerCounter", name := "sumWithout", desc := "(I)I" } : Jvm.MethodName)) ∈ lw_tbl := lw_at lw_m0 98 rfl
theorem q115 : (Jvm.Cond.instanceMethod ({ cls := "DimerCounter", name := "sumWithout", desc := "(I)I" } : Jvm.MethodName)) ∈ lw_all := lw_g (lw_at lw_m0 99 rfl) rfl
theorem q116 : (Jvm.Cond.code ({ cls := "DimerCounter", name := "sumWithout", desc := "(I)I" } : Jvm.MethodName) prog_1_method_18_code (4 : Nat) (Option.some Jvm.ClassFile.FieldType.int)) ∈ lw_all := lw_g (lw_at lw_m0 100 rfl) rfl
theorem q118 : (Jvm.Cond.instanceMethod ({ cls := "DimerCounter", name := "totalWithBoth", desc := "(II)I" } : Jvm.MethodName)) ∈ lw_all := lw_g (lw_at lw_m0 102 rfl) rfl
theorem q119 : (Jvm.Cond.selects "DimerCounter" ({ cls := "DimerCounter", name := "totalWithBoth", desc := "(II)I" } : Jvm.MethodName) ({ cls := "DimerCounter", name := "totalWithBoth", desc := "(II)I" } : Jvm.MethodName)) ∈ lw_all := lw_g (lw_at lw_m0 103 rfl) rfl
theorem q120 : (Jvm.Cond.code ({ cls := "DimerCounter", name := "totalWithBoth", desc := "(II)I" } : Jvm.MethodName) prog_1_method_23_code (5 : Nat) (Option.some Jvm.ClassFile.FieldType.int)) ∈ lw_all := lw_g (lw_at lw_m0 104 rfl) rfl
theorem q122 : (Jvm.Cond.instanceMethod ({ cls := "DimerCounter", name := "possible", desc := "()I" } : Jvm.MethodName)) ∈ lw_all := lw_g (lw_at lw_m0 106 rfl) rfl
theorem q123 : (Jvm.Cond.selects "DimerCounter" ({ cls := "DimerCounter", name := "possible", desc := "()I" } : Jvm.MethodName) ({ cls := "DimerCounter", name := "possible", desc := "()I" } : Jvm.MethodName)) ∈ lw_all := lw_g (lw_at lw_m0 107 rfl) rfl
theorem q124 : (Jvm.Cond.code ({ cls := "DimerCounter", name := "possible", desc := "()I" } : Jvm.MethodName) prog_1_method_24_code (1 : Nat) (Option.some Jvm.ClassFile.FieldType.int)) ∈ lw_all := lw_g (lw_at lw_m0 108 rfl) rfl
theorem q125 : (Jvm.Cond.methodLink "DimerCounter" (69 : Nat) ({ cls := "DimerCounter", name := "useOnes", desc := "()V" } : Jvm.MethodName)) ∈ lw_all := lw_g (lw_at lw_m0 109 rfl) rfl
theorem q126 : (Jvm.Cond.privateMethod ({ cls := "DimerCounter", name := "useOnes", desc := "()V" } : Jvm.MethodName)) ∈ lw_tbl := lw_at lw_m0 110 rfl
theorem q127 : (Jvm.Cond.instanceMethod ({ cls := "DimerCounter", name := "useOnes", desc := "()V" } : Jvm.MethodName)) ∈ lw_all := lw_g (lw_at lw_m0 111 rfl) rfl
theorem q128 : (Jvm.Cond.code ({ cls := "DimerCounter", name := "useOnes", desc := "()V" } : Jvm.MethodName) prog_1_method_17_code (2 : Nat) (Option.none : Option Jvm.ClassFile.FieldType)) ∈ lw_all := lw_g (lw_at lw_m0 112 rfl) rfl
theorem q130 : (Jvm.Cond.instanceMethod ({ cls := "DimerCounter", name := "canUse", desc := "(I)Z" } : Jvm.MethodName)) ∈ lw_all := lw_g (lw_at lw_m0 114 rfl) rfl
theorem q131 : (Jvm.Cond.selects "DimerCounter" ({ cls := "DimerCounter", name := "canUse", desc := "(I)Z" } : Jvm.MethodName) ({ cls := "DimerCounter", name := "canUse", desc := "(I)Z" } : Jvm.MethodName)) ∈ lw_all := lw_g (lw_at lw_m0 115 rfl) rfl
theorem q132 : (Jvm.Cond.code ({ cls := "DimerCounter", name := "canUse", desc := "(I)Z" } : Jvm.MethodName) prog_1_method_25_code (3 : Nat) (Option.some Jvm.ClassFile.FieldType.boolean)) ∈ lw_all := lw_g (lw_at lw_m0 116 rfl) rfl
theorem q134 : (Jvm.Cond.instanceMethod ({ cls := "DimerCounter", name := "settled", desc := "()I" } : Jvm.MethodName)) ∈ lw_all := lw_g (lw_at lw_m0 118 rfl) rfl
theorem q135 : (Jvm.Cond.selects "DimerCounter" ({ cls := "DimerCounter", name := "settled", desc := "()I" } : Jvm.MethodName) ({ cls := "DimerCounter", name := "settled", desc := "()I" } : Jvm.MethodName)) ∈ lw_all := lw_g (lw_at lw_m0 119 rfl) rfl
theorem q136 : (Jvm.Cond.code ({ cls := "DimerCounter", name := "settled", desc := "()I" } : Jvm.MethodName) prog_1_method_26_code (5 : Nat) (Option.some Jvm.ClassFile.FieldType.int)) ∈ lw_all := lw_g (lw_at lw_m0 120 rfl) rfl
theorem q138 : (Jvm.Cond.instanceMethod ({ cls := "DimerCounter", name := "acrossTotal", desc := "()I" } : Jvm.MethodName)) ∈ lw_all := lw_g (lw_at lw_m0 122 rfl) rfl
theorem q139 : (Jvm.Cond.selects "DimerCounter" ({ cls := "DimerCounter", name := "acrossTotal", desc := "()I" } : Jvm.MethodName) ({ cls := "DimerCounter", name := "acrossTotal", desc := "()I" } : Jvm.MethodName)) ∈ lw_all := lw_g (lw_at lw_m0 123 rfl) rfl
theorem q140 : (Jvm.Cond.code ({ cls := "DimerCounter", name := "acrossTotal", desc := "()I" } : Jvm.MethodName) prog_1_method_27_code (3 : Nat) (Option.some Jvm.ClassFile.FieldType.int)) ∈ lw_all := lw_g (lw_at lw_m0 124 rfl) rfl
theorem in_X0 : ∀ w ∈ wsX00, w ∈ lw_all := lw_in wsX00 [31, 33, 35, 37] (by decide +kernel) (by decide +kernel)
/-! DimerCounterModel -/
def RX1 : String := "DimerCounterModel"
def TX1 : u_T := fun k => match k with
  | 0 => ("DimerCounterModel", "weights", "[I", true)
  | _ => ("DimerCounterModel", "old", "[I", true)
def tyX1 : Nat → FieldType := fun k => match k with
  | 0 => .array .int
  | _ => .array .int
abbrev wsX10 : List Cond := u_ws RX1 TX1 2
theorem nmX1 : ∀ a, a < 2 → ∀ b, b < 2 → a ≠ b → (TX1 a).2.1 ≠ (TX1 b).2.1 := by decide +kernel
theorem tyX1_ok : ∀ k, k < 2 → parseFieldDescriptor (TX1 k).2.2.1 = some (tyX1 k) := by decide +kernel
abbrev cX1_init : ByteArray := prog_3_method_1_code
def yX1_init : MethodName := ⟨RX1, "<init>", "()V"⟩
abbrev cX1_weight : ByteArray := prog_3_method_3_code
def yX1_weight : MethodName := ⟨RX1, "weight", "(II)I"⟩
abbrev cX1_bad : ByteArray := prog_3_method_2_code
def yX1_bad : MethodName := ⟨RX1, "bad", "(I)Z"⟩
abbrev cX1_all : ByteArray := prog_3_method_4_code
def yX1_all : MethodName := ⟨RX1, "all", "(I)I"⟩
abbrev cX1_turn : ByteArray := prog_3_method_5_code
def yX1_turn : MethodName := ⟨RX1, "turn", "()V"⟩
abbrev cX1_force : ByteArray := prog_3_method_8_code
def yX1_force : MethodName := ⟨RX1, "force", "(II)I"⟩
abbrev cX1_covers : ByteArray := prog_3_method_7_code
def yX1_covers : MethodName := ⟨RX1, "covers", "(II)Z"⟩
abbrev cX1_first : ByteArray := prog_3_method_6_code
def yX1_first : MethodName := ⟨RX1, "first", "(I)I"⟩
abbrev cX1_weightOf : ByteArray := prog_3_method_13_code
def yX1_weightOf : MethodName := ⟨RX1, "weightOf", "(I)I"⟩
abbrev cX1_total : ByteArray := prog_3_method_14_code
def yX1_total : MethodName := ⟨RX1, "total", "()I"⟩
abbrev cX1_sumWith : ByteArray := prog_3_method_12_code
def yX1_sumWith : MethodName := ⟨RX1, "sumWith", "(I)I"⟩
abbrev cX1_tiling : ByteArray := prog_3_method_10_code
def yX1_tiling : MethodName := ⟨RX1, "tiling", "(I)I"⟩
abbrev cX1_firstOpen : ByteArray := prog_3_method_9_code
def yX1_firstOpen : MethodName := ⟨RX1, "firstOpen", "(I)I"⟩
abbrev cX1_worth : ByteArray := prog_3_method_11_code
def yX1_worth : MethodName := ⟨RX1, "worth", "(I)I"⟩
abbrev cX1_totalWith : ByteArray := prog_3_method_15_code
def yX1_totalWith : MethodName := ⟨RX1, "totalWith", "(I)I"⟩
abbrev cX1_totalWithBoth : ByteArray := prog_3_method_16_code
def yX1_totalWithBoth : MethodName := ⟨RX1, "totalWithBoth", "(II)I"⟩
abbrev cX1_possible : ByteArray := prog_3_method_17_code
def yX1_possible : MethodName := ⟨RX1, "possible", "()I"⟩
abbrev cX1_canUse : ByteArray := prog_3_method_18_code
def yX1_canUse : MethodName := ⟨RX1, "canUse", "(I)Z"⟩
abbrev cX1_settled : ByteArray := prog_3_method_19_code
def yX1_settled : MethodName := ⟨RX1, "settled", "()I"⟩
abbrev cX1_acrossTotal : ByteArray := prog_3_method_20_code
def yX1_acrossTotal : MethodName := ⟨RX1, "acrossTotal", "()I"⟩
theorem q18 : (Jvm.Cond.initialized "DimerCounterModel") ∈ lw_all := lw_g (lw_at lw_m0 2 rfl) rfl
theorem q142 : (Jvm.Cond.instantiable "DimerCounterModel" (2 : Nat)) ∈ lw_all := lw_g (lw_at lw_m0 126 rfl) rfl
theorem q144 : (Jvm.Cond.instanceMethod ({ cls := "DimerCounterModel", name := "<init>", desc := "()V" } : Jvm.MethodName)) ∈ lw_all := lw_g (lw_at lw_m0 128 rfl) rfl
theorem q145 : (Jvm.Cond.code ({ cls := "DimerCounterModel", name := "<init>", desc := "()V" } : Jvm.MethodName) prog_3_method_1_code (2 : Nat) (Option.none : Option Jvm.ClassFile.FieldType)) ∈ lw_all := lw_g (lw_at lw_m0 129 rfl) rfl
theorem q146 : (Jvm.Cond.methodLink "DimerCounterModel" (1 : Nat) ({ cls := "java/lang/Object", name := "<init>", desc := "()V" } : Jvm.MethodName)) ∈ lw_all := lw_g (lw_at lw_m0 130 rfl) rfl
theorem q147 : (Jvm.Cond.fieldLink "DimerCounterModel" (7 : Nat) "DimerCounterModel" "weights" "[I") ∈ lw_all := lw_g (lw_at lw_m0 131 rfl) rfl
theorem q148 : (Jvm.Cond.fieldLink "DimerCounterModel" (13 : Nat) "DimerCounterModel" "old" "[I") ∈ lw_all := lw_g (lw_at lw_m0 132 rfl) rfl
theorem q149 : (Jvm.Cond.laysFinal "DimerCounterModel" "DimerCounterModel" "weights" "[I") ∈ lw_all := lw_g (lw_at lw_m0 133 rfl) rfl
theorem q150 : (Jvm.Cond.soleField "DimerCounterModel" "weights") ∈ lw_all := lw_g (lw_at lw_m0 134 rfl) rfl
theorem q151 : (Jvm.Cond.laysFinal "DimerCounterModel" "DimerCounterModel" "old" "[I") ∈ lw_all := lw_g (lw_at lw_m0 135 rfl) rfl
theorem q152 : (Jvm.Cond.soleField "DimerCounterModel" "old") ∈ lw_all := lw_g (lw_at lw_m0 136 rfl) rfl
theorem q153 : (Jvm.Cond.superclass "DimerCounterModel" "java/lang/Object") ∈ lw_all := lw_g (lw_at lw_m0 137 rfl) rfl
theorem q155 : (Jvm.Cond.instanceMethod ({ cls := "DimerCounterModel", name := "weight", desc := "(II)I" } : Jvm.MethodName)) ∈ lw_all := lw_g (lw_at lw_m0 139 rfl) rfl
theorem q156 : (Jvm.Cond.selects "DimerCounterModel" ({ cls := "DimerCounterModel", name := "weight", desc := "(II)I" } : Jvm.MethodName) ({ cls := "DimerCounterModel", name := "weight", desc := "(II)I" } : Jvm.MethodName)) ∈ lw_all := lw_g (lw_at lw_m0 140 rfl) rfl
theorem q157 : (Jvm.Cond.code ({ cls := "DimerCounterModel", name := "weight", desc := "(II)I" } : Jvm.MethodName) prog_3_method_3_code (4 : Nat) (Option.some Jvm.ClassFile.FieldType.int)) ∈ lw_all := lw_g (lw_at lw_m0 141 rfl) rfl
theorem q158 : (Jvm.Cond.methodLink "DimerCounterModel" (16 : Nat) ({ cls := "DimerCounterModel", name := "bad", desc := "(I)Z" } : Jvm.MethodName)) ∈ lw_all := lw_g (lw_at lw_m0 142 rfl) rfl
theorem q159 : (Jvm.Cond.privateMethod ({ cls := "DimerCounterModel", name := "bad", desc := "(I)Z" } : Jvm.MethodName)) ∈ lw_tbl := lw_at lw_m0 143 rfl
theorem q160 : (Jvm.Cond.instanceMethod ({ cls := "DimerCounterModel", name := "bad", desc := "(I)Z" } : Jvm.MethodName)) ∈ lw_all := lw_g (lw_at lw_m0 144 rfl) rfl
theorem q161 : (Jvm.Cond.code ({ cls := "DimerCounterModel", name := "bad", desc := "(I)Z" } : Jvm.MethodName) prog_3_method_2_code (2 : Nat) (Option.some Jvm.ClassFile.FieldType.boolean)) ∈ lw_all := lw_g (lw_at lw_m0 145 rfl) rfl
theorem q163 : (Jvm.Cond.instanceMethod ({ cls := "DimerCounterModel", name := "all", desc := "(I)I" } : Jvm.MethodName)) ∈ lw_all := lw_g (lw_at lw_m0 147 rfl) rfl
theorem q164 : (Jvm.Cond.selects "DimerCounterModel" ({ cls := "DimerCounterModel", name := "all", desc := "(I)I" } : Jvm.MethodName) ({ cls := "DimerCounterModel", name := "all", desc := "(I)I" } : Jvm.MethodName)) ∈ lw_all := lw_g (lw_at lw_m0 148 rfl) rfl
theorem q165 : (Jvm.Cond.code ({ cls := "DimerCounterModel", name := "all", desc := "(I)I" } : Jvm.MethodName) prog_3_method_4_code (3 : Nat) (Option.some Jvm.ClassFile.FieldType.int)) ∈ lw_all := lw_g (lw_at lw_m0 149 rfl) rfl
theorem q167 : (Jvm.Cond.instanceMethod ({ cls := "DimerCounterModel", name := "turn", desc := "()V" } : Jvm.MethodName)) ∈ lw_all := lw_g (lw_at lw_m0 151 rfl) rfl
theorem q168 : (Jvm.Cond.selects "DimerCounterModel" ({ cls := "DimerCounterModel", name := "turn", desc := "()V" } : Jvm.MethodName) ({ cls := "DimerCounterModel", name := "turn", desc := "()V" } : Jvm.MethodName)) ∈ lw_all := lw_g (lw_at lw_m0 152 rfl) rfl
theorem q169 : (Jvm.Cond.code ({ cls := "DimerCounterModel", name := "turn", desc := "()V" } : Jvm.MethodName) prog_3_method_5_code (2 : Nat) (Option.none : Option Jvm.ClassFile.FieldType)) ∈ lw_all := lw_g (lw_at lw_m0 153 rfl) rfl
theorem q171 : (Jvm.Cond.instanceMethod ({ cls := "DimerCounterModel", name := "force", desc := "(II)I" } : Jvm.MethodName)) ∈ lw_all := lw_g (lw_at lw_m0 155 rfl) rfl
theorem q172 : (Jvm.Cond.selects "DimerCounterModel" ({ cls := "DimerCounterModel", name := "force", desc := "(II)I" } : Jvm.MethodName) ({ cls := "DimerCounterModel", name := "force", desc := "(II)I" } : Jvm.MethodName)) ∈ lw_all := lw_g (lw_at lw_m0 156 rfl) rfl
theorem q173 : (Jvm.Cond.code ({ cls := "DimerCounterModel", name := "force", desc := "(II)I" } : Jvm.MethodName) prog_3_method_8_code (5 : Nat) (Option.some Jvm.ClassFile.FieldType.int)) ∈ lw_all := lw_g (lw_at lw_m0 157 rfl) rfl
theorem q174 : (Jvm.Cond.methodLink "DimerCounterModel" (24 : Nat) ({ cls := "DimerCounterModel", name := "covers", desc := "(II)Z" } : Jvm.MethodName)) ∈ lw_all := lw_g (lw_at lw_m0 158 rfl) rfl
theorem q175 : (Jvm.Cond.privateMethod ({ cls := "DimerCounterModel", name := "covers", desc := "(II)Z" } : Jvm.MethodName)) ∈ lw_tbl := lw_at lw_m0 159 rfl
theorem q176 : (Jvm.Cond.instanceMethod ({ cls := "DimerCounterModel", name := "covers", desc := "(II)Z" } : Jvm.MethodName)) ∈ lw_all := lw_g (lw_at lw_m0 160 rfl) rfl
theorem q177 : (Jvm.Cond.code ({ cls := "DimerCounterModel", name := "covers", desc := "(II)Z" } : Jvm.MethodName) prog_3_method_7_code (4 : Nat) (Option.some Jvm.ClassFile.FieldType.boolean)) ∈ lw_all := lw_g (lw_at lw_m0 161 rfl) rfl
theorem q178 : (Jvm.Cond.methodLink "DimerCounterModel" (20 : Nat) ({ cls := "DimerCounterModel", name := "first", desc := "(I)I" } : Jvm.MethodName)) ∈ lw_all := lw_g (lw_at lw_m0 162 rfl) rfl
theorem q179 : (Jvm.Cond.privateMethod ({ cls := "DimerCounterModel", name := "first", desc := "(I)I" } : Jvm.MethodName)) ∈ lw_tbl := lw_at lw_m0 163 rfl
theorem q180 : (Jvm.Cond.instanceMethod ({ cls := "DimerCounterModel", name := "first", desc := "(I)I" } : Jvm.MethodName)) ∈ lw_all := lw_g (lw_at lw_m0 164 rfl) rfl
theorem q181 : (Jvm.Cond.code ({ cls := "DimerCounterModel", name := "first", desc := "(I)I" } : Jvm.MethodName) prog_3_method_6_code (2 : Nat) (Option.some Jvm.ClassFile.FieldType.int)) ∈ lw_all := lw_g (lw_at lw_m0 165 rfl) rfl
theorem q183 : (Jvm.Cond.instanceMethod ({ cls := "DimerCounterModel", name := "weightOf", desc := "(I)I" } : Jvm.MethodName)) ∈ lw_all := lw_g (lw_at lw_m0 167 rfl) rfl
theorem q184 : (Jvm.Cond.selects "DimerCounterModel" ({ cls := "DimerCounterModel", name := "weightOf", desc := "(I)I" } : Jvm.MethodName) ({ cls := "DimerCounterModel", name := "weightOf", desc := "(I)I" } : Jvm.MethodName)) ∈ lw_all := lw_g (lw_at lw_m0 168 rfl) rfl
theorem q185 : (Jvm.Cond.code ({ cls := "DimerCounterModel", name := "weightOf", desc := "(I)I" } : Jvm.MethodName) prog_3_method_13_code (2 : Nat) (Option.some Jvm.ClassFile.FieldType.int)) ∈ lw_all := lw_g (lw_at lw_m0 169 rfl) rfl
theorem q187 : (Jvm.Cond.instanceMethod ({ cls := "DimerCounterModel", name := "total", desc := "()I" } : Jvm.MethodName)) ∈ lw_all := lw_g (lw_at lw_m0 171 rfl) rfl
theorem q188 : (Jvm.Cond.selects "DimerCounterModel" ({ cls := "DimerCounterModel", name := "total", desc := "()I" } : Jvm.MethodName) ({ cls := "DimerCounterModel", name := "total", desc := "()I" } : Jvm.MethodName)) ∈ lw_all := lw_g (lw_at lw_m0 172 rfl) rfl
theorem q189 : (Jvm.Cond.code ({ cls := "DimerCounterModel", name := "total", desc := "()I" } : Jvm.MethodName) prog_3_method_14_code (1 : Nat) (Option.some Jvm.ClassFile.FieldType.int)) ∈ lw_all := lw_g (lw_at lw_m0 173 rfl) rfl
theorem q190 : (Jvm.Cond.methodLink "DimerCounterModel" (37 : Nat) ({ cls := "DimerCounterModel", name := "sumWith", desc := "(I)I" } : Jvm.MethodName)) ∈ lw_all := lw_g (lw_at lw_m0 174 rfl) rfl
theorem q191 : (Jvm.Cond.privateMethod ({ cls := "DimerCounterModel", name := "sumWith", desc := "(I)I" } : Jvm.MethodName)) ∈ lw_tbl := lw_at lw_m0 175 rfl
theorem q192 : (Jvm.Cond.instanceMethod ({ cls := "DimerCounterModel", name := "sumWith", desc := "(I)I" } : Jvm.MethodName)) ∈ lw_all := lw_g (lw_at lw_m0 176 rfl) rfl
theorem q193 : (Jvm.Cond.code ({ cls := "DimerCounterModel", name := "sumWith", desc := "(I)I" } : Jvm.MethodName) prog_3_method_12_code (6 : Nat) (Option.some Jvm.ClassFile.FieldType.int)) ∈ lw_all := lw_g (lw_at lw_m0 177 rfl) rfl
theorem q194 : (Jvm.Cond.methodLink "DimerCounterModel" (31 : Nat) ({ cls := "DimerCounterModel", name := "tiling", desc := "(I)I" } : Jvm.MethodName)) ∈ lw_all := lw_g (lw_at lw_m0 178 rfl) rfl
theorem q195 : (Jvm.Cond.privateMethod ({ cls := "DimerCounterModel", name := "tiling", desc := "(I)I" } : Jvm.MethodName)) ∈ lw_tbl := lw_at lw_m0 179 rfl
theorem q196 : (Jvm.Cond.instanceMethod ({ cls := "DimerCounterModel", name := "tiling", desc := "(I)I" } : Jvm.MethodName)) ∈ lw_all := lw_g (lw_at lw_m0 180 rfl) rfl
theorem q197 : (Jvm.Cond.code ({ cls := "DimerCounterModel", name := "tiling", desc := "(I)I" } : Jvm.MethodName) prog_3_method_10_code (8 : Nat) (Option.some Jvm.ClassFile.FieldType.int)) ∈ lw_all := lw_g (lw_at lw_m0 181 rfl) rfl
theorem q198 : (Jvm.Cond.methodLink "DimerCounterModel" (28 : Nat) ({ cls := "DimerCounterModel", name := "firstOpen", desc := "(I)I" } : Jvm.MethodName)) ∈ lw_all := lw_g (lw_at lw_m0 182 rfl) rfl
theorem q199 : (Jvm.Cond.privateMethod ({ cls := "DimerCounterModel", name := "firstOpen", desc := "(I)I" } : Jvm.MethodName)) ∈ lw_tbl := lw_at lw_m0 183 rfl
theorem q200 : (Jvm.Cond.instanceMethod ({ cls := "DimerCounterModel", name := "firstOpen", desc := "(I)I" } : Jvm.MethodName)) ∈ lw_all := lw_g (lw_at lw_m0 184 rfl) rfl
theorem q201 : (Jvm.Cond.code ({ cls := "DimerCounterModel", name := "firstOpen", desc := "(I)I" } : Jvm.MethodName) prog_3_method_9_code (3 : Nat) (Option.some Jvm.ClassFile.FieldType.int)) ∈ lw_all := lw_g (lw_at lw_m0 185 rfl) rfl
theorem q202 : (Jvm.Cond.methodLink "DimerCounterModel" (34 : Nat) ({ cls := "DimerCounterModel", name := "worth", desc := "(I)I" } : Jvm.MethodName)) ∈ lw_all := lw_g (lw_at lw_m0 186 rfl) rfl
theorem q203 : (Jvm.Cond.privateMethod ({ cls := "DimerCounterModel", name := "worth", desc := "(I)I" } : Jvm.MethodName)) ∈ lw_tbl := lw_at lw_m0 187 rfl
theorem q204 : (Jvm.Cond.instanceMethod ({ cls := "DimerCounterModel", name := "worth", desc := "(I)I" } : Jvm.MethodName)) ∈ lw_all := lw_g (lw_at lw_m0 188 rfl) rfl
theorem q205 : (Jvm.Cond.code ({ cls := "DimerCounterModel", name := "worth", desc := "(I)I" } : Jvm.MethodName) prog_3_method_11_code (4 : Nat) (Option.some Jvm.ClassFile.FieldType.int)) ∈ lw_all := lw_g (lw_at lw_m0 189 rfl) rfl
theorem q207 : (Jvm.Cond.instanceMethod ({ cls := "DimerCounterModel", name := "totalWith", desc := "(I)I" } : Jvm.MethodName)) ∈ lw_all := lw_g (lw_at lw_m0 191 rfl) rfl
theorem q208 : (Jvm.Cond.selects "DimerCounterModel" ({ cls := "DimerCounterModel", name := "totalWith", desc := "(I)I" } : Jvm.MethodName) ({ cls := "DimerCounterModel", name := "totalWith", desc := "(I)I" } : Jvm.MethodName)) ∈ lw_all := lw_g (lw_at lw_m0 192 rfl) rfl
theorem q209 : (Jvm.Cond.code ({ cls := "DimerCounterModel", name := "totalWith", desc := "(I)I" } : Jvm.MethodName) prog_3_method_15_code (2 : Nat) (Option.some Jvm.ClassFile.FieldType.int)) ∈ lw_all := lw_g (lw_at lw_m0 193 rfl) rfl
theorem q211 : (Jvm.Cond.instanceMethod ({ cls := "DimerCounterModel", name := "totalWithBoth", desc := "(II)I" } : Jvm.MethodName)) ∈ lw_all := lw_g (lw_at lw_m0 195 rfl) rfl
theorem q212 : (Jvm.Cond.selects "DimerCounterModel" ({ cls := "DimerCounterModel", name := "totalWithBoth", desc := "(II)I" } : Jvm.MethodName) ({ cls := "DimerCounterModel", name := "totalWithBoth", desc := "(II)I" } : Jvm.MethodName)) ∈ lw_all := lw_g (lw_at lw_m0 196 rfl) rfl
theorem q213 : (Jvm.Cond.code ({ cls := "DimerCounterModel", name := "totalWithBoth", desc := "(II)I" } : Jvm.MethodName) prog_3_method_16_code (3 : Nat) (Option.some Jvm.ClassFile.FieldType.int)) ∈ lw_all := lw_g (lw_at lw_m0 197 rfl) rfl
theorem q215 : (Jvm.Cond.instanceMethod ({ cls := "DimerCounterModel", name := "possible", desc := "()I" } : Jvm.MethodName)) ∈ lw_all := lw_g (lw_at lw_m0 199 rfl) rfl
theorem q216 : (Jvm.Cond.selects "DimerCounterModel" ({ cls := "DimerCounterModel", name := "possible", desc := "()I" } : Jvm.MethodName) ({ cls := "DimerCounterModel", name := "possible", desc := "()I" } : Jvm.MethodName)) ∈ lw_all := lw_g (lw_at lw_m0 200 rfl) rfl
theorem q217 : (Jvm.Cond.code ({ cls := "DimerCounterModel", name := "possible", desc := "()I" } : Jvm.MethodName) prog_3_method_17_code (4 : Nat) (Option.some Jvm.ClassFile.FieldType.int)) ∈ lw_all := lw_g (lw_at lw_m0 201 rfl) rfl
theorem q219 : (Jvm.Cond.instanceMethod ({ cls := "DimerCounterModel", name := "canUse", desc := "(I)Z" } : Jvm.MethodName)) ∈ lw_all := lw_g (lw_at lw_m0 203 rfl) rfl
theorem q220 : (Jvm.Cond.selects "DimerCounterModel" ({ cls := "DimerCounterModel", name := "canUse", desc := "(I)Z" } : Jvm.MethodName) ({ cls := "DimerCounterModel", name := "canUse", desc := "(I)Z" } : Jvm.MethodName)) ∈ lw_all := lw_g (lw_at lw_m0 204 rfl) rfl
theorem q221 : (Jvm.Cond.code ({ cls := "DimerCounterModel", name := "canUse", desc := "(I)Z" } : Jvm.MethodName) prog_3_method_18_code (2 : Nat) (Option.some Jvm.ClassFile.FieldType.boolean)) ∈ lw_all := lw_g (lw_at lw_m0 205 rfl) rfl
theorem q223 : (Jvm.Cond.instanceMethod ({ cls := "DimerCounterModel", name := "settled", desc := "()I" } : Jvm.MethodName)) ∈ lw_all := lw_g (lw_at lw_m0 207 rfl) rfl
theorem q224 : (Jvm.Cond.selects "DimerCounterModel" ({ cls := "DimerCounterModel", name := "settled", desc := "()I" } : Jvm.MethodName) ({ cls := "DimerCounterModel", name := "settled", desc := "()I" } : Jvm.MethodName)) ∈ lw_all := lw_g (lw_at lw_m0 208 rfl) rfl
theorem q225 : (Jvm.Cond.code ({ cls := "DimerCounterModel", name := "settled", desc := "()I" } : Jvm.MethodName) prog_3_method_19_code (4 : Nat) (Option.some Jvm.ClassFile.FieldType.int)) ∈ lw_all := lw_g (lw_at lw_m0 209 rfl) rfl
theorem q226 : (Jvm.Cond.constant "DimerCounterModel" (40 : Nat) (16777215 : Int32)) ∈ lw_all := lw_g (lw_at lw_m0 210 rfl) rfl
theorem q228 : (Jvm.Cond.instanceMethod ({ cls := "DimerCounterModel", name := "acrossTotal", desc := "()I" } : Jvm.MethodName)) ∈ lw_all := lw_g (lw_at lw_m0 212 rfl) rfl
theorem q229 : (Jvm.Cond.selects "DimerCounterModel" ({ cls := "DimerCounterModel", name := "acrossTotal", desc := "()I" } : Jvm.MethodName) ({ cls := "DimerCounterModel", name := "acrossTotal", desc := "()I" } : Jvm.MethodName)) ∈ lw_all := lw_g (lw_at lw_m0 213 rfl) rfl
theorem q230 : (Jvm.Cond.code ({ cls := "DimerCounterModel", name := "acrossTotal", desc := "()I" } : Jvm.MethodName) prog_3_method_20_code (4 : Nat) (Option.some Jvm.ClassFile.FieldType.int)) ∈ lw_all := lw_g (lw_at lw_m0 214 rfl) rfl
theorem in_X1 : ∀ w ∈ wsX10, w ∈ lw_all := lw_in wsX10 [149, 151] (by decide +kernel) (by decide +kernel)
/-! the law's own entry -/
abbrev cL_law : ByteArray := code
theorem q40 : (Jvm.Cond.arrayClass Jvm.ClassFile.FieldType.int) ∈ lw_all := lw_g (lw_at lw_m0 24 rfl) rfl
theorem q41 : (Jvm.Cond.arrayClass Jvm.ClassFile.FieldType.long) ∈ lw_all := lw_g (lw_at lw_m0 25 rfl) rfl
theorem q16 : (Jvm.Cond.initialized "DimerCounterLaw") ∈ lw_all := lw_g (lw_at lw_m0 0 rfl) rfl
theorem q19 : (Jvm.Cond.classLink "DimerCounterLaw" (7 : Nat) "DimerCounter") ∈ lw_all := lw_g (lw_at lw_m0 3 rfl) rfl
theorem q21 : (Jvm.Cond.methodLink "DimerCounterLaw" (9 : Nat) ({ cls := "DimerCounter", name := "<init>", desc := "()V" } : Jvm.MethodName)) ∈ lw_all := lw_g (lw_at lw_m0 5 rfl) rfl
theorem q42 : (Jvm.Cond.methodLink "DimerCounterLaw" (13 : Nat) ({ cls := "DimerCounter", name := "weight", desc := "(II)I" } : Jvm.MethodName)) ∈ lw_all := lw_g (lw_at lw_m0 26 rfl) rfl
theorem q49 : (Jvm.Cond.methodLink "DimerCounterLaw" (18 : Nat) ({ cls := "DimerCounter", name := "all", desc := "(I)I" } : Jvm.MethodName)) ∈ lw_all := lw_g (lw_at lw_m0 33 rfl) rfl
theorem q53 : (Jvm.Cond.methodLink "DimerCounterLaw" (23 : Nat) ({ cls := "DimerCounter", name := "turn", desc := "()V" } : Jvm.MethodName)) ∈ lw_all := lw_g (lw_at lw_m0 37 rfl) rfl
theorem q60 : (Jvm.Cond.methodLink "DimerCounterLaw" (27 : Nat) ({ cls := "DimerCounter", name := "force", desc := "(II)I" } : Jvm.MethodName)) ∈ lw_all := lw_g (lw_at lw_m0 44 rfl) rfl
theorem q70 : (Jvm.Cond.methodLink "DimerCounterLaw" (31 : Nat) ({ cls := "DimerCounter", name := "weightOf", desc := "(I)I" } : Jvm.MethodName)) ∈ lw_all := lw_g (lw_at lw_m0 54 rfl) rfl
theorem q74 : (Jvm.Cond.methodLink "DimerCounterLaw" (35 : Nat) ({ cls := "DimerCounter", name := "total", desc := "()I" } : Jvm.MethodName)) ∈ lw_all := lw_g (lw_at lw_m0 58 rfl) rfl
theorem q105 : (Jvm.Cond.methodLink "DimerCounterLaw" (40 : Nat) ({ cls := "DimerCounter", name := "totalWith", desc := "(I)I" } : Jvm.MethodName)) ∈ lw_all := lw_g (lw_at lw_m0 89 rfl) rfl
theorem q117 : (Jvm.Cond.methodLink "DimerCounterLaw" (44 : Nat) ({ cls := "DimerCounter", name := "totalWithBoth", desc := "(II)I" } : Jvm.MethodName)) ∈ lw_all := lw_g (lw_at lw_m0 101 rfl) rfl
theorem q121 : (Jvm.Cond.methodLink "DimerCounterLaw" (48 : Nat) ({ cls := "DimerCounter", name := "possible", desc := "()I" } : Jvm.MethodName)) ∈ lw_all := lw_g (lw_at lw_m0 105 rfl) rfl
theorem q129 : (Jvm.Cond.methodLink "DimerCounterLaw" (52 : Nat) ({ cls := "DimerCounter", name := "canUse", desc := "(I)Z" } : Jvm.MethodName)) ∈ lw_all := lw_g (lw_at lw_m0 113 rfl) rfl
theorem q133 : (Jvm.Cond.methodLink "DimerCounterLaw" (57 : Nat) ({ cls := "DimerCounter", name := "settled", desc := "()I" } : Jvm.MethodName)) ∈ lw_all := lw_g (lw_at lw_m0 117 rfl) rfl
theorem q137 : (Jvm.Cond.methodLink "DimerCounterLaw" (61 : Nat) ({ cls := "DimerCounter", name := "acrossTotal", desc := "()I" } : Jvm.MethodName)) ∈ lw_all := lw_g (lw_at lw_m0 121 rfl) rfl
theorem q141 : (Jvm.Cond.classLink "DimerCounterLaw" (10 : Nat) "DimerCounterModel") ∈ lw_all := lw_g (lw_at lw_m0 125 rfl) rfl
theorem q143 : (Jvm.Cond.methodLink "DimerCounterLaw" (12 : Nat) ({ cls := "DimerCounterModel", name := "<init>", desc := "()V" } : Jvm.MethodName)) ∈ lw_all := lw_g (lw_at lw_m0 127 rfl) rfl
theorem q154 : (Jvm.Cond.methodLink "DimerCounterLaw" (17 : Nat) ({ cls := "DimerCounterModel", name := "weight", desc := "(II)I" } : Jvm.MethodName)) ∈ lw_all := lw_g (lw_at lw_m0 138 rfl) rfl
theorem q162 : (Jvm.Cond.methodLink "DimerCounterLaw" (22 : Nat) ({ cls := "DimerCounterModel", name := "all", desc := "(I)I" } : Jvm.MethodName)) ∈ lw_all := lw_g (lw_at lw_m0 146 rfl) rfl
theorem q166 : (Jvm.Cond.methodLink "DimerCounterLaw" (26 : Nat) ({ cls := "DimerCounterModel", name := "turn", desc := "()V" } : Jvm.MethodName)) ∈ lw_all := lw_g (lw_at lw_m0 150 rfl) rfl
theorem q170 : (Jvm.Cond.methodLink "DimerCounterLaw" (30 : Nat) ({ cls := "DimerCounterModel", name := "force", desc := "(II)I" } : Jvm.MethodName)) ∈ lw_all := lw_g (lw_at lw_m0 154 rfl) rfl
theorem q182 : (Jvm.Cond.methodLink "DimerCounterLaw" (34 : Nat) ({ cls := "DimerCounterModel", name := "weightOf", desc := "(I)I" } : Jvm.MethodName)) ∈ lw_all := lw_g (lw_at lw_m0 166 rfl) rfl
theorem q186 : (Jvm.Cond.methodLink "DimerCounterLaw" (39 : Nat) ({ cls := "DimerCounterModel", name := "total", desc := "()I" } : Jvm.MethodName)) ∈ lw_all := lw_g (lw_at lw_m0 170 rfl) rfl
theorem q206 : (Jvm.Cond.methodLink "DimerCounterLaw" (43 : Nat) ({ cls := "DimerCounterModel", name := "totalWith", desc := "(I)I" } : Jvm.MethodName)) ∈ lw_all := lw_g (lw_at lw_m0 190 rfl) rfl
theorem q210 : (Jvm.Cond.methodLink "DimerCounterLaw" (47 : Nat) ({ cls := "DimerCounterModel", name := "totalWithBoth", desc := "(II)I" } : Jvm.MethodName)) ∈ lw_all := lw_g (lw_at lw_m0 194 rfl) rfl
theorem q214 : (Jvm.Cond.methodLink "DimerCounterLaw" (51 : Nat) ({ cls := "DimerCounterModel", name := "possible", desc := "()I" } : Jvm.MethodName)) ∈ lw_all := lw_g (lw_at lw_m0 198 rfl) rfl
theorem q218 : (Jvm.Cond.methodLink "DimerCounterLaw" (56 : Nat) ({ cls := "DimerCounterModel", name := "canUse", desc := "(I)Z" } : Jvm.MethodName)) ∈ lw_all := lw_g (lw_at lw_m0 202 rfl) rfl
theorem q222 : (Jvm.Cond.methodLink "DimerCounterLaw" (60 : Nat) ({ cls := "DimerCounterModel", name := "settled", desc := "()I" } : Jvm.MethodName)) ∈ lw_all := lw_g (lw_at lw_m0 206 rfl) rfl
theorem q227 : (Jvm.Cond.methodLink "DimerCounterLaw" (64 : Nat) ({ cls := "DimerCounterModel", name := "acrossTotal", desc := "()I" } : Jvm.MethodName)) ∈ lw_all := lw_g (lw_at lw_m0 211 rfl) rfl
end
section
set_option maxRecDepth 100000
theorem dJ0_init_0 : decode cJ0_init 0 = .ok (.return_, 1) := by decide +kernel
end
section
set_option maxRecDepth 100000
theorem dX0_init_0 : decode cX0_init 0 = .ok (.aload_n 0, 1) := by decide +kernel
theorem dX0_init_1 : decode cX0_init 1 = .ok (.invokespecial 1, 3) := by decide +kernel
theorem dX0_init_4 : decode cX0_init 4 = .ok (.aload_n 0, 1) := by decide +kernel
theorem dX0_init_5 : decode cX0_init 5 = .ok (.bipush 24, 2) := by decide +kernel
theorem dX0_init_7 : decode cX0_init 7 = .ok (.newarray .int, 2) := by decide +kernel
theorem dX0_init_9 : decode cX0_init 9 = .ok (.putfield 7, 3) := by decide +kernel
theorem dX0_init_12 : decode cX0_init 12 = .ok (.aload_n 0, 1) := by decide +kernel
theorem dX0_init_13 : decode cX0_init 13 = .ok (.bipush 24, 2) := by decide +kernel
theorem dX0_init_15 : decode cX0_init 15 = .ok (.newarray .int, 2) := by decide +kernel
theorem dX0_init_17 : decode cX0_init 17 = .ok (.putfield 13, 3) := by decide +kernel
theorem dX0_init_20 : decode cX0_init 20 = .ok (.aload_n 0, 1) := by decide +kernel
theorem dX0_init_21 : decode cX0_init 21 = .ok (.bipush 24, 2) := by decide +kernel
theorem dX0_init_23 : decode cX0_init 23 = .ok (.newarray .int, 2) := by decide +kernel
theorem dX0_init_25 : decode cX0_init 25 = .ok (.putfield 16, 3) := by decide +kernel
theorem dX0_init_28 : decode cX0_init 28 = .ok (.aload_n 0, 1) := by decide +kernel
theorem dX0_init_29 : decode cX0_init 29 = .ok (.bipush 64, 2) := by decide +kernel
theorem dX0_init_31 : decode cX0_init 31 = .ok (.newarray .long, 2) := by decide +kernel
theorem dX0_init_33 : decode cX0_init 33 = .ok (.putfield 19, 3) := by decide +kernel
theorem dX0_init_36 : decode cX0_init 36 = .ok (.iconst 0, 1) := by decide +kernel
theorem dX0_init_37 : decode cX0_init 37 = .ok (.istore_n 1, 1) := by decide +kernel
theorem dX0_init_38 : decode cX0_init 38 = .ok (.iload_n 1, 1) := by decide +kernel
theorem dX0_init_39 : decode cX0_init 39 = .ok (.bipush 24, 2) := by decide +kernel
theorem dX0_init_41 : decode cX0_init 41 = .ok (.if_icmp .ge 16, 3) := by decide +kernel
theorem dX0_init_44 : decode cX0_init 44 = .ok (.aload_n 0, 1) := by decide +kernel
theorem dX0_init_45 : decode cX0_init 45 = .ok (.getfield 7, 3) := by decide +kernel
theorem dX0_init_48 : decode cX0_init 48 = .ok (.iload_n 1, 1) := by decide +kernel
theorem dX0_init_49 : decode cX0_init 49 = .ok (.iconst 1, 1) := by decide +kernel
theorem dX0_init_50 : decode cX0_init 50 = .ok (.iastore, 1) := by decide +kernel
theorem dX0_init_51 : decode cX0_init 51 = .ok (.iinc 1 1, 3) := by decide +kernel
theorem dX0_init_54 : decode cX0_init 54 = .ok (.goto (-16), 3) := by decide +kernel
theorem dX0_init_57 : decode cX0_init 57 = .ok (.return_, 1) := by decide +kernel
theorem dX0_weight_0 : decode cX0_weight 0 = .ok (.iload_n 1, 1) := by decide +kernel
theorem dX0_weight_1 : decode cX0_weight 1 = .ok (.invokestatic 30, 3) := by decide +kernel
theorem dX0_weight_4 : decode cX0_weight 4 = .ok (.ifCond .eq 5, 3) := by decide +kernel
theorem dX0_weight_7 : decode cX0_weight 7 = .ok (.iconst (-1), 1) := by decide +kernel
theorem dX0_weight_8 : decode cX0_weight 8 = .ok (.ireturn, 1) := by decide +kernel
theorem dX0_weight_9 : decode cX0_weight 9 = .ok (.iload_n 2, 1) := by decide +kernel
theorem dX0_weight_10 : decode cX0_weight 10 = .ok (.ifCond .lt 8, 3) := by decide +kernel
theorem dX0_weight_13 : decode cX0_weight 13 = .ok (.iload_n 2, 1) := by decide +kernel
theorem dX0_weight_14 : decode cX0_weight 14 = .ok (.iconst 4, 1) := by decide +kernel
theorem dX0_weight_15 : decode cX0_weight 15 = .ok (.if_icmp .le 6, 3) := by decide +kernel
theorem dX0_weight_18 : decode cX0_weight 18 = .ok (.bipush (-2), 2) := by decide +kernel
theorem dX0_weight_20 : decode cX0_weight 20 = .ok (.ireturn, 1) := by decide +kernel
theorem dX0_weight_21 : decode cX0_weight 21 = .ok (.aload_n 0, 1) := by decide +kernel
theorem dX0_weight_22 : decode cX0_weight 22 = .ok (.getfield 7, 3) := by decide +kernel
theorem dX0_weight_25 : decode cX0_weight 25 = .ok (.iload_n 1, 1) := by decide +kernel
theorem dX0_weight_26 : decode cX0_weight 26 = .ok (.iaload, 1) := by decide +kernel
theorem dX0_weight_27 : decode cX0_weight 27 = .ok (.istore_n 3, 1) := by decide +kernel
theorem dX0_weight_28 : decode cX0_weight 28 = .ok (.aload_n 0, 1) := by decide +kernel
theorem dX0_weight_29 : decode cX0_weight 29 = .ok (.getfield 7, 3) := by decide +kernel
theorem dX0_weight_32 : decode cX0_weight 32 = .ok (.iload_n 1, 1) := by decide +kernel
theorem dX0_weight_33 : decode cX0_weight 33 = .ok (.iload_n 2, 1) := by decide +kernel
theorem dX0_weight_34 : decode cX0_weight 34 = .ok (.iastore, 1) := by decide +kernel
theorem dX0_weight_35 : decode cX0_weight 35 = .ok (.iload_n 3, 1) := by decide +kernel
theorem dX0_weight_36 : decode cX0_weight 36 = .ok (.ireturn, 1) := by decide +kernel
theorem dX0_bad_0 : decode cX0_bad 0 = .ok (.iload_n 0, 1) := by decide +kernel
theorem dX0_bad_1 : decode cX0_bad 1 = .ok (.ifCond .lt 9, 3) := by decide +kernel
theorem dX0_bad_4 : decode cX0_bad 4 = .ok (.iload_n 0, 1) := by decide +kernel
theorem dX0_bad_5 : decode cX0_bad 5 = .ok (.bipush 24, 2) := by decide +kernel
theorem dX0_bad_7 : decode cX0_bad 7 = .ok (.if_icmp .lt 7, 3) := by decide +kernel
theorem dX0_bad_10 : decode cX0_bad 10 = .ok (.iconst 1, 1) := by decide +kernel
theorem dX0_bad_11 : decode cX0_bad 11 = .ok (.goto 4, 3) := by decide +kernel
theorem dX0_bad_14 : decode cX0_bad 14 = .ok (.iconst 0, 1) := by decide +kernel
theorem dX0_bad_15 : decode cX0_bad 15 = .ok (.ireturn, 1) := by decide +kernel
theorem dX0_all_0 : decode cX0_all 0 = .ok (.iload_n 1, 1) := by decide +kernel
theorem dX0_all_1 : decode cX0_all 1 = .ok (.ifCond .lt 8, 3) := by decide +kernel
theorem dX0_all_4 : decode cX0_all 4 = .ok (.iload_n 1, 1) := by decide +kernel
theorem dX0_all_5 : decode cX0_all 5 = .ok (.iconst 4, 1) := by decide +kernel
theorem dX0_all_6 : decode cX0_all 6 = .ok (.if_icmp .le 6, 3) := by decide +kernel
theorem dX0_all_9 : decode cX0_all 9 = .ok (.bipush (-2), 2) := by decide +kernel
theorem dX0_all_11 : decode cX0_all 11 = .ok (.ireturn, 1) := by decide +kernel
theorem dX0_all_12 : decode cX0_all 12 = .ok (.iconst 0, 1) := by decide +kernel
theorem dX0_all_13 : decode cX0_all 13 = .ok (.istore_n 2, 1) := by decide +kernel
theorem dX0_all_14 : decode cX0_all 14 = .ok (.iload_n 2, 1) := by decide +kernel
theorem dX0_all_15 : decode cX0_all 15 = .ok (.bipush 24, 2) := by decide +kernel
theorem dX0_all_17 : decode cX0_all 17 = .ok (.if_icmp .ge 16, 3) := by decide +kernel
theorem dX0_all_20 : decode cX0_all 20 = .ok (.aload_n 0, 1) := by decide +kernel
theorem dX0_all_21 : decode cX0_all 21 = .ok (.getfield 7, 3) := by decide +kernel
theorem dX0_all_24 : decode cX0_all 24 = .ok (.iload_n 2, 1) := by decide +kernel
theorem dX0_all_25 : decode cX0_all 25 = .ok (.iload_n 1, 1) := by decide +kernel
theorem dX0_all_26 : decode cX0_all 26 = .ok (.iastore, 1) := by decide +kernel
theorem dX0_all_27 : decode cX0_all 27 = .ok (.iinc 2 1, 3) := by decide +kernel
theorem dX0_all_30 : decode cX0_all 30 = .ok (.goto (-16), 3) := by decide +kernel
theorem dX0_all_33 : decode cX0_all 33 = .ok (.iconst 0, 1) := by decide +kernel
theorem dX0_all_34 : decode cX0_all 34 = .ok (.ireturn, 1) := by decide +kernel
theorem dX0_turn_0 : decode cX0_turn 0 = .ok (.iconst 0, 1) := by decide +kernel
theorem dX0_turn_1 : decode cX0_turn 1 = .ok (.istore_n 1, 1) := by decide +kernel
theorem dX0_turn_2 : decode cX0_turn 2 = .ok (.iload_n 1, 1) := by decide +kernel
theorem dX0_turn_3 : decode cX0_turn 3 = .ok (.bipush 24, 2) := by decide +kernel
theorem dX0_turn_5 : decode cX0_turn 5 = .ok (.if_icmp .ge 66, 3) := by decide +kernel
theorem dX0_turn_8 : decode cX0_turn 8 = .ok (.iload_n 1, 1) := by decide +kernel
theorem dX0_turn_9 : decode cX0_turn 9 = .ok (.invokestatic 23, 3) := by decide +kernel
theorem dX0_turn_12 : decode cX0_turn 12 = .ok (.istore_n 2, 1) := by decide +kernel
theorem dX0_turn_13 : decode cX0_turn 13 = .ok (.iload_n 2, 1) := by decide +kernel
theorem dX0_turn_14 : decode cX0_turn 14 = .ok (.iconst 4, 1) := by decide +kernel
theorem dX0_turn_15 : decode cX0_turn 15 = .ok (.idiv, 1) := by decide +kernel
theorem dX0_turn_16 : decode cX0_turn 16 = .ok (.istore_n 3, 1) := by decide +kernel
theorem dX0_turn_17 : decode cX0_turn 17 = .ok (.iload_n 2, 1) := by decide +kernel
theorem dX0_turn_18 : decode cX0_turn 18 = .ok (.iconst 4, 1) := by decide +kernel
theorem dX0_turn_19 : decode cX0_turn 19 = .ok (.irem, 1) := by decide +kernel
theorem dX0_turn_20 : decode cX0_turn 20 = .ok (.istore 4, 2) := by decide +kernel
theorem dX0_turn_22 : decode cX0_turn 22 = .ok (.iload_n 1, 1) := by decide +kernel
theorem dX0_turn_23 : decode cX0_turn 23 = .ok (.bipush 12, 2) := by decide +kernel
theorem dX0_turn_25 : decode cX0_turn 25 = .ok (.if_icmp .ge 17, 3) := by decide +kernel
theorem dX0_turn_28 : decode cX0_turn 28 = .ok (.bipush 12, 2) := by decide +kernel
theorem dX0_turn_30 : decode cX0_turn 30 = .ok (.iload 4, 2) := by decide +kernel
theorem dX0_turn_32 : decode cX0_turn 32 = .ok (.iconst 4, 1) := by decide +kernel
theorem dX0_turn_33 : decode cX0_turn 33 = .ok (.imul, 1) := by decide +kernel
theorem dX0_turn_34 : decode cX0_turn 34 = .ok (.iadd, 1) := by decide +kernel
theorem dX0_turn_35 : decode cX0_turn 35 = .ok (.iconst 3, 1) := by decide +kernel
theorem dX0_turn_36 : decode cX0_turn 36 = .ok (.iadd, 1) := by decide +kernel
theorem dX0_turn_37 : decode cX0_turn 37 = .ok (.iload_n 3, 1) := by decide +kernel
theorem dX0_turn_38 : decode cX0_turn 38 = .ok (.isub, 1) := by decide +kernel
theorem dX0_turn_39 : decode cX0_turn 39 = .ok (.goto 11, 3) := by decide +kernel
theorem dX0_turn_42 : decode cX0_turn 42 = .ok (.iload 4, 2) := by decide +kernel
theorem dX0_turn_44 : decode cX0_turn 44 = .ok (.iconst 3, 1) := by decide +kernel
theorem dX0_turn_45 : decode cX0_turn 45 = .ok (.imul, 1) := by decide +kernel
theorem dX0_turn_46 : decode cX0_turn 46 = .ok (.iconst 2, 1) := by decide +kernel
theorem dX0_turn_47 : decode cX0_turn 47 = .ok (.iadd, 1) := by decide +kernel
theorem dX0_turn_48 : decode cX0_turn 48 = .ok (.iload_n 3, 1) := by decide +kernel
theorem dX0_turn_49 : decode cX0_turn 49 = .ok (.isub, 1) := by decide +kernel
theorem dX0_turn_50 : decode cX0_turn 50 = .ok (.istore 5, 2) := by decide +kernel
theorem dX0_turn_52 : decode cX0_turn 52 = .ok (.aload_n 0, 1) := by decide +kernel
theorem dX0_turn_53 : decode cX0_turn 53 = .ok (.getfield 13, 3) := by decide +kernel
theorem dX0_turn_56 : decode cX0_turn 56 = .ok (.iload 5, 2) := by decide +kernel
theorem dX0_turn_58 : decode cX0_turn 58 = .ok (.aload_n 0, 1) := by decide +kernel
theorem dX0_turn_59 : decode cX0_turn 59 = .ok (.getfield 7, 3) := by decide +kernel
theorem dX0_turn_62 : decode cX0_turn 62 = .ok (.iload_n 1, 1) := by decide +kernel
theorem dX0_turn_63 : decode cX0_turn 63 = .ok (.iaload, 1) := by decide +kernel
theorem dX0_turn_64 : decode cX0_turn 64 = .ok (.iastore, 1) := by decide +kernel
theorem dX0_turn_65 : decode cX0_turn 65 = .ok (.iinc 1 1, 3) := by decide +kernel
theorem dX0_turn_68 : decode cX0_turn 68 = .ok (.goto (-66), 3) := by decide +kernel
theorem dX0_turn_71 : decode cX0_turn 71 = .ok (.iconst 0, 1) := by decide +kernel
theorem dX0_turn_72 : decode cX0_turn 72 = .ok (.istore_n 1, 1) := by decide +kernel
theorem dX0_turn_73 : decode cX0_turn 73 = .ok (.iload_n 1, 1) := by decide +kernel
theorem dX0_turn_74 : decode cX0_turn 74 = .ok (.bipush 24, 2) := by decide +kernel
theorem dX0_turn_76 : decode cX0_turn 76 = .ok (.if_icmp .ge 21, 3) := by decide +kernel
theorem dX0_turn_79 : decode cX0_turn 79 = .ok (.aload_n 0, 1) := by decide +kernel
theorem dX0_turn_80 : decode cX0_turn 80 = .ok (.getfield 7, 3) := by decide +kernel
theorem dX0_turn_83 : decode cX0_turn 83 = .ok (.iload_n 1, 1) := by decide +kernel
theorem dX0_turn_84 : decode cX0_turn 84 = .ok (.aload_n 0, 1) := by decide +kernel
theorem dX0_turn_85 : decode cX0_turn 85 = .ok (.getfield 13, 3) := by decide +kernel
theorem dX0_turn_88 : decode cX0_turn 88 = .ok (.iload_n 1, 1) := by decide +kernel
theorem dX0_turn_89 : decode cX0_turn 89 = .ok (.iaload, 1) := by decide +kernel
theorem dX0_turn_90 : decode cX0_turn 90 = .ok (.iastore, 1) := by decide +kernel
theorem dX0_turn_91 : decode cX0_turn 91 = .ok (.iinc 1 1, 3) := by decide +kernel
theorem dX0_turn_94 : decode cX0_turn 94 = .ok (.goto (-21), 3) := by decide +kernel
theorem dX0_turn_97 : decode cX0_turn 97 = .ok (.return_, 1) := by decide +kernel
theorem dX0_firstSquare_0 : decode cX0_firstSquare 0 = .ok (.iload_n 0, 1) := by decide +kernel
theorem dX0_firstSquare_1 : decode cX0_firstSquare 1 = .ok (.bipush 12, 2) := by decide +kernel
theorem dX0_firstSquare_3 : decode cX0_firstSquare 3 = .ok (.if_icmp .lt 8, 3) := by decide +kernel
theorem dX0_firstSquare_6 : decode cX0_firstSquare 6 = .ok (.iload_n 0, 1) := by decide +kernel
theorem dX0_firstSquare_7 : decode cX0_firstSquare 7 = .ok (.bipush 12, 2) := by decide +kernel
theorem dX0_firstSquare_9 : decode cX0_firstSquare 9 = .ok (.isub, 1) := by decide +kernel
theorem dX0_firstSquare_10 : decode cX0_firstSquare 10 = .ok (.ireturn, 1) := by decide +kernel
theorem dX0_firstSquare_11 : decode cX0_firstSquare 11 = .ok (.iload_n 0, 1) := by decide +kernel
theorem dX0_firstSquare_12 : decode cX0_firstSquare 12 = .ok (.iconst 3, 1) := by decide +kernel
theorem dX0_firstSquare_13 : decode cX0_firstSquare 13 = .ok (.idiv, 1) := by decide +kernel
theorem dX0_firstSquare_14 : decode cX0_firstSquare 14 = .ok (.iconst 4, 1) := by decide +kernel
theorem dX0_firstSquare_15 : decode cX0_firstSquare 15 = .ok (.imul, 1) := by decide +kernel
theorem dX0_firstSquare_16 : decode cX0_firstSquare 16 = .ok (.iload_n 0, 1) := by decide +kernel
theorem dX0_firstSquare_17 : decode cX0_firstSquare 17 = .ok (.iconst 3, 1) := by decide +kernel
theorem dX0_firstSquare_18 : decode cX0_firstSquare 18 = .ok (.irem, 1) := by decide +kernel
theorem dX0_firstSquare_19 : decode cX0_firstSquare 19 = .ok (.iadd, 1) := by decide +kernel
theorem dX0_firstSquare_20 : decode cX0_firstSquare 20 = .ok (.ireturn, 1) := by decide +kernel
theorem dX0_force_0 : decode cX0_force 0 = .ok (.iload_n 2, 1) := by decide +kernel
theorem dX0_force_1 : decode cX0_force 1 = .ok (.invokestatic 30, 3) := by decide +kernel
theorem dX0_force_4 : decode cX0_force 4 = .ok (.ifCond .ne 13, 3) := by decide +kernel
theorem dX0_force_7 : decode cX0_force 7 = .ok (.iload_n 1, 1) := by decide +kernel
theorem dX0_force_8 : decode cX0_force 8 = .ok (.ifCond .lt 9, 3) := by decide +kernel
theorem dX0_force_11 : decode cX0_force 11 = .ok (.iload_n 1, 1) := by decide +kernel
theorem dX0_force_12 : decode cX0_force 12 = .ok (.bipush 15, 2) := by decide +kernel
theorem dX0_force_14 : decode cX0_force 14 = .ok (.if_icmp .le 5, 3) := by decide +kernel
theorem dX0_force_17 : decode cX0_force 17 = .ok (.iconst (-1), 1) := by decide +kernel
theorem dX0_force_18 : decode cX0_force 18 = .ok (.ireturn, 1) := by decide +kernel
theorem dX0_force_19 : decode cX0_force 19 = .ok (.iload_n 2, 1) := by decide +kernel
theorem dX0_force_20 : decode cX0_force 20 = .ok (.iload_n 1, 1) := by decide +kernel
theorem dX0_force_21 : decode cX0_force 21 = .ok (.invokestatic 34, 3) := by decide +kernel
theorem dX0_force_24 : decode cX0_force 24 = .ok (.istore_n 3, 1) := by decide +kernel
theorem dX0_force_25 : decode cX0_force 25 = .ok (.iload_n 3, 1) := by decide +kernel
theorem dX0_force_26 : decode cX0_force 26 = .ok (.ifCond .ne 5, 3) := by decide +kernel
theorem dX0_force_29 : decode cX0_force 29 = .ok (.iconst (-1), 1) := by decide +kernel
theorem dX0_force_30 : decode cX0_force 30 = .ok (.ireturn, 1) := by decide +kernel
theorem dX0_force_31 : decode cX0_force 31 = .ok (.iconst 0, 1) := by decide +kernel
theorem dX0_force_32 : decode cX0_force 32 = .ok (.istore 4, 2) := by decide +kernel
theorem dX0_force_34 : decode cX0_force 34 = .ok (.iconst 0, 1) := by decide +kernel
theorem dX0_force_35 : decode cX0_force 35 = .ok (.istore 5, 2) := by decide +kernel
theorem dX0_force_37 : decode cX0_force 37 = .ok (.iload 5, 2) := by decide +kernel
theorem dX0_force_39 : decode cX0_force 39 = .ok (.bipush 24, 2) := by decide +kernel
theorem dX0_force_41 : decode cX0_force 41 = .ok (.if_icmp .ge 49, 3) := by decide +kernel
theorem dX0_force_44 : decode cX0_force 44 = .ok (.iload 5, 2) := by decide +kernel
theorem dX0_force_46 : decode cX0_force 46 = .ok (.iload_n 1, 1) := by decide +kernel
theorem dX0_force_47 : decode cX0_force 47 = .ok (.invokestatic 34, 3) := by decide +kernel
theorem dX0_force_50 : decode cX0_force 50 = .ok (.istore 6, 2) := by decide +kernel
theorem dX0_force_52 : decode cX0_force 52 = .ok (.iload 6, 2) := by decide +kernel
theorem dX0_force_54 : decode cX0_force 54 = .ok (.ifCond .eq 30, 3) := by decide +kernel
theorem dX0_force_57 : decode cX0_force 57 = .ok (.iload 5, 2) := by decide +kernel
theorem dX0_force_59 : decode cX0_force 59 = .ok (.iload_n 2, 1) := by decide +kernel
theorem dX0_force_60 : decode cX0_force 60 = .ok (.if_icmp .eq 24, 3) := by decide +kernel
theorem dX0_force_63 : decode cX0_force 63 = .ok (.aload_n 0, 1) := by decide +kernel
theorem dX0_force_64 : decode cX0_force 64 = .ok (.getfield 7, 3) := by decide +kernel
theorem dX0_force_67 : decode cX0_force 67 = .ok (.iload 5, 2) := by decide +kernel
theorem dX0_force_69 : decode cX0_force 69 = .ok (.iaload, 1) := by decide +kernel
theorem dX0_force_70 : decode cX0_force 70 = .ok (.ifCond .eq 14, 3) := by decide +kernel
theorem dX0_force_73 : decode cX0_force 73 = .ok (.aload_n 0, 1) := by decide +kernel
theorem dX0_force_74 : decode cX0_force 74 = .ok (.getfield 7, 3) := by decide +kernel
theorem dX0_force_77 : decode cX0_force 77 = .ok (.iload 5, 2) := by decide +kernel
theorem dX0_force_79 : decode cX0_force 79 = .ok (.iconst 0, 1) := by decide +kernel
theorem dX0_force_80 : decode cX0_force 80 = .ok (.iastore, 1) := by decide +kernel
theorem dX0_force_81 : decode cX0_force 81 = .ok (.iinc 4 1, 3) := by decide +kernel
theorem dX0_force_84 : decode cX0_force 84 = .ok (.iinc 5 1, 3) := by decide +kernel
theorem dX0_force_87 : decode cX0_force 87 = .ok (.goto (-50), 3) := by decide +kernel
theorem dX0_force_90 : decode cX0_force 90 = .ok (.iload 4, 2) := by decide +kernel
theorem dX0_force_92 : decode cX0_force 92 = .ok (.ireturn, 1) := by decide +kernel
theorem dX0_covers_0 : decode cX0_covers 0 = .ok (.iload_n 0, 1) := by decide +kernel
theorem dX0_covers_1 : decode cX0_covers 1 = .ok (.invokestatic 23, 3) := by decide +kernel
theorem dX0_covers_4 : decode cX0_covers 4 = .ok (.istore_n 2, 1) := by decide +kernel
theorem dX0_covers_5 : decode cX0_covers 5 = .ok (.iload_n 0, 1) := by decide +kernel
theorem dX0_covers_6 : decode cX0_covers 6 = .ok (.invokestatic 27, 3) := by decide +kernel
theorem dX0_covers_9 : decode cX0_covers 9 = .ok (.istore_n 3, 1) := by decide +kernel
theorem dX0_covers_10 : decode cX0_covers 10 = .ok (.iload_n 1, 1) := by decide +kernel
theorem dX0_covers_11 : decode cX0_covers 11 = .ok (.iload_n 2, 1) := by decide +kernel
theorem dX0_covers_12 : decode cX0_covers 12 = .ok (.if_icmp .eq 8, 3) := by decide +kernel
theorem dX0_covers_15 : decode cX0_covers 15 = .ok (.iload_n 1, 1) := by decide +kernel
theorem dX0_covers_16 : decode cX0_covers 16 = .ok (.iload_n 3, 1) := by decide +kernel
theorem dX0_covers_17 : decode cX0_covers 17 = .ok (.if_icmp .ne 7, 3) := by decide +kernel
theorem dX0_covers_20 : decode cX0_covers 20 = .ok (.iconst 1, 1) := by decide +kernel
theorem dX0_covers_21 : decode cX0_covers 21 = .ok (.goto 4, 3) := by decide +kernel
theorem dX0_covers_24 : decode cX0_covers 24 = .ok (.iconst 0, 1) := by decide +kernel
theorem dX0_covers_25 : decode cX0_covers 25 = .ok (.ireturn, 1) := by decide +kernel
theorem dX0_secondSquare_0 : decode cX0_secondSquare 0 = .ok (.iload_n 0, 1) := by decide +kernel
theorem dX0_secondSquare_1 : decode cX0_secondSquare 1 = .ok (.invokestatic 23, 3) := by decide +kernel
theorem dX0_secondSquare_4 : decode cX0_secondSquare 4 = .ok (.istore_n 1, 1) := by decide +kernel
theorem dX0_secondSquare_5 : decode cX0_secondSquare 5 = .ok (.iload_n 0, 1) := by decide +kernel
theorem dX0_secondSquare_6 : decode cX0_secondSquare 6 = .ok (.bipush 12, 2) := by decide +kernel
theorem dX0_secondSquare_8 : decode cX0_secondSquare 8 = .ok (.if_icmp .lt 9, 3) := by decide +kernel
theorem dX0_secondSquare_11 : decode cX0_secondSquare 11 = .ok (.iload_n 1, 1) := by decide +kernel
theorem dX0_secondSquare_12 : decode cX0_secondSquare 12 = .ok (.iconst 4, 1) := by decide +kernel
theorem dX0_secondSquare_13 : decode cX0_secondSquare 13 = .ok (.iadd, 1) := by decide +kernel
theorem dX0_secondSquare_14 : decode cX0_secondSquare 14 = .ok (.goto 6, 3) := by decide +kernel
theorem dX0_secondSquare_17 : decode cX0_secondSquare 17 = .ok (.iload_n 1, 1) := by decide +kernel
theorem dX0_secondSquare_18 : decode cX0_secondSquare 18 = .ok (.iconst 1, 1) := by decide +kernel
theorem dX0_secondSquare_19 : decode cX0_secondSquare 19 = .ok (.iadd, 1) := by decide +kernel
theorem dX0_secondSquare_20 : decode cX0_secondSquare 20 = .ok (.ireturn, 1) := by decide +kernel
theorem dX0_weightOf_0 : decode cX0_weightOf 0 = .ok (.iload_n 1, 1) := by decide +kernel
theorem dX0_weightOf_1 : decode cX0_weightOf 1 = .ok (.invokestatic 30, 3) := by decide +kernel
theorem dX0_weightOf_4 : decode cX0_weightOf 4 = .ok (.ifCond .eq 7, 3) := by decide +kernel
theorem dX0_weightOf_7 : decode cX0_weightOf 7 = .ok (.iconst (-1), 1) := by decide +kernel
theorem dX0_weightOf_8 : decode cX0_weightOf 8 = .ok (.goto 9, 3) := by decide +kernel
theorem dX0_weightOf_11 : decode cX0_weightOf 11 = .ok (.aload_n 0, 1) := by decide +kernel
theorem dX0_weightOf_12 : decode cX0_weightOf 12 = .ok (.getfield 7, 3) := by decide +kernel
theorem dX0_weightOf_15 : decode cX0_weightOf 15 = .ok (.iload_n 1, 1) := by decide +kernel
theorem dX0_weightOf_16 : decode cX0_weightOf 16 = .ok (.iaload, 1) := by decide +kernel
theorem dX0_weightOf_17 : decode cX0_weightOf 17 = .ok (.ireturn, 1) := by decide +kernel
theorem dX0_total_0 : decode cX0_total 0 = .ok (.aload_n 0, 1) := by decide +kernel
theorem dX0_total_1 : decode cX0_total 1 = .ok (.invokevirtual 63, 3) := by decide +kernel
theorem dX0_total_4 : decode cX0_total 4 = .ok (.aload_n 0, 1) := by decide +kernel
theorem dX0_total_5 : decode cX0_total 5 = .ok (.invokevirtual 56, 3) := by decide +kernel
theorem dX0_total_8 : decode cX0_total 8 = .ok (.ireturn, 1) := by decide +kernel
theorem dX0_useWeights_0 : decode cX0_useWeights 0 = .ok (.iconst 0, 1) := by decide +kernel
theorem dX0_useWeights_1 : decode cX0_useWeights 1 = .ok (.istore_n 1, 1) := by decide +kernel
theorem dX0_useWeights_2 : decode cX0_useWeights 2 = .ok (.iload_n 1, 1) := by decide +kernel
theorem dX0_useWeights_3 : decode cX0_useWeights 3 = .ok (.bipush 24, 2) := by decide +kernel
theorem dX0_useWeights_5 : decode cX0_useWeights 5 = .ok (.if_icmp .ge 21, 3) := by decide +kernel
theorem dX0_useWeights_8 : decode cX0_useWeights 8 = .ok (.aload_n 0, 1) := by decide +kernel
theorem dX0_useWeights_9 : decode cX0_useWeights 9 = .ok (.getfield 16, 3) := by decide +kernel
theorem dX0_useWeights_12 : decode cX0_useWeights 12 = .ok (.iload_n 1, 1) := by decide +kernel
theorem dX0_useWeights_13 : decode cX0_useWeights 13 = .ok (.aload_n 0, 1) := by decide +kernel
theorem dX0_useWeights_14 : decode cX0_useWeights 14 = .ok (.getfield 7, 3) := by decide +kernel
theorem dX0_useWeights_17 : decode cX0_useWeights 17 = .ok (.iload_n 1, 1) := by decide +kernel
theorem dX0_useWeights_18 : decode cX0_useWeights 18 = .ok (.iaload, 1) := by decide +kernel
theorem dX0_useWeights_19 : decode cX0_useWeights 19 = .ok (.iastore, 1) := by decide +kernel
theorem dX0_useWeights_20 : decode cX0_useWeights 20 = .ok (.iinc 1 1, 3) := by decide +kernel
theorem dX0_useWeights_23 : decode cX0_useWeights 23 = .ok (.goto (-21), 3) := by decide +kernel
theorem dX0_useWeights_26 : decode cX0_useWeights 26 = .ok (.return_, 1) := by decide +kernel
theorem dX0_sumUsed_0 : decode cX0_sumUsed 0 = .ok (.iconst 0, 1) := by decide +kernel
theorem dX0_sumUsed_1 : decode cX0_sumUsed 1 = .ok (.istore_n 1, 1) := by decide +kernel
theorem dX0_sumUsed_2 : decode cX0_sumUsed 2 = .ok (.iload_n 1, 1) := by decide +kernel
theorem dX0_sumUsed_3 : decode cX0_sumUsed 3 = .ok (.bipush 64, 2) := by decide +kernel
theorem dX0_sumUsed_5 : decode cX0_sumUsed 5 = .ok (.if_icmp .ge 16, 3) := by decide +kernel
theorem dX0_sumUsed_8 : decode cX0_sumUsed 8 = .ok (.aload_n 0, 1) := by decide +kernel
theorem dX0_sumUsed_9 : decode cX0_sumUsed 9 = .ok (.getfield 19, 3) := by decide +kernel
theorem dX0_sumUsed_12 : decode cX0_sumUsed 12 = .ok (.iload_n 1, 1) := by decide +kernel
theorem dX0_sumUsed_13 : decode cX0_sumUsed 13 = .ok (.lconst 0, 1) := by decide +kernel
theorem dX0_sumUsed_14 : decode cX0_sumUsed 14 = .ok (.lastore, 1) := by decide +kernel
theorem dX0_sumUsed_15 : decode cX0_sumUsed 15 = .ok (.iinc 1 1, 3) := by decide +kernel
theorem dX0_sumUsed_18 : decode cX0_sumUsed 18 = .ok (.goto (-16), 3) := by decide +kernel
theorem dX0_sumUsed_21 : decode cX0_sumUsed 21 = .ok (.iconst 0, 1) := by decide +kernel
theorem dX0_sumUsed_22 : decode cX0_sumUsed 22 = .ok (.istore_n 1, 1) := by decide +kernel
theorem dX0_sumUsed_23 : decode cX0_sumUsed 23 = .ok (.iload_n 1, 1) := by decide +kernel
theorem dX0_sumUsed_24 : decode cX0_sumUsed 24 = .ok (.bipush 24, 2) := by decide +kernel
theorem dX0_sumUsed_26 : decode cX0_sumUsed 26 = .ok (.if_icmp .ge 14, 3) := by decide +kernel
theorem dX0_sumUsed_29 : decode cX0_sumUsed 29 = .ok (.aload_n 0, 1) := by decide +kernel
theorem dX0_sumUsed_30 : decode cX0_sumUsed 30 = .ok (.iload_n 1, 1) := by decide +kernel
theorem dX0_sumUsed_31 : decode cX0_sumUsed 31 = .ok (.invokevirtual 41, 3) := by decide +kernel
theorem dX0_sumUsed_34 : decode cX0_sumUsed 34 = .ok (.iinc 1 1, 3) := by decide +kernel
theorem dX0_sumUsed_37 : decode cX0_sumUsed 37 = .ok (.goto (-14), 3) := by decide +kernel
theorem dX0_sumUsed_40 : decode cX0_sumUsed 40 = .ok (.lconst 1, 1) := by decide +kernel
theorem dX0_sumUsed_41 : decode cX0_sumUsed 41 = .ok (.lstore_n 1, 1) := by decide +kernel
theorem dX0_sumUsed_42 : decode cX0_sumUsed 42 = .ok (.iconst 0, 1) := by decide +kernel
theorem dX0_sumUsed_43 : decode cX0_sumUsed 43 = .ok (.istore_n 3, 1) := by decide +kernel
theorem dX0_sumUsed_44 : decode cX0_sumUsed 44 = .ok (.iload_n 3, 1) := by decide +kernel
theorem dX0_sumUsed_45 : decode cX0_sumUsed 45 = .ok (.bipush 8, 2) := by decide +kernel
theorem dX0_sumUsed_47 : decode cX0_sumUsed 47 = .ok (.if_icmp .ge 56, 3) := by decide +kernel
theorem dX0_sumUsed_50 : decode cX0_sumUsed 50 = .ok (.aload_n 0, 1) := by decide +kernel
theorem dX0_sumUsed_51 : decode cX0_sumUsed 51 = .ok (.iload_n 3, 1) := by decide +kernel
theorem dX0_sumUsed_52 : decode cX0_sumUsed 52 = .ok (.invokevirtual 45, 3) := by decide +kernel
theorem dX0_sumUsed_55 : decode cX0_sumUsed 55 = .ok (.istore 4, 2) := by decide +kernel
theorem dX0_sumUsed_57 : decode cX0_sumUsed 57 = .ok (.iload 4, 2) := by decide +kernel
theorem dX0_sumUsed_59 : decode cX0_sumUsed 59 = .ok (.bipush 8, 2) := by decide +kernel
theorem dX0_sumUsed_61 : decode cX0_sumUsed 61 = .ok (.if_icmp .ne 5, 3) := by decide +kernel
theorem dX0_sumUsed_64 : decode cX0_sumUsed 64 = .ok (.iconst 0, 1) := by decide +kernel
theorem dX0_sumUsed_65 : decode cX0_sumUsed 65 = .ok (.ireturn, 1) := by decide +kernel
theorem dX0_sumUsed_66 : decode cX0_sumUsed 66 = .ok (.iload 4, 2) := by decide +kernel
theorem dX0_sumUsed_68 : decode cX0_sumUsed 68 = .ok (.iload_n 3, 1) := by decide +kernel
theorem dX0_sumUsed_69 : decode cX0_sumUsed 69 = .ok (.if_icmp .eq 10, 3) := by decide +kernel
theorem dX0_sumUsed_72 : decode cX0_sumUsed 72 = .ok (.aload_n 0, 1) := by decide +kernel
theorem dX0_sumUsed_73 : decode cX0_sumUsed 73 = .ok (.iload 4, 2) := by decide +kernel
theorem dX0_sumUsed_75 : decode cX0_sumUsed 75 = .ok (.iload_n 3, 1) := by decide +kernel
theorem dX0_sumUsed_76 : decode cX0_sumUsed 76 = .ok (.invokevirtual 48, 3) := by decide +kernel
theorem dX0_sumUsed_79 : decode cX0_sumUsed 79 = .ok (.aload_n 0, 1) := by decide +kernel
theorem dX0_sumUsed_80 : decode cX0_sumUsed 80 = .ok (.iload_n 3, 1) := by decide +kernel
theorem dX0_sumUsed_81 : decode cX0_sumUsed 81 = .ok (.lload_n 1, 1) := by decide +kernel
theorem dX0_sumUsed_82 : decode cX0_sumUsed 82 = .ok (.invokevirtual 52, 3) := by decide +kernel
theorem dX0_sumUsed_85 : decode cX0_sumUsed 85 = .ok (.aload_n 0, 1) := by decide +kernel
theorem dX0_sumUsed_86 : decode cX0_sumUsed 86 = .ok (.getfield 19, 3) := by decide +kernel
theorem dX0_sumUsed_89 : decode cX0_sumUsed 89 = .ok (.iload_n 3, 1) := by decide +kernel
theorem dX0_sumUsed_90 : decode cX0_sumUsed 90 = .ok (.bipush 8, 2) := by decide +kernel
theorem dX0_sumUsed_92 : decode cX0_sumUsed 92 = .ok (.imul, 1) := by decide +kernel
theorem dX0_sumUsed_93 : decode cX0_sumUsed 93 = .ok (.iload_n 3, 1) := by decide +kernel
theorem dX0_sumUsed_94 : decode cX0_sumUsed 94 = .ok (.iadd, 1) := by decide +kernel
theorem dX0_sumUsed_95 : decode cX0_sumUsed 95 = .ok (.laload, 1) := by decide +kernel
theorem dX0_sumUsed_96 : decode cX0_sumUsed 96 = .ok (.lstore_n 1, 1) := by decide +kernel
theorem dX0_sumUsed_97 : decode cX0_sumUsed 97 = .ok (.iinc 3 1, 3) := by decide +kernel
theorem dX0_sumUsed_100 : decode cX0_sumUsed 100 = .ok (.goto (-56), 3) := by decide +kernel
theorem dX0_sumUsed_103 : decode cX0_sumUsed 103 = .ok (.lload_n 1, 1) := by decide +kernel
theorem dX0_sumUsed_104 : decode cX0_sumUsed 104 = .ok (.lconst 0, 1) := by decide +kernel
theorem dX0_sumUsed_105 : decode cX0_sumUsed 105 = .ok (.lcmp, 1) := by decide +kernel
theorem dX0_sumUsed_106 : decode cX0_sumUsed 106 = .ok (.ifCond .ge 8, 3) := by decide +kernel
theorem dX0_sumUsed_109 : decode cX0_sumUsed 109 = .ok (.lload_n 1, 1) := by decide +kernel
theorem dX0_sumUsed_110 : decode cX0_sumUsed 110 = .ok (.lneg, 1) := by decide +kernel
theorem dX0_sumUsed_111 : decode cX0_sumUsed 111 = .ok (.goto 4, 3) := by decide +kernel
theorem dX0_sumUsed_114 : decode cX0_sumUsed 114 = .ok (.lload_n 1, 1) := by decide +kernel
theorem dX0_sumUsed_115 : decode cX0_sumUsed 115 = .ok (.l2i, 1) := by decide +kernel
theorem dX0_sumUsed_116 : decode cX0_sumUsed 116 = .ok (.ireturn, 1) := by decide +kernel
theorem dX0_enter_0 : decode cX0_enter 0 = .ok (.iload_n 1, 1) := by decide +kernel
theorem dX0_enter_1 : decode cX0_enter 1 = .ok (.invokestatic 23, 3) := by decide +kernel
theorem dX0_enter_4 : decode cX0_enter 4 = .ok (.istore_n 2, 1) := by decide +kernel
theorem dX0_enter_5 : decode cX0_enter 5 = .ok (.iload_n 1, 1) := by decide +kernel
theorem dX0_enter_6 : decode cX0_enter 6 = .ok (.invokestatic 27, 3) := by decide +kernel
theorem dX0_enter_9 : decode cX0_enter 9 = .ok (.istore_n 3, 1) := by decide +kernel
theorem dX0_enter_10 : decode cX0_enter 10 = .ok (.iload_n 2, 1) := by decide +kernel
theorem dX0_enter_11 : decode cX0_enter 11 = .ok (.invokestatic 38, 3) := by decide +kernel
theorem dX0_enter_14 : decode cX0_enter 14 = .ok (.istore 4, 2) := by decide +kernel
theorem dX0_enter_16 : decode cX0_enter 16 = .ok (.iload 4, 2) := by decide +kernel
theorem dX0_enter_18 : decode cX0_enter 18 = .ok (.ifCond .eq 9, 3) := by decide +kernel
theorem dX0_enter_21 : decode cX0_enter 21 = .ok (.iload_n 2, 1) := by decide +kernel
theorem dX0_enter_22 : decode cX0_enter 22 = .ok (.iconst 2, 1) := by decide +kernel
theorem dX0_enter_23 : decode cX0_enter 23 = .ok (.idiv, 1) := by decide +kernel
theorem dX0_enter_24 : decode cX0_enter 24 = .ok (.goto 6, 3) := by decide +kernel
theorem dX0_enter_27 : decode cX0_enter 27 = .ok (.iload_n 3, 1) := by decide +kernel
theorem dX0_enter_28 : decode cX0_enter 28 = .ok (.iconst 2, 1) := by decide +kernel
theorem dX0_enter_29 : decode cX0_enter 29 = .ok (.idiv, 1) := by decide +kernel
theorem dX0_enter_30 : decode cX0_enter 30 = .ok (.istore 5, 2) := by decide +kernel
theorem dX0_enter_32 : decode cX0_enter 32 = .ok (.iload 4, 2) := by decide +kernel
theorem dX0_enter_34 : decode cX0_enter 34 = .ok (.ifCond .eq 9, 3) := by decide +kernel
theorem dX0_enter_37 : decode cX0_enter 37 = .ok (.iload_n 3, 1) := by decide +kernel
theorem dX0_enter_38 : decode cX0_enter 38 = .ok (.iconst 2, 1) := by decide +kernel
theorem dX0_enter_39 : decode cX0_enter 39 = .ok (.idiv, 1) := by decide +kernel
theorem dX0_enter_40 : decode cX0_enter 40 = .ok (.goto 6, 3) := by decide +kernel
theorem dX0_enter_43 : decode cX0_enter 43 = .ok (.iload_n 2, 1) := by decide +kernel
theorem dX0_enter_44 : decode cX0_enter 44 = .ok (.iconst 2, 1) := by decide +kernel
theorem dX0_enter_45 : decode cX0_enter 45 = .ok (.idiv, 1) := by decide +kernel
theorem dX0_enter_46 : decode cX0_enter 46 = .ok (.istore 6, 2) := by decide +kernel
theorem dX0_enter_48 : decode cX0_enter 48 = .ok (.iload_n 1, 1) := by decide +kernel
theorem dX0_enter_49 : decode cX0_enter 49 = .ok (.bipush 12, 2) := by decide +kernel
theorem dX0_enter_51 : decode cX0_enter 51 = .ok (.if_icmp .lt 14, 3) := by decide +kernel
theorem dX0_enter_54 : decode cX0_enter 54 = .ok (.iload_n 2, 1) := by decide +kernel
theorem dX0_enter_55 : decode cX0_enter 55 = .ok (.iconst 1, 1) := by decide +kernel
theorem dX0_enter_56 : decode cX0_enter 56 = .ok (.iand, 1) := by decide +kernel
end
section
set_option maxRecDepth 100000
theorem dX0_enter_57 : decode cX0_enter 57 = .ok (.iconst 1, 1) := by decide +kernel
theorem dX0_enter_58 : decode cX0_enter 58 = .ok (.if_icmp .ne 7, 3) := by decide +kernel
theorem dX0_enter_61 : decode cX0_enter 61 = .ok (.iconst 1, 1) := by decide +kernel
theorem dX0_enter_62 : decode cX0_enter 62 = .ok (.goto 4, 3) := by decide +kernel
theorem dX0_enter_65 : decode cX0_enter 65 = .ok (.iconst 0, 1) := by decide +kernel
theorem dX0_enter_66 : decode cX0_enter 66 = .ok (.istore 7, 2) := by decide +kernel
theorem dX0_enter_68 : decode cX0_enter 68 = .ok (.aload_n 0, 1) := by decide +kernel
theorem dX0_enter_69 : decode cX0_enter 69 = .ok (.getfield 19, 3) := by decide +kernel
theorem dX0_enter_72 : decode cX0_enter 72 = .ok (.iload 5, 2) := by decide +kernel
theorem dX0_enter_74 : decode cX0_enter 74 = .ok (.bipush 8, 2) := by decide +kernel
theorem dX0_enter_76 : decode cX0_enter 76 = .ok (.imul, 1) := by decide +kernel
theorem dX0_enter_77 : decode cX0_enter 77 = .ok (.iload 6, 2) := by decide +kernel
theorem dX0_enter_79 : decode cX0_enter 79 = .ok (.iadd, 1) := by decide +kernel
theorem dX0_enter_80 : decode cX0_enter 80 = .ok (.iload 7, 2) := by decide +kernel
theorem dX0_enter_82 : decode cX0_enter 82 = .ok (.ifCond .eq 14, 3) := by decide +kernel
theorem dX0_enter_85 : decode cX0_enter 85 = .ok (.aload_n 0, 1) := by decide +kernel
theorem dX0_enter_86 : decode cX0_enter 86 = .ok (.getfield 16, 3) := by decide +kernel
theorem dX0_enter_89 : decode cX0_enter 89 = .ok (.iload_n 1, 1) := by decide +kernel
theorem dX0_enter_90 : decode cX0_enter 90 = .ok (.iaload, 1) := by decide +kernel
theorem dX0_enter_91 : decode cX0_enter 91 = .ok (.ineg, 1) := by decide +kernel
theorem dX0_enter_92 : decode cX0_enter 92 = .ok (.i2l, 1) := by decide +kernel
theorem dX0_enter_93 : decode cX0_enter 93 = .ok (.goto 10, 3) := by decide +kernel
theorem dX0_enter_96 : decode cX0_enter 96 = .ok (.aload_n 0, 1) := by decide +kernel
theorem dX0_enter_97 : decode cX0_enter 97 = .ok (.getfield 16, 3) := by decide +kernel
theorem dX0_enter_100 : decode cX0_enter 100 = .ok (.iload_n 1, 1) := by decide +kernel
theorem dX0_enter_101 : decode cX0_enter 101 = .ok (.iaload, 1) := by decide +kernel
theorem dX0_enter_102 : decode cX0_enter 102 = .ok (.i2l, 1) := by decide +kernel
theorem dX0_enter_103 : decode cX0_enter 103 = .ok (.lastore, 1) := by decide +kernel
theorem dX0_enter_104 : decode cX0_enter 104 = .ok (.return_, 1) := by decide +kernel
theorem dX0_black_0 : decode cX0_black 0 = .ok (.iload_n 0, 1) := by decide +kernel
theorem dX0_black_1 : decode cX0_black 1 = .ok (.iconst 4, 1) := by decide +kernel
theorem dX0_black_2 : decode cX0_black 2 = .ok (.idiv, 1) := by decide +kernel
theorem dX0_black_3 : decode cX0_black 3 = .ok (.iload_n 0, 1) := by decide +kernel
theorem dX0_black_4 : decode cX0_black 4 = .ok (.iconst 4, 1) := by decide +kernel
theorem dX0_black_5 : decode cX0_black 5 = .ok (.irem, 1) := by decide +kernel
theorem dX0_black_6 : decode cX0_black 6 = .ok (.iadd, 1) := by decide +kernel
theorem dX0_black_7 : decode cX0_black 7 = .ok (.iconst 1, 1) := by decide +kernel
theorem dX0_black_8 : decode cX0_black 8 = .ok (.iand, 1) := by decide +kernel
theorem dX0_black_9 : decode cX0_black 9 = .ok (.ifCond .ne 7, 3) := by decide +kernel
theorem dX0_black_12 : decode cX0_black 12 = .ok (.iconst 1, 1) := by decide +kernel
theorem dX0_black_13 : decode cX0_black 13 = .ok (.goto 4, 3) := by decide +kernel
theorem dX0_black_16 : decode cX0_black 16 = .ok (.iconst 0, 1) := by decide +kernel
theorem dX0_black_17 : decode cX0_black 17 = .ok (.ireturn, 1) := by decide +kernel
theorem dX0_pivotRow_0 : decode cX0_pivotRow 0 = .ok (.iload_n 1, 1) := by decide +kernel
theorem dX0_pivotRow_1 : decode cX0_pivotRow 1 = .ok (.istore_n 2, 1) := by decide +kernel
theorem dX0_pivotRow_2 : decode cX0_pivotRow 2 = .ok (.iload_n 2, 1) := by decide +kernel
theorem dX0_pivotRow_3 : decode cX0_pivotRow 3 = .ok (.bipush 8, 2) := by decide +kernel
theorem dX0_pivotRow_5 : decode cX0_pivotRow 5 = .ok (.if_icmp .ge 25, 3) := by decide +kernel
theorem dX0_pivotRow_8 : decode cX0_pivotRow 8 = .ok (.aload_n 0, 1) := by decide +kernel
theorem dX0_pivotRow_9 : decode cX0_pivotRow 9 = .ok (.getfield 19, 3) := by decide +kernel
theorem dX0_pivotRow_12 : decode cX0_pivotRow 12 = .ok (.iload_n 2, 1) := by decide +kernel
theorem dX0_pivotRow_13 : decode cX0_pivotRow 13 = .ok (.bipush 8, 2) := by decide +kernel
theorem dX0_pivotRow_15 : decode cX0_pivotRow 15 = .ok (.imul, 1) := by decide +kernel
theorem dX0_pivotRow_16 : decode cX0_pivotRow 16 = .ok (.iload_n 1, 1) := by decide +kernel
theorem dX0_pivotRow_17 : decode cX0_pivotRow 17 = .ok (.iadd, 1) := by decide +kernel
theorem dX0_pivotRow_18 : decode cX0_pivotRow 18 = .ok (.laload, 1) := by decide +kernel
theorem dX0_pivotRow_19 : decode cX0_pivotRow 19 = .ok (.lconst 0, 1) := by decide +kernel
theorem dX0_pivotRow_20 : decode cX0_pivotRow 20 = .ok (.lcmp, 1) := by decide +kernel
theorem dX0_pivotRow_21 : decode cX0_pivotRow 21 = .ok (.ifCond .ne 9, 3) := by decide +kernel
theorem dX0_pivotRow_24 : decode cX0_pivotRow 24 = .ok (.iinc 2 1, 3) := by decide +kernel
theorem dX0_pivotRow_27 : decode cX0_pivotRow 27 = .ok (.goto (-25), 3) := by decide +kernel
theorem dX0_pivotRow_30 : decode cX0_pivotRow 30 = .ok (.iload_n 2, 1) := by decide +kernel
theorem dX0_pivotRow_31 : decode cX0_pivotRow 31 = .ok (.ireturn, 1) := by decide +kernel
theorem dX0_swapRows_0 : decode cX0_swapRows 0 = .ok (.iconst 0, 1) := by decide +kernel
theorem dX0_swapRows_1 : decode cX0_swapRows 1 = .ok (.istore_n 3, 1) := by decide +kernel
theorem dX0_swapRows_2 : decode cX0_swapRows 2 = .ok (.iload_n 3, 1) := by decide +kernel
theorem dX0_swapRows_3 : decode cX0_swapRows 3 = .ok (.bipush 8, 2) := by decide +kernel
theorem dX0_swapRows_5 : decode cX0_swapRows 5 = .ok (.if_icmp .ge 57, 3) := by decide +kernel
theorem dX0_swapRows_8 : decode cX0_swapRows 8 = .ok (.aload_n 0, 1) := by decide +kernel
theorem dX0_swapRows_9 : decode cX0_swapRows 9 = .ok (.getfield 19, 3) := by decide +kernel
theorem dX0_swapRows_12 : decode cX0_swapRows 12 = .ok (.iload_n 1, 1) := by decide +kernel
theorem dX0_swapRows_13 : decode cX0_swapRows 13 = .ok (.bipush 8, 2) := by decide +kernel
theorem dX0_swapRows_15 : decode cX0_swapRows 15 = .ok (.imul, 1) := by decide +kernel
theorem dX0_swapRows_16 : decode cX0_swapRows 16 = .ok (.iload_n 3, 1) := by decide +kernel
theorem dX0_swapRows_17 : decode cX0_swapRows 17 = .ok (.iadd, 1) := by decide +kernel
theorem dX0_swapRows_18 : decode cX0_swapRows 18 = .ok (.laload, 1) := by decide +kernel
theorem dX0_swapRows_19 : decode cX0_swapRows 19 = .ok (.lstore 4, 2) := by decide +kernel
theorem dX0_swapRows_21 : decode cX0_swapRows 21 = .ok (.aload_n 0, 1) := by decide +kernel
theorem dX0_swapRows_22 : decode cX0_swapRows 22 = .ok (.getfield 19, 3) := by decide +kernel
theorem dX0_swapRows_25 : decode cX0_swapRows 25 = .ok (.iload_n 1, 1) := by decide +kernel
theorem dX0_swapRows_26 : decode cX0_swapRows 26 = .ok (.bipush 8, 2) := by decide +kernel
theorem dX0_swapRows_28 : decode cX0_swapRows 28 = .ok (.imul, 1) := by decide +kernel
theorem dX0_swapRows_29 : decode cX0_swapRows 29 = .ok (.iload_n 3, 1) := by decide +kernel
theorem dX0_swapRows_30 : decode cX0_swapRows 30 = .ok (.iadd, 1) := by decide +kernel
theorem dX0_swapRows_31 : decode cX0_swapRows 31 = .ok (.aload_n 0, 1) := by decide +kernel
theorem dX0_swapRows_32 : decode cX0_swapRows 32 = .ok (.getfield 19, 3) := by decide +kernel
theorem dX0_swapRows_35 : decode cX0_swapRows 35 = .ok (.iload_n 2, 1) := by decide +kernel
theorem dX0_swapRows_36 : decode cX0_swapRows 36 = .ok (.bipush 8, 2) := by decide +kernel
theorem dX0_swapRows_38 : decode cX0_swapRows 38 = .ok (.imul, 1) := by decide +kernel
theorem dX0_swapRows_39 : decode cX0_swapRows 39 = .ok (.iload_n 3, 1) := by decide +kernel
theorem dX0_swapRows_40 : decode cX0_swapRows 40 = .ok (.iadd, 1) := by decide +kernel
theorem dX0_swapRows_41 : decode cX0_swapRows 41 = .ok (.laload, 1) := by decide +kernel
theorem dX0_swapRows_42 : decode cX0_swapRows 42 = .ok (.lastore, 1) := by decide +kernel
theorem dX0_swapRows_43 : decode cX0_swapRows 43 = .ok (.aload_n 0, 1) := by decide +kernel
theorem dX0_swapRows_44 : decode cX0_swapRows 44 = .ok (.getfield 19, 3) := by decide +kernel
theorem dX0_swapRows_47 : decode cX0_swapRows 47 = .ok (.iload_n 2, 1) := by decide +kernel
theorem dX0_swapRows_48 : decode cX0_swapRows 48 = .ok (.bipush 8, 2) := by decide +kernel
theorem dX0_swapRows_50 : decode cX0_swapRows 50 = .ok (.imul, 1) := by decide +kernel
theorem dX0_swapRows_51 : decode cX0_swapRows 51 = .ok (.iload_n 3, 1) := by decide +kernel
theorem dX0_swapRows_52 : decode cX0_swapRows 52 = .ok (.iadd, 1) := by decide +kernel
theorem dX0_swapRows_53 : decode cX0_swapRows 53 = .ok (.lload 4, 2) := by decide +kernel
theorem dX0_swapRows_55 : decode cX0_swapRows 55 = .ok (.lastore, 1) := by decide +kernel
theorem dX0_swapRows_56 : decode cX0_swapRows 56 = .ok (.iinc 3 1, 3) := by decide +kernel
theorem dX0_swapRows_59 : decode cX0_swapRows 59 = .ok (.goto (-57), 3) := by decide +kernel
theorem dX0_swapRows_62 : decode cX0_swapRows 62 = .ok (.return_, 1) := by decide +kernel
theorem dX0_eliminate_0 : decode cX0_eliminate 0 = .ok (.aload_n 0, 1) := by decide +kernel
theorem dX0_eliminate_1 : decode cX0_eliminate 1 = .ok (.getfield 19, 3) := by decide +kernel
theorem dX0_eliminate_4 : decode cX0_eliminate 4 = .ok (.iload_n 1, 1) := by decide +kernel
theorem dX0_eliminate_5 : decode cX0_eliminate 5 = .ok (.bipush 8, 2) := by decide +kernel
theorem dX0_eliminate_7 : decode cX0_eliminate 7 = .ok (.imul, 1) := by decide +kernel
theorem dX0_eliminate_8 : decode cX0_eliminate 8 = .ok (.iload_n 1, 1) := by decide +kernel
theorem dX0_eliminate_9 : decode cX0_eliminate 9 = .ok (.iadd, 1) := by decide +kernel
theorem dX0_eliminate_10 : decode cX0_eliminate 10 = .ok (.laload, 1) := by decide +kernel
theorem dX0_eliminate_11 : decode cX0_eliminate 11 = .ok (.lstore 4, 2) := by decide +kernel
theorem dX0_eliminate_13 : decode cX0_eliminate 13 = .ok (.iload_n 1, 1) := by decide +kernel
theorem dX0_eliminate_14 : decode cX0_eliminate 14 = .ok (.iconst 1, 1) := by decide +kernel
theorem dX0_eliminate_15 : decode cX0_eliminate 15 = .ok (.iadd, 1) := by decide +kernel
theorem dX0_eliminate_16 : decode cX0_eliminate 16 = .ok (.istore 6, 2) := by decide +kernel
theorem dX0_eliminate_18 : decode cX0_eliminate 18 = .ok (.iload 6, 2) := by decide +kernel
theorem dX0_eliminate_20 : decode cX0_eliminate 20 = .ok (.bipush 8, 2) := by decide +kernel
theorem dX0_eliminate_22 : decode cX0_eliminate 22 = .ok (.if_icmp .ge 115, 3) := by decide +kernel
theorem dX0_eliminate_25 : decode cX0_eliminate 25 = .ok (.aload_n 0, 1) := by decide +kernel
theorem dX0_eliminate_26 : decode cX0_eliminate 26 = .ok (.getfield 19, 3) := by decide +kernel
theorem dX0_eliminate_29 : decode cX0_eliminate 29 = .ok (.iload 6, 2) := by decide +kernel
theorem dX0_eliminate_31 : decode cX0_eliminate 31 = .ok (.bipush 8, 2) := by decide +kernel
theorem dX0_eliminate_33 : decode cX0_eliminate 33 = .ok (.imul, 1) := by decide +kernel
theorem dX0_eliminate_34 : decode cX0_eliminate 34 = .ok (.iload_n 1, 1) := by decide +kernel
theorem dX0_eliminate_35 : decode cX0_eliminate 35 = .ok (.iadd, 1) := by decide +kernel
theorem dX0_eliminate_36 : decode cX0_eliminate 36 = .ok (.laload, 1) := by decide +kernel
theorem dX0_eliminate_37 : decode cX0_eliminate 37 = .ok (.lstore 7, 2) := by decide +kernel
theorem dX0_eliminate_39 : decode cX0_eliminate 39 = .ok (.iload_n 1, 1) := by decide +kernel
theorem dX0_eliminate_40 : decode cX0_eliminate 40 = .ok (.iconst 1, 1) := by decide +kernel
theorem dX0_eliminate_41 : decode cX0_eliminate 41 = .ok (.iadd, 1) := by decide +kernel
theorem dX0_eliminate_42 : decode cX0_eliminate 42 = .ok (.istore 9, 2) := by decide +kernel
theorem dX0_eliminate_44 : decode cX0_eliminate 44 = .ok (.iload 9, 2) := by decide +kernel
theorem dX0_eliminate_46 : decode cX0_eliminate 46 = .ok (.bipush 8, 2) := by decide +kernel
theorem dX0_eliminate_48 : decode cX0_eliminate 48 = .ok (.if_icmp .ge 70, 3) := by decide +kernel
theorem dX0_eliminate_51 : decode cX0_eliminate 51 = .ok (.aload_n 0, 1) := by decide +kernel
theorem dX0_eliminate_52 : decode cX0_eliminate 52 = .ok (.getfield 19, 3) := by decide +kernel
theorem dX0_eliminate_55 : decode cX0_eliminate 55 = .ok (.iload 6, 2) := by decide +kernel
theorem dX0_eliminate_57 : decode cX0_eliminate 57 = .ok (.bipush 8, 2) := by decide +kernel
theorem dX0_eliminate_59 : decode cX0_eliminate 59 = .ok (.imul, 1) := by decide +kernel
theorem dX0_eliminate_60 : decode cX0_eliminate 60 = .ok (.iload 9, 2) := by decide +kernel
theorem dX0_eliminate_62 : decode cX0_eliminate 62 = .ok (.iadd, 1) := by decide +kernel
theorem dX0_eliminate_63 : decode cX0_eliminate 63 = .ok (.laload, 1) := by decide +kernel
theorem dX0_eliminate_64 : decode cX0_eliminate 64 = .ok (.lload 4, 2) := by decide +kernel
theorem dX0_eliminate_66 : decode cX0_eliminate 66 = .ok (.lmul, 1) := by decide +kernel
theorem dX0_eliminate_67 : decode cX0_eliminate 67 = .ok (.lload 7, 2) := by decide +kernel
theorem dX0_eliminate_69 : decode cX0_eliminate 69 = .ok (.aload_n 0, 1) := by decide +kernel
theorem dX0_eliminate_70 : decode cX0_eliminate 70 = .ok (.getfield 19, 3) := by decide +kernel
theorem dX0_eliminate_73 : decode cX0_eliminate 73 = .ok (.iload_n 1, 1) := by decide +kernel
theorem dX0_eliminate_74 : decode cX0_eliminate 74 = .ok (.bipush 8, 2) := by decide +kernel
theorem dX0_eliminate_76 : decode cX0_eliminate 76 = .ok (.imul, 1) := by decide +kernel
theorem dX0_eliminate_77 : decode cX0_eliminate 77 = .ok (.iload 9, 2) := by decide +kernel
theorem dX0_eliminate_79 : decode cX0_eliminate 79 = .ok (.iadd, 1) := by decide +kernel
theorem dX0_eliminate_80 : decode cX0_eliminate 80 = .ok (.laload, 1) := by decide +kernel
theorem dX0_eliminate_81 : decode cX0_eliminate 81 = .ok (.lmul, 1) := by decide +kernel
theorem dX0_eliminate_82 : decode cX0_eliminate 82 = .ok (.lsub, 1) := by decide +kernel
theorem dX0_eliminate_83 : decode cX0_eliminate 83 = .ok (.lstore 10, 2) := by decide +kernel
theorem dX0_eliminate_85 : decode cX0_eliminate 85 = .ok (.aload_n 0, 1) := by decide +kernel
theorem dX0_eliminate_86 : decode cX0_eliminate 86 = .ok (.getfield 19, 3) := by decide +kernel
theorem dX0_eliminate_89 : decode cX0_eliminate 89 = .ok (.iload 6, 2) := by decide +kernel
theorem dX0_eliminate_91 : decode cX0_eliminate 91 = .ok (.bipush 8, 2) := by decide +kernel
theorem dX0_eliminate_93 : decode cX0_eliminate 93 = .ok (.imul, 1) := by decide +kernel
theorem dX0_eliminate_94 : decode cX0_eliminate 94 = .ok (.iload 9, 2) := by decide +kernel
theorem dX0_eliminate_96 : decode cX0_eliminate 96 = .ok (.iadd, 1) := by decide +kernel
theorem dX0_eliminate_97 : decode cX0_eliminate 97 = .ok (.lload_n 2, 1) := by decide +kernel
theorem dX0_eliminate_98 : decode cX0_eliminate 98 = .ok (.lconst 0, 1) := by decide +kernel
theorem dX0_eliminate_99 : decode cX0_eliminate 99 = .ok (.lcmp, 1) := by decide +kernel
theorem dX0_eliminate_100 : decode cX0_eliminate 100 = .ok (.ifCond .eq 10, 3) := by decide +kernel
theorem dX0_eliminate_103 : decode cX0_eliminate 103 = .ok (.lload 10, 2) := by decide +kernel
theorem dX0_eliminate_105 : decode cX0_eliminate 105 = .ok (.lload_n 2, 1) := by decide +kernel
theorem dX0_eliminate_106 : decode cX0_eliminate 106 = .ok (.ldiv, 1) := by decide +kernel
theorem dX0_eliminate_107 : decode cX0_eliminate 107 = .ok (.goto 4, 3) := by decide +kernel
theorem dX0_eliminate_110 : decode cX0_eliminate 110 = .ok (.lconst 0, 1) := by decide +kernel
theorem dX0_eliminate_111 : decode cX0_eliminate 111 = .ok (.lastore, 1) := by decide +kernel
theorem dX0_eliminate_112 : decode cX0_eliminate 112 = .ok (.iinc 9 1, 3) := by decide +kernel
theorem dX0_eliminate_115 : decode cX0_eliminate 115 = .ok (.goto (-71), 3) := by decide +kernel
theorem dX0_eliminate_118 : decode cX0_eliminate 118 = .ok (.aload_n 0, 1) := by decide +kernel
theorem dX0_eliminate_119 : decode cX0_eliminate 119 = .ok (.getfield 19, 3) := by decide +kernel
theorem dX0_eliminate_122 : decode cX0_eliminate 122 = .ok (.iload 6, 2) := by decide +kernel
theorem dX0_eliminate_124 : decode cX0_eliminate 124 = .ok (.bipush 8, 2) := by decide +kernel
theorem dX0_eliminate_126 : decode cX0_eliminate 126 = .ok (.imul, 1) := by decide +kernel
theorem dX0_eliminate_127 : decode cX0_eliminate 127 = .ok (.iload_n 1, 1) := by decide +kernel
theorem dX0_eliminate_128 : decode cX0_eliminate 128 = .ok (.iadd, 1) := by decide +kernel
theorem dX0_eliminate_129 : decode cX0_eliminate 129 = .ok (.lconst 0, 1) := by decide +kernel
theorem dX0_eliminate_130 : decode cX0_eliminate 130 = .ok (.lastore, 1) := by decide +kernel
theorem dX0_eliminate_131 : decode cX0_eliminate 131 = .ok (.iinc 6 1, 3) := by decide +kernel
theorem dX0_eliminate_134 : decode cX0_eliminate 134 = .ok (.goto (-116), 3) := by decide +kernel
theorem dX0_eliminate_137 : decode cX0_eliminate 137 = .ok (.return_, 1) := by decide +kernel
theorem dX0_totalWith_0 : decode cX0_totalWith 0 = .ok (.iload_n 1, 1) := by decide +kernel
theorem dX0_totalWith_1 : decode cX0_totalWith 1 = .ok (.invokestatic 30, 3) := by decide +kernel
theorem dX0_totalWith_4 : decode cX0_totalWith 4 = .ok (.ifCond .eq 5, 3) := by decide +kernel
theorem dX0_totalWith_7 : decode cX0_totalWith 7 = .ok (.iconst (-1), 1) := by decide +kernel
theorem dX0_totalWith_8 : decode cX0_totalWith 8 = .ok (.ireturn, 1) := by decide +kernel
theorem dX0_totalWith_9 : decode cX0_totalWith 9 = .ok (.aload_n 0, 1) := by decide +kernel
theorem dX0_totalWith_10 : decode cX0_totalWith 10 = .ok (.invokevirtual 63, 3) := by decide +kernel
theorem dX0_totalWith_13 : decode cX0_totalWith 13 = .ok (.aload_n 0, 1) := by decide +kernel
theorem dX0_totalWith_14 : decode cX0_totalWith 14 = .ok (.iload_n 1, 1) := by decide +kernel
theorem dX0_totalWith_15 : decode cX0_totalWith 15 = .ok (.invokevirtual 66, 3) := by decide +kernel
theorem dX0_totalWith_18 : decode cX0_totalWith 18 = .ok (.ireturn, 1) := by decide +kernel
theorem dX0_sumWith_0 : decode cX0_sumWith 0 = .ok (.aload_n 0, 1) := by decide +kernel
theorem dX0_sumWith_1 : decode cX0_sumWith 1 = .ok (.invokevirtual 56, 3) := by decide +kernel
theorem dX0_sumWith_4 : decode cX0_sumWith 4 = .ok (.istore_n 2, 1) := by decide +kernel
theorem dX0_sumWith_5 : decode cX0_sumWith 5 = .ok (.aload_n 0, 1) := by decide +kernel
theorem dX0_sumWith_6 : decode cX0_sumWith 6 = .ok (.iload_n 1, 1) := by decide +kernel
theorem dX0_sumWith_7 : decode cX0_sumWith 7 = .ok (.invokevirtual 60, 3) := by decide +kernel
theorem dX0_sumWith_10 : decode cX0_sumWith 10 = .ok (.istore_n 3, 1) := by decide +kernel
theorem dX0_sumWith_11 : decode cX0_sumWith 11 = .ok (.iload_n 2, 1) := by decide +kernel
theorem dX0_sumWith_12 : decode cX0_sumWith 12 = .ok (.iload_n 3, 1) := by decide +kernel
theorem dX0_sumWith_13 : decode cX0_sumWith 13 = .ok (.isub, 1) := by decide +kernel
theorem dX0_sumWith_14 : decode cX0_sumWith 14 = .ok (.ireturn, 1) := by decide +kernel
theorem dX0_sumWithout_0 : decode cX0_sumWithout 0 = .ok (.aload_n 0, 1) := by decide +kernel
theorem dX0_sumWithout_1 : decode cX0_sumWithout 1 = .ok (.getfield 16, 3) := by decide +kernel
theorem dX0_sumWithout_4 : decode cX0_sumWithout 4 = .ok (.iload_n 1, 1) := by decide +kernel
theorem dX0_sumWithout_5 : decode cX0_sumWithout 5 = .ok (.iaload, 1) := by decide +kernel
theorem dX0_sumWithout_6 : decode cX0_sumWithout 6 = .ok (.istore_n 2, 1) := by decide +kernel
theorem dX0_sumWithout_7 : decode cX0_sumWithout 7 = .ok (.aload_n 0, 1) := by decide +kernel
theorem dX0_sumWithout_8 : decode cX0_sumWithout 8 = .ok (.getfield 16, 3) := by decide +kernel
theorem dX0_sumWithout_11 : decode cX0_sumWithout 11 = .ok (.iload_n 1, 1) := by decide +kernel
theorem dX0_sumWithout_12 : decode cX0_sumWithout 12 = .ok (.iconst 0, 1) := by decide +kernel
theorem dX0_sumWithout_13 : decode cX0_sumWithout 13 = .ok (.iastore, 1) := by decide +kernel
theorem dX0_sumWithout_14 : decode cX0_sumWithout 14 = .ok (.aload_n 0, 1) := by decide +kernel
theorem dX0_sumWithout_15 : decode cX0_sumWithout 15 = .ok (.invokevirtual 56, 3) := by decide +kernel
theorem dX0_sumWithout_18 : decode cX0_sumWithout 18 = .ok (.istore_n 3, 1) := by decide +kernel
theorem dX0_sumWithout_19 : decode cX0_sumWithout 19 = .ok (.aload_n 0, 1) := by decide +kernel
theorem dX0_sumWithout_20 : decode cX0_sumWithout 20 = .ok (.getfield 16, 3) := by decide +kernel
theorem dX0_sumWithout_23 : decode cX0_sumWithout 23 = .ok (.iload_n 1, 1) := by decide +kernel
theorem dX0_sumWithout_24 : decode cX0_sumWithout 24 = .ok (.iload_n 2, 1) := by decide +kernel
theorem dX0_sumWithout_25 : decode cX0_sumWithout 25 = .ok (.iastore, 1) := by decide +kernel
theorem dX0_sumWithout_26 : decode cX0_sumWithout 26 = .ok (.iload_n 3, 1) := by decide +kernel
theorem dX0_sumWithout_27 : decode cX0_sumWithout 27 = .ok (.ireturn, 1) := by decide +kernel
theorem dX0_totalWithBoth_0 : decode cX0_totalWithBoth 0 = .ok (.iload_n 1, 1) := by decide +kernel
theorem dX0_totalWithBoth_1 : decode cX0_totalWithBoth 1 = .ok (.invokestatic 30, 3) := by decide +kernel
theorem dX0_totalWithBoth_4 : decode cX0_totalWithBoth 4 = .ok (.ifCond .ne 10, 3) := by decide +kernel
theorem dX0_totalWithBoth_7 : decode cX0_totalWithBoth 7 = .ok (.iload_n 2, 1) := by decide +kernel
theorem dX0_totalWithBoth_8 : decode cX0_totalWithBoth 8 = .ok (.invokestatic 30, 3) := by decide +kernel
theorem dX0_totalWithBoth_11 : decode cX0_totalWithBoth 11 = .ok (.ifCond .eq 5, 3) := by decide +kernel
theorem dX0_totalWithBoth_14 : decode cX0_totalWithBoth 14 = .ok (.iconst (-1), 1) := by decide +kernel
theorem dX0_totalWithBoth_15 : decode cX0_totalWithBoth 15 = .ok (.ireturn, 1) := by decide +kernel
theorem dX0_totalWithBoth_16 : decode cX0_totalWithBoth 16 = .ok (.aload_n 0, 1) := by decide +kernel
theorem dX0_totalWithBoth_17 : decode cX0_totalWithBoth 17 = .ok (.invokevirtual 63, 3) := by decide +kernel
theorem dX0_totalWithBoth_20 : decode cX0_totalWithBoth 20 = .ok (.aload_n 0, 1) := by decide +kernel
theorem dX0_totalWithBoth_21 : decode cX0_totalWithBoth 21 = .ok (.iload_n 1, 1) := by decide +kernel
theorem dX0_totalWithBoth_22 : decode cX0_totalWithBoth 22 = .ok (.invokevirtual 66, 3) := by decide +kernel
theorem dX0_totalWithBoth_25 : decode cX0_totalWithBoth 25 = .ok (.istore_n 3, 1) := by decide +kernel
theorem dX0_totalWithBoth_26 : decode cX0_totalWithBoth 26 = .ok (.iload_n 1, 1) := by decide +kernel
theorem dX0_totalWithBoth_27 : decode cX0_totalWithBoth 27 = .ok (.iload_n 2, 1) := by decide +kernel
theorem dX0_totalWithBoth_28 : decode cX0_totalWithBoth 28 = .ok (.if_icmp .ne 5, 3) := by decide +kernel
theorem dX0_totalWithBoth_31 : decode cX0_totalWithBoth 31 = .ok (.iload_n 3, 1) := by decide +kernel
theorem dX0_totalWithBoth_32 : decode cX0_totalWithBoth 32 = .ok (.ireturn, 1) := by decide +kernel
theorem dX0_totalWithBoth_33 : decode cX0_totalWithBoth 33 = .ok (.aload_n 0, 1) := by decide +kernel
theorem dX0_totalWithBoth_34 : decode cX0_totalWithBoth 34 = .ok (.getfield 16, 3) := by decide +kernel
theorem dX0_totalWithBoth_37 : decode cX0_totalWithBoth 37 = .ok (.iload_n 2, 1) := by decide +kernel
theorem dX0_totalWithBoth_38 : decode cX0_totalWithBoth 38 = .ok (.iconst 0, 1) := by decide +kernel
theorem dX0_totalWithBoth_39 : decode cX0_totalWithBoth 39 = .ok (.iastore, 1) := by decide +kernel
theorem dX0_totalWithBoth_40 : decode cX0_totalWithBoth 40 = .ok (.aload_n 0, 1) := by decide +kernel
theorem dX0_totalWithBoth_41 : decode cX0_totalWithBoth 41 = .ok (.iload_n 1, 1) := by decide +kernel
theorem dX0_totalWithBoth_42 : decode cX0_totalWithBoth 42 = .ok (.invokevirtual 66, 3) := by decide +kernel
theorem dX0_totalWithBoth_45 : decode cX0_totalWithBoth 45 = .ok (.istore 4, 2) := by decide +kernel
theorem dX0_totalWithBoth_47 : decode cX0_totalWithBoth 47 = .ok (.iload_n 3, 1) := by decide +kernel
theorem dX0_totalWithBoth_48 : decode cX0_totalWithBoth 48 = .ok (.iload 4, 2) := by decide +kernel
theorem dX0_totalWithBoth_50 : decode cX0_totalWithBoth 50 = .ok (.isub, 1) := by decide +kernel
theorem dX0_totalWithBoth_51 : decode cX0_totalWithBoth 51 = .ok (.ireturn, 1) := by decide +kernel
theorem dX0_possible_0 : decode cX0_possible 0 = .ok (.aload_n 0, 1) := by decide +kernel
theorem dX0_possible_1 : decode cX0_possible 1 = .ok (.invokevirtual 69, 3) := by decide +kernel
theorem dX0_possible_4 : decode cX0_possible 4 = .ok (.aload_n 0, 1) := by decide +kernel
theorem dX0_possible_5 : decode cX0_possible 5 = .ok (.invokevirtual 56, 3) := by decide +kernel
theorem dX0_possible_8 : decode cX0_possible 8 = .ok (.ireturn, 1) := by decide +kernel
theorem dX0_useOnes_0 : decode cX0_useOnes 0 = .ok (.iconst 0, 1) := by decide +kernel
theorem dX0_useOnes_1 : decode cX0_useOnes 1 = .ok (.istore_n 1, 1) := by decide +kernel
theorem dX0_useOnes_2 : decode cX0_useOnes 2 = .ok (.iload_n 1, 1) := by decide +kernel
theorem dX0_useOnes_3 : decode cX0_useOnes 3 = .ok (.bipush 24, 2) := by decide +kernel
theorem dX0_useOnes_5 : decode cX0_useOnes 5 = .ok (.if_icmp .ge 29, 3) := by decide +kernel
theorem dX0_useOnes_8 : decode cX0_useOnes 8 = .ok (.aload_n 0, 1) := by decide +kernel
theorem dX0_useOnes_9 : decode cX0_useOnes 9 = .ok (.getfield 16, 3) := by decide +kernel
theorem dX0_useOnes_12 : decode cX0_useOnes 12 = .ok (.iload_n 1, 1) := by decide +kernel
theorem dX0_useOnes_13 : decode cX0_useOnes 13 = .ok (.aload_n 0, 1) := by decide +kernel
theorem dX0_useOnes_14 : decode cX0_useOnes 14 = .ok (.getfield 7, 3) := by decide +kernel
theorem dX0_useOnes_17 : decode cX0_useOnes 17 = .ok (.iload_n 1, 1) := by decide +kernel
theorem dX0_useOnes_18 : decode cX0_useOnes 18 = .ok (.iaload, 1) := by decide +kernel
theorem dX0_useOnes_19 : decode cX0_useOnes 19 = .ok (.ifCond .le 7, 3) := by decide +kernel
theorem dX0_useOnes_22 : decode cX0_useOnes 22 = .ok (.iconst 1, 1) := by decide +kernel
theorem dX0_useOnes_23 : decode cX0_useOnes 23 = .ok (.goto 4, 3) := by decide +kernel
theorem dX0_useOnes_26 : decode cX0_useOnes 26 = .ok (.iconst 0, 1) := by decide +kernel
theorem dX0_useOnes_27 : decode cX0_useOnes 27 = .ok (.iastore, 1) := by decide +kernel
theorem dX0_useOnes_28 : decode cX0_useOnes 28 = .ok (.iinc 1 1, 3) := by decide +kernel
theorem dX0_useOnes_31 : decode cX0_useOnes 31 = .ok (.goto (-29), 3) := by decide +kernel
theorem dX0_useOnes_34 : decode cX0_useOnes 34 = .ok (.return_, 1) := by decide +kernel
theorem dX0_canUse_0 : decode cX0_canUse 0 = .ok (.iload_n 1, 1) := by decide +kernel
theorem dX0_canUse_1 : decode cX0_canUse 1 = .ok (.invokestatic 30, 3) := by decide +kernel
theorem dX0_canUse_4 : decode cX0_canUse 4 = .ok (.ifCond .eq 5, 3) := by decide +kernel
theorem dX0_canUse_7 : decode cX0_canUse 7 = .ok (.iconst 0, 1) := by decide +kernel
theorem dX0_canUse_8 : decode cX0_canUse 8 = .ok (.ireturn, 1) := by decide +kernel
theorem dX0_canUse_9 : decode cX0_canUse 9 = .ok (.aload_n 0, 1) := by decide +kernel
theorem dX0_canUse_10 : decode cX0_canUse 10 = .ok (.invokevirtual 69, 3) := by decide +kernel
theorem dX0_canUse_13 : decode cX0_canUse 13 = .ok (.aload_n 0, 1) := by decide +kernel
theorem dX0_canUse_14 : decode cX0_canUse 14 = .ok (.iload_n 1, 1) := by decide +kernel
theorem dX0_canUse_15 : decode cX0_canUse 15 = .ok (.invokevirtual 66, 3) := by decide +kernel
theorem dX0_canUse_18 : decode cX0_canUse 18 = .ok (.istore_n 2, 1) := by decide +kernel
theorem dX0_canUse_19 : decode cX0_canUse 19 = .ok (.iload_n 2, 1) := by decide +kernel
theorem dX0_canUse_20 : decode cX0_canUse 20 = .ok (.ifCond .le 7, 3) := by decide +kernel
theorem dX0_canUse_23 : decode cX0_canUse 23 = .ok (.iconst 1, 1) := by decide +kernel
theorem dX0_canUse_24 : decode cX0_canUse 24 = .ok (.goto 4, 3) := by decide +kernel
theorem dX0_canUse_27 : decode cX0_canUse 27 = .ok (.iconst 0, 1) := by decide +kernel
theorem dX0_canUse_28 : decode cX0_canUse 28 = .ok (.ireturn, 1) := by decide +kernel
theorem dX0_settled_0 : decode cX0_settled 0 = .ok (.aload_n 0, 1) := by decide +kernel
theorem dX0_settled_1 : decode cX0_settled 1 = .ok (.invokevirtual 69, 3) := by decide +kernel
theorem dX0_settled_4 : decode cX0_settled 4 = .ok (.aload_n 0, 1) := by decide +kernel
theorem dX0_settled_5 : decode cX0_settled 5 = .ok (.invokevirtual 56, 3) := by decide +kernel
theorem dX0_settled_8 : decode cX0_settled 8 = .ok (.istore_n 1, 1) := by decide +kernel
theorem dX0_settled_9 : decode cX0_settled 9 = .ok (.iload_n 1, 1) := by decide +kernel
theorem dX0_settled_10 : decode cX0_settled 10 = .ok (.ifCond .ne 6, 3) := by decide +kernel
theorem dX0_settled_13 : decode cX0_settled 13 = .ok (.bipush 24, 2) := by decide +kernel
theorem dX0_settled_15 : decode cX0_settled 15 = .ok (.ireturn, 1) := by decide +kernel
theorem dX0_settled_16 : decode cX0_settled 16 = .ok (.iconst 0, 1) := by decide +kernel
theorem dX0_settled_17 : decode cX0_settled 17 = .ok (.istore_n 2, 1) := by decide +kernel
theorem dX0_settled_18 : decode cX0_settled 18 = .ok (.iconst 0, 1) := by decide +kernel
theorem dX0_settled_19 : decode cX0_settled 19 = .ok (.istore_n 3, 1) := by decide +kernel
theorem dX0_settled_20 : decode cX0_settled 20 = .ok (.iload_n 3, 1) := by decide +kernel
theorem dX0_settled_21 : decode cX0_settled 21 = .ok (.bipush 24, 2) := by decide +kernel
theorem dX0_settled_23 : decode cX0_settled 23 = .ok (.if_icmp .ge 24, 3) := by decide +kernel
theorem dX0_settled_26 : decode cX0_settled 26 = .ok (.aload_n 0, 1) := by decide +kernel
theorem dX0_settled_27 : decode cX0_settled 27 = .ok (.iload_n 3, 1) := by decide +kernel
theorem dX0_settled_28 : decode cX0_settled 28 = .ok (.invokevirtual 60, 3) := by decide +kernel
theorem dX0_settled_31 : decode cX0_settled 31 = .ok (.istore 4, 2) := by decide +kernel
theorem dX0_settled_33 : decode cX0_settled 33 = .ok (.iload 4, 2) := by decide +kernel
theorem dX0_settled_35 : decode cX0_settled 35 = .ok (.ifCond .ne 6, 3) := by decide +kernel
theorem dX0_settled_38 : decode cX0_settled 38 = .ok (.iinc 2 1, 3) := by decide +kernel
theorem dX0_settled_41 : decode cX0_settled 41 = .ok (.iinc 3 1, 3) := by decide +kernel
theorem dX0_settled_44 : decode cX0_settled 44 = .ok (.goto (-24), 3) := by decide +kernel
theorem dX0_settled_47 : decode cX0_settled 47 = .ok (.iload_n 2, 1) := by decide +kernel
theorem dX0_settled_48 : decode cX0_settled 48 = .ok (.ireturn, 1) := by decide +kernel
theorem dX0_acrossTotal_0 : decode cX0_acrossTotal 0 = .ok (.aload_n 0, 1) := by decide +kernel
theorem dX0_acrossTotal_1 : decode cX0_acrossTotal 1 = .ok (.invokevirtual 63, 3) := by decide +kernel
theorem dX0_acrossTotal_4 : decode cX0_acrossTotal 4 = .ok (.iconst 0, 1) := by decide +kernel
theorem dX0_acrossTotal_5 : decode cX0_acrossTotal 5 = .ok (.istore_n 1, 1) := by decide +kernel
theorem dX0_acrossTotal_6 : decode cX0_acrossTotal 6 = .ok (.iconst 0, 1) := by decide +kernel
theorem dX0_acrossTotal_7 : decode cX0_acrossTotal 7 = .ok (.istore_n 2, 1) := by decide +kernel
theorem dX0_acrossTotal_8 : decode cX0_acrossTotal 8 = .ok (.iload_n 2, 1) := by decide +kernel
theorem dX0_acrossTotal_9 : decode cX0_acrossTotal 9 = .ok (.bipush 12, 2) := by decide +kernel
theorem dX0_acrossTotal_11 : decode cX0_acrossTotal 11 = .ok (.if_icmp .ge 17, 3) := by decide +kernel
theorem dX0_acrossTotal_14 : decode cX0_acrossTotal 14 = .ok (.iload_n 1, 1) := by decide +kernel
theorem dX0_acrossTotal_15 : decode cX0_acrossTotal 15 = .ok (.aload_n 0, 1) := by decide +kernel
theorem dX0_acrossTotal_16 : decode cX0_acrossTotal 16 = .ok (.iload_n 2, 1) := by decide +kernel
theorem dX0_acrossTotal_17 : decode cX0_acrossTotal 17 = .ok (.invokevirtual 66, 3) := by decide +kernel
theorem dX0_acrossTotal_20 : decode cX0_acrossTotal 20 = .ok (.iadd, 1) := by decide +kernel
theorem dX0_acrossTotal_21 : decode cX0_acrossTotal 21 = .ok (.istore_n 1, 1) := by decide +kernel
theorem dX0_acrossTotal_22 : decode cX0_acrossTotal 22 = .ok (.iinc 2 1, 3) := by decide +kernel
theorem dX0_acrossTotal_25 : decode cX0_acrossTotal 25 = .ok (.goto (-17), 3) := by decide +kernel
theorem dX0_acrossTotal_28 : decode cX0_acrossTotal 28 = .ok (.iload_n 1, 1) := by decide +kernel
theorem dX0_acrossTotal_29 : decode cX0_acrossTotal 29 = .ok (.ireturn, 1) := by decide +kernel
end
section
set_option maxRecDepth 100000
theorem dX1_init_0 : decode cX1_init 0 = .ok (.aload_n 0, 1) := by decide +kernel
theorem dX1_init_1 : decode cX1_init 1 = .ok (.invokespecial 1, 3) := by decide +kernel
theorem dX1_init_4 : decode cX1_init 4 = .ok (.aload_n 0, 1) := by decide +kernel
theorem dX1_init_5 : decode cX1_init 5 = .ok (.bipush 24, 2) := by decide +kernel
theorem dX1_init_7 : decode cX1_init 7 = .ok (.newarray .int, 2) := by decide +kernel
theorem dX1_init_9 : decode cX1_init 9 = .ok (.putfield 7, 3) := by decide +kernel
theorem dX1_init_12 : decode cX1_init 12 = .ok (.aload_n 0, 1) := by decide +kernel
theorem dX1_init_13 : decode cX1_init 13 = .ok (.bipush 24, 2) := by decide +kernel
theorem dX1_init_15 : decode cX1_init 15 = .ok (.newarray .int, 2) := by decide +kernel
theorem dX1_init_17 : decode cX1_init 17 = .ok (.putfield 13, 3) := by decide +kernel
theorem dX1_init_20 : decode cX1_init 20 = .ok (.iconst 0, 1) := by decide +kernel
theorem dX1_init_21 : decode cX1_init 21 = .ok (.istore_n 1, 1) := by decide +kernel
theorem dX1_init_22 : decode cX1_init 22 = .ok (.iload_n 1, 1) := by decide +kernel
theorem dX1_init_23 : decode cX1_init 23 = .ok (.bipush 24, 2) := by decide +kernel
theorem dX1_init_25 : decode cX1_init 25 = .ok (.if_icmp .ge 16, 3) := by decide +kernel
theorem dX1_init_28 : decode cX1_init 28 = .ok (.aload_n 0, 1) := by decide +kernel
theorem dX1_init_29 : decode cX1_init 29 = .ok (.getfield 7, 3) := by decide +kernel
theorem dX1_init_32 : decode cX1_init 32 = .ok (.iload_n 1, 1) := by decide +kernel
theorem dX1_init_33 : decode cX1_init 33 = .ok (.iconst 1, 1) := by decide +kernel
theorem dX1_init_34 : decode cX1_init 34 = .ok (.iastore, 1) := by decide +kernel
theorem dX1_init_35 : decode cX1_init 35 = .ok (.iinc 1 1, 3) := by decide +kernel
theorem dX1_init_38 : decode cX1_init 38 = .ok (.goto (-16), 3) := by decide +kernel
theorem dX1_init_41 : decode cX1_init 41 = .ok (.return_, 1) := by decide +kernel
theorem dX1_weight_0 : decode cX1_weight 0 = .ok (.aload_n 0, 1) := by decide +kernel
theorem dX1_weight_1 : decode cX1_weight 1 = .ok (.iload_n 1, 1) := by decide +kernel
theorem dX1_weight_2 : decode cX1_weight 2 = .ok (.invokevirtual 16, 3) := by decide +kernel
theorem dX1_weight_5 : decode cX1_weight 5 = .ok (.ifCond .eq 5, 3) := by decide +kernel
theorem dX1_weight_8 : decode cX1_weight 8 = .ok (.iconst (-1), 1) := by decide +kernel
theorem dX1_weight_9 : decode cX1_weight 9 = .ok (.ireturn, 1) := by decide +kernel
theorem dX1_weight_10 : decode cX1_weight 10 = .ok (.iload_n 2, 1) := by decide +kernel
theorem dX1_weight_11 : decode cX1_weight 11 = .ok (.ifCond .lt 8, 3) := by decide +kernel
theorem dX1_weight_14 : decode cX1_weight 14 = .ok (.iload_n 2, 1) := by decide +kernel
theorem dX1_weight_15 : decode cX1_weight 15 = .ok (.iconst 4, 1) := by decide +kernel
theorem dX1_weight_16 : decode cX1_weight 16 = .ok (.if_icmp .le 6, 3) := by decide +kernel
theorem dX1_weight_19 : decode cX1_weight 19 = .ok (.bipush (-2), 2) := by decide +kernel
theorem dX1_weight_21 : decode cX1_weight 21 = .ok (.ireturn, 1) := by decide +kernel
theorem dX1_weight_22 : decode cX1_weight 22 = .ok (.aload_n 0, 1) := by decide +kernel
theorem dX1_weight_23 : decode cX1_weight 23 = .ok (.getfield 7, 3) := by decide +kernel
theorem dX1_weight_26 : decode cX1_weight 26 = .ok (.iload_n 1, 1) := by decide +kernel
theorem dX1_weight_27 : decode cX1_weight 27 = .ok (.iaload, 1) := by decide +kernel
theorem dX1_weight_28 : decode cX1_weight 28 = .ok (.istore_n 3, 1) := by decide +kernel
theorem dX1_weight_29 : decode cX1_weight 29 = .ok (.aload_n 0, 1) := by decide +kernel
theorem dX1_weight_30 : decode cX1_weight 30 = .ok (.getfield 7, 3) := by decide +kernel
theorem dX1_weight_33 : decode cX1_weight 33 = .ok (.iload_n 1, 1) := by decide +kernel
theorem dX1_weight_34 : decode cX1_weight 34 = .ok (.iload_n 2, 1) := by decide +kernel
theorem dX1_weight_35 : decode cX1_weight 35 = .ok (.iastore, 1) := by decide +kernel
theorem dX1_weight_36 : decode cX1_weight 36 = .ok (.iload_n 3, 1) := by decide +kernel
theorem dX1_weight_37 : decode cX1_weight 37 = .ok (.ireturn, 1) := by decide +kernel
theorem dX1_bad_0 : decode cX1_bad 0 = .ok (.iload_n 1, 1) := by decide +kernel
theorem dX1_bad_1 : decode cX1_bad 1 = .ok (.ifCond .lt 9, 3) := by decide +kernel
theorem dX1_bad_4 : decode cX1_bad 4 = .ok (.iload_n 1, 1) := by decide +kernel
theorem dX1_bad_5 : decode cX1_bad 5 = .ok (.bipush 23, 2) := by decide +kernel
theorem dX1_bad_7 : decode cX1_bad 7 = .ok (.if_icmp .le 7, 3) := by decide +kernel
theorem dX1_bad_10 : decode cX1_bad 10 = .ok (.iconst 1, 1) := by decide +kernel
theorem dX1_bad_11 : decode cX1_bad 11 = .ok (.goto 4, 3) := by decide +kernel
theorem dX1_bad_14 : decode cX1_bad 14 = .ok (.iconst 0, 1) := by decide +kernel
theorem dX1_bad_15 : decode cX1_bad 15 = .ok (.ireturn, 1) := by decide +kernel
theorem dX1_all_0 : decode cX1_all 0 = .ok (.iload_n 1, 1) := by decide +kernel
theorem dX1_all_1 : decode cX1_all 1 = .ok (.ifCond .lt 8, 3) := by decide +kernel
theorem dX1_all_4 : decode cX1_all 4 = .ok (.iload_n 1, 1) := by decide +kernel
theorem dX1_all_5 : decode cX1_all 5 = .ok (.iconst 4, 1) := by decide +kernel
theorem dX1_all_6 : decode cX1_all 6 = .ok (.if_icmp .le 6, 3) := by decide +kernel
theorem dX1_all_9 : decode cX1_all 9 = .ok (.bipush (-2), 2) := by decide +kernel
theorem dX1_all_11 : decode cX1_all 11 = .ok (.ireturn, 1) := by decide +kernel
theorem dX1_all_12 : decode cX1_all 12 = .ok (.iconst 0, 1) := by decide +kernel
theorem dX1_all_13 : decode cX1_all 13 = .ok (.istore_n 2, 1) := by decide +kernel
theorem dX1_all_14 : decode cX1_all 14 = .ok (.iload_n 2, 1) := by decide +kernel
theorem dX1_all_15 : decode cX1_all 15 = .ok (.bipush 24, 2) := by decide +kernel
theorem dX1_all_17 : decode cX1_all 17 = .ok (.if_icmp .ge 16, 3) := by decide +kernel
theorem dX1_all_20 : decode cX1_all 20 = .ok (.aload_n 0, 1) := by decide +kernel
theorem dX1_all_21 : decode cX1_all 21 = .ok (.getfield 7, 3) := by decide +kernel
theorem dX1_all_24 : decode cX1_all 24 = .ok (.iload_n 2, 1) := by decide +kernel
theorem dX1_all_25 : decode cX1_all 25 = .ok (.iload_n 1, 1) := by decide +kernel
theorem dX1_all_26 : decode cX1_all 26 = .ok (.iastore, 1) := by decide +kernel
theorem dX1_all_27 : decode cX1_all 27 = .ok (.iinc 2 1, 3) := by decide +kernel
theorem dX1_all_30 : decode cX1_all 30 = .ok (.goto (-16), 3) := by decide +kernel
theorem dX1_all_33 : decode cX1_all 33 = .ok (.iconst 0, 1) := by decide +kernel
theorem dX1_all_34 : decode cX1_all 34 = .ok (.ireturn, 1) := by decide +kernel
theorem dX1_turn_0 : decode cX1_turn 0 = .ok (.iconst 0, 1) := by decide +kernel
theorem dX1_turn_1 : decode cX1_turn 1 = .ok (.istore_n 1, 1) := by decide +kernel
theorem dX1_turn_2 : decode cX1_turn 2 = .ok (.iload_n 1, 1) := by decide +kernel
theorem dX1_turn_3 : decode cX1_turn 3 = .ok (.bipush 24, 2) := by decide +kernel
theorem dX1_turn_5 : decode cX1_turn 5 = .ok (.if_icmp .ge 21, 3) := by decide +kernel
theorem dX1_turn_8 : decode cX1_turn 8 = .ok (.aload_n 0, 1) := by decide +kernel
theorem dX1_turn_9 : decode cX1_turn 9 = .ok (.getfield 13, 3) := by decide +kernel
theorem dX1_turn_12 : decode cX1_turn 12 = .ok (.iload_n 1, 1) := by decide +kernel
theorem dX1_turn_13 : decode cX1_turn 13 = .ok (.aload_n 0, 1) := by decide +kernel
theorem dX1_turn_14 : decode cX1_turn 14 = .ok (.getfield 7, 3) := by decide +kernel
theorem dX1_turn_17 : decode cX1_turn 17 = .ok (.iload_n 1, 1) := by decide +kernel
theorem dX1_turn_18 : decode cX1_turn 18 = .ok (.iaload, 1) := by decide +kernel
theorem dX1_turn_19 : decode cX1_turn 19 = .ok (.iastore, 1) := by decide +kernel
theorem dX1_turn_20 : decode cX1_turn 20 = .ok (.iinc 1 1, 3) := by decide +kernel
theorem dX1_turn_23 : decode cX1_turn 23 = .ok (.goto (-21), 3) := by decide +kernel
theorem dX1_turn_26 : decode cX1_turn 26 = .ok (.iconst 0, 1) := by decide +kernel
theorem dX1_turn_27 : decode cX1_turn 27 = .ok (.istore_n 1, 1) := by decide +kernel
theorem dX1_turn_28 : decode cX1_turn 28 = .ok (.iload_n 1, 1) := by decide +kernel
theorem dX1_turn_29 : decode cX1_turn 29 = .ok (.bipush 24, 2) := by decide +kernel
theorem dX1_turn_31 : decode cX1_turn 31 = .ok (.if_icmp .ge 71, 3) := by decide +kernel
theorem dX1_turn_34 : decode cX1_turn 34 = .ok (.iload_n 1, 1) := by decide +kernel
theorem dX1_turn_35 : decode cX1_turn 35 = .ok (.bipush 12, 2) := by decide +kernel
theorem dX1_turn_37 : decode cX1_turn 37 = .ok (.if_icmp .ge 31, 3) := by decide +kernel
theorem dX1_turn_40 : decode cX1_turn 40 = .ok (.aload_n 0, 1) := by decide +kernel
theorem dX1_turn_41 : decode cX1_turn 41 = .ok (.getfield 7, 3) := by decide +kernel
theorem dX1_turn_44 : decode cX1_turn 44 = .ok (.bipush 12, 2) := by decide +kernel
theorem dX1_turn_46 : decode cX1_turn 46 = .ok (.iload_n 1, 1) := by decide +kernel
theorem dX1_turn_47 : decode cX1_turn 47 = .ok (.iconst 3, 1) := by decide +kernel
theorem dX1_turn_48 : decode cX1_turn 48 = .ok (.irem, 1) := by decide +kernel
theorem dX1_turn_49 : decode cX1_turn 49 = .ok (.iconst 4, 1) := by decide +kernel
theorem dX1_turn_50 : decode cX1_turn 50 = .ok (.imul, 1) := by decide +kernel
theorem dX1_turn_51 : decode cX1_turn 51 = .ok (.iadd, 1) := by decide +kernel
theorem dX1_turn_52 : decode cX1_turn 52 = .ok (.iconst 3, 1) := by decide +kernel
theorem dX1_turn_53 : decode cX1_turn 53 = .ok (.iadd, 1) := by decide +kernel
theorem dX1_turn_54 : decode cX1_turn 54 = .ok (.iload_n 1, 1) := by decide +kernel
theorem dX1_turn_55 : decode cX1_turn 55 = .ok (.iconst 3, 1) := by decide +kernel
theorem dX1_turn_56 : decode cX1_turn 56 = .ok (.idiv, 1) := by decide +kernel
theorem dX1_turn_57 : decode cX1_turn 57 = .ok (.isub, 1) := by decide +kernel
theorem dX1_turn_58 : decode cX1_turn 58 = .ok (.aload_n 0, 1) := by decide +kernel
theorem dX1_turn_59 : decode cX1_turn 59 = .ok (.getfield 13, 3) := by decide +kernel
theorem dX1_turn_62 : decode cX1_turn 62 = .ok (.iload_n 1, 1) := by decide +kernel
theorem dX1_turn_63 : decode cX1_turn 63 = .ok (.iaload, 1) := by decide +kernel
theorem dX1_turn_64 : decode cX1_turn 64 = .ok (.iastore, 1) := by decide +kernel
theorem dX1_turn_65 : decode cX1_turn 65 = .ok (.goto 31, 3) := by decide +kernel
theorem dX1_turn_68 : decode cX1_turn 68 = .ok (.aload_n 0, 1) := by decide +kernel
theorem dX1_turn_69 : decode cX1_turn 69 = .ok (.getfield 7, 3) := by decide +kernel
theorem dX1_turn_72 : decode cX1_turn 72 = .ok (.iload_n 1, 1) := by decide +kernel
theorem dX1_turn_73 : decode cX1_turn 73 = .ok (.bipush 12, 2) := by decide +kernel
theorem dX1_turn_75 : decode cX1_turn 75 = .ok (.isub, 1) := by decide +kernel
theorem dX1_turn_76 : decode cX1_turn 76 = .ok (.iconst 4, 1) := by decide +kernel
theorem dX1_turn_77 : decode cX1_turn 77 = .ok (.irem, 1) := by decide +kernel
theorem dX1_turn_78 : decode cX1_turn 78 = .ok (.iconst 3, 1) := by decide +kernel
theorem dX1_turn_79 : decode cX1_turn 79 = .ok (.imul, 1) := by decide +kernel
theorem dX1_turn_80 : decode cX1_turn 80 = .ok (.iconst 2, 1) := by decide +kernel
theorem dX1_turn_81 : decode cX1_turn 81 = .ok (.iadd, 1) := by decide +kernel
theorem dX1_turn_82 : decode cX1_turn 82 = .ok (.iload_n 1, 1) := by decide +kernel
theorem dX1_turn_83 : decode cX1_turn 83 = .ok (.bipush 12, 2) := by decide +kernel
theorem dX1_turn_85 : decode cX1_turn 85 = .ok (.isub, 1) := by decide +kernel
theorem dX1_turn_86 : decode cX1_turn 86 = .ok (.iconst 4, 1) := by decide +kernel
theorem dX1_turn_87 : decode cX1_turn 87 = .ok (.idiv, 1) := by decide +kernel
theorem dX1_turn_88 : decode cX1_turn 88 = .ok (.isub, 1) := by decide +kernel
theorem dX1_turn_89 : decode cX1_turn 89 = .ok (.aload_n 0, 1) := by decide +kernel
theorem dX1_turn_90 : decode cX1_turn 90 = .ok (.getfield 13, 3) := by decide +kernel
theorem dX1_turn_93 : decode cX1_turn 93 = .ok (.iload_n 1, 1) := by decide +kernel
theorem dX1_turn_94 : decode cX1_turn 94 = .ok (.iaload, 1) := by decide +kernel
theorem dX1_turn_95 : decode cX1_turn 95 = .ok (.iastore, 1) := by decide +kernel
theorem dX1_turn_96 : decode cX1_turn 96 = .ok (.iinc 1 1, 3) := by decide +kernel
theorem dX1_turn_99 : decode cX1_turn 99 = .ok (.goto (-71), 3) := by decide +kernel
theorem dX1_turn_102 : decode cX1_turn 102 = .ok (.return_, 1) := by decide +kernel
theorem dX1_force_0 : decode cX1_force 0 = .ok (.aload_n 0, 1) := by decide +kernel
theorem dX1_force_1 : decode cX1_force 1 = .ok (.iload_n 2, 1) := by decide +kernel
theorem dX1_force_2 : decode cX1_force 2 = .ok (.invokevirtual 16, 3) := by decide +kernel
theorem dX1_force_5 : decode cX1_force 5 = .ok (.ifCond .ne 22, 3) := by decide +kernel
theorem dX1_force_8 : decode cX1_force 8 = .ok (.iload_n 1, 1) := by decide +kernel
theorem dX1_force_9 : decode cX1_force 9 = .ok (.ifCond .lt 18, 3) := by decide +kernel
theorem dX1_force_12 : decode cX1_force 12 = .ok (.iload_n 1, 1) := by decide +kernel
theorem dX1_force_13 : decode cX1_force 13 = .ok (.bipush 15, 2) := by decide +kernel
theorem dX1_force_15 : decode cX1_force 15 = .ok (.if_icmp .gt 12, 3) := by decide +kernel
theorem dX1_force_18 : decode cX1_force 18 = .ok (.aload_n 0, 1) := by decide +kernel
theorem dX1_force_19 : decode cX1_force 19 = .ok (.iload_n 2, 1) := by decide +kernel
theorem dX1_force_20 : decode cX1_force 20 = .ok (.iload_n 1, 1) := by decide +kernel
theorem dX1_force_21 : decode cX1_force 21 = .ok (.invokevirtual 24, 3) := by decide +kernel
theorem dX1_force_24 : decode cX1_force 24 = .ok (.ifCond .ne 5, 3) := by decide +kernel
theorem dX1_force_27 : decode cX1_force 27 = .ok (.iconst (-1), 1) := by decide +kernel
theorem dX1_force_28 : decode cX1_force 28 = .ok (.ireturn, 1) := by decide +kernel
theorem dX1_force_29 : decode cX1_force 29 = .ok (.iconst 0, 1) := by decide +kernel
theorem dX1_force_30 : decode cX1_force 30 = .ok (.istore_n 3, 1) := by decide +kernel
theorem dX1_force_31 : decode cX1_force 31 = .ok (.iconst 0, 1) := by decide +kernel
theorem dX1_force_32 : decode cX1_force 32 = .ok (.istore 4, 2) := by decide +kernel
theorem dX1_force_34 : decode cX1_force 34 = .ok (.iload 4, 2) := by decide +kernel
theorem dX1_force_36 : decode cX1_force 36 = .ok (.bipush 24, 2) := by decide +kernel
theorem dX1_force_38 : decode cX1_force 38 = .ok (.if_icmp .ge 46, 3) := by decide +kernel
theorem dX1_force_41 : decode cX1_force 41 = .ok (.iload 4, 2) := by decide +kernel
theorem dX1_force_43 : decode cX1_force 43 = .ok (.iload_n 2, 1) := by decide +kernel
theorem dX1_force_44 : decode cX1_force 44 = .ok (.if_icmp .eq 34, 3) := by decide +kernel
theorem dX1_force_47 : decode cX1_force 47 = .ok (.aload_n 0, 1) := by decide +kernel
theorem dX1_force_48 : decode cX1_force 48 = .ok (.iload 4, 2) := by decide +kernel
theorem dX1_force_50 : decode cX1_force 50 = .ok (.iload_n 1, 1) := by decide +kernel
theorem dX1_force_51 : decode cX1_force 51 = .ok (.invokevirtual 24, 3) := by decide +kernel
theorem dX1_force_54 : decode cX1_force 54 = .ok (.ifCond .eq 24, 3) := by decide +kernel
theorem dX1_force_57 : decode cX1_force 57 = .ok (.aload_n 0, 1) := by decide +kernel
theorem dX1_force_58 : decode cX1_force 58 = .ok (.getfield 7, 3) := by decide +kernel
theorem dX1_force_61 : decode cX1_force 61 = .ok (.iload 4, 2) := by decide +kernel
theorem dX1_force_63 : decode cX1_force 63 = .ok (.iaload, 1) := by decide +kernel
theorem dX1_force_64 : decode cX1_force 64 = .ok (.ifCond .eq 14, 3) := by decide +kernel
theorem dX1_force_67 : decode cX1_force 67 = .ok (.aload_n 0, 1) := by decide +kernel
theorem dX1_force_68 : decode cX1_force 68 = .ok (.getfield 7, 3) := by decide +kernel
theorem dX1_force_71 : decode cX1_force 71 = .ok (.iload 4, 2) := by decide +kernel
theorem dX1_force_73 : decode cX1_force 73 = .ok (.iconst 0, 1) := by decide +kernel
theorem dX1_force_74 : decode cX1_force 74 = .ok (.iastore, 1) := by decide +kernel
theorem dX1_force_75 : decode cX1_force 75 = .ok (.iinc 3 1, 3) := by decide +kernel
theorem dX1_force_78 : decode cX1_force 78 = .ok (.iinc 4 1, 3) := by decide +kernel
theorem dX1_force_81 : decode cX1_force 81 = .ok (.goto (-47), 3) := by decide +kernel
theorem dX1_force_84 : decode cX1_force 84 = .ok (.iload_n 3, 1) := by decide +kernel
theorem dX1_force_85 : decode cX1_force 85 = .ok (.ireturn, 1) := by decide +kernel
theorem dX1_covers_0 : decode cX1_covers 0 = .ok (.aload_n 0, 1) := by decide +kernel
theorem dX1_covers_1 : decode cX1_covers 1 = .ok (.iload_n 1, 1) := by decide +kernel
theorem dX1_covers_2 : decode cX1_covers 2 = .ok (.invokevirtual 20, 3) := by decide +kernel
theorem dX1_covers_5 : decode cX1_covers 5 = .ok (.istore_n 3, 1) := by decide +kernel
theorem dX1_covers_6 : decode cX1_covers 6 = .ok (.iload_n 2, 1) := by decide +kernel
theorem dX1_covers_7 : decode cX1_covers 7 = .ok (.iload_n 3, 1) := by decide +kernel
theorem dX1_covers_8 : decode cX1_covers 8 = .ok (.if_icmp .eq 20, 3) := by decide +kernel
theorem dX1_covers_11 : decode cX1_covers 11 = .ok (.iload_n 2, 1) := by decide +kernel
theorem dX1_covers_12 : decode cX1_covers 12 = .ok (.iload_n 3, 1) := by decide +kernel
theorem dX1_covers_13 : decode cX1_covers 13 = .ok (.iload_n 1, 1) := by decide +kernel
theorem dX1_covers_14 : decode cX1_covers 14 = .ok (.bipush 12, 2) := by decide +kernel
theorem dX1_covers_16 : decode cX1_covers 16 = .ok (.if_icmp .ge 7, 3) := by decide +kernel
theorem dX1_covers_19 : decode cX1_covers 19 = .ok (.iconst 1, 1) := by decide +kernel
theorem dX1_covers_20 : decode cX1_covers 20 = .ok (.goto 4, 3) := by decide +kernel
theorem dX1_covers_23 : decode cX1_covers 23 = .ok (.iconst 4, 1) := by decide +kernel
theorem dX1_covers_24 : decode cX1_covers 24 = .ok (.iadd, 1) := by decide +kernel
theorem dX1_covers_25 : decode cX1_covers 25 = .ok (.if_icmp .ne 7, 3) := by decide +kernel
theorem dX1_covers_28 : decode cX1_covers 28 = .ok (.iconst 1, 1) := by decide +kernel
theorem dX1_covers_29 : decode cX1_covers 29 = .ok (.goto 4, 3) := by decide +kernel
theorem dX1_covers_32 : decode cX1_covers 32 = .ok (.iconst 0, 1) := by decide +kernel
theorem dX1_covers_33 : decode cX1_covers 33 = .ok (.ireturn, 1) := by decide +kernel
theorem dX1_first_0 : decode cX1_first 0 = .ok (.iload_n 1, 1) := by decide +kernel
theorem dX1_first_1 : decode cX1_first 1 = .ok (.bipush 12, 2) := by decide +kernel
theorem dX1_first_3 : decode cX1_first 3 = .ok (.if_icmp .ge 15, 3) := by decide +kernel
theorem dX1_first_6 : decode cX1_first 6 = .ok (.iload_n 1, 1) := by decide +kernel
theorem dX1_first_7 : decode cX1_first 7 = .ok (.iconst 3, 1) := by decide +kernel
theorem dX1_first_8 : decode cX1_first 8 = .ok (.idiv, 1) := by decide +kernel
theorem dX1_first_9 : decode cX1_first 9 = .ok (.iconst 4, 1) := by decide +kernel
theorem dX1_first_10 : decode cX1_first 10 = .ok (.imul, 1) := by decide +kernel
theorem dX1_first_11 : decode cX1_first 11 = .ok (.iload_n 1, 1) := by decide +kernel
theorem dX1_first_12 : decode cX1_first 12 = .ok (.iconst 3, 1) := by decide +kernel
theorem dX1_first_13 : decode cX1_first 13 = .ok (.irem, 1) := by decide +kernel
theorem dX1_first_14 : decode cX1_first 14 = .ok (.iadd, 1) := by decide +kernel
theorem dX1_first_15 : decode cX1_first 15 = .ok (.goto 7, 3) := by decide +kernel
theorem dX1_first_18 : decode cX1_first 18 = .ok (.iload_n 1, 1) := by decide +kernel
theorem dX1_first_19 : decode cX1_first 19 = .ok (.bipush 12, 2) := by decide +kernel
theorem dX1_first_21 : decode cX1_first 21 = .ok (.isub, 1) := by decide +kernel
theorem dX1_first_22 : decode cX1_first 22 = .ok (.ireturn, 1) := by decide +kernel
theorem dX1_weightOf_0 : decode cX1_weightOf 0 = .ok (.aload_n 0, 1) := by decide +kernel
theorem dX1_weightOf_1 : decode cX1_weightOf 1 = .ok (.iload_n 1, 1) := by decide +kernel
theorem dX1_weightOf_2 : decode cX1_weightOf 2 = .ok (.invokevirtual 16, 3) := by decide +kernel
theorem dX1_weightOf_5 : decode cX1_weightOf 5 = .ok (.ifCond .eq 7, 3) := by decide +kernel
theorem dX1_weightOf_8 : decode cX1_weightOf 8 = .ok (.iconst (-1), 1) := by decide +kernel
theorem dX1_weightOf_9 : decode cX1_weightOf 9 = .ok (.goto 9, 3) := by decide +kernel
theorem dX1_weightOf_12 : decode cX1_weightOf 12 = .ok (.aload_n 0, 1) := by decide +kernel
theorem dX1_weightOf_13 : decode cX1_weightOf 13 = .ok (.getfield 7, 3) := by decide +kernel
theorem dX1_weightOf_16 : decode cX1_weightOf 16 = .ok (.iload_n 1, 1) := by decide +kernel
theorem dX1_weightOf_17 : decode cX1_weightOf 17 = .ok (.iaload, 1) := by decide +kernel
theorem dX1_weightOf_18 : decode cX1_weightOf 18 = .ok (.ireturn, 1) := by decide +kernel
theorem dX1_total_0 : decode cX1_total 0 = .ok (.aload_n 0, 1) := by decide +kernel
theorem dX1_total_1 : decode cX1_total 1 = .ok (.iconst 0, 1) := by decide +kernel
theorem dX1_total_2 : decode cX1_total 2 = .ok (.invokevirtual 37, 3) := by decide +kernel
theorem dX1_total_5 : decode cX1_total 5 = .ok (.ireturn, 1) := by decide +kernel
theorem dX1_sumWith_0 : decode cX1_sumWith 0 = .ok (.iconst 0, 1) := by decide +kernel
theorem dX1_sumWith_1 : decode cX1_sumWith 1 = .ok (.istore_n 2, 1) := by decide +kernel
theorem dX1_sumWith_2 : decode cX1_sumWith 2 = .ok (.iconst 0, 1) := by decide +kernel
theorem dX1_sumWith_3 : decode cX1_sumWith 3 = .ok (.istore_n 3, 1) := by decide +kernel
theorem dX1_sumWith_4 : decode cX1_sumWith 4 = .ok (.iload_n 3, 1) := by decide +kernel
theorem dX1_sumWith_5 : decode cX1_sumWith 5 = .ok (.sipush 256, 3) := by decide +kernel
theorem dX1_sumWith_8 : decode cX1_sumWith 8 = .ok (.if_icmp .ge 37, 3) := by decide +kernel
theorem dX1_sumWith_11 : decode cX1_sumWith 11 = .ok (.aload_n 0, 1) := by decide +kernel
theorem dX1_sumWith_12 : decode cX1_sumWith 12 = .ok (.iload_n 3, 1) := by decide +kernel
theorem dX1_sumWith_13 : decode cX1_sumWith 13 = .ok (.invokevirtual 31, 3) := by decide +kernel
theorem dX1_sumWith_16 : decode cX1_sumWith 16 = .ok (.istore 4, 2) := by decide +kernel
theorem dX1_sumWith_18 : decode cX1_sumWith 18 = .ok (.iload 4, 2) := by decide +kernel
theorem dX1_sumWith_20 : decode cX1_sumWith 20 = .ok (.iload_n 1, 1) := by decide +kernel
theorem dX1_sumWith_21 : decode cX1_sumWith 21 = .ok (.iand, 1) := by decide +kernel
theorem dX1_sumWith_22 : decode cX1_sumWith 22 = .ok (.iload_n 1, 1) := by decide +kernel
theorem dX1_sumWith_23 : decode cX1_sumWith 23 = .ok (.if_icmp .ne 16, 3) := by decide +kernel
theorem dX1_sumWith_26 : decode cX1_sumWith 26 = .ok (.aload_n 0, 1) := by decide +kernel
theorem dX1_sumWith_27 : decode cX1_sumWith 27 = .ok (.iload 4, 2) := by decide +kernel
theorem dX1_sumWith_29 : decode cX1_sumWith 29 = .ok (.invokevirtual 34, 3) := by decide +kernel
theorem dX1_sumWith_32 : decode cX1_sumWith 32 = .ok (.istore 5, 2) := by decide +kernel
theorem dX1_sumWith_34 : decode cX1_sumWith 34 = .ok (.iload_n 2, 1) := by decide +kernel
theorem dX1_sumWith_35 : decode cX1_sumWith 35 = .ok (.iload 5, 2) := by decide +kernel
theorem dX1_sumWith_37 : decode cX1_sumWith 37 = .ok (.iadd, 1) := by decide +kernel
theorem dX1_sumWith_38 : decode cX1_sumWith 38 = .ok (.istore_n 2, 1) := by decide +kernel
theorem dX1_sumWith_39 : decode cX1_sumWith 39 = .ok (.iinc 3 1, 3) := by decide +kernel
theorem dX1_sumWith_42 : decode cX1_sumWith 42 = .ok (.goto (-38), 3) := by decide +kernel
theorem dX1_sumWith_45 : decode cX1_sumWith 45 = .ok (.iload_n 2, 1) := by decide +kernel
theorem dX1_sumWith_46 : decode cX1_sumWith 46 = .ok (.ireturn, 1) := by decide +kernel
theorem dX1_tiling_0 : decode cX1_tiling 0 = .ok (.iconst 0, 1) := by decide +kernel
theorem dX1_tiling_1 : decode cX1_tiling 1 = .ok (.istore_n 2, 1) := by decide +kernel
theorem dX1_tiling_2 : decode cX1_tiling 2 = .ok (.iconst 0, 1) := by decide +kernel
theorem dX1_tiling_3 : decode cX1_tiling 3 = .ok (.istore_n 3, 1) := by decide +kernel
theorem dX1_tiling_4 : decode cX1_tiling 4 = .ok (.iconst 0, 1) := by decide +kernel
theorem dX1_tiling_5 : decode cX1_tiling 5 = .ok (.istore 4, 2) := by decide +kernel
theorem dX1_tiling_7 : decode cX1_tiling 7 = .ok (.iload 4, 2) := by decide +kernel
theorem dX1_tiling_9 : decode cX1_tiling 9 = .ok (.bipush 8, 2) := by decide +kernel
theorem dX1_tiling_11 : decode cX1_tiling 11 = .ok (.if_icmp .ge 124, 3) := by decide +kernel
theorem dX1_tiling_14 : decode cX1_tiling 14 = .ok (.aload_n 0, 1) := by decide +kernel
theorem dX1_tiling_15 : decode cX1_tiling 15 = .ok (.iload_n 2, 1) := by decide +kernel
theorem dX1_tiling_16 : decode cX1_tiling 16 = .ok (.invokevirtual 28, 3) := by decide +kernel
theorem dX1_tiling_19 : decode cX1_tiling 19 = .ok (.istore 5, 2) := by decide +kernel
theorem dX1_tiling_21 : decode cX1_tiling 21 = .ok (.iload_n 1, 1) := by decide +kernel
theorem dX1_tiling_22 : decode cX1_tiling 22 = .ok (.iload 4, 2) := by decide +kernel
theorem dX1_tiling_24 : decode cX1_tiling 24 = .ok (.ishr, 1) := by decide +kernel
theorem dX1_tiling_25 : decode cX1_tiling 25 = .ok (.iconst 1, 1) := by decide +kernel
theorem dX1_tiling_26 : decode cX1_tiling 26 = .ok (.iand, 1) := by decide +kernel
theorem dX1_tiling_27 : decode cX1_tiling 27 = .ok (.iconst 1, 1) := by decide +kernel
theorem dX1_tiling_28 : decode cX1_tiling 28 = .ok (.if_icmp .ne 7, 3) := by decide +kernel
theorem dX1_tiling_31 : decode cX1_tiling 31 = .ok (.iconst 1, 1) := by decide +kernel
theorem dX1_tiling_32 : decode cX1_tiling 32 = .ok (.goto 4, 3) := by decide +kernel
theorem dX1_tiling_35 : decode cX1_tiling 35 = .ok (.iconst 0, 1) := by decide +kernel
theorem dX1_tiling_36 : decode cX1_tiling 36 = .ok (.istore 6, 2) := by decide +kernel
theorem dX1_tiling_38 : decode cX1_tiling 38 = .ok (.iload 6, 2) := by decide +kernel
theorem dX1_tiling_40 : decode cX1_tiling 40 = .ok (.ifCond .eq 10, 3) := by decide +kernel
theorem dX1_tiling_43 : decode cX1_tiling 43 = .ok (.iload 5, 2) := by decide +kernel
theorem dX1_tiling_45 : decode cX1_tiling 45 = .ok (.iconst 4, 1) := by decide +kernel
theorem dX1_tiling_46 : decode cX1_tiling 46 = .ok (.iadd, 1) := by decide +kernel
theorem dX1_tiling_47 : decode cX1_tiling 47 = .ok (.goto 7, 3) := by decide +kernel
theorem dX1_tiling_50 : decode cX1_tiling 50 = .ok (.iload 5, 2) := by decide +kernel
theorem dX1_tiling_52 : decode cX1_tiling 52 = .ok (.iconst 1, 1) := by decide +kernel
theorem dX1_tiling_53 : decode cX1_tiling 53 = .ok (.iadd, 1) := by decide +kernel
theorem dX1_tiling_54 : decode cX1_tiling 54 = .ok (.istore 7, 2) := by decide +kernel
theorem dX1_tiling_56 : decode cX1_tiling 56 = .ok (.iload 7, 2) := by decide +kernel
theorem dX1_tiling_58 : decode cX1_tiling 58 = .ok (.bipush 15, 2) := by decide +kernel
theorem dX1_tiling_60 : decode cX1_tiling 60 = .ok (.if_icmp .gt 26, 3) := by decide +kernel
theorem dX1_tiling_63 : decode cX1_tiling 63 = .ok (.iload 6, 2) := by decide +kernel
theorem dX1_tiling_65 : decode cX1_tiling 65 = .ok (.ifCond .ne 11, 3) := by decide +kernel
theorem dX1_tiling_68 : decode cX1_tiling 68 = .ok (.iload 5, 2) := by decide +kernel
theorem dX1_tiling_70 : decode cX1_tiling 70 = .ok (.iconst 4, 1) := by decide +kernel
theorem dX1_tiling_71 : decode cX1_tiling 71 = .ok (.irem, 1) := by decide +kernel
theorem dX1_tiling_72 : decode cX1_tiling 72 = .ok (.iconst 3, 1) := by decide +kernel
theorem dX1_tiling_73 : decode cX1_tiling 73 = .ok (.if_icmp .eq 13, 3) := by decide +kernel
theorem dX1_tiling_76 : decode cX1_tiling 76 = .ok (.iload_n 2, 1) := by decide +kernel
theorem dX1_tiling_77 : decode cX1_tiling 77 = .ok (.iload 7, 2) := by decide +kernel
theorem dX1_tiling_79 : decode cX1_tiling 79 = .ok (.ishr, 1) := by decide +kernel
theorem dX1_tiling_80 : decode cX1_tiling 80 = .ok (.iconst 1, 1) := by decide +kernel
theorem dX1_tiling_81 : decode cX1_tiling 81 = .ok (.iand, 1) := by decide +kernel
theorem dX1_tiling_82 : decode cX1_tiling 82 = .ok (.iconst 1, 1) := by decide +kernel
theorem dX1_tiling_83 : decode cX1_tiling 83 = .ok (.if_icmp .ne 5, 3) := by decide +kernel
theorem dX1_tiling_86 : decode cX1_tiling 86 = .ok (.iconst 0, 1) := by decide +kernel
theorem dX1_tiling_87 : decode cX1_tiling 87 = .ok (.ireturn, 1) := by decide +kernel
theorem dX1_tiling_88 : decode cX1_tiling 88 = .ok (.iload_n 2, 1) := by decide +kernel
theorem dX1_tiling_89 : decode cX1_tiling 89 = .ok (.iconst 1, 1) := by decide +kernel
theorem dX1_tiling_90 : decode cX1_tiling 90 = .ok (.iload 5, 2) := by decide +kernel
theorem dX1_tiling_92 : decode cX1_tiling 92 = .ok (.ishl, 1) := by decide +kernel
theorem dX1_tiling_93 : decode cX1_tiling 93 = .ok (.ior, 1) := by decide +kernel
theorem dX1_tiling_94 : decode cX1_tiling 94 = .ok (.iconst 1, 1) := by decide +kernel
theorem dX1_tiling_95 : decode cX1_tiling 95 = .ok (.iload 7, 2) := by decide +kernel
theorem dX1_tiling_97 : decode cX1_tiling 97 = .ok (.ishl, 1) := by decide +kernel
theorem dX1_tiling_98 : decode cX1_tiling 98 = .ok (.ior, 1) := by decide +kernel
theorem dX1_tiling_99 : decode cX1_tiling 99 = .ok (.istore_n 2, 1) := by decide +kernel
theorem dX1_tiling_100 : decode cX1_tiling 100 = .ok (.iload_n 3, 1) := by decide +kernel
theorem dX1_tiling_101 : decode cX1_tiling 101 = .ok (.iconst 1, 1) := by decide +kernel
theorem dX1_tiling_102 : decode cX1_tiling 102 = .ok (.iload 6, 2) := by decide +kernel
theorem dX1_tiling_104 : decode cX1_tiling 104 = .ok (.ifCond .eq 11, 3) := by decide +kernel
theorem dX1_tiling_107 : decode cX1_tiling 107 = .ok (.bipush 12, 2) := by decide +kernel
theorem dX1_tiling_109 : decode cX1_tiling 109 = .ok (.iload 5, 2) := by decide +kernel
theorem dX1_tiling_111 : decode cX1_tiling 111 = .ok (.iadd, 1) := by decide +kernel
theorem dX1_tiling_112 : decode cX1_tiling 112 = .ok (.goto 14, 3) := by decide +kernel
theorem dX1_tiling_115 : decode cX1_tiling 115 = .ok (.iload 5, 2) := by decide +kernel
theorem dX1_tiling_117 : decode cX1_tiling 117 = .ok (.iconst 4, 1) := by decide +kernel
theorem dX1_tiling_118 : decode cX1_tiling 118 = .ok (.idiv, 1) := by decide +kernel
theorem dX1_tiling_119 : decode cX1_tiling 119 = .ok (.iconst 3, 1) := by decide +kernel
theorem dX1_tiling_120 : decode cX1_tiling 120 = .ok (.imul, 1) := by decide +kernel
theorem dX1_tiling_121 : decode cX1_tiling 121 = .ok (.iload 5, 2) := by decide +kernel
theorem dX1_tiling_123 : decode cX1_tiling 123 = .ok (.iconst 4, 1) := by decide +kernel
theorem dX1_tiling_124 : decode cX1_tiling 124 = .ok (.irem, 1) := by decide +kernel
theorem dX1_tiling_125 : decode cX1_tiling 125 = .ok (.iadd, 1) := by decide +kernel
theorem dX1_tiling_126 : decode cX1_tiling 126 = .ok (.ishl, 1) := by decide +kernel
theorem dX1_tiling_127 : decode cX1_tiling 127 = .ok (.ior, 1) := by decide +kernel
theorem dX1_tiling_128 : decode cX1_tiling 128 = .ok (.istore_n 3, 1) := by decide +kernel
theorem dX1_tiling_129 : decode cX1_tiling 129 = .ok (.iinc 4 1, 3) := by decide +kernel
theorem dX1_tiling_132 : decode cX1_tiling 132 = .ok (.goto (-125), 3) := by decide +kernel
theorem dX1_tiling_135 : decode cX1_tiling 135 = .ok (.iload_n 3, 1) := by decide +kernel
theorem dX1_tiling_136 : decode cX1_tiling 136 = .ok (.ireturn, 1) := by decide +kernel
theorem dX1_firstOpen_0 : decode cX1_firstOpen 0 = .ok (.iconst 0, 1) := by decide +kernel
theorem dX1_firstOpen_1 : decode cX1_firstOpen 1 = .ok (.istore_n 2, 1) := by decide +kernel
theorem dX1_firstOpen_2 : decode cX1_firstOpen 2 = .ok (.iload_n 2, 1) := by decide +kernel
theorem dX1_firstOpen_3 : decode cX1_firstOpen 3 = .ok (.bipush 16, 2) := by decide +kernel
theorem dX1_firstOpen_5 : decode cX1_firstOpen 5 = .ok (.if_icmp .ge 19, 3) := by decide +kernel
theorem dX1_firstOpen_8 : decode cX1_firstOpen 8 = .ok (.iload_n 1, 1) := by decide +kernel
theorem dX1_firstOpen_9 : decode cX1_firstOpen 9 = .ok (.iload_n 2, 1) := by decide +kernel
theorem dX1_firstOpen_10 : decode cX1_firstOpen 10 = .ok (.ishr, 1) := by decide +kernel
theorem dX1_firstOpen_11 : decode cX1_firstOpen 11 = .ok (.iconst 1, 1) := by decide +kernel
theorem dX1_firstOpen_12 : decode cX1_firstOpen 12 = .ok (.iand, 1) := by decide +kernel
theorem dX1_firstOpen_13 : decode cX1_firstOpen 13 = .ok (.ifCond .ne 5, 3) := by decide +kernel
theorem dX1_firstOpen_16 : decode cX1_firstOpen 16 = .ok (.iload_n 2, 1) := by decide +kernel
theorem dX1_firstOpen_17 : decode cX1_firstOpen 17 = .ok (.ireturn, 1) := by decide +kernel
theorem dX1_firstOpen_18 : decode cX1_firstOpen 18 = .ok (.iinc 2 1, 3) := by decide +kernel
theorem dX1_firstOpen_21 : decode cX1_firstOpen 21 = .ok (.goto (-19), 3) := by decide +kernel
theorem dX1_firstOpen_24 : decode cX1_firstOpen 24 = .ok (.bipush 16, 2) := by decide +kernel
theorem dX1_firstOpen_26 : decode cX1_firstOpen 26 = .ok (.ireturn, 1) := by decide +kernel
theorem dX1_worth_0 : decode cX1_worth 0 = .ok (.iload_n 1, 1) := by decide +kernel
theorem dX1_worth_1 : decode cX1_worth 1 = .ok (.ifCond .ne 7, 3) := by decide +kernel
end
section
set_option maxRecDepth 100000
theorem dX1_worth_4 : decode cX1_worth 4 = .ok (.iconst 0, 1) := by decide +kernel
theorem dX1_worth_5 : decode cX1_worth 5 = .ok (.goto 4, 3) := by decide +kernel
theorem dX1_worth_8 : decode cX1_worth 8 = .ok (.iconst 1, 1) := by decide +kernel
theorem dX1_worth_9 : decode cX1_worth 9 = .ok (.istore_n 2, 1) := by decide +kernel
theorem dX1_worth_10 : decode cX1_worth 10 = .ok (.iconst 0, 1) := by decide +kernel
theorem dX1_worth_11 : decode cX1_worth 11 = .ok (.istore_n 3, 1) := by decide +kernel
theorem dX1_worth_12 : decode cX1_worth 12 = .ok (.iload_n 3, 1) := by decide +kernel
theorem dX1_worth_13 : decode cX1_worth 13 = .ok (.bipush 24, 2) := by decide +kernel
theorem dX1_worth_15 : decode cX1_worth 15 = .ok (.if_icmp .ge 27, 3) := by decide +kernel
theorem dX1_worth_18 : decode cX1_worth 18 = .ok (.iload_n 1, 1) := by decide +kernel
theorem dX1_worth_19 : decode cX1_worth 19 = .ok (.iload_n 3, 1) := by decide +kernel
theorem dX1_worth_20 : decode cX1_worth 20 = .ok (.ishr, 1) := by decide +kernel
theorem dX1_worth_21 : decode cX1_worth 21 = .ok (.iconst 1, 1) := by decide +kernel
theorem dX1_worth_22 : decode cX1_worth 22 = .ok (.iand, 1) := by decide +kernel
theorem dX1_worth_23 : decode cX1_worth 23 = .ok (.iconst 1, 1) := by decide +kernel
theorem dX1_worth_24 : decode cX1_worth 24 = .ok (.if_icmp .ne 12, 3) := by decide +kernel
theorem dX1_worth_27 : decode cX1_worth 27 = .ok (.iload_n 2, 1) := by decide +kernel
theorem dX1_worth_28 : decode cX1_worth 28 = .ok (.aload_n 0, 1) := by decide +kernel
theorem dX1_worth_29 : decode cX1_worth 29 = .ok (.getfield 7, 3) := by decide +kernel
theorem dX1_worth_32 : decode cX1_worth 32 = .ok (.iload_n 3, 1) := by decide +kernel
theorem dX1_worth_33 : decode cX1_worth 33 = .ok (.iaload, 1) := by decide +kernel
theorem dX1_worth_34 : decode cX1_worth 34 = .ok (.imul, 1) := by decide +kernel
theorem dX1_worth_35 : decode cX1_worth 35 = .ok (.istore_n 2, 1) := by decide +kernel
theorem dX1_worth_36 : decode cX1_worth 36 = .ok (.iinc 3 1, 3) := by decide +kernel
theorem dX1_worth_39 : decode cX1_worth 39 = .ok (.goto (-27), 3) := by decide +kernel
theorem dX1_worth_42 : decode cX1_worth 42 = .ok (.iload_n 2, 1) := by decide +kernel
theorem dX1_worth_43 : decode cX1_worth 43 = .ok (.ireturn, 1) := by decide +kernel
theorem dX1_totalWith_0 : decode cX1_totalWith 0 = .ok (.aload_n 0, 1) := by decide +kernel
theorem dX1_totalWith_1 : decode cX1_totalWith 1 = .ok (.iload_n 1, 1) := by decide +kernel
theorem dX1_totalWith_2 : decode cX1_totalWith 2 = .ok (.invokevirtual 16, 3) := by decide +kernel
theorem dX1_totalWith_5 : decode cX1_totalWith 5 = .ok (.ifCond .eq 7, 3) := by decide +kernel
theorem dX1_totalWith_8 : decode cX1_totalWith 8 = .ok (.iconst (-1), 1) := by decide +kernel
theorem dX1_totalWith_9 : decode cX1_totalWith 9 = .ok (.goto 10, 3) := by decide +kernel
theorem dX1_totalWith_12 : decode cX1_totalWith 12 = .ok (.aload_n 0, 1) := by decide +kernel
theorem dX1_totalWith_13 : decode cX1_totalWith 13 = .ok (.iconst 1, 1) := by decide +kernel
theorem dX1_totalWith_14 : decode cX1_totalWith 14 = .ok (.iload_n 1, 1) := by decide +kernel
theorem dX1_totalWith_15 : decode cX1_totalWith 15 = .ok (.ishl, 1) := by decide +kernel
theorem dX1_totalWith_16 : decode cX1_totalWith 16 = .ok (.invokevirtual 37, 3) := by decide +kernel
theorem dX1_totalWith_19 : decode cX1_totalWith 19 = .ok (.ireturn, 1) := by decide +kernel
theorem dX1_totalWithBoth_0 : decode cX1_totalWithBoth 0 = .ok (.aload_n 0, 1) := by decide +kernel
theorem dX1_totalWithBoth_1 : decode cX1_totalWithBoth 1 = .ok (.iload_n 1, 1) := by decide +kernel
theorem dX1_totalWithBoth_2 : decode cX1_totalWithBoth 2 = .ok (.invokevirtual 16, 3) := by decide +kernel
theorem dX1_totalWithBoth_5 : decode cX1_totalWithBoth 5 = .ok (.ifCond .ne 11, 3) := by decide +kernel
theorem dX1_totalWithBoth_8 : decode cX1_totalWithBoth 8 = .ok (.aload_n 0, 1) := by decide +kernel
theorem dX1_totalWithBoth_9 : decode cX1_totalWithBoth 9 = .ok (.iload_n 2, 1) := by decide +kernel
theorem dX1_totalWithBoth_10 : decode cX1_totalWithBoth 10 = .ok (.invokevirtual 16, 3) := by decide +kernel
theorem dX1_totalWithBoth_13 : decode cX1_totalWithBoth 13 = .ok (.ifCond .eq 7, 3) := by decide +kernel
theorem dX1_totalWithBoth_16 : decode cX1_totalWithBoth 16 = .ok (.iconst (-1), 1) := by decide +kernel
theorem dX1_totalWithBoth_17 : decode cX1_totalWithBoth 17 = .ok (.goto 14, 3) := by decide +kernel
theorem dX1_totalWithBoth_20 : decode cX1_totalWithBoth 20 = .ok (.aload_n 0, 1) := by decide +kernel
theorem dX1_totalWithBoth_21 : decode cX1_totalWithBoth 21 = .ok (.iconst 1, 1) := by decide +kernel
theorem dX1_totalWithBoth_22 : decode cX1_totalWithBoth 22 = .ok (.iload_n 1, 1) := by decide +kernel
theorem dX1_totalWithBoth_23 : decode cX1_totalWithBoth 23 = .ok (.ishl, 1) := by decide +kernel
theorem dX1_totalWithBoth_24 : decode cX1_totalWithBoth 24 = .ok (.iconst 1, 1) := by decide +kernel
theorem dX1_totalWithBoth_25 : decode cX1_totalWithBoth 25 = .ok (.iload_n 2, 1) := by decide +kernel
theorem dX1_totalWithBoth_26 : decode cX1_totalWithBoth 26 = .ok (.ishl, 1) := by decide +kernel
theorem dX1_totalWithBoth_27 : decode cX1_totalWithBoth 27 = .ok (.ior, 1) := by decide +kernel
theorem dX1_totalWithBoth_28 : decode cX1_totalWithBoth 28 = .ok (.invokevirtual 37, 3) := by decide +kernel
theorem dX1_totalWithBoth_31 : decode cX1_totalWithBoth 31 = .ok (.ireturn, 1) := by decide +kernel
theorem dX1_possible_0 : decode cX1_possible 0 = .ok (.iconst 0, 1) := by decide +kernel
theorem dX1_possible_1 : decode cX1_possible 1 = .ok (.istore_n 1, 1) := by decide +kernel
theorem dX1_possible_2 : decode cX1_possible 2 = .ok (.iconst 0, 1) := by decide +kernel
theorem dX1_possible_3 : decode cX1_possible 3 = .ok (.istore_n 2, 1) := by decide +kernel
theorem dX1_possible_4 : decode cX1_possible 4 = .ok (.iload_n 2, 1) := by decide +kernel
theorem dX1_possible_5 : decode cX1_possible 5 = .ok (.sipush 256, 3) := by decide +kernel
theorem dX1_possible_8 : decode cX1_possible 8 = .ok (.if_icmp .ge 26, 3) := by decide +kernel
theorem dX1_possible_11 : decode cX1_possible 11 = .ok (.aload_n 0, 1) := by decide +kernel
theorem dX1_possible_12 : decode cX1_possible 12 = .ok (.iload_n 2, 1) := by decide +kernel
theorem dX1_possible_13 : decode cX1_possible 13 = .ok (.invokevirtual 31, 3) := by decide +kernel
theorem dX1_possible_16 : decode cX1_possible 16 = .ok (.istore_n 3, 1) := by decide +kernel
theorem dX1_possible_17 : decode cX1_possible 17 = .ok (.aload_n 0, 1) := by decide +kernel
theorem dX1_possible_18 : decode cX1_possible 18 = .ok (.iload_n 3, 1) := by decide +kernel
theorem dX1_possible_19 : decode cX1_possible 19 = .ok (.invokevirtual 34, 3) := by decide +kernel
theorem dX1_possible_22 : decode cX1_possible 22 = .ok (.ifCond .le 6, 3) := by decide +kernel
theorem dX1_possible_25 : decode cX1_possible 25 = .ok (.iinc 1 1, 3) := by decide +kernel
theorem dX1_possible_28 : decode cX1_possible 28 = .ok (.iinc 2 1, 3) := by decide +kernel
theorem dX1_possible_31 : decode cX1_possible 31 = .ok (.goto (-27), 3) := by decide +kernel
theorem dX1_possible_34 : decode cX1_possible 34 = .ok (.iload_n 1, 1) := by decide +kernel
theorem dX1_possible_35 : decode cX1_possible 35 = .ok (.ireturn, 1) := by decide +kernel
theorem dX1_canUse_0 : decode cX1_canUse 0 = .ok (.aload_n 0, 1) := by decide +kernel
theorem dX1_canUse_1 : decode cX1_canUse 1 = .ok (.iload_n 1, 1) := by decide +kernel
theorem dX1_canUse_2 : decode cX1_canUse 2 = .ok (.invokevirtual 16, 3) := by decide +kernel
theorem dX1_canUse_5 : decode cX1_canUse 5 = .ok (.ifCond .ne 17, 3) := by decide +kernel
theorem dX1_canUse_8 : decode cX1_canUse 8 = .ok (.aload_n 0, 1) := by decide +kernel
theorem dX1_canUse_9 : decode cX1_canUse 9 = .ok (.iconst 1, 1) := by decide +kernel
theorem dX1_canUse_10 : decode cX1_canUse 10 = .ok (.iload_n 1, 1) := by decide +kernel
theorem dX1_canUse_11 : decode cX1_canUse 11 = .ok (.ishl, 1) := by decide +kernel
theorem dX1_canUse_12 : decode cX1_canUse 12 = .ok (.invokevirtual 37, 3) := by decide +kernel
theorem dX1_canUse_15 : decode cX1_canUse 15 = .ok (.ifCond .le 7, 3) := by decide +kernel
theorem dX1_canUse_18 : decode cX1_canUse 18 = .ok (.iconst 1, 1) := by decide +kernel
theorem dX1_canUse_19 : decode cX1_canUse 19 = .ok (.goto 4, 3) := by decide +kernel
theorem dX1_canUse_22 : decode cX1_canUse 22 = .ok (.iconst 0, 1) := by decide +kernel
theorem dX1_canUse_23 : decode cX1_canUse 23 = .ok (.ireturn, 1) := by decide +kernel
theorem dX1_settled_0 : decode cX1_settled 0 = .ok (.ldc 40, 2) := by decide +kernel
theorem dX1_settled_2 : decode cX1_settled 2 = .ok (.istore_n 1, 1) := by decide +kernel
theorem dX1_settled_3 : decode cX1_settled 3 = .ok (.iconst 0, 1) := by decide +kernel
theorem dX1_settled_4 : decode cX1_settled 4 = .ok (.istore_n 2, 1) := by decide +kernel
theorem dX1_settled_5 : decode cX1_settled 5 = .ok (.iload_n 2, 1) := by decide +kernel
theorem dX1_settled_6 : decode cX1_settled 6 = .ok (.sipush 256, 3) := by decide +kernel
theorem dX1_settled_9 : decode cX1_settled 9 = .ok (.if_icmp .ge 27, 3) := by decide +kernel
theorem dX1_settled_12 : decode cX1_settled 12 = .ok (.aload_n 0, 1) := by decide +kernel
theorem dX1_settled_13 : decode cX1_settled 13 = .ok (.iload_n 2, 1) := by decide +kernel
theorem dX1_settled_14 : decode cX1_settled 14 = .ok (.invokevirtual 31, 3) := by decide +kernel
theorem dX1_settled_17 : decode cX1_settled 17 = .ok (.istore_n 3, 1) := by decide +kernel
theorem dX1_settled_18 : decode cX1_settled 18 = .ok (.aload_n 0, 1) := by decide +kernel
theorem dX1_settled_19 : decode cX1_settled 19 = .ok (.iload_n 3, 1) := by decide +kernel
theorem dX1_settled_20 : decode cX1_settled 20 = .ok (.invokevirtual 34, 3) := by decide +kernel
theorem dX1_settled_23 : decode cX1_settled 23 = .ok (.ifCond .le 7, 3) := by decide +kernel
theorem dX1_settled_26 : decode cX1_settled 26 = .ok (.iload_n 1, 1) := by decide +kernel
theorem dX1_settled_27 : decode cX1_settled 27 = .ok (.iload_n 3, 1) := by decide +kernel
theorem dX1_settled_28 : decode cX1_settled 28 = .ok (.iand, 1) := by decide +kernel
theorem dX1_settled_29 : decode cX1_settled 29 = .ok (.istore_n 1, 1) := by decide +kernel
theorem dX1_settled_30 : decode cX1_settled 30 = .ok (.iinc 2 1, 3) := by decide +kernel
theorem dX1_settled_33 : decode cX1_settled 33 = .ok (.goto (-28), 3) := by decide +kernel
theorem dX1_settled_36 : decode cX1_settled 36 = .ok (.iconst 0, 1) := by decide +kernel
theorem dX1_settled_37 : decode cX1_settled 37 = .ok (.istore_n 2, 1) := by decide +kernel
theorem dX1_settled_38 : decode cX1_settled 38 = .ok (.iconst 0, 1) := by decide +kernel
theorem dX1_settled_39 : decode cX1_settled 39 = .ok (.istore_n 3, 1) := by decide +kernel
theorem dX1_settled_40 : decode cX1_settled 40 = .ok (.iload_n 3, 1) := by decide +kernel
theorem dX1_settled_41 : decode cX1_settled 41 = .ok (.bipush 24, 2) := by decide +kernel
theorem dX1_settled_43 : decode cX1_settled 43 = .ok (.if_icmp .ge 17, 3) := by decide +kernel
theorem dX1_settled_46 : decode cX1_settled 46 = .ok (.iload_n 2, 1) := by decide +kernel
theorem dX1_settled_47 : decode cX1_settled 47 = .ok (.iload_n 1, 1) := by decide +kernel
theorem dX1_settled_48 : decode cX1_settled 48 = .ok (.iload_n 3, 1) := by decide +kernel
theorem dX1_settled_49 : decode cX1_settled 49 = .ok (.ishr, 1) := by decide +kernel
theorem dX1_settled_50 : decode cX1_settled 50 = .ok (.iconst 1, 1) := by decide +kernel
theorem dX1_settled_51 : decode cX1_settled 51 = .ok (.iand, 1) := by decide +kernel
theorem dX1_settled_52 : decode cX1_settled 52 = .ok (.iadd, 1) := by decide +kernel
theorem dX1_settled_53 : decode cX1_settled 53 = .ok (.istore_n 2, 1) := by decide +kernel
theorem dX1_settled_54 : decode cX1_settled 54 = .ok (.iinc 3 1, 3) := by decide +kernel
theorem dX1_settled_57 : decode cX1_settled 57 = .ok (.goto (-17), 3) := by decide +kernel
theorem dX1_settled_60 : decode cX1_settled 60 = .ok (.iload_n 2, 1) := by decide +kernel
theorem dX1_settled_61 : decode cX1_settled 61 = .ok (.ireturn, 1) := by decide +kernel
theorem dX1_acrossTotal_0 : decode cX1_acrossTotal 0 = .ok (.iconst 0, 1) := by decide +kernel
theorem dX1_acrossTotal_1 : decode cX1_acrossTotal 1 = .ok (.istore_n 1, 1) := by decide +kernel
theorem dX1_acrossTotal_2 : decode cX1_acrossTotal 2 = .ok (.iconst 0, 1) := by decide +kernel
theorem dX1_acrossTotal_3 : decode cX1_acrossTotal 3 = .ok (.istore_n 2, 1) := by decide +kernel
theorem dX1_acrossTotal_4 : decode cX1_acrossTotal 4 = .ok (.iload_n 2, 1) := by decide +kernel
theorem dX1_acrossTotal_5 : decode cX1_acrossTotal 5 = .ok (.bipush 12, 2) := by decide +kernel
theorem dX1_acrossTotal_7 : decode cX1_acrossTotal 7 = .ok (.if_icmp .ge 21, 3) := by decide +kernel
theorem dX1_acrossTotal_10 : decode cX1_acrossTotal 10 = .ok (.aload_n 0, 1) := by decide +kernel
theorem dX1_acrossTotal_11 : decode cX1_acrossTotal 11 = .ok (.iconst 1, 1) := by decide +kernel
theorem dX1_acrossTotal_12 : decode cX1_acrossTotal 12 = .ok (.iload_n 2, 1) := by decide +kernel
theorem dX1_acrossTotal_13 : decode cX1_acrossTotal 13 = .ok (.ishl, 1) := by decide +kernel
theorem dX1_acrossTotal_14 : decode cX1_acrossTotal 14 = .ok (.invokevirtual 37, 3) := by decide +kernel
theorem dX1_acrossTotal_17 : decode cX1_acrossTotal 17 = .ok (.istore_n 3, 1) := by decide +kernel
theorem dX1_acrossTotal_18 : decode cX1_acrossTotal 18 = .ok (.iload_n 1, 1) := by decide +kernel
theorem dX1_acrossTotal_19 : decode cX1_acrossTotal 19 = .ok (.iload_n 3, 1) := by decide +kernel
theorem dX1_acrossTotal_20 : decode cX1_acrossTotal 20 = .ok (.iadd, 1) := by decide +kernel
theorem dX1_acrossTotal_21 : decode cX1_acrossTotal 21 = .ok (.istore_n 1, 1) := by decide +kernel
theorem dX1_acrossTotal_22 : decode cX1_acrossTotal 22 = .ok (.iinc 2 1, 3) := by decide +kernel
theorem dX1_acrossTotal_25 : decode cX1_acrossTotal 25 = .ok (.goto (-21), 3) := by decide +kernel
theorem dX1_acrossTotal_28 : decode cX1_acrossTotal 28 = .ok (.iload_n 1, 1) := by decide +kernel
theorem dX1_acrossTotal_29 : decode cX1_acrossTotal 29 = .ok (.ireturn, 1) := by decide +kernel
end
section
set_option maxRecDepth 100000
theorem dL_law_0 : decode cL_law 0 = .ok (.new 7, 3) := by decide +kernel
theorem dL_law_3 : decode cL_law 3 = .ok (.dup, 1) := by decide +kernel
theorem dL_law_4 : decode cL_law 4 = .ok (.invokespecial 9, 3) := by decide +kernel
theorem dL_law_7 : decode cL_law 7 = .ok (.astore_n 1, 1) := by decide +kernel
theorem dL_law_8 : decode cL_law 8 = .ok (.new 10, 3) := by decide +kernel
theorem dL_law_11 : decode cL_law 11 = .ok (.dup, 1) := by decide +kernel
theorem dL_law_12 : decode cL_law 12 = .ok (.invokespecial 12, 3) := by decide +kernel
theorem dL_law_15 : decode cL_law 15 = .ok (.astore_n 2, 1) := by decide +kernel
theorem dL_law_16 : decode cL_law 16 = .ok (.iconst 0, 1) := by decide +kernel
theorem dL_law_17 : decode cL_law 17 = .ok (.istore_n 3, 1) := by decide +kernel
theorem dL_law_18 : decode cL_law 18 = .ok (.iload_n 3, 1) := by decide +kernel
theorem dL_law_19 : decode cL_law 19 = .ok (.aload_n 0, 1) := by decide +kernel
theorem dL_law_20 : decode cL_law 20 = .ok (.arraylength, 1) := by decide +kernel
theorem dL_law_21 : decode cL_law 21 = .ok (.iconst 3, 1) := by decide +kernel
theorem dL_law_22 : decode cL_law 22 = .ok (.isub, 1) := by decide +kernel
theorem dL_law_23 : decode cL_law 23 = .ok (.if_icmp .gt 333, 3) := by decide +kernel
theorem dL_law_26 : decode cL_law 26 = .ok (.aload_n 0, 1) := by decide +kernel
theorem dL_law_27 : decode cL_law 27 = .ok (.iload_n 3, 1) := by decide +kernel
theorem dL_law_28 : decode cL_law 28 = .ok (.iaload, 1) := by decide +kernel
theorem dL_law_29 : decode cL_law 29 = .ok (.bipush 15, 2) := by decide +kernel
theorem dL_law_31 : decode cL_law 31 = .ok (.iand, 1) := by decide +kernel
theorem dL_law_32 : decode cL_law 32 = .ok (.tableswitch 318 0 11 #[64, 97, 120, 131, 164, 187, 200, 223, 256, 269, 292, 305], 64) := by decide +kernel
theorem dL_law_96 : decode cL_law 96 = .ok (.aload_n 1, 1) := by decide +kernel
theorem dL_law_97 : decode cL_law 97 = .ok (.aload_n 0, 1) := by decide +kernel
theorem dL_law_98 : decode cL_law 98 = .ok (.iload_n 3, 1) := by decide +kernel
theorem dL_law_99 : decode cL_law 99 = .ok (.iconst 1, 1) := by decide +kernel
theorem dL_law_100 : decode cL_law 100 = .ok (.iadd, 1) := by decide +kernel
theorem dL_law_101 : decode cL_law 101 = .ok (.iaload, 1) := by decide +kernel
theorem dL_law_102 : decode cL_law 102 = .ok (.aload_n 0, 1) := by decide +kernel
theorem dL_law_103 : decode cL_law 103 = .ok (.iload_n 3, 1) := by decide +kernel
theorem dL_law_104 : decode cL_law 104 = .ok (.iconst 2, 1) := by decide +kernel
theorem dL_law_105 : decode cL_law 105 = .ok (.iadd, 1) := by decide +kernel
theorem dL_law_106 : decode cL_law 106 = .ok (.iaload, 1) := by decide +kernel
theorem dL_law_107 : decode cL_law 107 = .ok (.invokevirtual 13, 3) := by decide +kernel
theorem dL_law_110 : decode cL_law 110 = .ok (.aload_n 2, 1) := by decide +kernel
theorem dL_law_111 : decode cL_law 111 = .ok (.aload_n 0, 1) := by decide +kernel
theorem dL_law_112 : decode cL_law 112 = .ok (.iload_n 3, 1) := by decide +kernel
theorem dL_law_113 : decode cL_law 113 = .ok (.iconst 1, 1) := by decide +kernel
theorem dL_law_114 : decode cL_law 114 = .ok (.iadd, 1) := by decide +kernel
theorem dL_law_115 : decode cL_law 115 = .ok (.iaload, 1) := by decide +kernel
theorem dL_law_116 : decode cL_law 116 = .ok (.aload_n 0, 1) := by decide +kernel
theorem dL_law_117 : decode cL_law 117 = .ok (.iload_n 3, 1) := by decide +kernel
theorem dL_law_118 : decode cL_law 118 = .ok (.iconst 2, 1) := by decide +kernel
theorem dL_law_119 : decode cL_law 119 = .ok (.iadd, 1) := by decide +kernel
theorem dL_law_120 : decode cL_law 120 = .ok (.iaload, 1) := by decide +kernel
theorem dL_law_121 : decode cL_law 121 = .ok (.invokevirtual 17, 3) := by decide +kernel
theorem dL_law_124 : decode cL_law 124 = .ok (.if_icmp .eq 226, 3) := by decide +kernel
theorem dL_law_127 : decode cL_law 127 = .ok (.iconst 0, 1) := by decide +kernel
theorem dL_law_128 : decode cL_law 128 = .ok (.ireturn, 1) := by decide +kernel
theorem dL_law_129 : decode cL_law 129 = .ok (.aload_n 1, 1) := by decide +kernel
theorem dL_law_130 : decode cL_law 130 = .ok (.aload_n 0, 1) := by decide +kernel
theorem dL_law_131 : decode cL_law 131 = .ok (.iload_n 3, 1) := by decide +kernel
theorem dL_law_132 : decode cL_law 132 = .ok (.iconst 1, 1) := by decide +kernel
theorem dL_law_133 : decode cL_law 133 = .ok (.iadd, 1) := by decide +kernel
theorem dL_law_134 : decode cL_law 134 = .ok (.iaload, 1) := by decide +kernel
theorem dL_law_135 : decode cL_law 135 = .ok (.invokevirtual 18, 3) := by decide +kernel
theorem dL_law_138 : decode cL_law 138 = .ok (.aload_n 2, 1) := by decide +kernel
theorem dL_law_139 : decode cL_law 139 = .ok (.aload_n 0, 1) := by decide +kernel
theorem dL_law_140 : decode cL_law 140 = .ok (.iload_n 3, 1) := by decide +kernel
theorem dL_law_141 : decode cL_law 141 = .ok (.iconst 1, 1) := by decide +kernel
theorem dL_law_142 : decode cL_law 142 = .ok (.iadd, 1) := by decide +kernel
theorem dL_law_143 : decode cL_law 143 = .ok (.iaload, 1) := by decide +kernel
theorem dL_law_144 : decode cL_law 144 = .ok (.invokevirtual 22, 3) := by decide +kernel
theorem dL_law_147 : decode cL_law 147 = .ok (.if_icmp .eq 203, 3) := by decide +kernel
theorem dL_law_150 : decode cL_law 150 = .ok (.iconst 0, 1) := by decide +kernel
theorem dL_law_151 : decode cL_law 151 = .ok (.ireturn, 1) := by decide +kernel
theorem dL_law_152 : decode cL_law 152 = .ok (.aload_n 1, 1) := by decide +kernel
theorem dL_law_153 : decode cL_law 153 = .ok (.invokevirtual 23, 3) := by decide +kernel
theorem dL_law_156 : decode cL_law 156 = .ok (.aload_n 2, 1) := by decide +kernel
theorem dL_law_157 : decode cL_law 157 = .ok (.invokevirtual 26, 3) := by decide +kernel
theorem dL_law_160 : decode cL_law 160 = .ok (.goto 190, 3) := by decide +kernel
theorem dL_law_163 : decode cL_law 163 = .ok (.aload_n 1, 1) := by decide +kernel
theorem dL_law_164 : decode cL_law 164 = .ok (.aload_n 0, 1) := by decide +kernel
theorem dL_law_165 : decode cL_law 165 = .ok (.iload_n 3, 1) := by decide +kernel
theorem dL_law_166 : decode cL_law 166 = .ok (.iconst 1, 1) := by decide +kernel
theorem dL_law_167 : decode cL_law 167 = .ok (.iadd, 1) := by decide +kernel
theorem dL_law_168 : decode cL_law 168 = .ok (.iaload, 1) := by decide +kernel
theorem dL_law_169 : decode cL_law 169 = .ok (.aload_n 0, 1) := by decide +kernel
theorem dL_law_170 : decode cL_law 170 = .ok (.iload_n 3, 1) := by decide +kernel
theorem dL_law_171 : decode cL_law 171 = .ok (.iconst 2, 1) := by decide +kernel
theorem dL_law_172 : decode cL_law 172 = .ok (.iadd, 1) := by decide +kernel
theorem dL_law_173 : decode cL_law 173 = .ok (.iaload, 1) := by decide +kernel
theorem dL_law_174 : decode cL_law 174 = .ok (.invokevirtual 27, 3) := by decide +kernel
theorem dL_law_177 : decode cL_law 177 = .ok (.aload_n 2, 1) := by decide +kernel
theorem dL_law_178 : decode cL_law 178 = .ok (.aload_n 0, 1) := by decide +kernel
theorem dL_law_179 : decode cL_law 179 = .ok (.iload_n 3, 1) := by decide +kernel
theorem dL_law_180 : decode cL_law 180 = .ok (.iconst 1, 1) := by decide +kernel
theorem dL_law_181 : decode cL_law 181 = .ok (.iadd, 1) := by decide +kernel
theorem dL_law_182 : decode cL_law 182 = .ok (.iaload, 1) := by decide +kernel
theorem dL_law_183 : decode cL_law 183 = .ok (.aload_n 0, 1) := by decide +kernel
theorem dL_law_184 : decode cL_law 184 = .ok (.iload_n 3, 1) := by decide +kernel
theorem dL_law_185 : decode cL_law 185 = .ok (.iconst 2, 1) := by decide +kernel
theorem dL_law_186 : decode cL_law 186 = .ok (.iadd, 1) := by decide +kernel
theorem dL_law_187 : decode cL_law 187 = .ok (.iaload, 1) := by decide +kernel
theorem dL_law_188 : decode cL_law 188 = .ok (.invokevirtual 30, 3) := by decide +kernel
theorem dL_law_191 : decode cL_law 191 = .ok (.if_icmp .eq 159, 3) := by decide +kernel
theorem dL_law_194 : decode cL_law 194 = .ok (.iconst 0, 1) := by decide +kernel
theorem dL_law_195 : decode cL_law 195 = .ok (.ireturn, 1) := by decide +kernel
theorem dL_law_196 : decode cL_law 196 = .ok (.aload_n 1, 1) := by decide +kernel
theorem dL_law_197 : decode cL_law 197 = .ok (.aload_n 0, 1) := by decide +kernel
theorem dL_law_198 : decode cL_law 198 = .ok (.iload_n 3, 1) := by decide +kernel
theorem dL_law_199 : decode cL_law 199 = .ok (.iconst 1, 1) := by decide +kernel
theorem dL_law_200 : decode cL_law 200 = .ok (.iadd, 1) := by decide +kernel
theorem dL_law_201 : decode cL_law 201 = .ok (.iaload, 1) := by decide +kernel
theorem dL_law_202 : decode cL_law 202 = .ok (.invokevirtual 31, 3) := by decide +kernel
theorem dL_law_205 : decode cL_law 205 = .ok (.aload_n 2, 1) := by decide +kernel
theorem dL_law_206 : decode cL_law 206 = .ok (.aload_n 0, 1) := by decide +kernel
theorem dL_law_207 : decode cL_law 207 = .ok (.iload_n 3, 1) := by decide +kernel
theorem dL_law_208 : decode cL_law 208 = .ok (.iconst 1, 1) := by decide +kernel
theorem dL_law_209 : decode cL_law 209 = .ok (.iadd, 1) := by decide +kernel
end
section
set_option maxRecDepth 100000
theorem dL_law_210 : decode cL_law 210 = .ok (.iaload, 1) := by decide +kernel
theorem dL_law_211 : decode cL_law 211 = .ok (.invokevirtual 34, 3) := by decide +kernel
theorem dL_law_214 : decode cL_law 214 = .ok (.if_icmp .eq 136, 3) := by decide +kernel
theorem dL_law_217 : decode cL_law 217 = .ok (.iconst 0, 1) := by decide +kernel
theorem dL_law_218 : decode cL_law 218 = .ok (.ireturn, 1) := by decide +kernel
theorem dL_law_219 : decode cL_law 219 = .ok (.aload_n 1, 1) := by decide +kernel
theorem dL_law_220 : decode cL_law 220 = .ok (.invokevirtual 35, 3) := by decide +kernel
theorem dL_law_223 : decode cL_law 223 = .ok (.aload_n 2, 1) := by decide +kernel
theorem dL_law_224 : decode cL_law 224 = .ok (.invokevirtual 39, 3) := by decide +kernel
theorem dL_law_227 : decode cL_law 227 = .ok (.if_icmp .eq 123, 3) := by decide +kernel
theorem dL_law_230 : decode cL_law 230 = .ok (.iconst 0, 1) := by decide +kernel
theorem dL_law_231 : decode cL_law 231 = .ok (.ireturn, 1) := by decide +kernel
theorem dL_law_232 : decode cL_law 232 = .ok (.aload_n 1, 1) := by decide +kernel
theorem dL_law_233 : decode cL_law 233 = .ok (.aload_n 0, 1) := by decide +kernel
theorem dL_law_234 : decode cL_law 234 = .ok (.iload_n 3, 1) := by decide +kernel
theorem dL_law_235 : decode cL_law 235 = .ok (.iconst 1, 1) := by decide +kernel
theorem dL_law_236 : decode cL_law 236 = .ok (.iadd, 1) := by decide +kernel
theorem dL_law_237 : decode cL_law 237 = .ok (.iaload, 1) := by decide +kernel
theorem dL_law_238 : decode cL_law 238 = .ok (.invokevirtual 40, 3) := by decide +kernel
theorem dL_law_241 : decode cL_law 241 = .ok (.aload_n 2, 1) := by decide +kernel
theorem dL_law_242 : decode cL_law 242 = .ok (.aload_n 0, 1) := by decide +kernel
theorem dL_law_243 : decode cL_law 243 = .ok (.iload_n 3, 1) := by decide +kernel
theorem dL_law_244 : decode cL_law 244 = .ok (.iconst 1, 1) := by decide +kernel
theorem dL_law_245 : decode cL_law 245 = .ok (.iadd, 1) := by decide +kernel
theorem dL_law_246 : decode cL_law 246 = .ok (.iaload, 1) := by decide +kernel
theorem dL_law_247 : decode cL_law 247 = .ok (.invokevirtual 43, 3) := by decide +kernel
theorem dL_law_250 : decode cL_law 250 = .ok (.if_icmp .eq 100, 3) := by decide +kernel
theorem dL_law_253 : decode cL_law 253 = .ok (.iconst 0, 1) := by decide +kernel
theorem dL_law_254 : decode cL_law 254 = .ok (.ireturn, 1) := by decide +kernel
theorem dL_law_255 : decode cL_law 255 = .ok (.aload_n 1, 1) := by decide +kernel
theorem dL_law_256 : decode cL_law 256 = .ok (.aload_n 0, 1) := by decide +kernel
theorem dL_law_257 : decode cL_law 257 = .ok (.iload_n 3, 1) := by decide +kernel
theorem dL_law_258 : decode cL_law 258 = .ok (.iconst 1, 1) := by decide +kernel
theorem dL_law_259 : decode cL_law 259 = .ok (.iadd, 1) := by decide +kernel
theorem dL_law_260 : decode cL_law 260 = .ok (.iaload, 1) := by decide +kernel
theorem dL_law_261 : decode cL_law 261 = .ok (.aload_n 0, 1) := by decide +kernel
theorem dL_law_262 : decode cL_law 262 = .ok (.iload_n 3, 1) := by decide +kernel
theorem dL_law_263 : decode cL_law 263 = .ok (.iconst 2, 1) := by decide +kernel
theorem dL_law_264 : decode cL_law 264 = .ok (.iadd, 1) := by decide +kernel
theorem dL_law_265 : decode cL_law 265 = .ok (.iaload, 1) := by decide +kernel
theorem dL_law_266 : decode cL_law 266 = .ok (.invokevirtual 44, 3) := by decide +kernel
theorem dL_law_269 : decode cL_law 269 = .ok (.aload_n 2, 1) := by decide +kernel
theorem dL_law_270 : decode cL_law 270 = .ok (.aload_n 0, 1) := by decide +kernel
theorem dL_law_271 : decode cL_law 271 = .ok (.iload_n 3, 1) := by decide +kernel
theorem dL_law_272 : decode cL_law 272 = .ok (.iconst 1, 1) := by decide +kernel
theorem dL_law_273 : decode cL_law 273 = .ok (.iadd, 1) := by decide +kernel
theorem dL_law_274 : decode cL_law 274 = .ok (.iaload, 1) := by decide +kernel
theorem dL_law_275 : decode cL_law 275 = .ok (.aload_n 0, 1) := by decide +kernel
theorem dL_law_276 : decode cL_law 276 = .ok (.iload_n 3, 1) := by decide +kernel
theorem dL_law_277 : decode cL_law 277 = .ok (.iconst 2, 1) := by decide +kernel
theorem dL_law_278 : decode cL_law 278 = .ok (.iadd, 1) := by decide +kernel
theorem dL_law_279 : decode cL_law 279 = .ok (.iaload, 1) := by decide +kernel
theorem dL_law_280 : decode cL_law 280 = .ok (.invokevirtual 47, 3) := by decide +kernel
theorem dL_law_283 : decode cL_law 283 = .ok (.if_icmp .eq 67, 3) := by decide +kernel
theorem dL_law_286 : decode cL_law 286 = .ok (.iconst 0, 1) := by decide +kernel
theorem dL_law_287 : decode cL_law 287 = .ok (.ireturn, 1) := by decide +kernel
theorem dL_law_288 : decode cL_law 288 = .ok (.aload_n 1, 1) := by decide +kernel
theorem dL_law_289 : decode cL_law 289 = .ok (.invokevirtual 48, 3) := by decide +kernel
theorem dL_law_292 : decode cL_law 292 = .ok (.aload_n 2, 1) := by decide +kernel
theorem dL_law_293 : decode cL_law 293 = .ok (.invokevirtual 51, 3) := by decide +kernel
theorem dL_law_296 : decode cL_law 296 = .ok (.if_icmp .eq 54, 3) := by decide +kernel
theorem dL_law_299 : decode cL_law 299 = .ok (.iconst 0, 1) := by decide +kernel
theorem dL_law_300 : decode cL_law 300 = .ok (.ireturn, 1) := by decide +kernel
theorem dL_law_301 : decode cL_law 301 = .ok (.aload_n 1, 1) := by decide +kernel
theorem dL_law_302 : decode cL_law 302 = .ok (.aload_n 0, 1) := by decide +kernel
theorem dL_law_303 : decode cL_law 303 = .ok (.iload_n 3, 1) := by decide +kernel
theorem dL_law_304 : decode cL_law 304 = .ok (.iconst 1, 1) := by decide +kernel
theorem dL_law_305 : decode cL_law 305 = .ok (.iadd, 1) := by decide +kernel
theorem dL_law_306 : decode cL_law 306 = .ok (.iaload, 1) := by decide +kernel
theorem dL_law_307 : decode cL_law 307 = .ok (.invokevirtual 52, 3) := by decide +kernel
theorem dL_law_310 : decode cL_law 310 = .ok (.aload_n 2, 1) := by decide +kernel
theorem dL_law_311 : decode cL_law 311 = .ok (.aload_n 0, 1) := by decide +kernel
theorem dL_law_312 : decode cL_law 312 = .ok (.iload_n 3, 1) := by decide +kernel
theorem dL_law_313 : decode cL_law 313 = .ok (.iconst 1, 1) := by decide +kernel
theorem dL_law_314 : decode cL_law 314 = .ok (.iadd, 1) := by decide +kernel
theorem dL_law_315 : decode cL_law 315 = .ok (.iaload, 1) := by decide +kernel
theorem dL_law_316 : decode cL_law 316 = .ok (.invokevirtual 56, 3) := by decide +kernel
theorem dL_law_319 : decode cL_law 319 = .ok (.if_icmp .eq 31, 3) := by decide +kernel
theorem dL_law_322 : decode cL_law 322 = .ok (.iconst 0, 1) := by decide +kernel
theorem dL_law_323 : decode cL_law 323 = .ok (.ireturn, 1) := by decide +kernel
theorem dL_law_324 : decode cL_law 324 = .ok (.aload_n 1, 1) := by decide +kernel
theorem dL_law_325 : decode cL_law 325 = .ok (.invokevirtual 57, 3) := by decide +kernel
theorem dL_law_328 : decode cL_law 328 = .ok (.aload_n 2, 1) := by decide +kernel
theorem dL_law_329 : decode cL_law 329 = .ok (.invokevirtual 60, 3) := by decide +kernel
theorem dL_law_332 : decode cL_law 332 = .ok (.if_icmp .eq 18, 3) := by decide +kernel
theorem dL_law_335 : decode cL_law 335 = .ok (.iconst 0, 1) := by decide +kernel
theorem dL_law_336 : decode cL_law 336 = .ok (.ireturn, 1) := by decide +kernel
theorem dL_law_337 : decode cL_law 337 = .ok (.aload_n 1, 1) := by decide +kernel
theorem dL_law_338 : decode cL_law 338 = .ok (.invokevirtual 61, 3) := by decide +kernel
theorem dL_law_341 : decode cL_law 341 = .ok (.aload_n 2, 1) := by decide +kernel
theorem dL_law_342 : decode cL_law 342 = .ok (.invokevirtual 64, 3) := by decide +kernel
theorem dL_law_345 : decode cL_law 345 = .ok (.if_icmp .eq 5, 3) := by decide +kernel
theorem dL_law_348 : decode cL_law 348 = .ok (.iconst 0, 1) := by decide +kernel
theorem dL_law_349 : decode cL_law 349 = .ok (.ireturn, 1) := by decide +kernel
theorem dL_law_350 : decode cL_law 350 = .ok (.iinc 3 3, 3) := by decide +kernel
theorem dL_law_353 : decode cL_law 353 = .ok (.goto (-335), 3) := by decide +kernel
theorem dL_law_356 : decode cL_law 356 = .ok (.iconst 1, 1) := by decide +kernel
theorem dL_law_357 : decode cL_law 357 = .ok (.ireturn, 1) := by decide +kernel
end
section
/-! determinants over Int, by expansion along the first column; nothing of the program -/
def zd_sum (f : Nat → Int) : Nat → Int
  | 0 => 0
  | n + 1 => zd_sum f n + f n
theorem zd_sum_congr {f g : Nat → Int} : ∀ {n : Nat}, (∀ i, i < n → f i = g i) → zd_sum f n = zd_sum g n := by
  intro n
  induction n with
  | zero => intro _; rfl
  | succ n ih =>
    intro h
    show zd_sum f n + f n = zd_sum g n + g n
    rw [ih (fun i hi => h i (by omega)), h n (by omega)]
theorem zd_sum_zero {f : Nat → Int} : ∀ {n : Nat}, (∀ i, i < n → f i = 0) → zd_sum f n = 0 := by
  intro n
  induction n with
  | zero => intro _; rfl
  | succ n ih =>
    intro h
    show zd_sum f n + f n = 0
    rw [ih (fun i hi => h i (by omega)), h n (by omega)]
    rfl
theorem zd_sum_lin (x y : Int) (f g : Nat → Int) (n : Nat) : zd_sum (fun i => x * f i + y * g i) n = x * zd_sum f n + y * zd_sum g n := by
  induction n with
  | zero => show (0 : Int) = x * 0 + y * 0; omega
  | succ n ih =>
    show zd_sum (fun i => x * f i + y * g i) n + (x * f n + y * g n) = x * (zd_sum f n + f n) + y * (zd_sum g n + g n)
    rw [ih, Int.mul_add, Int.mul_add]
    omega
theorem zd_sum_mul (x : Int) (f : Nat → Int) (n : Nat) : zd_sum (fun i => f i * x) n = zd_sum f n * x := by
  induction n with
  | zero => show (0 : Int) = 0 * x; omega
  | succ n ih =>
    show zd_sum (fun i => f i * x) n + f n * x = (zd_sum f n + f n) * x
    rw [ih, Int.add_mul]
theorem zd_sum_ite (a : Nat) (c : Int) (n : Nat) : zd_sum (fun i => if i = a then c else 0) n = if a < n then c else 0 := by
  induction n with
  | zero => show (0 : Int) = if a < 0 then c else 0; rw [if_neg (by omega)]
  | succ n ih =>
    show zd_sum (fun i => if i = a then c else 0) n + (if n = a then c else 0) = _
    rw [ih]
    by_cases h1 : a < n
    · rw [if_pos h1, if_neg (by omega), if_pos (by omega)]; omega
    · by_cases h2 : n = a
      · rw [if_neg h1, if_pos h2, if_pos (by omega)]; omega
      · rw [if_neg h1, if_neg h2, if_neg (by omega)]; omega
theorem zd_sum_two {f : Nat → Int} {n a b : Nat} (ha : a < n) (hb : b < n) (hab : a ≠ b) (h : ∀ i, i < n → i ≠ a → i ≠ b → f i = 0) : zd_sum f n = f a + f b := by
  have e : zd_sum f n = zd_sum (fun i => 1 * (fun i => if i = a then f a else 0) i + 1 * (fun i => if i = b then f b else 0) i) n := by
    refine zd_sum_congr (fun i hi => ?_)
    show f i = 1 * (if i = a then f a else 0) + 1 * (if i = b then f b else 0)
    by_cases h1 : i = a
    · rw [if_pos h1, if_neg (by omega), h1]; omega
    · by_cases h2 : i = b
      · rw [if_neg h1, if_pos h2, h2]; omega
      · rw [if_neg h1, if_neg h2, h i hi h1 h2]; omega
  rw [e, zd_sum_lin, zd_sum_ite, zd_sum_ite, if_pos ha, if_pos hb]
  omega
theorem zd_sum_tail {f : Nat → Int} {a : Nat} : ∀ {n : Nat}, a ≤ n → (∀ i, a ≤ i → i < n → f i = 0) → zd_sum f n = zd_sum f a := by
  intro n
  induction n with
  | zero => intro h _; rw [show a = 0 by omega]
  | succ n ih =>
    intro h hz
    by_cases e : a = n + 1
    · rw [e]
    · show zd_sum f n + f n = _
      rw [ih (by omega) (fun i h1 h2 => hz i h1 (by omega)), hz n (by omega) (by omega)]
      omega
def zd_sk (i a : Nat) : Nat := if a < i then a else a + 1
def zd_sg (i : Nat) : Int := if i % 2 = 0 then 1 else -1
theorem zd_sk_lt {i a n : Nat} (h : a < n) : zd_sk i a < n + 1 := by
  unfold zd_sk
  by_cases h1 : a < i
  · rw [if_pos h1]; omega
  · rw [if_neg h1]; omega
theorem zd_sk_lo {i a : Nat} (h : a < i) : zd_sk i a = a := if_pos h
theorem zd_sk_hi {i a : Nat} (h : i ≤ a) : zd_sk i a = a + 1 := if_neg (by omega)
theorem zd_sk_ne (i a : Nat) : zd_sk i a ≠ i := by
  by_cases h1 : a < i
  · rw [zd_sk_lo h1]; omega
  · rw [zd_sk_hi (by omega)]; omega
theorem zd_sk_inj {i a b : Nat} (h : zd_sk i a = zd_sk i b) : a = b := by
  by_cases h1 : a < i
  · by_cases h2 : b < i
    · rw [zd_sk_lo h1, zd_sk_lo h2] at h; exact h
    · rw [zd_sk_lo h1, zd_sk_hi (by omega)] at h; omega
  · by_cases h2 : b < i
    · rw [zd_sk_hi (by omega), zd_sk_lo h2] at h; omega
    · rw [zd_sk_hi (by omega), zd_sk_hi (by omega)] at h; omega
theorem zd_sk_onto {i r n : Nat} (h : r ≠ i) (hr : r < n + 1) (hi : i < n + 1) : ∃ a, a < n ∧ zd_sk i a = r := by
  by_cases h1 : r < i
  · exact ⟨r, by omega, zd_sk_lo h1⟩
  · refine ⟨r - 1, by omega, ?_⟩
    rw [zd_sk_hi (by omega)]
    omega
theorem zd_sg_succ (i : Nat) : zd_sg (i + 1) = - zd_sg i := by
  unfold zd_sg
  by_cases h : i % 2 = 0
  · rw [if_pos h, if_neg (by omega)]
  · rw [if_neg h, if_pos (by omega)]; rfl
def zd_det : Nat → (Nat → Nat → Int) → Int
  | 0, _ => 1
  | n + 1, M => zd_sum (fun i => zd_sg i * M i 0 * zd_det n (fun a b => M (zd_sk i a) (b + 1))) (n + 1)
theorem zd_det_succ (n : Nat) (M : Nat → Nat → Int) : zd_det (n + 1) M = zd_sum (fun i => zd_sg i * M i 0 * zd_det n (fun a b => M (zd_sk i a) (b + 1))) (n + 1) := rfl
theorem zd_congr : ∀ (n : Nat) {M N : Nat → Nat → Int}, (∀ i, i < n → ∀ j, j < n → M i j = N i j) → zd_det n M = zd_det n N := by
  intro n
  induction n with
  | zero => intro M N _; rfl
  | succ n ih =>
    intro M N h
    rw [zd_det_succ, zd_det_succ]
    refine zd_sum_congr (fun i hi => ?_)
    rw [h i hi 0 (by omega), ih (M := fun a b => M (zd_sk i a) (b + 1)) (N := fun a b => N (zd_sk i a) (b + 1)) (fun a ha b hb => h _ (zd_sk_lt ha) _ (by omega))]
/-- linear in row r -/
theorem zd_lin : ∀ (n : Nat) {M A B : Nat → Nat → Int} {r : Nat} (x y : Int), r < n → (∀ i, i < n → i ≠ r → ∀ j, j < n → M i j = A i j ∧ M i j = B i j) → (∀ j, j < n → M r j = x * A r j + y * B r j) → zd_det n M = x * zd_det n A + y * zd_det n B := by
  intro n
  induction n with
  | zero => intro M A B r x y hr; omega
  | succ n ih =>
    intro M A B r x y hr ho hl
    rw [zd_det_succ, zd_det_succ, zd_det_succ, ← zd_sum_lin]
    refine zd_sum_congr (fun i hi => ?_)
    show zd_sg i * M i 0 * _ = x * (zd_sg i * A i 0 * _) + y * (zd_sg i * B i 0 * _)
    by_cases h : i = r
    · subst h
      have e1 : zd_det n (fun a b => A (zd_sk i a) (b + 1)) = zd_det n (fun a b => M (zd_sk i a) (b + 1)) :=
        zd_congr n (fun a ha b hb => ((ho _ (zd_sk_lt ha) (zd_sk_ne i a) _ (by omega)).1).symm)
      have e2 : zd_det n (fun a b => B (zd_sk i a) (b + 1)) = zd_det n (fun a b => M (zd_sk i a) (b + 1)) :=
        zd_congr n (fun a ha b hb => ((ho _ (zd_sk_lt ha) (zd_sk_ne i a) _ (by omega)).2).symm)
      rw [e1, e2, hl 0 (by omega)]
      generalize zd_det n (fun a b => M (zd_sk i a) (b + 1)) = d
      generalize zd_sg i = g
      generalize A i 0 = p
      generalize B i 0 = q
      grind
    · obtain ⟨a, ha, hs⟩ := zd_sk_onto (fun q => h q.symm) hr hi
      have e := ih (M := fun a b => M (zd_sk i a) (b + 1)) (A := fun a b => A (zd_sk i a) (b + 1)) (B := fun a b => B (zd_sk i a) (b + 1)) (r := a) x y ha (fun c hc hca b hb => ho _ (zd_sk_lt hc) (fun q => hca (zd_sk_inj (i := i) (by rw [hs]; exact q))) _ (by omega)) (fun b hb => by
        show M (zd_sk i a) (b + 1) = x * A (zd_sk i a) (b + 1) + y * B (zd_sk i a) (b + 1)
        rw [hs]
        exact hl _ (by omega))
      have e0 := ho i hi h 0 (by omega)
      rw [e, ← e0.1, ← e0.2]
      generalize zd_det n (fun a b => A (zd_sk i a) (b + 1)) = d1
      generalize zd_det n (fun a b => B (zd_sk i a) (b + 1)) = d2
      generalize zd_sg i = g
      generalize M i 0 = p
      grind
/-- two neighbouring rows alike -/
theorem zd_adj : ∀ (n : Nat) {M : Nat → Nat → Int} {r : Nat}, r + 1 < n → (∀ j, j < n → M r j = M (r + 1) j) → zd_det n M = 0 := by
  intro n
  induction n with
  | zero => intro M r hr; omega
  | succ n ih =>
    intro M r hr he
    rw [zd_det_succ, zd_sum_two (a := r) (b := r + 1) (by omega) hr (by omega)]
    · rw [zd_sg_succ, ← he 0 (by omega)]
      have e : zd_det n (fun a b => M (zd_sk (r + 1) a) (b + 1)) = zd_det n (fun a b => M (zd_sk r a) (b + 1)) := by
        refine zd_congr n (fun a ha b hb => ?_)
        show M (zd_sk (r + 1) a) (b + 1) = M (zd_sk r a) (b + 1)
        by_cases h1 : a < r
        · rw [zd_sk_lo h1, zd_sk_lo (by omega)]
        · by_cases h2 : a = r
          · rw [h2, zd_sk_lo (by omega), zd_sk_hi (by omega)]
            exact he _ (by omega)
          · rw [zd_sk_hi (by omega), zd_sk_hi (by omega)]
      rw [e]
      generalize zd_det n (fun a b => M (zd_sk r a) (b + 1)) = d
      generalize zd_sg r = g
      generalize M r 0 = p
      grind
    · intro i hi h1 h2
      show zd_sg i * M i 0 * zd_det n (fun a b => M (zd_sk i a) (b + 1)) = 0
      have e : zd_det n (fun a b => M (zd_sk i a) (b + 1)) = 0 := by
        by_cases h3 : i < r
        · refine ih (r := r - 1) (by omega) (fun j hj => ?_)
          show M (zd_sk i (r - 1)) (j + 1) = M (zd_sk i (r - 1 + 1)) (j + 1)
          rw [zd_sk_hi (by omega), zd_sk_hi (by omega), show r - 1 + 1 = r by omega]
          exact he _ (by omega)
        · refine ih (r := r) (by omega) (fun j hj => ?_)
          show M (zd_sk i r) (j + 1) = M (zd_sk i (r + 1)) (j + 1)
          rw [zd_sk_lo (by omega), zd_sk_lo (by omega)]
          exact he _ (by omega)
      rw [e, Int.mul_zero]
/-- a row put in place -/
def zd_row (M : Nat → Nat → Int) (r : Nat) (v : Nat → Int) : Nat → Nat → Int := fun i j => if i = r then v j else M i j
theorem zd_row_at {M : Nat → Nat → Int} {r : Nat} {v : Nat → Int} {j : Nat} : zd_row M r v r j = v j := if_pos rfl
theorem zd_row_ne {M : Nat → Nat → Int} {r i : Nat} {v : Nat → Int} {j : Nat} (h : i ≠ r) : zd_row M r v i j = M i j := if_neg h
/-- the row r as a sum of two -/
theorem zd_row_lin (n : Nat) (M : Nat → Nat → Int) {r : Nat} (hr : r < n) (x y : Int) (u v : Nat → Int) : zd_det n (zd_row M r (fun j => x * u j + y * v j)) = x * zd_det n (zd_row M r u) + y * zd_det n (zd_row M r v) :=
  zd_lin n x y hr (fun i _ hi j _ => ⟨by rw [zd_row_ne hi, zd_row_ne hi], by rw [zd_row_ne hi, zd_row_ne hi]⟩) (fun j _ => by rw [zd_row_at, zd_row_at, zd_row_at])
/-- two rows change places -/
def zd_sw (M : Nat → Nat → Int) (r s : Nat) : Nat → Nat → Int := fun i j => if i = r then M s j else if i = s then M r j else M i j
theorem zd_swap_of (n : Nat) {r s : Nat} (hr : r < n) (hs : s < n) (hrs : r ≠ s) (hz : ∀ N : Nat → Nat → Int, (∀ j, j < n → N r j = N s j) → zd_det n N = 0) (M : Nat → Nat → Int) : zd_det n (zd_sw M r s) = - zd_det n M := by
  have key : ∀ u v : Nat → Int, zd_det n (zd_row (zd_row M r u) s v) = - zd_det n (zd_row (zd_row M r v) s u) := by
    intro u v
    have h0 : zd_det n (zd_row (zd_row M r (fun j => 1 * u j + 1 * v j)) s (fun j => 1 * u j + 1 * v j)) = 0 :=
      hz _ (fun j _ => by rw [zd_row_ne hrs, zd_row_at, zd_row_at])
    have comm : ∀ a b : Nat → Int, zd_det n (zd_row (zd_row M r a) s b) = zd_det n (zd_row (zd_row M s b) r a) := by
      intro a b
      refine zd_congr n (fun i _ j _ => ?_)
      by_cases h1 : i = r
      · subst h1
        rw [zd_row_ne hrs, zd_row_at, zd_row_at]
      · by_cases h2 : i = s
        · subst h2
          rw [zd_row_at, zd_row_ne h1, zd_row_at]
        · rw [zd_row_ne h2, zd_row_ne h1, zd_row_ne h1, zd_row_ne h2]
    have huu : zd_det n (zd_row (zd_row M r u) s u) = 0 := hz _ (fun j _ => by rw [zd_row_ne hrs, zd_row_at, zd_row_at])
    have hvv : zd_det n (zd_row (zd_row M r v) s v) = 0 := hz _ (fun j _ => by rw [zd_row_ne hrs, zd_row_at, zd_row_at])
    rw [zd_row_lin n _ hs, comm, comm, zd_row_lin n _ hr, zd_row_lin n _ hr, ← comm, ← comm, ← comm, ← comm, huu, hvv] at h0
    omega
  have e1 : zd_det n (zd_sw M r s) = zd_det n (zd_row (zd_row M r (M s)) s (M r)) := by
    refine zd_congr n (fun i _ j _ => ?_)
    show (if i = r then M s j else if i = s then M r j else M i j) = _
    by_cases h1 : i = r
    · subst h1
      rw [if_pos rfl, zd_row_ne hrs, zd_row_at]
    · by_cases h2 : i = s
      · subst h2
        rw [if_neg h1, if_pos rfl, zd_row_at]
      · rw [if_neg h1, if_neg h2, zd_row_ne h2, zd_row_ne h1]
  have e2 : zd_det n (zd_row (zd_row M r (M r)) s (M s)) = zd_det n M := by
    refine zd_congr n (fun i _ j _ => ?_)
    by_cases h2 : i = s
    · subst h2
      rw [zd_row_at]
    · rw [zd_row_ne h2]
      by_cases h1 : i = r
      · subst h1
        rw [zd_row_at]
      · rw [zd_row_ne h1]
  rw [e1, key, e2]
/-- two rows alike -/
theorem zd_alike (n : Nat) : ∀ (d : Nat) {M : Nat → Nat → Int} {r s : Nat}, s = r + d + 1 → s < n → (∀ j, j < n → M r j = M s j) → zd_det n M = 0 := by
  intro d
  induction d with
  | zero =>
    intro M r s e hs he
    subst e
    exact zd_adj n hs he
  | succ d ih =>
    intro M r s e hs he
    have h1 : zd_det n (zd_sw M (s - 1) s) = - zd_det n M := by
      refine zd_swap_of n (by omega) hs (by omega) (fun N hN => ?_) M
      refine zd_adj n (r := s - 1) (by omega) (fun j hj => ?_)
      rw [show s - 1 + 1 = s by omega]
      exact hN j hj
    have h2 : zd_det n (zd_sw M (s - 1) s) = 0 := by
      refine ih (r := r) (s := s - 1) (by omega) (by omega) (fun j hj => ?_)
      show (if r = s - 1 then M s j else if r = s then M (s - 1) j else M r j) = (if s - 1 = s - 1 then M s j else if s - 1 = s then M (s - 1) j else M (s - 1) j)
      rw [if_neg (by omega), if_neg (by omega), if_pos rfl]
      exact he j hj
    omega
theorem zd_alike2 (n : Nat) {M : Nat → Nat → Int} {r s : Nat} (hr : r < n) (hs : s < n) (hrs : r ≠ s) (he : ∀ j, j < n → M r j = M s j) : zd_det n M = 0 := by
  rcases Nat.lt_or_ge r s with h | h
  · exact zd_alike n (s - r - 1) (r := r) (s := s) (by omega) hs he
  · exact zd_alike n (r - s - 1) (r := s) (s := r) (by omega) hr (fun j hj => (he j hj).symm)
theorem zd_swap (n : Nat) {r s : Nat} (hr : r < n) (hs : s < n) (hrs : r ≠ s) (M : Nat → Nat → Int) : zd_det n (zd_sw M r s) = - zd_det n M :=
  zd_swap_of n hr hs hrs (fun _ h => zd_alike2 n hr hs hrs h) M
/-- a multiple of row r is a sum of multiples of the first k rows and a rest -/
theorem zd_op (n : Nat) (M : Nat → Nat → Int) {r : Nat} (hr : r < n) (c : Int) (lam : Nat → Int) : ∀ (k : Nat) (T : Nat → Int), k ≤ r → (∀ j, j < n → c * M r j = zd_sum (fun i => lam i * M i j) k + T j) → c * zd_det n M = zd_det n (zd_row M r T) := by
  intro k
  induction k with
  | zero =>
    intro T _ h
    have e := zd_lin n (M := zd_row M r T) (A := M) (B := M) (r := r) c 0 hr (fun i _ hi j _ => ⟨zd_row_ne hi, zd_row_ne hi⟩) (fun j hj => by
      rw [zd_row_at]
      have h1 : c * M r j = 0 + T j := h j hj
      omega)
    rw [e]
    omega
  | succ k ih =>
    intro T hk h
    have e := ih (fun j => lam k * M k j + 1 * T j) (by omega) (fun j hj => by
      have h1 : c * M r j = zd_sum (fun i => lam i * M i j) k + lam k * M k j + T j := h j hj
      show c * M r j = zd_sum (fun i => lam i * M i j) k + (lam k * M k j + 1 * T j)
      omega)
    rw [e, zd_row_lin n M hr, zd_alike2 n (M := zd_row M r (M k)) (r := k) (s := r) (by omega) hr (by omega) (fun j _ => by rw [zd_row_at, zd_row_ne (by omega)])]
    omega
/-- rows from k on are zero in the first k columns: a block -/
theorem zd_block (m : Nat) : ∀ (k n : Nat) (N : Nat → Nat → Int), n = k + m → (∀ i, k ≤ i → i < n → ∀ j, j < k → N i j = 0) → zd_det n N = zd_det k N * zd_det m (fun a b => N (k + a) (k + b)) := by
  intro k
  induction k with
  | zero =>
    intro n N e _
    subst e
    rw [show zd_det 0 N = 1 from rfl, Int.one_mul, Nat.zero_add]
    refine zd_congr m (fun i _ j _ => ?_)
    rw [Nat.zero_add, Nat.zero_add]
  | succ k ih =>
    intro n N e hz
    obtain ⟨n', rfl⟩ : ∃ n', n = n' + 1 := ⟨k + m, by omega⟩
    rw [zd_det_succ, zd_det_succ k, ← zd_sum_mul, zd_sum_tail (a := k + 1) (n := n' + 1) (by omega) (fun i h1 h2 => by
      rw [hz i h1 h2 0 (by omega), Int.mul_zero, Int.zero_mul])]
    refine zd_sum_congr (fun i hi => ?_)
    show zd_sg i * N i 0 * zd_det n' (fun a b => N (zd_sk i a) (b + 1)) = zd_sg i * N i 0 * zd_det k (fun a b => N (zd_sk i a) (b + 1)) * zd_det m (fun a b => N (k + 1 + a) (k + 1 + b))
    rw [ih n' (fun a b => N (zd_sk i a) (b + 1)) (by omega) (fun a h1 h2 j hj => by
      show N (zd_sk i a) (j + 1) = 0
      rw [zd_sk_hi (by omega)]
      exact hz _ (by omega) (by omega) _ (by omega)), ← Int.mul_assoc]
    refine congrArg _ (zd_congr m (fun a _ b _ => ?_))
    show N (zd_sk i (k + a)) (k + b + 1) = N (k + 1 + a) (k + 1 + b)
    rw [zd_sk_hi (by omega), show k + a + 1 = k + 1 + a by omega, show k + b + 1 = k + 1 + b by omega]
/-- ... and one column more: nothing is left -/
theorem zd_none (k n : Nat) (N : Nat → Nat → Int) (hk : k < n) (hz : ∀ i, k ≤ i → i < n → ∀ j, j ≤ k → N i j = 0) : zd_det n N = 0 := by
  obtain ⟨m, rfl⟩ : ∃ m, n = k + (m + 1) := ⟨n - k - 1, by omega⟩
  rw [zd_block (m + 1) k _ N rfl (fun i h1 h2 j hj => hz i h1 h2 j (by omega)), zd_det_succ, zd_sum_zero (fun i hi => by
    show zd_sg i * N (k + i) (k + 0) * _ = 0
    rw [hz (k + i) (by omega) (by omega) (k + 0) (by omega), Int.mul_zero, Int.zero_mul]), Int.mul_zero]
theorem zd_det1 (M : Nat → Nat → Int) : zd_det 1 M = M 0 0 := by
  show 0 + zd_sg 0 * M 0 0 * 1 = M 0 0
  rw [show zd_sg 0 = 1 from rfl]
  omega
theorem zd_det2 (M : Nat → Nat → Int) : zd_det 2 M = M 0 0 * M 1 1 - M 1 0 * M 0 1 := by
  rw [zd_det_succ]
  show 0 + zd_sg 0 * M 0 0 * zd_det 1 (fun a b => M (zd_sk 0 a) (b + 1)) + zd_sg 1 * M 1 0 * zd_det 1 (fun a b => M (zd_sk 1 a) (b + 1)) = _
  rw [zd_det1, zd_det1, show zd_sg 0 = 1 from rfl, show zd_sg 1 = -1 from rfl, show zd_sk 0 0 = 1 from rfl, show zd_sk 1 0 = 0 from rfl]
  show 0 + 1 * M 0 0 * M 1 1 + -1 * M 1 0 * M 0 1 = _
  grind
/-- a bound by the entries -/
def zd_bd : Nat → Nat
  | 0 => 1
  | n + 1 => (n + 1) * (4 * zd_bd n)
theorem zd_sum_bd {f : Nat → Int} {b : Nat} : ∀ {n : Nat}, (∀ i, i < n → (f i).natAbs ≤ b) → (zd_sum f n).natAbs ≤ n * b := by
  intro n
  induction n with
  | zero => intro _; show (0 : Int).natAbs ≤ 0 * b; simp
  | succ n ih =>
    intro h
    have h1 := ih (fun i hi => h i (by omega))
    have h2 := h n (by omega)
    have h3 : (zd_sum f n + f n).natAbs ≤ (zd_sum f n).natAbs + (f n).natAbs := Int.natAbs_add_le _ _
    show (zd_sum f n + f n).natAbs ≤ (n + 1) * b
    rw [Nat.succ_mul]
    omega
theorem zd_sg_abs (i : Nat) : (zd_sg i).natAbs = 1 := by
  unfold zd_sg
  by_cases h : i % 2 = 0
  · rw [if_pos h]; rfl
  · rw [if_neg h]; rfl
theorem zd_bound : ∀ (n : Nat) {M : Nat → Nat → Int}, (∀ i, i < n → ∀ j, j < n → (M i j).natAbs ≤ 4) → (zd_det n M).natAbs ≤ zd_bd n := by
  intro n
  induction n with
  | zero => intro M _; exact Nat.le_refl 1
  | succ n ih =>
    intro M h
    rw [zd_det_succ]
    refine zd_sum_bd (fun i hi => ?_)
    show (zd_sg i * M i 0 * zd_det n (fun a b => M (zd_sk i a) (b + 1))).natAbs ≤ 4 * zd_bd n
    rw [Int.natAbs_mul, Int.natAbs_mul, zd_sg_abs, Nat.one_mul]
    exact Nat.mul_le_mul (h i hi 0 (by omega)) (ih (fun a ha b hb => h _ (zd_sk_lt ha) _ (by omega)))
end
section
/-! elimination without fractions, over Int: what the table holds are minors; nothing of the program -/
/-- row r of the table T against the rows of A, with k pivots done, d the last pivot -/
def zb_row (A T : Nat → Nat → Int) (k : Nat) (d : Int) (r : Nat) : Prop := (∀ c, c < k → T r c = 0) ∧ ∃ (m : Int) (lam : Nat → Int), m ≠ 0 ∧ ∀ c, c < 8 → m * d * A r c = zd_sum (fun i => lam i * A i c) k + m * T r c
def zb_inv (A T : Nat → Nat → Int) (k : Nat) (d : Int) : Prop := d = zd_det k A ∧ d ≠ 0 ∧ ∀ r, k ≤ r → r < 8 → zb_row A T k d r
/-- the rows below k and row r, the columns below k and column c -/
def zb_bord (A : Nat → Nat → Int) (k r c : Nat) : Nat → Nat → Int := fun i j => A (if i < k then i else r) (if j < k then j else c)
theorem zb_start (A : Nat → Nat → Int) : zb_inv A A 0 1 := by
  refine ⟨rfl, by decide, fun r _ _ => ⟨fun c hc => by omega, 1, fun _ => 0, by decide, fun c _ => ?_⟩⟩
  show 1 * 1 * A r c = 0 + 1 * A r c
  omega
theorem zb_col_lt {k c j : Nat} (hk : k ≤ 8) (hc : c < 8) : (if j < k then j else c) < 8 := by
  by_cases h : j < k
  · rw [if_pos h]; omega
  · rw [if_neg h]; exact hc
theorem zb_minor {A T : Nat → Nat → Int} {k : Nat} {d : Int} (h : zb_inv A T k d) {r c : Nat} (hkr : k ≤ r) (hr : r < 8) (hkc : k ≤ c) (hc : c < 8) : zd_det (k + 1) (zb_bord A k r c) = T r c := by
  obtain ⟨hd, hd0, hrows⟩ := h
  obtain ⟨hz, m, lam, hm, hrow⟩ := hrows r hkr hr
  have e := zd_op (k + 1) (zb_bord A k r c) (r := k) (by omega) (m * d) lam k (fun j => m * T r (if j < k then j else c)) (Nat.le_refl k) (fun j hj => by
    have h1 := hrow (if j < k then j else c) (zb_col_lt (by omega) hc)
    show m * d * A (if k < k then k else r) (if j < k then j else c) = _
    rw [if_neg (by omega), h1]
    refine congrArg (· + _) (zd_sum_congr (fun i hi => ?_))
    show _ = lam i * A (if i < k then i else r) (if j < k then j else c)
    rw [if_pos hi])
  rw [zd_block 1 k (k + 1) (zd_row (zb_bord A k r c) k (fun j => m * T r (if j < k then j else c))) rfl (fun i h1 h2 j hj => by
    rw [show i = k by omega, zd_row_at, if_pos hj, hz j hj, Int.mul_zero]), zd_det1] at e
  rw [show zd_row (zb_bord A k r c) k (fun j => m * T r (if j < k then j else c)) (k + 0) (k + 0) = m * T r c from by
    rw [Nat.add_zero, zd_row_at, if_neg (by omega)]] at e
  rw [zd_congr k (M := zd_row (zb_bord A k r c) k (fun j => m * T r (if j < k then j else c))) (N := A) (fun i hi j hj => by
    rw [zd_row_ne (by omega)]
    show A (if i < k then i else r) (if j < k then j else c) = A i j
    rw [if_pos hi, if_pos hj]), ← hd] at e
  have hmd : m * d ≠ 0 := Int.mul_ne_zero hm hd0
  refine Int.eq_of_mul_eq_mul_left hmd ?_
  rw [e]
  grind
theorem zb_pivot {A T : Nat → Nat → Int} {k : Nat} {d : Int} (h : zb_inv A T k d) (hk : k < 8) : T k k = zd_det (k + 1) A := by
  rw [← zb_minor h (Nat.le_refl k) hk (Nat.le_refl k) hk]
  refine zd_congr (k + 1) (fun i hi j hj => ?_)
  show A (if i < k then i else k) (if j < k then j else k) = A i j
  by_cases h1 : i < k
  · rw [if_pos h1]
    by_cases h2 : j < k
    · rw [if_pos h2]
    · rw [if_neg h2, show j = k by omega]
  · rw [if_neg h1, show i = k by omega]
    by_cases h2 : j < k
    · rw [if_pos h2]
    · rw [if_neg h2, show j = k by omega]
/-- the identity that makes the division leave nothing over -/
theorem zb_syl {A T : Nat → Nat → Int} {k : Nat} {d : Int} (h : zb_inv A T k d) {r c : Nat} (hkr : k < r) (hr : r < 8) (hkc : k < c) (hc : c < 8) : d * zd_det (k + 2) (zb_bord A (k + 1) r c) = T r c * T k k - T r k * T k c := by
  obtain ⟨hd, hd0, hrows⟩ := h
  obtain ⟨hz, m, lam, hm, hrow⟩ := hrows r (by omega) hr
  obtain ⟨hz2, m2, lam2, hm2, hrow2⟩ := hrows k (Nat.le_refl k) (by omega)
  have e1 := zd_op (k + 2) (zb_bord A (k + 1) r c) (r := k + 1) (by omega) (m * d) lam k (fun j => m * T r (if j < k + 1 then j else c)) (by omega) (fun j hj => by
    have h1 := hrow (if j < k + 1 then j else c) (zb_col_lt (by omega) hc)
    show m * d * A (if k + 1 < k + 1 then k + 1 else r) (if j < k + 1 then j else c) = _
    rw [if_neg (by omega), h1]
    refine congrArg (· + _) (zd_sum_congr (fun i hi => ?_))
    show _ = lam i * A (if i < k + 1 then i else r) (if j < k + 1 then j else c)
    rw [if_pos (by omega : i < k + 1)])
  have e2 := zd_op (k + 2) (zd_row (zb_bord A (k + 1) r c) (k + 1) (fun j => m * T r (if j < k + 1 then j else c))) (r := k) (by omega) (m2 * d) lam2 k (fun j => m2 * T k (if j < k + 1 then j else c)) (Nat.le_refl k) (fun j hj => by
    have h1 := hrow2 (if j < k + 1 then j else c) (zb_col_lt (by omega) hc)
    rw [zd_row_ne (by omega : k ≠ k + 1)]
    show m2 * d * A (if k < k + 1 then k else r) (if j < k + 1 then j else c) = _
    rw [if_pos (by omega : k < k + 1), h1]
    refine congrArg (· + _) (zd_sum_congr (fun i hi => ?_))
    show lam2 i * A i (if j < k + 1 then j else c) = lam2 i * zd_row (zb_bord A (k + 1) r c) (k + 1) (fun j => m * T r (if j < k + 1 then j else c)) i j
    rw [zd_row_ne (by omega : i ≠ k + 1)]
    show _ = lam2 i * A (if i < k + 1 then i else r) (if j < k + 1 then j else c)
    rw [if_pos (by omega : i < k + 1)])
  rw [zd_block 2 k (k + 2) (zd_row (zd_row (zb_bord A (k + 1) r c) (k + 1) (fun j => m * T r (if j < k + 1 then j else c))) k (fun j => m2 * T k (if j < k + 1 then j else c))) rfl (fun i h1 h2 j hj => by
    by_cases h3 : i = k
    · rw [h3, zd_row_at, if_pos (by omega : j < k + 1), hz2 j hj, Int.mul_zero]
    · rw [zd_row_ne h3, show i = k + 1 by omega, zd_row_at, if_pos (by omega : j < k + 1), hz j hj, Int.mul_zero]), zd_det2] at e2
  rw [zd_congr k (M := zd_row (zd_row (zb_bord A (k + 1) r c) (k + 1) (fun j => m * T r (if j < k + 1 then j else c))) k (fun j => m2 * T k (if j < k + 1 then j else c))) (N := A) (fun i hi j hj => by
    rw [zd_row_ne (by omega : i ≠ k), zd_row_ne (by omega : i ≠ k + 1)]
    show A (if i < k + 1 then i else r) (if j < k + 1 then j else c) = A i j
    rw [if_pos (by omega : i < k + 1), if_pos (by omega : j < k + 1)]), ← hd] at e2
  change _ = d * ((zd_row (zd_row (zb_bord A (k + 1) r c) (k + 1) (fun j => m * T r (if j < k + 1 then j else c))) k (fun j => m2 * T k (if j < k + 1 then j else c))) k k * (zd_row (zd_row (zb_bord A (k + 1) r c) (k + 1) (fun j => m * T r (if j < k + 1 then j else c))) k (fun j => m2 * T k (if j < k + 1 then j else c))) (k + 1) (k + 1) - (zd_row (zd_row (zb_bord A (k + 1) r c) (k + 1) (fun j => m * T r (if j < k + 1 then j else c))) k (fun j => m2 * T k (if j < k + 1 then j else c))) (k + 1) k * (zd_row (zd_row (zb_bord A (k + 1) r c) (k + 1) (fun j => m * T r (if j < k + 1 then j else c))) k (fun j => m2 * T k (if j < k + 1 then j else c))) k (k + 1)) at e2
  rw [zd_row_at, zd_row_at, zd_row_ne (by omega : k + 1 ≠ k), zd_row_ne (by omega : k + 1 ≠ k), zd_row_at, zd_row_at, if_pos (by omega : k < k + 1), if_neg (by omega : ¬ k + 1 < k + 1)] at e2
  rw [← e1] at e2
  have hq : m * m2 * d ≠ 0 := Int.mul_ne_zero (Int.mul_ne_zero hm hm2) hd0
  refine Int.eq_of_mul_eq_mul_left hq ?_
  generalize zd_det (k + 2) (zb_bord A (k + 1) r c) = D at e2
  generalize T r c = trc at e2 ⊢
  generalize T k k = tkk at e2 ⊢
  generalize T r k = trk at e2 ⊢
  generalize T k c = tkc at e2 ⊢
  have e3 : m * m2 * d * (d * D) = m2 * d * (m * d * D) := by grind
  rw [e3, e2]
  grind
/-- the next table's row, given that d times it is the cross difference -/
theorem zb_next_row {A T T' : Nat → Nat → Int} {k : Nat} {d : Int} (h : zb_inv A T k d) (hk : k < 8) {r : Nat} (hkr : k < r) (hr : r < 8) (hz : ∀ c, c < k + 1 → T' r c = 0) (hx : ∀ c, c < 8 → d * T' r c = T r c * T k k - T r k * T k c) : zb_row A T' (k + 1) (T k k) r := by
  obtain ⟨hd, hd0, hrows⟩ := h
  obtain ⟨hz1, m, lam, hm, hrow⟩ := hrows r (by omega) hr
  obtain ⟨hz2, m2, lam2, hm2, hrow2⟩ := hrows k (Nat.le_refl k) hk
  refine ⟨hz, m * m2 * d, fun i => if i < k then T k k * m2 * lam i - T r k * m * lam2 i else T r k * m * m2 * d, Int.mul_ne_zero (Int.mul_ne_zero hm hm2) hd0, fun c hc => ?_⟩
  have h1 := hrow c hc
  have h2 := hrow2 c hc
  have h3 := hx c hc
  show m * m2 * d * T k k * A r c = zd_sum (fun i => (if i < k then T k k * m2 * lam i - T r k * m * lam2 i else T r k * m * m2 * d) * A i c) k + (if k < k then T k k * m2 * lam k - T r k * m * lam2 k else T r k * m * m2 * d) * A k c + m * m2 * d * T' r c
  rw [if_neg (by omega : ¬ k < k)]
  have e : zd_sum (fun i => (if i < k then T k k * m2 * lam i - T r k * m * lam2 i else T r k * m * m2 * d) * A i c) k = zd_sum (fun i => (T k k * m2) * (fun i => lam i * A i c) i + (- (T r k * m)) * (fun i => lam2 i * A i c) i) k := by
    refine zd_sum_congr (fun i hi => ?_)
    show (if i < k then T k k * m2 * lam i - T r k * m * lam2 i else T r k * m * m2 * d) * A i c = T k k * m2 * (lam i * A i c) + -(T r k * m) * (lam2 i * A i c)
    rw [if_pos hi]
    grind
  rw [e, zd_sum_lin]
  generalize zd_sum (fun i => lam i * A i c) k = s1 at h1 ⊢
  generalize zd_sum (fun i => lam2 i * A i c) k = s2 at h2 ⊢
  generalize T k k = tkk at h3 ⊢
  generalize T r k = trk at h3 ⊢
  generalize T' r c = t' at h3 ⊢
  generalize A r c = ar at h1 ⊢
  generalize A k c = ak at h2 ⊢
  generalize T r c = trc at h1 h3
  generalize T k c = tkc at h2 h3
  have e1 : s1 = m * d * ar - m * trc := by omega
  have e2 : s2 = m2 * d * ak - m2 * tkc := by omega
  have e3 : m * m2 * d * t' = m * m2 * (trc * tkk - trk * tkc) := by rw [← h3]; grind
  rw [e1, e2, e3]
  grind
/-- one step: T' is the table behind it -/
theorem zb_step {A T T' : Nat → Nat → Int} {k : Nat} {d : Int} (h : zb_inv A T k d) (hk : k < 8) (hp : T k k ≠ 0) (hlo : ∀ r c, k < r → r < 8 → c < k → T' r c = T r c) (hat : ∀ r, k < r → r < 8 → T' r k = 0) (hhi : ∀ r c, k < r → r < 8 → k < c → c < 8 → T' r c = (T r c * T k k - T r k * T k c).tdiv d) : zb_inv A T' (k + 1) (T k k) := by
  refine ⟨zb_pivot h hk, hp, fun r h1 h2 => ?_⟩
  have hzr := (h.2.2 r (by omega) h2).1
  have hzk := (h.2.2 k (Nat.le_refl k) hk).1
  have hz : ∀ c, c < k + 1 → T' r c = 0 := by
    intro c hc
    by_cases e : c = k
    · rw [e]; exact hat r (by omega) h2
    · rw [hlo r c (by omega) h2 (by omega)]; exact hzr c (by omega)
  refine zb_next_row h hk (by omega) h2 hz (fun c hc => ?_)
  by_cases e1 : c < k
  · rw [hz c (by omega), hzr c e1, hzk c e1]
    simp
  · by_cases e2 : c = k
    · rw [e2, hz k (by omega)]
      grind
    · rw [hhi r c (by omega) h2 (by omega) hc, ← zb_syl h (by omega) h2 (by omega) hc, Int.mul_tdiv_cancel_left _ h.2.1]
/-- what the step writes is a minor: so it is small -/
theorem zb_small {A T : Nat → Nat → Int} {k : Nat} {d : Int} (h : zb_inv A T k d) (hk : k < 8) (hA : ∀ i, i < 8 → ∀ j, j < 8 → (A i j).natAbs ≤ 4) {r c : Nat} (hr : k ≤ r) (hr8 : r < 8) (hc : k ≤ c) (hc8 : c < 8) : (T r c).natAbs ≤ zd_bd (k + 1) := by
  rw [← zb_minor h hr hr8 hc hc8]
  refine zd_bound (k + 1) (fun i hi j hj => hA _ ?_ _ ?_)
  · by_cases e : i < k
    · rw [if_pos e]; omega
    · rw [if_neg e]; exact hr8
  · by_cases e : j < k
    · rw [if_pos e]; omega
    · rw [if_neg e]; exact hc8
/-- two rows from k on change places, in both -/
theorem zb_swap {A T T' : Nat → Nat → Int} {k : Nat} {d : Int} (h : zb_inv A T k d) {a : Nat} (hka : k ≤ a) (ha : a < 8) (hT : ∀ i, i < 8 → ∀ j, j < 8 → T' i j = zd_sw T a k i j) : zb_inv (zd_sw A a k) T' k d := by
  obtain ⟨hd, hd0, hrows⟩ := h
  have low : ∀ i, i < k → ∀ j, zd_sw A a k i j = A i j := by
    intro i hi j
    show (if i = a then A k j else if i = k then A a j else A i j) = A i j
    rw [if_neg (by omega), if_neg (by omega)]
  have one : ∀ r r', k ≤ r' → r' < 8 → r < 8 → (∀ j, zd_sw A a k r j = A r' j) → (∀ j, j < 8 → T' r j = T r' j) → zb_row (zd_sw A a k) T' k d r := by
    intro r r' h1 h2 hr hA hT'
    obtain ⟨hz, m, lam, hm, hrow⟩ := hrows r' h1 h2
    refine ⟨fun c hc => by rw [hT' c (by omega)]; exact hz c hc, m, lam, hm, fun c hc => ?_⟩
    rw [hA c, hT' c hc, hrow c hc]
    refine congrArg (· + _) (zd_sum_congr (fun i hi => ?_))
    show lam i * A i c = lam i * zd_sw A a k i c
    rw [low i hi]
  refine ⟨by rw [hd]; exact zd_congr k (fun i hi j _ => (low i hi j).symm), hd0, fun r h1 h2 => ?_⟩
  by_cases e1 : r = a
  · subst e1
    refine one r k (Nat.le_refl k) (by omega) h2 (fun j => if_pos rfl) (fun j hj => ?_)
    rw [hT r h2 j hj]
    exact if_pos rfl
  · by_cases e2 : r = k
    · subst e2
      refine one r a hka ha h2 (fun j => ?_) (fun j hj => ?_)
      · show (if r = a then A r j else if r = r then A a j else A r j) = A a j
        rw [if_neg e1, if_pos rfl]
      · rw [hT r h2 j hj]
        show (if r = a then T r j else if r = r then T a j else T r j) = T a j
        rw [if_neg e1, if_pos rfl]
    · refine one r r h1 h2 h2 (fun j => ?_) (fun j hj => ?_)
      · show (if r = a then A k j else if r = k then A a j else A r j) = A r j
        rw [if_neg e1, if_neg e2]
      · rw [hT r h2 j hj]
        show (if r = a then T k j else if r = k then T a j else T r j) = T r j
        rw [if_neg e1, if_neg e2]
/-- no pivot: the determinant is zero -/
theorem zb_zero {A T : Nat → Nat → Int} {k : Nat} {d : Int} (h : zb_inv A T k d) (hk : k < 8) (h0 : ∀ r, k ≤ r → r < 8 → T r k = 0) : zd_det 8 A = 0 := by
  obtain ⟨hd, hd0, hrows⟩ := h
  have key : ∀ t, t ≤ 8 - k → ∃ (q : Int) (N : Nat → Nat → Int), q ≠ 0 ∧ q * zd_det 8 A = zd_det 8 N ∧ (∀ i, i < k ∨ k + t ≤ i → ∀ j, N i j = A i j) ∧ (∀ i, k ≤ i → i < k + t → ∀ j, j ≤ k → N i j = 0) := by
    intro t
    induction t with
    | zero =>
      intro _
      exact ⟨1, A, by decide, by omega, fun _ _ _ => rfl, fun i h1 h2 => by omega⟩
    | succ t ih =>
      intro ht
      obtain ⟨q, N, hq, he, hN, hZ⟩ := ih (by omega)
      obtain ⟨hz, m, lam, hm, hrow⟩ := hrows (k + t) (by omega) (by omega)
      have e := zd_op 8 N (r := k + t) (by omega) (m * d) lam k (fun j => m * T (k + t) j) (by omega) (fun j hj => by
        rw [hN (k + t) (Or.inr (Nat.le_refl _)) j, hrow j hj]
        refine congrArg (· + _) (zd_sum_congr (fun i hi => ?_))
        show lam i * A i j = lam i * N i j
        rw [hN i (Or.inl hi) j])
      refine ⟨m * d * q, zd_row N (k + t) (fun j => m * T (k + t) j), Int.mul_ne_zero (Int.mul_ne_zero hm hd0) hq, by rw [Int.mul_assoc, he]; exact e, fun i hi j => ?_, fun i h1 h2 j hj => ?_⟩
      · rw [zd_row_ne (by omega)]
        exact hN i (by omega) j
      · by_cases e1 : i = k + t
        · rw [e1, zd_row_at]
          by_cases e2 : j = k
          · rw [e2, h0 (k + t) (by omega) (by omega), Int.mul_zero]
          · rw [hz j (by omega), Int.mul_zero]
        · rw [zd_row_ne e1]
          exact hZ i h1 (by omega) j hj
  obtain ⟨q, N, hq, he, -, hZ⟩ := key (8 - k) (Nat.le_refl _)
  rw [zd_none k 8 N hk (fun i h1 h2 j hj => hZ i h1 (by omega) j hj)] at he
  rcases Int.mul_eq_zero.mp he with h1 | h1
  · exact absurd h1 hq
  · exact h1
end
section
/-! the tilings of the reference, in plain numbers, and the determinant of the signed table; nothing of the machine -/
def zt_sum (f : Nat → Nat) : Nat → Nat
  | 0 => 0
  | n + 1 => zt_sum f n + f n
theorem zt_sum_congr {f g : Nat → Nat} : ∀ {n : Nat}, (∀ i, i < n → f i = g i) → zt_sum f n = zt_sum g n := by
  intro n
  induction n with
  | zero => intro _; rfl
  | succ n ih =>
    intro h
    show zt_sum f n + f n = zt_sum g n + g n
    rw [ih (fun i hi => h i (by omega)), h n (by omega)]
theorem zt_sum_add (f g : Nat → Nat) (n : Nat) : zt_sum (fun i => f i + g i) n = zt_sum f n + zt_sum g n := by
  induction n with
  | zero => rfl
  | succ n ih =>
    show zt_sum (fun i => f i + g i) n + (f n + g n) = (zt_sum f n + f n) + (zt_sum g n + g n)
    rw [ih]
    omega
theorem zt_sum_le {f g : Nat → Nat} : ∀ {n : Nat}, (∀ i, i < n → f i ≤ g i) → zt_sum f n ≤ zt_sum g n := by
  intro n
  induction n with
  | zero => intro _; exact Nat.le_refl _
  | succ n ih =>
    intro h
    show zt_sum f n + f n ≤ zt_sum g n + g n
    have h1 := ih (fun i hi => h i (by omega))
    have h2 := h n (by omega)
    omega
theorem zt_sum_zero {f : Nat → Nat} : ∀ {n : Nat}, zt_sum f n = 0 ↔ ∀ i, i < n → f i = 0 := by
  intro n
  induction n with
  | zero => exact ⟨fun _ i hi => absurd hi (by omega), fun _ => rfl⟩
  | succ n ih =>
    constructor
    · intro h i hi
      have h1 : zt_sum f n + f n = 0 := h
      by_cases e : i = n
      · rw [e]; omega
      · exact ih.mp (by omega) i (by omega)
    · intro h
      show zt_sum f n + f n = 0
      rw [ih.mpr (fun i hi => h i (by omega)), h n (by omega)]
theorem zt_sum_one {f : Nat → Nat} {n i : Nat} (hi : i < n) : f i ≤ zt_sum f n := by
  induction n with
  | zero => omega
  | succ n ih =>
    show f i ≤ zt_sum f n + f n
    by_cases e : i = n
    · rw [e]; omega
    · have := ih (by omega); omega
/-- the first square that isn't covered, from s on, n squares long -/
def zt_openF (cov : Nat) : Nat → Nat → Nat
  | 0, s => s
  | n + 1, s => if cov / 2 ^ s % 2 = 0 then s else zt_openF cov n (s + 1)
def zt_open (cov : Nat) : Nat := zt_openF cov 16 0
theorem zt_openF_le (cov : Nat) : ∀ n s, zt_openF cov n s ≤ s + n := by
  intro n
  induction n with
  | zero => intro s; exact Nat.le_refl _
  | succ n ih =>
    intro s
    show (if cov / 2 ^ s % 2 = 0 then s else zt_openF cov n (s + 1)) ≤ s + (n + 1)
    by_cases h : cov / 2 ^ s % 2 = 0
    · rw [if_pos h]; omega
    · rw [if_neg h]; have := ih (s + 1); omega
theorem zt_open_le (cov : Nat) : zt_open cov ≤ 16 := by
  have := zt_openF_le cov 16 0
  unfold zt_open
  omega
def zt_up (bits k : Nat) : Nat := bits / 2 ^ k % 2
def zt_oth (bits k cov : Nat) : Nat := if zt_up bits k = 1 then zt_open cov + 4 else zt_open cov + 1
def zt_plc (bits k cov : Nat) : Nat := if zt_up bits k = 1 then 12 + zt_open cov else zt_open cov / 4 * 3 + zt_open cov % 4
def zt_stop (bits k cov : Nat) : Prop := 15 < zt_oth bits k cov ∨ (zt_up bits k = 0 ∧ zt_open cov % 4 = 3) ∨ cov / 2 ^ zt_oth bits k cov % 2 = 1
def zt_stopB (bits k cov : Nat) : Bool := Nat.blt 15 (zt_oth bits k cov) || (Nat.beq (zt_up bits k) 0 && Nat.beq (zt_open cov % 4) 3) || Nat.beq (cov / 2 ^ zt_oth bits k cov % 2) 1
theorem zt_stopB_iff (bits k cov : Nat) : zt_stopB bits k cov = true ↔ zt_stop bits k cov := by
  unfold zt_stopB zt_stop
  rw [Bool.or_eq_true, Bool.or_eq_true, Bool.and_eq_true, Nat.blt_eq, Nat.beq_eq, Nat.beq_eq, Nat.beq_eq]
  constructor
  · rintro ((h | h) | h)
    · exact Or.inl h
    · exact Or.inr (Or.inl h)
    · exact Or.inr (Or.inr h)
  · rintro (h | h | h)
    · exact Or.inl (Or.inl h)
    · exact Or.inl (Or.inr h)
    · exact Or.inr h
/-- the tiling from its k-th choice on, n choices long -/
def zt_go (bits : Nat) : Nat → Nat → Nat → Nat → Nat
  | 0, _, _, pl => pl
  | n + 1, k, cov, pl => if zt_stopB bits k cov = true then 0 else zt_go bits n (k + 1) (cov ||| 2 ^ zt_open cov ||| 2 ^ zt_oth bits k cov) (pl ||| 2 ^ zt_plc bits k cov)
def zt_til (bits : Nat) : Nat := zt_go bits 8 0 0 0
def zt_bit (m p : Nat) : Prop := m / 2 ^ p % 2 = 1
/-- the product of the weights of a mask's places below n -/
def zt_pr (v : Nat → Nat) (m : Nat) : Nat → Nat
  | 0 => 1
  | n + 1 => if m / 2 ^ n % 2 = 1 then zt_pr v m n * v n else zt_pr v m n
def zt_worth (v : Nat → Nat) (m : Nat) : Nat := if m = 0 then 0 else zt_pr v m 24
/-- the sum over all tilings; over those that have all places of a set -/
def zt_T (v : Nat → Nat) : Nat := zt_sum (fun b => zt_worth v (zt_til b)) 256
def zt_W (v : Nat → Nat) (q : Nat) : Nat := zt_sum (fun b => if zt_til b &&& q = q then zt_worth v (zt_til b) else 0) 256
/-- first and second square of a place; black squares; a place's cell of the table, and its sign -/
def zk_fs (p : Nat) : Nat := if 12 ≤ p then p - 12 else p / 3 * 4 + p % 3
def zk_ss (p : Nat) : Nat := if 12 ≤ p then zk_fs p + 4 else zk_fs p + 1
def zk_blk (s : Nat) : Bool := Nat.beq ((s / 4 + s % 4) % 2) 0
def zk_pos (p : Nat) : Nat := if zk_blk (zk_fs p) = true then zk_fs p / 2 * 8 + zk_ss p / 2 else zk_ss p / 2 * 8 + zk_fs p / 2
def zk_neg (p : Nat) : Bool := Nat.ble 12 p && Nat.beq (zk_fs p % 2) 1
/-- the table with the first n places entered -/
def zk_tab (v : Nat → Nat) : Nat → Nat → Int
  | 0, _ => 0
  | n + 1, q => if q = zk_pos n then (if zk_neg n = true then - (v n : Int) else (v n : Int)) else zk_tab v n q
def zk_A (v : Nat → Nat) : Nat → Nat → Int := fun i j => zk_tab v 24 (i * 8 + j)
theorem zk_pos_lt : ∀ p, p < 24 → zk_pos p < 64 := by decide +kernel
/-- the same with names for the weights -/
def zk_sym : Nat → Nat → Option (Bool × Nat)
  | 0, _ => none
  | n + 1, q => if q = zk_pos n then some (zk_neg n, n) else zk_sym n q
def zk_ev (v : Nat → Nat) : Option (Bool × Nat) → Int
  | none => 0
  | some t => if t.1 = true then - (v t.2 : Int) else (v t.2 : Int)
theorem zk_tab_sym (v : Nat → Nat) (q : Nat) : ∀ n, zk_tab v n q = zk_ev v (zk_sym n q) := by
  intro n
  induction n with
  | zero => rfl
  | succ n ih =>
    show (if q = zk_pos n then (if zk_neg n = true then - (v n : Int) else (v n : Int)) else zk_tab v n q) = zk_ev v (if q = zk_pos n then some (zk_neg n, n) else zk_sym n q)
    by_cases h : q = zk_pos n
    · rw [if_pos h, if_pos h]; rfl
    · rw [if_neg h, if_neg h]; exact ih
def zk_prL (v : Nat → Nat) : List Nat → Int
  | [] => 1
  | p :: l => (v p : Int) * zk_prL v l
def zk_evL (v : Nat → Nat) : List (Bool × List Nat) → Int
  | [] => 0
  | t :: l => (if t.1 = true then - zk_prL v t.2 else zk_prL v t.2) + zk_evL v l
theorem zk_evL_app (v : Nat → Nat) (l l' : List (Bool × List Nat)) : zk_evL v (l ++ l') = zk_evL v l + zk_evL v l' := by
  induction l with
  | nil => show zk_evL v l' = 0 + zk_evL v l'; omega
  | cons t l ih =>
    show (if t.1 = true then - zk_prL v t.2 else zk_prL v t.2) + zk_evL v (l ++ l') = (if t.1 = true then - zk_prL v t.2 else zk_prL v t.2) + zk_evL v l + zk_evL v l'
    rw [ih]
    omega
def zk_mul (s : Bool) (p : Nat) (t : Bool × List Nat) : Bool × List Nat := (xor t.1 s, p :: t.2)
theorem zk_evL_mul (v : Nat → Nat) (s : Bool) (p : Nat) (l : List (Bool × List Nat)) : zk_evL v (l.map (zk_mul s p)) = (if s = true then - (v p : Int) else (v p : Int)) * zk_evL v l := by
  induction l with
  | nil => show (0 : Int) = _ * 0; rw [Int.mul_zero]
  | cons t l ih =>
    show (if (xor t.1 s) = true then - ((v p : Int) * zk_prL v t.2) else ((v p : Int) * zk_prL v t.2)) + zk_evL v (l.map (zk_mul s p)) = _ * ((if t.1 = true then - zk_prL v t.2 else zk_prL v t.2) + zk_evL v l)
    rw [ih, Int.mul_add]
    refine congrArg (· + _) ?_
    cases s <;> cases t.1 <;> simp <;> grind
/-- the determinant's terms: rows still open, column c -/
def zk_dR (S : Nat → Option (Bool × Nat)) : Nat → List Nat → Nat → List (Bool × List Nat)
  | 0, _, _ => [(false, [])]
  | n + 1, rows, c => (List.range (n + 1)).flatMap (fun i => match S (rows.getD i 0 * 8 + c) with
    | none => []
    | some t => (zk_dR S n (rows.eraseIdx i) (c + 1)).map (zk_mul (xor t.1 (Nat.beq (i % 2) 1)) t.2))
theorem zk_flat (v : Nat → Nat) (f : Nat → List (Bool × List Nat)) (n : Nat) : zk_evL v ((List.range n).flatMap f) = zd_sum (fun i => zk_evL v (f i)) n := by
  induction n with
  | zero => rfl
  | succ n ih =>
    rw [List.range_succ, List.flatMap_append, zk_evL_app, ih]
    show _ + zk_evL v (f n ++ []) = _
    rw [List.append_nil]
    rfl
theorem zk_erase (rows : List Nat) (i a : Nat) : (rows.eraseIdx i).getD a 0 = rows.getD (zd_sk i a) 0 := by
  rw [List.getD_eq_getElem?_getD, List.getD_eq_getElem?_getD, List.getElem?_eraseIdx]
  unfold zd_sk
  by_cases h : a < i
  · rw [if_pos h, if_pos h]
  · rw [if_neg h, if_neg h]
theorem zk_dR_ev (v : Nat → Nat) (S : Nat → Option (Bool × Nat)) : ∀ (n : Nat) (rows : List Nat) (c : Nat), zk_evL v (zk_dR S n rows c) = zd_det n (fun a b => zk_ev v (S (rows.getD a 0 * 8 + (c + b)))) := by
  intro n
  induction n with
  | zero =>
    intro rows c
    show (1 : Int) + 0 = 1
    omega
  | succ n ih =>
    intro rows c
    show zk_evL v ((List.range (n + 1)).flatMap _) = _
    rw [zk_flat, zd_det_succ]
    refine zd_sum_congr (fun i hi => ?_)
    have e : zd_det n (fun a b => zk_ev v (S (rows.getD (zd_sk i a) 0 * 8 + (c + (b + 1))))) = zk_evL v (zk_dR S n (rows.eraseIdx i) (c + 1)) := by
      rw [ih]
      refine zd_congr n (fun a _ b _ => ?_)
      show zk_ev v (S (rows.getD (zd_sk i a) 0 * 8 + (c + (b + 1)))) = zk_ev v (S ((rows.eraseIdx i).getD a 0 * 8 + (c + 1 + b)))
      rw [zk_erase, show c + (b + 1) = c + 1 + b by omega]
    show zk_evL v (match S (rows.getD i 0 * 8 + c) with
      | none => []
      | some t => (zk_dR S n (rows.eraseIdx i) (c + 1)).map (zk_mul (xor t.1 (Nat.beq (i % 2) 1)) t.2)) = zd_sg i * zk_ev v (S (rows.getD i 0 * 8 + (c + 0))) * zd_det n (fun a b => zk_ev v (S (rows.getD (zd_sk i a) 0 * 8 + (c + (b + 1)))))
    rw [e, Nat.add_zero]
    cases hS : S (rows.getD i 0 * 8 + c) with
    | none =>
      show (0 : Int) = zd_sg i * 0 * _
      rw [Int.mul_zero, Int.zero_mul]
    | some t =>
      obtain ⟨s, p⟩ := t
      show zk_evL v ((zk_dR S n (rows.eraseIdx i) (c + 1)).map (zk_mul (xor s (Nat.beq (i % 2) 1)) p)) = zd_sg i * (if s = true then - (v p : Int) else (v p : Int)) * _
      rw [zk_evL_mul]
      refine congrArg (· * _) ?_
      unfold zd_sg
      by_cases h : i % 2 = 0
      · rw [if_pos h, h]
        cases s <;> simp
      · rw [if_neg h, show i % 2 = 1 by omega]
        cases s <;> simp
def zk_lit : List (Option (Bool × Nat)) := [some (false, 0), none, some (false, 12), none, none, none, none, none, some (false, 1), some (false, 2), none, some (false, 14), none, none, none, none, some (true, 13), none, some (false, 3), some (false, 4), some (true, 17), none, none, none, none, some (true, 15), none, some (false, 5), none, some (true, 19), none, none, none, none, some (false, 16), none, some (false, 6), none, some (false, 20), none, none, none, none, some (false, 18), some (false, 7), some (false, 8), none, some (false, 22), none, none, none, none, some (true, 21), none, some (false, 9), some (false, 10), none, none, none, none, none, some (true, 23), none, some (false, 11)]
def zk_terms : List (Bool × List Nat) := [(false, [0, 2, 3, 5, 6, 8, 9, 11]), (false, [0, 2, 3, 5, 6, 23, 9, 22]), (false, [0, 2, 3, 5, 7, 23, 20, 10]), (false, [0, 2, 3, 5, 21, 8, 20, 11]), (false, [0, 2, 3, 5, 21, 23, 20, 22]), (false, [0, 2, 3, 18, 6, 19, 9, 11]), (false, [0, 2, 3, 18, 21, 19, 20, 11]), (false, [0, 2, 16, 4, 7, 19, 9, 11]), (false, [0, 2, 16, 5, 17, 8, 9, 11]), (false, [0, 2, 16, 5, 17, 23, 9, 22]), (false, [0, 2, 16, 18, 17, 19, 9, 11]), (false, [0, 15, 3, 14, 6, 8, 9, 11]), (false, [0, 15, 3, 14, 6, 23, 9, 22]), (false, [0, 15, 3, 14, 7, 23, 20, 10]), (false, [0, 15, 3, 14, 21, 8, 20, 11]), (false, [0, 15, 3, 14, 21, 23, 20, 22]), (false, [0, 15, 16, 14, 17, 8, 9, 11]), (false, [0, 15, 16, 14, 17, 23, 9, 22]), (false, [1, 15, 12, 4, 6, 8, 9, 11]), (false, [1, 15, 12, 4, 6, 23, 9, 22]), (false, [1, 15, 12, 4, 7, 23, 20, 10]), (false, [1, 15, 12, 4, 21, 8, 20, 11]), (false, [1, 15, 12, 4, 21, 23, 20, 22]), (false, [1, 15, 12, 18, 17, 23, 20, 10]), (false, [13, 2, 12, 5, 6, 8, 9, 11]), (false, [13, 2, 12, 5, 6, 23, 9, 22]), (false, [13, 2, 12, 5, 7, 23, 20, 10]), (false, [13, 2, 12, 5, 21, 8, 20, 11]), (false, [13, 2, 12, 5, 21, 23, 20, 22]), (false, [13, 2, 12, 18, 6, 19, 9, 11]), (false, [13, 2, 12, 18, 21, 19, 20, 11]), (false, [13, 15, 12, 14, 6, 8, 9, 11]), (false, [13, 15, 12, 14, 6, 23, 9, 22]), (false, [13, 15, 12, 14, 7, 23, 20, 10]), (false, [13, 15, 12, 14, 21, 8, 20, 11]), (false, [13, 15, 12, 14, 21, 23, 20, 22])]
def zk_who : List Nat := [0, 96, 80, 48, 240, 24, 120, 20, 12, 108, 60, 6, 102, 86, 54, 246, 30, 126, 5, 101, 85, 53, 245, 125, 3, 99, 83, 51, 243, 27, 123, 15, 111, 95, 63, 255]
def zk_masks : List Nat := [2925, 0, 0, 15204, 0, 39762, 52041, 0, 0, 0, 0, 0, 199461, 0, 0, 64320, 0, 0, 0, 0, 592533, 0, 0, 0, 789069, 0, 0, 801348, 0, 0, 248577, 0, 0, 0, 0, 0, 0, 0, 0, 0, 0, 0, 0, 0, 0, 0, 0, 0, 3148077, 0, 0, 3160356, 0, 3184914, 3197193, 0, 0, 0, 0, 0, 985605, 0, 0, 3209472, 0, 0, 0, 0, 0, 0, 0, 0, 0, 0, 0, 0, 0, 0, 0, 0, 9438381, 0, 0, 9450660, 0, 9475218, 9487497, 0, 0, 0, 0, 0, 0, 0, 0, 9499776, 12583533, 0, 0, 12595812, 0, 12620370, 12632649, 0, 0, 0, 0, 0, 12780069, 0, 0, 12644928, 0, 0, 0, 0, 0, 0, 0, 0, 3934221, 0, 0, 3946500, 0, 9868290, 12829185, 0, 0, 0, 0, 0, 0, 0, 0, 0, 0, 0, 0, 0, 0, 0, 0, 0, 0, 0, 0, 0, 0, 0, 0, 0, 0, 0, 0, 0, 0, 0, 0, 0, 0, 0, 0, 0, 0, 0, 0, 0, 0, 0, 0, 0, 0, 0, 0, 0, 0, 0, 0, 0, 0, 0, 0, 0, 0, 0, 0, 0, 0, 0, 0, 0, 0, 0, 0, 0, 0, 0, 0, 0, 0, 0, 0, 0, 0, 0, 0, 0, 0, 0, 0, 0, 0, 0, 0, 0, 0, 0, 0, 0, 0, 0, 0, 0, 0, 0, 0, 0, 0, 0, 0, 0, 0, 0, 0, 0, 0, 0, 0, 0, 15728685, 0, 0, 15740964, 0, 15765522, 15777801, 0, 0, 0, 0, 0, 0, 0, 0, 15790080]
set_option maxRecDepth 100000 in
theorem zk_lit_ok : ∀ q, q < 64 → zk_sym 24 q = zk_lit.getD q none := by decide +kernel
set_option maxRecDepth 100000 in
theorem zk_terms_ok : zk_dR (fun q => zk_lit.getD q none) 8 [0, 1, 2, 3, 4, 5, 6, 7] 0 = zk_terms := by decide +kernel
set_option maxRecDepth 100000 in
theorem zk_masks_ok : (List.range 256).map zt_til = zk_masks := by decide +kernel
/-- a mask's places -/
def zk_bits (m : Nat) : Nat → List Nat
  | 0 => []
  | n + 1 => if m / 2 ^ n % 2 = 1 then n :: zk_bits m n else zk_bits m n
theorem zk_bits_pr (v : Nat → Nat) (m : Nat) : ∀ n, zk_prL v (zk_bits m n) = (zt_pr v m n : Int) := by
  intro n
  induction n with
  | zero => rfl
  | succ n ih =>
    show zk_prL v (if m / 2 ^ n % 2 = 1 then n :: zk_bits m n else zk_bits m n) = ((if m / 2 ^ n % 2 = 1 then zt_pr v m n * v n else zt_pr v m n : Nat) : Int)
    by_cases h : m / 2 ^ n % 2 = 1
    · rw [if_pos h, if_pos h]
      show (v n : Int) * zk_prL v (zk_bits m n) = _
      rw [ih, Int.natCast_mul, Int.mul_comm]
    · rw [if_neg h, if_neg h]
      exact ih
theorem zk_prL_perm (v : Nat → Nat) {l l' : List Nat} (h : l.Perm l') : zk_prL v l = zk_prL v l' := by
  induction h with
  | nil => rfl
  | cons a _ ih => show (v a : Int) * _ = (v a : Int) * _; rw [ih]
  | swap a b l =>
    show (v b : Int) * ((v a : Int) * zk_prL v l) = (v a : Int) * ((v b : Int) * zk_prL v l)
    grind
  | trans _ _ h1 h2 => exact h1.trans h2
def zk_sumL (f : Nat → Int) : List Nat → Int
  | [] => 0
  | a :: l => f a + zk_sumL f l
theorem zk_sumL_perm (f : Nat → Int) {l l' : List Nat} (h : l.Perm l') : zk_sumL f l = zk_sumL f l' := by
  induction h with
  | nil => rfl
  | cons a _ ih => show f a + _ = f a + _; rw [ih]
  | swap a b l => show f b + (f a + zk_sumL f l) = f a + (f b + zk_sumL f l); omega
  | trans _ _ h1 h2 => exact h1.trans h2
theorem zk_sumL_filter (f : Nat → Int) (p : Nat → Bool) (l : List Nat) (h : ∀ a, a ∈ l → p a = false → f a = 0) : zk_sumL f (l.filter p) = zk_sumL f l := by
  induction l with
  | nil => rfl
  | cons a l ih =>
    have ih := ih (fun b hb => h b (List.mem_cons_of_mem _ hb))
    cases hp : p a with
    | true =>
      rw [List.filter_cons_of_pos hp]
      show f a + _ = f a + _
      rw [ih]
    | false =>
      rw [List.filter_cons_of_neg (by rw [hp]; decide)]
      show _ = f a + _
      rw [ih, h a List.mem_cons_self hp]
      omega
theorem zk_sumL_app (f : Nat → Int) (l l' : List Nat) : zk_sumL f (l ++ l') = zk_sumL f l + zk_sumL f l' := by
  induction l with
  | nil => show zk_sumL f l' = 0 + _; omega
  | cons a l ih => show f a + zk_sumL f (l ++ l') = f a + zk_sumL f l + _; rw [ih]; omega
theorem zk_sumL_range (f : Nat → Nat) (n : Nat) : zk_sumL (fun b => (f b : Int)) (List.range n) = (zt_sum f n : Int) := by
  induction n with
  | zero => rfl
  | succ n ih =>
    rw [List.range_succ, zk_sumL_app, ih]
    show (zt_sum f n : Int) + ((f n : Int) + 0) = ((zt_sum f n + f n : Nat) : Int)
    omega
set_option maxRecDepth 100000 in
theorem zk_who_ok : zk_who.isPerm ((List.range 256).filter (fun b => !Nat.beq (zk_masks.getD b 0) 0)) = true := by decide +kernel
set_option maxRecDepth 100000 in
theorem zk_pairs_ok : (List.zip zk_who zk_terms).all (fun q => !Nat.beq (zk_masks.getD q.1 0) 0 && !q.2.1 && q.2.2.isPerm (zk_bits (zk_masks.getD q.1 0) 24)) = true := by decide +kernel
theorem zk_til_mask {b : Nat} (h : b < 256) : zt_til b = zk_masks.getD b 0 := by
  rw [← zk_masks_ok, List.getD_eq_getElem?_getD, List.getElem?_map, List.getElem?_range h]
  rfl
theorem zk_zip_ev (v : Nat → Nat) : ∀ (ws : List Nat) (ts : List (Bool × List Nat)), ws.length = ts.length → (∀ b, b ∈ ws → b < 256) → (List.zip ws ts).all (fun q => !Nat.beq (zk_masks.getD q.1 0) 0 && !q.2.1 && q.2.2.isPerm (zk_bits (zk_masks.getD q.1 0) 24)) = true → zk_evL v ts = zk_sumL (fun b => (zt_worth v (zt_til b) : Int)) ws := by
  intro ws
  induction ws with
  | nil =>
    intro ts hl _ _
    cases ts with
    | nil => rfl
    | cons t ts => simp at hl
  | cons b ws ih =>
    intro ts hl hb ha
    cases ts with
    | nil => simp at hl
    | cons t ts =>
      rw [List.zip_cons_cons, List.all_cons, Bool.and_eq_true, Bool.and_eq_true, Bool.and_eq_true] at ha
      obtain ⟨⟨⟨h1, h2⟩, h3⟩, h4⟩ := ha
      have e := ih ts (by simpa using hl) (fun x hx => hb x (List.mem_cons_of_mem _ hx)) h4
      have h2' : t.1 = false := by simpa using h2
      have h1' : ¬ zk_masks.getD b 0 = 0 := by
        intro q
        rw [q] at h1
        exact absurd h1 (by decide)
      show (if t.1 = true then - zk_prL v t.2 else zk_prL v t.2) + zk_evL v ts = (zt_worth v (zt_til b) : Int) + zk_sumL _ ws
      rw [e, h2', if_neg (by decide), zk_til_mask (hb b List.mem_cons_self), zk_prL_perm v (List.isPerm_iff.mp h3), zk_bits_pr]
      unfold zt_worth
      rw [if_neg h1']
set_option maxRecDepth 100000 in
theorem zk_who_lt : ∀ b, b ∈ zk_who → b < 256 := by decide +kernel
/-- THE TABLE'S DETERMINANT IS THE SUM OVER THE TILINGS -/
theorem zk_main (v : Nat → Nat) : zd_det 8 (zk_A v) = (zt_T v : Int) := by
  have e1 : zd_det 8 (zk_A v) = zd_det 8 (fun a b => zk_ev v ((fun q => zk_lit.getD q none) ([0, 1, 2, 3, 4, 5, 6, 7].getD a 0 * 8 + (0 + b)))) := by
    refine zd_congr 8 (fun i hi j hj => ?_)
    have h : ∀ a, a < 8 → [0, 1, 2, 3, 4, 5, 6, 7].getD a 0 = a := by decide
    show zk_tab v 24 (i * 8 + j) = zk_ev v (zk_lit.getD ([0, 1, 2, 3, 4, 5, 6, 7].getD i 0 * 8 + (0 + j)) none)
    rw [h i hi, Nat.zero_add, zk_tab_sym, zk_lit_ok _ (by omega)]
  refine e1.trans ((zk_dR_ev v (fun q => zk_lit.getD q none) 8 [0, 1, 2, 3, 4, 5, 6, 7] 0).symm.trans ?_)
  rw [zk_terms_ok, zk_zip_ev v zk_who zk_terms (by decide +kernel) zk_who_lt zk_pairs_ok, zk_sumL_perm _ (List.isPerm_iff.mp zk_who_ok), zk_sumL_filter _ _ _ (fun a ha hp => ?_), zk_sumL_range]
  · rfl
  · have ha' : a < 256 := List.mem_range.mp ha
    rw [zk_til_mask ha', show zk_masks.getD a 0 = 0 from by simpa using hp]
    rfl
end
section
/-! plain laws of the sums over tilings: one place off, two places off, ones, settled, bounds -/
theorem zt_tb (m p : Nat) : m / 2 ^ p % 2 = 1 ↔ m.testBit p = true := by
  rw [Nat.testBit_eq_decide_div_mod_eq, decide_eq_true_iff]
theorem zt_tb0 (m p : Nat) : m / 2 ^ p % 2 = 0 ↔ m.testBit p = false := by
  rw [Nat.testBit_eq_decide_div_mod_eq, decide_eq_false_iff_not]
  omega
theorem zt_and1 (m p : Nat) : m &&& 2 ^ p = 2 ^ p ↔ m / 2 ^ p % 2 = 1 := by
  rw [zt_tb]
  constructor
  · intro h
    have h1 : (m &&& 2 ^ p).testBit p = (2 ^ p).testBit p := by rw [h]
    rw [Nat.testBit_and, Nat.testBit_two_pow_self, Bool.and_true] at h1
    exact h1
  · intro h
    refine Nat.eq_of_testBit_eq (fun i => ?_)
    rw [Nat.testBit_and, Nat.testBit_two_pow]
    by_cases e : p = i
    · subst e
      rw [h]; simp
    · simp [e]
theorem zt_and2 (m a b : Nat) : m &&& (2 ^ a ||| 2 ^ b) = 2 ^ a ||| 2 ^ b ↔ m / 2 ^ a % 2 = 1 ∧ m / 2 ^ b % 2 = 1 := by
  rw [zt_tb, zt_tb]
  constructor
  · intro h
    have h1 : (m &&& (2 ^ a ||| 2 ^ b)).testBit a = (2 ^ a ||| 2 ^ b).testBit a := by rw [h]
    have h2 : (m &&& (2 ^ a ||| 2 ^ b)).testBit b = (2 ^ a ||| 2 ^ b).testBit b := by rw [h]
    rw [Nat.testBit_and, Nat.testBit_or, Nat.testBit_two_pow_self, Bool.true_or, Bool.and_true] at h1
    rw [Nat.testBit_and, Nat.testBit_or, Nat.testBit_two_pow_self, Bool.or_true, Bool.and_true] at h2
    exact ⟨h1, h2⟩
  · rintro ⟨h1, h2⟩
    refine Nat.eq_of_testBit_eq (fun i => ?_)
    rw [Nat.testBit_and, Nat.testBit_or, Nat.testBit_two_pow, Nat.testBit_two_pow]
    by_cases e : a = i
    · subst e
      rw [h1]; simp
    · by_cases e2 : b = i
      · subst e2
        rw [h2]; simp
      · simp [e, e2]
/-- the weights with none on one place -/
def zt_off (v : Nat → Nat) (p : Nat) : Nat → Nat := fun j => if j = p then 0 else v j
/-- the weights that are there, as ones -/
def zt_ones (v : Nat → Nat) : Nat → Nat := fun j => if 0 < v j then 1 else 0
theorem zt_pr_congr {v v' : Nat → Nat} (m : Nat) : ∀ n, (∀ j, j < n → v j = v' j) → zt_pr v m n = zt_pr v' m n := by
  intro n
  induction n with
  | zero => intro _; rfl
  | succ n ih =>
    intro h
    show (if m / 2 ^ n % 2 = 1 then zt_pr v m n * v n else zt_pr v m n) = (if m / 2 ^ n % 2 = 1 then zt_pr v' m n * v' n else zt_pr v' m n)
    rw [ih (fun j hj => h j (by omega)), h n (by omega)]
theorem zt_worth_congr {v v' : Nat → Nat} (m : Nat) (h : ∀ j, j < 24 → v j = v' j) : zt_worth v m = zt_worth v' m := by
  unfold zt_worth
  rw [zt_pr_congr m 24 h]
theorem zt_T_congr {v v' : Nat → Nat} (h : ∀ j, j < 24 → v j = v' j) : zt_T v = zt_T v' :=
  zt_sum_congr (fun b _ => zt_worth_congr _ h)
theorem zt_pr_le {v v' : Nat → Nat} (m : Nat) : ∀ n, (∀ j, j < n → v j ≤ v' j) → zt_pr v m n ≤ zt_pr v' m n := by
  intro n
  induction n with
  | zero => intro _; exact Nat.le_refl _
  | succ n ih =>
    intro h
    show (if m / 2 ^ n % 2 = 1 then zt_pr v m n * v n else zt_pr v m n) ≤ (if m / 2 ^ n % 2 = 1 then zt_pr v' m n * v' n else zt_pr v' m n)
    have h1 := ih (fun j hj => h j (by omega))
    by_cases e : m / 2 ^ n % 2 = 1
    · rw [if_pos e, if_pos e]
      exact Nat.mul_le_mul h1 (h n (by omega))
    · rw [if_neg e, if_neg e]
      exact h1
theorem zt_worth_le {v v' : Nat → Nat} (m : Nat) (h : ∀ j, j < 24 → v j ≤ v' j) : zt_worth v m ≤ zt_worth v' m := by
  unfold zt_worth
  by_cases e : m = 0
  · rw [if_pos e, if_pos e]; exact Nat.le_refl _
  · rw [if_neg e, if_neg e]
    exact zt_pr_le m 24 h
theorem zt_T_le {v v' : Nat → Nat} (h : ∀ j, j < 24 → v j ≤ v' j) : zt_T v ≤ zt_T v' :=
  zt_sum_le (fun b _ => zt_worth_le _ h)
set_option maxRecDepth 100000 in
theorem zt_T4 : zt_T (fun _ => 4) = 2359296 := by decide +kernel
theorem zt_T_lt {v : Nat → Nat} (h : ∀ j, j < 24 → v j ≤ 4) : zt_T v ≤ 2359296 := by
  rw [← zt_T4]
  exact zt_T_le h
theorem zt_worth_lt {v : Nat → Nat} (h : ∀ j, j < 24 → v j ≤ 4) {b : Nat} (hb : b < 256) : zt_worth v (zt_til b) ≤ 2359296 :=
  Nat.le_trans (zt_sum_one (f := fun b => zt_worth v (zt_til b)) hb) (zt_T_lt h)
theorem zt_W_le (v : Nat → Nat) (q : Nat) : zt_W v q ≤ zt_T v := by
  refine zt_sum_le (fun b _ => ?_)
  show (if zt_til b &&& q = q then zt_worth v (zt_til b) else 0) ≤ zt_worth v (zt_til b)
  by_cases h : zt_til b &&& q = q
  · rw [if_pos h]; exact Nat.le_refl _
  · rw [if_neg h]; exact Nat.zero_le _
theorem zt_W0 (v : Nat → Nat) : zt_W v 0 = zt_T v := by
  refine zt_sum_congr (fun b _ => ?_)
  show (if zt_til b &&& 0 = 0 then zt_worth v (zt_til b) else 0) = _
  rw [if_pos (Nat.and_zero _)]
theorem zt_pr_off (v : Nat → Nat) (p m : Nat) : ∀ n, zt_pr (zt_off v p) m n = if p < n ∧ m / 2 ^ p % 2 = 1 then 0 else zt_pr v m n := by
  intro n
  induction n with
  | zero => rw [if_neg (by omega)]; rfl
  | succ n ih =>
    show (if m / 2 ^ n % 2 = 1 then zt_pr (zt_off v p) m n * (if n = p then 0 else v n) else zt_pr (zt_off v p) m n) = if p < n + 1 ∧ m / 2 ^ p % 2 = 1 then 0 else (if m / 2 ^ n % 2 = 1 then zt_pr v m n * v n else zt_pr v m n)
    rw [ih]
    by_cases e : n = p
    · subst e
      by_cases h : m / 2 ^ n % 2 = 1
      · rw [if_pos h, if_pos rfl, Nat.mul_zero, if_pos ⟨by omega, h⟩]
      · rw [if_neg h, if_neg (fun q => h q.2), if_neg (fun q => h q.2), if_neg h]
    · rw [if_neg e]
      by_cases h : p < n ∧ m / 2 ^ p % 2 = 1
      · have h3 : p < n + 1 ∧ m / 2 ^ p % 2 = 1 := ⟨by omega, h.2⟩
        simp only [if_pos h, if_pos h3, Nat.zero_mul, ite_self]
      · have h3 : ¬ (p < n + 1 ∧ m / 2 ^ p % 2 = 1) := fun q => h ⟨by omega, q.2⟩
        simp only [if_neg h, if_neg h3]
theorem zt_worth_off (v : Nat → Nat) {p : Nat} (hp : p < 24) (m : Nat) : zt_worth (zt_off v p) m = if m / 2 ^ p % 2 = 1 then 0 else zt_worth v m := by
  unfold zt_worth
  by_cases e : m = 0
  · rw [if_pos e, if_pos e]
    by_cases h : m / 2 ^ p % 2 = 1
    · rw [if_pos h]
    · rw [if_neg h]
  · rw [if_neg e, if_neg e, zt_pr_off]
    by_cases h : m / 2 ^ p % 2 = 1
    · rw [if_pos h, if_pos ⟨hp, h⟩]
    · rw [if_neg h, if_neg (fun q => h q.2)]
theorem zt_split1 (v : Nat → Nat) {p : Nat} (hp : p < 24) : zt_T v = zt_W v (2 ^ p) + zt_T (zt_off v p) := by
  unfold zt_T zt_W
  rw [← zt_sum_add]
  refine zt_sum_congr (fun b _ => ?_)
  show zt_worth v (zt_til b) = (if zt_til b &&& 2 ^ p = 2 ^ p then zt_worth v (zt_til b) else 0) + zt_worth (zt_off v p) (zt_til b)
  rw [zt_worth_off v hp]
  by_cases h : zt_til b / 2 ^ p % 2 = 1
  · rw [if_pos ((zt_and1 _ _).mpr h), if_pos h]; omega
  · rw [if_neg (fun q => h ((zt_and1 _ _).mp q)), if_neg h]; omega
theorem zt_split2 (v : Nat → Nat) {p q : Nat} (hp : p < 24) (hq : q < 24) : zt_T v + zt_T (zt_off (zt_off v q) p) = zt_W v (2 ^ p ||| 2 ^ q) + (zt_T (zt_off v p) + zt_T (zt_off v q)) := by
  unfold zt_T zt_W
  rw [← zt_sum_add, ← zt_sum_add, ← zt_sum_add]
  refine zt_sum_congr (fun b _ => ?_)
  show zt_worth v (zt_til b) + zt_worth (zt_off (zt_off v q) p) (zt_til b) = (if zt_til b &&& (2 ^ p ||| 2 ^ q) = 2 ^ p ||| 2 ^ q then zt_worth v (zt_til b) else 0) + (zt_worth (zt_off v p) (zt_til b) + zt_worth (zt_off v q) (zt_til b))
  rw [zt_worth_off (zt_off v q) hp, zt_worth_off v hp, zt_worth_off v hq]
  by_cases h : zt_til b / 2 ^ p % 2 = 1
  · by_cases h2 : zt_til b / 2 ^ q % 2 = 1
    · rw [if_pos ((zt_and2 _ _ _).mpr ⟨h, h2⟩), if_pos h, if_pos h, if_pos h2]
    · rw [if_neg (fun z => h2 ((zt_and2 _ _ _).mp z).2), if_pos h, if_pos h, if_neg h2]; omega
  · by_cases h2 : zt_til b / 2 ^ q % 2 = 1
    · rw [if_neg (fun z => h ((zt_and2 _ _ _).mp z).1), if_neg h, if_neg h, if_pos h2]; omega
    · rw [if_neg (fun z => h ((zt_and2 _ _ _).mp z).1), if_neg h, if_neg h, if_neg h2]; omega
theorem zt_pr_ones (v : Nat → Nat) (m : Nat) : ∀ n, zt_pr (zt_ones v) m n = if 0 < zt_pr v m n then 1 else 0 := by
  intro n
  induction n with
  | zero => rfl
  | succ n ih =>
    show (if m / 2 ^ n % 2 = 1 then zt_pr (zt_ones v) m n * (if 0 < v n then 1 else 0) else zt_pr (zt_ones v) m n) = if 0 < (if m / 2 ^ n % 2 = 1 then zt_pr v m n * v n else zt_pr v m n) then 1 else 0
    rw [ih]
    by_cases h : m / 2 ^ n % 2 = 1
    · rw [if_pos h, if_pos h]
      by_cases h1 : 0 < zt_pr v m n
      · by_cases h2 : 0 < v n
        · rw [if_pos h1, if_pos h2, if_pos (Nat.mul_pos h1 h2)]
        · rw [if_pos h1, if_neg h2, show v n = 0 by omega, Nat.mul_zero, Nat.mul_zero, if_neg (by omega)]
      · rw [if_neg h1, show zt_pr v m n = 0 by omega, Nat.zero_mul, Nat.zero_mul, if_neg (by omega)]
    · rw [if_neg h, if_neg h]
theorem zt_worth_ones (v : Nat → Nat) (m : Nat) : zt_worth (zt_ones v) m = if 0 < zt_worth v m then 1 else 0 := by
  unfold zt_worth
  by_cases e : m = 0
  · rw [if_pos e, if_pos e, if_neg (by omega)]
  · rw [if_neg e, if_neg e, zt_pr_ones]
theorem zt_T_ones (v : Nat → Nat) : zt_T (zt_ones v) = zt_sum (fun b => if 0 < zt_worth v (zt_til b) then 1 else 0) 256 :=
  zt_sum_congr (fun b _ => zt_worth_ones v _)
/-- some tiling has the place: with the weights as with ones -/
theorem zt_W_ones (v : Nat → Nat) (q : Nat) : 0 < zt_W (zt_ones v) q ↔ 0 < zt_W v q := by
  have h : zt_W (zt_ones v) q = 0 ↔ zt_W v q = 0 := by
    unfold zt_W
    rw [zt_sum_zero, zt_sum_zero]
    constructor
    · intro h b hb
      have h1 := h b hb
      rw [zt_worth_ones] at h1
      by_cases e : zt_til b &&& q = q
      · rw [if_pos e] at h1 ⊢
        by_cases e2 : 0 < zt_worth v (zt_til b)
        · rw [if_pos e2] at h1; omega
        · omega
      · rw [if_neg e]
    · intro h b hb
      have h1 := h b hb
      rw [zt_worth_ones]
      by_cases e : zt_til b &&& q = q
      · rw [if_pos e] at h1 ⊢
        rw [h1]; rfl
      · rw [if_neg e]
  omega
/-- the places that all tilings with a worth have in common -/
def zt_com (v : Nat → Nat) : Nat → Nat
  | 0 => 16777215
  | b + 1 => if 0 < zt_worth v (zt_til b) then zt_com v b &&& zt_til b else zt_com v b
theorem zt_com_le (v : Nat → Nat) : ∀ n, zt_com v n ≤ 16777215 := by
  intro n
  induction n with
  | zero => exact Nat.le_refl _
  | succ n ih =>
    show (if 0 < zt_worth v (zt_til n) then zt_com v n &&& zt_til n else zt_com v n) ≤ _
    by_cases h : 0 < zt_worth v (zt_til n)
    · rw [if_pos h]; exact Nat.le_trans Nat.and_le_left ih
    · rw [if_neg h]; exact ih
theorem zt_com_bit (v : Nat → Nat) {p : Nat} (hp : p < 24) : ∀ n, zt_com v n / 2 ^ p % 2 = 1 ↔ ∀ b, b < n → 0 < zt_worth v (zt_til b) → zt_til b / 2 ^ p % 2 = 1 := by
  intro n
  induction n with
  | zero =>
    have h : ∀ p, p < 24 → 16777215 / 2 ^ p % 2 = 1 := by decide
    exact ⟨fun _ b hb => absurd hb (by omega), fun _ => h p hp⟩
  | succ n ih =>
    show (if 0 < zt_worth v (zt_til n) then zt_com v n &&& zt_til n else zt_com v n) / 2 ^ p % 2 = 1 ↔ _
    by_cases h : 0 < zt_worth v (zt_til n)
    · rw [if_pos h, zt_tb, Nat.testBit_and, Bool.and_eq_true, ← zt_tb, ← zt_tb, ih]
      constructor
      · rintro ⟨h1, h2⟩ b hb hw
        by_cases e : b = n
        · rw [e]; exact h2
        · exact h1 b (by omega) hw
      · intro h1
        exact ⟨fun b hb hw => h1 b (by omega) hw, h1 n (by omega) h⟩
    · rw [if_neg h, ih]
      constructor
      · intro h1 b hb hw
        by_cases e : b = n
        · rw [e] at hw; exact absurd hw h
        · exact h1 b (by omega) hw
      · intro h1 b hb hw
        exact h1 b (by omega) hw
theorem zt_off_zero (v : Nat → Nat) {p : Nat} (hp : p < 24) : zt_T (zt_off (zt_ones v) p) = 0 ↔ zt_com v 256 / 2 ^ p % 2 = 1 := by
  rw [zt_com_bit v hp]
  unfold zt_T
  rw [zt_sum_zero]
  constructor
  · intro h b hb hw
    have h1 := h b hb
    rw [zt_worth_off _ hp, zt_worth_ones, if_pos hw] at h1
    by_cases e : zt_til b / 2 ^ p % 2 = 1
    · exact e
    · rw [if_neg e] at h1; omega
  · intro h b hb
    rw [zt_worth_off _ hp, zt_worth_ones]
    by_cases e : zt_til b / 2 ^ p % 2 = 1
    · rw [if_pos e]
    · rw [if_neg e]
      by_cases hw : 0 < zt_worth v (zt_til b)
      · exact absurd (h b hb hw) e
      · rw [if_neg hw]
/-- how many places are settled -/
def zt_set (v : Nat → Nat) : Nat := zt_sum (fun p => zt_com v 256 / 2 ^ p % 2) 24
theorem zt_set_all (v : Nat → Nat) (h : zt_T (zt_ones v) = 0) : zt_set v = 24 := by
  have h1 : zt_set v = zt_sum (fun _ => 1) 24 := by
    refine zt_sum_congr (fun p hp => ?_)
    refine (zt_off_zero v hp).mp ?_
    have := zt_split1 (zt_ones v) hp
    omega
  rw [h1]
  rfl
theorem zt_set_some (v : Nat → Nat) : zt_set v = zt_sum (fun p => if zt_T (zt_off (zt_ones v) p) = 0 then 1 else 0) 24 := by
  refine zt_sum_congr (fun p hp => ?_)
  show zt_com v 256 / 2 ^ p % 2 = if zt_T (zt_off (zt_ones v) p) = 0 then 1 else 0
  by_cases h : zt_T (zt_off (zt_ones v) p) = 0
  · rw [if_pos h]
    exact (zt_off_zero v hp).mp h
  · rw [if_neg h]
    have : ¬ zt_com v 256 / 2 ^ p % 2 = 1 := fun q => h ((zt_off_zero v hp).mpr q)
    omega
theorem zt_off_le {v : Nat → Nat} {c p : Nat} (h : ∀ j, j < 24 → v j ≤ c) : ∀ j, j < 24 → zt_off v p j ≤ c := by
  intro j hj
  unfold zt_off
  by_cases e : j = p
  · rw [if_pos e]; omega
  · rw [if_neg e]; exact h j hj
theorem zt_ones_le (v : Nat → Nat) : ∀ j, j < 24 → zt_ones v j ≤ 4 := by
  intro j _
  unfold zt_ones
  by_cases e : 0 < v j
  · rw [if_pos e]; omega
  · rw [if_neg e]; omega
theorem zk_tab_le {v : Nat → Nat} (h : ∀ j, j < 24 → v j ≤ 4) (q : Nat) : ∀ n, n ≤ 24 → (zk_tab v n q).natAbs ≤ 4 := by
  intro n
  induction n with
  | zero => intro _; exact Nat.zero_le 4
  | succ n ih =>
    intro hn
    show (if q = zk_pos n then (if zk_neg n = true then - (v n : Int) else (v n : Int)) else zk_tab v n q).natAbs ≤ 4
    have h1 := h n (by omega)
    by_cases e : q = zk_pos n
    · rw [if_pos e]
      by_cases e2 : zk_neg n = true
      · rw [if_pos e2]; omega
      · rw [if_neg e2]; omega
    · rw [if_neg e]; exact ih (by omega)
end
section
/-! the worlds of both classes, and rows over them -/
set_option maxRecDepth 100000
abbrev vwCl : List vw_C := [(RX0, TX0, 4), (RX1, TX1, 2)]
abbrev zr (k : Nat) : Room := { frames := k, cells := 0, slots := 0, locals := 31 * k }
/-- DimerCounter: the object, weights, moved, used, table -/
abbrev XW (ad : Nat → Nat) (ci : Nat → ClassId) (w mv us : Nat → Int32) (tb : Nat → Int64) : va_W := [(ad 0, .inr (0, [.ref (ad 1), .ref (ad 2), .ref (ad 3), .ref (ad 4)])), (ad 1, .inl (ci 0, 24, .inl w)), (ad 2, .inl (ci 1, 24, .inl mv)), (ad 3, .inl (ci 2, 24, .inl us)), (ad 4, .inl (ci 3, 64, .inr (.inl tb)))]
abbrev XT (ci : Nat → ClassId) : List (ClassId × FieldType) := [(ci 0, .int), (ci 1, .int), (ci 2, .int), (ci 3, .long)]
abbrev XS : Type := (Nat → Int32) × (Nat → Int32) × (Nat → Int32) × (Nat → Int64)
abbrev XU (ad : Nat → Nat) (ci : Nat → ClassId) : XS → va_W := fun u => XW ad ci u.1 u.2.1 u.2.2.1 u.2.2.2
/-- DimerCounterModel: the object, weights, old -/
abbrev YW (ad : Nat → Nat) (ci : Nat → ClassId) (w ol : Nat → Int32) : va_W := [(ad 0, .inr (1, [.ref (ad 1), .ref (ad 2)])), (ad 1, .inl (ci 0, 24, .inl w)), (ad 2, .inl (ci 1, 24, .inl ol))]
abbrev YT (ci : Nat → ClassId) : List (ClassId × FieldType) := [(ci 0, .int), (ci 1, .int)]
abbrev YS : Type := (Nat → Int32) × (Nat → Int32)
abbrev YU (ad : Nat → Nat) (ci : Nat → ClassId) : YS → va_W := fun u => YW ad ci u.1 u.2
/-- the heap holds the world ws, apart and in A, and since H0 nothing outside A has changed -/
def ZH (D : va_G) (A : Nat → Prop) (H0 : Heap) (ws : va_W) (H : Heap) (locs : List Loc) : Prop := va_P D vwCl ws H ∧ va_D A ws ∧ va_S A H0 H locs
abbrev ZB {S : Type} (D : va_G) (tys : List (ClassId × FieldType)) (wp : S → va_W) (A : Nat → Prop) : S → State → Prop := fun u t => va_P D vwCl (wp u) t.heap ∧ va_K D vwCl tys t ∧ va_D A (wp u)
abbrev ZP (D : va_G) (tys : List (ClassId × FieldType)) (ws : va_W) (sz : Nat) (av : List Value) : Array Value → State → Prop := va_Pc av (fun U => U.heap.size = sz ∧ va_P D vwCl ws U.heap ∧ va_K D vwCl tys U ∧ va_D (fun _ => True) ws)
/-- contracts: an int (or boolean) answer; no answer -/
def ZMi {S : Type} (l : Launch) (y : MethodName) (cc : ByteArray) (nL : Nat) (ret : Option FieldType) (rm : Room) (D : va_G) (tys : List (ClassId × FieldType)) (av : List Value) (sz : Nat) (ws : va_W) (post : Int32 → S → Prop) (wp : S → va_W) : Prop :=
  Met l y (ws_ y cc nL ret) rm (ZP D tys ws sz av) (va_Qi post (ZB D tys wp (va_A ws sz)) (va_A ws sz)) 0 0 (va_A ws sz)
def ZMv {S : Type} (l : Launch) (y : MethodName) (cc : ByteArray) (nL : Nat) (ret : Option FieldType) (rm : Room) (D : va_G) (tys : List (ClassId × FieldType)) (av : List Value) (sz : Nat) (ws : va_W) (post : S → Prop) (wp : S → va_W) : Prop :=
  Met l y (ws_ y cc nL ret) rm (ZP D tys ws sz av) (va_Qv post (ZB D tys wp (va_A ws sz)) (va_A ws sz)) 0 0 (va_A ws sz)
theorem ZP_blind {D : va_G} {tys : List (ClassId × FieldType)} {ws : va_W} {sz : Nat} {av : List Value} : FrameBlind (ZP D tys ws sz av) := by
  intro a U g mk q
  obtain ⟨q0, q1, qP, qK, qD⟩ := q
  exact ⟨q0, q1, qP, va_K.moved (u := U) (U := U.calling g mk a) (Vm.Alike.refl U.vm) qK, qD⟩
section ZROWS
variable {p : Program} {l : Launch} {e : Env} {R : Room} {s : State} {m : MethodId} {args : Array Value} {below : List Frame} {meth : Method} {c : Code} {H : Heap} {locs : List Loc} {cells slots : Nat} {Q : State → Prop}
variable {cc bytes : ByteArray} {pc nL maxL index n : Nat} {ls : Array Slot} {rest st0 av : List Value} {A : Nat → Prop} {H0 : Heap} {D : va_G} {tys tc : List (ClassId × FieldType)} {ws wc wr : va_W} {ad : Nat → Nat} {ci : Nat → ClassId} {w mv us ol : Nat → Int32} {tb : Nat → Int64}
variable {own C : String} {y : MethodName} {ret : Option FieldType} {rm : Room}
theorem zw_i {x : Int32} (z : Int32) (h : x = z) (k : W p l e R s m args below meth c H locs cells slots Q (F0 m pc ls (.int z :: rest))) : W p l e R s m args below meth c H locs cells slots Q (F0 m pc ls (.int x :: rest)) := by
  subst h
  exact k
theorem zw_l {x : Int64} (z : Int64) (h : x = z) (k : W p l e R s m args below meth c H locs cells slots Q (F0 m pc ls (.long z :: rest))) : W p l e R s m args below meth c H locs cells slots Q (F0 m pc ls (.long x :: rest)) := by
  subst h
  exact k
/-- a contract out of a walk -/
theorem zw_met {Qf : (Nat → Prop) → Array Value → State → Outcome → State → Prop} {sz mc ms : Nat} (hy : plainName y.cls = true) (ho : y.cls = own) (hle : (lg_sl av).length ≤ nL)
    (body : ∀ (p : Program) (e : Env) (s : State) (m : MethodId) (below : List Frame) (meth : Method) (c : Code) (A : Nat → Prop) (ls : Array Slot), CallFix p m c cc nL s av.toArray lw_all own → meth.sig.returnType = ret → meth.locks = false → meth.name = y.name → (∀ q, s.heap.size ≤ q → A q) → va_K D vwCl tys s → ZH D A s.heap ws s.heap [] → lv_has ls nL (lv_args 0 av) →
      W p l e rm s m av.toArray below meth c s.heap [] 0 0 (MQ below (Qf A) av.toArray s mc ms A) (F0 m 0 ls [])) :
    Met l y (ws_ y cc nL ret) rm (ZP D tys ws sz av) (Qf (va_A ws sz)) mc ms (va_A ws sz) := by
  refine Met.ofW (cc := cc) (maxL := nL) (ret := ret) hy rfl ?_
  intro p e s m args below meth c s₁ B hml hv
  obtain ⟨rfl, hsz, hP, hK, hD0⟩ := hv
  have hts := atoms_spec (ws := ws_ y cc nL ret) B.pre
  have hts : ∀ w ∈ lw_all, w.before _ s = true := fun w h => hts w (List.mem_cons_of_mem _ h)
  have hown : s.vm.findClass own = some m.cls := by rw [← ho]; exact findClass_of_methodNamed B.named
  have hin : meth.name = y.name := (name_of_methodNamed B.named B.method).1
  subst hsz
  have hD := hD0.self (sz := s.heap.size)
  generalize hAe : va_A ws s.heap.size = A at hD ⊢
  have hA : ∀ q : Nat, s.heap.size ≤ q → A q := fun q h => by rw [← hAe]; exact Or.inr h
  have hl := lv_entry av (n := nL) hle
  rw [lg_entry_eq]
  generalize (lg_sl av ++ List.replicate (nL - (lg_sl av).length) Slot.unset).toArray = ls at hl ⊢
  exact body p e s m below meth c A ls ⟨B.exec, B.bytes, hml, hown, hts⟩ B.returns B.notSynchronized hin hA hK ⟨hP, hD, va_S.rf⟩ hl
/-- ends -/
theorem zw_iret {S : Type} {post : Int32 → S → Prop} {wp : S → va_W} {v : Int32} {u : S} (hx : p.tables.exec = Jvm.exec) (hb : c.code = cc) (hr : meth.sig.returnType = some .int) (hlocks : meth.locks = false) (hK : va_K D vwCl tys s) (hH : ZH D A s.heap (wp u) H locs) (hpost : post v u) (hdg : decode cc pc = .ok (.ireturn, 1)) :
    W p l e R s m args below meth c H locs cells slots (MQ below (va_Qi post (ZB D tys wp A) A) args s cells slots A) (F0 m pc ls [.int v]) :=
  W.iret (v := v) hx hb hr (fun t ht hW => ⟨⟨v, u, rfl, hpost, by rw [ht]; exact hH.1, va_K.moved hW.alike hK, hH.2.1⟩, hH.2.2.F ht⟩) hH.2.2.2.2 hdg
theorem zw_zret {S : Type} {post : Int32 → S → Prop} {wp : S → va_W} {v : Int32} {u : S} (hx : p.tables.exec = Jvm.exec) (hb : c.code = cc) (hr : meth.sig.returnType = some .boolean) (hlocks : meth.locks = false) (hK : va_K D vwCl tys s) (hH : ZH D A s.heap (wp u) H locs) (hn : narrow .boolean (.int v) = .int v) (hpost : post v u) (hdg : decode cc pc = .ok (.ireturn, 1)) :
    W p l e R s m args below meth c H locs cells slots (MQ below (va_Qi post (ZB D tys wp A) A) args s cells slots A) (F0 m pc ls [.int v]) :=
  W.zret (v := v) hx hb hr hn (fun t ht hW => ⟨⟨v, u, rfl, hpost, by rw [ht]; exact hH.1, va_K.moved hW.alike hK, hH.2.1⟩, hH.2.2.F ht⟩) hH.2.2.2.2 hdg
theorem zw_vret {S : Type} {post : S → Prop} {wp : S → va_W} {u : S} (hx : p.tables.exec = Jvm.exec) (hb : c.code = cc) (hr : meth.sig.returnType = none) (hlocks : meth.locks = false) (hK : va_K D vwCl tys s) (hH : ZH D A s.heap (wp u) H locs) (hpost : post u) (hdg : decode cc pc = .ok (.return_, 1)) :
    W p l e R s m args below meth c H locs cells slots (MQ below (va_Qv post (ZB D tys wp A) A) args s cells slots A) (F0 m pc ls []) :=
  W.vret hx hb hr (fun t ht hW => ⟨⟨u, rfl, hpost, by rw [ht]; exact hH.1, va_K.moved hW.alike hK, hH.2.1⟩, hH.2.2.F ht⟩) hH.2.2.2.2 hdg
/-- a static call that touches nothing -/
theorem zw_Si {post : Int32 → Unit → Prop} (S0 : CallFix p m c cc nL s args lw_all own) (hM : ZMi l y bytes maxL ret rm D [] av H.size [] post (fun _ => [])) (h1 : Cond.methodLink own index y ∈ lw_all) (h2 : Cond.static y ∈ lw_all) (h3 : Cond.initialized y.cls ∈ lw_all) (h4 : Cond.code y bytes maxL ret ∈ lw_all)
    (hd : y.cls ≠ "java/lang/invoke/MethodHandle" ∧ y.cls ≠ "java/lang/invoke/VarHandle" ∧ (parseMethodDescriptor y.desc).map (fun d => d.parameters.length) = some n) (hR : rm.frames + 1 ≤ R.frames ∧ 8 + (maxL + 11) + rm.locals ≤ R.locals) (hr0 : rm.cells = 0 ∧ rm.slots = 0)
    (hf : cells ≤ R.cells ∧ slots ≤ R.slots) (hK : va_K D vwCl tys s) (hA : ∀ q, H0.size ≤ q → A q) (hH : ZH D A H0 ws H locs) (hn : av.length = n) (hsize : ls.size = nL) (hst : st0 = av.reverse ++ rest) (hroom : (rest.map fun v => v.category).sum ≤ 8) (hdg : decode cc pc = .ok (.invokestatic index, 3))
    (kk : ∀ (r : Int32) (H1 : Heap) (locs1 : List Loc), post r () → ZH D A H0 ws H1 locs1 → W p l e R s m args below meth c H1 locs1 cells slots Q (F0 m (pc + 3) ls (.int r :: rest))) : W p l e R s m args below meth c H locs cells slots Q (F0 m pc ls st0) := by
  obtain ⟨hP, hD, hS⟩ := hH
  have hFc := va_free (wc := []) hD hS hA [] rfl
  have hts := S0.2.2.2.2
  have hKc := hK.sub (tys' := []) [] rfl
  have hPc : va_P D vwCl [] H := fun k q h => by simp at h
  have hDc : va_D (fun _ => True) [] := ⟨fun i j p q h => by simp at h, fun k q h => by simp at h⟩
  refine va_calli (va_runS (As := av) (rest := rest) S0 hM (va_cwS n hts (lw_S h1 h2 h3 h4) rfl hr0.1 hr0.2 hd hR) ⟨ZP_blind, fun U hU hW => ⟨rfl, by rw [hU], by rw [hU]; exact hPc, va_K.moved hW.alike hKc, hDc⟩⟩ rfl hn hsize hst (lv_room hroom) hdg hf) hS (fun q _ h => hFc q h) hFc (fun r u t H1 locs1 ht hvm hw hB hz1 hk1 hS1 => ?_)
  obtain ⟨hP1, hK1, hD1⟩ := hB
  refine kk r H1 locs1 hw ⟨fun k q hq => (hP k q hq).kept (hk1 q.1 (hP k q hq).lt (fun h => ?_)), hD, hS1⟩
  rcases h with ⟨k2, e2, h2⟩ | h2
  · simp at h2
  · exact absurd (hP k q hq).lt (by omega)
/-- calls through an object: an int answer, no answer -/
theorem zw_Vi {S : Type} {post : Int32 → S → Prop} {wp : S → va_W} {b cn N : Nat} {T : u_T} {fs : List Value} (S0 : CallFix p m c cc nL s args lw_all own) (hM : ZMi l y bytes maxL ret rm D tc (.ref b :: av) H.size wc post wp) (h1 : Cond.methodLink own index y ∈ lw_all) (h2 : Cond.instanceMethod y ∈ lw_all) (h3 : Cond.selects C y y ∈ lw_all) (h4 : Cond.initialized C ∈ lw_all) (h5 : Cond.code y bytes maxL ret ∈ lw_all)
    (hd : y.cls = C ∧ y.cls ≠ "java/lang/invoke/MethodHandle" ∧ y.cls ≠ "java/lang/invoke/VarHandle" ∧ (parseMethodDescriptor y.desc).map (fun d => d.parameters.length) = some n) (hR : rm.frames + 1 ≤ R.frames ∧ 8 + (maxL + 11) + rm.locals ≤ R.locals) (hr0 : rm.cells = 0 ∧ rm.slots = 0)
    (hf : cells ≤ R.cells ∧ slots ≤ R.slots) (hK : va_K D vwCl tys s) (hA : ∀ q, H0.size ≤ q → A q) (hH : ZH D A H0 ws H locs) (isC isR isT : List Nat) (hC : isC.map (fun i => ws[i]?) = wc.map some) (hR' : isR.map (fun i => ws[i]?) = wr.map some) (hT : isT.filterMap (fun i => tys[i]?) = tc) (hnC : va_nd isC = true) (hnR : va_nd isR = true) (hdis : ∀ i ∈ isR, i ∉ isC) (hPs : isC.filterMap (fun i => ws[i]?) = wc)
    (hc : vwCl[cn]? = some (C, T, N)) (he : wc[0]? = some (b, .inr (cn, fs))) (hn : av.length = n) (hsize : ls.size = nL) (hst : st0 = av.reverse ++ .ref b :: rest) (hroom : (rest.map fun v => v.category).sum ≤ 8) (hdg : decode cc pc = .ok (.invokevirtual index, 3))
    (kk : ∀ (r : Int32) (u : S) (H1 : Heap) (locs1 : List Loc), post r u → ZH D A H0 (wr ++ wp u) H1 locs1 → W p l e R s m args below meth c H1 locs1 cells slots Q (F0 m (pc + 3) ls (.int r :: rest))) : W p l e R s m args below meth c H locs cells slots Q (F0 m pc ls st0) := by
  obtain ⟨hP, hD, hS⟩ := hH
  have hPc := hP.sub (ws' := wc) isC hPs
  have hDc := hD.sub (ws' := wc) isC hnC hC
  have hKc := hK.sub (tys' := tc) isT hT
  have hFc := va_free (wc := wc) hD hS hA isC hC
  have hts := S0.2.2.2.2
  refine va_calli (va_runV (As := av) (rest := rest) S0 hM (cwV n hts (lw_V h1 h2 h3 h4 h5) rfl hr0.1 hr0.2 hd hR) ⟨ZP_blind, va_recv hKc hPc (ci := cn) (q0 := 0) hc he, fun U hU hW => ⟨rfl, by rw [hU], by rw [hU]; exact hPc, va_K.moved hW.alike hKc, hDc.weaken (fun _ _ _ _ => trivial)⟩⟩ rfl hn hsize hst (lv_room hroom) hdg hf) hS (fun q _ h => hFc q h) hFc (fun r u t H1 locs1 ht hvm hw hB hz1 hk1 hS1 => ?_)
  obtain ⟨hP1, hK1, hD1⟩ := hB
  rw [ht] at hP1
  obtain ⟨hP2, hD2⟩ := va_join (wr := wr) (w1 := wp u) hP hD isC isR hC hR' hnR hdis hk1 hFc hP1 hD1
  exact kk r u H1 locs1 hw ⟨hP2, hD2, hS1⟩
theorem zw_Vv {S : Type} {post : S → Prop} {wp : S → va_W} {b cn N : Nat} {T : u_T} {fs : List Value} (S0 : CallFix p m c cc nL s args lw_all own) (hM : ZMv l y bytes maxL ret rm D tc (.ref b :: av) H.size wc post wp) (h1 : Cond.methodLink own index y ∈ lw_all) (h2 : Cond.instanceMethod y ∈ lw_all) (h3 : Cond.selects C y y ∈ lw_all) (h4 : Cond.initialized C ∈ lw_all) (h5 : Cond.code y bytes maxL ret ∈ lw_all)
    (hd : y.cls = C ∧ y.cls ≠ "java/lang/invoke/MethodHandle" ∧ y.cls ≠ "java/lang/invoke/VarHandle" ∧ (parseMethodDescriptor y.desc).map (fun d => d.parameters.length) = some n) (hR : rm.frames + 1 ≤ R.frames ∧ 8 + (maxL + 11) + rm.locals ≤ R.locals) (hr0 : rm.cells = 0 ∧ rm.slots = 0)
    (hf : cells ≤ R.cells ∧ slots ≤ R.slots) (hK : va_K D vwCl tys s) (hA : ∀ q, H0.size ≤ q → A q) (hH : ZH D A H0 ws H locs) (isC isR isT : List Nat) (hC : isC.map (fun i => ws[i]?) = wc.map some) (hR' : isR.map (fun i => ws[i]?) = wr.map some) (hT : isT.filterMap (fun i => tys[i]?) = tc) (hnC : va_nd isC = true) (hnR : va_nd isR = true) (hdis : ∀ i ∈ isR, i ∉ isC) (hPs : isC.filterMap (fun i => ws[i]?) = wc)
    (hc : vwCl[cn]? = some (C, T, N)) (he : wc[0]? = some (b, .inr (cn, fs))) (hn : av.length = n) (hsize : ls.size = nL) (hst : st0 = av.reverse ++ .ref b :: rest) (hroom : (rest.map fun v => v.category).sum ≤ 8) (hdg : decode cc pc = .ok (.invokevirtual index, 3))
    (kk : ∀ (u : S) (H1 : Heap) (locs1 : List Loc), post u → ZH D A H0 (wr ++ wp u) H1 locs1 → W p l e R s m args below meth c H1 locs1 cells slots Q (F0 m (pc + 3) ls rest)) : W p l e R s m args below meth c H locs cells slots Q (F0 m pc ls st0) := by
  obtain ⟨hP, hD, hS⟩ := hH
  have hPc := hP.sub (ws' := wc) isC hPs
  have hDc := hD.sub (ws' := wc) isC hnC hC
  have hKc := hK.sub (tys' := tc) isT hT
  have hFc := va_free (wc := wc) hD hS hA isC hC
  have hts := S0.2.2.2.2
  refine va_callv (va_runV (As := av) (rest := rest) S0 hM (cwV n hts (lw_V h1 h2 h3 h4 h5) rfl hr0.1 hr0.2 hd hR) ⟨ZP_blind, va_recv hKc hPc (ci := cn) (q0 := 0) hc he, fun U hU hW => ⟨rfl, by rw [hU], by rw [hU]; exact hPc, va_K.moved hW.alike hKc, hDc.weaken (fun _ _ _ _ => trivial)⟩⟩ rfl hn hsize hst (lv_room hroom) hdg hf) hS (fun q _ h => hFc q h) hFc (fun u t H1 locs1 ht hvm hw hB hz1 hk1 hS1 => ?_)
  obtain ⟨hP1, hK1, hD1⟩ := hB
  rw [ht] at hP1
  obtain ⟨hP2, hD2⟩ := va_join (wr := wr) (w1 := wp u) hP hD isC isR hC hR' hnR hdis hk1 hFc hP1 hD1
  exact kk u H1 locs1 hw ⟨hP2, hD2, hS1⟩
theorem zx_g0 (hx : p.tables.exec = Jvm.exec) (hb : c.code = cc) (hts : ∀ w ∈ lw_all, w.before args s = true) (hown : s.vm.findClass RX0 = some m.cls) (hK : va_K D vwCl (XT ci) s) (hH : ZH D A H0 (XW ad ci w mv us tb) H locs) (hdg : decode cc pc = .ok (.getfield 7, 3)) (kk : W p l e R s m args below meth c H locs cells slots Q (F0 m (pc + 3) ls (.ref (ad 1) :: rest))) : W p l e R s m args below meth c H locs cells slots Q (F0 m pc ls (.ref (ad 0) :: rest)) :=
  va_get (D := D) (ci := 0) (v := .ref (ad 1)) (C := RX0) (T := TX0) (N := 4) hx hb hts in_X0 hown hK hH.1 0 rfl rfl 0 (by decide) (hts _ q27) (fun _ h9 => h9) rfl hdg kk
theorem zx_l0 (hx : p.tables.exec = Jvm.exec) (hb : c.code = cc) (hK : va_K D vwCl (XT ci) s) (hH : ZH D A H0 (XW ad ci w mv us tb) H locs) {j : Nat} (hj : j < 24) (hdg : decode cc pc = .ok (.iaload, 1)) (kk : W p l e R s m args below meth c H locs cells slots Q (F0 m (pc + 1) ls (.int (w j) :: rest))) : W p l e R s m args below meth c H locs cells slots Q (F0 m pc ls (.int (nI j) :: .ref (ad 1) :: rest)) := by
  refine va_iald hx hb hK hH.1 1 0 rfl rfl (vp_in_nI hj (by decide)) hdg ?_
  rw [nI_clamp (by omega)]
  exact kk
theorem zx_s0 (hx : p.tables.exec = Jvm.exec) (hb : c.code = cc) (hK : va_K D vwCl (XT ci) s) (hH : ZH D A H0 (XW ad ci w mv us tb) H locs) {j : Nat} {x : Int32} (hj : j < 24) (hdg : decode cc pc = .ok (.iastore, 1)) (kk : ∀ (H1 : Heap) (locs1 : List Loc), ZH D A H0 (XW ad ci (upd w j x) mv us tb) H1 locs1 → W p l e R s m args below meth c H1 locs1 cells slots Q (F0 m (pc + 1) ls rest)) : W p l e R s m args below meth c H locs cells slots Q (F0 m pc ls (.int x :: .int (nI j) :: .ref (ad 1) :: rest)) := by
  refine va_iast hx hb hK hH.1 hH.2.1 hH.2.2 1 0 rfl rfl (vp_in_nI hj (by decide)) hdg (fun H1 locs1 hP hD hS => ?_)
  rw [nI_clamp (by omega)] at hP hD
  exact kk H1 locs1 ⟨hP, hD, hS⟩
theorem zx_g1 (hx : p.tables.exec = Jvm.exec) (hb : c.code = cc) (hts : ∀ w ∈ lw_all, w.before args s = true) (hown : s.vm.findClass RX0 = some m.cls) (hK : va_K D vwCl (XT ci) s) (hH : ZH D A H0 (XW ad ci w mv us tb) H locs) (hdg : decode cc pc = .ok (.getfield 13, 3)) (kk : W p l e R s m args below meth c H locs cells slots Q (F0 m (pc + 3) ls (.ref (ad 2) :: rest))) : W p l e R s m args below meth c H locs cells slots Q (F0 m pc ls (.ref (ad 0) :: rest)) :=
  va_get (D := D) (ci := 0) (v := .ref (ad 2)) (C := RX0) (T := TX0) (N := 4) hx hb hts in_X0 hown hK hH.1 0 rfl rfl 1 (by decide) (hts _ q28) (fun _ h9 => h9) rfl hdg kk
theorem zx_l1 (hx : p.tables.exec = Jvm.exec) (hb : c.code = cc) (hK : va_K D vwCl (XT ci) s) (hH : ZH D A H0 (XW ad ci w mv us tb) H locs) {j : Nat} (hj : j < 24) (hdg : decode cc pc = .ok (.iaload, 1)) (kk : W p l e R s m args below meth c H locs cells slots Q (F0 m (pc + 1) ls (.int (mv j) :: rest))) : W p l e R s m args below meth c H locs cells slots Q (F0 m pc ls (.int (nI j) :: .ref (ad 2) :: rest)) := by
  refine va_iald hx hb hK hH.1 2 1 rfl rfl (vp_in_nI hj (by decide)) hdg ?_
  rw [nI_clamp (by omega)]
  exact kk
theorem zx_s1 (hx : p.tables.exec = Jvm.exec) (hb : c.code = cc) (hK : va_K D vwCl (XT ci) s) (hH : ZH D A H0 (XW ad ci w mv us tb) H locs) {j : Nat} {x : Int32} (hj : j < 24) (hdg : decode cc pc = .ok (.iastore, 1)) (kk : ∀ (H1 : Heap) (locs1 : List Loc), ZH D A H0 (XW ad ci w (upd mv j x) us tb) H1 locs1 → W p l e R s m args below meth c H1 locs1 cells slots Q (F0 m (pc + 1) ls rest)) : W p l e R s m args below meth c H locs cells slots Q (F0 m pc ls (.int x :: .int (nI j) :: .ref (ad 2) :: rest)) := by
  refine va_iast hx hb hK hH.1 hH.2.1 hH.2.2 2 1 rfl rfl (vp_in_nI hj (by decide)) hdg (fun H1 locs1 hP hD hS => ?_)
  rw [nI_clamp (by omega)] at hP hD
  exact kk H1 locs1 ⟨hP, hD, hS⟩
theorem zx_g2 (hx : p.tables.exec = Jvm.exec) (hb : c.code = cc) (hts : ∀ w ∈ lw_all, w.before args s = true) (hown : s.vm.findClass RX0 = some m.cls) (hK : va_K D vwCl (XT ci) s) (hH : ZH D A H0 (XW ad ci w mv us tb) H locs) (hdg : decode cc pc = .ok (.getfield 16, 3)) (kk : W p l e R s m args below meth c H locs cells slots Q (F0 m (pc + 3) ls (.ref (ad 3) :: rest))) : W p l e R s m args below meth c H locs cells slots Q (F0 m pc ls (.ref (ad 0) :: rest)) :=
  va_get (D := D) (ci := 0) (v := .ref (ad 3)) (C := RX0) (T := TX0) (N := 4) hx hb hts in_X0 hown hK hH.1 0 rfl rfl 2 (by decide) (hts _ q29) (fun _ h9 => h9) rfl hdg kk
theorem zx_l2 (hx : p.tables.exec = Jvm.exec) (hb : c.code = cc) (hK : va_K D vwCl (XT ci) s) (hH : ZH D A H0 (XW ad ci w mv us tb) H locs) {j : Nat} (hj : j < 24) (hdg : decode cc pc = .ok (.iaload, 1)) (kk : W p l e R s m args below meth c H locs cells slots Q (F0 m (pc + 1) ls (.int (us j) :: rest))) : W p l e R s m args below meth c H locs cells slots Q (F0 m pc ls (.int (nI j) :: .ref (ad 3) :: rest)) := by
  refine va_iald hx hb hK hH.1 3 2 rfl rfl (vp_in_nI hj (by decide)) hdg ?_
  rw [nI_clamp (by omega)]
  exact kk
theorem zx_s2 (hx : p.tables.exec = Jvm.exec) (hb : c.code = cc) (hK : va_K D vwCl (XT ci) s) (hH : ZH D A H0 (XW ad ci w mv us tb) H locs) {j : Nat} {x : Int32} (hj : j < 24) (hdg : decode cc pc = .ok (.iastore, 1)) (kk : ∀ (H1 : Heap) (locs1 : List Loc), ZH D A H0 (XW ad ci w mv (upd us j x) tb) H1 locs1 → W p l e R s m args below meth c H1 locs1 cells slots Q (F0 m (pc + 1) ls rest)) : W p l e R s m args below meth c H locs cells slots Q (F0 m pc ls (.int x :: .int (nI j) :: .ref (ad 3) :: rest)) := by
  refine va_iast hx hb hK hH.1 hH.2.1 hH.2.2 3 2 rfl rfl (vp_in_nI hj (by decide)) hdg (fun H1 locs1 hP hD hS => ?_)
  rw [nI_clamp (by omega)] at hP hD
  exact kk H1 locs1 ⟨hP, hD, hS⟩
theorem zx_g3 (hx : p.tables.exec = Jvm.exec) (hb : c.code = cc) (hts : ∀ w ∈ lw_all, w.before args s = true) (hown : s.vm.findClass RX0 = some m.cls) (hK : va_K D vwCl (XT ci) s) (hH : ZH D A H0 (XW ad ci w mv us tb) H locs) (hdg : decode cc pc = .ok (.getfield 19, 3)) (kk : W p l e R s m args below meth c H locs cells slots Q (F0 m (pc + 3) ls (.ref (ad 4) :: rest))) : W p l e R s m args below meth c H locs cells slots Q (F0 m pc ls (.ref (ad 0) :: rest)) :=
  va_get (D := D) (ci := 0) (v := .ref (ad 4)) (C := RX0) (T := TX0) (N := 4) hx hb hts in_X0 hown hK hH.1 0 rfl rfl 3 (by decide) (hts _ q30) (fun _ h9 => h9) rfl hdg kk
theorem zx_l3 (hx : p.tables.exec = Jvm.exec) (hb : c.code = cc) (hK : va_K D vwCl (XT ci) s) (hH : ZH D A H0 (XW ad ci w mv us tb) H locs) {j : Nat} (hj : j < 64) (hdg : decode cc pc = .ok (.laload, 1)) (kk : W p l e R s m args below meth c H locs cells slots Q (F0 m (pc + 1) ls (.long (tb j) :: rest))) : W p l e R s m args below meth c H locs cells slots Q (F0 m pc ls (.int (nI j) :: .ref (ad 4) :: rest)) := by
  refine va_lald hx hb hK hH.1 4 3 rfl rfl (vp_in_nI hj (by decide)) hdg ?_
  rw [nI_clamp (by omega)]
  exact kk
theorem zx_s3 (hx : p.tables.exec = Jvm.exec) (hb : c.code = cc) (hK : va_K D vwCl (XT ci) s) (hH : ZH D A H0 (XW ad ci w mv us tb) H locs) {j : Nat} {x : Int64} (hj : j < 64) (hdg : decode cc pc = .ok (.lastore, 1)) (kk : ∀ (H1 : Heap) (locs1 : List Loc), ZH D A H0 (XW ad ci w mv us (vp_updL tb j x)) H1 locs1 → W p l e R s m args below meth c H1 locs1 cells slots Q (F0 m (pc + 1) ls rest)) : W p l e R s m args below meth c H locs cells slots Q (F0 m pc ls (.long x :: .int (nI j) :: .ref (ad 4) :: rest)) := by
  refine va_last hx hb hK hH.1 hH.2.1 hH.2.2 4 3 rfl rfl (vp_in_nI hj (by decide)) hdg (fun H1 locs1 hP hD hS => ?_)
  rw [nI_clamp (by omega)] at hP hD
  exact kk H1 locs1 ⟨hP, hD, hS⟩
theorem zy_g0 (hx : p.tables.exec = Jvm.exec) (hb : c.code = cc) (hts : ∀ w ∈ lw_all, w.before args s = true) (hown : s.vm.findClass RX1 = some m.cls) (hK : va_K D vwCl (YT ci) s) (hH : ZH D A H0 (YW ad ci w ol) H locs) (hdg : decode cc pc = .ok (.getfield 7, 3)) (kk : W p l e R s m args below meth c H locs cells slots Q (F0 m (pc + 3) ls (.ref (ad 1) :: rest))) : W p l e R s m args below meth c H locs cells slots Q (F0 m pc ls (.ref (ad 0) :: rest)) :=
  va_get (D := D) (ci := 1) (v := .ref (ad 1)) (C := RX1) (T := TX1) (N := 2) hx hb hts in_X1 hown hK hH.1 0 rfl rfl 0 (by decide) (hts _ q147) (fun _ h9 => h9) rfl hdg kk
theorem zy_l0 (hx : p.tables.exec = Jvm.exec) (hb : c.code = cc) (hK : va_K D vwCl (YT ci) s) (hH : ZH D A H0 (YW ad ci w ol) H locs) {j : Nat} (hj : j < 24) (hdg : decode cc pc = .ok (.iaload, 1)) (kk : W p l e R s m args below meth c H locs cells slots Q (F0 m (pc + 1) ls (.int (w j) :: rest))) : W p l e R s m args below meth c H locs cells slots Q (F0 m pc ls (.int (nI j) :: .ref (ad 1) :: rest)) := by
  refine va_iald hx hb hK hH.1 1 0 rfl rfl (vp_in_nI hj (by decide)) hdg ?_
  rw [nI_clamp (by omega)]
  exact kk
theorem zy_s0 (hx : p.tables.exec = Jvm.exec) (hb : c.code = cc) (hK : va_K D vwCl (YT ci) s) (hH : ZH D A H0 (YW ad ci w ol) H locs) {j : Nat} {x : Int32} (hj : j < 24) (hdg : decode cc pc = .ok (.iastore, 1)) (kk : ∀ (H1 : Heap) (locs1 : List Loc), ZH D A H0 (YW ad ci (upd w j x) ol) H1 locs1 → W p l e R s m args below meth c H1 locs1 cells slots Q (F0 m (pc + 1) ls rest)) : W p l e R s m args below meth c H locs cells slots Q (F0 m pc ls (.int x :: .int (nI j) :: .ref (ad 1) :: rest)) := by
  refine va_iast hx hb hK hH.1 hH.2.1 hH.2.2 1 0 rfl rfl (vp_in_nI hj (by decide)) hdg (fun H1 locs1 hP hD hS => ?_)
  rw [nI_clamp (by omega)] at hP hD
  exact kk H1 locs1 ⟨hP, hD, hS⟩
theorem zy_g1 (hx : p.tables.exec = Jvm.exec) (hb : c.code = cc) (hts : ∀ w ∈ lw_all, w.before args s = true) (hown : s.vm.findClass RX1 = some m.cls) (hK : va_K D vwCl (YT ci) s) (hH : ZH D A H0 (YW ad ci w ol) H locs) (hdg : decode cc pc = .ok (.getfield 13, 3)) (kk : W p l e R s m args below meth c H locs cells slots Q (F0 m (pc + 3) ls (.ref (ad 2) :: rest))) : W p l e R s m args below meth c H locs cells slots Q (F0 m pc ls (.ref (ad 0) :: rest)) :=
  va_get (D := D) (ci := 1) (v := .ref (ad 2)) (C := RX1) (T := TX1) (N := 2) hx hb hts in_X1 hown hK hH.1 0 rfl rfl 1 (by decide) (hts _ q148) (fun _ h9 => h9) rfl hdg kk
theorem zy_l1 (hx : p.tables.exec = Jvm.exec) (hb : c.code = cc) (hK : va_K D vwCl (YT ci) s) (hH : ZH D A H0 (YW ad ci w ol) H locs) {j : Nat} (hj : j < 24) (hdg : decode cc pc = .ok (.iaload, 1)) (kk : W p l e R s m args below meth c H locs cells slots Q (F0 m (pc + 1) ls (.int (ol j) :: rest))) : W p l e R s m args below meth c H locs cells slots Q (F0 m pc ls (.int (nI j) :: .ref (ad 2) :: rest)) := by
  refine va_iald hx hb hK hH.1 2 1 rfl rfl (vp_in_nI hj (by decide)) hdg ?_
  rw [nI_clamp (by omega)]
  exact kk
theorem zy_s1 (hx : p.tables.exec = Jvm.exec) (hb : c.code = cc) (hK : va_K D vwCl (YT ci) s) (hH : ZH D A H0 (YW ad ci w ol) H locs) {j : Nat} {x : Int32} (hj : j < 24) (hdg : decode cc pc = .ok (.iastore, 1)) (kk : ∀ (H1 : Heap) (locs1 : List Loc), ZH D A H0 (YW ad ci w (upd ol j x)) H1 locs1 → W p l e R s m args below meth c H1 locs1 cells slots Q (F0 m (pc + 1) ls rest)) : W p l e R s m args below meth c H locs cells slots Q (F0 m pc ls (.int x :: .int (nI j) :: .ref (ad 2) :: rest)) := by
  refine va_iast hx hb hK hH.1 hH.2.1 hH.2.2 2 1 rfl rfl (vp_in_nI hj (by decide)) hdg (fun H1 locs1 hP hD hS => ?_)
  rw [nI_clamp (by omega)] at hP hD
  exact kk H1 locs1 ⟨hP, hD, hS⟩
end ZROWS
end
section
/-! numbers; what the public methods answer, in the same words for both classes -/
set_option maxRecDepth 100000
theorem zn_sl : ∀ n, n < 32 → ((nI n &&& 31).toBitVec.smod 32).toNat = n := by decide +kernel
theorem zn_shr {n k : Nat} (h : n < 2 ^ 31) (hk : k < 32) : nI n >>> (nI k &&& 31) = nI (n / 2 ^ k) := pk_shrN h _ k (zn_sl k hk)
theorem zn_shl1 {k : Nat} (hk : k < 32) : nI 1 <<< (nI k &&& 31) = nI (2 ^ k) := by
  rw [pk_shlN (n := 1) _ k (zn_sl k hk) (by rw [Nat.one_mul]; exact Nat.pow_lt_pow_right (by decide) hk), Nat.one_mul]
theorem zn_and1 {n : Nat} (h : n < 2 ^ 32) : nI n &&& nI 1 = nI (n % 2) := pk_andN h 1 (by decide)
theorem zn_and (a b : Nat) : nI a &&& nI b = nI (a &&& b) := by
  apply Int32.toBitVec_inj.1
  show BitVec.ofNat 32 a &&& BitVec.ofNat 32 b = BitVec.ofNat 32 (a &&& b)
  apply BitVec.eq_of_getLsbD_eq
  intro i hi
  simp [hi]
theorem zn_or (a b : Nat) : nI a ||| nI b = nI (a ||| b) := by
  apply Int32.toBitVec_inj.1
  show BitVec.ofNat 32 a ||| BitVec.ofNat 32 b = BitVec.ofNat 32 (a ||| b)
  apply BitVec.eq_of_getLsbD_eq
  intro i hi
  simp [hi]
/-- a place's number is none, or one below 24 -/
def zf_bad (r x : Int32) : Prop := (r = nI 1 ∧ (x < 0 ∨ nI 24 ≤ x)) ∨ (r = nI 0 ∧ ∃ j, j < 24 ∧ x = nI j)
/-- the array w holds the weights v -/
def zv (v : Nat → Nat) (w : Nat → Int32) : Prop := ∀ j, j < 24 → w j = nI (v j) ∧ v j ≤ 4
def sp_ix (x : Int32) : Option Nat := if x < 0 ∨ nI 24 ≤ x then none else some x.toNatClampNeg
theorem sp_ix_bad {x : Int32} (h : x < 0 ∨ nI 24 ≤ x) : sp_ix x = none := if_pos h
theorem sp_ix_nI {j : Nat} (h : j < 24) : sp_ix (nI j) = some j := by
  unfold sp_ix
  rw [if_neg, nI_clamp (by omega)]
  rintro (q | q)
  · exact nI_pos (by omega) q
  · exact nI_ge h (by decide) q
def sp_wgt (x : Int32) : Option Nat := if x < 0 ∨ nI 4 < x then none else some x.toNatClampNeg
theorem sp_wgt_bad {x : Int32} (h : x < 0 ∨ nI 4 < x) : sp_wgt x = none := if_pos h
theorem sp_wgt_nI {j : Nat} (h : j ≤ 4) : sp_wgt (nI j) = some j := by
  unfold sp_wgt
  rw [if_neg, nI_clamp (by omega)]
  rintro (q | q)
  · exact nI_pos (by omega) q
  · have := (nI_ltI (by decide) (by omega)).mp q
    omega
def sp_sq (x : Int32) : Option Nat := if x < 0 ∨ nI 15 < x then none else some x.toNatClampNeg
theorem sp_sq_bad {x : Int32} (h : x < 0 ∨ nI 15 < x) : sp_sq x = none := if_pos h
theorem sp_sq_nI {j : Nat} (h : j ≤ 15) : sp_sq (nI j) = some j := by
  unfold sp_sq
  rw [if_neg, nI_clamp (by omega)]
  rintro (q | q)
  · exact nI_pos (by omega) q
  · have := (nI_ltI (by decide) (by omega)).mp q
    omega
/-- an int that is neither below zero nor above n is a number up to n -/
theorem zn_upto {x : Int32} (n : Nat) (hn : n < 2 ^ 30) (h0 : ¬ x < 0) (h1 : ¬ nI n < x) : ∃ j, j ≤ n ∧ x = nI j := by
  rcases pk_ix x (n := n + 1) (by omega) with h | h | ⟨j, hj, h⟩
  · exact absurd h h0
  · refine absurd ?_ h1
    have h2 := Int32.le_iff_toInt_le.mp h
    rw [nI_toInt (by omega)] at h2
    rw [Int32.lt_iff_toInt_lt, nI_toInt (by omega)]
    omega
  · exact ⟨j, by omega, h⟩
def sp_put (v : Nat → Nat) (j k : Nat) : Nat → Nat := fun i => if i = j then k else v i
def sp_weight (v : Nat → Nat) (x y : Int32) : Int32 × (Nat → Nat) := match sp_ix x with
  | none => (-1, v)
  | some j => match sp_wgt y with
    | none => (-2, v)
    | some k => (nI (v j), sp_put v j k)
def sp_all (v : Nat → Nat) (y : Int32) : Int32 × (Nat → Nat) := match sp_wgt y with
  | none => (-2, v)
  | some k => (nI 0, fun _ => k)
def sp_cov (p t : Nat) : Bool := Nat.beq t (zk_fs p) || Nat.beq t (zk_ss p)
def sp_off (j t p : Nat) : Bool := sp_cov p t && !Nat.beq p j
def sp_hit (v : Nat → Nat) (j t p : Nat) : Bool := sp_off j t p && !Nat.beq (v p) 0
def sp_force (v : Nat → Nat) (x y : Int32) : Int32 × (Nat → Nat) := match sp_ix y with
  | none => (-1, v)
  | some j => match sp_sq x with
    | none => (-1, v)
    | some t => if sp_cov j t = true then (nI (zt_sum (fun p => if sp_hit v j t p = true then 1 else 0) 24), fun p => if sp_off j t p = true then 0 else v p) else (-1, v)
def sp_to (p : Nat) : Nat := if p < 12 then 12 + zk_fs p % 4 * 4 + 3 - zk_fs p / 4 else zk_fs p % 4 * 3 + 2 - zk_fs p / 4
def sp_from (q : Nat) : Nat := [20, 16, 12, 21, 17, 13, 22, 18, 14, 23, 19, 15, 9, 6, 3, 0, 10, 7, 4, 1, 11, 8, 5, 2].getD q 0
theorem sp_to_lt : ∀ p, p < 24 → sp_to p < 24 := by decide +kernel
theorem sp_from_lt : ∀ p, p < 24 → sp_from p < 24 := by decide +kernel
theorem sp_to_from : ∀ p, p < 24 → sp_to (sp_from p) = p := by decide +kernel
theorem sp_from_to : ∀ p, p < 24 → sp_from (sp_to p) = p := by decide +kernel
def sp_turn (v : Nat → Nat) : Nat → Nat := fun q => v (sp_from q)
def sp_weightOf (v : Nat → Nat) (x : Int32) : Int32 := match sp_ix x with
  | none => -1
  | some j => nI (v j)
def sp_with (v : Nat → Nat) (x : Int32) : Int32 := match sp_ix x with
  | none => -1
  | some j => nI (zt_W v (2 ^ j))
def sp_both (v : Nat → Nat) (x y : Int32) : Int32 := match sp_ix x with
  | none => -1
  | some a => match sp_ix y with
    | none => -1
    | some b => nI (zt_W v (2 ^ a ||| 2 ^ b))
def sp_can (v : Nat → Nat) (x : Int32) : Int32 := match sp_ix x with
  | none => nI 0
  | some j => if 0 < zt_W v (2 ^ j) then nI 1 else nI 0
def sp_across (v : Nat → Nat) : Int32 := nI (zt_sum (fun p => zt_W v (2 ^ p)) 12)
theorem zk_fs_lt : ∀ p, p < 24 → zk_fs p < 12 ∨ zk_fs p < 15 := by decide +kernel
theorem zk_ss_lt : ∀ p, p < 24 → zk_ss p < 16 := by decide +kernel
theorem zk_fs_of {p : Nat} (h : 12 ≤ p) : zk_fs p = p - 12 := if_pos h
theorem zk_fs_lo {p : Nat} (h : ¬ 12 ≤ p) : zk_fs p = p / 3 * 4 + p % 3 := if_neg h
theorem zk_ss_of {p : Nat} (h : 12 ≤ p) : zk_ss p = zk_fs p + 4 := if_pos h
theorem zk_ss_lo {p : Nat} (h : ¬ 12 ≤ p) : zk_ss p = zk_fs p + 1 := if_neg h
theorem zn_beq {a b : Nat} (h : a = b) : Nat.beq a b = true := Nat.beq_eq.mpr h
theorem zn_bne {a b : Nat} (h : ¬ a = b) : Nat.beq a b = false := by
  cases q : Nat.beq a b with
  | true => exact absurd (Nat.beq_eq.mp q) h
  | false => rfl
end
section
/-! DimerCounter: its static methods -/
set_option maxRecDepth 100000
/-- bad(x) -/
theorem mX0_bad (l : Launch) (D : va_G) (sz : Nat) (x : Int32) : ZMi l yX0_bad cX0_bad 1 (some .boolean) (zr 0) D [] [.int x] sz [] (fun r (_ : Unit) => zf_bad r x) (fun _ => []) := by
  unfold ZMi
  refine zw_met (own := RX0) (Qf := fun A => va_Qi (fun r (_ : Unit) => zf_bad r x) (ZB D [] (fun _ => []) A) A) (by decide) rfl (Nat.le_of_ble_eq_true rfl) ?_
  intro p e s m below meth c A ls S0 hr hlocks hin hA hK hH hl
  obtain ⟨hx, hb, hml, hown, hts⟩ := id S0
  have hl : lv_has ls 1 [(0, .int (x))] := hl
  refine lv_iload_n hx hb dX0_bad_0 rfl (lv_at hl 0 rfl) ?_
  refine lv_if_lt (tgt := 10) hx hb dX0_bad_1 (by decide) (fun c1 => ?_) (fun c1 => ?_)
  · refine lv_iconst (v := nI 1) hx hb dX0_bad_10 (by decide) ?_
    refine lv_goto (tgt := 15) hx hb dX0_bad_11 (by decide) ?_
    exact zw_zret (u := ()) hx hb hr hlocks hK hH (by decide) (Or.inl ⟨rfl, Or.inl c1⟩) dX0_bad_15
  · refine lv_iload_n hx hb dX0_bad_4 rfl (lv_at hl 0 rfl) ?_
    refine lv_bipush (v := nI 24) hx hb dX0_bad_5 (by decide) ?_
    refine lv_icmp_lt (tgt := 14) hx hb dX0_bad_7 (by decide) (fun c7 => ?_) (fun c7 => ?_)
    · refine lv_iconst (v := nI 0) hx hb dX0_bad_14 (by decide) ?_
      exact zw_zret (u := ()) hx hb hr hlocks hK hH (by decide) (by
              rcases pk_ix x (n := 24) (by decide) with h | h | h
              · exact absurd h c1
              · exact absurd c7 (fun q => by have h1 := Int32.le_iff_toInt_le.mp h; have h2 := Int32.lt_iff_toInt_lt.mp q; omega)
              · exact Or.inr ⟨rfl, h⟩) dX0_bad_15
    · refine lv_iconst (v := nI 1) hx hb dX0_bad_10 (by decide) ?_
      refine lv_goto (tgt := 15) hx hb dX0_bad_11 (by decide) ?_
      exact zw_zret (u := ()) hx hb hr hlocks hK hH (by decide) (Or.inl ⟨rfl, Or.inr (Int32.le_iff_toInt_le.mpr (Int.not_lt.mp (fun q => c7 (Int32.lt_iff_toInt_lt.mpr q))))⟩) dX0_bad_15
/-- firstSquare(k) -/
theorem mX0_firstSquare (l : Launch) (D : va_G) (sz : Nat) (k : Nat) (hk : k < 24) : ZMi l yX0_firstSquare cX0_firstSquare 1 (some .int) (zr 0) D [] [.int (nI k)] sz [] (fun r (_ : Unit) => r = nI (zk_fs k)) (fun _ => []) := by
  unfold ZMi
  refine zw_met (own := RX0) (Qf := fun A => va_Qi (fun r (_ : Unit) => r = nI (zk_fs k)) (ZB D [] (fun _ => []) A) A) (by decide) rfl (Nat.le_of_ble_eq_true rfl) ?_
  intro p e s m below meth c A ls S0 hr hlocks hin hA hK hH hl
  obtain ⟨hx, hb, hml, hown, hts⟩ := id S0
  have hl : lv_has ls 1 [(0, .int (nI (k)))] := hl
  refine lv_iload_n hx hb dX0_firstSquare_0 rfl (lv_at hl 0 rfl) ?_
  refine lv_bipush (v := nI 12) hx hb dX0_firstSquare_1 (by decide) ?_
  refine lv_icmp_lt (tgt := 11) hx hb dX0_firstSquare_3 (by decide) (fun c3 => ?_) (fun c3 => ?_)
  · have c3 : k < 12 := (nI_ltI (a := k) (b := 12) (by omega) (by omega)).mp c3
    refine lv_iload_n hx hb dX0_firstSquare_11 rfl (lv_at hl 0 rfl) ?_
    refine lv_iconst (v := nI 3) hx hb dX0_firstSquare_12 (by decide) ?_
    refine lv_idiv hx hb dX0_firstSquare_13 (by decide) ?_
    refine zw_i (nI (k / 3)) (pk_div (by omega) (by decide) (by decide)) ?_
    refine lv_iconst (v := nI 4) hx hb dX0_firstSquare_14 (by decide) ?_
    refine lv_imul hx hb dX0_firstSquare_15 ?_
    refine zw_i (nI ((k / 3) * 4)) (pk_mul _ _) ?_
    refine lv_iload_n hx hb dX0_firstSquare_16 rfl (lv_at hl 0 rfl) ?_
    refine lv_iconst (v := nI 3) hx hb dX0_firstSquare_17 (by decide) ?_
    refine lv_irem hx hb dX0_firstSquare_18 (by decide) ?_
    refine zw_i (nI (k % 3)) (pk_rem (by omega) (by decide) (by decide)) ?_
    refine lv_iadd hx hb dX0_firstSquare_19 ?_
    refine zw_i (nI (((k / 3) * 4) + (k % 3))) (nI_add _ _) ?_
    exact zw_iret (u := ()) hx hb hr hlocks hK hH (by rw [zk_fs_lo (by omega)]) dX0_firstSquare_20
  · have c3 : ¬ (k < 12) := fun h => c3 ((nI_ltI (a := k) (b := 12) (by omega) (by omega)).mpr h)
    refine lv_iload_n hx hb dX0_firstSquare_6 rfl (lv_at hl 0 rfl) ?_
    refine lv_bipush (v := nI 12) hx hb dX0_firstSquare_7 (by decide) ?_
    refine lv_isub hx hb dX0_firstSquare_9 ?_
    refine zw_i (nI (k - 12)) (pk_sub (by omega)) ?_
    exact zw_iret (u := ()) hx hb hr hlocks hK hH (by rw [zk_fs_of (by omega)]) dX0_firstSquare_10
/-- secondSquare(k) -/
theorem mX0_secondSquare (l : Launch) (D : va_G) (sz : Nat) (k : Nat) (hk : k < 24) : ZMi l yX0_secondSquare cX0_secondSquare 2 (some .int) (zr 1) D [] [.int (nI k)] sz [] (fun r (_ : Unit) => r = nI (zk_ss k)) (fun _ => []) := by
  unfold ZMi
  refine zw_met (own := RX0) (Qf := fun A => va_Qi (fun r (_ : Unit) => r = nI (zk_ss k)) (ZB D [] (fun _ => []) A) A) (by decide) rfl (Nat.le_of_ble_eq_true rfl) ?_
  intro p e s m below meth c A ls S0 hr hlocks hin hA hK hH hl
  obtain ⟨hx, hb, hml, hown, hts⟩ := id S0
  have hl : lv_has ls 2 [(0, .int (nI (k)))] := hl
  have hfs := zk_fs_lt k hk
  refine lv_iload_n hx hb dX0_secondSquare_0 rfl (lv_at hl 0 rfl) ?_
  refine zw_Si (n := 1) (rest := []) S0 (mX0_firstSquare l D _ k hk) q57 q58 q17 q59 (by decide +kernel) ⟨Nat.le_of_ble_eq_true rfl, Nat.le_of_ble_eq_true rfl⟩ ⟨rfl, rfl⟩ ⟨Nat.zero_le _, Nat.zero_le _⟩ hK hA hH rfl hl.1 rfl (Nat.le_of_ble_eq_true rfl) dX0_secondSquare_1 (fun r1 H locs hr1 hH => ?_)
  refine zw_i (nI (zk_fs k)) (hr1) ?_
  refine lv_istore_n (lv' := [(1, .int _), (0, .int _)]) hx hb dX0_secondSquare_4 rfl hl (by decide) rfl (fun ls hl => ?_)
  refine lv_iload_n hx hb dX0_secondSquare_5 rfl (lv_at hl 1 rfl) ?_
  refine lv_bipush (v := nI 12) hx hb dX0_secondSquare_6 (by decide) ?_
  refine lv_icmp_lt (tgt := 17) hx hb dX0_secondSquare_8 (by decide) (fun c8 => ?_) (fun c8 => ?_)
  · have c8 : k < 12 := (nI_ltI (a := k) (b := 12) (by omega) (by omega)).mp c8
    refine lv_iload_n hx hb dX0_secondSquare_17 rfl (lv_at hl 0 rfl) ?_
    refine lv_iconst (v := nI 1) hx hb dX0_secondSquare_18 (by decide) ?_
    refine lv_iadd hx hb dX0_secondSquare_19 ?_
    refine zw_i (nI ((zk_fs k) + 1)) (nI_add _ _) ?_
    exact zw_iret (u := ()) hx hb hr hlocks hK hH (by rw [zk_ss_lo (by omega)]) dX0_secondSquare_20
  · have c8 : ¬ (k < 12) := fun h => c8 ((nI_ltI (a := k) (b := 12) (by omega) (by omega)).mpr h)
    refine lv_iload_n hx hb dX0_secondSquare_11 rfl (lv_at hl 0 rfl) ?_
    refine lv_iconst (v := nI 4) hx hb dX0_secondSquare_12 (by decide) ?_
    refine lv_iadd hx hb dX0_secondSquare_13 ?_
    refine zw_i (nI ((zk_fs k) + 4)) (nI_add _ _) ?_
    refine lv_goto (tgt := 20) hx hb dX0_secondSquare_14 (by decide) ?_
    exact zw_iret (u := ()) hx hb hr hlocks hK hH (by rw [zk_ss_of (by omega)]) dX0_secondSquare_20
/-- covers(k, q) -/
theorem mX0_covers (l : Launch) (D : va_G) (sz : Nat) (k q : Nat) (hk : k < 24) (hq : q < 16) : ZMi l yX0_covers cX0_covers 4 (some .boolean) (zr 2) D [] [.int (nI k), .int (nI q)] sz [] (fun r (_ : Unit) => r = if sp_cov k q = true then nI 1 else nI 0) (fun _ => []) := by
  unfold ZMi
  refine zw_met (own := RX0) (Qf := fun A => va_Qi (fun r (_ : Unit) => r = if sp_cov k q = true then nI 1 else nI 0) (ZB D [] (fun _ => []) A) A) (by decide) rfl (Nat.le_of_ble_eq_true rfl) ?_
  intro p e s m below meth c A ls S0 hr hlocks hin hA hK hH hl
  obtain ⟨hx, hb, hml, hown, hts⟩ := id S0
  have hl : lv_has ls 4 [(0, .int (nI (k))), (1, .int (nI (q)))] := hl
  have hfs := zk_fs_lt k hk
  have hss := zk_ss_lt k hk
  refine lv_iload_n hx hb dX0_covers_0 rfl (lv_at hl 0 rfl) ?_
  refine zw_Si (n := 1) (rest := []) S0 (mX0_firstSquare l D _ k hk) q57 q58 q17 q59 (by decide +kernel) ⟨Nat.le_of_ble_eq_true rfl, Nat.le_of_ble_eq_true rfl⟩ ⟨rfl, rfl⟩ ⟨Nat.zero_le _, Nat.zero_le _⟩ hK hA hH rfl hl.1 rfl (Nat.le_of_ble_eq_true rfl) dX0_covers_1 (fun r1 H locs hr1 hH => ?_)
  refine zw_i (nI (zk_fs k)) (hr1) ?_
  refine lv_istore_n (lv' := [(2, .int _), (0, .int _), (1, .int _)]) hx hb dX0_covers_4 rfl hl (by decide) rfl (fun ls hl => ?_)
  refine lv_iload_n hx hb dX0_covers_5 rfl (lv_at hl 1 rfl) ?_
  refine zw_Si (n := 1) (rest := []) S0 (mX0_secondSquare l D _ k hk) q67 q68 q17 q69 (by decide +kernel) ⟨Nat.le_of_ble_eq_true rfl, Nat.le_of_ble_eq_true rfl⟩ ⟨rfl, rfl⟩ ⟨Nat.zero_le _, Nat.zero_le _⟩ hK hA hH rfl hl.1 rfl (Nat.le_of_ble_eq_true rfl) dX0_covers_6 (fun r6 H locs hr6 hH => ?_)
  refine zw_i (nI (zk_ss k)) (hr6) ?_
  refine lv_istore_n (lv' := [(3, .int _), (2, .int _), (0, .int _), (1, .int _)]) hx hb dX0_covers_9 rfl hl (by decide) rfl (fun ls hl => ?_)
  refine lv_iload_n hx hb dX0_covers_10 rfl (lv_at hl 3 rfl) ?_
  refine lv_iload_n hx hb dX0_covers_11 rfl (lv_at hl 1 rfl) ?_
  refine lv_icmp_eq (tgt := 20) hx hb dX0_covers_12 (by decide) (fun c12 => ?_) (fun c12 => ?_)
  · have c12 : q = zk_fs k := (nI_eq (a := q) (b := zk_fs k) (by omega) (by omega)).mp c12
    refine lv_iconst (v := nI 1) hx hb dX0_covers_20 (by decide) ?_
    refine lv_goto (tgt := 25) hx hb dX0_covers_21 (by decide) ?_
    exact zw_zret (u := ()) hx hb hr hlocks hK hH (by decide) (by unfold sp_cov; rw [zn_beq c12, Bool.true_or, if_pos rfl]) dX0_covers_25
  · have c12 : ¬ (q = zk_fs k) := fun h => c12 ((nI_eq (a := q) (b := zk_fs k) (by omega) (by omega)).mpr h)
    refine lv_iload_n hx hb dX0_covers_15 rfl (lv_at hl 3 rfl) ?_
    refine lv_iload_n hx hb dX0_covers_16 rfl (lv_at hl 0 rfl) ?_
    refine lv_icmp_ne (tgt := 24) hx hb dX0_covers_17 (by decide) (fun c17 => ?_) (fun c17 => ?_)
    · have c17 : ¬ (q = zk_ss k) := fun h => c17 ((nI_eq (a := q) (b := zk_ss k) (by omega) (by omega)).mpr h)
      refine lv_iconst (v := nI 0) hx hb dX0_covers_24 (by decide) ?_
      exact zw_zret (u := ()) hx hb hr hlocks hK hH (by decide) (by unfold sp_cov; rw [zn_bne c12, zn_bne c17]; rfl) dX0_covers_25
    · have c17 : q = zk_ss k := (nI_eq (a := q) (b := zk_ss k) (by omega) (by omega)).mp c17
      refine lv_iconst (v := nI 1) hx hb dX0_covers_20 (by decide) ?_
      refine lv_goto (tgt := 25) hx hb dX0_covers_21 (by decide) ?_
      exact zw_zret (u := ()) hx hb hr hlocks hK hH (by decide) (by unfold sp_cov; rw [zn_beq c17, Bool.or_true, if_pos rfl]) dX0_covers_25
/-- black(k) -/
theorem mX0_black (l : Launch) (D : va_G) (sz : Nat) (k : Nat) (hk : k < 16) : ZMi l yX0_black cX0_black 1 (some .boolean) (zr 0) D [] [.int (nI k)] sz [] (fun r (_ : Unit) => r = if zk_blk k = true then nI 1 else nI 0) (fun _ => []) := by
  unfold ZMi
  refine zw_met (own := RX0) (Qf := fun A => va_Qi (fun r (_ : Unit) => r = if zk_blk k = true then nI 1 else nI 0) (ZB D [] (fun _ => []) A) A) (by decide) rfl (Nat.le_of_ble_eq_true rfl) ?_
  intro p e s m below meth c A ls S0 hr hlocks hin hA hK hH hl
  obtain ⟨hx, hb, hml, hown, hts⟩ := id S0
  have hl : lv_has ls 1 [(0, .int (nI (k)))] := hl
  refine lv_iload_n hx hb dX0_black_0 rfl (lv_at hl 0 rfl) ?_
  refine lv_iconst (v := nI 4) hx hb dX0_black_1 (by decide) ?_
  refine lv_idiv hx hb dX0_black_2 (by decide) ?_
  refine zw_i (nI (k / 4)) (pk_div (by omega) (by decide) (by decide)) ?_
  refine lv_iload_n hx hb dX0_black_3 rfl (lv_at hl 0 rfl) ?_
  refine lv_iconst (v := nI 4) hx hb dX0_black_4 (by decide) ?_
  refine lv_irem hx hb dX0_black_5 (by decide) ?_
  refine zw_i (nI (k % 4)) (pk_rem (by omega) (by decide) (by decide)) ?_
  refine lv_iadd hx hb dX0_black_6 ?_
  refine zw_i (nI ((k / 4) + (k % 4))) (nI_add _ _) ?_
  refine lv_iconst (v := nI 1) hx hb dX0_black_7 (by decide) ?_
  refine lv_iand hx hb dX0_black_8 ?_
  refine zw_i (nI (((k / 4) + (k % 4)) % 2)) (zn_and1 (by omega)) ?_
  refine lv_if_ne (tgt := 16) hx hb dX0_black_9 (by decide) (fun c9 => ?_) (fun c9 => ?_)
  · have c9 : ¬ (((k / 4) + (k % 4)) % 2 = 0) := fun h => c9 ((nI_eq (a := ((k / 4) + (k % 4)) % 2) (b := 0) (by omega) (by omega)).mpr h)
    refine lv_iconst (v := nI 0) hx hb dX0_black_16 (by decide) ?_
    exact zw_zret (u := ()) hx hb hr hlocks hK hH (by decide) (by unfold zk_blk; rw [zn_bne c9]; rfl) dX0_black_17
  · have c9 : ((k / 4) + (k % 4)) % 2 = 0 := (nI_eq (a := ((k / 4) + (k % 4)) % 2) (b := 0) (by omega) (by omega)).mp c9
    refine lv_iconst (v := nI 1) hx hb dX0_black_12 (by decide) ?_
    refine lv_goto (tgt := 17) hx hb dX0_black_13 (by decide) ?_
    exact zw_zret (u := ()) hx hb hr hlocks hK hH (by decide) (by unfold zk_blk; rw [zn_beq c9]; rfl) dX0_black_17
end
section
/-! DimerCounter: weights -/
set_option maxRecDepth 100000
theorem zn_nle {x y : Int32} (h : ¬ x ≤ y) : y < x := Int32.lt_iff_toInt_lt.mpr (Int.not_le.mp (fun q => h (Int32.le_iff_toInt_le.mpr q)))
theorem zn_le_nlt {x y : Int32} (h : x ≤ y) : ¬ y < x := fun q => by
  have h1 := Int32.le_iff_toInt_le.mp h
  have h2 := Int32.lt_iff_toInt_lt.mp q
  omega
theorem zv_put {v : Nat → Nat} {w : Nat → Int32} (h : zv v w) {j k : Nat} (hk : k ≤ 4) : zv (sp_put v j k) (upd w j (nI k)) := by
  intro i hi
  unfold sp_put
  by_cases e : i = j
  · subst e
    rw [pk_us, if_pos rfl]
    exact ⟨rfl, hk⟩
  · rw [pk_un e, if_neg e]
    exact h i hi
/-- force: what the weights are, and how many went, with the places below i looked at -/
def zq_inv (v : Nat → Nat) (j t i : Nat) (f : Nat → Int32) (n : Nat) : Prop := (∀ q, q < 24 → f q = nI (if q < i ∧ sp_off j t q = true then 0 else v q)) ∧ n = zt_sum (fun p => if sp_hit v j t p = true then 1 else 0) i
theorem zq_0 {v : Nat → Nat} {w : Nat → Int32} (h : zv v w) (j t : Nat) : zq_inv v j t 0 w 0 := by
  refine ⟨fun q hq => ?_, rfl⟩
  rw [if_neg (by omega)]
  exact (h q hq).1
theorem zq_keep {v : Nat → Nat} {j t i n : Nat} {f : Nat → Int32} (h : zq_inv v j t i f n) (hz : sp_off j t i = true → v i = 0) : zq_inv v j t (i + 1) f n := by
  obtain ⟨h1, h2⟩ := h
  refine ⟨fun q hq => ?_, ?_⟩
  · rw [h1 q hq]
    by_cases e : q = i
    · subst e
      rw [if_neg (by omega)]
      by_cases e2 : sp_off j t q = true
      · rw [if_pos ⟨by omega, e2⟩, hz e2]
      · rw [if_neg (fun z => e2 z.2)]
    · by_cases e2 : q < i ∧ sp_off j t q = true
      · rw [if_pos e2, if_pos ⟨by omega, e2.2⟩]
      · rw [if_neg e2, if_neg (fun z => e2 ⟨by omega, z.2⟩)]
  · show n = zt_sum _ i + (if sp_hit v j t i = true then 1 else 0)
    have : sp_hit v j t i = false := by
      unfold sp_hit
      cases e2 : sp_off j t i with
      | false => rfl
      | true => rw [hz e2]; rfl
    rw [this, ← h2]
    rfl
theorem zq_upd {v : Nat → Nat} {j t i n : Nat} {f : Nat → Int32} (h : zq_inv v j t i f n) (ho : sp_off j t i = true) (hz : ¬ v i = 0) : zq_inv v j t (i + 1) (upd f i (nI 0)) (n + 1) := by
  obtain ⟨h1, h2⟩ := h
  refine ⟨fun q hq => ?_, ?_⟩
  · by_cases e : q = i
    · subst e
      rw [pk_us, if_pos ⟨by omega, ho⟩]
    · rw [pk_un e, h1 q hq]
      by_cases e2 : q < i ∧ sp_off j t q = true
      · rw [if_pos e2, if_pos ⟨by omega, e2.2⟩]
      · rw [if_neg e2, if_neg (fun z => e2 ⟨by omega, z.2⟩)]
  · show n + 1 = zt_sum _ i + (if sp_hit v j t i = true then 1 else 0)
    have : sp_hit v j t i = true := by
      unfold sp_hit
      rw [ho, zn_bne hz]
      rfl
    rw [this, ← h2]
    rfl
theorem zq_end {v : Nat → Nat} {w : Nat → Int32} (hv : zv v w) {j t n : Nat} {f : Nat → Int32} (h : zq_inv v j t 24 f n) : zv (fun p => if sp_off j t p = true then 0 else v p) f := by
  intro q hq
  have h1 := h.1 q hq
  by_cases e : sp_off j t q = true
  · rw [if_pos ⟨hq, e⟩] at h1
    show f q = nI (if sp_off j t q = true then 0 else v q) ∧ (if sp_off j t q = true then 0 else v q) ≤ 4
    rw [if_pos e]
    exact ⟨h1, by omega⟩
  · rw [if_neg (fun z => e z.2)] at h1
    show f q = nI (if sp_off j t q = true then 0 else v q) ∧ (if sp_off j t q = true then 0 else v q) ≤ 4
    rw [if_neg e]
    exact ⟨h1, (hv q hq).2⟩
theorem sp_off_no {j t i : Nat} (h : sp_cov i t = false) : ¬ sp_off j t i = true := by
  unfold sp_off
  rw [h]
  simp
theorem sp_off_self (j t : Nat) : ¬ sp_off j t j = true := by
  unfold sp_off
  rw [zn_beq rfl]
  cases sp_cov j t <;> decide
theorem sp_off_yes {j t i : Nat} (h : sp_cov i t = true) (h2 : ¬ i = j) : sp_off j t i = true := by
  unfold sp_off
  rw [h, zn_bne h2]
  rfl
/-- weight(x, y) -/
theorem mX0_weight (l : Launch) (D : va_G) (ad : Nat → Nat) (ci : Nat → ClassId) (sz : Nat) (w mv us : Nat → Int32) (tb : Nat → Int64) (v : Nat → Nat) (hv : zv v w) (x y : Int32) : ZMi l yX0_weight cX0_weight 4 (some .int) (zr 1) D (XT ci) (.ref (ad 0) :: [.int x, .int y]) sz (XW ad ci w mv us tb) (fun r (u : XS) => r = (sp_weight v x y).1 ∧ zv (sp_weight v x y).2 u.1) (XU ad ci) := by
  unfold ZMi
  refine zw_met (own := RX0) (Qf := fun A => va_Qi (fun r (u : XS) => r = (sp_weight v x y).1 ∧ zv (sp_weight v x y).2 u.1) (ZB D (XT ci) (XU ad ci) A) A) (by decide) rfl (Nat.le_of_ble_eq_true rfl) ?_
  intro p e s m below meth c A ls S0 hr hlocks hin hA hK hH hl
  obtain ⟨hx, hb, hml, hown, hts⟩ := id S0
  have hl : lv_has ls 4 [(0, .ref (ad 0)), (1, .int (x)), (2, .int (y))] := hl
  refine lv_iload_n hx hb dX0_weight_0 rfl (lv_at hl 1 rfl) ?_
  refine zw_Si (n := 1) (rest := []) S0 (mX0_bad l D _ x) q46 q47 q17 q48 (by decide +kernel) ⟨Nat.le_of_ble_eq_true rfl, Nat.le_of_ble_eq_true rfl⟩ ⟨rfl, rfl⟩ ⟨Nat.zero_le _, Nat.zero_le _⟩ hK hA hH rfl hl.1 rfl (Nat.le_of_ble_eq_true rfl) dX0_weight_1 (fun r1 H locs hr1 hH => ?_)
  rcases hr1 with ⟨hr1, hbad⟩ | ⟨hr1, k, hk, hk1⟩
  · refine zw_i (nI (1)) (hr1) ?_
    refine lv_if_eq (tgt := 9) hx hb dX0_weight_4 (by decide) (fun c4 => ?_) (fun c4 => ?_)
    · have c4 : 1 = 0 := (nI_eq (a := 1) (b := 0) (by omega) (by omega)).mp c4
      exfalso; omega
    · have c4 : ¬ (1 = 0) := fun h => c4 ((nI_eq (a := 1) (b := 0) (by omega) (by omega)).mpr h)
      refine lv_iconst (v := -1) hx hb dX0_weight_7 (by decide) ?_
      exact zw_iret (u := (w, mv, us, tb)) hx hb hr hlocks hK hH (by unfold sp_weight; rw [sp_ix_bad hbad]; exact ⟨rfl, hv⟩) dX0_weight_8
  · refine zw_i (nI (0)) (hr1) ?_
    subst hk1
    refine lv_if_eq (tgt := 9) hx hb dX0_weight_4 (by decide) (fun c4 => ?_) (fun c4 => ?_)
    · have c4 : 0 = 0 := (nI_eq (a := 0) (b := 0) (by omega) (by omega)).mp c4
      refine lv_iload_n hx hb dX0_weight_9 rfl (lv_at hl 2 rfl) ?_
      refine lv_if_lt (tgt := 18) hx hb dX0_weight_10 (by decide) (fun c10 => ?_) (fun c10 => ?_)
      · refine lv_bipush (v := -2) hx hb dX0_weight_18 (by decide) ?_
        exact zw_iret (u := (w, mv, us, tb)) hx hb hr hlocks hK hH (by unfold sp_weight; rw [sp_ix_nI hk, sp_wgt_bad (Or.inl c10)]; exact ⟨rfl, hv⟩) dX0_weight_20
      · refine lv_iload_n hx hb dX0_weight_13 rfl (lv_at hl 2 rfl) ?_
        refine lv_iconst (v := nI 4) hx hb dX0_weight_14 (by decide) ?_
        refine lv_icmp_le (tgt := 21) hx hb dX0_weight_15 (by decide) (fun c15 => ?_) (fun c15 => ?_)
        · obtain ⟨j, hj, hj1⟩ := zn_upto 4 (by decide) c10 (zn_le_nlt c15)
          subst hj1
          refine lv_aload_n hx hb dX0_weight_21 rfl (lv_at hl 0 rfl) ?_
          refine zx_g0 hx hb hts hown hK hH dX0_weight_22 ?_
          refine lv_iload_n hx hb dX0_weight_25 rfl (lv_at hl 1 rfl) ?_
          refine zx_l0 hx hb hK hH (j := k) (by omega) dX0_weight_26 ?_
          refine lv_istore_n (lv' := [(3, .int _), (0, .ref _), (1, .int _), (2, .int _)]) hx hb dX0_weight_27 rfl hl (by decide) rfl (fun ls hl => ?_)
          refine lv_aload_n hx hb dX0_weight_28 rfl (lv_at hl 1 rfl) ?_
          refine zx_g0 hx hb hts hown hK hH dX0_weight_29 ?_
          refine lv_iload_n hx hb dX0_weight_32 rfl (lv_at hl 2 rfl) ?_
          refine lv_iload_n hx hb dX0_weight_33 rfl (lv_at hl 3 rfl) ?_
          refine zx_s0 hx hb hK hH (j := k) (by omega) dX0_weight_34 (fun H locs hH => ?_)
          refine lv_iload_n hx hb dX0_weight_35 rfl (lv_at hl 0 rfl) ?_
          exact zw_iret (u := ((upd w (k) (nI (j))), mv, us, tb)) hx hb hr hlocks hK hH (by unfold sp_weight; rw [sp_ix_nI hk, sp_wgt_nI hj]; exact ⟨(hv k hk).1, zv_put hv hj⟩) dX0_weight_36
        · refine lv_bipush (v := -2) hx hb dX0_weight_18 (by decide) ?_
          exact zw_iret (u := (w, mv, us, tb)) hx hb hr hlocks hK hH (by unfold sp_weight; rw [sp_ix_nI hk, sp_wgt_bad (Or.inr (zn_nle c15))]; exact ⟨rfl, hv⟩) dX0_weight_20
    · have c4 : ¬ (0 = 0) := fun h => c4 ((nI_eq (a := 0) (b := 0) (by omega) (by omega)).mpr h)
      exfalso; omega
/-- a loop of all -/
theorem lX0_all {p : Program} {l : Launch} {e : Env} {R : Room} {s : State} {m : MethodId} {args : Array Value} {below : List Frame} {meth : Method} {c : Code} {cells slots : Nat} {Q : State → Prop} {A : Nat → Prop} {D : va_G} {ad : Nat → Nat} {ci : Nat → ClassId} (S0 : CallFix p m c cX0_all 3 s args lw_all RX0) (hA : ∀ q, s.heap.size ≤ q → A q) (hK : va_K D vwCl (XT ci) s) {x : Int32} {mv us : Nat → Int32} {tb : Nat → Int64}
    (K : ∀ (f : Nat → Int32) (H : Heap) (locs : List Loc) (ls : Array Slot), (∀ j, j < 24 → f j = x) → ZH D A s.heap (XW ad ci f mv us tb) H locs → lv_has ls 3 [(0, .ref (ad 0)), (1, .int x), (2, .int (nI 24))] → W p l e R s m args below meth c H locs cells slots Q (F0 m 33 ls [])) :
    ∀ (n i : Nat) (f : Nat → Int32) (H : Heap) (locs : List Loc) (ls : Array Slot), i ≤ 24 → 24 + 1 ≤ i + n → (∀ j, j < i → f j = x) → ZH D A s.heap (XW ad ci f mv us tb) H locs → lv_has ls 3 [(0, .ref (ad 0)), (1, .int (x)), (2, .int (nI (i)))] → W p l e R s m args below meth c H locs cells slots Q (F0 m 14 ls []) := by
  obtain ⟨hx, hb, hml, hown, hts⟩ := id S0
  intro n
  induction n with
  | zero =>
    intro i f H locs ls h1 h2
    exact absurd h2 (by omega)
  | succ n ih =>
    intro i f H locs ls hi hin hf1 hH hl
    refine lv_iload_n hx hb dX0_all_14 rfl (lv_at hl 2 rfl) ?_
    refine lv_bipush (v := nI 24) hx hb dX0_all_15 (by decide) ?_
    refine lv_icmp_ge (tgt := 33) hx hb dX0_all_17 (by decide) (fun c17 => ?_) (fun c17 => ?_)
    · have c17 : 24 ≤ i := (nI_leI (a := 24) (b := i) (by omega) (by omega)).mp c17
      have e24 : i = 24 := by omega
      subst e24
      exact K f H locs ls hf1 hH hl
    · have c17 : ¬ (24 ≤ i) := fun h => c17 ((nI_leI (a := 24) (b := i) (by omega) (by omega)).mpr h)
      refine lv_aload_n hx hb dX0_all_20 rfl (lv_at hl 0 rfl) ?_
      refine zx_g0 hx hb hts hown hK hH dX0_all_21 ?_
      refine lv_iload_n hx hb dX0_all_24 rfl (lv_at hl 2 rfl) ?_
      refine lv_iload_n hx hb dX0_all_25 rfl (lv_at hl 1 rfl) ?_
      refine zx_s0 hx hb hK hH (j := i) (by omega) dX0_all_26 (fun H locs hH => ?_)
      refine lv_iinc (v := nI (i + 1)) (lv' := [(2, .int _), (0, .ref _), (1, .int _)]) hx hb dX0_all_27 hl (k := 2) rfl (nI_1 _) (by decide) rfl (fun ls hl => ?_)
      refine lv_goto (tgt := 14) hx hb dX0_all_30 (by decide) ?_
      exact ih (i + 1) _ _ _ _ (by omega) (by omega) (fun j hj => by
        by_cases e : j = i
        · rw [e, pk_us]
        · rw [pk_un e]; exact hf1 j (by omega)) hH (lv_sub hl [1, 2, 0] rfl)
/-- all(y) -/
theorem mX0_all (l : Launch) (D : va_G) (ad : Nat → Nat) (ci : Nat → ClassId) (sz : Nat) (w mv us : Nat → Int32) (tb : Nat → Int64) (v : Nat → Nat) (hv : zv v w) (y : Int32) : ZMi l yX0_all cX0_all 3 (some .int) (zr 0) D (XT ci) (.ref (ad 0) :: [.int y]) sz (XW ad ci w mv us tb) (fun r (u : XS) => r = (sp_all v y).1 ∧ zv (sp_all v y).2 u.1) (XU ad ci) := by
  unfold ZMi
  refine zw_met (own := RX0) (Qf := fun A => va_Qi (fun r (u : XS) => r = (sp_all v y).1 ∧ zv (sp_all v y).2 u.1) (ZB D (XT ci) (XU ad ci) A) A) (by decide) rfl (Nat.le_of_ble_eq_true rfl) ?_
  intro p e s m below meth c A ls S0 hr hlocks hin hA hK hH hl
  obtain ⟨hx, hb, hml, hown, hts⟩ := id S0
  have hl : lv_has ls 3 [(0, .ref (ad 0)), (1, .int (y))] := hl
  refine lv_iload_n hx hb dX0_all_0 rfl (lv_at hl 1 rfl) ?_
  refine lv_if_lt (tgt := 9) hx hb dX0_all_1 (by decide) (fun c1 => ?_) (fun c1 => ?_)
  · refine lv_bipush (v := -2) hx hb dX0_all_9 (by decide) ?_
    exact zw_iret (u := (w, mv, us, tb)) hx hb hr hlocks hK hH (by unfold sp_all; rw [sp_wgt_bad (Or.inl c1)]; exact ⟨rfl, hv⟩) dX0_all_11
  · refine lv_iload_n hx hb dX0_all_4 rfl (lv_at hl 1 rfl) ?_
    refine lv_iconst (v := nI 4) hx hb dX0_all_5 (by decide) ?_
    refine lv_icmp_le (tgt := 12) hx hb dX0_all_6 (by decide) (fun c6 => ?_) (fun c6 => ?_)
    · obtain ⟨j, hj, hj1⟩ := zn_upto 4 (by decide) c1 (zn_le_nlt c6)
      refine lv_iconst (v := nI 0) hx hb dX0_all_12 (by decide) ?_
      refine lv_istore_n (lv' := [(2, .int _), (0, .ref _), (1, .int _)]) hx hb dX0_all_13 rfl hl (by decide) rfl (fun ls hl => ?_)
      refine lX0_all S0 hA hK (fun f H locs ls hf1 hH hl => ?_) 25 0 _ _ _ _ (by omega) (by omega) (fun j hj => by omega) hH (lv_sub hl [1, 2, 0] rfl)
      refine lv_iconst (v := nI 0) hx hb dX0_all_33 (by decide) ?_
      exact zw_iret (u := (f, mv, us, tb)) hx hb hr hlocks hK hH (by unfold sp_all; rw [hj1, sp_wgt_nI hj]; exact ⟨rfl, fun i hi => ⟨(hf1 i hi).trans hj1, hj⟩⟩) dX0_all_34
    · refine lv_bipush (v := -2) hx hb dX0_all_9 (by decide) ?_
      exact zw_iret (u := (w, mv, us, tb)) hx hb hr hlocks hK hH (by unfold sp_all; rw [sp_wgt_bad (Or.inr (zn_nle c6))]; exact ⟨rfl, hv⟩) dX0_all_11
/-- a loop of turn -/
theorem lX0_turn1 {p : Program} {l : Launch} {e : Env} {R : Room} {s : State} {m : MethodId} {args : Array Value} {below : List Frame} {meth : Method} {c : Code} {cells slots : Nat} {Q : State → Prop} {A : Nat → Prop} {D : va_G} {ad : Nat → Nat} {ci : Nat → ClassId} (S0 : CallFix p m c cX0_turn 6 s args lw_all RX0) (hA : ∀ q, s.heap.size ≤ q → A q) (hK : va_K D vwCl (XT ci) s) (hR : (zr 0).frames + 1 ≤ R.frames ∧ 8 + (1 + 11) + (zr 0).locals ≤ R.locals) (hf : cells ≤ R.cells ∧ slots ≤ R.slots) {w us : Nat → Int32} {tb : Nat → Int64}
    (K : ∀ (f : Nat → Int32) (H : Heap) (locs : List Loc) (ls : Array Slot), (∀ j, j < 24 → f (sp_to j) = w j) → ZH D A s.heap (XW ad ci w f us tb) H locs → lv_has ls 6 [(0, .ref (ad 0)), (1, .int (nI 24))] → W p l e R s m args below meth c H locs cells slots Q (F0 m 71 ls [])) :
    ∀ (n i : Nat) (f : Nat → Int32) (H : Heap) (locs : List Loc) (ls : Array Slot), i ≤ 24 → 24 + 1 ≤ i + n → (∀ j, j < i → f (sp_to j) = w j) → ZH D A s.heap (XW ad ci w f us tb) H locs → lv_has ls 6 [(0, .ref (ad 0)), (1, .int (nI (i)))] → W p l e R s m args below meth c H locs cells slots Q (F0 m 2 ls []) := by
  obtain ⟨hx, hb, hml, hown, hts⟩ := id S0
  intro n
  induction n with
  | zero =>
    intro i f H locs ls h1 h2
    exact absurd h2 (by omega)
  | succ n ih =>
    intro i f H locs ls hi hin hf1 hH hl
    refine lv_iload_n hx hb dX0_turn_2 rfl (lv_at hl 1 rfl) ?_
    refine lv_bipush (v := nI 24) hx hb dX0_turn_3 (by decide) ?_
    refine lv_icmp_ge (tgt := 71) hx hb dX0_turn_5 (by decide) (fun c5 => ?_) (fun c5 => ?_)
    · have c5 : 24 ≤ i := (nI_leI (a := 24) (b := i) (by omega) (by omega)).mp c5
      have e24 : i = 24 := by omega
      subst e24
      exact K f H locs ls hf1 hH hl
    · have c5 : ¬ (24 ≤ i) := fun h => c5 ((nI_leI (a := 24) (b := i) (by omega) (by omega)).mpr h)
      have hto := sp_to_lt i (by omega)
      have hfs := zk_fs_lt i (by omega)
      refine lv_iload_n hx hb dX0_turn_8 rfl (lv_at hl 1 rfl) ?_
      refine zw_Si (n := 1) (rest := []) S0 (mX0_firstSquare l D _ i (by omega)) q57 q58 q17 q59 (by decide +kernel) hR ⟨rfl, rfl⟩ hf hK hA hH rfl hl.1 rfl (Nat.le_of_ble_eq_true rfl) dX0_turn_9 (fun r9 H locs hr9 hH => ?_)
      refine zw_i (nI (zk_fs i)) (hr9) ?_
      refine lv_istore_n (lv' := [(2, .int _), (0, .ref _), (1, .int _)]) hx hb dX0_turn_12 rfl hl (by decide) rfl (fun ls hl => ?_)
      refine lv_iload_n hx hb dX0_turn_13 rfl (lv_at hl 0 rfl) ?_
      refine lv_iconst (v := nI 4) hx hb dX0_turn_14 (by decide) ?_
      refine lv_idiv hx hb dX0_turn_15 (by decide) ?_
      refine zw_i (nI ((zk_fs i) / 4)) (pk_div (by omega) (by decide) (by decide)) ?_
      refine lv_istore_n (lv' := [(3, .int _), (2, .int _), (0, .ref _), (1, .int _)]) hx hb dX0_turn_16 rfl hl (by decide) rfl (fun ls hl => ?_)
      refine lv_iload_n hx hb dX0_turn_17 rfl (lv_at hl 1 rfl) ?_
      refine lv_iconst (v := nI 4) hx hb dX0_turn_18 (by decide) ?_
      refine lv_irem hx hb dX0_turn_19 (by decide) ?_
      refine zw_i (nI ((zk_fs i) % 4)) (pk_rem (by omega) (by decide) (by decide)) ?_
      refine lv_istore (lv' := [(4, .int _), (3, .int _), (2, .int _), (0, .ref _), (1, .int _)]) hx hb dX0_turn_20 hl (by decide) rfl (fun ls hl => ?_)
      refine lv_iload_n hx hb dX0_turn_22 rfl (lv_at hl 4 rfl) ?_
      refine lv_bipush (v := nI 12) hx hb dX0_turn_23 (by decide) ?_
      refine lv_icmp_ge (tgt := 42) hx hb dX0_turn_25 (by decide) (fun c25 => ?_) (fun c25 => ?_)
      · have c25 : 12 ≤ i := (nI_leI (a := 12) (b := i) (by omega) (by omega)).mp c25
        have hfs2 := zk_fs_of (p := i) (by omega)
        refine lv_iload hx hb dX0_turn_42 (lv_at hl 0 rfl) ?_
        refine lv_iconst (v := nI 3) hx hb dX0_turn_44 (by decide) ?_
        refine lv_imul hx hb dX0_turn_45 ?_
        refine zw_i (nI (((zk_fs i) % 4) * 3)) (pk_mul _ _) ?_
        refine lv_iconst (v := nI 2) hx hb dX0_turn_46 (by decide) ?_
        refine lv_iadd hx hb dX0_turn_47 ?_
        refine zw_i (nI ((((zk_fs i) % 4) * 3) + 2)) (nI_add _ _) ?_
        refine lv_iload_n hx hb dX0_turn_48 rfl (lv_at hl 1 rfl) ?_
        refine lv_isub hx hb dX0_turn_49 ?_
        refine zw_i (nI (((((zk_fs i) % 4) * 3) + 2) - ((zk_fs i) / 4))) (pk_sub (by omega)) ?_
        refine zw_i (nI (sp_to i)) (by unfold sp_to; rw [if_neg (by omega)]) ?_
        refine lv_istore (lv' := [(5, .int _), (4, .int _), (3, .int _), (2, .int _), (0, .ref _), (1, .int _)]) hx hb dX0_turn_50 hl (by decide) rfl (fun ls hl => ?_)
        refine lv_aload_n hx hb dX0_turn_52 rfl (lv_at hl 4 rfl) ?_
        refine zx_g1 hx hb hts hown hK hH dX0_turn_53 ?_
        refine lv_iload hx hb dX0_turn_56 (lv_at hl 0 rfl) ?_
        refine lv_aload_n hx hb dX0_turn_58 rfl (lv_at hl 4 rfl) ?_
        refine zx_g0 hx hb hts hown hK hH dX0_turn_59 ?_
        refine lv_iload_n hx hb dX0_turn_62 rfl (lv_at hl 5 rfl) ?_
        refine zx_l0 hx hb hK hH (j := i) (by omega) dX0_turn_63 ?_
        refine zx_s1 hx hb hK hH (j := sp_to i) (by omega) dX0_turn_64 (fun H locs hH => ?_)
        refine lv_iinc (v := nI (i + 1)) (lv' := [(1, .int _), (5, .int _), (4, .int _), (3, .int _), (2, .int _), (0, .ref _)]) hx hb dX0_turn_65 hl (k := 5) rfl (nI_1 _) (by decide) rfl (fun ls hl => ?_)
        refine lv_goto (tgt := 2) hx hb dX0_turn_68 (by decide) ?_
        exact ih (i + 1) _ _ _ _ (by omega) (by omega) (fun j hj => by
          by_cases e : j = i
          · rw [e, pk_us]
          · rw [pk_un (fun q => e (by rw [← sp_from_to j (by omega), q, sp_from_to i (by omega)]))]; exact hf1 j (by omega)) hH (lv_sub hl [5, 0] rfl)
      · have c25 : ¬ (12 ≤ i) := fun h => c25 ((nI_leI (a := 12) (b := i) (by omega) (by omega)).mpr h)
        refine lv_bipush (v := nI 12) hx hb dX0_turn_28 (by decide) ?_
        refine lv_iload hx hb dX0_turn_30 (lv_at hl 0 rfl) ?_
        refine lv_iconst (v := nI 4) hx hb dX0_turn_32 (by decide) ?_
        refine lv_imul hx hb dX0_turn_33 ?_
        refine zw_i (nI (((zk_fs i) % 4) * 4)) (pk_mul _ _) ?_
        refine lv_iadd hx hb dX0_turn_34 ?_
        refine zw_i (nI (12 + (((zk_fs i) % 4) * 4))) (nI_add _ _) ?_
        refine lv_iconst (v := nI 3) hx hb dX0_turn_35 (by decide) ?_
        refine lv_iadd hx hb dX0_turn_36 ?_
        refine zw_i (nI ((12 + (((zk_fs i) % 4) * 4)) + 3)) (nI_add _ _) ?_
        refine lv_iload_n hx hb dX0_turn_37 rfl (lv_at hl 1 rfl) ?_
        refine lv_isub hx hb dX0_turn_38 ?_
        refine zw_i (nI (((12 + (((zk_fs i) % 4) * 4)) + 3) - ((zk_fs i) / 4))) (pk_sub (by omega)) ?_
        refine lv_goto (tgt := 50) hx hb dX0_turn_39 (by decide) ?_
        refine zw_i (nI (sp_to i)) (by unfold sp_to; rw [if_pos (by omega)]) ?_
        refine lv_istore (lv' := [(5, .int _), (4, .int _), (3, .int _), (2, .int _), (0, .ref _), (1, .int _)]) hx hb dX0_turn_50 hl (by decide) rfl (fun ls hl => ?_)
        refine lv_aload_n hx hb dX0_turn_52 rfl (lv_at hl 4 rfl) ?_
        refine zx_g1 hx hb hts hown hK hH dX0_turn_53 ?_
        refine lv_iload hx hb dX0_turn_56 (lv_at hl 0 rfl) ?_
        refine lv_aload_n hx hb dX0_turn_58 rfl (lv_at hl 4 rfl) ?_
        refine zx_g0 hx hb hts hown hK hH dX0_turn_59 ?_
        refine lv_iload_n hx hb dX0_turn_62 rfl (lv_at hl 5 rfl) ?_
        refine zx_l0 hx hb hK hH (j := i) (by omega) dX0_turn_63 ?_
        refine zx_s1 hx hb hK hH (j := sp_to i) (by omega) dX0_turn_64 (fun H locs hH => ?_)
        refine lv_iinc (v := nI (i + 1)) (lv' := [(1, .int _), (5, .int _), (4, .int _), (3, .int _), (2, .int _), (0, .ref _)]) hx hb dX0_turn_65 hl (k := 5) rfl (nI_1 _) (by decide) rfl (fun ls hl => ?_)
        refine lv_goto (tgt := 2) hx hb dX0_turn_68 (by decide) ?_
        exact ih (i + 1) _ _ _ _ (by omega) (by omega) (fun j hj => by
          by_cases e : j = i
          · rw [e, pk_us]
          · rw [pk_un (fun q => e (by rw [← sp_from_to j (by omega), q, sp_from_to i (by omega)]))]; exact hf1 j (by omega)) hH (lv_sub hl [5, 0] rfl)
/-- a loop of turn -/
theorem lX0_turn2 {p : Program} {l : Launch} {e : Env} {R : Room} {s : State} {m : MethodId} {args : Array Value} {below : List Frame} {meth : Method} {c : Code} {cells slots : Nat} {Q : State → Prop} {A : Nat → Prop} {D : va_G} {ad : Nat → Nat} {ci : Nat → ClassId} (S0 : CallFix p m c cX0_turn 6 s args lw_all RX0) (hA : ∀ q, s.heap.size ≤ q → A q) (hK : va_K D vwCl (XT ci) s) {mv us : Nat → Int32} {tb : Nat → Int64}
    (K : ∀ (f : Nat → Int32) (H : Heap) (locs : List Loc) (ls : Array Slot), (∀ j, j < 24 → f j = mv j) → ZH D A s.heap (XW ad ci f mv us tb) H locs → lv_has ls 6 [(0, .ref (ad 0)), (1, .int (nI 24))] → W p l e R s m args below meth c H locs cells slots Q (F0 m 97 ls [])) :
    ∀ (n i : Nat) (f : Nat → Int32) (H : Heap) (locs : List Loc) (ls : Array Slot), i ≤ 24 → 24 + 1 ≤ i + n → (∀ j, j < i → f j = mv j) → ZH D A s.heap (XW ad ci f mv us tb) H locs → lv_has ls 6 [(0, .ref (ad 0)), (1, .int (nI (i)))] → W p l e R s m args below meth c H locs cells slots Q (F0 m 73 ls []) := by
  obtain ⟨hx, hb, hml, hown, hts⟩ := id S0
  intro n
  induction n with
  | zero =>
    intro i f H locs ls h1 h2
    exact absurd h2 (by omega)
  | succ n ih =>
    intro i f H locs ls hi hin hf1 hH hl
    refine lv_iload_n hx hb dX0_turn_73 rfl (lv_at hl 1 rfl) ?_
    refine lv_bipush (v := nI 24) hx hb dX0_turn_74 (by decide) ?_
    refine lv_icmp_ge (tgt := 97) hx hb dX0_turn_76 (by decide) (fun c76 => ?_) (fun c76 => ?_)
    · have c76 : 24 ≤ i := (nI_leI (a := 24) (b := i) (by omega) (by omega)).mp c76
      have e24 : i = 24 := by omega
      subst e24
      exact K f H locs ls hf1 hH hl
    · have c76 : ¬ (24 ≤ i) := fun h => c76 ((nI_leI (a := 24) (b := i) (by omega) (by omega)).mpr h)
      refine lv_aload_n hx hb dX0_turn_79 rfl (lv_at hl 0 rfl) ?_
      refine zx_g0 hx hb hts hown hK hH dX0_turn_80 ?_
      refine lv_iload_n hx hb dX0_turn_83 rfl (lv_at hl 1 rfl) ?_
      refine lv_aload_n hx hb dX0_turn_84 rfl (lv_at hl 0 rfl) ?_
      refine zx_g1 hx hb hts hown hK hH dX0_turn_85 ?_
      refine lv_iload_n hx hb dX0_turn_88 rfl (lv_at hl 1 rfl) ?_
      refine zx_l1 hx hb hK hH (j := i) (by omega) dX0_turn_89 ?_
      refine zx_s0 hx hb hK hH (j := i) (by omega) dX0_turn_90 (fun H locs hH => ?_)
      refine lv_iinc (v := nI (i + 1)) (lv' := [(1, .int _), (0, .ref _)]) hx hb dX0_turn_91 hl (k := 1) rfl (nI_1 _) (by decide) rfl (fun ls hl => ?_)
      refine lv_goto (tgt := 73) hx hb dX0_turn_94 (by decide) ?_
      exact ih (i + 1) _ _ _ _ (by omega) (by omega) (fun j hj => by
        by_cases e : j = i
        · rw [e, pk_us]
        · rw [pk_un e]; exact hf1 j (by omega)) hH (lv_sub hl [1, 0] rfl)
/-- turn() -/
theorem mX0_turn (l : Launch) (D : va_G) (ad : Nat → Nat) (ci : Nat → ClassId) (sz : Nat) (w mv us : Nat → Int32) (tb : Nat → Int64) (v : Nat → Nat) (hv : zv v w)  : ZMv l yX0_turn cX0_turn 6 none (zr 1) D (XT ci) (.ref (ad 0) :: []) sz (XW ad ci w mv us tb) (fun (u : XS) => zv (sp_turn v) u.1) (XU ad ci) := by
  unfold ZMv
  refine zw_met (own := RX0) (Qf := fun A => va_Qv (fun (u : XS) => zv (sp_turn v) u.1) (ZB D (XT ci) (XU ad ci) A) A) (by decide) rfl (Nat.le_of_ble_eq_true rfl) ?_
  intro p e s m below meth c A ls S0 hr hlocks hin hA hK hH hl
  obtain ⟨hx, hb, hml, hown, hts⟩ := id S0
  have hl : lv_has ls 6 [(0, .ref (ad 0))] := hl
  refine lv_iconst (v := nI 0) hx hb dX0_turn_0 (by decide) ?_
  refine lv_istore_n (lv' := [(1, .int _), (0, .ref _)]) hx hb dX0_turn_1 rfl hl (by decide) rfl (fun ls hl => ?_)
  refine lX0_turn1 S0 hA hK ⟨Nat.le_of_ble_eq_true rfl, Nat.le_of_ble_eq_true rfl⟩ ⟨Nat.zero_le _, Nat.zero_le _⟩ (fun f H locs ls hf1 hH hl => ?_) 25 0 _ _ _ _ (by omega) (by omega) (fun j hj => by omega) hH (lv_sub hl [1, 0] rfl)
  refine lv_iconst (v := nI 0) hx hb dX0_turn_71 (by decide) ?_
  refine lv_istore_n (lv' := [(1, .int _), (0, .ref _)]) hx hb dX0_turn_72 rfl hl (by decide) rfl (fun ls hl => ?_)
  refine lX0_turn2 S0 hA hK (fun g H locs ls hg1 hH hl => ?_) 25 0 _ _ _ _ (by omega) (by omega) (fun j hj => by omega) hH (lv_sub hl [1, 0] rfl)
  exact zw_vret (u := (g, f, us, tb)) hx hb hr hlocks hK hH (fun j hj => by
      have h1 := sp_from_lt j hj
      have h2 : g j = w (sp_from j) := by rw [hg1 j hj, ← hf1 _ h1, sp_to_from j hj]
      exact ⟨h2.trans (hv _ h1).1, (hv _ h1).2⟩) dX0_turn_97
/-- a loop of force -/
theorem lX0_force {p : Program} {l : Launch} {e : Env} {R : Room} {s : State} {m : MethodId} {args : Array Value} {below : List Frame} {meth : Method} {c : Code} {cells slots : Nat} {Q : State → Prop} {A : Nat → Prop} {D : va_G} {ad : Nat → Nat} {ci : Nat → ClassId} (S0 : CallFix p m c cX0_force 7 s args lw_all RX0) (hA : ∀ q, s.heap.size ≤ q → A q) (hK : va_K D vwCl (XT ci) s) (hR : (zr 2).frames + 1 ≤ R.frames ∧ 8 + (4 + 11) + (zr 2).locals ≤ R.locals) (hf : cells ≤ R.cells ∧ slots ≤ R.slots) {mv us : Nat → Int32} {tb : Nat → Int64} {v : Nat → Nat} (j t : Nat) (hj : j < 24) (ht : t ≤ 15) (hv4 : ∀ q, q < 24 → v q ≤ 4)
    (K : ∀ (f : Nat → Int32) (n : Nat) (H : Heap) (locs : List Loc) (ls : Array Slot), zq_inv v j t 24 f n → ZH D A s.heap (XW ad ci f mv us tb) H locs → (∃ l1, lv_has ls 7 ((4, .int (nI n)) :: l1)) → W p l e R s m args below meth c H locs cells slots Q (F0 m 90 ls [])) :
    ∀ (n i : Nat) (f : Nat → Int32) (cn : Nat) (x3 x6 : Int32) (H : Heap) (locs : List Loc) (ls : Array Slot), i ≤ 24 → 24 + 1 ≤ i + n → zq_inv v j t i f cn → ZH D A s.heap (XW ad ci f mv us tb) H locs → lv_has ls 7 [(0, .ref (ad 0)), (1, .int (nI (t))), (2, .int (nI (j))), (4, .int (nI (cn))), (5, .int (nI (i)))] → W p l e R s m args below meth c H locs cells slots Q (F0 m 37 ls []) := by
  obtain ⟨hx, hb, hml, hown, hts⟩ := id S0
  intro n
  induction n with
  | zero =>
    intro i f cn x3 x6 H locs ls h1 h2
    exact absurd h2 (by omega)
  | succ n ih =>
    intro i f cn x3 x6 H locs ls hi hin hq hH hl
    refine lv_iload hx hb dX0_force_37 (lv_at hl 4 rfl) ?_
    refine lv_bipush (v := nI 24) hx hb dX0_force_39 (by decide) ?_
    refine lv_icmp_ge (tgt := 90) hx hb dX0_force_41 (by decide) (fun c41 => ?_) (fun c41 => ?_)
    · have c41 : 24 ≤ i := (nI_leI (a := 24) (b := i) (by omega) (by omega)).mp c41
      have e24 : i = 24 := by omega
      subst e24
      exact K f cn H locs ls hq hH ⟨_, lv_sub hl [3] rfl⟩
    · have c41 : ¬ (24 ≤ i) := fun h => c41 ((nI_leI (a := 24) (b := i) (by omega) (by omega)).mpr h)
      have hvi := hv4 i (by omega)
      refine lv_iload hx hb dX0_force_44 (lv_at hl 4 rfl) ?_
      refine lv_iload_n hx hb dX0_force_46 rfl (lv_at hl 1 rfl) ?_
      refine zw_Si (n := 2) (rest := []) S0 (mX0_covers l D _ i t (by omega) (by omega)) q64 q65 q17 q66 (by decide +kernel) hR ⟨rfl, rfl⟩ hf hK hA hH rfl hl.1 rfl (Nat.le_of_ble_eq_true rfl) dX0_force_47 (fun r47 H locs hr47 hH => ?_)
      cases hcov : sp_cov i t with
      | false =>
        refine zw_i (nI (0)) (by rw [hr47, hcov]; rfl) ?_
        refine lv_istore (lv' := [(6, .int _), (0, .ref _), (1, .int _), (2, .int _), (4, .int _), (5, .int _)]) hx hb dX0_force_50 hl (by decide) rfl (fun ls hl => ?_)
        refine lv_iload hx hb dX0_force_52 (lv_at hl 0 rfl) ?_
        refine lv_if_eq (tgt := 84) hx hb dX0_force_54 (by decide) (fun c54 => ?_) (fun c54 => ?_)
        · have c54 : 0 = 0 := (nI_eq (a := 0) (b := 0) (by omega) (by omega)).mp c54
          refine lv_iinc (v := nI (i + 1)) (lv' := [(5, .int _), (6, .int _), (0, .ref _), (1, .int _), (2, .int _), (4, .int _)]) hx hb dX0_force_84 hl (k := 5) rfl (nI_1 _) (by decide) rfl (fun ls hl => ?_)
          refine lv_goto (tgt := 37) hx hb dX0_force_87 (by decide) ?_
          exact ih (i + 1) _ _ x3 x6 _ _ _ (by omega) (by omega) (zq_keep hq (fun z => absurd z (sp_off_no hcov))) hH (lv_sub hl [2, 3, 4, 5, 0] rfl)
        · have c54 : ¬ (0 = 0) := fun h => c54 ((nI_eq (a := 0) (b := 0) (by omega) (by omega)).mpr h)
          exfalso; omega
      | true =>
        refine zw_i (nI (1)) (by rw [hr47, hcov]; rfl) ?_
        refine lv_istore (lv' := [(6, .int _), (0, .ref _), (1, .int _), (2, .int _), (4, .int _), (5, .int _)]) hx hb dX0_force_50 hl (by decide) rfl (fun ls hl => ?_)
        refine lv_iload hx hb dX0_force_52 (lv_at hl 0 rfl) ?_
        refine lv_if_eq (tgt := 84) hx hb dX0_force_54 (by decide) (fun c54 => ?_) (fun c54 => ?_)
        · have c54 : 1 = 0 := (nI_eq (a := 1) (b := 0) (by omega) (by omega)).mp c54
          exfalso; omega
        · have c54 : ¬ (1 = 0) := fun h => c54 ((nI_eq (a := 1) (b := 0) (by omega) (by omega)).mpr h)
          refine lv_iload hx hb dX0_force_57 (lv_at hl 5 rfl) ?_
          refine lv_iload_n hx hb dX0_force_59 rfl (lv_at hl 3 rfl) ?_
          refine lv_icmp_eq (tgt := 84) hx hb dX0_force_60 (by decide) (fun c60 => ?_) (fun c60 => ?_)
          · have c60 : i = j := (nI_eq (a := i) (b := j) (by omega) (by omega)).mp c60
            refine lv_iinc (v := nI (i + 1)) (lv' := [(5, .int _), (6, .int _), (0, .ref _), (1, .int _), (2, .int _), (4, .int _)]) hx hb dX0_force_84 hl (k := 5) rfl (nI_1 _) (by decide) rfl (fun ls hl => ?_)
            refine lv_goto (tgt := 37) hx hb dX0_force_87 (by decide) ?_
            exact ih (i + 1) _ _ x3 x6 _ _ _ (by omega) (by omega) (zq_keep hq (fun z => absurd z (by rw [c60]; exact sp_off_self j t))) hH (lv_sub hl [2, 3, 4, 5, 0] rfl)
          · have c60 : ¬ (i = j) := fun h => c60 ((nI_eq (a := i) (b := j) (by omega) (by omega)).mpr h)
            refine lv_aload_n hx hb dX0_force_63 rfl (lv_at hl 1 rfl) ?_
            refine zx_g0 hx hb hts hown hK hH dX0_force_64 ?_
            refine lv_iload hx hb dX0_force_67 (lv_at hl 5 rfl) ?_
            refine zx_l0 hx hb hK hH (j := i) (by omega) dX0_force_69 ?_
            refine zw_i (nI (v i)) (by rw [hq.1 i (by omega), if_neg (by omega)]) ?_
            refine lv_if_eq (tgt := 84) hx hb dX0_force_70 (by decide) (fun c70 => ?_) (fun c70 => ?_)
            · have c70 : v i = 0 := (nI_eq (a := v i) (b := 0) (by omega) (by omega)).mp c70
              refine lv_iinc (v := nI (i + 1)) (lv' := [(5, .int _), (6, .int _), (0, .ref _), (1, .int _), (2, .int _), (4, .int _)]) hx hb dX0_force_84 hl (k := 5) rfl (nI_1 _) (by decide) rfl (fun ls hl => ?_)
              refine lv_goto (tgt := 37) hx hb dX0_force_87 (by decide) ?_
              exact ih (i + 1) _ _ x3 x6 _ _ _ (by omega) (by omega) (zq_keep hq (fun _ => c70)) hH (lv_sub hl [2, 3, 4, 5, 0] rfl)
            · have c70 : ¬ (v i = 0) := fun h => c70 ((nI_eq (a := v i) (b := 0) (by omega) (by omega)).mpr h)
              refine lv_aload_n hx hb dX0_force_73 rfl (lv_at hl 1 rfl) ?_
              refine zx_g0 hx hb hts hown hK hH dX0_force_74 ?_
              refine lv_iload hx hb dX0_force_77 (lv_at hl 5 rfl) ?_
              refine lv_iconst (v := nI 0) hx hb dX0_force_79 (by decide) ?_
              refine zx_s0 hx hb hK hH (j := i) (by omega) dX0_force_80 (fun H locs hH => ?_)
              refine lv_iinc (v := nI (cn + 1)) (lv' := [(4, .int _), (6, .int _), (0, .ref _), (1, .int _), (2, .int _), (5, .int _)]) hx hb dX0_force_81 hl (k := 4) rfl (nI_1 _) (by decide) rfl (fun ls hl => ?_)
              refine lv_iinc (v := nI (i + 1)) (lv' := [(5, .int _), (4, .int _), (6, .int _), (0, .ref _), (1, .int _), (2, .int _)]) hx hb dX0_force_84 hl (k := 5) rfl (nI_1 _) (by decide) rfl (fun ls hl => ?_)
              refine lv_goto (tgt := 37) hx hb dX0_force_87 (by decide) ?_
              exact ih (i + 1) _ _ x3 x6 _ _ _ (by omega) (by omega) (zq_upd hq (sp_off_yes hcov c60) c70) hH (lv_sub hl [3, 4, 5, 1, 0] rfl)
/-- force(x, y) -/
theorem mX0_force (l : Launch) (D : va_G) (ad : Nat → Nat) (ci : Nat → ClassId) (sz : Nat) (w mv us : Nat → Int32) (tb : Nat → Int64) (v : Nat → Nat) (hv : zv v w) (x y : Int32) : ZMi l yX0_force cX0_force 7 (some .int) (zr 3) D (XT ci) (.ref (ad 0) :: [.int x, .int y]) sz (XW ad ci w mv us tb) (fun r (u : XS) => r = (sp_force v x y).1 ∧ zv (sp_force v x y).2 u.1) (XU ad ci) := by
  unfold ZMi
  refine zw_met (own := RX0) (Qf := fun A => va_Qi (fun r (u : XS) => r = (sp_force v x y).1 ∧ zv (sp_force v x y).2 u.1) (ZB D (XT ci) (XU ad ci) A) A) (by decide) rfl (Nat.le_of_ble_eq_true rfl) ?_
  intro p e s m below meth c A ls S0 hr hlocks hin hA hK hH hl
  obtain ⟨hx, hb, hml, hown, hts⟩ := id S0
  have hl : lv_has ls 7 [(0, .ref (ad 0)), (1, .int (x)), (2, .int (y))] := hl
  refine lv_iload_n hx hb dX0_force_0 rfl (lv_at hl 2 rfl) ?_
  refine zw_Si (n := 1) (rest := []) S0 (mX0_bad l D _ y) q46 q47 q17 q48 (by decide +kernel) ⟨Nat.le_of_ble_eq_true rfl, Nat.le_of_ble_eq_true rfl⟩ ⟨rfl, rfl⟩ ⟨Nat.zero_le _, Nat.zero_le _⟩ hK hA hH rfl hl.1 rfl (Nat.le_of_ble_eq_true rfl) dX0_force_1 (fun r1 H locs hr1 hH => ?_)
  rcases hr1 with ⟨hr1, hbad⟩ | ⟨hr1, k, hk, hk1⟩
  · refine zw_i (nI (1)) (hr1) ?_
    refine lv_if_ne (tgt := 17) hx hb dX0_force_4 (by decide) (fun c4 => ?_) (fun c4 => ?_)
    · have c4 : ¬ (1 = 0) := fun h => c4 ((nI_eq (a := 1) (b := 0) (by omega) (by omega)).mpr h)
      refine lv_iconst (v := -1) hx hb dX0_force_17 (by decide) ?_
      exact zw_iret (u := (w, mv, us, tb)) hx hb hr hlocks hK hH (by unfold sp_force; rw [sp_ix_bad hbad]; exact ⟨rfl, hv⟩) dX0_force_18
    · have c4 : 1 = 0 := (nI_eq (a := 1) (b := 0) (by omega) (by omega)).mp c4
      exfalso; omega
  · refine zw_i (nI (0)) (hr1) ?_
    subst hk1
    refine lv_if_ne (tgt := 17) hx hb dX0_force_4 (by decide) (fun c4 => ?_) (fun c4 => ?_)
    · have c4 : ¬ (0 = 0) := fun h => c4 ((nI_eq (a := 0) (b := 0) (by omega) (by omega)).mpr h)
      exfalso; omega
    · have c4 : 0 = 0 := (nI_eq (a := 0) (b := 0) (by omega) (by omega)).mp c4
      refine lv_iload_n hx hb dX0_force_7 rfl (lv_at hl 1 rfl) ?_
      refine lv_if_lt (tgt := 17) hx hb dX0_force_8 (by decide) (fun c8 => ?_) (fun c8 => ?_)
      · refine lv_iconst (v := -1) hx hb dX0_force_17 (by decide) ?_
        exact zw_iret (u := (w, mv, us, tb)) hx hb hr hlocks hK hH (by unfold sp_force; rw [sp_ix_nI hk, sp_sq_bad (Or.inl c8)]; exact ⟨rfl, hv⟩) dX0_force_18
      · refine lv_iload_n hx hb dX0_force_11 rfl (lv_at hl 1 rfl) ?_
        refine lv_bipush (v := nI 15) hx hb dX0_force_12 (by decide) ?_
        refine lv_icmp_le (tgt := 19) hx hb dX0_force_14 (by decide) (fun c14 => ?_) (fun c14 => ?_)
        · obtain ⟨t, ht, ht1⟩ := zn_upto 15 (by decide) c8 (zn_le_nlt c14)
          subst ht1
          refine lv_iload_n hx hb dX0_force_19 rfl (lv_at hl 2 rfl) ?_
          refine lv_iload_n hx hb dX0_force_20 rfl (lv_at hl 1 rfl) ?_
          refine zw_Si (n := 2) (rest := []) S0 (mX0_covers l D _ k t (by omega) (by omega)) q64 q65 q17 q66 (by decide +kernel) ⟨Nat.le_of_ble_eq_true rfl, Nat.le_of_ble_eq_true rfl⟩ ⟨rfl, rfl⟩ ⟨Nat.zero_le _, Nat.zero_le _⟩ hK hA hH rfl hl.1 rfl (Nat.le_of_ble_eq_true rfl) dX0_force_21 (fun r21 H locs hr21 hH => ?_)
          cases hcov : sp_cov k t with
          | false =>
            refine zw_i (nI (0)) (by rw [hr21, hcov]; rfl) ?_
            refine lv_istore_n (lv' := [(3, .int _), (0, .ref _), (1, .int _), (2, .int _)]) hx hb dX0_force_24 rfl hl (by decide) rfl (fun ls hl => ?_)
            refine lv_iload_n hx hb dX0_force_25 rfl (lv_at hl 0 rfl) ?_
            refine lv_if_ne (tgt := 31) hx hb dX0_force_26 (by decide) (fun c26 => ?_) (fun c26 => ?_)
            · have c26 : ¬ (0 = 0) := fun h => c26 ((nI_eq (a := 0) (b := 0) (by omega) (by omega)).mpr h)
              exfalso; omega
            · have c26 : 0 = 0 := (nI_eq (a := 0) (b := 0) (by omega) (by omega)).mp c26
              refine lv_iconst (v := -1) hx hb dX0_force_29 (by decide) ?_
              exact zw_iret (u := (w, mv, us, tb)) hx hb hr hlocks hK hH (by unfold sp_force; rw [sp_ix_nI hk, sp_sq_nI ht]; dsimp only; rw [hcov]; exact ⟨rfl, hv⟩) dX0_force_30
          | true =>
            refine zw_i (nI (1)) (by rw [hr21, hcov]; rfl) ?_
            refine lv_istore_n (lv' := [(3, .int _), (0, .ref _), (1, .int _), (2, .int _)]) hx hb dX0_force_24 rfl hl (by decide) rfl (fun ls hl => ?_)
            refine lv_iload_n hx hb dX0_force_25 rfl (lv_at hl 0 rfl) ?_
            refine lv_if_ne (tgt := 31) hx hb dX0_force_26 (by decide) (fun c26 => ?_) (fun c26 => ?_)
            · have c26 : ¬ (1 = 0) := fun h => c26 ((nI_eq (a := 1) (b := 0) (by omega) (by omega)).mpr h)
              refine lv_iconst (v := nI 0) hx hb dX0_force_31 (by decide) ?_
              refine lv_istore (lv' := [(4, .int _), (3, .int _), (0, .ref _), (1, .int _), (2, .int _)]) hx hb dX0_force_32 hl (by decide) rfl (fun ls hl => ?_)
              refine lv_iconst (v := nI 0) hx hb dX0_force_34 (by decide) ?_
              refine lv_istore (lv' := [(5, .int _), (4, .int _), (3, .int _), (0, .ref _), (1, .int _), (2, .int _)]) hx hb dX0_force_35 hl (by decide) rfl (fun ls hl => ?_)
              refine lX0_force S0 hA hK ⟨Nat.le_of_ble_eq_true rfl, Nat.le_of_ble_eq_true rfl⟩ ⟨Nat.zero_le _, Nat.zero_le _⟩ k t hk ht (fun q hq => (hv q hq).2) (fun f n H locs ls hq hH hl => ?_) 25 0 _ _ 0 0 _ _ _ (by omega) (by omega) (zq_0 hv k t) hH (lv_sub hl [3, 4, 5, 1, 0] rfl)
              obtain ⟨l1, hl⟩ := hl
              refine lv_iload hx hb dX0_force_90 (lv_at hl 0 rfl) ?_
              exact zw_iret (u := (f, mv, us, tb)) hx hb hr hlocks hK hH (by unfold sp_force; rw [sp_ix_nI hk, sp_sq_nI ht]; dsimp only; rw [hcov]; exact ⟨by rw [hq.2]; rfl, zq_end hv hq⟩) dX0_force_92
            · have c26 : 1 = 0 := (nI_eq (a := 1) (b := 0) (by omega) (by omega)).mp c26
              exfalso; omega
        · refine lv_iconst (v := -1) hx hb dX0_force_17 (by decide) ?_
          exact zw_iret (u := (w, mv, us, tb)) hx hb hr hlocks hK hH (by unfold sp_force; rw [sp_ix_nI hk, sp_sq_bad (Or.inr (zn_nle c14))]; exact ⟨rfl, hv⟩) dX0_force_18
/-- weightOf(x) -/
theorem mX0_weightOf (l : Launch) (D : va_G) (ad : Nat → Nat) (ci : Nat → ClassId) (sz : Nat) (w mv us : Nat → Int32) (tb : Nat → Int64) (v : Nat → Nat) (hv : zv v w) (x : Int32) : ZMi l yX0_weightOf cX0_weightOf 2 (some .int) (zr 1) D (XT ci) (.ref (ad 0) :: [.int x]) sz (XW ad ci w mv us tb) (fun r (u : XS) => r = sp_weightOf v x ∧ zv v u.1) (XU ad ci) := by
  unfold ZMi
  refine zw_met (own := RX0) (Qf := fun A => va_Qi (fun r (u : XS) => r = sp_weightOf v x ∧ zv v u.1) (ZB D (XT ci) (XU ad ci) A) A) (by decide) rfl (Nat.le_of_ble_eq_true rfl) ?_
  intro p e s m below meth c A ls S0 hr hlocks hin hA hK hH hl
  obtain ⟨hx, hb, hml, hown, hts⟩ := id S0
  have hl : lv_has ls 2 [(0, .ref (ad 0)), (1, .int (x))] := hl
  refine lv_iload_n hx hb dX0_weightOf_0 rfl (lv_at hl 1 rfl) ?_
  refine zw_Si (n := 1) (rest := []) S0 (mX0_bad l D _ x) q46 q47 q17 q48 (by decide +kernel) ⟨Nat.le_of_ble_eq_true rfl, Nat.le_of_ble_eq_true rfl⟩ ⟨rfl, rfl⟩ ⟨Nat.zero_le _, Nat.zero_le _⟩ hK hA hH rfl hl.1 rfl (Nat.le_of_ble_eq_true rfl) dX0_weightOf_1 (fun r1 H locs hr1 hH => ?_)
  rcases hr1 with ⟨hr1, hbad⟩ | ⟨hr1, k, hk, hk1⟩
  · refine zw_i (nI (1)) (hr1) ?_
    refine lv_if_eq (tgt := 11) hx hb dX0_weightOf_4 (by decide) (fun c4 => ?_) (fun c4 => ?_)
    · have c4 : 1 = 0 := (nI_eq (a := 1) (b := 0) (by omega) (by omega)).mp c4
      exfalso; omega
    · have c4 : ¬ (1 = 0) := fun h => c4 ((nI_eq (a := 1) (b := 0) (by omega) (by omega)).mpr h)
      refine lv_iconst (v := -1) hx hb dX0_weightOf_7 (by decide) ?_
      refine lv_goto (tgt := 17) hx hb dX0_weightOf_8 (by decide) ?_
      exact zw_iret (u := (w, mv, us, tb)) hx hb hr hlocks hK hH (by unfold sp_weightOf; rw [sp_ix_bad hbad]; exact ⟨rfl, hv⟩) dX0_weightOf_17
  · refine zw_i (nI (0)) (hr1) ?_
    subst hk1
    refine lv_if_eq (tgt := 11) hx hb dX0_weightOf_4 (by decide) (fun c4 => ?_) (fun c4 => ?_)
    · have c4 : 0 = 0 := (nI_eq (a := 0) (b := 0) (by omega) (by omega)).mp c4
      refine lv_aload_n hx hb dX0_weightOf_11 rfl (lv_at hl 0 rfl) ?_
      refine zx_g0 hx hb hts hown hK hH dX0_weightOf_12 ?_
      refine lv_iload_n hx hb dX0_weightOf_15 rfl (lv_at hl 1 rfl) ?_
      refine zx_l0 hx hb hK hH (j := k) (by omega) dX0_weightOf_16 ?_
      exact zw_iret (u := (w, mv, us, tb)) hx hb hr hlocks hK hH (by unfold sp_weightOf; rw [sp_ix_nI hk]; exact ⟨(hv k hk).1, hv⟩) dX0_weightOf_17
    · have c4 : ¬ (0 = 0) := fun h => c4 ((nI_eq (a := 0) (b := 0) (by omega) (by omega)).mpr h)
      exfalso; omega
/-- a loop of useWeights -/
theorem lX0_useWeights {p : Program} {l : Launch} {e : Env} {R : Room} {s : State} {m : MethodId} {args : Array Value} {below : List Frame} {meth : Method} {c : Code} {cells slots : Nat} {Q : State → Prop} {A : Nat → Prop} {D : va_G} {ad : Nat → Nat} {ci : Nat → ClassId} (S0 : CallFix p m c cX0_useWeights 2 s args lw_all RX0) (hA : ∀ q, s.heap.size ≤ q → A q) (hK : va_K D vwCl (XT ci) s) {w mv : Nat → Int32} {tb : Nat → Int64}
    (K : ∀ (f : Nat → Int32) (H : Heap) (locs : List Loc) (ls : Array Slot), (∀ j, j < 24 → f j = w j) → ZH D A s.heap (XW ad ci w mv f tb) H locs → W p l e R s m args below meth c H locs cells slots Q (F0 m 26 ls [])) :
    ∀ (n i : Nat) (f : Nat → Int32) (H : Heap) (locs : List Loc) (ls : Array Slot), i ≤ 24 → 24 + 1 ≤ i + n → (∀ j, j < i → f j = w j) → ZH D A s.heap (XW ad ci w mv f tb) H locs → lv_has ls 2 [(0, .ref (ad 0)), (1, .int (nI (i)))] → W p l e R s m args below meth c H locs cells slots Q (F0 m 2 ls []) := by
  obtain ⟨hx, hb, hml, hown, hts⟩ := id S0
  intro n
  induction n with
  | zero =>
    intro i f H locs ls h1 h2
    exact absurd h2 (by omega)
  | succ n ih =>
    intro i f H locs ls hi hin hf1 hH hl
    refine lv_iload_n hx hb dX0_useWeights_2 rfl (lv_at hl 1 rfl) ?_
    refine lv_bipush (v := nI 24) hx hb dX0_useWeights_3 (by decide) ?_
    refine lv_icmp_ge (tgt := 26) hx hb dX0_useWeights_5 (by decide) (fun c5 => ?_) (fun c5 => ?_)
    · have c5 : 24 ≤ i := (nI_leI (a := 24) (b := i) (by omega) (by omega)).mp c5
      have e24 : i = 24 := by omega
      subst e24
      exact K f H locs ls hf1 hH
    · have c5 : ¬ (24 ≤ i) := fun h => c5 ((nI_leI (a := 24) (b := i) (by omega) (by omega)).mpr h)
      refine lv_aload_n hx hb dX0_useWeights_8 rfl (lv_at hl 0 rfl) ?_
      refine zx_g2 hx hb hts hown hK hH dX0_useWeights_9 ?_
      refine lv_iload_n hx hb dX0_useWeights_12 rfl (lv_at hl 1 rfl) ?_
      refine lv_aload_n hx hb dX0_useWeights_13 rfl (lv_at hl 0 rfl) ?_
      refine zx_g0 hx hb hts hown hK hH dX0_useWeights_14 ?_
      refine lv_iload_n hx hb dX0_useWeights_17 rfl (lv_at hl 1 rfl) ?_
      refine zx_l0 hx hb hK hH (j := i) (by omega) dX0_useWeights_18 ?_
      refine zx_s2 hx hb hK hH (j := i) (by omega) dX0_useWeights_19 (fun H locs hH => ?_)
      refine lv_iinc (v := nI (i + 1)) (lv' := [(1, .int _), (0, .ref _)]) hx hb dX0_useWeights_20 hl (k := 1) rfl (nI_1 _) (by decide) rfl (fun ls hl => ?_)
      refine lv_goto (tgt := 2) hx hb dX0_useWeights_23 (by decide) ?_
      exact ih (i + 1) _ _ _ _ (by omega) (by omega) (fun j hj => by
        by_cases e : j = i
        · rw [e, pk_us]
        · rw [pk_un e]; exact hf1 j (by omega)) hH (lv_sub hl [1, 0] rfl)
/-- useWeights() -/
theorem mX0_useWeights (l : Launch) (D : va_G) (ad : Nat → Nat) (ci : Nat → ClassId) (sz : Nat) (w mv us : Nat → Int32) (tb : Nat → Int64) (v : Nat → Nat) (hv : zv v w)  : ZMv l yX0_useWeights cX0_useWeights 2 none (zr 0) D (XT ci) (.ref (ad 0) :: []) sz (XW ad ci w mv us tb) (fun (u : XS) => u.1 = w ∧ zv v u.2.2.1) (XU ad ci) := by
  unfold ZMv
  refine zw_met (own := RX0) (Qf := fun A => va_Qv (fun (u : XS) => u.1 = w ∧ zv v u.2.2.1) (ZB D (XT ci) (XU ad ci) A) A) (by decide) rfl (Nat.le_of_ble_eq_true rfl) ?_
  intro p e s m below meth c A ls S0 hr hlocks hin hA hK hH hl
  obtain ⟨hx, hb, hml, hown, hts⟩ := id S0
  have hl : lv_has ls 2 [(0, .ref (ad 0))] := hl
  refine lv_iconst (v := nI 0) hx hb dX0_useWeights_0 (by decide) ?_
  refine lv_istore_n (lv' := [(1, .int _), (0, .ref _)]) hx hb dX0_useWeights_1 rfl hl (by decide) rfl (fun ls hl => ?_)
  refine lX0_useWeights S0 hA hK (fun f H locs ls hf1 hH => ?_) 25 0 _ _ _ _ (by omega) (by omega) (fun j hj => by omega) hH (lv_sub hl [1, 0] rfl)
  exact zw_vret (u := (w, mv, f, tb)) hx hb hr hlocks hK hH (⟨rfl, fun j hj => ⟨(hf1 j hj).trans (hv j hj).1, (hv j hj).2⟩⟩) dX0_useWeights_26
/-- a loop of useOnes -/
theorem lX0_useOnes {p : Program} {l : Launch} {e : Env} {R : Room} {s : State} {m : MethodId} {args : Array Value} {below : List Frame} {meth : Method} {c : Code} {cells slots : Nat} {Q : State → Prop} {A : Nat → Prop} {D : va_G} {ad : Nat → Nat} {ci : Nat → ClassId} (S0 : CallFix p m c cX0_useOnes 2 s args lw_all RX0) (hA : ∀ q, s.heap.size ≤ q → A q) (hK : va_K D vwCl (XT ci) s) {w mv : Nat → Int32} {tb : Nat → Int64} {v : Nat → Nat} (hv : zv v w)
    (K : ∀ (f : Nat → Int32) (H : Heap) (locs : List Loc) (ls : Array Slot), (∀ j, j < 24 → f j = nI (zt_ones v j)) → ZH D A s.heap (XW ad ci w mv f tb) H locs → W p l e R s m args below meth c H locs cells slots Q (F0 m 34 ls [])) :
    ∀ (n i : Nat) (f : Nat → Int32) (H : Heap) (locs : List Loc) (ls : Array Slot), i ≤ 24 → 24 + 1 ≤ i + n → (∀ j, j < i → f j = nI (zt_ones v j)) → ZH D A s.heap (XW ad ci w mv f tb) H locs → lv_has ls 2 [(0, .ref (ad 0)), (1, .int (nI (i)))] → W p l e R s m args below meth c H locs cells slots Q (F0 m 2 ls []) := by
  obtain ⟨hx, hb, hml, hown, hts⟩ := id S0
  intro n
  induction n with
  | zero =>
    intro i f H locs ls h1 h2
    exact absurd h2 (by omega)
  | succ n ih =>
    intro i f H locs ls hi hin hf1 hH hl
    refine lv_iload_n hx hb dX0_useOnes_2 rfl (lv_at hl 1 rfl) ?_
    refine lv_bipush (v := nI 24) hx hb dX0_useOnes_3 (by decide) ?_
    refine lv_icmp_ge (tgt := 34) hx hb dX0_useOnes_5 (by decide) (fun c5 => ?_) (fun c5 => ?_)
    · have c5 : 24 ≤ i := (nI_leI (a := 24) (b := i) (by omega) (by omega)).mp c5
      have e24 : i = 24 := by omega
      subst e24
      exact K f H locs ls hf1 hH
    · have c5 : ¬ (24 ≤ i) := fun h => c5 ((nI_leI (a := 24) (b := i) (by omega) (by omega)).mpr h)
      have hvi := (hv i (by omega)).2
      refine lv_aload_n hx hb dX0_useOnes_8 rfl (lv_at hl 0 rfl) ?_
      refine zx_g2 hx hb hts hown hK hH dX0_useOnes_9 ?_
      refine lv_iload_n hx hb dX0_useOnes_12 rfl (lv_at hl 1 rfl) ?_
      refine lv_aload_n hx hb dX0_useOnes_13 rfl (lv_at hl 0 rfl) ?_
      refine zx_g0 hx hb hts hown hK hH dX0_useOnes_14 ?_
      refine lv_iload_n hx hb dX0_useOnes_17 rfl (lv_at hl 1 rfl) ?_
      refine zx_l0 hx hb hK hH (j := i) (by omega) dX0_useOnes_18 ?_
      refine zw_i (nI (v i)) ((hv i (by omega)).1) ?_
      refine lv_if_le (tgt := 26) hx hb dX0_useOnes_19 (by decide) (fun c19 => ?_) (fun c19 => ?_)
      · have c19 : v i ≤ 0 := (nI_leI (a := v i) (b := 0) (by omega) (by omega)).mp c19
        refine lv_iconst (v := nI 0) hx hb dX0_useOnes_26 (by decide) ?_
        refine zx_s2 hx hb hK hH (j := i) (by omega) dX0_useOnes_27 (fun H locs hH => ?_)
        refine lv_iinc (v := nI (i + 1)) (lv' := [(1, .int _), (0, .ref _)]) hx hb dX0_useOnes_28 hl (k := 1) rfl (nI_1 _) (by decide) rfl (fun ls hl => ?_)
        refine lv_goto (tgt := 2) hx hb dX0_useOnes_31 (by decide) ?_
        exact ih (i + 1) _ _ _ _ (by omega) (by omega) (fun j hj => by
          by_cases e : j = i
          · rw [e, pk_us]; unfold zt_ones; rw [if_neg (by omega)]
          · rw [pk_un e]; exact hf1 j (by omega)) hH (lv_sub hl [1, 0] rfl)
      · have c19 : ¬ (v i ≤ 0) := fun h => c19 ((nI_leI (a := v i) (b := 0) (by omega) (by omega)).mpr h)
        refine lv_iconst (v := nI 1) hx hb dX0_useOnes_22 (by decide) ?_
        refine lv_goto (tgt := 27) hx hb dX0_useOnes_23 (by decide) ?_
        refine zx_s2 hx hb hK hH (j := i) (by omega) dX0_useOnes_27 (fun H locs hH => ?_)
        refine lv_iinc (v := nI (i + 1)) (lv' := [(1, .int _), (0, .ref _)]) hx hb dX0_useOnes_28 hl (k := 1) rfl (nI_1 _) (by decide) rfl (fun ls hl => ?_)
        refine lv_goto (tgt := 2) hx hb dX0_useOnes_31 (by decide) ?_
        exact ih (i + 1) _ _ _ _ (by omega) (by omega) (fun j hj => by
          by_cases e : j = i
          · rw [e, pk_us]; unfold zt_ones; rw [if_pos (by omega)]
          · rw [pk_un e]; exact hf1 j (by omega)) hH (lv_sub hl [1, 0] rfl)
/-- useOnes() -/
theorem mX0_useOnes (l : Launch) (D : va_G) (ad : Nat → Nat) (ci : Nat → ClassId) (sz : Nat) (w mv us : Nat → Int32) (tb : Nat → Int64) (v : Nat → Nat) (hv : zv v w)  : ZMv l yX0_useOnes cX0_useOnes 2 none (zr 0) D (XT ci) (.ref (ad 0) :: []) sz (XW ad ci w mv us tb) (fun (u : XS) => u.1 = w ∧ zv (zt_ones v) u.2.2.1) (XU ad ci) := by
  unfold ZMv
  refine zw_met (own := RX0) (Qf := fun A => va_Qv (fun (u : XS) => u.1 = w ∧ zv (zt_ones v) u.2.2.1) (ZB D (XT ci) (XU ad ci) A) A) (by decide) rfl (Nat.le_of_ble_eq_true rfl) ?_
  intro p e s m below meth c A ls S0 hr hlocks hin hA hK hH hl
  obtain ⟨hx, hb, hml, hown, hts⟩ := id S0
  have hl : lv_has ls 2 [(0, .ref (ad 0))] := hl
  refine lv_iconst (v := nI 0) hx hb dX0_useOnes_0 (by decide) ?_
  refine lv_istore_n (lv' := [(1, .int _), (0, .ref _)]) hx hb dX0_useOnes_1 rfl hl (by decide) rfl (fun ls hl => ?_)
  refine lX0_useOnes S0 hA hK hv (fun f H locs ls hf1 hH => ?_) 25 0 _ _ _ _ (by omega) (by omega) (fun j hj => by omega) hH (lv_sub hl [1, 0] rfl)
  exact zw_vret (u := (w, mv, f, tb)) hx hb hr hlocks hK hH (⟨rfl, fun j hj => ⟨hf1 j hj, zt_ones_le v j hj⟩⟩) dX0_useOnes_34
end
section
/-! DimerCounter: the table -/
set_option maxRecDepth 100000
theorem zk_neg_lt {k : Nat} (h : k < 12) : zk_neg k = false := by
  unfold zk_neg
  have : Nat.ble 12 k = false := by
    cases q : Nat.ble 12 k with
    | true => exact absurd (Nat.le_of_ble_eq_true q) (by omega)
    | false => rfl
  rw [this]
  rfl
theorem zk_neg_even {k : Nat} (h : ¬ zk_fs k % 2 = 1) : zk_neg k = false := by
  unfold zk_neg
  rw [zn_bne h, Bool.and_false]
theorem zk_neg_odd {k : Nat} (h : ¬ k < 12) (h2 : zk_fs k % 2 = 1) : zk_neg k = true := by
  unfold zk_neg
  rw [zn_beq h2, Nat.ble_eq_true_of_le (by omega)]
  rfl
def zs_sg (a b r : Nat) : Nat := if r = a then b else if r = b then a else r
def zs_inv (tb : Nat → Int64) (a b i : Nat) (f : Nat → Int64) : Prop := ∀ r, r < 8 → ∀ c, c < 8 → f (r * 8 + c) = if c < i then tb (zs_sg a b r * 8 + c) else tb (r * 8 + c)
theorem zs_step {tb f : Nat → Int64} {a b i : Nat} (h : zs_inv tb a b i f) (ha : a < 8) (hb : b < 8) (hab : a ≠ b) (hi : i < 8) : zs_inv tb a b (i + 1) (vp_updL (vp_updL f (a * 8 + i) (f (b * 8 + i))) (b * 8 + i) (f (a * 8 + i))) := by
  intro r hr c hc
  by_cases ec : c = i
  · subst ec
    rw [if_pos (by omega)]
    unfold zs_sg
    by_cases e1 : r = a
    · subst e1
      rw [if_pos rfl, pk_uLn (by omega), pk_uLs, h b hb c hc, if_neg (by omega)]
    · by_cases e2 : r = b
      · subst e2
        rw [if_neg e1, if_pos rfl, pk_uLs, h a ha c hc, if_neg (by omega)]
      · rw [if_neg e1, if_neg e2, pk_uLn (by omega), pk_uLn (by omega), h r hr c hc, if_neg (by omega)]
  · rw [pk_uLn (by omega), pk_uLn (by omega), h r hr c hc]
    by_cases e3 : c < i
    · rw [if_pos e3, if_pos (by omega)]
    · rw [if_neg e3, if_neg (by omega)]
/-- what one step of elimination leaves at row r, column c -/
def zel (tb : Nat → Int64) (k : Nat) (d : Int64) (r c : Nat) : Int64 := if r ≤ k then tb (r * 8 + c) else if c < k then tb (r * 8 + c) else if c = k then 0 else if d = 0 then 0 else (tb (r * 8 + c) * tb (k * 8 + k) - tb (r * 8 + k) * tb (k * 8 + c)) / d
theorem zel_top {tb : Nat → Int64} {k r c : Nat} {d : Int64} (h : r ≤ k) : zel tb k d r c = tb (r * 8 + c) := if_pos h
theorem zel_left {tb : Nat → Int64} {k r c : Nat} {d : Int64} (h : ¬ r ≤ k) (h2 : c < k) : zel tb k d r c = tb (r * 8 + c) := by
  unfold zel
  rw [if_neg h, if_pos h2]
theorem zel_at {tb : Nat → Int64} {k r : Nat} {d : Int64} (h : ¬ r ≤ k) : zel tb k d r k = 0 := by
  unfold zel
  rw [if_neg h, if_neg (by omega), if_pos rfl]
theorem zel_in {tb : Nat → Int64} {k r c : Nat} {d : Int64} (h : ¬ r ≤ k) (h2 : k < c) : zel tb k d r c = if d = 0 then 0 else (tb (r * 8 + c) * tb (k * 8 + k) - tb (r * 8 + k) * tb (k * 8 + c)) / d := by
  unfold zel
  rw [if_neg h, if_neg (by omega), if_neg (by omega)]
def zeo (tb : Nat → Int64) (k : Nat) (d : Int64) (i : Nat) (f : Nat → Int64) : Prop := ∀ r, r < 8 → ∀ c, c < 8 → f (r * 8 + c) = if r < i then zel tb k d r c else tb (r * 8 + c)
def zei (tb : Nat → Int64) (k : Nat) (d : Int64) (i j : Nat) (f : Nat → Int64) : Prop := ∀ r, r < 8 → ∀ c, c < 8 → f (r * 8 + c) = if r < i then zel tb k d r c else if r = i ∧ k < c ∧ c < j then zel tb k d i c else tb (r * 8 + c)
theorem zeo_0 (tb : Nat → Int64) (k : Nat) (d : Int64) : zeo tb k d (k + 1) tb := by
  intro r hr c hc
  by_cases e : r < k + 1
  · rw [if_pos e, zel_top (by omega)]
  · rw [if_neg e]
theorem zei_0 {tb f : Nat → Int64} {k i : Nat} {d : Int64} (h : zeo tb k d i f) : zei tb k d i (k + 1) f := by
  intro r hr c hc
  rw [h r hr c hc, if_neg (show ¬ (r = i ∧ k < c ∧ c < k + 1) by omega)]
theorem zei_at {tb f : Nat → Int64} {k i j : Nat} {d : Int64} (h : zei tb k d i j f) (hi : i < 8) (hj : j < 8) : f (i * 8 + j) = tb (i * 8 + j) := by
  rw [h i hi j hj, if_neg (by omega), if_neg (by omega)]
theorem zei_top {tb f : Nat → Int64} {k i j : Nat} {d : Int64} (h : zei tb k d i j f) (hk : k < i) (hi : i < 8) (hj : j < 8) : f (k * 8 + j) = tb (k * 8 + j) := by
  rw [h k (by omega) j hj, if_pos hk, zel_top (Nat.le_refl k)]
theorem zeo_at {tb f : Nat → Int64} {k i c : Nat} {d : Int64} (h : zeo tb k d i f) (hi : i < 8) (hc : c < 8) : f (i * 8 + c) = tb (i * 8 + c) := by
  rw [h i hi c hc, if_neg (by omega)]
theorem zei_step {tb f : Nat → Int64} {k i j : Nat} {d x : Int64} (h : zei tb k d i j f) (hi : i < 8) (hj : j < 8) (hk : k < j) (hx : x = zel tb k d i j) : zei tb k d i (j + 1) (vp_updL f (i * 8 + j) x) := by
  intro r hr c hc
  by_cases e : r * 8 + c = i * 8 + j
  · have e1 : r = i := by omega
    have e2 : c = j := by omega
    rw [e1, e2, pk_uLs, if_neg (by omega), if_pos ⟨rfl, hk, by omega⟩]
    exact hx
  · rw [pk_uLn e, h r hr c hc]
    by_cases e3 : r < i
    · rw [if_pos e3, if_pos e3]
    · rw [if_neg e3, if_neg e3]
      by_cases e4 : r = i ∧ k < c ∧ c < j
      · rw [if_pos e4, if_pos ⟨e4.1, e4.2.1, by omega⟩]
      · rw [if_neg e4, if_neg (by omega)]
theorem zeo_step {tb f : Nat → Int64} {k i : Nat} {d : Int64} (h : zei tb k d i 8 f) (hi : i < 8) (hk : k < i) : zeo tb k d (i + 1) (vp_updL f (i * 8 + k) 0) := by
  intro r hr c hc
  by_cases e : r * 8 + c = i * 8 + k
  · have e1 : r = i := by omega
    have e2 : c = k := by omega
    rw [e1, e2, pk_uLs, if_pos (by omega), zel_at (by omega)]
  · rw [pk_uLn e, h r hr c hc]
    by_cases e3 : r < i
    · rw [if_pos e3, if_pos (by omega)]
    · rw [if_neg e3]
      by_cases e4 : r = i
      · rw [if_pos (by omega : r < i + 1)]
        by_cases e5 : k < c
        · rw [if_pos ⟨e4, e5, hc⟩, e4]
        · rw [if_neg (by omega), zel_left (by omega) (by omega)]
      · rw [if_neg (by omega), if_neg (by omega)]
/-- enter(k) -/
theorem mX0_enter (l : Launch) (D : va_G) (ad : Nat → Nat) (ci : Nat → ClassId) (sz : Nat) (w mv us : Nat → Int32) (tb : Nat → Int64) (k : Nat) (hk : k < 24) : ZMv l yX0_enter cX0_enter 8 none (zr 2) D (XT ci) (.ref (ad 0) :: [.int (nI k)]) sz (XW ad ci w mv us tb) (fun (u : XS) => u.1 = w ∧ u.2.1 = mv ∧ u.2.2.1 = us ∧ u.2.2.2 = vp_updL tb (zk_pos k) (if zk_neg k = true then -(us k) else us k).toInt64) (XU ad ci) := by
  unfold ZMv
  refine zw_met (own := RX0) (Qf := fun A => va_Qv (fun (u : XS) => u.1 = w ∧ u.2.1 = mv ∧ u.2.2.1 = us ∧ u.2.2.2 = vp_updL tb (zk_pos k) (if zk_neg k = true then -(us k) else us k).toInt64) (ZB D (XT ci) (XU ad ci) A) A) (by decide) rfl (Nat.le_of_ble_eq_true rfl) ?_
  intro p e s m below meth c A ls S0 hr hlocks hin hA hK hH hl
  obtain ⟨hx, hb, hml, hown, hts⟩ := id S0
  have hl : lv_has ls 8 [(0, .ref (ad 0)), (1, .int (nI (k)))] := hl
  have hfs := zk_fs_lt k hk
  have hss := zk_ss_lt k hk
  have hpos := zk_pos_lt k hk
  refine lv_iload_n hx hb dX0_enter_0 rfl (lv_at hl 1 rfl) ?_
  refine zw_Si (n := 1) (rest := []) S0 (mX0_firstSquare l D _ k hk) q57 q58 q17 q59 (by decide +kernel) ⟨Nat.le_of_ble_eq_true rfl, Nat.le_of_ble_eq_true rfl⟩ ⟨rfl, rfl⟩ ⟨Nat.zero_le _, Nat.zero_le _⟩ hK hA hH rfl hl.1 rfl (Nat.le_of_ble_eq_true rfl) dX0_enter_1 (fun r1 H locs hr1 hH => ?_)
  refine zw_i (nI (zk_fs k)) (hr1) ?_
  refine lv_istore_n (lv' := [(2, .int _), (0, .ref _), (1, .int _)]) hx hb dX0_enter_4 rfl hl (by decide) rfl (fun ls hl => ?_)
  refine lv_iload_n hx hb dX0_enter_5 rfl (lv_at hl 2 rfl) ?_
  refine zw_Si (n := 1) (rest := []) S0 (mX0_secondSquare l D _ k hk) q67 q68 q17 q69 (by decide +kernel) ⟨Nat.le_of_ble_eq_true rfl, Nat.le_of_ble_eq_true rfl⟩ ⟨rfl, rfl⟩ ⟨Nat.zero_le _, Nat.zero_le _⟩ hK hA hH rfl hl.1 rfl (Nat.le_of_ble_eq_true rfl) dX0_enter_6 (fun r6 H locs hr6 hH => ?_)
  refine zw_i (nI (zk_ss k)) (hr6) ?_
  refine lv_istore_n (lv' := [(3, .int _), (2, .int _), (0, .ref _), (1, .int _)]) hx hb dX0_enter_9 rfl hl (by decide) rfl (fun ls hl => ?_)
  refine lv_iload_n hx hb dX0_enter_10 rfl (lv_at hl 1 rfl) ?_
  refine zw_Si (n := 1) (rest := []) S0 (mX0_black l D _ (zk_fs k) (by omega)) q90 q91 q17 q92 (by decide +kernel) ⟨Nat.le_of_ble_eq_true rfl, Nat.le_of_ble_eq_true rfl⟩ ⟨rfl, rfl⟩ ⟨Nat.zero_le _, Nat.zero_le _⟩ hK hA hH rfl hl.1 rfl (Nat.le_of_ble_eq_true rfl) dX0_enter_11 (fun r11 H locs hr11 hH => ?_)
  cases hblk : zk_blk (zk_fs k) with
  | false =>
    refine zw_i (nI (0)) (by rw [hr11, hblk]; rfl) ?_
    refine lv_istore (lv' := [(4, .int _), (3, .int _), (2, .int _), (0, .ref _), (1, .int _)]) hx hb dX0_enter_14 hl (by decide) rfl (fun ls hl => ?_)
    refine lv_iload hx hb dX0_enter_16 (lv_at hl 0 rfl) ?_
    refine lv_if_eq (tgt := 27) hx hb dX0_enter_18 (by decide) (fun c18 => ?_) (fun c18 => ?_)
    · have c18 : 0 = 0 := (nI_eq (a := 0) (b := 0) (by omega) (by omega)).mp c18
      refine lv_iload_n hx hb dX0_enter_27 rfl (lv_at hl 1 rfl) ?_
      refine lv_iconst (v := nI 2) hx hb dX0_enter_28 (by decide) ?_
      refine lv_idiv hx hb dX0_enter_29 (by decide) ?_
      refine zw_i (nI ((zk_ss k) / 2)) (pk_div (by omega) (by decide) (by decide)) ?_
      refine lv_istore (lv' := [(5, .int _), (4, .int _), (3, .int _), (2, .int _), (0, .ref _), (1, .int _)]) hx hb dX0_enter_30 hl (by decide) rfl (fun ls hl => ?_)
      refine lv_iload hx hb dX0_enter_32 (lv_at hl 1 rfl) ?_
      refine lv_if_eq (tgt := 43) hx hb dX0_enter_34 (by decide) (fun c34 => ?_) (fun c34 => ?_)
      · have c34 : 0 = 0 := (nI_eq (a := 0) (b := 0) (by omega) (by omega)).mp c34
        refine lv_iload_n hx hb dX0_enter_43 rfl (lv_at hl 3 rfl) ?_
        refine lv_iconst (v := nI 2) hx hb dX0_enter_44 (by decide) ?_
        refine lv_idiv hx hb dX0_enter_45 (by decide) ?_
        refine zw_i (nI ((zk_fs k) / 2)) (pk_div (by omega) (by decide) (by decide)) ?_
        refine lv_istore (lv' := [(6, .int _), (5, .int _), (4, .int _), (3, .int _), (2, .int _), (0, .ref _), (1, .int _)]) hx hb dX0_enter_46 hl (by decide) rfl (fun ls hl => ?_)
        refine lv_iload_n hx hb dX0_enter_48 rfl (lv_at hl 6 rfl) ?_
        refine lv_bipush (v := nI 12) hx hb dX0_enter_49 (by decide) ?_
        refine lv_icmp_lt (tgt := 65) hx hb dX0_enter_51 (by decide) (fun c51 => ?_) (fun c51 => ?_)
        · have c51 : k < 12 := (nI_ltI (a := k) (b := 12) (by omega) (by omega)).mp c51
          refine lv_iconst (v := nI 0) hx hb dX0_enter_65 (by decide) ?_
          refine lv_istore (lv' := [(7, .int _), (6, .int _), (5, .int _), (4, .int _), (3, .int _), (2, .int _), (0, .ref _), (1, .int _)]) hx hb dX0_enter_66 hl (by decide) rfl (fun ls hl => ?_)
          refine lv_aload_n hx hb dX0_enter_68 rfl (lv_at hl 6 rfl) ?_
          refine zx_g3 hx hb hts hown hK hH dX0_enter_69 ?_
          refine lv_iload hx hb dX0_enter_72 (lv_at hl 2 rfl) ?_
          refine lv_bipush (v := nI 8) hx hb dX0_enter_74 (by decide) ?_
          refine lv_imul hx hb dX0_enter_76 ?_
          refine zw_i (nI (((zk_ss k) / 2) * 8)) (pk_mul _ _) ?_
          refine lv_iload hx hb dX0_enter_77 (lv_at hl 1 rfl) ?_
          refine lv_iadd hx hb dX0_enter_79 ?_
          refine zw_i (nI ((((zk_ss k) / 2) * 8) + ((zk_fs k) / 2))) (nI_add _ _) ?_
          refine zw_i (nI (zk_pos k)) (by unfold zk_pos; rw [hblk]; rfl) ?_
          refine lv_iload hx hb dX0_enter_80 (lv_at hl 0 rfl) ?_
          refine lv_if_eq (tgt := 96) hx hb dX0_enter_82 (by decide) (fun c82 => ?_) (fun c82 => ?_)
          · have c82 : 0 = 0 := (nI_eq (a := 0) (b := 0) (by omega) (by omega)).mp c82
            refine lv_aload_n hx hb dX0_enter_96 rfl (lv_at hl 6 rfl) ?_
            refine zx_g2 hx hb hts hown hK hH dX0_enter_97 ?_
            refine lv_iload_n hx hb dX0_enter_100 rfl (lv_at hl 7 rfl) ?_
            refine zx_l2 hx hb hK hH (j := k) (by omega) dX0_enter_101 ?_
            refine lv_i2l hx hb dX0_enter_102 rfl ?_
            refine zx_s3 hx hb hK hH (j := zk_pos k) (by omega) dX0_enter_103 (fun H locs hH => ?_)
            exact zw_vret (u := (w, mv, us, (vp_updL tb (zk_pos k) ((us (k)).toInt64)))) hx hb hr hlocks hK hH (⟨rfl, rfl, rfl, by rw [zk_neg_lt c51]; rfl⟩) dX0_enter_104
          · have c82 : ¬ (0 = 0) := fun h => c82 ((nI_eq (a := 0) (b := 0) (by omega) (by omega)).mpr h)
            exfalso; omega
        · have c51 : ¬ (k < 12) := fun h => c51 ((nI_ltI (a := k) (b := 12) (by omega) (by omega)).mpr h)
          refine lv_iload_n hx hb dX0_enter_54 rfl (lv_at hl 4 rfl) ?_
          refine lv_iconst (v := nI 1) hx hb dX0_enter_55 (by decide) ?_
          refine lv_iand hx hb dX0_enter_56 ?_
          refine zw_i (nI ((zk_fs k) % 2)) (zn_and1 (by omega)) ?_
          refine lv_iconst (v := nI 1) hx hb dX0_enter_57 (by decide) ?_
          refine lv_icmp_ne (tgt := 65) hx hb dX0_enter_58 (by decide) (fun c58 => ?_) (fun c58 => ?_)
          · have c58 : ¬ ((zk_fs k) % 2 = 1) := fun h => c58 ((nI_eq (a := (zk_fs k) % 2) (b := 1) (by omega) (by omega)).mpr h)
            refine lv_iconst (v := nI 0) hx hb dX0_enter_65 (by decide) ?_
            refine lv_istore (lv' := [(7, .int _), (6, .int _), (5, .int _), (4, .int _), (3, .int _), (2, .int _), (0, .ref _), (1, .int _)]) hx hb dX0_enter_66 hl (by decide) rfl (fun ls hl => ?_)
            refine lv_aload_n hx hb dX0_enter_68 rfl (lv_at hl 6 rfl) ?_
            refine zx_g3 hx hb hts hown hK hH dX0_enter_69 ?_
            refine lv_iload hx hb dX0_enter_72 (lv_at hl 2 rfl) ?_
            refine lv_bipush (v := nI 8) hx hb dX0_enter_74 (by decide) ?_
            refine lv_imul hx hb dX0_enter_76 ?_
            refine zw_i (nI (((zk_ss k) / 2) * 8)) (pk_mul _ _) ?_
            refine lv_iload hx hb dX0_enter_77 (lv_at hl 1 rfl) ?_
            refine lv_iadd hx hb dX0_enter_79 ?_
            refine zw_i (nI ((((zk_ss k) / 2) * 8) + ((zk_fs k) / 2))) (nI_add _ _) ?_
            refine zw_i (nI (zk_pos k)) (by unfold zk_pos; rw [hblk]; rfl) ?_
            refine lv_iload hx hb dX0_enter_80 (lv_at hl 0 rfl) ?_
            refine lv_if_eq (tgt := 96) hx hb dX0_enter_82 (by decide) (fun c82 => ?_) (fun c82 => ?_)
            · have c82 : 0 = 0 := (nI_eq (a := 0) (b := 0) (by omega) (by omega)).mp c82
              refine lv_aload_n hx hb dX0_enter_96 rfl (lv_at hl 6 rfl) ?_
              refine zx_g2 hx hb hts hown hK hH dX0_enter_97 ?_
              refine lv_iload_n hx hb dX0_enter_100 rfl (lv_at hl 7 rfl) ?_
              refine zx_l2 hx hb hK hH (j := k) (by omega) dX0_enter_101 ?_
              refine lv_i2l hx hb dX0_enter_102 rfl ?_
              refine zx_s3 hx hb hK hH (j := zk_pos k) (by omega) dX0_enter_103 (fun H locs hH => ?_)
              exact zw_vret (u := (w, mv, us, (vp_updL tb (zk_pos k) ((us (k)).toInt64)))) hx hb hr hlocks hK hH (⟨rfl, rfl, rfl, by rw [zk_neg_even c58]; rfl⟩) dX0_enter_104
            · have c82 : ¬ (0 = 0) := fun h => c82 ((nI_eq (a := 0) (b := 0) (by omega) (by omega)).mpr h)
              exfalso; omega
          · have c58 : (zk_fs k) % 2 = 1 := (nI_eq (a := (zk_fs k) % 2) (b := 1) (by omega) (by omega)).mp c58
            refine lv_iconst (v := nI 1) hx hb dX0_enter_61 (by decide) ?_
            refine lv_goto (tgt := 66) hx hb dX0_enter_62 (by decide) ?_
            refine lv_istore (lv' := [(7, .int _), (6, .int _), (5, .int _), (4, .int _), (3, .int _), (2, .int _), (0, .ref _), (1, .int _)]) hx hb dX0_enter_66 hl (by decide) rfl (fun ls hl => ?_)
            refine lv_aload_n hx hb dX0_enter_68 rfl (lv_at hl 6 rfl) ?_
            refine zx_g3 hx hb hts hown hK hH dX0_enter_69 ?_
            refine lv_iload hx hb dX0_enter_72 (lv_at hl 2 rfl) ?_
            refine lv_bipush (v := nI 8) hx hb dX0_enter_74 (by decide) ?_
            refine lv_imul hx hb dX0_enter_76 ?_
            refine zw_i (nI (((zk_ss k) / 2) * 8)) (pk_mul _ _) ?_
            refine lv_iload hx hb dX0_enter_77 (lv_at hl 1 rfl) ?_
            refine lv_iadd hx hb dX0_enter_79 ?_
            refine zw_i (nI ((((zk_ss k) / 2) * 8) + ((zk_fs k) / 2))) (nI_add _ _) ?_
            refine zw_i (nI (zk_pos k)) (by unfold zk_pos; rw [hblk]; rfl) ?_
            refine lv_iload hx hb dX0_enter_80 (lv_at hl 0 rfl) ?_
            refine lv_if_eq (tgt := 96) hx hb dX0_enter_82 (by decide) (fun c82 => ?_) (fun c82 => ?_)
            · have c82 : 1 = 0 := (nI_eq (a := 1) (b := 0) (by omega) (by omega)).mp c82
              exfalso; omega
            · have c82 : ¬ (1 = 0) := fun h => c82 ((nI_eq (a := 1) (b := 0) (by omega) (by omega)).mpr h)
              refine lv_aload_n hx hb dX0_enter_85 rfl (lv_at hl 6 rfl) ?_
              refine zx_g2 hx hb hts hown hK hH dX0_enter_86 ?_
              refine lv_iload_n hx hb dX0_enter_89 rfl (lv_at hl 7 rfl) ?_
              refine zx_l2 hx hb hK hH (j := k) (by omega) dX0_enter_90 ?_
              refine lv_ineg hx hb dX0_enter_91 ?_
              refine lv_i2l hx hb dX0_enter_92 rfl ?_
              refine lv_goto (tgt := 103) hx hb dX0_enter_93 (by decide) ?_
              refine zx_s3 hx hb hK hH (j := zk_pos k) (by omega) dX0_enter_103 (fun H locs hH => ?_)
              exact zw_vret (u := (w, mv, us, (vp_updL tb (zk_pos k) ((-(us (k))).toInt64)))) hx hb hr hlocks hK hH (⟨rfl, rfl, rfl, by rw [zk_neg_odd c51 c58]; rfl⟩) dX0_enter_104
      · have c34 : ¬ (0 = 0) := fun h => c34 ((nI_eq (a := 0) (b := 0) (by omega) (by omega)).mpr h)
        exfalso; omega
    · have c18 : ¬ (0 = 0) := fun h => c18 ((nI_eq (a := 0) (b := 0) (by omega) (by omega)).mpr h)
      exfalso; omega
  | true =>
    refine zw_i (nI (1)) (by rw [hr11, hblk]; rfl) ?_
    refine lv_istore (lv' := [(4, .int _), (3, .int _), (2, .int _), (0, .ref _), (1, .int _)]) hx hb dX0_enter_14 hl (by decide) rfl (fun ls hl => ?_)
    refine lv_iload hx hb dX0_enter_16 (lv_at hl 0 rfl) ?_
    refine lv_if_eq (tgt := 27) hx hb dX0_enter_18 (by decide) (fun c18 => ?_) (fun c18 => ?_)
    · have c18 : 1 = 0 := (nI_eq (a := 1) (b := 0) (by omega) (by omega)).mp c18
      exfalso; omega
    · have c18 : ¬ (1 = 0) := fun h => c18 ((nI_eq (a := 1) (b := 0) (by omega) (by omega)).mpr h)
      refine lv_iload_n hx hb dX0_enter_21 rfl (lv_at hl 2 rfl) ?_
      refine lv_iconst (v := nI 2) hx hb dX0_enter_22 (by decide) ?_
      refine lv_idiv hx hb dX0_enter_23 (by decide) ?_
      refine zw_i (nI ((zk_fs k) / 2)) (pk_div (by omega) (by decide) (by decide)) ?_
      refine lv_goto (tgt := 30) hx hb dX0_enter_24 (by decide) ?_
      refine lv_istore (lv' := [(5, .int _), (4, .int _), (3, .int _), (2, .int _), (0, .ref _), (1, .int _)]) hx hb dX0_enter_30 hl (by decide) rfl (fun ls hl => ?_)
      refine lv_iload hx hb dX0_enter_32 (lv_at hl 1 rfl) ?_
      refine lv_if_eq (tgt := 43) hx hb dX0_enter_34 (by decide) (fun c34 => ?_) (fun c34 => ?_)
      · have c34 : 1 = 0 := (nI_eq (a := 1) (b := 0) (by omega) (by omega)).mp c34
        exfalso; omega
      · have c34 : ¬ (1 = 0) := fun h => c34 ((nI_eq (a := 1) (b := 0) (by omega) (by omega)).mpr h)
        refine lv_iload_n hx hb dX0_enter_37 rfl (lv_at hl 2 rfl) ?_
        refine lv_iconst (v := nI 2) hx hb dX0_enter_38 (by decide) ?_
        refine lv_idiv hx hb dX0_enter_39 (by decide) ?_
        refine zw_i (nI ((zk_ss k) / 2)) (pk_div (by omega) (by decide) (by decide)) ?_
        refine lv_goto (tgt := 46) hx hb dX0_enter_40 (by decide) ?_
        refine lv_istore (lv' := [(6, .int _), (5, .int _), (4, .int _), (3, .int _), (2, .int _), (0, .ref _), (1, .int _)]) hx hb dX0_enter_46 hl (by decide) rfl (fun ls hl => ?_)
        refine lv_iload_n hx hb dX0_enter_48 rfl (lv_at hl 6 rfl) ?_
        refine lv_bipush (v := nI 12) hx hb dX0_enter_49 (by decide) ?_
        refine lv_icmp_lt (tgt := 65) hx hb dX0_enter_51 (by decide) (fun c51 => ?_) (fun c51 => ?_)
        · have c51 : k < 12 := (nI_ltI (a := k) (b := 12) (by omega) (by omega)).mp c51
          refine lv_iconst (v := nI 0) hx hb dX0_enter_65 (by decide) ?_
          refine lv_istore (lv' := [(7, .int _), (6, .int _), (5, .int _), (4, .int _), (3, .int _), (2, .int _), (0, .ref _), (1, .int _)]) hx hb dX0_enter_66 hl (by decide) rfl (fun ls hl => ?_)
          refine lv_aload_n hx hb dX0_enter_68 rfl (lv_at hl 6 rfl) ?_
          refine zx_g3 hx hb hts hown hK hH dX0_enter_69 ?_
          refine lv_iload hx hb dX0_enter_72 (lv_at hl 2 rfl) ?_
          refine lv_bipush (v := nI 8) hx hb dX0_enter_74 (by decide) ?_
          refine lv_imul hx hb dX0_enter_76 ?_
          refine zw_i (nI (((zk_fs k) / 2) * 8)) (pk_mul _ _) ?_
          refine lv_iload hx hb dX0_enter_77 (lv_at hl 1 rfl) ?_
          refine lv_iadd hx hb dX0_enter_79 ?_
          refine zw_i (nI ((((zk_fs k) / 2) * 8) + ((zk_ss k) / 2))) (nI_add _ _) ?_
          refine zw_i (nI (zk_pos k)) (by unfold zk_pos; rw [hblk]; rfl) ?_
          refine lv_iload hx hb dX0_enter_80 (lv_at hl 0 rfl) ?_
          refine lv_if_eq (tgt := 96) hx hb dX0_enter_82 (by decide) (fun c82 => ?_) (fun c82 => ?_)
          · have c82 : 0 = 0 := (nI_eq (a := 0) (b := 0) (by omega) (by omega)).mp c82
            refine lv_aload_n hx hb dX0_enter_96 rfl (lv_at hl 6 rfl) ?_
            refine zx_g2 hx hb hts hown hK hH dX0_enter_97 ?_
            refine lv_iload_n hx hb dX0_enter_100 rfl (lv_at hl 7 rfl) ?_
            refine zx_l2 hx hb hK hH (j := k) (by omega) dX0_enter_101 ?_
            refine lv_i2l hx hb dX0_enter_102 rfl ?_
            refine zx_s3 hx hb hK hH (j := zk_pos k) (by omega) dX0_enter_103 (fun H locs hH => ?_)
            exact zw_vret (u := (w, mv, us, (vp_updL tb (zk_pos k) ((us (k)).toInt64)))) hx hb hr hlocks hK hH (⟨rfl, rfl, rfl, by rw [zk_neg_lt c51]; rfl⟩) dX0_enter_104
          · have c82 : ¬ (0 = 0) := fun h => c82 ((nI_eq (a := 0) (b := 0) (by omega) (by omega)).mpr h)
            exfalso; omega
        · have c51 : ¬ (k < 12) := fun h => c51 ((nI_ltI (a := k) (b := 12) (by omega) (by omega)).mpr h)
          refine lv_iload_n hx hb dX0_enter_54 rfl (lv_at hl 4 rfl) ?_
          refine lv_iconst (v := nI 1) hx hb dX0_enter_55 (by decide) ?_
          refine lv_iand hx hb dX0_enter_56 ?_
          refine zw_i (nI ((zk_fs k) % 2)) (zn_and1 (by omega)) ?_
          refine lv_iconst (v := nI 1) hx hb dX0_enter_57 (by decide) ?_
          refine lv_icmp_ne (tgt := 65) hx hb dX0_enter_58 (by decide) (fun c58 => ?_) (fun c58 => ?_)
          · have c58 : ¬ ((zk_fs k) % 2 = 1) := fun h => c58 ((nI_eq (a := (zk_fs k) % 2) (b := 1) (by omega) (by omega)).mpr h)
            refine lv_iconst (v := nI 0) hx hb dX0_enter_65 (by decide) ?_
            refine lv_istore (lv' := [(7, .int _), (6, .int _), (5, .int _), (4, .int _), (3, .int _), (2, .int _), (0, .ref _), (1, .int _)]) hx hb dX0_enter_66 hl (by decide) rfl (fun ls hl => ?_)
            refine lv_aload_n hx hb dX0_enter_68 rfl (lv_at hl 6 rfl) ?_
            refine zx_g3 hx hb hts hown hK hH dX0_enter_69 ?_
            refine lv_iload hx hb dX0_enter_72 (lv_at hl 2 rfl) ?_
            refine lv_bipush (v := nI 8) hx hb dX0_enter_74 (by decide) ?_
            refine lv_imul hx hb dX0_enter_76 ?_
            refine zw_i (nI (((zk_fs k) / 2) * 8)) (pk_mul _ _) ?_
            refine lv_iload hx hb dX0_enter_77 (lv_at hl 1 rfl) ?_
            refine lv_iadd hx hb dX0_enter_79 ?_
            refine zw_i (nI ((((zk_fs k) / 2) * 8) + ((zk_ss k) / 2))) (nI_add _ _) ?_
            refine zw_i (nI (zk_pos k)) (by unfold zk_pos; rw [hblk]; rfl) ?_
            refine lv_iload hx hb dX0_enter_80 (lv_at hl 0 rfl) ?_
            refine lv_if_eq (tgt := 96) hx hb dX0_enter_82 (by decide) (fun c82 => ?_) (fun c82 => ?_)
            · have c82 : 0 = 0 := (nI_eq (a := 0) (b := 0) (by omega) (by omega)).mp c82
              refine lv_aload_n hx hb dX0_enter_96 rfl (lv_at hl 6 rfl) ?_
              refine zx_g2 hx hb hts hown hK hH dX0_enter_97 ?_
              refine lv_iload_n hx hb dX0_enter_100 rfl (lv_at hl 7 rfl) ?_
              refine zx_l2 hx hb hK hH (j := k) (by omega) dX0_enter_101 ?_
              refine lv_i2l hx hb dX0_enter_102 rfl ?_
              refine zx_s3 hx hb hK hH (j := zk_pos k) (by omega) dX0_enter_103 (fun H locs hH => ?_)
              exact zw_vret (u := (w, mv, us, (vp_updL tb (zk_pos k) ((us (k)).toInt64)))) hx hb hr hlocks hK hH (⟨rfl, rfl, rfl, by rw [zk_neg_even c58]; rfl⟩) dX0_enter_104
            · have c82 : ¬ (0 = 0) := fun h => c82 ((nI_eq (a := 0) (b := 0) (by omega) (by omega)).mpr h)
              exfalso; omega
          · have c58 : (zk_fs k) % 2 = 1 := (nI_eq (a := (zk_fs k) % 2) (b := 1) (by omega) (by omega)).mp c58
            refine lv_iconst (v := nI 1) hx hb dX0_enter_61 (by decide) ?_
            refine lv_goto (tgt := 66) hx hb dX0_enter_62 (by decide) ?_
            refine lv_istore (lv' := [(7, .int _), (6, .int _), (5, .int _), (4, .int _), (3, .int _), (2, .int _), (0, .ref _), (1, .int _)]) hx hb dX0_enter_66 hl (by decide) rfl (fun ls hl => ?_)
            refine lv_aload_n hx hb dX0_enter_68 rfl (lv_at hl 6 rfl) ?_
            refine zx_g3 hx hb hts hown hK hH dX0_enter_69 ?_
            refine lv_iload hx hb dX0_enter_72 (lv_at hl 2 rfl) ?_
            refine lv_bipush (v := nI 8) hx hb dX0_enter_74 (by decide) ?_
            refine lv_imul hx hb dX0_enter_76 ?_
            refine zw_i (nI (((zk_fs k) / 2) * 8)) (pk_mul _ _) ?_
            refine lv_iload hx hb dX0_enter_77 (lv_at hl 1 rfl) ?_
            refine lv_iadd hx hb dX0_enter_79 ?_
            refine zw_i (nI ((((zk_fs k) / 2) * 8) + ((zk_ss k) / 2))) (nI_add _ _) ?_
            refine zw_i (nI (zk_pos k)) (by unfold zk_pos; rw [hblk]; rfl) ?_
            refine lv_iload hx hb dX0_enter_80 (lv_at hl 0 rfl) ?_
            refine lv_if_eq (tgt := 96) hx hb dX0_enter_82 (by decide) (fun c82 => ?_) (fun c82 => ?_)
            · have c82 : 1 = 0 := (nI_eq (a := 1) (b := 0) (by omega) (by omega)).mp c82
              exfalso; omega
            · have c82 : ¬ (1 = 0) := fun h => c82 ((nI_eq (a := 1) (b := 0) (by omega) (by omega)).mpr h)
              refine lv_aload_n hx hb dX0_enter_85 rfl (lv_at hl 6 rfl) ?_
              refine zx_g2 hx hb hts hown hK hH dX0_enter_86 ?_
              refine lv_iload_n hx hb dX0_enter_89 rfl (lv_at hl 7 rfl) ?_
              refine zx_l2 hx hb hK hH (j := k) (by omega) dX0_enter_90 ?_
              refine lv_ineg hx hb dX0_enter_91 ?_
              refine lv_i2l hx hb dX0_enter_92 rfl ?_
              refine lv_goto (tgt := 103) hx hb dX0_enter_93 (by decide) ?_
              refine zx_s3 hx hb hK hH (j := zk_pos k) (by omega) dX0_enter_103 (fun H locs hH => ?_)
              exact zw_vret (u := (w, mv, us, (vp_updL tb (zk_pos k) ((-(us (k))).toInt64)))) hx hb hr hlocks hK hH (⟨rfl, rfl, rfl, by rw [zk_neg_odd c51 c58]; rfl⟩) dX0_enter_104
/-- a loop of pivotRow -/
theorem lX0_pivotRow {p : Program} {l : Launch} {e : Env} {R : Room} {s : State} {m : MethodId} {args : Array Value} {below : List Frame} {meth : Method} {c : Code} {cells slots : Nat} {Q : State → Prop} {A : Nat → Prop} {D : va_G} {ad : Nat → Nat} {ci : Nat → ClassId} (S0 : CallFix p m c cX0_pivotRow 3 s args lw_all RX0) (hA : ∀ q, s.heap.size ≤ q → A q) (hK : va_K D vwCl (XT ci) s) {w mv us : Nat → Int32} {tb : Nat → Int64} (k : Nat) (hk : k < 8)
    (K : ∀ (q : Nat) (H : Heap) (locs : List Loc) (ls : Array Slot), k ≤ q → q ≤ 8 → (∀ a, k ≤ a → a < q → tb (a * 8 + k) = 0) → (q < 8 → ¬ tb (q * 8 + k) = 0) → ZH D A s.heap (XW ad ci w mv us tb) H locs → lv_has ls 3 [(2, .int (nI q))] → W p l e R s m args below meth c H locs cells slots Q (F0 m 30 ls [])) :
    ∀ (n q : Nat)  (H : Heap) (locs : List Loc) (ls : Array Slot), q ≤ 8 → 8 + 1 ≤ q + n → k ≤ q → (∀ a, k ≤ a → a < q → tb (a * 8 + k) = 0) → ZH D A s.heap (XW ad ci w mv us tb) H locs → lv_has ls 3 [(0, .ref (ad 0)), (1, .int (nI (k))), (2, .int (nI (q)))] → W p l e R s m args below meth c H locs cells slots Q (F0 m 2 ls []) := by
  obtain ⟨hx, hb, hml, hown, hts⟩ := id S0
  intro n
  induction n with
  | zero =>
    intro q  H locs ls h1 h2
    exact absurd h2 (by omega)
  | succ n ih =>
    intro q  H locs ls hi hin hkq hz hH hl
    refine lv_iload_n hx hb dX0_pivotRow_2 rfl (lv_at hl 2 rfl) ?_
    refine lv_bipush (v := nI 8) hx hb dX0_pivotRow_3 (by decide) ?_
    refine lv_icmp_ge (tgt := 30) hx hb dX0_pivotRow_5 (by decide) (fun c5 => ?_) (fun c5 => ?_)
    · have c5 : 8 ≤ q := (nI_leI (a := 8) (b := q) (by omega) (by omega)).mp c5
      exact K q H locs ls hkq hi hz (fun h => by omega) hH (lv_sub hl [2] rfl)
    · have c5 : ¬ (8 ≤ q) := fun h => c5 ((nI_leI (a := 8) (b := q) (by omega) (by omega)).mpr h)
      refine lv_aload_n hx hb dX0_pivotRow_8 rfl (lv_at hl 0 rfl) ?_
      refine zx_g3 hx hb hts hown hK hH dX0_pivotRow_9 ?_
      refine lv_iload_n hx hb dX0_pivotRow_12 rfl (lv_at hl 2 rfl) ?_
      refine lv_bipush (v := nI 8) hx hb dX0_pivotRow_13 (by decide) ?_
      refine lv_imul hx hb dX0_pivotRow_15 ?_
      refine zw_i (nI (q * 8)) (pk_mul _ _) ?_
      refine lv_iload_n hx hb dX0_pivotRow_16 rfl (lv_at hl 1 rfl) ?_
      refine lv_iadd hx hb dX0_pivotRow_17 ?_
      refine zw_i (nI ((q * 8) + k)) (nI_add _ _) ?_
      refine zx_l3 hx hb hK hH (j := (q * 8) + k) (by omega) dX0_pivotRow_18 ?_
      refine lv_lconst (v := 0) hx hb dX0_pivotRow_19 (by decide) ?_
      refine W.lcmp hx hb dX0_pivotRow_20 ?_
      refine lv_if_ne (tgt := 30) hx hb dX0_pivotRow_21 (by decide) (fun c21 => ?_) (fun c21 => ?_)
      · have c21 := fun h => c21 ((lg_cmp_eq _ _).mpr h)
        exact K q H locs ls hkq hi hz (fun _ => c21) hH (lv_sub hl [2] rfl)
      · have c21 := (lg_cmp_eq _ _).mp c21
        refine lv_iinc (v := nI (q + 1)) (lv' := [(2, .int _), (0, .ref _), (1, .int _)]) hx hb dX0_pivotRow_24 hl (k := 2) rfl (nI_1 _) (by decide) rfl (fun ls hl => ?_)
        refine lv_goto (tgt := 2) hx hb dX0_pivotRow_27 (by decide) ?_
        exact ih (q + 1) _ _ _ (by omega) (by omega) (by omega) (fun a h1 h2 => by
          by_cases e : a = q
          · rw [e]; exact c21
          · exact hz a h1 (by omega)) hH (lv_sub hl [1, 2, 0] rfl)
/-- pivotRow(k) -/
theorem mX0_pivotRow (l : Launch) (D : va_G) (ad : Nat → Nat) (ci : Nat → ClassId) (sz : Nat) (w mv us : Nat → Int32) (tb : Nat → Int64) (k : Nat) (hk : k < 8) : ZMi l yX0_pivotRow cX0_pivotRow 3 (some .int) (zr 0) D (XT ci) (.ref (ad 0) :: [.int (nI k)]) sz (XW ad ci w mv us tb) (fun r (u : XS) => (u.1 = w ∧ u.2.1 = mv ∧ u.2.2.1 = us ∧ u.2.2.2 = tb) ∧ ∃ q, r = nI q ∧ k ≤ q ∧ q ≤ 8 ∧ (∀ a, k ≤ a → a < q → tb (a * 8 + k) = 0) ∧ (q < 8 → ¬ tb (q * 8 + k) = 0)) (XU ad ci) := by
  unfold ZMi
  refine zw_met (own := RX0) (Qf := fun A => va_Qi (fun r (u : XS) => (u.1 = w ∧ u.2.1 = mv ∧ u.2.2.1 = us ∧ u.2.2.2 = tb) ∧ ∃ q, r = nI q ∧ k ≤ q ∧ q ≤ 8 ∧ (∀ a, k ≤ a → a < q → tb (a * 8 + k) = 0) ∧ (q < 8 → ¬ tb (q * 8 + k) = 0)) (ZB D (XT ci) (XU ad ci) A) A) (by decide) rfl (Nat.le_of_ble_eq_true rfl) ?_
  intro p e s m below meth c A ls S0 hr hlocks hin hA hK hH hl
  obtain ⟨hx, hb, hml, hown, hts⟩ := id S0
  have hl : lv_has ls 3 [(0, .ref (ad 0)), (1, .int (nI (k)))] := hl
  refine lv_iload_n hx hb dX0_pivotRow_0 rfl (lv_at hl 1 rfl) ?_
  refine lv_istore_n (lv' := [(2, .int _), (0, .ref _), (1, .int _)]) hx hb dX0_pivotRow_1 rfl hl (by decide) rfl (fun ls hl => ?_)
  refine lX0_pivotRow S0 hA hK k hk (fun q H locs ls h1 h2 h3 h4 hH hl => ?_) 9 k _ _ _ (by omega) (by omega) (by omega) (fun a h1 h2 => by omega) hH (lv_sub hl [1, 2, 0] rfl)
  refine lv_iload_n hx hb dX0_pivotRow_30 rfl (lv_at hl 0 rfl) ?_
  exact zw_iret (u := (w, mv, us, tb)) hx hb hr hlocks hK hH (⟨⟨rfl, rfl, rfl, rfl⟩, q, rfl, h1, h2, h3, h4⟩) dX0_pivotRow_31
/-- a loop of swapRows -/
theorem lX0_swapRows {p : Program} {l : Launch} {e : Env} {R : Room} {s : State} {m : MethodId} {args : Array Value} {below : List Frame} {meth : Method} {c : Code} {cells slots : Nat} {Q : State → Prop} {A : Nat → Prop} {D : va_G} {ad : Nat → Nat} {ci : Nat → ClassId} (S0 : CallFix p m c cX0_swapRows 6 s args lw_all RX0) (hA : ∀ q, s.heap.size ≤ q → A q) (hK : va_K D vwCl (XT ci) s) {w mv us : Nat → Int32} {tb : Nat → Int64} (a b : Nat) (ha : a < 8) (hb8 : b < 8) (hab : a ≠ b)
    (K : ∀ (f : Nat → Int64) (H : Heap) (locs : List Loc) (ls : Array Slot), zs_inv tb a b 8 f → ZH D A s.heap (XW ad ci w mv us f) H locs → W p l e R s m args below meth c H locs cells slots Q (F0 m 62 ls [])) :
    ∀ (n i : Nat) (f : Nat → Int64) (H : Heap) (locs : List Loc) (ls : Array Slot), i ≤ 8 → 8 + 1 ≤ i + n → zs_inv tb a b i f → ZH D A s.heap (XW ad ci w mv us f) H locs → lv_has ls 6 [(0, .ref (ad 0)), (1, .int (nI (a))), (2, .int (nI (b))), (3, .int (nI (i)))] → W p l e R s m args below meth c H locs cells slots Q (F0 m 2 ls []) := by
  obtain ⟨hx, hb, hml, hown, hts⟩ := id S0
  intro n
  induction n with
  | zero =>
    intro i f H locs ls h1 h2
    exact absurd h2 (by omega)
  | succ n ih =>
    intro i f H locs ls hi hin hf1 hH hl
    refine lv_iload_n hx hb dX0_swapRows_2 rfl (lv_at hl 3 rfl) ?_
    refine lv_bipush (v := nI 8) hx hb dX0_swapRows_3 (by decide) ?_
    refine lv_icmp_ge (tgt := 62) hx hb dX0_swapRows_5 (by decide) (fun c5 => ?_) (fun c5 => ?_)
    · have c5 : 8 ≤ i := (nI_leI (a := 8) (b := i) (by omega) (by omega)).mp c5
      have e8 : i = 8 := by omega
      subst e8
      exact K f H locs ls hf1 hH
    · have c5 : ¬ (8 ≤ i) := fun h => c5 ((nI_leI (a := 8) (b := i) (by omega) (by omega)).mpr h)
      refine lv_aload_n hx hb dX0_swapRows_8 rfl (lv_at hl 0 rfl) ?_
      refine zx_g3 hx hb hts hown hK hH dX0_swapRows_9 ?_
      refine lv_iload_n hx hb dX0_swapRows_12 rfl (lv_at hl 1 rfl) ?_
      refine lv_bipush (v := nI 8) hx hb dX0_swapRows_13 (by decide) ?_
      refine lv_imul hx hb dX0_swapRows_15 ?_
      refine zw_i (nI (a * 8)) (pk_mul _ _) ?_
      refine lv_iload_n hx hb dX0_swapRows_16 rfl (lv_at hl 3 rfl) ?_
      refine lv_iadd hx hb dX0_swapRows_17 ?_
      refine zw_i (nI ((a * 8) + i)) (nI_add _ _) ?_
      refine zx_l3 hx hb hK hH (j := (a * 8) + i) (by omega) dX0_swapRows_18 ?_
      refine lv_lstore (lv' := [(4, .long _), (0, .ref _), (1, .int _), (2, .int _), (3, .int _)]) hx hb dX0_swapRows_19 hl (by decide) rfl (fun ls hl => ?_)
      refine lv_aload_n hx hb dX0_swapRows_21 rfl (lv_at hl 1 rfl) ?_
      refine zx_g3 hx hb hts hown hK hH dX0_swapRows_22 ?_
      refine lv_iload_n hx hb dX0_swapRows_25 rfl (lv_at hl 2 rfl) ?_
      refine lv_bipush (v := nI 8) hx hb dX0_swapRows_26 (by decide) ?_
      refine lv_imul hx hb dX0_swapRows_28 ?_
      refine zw_i (nI (a * 8)) (pk_mul _ _) ?_
      refine lv_iload_n hx hb dX0_swapRows_29 rfl (lv_at hl 4 rfl) ?_
      refine lv_iadd hx hb dX0_swapRows_30 ?_
      refine zw_i (nI ((a * 8) + i)) (nI_add _ _) ?_
      refine lv_aload_n hx hb dX0_swapRows_31 rfl (lv_at hl 1 rfl) ?_
      refine zx_g3 hx hb hts hown hK hH dX0_swapRows_32 ?_
      refine lv_iload_n hx hb dX0_swapRows_35 rfl (lv_at hl 3 rfl) ?_
      refine lv_bipush (v := nI 8) hx hb dX0_swapRows_36 (by decide) ?_
      refine lv_imul hx hb dX0_swapRows_38 ?_
      refine zw_i (nI (b * 8)) (pk_mul _ _) ?_
      refine lv_iload_n hx hb dX0_swapRows_39 rfl (lv_at hl 4 rfl) ?_
      refine lv_iadd hx hb dX0_swapRows_40 ?_
      refine zw_i (nI ((b * 8) + i)) (nI_add _ _) ?_
      refine zx_l3 hx hb hK hH (j := (b * 8) + i) (by omega) dX0_swapRows_41 ?_
      refine zx_s3 hx hb hK hH (j := (a * 8) + i) (by omega) dX0_swapRows_42 (fun H locs hH => ?_)
      refine lv_aload_n hx hb dX0_swapRows_43 rfl (lv_at hl 1 rfl) ?_
      refine zx_g3 hx hb hts hown hK hH dX0_swapRows_44 ?_
      refine lv_iload_n hx hb dX0_swapRows_47 rfl (lv_at hl 3 rfl) ?_
      refine lv_bipush (v := nI 8) hx hb dX0_swapRows_48 (by decide) ?_
      refine lv_imul hx hb dX0_swapRows_50 ?_
      refine zw_i (nI (b * 8)) (pk_mul _ _) ?_
      refine lv_iload_n hx hb dX0_swapRows_51 rfl (lv_at hl 4 rfl) ?_
      refine lv_iadd hx hb dX0_swapRows_52 ?_
      refine zw_i (nI ((b * 8) + i)) (nI_add _ _) ?_
      refine lv_lload hx hb dX0_swapRows_53 (lv_at hl 0 rfl) ?_
      refine zx_s3 hx hb hK hH (j := (b * 8) + i) (by omega) dX0_swapRows_55 (fun H locs hH => ?_)
      refine lv_iinc (v := nI (i + 1)) (lv' := [(3, .int _), (4, .long _), (0, .ref _), (1, .int _), (2, .int _)]) hx hb dX0_swapRows_56 hl (k := 4) rfl (nI_1 _) (by decide) rfl (fun ls hl => ?_)
      refine lv_goto (tgt := 2) hx hb dX0_swapRows_59 (by decide) ?_
      exact ih (i + 1) _ _ _ _ (by omega) (by omega) (zs_step hf1 ha hb8 hab (by omega)) hH (lv_sub hl [2, 3, 4, 0] rfl)
/-- swapRows(a, b) -/
theorem mX0_swapRows (l : Launch) (D : va_G) (ad : Nat → Nat) (ci : Nat → ClassId) (sz : Nat) (w mv us : Nat → Int32) (tb : Nat → Int64) (a b : Nat) (ha : a < 8) (hb8 : b < 8) (hab : a ≠ b) : ZMv l yX0_swapRows cX0_swapRows 6 none (zr 0) D (XT ci) (.ref (ad 0) :: [.int (nI a), .int (nI b)]) sz (XW ad ci w mv us tb) (fun (u : XS) => (u.1 = w ∧ u.2.1 = mv ∧ u.2.2.1 = us) ∧ zs_inv tb a b 8 u.2.2.2) (XU ad ci) := by
  unfold ZMv
  refine zw_met (own := RX0) (Qf := fun A => va_Qv (fun (u : XS) => (u.1 = w ∧ u.2.1 = mv ∧ u.2.2.1 = us) ∧ zs_inv tb a b 8 u.2.2.2) (ZB D (XT ci) (XU ad ci) A) A) (by decide) rfl (Nat.le_of_ble_eq_true rfl) ?_
  intro p e s m below meth c A ls S0 hr hlocks hin hA hK hH hl
  obtain ⟨hx, hb, hml, hown, hts⟩ := id S0
  have hl : lv_has ls 6 [(0, .ref (ad 0)), (1, .int (nI (a))), (2, .int (nI (b)))] := hl
  refine lv_iconst (v := nI 0) hx hb dX0_swapRows_0 (by decide) ?_
  refine lv_istore_n (lv' := [(3, .int _), (0, .ref _), (1, .int _), (2, .int _)]) hx hb dX0_swapRows_1 rfl hl (by decide) rfl (fun ls hl => ?_)
  refine lX0_swapRows S0 hA hK a b ha hb8 hab (fun f H locs ls hf1 hH => ?_) 9 0 _ _ _ _ (by omega) (by omega) (fun r hr c hc => (if_neg (by omega)).symm) hH (lv_sub hl [1, 2, 3, 0] rfl)
  exact zw_vret (u := (w, mv, us, f)) hx hb hr hlocks hK hH (⟨⟨rfl, rfl, rfl⟩, hf1⟩) dX0_swapRows_62
/-- a loop of eliminate -/
theorem lX0_elim_in {p : Program} {l : Launch} {e : Env} {R : Room} {s : State} {m : MethodId} {args : Array Value} {below : List Frame} {meth : Method} {c : Code} {cells slots : Nat} {Q : State → Prop} {A : Nat → Prop} {D : va_G} {ad : Nat → Nat} {ci : Nat → ClassId} (S0 : CallFix p m c cX0_eliminate 12 s args lw_all RX0) (hA : ∀ q, s.heap.size ≤ q → A q) (hK : va_K D vwCl (XT ci) s) {w mv us : Nat → Int32} {tb : Nat → Int64} (k : Nat) (d : Int64) (hk : k < 8) (i : Nat) (hki : k < i) (hi8 : i < 8)
    (K : ∀ (f : Nat → Int64) (H : Heap) (locs : List Loc) (ls : Array Slot), zei tb k d i 8 f → ZH D A s.heap (XW ad ci w mv us f) H locs → lv_has ls 12 [(0, .ref (ad 0)), (1, .int (nI k)), (2, .long d), (4, .long (tb (k * 8 + k))), (6, .int (nI i))] → W p l e R s m args below meth c H locs cells slots Q (F0 m 118 ls [])) :
    ∀ (n j : Nat) (f : Nat → Int64) (H : Heap) (locs : List Loc) (ls : Array Slot), j ≤ 8 → 8 + 1 ≤ j + n → k < j → zei tb k d i j f → ZH D A s.heap (XW ad ci w mv us f) H locs → lv_has ls 12 [(0, .ref (ad 0)), (1, .int (nI (k))), (2, .long (d)), (4, .long (tb (k * 8 + k))), (6, .int (nI (i))), (7, .long (tb (i * 8 + k))), (9, .int (nI (j)))] → W p l e R s m args below meth c H locs cells slots Q (F0 m 44 ls []) := by
  obtain ⟨hx, hb, hml, hown, hts⟩ := id S0
  intro n
  induction n with
  | zero =>
    intro j f H locs ls h1 h2
    exact absurd h2 (by omega)
  | succ n ih =>
    intro j f H locs ls hi hin hkj hf1 hH hl
    refine lv_iload hx hb dX0_eliminate_44 (lv_at hl 6 rfl) ?_
    refine lv_bipush (v := nI 8) hx hb dX0_eliminate_46 (by decide) ?_
    refine lv_icmp_ge (tgt := 118) hx hb dX0_eliminate_48 (by decide) (fun c48 => ?_) (fun c48 => ?_)
    · have c48 : 8 ≤ j := (nI_leI (a := 8) (b := j) (by omega) (by omega)).mp c48
      have e8 : j = 8 := by omega
      subst e8
      exact K f H locs ls hf1 hH (lv_sub hl [0, 1, 2, 3, 4] rfl)
    · have c48 : ¬ (8 ≤ j) := fun h => c48 ((nI_leI (a := 8) (b := j) (by omega) (by omega)).mpr h)
      refine lv_aload_n hx hb dX0_eliminate_51 rfl (lv_at hl 0 rfl) ?_
      refine zx_g3 hx hb hts hown hK hH dX0_eliminate_52 ?_
      refine lv_iload hx hb dX0_eliminate_55 (lv_at hl 4 rfl) ?_
      refine lv_bipush (v := nI 8) hx hb dX0_eliminate_57 (by decide) ?_
      refine lv_imul hx hb dX0_eliminate_59 ?_
      refine zw_i (nI (i * 8)) (pk_mul _ _) ?_
      refine lv_iload hx hb dX0_eliminate_60 (lv_at hl 6 rfl) ?_
      refine lv_iadd hx hb dX0_eliminate_62 ?_
      refine zw_i (nI ((i * 8) + j)) (nI_add _ _) ?_
      refine zx_l3 hx hb hK hH (j := (i * 8) + j) (by omega) dX0_eliminate_63 ?_
      refine zw_l (tb (i * 8 + j)) (zei_at hf1 hi8 (by omega)) ?_
      refine lv_lload hx hb dX0_eliminate_64 (lv_at hl 3 rfl) ?_
      refine lv_lmul hx hb dX0_eliminate_66 ?_
      refine lv_lload hx hb dX0_eliminate_67 (lv_at hl 5 rfl) ?_
      refine lv_aload_n hx hb dX0_eliminate_69 rfl (lv_at hl 0 rfl) ?_
      refine zx_g3 hx hb hts hown hK hH dX0_eliminate_70 ?_
      refine lv_iload_n hx hb dX0_eliminate_73 rfl (lv_at hl 1 rfl) ?_
      refine lv_bipush (v := nI 8) hx hb dX0_eliminate_74 (by decide) ?_
      refine lv_imul hx hb dX0_eliminate_76 ?_
      refine zw_i (nI (k * 8)) (pk_mul _ _) ?_
      refine lv_iload hx hb dX0_eliminate_77 (lv_at hl 6 rfl) ?_
      refine lv_iadd hx hb dX0_eliminate_79 ?_
      refine zw_i (nI ((k * 8) + j)) (nI_add _ _) ?_
      refine zx_l3 hx hb hK hH (j := (k * 8) + j) (by omega) dX0_eliminate_80 ?_
      refine zw_l (tb (k * 8 + j)) (zei_top hf1 hki hi8 (by omega)) ?_
      refine lv_lmul hx hb dX0_eliminate_81 ?_
      refine lv_lsub hx hb dX0_eliminate_82 ?_
      refine lv_lstore (lv' := [(10, .long _), (0, .ref _), (1, .int _), (2, .long _), (4, .long _), (6, .int _), (7, .long _), (9, .int _)]) hx hb dX0_eliminate_83 hl (by decide) rfl (fun ls hl => ?_)
      refine lv_aload_n hx hb dX0_eliminate_85 rfl (lv_at hl 1 rfl) ?_
      refine zx_g3 hx hb hts hown hK hH dX0_eliminate_86 ?_
      refine lv_iload hx hb dX0_eliminate_89 (lv_at hl 5 rfl) ?_
      refine lv_bipush (v := nI 8) hx hb dX0_eliminate_91 (by decide) ?_
      refine lv_imul hx hb dX0_eliminate_93 ?_
      refine zw_i (nI (i * 8)) (pk_mul _ _) ?_
      refine lv_iload hx hb dX0_eliminate_94 (lv_at hl 7 rfl) ?_
      refine lv_iadd hx hb dX0_eliminate_96 ?_
      refine zw_i (nI ((i * 8) + j)) (nI_add _ _) ?_
      refine lv_lload_n hx hb dX0_eliminate_97 rfl (lv_at hl 3 rfl) ?_
      refine lv_lconst (v := 0) hx hb dX0_eliminate_98 (by decide) ?_
      refine W.lcmp hx hb dX0_eliminate_99 ?_
      refine lv_if_eq (tgt := 110) hx hb dX0_eliminate_100 (by decide) (fun c100 => ?_) (fun c100 => ?_)
      · have c100 := (lg_cmp_eq _ _).mp c100
        refine lv_lconst (v := 0) hx hb dX0_eliminate_110 (by decide) ?_
        refine zx_s3 hx hb hK hH (j := (i * 8) + j) (by omega) dX0_eliminate_111 (fun H locs hH => ?_)
        refine lv_iinc (v := nI (j + 1)) (lv' := [(9, .int _), (10, .long _), (0, .ref _), (1, .int _), (2, .long _), (4, .long _), (6, .int _), (7, .long _)]) hx hb dX0_eliminate_112 hl (k := 7) rfl (nI_1 _) (by decide) rfl (fun ls hl => ?_)
        refine lv_goto (tgt := 44) hx hb dX0_eliminate_115 (by decide) ?_
        exact ih (j + 1) _ _ _ _ (by omega) (by omega) (by omega) (zei_step hf1 hi8 (by omega) hkj (by rw [zel_in (by omega) hkj, if_pos c100])) hH (lv_sub hl [2, 3, 4, 5, 6, 7, 0] rfl)
      · have c100 := fun h => c100 ((lg_cmp_eq _ _).mpr h)
        refine lv_lload hx hb dX0_eliminate_103 (lv_at hl 0 rfl) ?_
        refine lv_lload_n hx hb dX0_eliminate_105 rfl (lv_at hl 3 rfl) ?_
        refine lv_ldiv hx hb dX0_eliminate_106 c100 ?_
        refine lv_goto (tgt := 111) hx hb dX0_eliminate_107 (by decide) ?_
        refine zx_s3 hx hb hK hH (j := (i * 8) + j) (by omega) dX0_eliminate_111 (fun H locs hH => ?_)
        refine lv_iinc (v := nI (j + 1)) (lv' := [(9, .int _), (10, .long _), (0, .ref _), (1, .int _), (2, .long _), (4, .long _), (6, .int _), (7, .long _)]) hx hb dX0_eliminate_112 hl (k := 7) rfl (nI_1 _) (by decide) rfl (fun ls hl => ?_)
        refine lv_goto (tgt := 44) hx hb dX0_eliminate_115 (by decide) ?_
        exact ih (j + 1) _ _ _ _ (by omega) (by omega) (by omega) (zei_step hf1 hi8 (by omega) hkj (by rw [zel_in (by omega) hkj, if_neg c100])) hH (lv_sub hl [2, 3, 4, 5, 6, 7, 0] rfl)
/-- a loop of eliminate -/
theorem lX0_elim_out {p : Program} {l : Launch} {e : Env} {R : Room} {s : State} {m : MethodId} {args : Array Value} {below : List Frame} {meth : Method} {c : Code} {cells slots : Nat} {Q : State → Prop} {A : Nat → Prop} {D : va_G} {ad : Nat → Nat} {ci : Nat → ClassId} (S0 : CallFix p m c cX0_eliminate 12 s args lw_all RX0) (hA : ∀ q, s.heap.size ≤ q → A q) (hK : va_K D vwCl (XT ci) s) {w mv us : Nat → Int32} {tb : Nat → Int64} (k : Nat) (d : Int64) (hk : k < 8)
    (K : ∀ (f : Nat → Int64) (H : Heap) (locs : List Loc) (ls : Array Slot), zeo tb k d 8 f → ZH D A s.heap (XW ad ci w mv us f) H locs → W p l e R s m args below meth c H locs cells slots Q (F0 m 137 ls [])) :
    ∀ (n i : Nat) (f : Nat → Int64) (H : Heap) (locs : List Loc) (ls : Array Slot), i ≤ 8 → 8 + 1 ≤ i + n → k < i → zeo tb k d i f → ZH D A s.heap (XW ad ci w mv us f) H locs → lv_has ls 12 [(0, .ref (ad 0)), (1, .int (nI (k))), (2, .long (d)), (4, .long (tb (k * 8 + k))), (6, .int (nI (i)))] → W p l e R s m args below meth c H locs cells slots Q (F0 m 18 ls []) := by
  obtain ⟨hx, hb, hml, hown, hts⟩ := id S0
  intro n
  induction n with
  | zero =>
    intro i f H locs ls h1 h2
    exact absurd h2 (by omega)
  | succ n ih =>
    intro i f H locs ls hi hin hki hf1 hH hl
    refine lv_iload hx hb dX0_eliminate_18 (lv_at hl 4 rfl) ?_
    refine lv_bipush (v := nI 8) hx hb dX0_eliminate_20 (by decide) ?_
    refine lv_icmp_ge (tgt := 137) hx hb dX0_eliminate_22 (by decide) (fun c22 => ?_) (fun c22 => ?_)
    · have c22 : 8 ≤ i := (nI_leI (a := 8) (b := i) (by omega) (by omega)).mp c22
      have e8 : i = 8 := by omega
      subst e8
      exact K f H locs ls hf1 hH
    · have c22 : ¬ (8 ≤ i) := fun h => c22 ((nI_leI (a := 8) (b := i) (by omega) (by omega)).mpr h)
      refine lv_aload_n hx hb dX0_eliminate_25 rfl (lv_at hl 0 rfl) ?_
      refine zx_g3 hx hb hts hown hK hH dX0_eliminate_26 ?_
      refine lv_iload hx hb dX0_eliminate_29 (lv_at hl 4 rfl) ?_
      refine lv_bipush (v := nI 8) hx hb dX0_eliminate_31 (by decide) ?_
      refine lv_imul hx hb dX0_eliminate_33 ?_
      refine zw_i (nI (i * 8)) (pk_mul _ _) ?_
      refine lv_iload_n hx hb dX0_eliminate_34 rfl (lv_at hl 1 rfl) ?_
      refine lv_iadd hx hb dX0_eliminate_35 ?_
      refine zw_i (nI ((i * 8) + k)) (nI_add _ _) ?_
      refine zx_l3 hx hb hK hH (j := (i * 8) + k) (by omega) dX0_eliminate_36 ?_
      refine zw_l (tb (i * 8 + k)) (zeo_at hf1 (by omega) hk) ?_
      refine lv_lstore (lv' := [(7, .long _), (0, .ref _), (1, .int _), (2, .long _), (4, .long _), (6, .int _)]) hx hb dX0_eliminate_37 hl (by decide) rfl (fun ls hl => ?_)
      refine lv_iload_n hx hb dX0_eliminate_39 rfl (lv_at hl 2 rfl) ?_
      refine lv_iconst (v := nI 1) hx hb dX0_eliminate_40 (by decide) ?_
      refine lv_iadd hx hb dX0_eliminate_41 ?_
      refine zw_i (nI (k + 1)) (nI_add _ _) ?_
      refine lv_istore (lv' := [(9, .int _), (7, .long _), (0, .ref _), (1, .int _), (2, .long _), (4, .long _), (6, .int _)]) hx hb dX0_eliminate_42 hl (by decide) rfl (fun ls hl => ?_)
      refine lX0_elim_in S0 hA hK k d hk i hki (by omega) (fun f H locs ls hf2 hH hl => ?_) 9 (k + 1) _ _ _ _ (by omega) (by omega) (by omega) (zei_0 hf1) hH (lv_sub hl [2, 3, 4, 5, 6, 1, 0] rfl)
      refine lv_aload_n hx hb dX0_eliminate_118 rfl (lv_at hl 0 rfl) ?_
      refine zx_g3 hx hb hts hown hK hH dX0_eliminate_119 ?_
      refine lv_iload hx hb dX0_eliminate_122 (lv_at hl 4 rfl) ?_
      refine lv_bipush (v := nI 8) hx hb dX0_eliminate_124 (by decide) ?_
      refine lv_imul hx hb dX0_eliminate_126 ?_
      refine zw_i (nI (i * 8)) (pk_mul _ _) ?_
      refine lv_iload_n hx hb dX0_eliminate_127 rfl (lv_at hl 1 rfl) ?_
      refine lv_iadd hx hb dX0_eliminate_128 ?_
      refine zw_i (nI ((i * 8) + k)) (nI_add _ _) ?_
      refine lv_lconst (v := 0) hx hb dX0_eliminate_129 (by decide) ?_
      refine zx_s3 hx hb hK hH (j := (i * 8) + k) (by omega) dX0_eliminate_130 (fun H locs hH => ?_)
      refine lv_iinc (v := nI (i + 1)) (lv' := [(6, .int _), (0, .ref _), (1, .int _), (2, .long _), (4, .long _)]) hx hb dX0_eliminate_131 hl (k := 4) rfl (nI_1 _) (by decide) rfl (fun ls hl => ?_)
      refine lv_goto (tgt := 18) hx hb dX0_eliminate_134 (by decide) ?_
      exact ih (i + 1) _ _ _ _ (by omega) (by omega) (by omega) (zeo_step hf2 (by omega) hki) hH (lv_sub hl [1, 2, 3, 4, 0] rfl)
/-- eliminate(k, d) -/
theorem mX0_eliminate (l : Launch) (D : va_G) (ad : Nat → Nat) (ci : Nat → ClassId) (sz : Nat) (w mv us : Nat → Int32) (tb : Nat → Int64) (k : Nat) (d : Int64) (hk : k < 8) : ZMv l yX0_eliminate cX0_eliminate 12 none (zr 0) D (XT ci) (.ref (ad 0) :: [.int (nI k), .long d]) sz (XW ad ci w mv us tb) (fun (u : XS) => (u.1 = w ∧ u.2.1 = mv ∧ u.2.2.1 = us) ∧ ∀ r, r < 8 → ∀ c, c < 8 → u.2.2.2 (r * 8 + c) = zel tb k d r c) (XU ad ci) := by
  unfold ZMv
  refine zw_met (own := RX0) (Qf := fun A => va_Qv (fun (u : XS) => (u.1 = w ∧ u.2.1 = mv ∧ u.2.2.1 = us) ∧ ∀ r, r < 8 → ∀ c, c < 8 → u.2.2.2 (r * 8 + c) = zel tb k d r c) (ZB D (XT ci) (XU ad ci) A) A) (by decide) rfl (Nat.le_of_ble_eq_true rfl) ?_
  intro p e s m below meth c A ls S0 hr hlocks hin hA hK hH hl
  obtain ⟨hx, hb, hml, hown, hts⟩ := id S0
  have hl : lv_has ls 12 [(0, .ref (ad 0)), (1, .int (nI (k))), (2, .long (d))] := hl
  refine lv_aload_n hx hb dX0_eliminate_0 rfl (lv_at hl 0 rfl) ?_
  refine zx_g3 hx hb hts hown hK hH dX0_eliminate_1 ?_
  refine lv_iload_n hx hb dX0_eliminate_4 rfl (lv_at hl 1 rfl) ?_
  refine lv_bipush (v := nI 8) hx hb dX0_eliminate_5 (by decide) ?_
  refine lv_imul hx hb dX0_eliminate_7 ?_
  refine zw_i (nI (k * 8)) (pk_mul _ _) ?_
  refine lv_iload_n hx hb dX0_eliminate_8 rfl (lv_at hl 1 rfl) ?_
  refine lv_iadd hx hb dX0_eliminate_9 ?_
  refine zw_i (nI ((k * 8) + k)) (nI_add _ _) ?_
  refine zx_l3 hx hb hK hH (j := (k * 8) + k) (by omega) dX0_eliminate_10 ?_
  refine lv_lstore (lv' := [(4, .long _), (0, .ref _), (1, .int _), (2, .long _)]) hx hb dX0_eliminate_11 hl (by decide) rfl (fun ls hl => ?_)
  refine lv_iload_n hx hb dX0_eliminate_13 rfl (lv_at hl 2 rfl) ?_
  refine lv_iconst (v := nI 1) hx hb dX0_eliminate_14 (by decide) ?_
  refine lv_iadd hx hb dX0_eliminate_15 ?_
  refine zw_i (nI (k + 1)) (nI_add _ _) ?_
  refine lv_istore (lv' := [(6, .int _), (4, .long _), (0, .ref _), (1, .int _), (2, .long _)]) hx hb dX0_eliminate_16 hl (by decide) rfl (fun ls hl => ?_)
  refine lX0_elim_out S0 hA hK k d hk (fun f H locs ls hf1 hH => ?_) 9 (k + 1) _ _ _ _ (by omega) (by omega) (by omega) (zeo_0 tb k d) hH (lv_sub hl [2, 3, 4, 1, 0] rfl)
  exact zw_vret (u := (w, mv, us, f)) hx hb hr hlocks hK hH (⟨⟨rfl, rfl, rfl⟩, fun r hr c hc => (hf1 r hr c hc).trans (if_pos hr)⟩) dX0_eliminate_137
end
section
/-! the table's longs as integers: nothing overflows, and a step of the program is a step over Int -/
set_option maxRecDepth 100000
theorem zg_bmod {x : Int} (h : x.natAbs < 9223372036854775808) : x.bmod (2 ^ 64) = x := by
  refine Int.bmod_eq_of_le_mul_two ?_ ?_
  · show -((18446744073709551616 : Nat) : Int) ≤ x * 2
    omega
  · show x * 2 < ((18446744073709551616 : Nat) : Int)
    omega
theorem zg_mul {a b : Int64} (h : (a.toInt * b.toInt).natAbs < 9223372036854775808) : (a * b).toInt = a.toInt * b.toInt := by
  rw [Int64.toInt_mul, zg_bmod h]
theorem zg_sub {a b : Int64} (h : (a.toInt - b.toInt).natAbs < 9223372036854775808) : (a - b).toInt = a.toInt - b.toInt := by
  rw [Int64.toInt_sub, zg_bmod h]
theorem zg_div {a b : Int64} (h : a.toInt.natAbs < 9223372036854775808) : (a / b).toInt = a.toInt.tdiv b.toInt := by
  rw [Int64.toInt_div, zg_bmod (Nat.lt_of_le_of_lt (Int.natAbs_tdiv_le_natAbs _ _) h)]
theorem zg_neg {a : Int64} (h : a.toInt.natAbs < 9223372036854775808) : (-a).toInt = -a.toInt := by
  rw [Int64.toInt_neg, zg_bmod (by rw [Int.natAbs_neg]; exact h)]
theorem zg_prod {x y : Int} (hx : x.natAbs ≤ 82575360) (hy : y.natAbs ≤ 82575360) : (x * y).natAbs ≤ 6818690079129600 := by
  rw [Int.natAbs_mul]
  exact Nat.le_trans (Nat.mul_le_mul hx hy) (by decide)
theorem zg_step {a b c e d : Int64} (ha : a.toInt.natAbs ≤ 82575360) (hb : b.toInt.natAbs ≤ 82575360) (hc : c.toInt.natAbs ≤ 82575360) (he : e.toInt.natAbs ≤ 82575360) : ((a * b - c * e) / d).toInt = (a.toInt * b.toInt - c.toInt * e.toInt).tdiv d.toInt := by
  have h1 := zg_prod ha hb
  have h2 := zg_prod hc he
  have e1 : (a * b).toInt = a.toInt * b.toInt := zg_mul (by omega)
  have e2 : (c * e).toInt = c.toInt * e.toInt := zg_mul (by omega)
  have h3 : (a.toInt * b.toInt - c.toInt * e.toInt).natAbs ≤ 13637380158259200 := by
    generalize a.toInt * b.toInt = x at h1 ⊢
    generalize c.toInt * e.toInt = y at h2 ⊢
    omega
  have e3 : (a * b - c * e).toInt = a.toInt * b.toInt - c.toInt * e.toInt := by
    rw [zg_sub (by rw [e1, e2]; omega), e1, e2]
  rw [zg_div (by rw [e3]; omega), e3]
theorem zg_bd7 : ∀ k, k < 7 → zd_bd (k + 1) ≤ 82575360 := by decide
theorem zg_ent : ∀ a, a < 5 → ((nI a).toInt64).toInt = (a : Int) ∧ ((-(nI a)).toInt64).toInt = -(a : Int) := by decide +kernel
/-- the table's numbers -/
def zg_T (f : Nat → Int64) : Nat → Nat → Int := fun r c => (f (r * 8 + c)).toInt
/-- the loop of sumUsed at its head: k columns done, d the pivot before -/
def zg_inv (v : Nat → Nat) (k : Nat) (d : Int64) (f : Nat → Int64) : Prop := ∃ B : Nat → Nat → Int, zb_inv B (zg_T f) k d.toInt ∧ (zd_det 8 B).natAbs = zt_T v ∧ ∀ i, i < 8 → ∀ j, j < 8 → (B i j).natAbs ≤ 4
theorem zg_enter {v : Nat → Nat} {us : Nat → Int32} (hv : zv v us) {k : Nat} (hk : k < 24) {f : Nat → Int64} (hf : ∀ q, q < 64 → (f q).toInt = zk_tab v k q) : ∀ q, q < 64 → (vp_updL f (zk_pos k) (if zk_neg k = true then -(us k) else us k).toInt64 q).toInt = zk_tab v (k + 1) q := by
  intro q hq
  show _ = if q = zk_pos k then (if zk_neg k = true then - (v k : Int) else (v k : Int)) else zk_tab v k q
  have h4 := (hv k hk).2
  by_cases e : q = zk_pos k
  · subst e
    rw [pk_uLs, if_pos rfl, (hv k hk).1]
    by_cases e2 : zk_neg k = true
    · rw [if_pos e2, if_pos e2]
      exact (zg_ent (v k) (by omega)).2
    · rw [if_neg e2, if_neg e2]
      exact (zg_ent (v k) (by omega)).1
  · rw [pk_uLn e, if_neg e]
    exact hf q hq
theorem zg_start {v : Nat → Nat} {us : Nat → Int32} (hv : zv v us) {f : Nat → Int64} (hf : ∀ q, q < 64 → (f q).toInt = zk_tab v 24 q) : zg_inv v 0 1 f := by
  refine ⟨zg_T f, zb_start _, ?_, fun i hi j hj => ?_⟩
  · rw [zd_congr 8 (M := zg_T f) (N := zk_A v) (fun i hi j hj => hf _ (by omega)), zk_main]
    omega
  · show (f (i * 8 + j)).toInt.natAbs ≤ 4
    rw [hf _ (by omega)]
    exact zk_tab_le (fun j hj => (hv j hj).2) _ 24 (Nat.le_refl _)
theorem zg_none {v : Nat → Nat} {k : Nat} {d : Int64} {f : Nat → Int64} (h : zg_inv v k d f) (hk : k < 8) (hz : ∀ a, k ≤ a → a < 8 → f (a * 8 + k) = 0) : zt_T v = 0 := by
  obtain ⟨B, h1, h2, h3⟩ := h
  rw [← h2, zb_zero h1 hk (fun r h4 h5 => by
    show (f (r * 8 + k)).toInt = 0
    rw [hz r h4 h5]
    rfl)]
  rfl
theorem zg_swap {v : Nat → Nat} {k a : Nat} {d : Int64} {f g : Nat → Int64} (h : zg_inv v k d f) (hk : k < 8) (hka : k ≤ a) (ha : a < 8) (hak : ¬ a = k) (hg : zs_inv f a k 8 g) : zg_inv v k d g := by
  obtain ⟨B, h1, h2, h3⟩ := h
  refine ⟨zd_sw B a k, zb_swap h1 hka ha (fun i hi j hj => ?_), ?_, fun i hi j hj => ?_⟩
  · show (g (i * 8 + j)).toInt = if i = a then (f (k * 8 + j)).toInt else if i = k then (f (a * 8 + j)).toInt else (f (i * 8 + j)).toInt
    rw [hg i hi j hj, if_pos hj]
    unfold zs_sg
    by_cases e1 : i = a
    · rw [if_pos e1, if_pos e1]
    · rw [if_neg e1, if_neg e1]
      by_cases e2 : i = k
      · rw [if_pos e2, if_pos e2]
      · rw [if_neg e2, if_neg e2]
  · rw [zd_swap 8 ha hk hak, Int.natAbs_neg]
    exact h2
  · show (if i = a then B k j else if i = k then B a j else B i j).natAbs ≤ 4
    by_cases e1 : i = a
    · rw [if_pos e1]; exact h3 k hk j hj
    · rw [if_neg e1]
      by_cases e2 : i = k
      · rw [if_pos e2]; exact h3 a ha j hj
      · rw [if_neg e2]; exact h3 i hi j hj
theorem zg_next {v : Nat → Nat} {k : Nat} {d : Int64} {f g : Nat → Int64} (h : zg_inv v k d f) (hk : k < 8) (hp : ¬ f (k * 8 + k) = 0) (hg : ∀ r, r < 8 → ∀ c, c < 8 → g (r * 8 + c) = zel f k d r c) : zg_inv v (k + 1) (g (k * 8 + k)) g := by
  obtain ⟨B, h1, h2, h3⟩ := h
  have hgk : g (k * 8 + k) = f (k * 8 + k) := by rw [hg k hk k hk, zel_top (Nat.le_refl k)]
  have hd0 : ¬ d = 0 := fun e => h1.2.1 (by rw [e]; rfl)
  refine ⟨B, ?_, h2, h3⟩
  rw [hgk]
  refine zb_step (T := zg_T f) h1 hk (fun e => hp (Int64.toInt_inj.mp (e.trans Int64.toInt_zero.symm))) (fun r c h4 h5 h6 => ?_) (fun r h4 h5 => ?_) (fun r c h4 h5 h6 h7 => ?_)
  · show (g (r * 8 + c)).toInt = (f (r * 8 + c)).toInt
    rw [hg r h5 c (by omega), zel_left (by omega) h6]
  · show (g (r * 8 + k)).toInt = 0
    rw [hg r h5 k hk, zel_at (by omega)]
    rfl
  · show (g (r * 8 + c)).toInt = _
    have hb := zg_bd7 k (by omega)
    have sm : ∀ {x y : Nat}, k ≤ x → x < 8 → k ≤ y → y < 8 → (f (x * 8 + y)).toInt.natAbs ≤ 82575360 := fun hx hx8 hy hy8 => Nat.le_trans (zb_small h1 hk h3 hx hx8 hy hy8) hb
    rw [hg r h5 c h7, zel_in (by omega) h6, if_neg hd0, zg_step (sm (by omega) h5 (by omega) h7) (sm (by omega) hk (by omega) hk) (sm (by omega) h5 (by omega) hk) (sm (by omega) hk (by omega) h7)]
    rfl
theorem zg_l2i {x : Int64} {n : Nat} (h : x.toInt = (n : Int)) (hn : n < 2 ^ 31) : x.toInt32 = nI n := by
  have e : x = lN n := Int64.toInt_inj.mp (by rw [h, lN_toInt hn])
  rw [e, lN_i]
theorem zg_end {v : Nat → Nat} (hv4 : ∀ j, j < 24 → v j ≤ 4) {d : Int64} {f : Nat → Int64} (h : zg_inv v 8 d f) : (d < 0 → (-d).toInt32 = nI (zt_T v)) ∧ (¬ d < 0 → d.toInt32 = nI (zt_T v)) := by
  obtain ⟨B, h1, h2, h3⟩ := h
  have hd := h1.1
  have hT := zt_T_lt hv4
  rw [← hd] at h2
  constructor
  · intro hl
    have hl := Int64.lt_iff_toInt_lt.mp hl
    rw [Int64.toInt_zero] at hl
    refine zg_l2i ?_ (by omega)
    rw [zg_neg (by omega)]
    omega
  · intro hl
    have hl : ¬ d.toInt < 0 := fun q => hl (Int64.lt_iff_toInt_lt.mpr (by rw [Int64.toInt_zero]; exact q))
    exact zg_l2i (by omega) (by omega)
end
section
/-! DimerCounter: the sums -/
set_option maxRecDepth 100000
theorem zg_nle {x y : Int64} (h : ¬ x ≤ y) : y < x := Int64.lt_iff_toInt_lt.mpr (Int.not_le.mp (fun q => h (Int64.le_iff_toInt_le.mpr q)))
theorem zg_le {x y : Int64} (h : x ≤ y) : ¬ y < x := fun q => by
  have h1 := Int64.le_iff_toInt_le.mp h
  have h2 := Int64.lt_iff_toInt_lt.mp q
  omega
theorem zv_off {v : Nat → Nat} {w : Nat → Int32} (h : zv v w) (p : Nat) : zv (zt_off v p) (upd w p (nI 0)) := by
  intro j hj
  unfold zt_off
  by_cases e : j = p
  · subst e
    rw [pk_us, if_pos rfl]
    exact ⟨rfl, by omega⟩
  · rw [pk_un e, if_neg e]
    exact h j hj
theorem zv_back {v : Nat → Nat} {w f : Nat → Int32} (h : zv v w) {p : Nat} (hf : f = upd w p (nI 0)) : zv v (upd f p (w p)) := by
  intro j hj
  by_cases e : j = p
  · subst e
    rw [pk_us]
    exact h j hj
  · rw [pk_un e, hf, pk_un e]
    exact h j hj
theorem zv_4 {v : Nat → Nat} {w : Nat → Int32} (h : zv v w) : ∀ j, j < 24 → v j ≤ 4 := fun j hj => (h j hj).2
theorem zv_T {v : Nat → Nat} {w : Nat → Int32} (h : zv v w) : zt_T v ≤ 2359296 := zt_T_lt (zv_4 h)
/-- a loop of sumUsed -/
theorem lX0_sum1 {p : Program} {l : Launch} {e : Env} {R : Room} {s : State} {m : MethodId} {args : Array Value} {below : List Frame} {meth : Method} {c : Code} {cells slots : Nat} {Q : State → Prop} {A : Nat → Prop} {D : va_G} {ad : Nat → Nat} {ci : Nat → ClassId} (S0 : CallFix p m c cX0_sumUsed 5 s args lw_all RX0) (hA : ∀ q, s.heap.size ≤ q → A q) (hK : va_K D vwCl (XT ci) s) {w mv us : Nat → Int32}
    (K : ∀ (f : Nat → Int64) (H : Heap) (locs : List Loc) (ls : Array Slot), (∀ j, j < 64 → f j = 0) → ZH D A s.heap (XW ad ci w mv us f) H locs → lv_has ls 5 [(0, .ref (ad 0))] → W p l e R s m args below meth c H locs cells slots Q (F0 m 21 ls [])) :
    ∀ (n i : Nat) (f : Nat → Int64) (H : Heap) (locs : List Loc) (ls : Array Slot), i ≤ 64 → 64 + 1 ≤ i + n → (∀ j, j < i → f j = 0) → ZH D A s.heap (XW ad ci w mv us f) H locs → lv_has ls 5 [(0, .ref (ad 0)), (1, .int (nI (i)))] → W p l e R s m args below meth c H locs cells slots Q (F0 m 2 ls []) := by
  obtain ⟨hx, hb, hml, hown, hts⟩ := id S0
  intro n
  induction n with
  | zero =>
    intro i f H locs ls h1 h2
    exact absurd h2 (by omega)
  | succ n ih =>
    intro i f H locs ls hi hin hf1 hH hl
    refine lv_iload_n hx hb dX0_sumUsed_2 rfl (lv_at hl 1 rfl) ?_
    refine lv_bipush (v := nI 64) hx hb dX0_sumUsed_3 (by decide) ?_
    refine lv_icmp_ge (tgt := 21) hx hb dX0_sumUsed_5 (by decide) (fun c5 => ?_) (fun c5 => ?_)
    · have c5 : 64 ≤ i := (nI_leI (a := 64) (b := i) (by omega) (by omega)).mp c5
      have e64 : i = 64 := by omega
      subst e64
      exact K f H locs ls hf1 hH (lv_sub hl [0] rfl)
    · have c5 : ¬ (64 ≤ i) := fun h => c5 ((nI_leI (a := 64) (b := i) (by omega) (by omega)).mpr h)
      refine lv_aload_n hx hb dX0_sumUsed_8 rfl (lv_at hl 0 rfl) ?_
      refine zx_g3 hx hb hts hown hK hH dX0_sumUsed_9 ?_
      refine lv_iload_n hx hb dX0_sumUsed_12 rfl (lv_at hl 1 rfl) ?_
      refine lv_lconst (v := 0) hx hb dX0_sumUsed_13 (by decide) ?_
      refine zx_s3 hx hb hK hH (j := i) (by omega) dX0_sumUsed_14 (fun H locs hH => ?_)
      refine lv_iinc (v := nI (i + 1)) (lv' := [(1, .int _), (0, .ref _)]) hx hb dX0_sumUsed_15 hl (k := 1) rfl (nI_1 _) (by decide) rfl (fun ls hl => ?_)
      refine lv_goto (tgt := 2) hx hb dX0_sumUsed_18 (by decide) ?_
      exact ih (i + 1) _ _ _ _ (by omega) (by omega) (fun j hj => by
        by_cases e : j = i
        · rw [e, pk_uLs]
        · rw [pk_uLn e]; exact hf1 j (by omega)) hH (lv_sub hl [1, 0] rfl)
/-- a loop of sumUsed -/
theorem lX0_sum2 {p : Program} {l : Launch} {e : Env} {R : Room} {s : State} {m : MethodId} {args : Array Value} {below : List Frame} {meth : Method} {c : Code} {cells slots : Nat} {Q : State → Prop} {A : Nat → Prop} {D : va_G} {ad : Nat → Nat} {ci : Nat → ClassId} (S0 : CallFix p m c cX0_sumUsed 5 s args lw_all RX0) (hA : ∀ q, s.heap.size ≤ q → A q) (hK : va_K D vwCl (XT ci) s) (hR : (zr 2).frames + 1 ≤ R.frames ∧ 8 + (8 + 11) + (zr 2).locals ≤ R.locals) (hf : cells ≤ R.cells ∧ slots ≤ R.slots) {w mv us : Nat → Int32} {v : Nat → Nat} (hv : zv v us)
    (K : ∀ (f : Nat → Int64) (H : Heap) (locs : List Loc) (ls : Array Slot), (∀ q, q < 64 → (f q).toInt = zk_tab v 24 q) → ZH D A s.heap (XW ad ci w mv us f) H locs → lv_has ls 5 [(0, .ref (ad 0))] → W p l e R s m args below meth c H locs cells slots Q (F0 m 40 ls [])) :
    ∀ (n i : Nat) (f : Nat → Int64) (H : Heap) (locs : List Loc) (ls : Array Slot), i ≤ 24 → 24 + 1 ≤ i + n → (∀ q, q < 64 → (f q).toInt = zk_tab v i q) → ZH D A s.heap (XW ad ci w mv us f) H locs → lv_has ls 5 [(0, .ref (ad 0)), (1, .int (nI (i)))] → W p l e R s m args below meth c H locs cells slots Q (F0 m 23 ls []) := by
  obtain ⟨hx, hb, hml, hown, hts⟩ := id S0
  intro n
  induction n with
  | zero =>
    intro i f H locs ls h1 h2
    exact absurd h2 (by omega)
  | succ n ih =>
    intro i f H locs ls hi hin hf1 hH hl
    refine lv_iload_n hx hb dX0_sumUsed_23 rfl (lv_at hl 1 rfl) ?_
    refine lv_bipush (v := nI 24) hx hb dX0_sumUsed_24 (by decide) ?_
    refine lv_icmp_ge (tgt := 40) hx hb dX0_sumUsed_26 (by decide) (fun c26 => ?_) (fun c26 => ?_)
    · have c26 : 24 ≤ i := (nI_leI (a := 24) (b := i) (by omega) (by omega)).mp c26
      have e24 : i = 24 := by omega
      subst e24
      exact K f H locs ls hf1 hH (lv_sub hl [0] rfl)
    · have c26 : ¬ (24 ≤ i) := fun h => c26 ((nI_leI (a := 24) (b := i) (by omega) (by omega)).mpr h)
      refine lv_aload_n hx hb dX0_sumUsed_29 rfl (lv_at hl 0 rfl) ?_
      refine lv_iload_n hx hb dX0_sumUsed_30 rfl (lv_at hl 1 rfl) ?_
      refine zw_Vv (n := 1) (rest := []) (wr := []) S0 (mX0_enter l D ad ci _ w mv us f i (by omega)) q86 q88 qs2 q17 q89 (by decide +kernel) hR ⟨rfl, rfl⟩ hf hK hA hH [0, 1, 2, 3, 4] [] [0, 1, 2, 3] rfl rfl rfl (by decide) (by decide) (by decide) rfl rfl rfl rfl hl.1 rfl (Nat.le_of_ble_eq_true rfl) dX0_sumUsed_31 (fun u31 H locs hr31 hH => ?_)
      have hH : ZH D A s.heap (XW ad ci u31.1 u31.2.1 u31.2.2.1 u31.2.2.2) H locs := hH
      rw [hr31.1, hr31.2.1, hr31.2.2.1, hr31.2.2.2] at hH
      refine lv_iinc (v := nI (i + 1)) (lv' := [(1, .int _), (0, .ref _)]) hx hb dX0_sumUsed_34 hl (k := 1) rfl (nI_1 _) (by decide) rfl (fun ls hl => ?_)
      refine lv_goto (tgt := 23) hx hb dX0_sumUsed_37 (by decide) ?_
      exact ih (i + 1) _ _ _ _ (by omega) (by omega) (zg_enter hv (by omega) hf1) hH (lv_sub hl [1, 0] rfl)
/-- a loop of sumUsed -/
theorem lX0_sum3 {p : Program} {l : Launch} {e : Env} {R : Room} {s : State} {m : MethodId} {args : Array Value} {below : List Frame} {meth : Method} {c : Code} {cells slots : Nat} {Q : State → Prop} {A : Nat → Prop} {D : va_G} {ad : Nat → Nat} {ci : Nat → ClassId} (S0 : CallFix p m c cX0_sumUsed 5 s args lw_all RX0) (hA : ∀ q, s.heap.size ≤ q → A q) (hK : va_K D vwCl (XT ci) s) (hR : (zr 0).frames + 1 ≤ R.frames ∧ 8 + (3 + 11) + (zr 0).locals ≤ R.locals) (hR1 : (zr 0).frames + 1 ≤ R.frames ∧ 8 + (6 + 11) + (zr 0).locals ≤ R.locals) (hR2 : (zr 0).frames + 1 ≤ R.frames ∧ 8 + (12 + 11) + (zr 0).locals ≤ R.locals) (hf : cells ≤ R.cells ∧ slots ≤ R.slots) {w mv us : Nat → Int32} {v : Nat → Nat} (K0 : ∀ (f : Nat → Int64) (H : Heap) (locs : List Loc) (ls : Array Slot), zt_T v = 0 → ZH D A s.heap (XW ad ci w mv us f) H locs → W p l e R s m args below meth c H locs cells slots Q (F0 m 65 ls [.int (nI 0)]))
    (K : ∀ (f : Nat → Int64) (d : Int64) (H : Heap) (locs : List Loc) (ls : Array Slot), zg_inv v 8 d f → ZH D A s.heap (XW ad ci w mv us f) H locs → lv_has ls 5 [(1, .long d)] → W p l e R s m args below meth c H locs cells slots Q (F0 m 103 ls [])) :
    ∀ (n k : Nat) (f : Nat → Int64) (d : Int64) (H : Heap) (locs : List Loc) (ls : Array Slot), k ≤ 8 → 8 + 1 ≤ k + n → zg_inv v k d f → ZH D A s.heap (XW ad ci w mv us f) H locs → lv_has ls 5 [(0, .ref (ad 0)), (1, .long (d)), (3, .int (nI (k)))] → W p l e R s m args below meth c H locs cells slots Q (F0 m 44 ls []) := by
  obtain ⟨hx, hb, hml, hown, hts⟩ := id S0
  intro n
  induction n with
  | zero =>
    intro k f d H locs ls h1 h2
    exact absurd h2 (by omega)
  | succ n ih =>
    intro k f d H locs ls hi hin hf1 hH hl
    refine lv_iload_n hx hb dX0_sumUsed_44 rfl (lv_at hl 2 rfl) ?_
    refine lv_bipush (v := nI 8) hx hb dX0_sumUsed_45 (by decide) ?_
    refine lv_icmp_ge (tgt := 103) hx hb dX0_sumUsed_47 (by decide) (fun c47 => ?_) (fun c47 => ?_)
    · have c47 : 8 ≤ k := (nI_leI (a := 8) (b := k) (by omega) (by omega)).mp c47
      have e8 : k = 8 := by omega
      subst e8
      exact K f d H locs ls hf1 hH (lv_sub hl [1] rfl)
    · have c47 : ¬ (8 ≤ k) := fun h => c47 ((nI_leI (a := 8) (b := k) (by omega) (by omega)).mpr h)
      refine lv_aload_n hx hb dX0_sumUsed_50 rfl (lv_at hl 0 rfl) ?_
      refine lv_iload_n hx hb dX0_sumUsed_51 rfl (lv_at hl 2 rfl) ?_
      refine zw_Vi (n := 1) (rest := []) (wr := []) S0 (mX0_pivotRow l D ad ci _ w mv us f k (by omega)) q93 q95 qs3 q17 q96 (by decide +kernel) hR ⟨rfl, rfl⟩ hf hK hA hH [0, 1, 2, 3, 4] [] [0, 1, 2, 3] rfl rfl rfl (by decide) (by decide) (by decide) rfl rfl rfl rfl hl.1 rfl (Nat.le_of_ble_eq_true rfl) dX0_sumUsed_52 (fun r52 u52 H locs hr52 hH => ?_)
      obtain ⟨he52, q, hq1, hq2, hq3, hq4, hq5⟩ := hr52
      have hH : ZH D A s.heap (XW ad ci u52.1 u52.2.1 u52.2.2.1 u52.2.2.2) H locs := hH
      rw [he52.1, he52.2.1, he52.2.2.1, he52.2.2.2] at hH
      refine zw_i (nI (q)) (hq1) ?_
      refine lv_istore (lv' := [(4, .int _), (0, .ref _), (1, .long _), (3, .int _)]) hx hb dX0_sumUsed_55 hl (by decide) rfl (fun ls hl => ?_)
      refine lv_iload hx hb dX0_sumUsed_57 (lv_at hl 0 rfl) ?_
      refine lv_bipush (v := nI 8) hx hb dX0_sumUsed_59 (by decide) ?_
      refine lv_icmp_ne (tgt := 66) hx hb dX0_sumUsed_61 (by decide) (fun c61 => ?_) (fun c61 => ?_)
      · have c61 : ¬ (q = 8) := fun h => c61 ((nI_eq (a := q) (b := 8) (by omega) (by omega)).mpr h)
        refine lv_iload hx hb dX0_sumUsed_66 (lv_at hl 0 rfl) ?_
        refine lv_iload_n hx hb dX0_sumUsed_68 rfl (lv_at hl 3 rfl) ?_
        refine lv_icmp_eq (tgt := 79) hx hb dX0_sumUsed_69 (by decide) (fun c69 => ?_) (fun c69 => ?_)
        · have c69 : q = k := (nI_eq (a := q) (b := k) (by omega) (by omega)).mp c69
          refine lv_aload_n hx hb dX0_sumUsed_79 rfl (lv_at hl 1 rfl) ?_
          refine lv_iload_n hx hb dX0_sumUsed_80 rfl (lv_at hl 3 rfl) ?_
          refine lv_lload_n hx hb dX0_sumUsed_81 rfl (lv_at hl 2 rfl) ?_
          refine zw_Vv (n := 2) (rest := []) (wr := []) S0 (mX0_eliminate l D ad ci _ w mv us f k d (by omega)) q101 q103 qs5 q17 q104 (by decide +kernel) hR2 ⟨rfl, rfl⟩ hf hK hA hH [0, 1, 2, 3, 4] [] [0, 1, 2, 3] rfl rfl rfl (by decide) (by decide) (by decide) rfl rfl rfl rfl hl.1 rfl (Nat.le_of_ble_eq_true rfl) dX0_sumUsed_82 (fun u82 H locs hr82 hH => ?_)
          have hH : ZH D A s.heap (XW ad ci u82.1 u82.2.1 u82.2.2.1 u82.2.2.2) H locs := hH
          rw [hr82.1.1, hr82.1.2.1, hr82.1.2.2] at hH
          refine lv_aload_n hx hb dX0_sumUsed_85 rfl (lv_at hl 1 rfl) ?_
          refine zx_g3 hx hb hts hown hK hH dX0_sumUsed_86 ?_
          refine lv_iload_n hx hb dX0_sumUsed_89 rfl (lv_at hl 3 rfl) ?_
          refine lv_bipush (v := nI 8) hx hb dX0_sumUsed_90 (by decide) ?_
          refine lv_imul hx hb dX0_sumUsed_92 ?_
          refine zw_i (nI (k * 8)) (pk_mul _ _) ?_
          refine lv_iload_n hx hb dX0_sumUsed_93 rfl (lv_at hl 3 rfl) ?_
          refine lv_iadd hx hb dX0_sumUsed_94 ?_
          refine zw_i (nI ((k * 8) + k)) (nI_add _ _) ?_
          refine zx_l3 hx hb hK hH (j := (k * 8) + k) (by omega) dX0_sumUsed_95 ?_
          refine lv_lstore_n (lv' := [(1, .long _), (4, .int _), (0, .ref _), (3, .int _)]) hx hb dX0_sumUsed_96 rfl hl (by decide) rfl (fun ls hl => ?_)
          refine lv_iinc (v := nI (k + 1)) (lv' := [(3, .int _), (1, .long _), (4, .int _), (0, .ref _)]) hx hb dX0_sumUsed_97 hl (k := 3) rfl (nI_1 _) (by decide) rfl (fun ls hl => ?_)
          refine lv_goto (tgt := 44) hx hb dX0_sumUsed_100 (by decide) ?_
          exact ih (k + 1) _ _ _ _ _ (by omega) (by omega) (zg_next (hf1) (by omega) (by have h := hq5 (by omega); rw [c69] at h; exact h) hr82.2) hH (lv_sub hl [3, 1, 0] rfl)
        · have c69 : ¬ (q = k) := fun h => c69 ((nI_eq (a := q) (b := k) (by omega) (by omega)).mpr h)
          refine lv_aload_n hx hb dX0_sumUsed_72 rfl (lv_at hl 1 rfl) ?_
          refine lv_iload hx hb dX0_sumUsed_73 (lv_at hl 0 rfl) ?_
          refine lv_iload_n hx hb dX0_sumUsed_75 rfl (lv_at hl 3 rfl) ?_
          refine zw_Vv (n := 2) (rest := []) (wr := []) S0 (mX0_swapRows l D ad ci _ w mv us f q k (by omega) (by omega) c69) q97 q99 qs4 q17 q100 (by decide +kernel) hR1 ⟨rfl, rfl⟩ hf hK hA hH [0, 1, 2, 3, 4] [] [0, 1, 2, 3] rfl rfl rfl (by decide) (by decide) (by decide) rfl rfl rfl rfl hl.1 rfl (Nat.le_of_ble_eq_true rfl) dX0_sumUsed_76 (fun u76 H locs hr76 hH => ?_)
          have hH : ZH D A s.heap (XW ad ci u76.1 u76.2.1 u76.2.2.1 u76.2.2.2) H locs := hH
          rw [hr76.1.1, hr76.1.2.1, hr76.1.2.2] at hH
          refine lv_aload_n hx hb dX0_sumUsed_79 rfl (lv_at hl 1 rfl) ?_
          refine lv_iload_n hx hb dX0_sumUsed_80 rfl (lv_at hl 3 rfl) ?_
          refine lv_lload_n hx hb dX0_sumUsed_81 rfl (lv_at hl 2 rfl) ?_
          refine zw_Vv (n := 2) (rest := []) (wr := []) S0 (mX0_eliminate l D ad ci _ w mv us u76.2.2.2 k d (by omega)) q101 q103 qs5 q17 q104 (by decide +kernel) hR2 ⟨rfl, rfl⟩ hf hK hA hH [0, 1, 2, 3, 4] [] [0, 1, 2, 3] rfl rfl rfl (by decide) (by decide) (by decide) rfl rfl rfl rfl hl.1 rfl (Nat.le_of_ble_eq_true rfl) dX0_sumUsed_82 (fun u82 H locs hr82 hH => ?_)
          have hH : ZH D A s.heap (XW ad ci u82.1 u82.2.1 u82.2.2.1 u82.2.2.2) H locs := hH
          rw [hr82.1.1, hr82.1.2.1, hr82.1.2.2] at hH
          refine lv_aload_n hx hb dX0_sumUsed_85 rfl (lv_at hl 1 rfl) ?_
          refine zx_g3 hx hb hts hown hK hH dX0_sumUsed_86 ?_
          refine lv_iload_n hx hb dX0_sumUsed_89 rfl (lv_at hl 3 rfl) ?_
          refine lv_bipush (v := nI 8) hx hb dX0_sumUsed_90 (by decide) ?_
          refine lv_imul hx hb dX0_sumUsed_92 ?_
          refine zw_i (nI (k * 8)) (pk_mul _ _) ?_
          refine lv_iload_n hx hb dX0_sumUsed_93 rfl (lv_at hl 3 rfl) ?_
          refine lv_iadd hx hb dX0_sumUsed_94 ?_
          refine zw_i (nI ((k * 8) + k)) (nI_add _ _) ?_
          refine zx_l3 hx hb hK hH (j := (k * 8) + k) (by omega) dX0_sumUsed_95 ?_
          refine lv_lstore_n (lv' := [(1, .long _), (4, .int _), (0, .ref _), (3, .int _)]) hx hb dX0_sumUsed_96 rfl hl (by decide) rfl (fun ls hl => ?_)
          refine lv_iinc (v := nI (k + 1)) (lv' := [(3, .int _), (1, .long _), (4, .int _), (0, .ref _)]) hx hb dX0_sumUsed_97 hl (k := 3) rfl (nI_1 _) (by decide) rfl (fun ls hl => ?_)
          refine lv_goto (tgt := 44) hx hb dX0_sumUsed_100 (by decide) ?_
          exact ih (k + 1) _ _ _ _ _ (by omega) (by omega) (zg_next (zg_swap hf1 (by omega) hq2 (by omega) c69 hr76.2) (by omega) (by
            rw [hr76.2 k (by omega) k (by omega), if_pos (by omega)]
            unfold zs_sg
            rw [if_neg (fun z => c69 z.symm), if_pos rfl]
            exact hq5 (by omega)) hr82.2) hH (lv_sub hl [3, 1, 0] rfl)
      · have c61 : q = 8 := (nI_eq (a := q) (b := 8) (by omega) (by omega)).mp c61
        refine lv_iconst (v := nI 0) hx hb dX0_sumUsed_64 (by decide) ?_
        exact K0 f H locs ls (zg_none hf1 (by omega) (fun a h1 h2 => hq4 a h1 (by omega))) hH
/-- sumUsed() -/
theorem mX0_sumUsed (l : Launch) (D : va_G) (ad : Nat → Nat) (ci : Nat → ClassId) (sz : Nat) (w mv us : Nat → Int32) (tb : Nat → Int64) (v : Nat → Nat) (hv : zv v us)  : ZMi l yX0_sumUsed cX0_sumUsed 5 (some .int) (zr 3) D (XT ci) (.ref (ad 0) :: []) sz (XW ad ci w mv us tb) (fun r (u : XS) => r = nI (zt_T v) ∧ u.1 = w ∧ u.2.1 = mv ∧ u.2.2.1 = us) (XU ad ci) := by
  unfold ZMi
  refine zw_met (own := RX0) (Qf := fun A => va_Qi (fun r (u : XS) => r = nI (zt_T v) ∧ u.1 = w ∧ u.2.1 = mv ∧ u.2.2.1 = us) (ZB D (XT ci) (XU ad ci) A) A) (by decide) rfl (Nat.le_of_ble_eq_true rfl) ?_
  intro p e s m below meth c A ls S0 hr hlocks hin hA hK hH hl
  obtain ⟨hx, hb, hml, hown, hts⟩ := id S0
  have hl : lv_has ls 5 [(0, .ref (ad 0))] := hl
  refine lv_iconst (v := nI 0) hx hb dX0_sumUsed_0 (by decide) ?_
  refine lv_istore_n (lv' := [(1, .int _), (0, .ref _)]) hx hb dX0_sumUsed_1 rfl hl (by decide) rfl (fun ls hl => ?_)
  refine lX0_sum1 S0 hA hK (fun f H locs ls hf1 hH hl => ?_) 65 0 _ _ _ _ (by omega) (by omega) (fun j hj => by omega) hH (lv_sub hl [1, 0] rfl)
  refine lv_iconst (v := nI 0) hx hb dX0_sumUsed_21 (by decide) ?_
  refine lv_istore_n (lv' := [(1, .int _), (0, .ref _)]) hx hb dX0_sumUsed_22 rfl hl (by decide) rfl (fun ls hl => ?_)
  refine lX0_sum2 S0 hA hK ⟨Nat.le_of_ble_eq_true rfl, Nat.le_of_ble_eq_true rfl⟩ ⟨Nat.zero_le _, Nat.zero_le _⟩ hv (fun f H locs ls hf2 hH hl => ?_) 25 0 _ _ _ _ (by omega) (by omega) (fun q hq => by rw [hf1 q hq]; rfl) hH (lv_sub hl [1, 0] rfl)
  refine lv_lconst (v := 1) hx hb dX0_sumUsed_40 (by decide) ?_
  refine lv_lstore_n (lv' := [(1, .long _), (0, .ref _)]) hx hb dX0_sumUsed_41 rfl hl (by decide) rfl (fun ls hl => ?_)
  refine lv_iconst (v := nI 0) hx hb dX0_sumUsed_42 (by decide) ?_
  refine lv_istore_n (lv' := [(3, .int _), (1, .long _), (0, .ref _)]) hx hb dX0_sumUsed_43 rfl hl (by decide) rfl (fun ls hl => ?_)
  refine lX0_sum3 S0 hA hK ⟨Nat.le_of_ble_eq_true rfl, Nat.le_of_ble_eq_true rfl⟩ ⟨Nat.le_of_ble_eq_true rfl, Nat.le_of_ble_eq_true rfl⟩ ⟨Nat.le_of_ble_eq_true rfl, Nat.le_of_ble_eq_true rfl⟩ ⟨Nat.zero_le _, Nat.zero_le _⟩ (v := v) (fun f H locs ls h0 hH => ?_) (fun f d H locs ls hf3 hH hl => ?_) 9 0 _ _ _ _ _ (by omega) (by omega) (zg_start hv hf2) hH (lv_sub hl [2, 1, 0] rfl)
  · exact zw_iret (u := (w, mv, us, f)) hx hb hr hlocks hK hH (⟨by rw [h0], rfl, rfl, rfl⟩) dX0_sumUsed_65
  · have hend := zg_end (zv_4 hv) hf3
    refine lv_lload_n hx hb dX0_sumUsed_103 rfl (lv_at hl 0 rfl) ?_
    refine lv_lconst (v := 0) hx hb dX0_sumUsed_104 (by decide) ?_
    refine W.lcmp hx hb dX0_sumUsed_105 ?_
    refine lv_if_ge (tgt := 114) hx hb dX0_sumUsed_106 (by decide) (fun c106 => ?_) (fun c106 => ?_)
    · have c106 := (lg_cmp_ge _ _).mp c106
      refine lv_lload_n hx hb dX0_sumUsed_114 rfl (lv_at hl 0 rfl) ?_
      refine lv_l2i hx hb dX0_sumUsed_115 rfl ?_
      exact zw_iret (u := (w, mv, us, f)) hx hb hr hlocks hK hH (⟨hend.2 (zg_le c106), rfl, rfl, rfl⟩) dX0_sumUsed_116
    · have c106 := fun h => c106 ((lg_cmp_ge _ _).mpr h)
      refine lv_lload_n hx hb dX0_sumUsed_109 rfl (lv_at hl 0 rfl) ?_
      refine lv_lneg hx hb dX0_sumUsed_110 ?_
      refine lv_goto (tgt := 115) hx hb dX0_sumUsed_111 (by decide) ?_
      refine lv_l2i hx hb dX0_sumUsed_115 rfl ?_
      exact zw_iret (u := (w, mv, us, f)) hx hb hr hlocks hK hH (⟨hend.1 (zg_nle c106), rfl, rfl, rfl⟩) dX0_sumUsed_116
/-- sumWithout(k) -/
theorem mX0_sumWithout (l : Launch) (D : va_G) (ad : Nat → Nat) (ci : Nat → ClassId) (sz : Nat) (w mv us : Nat → Int32) (tb : Nat → Int64) (v : Nat → Nat) (hv : zv v us) (k : Nat) (hk : k < 24) : ZMi l yX0_sumWithout cX0_sumWithout 4 (some .int) (zr 4) D (XT ci) (.ref (ad 0) :: [.int (nI k)]) sz (XW ad ci w mv us tb) (fun r (u : XS) => r = nI (zt_T (zt_off v k)) ∧ u.1 = w ∧ zv v u.2.2.1) (XU ad ci) := by
  unfold ZMi
  refine zw_met (own := RX0) (Qf := fun A => va_Qi (fun r (u : XS) => r = nI (zt_T (zt_off v k)) ∧ u.1 = w ∧ zv v u.2.2.1) (ZB D (XT ci) (XU ad ci) A) A) (by decide) rfl (Nat.le_of_ble_eq_true rfl) ?_
  intro p e s m below meth c A ls S0 hr hlocks hin hA hK hH hl
  obtain ⟨hx, hb, hml, hown, hts⟩ := id S0
  have hl : lv_has ls 4 [(0, .ref (ad 0)), (1, .int (nI (k)))] := hl
  refine lv_aload_n hx hb dX0_sumWithout_0 rfl (lv_at hl 0 rfl) ?_
  refine zx_g2 hx hb hts hown hK hH dX0_sumWithout_1 ?_
  refine lv_iload_n hx hb dX0_sumWithout_4 rfl (lv_at hl 1 rfl) ?_
  refine zx_l2 hx hb hK hH (j := k) (by omega) dX0_sumWithout_5 ?_
  refine lv_istore_n (lv' := [(2, .int _), (0, .ref _), (1, .int _)]) hx hb dX0_sumWithout_6 rfl hl (by decide) rfl (fun ls hl => ?_)
  refine lv_aload_n hx hb dX0_sumWithout_7 rfl (lv_at hl 1 rfl) ?_
  refine zx_g2 hx hb hts hown hK hH dX0_sumWithout_8 ?_
  refine lv_iload_n hx hb dX0_sumWithout_11 rfl (lv_at hl 2 rfl) ?_
  refine lv_iconst (v := nI 0) hx hb dX0_sumWithout_12 (by decide) ?_
  refine zx_s2 hx hb hK hH (j := k) (by omega) dX0_sumWithout_13 (fun H locs hH => ?_)
  refine lv_aload_n hx hb dX0_sumWithout_14 rfl (lv_at hl 1 rfl) ?_
  refine zw_Vi (n := 0) (rest := []) (wr := []) S0 (mX0_sumUsed l D ad ci _ w mv (upd us k (nI 0)) tb (zt_off v k) (zv_off hv k)) q82 q84 qs1 q17 q85 (by decide +kernel) ⟨Nat.le_of_ble_eq_true rfl, Nat.le_of_ble_eq_true rfl⟩ ⟨rfl, rfl⟩ ⟨Nat.zero_le _, Nat.zero_le _⟩ hK hA hH [0, 1, 2, 3, 4] [] [0, 1, 2, 3] rfl rfl rfl (by decide) (by decide) (by decide) rfl rfl rfl rfl hl.1 rfl (Nat.le_of_ble_eq_true rfl) dX0_sumWithout_15 (fun r15 u15 H locs hr15 hH => ?_)
  have hH : ZH D A s.heap (XW ad ci u15.1 u15.2.1 u15.2.2.1 u15.2.2.2) H locs := hH
  rw [hr15.2.1] at hH
  refine lv_istore_n (lv' := [(3, .int _), (2, .int _), (0, .ref _), (1, .int _)]) hx hb dX0_sumWithout_18 rfl hl (by decide) rfl (fun ls hl => ?_)
  refine lv_aload_n hx hb dX0_sumWithout_19 rfl (lv_at hl 2 rfl) ?_
  refine zx_g2 hx hb hts hown hK hH dX0_sumWithout_20 ?_
  refine lv_iload_n hx hb dX0_sumWithout_23 rfl (lv_at hl 3 rfl) ?_
  refine lv_iload_n hx hb dX0_sumWithout_24 rfl (lv_at hl 1 rfl) ?_
  refine zx_s2 hx hb hK hH (j := k) (by omega) dX0_sumWithout_25 (fun H locs hH => ?_)
  refine lv_iload_n hx hb dX0_sumWithout_26 rfl (lv_at hl 0 rfl) ?_
  exact zw_iret (u := (w, u15.2.1, (upd u15.2.2.1 (k) (us (k))), u15.2.2.2)) hx hb hr hlocks hK hH (⟨hr15.1, rfl, zv_back hv hr15.2.2.2⟩) dX0_sumWithout_27
/-- sumWith(k) -/
theorem mX0_sumWith (l : Launch) (D : va_G) (ad : Nat → Nat) (ci : Nat → ClassId) (sz : Nat) (w mv us : Nat → Int32) (tb : Nat → Int64) (v : Nat → Nat) (hv : zv v us) (k : Nat) (hk : k < 24) : ZMi l yX0_sumWith cX0_sumWith 4 (some .int) (zr 5) D (XT ci) (.ref (ad 0) :: [.int (nI k)]) sz (XW ad ci w mv us tb) (fun r (u : XS) => r = nI (zt_W v (2 ^ k)) ∧ u.1 = w ∧ zv v u.2.2.1) (XU ad ci) := by
  unfold ZMi
  refine zw_met (own := RX0) (Qf := fun A => va_Qi (fun r (u : XS) => r = nI (zt_W v (2 ^ k)) ∧ u.1 = w ∧ zv v u.2.2.1) (ZB D (XT ci) (XU ad ci) A) A) (by decide) rfl (Nat.le_of_ble_eq_true rfl) ?_
  intro p e s m below meth c A ls S0 hr hlocks hin hA hK hH hl
  obtain ⟨hx, hb, hml, hown, hts⟩ := id S0
  have hl : lv_has ls 4 [(0, .ref (ad 0)), (1, .int (nI (k)))] := hl
  refine lv_aload_n hx hb dX0_sumWith_0 rfl (lv_at hl 0 rfl) ?_
  refine zw_Vi (n := 0) (rest := []) (wr := []) S0 (mX0_sumUsed l D ad ci _ w mv us tb v hv) q82 q84 qs1 q17 q85 (by decide +kernel) ⟨Nat.le_of_ble_eq_true rfl, Nat.le_of_ble_eq_true rfl⟩ ⟨rfl, rfl⟩ ⟨Nat.zero_le _, Nat.zero_le _⟩ hK hA hH [0, 1, 2, 3, 4] [] [0, 1, 2, 3] rfl rfl rfl (by decide) (by decide) (by decide) rfl rfl rfl rfl hl.1 rfl (Nat.le_of_ble_eq_true rfl) dX0_sumWith_1 (fun r1 u1 H locs hr1 hH => ?_)
  have hH : ZH D A s.heap (XW ad ci u1.1 u1.2.1 u1.2.2.1 u1.2.2.2) H locs := hH
  rw [hr1.2.1, hr1.2.2.1, hr1.2.2.2] at hH
  refine zw_i (nI (zt_T v)) (hr1.1) ?_
  refine lv_istore_n (lv' := [(2, .int _), (0, .ref _), (1, .int _)]) hx hb dX0_sumWith_4 rfl hl (by decide) rfl (fun ls hl => ?_)
  refine lv_aload_n hx hb dX0_sumWith_5 rfl (lv_at hl 1 rfl) ?_
  refine lv_iload_n hx hb dX0_sumWith_6 rfl (lv_at hl 2 rfl) ?_
  refine zw_Vi (n := 1) (rest := []) (wr := []) S0 (mX0_sumWithout l D ad ci _ w mv us u1.2.2.2 v hv k hk) q113 q115 qs7 q17 q116 (by decide +kernel) ⟨Nat.le_of_ble_eq_true rfl, Nat.le_of_ble_eq_true rfl⟩ ⟨rfl, rfl⟩ ⟨Nat.zero_le _, Nat.zero_le _⟩ hK hA hH [0, 1, 2, 3, 4] [] [0, 1, 2, 3] rfl rfl rfl (by decide) (by decide) (by decide) rfl rfl rfl rfl hl.1 rfl (Nat.le_of_ble_eq_true rfl) dX0_sumWith_7 (fun r7 u7 H locs hr7 hH => ?_)
  have hH : ZH D A s.heap (XW ad ci u7.1 u7.2.1 u7.2.2.1 u7.2.2.2) H locs := hH
  rw [hr7.2.1] at hH
  refine zw_i (nI (zt_T (zt_off v k))) (hr7.1) ?_
  have hsp := zt_split1 v hk
  refine lv_istore_n (lv' := [(3, .int _), (2, .int _), (0, .ref _), (1, .int _)]) hx hb dX0_sumWith_10 rfl hl (by decide) rfl (fun ls hl => ?_)
  refine lv_iload_n hx hb dX0_sumWith_11 rfl (lv_at hl 1 rfl) ?_
  refine lv_iload_n hx hb dX0_sumWith_12 rfl (lv_at hl 0 rfl) ?_
  refine lv_isub hx hb dX0_sumWith_13 ?_
  refine zw_i (nI ((zt_T v) - (zt_T (zt_off v k)))) (pk_sub (by omega)) ?_
  refine zw_i (nI (zt_W v (2 ^ k))) (by rw [hsp, Nat.add_sub_cancel]) ?_
  exact zw_iret (u := (w, u7.2.1, u7.2.2.1, u7.2.2.2)) hx hb hr hlocks hK hH (⟨rfl, rfl, hr7.2.2⟩) dX0_sumWith_14
/-- total() -/
theorem mX0_total (l : Launch) (D : va_G) (ad : Nat → Nat) (ci : Nat → ClassId) (sz : Nat) (w mv us : Nat → Int32) (tb : Nat → Int64) (v : Nat → Nat) (hv : zv v w)  : ZMi l yX0_total cX0_total 1 (some .int) (zr 4) D (XT ci) (.ref (ad 0) :: []) sz (XW ad ci w mv us tb) (fun r (u : XS) => r = nI (zt_T v) ∧ zv v u.1) (XU ad ci) := by
  unfold ZMi
  refine zw_met (own := RX0) (Qf := fun A => va_Qi (fun r (u : XS) => r = nI (zt_T v) ∧ zv v u.1) (ZB D (XT ci) (XU ad ci) A) A) (by decide) rfl (Nat.le_of_ble_eq_true rfl) ?_
  intro p e s m below meth c A ls S0 hr hlocks hin hA hK hH hl
  obtain ⟨hx, hb, hml, hown, hts⟩ := id S0
  have hl : lv_has ls 1 [(0, .ref (ad 0))] := hl
  refine lv_aload_n hx hb dX0_total_0 rfl (lv_at hl 0 rfl) ?_
  refine zw_Vv (n := 0) (rest := []) (wr := []) S0 (mX0_useWeights l D ad ci _ w mv us tb v hv) q78 q80 qs0 q17 q81 (by decide +kernel) ⟨Nat.le_of_ble_eq_true rfl, Nat.le_of_ble_eq_true rfl⟩ ⟨rfl, rfl⟩ ⟨Nat.zero_le _, Nat.zero_le _⟩ hK hA hH [0, 1, 2, 3, 4] [] [0, 1, 2, 3] rfl rfl rfl (by decide) (by decide) (by decide) rfl rfl rfl rfl hl.1 rfl (Nat.le_of_ble_eq_true rfl) dX0_total_1 (fun u1 H locs hr1 hH => ?_)
  have hH : ZH D A s.heap (XW ad ci u1.1 u1.2.1 u1.2.2.1 u1.2.2.2) H locs := hH
  rw [hr1.1] at hH
  refine lv_aload_n hx hb dX0_total_4 rfl (lv_at hl 0 rfl) ?_
  refine zw_Vi (n := 0) (rest := []) (wr := []) S0 (mX0_sumUsed l D ad ci _ w u1.2.1 u1.2.2.1 u1.2.2.2 _ hr1.2) q82 q84 qs1 q17 q85 (by decide +kernel) ⟨Nat.le_of_ble_eq_true rfl, Nat.le_of_ble_eq_true rfl⟩ ⟨rfl, rfl⟩ ⟨Nat.zero_le _, Nat.zero_le _⟩ hK hA hH [0, 1, 2, 3, 4] [] [0, 1, 2, 3] rfl rfl rfl (by decide) (by decide) (by decide) rfl rfl rfl rfl hl.1 rfl (Nat.le_of_ble_eq_true rfl) dX0_total_5 (fun r5 u5 H locs hr5 hH => ?_)
  have hH : ZH D A s.heap (XW ad ci u5.1 u5.2.1 u5.2.2.1 u5.2.2.2) H locs := hH
  rw [hr5.2.1] at hH
  exact zw_iret (u := (w, u5.2.1, u5.2.2.1, u5.2.2.2)) hx hb hr hlocks hK hH (⟨hr5.1, hv⟩) dX0_total_8
/-- possible() -/
theorem mX0_possible (l : Launch) (D : va_G) (ad : Nat → Nat) (ci : Nat → ClassId) (sz : Nat) (w mv us : Nat → Int32) (tb : Nat → Int64) (v : Nat → Nat) (hv : zv v w)  : ZMi l yX0_possible cX0_possible 1 (some .int) (zr 4) D (XT ci) (.ref (ad 0) :: []) sz (XW ad ci w mv us tb) (fun r (u : XS) => r = nI (zt_T (zt_ones v)) ∧ zv v u.1) (XU ad ci) := by
  unfold ZMi
  refine zw_met (own := RX0) (Qf := fun A => va_Qi (fun r (u : XS) => r = nI (zt_T (zt_ones v)) ∧ zv v u.1) (ZB D (XT ci) (XU ad ci) A) A) (by decide) rfl (Nat.le_of_ble_eq_true rfl) ?_
  intro p e s m below meth c A ls S0 hr hlocks hin hA hK hH hl
  obtain ⟨hx, hb, hml, hown, hts⟩ := id S0
  have hl : lv_has ls 1 [(0, .ref (ad 0))] := hl
  refine lv_aload_n hx hb dX0_possible_0 rfl (lv_at hl 0 rfl) ?_
  refine zw_Vv (n := 0) (rest := []) (wr := []) S0 (mX0_useOnes l D ad ci _ w mv us tb v hv) q125 q127 qs8 q17 q128 (by decide +kernel) ⟨Nat.le_of_ble_eq_true rfl, Nat.le_of_ble_eq_true rfl⟩ ⟨rfl, rfl⟩ ⟨Nat.zero_le _, Nat.zero_le _⟩ hK hA hH [0, 1, 2, 3, 4] [] [0, 1, 2, 3] rfl rfl rfl (by decide) (by decide) (by decide) rfl rfl rfl rfl hl.1 rfl (Nat.le_of_ble_eq_true rfl) dX0_possible_1 (fun u1 H locs hr1 hH => ?_)
  have hH : ZH D A s.heap (XW ad ci u1.1 u1.2.1 u1.2.2.1 u1.2.2.2) H locs := hH
  rw [hr1.1] at hH
  refine lv_aload_n hx hb dX0_possible_4 rfl (lv_at hl 0 rfl) ?_
  refine zw_Vi (n := 0) (rest := []) (wr := []) S0 (mX0_sumUsed l D ad ci _ w u1.2.1 u1.2.2.1 u1.2.2.2 _ hr1.2) q82 q84 qs1 q17 q85 (by decide +kernel) ⟨Nat.le_of_ble_eq_true rfl, Nat.le_of_ble_eq_true rfl⟩ ⟨rfl, rfl⟩ ⟨Nat.zero_le _, Nat.zero_le _⟩ hK hA hH [0, 1, 2, 3, 4] [] [0, 1, 2, 3] rfl rfl rfl (by decide) (by decide) (by decide) rfl rfl rfl rfl hl.1 rfl (Nat.le_of_ble_eq_true rfl) dX0_possible_5 (fun r5 u5 H locs hr5 hH => ?_)
  have hH : ZH D A s.heap (XW ad ci u5.1 u5.2.1 u5.2.2.1 u5.2.2.2) H locs := hH
  rw [hr5.2.1] at hH
  exact zw_iret (u := (w, u5.2.1, u5.2.2.1, u5.2.2.2)) hx hb hr hlocks hK hH (⟨hr5.1, hv⟩) dX0_possible_8
/-- totalWith(x) -/
theorem mX0_totalWith (l : Launch) (D : va_G) (ad : Nat → Nat) (ci : Nat → ClassId) (sz : Nat) (w mv us : Nat → Int32) (tb : Nat → Int64) (v : Nat → Nat) (hv : zv v w) (x : Int32) : ZMi l yX0_totalWith cX0_totalWith 2 (some .int) (zr 6) D (XT ci) (.ref (ad 0) :: [.int x]) sz (XW ad ci w mv us tb) (fun r (u : XS) => r = sp_with v x ∧ zv v u.1) (XU ad ci) := by
  unfold ZMi
  refine zw_met (own := RX0) (Qf := fun A => va_Qi (fun r (u : XS) => r = sp_with v x ∧ zv v u.1) (ZB D (XT ci) (XU ad ci) A) A) (by decide) rfl (Nat.le_of_ble_eq_true rfl) ?_
  intro p e s m below meth c A ls S0 hr hlocks hin hA hK hH hl
  obtain ⟨hx, hb, hml, hown, hts⟩ := id S0
  have hl : lv_has ls 2 [(0, .ref (ad 0)), (1, .int (x))] := hl
  refine lv_iload_n hx hb dX0_totalWith_0 rfl (lv_at hl 1 rfl) ?_
  refine zw_Si (n := 1) (rest := []) S0 (mX0_bad l D _ x) q46 q47 q17 q48 (by decide +kernel) ⟨Nat.le_of_ble_eq_true rfl, Nat.le_of_ble_eq_true rfl⟩ ⟨rfl, rfl⟩ ⟨Nat.zero_le _, Nat.zero_le _⟩ hK hA hH rfl hl.1 rfl (Nat.le_of_ble_eq_true rfl) dX0_totalWith_1 (fun r1 H locs hr1 hH => ?_)
  rcases hr1 with ⟨hr1, hbad⟩ | ⟨hr1, k, hk, hk1⟩
  · refine zw_i (nI (1)) (hr1) ?_
    refine lv_if_eq (tgt := 9) hx hb dX0_totalWith_4 (by decide) (fun c4 => ?_) (fun c4 => ?_)
    · have c4 : 1 = 0 := (nI_eq (a := 1) (b := 0) (by omega) (by omega)).mp c4
      exfalso; omega
    · have c4 : ¬ (1 = 0) := fun h => c4 ((nI_eq (a := 1) (b := 0) (by omega) (by omega)).mpr h)
      refine lv_iconst (v := -1) hx hb dX0_totalWith_7 (by decide) ?_
      exact zw_iret (u := (w, mv, us, tb)) hx hb hr hlocks hK hH (by unfold sp_with; rw [sp_ix_bad hbad]; exact ⟨rfl, hv⟩) dX0_totalWith_8
  · refine zw_i (nI (0)) (hr1) ?_
    subst hk1
    refine lv_if_eq (tgt := 9) hx hb dX0_totalWith_4 (by decide) (fun c4 => ?_) (fun c4 => ?_)
    · have c4 : 0 = 0 := (nI_eq (a := 0) (b := 0) (by omega) (by omega)).mp c4
      refine lv_aload_n hx hb dX0_totalWith_9 rfl (lv_at hl 0 rfl) ?_
      refine zw_Vv (n := 0) (rest := []) (wr := []) S0 (mX0_useWeights l D ad ci _ w mv us tb v hv) q78 q80 qs0 q17 q81 (by decide +kernel) ⟨Nat.le_of_ble_eq_true rfl, Nat.le_of_ble_eq_true rfl⟩ ⟨rfl, rfl⟩ ⟨Nat.zero_le _, Nat.zero_le _⟩ hK hA hH [0, 1, 2, 3, 4] [] [0, 1, 2, 3] rfl rfl rfl (by decide) (by decide) (by decide) rfl rfl rfl rfl hl.1 rfl (Nat.le_of_ble_eq_true rfl) dX0_totalWith_10 (fun u10 H locs hr10 hH => ?_)
      have hH : ZH D A s.heap (XW ad ci u10.1 u10.2.1 u10.2.2.1 u10.2.2.2) H locs := hH
      rw [hr10.1] at hH
      refine lv_aload_n hx hb dX0_totalWith_13 rfl (lv_at hl 0 rfl) ?_
      refine lv_iload_n hx hb dX0_totalWith_14 rfl (lv_at hl 1 rfl) ?_
      refine zw_Vi (n := 1) (rest := []) (wr := []) S0 (mX0_sumWith l D ad ci _ w u10.2.1 u10.2.2.1 u10.2.2.2 v hr10.2 k hk) q109 q111 qs6 q17 q112 (by decide +kernel) ⟨Nat.le_of_ble_eq_true rfl, Nat.le_of_ble_eq_true rfl⟩ ⟨rfl, rfl⟩ ⟨Nat.zero_le _, Nat.zero_le _⟩ hK hA hH [0, 1, 2, 3, 4] [] [0, 1, 2, 3] rfl rfl rfl (by decide) (by decide) (by decide) rfl rfl rfl rfl hl.1 rfl (Nat.le_of_ble_eq_true rfl) dX0_totalWith_15 (fun r15 u15 H locs hr15 hH => ?_)
      have hH : ZH D A s.heap (XW ad ci u15.1 u15.2.1 u15.2.2.1 u15.2.2.2) H locs := hH
      rw [hr15.2.1] at hH
      exact zw_iret (u := (w, u15.2.1, u15.2.2.1, u15.2.2.2)) hx hb hr hlocks hK hH (by unfold sp_with; rw [sp_ix_nI hk]; exact ⟨hr15.1, hv⟩) dX0_totalWith_18
    · have c4 : ¬ (0 = 0) := fun h => c4 ((nI_eq (a := 0) (b := 0) (by omega) (by omega)).mpr h)
      exfalso; omega
/-- canUse(x) -/
theorem mX0_canUse (l : Launch) (D : va_G) (ad : Nat → Nat) (ci : Nat → ClassId) (sz : Nat) (w mv us : Nat → Int32) (tb : Nat → Int64) (v : Nat → Nat) (hv : zv v w) (x : Int32) : ZMi l yX0_canUse cX0_canUse 3 (some .boolean) (zr 6) D (XT ci) (.ref (ad 0) :: [.int x]) sz (XW ad ci w mv us tb) (fun r (u : XS) => r = sp_can v x ∧ zv v u.1) (XU ad ci) := by
  unfold ZMi
  refine zw_met (own := RX0) (Qf := fun A => va_Qi (fun r (u : XS) => r = sp_can v x ∧ zv v u.1) (ZB D (XT ci) (XU ad ci) A) A) (by decide) rfl (Nat.le_of_ble_eq_true rfl) ?_
  intro p e s m below meth c A ls S0 hr hlocks hin hA hK hH hl
  obtain ⟨hx, hb, hml, hown, hts⟩ := id S0
  have hl : lv_has ls 3 [(0, .ref (ad 0)), (1, .int (x))] := hl
  refine lv_iload_n hx hb dX0_canUse_0 rfl (lv_at hl 1 rfl) ?_
  refine zw_Si (n := 1) (rest := []) S0 (mX0_bad l D _ x) q46 q47 q17 q48 (by decide +kernel) ⟨Nat.le_of_ble_eq_true rfl, Nat.le_of_ble_eq_true rfl⟩ ⟨rfl, rfl⟩ ⟨Nat.zero_le _, Nat.zero_le _⟩ hK hA hH rfl hl.1 rfl (Nat.le_of_ble_eq_true rfl) dX0_canUse_1 (fun r1 H locs hr1 hH => ?_)
  rcases hr1 with ⟨hr1, hbad⟩ | ⟨hr1, k, hk, hk1⟩
  · refine zw_i (nI (1)) (hr1) ?_
    refine lv_if_eq (tgt := 9) hx hb dX0_canUse_4 (by decide) (fun c4 => ?_) (fun c4 => ?_)
    · have c4 : 1 = 0 := (nI_eq (a := 1) (b := 0) (by omega) (by omega)).mp c4
      exfalso; omega
    · have c4 : ¬ (1 = 0) := fun h => c4 ((nI_eq (a := 1) (b := 0) (by omega) (by omega)).mpr h)
      refine lv_iconst (v := nI 0) hx hb dX0_canUse_7 (by decide) ?_
      exact zw_zret (u := (w, mv, us, tb)) hx hb hr hlocks hK hH (by decide) (by unfold sp_can; rw [sp_ix_bad hbad]; exact ⟨rfl, hv⟩) dX0_canUse_8
  · refine zw_i (nI (0)) (hr1) ?_
    subst hk1
    refine lv_if_eq (tgt := 9) hx hb dX0_canUse_4 (by decide) (fun c4 => ?_) (fun c4 => ?_)
    · have c4 : 0 = 0 := (nI_eq (a := 0) (b := 0) (by omega) (by omega)).mp c4
      refine lv_aload_n hx hb dX0_canUse_9 rfl (lv_at hl 0 rfl) ?_
      refine zw_Vv (n := 0) (rest := []) (wr := []) S0 (mX0_useOnes l D ad ci _ w mv us tb v hv) q125 q127 qs8 q17 q128 (by decide +kernel) ⟨Nat.le_of_ble_eq_true rfl, Nat.le_of_ble_eq_true rfl⟩ ⟨rfl, rfl⟩ ⟨Nat.zero_le _, Nat.zero_le _⟩ hK hA hH [0, 1, 2, 3, 4] [] [0, 1, 2, 3] rfl rfl rfl (by decide) (by decide) (by decide) rfl rfl rfl rfl hl.1 rfl (Nat.le_of_ble_eq_true rfl) dX0_canUse_10 (fun u10 H locs hr10 hH => ?_)
      have hH : ZH D A s.heap (XW ad ci u10.1 u10.2.1 u10.2.2.1 u10.2.2.2) H locs := hH
      rw [hr10.1] at hH
      refine lv_aload_n hx hb dX0_canUse_13 rfl (lv_at hl 0 rfl) ?_
      refine lv_iload_n hx hb dX0_canUse_14 rfl (lv_at hl 1 rfl) ?_
      refine zw_Vi (n := 1) (rest := []) (wr := []) S0 (mX0_sumWith l D ad ci _ w u10.2.1 u10.2.2.1 u10.2.2.2 (zt_ones v) hr10.2 k hk) q109 q111 qs6 q17 q112 (by decide +kernel) ⟨Nat.le_of_ble_eq_true rfl, Nat.le_of_ble_eq_true rfl⟩ ⟨rfl, rfl⟩ ⟨Nat.zero_le _, Nat.zero_le _⟩ hK hA hH [0, 1, 2, 3, 4] [] [0, 1, 2, 3] rfl rfl rfl (by decide) (by decide) (by decide) rfl rfl rfl rfl hl.1 rfl (Nat.le_of_ble_eq_true rfl) dX0_canUse_15 (fun r15 u15 H locs hr15 hH => ?_)
      have hH : ZH D A s.heap (XW ad ci u15.1 u15.2.1 u15.2.2.1 u15.2.2.2) H locs := hH
      rw [hr15.2.1] at hH
      refine zw_i (nI (zt_W (zt_ones v) (2 ^ k))) (hr15.1) ?_
      have hle := zt_W_le (zt_ones v) (2 ^ k)
      have hle2 := zv_T hr10.2
      have hon := zt_W_ones v (2 ^ k)
      refine lv_istore_n (lv' := [(2, .int _), (0, .ref _), (1, .int _)]) hx hb dX0_canUse_18 rfl hl (by decide) rfl (fun ls hl => ?_)
      refine lv_iload_n hx hb dX0_canUse_19 rfl (lv_at hl 0 rfl) ?_
      refine lv_if_le (tgt := 27) hx hb dX0_canUse_20 (by decide) (fun c20 => ?_) (fun c20 => ?_)
      · have c20 : zt_W (zt_ones v) (2 ^ k) ≤ 0 := (nI_leI (a := zt_W (zt_ones v) (2 ^ k)) (b := 0) (by omega) (by omega)).mp c20
        refine lv_iconst (v := nI 0) hx hb dX0_canUse_27 (by decide) ?_
        exact zw_zret (u := (w, u15.2.1, u15.2.2.1, u15.2.2.2)) hx hb hr hlocks hK hH (by decide) (by unfold sp_can; rw [sp_ix_nI hk]; dsimp only; rw [if_neg (by omega)]; exact ⟨rfl, hv⟩) dX0_canUse_28
      · have c20 : ¬ (zt_W (zt_ones v) (2 ^ k) ≤ 0) := fun h => c20 ((nI_leI (a := zt_W (zt_ones v) (2 ^ k)) (b := 0) (by omega) (by omega)).mpr h)
        refine lv_iconst (v := nI 1) hx hb dX0_canUse_23 (by decide) ?_
        refine lv_goto (tgt := 28) hx hb dX0_canUse_24 (by decide) ?_
        exact zw_zret (u := (w, u15.2.1, u15.2.2.1, u15.2.2.2)) hx hb hr hlocks hK hH (by decide) (by unfold sp_can; rw [sp_ix_nI hk]; dsimp only; rw [if_pos (by omega)]; exact ⟨rfl, hv⟩) dX0_canUse_28
    · have c4 : ¬ (0 = 0) := fun h => c4 ((nI_eq (a := 0) (b := 0) (by omega) (by omega)).mpr h)
      exfalso; omega
/-- totalWithBoth(x, y) -/
theorem mX0_totalWithBoth (l : Launch) (D : va_G) (ad : Nat → Nat) (ci : Nat → ClassId) (sz : Nat) (w mv us : Nat → Int32) (tb : Nat → Int64) (v : Nat → Nat) (hv : zv v w) (x y : Int32) : ZMi l yX0_totalWithBoth cX0_totalWithBoth 5 (some .int) (zr 6) D (XT ci) (.ref (ad 0) :: [.int x, .int y]) sz (XW ad ci w mv us tb) (fun r (u : XS) => r = sp_both v x y ∧ zv v u.1) (XU ad ci) := by
  unfold ZMi
  refine zw_met (own := RX0) (Qf := fun A => va_Qi (fun r (u : XS) => r = sp_both v x y ∧ zv v u.1) (ZB D (XT ci) (XU ad ci) A) A) (by decide) rfl (Nat.le_of_ble_eq_true rfl) ?_
  intro p e s m below meth c A ls S0 hr hlocks hin hA hK hH hl
  obtain ⟨hx, hb, hml, hown, hts⟩ := id S0
  have hl : lv_has ls 5 [(0, .ref (ad 0)), (1, .int (x)), (2, .int (y))] := hl
  refine lv_iload_n hx hb dX0_totalWithBoth_0 rfl (lv_at hl 1 rfl) ?_
  refine zw_Si (n := 1) (rest := []) S0 (mX0_bad l D _ x) q46 q47 q17 q48 (by decide +kernel) ⟨Nat.le_of_ble_eq_true rfl, Nat.le_of_ble_eq_true rfl⟩ ⟨rfl, rfl⟩ ⟨Nat.zero_le _, Nat.zero_le _⟩ hK hA hH rfl hl.1 rfl (Nat.le_of_ble_eq_true rfl) dX0_totalWithBoth_1 (fun r1 H locs hr1 hH => ?_)
  rcases hr1 with ⟨hr1, hbad⟩ | ⟨hr1, k, hk, hk1⟩
  · refine zw_i (nI (1)) (hr1) ?_
    refine lv_if_ne (tgt := 14) hx hb dX0_totalWithBoth_4 (by decide) (fun c4 => ?_) (fun c4 => ?_)
    · have c4 : ¬ (1 = 0) := fun h => c4 ((nI_eq (a := 1) (b := 0) (by omega) (by omega)).mpr h)
      refine lv_iconst (v := -1) hx hb dX0_totalWithBoth_14 (by decide) ?_
      exact zw_iret (u := (w, mv, us, tb)) hx hb hr hlocks hK hH (by unfold sp_both; rw [sp_ix_bad hbad]; exact ⟨rfl, hv⟩) dX0_totalWithBoth_15
    · have c4 : 1 = 0 := (nI_eq (a := 1) (b := 0) (by omega) (by omega)).mp c4
      exfalso; omega
  · refine zw_i (nI (0)) (hr1) ?_
    subst hk1
    refine lv_if_ne (tgt := 14) hx hb dX0_totalWithBoth_4 (by decide) (fun c4 => ?_) (fun c4 => ?_)
    · have c4 : ¬ (0 = 0) := fun h => c4 ((nI_eq (a := 0) (b := 0) (by omega) (by omega)).mpr h)
      exfalso; omega
    · have c4 : 0 = 0 := (nI_eq (a := 0) (b := 0) (by omega) (by omega)).mp c4
      refine lv_iload_n hx hb dX0_totalWithBoth_7 rfl (lv_at hl 2 rfl) ?_
      refine zw_Si (n := 1) (rest := []) S0 (mX0_bad l D _ y) q46 q47 q17 q48 (by decide +kernel) ⟨Nat.le_of_ble_eq_true rfl, Nat.le_of_ble_eq_true rfl⟩ ⟨rfl, rfl⟩ ⟨Nat.zero_le _, Nat.zero_le _⟩ hK hA hH rfl hl.1 rfl (Nat.le_of_ble_eq_true rfl) dX0_totalWithBoth_8 (fun r8 H locs hr8 hH => ?_)
      rcases hr8 with ⟨hr8, hbad⟩ | ⟨hr8, j, hj, hj1⟩
      · refine zw_i (nI (1)) (hr8) ?_
        refine lv_if_eq (tgt := 16) hx hb dX0_totalWithBoth_11 (by decide) (fun c11 => ?_) (fun c11 => ?_)
        · have c11 : 1 = 0 := (nI_eq (a := 1) (b := 0) (by omega) (by omega)).mp c11
          exfalso; omega
        · have c11 : ¬ (1 = 0) := fun h => c11 ((nI_eq (a := 1) (b := 0) (by omega) (by omega)).mpr h)
          refine lv_iconst (v := -1) hx hb dX0_totalWithBoth_14 (by decide) ?_
          exact zw_iret (u := (w, mv, us, tb)) hx hb hr hlocks hK hH (by unfold sp_both; rw [sp_ix_nI hk, sp_ix_bad hbad]; exact ⟨rfl, hv⟩) dX0_totalWithBoth_15
      · refine zw_i (nI (0)) (hr8) ?_
        subst hj1
        refine lv_if_eq (tgt := 16) hx hb dX0_totalWithBoth_11 (by decide) (fun c11 => ?_) (fun c11 => ?_)
        · have c11 : 0 = 0 := (nI_eq (a := 0) (b := 0) (by omega) (by omega)).mp c11
          refine lv_aload_n hx hb dX0_totalWithBoth_16 rfl (lv_at hl 0 rfl) ?_
          refine zw_Vv (n := 0) (rest := []) (wr := []) S0 (mX0_useWeights l D ad ci _ w mv us tb v hv) q78 q80 qs0 q17 q81 (by decide +kernel) ⟨Nat.le_of_ble_eq_true rfl, Nat.le_of_ble_eq_true rfl⟩ ⟨rfl, rfl⟩ ⟨Nat.zero_le _, Nat.zero_le _⟩ hK hA hH [0, 1, 2, 3, 4] [] [0, 1, 2, 3] rfl rfl rfl (by decide) (by decide) (by decide) rfl rfl rfl rfl hl.1 rfl (Nat.le_of_ble_eq_true rfl) dX0_totalWithBoth_17 (fun u17 H locs hr17 hH => ?_)
          have hH : ZH D A s.heap (XW ad ci u17.1 u17.2.1 u17.2.2.1 u17.2.2.2) H locs := hH
          rw [hr17.1] at hH
          refine lv_aload_n hx hb dX0_totalWithBoth_20 rfl (lv_at hl 0 rfl) ?_
          refine lv_iload_n hx hb dX0_totalWithBoth_21 rfl (lv_at hl 1 rfl) ?_
          refine zw_Vi (n := 1) (rest := []) (wr := []) S0 (mX0_sumWith l D ad ci _ w u17.2.1 u17.2.2.1 u17.2.2.2 v hr17.2 k hk) q109 q111 qs6 q17 q112 (by decide +kernel) ⟨Nat.le_of_ble_eq_true rfl, Nat.le_of_ble_eq_true rfl⟩ ⟨rfl, rfl⟩ ⟨Nat.zero_le _, Nat.zero_le _⟩ hK hA hH [0, 1, 2, 3, 4] [] [0, 1, 2, 3] rfl rfl rfl (by decide) (by decide) (by decide) rfl rfl rfl rfl hl.1 rfl (Nat.le_of_ble_eq_true rfl) dX0_totalWithBoth_22 (fun r22 u22 H locs hr22 hH => ?_)
          have hH : ZH D A s.heap (XW ad ci u22.1 u22.2.1 u22.2.2.1 u22.2.2.2) H locs := hH
          rw [hr22.2.1] at hH
          refine zw_i (nI (zt_W v (2 ^ k))) (hr22.1) ?_
          refine lv_istore_n (lv' := [(3, .int _), (0, .ref _), (1, .int _), (2, .int _)]) hx hb dX0_totalWithBoth_25 rfl hl (by decide) rfl (fun ls hl => ?_)
          refine lv_iload_n hx hb dX0_totalWithBoth_26 rfl (lv_at hl 2 rfl) ?_
          refine lv_iload_n hx hb dX0_totalWithBoth_27 rfl (lv_at hl 3 rfl) ?_
          refine lv_icmp_ne (tgt := 33) hx hb dX0_totalWithBoth_28 (by decide) (fun c28 => ?_) (fun c28 => ?_)
          · have c28 : ¬ (k = j) := fun h => c28 ((nI_eq (a := k) (b := j) (by omega) (by omega)).mpr h)
            refine lv_aload_n hx hb dX0_totalWithBoth_33 rfl (lv_at hl 1 rfl) ?_
            refine zx_g2 hx hb hts hown hK hH dX0_totalWithBoth_34 ?_
            refine lv_iload_n hx hb dX0_totalWithBoth_37 rfl (lv_at hl 3 rfl) ?_
            refine lv_iconst (v := nI 0) hx hb dX0_totalWithBoth_38 (by decide) ?_
            refine zx_s2 hx hb hK hH (j := j) (by omega) dX0_totalWithBoth_39 (fun H locs hH => ?_)
            refine lv_aload_n hx hb dX0_totalWithBoth_40 rfl (lv_at hl 1 rfl) ?_
            refine lv_iload_n hx hb dX0_totalWithBoth_41 rfl (lv_at hl 2 rfl) ?_
            refine zw_Vi (n := 1) (rest := []) (wr := []) S0 (mX0_sumWith l D ad ci _ w u22.2.1 (upd u22.2.2.1 j (nI 0)) u22.2.2.2 (zt_off v j) (zv_off hr22.2.2 j) k hk) q109 q111 qs6 q17 q112 (by decide +kernel) ⟨Nat.le_of_ble_eq_true rfl, Nat.le_of_ble_eq_true rfl⟩ ⟨rfl, rfl⟩ ⟨Nat.zero_le _, Nat.zero_le _⟩ hK hA hH [0, 1, 2, 3, 4] [] [0, 1, 2, 3] rfl rfl rfl (by decide) (by decide) (by decide) rfl rfl rfl rfl hl.1 rfl (Nat.le_of_ble_eq_true rfl) dX0_totalWithBoth_42 (fun r42 u42 H locs hr42 hH => ?_)
            have hH : ZH D A s.heap (XW ad ci u42.1 u42.2.1 u42.2.2.1 u42.2.2.2) H locs := hH
            rw [hr42.2.1] at hH
            refine zw_i (nI (zt_W (zt_off v j) (2 ^ k))) (hr42.1) ?_
            have h1 := zt_split1 v hk
            have h2 := zt_split1 (zt_off v j) hk
            have h3 := zt_split2 v hk hj
            refine lv_istore (lv' := [(4, .int _), (3, .int _), (0, .ref _), (1, .int _), (2, .int _)]) hx hb dX0_totalWithBoth_45 hl (by decide) rfl (fun ls hl => ?_)
            refine lv_iload_n hx hb dX0_totalWithBoth_47 rfl (lv_at hl 1 rfl) ?_
            refine lv_iload hx hb dX0_totalWithBoth_48 (lv_at hl 0 rfl) ?_
            refine lv_isub hx hb dX0_totalWithBoth_50 ?_
            refine zw_i (nI ((zt_W v (2 ^ k)) - (zt_W (zt_off v j) (2 ^ k)))) (pk_sub (by omega)) ?_
            refine zw_i (nI (zt_W v (2 ^ k ||| 2 ^ j))) (by rw [show zt_W v (2 ^ k) - zt_W (zt_off v j) (2 ^ k) = zt_W v (2 ^ k ||| 2 ^ j) by omega]) ?_
            exact zw_iret (u := (w, u42.2.1, u42.2.2.1, u42.2.2.2)) hx hb hr hlocks hK hH (by unfold sp_both; rw [sp_ix_nI hk, sp_ix_nI hj]; exact ⟨rfl, hv⟩) dX0_totalWithBoth_51
          · have c28 : k = j := (nI_eq (a := k) (b := j) (by omega) (by omega)).mp c28
            refine lv_iload_n hx hb dX0_totalWithBoth_31 rfl (lv_at hl 0 rfl) ?_
            exact zw_iret (u := (w, u22.2.1, u22.2.2.1, u22.2.2.2)) hx hb hr hlocks hK hH (by unfold sp_both; rw [sp_ix_nI hk, sp_ix_nI hj]; dsimp only; rw [← c28, Nat.or_self]; exact ⟨rfl, hv⟩) dX0_totalWithBoth_32
        · have c11 : ¬ (0 = 0) := fun h => c11 ((nI_eq (a := 0) (b := 0) (by omega) (by omega)).mpr h)
          exfalso; omega
/-- a loop of settled -/
theorem lX0_settled {p : Program} {l : Launch} {e : Env} {R : Room} {s : State} {m : MethodId} {args : Array Value} {below : List Frame} {meth : Method} {c : Code} {cells slots : Nat} {Q : State → Prop} {A : Nat → Prop} {D : va_G} {ad : Nat → Nat} {ci : Nat → ClassId} (S0 : CallFix p m c cX0_settled 5 s args lw_all RX0) (hA : ∀ q, s.heap.size ≤ q → A q) (hK : va_K D vwCl (XT ci) s) (hR : (zr 4).frames + 1 ≤ R.frames ∧ 8 + (4 + 11) + (zr 4).locals ≤ R.locals) (hf : cells ≤ R.cells ∧ slots ≤ R.slots) {w : Nat → Int32} {v : Nat → Nat}
    (K : ∀ (mv us : Nat → Int32) (tb : Nat → Int64) (H : Heap) (locs : List Loc) (ls : Array Slot), ZH D A s.heap (XW ad ci w mv us tb) H locs → lv_has ls 5 [(2, .int (nI (zt_sum (fun p => if zt_T (zt_off v p) = 0 then 1 else 0) 24)))] → W p l e R s m args below meth c H locs cells slots Q (F0 m 47 ls [])) :
    ∀ (n i : Nat) (mv us : Nat → Int32) (tb : Nat → Int64) (cn : Nat) (H : Heap) (locs : List Loc) (ls : Array Slot), i ≤ 24 → 24 + 1 ≤ i + n → zv v us → cn = zt_sum (fun p => if zt_T (zt_off v p) = 0 then 1 else 0) i → ZH D A s.heap (XW ad ci w mv us tb) H locs → lv_has ls 5 [(0, .ref (ad 0)), (2, .int (nI (cn))), (3, .int (nI (i)))] → W p l e R s m args below meth c H locs cells slots Q (F0 m 20 ls []) := by
  obtain ⟨hx, hb, hml, hown, hts⟩ := id S0
  intro n
  induction n with
  | zero =>
    intro i mv us tb cn H locs ls h1 h2
    exact absurd h2 (by omega)
  | succ n ih =>
    intro i mv us tb cn H locs ls hi hin hv hcn hH hl
    refine lv_iload_n hx hb dX0_settled_20 rfl (lv_at hl 2 rfl) ?_
    refine lv_bipush (v := nI 24) hx hb dX0_settled_21 (by decide) ?_
    refine lv_icmp_ge (tgt := 47) hx hb dX0_settled_23 (by decide) (fun c23 => ?_) (fun c23 => ?_)
    · have c23 : 24 ≤ i := (nI_leI (a := 24) (b := i) (by omega) (by omega)).mp c23
      have e24 : i = 24 := by omega
      subst e24
      subst hcn
      exact K mv us tb H locs ls hH (lv_sub hl [1] rfl)
    · have c23 : ¬ (24 ≤ i) := fun h => c23 ((nI_leI (a := 24) (b := i) (by omega) (by omega)).mpr h)
      refine lv_aload_n hx hb dX0_settled_26 rfl (lv_at hl 0 rfl) ?_
      refine lv_iload_n hx hb dX0_settled_27 rfl (lv_at hl 2 rfl) ?_
      refine zw_Vi (n := 1) (rest := []) (wr := []) S0 (mX0_sumWithout l D ad ci _ w mv us tb v hv i (by omega)) q113 q115 qs7 q17 q116 (by decide +kernel) hR ⟨rfl, rfl⟩ hf hK hA hH [0, 1, 2, 3, 4] [] [0, 1, 2, 3] rfl rfl rfl (by decide) (by decide) (by decide) rfl rfl rfl rfl hl.1 rfl (Nat.le_of_ble_eq_true rfl) dX0_settled_28 (fun r28 u28 H locs hr28 hH => ?_)
      have hH : ZH D A s.heap (XW ad ci u28.1 u28.2.1 u28.2.2.1 u28.2.2.2) H locs := hH
      rw [hr28.2.1] at hH
      refine zw_i (nI (zt_T (zt_off v i))) (hr28.1) ?_
      have hT := zt_T_lt (zt_off_le (p := i) (zv_4 hv))
      refine lv_istore (lv' := [(4, .int _), (0, .ref _), (2, .int _), (3, .int _)]) hx hb dX0_settled_31 hl (by decide) rfl (fun ls hl => ?_)
      refine lv_iload hx hb dX0_settled_33 (lv_at hl 0 rfl) ?_
      refine lv_if_ne (tgt := 41) hx hb dX0_settled_35 (by decide) (fun c35 => ?_) (fun c35 => ?_)
      · have c35 : ¬ (zt_T (zt_off v i) = 0) := fun h => c35 ((nI_eq (a := zt_T (zt_off v i)) (b := 0) (by omega) (by omega)).mpr h)
        refine lv_iinc (v := nI (i + 1)) (lv' := [(3, .int _), (4, .int _), (0, .ref _), (2, .int _)]) hx hb dX0_settled_41 hl (k := 3) rfl (nI_1 _) (by decide) rfl (fun ls hl => ?_)
        refine lv_goto (tgt := 20) hx hb dX0_settled_44 (by decide) ?_
        exact ih (i + 1) _ _ _ _ _ _ _ (by omega) (by omega) hr28.2.2 (by rw [hcn]; show _ = _ + (if zt_T (zt_off v i) = 0 then 1 else 0); rw [if_neg c35, Nat.add_zero]) hH (lv_sub hl [2, 3, 0] rfl)
      · have c35 : zt_T (zt_off v i) = 0 := (nI_eq (a := zt_T (zt_off v i)) (b := 0) (by omega) (by omega)).mp c35
        refine lv_iinc (v := nI (cn + 1)) (lv' := [(2, .int _), (4, .int _), (0, .ref _), (3, .int _)]) hx hb dX0_settled_38 hl (k := 2) rfl (nI_1 _) (by decide) rfl (fun ls hl => ?_)
        refine lv_iinc (v := nI (i + 1)) (lv' := [(3, .int _), (2, .int _), (4, .int _), (0, .ref _)]) hx hb dX0_settled_41 hl (k := 3) rfl (nI_1 _) (by decide) rfl (fun ls hl => ?_)
        refine lv_goto (tgt := 20) hx hb dX0_settled_44 (by decide) ?_
        exact ih (i + 1) _ _ _ _ _ _ _ (by omega) (by omega) hr28.2.2 (by rw [hcn]; show _ = _ + (if zt_T (zt_off v i) = 0 then 1 else 0); rw [if_pos c35]) hH (lv_sub hl [3, 1, 0] rfl)
/-- settled() -/
theorem mX0_settled (l : Launch) (D : va_G) (ad : Nat → Nat) (ci : Nat → ClassId) (sz : Nat) (w mv us : Nat → Int32) (tb : Nat → Int64) (v : Nat → Nat) (hv : zv v w)  : ZMi l yX0_settled cX0_settled 5 (some .int) (zr 5) D (XT ci) (.ref (ad 0) :: []) sz (XW ad ci w mv us tb) (fun r (u : XS) => r = nI (zt_set v) ∧ zv v u.1) (XU ad ci) := by
  unfold ZMi
  refine zw_met (own := RX0) (Qf := fun A => va_Qi (fun r (u : XS) => r = nI (zt_set v) ∧ zv v u.1) (ZB D (XT ci) (XU ad ci) A) A) (by decide) rfl (Nat.le_of_ble_eq_true rfl) ?_
  intro p e s m below meth c A ls S0 hr hlocks hin hA hK hH hl
  obtain ⟨hx, hb, hml, hown, hts⟩ := id S0
  have hl : lv_has ls 5 [(0, .ref (ad 0))] := hl
  refine lv_aload_n hx hb dX0_settled_0 rfl (lv_at hl 0 rfl) ?_
  refine zw_Vv (n := 0) (rest := []) (wr := []) S0 (mX0_useOnes l D ad ci _ w mv us tb v hv) q125 q127 qs8 q17 q128 (by decide +kernel) ⟨Nat.le_of_ble_eq_true rfl, Nat.le_of_ble_eq_true rfl⟩ ⟨rfl, rfl⟩ ⟨Nat.zero_le _, Nat.zero_le _⟩ hK hA hH [0, 1, 2, 3, 4] [] [0, 1, 2, 3] rfl rfl rfl (by decide) (by decide) (by decide) rfl rfl rfl rfl hl.1 rfl (Nat.le_of_ble_eq_true rfl) dX0_settled_1 (fun u1 H locs hr1 hH => ?_)
  have hH : ZH D A s.heap (XW ad ci u1.1 u1.2.1 u1.2.2.1 u1.2.2.2) H locs := hH
  rw [hr1.1] at hH
  refine lv_aload_n hx hb dX0_settled_4 rfl (lv_at hl 0 rfl) ?_
  refine zw_Vi (n := 0) (rest := []) (wr := []) S0 (mX0_sumUsed l D ad ci _ w u1.2.1 u1.2.2.1 u1.2.2.2 _ hr1.2) q82 q84 qs1 q17 q85 (by decide +kernel) ⟨Nat.le_of_ble_eq_true rfl, Nat.le_of_ble_eq_true rfl⟩ ⟨rfl, rfl⟩ ⟨Nat.zero_le _, Nat.zero_le _⟩ hK hA hH [0, 1, 2, 3, 4] [] [0, 1, 2, 3] rfl rfl rfl (by decide) (by decide) (by decide) rfl rfl rfl rfl hl.1 rfl (Nat.le_of_ble_eq_true rfl) dX0_settled_5 (fun r5 u5 H locs hr5 hH => ?_)
  have hH : ZH D A s.heap (XW ad ci u5.1 u5.2.1 u5.2.2.1 u5.2.2.2) H locs := hH
  rw [hr5.2.1, hr5.2.2.1, hr5.2.2.2] at hH
  refine zw_i (nI (zt_T (zt_ones v))) (hr5.1) ?_
  have hT := zv_T hr1.2
  refine lv_istore_n (lv' := [(1, .int _), (0, .ref _)]) hx hb dX0_settled_8 rfl hl (by decide) rfl (fun ls hl => ?_)
  refine lv_iload_n hx hb dX0_settled_9 rfl (lv_at hl 0 rfl) ?_
  refine lv_if_ne (tgt := 16) hx hb dX0_settled_10 (by decide) (fun c10 => ?_) (fun c10 => ?_)
  · have c10 : ¬ (zt_T (zt_ones v) = 0) := fun h => c10 ((nI_eq (a := zt_T (zt_ones v)) (b := 0) (by omega) (by omega)).mpr h)
    refine lv_iconst (v := nI 0) hx hb dX0_settled_16 (by decide) ?_
    refine lv_istore_n (lv' := [(2, .int _), (1, .int _), (0, .ref _)]) hx hb dX0_settled_17 rfl hl (by decide) rfl (fun ls hl => ?_)
    refine lv_iconst (v := nI 0) hx hb dX0_settled_18 (by decide) ?_
    refine lv_istore_n (lv' := [(3, .int _), (2, .int _), (1, .int _), (0, .ref _)]) hx hb dX0_settled_19 rfl hl (by decide) rfl (fun ls hl => ?_)
    refine lX0_settled S0 hA hK ⟨Nat.le_of_ble_eq_true rfl, Nat.le_of_ble_eq_true rfl⟩ ⟨Nat.zero_le _, Nat.zero_le _⟩ (v := zt_ones v) (fun mv us tb H locs ls hH hl => ?_) 25 0 _ _ _ _ _ _ _ (by omega) (by omega) hr1.2 rfl hH (lv_sub hl [3, 1, 0] rfl)
    refine lv_iload_n hx hb dX0_settled_47 rfl (lv_at hl 0 rfl) ?_
    exact zw_iret (u := (w, mv, us, tb)) hx hb hr hlocks hK hH (⟨by rw [zt_set_some], hv⟩) dX0_settled_48
  · have c10 : zt_T (zt_ones v) = 0 := (nI_eq (a := zt_T (zt_ones v)) (b := 0) (by omega) (by omega)).mp c10
    refine lv_bipush (v := nI 24) hx hb dX0_settled_13 (by decide) ?_
    exact zw_iret (u := (w, u1.2.1, u1.2.2.1, u5.2.2.2)) hx hb hr hlocks hK hH (⟨by rw [zt_set_all v c10], hv⟩) dX0_settled_15
/-- a loop of acrossTotal -/
theorem lX0_across {p : Program} {l : Launch} {e : Env} {R : Room} {s : State} {m : MethodId} {args : Array Value} {below : List Frame} {meth : Method} {c : Code} {cells slots : Nat} {Q : State → Prop} {A : Nat → Prop} {D : va_G} {ad : Nat → Nat} {ci : Nat → ClassId} (S0 : CallFix p m c cX0_acrossTotal 3 s args lw_all RX0) (hA : ∀ q, s.heap.size ≤ q → A q) (hK : va_K D vwCl (XT ci) s) (hR : (zr 5).frames + 1 ≤ R.frames ∧ 8 + (4 + 11) + (zr 5).locals ≤ R.locals) (hf : cells ≤ R.cells ∧ slots ≤ R.slots) {w : Nat → Int32} {v : Nat → Nat}
    (K : ∀ (mv us : Nat → Int32) (tb : Nat → Int64) (H : Heap) (locs : List Loc) (ls : Array Slot), ZH D A s.heap (XW ad ci w mv us tb) H locs → lv_has ls 3 [(1, .int (nI (zt_sum (fun p => zt_W v (2 ^ p)) 12)))] → W p l e R s m args below meth c H locs cells slots Q (F0 m 28 ls [])) :
    ∀ (n i : Nat) (mv us : Nat → Int32) (tb : Nat → Int64) (cn : Nat) (H : Heap) (locs : List Loc) (ls : Array Slot), i ≤ 12 → 12 + 1 ≤ i + n → zv v us → cn = zt_sum (fun p => zt_W v (2 ^ p)) i → ZH D A s.heap (XW ad ci w mv us tb) H locs → lv_has ls 3 [(0, .ref (ad 0)), (1, .int (nI (cn))), (2, .int (nI (i)))] → W p l e R s m args below meth c H locs cells slots Q (F0 m 8 ls []) := by
  obtain ⟨hx, hb, hml, hown, hts⟩ := id S0
  intro n
  induction n with
  | zero =>
    intro i mv us tb cn H locs ls h1 h2
    exact absurd h2 (by omega)
  | succ n ih =>
    intro i mv us tb cn H locs ls hi hin hv hcn hH hl
    refine lv_iload_n hx hb dX0_acrossTotal_8 rfl (lv_at hl 2 rfl) ?_
    refine lv_bipush (v := nI 12) hx hb dX0_acrossTotal_9 (by decide) ?_
    refine lv_icmp_ge (tgt := 28) hx hb dX0_acrossTotal_11 (by decide) (fun c11 => ?_) (fun c11 => ?_)
    · have c11 : 12 ≤ i := (nI_leI (a := 12) (b := i) (by omega) (by omega)).mp c11
      have e12 : i = 12 := by omega
      subst e12
      subst hcn
      exact K mv us tb H locs ls hH (lv_sub hl [1] rfl)
    · have c11 : ¬ (12 ≤ i) := fun h => c11 ((nI_leI (a := 12) (b := i) (by omega) (by omega)).mpr h)
      refine lv_iload_n hx hb dX0_acrossTotal_14 rfl (lv_at hl 1 rfl) ?_
      refine lv_aload_n hx hb dX0_acrossTotal_15 rfl (lv_at hl 0 rfl) ?_
      refine lv_iload_n hx hb dX0_acrossTotal_16 rfl (lv_at hl 2 rfl) ?_
      refine zw_Vi (n := 1) (rest := [.int _]) (wr := []) S0 (mX0_sumWith l D ad ci _ w mv us tb v hv i (by omega)) q109 q111 qs6 q17 q112 (by decide +kernel) hR ⟨rfl, rfl⟩ hf hK hA hH [0, 1, 2, 3, 4] [] [0, 1, 2, 3] rfl rfl rfl (by decide) (by decide) (by decide) rfl rfl rfl rfl hl.1 rfl (Nat.le_of_ble_eq_true rfl) dX0_acrossTotal_17 (fun r17 u17 H locs hr17 hH => ?_)
      have hH : ZH D A s.heap (XW ad ci u17.1 u17.2.1 u17.2.2.1 u17.2.2.2) H locs := hH
      rw [hr17.2.1] at hH
      refine zw_i (nI (zt_W v (2 ^ i))) (hr17.1) ?_
      refine lv_iadd hx hb dX0_acrossTotal_20 ?_
      refine zw_i (nI (cn + (zt_W v (2 ^ i)))) (nI_add _ _) ?_
      refine lv_istore_n (lv' := [(1, .int _), (0, .ref _), (2, .int _)]) hx hb dX0_acrossTotal_21 rfl hl (by decide) rfl (fun ls hl => ?_)
      refine lv_iinc (v := nI (i + 1)) (lv' := [(2, .int _), (1, .int _), (0, .ref _)]) hx hb dX0_acrossTotal_22 hl (k := 2) rfl (nI_1 _) (by decide) rfl (fun ls hl => ?_)
      refine lv_goto (tgt := 8) hx hb dX0_acrossTotal_25 (by decide) ?_
      exact ih (i + 1) _ _ _ _ _ _ _ (by omega) (by omega) hr17.2.2 (by rw [hcn]; rfl) hH (lv_sub hl [2, 1, 0] rfl)
/-- acrossTotal() -/
theorem mX0_acrossTotal (l : Launch) (D : va_G) (ad : Nat → Nat) (ci : Nat → ClassId) (sz : Nat) (w mv us : Nat → Int32) (tb : Nat → Int64) (v : Nat → Nat) (hv : zv v w)  : ZMi l yX0_acrossTotal cX0_acrossTotal 3 (some .int) (zr 6) D (XT ci) (.ref (ad 0) :: []) sz (XW ad ci w mv us tb) (fun r (u : XS) => r = sp_across v ∧ zv v u.1) (XU ad ci) := by
  unfold ZMi
  refine zw_met (own := RX0) (Qf := fun A => va_Qi (fun r (u : XS) => r = sp_across v ∧ zv v u.1) (ZB D (XT ci) (XU ad ci) A) A) (by decide) rfl (Nat.le_of_ble_eq_true rfl) ?_
  intro p e s m below meth c A ls S0 hr hlocks hin hA hK hH hl
  obtain ⟨hx, hb, hml, hown, hts⟩ := id S0
  have hl : lv_has ls 3 [(0, .ref (ad 0))] := hl
  refine lv_aload_n hx hb dX0_acrossTotal_0 rfl (lv_at hl 0 rfl) ?_
  refine zw_Vv (n := 0) (rest := []) (wr := []) S0 (mX0_useWeights l D ad ci _ w mv us tb v hv) q78 q80 qs0 q17 q81 (by decide +kernel) ⟨Nat.le_of_ble_eq_true rfl, Nat.le_of_ble_eq_true rfl⟩ ⟨rfl, rfl⟩ ⟨Nat.zero_le _, Nat.zero_le _⟩ hK hA hH [0, 1, 2, 3, 4] [] [0, 1, 2, 3] rfl rfl rfl (by decide) (by decide) (by decide) rfl rfl rfl rfl hl.1 rfl (Nat.le_of_ble_eq_true rfl) dX0_acrossTotal_1 (fun u1 H locs hr1 hH => ?_)
  have hH : ZH D A s.heap (XW ad ci u1.1 u1.2.1 u1.2.2.1 u1.2.2.2) H locs := hH
  rw [hr1.1] at hH
  refine lv_iconst (v := nI 0) hx hb dX0_acrossTotal_4 (by decide) ?_
  refine lv_istore_n (lv' := [(1, .int _), (0, .ref _)]) hx hb dX0_acrossTotal_5 rfl hl (by decide) rfl (fun ls hl => ?_)
  refine lv_iconst (v := nI 0) hx hb dX0_acrossTotal_6 (by decide) ?_
  refine lv_istore_n (lv' := [(2, .int _), (1, .int _), (0, .ref _)]) hx hb dX0_acrossTotal_7 rfl hl (by decide) rfl (fun ls hl => ?_)
  refine lX0_across S0 hA hK ⟨Nat.le_of_ble_eq_true rfl, Nat.le_of_ble_eq_true rfl⟩ ⟨Nat.zero_le _, Nat.zero_le _⟩ (v := v) (fun mv us tb H locs ls hH hl => ?_) 13 0 _ _ _ _ _ _ _ (by omega) (by omega) hr1.2 rfl hH (lv_sub hl [2, 1, 0] rfl)
  refine lv_iload_n hx hb dX0_acrossTotal_28 rfl (lv_at hl 0 rfl) ?_
  exact zw_iret (u := (w, mv, us, tb)) hx hb hr hlocks hK hH (⟨rfl, hv⟩) dX0_acrossTotal_29
end
section
/-! DimerCounterModel: weights -/
set_option maxRecDepth 100000
theorem zn_gt23 {x : Int32} (h : ¬ x ≤ nI 23) : nI 24 ≤ x := by
  have h1 := Int32.lt_iff_toInt_lt.mp (zn_nle h)
  rw [nI_toInt (by decide)] at h1
  rw [Int32.le_iff_toInt_le, nI_toInt (by decide)]
  omega
theorem zn_ngt {x y : Int32} (h : ¬ y < x) : x ≤ y := Int32.le_iff_toInt_le.mpr (Int.not_lt.mp (fun q => h (Int32.lt_iff_toInt_lt.mpr q)))
/-- bad(x) -/
theorem mX1_bad (l : Launch) (D : va_G) (ad : Nat → Nat) (ci : Nat → ClassId) (sz : Nat) (w ol : Nat → Int32) (x : Int32) : ZMi l yX1_bad cX1_bad 2 (some .boolean) (zr 0) D (YT ci) (.ref (ad 0) :: [.int x]) sz (YW ad ci w ol) (fun r (u : YS) => zf_bad r x ∧ u.1 = w ∧ u.2 = ol) (YU ad ci) := by
  unfold ZMi
  refine zw_met (own := RX1) (Qf := fun A => va_Qi (fun r (u : YS) => zf_bad r x ∧ u.1 = w ∧ u.2 = ol) (ZB D (YT ci) (YU ad ci) A) A) (by decide) rfl (Nat.le_of_ble_eq_true rfl) ?_
  intro p e s m below meth c A ls S0 hr hlocks hin hA hK hH hl
  obtain ⟨hx, hb, hml, hown, hts⟩ := id S0
  have hl : lv_has ls 2 [(0, .ref (ad 0)), (1, .int (x))] := hl
  refine lv_iload_n hx hb dX1_bad_0 rfl (lv_at hl 1 rfl) ?_
  refine lv_if_lt (tgt := 10) hx hb dX1_bad_1 (by decide) (fun c1 => ?_) (fun c1 => ?_)
  · refine lv_iconst (v := nI 1) hx hb dX1_bad_10 (by decide) ?_
    refine lv_goto (tgt := 15) hx hb dX1_bad_11 (by decide) ?_
    exact zw_zret (u := (w, ol)) hx hb hr hlocks hK hH (by decide) (⟨Or.inl ⟨rfl, Or.inl c1⟩, rfl, rfl⟩) dX1_bad_15
  · refine lv_iload_n hx hb dX1_bad_4 rfl (lv_at hl 1 rfl) ?_
    refine lv_bipush (v := nI 23) hx hb dX1_bad_5 (by decide) ?_
    refine lv_icmp_le (tgt := 14) hx hb dX1_bad_7 (by decide) (fun c7 => ?_) (fun c7 => ?_)
    · refine lv_iconst (v := nI 0) hx hb dX1_bad_14 (by decide) ?_
      exact zw_zret (u := (w, ol)) hx hb hr hlocks hK hH (by decide) (by
          obtain ⟨j, hj, hj1⟩ := zn_upto 23 (by decide) c1 (zn_le_nlt c7)
          exact ⟨Or.inr ⟨rfl, j, by omega, hj1⟩, rfl, rfl⟩) dX1_bad_15
    · refine lv_iconst (v := nI 1) hx hb dX1_bad_10 (by decide) ?_
      refine lv_goto (tgt := 15) hx hb dX1_bad_11 (by decide) ?_
      exact zw_zret (u := (w, ol)) hx hb hr hlocks hK hH (by decide) (⟨Or.inl ⟨rfl, Or.inr (zn_gt23 c7)⟩, rfl, rfl⟩) dX1_bad_15
/-- first(k) -/
theorem mX1_first (l : Launch) (D : va_G) (ad : Nat → Nat) (ci : Nat → ClassId) (sz : Nat) (w ol : Nat → Int32) (k : Nat) (hk : k < 24) : ZMi l yX1_first cX1_first 2 (some .int) (zr 0) D (YT ci) (.ref (ad 0) :: [.int (nI k)]) sz (YW ad ci w ol) (fun r (u : YS) => r = nI (zk_fs k) ∧ u.1 = w ∧ u.2 = ol) (YU ad ci) := by
  unfold ZMi
  refine zw_met (own := RX1) (Qf := fun A => va_Qi (fun r (u : YS) => r = nI (zk_fs k) ∧ u.1 = w ∧ u.2 = ol) (ZB D (YT ci) (YU ad ci) A) A) (by decide) rfl (Nat.le_of_ble_eq_true rfl) ?_
  intro p e s m below meth c A ls S0 hr hlocks hin hA hK hH hl
  obtain ⟨hx, hb, hml, hown, hts⟩ := id S0
  have hl : lv_has ls 2 [(0, .ref (ad 0)), (1, .int (nI (k)))] := hl
  refine lv_iload_n hx hb dX1_first_0 rfl (lv_at hl 1 rfl) ?_
  refine lv_bipush (v := nI 12) hx hb dX1_first_1 (by decide) ?_
  refine lv_icmp_ge (tgt := 18) hx hb dX1_first_3 (by decide) (fun c3 => ?_) (fun c3 => ?_)
  · have c3 : 12 ≤ k := (nI_leI (a := 12) (b := k) (by omega) (by omega)).mp c3
    refine lv_iload_n hx hb dX1_first_18 rfl (lv_at hl 1 rfl) ?_
    refine lv_bipush (v := nI 12) hx hb dX1_first_19 (by decide) ?_
    refine lv_isub hx hb dX1_first_21 ?_
    refine zw_i (nI (k - 12)) (pk_sub (by omega)) ?_
    exact zw_iret (u := (w, ol)) hx hb hr hlocks hK hH (⟨by rw [zk_fs_of c3], rfl, rfl⟩) dX1_first_22
  · have c3 : ¬ (12 ≤ k) := fun h => c3 ((nI_leI (a := 12) (b := k) (by omega) (by omega)).mpr h)
    refine lv_iload_n hx hb dX1_first_6 rfl (lv_at hl 1 rfl) ?_
    refine lv_iconst (v := nI 3) hx hb dX1_first_7 (by decide) ?_
    refine lv_idiv hx hb dX1_first_8 (by decide) ?_
    refine zw_i (nI (k / 3)) (pk_div (by omega) (by decide) (by decide)) ?_
    refine lv_iconst (v := nI 4) hx hb dX1_first_9 (by decide) ?_
    refine lv_imul hx hb dX1_first_10 ?_
    refine zw_i (nI ((k / 3) * 4)) (pk_mul _ _) ?_
    refine lv_iload_n hx hb dX1_first_11 rfl (lv_at hl 1 rfl) ?_
    refine lv_iconst (v := nI 3) hx hb dX1_first_12 (by decide) ?_
    refine lv_irem hx hb dX1_first_13 (by decide) ?_
    refine zw_i (nI (k % 3)) (pk_rem (by omega) (by decide) (by decide)) ?_
    refine lv_iadd hx hb dX1_first_14 ?_
    refine zw_i (nI (((k / 3) * 4) + (k % 3))) (nI_add _ _) ?_
    refine lv_goto (tgt := 22) hx hb dX1_first_15 (by decide) ?_
    exact zw_iret (u := (w, ol)) hx hb hr hlocks hK hH (⟨by rw [zk_fs_lo c3], rfl, rfl⟩) dX1_first_22
/-- covers(k, q) -/
theorem mX1_covers (l : Launch) (D : va_G) (ad : Nat → Nat) (ci : Nat → ClassId) (sz : Nat) (w ol : Nat → Int32) (k q : Nat) (hk : k < 24) (hq : q < 16) : ZMi l yX1_covers cX1_covers 4 (some .boolean) (zr 1) D (YT ci) (.ref (ad 0) :: [.int (nI k), .int (nI q)]) sz (YW ad ci w ol) (fun r (u : YS) => (r = if sp_cov k q = true then nI 1 else nI 0) ∧ u.1 = w ∧ u.2 = ol) (YU ad ci) := by
  unfold ZMi
  refine zw_met (own := RX1) (Qf := fun A => va_Qi (fun r (u : YS) => (r = if sp_cov k q = true then nI 1 else nI 0) ∧ u.1 = w ∧ u.2 = ol) (ZB D (YT ci) (YU ad ci) A) A) (by decide) rfl (Nat.le_of_ble_eq_true rfl) ?_
  intro p e s m below meth c A ls S0 hr hlocks hin hA hK hH hl
  obtain ⟨hx, hb, hml, hown, hts⟩ := id S0
  have hl : lv_has ls 4 [(0, .ref (ad 0)), (1, .int (nI (k))), (2, .int (nI (q)))] := hl
  have hfs := zk_fs_lt k hk
  have hss := zk_ss_lt k hk
  refine lv_aload_n hx hb dX1_covers_0 rfl (lv_at hl 0 rfl) ?_
  refine lv_iload_n hx hb dX1_covers_1 rfl (lv_at hl 1 rfl) ?_
  refine zw_Vi (n := 1) (rest := []) (wr := []) S0 (mX1_first l D ad ci _ w ol k hk) q178 q180 qs11 q18 q181 (by decide +kernel) ⟨Nat.le_of_ble_eq_true rfl, Nat.le_of_ble_eq_true rfl⟩ ⟨rfl, rfl⟩ ⟨Nat.zero_le _, Nat.zero_le _⟩ hK hA hH [0, 1, 2] [] [0, 1] rfl rfl rfl (by decide) (by decide) (by decide) rfl rfl rfl rfl hl.1 rfl (Nat.le_of_ble_eq_true rfl) dX1_covers_2 (fun r2 u2 H locs hr2 hH => ?_)
  have hH : ZH D A s.heap (YW ad ci u2.1 u2.2) H locs := hH
  rw [hr2.2.1, hr2.2.2] at hH
  refine zw_i (nI (zk_fs k)) (hr2.1) ?_
  refine lv_istore_n (lv' := [(3, .int _), (0, .ref _), (1, .int _), (2, .int _)]) hx hb dX1_covers_5 rfl hl (by decide) rfl (fun ls hl => ?_)
  refine lv_iload_n hx hb dX1_covers_6 rfl (lv_at hl 3 rfl) ?_
  refine lv_iload_n hx hb dX1_covers_7 rfl (lv_at hl 0 rfl) ?_
  refine lv_icmp_eq (tgt := 28) hx hb dX1_covers_8 (by decide) (fun c8 => ?_) (fun c8 => ?_)
  · have c8 : q = zk_fs k := (nI_eq (a := q) (b := zk_fs k) (by omega) (by omega)).mp c8
    refine lv_iconst (v := nI 1) hx hb dX1_covers_28 (by decide) ?_
    refine lv_goto (tgt := 33) hx hb dX1_covers_29 (by decide) ?_
    exact zw_zret (u := (w, ol)) hx hb hr hlocks hK hH (by decide) (⟨by unfold sp_cov; rw [zn_beq c8, Bool.true_or, if_pos rfl], rfl, rfl⟩) dX1_covers_33
  · have c8 : ¬ (q = zk_fs k) := fun h => c8 ((nI_eq (a := q) (b := zk_fs k) (by omega) (by omega)).mpr h)
    refine lv_iload_n hx hb dX1_covers_11 rfl (lv_at hl 3 rfl) ?_
    refine lv_iload_n hx hb dX1_covers_12 rfl (lv_at hl 0 rfl) ?_
    refine lv_iload_n hx hb dX1_covers_13 rfl (lv_at hl 2 rfl) ?_
    refine lv_bipush (v := nI 12) hx hb dX1_covers_14 (by decide) ?_
    refine lv_icmp_ge (tgt := 23) hx hb dX1_covers_16 (by decide) (fun c16 => ?_) (fun c16 => ?_)
    · have c16 : 12 ≤ k := (nI_leI (a := 12) (b := k) (by omega) (by omega)).mp c16
      refine lv_iconst (v := nI 4) hx hb dX1_covers_23 (by decide) ?_
      refine lv_iadd hx hb dX1_covers_24 ?_
      refine zw_i (nI ((zk_fs k) + 4)) (nI_add _ _) ?_
      refine zw_i (nI (zk_ss k)) (by rw [zk_ss_of c16]) ?_
      refine lv_icmp_ne (tgt := 32) hx hb dX1_covers_25 (by decide) (fun c25 => ?_) (fun c25 => ?_)
      · have c25 : ¬ (q = zk_ss k) := fun h => c25 ((nI_eq (a := q) (b := zk_ss k) (by omega) (by omega)).mpr h)
        refine lv_iconst (v := nI 0) hx hb dX1_covers_32 (by decide) ?_
        exact zw_zret (u := (w, ol)) hx hb hr hlocks hK hH (by decide) (⟨by unfold sp_cov; rw [zn_bne c8, zn_bne c25]; rfl, rfl, rfl⟩) dX1_covers_33
      · have c25 : q = zk_ss k := (nI_eq (a := q) (b := zk_ss k) (by omega) (by omega)).mp c25
        refine lv_iconst (v := nI 1) hx hb dX1_covers_28 (by decide) ?_
        refine lv_goto (tgt := 33) hx hb dX1_covers_29 (by decide) ?_
        exact zw_zret (u := (w, ol)) hx hb hr hlocks hK hH (by decide) (⟨by unfold sp_cov; rw [zn_beq c25, Bool.or_true, if_pos rfl], rfl, rfl⟩) dX1_covers_33
    · have c16 : ¬ (12 ≤ k) := fun h => c16 ((nI_leI (a := 12) (b := k) (by omega) (by omega)).mpr h)
      refine lv_iconst (v := nI 1) hx hb dX1_covers_19 (by decide) ?_
      refine lv_goto (tgt := 24) hx hb dX1_covers_20 (by decide) ?_
      refine lv_iadd hx hb dX1_covers_24 ?_
      refine zw_i (nI ((zk_fs k) + 1)) (nI_add _ _) ?_
      refine zw_i (nI (zk_ss k)) (by rw [zk_ss_lo c16]) ?_
      refine lv_icmp_ne (tgt := 32) hx hb dX1_covers_25 (by decide) (fun c25 => ?_) (fun c25 => ?_)
      · have c25 : ¬ (q = zk_ss k) := fun h => c25 ((nI_eq (a := q) (b := zk_ss k) (by omega) (by omega)).mpr h)
        refine lv_iconst (v := nI 0) hx hb dX1_covers_32 (by decide) ?_
        exact zw_zret (u := (w, ol)) hx hb hr hlocks hK hH (by decide) (⟨by unfold sp_cov; rw [zn_bne c8, zn_bne c25]; rfl, rfl, rfl⟩) dX1_covers_33
      · have c25 : q = zk_ss k := (nI_eq (a := q) (b := zk_ss k) (by omega) (by omega)).mp c25
        refine lv_iconst (v := nI 1) hx hb dX1_covers_28 (by decide) ?_
        refine lv_goto (tgt := 33) hx hb dX1_covers_29 (by decide) ?_
        exact zw_zret (u := (w, ol)) hx hb hr hlocks hK hH (by decide) (⟨by unfold sp_cov; rw [zn_beq c25, Bool.or_true, if_pos rfl], rfl, rfl⟩) dX1_covers_33
/-- weight(x, y) -/
theorem mX1_weight (l : Launch) (D : va_G) (ad : Nat → Nat) (ci : Nat → ClassId) (sz : Nat) (w ol : Nat → Int32) (v : Nat → Nat) (hv : zv v w) (x y : Int32) : ZMi l yX1_weight cX1_weight 4 (some .int) (zr 1) D (YT ci) (.ref (ad 0) :: [.int x, .int y]) sz (YW ad ci w ol) (fun r (u : YS) => r = (sp_weight v x y).1 ∧ zv (sp_weight v x y).2 u.1) (YU ad ci) := by
  unfold ZMi
  refine zw_met (own := RX1) (Qf := fun A => va_Qi (fun r (u : YS) => r = (sp_weight v x y).1 ∧ zv (sp_weight v x y).2 u.1) (ZB D (YT ci) (YU ad ci) A) A) (by decide) rfl (Nat.le_of_ble_eq_true rfl) ?_
  intro p e s m below meth c A ls S0 hr hlocks hin hA hK hH hl
  obtain ⟨hx, hb, hml, hown, hts⟩ := id S0
  have hl : lv_has ls 4 [(0, .ref (ad 0)), (1, .int (x)), (2, .int (y))] := hl
  refine lv_aload_n hx hb dX1_weight_0 rfl (lv_at hl 0 rfl) ?_
  refine lv_iload_n hx hb dX1_weight_1 rfl (lv_at hl 1 rfl) ?_
  refine zw_Vi (n := 1) (rest := []) (wr := []) S0 (mX1_bad l D ad ci _ w ol x) q158 q160 qs9 q18 q161 (by decide +kernel) ⟨Nat.le_of_ble_eq_true rfl, Nat.le_of_ble_eq_true rfl⟩ ⟨rfl, rfl⟩ ⟨Nat.zero_le _, Nat.zero_le _⟩ hK hA hH [0, 1, 2] [] [0, 1] rfl rfl rfl (by decide) (by decide) (by decide) rfl rfl rfl rfl hl.1 rfl (Nat.le_of_ble_eq_true rfl) dX1_weight_2 (fun r2 u2 H locs hr2 hH => ?_)
  have hH : ZH D A s.heap (YW ad ci u2.1 u2.2) H locs := hH
  rw [hr2.2.1, hr2.2.2] at hH
  rcases hr2.1 with ⟨hr2, hbad⟩ | ⟨hr2, k, hk, hk1⟩
  · refine zw_i (nI (1)) (hr2) ?_
    refine lv_if_eq (tgt := 10) hx hb dX1_weight_5 (by decide) (fun c5 => ?_) (fun c5 => ?_)
    · have c5 : 1 = 0 := (nI_eq (a := 1) (b := 0) (by omega) (by omega)).mp c5
      exfalso; omega
    · have c5 : ¬ (1 = 0) := fun h => c5 ((nI_eq (a := 1) (b := 0) (by omega) (by omega)).mpr h)
      refine lv_iconst (v := -1) hx hb dX1_weight_8 (by decide) ?_
      exact zw_iret (u := (w, ol)) hx hb hr hlocks hK hH (by unfold sp_weight; rw [sp_ix_bad hbad]; exact ⟨rfl, hv⟩) dX1_weight_9
  · refine zw_i (nI (0)) (hr2) ?_
    subst hk1
    refine lv_if_eq (tgt := 10) hx hb dX1_weight_5 (by decide) (fun c5 => ?_) (fun c5 => ?_)
    · have c5 : 0 = 0 := (nI_eq (a := 0) (b := 0) (by omega) (by omega)).mp c5
      refine lv_iload_n hx hb dX1_weight_10 rfl (lv_at hl 2 rfl) ?_
      refine lv_if_lt (tgt := 19) hx hb dX1_weight_11 (by decide) (fun c11 => ?_) (fun c11 => ?_)
      · refine lv_bipush (v := -2) hx hb dX1_weight_19 (by decide) ?_
        exact zw_iret (u := (w, ol)) hx hb hr hlocks hK hH (by unfold sp_weight; rw [sp_ix_nI hk, sp_wgt_bad (Or.inl c11)]; exact ⟨rfl, hv⟩) dX1_weight_21
      · refine lv_iload_n hx hb dX1_weight_14 rfl (lv_at hl 2 rfl) ?_
        refine lv_iconst (v := nI 4) hx hb dX1_weight_15 (by decide) ?_
        refine lv_icmp_le (tgt := 22) hx hb dX1_weight_16 (by decide) (fun c16 => ?_) (fun c16 => ?_)
        · obtain ⟨j, hj, hj1⟩ := zn_upto 4 (by decide) c11 (zn_le_nlt c16)
          subst hj1
          refine lv_aload_n hx hb dX1_weight_22 rfl (lv_at hl 0 rfl) ?_
          refine zy_g0 hx hb hts hown hK hH dX1_weight_23 ?_
          refine lv_iload_n hx hb dX1_weight_26 rfl (lv_at hl 1 rfl) ?_
          refine zy_l0 hx hb hK hH (j := k) (by omega) dX1_weight_27 ?_
          refine lv_istore_n (lv' := [(3, .int _), (0, .ref _), (1, .int _), (2, .int _)]) hx hb dX1_weight_28 rfl hl (by decide) rfl (fun ls hl => ?_)
          refine lv_aload_n hx hb dX1_weight_29 rfl (lv_at hl 1 rfl) ?_
          refine zy_g0 hx hb hts hown hK hH dX1_weight_30 ?_
          refine lv_iload_n hx hb dX1_weight_33 rfl (lv_at hl 2 rfl) ?_
          refine lv_iload_n hx hb dX1_weight_34 rfl (lv_at hl 3 rfl) ?_
          refine zy_s0 hx hb hK hH (j := k) (by omega) dX1_weight_35 (fun H locs hH => ?_)
          refine lv_iload_n hx hb dX1_weight_36 rfl (lv_at hl 0 rfl) ?_
          exact zw_iret (u := ((upd w (k) (nI (j))), ol)) hx hb hr hlocks hK hH (by unfold sp_weight; rw [sp_ix_nI hk, sp_wgt_nI hj]; exact ⟨(hv k hk).1, zv_put hv hj⟩) dX1_weight_37
        · refine lv_bipush (v := -2) hx hb dX1_weight_19 (by decide) ?_
          exact zw_iret (u := (w, ol)) hx hb hr hlocks hK hH (by unfold sp_weight; rw [sp_ix_nI hk, sp_wgt_bad (Or.inr (zn_nle c16))]; exact ⟨rfl, hv⟩) dX1_weight_21
    · have c5 : ¬ (0 = 0) := fun h => c5 ((nI_eq (a := 0) (b := 0) (by omega) (by omega)).mpr h)
      exfalso; omega
/-- a loop of all -/
theorem lX1_all {p : Program} {l : Launch} {e : Env} {R : Room} {s : State} {m : MethodId} {args : Array Value} {below : List Frame} {meth : Method} {c : Code} {cells slots : Nat} {Q : State → Prop} {A : Nat → Prop} {D : va_G} {ad : Nat → Nat} {ci : Nat → ClassId} (S0 : CallFix p m c cX1_all 3 s args lw_all RX1) (hA : ∀ q, s.heap.size ≤ q → A q) (hK : va_K D vwCl (YT ci) s) {x : Int32} {ol : Nat → Int32}
    (K : ∀ (f : Nat → Int32) (H : Heap) (locs : List Loc) (ls : Array Slot), (∀ j, j < 24 → f j = x) → ZH D A s.heap (YW ad ci f ol) H locs → W p l e R s m args below meth c H locs cells slots Q (F0 m 33 ls [])) :
    ∀ (n i : Nat) (f : Nat → Int32) (H : Heap) (locs : List Loc) (ls : Array Slot), i ≤ 24 → 24 + 1 ≤ i + n → (∀ j, j < i → f j = x) → ZH D A s.heap (YW ad ci f ol) H locs → lv_has ls 3 [(0, .ref (ad 0)), (1, .int (x)), (2, .int (nI (i)))] → W p l e R s m args below meth c H locs cells slots Q (F0 m 14 ls []) := by
  obtain ⟨hx, hb, hml, hown, hts⟩ := id S0
  intro n
  induction n with
  | zero =>
    intro i f H locs ls h1 h2
    exact absurd h2 (by omega)
  | succ n ih =>
    intro i f H locs ls hi hin hf1 hH hl
    refine lv_iload_n hx hb dX1_all_14 rfl (lv_at hl 2 rfl) ?_
    refine lv_bipush (v := nI 24) hx hb dX1_all_15 (by decide) ?_
    refine lv_icmp_ge (tgt := 33) hx hb dX1_all_17 (by decide) (fun c17 => ?_) (fun c17 => ?_)
    · have c17 : 24 ≤ i := (nI_leI (a := 24) (b := i) (by omega) (by omega)).mp c17
      have e24 : i = 24 := by omega
      subst e24
      exact K f H locs ls hf1 hH
    · have c17 : ¬ (24 ≤ i) := fun h => c17 ((nI_leI (a := 24) (b := i) (by omega) (by omega)).mpr h)
      refine lv_aload_n hx hb dX1_all_20 rfl (lv_at hl 0 rfl) ?_
      refine zy_g0 hx hb hts hown hK hH dX1_all_21 ?_
      refine lv_iload_n hx hb dX1_all_24 rfl (lv_at hl 2 rfl) ?_
      refine lv_iload_n hx hb dX1_all_25 rfl (lv_at hl 1 rfl) ?_
      refine zy_s0 hx hb hK hH (j := i) (by omega) dX1_all_26 (fun H locs hH => ?_)
      refine lv_iinc (v := nI (i + 1)) (lv' := [(2, .int _), (0, .ref _), (1, .int _)]) hx hb dX1_all_27 hl (k := 2) rfl (nI_1 _) (by decide) rfl (fun ls hl => ?_)
      refine lv_goto (tgt := 14) hx hb dX1_all_30 (by decide) ?_
      exact ih (i + 1) _ _ _ _ (by omega) (by omega) (fun j hj => by
        by_cases e : j = i
        · rw [e, pk_us]
        · rw [pk_un e]; exact hf1 j (by omega)) hH (lv_sub hl [1, 2, 0] rfl)
/-- all(y) -/
theorem mX1_all (l : Launch) (D : va_G) (ad : Nat → Nat) (ci : Nat → ClassId) (sz : Nat) (w ol : Nat → Int32) (v : Nat → Nat) (hv : zv v w) (y : Int32) : ZMi l yX1_all cX1_all 3 (some .int) (zr 0) D (YT ci) (.ref (ad 0) :: [.int y]) sz (YW ad ci w ol) (fun r (u : YS) => r = (sp_all v y).1 ∧ zv (sp_all v y).2 u.1) (YU ad ci) := by
  unfold ZMi
  refine zw_met (own := RX1) (Qf := fun A => va_Qi (fun r (u : YS) => r = (sp_all v y).1 ∧ zv (sp_all v y).2 u.1) (ZB D (YT ci) (YU ad ci) A) A) (by decide) rfl (Nat.le_of_ble_eq_true rfl) ?_
  intro p e s m below meth c A ls S0 hr hlocks hin hA hK hH hl
  obtain ⟨hx, hb, hml, hown, hts⟩ := id S0
  have hl : lv_has ls 3 [(0, .ref (ad 0)), (1, .int (y))] := hl
  refine lv_iload_n hx hb dX1_all_0 rfl (lv_at hl 1 rfl) ?_
  refine lv_if_lt (tgt := 9) hx hb dX1_all_1 (by decide) (fun c1 => ?_) (fun c1 => ?_)
  · refine lv_bipush (v := -2) hx hb dX1_all_9 (by decide) ?_
    exact zw_iret (u := (w, ol)) hx hb hr hlocks hK hH (by unfold sp_all; rw [sp_wgt_bad (Or.inl c1)]; exact ⟨rfl, hv⟩) dX1_all_11
  · refine lv_iload_n hx hb dX1_all_4 rfl (lv_at hl 1 rfl) ?_
    refine lv_iconst (v := nI 4) hx hb dX1_all_5 (by decide) ?_
    refine lv_icmp_le (tgt := 12) hx hb dX1_all_6 (by decide) (fun c6 => ?_) (fun c6 => ?_)
    · obtain ⟨j, hj, hj1⟩ := zn_upto 4 (by decide) c1 (zn_le_nlt c6)
      refine lv_iconst (v := nI 0) hx hb dX1_all_12 (by decide) ?_
      refine lv_istore_n (lv' := [(2, .int _), (0, .ref _), (1, .int _)]) hx hb dX1_all_13 rfl hl (by decide) rfl (fun ls hl => ?_)
      refine lX1_all S0 hA hK (fun f H locs ls hf1 hH => ?_) 25 0 _ _ _ _ (by omega) (by omega) (fun j hj => by omega) hH (lv_sub hl [1, 2, 0] rfl)
      refine lv_iconst (v := nI 0) hx hb dX1_all_33 (by decide) ?_
      exact zw_iret (u := (f, ol)) hx hb hr hlocks hK hH (by unfold sp_all; rw [hj1, sp_wgt_nI hj]; exact ⟨rfl, fun i hi => ⟨(hf1 i hi).trans hj1, hj⟩⟩) dX1_all_34
    · refine lv_bipush (v := -2) hx hb dX1_all_9 (by decide) ?_
      exact zw_iret (u := (w, ol)) hx hb hr hlocks hK hH (by unfold sp_all; rw [sp_wgt_bad (Or.inr (zn_nle c6))]; exact ⟨rfl, hv⟩) dX1_all_11
/-- a loop of turn -/
theorem lX1_turn1 {p : Program} {l : Launch} {e : Env} {R : Room} {s : State} {m : MethodId} {args : Array Value} {below : List Frame} {meth : Method} {c : Code} {cells slots : Nat} {Q : State → Prop} {A : Nat → Prop} {D : va_G} {ad : Nat → Nat} {ci : Nat → ClassId} (S0 : CallFix p m c cX1_turn 2 s args lw_all RX1) (hA : ∀ q, s.heap.size ≤ q → A q) (hK : va_K D vwCl (YT ci) s) {w : Nat → Int32}
    (K : ∀ (f : Nat → Int32) (H : Heap) (locs : List Loc) (ls : Array Slot), (∀ j, j < 24 → f j = w j) → ZH D A s.heap (YW ad ci w f) H locs → lv_has ls 2 [(0, .ref (ad 0))] → W p l e R s m args below meth c H locs cells slots Q (F0 m 26 ls [])) :
    ∀ (n i : Nat) (f : Nat → Int32) (H : Heap) (locs : List Loc) (ls : Array Slot), i ≤ 24 → 24 + 1 ≤ i + n → (∀ j, j < i → f j = w j) → ZH D A s.heap (YW ad ci w f) H locs → lv_has ls 2 [(0, .ref (ad 0)), (1, .int (nI (i)))] → W p l e R s m args below meth c H locs cells slots Q (F0 m 2 ls []) := by
  obtain ⟨hx, hb, hml, hown, hts⟩ := id S0
  intro n
  induction n with
  | zero =>
    intro i f H locs ls h1 h2
    exact absurd h2 (by omega)
  | succ n ih =>
    intro i f H locs ls hi hin hf1 hH hl
    refine lv_iload_n hx hb dX1_turn_2 rfl (lv_at hl 1 rfl) ?_
    refine lv_bipush (v := nI 24) hx hb dX1_turn_3 (by decide) ?_
    refine lv_icmp_ge (tgt := 26) hx hb dX1_turn_5 (by decide) (fun c5 => ?_) (fun c5 => ?_)
    · have c5 : 24 ≤ i := (nI_leI (a := 24) (b := i) (by omega) (by omega)).mp c5
      have e24 : i = 24 := by omega
      subst e24
      exact K f H locs ls hf1 hH (lv_sub hl [0] rfl)
    · have c5 : ¬ (24 ≤ i) := fun h => c5 ((nI_leI (a := 24) (b := i) (by omega) (by omega)).mpr h)
      refine lv_aload_n hx hb dX1_turn_8 rfl (lv_at hl 0 rfl) ?_
      refine zy_g1 hx hb hts hown hK hH dX1_turn_9 ?_
      refine lv_iload_n hx hb dX1_turn_12 rfl (lv_at hl 1 rfl) ?_
      refine lv_aload_n hx hb dX1_turn_13 rfl (lv_at hl 0 rfl) ?_
      refine zy_g0 hx hb hts hown hK hH dX1_turn_14 ?_
      refine lv_iload_n hx hb dX1_turn_17 rfl (lv_at hl 1 rfl) ?_
      refine zy_l0 hx hb hK hH (j := i) (by omega) dX1_turn_18 ?_
      refine zy_s1 hx hb hK hH (j := i) (by omega) dX1_turn_19 (fun H locs hH => ?_)
      refine lv_iinc (v := nI (i + 1)) (lv' := [(1, .int _), (0, .ref _)]) hx hb dX1_turn_20 hl (k := 1) rfl (nI_1 _) (by decide) rfl (fun ls hl => ?_)
      refine lv_goto (tgt := 2) hx hb dX1_turn_23 (by decide) ?_
      exact ih (i + 1) _ _ _ _ (by omega) (by omega) (fun j hj => by
        by_cases e : j = i
        · rw [e, pk_us]
        · rw [pk_un e]; exact hf1 j (by omega)) hH (lv_sub hl [1, 0] rfl)
/-- a loop of turn -/
theorem lX1_turn2 {p : Program} {l : Launch} {e : Env} {R : Room} {s : State} {m : MethodId} {args : Array Value} {below : List Frame} {meth : Method} {c : Code} {cells slots : Nat} {Q : State → Prop} {A : Nat → Prop} {D : va_G} {ad : Nat → Nat} {ci : Nat → ClassId} (S0 : CallFix p m c cX1_turn 2 s args lw_all RX1) (hA : ∀ q, s.heap.size ≤ q → A q) (hK : va_K D vwCl (YT ci) s) {ol : Nat → Int32}
    (K : ∀ (f : Nat → Int32) (H : Heap) (locs : List Loc) (ls : Array Slot), (∀ j, j < 24 → f (sp_to j) = ol j) → ZH D A s.heap (YW ad ci f ol) H locs → W p l e R s m args below meth c H locs cells slots Q (F0 m 102 ls [])) :
    ∀ (n i : Nat) (f : Nat → Int32) (H : Heap) (locs : List Loc) (ls : Array Slot), i ≤ 24 → 24 + 1 ≤ i + n → (∀ j, j < i → f (sp_to j) = ol j) → ZH D A s.heap (YW ad ci f ol) H locs → lv_has ls 2 [(0, .ref (ad 0)), (1, .int (nI (i)))] → W p l e R s m args below meth c H locs cells slots Q (F0 m 28 ls []) := by
  obtain ⟨hx, hb, hml, hown, hts⟩ := id S0
  intro n
  induction n with
  | zero =>
    intro i f H locs ls h1 h2
    exact absurd h2 (by omega)
  | succ n ih =>
    intro i f H locs ls hi hin hf1 hH hl
    refine lv_iload_n hx hb dX1_turn_28 rfl (lv_at hl 1 rfl) ?_
    refine lv_bipush (v := nI 24) hx hb dX1_turn_29 (by decide) ?_
    refine lv_icmp_ge (tgt := 102) hx hb dX1_turn_31 (by decide) (fun c31 => ?_) (fun c31 => ?_)
    · have c31 : 24 ≤ i := (nI_leI (a := 24) (b := i) (by omega) (by omega)).mp c31
      have e24 : i = 24 := by omega
      subst e24
      exact K f H locs ls hf1 hH
    · have c31 : ¬ (24 ≤ i) := fun h => c31 ((nI_leI (a := 24) (b := i) (by omega) (by omega)).mpr h)
      have hto := sp_to_lt i (by omega)
      refine lv_iload_n hx hb dX1_turn_34 rfl (lv_at hl 1 rfl) ?_
      refine lv_bipush (v := nI 12) hx hb dX1_turn_35 (by decide) ?_
      refine lv_icmp_ge (tgt := 68) hx hb dX1_turn_37 (by decide) (fun c37 => ?_) (fun c37 => ?_)
      · have c37 : 12 ≤ i := (nI_leI (a := 12) (b := i) (by omega) (by omega)).mp c37
        refine lv_aload_n hx hb dX1_turn_68 rfl (lv_at hl 0 rfl) ?_
        refine zy_g0 hx hb hts hown hK hH dX1_turn_69 ?_
        refine lv_iload_n hx hb dX1_turn_72 rfl (lv_at hl 1 rfl) ?_
        refine lv_bipush (v := nI 12) hx hb dX1_turn_73 (by decide) ?_
        refine lv_isub hx hb dX1_turn_75 ?_
        refine zw_i (nI (i - 12)) (pk_sub (by omega)) ?_
        refine lv_iconst (v := nI 4) hx hb dX1_turn_76 (by decide) ?_
        refine lv_irem hx hb dX1_turn_77 (by decide) ?_
        refine zw_i (nI ((i - 12) % 4)) (pk_rem (by omega) (by decide) (by decide)) ?_
        refine lv_iconst (v := nI 3) hx hb dX1_turn_78 (by decide) ?_
        refine lv_imul hx hb dX1_turn_79 ?_
        refine zw_i (nI (((i - 12) % 4) * 3)) (pk_mul _ _) ?_
        refine lv_iconst (v := nI 2) hx hb dX1_turn_80 (by decide) ?_
        refine lv_iadd hx hb dX1_turn_81 ?_
        refine zw_i (nI ((((i - 12) % 4) * 3) + 2)) (nI_add _ _) ?_
        refine lv_iload_n hx hb dX1_turn_82 rfl (lv_at hl 1 rfl) ?_
        refine lv_bipush (v := nI 12) hx hb dX1_turn_83 (by decide) ?_
        refine lv_isub hx hb dX1_turn_85 ?_
        refine zw_i (nI (i - 12)) (pk_sub (by omega)) ?_
        refine lv_iconst (v := nI 4) hx hb dX1_turn_86 (by decide) ?_
        refine lv_idiv hx hb dX1_turn_87 (by decide) ?_
        refine zw_i (nI ((i - 12) / 4)) (pk_div (by omega) (by decide) (by decide)) ?_
        refine lv_isub hx hb dX1_turn_88 ?_
        refine zw_i (nI (((((i - 12) % 4) * 3) + 2) - ((i - 12) / 4))) (pk_sub (by omega)) ?_
        refine zw_i (nI (sp_to i)) (congrArg nI (by unfold sp_to; rw [if_neg (by omega), zk_fs_of c37]; try omega)) ?_
        refine lv_aload_n hx hb dX1_turn_89 rfl (lv_at hl 0 rfl) ?_
        refine zy_g1 hx hb hts hown hK hH dX1_turn_90 ?_
        refine lv_iload_n hx hb dX1_turn_93 rfl (lv_at hl 1 rfl) ?_
        refine zy_l1 hx hb hK hH (j := i) (by omega) dX1_turn_94 ?_
        refine zy_s0 hx hb hK hH (j := sp_to i) (by omega) dX1_turn_95 (fun H locs hH => ?_)
        refine lv_iinc (v := nI (i + 1)) (lv' := [(1, .int _), (0, .ref _)]) hx hb dX1_turn_96 hl (k := 1) rfl (nI_1 _) (by decide) rfl (fun ls hl => ?_)
        refine lv_goto (tgt := 28) hx hb dX1_turn_99 (by decide) ?_
        exact ih (i + 1) _ _ _ _ (by omega) (by omega) (fun j hj => by
          by_cases e : j = i
          · rw [e, pk_us]
          · rw [pk_un (fun q => e (by rw [← sp_from_to j (by omega), q, sp_from_to i (by omega)]))]; exact hf1 j (by omega)) hH (lv_sub hl [1, 0] rfl)
      · have c37 : ¬ (12 ≤ i) := fun h => c37 ((nI_leI (a := 12) (b := i) (by omega) (by omega)).mpr h)
        refine lv_aload_n hx hb dX1_turn_40 rfl (lv_at hl 0 rfl) ?_
        refine zy_g0 hx hb hts hown hK hH dX1_turn_41 ?_
        refine lv_bipush (v := nI 12) hx hb dX1_turn_44 (by decide) ?_
        refine lv_iload_n hx hb dX1_turn_46 rfl (lv_at hl 1 rfl) ?_
        refine lv_iconst (v := nI 3) hx hb dX1_turn_47 (by decide) ?_
        refine lv_irem hx hb dX1_turn_48 (by decide) ?_
        refine zw_i (nI (i % 3)) (pk_rem (by omega) (by decide) (by decide)) ?_
        refine lv_iconst (v := nI 4) hx hb dX1_turn_49 (by decide) ?_
        refine lv_imul hx hb dX1_turn_50 ?_
        refine zw_i (nI ((i % 3) * 4)) (pk_mul _ _) ?_
        refine lv_iadd hx hb dX1_turn_51 ?_
        refine zw_i (nI (12 + ((i % 3) * 4))) (nI_add _ _) ?_
        refine lv_iconst (v := nI 3) hx hb dX1_turn_52 (by decide) ?_
        refine lv_iadd hx hb dX1_turn_53 ?_
        refine zw_i (nI ((12 + ((i % 3) * 4)) + 3)) (nI_add _ _) ?_
        refine lv_iload_n hx hb dX1_turn_54 rfl (lv_at hl 1 rfl) ?_
        refine lv_iconst (v := nI 3) hx hb dX1_turn_55 (by decide) ?_
        refine lv_idiv hx hb dX1_turn_56 (by decide) ?_
        refine zw_i (nI (i / 3)) (pk_div (by omega) (by decide) (by decide)) ?_
        refine lv_isub hx hb dX1_turn_57 ?_
        refine zw_i (nI (((12 + ((i % 3) * 4)) + 3) - (i / 3))) (pk_sub (by omega)) ?_
        refine zw_i (nI (sp_to i)) (congrArg nI (by unfold sp_to; rw [if_pos (by omega), zk_fs_lo (by omega)]; try omega)) ?_
        refine lv_aload_n hx hb dX1_turn_58 rfl (lv_at hl 0 rfl) ?_
        refine zy_g1 hx hb hts hown hK hH dX1_turn_59 ?_
        refine lv_iload_n hx hb dX1_turn_62 rfl (lv_at hl 1 rfl) ?_
        refine zy_l1 hx hb hK hH (j := i) (by omega) dX1_turn_63 ?_
        refine zy_s0 hx hb hK hH (j := sp_to i) (by omega) dX1_turn_64 (fun H locs hH => ?_)
        refine lv_goto (tgt := 96) hx hb dX1_turn_65 (by decide) ?_
        refine lv_iinc (v := nI (i + 1)) (lv' := [(1, .int _), (0, .ref _)]) hx hb dX1_turn_96 hl (k := 1) rfl (nI_1 _) (by decide) rfl (fun ls hl => ?_)
        refine lv_goto (tgt := 28) hx hb dX1_turn_99 (by decide) ?_
        exact ih (i + 1) _ _ _ _ (by omega) (by omega) (fun j hj => by
          by_cases e : j = i
          · rw [e, pk_us]
          · rw [pk_un (fun q => e (by rw [← sp_from_to j (by omega), q, sp_from_to i (by omega)]))]; exact hf1 j (by omega)) hH (lv_sub hl [1, 0] rfl)
/-- turn() -/
theorem mX1_turn (l : Launch) (D : va_G) (ad : Nat → Nat) (ci : Nat → ClassId) (sz : Nat) (w ol : Nat → Int32) (v : Nat → Nat) (hv : zv v w)  : ZMv l yX1_turn cX1_turn 2 none (zr 0) D (YT ci) (.ref (ad 0) :: []) sz (YW ad ci w ol) (fun (u : YS) => zv (sp_turn v) u.1) (YU ad ci) := by
  unfold ZMv
  refine zw_met (own := RX1) (Qf := fun A => va_Qv (fun (u : YS) => zv (sp_turn v) u.1) (ZB D (YT ci) (YU ad ci) A) A) (by decide) rfl (Nat.le_of_ble_eq_true rfl) ?_
  intro p e s m below meth c A ls S0 hr hlocks hin hA hK hH hl
  obtain ⟨hx, hb, hml, hown, hts⟩ := id S0
  have hl : lv_has ls 2 [(0, .ref (ad 0))] := hl
  refine lv_iconst (v := nI 0) hx hb dX1_turn_0 (by decide) ?_
  refine lv_istore_n (lv' := [(1, .int _), (0, .ref _)]) hx hb dX1_turn_1 rfl hl (by decide) rfl (fun ls hl => ?_)
  refine lX1_turn1 S0 hA hK (fun f H locs ls hf1 hH hl => ?_) 25 0 _ _ _ _ (by omega) (by omega) (fun j hj => by omega) hH (lv_sub hl [1, 0] rfl)
  refine lv_iconst (v := nI 0) hx hb dX1_turn_26 (by decide) ?_
  refine lv_istore_n (lv' := [(1, .int _), (0, .ref _)]) hx hb dX1_turn_27 rfl hl (by decide) rfl (fun ls hl => ?_)
  refine lX1_turn2 S0 hA hK (fun g H locs ls hg1 hH => ?_) 25 0 _ _ _ _ (by omega) (by omega) (fun j hj => by omega) hH (lv_sub hl [1, 0] rfl)
  exact zw_vret (u := (g, f)) hx hb hr hlocks hK hH (fun j hj => by
      have h1 := sp_from_lt j hj
      have h2 : g j = w (sp_from j) := by rw [← hf1 _ h1, ← hg1 _ h1, sp_to_from j hj]
      exact ⟨h2.trans (hv _ h1).1, (hv _ h1).2⟩) dX1_turn_102
/-- a loop of force -/
theorem lX1_force {p : Program} {l : Launch} {e : Env} {R : Room} {s : State} {m : MethodId} {args : Array Value} {below : List Frame} {meth : Method} {c : Code} {cells slots : Nat} {Q : State → Prop} {A : Nat → Prop} {D : va_G} {ad : Nat → Nat} {ci : Nat → ClassId} (S0 : CallFix p m c cX1_force 5 s args lw_all RX1) (hA : ∀ q, s.heap.size ≤ q → A q) (hK : va_K D vwCl (YT ci) s) (hR : (zr 1).frames + 1 ≤ R.frames ∧ 8 + (4 + 11) + (zr 1).locals ≤ R.locals) (hf : cells ≤ R.cells ∧ slots ≤ R.slots) {ol : Nat → Int32} {v : Nat → Nat} (j t : Nat) (hj : j < 24) (ht : t ≤ 15) (hv4 : ∀ q, q < 24 → v q ≤ 4)
    (K : ∀ (f : Nat → Int32) (n : Nat) (H : Heap) (locs : List Loc) (ls : Array Slot), zq_inv v j t 24 f n → ZH D A s.heap (YW ad ci f ol) H locs → lv_has ls 5 [(3, .int (nI n))] → W p l e R s m args below meth c H locs cells slots Q (F0 m 84 ls [])) :
    ∀ (n i : Nat) (f : Nat → Int32) (cn : Nat) (H : Heap) (locs : List Loc) (ls : Array Slot), i ≤ 24 → 24 + 1 ≤ i + n → zq_inv v j t i f cn → ZH D A s.heap (YW ad ci f ol) H locs → lv_has ls 5 [(0, .ref (ad 0)), (1, .int (nI (t))), (2, .int (nI (j))), (3, .int (nI (cn))), (4, .int (nI (i)))] → W p l e R s m args below meth c H locs cells slots Q (F0 m 34 ls []) := by
  obtain ⟨hx, hb, hml, hown, hts⟩ := id S0
  intro n
  induction n with
  | zero =>
    intro i f cn H locs ls h1 h2
    exact absurd h2 (by omega)
  | succ n ih =>
    intro i f cn H locs ls hi hin hq hH hl
    refine lv_iload hx hb dX1_force_34 (lv_at hl 4 rfl) ?_
    refine lv_bipush (v := nI 24) hx hb dX1_force_36 (by decide) ?_
    refine lv_icmp_ge (tgt := 84) hx hb dX1_force_38 (by decide) (fun c38 => ?_) (fun c38 => ?_)
    · have c38 : 24 ≤ i := (nI_leI (a := 24) (b := i) (by omega) (by omega)).mp c38
      have e24 : i = 24 := by omega
      subst e24
      exact K f cn H locs ls hq hH (lv_sub hl [3] rfl)
    · have c38 : ¬ (24 ≤ i) := fun h => c38 ((nI_leI (a := 24) (b := i) (by omega) (by omega)).mpr h)
      have hvi := hv4 i (by omega)
      refine lv_iload hx hb dX1_force_41 (lv_at hl 4 rfl) ?_
      refine lv_iload_n hx hb dX1_force_43 rfl (lv_at hl 2 rfl) ?_
      refine lv_icmp_eq (tgt := 78) hx hb dX1_force_44 (by decide) (fun c44 => ?_) (fun c44 => ?_)
      · have c44 : i = j := (nI_eq (a := i) (b := j) (by omega) (by omega)).mp c44
        refine lv_iinc (v := nI (i + 1)) (lv' := [(4, .int _), (0, .ref _), (1, .int _), (2, .int _), (3, .int _)]) hx hb dX1_force_78 hl (k := 4) rfl (nI_1 _) (by decide) rfl (fun ls hl => ?_)
        refine lv_goto (tgt := 34) hx hb dX1_force_81 (by decide) ?_
        exact ih (i + 1) _ _ _ _ _ (by omega) (by omega) (zq_keep hq (fun z => absurd z (by rw [c44]; exact sp_off_self j t))) hH (lv_sub hl [1, 2, 3, 4, 0] rfl)
      · have c44 : ¬ (i = j) := fun h => c44 ((nI_eq (a := i) (b := j) (by omega) (by omega)).mpr h)
        refine lv_aload_n hx hb dX1_force_47 rfl (lv_at hl 0 rfl) ?_
        refine lv_iload hx hb dX1_force_48 (lv_at hl 4 rfl) ?_
        refine lv_iload_n hx hb dX1_force_50 rfl (lv_at hl 1 rfl) ?_
        refine zw_Vi (n := 2) (rest := []) (wr := []) S0 (mX1_covers l D ad ci _ f ol i t (by omega) (by omega)) q174 q176 qs10 q18 q177 (by decide +kernel) hR ⟨rfl, rfl⟩ hf hK hA hH [0, 1, 2] [] [0, 1] rfl rfl rfl (by decide) (by decide) (by decide) rfl rfl rfl rfl hl.1 rfl (Nat.le_of_ble_eq_true rfl) dX1_force_51 (fun r51 u51 H locs hr51 hH => ?_)
        have hH : ZH D A s.heap (YW ad ci u51.1 u51.2) H locs := hH
        rw [hr51.2.1, hr51.2.2] at hH
        cases hcov : sp_cov i t with
        | false =>
          refine zw_i (nI (0)) (by rw [hr51.1, hcov]; rfl) ?_
          refine lv_if_eq (tgt := 78) hx hb dX1_force_54 (by decide) (fun c54 => ?_) (fun c54 => ?_)
          · have c54 : 0 = 0 := (nI_eq (a := 0) (b := 0) (by omega) (by omega)).mp c54
            refine lv_iinc (v := nI (i + 1)) (lv' := [(4, .int _), (0, .ref _), (1, .int _), (2, .int _), (3, .int _)]) hx hb dX1_force_78 hl (k := 4) rfl (nI_1 _) (by decide) rfl (fun ls hl => ?_)
            refine lv_goto (tgt := 34) hx hb dX1_force_81 (by decide) ?_
            exact ih (i + 1) _ _ _ _ _ (by omega) (by omega) (zq_keep hq (fun z => absurd z (sp_off_no hcov))) hH (lv_sub hl [1, 2, 3, 4, 0] rfl)
          · have c54 : ¬ (0 = 0) := fun h => c54 ((nI_eq (a := 0) (b := 0) (by omega) (by omega)).mpr h)
            exfalso; omega
        | true =>
          refine zw_i (nI (1)) (by rw [hr51.1, hcov]; rfl) ?_
          refine lv_if_eq (tgt := 78) hx hb dX1_force_54 (by decide) (fun c54 => ?_) (fun c54 => ?_)
          · have c54 : 1 = 0 := (nI_eq (a := 1) (b := 0) (by omega) (by omega)).mp c54
            exfalso; omega
          · have c54 : ¬ (1 = 0) := fun h => c54 ((nI_eq (a := 1) (b := 0) (by omega) (by omega)).mpr h)
            refine lv_aload_n hx hb dX1_force_57 rfl (lv_at hl 0 rfl) ?_
            refine zy_g0 hx hb hts hown hK hH dX1_force_58 ?_
            refine lv_iload hx hb dX1_force_61 (lv_at hl 4 rfl) ?_
            refine zy_l0 hx hb hK hH (j := i) (by omega) dX1_force_63 ?_
            refine zw_i (nI (v i)) (by rw [hq.1 i (by omega), if_neg (by omega)]) ?_
            refine lv_if_eq (tgt := 78) hx hb dX1_force_64 (by decide) (fun c64 => ?_) (fun c64 => ?_)
            · have c64 : v i = 0 := (nI_eq (a := v i) (b := 0) (by omega) (by omega)).mp c64
              refine lv_iinc (v := nI (i + 1)) (lv' := [(4, .int _), (0, .ref _), (1, .int _), (2, .int _), (3, .int _)]) hx hb dX1_force_78 hl (k := 4) rfl (nI_1 _) (by decide) rfl (fun ls hl => ?_)
              refine lv_goto (tgt := 34) hx hb dX1_force_81 (by decide) ?_
              exact ih (i + 1) _ _ _ _ _ (by omega) (by omega) (zq_keep hq (fun _ => c64)) hH (lv_sub hl [1, 2, 3, 4, 0] rfl)
            · have c64 : ¬ (v i = 0) := fun h => c64 ((nI_eq (a := v i) (b := 0) (by omega) (by omega)).mpr h)
              refine lv_aload_n hx hb dX1_force_67 rfl (lv_at hl 0 rfl) ?_
              refine zy_g0 hx hb hts hown hK hH dX1_force_68 ?_
              refine lv_iload hx hb dX1_force_71 (lv_at hl 4 rfl) ?_
              refine lv_iconst (v := nI 0) hx hb dX1_force_73 (by decide) ?_
              refine zy_s0 hx hb hK hH (j := i) (by omega) dX1_force_74 (fun H locs hH => ?_)
              refine lv_iinc (v := nI (cn + 1)) (lv' := [(3, .int _), (0, .ref _), (1, .int _), (2, .int _), (4, .int _)]) hx hb dX1_force_75 hl (k := 3) rfl (nI_1 _) (by decide) rfl (fun ls hl => ?_)
              refine lv_iinc (v := nI (i + 1)) (lv' := [(4, .int _), (3, .int _), (0, .ref _), (1, .int _), (2, .int _)]) hx hb dX1_force_78 hl (k := 4) rfl (nI_1 _) (by decide) rfl (fun ls hl => ?_)
              refine lv_goto (tgt := 34) hx hb dX1_force_81 (by decide) ?_
              exact ih (i + 1) _ _ _ _ _ (by omega) (by omega) (zq_upd hq (sp_off_yes hcov c44) c64) hH (lv_sub hl [2, 3, 4, 1, 0] rfl)
/-- force(x, y) -/
theorem mX1_force (l : Launch) (D : va_G) (ad : Nat → Nat) (ci : Nat → ClassId) (sz : Nat) (w ol : Nat → Int32) (v : Nat → Nat) (hv : zv v w) (x y : Int32) : ZMi l yX1_force cX1_force 5 (some .int) (zr 2) D (YT ci) (.ref (ad 0) :: [.int x, .int y]) sz (YW ad ci w ol) (fun r (u : YS) => r = (sp_force v x y).1 ∧ zv (sp_force v x y).2 u.1) (YU ad ci) := by
  unfold ZMi
  refine zw_met (own := RX1) (Qf := fun A => va_Qi (fun r (u : YS) => r = (sp_force v x y).1 ∧ zv (sp_force v x y).2 u.1) (ZB D (YT ci) (YU ad ci) A) A) (by decide) rfl (Nat.le_of_ble_eq_true rfl) ?_
  intro p e s m below meth c A ls S0 hr hlocks hin hA hK hH hl
  obtain ⟨hx, hb, hml, hown, hts⟩ := id S0
  have hl : lv_has ls 5 [(0, .ref (ad 0)), (1, .int (x)), (2, .int (y))] := hl
  refine lv_aload_n hx hb dX1_force_0 rfl (lv_at hl 0 rfl) ?_
  refine lv_iload_n hx hb dX1_force_1 rfl (lv_at hl 2 rfl) ?_
  refine zw_Vi (n := 1) (rest := []) (wr := []) S0 (mX1_bad l D ad ci _ w ol y) q158 q160 qs9 q18 q161 (by decide +kernel) ⟨Nat.le_of_ble_eq_true rfl, Nat.le_of_ble_eq_true rfl⟩ ⟨rfl, rfl⟩ ⟨Nat.zero_le _, Nat.zero_le _⟩ hK hA hH [0, 1, 2] [] [0, 1] rfl rfl rfl (by decide) (by decide) (by decide) rfl rfl rfl rfl hl.1 rfl (Nat.le_of_ble_eq_true rfl) dX1_force_2 (fun r2 u2 H locs hr2 hH => ?_)
  have hH : ZH D A s.heap (YW ad ci u2.1 u2.2) H locs := hH
  rw [hr2.2.1, hr2.2.2] at hH
  rcases hr2.1 with ⟨hr2, hbad⟩ | ⟨hr2, k, hk, hk1⟩
  · refine zw_i (nI (1)) (hr2) ?_
    refine lv_if_ne (tgt := 27) hx hb dX1_force_5 (by decide) (fun c5 => ?_) (fun c5 => ?_)
    · have c5 : ¬ (1 = 0) := fun h => c5 ((nI_eq (a := 1) (b := 0) (by omega) (by omega)).mpr h)
      refine lv_iconst (v := -1) hx hb dX1_force_27 (by decide) ?_
      exact zw_iret (u := (w, ol)) hx hb hr hlocks hK hH (by unfold sp_force; rw [sp_ix_bad hbad]; exact ⟨rfl, hv⟩) dX1_force_28
    · have c5 : 1 = 0 := (nI_eq (a := 1) (b := 0) (by omega) (by omega)).mp c5
      exfalso; omega
  · refine zw_i (nI (0)) (hr2) ?_
    subst hk1
    refine lv_if_ne (tgt := 27) hx hb dX1_force_5 (by decide) (fun c5 => ?_) (fun c5 => ?_)
    · have c5 : ¬ (0 = 0) := fun h => c5 ((nI_eq (a := 0) (b := 0) (by omega) (by omega)).mpr h)
      exfalso; omega
    · have c5 : 0 = 0 := (nI_eq (a := 0) (b := 0) (by omega) (by omega)).mp c5
      refine lv_iload_n hx hb dX1_force_8 rfl (lv_at hl 1 rfl) ?_
      refine lv_if_lt (tgt := 27) hx hb dX1_force_9 (by decide) (fun c9 => ?_) (fun c9 => ?_)
      · refine lv_iconst (v := -1) hx hb dX1_force_27 (by decide) ?_
        exact zw_iret (u := (w, ol)) hx hb hr hlocks hK hH (by unfold sp_force; rw [sp_ix_nI hk, sp_sq_bad (Or.inl c9)]; exact ⟨rfl, hv⟩) dX1_force_28
      · refine lv_iload_n hx hb dX1_force_12 rfl (lv_at hl 1 rfl) ?_
        refine lv_bipush (v := nI 15) hx hb dX1_force_13 (by decide) ?_
        refine lv_icmp_gt (tgt := 27) hx hb dX1_force_15 (by decide) (fun c15 => ?_) (fun c15 => ?_)
        · refine lv_iconst (v := -1) hx hb dX1_force_27 (by decide) ?_
          exact zw_iret (u := (w, ol)) hx hb hr hlocks hK hH (by unfold sp_force; rw [sp_ix_nI hk, sp_sq_bad (Or.inr c15)]; exact ⟨rfl, hv⟩) dX1_force_28
        · obtain ⟨t, ht, ht1⟩ := zn_upto 15 (by decide) c9 c15
          subst ht1
          refine lv_aload_n hx hb dX1_force_18 rfl (lv_at hl 0 rfl) ?_
          refine lv_iload_n hx hb dX1_force_19 rfl (lv_at hl 2 rfl) ?_
          refine lv_iload_n hx hb dX1_force_20 rfl (lv_at hl 1 rfl) ?_
          refine zw_Vi (n := 2) (rest := []) (wr := []) S0 (mX1_covers l D ad ci _ w ol k t (by omega) (by omega)) q174 q176 qs10 q18 q177 (by decide +kernel) ⟨Nat.le_of_ble_eq_true rfl, Nat.le_of_ble_eq_true rfl⟩ ⟨rfl, rfl⟩ ⟨Nat.zero_le _, Nat.zero_le _⟩ hK hA hH [0, 1, 2] [] [0, 1] rfl rfl rfl (by decide) (by decide) (by decide) rfl rfl rfl rfl hl.1 rfl (Nat.le_of_ble_eq_true rfl) dX1_force_21 (fun r21 u21 H locs hr21 hH => ?_)
          have hH : ZH D A s.heap (YW ad ci u21.1 u21.2) H locs := hH
          rw [hr21.2.1, hr21.2.2] at hH
          cases hcov : sp_cov k t with
          | false =>
            refine zw_i (nI (0)) (by rw [hr21.1, hcov]; rfl) ?_
            refine lv_if_ne (tgt := 29) hx hb dX1_force_24 (by decide) (fun c24 => ?_) (fun c24 => ?_)
            · have c24 : ¬ (0 = 0) := fun h => c24 ((nI_eq (a := 0) (b := 0) (by omega) (by omega)).mpr h)
              exfalso; omega
            · have c24 : 0 = 0 := (nI_eq (a := 0) (b := 0) (by omega) (by omega)).mp c24
              refine lv_iconst (v := -1) hx hb dX1_force_27 (by decide) ?_
              exact zw_iret (u := (w, ol)) hx hb hr hlocks hK hH (by unfold sp_force; rw [sp_ix_nI hk, sp_sq_nI ht]; dsimp only; rw [hcov]; exact ⟨rfl, hv⟩) dX1_force_28
          | true =>
            refine zw_i (nI (1)) (by rw [hr21.1, hcov]; rfl) ?_
            refine lv_if_ne (tgt := 29) hx hb dX1_force_24 (by decide) (fun c24 => ?_) (fun c24 => ?_)
            · have c24 : ¬ (1 = 0) := fun h => c24 ((nI_eq (a := 1) (b := 0) (by omega) (by omega)).mpr h)
              refine lv_iconst (v := nI 0) hx hb dX1_force_29 (by decide) ?_
              refine lv_istore_n (lv' := [(3, .int _), (0, .ref _), (1, .int _), (2, .int _)]) hx hb dX1_force_30 rfl hl (by decide) rfl (fun ls hl => ?_)
              refine lv_iconst (v := nI 0) hx hb dX1_force_31 (by decide) ?_
              refine lv_istore (lv' := [(4, .int _), (3, .int _), (0, .ref _), (1, .int _), (2, .int _)]) hx hb dX1_force_32 hl (by decide) rfl (fun ls hl => ?_)
              refine lX1_force S0 hA hK ⟨Nat.le_of_ble_eq_true rfl, Nat.le_of_ble_eq_true rfl⟩ ⟨Nat.zero_le _, Nat.zero_le _⟩ k t hk ht (fun q hq => (hv q hq).2) (fun f n H locs ls hq hH hl => ?_) 25 0 _ _ _ _ _ (by omega) (by omega) (zq_0 hv k t) hH (lv_sub hl [2, 3, 4, 1, 0] rfl)
              refine lv_iload_n hx hb dX1_force_84 rfl (lv_at hl 0 rfl) ?_
              exact zw_iret (u := (f, ol)) hx hb hr hlocks hK hH (by unfold sp_force; rw [sp_ix_nI hk, sp_sq_nI ht]; dsimp only; rw [hcov]; exact ⟨by rw [hq.2]; rfl, zq_end hv hq⟩) dX1_force_85
            · have c24 : 1 = 0 := (nI_eq (a := 1) (b := 0) (by omega) (by omega)).mp c24
              exfalso; omega
/-- weightOf(x) -/
theorem mX1_weightOf (l : Launch) (D : va_G) (ad : Nat → Nat) (ci : Nat → ClassId) (sz : Nat) (w ol : Nat → Int32) (v : Nat → Nat) (hv : zv v w) (x : Int32) : ZMi l yX1_weightOf cX1_weightOf 2 (some .int) (zr 1) D (YT ci) (.ref (ad 0) :: [.int x]) sz (YW ad ci w ol) (fun r (u : YS) => r = sp_weightOf v x ∧ zv v u.1) (YU ad ci) := by
  unfold ZMi
  refine zw_met (own := RX1) (Qf := fun A => va_Qi (fun r (u : YS) => r = sp_weightOf v x ∧ zv v u.1) (ZB D (YT ci) (YU ad ci) A) A) (by decide) rfl (Nat.le_of_ble_eq_true rfl) ?_
  intro p e s m below meth c A ls S0 hr hlocks hin hA hK hH hl
  obtain ⟨hx, hb, hml, hown, hts⟩ := id S0
  have hl : lv_has ls 2 [(0, .ref (ad 0)), (1, .int (x))] := hl
  refine lv_aload_n hx hb dX1_weightOf_0 rfl (lv_at hl 0 rfl) ?_
  refine lv_iload_n hx hb dX1_weightOf_1 rfl (lv_at hl 1 rfl) ?_
  refine zw_Vi (n := 1) (rest := []) (wr := []) S0 (mX1_bad l D ad ci _ w ol x) q158 q160 qs9 q18 q161 (by decide +kernel) ⟨Nat.le_of_ble_eq_true rfl, Nat.le_of_ble_eq_true rfl⟩ ⟨rfl, rfl⟩ ⟨Nat.zero_le _, Nat.zero_le _⟩ hK hA hH [0, 1, 2] [] [0, 1] rfl rfl rfl (by decide) (by decide) (by decide) rfl rfl rfl rfl hl.1 rfl (Nat.le_of_ble_eq_true rfl) dX1_weightOf_2 (fun r2 u2 H locs hr2 hH => ?_)
  have hH : ZH D A s.heap (YW ad ci u2.1 u2.2) H locs := hH
  rw [hr2.2.1, hr2.2.2] at hH
  rcases hr2.1 with ⟨hr2, hbad⟩ | ⟨hr2, k, hk, hk1⟩
  · refine zw_i (nI (1)) (hr2) ?_
    refine lv_if_eq (tgt := 12) hx hb dX1_weightOf_5 (by decide) (fun c5 => ?_) (fun c5 => ?_)
    · have c5 : 1 = 0 := (nI_eq (a := 1) (b := 0) (by omega) (by omega)).mp c5
      exfalso; omega
    · have c5 : ¬ (1 = 0) := fun h => c5 ((nI_eq (a := 1) (b := 0) (by omega) (by omega)).mpr h)
      refine lv_iconst (v := -1) hx hb dX1_weightOf_8 (by decide) ?_
      refine lv_goto (tgt := 18) hx hb dX1_weightOf_9 (by decide) ?_
      exact zw_iret (u := (w, ol)) hx hb hr hlocks hK hH (by unfold sp_weightOf; rw [sp_ix_bad hbad]; exact ⟨rfl, hv⟩) dX1_weightOf_18
  · refine zw_i (nI (0)) (hr2) ?_
    subst hk1
    refine lv_if_eq (tgt := 12) hx hb dX1_weightOf_5 (by decide) (fun c5 => ?_) (fun c5 => ?_)
    · have c5 : 0 = 0 := (nI_eq (a := 0) (b := 0) (by omega) (by omega)).mp c5
      refine lv_aload_n hx hb dX1_weightOf_12 rfl (lv_at hl 0 rfl) ?_
      refine zy_g0 hx hb hts hown hK hH dX1_weightOf_13 ?_
      refine lv_iload_n hx hb dX1_weightOf_16 rfl (lv_at hl 1 rfl) ?_
      refine zy_l0 hx hb hK hH (j := k) (by omega) dX1_weightOf_17 ?_
      exact zw_iret (u := (w, ol)) hx hb hr hlocks hK hH (by unfold sp_weightOf; rw [sp_ix_nI hk]; exact ⟨(hv k hk).1, hv⟩) dX1_weightOf_18
    · have c5 : ¬ (0 = 0) := fun h => c5 ((nI_eq (a := 0) (b := 0) (by omega) (by omega)).mpr h)
      exfalso; omega
end
section
/-! DimerCounterModel: tilings and sums -/
set_option maxRecDepth 100000
theorem zn_dlt {n k : Nat} (h : n < 2 ^ 31) : n / 2 ^ k < 2 ^ 32 := Nat.lt_of_le_of_lt (Nat.div_le_self _ _) (by omega)
theorem zt_til_lt {b : Nat} (h : b < 256) : zt_til b < 16777216 := by
  have h1 : ∀ b, b < 256 → zk_masks.getD b 0 < 16777216 := by decide +kernel
  rw [zk_til_mask h]
  exact h1 b h
theorem zt_openF_0 {cov q : Nat} (hs : q < 16) (h : cov / 2 ^ q % 2 = 0) : zt_openF cov (16 - q) q = q := by
  rw [show 16 - q = (16 - (q + 1)) + 1 by omega]
  exact if_pos h
theorem zt_openF_1 {cov q : Nat} (hs : q < 16) (h : ¬ cov / 2 ^ q % 2 = 0) : zt_openF cov (16 - q) q = zt_openF cov (16 - (q + 1)) (q + 1) := by
  rw [show 16 - q = (16 - (q + 1)) + 1 by omega]
  exact if_neg h
theorem zt_go_stop {bits k cov pl : Nat} (hk : k < 8) (h : zt_stop bits k cov) : zt_go bits (8 - k) k cov pl = 0 := by
  rw [show 8 - k = (8 - (k + 1)) + 1 by omega]
  exact if_pos ((zt_stopB_iff _ _ _).mpr h)
theorem zt_go_on {bits k cov pl : Nat} (hk : k < 8) (h : ¬ zt_stop bits k cov) : zt_go bits (8 - k) k cov pl = zt_go bits (8 - (k + 1)) (k + 1) (cov ||| 2 ^ zt_open cov ||| 2 ^ zt_oth bits k cov) (pl ||| 2 ^ zt_plc bits k cov) := by
  rw [show 8 - k = (8 - (k + 1)) + 1 by omega]
  exact if_neg (fun q => h ((zt_stopB_iff _ _ _).mp q))
theorem zt_up_le (bits k : Nat) : zt_up bits k ≤ 1 := by
  unfold zt_up
  omega
theorem zt_cov_lt {cov a b : Nat} (h : cov < 65536) (ha : a ≤ 15) (hb : b ≤ 15) : cov ||| 2 ^ a ||| 2 ^ b < 65536 := by
  have h1 : ∀ c, c ≤ 15 → 2 ^ c < 2 ^ 16 := fun c hc => Nat.pow_lt_pow_right (by decide) (by omega)
  exact Nat.or_lt_two_pow (n := 16) (Nat.or_lt_two_pow (n := 16) h (h1 a ha)) (h1 b hb)
theorem zt_pl_lt {pl a : Nat} (h : pl < 16777216) (ha : a < 24) : pl ||| 2 ^ a < 16777216 :=
  Nat.or_lt_two_pow (n := 24) h (Nat.pow_lt_pow_right (by decide) ha)
theorem zt_p24 {a : Nat} (ha : a < 24) : 2 ^ a < 16777216 := by
  have h : 2 ^ a < 2 ^ 24 := Nat.pow_lt_pow_right (by decide) ha
  exact h
theorem zt_o24 {a b : Nat} (ha : a < 24) (hb : b < 24) : 2 ^ a ||| 2 ^ b < 16777216 := Nat.or_lt_two_pow (n := 24) (zt_p24 ha) (zt_p24 hb)
/-- a loop of firstOpen -/
theorem lX1_firstOpen {p : Program} {l : Launch} {e : Env} {R : Room} {s : State} {m : MethodId} {args : Array Value} {below : List Frame} {meth : Method} {c : Code} {cells slots : Nat} {Q : State → Prop} {A : Nat → Prop} {D : va_G} {ad : Nat → Nat} {ci : Nat → ClassId} (S0 : CallFix p m c cX1_firstOpen 3 s args lw_all RX1) (hA : ∀ q, s.heap.size ≤ q → A q) (hK : va_K D vwCl (YT ci) s) {w ol : Nat → Int32} (cov : Nat) (hc : cov < 65536) (K0 : ∀ (H : Heap) (locs : List Loc) (ls : Array Slot), ZH D A s.heap (YW ad ci w ol) H locs → W p l e R s m args below meth c H locs cells slots Q (F0 m 17 ls [.int (nI (zt_open cov))]))
    (K : ∀ (H : Heap) (locs : List Loc) (ls : Array Slot), zt_open cov = 16 → ZH D A s.heap (YW ad ci w ol) H locs → W p l e R s m args below meth c H locs cells slots Q (F0 m 24 ls [])) :
    ∀ (n q : Nat)  (H : Heap) (locs : List Loc) (ls : Array Slot), q ≤ 16 → 16 + 1 ≤ q + n → zt_openF cov (16 - q) q = zt_open cov → ZH D A s.heap (YW ad ci w ol) H locs → lv_has ls 3 [(0, .ref (ad 0)), (1, .int (nI (cov))), (2, .int (nI (q)))] → W p l e R s m args below meth c H locs cells slots Q (F0 m 2 ls []) := by
  obtain ⟨hx, hb, hml, hown, hts⟩ := id S0
  intro n
  induction n with
  | zero =>
    intro q  H locs ls h1 h2
    exact absurd h2 (by omega)
  | succ n ih =>
    intro q  H locs ls hi hin hop hH hl
    refine lv_iload_n hx hb dX1_firstOpen_2 rfl (lv_at hl 2 rfl) ?_
    refine lv_bipush (v := nI 16) hx hb dX1_firstOpen_3 (by decide) ?_
    refine lv_icmp_ge (tgt := 24) hx hb dX1_firstOpen_5 (by decide) (fun c5 => ?_) (fun c5 => ?_)
    · have c5 : 16 ≤ q := (nI_leI (a := 16) (b := q) (by omega) (by omega)).mp c5
      have e16 : q = 16 := by omega
      subst e16
      exact K H locs ls hop.symm hH
    · have c5 : ¬ (16 ≤ q) := fun h => c5 ((nI_leI (a := 16) (b := q) (by omega) (by omega)).mpr h)
      refine lv_iload_n hx hb dX1_firstOpen_8 rfl (lv_at hl 1 rfl) ?_
      refine lv_iload_n hx hb dX1_firstOpen_9 rfl (lv_at hl 2 rfl) ?_
      refine lv_ishr hx hb dX1_firstOpen_10 ?_
      refine zw_i (nI (cov / 2 ^ q)) (zn_shr (by omega) (by omega)) ?_
      refine lv_iconst (v := nI 1) hx hb dX1_firstOpen_11 (by decide) ?_
      refine lv_iand hx hb dX1_firstOpen_12 ?_
      refine zw_i (nI ((cov / 2 ^ q) % 2)) (zn_and1 (zn_dlt (by omega))) ?_
      refine lv_if_ne (tgt := 18) hx hb dX1_firstOpen_13 (by decide) (fun c13 => ?_) (fun c13 => ?_)
      · have c13 : ¬ ((cov / 2 ^ q) % 2 = 0) := fun h => c13 ((nI_eq (a := (cov / 2 ^ q) % 2) (b := 0) (by omega) (by omega)).mpr h)
        refine lv_iinc (v := nI (q + 1)) (lv' := [(2, .int _), (0, .ref _), (1, .int _)]) hx hb dX1_firstOpen_18 hl (k := 2) rfl (nI_1 _) (by decide) rfl (fun ls hl => ?_)
        refine lv_goto (tgt := 2) hx hb dX1_firstOpen_21 (by decide) ?_
        exact ih (q + 1) _ _ _ (by omega) (by omega) (by rw [← hop, zt_openF_1 (by omega) c13]) hH (lv_sub hl [1, 2, 0] rfl)
      · have c13 : (cov / 2 ^ q) % 2 = 0 := (nI_eq (a := (cov / 2 ^ q) % 2) (b := 0) (by omega) (by omega)).mp c13
        refine lv_iload_n hx hb dX1_firstOpen_16 rfl (lv_at hl 2 rfl) ?_
        refine zw_i (nI (zt_open cov)) (by rw [← hop, zt_openF_0 (by omega) c13]) ?_
        exact K0 H locs ls hH
/-- firstOpen(cov) -/
theorem mX1_firstOpen (l : Launch) (D : va_G) (ad : Nat → Nat) (ci : Nat → ClassId) (sz : Nat) (w ol : Nat → Int32) (cov : Nat) (hc : cov < 65536) : ZMi l yX1_firstOpen cX1_firstOpen 3 (some .int) (zr 0) D (YT ci) (.ref (ad 0) :: [.int (nI cov)]) sz (YW ad ci w ol) (fun r (u : YS) => r = nI (zt_open cov) ∧ u.1 = w ∧ u.2 = ol) (YU ad ci) := by
  unfold ZMi
  refine zw_met (own := RX1) (Qf := fun A => va_Qi (fun r (u : YS) => r = nI (zt_open cov) ∧ u.1 = w ∧ u.2 = ol) (ZB D (YT ci) (YU ad ci) A) A) (by decide) rfl (Nat.le_of_ble_eq_true rfl) ?_
  intro p e s m below meth c A ls S0 hr hlocks hin hA hK hH hl
  obtain ⟨hx, hb, hml, hown, hts⟩ := id S0
  have hl : lv_has ls 3 [(0, .ref (ad 0)), (1, .int (nI (cov)))] := hl
  refine lv_iconst (v := nI 0) hx hb dX1_firstOpen_0 (by decide) ?_
  refine lv_istore_n (lv' := [(2, .int _), (0, .ref _), (1, .int _)]) hx hb dX1_firstOpen_1 rfl hl (by decide) rfl (fun ls hl => ?_)
  refine lX1_firstOpen S0 hA hK cov hc (fun H locs ls hH => ?_) (fun H locs ls h16 hH => ?_) 17 0 _ _ _ (by omega) (by omega) rfl hH (lv_sub hl [1, 2, 0] rfl)
  · exact zw_iret (u := (w, ol)) hx hb hr hlocks hK hH (⟨rfl, rfl, rfl⟩) dX1_firstOpen_17
  · refine lv_bipush (v := nI 16) hx hb dX1_firstOpen_24 (by decide) ?_
    exact zw_iret (u := (w, ol)) hx hb hr hlocks hK hH (⟨by rw [h16], rfl, rfl⟩) dX1_firstOpen_26
/-- a loop of tiling -/
theorem lX1_tiling {p : Program} {l : Launch} {e : Env} {R : Room} {s : State} {m : MethodId} {args : Array Value} {below : List Frame} {meth : Method} {c : Code} {cells slots : Nat} {Q : State → Prop} {A : Nat → Prop} {D : va_G} {ad : Nat → Nat} {ci : Nat → ClassId} (S0 : CallFix p m c cX1_tiling 8 s args lw_all RX1) (hA : ∀ q, s.heap.size ≤ q → A q) (hK : va_K D vwCl (YT ci) s) (hR : (zr 0).frames + 1 ≤ R.frames ∧ 8 + (3 + 11) + (zr 0).locals ≤ R.locals) (hf : cells ≤ R.cells ∧ slots ≤ R.slots) {w ol : Nat → Int32} (bits : Nat) (hbits : bits < 256) (K0 : ∀ (H : Heap) (locs : List Loc) (ls : Array Slot), zt_til bits = 0 → ZH D A s.heap (YW ad ci w ol) H locs → W p l e R s m args below meth c H locs cells slots Q (F0 m 87 ls [.int (nI 0)]))
    (K : ∀ (H : Heap) (locs : List Loc) (ls : Array Slot), ZH D A s.heap (YW ad ci w ol) H locs → lv_has ls 8 [(3, .int (nI (zt_til bits)))] → W p l e R s m args below meth c H locs cells slots Q (F0 m 135 ls [])) :
    ∀ (n k : Nat) (cov pl : Nat) (H : Heap) (locs : List Loc) (ls : Array Slot), k ≤ 8 → 8 + 1 ≤ k + n → cov < 65536 → pl < 16777216 → zt_go bits (8 - k) k cov pl = zt_til bits → ZH D A s.heap (YW ad ci w ol) H locs → lv_has ls 8 [(0, .ref (ad 0)), (1, .int (nI (bits))), (2, .int (nI (cov))), (3, .int (nI (pl))), (4, .int (nI (k)))] → W p l e R s m args below meth c H locs cells slots Q (F0 m 7 ls []) := by
  obtain ⟨hx, hb, hml, hown, hts⟩ := id S0
  intro n
  induction n with
  | zero =>
    intro k cov pl H locs ls h1 h2
    exact absurd h2 (by omega)
  | succ n ih =>
    intro k cov pl H locs ls hi hin hcov hpl hgo hH hl
    refine lv_iload hx hb dX1_tiling_7 (lv_at hl 4 rfl) ?_
    refine lv_bipush (v := nI 8) hx hb dX1_tiling_9 (by decide) ?_
    refine lv_icmp_ge (tgt := 135) hx hb dX1_tiling_11 (by decide) (fun c11 => ?_) (fun c11 => ?_)
    · have c11 : 8 ≤ k := (nI_leI (a := 8) (b := k) (by omega) (by omega)).mp c11
      have e8 : k = 8 := by omega
      subst e8
      have hgo : pl = zt_til bits := hgo
      rw [hgo] at hl
      exact K H locs ls hH (lv_sub hl [3] rfl)
    · have c11 : ¬ (8 ≤ k) := fun h => c11 ((nI_leI (a := 8) (b := k) (by omega) (by omega)).mpr h)
      refine lv_aload_n hx hb dX1_tiling_14 rfl (lv_at hl 0 rfl) ?_
      refine lv_iload_n hx hb dX1_tiling_15 rfl (lv_at hl 2 rfl) ?_
      refine zw_Vi (n := 1) (rest := []) (wr := []) S0 (mX1_firstOpen l D ad ci _ w ol cov hcov) q198 q200 qs14 q18 q201 (by decide +kernel) hR ⟨rfl, rfl⟩ hf hK hA hH [0, 1, 2] [] [0, 1] rfl rfl rfl (by decide) (by decide) (by decide) rfl rfl rfl rfl hl.1 rfl (Nat.le_of_ble_eq_true rfl) dX1_tiling_16 (fun r16 u16 H locs hr16 hH => ?_)
      have hH : ZH D A s.heap (YW ad ci u16.1 u16.2) H locs := hH
      rw [hr16.2.1, hr16.2.2] at hH
      refine zw_i (nI (zt_open cov)) (hr16.1) ?_
      have hop := zt_open_le cov
      refine lv_istore (lv' := [(5, .int _), (0, .ref _), (1, .int _), (2, .int _), (3, .int _), (4, .int _)]) hx hb dX1_tiling_19 hl (by decide) rfl (fun ls hl => ?_)
      refine lv_iload_n hx hb dX1_tiling_21 rfl (lv_at hl 2 rfl) ?_
      refine lv_iload hx hb dX1_tiling_22 (lv_at hl 5 rfl) ?_
      refine lv_ishr hx hb dX1_tiling_24 ?_
      refine zw_i (nI (bits / 2 ^ k)) (zn_shr (by omega) (by omega)) ?_
      refine lv_iconst (v := nI 1) hx hb dX1_tiling_25 (by decide) ?_
      refine lv_iand hx hb dX1_tiling_26 ?_
      refine zw_i (nI ((bits / 2 ^ k) % 2)) (zn_and1 (zn_dlt (by omega))) ?_
      refine lv_iconst (v := nI 1) hx hb dX1_tiling_27 (by decide) ?_
      have hup : zt_up bits k = bits / 2 ^ k % 2 := rfl
      have hup1 := zt_up_le bits k
      refine lv_icmp_ne (tgt := 35) hx hb dX1_tiling_28 (by decide) (fun c28 => ?_) (fun c28 => ?_)
      · have c28 : ¬ ((bits / 2 ^ k) % 2 = 1) := fun h => c28 ((nI_eq (a := (bits / 2 ^ k) % 2) (b := 1) (by omega) (by omega)).mpr h)
        refine lv_iconst (v := nI 0) hx hb dX1_tiling_35 (by decide) ?_
        refine lv_istore (lv' := [(6, .int _), (5, .int _), (0, .ref _), (1, .int _), (2, .int _), (3, .int _), (4, .int _)]) hx hb dX1_tiling_36 hl (by decide) rfl (fun ls hl => ?_)
        have hu : zt_up bits k = 0 := by omega
        have hoth : zt_oth bits k cov = zt_open cov + 1 := if_neg (by omega)
        have hplc : zt_plc bits k cov = zt_open cov / 4 * 3 + zt_open cov % 4 := if_neg (by omega)
        refine lv_iload hx hb dX1_tiling_38 (lv_at hl 0 rfl) ?_
        refine lv_if_eq (tgt := 50) hx hb dX1_tiling_40 (by decide) (fun c40 => ?_) (fun c40 => ?_)
        · have c40 : 0 = 0 := (nI_eq (a := 0) (b := 0) (by omega) (by omega)).mp c40
          refine lv_iload hx hb dX1_tiling_50 (lv_at hl 1 rfl) ?_
          refine lv_iconst (v := nI 1) hx hb dX1_tiling_52 (by decide) ?_
          refine lv_iadd hx hb dX1_tiling_53 ?_
          refine zw_i (nI ((zt_open cov) + 1)) (nI_add _ _) ?_
          refine zw_i (nI (zt_oth bits k cov)) (by rw [hoth]) ?_
          refine lv_istore (lv' := [(7, .int _), (6, .int _), (5, .int _), (0, .ref _), (1, .int _), (2, .int _), (3, .int _), (4, .int _)]) hx hb dX1_tiling_54 hl (by decide) rfl (fun ls hl => ?_)
          refine lv_iload hx hb dX1_tiling_56 (lv_at hl 0 rfl) ?_
          refine lv_bipush (v := nI 15) hx hb dX1_tiling_58 (by decide) ?_
          refine lv_icmp_gt (tgt := 86) hx hb dX1_tiling_60 (by decide) (fun c60 => ?_) (fun c60 => ?_)
          · have c60 : 15 < zt_oth bits k cov := (nI_ltI (a := 15) (b := zt_oth bits k cov) (by omega) (by omega)).mp c60
            refine lv_iconst (v := nI 0) hx hb dX1_tiling_86 (by decide) ?_
            exact K0 H locs ls (by rw [← hgo]; exact zt_go_stop (by omega) (Or.inl c60)) hH
          · have c60 : ¬ (15 < zt_oth bits k cov) := fun h => c60 ((nI_ltI (a := 15) (b := zt_oth bits k cov) (by omega) (by omega)).mpr h)
            refine lv_iload hx hb dX1_tiling_63 (lv_at hl 1 rfl) ?_
            refine lv_if_ne (tgt := 76) hx hb dX1_tiling_65 (by decide) (fun c65 => ?_) (fun c65 => ?_)
            · have c65 : ¬ (0 = 0) := fun h => c65 ((nI_eq (a := 0) (b := 0) (by omega) (by omega)).mpr h)
              exfalso; omega
            · have c65 : 0 = 0 := (nI_eq (a := 0) (b := 0) (by omega) (by omega)).mp c65
              refine lv_iload hx hb dX1_tiling_68 (lv_at hl 2 rfl) ?_
              refine lv_iconst (v := nI 4) hx hb dX1_tiling_70 (by decide) ?_
              refine lv_irem hx hb dX1_tiling_71 (by decide) ?_
              refine zw_i (nI ((zt_open cov) % 4)) (pk_rem (by omega) (by decide) (by decide)) ?_
              refine lv_iconst (v := nI 3) hx hb dX1_tiling_72 (by decide) ?_
              refine lv_icmp_eq (tgt := 86) hx hb dX1_tiling_73 (by decide) (fun c73 => ?_) (fun c73 => ?_)
              · have c73 : (zt_open cov) % 4 = 3 := (nI_eq (a := (zt_open cov) % 4) (b := 3) (by omega) (by omega)).mp c73
                refine lv_iconst (v := nI 0) hx hb dX1_tiling_86 (by decide) ?_
                exact K0 H locs ls (by rw [← hgo]; exact zt_go_stop (by omega) (Or.inr (Or.inl ⟨hu, c73⟩))) hH
              · have c73 : ¬ ((zt_open cov) % 4 = 3) := fun h => c73 ((nI_eq (a := (zt_open cov) % 4) (b := 3) (by omega) (by omega)).mpr h)
                refine lv_iload_n hx hb dX1_tiling_76 rfl (lv_at hl 5 rfl) ?_
                refine lv_iload hx hb dX1_tiling_77 (lv_at hl 0 rfl) ?_
                refine lv_ishr hx hb dX1_tiling_79 ?_
                refine zw_i (nI (cov / 2 ^ (zt_oth bits k cov))) (zn_shr (by omega) (by omega)) ?_
                refine lv_iconst (v := nI 1) hx hb dX1_tiling_80 (by decide) ?_
                refine lv_iand hx hb dX1_tiling_81 ?_
                refine zw_i (nI ((cov / 2 ^ (zt_oth bits k cov)) % 2)) (zn_and1 (zn_dlt (by omega))) ?_
                refine lv_iconst (v := nI 1) hx hb dX1_tiling_82 (by decide) ?_
                refine lv_icmp_ne (tgt := 88) hx hb dX1_tiling_83 (by decide) (fun c83 => ?_) (fun c83 => ?_)
                · have c83 : ¬ ((cov / 2 ^ (zt_oth bits k cov)) % 2 = 1) := fun h => c83 ((nI_eq (a := (cov / 2 ^ (zt_oth bits k cov)) % 2) (b := 1) (by omega) (by omega)).mpr h)
                  have hns : ¬ zt_stop bits k cov := by
                    rintro (q | q | q)
                    · omega
                    · exact c73 q.2
                    · exact c83 q
                  have hplt : zt_plc bits k cov < 24 := by omega
                  refine lv_iload_n hx hb dX1_tiling_88 rfl (lv_at hl 5 rfl) ?_
                  refine lv_iconst (v := nI 1) hx hb dX1_tiling_89 (by decide) ?_
                  refine lv_iload hx hb dX1_tiling_90 (lv_at hl 2 rfl) ?_
                  refine lv_ishl hx hb dX1_tiling_92 ?_
                  refine zw_i (nI (2 ^ (zt_open cov))) (zn_shl1 (by omega)) ?_
                  refine lv_ior hx hb dX1_tiling_93 ?_
                  refine zw_i (nI (cov ||| (2 ^ (zt_open cov)))) (zn_or _ _) ?_
                  refine lv_iconst (v := nI 1) hx hb dX1_tiling_94 (by decide) ?_
                  refine lv_iload hx hb dX1_tiling_95 (lv_at hl 0 rfl) ?_
                  refine lv_ishl hx hb dX1_tiling_97 ?_
                  refine zw_i (nI (2 ^ (zt_oth bits k cov))) (zn_shl1 (by omega)) ?_
                  refine lv_ior hx hb dX1_tiling_98 ?_
                  refine zw_i (nI ((cov ||| (2 ^ (zt_open cov))) ||| (2 ^ (zt_oth bits k cov)))) (zn_or _ _) ?_
                  refine lv_istore_n (lv' := [(2, .int _), (7, .int _), (6, .int _), (5, .int _), (0, .ref _), (1, .int _), (3, .int _), (4, .int _)]) hx hb dX1_tiling_99 rfl hl (by decide) rfl (fun ls hl => ?_)
                  refine lv_iload_n hx hb dX1_tiling_100 rfl (lv_at hl 6 rfl) ?_
                  refine lv_iconst (v := nI 1) hx hb dX1_tiling_101 (by decide) ?_
                  refine lv_iload hx hb dX1_tiling_102 (lv_at hl 2 rfl) ?_
                  refine lv_if_eq (tgt := 115) hx hb dX1_tiling_104 (by decide) (fun c104 => ?_) (fun c104 => ?_)
                  · have c104 : 0 = 0 := (nI_eq (a := 0) (b := 0) (by omega) (by omega)).mp c104
                    refine lv_iload hx hb dX1_tiling_115 (lv_at hl 3 rfl) ?_
                    refine lv_iconst (v := nI 4) hx hb dX1_tiling_117 (by decide) ?_
                    refine lv_idiv hx hb dX1_tiling_118 (by decide) ?_
                    refine zw_i (nI ((zt_open cov) / 4)) (pk_div (by omega) (by decide) (by decide)) ?_
                    refine lv_iconst (v := nI 3) hx hb dX1_tiling_119 (by decide) ?_
                    refine lv_imul hx hb dX1_tiling_120 ?_
                    refine zw_i (nI (((zt_open cov) / 4) * 3)) (pk_mul _ _) ?_
                    refine lv_iload hx hb dX1_tiling_121 (lv_at hl 3 rfl) ?_
                    refine lv_iconst (v := nI 4) hx hb dX1_tiling_123 (by decide) ?_
                    refine lv_irem hx hb dX1_tiling_124 (by decide) ?_
                    refine zw_i (nI ((zt_open cov) % 4)) (pk_rem (by omega) (by decide) (by decide)) ?_
                    refine lv_iadd hx hb dX1_tiling_125 ?_
                    refine zw_i (nI ((((zt_open cov) / 4) * 3) + ((zt_open cov) % 4))) (nI_add _ _) ?_
                    refine zw_i (nI (zt_plc bits k cov)) (by rw [hplc]) ?_
                    refine lv_ishl hx hb dX1_tiling_126 ?_
                    refine zw_i (nI (2 ^ (zt_plc bits k cov))) (zn_shl1 (by omega)) ?_
                    refine lv_ior hx hb dX1_tiling_127 ?_
                    refine zw_i (nI (pl ||| (2 ^ (zt_plc bits k cov)))) (zn_or _ _) ?_
                    refine lv_istore_n (lv' := [(3, .int _), (2, .int _), (7, .int _), (6, .int _), (5, .int _), (0, .ref _), (1, .int _), (4, .int _)]) hx hb dX1_tiling_128 rfl hl (by decide) rfl (fun ls hl => ?_)
                    refine lv_iinc (v := nI (k + 1)) (lv' := [(4, .int _), (3, .int _), (2, .int _), (7, .int _), (6, .int _), (5, .int _), (0, .ref _), (1, .int _)]) hx hb dX1_tiling_129 hl (k := 7) rfl (nI_1 _) (by decide) rfl (fun ls hl => ?_)
                    refine lv_goto (tgt := 7) hx hb dX1_tiling_132 (by decide) ?_
                    exact ih (k + 1) _ _ _ _ _ (by omega) (by omega) (zt_cov_lt hcov (by omega) (by omega)) (zt_pl_lt hpl hplt) (by rw [← hgo]; exact (zt_go_on (by omega) hns).symm) hH (lv_sub hl [6, 7, 2, 1, 0] rfl)
                  · have c104 : ¬ (0 = 0) := fun h => c104 ((nI_eq (a := 0) (b := 0) (by omega) (by omega)).mpr h)
                    exfalso; omega
                · have c83 : (cov / 2 ^ (zt_oth bits k cov)) % 2 = 1 := (nI_eq (a := (cov / 2 ^ (zt_oth bits k cov)) % 2) (b := 1) (by omega) (by omega)).mp c83
                  refine lv_iconst (v := nI 0) hx hb dX1_tiling_86 (by decide) ?_
                  exact K0 H locs ls (by rw [← hgo]; exact zt_go_stop (by omega) (Or.inr (Or.inr c83))) hH
        · have c40 : ¬ (0 = 0) := fun h => c40 ((nI_eq (a := 0) (b := 0) (by omega) (by omega)).mpr h)
          exfalso; omega
      · have c28 : (bits / 2 ^ k) % 2 = 1 := (nI_eq (a := (bits / 2 ^ k) % 2) (b := 1) (by omega) (by omega)).mp c28
        refine lv_iconst (v := nI 1) hx hb dX1_tiling_31 (by decide) ?_
        refine lv_goto (tgt := 36) hx hb dX1_tiling_32 (by decide) ?_
        refine lv_istore (lv' := [(6, .int _), (5, .int _), (0, .ref _), (1, .int _), (2, .int _), (3, .int _), (4, .int _)]) hx hb dX1_tiling_36 hl (by decide) rfl (fun ls hl => ?_)
        have hu : zt_up bits k = 1 := by omega
        have hoth : zt_oth bits k cov = zt_open cov + 4 := if_pos hu
        have hplc : zt_plc bits k cov = 12 + zt_open cov := if_pos hu
        refine lv_iload hx hb dX1_tiling_38 (lv_at hl 0 rfl) ?_
        refine lv_if_eq (tgt := 50) hx hb dX1_tiling_40 (by decide) (fun c40 => ?_) (fun c40 => ?_)
        · have c40 : 1 = 0 := (nI_eq (a := 1) (b := 0) (by omega) (by omega)).mp c40
          exfalso; omega
        · have c40 : ¬ (1 = 0) := fun h => c40 ((nI_eq (a := 1) (b := 0) (by omega) (by omega)).mpr h)
          refine lv_iload hx hb dX1_tiling_43 (lv_at hl 1 rfl) ?_
          refine lv_iconst (v := nI 4) hx hb dX1_tiling_45 (by decide) ?_
          refine lv_iadd hx hb dX1_tiling_46 ?_
          refine zw_i (nI ((zt_open cov) + 4)) (nI_add _ _) ?_
          refine lv_goto (tgt := 54) hx hb dX1_tiling_47 (by decide) ?_
          refine zw_i (nI (zt_oth bits k cov)) (by rw [hoth]) ?_
          refine lv_istore (lv' := [(7, .int _), (6, .int _), (5, .int _), (0, .ref _), (1, .int _), (2, .int _), (3, .int _), (4, .int _)]) hx hb dX1_tiling_54 hl (by decide) rfl (fun ls hl => ?_)
          refine lv_iload hx hb dX1_tiling_56 (lv_at hl 0 rfl) ?_
          refine lv_bipush (v := nI 15) hx hb dX1_tiling_58 (by decide) ?_
          refine lv_icmp_gt (tgt := 86) hx hb dX1_tiling_60 (by decide) (fun c60 => ?_) (fun c60 => ?_)
          · have c60 : 15 < zt_oth bits k cov := (nI_ltI (a := 15) (b := zt_oth bits k cov) (by omega) (by omega)).mp c60
            refine lv_iconst (v := nI 0) hx hb dX1_tiling_86 (by decide) ?_
            exact K0 H locs ls (by rw [← hgo]; exact zt_go_stop (by omega) (Or.inl c60)) hH
          · have c60 : ¬ (15 < zt_oth bits k cov) := fun h => c60 ((nI_ltI (a := 15) (b := zt_oth bits k cov) (by omega) (by omega)).mpr h)
            refine lv_iload hx hb dX1_tiling_63 (lv_at hl 1 rfl) ?_
            refine lv_if_ne (tgt := 76) hx hb dX1_tiling_65 (by decide) (fun c65 => ?_) (fun c65 => ?_)
            · have c65 : ¬ (1 = 0) := fun h => c65 ((nI_eq (a := 1) (b := 0) (by omega) (by omega)).mpr h)
              refine lv_iload_n hx hb dX1_tiling_76 rfl (lv_at hl 5 rfl) ?_
              refine lv_iload hx hb dX1_tiling_77 (lv_at hl 0 rfl) ?_
              refine lv_ishr hx hb dX1_tiling_79 ?_
              refine zw_i (nI (cov / 2 ^ (zt_oth bits k cov))) (zn_shr (by omega) (by omega)) ?_
              refine lv_iconst (v := nI 1) hx hb dX1_tiling_80 (by decide) ?_
              refine lv_iand hx hb dX1_tiling_81 ?_
              refine zw_i (nI ((cov / 2 ^ (zt_oth bits k cov)) % 2)) (zn_and1 (zn_dlt (by omega))) ?_
              refine lv_iconst (v := nI 1) hx hb dX1_tiling_82 (by decide) ?_
              refine lv_icmp_ne (tgt := 88) hx hb dX1_tiling_83 (by decide) (fun c83 => ?_) (fun c83 => ?_)
              · have c83 : ¬ ((cov / 2 ^ (zt_oth bits k cov)) % 2 = 1) := fun h => c83 ((nI_eq (a := (cov / 2 ^ (zt_oth bits k cov)) % 2) (b := 1) (by omega) (by omega)).mpr h)
                have hns : ¬ zt_stop bits k cov := by
                  rintro (q | q | q)
                  · omega
                  · omega
                  · exact c83 q
                have hplt : zt_plc bits k cov < 24 := by omega
                refine lv_iload_n hx hb dX1_tiling_88 rfl (lv_at hl 5 rfl) ?_
                refine lv_iconst (v := nI 1) hx hb dX1_tiling_89 (by decide) ?_
                refine lv_iload hx hb dX1_tiling_90 (lv_at hl 2 rfl) ?_
                refine lv_ishl hx hb dX1_tiling_92 ?_
                refine zw_i (nI (2 ^ (zt_open cov))) (zn_shl1 (by omega)) ?_
                refine lv_ior hx hb dX1_tiling_93 ?_
                refine zw_i (nI (cov ||| (2 ^ (zt_open cov)))) (zn_or _ _) ?_
                refine lv_iconst (v := nI 1) hx hb dX1_tiling_94 (by decide) ?_
                refine lv_iload hx hb dX1_tiling_95 (lv_at hl 0 rfl) ?_
                refine lv_ishl hx hb dX1_tiling_97 ?_
                refine zw_i (nI (2 ^ (zt_oth bits k cov))) (zn_shl1 (by omega)) ?_
                refine lv_ior hx hb dX1_tiling_98 ?_
                refine zw_i (nI ((cov ||| (2 ^ (zt_open cov))) ||| (2 ^ (zt_oth bits k cov)))) (zn_or _ _) ?_
                refine lv_istore_n (lv' := [(2, .int _), (7, .int _), (6, .int _), (5, .int _), (0, .ref _), (1, .int _), (3, .int _), (4, .int _)]) hx hb dX1_tiling_99 rfl hl (by decide) rfl (fun ls hl => ?_)
                refine lv_iload_n hx hb dX1_tiling_100 rfl (lv_at hl 6 rfl) ?_
                refine lv_iconst (v := nI 1) hx hb dX1_tiling_101 (by decide) ?_
                refine lv_iload hx hb dX1_tiling_102 (lv_at hl 2 rfl) ?_
                refine lv_if_eq (tgt := 115) hx hb dX1_tiling_104 (by decide) (fun c104 => ?_) (fun c104 => ?_)
                · have c104 : 1 = 0 := (nI_eq (a := 1) (b := 0) (by omega) (by omega)).mp c104
                  exfalso; omega
                · have c104 : ¬ (1 = 0) := fun h => c104 ((nI_eq (a := 1) (b := 0) (by omega) (by omega)).mpr h)
                  refine lv_bipush (v := nI 12) hx hb dX1_tiling_107 (by decide) ?_
                  refine lv_iload hx hb dX1_tiling_109 (lv_at hl 3 rfl) ?_
                  refine lv_iadd hx hb dX1_tiling_111 ?_
                  refine zw_i (nI (12 + (zt_open cov))) (nI_add _ _) ?_
                  refine lv_goto (tgt := 126) hx hb dX1_tiling_112 (by decide) ?_
                  refine zw_i (nI (zt_plc bits k cov)) (by rw [hplc]) ?_
                  refine lv_ishl hx hb dX1_tiling_126 ?_
                  refine zw_i (nI (2 ^ (zt_plc bits k cov))) (zn_shl1 (by omega)) ?_
                  refine lv_ior hx hb dX1_tiling_127 ?_
                  refine zw_i (nI (pl ||| (2 ^ (zt_plc bits k cov)))) (zn_or _ _) ?_
                  refine lv_istore_n (lv' := [(3, .int _), (2, .int _), (7, .int _), (6, .int _), (5, .int _), (0, .ref _), (1, .int _), (4, .int _)]) hx hb dX1_tiling_128 rfl hl (by decide) rfl (fun ls hl => ?_)
                  refine lv_iinc (v := nI (k + 1)) (lv' := [(4, .int _), (3, .int _), (2, .int _), (7, .int _), (6, .int _), (5, .int _), (0, .ref _), (1, .int _)]) hx hb dX1_tiling_129 hl (k := 7) rfl (nI_1 _) (by decide) rfl (fun ls hl => ?_)
                  refine lv_goto (tgt := 7) hx hb dX1_tiling_132 (by decide) ?_
                  exact ih (k + 1) _ _ _ _ _ (by omega) (by omega) (zt_cov_lt hcov (by omega) (by omega)) (zt_pl_lt hpl hplt) (by rw [← hgo]; exact (zt_go_on (by omega) hns).symm) hH (lv_sub hl [6, 7, 2, 1, 0] rfl)
              · have c83 : (cov / 2 ^ (zt_oth bits k cov)) % 2 = 1 := (nI_eq (a := (cov / 2 ^ (zt_oth bits k cov)) % 2) (b := 1) (by omega) (by omega)).mp c83
                refine lv_iconst (v := nI 0) hx hb dX1_tiling_86 (by decide) ?_
                exact K0 H locs ls (by rw [← hgo]; exact zt_go_stop (by omega) (Or.inr (Or.inr c83))) hH
            · have c65 : 1 = 0 := (nI_eq (a := 1) (b := 0) (by omega) (by omega)).mp c65
              exfalso; omega
/-- tiling(bits) -/
theorem mX1_tiling (l : Launch) (D : va_G) (ad : Nat → Nat) (ci : Nat → ClassId) (sz : Nat) (w ol : Nat → Int32) (bits : Nat) (hbits : bits < 256) : ZMi l yX1_tiling cX1_tiling 8 (some .int) (zr 1) D (YT ci) (.ref (ad 0) :: [.int (nI bits)]) sz (YW ad ci w ol) (fun r (u : YS) => r = nI (zt_til bits) ∧ u.1 = w ∧ u.2 = ol) (YU ad ci) := by
  unfold ZMi
  refine zw_met (own := RX1) (Qf := fun A => va_Qi (fun r (u : YS) => r = nI (zt_til bits) ∧ u.1 = w ∧ u.2 = ol) (ZB D (YT ci) (YU ad ci) A) A) (by decide) rfl (Nat.le_of_ble_eq_true rfl) ?_
  intro p e s m below meth c A ls S0 hr hlocks hin hA hK hH hl
  obtain ⟨hx, hb, hml, hown, hts⟩ := id S0
  have hl : lv_has ls 8 [(0, .ref (ad 0)), (1, .int (nI (bits)))] := hl
  refine lv_iconst (v := nI 0) hx hb dX1_tiling_0 (by decide) ?_
  refine lv_istore_n (lv' := [(2, .int _), (0, .ref _), (1, .int _)]) hx hb dX1_tiling_1 rfl hl (by decide) rfl (fun ls hl => ?_)
  refine lv_iconst (v := nI 0) hx hb dX1_tiling_2 (by decide) ?_
  refine lv_istore_n (lv' := [(3, .int _), (2, .int _), (0, .ref _), (1, .int _)]) hx hb dX1_tiling_3 rfl hl (by decide) rfl (fun ls hl => ?_)
  refine lv_iconst (v := nI 0) hx hb dX1_tiling_4 (by decide) ?_
  refine lv_istore (lv' := [(4, .int _), (3, .int _), (2, .int _), (0, .ref _), (1, .int _)]) hx hb dX1_tiling_5 hl (by decide) rfl (fun ls hl => ?_)
  refine lX1_tiling S0 hA hK ⟨Nat.le_of_ble_eq_true rfl, Nat.le_of_ble_eq_true rfl⟩ ⟨Nat.zero_le _, Nat.zero_le _⟩ bits hbits (fun H locs ls h0 hH => ?_) (fun H locs ls hH hl => ?_) 9 0 _ _ _ _ _ (by omega) (by omega) (by omega) (by omega) rfl hH (lv_sub hl [3, 4, 2, 1, 0] rfl)
  · exact zw_iret (u := (w, ol)) hx hb hr hlocks hK hH (⟨by rw [h0], rfl, rfl⟩) dX1_tiling_87
  · refine lv_iload_n hx hb dX1_tiling_135 rfl (lv_at hl 0 rfl) ?_
    exact zw_iret (u := (w, ol)) hx hb hr hlocks hK hH (⟨rfl, rfl, rfl⟩) dX1_tiling_136
/-- a loop of worth -/
theorem lX1_worth {p : Program} {l : Launch} {e : Env} {R : Room} {s : State} {m : MethodId} {args : Array Value} {below : List Frame} {meth : Method} {c : Code} {cells slots : Nat} {Q : State → Prop} {A : Nat → Prop} {D : va_G} {ad : Nat → Nat} {ci : Nat → ClassId} (S0 : CallFix p m c cX1_worth 4 s args lw_all RX1) (hA : ∀ q, s.heap.size ≤ q → A q) (hK : va_K D vwCl (YT ci) s) {w ol : Nat → Int32} {v : Nat → Nat} (hv : zv v w) (q : Nat) (hq : q < 16777216)
    (K : ∀ (H : Heap) (locs : List Loc) (ls : Array Slot), ZH D A s.heap (YW ad ci w ol) H locs → lv_has ls 4 [(2, .int (nI (zt_worth v q)))] → W p l e R s m args below meth c H locs cells slots Q (F0 m 42 ls [])) :
    ∀ (n i : Nat) (pr : Nat) (H : Heap) (locs : List Loc) (ls : Array Slot), i ≤ 24 → 24 + 1 ≤ i + n → pr = (if q = 0 then 0 else zt_pr v q i) → ZH D A s.heap (YW ad ci w ol) H locs → lv_has ls 4 [(0, .ref (ad 0)), (1, .int (nI (q))), (2, .int (nI (pr))), (3, .int (nI (i)))] → W p l e R s m args below meth c H locs cells slots Q (F0 m 12 ls []) := by
  obtain ⟨hx, hb, hml, hown, hts⟩ := id S0
  intro n
  induction n with
  | zero =>
    intro i pr H locs ls h1 h2
    exact absurd h2 (by omega)
  | succ n ih =>
    intro i pr H locs ls hi hin hpr hH hl
    refine lv_iload_n hx hb dX1_worth_12 rfl (lv_at hl 3 rfl) ?_
    refine lv_bipush (v := nI 24) hx hb dX1_worth_13 (by decide) ?_
    refine lv_icmp_ge (tgt := 42) hx hb dX1_worth_15 (by decide) (fun c15 => ?_) (fun c15 => ?_)
    · have c15 : 24 ≤ i := (nI_leI (a := 24) (b := i) (by omega) (by omega)).mp c15
      have e24 : i = 24 := by omega
      subst e24
      have hpr : pr = zt_worth v q := hpr
      rw [hpr] at hl
      exact K H locs ls hH (lv_sub hl [2] rfl)
    · have c15 : ¬ (24 ≤ i) := fun h => c15 ((nI_leI (a := 24) (b := i) (by omega) (by omega)).mpr h)
      refine lv_iload_n hx hb dX1_worth_18 rfl (lv_at hl 1 rfl) ?_
      refine lv_iload_n hx hb dX1_worth_19 rfl (lv_at hl 3 rfl) ?_
      refine lv_ishr hx hb dX1_worth_20 ?_
      refine zw_i (nI (q / 2 ^ i)) (zn_shr (by omega) (by omega)) ?_
      refine lv_iconst (v := nI 1) hx hb dX1_worth_21 (by decide) ?_
      refine lv_iand hx hb dX1_worth_22 ?_
      refine zw_i (nI ((q / 2 ^ i) % 2)) (zn_and1 (zn_dlt (by omega))) ?_
      refine lv_iconst (v := nI 1) hx hb dX1_worth_23 (by decide) ?_
      refine lv_icmp_ne (tgt := 36) hx hb dX1_worth_24 (by decide) (fun c24 => ?_) (fun c24 => ?_)
      · have c24 : ¬ ((q / 2 ^ i) % 2 = 1) := fun h => c24 ((nI_eq (a := (q / 2 ^ i) % 2) (b := 1) (by omega) (by omega)).mpr h)
        refine lv_iinc (v := nI (i + 1)) (lv' := [(3, .int _), (0, .ref _), (1, .int _), (2, .int _)]) hx hb dX1_worth_36 hl (k := 3) rfl (nI_1 _) (by decide) rfl (fun ls hl => ?_)
        refine lv_goto (tgt := 12) hx hb dX1_worth_39 (by decide) ?_
        exact ih (i + 1) _ _ _ _ (by omega) (by omega) (by rw [hpr]; show _ = if q = 0 then 0 else (if q / 2 ^ i % 2 = 1 then zt_pr v q i * v i else zt_pr v q i); rw [if_neg c24]) hH (lv_sub hl [1, 2, 3, 0] rfl)
      · have c24 : (q / 2 ^ i) % 2 = 1 := (nI_eq (a := (q / 2 ^ i) % 2) (b := 1) (by omega) (by omega)).mp c24
        refine lv_iload_n hx hb dX1_worth_27 rfl (lv_at hl 2 rfl) ?_
        refine lv_aload_n hx hb dX1_worth_28 rfl (lv_at hl 0 rfl) ?_
        refine zy_g0 hx hb hts hown hK hH dX1_worth_29 ?_
        refine lv_iload_n hx hb dX1_worth_32 rfl (lv_at hl 3 rfl) ?_
        refine zy_l0 hx hb hK hH (j := i) (by omega) dX1_worth_33 ?_
        refine zw_i (nI (v i)) ((hv i (by omega)).1) ?_
        refine lv_imul hx hb dX1_worth_34 ?_
        refine zw_i (nI (pr * (v i))) (pk_mul _ _) ?_
        refine lv_istore_n (lv' := [(2, .int _), (0, .ref _), (1, .int _), (3, .int _)]) hx hb dX1_worth_35 rfl hl (by decide) rfl (fun ls hl => ?_)
        refine lv_iinc (v := nI (i + 1)) (lv' := [(3, .int _), (2, .int _), (0, .ref _), (1, .int _)]) hx hb dX1_worth_36 hl (k := 3) rfl (nI_1 _) (by decide) rfl (fun ls hl => ?_)
        refine lv_goto (tgt := 12) hx hb dX1_worth_39 (by decide) ?_
        exact ih (i + 1) _ _ _ _ (by omega) (by omega) (by
          rw [hpr]
          show _ = if q = 0 then 0 else (if q / 2 ^ i % 2 = 1 then zt_pr v q i * v i else zt_pr v q i)
          rw [if_pos c24]
          by_cases e : q = 0
          · rw [if_pos e, if_pos e, Nat.zero_mul]
          · rw [if_neg e, if_neg e]) hH (lv_sub hl [2, 3, 1, 0] rfl)
/-- worth(q) -/
theorem mX1_worth (l : Launch) (D : va_G) (ad : Nat → Nat) (ci : Nat → ClassId) (sz : Nat) (w ol : Nat → Int32) (v : Nat → Nat) (hv : zv v w) (q : Nat) (hq : q < 16777216) : ZMi l yX1_worth cX1_worth 4 (some .int) (zr 0) D (YT ci) (.ref (ad 0) :: [.int (nI q)]) sz (YW ad ci w ol) (fun r (u : YS) => r = nI (zt_worth v q) ∧ u.1 = w ∧ u.2 = ol) (YU ad ci) := by
  unfold ZMi
  refine zw_met (own := RX1) (Qf := fun A => va_Qi (fun r (u : YS) => r = nI (zt_worth v q) ∧ u.1 = w ∧ u.2 = ol) (ZB D (YT ci) (YU ad ci) A) A) (by decide) rfl (Nat.le_of_ble_eq_true rfl) ?_
  intro p e s m below meth c A ls S0 hr hlocks hin hA hK hH hl
  obtain ⟨hx, hb, hml, hown, hts⟩ := id S0
  have hl : lv_has ls 4 [(0, .ref (ad 0)), (1, .int (nI (q)))] := hl
  refine lv_iload_n hx hb dX1_worth_0 rfl (lv_at hl 1 rfl) ?_
  refine lv_if_ne (tgt := 8) hx hb dX1_worth_1 (by decide) (fun c1 => ?_) (fun c1 => ?_)
  · have c1 : ¬ (q = 0) := fun h => c1 ((nI_eq (a := q) (b := 0) (by omega) (by omega)).mpr h)
    refine lv_iconst (v := nI 1) hx hb dX1_worth_8 (by decide) ?_
    refine lv_istore_n (lv' := [(2, .int _), (0, .ref _), (1, .int _)]) hx hb dX1_worth_9 rfl hl (by decide) rfl (fun ls hl => ?_)
    refine lv_iconst (v := nI 0) hx hb dX1_worth_10 (by decide) ?_
    refine lv_istore_n (lv' := [(3, .int _), (2, .int _), (0, .ref _), (1, .int _)]) hx hb dX1_worth_11 rfl hl (by decide) rfl (fun ls hl => ?_)
    refine lX1_worth S0 hA hK hv q hq (fun H locs ls hH hl => ?_) 25 0 _ _ _ _ (by omega) (by omega) ((if_neg c1).symm) hH (lv_sub hl [2, 3, 1, 0] rfl)
    refine lv_iload_n hx hb dX1_worth_42 rfl (lv_at hl 0 rfl) ?_
    exact zw_iret (u := (w, ol)) hx hb hr hlocks hK hH (⟨rfl, rfl, rfl⟩) dX1_worth_43
  · have c1 : q = 0 := (nI_eq (a := q) (b := 0) (by omega) (by omega)).mp c1
    refine lv_iconst (v := nI 0) hx hb dX1_worth_4 (by decide) ?_
    refine lv_goto (tgt := 9) hx hb dX1_worth_5 (by decide) ?_
    refine lv_istore_n (lv' := [(2, .int _), (0, .ref _), (1, .int _)]) hx hb dX1_worth_9 rfl hl (by decide) rfl (fun ls hl => ?_)
    refine lv_iconst (v := nI 0) hx hb dX1_worth_10 (by decide) ?_
    refine lv_istore_n (lv' := [(3, .int _), (2, .int _), (0, .ref _), (1, .int _)]) hx hb dX1_worth_11 rfl hl (by decide) rfl (fun ls hl => ?_)
    refine lX1_worth S0 hA hK hv q hq (fun H locs ls hH hl => ?_) 25 0 _ _ _ _ (by omega) (by omega) ((if_pos c1).symm) hH (lv_sub hl [2, 3, 1, 0] rfl)
    refine lv_iload_n hx hb dX1_worth_42 rfl (lv_at hl 0 rfl) ?_
    exact zw_iret (u := (w, ol)) hx hb hr hlocks hK hH (⟨rfl, rfl, rfl⟩) dX1_worth_43
/-- a loop of sumWith -/
theorem lX1_sumWith {p : Program} {l : Launch} {e : Env} {R : Room} {s : State} {m : MethodId} {args : Array Value} {below : List Frame} {meth : Method} {c : Code} {cells slots : Nat} {Q : State → Prop} {A : Nat → Prop} {D : va_G} {ad : Nat → Nat} {ci : Nat → ClassId} (S0 : CallFix p m c cX1_sumWith 6 s args lw_all RX1) (hA : ∀ q, s.heap.size ≤ q → A q) (hK : va_K D vwCl (YT ci) s) (hR : (zr 1).frames + 1 ≤ R.frames ∧ 8 + (8 + 11) + (zr 1).locals ≤ R.locals) (hR1 : (zr 0).frames + 1 ≤ R.frames ∧ 8 + (4 + 11) + (zr 0).locals ≤ R.locals) (hf : cells ≤ R.cells ∧ slots ≤ R.slots) {w ol : Nat → Int32} {v : Nat → Nat} (hv : zv v w) (q : Nat) (hq : q < 16777216)
    (K : ∀ (H : Heap) (locs : List Loc) (ls : Array Slot), ZH D A s.heap (YW ad ci w ol) H locs → lv_has ls 6 [(2, .int (nI (zt_W v q)))] → W p l e R s m args below meth c H locs cells slots Q (F0 m 45 ls [])) :
    ∀ (n i : Nat) (sm : Nat) (H : Heap) (locs : List Loc) (ls : Array Slot), i ≤ 256 → 256 + 1 ≤ i + n → sm = zt_sum (fun b => if zt_til b &&& q = q then zt_worth v (zt_til b) else 0) i → ZH D A s.heap (YW ad ci w ol) H locs → lv_has ls 6 [(0, .ref (ad 0)), (1, .int (nI (q))), (2, .int (nI (sm))), (3, .int (nI (i)))] → W p l e R s m args below meth c H locs cells slots Q (F0 m 4 ls []) := by
  obtain ⟨hx, hb, hml, hown, hts⟩ := id S0
  intro n
  induction n with
  | zero =>
    intro i sm H locs ls h1 h2
    exact absurd h2 (by omega)
  | succ n ih =>
    intro i sm H locs ls hi hin hsm hH hl
    refine lv_iload_n hx hb dX1_sumWith_4 rfl (lv_at hl 3 rfl) ?_
    refine lv_sipush (v := nI 256) hx hb dX1_sumWith_5 (by decide) ?_
    refine lv_icmp_ge (tgt := 45) hx hb dX1_sumWith_8 (by decide) (fun c8 => ?_) (fun c8 => ?_)
    · have c8 : 256 ≤ i := (nI_leI (a := 256) (b := i) (by omega) (by omega)).mp c8
      have e256 : i = 256 := by omega
      subst e256
      have hsm : sm = zt_W v q := hsm
      rw [hsm] at hl
      exact K H locs ls hH (lv_sub hl [2] rfl)
    · have c8 : ¬ (256 ≤ i) := fun h => c8 ((nI_leI (a := 256) (b := i) (by omega) (by omega)).mpr h)
      have htl := zt_til_lt (b := i) (by omega)
      have hal := Nat.and_le_left (n := zt_til i) (m := q)
      refine lv_aload_n hx hb dX1_sumWith_11 rfl (lv_at hl 0 rfl) ?_
      refine lv_iload_n hx hb dX1_sumWith_12 rfl (lv_at hl 3 rfl) ?_
      refine zw_Vi (n := 1) (rest := []) (wr := []) S0 (mX1_tiling l D ad ci _ w ol i (by omega)) q194 q196 qs13 q18 q197 (by decide +kernel) hR ⟨rfl, rfl⟩ hf hK hA hH [0, 1, 2] [] [0, 1] rfl rfl rfl (by decide) (by decide) (by decide) rfl rfl rfl rfl hl.1 rfl (Nat.le_of_ble_eq_true rfl) dX1_sumWith_13 (fun r13 u13 H locs hr13 hH => ?_)
      have hH : ZH D A s.heap (YW ad ci u13.1 u13.2) H locs := hH
      rw [hr13.2.1, hr13.2.2] at hH
      refine zw_i (nI (zt_til i)) (hr13.1) ?_
      refine lv_istore (lv' := [(4, .int _), (0, .ref _), (1, .int _), (2, .int _), (3, .int _)]) hx hb dX1_sumWith_16 hl (by decide) rfl (fun ls hl => ?_)
      refine lv_iload hx hb dX1_sumWith_18 (lv_at hl 0 rfl) ?_
      refine lv_iload_n hx hb dX1_sumWith_20 rfl (lv_at hl 2 rfl) ?_
      refine lv_iand hx hb dX1_sumWith_21 ?_
      refine zw_i (nI ((zt_til i) &&& q)) (zn_and _ _) ?_
      refine lv_iload_n hx hb dX1_sumWith_22 rfl (lv_at hl 2 rfl) ?_
      refine lv_icmp_ne (tgt := 39) hx hb dX1_sumWith_23 (by decide) (fun c23 => ?_) (fun c23 => ?_)
      · have c23 : ¬ ((zt_til i) &&& q = q) := fun h => c23 ((nI_eq (a := (zt_til i) &&& q) (b := q) (by omega) (by omega)).mpr h)
        refine lv_iinc (v := nI (i + 1)) (lv' := [(3, .int _), (4, .int _), (0, .ref _), (1, .int _), (2, .int _)]) hx hb dX1_sumWith_39 hl (k := 4) rfl (nI_1 _) (by decide) rfl (fun ls hl => ?_)
        refine lv_goto (tgt := 4) hx hb dX1_sumWith_42 (by decide) ?_
        exact ih (i + 1) _ _ _ _ (by omega) (by omega) (by rw [hsm]; show _ = _ + (if zt_til i &&& q = q then zt_worth v (zt_til i) else 0); rw [if_neg c23, Nat.add_zero]) hH (lv_sub hl [2, 3, 4, 0] rfl)
      · have c23 : (zt_til i) &&& q = q := (nI_eq (a := (zt_til i) &&& q) (b := q) (by omega) (by omega)).mp c23
        refine lv_aload_n hx hb dX1_sumWith_26 rfl (lv_at hl 1 rfl) ?_
        refine lv_iload hx hb dX1_sumWith_27 (lv_at hl 0 rfl) ?_
        refine zw_Vi (n := 1) (rest := []) (wr := []) S0 (mX1_worth l D ad ci _ w ol v hv (zt_til i) htl) q202 q204 qs15 q18 q205 (by decide +kernel) hR1 ⟨rfl, rfl⟩ hf hK hA hH [0, 1, 2] [] [0, 1] rfl rfl rfl (by decide) (by decide) (by decide) rfl rfl rfl rfl hl.1 rfl (Nat.le_of_ble_eq_true rfl) dX1_sumWith_29 (fun r29 u29 H locs hr29 hH => ?_)
        have hH : ZH D A s.heap (YW ad ci u29.1 u29.2) H locs := hH
        rw [hr29.2.1, hr29.2.2] at hH
        refine zw_i (nI (zt_worth v (zt_til i))) (hr29.1) ?_
        refine lv_istore (lv' := [(5, .int _), (4, .int _), (0, .ref _), (1, .int _), (2, .int _), (3, .int _)]) hx hb dX1_sumWith_32 hl (by decide) rfl (fun ls hl => ?_)
        refine lv_iload_n hx hb dX1_sumWith_34 rfl (lv_at hl 4 rfl) ?_
        refine lv_iload hx hb dX1_sumWith_35 (lv_at hl 0 rfl) ?_
        refine lv_iadd hx hb dX1_sumWith_37 ?_
        refine zw_i (nI (sm + (zt_worth v (zt_til i)))) (nI_add _ _) ?_
        refine lv_istore_n (lv' := [(2, .int _), (5, .int _), (4, .int _), (0, .ref _), (1, .int _), (3, .int _)]) hx hb dX1_sumWith_38 rfl hl (by decide) rfl (fun ls hl => ?_)
        refine lv_iinc (v := nI (i + 1)) (lv' := [(3, .int _), (2, .int _), (5, .int _), (4, .int _), (0, .ref _), (1, .int _)]) hx hb dX1_sumWith_39 hl (k := 5) rfl (nI_1 _) (by decide) rfl (fun ls hl => ?_)
        refine lv_goto (tgt := 4) hx hb dX1_sumWith_42 (by decide) ?_
        exact ih (i + 1) _ _ _ _ (by omega) (by omega) (by rw [hsm]; show _ = _ + (if zt_til i &&& q = q then zt_worth v (zt_til i) else 0); rw [if_pos c23]) hH (lv_sub hl [4, 5, 1, 0] rfl)
/-- sumWith(q) -/
theorem mX1_sumWith (l : Launch) (D : va_G) (ad : Nat → Nat) (ci : Nat → ClassId) (sz : Nat) (w ol : Nat → Int32) (v : Nat → Nat) (hv : zv v w) (q : Nat) (hq : q < 16777216) : ZMi l yX1_sumWith cX1_sumWith 6 (some .int) (zr 2) D (YT ci) (.ref (ad 0) :: [.int (nI q)]) sz (YW ad ci w ol) (fun r (u : YS) => r = nI (zt_W v q) ∧ u.1 = w ∧ u.2 = ol) (YU ad ci) := by
  unfold ZMi
  refine zw_met (own := RX1) (Qf := fun A => va_Qi (fun r (u : YS) => r = nI (zt_W v q) ∧ u.1 = w ∧ u.2 = ol) (ZB D (YT ci) (YU ad ci) A) A) (by decide) rfl (Nat.le_of_ble_eq_true rfl) ?_
  intro p e s m below meth c A ls S0 hr hlocks hin hA hK hH hl
  obtain ⟨hx, hb, hml, hown, hts⟩ := id S0
  have hl : lv_has ls 6 [(0, .ref (ad 0)), (1, .int (nI (q)))] := hl
  refine lv_iconst (v := nI 0) hx hb dX1_sumWith_0 (by decide) ?_
  refine lv_istore_n (lv' := [(2, .int _), (0, .ref _), (1, .int _)]) hx hb dX1_sumWith_1 rfl hl (by decide) rfl (fun ls hl => ?_)
  refine lv_iconst (v := nI 0) hx hb dX1_sumWith_2 (by decide) ?_
  refine lv_istore_n (lv' := [(3, .int _), (2, .int _), (0, .ref _), (1, .int _)]) hx hb dX1_sumWith_3 rfl hl (by decide) rfl (fun ls hl => ?_)
  refine lX1_sumWith S0 hA hK ⟨Nat.le_of_ble_eq_true rfl, Nat.le_of_ble_eq_true rfl⟩ ⟨Nat.le_of_ble_eq_true rfl, Nat.le_of_ble_eq_true rfl⟩ ⟨Nat.zero_le _, Nat.zero_le _⟩ hv q hq (fun H locs ls hH hl => ?_) 257 0 _ _ _ _ (by omega) (by omega) rfl hH (lv_sub hl [2, 3, 1, 0] rfl)
  refine lv_iload_n hx hb dX1_sumWith_45 rfl (lv_at hl 0 rfl) ?_
  exact zw_iret (u := (w, ol)) hx hb hr hlocks hK hH (⟨rfl, rfl, rfl⟩) dX1_sumWith_46
/-- total() -/
theorem mX1_total (l : Launch) (D : va_G) (ad : Nat → Nat) (ci : Nat → ClassId) (sz : Nat) (w ol : Nat → Int32) (v : Nat → Nat) (hv : zv v w)  : ZMi l yX1_total cX1_total 1 (some .int) (zr 3) D (YT ci) (.ref (ad 0) :: []) sz (YW ad ci w ol) (fun r (u : YS) => r = nI (zt_T v) ∧ zv v u.1) (YU ad ci) := by
  unfold ZMi
  refine zw_met (own := RX1) (Qf := fun A => va_Qi (fun r (u : YS) => r = nI (zt_T v) ∧ zv v u.1) (ZB D (YT ci) (YU ad ci) A) A) (by decide) rfl (Nat.le_of_ble_eq_true rfl) ?_
  intro p e s m below meth c A ls S0 hr hlocks hin hA hK hH hl
  obtain ⟨hx, hb, hml, hown, hts⟩ := id S0
  have hl : lv_has ls 1 [(0, .ref (ad 0))] := hl
  refine lv_aload_n hx hb dX1_total_0 rfl (lv_at hl 0 rfl) ?_
  refine lv_iconst (v := nI 0) hx hb dX1_total_1 (by decide) ?_
  refine zw_Vi (n := 1) (rest := []) (wr := []) S0 (mX1_sumWith l D ad ci _ w ol v hv 0 (by decide)) q190 q192 qs12 q18 q193 (by decide +kernel) ⟨Nat.le_of_ble_eq_true rfl, Nat.le_of_ble_eq_true rfl⟩ ⟨rfl, rfl⟩ ⟨Nat.zero_le _, Nat.zero_le _⟩ hK hA hH [0, 1, 2] [] [0, 1] rfl rfl rfl (by decide) (by decide) (by decide) rfl rfl rfl rfl hl.1 rfl (Nat.le_of_ble_eq_true rfl) dX1_total_2 (fun r2 u2 H locs hr2 hH => ?_)
  have hH : ZH D A s.heap (YW ad ci u2.1 u2.2) H locs := hH
  rw [hr2.2.1, hr2.2.2] at hH
  exact zw_iret (u := (w, ol)) hx hb hr hlocks hK hH (⟨by rw [hr2.1, zt_W0], hv⟩) dX1_total_5
/-- totalWith(x) -/
theorem mX1_totalWith (l : Launch) (D : va_G) (ad : Nat → Nat) (ci : Nat → ClassId) (sz : Nat) (w ol : Nat → Int32) (v : Nat → Nat) (hv : zv v w) (x : Int32) : ZMi l yX1_totalWith cX1_totalWith 2 (some .int) (zr 3) D (YT ci) (.ref (ad 0) :: [.int x]) sz (YW ad ci w ol) (fun r (u : YS) => r = sp_with v x ∧ zv v u.1) (YU ad ci) := by
  unfold ZMi
  refine zw_met (own := RX1) (Qf := fun A => va_Qi (fun r (u : YS) => r = sp_with v x ∧ zv v u.1) (ZB D (YT ci) (YU ad ci) A) A) (by decide) rfl (Nat.le_of_ble_eq_true rfl) ?_
  intro p e s m below meth c A ls S0 hr hlocks hin hA hK hH hl
  obtain ⟨hx, hb, hml, hown, hts⟩ := id S0
  have hl : lv_has ls 2 [(0, .ref (ad 0)), (1, .int (x))] := hl
  refine lv_aload_n hx hb dX1_totalWith_0 rfl (lv_at hl 0 rfl) ?_
  refine lv_iload_n hx hb dX1_totalWith_1 rfl (lv_at hl 1 rfl) ?_
  refine zw_Vi (n := 1) (rest := []) (wr := []) S0 (mX1_bad l D ad ci _ w ol x) q158 q160 qs9 q18 q161 (by decide +kernel) ⟨Nat.le_of_ble_eq_true rfl, Nat.le_of_ble_eq_true rfl⟩ ⟨rfl, rfl⟩ ⟨Nat.zero_le _, Nat.zero_le _⟩ hK hA hH [0, 1, 2] [] [0, 1] rfl rfl rfl (by decide) (by decide) (by decide) rfl rfl rfl rfl hl.1 rfl (Nat.le_of_ble_eq_true rfl) dX1_totalWith_2 (fun r2 u2 H locs hr2 hH => ?_)
  have hH : ZH D A s.heap (YW ad ci u2.1 u2.2) H locs := hH
  rw [hr2.2.1, hr2.2.2] at hH
  rcases hr2.1 with ⟨hr2, hbad⟩ | ⟨hr2, k, hk, hk1⟩
  · refine zw_i (nI (1)) (hr2) ?_
    refine lv_if_eq (tgt := 12) hx hb dX1_totalWith_5 (by decide) (fun c5 => ?_) (fun c5 => ?_)
    · have c5 : 1 = 0 := (nI_eq (a := 1) (b := 0) (by omega) (by omega)).mp c5
      exfalso; omega
    · have c5 : ¬ (1 = 0) := fun h => c5 ((nI_eq (a := 1) (b := 0) (by omega) (by omega)).mpr h)
      refine lv_iconst (v := -1) hx hb dX1_totalWith_8 (by decide) ?_
      refine lv_goto (tgt := 19) hx hb dX1_totalWith_9 (by decide) ?_
      exact zw_iret (u := (w, ol)) hx hb hr hlocks hK hH (by unfold sp_with; rw [sp_ix_bad hbad]; exact ⟨rfl, hv⟩) dX1_totalWith_19
  · refine zw_i (nI (0)) (hr2) ?_
    subst hk1
    refine lv_if_eq (tgt := 12) hx hb dX1_totalWith_5 (by decide) (fun c5 => ?_) (fun c5 => ?_)
    · have c5 : 0 = 0 := (nI_eq (a := 0) (b := 0) (by omega) (by omega)).mp c5
      refine lv_aload_n hx hb dX1_totalWith_12 rfl (lv_at hl 0 rfl) ?_
      refine lv_iconst (v := nI 1) hx hb dX1_totalWith_13 (by decide) ?_
      refine lv_iload_n hx hb dX1_totalWith_14 rfl (lv_at hl 1 rfl) ?_
      refine lv_ishl hx hb dX1_totalWith_15 ?_
      refine zw_i (nI (2 ^ k)) (zn_shl1 (by omega)) ?_
      refine zw_Vi (n := 1) (rest := []) (wr := []) S0 (mX1_sumWith l D ad ci _ w ol v hv (2 ^ k) (zt_p24 hk)) q190 q192 qs12 q18 q193 (by decide +kernel) ⟨Nat.le_of_ble_eq_true rfl, Nat.le_of_ble_eq_true rfl⟩ ⟨rfl, rfl⟩ ⟨Nat.zero_le _, Nat.zero_le _⟩ hK hA hH [0, 1, 2] [] [0, 1] rfl rfl rfl (by decide) (by decide) (by decide) rfl rfl rfl rfl hl.1 rfl (Nat.le_of_ble_eq_true rfl) dX1_totalWith_16 (fun r16 u16 H locs hr16 hH => ?_)
      have hH : ZH D A s.heap (YW ad ci u16.1 u16.2) H locs := hH
      rw [hr16.2.1, hr16.2.2] at hH
      exact zw_iret (u := (w, ol)) hx hb hr hlocks hK hH (by unfold sp_with; rw [sp_ix_nI hk]; exact ⟨hr16.1, hv⟩) dX1_totalWith_19
    · have c5 : ¬ (0 = 0) := fun h => c5 ((nI_eq (a := 0) (b := 0) (by omega) (by omega)).mpr h)
      exfalso; omega
/-- totalWithBoth(x, y) -/
theorem mX1_totalWithBoth (l : Launch) (D : va_G) (ad : Nat → Nat) (ci : Nat → ClassId) (sz : Nat) (w ol : Nat → Int32) (v : Nat → Nat) (hv : zv v w) (x y : Int32) : ZMi l yX1_totalWithBoth cX1_totalWithBoth 3 (some .int) (zr 3) D (YT ci) (.ref (ad 0) :: [.int x, .int y]) sz (YW ad ci w ol) (fun r (u : YS) => r = sp_both v x y ∧ zv v u.1) (YU ad ci) := by
  unfold ZMi
  refine zw_met (own := RX1) (Qf := fun A => va_Qi (fun r (u : YS) => r = sp_both v x y ∧ zv v u.1) (ZB D (YT ci) (YU ad ci) A) A) (by decide) rfl (Nat.le_of_ble_eq_true rfl) ?_
  intro p e s m below meth c A ls S0 hr hlocks hin hA hK hH hl
  obtain ⟨hx, hb, hml, hown, hts⟩ := id S0
  have hl : lv_has ls 3 [(0, .ref (ad 0)), (1, .int (x)), (2, .int (y))] := hl
  refine lv_aload_n hx hb dX1_totalWithBoth_0 rfl (lv_at hl 0 rfl) ?_
  refine lv_iload_n hx hb dX1_totalWithBoth_1 rfl (lv_at hl 1 rfl) ?_
  refine zw_Vi (n := 1) (rest := []) (wr := []) S0 (mX1_bad l D ad ci _ w ol x) q158 q160 qs9 q18 q161 (by decide +kernel) ⟨Nat.le_of_ble_eq_true rfl, Nat.le_of_ble_eq_true rfl⟩ ⟨rfl, rfl⟩ ⟨Nat.zero_le _, Nat.zero_le _⟩ hK hA hH [0, 1, 2] [] [0, 1] rfl rfl rfl (by decide) (by decide) (by decide) rfl rfl rfl rfl hl.1 rfl (Nat.le_of_ble_eq_true rfl) dX1_totalWithBoth_2 (fun r2 u2 H locs hr2 hH => ?_)
  have hH : ZH D A s.heap (YW ad ci u2.1 u2.2) H locs := hH
  rw [hr2.2.1, hr2.2.2] at hH
  rcases hr2.1 with ⟨hr2, hbad⟩ | ⟨hr2, k, hk, hk1⟩
  · refine zw_i (nI (1)) (hr2) ?_
    refine lv_if_ne (tgt := 16) hx hb dX1_totalWithBoth_5 (by decide) (fun c5 => ?_) (fun c5 => ?_)
    · have c5 : ¬ (1 = 0) := fun h => c5 ((nI_eq (a := 1) (b := 0) (by omega) (by omega)).mpr h)
      refine lv_iconst (v := -1) hx hb dX1_totalWithBoth_16 (by decide) ?_
      refine lv_goto (tgt := 31) hx hb dX1_totalWithBoth_17 (by decide) ?_
      exact zw_iret (u := (w, ol)) hx hb hr hlocks hK hH (by unfold sp_both; rw [sp_ix_bad hbad]; exact ⟨rfl, hv⟩) dX1_totalWithBoth_31
    · have c5 : 1 = 0 := (nI_eq (a := 1) (b := 0) (by omega) (by omega)).mp c5
      exfalso; omega
  · refine zw_i (nI (0)) (hr2) ?_
    subst hk1
    refine lv_if_ne (tgt := 16) hx hb dX1_totalWithBoth_5 (by decide) (fun c5 => ?_) (fun c5 => ?_)
    · have c5 : ¬ (0 = 0) := fun h => c5 ((nI_eq (a := 0) (b := 0) (by omega) (by omega)).mpr h)
      exfalso; omega
    · have c5 : 0 = 0 := (nI_eq (a := 0) (b := 0) (by omega) (by omega)).mp c5
      refine lv_aload_n hx hb dX1_totalWithBoth_8 rfl (lv_at hl 0 rfl) ?_
      refine lv_iload_n hx hb dX1_totalWithBoth_9 rfl (lv_at hl 2 rfl) ?_
      refine zw_Vi (n := 1) (rest := []) (wr := []) S0 (mX1_bad l D ad ci _ w ol y) q158 q160 qs9 q18 q161 (by decide +kernel) ⟨Nat.le_of_ble_eq_true rfl, Nat.le_of_ble_eq_true rfl⟩ ⟨rfl, rfl⟩ ⟨Nat.zero_le _, Nat.zero_le _⟩ hK hA hH [0, 1, 2] [] [0, 1] rfl rfl rfl (by decide) (by decide) (by decide) rfl rfl rfl rfl hl.1 rfl (Nat.le_of_ble_eq_true rfl) dX1_totalWithBoth_10 (fun r10 u10 H locs hr10 hH => ?_)
      have hH : ZH D A s.heap (YW ad ci u10.1 u10.2) H locs := hH
      rw [hr10.2.1, hr10.2.2] at hH
      rcases hr10.1 with ⟨hr10, hbad⟩ | ⟨hr10, j, hj, hj1⟩
      · refine zw_i (nI (1)) (hr10) ?_
        refine lv_if_eq (tgt := 20) hx hb dX1_totalWithBoth_13 (by decide) (fun c13 => ?_) (fun c13 => ?_)
        · have c13 : 1 = 0 := (nI_eq (a := 1) (b := 0) (by omega) (by omega)).mp c13
          exfalso; omega
        · have c13 : ¬ (1 = 0) := fun h => c13 ((nI_eq (a := 1) (b := 0) (by omega) (by omega)).mpr h)
          refine lv_iconst (v := -1) hx hb dX1_totalWithBoth_16 (by decide) ?_
          refine lv_goto (tgt := 31) hx hb dX1_totalWithBoth_17 (by decide) ?_
          exact zw_iret (u := (w, ol)) hx hb hr hlocks hK hH (by unfold sp_both; rw [sp_ix_nI hk, sp_ix_bad hbad]; exact ⟨rfl, hv⟩) dX1_totalWithBoth_31
      · refine zw_i (nI (0)) (hr10) ?_
        subst hj1
        refine lv_if_eq (tgt := 20) hx hb dX1_totalWithBoth_13 (by decide) (fun c13 => ?_) (fun c13 => ?_)
        · have c13 : 0 = 0 := (nI_eq (a := 0) (b := 0) (by omega) (by omega)).mp c13
          refine lv_aload_n hx hb dX1_totalWithBoth_20 rfl (lv_at hl 0 rfl) ?_
          refine lv_iconst (v := nI 1) hx hb dX1_totalWithBoth_21 (by decide) ?_
          refine lv_iload_n hx hb dX1_totalWithBoth_22 rfl (lv_at hl 1 rfl) ?_
          refine lv_ishl hx hb dX1_totalWithBoth_23 ?_
          refine zw_i (nI (2 ^ k)) (zn_shl1 (by omega)) ?_
          refine lv_iconst (v := nI 1) hx hb dX1_totalWithBoth_24 (by decide) ?_
          refine lv_iload_n hx hb dX1_totalWithBoth_25 rfl (lv_at hl 2 rfl) ?_
          refine lv_ishl hx hb dX1_totalWithBoth_26 ?_
          refine zw_i (nI (2 ^ j)) (zn_shl1 (by omega)) ?_
          refine lv_ior hx hb dX1_totalWithBoth_27 ?_
          refine zw_i (nI ((2 ^ k) ||| (2 ^ j))) (zn_or _ _) ?_
          refine zw_Vi (n := 1) (rest := []) (wr := []) S0 (mX1_sumWith l D ad ci _ w ol v hv (2 ^ k ||| 2 ^ j) (zt_o24 hk hj)) q190 q192 qs12 q18 q193 (by decide +kernel) ⟨Nat.le_of_ble_eq_true rfl, Nat.le_of_ble_eq_true rfl⟩ ⟨rfl, rfl⟩ ⟨Nat.zero_le _, Nat.zero_le _⟩ hK hA hH [0, 1, 2] [] [0, 1] rfl rfl rfl (by decide) (by decide) (by decide) rfl rfl rfl rfl hl.1 rfl (Nat.le_of_ble_eq_true rfl) dX1_totalWithBoth_28 (fun r28 u28 H locs hr28 hH => ?_)
          have hH : ZH D A s.heap (YW ad ci u28.1 u28.2) H locs := hH
          rw [hr28.2.1, hr28.2.2] at hH
          exact zw_iret (u := (w, ol)) hx hb hr hlocks hK hH (by unfold sp_both; rw [sp_ix_nI hk, sp_ix_nI hj]; exact ⟨hr28.1, hv⟩) dX1_totalWithBoth_31
        · have c13 : ¬ (0 = 0) := fun h => c13 ((nI_eq (a := 0) (b := 0) (by omega) (by omega)).mpr h)
          exfalso; omega
/-- a loop of possible -/
theorem lX1_possible {p : Program} {l : Launch} {e : Env} {R : Room} {s : State} {m : MethodId} {args : Array Value} {below : List Frame} {meth : Method} {c : Code} {cells slots : Nat} {Q : State → Prop} {A : Nat → Prop} {D : va_G} {ad : Nat → Nat} {ci : Nat → ClassId} (S0 : CallFix p m c cX1_possible 4 s args lw_all RX1) (hA : ∀ q, s.heap.size ≤ q → A q) (hK : va_K D vwCl (YT ci) s) (hR : (zr 1).frames + 1 ≤ R.frames ∧ 8 + (8 + 11) + (zr 1).locals ≤ R.locals) (hR1 : (zr 0).frames + 1 ≤ R.frames ∧ 8 + (4 + 11) + (zr 0).locals ≤ R.locals) (hf : cells ≤ R.cells ∧ slots ≤ R.slots) {w ol : Nat → Int32} {v : Nat → Nat} (hv : zv v w)
    (K : ∀ (H : Heap) (locs : List Loc) (ls : Array Slot), ZH D A s.heap (YW ad ci w ol) H locs → lv_has ls 4 [(1, .int (nI (zt_T (zt_ones v))))] → W p l e R s m args below meth c H locs cells slots Q (F0 m 34 ls [])) :
    ∀ (n i : Nat) (cn : Nat) (H : Heap) (locs : List Loc) (ls : Array Slot), i ≤ 256 → 256 + 1 ≤ i + n → cn = zt_sum (fun b => if 0 < zt_worth v (zt_til b) then 1 else 0) i → ZH D A s.heap (YW ad ci w ol) H locs → lv_has ls 4 [(0, .ref (ad 0)), (1, .int (nI (cn))), (2, .int (nI (i)))] → W p l e R s m args below meth c H locs cells slots Q (F0 m 4 ls []) := by
  obtain ⟨hx, hb, hml, hown, hts⟩ := id S0
  intro n
  induction n with
  | zero =>
    intro i cn H locs ls h1 h2
    exact absurd h2 (by omega)
  | succ n ih =>
    intro i cn H locs ls hi hin hcn hH hl
    refine lv_iload_n hx hb dX1_possible_4 rfl (lv_at hl 2 rfl) ?_
    refine lv_sipush (v := nI 256) hx hb dX1_possible_5 (by decide) ?_
    refine lv_icmp_ge (tgt := 34) hx hb dX1_possible_8 (by decide) (fun c8 => ?_) (fun c8 => ?_)
    · have c8 : 256 ≤ i := (nI_leI (a := 256) (b := i) (by omega) (by omega)).mp c8
      have e256 : i = 256 := by omega
      subst e256
      rw [← zt_T_ones] at hcn
      rw [hcn] at hl
      exact K H locs ls hH (lv_sub hl [1] rfl)
    · have c8 : ¬ (256 ≤ i) := fun h => c8 ((nI_leI (a := 256) (b := i) (by omega) (by omega)).mpr h)
      have htl := zt_til_lt (b := i) (by omega)
      have hwl := zt_worth_lt (zv_4 hv) (b := i) (by omega)
      refine lv_aload_n hx hb dX1_possible_11 rfl (lv_at hl 0 rfl) ?_
      refine lv_iload_n hx hb dX1_possible_12 rfl (lv_at hl 2 rfl) ?_
      refine zw_Vi (n := 1) (rest := []) (wr := []) S0 (mX1_tiling l D ad ci _ w ol i (by omega)) q194 q196 qs13 q18 q197 (by decide +kernel) hR ⟨rfl, rfl⟩ hf hK hA hH [0, 1, 2] [] [0, 1] rfl rfl rfl (by decide) (by decide) (by decide) rfl rfl rfl rfl hl.1 rfl (Nat.le_of_ble_eq_true rfl) dX1_possible_13 (fun r13 u13 H locs hr13 hH => ?_)
      have hH : ZH D A s.heap (YW ad ci u13.1 u13.2) H locs := hH
      rw [hr13.2.1, hr13.2.2] at hH
      refine zw_i (nI (zt_til i)) (hr13.1) ?_
      refine lv_istore_n (lv' := [(3, .int _), (0, .ref _), (1, .int _), (2, .int _)]) hx hb dX1_possible_16 rfl hl (by decide) rfl (fun ls hl => ?_)
      refine lv_aload_n hx hb dX1_possible_17 rfl (lv_at hl 1 rfl) ?_
      refine lv_iload_n hx hb dX1_possible_18 rfl (lv_at hl 0 rfl) ?_
      refine zw_Vi (n := 1) (rest := []) (wr := []) S0 (mX1_worth l D ad ci _ w ol v hv (zt_til i) htl) q202 q204 qs15 q18 q205 (by decide +kernel) hR1 ⟨rfl, rfl⟩ hf hK hA hH [0, 1, 2] [] [0, 1] rfl rfl rfl (by decide) (by decide) (by decide) rfl rfl rfl rfl hl.1 rfl (Nat.le_of_ble_eq_true rfl) dX1_possible_19 (fun r19 u19 H locs hr19 hH => ?_)
      have hH : ZH D A s.heap (YW ad ci u19.1 u19.2) H locs := hH
      rw [hr19.2.1, hr19.2.2] at hH
      refine zw_i (nI (zt_worth v (zt_til i))) (hr19.1) ?_
      refine lv_if_le (tgt := 28) hx hb dX1_possible_22 (by decide) (fun c22 => ?_) (fun c22 => ?_)
      · have c22 : zt_worth v (zt_til i) ≤ 0 := (nI_leI (a := zt_worth v (zt_til i)) (b := 0) (by omega) (by omega)).mp c22
        refine lv_iinc (v := nI (i + 1)) (lv' := [(2, .int _), (3, .int _), (0, .ref _), (1, .int _)]) hx hb dX1_possible_28 hl (k := 3) rfl (nI_1 _) (by decide) rfl (fun ls hl => ?_)
        refine lv_goto (tgt := 4) hx hb dX1_possible_31 (by decide) ?_
        exact ih (i + 1) _ _ _ _ (by omega) (by omega) (by rw [hcn]; show _ = _ + (if 0 < zt_worth v (zt_til i) then 1 else 0); rw [if_neg (by omega), Nat.add_zero]) hH (lv_sub hl [2, 3, 0] rfl)
      · have c22 : ¬ (zt_worth v (zt_til i) ≤ 0) := fun h => c22 ((nI_leI (a := zt_worth v (zt_til i)) (b := 0) (by omega) (by omega)).mpr h)
        refine lv_iinc (v := nI (cn + 1)) (lv' := [(1, .int _), (3, .int _), (0, .ref _), (2, .int _)]) hx hb dX1_possible_25 hl (k := 2) rfl (nI_1 _) (by decide) rfl (fun ls hl => ?_)
        refine lv_iinc (v := nI (i + 1)) (lv' := [(2, .int _), (1, .int _), (3, .int _), (0, .ref _)]) hx hb dX1_possible_28 hl (k := 3) rfl (nI_1 _) (by decide) rfl (fun ls hl => ?_)
        refine lv_goto (tgt := 4) hx hb dX1_possible_31 (by decide) ?_
        exact ih (i + 1) _ _ _ _ (by omega) (by omega) (by rw [hcn]; show _ = _ + (if 0 < zt_worth v (zt_til i) then 1 else 0); rw [if_pos (by omega)]) hH (lv_sub hl [3, 1, 0] rfl)
/-- possible() -/
theorem mX1_possible (l : Launch) (D : va_G) (ad : Nat → Nat) (ci : Nat → ClassId) (sz : Nat) (w ol : Nat → Int32) (v : Nat → Nat) (hv : zv v w)  : ZMi l yX1_possible cX1_possible 4 (some .int) (zr 2) D (YT ci) (.ref (ad 0) :: []) sz (YW ad ci w ol) (fun r (u : YS) => r = nI (zt_T (zt_ones v)) ∧ zv v u.1) (YU ad ci) := by
  unfold ZMi
  refine zw_met (own := RX1) (Qf := fun A => va_Qi (fun r (u : YS) => r = nI (zt_T (zt_ones v)) ∧ zv v u.1) (ZB D (YT ci) (YU ad ci) A) A) (by decide) rfl (Nat.le_of_ble_eq_true rfl) ?_
  intro p e s m below meth c A ls S0 hr hlocks hin hA hK hH hl
  obtain ⟨hx, hb, hml, hown, hts⟩ := id S0
  have hl : lv_has ls 4 [(0, .ref (ad 0))] := hl
  refine lv_iconst (v := nI 0) hx hb dX1_possible_0 (by decide) ?_
  refine lv_istore_n (lv' := [(1, .int _), (0, .ref _)]) hx hb dX1_possible_1 rfl hl (by decide) rfl (fun ls hl => ?_)
  refine lv_iconst (v := nI 0) hx hb dX1_possible_2 (by decide) ?_
  refine lv_istore_n (lv' := [(2, .int _), (1, .int _), (0, .ref _)]) hx hb dX1_possible_3 rfl hl (by decide) rfl (fun ls hl => ?_)
  refine lX1_possible S0 hA hK ⟨Nat.le_of_ble_eq_true rfl, Nat.le_of_ble_eq_true rfl⟩ ⟨Nat.le_of_ble_eq_true rfl, Nat.le_of_ble_eq_true rfl⟩ ⟨Nat.zero_le _, Nat.zero_le _⟩ hv (fun H locs ls hH hl => ?_) 257 0 _ _ _ _ (by omega) (by omega) rfl hH (lv_sub hl [2, 1, 0] rfl)
  refine lv_iload_n hx hb dX1_possible_34 rfl (lv_at hl 0 rfl) ?_
  exact zw_iret (u := (w, ol)) hx hb hr hlocks hK hH (⟨rfl, hv⟩) dX1_possible_35
/-- canUse(x) -/
theorem mX1_canUse (l : Launch) (D : va_G) (ad : Nat → Nat) (ci : Nat → ClassId) (sz : Nat) (w ol : Nat → Int32) (v : Nat → Nat) (hv : zv v w) (x : Int32) : ZMi l yX1_canUse cX1_canUse 2 (some .boolean) (zr 3) D (YT ci) (.ref (ad 0) :: [.int x]) sz (YW ad ci w ol) (fun r (u : YS) => r = sp_can v x ∧ zv v u.1) (YU ad ci) := by
  unfold ZMi
  refine zw_met (own := RX1) (Qf := fun A => va_Qi (fun r (u : YS) => r = sp_can v x ∧ zv v u.1) (ZB D (YT ci) (YU ad ci) A) A) (by decide) rfl (Nat.le_of_ble_eq_true rfl) ?_
  intro p e s m below meth c A ls S0 hr hlocks hin hA hK hH hl
  obtain ⟨hx, hb, hml, hown, hts⟩ := id S0
  have hl : lv_has ls 2 [(0, .ref (ad 0)), (1, .int (x))] := hl
  refine lv_aload_n hx hb dX1_canUse_0 rfl (lv_at hl 0 rfl) ?_
  refine lv_iload_n hx hb dX1_canUse_1 rfl (lv_at hl 1 rfl) ?_
  refine zw_Vi (n := 1) (rest := []) (wr := []) S0 (mX1_bad l D ad ci _ w ol x) q158 q160 qs9 q18 q161 (by decide +kernel) ⟨Nat.le_of_ble_eq_true rfl, Nat.le_of_ble_eq_true rfl⟩ ⟨rfl, rfl⟩ ⟨Nat.zero_le _, Nat.zero_le _⟩ hK hA hH [0, 1, 2] [] [0, 1] rfl rfl rfl (by decide) (by decide) (by decide) rfl rfl rfl rfl hl.1 rfl (Nat.le_of_ble_eq_true rfl) dX1_canUse_2 (fun r2 u2 H locs hr2 hH => ?_)
  have hH : ZH D A s.heap (YW ad ci u2.1 u2.2) H locs := hH
  rw [hr2.2.1, hr2.2.2] at hH
  rcases hr2.1 with ⟨hr2, hbad⟩ | ⟨hr2, k, hk, hk1⟩
  · refine zw_i (nI (1)) (hr2) ?_
    refine lv_if_ne (tgt := 22) hx hb dX1_canUse_5 (by decide) (fun c5 => ?_) (fun c5 => ?_)
    · have c5 : ¬ (1 = 0) := fun h => c5 ((nI_eq (a := 1) (b := 0) (by omega) (by omega)).mpr h)
      refine lv_iconst (v := nI 0) hx hb dX1_canUse_22 (by decide) ?_
      exact zw_zret (u := (w, ol)) hx hb hr hlocks hK hH (by decide) (by unfold sp_can; rw [sp_ix_bad hbad]; exact ⟨rfl, hv⟩) dX1_canUse_23
    · have c5 : 1 = 0 := (nI_eq (a := 1) (b := 0) (by omega) (by omega)).mp c5
      exfalso; omega
  · refine zw_i (nI (0)) (hr2) ?_
    subst hk1
    refine lv_if_ne (tgt := 22) hx hb dX1_canUse_5 (by decide) (fun c5 => ?_) (fun c5 => ?_)
    · have c5 : ¬ (0 = 0) := fun h => c5 ((nI_eq (a := 0) (b := 0) (by omega) (by omega)).mpr h)
      exfalso; omega
    · have c5 : 0 = 0 := (nI_eq (a := 0) (b := 0) (by omega) (by omega)).mp c5
      refine lv_aload_n hx hb dX1_canUse_8 rfl (lv_at hl 0 rfl) ?_
      refine lv_iconst (v := nI 1) hx hb dX1_canUse_9 (by decide) ?_
      refine lv_iload_n hx hb dX1_canUse_10 rfl (lv_at hl 1 rfl) ?_
      refine lv_ishl hx hb dX1_canUse_11 ?_
      refine zw_i (nI (2 ^ k)) (zn_shl1 (by omega)) ?_
      refine zw_Vi (n := 1) (rest := []) (wr := []) S0 (mX1_sumWith l D ad ci _ w ol v hv (2 ^ k) (zt_p24 hk)) q190 q192 qs12 q18 q193 (by decide +kernel) ⟨Nat.le_of_ble_eq_true rfl, Nat.le_of_ble_eq_true rfl⟩ ⟨rfl, rfl⟩ ⟨Nat.zero_le _, Nat.zero_le _⟩ hK hA hH [0, 1, 2] [] [0, 1] rfl rfl rfl (by decide) (by decide) (by decide) rfl rfl rfl rfl hl.1 rfl (Nat.le_of_ble_eq_true rfl) dX1_canUse_12 (fun r12 u12 H locs hr12 hH => ?_)
      have hH : ZH D A s.heap (YW ad ci u12.1 u12.2) H locs := hH
      rw [hr12.2.1, hr12.2.2] at hH
      refine zw_i (nI (zt_W v (2 ^ k))) (hr12.1) ?_
      have hle := zt_W_le v (2 ^ k)
      have hle2 := zv_T hv
      refine lv_if_le (tgt := 22) hx hb dX1_canUse_15 (by decide) (fun c15 => ?_) (fun c15 => ?_)
      · have c15 : zt_W v (2 ^ k) ≤ 0 := (nI_leI (a := zt_W v (2 ^ k)) (b := 0) (by omega) (by omega)).mp c15
        refine lv_iconst (v := nI 0) hx hb dX1_canUse_22 (by decide) ?_
        exact zw_zret (u := (w, ol)) hx hb hr hlocks hK hH (by decide) (by unfold sp_can; rw [sp_ix_nI hk]; dsimp only; rw [if_neg (by omega)]; exact ⟨rfl, hv⟩) dX1_canUse_23
      · have c15 : ¬ (zt_W v (2 ^ k) ≤ 0) := fun h => c15 ((nI_leI (a := zt_W v (2 ^ k)) (b := 0) (by omega) (by omega)).mpr h)
        refine lv_iconst (v := nI 1) hx hb dX1_canUse_18 (by decide) ?_
        refine lv_goto (tgt := 23) hx hb dX1_canUse_19 (by decide) ?_
        exact zw_zret (u := (w, ol)) hx hb hr hlocks hK hH (by decide) (by unfold sp_can; rw [sp_ix_nI hk]; dsimp only; rw [if_pos (by omega)]; exact ⟨rfl, hv⟩) dX1_canUse_23
/-- a loop of settled -/
theorem lX1_settled1 {p : Program} {l : Launch} {e : Env} {R : Room} {s : State} {m : MethodId} {args : Array Value} {below : List Frame} {meth : Method} {c : Code} {cells slots : Nat} {Q : State → Prop} {A : Nat → Prop} {D : va_G} {ad : Nat → Nat} {ci : Nat → ClassId} (S0 : CallFix p m c cX1_settled 4 s args lw_all RX1) (hA : ∀ q, s.heap.size ≤ q → A q) (hK : va_K D vwCl (YT ci) s) (hR : (zr 1).frames + 1 ≤ R.frames ∧ 8 + (8 + 11) + (zr 1).locals ≤ R.locals) (hR1 : (zr 0).frames + 1 ≤ R.frames ∧ 8 + (4 + 11) + (zr 0).locals ≤ R.locals) (hf : cells ≤ R.cells ∧ slots ≤ R.slots) {w ol : Nat → Int32} {v : Nat → Nat} (hv : zv v w)
    (K : ∀ (H : Heap) (locs : List Loc) (ls : Array Slot), ZH D A s.heap (YW ad ci w ol) H locs → lv_has ls 4 [(0, .ref (ad 0)), (1, .int (nI (zt_com v 256)))] → W p l e R s m args below meth c H locs cells slots Q (F0 m 36 ls [])) :
    ∀ (n i : Nat) (cm : Nat) (H : Heap) (locs : List Loc) (ls : Array Slot), i ≤ 256 → 256 + 1 ≤ i + n → cm = zt_com v i → ZH D A s.heap (YW ad ci w ol) H locs → lv_has ls 4 [(0, .ref (ad 0)), (1, .int (nI (cm))), (2, .int (nI (i)))] → W p l e R s m args below meth c H locs cells slots Q (F0 m 5 ls []) := by
  obtain ⟨hx, hb, hml, hown, hts⟩ := id S0
  intro n
  induction n with
  | zero =>
    intro i cm H locs ls h1 h2
    exact absurd h2 (by omega)
  | succ n ih =>
    intro i cm H locs ls hi hin hcm hH hl
    refine lv_iload_n hx hb dX1_settled_5 rfl (lv_at hl 2 rfl) ?_
    refine lv_sipush (v := nI 256) hx hb dX1_settled_6 (by decide) ?_
    refine lv_icmp_ge (tgt := 36) hx hb dX1_settled_9 (by decide) (fun c9 => ?_) (fun c9 => ?_)
    · have c9 : 256 ≤ i := (nI_leI (a := 256) (b := i) (by omega) (by omega)).mp c9
      have e256 : i = 256 := by omega
      subst e256
      rw [hcm] at hl
      exact K H locs ls hH (lv_sub hl [0, 1] rfl)
    · have c9 : ¬ (256 ≤ i) := fun h => c9 ((nI_leI (a := 256) (b := i) (by omega) (by omega)).mpr h)
      have htl := zt_til_lt (b := i) (by omega)
      have hwl := zt_worth_lt (zv_4 hv) (b := i) (by omega)
      refine lv_aload_n hx hb dX1_settled_12 rfl (lv_at hl 0 rfl) ?_
      refine lv_iload_n hx hb dX1_settled_13 rfl (lv_at hl 2 rfl) ?_
      refine zw_Vi (n := 1) (rest := []) (wr := []) S0 (mX1_tiling l D ad ci _ w ol i (by omega)) q194 q196 qs13 q18 q197 (by decide +kernel) hR ⟨rfl, rfl⟩ hf hK hA hH [0, 1, 2] [] [0, 1] rfl rfl rfl (by decide) (by decide) (by decide) rfl rfl rfl rfl hl.1 rfl (Nat.le_of_ble_eq_true rfl) dX1_settled_14 (fun r14 u14 H locs hr14 hH => ?_)
      have hH : ZH D A s.heap (YW ad ci u14.1 u14.2) H locs := hH
      rw [hr14.2.1, hr14.2.2] at hH
      refine zw_i (nI (zt_til i)) (hr14.1) ?_
      refine lv_istore_n (lv' := [(3, .int _), (0, .ref _), (1, .int _), (2, .int _)]) hx hb dX1_settled_17 rfl hl (by decide) rfl (fun ls hl => ?_)
      refine lv_aload_n hx hb dX1_settled_18 rfl (lv_at hl 1 rfl) ?_
      refine lv_iload_n hx hb dX1_settled_19 rfl (lv_at hl 0 rfl) ?_
      refine zw_Vi (n := 1) (rest := []) (wr := []) S0 (mX1_worth l D ad ci _ w ol v hv (zt_til i) htl) q202 q204 qs15 q18 q205 (by decide +kernel) hR1 ⟨rfl, rfl⟩ hf hK hA hH [0, 1, 2] [] [0, 1] rfl rfl rfl (by decide) (by decide) (by decide) rfl rfl rfl rfl hl.1 rfl (Nat.le_of_ble_eq_true rfl) dX1_settled_20 (fun r20 u20 H locs hr20 hH => ?_)
      have hH : ZH D A s.heap (YW ad ci u20.1 u20.2) H locs := hH
      rw [hr20.2.1, hr20.2.2] at hH
      refine zw_i (nI (zt_worth v (zt_til i))) (hr20.1) ?_
      refine lv_if_le (tgt := 30) hx hb dX1_settled_23 (by decide) (fun c23 => ?_) (fun c23 => ?_)
      · have c23 : zt_worth v (zt_til i) ≤ 0 := (nI_leI (a := zt_worth v (zt_til i)) (b := 0) (by omega) (by omega)).mp c23
        refine lv_iinc (v := nI (i + 1)) (lv' := [(2, .int _), (3, .int _), (0, .ref _), (1, .int _)]) hx hb dX1_settled_30 hl (k := 3) rfl (nI_1 _) (by decide) rfl (fun ls hl => ?_)
        refine lv_goto (tgt := 5) hx hb dX1_settled_33 (by decide) ?_
        exact ih (i + 1) _ _ _ _ (by omega) (by omega) (by rw [hcm]; exact (if_neg (by omega)).symm) hH (lv_sub hl [2, 3, 0] rfl)
      · have c23 : ¬ (zt_worth v (zt_til i) ≤ 0) := fun h => c23 ((nI_leI (a := zt_worth v (zt_til i)) (b := 0) (by omega) (by omega)).mpr h)
        refine lv_iload_n hx hb dX1_settled_26 rfl (lv_at hl 2 rfl) ?_
        refine lv_iload_n hx hb dX1_settled_27 rfl (lv_at hl 0 rfl) ?_
        refine lv_iand hx hb dX1_settled_28 ?_
        refine zw_i (nI (cm &&& (zt_til i))) (zn_and _ _) ?_
        refine lv_istore_n (lv' := [(1, .int _), (3, .int _), (0, .ref _), (2, .int _)]) hx hb dX1_settled_29 rfl hl (by decide) rfl (fun ls hl => ?_)
        refine lv_iinc (v := nI (i + 1)) (lv' := [(2, .int _), (1, .int _), (3, .int _), (0, .ref _)]) hx hb dX1_settled_30 hl (k := 3) rfl (nI_1 _) (by decide) rfl (fun ls hl => ?_)
        refine lv_goto (tgt := 5) hx hb dX1_settled_33 (by decide) ?_
        exact ih (i + 1) _ _ _ _ (by omega) (by omega) (by rw [hcm]; exact (if_pos (by omega)).symm) hH (lv_sub hl [3, 1, 0] rfl)
/-- a loop of settled -/
theorem lX1_settled2 {p : Program} {l : Launch} {e : Env} {R : Room} {s : State} {m : MethodId} {args : Array Value} {below : List Frame} {meth : Method} {c : Code} {cells slots : Nat} {Q : State → Prop} {A : Nat → Prop} {D : va_G} {ad : Nat → Nat} {ci : Nat → ClassId} (S0 : CallFix p m c cX1_settled 4 s args lw_all RX1) (hA : ∀ q, s.heap.size ≤ q → A q) (hK : va_K D vwCl (YT ci) s) {w ol : Nat → Int32} (cm : Nat) (hcm : cm ≤ 16777215)
    (K : ∀ (H : Heap) (locs : List Loc) (ls : Array Slot), ZH D A s.heap (YW ad ci w ol) H locs → lv_has ls 4 [(2, .int (nI (zt_sum (fun p => cm / 2 ^ p % 2) 24)))] → W p l e R s m args below meth c H locs cells slots Q (F0 m 60 ls [])) :
    ∀ (n i : Nat) (sm : Nat) (H : Heap) (locs : List Loc) (ls : Array Slot), i ≤ 24 → 24 + 1 ≤ i + n → sm = zt_sum (fun p => cm / 2 ^ p % 2) i → ZH D A s.heap (YW ad ci w ol) H locs → lv_has ls 4 [(0, .ref (ad 0)), (1, .int (nI (cm))), (2, .int (nI (sm))), (3, .int (nI (i)))] → W p l e R s m args below meth c H locs cells slots Q (F0 m 40 ls []) := by
  obtain ⟨hx, hb, hml, hown, hts⟩ := id S0
  intro n
  induction n with
  | zero =>
    intro i sm H locs ls h1 h2
    exact absurd h2 (by omega)
  | succ n ih =>
    intro i sm H locs ls hi hin hsm hH hl
    refine lv_iload_n hx hb dX1_settled_40 rfl (lv_at hl 3 rfl) ?_
    refine lv_bipush (v := nI 24) hx hb dX1_settled_41 (by decide) ?_
    refine lv_icmp_ge (tgt := 60) hx hb dX1_settled_43 (by decide) (fun c43 => ?_) (fun c43 => ?_)
    · have c43 : 24 ≤ i := (nI_leI (a := 24) (b := i) (by omega) (by omega)).mp c43
      have e24 : i = 24 := by omega
      subst e24
      rw [hsm] at hl
      exact K H locs ls hH (lv_sub hl [2] rfl)
    · have c43 : ¬ (24 ≤ i) := fun h => c43 ((nI_leI (a := 24) (b := i) (by omega) (by omega)).mpr h)
      refine lv_iload_n hx hb dX1_settled_46 rfl (lv_at hl 2 rfl) ?_
      refine lv_iload_n hx hb dX1_settled_47 rfl (lv_at hl 1 rfl) ?_
      refine lv_iload_n hx hb dX1_settled_48 rfl (lv_at hl 3 rfl) ?_
      refine lv_ishr hx hb dX1_settled_49 ?_
      refine zw_i (nI (cm / 2 ^ i)) (zn_shr (by omega) (by omega)) ?_
      refine lv_iconst (v := nI 1) hx hb dX1_settled_50 (by decide) ?_
      refine lv_iand hx hb dX1_settled_51 ?_
      refine zw_i (nI ((cm / 2 ^ i) % 2)) (zn_and1 (zn_dlt (by omega))) ?_
      refine lv_iadd hx hb dX1_settled_52 ?_
      refine zw_i (nI (sm + ((cm / 2 ^ i) % 2))) (nI_add _ _) ?_
      refine lv_istore_n (lv' := [(2, .int _), (0, .ref _), (1, .int _), (3, .int _)]) hx hb dX1_settled_53 rfl hl (by decide) rfl (fun ls hl => ?_)
      refine lv_iinc (v := nI (i + 1)) (lv' := [(3, .int _), (2, .int _), (0, .ref _), (1, .int _)]) hx hb dX1_settled_54 hl (k := 3) rfl (nI_1 _) (by decide) rfl (fun ls hl => ?_)
      refine lv_goto (tgt := 40) hx hb dX1_settled_57 (by decide) ?_
      exact ih (i + 1) _ _ _ _ (by omega) (by omega) (by rw [hsm]; rfl) hH (lv_sub hl [2, 3, 1, 0] rfl)
/-- settled() -/
theorem mX1_settled (l : Launch) (D : va_G) (ad : Nat → Nat) (ci : Nat → ClassId) (sz : Nat) (w ol : Nat → Int32) (v : Nat → Nat) (hv : zv v w)  : ZMi l yX1_settled cX1_settled 4 (some .int) (zr 2) D (YT ci) (.ref (ad 0) :: []) sz (YW ad ci w ol) (fun r (u : YS) => r = nI (zt_set v) ∧ zv v u.1) (YU ad ci) := by
  unfold ZMi
  refine zw_met (own := RX1) (Qf := fun A => va_Qi (fun r (u : YS) => r = nI (zt_set v) ∧ zv v u.1) (ZB D (YT ci) (YU ad ci) A) A) (by decide) rfl (Nat.le_of_ble_eq_true rfl) ?_
  intro p e s m below meth c A ls S0 hr hlocks hin hA hK hH hl
  obtain ⟨hx, hb, hml, hown, hts⟩ := id S0
  have hl : lv_has ls 4 [(0, .ref (ad 0))] := hl
  refine lv_ldc hx hb hown (hts _ q226) dX1_settled_0 ?_
  refine zw_i (nI 16777215) (by decide) ?_
  refine lv_istore_n (lv' := [(1, .int _), (0, .ref _)]) hx hb dX1_settled_2 rfl hl (by decide) rfl (fun ls hl => ?_)
  refine lv_iconst (v := nI 0) hx hb dX1_settled_3 (by decide) ?_
  refine lv_istore_n (lv' := [(2, .int _), (1, .int _), (0, .ref _)]) hx hb dX1_settled_4 rfl hl (by decide) rfl (fun ls hl => ?_)
  refine lX1_settled1 S0 hA hK ⟨Nat.le_of_ble_eq_true rfl, Nat.le_of_ble_eq_true rfl⟩ ⟨Nat.le_of_ble_eq_true rfl, Nat.le_of_ble_eq_true rfl⟩ ⟨Nat.zero_le _, Nat.zero_le _⟩ hv (fun H locs ls hH hl => ?_) 257 0 _ _ _ _ (by omega) (by omega) rfl hH (lv_sub hl [2, 1, 0] rfl)
  refine lv_iconst (v := nI 0) hx hb dX1_settled_36 (by decide) ?_
  refine lv_istore_n (lv' := [(2, .int _), (0, .ref _), (1, .int _)]) hx hb dX1_settled_37 rfl hl (by decide) rfl (fun ls hl => ?_)
  refine lv_iconst (v := nI 0) hx hb dX1_settled_38 (by decide) ?_
  refine lv_istore_n (lv' := [(3, .int _), (2, .int _), (0, .ref _), (1, .int _)]) hx hb dX1_settled_39 rfl hl (by decide) rfl (fun ls hl => ?_)
  refine lX1_settled2 S0 hA hK (zt_com v 256) (zt_com_le v 256) (fun H locs ls hH hl => ?_) 25 0 _ _ _ _ (by omega) (by omega) rfl hH (lv_sub hl [2, 3, 1, 0] rfl)
  refine lv_iload_n hx hb dX1_settled_60 rfl (lv_at hl 0 rfl) ?_
  exact zw_iret (u := (w, ol)) hx hb hr hlocks hK hH (⟨rfl, hv⟩) dX1_settled_61
/-- a loop of acrossTotal -/
theorem lX1_across {p : Program} {l : Launch} {e : Env} {R : Room} {s : State} {m : MethodId} {args : Array Value} {below : List Frame} {meth : Method} {c : Code} {cells slots : Nat} {Q : State → Prop} {A : Nat → Prop} {D : va_G} {ad : Nat → Nat} {ci : Nat → ClassId} (S0 : CallFix p m c cX1_acrossTotal 4 s args lw_all RX1) (hA : ∀ q, s.heap.size ≤ q → A q) (hK : va_K D vwCl (YT ci) s) (hR : (zr 2).frames + 1 ≤ R.frames ∧ 8 + (6 + 11) + (zr 2).locals ≤ R.locals) (hf : cells ≤ R.cells ∧ slots ≤ R.slots) {w ol : Nat → Int32} {v : Nat → Nat} (hv : zv v w)
    (K : ∀ (H : Heap) (locs : List Loc) (ls : Array Slot), ZH D A s.heap (YW ad ci w ol) H locs → lv_has ls 4 [(1, .int (nI (zt_sum (fun p => zt_W v (2 ^ p)) 12)))] → W p l e R s m args below meth c H locs cells slots Q (F0 m 28 ls [])) :
    ∀ (n i : Nat) (cn : Nat) (H : Heap) (locs : List Loc) (ls : Array Slot), i ≤ 12 → 12 + 1 ≤ i + n → cn = zt_sum (fun p => zt_W v (2 ^ p)) i → ZH D A s.heap (YW ad ci w ol) H locs → lv_has ls 4 [(0, .ref (ad 0)), (1, .int (nI (cn))), (2, .int (nI (i)))] → W p l e R s m args below meth c H locs cells slots Q (F0 m 4 ls []) := by
  obtain ⟨hx, hb, hml, hown, hts⟩ := id S0
  intro n
  induction n with
  | zero =>
    intro i cn H locs ls h1 h2
    exact absurd h2 (by omega)
  | succ n ih =>
    intro i cn H locs ls hi hin hcn hH hl
    refine lv_iload_n hx hb dX1_acrossTotal_4 rfl (lv_at hl 2 rfl) ?_
    refine lv_bipush (v := nI 12) hx hb dX1_acrossTotal_5 (by decide) ?_
    refine lv_icmp_ge (tgt := 28) hx hb dX1_acrossTotal_7 (by decide) (fun c7 => ?_) (fun c7 => ?_)
    · have c7 : 12 ≤ i := (nI_leI (a := 12) (b := i) (by omega) (by omega)).mp c7
      have e12 : i = 12 := by omega
      subst e12
      rw [hcn] at hl
      exact K H locs ls hH (lv_sub hl [1] rfl)
    · have c7 : ¬ (12 ≤ i) := fun h => c7 ((nI_leI (a := 12) (b := i) (by omega) (by omega)).mpr h)
      refine lv_aload_n hx hb dX1_acrossTotal_10 rfl (lv_at hl 0 rfl) ?_
      refine lv_iconst (v := nI 1) hx hb dX1_acrossTotal_11 (by decide) ?_
      refine lv_iload_n hx hb dX1_acrossTotal_12 rfl (lv_at hl 2 rfl) ?_
      refine lv_ishl hx hb dX1_acrossTotal_13 ?_
      refine zw_i (nI (2 ^ i)) (zn_shl1 (by omega)) ?_
      refine zw_Vi (n := 1) (rest := []) (wr := []) S0 (mX1_sumWith l D ad ci _ w ol v hv (2 ^ i) (zt_p24 (by omega))) q190 q192 qs12 q18 q193 (by decide +kernel) hR ⟨rfl, rfl⟩ hf hK hA hH [0, 1, 2] [] [0, 1] rfl rfl rfl (by decide) (by decide) (by decide) rfl rfl rfl rfl hl.1 rfl (Nat.le_of_ble_eq_true rfl) dX1_acrossTotal_14 (fun r14 u14 H locs hr14 hH => ?_)
      have hH : ZH D A s.heap (YW ad ci u14.1 u14.2) H locs := hH
      rw [hr14.2.1, hr14.2.2] at hH
      refine zw_i (nI (zt_W v (2 ^ i))) (hr14.1) ?_
      refine lv_istore_n (lv' := [(3, .int _), (0, .ref _), (1, .int _), (2, .int _)]) hx hb dX1_acrossTotal_17 rfl hl (by decide) rfl (fun ls hl => ?_)
      refine lv_iload_n hx hb dX1_acrossTotal_18 rfl (lv_at hl 2 rfl) ?_
      refine lv_iload_n hx hb dX1_acrossTotal_19 rfl (lv_at hl 0 rfl) ?_
      refine lv_iadd hx hb dX1_acrossTotal_20 ?_
      refine zw_i (nI (cn + (zt_W v (2 ^ i)))) (nI_add _ _) ?_
      refine lv_istore_n (lv' := [(1, .int _), (3, .int _), (0, .ref _), (2, .int _)]) hx hb dX1_acrossTotal_21 rfl hl (by decide) rfl (fun ls hl => ?_)
      refine lv_iinc (v := nI (i + 1)) (lv' := [(2, .int _), (1, .int _), (3, .int _), (0, .ref _)]) hx hb dX1_acrossTotal_22 hl (k := 3) rfl (nI_1 _) (by decide) rfl (fun ls hl => ?_)
      refine lv_goto (tgt := 4) hx hb dX1_acrossTotal_25 (by decide) ?_
      exact ih (i + 1) _ _ _ _ (by omega) (by omega) (by rw [hcn]; rfl) hH (lv_sub hl [3, 1, 0] rfl)
/-- acrossTotal() -/
theorem mX1_acrossTotal (l : Launch) (D : va_G) (ad : Nat → Nat) (ci : Nat → ClassId) (sz : Nat) (w ol : Nat → Int32) (v : Nat → Nat) (hv : zv v w)  : ZMi l yX1_acrossTotal cX1_acrossTotal 4 (some .int) (zr 3) D (YT ci) (.ref (ad 0) :: []) sz (YW ad ci w ol) (fun r (u : YS) => r = sp_across v ∧ zv v u.1) (YU ad ci) := by
  unfold ZMi
  refine zw_met (own := RX1) (Qf := fun A => va_Qi (fun r (u : YS) => r = sp_across v ∧ zv v u.1) (ZB D (YT ci) (YU ad ci) A) A) (by decide) rfl (Nat.le_of_ble_eq_true rfl) ?_
  intro p e s m below meth c A ls S0 hr hlocks hin hA hK hH hl
  obtain ⟨hx, hb, hml, hown, hts⟩ := id S0
  have hl : lv_has ls 4 [(0, .ref (ad 0))] := hl
  refine lv_iconst (v := nI 0) hx hb dX1_acrossTotal_0 (by decide) ?_
  refine lv_istore_n (lv' := [(1, .int _), (0, .ref _)]) hx hb dX1_acrossTotal_1 rfl hl (by decide) rfl (fun ls hl => ?_)
  refine lv_iconst (v := nI 0) hx hb dX1_acrossTotal_2 (by decide) ?_
  refine lv_istore_n (lv' := [(2, .int _), (1, .int _), (0, .ref _)]) hx hb dX1_acrossTotal_3 rfl hl (by decide) rfl (fun ls hl => ?_)
  refine lX1_across S0 hA hK ⟨Nat.le_of_ble_eq_true rfl, Nat.le_of_ble_eq_true rfl⟩ ⟨Nat.zero_le _, Nat.zero_le _⟩ hv (fun H locs ls hH hl => ?_) 13 0 _ _ _ _ (by omega) (by omega) rfl hH (lv_sub hl [2, 1, 0] rfl)
  refine lv_iload_n hx hb dX1_acrossTotal_28 rfl (lv_at hl 0 rfl) ?_
  exact zw_iret (u := (w, ol)) hx hb hr hlocks hK hH (⟨rfl, hv⟩) dX1_acrossTotal_29
end
section
/-! the constructors -/
set_option maxRecDepth 100000
/-- a loop of init -/
theorem lX0_init {p : Program} {l : Launch} {e : Env} {R : Room} {s : State} {m : MethodId} {args : Array Value} {below : List Frame} {meth : Method} {c : Code} {cells slots : Nat} {Q : State → Prop} {A : Nat → Prop} {D : va_G} {ad : Nat → Nat} {ci : Nat → ClassId} (S0 : CallFix p m c cX0_init 2 s args lw_all RX0) (hA : ∀ q, s.heap.size ≤ q → A q) (hK : va_K D vwCl (XT ci) s) {mv us : Nat → Int32} {tb : Nat → Int64}
    (K : ∀ (f : Nat → Int32) (H : Heap) (locs : List Loc) (ls : Array Slot), (∀ j, j < 24 → f j = nI 1) → ZH D A s.heap (XW ad ci f mv us tb) H locs → W p l e R s m args below meth c H locs cells slots Q (F0 m 57 ls [])) :
    ∀ (n i : Nat) (f : Nat → Int32) (H : Heap) (locs : List Loc) (ls : Array Slot), i ≤ 24 → 24 + 1 ≤ i + n → (∀ j, j < i → f j = nI 1) → ZH D A s.heap (XW ad ci f mv us tb) H locs → lv_has ls 2 [(0, .ref (ad 0)), (1, .int (nI (i)))] → W p l e R s m args below meth c H locs cells slots Q (F0 m 38 ls []) := by
  obtain ⟨hx, hb, hml, hown, hts⟩ := id S0
  intro n
  induction n with
  | zero =>
    intro i f H locs ls h1 h2
    exact absurd h2 (by omega)
  | succ n ih =>
    intro i f H locs ls hi hin hf1 hH hl
    refine lv_iload_n hx hb dX0_init_38 rfl (lv_at hl 1 rfl) ?_
    refine lv_bipush (v := nI 24) hx hb dX0_init_39 (by decide) ?_
    refine lv_icmp_ge (tgt := 57) hx hb dX0_init_41 (by decide) (fun c41 => ?_) (fun c41 => ?_)
    · have c41 : 24 ≤ i := (nI_leI (a := 24) (b := i) (by omega) (by omega)).mp c41
      have e24 : i = 24 := by omega
      subst e24
      exact K f H locs ls hf1 hH
    · have c41 : ¬ (24 ≤ i) := fun h => c41 ((nI_leI (a := 24) (b := i) (by omega) (by omega)).mpr h)
      refine lv_aload_n hx hb dX0_init_44 rfl (lv_at hl 0 rfl) ?_
      refine zx_g0 hx hb hts hown hK hH dX0_init_45 ?_
      refine lv_iload_n hx hb dX0_init_48 rfl (lv_at hl 1 rfl) ?_
      refine lv_iconst (v := nI 1) hx hb dX0_init_49 (by decide) ?_
      refine zx_s0 hx hb hK hH (j := i) (by omega) dX0_init_50 (fun H locs hH => ?_)
      refine lv_iinc (v := nI (i + 1)) (lv' := [(1, .int _), (0, .ref _)]) hx hb dX0_init_51 hl (k := 1) rfl (nI_1 _) (by decide) rfl (fun ls hl => ?_)
      refine lv_goto (tgt := 38) hx hb dX0_init_54 (by decide) ?_
      exact ih (i + 1) _ _ _ _ (by omega) (by omega) (fun j hj => by
        by_cases e : j = i
        · rw [e, pk_us]
        · rw [pk_un e]; exact hf1 j (by omega)) hH (lv_sub hl [1, 0] rfl)
/-- what the constructor leaves -/
def BX0_init (D : va_G) (h0 : Nat) : (Nat → Prop) → Unit → State → Prop := fun A (_ : Unit) t => ∃ (ad : Nat → Nat) (ci : Nat → ClassId) (w mv us : Nat → Int32) (tb : Nat → Int64), ad 0 = h0 ∧ zv (fun _ => 1) w ∧ va_P D vwCl (XW ad ci w mv us tb) t.heap ∧ va_K D vwCl (XT ci) t ∧ va_D A (XW ad ci w mv us tb)
/-- the constructor -/
theorem mX0_init (l : Launch) (D : va_G) (h0 sz : Nat) : Met l yX0_init (ws_ yX0_init cX0_init 2 none) ({ frames := 1, cells := 4, slots := 136, locals := 12 }) (ZP D [] [(h0, .inr (0, [.null, .null, .null, .null]))] sz [.ref h0]) (va_Qv (fun _ => True) (BX0_init D h0 (va_A [(h0, .inr (0, [.null, .null, .null, .null]))] sz)) (va_A [(h0, .inr (0, [.null, .null, .null, .null]))] sz)) 4 136 (va_A [(h0, .inr (0, [.null, .null, .null, .null]))] sz) := by
  refine zw_met (own := RX0) (Qf := fun A => va_Qv (fun _ => True) (BX0_init D h0 A) A) (by decide) rfl (Nat.le_of_ble_eq_true rfl) ?_
  intro p e s m below meth c A ls S0 hr hlocks hin hA hK hH hl
  obtain ⟨hx, hb, hml, hown, hts⟩ := id S0
  obtain ⟨hP, hD, hS⟩ := hH
  have hin : meth.name = "<init>" := hin
  have hl : lv_has ls 2 [(0, .ref h0)] := hl
  refine lv_aload_n hx hb dX0_init_0 rfl (lv_at hl 0 rfl) ?_
  refine W.objInit hx hb hown (hts _ q24) (hts _ q25) (hts _ q26) rfl (by rw [hml]; exact hl.1) rfl dX0_init_1 (Nat.le_of_ble_eq_true rfl) (Nat.le_of_ble_eq_true rfl) ?_
  refine W.eq (g2 := F0 m 4 ls []) rfl ?_
  refine lv_aload_n hx hb dX0_init_4 rfl (lv_at hl 0 rfl) ?_
  refine lv_bipush (v := nI 24) hx hb dX0_init_5 (by decide) ?_
  refine va_newa (atype := .int) (ty := .int) (a0 := (24, .inl (fun _ => 0))) (N' := 24) hx hb (hts _ q40) rfl hK hP hD hS hA (fun cA => rfl) (by decide) (by decide) (by decide) (Nat.le_of_ble_eq_true rfl) (Nat.le_of_ble_eq_true rfl) dX0_init_7 (fun q1 c1 H hK hP hD hS => ?_)
  have hP : va_P D vwCl [(h0, .inr (0, [.null, .null, .null, .null])), (q1, .inl (c1, 24, .inl (fun _ => 0)))] H := hP
  have hD : va_D A [(h0, .inr (0, [.null, .null, .null, .null])), (q1, .inl (c1, 24, .inl (fun _ => 0)))] := hD
  have hK : va_K D vwCl [(c1, .int)] s := hK
  refine va_putF (D := D) (ci := 0) (v := .ref q1) (ty := .array .int) (C := RX0) (T := TX0) (N := 4) hx hb hts in_X0 tyX0 tyX0_ok nmX0 hown hK hP hD hS 0 rfl rfl 0 (by decide) (hts _ q27) (fun _ h9 => h9) rfl hin rfl (by decide +kernel) rfl rfl (Nat.le_of_ble_eq_true rfl) dX0_init_9 (fun H locs hP hD hS => ?_)
  have hP : va_P D vwCl [(h0, .inr (0, [.ref q1, .null, .null, .null])), (q1, .inl (c1, 24, .inl (fun _ => 0)))] H := hP
  have hD : va_D A [(h0, .inr (0, [.ref q1, .null, .null, .null])), (q1, .inl (c1, 24, .inl (fun _ => 0)))] := hD
  refine lv_aload_n hx hb dX0_init_12 rfl (lv_at hl 0 rfl) ?_
  refine lv_bipush (v := nI 24) hx hb dX0_init_13 (by decide) ?_
  refine va_newa (atype := .int) (ty := .int) (a0 := (24, .inl (fun _ => 0))) (N' := 24) hx hb (hts _ q40) rfl hK hP hD hS hA (fun cA => rfl) (by decide) (by decide) (by decide) (Nat.le_of_ble_eq_true rfl) (Nat.le_of_ble_eq_true rfl) dX0_init_15 (fun q2 c2 H hK hP hD hS => ?_)
  have hP : va_P D vwCl [(h0, .inr (0, [.ref q1, .null, .null, .null])), (q1, .inl (c1, 24, .inl (fun _ => 0))), (q2, .inl (c2, 24, .inl (fun _ => 0)))] H := hP
  have hD : va_D A [(h0, .inr (0, [.ref q1, .null, .null, .null])), (q1, .inl (c1, 24, .inl (fun _ => 0))), (q2, .inl (c2, 24, .inl (fun _ => 0)))] := hD
  have hK : va_K D vwCl [(c1, .int), (c2, .int)] s := hK
  refine va_putF (D := D) (ci := 0) (v := .ref q2) (ty := .array .int) (C := RX0) (T := TX0) (N := 4) hx hb hts in_X0 tyX0 tyX0_ok nmX0 hown hK hP hD hS 0 rfl rfl 1 (by decide) (hts _ q28) (fun _ h9 => h9) rfl hin rfl (by decide +kernel) rfl rfl (Nat.le_of_ble_eq_true rfl) dX0_init_17 (fun H locs hP hD hS => ?_)
  have hP : va_P D vwCl [(h0, .inr (0, [.ref q1, .ref q2, .null, .null])), (q1, .inl (c1, 24, .inl (fun _ => 0))), (q2, .inl (c2, 24, .inl (fun _ => 0)))] H := hP
  have hD : va_D A [(h0, .inr (0, [.ref q1, .ref q2, .null, .null])), (q1, .inl (c1, 24, .inl (fun _ => 0))), (q2, .inl (c2, 24, .inl (fun _ => 0)))] := hD
  refine lv_aload_n hx hb dX0_init_20 rfl (lv_at hl 0 rfl) ?_
  refine lv_bipush (v := nI 24) hx hb dX0_init_21 (by decide) ?_
  refine va_newa (atype := .int) (ty := .int) (a0 := (24, .inl (fun _ => 0))) (N' := 24) hx hb (hts _ q40) rfl hK hP hD hS hA (fun cA => rfl) (by decide) (by decide) (by decide) (Nat.le_of_ble_eq_true rfl) (Nat.le_of_ble_eq_true rfl) dX0_init_23 (fun q3 c3 H hK hP hD hS => ?_)
  have hP : va_P D vwCl [(h0, .inr (0, [.ref q1, .ref q2, .null, .null])), (q1, .inl (c1, 24, .inl (fun _ => 0))), (q2, .inl (c2, 24, .inl (fun _ => 0))), (q3, .inl (c3, 24, .inl (fun _ => 0)))] H := hP
  have hD : va_D A [(h0, .inr (0, [.ref q1, .ref q2, .null, .null])), (q1, .inl (c1, 24, .inl (fun _ => 0))), (q2, .inl (c2, 24, .inl (fun _ => 0))), (q3, .inl (c3, 24, .inl (fun _ => 0)))] := hD
  have hK : va_K D vwCl [(c1, .int), (c2, .int), (c3, .int)] s := hK
  refine va_putF (D := D) (ci := 0) (v := .ref q3) (ty := .array .int) (C := RX0) (T := TX0) (N := 4) hx hb hts in_X0 tyX0 tyX0_ok nmX0 hown hK hP hD hS 0 rfl rfl 2 (by decide) (hts _ q29) (fun _ h9 => h9) rfl hin rfl (by decide +kernel) rfl rfl (Nat.le_of_ble_eq_true rfl) dX0_init_25 (fun H locs hP hD hS => ?_)
  have hP : va_P D vwCl [(h0, .inr (0, [.ref q1, .ref q2, .ref q3, .null])), (q1, .inl (c1, 24, .inl (fun _ => 0))), (q2, .inl (c2, 24, .inl (fun _ => 0))), (q3, .inl (c3, 24, .inl (fun _ => 0)))] H := hP
  have hD : va_D A [(h0, .inr (0, [.ref q1, .ref q2, .ref q3, .null])), (q1, .inl (c1, 24, .inl (fun _ => 0))), (q2, .inl (c2, 24, .inl (fun _ => 0))), (q3, .inl (c3, 24, .inl (fun _ => 0)))] := hD
  refine lv_aload_n hx hb dX0_init_28 rfl (lv_at hl 0 rfl) ?_
  refine lv_bipush (v := nI 64) hx hb dX0_init_29 (by decide) ?_
  refine va_newa (atype := .long) (ty := .long) (a0 := (64, .inr (.inl (fun _ => 0)))) (N' := 64) hx hb (hts _ q41) rfl hK hP hD hS hA (fun cA => rfl) (by decide) (by decide) (by decide) (Nat.le_of_ble_eq_true rfl) (Nat.le_of_ble_eq_true rfl) dX0_init_31 (fun q4 c4 H hK hP hD hS => ?_)
  have hP : va_P D vwCl [(h0, .inr (0, [.ref q1, .ref q2, .ref q3, .null])), (q1, .inl (c1, 24, .inl (fun _ => 0))), (q2, .inl (c2, 24, .inl (fun _ => 0))), (q3, .inl (c3, 24, .inl (fun _ => 0))), (q4, .inl (c4, 64, .inr (.inl (fun _ => 0))))] H := hP
  have hD : va_D A [(h0, .inr (0, [.ref q1, .ref q2, .ref q3, .null])), (q1, .inl (c1, 24, .inl (fun _ => 0))), (q2, .inl (c2, 24, .inl (fun _ => 0))), (q3, .inl (c3, 24, .inl (fun _ => 0))), (q4, .inl (c4, 64, .inr (.inl (fun _ => 0))))] := hD
  have hK : va_K D vwCl [(c1, .int), (c2, .int), (c3, .int), (c4, .long)] s := hK
  refine va_putF (D := D) (ci := 0) (v := .ref q4) (ty := .array .long) (C := RX0) (T := TX0) (N := 4) hx hb hts in_X0 tyX0 tyX0_ok nmX0 hown hK hP hD hS 0 rfl rfl 3 (by decide) (hts _ q30) (fun _ h9 => h9) rfl hin rfl (by decide +kernel) rfl rfl (Nat.le_of_ble_eq_true rfl) dX0_init_33 (fun H locs hP hD hS => ?_)
  have hP : va_P D vwCl [(h0, .inr (0, [.ref q1, .ref q2, .ref q3, .ref q4])), (q1, .inl (c1, 24, .inl (fun _ => 0))), (q2, .inl (c2, 24, .inl (fun _ => 0))), (q3, .inl (c3, 24, .inl (fun _ => 0))), (q4, .inl (c4, 64, .inr (.inl (fun _ => 0))))] H := hP
  have hD : va_D A [(h0, .inr (0, [.ref q1, .ref q2, .ref q3, .ref q4])), (q1, .inl (c1, 24, .inl (fun _ => 0))), (q2, .inl (c2, 24, .inl (fun _ => 0))), (q3, .inl (c3, 24, .inl (fun _ => 0))), (q4, .inl (c4, 64, .inr (.inl (fun _ => 0))))] := hD
  refine W.widen (k := 4) (n := 136) (Nat.le_of_ble_eq_true rfl) (Nat.le_of_ble_eq_true rfl) ?_
  obtain ⟨ad, had⟩ : ∃ ad : Nat → Nat, ad = fun k => [h0, q1, q2, q3, q4].getD k 0 := ⟨_, rfl⟩
  obtain ⟨ci, hci⟩ : ∃ ci : Nat → ClassId, ci = fun k => [c1, c2, c3, c4].getD k c1 := ⟨_, rfl⟩
  have hH : ZH D A s.heap (XW ad ci (fun _ => 0) (fun _ => 0) (fun _ => 0) (fun _ => 0)) H locs := by
    rw [had, hci]
    exact ⟨hP, hD, hS⟩
  have hK : va_K D vwCl (XT ci) s := by
    rw [hci]
    exact hK
  have h00 : ad 0 = h0 := by rw [had]; rfl
  rw [← h00] at hl
  refine lv_iconst (v := nI 0) hx hb dX0_init_36 (by decide) ?_
  refine lv_istore_n (lv' := [(1, .int _), (0, .ref _)]) hx hb dX0_init_37 rfl hl (by decide) rfl (fun ls hl => ?_)
  refine lX0_init S0 hA hK (fun f H locs ls hf1 hH => ?_) 25 0 _ _ _ _ (by omega) (by omega) (fun j hj => by omega) hH (lv_sub hl [1, 0] rfl)
  exact W.vret hx hb hr (fun t ht hW => ⟨⟨(), rfl, trivial, ad, ci, f, _, _, _, h00, fun j hj => ⟨hf1 j hj, Nat.le_of_ble_eq_true rfl⟩, by rw [ht]; exact hH.1, va_K.moved hW.alike hK, hH.2.1⟩, hH.2.2.F ht⟩) hH.2.2.2.2 dX0_init_57
/-- a loop of init -/
theorem lX1_init {p : Program} {l : Launch} {e : Env} {R : Room} {s : State} {m : MethodId} {args : Array Value} {below : List Frame} {meth : Method} {c : Code} {cells slots : Nat} {Q : State → Prop} {A : Nat → Prop} {D : va_G} {ad : Nat → Nat} {ci : Nat → ClassId} (S0 : CallFix p m c cX1_init 2 s args lw_all RX1) (hA : ∀ q, s.heap.size ≤ q → A q) (hK : va_K D vwCl (YT ci) s) {ol : Nat → Int32}
    (K : ∀ (f : Nat → Int32) (H : Heap) (locs : List Loc) (ls : Array Slot), (∀ j, j < 24 → f j = nI 1) → ZH D A s.heap (YW ad ci f ol) H locs → W p l e R s m args below meth c H locs cells slots Q (F0 m 41 ls [])) :
    ∀ (n i : Nat) (f : Nat → Int32) (H : Heap) (locs : List Loc) (ls : Array Slot), i ≤ 24 → 24 + 1 ≤ i + n → (∀ j, j < i → f j = nI 1) → ZH D A s.heap (YW ad ci f ol) H locs → lv_has ls 2 [(0, .ref (ad 0)), (1, .int (nI (i)))] → W p l e R s m args below meth c H locs cells slots Q (F0 m 22 ls []) := by
  obtain ⟨hx, hb, hml, hown, hts⟩ := id S0
  intro n
  induction n with
  | zero =>
    intro i f H locs ls h1 h2
    exact absurd h2 (by omega)
  | succ n ih =>
    intro i f H locs ls hi hin hf1 hH hl
    refine lv_iload_n hx hb dX1_init_22 rfl (lv_at hl 1 rfl) ?_
    refine lv_bipush (v := nI 24) hx hb dX1_init_23 (by decide) ?_
    refine lv_icmp_ge (tgt := 41) hx hb dX1_init_25 (by decide) (fun c25 => ?_) (fun c25 => ?_)
    · have c25 : 24 ≤ i := (nI_leI (a := 24) (b := i) (by omega) (by omega)).mp c25
      have e24 : i = 24 := by omega
      subst e24
      exact K f H locs ls hf1 hH
    · have c25 : ¬ (24 ≤ i) := fun h => c25 ((nI_leI (a := 24) (b := i) (by omega) (by omega)).mpr h)
      refine lv_aload_n hx hb dX1_init_28 rfl (lv_at hl 0 rfl) ?_
      refine zy_g0 hx hb hts hown hK hH dX1_init_29 ?_
      refine lv_iload_n hx hb dX1_init_32 rfl (lv_at hl 1 rfl) ?_
      refine lv_iconst (v := nI 1) hx hb dX1_init_33 (by decide) ?_
      refine zy_s0 hx hb hK hH (j := i) (by omega) dX1_init_34 (fun H locs hH => ?_)
      refine lv_iinc (v := nI (i + 1)) (lv' := [(1, .int _), (0, .ref _)]) hx hb dX1_init_35 hl (k := 1) rfl (nI_1 _) (by decide) rfl (fun ls hl => ?_)
      refine lv_goto (tgt := 22) hx hb dX1_init_38 (by decide) ?_
      exact ih (i + 1) _ _ _ _ (by omega) (by omega) (fun j hj => by
        by_cases e : j = i
        · rw [e, pk_us]
        · rw [pk_un e]; exact hf1 j (by omega)) hH (lv_sub hl [1, 0] rfl)
/-- what the constructor leaves -/
def BX1_init (D : va_G) (h0 : Nat) : (Nat → Prop) → Unit → State → Prop := fun A (_ : Unit) t => ∃ (ad : Nat → Nat) (ci : Nat → ClassId) (w ol : Nat → Int32), ad 0 = h0 ∧ zv (fun _ => 1) w ∧ va_P D vwCl (YW ad ci w ol) t.heap ∧ va_K D vwCl (YT ci) t ∧ va_D A (YW ad ci w ol)
/-- the constructor -/
theorem mX1_init (l : Launch) (D : va_G) (h0 sz : Nat) : Met l yX1_init (ws_ yX1_init cX1_init 2 none) ({ frames := 1, cells := 2, slots := 48, locals := 12 }) (ZP D [] [(h0, .inr (1, [.null, .null]))] sz [.ref h0]) (va_Qv (fun _ => True) (BX1_init D h0 (va_A [(h0, .inr (1, [.null, .null]))] sz)) (va_A [(h0, .inr (1, [.null, .null]))] sz)) 2 48 (va_A [(h0, .inr (1, [.null, .null]))] sz) := by
  refine zw_met (own := RX1) (Qf := fun A => va_Qv (fun _ => True) (BX1_init D h0 A) A) (by decide) rfl (Nat.le_of_ble_eq_true rfl) ?_
  intro p e s m below meth c A ls S0 hr hlocks hin hA hK hH hl
  obtain ⟨hx, hb, hml, hown, hts⟩ := id S0
  obtain ⟨hP, hD, hS⟩ := hH
  have hin : meth.name = "<init>" := hin
  have hl : lv_has ls 2 [(0, .ref h0)] := hl
  refine lv_aload_n hx hb dX1_init_0 rfl (lv_at hl 0 rfl) ?_
  refine W.objInit hx hb hown (hts _ q146) (hts _ q25) (hts _ q26) rfl (by rw [hml]; exact hl.1) rfl dX1_init_1 (Nat.le_of_ble_eq_true rfl) (Nat.le_of_ble_eq_true rfl) ?_
  refine W.eq (g2 := F0 m 4 ls []) rfl ?_
  refine lv_aload_n hx hb dX1_init_4 rfl (lv_at hl 0 rfl) ?_
  refine lv_bipush (v := nI 24) hx hb dX1_init_5 (by decide) ?_
  refine va_newa (atype := .int) (ty := .int) (a0 := (24, .inl (fun _ => 0))) (N' := 24) hx hb (hts _ q40) rfl hK hP hD hS hA (fun cA => rfl) (by decide) (by decide) (by decide) (Nat.le_of_ble_eq_true rfl) (Nat.le_of_ble_eq_true rfl) dX1_init_7 (fun q1 c1 H hK hP hD hS => ?_)
  have hP : va_P D vwCl [(h0, .inr (1, [.null, .null])), (q1, .inl (c1, 24, .inl (fun _ => 0)))] H := hP
  have hD : va_D A [(h0, .inr (1, [.null, .null])), (q1, .inl (c1, 24, .inl (fun _ => 0)))] := hD
  have hK : va_K D vwCl [(c1, .int)] s := hK
  refine va_putF (D := D) (ci := 1) (v := .ref q1) (ty := .array .int) (C := RX1) (T := TX1) (N := 2) hx hb hts in_X1 tyX1 tyX1_ok nmX1 hown hK hP hD hS 0 rfl rfl 0 (by decide) (hts _ q147) (fun _ h9 => h9) rfl hin rfl (by decide +kernel) rfl rfl (Nat.le_of_ble_eq_true rfl) dX1_init_9 (fun H locs hP hD hS => ?_)
  have hP : va_P D vwCl [(h0, .inr (1, [.ref q1, .null])), (q1, .inl (c1, 24, .inl (fun _ => 0)))] H := hP
  have hD : va_D A [(h0, .inr (1, [.ref q1, .null])), (q1, .inl (c1, 24, .inl (fun _ => 0)))] := hD
  refine lv_aload_n hx hb dX1_init_12 rfl (lv_at hl 0 rfl) ?_
  refine lv_bipush (v := nI 24) hx hb dX1_init_13 (by decide) ?_
  refine va_newa (atype := .int) (ty := .int) (a0 := (24, .inl (fun _ => 0))) (N' := 24) hx hb (hts _ q40) rfl hK hP hD hS hA (fun cA => rfl) (by decide) (by decide) (by decide) (Nat.le_of_ble_eq_true rfl) (Nat.le_of_ble_eq_true rfl) dX1_init_15 (fun q2 c2 H hK hP hD hS => ?_)
  have hP : va_P D vwCl [(h0, .inr (1, [.ref q1, .null])), (q1, .inl (c1, 24, .inl (fun _ => 0))), (q2, .inl (c2, 24, .inl (fun _ => 0)))] H := hP
  have hD : va_D A [(h0, .inr (1, [.ref q1, .null])), (q1, .inl (c1, 24, .inl (fun _ => 0))), (q2, .inl (c2, 24, .inl (fun _ => 0)))] := hD
  have hK : va_K D vwCl [(c1, .int), (c2, .int)] s := hK
  refine va_putF (D := D) (ci := 1) (v := .ref q2) (ty := .array .int) (C := RX1) (T := TX1) (N := 2) hx hb hts in_X1 tyX1 tyX1_ok nmX1 hown hK hP hD hS 0 rfl rfl 1 (by decide) (hts _ q148) (fun _ h9 => h9) rfl hin rfl (by decide +kernel) rfl rfl (Nat.le_of_ble_eq_true rfl) dX1_init_17 (fun H locs hP hD hS => ?_)
  have hP : va_P D vwCl [(h0, .inr (1, [.ref q1, .ref q2])), (q1, .inl (c1, 24, .inl (fun _ => 0))), (q2, .inl (c2, 24, .inl (fun _ => 0)))] H := hP
  have hD : va_D A [(h0, .inr (1, [.ref q1, .ref q2])), (q1, .inl (c1, 24, .inl (fun _ => 0))), (q2, .inl (c2, 24, .inl (fun _ => 0)))] := hD
  refine W.widen (k := 2) (n := 48) (Nat.le_of_ble_eq_true rfl) (Nat.le_of_ble_eq_true rfl) ?_
  obtain ⟨ad, had⟩ : ∃ ad : Nat → Nat, ad = fun k => [h0, q1, q2].getD k 0 := ⟨_, rfl⟩
  obtain ⟨ci, hci⟩ : ∃ ci : Nat → ClassId, ci = fun k => [c1, c2].getD k c1 := ⟨_, rfl⟩
  have hH : ZH D A s.heap (YW ad ci (fun _ => 0) (fun _ => 0)) H locs := by
    rw [had, hci]
    exact ⟨hP, hD, hS⟩
  have hK : va_K D vwCl (YT ci) s := by
    rw [hci]
    exact hK
  have h00 : ad 0 = h0 := by rw [had]; rfl
  rw [← h00] at hl
  refine lv_iconst (v := nI 0) hx hb dX1_init_20 (by decide) ?_
  refine lv_istore_n (lv' := [(1, .int _), (0, .ref _)]) hx hb dX1_init_21 rfl hl (by decide) rfl (fun ls hl => ?_)
  refine lX1_init S0 hA hK (fun f H locs ls hf1 hH => ?_) 25 0 _ _ _ _ (by omega) (by omega) (fun j hj => by omega) hH (lv_sub hl [1, 0] rfl)
  exact W.vret hx hb hr (fun t ht hW => ⟨⟨(), rfl, trivial, ad, ci, f, _, h00, fun j hj => ⟨hf1 j hj, Nat.le_of_ble_eq_true rfl⟩, by rw [ht]; exact hH.1, va_K.moved hW.alike hK, hH.2.1⟩, hH.2.2.F ht⟩) hH.2.2.2.2 dX1_init_41
end
section
set_option maxRecDepth 100000
/-! THE CLAIM OUT OF ONE WALK OF THE LAW'S BODY. Your part is whole_start (and what it stands on); all else here is the same for every law, but numbers. -/
def R_law : String := "DimerCounterLaw"
def lw_P (b : Addr) (xs : List Int32) (args : Array Value) (s : State) : Prop := args = #[.ref b] ∧ s.IntsAt b xs ∧ xs.length ≤ 192 ∧ (Jvm.Cond.and given_1 narrow_1).before args s = true
def lw_Q (_ : Array Value) (s : State) (o : Outcome) (t : State) : Prop := o = .returned (some (.int 1)) ∧ Framed s o t [] 600000 7290000
def lw_Z (below : List Frame) (a : Array Value) (s : State) : State → Prop := fun t => ∃ o, t.status = .running ∧ Ended t below o ∧ lw_Q a s o t
/-- the law's own end, with 1 on the stack, nothing written that was there before, its room as the claim has it -/
theorem lw_ret {p : Program} {l : Launch} {e : Env} {s : State} {m : MethodId} {below : List Frame} {meth : Method} {c : Code} {b : Nat} (hx : p.tables.exec = Jvm.exec) (hb : c.code = code) (hr : meth.sig.returnType = ret) (hlocks : meth.locks = false) {pc : Nat} {H : Heap} {ls : Array Slot} (hdg : decode code pc = .ok (.ireturn, 1)) : W p l e room_1 s m #[Value.ref b] below meth c H [] 600000 7290000 (lw_Z below #[Value.ref b] s) (F0 m pc ls [.int 1]) := by
  intro T hT X
  obtain ⟨fs, hret, hrun, hended, hW, hframe⟩ := X.leave (v := some (.int 1)) (hlocks := hlocks) (fun h => by rw [hr] at h; cases h)
  have hmeth' : T.vm.method? m = some meth := X.method'
  refine ⟨T.setFrames fs, ?_, .returned (some (.int 1)), hrun, hended, rfl, ⟨_, rfl⟩, hW, hframe⟩
  jvm_step X.here [X.here.top, hx, hb, hdg, hmeth', hr, ret, narrow_b1]
  (try refine ⟨rfl, ?_⟩); (try refine ⟨rfl, ?_⟩)
  first | (intro acts; rw [hret _ acts rfl rfl rfl]) | rw [hret _ _ rfl rfl rfl]
  exact Steps.refl _
/-- what holds at the law's entry: the machine, the code, the tables' words (any of lw_tbl by 'hts w (by decide +kernel)'), the script of L ints xs at the cell b, what the Statement gives of the start (any of its parts by flat_of_before) -/
def lw_At (p : Program) (s : State) (m : MethodId) (meth : Method) (c : Code) (b L : Nat) (xs : Nat → Int32) : Prop :=
  p.tables.exec = Jvm.exec ∧ c.code = code ∧ meth.sig.returnType = ret ∧ c.maxLocals = 4 ∧ s.vm.findClass R_law = some m.cls ∧ (∀ w ∈ lw_tbl, w.before #[Value.ref b] s = true) ∧ va_X b L xs s s.heap ∧ b < s.heap.size ∧ meth.locks = false ∧ (Jvm.Cond.and given_1 narrow_1).before #[Value.ref b] s = true
theorem zl_go {L i : Nat} (hL : L ≤ 192) (hi : i ≤ 192) (h : ¬ nI L - nI 3 < nI i) : i + 3 ≤ L := by
  have h1 : ¬ (nI L - nI 3).toInt < (nI i).toInt := fun q => h (Int32.lt_iff_toInt_lt.mpr q)
  rw [pk_sub_toInt (by omega) (by omega), nI_toInt (by omega)] at h1
  omega
section ZLAW
variable {p : Program} {l : Launch} {e : Env} {R : Room} {s : State} {m : MethodId} {args : Array Value} {below : List Frame} {meth : Method} {c : Code} {H : Heap} {locs : List Loc} {cells slots : Nat} {Q : State → Prop}
variable {cc : ByteArray} {pc : Nat} {ls : Array Slot} {rest : List Value} {A : Nat → Prop} {D : va_G} {ws : va_W}
theorem zl_sld (hx : p.tables.exec = Jvm.exec) (hb : c.code = cc) {b L : Nat} {xs : Nat → Int32} (hL : L ≤ 192) (hX : va_X b L xs s s.heap) (hbl : b < s.heap.size) (hbA : ¬ A b) (hH : ZH D A s.heap ws H locs) {j : Nat} (hj : j < L) (hdg : decode cc pc = .ok (.iaload, 1)) (kk : W p l e R s m args below meth c H locs cells slots Q (F0 m (pc + 1) ls (.int (xs j) :: rest))) : W p l e R s m args below meth c H locs cells slots Q (F0 m pc ls (.int (nI j) :: .ref b :: rest)) := by
  refine va_sld hx hb hX hbl hbA hH.2.2 (vp_in_nI hj (by omega)) hdg ?_
  rw [nI_clamp (by omega)]
  exact kk
end ZLAW
/-- the law's loop at its head: i ints read, both objects hold the same weights v -/
theorem law_loop {p : Program} {l : Launch} {e : Env} {s : State} {m : MethodId} {below : List Frame} {meth : Method} {c : Code} {D : va_G} {adx ady : Nat → Nat} {cix ciy : Nat → ClassId} {b L : Nat} {xs : Nat → Int32} (hL : L ≤ 192) (C0 : lw_At p s m meth c b L xs) (hK : va_K D vwCl (XT cix ++ YT ciy) s) :
    ∀ (n i : Nat) (v : Nat → Nat) (w mv us wy ol : Nat → Int32) (tb : Nat → Int64) (H : Heap) (locs : List Loc) (ls : Array Slot), i ≤ L → L + 1 ≤ i + n → zv v w → zv v wy → ZH D (fun q : Nat => s.heap.size ≤ q) s.heap (XW adx cix w mv us tb ++ YW ady ciy wy ol) H locs → lv_has ls 4 [(0, .ref b), (1, .ref (adx 0)), (2, .ref (ady 0)), (3, .int (nI i))] → W p l e room_1 s m #[Value.ref b] below meth c H locs 8 190 (lw_Z below #[Value.ref b] s) (F0 m 18 ls []) := by
  obtain ⟨hx, hb, hr, hml, hown, hts0, hX, hbl, hlocks, hgv⟩ := C0
  have hts : ∀ w ∈ lw_all, w.before #[Value.ref b] s = true := fun w h => hts0 w (lw_all_tbl h)
  have S0 : CallFix p m c code 4 s #[Value.ref b] lw_all R_law := ⟨hx, hb, hml, hown, hts⟩
  have hA : ∀ q : Nat, s.heap.size ≤ q → (fun q : Nat => s.heap.size ≤ q) q := fun _ h => h
  have hbA : ¬ (fun q : Nat => s.heap.size ≤ q) b := Nat.not_le.mpr hbl
  intro n
  induction n with
  | zero =>
    intro i v w mv us wy ol tb H locs ls h1 h2
    exact absurd h2 (by omega)
  | succ n ih =>
    intro i v w mv us wy ol tb H locs ls hi hin hvx hvy hH hl
    refine lv_iload_n hx hb dL_law_18 rfl (lv_at hl 3 rfl) ?_
    refine lv_aload_n hx hb dL_law_19 rfl (lv_at hl 0 rfl) ?_
    refine va_slen hx hb hX hbl hbA hH.2.2 dL_law_20 ?_
    refine zw_i (nI L) rfl ?_
    refine lv_iconst (v := nI 3) hx hb dL_law_21 (by decide) ?_
    refine lv_isub hx hb dL_law_22 ?_
    refine lv_icmp_gt (tgt := 356) hx hb dL_law_23 (by decide) (fun c23 => ?_) (fun c23 => ?_)
    · refine lv_iconst (v := nI 1) hx hb dL_law_356 (by decide) ?_
      refine va_forget (fun q hq => hH.2.2.2.2 q hq) ?_
      refine W.widen (k := 600000) (n := 7290000) (by omega) (by omega) ?_
      exact lw_ret hx hb hr hlocks dL_law_357
    · have hi3 : i + 3 ≤ L := zl_go hL (by omega) c23
      refine lv_aload_n hx hb dL_law_26 rfl (lv_at hl 0 rfl) ?_
      refine lv_iload_n hx hb dL_law_27 rfl (lv_at hl 3 rfl) ?_
      refine zl_sld hx hb hL hX hbl hbA hH (j := i) (by omega) dL_law_28 ?_
      refine lv_bipush (v := nI 15) hx hb dL_law_29 (by decide) ?_
      refine lv_iand hx hb dL_law_31 ?_
      obtain ⟨k, hk, hke⟩ := pk_andE (xs i) (m := nI 15) 4 (by decide)
      refine zw_i (nI k) hke ?_
      have hk : k < 16 := hk
      rcases (show k = 0 ∨ k = 1 ∨ k = 2 ∨ k = 3 ∨ k = 4 ∨ k = 5 ∨ k = 6 ∨ k = 7 ∨ k = 8 ∨ k = 9 ∨ k = 10 ∨ k = 11 ∨ 12 ≤ k by omega) with rfl | rfl | rfl | rfl | rfl | rfl | rfl | rfl | rfl | rfl | rfl | rfl | hk12
      · refine lv_tableIn (tgt := 96) (off := 64) hx hb dL_law_32 (by decide) (by decide) (by decide) (by decide) ?_
        refine lv_aload_n hx hb dL_law_96 rfl (lv_at hl 1 rfl) ?_
        refine lv_aload_n hx hb dL_law_97 rfl (lv_at hl 0 rfl) ?_
        refine lv_iload_n hx hb dL_law_98 rfl (lv_at hl 3 rfl) ?_
        refine lv_iconst (v := nI 1) hx hb dL_law_99 (by decide) ?_
        refine lv_iadd hx hb dL_law_100 ?_
        refine zw_i (nI (i + 1)) (nI_add _ _) ?_
        refine zl_sld hx hb hL hX hbl hbA hH (j := i + 1) (by omega) dL_law_101 ?_
        refine lv_aload_n hx hb dL_law_102 rfl (lv_at hl 0 rfl) ?_
        refine lv_iload_n hx hb dL_law_103 rfl (lv_at hl 3 rfl) ?_
        refine lv_iconst (v := nI 2) hx hb dL_law_104 (by decide) ?_
        refine lv_iadd hx hb dL_law_105 ?_
        refine zw_i (nI (i + 2)) (nI_add _ _) ?_
        refine zl_sld hx hb hL hX hbl hbA hH (j := i + 2) (by omega) dL_law_106 ?_
        refine zw_Vi (n := 2) (rest := []) (wr := YW ady ciy wy ol) S0 (mX0_weight l D adx cix _ w mv us tb v hvx (xs (i + 1)) (xs (i + 2))) q42 q43 q44 q17 q45 (by decide +kernel) ⟨Nat.le_of_ble_eq_true rfl, Nat.le_of_ble_eq_true rfl⟩ ⟨rfl, rfl⟩ ⟨Nat.le_of_ble_eq_true rfl, Nat.le_of_ble_eq_true rfl⟩ hK hA hH [0, 1, 2, 3, 4] [5, 6, 7] [0, 1, 2, 3] rfl rfl rfl (by decide) (by decide) (by decide) rfl rfl rfl rfl hl.1 rfl (Nat.le_of_ble_eq_true rfl) dL_law_107 (fun r107 u107 H locs hr107 hH => ?_)
        have hH : ZH D (fun q : Nat => s.heap.size ≤ q) s.heap (YW ady ciy wy ol ++ XU adx cix u107) H locs := hH
        refine lv_aload_n hx hb dL_law_110 rfl (lv_at hl 2 rfl) ?_
        refine lv_aload_n hx hb dL_law_111 rfl (lv_at hl 0 rfl) ?_
        refine lv_iload_n hx hb dL_law_112 rfl (lv_at hl 3 rfl) ?_
        refine lv_iconst (v := nI 1) hx hb dL_law_113 (by decide) ?_
        refine lv_iadd hx hb dL_law_114 ?_
        refine zw_i (nI (i + 1)) (nI_add _ _) ?_
        refine zl_sld hx hb hL hX hbl hbA hH (j := i + 1) (by omega) dL_law_115 ?_
        refine lv_aload_n hx hb dL_law_116 rfl (lv_at hl 0 rfl) ?_
        refine lv_iload_n hx hb dL_law_117 rfl (lv_at hl 3 rfl) ?_
        refine lv_iconst (v := nI 2) hx hb dL_law_118 (by decide) ?_
        refine lv_iadd hx hb dL_law_119 ?_
        refine zw_i (nI (i + 2)) (nI_add _ _) ?_
        refine zl_sld hx hb hL hX hbl hbA hH (j := i + 2) (by omega) dL_law_120 ?_
        refine zw_Vi (n := 2) (rest := [.int _]) (wr := XU adx cix u107) S0 (mX1_weight l D ady ciy _ wy ol v hvy (xs (i + 1)) (xs (i + 2))) q154 q155 q156 q18 q157 (by decide +kernel) ⟨Nat.le_of_ble_eq_true rfl, Nat.le_of_ble_eq_true rfl⟩ ⟨rfl, rfl⟩ ⟨Nat.le_of_ble_eq_true rfl, Nat.le_of_ble_eq_true rfl⟩ hK hA hH [0, 1, 2] [3, 4, 5, 6, 7] [4, 5] rfl rfl rfl (by decide) (by decide) (by decide) rfl rfl rfl rfl hl.1 rfl (Nat.le_of_ble_eq_true rfl) dL_law_121 (fun r121 u121 H locs hr121 hH => ?_)
        have hH : ZH D (fun q : Nat => s.heap.size ≤ q) s.heap (XW adx cix u107.1 u107.2.1 u107.2.2.1 u107.2.2.2 ++ YW ady ciy u121.1 u121.2) H locs := hH
        refine lv_icmp_eq (tgt := 350) hx hb dL_law_124 (by decide) (fun c124 => ?_) (fun c124 => ?_)
        · refine lv_iinc (v := nI (i + 3)) (lv' := [(3, .int _), (0, .ref _), (1, .ref _), (2, .ref _)]) hx hb dL_law_350 hl (k := 3) rfl (nI_add _ 3) (by decide) rfl (fun ls hl => ?_)
          refine lv_goto (tgt := 18) hx hb dL_law_353 (by decide) ?_
          exact ih (i + 3) ((sp_weight v (xs (i + 1)) (xs (i + 2))).2) _ _ _ _ _ _ _ _ _ (by omega) (by omega) hr107.2 hr121.2 hH (lv_sub hl [1, 2, 3, 0] rfl)
        · exact absurd (hr107.1.trans hr121.1.symm) c124
      · refine lv_tableIn (tgt := 129) (off := 97) hx hb dL_law_32 (by decide) (by decide) (by decide) (by decide) ?_
        refine lv_aload_n hx hb dL_law_129 rfl (lv_at hl 1 rfl) ?_
        refine lv_aload_n hx hb dL_law_130 rfl (lv_at hl 0 rfl) ?_
        refine lv_iload_n hx hb dL_law_131 rfl (lv_at hl 3 rfl) ?_
        refine lv_iconst (v := nI 1) hx hb dL_law_132 (by decide) ?_
        refine lv_iadd hx hb dL_law_133 ?_
        refine zw_i (nI (i + 1)) (nI_add _ _) ?_
        refine zl_sld hx hb hL hX hbl hbA hH (j := i + 1) (by omega) dL_law_134 ?_
        refine zw_Vi (n := 1) (rest := []) (wr := YW ady ciy wy ol) S0 (mX0_all l D adx cix _ w mv us tb v hvx (xs (i + 1))) q49 q50 q51 q17 q52 (by decide +kernel) ⟨Nat.le_of_ble_eq_true rfl, Nat.le_of_ble_eq_true rfl⟩ ⟨rfl, rfl⟩ ⟨Nat.le_of_ble_eq_true rfl, Nat.le_of_ble_eq_true rfl⟩ hK hA hH [0, 1, 2, 3, 4] [5, 6, 7] [0, 1, 2, 3] rfl rfl rfl (by decide) (by decide) (by decide) rfl rfl rfl rfl hl.1 rfl (Nat.le_of_ble_eq_true rfl) dL_law_135 (fun r135 u135 H locs hr135 hH => ?_)
        have hH : ZH D (fun q : Nat => s.heap.size ≤ q) s.heap (YW ady ciy wy ol ++ XU adx cix u135) H locs := hH
        refine lv_aload_n hx hb dL_law_138 rfl (lv_at hl 2 rfl) ?_
        refine lv_aload_n hx hb dL_law_139 rfl (lv_at hl 0 rfl) ?_
        refine lv_iload_n hx hb dL_law_140 rfl (lv_at hl 3 rfl) ?_
        refine lv_iconst (v := nI 1) hx hb dL_law_141 (by decide) ?_
        refine lv_iadd hx hb dL_law_142 ?_
        refine zw_i (nI (i + 1)) (nI_add _ _) ?_
        refine zl_sld hx hb hL hX hbl hbA hH (j := i + 1) (by omega) dL_law_143 ?_
        refine zw_Vi (n := 1) (rest := [.int _]) (wr := XU adx cix u135) S0 (mX1_all l D ady ciy _ wy ol v hvy (xs (i + 1))) q162 q163 q164 q18 q165 (by decide +kernel) ⟨Nat.le_of_ble_eq_true rfl, Nat.le_of_ble_eq_true rfl⟩ ⟨rfl, rfl⟩ ⟨Nat.le_of_ble_eq_true rfl, Nat.le_of_ble_eq_true rfl⟩ hK hA hH [0, 1, 2] [3, 4, 5, 6, 7] [4, 5] rfl rfl rfl (by decide) (by decide) (by decide) rfl rfl rfl rfl hl.1 rfl (Nat.le_of_ble_eq_true rfl) dL_law_144 (fun r144 u144 H locs hr144 hH => ?_)
        have hH : ZH D (fun q : Nat => s.heap.size ≤ q) s.heap (XW adx cix u135.1 u135.2.1 u135.2.2.1 u135.2.2.2 ++ YW ady ciy u144.1 u144.2) H locs := hH
        refine lv_icmp_eq (tgt := 350) hx hb dL_law_147 (by decide) (fun c147 => ?_) (fun c147 => ?_)
        · refine lv_iinc (v := nI (i + 3)) (lv' := [(3, .int _), (0, .ref _), (1, .ref _), (2, .ref _)]) hx hb dL_law_350 hl (k := 3) rfl (nI_add _ 3) (by decide) rfl (fun ls hl => ?_)
          refine lv_goto (tgt := 18) hx hb dL_law_353 (by decide) ?_
          exact ih (i + 3) ((sp_all v (xs (i + 1))).2) _ _ _ _ _ _ _ _ _ (by omega) (by omega) hr135.2 hr144.2 hH (lv_sub hl [1, 2, 3, 0] rfl)
        · exact absurd (hr135.1.trans hr144.1.symm) c147
      · refine lv_tableIn (tgt := 152) (off := 120) hx hb dL_law_32 (by decide) (by decide) (by decide) (by decide) ?_
        refine lv_aload_n hx hb dL_law_152 rfl (lv_at hl 1 rfl) ?_
        refine zw_Vv (n := 0) (rest := []) (wr := YW ady ciy wy ol) S0 (mX0_turn l D adx cix _ w mv us tb v hvx ) q53 q54 q55 q17 q56 (by decide +kernel) ⟨Nat.le_of_ble_eq_true rfl, Nat.le_of_ble_eq_true rfl⟩ ⟨rfl, rfl⟩ ⟨Nat.le_of_ble_eq_true rfl, Nat.le_of_ble_eq_true rfl⟩ hK hA hH [0, 1, 2, 3, 4] [5, 6, 7] [0, 1, 2, 3] rfl rfl rfl (by decide) (by decide) (by decide) rfl rfl rfl rfl hl.1 rfl (Nat.le_of_ble_eq_true rfl) dL_law_153 (fun u153 H locs hr153 hH => ?_)
        have hH : ZH D (fun q : Nat => s.heap.size ≤ q) s.heap (YW ady ciy wy ol ++ XU adx cix u153) H locs := hH
        refine lv_aload_n hx hb dL_law_156 rfl (lv_at hl 2 rfl) ?_
        refine zw_Vv (n := 0) (rest := []) (wr := XU adx cix u153) S0 (mX1_turn l D ady ciy _ wy ol v hvy ) q166 q167 q168 q18 q169 (by decide +kernel) ⟨Nat.le_of_ble_eq_true rfl, Nat.le_of_ble_eq_true rfl⟩ ⟨rfl, rfl⟩ ⟨Nat.le_of_ble_eq_true rfl, Nat.le_of_ble_eq_true rfl⟩ hK hA hH [0, 1, 2] [3, 4, 5, 6, 7] [4, 5] rfl rfl rfl (by decide) (by decide) (by decide) rfl rfl rfl rfl hl.1 rfl (Nat.le_of_ble_eq_true rfl) dL_law_157 (fun u157 H locs hr157 hH => ?_)
        have hH : ZH D (fun q : Nat => s.heap.size ≤ q) s.heap (XW adx cix u153.1 u153.2.1 u153.2.2.1 u153.2.2.2 ++ YW ady ciy u157.1 u157.2) H locs := hH
        refine lv_goto (tgt := 350) hx hb dL_law_160 (by decide) ?_
        refine lv_iinc (v := nI (i + 3)) (lv' := [(3, .int _), (0, .ref _), (1, .ref _), (2, .ref _)]) hx hb dL_law_350 hl (k := 3) rfl (nI_add _ 3) (by decide) rfl (fun ls hl => ?_)
        refine lv_goto (tgt := 18) hx hb dL_law_353 (by decide) ?_
        exact ih (i + 3) (sp_turn v) _ _ _ _ _ _ _ _ _ (by omega) (by omega) hr153 hr157 hH (lv_sub hl [1, 2, 3, 0] rfl)
      · refine lv_tableIn (tgt := 163) (off := 131) hx hb dL_law_32 (by decide) (by decide) (by decide) (by decide) ?_
        refine lv_aload_n hx hb dL_law_163 rfl (lv_at hl 1 rfl) ?_
        refine lv_aload_n hx hb dL_law_164 rfl (lv_at hl 0 rfl) ?_
        refine lv_iload_n hx hb dL_law_165 rfl (lv_at hl 3 rfl) ?_
        refine lv_iconst (v := nI 1) hx hb dL_law_166 (by decide) ?_
        refine lv_iadd hx hb dL_law_167 ?_
        refine zw_i (nI (i + 1)) (nI_add _ _) ?_
        refine zl_sld hx hb hL hX hbl hbA hH (j := i + 1) (by omega) dL_law_168 ?_
        refine lv_aload_n hx hb dL_law_169 rfl (lv_at hl 0 rfl) ?_
        refine lv_iload_n hx hb dL_law_170 rfl (lv_at hl 3 rfl) ?_
        refine lv_iconst (v := nI 2) hx hb dL_law_171 (by decide) ?_
        refine lv_iadd hx hb dL_law_172 ?_
        refine zw_i (nI (i + 2)) (nI_add _ _) ?_
        refine zl_sld hx hb hL hX hbl hbA hH (j := i + 2) (by omega) dL_law_173 ?_
        refine zw_Vi (n := 2) (rest := []) (wr := YW ady ciy wy ol) S0 (mX0_force l D adx cix _ w mv us tb v hvx (xs (i + 1)) (xs (i + 2))) q60 q61 q62 q17 q63 (by decide +kernel) ⟨Nat.le_of_ble_eq_true rfl, Nat.le_of_ble_eq_true rfl⟩ ⟨rfl, rfl⟩ ⟨Nat.le_of_ble_eq_true rfl, Nat.le_of_ble_eq_true rfl⟩ hK hA hH [0, 1, 2, 3, 4] [5, 6, 7] [0, 1, 2, 3] rfl rfl rfl (by decide) (by decide) (by decide) rfl rfl rfl rfl hl.1 rfl (Nat.le_of_ble_eq_true rfl) dL_law_174 (fun r174 u174 H locs hr174 hH => ?_)
        have hH : ZH D (fun q : Nat => s.heap.size ≤ q) s.heap (YW ady ciy wy ol ++ XU adx cix u174) H locs := hH
        refine lv_aload_n hx hb dL_law_177 rfl (lv_at hl 2 rfl) ?_
        refine lv_aload_n hx hb dL_law_178 rfl (lv_at hl 0 rfl) ?_
        refine lv_iload_n hx hb dL_law_179 rfl (lv_at hl 3 rfl) ?_
        refine lv_iconst (v := nI 1) hx hb dL_law_180 (by decide) ?_
        refine lv_iadd hx hb dL_law_181 ?_
        refine zw_i (nI (i + 1)) (nI_add _ _) ?_
        refine zl_sld hx hb hL hX hbl hbA hH (j := i + 1) (by omega) dL_law_182 ?_
        refine lv_aload_n hx hb dL_law_183 rfl (lv_at hl 0 rfl) ?_
        refine lv_iload_n hx hb dL_law_184 rfl (lv_at hl 3 rfl) ?_
        refine lv_iconst (v := nI 2) hx hb dL_law_185 (by decide) ?_
        refine lv_iadd hx hb dL_law_186 ?_
        refine zw_i (nI (i + 2)) (nI_add _ _) ?_
        refine zl_sld hx hb hL hX hbl hbA hH (j := i + 2) (by omega) dL_law_187 ?_
        refine zw_Vi (n := 2) (rest := [.int _]) (wr := XU adx cix u174) S0 (mX1_force l D ady ciy _ wy ol v hvy (xs (i + 1)) (xs (i + 2))) q170 q171 q172 q18 q173 (by decide +kernel) ⟨Nat.le_of_ble_eq_true rfl, Nat.le_of_ble_eq_true rfl⟩ ⟨rfl, rfl⟩ ⟨Nat.le_of_ble_eq_true rfl, Nat.le_of_ble_eq_true rfl⟩ hK hA hH [0, 1, 2] [3, 4, 5, 6, 7] [4, 5] rfl rfl rfl (by decide) (by decide) (by decide) rfl rfl rfl rfl hl.1 rfl (Nat.le_of_ble_eq_true rfl) dL_law_188 (fun r188 u188 H locs hr188 hH => ?_)
        have hH : ZH D (fun q : Nat => s.heap.size ≤ q) s.heap (XW adx cix u174.1 u174.2.1 u174.2.2.1 u174.2.2.2 ++ YW ady ciy u188.1 u188.2) H locs := hH
        refine lv_icmp_eq (tgt := 350) hx hb dL_law_191 (by decide) (fun c191 => ?_) (fun c191 => ?_)
        · refine lv_iinc (v := nI (i + 3)) (lv' := [(3, .int _), (0, .ref _), (1, .ref _), (2, .ref _)]) hx hb dL_law_350 hl (k := 3) rfl (nI_add _ 3) (by decide) rfl (fun ls hl => ?_)
          refine lv_goto (tgt := 18) hx hb dL_law_353 (by decide) ?_
          exact ih (i + 3) ((sp_force v (xs (i + 1)) (xs (i + 2))).2) _ _ _ _ _ _ _ _ _ (by omega) (by omega) hr174.2 hr188.2 hH (lv_sub hl [1, 2, 3, 0] rfl)
        · exact absurd (hr174.1.trans hr188.1.symm) c191
      · refine lv_tableIn (tgt := 196) (off := 164) hx hb dL_law_32 (by decide) (by decide) (by decide) (by decide) ?_
        refine lv_aload_n hx hb dL_law_196 rfl (lv_at hl 1 rfl) ?_
        refine lv_aload_n hx hb dL_law_197 rfl (lv_at hl 0 rfl) ?_
        refine lv_iload_n hx hb dL_law_198 rfl (lv_at hl 3 rfl) ?_
        refine lv_iconst (v := nI 1) hx hb dL_law_199 (by decide) ?_
        refine lv_iadd hx hb dL_law_200 ?_
        refine zw_i (nI (i + 1)) (nI_add _ _) ?_
        refine zl_sld hx hb hL hX hbl hbA hH (j := i + 1) (by omega) dL_law_201 ?_
        refine zw_Vi (n := 1) (rest := []) (wr := YW ady ciy wy ol) S0 (mX0_weightOf l D adx cix _ w mv us tb v hvx (xs (i + 1))) q70 q71 q72 q17 q73 (by decide +kernel) ⟨Nat.le_of_ble_eq_true rfl, Nat.le_of_ble_eq_true rfl⟩ ⟨rfl, rfl⟩ ⟨Nat.le_of_ble_eq_true rfl, Nat.le_of_ble_eq_true rfl⟩ hK hA hH [0, 1, 2, 3, 4] [5, 6, 7] [0, 1, 2, 3] rfl rfl rfl (by decide) (by decide) (by decide) rfl rfl rfl rfl hl.1 rfl (Nat.le_of_ble_eq_true rfl) dL_law_202 (fun r202 u202 H locs hr202 hH => ?_)
        have hH : ZH D (fun q : Nat => s.heap.size ≤ q) s.heap (YW ady ciy wy ol ++ XU adx cix u202) H locs := hH
        refine lv_aload_n hx hb dL_law_205 rfl (lv_at hl 2 rfl) ?_
        refine lv_aload_n hx hb dL_law_206 rfl (lv_at hl 0 rfl) ?_
        refine lv_iload_n hx hb dL_law_207 rfl (lv_at hl 3 rfl) ?_
        refine lv_iconst (v := nI 1) hx hb dL_law_208 (by decide) ?_
        refine lv_iadd hx hb dL_law_209 ?_
        refine zw_i (nI (i + 1)) (nI_add _ _) ?_
        refine zl_sld hx hb hL hX hbl hbA hH (j := i + 1) (by omega) dL_law_210 ?_
        refine zw_Vi (n := 1) (rest := [.int _]) (wr := XU adx cix u202) S0 (mX1_weightOf l D ady ciy _ wy ol v hvy (xs (i + 1))) q182 q183 q184 q18 q185 (by decide +kernel) ⟨Nat.le_of_ble_eq_true rfl, Nat.le_of_ble_eq_true rfl⟩ ⟨rfl, rfl⟩ ⟨Nat.le_of_ble_eq_true rfl, Nat.le_of_ble_eq_true rfl⟩ hK hA hH [0, 1, 2] [3, 4, 5, 6, 7] [4, 5] rfl rfl rfl (by decide) (by decide) (by decide) rfl rfl rfl rfl hl.1 rfl (Nat.le_of_ble_eq_true rfl) dL_law_211 (fun r211 u211 H locs hr211 hH => ?_)
        have hH : ZH D (fun q : Nat => s.heap.size ≤ q) s.heap (XW adx cix u202.1 u202.2.1 u202.2.2.1 u202.2.2.2 ++ YW ady ciy u211.1 u211.2) H locs := hH
        refine lv_icmp_eq (tgt := 350) hx hb dL_law_214 (by decide) (fun c214 => ?_) (fun c214 => ?_)
        · refine lv_iinc (v := nI (i + 3)) (lv' := [(3, .int _), (0, .ref _), (1, .ref _), (2, .ref _)]) hx hb dL_law_350 hl (k := 3) rfl (nI_add _ 3) (by decide) rfl (fun ls hl => ?_)
          refine lv_goto (tgt := 18) hx hb dL_law_353 (by decide) ?_
          exact ih (i + 3) (v) _ _ _ _ _ _ _ _ _ (by omega) (by omega) hr202.2 hr211.2 hH (lv_sub hl [1, 2, 3, 0] rfl)
        · exact absurd (hr202.1.trans hr211.1.symm) c214
      · refine lv_tableIn (tgt := 219) (off := 187) hx hb dL_law_32 (by decide) (by decide) (by decide) (by decide) ?_
        refine lv_aload_n hx hb dL_law_219 rfl (lv_at hl 1 rfl) ?_
        refine zw_Vi (n := 0) (rest := []) (wr := YW ady ciy wy ol) S0 (mX0_total l D adx cix _ w mv us tb v hvx ) q74 q75 q76 q17 q77 (by decide +kernel) ⟨Nat.le_of_ble_eq_true rfl, Nat.le_of_ble_eq_true rfl⟩ ⟨rfl, rfl⟩ ⟨Nat.le_of_ble_eq_true rfl, Nat.le_of_ble_eq_true rfl⟩ hK hA hH [0, 1, 2, 3, 4] [5, 6, 7] [0, 1, 2, 3] rfl rfl rfl (by decide) (by decide) (by decide) rfl rfl rfl rfl hl.1 rfl (Nat.le_of_ble_eq_true rfl) dL_law_220 (fun r220 u220 H locs hr220 hH => ?_)
        have hH : ZH D (fun q : Nat => s.heap.size ≤ q) s.heap (YW ady ciy wy ol ++ XU adx cix u220) H locs := hH
        refine lv_aload_n hx hb dL_law_223 rfl (lv_at hl 2 rfl) ?_
        refine zw_Vi (n := 0) (rest := [.int _]) (wr := XU adx cix u220) S0 (mX1_total l D ady ciy _ wy ol v hvy ) q186 q187 q188 q18 q189 (by decide +kernel) ⟨Nat.le_of_ble_eq_true rfl, Nat.le_of_ble_eq_true rfl⟩ ⟨rfl, rfl⟩ ⟨Nat.le_of_ble_eq_true rfl, Nat.le_of_ble_eq_true rfl⟩ hK hA hH [0, 1, 2] [3, 4, 5, 6, 7] [4, 5] rfl rfl rfl (by decide) (by decide) (by decide) rfl rfl rfl rfl hl.1 rfl (Nat.le_of_ble_eq_true rfl) dL_law_224 (fun r224 u224 H locs hr224 hH => ?_)
        have hH : ZH D (fun q : Nat => s.heap.size ≤ q) s.heap (XW adx cix u220.1 u220.2.1 u220.2.2.1 u220.2.2.2 ++ YW ady ciy u224.1 u224.2) H locs := hH
        refine lv_icmp_eq (tgt := 350) hx hb dL_law_227 (by decide) (fun c227 => ?_) (fun c227 => ?_)
        · refine lv_iinc (v := nI (i + 3)) (lv' := [(3, .int _), (0, .ref _), (1, .ref _), (2, .ref _)]) hx hb dL_law_350 hl (k := 3) rfl (nI_add _ 3) (by decide) rfl (fun ls hl => ?_)
          refine lv_goto (tgt := 18) hx hb dL_law_353 (by decide) ?_
          exact ih (i + 3) (v) _ _ _ _ _ _ _ _ _ (by omega) (by omega) hr220.2 hr224.2 hH (lv_sub hl [1, 2, 3, 0] rfl)
        · exact absurd (hr220.1.trans hr224.1.symm) c227
      · refine lv_tableIn (tgt := 232) (off := 200) hx hb dL_law_32 (by decide) (by decide) (by decide) (by decide) ?_
        refine lv_aload_n hx hb dL_law_232 rfl (lv_at hl 1 rfl) ?_
        refine lv_aload_n hx hb dL_law_233 rfl (lv_at hl 0 rfl) ?_
        refine lv_iload_n hx hb dL_law_234 rfl (lv_at hl 3 rfl) ?_
        refine lv_iconst (v := nI 1) hx hb dL_law_235 (by decide) ?_
        refine lv_iadd hx hb dL_law_236 ?_
        refine zw_i (nI (i + 1)) (nI_add _ _) ?_
        refine zl_sld hx hb hL hX hbl hbA hH (j := i + 1) (by omega) dL_law_237 ?_
        refine zw_Vi (n := 1) (rest := []) (wr := YW ady ciy wy ol) S0 (mX0_totalWith l D adx cix _ w mv us tb v hvx (xs (i + 1))) q105 q106 q107 q17 q108 (by decide +kernel) ⟨Nat.le_of_ble_eq_true rfl, Nat.le_of_ble_eq_true rfl⟩ ⟨rfl, rfl⟩ ⟨Nat.le_of_ble_eq_true rfl, Nat.le_of_ble_eq_true rfl⟩ hK hA hH [0, 1, 2, 3, 4] [5, 6, 7] [0, 1, 2, 3] rfl rfl rfl (by decide) (by decide) (by decide) rfl rfl rfl rfl hl.1 rfl (Nat.le_of_ble_eq_true rfl) dL_law_238 (fun r238 u238 H locs hr238 hH => ?_)
        have hH : ZH D (fun q : Nat => s.heap.size ≤ q) s.heap (YW ady ciy wy ol ++ XU adx cix u238) H locs := hH
        refine lv_aload_n hx hb dL_law_241 rfl (lv_at hl 2 rfl) ?_
        refine lv_aload_n hx hb dL_law_242 rfl (lv_at hl 0 rfl) ?_
        refine lv_iload_n hx hb dL_law_243 rfl (lv_at hl 3 rfl) ?_
        refine lv_iconst (v := nI 1) hx hb dL_law_244 (by decide) ?_
        refine lv_iadd hx hb dL_law_245 ?_
        refine zw_i (nI (i + 1)) (nI_add _ _) ?_
        refine zl_sld hx hb hL hX hbl hbA hH (j := i + 1) (by omega) dL_law_246 ?_
        refine zw_Vi (n := 1) (rest := [.int _]) (wr := XU adx cix u238) S0 (mX1_totalWith l D ady ciy _ wy ol v hvy (xs (i + 1))) q206 q207 q208 q18 q209 (by decide +kernel) ⟨Nat.le_of_ble_eq_true rfl, Nat.le_of_ble_eq_true rfl⟩ ⟨rfl, rfl⟩ ⟨Nat.le_of_ble_eq_true rfl, Nat.le_of_ble_eq_true rfl⟩ hK hA hH [0, 1, 2] [3, 4, 5, 6, 7] [4, 5] rfl rfl rfl (by decide) (by decide) (by decide) rfl rfl rfl rfl hl.1 rfl (Nat.le_of_ble_eq_true rfl) dL_law_247 (fun r247 u247 H locs hr247 hH => ?_)
        have hH : ZH D (fun q : Nat => s.heap.size ≤ q) s.heap (XW adx cix u238.1 u238.2.1 u238.2.2.1 u238.2.2.2 ++ YW ady ciy u247.1 u247.2) H locs := hH
        refine lv_icmp_eq (tgt := 350) hx hb dL_law_250 (by decide) (fun c250 => ?_) (fun c250 => ?_)
        · refine lv_iinc (v := nI (i + 3)) (lv' := [(3, .int _), (0, .ref _), (1, .ref _), (2, .ref _)]) hx hb dL_law_350 hl (k := 3) rfl (nI_add _ 3) (by decide) rfl (fun ls hl => ?_)
          refine lv_goto (tgt := 18) hx hb dL_law_353 (by decide) ?_
          exact ih (i + 3) (v) _ _ _ _ _ _ _ _ _ (by omega) (by omega) hr238.2 hr247.2 hH (lv_sub hl [1, 2, 3, 0] rfl)
        · exact absurd (hr238.1.trans hr247.1.symm) c250
      · refine lv_tableIn (tgt := 255) (off := 223) hx hb dL_law_32 (by decide) (by decide) (by decide) (by decide) ?_
        refine lv_aload_n hx hb dL_law_255 rfl (lv_at hl 1 rfl) ?_
        refine lv_aload_n hx hb dL_law_256 rfl (lv_at hl 0 rfl) ?_
        refine lv_iload_n hx hb dL_law_257 rfl (lv_at hl 3 rfl) ?_
        refine lv_iconst (v := nI 1) hx hb dL_law_258 (by decide) ?_
        refine lv_iadd hx hb dL_law_259 ?_
        refine zw_i (nI (i + 1)) (nI_add _ _) ?_
        refine zl_sld hx hb hL hX hbl hbA hH (j := i + 1) (by omega) dL_law_260 ?_
        refine lv_aload_n hx hb dL_law_261 rfl (lv_at hl 0 rfl) ?_
        refine lv_iload_n hx hb dL_law_262 rfl (lv_at hl 3 rfl) ?_
        refine lv_iconst (v := nI 2) hx hb dL_law_263 (by decide) ?_
        refine lv_iadd hx hb dL_law_264 ?_
        refine zw_i (nI (i + 2)) (nI_add _ _) ?_
        refine zl_sld hx hb hL hX hbl hbA hH (j := i + 2) (by omega) dL_law_265 ?_
        refine zw_Vi (n := 2) (rest := []) (wr := YW ady ciy wy ol) S0 (mX0_totalWithBoth l D adx cix _ w mv us tb v hvx (xs (i + 1)) (xs (i + 2))) q117 q118 q119 q17 q120 (by decide +kernel) ⟨Nat.le_of_ble_eq_true rfl, Nat.le_of_ble_eq_true rfl⟩ ⟨rfl, rfl⟩ ⟨Nat.le_of_ble_eq_true rfl, Nat.le_of_ble_eq_true rfl⟩ hK hA hH [0, 1, 2, 3, 4] [5, 6, 7] [0, 1, 2, 3] rfl rfl rfl (by decide) (by decide) (by decide) rfl rfl rfl rfl hl.1 rfl (Nat.le_of_ble_eq_true rfl) dL_law_266 (fun r266 u266 H locs hr266 hH => ?_)
        have hH : ZH D (fun q : Nat => s.heap.size ≤ q) s.heap (YW ady ciy wy ol ++ XU adx cix u266) H locs := hH
        refine lv_aload_n hx hb dL_law_269 rfl (lv_at hl 2 rfl) ?_
        refine lv_aload_n hx hb dL_law_270 rfl (lv_at hl 0 rfl) ?_
        refine lv_iload_n hx hb dL_law_271 rfl (lv_at hl 3 rfl) ?_
        refine lv_iconst (v := nI 1) hx hb dL_law_272 (by decide) ?_
        refine lv_iadd hx hb dL_law_273 ?_
        refine zw_i (nI (i + 1)) (nI_add _ _) ?_
        refine zl_sld hx hb hL hX hbl hbA hH (j := i + 1) (by omega) dL_law_274 ?_
        refine lv_aload_n hx hb dL_law_275 rfl (lv_at hl 0 rfl) ?_
        refine lv_iload_n hx hb dL_law_276 rfl (lv_at hl 3 rfl) ?_
        refine lv_iconst (v := nI 2) hx hb dL_law_277 (by decide) ?_
        refine lv_iadd hx hb dL_law_278 ?_
        refine zw_i (nI (i + 2)) (nI_add _ _) ?_
        refine zl_sld hx hb hL hX hbl hbA hH (j := i + 2) (by omega) dL_law_279 ?_
        refine zw_Vi (n := 2) (rest := [.int _]) (wr := XU adx cix u266) S0 (mX1_totalWithBoth l D ady ciy _ wy ol v hvy (xs (i + 1)) (xs (i + 2))) q210 q211 q212 q18 q213 (by decide +kernel) ⟨Nat.le_of_ble_eq_true rfl, Nat.le_of_ble_eq_true rfl⟩ ⟨rfl, rfl⟩ ⟨Nat.le_of_ble_eq_true rfl, Nat.le_of_ble_eq_true rfl⟩ hK hA hH [0, 1, 2] [3, 4, 5, 6, 7] [4, 5] rfl rfl rfl (by decide) (by decide) (by decide) rfl rfl rfl rfl hl.1 rfl (Nat.le_of_ble_eq_true rfl) dL_law_280 (fun r280 u280 H locs hr280 hH => ?_)
        have hH : ZH D (fun q : Nat => s.heap.size ≤ q) s.heap (XW adx cix u266.1 u266.2.1 u266.2.2.1 u266.2.2.2 ++ YW ady ciy u280.1 u280.2) H locs := hH
        refine lv_icmp_eq (tgt := 350) hx hb dL_law_283 (by decide) (fun c283 => ?_) (fun c283 => ?_)
        · refine lv_iinc (v := nI (i + 3)) (lv' := [(3, .int _), (0, .ref _), (1, .ref _), (2, .ref _)]) hx hb dL_law_350 hl (k := 3) rfl (nI_add _ 3) (by decide) rfl (fun ls hl => ?_)
          refine lv_goto (tgt := 18) hx hb dL_law_353 (by decide) ?_
          exact ih (i + 3) (v) _ _ _ _ _ _ _ _ _ (by omega) (by omega) hr266.2 hr280.2 hH (lv_sub hl [1, 2, 3, 0] rfl)
        · exact absurd (hr266.1.trans hr280.1.symm) c283
      · refine lv_tableIn (tgt := 288) (off := 256) hx hb dL_law_32 (by decide) (by decide) (by decide) (by decide) ?_
        refine lv_aload_n hx hb dL_law_288 rfl (lv_at hl 1 rfl) ?_
        refine zw_Vi (n := 0) (rest := []) (wr := YW ady ciy wy ol) S0 (mX0_possible l D adx cix _ w mv us tb v hvx ) q121 q122 q123 q17 q124 (by decide +kernel) ⟨Nat.le_of_ble_eq_true rfl, Nat.le_of_ble_eq_true rfl⟩ ⟨rfl, rfl⟩ ⟨Nat.le_of_ble_eq_true rfl, Nat.le_of_ble_eq_true rfl⟩ hK hA hH [0, 1, 2, 3, 4] [5, 6, 7] [0, 1, 2, 3] rfl rfl rfl (by decide) (by decide) (by decide) rfl rfl rfl rfl hl.1 rfl (Nat.le_of_ble_eq_true rfl) dL_law_289 (fun r289 u289 H locs hr289 hH => ?_)
        have hH : ZH D (fun q : Nat => s.heap.size ≤ q) s.heap (YW ady ciy wy ol ++ XU adx cix u289) H locs := hH
        refine lv_aload_n hx hb dL_law_292 rfl (lv_at hl 2 rfl) ?_
        refine zw_Vi (n := 0) (rest := [.int _]) (wr := XU adx cix u289) S0 (mX1_possible l D ady ciy _ wy ol v hvy ) q214 q215 q216 q18 q217 (by decide +kernel) ⟨Nat.le_of_ble_eq_true rfl, Nat.le_of_ble_eq_true rfl⟩ ⟨rfl, rfl⟩ ⟨Nat.le_of_ble_eq_true rfl, Nat.le_of_ble_eq_true rfl⟩ hK hA hH [0, 1, 2] [3, 4, 5, 6, 7] [4, 5] rfl rfl rfl (by decide) (by decide) (by decide) rfl rfl rfl rfl hl.1 rfl (Nat.le_of_ble_eq_true rfl) dL_law_293 (fun r293 u293 H locs hr293 hH => ?_)
        have hH : ZH D (fun q : Nat => s.heap.size ≤ q) s.heap (XW adx cix u289.1 u289.2.1 u289.2.2.1 u289.2.2.2 ++ YW ady ciy u293.1 u293.2) H locs := hH
        refine lv_icmp_eq (tgt := 350) hx hb dL_law_296 (by decide) (fun c296 => ?_) (fun c296 => ?_)
        · refine lv_iinc (v := nI (i + 3)) (lv' := [(3, .int _), (0, .ref _), (1, .ref _), (2, .ref _)]) hx hb dL_law_350 hl (k := 3) rfl (nI_add _ 3) (by decide) rfl (fun ls hl => ?_)
          refine lv_goto (tgt := 18) hx hb dL_law_353 (by decide) ?_
          exact ih (i + 3) (v) _ _ _ _ _ _ _ _ _ (by omega) (by omega) hr289.2 hr293.2 hH (lv_sub hl [1, 2, 3, 0] rfl)
        · exact absurd (hr289.1.trans hr293.1.symm) c296
      · refine lv_tableIn (tgt := 301) (off := 269) hx hb dL_law_32 (by decide) (by decide) (by decide) (by decide) ?_
        refine lv_aload_n hx hb dL_law_301 rfl (lv_at hl 1 rfl) ?_
        refine lv_aload_n hx hb dL_law_302 rfl (lv_at hl 0 rfl) ?_
        refine lv_iload_n hx hb dL_law_303 rfl (lv_at hl 3 rfl) ?_
        refine lv_iconst (v := nI 1) hx hb dL_law_304 (by decide) ?_
        refine lv_iadd hx hb dL_law_305 ?_
        refine zw_i (nI (i + 1)) (nI_add _ _) ?_
        refine zl_sld hx hb hL hX hbl hbA hH (j := i + 1) (by omega) dL_law_306 ?_
        refine zw_Vi (n := 1) (rest := []) (wr := YW ady ciy wy ol) S0 (mX0_canUse l D adx cix _ w mv us tb v hvx (xs (i + 1))) q129 q130 q131 q17 q132 (by decide +kernel) ⟨Nat.le_of_ble_eq_true rfl, Nat.le_of_ble_eq_true rfl⟩ ⟨rfl, rfl⟩ ⟨Nat.le_of_ble_eq_true rfl, Nat.le_of_ble_eq_true rfl⟩ hK hA hH [0, 1, 2, 3, 4] [5, 6, 7] [0, 1, 2, 3] rfl rfl rfl (by decide) (by decide) (by decide) rfl rfl rfl rfl hl.1 rfl (Nat.le_of_ble_eq_true rfl) dL_law_307 (fun r307 u307 H locs hr307 hH => ?_)
        have hH : ZH D (fun q : Nat => s.heap.size ≤ q) s.heap (YW ady ciy wy ol ++ XU adx cix u307) H locs := hH
        refine lv_aload_n hx hb dL_law_310 rfl (lv_at hl 2 rfl) ?_
        refine lv_aload_n hx hb dL_law_311 rfl (lv_at hl 0 rfl) ?_
        refine lv_iload_n hx hb dL_law_312 rfl (lv_at hl 3 rfl) ?_
        refine lv_iconst (v := nI 1) hx hb dL_law_313 (by decide) ?_
        refine lv_iadd hx hb dL_law_314 ?_
        refine zw_i (nI (i + 1)) (nI_add _ _) ?_
        refine zl_sld hx hb hL hX hbl hbA hH (j := i + 1) (by omega) dL_law_315 ?_
        refine zw_Vi (n := 1) (rest := [.int _]) (wr := XU adx cix u307) S0 (mX1_canUse l D ady ciy _ wy ol v hvy (xs (i + 1))) q218 q219 q220 q18 q221 (by decide +kernel) ⟨Nat.le_of_ble_eq_true rfl, Nat.le_of_ble_eq_true rfl⟩ ⟨rfl, rfl⟩ ⟨Nat.le_of_ble_eq_true rfl, Nat.le_of_ble_eq_true rfl⟩ hK hA hH [0, 1, 2] [3, 4, 5, 6, 7] [4, 5] rfl rfl rfl (by decide) (by decide) (by decide) rfl rfl rfl rfl hl.1 rfl (Nat.le_of_ble_eq_true rfl) dL_law_316 (fun r316 u316 H locs hr316 hH => ?_)
        have hH : ZH D (fun q : Nat => s.heap.size ≤ q) s.heap (XW adx cix u307.1 u307.2.1 u307.2.2.1 u307.2.2.2 ++ YW ady ciy u316.1 u316.2) H locs := hH
        refine lv_icmp_eq (tgt := 350) hx hb dL_law_319 (by decide) (fun c319 => ?_) (fun c319 => ?_)
        · refine lv_iinc (v := nI (i + 3)) (lv' := [(3, .int _), (0, .ref _), (1, .ref _), (2, .ref _)]) hx hb dL_law_350 hl (k := 3) rfl (nI_add _ 3) (by decide) rfl (fun ls hl => ?_)
          refine lv_goto (tgt := 18) hx hb dL_law_353 (by decide) ?_
          exact ih (i + 3) (v) _ _ _ _ _ _ _ _ _ (by omega) (by omega) hr307.2 hr316.2 hH (lv_sub hl [1, 2, 3, 0] rfl)
        · exact absurd (hr307.1.trans hr316.1.symm) c319
      · refine lv_tableIn (tgt := 324) (off := 292) hx hb dL_law_32 (by decide) (by decide) (by decide) (by decide) ?_
        refine lv_aload_n hx hb dL_law_324 rfl (lv_at hl 1 rfl) ?_
        refine zw_Vi (n := 0) (rest := []) (wr := YW ady ciy wy ol) S0 (mX0_settled l D adx cix _ w mv us tb v hvx ) q133 q134 q135 q17 q136 (by decide +kernel) ⟨Nat.le_of_ble_eq_true rfl, Nat.le_of_ble_eq_true rfl⟩ ⟨rfl, rfl⟩ ⟨Nat.le_of_ble_eq_true rfl, Nat.le_of_ble_eq_true rfl⟩ hK hA hH [0, 1, 2, 3, 4] [5, 6, 7] [0, 1, 2, 3] rfl rfl rfl (by decide) (by decide) (by decide) rfl rfl rfl rfl hl.1 rfl (Nat.le_of_ble_eq_true rfl) dL_law_325 (fun r325 u325 H locs hr325 hH => ?_)
        have hH : ZH D (fun q : Nat => s.heap.size ≤ q) s.heap (YW ady ciy wy ol ++ XU adx cix u325) H locs := hH
        refine lv_aload_n hx hb dL_law_328 rfl (lv_at hl 2 rfl) ?_
        refine zw_Vi (n := 0) (rest := [.int _]) (wr := XU adx cix u325) S0 (mX1_settled l D ady ciy _ wy ol v hvy ) q222 q223 q224 q18 q225 (by decide +kernel) ⟨Nat.le_of_ble_eq_true rfl, Nat.le_of_ble_eq_true rfl⟩ ⟨rfl, rfl⟩ ⟨Nat.le_of_ble_eq_true rfl, Nat.le_of_ble_eq_true rfl⟩ hK hA hH [0, 1, 2] [3, 4, 5, 6, 7] [4, 5] rfl rfl rfl (by decide) (by decide) (by decide) rfl rfl rfl rfl hl.1 rfl (Nat.le_of_ble_eq_true rfl) dL_law_329 (fun r329 u329 H locs hr329 hH => ?_)
        have hH : ZH D (fun q : Nat => s.heap.size ≤ q) s.heap (XW adx cix u325.1 u325.2.1 u325.2.2.1 u325.2.2.2 ++ YW ady ciy u329.1 u329.2) H locs := hH
        refine lv_icmp_eq (tgt := 350) hx hb dL_law_332 (by decide) (fun c332 => ?_) (fun c332 => ?_)
        · refine lv_iinc (v := nI (i + 3)) (lv' := [(3, .int _), (0, .ref _), (1, .ref _), (2, .ref _)]) hx hb dL_law_350 hl (k := 3) rfl (nI_add _ 3) (by decide) rfl (fun ls hl => ?_)
          refine lv_goto (tgt := 18) hx hb dL_law_353 (by decide) ?_
          exact ih (i + 3) (v) _ _ _ _ _ _ _ _ _ (by omega) (by omega) hr325.2 hr329.2 hH (lv_sub hl [1, 2, 3, 0] rfl)
        · exact absurd (hr325.1.trans hr329.1.symm) c332
      · refine lv_tableIn (tgt := 337) (off := 305) hx hb dL_law_32 (by decide) (by decide) (by decide) (by decide) ?_
        refine lv_aload_n hx hb dL_law_337 rfl (lv_at hl 1 rfl) ?_
        refine zw_Vi (n := 0) (rest := []) (wr := YW ady ciy wy ol) S0 (mX0_acrossTotal l D adx cix _ w mv us tb v hvx ) q137 q138 q139 q17 q140 (by decide +kernel) ⟨Nat.le_of_ble_eq_true rfl, Nat.le_of_ble_eq_true rfl⟩ ⟨rfl, rfl⟩ ⟨Nat.le_of_ble_eq_true rfl, Nat.le_of_ble_eq_true rfl⟩ hK hA hH [0, 1, 2, 3, 4] [5, 6, 7] [0, 1, 2, 3] rfl rfl rfl (by decide) (by decide) (by decide) rfl rfl rfl rfl hl.1 rfl (Nat.le_of_ble_eq_true rfl) dL_law_338 (fun r338 u338 H locs hr338 hH => ?_)
        have hH : ZH D (fun q : Nat => s.heap.size ≤ q) s.heap (YW ady ciy wy ol ++ XU adx cix u338) H locs := hH
        refine lv_aload_n hx hb dL_law_341 rfl (lv_at hl 2 rfl) ?_
        refine zw_Vi (n := 0) (rest := [.int _]) (wr := XU adx cix u338) S0 (mX1_acrossTotal l D ady ciy _ wy ol v hvy ) q227 q228 q229 q18 q230 (by decide +kernel) ⟨Nat.le_of_ble_eq_true rfl, Nat.le_of_ble_eq_true rfl⟩ ⟨rfl, rfl⟩ ⟨Nat.le_of_ble_eq_true rfl, Nat.le_of_ble_eq_true rfl⟩ hK hA hH [0, 1, 2] [3, 4, 5, 6, 7] [4, 5] rfl rfl rfl (by decide) (by decide) (by decide) rfl rfl rfl rfl hl.1 rfl (Nat.le_of_ble_eq_true rfl) dL_law_342 (fun r342 u342 H locs hr342 hH => ?_)
        have hH : ZH D (fun q : Nat => s.heap.size ≤ q) s.heap (XW adx cix u338.1 u338.2.1 u338.2.2.1 u338.2.2.2 ++ YW ady ciy u342.1 u342.2) H locs := hH
        refine lv_icmp_eq (tgt := 350) hx hb dL_law_345 (by decide) (fun c345 => ?_) (fun c345 => ?_)
        · refine lv_iinc (v := nI (i + 3)) (lv' := [(3, .int _), (0, .ref _), (1, .ref _), (2, .ref _)]) hx hb dL_law_350 hl (k := 3) rfl (nI_add _ 3) (by decide) rfl (fun ls hl => ?_)
          refine lv_goto (tgt := 18) hx hb dL_law_353 (by decide) ?_
          exact ih (i + 3) (v) _ _ _ _ _ _ _ _ _ (by omega) (by omega) hr338.2 hr342.2 hH (lv_sub hl [1, 2, 3, 0] rfl)
        · exact absurd (hr338.1.trans hr342.1.symm) c345
      · refine lv_tableOut (tgt := 350) hx hb dL_law_32 (Or.inr (by rw [nI_toInt (by omega)]; omega)) (by decide) ?_
        refine lv_iinc (v := nI (i + 3)) (lv' := [(3, .int _), (0, .ref _), (1, .ref _), (2, .ref _)]) hx hb dL_law_350 hl (k := 3) rfl (nI_add _ 3) (by decide) rfl (fun ls hl => ?_)
        refine lv_goto (tgt := 18) hx hb dL_law_353 (by decide) ?_
        exact ih (i + 3) v _ _ _ _ _ _ _ _ _ (by omega) (by omega) hvx hvy hH (lv_sub hl [1, 2, 3, 0] rfl)
end
section
set_option maxRecDepth 100000
/-- THE LAW, from its entry -/
theorem whole_start {p : Program} {e : Env} {s : State} {m : MethodId} {below : List Frame} {meth : Method} {c : Code} (l : Launch) {b L : Nat} {xs : Nat → Int32} (hL : L ≤ 192) (C0 : lw_At p s m meth c b L xs) : W p l e room_1 s m #[Value.ref b] below meth c s.heap [] 0 0 (lw_Z below #[Value.ref b] s) (entryFrame m ([Value.ref b] : List Value).toArray 4) := by
  obtain ⟨hx, hb, hr, hml, hown, hts0, hX, hbl, hlocks, hgv⟩ := id C0
  have hts : ∀ w ∈ lw_all, w.before #[Value.ref b] s = true := fun w h => hts0 w (lw_all_tbl h)
  have S0 : CallFix p m c code 4 s #[Value.ref b] lw_all R_law := ⟨hx, hb, hml, hown, hts⟩
  have hA : ∀ q : Nat, s.heap.size ≤ q → (fun q : Nat => s.heap.size ≤ q) q := fun _ h => h
  obtain ⟨c0, iS0, hKn0⟩ := u_known (C := RX0) (T := TX0) (N := 4) (n := 4) hts0 (fun w h => lw_all_tbl (in_X0 w h)) (hts _ q20)
  obtain ⟨c1, iS1, hKn1⟩ := u_known (C := RX1) (T := TX1) (N := 2) (n := 2) hts0 (fun w h => lw_all_tbl (in_X1 w h)) (hts _ q142)
  obtain ⟨D, hKc⟩ : ∃ D : va_G, ∀ (k : Nat) (q : vw_C), vwCl[k]? = some q → u_Kn s q.1 q.2.1 q.2.2 (D.1 k) (D.2 k) := by
    refine ⟨(fun k => if k = 0 then c0 else c1, fun k => if k = 0 then iS0 else iS1), ?_⟩
    intro k q hq
    match k, hq with
    | 0, hq => cases hq; exact hKn0
    | 1, hq => cases hq; exact hKn1
    | k + 2, hq => simp [vwCl] at hq
  have hS : va_S (fun q : Nat => s.heap.size ≤ q) s.heap s.heap [] := va_S.rf
  have hK : va_K D vwCl [] s := ⟨hKc, fun k q h => by simp at h⟩
  have hP : va_P D vwCl [] s.heap := fun k q h => by simp at h
  have hD : va_D (fun q : Nat => s.heap.size ≤ q) [] := ⟨fun i j p q h => by simp at h, fun k q h => by simp at h⟩
  have hl := lv_entry ([.ref b]) (n := 4) (Nat.le_of_ble_eq_true rfl)
  rw [lg_entry_eq]
  generalize (lg_sl ([.ref b]) ++ List.replicate (4 - (lg_sl ([.ref b])).length) Slot.unset).toArray = ls at hl ⊢
  have hl : lv_has ls 4 [(0, .ref b)] := hl
  refine va_new (ci := 0) (fs := [.null, .null, .null, .null]) (C := RX0) (T := TX0) (N := 4) hx hb hts in_X0 tyX0 tyX0_ok hown (hts _ q19) (hts _ q20) (hts _ q17) hK hP hD hS hA rfl (fun j hj => by rcases (show j = 0 ∨ j = 1 ∨ j = 2 ∨ j = 3 by omega) with rfl | rfl | rfl | rfl <;> rfl) (Nat.le_of_ble_eq_true rfl) (Nat.le_of_ble_eq_true rfl) dL_law_0 (fun qx H hP hD hS => ?_)
  have hP : va_P D vwCl [(qx, .inr (0, [.null, .null, .null, .null]))] H := hP
  have hD : va_D (fun q : Nat => s.heap.size ≤ q) [(qx, .inr (0, [.null, .null, .null, .null]))] := hD
  refine W.widen (k := 1) (n := 4) (by omega) (by omega) ?_
  refine lv_dup hx hb dL_law_3 rfl ?_
  have hPc := hP.sub (ws' := [(qx, .inr (0, [.null, .null, .null, .null]))]) [0] rfl
  have hDc := hD.sub (ws' := [(qx, .inr (0, [.null, .null, .null, .null]))]) [0] (by decide) rfl
  have hKc := hK.sub (tys' := []) [] rfl
  have hFc := va_free (wc := [(qx, .inr (0, [.null, .null, .null, .null]))]) hD hS hA [0] rfl
  refine va_callv (va_runI (As := []) (rest := [.ref qx]) S0 (mX0_init l D qx H.size) (cwI 0 hts (lw_meth q23) rfl rfl rfl (hts _ q17) (hts _ q21) (hts _ q22) rfl (by decide +kernel) ⟨Nat.le_of_ble_eq_true rfl, Nat.le_of_ble_eq_true rfl⟩) ⟨ZP_blind, fun U hU hW => ⟨rfl, by rw [hU], by rw [hU]; exact hPc, va_K.moved hW.alike hKc, hDc.weaken (fun _ _ _ _ => trivial)⟩⟩ rfl rfl hl.1 rfl (lv_room (Nat.le_of_ble_eq_true rfl)) dL_law_4 ⟨Nat.le_of_ble_eq_true rfl, Nat.le_of_ble_eq_true rfl⟩) hS (fun q _ h => hFc q h) hFc (fun u t H1 locs ht hvm hw hB hz1 hk1 hS => ?_)
  obtain ⟨adx, cix, w, mv, us, tb, had, hvx, hP1, hK1, hD1⟩ := hB
  subst had
  rw [ht] at hP1
  have hKx := va_K.moved hvm.symm hK1
  obtain ⟨hP, hD⟩ := va_join (wr := []) (w1 := XW adx cix w mv us tb) hP hD [0] [] rfl rfl (by decide) (by decide) hk1 hFc hP1 hD1
  generalize H1 = H at hP hS ⊢
  have hP : va_P D vwCl (XW adx cix w mv us tb) H := hP
  have hD : va_D (fun q : Nat => s.heap.size ≤ q) (XW adx cix w mv us tb) := hD
  refine W.widen (k := 5) (n := 140) (by omega) (by omega) ?_
  refine lv_astore_n (lv' := [(1, .ref (adx 0)), (0, .ref b)]) hx hb dL_law_7 rfl hl (by decide) rfl (fun ls hl => ?_)
  refine va_new (ci := 1) (fs := [.null, .null]) (C := RX1) (T := TX1) (N := 2) hx hb hts in_X1 tyX1 tyX1_ok hown (hts _ q141) (hts _ q142) (hts _ q18) hKx hP hD hS hA rfl (fun j hj => by rcases (show j = 0 ∨ j = 1 by omega) with rfl | rfl <;> rfl) (Nat.le_of_ble_eq_true rfl) (Nat.le_of_ble_eq_true rfl) dL_law_8 (fun qy H hP hD hS => ?_)
  have hP : va_P D vwCl (XW adx cix w mv us tb ++ [(qy, .inr (1, [.null, .null]))]) H := hP
  have hD : va_D (fun q : Nat => s.heap.size ≤ q) (XW adx cix w mv us tb ++ [(qy, .inr (1, [.null, .null]))]) := hD
  refine W.widen (k := 6) (n := 142) (by omega) (by omega) ?_
  refine lv_dup hx hb dL_law_11 rfl ?_
  have hPc := hP.sub (ws' := [(qy, .inr (1, [.null, .null]))]) [5] rfl
  have hDc := hD.sub (ws' := [(qy, .inr (1, [.null, .null]))]) [5] (by decide) rfl
  have hKc := hKx.sub (tys' := []) [] rfl
  have hFc := va_free (wc := [(qy, .inr (1, [.null, .null]))]) hD hS hA [5] rfl
  refine va_callv (va_runI (As := []) (rest := [.ref qy]) S0 (mX1_init l D qy H.size) (cwI 0 hts (lw_meth q145) rfl rfl rfl (hts _ q18) (hts _ q143) (hts _ q144) rfl (by decide +kernel) ⟨Nat.le_of_ble_eq_true rfl, Nat.le_of_ble_eq_true rfl⟩) ⟨ZP_blind, fun U hU hW => ⟨rfl, by rw [hU], by rw [hU]; exact hPc, va_K.moved hW.alike hKc, hDc.weaken (fun _ _ _ _ => trivial)⟩⟩ rfl rfl hl.1 rfl (lv_room (Nat.le_of_ble_eq_true rfl)) dL_law_12 ⟨Nat.le_of_ble_eq_true rfl, Nat.le_of_ble_eq_true rfl⟩) hS (fun q _ h => hFc q h) hFc (fun u t H1 locs ht hvm hw hB hz1 hk1 hS => ?_)
  obtain ⟨ady, ciy, wy, ol, had, hvy, hP1, hK1, hD1⟩ := hB
  subst had
  rw [ht] at hP1
  have hKy := va_K.moved hvm.symm hK1
  obtain ⟨hP, hD⟩ := va_join (wr := XW adx cix w mv us tb) (w1 := YW ady ciy wy ol) hP hD [5] [0, 1, 2, 3, 4] rfl rfl (by decide) (by decide) hk1 hFc hP1 hD1
  have hK := hKx.app hKy
  generalize H1 = H at hP hS ⊢
  refine W.widen (k := 8) (n := 190) (by omega) (by omega) ?_
  refine lv_astore_n (lv' := [(2, .ref (ady 0)), (1, .ref (adx 0)), (0, .ref b)]) hx hb dL_law_15 rfl hl (by decide) rfl (fun ls hl => ?_)
  refine lv_iconst (v := nI 0) hx hb dL_law_16 (by decide) ?_
  refine lv_istore_n (lv' := [(3, .int (nI 0)), (2, .ref (ady 0)), (1, .ref (adx 0)), (0, .ref b)]) hx hb dL_law_17 rfl hl (by decide) rfl (fun ls hl => ?_)
  exact law_loop hL C0 hK (L + 1) 0 (fun _ => 1) w mv us wy ol tb _ _ _ (Nat.zero_le L) (by omega) hvx hvy ⟨hP, hD, hS⟩ (lv_sub hl [3, 2, 1, 0] rfl)
set_option maxHeartbeats 4000000 in
theorem lw_walk (l : Launch) (b : Addr) (xs : List Int32) : MetFree l x (headSpec (Jvm.Cond.code x code maxLocals ret :: tables_1) room_1) (lw_P b xs) (fun _ _ _ _ _ => True) lw_Q := by
  refine MetFree.of_bodyS (code := code) (maxLocals := maxLocals) (ret := ret) (by decide) ?_ ?_
  · intro args s m h hn
    obtain ⟨meth, c, h1, h2, h3, h4, h5, h6, -, -⟩ := Cond.code_spec hn (atoms_spec (ws := Jvm.Cond.code x code maxLocals ret :: tables_1) h _ List.mem_cons_self)
    exact ⟨meth, c, h1, h2, h3, h4, h5, h6⟩
  · intro p e s m args below meth c s₁ B hml0 hP _
    obtain ⟨rfl, hx, hbd, hgv⟩ := hP
    obtain ⟨scr, harrAt, hlist, hof, hsmall⟩ := hx
    obtain ⟨hcb, hkn, -, -⟩ := State.arrayAt?_spec harrAt
    have hown : s.vm.findClass R_law = some m.cls := findClass_of_methodNamed B.named
    have hts0 : ∀ c ∈ (Jvm.Cond.code x code maxLocals ret :: tables_1), c.before #[Value.ref b] s = true := atoms_spec (ws := Jvm.Cond.code x code maxLocals ret :: tables_1) B.pre
    have hts : ∀ w ∈ lw_tbl, w.before #[Value.ref b] s = true := k2_hts_sels lw_privs (fun w hw => hts0 w (List.mem_cons_of_mem _ hw)) lw_privs_ok
    have hml : c.maxLocals = 4 := B.maxLocals_eq (hts0 _ List.mem_cons_self)
    have X₀ : Stand p l e room_1 s m #[Value.ref b] below meth c s₁ [] 0 0 := Stand.of_body B
    have hh0 : s₁.heap = s.heap := by rw [B.state]; rfl
    have hsz : scr.slots.size = xs.length := by rw [← Array.length_toList, hlist, List.length_map]
    have hval : ∀ j : Nat, j < xs.length → scr.slots[j]? = some (.int (xs.getD j 0)) := fun j hj => by
      rw [← Array.getElem?_toList, hlist]
      simp [hj]
    have hbl : b < s.heap.size := (Array.getElem?_eq_some_iff.mp hcb).1
    have hX : va_X b xs.length (fun j => xs.getD j 0) s s.heap := ⟨scr, hcb, hof, hkn, hsz, hval⟩
    have K : W p l e room_1 s m #[Value.ref b] below meth c s₁.heap [] 0 0 (lw_Z below #[Value.ref b] s) (entryFrame m ([Value.ref b] : List Value).toArray 4) := by
      rw [hh0]
      exact whole_start l hbd ⟨B.exec, B.bytes, B.returns, hml, hown, hts, hX, hbl, B.notSynchronized, hgv⟩
    obtain ⟨t, a1, o, b1, b2, b3⟩ := K s₁ rfl X₀
    exact ⟨t, o, a1, b1, b2, b3⟩
theorem lw_pre_spec {args : Array Value} {s : State} (h : (Jvm.Cond.and given_1 narrow_1).before args s = true) (hr : rest_1_c.before args s = true) : ∃ (b : Addr) (xs : List Int32), lw_P b xs args s := by
  have hs := flat_of_before _ h
  have hq := flat_of_before _ hr
  have hc : (Cond.count 1).before args s = true := hs _ (by decide +kernel)
  have harr : (Cond.arrayOf (.arg 0) .int).before args s = true := hs _ (by decide +kernel)
  have hle : (Cond.le (.length (.arg 0)) (.int 192)).before args s = true := hs _ (by decide +kernel)
  have hlen : (Cond.isInt (.length (.arg 0))).before args s = true := hq _ (by decide +kernel)
  have hall : (Cond.all (.arg 0) (.isInt (.elem (.arg 0) (.index 0)))).before args s = true := hq _ (by decide +kernel)
  obtain ⟨b, xs, hb, hx⟩ := State.ints_of_pre rfl harr hlen hall
  have hsm : xs.length < 2 ^ 31 := hx.choose_spec.2.2.2
  have hev : (Term.length (.arg 0)).eval args s none [] s = some (.int xs.length.toInt32) := hx.length_eval hb
  have hv := Cond.le_ints hev (show (Term.int 192).eval args s none [] s = some (.int 192) from rfl)
  have hd : xs.length.toInt32 ≤ 192 := by
    simpa [Cond.before, Cond.holds, hv] using hle
  have hN : xs.length ≤ 192 := (Int32.ofNat_le_ofNat hsm (by decide)).mp (show Int32.ofNat xs.length ≤ Int32.ofNat 192 from hd)
  exact ⟨b, xs, Cond.one_arg hc (show args[0]? = some (.ref b) from hb), hx, hN, h⟩
theorem lw_comes (l : Launch) : Comes l x (Jvm.Cond.code x code maxLocals ret :: tables_1) room_1 (fun tb e args s => Calls_1 tb e args s ∧ rest_1 tb e args s ∧ Pre_1 tb e args s)
    (fun _ _ args s o t => lw_Q args s o t) := by
  intro p e ha hc hk s m args below hf hfit hheap happ hpre
  obtain ⟨b, xs, hP⟩ := lw_pre_spec hpre.2.2 hpre.2.1
  obtain ⟨k, o, h1, h2, h3, hQ⟩ := lw_walk l b xs p e ha hc hk s m args below hf ((Spec.applies_iff_loose hf).mp happ).1 hP trivial
  exact ⟨k, o, h1, h2, h3, hQ⟩
theorem lw_frame {s t : State} {o : Outcome} {args : Array Value} (h : Framed s o t [] 600000 7290000) :
    Framed s o t (fieldLocs frame_1_writes args s ++ arrayLocs frame_1_arrays args s ++ staticLocs frame_1_statics s) 600000 7290000 := h
theorem lw_limb (L : Cond) (hL : ∀ (args : Array Value) (s t : State), L.after args s (.returned (some (.int 1))) t = true) :
    ArmFor flags0 classFile x code maxLocals ret World_1 tables_1 room_1 Calls_1 rest_1 Pre_1
      (fun tb e a s o t => postC L tb e a s o t ∧ Framed s o t (fieldLocs frame_1_writes a s ++ arrayLocs frame_1_arrays a s ++ staticLocs frame_1_statics s) 600000 7290000) := by
  intro l _ _ _ p e ha hc hk s m args below hf hfit hheap happ hpre
  obtain ⟨k, o, h1, h2, h3, rfl, hF⟩ := lw_comes l p e ha hc hk s m args below hf hfit hheap happ hpre
  exact ⟨k, _, h1, h2, h3, hL args s _, lw_frame hF⟩
theorem i_vc : Claimed_1_1 ∧ Claimed_1_2 := ⟨lw_limb limb_1_1 (fun args s t => by simp [limb_1_1, Cond.after, Cond.holds, Cond.value]), lw_limb limb_1_2 (fun args s t => Cond.after_iff.mpr (by
  first | (rw [show limb_1_2 = Cond.eq .result (.int 1) from rfl, Cond.eq_ints (x := 1) (y := 1) rfl rfl]; simp; done) | (simp [limb_1_2, Cond.value, Term.eval]; done)))⟩
end
