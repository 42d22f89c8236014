section
-- ===== PART A: goes FIRST, ahead of the names: the tables' words, and 'selects' of the private methods out of them =====
/-- a private method of a class that the tables say can be made, by its rows of tables_1 -/
def lw_okq (q : MethodName × Nat) : Prop := (q.1.cls ≠ "java/lang/invoke/MethodHandle" ∧ q.1.cls ≠ "java/lang/invoke/VarHandle") ∧ Cond.instantiable q.1.cls q.2 ∈ tables_1 ∧ Cond.privateMethod q.1 ∈ tables_1 ∧ Cond.instanceMethod q.1 ∈ tables_1
set_option maxRecDepth 100000
theorem lw_p0 : lw_okq (⟨"LayoutChoice", "hasDocuments", "(I)Z"⟩, 11) := ⟨⟨by decide +kernel, by decide +kernel⟩, List.mem_of_getElem? (i := 4) rfl, List.mem_of_getElem? (i := 51) rfl, List.mem_of_getElem? (i := 52) rfl⟩
theorem lw_p1 : lw_okq (⟨"LayoutChoice", "gather", "(III)V"⟩, 11) := ⟨⟨by decide +kernel, by decide +kernel⟩, List.mem_of_getElem? (i := 4) rfl, List.mem_of_getElem? (i := 55) rfl, List.mem_of_getElem? (i := 56) rfl⟩
theorem lw_p2 : lw_okq (⟨"LayoutChoice", "indent", "(II)V"⟩, 11) := ⟨⟨by decide +kernel, by decide +kernel⟩, List.mem_of_getElem? (i := 4) rfl, List.mem_of_getElem? (i := 59) rfl, List.mem_of_getElem? (i := 60) rfl⟩
theorem lw_p3 : lw_okq (⟨"LayoutChoice", "joinTwo", "(I)V"⟩, 11) := ⟨⟨by decide +kernel, by decide +kernel⟩, List.mem_of_getElem? (i := 4) rfl, List.mem_of_getElem? (i := 63) rfl, List.mem_of_getElem? (i := 64) rfl⟩
theorem lw_p4 : lw_okq (⟨"LayoutChoice", "joinBoxes", "(III)V"⟩, 11) := ⟨⟨by decide +kernel, by decide +kernel⟩, List.mem_of_getElem? (i := 4) rfl, List.mem_of_getElem? (i := 67) rfl, List.mem_of_getElem? (i := 68) rfl⟩
theorem lw_p5 : lw_okq (⟨"LayoutChoice", "keep", "()V"⟩, 11) := ⟨⟨by decide +kernel, by decide +kernel⟩, List.mem_of_getElem? (i := 4) rfl, List.mem_of_getElem? (i := 71) rfl, List.mem_of_getElem? (i := 72) rfl⟩
theorem lw_p6 : lw_okq (⟨"LayoutChoice", "boxes", "(I)I"⟩, 11) := ⟨⟨by decide +kernel, by decide +kernel⟩, List.mem_of_getElem? (i := 4) rfl, List.mem_of_getElem? (i := 83) rfl, List.mem_of_getElem? (i := 84) rfl⟩
theorem lw_p7 : lw_okq (⟨"LayoutChoiceModel", "missing", "(I)Z"⟩, 12) := ⟨⟨by decide +kernel, by decide +kernel⟩, List.mem_of_getElem? (i := 103) rfl, List.mem_of_getElem? (i := 164) rfl, List.mem_of_getElem? (i := 165) rfl⟩
theorem lw_p8 : lw_okq (⟨"LayoutChoiceModel", "makeAll", "(I)I"⟩, 12) := ⟨⟨by decide +kernel, by decide +kernel⟩, List.mem_of_getElem? (i := 103) rfl, List.mem_of_getElem? (i := 168) rfl, List.mem_of_getElem? (i := 169) rfl⟩
theorem lw_p9 : lw_okq (⟨"LayoutChoiceModel", "make", "(I)V"⟩, 12) := ⟨⟨by decide +kernel, by decide +kernel⟩, List.mem_of_getElem? (i := 103) rfl, List.mem_of_getElem? (i := 172) rfl, List.mem_of_getElem? (i := 173) rfl⟩
theorem lw_p10 : lw_okq (⟨"LayoutChoiceModel", "join", "(IZ)V"⟩, 12) := ⟨⟨by decide +kernel, by decide +kernel⟩, List.mem_of_getElem? (i := 103) rfl, List.mem_of_getElem? (i := 176) rfl, List.mem_of_getElem? (i := 177) rfl⟩
theorem lw_p11 : lw_okq (⟨"LayoutChoiceModel", "isBest", "(II)Z"⟩, 12) := ⟨⟨by decide +kernel, by decide +kernel⟩, List.mem_of_getElem? (i := 103) rfl, List.mem_of_getElem? (i := 198) rfl, List.mem_of_getElem? (i := 199) rfl⟩
theorem lw_p12 : lw_okq (⟨"LayoutChoiceModel", "same", "(II)Z"⟩, 12) := ⟨⟨by decide +kernel, by decide +kernel⟩, List.mem_of_getElem? (i := 103) rfl, List.mem_of_getElem? (i := 202) rfl, List.mem_of_getElem? (i := 203) rfl⟩
def lw_privs_1 : List (MethodName × Nat) := [(⟨"LayoutChoice", "hasDocuments", "(I)Z"⟩, 11), (⟨"LayoutChoice", "gather", "(III)V"⟩, 11), (⟨"LayoutChoice", "indent", "(II)V"⟩, 11), (⟨"LayoutChoice", "joinTwo", "(I)V"⟩, 11), (⟨"LayoutChoice", "joinBoxes", "(III)V"⟩, 11), (⟨"LayoutChoice", "keep", "()V"⟩, 11), (⟨"LayoutChoice", "boxes", "(I)I"⟩, 11), (⟨"LayoutChoiceModel", "missing", "(I)Z"⟩, 12), (⟨"LayoutChoiceModel", "makeAll", "(I)I"⟩, 12), (⟨"LayoutChoiceModel", "make", "(I)V"⟩, 12), (⟨"LayoutChoiceModel", "join", "(IZ)V"⟩, 12), (⟨"LayoutChoiceModel", "isBest", "(II)Z"⟩, 12), (⟨"LayoutChoiceModel", "same", "(II)Z"⟩, 12)]
theorem lw_r1 : ∀ q ∈ lw_privs_1, lw_okq q := List.forall_mem_cons.mpr ⟨lw_p0, List.forall_mem_cons.mpr ⟨lw_p1, List.forall_mem_cons.mpr ⟨lw_p2, List.forall_mem_cons.mpr ⟨lw_p3, List.forall_mem_cons.mpr ⟨lw_p4, List.forall_mem_cons.mpr ⟨lw_p5, List.forall_mem_cons.mpr ⟨lw_p6, List.forall_mem_cons.mpr ⟨lw_p7, List.forall_mem_cons.mpr ⟨lw_p8, List.forall_mem_cons.mpr ⟨lw_p9, List.forall_mem_cons.mpr ⟨lw_p10, List.forall_mem_cons.mpr ⟨lw_p11, List.forall_mem_cons.mpr ⟨lw_p12, fun _ h => absurd h List.not_mem_nil⟩⟩⟩⟩⟩⟩⟩⟩⟩⟩⟩⟩⟩
def lw_privs : List (MethodName × Nat) := lw_privs_1
def lw_tbl : List Cond := k2_sels lw_privs ++ tables_1
theorem lw_privs_ok : ∀ q ∈ lw_privs, lw_okq q := lw_r1
-- ===== ONE list of words for every method: the tables' words that hold all through a run =====
def lw_all : List Cond := lw_tbl.filter goodWord
/-- a word of the tables by its place: claim/WORDS.tsv -/
theorem lw_w {w : Cond} (i : Nat) (h : lw_tbl[i]? = some w) (g : goodWord w = true) : w ∈ lw_all := List.mem_filter.mpr ⟨List.mem_of_getElem? h, g⟩
theorem lw_all_tbl {w : Cond} (h : w ∈ lw_all) : w ∈ lw_tbl := (List.mem_filter.mp h).1
theorem lw_self : GoodIn lw_all lw_all := fun w h => ⟨h, good_of_word (List.mem_filter.mp h).2⟩
/-- a class's field words, by their places -/
theorem lw_in (ws : List Cond) (ps : List Nat) (hp : ws = ps.filterMap (fun i => lw_tbl[i]?)) (hg : ws.all goodWord = true) : ∀ w ∈ ws, w ∈ lw_all := by
  intro w h
  have h1 := List.all_eq_true.mp hg w h
  rw [hp] at h
  obtain ⟨i, -, hi⟩ := List.mem_filterMap.mp h
  exact lw_w i hi h1
/-- the words of a contract for the method y with code b, L locals, answer r -/
abbrev ws_ (y : MethodName) (b : ByteArray) (L : Nat) (r : Option FieldType) : List Cond := Cond.code y b L r :: lw_all
theorem lw_meth {y : MethodName} {b : ByteArray} {L : Nat} {r : Option FieldType} (h : Cond.code y b L r ∈ lw_all) : GoodIn lw_all (ws_ y b L r) := by
  intro w hw
  rcases List.mem_cons.mp hw with e | e
  · rw [e]
    exact lw_self _ h
  · exact lw_self _ e
theorem lw_app {a c : List Cond} (ha : ∀ w ∈ a, w ∈ lw_all) (hc : GoodIn lw_all c) : GoodIn lw_all (a ++ c) := by
  intro w hw
  rcases List.mem_append.mp hw with e | e
  · exact lw_self w (ha w e)
  · exact hc w e
/-- what a call through an object asks: cwV n hts (lw_V ..) -/
theorem lw_V {own : String} {idx : Nat} {C : String} {y : MethodName} {b : ByteArray} {L : Nat} {r : Option FieldType} (h1 : Cond.methodLink own idx y ∈ lw_all) (h2 : Cond.instanceMethod y ∈ lw_all) (h3 : Cond.selects C y y ∈ lw_all) (h4 : Cond.initialized C ∈ lw_all) (h5 : Cond.code y b L r ∈ lw_all) : GoodIn lw_all (wsV own idx C y (ws_ y b L r)) := by
  refine lw_app ?_ (lw_meth h5)
  intro w hw
  simp only [List.mem_cons, List.not_mem_nil, or_false] at hw
  rcases hw with e | e | e | e
  · rw [e]; exact h1
  · rw [e]; exact h2
  · rw [e]; exact h3
  · rw [e]; exact h4
/-- what a static call asks: va_cwS n hts (lw_S ..) -/
theorem lw_S {own : String} {idx : Nat} {y : MethodName} {b : ByteArray} {L : Nat} {r : Option FieldType} (h1 : Cond.methodLink own idx y ∈ lw_all) (h2 : Cond.static y ∈ lw_all) (h3 : Cond.initialized y.cls ∈ lw_all) (h4 : Cond.code y b L r ∈ lw_all) : GoodIn lw_all (va_wsS own idx y (ws_ y b L r)) := by
  refine lw_app ?_ (lw_meth h4)
  intro w hw
  simp only [List.mem_cons, List.not_mem_nil, or_false] at hw
  rcases hw with e | e | e
  · rw [e]; exact h1
  · rw [e]; exact h2
  · rw [e]; exact h3
/-- the words of a contract for a method WITH HANDLERS (hh: its table) -/
abbrev wsW_ (y : MethodName) (b : ByteArray) (L : Nat) (r : Option FieldType) (hh : List (Nat × Nat × Nat × Nat)) : List Cond := Cond.codeWith y b L r hh :: lw_all
theorem lw_methW {y : MethodName} {b : ByteArray} {L : Nat} {r : Option FieldType} {hh : List (Nat × Nat × Nat × Nat)} (h : Cond.codeWith y b L r hh ∈ lw_all) : GoodIn lw_all (wsW_ y b L r hh) := by
  intro w hw
  rcases List.mem_cons.mp hw with e | e
  · rw [e]
    exact lw_self _ h
  · exact lw_self _ e
/-- any list of words by their places (lw_in), good -/
theorem lw_good {ws : List Cond} (h : ∀ w ∈ ws, w ∈ lw_all) : GoodIn lw_all ws := fun w hw => lw_self w (h w hw)
/-- what a call of a method with handlers asks: vx_cwVW n hts (lw_VW ..), vx_cwSW n hts (lw_SW ..) -/
theorem lw_VW {own : String} {idx : Nat} {C : String} {y : MethodName} {b : ByteArray} {L : Nat} {r : Option FieldType} {hh : List (Nat × Nat × Nat × Nat)} (h1 : Cond.methodLink own idx y ∈ lw_all) (h2 : Cond.instanceMethod y ∈ lw_all) (h3 : Cond.selects C y y ∈ lw_all) (h4 : Cond.initialized C ∈ lw_all) (h5 : Cond.codeWith y b L r hh ∈ lw_all) : GoodIn lw_all (wsV own idx C y (wsW_ y b L r hh)) := by
  refine lw_app ?_ (lw_methW h5)
  intro w hw
  simp only [List.mem_cons, List.not_mem_nil, or_false] at hw
  rcases hw with e | e | e | e
  · rw [e]; exact h1
  · rw [e]; exact h2
  · rw [e]; exact h3
  · rw [e]; exact h4
theorem lw_SW {own : String} {idx : Nat} {y : MethodName} {b : ByteArray} {L : Nat} {r : Option FieldType} {hh : List (Nat × Nat × Nat × Nat)} (h1 : Cond.methodLink own idx y ∈ lw_all) (h2 : Cond.static y ∈ lw_all) (h3 : Cond.initialized y.cls ∈ lw_all) (h4 : Cond.codeWith y b L r hh ∈ lw_all) : GoodIn lw_all (va_wsS own idx y (wsW_ y b L r hh)) := by
  refine lw_app ?_ (lw_methW h4)
  intro w hw
  simp only [List.mem_cons, List.not_mem_nil, or_false] at hw
  rcases hw with e | e | e
  · rw [e]; exact h1
  · rw [e]; exact h2
  · rw [e]; exact h3
/-- a word by its place in its run of the tables -/
theorem lw_at {r : List Cond} (hr : ∀ w ∈ r, w ∈ lw_tbl) {w : Cond} (i : Nat) (h : r[i]? = some w) : w ∈ lw_tbl := hr w (List.mem_of_getElem? h)
theorem lw_g {w : Cond} (h : w ∈ lw_tbl) (g : goodWord w = true) : w ∈ lw_all := List.mem_filter.mpr ⟨h, g⟩
theorem lw_ms : ∀ w ∈ k2_sels lw_privs, w ∈ lw_tbl := fun w h => show w ∈ k2_sels lw_privs ++ tables_1 from List.mem_append_left _ h
theorem lw_m0 : ∀ w ∈ tables_1, w ∈ lw_tbl := fun w h => show w ∈ k2_sels lw_privs ++ tables_1 from List.mem_append_right (k2_sels lw_privs) h
theorem qs0 : (Cond.selects "LayoutChoice" ⟨"LayoutChoice", "hasDocuments", "(I)Z"⟩ ⟨"LayoutChoice", "hasDocuments", "(I)Z"⟩) ∈ lw_all := lw_g (lw_at lw_ms 0 rfl) rfl
theorem qs1 : (Cond.selects "LayoutChoice" ⟨"LayoutChoice", "gather", "(III)V"⟩ ⟨"LayoutChoice", "gather", "(III)V"⟩) ∈ lw_all := lw_g (lw_at lw_ms 1 rfl) rfl
theorem qs2 : (Cond.selects "LayoutChoice" ⟨"LayoutChoice", "indent", "(II)V"⟩ ⟨"LayoutChoice", "indent", "(II)V"⟩) ∈ lw_all := lw_g (lw_at lw_ms 2 rfl) rfl
theorem qs3 : (Cond.selects "LayoutChoice" ⟨"LayoutChoice", "joinTwo", "(I)V"⟩ ⟨"LayoutChoice", "joinTwo", "(I)V"⟩) ∈ lw_all := lw_g (lw_at lw_ms 3 rfl) rfl
theorem qs4 : (Cond.selects "LayoutChoice" ⟨"LayoutChoice", "joinBoxes", "(III)V"⟩ ⟨"LayoutChoice", "joinBoxes", "(III)V"⟩) ∈ lw_all := lw_g (lw_at lw_ms 4 rfl) rfl
theorem qs5 : (Cond.selects "LayoutChoice" ⟨"LayoutChoice", "keep", "()V"⟩ ⟨"LayoutChoice", "keep", "()V"⟩) ∈ lw_all := lw_g (lw_at lw_ms 5 rfl) rfl
theorem qs6 : (Cond.selects "LayoutChoice" ⟨"LayoutChoice", "boxes", "(I)I"⟩ ⟨"LayoutChoice", "boxes", "(I)I"⟩) ∈ lw_all := lw_g (lw_at lw_ms 6 rfl) rfl
theorem qs7 : (Cond.selects "LayoutChoiceModel" ⟨"LayoutChoiceModel", "missing", "(I)Z"⟩ ⟨"LayoutChoiceModel", "missing", "(I)Z"⟩) ∈ lw_all := lw_g (lw_at lw_ms 7 rfl) rfl
theorem qs8 : (Cond.selects "LayoutChoiceModel" ⟨"LayoutChoiceModel", "makeAll", "(I)I"⟩ ⟨"LayoutChoiceModel", "makeAll", "(I)I"⟩) ∈ lw_all := lw_g (lw_at lw_ms 8 rfl) rfl
theorem qs9 : (Cond.selects "LayoutChoiceModel" ⟨"LayoutChoiceModel", "make", "(I)V"⟩ ⟨"LayoutChoiceModel", "make", "(I)V"⟩) ∈ lw_all := lw_g (lw_at lw_ms 9 rfl) rfl
theorem qs10 : (Cond.selects "LayoutChoiceModel" ⟨"LayoutChoiceModel", "join", "(IZ)V"⟩ ⟨"LayoutChoiceModel", "join", "(IZ)V"⟩) ∈ lw_all := lw_g (lw_at lw_ms 10 rfl) rfl
theorem qs11 : (Cond.selects "LayoutChoiceModel" ⟨"LayoutChoiceModel", "isBest", "(II)Z"⟩ ⟨"LayoutChoiceModel", "isBest", "(II)Z"⟩) ∈ lw_all := lw_g (lw_at lw_ms 11 rfl) rfl
theorem qs12 : (Cond.selects "LayoutChoiceModel" ⟨"LayoutChoiceModel", "same", "(II)Z"⟩ ⟨"LayoutChoiceModel", "same", "(II)Z"⟩) ∈ lw_all := lw_g (lw_at lw_ms 12 rfl) rfl
end
section
set_option maxRecDepth 100000
/-! LayoutChoice -/
def RX0 : String := "LayoutChoice"
def TX0 : u_T := fun k => match k with
  | 0 => ("LayoutChoice", "tokens", "I", false)
  | 1 => ("LayoutChoice", "choices", "I", false)
  | 2 => ("LayoutChoice", "depth", "I", false)
  | 3 => ("LayoutChoice", "count", "[I", true)
  | 4 => ("LayoutChoice", "ends", "[I", true)
  | 5 => ("LayoutChoice", "widths", "[I", true)
  | 6 => ("LayoutChoice", "lasts", "[I", true)
  | 7 => ("LayoutChoice", "gathered", "I", false)
  | 8 => ("LayoutChoice", "newEnds", "[I", true)
  | 9 => ("LayoutChoice", "newWidths", "[I", true)
  | _ => ("LayoutChoice", "newLasts", "[I", true)
def tyX0 : Nat → FieldType := fun k => match k with
  | 0 => .int
  | 1 => .int
  | 2 => .int
  | 3 => .array .int
  | 4 => .array .int
  | 5 => .array .int
  | 6 => .array .int
  | 7 => .int
  | 8 => .array .int
  | 9 => .array .int
  | _ => .array .int
abbrev wsX00 : List Cond := u_ws RX0 TX0 11
theorem nmX0 : ∀ a, a < 11 → ∀ b, b < 11 → a ≠ b → (TX0 a).2.1 ≠ (TX0 b).2.1 := by decide +kernel
theorem tyX0_ok : ∀ k, k < 11 → parseFieldDescriptor (TX0 k).2.2.1 = some (tyX0 k) := by decide +kernel
abbrev cX0_init : ByteArray := prog_1_method_1_code
def yX0_init : MethodName := ⟨RX0, "<init>", "()V"⟩
abbrev cX0_token : ByteArray := prog_1_method_2_code
def yX0_token : MethodName := ⟨RX0, "token", "(II)I"⟩
abbrev cX0_hasDocuments : ByteArray := prog_1_method_10_code
def yX0_hasDocuments : MethodName := ⟨RX0, "hasDocuments", "(I)Z"⟩
abbrev cX0_gather : ByteArray := prog_1_method_14_code
def yX0_gather : MethodName := ⟨RX0, "gather", "(III)V"⟩
abbrev cX0_indent : ByteArray := prog_1_method_11_code
def yX0_indent : MethodName := ⟨RX0, "indent", "(II)V"⟩
abbrev cX0_joinTwo : ByteArray := prog_1_method_12_code
def yX0_joinTwo : MethodName := ⟨RX0, "joinTwo", "(I)V"⟩
abbrev cX0_joinBoxes : ByteArray := prog_1_method_13_code
def yX0_joinBoxes : MethodName := ⟨RX0, "joinBoxes", "(III)V"⟩
abbrev cX0_keep : ByteArray := prog_1_method_15_code
def yX0_keep : MethodName := ⟨RX0, "keep", "()V"⟩
abbrev cX0_clear : ByteArray := prog_1_method_3_code
def yX0_clear : MethodName := ⟨RX0, "clear", "()V"⟩
abbrev cX0_lines : ByteArray := prog_1_method_4_code
def yX0_lines : MethodName := ⟨RX0, "lines", "(II)I"⟩
abbrev cX0_boxes : ByteArray := prog_1_method_9_code
def yX0_boxes : MethodName := ⟨RX0, "boxes", "(I)I"⟩
abbrev cX0_width : ByteArray := prog_1_method_5_code
def yX0_width : MethodName := ⟨RX0, "width", "(II)I"⟩
abbrev cX0_cost : ByteArray := prog_1_method_6_code
def yX0_cost : MethodName := ⟨RX0, "cost", "(III)I"⟩
abbrev cX0_best : ByteArray := prog_1_method_7_code
def yX0_best : MethodName := ⟨RX0, "best", "(I)I"⟩
abbrev cX0_last : ByteArray := prog_1_method_8_code
def yX0_last : MethodName := ⟨RX0, "last", "(III)I"⟩
theorem q14 : (Jvm.Cond.initialized "LayoutChoice") ∈ lw_all := lw_g (lw_at lw_m0 1 rfl) rfl
theorem q17 : (Jvm.Cond.instantiable "LayoutChoice" (11 : Nat)) ∈ lw_all := lw_g (lw_at lw_m0 4 rfl) rfl
theorem q19 : (Jvm.Cond.instanceMethod ({ cls := "LayoutChoice", name := "<init>", desc := "()V" } : Jvm.MethodName)) ∈ lw_all := lw_g (lw_at lw_m0 6 rfl) rfl
theorem q20 : (Jvm.Cond.code ({ cls := "LayoutChoice", name := "<init>", desc := "()V" } : Jvm.MethodName) prog_1_method_1_code (1 : Nat) (Option.none : Option Jvm.ClassFile.FieldType)) ∈ lw_all := lw_g (lw_at lw_m0 7 rfl) rfl
theorem q21 : (Jvm.Cond.methodLink "LayoutChoice" (1 : Nat) ({ cls := "java/lang/Object", name := "<init>", desc := "()V" } : Jvm.MethodName)) ∈ lw_all := lw_g (lw_at lw_m0 8 rfl) rfl
theorem q24 : (Jvm.Cond.fieldLink "LayoutChoice" (31 : Nat) "LayoutChoice" "tokens" "I") ∈ lw_all := lw_g (lw_at lw_m0 11 rfl) rfl
theorem q25 : (Jvm.Cond.fieldLink "LayoutChoice" (39 : Nat) "LayoutChoice" "choices" "I") ∈ lw_all := lw_g (lw_at lw_m0 12 rfl) rfl
theorem q26 : (Jvm.Cond.fieldLink "LayoutChoice" (49 : Nat) "LayoutChoice" "depth" "I") ∈ lw_all := lw_g (lw_at lw_m0 13 rfl) rfl
theorem q27 : (Jvm.Cond.fieldLink "LayoutChoice" (7 : Nat) "LayoutChoice" "count" "[I") ∈ lw_all := lw_g (lw_at lw_m0 14 rfl) rfl
theorem q28 : (Jvm.Cond.fieldLink "LayoutChoice" (13 : Nat) "LayoutChoice" "ends" "[I") ∈ lw_all := lw_g (lw_at lw_m0 15 rfl) rfl
theorem q29 : (Jvm.Cond.fieldLink "LayoutChoice" (16 : Nat) "LayoutChoice" "widths" "[I") ∈ lw_all := lw_g (lw_at lw_m0 16 rfl) rfl
theorem q30 : (Jvm.Cond.fieldLink "LayoutChoice" (19 : Nat) "LayoutChoice" "lasts" "[I") ∈ lw_all := lw_g (lw_at lw_m0 17 rfl) rfl
theorem q31 : (Jvm.Cond.fieldLink "LayoutChoice" (42 : Nat) "LayoutChoice" "gathered" "I") ∈ lw_all := lw_g (lw_at lw_m0 18 rfl) rfl
theorem q32 : (Jvm.Cond.fieldLink "LayoutChoice" (22 : Nat) "LayoutChoice" "newEnds" "[I") ∈ lw_all := lw_g (lw_at lw_m0 19 rfl) rfl
theorem q33 : (Jvm.Cond.fieldLink "LayoutChoice" (25 : Nat) "LayoutChoice" "newWidths" "[I") ∈ lw_all := lw_g (lw_at lw_m0 20 rfl) rfl
theorem q34 : (Jvm.Cond.fieldLink "LayoutChoice" (28 : Nat) "LayoutChoice" "newLasts" "[I") ∈ lw_all := lw_g (lw_at lw_m0 21 rfl) rfl
theorem q35 : (Jvm.Cond.lays "LayoutChoice" "LayoutChoice" "tokens" "I") ∈ lw_all := lw_g (lw_at lw_m0 22 rfl) rfl
theorem q36 : (Jvm.Cond.soleField "LayoutChoice" "tokens") ∈ lw_all := lw_g (lw_at lw_m0 23 rfl) rfl
theorem q37 : (Jvm.Cond.lays "LayoutChoice" "LayoutChoice" "choices" "I") ∈ lw_all := lw_g (lw_at lw_m0 24 rfl) rfl
theorem q38 : (Jvm.Cond.soleField "LayoutChoice" "choices") ∈ lw_all := lw_g (lw_at lw_m0 25 rfl) rfl
theorem q39 : (Jvm.Cond.lays "LayoutChoice" "LayoutChoice" "depth" "I") ∈ lw_all := lw_g (lw_at lw_m0 26 rfl) rfl
theorem q40 : (Jvm.Cond.soleField "LayoutChoice" "depth") ∈ lw_all := lw_g (lw_at lw_m0 27 rfl) rfl
theorem q41 : (Jvm.Cond.laysFinal "LayoutChoice" "LayoutChoice" "count" "[I") ∈ lw_all := lw_g (lw_at lw_m0 28 rfl) rfl
theorem q42 : (Jvm.Cond.soleField "LayoutChoice" "count") ∈ lw_all := lw_g (lw_at lw_m0 29 rfl) rfl
theorem q43 : (Jvm.Cond.laysFinal "LayoutChoice" "LayoutChoice" "ends" "[I") ∈ lw_all := lw_g (lw_at lw_m0 30 rfl) rfl
theorem q44 : (Jvm.Cond.soleField "LayoutChoice" "ends") ∈ lw_all := lw_g (lw_at lw_m0 31 rfl) rfl
theorem q45 : (Jvm.Cond.laysFinal "LayoutChoice" "LayoutChoice" "widths" "[I") ∈ lw_all := lw_g (lw_at lw_m0 32 rfl) rfl
theorem q46 : (Jvm.Cond.soleField "LayoutChoice" "widths") ∈ lw_all := lw_g (lw_at lw_m0 33 rfl) rfl
theorem q47 : (Jvm.Cond.laysFinal "LayoutChoice" "LayoutChoice" "lasts" "[I") ∈ lw_all := lw_g (lw_at lw_m0 34 rfl) rfl
theorem q48 : (Jvm.Cond.soleField "LayoutChoice" "lasts") ∈ lw_all := lw_g (lw_at lw_m0 35 rfl) rfl
theorem q49 : (Jvm.Cond.lays "LayoutChoice" "LayoutChoice" "gathered" "I") ∈ lw_all := lw_g (lw_at lw_m0 36 rfl) rfl
theorem q50 : (Jvm.Cond.soleField "LayoutChoice" "gathered") ∈ lw_all := lw_g (lw_at lw_m0 37 rfl) rfl
theorem q51 : (Jvm.Cond.laysFinal "LayoutChoice" "LayoutChoice" "newEnds" "[I") ∈ lw_all := lw_g (lw_at lw_m0 38 rfl) rfl
theorem q52 : (Jvm.Cond.soleField "LayoutChoice" "newEnds") ∈ lw_all := lw_g (lw_at lw_m0 39 rfl) rfl
theorem q53 : (Jvm.Cond.laysFinal "LayoutChoice" "LayoutChoice" "newWidths" "[I") ∈ lw_all := lw_g (lw_at lw_m0 40 rfl) rfl
theorem q54 : (Jvm.Cond.soleField "LayoutChoice" "newWidths") ∈ lw_all := lw_g (lw_at lw_m0 41 rfl) rfl
theorem q55 : (Jvm.Cond.laysFinal "LayoutChoice" "LayoutChoice" "newLasts" "[I") ∈ lw_all := lw_g (lw_at lw_m0 42 rfl) rfl
theorem q56 : (Jvm.Cond.soleField "LayoutChoice" "newLasts") ∈ lw_all := lw_g (lw_at lw_m0 43 rfl) rfl
theorem q57 : (Jvm.Cond.superclass "LayoutChoice" "java/lang/Object") ∈ lw_all := lw_g (lw_at lw_m0 44 rfl) rfl
theorem q60 : (Jvm.Cond.instanceMethod ({ cls := "LayoutChoice", name := "token", desc := "(II)I" } : Jvm.MethodName)) ∈ lw_all := lw_g (lw_at lw_m0 47 rfl) rfl
theorem q61 : (Jvm.Cond.selects "LayoutChoice" ({ cls := "LayoutChoice", name := "token", desc := "(II)I" } : Jvm.MethodName) ({ cls := "LayoutChoice", name := "token", desc := "(II)I" } : Jvm.MethodName)) ∈ lw_all := lw_g (lw_at lw_m0 48 rfl) rfl
theorem q62 : (Jvm.Cond.code ({ cls := "LayoutChoice", name := "token", desc := "(II)I" } : Jvm.MethodName) prog_1_method_2_code (3 : Nat) (Option.some Jvm.ClassFile.FieldType.int)) ∈ lw_all := lw_g (lw_at lw_m0 49 rfl) rfl
theorem q63 : (Jvm.Cond.methodLink "LayoutChoice" (35 : Nat) ({ cls := "LayoutChoice", name := "hasDocuments", desc := "(I)Z" } : Jvm.MethodName)) ∈ lw_all := lw_g (lw_at lw_m0 50 rfl) rfl
theorem q64 : (Jvm.Cond.privateMethod ({ cls := "LayoutChoice", name := "hasDocuments", desc := "(I)Z" } : Jvm.MethodName)) ∈ lw_tbl := lw_at lw_m0 51 rfl
theorem q65 : (Jvm.Cond.instanceMethod ({ cls := "LayoutChoice", name := "hasDocuments", desc := "(I)Z" } : Jvm.MethodName)) ∈ lw_all := lw_g (lw_at lw_m0 52 rfl) rfl
theorem q66 : (Jvm.Cond.code ({ cls := "LayoutChoice", name := "hasDocuments", desc := "(I)Z" } : Jvm.MethodName) prog_1_method_10_code (2 : Nat) (Option.some Jvm.ClassFile.FieldType.boolean)) ∈ lw_all := lw_g (lw_at lw_m0 53 rfl) rfl
theorem q67 : (Jvm.Cond.methodLink "LayoutChoice" (45 : Nat) ({ cls := "LayoutChoice", name := "gather", desc := "(III)V" } : Jvm.MethodName)) ∈ lw_all := lw_g (lw_at lw_m0 54 rfl) rfl
theorem q68 : (Jvm.Cond.privateMethod ({ cls := "LayoutChoice", name := "gather", desc := "(III)V" } : Jvm.MethodName)) ∈ lw_tbl := lw_at lw_m0 55 rfl
theorem q69 : (Jvm.Cond.instanceMethod ({ cls := "LayoutChoice", name := "gather", desc := "(III)V" } : Jvm.MethodName)) ∈ lw_all := lw_g (lw_at lw_m0 56 rfl) rfl
theorem q70 : (Jvm.Cond.code ({ cls := "LayoutChoice", name := "gather", desc := "(III)V" } : Jvm.MethodName) prog_1_method_14_code (7 : Nat) (Option.none : Option Jvm.ClassFile.FieldType)) ∈ lw_all := lw_g (lw_at lw_m0 57 rfl) rfl
theorem q71 : (Jvm.Cond.methodLink "LayoutChoice" (52 : Nat) ({ cls := "LayoutChoice", name := "indent", desc := "(II)V" } : Jvm.MethodName)) ∈ lw_all := lw_g (lw_at lw_m0 58 rfl) rfl
theorem q72 : (Jvm.Cond.privateMethod ({ cls := "LayoutChoice", name := "indent", desc := "(II)V" } : Jvm.MethodName)) ∈ lw_tbl := lw_at lw_m0 59 rfl
theorem q73 : (Jvm.Cond.instanceMethod ({ cls := "LayoutChoice", name := "indent", desc := "(II)V" } : Jvm.MethodName)) ∈ lw_all := lw_g (lw_at lw_m0 60 rfl) rfl
theorem q74 : (Jvm.Cond.code ({ cls := "LayoutChoice", name := "indent", desc := "(II)V" } : Jvm.MethodName) prog_1_method_11_code (4 : Nat) (Option.none : Option Jvm.ClassFile.FieldType)) ∈ lw_all := lw_g (lw_at lw_m0 61 rfl) rfl
theorem q75 : (Jvm.Cond.methodLink "LayoutChoice" (56 : Nat) ({ cls := "LayoutChoice", name := "joinTwo", desc := "(I)V" } : Jvm.MethodName)) ∈ lw_all := lw_g (lw_at lw_m0 62 rfl) rfl
theorem q76 : (Jvm.Cond.privateMethod ({ cls := "LayoutChoice", name := "joinTwo", desc := "(I)V" } : Jvm.MethodName)) ∈ lw_tbl := lw_at lw_m0 63 rfl
theorem q77 : (Jvm.Cond.instanceMethod ({ cls := "LayoutChoice", name := "joinTwo", desc := "(I)V" } : Jvm.MethodName)) ∈ lw_all := lw_g (lw_at lw_m0 64 rfl) rfl
theorem q78 : (Jvm.Cond.code ({ cls := "LayoutChoice", name := "joinTwo", desc := "(I)V" } : Jvm.MethodName) prog_1_method_12_code (4 : Nat) (Option.none : Option Jvm.ClassFile.FieldType)) ∈ lw_all := lw_g (lw_at lw_m0 65 rfl) rfl
theorem q79 : (Jvm.Cond.methodLink "LayoutChoice" (67 : Nat) ({ cls := "LayoutChoice", name := "joinBoxes", desc := "(III)V" } : Jvm.MethodName)) ∈ lw_all := lw_g (lw_at lw_m0 66 rfl) rfl
theorem q80 : (Jvm.Cond.privateMethod ({ cls := "LayoutChoice", name := "joinBoxes", desc := "(III)V" } : Jvm.MethodName)) ∈ lw_tbl := lw_at lw_m0 67 rfl
theorem q81 : (Jvm.Cond.instanceMethod ({ cls := "LayoutChoice", name := "joinBoxes", desc := "(III)V" } : Jvm.MethodName)) ∈ lw_all := lw_g (lw_at lw_m0 68 rfl) rfl
theorem q82 : (Jvm.Cond.code ({ cls := "LayoutChoice", name := "joinBoxes", desc := "(III)V" } : Jvm.MethodName) prog_1_method_13_code (5 : Nat) (Option.none : Option Jvm.ClassFile.FieldType)) ∈ lw_all := lw_g (lw_at lw_m0 69 rfl) rfl
theorem q83 : (Jvm.Cond.methodLink "LayoutChoice" (60 : Nat) ({ cls := "LayoutChoice", name := "keep", desc := "()V" } : Jvm.MethodName)) ∈ lw_all := lw_g (lw_at lw_m0 70 rfl) rfl
theorem q84 : (Jvm.Cond.privateMethod ({ cls := "LayoutChoice", name := "keep", desc := "()V" } : Jvm.MethodName)) ∈ lw_tbl := lw_at lw_m0 71 rfl
theorem q85 : (Jvm.Cond.instanceMethod ({ cls := "LayoutChoice", name := "keep", desc := "()V" } : Jvm.MethodName)) ∈ lw_all := lw_g (lw_at lw_m0 72 rfl) rfl
theorem q86 : (Jvm.Cond.code ({ cls := "LayoutChoice", name := "keep", desc := "()V" } : Jvm.MethodName) prog_1_method_15_code (2 : Nat) (Option.none : Option Jvm.ClassFile.FieldType)) ∈ lw_all := lw_g (lw_at lw_m0 73 rfl) rfl
theorem q88 : (Jvm.Cond.instanceMethod ({ cls := "LayoutChoice", name := "clear", desc := "()V" } : Jvm.MethodName)) ∈ lw_all := lw_g (lw_at lw_m0 75 rfl) rfl
theorem q89 : (Jvm.Cond.selects "LayoutChoice" ({ cls := "LayoutChoice", name := "clear", desc := "()V" } : Jvm.MethodName) ({ cls := "LayoutChoice", name := "clear", desc := "()V" } : Jvm.MethodName)) ∈ lw_all := lw_g (lw_at lw_m0 76 rfl) rfl
theorem q90 : (Jvm.Cond.code ({ cls := "LayoutChoice", name := "clear", desc := "()V" } : Jvm.MethodName) prog_1_method_3_code (1 : Nat) (Option.none : Option Jvm.ClassFile.FieldType)) ∈ lw_all := lw_g (lw_at lw_m0 77 rfl) rfl
theorem q92 : (Jvm.Cond.instanceMethod ({ cls := "LayoutChoice", name := "lines", desc := "(II)I" } : Jvm.MethodName)) ∈ lw_all := lw_g (lw_at lw_m0 79 rfl) rfl
theorem q93 : (Jvm.Cond.selects "LayoutChoice" ({ cls := "LayoutChoice", name := "lines", desc := "(II)I" } : Jvm.MethodName) ({ cls := "LayoutChoice", name := "lines", desc := "(II)I" } : Jvm.MethodName)) ∈ lw_all := lw_g (lw_at lw_m0 80 rfl) rfl
theorem q94 : (Jvm.Cond.code ({ cls := "LayoutChoice", name := "lines", desc := "(II)I" } : Jvm.MethodName) prog_1_method_4_code (6 : Nat) (Option.some Jvm.ClassFile.FieldType.int)) ∈ lw_all := lw_g (lw_at lw_m0 81 rfl) rfl
theorem q95 : (Jvm.Cond.methodLink "LayoutChoice" (63 : Nat) ({ cls := "LayoutChoice", name := "boxes", desc := "(I)I" } : Jvm.MethodName)) ∈ lw_all := lw_g (lw_at lw_m0 82 rfl) rfl
theorem q96 : (Jvm.Cond.privateMethod ({ cls := "LayoutChoice", name := "boxes", desc := "(I)I" } : Jvm.MethodName)) ∈ lw_tbl := lw_at lw_m0 83 rfl
theorem q97 : (Jvm.Cond.instanceMethod ({ cls := "LayoutChoice", name := "boxes", desc := "(I)I" } : Jvm.MethodName)) ∈ lw_all := lw_g (lw_at lw_m0 84 rfl) rfl
theorem q98 : (Jvm.Cond.code ({ cls := "LayoutChoice", name := "boxes", desc := "(I)I" } : Jvm.MethodName) prog_1_method_9_code (2 : Nat) (Option.some Jvm.ClassFile.FieldType.int)) ∈ lw_all := lw_g (lw_at lw_m0 85 rfl) rfl
theorem q100 : (Jvm.Cond.instanceMethod ({ cls := "LayoutChoice", name := "width", desc := "(II)I" } : Jvm.MethodName)) ∈ lw_all := lw_g (lw_at lw_m0 87 rfl) rfl
theorem q101 : (Jvm.Cond.selects "LayoutChoice" ({ cls := "LayoutChoice", name := "width", desc := "(II)I" } : Jvm.MethodName) ({ cls := "LayoutChoice", name := "width", desc := "(II)I" } : Jvm.MethodName)) ∈ lw_all := lw_g (lw_at lw_m0 88 rfl) rfl
theorem q102 : (Jvm.Cond.code ({ cls := "LayoutChoice", name := "width", desc := "(II)I" } : Jvm.MethodName) prog_1_method_5_code (6 : Nat) (Option.some Jvm.ClassFile.FieldType.int)) ∈ lw_all := lw_g (lw_at lw_m0 89 rfl) rfl
theorem q104 : (Jvm.Cond.instanceMethod ({ cls := "LayoutChoice", name := "cost", desc := "(III)I" } : Jvm.MethodName)) ∈ lw_all := lw_g (lw_at lw_m0 91 rfl) rfl
theorem q105 : (Jvm.Cond.selects "LayoutChoice" ({ cls := "LayoutChoice", name := "cost", desc := "(III)I" } : Jvm.MethodName) ({ cls := "LayoutChoice", name := "cost", desc := "(III)I" } : Jvm.MethodName)) ∈ lw_all := lw_g (lw_at lw_m0 92 rfl) rfl
theorem q106 : (Jvm.Cond.code ({ cls := "LayoutChoice", name := "cost", desc := "(III)I" } : Jvm.MethodName) prog_1_method_6_code (11 : Nat) (Option.some Jvm.ClassFile.FieldType.int)) ∈ lw_all := lw_g (lw_at lw_m0 93 rfl) rfl
theorem q108 : (Jvm.Cond.instanceMethod ({ cls := "LayoutChoice", name := "best", desc := "(I)I" } : Jvm.MethodName)) ∈ lw_all := lw_g (lw_at lw_m0 95 rfl) rfl
theorem q109 : (Jvm.Cond.selects "LayoutChoice" ({ cls := "LayoutChoice", name := "best", desc := "(I)I" } : Jvm.MethodName) ({ cls := "LayoutChoice", name := "best", desc := "(I)I" } : Jvm.MethodName)) ∈ lw_all := lw_g (lw_at lw_m0 96 rfl) rfl
theorem q110 : (Jvm.Cond.code ({ cls := "LayoutChoice", name := "best", desc := "(I)I" } : Jvm.MethodName) prog_1_method_7_code (2 : Nat) (Option.some Jvm.ClassFile.FieldType.int)) ∈ lw_all := lw_g (lw_at lw_m0 97 rfl) rfl
theorem q112 : (Jvm.Cond.instanceMethod ({ cls := "LayoutChoice", name := "last", desc := "(III)I" } : Jvm.MethodName)) ∈ lw_all := lw_g (lw_at lw_m0 99 rfl) rfl
theorem q113 : (Jvm.Cond.selects "LayoutChoice" ({ cls := "LayoutChoice", name := "last", desc := "(III)I" } : Jvm.MethodName) ({ cls := "LayoutChoice", name := "last", desc := "(III)I" } : Jvm.MethodName)) ∈ lw_all := lw_g (lw_at lw_m0 100 rfl) rfl
theorem q114 : (Jvm.Cond.code ({ cls := "LayoutChoice", name := "last", desc := "(III)I" } : Jvm.MethodName) prog_1_method_8_code (8 : Nat) (Option.some Jvm.ClassFile.FieldType.int)) ∈ lw_all := lw_g (lw_at lw_m0 101 rfl) rfl
theorem in_X0 : ∀ w ∈ wsX00, w ∈ lw_all := lw_in wsX00 [35, 37, 39, 41, 43, 45, 47, 49, 51, 53, 55] (by decide +kernel) (by decide +kernel)
/-! java/lang/Object -/
def RJ0 : String := "java/lang/Object"
abbrev cJ0_init : ByteArray := object_method_1_code
def yJ0_init : MethodName := ⟨RJ0, "<init>", "()V"⟩
theorem q22 : (Jvm.Cond.instanceMethod ({ cls := "java/lang/Object", name := "<init>", desc := "()V" } : Jvm.MethodName)) ∈ lw_all := lw_g (lw_at lw_m0 9 rfl) rfl
theorem q23 : (Jvm.Cond.code ({ cls := "java/lang/Object", name := "<init>", desc := "()V" } : Jvm.MethodName) object_method_1_code (1 : Nat) (Option.none : Option Jvm.ClassFile.FieldType)) ∈ lw_all := lw_g (lw_at lw_m0 10 rfl) rfl
/-! LayoutChoiceModel -/
def RX1 : String := "LayoutChoiceModel"
def TX1 : u_T := fun k => match k with
  | 0 => ("LayoutChoiceModel", "tokens", "I", false)
  | 1 => ("LayoutChoiceModel", "codes", "[I", true)
  | 2 => ("LayoutChoiceModel", "args", "[I", true)
  | 3 => ("LayoutChoiceModel", "height", "I", false)
  | 4 => ("LayoutChoiceModel", "eithers", "I", false)
  | 5 => ("LayoutChoiceModel", "depth", "I", false)
  | 6 => ("LayoutChoiceModel", "ends", "[I", true)
  | 7 => ("LayoutChoiceModel", "widths", "[I", true)
  | 8 => ("LayoutChoiceModel", "lasts", "[I", true)
  | 9 => ("LayoutChoiceModel", "boxEnds", "[I", true)
  | 10 => ("LayoutChoiceModel", "boxWidths", "[I", true)
  | _ => ("LayoutChoiceModel", "boxLasts", "[I", true)
def tyX1 : Nat → FieldType := fun k => match k with
  | 0 => .int
  | 1 => .array .int
  | 2 => .array .int
  | 3 => .int
  | 4 => .int
  | 5 => .int
  | 6 => .array .int
  | 7 => .array .int
  | 8 => .array .int
  | 9 => .array .int
  | 10 => .array .int
  | _ => .array .int
abbrev wsX10 : List Cond := u_ws RX1 TX1 12
theorem nmX1 : ∀ a, a < 12 → ∀ b, b < 12 → a ≠ b → (TX1 a).2.1 ≠ (TX1 b).2.1 := by decide +kernel
theorem tyX1_ok : ∀ k, k < 12 → parseFieldDescriptor (TX1 k).2.2.1 = some (tyX1 k) := by decide +kernel
abbrev cX1_init : ByteArray := prog_3_method_1_code
def yX1_init : MethodName := ⟨RX1, "<init>", "()V"⟩
abbrev cX1_token : ByteArray := prog_3_method_4_code
def yX1_token : MethodName := ⟨RX1, "token", "(II)I"⟩
abbrev cX1_badArg : ByteArray := prog_3_method_3_code
def yX1_badArg : MethodName := ⟨RX1, "badArg", "(II)Z"⟩
abbrev cX1_takes : ByteArray := prog_3_method_2_code
def yX1_takes : MethodName := ⟨RX1, "takes", "(I)I"⟩
abbrev cX1_clear : ByteArray := prog_3_method_5_code
def yX1_clear : MethodName := ⟨RX1, "clear", "()V"⟩
abbrev cX1_lines : ByteArray := prog_3_method_11_code
def yX1_lines : MethodName := ⟨RX1, "lines", "(II)I"⟩
abbrev cX1_missing : ByteArray := prog_3_method_10_code
def yX1_missing : MethodName := ⟨RX1, "missing", "(I)Z"⟩
abbrev cX1_makeAll : ByteArray := prog_3_method_9_code
def yX1_makeAll : MethodName := ⟨RX1, "makeAll", "(I)I"⟩
abbrev cX1_make : ByteArray := prog_3_method_8_code
def yX1_make : MethodName := ⟨RX1, "make", "(I)V"⟩
abbrev cX1_join : ByteArray := prog_3_method_7_code
def yX1_join : MethodName := ⟨RX1, "join", "(IZ)V"⟩
abbrev cX1_most : ByteArray := prog_3_method_6_code
def yX1_most : MethodName := ⟨RX1, "most", "(II)I"⟩
abbrev cX1_width : ByteArray := prog_3_method_12_code
def yX1_width : MethodName := ⟨RX1, "width", "(II)I"⟩
abbrev cX1_cost : ByteArray := prog_3_method_14_code
def yX1_cost : MethodName := ⟨RX1, "cost", "(III)I"⟩
abbrev cX1_within : ByteArray := prog_3_method_13_code
def yX1_within : MethodName := ⟨RX1, "within", "(II)I"⟩
abbrev cX1_best : ByteArray := prog_3_method_17_code
def yX1_best : MethodName := ⟨RX1, "best", "(I)I"⟩
abbrev cX1_isBest : ByteArray := prog_3_method_16_code
def yX1_isBest : MethodName := ⟨RX1, "isBest", "(II)Z"⟩
abbrev cX1_same : ByteArray := prog_3_method_15_code
def yX1_same : MethodName := ⟨RX1, "same", "(II)Z"⟩
abbrev cX1_last : ByteArray := prog_3_method_18_code
def yX1_last : MethodName := ⟨RX1, "last", "(III)I"⟩
theorem q15 : (Jvm.Cond.initialized "LayoutChoiceModel") ∈ lw_all := lw_g (lw_at lw_m0 2 rfl) rfl
theorem q116 : (Jvm.Cond.instantiable "LayoutChoiceModel" (12 : Nat)) ∈ lw_all := lw_g (lw_at lw_m0 103 rfl) rfl
theorem q118 : (Jvm.Cond.instanceMethod ({ cls := "LayoutChoiceModel", name := "<init>", desc := "()V" } : Jvm.MethodName)) ∈ lw_all := lw_g (lw_at lw_m0 105 rfl) rfl
theorem q119 : (Jvm.Cond.code ({ cls := "LayoutChoiceModel", name := "<init>", desc := "()V" } : Jvm.MethodName) prog_3_method_1_code (1 : Nat) (Option.none : Option Jvm.ClassFile.FieldType)) ∈ lw_all := lw_g (lw_at lw_m0 106 rfl) rfl
theorem q120 : (Jvm.Cond.methodLink "LayoutChoiceModel" (1 : Nat) ({ cls := "java/lang/Object", name := "<init>", desc := "()V" } : Jvm.MethodName)) ∈ lw_all := lw_g (lw_at lw_m0 107 rfl) rfl
theorem q121 : (Jvm.Cond.fieldLink "LayoutChoiceModel" (46 : Nat) "LayoutChoiceModel" "tokens" "I") ∈ lw_all := lw_g (lw_at lw_m0 108 rfl) rfl
theorem q122 : (Jvm.Cond.fieldLink "LayoutChoiceModel" (7 : Nat) "LayoutChoiceModel" "codes" "[I") ∈ lw_all := lw_g (lw_at lw_m0 109 rfl) rfl
theorem q123 : (Jvm.Cond.fieldLink "LayoutChoiceModel" (13 : Nat) "LayoutChoiceModel" "args" "[I") ∈ lw_all := lw_g (lw_at lw_m0 110 rfl) rfl
theorem q124 : (Jvm.Cond.fieldLink "LayoutChoiceModel" (38 : Nat) "LayoutChoiceModel" "height" "I") ∈ lw_all := lw_g (lw_at lw_m0 111 rfl) rfl
theorem q125 : (Jvm.Cond.fieldLink "LayoutChoiceModel" (49 : Nat) "LayoutChoiceModel" "eithers" "I") ∈ lw_all := lw_g (lw_at lw_m0 112 rfl) rfl
theorem q126 : (Jvm.Cond.fieldLink "LayoutChoiceModel" (52 : Nat) "LayoutChoiceModel" "depth" "I") ∈ lw_all := lw_g (lw_at lw_m0 113 rfl) rfl
theorem q127 : (Jvm.Cond.fieldLink "LayoutChoiceModel" (16 : Nat) "LayoutChoiceModel" "ends" "[I") ∈ lw_all := lw_g (lw_at lw_m0 114 rfl) rfl
theorem q128 : (Jvm.Cond.fieldLink "LayoutChoiceModel" (19 : Nat) "LayoutChoiceModel" "widths" "[I") ∈ lw_all := lw_g (lw_at lw_m0 115 rfl) rfl
theorem q129 : (Jvm.Cond.fieldLink "LayoutChoiceModel" (22 : Nat) "LayoutChoiceModel" "lasts" "[I") ∈ lw_all := lw_g (lw_at lw_m0 116 rfl) rfl
theorem q130 : (Jvm.Cond.fieldLink "LayoutChoiceModel" (25 : Nat) "LayoutChoiceModel" "boxEnds" "[I") ∈ lw_all := lw_g (lw_at lw_m0 117 rfl) rfl
theorem q131 : (Jvm.Cond.fieldLink "LayoutChoiceModel" (28 : Nat) "LayoutChoiceModel" "boxWidths" "[I") ∈ lw_all := lw_g (lw_at lw_m0 118 rfl) rfl
theorem q132 : (Jvm.Cond.fieldLink "LayoutChoiceModel" (31 : Nat) "LayoutChoiceModel" "boxLasts" "[I") ∈ lw_all := lw_g (lw_at lw_m0 119 rfl) rfl
theorem q133 : (Jvm.Cond.lays "LayoutChoiceModel" "LayoutChoiceModel" "tokens" "I") ∈ lw_all := lw_g (lw_at lw_m0 120 rfl) rfl
theorem q134 : (Jvm.Cond.soleField "LayoutChoiceModel" "tokens") ∈ lw_all := lw_g (lw_at lw_m0 121 rfl) rfl
theorem q135 : (Jvm.Cond.laysFinal "LayoutChoiceModel" "LayoutChoiceModel" "codes" "[I") ∈ lw_all := lw_g (lw_at lw_m0 122 rfl) rfl
theorem q136 : (Jvm.Cond.soleField "LayoutChoiceModel" "codes") ∈ lw_all := lw_g (lw_at lw_m0 123 rfl) rfl
theorem q137 : (Jvm.Cond.laysFinal "LayoutChoiceModel" "LayoutChoiceModel" "args" "[I") ∈ lw_all := lw_g (lw_at lw_m0 124 rfl) rfl
theorem q138 : (Jvm.Cond.soleField "LayoutChoiceModel" "args") ∈ lw_all := lw_g (lw_at lw_m0 125 rfl) rfl
theorem q139 : (Jvm.Cond.lays "LayoutChoiceModel" "LayoutChoiceModel" "height" "I") ∈ lw_all := lw_g (lw_at lw_m0 126 rfl) rfl
theorem q140 : (Jvm.Cond.soleField "LayoutChoiceModel" "height") ∈ lw_all := lw_g (lw_at lw_m0 127 rfl) rfl
theorem q141 : (Jvm.Cond.lays "LayoutChoiceModel" "LayoutChoiceModel" "eithers" "I") ∈ lw_all := lw_g (lw_at lw_m0 128 rfl) rfl
theorem q142 : (Jvm.Cond.soleField "LayoutChoiceModel" "eithers") ∈ lw_all := lw_g (lw_at lw_m0 129 rfl) rfl
theorem q143 : (Jvm.Cond.lays "LayoutChoiceModel" "LayoutChoiceModel" "depth" "I") ∈ lw_all := lw_g (lw_at lw_m0 130 rfl) rfl
theorem q144 : (Jvm.Cond.soleField "LayoutChoiceModel" "depth") ∈ lw_all := lw_g (lw_at lw_m0 131 rfl) rfl
theorem q145 : (Jvm.Cond.laysFinal "LayoutChoiceModel" "LayoutChoiceModel" "ends" "[I") ∈ lw_all := lw_g (lw_at lw_m0 132 rfl) rfl
theorem q146 : (Jvm.Cond.soleField "LayoutChoiceModel" "ends") ∈ lw_all := lw_g (lw_at lw_m0 133 rfl) rfl
theorem q147 : (Jvm.Cond.laysFinal "LayoutChoiceModel" "LayoutChoiceModel" "widths" "[I") ∈ lw_all := lw_g (lw_at lw_m0 134 rfl) rfl
theorem q148 : (Jvm.Cond.soleField "LayoutChoiceModel" "widths") ∈ lw_all := lw_g (lw_at lw_m0 135 rfl) rfl
theorem q149 : (Jvm.Cond.laysFinal "LayoutChoiceModel" "LayoutChoiceModel" "lasts" "[I") ∈ lw_all := lw_g (lw_at lw_m0 136 rfl) rfl
theorem q150 : (Jvm.Cond.soleField "LayoutChoiceModel" "lasts") ∈ lw_all := lw_g (lw_at lw_m0 137 rfl) rfl
theorem q151 : (Jvm.Cond.laysFinal "LayoutChoiceModel" "LayoutChoiceModel" "boxEnds" "[I") ∈ lw_all := lw_g (lw_at lw_m0 138 rfl) rfl
theorem q152 : (Jvm.Cond.soleField "LayoutChoiceModel" "boxEnds") ∈ lw_all := lw_g (lw_at lw_m0 139 rfl) rfl
theorem q153 : (Jvm.Cond.laysFinal "LayoutChoiceModel" "LayoutChoiceModel" "boxWidths" "[I") ∈ lw_all := lw_g (lw_at lw_m0 140 rfl) rfl
theorem q154 : (Jvm.Cond.soleField "LayoutChoiceModel" "boxWidths") ∈ lw_all := lw_g (lw_at lw_m0 141 rfl) rfl
theorem q155 : (Jvm.Cond.laysFinal "LayoutChoiceModel" "LayoutChoiceModel" "boxLasts" "[I") ∈ lw_all := lw_g (lw_at lw_m0 142 rfl) rfl
theorem q156 : (Jvm.Cond.soleField "LayoutChoiceModel" "boxLasts") ∈ lw_all := lw_g (lw_at lw_m0 143 rfl) rfl
theorem q157 : (Jvm.Cond.superclass "LayoutChoiceModel" "java/lang/Object") ∈ lw_all := lw_g (lw_at lw_m0 144 rfl) rfl
theorem q159 : (Jvm.Cond.instanceMethod ({ cls := "LayoutChoiceModel", name := "token", desc := "(II)I" } : Jvm.MethodName)) ∈ lw_all := lw_g (lw_at lw_m0 146 rfl) rfl
theorem q160 : (Jvm.Cond.selects "LayoutChoiceModel" ({ cls := "LayoutChoiceModel", name := "token", desc := "(II)I" } : Jvm.MethodName) ({ cls := "LayoutChoiceModel", name := "token", desc := "(II)I" } : Jvm.MethodName)) ∈ lw_all := lw_g (lw_at lw_m0 147 rfl) rfl
theorem q161 : (Jvm.Cond.code ({ cls := "LayoutChoiceModel", name := "token", desc := "(II)I" } : Jvm.MethodName) prog_3_method_4_code (3 : Nat) (Option.some Jvm.ClassFile.FieldType.int)) ∈ lw_all := lw_g (lw_at lw_m0 148 rfl) rfl
theorem q162 : (Jvm.Cond.methodLink "LayoutChoiceModel" (34 : Nat) ({ cls := "LayoutChoiceModel", name := "badArg", desc := "(II)Z" } : Jvm.MethodName)) ∈ lw_all := lw_g (lw_at lw_m0 149 rfl) rfl
theorem q163 : (Jvm.Cond.static ({ cls := "LayoutChoiceModel", name := "badArg", desc := "(II)Z" } : Jvm.MethodName)) ∈ lw_all := lw_g (lw_at lw_m0 150 rfl) rfl
theorem q164 : (Jvm.Cond.code ({ cls := "LayoutChoiceModel", name := "badArg", desc := "(II)Z" } : Jvm.MethodName) prog_3_method_3_code (2 : Nat) (Option.some Jvm.ClassFile.FieldType.boolean)) ∈ lw_all := lw_g (lw_at lw_m0 151 rfl) rfl
theorem q165 : (Jvm.Cond.methodLink "LayoutChoiceModel" (42 : Nat) ({ cls := "LayoutChoiceModel", name := "takes", desc := "(I)I" } : Jvm.MethodName)) ∈ lw_all := lw_g (lw_at lw_m0 152 rfl) rfl
theorem q166 : (Jvm.Cond.static ({ cls := "LayoutChoiceModel", name := "takes", desc := "(I)I" } : Jvm.MethodName)) ∈ lw_all := lw_g (lw_at lw_m0 153 rfl) rfl
theorem q167 : (Jvm.Cond.code ({ cls := "LayoutChoiceModel", name := "takes", desc := "(I)I" } : Jvm.MethodName) prog_3_method_2_code (1 : Nat) (Option.some Jvm.ClassFile.FieldType.int)) ∈ lw_all := lw_g (lw_at lw_m0 154 rfl) rfl
theorem q169 : (Jvm.Cond.instanceMethod ({ cls := "LayoutChoiceModel", name := "clear", desc := "()V" } : Jvm.MethodName)) ∈ lw_all := lw_g (lw_at lw_m0 156 rfl) rfl
theorem q170 : (Jvm.Cond.selects "LayoutChoiceModel" ({ cls := "LayoutChoiceModel", name := "clear", desc := "()V" } : Jvm.MethodName) ({ cls := "LayoutChoiceModel", name := "clear", desc := "()V" } : Jvm.MethodName)) ∈ lw_all := lw_g (lw_at lw_m0 157 rfl) rfl
theorem q171 : (Jvm.Cond.code ({ cls := "LayoutChoiceModel", name := "clear", desc := "()V" } : Jvm.MethodName) prog_3_method_5_code (1 : Nat) (Option.none : Option Jvm.ClassFile.FieldType)) ∈ lw_all := lw_g (lw_at lw_m0 158 rfl) rfl
theorem q173 : (Jvm.Cond.instanceMethod ({ cls := "LayoutChoiceModel", name := "lines", desc := "(II)I" } : Jvm.MethodName)) ∈ lw_all := lw_g (lw_at lw_m0 160 rfl) rfl
theorem q174 : (Jvm.Cond.selects "LayoutChoiceModel" ({ cls := "LayoutChoiceModel", name := "lines", desc := "(II)I" } : Jvm.MethodName) ({ cls := "LayoutChoiceModel", name := "lines", desc := "(II)I" } : Jvm.MethodName)) ∈ lw_all := lw_g (lw_at lw_m0 161 rfl) rfl
theorem q175 : (Jvm.Cond.code ({ cls := "LayoutChoiceModel", name := "lines", desc := "(II)I" } : Jvm.MethodName) prog_3_method_11_code (6 : Nat) (Option.some Jvm.ClassFile.FieldType.int)) ∈ lw_all := lw_g (lw_at lw_m0 162 rfl) rfl
theorem q176 : (Jvm.Cond.methodLink "LayoutChoiceModel" (67 : Nat) ({ cls := "LayoutChoiceModel", name := "missing", desc := "(I)Z" } : Jvm.MethodName)) ∈ lw_all := lw_g (lw_at lw_m0 163 rfl) rfl
theorem q177 : (Jvm.Cond.privateMethod ({ cls := "LayoutChoiceModel", name := "missing", desc := "(I)Z" } : Jvm.MethodName)) ∈ lw_tbl := lw_at lw_m0 164 rfl
theorem q178 : (Jvm.Cond.instanceMethod ({ cls := "LayoutChoiceModel", name := "missing", desc := "(I)Z" } : Jvm.MethodName)) ∈ lw_all := lw_g (lw_at lw_m0 165 rfl) rfl
theorem q179 : (Jvm.Cond.code ({ cls := "LayoutChoiceModel", name := "missing", desc := "(I)Z" } : Jvm.MethodName) prog_3_method_10_code (2 : Nat) (Option.some Jvm.ClassFile.FieldType.boolean)) ∈ lw_all := lw_g (lw_at lw_m0 166 rfl) rfl
theorem q180 : (Jvm.Cond.methodLink "LayoutChoiceModel" (71 : Nat) ({ cls := "LayoutChoiceModel", name := "makeAll", desc := "(I)I" } : Jvm.MethodName)) ∈ lw_all := lw_g (lw_at lw_m0 167 rfl) rfl
theorem q181 : (Jvm.Cond.privateMethod ({ cls := "LayoutChoiceModel", name := "makeAll", desc := "(I)I" } : Jvm.MethodName)) ∈ lw_tbl := lw_at lw_m0 168 rfl
theorem q182 : (Jvm.Cond.instanceMethod ({ cls := "LayoutChoiceModel", name := "makeAll", desc := "(I)I" } : Jvm.MethodName)) ∈ lw_all := lw_g (lw_at lw_m0 169 rfl) rfl
theorem q183 : (Jvm.Cond.code ({ cls := "LayoutChoiceModel", name := "makeAll", desc := "(I)I" } : Jvm.MethodName) prog_3_method_9_code (4 : Nat) (Option.some Jvm.ClassFile.FieldType.int)) ∈ lw_all := lw_g (lw_at lw_m0 170 rfl) rfl
theorem q184 : (Jvm.Cond.methodLink "LayoutChoiceModel" (63 : Nat) ({ cls := "LayoutChoiceModel", name := "make", desc := "(I)V" } : Jvm.MethodName)) ∈ lw_all := lw_g (lw_at lw_m0 171 rfl) rfl
theorem q185 : (Jvm.Cond.privateMethod ({ cls := "LayoutChoiceModel", name := "make", desc := "(I)V" } : Jvm.MethodName)) ∈ lw_tbl := lw_at lw_m0 172 rfl
theorem q186 : (Jvm.Cond.instanceMethod ({ cls := "LayoutChoiceModel", name := "make", desc := "(I)V" } : Jvm.MethodName)) ∈ lw_all := lw_g (lw_at lw_m0 173 rfl) rfl
theorem q187 : (Jvm.Cond.code ({ cls := "LayoutChoiceModel", name := "make", desc := "(I)V" } : Jvm.MethodName) prog_3_method_8_code (5 : Nat) (Option.none : Option Jvm.ClassFile.FieldType)) ∈ lw_all := lw_g (lw_at lw_m0 174 rfl) rfl
theorem q188 : (Jvm.Cond.methodLink "LayoutChoiceModel" (59 : Nat) ({ cls := "LayoutChoiceModel", name := "join", desc := "(IZ)V" } : Jvm.MethodName)) ∈ lw_all := lw_g (lw_at lw_m0 175 rfl) rfl
theorem q189 : (Jvm.Cond.privateMethod ({ cls := "LayoutChoiceModel", name := "join", desc := "(IZ)V" } : Jvm.MethodName)) ∈ lw_tbl := lw_at lw_m0 176 rfl
theorem q190 : (Jvm.Cond.instanceMethod ({ cls := "LayoutChoiceModel", name := "join", desc := "(IZ)V" } : Jvm.MethodName)) ∈ lw_all := lw_g (lw_at lw_m0 177 rfl) rfl
theorem q191 : (Jvm.Cond.code ({ cls := "LayoutChoiceModel", name := "join", desc := "(IZ)V" } : Jvm.MethodName) prog_3_method_7_code (5 : Nat) (Option.none : Option Jvm.ClassFile.FieldType)) ∈ lw_all := lw_g (lw_at lw_m0 178 rfl) rfl
theorem q192 : (Jvm.Cond.methodLink "LayoutChoiceModel" (55 : Nat) ({ cls := "LayoutChoiceModel", name := "most", desc := "(II)I" } : Jvm.MethodName)) ∈ lw_all := lw_g (lw_at lw_m0 179 rfl) rfl
theorem q193 : (Jvm.Cond.static ({ cls := "LayoutChoiceModel", name := "most", desc := "(II)I" } : Jvm.MethodName)) ∈ lw_all := lw_g (lw_at lw_m0 180 rfl) rfl
theorem q194 : (Jvm.Cond.code ({ cls := "LayoutChoiceModel", name := "most", desc := "(II)I" } : Jvm.MethodName) prog_3_method_6_code (2 : Nat) (Option.some Jvm.ClassFile.FieldType.int)) ∈ lw_all := lw_g (lw_at lw_m0 181 rfl) rfl
theorem q196 : (Jvm.Cond.instanceMethod ({ cls := "LayoutChoiceModel", name := "width", desc := "(II)I" } : Jvm.MethodName)) ∈ lw_all := lw_g (lw_at lw_m0 183 rfl) rfl
theorem q197 : (Jvm.Cond.selects "LayoutChoiceModel" ({ cls := "LayoutChoiceModel", name := "width", desc := "(II)I" } : Jvm.MethodName) ({ cls := "LayoutChoiceModel", name := "width", desc := "(II)I" } : Jvm.MethodName)) ∈ lw_all := lw_g (lw_at lw_m0 184 rfl) rfl
theorem q198 : (Jvm.Cond.code ({ cls := "LayoutChoiceModel", name := "width", desc := "(II)I" } : Jvm.MethodName) prog_3_method_12_code (6 : Nat) (Option.some Jvm.ClassFile.FieldType.int)) ∈ lw_all := lw_g (lw_at lw_m0 185 rfl) rfl
theorem q200 : (Jvm.Cond.instanceMethod ({ cls := "LayoutChoiceModel", name := "cost", desc := "(III)I" } : Jvm.MethodName)) ∈ lw_all := lw_g (lw_at lw_m0 187 rfl) rfl
theorem q201 : (Jvm.Cond.selects "LayoutChoiceModel" ({ cls := "LayoutChoiceModel", name := "cost", desc := "(III)I" } : Jvm.MethodName) ({ cls := "LayoutChoiceModel", name := "cost", desc := "(III)I" } : Jvm.MethodName)) ∈ lw_all := lw_g (lw_at lw_m0 188 rfl) rfl
theorem q202 : (Jvm.Cond.code ({ cls := "LayoutChoiceModel", name := "cost", desc := "(III)I" } : Jvm.MethodName) prog_3_method_14_code (11 : Nat) (Option.some Jvm.ClassFile.FieldType.int)) ∈ lw_all := lw_g (lw_at lw_m0 189 rfl) rfl
theorem q203 : (Jvm.Cond.methodLink "LayoutChoiceModel" (74 : Nat) ({ cls := "LayoutChoiceModel", name := "within", desc := "(II)I" } : Jvm.MethodName)) ∈ lw_all := lw_g (lw_at lw_m0 190 rfl) rfl
theorem q204 : (Jvm.Cond.static ({ cls := "LayoutChoiceModel", name := "within", desc := "(II)I" } : Jvm.MethodName)) ∈ lw_all := lw_g (lw_at lw_m0 191 rfl) rfl
theorem q205 : (Jvm.Cond.code ({ cls := "LayoutChoiceModel", name := "within", desc := "(II)I" } : Jvm.MethodName) prog_3_method_13_code (2 : Nat) (Option.some Jvm.ClassFile.FieldType.int)) ∈ lw_all := lw_g (lw_at lw_m0 192 rfl) rfl
theorem q207 : (Jvm.Cond.instanceMethod ({ cls := "LayoutChoiceModel", name := "best", desc := "(I)I" } : Jvm.MethodName)) ∈ lw_all := lw_g (lw_at lw_m0 194 rfl) rfl
theorem q208 : (Jvm.Cond.selects "LayoutChoiceModel" ({ cls := "LayoutChoiceModel", name := "best", desc := "(I)I" } : Jvm.MethodName) ({ cls := "LayoutChoiceModel", name := "best", desc := "(I)I" } : Jvm.MethodName)) ∈ lw_all := lw_g (lw_at lw_m0 195 rfl) rfl
theorem q209 : (Jvm.Cond.code ({ cls := "LayoutChoiceModel", name := "best", desc := "(I)I" } : Jvm.MethodName) prog_3_method_17_code (5 : Nat) (Option.some Jvm.ClassFile.FieldType.int)) ∈ lw_all := lw_g (lw_at lw_m0 196 rfl) rfl
theorem q210 : (Jvm.Cond.methodLink "LayoutChoiceModel" (80 : Nat) ({ cls := "LayoutChoiceModel", name := "isBest", desc := "(II)Z" } : Jvm.MethodName)) ∈ lw_all := lw_g (lw_at lw_m0 197 rfl) rfl
theorem q211 : (Jvm.Cond.privateMethod ({ cls := "LayoutChoiceModel", name := "isBest", desc := "(II)Z" } : Jvm.MethodName)) ∈ lw_tbl := lw_at lw_m0 198 rfl
theorem q212 : (Jvm.Cond.instanceMethod ({ cls := "LayoutChoiceModel", name := "isBest", desc := "(II)Z" } : Jvm.MethodName)) ∈ lw_all := lw_g (lw_at lw_m0 199 rfl) rfl
theorem q213 : (Jvm.Cond.code ({ cls := "LayoutChoiceModel", name := "isBest", desc := "(II)Z" } : Jvm.MethodName) prog_3_method_16_code (5 : Nat) (Option.some Jvm.ClassFile.FieldType.boolean)) ∈ lw_all := lw_g (lw_at lw_m0 200 rfl) rfl
theorem q214 : (Jvm.Cond.methodLink "LayoutChoiceModel" (77 : Nat) ({ cls := "LayoutChoiceModel", name := "same", desc := "(II)Z" } : Jvm.MethodName)) ∈ lw_all := lw_g (lw_at lw_m0 201 rfl) rfl
theorem q215 : (Jvm.Cond.privateMethod ({ cls := "LayoutChoiceModel", name := "same", desc := "(II)Z" } : Jvm.MethodName)) ∈ lw_tbl := lw_at lw_m0 202 rfl
theorem q216 : (Jvm.Cond.instanceMethod ({ cls := "LayoutChoiceModel", name := "same", desc := "(II)Z" } : Jvm.MethodName)) ∈ lw_all := lw_g (lw_at lw_m0 203 rfl) rfl
theorem q217 : (Jvm.Cond.code ({ cls := "LayoutChoiceModel", name := "same", desc := "(II)Z" } : Jvm.MethodName) prog_3_method_15_code (3 : Nat) (Option.some Jvm.ClassFile.FieldType.boolean)) ∈ lw_all := lw_g (lw_at lw_m0 204 rfl) rfl
theorem q219 : (Jvm.Cond.instanceMethod ({ cls := "LayoutChoiceModel", name := "last", desc := "(III)I" } : Jvm.MethodName)) ∈ lw_all := lw_g (lw_at lw_m0 206 rfl) rfl
theorem q220 : (Jvm.Cond.selects "LayoutChoiceModel" ({ cls := "LayoutChoiceModel", name := "last", desc := "(III)I" } : Jvm.MethodName) ({ cls := "LayoutChoiceModel", name := "last", desc := "(III)I" } : Jvm.MethodName)) ∈ lw_all := lw_g (lw_at lw_m0 207 rfl) rfl
theorem q221 : (Jvm.Cond.code ({ cls := "LayoutChoiceModel", name := "last", desc := "(III)I" } : Jvm.MethodName) prog_3_method_18_code (8 : Nat) (Option.some Jvm.ClassFile.FieldType.int)) ∈ lw_all := lw_g (lw_at lw_m0 208 rfl) rfl
theorem in_X1 : ∀ w ∈ wsX10, w ∈ lw_all := lw_in wsX10 [133, 135, 137, 139, 141, 143, 145, 147, 149, 151, 153, 155] (by decide +kernel) (by decide +kernel)
theorem q13 : (Jvm.Cond.initialized "LayoutChoiceLaw") ∈ lw_all := lw_g (lw_at lw_m0 0 rfl) rfl
theorem q16 : (Jvm.Cond.classLink "LayoutChoiceLaw" (7 : Nat) "LayoutChoice") ∈ lw_all := lw_g (lw_at lw_m0 3 rfl) rfl
theorem q18 : (Jvm.Cond.methodLink "LayoutChoiceLaw" (9 : Nat) ({ cls := "LayoutChoice", name := "<init>", desc := "()V" } : Jvm.MethodName)) ∈ lw_all := lw_g (lw_at lw_m0 5 rfl) rfl
theorem q59 : (Jvm.Cond.methodLink "LayoutChoiceLaw" (13 : Nat) ({ cls := "LayoutChoice", name := "token", desc := "(II)I" } : Jvm.MethodName)) ∈ lw_all := lw_g (lw_at lw_m0 46 rfl) rfl
theorem q87 : (Jvm.Cond.methodLink "LayoutChoiceLaw" (18 : Nat) ({ cls := "LayoutChoice", name := "clear", desc := "()V" } : Jvm.MethodName)) ∈ lw_all := lw_g (lw_at lw_m0 74 rfl) rfl
theorem q91 : (Jvm.Cond.methodLink "LayoutChoiceLaw" (22 : Nat) ({ cls := "LayoutChoice", name := "lines", desc := "(II)I" } : Jvm.MethodName)) ∈ lw_all := lw_g (lw_at lw_m0 78 rfl) rfl
theorem q99 : (Jvm.Cond.methodLink "LayoutChoiceLaw" (26 : Nat) ({ cls := "LayoutChoice", name := "width", desc := "(II)I" } : Jvm.MethodName)) ∈ lw_all := lw_g (lw_at lw_m0 86 rfl) rfl
theorem q103 : (Jvm.Cond.methodLink "LayoutChoiceLaw" (30 : Nat) ({ cls := "LayoutChoice", name := "cost", desc := "(III)I" } : Jvm.MethodName)) ∈ lw_all := lw_g (lw_at lw_m0 90 rfl) rfl
theorem q107 : (Jvm.Cond.methodLink "LayoutChoiceLaw" (35 : Nat) ({ cls := "LayoutChoice", name := "best", desc := "(I)I" } : Jvm.MethodName)) ∈ lw_all := lw_g (lw_at lw_m0 94 rfl) rfl
theorem q111 : (Jvm.Cond.methodLink "LayoutChoiceLaw" (40 : Nat) ({ cls := "LayoutChoice", name := "last", desc := "(III)I" } : Jvm.MethodName)) ∈ lw_all := lw_g (lw_at lw_m0 98 rfl) rfl
theorem q115 : (Jvm.Cond.classLink "LayoutChoiceLaw" (10 : Nat) "LayoutChoiceModel") ∈ lw_all := lw_g (lw_at lw_m0 102 rfl) rfl
theorem q117 : (Jvm.Cond.methodLink "LayoutChoiceLaw" (12 : Nat) ({ cls := "LayoutChoiceModel", name := "<init>", desc := "()V" } : Jvm.MethodName)) ∈ lw_all := lw_g (lw_at lw_m0 104 rfl) rfl
theorem q158 : (Jvm.Cond.methodLink "LayoutChoiceLaw" (17 : Nat) ({ cls := "LayoutChoiceModel", name := "token", desc := "(II)I" } : Jvm.MethodName)) ∈ lw_all := lw_g (lw_at lw_m0 145 rfl) rfl
theorem q168 : (Jvm.Cond.methodLink "LayoutChoiceLaw" (21 : Nat) ({ cls := "LayoutChoiceModel", name := "clear", desc := "()V" } : Jvm.MethodName)) ∈ lw_all := lw_g (lw_at lw_m0 155 rfl) rfl
theorem q172 : (Jvm.Cond.methodLink "LayoutChoiceLaw" (25 : Nat) ({ cls := "LayoutChoiceModel", name := "lines", desc := "(II)I" } : Jvm.MethodName)) ∈ lw_all := lw_g (lw_at lw_m0 159 rfl) rfl
theorem q195 : (Jvm.Cond.methodLink "LayoutChoiceLaw" (29 : Nat) ({ cls := "LayoutChoiceModel", name := "width", desc := "(II)I" } : Jvm.MethodName)) ∈ lw_all := lw_g (lw_at lw_m0 182 rfl) rfl
theorem q199 : (Jvm.Cond.methodLink "LayoutChoiceLaw" (34 : Nat) ({ cls := "LayoutChoiceModel", name := "cost", desc := "(III)I" } : Jvm.MethodName)) ∈ lw_all := lw_g (lw_at lw_m0 186 rfl) rfl
theorem q206 : (Jvm.Cond.methodLink "LayoutChoiceLaw" (39 : Nat) ({ cls := "LayoutChoiceModel", name := "best", desc := "(I)I" } : Jvm.MethodName)) ∈ lw_all := lw_g (lw_at lw_m0 193 rfl) rfl
theorem q218 : (Jvm.Cond.methodLink "LayoutChoiceLaw" (43 : Nat) ({ cls := "LayoutChoiceModel", name := "last", desc := "(III)I" } : Jvm.MethodName)) ∈ lw_all := lw_g (lw_at lw_m0 205 rfl) rfl
theorem q58 : (Jvm.Cond.arrayClass Jvm.ClassFile.FieldType.int) ∈ lw_all := lw_g (lw_at lw_m0 45 rfl) rfl
/-! the law's own entry -/
abbrev cL_law : ByteArray := code
end
section
set_option maxRecDepth 100000
theorem dX0_init_0 : decode cX0_init 0 = .ok (.aload_n 0, 1) := by decide +kernel
theorem dX0_init_1 : decode cX0_init 1 = .ok (.invokespecial 1, 3) := by decide +kernel
theorem dX0_init_4 : decode cX0_init 4 = .ok (.aload_n 0, 1) := by decide +kernel
theorem dX0_init_5 : decode cX0_init 5 = .ok (.bipush 10, 2) := by decide +kernel
theorem dX0_init_7 : decode cX0_init 7 = .ok (.newarray .int, 2) := by decide +kernel
theorem dX0_init_9 : decode cX0_init 9 = .ok (.putfield 7, 3) := by decide +kernel
theorem dX0_init_12 : decode cX0_init 12 = .ok (.aload_n 0, 1) := by decide +kernel
theorem dX0_init_13 : decode cX0_init 13 = .ok (.sipush 640, 3) := by decide +kernel
theorem dX0_init_16 : decode cX0_init 16 = .ok (.newarray .int, 2) := by decide +kernel
theorem dX0_init_18 : decode cX0_init 18 = .ok (.putfield 13, 3) := by decide +kernel
theorem dX0_init_21 : decode cX0_init 21 = .ok (.aload_n 0, 1) := by decide +kernel
theorem dX0_init_22 : decode cX0_init 22 = .ok (.sipush 640, 3) := by decide +kernel
theorem dX0_init_25 : decode cX0_init 25 = .ok (.newarray .int, 2) := by decide +kernel
theorem dX0_init_27 : decode cX0_init 27 = .ok (.putfield 16, 3) := by decide +kernel
theorem dX0_init_30 : decode cX0_init 30 = .ok (.aload_n 0, 1) := by decide +kernel
theorem dX0_init_31 : decode cX0_init 31 = .ok (.sipush 640, 3) := by decide +kernel
theorem dX0_init_34 : decode cX0_init 34 = .ok (.newarray .int, 2) := by decide +kernel
theorem dX0_init_36 : decode cX0_init 36 = .ok (.putfield 19, 3) := by decide +kernel
theorem dX0_init_39 : decode cX0_init 39 = .ok (.aload_n 0, 1) := by decide +kernel
theorem dX0_init_40 : decode cX0_init 40 = .ok (.bipush 65, 2) := by decide +kernel
theorem dX0_init_42 : decode cX0_init 42 = .ok (.newarray .int, 2) := by decide +kernel
theorem dX0_init_44 : decode cX0_init 44 = .ok (.putfield 22, 3) := by decide +kernel
theorem dX0_init_47 : decode cX0_init 47 = .ok (.aload_n 0, 1) := by decide +kernel
theorem dX0_init_48 : decode cX0_init 48 = .ok (.bipush 65, 2) := by decide +kernel
theorem dX0_init_50 : decode cX0_init 50 = .ok (.newarray .int, 2) := by decide +kernel
theorem dX0_init_52 : decode cX0_init 52 = .ok (.putfield 25, 3) := by decide +kernel
theorem dX0_init_55 : decode cX0_init 55 = .ok (.aload_n 0, 1) := by decide +kernel
theorem dX0_init_56 : decode cX0_init 56 = .ok (.bipush 65, 2) := by decide +kernel
theorem dX0_init_58 : decode cX0_init 58 = .ok (.newarray .int, 2) := by decide +kernel
theorem dX0_init_60 : decode cX0_init 60 = .ok (.putfield 28, 3) := by decide +kernel
theorem dX0_init_63 : decode cX0_init 63 = .ok (.return_, 1) := by decide +kernel
theorem dX0_token_0 : decode cX0_token 0 = .ok (.iload_n 1, 1) := by decide +kernel
theorem dX0_token_1 : decode cX0_token 1 = .ok (.ifCond .lt 25, 3) := by decide +kernel
theorem dX0_token_4 : decode cX0_token 4 = .ok (.iload_n 1, 1) := by decide +kernel
theorem dX0_token_5 : decode cX0_token 5 = .ok (.iconst 4, 1) := by decide +kernel
theorem dX0_token_6 : decode cX0_token 6 = .ok (.if_icmp .gt 20, 3) := by decide +kernel
theorem dX0_token_9 : decode cX0_token 9 = .ok (.aload_n 0, 1) := by decide +kernel
theorem dX0_token_10 : decode cX0_token 10 = .ok (.getfield 31, 3) := by decide +kernel
theorem dX0_token_13 : decode cX0_token 13 = .ok (.bipush 48, 2) := by decide +kernel
theorem dX0_token_15 : decode cX0_token 15 = .ok (.if_icmp .ge 11, 3) := by decide +kernel
theorem dX0_token_18 : decode cX0_token 18 = .ok (.aload_n 0, 1) := by decide +kernel
theorem dX0_token_19 : decode cX0_token 19 = .ok (.iload_n 1, 1) := by decide +kernel
theorem dX0_token_20 : decode cX0_token 20 = .ok (.invokevirtual 35, 3) := by decide +kernel
theorem dX0_token_23 : decode cX0_token 23 = .ok (.ifCond .ne 5, 3) := by decide +kernel
theorem dX0_token_26 : decode cX0_token 26 = .ok (.iconst (-1), 1) := by decide +kernel
theorem dX0_token_27 : decode cX0_token 27 = .ok (.ireturn, 1) := by decide +kernel
theorem dX0_token_28 : decode cX0_token 28 = .ok (.iload_n 1, 1) := by decide +kernel
theorem dX0_token_29 : decode cX0_token 29 = .ok (.ifCond .ne 13, 3) := by decide +kernel
theorem dX0_token_32 : decode cX0_token 32 = .ok (.iload_n 2, 1) := by decide +kernel
theorem dX0_token_33 : decode cX0_token 33 = .ok (.ifCond .lt 38, 3) := by decide +kernel
theorem dX0_token_36 : decode cX0_token 36 = .ok (.iload_n 2, 1) := by decide +kernel
theorem dX0_token_37 : decode cX0_token 37 = .ok (.bipush 40, 2) := by decide +kernel
theorem dX0_token_39 : decode cX0_token 39 = .ok (.if_icmp .gt 32, 3) := by decide +kernel
theorem dX0_token_42 : decode cX0_token 42 = .ok (.iload_n 1, 1) := by decide +kernel
theorem dX0_token_43 : decode cX0_token 43 = .ok (.iconst 3, 1) := by decide +kernel
theorem dX0_token_44 : decode cX0_token 44 = .ok (.if_icmp .ne 13, 3) := by decide +kernel
theorem dX0_token_47 : decode cX0_token 47 = .ok (.iload_n 2, 1) := by decide +kernel
theorem dX0_token_48 : decode cX0_token 48 = .ok (.ifCond .lt 23, 3) := by decide +kernel
theorem dX0_token_51 : decode cX0_token 51 = .ok (.iload_n 2, 1) := by decide +kernel
theorem dX0_token_52 : decode cX0_token 52 = .ok (.bipush 20, 2) := by decide +kernel
theorem dX0_token_54 : decode cX0_token 54 = .ok (.if_icmp .gt 17, 3) := by decide +kernel
theorem dX0_token_57 : decode cX0_token 57 = .ok (.iload_n 1, 1) := by decide +kernel
theorem dX0_token_58 : decode cX0_token 58 = .ok (.iconst 4, 1) := by decide +kernel
theorem dX0_token_59 : decode cX0_token 59 = .ok (.if_icmp .ne 14, 3) := by decide +kernel
theorem dX0_token_62 : decode cX0_token 62 = .ok (.aload_n 0, 1) := by decide +kernel
theorem dX0_token_63 : decode cX0_token 63 = .ok (.getfield 39, 3) := by decide +kernel
theorem dX0_token_66 : decode cX0_token 66 = .ok (.bipush 6, 2) := by decide +kernel
theorem dX0_token_68 : decode cX0_token 68 = .ok (.if_icmp .lt 5, 3) := by decide +kernel
theorem dX0_token_71 : decode cX0_token 71 = .ok (.iconst (-1), 1) := by decide +kernel
theorem dX0_token_72 : decode cX0_token 72 = .ok (.ireturn, 1) := by decide +kernel
theorem dX0_token_73 : decode cX0_token 73 = .ok (.aload_n 0, 1) := by decide +kernel
theorem dX0_token_74 : decode cX0_token 74 = .ok (.dup, 1) := by decide +kernel
theorem dX0_token_75 : decode cX0_token 75 = .ok (.getfield 31, 3) := by decide +kernel
theorem dX0_token_78 : decode cX0_token 78 = .ok (.iconst 1, 1) := by decide +kernel
theorem dX0_token_79 : decode cX0_token 79 = .ok (.iadd, 1) := by decide +kernel
theorem dX0_token_80 : decode cX0_token 80 = .ok (.putfield 31, 3) := by decide +kernel
theorem dX0_token_83 : decode cX0_token 83 = .ok (.aload_n 0, 1) := by decide +kernel
theorem dX0_token_84 : decode cX0_token 84 = .ok (.iconst 0, 1) := by decide +kernel
theorem dX0_token_85 : decode cX0_token 85 = .ok (.putfield 42, 3) := by decide +kernel
theorem dX0_token_88 : decode cX0_token 88 = .ok (.iload_n 1, 1) := by decide +kernel
theorem dX0_token_89 : decode cX0_token 89 = .ok (.ifCond .ne 13, 3) := by decide +kernel
theorem dX0_token_92 : decode cX0_token 92 = .ok (.aload_n 0, 1) := by decide +kernel
theorem dX0_token_93 : decode cX0_token 93 = .ok (.iconst 0, 1) := by decide +kernel
theorem dX0_token_94 : decode cX0_token 94 = .ok (.iload_n 2, 1) := by decide +kernel
theorem dX0_token_95 : decode cX0_token 95 = .ok (.iload_n 2, 1) := by decide +kernel
theorem dX0_token_96 : decode cX0_token 96 = .ok (.invokevirtual 45, 3) := by decide +kernel
theorem dX0_token_99 : decode cX0_token 99 = .ok (.goto 64, 3) := by decide +kernel
theorem dX0_token_102 : decode cX0_token 102 = .ok (.iload_n 1, 1) := by decide +kernel
theorem dX0_token_103 : decode cX0_token 103 = .ok (.iconst 3, 1) := by decide +kernel
theorem dX0_token_104 : decode cX0_token 104 = .ok (.if_icmp .ne 25, 3) := by decide +kernel
theorem dX0_token_107 : decode cX0_token 107 = .ok (.aload_n 0, 1) := by decide +kernel
theorem dX0_token_108 : decode cX0_token 108 = .ok (.dup, 1) := by decide +kernel
theorem dX0_token_109 : decode cX0_token 109 = .ok (.getfield 49, 3) := by decide +kernel
theorem dX0_token_112 : decode cX0_token 112 = .ok (.iconst 1, 1) := by decide +kernel
theorem dX0_token_113 : decode cX0_token 113 = .ok (.isub, 1) := by decide +kernel
theorem dX0_token_114 : decode cX0_token 114 = .ok (.putfield 49, 3) := by decide +kernel
theorem dX0_token_117 : decode cX0_token 117 = .ok (.aload_n 0, 1) := by decide +kernel
theorem dX0_token_118 : decode cX0_token 118 = .ok (.aload_n 0, 1) := by decide +kernel
theorem dX0_token_119 : decode cX0_token 119 = .ok (.getfield 49, 3) := by decide +kernel
theorem dX0_token_122 : decode cX0_token 122 = .ok (.iload_n 2, 1) := by decide +kernel
theorem dX0_token_123 : decode cX0_token 123 = .ok (.invokevirtual 52, 3) := by decide +kernel
theorem dX0_token_126 : decode cX0_token 126 = .ok (.goto 37, 3) := by decide +kernel
theorem dX0_token_129 : decode cX0_token 129 = .ok (.aload_n 0, 1) := by decide +kernel
theorem dX0_token_130 : decode cX0_token 130 = .ok (.dup, 1) := by decide +kernel
theorem dX0_token_131 : decode cX0_token 131 = .ok (.getfield 49, 3) := by decide +kernel
theorem dX0_token_134 : decode cX0_token 134 = .ok (.iconst 2, 1) := by decide +kernel
theorem dX0_token_135 : decode cX0_token 135 = .ok (.isub, 1) := by decide +kernel
theorem dX0_token_136 : decode cX0_token 136 = .ok (.putfield 49, 3) := by decide +kernel
theorem dX0_token_139 : decode cX0_token 139 = .ok (.aload_n 0, 1) := by decide +kernel
theorem dX0_token_140 : decode cX0_token 140 = .ok (.dup, 1) := by decide +kernel
theorem dX0_token_141 : decode cX0_token 141 = .ok (.getfield 39, 3) := by decide +kernel
theorem dX0_token_144 : decode cX0_token 144 = .ok (.iload_n 1, 1) := by decide +kernel
theorem dX0_token_145 : decode cX0_token 145 = .ok (.iconst 4, 1) := by decide +kernel
theorem dX0_token_146 : decode cX0_token 146 = .ok (.if_icmp .ne 7, 3) := by decide +kernel
theorem dX0_token_149 : decode cX0_token 149 = .ok (.iconst 1, 1) := by decide +kernel
theorem dX0_token_150 : decode cX0_token 150 = .ok (.goto 4, 3) := by decide +kernel
theorem dX0_token_153 : decode cX0_token 153 = .ok (.iconst 0, 1) := by decide +kernel
theorem dX0_token_154 : decode cX0_token 154 = .ok (.iadd, 1) := by decide +kernel
theorem dX0_token_155 : decode cX0_token 155 = .ok (.putfield 39, 3) := by decide +kernel
theorem dX0_token_158 : decode cX0_token 158 = .ok (.aload_n 0, 1) := by decide +kernel
theorem dX0_token_159 : decode cX0_token 159 = .ok (.iload_n 1, 1) := by decide +kernel
theorem dX0_token_160 : decode cX0_token 160 = .ok (.invokevirtual 56, 3) := by decide +kernel
theorem dX0_token_163 : decode cX0_token 163 = .ok (.aload_n 0, 1) := by decide +kernel
theorem dX0_token_164 : decode cX0_token 164 = .ok (.invokevirtual 60, 3) := by decide +kernel
theorem dX0_token_167 : decode cX0_token 167 = .ok (.aload_n 0, 1) := by decide +kernel
theorem dX0_token_168 : decode cX0_token 168 = .ok (.getfield 49, 3) := by decide +kernel
theorem dX0_token_171 : decode cX0_token 171 = .ok (.ireturn, 1) := by decide +kernel
theorem dX0_hasDocuments_0 : decode cX0_hasDocuments 0 = .ok (.iload_n 1, 1) := by decide +kernel
theorem dX0_hasDocuments_1 : decode cX0_hasDocuments 1 = .ok (.ifCond .ne 18, 3) := by decide +kernel
theorem dX0_hasDocuments_4 : decode cX0_hasDocuments 4 = .ok (.aload_n 0, 1) := by decide +kernel
theorem dX0_hasDocuments_5 : decode cX0_hasDocuments 5 = .ok (.getfield 49, 3) := by decide +kernel
theorem dX0_hasDocuments_8 : decode cX0_hasDocuments 8 = .ok (.bipush 10, 2) := by decide +kernel
theorem dX0_hasDocuments_10 : decode cX0_hasDocuments 10 = .ok (.if_icmp .ge 7, 3) := by decide +kernel
theorem dX0_hasDocuments_13 : decode cX0_hasDocuments 13 = .ok (.iconst 1, 1) := by decide +kernel
theorem dX0_hasDocuments_14 : decode cX0_hasDocuments 14 = .ok (.goto 4, 3) := by decide +kernel
theorem dX0_hasDocuments_17 : decode cX0_hasDocuments 17 = .ok (.iconst 0, 1) := by decide +kernel
theorem dX0_hasDocuments_18 : decode cX0_hasDocuments 18 = .ok (.ireturn, 1) := by decide +kernel
theorem dX0_hasDocuments_19 : decode cX0_hasDocuments 19 = .ok (.iload_n 1, 1) := by decide +kernel
theorem dX0_hasDocuments_20 : decode cX0_hasDocuments 20 = .ok (.iconst 3, 1) := by decide +kernel
theorem dX0_hasDocuments_21 : decode cX0_hasDocuments 21 = .ok (.if_icmp .ne 19, 3) := by decide +kernel
theorem dX0_hasDocuments_24 : decode cX0_hasDocuments 24 = .ok (.aload_n 0, 1) := by decide +kernel
theorem dX0_hasDocuments_25 : decode cX0_hasDocuments 25 = .ok (.getfield 49, 3) := by decide +kernel
theorem dX0_hasDocuments_28 : decode cX0_hasDocuments 28 = .ok (.iconst 1, 1) := by decide +kernel
theorem dX0_hasDocuments_29 : decode cX0_hasDocuments 29 = .ok (.if_icmp .lt 7, 3) := by decide +kernel
theorem dX0_hasDocuments_32 : decode cX0_hasDocuments 32 = .ok (.iconst 1, 1) := by decide +kernel
theorem dX0_hasDocuments_33 : decode cX0_hasDocuments 33 = .ok (.goto 20, 3) := by decide +kernel
theorem dX0_hasDocuments_36 : decode cX0_hasDocuments 36 = .ok (.iconst 0, 1) := by decide +kernel
theorem dX0_hasDocuments_37 : decode cX0_hasDocuments 37 = .ok (.goto 16, 3) := by decide +kernel
theorem dX0_hasDocuments_40 : decode cX0_hasDocuments 40 = .ok (.aload_n 0, 1) := by decide +kernel
theorem dX0_hasDocuments_41 : decode cX0_hasDocuments 41 = .ok (.getfield 49, 3) := by decide +kernel
theorem dX0_hasDocuments_44 : decode cX0_hasDocuments 44 = .ok (.iconst 2, 1) := by decide +kernel
theorem dX0_hasDocuments_45 : decode cX0_hasDocuments 45 = .ok (.if_icmp .lt 7, 3) := by decide +kernel
theorem dX0_hasDocuments_48 : decode cX0_hasDocuments 48 = .ok (.iconst 1, 1) := by decide +kernel
theorem dX0_hasDocuments_49 : decode cX0_hasDocuments 49 = .ok (.goto 4, 3) := by decide +kernel
theorem dX0_hasDocuments_52 : decode cX0_hasDocuments 52 = .ok (.iconst 0, 1) := by decide +kernel
theorem dX0_hasDocuments_53 : decode cX0_hasDocuments 53 = .ok (.ireturn, 1) := by decide +kernel
theorem dX0_gather_0 : decode cX0_gather 0 = .ok (.iconst 0, 1) := by decide +kernel
theorem dX0_gather_1 : decode cX0_gather 1 = .ok (.istore 4, 2) := by decide +kernel
theorem dX0_gather_3 : decode cX0_gather 3 = .ok (.iload 4, 2) := by decide +kernel
theorem dX0_gather_5 : decode cX0_gather 5 = .ok (.aload_n 0, 1) := by decide +kernel
theorem dX0_gather_6 : decode cX0_gather 6 = .ok (.getfield 42, 3) := by decide +kernel
theorem dX0_gather_9 : decode cX0_gather 9 = .ok (.if_icmp .ge 43, 3) := by decide +kernel
theorem dX0_gather_12 : decode cX0_gather 12 = .ok (.aload_n 0, 1) := by decide +kernel
theorem dX0_gather_13 : decode cX0_gather 13 = .ok (.getfield 22, 3) := by decide +kernel
theorem dX0_gather_16 : decode cX0_gather 16 = .ok (.iload 4, 2) := by decide +kernel
theorem dX0_gather_18 : decode cX0_gather 18 = .ok (.iaload, 1) := by decide +kernel
theorem dX0_gather_19 : decode cX0_gather 19 = .ok (.iload_n 1, 1) := by decide +kernel
theorem dX0_gather_20 : decode cX0_gather 20 = .ok (.if_icmp .gt 26, 3) := by decide +kernel
theorem dX0_gather_23 : decode cX0_gather 23 = .ok (.aload_n 0, 1) := by decide +kernel
theorem dX0_gather_24 : decode cX0_gather 24 = .ok (.getfield 25, 3) := by decide +kernel
theorem dX0_gather_27 : decode cX0_gather 27 = .ok (.iload 4, 2) := by decide +kernel
theorem dX0_gather_29 : decode cX0_gather 29 = .ok (.iaload, 1) := by decide +kernel
theorem dX0_gather_30 : decode cX0_gather 30 = .ok (.iload_n 2, 1) := by decide +kernel
theorem dX0_gather_31 : decode cX0_gather 31 = .ok (.if_icmp .gt 15, 3) := by decide +kernel
theorem dX0_gather_34 : decode cX0_gather 34 = .ok (.aload_n 0, 1) := by decide +kernel
theorem dX0_gather_35 : decode cX0_gather 35 = .ok (.getfield 28, 3) := by decide +kernel
theorem dX0_gather_38 : decode cX0_gather 38 = .ok (.iload 4, 2) := by decide +kernel
theorem dX0_gather_40 : decode cX0_gather 40 = .ok (.iaload, 1) := by decide +kernel
theorem dX0_gather_41 : decode cX0_gather 41 = .ok (.iload_n 3, 1) := by decide +kernel
theorem dX0_gather_42 : decode cX0_gather 42 = .ok (.if_icmp .gt 4, 3) := by decide +kernel
theorem dX0_gather_45 : decode cX0_gather 45 = .ok (.return_, 1) := by decide +kernel
theorem dX0_gather_46 : decode cX0_gather 46 = .ok (.iinc 4 1, 3) := by decide +kernel
theorem dX0_gather_49 : decode cX0_gather 49 = .ok (.goto (-46), 3) := by decide +kernel
theorem dX0_gather_52 : decode cX0_gather 52 = .ok (.iconst 0, 1) := by decide +kernel
theorem dX0_gather_53 : decode cX0_gather 53 = .ok (.istore 4, 2) := by decide +kernel
theorem dX0_gather_55 : decode cX0_gather 55 = .ok (.iconst 0, 1) := by decide +kernel
theorem dX0_gather_56 : decode cX0_gather 56 = .ok (.istore 5, 2) := by decide +kernel
theorem dX0_gather_58 : decode cX0_gather 58 = .ok (.iload 5, 2) := by decide +kernel
theorem dX0_gather_60 : decode cX0_gather 60 = .ok (.aload_n 0, 1) := by decide +kernel
theorem dX0_gather_61 : decode cX0_gather 61 = .ok (.getfield 42, 3) := by decide +kernel
theorem dX0_gather_64 : decode cX0_gather 64 = .ok (.if_icmp .ge 99, 3) := by decide +kernel
theorem dX0_gather_67 : decode cX0_gather 67 = .ok (.iload_n 1, 1) := by decide +kernel
theorem dX0_gather_68 : decode cX0_gather 68 = .ok (.aload_n 0, 1) := by decide +kernel
theorem dX0_gather_69 : decode cX0_gather 69 = .ok (.getfield 22, 3) := by decide +kernel
theorem dX0_gather_72 : decode cX0_gather 72 = .ok (.iload 5, 2) := by decide +kernel
theorem dX0_gather_74 : decode cX0_gather 74 = .ok (.iaload, 1) := by decide +kernel
theorem dX0_gather_75 : decode cX0_gather 75 = .ok (.if_icmp .gt 29, 3) := by decide +kernel
theorem dX0_gather_78 : decode cX0_gather 78 = .ok (.iload_n 2, 1) := by decide +kernel
theorem dX0_gather_79 : decode cX0_gather 79 = .ok (.aload_n 0, 1) := by decide +kernel
theorem dX0_gather_80 : decode cX0_gather 80 = .ok (.getfield 25, 3) := by decide +kernel
theorem dX0_gather_83 : decode cX0_gather 83 = .ok (.iload 5, 2) := by decide +kernel
theorem dX0_gather_85 : decode cX0_gather 85 = .ok (.iaload, 1) := by decide +kernel
theorem dX0_gather_86 : decode cX0_gather 86 = .ok (.if_icmp .gt 18, 3) := by decide +kernel
theorem dX0_gather_89 : decode cX0_gather 89 = .ok (.iload_n 3, 1) := by decide +kernel
theorem dX0_gather_90 : decode cX0_gather 90 = .ok (.aload_n 0, 1) := by decide +kernel
theorem dX0_gather_91 : decode cX0_gather 91 = .ok (.getfield 28, 3) := by decide +kernel
theorem dX0_gather_94 : decode cX0_gather 94 = .ok (.iload 5, 2) := by decide +kernel
theorem dX0_gather_96 : decode cX0_gather 96 = .ok (.iaload, 1) := by decide +kernel
theorem dX0_gather_97 : decode cX0_gather 97 = .ok (.if_icmp .gt 7, 3) := by decide +kernel
theorem dX0_gather_100 : decode cX0_gather 100 = .ok (.iconst 1, 1) := by decide +kernel
theorem dX0_gather_101 : decode cX0_gather 101 = .ok (.goto 4, 3) := by decide +kernel
theorem dX0_gather_104 : decode cX0_gather 104 = .ok (.iconst 0, 1) := by decide +kernel
theorem dX0_gather_105 : decode cX0_gather 105 = .ok (.istore 6, 2) := by decide +kernel
theorem dX0_gather_107 : decode cX0_gather 107 = .ok (.iload 6, 2) := by decide +kernel
theorem dX0_gather_109 : decode cX0_gather 109 = .ok (.ifCond .ne 48, 3) := by decide +kernel
theorem dX0_gather_112 : decode cX0_gather 112 = .ok (.aload_n 0, 1) := by decide +kernel
theorem dX0_gather_113 : decode cX0_gather 113 = .ok (.getfield 22, 3) := by decide +kernel
theorem dX0_gather_116 : decode cX0_gather 116 = .ok (.iload 4, 2) := by decide +kernel
theorem dX0_gather_118 : decode cX0_gather 118 = .ok (.aload_n 0, 1) := by decide +kernel
theorem dX0_gather_119 : decode cX0_gather 119 = .ok (.getfield 22, 3) := by decide +kernel
theorem dX0_gather_122 : decode cX0_gather 122 = .ok (.iload 5, 2) := by decide +kernel
theorem dX0_gather_124 : decode cX0_gather 124 = .ok (.iaload, 1) := by decide +kernel
theorem dX0_gather_125 : decode cX0_gather 125 = .ok (.iastore, 1) := by decide +kernel
theorem dX0_gather_126 : decode cX0_gather 126 = .ok (.aload_n 0, 1) := by decide +kernel
theorem dX0_gather_127 : decode cX0_gather 127 = .ok (.getfield 25, 3) := by decide +kernel
theorem dX0_gather_130 : decode cX0_gather 130 = .ok (.iload 4, 2) := by decide +kernel
theorem dX0_gather_132 : decode cX0_gather 132 = .ok (.aload_n 0, 1) := by decide +kernel
theorem dX0_gather_133 : decode cX0_gather 133 = .ok (.getfield 25, 3) := by decide +kernel
theorem dX0_gather_136 : decode cX0_gather 136 = .ok (.iload 5, 2) := by decide +kernel
theorem dX0_gather_138 : decode cX0_gather 138 = .ok (.iaload, 1) := by decide +kernel
theorem dX0_gather_139 : decode cX0_gather 139 = .ok (.iastore, 1) := by decide +kernel
theorem dX0_gather_140 : decode cX0_gather 140 = .ok (.aload_n 0, 1) := by decide +kernel
theorem dX0_gather_141 : decode cX0_gather 141 = .ok (.getfield 28, 3) := by decide +kernel
theorem dX0_gather_144 : decode cX0_gather 144 = .ok (.iload 4, 2) := by decide +kernel
theorem dX0_gather_146 : decode cX0_gather 146 = .ok (.aload_n 0, 1) := by decide +kernel
theorem dX0_gather_147 : decode cX0_gather 147 = .ok (.getfield 28, 3) := by decide +kernel
theorem dX0_gather_150 : decode cX0_gather 150 = .ok (.iload 5, 2) := by decide +kernel
theorem dX0_gather_152 : decode cX0_gather 152 = .ok (.iaload, 1) := by decide +kernel
theorem dX0_gather_153 : decode cX0_gather 153 = .ok (.iastore, 1) := by decide +kernel
theorem dX0_gather_154 : decode cX0_gather 154 = .ok (.iinc 4 1, 3) := by decide +kernel
theorem dX0_gather_157 : decode cX0_gather 157 = .ok (.iinc 5 1, 3) := by decide +kernel
theorem dX0_gather_160 : decode cX0_gather 160 = .ok (.goto (-102), 3) := by decide +kernel
theorem dX0_gather_163 : decode cX0_gather 163 = .ok (.aload_n 0, 1) := by decide +kernel
theorem dX0_gather_164 : decode cX0_gather 164 = .ok (.getfield 22, 3) := by decide +kernel
theorem dX0_gather_167 : decode cX0_gather 167 = .ok (.iload 4, 2) := by decide +kernel
theorem dX0_gather_169 : decode cX0_gather 169 = .ok (.iload_n 1, 1) := by decide +kernel
theorem dX0_gather_170 : decode cX0_gather 170 = .ok (.iastore, 1) := by decide +kernel
theorem dX0_gather_171 : decode cX0_gather 171 = .ok (.aload_n 0, 1) := by decide +kernel
theorem dX0_gather_172 : decode cX0_gather 172 = .ok (.getfield 25, 3) := by decide +kernel
theorem dX0_gather_175 : decode cX0_gather 175 = .ok (.iload 4, 2) := by decide +kernel
theorem dX0_gather_177 : decode cX0_gather 177 = .ok (.iload_n 2, 1) := by decide +kernel
theorem dX0_gather_178 : decode cX0_gather 178 = .ok (.iastore, 1) := by decide +kernel
theorem dX0_gather_179 : decode cX0_gather 179 = .ok (.aload_n 0, 1) := by decide +kernel
theorem dX0_gather_180 : decode cX0_gather 180 = .ok (.getfield 28, 3) := by decide +kernel
theorem dX0_gather_183 : decode cX0_gather 183 = .ok (.iload 4, 2) := by decide +kernel
theorem dX0_gather_185 : decode cX0_gather 185 = .ok (.iload_n 3, 1) := by decide +kernel
theorem dX0_gather_186 : decode cX0_gather 186 = .ok (.iastore, 1) := by decide +kernel
theorem dX0_gather_187 : decode cX0_gather 187 = .ok (.aload_n 0, 1) := by decide +kernel
theorem dX0_gather_188 : decode cX0_gather 188 = .ok (.iload 4, 2) := by decide +kernel
theorem dX0_gather_190 : decode cX0_gather 190 = .ok (.iconst 1, 1) := by decide +kernel
theorem dX0_gather_191 : decode cX0_gather 191 = .ok (.iadd, 1) := by decide +kernel
theorem dX0_gather_192 : decode cX0_gather 192 = .ok (.putfield 42, 3) := by decide +kernel
theorem dX0_gather_195 : decode cX0_gather 195 = .ok (.return_, 1) := by decide +kernel
theorem dX0_indent_0 : decode cX0_indent 0 = .ok (.bipush 64, 2) := by decide +kernel
theorem dX0_indent_2 : decode cX0_indent 2 = .ok (.iload_n 1, 1) := by decide +kernel
theorem dX0_indent_3 : decode cX0_indent 3 = .ok (.imul, 1) := by decide +kernel
theorem dX0_indent_4 : decode cX0_indent 4 = .ok (.istore_n 3, 1) := by decide +kernel
theorem dX0_indent_5 : decode cX0_indent 5 = .ok (.iload_n 3, 1) := by decide +kernel
theorem dX0_indent_6 : decode cX0_indent 6 = .ok (.bipush 64, 2) := by decide +kernel
theorem dX0_indent_8 : decode cX0_indent 8 = .ok (.iload_n 1, 1) := by decide +kernel
theorem dX0_indent_9 : decode cX0_indent 9 = .ok (.imul, 1) := by decide +kernel
theorem dX0_indent_10 : decode cX0_indent 10 = .ok (.aload_n 0, 1) := by decide +kernel
theorem dX0_indent_11 : decode cX0_indent 11 = .ok (.getfield 7, 3) := by decide +kernel
theorem dX0_indent_14 : decode cX0_indent 14 = .ok (.iload_n 1, 1) := by decide +kernel
theorem dX0_indent_15 : decode cX0_indent 15 = .ok (.iaload, 1) := by decide +kernel
theorem dX0_indent_16 : decode cX0_indent 16 = .ok (.iadd, 1) := by decide +kernel
theorem dX0_indent_17 : decode cX0_indent 17 = .ok (.if_icmp .ge 35, 3) := by decide +kernel
theorem dX0_indent_20 : decode cX0_indent 20 = .ok (.aload_n 0, 1) := by decide +kernel
theorem dX0_indent_21 : decode cX0_indent 21 = .ok (.aload_n 0, 1) := by decide +kernel
theorem dX0_indent_22 : decode cX0_indent 22 = .ok (.getfield 13, 3) := by decide +kernel
theorem dX0_indent_25 : decode cX0_indent 25 = .ok (.iload_n 3, 1) := by decide +kernel
theorem dX0_indent_26 : decode cX0_indent 26 = .ok (.iaload, 1) := by decide +kernel
theorem dX0_indent_27 : decode cX0_indent 27 = .ok (.aload_n 0, 1) := by decide +kernel
theorem dX0_indent_28 : decode cX0_indent 28 = .ok (.getfield 16, 3) := by decide +kernel
theorem dX0_indent_31 : decode cX0_indent 31 = .ok (.iload_n 3, 1) := by decide +kernel
theorem dX0_indent_32 : decode cX0_indent 32 = .ok (.iaload, 1) := by decide +kernel
theorem dX0_indent_33 : decode cX0_indent 33 = .ok (.iload_n 2, 1) := by decide +kernel
theorem dX0_indent_34 : decode cX0_indent 34 = .ok (.iadd, 1) := by decide +kernel
theorem dX0_indent_35 : decode cX0_indent 35 = .ok (.aload_n 0, 1) := by decide +kernel
theorem dX0_indent_36 : decode cX0_indent 36 = .ok (.getfield 19, 3) := by decide +kernel
theorem dX0_indent_39 : decode cX0_indent 39 = .ok (.iload_n 3, 1) := by decide +kernel
theorem dX0_indent_40 : decode cX0_indent 40 = .ok (.iaload, 1) := by decide +kernel
theorem dX0_indent_41 : decode cX0_indent 41 = .ok (.iload_n 2, 1) := by decide +kernel
theorem dX0_indent_42 : decode cX0_indent 42 = .ok (.iadd, 1) := by decide +kernel
theorem dX0_indent_43 : decode cX0_indent 43 = .ok (.invokevirtual 45, 3) := by decide +kernel
theorem dX0_indent_46 : decode cX0_indent 46 = .ok (.iinc 3 1, 3) := by decide +kernel
theorem dX0_indent_49 : decode cX0_indent 49 = .ok (.goto (-44), 3) := by decide +kernel
theorem dX0_indent_52 : decode cX0_indent 52 = .ok (.return_, 1) := by decide +kernel
theorem dX0_joinTwo_0 : decode cX0_joinTwo 0 = .ok (.iload_n 1, 1) := by decide +kernel
theorem dX0_joinTwo_1 : decode cX0_joinTwo 1 = .ok (.iconst 4, 1) := by decide +kernel
end
section
set_option maxRecDepth 100000
theorem dX0_joinTwo_2 : decode cX0_joinTwo 2 = .ok (.if_icmp .ne 24, 3) := by decide +kernel
theorem dX0_joinTwo_5 : decode cX0_joinTwo 5 = .ok (.aload_n 0, 1) := by decide +kernel
theorem dX0_joinTwo_6 : decode cX0_joinTwo 6 = .ok (.aload_n 0, 1) := by decide +kernel
theorem dX0_joinTwo_7 : decode cX0_joinTwo 7 = .ok (.getfield 49, 3) := by decide +kernel
theorem dX0_joinTwo_10 : decode cX0_joinTwo 10 = .ok (.iconst 0, 1) := by decide +kernel
theorem dX0_joinTwo_11 : decode cX0_joinTwo 11 = .ok (.invokevirtual 52, 3) := by decide +kernel
theorem dX0_joinTwo_14 : decode cX0_joinTwo 14 = .ok (.aload_n 0, 1) := by decide +kernel
theorem dX0_joinTwo_15 : decode cX0_joinTwo 15 = .ok (.aload_n 0, 1) := by decide +kernel
theorem dX0_joinTwo_16 : decode cX0_joinTwo 16 = .ok (.getfield 49, 3) := by decide +kernel
theorem dX0_joinTwo_19 : decode cX0_joinTwo 19 = .ok (.iconst 1, 1) := by decide +kernel
theorem dX0_joinTwo_20 : decode cX0_joinTwo 20 = .ok (.iadd, 1) := by decide +kernel
theorem dX0_joinTwo_21 : decode cX0_joinTwo 21 = .ok (.iconst 0, 1) := by decide +kernel
theorem dX0_joinTwo_22 : decode cX0_joinTwo 22 = .ok (.invokevirtual 52, 3) := by decide +kernel
theorem dX0_joinTwo_25 : decode cX0_joinTwo 25 = .ok (.return_, 1) := by decide +kernel
theorem dX0_joinTwo_26 : decode cX0_joinTwo 26 = .ok (.bipush 64, 2) := by decide +kernel
theorem dX0_joinTwo_28 : decode cX0_joinTwo 28 = .ok (.aload_n 0, 1) := by decide +kernel
theorem dX0_joinTwo_29 : decode cX0_joinTwo 29 = .ok (.getfield 49, 3) := by decide +kernel
theorem dX0_joinTwo_32 : decode cX0_joinTwo 32 = .ok (.imul, 1) := by decide +kernel
theorem dX0_joinTwo_33 : decode cX0_joinTwo 33 = .ok (.istore_n 2, 1) := by decide +kernel
theorem dX0_joinTwo_34 : decode cX0_joinTwo 34 = .ok (.iload_n 2, 1) := by decide +kernel
theorem dX0_joinTwo_35 : decode cX0_joinTwo 35 = .ok (.bipush 64, 2) := by decide +kernel
theorem dX0_joinTwo_37 : decode cX0_joinTwo 37 = .ok (.aload_n 0, 1) := by decide +kernel
theorem dX0_joinTwo_38 : decode cX0_joinTwo 38 = .ok (.getfield 49, 3) := by decide +kernel
theorem dX0_joinTwo_41 : decode cX0_joinTwo 41 = .ok (.imul, 1) := by decide +kernel
theorem dX0_joinTwo_42 : decode cX0_joinTwo 42 = .ok (.aload_n 0, 1) := by decide +kernel
theorem dX0_joinTwo_43 : decode cX0_joinTwo 43 = .ok (.getfield 7, 3) := by decide +kernel
theorem dX0_joinTwo_46 : decode cX0_joinTwo 46 = .ok (.aload_n 0, 1) := by decide +kernel
theorem dX0_joinTwo_47 : decode cX0_joinTwo 47 = .ok (.getfield 49, 3) := by decide +kernel
theorem dX0_joinTwo_50 : decode cX0_joinTwo 50 = .ok (.iaload, 1) := by decide +kernel
theorem dX0_joinTwo_51 : decode cX0_joinTwo 51 = .ok (.iadd, 1) := by decide +kernel
theorem dX0_joinTwo_52 : decode cX0_joinTwo 52 = .ok (.if_icmp .ge 59, 3) := by decide +kernel
theorem dX0_joinTwo_55 : decode cX0_joinTwo 55 = .ok (.bipush 64, 2) := by decide +kernel
theorem dX0_joinTwo_57 : decode cX0_joinTwo 57 = .ok (.aload_n 0, 1) := by decide +kernel
theorem dX0_joinTwo_58 : decode cX0_joinTwo 58 = .ok (.getfield 49, 3) := by decide +kernel
theorem dX0_joinTwo_61 : decode cX0_joinTwo 61 = .ok (.imul, 1) := by decide +kernel
theorem dX0_joinTwo_62 : decode cX0_joinTwo 62 = .ok (.bipush 64, 2) := by decide +kernel
theorem dX0_joinTwo_64 : decode cX0_joinTwo 64 = .ok (.iadd, 1) := by decide +kernel
theorem dX0_joinTwo_65 : decode cX0_joinTwo 65 = .ok (.istore_n 3, 1) := by decide +kernel
theorem dX0_joinTwo_66 : decode cX0_joinTwo 66 = .ok (.iload_n 3, 1) := by decide +kernel
theorem dX0_joinTwo_67 : decode cX0_joinTwo 67 = .ok (.bipush 64, 2) := by decide +kernel
theorem dX0_joinTwo_69 : decode cX0_joinTwo 69 = .ok (.aload_n 0, 1) := by decide +kernel
theorem dX0_joinTwo_70 : decode cX0_joinTwo 70 = .ok (.getfield 49, 3) := by decide +kernel
theorem dX0_joinTwo_73 : decode cX0_joinTwo 73 = .ok (.imul, 1) := by decide +kernel
theorem dX0_joinTwo_74 : decode cX0_joinTwo 74 = .ok (.bipush 64, 2) := by decide +kernel
theorem dX0_joinTwo_76 : decode cX0_joinTwo 76 = .ok (.iadd, 1) := by decide +kernel
theorem dX0_joinTwo_77 : decode cX0_joinTwo 77 = .ok (.aload_n 0, 1) := by decide +kernel
theorem dX0_joinTwo_78 : decode cX0_joinTwo 78 = .ok (.getfield 7, 3) := by decide +kernel
theorem dX0_joinTwo_81 : decode cX0_joinTwo 81 = .ok (.aload_n 0, 1) := by decide +kernel
theorem dX0_joinTwo_82 : decode cX0_joinTwo 82 = .ok (.getfield 49, 3) := by decide +kernel
theorem dX0_joinTwo_85 : decode cX0_joinTwo 85 = .ok (.iconst 1, 1) := by decide +kernel
theorem dX0_joinTwo_86 : decode cX0_joinTwo 86 = .ok (.iadd, 1) := by decide +kernel
theorem dX0_joinTwo_87 : decode cX0_joinTwo 87 = .ok (.iaload, 1) := by decide +kernel
theorem dX0_joinTwo_88 : decode cX0_joinTwo 88 = .ok (.iadd, 1) := by decide +kernel
theorem dX0_joinTwo_89 : decode cX0_joinTwo 89 = .ok (.if_icmp .ge 16, 3) := by decide +kernel
theorem dX0_joinTwo_92 : decode cX0_joinTwo 92 = .ok (.aload_n 0, 1) := by decide +kernel
theorem dX0_joinTwo_93 : decode cX0_joinTwo 93 = .ok (.iload_n 1, 1) := by decide +kernel
theorem dX0_joinTwo_94 : decode cX0_joinTwo 94 = .ok (.iload_n 2, 1) := by decide +kernel
theorem dX0_joinTwo_95 : decode cX0_joinTwo 95 = .ok (.iload_n 3, 1) := by decide +kernel
theorem dX0_joinTwo_96 : decode cX0_joinTwo 96 = .ok (.invokevirtual 67, 3) := by decide +kernel
theorem dX0_joinTwo_99 : decode cX0_joinTwo 99 = .ok (.iinc 3 1, 3) := by decide +kernel
theorem dX0_joinTwo_102 : decode cX0_joinTwo 102 = .ok (.goto (-36), 3) := by decide +kernel
theorem dX0_joinTwo_105 : decode cX0_joinTwo 105 = .ok (.iinc 2 1, 3) := by decide +kernel
theorem dX0_joinTwo_108 : decode cX0_joinTwo 108 = .ok (.goto (-74), 3) := by decide +kernel
theorem dX0_joinTwo_111 : decode cX0_joinTwo 111 = .ok (.return_, 1) := by decide +kernel
theorem dX0_joinBoxes_0 : decode cX0_joinBoxes 0 = .ok (.iload_n 1, 1) := by decide +kernel
theorem dX0_joinBoxes_1 : decode cX0_joinBoxes 1 = .ok (.iconst 2, 1) := by decide +kernel
theorem dX0_joinBoxes_2 : decode cX0_joinBoxes 2 = .ok (.if_icmp .ne 65, 3) := by decide +kernel
theorem dX0_joinBoxes_5 : decode cX0_joinBoxes 5 = .ok (.aload_n 0, 1) := by decide +kernel
theorem dX0_joinBoxes_6 : decode cX0_joinBoxes 6 = .ok (.getfield 16, 3) := by decide +kernel
theorem dX0_joinBoxes_9 : decode cX0_joinBoxes 9 = .ok (.iload_n 2, 1) := by decide +kernel
theorem dX0_joinBoxes_10 : decode cX0_joinBoxes 10 = .ok (.iaload, 1) := by decide +kernel
theorem dX0_joinBoxes_11 : decode cX0_joinBoxes 11 = .ok (.aload_n 0, 1) := by decide +kernel
theorem dX0_joinBoxes_12 : decode cX0_joinBoxes 12 = .ok (.getfield 16, 3) := by decide +kernel
theorem dX0_joinBoxes_15 : decode cX0_joinBoxes 15 = .ok (.iload_n 3, 1) := by decide +kernel
theorem dX0_joinBoxes_16 : decode cX0_joinBoxes 16 = .ok (.iaload, 1) := by decide +kernel
theorem dX0_joinBoxes_17 : decode cX0_joinBoxes 17 = .ok (.if_icmp .le 12, 3) := by decide +kernel
theorem dX0_joinBoxes_20 : decode cX0_joinBoxes 20 = .ok (.aload_n 0, 1) := by decide +kernel
theorem dX0_joinBoxes_21 : decode cX0_joinBoxes 21 = .ok (.getfield 16, 3) := by decide +kernel
theorem dX0_joinBoxes_24 : decode cX0_joinBoxes 24 = .ok (.iload_n 2, 1) := by decide +kernel
theorem dX0_joinBoxes_25 : decode cX0_joinBoxes 25 = .ok (.iaload, 1) := by decide +kernel
theorem dX0_joinBoxes_26 : decode cX0_joinBoxes 26 = .ok (.goto 9, 3) := by decide +kernel
theorem dX0_joinBoxes_29 : decode cX0_joinBoxes 29 = .ok (.aload_n 0, 1) := by decide +kernel
theorem dX0_joinBoxes_30 : decode cX0_joinBoxes 30 = .ok (.getfield 16, 3) := by decide +kernel
theorem dX0_joinBoxes_33 : decode cX0_joinBoxes 33 = .ok (.iload_n 3, 1) := by decide +kernel
theorem dX0_joinBoxes_34 : decode cX0_joinBoxes 34 = .ok (.iaload, 1) := by decide +kernel
theorem dX0_joinBoxes_35 : decode cX0_joinBoxes 35 = .ok (.istore 4, 2) := by decide +kernel
theorem dX0_joinBoxes_37 : decode cX0_joinBoxes 37 = .ok (.aload_n 0, 1) := by decide +kernel
theorem dX0_joinBoxes_38 : decode cX0_joinBoxes 38 = .ok (.aload_n 0, 1) := by decide +kernel
theorem dX0_joinBoxes_39 : decode cX0_joinBoxes 39 = .ok (.getfield 13, 3) := by decide +kernel
theorem dX0_joinBoxes_42 : decode cX0_joinBoxes 42 = .ok (.iload_n 2, 1) := by decide +kernel
theorem dX0_joinBoxes_43 : decode cX0_joinBoxes 43 = .ok (.iaload, 1) := by decide +kernel
theorem dX0_joinBoxes_44 : decode cX0_joinBoxes 44 = .ok (.aload_n 0, 1) := by decide +kernel
theorem dX0_joinBoxes_45 : decode cX0_joinBoxes 45 = .ok (.getfield 13, 3) := by decide +kernel
theorem dX0_joinBoxes_48 : decode cX0_joinBoxes 48 = .ok (.iload_n 3, 1) := by decide +kernel
theorem dX0_joinBoxes_49 : decode cX0_joinBoxes 49 = .ok (.iaload, 1) := by decide +kernel
theorem dX0_joinBoxes_50 : decode cX0_joinBoxes 50 = .ok (.iadd, 1) := by decide +kernel
theorem dX0_joinBoxes_51 : decode cX0_joinBoxes 51 = .ok (.iconst 1, 1) := by decide +kernel
theorem dX0_joinBoxes_52 : decode cX0_joinBoxes 52 = .ok (.iadd, 1) := by decide +kernel
theorem dX0_joinBoxes_53 : decode cX0_joinBoxes 53 = .ok (.iload 4, 2) := by decide +kernel
theorem dX0_joinBoxes_55 : decode cX0_joinBoxes 55 = .ok (.aload_n 0, 1) := by decide +kernel
theorem dX0_joinBoxes_56 : decode cX0_joinBoxes 56 = .ok (.getfield 19, 3) := by decide +kernel
theorem dX0_joinBoxes_59 : decode cX0_joinBoxes 59 = .ok (.iload_n 3, 1) := by decide +kernel
theorem dX0_joinBoxes_60 : decode cX0_joinBoxes 60 = .ok (.iaload, 1) := by decide +kernel
theorem dX0_joinBoxes_61 : decode cX0_joinBoxes 61 = .ok (.invokevirtual 45, 3) := by decide +kernel
theorem dX0_joinBoxes_64 : decode cX0_joinBoxes 64 = .ok (.goto 70, 3) := by decide +kernel
theorem dX0_joinBoxes_67 : decode cX0_joinBoxes 67 = .ok (.aload_n 0, 1) := by decide +kernel
theorem dX0_joinBoxes_68 : decode cX0_joinBoxes 68 = .ok (.getfield 19, 3) := by decide +kernel
theorem dX0_joinBoxes_71 : decode cX0_joinBoxes 71 = .ok (.iload_n 2, 1) := by decide +kernel
theorem dX0_joinBoxes_72 : decode cX0_joinBoxes 72 = .ok (.iaload, 1) := by decide +kernel
theorem dX0_joinBoxes_73 : decode cX0_joinBoxes 73 = .ok (.aload_n 0, 1) := by decide +kernel
theorem dX0_joinBoxes_74 : decode cX0_joinBoxes 74 = .ok (.getfield 16, 3) := by decide +kernel
theorem dX0_joinBoxes_77 : decode cX0_joinBoxes 77 = .ok (.iload_n 3, 1) := by decide +kernel
theorem dX0_joinBoxes_78 : decode cX0_joinBoxes 78 = .ok (.iaload, 1) := by decide +kernel
theorem dX0_joinBoxes_79 : decode cX0_joinBoxes 79 = .ok (.iadd, 1) := by decide +kernel
theorem dX0_joinBoxes_80 : decode cX0_joinBoxes 80 = .ok (.istore 4, 2) := by decide +kernel
theorem dX0_joinBoxes_82 : decode cX0_joinBoxes 82 = .ok (.aload_n 0, 1) := by decide +kernel
theorem dX0_joinBoxes_83 : decode cX0_joinBoxes 83 = .ok (.aload_n 0, 1) := by decide +kernel
theorem dX0_joinBoxes_84 : decode cX0_joinBoxes 84 = .ok (.getfield 13, 3) := by decide +kernel
theorem dX0_joinBoxes_87 : decode cX0_joinBoxes 87 = .ok (.iload_n 2, 1) := by decide +kernel
theorem dX0_joinBoxes_88 : decode cX0_joinBoxes 88 = .ok (.iaload, 1) := by decide +kernel
theorem dX0_joinBoxes_89 : decode cX0_joinBoxes 89 = .ok (.aload_n 0, 1) := by decide +kernel
theorem dX0_joinBoxes_90 : decode cX0_joinBoxes 90 = .ok (.getfield 13, 3) := by decide +kernel
theorem dX0_joinBoxes_93 : decode cX0_joinBoxes 93 = .ok (.iload_n 3, 1) := by decide +kernel
theorem dX0_joinBoxes_94 : decode cX0_joinBoxes 94 = .ok (.iaload, 1) := by decide +kernel
theorem dX0_joinBoxes_95 : decode cX0_joinBoxes 95 = .ok (.iadd, 1) := by decide +kernel
theorem dX0_joinBoxes_96 : decode cX0_joinBoxes 96 = .ok (.aload_n 0, 1) := by decide +kernel
theorem dX0_joinBoxes_97 : decode cX0_joinBoxes 97 = .ok (.getfield 16, 3) := by decide +kernel
theorem dX0_joinBoxes_100 : decode cX0_joinBoxes 100 = .ok (.iload_n 2, 1) := by decide +kernel
theorem dX0_joinBoxes_101 : decode cX0_joinBoxes 101 = .ok (.iaload, 1) := by decide +kernel
theorem dX0_joinBoxes_102 : decode cX0_joinBoxes 102 = .ok (.iload 4, 2) := by decide +kernel
theorem dX0_joinBoxes_104 : decode cX0_joinBoxes 104 = .ok (.if_icmp .le 12, 3) := by decide +kernel
theorem dX0_joinBoxes_107 : decode cX0_joinBoxes 107 = .ok (.aload_n 0, 1) := by decide +kernel
theorem dX0_joinBoxes_108 : decode cX0_joinBoxes 108 = .ok (.getfield 16, 3) := by decide +kernel
theorem dX0_joinBoxes_111 : decode cX0_joinBoxes 111 = .ok (.iload_n 2, 1) := by decide +kernel
theorem dX0_joinBoxes_112 : decode cX0_joinBoxes 112 = .ok (.iaload, 1) := by decide +kernel
theorem dX0_joinBoxes_113 : decode cX0_joinBoxes 113 = .ok (.goto 5, 3) := by decide +kernel
theorem dX0_joinBoxes_116 : decode cX0_joinBoxes 116 = .ok (.iload 4, 2) := by decide +kernel
theorem dX0_joinBoxes_118 : decode cX0_joinBoxes 118 = .ok (.aload_n 0, 1) := by decide +kernel
theorem dX0_joinBoxes_119 : decode cX0_joinBoxes 119 = .ok (.getfield 19, 3) := by decide +kernel
theorem dX0_joinBoxes_122 : decode cX0_joinBoxes 122 = .ok (.iload_n 2, 1) := by decide +kernel
theorem dX0_joinBoxes_123 : decode cX0_joinBoxes 123 = .ok (.iaload, 1) := by decide +kernel
theorem dX0_joinBoxes_124 : decode cX0_joinBoxes 124 = .ok (.aload_n 0, 1) := by decide +kernel
theorem dX0_joinBoxes_125 : decode cX0_joinBoxes 125 = .ok (.getfield 19, 3) := by decide +kernel
theorem dX0_joinBoxes_128 : decode cX0_joinBoxes 128 = .ok (.iload_n 3, 1) := by decide +kernel
theorem dX0_joinBoxes_129 : decode cX0_joinBoxes 129 = .ok (.iaload, 1) := by decide +kernel
theorem dX0_joinBoxes_130 : decode cX0_joinBoxes 130 = .ok (.iadd, 1) := by decide +kernel
theorem dX0_joinBoxes_131 : decode cX0_joinBoxes 131 = .ok (.invokevirtual 45, 3) := by decide +kernel
theorem dX0_joinBoxes_134 : decode cX0_joinBoxes 134 = .ok (.return_, 1) := by decide +kernel
theorem dX0_keep_0 : decode cX0_keep 0 = .ok (.aload_n 0, 1) := by decide +kernel
theorem dX0_keep_1 : decode cX0_keep 1 = .ok (.getfield 7, 3) := by decide +kernel
theorem dX0_keep_4 : decode cX0_keep 4 = .ok (.aload_n 0, 1) := by decide +kernel
theorem dX0_keep_5 : decode cX0_keep 5 = .ok (.getfield 49, 3) := by decide +kernel
theorem dX0_keep_8 : decode cX0_keep 8 = .ok (.aload_n 0, 1) := by decide +kernel
theorem dX0_keep_9 : decode cX0_keep 9 = .ok (.getfield 42, 3) := by decide +kernel
theorem dX0_keep_12 : decode cX0_keep 12 = .ok (.iastore, 1) := by decide +kernel
theorem dX0_keep_13 : decode cX0_keep 13 = .ok (.iconst 0, 1) := by decide +kernel
theorem dX0_keep_14 : decode cX0_keep 14 = .ok (.istore_n 1, 1) := by decide +kernel
theorem dX0_keep_15 : decode cX0_keep 15 = .ok (.iload_n 1, 1) := by decide +kernel
theorem dX0_keep_16 : decode cX0_keep 16 = .ok (.aload_n 0, 1) := by decide +kernel
theorem dX0_keep_17 : decode cX0_keep 17 = .ok (.getfield 42, 3) := by decide +kernel
theorem dX0_keep_20 : decode cX0_keep 20 = .ok (.if_icmp .ge 69, 3) := by decide +kernel
theorem dX0_keep_23 : decode cX0_keep 23 = .ok (.aload_n 0, 1) := by decide +kernel
theorem dX0_keep_24 : decode cX0_keep 24 = .ok (.getfield 13, 3) := by decide +kernel
theorem dX0_keep_27 : decode cX0_keep 27 = .ok (.bipush 64, 2) := by decide +kernel
theorem dX0_keep_29 : decode cX0_keep 29 = .ok (.aload_n 0, 1) := by decide +kernel
theorem dX0_keep_30 : decode cX0_keep 30 = .ok (.getfield 49, 3) := by decide +kernel
theorem dX0_keep_33 : decode cX0_keep 33 = .ok (.imul, 1) := by decide +kernel
theorem dX0_keep_34 : decode cX0_keep 34 = .ok (.iload_n 1, 1) := by decide +kernel
theorem dX0_keep_35 : decode cX0_keep 35 = .ok (.iadd, 1) := by decide +kernel
theorem dX0_keep_36 : decode cX0_keep 36 = .ok (.aload_n 0, 1) := by decide +kernel
theorem dX0_keep_37 : decode cX0_keep 37 = .ok (.getfield 22, 3) := by decide +kernel
theorem dX0_keep_40 : decode cX0_keep 40 = .ok (.iload_n 1, 1) := by decide +kernel
theorem dX0_keep_41 : decode cX0_keep 41 = .ok (.iaload, 1) := by decide +kernel
theorem dX0_keep_42 : decode cX0_keep 42 = .ok (.iastore, 1) := by decide +kernel
theorem dX0_keep_43 : decode cX0_keep 43 = .ok (.aload_n 0, 1) := by decide +kernel
theorem dX0_keep_44 : decode cX0_keep 44 = .ok (.getfield 16, 3) := by decide +kernel
theorem dX0_keep_47 : decode cX0_keep 47 = .ok (.bipush 64, 2) := by decide +kernel
theorem dX0_keep_49 : decode cX0_keep 49 = .ok (.aload_n 0, 1) := by decide +kernel
theorem dX0_keep_50 : decode cX0_keep 50 = .ok (.getfield 49, 3) := by decide +kernel
theorem dX0_keep_53 : decode cX0_keep 53 = .ok (.imul, 1) := by decide +kernel
theorem dX0_keep_54 : decode cX0_keep 54 = .ok (.iload_n 1, 1) := by decide +kernel
theorem dX0_keep_55 : decode cX0_keep 55 = .ok (.iadd, 1) := by decide +kernel
theorem dX0_keep_56 : decode cX0_keep 56 = .ok (.aload_n 0, 1) := by decide +kernel
theorem dX0_keep_57 : decode cX0_keep 57 = .ok (.getfield 25, 3) := by decide +kernel
theorem dX0_keep_60 : decode cX0_keep 60 = .ok (.iload_n 1, 1) := by decide +kernel
theorem dX0_keep_61 : decode cX0_keep 61 = .ok (.iaload, 1) := by decide +kernel
theorem dX0_keep_62 : decode cX0_keep 62 = .ok (.iastore, 1) := by decide +kernel
theorem dX0_keep_63 : decode cX0_keep 63 = .ok (.aload_n 0, 1) := by decide +kernel
theorem dX0_keep_64 : decode cX0_keep 64 = .ok (.getfield 19, 3) := by decide +kernel
theorem dX0_keep_67 : decode cX0_keep 67 = .ok (.bipush 64, 2) := by decide +kernel
theorem dX0_keep_69 : decode cX0_keep 69 = .ok (.aload_n 0, 1) := by decide +kernel
theorem dX0_keep_70 : decode cX0_keep 70 = .ok (.getfield 49, 3) := by decide +kernel
theorem dX0_keep_73 : decode cX0_keep 73 = .ok (.imul, 1) := by decide +kernel
theorem dX0_keep_74 : decode cX0_keep 74 = .ok (.iload_n 1, 1) := by decide +kernel
theorem dX0_keep_75 : decode cX0_keep 75 = .ok (.iadd, 1) := by decide +kernel
theorem dX0_keep_76 : decode cX0_keep 76 = .ok (.aload_n 0, 1) := by decide +kernel
theorem dX0_keep_77 : decode cX0_keep 77 = .ok (.getfield 28, 3) := by decide +kernel
theorem dX0_keep_80 : decode cX0_keep 80 = .ok (.iload_n 1, 1) := by decide +kernel
theorem dX0_keep_81 : decode cX0_keep 81 = .ok (.iaload, 1) := by decide +kernel
theorem dX0_keep_82 : decode cX0_keep 82 = .ok (.iastore, 1) := by decide +kernel
theorem dX0_keep_83 : decode cX0_keep 83 = .ok (.iinc 1 1, 3) := by decide +kernel
theorem dX0_keep_86 : decode cX0_keep 86 = .ok (.goto (-71), 3) := by decide +kernel
theorem dX0_keep_89 : decode cX0_keep 89 = .ok (.aload_n 0, 1) := by decide +kernel
theorem dX0_keep_90 : decode cX0_keep 90 = .ok (.dup, 1) := by decide +kernel
theorem dX0_keep_91 : decode cX0_keep 91 = .ok (.getfield 49, 3) := by decide +kernel
theorem dX0_keep_94 : decode cX0_keep 94 = .ok (.iconst 1, 1) := by decide +kernel
theorem dX0_keep_95 : decode cX0_keep 95 = .ok (.iadd, 1) := by decide +kernel
theorem dX0_keep_96 : decode cX0_keep 96 = .ok (.putfield 49, 3) := by decide +kernel
theorem dX0_keep_99 : decode cX0_keep 99 = .ok (.return_, 1) := by decide +kernel
theorem dX0_clear_0 : decode cX0_clear 0 = .ok (.aload_n 0, 1) := by decide +kernel
theorem dX0_clear_1 : decode cX0_clear 1 = .ok (.iconst 0, 1) := by decide +kernel
theorem dX0_clear_2 : decode cX0_clear 2 = .ok (.putfield 31, 3) := by decide +kernel
theorem dX0_clear_5 : decode cX0_clear 5 = .ok (.aload_n 0, 1) := by decide +kernel
theorem dX0_clear_6 : decode cX0_clear 6 = .ok (.iconst 0, 1) := by decide +kernel
theorem dX0_clear_7 : decode cX0_clear 7 = .ok (.putfield 39, 3) := by decide +kernel
theorem dX0_clear_10 : decode cX0_clear 10 = .ok (.aload_n 0, 1) := by decide +kernel
theorem dX0_clear_11 : decode cX0_clear 11 = .ok (.iconst 0, 1) := by decide +kernel
theorem dX0_clear_12 : decode cX0_clear 12 = .ok (.putfield 49, 3) := by decide +kernel
theorem dX0_clear_15 : decode cX0_clear 15 = .ok (.return_, 1) := by decide +kernel
theorem dX0_lines_0 : decode cX0_lines 0 = .ok (.iconst (-1), 1) := by decide +kernel
theorem dX0_lines_1 : decode cX0_lines 1 = .ok (.istore_n 3, 1) := by decide +kernel
theorem dX0_lines_2 : decode cX0_lines 2 = .ok (.iconst 0, 1) := by decide +kernel
theorem dX0_lines_3 : decode cX0_lines 3 = .ok (.istore 4, 2) := by decide +kernel
theorem dX0_lines_5 : decode cX0_lines 5 = .ok (.iload 4, 2) := by decide +kernel
theorem dX0_lines_7 : decode cX0_lines 7 = .ok (.aload_n 0, 1) := by decide +kernel
theorem dX0_lines_8 : decode cX0_lines 8 = .ok (.iload_n 1, 1) := by decide +kernel
theorem dX0_lines_9 : decode cX0_lines 9 = .ok (.invokevirtual 63, 3) := by decide +kernel
theorem dX0_lines_12 : decode cX0_lines 12 = .ok (.if_icmp .ge 63, 3) := by decide +kernel
theorem dX0_lines_15 : decode cX0_lines 15 = .ok (.bipush 64, 2) := by decide +kernel
theorem dX0_lines_17 : decode cX0_lines 17 = .ok (.aload_n 0, 1) := by decide +kernel
theorem dX0_lines_18 : decode cX0_lines 18 = .ok (.getfield 49, 3) := by decide +kernel
theorem dX0_lines_21 : decode cX0_lines 21 = .ok (.iconst 1, 1) := by decide +kernel
theorem dX0_lines_22 : decode cX0_lines 22 = .ok (.isub, 1) := by decide +kernel
theorem dX0_lines_23 : decode cX0_lines 23 = .ok (.iload_n 1, 1) := by decide +kernel
theorem dX0_lines_24 : decode cX0_lines 24 = .ok (.isub, 1) := by decide +kernel
theorem dX0_lines_25 : decode cX0_lines 25 = .ok (.imul, 1) := by decide +kernel
theorem dX0_lines_26 : decode cX0_lines 26 = .ok (.iload 4, 2) := by decide +kernel
theorem dX0_lines_28 : decode cX0_lines 28 = .ok (.iadd, 1) := by decide +kernel
theorem dX0_lines_29 : decode cX0_lines 29 = .ok (.istore 5, 2) := by decide +kernel
theorem dX0_lines_31 : decode cX0_lines 31 = .ok (.aload_n 0, 1) := by decide +kernel
theorem dX0_lines_32 : decode cX0_lines 32 = .ok (.getfield 16, 3) := by decide +kernel
theorem dX0_lines_35 : decode cX0_lines 35 = .ok (.iload 5, 2) := by decide +kernel
theorem dX0_lines_37 : decode cX0_lines 37 = .ok (.iaload, 1) := by decide +kernel
theorem dX0_lines_38 : decode cX0_lines 38 = .ok (.iload_n 2, 1) := by decide +kernel
theorem dX0_lines_39 : decode cX0_lines 39 = .ok (.if_icmp .gt 28, 3) := by decide +kernel
theorem dX0_lines_42 : decode cX0_lines 42 = .ok (.iload_n 3, 1) := by decide +kernel
theorem dX0_lines_43 : decode cX0_lines 43 = .ok (.ifCond .lt 14, 3) := by decide +kernel
theorem dX0_lines_46 : decode cX0_lines 46 = .ok (.aload_n 0, 1) := by decide +kernel
theorem dX0_lines_47 : decode cX0_lines 47 = .ok (.getfield 13, 3) := by decide +kernel
theorem dX0_lines_50 : decode cX0_lines 50 = .ok (.iload 5, 2) := by decide +kernel
theorem dX0_lines_52 : decode cX0_lines 52 = .ok (.iaload, 1) := by decide +kernel
theorem dX0_lines_53 : decode cX0_lines 53 = .ok (.iload_n 3, 1) := by decide +kernel
theorem dX0_lines_54 : decode cX0_lines 54 = .ok (.if_icmp .ge 13, 3) := by decide +kernel
theorem dX0_lines_57 : decode cX0_lines 57 = .ok (.aload_n 0, 1) := by decide +kernel
theorem dX0_lines_58 : decode cX0_lines 58 = .ok (.getfield 13, 3) := by decide +kernel
theorem dX0_lines_61 : decode cX0_lines 61 = .ok (.iload 5, 2) := by decide +kernel
theorem dX0_lines_63 : decode cX0_lines 63 = .ok (.iaload, 1) := by decide +kernel
theorem dX0_lines_64 : decode cX0_lines 64 = .ok (.goto 4, 3) := by decide +kernel
theorem dX0_lines_67 : decode cX0_lines 67 = .ok (.iload_n 3, 1) := by decide +kernel
theorem dX0_lines_68 : decode cX0_lines 68 = .ok (.istore_n 3, 1) := by decide +kernel
theorem dX0_lines_69 : decode cX0_lines 69 = .ok (.iinc 4 1, 3) := by decide +kernel
theorem dX0_lines_72 : decode cX0_lines 72 = .ok (.goto (-67), 3) := by decide +kernel
theorem dX0_lines_75 : decode cX0_lines 75 = .ok (.iload_n 3, 1) := by decide +kernel
theorem dX0_lines_76 : decode cX0_lines 76 = .ok (.ireturn, 1) := by decide +kernel
theorem dX0_boxes_0 : decode cX0_boxes 0 = .ok (.iload_n 1, 1) := by decide +kernel
theorem dX0_boxes_1 : decode cX0_boxes 1 = .ok (.ifCond .lt 11, 3) := by decide +kernel
theorem dX0_boxes_4 : decode cX0_boxes 4 = .ok (.iload_n 1, 1) := by decide +kernel
theorem dX0_boxes_5 : decode cX0_boxes 5 = .ok (.aload_n 0, 1) := by decide +kernel
theorem dX0_boxes_6 : decode cX0_boxes 6 = .ok (.getfield 49, 3) := by decide +kernel
theorem dX0_boxes_9 : decode cX0_boxes 9 = .ok (.if_icmp .lt 7, 3) := by decide +kernel
theorem dX0_boxes_12 : decode cX0_boxes 12 = .ok (.iconst 0, 1) := by decide +kernel
theorem dX0_boxes_13 : decode cX0_boxes 13 = .ok (.goto 16, 3) := by decide +kernel
theorem dX0_boxes_16 : decode cX0_boxes 16 = .ok (.aload_n 0, 1) := by decide +kernel
theorem dX0_boxes_17 : decode cX0_boxes 17 = .ok (.getfield 7, 3) := by decide +kernel
theorem dX0_boxes_20 : decode cX0_boxes 20 = .ok (.aload_n 0, 1) := by decide +kernel
theorem dX0_boxes_21 : decode cX0_boxes 21 = .ok (.getfield 49, 3) := by decide +kernel
theorem dX0_boxes_24 : decode cX0_boxes 24 = .ok (.iconst 1, 1) := by decide +kernel
theorem dX0_boxes_25 : decode cX0_boxes 25 = .ok (.isub, 1) := by decide +kernel
theorem dX0_boxes_26 : decode cX0_boxes 26 = .ok (.iload_n 1, 1) := by decide +kernel
theorem dX0_boxes_27 : decode cX0_boxes 27 = .ok (.isub, 1) := by decide +kernel
theorem dX0_boxes_28 : decode cX0_boxes 28 = .ok (.iaload, 1) := by decide +kernel
theorem dX0_boxes_29 : decode cX0_boxes 29 = .ok (.ireturn, 1) := by decide +kernel
theorem dX0_width_0 : decode cX0_width 0 = .ok (.iconst (-1), 1) := by decide +kernel
theorem dX0_width_1 : decode cX0_width 1 = .ok (.istore_n 3, 1) := by decide +kernel
theorem dX0_width_2 : decode cX0_width 2 = .ok (.iconst 0, 1) := by decide +kernel
theorem dX0_width_3 : decode cX0_width 3 = .ok (.istore 4, 2) := by decide +kernel
theorem dX0_width_5 : decode cX0_width 5 = .ok (.iload 4, 2) := by decide +kernel
theorem dX0_width_7 : decode cX0_width 7 = .ok (.aload_n 0, 1) := by decide +kernel
theorem dX0_width_8 : decode cX0_width 8 = .ok (.iload_n 1, 1) := by decide +kernel
theorem dX0_width_9 : decode cX0_width 9 = .ok (.invokevirtual 63, 3) := by decide +kernel
theorem dX0_width_12 : decode cX0_width 12 = .ok (.if_icmp .ge 63, 3) := by decide +kernel
theorem dX0_width_15 : decode cX0_width 15 = .ok (.bipush 64, 2) := by decide +kernel
theorem dX0_width_17 : decode cX0_width 17 = .ok (.aload_n 0, 1) := by decide +kernel
theorem dX0_width_18 : decode cX0_width 18 = .ok (.getfield 49, 3) := by decide +kernel
theorem dX0_width_21 : decode cX0_width 21 = .ok (.iconst 1, 1) := by decide +kernel
theorem dX0_width_22 : decode cX0_width 22 = .ok (.isub, 1) := by decide +kernel
theorem dX0_width_23 : decode cX0_width 23 = .ok (.iload_n 1, 1) := by decide +kernel
theorem dX0_width_24 : decode cX0_width 24 = .ok (.isub, 1) := by decide +kernel
theorem dX0_width_25 : decode cX0_width 25 = .ok (.imul, 1) := by decide +kernel
theorem dX0_width_26 : decode cX0_width 26 = .ok (.iload 4, 2) := by decide +kernel
end
section
set_option maxRecDepth 100000
theorem dX0_width_28 : decode cX0_width 28 = .ok (.iadd, 1) := by decide +kernel
theorem dX0_width_29 : decode cX0_width 29 = .ok (.istore 5, 2) := by decide +kernel
theorem dX0_width_31 : decode cX0_width 31 = .ok (.aload_n 0, 1) := by decide +kernel
theorem dX0_width_32 : decode cX0_width 32 = .ok (.getfield 13, 3) := by decide +kernel
theorem dX0_width_35 : decode cX0_width 35 = .ok (.iload 5, 2) := by decide +kernel
theorem dX0_width_37 : decode cX0_width 37 = .ok (.iaload, 1) := by decide +kernel
theorem dX0_width_38 : decode cX0_width 38 = .ok (.iload_n 2, 1) := by decide +kernel
theorem dX0_width_39 : decode cX0_width 39 = .ok (.if_icmp .gt 28, 3) := by decide +kernel
theorem dX0_width_42 : decode cX0_width 42 = .ok (.iload_n 3, 1) := by decide +kernel
theorem dX0_width_43 : decode cX0_width 43 = .ok (.ifCond .lt 14, 3) := by decide +kernel
theorem dX0_width_46 : decode cX0_width 46 = .ok (.aload_n 0, 1) := by decide +kernel
theorem dX0_width_47 : decode cX0_width 47 = .ok (.getfield 16, 3) := by decide +kernel
theorem dX0_width_50 : decode cX0_width 50 = .ok (.iload 5, 2) := by decide +kernel
theorem dX0_width_52 : decode cX0_width 52 = .ok (.iaload, 1) := by decide +kernel
theorem dX0_width_53 : decode cX0_width 53 = .ok (.iload_n 3, 1) := by decide +kernel
theorem dX0_width_54 : decode cX0_width 54 = .ok (.if_icmp .ge 13, 3) := by decide +kernel
theorem dX0_width_57 : decode cX0_width 57 = .ok (.aload_n 0, 1) := by decide +kernel
theorem dX0_width_58 : decode cX0_width 58 = .ok (.getfield 16, 3) := by decide +kernel
theorem dX0_width_61 : decode cX0_width 61 = .ok (.iload 5, 2) := by decide +kernel
theorem dX0_width_63 : decode cX0_width 63 = .ok (.iaload, 1) := by decide +kernel
theorem dX0_width_64 : decode cX0_width 64 = .ok (.goto 4, 3) := by decide +kernel
theorem dX0_width_67 : decode cX0_width 67 = .ok (.iload_n 3, 1) := by decide +kernel
theorem dX0_width_68 : decode cX0_width 68 = .ok (.istore_n 3, 1) := by decide +kernel
theorem dX0_width_69 : decode cX0_width 69 = .ok (.iinc 4 1, 3) := by decide +kernel
theorem dX0_width_72 : decode cX0_width 72 = .ok (.goto (-67), 3) := by decide +kernel
theorem dX0_width_75 : decode cX0_width 75 = .ok (.iload_n 3, 1) := by decide +kernel
theorem dX0_width_76 : decode cX0_width 76 = .ok (.ireturn, 1) := by decide +kernel
theorem dX0_cost_0 : decode cX0_cost 0 = .ok (.iload_n 2, 1) := by decide +kernel
theorem dX0_cost_1 : decode cX0_cost 1 = .ok (.ifCond .ge 7, 3) := by decide +kernel
theorem dX0_cost_4 : decode cX0_cost 4 = .ok (.iconst 0, 1) := by decide +kernel
theorem dX0_cost_5 : decode cX0_cost 5 = .ok (.goto 15, 3) := by decide +kernel
theorem dX0_cost_8 : decode cX0_cost 8 = .ok (.iload_n 2, 1) := by decide +kernel
theorem dX0_cost_9 : decode cX0_cost 9 = .ok (.bipush 100, 2) := by decide +kernel
theorem dX0_cost_11 : decode cX0_cost 11 = .ok (.if_icmp .le 8, 3) := by decide +kernel
theorem dX0_cost_14 : decode cX0_cost 14 = .ok (.bipush 100, 2) := by decide +kernel
theorem dX0_cost_16 : decode cX0_cost 16 = .ok (.goto 4, 3) := by decide +kernel
theorem dX0_cost_19 : decode cX0_cost 19 = .ok (.iload_n 2, 1) := by decide +kernel
theorem dX0_cost_20 : decode cX0_cost 20 = .ok (.istore 4, 2) := by decide +kernel
theorem dX0_cost_22 : decode cX0_cost 22 = .ok (.iload_n 3, 1) := by decide +kernel
theorem dX0_cost_23 : decode cX0_cost 23 = .ok (.ifCond .ge 7, 3) := by decide +kernel
theorem dX0_cost_26 : decode cX0_cost 26 = .ok (.iconst 0, 1) := by decide +kernel
theorem dX0_cost_27 : decode cX0_cost 27 = .ok (.goto 17, 3) := by decide +kernel
theorem dX0_cost_30 : decode cX0_cost 30 = .ok (.iload_n 3, 1) := by decide +kernel
theorem dX0_cost_31 : decode cX0_cost 31 = .ok (.sipush 200, 3) := by decide +kernel
theorem dX0_cost_34 : decode cX0_cost 34 = .ok (.if_icmp .le 9, 3) := by decide +kernel
theorem dX0_cost_37 : decode cX0_cost 37 = .ok (.sipush 200, 3) := by decide +kernel
theorem dX0_cost_40 : decode cX0_cost 40 = .ok (.goto 4, 3) := by decide +kernel
theorem dX0_cost_43 : decode cX0_cost 43 = .ok (.iload_n 3, 1) := by decide +kernel
theorem dX0_cost_44 : decode cX0_cost 44 = .ok (.istore 5, 2) := by decide +kernel
theorem dX0_cost_46 : decode cX0_cost 46 = .ok (.iconst (-1), 1) := by decide +kernel
theorem dX0_cost_47 : decode cX0_cost 47 = .ok (.istore 6, 2) := by decide +kernel
theorem dX0_cost_49 : decode cX0_cost 49 = .ok (.iconst 0, 1) := by decide +kernel
theorem dX0_cost_50 : decode cX0_cost 50 = .ok (.istore 7, 2) := by decide +kernel
theorem dX0_cost_52 : decode cX0_cost 52 = .ok (.iload 7, 2) := by decide +kernel
theorem dX0_cost_54 : decode cX0_cost 54 = .ok (.aload_n 0, 1) := by decide +kernel
theorem dX0_cost_55 : decode cX0_cost 55 = .ok (.iload_n 1, 1) := by decide +kernel
theorem dX0_cost_56 : decode cX0_cost 56 = .ok (.invokevirtual 63, 3) := by decide +kernel
theorem dX0_cost_59 : decode cX0_cost 59 = .ok (.if_icmp .ge 92, 3) := by decide +kernel
theorem dX0_cost_62 : decode cX0_cost 62 = .ok (.bipush 64, 2) := by decide +kernel
theorem dX0_cost_64 : decode cX0_cost 64 = .ok (.aload_n 0, 1) := by decide +kernel
theorem dX0_cost_65 : decode cX0_cost 65 = .ok (.getfield 49, 3) := by decide +kernel
theorem dX0_cost_68 : decode cX0_cost 68 = .ok (.iconst 1, 1) := by decide +kernel
theorem dX0_cost_69 : decode cX0_cost 69 = .ok (.isub, 1) := by decide +kernel
theorem dX0_cost_70 : decode cX0_cost 70 = .ok (.iload_n 1, 1) := by decide +kernel
theorem dX0_cost_71 : decode cX0_cost 71 = .ok (.isub, 1) := by decide +kernel
theorem dX0_cost_72 : decode cX0_cost 72 = .ok (.imul, 1) := by decide +kernel
theorem dX0_cost_73 : decode cX0_cost 73 = .ok (.iload 7, 2) := by decide +kernel
theorem dX0_cost_75 : decode cX0_cost 75 = .ok (.iadd, 1) := by decide +kernel
theorem dX0_cost_76 : decode cX0_cost 76 = .ok (.istore 8, 2) := by decide +kernel
theorem dX0_cost_78 : decode cX0_cost 78 = .ok (.aload_n 0, 1) := by decide +kernel
theorem dX0_cost_79 : decode cX0_cost 79 = .ok (.getfield 16, 3) := by decide +kernel
theorem dX0_cost_82 : decode cX0_cost 82 = .ok (.iload 8, 2) := by decide +kernel
theorem dX0_cost_84 : decode cX0_cost 84 = .ok (.iaload, 1) := by decide +kernel
theorem dX0_cost_85 : decode cX0_cost 85 = .ok (.iload 5, 2) := by decide +kernel
theorem dX0_cost_87 : decode cX0_cost 87 = .ok (.if_icmp .le 16, 3) := by decide +kernel
theorem dX0_cost_90 : decode cX0_cost 90 = .ok (.aload_n 0, 1) := by decide +kernel
theorem dX0_cost_91 : decode cX0_cost 91 = .ok (.getfield 16, 3) := by decide +kernel
theorem dX0_cost_94 : decode cX0_cost 94 = .ok (.iload 8, 2) := by decide +kernel
theorem dX0_cost_96 : decode cX0_cost 96 = .ok (.iaload, 1) := by decide +kernel
theorem dX0_cost_97 : decode cX0_cost 97 = .ok (.iload 5, 2) := by decide +kernel
theorem dX0_cost_99 : decode cX0_cost 99 = .ok (.isub, 1) := by decide +kernel
theorem dX0_cost_100 : decode cX0_cost 100 = .ok (.goto 4, 3) := by decide +kernel
theorem dX0_cost_103 : decode cX0_cost 103 = .ok (.iconst 0, 1) := by decide +kernel
theorem dX0_cost_104 : decode cX0_cost 104 = .ok (.istore 9, 2) := by decide +kernel
theorem dX0_cost_106 : decode cX0_cost 106 = .ok (.iload 4, 2) := by decide +kernel
theorem dX0_cost_108 : decode cX0_cost 108 = .ok (.aload_n 0, 1) := by decide +kernel
theorem dX0_cost_109 : decode cX0_cost 109 = .ok (.getfield 13, 3) := by decide +kernel
theorem dX0_cost_112 : decode cX0_cost 112 = .ok (.iload 8, 2) := by decide +kernel
theorem dX0_cost_114 : decode cX0_cost 114 = .ok (.iaload, 1) := by decide +kernel
theorem dX0_cost_115 : decode cX0_cost 115 = .ok (.imul, 1) := by decide +kernel
theorem dX0_cost_116 : decode cX0_cost 116 = .ok (.iload 9, 2) := by decide +kernel
theorem dX0_cost_118 : decode cX0_cost 118 = .ok (.iload 9, 2) := by decide +kernel
theorem dX0_cost_120 : decode cX0_cost 120 = .ok (.imul, 1) := by decide +kernel
theorem dX0_cost_121 : decode cX0_cost 121 = .ok (.iadd, 1) := by decide +kernel
theorem dX0_cost_122 : decode cX0_cost 122 = .ok (.istore 10, 2) := by decide +kernel
theorem dX0_cost_124 : decode cX0_cost 124 = .ok (.iload 6, 2) := by decide +kernel
theorem dX0_cost_126 : decode cX0_cost 126 = .ok (.ifCond .lt 10, 3) := by decide +kernel
theorem dX0_cost_129 : decode cX0_cost 129 = .ok (.iload 10, 2) := by decide +kernel
theorem dX0_cost_131 : decode cX0_cost 131 = .ok (.iload 6, 2) := by decide +kernel
theorem dX0_cost_133 : decode cX0_cost 133 = .ok (.if_icmp .ge 8, 3) := by decide +kernel
theorem dX0_cost_136 : decode cX0_cost 136 = .ok (.iload 10, 2) := by decide +kernel
theorem dX0_cost_138 : decode cX0_cost 138 = .ok (.goto 5, 3) := by decide +kernel
theorem dX0_cost_141 : decode cX0_cost 141 = .ok (.iload 6, 2) := by decide +kernel
theorem dX0_cost_143 : decode cX0_cost 143 = .ok (.istore 6, 2) := by decide +kernel
theorem dX0_cost_145 : decode cX0_cost 145 = .ok (.iinc 7 1, 3) := by decide +kernel
theorem dX0_cost_148 : decode cX0_cost 148 = .ok (.goto (-96), 3) := by decide +kernel
theorem dX0_cost_151 : decode cX0_cost 151 = .ok (.iload 6, 2) := by decide +kernel
theorem dX0_cost_153 : decode cX0_cost 153 = .ok (.ireturn, 1) := by decide +kernel
theorem dX0_best_0 : decode cX0_best 0 = .ok (.iload_n 1, 1) := by decide +kernel
theorem dX0_best_1 : decode cX0_best 1 = .ok (.ifCond .lt 11, 3) := by decide +kernel
theorem dX0_best_4 : decode cX0_best 4 = .ok (.iload_n 1, 1) := by decide +kernel
theorem dX0_best_5 : decode cX0_best 5 = .ok (.aload_n 0, 1) := by decide +kernel
theorem dX0_best_6 : decode cX0_best 6 = .ok (.getfield 49, 3) := by decide +kernel
theorem dX0_best_9 : decode cX0_best 9 = .ok (.if_icmp .lt 7, 3) := by decide +kernel
theorem dX0_best_12 : decode cX0_best 12 = .ok (.iconst (-1), 1) := by decide +kernel
theorem dX0_best_13 : decode cX0_best 13 = .ok (.goto 8, 3) := by decide +kernel
theorem dX0_best_16 : decode cX0_best 16 = .ok (.aload_n 0, 1) := by decide +kernel
theorem dX0_best_17 : decode cX0_best 17 = .ok (.iload_n 1, 1) := by decide +kernel
theorem dX0_best_18 : decode cX0_best 18 = .ok (.invokevirtual 63, 3) := by decide +kernel
theorem dX0_best_21 : decode cX0_best 21 = .ok (.ireturn, 1) := by decide +kernel
theorem dX0_last_0 : decode cX0_last 0 = .ok (.iconst (-1), 1) := by decide +kernel
theorem dX0_last_1 : decode cX0_last 1 = .ok (.istore 4, 2) := by decide +kernel
theorem dX0_last_3 : decode cX0_last 3 = .ok (.iconst 0, 1) := by decide +kernel
theorem dX0_last_4 : decode cX0_last 4 = .ok (.istore 5, 2) := by decide +kernel
theorem dX0_last_6 : decode cX0_last 6 = .ok (.iload 5, 2) := by decide +kernel
theorem dX0_last_8 : decode cX0_last 8 = .ok (.aload_n 0, 1) := by decide +kernel
theorem dX0_last_9 : decode cX0_last 9 = .ok (.iload_n 1, 1) := by decide +kernel
theorem dX0_last_10 : decode cX0_last 10 = .ok (.invokevirtual 63, 3) := by decide +kernel
theorem dX0_last_13 : decode cX0_last 13 = .ok (.if_icmp .ge 90, 3) := by decide +kernel
theorem dX0_last_16 : decode cX0_last 16 = .ok (.bipush 64, 2) := by decide +kernel
theorem dX0_last_18 : decode cX0_last 18 = .ok (.aload_n 0, 1) := by decide +kernel
theorem dX0_last_19 : decode cX0_last 19 = .ok (.getfield 49, 3) := by decide +kernel
theorem dX0_last_22 : decode cX0_last 22 = .ok (.iconst 1, 1) := by decide +kernel
theorem dX0_last_23 : decode cX0_last 23 = .ok (.isub, 1) := by decide +kernel
theorem dX0_last_24 : decode cX0_last 24 = .ok (.iload_n 1, 1) := by decide +kernel
theorem dX0_last_25 : decode cX0_last 25 = .ok (.isub, 1) := by decide +kernel
theorem dX0_last_26 : decode cX0_last 26 = .ok (.imul, 1) := by decide +kernel
theorem dX0_last_27 : decode cX0_last 27 = .ok (.iload 5, 2) := by decide +kernel
theorem dX0_last_29 : decode cX0_last 29 = .ok (.iadd, 1) := by decide +kernel
theorem dX0_last_30 : decode cX0_last 30 = .ok (.istore 6, 2) := by decide +kernel
theorem dX0_last_32 : decode cX0_last 32 = .ok (.aload_n 0, 1) := by decide +kernel
theorem dX0_last_33 : decode cX0_last 33 = .ok (.getfield 13, 3) := by decide +kernel
theorem dX0_last_36 : decode cX0_last 36 = .ok (.iload 6, 2) := by decide +kernel
theorem dX0_last_38 : decode cX0_last 38 = .ok (.iaload, 1) := by decide +kernel
theorem dX0_last_39 : decode cX0_last 39 = .ok (.iload_n 2, 1) := by decide +kernel
theorem dX0_last_40 : decode cX0_last 40 = .ok (.if_icmp .gt 18, 3) := by decide +kernel
theorem dX0_last_43 : decode cX0_last 43 = .ok (.aload_n 0, 1) := by decide +kernel
theorem dX0_last_44 : decode cX0_last 44 = .ok (.getfield 16, 3) := by decide +kernel
theorem dX0_last_47 : decode cX0_last 47 = .ok (.iload 6, 2) := by decide +kernel
theorem dX0_last_49 : decode cX0_last 49 = .ok (.iaload, 1) := by decide +kernel
theorem dX0_last_50 : decode cX0_last 50 = .ok (.iload_n 3, 1) := by decide +kernel
theorem dX0_last_51 : decode cX0_last 51 = .ok (.if_icmp .gt 7, 3) := by decide +kernel
theorem dX0_last_54 : decode cX0_last 54 = .ok (.iconst 1, 1) := by decide +kernel
theorem dX0_last_55 : decode cX0_last 55 = .ok (.goto 4, 3) := by decide +kernel
theorem dX0_last_58 : decode cX0_last 58 = .ok (.iconst 0, 1) := by decide +kernel
theorem dX0_last_59 : decode cX0_last 59 = .ok (.istore 7, 2) := by decide +kernel
theorem dX0_last_61 : decode cX0_last 61 = .ok (.iload 7, 2) := by decide +kernel
theorem dX0_last_63 : decode cX0_last 63 = .ok (.ifCond .eq 30, 3) := by decide +kernel
theorem dX0_last_66 : decode cX0_last 66 = .ok (.iload 4, 2) := by decide +kernel
theorem dX0_last_68 : decode cX0_last 68 = .ok (.ifCond .lt 15, 3) := by decide +kernel
theorem dX0_last_71 : decode cX0_last 71 = .ok (.aload_n 0, 1) := by decide +kernel
theorem dX0_last_72 : decode cX0_last 72 = .ok (.getfield 19, 3) := by decide +kernel
theorem dX0_last_75 : decode cX0_last 75 = .ok (.iload 6, 2) := by decide +kernel
theorem dX0_last_77 : decode cX0_last 77 = .ok (.iaload, 1) := by decide +kernel
theorem dX0_last_78 : decode cX0_last 78 = .ok (.iload 4, 2) := by decide +kernel
theorem dX0_last_80 : decode cX0_last 80 = .ok (.if_icmp .ge 13, 3) := by decide +kernel
theorem dX0_last_83 : decode cX0_last 83 = .ok (.aload_n 0, 1) := by decide +kernel
theorem dX0_last_84 : decode cX0_last 84 = .ok (.getfield 19, 3) := by decide +kernel
theorem dX0_last_87 : decode cX0_last 87 = .ok (.iload 6, 2) := by decide +kernel
theorem dX0_last_89 : decode cX0_last 89 = .ok (.iaload, 1) := by decide +kernel
theorem dX0_last_90 : decode cX0_last 90 = .ok (.goto 5, 3) := by decide +kernel
theorem dX0_last_93 : decode cX0_last 93 = .ok (.iload 4, 2) := by decide +kernel
theorem dX0_last_95 : decode cX0_last 95 = .ok (.istore 4, 2) := by decide +kernel
theorem dX0_last_97 : decode cX0_last 97 = .ok (.iinc 5 1, 3) := by decide +kernel
theorem dX0_last_100 : decode cX0_last 100 = .ok (.goto (-94), 3) := by decide +kernel
theorem dX0_last_103 : decode cX0_last 103 = .ok (.iload 4, 2) := by decide +kernel
theorem dX0_last_105 : decode cX0_last 105 = .ok (.ireturn, 1) := by decide +kernel
theorem dX1_init_0 : decode cX1_init 0 = .ok (.aload_n 0, 1) := by decide +kernel
theorem dX1_init_1 : decode cX1_init 1 = .ok (.invokespecial 1, 3) := by decide +kernel
theorem dX1_init_4 : decode cX1_init 4 = .ok (.aload_n 0, 1) := by decide +kernel
theorem dX1_init_5 : decode cX1_init 5 = .ok (.bipush 48, 2) := by decide +kernel
theorem dX1_init_7 : decode cX1_init 7 = .ok (.newarray .int, 2) := by decide +kernel
theorem dX1_init_9 : decode cX1_init 9 = .ok (.putfield 7, 3) := by decide +kernel
theorem dX1_init_12 : decode cX1_init 12 = .ok (.aload_n 0, 1) := by decide +kernel
theorem dX1_init_13 : decode cX1_init 13 = .ok (.bipush 48, 2) := by decide +kernel
theorem dX1_init_15 : decode cX1_init 15 = .ok (.newarray .int, 2) := by decide +kernel
theorem dX1_init_17 : decode cX1_init 17 = .ok (.putfield 13, 3) := by decide +kernel
theorem dX1_init_20 : decode cX1_init 20 = .ok (.aload_n 0, 1) := by decide +kernel
theorem dX1_init_21 : decode cX1_init 21 = .ok (.bipush 11, 2) := by decide +kernel
theorem dX1_init_23 : decode cX1_init 23 = .ok (.newarray .int, 2) := by decide +kernel
theorem dX1_init_25 : decode cX1_init 25 = .ok (.putfield 16, 3) := by decide +kernel
theorem dX1_init_28 : decode cX1_init 28 = .ok (.aload_n 0, 1) := by decide +kernel
theorem dX1_init_29 : decode cX1_init 29 = .ok (.bipush 11, 2) := by decide +kernel
theorem dX1_init_31 : decode cX1_init 31 = .ok (.newarray .int, 2) := by decide +kernel
theorem dX1_init_33 : decode cX1_init 33 = .ok (.putfield 19, 3) := by decide +kernel
theorem dX1_init_36 : decode cX1_init 36 = .ok (.aload_n 0, 1) := by decide +kernel
theorem dX1_init_37 : decode cX1_init 37 = .ok (.bipush 11, 2) := by decide +kernel
theorem dX1_init_39 : decode cX1_init 39 = .ok (.newarray .int, 2) := by decide +kernel
theorem dX1_init_41 : decode cX1_init 41 = .ok (.putfield 22, 3) := by decide +kernel
theorem dX1_init_44 : decode cX1_init 44 = .ok (.aload_n 0, 1) := by decide +kernel
theorem dX1_init_45 : decode cX1_init 45 = .ok (.bipush 64, 2) := by decide +kernel
theorem dX1_init_47 : decode cX1_init 47 = .ok (.newarray .int, 2) := by decide +kernel
theorem dX1_init_49 : decode cX1_init 49 = .ok (.putfield 25, 3) := by decide +kernel
theorem dX1_init_52 : decode cX1_init 52 = .ok (.aload_n 0, 1) := by decide +kernel
theorem dX1_init_53 : decode cX1_init 53 = .ok (.bipush 64, 2) := by decide +kernel
theorem dX1_init_55 : decode cX1_init 55 = .ok (.newarray .int, 2) := by decide +kernel
theorem dX1_init_57 : decode cX1_init 57 = .ok (.putfield 28, 3) := by decide +kernel
theorem dX1_init_60 : decode cX1_init 60 = .ok (.aload_n 0, 1) := by decide +kernel
theorem dX1_init_61 : decode cX1_init 61 = .ok (.bipush 64, 2) := by decide +kernel
theorem dX1_init_63 : decode cX1_init 63 = .ok (.newarray .int, 2) := by decide +kernel
theorem dX1_init_65 : decode cX1_init 65 = .ok (.putfield 31, 3) := by decide +kernel
theorem dX1_init_68 : decode cX1_init 68 = .ok (.return_, 1) := by decide +kernel
theorem dX1_token_0 : decode cX1_token 0 = .ok (.iload_n 1, 1) := by decide +kernel
theorem dX1_token_1 : decode cX1_token 1 = .ok (.ifCond .lt 36, 3) := by decide +kernel
theorem dX1_token_4 : decode cX1_token 4 = .ok (.iload_n 1, 1) := by decide +kernel
theorem dX1_token_5 : decode cX1_token 5 = .ok (.iconst 4, 1) := by decide +kernel
theorem dX1_token_6 : decode cX1_token 6 = .ok (.if_icmp .gt 31, 3) := by decide +kernel
theorem dX1_token_9 : decode cX1_token 9 = .ok (.iload_n 1, 1) := by decide +kernel
theorem dX1_token_10 : decode cX1_token 10 = .ok (.iload_n 2, 1) := by decide +kernel
theorem dX1_token_11 : decode cX1_token 11 = .ok (.invokestatic 34, 3) := by decide +kernel
theorem dX1_token_14 : decode cX1_token 14 = .ok (.ifCond .ne 23, 3) := by decide +kernel
theorem dX1_token_17 : decode cX1_token 17 = .ok (.aload_n 0, 1) := by decide +kernel
theorem dX1_token_18 : decode cX1_token 18 = .ok (.getfield 38, 3) := by decide +kernel
theorem dX1_token_21 : decode cX1_token 21 = .ok (.iload_n 1, 1) := by decide +kernel
theorem dX1_token_22 : decode cX1_token 22 = .ok (.invokestatic 42, 3) := by decide +kernel
theorem dX1_token_25 : decode cX1_token 25 = .ok (.if_icmp .lt 12, 3) := by decide +kernel
theorem dX1_token_28 : decode cX1_token 28 = .ok (.aload_n 0, 1) := by decide +kernel
theorem dX1_token_29 : decode cX1_token 29 = .ok (.getfield 46, 3) := by decide +kernel
theorem dX1_token_32 : decode cX1_token 32 = .ok (.bipush 48, 2) := by decide +kernel
theorem dX1_token_34 : decode cX1_token 34 = .ok (.if_icmp .ne 5, 3) := by decide +kernel
theorem dX1_token_37 : decode cX1_token 37 = .ok (.iconst (-1), 1) := by decide +kernel
theorem dX1_token_38 : decode cX1_token 38 = .ok (.ireturn, 1) := by decide +kernel
theorem dX1_token_39 : decode cX1_token 39 = .ok (.iload_n 1, 1) := by decide +kernel
theorem dX1_token_40 : decode cX1_token 40 = .ok (.ifCond .ne 12, 3) := by decide +kernel
theorem dX1_token_43 : decode cX1_token 43 = .ok (.aload_n 0, 1) := by decide +kernel
theorem dX1_token_44 : decode cX1_token 44 = .ok (.getfield 38, 3) := by decide +kernel
theorem dX1_token_47 : decode cX1_token 47 = .ok (.bipush 10, 2) := by decide +kernel
theorem dX1_token_49 : decode cX1_token 49 = .ok (.if_icmp .eq 17, 3) := by decide +kernel
theorem dX1_token_52 : decode cX1_token 52 = .ok (.iload_n 1, 1) := by decide +kernel
theorem dX1_token_53 : decode cX1_token 53 = .ok (.iconst 4, 1) := by decide +kernel
theorem dX1_token_54 : decode cX1_token 54 = .ok (.if_icmp .ne 14, 3) := by decide +kernel
theorem dX1_token_57 : decode cX1_token 57 = .ok (.aload_n 0, 1) := by decide +kernel
theorem dX1_token_58 : decode cX1_token 58 = .ok (.getfield 49, 3) := by decide +kernel
theorem dX1_token_61 : decode cX1_token 61 = .ok (.bipush 6, 2) := by decide +kernel
theorem dX1_token_63 : decode cX1_token 63 = .ok (.if_icmp .ne 5, 3) := by decide +kernel
theorem dX1_token_66 : decode cX1_token 66 = .ok (.iconst (-1), 1) := by decide +kernel
theorem dX1_token_67 : decode cX1_token 67 = .ok (.ireturn, 1) := by decide +kernel
theorem dX1_token_68 : decode cX1_token 68 = .ok (.aload_n 0, 1) := by decide +kernel
theorem dX1_token_69 : decode cX1_token 69 = .ok (.getfield 7, 3) := by decide +kernel
theorem dX1_token_72 : decode cX1_token 72 = .ok (.aload_n 0, 1) := by decide +kernel
theorem dX1_token_73 : decode cX1_token 73 = .ok (.getfield 46, 3) := by decide +kernel
theorem dX1_token_76 : decode cX1_token 76 = .ok (.iload_n 1, 1) := by decide +kernel
theorem dX1_token_77 : decode cX1_token 77 = .ok (.iastore, 1) := by decide +kernel
theorem dX1_token_78 : decode cX1_token 78 = .ok (.aload_n 0, 1) := by decide +kernel
theorem dX1_token_79 : decode cX1_token 79 = .ok (.getfield 13, 3) := by decide +kernel
theorem dX1_token_82 : decode cX1_token 82 = .ok (.aload_n 0, 1) := by decide +kernel
theorem dX1_token_83 : decode cX1_token 83 = .ok (.getfield 46, 3) := by decide +kernel
theorem dX1_token_86 : decode cX1_token 86 = .ok (.iload_n 2, 1) := by decide +kernel
theorem dX1_token_87 : decode cX1_token 87 = .ok (.iastore, 1) := by decide +kernel
theorem dX1_token_88 : decode cX1_token 88 = .ok (.aload_n 0, 1) := by decide +kernel
theorem dX1_token_89 : decode cX1_token 89 = .ok (.dup, 1) := by decide +kernel
theorem dX1_token_90 : decode cX1_token 90 = .ok (.getfield 46, 3) := by decide +kernel
theorem dX1_token_93 : decode cX1_token 93 = .ok (.iconst 1, 1) := by decide +kernel
theorem dX1_token_94 : decode cX1_token 94 = .ok (.iadd, 1) := by decide +kernel
theorem dX1_token_95 : decode cX1_token 95 = .ok (.putfield 46, 3) := by decide +kernel
theorem dX1_token_98 : decode cX1_token 98 = .ok (.iload_n 1, 1) := by decide +kernel
theorem dX1_token_99 : decode cX1_token 99 = .ok (.iconst 4, 1) := by decide +kernel
theorem dX1_token_100 : decode cX1_token 100 = .ok (.if_icmp .ne 13, 3) := by decide +kernel
theorem dX1_token_103 : decode cX1_token 103 = .ok (.aload_n 0, 1) := by decide +kernel
theorem dX1_token_104 : decode cX1_token 104 = .ok (.dup, 1) := by decide +kernel
theorem dX1_token_105 : decode cX1_token 105 = .ok (.getfield 49, 3) := by decide +kernel
theorem dX1_token_108 : decode cX1_token 108 = .ok (.iconst 1, 1) := by decide +kernel
theorem dX1_token_109 : decode cX1_token 109 = .ok (.iadd, 1) := by decide +kernel
theorem dX1_token_110 : decode cX1_token 110 = .ok (.putfield 49, 3) := by decide +kernel
theorem dX1_token_113 : decode cX1_token 113 = .ok (.aload_n 0, 1) := by decide +kernel
theorem dX1_token_114 : decode cX1_token 114 = .ok (.aload_n 0, 1) := by decide +kernel
theorem dX1_token_115 : decode cX1_token 115 = .ok (.getfield 38, 3) := by decide +kernel
theorem dX1_token_118 : decode cX1_token 118 = .ok (.iload_n 1, 1) := by decide +kernel
theorem dX1_token_119 : decode cX1_token 119 = .ok (.invokestatic 42, 3) := by decide +kernel
theorem dX1_token_122 : decode cX1_token 122 = .ok (.isub, 1) := by decide +kernel
theorem dX1_token_123 : decode cX1_token 123 = .ok (.iconst 1, 1) := by decide +kernel
theorem dX1_token_124 : decode cX1_token 124 = .ok (.iadd, 1) := by decide +kernel
theorem dX1_token_125 : decode cX1_token 125 = .ok (.putfield 38, 3) := by decide +kernel
theorem dX1_token_128 : decode cX1_token 128 = .ok (.aload_n 0, 1) := by decide +kernel
theorem dX1_token_129 : decode cX1_token 129 = .ok (.getfield 38, 3) := by decide +kernel
theorem dX1_token_132 : decode cX1_token 132 = .ok (.ireturn, 1) := by decide +kernel
theorem dX1_badArg_0 : decode cX1_badArg 0 = .ok (.iload_n 0, 1) := by decide +kernel
theorem dX1_badArg_1 : decode cX1_badArg 1 = .ok (.ifCond .ne 13, 3) := by decide +kernel
theorem dX1_badArg_4 : decode cX1_badArg 4 = .ok (.iload_n 1, 1) := by decide +kernel
theorem dX1_badArg_5 : decode cX1_badArg 5 = .ok (.ifCond .lt 24, 3) := by decide +kernel
theorem dX1_badArg_8 : decode cX1_badArg 8 = .ok (.iload_n 1, 1) := by decide +kernel
theorem dX1_badArg_9 : decode cX1_badArg 9 = .ok (.bipush 40, 2) := by decide +kernel
theorem dX1_badArg_11 : decode cX1_badArg 11 = .ok (.if_icmp .gt 18, 3) := by decide +kernel
theorem dX1_badArg_14 : decode cX1_badArg 14 = .ok (.iload_n 0, 1) := by decide +kernel
theorem dX1_badArg_15 : decode cX1_badArg 15 = .ok (.iconst 3, 1) := by decide +kernel
theorem dX1_badArg_16 : decode cX1_badArg 16 = .ok (.if_icmp .ne 17, 3) := by decide +kernel
theorem dX1_badArg_19 : decode cX1_badArg 19 = .ok (.iload_n 1, 1) := by decide +kernel
theorem dX1_badArg_20 : decode cX1_badArg 20 = .ok (.ifCond .lt 9, 3) := by decide +kernel
theorem dX1_badArg_23 : decode cX1_badArg 23 = .ok (.iload_n 1, 1) := by decide +kernel
theorem dX1_badArg_24 : decode cX1_badArg 24 = .ok (.bipush 20, 2) := by decide +kernel
end
section
set_option maxRecDepth 100000
theorem dX1_badArg_26 : decode cX1_badArg 26 = .ok (.if_icmp .le 7, 3) := by decide +kernel
theorem dX1_badArg_29 : decode cX1_badArg 29 = .ok (.iconst 1, 1) := by decide +kernel
theorem dX1_badArg_30 : decode cX1_badArg 30 = .ok (.goto 4, 3) := by decide +kernel
theorem dX1_badArg_33 : decode cX1_badArg 33 = .ok (.iconst 0, 1) := by decide +kernel
theorem dX1_badArg_34 : decode cX1_badArg 34 = .ok (.ireturn, 1) := by decide +kernel
theorem dX1_takes_0 : decode cX1_takes 0 = .ok (.iload_n 0, 1) := by decide +kernel
theorem dX1_takes_1 : decode cX1_takes 1 = .ok (.ifCond .ne 7, 3) := by decide +kernel
theorem dX1_takes_4 : decode cX1_takes 4 = .ok (.iconst 0, 1) := by decide +kernel
theorem dX1_takes_5 : decode cX1_takes 5 = .ok (.goto 13, 3) := by decide +kernel
theorem dX1_takes_8 : decode cX1_takes 8 = .ok (.iload_n 0, 1) := by decide +kernel
theorem dX1_takes_9 : decode cX1_takes 9 = .ok (.iconst 3, 1) := by decide +kernel
theorem dX1_takes_10 : decode cX1_takes 10 = .ok (.if_icmp .ne 7, 3) := by decide +kernel
theorem dX1_takes_13 : decode cX1_takes 13 = .ok (.iconst 1, 1) := by decide +kernel
theorem dX1_takes_14 : decode cX1_takes 14 = .ok (.goto 4, 3) := by decide +kernel
theorem dX1_takes_17 : decode cX1_takes 17 = .ok (.iconst 2, 1) := by decide +kernel
theorem dX1_takes_18 : decode cX1_takes 18 = .ok (.ireturn, 1) := by decide +kernel
theorem dX1_clear_0 : decode cX1_clear 0 = .ok (.aload_n 0, 1) := by decide +kernel
theorem dX1_clear_1 : decode cX1_clear 1 = .ok (.iconst 0, 1) := by decide +kernel
theorem dX1_clear_2 : decode cX1_clear 2 = .ok (.putfield 46, 3) := by decide +kernel
theorem dX1_clear_5 : decode cX1_clear 5 = .ok (.aload_n 0, 1) := by decide +kernel
theorem dX1_clear_6 : decode cX1_clear 6 = .ok (.iconst 0, 1) := by decide +kernel
theorem dX1_clear_7 : decode cX1_clear 7 = .ok (.putfield 38, 3) := by decide +kernel
theorem dX1_clear_10 : decode cX1_clear 10 = .ok (.aload_n 0, 1) := by decide +kernel
theorem dX1_clear_11 : decode cX1_clear 11 = .ok (.iconst 0, 1) := by decide +kernel
theorem dX1_clear_12 : decode cX1_clear 12 = .ok (.putfield 49, 3) := by decide +kernel
theorem dX1_clear_15 : decode cX1_clear 15 = .ok (.return_, 1) := by decide +kernel
theorem dX1_lines_0 : decode cX1_lines 0 = .ok (.aload_n 0, 1) := by decide +kernel
theorem dX1_lines_1 : decode cX1_lines 1 = .ok (.iload_n 1, 1) := by decide +kernel
theorem dX1_lines_2 : decode cX1_lines 2 = .ok (.invokevirtual 67, 3) := by decide +kernel
theorem dX1_lines_5 : decode cX1_lines 5 = .ok (.ifCond .eq 5, 3) := by decide +kernel
theorem dX1_lines_8 : decode cX1_lines 8 = .ok (.iconst (-1), 1) := by decide +kernel
theorem dX1_lines_9 : decode cX1_lines 9 = .ok (.ireturn, 1) := by decide +kernel
theorem dX1_lines_10 : decode cX1_lines 10 = .ok (.iconst (-1), 1) := by decide +kernel
theorem dX1_lines_11 : decode cX1_lines 11 = .ok (.istore_n 3, 1) := by decide +kernel
theorem dX1_lines_12 : decode cX1_lines 12 = .ok (.aload_n 0, 1) := by decide +kernel
theorem dX1_lines_13 : decode cX1_lines 13 = .ok (.iload_n 1, 1) := by decide +kernel
theorem dX1_lines_14 : decode cX1_lines 14 = .ok (.invokevirtual 71, 3) := by decide +kernel
theorem dX1_lines_17 : decode cX1_lines 17 = .ok (.istore 4, 2) := by decide +kernel
theorem dX1_lines_19 : decode cX1_lines 19 = .ok (.iconst 0, 1) := by decide +kernel
theorem dX1_lines_20 : decode cX1_lines 20 = .ok (.istore 5, 2) := by decide +kernel
theorem dX1_lines_22 : decode cX1_lines 22 = .ok (.iload 5, 2) := by decide +kernel
theorem dX1_lines_24 : decode cX1_lines 24 = .ok (.iload 4, 2) := by decide +kernel
theorem dX1_lines_26 : decode cX1_lines 26 = .ok (.if_icmp .ge 43, 3) := by decide +kernel
theorem dX1_lines_29 : decode cX1_lines 29 = .ok (.aload_n 0, 1) := by decide +kernel
theorem dX1_lines_30 : decode cX1_lines 30 = .ok (.getfield 28, 3) := by decide +kernel
theorem dX1_lines_33 : decode cX1_lines 33 = .ok (.iload 5, 2) := by decide +kernel
theorem dX1_lines_35 : decode cX1_lines 35 = .ok (.iaload, 1) := by decide +kernel
theorem dX1_lines_36 : decode cX1_lines 36 = .ok (.iload_n 2, 1) := by decide +kernel
theorem dX1_lines_37 : decode cX1_lines 37 = .ok (.if_icmp .gt 26, 3) := by decide +kernel
theorem dX1_lines_40 : decode cX1_lines 40 = .ok (.iload_n 3, 1) := by decide +kernel
theorem dX1_lines_41 : decode cX1_lines 41 = .ok (.ifCond .lt 14, 3) := by decide +kernel
theorem dX1_lines_44 : decode cX1_lines 44 = .ok (.aload_n 0, 1) := by decide +kernel
theorem dX1_lines_45 : decode cX1_lines 45 = .ok (.getfield 25, 3) := by decide +kernel
theorem dX1_lines_48 : decode cX1_lines 48 = .ok (.iload 5, 2) := by decide +kernel
theorem dX1_lines_50 : decode cX1_lines 50 = .ok (.iaload, 1) := by decide +kernel
theorem dX1_lines_51 : decode cX1_lines 51 = .ok (.iload_n 3, 1) := by decide +kernel
theorem dX1_lines_52 : decode cX1_lines 52 = .ok (.if_icmp .ge 11, 3) := by decide +kernel
theorem dX1_lines_55 : decode cX1_lines 55 = .ok (.aload_n 0, 1) := by decide +kernel
theorem dX1_lines_56 : decode cX1_lines 56 = .ok (.getfield 25, 3) := by decide +kernel
theorem dX1_lines_59 : decode cX1_lines 59 = .ok (.iload 5, 2) := by decide +kernel
theorem dX1_lines_61 : decode cX1_lines 61 = .ok (.iaload, 1) := by decide +kernel
theorem dX1_lines_62 : decode cX1_lines 62 = .ok (.istore_n 3, 1) := by decide +kernel
theorem dX1_lines_63 : decode cX1_lines 63 = .ok (.iinc 5 1, 3) := by decide +kernel
theorem dX1_lines_66 : decode cX1_lines 66 = .ok (.goto (-44), 3) := by decide +kernel
theorem dX1_lines_69 : decode cX1_lines 69 = .ok (.iload_n 3, 1) := by decide +kernel
theorem dX1_lines_70 : decode cX1_lines 70 = .ok (.ireturn, 1) := by decide +kernel
theorem dX1_missing_0 : decode cX1_missing 0 = .ok (.iload_n 1, 1) := by decide +kernel
theorem dX1_missing_1 : decode cX1_missing 1 = .ok (.ifCond .lt 11, 3) := by decide +kernel
theorem dX1_missing_4 : decode cX1_missing 4 = .ok (.iload_n 1, 1) := by decide +kernel
theorem dX1_missing_5 : decode cX1_missing 5 = .ok (.aload_n 0, 1) := by decide +kernel
theorem dX1_missing_6 : decode cX1_missing 6 = .ok (.getfield 38, 3) := by decide +kernel
theorem dX1_missing_9 : decode cX1_missing 9 = .ok (.if_icmp .lt 7, 3) := by decide +kernel
theorem dX1_missing_12 : decode cX1_missing 12 = .ok (.iconst 1, 1) := by decide +kernel
theorem dX1_missing_13 : decode cX1_missing 13 = .ok (.goto 4, 3) := by decide +kernel
theorem dX1_missing_16 : decode cX1_missing 16 = .ok (.iconst 0, 1) := by decide +kernel
theorem dX1_missing_17 : decode cX1_missing 17 = .ok (.ireturn, 1) := by decide +kernel
theorem dX1_makeAll_0 : decode cX1_makeAll 0 = .ok (.iconst 1, 1) := by decide +kernel
theorem dX1_makeAll_1 : decode cX1_makeAll 1 = .ok (.aload_n 0, 1) := by decide +kernel
theorem dX1_makeAll_2 : decode cX1_makeAll 2 = .ok (.getfield 49, 3) := by decide +kernel
theorem dX1_makeAll_5 : decode cX1_makeAll 5 = .ok (.ishl, 1) := by decide +kernel
theorem dX1_makeAll_6 : decode cX1_makeAll 6 = .ok (.istore_n 2, 1) := by decide +kernel
theorem dX1_makeAll_7 : decode cX1_makeAll 7 = .ok (.iconst 0, 1) := by decide +kernel
theorem dX1_makeAll_8 : decode cX1_makeAll 8 = .ok (.istore_n 3, 1) := by decide +kernel
theorem dX1_makeAll_9 : decode cX1_makeAll 9 = .ok (.iload_n 3, 1) := by decide +kernel
theorem dX1_makeAll_10 : decode cX1_makeAll 10 = .ok (.iload_n 2, 1) := by decide +kernel
theorem dX1_makeAll_11 : decode cX1_makeAll 11 = .ok (.if_icmp .ge 71, 3) := by decide +kernel
theorem dX1_makeAll_14 : decode cX1_makeAll 14 = .ok (.aload_n 0, 1) := by decide +kernel
theorem dX1_makeAll_15 : decode cX1_makeAll 15 = .ok (.iload_n 3, 1) := by decide +kernel
theorem dX1_makeAll_16 : decode cX1_makeAll 16 = .ok (.invokevirtual 63, 3) := by decide +kernel
theorem dX1_makeAll_19 : decode cX1_makeAll 19 = .ok (.aload_n 0, 1) := by decide +kernel
theorem dX1_makeAll_20 : decode cX1_makeAll 20 = .ok (.getfield 25, 3) := by decide +kernel
theorem dX1_makeAll_23 : decode cX1_makeAll 23 = .ok (.iload_n 3, 1) := by decide +kernel
theorem dX1_makeAll_24 : decode cX1_makeAll 24 = .ok (.aload_n 0, 1) := by decide +kernel
theorem dX1_makeAll_25 : decode cX1_makeAll 25 = .ok (.getfield 16, 3) := by decide +kernel
theorem dX1_makeAll_28 : decode cX1_makeAll 28 = .ok (.aload_n 0, 1) := by decide +kernel
theorem dX1_makeAll_29 : decode cX1_makeAll 29 = .ok (.getfield 52, 3) := by decide +kernel
theorem dX1_makeAll_32 : decode cX1_makeAll 32 = .ok (.iconst 1, 1) := by decide +kernel
theorem dX1_makeAll_33 : decode cX1_makeAll 33 = .ok (.isub, 1) := by decide +kernel
theorem dX1_makeAll_34 : decode cX1_makeAll 34 = .ok (.iload_n 1, 1) := by decide +kernel
theorem dX1_makeAll_35 : decode cX1_makeAll 35 = .ok (.isub, 1) := by decide +kernel
theorem dX1_makeAll_36 : decode cX1_makeAll 36 = .ok (.iaload, 1) := by decide +kernel
theorem dX1_makeAll_37 : decode cX1_makeAll 37 = .ok (.iastore, 1) := by decide +kernel
theorem dX1_makeAll_38 : decode cX1_makeAll 38 = .ok (.aload_n 0, 1) := by decide +kernel
theorem dX1_makeAll_39 : decode cX1_makeAll 39 = .ok (.getfield 28, 3) := by decide +kernel
theorem dX1_makeAll_42 : decode cX1_makeAll 42 = .ok (.iload_n 3, 1) := by decide +kernel
theorem dX1_makeAll_43 : decode cX1_makeAll 43 = .ok (.aload_n 0, 1) := by decide +kernel
theorem dX1_makeAll_44 : decode cX1_makeAll 44 = .ok (.getfield 19, 3) := by decide +kernel
theorem dX1_makeAll_47 : decode cX1_makeAll 47 = .ok (.aload_n 0, 1) := by decide +kernel
theorem dX1_makeAll_48 : decode cX1_makeAll 48 = .ok (.getfield 52, 3) := by decide +kernel
theorem dX1_makeAll_51 : decode cX1_makeAll 51 = .ok (.iconst 1, 1) := by decide +kernel
theorem dX1_makeAll_52 : decode cX1_makeAll 52 = .ok (.isub, 1) := by decide +kernel
theorem dX1_makeAll_53 : decode cX1_makeAll 53 = .ok (.iload_n 1, 1) := by decide +kernel
theorem dX1_makeAll_54 : decode cX1_makeAll 54 = .ok (.isub, 1) := by decide +kernel
theorem dX1_makeAll_55 : decode cX1_makeAll 55 = .ok (.iaload, 1) := by decide +kernel
theorem dX1_makeAll_56 : decode cX1_makeAll 56 = .ok (.iastore, 1) := by decide +kernel
theorem dX1_makeAll_57 : decode cX1_makeAll 57 = .ok (.aload_n 0, 1) := by decide +kernel
theorem dX1_makeAll_58 : decode cX1_makeAll 58 = .ok (.getfield 31, 3) := by decide +kernel
theorem dX1_makeAll_61 : decode cX1_makeAll 61 = .ok (.iload_n 3, 1) := by decide +kernel
theorem dX1_makeAll_62 : decode cX1_makeAll 62 = .ok (.aload_n 0, 1) := by decide +kernel
theorem dX1_makeAll_63 : decode cX1_makeAll 63 = .ok (.getfield 22, 3) := by decide +kernel
theorem dX1_makeAll_66 : decode cX1_makeAll 66 = .ok (.aload_n 0, 1) := by decide +kernel
theorem dX1_makeAll_67 : decode cX1_makeAll 67 = .ok (.getfield 52, 3) := by decide +kernel
theorem dX1_makeAll_70 : decode cX1_makeAll 70 = .ok (.iconst 1, 1) := by decide +kernel
theorem dX1_makeAll_71 : decode cX1_makeAll 71 = .ok (.isub, 1) := by decide +kernel
theorem dX1_makeAll_72 : decode cX1_makeAll 72 = .ok (.iload_n 1, 1) := by decide +kernel
theorem dX1_makeAll_73 : decode cX1_makeAll 73 = .ok (.isub, 1) := by decide +kernel
theorem dX1_makeAll_74 : decode cX1_makeAll 74 = .ok (.iaload, 1) := by decide +kernel
theorem dX1_makeAll_75 : decode cX1_makeAll 75 = .ok (.iastore, 1) := by decide +kernel
theorem dX1_makeAll_76 : decode cX1_makeAll 76 = .ok (.iinc 3 1, 3) := by decide +kernel
theorem dX1_makeAll_79 : decode cX1_makeAll 79 = .ok (.goto (-70), 3) := by decide +kernel
theorem dX1_makeAll_82 : decode cX1_makeAll 82 = .ok (.iload_n 2, 1) := by decide +kernel
theorem dX1_makeAll_83 : decode cX1_makeAll 83 = .ok (.ireturn, 1) := by decide +kernel
theorem dX1_make_0 : decode cX1_make 0 = .ok (.aload_n 0, 1) := by decide +kernel
theorem dX1_make_1 : decode cX1_make 1 = .ok (.iconst 0, 1) := by decide +kernel
theorem dX1_make_2 : decode cX1_make 2 = .ok (.putfield 52, 3) := by decide +kernel
theorem dX1_make_5 : decode cX1_make 5 = .ok (.iconst 0, 1) := by decide +kernel
theorem dX1_make_6 : decode cX1_make 6 = .ok (.istore_n 2, 1) := by decide +kernel
theorem dX1_make_7 : decode cX1_make 7 = .ok (.iconst 0, 1) := by decide +kernel
theorem dX1_make_8 : decode cX1_make 8 = .ok (.istore_n 3, 1) := by decide +kernel
theorem dX1_make_9 : decode cX1_make 9 = .ok (.iload_n 3, 1) := by decide +kernel
theorem dX1_make_10 : decode cX1_make 10 = .ok (.aload_n 0, 1) := by decide +kernel
theorem dX1_make_11 : decode cX1_make 11 = .ok (.getfield 46, 3) := by decide +kernel
theorem dX1_make_14 : decode cX1_make 14 = .ok (.if_icmp .ge 153, 3) := by decide +kernel
theorem dX1_make_17 : decode cX1_make 17 = .ok (.aload_n 0, 1) := by decide +kernel
theorem dX1_make_18 : decode cX1_make 18 = .ok (.getfield 7, 3) := by decide +kernel
theorem dX1_make_21 : decode cX1_make 21 = .ok (.iload_n 3, 1) := by decide +kernel
theorem dX1_make_22 : decode cX1_make 22 = .ok (.iaload, 1) := by decide +kernel
theorem dX1_make_23 : decode cX1_make 23 = .ok (.istore 4, 2) := by decide +kernel
theorem dX1_make_25 : decode cX1_make 25 = .ok (.iload 4, 2) := by decide +kernel
theorem dX1_make_27 : decode cX1_make 27 = .ok (.ifCond .ne 56, 3) := by decide +kernel
theorem dX1_make_30 : decode cX1_make 30 = .ok (.aload_n 0, 1) := by decide +kernel
theorem dX1_make_31 : decode cX1_make 31 = .ok (.getfield 16, 3) := by decide +kernel
theorem dX1_make_34 : decode cX1_make 34 = .ok (.aload_n 0, 1) := by decide +kernel
theorem dX1_make_35 : decode cX1_make 35 = .ok (.getfield 52, 3) := by decide +kernel
theorem dX1_make_38 : decode cX1_make 38 = .ok (.iconst 0, 1) := by decide +kernel
theorem dX1_make_39 : decode cX1_make 39 = .ok (.iastore, 1) := by decide +kernel
theorem dX1_make_40 : decode cX1_make 40 = .ok (.aload_n 0, 1) := by decide +kernel
theorem dX1_make_41 : decode cX1_make 41 = .ok (.getfield 19, 3) := by decide +kernel
theorem dX1_make_44 : decode cX1_make 44 = .ok (.aload_n 0, 1) := by decide +kernel
theorem dX1_make_45 : decode cX1_make 45 = .ok (.getfield 52, 3) := by decide +kernel
theorem dX1_make_48 : decode cX1_make 48 = .ok (.aload_n 0, 1) := by decide +kernel
theorem dX1_make_49 : decode cX1_make 49 = .ok (.getfield 13, 3) := by decide +kernel
theorem dX1_make_52 : decode cX1_make 52 = .ok (.iload_n 3, 1) := by decide +kernel
theorem dX1_make_53 : decode cX1_make 53 = .ok (.iaload, 1) := by decide +kernel
theorem dX1_make_54 : decode cX1_make 54 = .ok (.iastore, 1) := by decide +kernel
theorem dX1_make_55 : decode cX1_make 55 = .ok (.aload_n 0, 1) := by decide +kernel
theorem dX1_make_56 : decode cX1_make 56 = .ok (.getfield 22, 3) := by decide +kernel
theorem dX1_make_59 : decode cX1_make 59 = .ok (.aload_n 0, 1) := by decide +kernel
theorem dX1_make_60 : decode cX1_make 60 = .ok (.getfield 52, 3) := by decide +kernel
theorem dX1_make_63 : decode cX1_make 63 = .ok (.aload_n 0, 1) := by decide +kernel
theorem dX1_make_64 : decode cX1_make 64 = .ok (.getfield 13, 3) := by decide +kernel
theorem dX1_make_67 : decode cX1_make 67 = .ok (.iload_n 3, 1) := by decide +kernel
theorem dX1_make_68 : decode cX1_make 68 = .ok (.iaload, 1) := by decide +kernel
theorem dX1_make_69 : decode cX1_make 69 = .ok (.iastore, 1) := by decide +kernel
theorem dX1_make_70 : decode cX1_make 70 = .ok (.aload_n 0, 1) := by decide +kernel
theorem dX1_make_71 : decode cX1_make 71 = .ok (.dup, 1) := by decide +kernel
theorem dX1_make_72 : decode cX1_make 72 = .ok (.getfield 52, 3) := by decide +kernel
theorem dX1_make_75 : decode cX1_make 75 = .ok (.iconst 1, 1) := by decide +kernel
theorem dX1_make_76 : decode cX1_make 76 = .ok (.iadd, 1) := by decide +kernel
theorem dX1_make_77 : decode cX1_make 77 = .ok (.putfield 52, 3) := by decide +kernel
theorem dX1_make_80 : decode cX1_make 80 = .ok (.goto 81, 3) := by decide +kernel
theorem dX1_make_83 : decode cX1_make 83 = .ok (.iload 4, 2) := by decide +kernel
theorem dX1_make_85 : decode cX1_make 85 = .ok (.iconst 3, 1) := by decide +kernel
theorem dX1_make_86 : decode cX1_make 86 = .ok (.if_icmp .ne 46, 3) := by decide +kernel
theorem dX1_make_89 : decode cX1_make 89 = .ok (.aload_n 0, 1) := by decide +kernel
theorem dX1_make_90 : decode cX1_make 90 = .ok (.getfield 19, 3) := by decide +kernel
theorem dX1_make_93 : decode cX1_make 93 = .ok (.aload_n 0, 1) := by decide +kernel
theorem dX1_make_94 : decode cX1_make 94 = .ok (.getfield 52, 3) := by decide +kernel
theorem dX1_make_97 : decode cX1_make 97 = .ok (.iconst 1, 1) := by decide +kernel
theorem dX1_make_98 : decode cX1_make 98 = .ok (.isub, 1) := by decide +kernel
theorem dX1_make_99 : decode cX1_make 99 = .ok (.dup2, 1) := by decide +kernel
theorem dX1_make_100 : decode cX1_make 100 = .ok (.iaload, 1) := by decide +kernel
theorem dX1_make_101 : decode cX1_make 101 = .ok (.aload_n 0, 1) := by decide +kernel
theorem dX1_make_102 : decode cX1_make 102 = .ok (.getfield 13, 3) := by decide +kernel
theorem dX1_make_105 : decode cX1_make 105 = .ok (.iload_n 3, 1) := by decide +kernel
theorem dX1_make_106 : decode cX1_make 106 = .ok (.iaload, 1) := by decide +kernel
theorem dX1_make_107 : decode cX1_make 107 = .ok (.iadd, 1) := by decide +kernel
theorem dX1_make_108 : decode cX1_make 108 = .ok (.iastore, 1) := by decide +kernel
theorem dX1_make_109 : decode cX1_make 109 = .ok (.aload_n 0, 1) := by decide +kernel
theorem dX1_make_110 : decode cX1_make 110 = .ok (.getfield 22, 3) := by decide +kernel
theorem dX1_make_113 : decode cX1_make 113 = .ok (.aload_n 0, 1) := by decide +kernel
theorem dX1_make_114 : decode cX1_make 114 = .ok (.getfield 52, 3) := by decide +kernel
theorem dX1_make_117 : decode cX1_make 117 = .ok (.iconst 1, 1) := by decide +kernel
theorem dX1_make_118 : decode cX1_make 118 = .ok (.isub, 1) := by decide +kernel
theorem dX1_make_119 : decode cX1_make 119 = .ok (.dup2, 1) := by decide +kernel
theorem dX1_make_120 : decode cX1_make 120 = .ok (.iaload, 1) := by decide +kernel
theorem dX1_make_121 : decode cX1_make 121 = .ok (.aload_n 0, 1) := by decide +kernel
theorem dX1_make_122 : decode cX1_make 122 = .ok (.getfield 13, 3) := by decide +kernel
theorem dX1_make_125 : decode cX1_make 125 = .ok (.iload_n 3, 1) := by decide +kernel
theorem dX1_make_126 : decode cX1_make 126 = .ok (.iaload, 1) := by decide +kernel
theorem dX1_make_127 : decode cX1_make 127 = .ok (.iadd, 1) := by decide +kernel
theorem dX1_make_128 : decode cX1_make 128 = .ok (.iastore, 1) := by decide +kernel
theorem dX1_make_129 : decode cX1_make 129 = .ok (.goto 32, 3) := by decide +kernel
theorem dX1_make_132 : decode cX1_make 132 = .ok (.aload_n 0, 1) := by decide +kernel
theorem dX1_make_133 : decode cX1_make 133 = .ok (.iload 4, 2) := by decide +kernel
theorem dX1_make_135 : decode cX1_make 135 = .ok (.iload_n 1, 1) := by decide +kernel
theorem dX1_make_136 : decode cX1_make 136 = .ok (.iload_n 2, 1) := by decide +kernel
theorem dX1_make_137 : decode cX1_make 137 = .ok (.ishr, 1) := by decide +kernel
theorem dX1_make_138 : decode cX1_make 138 = .ok (.iconst 1, 1) := by decide +kernel
theorem dX1_make_139 : decode cX1_make 139 = .ok (.iand, 1) := by decide +kernel
theorem dX1_make_140 : decode cX1_make 140 = .ok (.iconst 1, 1) := by decide +kernel
theorem dX1_make_141 : decode cX1_make 141 = .ok (.if_icmp .ne 7, 3) := by decide +kernel
theorem dX1_make_144 : decode cX1_make 144 = .ok (.iconst 1, 1) := by decide +kernel
theorem dX1_make_145 : decode cX1_make 145 = .ok (.goto 4, 3) := by decide +kernel
theorem dX1_make_148 : decode cX1_make 148 = .ok (.iconst 0, 1) := by decide +kernel
theorem dX1_make_149 : decode cX1_make 149 = .ok (.invokevirtual 59, 3) := by decide +kernel
theorem dX1_make_152 : decode cX1_make 152 = .ok (.iload 4, 2) := by decide +kernel
theorem dX1_make_154 : decode cX1_make 154 = .ok (.iconst 4, 1) := by decide +kernel
theorem dX1_make_155 : decode cX1_make 155 = .ok (.if_icmp .ne 6, 3) := by decide +kernel
theorem dX1_make_158 : decode cX1_make 158 = .ok (.iinc 2 1, 3) := by decide +kernel
theorem dX1_make_161 : decode cX1_make 161 = .ok (.iinc 3 1, 3) := by decide +kernel
theorem dX1_make_164 : decode cX1_make 164 = .ok (.goto (-155), 3) := by decide +kernel
theorem dX1_make_167 : decode cX1_make 167 = .ok (.return_, 1) := by decide +kernel
theorem dX1_join_0 : decode cX1_join 0 = .ok (.aload_n 0, 1) := by decide +kernel
theorem dX1_join_1 : decode cX1_join 1 = .ok (.dup, 1) := by decide +kernel
theorem dX1_join_2 : decode cX1_join 2 = .ok (.getfield 52, 3) := by decide +kernel
theorem dX1_join_5 : decode cX1_join 5 = .ok (.iconst 1, 1) := by decide +kernel
theorem dX1_join_6 : decode cX1_join 6 = .ok (.isub, 1) := by decide +kernel
theorem dX1_join_7 : decode cX1_join 7 = .ok (.putfield 52, 3) := by decide +kernel
theorem dX1_join_10 : decode cX1_join 10 = .ok (.aload_n 0, 1) := by decide +kernel
theorem dX1_join_11 : decode cX1_join 11 = .ok (.getfield 52, 3) := by decide +kernel
theorem dX1_join_14 : decode cX1_join 14 = .ok (.iconst 1, 1) := by decide +kernel
theorem dX1_join_15 : decode cX1_join 15 = .ok (.isub, 1) := by decide +kernel
theorem dX1_join_16 : decode cX1_join 16 = .ok (.istore_n 3, 1) := by decide +kernel
theorem dX1_join_17 : decode cX1_join 17 = .ok (.aload_n 0, 1) := by decide +kernel
theorem dX1_join_18 : decode cX1_join 18 = .ok (.getfield 52, 3) := by decide +kernel
theorem dX1_join_21 : decode cX1_join 21 = .ok (.istore 4, 2) := by decide +kernel
theorem dX1_join_23 : decode cX1_join 23 = .ok (.iload_n 1, 1) := by decide +kernel
theorem dX1_join_24 : decode cX1_join 24 = .ok (.iconst 1, 1) := by decide +kernel
theorem dX1_join_25 : decode cX1_join 25 = .ok (.if_icmp .ne 67, 3) := by decide +kernel
theorem dX1_join_28 : decode cX1_join 28 = .ok (.aload_n 0, 1) := by decide +kernel
theorem dX1_join_29 : decode cX1_join 29 = .ok (.getfield 16, 3) := by decide +kernel
theorem dX1_join_32 : decode cX1_join 32 = .ok (.iload_n 3, 1) := by decide +kernel
theorem dX1_join_33 : decode cX1_join 33 = .ok (.dup2, 1) := by decide +kernel
theorem dX1_join_34 : decode cX1_join 34 = .ok (.iaload, 1) := by decide +kernel
theorem dX1_join_35 : decode cX1_join 35 = .ok (.aload_n 0, 1) := by decide +kernel
theorem dX1_join_36 : decode cX1_join 36 = .ok (.getfield 16, 3) := by decide +kernel
theorem dX1_join_39 : decode cX1_join 39 = .ok (.iload 4, 2) := by decide +kernel
theorem dX1_join_41 : decode cX1_join 41 = .ok (.iaload, 1) := by decide +kernel
theorem dX1_join_42 : decode cX1_join 42 = .ok (.iadd, 1) := by decide +kernel
theorem dX1_join_43 : decode cX1_join 43 = .ok (.iastore, 1) := by decide +kernel
theorem dX1_join_44 : decode cX1_join 44 = .ok (.aload_n 0, 1) := by decide +kernel
theorem dX1_join_45 : decode cX1_join 45 = .ok (.getfield 19, 3) := by decide +kernel
theorem dX1_join_48 : decode cX1_join 48 = .ok (.iload_n 3, 1) := by decide +kernel
theorem dX1_join_49 : decode cX1_join 49 = .ok (.aload_n 0, 1) := by decide +kernel
theorem dX1_join_50 : decode cX1_join 50 = .ok (.getfield 19, 3) := by decide +kernel
theorem dX1_join_53 : decode cX1_join 53 = .ok (.iload_n 3, 1) := by decide +kernel
theorem dX1_join_54 : decode cX1_join 54 = .ok (.iaload, 1) := by decide +kernel
theorem dX1_join_55 : decode cX1_join 55 = .ok (.aload_n 0, 1) := by decide +kernel
theorem dX1_join_56 : decode cX1_join 56 = .ok (.getfield 22, 3) := by decide +kernel
theorem dX1_join_59 : decode cX1_join 59 = .ok (.iload_n 3, 1) := by decide +kernel
theorem dX1_join_60 : decode cX1_join 60 = .ok (.iaload, 1) := by decide +kernel
theorem dX1_join_61 : decode cX1_join 61 = .ok (.aload_n 0, 1) := by decide +kernel
theorem dX1_join_62 : decode cX1_join 62 = .ok (.getfield 19, 3) := by decide +kernel
theorem dX1_join_65 : decode cX1_join 65 = .ok (.iload 4, 2) := by decide +kernel
theorem dX1_join_67 : decode cX1_join 67 = .ok (.iaload, 1) := by decide +kernel
theorem dX1_join_68 : decode cX1_join 68 = .ok (.iadd, 1) := by decide +kernel
theorem dX1_join_69 : decode cX1_join 69 = .ok (.invokestatic 55, 3) := by decide +kernel
theorem dX1_join_72 : decode cX1_join 72 = .ok (.iastore, 1) := by decide +kernel
theorem dX1_join_73 : decode cX1_join 73 = .ok (.aload_n 0, 1) := by decide +kernel
theorem dX1_join_74 : decode cX1_join 74 = .ok (.getfield 22, 3) := by decide +kernel
theorem dX1_join_77 : decode cX1_join 77 = .ok (.iload_n 3, 1) := by decide +kernel
theorem dX1_join_78 : decode cX1_join 78 = .ok (.dup2, 1) := by decide +kernel
theorem dX1_join_79 : decode cX1_join 79 = .ok (.iaload, 1) := by decide +kernel
theorem dX1_join_80 : decode cX1_join 80 = .ok (.aload_n 0, 1) := by decide +kernel
theorem dX1_join_81 : decode cX1_join 81 = .ok (.getfield 22, 3) := by decide +kernel
theorem dX1_join_84 : decode cX1_join 84 = .ok (.iload 4, 2) := by decide +kernel
theorem dX1_join_86 : decode cX1_join 86 = .ok (.iaload, 1) := by decide +kernel
theorem dX1_join_87 : decode cX1_join 87 = .ok (.iadd, 1) := by decide +kernel
theorem dX1_join_88 : decode cX1_join 88 = .ok (.iastore, 1) := by decide +kernel
theorem dX1_join_89 : decode cX1_join 89 = .ok (.goto 107, 3) := by decide +kernel
theorem dX1_join_92 : decode cX1_join 92 = .ok (.iload_n 1, 1) := by decide +kernel
theorem dX1_join_93 : decode cX1_join 93 = .ok (.iconst 2, 1) := by decide +kernel
theorem dX1_join_94 : decode cX1_join 94 = .ok (.if_icmp .ne 59, 3) := by decide +kernel
theorem dX1_join_97 : decode cX1_join 97 = .ok (.aload_n 0, 1) := by decide +kernel
theorem dX1_join_98 : decode cX1_join 98 = .ok (.getfield 16, 3) := by decide +kernel
theorem dX1_join_101 : decode cX1_join 101 = .ok (.iload_n 3, 1) := by decide +kernel
theorem dX1_join_102 : decode cX1_join 102 = .ok (.dup2, 1) := by decide +kernel
theorem dX1_join_103 : decode cX1_join 103 = .ok (.iaload, 1) := by decide +kernel
theorem dX1_join_104 : decode cX1_join 104 = .ok (.aload_n 0, 1) := by decide +kernel
end
section
set_option maxRecDepth 100000
theorem dX1_join_105 : decode cX1_join 105 = .ok (.getfield 16, 3) := by decide +kernel
theorem dX1_join_108 : decode cX1_join 108 = .ok (.iload 4, 2) := by decide +kernel
theorem dX1_join_110 : decode cX1_join 110 = .ok (.iaload, 1) := by decide +kernel
theorem dX1_join_111 : decode cX1_join 111 = .ok (.iconst 1, 1) := by decide +kernel
theorem dX1_join_112 : decode cX1_join 112 = .ok (.iadd, 1) := by decide +kernel
theorem dX1_join_113 : decode cX1_join 113 = .ok (.iadd, 1) := by decide +kernel
theorem dX1_join_114 : decode cX1_join 114 = .ok (.iastore, 1) := by decide +kernel
theorem dX1_join_115 : decode cX1_join 115 = .ok (.aload_n 0, 1) := by decide +kernel
theorem dX1_join_116 : decode cX1_join 116 = .ok (.getfield 19, 3) := by decide +kernel
theorem dX1_join_119 : decode cX1_join 119 = .ok (.iload_n 3, 1) := by decide +kernel
theorem dX1_join_120 : decode cX1_join 120 = .ok (.aload_n 0, 1) := by decide +kernel
theorem dX1_join_121 : decode cX1_join 121 = .ok (.getfield 19, 3) := by decide +kernel
theorem dX1_join_124 : decode cX1_join 124 = .ok (.iload_n 3, 1) := by decide +kernel
theorem dX1_join_125 : decode cX1_join 125 = .ok (.iaload, 1) := by decide +kernel
theorem dX1_join_126 : decode cX1_join 126 = .ok (.aload_n 0, 1) := by decide +kernel
theorem dX1_join_127 : decode cX1_join 127 = .ok (.getfield 19, 3) := by decide +kernel
theorem dX1_join_130 : decode cX1_join 130 = .ok (.iload 4, 2) := by decide +kernel
theorem dX1_join_132 : decode cX1_join 132 = .ok (.iaload, 1) := by decide +kernel
theorem dX1_join_133 : decode cX1_join 133 = .ok (.invokestatic 55, 3) := by decide +kernel
theorem dX1_join_136 : decode cX1_join 136 = .ok (.iastore, 1) := by decide +kernel
theorem dX1_join_137 : decode cX1_join 137 = .ok (.aload_n 0, 1) := by decide +kernel
theorem dX1_join_138 : decode cX1_join 138 = .ok (.getfield 22, 3) := by decide +kernel
theorem dX1_join_141 : decode cX1_join 141 = .ok (.iload_n 3, 1) := by decide +kernel
theorem dX1_join_142 : decode cX1_join 142 = .ok (.aload_n 0, 1) := by decide +kernel
theorem dX1_join_143 : decode cX1_join 143 = .ok (.getfield 22, 3) := by decide +kernel
theorem dX1_join_146 : decode cX1_join 146 = .ok (.iload 4, 2) := by decide +kernel
theorem dX1_join_148 : decode cX1_join 148 = .ok (.iaload, 1) := by decide +kernel
theorem dX1_join_149 : decode cX1_join 149 = .ok (.iastore, 1) := by decide +kernel
theorem dX1_join_150 : decode cX1_join 150 = .ok (.goto 46, 3) := by decide +kernel
theorem dX1_join_153 : decode cX1_join 153 = .ok (.iload_n 2, 1) := by decide +kernel
theorem dX1_join_154 : decode cX1_join 154 = .ok (.ifCond .eq 42, 3) := by decide +kernel
theorem dX1_join_157 : decode cX1_join 157 = .ok (.aload_n 0, 1) := by decide +kernel
theorem dX1_join_158 : decode cX1_join 158 = .ok (.getfield 16, 3) := by decide +kernel
theorem dX1_join_161 : decode cX1_join 161 = .ok (.iload_n 3, 1) := by decide +kernel
theorem dX1_join_162 : decode cX1_join 162 = .ok (.aload_n 0, 1) := by decide +kernel
theorem dX1_join_163 : decode cX1_join 163 = .ok (.getfield 16, 3) := by decide +kernel
theorem dX1_join_166 : decode cX1_join 166 = .ok (.iload 4, 2) := by decide +kernel
theorem dX1_join_168 : decode cX1_join 168 = .ok (.iaload, 1) := by decide +kernel
theorem dX1_join_169 : decode cX1_join 169 = .ok (.iastore, 1) := by decide +kernel
theorem dX1_join_170 : decode cX1_join 170 = .ok (.aload_n 0, 1) := by decide +kernel
theorem dX1_join_171 : decode cX1_join 171 = .ok (.getfield 19, 3) := by decide +kernel
theorem dX1_join_174 : decode cX1_join 174 = .ok (.iload_n 3, 1) := by decide +kernel
theorem dX1_join_175 : decode cX1_join 175 = .ok (.aload_n 0, 1) := by decide +kernel
theorem dX1_join_176 : decode cX1_join 176 = .ok (.getfield 19, 3) := by decide +kernel
theorem dX1_join_179 : decode cX1_join 179 = .ok (.iload 4, 2) := by decide +kernel
theorem dX1_join_181 : decode cX1_join 181 = .ok (.iaload, 1) := by decide +kernel
theorem dX1_join_182 : decode cX1_join 182 = .ok (.iastore, 1) := by decide +kernel
theorem dX1_join_183 : decode cX1_join 183 = .ok (.aload_n 0, 1) := by decide +kernel
theorem dX1_join_184 : decode cX1_join 184 = .ok (.getfield 22, 3) := by decide +kernel
theorem dX1_join_187 : decode cX1_join 187 = .ok (.iload_n 3, 1) := by decide +kernel
theorem dX1_join_188 : decode cX1_join 188 = .ok (.aload_n 0, 1) := by decide +kernel
theorem dX1_join_189 : decode cX1_join 189 = .ok (.getfield 22, 3) := by decide +kernel
theorem dX1_join_192 : decode cX1_join 192 = .ok (.iload 4, 2) := by decide +kernel
theorem dX1_join_194 : decode cX1_join 194 = .ok (.iaload, 1) := by decide +kernel
theorem dX1_join_195 : decode cX1_join 195 = .ok (.iastore, 1) := by decide +kernel
theorem dX1_join_196 : decode cX1_join 196 = .ok (.return_, 1) := by decide +kernel
theorem dX1_most_0 : decode cX1_most 0 = .ok (.iload_n 0, 1) := by decide +kernel
theorem dX1_most_1 : decode cX1_most 1 = .ok (.iload_n 1, 1) := by decide +kernel
theorem dX1_most_2 : decode cX1_most 2 = .ok (.if_icmp .le 7, 3) := by decide +kernel
theorem dX1_most_5 : decode cX1_most 5 = .ok (.iload_n 0, 1) := by decide +kernel
theorem dX1_most_6 : decode cX1_most 6 = .ok (.goto 4, 3) := by decide +kernel
theorem dX1_most_9 : decode cX1_most 9 = .ok (.iload_n 1, 1) := by decide +kernel
theorem dX1_most_10 : decode cX1_most 10 = .ok (.ireturn, 1) := by decide +kernel
theorem dX1_width_0 : decode cX1_width 0 = .ok (.aload_n 0, 1) := by decide +kernel
theorem dX1_width_1 : decode cX1_width 1 = .ok (.iload_n 1, 1) := by decide +kernel
theorem dX1_width_2 : decode cX1_width 2 = .ok (.invokevirtual 67, 3) := by decide +kernel
theorem dX1_width_5 : decode cX1_width 5 = .ok (.ifCond .eq 5, 3) := by decide +kernel
theorem dX1_width_8 : decode cX1_width 8 = .ok (.iconst (-1), 1) := by decide +kernel
theorem dX1_width_9 : decode cX1_width 9 = .ok (.ireturn, 1) := by decide +kernel
theorem dX1_width_10 : decode cX1_width 10 = .ok (.iconst (-1), 1) := by decide +kernel
theorem dX1_width_11 : decode cX1_width 11 = .ok (.istore_n 3, 1) := by decide +kernel
theorem dX1_width_12 : decode cX1_width 12 = .ok (.aload_n 0, 1) := by decide +kernel
theorem dX1_width_13 : decode cX1_width 13 = .ok (.iload_n 1, 1) := by decide +kernel
theorem dX1_width_14 : decode cX1_width 14 = .ok (.invokevirtual 71, 3) := by decide +kernel
theorem dX1_width_17 : decode cX1_width 17 = .ok (.istore 4, 2) := by decide +kernel
theorem dX1_width_19 : decode cX1_width 19 = .ok (.iconst 0, 1) := by decide +kernel
theorem dX1_width_20 : decode cX1_width 20 = .ok (.istore 5, 2) := by decide +kernel
theorem dX1_width_22 : decode cX1_width 22 = .ok (.iload 5, 2) := by decide +kernel
theorem dX1_width_24 : decode cX1_width 24 = .ok (.iload 4, 2) := by decide +kernel
theorem dX1_width_26 : decode cX1_width 26 = .ok (.if_icmp .ge 43, 3) := by decide +kernel
theorem dX1_width_29 : decode cX1_width 29 = .ok (.aload_n 0, 1) := by decide +kernel
theorem dX1_width_30 : decode cX1_width 30 = .ok (.getfield 25, 3) := by decide +kernel
theorem dX1_width_33 : decode cX1_width 33 = .ok (.iload 5, 2) := by decide +kernel
theorem dX1_width_35 : decode cX1_width 35 = .ok (.iaload, 1) := by decide +kernel
theorem dX1_width_36 : decode cX1_width 36 = .ok (.iload_n 2, 1) := by decide +kernel
theorem dX1_width_37 : decode cX1_width 37 = .ok (.if_icmp .gt 26, 3) := by decide +kernel
theorem dX1_width_40 : decode cX1_width 40 = .ok (.iload_n 3, 1) := by decide +kernel
theorem dX1_width_41 : decode cX1_width 41 = .ok (.ifCond .lt 14, 3) := by decide +kernel
theorem dX1_width_44 : decode cX1_width 44 = .ok (.aload_n 0, 1) := by decide +kernel
theorem dX1_width_45 : decode cX1_width 45 = .ok (.getfield 28, 3) := by decide +kernel
theorem dX1_width_48 : decode cX1_width 48 = .ok (.iload 5, 2) := by decide +kernel
theorem dX1_width_50 : decode cX1_width 50 = .ok (.iaload, 1) := by decide +kernel
theorem dX1_width_51 : decode cX1_width 51 = .ok (.iload_n 3, 1) := by decide +kernel
theorem dX1_width_52 : decode cX1_width 52 = .ok (.if_icmp .ge 11, 3) := by decide +kernel
theorem dX1_width_55 : decode cX1_width 55 = .ok (.aload_n 0, 1) := by decide +kernel
theorem dX1_width_56 : decode cX1_width 56 = .ok (.getfield 28, 3) := by decide +kernel
theorem dX1_width_59 : decode cX1_width 59 = .ok (.iload 5, 2) := by decide +kernel
theorem dX1_width_61 : decode cX1_width 61 = .ok (.iaload, 1) := by decide +kernel
theorem dX1_width_62 : decode cX1_width 62 = .ok (.istore_n 3, 1) := by decide +kernel
theorem dX1_width_63 : decode cX1_width 63 = .ok (.iinc 5 1, 3) := by decide +kernel
theorem dX1_width_66 : decode cX1_width 66 = .ok (.goto (-44), 3) := by decide +kernel
theorem dX1_width_69 : decode cX1_width 69 = .ok (.iload_n 3, 1) := by decide +kernel
theorem dX1_width_70 : decode cX1_width 70 = .ok (.ireturn, 1) := by decide +kernel
theorem dX1_cost_0 : decode cX1_cost 0 = .ok (.aload_n 0, 1) := by decide +kernel
theorem dX1_cost_1 : decode cX1_cost 1 = .ok (.iload_n 1, 1) := by decide +kernel
theorem dX1_cost_2 : decode cX1_cost 2 = .ok (.invokevirtual 67, 3) := by decide +kernel
theorem dX1_cost_5 : decode cX1_cost 5 = .ok (.ifCond .eq 5, 3) := by decide +kernel
theorem dX1_cost_8 : decode cX1_cost 8 = .ok (.iconst (-1), 1) := by decide +kernel
theorem dX1_cost_9 : decode cX1_cost 9 = .ok (.ireturn, 1) := by decide +kernel
theorem dX1_cost_10 : decode cX1_cost 10 = .ok (.iload_n 2, 1) := by decide +kernel
theorem dX1_cost_11 : decode cX1_cost 11 = .ok (.bipush 100, 2) := by decide +kernel
theorem dX1_cost_13 : decode cX1_cost 13 = .ok (.invokestatic 74, 3) := by decide +kernel
theorem dX1_cost_16 : decode cX1_cost 16 = .ok (.istore 4, 2) := by decide +kernel
theorem dX1_cost_18 : decode cX1_cost 18 = .ok (.iload_n 3, 1) := by decide +kernel
theorem dX1_cost_19 : decode cX1_cost 19 = .ok (.sipush 200, 3) := by decide +kernel
theorem dX1_cost_22 : decode cX1_cost 22 = .ok (.invokestatic 74, 3) := by decide +kernel
theorem dX1_cost_25 : decode cX1_cost 25 = .ok (.istore 5, 2) := by decide +kernel
theorem dX1_cost_27 : decode cX1_cost 27 = .ok (.iconst (-1), 1) := by decide +kernel
theorem dX1_cost_28 : decode cX1_cost 28 = .ok (.istore 6, 2) := by decide +kernel
theorem dX1_cost_30 : decode cX1_cost 30 = .ok (.aload_n 0, 1) := by decide +kernel
theorem dX1_cost_31 : decode cX1_cost 31 = .ok (.iload_n 1, 1) := by decide +kernel
theorem dX1_cost_32 : decode cX1_cost 32 = .ok (.invokevirtual 71, 3) := by decide +kernel
theorem dX1_cost_35 : decode cX1_cost 35 = .ok (.istore 7, 2) := by decide +kernel
theorem dX1_cost_37 : decode cX1_cost 37 = .ok (.iconst 0, 1) := by decide +kernel
theorem dX1_cost_38 : decode cX1_cost 38 = .ok (.istore 8, 2) := by decide +kernel
theorem dX1_cost_40 : decode cX1_cost 40 = .ok (.iload 8, 2) := by decide +kernel
theorem dX1_cost_42 : decode cX1_cost 42 = .ok (.iload 7, 2) := by decide +kernel
theorem dX1_cost_44 : decode cX1_cost 44 = .ok (.if_icmp .ge 71, 3) := by decide +kernel
theorem dX1_cost_47 : decode cX1_cost 47 = .ok (.aload_n 0, 1) := by decide +kernel
theorem dX1_cost_48 : decode cX1_cost 48 = .ok (.getfield 28, 3) := by decide +kernel
theorem dX1_cost_51 : decode cX1_cost 51 = .ok (.iload 8, 2) := by decide +kernel
theorem dX1_cost_53 : decode cX1_cost 53 = .ok (.iaload, 1) := by decide +kernel
theorem dX1_cost_54 : decode cX1_cost 54 = .ok (.iload 5, 2) := by decide +kernel
theorem dX1_cost_56 : decode cX1_cost 56 = .ok (.if_icmp .le 16, 3) := by decide +kernel
theorem dX1_cost_59 : decode cX1_cost 59 = .ok (.aload_n 0, 1) := by decide +kernel
theorem dX1_cost_60 : decode cX1_cost 60 = .ok (.getfield 28, 3) := by decide +kernel
theorem dX1_cost_63 : decode cX1_cost 63 = .ok (.iload 8, 2) := by decide +kernel
theorem dX1_cost_65 : decode cX1_cost 65 = .ok (.iaload, 1) := by decide +kernel
theorem dX1_cost_66 : decode cX1_cost 66 = .ok (.iload 5, 2) := by decide +kernel
theorem dX1_cost_68 : decode cX1_cost 68 = .ok (.isub, 1) := by decide +kernel
theorem dX1_cost_69 : decode cX1_cost 69 = .ok (.goto 4, 3) := by decide +kernel
theorem dX1_cost_72 : decode cX1_cost 72 = .ok (.iconst 0, 1) := by decide +kernel
theorem dX1_cost_73 : decode cX1_cost 73 = .ok (.istore 9, 2) := by decide +kernel
theorem dX1_cost_75 : decode cX1_cost 75 = .ok (.iload 4, 2) := by decide +kernel
theorem dX1_cost_77 : decode cX1_cost 77 = .ok (.aload_n 0, 1) := by decide +kernel
theorem dX1_cost_78 : decode cX1_cost 78 = .ok (.getfield 25, 3) := by decide +kernel
theorem dX1_cost_81 : decode cX1_cost 81 = .ok (.iload 8, 2) := by decide +kernel
theorem dX1_cost_83 : decode cX1_cost 83 = .ok (.iaload, 1) := by decide +kernel
theorem dX1_cost_84 : decode cX1_cost 84 = .ok (.imul, 1) := by decide +kernel
theorem dX1_cost_85 : decode cX1_cost 85 = .ok (.iload 9, 2) := by decide +kernel
theorem dX1_cost_87 : decode cX1_cost 87 = .ok (.iload 9, 2) := by decide +kernel
theorem dX1_cost_89 : decode cX1_cost 89 = .ok (.imul, 1) := by decide +kernel
theorem dX1_cost_90 : decode cX1_cost 90 = .ok (.iadd, 1) := by decide +kernel
theorem dX1_cost_91 : decode cX1_cost 91 = .ok (.istore 10, 2) := by decide +kernel
theorem dX1_cost_93 : decode cX1_cost 93 = .ok (.iload 6, 2) := by decide +kernel
theorem dX1_cost_95 : decode cX1_cost 95 = .ok (.ifCond .lt 10, 3) := by decide +kernel
theorem dX1_cost_98 : decode cX1_cost 98 = .ok (.iload 10, 2) := by decide +kernel
theorem dX1_cost_100 : decode cX1_cost 100 = .ok (.iload 6, 2) := by decide +kernel
theorem dX1_cost_102 : decode cX1_cost 102 = .ok (.if_icmp .ge 7, 3) := by decide +kernel
theorem dX1_cost_105 : decode cX1_cost 105 = .ok (.iload 10, 2) := by decide +kernel
theorem dX1_cost_107 : decode cX1_cost 107 = .ok (.istore 6, 2) := by decide +kernel
theorem dX1_cost_109 : decode cX1_cost 109 = .ok (.iinc 8 1, 3) := by decide +kernel
theorem dX1_cost_112 : decode cX1_cost 112 = .ok (.goto (-72), 3) := by decide +kernel
theorem dX1_cost_115 : decode cX1_cost 115 = .ok (.iload 6, 2) := by decide +kernel
theorem dX1_cost_117 : decode cX1_cost 117 = .ok (.ireturn, 1) := by decide +kernel
theorem dX1_within_0 : decode cX1_within 0 = .ok (.iload_n 0, 1) := by decide +kernel
theorem dX1_within_1 : decode cX1_within 1 = .ok (.ifCond .ge 7, 3) := by decide +kernel
theorem dX1_within_4 : decode cX1_within 4 = .ok (.iconst 0, 1) := by decide +kernel
theorem dX1_within_5 : decode cX1_within 5 = .ok (.goto 13, 3) := by decide +kernel
theorem dX1_within_8 : decode cX1_within 8 = .ok (.iload_n 0, 1) := by decide +kernel
theorem dX1_within_9 : decode cX1_within 9 = .ok (.iload_n 1, 1) := by decide +kernel
theorem dX1_within_10 : decode cX1_within 10 = .ok (.if_icmp .le 7, 3) := by decide +kernel
theorem dX1_within_13 : decode cX1_within 13 = .ok (.iload_n 1, 1) := by decide +kernel
theorem dX1_within_14 : decode cX1_within 14 = .ok (.goto 4, 3) := by decide +kernel
theorem dX1_within_17 : decode cX1_within 17 = .ok (.iload_n 0, 1) := by decide +kernel
theorem dX1_within_18 : decode cX1_within 18 = .ok (.ireturn, 1) := by decide +kernel
theorem dX1_best_0 : decode cX1_best 0 = .ok (.aload_n 0, 1) := by decide +kernel
theorem dX1_best_1 : decode cX1_best 1 = .ok (.iload_n 1, 1) := by decide +kernel
theorem dX1_best_2 : decode cX1_best 2 = .ok (.invokevirtual 67, 3) := by decide +kernel
theorem dX1_best_5 : decode cX1_best 5 = .ok (.ifCond .eq 5, 3) := by decide +kernel
theorem dX1_best_8 : decode cX1_best 8 = .ok (.iconst (-1), 1) := by decide +kernel
theorem dX1_best_9 : decode cX1_best 9 = .ok (.ireturn, 1) := by decide +kernel
theorem dX1_best_10 : decode cX1_best 10 = .ok (.iconst 0, 1) := by decide +kernel
theorem dX1_best_11 : decode cX1_best 11 = .ok (.istore_n 2, 1) := by decide +kernel
theorem dX1_best_12 : decode cX1_best 12 = .ok (.aload_n 0, 1) := by decide +kernel
theorem dX1_best_13 : decode cX1_best 13 = .ok (.iload_n 1, 1) := by decide +kernel
theorem dX1_best_14 : decode cX1_best 14 = .ok (.invokevirtual 71, 3) := by decide +kernel
theorem dX1_best_17 : decode cX1_best 17 = .ok (.istore_n 3, 1) := by decide +kernel
theorem dX1_best_18 : decode cX1_best 18 = .ok (.iconst 0, 1) := by decide +kernel
theorem dX1_best_19 : decode cX1_best 19 = .ok (.istore 4, 2) := by decide +kernel
theorem dX1_best_21 : decode cX1_best 21 = .ok (.iload 4, 2) := by decide +kernel
theorem dX1_best_23 : decode cX1_best 23 = .ok (.iload_n 3, 1) := by decide +kernel
theorem dX1_best_24 : decode cX1_best 24 = .ok (.if_icmp .ge 22, 3) := by decide +kernel
theorem dX1_best_27 : decode cX1_best 27 = .ok (.aload_n 0, 1) := by decide +kernel
theorem dX1_best_28 : decode cX1_best 28 = .ok (.iload 4, 2) := by decide +kernel
theorem dX1_best_30 : decode cX1_best 30 = .ok (.iload_n 3, 1) := by decide +kernel
theorem dX1_best_31 : decode cX1_best 31 = .ok (.invokevirtual 80, 3) := by decide +kernel
theorem dX1_best_34 : decode cX1_best 34 = .ok (.ifCond .eq 6, 3) := by decide +kernel
theorem dX1_best_37 : decode cX1_best 37 = .ok (.iinc 2 1, 3) := by decide +kernel
theorem dX1_best_40 : decode cX1_best 40 = .ok (.iinc 4 1, 3) := by decide +kernel
theorem dX1_best_43 : decode cX1_best 43 = .ok (.goto (-22), 3) := by decide +kernel
theorem dX1_best_46 : decode cX1_best 46 = .ok (.iload_n 2, 1) := by decide +kernel
theorem dX1_best_47 : decode cX1_best 47 = .ok (.ireturn, 1) := by decide +kernel
theorem dX1_isBest_0 : decode cX1_isBest 0 = .ok (.iconst 0, 1) := by decide +kernel
theorem dX1_isBest_1 : decode cX1_isBest 1 = .ok (.istore_n 3, 1) := by decide +kernel
theorem dX1_isBest_2 : decode cX1_isBest 2 = .ok (.iload_n 3, 1) := by decide +kernel
theorem dX1_isBest_3 : decode cX1_isBest 3 = .ok (.iload_n 2, 1) := by decide +kernel
theorem dX1_isBest_4 : decode cX1_isBest 4 = .ok (.if_icmp .ge 85, 3) := by decide +kernel
theorem dX1_isBest_7 : decode cX1_isBest 7 = .ok (.aload_n 0, 1) := by decide +kernel
theorem dX1_isBest_8 : decode cX1_isBest 8 = .ok (.getfield 25, 3) := by decide +kernel
theorem dX1_isBest_11 : decode cX1_isBest 11 = .ok (.iload_n 3, 1) := by decide +kernel
theorem dX1_isBest_12 : decode cX1_isBest 12 = .ok (.iaload, 1) := by decide +kernel
theorem dX1_isBest_13 : decode cX1_isBest 13 = .ok (.aload_n 0, 1) := by decide +kernel
theorem dX1_isBest_14 : decode cX1_isBest 14 = .ok (.getfield 25, 3) := by decide +kernel
theorem dX1_isBest_17 : decode cX1_isBest 17 = .ok (.iload_n 1, 1) := by decide +kernel
theorem dX1_isBest_18 : decode cX1_isBest 18 = .ok (.iaload, 1) := by decide +kernel
theorem dX1_isBest_19 : decode cX1_isBest 19 = .ok (.if_icmp .gt 37, 3) := by decide +kernel
theorem dX1_isBest_22 : decode cX1_isBest 22 = .ok (.aload_n 0, 1) := by decide +kernel
theorem dX1_isBest_23 : decode cX1_isBest 23 = .ok (.getfield 28, 3) := by decide +kernel
theorem dX1_isBest_26 : decode cX1_isBest 26 = .ok (.iload_n 3, 1) := by decide +kernel
theorem dX1_isBest_27 : decode cX1_isBest 27 = .ok (.iaload, 1) := by decide +kernel
theorem dX1_isBest_28 : decode cX1_isBest 28 = .ok (.aload_n 0, 1) := by decide +kernel
theorem dX1_isBest_29 : decode cX1_isBest 29 = .ok (.getfield 28, 3) := by decide +kernel
theorem dX1_isBest_32 : decode cX1_isBest 32 = .ok (.iload_n 1, 1) := by decide +kernel
theorem dX1_isBest_33 : decode cX1_isBest 33 = .ok (.iaload, 1) := by decide +kernel
theorem dX1_isBest_34 : decode cX1_isBest 34 = .ok (.if_icmp .gt 22, 3) := by decide +kernel
theorem dX1_isBest_37 : decode cX1_isBest 37 = .ok (.aload_n 0, 1) := by decide +kernel
theorem dX1_isBest_38 : decode cX1_isBest 38 = .ok (.getfield 31, 3) := by decide +kernel
theorem dX1_isBest_41 : decode cX1_isBest 41 = .ok (.iload_n 3, 1) := by decide +kernel
theorem dX1_isBest_42 : decode cX1_isBest 42 = .ok (.iaload, 1) := by decide +kernel
theorem dX1_isBest_43 : decode cX1_isBest 43 = .ok (.aload_n 0, 1) := by decide +kernel
theorem dX1_isBest_44 : decode cX1_isBest 44 = .ok (.getfield 31, 3) := by decide +kernel
theorem dX1_isBest_47 : decode cX1_isBest 47 = .ok (.iload_n 1, 1) := by decide +kernel
theorem dX1_isBest_48 : decode cX1_isBest 48 = .ok (.iaload, 1) := by decide +kernel
theorem dX1_isBest_49 : decode cX1_isBest 49 = .ok (.if_icmp .gt 7, 3) := by decide +kernel
theorem dX1_isBest_52 : decode cX1_isBest 52 = .ok (.iconst 1, 1) := by decide +kernel
theorem dX1_isBest_53 : decode cX1_isBest 53 = .ok (.goto 4, 3) := by decide +kernel
theorem dX1_isBest_56 : decode cX1_isBest 56 = .ok (.iconst 0, 1) := by decide +kernel
theorem dX1_isBest_57 : decode cX1_isBest 57 = .ok (.istore 4, 2) := by decide +kernel
theorem dX1_isBest_59 : decode cX1_isBest 59 = .ok (.aload_n 0, 1) := by decide +kernel
theorem dX1_isBest_60 : decode cX1_isBest 60 = .ok (.iload_n 3, 1) := by decide +kernel
theorem dX1_isBest_61 : decode cX1_isBest 61 = .ok (.iload_n 1, 1) := by decide +kernel
theorem dX1_isBest_62 : decode cX1_isBest 62 = .ok (.invokevirtual 77, 3) := by decide +kernel
theorem dX1_isBest_65 : decode cX1_isBest 65 = .ok (.ifCond .eq 11, 3) := by decide +kernel
theorem dX1_isBest_68 : decode cX1_isBest 68 = .ok (.iload_n 3, 1) := by decide +kernel
theorem dX1_isBest_69 : decode cX1_isBest 69 = .ok (.iload_n 1, 1) := by decide +kernel
theorem dX1_isBest_70 : decode cX1_isBest 70 = .ok (.if_icmp .ge 13, 3) := by decide +kernel
theorem dX1_isBest_73 : decode cX1_isBest 73 = .ok (.goto 8, 3) := by decide +kernel
theorem dX1_isBest_76 : decode cX1_isBest 76 = .ok (.iload 4, 2) := by decide +kernel
theorem dX1_isBest_78 : decode cX1_isBest 78 = .ok (.ifCond .eq 5, 3) := by decide +kernel
theorem dX1_isBest_81 : decode cX1_isBest 81 = .ok (.iconst 0, 1) := by decide +kernel
theorem dX1_isBest_82 : decode cX1_isBest 82 = .ok (.ireturn, 1) := by decide +kernel
theorem dX1_isBest_83 : decode cX1_isBest 83 = .ok (.iinc 3 1, 3) := by decide +kernel
theorem dX1_isBest_86 : decode cX1_isBest 86 = .ok (.goto (-84), 3) := by decide +kernel
theorem dX1_isBest_89 : decode cX1_isBest 89 = .ok (.iconst 1, 1) := by decide +kernel
theorem dX1_isBest_90 : decode cX1_isBest 90 = .ok (.ireturn, 1) := by decide +kernel
theorem dX1_same_0 : decode cX1_same 0 = .ok (.aload_n 0, 1) := by decide +kernel
theorem dX1_same_1 : decode cX1_same 1 = .ok (.getfield 25, 3) := by decide +kernel
theorem dX1_same_4 : decode cX1_same 4 = .ok (.iload_n 1, 1) := by decide +kernel
theorem dX1_same_5 : decode cX1_same 5 = .ok (.iaload, 1) := by decide +kernel
theorem dX1_same_6 : decode cX1_same 6 = .ok (.aload_n 0, 1) := by decide +kernel
theorem dX1_same_7 : decode cX1_same 7 = .ok (.getfield 25, 3) := by decide +kernel
theorem dX1_same_10 : decode cX1_same 10 = .ok (.iload_n 2, 1) := by decide +kernel
theorem dX1_same_11 : decode cX1_same 11 = .ok (.iaload, 1) := by decide +kernel
theorem dX1_same_12 : decode cX1_same 12 = .ok (.if_icmp .ne 37, 3) := by decide +kernel
theorem dX1_same_15 : decode cX1_same 15 = .ok (.aload_n 0, 1) := by decide +kernel
theorem dX1_same_16 : decode cX1_same 16 = .ok (.getfield 28, 3) := by decide +kernel
theorem dX1_same_19 : decode cX1_same 19 = .ok (.iload_n 1, 1) := by decide +kernel
theorem dX1_same_20 : decode cX1_same 20 = .ok (.iaload, 1) := by decide +kernel
theorem dX1_same_21 : decode cX1_same 21 = .ok (.aload_n 0, 1) := by decide +kernel
theorem dX1_same_22 : decode cX1_same 22 = .ok (.getfield 28, 3) := by decide +kernel
theorem dX1_same_25 : decode cX1_same 25 = .ok (.iload_n 2, 1) := by decide +kernel
theorem dX1_same_26 : decode cX1_same 26 = .ok (.iaload, 1) := by decide +kernel
theorem dX1_same_27 : decode cX1_same 27 = .ok (.if_icmp .ne 22, 3) := by decide +kernel
theorem dX1_same_30 : decode cX1_same 30 = .ok (.aload_n 0, 1) := by decide +kernel
theorem dX1_same_31 : decode cX1_same 31 = .ok (.getfield 31, 3) := by decide +kernel
theorem dX1_same_34 : decode cX1_same 34 = .ok (.iload_n 1, 1) := by decide +kernel
theorem dX1_same_35 : decode cX1_same 35 = .ok (.iaload, 1) := by decide +kernel
theorem dX1_same_36 : decode cX1_same 36 = .ok (.aload_n 0, 1) := by decide +kernel
theorem dX1_same_37 : decode cX1_same 37 = .ok (.getfield 31, 3) := by decide +kernel
theorem dX1_same_40 : decode cX1_same 40 = .ok (.iload_n 2, 1) := by decide +kernel
theorem dX1_same_41 : decode cX1_same 41 = .ok (.iaload, 1) := by decide +kernel
theorem dX1_same_42 : decode cX1_same 42 = .ok (.if_icmp .ne 7, 3) := by decide +kernel
theorem dX1_same_45 : decode cX1_same 45 = .ok (.iconst 1, 1) := by decide +kernel
theorem dX1_same_46 : decode cX1_same 46 = .ok (.goto 4, 3) := by decide +kernel
theorem dX1_same_49 : decode cX1_same 49 = .ok (.iconst 0, 1) := by decide +kernel
theorem dX1_same_50 : decode cX1_same 50 = .ok (.ireturn, 1) := by decide +kernel
theorem dX1_last_0 : decode cX1_last 0 = .ok (.aload_n 0, 1) := by decide +kernel
theorem dX1_last_1 : decode cX1_last 1 = .ok (.iload_n 1, 1) := by decide +kernel
theorem dX1_last_2 : decode cX1_last 2 = .ok (.invokevirtual 67, 3) := by decide +kernel
theorem dX1_last_5 : decode cX1_last 5 = .ok (.ifCond .eq 5, 3) := by decide +kernel
theorem dX1_last_8 : decode cX1_last 8 = .ok (.iconst (-1), 1) := by decide +kernel
theorem dX1_last_9 : decode cX1_last 9 = .ok (.ireturn, 1) := by decide +kernel
theorem dX1_last_10 : decode cX1_last 10 = .ok (.iconst (-1), 1) := by decide +kernel
theorem dX1_last_11 : decode cX1_last 11 = .ok (.istore 4, 2) := by decide +kernel
theorem dX1_last_13 : decode cX1_last 13 = .ok (.aload_n 0, 1) := by decide +kernel
theorem dX1_last_14 : decode cX1_last 14 = .ok (.iload_n 1, 1) := by decide +kernel
theorem dX1_last_15 : decode cX1_last 15 = .ok (.invokevirtual 71, 3) := by decide +kernel
theorem dX1_last_18 : decode cX1_last 18 = .ok (.istore 5, 2) := by decide +kernel
theorem dX1_last_20 : decode cX1_last 20 = .ok (.iconst 0, 1) := by decide +kernel
end
section
set_option maxRecDepth 100000
theorem dX1_last_21 : decode cX1_last 21 = .ok (.istore 6, 2) := by decide +kernel
theorem dX1_last_23 : decode cX1_last 23 = .ok (.iload 6, 2) := by decide +kernel
theorem dX1_last_25 : decode cX1_last 25 = .ok (.iload 5, 2) := by decide +kernel
theorem dX1_last_27 : decode cX1_last 27 = .ok (.if_icmp .ge 69, 3) := by decide +kernel
theorem dX1_last_30 : decode cX1_last 30 = .ok (.aload_n 0, 1) := by decide +kernel
theorem dX1_last_31 : decode cX1_last 31 = .ok (.getfield 25, 3) := by decide +kernel
theorem dX1_last_34 : decode cX1_last 34 = .ok (.iload 6, 2) := by decide +kernel
theorem dX1_last_36 : decode cX1_last 36 = .ok (.iaload, 1) := by decide +kernel
theorem dX1_last_37 : decode cX1_last 37 = .ok (.iload_n 2, 1) := by decide +kernel
theorem dX1_last_38 : decode cX1_last 38 = .ok (.if_icmp .gt 18, 3) := by decide +kernel
theorem dX1_last_41 : decode cX1_last 41 = .ok (.aload_n 0, 1) := by decide +kernel
theorem dX1_last_42 : decode cX1_last 42 = .ok (.getfield 28, 3) := by decide +kernel
theorem dX1_last_45 : decode cX1_last 45 = .ok (.iload 6, 2) := by decide +kernel
theorem dX1_last_47 : decode cX1_last 47 = .ok (.iaload, 1) := by decide +kernel
theorem dX1_last_48 : decode cX1_last 48 = .ok (.iload_n 3, 1) := by decide +kernel
theorem dX1_last_49 : decode cX1_last 49 = .ok (.if_icmp .gt 7, 3) := by decide +kernel
theorem dX1_last_52 : decode cX1_last 52 = .ok (.iconst 1, 1) := by decide +kernel
theorem dX1_last_53 : decode cX1_last 53 = .ok (.goto 4, 3) := by decide +kernel
theorem dX1_last_56 : decode cX1_last 56 = .ok (.iconst 0, 1) := by decide +kernel
theorem dX1_last_57 : decode cX1_last 57 = .ok (.istore 7, 2) := by decide +kernel
theorem dX1_last_59 : decode cX1_last 59 = .ok (.iload 7, 2) := by decide +kernel
theorem dX1_last_61 : decode cX1_last 61 = .ok (.ifCond .eq 29, 3) := by decide +kernel
theorem dX1_last_64 : decode cX1_last 64 = .ok (.iload 4, 2) := by decide +kernel
theorem dX1_last_66 : decode cX1_last 66 = .ok (.ifCond .lt 15, 3) := by decide +kernel
theorem dX1_last_69 : decode cX1_last 69 = .ok (.aload_n 0, 1) := by decide +kernel
theorem dX1_last_70 : decode cX1_last 70 = .ok (.getfield 31, 3) := by decide +kernel
theorem dX1_last_73 : decode cX1_last 73 = .ok (.iload 6, 2) := by decide +kernel
theorem dX1_last_75 : decode cX1_last 75 = .ok (.iaload, 1) := by decide +kernel
theorem dX1_last_76 : decode cX1_last 76 = .ok (.iload 4, 2) := by decide +kernel
theorem dX1_last_78 : decode cX1_last 78 = .ok (.if_icmp .ge 12, 3) := by decide +kernel
theorem dX1_last_81 : decode cX1_last 81 = .ok (.aload_n 0, 1) := by decide +kernel
theorem dX1_last_82 : decode cX1_last 82 = .ok (.getfield 31, 3) := by decide +kernel
theorem dX1_last_85 : decode cX1_last 85 = .ok (.iload 6, 2) := by decide +kernel
theorem dX1_last_87 : decode cX1_last 87 = .ok (.iaload, 1) := by decide +kernel
theorem dX1_last_88 : decode cX1_last 88 = .ok (.istore 4, 2) := by decide +kernel
theorem dX1_last_90 : decode cX1_last 90 = .ok (.iinc 6 1, 3) := by decide +kernel
theorem dX1_last_93 : decode cX1_last 93 = .ok (.goto (-70), 3) := by decide +kernel
theorem dX1_last_96 : decode cX1_last 96 = .ok (.iload 4, 2) := by decide +kernel
theorem dX1_last_98 : decode cX1_last 98 = .ok (.ireturn, 1) := by decide +kernel
theorem dJ0_init_0 : decode cJ0_init 0 = .ok (.return_, 1) := by decide +kernel
theorem dL_law_0 : decode cL_law 0 = .ok (.new 7, 3) := by decide +kernel
theorem dL_law_3 : decode cL_law 3 = .ok (.dup, 1) := by decide +kernel
theorem dL_law_4 : decode cL_law 4 = .ok (.invokespecial 9, 3) := by decide +kernel
theorem dL_law_7 : decode cL_law 7 = .ok (.astore_n 1, 1) := by decide +kernel
theorem dL_law_8 : decode cL_law 8 = .ok (.new 10, 3) := by decide +kernel
theorem dL_law_11 : decode cL_law 11 = .ok (.dup, 1) := by decide +kernel
theorem dL_law_12 : decode cL_law 12 = .ok (.invokespecial 12, 3) := by decide +kernel
theorem dL_law_15 : decode cL_law 15 = .ok (.astore_n 2, 1) := by decide +kernel
theorem dL_law_16 : decode cL_law 16 = .ok (.iconst 0, 1) := by decide +kernel
theorem dL_law_17 : decode cL_law 17 = .ok (.istore_n 3, 1) := by decide +kernel
theorem dL_law_18 : decode cL_law 18 = .ok (.iload_n 3, 1) := by decide +kernel
theorem dL_law_19 : decode cL_law 19 = .ok (.aload_n 0, 1) := by decide +kernel
theorem dL_law_20 : decode cL_law 20 = .ok (.arraylength, 1) := by decide +kernel
theorem dL_law_21 : decode cL_law 21 = .ok (.iconst 4, 1) := by decide +kernel
theorem dL_law_22 : decode cL_law 22 = .ok (.isub, 1) := by decide +kernel
theorem dL_law_23 : decode cL_law 23 = .ok (.if_icmp .gt 278, 3) := by decide +kernel
theorem dL_law_26 : decode cL_law 26 = .ok (.aload_n 0, 1) := by decide +kernel
theorem dL_law_27 : decode cL_law 27 = .ok (.iload_n 3, 1) := by decide +kernel
theorem dL_law_28 : decode cL_law 28 = .ok (.iaload, 1) := by decide +kernel
theorem dL_law_29 : decode cL_law 29 = .ok (.bipush 7, 2) := by decide +kernel
theorem dL_law_31 : decode cL_law 31 = .ok (.iand, 1) := by decide +kernel
theorem dL_law_32 : decode cL_law 32 = .ok (.tableswitch 263 0 6 #[44, 77, 88, 121, 154, 197, 220], 44) := by decide +kernel
theorem dL_law_76 : decode cL_law 76 = .ok (.aload_n 1, 1) := by decide +kernel
theorem dL_law_77 : decode cL_law 77 = .ok (.aload_n 0, 1) := by decide +kernel
theorem dL_law_78 : decode cL_law 78 = .ok (.iload_n 3, 1) := by decide +kernel
theorem dL_law_79 : decode cL_law 79 = .ok (.iconst 1, 1) := by decide +kernel
theorem dL_law_80 : decode cL_law 80 = .ok (.iadd, 1) := by decide +kernel
theorem dL_law_81 : decode cL_law 81 = .ok (.iaload, 1) := by decide +kernel
theorem dL_law_82 : decode cL_law 82 = .ok (.aload_n 0, 1) := by decide +kernel
theorem dL_law_83 : decode cL_law 83 = .ok (.iload_n 3, 1) := by decide +kernel
theorem dL_law_84 : decode cL_law 84 = .ok (.iconst 2, 1) := by decide +kernel
theorem dL_law_85 : decode cL_law 85 = .ok (.iadd, 1) := by decide +kernel
theorem dL_law_86 : decode cL_law 86 = .ok (.iaload, 1) := by decide +kernel
theorem dL_law_87 : decode cL_law 87 = .ok (.invokevirtual 13, 3) := by decide +kernel
theorem dL_law_90 : decode cL_law 90 = .ok (.aload_n 2, 1) := by decide +kernel
theorem dL_law_91 : decode cL_law 91 = .ok (.aload_n 0, 1) := by decide +kernel
theorem dL_law_92 : decode cL_law 92 = .ok (.iload_n 3, 1) := by decide +kernel
theorem dL_law_93 : decode cL_law 93 = .ok (.iconst 1, 1) := by decide +kernel
theorem dL_law_94 : decode cL_law 94 = .ok (.iadd, 1) := by decide +kernel
theorem dL_law_95 : decode cL_law 95 = .ok (.iaload, 1) := by decide +kernel
theorem dL_law_96 : decode cL_law 96 = .ok (.aload_n 0, 1) := by decide +kernel
theorem dL_law_97 : decode cL_law 97 = .ok (.iload_n 3, 1) := by decide +kernel
theorem dL_law_98 : decode cL_law 98 = .ok (.iconst 2, 1) := by decide +kernel
theorem dL_law_99 : decode cL_law 99 = .ok (.iadd, 1) := by decide +kernel
theorem dL_law_100 : decode cL_law 100 = .ok (.iaload, 1) := by decide +kernel
theorem dL_law_101 : decode cL_law 101 = .ok (.invokevirtual 17, 3) := by decide +kernel
theorem dL_law_104 : decode cL_law 104 = .ok (.if_icmp .eq 191, 3) := by decide +kernel
theorem dL_law_107 : decode cL_law 107 = .ok (.iconst 0, 1) := by decide +kernel
theorem dL_law_108 : decode cL_law 108 = .ok (.ireturn, 1) := by decide +kernel
theorem dL_law_109 : decode cL_law 109 = .ok (.aload_n 1, 1) := by decide +kernel
theorem dL_law_110 : decode cL_law 110 = .ok (.invokevirtual 18, 3) := by decide +kernel
theorem dL_law_113 : decode cL_law 113 = .ok (.aload_n 2, 1) := by decide +kernel
theorem dL_law_114 : decode cL_law 114 = .ok (.invokevirtual 21, 3) := by decide +kernel
theorem dL_law_117 : decode cL_law 117 = .ok (.goto 178, 3) := by decide +kernel
theorem dL_law_120 : decode cL_law 120 = .ok (.aload_n 1, 1) := by decide +kernel
theorem dL_law_121 : decode cL_law 121 = .ok (.aload_n 0, 1) := by decide +kernel
theorem dL_law_122 : decode cL_law 122 = .ok (.iload_n 3, 1) := by decide +kernel
theorem dL_law_123 : decode cL_law 123 = .ok (.iconst 1, 1) := by decide +kernel
theorem dL_law_124 : decode cL_law 124 = .ok (.iadd, 1) := by decide +kernel
theorem dL_law_125 : decode cL_law 125 = .ok (.iaload, 1) := by decide +kernel
theorem dL_law_126 : decode cL_law 126 = .ok (.aload_n 0, 1) := by decide +kernel
theorem dL_law_127 : decode cL_law 127 = .ok (.iload_n 3, 1) := by decide +kernel
theorem dL_law_128 : decode cL_law 128 = .ok (.iconst 2, 1) := by decide +kernel
theorem dL_law_129 : decode cL_law 129 = .ok (.iadd, 1) := by decide +kernel
theorem dL_law_130 : decode cL_law 130 = .ok (.iaload, 1) := by decide +kernel
theorem dL_law_131 : decode cL_law 131 = .ok (.invokevirtual 22, 3) := by decide +kernel
theorem dL_law_134 : decode cL_law 134 = .ok (.aload_n 2, 1) := by decide +kernel
theorem dL_law_135 : decode cL_law 135 = .ok (.aload_n 0, 1) := by decide +kernel
theorem dL_law_136 : decode cL_law 136 = .ok (.iload_n 3, 1) := by decide +kernel
theorem dL_law_137 : decode cL_law 137 = .ok (.iconst 1, 1) := by decide +kernel
theorem dL_law_138 : decode cL_law 138 = .ok (.iadd, 1) := by decide +kernel
theorem dL_law_139 : decode cL_law 139 = .ok (.iaload, 1) := by decide +kernel
theorem dL_law_140 : decode cL_law 140 = .ok (.aload_n 0, 1) := by decide +kernel
theorem dL_law_141 : decode cL_law 141 = .ok (.iload_n 3, 1) := by decide +kernel
theorem dL_law_142 : decode cL_law 142 = .ok (.iconst 2, 1) := by decide +kernel
theorem dL_law_143 : decode cL_law 143 = .ok (.iadd, 1) := by decide +kernel
theorem dL_law_144 : decode cL_law 144 = .ok (.iaload, 1) := by decide +kernel
theorem dL_law_145 : decode cL_law 145 = .ok (.invokevirtual 25, 3) := by decide +kernel
theorem dL_law_148 : decode cL_law 148 = .ok (.if_icmp .eq 147, 3) := by decide +kernel
theorem dL_law_151 : decode cL_law 151 = .ok (.iconst 0, 1) := by decide +kernel
theorem dL_law_152 : decode cL_law 152 = .ok (.ireturn, 1) := by decide +kernel
theorem dL_law_153 : decode cL_law 153 = .ok (.aload_n 1, 1) := by decide +kernel
theorem dL_law_154 : decode cL_law 154 = .ok (.aload_n 0, 1) := by decide +kernel
theorem dL_law_155 : decode cL_law 155 = .ok (.iload_n 3, 1) := by decide +kernel
theorem dL_law_156 : decode cL_law 156 = .ok (.iconst 1, 1) := by decide +kernel
theorem dL_law_157 : decode cL_law 157 = .ok (.iadd, 1) := by decide +kernel
theorem dL_law_158 : decode cL_law 158 = .ok (.iaload, 1) := by decide +kernel
theorem dL_law_159 : decode cL_law 159 = .ok (.aload_n 0, 1) := by decide +kernel
theorem dL_law_160 : decode cL_law 160 = .ok (.iload_n 3, 1) := by decide +kernel
theorem dL_law_161 : decode cL_law 161 = .ok (.iconst 2, 1) := by decide +kernel
theorem dL_law_162 : decode cL_law 162 = .ok (.iadd, 1) := by decide +kernel
theorem dL_law_163 : decode cL_law 163 = .ok (.iaload, 1) := by decide +kernel
theorem dL_law_164 : decode cL_law 164 = .ok (.invokevirtual 26, 3) := by decide +kernel
theorem dL_law_167 : decode cL_law 167 = .ok (.aload_n 2, 1) := by decide +kernel
theorem dL_law_168 : decode cL_law 168 = .ok (.aload_n 0, 1) := by decide +kernel
theorem dL_law_169 : decode cL_law 169 = .ok (.iload_n 3, 1) := by decide +kernel
theorem dL_law_170 : decode cL_law 170 = .ok (.iconst 1, 1) := by decide +kernel
theorem dL_law_171 : decode cL_law 171 = .ok (.iadd, 1) := by decide +kernel
theorem dL_law_172 : decode cL_law 172 = .ok (.iaload, 1) := by decide +kernel
theorem dL_law_173 : decode cL_law 173 = .ok (.aload_n 0, 1) := by decide +kernel
theorem dL_law_174 : decode cL_law 174 = .ok (.iload_n 3, 1) := by decide +kernel
theorem dL_law_175 : decode cL_law 175 = .ok (.iconst 2, 1) := by decide +kernel
theorem dL_law_176 : decode cL_law 176 = .ok (.iadd, 1) := by decide +kernel
theorem dL_law_177 : decode cL_law 177 = .ok (.iaload, 1) := by decide +kernel
theorem dL_law_178 : decode cL_law 178 = .ok (.invokevirtual 29, 3) := by decide +kernel
theorem dL_law_181 : decode cL_law 181 = .ok (.if_icmp .eq 114, 3) := by decide +kernel
theorem dL_law_184 : decode cL_law 184 = .ok (.iconst 0, 1) := by decide +kernel
theorem dL_law_185 : decode cL_law 185 = .ok (.ireturn, 1) := by decide +kernel
theorem dL_law_186 : decode cL_law 186 = .ok (.aload_n 1, 1) := by decide +kernel
theorem dL_law_187 : decode cL_law 187 = .ok (.aload_n 0, 1) := by decide +kernel
theorem dL_law_188 : decode cL_law 188 = .ok (.iload_n 3, 1) := by decide +kernel
theorem dL_law_189 : decode cL_law 189 = .ok (.iconst 1, 1) := by decide +kernel
theorem dL_law_190 : decode cL_law 190 = .ok (.iadd, 1) := by decide +kernel
theorem dL_law_191 : decode cL_law 191 = .ok (.iaload, 1) := by decide +kernel
theorem dL_law_192 : decode cL_law 192 = .ok (.aload_n 0, 1) := by decide +kernel
theorem dL_law_193 : decode cL_law 193 = .ok (.iload_n 3, 1) := by decide +kernel
theorem dL_law_194 : decode cL_law 194 = .ok (.iconst 2, 1) := by decide +kernel
theorem dL_law_195 : decode cL_law 195 = .ok (.iadd, 1) := by decide +kernel
theorem dL_law_196 : decode cL_law 196 = .ok (.iaload, 1) := by decide +kernel
theorem dL_law_197 : decode cL_law 197 = .ok (.aload_n 0, 1) := by decide +kernel
theorem dL_law_198 : decode cL_law 198 = .ok (.iload_n 3, 1) := by decide +kernel
theorem dL_law_199 : decode cL_law 199 = .ok (.iconst 3, 1) := by decide +kernel
theorem dL_law_200 : decode cL_law 200 = .ok (.iadd, 1) := by decide +kernel
theorem dL_law_201 : decode cL_law 201 = .ok (.iaload, 1) := by decide +kernel
theorem dL_law_202 : decode cL_law 202 = .ok (.invokevirtual 30, 3) := by decide +kernel
theorem dL_law_205 : decode cL_law 205 = .ok (.aload_n 2, 1) := by decide +kernel
theorem dL_law_206 : decode cL_law 206 = .ok (.aload_n 0, 1) := by decide +kernel
theorem dL_law_207 : decode cL_law 207 = .ok (.iload_n 3, 1) := by decide +kernel
theorem dL_law_208 : decode cL_law 208 = .ok (.iconst 1, 1) := by decide +kernel
theorem dL_law_209 : decode cL_law 209 = .ok (.iadd, 1) := by decide +kernel
theorem dL_law_210 : decode cL_law 210 = .ok (.iaload, 1) := by decide +kernel
theorem dL_law_211 : decode cL_law 211 = .ok (.aload_n 0, 1) := by decide +kernel
theorem dL_law_212 : decode cL_law 212 = .ok (.iload_n 3, 1) := by decide +kernel
theorem dL_law_213 : decode cL_law 213 = .ok (.iconst 2, 1) := by decide +kernel
theorem dL_law_214 : decode cL_law 214 = .ok (.iadd, 1) := by decide +kernel
theorem dL_law_215 : decode cL_law 215 = .ok (.iaload, 1) := by decide +kernel
theorem dL_law_216 : decode cL_law 216 = .ok (.aload_n 0, 1) := by decide +kernel
theorem dL_law_217 : decode cL_law 217 = .ok (.iload_n 3, 1) := by decide +kernel
theorem dL_law_218 : decode cL_law 218 = .ok (.iconst 3, 1) := by decide +kernel
theorem dL_law_219 : decode cL_law 219 = .ok (.iadd, 1) := by decide +kernel
theorem dL_law_220 : decode cL_law 220 = .ok (.iaload, 1) := by decide +kernel
theorem dL_law_221 : decode cL_law 221 = .ok (.invokevirtual 34, 3) := by decide +kernel
theorem dL_law_224 : decode cL_law 224 = .ok (.if_icmp .eq 71, 3) := by decide +kernel
theorem dL_law_227 : decode cL_law 227 = .ok (.iconst 0, 1) := by decide +kernel
theorem dL_law_228 : decode cL_law 228 = .ok (.ireturn, 1) := by decide +kernel
theorem dL_law_229 : decode cL_law 229 = .ok (.aload_n 1, 1) := by decide +kernel
theorem dL_law_230 : decode cL_law 230 = .ok (.aload_n 0, 1) := by decide +kernel
theorem dL_law_231 : decode cL_law 231 = .ok (.iload_n 3, 1) := by decide +kernel
theorem dL_law_232 : decode cL_law 232 = .ok (.iconst 1, 1) := by decide +kernel
theorem dL_law_233 : decode cL_law 233 = .ok (.iadd, 1) := by decide +kernel
theorem dL_law_234 : decode cL_law 234 = .ok (.iaload, 1) := by decide +kernel
theorem dL_law_235 : decode cL_law 235 = .ok (.invokevirtual 35, 3) := by decide +kernel
theorem dL_law_238 : decode cL_law 238 = .ok (.aload_n 2, 1) := by decide +kernel
theorem dL_law_239 : decode cL_law 239 = .ok (.aload_n 0, 1) := by decide +kernel
theorem dL_law_240 : decode cL_law 240 = .ok (.iload_n 3, 1) := by decide +kernel
theorem dL_law_241 : decode cL_law 241 = .ok (.iconst 1, 1) := by decide +kernel
theorem dL_law_242 : decode cL_law 242 = .ok (.iadd, 1) := by decide +kernel
theorem dL_law_243 : decode cL_law 243 = .ok (.iaload, 1) := by decide +kernel
theorem dL_law_244 : decode cL_law 244 = .ok (.invokevirtual 39, 3) := by decide +kernel
theorem dL_law_247 : decode cL_law 247 = .ok (.if_icmp .eq 48, 3) := by decide +kernel
theorem dL_law_250 : decode cL_law 250 = .ok (.iconst 0, 1) := by decide +kernel
theorem dL_law_251 : decode cL_law 251 = .ok (.ireturn, 1) := by decide +kernel
theorem dL_law_252 : decode cL_law 252 = .ok (.aload_n 1, 1) := by decide +kernel
theorem dL_law_253 : decode cL_law 253 = .ok (.aload_n 0, 1) := by decide +kernel
theorem dL_law_254 : decode cL_law 254 = .ok (.iload_n 3, 1) := by decide +kernel
theorem dL_law_255 : decode cL_law 255 = .ok (.iconst 1, 1) := by decide +kernel
theorem dL_law_256 : decode cL_law 256 = .ok (.iadd, 1) := by decide +kernel
theorem dL_law_257 : decode cL_law 257 = .ok (.iaload, 1) := by decide +kernel
theorem dL_law_258 : decode cL_law 258 = .ok (.aload_n 0, 1) := by decide +kernel
theorem dL_law_259 : decode cL_law 259 = .ok (.iload_n 3, 1) := by decide +kernel
theorem dL_law_260 : decode cL_law 260 = .ok (.iconst 2, 1) := by decide +kernel
theorem dL_law_261 : decode cL_law 261 = .ok (.iadd, 1) := by decide +kernel
theorem dL_law_262 : decode cL_law 262 = .ok (.iaload, 1) := by decide +kernel
theorem dL_law_263 : decode cL_law 263 = .ok (.aload_n 0, 1) := by decide +kernel
theorem dL_law_264 : decode cL_law 264 = .ok (.iload_n 3, 1) := by decide +kernel
theorem dL_law_265 : decode cL_law 265 = .ok (.iconst 3, 1) := by decide +kernel
theorem dL_law_266 : decode cL_law 266 = .ok (.iadd, 1) := by decide +kernel
theorem dL_law_267 : decode cL_law 267 = .ok (.iaload, 1) := by decide +kernel
theorem dL_law_268 : decode cL_law 268 = .ok (.invokevirtual 40, 3) := by decide +kernel
theorem dL_law_271 : decode cL_law 271 = .ok (.aload_n 2, 1) := by decide +kernel
theorem dL_law_272 : decode cL_law 272 = .ok (.aload_n 0, 1) := by decide +kernel
theorem dL_law_273 : decode cL_law 273 = .ok (.iload_n 3, 1) := by decide +kernel
theorem dL_law_274 : decode cL_law 274 = .ok (.iconst 1, 1) := by decide +kernel
theorem dL_law_275 : decode cL_law 275 = .ok (.iadd, 1) := by decide +kernel
theorem dL_law_276 : decode cL_law 276 = .ok (.iaload, 1) := by decide +kernel
theorem dL_law_277 : decode cL_law 277 = .ok (.aload_n 0, 1) := by decide +kernel
theorem dL_law_278 : decode cL_law 278 = .ok (.iload_n 3, 1) := by decide +kernel
theorem dL_law_279 : decode cL_law 279 = .ok (.iconst 2, 1) := by decide +kernel
theorem dL_law_280 : decode cL_law 280 = .ok (.iadd, 1) := by decide +kernel
theorem dL_law_281 : decode cL_law 281 = .ok (.iaload, 1) := by decide +kernel
theorem dL_law_282 : decode cL_law 282 = .ok (.aload_n 0, 1) := by decide +kernel
theorem dL_law_283 : decode cL_law 283 = .ok (.iload_n 3, 1) := by decide +kernel
theorem dL_law_284 : decode cL_law 284 = .ok (.iconst 3, 1) := by decide +kernel
theorem dL_law_285 : decode cL_law 285 = .ok (.iadd, 1) := by decide +kernel
theorem dL_law_286 : decode cL_law 286 = .ok (.iaload, 1) := by decide +kernel
theorem dL_law_287 : decode cL_law 287 = .ok (.invokevirtual 43, 3) := by decide +kernel
theorem dL_law_290 : decode cL_law 290 = .ok (.if_icmp .eq 5, 3) := by decide +kernel
theorem dL_law_293 : decode cL_law 293 = .ok (.iconst 0, 1) := by decide +kernel
theorem dL_law_294 : decode cL_law 294 = .ok (.ireturn, 1) := by decide +kernel
theorem dL_law_295 : decode cL_law 295 = .ok (.iinc 3 4, 3) := by decide +kernel
theorem dL_law_298 : decode cL_law 298 = .ok (.goto (-280), 3) := by decide +kernel
theorem dL_law_301 : decode cL_law 301 = .ok (.iconst 1, 1) := by decide +kernel
theorem dL_law_302 : decode cL_law 302 = .ok (.ireturn, 1) := by decide +kernel
end
section
/-! GENERIC: the state at a point (lc_St), a method's contract (lc_K), its calls, its ends, loops -/
abbrev vwCl : List vw_C := [(RX0, TX0, 11), (RX1, TX1, 12)]
/-- the cells ws stand in the heap H; since s nothing outside A has changed -/
def lc_St (D : va_G) (d : ClassId) (A : Nat → Prop) (s : State) (ws : va_W) (H : Heap) (locs : List Loc) : Prop :=
  va_K D vwCl [(d, .int)] s ∧ va_P D vwCl ws H ∧ va_D A ws ∧ va_S A s.heap H locs ∧ ∀ q : Nat, s.heap.size ≤ q → A q
/-- a method's end: it answers r, the cells are w, post r w -/
def lc_Q (D : va_G) (d : ClassId) (A : Nat → Prop) (post : Option Value → va_W → Prop) : Array Value → State → Outcome → State → Prop :=
  fun _ st oc t => (∃ (r : Option Value) (w : va_W), oc = .returned r ∧ post r w ∧ va_P D vwCl w t.heap ∧ va_K D vwCl [(d, .int)] t ∧ va_D A w) ∧ va_F A st t
/-- the contract of the method y: from the cells w, with the arguments av, it ends with post -/
def lc_K (l : Launch) (D : va_G) (d : ClassId) (y : MethodName) (b : ByteArray) (L : Nat) (ret : Option FieldType) (rm : Room) (av : List Value) (w : va_W) (post : Option Value → va_W → Prop) : Prop :=
  ∀ sz : Nat, Met l y (ws_ y b L ret) rm (va_Pc av (fun U => U.heap.size = sz ∧ va_P D vwCl w U.heap ∧ va_K D vwCl [(d, .int)] U ∧ va_D (fun _ => True) w)) (lc_Q D d (va_A w sz) post) rm.cells rm.slots (va_A w sz)
theorem lc_K.of {l : Launch} {D : va_G} {d : ClassId} {y : MethodName} {b : ByteArray} {L : Nat} {ret : Option FieldType} {rm : Room} {av : List Value} {w : va_W} {post : Option Value → va_W → Prop} (hy : plainName y.cls = true) (hL : (lg_sl av).length ≤ L)
    (h : ∀ (p : Program) (e : Env) (s : State) (m : MethodId) (below : List Frame) (meth : Method) (c : Code) (A : Nat → Prop) (ls : Array Slot),
      CallFix p m c b L s av.toArray lw_all y.cls → meth.sig.returnType = ret → meth.locks = false → meth.name = y.name → lc_St D d A s w s.heap [] → lv_has ls L (lv_args 0 av) →
      W p l e rm s m av.toArray below meth c s.heap [] 0 0 (MQ below (lc_Q D d A post) av.toArray s rm.cells rm.slots A) (F0 m 0 ls [])) : lc_K l D d y b L ret rm av w post := by
  intro sz
  refine Met.ofW (cc := b) (maxL := L) (ret := ret) hy rfl ?_
  intro p e s m args below meth c s₁ B hml hv
  obtain ⟨rfl, hsz, hP, hK, hD0⟩ := hv
  have hts := atoms_spec (ws := ws_ y b L ret) B.pre
  have hts : ∀ w ∈ lw_all, w.before _ s = true := fun w h => hts w (List.mem_cons_of_mem _ h)
  have hown : s.vm.findClass y.cls = some m.cls := findClass_of_methodNamed B.named
  subst hsz
  have hD := hD0.self (sz := s.heap.size)
  have hl := lv_entry av (n := L) hL
  rw [lg_entry_eq]
  exact h p e s m below meth c (va_A w s.heap.size) _ ⟨B.exec, B.bytes, hml, hown, hts⟩ B.returns B.notSynchronized (name_of_methodNamed B.named B.method).1 ⟨hK, hP, hD, va_S.rf, fun q h => Or.inr h⟩ hl
section LCW
variable {p : Program} {l : Launch} {e : Env} {R : Room} {s : State} {m : MethodId} {args : Array Value} {below : List Frame} {meth : Method} {c : Code} {H : Heap} {locs : List Loc} {cells slots : Nat} {Q : State → Prop}
variable {cc : ByteArray} {pc nL : Nat} {ls : Array Slot} {rest : List Value} {D : va_G} {d : ClassId} {A : Nat → Prop} {ws : va_W} {own : String}
theorem lc_iret {w : va_W} {post : Option Value → va_W → Prop} {v : Int32} (S : CallFix p m c cc nL s args lw_all own) (hr : meth.sig.returnType = some .int) (hlk : meth.locks = false) (N : lc_St D d A s w H locs) (hp : post (some (.int v)) w) (hdg : decode cc pc = .ok (.ireturn, 1)) :
    W p l e R s m args below meth c H locs cells slots (MQ below (lc_Q D d A post) args s cells slots A) (F0 m pc ls [.int v]) :=
  W.iret S.1 S.2.1 hr (fun t ht hW => ⟨⟨_, w, rfl, hp, by rw [ht]; exact N.2.1, va_K.moved hW.alike N.1, N.2.2.1⟩, N.2.2.2.1.F ht⟩) N.2.2.2.1.2.2 hdg hlk
theorem lc_zret {w : va_W} {post : Option Value → va_W → Prop} {v : Int32} (S : CallFix p m c cc nL s args lw_all own) (hr : meth.sig.returnType = some .boolean) (hlk : meth.locks = false) (N : lc_St D d A s w H locs) (hn : narrow .boolean (.int v) = .int v) (hp : post (some (.int v)) w) (hdg : decode cc pc = .ok (.ireturn, 1)) :
    W p l e R s m args below meth c H locs cells slots (MQ below (lc_Q D d A post) args s cells slots A) (F0 m pc ls [.int v]) :=
  W.zret S.1 S.2.1 hr hn (fun t ht hW => ⟨⟨_, w, rfl, hp, by rw [ht]; exact N.2.1, va_K.moved hW.alike N.1, N.2.2.1⟩, N.2.2.2.1.F ht⟩) N.2.2.2.1.2.2 hdg hlk
theorem lc_vret {w : va_W} {post : Option Value → va_W → Prop} (S : CallFix p m c cc nL s args lw_all own) (hr : meth.sig.returnType = none) (hlk : meth.locks = false) (N : lc_St D d A s w H locs) (hp : post none w) (hdg : decode cc pc = .ok (.return_, 1)) :
    W p l e R s m args below meth c H locs cells slots (MQ below (lc_Q D d A post) args s cells slots A) (F0 m pc ls []) :=
  W.vret S.1 S.2.1 hr (fun t ht hW => ⟨⟨_, w, rfl, hp, by rw [ht]; exact N.2.1, va_K.moved hW.alike N.1, N.2.2.1⟩, N.2.2.2.1.F ht⟩) N.2.2.2.1.2.2 hdg hlk
/-- the top number by another name -/
theorem lc_top {x : Int32} (y : Int32) (h : x = y) (k : W p l e R s m args below meth c H locs cells slots Q (F0 m pc ls (.int y :: rest))) : W p l e R s m args below meth c H locs cells slots Q (F0 m pc ls (.int x :: rest)) := by
  rw [h]
  exact k
/-- a loop: I n H locs ls holds at its head, n falls -/
theorem lc_loop {st : List Value} (I : Nat → Heap → List Loc → Array Slot → Prop)
    (hs : ∀ (n : Nat) (H : Heap) (locs : List Loc) (ls : Array Slot), I n H locs ls → (∀ (n' : Nat) (H' : Heap) (locs' : List Loc) (ls' : Array Slot), n' < n → I n' H' locs' ls' → W p l e R s m args below meth c H' locs' cells slots Q (F0 m pc ls' st)) → W p l e R s m args below meth c H locs cells slots Q (F0 m pc ls st))
    (n : Nat) {H : Heap} {locs : List Loc} {ls : Array Slot} (h : I n H locs ls) : W p l e R s m args below meth c H locs cells slots Q (F0 m pc ls st) := by
  induction n using Nat.strongRecOn generalizing H locs ls with
  | ind n ih => exact hs n H locs ls h (fun n' H' locs' ls' hlt hI => ih n' hlt hI)
/-- a place where several ways meet -/
theorem lc_cut {st : List Value} (pc' : Nat) (J : Heap → List Loc → Array Slot → List Value → Prop)
    (hk : ∀ (H' : Heap) (locs' : List Loc) (ls' : Array Slot) (st' : List Value), J H' locs' ls' st' → W p l e R s m args below meth c H' locs' cells slots Q (F0 m pc' ls' st'))
    (hh : (∀ (H' : Heap) (locs' : List Loc) (ls' : Array Slot) (st' : List Value), J H' locs' ls' st' → W p l e R s m args below meth c H' locs' cells slots Q (F0 m pc' ls' st')) → W p l e R s m args below meth c H locs cells slots Q (F0 m pc ls st)) : W p l e R s m args below meth c H locs cells slots Q (F0 m pc ls st) := hh hk
/-- behind a run whose callee's cells are wc, the rest wr -/
theorem lc_back {st0 : List Value} {mc ms : Nat} {av : Array Value} {wc wr : va_W} {post : Option Value → va_W → Prop}
    (hr : va_Run p l e R s m args below meth c H locs cells slots mc ms (F0 m pc ls st0) rest (lc_Q D d (va_A wc H.size) post av) (va_A wc H.size))
    (N : lc_St D d A s ws H locs) (isC isR : List Nat) (hC : isC.map (fun i => ws[i]?) = wc.map some) (hR : isR.map (fun i => ws[i]?) = wr.map some) (hn : va_nd isR = true) (hdis : ∀ i ∈ isR, i ∉ isC)
    (kk : ∀ (r : Option Value) (w1 : va_W) (H1 : Heap) (locs1 : List Loc), post r w1 → lc_St D d A s (wr ++ w1) H1 locs1 → W p l e R s m args below meth c H1 locs1 (cells + mc) (slots + ms) Q (F0 m (pc + 3) ls (r.toList ++ rest))) : W p l e R s m args below meth c H locs cells slots Q (F0 m pc ls st0) := by
  obtain ⟨hK, hP, hD, hS, hA⟩ := N
  have hF := va_free (wc := wc) hD hS hA isC hC
  intro T hT X
  obtain ⟨v, st₀, t, T', L, h0, X', hL, e1, e2, ⟨⟨r, w1, hv, hp, hP1, hK1, hD1⟩, hz, hk⟩, st⟩ := hr T hT X
  cases hv
  rw [h0] at hz hk
  rw [← e1] at hP1 hz
  have hk' : ∀ q : Nat, q < H.size → ¬ va_A wc H.size q → T'.heap[q]? = H[q]? := fun q h1 h2 => by rw [e1]; exact hk q h1 h2
  obtain ⟨hP2, hD2⟩ := va_join hP hD isC isR hC hR hn hdis hk' hF hP1 hD1
  obtain ⟨t2, a1, b1⟩ := kk v w1 T'.heap (locs ++ L) hp ⟨hK, hP2, hD2, ⟨Nat.le_trans hS.1 hz, fun q h1 h2 => by rw [hk' q (Nat.lt_of_lt_of_le h1 hS.1) (fun z => h2 (hF q z))]; exact hS.2.1 q h1 h2, fun q hq => by
      rcases List.mem_append.mp hq with h | h
      · exact hS.2.2 q h
      · exact hF _ (hL q h)⟩, hA⟩ T' rfl X'
  exact ⟨t2, st t2 a1, b1⟩
/-- behind a run whose callee has all the cells -/
theorem lc_back0 {st0 : List Value} {mc ms : Nat} {av : Array Value} {post : Option Value → va_W → Prop}
    (hr : va_Run p l e R s m args below meth c H locs cells slots mc ms (F0 m pc ls st0) rest (lc_Q D d (va_A ws H.size) post av) (va_A ws H.size))
    (N : lc_St D d A s ws H locs)
    (kk : ∀ (r : Option Value) (w1 : va_W) (H1 : Heap) (locs1 : List Loc), post r w1 → lc_St D d A s w1 H1 locs1 → W p l e R s m args below meth c H1 locs1 (cells + mc) (slots + ms) Q (F0 m (pc + 3) ls (r.toList ++ rest))) : W p l e R s m args below meth c H locs cells slots Q (F0 m pc ls st0) := by
  obtain ⟨hK, hP, hD, hS, hA⟩ := N
  have hF : ∀ q, va_A ws H.size q → A q := by
    intro q h
    rcases h with ⟨k, e, h⟩ | h
    · exact hD.2 k (q, e) h
    · exact hA q (Nat.le_trans hS.1 h)
  intro T hT X
  obtain ⟨v, st₀, t, T', L, h0, X', hL, e1, e2, ⟨⟨r, w1, hv, hp, hP1, hK1, hD1⟩, hz, hk⟩, st⟩ := hr T hT X
  cases hv
  rw [h0] at hz hk
  rw [← e1] at hP1 hz
  have hk' : ∀ q : Nat, q < H.size → ¬ va_A ws H.size q → T'.heap[q]? = H[q]? := fun q h1 h2 => by rw [e1]; exact hk q h1 h2
  obtain ⟨t2, a1, b1⟩ := kk v w1 T'.heap (locs ++ L) hp ⟨hK, hP1, hD1.weaken (fun k q _ h => hF q.1 h), ⟨Nat.le_trans hS.1 hz, fun q h1 h2 => by rw [hk' q (Nat.lt_of_lt_of_le h1 hS.1) (fun z => h2 (hF q z))]; exact hS.2.1 q h1 h2, fun q hq => by
      rcases List.mem_append.mp hq with h | h
      · exact hS.2.2 q h
      · exact hF _ (hL q h)⟩, hA⟩ T' rfl X'
  exact ⟨t2, st t2 a1, b1⟩
/-- behind a run whose callee has no cell -/
theorem lc_backN {st0 : List Value} {mc ms : Nat} {av : Array Value} {post : Option Value → va_W → Prop}
    (hr : va_Run p l e R s m args below meth c H locs cells slots mc ms (F0 m pc ls st0) rest (lc_Q D d (va_A [] H.size) post av) (va_A [] H.size))
    (N : lc_St D d A s ws H locs)
    (kk : ∀ (r : Option Value) (w1 : va_W) (H1 : Heap) (locs1 : List Loc), post r w1 → lc_St D d A s ws H1 locs1 → W p l e R s m args below meth c H1 locs1 (cells + mc) (slots + ms) Q (F0 m (pc + 3) ls (r.toList ++ rest))) : W p l e R s m args below meth c H locs cells slots Q (F0 m pc ls st0) := by
  obtain ⟨hK, hP, hD, hS, hA⟩ := N
  have hF : ∀ q, va_A [] H.size q → A q := by
    intro q h
    rcases h with ⟨k, e, h⟩ | h
    · simp at h
    · exact hA q (Nat.le_trans hS.1 h)
  have hN : ∀ q : Nat, q < H.size → ¬ va_A [] H.size q := by
    intro q h1 h
    rcases h with ⟨k, e, h⟩ | h
    · simp at h
    · omega
  intro T hT X
  obtain ⟨v, st₀, t, T', L, h0, X', hL, e1, e2, ⟨⟨r, w1, hv, hp, hP1, hK1, hD1⟩, hz, hk⟩, st⟩ := hr T hT X
  cases hv
  rw [h0] at hz hk
  rw [← e1] at hz
  have hk' : ∀ q : Nat, q < H.size → T'.heap[q]? = H[q]? := fun q h1 => by rw [e1]; exact hk q h1 (hN q h1)
  obtain ⟨t2, a1, b1⟩ := kk v w1 T'.heap (locs ++ L) hp ⟨hK, hP.kept (fun k q hq => hk' q.1 ((hP k q hq).lt)), hD, ⟨Nat.le_trans hS.1 hz, fun q h1 h2 => by rw [hk' q (Nat.lt_of_lt_of_le h1 hS.1)]; exact hS.2.1 q h1 h2, fun q hq => by
      rcases List.mem_append.mp hq with h | h
      · exact hS.2.2 q h
      · exact hF _ (hL q h)⟩, hA⟩ T' rfl X'
  exact ⟨t2, st t2 a1, b1⟩
variable {y : MethodName} {b : ByteArray} {L idx ci : Nat} {ret : Option FieldType} {rm : Room} {C : String} {b0 : Nat} {As : List Value} {post : Option Value → va_W → Prop}
theorem lc_blind {y : MethodName} {sz : Nat} {w : va_W} {av : List Value} : FrameBlind (va_Pc av (fun U => U.heap.size = sz ∧ va_P D vwCl w U.heap ∧ va_K D vwCl [(d, .int)] U ∧ va_D (fun _ => True) w)) := by
  intro a U g mk q
  obtain ⟨q0, q1, qP, qK, qD⟩ := q
  exact ⟨q0, q1, qP, va_K.moved (u := U) (U := U.calling g mk a) (Vm.Alike.refl U.vm) qK, qD⟩
/-- the run of a call through an object, on the cells wc -/
theorem lc_runV {wc : va_W} {fs : List Value} {TT : u_T} {NN k0 : Nat} {lv : List (Nat × Value)} {st0 : List Value} (hM : lc_K l D d y b L ret rm (.ref b0 :: As) wc post) (S : CallFix p m c cc nL s args lw_all own) (hK : va_K D vwCl [(d, .int)] s) (hPc : va_P D vwCl wc H) (hDc : va_D A wc)
    (hG : GoodIn lw_all (wsV own idx C y (ws_ y b L ret))) (hd : y.cls = C ∧ y.cls ≠ "java/lang/invoke/MethodHandle" ∧ y.cls ≠ "java/lang/invoke/VarHandle" ∧ (parseMethodDescriptor y.desc).map (fun d => d.parameters.length) = some As.length) (hrm : rm.frames + 1 ≤ R.frames ∧ 8 + (L + 11) + rm.locals ≤ R.locals)
    (hcl : vwCl[ci]? = some (C, TT, NN)) (hrecv : wc[k0]? = some (b0, .inr (ci, fs))) (hls : lv_has ls nL lv) (hroom : (rest.map fun v => v.category).sum ≤ 8) (hst : st0 = As.reverse ++ .ref b0 :: rest) (hdg : decode cc pc = .ok (.invokevirtual idx, 3)) (hf : cells + rm.cells ≤ R.cells ∧ slots + rm.slots ≤ R.slots) :
    va_Run p l e R s m args below meth c H locs cells slots rm.cells rm.slots (F0 m pc ls st0) rest (lc_Q D d (va_A wc H.size) post (Value.ref b0 :: As).toArray) (va_A wc H.size) :=
  va_runV (As := As) (rest := rest) S (hM H.size) (cwV As.length S.2.2.2.2 hG rfl rfl rfl hd hrm) ⟨lc_blind (y := y), va_recv hK hPc hcl hrecv, fun U hU hW => ⟨rfl, by rw [hU], by rw [hU]; exact hPc, va_K.moved hW.alike hK, hDc.weaken (fun _ _ _ _ => trivial)⟩⟩ rfl rfl hls.1 hst (lv_room hroom) hdg hf
/-- a call through an object: the callee has all the cells and makes none -/
theorem lc_callV {fs : List Value} {TT : u_T} {NN : Nat} {lv : List (Nat × Value)} {st0 : List Value} (hM : lc_K l D d y b L ret rm (.ref b0 :: As) ws post) (S : CallFix p m c cc nL s args lw_all own) (N : lc_St D d A s ws H locs)
    (hG : GoodIn lw_all (wsV own idx C y (ws_ y b L ret))) (hd : y.cls = C ∧ y.cls ≠ "java/lang/invoke/MethodHandle" ∧ y.cls ≠ "java/lang/invoke/VarHandle" ∧ (parseMethodDescriptor y.desc).map (fun d => d.parameters.length) = some As.length) (hrm : rm.frames + 1 ≤ R.frames ∧ 8 + (L + 11) + rm.locals ≤ R.locals) (h0 : rm.cells = 0 ∧ rm.slots = 0)
    (hcl : vwCl[ci]? = some (C, TT, NN)) (hrecv : ws[0]? = some (b0, .inr (ci, fs))) (hls : lv_has ls nL lv) (hroom : (rest.map fun v => v.category).sum ≤ 8) (hst : st0 = As.reverse ++ .ref b0 :: rest) (hdg : decode cc pc = .ok (.invokevirtual idx, 3)) (hf : cells ≤ R.cells ∧ slots ≤ R.slots)
    (kk : ∀ (r : Option Value) (w1 : va_W) (H1 : Heap) (locs1 : List Loc), post r w1 → lc_St D d A s w1 H1 locs1 → W p l e R s m args below meth c H1 locs1 cells slots Q (F0 m (pc + 3) ls (r.toList ++ rest))) : W p l e R s m args below meth c H locs cells slots Q (F0 m pc ls st0) := by
  refine lc_back0 (lc_runV hM S N.1 N.2.1 N.2.2.1 hG hd hrm hcl hrecv hls hroom hst hdg ?_) N ?_
  · rw [h0.1, h0.2]; exact hf
  · intro r w1 H1 locs1 hp N1
    rw [h0.1, h0.2]
    exact kk r w1 H1 locs1 hp N1
/-- a call through an object on the cells wc, the rest wr stays -/
theorem lc_callF {wc wr : va_W} {fs : List Value} {TT : u_T} {NN : Nat} {lv : List (Nat × Value)} {st0 : List Value} (hM : lc_K l D d y b L ret rm (.ref b0 :: As) wc post) (S : CallFix p m c cc nL s args lw_all own) (N : lc_St D d A s ws H locs)
    (isC isR : List Nat) (hC : isC.map (fun i => ws[i]?) = wc.map some) (hR : isR.map (fun i => ws[i]?) = wr.map some) (hnC : va_nd isC = true) (hn : va_nd isR = true) (hdis : ∀ i ∈ isR, i ∉ isC)
    (hG : GoodIn lw_all (wsV own idx C y (ws_ y b L ret))) (hd : y.cls = C ∧ y.cls ≠ "java/lang/invoke/MethodHandle" ∧ y.cls ≠ "java/lang/invoke/VarHandle" ∧ (parseMethodDescriptor y.desc).map (fun d => d.parameters.length) = some As.length) (hrm : rm.frames + 1 ≤ R.frames ∧ 8 + (L + 11) + rm.locals ≤ R.locals) (h0 : rm.cells = 0 ∧ rm.slots = 0)
    (hcl : vwCl[ci]? = some (C, TT, NN)) (hrecv : wc[0]? = some (b0, .inr (ci, fs))) (hls : lv_has ls nL lv) (hroom : (rest.map fun v => v.category).sum ≤ 8) (hst : st0 = As.reverse ++ .ref b0 :: rest) (hdg : decode cc pc = .ok (.invokevirtual idx, 3)) (hf : cells ≤ R.cells ∧ slots ≤ R.slots)
    (kk : ∀ (r : Option Value) (w1 : va_W) (H1 : Heap) (locs1 : List Loc), post r w1 → lc_St D d A s (wr ++ w1) H1 locs1 → W p l e R s m args below meth c H1 locs1 cells slots Q (F0 m (pc + 3) ls (r.toList ++ rest))) : W p l e R s m args below meth c H locs cells slots Q (F0 m pc ls st0) := by
  have hPc : va_P D vwCl wc H := fun k q hq => by
    obtain ⟨i, -, hi⟩ := va_in_of isC hC hq
    exact N.2.1 i q hi
  refine lc_back (lc_runV hM S N.1 hPc (N.2.2.1.sub isC hnC hC) hG hd hrm hcl hrecv hls hroom hst hdg ?_) N isC isR hC hR hn hdis ?_
  · rw [h0.1, h0.2]; exact hf
  · intro r w1 H1 locs1 hp N1
    rw [h0.1, h0.2]
    exact kk r w1 H1 locs1 hp N1
/-- a static call, without cells -/
theorem lc_callS {lv : List (Nat × Value)} {st0 : List Value} (hM : lc_K l D d y b L ret rm As [] post) (S : CallFix p m c cc nL s args lw_all own) (N : lc_St D d A s ws H locs)
    (hG : GoodIn lw_all (va_wsS own idx y (ws_ y b L ret))) (hd : y.cls ≠ "java/lang/invoke/MethodHandle" ∧ y.cls ≠ "java/lang/invoke/VarHandle" ∧ (parseMethodDescriptor y.desc).map (fun d => d.parameters.length) = some As.length) (hrm : rm.frames + 1 ≤ R.frames ∧ 8 + (L + 11) + rm.locals ≤ R.locals) (h0 : rm.cells = 0 ∧ rm.slots = 0)
    (hls : lv_has ls nL lv) (hroom : (rest.map fun v => v.category).sum ≤ 8) (hst : st0 = As.reverse ++ rest) (hdg : decode cc pc = .ok (.invokestatic idx, 3)) (hf : cells ≤ R.cells ∧ slots ≤ R.slots)
    (kk : ∀ (r : Option Value) (w1 : va_W) (H1 : Heap) (locs1 : List Loc), post r w1 → lc_St D d A s ws H1 locs1 → W p l e R s m args below meth c H1 locs1 cells slots Q (F0 m (pc + 3) ls (r.toList ++ rest))) : W p l e R s m args below meth c H locs cells slots Q (F0 m pc ls st0) := by
  have hPn : va_P D vwCl [] H := fun k q h => by simp at h
  have hDn : va_D (fun _ => True) ([] : va_W) := ⟨fun i j p q h => by simp at h, fun k q h => by simp at h⟩
  have hrun := va_runS (e := e) (below := below) (meth := meth) (locs := locs) (g := F0 m pc ls st0) (cells := cells) (slots := slots) (As := As) (rest := rest) S (hM H.size) (va_cwS As.length S.2.2.2.2 hG rfl rfl rfl hd hrm) ⟨lc_blind (y := y), fun U hU hW => ⟨rfl, by rw [hU], by rw [hU]; exact hPn, va_K.moved hW.alike N.1, hDn⟩⟩ rfl rfl hls.1 hst (lv_room hroom) hdg (by rw [h0.1, h0.2]; exact hf)
  refine lc_backN hrun N ?_
  intro r w1 H1 locs1 hp N1
  rw [h0.1, h0.2]
  exact kk r w1 H1 locs1 hp N1
/-- a constructor's call on the cells wc, the rest wr stays -/
theorem lc_callI {wc wr : va_W} {lv : List (Nat × Value)} {st0 : List Value} (hM : lc_K l D d y b L none rm (.ref b0 :: As) wc post) (S : CallFix p m c cc nL s args lw_all own) (N : lc_St D d A s ws H locs)
    (isC isR : List Nat) (hC : isC.map (fun i => ws[i]?) = wc.map some) (hR : isR.map (fun i => ws[i]?) = wr.map some) (hnC : va_nd isC = true) (hn : va_nd isR = true) (hdis : ∀ i ∈ isR, i ∉ isC)
    (hG : GoodIn lw_all (ws_ y b L none)) (hini : Cond.initialized y.cls ∈ lw_all) (hlink : Cond.methodLink own idx y ∈ lw_all) (hinst : Cond.instanceMethod y ∈ lw_all) (hname : y.name = "<init>")
    (hd : y.cls ≠ "java/lang/invoke/MethodHandle" ∧ y.cls ≠ "java/lang/invoke/VarHandle" ∧ (parseMethodDescriptor y.desc).map (fun d => d.parameters.length) = some As.length) (hrm : rm.frames + 1 ≤ R.frames ∧ 8 + (L + 11) + rm.locals ≤ R.locals)
    (hls : lv_has ls nL lv) (hroom : (rest.map fun v => v.category).sum ≤ 8) (hst : st0 = As.reverse ++ .ref b0 :: rest) (hdg : decode cc pc = .ok (.invokespecial idx, 3)) (hf : cells + rm.cells ≤ R.cells ∧ slots + rm.slots ≤ R.slots)
    (kk : ∀ (r : Option Value) (w1 : va_W) (H1 : Heap) (locs1 : List Loc), post r w1 → lc_St D d A s (wr ++ w1) H1 locs1 → W p l e R s m args below meth c H1 locs1 (cells + rm.cells) (slots + rm.slots) Q (F0 m (pc + 3) ls (r.toList ++ rest))) : W p l e R s m args below meth c H locs cells slots Q (F0 m pc ls st0) := by
  have hPc : va_P D vwCl wc H := fun k q hq => by
    obtain ⟨i, -, hi⟩ := va_in_of isC hC hq
    exact N.2.1 i q hi
  have hDc := N.2.2.1.sub isC hnC hC
  have hrun := va_runI (e := e) (below := below) (meth := meth) (locs := locs) (g := F0 m pc ls st0) (cells := cells) (slots := slots) (As := As) (rest := rest) S (hM H.size) (cwI As.length S.2.2.2.2 hG rfl rfl rfl (S.2.2.2.2 _ hini) (S.2.2.2.2 _ hlink) (S.2.2.2.2 _ hinst) hname hd hrm) ⟨lc_blind (y := y), fun U hU hW => ⟨rfl, by rw [hU], by rw [hU]; exact hPc, va_K.moved hW.alike N.1, hDc.weaken (fun _ _ _ _ => trivial)⟩⟩ rfl rfl hls.1 hst (lv_room hroom) hdg hf
  exact lc_back hrun N isC isR hC hR hn hdis kk
end LCW
theorem lc_n64 (i : Nat) : (64 : Int32) * nI i = nI (64 * i) := pk_mul 64 i
theorem lc_dec {n : Nat} (h : 0 < n) : nI n - 1 = nI (n - 1) := by
  obtain ⟨k, rfl⟩ : ∃ k, n = k + 1 := ⟨n - 1, by omega⟩
  exact nI_pred k
end
section
/-- the world of X0: its object at a 0, its arrays behind -/
abbrev wA (d : ClassId) (a : Nat → Nat) (tk ch dp ga : Int32) (cn en wi la ne nw nl : Nat → Int32) : va_W := [(a 0, .inr (0, [.int tk, .int ch, .int dp, .ref (a 1), .ref (a 2), .ref (a 3), .ref (a 4), .int ga, .ref (a 5), .ref (a 6), .ref (a 7)])), (a 1, .inl (d, 10, .inl cn)), (a 2, .inl (d, 640, .inl en)), (a 3, .inl (d, 640, .inl wi)), (a 4, .inl (d, 640, .inl la)), (a 5, .inl (d, 65, .inl ne)), (a 6, .inl (d, 65, .inl nw)), (a 7, .inl (d, 65, .inl nl))]
section RA
variable {p : Program} {l : Launch} {e : Env} {R : Room} {s : State} {m : MethodId} {args : Array Value} {below : List Frame} {meth : Method} {c : Code} {H : Heap} {locs : List Loc} {cells slots : Nat} {Q : State → Prop}
variable {cc : ByteArray} {pc nL : Nat} {ls : Array Slot} {rest : List Value} {D : va_G} {d : ClassId} {A : Nat → Prop} {a : Nat → Nat} {tk ch dp ga : Int32} {cn en wi la ne nw nl : Nat → Int32}
theorem gA_tk (S : CallFix p m c cc nL s args lw_all RX0) (N : lc_St D d A s (wA d a tk ch dp ga cn en wi la ne nw nl) H locs) (hdg : decode cc pc = .ok (.getfield 31, 3)) (kk : W p l e R s m args below meth c H locs cells slots Q (F0 m (pc + 3) ls (.int tk :: rest))) : W p l e R s m args below meth c H locs cells slots Q (F0 m pc ls (.ref (a 0) :: rest)) :=
  va_get (D := D) (ci := 0) (v := .int tk) (C := RX0) (T := TX0) (N := 11) S.1 S.2.1 S.2.2.2.2 in_X0 S.2.2.2.1 N.1 N.2.1 0 rfl rfl 0 (by decide) (S.2.2.2.2 _ q24) (fun _ h9 => h9) rfl hdg kk
theorem pA_tk {v : Int32} (S : CallFix p m c cc nL s args lw_all RX0) (N : lc_St D d A s (wA d a tk ch dp ga cn en wi la ne nw nl) H locs) (hdg : decode cc pc = .ok (.putfield 31, 3)) (kk : ∀ (H : Heap) (locs : List Loc), lc_St D d A s (wA d a v ch dp ga cn en wi la ne nw nl) H locs → W p l e R s m args below meth c H locs cells slots Q (F0 m (pc + 3) ls rest)) : W p l e R s m args below meth c H locs cells slots Q (F0 m pc ls (.int v :: .ref (a 0) :: rest)) :=
  va_put (D := D) (ci := 0) (v := .int v) (ty := .int) (C := RX0) (T := TX0) (N := 11) S.1 S.2.1 S.2.2.2.2 in_X0 tyX0 tyX0_ok nmX0 S.2.2.2.1 N.1 N.2.1 N.2.2.1 N.2.2.2.1 0 rfl rfl 0 (by decide) (S.2.2.2.2 _ q24) (fun _ h9 => h9) rfl (by decide +kernel) rfl rfl (Nat.le_of_ble_eq_true rfl) hdg (fun H1 locs1 hP hD hS => kk H1 locs1 ⟨N.1, hP, hD, hS, N.2.2.2.2⟩)
theorem gA_ch (S : CallFix p m c cc nL s args lw_all RX0) (N : lc_St D d A s (wA d a tk ch dp ga cn en wi la ne nw nl) H locs) (hdg : decode cc pc = .ok (.getfield 39, 3)) (kk : W p l e R s m args below meth c H locs cells slots Q (F0 m (pc + 3) ls (.int ch :: rest))) : W p l e R s m args below meth c H locs cells slots Q (F0 m pc ls (.ref (a 0) :: rest)) :=
  va_get (D := D) (ci := 0) (v := .int ch) (C := RX0) (T := TX0) (N := 11) S.1 S.2.1 S.2.2.2.2 in_X0 S.2.2.2.1 N.1 N.2.1 0 rfl rfl 1 (by decide) (S.2.2.2.2 _ q25) (fun _ h9 => h9) rfl hdg kk
theorem pA_ch {v : Int32} (S : CallFix p m c cc nL s args lw_all RX0) (N : lc_St D d A s (wA d a tk ch dp ga cn en wi la ne nw nl) H locs) (hdg : decode cc pc = .ok (.putfield 39, 3)) (kk : ∀ (H : Heap) (locs : List Loc), lc_St D d A s (wA d a tk v dp ga cn en wi la ne nw nl) H locs → W p l e R s m args below meth c H locs cells slots Q (F0 m (pc + 3) ls rest)) : W p l e R s m args below meth c H locs cells slots Q (F0 m pc ls (.int v :: .ref (a 0) :: rest)) :=
  va_put (D := D) (ci := 0) (v := .int v) (ty := .int) (C := RX0) (T := TX0) (N := 11) S.1 S.2.1 S.2.2.2.2 in_X0 tyX0 tyX0_ok nmX0 S.2.2.2.1 N.1 N.2.1 N.2.2.1 N.2.2.2.1 0 rfl rfl 1 (by decide) (S.2.2.2.2 _ q25) (fun _ h9 => h9) rfl (by decide +kernel) rfl rfl (Nat.le_of_ble_eq_true rfl) hdg (fun H1 locs1 hP hD hS => kk H1 locs1 ⟨N.1, hP, hD, hS, N.2.2.2.2⟩)
theorem gA_dp (S : CallFix p m c cc nL s args lw_all RX0) (N : lc_St D d A s (wA d a tk ch dp ga cn en wi la ne nw nl) H locs) (hdg : decode cc pc = .ok (.getfield 49, 3)) (kk : W p l e R s m args below meth c H locs cells slots Q (F0 m (pc + 3) ls (.int dp :: rest))) : W p l e R s m args below meth c H locs cells slots Q (F0 m pc ls (.ref (a 0) :: rest)) :=
  va_get (D := D) (ci := 0) (v := .int dp) (C := RX0) (T := TX0) (N := 11) S.1 S.2.1 S.2.2.2.2 in_X0 S.2.2.2.1 N.1 N.2.1 0 rfl rfl 2 (by decide) (S.2.2.2.2 _ q26) (fun _ h9 => h9) rfl hdg kk
theorem pA_dp {v : Int32} (S : CallFix p m c cc nL s args lw_all RX0) (N : lc_St D d A s (wA d a tk ch dp ga cn en wi la ne nw nl) H locs) (hdg : decode cc pc = .ok (.putfield 49, 3)) (kk : ∀ (H : Heap) (locs : List Loc), lc_St D d A s (wA d a tk ch v ga cn en wi la ne nw nl) H locs → W p l e R s m args below meth c H locs cells slots Q (F0 m (pc + 3) ls rest)) : W p l e R s m args below meth c H locs cells slots Q (F0 m pc ls (.int v :: .ref (a 0) :: rest)) :=
  va_put (D := D) (ci := 0) (v := .int v) (ty := .int) (C := RX0) (T := TX0) (N := 11) S.1 S.2.1 S.2.2.2.2 in_X0 tyX0 tyX0_ok nmX0 S.2.2.2.1 N.1 N.2.1 N.2.2.1 N.2.2.2.1 0 rfl rfl 2 (by decide) (S.2.2.2.2 _ q26) (fun _ h9 => h9) rfl (by decide +kernel) rfl rfl (Nat.le_of_ble_eq_true rfl) hdg (fun H1 locs1 hP hD hS => kk H1 locs1 ⟨N.1, hP, hD, hS, N.2.2.2.2⟩)
theorem gA_cn (S : CallFix p m c cc nL s args lw_all RX0) (N : lc_St D d A s (wA d a tk ch dp ga cn en wi la ne nw nl) H locs) (hdg : decode cc pc = .ok (.getfield 7, 3)) (kk : W p l e R s m args below meth c H locs cells slots Q (F0 m (pc + 3) ls (.ref (a 1) :: rest))) : W p l e R s m args below meth c H locs cells slots Q (F0 m pc ls (.ref (a 0) :: rest)) :=
  va_get (D := D) (ci := 0) (v := .ref (a 1)) (C := RX0) (T := TX0) (N := 11) S.1 S.2.1 S.2.2.2.2 in_X0 S.2.2.2.1 N.1 N.2.1 0 rfl rfl 3 (by decide) (S.2.2.2.2 _ q27) (fun _ h9 => h9) rfl hdg kk
theorem lA_cn (S : CallFix p m c cc nL s args lw_all RX0) (N : lc_St D d A s (wA d a tk ch dp ga cn en wi la ne nw nl) H locs) (j : Nat) (hj : j < 10) (hdg : decode cc pc = .ok (.iaload, 1)) (kk : W p l e R s m args below meth c H locs cells slots Q (F0 m (pc + 1) ls (.int (cn j) :: rest))) : W p l e R s m args below meth c H locs cells slots Q (F0 m pc ls (.int (nI j) :: .ref (a 1) :: rest)) := by
  refine va_iald S.1 S.2.1 N.1 N.2.1 1 0 rfl rfl (vp_in_nI hj (by decide)) hdg ?_
  rw [nI_clamp (by omega)]
  exact kk
theorem sA_cn {x : Int32} (S : CallFix p m c cc nL s args lw_all RX0) (N : lc_St D d A s (wA d a tk ch dp ga cn en wi la ne nw nl) H locs) (j : Nat) (hj : j < 10) (hdg : decode cc pc = .ok (.iastore, 1)) (kk : ∀ (H : Heap) (locs : List Loc), lc_St D d A s (wA d a tk ch dp ga (upd cn j x) en wi la ne nw nl) H locs → W p l e R s m args below meth c H locs cells slots Q (F0 m (pc + 1) ls rest)) : W p l e R s m args below meth c H locs cells slots Q (F0 m pc ls (.int x :: .int (nI j) :: .ref (a 1) :: rest)) := by
  refine va_iast S.1 S.2.1 N.1 N.2.1 N.2.2.1 N.2.2.2.1 1 0 rfl rfl (vp_in_nI hj (by decide)) hdg (fun H1 locs1 hP hD hS => ?_)
  rw [nI_clamp (by omega)] at hP hD
  exact kk H1 locs1 ⟨N.1, hP, hD, hS, N.2.2.2.2⟩
theorem gA_en (S : CallFix p m c cc nL s args lw_all RX0) (N : lc_St D d A s (wA d a tk ch dp ga cn en wi la ne nw nl) H locs) (hdg : decode cc pc = .ok (.getfield 13, 3)) (kk : W p l e R s m args below meth c H locs cells slots Q (F0 m (pc + 3) ls (.ref (a 2) :: rest))) : W p l e R s m args below meth c H locs cells slots Q (F0 m pc ls (.ref (a 0) :: rest)) :=
  va_get (D := D) (ci := 0) (v := .ref (a 2)) (C := RX0) (T := TX0) (N := 11) S.1 S.2.1 S.2.2.2.2 in_X0 S.2.2.2.1 N.1 N.2.1 0 rfl rfl 4 (by decide) (S.2.2.2.2 _ q28) (fun _ h9 => h9) rfl hdg kk
theorem lA_en (S : CallFix p m c cc nL s args lw_all RX0) (N : lc_St D d A s (wA d a tk ch dp ga cn en wi la ne nw nl) H locs) (j : Nat) (hj : j < 640) (hdg : decode cc pc = .ok (.iaload, 1)) (kk : W p l e R s m args below meth c H locs cells slots Q (F0 m (pc + 1) ls (.int (en j) :: rest))) : W p l e R s m args below meth c H locs cells slots Q (F0 m pc ls (.int (nI j) :: .ref (a 2) :: rest)) := by
  refine va_iald S.1 S.2.1 N.1 N.2.1 2 0 rfl rfl (vp_in_nI hj (by decide)) hdg ?_
  rw [nI_clamp (by omega)]
  exact kk
theorem sA_en {x : Int32} (S : CallFix p m c cc nL s args lw_all RX0) (N : lc_St D d A s (wA d a tk ch dp ga cn en wi la ne nw nl) H locs) (j : Nat) (hj : j < 640) (hdg : decode cc pc = .ok (.iastore, 1)) (kk : ∀ (H : Heap) (locs : List Loc), lc_St D d A s (wA d a tk ch dp ga cn (upd en j x) wi la ne nw nl) H locs → W p l e R s m args below meth c H locs cells slots Q (F0 m (pc + 1) ls rest)) : W p l e R s m args below meth c H locs cells slots Q (F0 m pc ls (.int x :: .int (nI j) :: .ref (a 2) :: rest)) := by
  refine va_iast S.1 S.2.1 N.1 N.2.1 N.2.2.1 N.2.2.2.1 2 0 rfl rfl (vp_in_nI hj (by decide)) hdg (fun H1 locs1 hP hD hS => ?_)
  rw [nI_clamp (by omega)] at hP hD
  exact kk H1 locs1 ⟨N.1, hP, hD, hS, N.2.2.2.2⟩
theorem gA_wi (S : CallFix p m c cc nL s args lw_all RX0) (N : lc_St D d A s (wA d a tk ch dp ga cn en wi la ne nw nl) H locs) (hdg : decode cc pc = .ok (.getfield 16, 3)) (kk : W p l e R s m args below meth c H locs cells slots Q (F0 m (pc + 3) ls (.ref (a 3) :: rest))) : W p l e R s m args below meth c H locs cells slots Q (F0 m pc ls (.ref (a 0) :: rest)) :=
  va_get (D := D) (ci := 0) (v := .ref (a 3)) (C := RX0) (T := TX0) (N := 11) S.1 S.2.1 S.2.2.2.2 in_X0 S.2.2.2.1 N.1 N.2.1 0 rfl rfl 5 (by decide) (S.2.2.2.2 _ q29) (fun _ h9 => h9) rfl hdg kk
theorem lA_wi (S : CallFix p m c cc nL s args lw_all RX0) (N : lc_St D d A s (wA d a tk ch dp ga cn en wi la ne nw nl) H locs) (j : Nat) (hj : j < 640) (hdg : decode cc pc = .ok (.iaload, 1)) (kk : W p l e R s m args below meth c H locs cells slots Q (F0 m (pc + 1) ls (.int (wi j) :: rest))) : W p l e R s m args below meth c H locs cells slots Q (F0 m pc ls (.int (nI j) :: .ref (a 3) :: rest)) := by
  refine va_iald S.1 S.2.1 N.1 N.2.1 3 0 rfl rfl (vp_in_nI hj (by decide)) hdg ?_
  rw [nI_clamp (by omega)]
  exact kk
theorem sA_wi {x : Int32} (S : CallFix p m c cc nL s args lw_all RX0) (N : lc_St D d A s (wA d a tk ch dp ga cn en wi la ne nw nl) H locs) (j : Nat) (hj : j < 640) (hdg : decode cc pc = .ok (.iastore, 1)) (kk : ∀ (H : Heap) (locs : List Loc), lc_St D d A s (wA d a tk ch dp ga cn en (upd wi j x) la ne nw nl) H locs → W p l e R s m args below meth c H locs cells slots Q (F0 m (pc + 1) ls rest)) : W p l e R s m args below meth c H locs cells slots Q (F0 m pc ls (.int x :: .int (nI j) :: .ref (a 3) :: rest)) := by
  refine va_iast S.1 S.2.1 N.1 N.2.1 N.2.2.1 N.2.2.2.1 3 0 rfl rfl (vp_in_nI hj (by decide)) hdg (fun H1 locs1 hP hD hS => ?_)
  rw [nI_clamp (by omega)] at hP hD
  exact kk H1 locs1 ⟨N.1, hP, hD, hS, N.2.2.2.2⟩
theorem gA_la (S : CallFix p m c cc nL s args lw_all RX0) (N : lc_St D d A s (wA d a tk ch dp ga cn en wi la ne nw nl) H locs) (hdg : decode cc pc = .ok (.getfield 19, 3)) (kk : W p l e R s m args below meth c H locs cells slots Q (F0 m (pc + 3) ls (.ref (a 4) :: rest))) : W p l e R s m args below meth c H locs cells slots Q (F0 m pc ls (.ref (a 0) :: rest)) :=
  va_get (D := D) (ci := 0) (v := .ref (a 4)) (C := RX0) (T := TX0) (N := 11) S.1 S.2.1 S.2.2.2.2 in_X0 S.2.2.2.1 N.1 N.2.1 0 rfl rfl 6 (by decide) (S.2.2.2.2 _ q30) (fun _ h9 => h9) rfl hdg kk
theorem lA_la (S : CallFix p m c cc nL s args lw_all RX0) (N : lc_St D d A s (wA d a tk ch dp ga cn en wi la ne nw nl) H locs) (j : Nat) (hj : j < 640) (hdg : decode cc pc = .ok (.iaload, 1)) (kk : W p l e R s m args below meth c H locs cells slots Q (F0 m (pc + 1) ls (.int (la j) :: rest))) : W p l e R s m args below meth c H locs cells slots Q (F0 m pc ls (.int (nI j) :: .ref (a 4) :: rest)) := by
  refine va_iald S.1 S.2.1 N.1 N.2.1 4 0 rfl rfl (vp_in_nI hj (by decide)) hdg ?_
  rw [nI_clamp (by omega)]
  exact kk
theorem sA_la {x : Int32} (S : CallFix p m c cc nL s args lw_all RX0) (N : lc_St D d A s (wA d a tk ch dp ga cn en wi la ne nw nl) H locs) (j : Nat) (hj : j < 640) (hdg : decode cc pc = .ok (.iastore, 1)) (kk : ∀ (H : Heap) (locs : List Loc), lc_St D d A s (wA d a tk ch dp ga cn en wi (upd la j x) ne nw nl) H locs → W p l e R s m args below meth c H locs cells slots Q (F0 m (pc + 1) ls rest)) : W p l e R s m args below meth c H locs cells slots Q (F0 m pc ls (.int x :: .int (nI j) :: .ref (a 4) :: rest)) := by
  refine va_iast S.1 S.2.1 N.1 N.2.1 N.2.2.1 N.2.2.2.1 4 0 rfl rfl (vp_in_nI hj (by decide)) hdg (fun H1 locs1 hP hD hS => ?_)
  rw [nI_clamp (by omega)] at hP hD
  exact kk H1 locs1 ⟨N.1, hP, hD, hS, N.2.2.2.2⟩
theorem gA_ga (S : CallFix p m c cc nL s args lw_all RX0) (N : lc_St D d A s (wA d a tk ch dp ga cn en wi la ne nw nl) H locs) (hdg : decode cc pc = .ok (.getfield 42, 3)) (kk : W p l e R s m args below meth c H locs cells slots Q (F0 m (pc + 3) ls (.int ga :: rest))) : W p l e R s m args below meth c H locs cells slots Q (F0 m pc ls (.ref (a 0) :: rest)) :=
  va_get (D := D) (ci := 0) (v := .int ga) (C := RX0) (T := TX0) (N := 11) S.1 S.2.1 S.2.2.2.2 in_X0 S.2.2.2.1 N.1 N.2.1 0 rfl rfl 7 (by decide) (S.2.2.2.2 _ q31) (fun _ h9 => h9) rfl hdg kk
theorem pA_ga {v : Int32} (S : CallFix p m c cc nL s args lw_all RX0) (N : lc_St D d A s (wA d a tk ch dp ga cn en wi la ne nw nl) H locs) (hdg : decode cc pc = .ok (.putfield 42, 3)) (kk : ∀ (H : Heap) (locs : List Loc), lc_St D d A s (wA d a tk ch dp v cn en wi la ne nw nl) H locs → W p l e R s m args below meth c H locs cells slots Q (F0 m (pc + 3) ls rest)) : W p l e R s m args below meth c H locs cells slots Q (F0 m pc ls (.int v :: .ref (a 0) :: rest)) :=
  va_put (D := D) (ci := 0) (v := .int v) (ty := .int) (C := RX0) (T := TX0) (N := 11) S.1 S.2.1 S.2.2.2.2 in_X0 tyX0 tyX0_ok nmX0 S.2.2.2.1 N.1 N.2.1 N.2.2.1 N.2.2.2.1 0 rfl rfl 7 (by decide) (S.2.2.2.2 _ q31) (fun _ h9 => h9) rfl (by decide +kernel) rfl rfl (Nat.le_of_ble_eq_true rfl) hdg (fun H1 locs1 hP hD hS => kk H1 locs1 ⟨N.1, hP, hD, hS, N.2.2.2.2⟩)
theorem gA_ne (S : CallFix p m c cc nL s args lw_all RX0) (N : lc_St D d A s (wA d a tk ch dp ga cn en wi la ne nw nl) H locs) (hdg : decode cc pc = .ok (.getfield 22, 3)) (kk : W p l e R s m args below meth c H locs cells slots Q (F0 m (pc + 3) ls (.ref (a 5) :: rest))) : W p l e R s m args below meth c H locs cells slots Q (F0 m pc ls (.ref (a 0) :: rest)) :=
  va_get (D := D) (ci := 0) (v := .ref (a 5)) (C := RX0) (T := TX0) (N := 11) S.1 S.2.1 S.2.2.2.2 in_X0 S.2.2.2.1 N.1 N.2.1 0 rfl rfl 8 (by decide) (S.2.2.2.2 _ q32) (fun _ h9 => h9) rfl hdg kk
theorem lA_ne (S : CallFix p m c cc nL s args lw_all RX0) (N : lc_St D d A s (wA d a tk ch dp ga cn en wi la ne nw nl) H locs) (j : Nat) (hj : j < 65) (hdg : decode cc pc = .ok (.iaload, 1)) (kk : W p l e R s m args below meth c H locs cells slots Q (F0 m (pc + 1) ls (.int (ne j) :: rest))) : W p l e R s m args below meth c H locs cells slots Q (F0 m pc ls (.int (nI j) :: .ref (a 5) :: rest)) := by
  refine va_iald S.1 S.2.1 N.1 N.2.1 5 0 rfl rfl (vp_in_nI hj (by decide)) hdg ?_
  rw [nI_clamp (by omega)]
  exact kk
theorem sA_ne {x : Int32} (S : CallFix p m c cc nL s args lw_all RX0) (N : lc_St D d A s (wA d a tk ch dp ga cn en wi la ne nw nl) H locs) (j : Nat) (hj : j < 65) (hdg : decode cc pc = .ok (.iastore, 1)) (kk : ∀ (H : Heap) (locs : List Loc), lc_St D d A s (wA d a tk ch dp ga cn en wi la (upd ne j x) nw nl) H locs → W p l e R s m args below meth c H locs cells slots Q (F0 m (pc + 1) ls rest)) : W p l e R s m args below meth c H locs cells slots Q (F0 m pc ls (.int x :: .int (nI j) :: .ref (a 5) :: rest)) := by
  refine va_iast S.1 S.2.1 N.1 N.2.1 N.2.2.1 N.2.2.2.1 5 0 rfl rfl (vp_in_nI hj (by decide)) hdg (fun H1 locs1 hP hD hS => ?_)
  rw [nI_clamp (by omega)] at hP hD
  exact kk H1 locs1 ⟨N.1, hP, hD, hS, N.2.2.2.2⟩
theorem gA_nw (S : CallFix p m c cc nL s args lw_all RX0) (N : lc_St D d A s (wA d a tk ch dp ga cn en wi la ne nw nl) H locs) (hdg : decode cc pc = .ok (.getfield 25, 3)) (kk : W p l e R s m args below meth c H locs cells slots Q (F0 m (pc + 3) ls (.ref (a 6) :: rest))) : W p l e R s m args below meth c H locs cells slots Q (F0 m pc ls (.ref (a 0) :: rest)) :=
  va_get (D := D) (ci := 0) (v := .ref (a 6)) (C := RX0) (T := TX0) (N := 11) S.1 S.2.1 S.2.2.2.2 in_X0 S.2.2.2.1 N.1 N.2.1 0 rfl rfl 9 (by decide) (S.2.2.2.2 _ q33) (fun _ h9 => h9) rfl hdg kk
theorem lA_nw (S : CallFix p m c cc nL s args lw_all RX0) (N : lc_St D d A s (wA d a tk ch dp ga cn en wi la ne nw nl) H locs) (j : Nat) (hj : j < 65) (hdg : decode cc pc = .ok (.iaload, 1)) (kk : W p l e R s m args below meth c H locs cells slots Q (F0 m (pc + 1) ls (.int (nw j) :: rest))) : W p l e R s m args below meth c H locs cells slots Q (F0 m pc ls (.int (nI j) :: .ref (a 6) :: rest)) := by
  refine va_iald S.1 S.2.1 N.1 N.2.1 6 0 rfl rfl (vp_in_nI hj (by decide)) hdg ?_
  rw [nI_clamp (by omega)]
  exact kk
theorem sA_nw {x : Int32} (S : CallFix p m c cc nL s args lw_all RX0) (N : lc_St D d A s (wA d a tk ch dp ga cn en wi la ne nw nl) H locs) (j : Nat) (hj : j < 65) (hdg : decode cc pc = .ok (.iastore, 1)) (kk : ∀ (H : Heap) (locs : List Loc), lc_St D d A s (wA d a tk ch dp ga cn en wi la ne (upd nw j x) nl) H locs → W p l e R s m args below meth c H locs cells slots Q (F0 m (pc + 1) ls rest)) : W p l e R s m args below meth c H locs cells slots Q (F0 m pc ls (.int x :: .int (nI j) :: .ref (a 6) :: rest)) := by
  refine va_iast S.1 S.2.1 N.1 N.2.1 N.2.2.1 N.2.2.2.1 6 0 rfl rfl (vp_in_nI hj (by decide)) hdg (fun H1 locs1 hP hD hS => ?_)
  rw [nI_clamp (by omega)] at hP hD
  exact kk H1 locs1 ⟨N.1, hP, hD, hS, N.2.2.2.2⟩
theorem gA_nl (S : CallFix p m c cc nL s args lw_all RX0) (N : lc_St D d A s (wA d a tk ch dp ga cn en wi la ne nw nl) H locs) (hdg : decode cc pc = .ok (.getfield 28, 3)) (kk : W p l e R s m args below meth c H locs cells slots Q (F0 m (pc + 3) ls (.ref (a 7) :: rest))) : W p l e R s m args below meth c H locs cells slots Q (F0 m pc ls (.ref (a 0) :: rest)) :=
  va_get (D := D) (ci := 0) (v := .ref (a 7)) (C := RX0) (T := TX0) (N := 11) S.1 S.2.1 S.2.2.2.2 in_X0 S.2.2.2.1 N.1 N.2.1 0 rfl rfl 10 (by decide) (S.2.2.2.2 _ q34) (fun _ h9 => h9) rfl hdg kk
theorem lA_nl (S : CallFix p m c cc nL s args lw_all RX0) (N : lc_St D d A s (wA d a tk ch dp ga cn en wi la ne nw nl) H locs) (j : Nat) (hj : j < 65) (hdg : decode cc pc = .ok (.iaload, 1)) (kk : W p l e R s m args below meth c H locs cells slots Q (F0 m (pc + 1) ls (.int (nl j) :: rest))) : W p l e R s m args below meth c H locs cells slots Q (F0 m pc ls (.int (nI j) :: .ref (a 7) :: rest)) := by
  refine va_iald S.1 S.2.1 N.1 N.2.1 7 0 rfl rfl (vp_in_nI hj (by decide)) hdg ?_
  rw [nI_clamp (by omega)]
  exact kk
theorem sA_nl {x : Int32} (S : CallFix p m c cc nL s args lw_all RX0) (N : lc_St D d A s (wA d a tk ch dp ga cn en wi la ne nw nl) H locs) (j : Nat) (hj : j < 65) (hdg : decode cc pc = .ok (.iastore, 1)) (kk : ∀ (H : Heap) (locs : List Loc), lc_St D d A s (wA d a tk ch dp ga cn en wi la ne nw (upd nl j x)) H locs → W p l e R s m args below meth c H locs cells slots Q (F0 m (pc + 1) ls rest)) : W p l e R s m args below meth c H locs cells slots Q (F0 m pc ls (.int x :: .int (nI j) :: .ref (a 7) :: rest)) := by
  refine va_iast S.1 S.2.1 N.1 N.2.1 N.2.2.1 N.2.2.2.1 7 0 rfl rfl (vp_in_nI hj (by decide)) hdg (fun H1 locs1 hP hD hS => ?_)
  rw [nI_clamp (by omega)] at hP hD
  exact kk H1 locs1 ⟨N.1, hP, hD, hS, N.2.2.2.2⟩
end RA
end
section
/-- the world of X1: its object at a 0, its arrays behind -/
abbrev wB (d : ClassId) (a : Nat → Nat) (tk hh ei dd : Int32) (co ar en wi la be bw bl : Nat → Int32) : va_W := [(a 0, .inr (1, [.int tk, .ref (a 1), .ref (a 2), .int hh, .int ei, .int dd, .ref (a 3), .ref (a 4), .ref (a 5), .ref (a 6), .ref (a 7), .ref (a 8)])), (a 1, .inl (d, 48, .inl co)), (a 2, .inl (d, 48, .inl ar)), (a 3, .inl (d, 11, .inl en)), (a 4, .inl (d, 11, .inl wi)), (a 5, .inl (d, 11, .inl la)), (a 6, .inl (d, 64, .inl be)), (a 7, .inl (d, 64, .inl bw)), (a 8, .inl (d, 64, .inl bl))]
section RB
variable {p : Program} {l : Launch} {e : Env} {R : Room} {s : State} {m : MethodId} {args : Array Value} {below : List Frame} {meth : Method} {c : Code} {H : Heap} {locs : List Loc} {cells slots : Nat} {Q : State → Prop}
variable {cc : ByteArray} {pc nL : Nat} {ls : Array Slot} {rest : List Value} {D : va_G} {d : ClassId} {A : Nat → Prop} {a : Nat → Nat} {tk hh ei dd : Int32} {co ar en wi la be bw bl : Nat → Int32}
theorem gB_tk (S : CallFix p m c cc nL s args lw_all RX1) (N : lc_St D d A s (wB d a tk hh ei dd co ar en wi la be bw bl) H locs) (hdg : decode cc pc = .ok (.getfield 46, 3)) (kk : W p l e R s m args below meth c H locs cells slots Q (F0 m (pc + 3) ls (.int tk :: rest))) : W p l e R s m args below meth c H locs cells slots Q (F0 m pc ls (.ref (a 0) :: rest)) :=
  va_get (D := D) (ci := 1) (v := .int tk) (C := RX1) (T := TX1) (N := 12) S.1 S.2.1 S.2.2.2.2 in_X1 S.2.2.2.1 N.1 N.2.1 0 rfl rfl 0 (by decide) (S.2.2.2.2 _ q121) (fun _ h9 => h9) rfl hdg kk
theorem pB_tk {v : Int32} (S : CallFix p m c cc nL s args lw_all RX1) (N : lc_St D d A s (wB d a tk hh ei dd co ar en wi la be bw bl) H locs) (hdg : decode cc pc = .ok (.putfield 46, 3)) (kk : ∀ (H : Heap) (locs : List Loc), lc_St D d A s (wB d a v hh ei dd co ar en wi la be bw bl) H locs → W p l e R s m args below meth c H locs cells slots Q (F0 m (pc + 3) ls rest)) : W p l e R s m args below meth c H locs cells slots Q (F0 m pc ls (.int v :: .ref (a 0) :: rest)) :=
  va_put (D := D) (ci := 1) (v := .int v) (ty := .int) (C := RX1) (T := TX1) (N := 12) S.1 S.2.1 S.2.2.2.2 in_X1 tyX1 tyX1_ok nmX1 S.2.2.2.1 N.1 N.2.1 N.2.2.1 N.2.2.2.1 0 rfl rfl 0 (by decide) (S.2.2.2.2 _ q121) (fun _ h9 => h9) rfl (by decide +kernel) rfl rfl (Nat.le_of_ble_eq_true rfl) hdg (fun H1 locs1 hP hD hS => kk H1 locs1 ⟨N.1, hP, hD, hS, N.2.2.2.2⟩)
theorem gB_co (S : CallFix p m c cc nL s args lw_all RX1) (N : lc_St D d A s (wB d a tk hh ei dd co ar en wi la be bw bl) H locs) (hdg : decode cc pc = .ok (.getfield 7, 3)) (kk : W p l e R s m args below meth c H locs cells slots Q (F0 m (pc + 3) ls (.ref (a 1) :: rest))) : W p l e R s m args below meth c H locs cells slots Q (F0 m pc ls (.ref (a 0) :: rest)) :=
  va_get (D := D) (ci := 1) (v := .ref (a 1)) (C := RX1) (T := TX1) (N := 12) S.1 S.2.1 S.2.2.2.2 in_X1 S.2.2.2.1 N.1 N.2.1 0 rfl rfl 1 (by decide) (S.2.2.2.2 _ q122) (fun _ h9 => h9) rfl hdg kk
theorem lB_co (S : CallFix p m c cc nL s args lw_all RX1) (N : lc_St D d A s (wB d a tk hh ei dd co ar en wi la be bw bl) H locs) (j : Nat) (hj : j < 48) (hdg : decode cc pc = .ok (.iaload, 1)) (kk : W p l e R s m args below meth c H locs cells slots Q (F0 m (pc + 1) ls (.int (co j) :: rest))) : W p l e R s m args below meth c H locs cells slots Q (F0 m pc ls (.int (nI j) :: .ref (a 1) :: rest)) := by
  refine va_iald S.1 S.2.1 N.1 N.2.1 1 0 rfl rfl (vp_in_nI hj (by decide)) hdg ?_
  rw [nI_clamp (by omega)]
  exact kk
theorem sB_co {x : Int32} (S : CallFix p m c cc nL s args lw_all RX1) (N : lc_St D d A s (wB d a tk hh ei dd co ar en wi la be bw bl) H locs) (j : Nat) (hj : j < 48) (hdg : decode cc pc = .ok (.iastore, 1)) (kk : ∀ (H : Heap) (locs : List Loc), lc_St D d A s (wB d a tk hh ei dd (upd co j x) ar en wi la be bw bl) H locs → W p l e R s m args below meth c H locs cells slots Q (F0 m (pc + 1) ls rest)) : W p l e R s m args below meth c H locs cells slots Q (F0 m pc ls (.int x :: .int (nI j) :: .ref (a 1) :: rest)) := by
  refine va_iast S.1 S.2.1 N.1 N.2.1 N.2.2.1 N.2.2.2.1 1 0 rfl rfl (vp_in_nI hj (by decide)) hdg (fun H1 locs1 hP hD hS => ?_)
  rw [nI_clamp (by omega)] at hP hD
  exact kk H1 locs1 ⟨N.1, hP, hD, hS, N.2.2.2.2⟩
theorem gB_ar (S : CallFix p m c cc nL s args lw_all RX1) (N : lc_St D d A s (wB d a tk hh ei dd co ar en wi la be bw bl) H locs) (hdg : decode cc pc = .ok (.getfield 13, 3)) (kk : W p l e R s m args below meth c H locs cells slots Q (F0 m (pc + 3) ls (.ref (a 2) :: rest))) : W p l e R s m args below meth c H locs cells slots Q (F0 m pc ls (.ref (a 0) :: rest)) :=
  va_get (D := D) (ci := 1) (v := .ref (a 2)) (C := RX1) (T := TX1) (N := 12) S.1 S.2.1 S.2.2.2.2 in_X1 S.2.2.2.1 N.1 N.2.1 0 rfl rfl 2 (by decide) (S.2.2.2.2 _ q123) (fun _ h9 => h9) rfl hdg kk
theorem lB_ar (S : CallFix p m c cc nL s args lw_all RX1) (N : lc_St D d A s (wB d a tk hh ei dd co ar en wi la be bw bl) H locs) (j : Nat) (hj : j < 48) (hdg : decode cc pc = .ok (.iaload, 1)) (kk : W p l e R s m args below meth c H locs cells slots Q (F0 m (pc + 1) ls (.int (ar j) :: rest))) : W p l e R s m args below meth c H locs cells slots Q (F0 m pc ls (.int (nI j) :: .ref (a 2) :: rest)) := by
  refine va_iald S.1 S.2.1 N.1 N.2.1 2 0 rfl rfl (vp_in_nI hj (by decide)) hdg ?_
  rw [nI_clamp (by omega)]
  exact kk
theorem sB_ar {x : Int32} (S : CallFix p m c cc nL s args lw_all RX1) (N : lc_St D d A s (wB d a tk hh ei dd co ar en wi la be bw bl) H locs) (j : Nat) (hj : j < 48) (hdg : decode cc pc = .ok (.iastore, 1)) (kk : ∀ (H : Heap) (locs : List Loc), lc_St D d A s (wB d a tk hh ei dd co (upd ar j x) en wi la be bw bl) H locs → W p l e R s m args below meth c H locs cells slots Q (F0 m (pc + 1) ls rest)) : W p l e R s m args below meth c H locs cells slots Q (F0 m pc ls (.int x :: .int (nI j) :: .ref (a 2) :: rest)) := by
  refine va_iast S.1 S.2.1 N.1 N.2.1 N.2.2.1 N.2.2.2.1 2 0 rfl rfl (vp_in_nI hj (by decide)) hdg (fun H1 locs1 hP hD hS => ?_)
  rw [nI_clamp (by omega)] at hP hD
  exact kk H1 locs1 ⟨N.1, hP, hD, hS, N.2.2.2.2⟩
theorem gB_hh (S : CallFix p m c cc nL s args lw_all RX1) (N : lc_St D d A s (wB d a tk hh ei dd co ar en wi la be bw bl) H locs) (hdg : decode cc pc = .ok (.getfield 38, 3)) (kk : W p l e R s m args below meth c H locs cells slots Q (F0 m (pc + 3) ls (.int hh :: rest))) : W p l e R s m args below meth c H locs cells slots Q (F0 m pc ls (.ref (a 0) :: rest)) :=
  va_get (D := D) (ci := 1) (v := .int hh) (C := RX1) (T := TX1) (N := 12) S.1 S.2.1 S.2.2.2.2 in_X1 S.2.2.2.1 N.1 N.2.1 0 rfl rfl 3 (by decide) (S.2.2.2.2 _ q124) (fun _ h9 => h9) rfl hdg kk
theorem pB_hh {v : Int32} (S : CallFix p m c cc nL s args lw_all RX1) (N : lc_St D d A s (wB d a tk hh ei dd co ar en wi la be bw bl) H locs) (hdg : decode cc pc = .ok (.putfield 38, 3)) (kk : ∀ (H : Heap) (locs : List Loc), lc_St D d A s (wB d a tk v ei dd co ar en wi la be bw bl) H locs → W p l e R s m args below meth c H locs cells slots Q (F0 m (pc + 3) ls rest)) : W p l e R s m args below meth c H locs cells slots Q (F0 m pc ls (.int v :: .ref (a 0) :: rest)) :=
  va_put (D := D) (ci := 1) (v := .int v) (ty := .int) (C := RX1) (T := TX1) (N := 12) S.1 S.2.1 S.2.2.2.2 in_X1 tyX1 tyX1_ok nmX1 S.2.2.2.1 N.1 N.2.1 N.2.2.1 N.2.2.2.1 0 rfl rfl 3 (by decide) (S.2.2.2.2 _ q124) (fun _ h9 => h9) rfl (by decide +kernel) rfl rfl (Nat.le_of_ble_eq_true rfl) hdg (fun H1 locs1 hP hD hS => kk H1 locs1 ⟨N.1, hP, hD, hS, N.2.2.2.2⟩)
theorem gB_ei (S : CallFix p m c cc nL s args lw_all RX1) (N : lc_St D d A s (wB d a tk hh ei dd co ar en wi la be bw bl) H locs) (hdg : decode cc pc = .ok (.getfield 49, 3)) (kk : W p l e R s m args below meth c H locs cells slots Q (F0 m (pc + 3) ls (.int ei :: rest))) : W p l e R s m args below meth c H locs cells slots Q (F0 m pc ls (.ref (a 0) :: rest)) :=
  va_get (D := D) (ci := 1) (v := .int ei) (C := RX1) (T := TX1) (N := 12) S.1 S.2.1 S.2.2.2.2 in_X1 S.2.2.2.1 N.1 N.2.1 0 rfl rfl 4 (by decide) (S.2.2.2.2 _ q125) (fun _ h9 => h9) rfl hdg kk
theorem pB_ei {v : Int32} (S : CallFix p m c cc nL s args lw_all RX1) (N : lc_St D d A s (wB d a tk hh ei dd co ar en wi la be bw bl) H locs) (hdg : decode cc pc = .ok (.putfield 49, 3)) (kk : ∀ (H : Heap) (locs : List Loc), lc_St D d A s (wB d a tk hh v dd co ar en wi la be bw bl) H locs → W p l e R s m args below meth c H locs cells slots Q (F0 m (pc + 3) ls rest)) : W p l e R s m args below meth c H locs cells slots Q (F0 m pc ls (.int v :: .ref (a 0) :: rest)) :=
  va_put (D := D) (ci := 1) (v := .int v) (ty := .int) (C := RX1) (T := TX1) (N := 12) S.1 S.2.1 S.2.2.2.2 in_X1 tyX1 tyX1_ok nmX1 S.2.2.2.1 N.1 N.2.1 N.2.2.1 N.2.2.2.1 0 rfl rfl 4 (by decide) (S.2.2.2.2 _ q125) (fun _ h9 => h9) rfl (by decide +kernel) rfl rfl (Nat.le_of_ble_eq_true rfl) hdg (fun H1 locs1 hP hD hS => kk H1 locs1 ⟨N.1, hP, hD, hS, N.2.2.2.2⟩)
theorem gB_dd (S : CallFix p m c cc nL s args lw_all RX1) (N : lc_St D d A s (wB d a tk hh ei dd co ar en wi la be bw bl) H locs) (hdg : decode cc pc = .ok (.getfield 52, 3)) (kk : W p l e R s m args below meth c H locs cells slots Q (F0 m (pc + 3) ls (.int dd :: rest))) : W p l e R s m args below meth c H locs cells slots Q (F0 m pc ls (.ref (a 0) :: rest)) :=
  va_get (D := D) (ci := 1) (v := .int dd) (C := RX1) (T := TX1) (N := 12) S.1 S.2.1 S.2.2.2.2 in_X1 S.2.2.2.1 N.1 N.2.1 0 rfl rfl 5 (by decide) (S.2.2.2.2 _ q126) (fun _ h9 => h9) rfl hdg kk
theorem pB_dd {v : Int32} (S : CallFix p m c cc nL s args lw_all RX1) (N : lc_St D d A s (wB d a tk hh ei dd co ar en wi la be bw bl) H locs) (hdg : decode cc pc = .ok (.putfield 52, 3)) (kk : ∀ (H : Heap) (locs : List Loc), lc_St D d A s (wB d a tk hh ei v co ar en wi la be bw bl) H locs → W p l e R s m args below meth c H locs cells slots Q (F0 m (pc + 3) ls rest)) : W p l e R s m args below meth c H locs cells slots Q (F0 m pc ls (.int v :: .ref (a 0) :: rest)) :=
  va_put (D := D) (ci := 1) (v := .int v) (ty := .int) (C := RX1) (T := TX1) (N := 12) S.1 S.2.1 S.2.2.2.2 in_X1 tyX1 tyX1_ok nmX1 S.2.2.2.1 N.1 N.2.1 N.2.2.1 N.2.2.2.1 0 rfl rfl 5 (by decide) (S.2.2.2.2 _ q126) (fun _ h9 => h9) rfl (by decide +kernel) rfl rfl (Nat.le_of_ble_eq_true rfl) hdg (fun H1 locs1 hP hD hS => kk H1 locs1 ⟨N.1, hP, hD, hS, N.2.2.2.2⟩)
theorem gB_en (S : CallFix p m c cc nL s args lw_all RX1) (N : lc_St D d A s (wB d a tk hh ei dd co ar en wi la be bw bl) H locs) (hdg : decode cc pc = .ok (.getfield 16, 3)) (kk : W p l e R s m args below meth c H locs cells slots Q (F0 m (pc + 3) ls (.ref (a 3) :: rest))) : W p l e R s m args below meth c H locs cells slots Q (F0 m pc ls (.ref (a 0) :: rest)) :=
  va_get (D := D) (ci := 1) (v := .ref (a 3)) (C := RX1) (T := TX1) (N := 12) S.1 S.2.1 S.2.2.2.2 in_X1 S.2.2.2.1 N.1 N.2.1 0 rfl rfl 6 (by decide) (S.2.2.2.2 _ q127) (fun _ h9 => h9) rfl hdg kk
theorem lB_en (S : CallFix p m c cc nL s args lw_all RX1) (N : lc_St D d A s (wB d a tk hh ei dd co ar en wi la be bw bl) H locs) (j : Nat) (hj : j < 11) (hdg : decode cc pc = .ok (.iaload, 1)) (kk : W p l e R s m args below meth c H locs cells slots Q (F0 m (pc + 1) ls (.int (en j) :: rest))) : W p l e R s m args below meth c H locs cells slots Q (F0 m pc ls (.int (nI j) :: .ref (a 3) :: rest)) := by
  refine va_iald S.1 S.2.1 N.1 N.2.1 3 0 rfl rfl (vp_in_nI hj (by decide)) hdg ?_
  rw [nI_clamp (by omega)]
  exact kk
theorem sB_en {x : Int32} (S : CallFix p m c cc nL s args lw_all RX1) (N : lc_St D d A s (wB d a tk hh ei dd co ar en wi la be bw bl) H locs) (j : Nat) (hj : j < 11) (hdg : decode cc pc = .ok (.iastore, 1)) (kk : ∀ (H : Heap) (locs : List Loc), lc_St D d A s (wB d a tk hh ei dd co ar (upd en j x) wi la be bw bl) H locs → W p l e R s m args below meth c H locs cells slots Q (F0 m (pc + 1) ls rest)) : W p l e R s m args below meth c H locs cells slots Q (F0 m pc ls (.int x :: .int (nI j) :: .ref (a 3) :: rest)) := by
  refine va_iast S.1 S.2.1 N.1 N.2.1 N.2.2.1 N.2.2.2.1 3 0 rfl rfl (vp_in_nI hj (by decide)) hdg (fun H1 locs1 hP hD hS => ?_)
  rw [nI_clamp (by omega)] at hP hD
  exact kk H1 locs1 ⟨N.1, hP, hD, hS, N.2.2.2.2⟩
theorem gB_wi (S : CallFix p m c cc nL s args lw_all RX1) (N : lc_St D d A s (wB d a tk hh ei dd co ar en wi la be bw bl) H locs) (hdg : decode cc pc = .ok (.getfield 19, 3)) (kk : W p l e R s m args below meth c H locs cells slots Q (F0 m (pc + 3) ls (.ref (a 4) :: rest))) : W p l e R s m args below meth c H locs cells slots Q (F0 m pc ls (.ref (a 0) :: rest)) :=
  va_get (D := D) (ci := 1) (v := .ref (a 4)) (C := RX1) (T := TX1) (N := 12) S.1 S.2.1 S.2.2.2.2 in_X1 S.2.2.2.1 N.1 N.2.1 0 rfl rfl 7 (by decide) (S.2.2.2.2 _ q128) (fun _ h9 => h9) rfl hdg kk
theorem lB_wi (S : CallFix p m c cc nL s args lw_all RX1) (N : lc_St D d A s (wB d a tk hh ei dd co ar en wi la be bw bl) H locs) (j : Nat) (hj : j < 11) (hdg : decode cc pc = .ok (.iaload, 1)) (kk : W p l e R s m args below meth c H locs cells slots Q (F0 m (pc + 1) ls (.int (wi j) :: rest))) : W p l e R s m args below meth c H locs cells slots Q (F0 m pc ls (.int (nI j) :: .ref (a 4) :: rest)) := by
  refine va_iald S.1 S.2.1 N.1 N.2.1 4 0 rfl rfl (vp_in_nI hj (by decide)) hdg ?_
  rw [nI_clamp (by omega)]
  exact kk
theorem sB_wi {x : Int32} (S : CallFix p m c cc nL s args lw_all RX1) (N : lc_St D d A s (wB d a tk hh ei dd co ar en wi la be bw bl) H locs) (j : Nat) (hj : j < 11) (hdg : decode cc pc = .ok (.iastore, 1)) (kk : ∀ (H : Heap) (locs : List Loc), lc_St D d A s (wB d a tk hh ei dd co ar en (upd wi j x) la be bw bl) H locs → W p l e R s m args below meth c H locs cells slots Q (F0 m (pc + 1) ls rest)) : W p l e R s m args below meth c H locs cells slots Q (F0 m pc ls (.int x :: .int (nI j) :: .ref (a 4) :: rest)) := by
  refine va_iast S.1 S.2.1 N.1 N.2.1 N.2.2.1 N.2.2.2.1 4 0 rfl rfl (vp_in_nI hj (by decide)) hdg (fun H1 locs1 hP hD hS => ?_)
  rw [nI_clamp (by omega)] at hP hD
  exact kk H1 locs1 ⟨N.1, hP, hD, hS, N.2.2.2.2⟩
theorem gB_la (S : CallFix p m c cc nL s args lw_all RX1) (N : lc_St D d A s (wB d a tk hh ei dd co ar en wi la be bw bl) H locs) (hdg : decode cc pc = .ok (.getfield 22, 3)) (kk : W p l e R s m args below meth c H locs cells slots Q (F0 m (pc + 3) ls (.ref (a 5) :: rest))) : W p l e R s m args below meth c H locs cells slots Q (F0 m pc ls (.ref (a 0) :: rest)) :=
  va_get (D := D) (ci := 1) (v := .ref (a 5)) (C := RX1) (T := TX1) (N := 12) S.1 S.2.1 S.2.2.2.2 in_X1 S.2.2.2.1 N.1 N.2.1 0 rfl rfl 8 (by decide) (S.2.2.2.2 _ q129) (fun _ h9 => h9) rfl hdg kk
theorem lB_la (S : CallFix p m c cc nL s args lw_all RX1) (N : lc_St D d A s (wB d a tk hh ei dd co ar en wi la be bw bl) H locs) (j : Nat) (hj : j < 11) (hdg : decode cc pc = .ok (.iaload, 1)) (kk : W p l e R s m args below meth c H locs cells slots Q (F0 m (pc + 1) ls (.int (la j) :: rest))) : W p l e R s m args below meth c H locs cells slots Q (F0 m pc ls (.int (nI j) :: .ref (a 5) :: rest)) := by
  refine va_iald S.1 S.2.1 N.1 N.2.1 5 0 rfl rfl (vp_in_nI hj (by decide)) hdg ?_
  rw [nI_clamp (by omega)]
  exact kk
theorem sB_la {x : Int32} (S : CallFix p m c cc nL s args lw_all RX1) (N : lc_St D d A s (wB d a tk hh ei dd co ar en wi la be bw bl) H locs) (j : Nat) (hj : j < 11) (hdg : decode cc pc = .ok (.iastore, 1)) (kk : ∀ (H : Heap) (locs : List Loc), lc_St D d A s (wB d a tk hh ei dd co ar en wi (upd la j x) be bw bl) H locs → W p l e R s m args below meth c H locs cells slots Q (F0 m (pc + 1) ls rest)) : W p l e R s m args below meth c H locs cells slots Q (F0 m pc ls (.int x :: .int (nI j) :: .ref (a 5) :: rest)) := by
  refine va_iast S.1 S.2.1 N.1 N.2.1 N.2.2.1 N.2.2.2.1 5 0 rfl rfl (vp_in_nI hj (by decide)) hdg (fun H1 locs1 hP hD hS => ?_)
  rw [nI_clamp (by omega)] at hP hD
  exact kk H1 locs1 ⟨N.1, hP, hD, hS, N.2.2.2.2⟩
theorem gB_be (S : CallFix p m c cc nL s args lw_all RX1) (N : lc_St D d A s (wB d a tk hh ei dd co ar en wi la be bw bl) H locs) (hdg : decode cc pc = .ok (.getfield 25, 3)) (kk : W p l e R s m args below meth c H locs cells slots Q (F0 m (pc + 3) ls (.ref (a 6) :: rest))) : W p l e R s m args below meth c H locs cells slots Q (F0 m pc ls (.ref (a 0) :: rest)) :=
  va_get (D := D) (ci := 1) (v := .ref (a 6)) (C := RX1) (T := TX1) (N := 12) S.1 S.2.1 S.2.2.2.2 in_X1 S.2.2.2.1 N.1 N.2.1 0 rfl rfl 9 (by decide) (S.2.2.2.2 _ q130) (fun _ h9 => h9) rfl hdg kk
theorem lB_be (S : CallFix p m c cc nL s args lw_all RX1) (N : lc_St D d A s (wB d a tk hh ei dd co ar en wi la be bw bl) H locs) (j : Nat) (hj : j < 64) (hdg : decode cc pc = .ok (.iaload, 1)) (kk : W p l e R s m args below meth c H locs cells slots Q (F0 m (pc + 1) ls (.int (be j) :: rest))) : W p l e R s m args below meth c H locs cells slots Q (F0 m pc ls (.int (nI j) :: .ref (a 6) :: rest)) := by
  refine va_iald S.1 S.2.1 N.1 N.2.1 6 0 rfl rfl (vp_in_nI hj (by decide)) hdg ?_
  rw [nI_clamp (by omega)]
  exact kk
theorem sB_be {x : Int32} (S : CallFix p m c cc nL s args lw_all RX1) (N : lc_St D d A s (wB d a tk hh ei dd co ar en wi la be bw bl) H locs) (j : Nat) (hj : j < 64) (hdg : decode cc pc = .ok (.iastore, 1)) (kk : ∀ (H : Heap) (locs : List Loc), lc_St D d A s (wB d a tk hh ei dd co ar en wi la (upd be j x) bw bl) H locs → W p l e R s m args below meth c H locs cells slots Q (F0 m (pc + 1) ls rest)) : W p l e R s m args below meth c H locs cells slots Q (F0 m pc ls (.int x :: .int (nI j) :: .ref (a 6) :: rest)) := by
  refine va_iast S.1 S.2.1 N.1 N.2.1 N.2.2.1 N.2.2.2.1 6 0 rfl rfl (vp_in_nI hj (by decide)) hdg (fun H1 locs1 hP hD hS => ?_)
  rw [nI_clamp (by omega)] at hP hD
  exact kk H1 locs1 ⟨N.1, hP, hD, hS, N.2.2.2.2⟩
theorem gB_bw (S : CallFix p m c cc nL s args lw_all RX1) (N : lc_St D d A s (wB d a tk hh ei dd co ar en wi la be bw bl) H locs) (hdg : decode cc pc = .ok (.getfield 28, 3)) (kk : W p l e R s m args below meth c H locs cells slots Q (F0 m (pc + 3) ls (.ref (a 7) :: rest))) : W p l e R s m args below meth c H locs cells slots Q (F0 m pc ls (.ref (a 0) :: rest)) :=
  va_get (D := D) (ci := 1) (v := .ref (a 7)) (C := RX1) (T := TX1) (N := 12) S.1 S.2.1 S.2.2.2.2 in_X1 S.2.2.2.1 N.1 N.2.1 0 rfl rfl 10 (by decide) (S.2.2.2.2 _ q131) (fun _ h9 => h9) rfl hdg kk
theorem lB_bw (S : CallFix p m c cc nL s args lw_all RX1) (N : lc_St D d A s (wB d a tk hh ei dd co ar en wi la be bw bl) H locs) (j : Nat) (hj : j < 64) (hdg : decode cc pc = .ok (.iaload, 1)) (kk : W p l e R s m args below meth c H locs cells slots Q (F0 m (pc + 1) ls (.int (bw j) :: rest))) : W p l e R s m args below meth c H locs cells slots Q (F0 m pc ls (.int (nI j) :: .ref (a 7) :: rest)) := by
  refine va_iald S.1 S.2.1 N.1 N.2.1 7 0 rfl rfl (vp_in_nI hj (by decide)) hdg ?_
  rw [nI_clamp (by omega)]
  exact kk
theorem sB_bw {x : Int32} (S : CallFix p m c cc nL s args lw_all RX1) (N : lc_St D d A s (wB d a tk hh ei dd co ar en wi la be bw bl) H locs) (j : Nat) (hj : j < 64) (hdg : decode cc pc = .ok (.iastore, 1)) (kk : ∀ (H : Heap) (locs : List Loc), lc_St D d A s (wB d a tk hh ei dd co ar en wi la be (upd bw j x) bl) H locs → W p l e R s m args below meth c H locs cells slots Q (F0 m (pc + 1) ls rest)) : W p l e R s m args below meth c H locs cells slots Q (F0 m pc ls (.int x :: .int (nI j) :: .ref (a 7) :: rest)) := by
  refine va_iast S.1 S.2.1 N.1 N.2.1 N.2.2.1 N.2.2.2.1 7 0 rfl rfl (vp_in_nI hj (by decide)) hdg (fun H1 locs1 hP hD hS => ?_)
  rw [nI_clamp (by omega)] at hP hD
  exact kk H1 locs1 ⟨N.1, hP, hD, hS, N.2.2.2.2⟩
theorem gB_bl (S : CallFix p m c cc nL s args lw_all RX1) (N : lc_St D d A s (wB d a tk hh ei dd co ar en wi la be bw bl) H locs) (hdg : decode cc pc = .ok (.getfield 31, 3)) (kk : W p l e R s m args below meth c H locs cells slots Q (F0 m (pc + 3) ls (.ref (a 8) :: rest))) : W p l e R s m args below meth c H locs cells slots Q (F0 m pc ls (.ref (a 0) :: rest)) :=
  va_get (D := D) (ci := 1) (v := .ref (a 8)) (C := RX1) (T := TX1) (N := 12) S.1 S.2.1 S.2.2.2.2 in_X1 S.2.2.2.1 N.1 N.2.1 0 rfl rfl 11 (by decide) (S.2.2.2.2 _ q132) (fun _ h9 => h9) rfl hdg kk
theorem lB_bl (S : CallFix p m c cc nL s args lw_all RX1) (N : lc_St D d A s (wB d a tk hh ei dd co ar en wi la be bw bl) H locs) (j : Nat) (hj : j < 64) (hdg : decode cc pc = .ok (.iaload, 1)) (kk : W p l e R s m args below meth c H locs cells slots Q (F0 m (pc + 1) ls (.int (bl j) :: rest))) : W p l e R s m args below meth c H locs cells slots Q (F0 m pc ls (.int (nI j) :: .ref (a 8) :: rest)) := by
  refine va_iald S.1 S.2.1 N.1 N.2.1 8 0 rfl rfl (vp_in_nI hj (by decide)) hdg ?_
  rw [nI_clamp (by omega)]
  exact kk
theorem sB_bl {x : Int32} (S : CallFix p m c cc nL s args lw_all RX1) (N : lc_St D d A s (wB d a tk hh ei dd co ar en wi la be bw bl) H locs) (j : Nat) (hj : j < 64) (hdg : decode cc pc = .ok (.iastore, 1)) (kk : ∀ (H : Heap) (locs : List Loc), lc_St D d A s (wB d a tk hh ei dd co ar en wi la be bw (upd bl j x)) H locs → W p l e R s m args below meth c H locs cells slots Q (F0 m (pc + 1) ls rest)) : W p l e R s m args below meth c H locs cells slots Q (F0 m pc ls (.int x :: .int (nI j) :: .ref (a 8) :: rest)) := by
  refine va_iast S.1 S.2.1 N.1 N.2.1 N.2.2.1 N.2.2.2.1 8 0 rfl rfl (vp_in_nI hj (by decide)) hdg (fun H1 locs1 hP hD hS => ?_)
  rw [nI_clamp (by omega)] at hP hD
  exact kk H1 locs1 ⟨N.1, hP, hD, hS, N.2.2.2.2⟩
end RB
end
section
theorem hs_X0_init : yX0_init.cls ≠ "java/lang/invoke/MethodHandle" ∧ yX0_init.cls ≠ "java/lang/invoke/VarHandle" ∧ (parseMethodDescriptor yX0_init.desc).map (fun d => d.parameters.length) = some 0 := by decide +kernel
theorem hd_X0_init : yX0_init.cls = "LayoutChoice" ∧ yX0_init.cls ≠ "java/lang/invoke/MethodHandle" ∧ yX0_init.cls ≠ "java/lang/invoke/VarHandle" ∧ (parseMethodDescriptor yX0_init.desc).map (fun d => d.parameters.length) = some 0 := ⟨by decide +kernel, hs_X0_init⟩
theorem hs_X0_token : yX0_token.cls ≠ "java/lang/invoke/MethodHandle" ∧ yX0_token.cls ≠ "java/lang/invoke/VarHandle" ∧ (parseMethodDescriptor yX0_token.desc).map (fun d => d.parameters.length) = some 2 := by decide +kernel
theorem hd_X0_token : yX0_token.cls = "LayoutChoice" ∧ yX0_token.cls ≠ "java/lang/invoke/MethodHandle" ∧ yX0_token.cls ≠ "java/lang/invoke/VarHandle" ∧ (parseMethodDescriptor yX0_token.desc).map (fun d => d.parameters.length) = some 2 := ⟨by decide +kernel, hs_X0_token⟩
theorem hs_X0_hasDocuments : yX0_hasDocuments.cls ≠ "java/lang/invoke/MethodHandle" ∧ yX0_hasDocuments.cls ≠ "java/lang/invoke/VarHandle" ∧ (parseMethodDescriptor yX0_hasDocuments.desc).map (fun d => d.parameters.length) = some 1 := by decide +kernel
theorem hd_X0_hasDocuments : yX0_hasDocuments.cls = "LayoutChoice" ∧ yX0_hasDocuments.cls ≠ "java/lang/invoke/MethodHandle" ∧ yX0_hasDocuments.cls ≠ "java/lang/invoke/VarHandle" ∧ (parseMethodDescriptor yX0_hasDocuments.desc).map (fun d => d.parameters.length) = some 1 := ⟨by decide +kernel, hs_X0_hasDocuments⟩
theorem hs_X0_gather : yX0_gather.cls ≠ "java/lang/invoke/MethodHandle" ∧ yX0_gather.cls ≠ "java/lang/invoke/VarHandle" ∧ (parseMethodDescriptor yX0_gather.desc).map (fun d => d.parameters.length) = some 3 := by decide +kernel
theorem hd_X0_gather : yX0_gather.cls = "LayoutChoice" ∧ yX0_gather.cls ≠ "java/lang/invoke/MethodHandle" ∧ yX0_gather.cls ≠ "java/lang/invoke/VarHandle" ∧ (parseMethodDescriptor yX0_gather.desc).map (fun d => d.parameters.length) = some 3 := ⟨by decide +kernel, hs_X0_gather⟩
theorem hs_X0_indent : yX0_indent.cls ≠ "java/lang/invoke/MethodHandle" ∧ yX0_indent.cls ≠ "java/lang/invoke/VarHandle" ∧ (parseMethodDescriptor yX0_indent.desc).map (fun d => d.parameters.length) = some 2 := by decide +kernel
theorem hd_X0_indent : yX0_indent.cls = "LayoutChoice" ∧ yX0_indent.cls ≠ "java/lang/invoke/MethodHandle" ∧ yX0_indent.cls ≠ "java/lang/invoke/VarHandle" ∧ (parseMethodDescriptor yX0_indent.desc).map (fun d => d.parameters.length) = some 2 := ⟨by decide +kernel, hs_X0_indent⟩
theorem hs_X0_joinTwo : yX0_joinTwo.cls ≠ "java/lang/invoke/MethodHandle" ∧ yX0_joinTwo.cls ≠ "java/lang/invoke/VarHandle" ∧ (parseMethodDescriptor yX0_joinTwo.desc).map (fun d => d.parameters.length) = some 1 := by decide +kernel
theorem hd_X0_joinTwo : yX0_joinTwo.cls = "LayoutChoice" ∧ yX0_joinTwo.cls ≠ "java/lang/invoke/MethodHandle" ∧ yX0_joinTwo.cls ≠ "java/lang/invoke/VarHandle" ∧ (parseMethodDescriptor yX0_joinTwo.desc).map (fun d => d.parameters.length) = some 1 := ⟨by decide +kernel, hs_X0_joinTwo⟩
theorem hs_X0_joinBoxes : yX0_joinBoxes.cls ≠ "java/lang/invoke/MethodHandle" ∧ yX0_joinBoxes.cls ≠ "java/lang/invoke/VarHandle" ∧ (parseMethodDescriptor yX0_joinBoxes.desc).map (fun d => d.parameters.length) = some 3 := by decide +kernel
theorem hd_X0_joinBoxes : yX0_joinBoxes.cls = "LayoutChoice" ∧ yX0_joinBoxes.cls ≠ "java/lang/invoke/MethodHandle" ∧ yX0_joinBoxes.cls ≠ "java/lang/invoke/VarHandle" ∧ (parseMethodDescriptor yX0_joinBoxes.desc).map (fun d => d.parameters.length) = some 3 := ⟨by decide +kernel, hs_X0_joinBoxes⟩
theorem hs_X0_keep : yX0_keep.cls ≠ "java/lang/invoke/MethodHandle" ∧ yX0_keep.cls ≠ "java/lang/invoke/VarHandle" ∧ (parseMethodDescriptor yX0_keep.desc).map (fun d => d.parameters.length) = some 0 := by decide +kernel
theorem hd_X0_keep : yX0_keep.cls = "LayoutChoice" ∧ yX0_keep.cls ≠ "java/lang/invoke/MethodHandle" ∧ yX0_keep.cls ≠ "java/lang/invoke/VarHandle" ∧ (parseMethodDescriptor yX0_keep.desc).map (fun d => d.parameters.length) = some 0 := ⟨by decide +kernel, hs_X0_keep⟩
theorem hs_X0_clear : yX0_clear.cls ≠ "java/lang/invoke/MethodHandle" ∧ yX0_clear.cls ≠ "java/lang/invoke/VarHandle" ∧ (parseMethodDescriptor yX0_clear.desc).map (fun d => d.parameters.length) = some 0 := by decide +kernel
theorem hd_X0_clear : yX0_clear.cls = "LayoutChoice" ∧ yX0_clear.cls ≠ "java/lang/invoke/MethodHandle" ∧ yX0_clear.cls ≠ "java/lang/invoke/VarHandle" ∧ (parseMethodDescriptor yX0_clear.desc).map (fun d => d.parameters.length) = some 0 := ⟨by decide +kernel, hs_X0_clear⟩
theorem hs_X0_lines : yX0_lines.cls ≠ "java/lang/invoke/MethodHandle" ∧ yX0_lines.cls ≠ "java/lang/invoke/VarHandle" ∧ (parseMethodDescriptor yX0_lines.desc).map (fun d => d.parameters.length) = some 2 := by decide +kernel
theorem hd_X0_lines : yX0_lines.cls = "LayoutChoice" ∧ yX0_lines.cls ≠ "java/lang/invoke/MethodHandle" ∧ yX0_lines.cls ≠ "java/lang/invoke/VarHandle" ∧ (parseMethodDescriptor yX0_lines.desc).map (fun d => d.parameters.length) = some 2 := ⟨by decide +kernel, hs_X0_lines⟩
theorem hs_X0_boxes : yX0_boxes.cls ≠ "java/lang/invoke/MethodHandle" ∧ yX0_boxes.cls ≠ "java/lang/invoke/VarHandle" ∧ (parseMethodDescriptor yX0_boxes.desc).map (fun d => d.parameters.length) = some 1 := by decide +kernel
theorem hd_X0_boxes : yX0_boxes.cls = "LayoutChoice" ∧ yX0_boxes.cls ≠ "java/lang/invoke/MethodHandle" ∧ yX0_boxes.cls ≠ "java/lang/invoke/VarHandle" ∧ (parseMethodDescriptor yX0_boxes.desc).map (fun d => d.parameters.length) = some 1 := ⟨by decide +kernel, hs_X0_boxes⟩
theorem hs_X0_width : yX0_width.cls ≠ "java/lang/invoke/MethodHandle" ∧ yX0_width.cls ≠ "java/lang/invoke/VarHandle" ∧ (parseMethodDescriptor yX0_width.desc).map (fun d => d.parameters.length) = some 2 := by decide +kernel
theorem hd_X0_width : yX0_width.cls = "LayoutChoice" ∧ yX0_width.cls ≠ "java/lang/invoke/MethodHandle" ∧ yX0_width.cls ≠ "java/lang/invoke/VarHandle" ∧ (parseMethodDescriptor yX0_width.desc).map (fun d => d.parameters.length) = some 2 := ⟨by decide +kernel, hs_X0_width⟩
theorem hs_X0_cost : yX0_cost.cls ≠ "java/lang/invoke/MethodHandle" ∧ yX0_cost.cls ≠ "java/lang/invoke/VarHandle" ∧ (parseMethodDescriptor yX0_cost.desc).map (fun d => d.parameters.length) = some 3 := by decide +kernel
theorem hd_X0_cost : yX0_cost.cls = "LayoutChoice" ∧ yX0_cost.cls ≠ "java/lang/invoke/MethodHandle" ∧ yX0_cost.cls ≠ "java/lang/invoke/VarHandle" ∧ (parseMethodDescriptor yX0_cost.desc).map (fun d => d.parameters.length) = some 3 := ⟨by decide +kernel, hs_X0_cost⟩
theorem hs_X0_best : yX0_best.cls ≠ "java/lang/invoke/MethodHandle" ∧ yX0_best.cls ≠ "java/lang/invoke/VarHandle" ∧ (parseMethodDescriptor yX0_best.desc).map (fun d => d.parameters.length) = some 1 := by decide +kernel
theorem hd_X0_best : yX0_best.cls = "LayoutChoice" ∧ yX0_best.cls ≠ "java/lang/invoke/MethodHandle" ∧ yX0_best.cls ≠ "java/lang/invoke/VarHandle" ∧ (parseMethodDescriptor yX0_best.desc).map (fun d => d.parameters.length) = some 1 := ⟨by decide +kernel, hs_X0_best⟩
theorem hs_X0_last : yX0_last.cls ≠ "java/lang/invoke/MethodHandle" ∧ yX0_last.cls ≠ "java/lang/invoke/VarHandle" ∧ (parseMethodDescriptor yX0_last.desc).map (fun d => d.parameters.length) = some 3 := by decide +kernel
theorem hd_X0_last : yX0_last.cls = "LayoutChoice" ∧ yX0_last.cls ≠ "java/lang/invoke/MethodHandle" ∧ yX0_last.cls ≠ "java/lang/invoke/VarHandle" ∧ (parseMethodDescriptor yX0_last.desc).map (fun d => d.parameters.length) = some 3 := ⟨by decide +kernel, hs_X0_last⟩
theorem hs_X1_init : yX1_init.cls ≠ "java/lang/invoke/MethodHandle" ∧ yX1_init.cls ≠ "java/lang/invoke/VarHandle" ∧ (parseMethodDescriptor yX1_init.desc).map (fun d => d.parameters.length) = some 0 := by decide +kernel
theorem hd_X1_init : yX1_init.cls = "LayoutChoiceModel" ∧ yX1_init.cls ≠ "java/lang/invoke/MethodHandle" ∧ yX1_init.cls ≠ "java/lang/invoke/VarHandle" ∧ (parseMethodDescriptor yX1_init.desc).map (fun d => d.parameters.length) = some 0 := ⟨by decide +kernel, hs_X1_init⟩
theorem hs_X1_token : yX1_token.cls ≠ "java/lang/invoke/MethodHandle" ∧ yX1_token.cls ≠ "java/lang/invoke/VarHandle" ∧ (parseMethodDescriptor yX1_token.desc).map (fun d => d.parameters.length) = some 2 := by decide +kernel
theorem hd_X1_token : yX1_token.cls = "LayoutChoiceModel" ∧ yX1_token.cls ≠ "java/lang/invoke/MethodHandle" ∧ yX1_token.cls ≠ "java/lang/invoke/VarHandle" ∧ (parseMethodDescriptor yX1_token.desc).map (fun d => d.parameters.length) = some 2 := ⟨by decide +kernel, hs_X1_token⟩
theorem hs_X1_badArg : yX1_badArg.cls ≠ "java/lang/invoke/MethodHandle" ∧ yX1_badArg.cls ≠ "java/lang/invoke/VarHandle" ∧ (parseMethodDescriptor yX1_badArg.desc).map (fun d => d.parameters.length) = some 2 := by decide +kernel
theorem hd_X1_badArg : yX1_badArg.cls = "LayoutChoiceModel" ∧ yX1_badArg.cls ≠ "java/lang/invoke/MethodHandle" ∧ yX1_badArg.cls ≠ "java/lang/invoke/VarHandle" ∧ (parseMethodDescriptor yX1_badArg.desc).map (fun d => d.parameters.length) = some 2 := ⟨by decide +kernel, hs_X1_badArg⟩
theorem hs_X1_takes : yX1_takes.cls ≠ "java/lang/invoke/MethodHandle" ∧ yX1_takes.cls ≠ "java/lang/invoke/VarHandle" ∧ (parseMethodDescriptor yX1_takes.desc).map (fun d => d.parameters.length) = some 1 := by decide +kernel
theorem hd_X1_takes : yX1_takes.cls = "LayoutChoiceModel" ∧ yX1_takes.cls ≠ "java/lang/invoke/MethodHandle" ∧ yX1_takes.cls ≠ "java/lang/invoke/VarHandle" ∧ (parseMethodDescriptor yX1_takes.desc).map (fun d => d.parameters.length) = some 1 := ⟨by decide +kernel, hs_X1_takes⟩
theorem hs_X1_clear : yX1_clear.cls ≠ "java/lang/invoke/MethodHandle" ∧ yX1_clear.cls ≠ "java/lang/invoke/VarHandle" ∧ (parseMethodDescriptor yX1_clear.desc).map (fun d => d.parameters.length) = some 0 := by decide +kernel
theorem hd_X1_clear : yX1_clear.cls = "LayoutChoiceModel" ∧ yX1_clear.cls ≠ "java/lang/invoke/MethodHandle" ∧ yX1_clear.cls ≠ "java/lang/invoke/VarHandle" ∧ (parseMethodDescriptor yX1_clear.desc).map (fun d => d.parameters.length) = some 0 := ⟨by decide +kernel, hs_X1_clear⟩
theorem hs_X1_lines : yX1_lines.cls ≠ "java/lang/invoke/MethodHandle" ∧ yX1_lines.cls ≠ "java/lang/invoke/VarHandle" ∧ (parseMethodDescriptor yX1_lines.desc).map (fun d => d.parameters.length) = some 2 := by decide +kernel
theorem hd_X1_lines : yX1_lines.cls = "LayoutChoiceModel" ∧ yX1_lines.cls ≠ "java/lang/invoke/MethodHandle" ∧ yX1_lines.cls ≠ "java/lang/invoke/VarHandle" ∧ (parseMethodDescriptor yX1_lines.desc).map (fun d => d.parameters.length) = some 2 := ⟨by decide +kernel, hs_X1_lines⟩
theorem hs_X1_missing : yX1_missing.cls ≠ "java/lang/invoke/MethodHandle" ∧ yX1_missing.cls ≠ "java/lang/invoke/VarHandle" ∧ (parseMethodDescriptor yX1_missing.desc).map (fun d => d.parameters.length) = some 1 := by decide +kernel
theorem hd_X1_missing : yX1_missing.cls = "LayoutChoiceModel" ∧ yX1_missing.cls ≠ "java/lang/invoke/MethodHandle" ∧ yX1_missing.cls ≠ "java/lang/invoke/VarHandle" ∧ (parseMethodDescriptor yX1_missing.desc).map (fun d => d.parameters.length) = some 1 := ⟨by decide +kernel, hs_X1_missing⟩
theorem hs_X1_makeAll : yX1_makeAll.cls ≠ "java/lang/invoke/MethodHandle" ∧ yX1_makeAll.cls ≠ "java/lang/invoke/VarHandle" ∧ (parseMethodDescriptor yX1_makeAll.desc).map (fun d => d.parameters.length) = some 1 := by decide +kernel
theorem hd_X1_makeAll : yX1_makeAll.cls = "LayoutChoiceModel" ∧ yX1_makeAll.cls ≠ "java/lang/invoke/MethodHandle" ∧ yX1_makeAll.cls ≠ "java/lang/invoke/VarHandle" ∧ (parseMethodDescriptor yX1_makeAll.desc).map (fun d => d.parameters.length) = some 1 := ⟨by decide +kernel, hs_X1_makeAll⟩
theorem hs_X1_make : yX1_make.cls ≠ "java/lang/invoke/MethodHandle" ∧ yX1_make.cls ≠ "java/lang/invoke/VarHandle" ∧ (parseMethodDescriptor yX1_make.desc).map (fun d => d.parameters.length) = some 1 := by decide +kernel
theorem hd_X1_make : yX1_make.cls = "LayoutChoiceModel" ∧ yX1_make.cls ≠ "java/lang/invoke/MethodHandle" ∧ yX1_make.cls ≠ "java/lang/invoke/VarHandle" ∧ (parseMethodDescriptor yX1_make.desc).map (fun d => d.parameters.length) = some 1 := ⟨by decide +kernel, hs_X1_make⟩
theorem hs_X1_join : yX1_join.cls ≠ "java/lang/invoke/MethodHandle" ∧ yX1_join.cls ≠ "java/lang/invoke/VarHandle" ∧ (parseMethodDescriptor yX1_join.desc).map (fun d => d.parameters.length) = some 2 := by decide +kernel
theorem hd_X1_join : yX1_join.cls = "LayoutChoiceModel" ∧ yX1_join.cls ≠ "java/lang/invoke/MethodHandle" ∧ yX1_join.cls ≠ "java/lang/invoke/VarHandle" ∧ (parseMethodDescriptor yX1_join.desc).map (fun d => d.parameters.length) = some 2 := ⟨by decide +kernel, hs_X1_join⟩
theorem hs_X1_most : yX1_most.cls ≠ "java/lang/invoke/MethodHandle" ∧ yX1_most.cls ≠ "java/lang/invoke/VarHandle" ∧ (parseMethodDescriptor yX1_most.desc).map (fun d => d.parameters.length) = some 2 := by decide +kernel
theorem hd_X1_most : yX1_most.cls = "LayoutChoiceModel" ∧ yX1_most.cls ≠ "java/lang/invoke/MethodHandle" ∧ yX1_most.cls ≠ "java/lang/invoke/VarHandle" ∧ (parseMethodDescriptor yX1_most.desc).map (fun d => d.parameters.length) = some 2 := ⟨by decide +kernel, hs_X1_most⟩
theorem hs_X1_width : yX1_width.cls ≠ "java/lang/invoke/MethodHandle" ∧ yX1_width.cls ≠ "java/lang/invoke/VarHandle" ∧ (parseMethodDescriptor yX1_width.desc).map (fun d => d.parameters.length) = some 2 := by decide +kernel
theorem hd_X1_width : yX1_width.cls = "LayoutChoiceModel" ∧ yX1_width.cls ≠ "java/lang/invoke/MethodHandle" ∧ yX1_width.cls ≠ "java/lang/invoke/VarHandle" ∧ (parseMethodDescriptor yX1_width.desc).map (fun d => d.parameters.length) = some 2 := ⟨by decide +kernel, hs_X1_width⟩
theorem hs_X1_cost : yX1_cost.cls ≠ "java/lang/invoke/MethodHandle" ∧ yX1_cost.cls ≠ "java/lang/invoke/VarHandle" ∧ (parseMethodDescriptor yX1_cost.desc).map (fun d => d.parameters.length) = some 3 := by decide +kernel
theorem hd_X1_cost : yX1_cost.cls = "LayoutChoiceModel" ∧ yX1_cost.cls ≠ "java/lang/invoke/MethodHandle" ∧ yX1_cost.cls ≠ "java/lang/invoke/VarHandle" ∧ (parseMethodDescriptor yX1_cost.desc).map (fun d => d.parameters.length) = some 3 := ⟨by decide +kernel, hs_X1_cost⟩
theorem hs_X1_within : yX1_within.cls ≠ "java/lang/invoke/MethodHandle" ∧ yX1_within.cls ≠ "java/lang/invoke/VarHandle" ∧ (parseMethodDescriptor yX1_within.desc).map (fun d => d.parameters.length) = some 2 := by decide +kernel
theorem hd_X1_within : yX1_within.cls = "LayoutChoiceModel" ∧ yX1_within.cls ≠ "java/lang/invoke/MethodHandle" ∧ yX1_within.cls ≠ "java/lang/invoke/VarHandle" ∧ (parseMethodDescriptor yX1_within.desc).map (fun d => d.parameters.length) = some 2 := ⟨by decide +kernel, hs_X1_within⟩
theorem hs_X1_best : yX1_best.cls ≠ "java/lang/invoke/MethodHandle" ∧ yX1_best.cls ≠ "java/lang/invoke/VarHandle" ∧ (parseMethodDescriptor yX1_best.desc).map (fun d => d.parameters.length) = some 1 := by decide +kernel
theorem hd_X1_best : yX1_best.cls = "LayoutChoiceModel" ∧ yX1_best.cls ≠ "java/lang/invoke/MethodHandle" ∧ yX1_best.cls ≠ "java/lang/invoke/VarHandle" ∧ (parseMethodDescriptor yX1_best.desc).map (fun d => d.parameters.length) = some 1 := ⟨by decide +kernel, hs_X1_best⟩
theorem hs_X1_isBest : yX1_isBest.cls ≠ "java/lang/invoke/MethodHandle" ∧ yX1_isBest.cls ≠ "java/lang/invoke/VarHandle" ∧ (parseMethodDescriptor yX1_isBest.desc).map (fun d => d.parameters.length) = some 2 := by decide +kernel
theorem hd_X1_isBest : yX1_isBest.cls = "LayoutChoiceModel" ∧ yX1_isBest.cls ≠ "java/lang/invoke/MethodHandle" ∧ yX1_isBest.cls ≠ "java/lang/invoke/VarHandle" ∧ (parseMethodDescriptor yX1_isBest.desc).map (fun d => d.parameters.length) = some 2 := ⟨by decide +kernel, hs_X1_isBest⟩
theorem hs_X1_same : yX1_same.cls ≠ "java/lang/invoke/MethodHandle" ∧ yX1_same.cls ≠ "java/lang/invoke/VarHandle" ∧ (parseMethodDescriptor yX1_same.desc).map (fun d => d.parameters.length) = some 2 := by decide +kernel
theorem hd_X1_same : yX1_same.cls = "LayoutChoiceModel" ∧ yX1_same.cls ≠ "java/lang/invoke/MethodHandle" ∧ yX1_same.cls ≠ "java/lang/invoke/VarHandle" ∧ (parseMethodDescriptor yX1_same.desc).map (fun d => d.parameters.length) = some 2 := ⟨by decide +kernel, hs_X1_same⟩
theorem hs_X1_last : yX1_last.cls ≠ "java/lang/invoke/MethodHandle" ∧ yX1_last.cls ≠ "java/lang/invoke/VarHandle" ∧ (parseMethodDescriptor yX1_last.desc).map (fun d => d.parameters.length) = some 3 := by decide +kernel
theorem hd_X1_last : yX1_last.cls = "LayoutChoiceModel" ∧ yX1_last.cls ≠ "java/lang/invoke/MethodHandle" ∧ yX1_last.cls ≠ "java/lang/invoke/VarHandle" ∧ (parseMethodDescriptor yX1_last.desc).map (fun d => d.parameters.length) = some 3 := ⟨by decide +kernel, hs_X1_last⟩
end
section
/-! PURE: boxes (line ends, width, last) and what the two classes make of them -/
abbrev lc_B : Type := Int32 × Int32 × Int32
def lc_le (x y : lc_B) : Bool := decide (x.1 ≤ y.1) && (decide (x.2.1 ≤ y.2.1) && decide (x.2.2 ≤ y.2.2))
theorem lc_le_iff {x y : lc_B} : lc_le x y = true ↔ x.1 ≤ y.1 ∧ x.2.1 ≤ y.2.1 ∧ x.2.2 ≤ y.2.2 := by
  simp [lc_le]
theorem lc_le_f {x y : lc_B} (h : ¬ (x.1 ≤ y.1 ∧ x.2.1 ≤ y.2.1 ∧ x.2.2 ≤ y.2.2)) : lc_le x y = false := by
  cases hh : lc_le x y
  · rfl
  · exact absurd (lc_le_iff.mp hh) h
theorem lc_nlt {a b : Int32} (h : ¬ b < a) : a ≤ b := by
  rw [Int32.lt_iff_toInt_lt] at h
  rw [Int32.le_iff_toInt_le]
  omega
theorem lc_nle {a b : Int32} (h : b < a) : ¬ a ≤ b := by
  rw [Int32.lt_iff_toInt_lt] at h
  rw [Int32.le_iff_toInt_le]
  omega
theorem lc_nle' {a b : Int32} (h : ¬ a ≤ b) : b < a := by
  rw [Int32.le_iff_toInt_le] at h
  rw [Int32.lt_iff_toInt_lt]
  omega
/-- adds the box unless one that is there is as good; throws out those that it beats -/
def lc_gather (gs : List lc_B) (x : lc_B) : List lc_B := if gs.any (fun y => lc_le y x) then gs else gs.filter (fun y => !lc_le x y) ++ [x]
theorem lc_gather_len (gs : List lc_B) (x : lc_B) : (lc_gather gs x).length ≤ gs.length + 1 := by
  unfold lc_gather
  split
  · omega
  · rw [List.length_append]
    have := List.length_filter_le (fun y => !lc_le x y) gs
    simp
    exact this
/-- the list l of boxes lies in three arrays from o on -/
def lc_seg (o : Nat) (l : List lc_B) (f g h : Nat → Int32) : Prop := ∀ (k : Nat) (x : lc_B), l[k]? = some x → f (k + o) = x.1 ∧ g (k + o) = x.2.1 ∧ h (k + o) = x.2.2
theorem lc_seg_nil {o : Nat} {f g h : Nat → Int32} : lc_seg o [] f g h := fun k x hk => by simp at hk
theorem lc_seg.keep {o : Nat} {l : List lc_B} {f g h f' g' h' : Nat → Int32} (H : lc_seg o l f g h) (e : ∀ k, k < l.length → f' (k + o) = f (k + o) ∧ g' (k + o) = g (k + o) ∧ h' (k + o) = h (k + o)) : lc_seg o l f' g' h' := by
  intro k x hk
  have hlt : k < l.length := (List.getElem?_eq_some_iff.mp hk).1
  obtain ⟨e1, e2, e3⟩ := e k hlt
  rw [e1, e2, e3]
  exact H k x hk
theorem lc_seg.push {o : Nat} {l : List lc_B} {x : lc_B} {f g h : Nat → Int32} (H : lc_seg o l f g h) (e : f (l.length + o) = x.1 ∧ g (l.length + o) = x.2.1 ∧ h (l.length + o) = x.2.2) : lc_seg o (l ++ [x]) f g h := by
  intro k y hk
  by_cases hl : k < l.length
  · rw [List.getElem?_append_left hl] at hk
    exact H k y hk
  · rw [List.getElem?_append_right (by omega)] at hk
    have hz : k - l.length < 1 := (List.getElem?_eq_some_iff.mp hk).1
    have hk0 : k = l.length := by omega
    subst hk0
    simp at hk
    subst hk
    exact e
theorem lc_getE {l : List lc_B} {k : Nat} (h : k < l.length) : ∃ x, l[k]? = some x := ⟨l[k], List.getElem?_eq_getElem h⟩
/-- the documents, the top one first: their numbers of boxes and the boxes, at 64 * place -/
def lc_docs (cn en wi la : Nat → Int32) : List (List lc_B) → Prop
  | [] => True
  | q :: qs => cn qs.length = nI q.length ∧ q.length ≤ 64 ∧ lc_seg (64 * qs.length) q en wi la ∧ lc_docs cn en wi la qs
theorem lc_docs.at {cn en wi la : Nat → Int32} : ∀ {docs : List (List lc_B)} {k : Nat} {q : List lc_B}, lc_docs cn en wi la docs → docs[k]? = some q → cn (docs.length - 1 - k) = nI q.length ∧ q.length ≤ 64 ∧ lc_seg (64 * (docs.length - 1 - k)) q en wi la
  | [], k, q, _, h => by simp at h
  | r :: rs, 0, q, H, h => by
    simp at h
    subst h
    simpa using ⟨H.1, H.2.1, H.2.2.1⟩
  | r :: rs, k + 1, q, H, h => by
    have h' : rs[k]? = some q := by simpa using h
    have := lc_docs.at H.2.2.2 h'
    have e : (r :: rs).length - 1 - (k + 1) = rs.length - 1 - k := by simp; omega
    rw [e]
    exact this
theorem lc_docs.keep {cn en wi la cn' en' wi' la' : Nat → Int32} : ∀ {docs : List (List lc_B)}, lc_docs cn en wi la docs → (∀ i, i < docs.length → cn' i = cn i) → (∀ j, j < 64 * docs.length → en' j = en j ∧ wi' j = wi j ∧ la' j = la j) → lc_docs cn' en' wi' la' docs
  | [], _, _, _ => trivial
  | q :: qs, H, h1, h2 => by
    refine ⟨?_, H.2.1, H.2.2.1.keep (fun k hk => h2 _ ?_), lc_docs.keep H.2.2.2 (fun i hi => h1 i ?_) (fun j hj => h2 j ?_)⟩
    · rw [h1 qs.length (by simp)]
      exact H.1
    · have := H.2.1
      simp
      omega
    · simp; omega
    · simp; omega
/-- the greater one, as Java's a > b ? a : b -/
def lc_mx (a b : Int32) : Int32 := if a ≤ b then b else a
/-- one box beside or below the other -/
def lc_join (code : Int32) (x y : lc_B) : lc_B := if code = 2 then (x.1 + y.1 + 1, lc_mx x.2.1 y.2.1, y.2.2) else (x.1 + y.1, lc_mx x.2.1 (x.2.2 + y.2.1), x.2.2 + y.2.2)
def lc_ind (n : Int32) (x : lc_B) : lc_B := (x.1, x.2.1 + n, x.2.2 + n)
/-- all boxes of l, indented by n, gathered into gs -/
def lc_indent (n : Int32) (l gs : List lc_B) : List lc_B := l.foldl (fun g x => lc_gather g (lc_ind n x)) gs
/-- x joined with all boxes of l -/
def lc_row (code : Int32) (x : lc_B) (l gs : List lc_B) : List lc_B := l.foldl (fun g y => lc_gather g (lc_join code x y)) gs
def lc_cross (code : Int32) (l1 l2 gs : List lc_B) : List lc_B := l1.foldl (fun g x => lc_row code x l2 g) gs
def lc_two (code : Int32) (l1 l2 gs : List lc_B) : List lc_B := if code = 4 then lc_indent 0 l2 (lc_indent 0 l1 gs) else lc_cross code l1 l2 gs
theorem lc_indent_len (n : Int32) (l gs : List lc_B) : (lc_indent n l gs).length ≤ gs.length + l.length := by
  unfold lc_indent
  induction l generalizing gs with
  | nil => simp
  | cons x xs ih =>
    have h1 := ih (lc_gather gs (lc_ind n x))
    have h2 := lc_gather_len gs (lc_ind n x)
    simp only [List.foldl_cons, List.length_cons]
    omega
theorem lc_row_len (code : Int32) (x : lc_B) (l gs : List lc_B) : (lc_row code x l gs).length ≤ gs.length + l.length := by
  unfold lc_row
  induction l generalizing gs with
  | nil => simp
  | cons y ys ih =>
    have h1 := ih (lc_gather gs (lc_join code x y))
    have h2 := lc_gather_len gs (lc_join code x y)
    simp only [List.foldl_cons, List.length_cons]
    omega
theorem lc_cross_len (code : Int32) (l1 l2 gs : List lc_B) : (lc_cross code l1 l2 gs).length ≤ gs.length + l1.length * l2.length := by
  unfold lc_cross
  induction l1 generalizing gs with
  | nil => simp
  | cons x xs ih =>
    have h1 := ih (lc_row code x l2 gs)
    have h2 := lc_row_len code x l2 gs
    simp only [List.foldl_cons, List.length_cons, Nat.succ_mul]
    omega
theorem lc_indent_take {n : Int32} {l gs : List lc_B} {k : Nat} {x : lc_B} (h : l[k]? = some x) : lc_indent n (l.take (k + 1)) gs = lc_gather (lc_indent n (l.take k) gs) (lc_ind n x) := by
  unfold lc_indent
  rw [List.take_add_one, h]
  simp
theorem lc_row_take {code : Int32} {z : lc_B} {l gs : List lc_B} {k : Nat} {x : lc_B} (h : l[k]? = some x) : lc_row code z (l.take (k + 1)) gs = lc_gather (lc_row code z (l.take k) gs) (lc_join code z x) := by
  unfold lc_row
  rw [List.take_add_one, h]
  simp
theorem lc_cross_take {code : Int32} {l l2 gs : List lc_B} {k : Nat} {x : lc_B} (h : l[k]? = some x) : lc_cross code (l.take (k + 1)) l2 gs = lc_row code x l2 (lc_cross code (l.take k) l2 gs) := by
  unfold lc_cross
  rw [List.take_add_one, h]
  simp
/-- the least value of those boxes that fit, -1 if none -/
def lc_min (ok : lc_B → Bool) (v : lc_B → Int32) (l : List lc_B) : Int32 := l.foldl (fun best x => if ok x && (decide (best < 0) || decide (v x < best)) then v x else best) (-1)
theorem lc_min_take {ok : lc_B → Bool} {v : lc_B → Int32} {l : List lc_B} {k : Nat} {x : lc_B} (h : l[k]? = some x) : lc_min ok v (l.take (k + 1)) = if ok x && (decide (lc_min ok v (l.take k) < 0) || decide (v x < lc_min ok v (l.take k))) then v x else lc_min ok v (l.take k) := by
  unfold lc_min
  rw [List.take_add_one, h]
  simp
def lc_lines (width : Int32) (l : List lc_B) : Int32 := lc_min (fun x => decide (x.2.1 ≤ width)) (fun x => x.1) l
def lc_width (lines : Int32) (l : List lc_B) : Int32 := lc_min (fun x => decide (x.1 ≤ lines)) (fun x => x.2.1) l
def lc_last (lines width : Int32) (l : List lc_B) : Int32 := lc_min (fun x => decide (x.1 ≤ lines) && decide (x.2.1 ≤ width)) (fun x => x.2.2) l
def lc_clamp (top v : Int32) : Int32 := if v < 0 then 0 else if v ≤ top then v else top
def lc_over (r : Int32) (x : lc_B) : Int32 := if x.2.1 ≤ r then 0 else x.2.1 - r
def lc_sum (p r : Int32) (x : lc_B) : Int32 := p * x.1 + lc_over r x * lc_over r x
def lc_cost (price room : Int32) (l : List lc_B) : Int32 := lc_min (fun _ => true) (lc_sum (lc_clamp 100 price) (lc_clamp 200 room)) l
/-- the document number k, none: no box -/
def lc_doc (docs : List (List lc_B)) (k : Int32) : List lc_B := if k < 0 then [] else docs.getD k.toNatClampNeg []
end
section
theorem lc_gather_in {gs : List lc_B} {x y : lc_B} {k : Nat} (h : gs[k]? = some y) (hl : lc_le y x = true) : lc_gather gs x = gs := by
  unfold lc_gather
  rw [if_pos (List.any_eq_true.mpr ⟨y, List.mem_of_getElem? h, hl⟩)]
theorem lc_gather_out {gs : List lc_B} {x : lc_B} {k : Nat} (hk : gs.length ≤ k) (h : ∀ (j : Nat) (y : lc_B), j < k → gs[j]? = some y → lc_le y x = false) : lc_gather gs x = gs.filter (fun y => !lc_le x y) ++ [x] := by
  unfold lc_gather
  rw [if_neg]
  intro hh
  obtain ⟨y, hy, hl⟩ := List.any_eq_true.mp hh
  obtain ⟨j, hj⟩ := List.getElem?_of_mem hy
  have := h j y (Nat.lt_of_lt_of_le (List.getElem?_eq_some_iff.mp hj).1 hk) hj
  rw [this] at hl
  cases hl
theorem lc_keep_f {gs : List lc_B} {x y : lc_B} {k : Nat} (h : gs[k]? = some y) (hl : lc_le x y = false) : (gs.take (k + 1)).filter (fun y => !lc_le x y) = (gs.take k).filter (fun y => !lc_le x y) ++ [y] := by
  rw [List.take_add_one, h, List.filter_append]
  simp [hl]
theorem lc_keep_t {gs : List lc_B} {x y : lc_B} {k : Nat} (h : gs[k]? = some y) (hl : lc_le x y = true) : (gs.take (k + 1)).filter (fun y => !lc_le x y) = (gs.take k).filter (fun y => !lc_le x y) := by
  rw [List.take_add_one, h, List.filter_append]
  simp [hl]
theorem lc_keep_len {gs : List lc_B} {x : lc_B} {k : Nat} : ((gs.take k).filter (fun y => !lc_le x y)).length ≤ k := by
  have h1 := List.length_filter_le (fun y => !lc_le x y) (gs.take k)
  have h2 : (gs.take k).length ≤ k := by rw [List.length_take]; omega
  omega
theorem lc_nI_lt {a b : Nat} (h : ¬ nI b ≤ nI a) (ha : a < 2 ^ 31) (hb : b < 2 ^ 31) : a < b := by
  rw [nI_leI hb ha] at h
  omega
theorem lc_nI_le {a b : Nat} (h : nI b ≤ nI a) (ha : a < 2 ^ 31) (hb : b < 2 ^ 31) : b ≤ a := (nI_leI hb ha).mp h
set_option maxHeartbeats 4000000 in
set_option maxRecDepth 100000 in
/-- gather: the gathered boxes gs, with x -/
theorem kA_gather (l : Launch) (D : va_G) (d : ClassId) (a : Nat → Nat) (tk ch dp : Int32) (cn en wi la ne nw nl : Nat → Int32) (gs : List lc_B) (x : lc_B) (hg : gs.length ≤ 64) (hs : lc_seg 0 gs ne nw nl) : lc_K l D d yX0_gather cX0_gather 7 none { frames := 0, cells := 0, slots := 0, locals := 0 } [.ref (a 0), .int x.1, .int x.2.1, .int x.2.2] (wA d a tk ch dp (nI gs.length) cn en wi la ne nw nl) (fun r w' => r = none ∧ ∃ ne' nw' nl' : Nat → Int32, w' = wA d a tk ch dp (nI (lc_gather gs x).length) cn en wi la ne' nw' nl' ∧ lc_seg 0 (lc_gather gs x) ne' nw' nl') := by
  refine lc_K.of (by decide) (Nat.le_of_ble_eq_true rfl) (fun p e s m below meth c A ls S hr hlk hnm N hl => ?_)
  have S : CallFix p m c cX0_gather 7 s _ lw_all RX0 := S
  have hx := S.1
  have hb := S.2.1
  have hl : lv_has ls 7 [(0, .ref (a 0)), (1, .int x.1), (2, .int x.2.1), (3, .int x.2.2)] := hl
  refine lv_iconst (v := 0) hx hb dX0_gather_0 (by decide) ?_
  refine lv_istore (lv' := [(4, .int 0), (0, .ref (a 0)), (1, .int x.1), (2, .int x.2.1), (3, .int x.2.2)]) hx hb dX0_gather_1 hl (by decide) rfl (fun ls hl => ?_)
  refine lc_loop (I := fun n H locs ls => ∃ k : Nat, n + k = gs.length ∧ lc_St D d A s (wA d a tk ch dp (nI gs.length) cn en wi la ne nw nl) H locs ∧ lv_has ls 7 [(0, .ref (a 0)), (1, .int x.1), (2, .int x.2.1), (3, .int x.2.2), (4, .int (nI k))] ∧ ∀ (j : Nat) (y : lc_B), j < k → gs[j]? = some y → lc_le y x = false) (fun n H locs ls hI ih => ?_) gs.length ⟨0, rfl, N, lv_sub hl [1, 2, 3, 4, 0] rfl, fun j y h => absurd h (Nat.not_lt_zero j)⟩
  obtain ⟨k, hk, N, hl, hinv⟩ := hI
  refine lv_iload hx hb dX0_gather_3 (lv_at hl 4 rfl) ?_
  refine lv_aload_n hx hb dX0_gather_5 rfl (lv_at hl 0 rfl) ?_
  refine gA_ga S N dX0_gather_6 ?_
  refine lv_icmp_ge (tgt := 52) hx hb dX0_gather_9 (by decide) (fun c1 => ?_) (fun c1 => ?_)
  · have hk1 : gs.length ≤ k := lc_nI_le c1 (by omega) (by omega)
    have hout := lc_gather_out hk1 hinv
    clear ih
    refine lv_iconst (v := 0) hx hb dX0_gather_52 (by decide) ?_
    refine lv_istore (lv' := [(4, .int 0), (0, .ref (a 0)), (1, .int x.1), (2, .int x.2.1), (3, .int x.2.2)]) hx hb dX0_gather_53 hl (by decide) rfl (fun ls hl => ?_)
    refine lv_iconst (v := 0) hx hb dX0_gather_55 (by decide) ?_
    refine lv_istore (lv' := [(5, .int 0), (4, .int 0), (0, .ref (a 0)), (1, .int x.1), (2, .int x.2.1), (3, .int x.2.2)]) hx hb dX0_gather_56 hl (by decide) rfl (fun ls hl => ?_)
    refine lc_loop (I := fun n H locs ls => ∃ (i : Nat) (e1 e2 e3 : Nat → Int32) (ks : List lc_B), n + i = gs.length ∧ ks = (gs.take i).filter (fun y => !lc_le x y) ∧ lc_St D d A s (wA d a tk ch dp (nI gs.length) cn en wi la e1 e2 e3) H locs ∧ lv_has ls 7 [(0, .ref (a 0)), (1, .int x.1), (2, .int x.2.1), (3, .int x.2.2), (4, .int (nI ks.length)), (5, .int (nI i))] ∧ lc_seg 0 ks e1 e2 e3 ∧ ∀ j, i ≤ j → e1 j = ne j ∧ e2 j = nw j ∧ e3 j = nl j) (fun n H locs ls hI ih => ?_) gs.length ⟨0, ne, nw, nl, [], rfl, rfl, N, lv_sub hl [2, 3, 4, 5, 1, 0] rfl, lc_seg_nil, fun j _ => ⟨rfl, rfl, rfl⟩⟩
    obtain ⟨i, e1, e2, e3, ks, hi, hks, N, hl, hseg, hrest⟩ := hI
    have hkl : ks.length ≤ i := by rw [hks]; exact lc_keep_len
    refine lv_iload hx hb dX0_gather_58 (lv_at hl 5 rfl) ?_
    refine lv_aload_n hx hb dX0_gather_60 rfl (lv_at hl 0 rfl) ?_
    refine gA_ga S N dX0_gather_61 ?_
    refine lv_icmp_ge (tgt := 163) hx hb dX0_gather_64 (by decide) (fun c2 => ?_) (fun c2 => ?_)
    · have hi1 : gs.length ≤ i := lc_nI_le c2 (by omega) (by omega)
      rw [List.take_of_length_le hi1] at hks
      rw [← hks] at hout
      refine lv_aload_n hx hb dX0_gather_163 rfl (lv_at hl 0 rfl) ?_
      refine gA_ne S N dX0_gather_164 ?_
      refine lv_iload hx hb dX0_gather_167 (lv_at hl 4 rfl) ?_
      refine lv_iload_n hx hb dX0_gather_169 rfl (lv_at hl 1 rfl) ?_
      refine sA_ne S N ks.length (by omega) dX0_gather_170 (fun H locs N => ?_)
      refine lv_aload_n hx hb dX0_gather_171 rfl (lv_at hl 0 rfl) ?_
      refine gA_nw S N dX0_gather_172 ?_
      refine lv_iload hx hb dX0_gather_175 (lv_at hl 4 rfl) ?_
      refine lv_iload_n hx hb dX0_gather_177 rfl (lv_at hl 2 rfl) ?_
      refine sA_nw S N ks.length (by omega) dX0_gather_178 (fun H locs N => ?_)
      refine lv_aload_n hx hb dX0_gather_179 rfl (lv_at hl 0 rfl) ?_
      refine gA_nl S N dX0_gather_180 ?_
      refine lv_iload hx hb dX0_gather_183 (lv_at hl 4 rfl) ?_
      refine lv_iload_n hx hb dX0_gather_185 rfl (lv_at hl 3 rfl) ?_
      refine sA_nl S N ks.length (by omega) dX0_gather_186 (fun H locs N => ?_)
      refine lv_aload_n hx hb dX0_gather_187 rfl (lv_at hl 0 rfl) ?_
      refine lv_iload hx hb dX0_gather_188 (lv_at hl 4 rfl) ?_
      refine lv_iconst (v := 1) hx hb dX0_gather_190 (by decide) ?_
      refine lv_iadd hx hb dX0_gather_191 ?_
      refine lc_top (nI (ks.length + 1)) (nI_1 ks.length) ?_
      refine pA_ga S N dX0_gather_192 (fun H locs N => ?_)
      exact lc_vret S hr hlk N ⟨rfl, _, _, _, by rw [hout, List.length_append]; rfl, by rw [hout]; exact lc_seg.push (hseg.keep (fun j hj => ⟨pk_un (by omega), pk_un (by omega), pk_un (by omega)⟩)) ⟨pk_us, pk_us, pk_us⟩⟩ dX0_gather_195
    · have hi1 : i < gs.length := lc_nI_lt c2 (by omega) (by omega)
      obtain ⟨y, hy⟩ := lc_getE hi1
      obtain ⟨hy1, hy2, hy3⟩ := hs i y hy
      obtain ⟨hr1, hr2, hr3⟩ := hrest i (Nat.le_refl i)
      have f1 : e1 i = y.1 := hr1.trans hy1
      have f2 : e2 i = y.2.1 := hr2.trans hy2
      have f3 : e3 i = y.2.2 := hr3.trans hy3
      refine lc_cut 104 (J := fun H locs ls st => st = [] ∧ lc_St D d A s (wA d a tk ch dp (nI gs.length) cn en wi la e1 e2 e3) H locs ∧ lv_has ls 7 [(0, .ref (a 0)), (1, .int x.1), (2, .int x.2.1), (3, .int x.2.2), (4, .int (nI ks.length)), (5, .int (nI i))] ∧ lc_le x y = false) (fun H locs ls st hJ => ?_) (fun KJ => ?_)
      · obtain ⟨rfl, N, hl, hle⟩ := hJ
        refine lv_iconst (v := 0) hx hb dX0_gather_104 (by decide) ?_
        refine lv_istore (lv' := [(6, .int 0), (0, .ref (a 0)), (1, .int x.1), (2, .int x.2.1), (3, .int x.2.2), (4, .int (nI ks.length)), (5, .int (nI i))]) hx hb dX0_gather_105 hl (by decide) rfl (fun ls hl => ?_)
        refine lv_iload hx hb dX0_gather_107 (lv_at hl 0 rfl) ?_
        refine lv_if_ne (tgt := 157) hx hb dX0_gather_109 (by decide) (fun c3 => ?_) (fun c3 => ?_)
        · exact absurd rfl c3
        · refine lv_aload_n hx hb dX0_gather_112 rfl (lv_at hl 1 rfl) ?_
          refine gA_ne S N dX0_gather_113 ?_
          refine lv_iload hx hb dX0_gather_116 (lv_at hl 5 rfl) ?_
          refine lv_aload_n hx hb dX0_gather_118 rfl (lv_at hl 1 rfl) ?_
          refine gA_ne S N dX0_gather_119 ?_
          refine lv_iload hx hb dX0_gather_122 (lv_at hl 6 rfl) ?_
          refine lA_ne S N i (by omega) dX0_gather_124 ?_
          refine sA_ne S N ks.length (by omega) dX0_gather_125 (fun H locs N => ?_)
          refine lv_aload_n hx hb dX0_gather_126 rfl (lv_at hl 1 rfl) ?_
          refine gA_nw S N dX0_gather_127 ?_
          refine lv_iload hx hb dX0_gather_130 (lv_at hl 5 rfl) ?_
          refine lv_aload_n hx hb dX0_gather_132 rfl (lv_at hl 1 rfl) ?_
          refine gA_nw S N dX0_gather_133 ?_
          refine lv_iload hx hb dX0_gather_136 (lv_at hl 6 rfl) ?_
          refine lA_nw S N i (by omega) dX0_gather_138 ?_
          refine sA_nw S N ks.length (by omega) dX0_gather_139 (fun H locs N => ?_)
          refine lv_aload_n hx hb dX0_gather_140 rfl (lv_at hl 1 rfl) ?_
          refine gA_nl S N dX0_gather_141 ?_
          refine lv_iload hx hb dX0_gather_144 (lv_at hl 5 rfl) ?_
          refine lv_aload_n hx hb dX0_gather_146 rfl (lv_at hl 1 rfl) ?_
          refine gA_nl S N dX0_gather_147 ?_
          refine lv_iload hx hb dX0_gather_150 (lv_at hl 6 rfl) ?_
          refine lA_nl S N i (by omega) dX0_gather_152 ?_
          refine sA_nl S N ks.length (by omega) dX0_gather_153 (fun H locs N => ?_)
          refine lv_iinc (v := nI (ks.length + 1)) (lv' := [(4, .int (nI (ks.length + 1))), (6, .int 0), (0, .ref (a 0)), (1, .int x.1), (2, .int x.2.1), (3, .int x.2.2), (5, .int (nI i))]) hx hb dX0_gather_154 hl (k := 5) rfl (nI_1 ks.length) (by decide) rfl (fun ls hl => ?_)
          refine lv_iinc (v := nI (i + 1)) (lv' := [(5, .int (nI (i + 1))), (4, .int (nI (ks.length + 1))), (6, .int 0), (0, .ref (a 0)), (1, .int x.1), (2, .int x.2.1), (3, .int x.2.2)]) hx hb dX0_gather_157 hl (k := 6) rfl (nI_1 i) (by decide) rfl (fun ls hl => ?_)
          refine lv_goto (tgt := 58) hx hb dX0_gather_160 (by decide) ?_
          have hlen : (ks ++ [y]).length = ks.length + 1 := by simp
          exact ih (n - 1) _ _ _ (by omega) ⟨i + 1, _, _, _, ks ++ [y], by omega, by rw [lc_keep_f hy hle, hks], N, by rw [hlen]; exact lv_sub hl [3, 4, 5, 6, 1, 0] rfl, lc_seg.push (hseg.keep (fun j hj => ⟨pk_un (by omega), pk_un (by omega), pk_un (by omega)⟩)) ⟨by rw [← f1]; exact pk_us, by rw [← f2]; exact pk_us, by rw [← f3]; exact pk_us⟩, fun j hj => by obtain ⟨g1, g2, g3⟩ := hrest j (by omega); exact ⟨(pk_un (by omega)).trans g1, (pk_un (by omega)).trans g2, (pk_un (by omega)).trans g3⟩⟩
      · refine lv_iload_n hx hb dX0_gather_67 rfl (lv_at hl 1 rfl) ?_
        refine lv_aload_n hx hb dX0_gather_68 rfl (lv_at hl 0 rfl) ?_
        refine gA_ne S N dX0_gather_69 ?_
        refine lv_iload hx hb dX0_gather_72 (lv_at hl 5 rfl) ?_
        refine lA_ne S N i (by omega) dX0_gather_74 ?_
        refine lv_icmp_gt (tgt := 104) hx hb dX0_gather_75 (by decide) (fun d1 => ?_) (fun d1 => ?_)
        · exact KJ _ _ _ _ ⟨rfl, N, hl, lc_le_f (fun h => lc_nle d1 (by rw [f1]; exact h.1))⟩
        · refine lv_iload_n hx hb dX0_gather_78 rfl (lv_at hl 2 rfl) ?_
          refine lv_aload_n hx hb dX0_gather_79 rfl (lv_at hl 0 rfl) ?_
          refine gA_nw S N dX0_gather_80 ?_
          refine lv_iload hx hb dX0_gather_83 (lv_at hl 5 rfl) ?_
          refine lA_nw S N i (by omega) dX0_gather_85 ?_
          refine lv_icmp_gt (tgt := 104) hx hb dX0_gather_86 (by decide) (fun d2 => ?_) (fun d2 => ?_)
          · exact KJ _ _ _ _ ⟨rfl, N, hl, lc_le_f (fun h => lc_nle d2 (by rw [f2]; exact h.2.1))⟩
          · refine lv_iload_n hx hb dX0_gather_89 rfl (lv_at hl 3 rfl) ?_
            refine lv_aload_n hx hb dX0_gather_90 rfl (lv_at hl 0 rfl) ?_
            refine gA_nl S N dX0_gather_91 ?_
            refine lv_iload hx hb dX0_gather_94 (lv_at hl 5 rfl) ?_
            refine lA_nl S N i (by omega) dX0_gather_96 ?_
            refine lv_icmp_gt (tgt := 104) hx hb dX0_gather_97 (by decide) (fun d3 => ?_) (fun d3 => ?_)
            · exact KJ _ _ _ _ ⟨rfl, N, hl, lc_le_f (fun h => lc_nle d3 (by rw [f3]; exact h.2.2))⟩
            · have hle : lc_le x y = true := lc_le_iff.mpr ⟨by rw [← f1]; exact lc_nlt d1, by rw [← f2]; exact lc_nlt d2, by rw [← f3]; exact lc_nlt d3⟩
              refine lv_iconst (v := 1) hx hb dX0_gather_100 (by decide) ?_
              refine lv_goto (tgt := 105) hx hb dX0_gather_101 (by decide) ?_
              refine lv_istore (lv' := [(6, .int 1), (0, .ref (a 0)), (1, .int x.1), (2, .int x.2.1), (3, .int x.2.2), (4, .int (nI ks.length)), (5, .int (nI i))]) hx hb dX0_gather_105 hl (by decide) rfl (fun ls hl => ?_)
              refine lv_iload hx hb dX0_gather_107 (lv_at hl 0 rfl) ?_
              refine lv_if_ne (tgt := 157) hx hb dX0_gather_109 (by decide) (fun c3 => ?_) (fun c3 => ?_)
              · refine lv_iinc (v := nI (i + 1)) (lv' := [(5, .int (nI (i + 1))), (6, .int 1), (0, .ref (a 0)), (1, .int x.1), (2, .int x.2.1), (3, .int x.2.2), (4, .int (nI ks.length))]) hx hb dX0_gather_157 hl (k := 6) rfl (nI_1 i) (by decide) rfl (fun ls hl => ?_)
                refine lv_goto (tgt := 58) hx hb dX0_gather_160 (by decide) ?_
                exact ih (n - 1) _ _ _ (by omega) ⟨i + 1, _, _, _, ks, by omega, by rw [lc_keep_t hy hle, hks], N, lv_sub hl [2, 3, 4, 5, 6, 0] rfl, hseg, fun j hj => hrest j (by omega)⟩
              · exact absurd c3 (by decide)
  · have hk1 : k < gs.length := lc_nI_lt c1 (by omega) (by omega)
    obtain ⟨y, hy⟩ := lc_getE hk1
    obtain ⟨f1, f2, f3⟩ := hs k y hy
    refine lv_aload_n hx hb dX0_gather_12 rfl (lv_at hl 0 rfl) ?_
    refine gA_ne S N dX0_gather_13 ?_
    refine lv_iload hx hb dX0_gather_16 (lv_at hl 4 rfl) ?_
    refine lA_ne S N k (by omega) dX0_gather_18 ?_
    refine lv_iload_n hx hb dX0_gather_19 rfl (lv_at hl 1 rfl) ?_
    refine lv_icmp_gt (tgt := 46) hx hb dX0_gather_20 (by decide) (fun d1 => ?_) (fun d1 => ?_)
    · have hlf : lc_le y x = false := lc_le_f (fun h => lc_nle d1 (by rw [show ne k = y.1 from f1]; exact h.1))
      refine lv_iinc (v := nI (k + 1)) (lv' := [(4, .int (nI (k + 1))), (0, .ref (a 0)), (1, .int x.1), (2, .int x.2.1), (3, .int x.2.2)]) hx hb dX0_gather_46 hl (k := 4) rfl (nI_1 k) (by decide) rfl (fun ls hl => ?_)
      refine lv_goto (tgt := 3) hx hb dX0_gather_49 (by decide) ?_
      exact ih (n - 1) _ _ _ (by omega) ⟨k + 1, by omega, N, lv_sub hl [1, 2, 3, 4, 0] rfl, fun j z hj hz => by rcases Nat.lt_succ_iff_lt_or_eq.mp hj with q | q; exact hinv j z q hz; subst q; rw [hy] at hz; cases hz; exact hlf⟩
    · refine lv_aload_n hx hb dX0_gather_23 rfl (lv_at hl 0 rfl) ?_
      refine gA_nw S N dX0_gather_24 ?_
      refine lv_iload hx hb dX0_gather_27 (lv_at hl 4 rfl) ?_
      refine lA_nw S N k (by omega) dX0_gather_29 ?_
      refine lv_iload_n hx hb dX0_gather_30 rfl (lv_at hl 2 rfl) ?_
      refine lv_icmp_gt (tgt := 46) hx hb dX0_gather_31 (by decide) (fun d2 => ?_) (fun d2 => ?_)
      · have hlf : lc_le y x = false := lc_le_f (fun h => lc_nle d2 (by rw [show nw k = y.2.1 from f2]; exact h.2.1))
        refine lv_iinc (v := nI (k + 1)) (lv' := [(4, .int (nI (k + 1))), (0, .ref (a 0)), (1, .int x.1), (2, .int x.2.1), (3, .int x.2.2)]) hx hb dX0_gather_46 hl (k := 4) rfl (nI_1 k) (by decide) rfl (fun ls hl => ?_)
        refine lv_goto (tgt := 3) hx hb dX0_gather_49 (by decide) ?_
        exact ih (n - 1) _ _ _ (by omega) ⟨k + 1, by omega, N, lv_sub hl [1, 2, 3, 4, 0] rfl, fun j z hj hz => by rcases Nat.lt_succ_iff_lt_or_eq.mp hj with q | q; exact hinv j z q hz; subst q; rw [hy] at hz; cases hz; exact hlf⟩
      · refine lv_aload_n hx hb dX0_gather_34 rfl (lv_at hl 0 rfl) ?_
        refine gA_nl S N dX0_gather_35 ?_
        refine lv_iload hx hb dX0_gather_38 (lv_at hl 4 rfl) ?_
        refine lA_nl S N k (by omega) dX0_gather_40 ?_
        refine lv_iload_n hx hb dX0_gather_41 rfl (lv_at hl 3 rfl) ?_
        refine lv_icmp_gt (tgt := 46) hx hb dX0_gather_42 (by decide) (fun d3 => ?_) (fun d3 => ?_)
        · have hlf : lc_le y x = false := lc_le_f (fun h => lc_nle d3 (by rw [show nl k = y.2.2 from f3]; exact h.2.2))
          refine lv_iinc (v := nI (k + 1)) (lv' := [(4, .int (nI (k + 1))), (0, .ref (a 0)), (1, .int x.1), (2, .int x.2.1), (3, .int x.2.2)]) hx hb dX0_gather_46 hl (k := 4) rfl (nI_1 k) (by decide) rfl (fun ls hl => ?_)
          refine lv_goto (tgt := 3) hx hb dX0_gather_49 (by decide) ?_
          exact ih (n - 1) _ _ _ (by omega) ⟨k + 1, by omega, N, lv_sub hl [1, 2, 3, 4, 0] rfl, fun j z hj hz => by rcases Nat.lt_succ_iff_lt_or_eq.mp hj with q | q; exact hinv j z q hz; subst q; rw [hy] at hz; cases hz; exact hlf⟩
        · have hle : lc_le y x = true := lc_le_iff.mpr ⟨by rw [← f1]; exact lc_nlt d1, by rw [← f2]; exact lc_nlt d2, by rw [← f3]; exact lc_nlt d3⟩
          have hin := lc_gather_in hy hle
          exact lc_vret S hr hlk N ⟨rfl, ne, nw, nl, by rw [hin], by rw [hin]; exact hs⟩ dX0_gather_45
end
section
set_option maxHeartbeats 4000000 in
set_option maxRecDepth 100000 in
/-- indent: the boxes of q, indented, into the gathered ones -/
theorem kA_indent (l : Launch) (D : va_G) (d : ClassId) (a : Nat → Nat) (tk ch dp : Int32) (cn en wi la ne nw nl : Nat → Int32) (i : Nat) (hi : i < 10) (q : List lc_B) (hcn : cn i = nI q.length) (hq : lc_seg (64 * i) q en wi la) (gs : List lc_B) (hs : lc_seg 0 gs ne nw nl) (hg : gs.length + q.length ≤ 64) (sh : Int32) : lc_K l D d yX0_indent cX0_indent 4 none { frames := 1, cells := 0, slots := 0, locals := 26 } [.ref (a 0), .int (nI i), .int sh] (wA d a tk ch dp (nI gs.length) cn en wi la ne nw nl) (fun r w' => r = none ∧ ∃ ne' nw' nl' : Nat → Int32, w' = wA d a tk ch dp (nI (lc_indent sh q gs).length) cn en wi la ne' nw' nl' ∧ lc_seg 0 (lc_indent sh q gs) ne' nw' nl') := by
  refine lc_K.of (by decide) (Nat.le_of_ble_eq_true rfl) (fun p e s m below meth c A ls S hr hlk hnm N hl => ?_)
  have S : CallFix p m c cX0_indent 4 s _ lw_all RX0 := S
  have hx := S.1
  have hb := S.2.1
  have hl : lv_has ls 4 [(0, .ref (a 0)), (1, .int (nI i)), (2, .int sh)] := hl
  refine lv_bipush (v := 64) hx hb dX0_indent_0 (by decide) ?_
  refine lv_iload_n hx hb dX0_indent_2 rfl (lv_at hl 1 rfl) ?_
  refine lv_imul hx hb dX0_indent_3 ?_
  refine lc_top (nI (0 + 64 * i)) (by rw [Nat.zero_add]; exact lc_n64 i) ?_
  refine lv_istore_n (lv' := [(3, .int (nI (0 + 64 * i))), (0, .ref (a 0)), (1, .int (nI i)), (2, .int sh)]) hx hb dX0_indent_4 rfl hl (by decide) rfl (fun ls hl => ?_)
  refine lc_loop (I := fun n H locs ls => ∃ (k : Nat) (e1 e2 e3 : Nat → Int32), n + k = q.length ∧ lc_St D d A s (wA d a tk ch dp (nI (lc_indent sh (q.take k) gs).length) cn en wi la e1 e2 e3) H locs ∧ lv_has ls 4 [(0, .ref (a 0)), (1, .int (nI i)), (2, .int sh), (3, .int (nI (k + 64 * i)))] ∧ lc_seg 0 (lc_indent sh (q.take k) gs) e1 e2 e3) (fun n H locs ls hI ih => ?_) q.length ⟨0, ne, nw, nl, rfl, N, lv_sub hl [1, 2, 3, 0] rfl, hs⟩
  obtain ⟨k, e1, e2, e3, hk, N, hl, hseg⟩ := hI
  refine lv_iload_n hx hb dX0_indent_5 rfl (lv_at hl 3 rfl) ?_
  refine lv_bipush (v := 64) hx hb dX0_indent_6 (by decide) ?_
  refine lv_iload_n hx hb dX0_indent_8 rfl (lv_at hl 1 rfl) ?_
  refine lv_imul hx hb dX0_indent_9 ?_
  refine lc_top (nI (64 * i)) (lc_n64 i) ?_
  refine lv_aload_n hx hb dX0_indent_10 rfl (lv_at hl 0 rfl) ?_
  refine gA_cn S N dX0_indent_11 ?_
  refine lv_iload_n hx hb dX0_indent_14 rfl (lv_at hl 1 rfl) ?_
  refine lA_cn S N i hi dX0_indent_15 ?_
  refine lv_iadd hx hb dX0_indent_16 ?_
  refine lc_top (nI (64 * i + q.length)) (by rw [hcn]; exact nI_add _ _) ?_
  refine lv_icmp_ge (tgt := 52) hx hb dX0_indent_17 (by decide) (fun c1 => ?_) (fun c1 => ?_)
  · have hk1 := lc_nI_le c1 (by omega) (by omega)
    have hkq : q.take k = q := List.take_of_length_le (by omega)
    rw [hkq] at N hseg
    exact lc_vret S hr hlk N ⟨rfl, e1, e2, e3, rfl, hseg⟩ dX0_indent_52
  · have hk1 := lc_nI_lt c1 (by omega) (by omega)
    obtain ⟨y, hy⟩ := lc_getE (l := q) (k := k) (by omega)
    obtain ⟨f1, f2, f3⟩ := hq k y hy
    have hlen := lc_indent_len sh (q.take k) gs
    have hlt : (q.take k).length ≤ k := by rw [List.length_take]; omega
    refine lv_aload_n hx hb dX0_indent_20 rfl (lv_at hl 0 rfl) ?_
    refine lv_aload_n hx hb dX0_indent_21 rfl (lv_at hl 0 rfl) ?_
    refine gA_en S N dX0_indent_22 ?_
    refine lv_iload_n hx hb dX0_indent_25 rfl (lv_at hl 3 rfl) ?_
    refine lA_en S N (k + 64 * i) (by omega) dX0_indent_26 ?_
    refine lv_aload_n hx hb dX0_indent_27 rfl (lv_at hl 0 rfl) ?_
    refine gA_wi S N dX0_indent_28 ?_
    refine lv_iload_n hx hb dX0_indent_31 rfl (lv_at hl 3 rfl) ?_
    refine lA_wi S N (k + 64 * i) (by omega) dX0_indent_32 ?_
    refine lv_iload_n hx hb dX0_indent_33 rfl (lv_at hl 2 rfl) ?_
    refine lv_iadd hx hb dX0_indent_34 ?_
    refine lv_aload_n hx hb dX0_indent_35 rfl (lv_at hl 0 rfl) ?_
    refine gA_la S N dX0_indent_36 ?_
    refine lv_iload_n hx hb dX0_indent_39 rfl (lv_at hl 3 rfl) ?_
    refine lA_la S N (k + 64 * i) (by omega) dX0_indent_40 ?_
    refine lv_iload_n hx hb dX0_indent_41 rfl (lv_at hl 2 rfl) ?_
    refine lv_iadd hx hb dX0_indent_42 ?_
    have hxe : (en (k + 64 * i), wi (k + 64 * i) + sh, la (k + 64 * i) + sh) = lc_ind sh y := by rw [f1, f2, f3]; rfl
    refine lc_callV (ci := 0) (kA_gather l D d a tk ch dp cn en wi la e1 e2 e3 (lc_indent sh (q.take k) gs) (en (k + 64 * i), wi (k + 64 * i) + sh, la (k + 64 * i) + sh) (by omega) hseg) S N (lw_V q67 q69 qs1 q14 q70) hd_X0_gather ⟨by decide, by decide⟩ ⟨rfl, rfl⟩ rfl rfl hl (Nat.le_of_ble_eq_true rfl) rfl dX0_indent_43 ⟨Nat.zero_le _, Nat.zero_le _⟩ (fun r w1 H locs hp N => ?_)
    obtain ⟨rfl, g1, g2, g3, rfl, hseg2⟩ := hp
    rw [hxe, ← lc_indent_take hy] at N hseg2
    refine lv_iinc (v := nI (k + 1 + 64 * i)) (lv' := [(3, .int (nI (k + 1 + 64 * i))), (0, .ref (a 0)), (1, .int (nI i)), (2, .int sh)]) hx hb dX0_indent_46 hl (k := 3) rfl (by rw [show k + 1 + 64 * i = k + 64 * i + 1 by omega]; exact nI_1 _) (by decide) rfl (fun ls hl => ?_)
    refine lv_goto (tgt := 5) hx hb dX0_indent_49 (by decide) ?_
    exact ih (n - 1) _ _ _ (by omega) ⟨k + 1, g1, g2, g3, by omega, N, lv_sub hl [1, 2, 3, 0] rfl, hseg2⟩
set_option maxHeartbeats 4000000 in
set_option maxRecDepth 100000 in
/-- joinBoxes: the box at i and the box at j -/
theorem kA_joinBoxes (l : Launch) (D : va_G) (d : ClassId) (a : Nat → Nat) (tk ch dp : Int32) (cn en wi la ne nw nl : Nat → Int32) (i j : Nat) (hi : i < 640) (hj : j < 640) (x y : lc_B) (hx0 : en i = x.1 ∧ wi i = x.2.1 ∧ la i = x.2.2) (hy0 : en j = y.1 ∧ wi j = y.2.1 ∧ la j = y.2.2) (gs : List lc_B) (hs : lc_seg 0 gs ne nw nl) (hg : gs.length ≤ 64) (code : Int32) : lc_K l D d yX0_joinBoxes cX0_joinBoxes 5 none { frames := 1, cells := 0, slots := 0, locals := 26 } [.ref (a 0), .int code, .int (nI i), .int (nI j)] (wA d a tk ch dp (nI gs.length) cn en wi la ne nw nl) (fun r w' => r = none ∧ ∃ ne' nw' nl' : Nat → Int32, w' = wA d a tk ch dp (nI (lc_gather gs (lc_join code x y)).length) cn en wi la ne' nw' nl' ∧ lc_seg 0 (lc_gather gs (lc_join code x y)) ne' nw' nl') := by
  refine lc_K.of (by decide) (Nat.le_of_ble_eq_true rfl) (fun p e s m below meth c A ls S hr hlk hnm N hl => ?_)
  have S : CallFix p m c cX0_joinBoxes 5 s _ lw_all RX0 := S
  have hx := S.1
  have hb := S.2.1
  have hl : lv_has ls 5 [(0, .ref (a 0)), (1, .int code), (2, .int (nI i)), (3, .int (nI j))] := hl
  obtain ⟨x1, x2, x3⟩ := hx0
  obtain ⟨y1, y2, y3⟩ := hy0
  refine lv_iload_n hx hb dX0_joinBoxes_0 rfl (lv_at hl 1 rfl) ?_
  refine lv_iconst (v := 2) hx hb dX0_joinBoxes_1 (by decide) ?_
  refine lv_icmp_ne (tgt := 67) hx hb dX0_joinBoxes_2 (by decide) (fun c0 => ?_) (fun c0 => ?_)
  · refine lv_aload_n hx hb dX0_joinBoxes_67 rfl (lv_at hl 0 rfl) ?_
    refine gA_la S N dX0_joinBoxes_68 ?_
    refine lv_iload_n hx hb dX0_joinBoxes_71 rfl (lv_at hl 2 rfl) ?_
    refine lA_la S N i hi dX0_joinBoxes_72 ?_
    refine lv_aload_n hx hb dX0_joinBoxes_73 rfl (lv_at hl 0 rfl) ?_
    refine gA_wi S N dX0_joinBoxes_74 ?_
    refine lv_iload_n hx hb dX0_joinBoxes_77 rfl (lv_at hl 3 rfl) ?_
    refine lA_wi S N j hj dX0_joinBoxes_78 ?_
    refine lv_iadd hx hb dX0_joinBoxes_79 ?_
    refine lv_istore (lv' := [(4, .int ((la i) + (wi j))), (0, .ref (a 0)), (1, .int code), (2, .int (nI i)), (3, .int (nI j))]) hx hb dX0_joinBoxes_80 hl (by decide) rfl (fun ls hl => ?_)
    refine lv_aload_n hx hb dX0_joinBoxes_82 rfl (lv_at hl 1 rfl) ?_
    refine lv_aload_n hx hb dX0_joinBoxes_83 rfl (lv_at hl 1 rfl) ?_
    refine gA_en S N dX0_joinBoxes_84 ?_
    refine lv_iload_n hx hb dX0_joinBoxes_87 rfl (lv_at hl 3 rfl) ?_
    refine lA_en S N i hi dX0_joinBoxes_88 ?_
    refine lv_aload_n hx hb dX0_joinBoxes_89 rfl (lv_at hl 1 rfl) ?_
    refine gA_en S N dX0_joinBoxes_90 ?_
    refine lv_iload_n hx hb dX0_joinBoxes_93 rfl (lv_at hl 4 rfl) ?_
    refine lA_en S N j hj dX0_joinBoxes_94 ?_
    refine lv_iadd hx hb dX0_joinBoxes_95 ?_
    refine lv_aload_n hx hb dX0_joinBoxes_96 rfl (lv_at hl 1 rfl) ?_
    refine gA_wi S N dX0_joinBoxes_97 ?_
    refine lv_iload_n hx hb dX0_joinBoxes_100 rfl (lv_at hl 3 rfl) ?_
    refine lA_wi S N i hi dX0_joinBoxes_101 ?_
    refine lv_iload hx hb dX0_joinBoxes_102 (lv_at hl 0 rfl) ?_
    refine lv_icmp_le (tgt := 116) hx hb dX0_joinBoxes_104 (by decide) (fun c1 => ?_) (fun c1 => ?_)
    · refine lv_iload hx hb dX0_joinBoxes_116 (lv_at hl 0 rfl) ?_
      refine lv_aload_n hx hb dX0_joinBoxes_118 rfl (lv_at hl 1 rfl) ?_
      refine gA_la S N dX0_joinBoxes_119 ?_
      refine lv_iload_n hx hb dX0_joinBoxes_122 rfl (lv_at hl 3 rfl) ?_
      refine lA_la S N i hi dX0_joinBoxes_123 ?_
      refine lv_aload_n hx hb dX0_joinBoxes_124 rfl (lv_at hl 1 rfl) ?_
      refine gA_la S N dX0_joinBoxes_125 ?_
      refine lv_iload_n hx hb dX0_joinBoxes_128 rfl (lv_at hl 4 rfl) ?_
      refine lA_la S N j hj dX0_joinBoxes_129 ?_
      refine lv_iadd hx hb dX0_joinBoxes_130 ?_
      have hmx : lc_mx (wi i) (la i + wi j) = la i + wi j := if_pos c1
      have hxe : (en i + en j, la i + wi j, la i + la j) = lc_join code x y := by rw [lc_join, if_neg c0, ← x1, ← y1, ← x2, ← y2, ← x3, ← y3, hmx]
      refine lc_callV (ci := 0) (kA_gather l D d a tk ch dp cn en wi la ne nw nl gs (en i + en j, la i + wi j, la i + la j) hg hs) S N (lw_V q67 q69 qs1 q14 q70) hd_X0_gather ⟨by decide, by decide⟩ ⟨rfl, rfl⟩ rfl rfl hl (Nat.le_of_ble_eq_true rfl) rfl dX0_joinBoxes_131 ⟨Nat.zero_le _, Nat.zero_le _⟩ (fun r w1 H locs hp N => ?_)
      obtain ⟨rfl, g1, g2, g3, rfl, hseg2⟩ := hp
      rw [hxe] at N hseg2
      exact lc_vret S hr hlk N ⟨rfl, g1, g2, g3, rfl, hseg2⟩ dX0_joinBoxes_134
    · refine lv_aload_n hx hb dX0_joinBoxes_107 rfl (lv_at hl 1 rfl) ?_
      refine gA_wi S N dX0_joinBoxes_108 ?_
      refine lv_iload_n hx hb dX0_joinBoxes_111 rfl (lv_at hl 3 rfl) ?_
      refine lA_wi S N i hi dX0_joinBoxes_112 ?_
      refine lv_goto (tgt := 118) hx hb dX0_joinBoxes_113 (by decide) ?_
      refine lv_aload_n hx hb dX0_joinBoxes_118 rfl (lv_at hl 1 rfl) ?_
      refine gA_la S N dX0_joinBoxes_119 ?_
      refine lv_iload_n hx hb dX0_joinBoxes_122 rfl (lv_at hl 3 rfl) ?_
      refine lA_la S N i hi dX0_joinBoxes_123 ?_
      refine lv_aload_n hx hb dX0_joinBoxes_124 rfl (lv_at hl 1 rfl) ?_
      refine gA_la S N dX0_joinBoxes_125 ?_
      refine lv_iload_n hx hb dX0_joinBoxes_128 rfl (lv_at hl 4 rfl) ?_
      refine lA_la S N j hj dX0_joinBoxes_129 ?_
      refine lv_iadd hx hb dX0_joinBoxes_130 ?_
      have hmx : lc_mx (wi i) (la i + wi j) = wi i := if_neg c1
      have hxe : (en i + en j, wi i, la i + la j) = lc_join code x y := by rw [lc_join, if_neg c0, ← x1, ← y1, ← x2, ← y2, ← x3, ← y3, hmx]
      refine lc_callV (ci := 0) (kA_gather l D d a tk ch dp cn en wi la ne nw nl gs (en i + en j, wi i, la i + la j) hg hs) S N (lw_V q67 q69 qs1 q14 q70) hd_X0_gather ⟨by decide, by decide⟩ ⟨rfl, rfl⟩ rfl rfl hl (Nat.le_of_ble_eq_true rfl) rfl dX0_joinBoxes_131 ⟨Nat.zero_le _, Nat.zero_le _⟩ (fun r w1 H locs hp N => ?_)
      obtain ⟨rfl, g1, g2, g3, rfl, hseg2⟩ := hp
      rw [hxe] at N hseg2
      exact lc_vret S hr hlk N ⟨rfl, g1, g2, g3, rfl, hseg2⟩ dX0_joinBoxes_134
  · refine lv_aload_n hx hb dX0_joinBoxes_5 rfl (lv_at hl 0 rfl) ?_
    refine gA_wi S N dX0_joinBoxes_6 ?_
    refine lv_iload_n hx hb dX0_joinBoxes_9 rfl (lv_at hl 2 rfl) ?_
    refine lA_wi S N i hi dX0_joinBoxes_10 ?_
    refine lv_aload_n hx hb dX0_joinBoxes_11 rfl (lv_at hl 0 rfl) ?_
    refine gA_wi S N dX0_joinBoxes_12 ?_
    refine lv_iload_n hx hb dX0_joinBoxes_15 rfl (lv_at hl 3 rfl) ?_
    refine lA_wi S N j hj dX0_joinBoxes_16 ?_
    refine lv_icmp_le (tgt := 29) hx hb dX0_joinBoxes_17 (by decide) (fun c1 => ?_) (fun c1 => ?_)
    · refine lv_aload_n hx hb dX0_joinBoxes_29 rfl (lv_at hl 0 rfl) ?_
      refine gA_wi S N dX0_joinBoxes_30 ?_
      refine lv_iload_n hx hb dX0_joinBoxes_33 rfl (lv_at hl 3 rfl) ?_
      refine lA_wi S N j hj dX0_joinBoxes_34 ?_
      refine lv_istore (lv' := [(4, .int (wi j)), (0, .ref (a 0)), (1, .int code), (2, .int (nI i)), (3, .int (nI j))]) hx hb dX0_joinBoxes_35 hl (by decide) rfl (fun ls hl => ?_)
      refine lv_aload_n hx hb dX0_joinBoxes_37 rfl (lv_at hl 1 rfl) ?_
      refine lv_aload_n hx hb dX0_joinBoxes_38 rfl (lv_at hl 1 rfl) ?_
      refine gA_en S N dX0_joinBoxes_39 ?_
      refine lv_iload_n hx hb dX0_joinBoxes_42 rfl (lv_at hl 3 rfl) ?_
      refine lA_en S N i hi dX0_joinBoxes_43 ?_
      refine lv_aload_n hx hb dX0_joinBoxes_44 rfl (lv_at hl 1 rfl) ?_
      refine gA_en S N dX0_joinBoxes_45 ?_
      refine lv_iload_n hx hb dX0_joinBoxes_48 rfl (lv_at hl 4 rfl) ?_
      refine lA_en S N j hj dX0_joinBoxes_49 ?_
      refine lv_iadd hx hb dX0_joinBoxes_50 ?_
      refine lv_iconst (v := 1) hx hb dX0_joinBoxes_51 (by decide) ?_
      refine lv_iadd hx hb dX0_joinBoxes_52 ?_
      refine lv_iload hx hb dX0_joinBoxes_53 (lv_at hl 0 rfl) ?_
      refine lv_aload_n hx hb dX0_joinBoxes_55 rfl (lv_at hl 1 rfl) ?_
      refine gA_la S N dX0_joinBoxes_56 ?_
      refine lv_iload_n hx hb dX0_joinBoxes_59 rfl (lv_at hl 4 rfl) ?_
      refine lA_la S N j hj dX0_joinBoxes_60 ?_
      have hmx : lc_mx (wi i) (wi j) = wi j := if_pos c1
      have hxe : (en i + en j + 1, wi j, la j) = lc_join code x y := by rw [lc_join, if_pos c0, ← x1, ← y1, ← x2, ← y2, ← y3, hmx]
      refine lc_callV (ci := 0) (kA_gather l D d a tk ch dp cn en wi la ne nw nl gs (en i + en j + 1, wi j, la j) hg hs) S N (lw_V q67 q69 qs1 q14 q70) hd_X0_gather ⟨by decide, by decide⟩ ⟨rfl, rfl⟩ rfl rfl hl (Nat.le_of_ble_eq_true rfl) rfl dX0_joinBoxes_61 ⟨Nat.zero_le _, Nat.zero_le _⟩ (fun r w1 H locs hp N => ?_)
      obtain ⟨rfl, g1, g2, g3, rfl, hseg2⟩ := hp
      rw [hxe] at N hseg2
      refine lv_goto (tgt := 134) hx hb dX0_joinBoxes_64 (by decide) ?_
      exact lc_vret S hr hlk N ⟨rfl, g1, g2, g3, rfl, hseg2⟩ dX0_joinBoxes_134
    · refine lv_aload_n hx hb dX0_joinBoxes_20 rfl (lv_at hl 0 rfl) ?_
      refine gA_wi S N dX0_joinBoxes_21 ?_
      refine lv_iload_n hx hb dX0_joinBoxes_24 rfl (lv_at hl 2 rfl) ?_
      refine lA_wi S N i hi dX0_joinBoxes_25 ?_
      refine lv_goto (tgt := 35) hx hb dX0_joinBoxes_26 (by decide) ?_
      refine lv_istore (lv' := [(4, .int (wi i)), (0, .ref (a 0)), (1, .int code), (2, .int (nI i)), (3, .int (nI j))]) hx hb dX0_joinBoxes_35 hl (by decide) rfl (fun ls hl => ?_)
      refine lv_aload_n hx hb dX0_joinBoxes_37 rfl (lv_at hl 1 rfl) ?_
      refine lv_aload_n hx hb dX0_joinBoxes_38 rfl (lv_at hl 1 rfl) ?_
      refine gA_en S N dX0_joinBoxes_39 ?_
      refine lv_iload_n hx hb dX0_joinBoxes_42 rfl (lv_at hl 3 rfl) ?_
      refine lA_en S N i hi dX0_joinBoxes_43 ?_
      refine lv_aload_n hx hb dX0_joinBoxes_44 rfl (lv_at hl 1 rfl) ?_
      refine gA_en S N dX0_joinBoxes_45 ?_
      refine lv_iload_n hx hb dX0_joinBoxes_48 rfl (lv_at hl 4 rfl) ?_
      refine lA_en S N j hj dX0_joinBoxes_49 ?_
      refine lv_iadd hx hb dX0_joinBoxes_50 ?_
      refine lv_iconst (v := 1) hx hb dX0_joinBoxes_51 (by decide) ?_
      refine lv_iadd hx hb dX0_joinBoxes_52 ?_
      refine lv_iload hx hb dX0_joinBoxes_53 (lv_at hl 0 rfl) ?_
      refine lv_aload_n hx hb dX0_joinBoxes_55 rfl (lv_at hl 1 rfl) ?_
      refine gA_la S N dX0_joinBoxes_56 ?_
      refine lv_iload_n hx hb dX0_joinBoxes_59 rfl (lv_at hl 4 rfl) ?_
      refine lA_la S N j hj dX0_joinBoxes_60 ?_
      have hmx : lc_mx (wi i) (wi j) = wi i := if_neg c1
      have hxe : (en i + en j + 1, wi i, la j) = lc_join code x y := by rw [lc_join, if_pos c0, ← x1, ← y1, ← x2, ← y2, ← y3, hmx]
      refine lc_callV (ci := 0) (kA_gather l D d a tk ch dp cn en wi la ne nw nl gs (en i + en j + 1, wi i, la j) hg hs) S N (lw_V q67 q69 qs1 q14 q70) hd_X0_gather ⟨by decide, by decide⟩ ⟨rfl, rfl⟩ rfl rfl hl (Nat.le_of_ble_eq_true rfl) rfl dX0_joinBoxes_61 ⟨Nat.zero_le _, Nat.zero_le _⟩ (fun r w1 H locs hp N => ?_)
      obtain ⟨rfl, g1, g2, g3, rfl, hseg2⟩ := hp
      rw [hxe] at N hseg2
      refine lv_goto (tgt := 134) hx hb dX0_joinBoxes_64 (by decide) ?_
      exact lc_vret S hr hlk N ⟨rfl, g1, g2, g3, rfl, hseg2⟩ dX0_joinBoxes_134
end
section
set_option maxHeartbeats 4000000 in
set_option maxRecDepth 100000 in
/-- joinTwo: the two documents above depth, together -/
theorem kA_joinTwo (l : Launch) (D : va_G) (d : ClassId) (a : Nat → Nat) (tk ch : Int32) (cn en wi la ne nw nl : Nat → Int32) (i : Nat) (hi : i + 1 < 10) (q1 q2 : List lc_B) (h1 : cn i = nI q1.length) (h2 : cn (i + 1) = nI q2.length) (s1 : lc_seg (64 * i) q1 en wi la) (s2 : lc_seg (64 * (i + 1)) q2 en wi la) (l1 : q1.length ≤ 64) (l2 : q2.length ≤ 64) (code : Int32) (hc : code = 4 → q1.length + q2.length ≤ 64) (hp : q1.length * q2.length ≤ 64) : lc_K l D d yX0_joinTwo cX0_joinTwo 4 none { frames := 2, cells := 0, slots := 0, locals := 50 } [.ref (a 0), .int code] (wA d a tk ch (nI i) (nI ([] : List lc_B).length) cn en wi la ne nw nl) (fun r w' => r = none ∧ ∃ ne' nw' nl' : Nat → Int32, w' = wA d a tk ch (nI i) (nI (lc_two code q1 q2 []).length) cn en wi la ne' nw' nl' ∧ lc_seg 0 (lc_two code q1 q2 []) ne' nw' nl') := by
  refine lc_K.of (by decide) (Nat.le_of_ble_eq_true rfl) (fun p e s m below meth c A ls S hr hlk hnm N hl => ?_)
  have S : CallFix p m c cX0_joinTwo 4 s _ lw_all RX0 := S
  have hx := S.1
  have hb := S.2.1
  have hl : lv_has ls 4 [(0, .ref (a 0)), (1, .int code)] := hl
  refine lv_iload_n hx hb dX0_joinTwo_0 rfl (lv_at hl 1 rfl) ?_
  refine lv_iconst (v := 4) hx hb dX0_joinTwo_1 (by decide) ?_
  refine lv_icmp_ne (tgt := 26) hx hb dX0_joinTwo_2 (by decide) (fun c0 => ?_) (fun c0 => ?_)
  · refine lv_bipush (v := 64) hx hb dX0_joinTwo_26 (by decide) ?_
    refine lv_aload_n hx hb dX0_joinTwo_28 rfl (lv_at hl 0 rfl) ?_
    refine gA_dp S N dX0_joinTwo_29 ?_
    refine lv_imul hx hb dX0_joinTwo_32 ?_
    refine lc_top (nI (0 + 64 * i)) (by rw [Nat.zero_add]; exact lc_n64 i) ?_
    refine lv_istore_n (lv' := [(2, .int (nI (0 + 64 * i))), (0, .ref (a 0)), (1, .int code)]) hx hb dX0_joinTwo_33 rfl hl (by decide) rfl (fun ls hl => ?_)
    refine lc_loop (I := fun n H locs ls => ∃ (k : Nat) (e1 e2 e3 : Nat → Int32), n + k = q1.length ∧ lc_St D d A s (wA d a tk ch (nI i) (nI (lc_cross code (q1.take k) q2 []).length) cn en wi la e1 e2 e3) H locs ∧ lv_has ls 4 [(0, .ref (a 0)), (1, .int code), (2, .int (nI (k + 64 * i)))] ∧ lc_seg 0 (lc_cross code (q1.take k) q2 []) e1 e2 e3) (fun n H locs ls hI ih => ?_) q1.length ⟨0, ne, nw, nl, rfl, N, lv_sub hl [1, 2, 0] rfl, lc_seg_nil⟩
    obtain ⟨k, e1, e2, e3, hk, N, hl, hseg⟩ := hI
    refine lv_iload_n hx hb dX0_joinTwo_34 rfl (lv_at hl 2 rfl) ?_
    refine lv_bipush (v := 64) hx hb dX0_joinTwo_35 (by decide) ?_
    refine lv_aload_n hx hb dX0_joinTwo_37 rfl (lv_at hl 0 rfl) ?_
    refine gA_dp S N dX0_joinTwo_38 ?_
    refine lv_imul hx hb dX0_joinTwo_41 ?_
    refine lc_top (nI (64 * i)) (lc_n64 i) ?_
    refine lv_aload_n hx hb dX0_joinTwo_42 rfl (lv_at hl 0 rfl) ?_
    refine gA_cn S N dX0_joinTwo_43 ?_
    refine lv_aload_n hx hb dX0_joinTwo_46 rfl (lv_at hl 0 rfl) ?_
    refine gA_dp S N dX0_joinTwo_47 ?_
    refine lA_cn S N i (by omega) dX0_joinTwo_50 ?_
    refine lv_iadd hx hb dX0_joinTwo_51 ?_
    refine lc_top (nI (64 * i + q1.length)) (by rw [h1]; exact nI_add _ _) ?_
    refine lv_icmp_ge (tgt := 111) hx hb dX0_joinTwo_52 (by decide) (fun c1 => ?_) (fun c1 => ?_)
    · have hk1 := lc_nI_le c1 (by omega) (by omega)
      have hkq : q1.take k = q1 := List.take_of_length_le (by omega)
      rw [hkq] at N hseg
      have htwo : lc_two code q1 q2 [] = lc_cross code q1 q2 [] := if_neg c0
      exact lc_vret S hr hlk N ⟨rfl, e1, e2, e3, by rw [htwo], by rw [htwo]; exact hseg⟩ dX0_joinTwo_111
    · have hk1 := lc_nI_lt c1 (by omega) (by omega)
      obtain ⟨x, hx1⟩ := lc_getE (l := q1) (k := k) (by omega)
      refine lv_bipush (v := 64) hx hb dX0_joinTwo_55 (by decide) ?_
      refine lv_aload_n hx hb dX0_joinTwo_57 rfl (lv_at hl 0 rfl) ?_
      refine gA_dp S N dX0_joinTwo_58 ?_
      refine lv_imul hx hb dX0_joinTwo_61 ?_
      refine lv_bipush (v := 64) hx hb dX0_joinTwo_62 (by decide) ?_
      refine lv_iadd hx hb dX0_joinTwo_64 ?_
      refine lc_top (nI (0 + 64 * (i + 1))) (by rw [lc_n64, show (0 + 64 * (i + 1)) = 64 * i + 64 by omega]; exact nI_add (64 * i) 64) ?_
      refine lv_istore_n (lv' := [(3, .int (nI (0 + 64 * (i + 1)))), (0, .ref (a 0)), (1, .int code), (2, .int (nI (k + 64 * i)))]) hx hb dX0_joinTwo_65 rfl hl (by decide) rfl (fun ls hl => ?_)
      refine lc_loop (I := fun n2 H locs ls => ∃ (k2 : Nat) (e1 e2 e3 : Nat → Int32), n2 + k2 = q2.length ∧ lc_St D d A s (wA d a tk ch (nI i) (nI (lc_row code x (q2.take k2) (lc_cross code (q1.take k) q2 [])).length) cn en wi la e1 e2 e3) H locs ∧ lv_has ls 4 [(0, .ref (a 0)), (1, .int code), (2, .int (nI (k + 64 * i))), (3, .int (nI (k2 + 64 * (i + 1))))] ∧ lc_seg 0 (lc_row code x (q2.take k2) (lc_cross code (q1.take k) q2 [])) e1 e2 e3) (fun n2 H locs ls hI ih2 => ?_) q2.length ⟨0, e1, e2, e3, rfl, N, lv_sub hl [1, 2, 3, 0] rfl, hseg⟩
      clear N hl hseg
      obtain ⟨k2, e1, e2, e3, hk2, N, hl, hseg⟩ := hI
      refine lv_iload_n hx hb dX0_joinTwo_66 rfl (lv_at hl 3 rfl) ?_
      refine lv_bipush (v := 64) hx hb dX0_joinTwo_67 (by decide) ?_
      refine lv_aload_n hx hb dX0_joinTwo_69 rfl (lv_at hl 0 rfl) ?_
      refine gA_dp S N dX0_joinTwo_70 ?_
      refine lv_imul hx hb dX0_joinTwo_73 ?_
      refine lv_bipush (v := 64) hx hb dX0_joinTwo_74 (by decide) ?_
      refine lv_iadd hx hb dX0_joinTwo_76 ?_
      refine lc_top (nI (64 * (i + 1))) (by rw [lc_n64, show (64 * (i + 1)) = 64 * i + 64 by omega]; exact nI_add (64 * i) 64) ?_
      refine lv_aload_n hx hb dX0_joinTwo_77 rfl (lv_at hl 0 rfl) ?_
      refine gA_cn S N dX0_joinTwo_78 ?_
      refine lv_aload_n hx hb dX0_joinTwo_81 rfl (lv_at hl 0 rfl) ?_
      refine gA_dp S N dX0_joinTwo_82 ?_
      refine lv_iconst (v := 1) hx hb dX0_joinTwo_85 (by decide) ?_
      refine lv_iadd hx hb dX0_joinTwo_86 ?_
      refine lc_top (nI (i + 1)) (nI_1 i) ?_
      refine lA_cn S N (i + 1) (by omega) dX0_joinTwo_87 ?_
      refine lv_iadd hx hb dX0_joinTwo_88 ?_
      refine lc_top (nI (64 * (i + 1) + q2.length)) (by rw [h2]; exact nI_add _ _) ?_
      refine lv_icmp_ge (tgt := 105) hx hb dX0_joinTwo_89 (by decide) (fun c2 => ?_) (fun c2 => ?_)
      · have hk3 := lc_nI_le c2 (by omega) (by omega)
        have hkq : q2.take k2 = q2 := List.take_of_length_le (by omega)
        rw [hkq, ← lc_cross_take hx1] at N hseg
        refine lv_iinc (v := nI (k + 1 + 64 * i)) (lv' := [(2, .int (nI (k + 1 + 64 * i))), (0, .ref (a 0)), (1, .int code), (3, .int (nI (k2 + 64 * (i + 1))))]) hx hb dX0_joinTwo_105 hl (k := 2) rfl (by rw [show k + 1 + 64 * i = k + 64 * i + 1 by omega]; exact nI_1 _) (by decide) rfl (fun ls hl => ?_)
        refine lv_goto (tgt := 34) hx hb dX0_joinTwo_108 (by decide) ?_
        exact ih (n - 1) _ _ _ (by omega) ⟨k + 1, e1, e2, e3, by omega, N, lv_sub hl [1, 2, 0] rfl, hseg⟩
      · have hk3 := lc_nI_lt c2 (by omega) (by omega)
        obtain ⟨y, hy1⟩ := lc_getE (l := q2) (k := k2) (by omega)
        have b1 := lc_row_len code x (q2.take k2) (lc_cross code (q1.take k) q2 [])
        have b2 := lc_cross_len code (q1.take k) q2 []
        have b3 : (q1.take k).length = k := by rw [List.length_take]; omega
        have b4 : (q2.take k2).length ≤ k2 := by rw [List.length_take]; omega
        have b5 : (k + 1) * q2.length ≤ q1.length * q2.length := Nat.mul_le_mul_right _ (by omega)
        rw [Nat.succ_mul] at b5
        rw [b3] at b2
        have b6 : ([] : List lc_B).length = 0 := rfl
        refine lv_aload_n hx hb dX0_joinTwo_92 rfl (lv_at hl 0 rfl) ?_
        refine lv_iload_n hx hb dX0_joinTwo_93 rfl (lv_at hl 1 rfl) ?_
        refine lv_iload_n hx hb dX0_joinTwo_94 rfl (lv_at hl 2 rfl) ?_
        refine lv_iload_n hx hb dX0_joinTwo_95 rfl (lv_at hl 3 rfl) ?_
        refine lc_callV (ci := 0) (kA_joinBoxes l D d a tk ch (nI i) cn en wi la e1 e2 e3 (k + 64 * i) (k2 + 64 * (i + 1)) (by omega) (by omega) x y (s1 k x hx1) (s2 k2 y hy1) (lc_row code x (q2.take k2) (lc_cross code (q1.take k) q2 [])) hseg (by omega) code) S N (lw_V q79 q81 qs4 q14 q82) hd_X0_joinBoxes ⟨by decide, by decide⟩ ⟨rfl, rfl⟩ rfl rfl hl (Nat.le_of_ble_eq_true rfl) rfl dX0_joinTwo_96 ⟨Nat.zero_le _, Nat.zero_le _⟩ (fun r w1 H locs hp N => ?_)
        obtain ⟨rfl, g1, g2, g3, rfl, hseg2⟩ := hp
        rw [← lc_row_take hy1] at N hseg2
        refine lv_iinc (v := nI (k2 + 1 + 64 * (i + 1))) (lv' := [(3, .int (nI (k2 + 1 + 64 * (i + 1)))), (0, .ref (a 0)), (1, .int code), (2, .int (nI (k + 64 * i)))]) hx hb dX0_joinTwo_99 hl (k := 3) rfl (by rw [show k2 + 1 + 64 * (i + 1) = k2 + 64 * (i + 1) + 1 by omega]; exact nI_1 _) (by decide) rfl (fun ls hl => ?_)
        refine lv_goto (tgt := 66) hx hb dX0_joinTwo_102 (by decide) ?_
        exact ih2 (n2 - 1) _ _ _ (by omega) ⟨k2 + 1, g1, g2, g3, by omega, N, lv_sub hl [1, 2, 3, 0] rfl, hseg2⟩
  · have hlen := hc c0
    have b1 := lc_indent_len 0 q1 []
    have b6 : ([] : List lc_B).length = 0 := rfl
    refine lv_aload_n hx hb dX0_joinTwo_5 rfl (lv_at hl 0 rfl) ?_
    refine lv_aload_n hx hb dX0_joinTwo_6 rfl (lv_at hl 0 rfl) ?_
    refine gA_dp S N dX0_joinTwo_7 ?_
    refine lv_iconst (v := 0) hx hb dX0_joinTwo_10 (by decide) ?_
    refine lc_callV (ci := 0) (kA_indent l D d a tk ch (nI i) cn en wi la ne nw nl i (by omega) q1 h1 s1 [] lc_seg_nil (by omega) 0) S N (lw_V q71 q73 qs2 q14 q74) hd_X0_indent ⟨by decide, by decide⟩ ⟨rfl, rfl⟩ rfl rfl hl (Nat.le_of_ble_eq_true rfl) rfl dX0_joinTwo_11 ⟨Nat.zero_le _, Nat.zero_le _⟩ (fun r w1 H locs hp N => ?_)
    obtain ⟨rfl, g1, g2, g3, rfl, hs1⟩ := hp
    refine lv_aload_n hx hb dX0_joinTwo_14 rfl (lv_at hl 0 rfl) ?_
    refine lv_aload_n hx hb dX0_joinTwo_15 rfl (lv_at hl 0 rfl) ?_
    refine gA_dp S N dX0_joinTwo_16 ?_
    refine lv_iconst (v := 1) hx hb dX0_joinTwo_19 (by decide) ?_
    refine lv_iadd hx hb dX0_joinTwo_20 ?_
    refine lc_top (nI (i + 1)) (nI_1 i) ?_
    refine lv_iconst (v := 0) hx hb dX0_joinTwo_21 (by decide) ?_
    refine lc_callV (ci := 0) (kA_indent l D d a tk ch (nI i) cn en wi la g1 g2 g3 (i + 1) (by omega) q2 h2 s2 (lc_indent 0 q1 []) hs1 (by omega) 0) S N (lw_V q71 q73 qs2 q14 q74) hd_X0_indent ⟨by decide, by decide⟩ ⟨rfl, rfl⟩ rfl rfl hl (Nat.le_of_ble_eq_true rfl) rfl dX0_joinTwo_22 ⟨Nat.zero_le _, Nat.zero_le _⟩ (fun r w1 H locs hp N => ?_)
    obtain ⟨rfl, k1, k2, k3, rfl, hs2⟩ := hp
    have htwo : lc_two code q1 q2 [] = lc_indent 0 q2 (lc_indent 0 q1 []) := if_pos c0
    exact lc_vret S hr hlk N ⟨rfl, k1, k2, k3, by rw [htwo], by rw [htwo]; exact hs2⟩ dX0_joinTwo_25
set_option maxHeartbeats 4000000 in
set_option maxRecDepth 100000 in
/-- keep: the gathered boxes become the top document -/
theorem kA_keep (l : Launch) (D : va_G) (d : ClassId) (a : Nat → Nat) (tk ch : Int32) (cn en wi la ne nw nl : Nat → Int32) (ds : List (List lc_B)) (hi : ds.length < 10) (hd : lc_docs cn en wi la ds) (gs : List lc_B) (hg : gs.length ≤ 64) (hs : lc_seg 0 gs ne nw nl) : lc_K l D d yX0_keep cX0_keep 2 none { frames := 0, cells := 0, slots := 0, locals := 0 } [.ref (a 0)] (wA d a tk ch (nI ds.length) (nI gs.length) cn en wi la ne nw nl) (fun r w' => r = none ∧ ∃ cn' en' wi' la' : Nat → Int32, w' = wA d a tk ch (nI (ds.length + 1)) (nI gs.length) cn' en' wi' la' ne nw nl ∧ lc_docs cn' en' wi' la' (gs :: ds)) := by
  refine lc_K.of (by decide) (Nat.le_of_ble_eq_true rfl) (fun p e s m below meth c A ls S hr hlk hnm N hl => ?_)
  have S : CallFix p m c cX0_keep 2 s _ lw_all RX0 := S
  have hx := S.1
  have hb := S.2.1
  have hl : lv_has ls 2 [(0, .ref (a 0))] := hl
  refine lv_aload_n hx hb dX0_keep_0 rfl (lv_at hl 0 rfl) ?_
  refine gA_cn S N dX0_keep_1 ?_
  refine lv_aload_n hx hb dX0_keep_4 rfl (lv_at hl 0 rfl) ?_
  refine gA_dp S N dX0_keep_5 ?_
  refine lv_aload_n hx hb dX0_keep_8 rfl (lv_at hl 0 rfl) ?_
  refine gA_ga S N dX0_keep_9 ?_
  refine sA_cn S N ds.length hi dX0_keep_12 (fun H locs N => ?_)
  refine lv_iconst (v := 0) hx hb dX0_keep_13 (by decide) ?_
  refine lc_top (nI 0) nI_0.symm ?_
  refine lv_istore_n (lv' := [(1, .int (nI 0)), (0, .ref (a 0))]) hx hb dX0_keep_14 rfl hl (by decide) rfl (fun ls hl => ?_)
  refine lc_loop (I := fun n H locs ls => ∃ (k : Nat) (e1 e2 e3 : Nat → Int32), n + k = gs.length ∧ lc_St D d A s (wA d a tk ch (nI ds.length) (nI gs.length) (upd cn ds.length (nI gs.length)) e1 e2 e3 ne nw nl) H locs ∧ lv_has ls 2 [(0, .ref (a 0)), (1, .int (nI k))] ∧ lc_seg (64 * ds.length) (gs.take k) e1 e2 e3 ∧ ∀ j, j < 64 * ds.length → e1 j = en j ∧ e2 j = wi j ∧ e3 j = la j) (fun n H locs ls hI ih => ?_) gs.length ⟨0, en, wi, la, rfl, N, lv_sub hl [1, 0] rfl, lc_seg_nil, fun _ _ => ⟨rfl, rfl, rfl⟩⟩
  obtain ⟨k, e1, e2, e3, hk, N, hl, hseg, hold⟩ := hI
  refine lv_iload_n hx hb dX0_keep_15 rfl (lv_at hl 1 rfl) ?_
  refine lv_aload_n hx hb dX0_keep_16 rfl (lv_at hl 0 rfl) ?_
  refine gA_ga S N dX0_keep_17 ?_
  refine lv_icmp_ge (tgt := 89) hx hb dX0_keep_20 (by decide) (fun c1 => ?_) (fun c1 => ?_)
  · have hk1 := lc_nI_le c1 (by omega) (by omega)
    have hkq : gs.take k = gs := List.take_of_length_le (by omega)
    rw [hkq] at hseg
    refine lv_aload_n hx hb dX0_keep_89 rfl (lv_at hl 0 rfl) ?_
    refine lv_dup hx hb dX0_keep_90 rfl ?_
    refine gA_dp S N dX0_keep_91 ?_
    refine lv_iconst (v := 1) hx hb dX0_keep_94 (by decide) ?_
    refine lv_iadd hx hb dX0_keep_95 ?_
    refine lc_top (nI (ds.length + 1)) (nI_1 _) ?_
    refine pA_dp S N dX0_keep_96 (fun H locs N => ?_)
    exact lc_vret S hr hlk N ⟨rfl, _, _, _, _, rfl, pk_us, hg, hseg, hd.keep (fun i hi => pk_un (by omega)) hold⟩ dX0_keep_99
  · have hk1 := lc_nI_lt c1 (by omega) (by omega)
    obtain ⟨y, hy⟩ := lc_getE (l := gs) (k := k) (by omega)
    obtain ⟨f1, f2, f3⟩ := hs k y hy
    refine lv_aload_n hx hb dX0_keep_23 rfl (lv_at hl 0 rfl) ?_
    refine gA_en S N dX0_keep_24 ?_
    refine lv_bipush (v := 64) hx hb dX0_keep_27 (by decide) ?_
    refine lv_aload_n hx hb dX0_keep_29 rfl (lv_at hl 0 rfl) ?_
    refine gA_dp S N dX0_keep_30 ?_
    refine lv_imul hx hb dX0_keep_33 ?_
    refine lv_iload_n hx hb dX0_keep_34 rfl (lv_at hl 1 rfl) ?_
    refine lv_iadd hx hb dX0_keep_35 ?_
    refine lc_top (nI (k + 64 * ds.length)) (by rw [lc_n64, nI_add, Nat.add_comm]) ?_
    refine lv_aload_n hx hb dX0_keep_36 rfl (lv_at hl 0 rfl) ?_
    refine gA_ne S N dX0_keep_37 ?_
    refine lv_iload_n hx hb dX0_keep_40 rfl (lv_at hl 1 rfl) ?_
    refine lA_ne S N k (by omega) dX0_keep_41 ?_
    refine sA_en S N (k + 64 * ds.length) (by omega) dX0_keep_42 (fun H locs N => ?_)
    refine lv_aload_n hx hb dX0_keep_43 rfl (lv_at hl 0 rfl) ?_
    refine gA_wi S N dX0_keep_44 ?_
    refine lv_bipush (v := 64) hx hb dX0_keep_47 (by decide) ?_
    refine lv_aload_n hx hb dX0_keep_49 rfl (lv_at hl 0 rfl) ?_
    refine gA_dp S N dX0_keep_50 ?_
    refine lv_imul hx hb dX0_keep_53 ?_
    refine lv_iload_n hx hb dX0_keep_54 rfl (lv_at hl 1 rfl) ?_
    refine lv_iadd hx hb dX0_keep_55 ?_
    refine lc_top (nI (k + 64 * ds.length)) (by rw [lc_n64, nI_add, Nat.add_comm]) ?_
    refine lv_aload_n hx hb dX0_keep_56 rfl (lv_at hl 0 rfl) ?_
    refine gA_nw S N dX0_keep_57 ?_
    refine lv_iload_n hx hb dX0_keep_60 rfl (lv_at hl 1 rfl) ?_
    refine lA_nw S N k (by omega) dX0_keep_61 ?_
    refine sA_wi S N (k + 64 * ds.length) (by omega) dX0_keep_62 (fun H locs N => ?_)
    refine lv_aload_n hx hb dX0_keep_63 rfl (lv_at hl 0 rfl) ?_
    refine gA_la S N dX0_keep_64 ?_
    refine lv_bipush (v := 64) hx hb dX0_keep_67 (by decide) ?_
    refine lv_aload_n hx hb dX0_keep_69 rfl (lv_at hl 0 rfl) ?_
    refine gA_dp S N dX0_keep_70 ?_
    refine lv_imul hx hb dX0_keep_73 ?_
    refine lv_iload_n hx hb dX0_keep_74 rfl (lv_at hl 1 rfl) ?_
    refine lv_iadd hx hb dX0_keep_75 ?_
    refine lc_top (nI (k + 64 * ds.length)) (by rw [lc_n64, nI_add, Nat.add_comm]) ?_
    refine lv_aload_n hx hb dX0_keep_76 rfl (lv_at hl 0 rfl) ?_
    refine gA_nl S N dX0_keep_77 ?_
    refine lv_iload_n hx hb dX0_keep_80 rfl (lv_at hl 1 rfl) ?_
    refine lA_nl S N k (by omega) dX0_keep_81 ?_
    refine sA_la S N (k + 64 * ds.length) (by omega) dX0_keep_82 (fun H locs N => ?_)
    refine lv_iinc (v := nI (k + 1)) (lv' := [(1, .int (nI (k + 1))), (0, .ref (a 0))]) hx hb dX0_keep_83 hl (k := 1) rfl (nI_1 k) (by decide) rfl (fun ls hl => ?_)
    refine lv_goto (tgt := 15) hx hb dX0_keep_86 (by decide) ?_
    have hkl : (gs.take k).length = k := by rw [List.length_take]; omega
    have htk : gs.take (k + 1) = gs.take k ++ [y] := by rw [List.take_add_one, hy]; rfl
    exact ih (n - 1) _ _ _ (by omega) ⟨k + 1, _, _, _, by omega, N, lv_sub hl [1, 0] rfl, by rw [htk]; exact lc_seg.push (hseg.keep (fun j hj => ⟨pk_un (by omega), pk_un (by omega), pk_un (by omega)⟩)) ⟨by rw [hkl, pk_us]; exact f1, by rw [hkl, pk_us]; exact f2, by rw [hkl, pk_us]; exact f3⟩, fun j hj => by obtain ⟨g1, g2, g3⟩ := hold j hj; exact ⟨(pk_un (by omega)).trans g1, (pk_un (by omega)).trans g2, (pk_un (by omega)).trans g3⟩⟩
/-- has the stack what the code takes -/
def lc_has (code : Int32) (n : Nat) : Bool := if code = 0 then decide (n < 10) else if code = 3 then decide (1 ≤ n) else decide (2 ≤ n)
def lc_z (b : Bool) : Int32 := if b then 1 else 0
set_option maxHeartbeats 4000000 in
set_option maxRecDepth 100000 in
/-- hasDocuments -/
theorem kA_hasDocuments (l : Launch) (D : va_G) (d : ClassId) (a : Nat → Nat) (tk ch ga : Int32) (cn en wi la ne nw nl : Nat → Int32) (n : Nat) (hn : n ≤ 10) (code : Int32) : lc_K l D d yX0_hasDocuments cX0_hasDocuments 2 (some .boolean) { frames := 0, cells := 0, slots := 0, locals := 0 } [.ref (a 0), .int code] (wA d a tk ch (nI n) ga cn en wi la ne nw nl) (fun r w' => r = some (.int (lc_z (lc_has code n))) ∧ w' = wA d a tk ch (nI n) ga cn en wi la ne nw nl) := by
  refine lc_K.of (by decide) (Nat.le_of_ble_eq_true rfl) (fun p e s m below meth c A ls S hr hlk hnm N hl => ?_)
  have S : CallFix p m c cX0_hasDocuments 2 s _ lw_all RX0 := S
  have hx := S.1
  have hb := S.2.1
  have hl : lv_has ls 2 [(0, .ref (a 0)), (1, .int code)] := hl
  refine lv_iload_n hx hb dX0_hasDocuments_0 rfl (lv_at hl 1 rfl) ?_
  refine lv_if_ne (tgt := 19) hx hb dX0_hasDocuments_1 (by decide) (fun c0 => ?_) (fun c0 => ?_)
  · refine lv_iload_n hx hb dX0_hasDocuments_19 rfl (lv_at hl 1 rfl) ?_
    refine lv_iconst (v := 3) hx hb dX0_hasDocuments_20 (by decide) ?_
    refine lv_icmp_ne (tgt := 40) hx hb dX0_hasDocuments_21 (by decide) (fun c1 => ?_) (fun c1 => ?_)
    · refine lv_aload_n hx hb dX0_hasDocuments_40 rfl (lv_at hl 0 rfl) ?_
      refine gA_dp S N dX0_hasDocuments_41 ?_
      refine lv_iconst (v := 2) hx hb dX0_hasDocuments_44 (by decide) ?_
      refine lv_icmp_lt (tgt := 52) hx hb dX0_hasDocuments_45 (by decide) (fun c2 => ?_) (fun c2 => ?_)
      · refine lv_iconst (v := 0) hx hb dX0_hasDocuments_52 (by decide) ?_
        have hlt : n < 2 := (nI_ltI (by omega) (by omega)).mp c2
        have hv : lc_has code n = false := by rw [lc_has, if_neg c0, if_neg c1]; exact decide_eq_false (by omega)
        exact lc_zret S hr hlk N (by decide) ⟨by rw [hv]; rfl, rfl⟩ dX0_hasDocuments_53
      · refine lv_iconst (v := 1) hx hb dX0_hasDocuments_48 (by decide) ?_
        refine lv_goto (tgt := 53) hx hb dX0_hasDocuments_49 (by decide) ?_
        have hge : ¬ n < 2 := fun h => c2 ((nI_ltI (a := n) (b := 2) (by omega) (by omega)).mpr h)
        have hv : lc_has code n = true := by rw [lc_has, if_neg c0, if_neg c1]; exact decide_eq_true (by omega)
        exact lc_zret S hr hlk N (by decide) ⟨by rw [hv]; rfl, rfl⟩ dX0_hasDocuments_53
    · refine lv_aload_n hx hb dX0_hasDocuments_24 rfl (lv_at hl 0 rfl) ?_
      refine gA_dp S N dX0_hasDocuments_25 ?_
      refine lv_iconst (v := 1) hx hb dX0_hasDocuments_28 (by decide) ?_
      refine lv_icmp_lt (tgt := 36) hx hb dX0_hasDocuments_29 (by decide) (fun c2 => ?_) (fun c2 => ?_)
      · refine lv_iconst (v := 0) hx hb dX0_hasDocuments_36 (by decide) ?_
        refine lv_goto (tgt := 53) hx hb dX0_hasDocuments_37 (by decide) ?_
        have hlt : n < 1 := (nI_ltI (by omega) (by omega)).mp c2
        have hv : lc_has code n = false := by rw [lc_has, if_neg c0, if_pos c1]; exact decide_eq_false (by omega)
        exact lc_zret S hr hlk N (by decide) ⟨by rw [hv]; rfl, rfl⟩ dX0_hasDocuments_53
      · refine lv_iconst (v := 1) hx hb dX0_hasDocuments_32 (by decide) ?_
        refine lv_goto (tgt := 53) hx hb dX0_hasDocuments_33 (by decide) ?_
        have hge : ¬ n < 1 := fun h => c2 ((nI_ltI (a := n) (b := 1) (by omega) (by omega)).mpr h)
        have hv : lc_has code n = true := by rw [lc_has, if_neg c0, if_pos c1]; exact decide_eq_true (by omega)
        exact lc_zret S hr hlk N (by decide) ⟨by rw [hv]; rfl, rfl⟩ dX0_hasDocuments_53
  · refine lv_aload_n hx hb dX0_hasDocuments_4 rfl (lv_at hl 0 rfl) ?_
    refine gA_dp S N dX0_hasDocuments_5 ?_
    refine lv_bipush (v := 10) hx hb dX0_hasDocuments_8 (by decide) ?_
    refine lv_icmp_ge (tgt := 17) hx hb dX0_hasDocuments_10 (by decide) (fun c2 => ?_) (fun c2 => ?_)
    · refine lv_iconst (v := 0) hx hb dX0_hasDocuments_17 (by decide) ?_
      have hge : 10 ≤ n := (nI_leI (by omega) (by omega)).mp c2
      have hv : lc_has code n = false := by rw [lc_has, if_pos c0]; exact decide_eq_false (by omega)
      exact lc_zret S hr hlk N (by decide) ⟨by rw [hv]; rfl, rfl⟩ dX0_hasDocuments_18
    · refine lv_iconst (v := 1) hx hb dX0_hasDocuments_13 (by decide) ?_
      refine lv_goto (tgt := 18) hx hb dX0_hasDocuments_14 (by decide) ?_
      have hlt : ¬ 10 ≤ n := fun h => c2 ((nI_leI (a := 10) (b := n) (by omega) (by omega)).mpr h)
      have hv : lc_has code n = true := by rw [lc_has, if_pos c0]; exact decide_eq_true (by omega)
      exact lc_zret S hr hlk N (by decide) ⟨by rw [hv]; rfl, rfl⟩ dX0_hasDocuments_18
end
section
theorem lc_min_yes {ok : lc_B → Bool} {v : lc_B → Int32} {l : List lc_B} {k : Nat} {x : lc_B} (h : l[k]? = some x) (h1 : ok x = true) (h2 : lc_min ok v (l.take k) < 0 ∨ v x < lc_min ok v (l.take k)) : lc_min ok v (l.take (k + 1)) = v x := by
  rw [lc_min_take h, if_pos]
  rw [h1, Bool.true_and, Bool.or_eq_true]
  rcases h2 with h2 | h2
  · exact Or.inl (decide_eq_true h2)
  · exact Or.inr (decide_eq_true h2)
theorem lc_min_no1 {ok : lc_B → Bool} {v : lc_B → Int32} {l : List lc_B} {k : Nat} {x : lc_B} (h : l[k]? = some x) (h1 : ok x = false) : lc_min ok v (l.take (k + 1)) = lc_min ok v (l.take k) := by
  rw [lc_min_take h, if_neg]
  rw [h1]
  simp
theorem lc_min_no2 {ok : lc_B → Bool} {v : lc_B → Int32} {l : List lc_B} {k : Nat} {x : lc_B} (h : l[k]? = some x) (h1 : ¬ lc_min ok v (l.take k) < 0) (h2 : lc_min ok v (l.take k) ≤ v x) : lc_min ok v (l.take (k + 1)) = lc_min ok v (l.take k) := by
  rw [lc_min_take h, if_neg]
  intro hh
  rw [Bool.and_eq_true, Bool.or_eq_true] at hh
  rcases hh.2 with q | q
  · exact h1 (of_decide_eq_true q)
  · exact lc_nle (of_decide_eq_true q) h2
theorem lc_doc_neg {docs : List (List lc_B)} {k : Int32} (h : k < 0) : lc_doc docs k = [] := if_pos h
theorem lc_doc_at {docs : List (List lc_B)} {j : Nat} {q : List lc_B} (h : docs[j]? = some q) (hl : docs.length < 2 ^ 31) : lc_doc docs (nI j) = q := by
  have hj : j < docs.length := (List.getElem?_eq_some_iff.mp h).1
  rw [lc_doc, if_neg (nI_pos (by omega)), nI_clamp (by omega), List.getD_eq_getElem?_getD, h]
  rfl
theorem lc_doc_big {docs : List (List lc_B)} {k : Int32} (h0 : ¬ k < 0) (hk : ¬ k < nI docs.length) (hl : docs.length < 2 ^ 31) : lc_doc docs k = [] := by
  obtain ⟨j, hj, rfl⟩ := nI_of h0
  rw [nI_ltI hj hl] at hk
  rw [lc_doc, if_neg h0, nI_clamp hj, List.getD_eq_getElem?_getD, List.getElem?_eq_none (by omega)]
  rfl
/-- a document that has a box is there -/
theorem lc_doc_in {docs : List (List lc_B)} {k : Int32} {i : Nat} (h : i < (lc_doc docs k).length) (hl : docs.length < 2 ^ 31) : ∃ j, k = nI j ∧ j < docs.length ∧ docs[j]? = some (lc_doc docs k) := by
  by_cases h0 : k < 0
  · rw [lc_doc_neg h0] at h
    simp at h
  · by_cases h1 : k < nI docs.length
    · obtain ⟨j, hj, rfl⟩ := nI_of h0
      rw [nI_ltI hj hl] at h1
      refine ⟨j, rfl, h1, ?_⟩
      rw [lc_doc_at (List.getElem?_eq_getElem h1) hl]
      exact List.getElem?_eq_getElem h1
    · rw [lc_doc_big h0 h1 hl] at h
      simp at h
set_option maxHeartbeats 4000000 in
set_option maxRecDepth 100000 in
/-- boxes: how many boxes document k has -/
theorem kA_boxes (l : Launch) (D : va_G) (d : ClassId) (a : Nat → Nat) (tk ch ga : Int32) (cn en wi la ne nw nl : Nat → Int32) (docs : List (List lc_B)) (hn : docs.length ≤ 10) (hd : lc_docs cn en wi la docs) (k : Int32) : lc_K l D d yX0_boxes cX0_boxes 2 (some .int) { frames := 0, cells := 0, slots := 0, locals := 0 } [.ref (a 0), .int k] (wA d a tk ch (nI docs.length) ga cn en wi la ne nw nl) (fun r w' => r = some (.int (nI (lc_doc docs k).length)) ∧ w' = wA d a tk ch (nI docs.length) ga cn en wi la ne nw nl) := by
  refine lc_K.of (by decide) (Nat.le_of_ble_eq_true rfl) (fun p e s m below meth c A ls S hr hlk hnm N hl => ?_)
  have S : CallFix p m c cX0_boxes 2 s _ lw_all RX0 := S
  have hx := S.1
  have hb := S.2.1
  have hl : lv_has ls 2 [(0, .ref (a 0)), (1, .int k)] := hl
  refine lv_iload_n hx hb dX0_boxes_0 rfl (lv_at hl 1 rfl) ?_
  refine lv_if_lt (tgt := 12) hx hb dX0_boxes_1 (by decide) (fun c0 => ?_) (fun c0 => ?_)
  · refine lv_iconst (v := 0) hx hb dX0_boxes_12 (by decide) ?_
    refine lv_goto (tgt := 29) hx hb dX0_boxes_13 (by decide) ?_
    exact lc_iret S hr hlk N ⟨by rw [lc_doc_neg c0]; rfl, rfl⟩ dX0_boxes_29
  · refine lv_iload_n hx hb dX0_boxes_4 rfl (lv_at hl 1 rfl) ?_
    refine lv_aload_n hx hb dX0_boxes_5 rfl (lv_at hl 0 rfl) ?_
    refine gA_dp S N dX0_boxes_6 ?_
    refine lv_icmp_lt (tgt := 16) hx hb dX0_boxes_9 (by decide) (fun c1 => ?_) (fun c1 => ?_)
    · obtain ⟨j, hj, rfl⟩ := nI_of c0
      have hj1 : j < docs.length := (nI_ltI hj (by omega)).mp c1
      have hq : docs[j]? = some docs[j] := List.getElem?_eq_getElem hj1
      obtain ⟨h1, h2, h3⟩ := hd.at hq
      refine lv_aload_n hx hb dX0_boxes_16 rfl (lv_at hl 0 rfl) ?_
      refine gA_cn S N dX0_boxes_17 ?_
      refine lv_aload_n hx hb dX0_boxes_20 rfl (lv_at hl 0 rfl) ?_
      refine gA_dp S N dX0_boxes_21 ?_
      refine lv_iconst (v := 1) hx hb dX0_boxes_24 (by decide) ?_
      refine lv_isub hx hb dX0_boxes_25 ?_
      refine lc_top (nI (docs.length - 1)) (lc_dec (by omega)) ?_
      refine lv_iload_n hx hb dX0_boxes_26 rfl (lv_at hl 1 rfl) ?_
      refine lv_isub hx hb dX0_boxes_27 ?_
      refine lc_top (nI (docs.length - 1 - j)) (pk_sub (by omega)) ?_
      refine lA_cn S N (docs.length - 1 - j) (by omega) dX0_boxes_28 ?_
      exact lc_iret S hr hlk N ⟨by rw [h1, lc_doc_at hq (by omega)], rfl⟩ dX0_boxes_29
    · refine lv_iconst (v := 0) hx hb dX0_boxes_12 (by decide) ?_
      refine lv_goto (tgt := 29) hx hb dX0_boxes_13 (by decide) ?_
      exact lc_iret S hr hlk N ⟨by rw [lc_doc_big c0 c1 (by omega)]; rfl, rfl⟩ dX0_boxes_29
set_option maxHeartbeats 4000000 in
set_option maxRecDepth 100000 in
/-- clear -/
theorem kA_clear (l : Launch) (D : va_G) (d : ClassId) (a : Nat → Nat) (tk ch dp ga : Int32) (cn en wi la ne nw nl : Nat → Int32) : lc_K l D d yX0_clear cX0_clear 1 none { frames := 0, cells := 0, slots := 0, locals := 0 } [.ref (a 0)] (wA d a tk ch dp ga cn en wi la ne nw nl) (fun r w' => r = none ∧ w' = wA d a 0 0 0 ga cn en wi la ne nw nl) := by
  refine lc_K.of (by decide) (Nat.le_of_ble_eq_true rfl) (fun p e s m below meth c A ls S hr hlk hnm N hl => ?_)
  have S : CallFix p m c cX0_clear 1 s _ lw_all RX0 := S
  have hx := S.1
  have hb := S.2.1
  have hl : lv_has ls 1 [(0, .ref (a 0))] := hl
  refine lv_aload_n hx hb dX0_clear_0 rfl (lv_at hl 0 rfl) ?_
  refine lv_iconst (v := 0) hx hb dX0_clear_1 (by decide) ?_
  refine pA_tk S N dX0_clear_2 (fun H locs N => ?_)
  refine lv_aload_n hx hb dX0_clear_5 rfl (lv_at hl 0 rfl) ?_
  refine lv_iconst (v := 0) hx hb dX0_clear_6 (by decide) ?_
  refine pA_ch S N dX0_clear_7 (fun H locs N => ?_)
  refine lv_aload_n hx hb dX0_clear_10 rfl (lv_at hl 0 rfl) ?_
  refine lv_iconst (v := 0) hx hb dX0_clear_11 (by decide) ?_
  refine pA_dp S N dX0_clear_12 (fun H locs N => ?_)
  exact lc_vret S hr hlk N ⟨rfl, rfl⟩ dX0_clear_15
set_option maxHeartbeats 4000000 in
set_option maxRecDepth 100000 in
/-- best: how many boxes, -1 if there is no document k -/
theorem kA_best (l : Launch) (D : va_G) (d : ClassId) (a : Nat → Nat) (tk ch ga : Int32) (cn en wi la ne nw nl : Nat → Int32) (docs : List (List lc_B)) (hn : docs.length ≤ 10) (hd : lc_docs cn en wi la docs) (k : Int32) : lc_K l D d yX0_best cX0_best 2 (some .int) { frames := 1, cells := 0, slots := 0, locals := 21 } [.ref (a 0), .int k] (wA d a tk ch (nI docs.length) ga cn en wi la ne nw nl) (fun r w' => r = some (.int (if k < 0 ∨ ¬ k < nI docs.length then -1 else nI (lc_doc docs k).length)) ∧ w' = wA d a tk ch (nI docs.length) ga cn en wi la ne nw nl) := by
  refine lc_K.of (by decide) (Nat.le_of_ble_eq_true rfl) (fun p e s m below meth c A ls S hr hlk hnm N hl => ?_)
  have S : CallFix p m c cX0_best 2 s _ lw_all RX0 := S
  have hx := S.1
  have hb := S.2.1
  have hl : lv_has ls 2 [(0, .ref (a 0)), (1, .int k)] := hl
  refine lv_iload_n hx hb dX0_best_0 rfl (lv_at hl 1 rfl) ?_
  refine lv_if_lt (tgt := 12) hx hb dX0_best_1 (by decide) (fun c0 => ?_) (fun c0 => ?_)
  · refine lv_iconst (v := (-1)) hx hb dX0_best_12 (by decide) ?_
    refine lv_goto (tgt := 21) hx hb dX0_best_13 (by decide) ?_
    exact lc_iret S hr hlk N ⟨by rw [if_pos (Or.inl c0)], rfl⟩ dX0_best_21
  · refine lv_iload_n hx hb dX0_best_4 rfl (lv_at hl 1 rfl) ?_
    refine lv_aload_n hx hb dX0_best_5 rfl (lv_at hl 0 rfl) ?_
    refine gA_dp S N dX0_best_6 ?_
    refine lv_icmp_lt (tgt := 16) hx hb dX0_best_9 (by decide) (fun c1 => ?_) (fun c1 => ?_)
    · refine lv_aload_n hx hb dX0_best_16 rfl (lv_at hl 0 rfl) ?_
      refine lv_iload_n hx hb dX0_best_17 rfl (lv_at hl 1 rfl) ?_
      refine lc_callV (ci := 0) (kA_boxes l D d a tk ch ga cn en wi la ne nw nl docs hn hd k) S N (lw_V q95 q97 qs6 q14 q98) hd_X0_boxes ⟨by decide, by decide⟩ ⟨rfl, rfl⟩ rfl rfl hl (Nat.le_of_ble_eq_true rfl) rfl dX0_best_18 ⟨Nat.zero_le _, Nat.zero_le _⟩ (fun r w1 H locs hp N => ?_)
      obtain ⟨rfl, rfl⟩ := hp
      exact lc_iret S hr hlk N ⟨by rw [if_neg (fun h => h.elim c0 (fun q => q c1))], rfl⟩ dX0_best_21
    · refine lv_iconst (v := (-1)) hx hb dX0_best_12 (by decide) ?_
      refine lv_goto (tgt := 21) hx hb dX0_best_13 (by decide) ?_
      exact lc_iret S hr hlk N ⟨by rw [if_pos (Or.inr c1)], rfl⟩ dX0_best_21
set_option maxHeartbeats 4000000 in
set_option maxRecDepth 100000 in
/-- lines -/
theorem kA_lines (l : Launch) (D : va_G) (d : ClassId) (a : Nat → Nat) (tk ch ga : Int32) (cn en wi la ne nw nl : Nat → Int32) (docs : List (List lc_B)) (hn : docs.length ≤ 10) (hd : lc_docs cn en wi la docs) (k lim : Int32) : lc_K l D d yX0_lines cX0_lines 6 (some .int) { frames := 1, cells := 0, slots := 0, locals := 21 } [.ref (a 0), .int k, .int lim] (wA d a tk ch (nI docs.length) ga cn en wi la ne nw nl) (fun r w' => r = some (.int (lc_lines lim (lc_doc docs k))) ∧ w' = wA d a tk ch (nI docs.length) ga cn en wi la ne nw nl) := by
  refine lc_K.of (by decide) (Nat.le_of_ble_eq_true rfl) (fun p e s m below meth c A ls S hr hlk hnm N hl => ?_)
  have S : CallFix p m c cX0_lines 6 s _ lw_all RX0 := S
  have hx := S.1
  have hb := S.2.1
  have hl : lv_has ls 6 [(0, .ref (a 0)), (1, .int k), (2, .int lim)] := hl
  have hq64 : (lc_doc docs k).length ≤ 64 := by
    rcases Nat.eq_zero_or_pos (lc_doc docs k).length with q | q
    · omega
    · obtain ⟨j, hkj, hj, hq⟩ := lc_doc_in q (by omega)
      exact (hd.at hq).2.1
  refine lv_iconst (v := (-1)) hx hb dX0_lines_0 (by decide) ?_
  refine lv_istore_n (lv' := [(3, .int (-1)), (0, .ref (a 0)), (1, .int k), (2, .int lim)]) hx hb dX0_lines_1 rfl hl (by decide) rfl (fun ls hl => ?_)
  refine lv_iconst (v := 0) hx hb dX0_lines_2 (by decide) ?_
  refine lc_top (nI 0) nI_0.symm ?_
  refine lv_istore (lv' := [(4, .int (nI 0)), (3, .int (-1)), (0, .ref (a 0)), (1, .int k), (2, .int lim)]) hx hb dX0_lines_3 hl (by decide) rfl (fun ls hl => ?_)
  refine lc_loop (I := fun n H locs ls => ∃ (i : Nat), n + i = (lc_doc docs k).length ∧ lc_St D d A s (wA d a tk ch (nI docs.length) ga cn en wi la ne nw nl) H locs ∧ lv_has ls 6 [(0, .ref (a 0)), (1, .int k), (2, .int lim), (3, .int (lc_lines lim ((lc_doc docs k).take i))), (4, .int (nI i))]) (fun n H locs ls hI ih => ?_) (lc_doc docs k).length ⟨0, rfl, N, lv_sub hl [2, 3, 4, 1, 0] rfl⟩
  obtain ⟨i, hk, N, hl⟩ := hI
  refine lv_iload hx hb dX0_lines_5 (lv_at hl 4 rfl) ?_
  refine lv_aload_n hx hb dX0_lines_7 rfl (lv_at hl 0 rfl) ?_
  refine lv_iload_n hx hb dX0_lines_8 rfl (lv_at hl 1 rfl) ?_
  refine lc_callV (ci := 0) (kA_boxes l D d a tk ch ga cn en wi la ne nw nl docs hn hd k) S N (lw_V q95 q97 qs6 q14 q98) hd_X0_boxes ⟨by decide, by decide⟩ ⟨rfl, rfl⟩ rfl rfl hl (Nat.le_of_ble_eq_true rfl) rfl dX0_lines_9 ⟨Nat.zero_le _, Nat.zero_le _⟩ (fun r w1 H locs hp N => ?_)
  obtain ⟨rfl, rfl⟩ := hp
  refine lv_icmp_ge (tgt := 75) hx hb dX0_lines_12 (by decide) (fun c1 => ?_) (fun c1 => ?_)
  · have hk1 := lc_nI_le c1 (by omega) (by omega)
    have hkq : (lc_doc docs k).take i = lc_doc docs k := List.take_of_length_le (by omega)
    rw [hkq] at hl
    refine lv_iload_n hx hb dX0_lines_75 rfl (lv_at hl 3 rfl) ?_
    exact lc_iret S hr hlk N ⟨rfl, rfl⟩ dX0_lines_76
  · have hi1 : i < (lc_doc docs k).length := lc_nI_lt c1 (by omega) (by omega)
    obtain ⟨j, hkj, hj, hq⟩ := lc_doc_in hi1 (by omega)
    obtain ⟨h1, h2, h3⟩ := hd.at hq
    obtain ⟨y, hy⟩ := lc_getE hi1
    obtain ⟨f1, f2, f3⟩ := h3 i y hy
    have hat : i + 64 * (docs.length - 1 - j) < 640 := by omega
    refine lv_bipush (v := 64) hx hb dX0_lines_15 (by decide) ?_
    refine lv_aload_n hx hb dX0_lines_17 rfl (lv_at hl 0 rfl) ?_
    refine gA_dp S N dX0_lines_18 ?_
    refine lv_iconst (v := 1) hx hb dX0_lines_21 (by decide) ?_
    refine lv_isub hx hb dX0_lines_22 ?_
    refine lc_top (nI (docs.length - 1)) (lc_dec (by omega)) ?_
    refine lv_iload_n hx hb dX0_lines_23 rfl (lv_at hl 1 rfl) ?_
    refine lc_top (nI j) hkj ?_
    refine lv_isub hx hb dX0_lines_24 ?_
    refine lc_top (nI (docs.length - 1 - j)) (pk_sub (by omega)) ?_
    refine lv_imul hx hb dX0_lines_25 ?_
    refine lc_top (nI (64 * (docs.length - 1 - j))) (lc_n64 _) ?_
    refine lv_iload hx hb dX0_lines_26 (lv_at hl 4 rfl) ?_
    refine lv_iadd hx hb dX0_lines_28 ?_
    refine lc_top (nI (i + 64 * (docs.length - 1 - j))) (by rw [nI_add, Nat.add_comm]) ?_
    refine lv_istore (lv' := [(5, .int (nI (i + 64 * (docs.length - 1 - j)))), (0, .ref (a 0)), (1, .int k), (2, .int lim), (3, .int (lc_lines lim ((lc_doc docs k).take i))), (4, .int (nI i))]) hx hb dX0_lines_29 hl (by decide) rfl (fun ls hl => ?_)
    refine lv_aload_n hx hb dX0_lines_31 rfl (lv_at hl 1 rfl) ?_
    refine gA_wi S N dX0_lines_32 ?_
    refine lv_iload hx hb dX0_lines_35 (lv_at hl 0 rfl) ?_
    refine lA_wi S N (i + 64 * (docs.length - 1 - j)) hat dX0_lines_37 ?_
    refine lv_iload_n hx hb dX0_lines_38 rfl (lv_at hl 3 rfl) ?_
    refine lv_icmp_gt (tgt := 67) hx hb dX0_lines_39 (by decide) (fun d1 => ?_) (fun d1 => ?_)
    · refine lv_iload_n hx hb dX0_lines_67 rfl (lv_at hl 4 rfl) ?_
      refine lv_istore_n (lv' := [(3, .int (lc_lines lim ((lc_doc docs k).take i))), (5, .int (nI (i + 64 * (docs.length - 1 - j)))), (0, .ref (a 0)), (1, .int k), (2, .int lim), (4, .int (nI i))]) hx hb dX0_lines_68 rfl hl (by decide) rfl (fun ls hl => ?_)
      have hm : lc_lines lim ((lc_doc docs k).take (i + 1)) = (lc_lines lim ((lc_doc docs k).take i)) := lc_min_no1 hy (decide_eq_false (fun h => lc_nle d1 (by rw [f2]; exact h)))
      refine lv_iinc (v := nI (i + 1)) (lv' := [(4, .int (nI (i + 1))), (3, .int (lc_lines lim ((lc_doc docs k).take i))), (5, .int (nI (i + 64 * (docs.length - 1 - j)))), (0, .ref (a 0)), (1, .int k), (2, .int lim)]) hx hb dX0_lines_69 hl (k := 5) rfl (nI_1 i) (by decide) rfl (fun ls hl => ?_)
      refine lv_goto (tgt := 5) hx hb dX0_lines_72 (by decide) ?_
      exact ih (n - 1) _ _ _ (by omega) ⟨i + 1, by omega, N, by rw [hm]; exact lv_sub hl [3, 4, 5, 1, 0] rfl⟩
    · have hok : (y.2.1 ≤ lim) := by rw [← f2]; exact lc_nlt d1
      refine lv_iload_n hx hb dX0_lines_42 rfl (lv_at hl 4 rfl) ?_
      refine lv_if_lt (tgt := 57) hx hb dX0_lines_43 (by decide) (fun d2 => ?_) (fun d2 => ?_)
      · refine lv_aload_n hx hb dX0_lines_57 rfl (lv_at hl 1 rfl) ?_
        refine gA_en S N dX0_lines_58 ?_
        refine lv_iload hx hb dX0_lines_61 (lv_at hl 0 rfl) ?_
        refine lA_en S N (i + 64 * (docs.length - 1 - j)) hat dX0_lines_63 ?_
        refine lv_goto (tgt := 68) hx hb dX0_lines_64 (by decide) ?_
        refine lv_istore_n (lv' := [(3, .int (en (i + 64 * (docs.length - 1 - j)))), (5, .int (nI (i + 64 * (docs.length - 1 - j)))), (0, .ref (a 0)), (1, .int k), (2, .int lim), (4, .int (nI i))]) hx hb dX0_lines_68 rfl hl (by decide) rfl (fun ls hl => ?_)
        have hm : lc_lines lim ((lc_doc docs k).take (i + 1)) = (en (i + 64 * (docs.length - 1 - j))) := (lc_min_yes hy (decide_eq_true hok) (Or.inl d2)).trans f1.symm
        refine lv_iinc (v := nI (i + 1)) (lv' := [(4, .int (nI (i + 1))), (3, .int (en (i + 64 * (docs.length - 1 - j)))), (5, .int (nI (i + 64 * (docs.length - 1 - j)))), (0, .ref (a 0)), (1, .int k), (2, .int lim)]) hx hb dX0_lines_69 hl (k := 5) rfl (nI_1 i) (by decide) rfl (fun ls hl => ?_)
        refine lv_goto (tgt := 5) hx hb dX0_lines_72 (by decide) ?_
        exact ih (n - 1) _ _ _ (by omega) ⟨i + 1, by omega, N, by rw [hm]; exact lv_sub hl [3, 4, 5, 1, 0] rfl⟩
      · refine lv_aload_n hx hb dX0_lines_46 rfl (lv_at hl 1 rfl) ?_
        refine gA_en S N dX0_lines_47 ?_
        refine lv_iload hx hb dX0_lines_50 (lv_at hl 0 rfl) ?_
        refine lA_en S N (i + 64 * (docs.length - 1 - j)) hat dX0_lines_52 ?_
        refine lv_iload_n hx hb dX0_lines_53 rfl (lv_at hl 4 rfl) ?_
        refine lv_icmp_ge (tgt := 67) hx hb dX0_lines_54 (by decide) (fun d3 => ?_) (fun d3 => ?_)
        · refine lv_iload_n hx hb dX0_lines_67 rfl (lv_at hl 4 rfl) ?_
          refine lv_istore_n (lv' := [(3, .int (lc_lines lim ((lc_doc docs k).take i))), (5, .int (nI (i + 64 * (docs.length - 1 - j)))), (0, .ref (a 0)), (1, .int k), (2, .int lim), (4, .int (nI i))]) hx hb dX0_lines_68 rfl hl (by decide) rfl (fun ls hl => ?_)
          have hm : lc_lines lim ((lc_doc docs k).take (i + 1)) = (lc_lines lim ((lc_doc docs k).take i)) := lc_min_no2 hy d2 (by rw [← f1]; exact d3)
          refine lv_iinc (v := nI (i + 1)) (lv' := [(4, .int (nI (i + 1))), (3, .int (lc_lines lim ((lc_doc docs k).take i))), (5, .int (nI (i + 64 * (docs.length - 1 - j)))), (0, .ref (a 0)), (1, .int k), (2, .int lim)]) hx hb dX0_lines_69 hl (k := 5) rfl (nI_1 i) (by decide) rfl (fun ls hl => ?_)
          refine lv_goto (tgt := 5) hx hb dX0_lines_72 (by decide) ?_
          exact ih (n - 1) _ _ _ (by omega) ⟨i + 1, by omega, N, by rw [hm]; exact lv_sub hl [3, 4, 5, 1, 0] rfl⟩
        · refine lv_aload_n hx hb dX0_lines_57 rfl (lv_at hl 1 rfl) ?_
          refine gA_en S N dX0_lines_58 ?_
          refine lv_iload hx hb dX0_lines_61 (lv_at hl 0 rfl) ?_
          refine lA_en S N (i + 64 * (docs.length - 1 - j)) hat dX0_lines_63 ?_
          refine lv_goto (tgt := 68) hx hb dX0_lines_64 (by decide) ?_
          refine lv_istore_n (lv' := [(3, .int (en (i + 64 * (docs.length - 1 - j)))), (5, .int (nI (i + 64 * (docs.length - 1 - j)))), (0, .ref (a 0)), (1, .int k), (2, .int lim), (4, .int (nI i))]) hx hb dX0_lines_68 rfl hl (by decide) rfl (fun ls hl => ?_)
          have hm : lc_lines lim ((lc_doc docs k).take (i + 1)) = (en (i + 64 * (docs.length - 1 - j))) := (lc_min_yes hy (decide_eq_true hok) (Or.inr (by rw [← f1]; exact lc_nle' d3))).trans f1.symm
          refine lv_iinc (v := nI (i + 1)) (lv' := [(4, .int (nI (i + 1))), (3, .int (en (i + 64 * (docs.length - 1 - j)))), (5, .int (nI (i + 64 * (docs.length - 1 - j)))), (0, .ref (a 0)), (1, .int k), (2, .int lim)]) hx hb dX0_lines_69 hl (k := 5) rfl (nI_1 i) (by decide) rfl (fun ls hl => ?_)
          refine lv_goto (tgt := 5) hx hb dX0_lines_72 (by decide) ?_
          exact ih (n - 1) _ _ _ (by omega) ⟨i + 1, by omega, N, by rw [hm]; exact lv_sub hl [3, 4, 5, 1, 0] rfl⟩
set_option maxHeartbeats 4000000 in
set_option maxRecDepth 100000 in
/-- width -/
theorem kA_width (l : Launch) (D : va_G) (d : ClassId) (a : Nat → Nat) (tk ch ga : Int32) (cn en wi la ne nw nl : Nat → Int32) (docs : List (List lc_B)) (hn : docs.length ≤ 10) (hd : lc_docs cn en wi la docs) (k lim : Int32) : lc_K l D d yX0_width cX0_width 6 (some .int) { frames := 1, cells := 0, slots := 0, locals := 21 } [.ref (a 0), .int k, .int lim] (wA d a tk ch (nI docs.length) ga cn en wi la ne nw nl) (fun r w' => r = some (.int (lc_width lim (lc_doc docs k))) ∧ w' = wA d a tk ch (nI docs.length) ga cn en wi la ne nw nl) := by
  refine lc_K.of (by decide) (Nat.le_of_ble_eq_true rfl) (fun p e s m below meth c A ls S hr hlk hnm N hl => ?_)
  have S : CallFix p m c cX0_width 6 s _ lw_all RX0 := S
  have hx := S.1
  have hb := S.2.1
  have hl : lv_has ls 6 [(0, .ref (a 0)), (1, .int k), (2, .int lim)] := hl
  have hq64 : (lc_doc docs k).length ≤ 64 := by
    rcases Nat.eq_zero_or_pos (lc_doc docs k).length with q | q
    · omega
    · obtain ⟨j, hkj, hj, hq⟩ := lc_doc_in q (by omega)
      exact (hd.at hq).2.1
  refine lv_iconst (v := (-1)) hx hb dX0_width_0 (by decide) ?_
  refine lv_istore_n (lv' := [(3, .int (-1)), (0, .ref (a 0)), (1, .int k), (2, .int lim)]) hx hb dX0_width_1 rfl hl (by decide) rfl (fun ls hl => ?_)
  refine lv_iconst (v := 0) hx hb dX0_width_2 (by decide) ?_
  refine lc_top (nI 0) nI_0.symm ?_
  refine lv_istore (lv' := [(4, .int (nI 0)), (3, .int (-1)), (0, .ref (a 0)), (1, .int k), (2, .int lim)]) hx hb dX0_width_3 hl (by decide) rfl (fun ls hl => ?_)
  refine lc_loop (I := fun n H locs ls => ∃ (i : Nat), n + i = (lc_doc docs k).length ∧ lc_St D d A s (wA d a tk ch (nI docs.length) ga cn en wi la ne nw nl) H locs ∧ lv_has ls 6 [(0, .ref (a 0)), (1, .int k), (2, .int lim), (3, .int (lc_width lim ((lc_doc docs k).take i))), (4, .int (nI i))]) (fun n H locs ls hI ih => ?_) (lc_doc docs k).length ⟨0, rfl, N, lv_sub hl [2, 3, 4, 1, 0] rfl⟩
  obtain ⟨i, hk, N, hl⟩ := hI
  refine lv_iload hx hb dX0_width_5 (lv_at hl 4 rfl) ?_
  refine lv_aload_n hx hb dX0_width_7 rfl (lv_at hl 0 rfl) ?_
  refine lv_iload_n hx hb dX0_width_8 rfl (lv_at hl 1 rfl) ?_
  refine lc_callV (ci := 0) (kA_boxes l D d a tk ch ga cn en wi la ne nw nl docs hn hd k) S N (lw_V q95 q97 qs6 q14 q98) hd_X0_boxes ⟨by decide, by decide⟩ ⟨rfl, rfl⟩ rfl rfl hl (Nat.le_of_ble_eq_true rfl) rfl dX0_width_9 ⟨Nat.zero_le _, Nat.zero_le _⟩ (fun r w1 H locs hp N => ?_)
  obtain ⟨rfl, rfl⟩ := hp
  refine lv_icmp_ge (tgt := 75) hx hb dX0_width_12 (by decide) (fun c1 => ?_) (fun c1 => ?_)
  · have hk1 := lc_nI_le c1 (by omega) (by omega)
    have hkq : (lc_doc docs k).take i = lc_doc docs k := List.take_of_length_le (by omega)
    rw [hkq] at hl
    refine lv_iload_n hx hb dX0_width_75 rfl (lv_at hl 3 rfl) ?_
    exact lc_iret S hr hlk N ⟨rfl, rfl⟩ dX0_width_76
  · have hi1 : i < (lc_doc docs k).length := lc_nI_lt c1 (by omega) (by omega)
    obtain ⟨j, hkj, hj, hq⟩ := lc_doc_in hi1 (by omega)
    obtain ⟨h1, h2, h3⟩ := hd.at hq
    obtain ⟨y, hy⟩ := lc_getE hi1
    obtain ⟨f1, f2, f3⟩ := h3 i y hy
    have hat : i + 64 * (docs.length - 1 - j) < 640 := by omega
    refine lv_bipush (v := 64) hx hb dX0_width_15 (by decide) ?_
    refine lv_aload_n hx hb dX0_width_17 rfl (lv_at hl 0 rfl) ?_
    refine gA_dp S N dX0_width_18 ?_
    refine lv_iconst (v := 1) hx hb dX0_width_21 (by decide) ?_
    refine lv_isub hx hb dX0_width_22 ?_
    refine lc_top (nI (docs.length - 1)) (lc_dec (by omega)) ?_
    refine lv_iload_n hx hb dX0_width_23 rfl (lv_at hl 1 rfl) ?_
    refine lc_top (nI j) hkj ?_
    refine lv_isub hx hb dX0_width_24 ?_
    refine lc_top (nI (docs.length - 1 - j)) (pk_sub (by omega)) ?_
    refine lv_imul hx hb dX0_width_25 ?_
    refine lc_top (nI (64 * (docs.length - 1 - j))) (lc_n64 _) ?_
    refine lv_iload hx hb dX0_width_26 (lv_at hl 4 rfl) ?_
    refine lv_iadd hx hb dX0_width_28 ?_
    refine lc_top (nI (i + 64 * (docs.length - 1 - j))) (by rw [nI_add, Nat.add_comm]) ?_
    refine lv_istore (lv' := [(5, .int (nI (i + 64 * (docs.length - 1 - j)))), (0, .ref (a 0)), (1, .int k), (2, .int lim), (3, .int (lc_width lim ((lc_doc docs k).take i))), (4, .int (nI i))]) hx hb dX0_width_29 hl (by decide) rfl (fun ls hl => ?_)
    refine lv_aload_n hx hb dX0_width_31 rfl (lv_at hl 1 rfl) ?_
    refine gA_en S N dX0_width_32 ?_
    refine lv_iload hx hb dX0_width_35 (lv_at hl 0 rfl) ?_
    refine lA_en S N (i + 64 * (docs.length - 1 - j)) hat dX0_width_37 ?_
    refine lv_iload_n hx hb dX0_width_38 rfl (lv_at hl 3 rfl) ?_
    refine lv_icmp_gt (tgt := 67) hx hb dX0_width_39 (by decide) (fun d1 => ?_) (fun d1 => ?_)
    · refine lv_iload_n hx hb dX0_width_67 rfl (lv_at hl 4 rfl) ?_
      refine lv_istore_n (lv' := [(3, .int (lc_width lim ((lc_doc docs k).take i))), (5, .int (nI (i + 64 * (docs.length - 1 - j)))), (0, .ref (a 0)), (1, .int k), (2, .int lim), (4, .int (nI i))]) hx hb dX0_width_68 rfl hl (by decide) rfl (fun ls hl => ?_)
      have hm : lc_width lim ((lc_doc docs k).take (i + 1)) = (lc_width lim ((lc_doc docs k).take i)) := lc_min_no1 hy (decide_eq_false (fun h => lc_nle d1 (by rw [f1]; exact h)))
      refine lv_iinc (v := nI (i + 1)) (lv' := [(4, .int (nI (i + 1))), (3, .int (lc_width lim ((lc_doc docs k).take i))), (5, .int (nI (i + 64 * (docs.length - 1 - j)))), (0, .ref (a 0)), (1, .int k), (2, .int lim)]) hx hb dX0_width_69 hl (k := 5) rfl (nI_1 i) (by decide) rfl (fun ls hl => ?_)
      refine lv_goto (tgt := 5) hx hb dX0_width_72 (by decide) ?_
      exact ih (n - 1) _ _ _ (by omega) ⟨i + 1, by omega, N, by rw [hm]; exact lv_sub hl [3, 4, 5, 1, 0] rfl⟩
    · have hok : (y.1 ≤ lim) := by rw [← f1]; exact lc_nlt d1
      refine lv_iload_n hx hb dX0_width_42 rfl (lv_at hl 4 rfl) ?_
      refine lv_if_lt (tgt := 57) hx hb dX0_width_43 (by decide) (fun d2 => ?_) (fun d2 => ?_)
      · refine lv_aload_n hx hb dX0_width_57 rfl (lv_at hl 1 rfl) ?_
        refine gA_wi S N dX0_width_58 ?_
        refine lv_iload hx hb dX0_width_61 (lv_at hl 0 rfl) ?_
        refine lA_wi S N (i + 64 * (docs.length - 1 - j)) hat dX0_width_63 ?_
        refine lv_goto (tgt := 68) hx hb dX0_width_64 (by decide) ?_
        refine lv_istore_n (lv' := [(3, .int (wi (i + 64 * (docs.length - 1 - j)))), (5, .int (nI (i + 64 * (docs.length - 1 - j)))), (0, .ref (a 0)), (1, .int k), (2, .int lim), (4, .int (nI i))]) hx hb dX0_width_68 rfl hl (by decide) rfl (fun ls hl => ?_)
        have hm : lc_width lim ((lc_doc docs k).take (i + 1)) = (wi (i + 64 * (docs.length - 1 - j))) := (lc_min_yes hy (decide_eq_true hok) (Or.inl d2)).trans f2.symm
        refine lv_iinc (v := nI (i + 1)) (lv' := [(4, .int (nI (i + 1))), (3, .int (wi (i + 64 * (docs.length - 1 - j)))), (5, .int (nI (i + 64 * (docs.length - 1 - j)))), (0, .ref (a 0)), (1, .int k), (2, .int lim)]) hx hb dX0_width_69 hl (k := 5) rfl (nI_1 i) (by decide) rfl (fun ls hl => ?_)
        refine lv_goto (tgt := 5) hx hb dX0_width_72 (by decide) ?_
        exact ih (n - 1) _ _ _ (by omega) ⟨i + 1, by omega, N, by rw [hm]; exact lv_sub hl [3, 4, 5, 1, 0] rfl⟩
      · refine lv_aload_n hx hb dX0_width_46 rfl (lv_at hl 1 rfl) ?_
        refine gA_wi S N dX0_width_47 ?_
        refine lv_iload hx hb dX0_width_50 (lv_at hl 0 rfl) ?_
        refine lA_wi S N (i + 64 * (docs.length - 1 - j)) hat dX0_width_52 ?_
        refine lv_iload_n hx hb dX0_width_53 rfl (lv_at hl 4 rfl) ?_
        refine lv_icmp_ge (tgt := 67) hx hb dX0_width_54 (by decide) (fun d3 => ?_) (fun d3 => ?_)
        · refine lv_iload_n hx hb dX0_width_67 rfl (lv_at hl 4 rfl) ?_
          refine lv_istore_n (lv' := [(3, .int (lc_width lim ((lc_doc docs k).take i))), (5, .int (nI (i + 64 * (docs.length - 1 - j)))), (0, .ref (a 0)), (1, .int k), (2, .int lim), (4, .int (nI i))]) hx hb dX0_width_68 rfl hl (by decide) rfl (fun ls hl => ?_)
          have hm : lc_width lim ((lc_doc docs k).take (i + 1)) = (lc_width lim ((lc_doc docs k).take i)) := lc_min_no2 hy d2 (by rw [← f2]; exact d3)
          refine lv_iinc (v := nI (i + 1)) (lv' := [(4, .int (nI (i + 1))), (3, .int (lc_width lim ((lc_doc docs k).take i))), (5, .int (nI (i + 64 * (docs.length - 1 - j)))), (0, .ref (a 0)), (1, .int k), (2, .int lim)]) hx hb dX0_width_69 hl (k := 5) rfl (nI_1 i) (by decide) rfl (fun ls hl => ?_)
          refine lv_goto (tgt := 5) hx hb dX0_width_72 (by decide) ?_
          exact ih (n - 1) _ _ _ (by omega) ⟨i + 1, by omega, N, by rw [hm]; exact lv_sub hl [3, 4, 5, 1, 0] rfl⟩
        · refine lv_aload_n hx hb dX0_width_57 rfl (lv_at hl 1 rfl) ?_
          refine gA_wi S N dX0_width_58 ?_
          refine lv_iload hx hb dX0_width_61 (lv_at hl 0 rfl) ?_
          refine lA_wi S N (i + 64 * (docs.length - 1 - j)) hat dX0_width_63 ?_
          refine lv_goto (tgt := 68) hx hb dX0_width_64 (by decide) ?_
          refine lv_istore_n (lv' := [(3, .int (wi (i + 64 * (docs.length - 1 - j)))), (5, .int (nI (i + 64 * (docs.length - 1 - j)))), (0, .ref (a 0)), (1, .int k), (2, .int lim), (4, .int (nI i))]) hx hb dX0_width_68 rfl hl (by decide) rfl (fun ls hl => ?_)
          have hm : lc_width lim ((lc_doc docs k).take (i + 1)) = (wi (i + 64 * (docs.length - 1 - j))) := (lc_min_yes hy (decide_eq_true hok) (Or.inr (by rw [← f2]; exact lc_nle' d3))).trans f2.symm
          refine lv_iinc (v := nI (i + 1)) (lv' := [(4, .int (nI (i + 1))), (3, .int (wi (i + 64 * (docs.length - 1 - j)))), (5, .int (nI (i + 64 * (docs.length - 1 - j)))), (0, .ref (a 0)), (1, .int k), (2, .int lim)]) hx hb dX0_width_69 hl (k := 5) rfl (nI_1 i) (by decide) rfl (fun ls hl => ?_)
          refine lv_goto (tgt := 5) hx hb dX0_width_72 (by decide) ?_
          exact ih (n - 1) _ _ _ (by omega) ⟨i + 1, by omega, N, by rw [hm]; exact lv_sub hl [3, 4, 5, 1, 0] rfl⟩
end
section
set_option maxHeartbeats 4000000 in
set_option maxRecDepth 100000 in
/-- last -/
theorem kA_last (l : Launch) (D : va_G) (d : ClassId) (a : Nat → Nat) (tk ch ga : Int32) (cn en wi la ne nw nl : Nat → Int32) (docs : List (List lc_B)) (hn : docs.length ≤ 10) (hd : lc_docs cn en wi la docs) (k ln wd : Int32) : lc_K l D d yX0_last cX0_last 8 (some .int) { frames := 1, cells := 0, slots := 0, locals := 21 } [.ref (a 0), .int k, .int ln, .int wd] (wA d a tk ch (nI docs.length) ga cn en wi la ne nw nl) (fun r w' => r = some (.int (lc_last ln wd (lc_doc docs k))) ∧ w' = wA d a tk ch (nI docs.length) ga cn en wi la ne nw nl) := by
  refine lc_K.of (by decide) (Nat.le_of_ble_eq_true rfl) (fun p e s m below meth c A ls S hr hlk hnm N hl => ?_)
  have S : CallFix p m c cX0_last 8 s _ lw_all RX0 := S
  have hx := S.1
  have hb := S.2.1
  have hl : lv_has ls 8 [(0, .ref (a 0)), (1, .int k), (2, .int ln), (3, .int wd)] := hl
  have hq64 : (lc_doc docs k).length ≤ 64 := by
    rcases Nat.eq_zero_or_pos (lc_doc docs k).length with q | q
    · omega
    · obtain ⟨j, hkj, hj, hq⟩ := lc_doc_in q (by omega)
      exact (hd.at hq).2.1
  refine lv_iconst (v := (-1)) hx hb dX0_last_0 (by decide) ?_
  refine lv_istore (lv' := [(4, .int (-1)), (0, .ref (a 0)), (1, .int k), (2, .int ln), (3, .int wd)]) hx hb dX0_last_1 hl (by decide) rfl (fun ls hl => ?_)
  refine lv_iconst (v := 0) hx hb dX0_last_3 (by decide) ?_
  refine lc_top (nI 0) nI_0.symm ?_
  refine lv_istore (lv' := [(5, .int (nI 0)), (4, .int (-1)), (0, .ref (a 0)), (1, .int k), (2, .int ln), (3, .int wd)]) hx hb dX0_last_4 hl (by decide) rfl (fun ls hl => ?_)
  refine lc_loop (I := fun n H locs ls => ∃ (i : Nat), n + i = (lc_doc docs k).length ∧ lc_St D d A s (wA d a tk ch (nI docs.length) ga cn en wi la ne nw nl) H locs ∧ lv_has ls 8 [(0, .ref (a 0)), (1, .int k), (2, .int ln), (3, .int wd), (4, .int (lc_last ln wd ((lc_doc docs k).take i))), (5, .int (nI i))]) (fun n H locs ls hI ih => ?_) (lc_doc docs k).length ⟨0, rfl, N, lv_sub hl [2, 3, 4, 5, 1, 0] rfl⟩
  obtain ⟨i, hk, N, hl⟩ := hI
  refine lv_iload hx hb dX0_last_6 (lv_at hl 5 rfl) ?_
  refine lv_aload_n hx hb dX0_last_8 rfl (lv_at hl 0 rfl) ?_
  refine lv_iload_n hx hb dX0_last_9 rfl (lv_at hl 1 rfl) ?_
  refine lc_callV (ci := 0) (kA_boxes l D d a tk ch ga cn en wi la ne nw nl docs hn hd k) S N (lw_V q95 q97 qs6 q14 q98) hd_X0_boxes ⟨by decide, by decide⟩ ⟨rfl, rfl⟩ rfl rfl hl (Nat.le_of_ble_eq_true rfl) rfl dX0_last_10 ⟨Nat.zero_le _, Nat.zero_le _⟩ (fun r w1 H locs hp N => ?_)
  obtain ⟨rfl, rfl⟩ := hp
  refine lv_icmp_ge (tgt := 103) hx hb dX0_last_13 (by decide) (fun c1 => ?_) (fun c1 => ?_)
  · have hk1 := lc_nI_le c1 (by omega) (by omega)
    have hkq : (lc_doc docs k).take i = lc_doc docs k := List.take_of_length_le (by omega)
    rw [hkq] at hl
    refine lv_iload hx hb dX0_last_103 (lv_at hl 4 rfl) ?_
    exact lc_iret S hr hlk N ⟨rfl, rfl⟩ dX0_last_105
  · have hi1 : i < (lc_doc docs k).length := lc_nI_lt c1 (by omega) (by omega)
    obtain ⟨j, hkj, hj, hq⟩ := lc_doc_in hi1 (by omega)
    obtain ⟨h1, h2, h3⟩ := hd.at hq
    obtain ⟨y, hy⟩ := lc_getE hi1
    obtain ⟨f1, f2, f3⟩ := h3 i y hy
    have hat : i + 64 * (docs.length - 1 - j) < 640 := by omega
    refine lv_bipush (v := 64) hx hb dX0_last_16 (by decide) ?_
    refine lv_aload_n hx hb dX0_last_18 rfl (lv_at hl 0 rfl) ?_
    refine gA_dp S N dX0_last_19 ?_
    refine lv_iconst (v := 1) hx hb dX0_last_22 (by decide) ?_
    refine lv_isub hx hb dX0_last_23 ?_
    refine lc_top (nI (docs.length - 1)) (lc_dec (by omega)) ?_
    refine lv_iload_n hx hb dX0_last_24 rfl (lv_at hl 1 rfl) ?_
    refine lc_top (nI j) hkj ?_
    refine lv_isub hx hb dX0_last_25 ?_
    refine lc_top (nI (docs.length - 1 - j)) (pk_sub (by omega)) ?_
    refine lv_imul hx hb dX0_last_26 ?_
    refine lc_top (nI (64 * (docs.length - 1 - j))) (lc_n64 _) ?_
    refine lv_iload hx hb dX0_last_27 (lv_at hl 5 rfl) ?_
    refine lv_iadd hx hb dX0_last_29 ?_
    refine lc_top (nI (i + 64 * (docs.length - 1 - j))) (by rw [nI_add, Nat.add_comm]) ?_
    refine lv_istore (lv' := [(6, .int (nI (i + 64 * (docs.length - 1 - j)))), (0, .ref (a 0)), (1, .int k), (2, .int ln), (3, .int wd), (4, .int (lc_last ln wd ((lc_doc docs k).take i))), (5, .int (nI i))]) hx hb dX0_last_30 hl (by decide) rfl (fun ls hl => ?_)
    refine lv_aload_n hx hb dX0_last_32 rfl (lv_at hl 1 rfl) ?_
    refine gA_en S N dX0_last_33 ?_
    refine lv_iload hx hb dX0_last_36 (lv_at hl 0 rfl) ?_
    refine lA_en S N (i + 64 * (docs.length - 1 - j)) hat dX0_last_38 ?_
    refine lv_iload_n hx hb dX0_last_39 rfl (lv_at hl 3 rfl) ?_
    refine lv_icmp_gt (tgt := 58) hx hb dX0_last_40 (by decide) (fun d1 => ?_) (fun d1 => ?_)
    · refine lv_iconst (v := 0) hx hb dX0_last_58 (by decide) ?_
      refine lv_istore (lv' := [(7, .int 0), (6, .int (nI (i + 64 * (docs.length - 1 - j)))), (0, .ref (a 0)), (1, .int k), (2, .int ln), (3, .int wd), (4, .int (lc_last ln wd ((lc_doc docs k).take i))), (5, .int (nI i))]) hx hb dX0_last_59 hl (by decide) rfl (fun ls hl => ?_)
      refine lv_iload hx hb dX0_last_61 (lv_at hl 0 rfl) ?_
      refine lv_if_eq (tgt := 93) hx hb dX0_last_63 (by decide) (fun z => ?_) (fun z => ?_)
      · refine lv_iload hx hb dX0_last_93 (lv_at hl 6 rfl) ?_
        refine lv_istore (lv' := [(4, .int (lc_last ln wd ((lc_doc docs k).take i))), (7, .int 0), (6, .int (nI (i + 64 * (docs.length - 1 - j)))), (0, .ref (a 0)), (1, .int k), (2, .int ln), (3, .int wd), (5, .int (nI i))]) hx hb dX0_last_95 hl (by decide) rfl (fun ls hl => ?_)
        have hm : lc_last ln wd ((lc_doc docs k).take (i + 1)) = (lc_last ln wd ((lc_doc docs k).take i)) := lc_min_no1 hy (Bool.and_eq_false_iff.mpr (Or.inl (decide_eq_false (fun h => lc_nle d1 (by rw [f1]; exact h)))))
        refine lv_iinc (v := nI (i + 1)) (lv' := [(5, .int (nI (i + 1))), (4, .int (lc_last ln wd ((lc_doc docs k).take i))), (7, .int 0), (6, .int (nI (i + 64 * (docs.length - 1 - j)))), (0, .ref (a 0)), (1, .int k), (2, .int ln), (3, .int wd)]) hx hb dX0_last_97 hl (k := 7) rfl (nI_1 i) (by decide) rfl (fun ls hl => ?_)
        refine lv_goto (tgt := 6) hx hb dX0_last_100 (by decide) ?_
        exact ih (n - 1) _ _ _ (by omega) ⟨i + 1, by omega, N, by rw [hm]; exact lv_sub hl [4, 5, 6, 7, 1, 0] rfl⟩
      · exact absurd rfl z
    · refine lv_aload_n hx hb dX0_last_43 rfl (lv_at hl 1 rfl) ?_
      refine gA_wi S N dX0_last_44 ?_
      refine lv_iload hx hb dX0_last_47 (lv_at hl 0 rfl) ?_
      refine lA_wi S N (i + 64 * (docs.length - 1 - j)) hat dX0_last_49 ?_
      refine lv_iload_n hx hb dX0_last_50 rfl (lv_at hl 4 rfl) ?_
      refine lv_icmp_gt (tgt := 58) hx hb dX0_last_51 (by decide) (fun d2 => ?_) (fun d2 => ?_)
      · refine lv_iconst (v := 0) hx hb dX0_last_58 (by decide) ?_
        refine lv_istore (lv' := [(7, .int 0), (6, .int (nI (i + 64 * (docs.length - 1 - j)))), (0, .ref (a 0)), (1, .int k), (2, .int ln), (3, .int wd), (4, .int (lc_last ln wd ((lc_doc docs k).take i))), (5, .int (nI i))]) hx hb dX0_last_59 hl (by decide) rfl (fun ls hl => ?_)
        refine lv_iload hx hb dX0_last_61 (lv_at hl 0 rfl) ?_
        refine lv_if_eq (tgt := 93) hx hb dX0_last_63 (by decide) (fun z => ?_) (fun z => ?_)
        · refine lv_iload hx hb dX0_last_93 (lv_at hl 6 rfl) ?_
          refine lv_istore (lv' := [(4, .int (lc_last ln wd ((lc_doc docs k).take i))), (7, .int 0), (6, .int (nI (i + 64 * (docs.length - 1 - j)))), (0, .ref (a 0)), (1, .int k), (2, .int ln), (3, .int wd), (5, .int (nI i))]) hx hb dX0_last_95 hl (by decide) rfl (fun ls hl => ?_)
          have hm : lc_last ln wd ((lc_doc docs k).take (i + 1)) = (lc_last ln wd ((lc_doc docs k).take i)) := lc_min_no1 hy (Bool.and_eq_false_iff.mpr (Or.inr (decide_eq_false (fun h => lc_nle d2 (by rw [f2]; exact h)))))
          refine lv_iinc (v := nI (i + 1)) (lv' := [(5, .int (nI (i + 1))), (4, .int (lc_last ln wd ((lc_doc docs k).take i))), (7, .int 0), (6, .int (nI (i + 64 * (docs.length - 1 - j)))), (0, .ref (a 0)), (1, .int k), (2, .int ln), (3, .int wd)]) hx hb dX0_last_97 hl (k := 7) rfl (nI_1 i) (by decide) rfl (fun ls hl => ?_)
          refine lv_goto (tgt := 6) hx hb dX0_last_100 (by decide) ?_
          exact ih (n - 1) _ _ _ (by omega) ⟨i + 1, by omega, N, by rw [hm]; exact lv_sub hl [4, 5, 6, 7, 1, 0] rfl⟩
        · exact absurd rfl z
      · have hok : (decide (y.1 ≤ ln) && decide (y.2.1 ≤ wd)) = true := by rw [Bool.and_eq_true]; exact ⟨decide_eq_true (by rw [← f1]; exact lc_nlt d1), decide_eq_true (by rw [← f2]; exact lc_nlt d2)⟩
        refine lv_iconst (v := 1) hx hb dX0_last_54 (by decide) ?_
        refine lv_goto (tgt := 59) hx hb dX0_last_55 (by decide) ?_
        refine lv_istore (lv' := [(7, .int 1), (6, .int (nI (i + 64 * (docs.length - 1 - j)))), (0, .ref (a 0)), (1, .int k), (2, .int ln), (3, .int wd), (4, .int (lc_last ln wd ((lc_doc docs k).take i))), (5, .int (nI i))]) hx hb dX0_last_59 hl (by decide) rfl (fun ls hl => ?_)
        refine lv_iload hx hb dX0_last_61 (lv_at hl 0 rfl) ?_
        refine lv_if_eq (tgt := 93) hx hb dX0_last_63 (by decide) (fun z => ?_) (fun z => ?_)
        · exact absurd z (by decide)
        · refine lv_iload hx hb dX0_last_66 (lv_at hl 6 rfl) ?_
          refine lv_if_lt (tgt := 83) hx hb dX0_last_68 (by decide) (fun d3 => ?_) (fun d3 => ?_)
          · refine lv_aload_n hx hb dX0_last_83 rfl (lv_at hl 2 rfl) ?_
            refine gA_la S N dX0_last_84 ?_
            refine lv_iload hx hb dX0_last_87 (lv_at hl 1 rfl) ?_
            refine lA_la S N (i + 64 * (docs.length - 1 - j)) hat dX0_last_89 ?_
            refine lv_goto (tgt := 95) hx hb dX0_last_90 (by decide) ?_
            refine lv_istore (lv' := [(4, .int (la (i + 64 * (docs.length - 1 - j)))), (7, .int 1), (6, .int (nI (i + 64 * (docs.length - 1 - j)))), (0, .ref (a 0)), (1, .int k), (2, .int ln), (3, .int wd), (5, .int (nI i))]) hx hb dX0_last_95 hl (by decide) rfl (fun ls hl => ?_)
            have hm : lc_last ln wd ((lc_doc docs k).take (i + 1)) = (la (i + 64 * (docs.length - 1 - j))) := (lc_min_yes hy hok (Or.inl d3)).trans f3.symm
            refine lv_iinc (v := nI (i + 1)) (lv' := [(5, .int (nI (i + 1))), (4, .int (la (i + 64 * (docs.length - 1 - j)))), (7, .int 1), (6, .int (nI (i + 64 * (docs.length - 1 - j)))), (0, .ref (a 0)), (1, .int k), (2, .int ln), (3, .int wd)]) hx hb dX0_last_97 hl (k := 7) rfl (nI_1 i) (by decide) rfl (fun ls hl => ?_)
            refine lv_goto (tgt := 6) hx hb dX0_last_100 (by decide) ?_
            exact ih (n - 1) _ _ _ (by omega) ⟨i + 1, by omega, N, by rw [hm]; exact lv_sub hl [4, 5, 6, 7, 1, 0] rfl⟩
          · refine lv_aload_n hx hb dX0_last_71 rfl (lv_at hl 2 rfl) ?_
            refine gA_la S N dX0_last_72 ?_
            refine lv_iload hx hb dX0_last_75 (lv_at hl 1 rfl) ?_
            refine lA_la S N (i + 64 * (docs.length - 1 - j)) hat dX0_last_77 ?_
            refine lv_iload hx hb dX0_last_78 (lv_at hl 6 rfl) ?_
            refine lv_icmp_ge (tgt := 93) hx hb dX0_last_80 (by decide) (fun d4 => ?_) (fun d4 => ?_)
            · refine lv_iload hx hb dX0_last_93 (lv_at hl 6 rfl) ?_
              refine lv_istore (lv' := [(4, .int (lc_last ln wd ((lc_doc docs k).take i))), (7, .int 1), (6, .int (nI (i + 64 * (docs.length - 1 - j)))), (0, .ref (a 0)), (1, .int k), (2, .int ln), (3, .int wd), (5, .int (nI i))]) hx hb dX0_last_95 hl (by decide) rfl (fun ls hl => ?_)
              have hm : lc_last ln wd ((lc_doc docs k).take (i + 1)) = (lc_last ln wd ((lc_doc docs k).take i)) := lc_min_no2 hy d3 (by rw [← f3]; exact d4)
              refine lv_iinc (v := nI (i + 1)) (lv' := [(5, .int (nI (i + 1))), (4, .int (lc_last ln wd ((lc_doc docs k).take i))), (7, .int 1), (6, .int (nI (i + 64 * (docs.length - 1 - j)))), (0, .ref (a 0)), (1, .int k), (2, .int ln), (3, .int wd)]) hx hb dX0_last_97 hl (k := 7) rfl (nI_1 i) (by decide) rfl (fun ls hl => ?_)
              refine lv_goto (tgt := 6) hx hb dX0_last_100 (by decide) ?_
              exact ih (n - 1) _ _ _ (by omega) ⟨i + 1, by omega, N, by rw [hm]; exact lv_sub hl [4, 5, 6, 7, 1, 0] rfl⟩
            · refine lv_aload_n hx hb dX0_last_83 rfl (lv_at hl 2 rfl) ?_
              refine gA_la S N dX0_last_84 ?_
              refine lv_iload hx hb dX0_last_87 (lv_at hl 1 rfl) ?_
              refine lA_la S N (i + 64 * (docs.length - 1 - j)) hat dX0_last_89 ?_
              refine lv_goto (tgt := 95) hx hb dX0_last_90 (by decide) ?_
              refine lv_istore (lv' := [(4, .int (la (i + 64 * (docs.length - 1 - j)))), (7, .int 1), (6, .int (nI (i + 64 * (docs.length - 1 - j)))), (0, .ref (a 0)), (1, .int k), (2, .int ln), (3, .int wd), (5, .int (nI i))]) hx hb dX0_last_95 hl (by decide) rfl (fun ls hl => ?_)
              have hm : lc_last ln wd ((lc_doc docs k).take (i + 1)) = (la (i + 64 * (docs.length - 1 - j))) := (lc_min_yes hy hok (Or.inr (by rw [← f3]; exact lc_nle' d4))).trans f3.symm
              refine lv_iinc (v := nI (i + 1)) (lv' := [(5, .int (nI (i + 1))), (4, .int (la (i + 64 * (docs.length - 1 - j)))), (7, .int 1), (6, .int (nI (i + 64 * (docs.length - 1 - j)))), (0, .ref (a 0)), (1, .int k), (2, .int ln), (3, .int wd)]) hx hb dX0_last_97 hl (k := 7) rfl (nI_1 i) (by decide) rfl (fun ls hl => ?_)
              refine lv_goto (tgt := 6) hx hb dX0_last_100 (by decide) ?_
              exact ih (n - 1) _ _ _ (by omega) ⟨i + 1, by omega, N, by rw [hm]; exact lv_sub hl [4, 5, 6, 7, 1, 0] rfl⟩
set_option maxHeartbeats 4000000 in
set_option maxRecDepth 100000 in
/-- cost -/
theorem kA_cost (l : Launch) (D : va_G) (d : ClassId) (a : Nat → Nat) (tk ch ga : Int32) (cn en wi la ne nw nl : Nat → Int32) (docs : List (List lc_B)) (hn : docs.length ≤ 10) (hd : lc_docs cn en wi la docs) (k price rom : Int32) : lc_K l D d yX0_cost cX0_cost 11 (some .int) { frames := 1, cells := 0, slots := 0, locals := 21 } [.ref (a 0), .int k, .int price, .int rom] (wA d a tk ch (nI docs.length) ga cn en wi la ne nw nl) (fun r w' => r = some (.int (lc_cost price rom (lc_doc docs k))) ∧ w' = wA d a tk ch (nI docs.length) ga cn en wi la ne nw nl) := by
  refine lc_K.of (by decide) (Nat.le_of_ble_eq_true rfl) (fun p e s m below meth c A ls S hr hlk hnm N hl => ?_)
  have S : CallFix p m c cX0_cost 11 s _ lw_all RX0 := S
  have hx := S.1
  have hb := S.2.1
  have hl : lv_has ls 11 [(0, .ref (a 0)), (1, .int k), (2, .int price), (3, .int rom)] := hl
  have hq64 : (lc_doc docs k).length ≤ 64 := by
    rcases Nat.eq_zero_or_pos (lc_doc docs k).length with q | q
    · omega
    · obtain ⟨j, hkj, hj, hq⟩ := lc_doc_in q (by omega)
      exact (hd.at hq).2.1
  refine lc_cut 20 (J := fun H locs ls st => st = [.int (lc_clamp 100 price)] ∧ lc_St D d A s (wA d a tk ch (nI docs.length) ga cn en wi la ne nw nl) H locs ∧ lv_has ls 11 [(0, .ref (a 0)), (1, .int k), (2, .int price), (3, .int rom)]) (fun H locs ls st hJ => ?_) (fun KJ => ?_)
  · obtain ⟨rfl, N, hl⟩ := hJ
    refine lv_istore (lv' := [(4, .int (lc_clamp 100 price)), (0, .ref (a 0)), (1, .int k), (2, .int price), (3, .int rom)]) hx hb dX0_cost_20 hl (by decide) rfl (fun ls hl => ?_)
    refine lc_cut 44 (J := fun H locs ls st => st = [.int (lc_clamp 200 rom)] ∧ lc_St D d A s (wA d a tk ch (nI docs.length) ga cn en wi la ne nw nl) H locs ∧ lv_has ls 11 [(4, .int (lc_clamp 100 price)), (0, .ref (a 0)), (1, .int k), (2, .int price), (3, .int rom)]) (fun H locs ls st hJ => ?_) (fun KJ => ?_)
    · obtain ⟨rfl, N, hl⟩ := hJ
      refine lv_istore (lv' := [(5, .int (lc_clamp 200 rom)), (4, .int (lc_clamp 100 price)), (0, .ref (a 0)), (1, .int k), (2, .int price), (3, .int rom)]) hx hb dX0_cost_44 hl (by decide) rfl (fun ls hl => ?_)
      refine lv_iconst (v := (-1)) hx hb dX0_cost_46 (by decide) ?_
      refine lv_istore (lv' := [(6, .int (-1)), (5, .int (lc_clamp 200 rom)), (4, .int (lc_clamp 100 price)), (0, .ref (a 0)), (1, .int k), (2, .int price), (3, .int rom)]) hx hb dX0_cost_47 hl (by decide) rfl (fun ls hl => ?_)
      refine lv_iconst (v := 0) hx hb dX0_cost_49 (by decide) ?_
      refine lc_top (nI 0) nI_0.symm ?_
      refine lv_istore (lv' := [(7, .int (nI 0)), (6, .int (-1)), (5, .int (lc_clamp 200 rom)), (4, .int (lc_clamp 100 price)), (0, .ref (a 0)), (1, .int k), (2, .int price), (3, .int rom)]) hx hb dX0_cost_50 hl (by decide) rfl (fun ls hl => ?_)
      refine lc_loop (I := fun n H locs ls => ∃ (i : Nat), n + i = (lc_doc docs k).length ∧ lc_St D d A s (wA d a tk ch (nI docs.length) ga cn en wi la ne nw nl) H locs ∧ lv_has ls 11 [(0, .ref (a 0)), (1, .int k), (2, .int price), (3, .int rom), (4, .int (lc_clamp 100 price)), (5, .int (lc_clamp 200 rom)), (6, .int (lc_cost price rom ((lc_doc docs k).take i))), (7, .int (nI i))]) (fun n H locs ls hI ih => ?_) (lc_doc docs k).length ⟨0, rfl, N, lv_sub hl [4, 5, 6, 7, 3, 2, 1, 0] rfl⟩
      obtain ⟨i, hk, N, hl⟩ := hI
      refine lv_iload hx hb dX0_cost_52 (lv_at hl 7 rfl) ?_
      refine lv_aload_n hx hb dX0_cost_54 rfl (lv_at hl 0 rfl) ?_
      refine lv_iload_n hx hb dX0_cost_55 rfl (lv_at hl 1 rfl) ?_
      refine lc_callV (ci := 0) (kA_boxes l D d a tk ch ga cn en wi la ne nw nl docs hn hd k) S N (lw_V q95 q97 qs6 q14 q98) hd_X0_boxes ⟨by decide, by decide⟩ ⟨rfl, rfl⟩ rfl rfl hl (Nat.le_of_ble_eq_true rfl) rfl dX0_cost_56 ⟨Nat.zero_le _, Nat.zero_le _⟩ (fun r w1 H locs hp N => ?_)
      obtain ⟨rfl, rfl⟩ := hp
      refine lv_icmp_ge (tgt := 151) hx hb dX0_cost_59 (by decide) (fun c1 => ?_) (fun c1 => ?_)
      · have hk1 := lc_nI_le c1 (by omega) (by omega)
        have hkq : (lc_doc docs k).take i = lc_doc docs k := List.take_of_length_le (by omega)
        rw [hkq] at hl
        refine lv_iload hx hb dX0_cost_151 (lv_at hl 6 rfl) ?_
        exact lc_iret S hr hlk N ⟨rfl, rfl⟩ dX0_cost_153
      · have hi1 : i < (lc_doc docs k).length := lc_nI_lt c1 (by omega) (by omega)
        obtain ⟨j, hkj, hj, hq⟩ := lc_doc_in hi1 (by omega)
        obtain ⟨h1, h2, h3⟩ := hd.at hq
        obtain ⟨y, hy⟩ := lc_getE hi1
        obtain ⟨f1, f2, f3⟩ := h3 i y hy
        have hat : i + 64 * (docs.length - 1 - j) < 640 := by omega
        refine lv_bipush (v := 64) hx hb dX0_cost_62 (by decide) ?_
        refine lv_aload_n hx hb dX0_cost_64 rfl (lv_at hl 0 rfl) ?_
        refine gA_dp S N dX0_cost_65 ?_
        refine lv_iconst (v := 1) hx hb dX0_cost_68 (by decide) ?_
        refine lv_isub hx hb dX0_cost_69 ?_
        refine lc_top (nI (docs.length - 1)) (lc_dec (by omega)) ?_
        refine lv_iload_n hx hb dX0_cost_70 rfl (lv_at hl 1 rfl) ?_
        refine lc_top (nI j) hkj ?_
        refine lv_isub hx hb dX0_cost_71 ?_
        refine lc_top (nI (docs.length - 1 - j)) (pk_sub (by omega)) ?_
        refine lv_imul hx hb dX0_cost_72 ?_
        refine lc_top (nI (64 * (docs.length - 1 - j))) (lc_n64 _) ?_
        refine lv_iload hx hb dX0_cost_73 (lv_at hl 7 rfl) ?_
        refine lv_iadd hx hb dX0_cost_75 ?_
        refine lc_top (nI (i + 64 * (docs.length - 1 - j))) (by rw [nI_add, Nat.add_comm]) ?_
        refine lv_istore (lv' := [(8, .int (nI (i + 64 * (docs.length - 1 - j)))), (0, .ref (a 0)), (1, .int k), (2, .int price), (3, .int rom), (4, .int (lc_clamp 100 price)), (5, .int (lc_clamp 200 rom)), (6, .int (lc_cost price rom ((lc_doc docs k).take i))), (7, .int (nI i))]) hx hb dX0_cost_76 hl (by decide) rfl (fun ls hl => ?_)
        refine lv_aload_n hx hb dX0_cost_78 rfl (lv_at hl 1 rfl) ?_
        refine gA_wi S N dX0_cost_79 ?_
        refine lv_iload hx hb dX0_cost_82 (lv_at hl 0 rfl) ?_
        refine lA_wi S N (i + 64 * (docs.length - 1 - j)) hat dX0_cost_84 ?_
        refine lv_iload hx hb dX0_cost_85 (lv_at hl 6 rfl) ?_
        refine lc_cut 104 (J := fun H locs ls st => st = [.int (lc_over (lc_clamp 200 rom) y)] ∧ lc_St D d A s (wA d a tk ch (nI docs.length) ga cn en wi la ne nw nl) H locs ∧ lv_has ls 11 [(8, .int (nI (i + 64 * (docs.length - 1 - j)))), (0, .ref (a 0)), (1, .int k), (2, .int price), (3, .int rom), (4, .int (lc_clamp 100 price)), (5, .int (lc_clamp 200 rom)), (6, .int (lc_cost price rom ((lc_doc docs k).take i))), (7, .int (nI i))]) (fun H locs ls st hJ => ?_) (fun KJ => ?_)
        · obtain ⟨rfl, N, hl⟩ := hJ
          refine lv_istore (lv' := [(9, .int (lc_over (lc_clamp 200 rom) y)), (8, .int (nI (i + 64 * (docs.length - 1 - j)))), (0, .ref (a 0)), (1, .int k), (2, .int price), (3, .int rom), (4, .int (lc_clamp 100 price)), (5, .int (lc_clamp 200 rom)), (6, .int (lc_cost price rom ((lc_doc docs k).take i))), (7, .int (nI i))]) hx hb dX0_cost_104 hl (by decide) rfl (fun ls hl => ?_)
          refine lv_iload hx hb dX0_cost_106 (lv_at hl 6 rfl) ?_
          refine lv_aload_n hx hb dX0_cost_108 rfl (lv_at hl 2 rfl) ?_
          refine gA_en S N dX0_cost_109 ?_
          refine lv_iload hx hb dX0_cost_112 (lv_at hl 1 rfl) ?_
          refine lA_en S N (i + 64 * (docs.length - 1 - j)) hat dX0_cost_114 ?_
          refine lv_imul hx hb dX0_cost_115 ?_
          refine lv_iload hx hb dX0_cost_116 (lv_at hl 0 rfl) ?_
          refine lv_iload hx hb dX0_cost_118 (lv_at hl 0 rfl) ?_
          refine lv_imul hx hb dX0_cost_120 ?_
          refine lv_iadd hx hb dX0_cost_121 ?_
          refine lc_top (lc_sum (lc_clamp 100 price) (lc_clamp 200 rom) y) (by rw [f1]; rfl) ?_
          refine lv_istore (lv' := [(10, .int (lc_sum (lc_clamp 100 price) (lc_clamp 200 rom) y)), (9, .int (lc_over (lc_clamp 200 rom) y)), (8, .int (nI (i + 64 * (docs.length - 1 - j)))), (0, .ref (a 0)), (1, .int k), (2, .int price), (3, .int rom), (4, .int (lc_clamp 100 price)), (5, .int (lc_clamp 200 rom)), (6, .int (lc_cost price rom ((lc_doc docs k).take i))), (7, .int (nI i))]) hx hb dX0_cost_122 hl (by decide) rfl (fun ls hl => ?_)
          refine lv_iload hx hb dX0_cost_124 (lv_at hl 9 rfl) ?_
          refine lv_if_lt (tgt := 136) hx hb dX0_cost_126 (by decide) (fun d2 => ?_) (fun d2 => ?_)
          · refine lv_iload hx hb dX0_cost_136 (lv_at hl 0 rfl) ?_
            refine lv_goto (tgt := 143) hx hb dX0_cost_138 (by decide) ?_
            refine lv_istore (lv' := [(6, .int (lc_sum (lc_clamp 100 price) (lc_clamp 200 rom) y)), (10, .int (lc_sum (lc_clamp 100 price) (lc_clamp 200 rom) y)), (9, .int (lc_over (lc_clamp 200 rom) y)), (8, .int (nI (i + 64 * (docs.length - 1 - j)))), (0, .ref (a 0)), (1, .int k), (2, .int price), (3, .int rom), (4, .int (lc_clamp 100 price)), (5, .int (lc_clamp 200 rom)), (7, .int (nI i))]) hx hb dX0_cost_143 hl (by decide) rfl (fun ls hl => ?_)
            have hm : lc_cost price rom ((lc_doc docs k).take (i + 1)) = (lc_sum (lc_clamp 100 price) (lc_clamp 200 rom) y) := lc_min_yes hy rfl (Or.inl d2)
            refine lv_iinc (v := nI (i + 1)) (lv' := [(7, .int (nI (i + 1))), (6, .int (lc_sum (lc_clamp 100 price) (lc_clamp 200 rom) y)), (10, .int (lc_sum (lc_clamp 100 price) (lc_clamp 200 rom) y)), (9, .int (lc_over (lc_clamp 200 rom) y)), (8, .int (nI (i + 64 * (docs.length - 1 - j)))), (0, .ref (a 0)), (1, .int k), (2, .int price), (3, .int rom), (4, .int (lc_clamp 100 price)), (5, .int (lc_clamp 200 rom))]) hx hb dX0_cost_145 hl (k := 10) rfl (nI_1 i) (by decide) rfl (fun ls hl => ?_)
            refine lv_goto (tgt := 52) hx hb dX0_cost_148 (by decide) ?_
            exact ih (n - 1) _ _ _ (by omega) ⟨i + 1, by omega, N, by rw [hm]; exact lv_sub hl [5, 6, 7, 8, 9, 10, 1, 0] rfl⟩
          · refine lv_iload hx hb dX0_cost_129 (lv_at hl 0 rfl) ?_
            refine lv_iload hx hb dX0_cost_131 (lv_at hl 9 rfl) ?_
            refine lv_icmp_ge (tgt := 141) hx hb dX0_cost_133 (by decide) (fun d3 => ?_) (fun d3 => ?_)
            · refine lv_iload hx hb dX0_cost_141 (lv_at hl 9 rfl) ?_
              refine lv_istore (lv' := [(6, .int (lc_cost price rom ((lc_doc docs k).take i))), (10, .int (lc_sum (lc_clamp 100 price) (lc_clamp 200 rom) y)), (9, .int (lc_over (lc_clamp 200 rom) y)), (8, .int (nI (i + 64 * (docs.length - 1 - j)))), (0, .ref (a 0)), (1, .int k), (2, .int price), (3, .int rom), (4, .int (lc_clamp 100 price)), (5, .int (lc_clamp 200 rom)), (7, .int (nI i))]) hx hb dX0_cost_143 hl (by decide) rfl (fun ls hl => ?_)
              have hm : lc_cost price rom ((lc_doc docs k).take (i + 1)) = (lc_cost price rom ((lc_doc docs k).take i)) := lc_min_no2 hy d2 d3
              refine lv_iinc (v := nI (i + 1)) (lv' := [(7, .int (nI (i + 1))), (6, .int (lc_cost price rom ((lc_doc docs k).take i))), (10, .int (lc_sum (lc_clamp 100 price) (lc_clamp 200 rom) y)), (9, .int (lc_over (lc_clamp 200 rom) y)), (8, .int (nI (i + 64 * (docs.length - 1 - j)))), (0, .ref (a 0)), (1, .int k), (2, .int price), (3, .int rom), (4, .int (lc_clamp 100 price)), (5, .int (lc_clamp 200 rom))]) hx hb dX0_cost_145 hl (k := 10) rfl (nI_1 i) (by decide) rfl (fun ls hl => ?_)
              refine lv_goto (tgt := 52) hx hb dX0_cost_148 (by decide) ?_
              exact ih (n - 1) _ _ _ (by omega) ⟨i + 1, by omega, N, by rw [hm]; exact lv_sub hl [5, 6, 7, 8, 9, 10, 1, 0] rfl⟩
            · refine lv_iload hx hb dX0_cost_136 (lv_at hl 0 rfl) ?_
              refine lv_goto (tgt := 143) hx hb dX0_cost_138 (by decide) ?_
              refine lv_istore (lv' := [(6, .int (lc_sum (lc_clamp 100 price) (lc_clamp 200 rom) y)), (10, .int (lc_sum (lc_clamp 100 price) (lc_clamp 200 rom) y)), (9, .int (lc_over (lc_clamp 200 rom) y)), (8, .int (nI (i + 64 * (docs.length - 1 - j)))), (0, .ref (a 0)), (1, .int k), (2, .int price), (3, .int rom), (4, .int (lc_clamp 100 price)), (5, .int (lc_clamp 200 rom)), (7, .int (nI i))]) hx hb dX0_cost_143 hl (by decide) rfl (fun ls hl => ?_)
              have hm : lc_cost price rom ((lc_doc docs k).take (i + 1)) = (lc_sum (lc_clamp 100 price) (lc_clamp 200 rom) y) := lc_min_yes hy rfl (Or.inr (lc_nle' d3))
              refine lv_iinc (v := nI (i + 1)) (lv' := [(7, .int (nI (i + 1))), (6, .int (lc_sum (lc_clamp 100 price) (lc_clamp 200 rom) y)), (10, .int (lc_sum (lc_clamp 100 price) (lc_clamp 200 rom) y)), (9, .int (lc_over (lc_clamp 200 rom) y)), (8, .int (nI (i + 64 * (docs.length - 1 - j)))), (0, .ref (a 0)), (1, .int k), (2, .int price), (3, .int rom), (4, .int (lc_clamp 100 price)), (5, .int (lc_clamp 200 rom))]) hx hb dX0_cost_145 hl (k := 10) rfl (nI_1 i) (by decide) rfl (fun ls hl => ?_)
              refine lv_goto (tgt := 52) hx hb dX0_cost_148 (by decide) ?_
              exact ih (n - 1) _ _ _ (by omega) ⟨i + 1, by omega, N, by rw [hm]; exact lv_sub hl [5, 6, 7, 8, 9, 10, 1, 0] rfl⟩
        · refine lv_icmp_le (tgt := 103) hx hb dX0_cost_87 (by decide) (fun d1 => ?_) (fun d1 => ?_)
          · refine lv_iconst (v := 0) hx hb dX0_cost_103 (by decide) ?_
            exact KJ _ _ _ _ ⟨by rw [lc_over, if_pos (by rw [← f2]; exact d1)], N, hl⟩
          · refine lv_aload_n hx hb dX0_cost_90 rfl (lv_at hl 1 rfl) ?_
            refine gA_wi S N dX0_cost_91 ?_
            refine lv_iload hx hb dX0_cost_94 (lv_at hl 0 rfl) ?_
            refine lA_wi S N (i + 64 * (docs.length - 1 - j)) hat dX0_cost_96 ?_
            refine lv_iload hx hb dX0_cost_97 (lv_at hl 6 rfl) ?_
            refine lv_isub hx hb dX0_cost_99 ?_
            refine lv_goto (tgt := 104) hx hb dX0_cost_100 (by decide) ?_
            exact KJ _ _ _ _ ⟨by rw [lc_over, if_neg (by rw [← f2]; exact d1), f2], N, hl⟩
    · refine lv_iload_n hx hb dX0_cost_22 rfl (lv_at hl 4 rfl) ?_
      refine lv_if_ge (tgt := 30) hx hb dX0_cost_23 (by decide) (fun p1 => ?_) (fun p1 => ?_)
      · refine lv_iload_n hx hb dX0_cost_30 rfl (lv_at hl 4 rfl) ?_
        refine lv_sipush (v := 200) hx hb dX0_cost_31 (by decide) ?_
        refine lv_icmp_le (tgt := 43) hx hb dX0_cost_34 (by decide) (fun p2 => ?_) (fun p2 => ?_)
        · refine lv_iload_n hx hb dX0_cost_43 rfl (lv_at hl 4 rfl) ?_
          exact KJ _ _ _ _ ⟨by rw [lc_clamp, if_neg (fun h => lc_nle h p1), if_pos p2], N, hl⟩
        · refine lv_sipush (v := 200) hx hb dX0_cost_37 (by decide) ?_
          refine lv_goto (tgt := 44) hx hb dX0_cost_40 (by decide) ?_
          exact KJ _ _ _ _ ⟨by rw [lc_clamp, if_neg (fun h => lc_nle h p1), if_neg p2], N, hl⟩
      · refine lv_iconst (v := 0) hx hb dX0_cost_26 (by decide) ?_
        refine lv_goto (tgt := 44) hx hb dX0_cost_27 (by decide) ?_
        exact KJ _ _ _ _ ⟨by rw [lc_clamp, if_pos (lc_nle' p1)], N, hl⟩
  · refine lv_iload_n hx hb dX0_cost_0 rfl (lv_at hl 2 rfl) ?_
    refine lv_if_ge (tgt := 8) hx hb dX0_cost_1 (by decide) (fun p1 => ?_) (fun p1 => ?_)
    · refine lv_iload_n hx hb dX0_cost_8 rfl (lv_at hl 2 rfl) ?_
      refine lv_bipush (v := 100) hx hb dX0_cost_9 (by decide) ?_
      refine lv_icmp_le (tgt := 19) hx hb dX0_cost_11 (by decide) (fun p2 => ?_) (fun p2 => ?_)
      · refine lv_iload_n hx hb dX0_cost_19 rfl (lv_at hl 2 rfl) ?_
        exact KJ _ _ _ _ ⟨by rw [lc_clamp, if_neg (fun h => lc_nle h p1), if_pos p2], N, hl⟩
      · refine lv_bipush (v := 100) hx hb dX0_cost_14 (by decide) ?_
        refine lv_goto (tgt := 20) hx hb dX0_cost_16 (by decide) ?_
        exact KJ _ _ _ _ ⟨by rw [lc_clamp, if_neg (fun h => lc_nle h p1), if_neg p2], N, hl⟩
    · refine lv_iconst (v := 0) hx hb dX0_cost_4 (by decide) ?_
      refine lv_goto (tgt := 20) hx hb dX0_cost_5 (by decide) ?_
      exact KJ _ _ _ _ ⟨by rw [lc_clamp, if_pos (lc_nle' p1)], N, hl⟩
end
section
/-- the token is taken: t tokens, h choices, m documents stand -/
def lc_ok (code n : Int32) (t h m : Nat) : Prop := ¬ code < 0 ∧ ¬ 4 < code ∧ t < 48 ∧ lc_has code m = true ∧ ¬ (code = 0 ∧ (n < 0 ∨ 40 < n)) ∧ ¬ (code = 3 ∧ (n < 0 ∨ 20 < n)) ∧ ¬ (code = 4 ∧ 6 ≤ h)
/-- the documents behind a token -/
def lc_tok (docs : List (List lc_B)) (code n : Int32) : List (List lc_B) :=
  if code = 0 then [(0, n, n)] :: docs else if code = 3 then (match docs with | q :: ds => lc_indent n q [] :: ds | [] => []) else (match docs with | q2 :: q1 :: ds => lc_two code q1 q2 [] :: ds | _ => [])
def lc_chs (code : Int32) (h : Nat) : Nat := if code = 4 then h + 1 else h
theorem lc_has0 {m : Nat} (h : lc_has 0 m = true) : m < 10 := of_decide_eq_true (by rw [lc_has, if_pos rfl] at h; exact h)
theorem lc_has3 {m : Nat} (h : lc_has 3 m = true) : 1 ≤ m := of_decide_eq_true (by rw [lc_has, if_neg (by decide), if_pos rfl] at h; exact h)
theorem lc_has2 {code : Int32} {m : Nat} (h0 : ¬ code = 0) (h3 : ¬ code = 3) (h : lc_has code m = true) : 2 ≤ m := of_decide_eq_true (by rw [lc_has, if_neg h0, if_neg h3] at h; exact h)
theorem lc_two_len {code : Int32} {q1 q2 : List lc_B} (hc : code = 4 → q1.length + q2.length ≤ 64) (hp : q1.length * q2.length ≤ 64) : (lc_two code q1 q2 []).length ≤ 64 := by
  unfold lc_two
  split
  · rename_i h
    have h1 := lc_indent_len 0 q2 (lc_indent 0 q1 [])
    have h2 := lc_indent_len 0 q1 []
    have h3 := hc h
    have h4 : ([] : List lc_B).length = 0 := rfl
    omega
  · have h1 := lc_cross_len code q1 q2 []
    have h4 : ([] : List lc_B).length = 0 := rfl
    omega
set_option maxHeartbeats 4000000 in
set_option maxRecDepth 100000 in
/-- token -/
theorem kA_token (l : Launch) (D : va_G) (d : ClassId) (a : Nat → Nat) (ga : Int32) (cn en wi la ne nw nl : Nat → Int32) (t h : Nat) (docs : List (List lc_B)) (ht : t ≤ 48) (hh : h ≤ 6) (hn : docs.length ≤ 10) (hd : lc_docs cn en wi la docs) (hsz : ∀ (q2 q1 : List lc_B) (ds : List (List lc_B)), docs = q2 :: q1 :: ds → q1.length * q2.length ≤ 64 ∧ (h < 6 → q1.length + q2.length ≤ 64)) (code n : Int32) : lc_K l D d yX0_token cX0_token 3 (some .int) { frames := 3, cells := 0, slots := 0, locals := 73 } [.ref (a 0), .int code, .int n] (wA d a (nI t) (nI h) (nI docs.length) ga cn en wi la ne nw nl) (fun r w' => (lc_ok code n t h docs.length ∧ ∃ (ga' : Int32) (cn' en' wi' la' ne' nw' nl' : Nat → Int32), r = some (.int (nI (lc_tok docs code n).length)) ∧ w' = wA d a (nI (t + 1)) (nI (lc_chs code h)) (nI (lc_tok docs code n).length) ga' cn' en' wi' la' ne' nw' nl' ∧ lc_docs cn' en' wi' la' (lc_tok docs code n)) ∨ (¬ lc_ok code n t h docs.length ∧ r = some (.int (-1)) ∧ w' = wA d a (nI t) (nI h) (nI docs.length) ga cn en wi la ne nw nl)) := by
  refine lc_K.of (by decide) (Nat.le_of_ble_eq_true rfl) (fun p e s m below meth c A ls S hr hlk hnm N hl => ?_)
  have S : CallFix p m c cX0_token 3 s _ lw_all RX0 := S
  have hx := S.1
  have hb := S.2.1
  have hl : lv_has ls 3 [(0, .ref (a 0)), (1, .int code), (2, .int n)] := hl
  refine lv_iload_n hx hb dX0_token_0 rfl (lv_at hl 1 rfl) ?_
  refine lv_if_lt (tgt := 26) hx hb dX0_token_1 (by decide) (fun c1 => ?_) (fun c1 => ?_)
  · refine lv_iconst (v := (-1)) hx hb dX0_token_26 (by decide) ?_
    exact lc_iret S hr hlk N (Or.inr ⟨fun q => q.1 c1, rfl, rfl⟩) dX0_token_27
  · refine lv_iload_n hx hb dX0_token_4 rfl (lv_at hl 1 rfl) ?_
    refine lv_iconst (v := 4) hx hb dX0_token_5 (by decide) ?_
    refine lv_icmp_gt (tgt := 26) hx hb dX0_token_6 (by decide) (fun c2 => ?_) (fun c2 => ?_)
    · refine lv_iconst (v := (-1)) hx hb dX0_token_26 (by decide) ?_
      exact lc_iret S hr hlk N (Or.inr ⟨fun q => q.2.1 c2, rfl, rfl⟩) dX0_token_27
    · refine lv_aload_n hx hb dX0_token_9 rfl (lv_at hl 0 rfl) ?_
      refine gA_tk S N dX0_token_10 ?_
      refine lv_bipush (v := 48) hx hb dX0_token_13 (by decide) ?_
      refine lv_icmp_ge (tgt := 26) hx hb dX0_token_15 (by decide) (fun c3 => ?_) (fun c3 => ?_)
      · have ht2 : 48 ≤ t := (nI_leI (a := 48) (b := t) (by omega) (by omega)).mp c3
        refine lv_iconst (v := (-1)) hx hb dX0_token_26 (by decide) ?_
        exact lc_iret S hr hlk N (Or.inr ⟨fun q => by have := q.2.2.1; omega, rfl, rfl⟩) dX0_token_27
      · have ht2 : ¬ 48 ≤ t := fun q => c3 ((nI_leI (a := 48) (b := t) (by omega) (by omega)).mpr q)
        refine lv_aload_n hx hb dX0_token_18 rfl (lv_at hl 0 rfl) ?_
        refine lv_iload_n hx hb dX0_token_19 rfl (lv_at hl 1 rfl) ?_
        refine lc_callV (ci := 0) (kA_hasDocuments l D d a (nI t) (nI h) ga cn en wi la ne nw nl docs.length hn code) S N (lw_V q63 q65 qs0 q14 q66) hd_X0_hasDocuments ⟨by decide, by decide⟩ ⟨rfl, rfl⟩ rfl rfl hl (Nat.le_of_ble_eq_true rfl) rfl dX0_token_20 ⟨Nat.zero_le _, Nat.zero_le _⟩ (fun r w1 H locs hp N => ?_)
        obtain ⟨rfl, rfl⟩ := hp
        refine lv_if_ne (tgt := 28) hx hb dX0_token_23 (by decide) (fun c4 => ?_) (fun c4 => ?_)
        · have hhas : lc_has code docs.length = true := by
            cases hq : lc_has code docs.length
            · rw [hq] at c4; exact absurd rfl c4
            · rfl
          refine lc_cut 42 (J := fun H locs ls st => st = [] ∧ lc_St D d A s (wA d a (nI t) (nI h) (nI docs.length) ga cn en wi la ne nw nl) H locs ∧ lv_has ls 3 [(0, .ref (a 0)), (1, .int code), (2, .int n)] ∧ ¬ (code = 0 ∧ (n < 0 ∨ 40 < n))) (fun H locs ls st hJ => ?_) (fun K42 => ?_)
          · obtain ⟨rfl, N, hl, g0⟩ := hJ
            refine lc_cut 57 (J := fun H locs ls st => st = [] ∧ lc_St D d A s (wA d a (nI t) (nI h) (nI docs.length) ga cn en wi la ne nw nl) H locs ∧ lv_has ls 3 [(0, .ref (a 0)), (1, .int code), (2, .int n)] ∧ ¬ (code = 3 ∧ (n < 0 ∨ 20 < n))) (fun H locs ls st hJ => ?_) (fun K57 => ?_)
            · obtain ⟨rfl, N, hl, g3⟩ := hJ
              refine lc_cut 73 (J := fun H locs ls st => st = [] ∧ lc_St D d A s (wA d a (nI t) (nI h) (nI docs.length) ga cn en wi la ne nw nl) H locs ∧ lv_has ls 3 [(0, .ref (a 0)), (1, .int code), (2, .int n)] ∧ ¬ (code = 4 ∧ 6 ≤ h)) (fun H locs ls st hJ => ?_) (fun K73 => ?_)
              · obtain ⟨rfl, N, hl, g4⟩ := hJ
                have hok : lc_ok code n t h docs.length := ⟨c1, c2, by omega, hhas, g0, g3, g4⟩
                refine lv_aload_n hx hb dX0_token_73 rfl (lv_at hl 0 rfl) ?_
                refine lv_dup hx hb dX0_token_74 rfl ?_
                refine gA_tk S N dX0_token_75 ?_
                refine lv_iconst (v := 1) hx hb dX0_token_78 (by decide) ?_
                refine lv_iadd hx hb dX0_token_79 ?_
                refine lc_top (nI (t + 1)) (nI_1 t) ?_
                refine pA_tk S N dX0_token_80 (fun H locs N => ?_)
                refine lv_aload_n hx hb dX0_token_83 rfl (lv_at hl 0 rfl) ?_
                refine lv_iconst (v := 0) hx hb dX0_token_84 (by decide) ?_
                refine lc_top (nI ([] : List lc_B).length) nI_0.symm ?_
                refine pA_ga S N dX0_token_85 (fun H locs N => ?_)
                refine lc_cut 163 (J := fun H locs ls st => st = [] ∧ ∃ (ds : List (List lc_B)) (gs : List lc_B) (e1 e2 e3 : Nat → Int32), lc_St D d A s (wA d a (nI (t + 1)) (nI (lc_chs code h)) (nI ds.length) (nI gs.length) cn en wi la e1 e2 e3) H locs ∧ lv_has ls 3 [(0, .ref (a 0)), (1, .int code), (2, .int n)] ∧ ds.length < 10 ∧ lc_docs cn en wi la ds ∧ gs.length ≤ 64 ∧ lc_seg 0 gs e1 e2 e3 ∧ lc_tok docs code n = gs :: ds) (fun H locs ls st hJ => ?_) (fun KJ => ?_)
                · obtain ⟨rfl, ds, gs, e1, e2, e3, N, hl, hds, hdd, hgs, hseg, htok⟩ := hJ
                  refine lv_aload_n hx hb dX0_token_163 rfl (lv_at hl 0 rfl) ?_
                  refine lc_callV (ci := 0) (kA_keep l D d a (nI (t + 1)) (nI (lc_chs code h)) cn en wi la e1 e2 e3 ds hds hdd gs hgs hseg) S N (lw_V q83 q85 qs5 q14 q86) hd_X0_keep ⟨by decide, by decide⟩ ⟨rfl, rfl⟩ rfl rfl hl (Nat.le_of_ble_eq_true rfl) rfl dX0_token_164 ⟨Nat.zero_le _, Nat.zero_le _⟩ (fun r w1 H locs hp N => ?_)
                  obtain ⟨rfl, k1, k2, k3, k4, rfl, hdk⟩ := hp
                  refine lv_aload_n hx hb dX0_token_167 rfl (lv_at hl 0 rfl) ?_
                  refine gA_dp S N dX0_token_168 ?_
                  exact lc_iret S hr hlk N (Or.inl ⟨hok, nI gs.length, k1, k2, k3, k4, e1, e2, e3, by rw [htok]; rfl, by rw [htok]; rfl, by rw [htok]; exact hdk⟩) dX0_token_171
                · refine lv_iload_n hx hb dX0_token_88 rfl (lv_at hl 1 rfl) ?_
                  refine lv_if_ne (tgt := 102) hx hb dX0_token_89 (by decide) (fun b0 => ?_) (fun b0 => ?_)
                  · refine lv_iload_n hx hb dX0_token_102 rfl (lv_at hl 1 rfl) ?_
                    refine lv_iconst (v := 3) hx hb dX0_token_103 (by decide) ?_
                    refine lv_icmp_ne (tgt := 129) hx hb dX0_token_104 (by decide) (fun b3 => ?_) (fun b3 => ?_)
                    · have hm := lc_has2 b0 b3 hhas
                      obtain ⟨q2, q1, ds, rfl⟩ : ∃ q2 q1 ds, docs = q2 :: q1 :: ds := by
                        match docs, hm with
                        | q2 :: q1 :: ds, _ => exact ⟨q2, q1, ds, rfl⟩
                      obtain ⟨z1, z2⟩ := hsz q2 q1 ds rfl
                      have hdl : ds.length + 2 ≤ 10 := hn
                      have z3 : code = 4 → q1.length + q2.length ≤ 64 := fun q => z2 (by have : ¬ 6 ≤ h := fun r => g4 ⟨q, r⟩; omega)
                      obtain ⟨u1, u2, u3, v1, v2, v3, hdd⟩ := hd
                      have htok : lc_tok (q2 :: q1 :: ds) code n = lc_two code q1 q2 [] :: ds := by rw [lc_tok, if_neg b0, if_neg b3]
                      have N : lc_St D d A s (wA d a (nI (t + 1)) (nI h) (nI (ds.length + 2)) (nI ([] : List lc_B).length) cn en wi la ne nw nl) H locs := N
                      refine lv_aload_n hx hb dX0_token_129 rfl (lv_at hl 0 rfl) ?_
                      refine lv_dup hx hb dX0_token_130 rfl ?_
                      refine gA_dp S N dX0_token_131 ?_
                      refine lv_iconst (v := 2) hx hb dX0_token_134 (by decide) ?_
                      refine lv_isub hx hb dX0_token_135 ?_
                      refine lc_top (nI ds.length) (pk_sub (a := ds.length + 2) (b := 2) (by omega)) ?_
                      refine pA_dp S N dX0_token_136 (fun H locs N => ?_)
                      refine lv_aload_n hx hb dX0_token_139 rfl (lv_at hl 0 rfl) ?_
                      refine lv_dup hx hb dX0_token_140 rfl ?_
                      refine gA_ch S N dX0_token_141 ?_
                      refine lv_iload_n hx hb dX0_token_144 rfl (lv_at hl 1 rfl) ?_
                      refine lv_iconst (v := 4) hx hb dX0_token_145 (by decide) ?_
                      refine lv_icmp_ne (tgt := 153) hx hb dX0_token_146 (by decide) (fun b4 => ?_) (fun b4 => ?_)
                      · refine lv_iconst (v := 0) hx hb dX0_token_153 (by decide) ?_
                        refine lv_iadd hx hb dX0_token_154 ?_
                        refine lc_top (nI (lc_chs code h)) (by rw [lc_chs, if_neg b4]; exact nI_add h 0) ?_
                        refine pA_ch S N dX0_token_155 (fun H locs N => ?_)
                        refine lv_aload_n hx hb dX0_token_158 rfl (lv_at hl 0 rfl) ?_
                        refine lv_iload_n hx hb dX0_token_159 rfl (lv_at hl 1 rfl) ?_
                        refine lc_callV (ci := 0) (kA_joinTwo l D d a (nI (t + 1)) (nI (lc_chs code h)) cn en wi la ne nw nl ds.length (by omega) q1 q2 v1 u1 v3 u3 v2 u2 code z3 z1) S N (lw_V q75 q77 qs3 q14 q78) hd_X0_joinTwo ⟨by decide, by decide⟩ ⟨rfl, rfl⟩ rfl rfl hl (Nat.le_of_ble_eq_true rfl) rfl dX0_token_160 ⟨Nat.zero_le _, Nat.zero_le _⟩ (fun r w1 H locs hp N => ?_)
                        obtain ⟨rfl, g1, g2, g3, rfl, hs2⟩ := hp
                        exact KJ _ _ _ _ ⟨rfl, ds, lc_two code q1 q2 [], g1, g2, g3, N, hl, by omega, hdd, lc_two_len z3 z1, hs2, htok⟩
                      · refine lv_iconst (v := 1) hx hb dX0_token_149 (by decide) ?_
                        refine lv_goto (tgt := 154) hx hb dX0_token_150 (by decide) ?_
                        refine lv_iadd hx hb dX0_token_154 ?_
                        refine lc_top (nI (lc_chs code h)) (by rw [lc_chs, if_pos b4]; exact nI_1 h) ?_
                        refine pA_ch S N dX0_token_155 (fun H locs N => ?_)
                        refine lv_aload_n hx hb dX0_token_158 rfl (lv_at hl 0 rfl) ?_
                        refine lv_iload_n hx hb dX0_token_159 rfl (lv_at hl 1 rfl) ?_
                        refine lc_callV (ci := 0) (kA_joinTwo l D d a (nI (t + 1)) (nI (lc_chs code h)) cn en wi la ne nw nl ds.length (by omega) q1 q2 v1 u1 v3 u3 v2 u2 code z3 z1) S N (lw_V q75 q77 qs3 q14 q78) hd_X0_joinTwo ⟨by decide, by decide⟩ ⟨rfl, rfl⟩ rfl rfl hl (Nat.le_of_ble_eq_true rfl) rfl dX0_token_160 ⟨Nat.zero_le _, Nat.zero_le _⟩ (fun r w1 H locs hp N => ?_)
                        obtain ⟨rfl, g1, g2, g3, rfl, hs2⟩ := hp
                        exact KJ _ _ _ _ ⟨rfl, ds, lc_two code q1 q2 [], g1, g2, g3, N, hl, by omega, hdd, lc_two_len z3 z1, hs2, htok⟩
                    · subst b3
                      have hm := lc_has3 hhas
                      obtain ⟨q, ds, rfl⟩ : ∃ q ds, docs = q :: ds := by
                        match docs, hm with
                        | q :: ds, _ => exact ⟨q, ds, rfl⟩
                      have hdl : ds.length + 1 ≤ 10 := hn
                      obtain ⟨u1, u2, u3, hdd⟩ := hd
                      have htok : lc_tok (q :: ds) 3 n = lc_indent n q [] :: ds := by rw [lc_tok, if_neg (by decide), if_pos rfl]
                      have hlen := lc_indent_len n q []
                      have h00 : ([] : List lc_B).length = 0 := rfl
                      have N : lc_St D d A s (wA d a (nI (t + 1)) (nI h) (nI (ds.length + 1)) (nI ([] : List lc_B).length) cn en wi la ne nw nl) H locs := N
                      refine lv_aload_n hx hb dX0_token_107 rfl (lv_at hl 0 rfl) ?_
                      refine lv_dup hx hb dX0_token_108 rfl ?_
                      refine gA_dp S N dX0_token_109 ?_
                      refine lv_iconst (v := 1) hx hb dX0_token_112 (by decide) ?_
                      refine lv_isub hx hb dX0_token_113 ?_
                      refine lc_top (nI ds.length) (nI_pred _) ?_
                      refine pA_dp S N dX0_token_114 (fun H locs N => ?_)
                      refine lv_aload_n hx hb dX0_token_117 rfl (lv_at hl 0 rfl) ?_
                      refine lv_aload_n hx hb dX0_token_118 rfl (lv_at hl 0 rfl) ?_
                      refine gA_dp S N dX0_token_119 ?_
                      refine lv_iload_n hx hb dX0_token_122 rfl (lv_at hl 2 rfl) ?_
                      refine lc_callV (ci := 0) (kA_indent l D d a (nI (t + 1)) (nI h) (nI ds.length) cn en wi la ne nw nl ds.length (by omega) q u1 u3 [] lc_seg_nil (by omega) n) S N (lw_V q71 q73 qs2 q14 q74) hd_X0_indent ⟨by decide, by decide⟩ ⟨rfl, rfl⟩ rfl rfl hl (Nat.le_of_ble_eq_true rfl) rfl dX0_token_123 ⟨Nat.zero_le _, Nat.zero_le _⟩ (fun r w1 H locs hp N => ?_)
                      obtain ⟨rfl, g1, g2, g3, rfl, hs2⟩ := hp
                      refine lv_goto (tgt := 163) hx hb dX0_token_126 (by decide) ?_
                      exact KJ _ _ _ _ ⟨rfl, ds, lc_indent n q [], g1, g2, g3, N, hl, by omega, hdd, by omega, hs2, htok⟩
                  · subst b0
                    have hm := lc_has0 hhas
                    have htok : lc_tok docs 0 n = [(0, n, n)] :: docs := by unfold lc_tok; exact if_pos rfl
                    refine lv_aload_n hx hb dX0_token_92 rfl (lv_at hl 0 rfl) ?_
                    refine lv_iconst (v := 0) hx hb dX0_token_93 (by decide) ?_
                    refine lv_iload_n hx hb dX0_token_94 rfl (lv_at hl 2 rfl) ?_
                    refine lv_iload_n hx hb dX0_token_95 rfl (lv_at hl 2 rfl) ?_
                    refine lc_callV (ci := 0) (kA_gather l D d a (nI (t + 1)) (nI h) (nI docs.length) cn en wi la ne nw nl [] (0, n, n) (by decide) lc_seg_nil) S N (lw_V q67 q69 qs1 q14 q70) hd_X0_gather ⟨by decide, by decide⟩ ⟨rfl, rfl⟩ rfl rfl hl (Nat.le_of_ble_eq_true rfl) rfl dX0_token_96 ⟨Nat.zero_le _, Nat.zero_le _⟩ (fun r w1 H locs hp N => ?_)
                    obtain ⟨rfl, g1, g2, g3, rfl, hs2⟩ := hp
                    refine lv_goto (tgt := 163) hx hb dX0_token_99 (by decide) ?_
                    exact KJ _ _ _ _ ⟨rfl, docs, [(0, n, n)], g1, g2, g3, N, hl, hm, hd, Nat.le_of_ble_eq_true rfl, hs2, htok⟩
              · refine lv_iload_n hx hb dX0_token_57 rfl (lv_at hl 1 rfl) ?_
                refine lv_iconst (v := 4) hx hb dX0_token_58 (by decide) ?_
                refine lv_icmp_ne (tgt := 73) hx hb dX0_token_59 (by decide) (fun e1 => ?_) (fun e1 => ?_)
                · exact K73 _ _ _ _ ⟨rfl, N, hl, fun q => e1 q.1⟩
                · refine lv_aload_n hx hb dX0_token_62 rfl (lv_at hl 0 rfl) ?_
                  refine gA_ch S N dX0_token_63 ?_
                  refine lv_bipush (v := 6) hx hb dX0_token_66 (by decide) ?_
                  refine lv_icmp_lt (tgt := 73) hx hb dX0_token_68 (by decide) (fun e2 => ?_) (fun e2 => ?_)
                  · have hh2 : h < 6 := (nI_ltI (a := h) (b := 6) (by omega) (by omega)).mp e2
                    exact K73 _ _ _ _ ⟨rfl, N, hl, fun q => by omega⟩
                  · have hh2 : ¬ h < 6 := fun q => e2 ((nI_ltI (a := h) (b := 6) (by omega) (by omega)).mpr q)
                    refine lv_iconst (v := (-1)) hx hb dX0_token_71 (by decide) ?_
                    exact lc_iret S hr hlk N (Or.inr ⟨fun q => q.2.2.2.2.2.2 ⟨e1, by omega⟩, rfl, rfl⟩) dX0_token_72
            · refine lv_iload_n hx hb dX0_token_42 rfl (lv_at hl 1 rfl) ?_
              refine lv_iconst (v := 3) hx hb dX0_token_43 (by decide) ?_
              refine lv_icmp_ne (tgt := 57) hx hb dX0_token_44 (by decide) (fun e1 => ?_) (fun e1 => ?_)
              · exact K57 _ _ _ _ ⟨rfl, N, hl, fun q => e1 q.1⟩
              · refine lv_iload_n hx hb dX0_token_47 rfl (lv_at hl 2 rfl) ?_
                refine lv_if_lt (tgt := 71) hx hb dX0_token_48 (by decide) (fun e2 => ?_) (fun e2 => ?_)
                · refine lv_iconst (v := (-1)) hx hb dX0_token_71 (by decide) ?_
                  exact lc_iret S hr hlk N (Or.inr ⟨fun q => q.2.2.2.2.2.1 ⟨e1, Or.inl e2⟩, rfl, rfl⟩) dX0_token_72
                · refine lv_iload_n hx hb dX0_token_51 rfl (lv_at hl 2 rfl) ?_
                  refine lv_bipush (v := 20) hx hb dX0_token_52 (by decide) ?_
                  refine lv_icmp_gt (tgt := 71) hx hb dX0_token_54 (by decide) (fun e3 => ?_) (fun e3 => ?_)
                  · refine lv_iconst (v := (-1)) hx hb dX0_token_71 (by decide) ?_
                    exact lc_iret S hr hlk N (Or.inr ⟨fun q => q.2.2.2.2.2.1 ⟨e1, Or.inr e3⟩, rfl, rfl⟩) dX0_token_72
                  · exact K57 _ _ _ _ ⟨rfl, N, hl, fun q => q.2.elim e2 e3⟩
          · refine lv_iload_n hx hb dX0_token_28 rfl (lv_at hl 1 rfl) ?_
            refine lv_if_ne (tgt := 42) hx hb dX0_token_29 (by decide) (fun e1 => ?_) (fun e1 => ?_)
            · exact K42 _ _ _ _ ⟨rfl, N, hl, fun q => e1 q.1⟩
            · refine lv_iload_n hx hb dX0_token_32 rfl (lv_at hl 2 rfl) ?_
              refine lv_if_lt (tgt := 71) hx hb dX0_token_33 (by decide) (fun e2 => ?_) (fun e2 => ?_)
              · refine lv_iconst (v := (-1)) hx hb dX0_token_71 (by decide) ?_
                exact lc_iret S hr hlk N (Or.inr ⟨fun q => q.2.2.2.2.1 ⟨e1, Or.inl e2⟩, rfl, rfl⟩) dX0_token_72
              · refine lv_iload_n hx hb dX0_token_36 rfl (lv_at hl 2 rfl) ?_
                refine lv_bipush (v := 40) hx hb dX0_token_37 (by decide) ?_
                refine lv_icmp_gt (tgt := 71) hx hb dX0_token_39 (by decide) (fun e3 => ?_) (fun e3 => ?_)
                · refine lv_iconst (v := (-1)) hx hb dX0_token_71 (by decide) ?_
                  exact lc_iret S hr hlk N (Or.inr ⟨fun q => q.2.2.2.2.1 ⟨e1, Or.inr e3⟩, rfl, rfl⟩) dX0_token_72
                · exact K42 _ _ _ _ ⟨rfl, N, hl, fun q => q.2.elim e2 e3⟩
        · have hhas : ¬ lc_has code docs.length = true := by
            intro hq; rw [hq] at c4; exact absurd c4 (by decide)
          refine lv_iconst (v := (-1)) hx hb dX0_token_26 (by decide) ?_
          exact lc_iret S hr hlk N (Or.inr ⟨fun q => hhas q.2.2.2.1, rfl, rfl⟩) dX0_token_27
section LCN
variable {p : Program} {l : Launch} {e : Env} {R : Room} {s : State} {m : MethodId} {args : Array Value} {below : List Frame} {meth : Method} {c : Code} {H : Heap} {locs : List Loc} {cells slots : Nat} {Q : State → Prop}
variable {cc : ByteArray} {pc nL : Nat} {ls : Array Slot} {rest : List Value} {D : va_G} {d : ClassId} {A : Nat → Prop} {ws : va_W} {own : String}
/-- a new array of ints -/
theorem lc_newa {n : Int32} {N' : Nat} (S : CallFix p m c cc nL s args lw_all own) (N : lc_St D d A s ws H locs) (hn : ¬ n < 0) (hN : n.toNatClampNeg = N') (hbytes : N' * componentBytes .int ≤ 536870912) (hcells : cells + 1 ≤ R.cells) (hslots : slots + N' ≤ R.slots) (hdg : decode cc pc = .ok (.newarray .int, 2))
    (kk : ∀ (q : Nat) (H : Heap), lc_St D d A s (ws ++ [(q, .inl (d, N', .inl (fun _ => 0)))]) H locs → W p l e R s m args below meth c H locs (cells + 1) (slots + N') Q (F0 m (pc + 2) ls (.ref q :: rest))) : W p l e R s m args below meth c H locs cells slots Q (F0 m pc ls (.int n :: rest)) := by
  refine va_newa (atype := .int) (ty := .int) (a0 := (N', .inl (fun _ => 0))) S.1 S.2.1 (S.2.2.2.2 _ q58) rfl N.1 N.2.1 N.2.2.1 N.2.2.2.1 N.2.2.2.2 (fun _ => rfl) hn hN hbytes hcells hslots hdg ?_
  intro q cA H1 hK hP hD hS
  have e1 := va_nm_int (N.1.2 0 (d, .int) rfl).2
  have e2 := va_nm_int (hK.2 1 (cA, .int) rfl).2
  have e3 : cA = d := Option.some.inj (e2.symm.trans e1)
  rw [e3] at hP hD
  exact kk q H1 ⟨N.1, hP, hD, hS, N.2.2.2.2⟩
end LCN
/-- eight, nine addresses by their numbers -/
def lc_ad (l : List Nat) : Nat → Nat := fun k => l.getD k 0
set_option maxHeartbeats 4000000 in
set_option maxRecDepth 100000 in
/-- the constructor -/
theorem kA_init (l : Launch) (D : va_G) (d : ClassId) (h0 : Nat) : lc_K l D d yX0_init cX0_init 1 none { frames := 1, cells := 7, slots := 2125, locals := 12 } [.ref h0] [(h0, .inr (0, [.int 0, .int 0, .int 0, .null, .null, .null, .null, .int 0, .null, .null, .null]))] (fun r w' => r = none ∧ ∃ a : Nat → Nat, a 0 = h0 ∧ w' = wA d a 0 0 0 0 (fun _ => 0) (fun _ => 0) (fun _ => 0) (fun _ => 0) (fun _ => 0) (fun _ => 0) (fun _ => 0)) := by
  refine lc_K.of (by decide) (Nat.le_of_ble_eq_true rfl) (fun p e s m below meth c A ls S hr hlk hnm N hl => ?_)
  have S : CallFix p m c cX0_init 1 s _ lw_all RX0 := S
  have hx := S.1
  have hb := S.2.1
  have hin : meth.name = "<init>" := hnm
  have hl : lv_has ls 1 [(0, .ref h0)] := hl
  refine lv_aload_n hx hb dX0_init_0 rfl (lv_at hl 0 rfl) ?_
  refine W.objInit hx hb S.2.2.2.1 (S.2.2.2.2 _ q21) (S.2.2.2.2 _ q22) (S.2.2.2.2 _ q23) rfl (by rw [S.2.2.1]; exact hl.1) rfl dX0_init_1 (Nat.le_of_ble_eq_true rfl) (Nat.le_of_ble_eq_true rfl) ?_
  refine W.eq (g2 := F0 m 4 ls []) rfl ?_
  refine lv_aload_n hx hb dX0_init_4 rfl (lv_at hl 0 rfl) ?_
  refine lv_bipush (v := 10) hx hb dX0_init_5 (by decide) ?_
  refine lc_newa (N' := 10) S N (by decide) (by decide) (by decide) (Nat.le_of_ble_eq_true rfl) (Nat.le_of_ble_eq_true rfl) dX0_init_7 (fun q1 H N => ?_)
  have N : lc_St D d A s [(h0, .inr (0, [.int 0, .int 0, .int 0, .null, .null, .null, .null, .int 0, .null, .null, .null])), (q1, .inl (d, 10, .inl (fun _ => 0)))] H _ := N
  refine va_putF (D := D) (ci := 0) (v := .ref q1) (ty := .array .int) (C := RX0) (T := TX0) (N := 11) hx hb S.2.2.2.2 in_X0 tyX0 tyX0_ok nmX0 S.2.2.2.1 N.1 N.2.1 N.2.2.1 N.2.2.2.1 0 rfl rfl 3 (by decide) (S.2.2.2.2 _ q27) (fun _ h9 => h9) rfl hin rfl (by decide +kernel) rfl rfl (Nat.le_of_ble_eq_true rfl) dX0_init_9 (fun H locs hP hD hS => ?_)
  have N : lc_St D d A s [(h0, .inr (0, [.int 0, .int 0, .int 0, .ref q1, .null, .null, .null, .int 0, .null, .null, .null])), (q1, .inl (d, 10, .inl (fun _ => 0)))] H locs := ⟨N.1, hP, hD, hS, N.2.2.2.2⟩
  refine lv_aload_n hx hb dX0_init_12 rfl (lv_at hl 0 rfl) ?_
  refine lv_sipush (v := 640) hx hb dX0_init_13 (by decide) ?_
  refine lc_newa (N' := 640) S N (by decide) (by decide) (by decide) (Nat.le_of_ble_eq_true rfl) (Nat.le_of_ble_eq_true rfl) dX0_init_16 (fun q2 H N => ?_)
  have N : lc_St D d A s [(h0, .inr (0, [.int 0, .int 0, .int 0, .ref q1, .null, .null, .null, .int 0, .null, .null, .null])), (q1, .inl (d, 10, .inl (fun _ => 0))), (q2, .inl (d, 640, .inl (fun _ => 0)))] H _ := N
  refine va_putF (D := D) (ci := 0) (v := .ref q2) (ty := .array .int) (C := RX0) (T := TX0) (N := 11) hx hb S.2.2.2.2 in_X0 tyX0 tyX0_ok nmX0 S.2.2.2.1 N.1 N.2.1 N.2.2.1 N.2.2.2.1 0 rfl rfl 4 (by decide) (S.2.2.2.2 _ q28) (fun _ h9 => h9) rfl hin rfl (by decide +kernel) rfl rfl (Nat.le_of_ble_eq_true rfl) dX0_init_18 (fun H locs hP hD hS => ?_)
  have N : lc_St D d A s [(h0, .inr (0, [.int 0, .int 0, .int 0, .ref q1, .ref q2, .null, .null, .int 0, .null, .null, .null])), (q1, .inl (d, 10, .inl (fun _ => 0))), (q2, .inl (d, 640, .inl (fun _ => 0)))] H locs := ⟨N.1, hP, hD, hS, N.2.2.2.2⟩
  refine lv_aload_n hx hb dX0_init_21 rfl (lv_at hl 0 rfl) ?_
  refine lv_sipush (v := 640) hx hb dX0_init_22 (by decide) ?_
  refine lc_newa (N' := 640) S N (by decide) (by decide) (by decide) (Nat.le_of_ble_eq_true rfl) (Nat.le_of_ble_eq_true rfl) dX0_init_25 (fun q3 H N => ?_)
  have N : lc_St D d A s [(h0, .inr (0, [.int 0, .int 0, .int 0, .ref q1, .ref q2, .null, .null, .int 0, .null, .null, .null])), (q1, .inl (d, 10, .inl (fun _ => 0))), (q2, .inl (d, 640, .inl (fun _ => 0))), (q3, .inl (d, 640, .inl (fun _ => 0)))] H _ := N
  refine va_putF (D := D) (ci := 0) (v := .ref q3) (ty := .array .int) (C := RX0) (T := TX0) (N := 11) hx hb S.2.2.2.2 in_X0 tyX0 tyX0_ok nmX0 S.2.2.2.1 N.1 N.2.1 N.2.2.1 N.2.2.2.1 0 rfl rfl 5 (by decide) (S.2.2.2.2 _ q29) (fun _ h9 => h9) rfl hin rfl (by decide +kernel) rfl rfl (Nat.le_of_ble_eq_true rfl) dX0_init_27 (fun H locs hP hD hS => ?_)
  have N : lc_St D d A s [(h0, .inr (0, [.int 0, .int 0, .int 0, .ref q1, .ref q2, .ref q3, .null, .int 0, .null, .null, .null])), (q1, .inl (d, 10, .inl (fun _ => 0))), (q2, .inl (d, 640, .inl (fun _ => 0))), (q3, .inl (d, 640, .inl (fun _ => 0)))] H locs := ⟨N.1, hP, hD, hS, N.2.2.2.2⟩
  refine lv_aload_n hx hb dX0_init_30 rfl (lv_at hl 0 rfl) ?_
  refine lv_sipush (v := 640) hx hb dX0_init_31 (by decide) ?_
  refine lc_newa (N' := 640) S N (by decide) (by decide) (by decide) (Nat.le_of_ble_eq_true rfl) (Nat.le_of_ble_eq_true rfl) dX0_init_34 (fun q4 H N => ?_)
  have N : lc_St D d A s [(h0, .inr (0, [.int 0, .int 0, .int 0, .ref q1, .ref q2, .ref q3, .null, .int 0, .null, .null, .null])), (q1, .inl (d, 10, .inl (fun _ => 0))), (q2, .inl (d, 640, .inl (fun _ => 0))), (q3, .inl (d, 640, .inl (fun _ => 0))), (q4, .inl (d, 640, .inl (fun _ => 0)))] H _ := N
  refine va_putF (D := D) (ci := 0) (v := .ref q4) (ty := .array .int) (C := RX0) (T := TX0) (N := 11) hx hb S.2.2.2.2 in_X0 tyX0 tyX0_ok nmX0 S.2.2.2.1 N.1 N.2.1 N.2.2.1 N.2.2.2.1 0 rfl rfl 6 (by decide) (S.2.2.2.2 _ q30) (fun _ h9 => h9) rfl hin rfl (by decide +kernel) rfl rfl (Nat.le_of_ble_eq_true rfl) dX0_init_36 (fun H locs hP hD hS => ?_)
  have N : lc_St D d A s [(h0, .inr (0, [.int 0, .int 0, .int 0, .ref q1, .ref q2, .ref q3, .ref q4, .int 0, .null, .null, .null])), (q1, .inl (d, 10, .inl (fun _ => 0))), (q2, .inl (d, 640, .inl (fun _ => 0))), (q3, .inl (d, 640, .inl (fun _ => 0))), (q4, .inl (d, 640, .inl (fun _ => 0)))] H locs := ⟨N.1, hP, hD, hS, N.2.2.2.2⟩
  refine lv_aload_n hx hb dX0_init_39 rfl (lv_at hl 0 rfl) ?_
  refine lv_bipush (v := 65) hx hb dX0_init_40 (by decide) ?_
  refine lc_newa (N' := 65) S N (by decide) (by decide) (by decide) (Nat.le_of_ble_eq_true rfl) (Nat.le_of_ble_eq_true rfl) dX0_init_42 (fun q5 H N => ?_)
  have N : lc_St D d A s [(h0, .inr (0, [.int 0, .int 0, .int 0, .ref q1, .ref q2, .ref q3, .ref q4, .int 0, .null, .null, .null])), (q1, .inl (d, 10, .inl (fun _ => 0))), (q2, .inl (d, 640, .inl (fun _ => 0))), (q3, .inl (d, 640, .inl (fun _ => 0))), (q4, .inl (d, 640, .inl (fun _ => 0))), (q5, .inl (d, 65, .inl (fun _ => 0)))] H _ := N
  refine va_putF (D := D) (ci := 0) (v := .ref q5) (ty := .array .int) (C := RX0) (T := TX0) (N := 11) hx hb S.2.2.2.2 in_X0 tyX0 tyX0_ok nmX0 S.2.2.2.1 N.1 N.2.1 N.2.2.1 N.2.2.2.1 0 rfl rfl 8 (by decide) (S.2.2.2.2 _ q32) (fun _ h9 => h9) rfl hin rfl (by decide +kernel) rfl rfl (Nat.le_of_ble_eq_true rfl) dX0_init_44 (fun H locs hP hD hS => ?_)
  have N : lc_St D d A s [(h0, .inr (0, [.int 0, .int 0, .int 0, .ref q1, .ref q2, .ref q3, .ref q4, .int 0, .ref q5, .null, .null])), (q1, .inl (d, 10, .inl (fun _ => 0))), (q2, .inl (d, 640, .inl (fun _ => 0))), (q3, .inl (d, 640, .inl (fun _ => 0))), (q4, .inl (d, 640, .inl (fun _ => 0))), (q5, .inl (d, 65, .inl (fun _ => 0)))] H locs := ⟨N.1, hP, hD, hS, N.2.2.2.2⟩
  refine lv_aload_n hx hb dX0_init_47 rfl (lv_at hl 0 rfl) ?_
  refine lv_bipush (v := 65) hx hb dX0_init_48 (by decide) ?_
  refine lc_newa (N' := 65) S N (by decide) (by decide) (by decide) (Nat.le_of_ble_eq_true rfl) (Nat.le_of_ble_eq_true rfl) dX0_init_50 (fun q6 H N => ?_)
  have N : lc_St D d A s [(h0, .inr (0, [.int 0, .int 0, .int 0, .ref q1, .ref q2, .ref q3, .ref q4, .int 0, .ref q5, .null, .null])), (q1, .inl (d, 10, .inl (fun _ => 0))), (q2, .inl (d, 640, .inl (fun _ => 0))), (q3, .inl (d, 640, .inl (fun _ => 0))), (q4, .inl (d, 640, .inl (fun _ => 0))), (q5, .inl (d, 65, .inl (fun _ => 0))), (q6, .inl (d, 65, .inl (fun _ => 0)))] H _ := N
  refine va_putF (D := D) (ci := 0) (v := .ref q6) (ty := .array .int) (C := RX0) (T := TX0) (N := 11) hx hb S.2.2.2.2 in_X0 tyX0 tyX0_ok nmX0 S.2.2.2.1 N.1 N.2.1 N.2.2.1 N.2.2.2.1 0 rfl rfl 9 (by decide) (S.2.2.2.2 _ q33) (fun _ h9 => h9) rfl hin rfl (by decide +kernel) rfl rfl (Nat.le_of_ble_eq_true rfl) dX0_init_52 (fun H locs hP hD hS => ?_)
  have N : lc_St D d A s [(h0, .inr (0, [.int 0, .int 0, .int 0, .ref q1, .ref q2, .ref q3, .ref q4, .int 0, .ref q5, .ref q6, .null])), (q1, .inl (d, 10, .inl (fun _ => 0))), (q2, .inl (d, 640, .inl (fun _ => 0))), (q3, .inl (d, 640, .inl (fun _ => 0))), (q4, .inl (d, 640, .inl (fun _ => 0))), (q5, .inl (d, 65, .inl (fun _ => 0))), (q6, .inl (d, 65, .inl (fun _ => 0)))] H locs := ⟨N.1, hP, hD, hS, N.2.2.2.2⟩
  refine lv_aload_n hx hb dX0_init_55 rfl (lv_at hl 0 rfl) ?_
  refine lv_bipush (v := 65) hx hb dX0_init_56 (by decide) ?_
  refine lc_newa (N' := 65) S N (by decide) (by decide) (by decide) (Nat.le_of_ble_eq_true rfl) (Nat.le_of_ble_eq_true rfl) dX0_init_58 (fun q7 H N => ?_)
  have N : lc_St D d A s [(h0, .inr (0, [.int 0, .int 0, .int 0, .ref q1, .ref q2, .ref q3, .ref q4, .int 0, .ref q5, .ref q6, .null])), (q1, .inl (d, 10, .inl (fun _ => 0))), (q2, .inl (d, 640, .inl (fun _ => 0))), (q3, .inl (d, 640, .inl (fun _ => 0))), (q4, .inl (d, 640, .inl (fun _ => 0))), (q5, .inl (d, 65, .inl (fun _ => 0))), (q6, .inl (d, 65, .inl (fun _ => 0))), (q7, .inl (d, 65, .inl (fun _ => 0)))] H _ := N
  refine va_putF (D := D) (ci := 0) (v := .ref q7) (ty := .array .int) (C := RX0) (T := TX0) (N := 11) hx hb S.2.2.2.2 in_X0 tyX0 tyX0_ok nmX0 S.2.2.2.1 N.1 N.2.1 N.2.2.1 N.2.2.2.1 0 rfl rfl 10 (by decide) (S.2.2.2.2 _ q34) (fun _ h9 => h9) rfl hin rfl (by decide +kernel) rfl rfl (Nat.le_of_ble_eq_true rfl) dX0_init_60 (fun H locs hP hD hS => ?_)
  have N : lc_St D d A s [(h0, .inr (0, [.int 0, .int 0, .int 0, .ref q1, .ref q2, .ref q3, .ref q4, .int 0, .ref q5, .ref q6, .ref q7])), (q1, .inl (d, 10, .inl (fun _ => 0))), (q2, .inl (d, 640, .inl (fun _ => 0))), (q3, .inl (d, 640, .inl (fun _ => 0))), (q4, .inl (d, 640, .inl (fun _ => 0))), (q5, .inl (d, 65, .inl (fun _ => 0))), (q6, .inl (d, 65, .inl (fun _ => 0))), (q7, .inl (d, 65, .inl (fun _ => 0)))] H locs := ⟨N.1, hP, hD, hS, N.2.2.2.2⟩
  exact lc_vret S hr hlk N ⟨rfl, lc_ad [h0, q1, q2, q3, q4, q5, q6, q7], rfl, rfl⟩ dX0_init_63
set_option maxHeartbeats 4000000 in
set_option maxRecDepth 100000 in
/-- the constructor -/
theorem kB_init (l : Launch) (D : va_G) (d : ClassId) (h0 : Nat) : lc_K l D d yX1_init cX1_init 1 none { frames := 1, cells := 8, slots := 321, locals := 12 } [.ref h0] [(h0, .inr (1, [.int 0, .null, .null, .int 0, .int 0, .int 0, .null, .null, .null, .null, .null, .null]))] (fun r w' => r = none ∧ ∃ a : Nat → Nat, a 0 = h0 ∧ w' = wB d a 0 0 0 0 (fun _ => 0) (fun _ => 0) (fun _ => 0) (fun _ => 0) (fun _ => 0) (fun _ => 0) (fun _ => 0) (fun _ => 0)) := by
  refine lc_K.of (by decide) (Nat.le_of_ble_eq_true rfl) (fun p e s m below meth c A ls S hr hlk hnm N hl => ?_)
  have S : CallFix p m c cX1_init 1 s _ lw_all RX1 := S
  have hx := S.1
  have hb := S.2.1
  have hin : meth.name = "<init>" := hnm
  have hl : lv_has ls 1 [(0, .ref h0)] := hl
  refine lv_aload_n hx hb dX1_init_0 rfl (lv_at hl 0 rfl) ?_
  refine W.objInit hx hb S.2.2.2.1 (S.2.2.2.2 _ q120) (S.2.2.2.2 _ q22) (S.2.2.2.2 _ q23) rfl (by rw [S.2.2.1]; exact hl.1) rfl dX1_init_1 (Nat.le_of_ble_eq_true rfl) (Nat.le_of_ble_eq_true rfl) ?_
  refine W.eq (g2 := F0 m 4 ls []) rfl ?_
  refine lv_aload_n hx hb dX1_init_4 rfl (lv_at hl 0 rfl) ?_
  refine lv_bipush (v := 48) hx hb dX1_init_5 (by decide) ?_
  refine lc_newa (N' := 48) S N (by decide) (by decide) (by decide) (Nat.le_of_ble_eq_true rfl) (Nat.le_of_ble_eq_true rfl) dX1_init_7 (fun q1 H N => ?_)
  have N : lc_St D d A s [(h0, .inr (1, [.int 0, .null, .null, .int 0, .int 0, .int 0, .null, .null, .null, .null, .null, .null])), (q1, .inl (d, 48, .inl (fun _ => 0)))] H _ := N
  refine va_putF (D := D) (ci := 1) (v := .ref q1) (ty := .array .int) (C := RX1) (T := TX1) (N := 12) hx hb S.2.2.2.2 in_X1 tyX1 tyX1_ok nmX1 S.2.2.2.1 N.1 N.2.1 N.2.2.1 N.2.2.2.1 0 rfl rfl 1 (by decide) (S.2.2.2.2 _ q122) (fun _ h9 => h9) rfl hin rfl (by decide +kernel) rfl rfl (Nat.le_of_ble_eq_true rfl) dX1_init_9 (fun H locs hP hD hS => ?_)
  have N : lc_St D d A s [(h0, .inr (1, [.int 0, .ref q1, .null, .int 0, .int 0, .int 0, .null, .null, .null, .null, .null, .null])), (q1, .inl (d, 48, .inl (fun _ => 0)))] H locs := ⟨N.1, hP, hD, hS, N.2.2.2.2⟩
  refine lv_aload_n hx hb dX1_init_12 rfl (lv_at hl 0 rfl) ?_
  refine lv_bipush (v := 48) hx hb dX1_init_13 (by decide) ?_
  refine lc_newa (N' := 48) S N (by decide) (by decide) (by decide) (Nat.le_of_ble_eq_true rfl) (Nat.le_of_ble_eq_true rfl) dX1_init_15 (fun q2 H N => ?_)
  have N : lc_St D d A s [(h0, .inr (1, [.int 0, .ref q1, .null, .int 0, .int 0, .int 0, .null, .null, .null, .null, .null, .null])), (q1, .inl (d, 48, .inl (fun _ => 0))), (q2, .inl (d, 48, .inl (fun _ => 0)))] H _ := N
  refine va_putF (D := D) (ci := 1) (v := .ref q2) (ty := .array .int) (C := RX1) (T := TX1) (N := 12) hx hb S.2.2.2.2 in_X1 tyX1 tyX1_ok nmX1 S.2.2.2.1 N.1 N.2.1 N.2.2.1 N.2.2.2.1 0 rfl rfl 2 (by decide) (S.2.2.2.2 _ q123) (fun _ h9 => h9) rfl hin rfl (by decide +kernel) rfl rfl (Nat.le_of_ble_eq_true rfl) dX1_init_17 (fun H locs hP hD hS => ?_)
  have N : lc_St D d A s [(h0, .inr (1, [.int 0, .ref q1, .ref q2, .int 0, .int 0, .int 0, .null, .null, .null, .null, .null, .null])), (q1, .inl (d, 48, .inl (fun _ => 0))), (q2, .inl (d, 48, .inl (fun _ => 0)))] H locs := ⟨N.1, hP, hD, hS, N.2.2.2.2⟩
  refine lv_aload_n hx hb dX1_init_20 rfl (lv_at hl 0 rfl) ?_
  refine lv_bipush (v := 11) hx hb dX1_init_21 (by decide) ?_
  refine lc_newa (N' := 11) S N (by decide) (by decide) (by decide) (Nat.le_of_ble_eq_true rfl) (Nat.le_of_ble_eq_true rfl) dX1_init_23 (fun q3 H N => ?_)
  have N : lc_St D d A s [(h0, .inr (1, [.int 0, .ref q1, .ref q2, .int 0, .int 0, .int 0, .null, .null, .null, .null, .null, .null])), (q1, .inl (d, 48, .inl (fun _ => 0))), (q2, .inl (d, 48, .inl (fun _ => 0))), (q3, .inl (d, 11, .inl (fun _ => 0)))] H _ := N
  refine va_putF (D := D) (ci := 1) (v := .ref q3) (ty := .array .int) (C := RX1) (T := TX1) (N := 12) hx hb S.2.2.2.2 in_X1 tyX1 tyX1_ok nmX1 S.2.2.2.1 N.1 N.2.1 N.2.2.1 N.2.2.2.1 0 rfl rfl 6 (by decide) (S.2.2.2.2 _ q127) (fun _ h9 => h9) rfl hin rfl (by decide +kernel) rfl rfl (Nat.le_of_ble_eq_true rfl) dX1_init_25 (fun H locs hP hD hS => ?_)
  have N : lc_St D d A s [(h0, .inr (1, [.int 0, .ref q1, .ref q2, .int 0, .int 0, .int 0, .ref q3, .null, .null, .null, .null, .null])), (q1, .inl (d, 48, .inl (fun _ => 0))), (q2, .inl (d, 48, .inl (fun _ => 0))), (q3, .inl (d, 11, .inl (fun _ => 0)))] H locs := ⟨N.1, hP, hD, hS, N.2.2.2.2⟩
  refine lv_aload_n hx hb dX1_init_28 rfl (lv_at hl 0 rfl) ?_
  refine lv_bipush (v := 11) hx hb dX1_init_29 (by decide) ?_
  refine lc_newa (N' := 11) S N (by decide) (by decide) (by decide) (Nat.le_of_ble_eq_true rfl) (Nat.le_of_ble_eq_true rfl) dX1_init_31 (fun q4 H N => ?_)
  have N : lc_St D d A s [(h0, .inr (1, [.int 0, .ref q1, .ref q2, .int 0, .int 0, .int 0, .ref q3, .null, .null, .null, .null, .null])), (q1, .inl (d, 48, .inl (fun _ => 0))), (q2, .inl (d, 48, .inl (fun _ => 0))), (q3, .inl (d, 11, .inl (fun _ => 0))), (q4, .inl (d, 11, .inl (fun _ => 0)))] H _ := N
  refine va_putF (D := D) (ci := 1) (v := .ref q4) (ty := .array .int) (C := RX1) (T := TX1) (N := 12) hx hb S.2.2.2.2 in_X1 tyX1 tyX1_ok nmX1 S.2.2.2.1 N.1 N.2.1 N.2.2.1 N.2.2.2.1 0 rfl rfl 7 (by decide) (S.2.2.2.2 _ q128) (fun _ h9 => h9) rfl hin rfl (by decide +kernel) rfl rfl (Nat.le_of_ble_eq_true rfl) dX1_init_33 (fun H locs hP hD hS => ?_)
  have N : lc_St D d A s [(h0, .inr (1, [.int 0, .ref q1, .ref q2, .int 0, .int 0, .int 0, .ref q3, .ref q4, .null, .null, .null, .null])), (q1, .inl (d, 48, .inl (fun _ => 0))), (q2, .inl (d, 48, .inl (fun _ => 0))), (q3, .inl (d, 11, .inl (fun _ => 0))), (q4, .inl (d, 11, .inl (fun _ => 0)))] H locs := ⟨N.1, hP, hD, hS, N.2.2.2.2⟩
  refine lv_aload_n hx hb dX1_init_36 rfl (lv_at hl 0 rfl) ?_
  refine lv_bipush (v := 11) hx hb dX1_init_37 (by decide) ?_
  refine lc_newa (N' := 11) S N (by decide) (by decide) (by decide) (Nat.le_of_ble_eq_true rfl) (Nat.le_of_ble_eq_true rfl) dX1_init_39 (fun q5 H N => ?_)
  have N : lc_St D d A s [(h0, .inr (1, [.int 0, .ref q1, .ref q2, .int 0, .int 0, .int 0, .ref q3, .ref q4, .null, .null, .null, .null])), (q1, .inl (d, 48, .inl (fun _ => 0))), (q2, .inl (d, 48, .inl (fun _ => 0))), (q3, .inl (d, 11, .inl (fun _ => 0))), (q4, .inl (d, 11, .inl (fun _ => 0))), (q5, .inl (d, 11, .inl (fun _ => 0)))] H _ := N
  refine va_putF (D := D) (ci := 1) (v := .ref q5) (ty := .array .int) (C := RX1) (T := TX1) (N := 12) hx hb S.2.2.2.2 in_X1 tyX1 tyX1_ok nmX1 S.2.2.2.1 N.1 N.2.1 N.2.2.1 N.2.2.2.1 0 rfl rfl 8 (by decide) (S.2.2.2.2 _ q129) (fun _ h9 => h9) rfl hin rfl (by decide +kernel) rfl rfl (Nat.le_of_ble_eq_true rfl) dX1_init_41 (fun H locs hP hD hS => ?_)
  have N : lc_St D d A s [(h0, .inr (1, [.int 0, .ref q1, .ref q2, .int 0, .int 0, .int 0, .ref q3, .ref q4, .ref q5, .null, .null, .null])), (q1, .inl (d, 48, .inl (fun _ => 0))), (q2, .inl (d, 48, .inl (fun _ => 0))), (q3, .inl (d, 11, .inl (fun _ => 0))), (q4, .inl (d, 11, .inl (fun _ => 0))), (q5, .inl (d, 11, .inl (fun _ => 0)))] H locs := ⟨N.1, hP, hD, hS, N.2.2.2.2⟩
  refine lv_aload_n hx hb dX1_init_44 rfl (lv_at hl 0 rfl) ?_
  refine lv_bipush (v := 64) hx hb dX1_init_45 (by decide) ?_
  refine lc_newa (N' := 64) S N (by decide) (by decide) (by decide) (Nat.le_of_ble_eq_true rfl) (Nat.le_of_ble_eq_true rfl) dX1_init_47 (fun q6 H N => ?_)
  have N : lc_St D d A s [(h0, .inr (1, [.int 0, .ref q1, .ref q2, .int 0, .int 0, .int 0, .ref q3, .ref q4, .ref q5, .null, .null, .null])), (q1, .inl (d, 48, .inl (fun _ => 0))), (q2, .inl (d, 48, .inl (fun _ => 0))), (q3, .inl (d, 11, .inl (fun _ => 0))), (q4, .inl (d, 11, .inl (fun _ => 0))), (q5, .inl (d, 11, .inl (fun _ => 0))), (q6, .inl (d, 64, .inl (fun _ => 0)))] H _ := N
  refine va_putF (D := D) (ci := 1) (v := .ref q6) (ty := .array .int) (C := RX1) (T := TX1) (N := 12) hx hb S.2.2.2.2 in_X1 tyX1 tyX1_ok nmX1 S.2.2.2.1 N.1 N.2.1 N.2.2.1 N.2.2.2.1 0 rfl rfl 9 (by decide) (S.2.2.2.2 _ q130) (fun _ h9 => h9) rfl hin rfl (by decide +kernel) rfl rfl (Nat.le_of_ble_eq_true rfl) dX1_init_49 (fun H locs hP hD hS => ?_)
  have N : lc_St D d A s [(h0, .inr (1, [.int 0, .ref q1, .ref q2, .int 0, .int 0, .int 0, .ref q3, .ref q4, .ref q5, .ref q6, .null, .null])), (q1, .inl (d, 48, .inl (fun _ => 0))), (q2, .inl (d, 48, .inl (fun _ => 0))), (q3, .inl (d, 11, .inl (fun _ => 0))), (q4, .inl (d, 11, .inl (fun _ => 0))), (q5, .inl (d, 11, .inl (fun _ => 0))), (q6, .inl (d, 64, .inl (fun _ => 0)))] H locs := ⟨N.1, hP, hD, hS, N.2.2.2.2⟩
  refine lv_aload_n hx hb dX1_init_52 rfl (lv_at hl 0 rfl) ?_
  refine lv_bipush (v := 64) hx hb dX1_init_53 (by decide) ?_
  refine lc_newa (N' := 64) S N (by decide) (by decide) (by decide) (Nat.le_of_ble_eq_true rfl) (Nat.le_of_ble_eq_true rfl) dX1_init_55 (fun q7 H N => ?_)
  have N : lc_St D d A s [(h0, .inr (1, [.int 0, .ref q1, .ref q2, .int 0, .int 0, .int 0, .ref q3, .ref q4, .ref q5, .ref q6, .null, .null])), (q1, .inl (d, 48, .inl (fun _ => 0))), (q2, .inl (d, 48, .inl (fun _ => 0))), (q3, .inl (d, 11, .inl (fun _ => 0))), (q4, .inl (d, 11, .inl (fun _ => 0))), (q5, .inl (d, 11, .inl (fun _ => 0))), (q6, .inl (d, 64, .inl (fun _ => 0))), (q7, .inl (d, 64, .inl (fun _ => 0)))] H _ := N
  refine va_putF (D := D) (ci := 1) (v := .ref q7) (ty := .array .int) (C := RX1) (T := TX1) (N := 12) hx hb S.2.2.2.2 in_X1 tyX1 tyX1_ok nmX1 S.2.2.2.1 N.1 N.2.1 N.2.2.1 N.2.2.2.1 0 rfl rfl 10 (by decide) (S.2.2.2.2 _ q131) (fun _ h9 => h9) rfl hin rfl (by decide +kernel) rfl rfl (Nat.le_of_ble_eq_true rfl) dX1_init_57 (fun H locs hP hD hS => ?_)
  have N : lc_St D d A s [(h0, .inr (1, [.int 0, .ref q1, .ref q2, .int 0, .int 0, .int 0, .ref q3, .ref q4, .ref q5, .ref q6, .ref q7, .null])), (q1, .inl (d, 48, .inl (fun _ => 0))), (q2, .inl (d, 48, .inl (fun _ => 0))), (q3, .inl (d, 11, .inl (fun _ => 0))), (q4, .inl (d, 11, .inl (fun _ => 0))), (q5, .inl (d, 11, .inl (fun _ => 0))), (q6, .inl (d, 64, .inl (fun _ => 0))), (q7, .inl (d, 64, .inl (fun _ => 0)))] H locs := ⟨N.1, hP, hD, hS, N.2.2.2.2⟩
  refine lv_aload_n hx hb dX1_init_60 rfl (lv_at hl 0 rfl) ?_
  refine lv_bipush (v := 64) hx hb dX1_init_61 (by decide) ?_
  refine lc_newa (N' := 64) S N (by decide) (by decide) (by decide) (Nat.le_of_ble_eq_true rfl) (Nat.le_of_ble_eq_true rfl) dX1_init_63 (fun q8 H N => ?_)
  have N : lc_St D d A s [(h0, .inr (1, [.int 0, .ref q1, .ref q2, .int 0, .int 0, .int 0, .ref q3, .ref q4, .ref q5, .ref q6, .ref q7, .null])), (q1, .inl (d, 48, .inl (fun _ => 0))), (q2, .inl (d, 48, .inl (fun _ => 0))), (q3, .inl (d, 11, .inl (fun _ => 0))), (q4, .inl (d, 11, .inl (fun _ => 0))), (q5, .inl (d, 11, .inl (fun _ => 0))), (q6, .inl (d, 64, .inl (fun _ => 0))), (q7, .inl (d, 64, .inl (fun _ => 0))), (q8, .inl (d, 64, .inl (fun _ => 0)))] H _ := N
  refine va_putF (D := D) (ci := 1) (v := .ref q8) (ty := .array .int) (C := RX1) (T := TX1) (N := 12) hx hb S.2.2.2.2 in_X1 tyX1 tyX1_ok nmX1 S.2.2.2.1 N.1 N.2.1 N.2.2.1 N.2.2.2.1 0 rfl rfl 11 (by decide) (S.2.2.2.2 _ q132) (fun _ h9 => h9) rfl hin rfl (by decide +kernel) rfl rfl (Nat.le_of_ble_eq_true rfl) dX1_init_65 (fun H locs hP hD hS => ?_)
  have N : lc_St D d A s [(h0, .inr (1, [.int 0, .ref q1, .ref q2, .int 0, .int 0, .int 0, .ref q3, .ref q4, .ref q5, .ref q6, .ref q7, .ref q8])), (q1, .inl (d, 48, .inl (fun _ => 0))), (q2, .inl (d, 48, .inl (fun _ => 0))), (q3, .inl (d, 11, .inl (fun _ => 0))), (q4, .inl (d, 11, .inl (fun _ => 0))), (q5, .inl (d, 11, .inl (fun _ => 0))), (q6, .inl (d, 64, .inl (fun _ => 0))), (q7, .inl (d, 64, .inl (fun _ => 0))), (q8, .inl (d, 64, .inl (fun _ => 0)))] H locs := ⟨N.1, hP, hD, hS, N.2.2.2.2⟩
  exact lc_vret S hr hlk N ⟨rfl, lc_ad [h0, q1, q2, q3, q4, q5, q6, q7, q8], rfl, rfl⟩ dX1_init_68
end
section
/-! PURE, the model: a stack of boxes for one way of choosing -/
def lc_takes (code : Int32) : Nat := if code = 0 then 0 else if code = 3 then 1 else 2
def lc_hgt (code : Int32) (m : Nat) : Nat := if code = 0 then m + 1 else if code = 3 then m else m - 1
def lc_badP (code n : Int32) : Prop := (code = 0 ∧ (n < 0 ∨ 40 < n)) ∨ (code = 3 ∧ (n < 0 ∨ 20 < n))
theorem lc_takes_le {code : Int32} : lc_takes code ≤ 2 := by
  unfold lc_takes
  split
  · omega
  · split <;> omega
theorem lc_hgt_eq {code : Int32} {m : Nat} (h : lc_takes code ≤ m) : m - lc_takes code + 1 = lc_hgt code m := by
  unfold lc_takes at h ⊢
  unfold lc_hgt
  by_cases h0 : code = 0
  · rw [if_pos h0] at h ⊢
    rw [if_pos h0]
    omega
  · rw [if_neg h0] at h ⊢
    rw [if_neg h0]
    by_cases h3 : code = 3
    · rw [if_pos h3] at h ⊢
      rw [if_pos h3]
      omega
    · rw [if_neg h3] at h ⊢
      rw [if_neg h3]
      omega
theorem lc_has_of {code : Int32} {m : Nat} (hm : m ≤ 10) (h : lc_takes code ≤ m) (h0 : ¬ (code = 0 ∧ m = 10)) : lc_has code m = true := by
  unfold lc_takes at h
  unfold lc_has
  by_cases c0 : code = 0
  · rw [if_pos c0]
    exact decide_eq_true (by rcases Nat.lt_or_ge m 10 with q | q; exact q; exact absurd ⟨c0, by omega⟩ h0)
  · rw [if_neg c0] at h ⊢
    by_cases c3 : code = 3
    · rw [if_pos c3] at h ⊢
      exact decide_eq_true h
    · rw [if_neg c3] at h ⊢
      exact decide_eq_true h
theorem lc_has_takes {code : Int32} {m : Nat} (h : lc_has code m = true) : lc_takes code ≤ m ∧ ¬ (code = 0 ∧ m = 10) := by
  unfold lc_takes
  unfold lc_has at h
  by_cases c0 : code = 0
  · rw [if_pos c0] at h ⊢
    have := of_decide_eq_true h
    exact ⟨Nat.zero_le _, fun q => by omega⟩
  · rw [if_neg c0] at h ⊢
    refine ⟨?_, fun q => c0 q.1⟩
    by_cases c3 : code = 3
    · rw [if_pos c3] at h ⊢
      exact of_decide_eq_true h
    · rw [if_neg c3] at h ⊢
      exact of_decide_eq_true h
abbrev lc_T : Type := Int32 × Int32
/-- the tokens lie in two arrays -/
def lc_toks (co ar : Nat → Int32) (ts : List lc_T) : Prop := ∀ (i : Nat) (x : lc_T), ts[i]? = some x → co i = x.1 ∧ ar i = x.2
theorem lc_toks.push {co ar : Nat → Int32} {ts : List lc_T} {c n : Int32} (h : lc_toks co ar ts) : lc_toks (upd co ts.length c) (upd ar ts.length n) (ts ++ [(c, n)]) := by
  intro i x hx
  by_cases hl : i < ts.length
  · rw [List.getElem?_append_left hl] at hx
    obtain ⟨h1, h2⟩ := h i x hx
    exact ⟨(pk_un (by omega)).trans h1, (pk_un (by omega)).trans h2⟩
  · rw [List.getElem?_append_right (by omega)] at hx
    have hz : i - ts.length < 1 := (List.getElem?_eq_some_iff.mp hx).1
    have hi : i = ts.length := by omega
    subst hi
    simp at hx
    subst hx
    exact ⟨pk_us, pk_us⟩
/-- the stack of boxes, the top one first -/
def lc_stk (en wi la : Nat → Int32) : List lc_B → Prop
  | [] => True
  | x :: s => en s.length = x.1 ∧ wi s.length = x.2.1 ∧ la s.length = x.2.2 ∧ lc_stk en wi la s
theorem lc_stk.keep {en wi la en' wi' la' : Nat → Int32} : ∀ {st : List lc_B}, lc_stk en wi la st → (∀ i, i < st.length → en' i = en i ∧ wi' i = wi i ∧ la' i = la i) → lc_stk en' wi' la' st
  | [], _, _ => trivial
  | x :: s, H, h => by
    obtain ⟨h1, h2, h3⟩ := h s.length (by simp)
    exact ⟨h1.trans H.1, h2.trans H.2.1, h3.trans H.2.2.1, lc_stk.keep H.2.2.2 (fun i hi => h i (by simp; omega))⟩
theorem lc_stk.at {en wi la : Nat → Int32} : ∀ {st : List lc_B} {k : Nat} {x : lc_B}, lc_stk en wi la st → st[k]? = some x → en (st.length - 1 - k) = x.1 ∧ wi (st.length - 1 - k) = x.2.1 ∧ la (st.length - 1 - k) = x.2.2
  | [], k, x, _, h => by simp at h
  | r :: rs, 0, x, H, h => by
    simp at h
    subst h
    simpa using ⟨H.1, H.2.1, H.2.2.1⟩
  | r :: rs, k + 1, x, H, h => by
    have h' : rs[k]? = some x := by simpa using h
    have := lc_stk.at H.2.2.2 h'
    have e : (r :: rs).length - 1 - (k + 1) = rs.length - 1 - k := by simp; omega
    rw [e]
    exact this
/-- two boxes in the model -/
def lc_jm (code up : Int32) (x y : lc_B) : lc_B := if code = 1 then (x.1 + y.1, lc_mx x.2.1 (x.2.2 + y.2.1), x.2.2 + y.2.2) else if code = 2 then (x.1 + (y.1 + 1), lc_mx x.2.1 y.2.1, y.2.2) else if up = 0 then x else y
def lc_bit (w c : Nat) : Int32 := if w / 2 ^ c % 2 = 1 then 1 else 0
/-- one token on the stack and the number of choices made -/
def lc_sm (w : Nat) (z : List lc_B × Nat) (t : lc_T) : List lc_B × Nat :=
  if t.1 = 0 then ((0, t.2, t.2) :: z.1, z.2) else if t.1 = 3 then (match z.1 with | x :: s => lc_ind t.2 x :: s | [] => [], z.2) else (match z.1 with | y :: x :: s => lc_jm t.1 (lc_bit w z.2) x y :: s | _ => [], lc_chs t.1 z.2)
def lc_run (w : Nat) (ts : List lc_T) : List lc_B × Nat := ts.foldl (lc_sm w) ([], 0)
theorem lc_run_snoc (w : Nat) (ts : List lc_T) (t : lc_T) : lc_run w (ts ++ [t]) = lc_sm w (lc_run w ts) t := by
  unfold lc_run
  rw [List.foldl_append]
  rfl
theorem lc_run_take {w : Nat} {ts : List lc_T} {i : Nat} {t : lc_T} (h : ts[i]? = some t) : lc_run w (ts.take (i + 1)) = lc_sm w (lc_run w (ts.take i)) t := by
  rw [← lc_run_snoc, List.take_add_one, h]
  rfl
/-- the heights fit -/
def lc_wf : Nat → List lc_T → Prop
  | _, [] => True
  | m, t :: ts => lc_has t.1 m = true ∧ lc_wf (lc_hgt t.1 m) ts
def lc_fin : Nat → List lc_T → Nat
  | m, [] => m
  | m, t :: ts => lc_fin (lc_hgt t.1 m) ts
theorem lc_wf_snoc {t : lc_T} : ∀ {ts : List lc_T} {m : Nat}, lc_wf m ts → lc_has t.1 (lc_fin m ts) = true → lc_wf m (ts ++ [t])
  | [], m, _, h => ⟨h, trivial⟩
  | u :: us, m, H, h => ⟨H.1, lc_wf_snoc H.2 h⟩
theorem lc_fin_snoc {t : lc_T} : ∀ {ts : List lc_T} {m : Nat}, lc_fin m (ts ++ [t]) = lc_hgt t.1 (lc_fin m ts)
  | [], m => rfl
  | u :: us, m => by
    show lc_fin (lc_hgt u.1 m) (us ++ [t]) = lc_hgt t.1 (lc_fin (lc_hgt u.1 m) us)
    exact lc_fin_snoc
/-- how many choices -/
def lc_cnt : List lc_T → Nat
  | [] => 0
  | t :: ts => (if t.1 = 4 then 1 else 0) + lc_cnt ts
theorem lc_cnt_snoc {t : lc_T} : ∀ {ts : List lc_T}, lc_cnt (ts ++ [t]) = lc_chs t.1 (lc_cnt ts)
  | [] => by
    show (if t.1 = 4 then 1 else 0) + 0 = lc_chs t.1 0
    unfold lc_chs
    split <;> rfl
  | u :: us => by
    show (if u.1 = 4 then 1 else 0) + lc_cnt (us ++ [t]) = lc_chs t.1 ((if u.1 = 4 then 1 else 0) + lc_cnt us)
    rw [lc_cnt_snoc]
    unfold lc_chs
    by_cases h : t.1 = 4
    · rw [if_pos h, if_pos h]; omega
    · rw [if_neg h, if_neg h]
theorem lc_sm_len {w : Nat} {z : List lc_B × Nat} {t : lc_T} (h : lc_has t.1 z.1.length = true) : (lc_sm w z t).1.length = lc_hgt t.1 z.1.length := by
  unfold lc_sm lc_hgt
  by_cases c0 : t.1 = 0
  · rw [if_pos c0, if_pos c0]
    rfl
  · rw [if_neg c0, if_neg c0]
    by_cases c3 : t.1 = 3
    · rw [if_pos c3, if_pos c3]
      rw [c3] at h
      have := lc_has3 h
      match hz : z.1, this with
      | x :: s, _ => simp
    · rw [if_neg c3, if_neg c3]
      have := lc_has2 c0 c3 h
      match hz : z.1, this with
      | y :: x :: s, _ => simp
theorem lc_hgt_le {code : Int32} {m : Nat} (h : lc_has code m = true) (hm : m ≤ 10) : lc_hgt code m ≤ 10 := by
  unfold lc_hgt
  by_cases c0 : code = 0
  · rw [if_pos c0]
    rw [c0] at h
    have := lc_has0 h
    omega
  · rw [if_neg c0]
    split <;> omega
/-- a token from the list: what is before it and what behind -/
theorem lc_fold_len {w : Nat} : ∀ {ts : List lc_T} {z : List lc_B × Nat}, lc_wf z.1.length ts → (ts.foldl (lc_sm w) z).1.length = lc_fin z.1.length ts
  | [], z, _ => rfl
  | t :: ts, z, H => by
    have e := lc_sm_len (w := w) H.1
    show (ts.foldl (lc_sm w) (lc_sm w z t)).1.length = lc_fin (lc_hgt t.1 z.1.length) ts
    rw [lc_fold_len (by rw [e]; exact H.2), e]
theorem lc_run_len {w : Nat} {ts : List lc_T} (h : lc_wf 0 ts) : (lc_run w ts).1.length = lc_fin 0 ts := lc_fold_len (z := ([], 0)) h
/-- the boxes of document j, one for each way -/
def lc_way (ts : List lc_T) (j w : Nat) : lc_B := (lc_run w ts).1.getD j (0, 0, 0)
def lc_ways (ts : List lc_T) (e j : Nat) : List lc_B := (List.range (2 ^ e)).map (lc_way ts j)
theorem lc_shl : ∀ e, e ≤ 6 → (1 : Int32) <<< (nI e &&& 31) = nI (2 ^ e) := by decide +kernel
theorem lc_smd : ∀ c, c < 32 → ((nI c &&& 31).toBitVec.smod 32).toNat = c := by decide +kernel
theorem lc_shbit {w c : Nat} (hw : w < 2 ^ 31) (hc : c < 32) : (nI w >>> (nI c &&& 31)) &&& 1 = nI (w / 2 ^ c % 2) := by
  rw [pk_shrN hw _ c (lc_smd c hc)]
  have h : w / 2 ^ c < 2 ^ 32 := Nat.lt_of_le_of_lt (Nat.div_le_self _ _) (by omega)
  exact pk_andN h 1 (by decide)
end
section
set_option maxHeartbeats 4000000 in
set_option maxRecDepth 100000 in
/-- most -/
theorem kB_most (l : Launch) (D : va_G) (d : ClassId) (x y : Int32) : lc_K l D d yX1_most cX1_most 2 (some .int) { frames := 0, cells := 0, slots := 0, locals := 0 } [.int x, .int y] ([]) (fun r w' => r = some (.int (lc_mx x y))) := by
  refine lc_K.of (by decide) (Nat.le_of_ble_eq_true rfl) (fun p e s m below meth c A ls S hr hlk hnm N hl => ?_)
  have S : CallFix p m c cX1_most 2 s _ lw_all RX1 := S
  have hx := S.1
  have hb := S.2.1
  have hl : lv_has ls 2 [(0, .int x), (1, .int y)] := hl
  refine lv_iload_n hx hb dX1_most_0 rfl (lv_at hl 0 rfl) ?_
  refine lv_iload_n hx hb dX1_most_1 rfl (lv_at hl 1 rfl) ?_
  refine lv_icmp_le (tgt := 9) hx hb dX1_most_2 (by decide) (fun c => ?_) (fun c => ?_)
  · refine lv_iload_n hx hb dX1_most_9 rfl (lv_at hl 1 rfl) ?_
    exact lc_iret S hr hlk N (by rw [lc_mx, if_pos c]) dX1_most_10
  · refine lv_iload_n hx hb dX1_most_5 rfl (lv_at hl 0 rfl) ?_
    refine lv_goto (tgt := 10) hx hb dX1_most_6 (by decide) ?_
    exact lc_iret S hr hlk N (by rw [lc_mx, if_neg c]) dX1_most_10
set_option maxHeartbeats 4000000 in
set_option maxRecDepth 100000 in
/-- takes -/
theorem kB_takes (l : Launch) (D : va_G) (d : ClassId) (code : Int32) : lc_K l D d yX1_takes cX1_takes 1 (some .int) { frames := 0, cells := 0, slots := 0, locals := 0 } [.int code] ([]) (fun r w' => r = some (.int (nI (lc_takes code)))) := by
  refine lc_K.of (by decide) (Nat.le_of_ble_eq_true rfl) (fun p e s m below meth c A ls S hr hlk hnm N hl => ?_)
  have S : CallFix p m c cX1_takes 1 s _ lw_all RX1 := S
  have hx := S.1
  have hb := S.2.1
  have hl : lv_has ls 1 [(0, .int code)] := hl
  refine lv_iload_n hx hb dX1_takes_0 rfl (lv_at hl 0 rfl) ?_
  refine lv_if_ne (tgt := 8) hx hb dX1_takes_1 (by decide) (fun c0 => ?_) (fun c0 => ?_)
  · refine lv_iload_n hx hb dX1_takes_8 rfl (lv_at hl 0 rfl) ?_
    refine lv_iconst (v := 3) hx hb dX1_takes_9 (by decide) ?_
    refine lv_icmp_ne (tgt := 17) hx hb dX1_takes_10 (by decide) (fun c3 => ?_) (fun c3 => ?_)
    · refine lv_iconst (v := 2) hx hb dX1_takes_17 (by decide) ?_
      exact lc_iret S hr hlk N (by rw [lc_takes, if_neg c0, if_neg c3]; rfl) dX1_takes_18
    · refine lv_iconst (v := 1) hx hb dX1_takes_13 (by decide) ?_
      refine lv_goto (tgt := 18) hx hb dX1_takes_14 (by decide) ?_
      exact lc_iret S hr hlk N (by rw [lc_takes, if_neg c0, if_pos c3]; rfl) dX1_takes_18
  · refine lv_iconst (v := 0) hx hb dX1_takes_4 (by decide) ?_
    refine lv_goto (tgt := 18) hx hb dX1_takes_5 (by decide) ?_
    exact lc_iret S hr hlk N (by rw [lc_takes, if_pos c0]; rfl) dX1_takes_18
set_option maxHeartbeats 4000000 in
set_option maxRecDepth 100000 in
/-- within -/
theorem kB_within (l : Launch) (D : va_G) (d : ClassId) (v top : Int32) : lc_K l D d yX1_within cX1_within 2 (some .int) { frames := 0, cells := 0, slots := 0, locals := 0 } [.int v, .int top] ([]) (fun r w' => r = some (.int (lc_clamp top v))) := by
  refine lc_K.of (by decide) (Nat.le_of_ble_eq_true rfl) (fun p e s m below meth c A ls S hr hlk hnm N hl => ?_)
  have S : CallFix p m c cX1_within 2 s _ lw_all RX1 := S
  have hx := S.1
  have hb := S.2.1
  have hl : lv_has ls 2 [(0, .int v), (1, .int top)] := hl
  refine lv_iload_n hx hb dX1_within_0 rfl (lv_at hl 0 rfl) ?_
  refine lv_if_ge (tgt := 8) hx hb dX1_within_1 (by decide) (fun p1 => ?_) (fun p1 => ?_)
  · refine lv_iload_n hx hb dX1_within_8 rfl (lv_at hl 0 rfl) ?_
    refine lv_iload_n hx hb dX1_within_9 rfl (lv_at hl 1 rfl) ?_
    refine lv_icmp_le (tgt := 17) hx hb dX1_within_10 (by decide) (fun p2 => ?_) (fun p2 => ?_)
    · refine lv_iload_n hx hb dX1_within_17 rfl (lv_at hl 0 rfl) ?_
      exact lc_iret S hr hlk N (by rw [lc_clamp, if_neg (fun h => lc_nle h p1), if_pos p2]) dX1_within_18
    · refine lv_iload_n hx hb dX1_within_13 rfl (lv_at hl 1 rfl) ?_
      refine lv_goto (tgt := 18) hx hb dX1_within_14 (by decide) ?_
      exact lc_iret S hr hlk N (by rw [lc_clamp, if_neg (fun h => lc_nle h p1), if_neg p2]) dX1_within_18
  · refine lv_iconst (v := 0) hx hb dX1_within_4 (by decide) ?_
    refine lv_goto (tgt := 18) hx hb dX1_within_5 (by decide) ?_
    exact lc_iret S hr hlk N (by rw [lc_clamp, if_pos (lc_nle' p1)]) dX1_within_18
set_option maxHeartbeats 4000000 in
set_option maxRecDepth 100000 in
/-- badArg -/
theorem kB_badArg (l : Launch) (D : va_G) (d : ClassId) (code n : Int32) : lc_K l D d yX1_badArg cX1_badArg 2 (some .boolean) { frames := 0, cells := 0, slots := 0, locals := 0 } [.int code, .int n] ([]) (fun r w' => (r = some (.int 1) ∧ lc_badP code n) ∨ (r = some (.int 0) ∧ ¬ lc_badP code n)) := by
  refine lc_K.of (by decide) (Nat.le_of_ble_eq_true rfl) (fun p e s m below meth c A ls S hr hlk hnm N hl => ?_)
  have S : CallFix p m c cX1_badArg 2 s _ lw_all RX1 := S
  have hx := S.1
  have hb := S.2.1
  have hl : lv_has ls 2 [(0, .int code), (1, .int n)] := hl
  refine lc_cut 14 (J := fun H locs ls st => st = [] ∧ lc_St D d A s [] H locs ∧ lv_has ls 2 [(0, .int code), (1, .int n)] ∧ ¬ (code = 0 ∧ (n < 0 ∨ 40 < n))) (fun H locs ls st hJ => ?_) (fun KJ => ?_)
  · obtain ⟨rfl, N, hl, g0⟩ := hJ
    refine lv_iload_n hx hb dX1_badArg_14 rfl (lv_at hl 0 rfl) ?_
    refine lv_iconst (v := 3) hx hb dX1_badArg_15 (by decide) ?_
    refine lv_icmp_ne (tgt := 33) hx hb dX1_badArg_16 (by decide) (fun c3 => ?_) (fun c3 => ?_)
    · refine lv_iconst (v := 0) hx hb dX1_badArg_33 (by decide) ?_
      exact lc_zret S hr hlk N (by decide) (Or.inr ⟨rfl, fun q => q.elim g0 (fun z => c3 z.1)⟩) dX1_badArg_34
    · refine lv_iload_n hx hb dX1_badArg_19 rfl (lv_at hl 1 rfl) ?_
      refine lv_if_lt (tgt := 29) hx hb dX1_badArg_20 (by decide) (fun e1 => ?_) (fun e1 => ?_)
      · refine lv_iconst (v := 1) hx hb dX1_badArg_29 (by decide) ?_
        refine lv_goto (tgt := 34) hx hb dX1_badArg_30 (by decide) ?_
        exact lc_zret S hr hlk N (by decide) (Or.inl ⟨rfl, Or.inr ⟨c3, Or.inl e1⟩⟩) dX1_badArg_34
      · refine lv_iload_n hx hb dX1_badArg_23 rfl (lv_at hl 1 rfl) ?_
        refine lv_bipush (v := 20) hx hb dX1_badArg_24 (by decide) ?_
        refine lv_icmp_le (tgt := 33) hx hb dX1_badArg_26 (by decide) (fun e2 => ?_) (fun e2 => ?_)
        · refine lv_iconst (v := 0) hx hb dX1_badArg_33 (by decide) ?_
          exact lc_zret S hr hlk N (by decide) (Or.inr ⟨rfl, fun q => q.elim g0 (fun z => z.2.elim e1 (fun u => lc_nle u e2))⟩) dX1_badArg_34
        · refine lv_iconst (v := 1) hx hb dX1_badArg_29 (by decide) ?_
          refine lv_goto (tgt := 34) hx hb dX1_badArg_30 (by decide) ?_
          exact lc_zret S hr hlk N (by decide) (Or.inl ⟨rfl, Or.inr ⟨c3, Or.inr (lc_nle' e2)⟩⟩) dX1_badArg_34
  · refine lv_iload_n hx hb dX1_badArg_0 rfl (lv_at hl 0 rfl) ?_
    refine lv_if_ne (tgt := 14) hx hb dX1_badArg_1 (by decide) (fun c0 => ?_) (fun c0 => ?_)
    · exact KJ _ _ _ _ ⟨rfl, N, hl, fun q => c0 q.1⟩
    · refine lv_iload_n hx hb dX1_badArg_4 rfl (lv_at hl 1 rfl) ?_
      refine lv_if_lt (tgt := 29) hx hb dX1_badArg_5 (by decide) (fun e1 => ?_) (fun e1 => ?_)
      · refine lv_iconst (v := 1) hx hb dX1_badArg_29 (by decide) ?_
        refine lv_goto (tgt := 34) hx hb dX1_badArg_30 (by decide) ?_
        exact lc_zret S hr hlk N (by decide) (Or.inl ⟨rfl, Or.inl ⟨c0, Or.inl e1⟩⟩) dX1_badArg_34
      · refine lv_iload_n hx hb dX1_badArg_8 rfl (lv_at hl 1 rfl) ?_
        refine lv_bipush (v := 40) hx hb dX1_badArg_9 (by decide) ?_
        refine lv_icmp_gt (tgt := 29) hx hb dX1_badArg_11 (by decide) (fun e2 => ?_) (fun e2 => ?_)
        · refine lv_iconst (v := 1) hx hb dX1_badArg_29 (by decide) ?_
          refine lv_goto (tgt := 34) hx hb dX1_badArg_30 (by decide) ?_
          exact lc_zret S hr hlk N (by decide) (Or.inl ⟨rfl, Or.inl ⟨c0, Or.inr e2⟩⟩) dX1_badArg_34
        · exact KJ _ _ _ _ ⟨rfl, N, hl, fun q => q.2.elim e1 e2⟩
set_option maxHeartbeats 4000000 in
set_option maxRecDepth 100000 in
/-- clear -/
theorem kB_clear (l : Launch) (D : va_G) (d : ClassId) (a : Nat → Nat) (tk hh ei dd : Int32) (co ar en wi la be bw bl : Nat → Int32) : lc_K l D d yX1_clear cX1_clear 1 none { frames := 0, cells := 0, slots := 0, locals := 0 } [.ref (a 0)] (wB d a tk hh ei dd co ar en wi la be bw bl) (fun r w' => r = none ∧ w' = wB d a 0 0 0 dd co ar en wi la be bw bl) := by
  refine lc_K.of (by decide) (Nat.le_of_ble_eq_true rfl) (fun p e s m below meth c A ls S hr hlk hnm N hl => ?_)
  have S : CallFix p m c cX1_clear 1 s _ lw_all RX1 := S
  have hx := S.1
  have hb := S.2.1
  have hl : lv_has ls 1 [(0, .ref (a 0))] := hl
  refine lv_aload_n hx hb dX1_clear_0 rfl (lv_at hl 0 rfl) ?_
  refine lv_iconst (v := 0) hx hb dX1_clear_1 (by decide) ?_
  refine pB_tk S N dX1_clear_2 (fun H locs N => ?_)
  refine lv_aload_n hx hb dX1_clear_5 rfl (lv_at hl 0 rfl) ?_
  refine lv_iconst (v := 0) hx hb dX1_clear_6 (by decide) ?_
  refine pB_hh S N dX1_clear_7 (fun H locs N => ?_)
  refine lv_aload_n hx hb dX1_clear_10 rfl (lv_at hl 0 rfl) ?_
  refine lv_iconst (v := 0) hx hb dX1_clear_11 (by decide) ?_
  refine pB_ei S N dX1_clear_12 (fun H locs N => ?_)
  exact lc_vret S hr hlk N ⟨rfl, rfl⟩ dX1_clear_15
set_option maxHeartbeats 4000000 in
set_option maxRecDepth 100000 in
/-- missing -/
theorem kB_missing (l : Launch) (D : va_G) (d : ClassId) (a : Nat → Nat) (tk hh ei dd : Int32) (co ar en wi la be bw bl : Nat → Int32) (k : Int32) : lc_K l D d yX1_missing cX1_missing 2 (some .boolean) { frames := 0, cells := 0, slots := 0, locals := 0 } [.ref (a 0), .int k] (wB d a tk hh ei dd co ar en wi la be bw bl) (fun r w' => ((r = some (.int 1) ∧ (k < 0 ∨ ¬ k < hh)) ∨ (r = some (.int 0) ∧ ¬ (k < 0 ∨ ¬ k < hh))) ∧ w' = wB d a tk hh ei dd co ar en wi la be bw bl) := by
  refine lc_K.of (by decide) (Nat.le_of_ble_eq_true rfl) (fun p e s m below meth c A ls S hr hlk hnm N hl => ?_)
  have S : CallFix p m c cX1_missing 2 s _ lw_all RX1 := S
  have hx := S.1
  have hb := S.2.1
  have hl : lv_has ls 2 [(0, .ref (a 0)), (1, .int k)] := hl
  refine lv_iload_n hx hb dX1_missing_0 rfl (lv_at hl 1 rfl) ?_
  refine lv_if_lt (tgt := 12) hx hb dX1_missing_1 (by decide) (fun c0 => ?_) (fun c0 => ?_)
  · refine lv_iconst (v := 1) hx hb dX1_missing_12 (by decide) ?_
    refine lv_goto (tgt := 17) hx hb dX1_missing_13 (by decide) ?_
    exact lc_zret S hr hlk N (by decide) ⟨Or.inl ⟨rfl, Or.inl c0⟩, rfl⟩ dX1_missing_17
  · refine lv_iload_n hx hb dX1_missing_4 rfl (lv_at hl 1 rfl) ?_
    refine lv_aload_n hx hb dX1_missing_5 rfl (lv_at hl 0 rfl) ?_
    refine gB_hh S N dX1_missing_6 ?_
    refine lv_icmp_lt (tgt := 16) hx hb dX1_missing_9 (by decide) (fun c1 => ?_) (fun c1 => ?_)
    · refine lv_iconst (v := 0) hx hb dX1_missing_16 (by decide) ?_
      exact lc_zret S hr hlk N (by decide) ⟨Or.inr ⟨rfl, fun q => q.elim c0 (fun z => z c1)⟩, rfl⟩ dX1_missing_17
    · refine lv_iconst (v := 1) hx hb dX1_missing_12 (by decide) ?_
      refine lv_goto (tgt := 17) hx hb dX1_missing_13 (by decide) ?_
      exact lc_zret S hr hlk N (by decide) ⟨Or.inl ⟨rfl, Or.inr c1⟩, rfl⟩ dX1_missing_17
end
section
set_option maxHeartbeats 4000000 in
set_option maxRecDepth 100000 in
/-- token -/
theorem kB_token (l : Launch) (D : va_G) (d : ClassId) (a : Nat → Nat) (dd : Int32) (co ar en wi la be bw bl : Nat → Int32) (t h m0 : Nat) (ht : t ≤ 48) (hh6 : h ≤ 6) (hm : m0 ≤ 10) (code n : Int32) : lc_K l D d yX1_token cX1_token 3 (some .int) { frames := 1, cells := 0, slots := 0, locals := 21 } [.ref (a 0), .int code, .int n] (wB d a (nI t) (nI m0) (nI h) dd co ar en wi la be bw bl) (fun r w' => (lc_ok code n t h m0 ∧ r = some (.int (nI (lc_hgt code m0))) ∧ w' = wB d a (nI (t + 1)) (nI (lc_hgt code m0)) (nI (lc_chs code h)) dd (upd co t code) (upd ar t n) en wi la be bw bl) ∨ (¬ lc_ok code n t h m0 ∧ r = some (.int (-1)) ∧ w' = wB d a (nI t) (nI m0) (nI h) dd co ar en wi la be bw bl)) := by
  refine lc_K.of (by decide) (Nat.le_of_ble_eq_true rfl) (fun p e s m below meth c A ls S hr hlk hnm N hl => ?_)
  have S : CallFix p m c cX1_token 3 s _ lw_all RX1 := S
  have hx := S.1
  have hb := S.2.1
  have hl : lv_has ls 3 [(0, .ref (a 0)), (1, .int code), (2, .int n)] := hl
  refine lv_iload_n hx hb dX1_token_0 rfl (lv_at hl 1 rfl) ?_
  refine lv_if_lt (tgt := 37) hx hb dX1_token_1 (by decide) (fun c1 => ?_) (fun c1 => ?_)
  · refine lv_iconst (v := (-1)) hx hb dX1_token_37 (by decide) ?_
    exact lc_iret S hr hlk N (Or.inr ⟨fun q => q.1 c1, rfl, rfl⟩) dX1_token_38
  · refine lv_iload_n hx hb dX1_token_4 rfl (lv_at hl 1 rfl) ?_
    refine lv_iconst (v := 4) hx hb dX1_token_5 (by decide) ?_
    refine lv_icmp_gt (tgt := 37) hx hb dX1_token_6 (by decide) (fun c2 => ?_) (fun c2 => ?_)
    · refine lv_iconst (v := (-1)) hx hb dX1_token_37 (by decide) ?_
      exact lc_iret S hr hlk N (Or.inr ⟨fun q => q.2.1 c2, rfl, rfl⟩) dX1_token_38
    · refine lv_iload_n hx hb dX1_token_9 rfl (lv_at hl 1 rfl) ?_
      refine lv_iload_n hx hb dX1_token_10 rfl (lv_at hl 2 rfl) ?_
      refine lc_callS (kB_badArg l D d code n) S N (lw_S q162 q163 q15 q164) hs_X1_badArg ⟨by decide, by decide⟩ ⟨rfl, rfl⟩ hl (Nat.le_of_ble_eq_true rfl) rfl dX1_token_11 ⟨Nat.zero_le _, Nat.zero_le _⟩ (fun r w1 H locs hp N => ?_)
      rcases hp with ⟨rfl, hbad⟩ | ⟨rfl, hbad⟩
      · refine lv_if_ne (tgt := 37) hx hb dX1_token_14 (by decide) (fun z => ?_) (fun z => ?_)
        · refine lv_iconst (v := (-1)) hx hb dX1_token_37 (by decide) ?_
          exact lc_iret S hr hlk N (Or.inr ⟨fun q => hbad.elim q.2.2.2.2.1 q.2.2.2.2.2.1, rfl, rfl⟩) dX1_token_38
        · exact absurd z (by decide)
      · refine lv_if_ne (tgt := 37) hx hb dX1_token_14 (by decide) (fun z => ?_) (fun z => ?_)
        · exact absurd rfl z
        · refine lv_aload_n hx hb dX1_token_17 rfl (lv_at hl 0 rfl) ?_
          refine gB_hh S N dX1_token_18 ?_
          refine lv_iload_n hx hb dX1_token_21 rfl (lv_at hl 1 rfl) ?_
          refine lc_callS (kB_takes l D d code) S N (lw_S q165 q166 q15 q167) hs_X1_takes ⟨by decide, by decide⟩ ⟨rfl, rfl⟩ hl (Nat.le_of_ble_eq_true rfl) rfl dX1_token_22 ⟨Nat.zero_le _, Nat.zero_le _⟩ (fun r w1 H locs hp N => ?_)
          obtain rfl := hp
          have htl := lc_takes_le (code := code)
          refine lv_icmp_lt (tgt := 37) hx hb dX1_token_25 (by decide) (fun c3 => ?_) (fun c3 => ?_)
          · have hlt : m0 < lc_takes code := (nI_ltI (by omega) (by omega)).mp c3
            refine lv_iconst (v := (-1)) hx hb dX1_token_37 (by decide) ?_
            exact lc_iret S hr hlk N (Or.inr ⟨fun q => by have := (lc_has_takes q.2.2.2.1).1; omega, rfl, rfl⟩) dX1_token_38
          · have hge : lc_takes code ≤ m0 := by rcases Nat.lt_or_ge m0 (lc_takes code) with q | q; exact absurd ((nI_ltI (by omega) (by omega)).mpr q) c3; exact q
            refine lv_aload_n hx hb dX1_token_28 rfl (lv_at hl 0 rfl) ?_
            refine gB_tk S N dX1_token_29 ?_
            refine lv_bipush (v := 48) hx hb dX1_token_32 (by decide) ?_
            refine lv_icmp_ne (tgt := 39) hx hb dX1_token_34 (by decide) (fun c4 => ?_) (fun c4 => ?_)
            · have ht2 : t < 48 := by rcases Nat.lt_or_ge t 48 with q | q; exact q; exact absurd (show nI t = 48 by rw [show t = 48 by omega]; rfl) c4
              refine lc_cut 52 (J := fun H locs ls st => st = [] ∧ lc_St D d A s (wB d a (nI t) (nI m0) (nI h) dd co ar en wi la be bw bl) H locs ∧ lv_has ls 3 [(0, .ref (a 0)), (1, .int code), (2, .int n)] ∧ ¬ (code = 0 ∧ m0 = 10)) (fun H locs ls st hJ => ?_) (fun K52 => ?_)
              · obtain ⟨rfl, N, hl, g0⟩ := hJ
                have hhas := lc_has_of hm hge g0
                refine lc_cut 68 (J := fun H locs ls st => st = [] ∧ lc_St D d A s (wB d a (nI t) (nI m0) (nI h) dd co ar en wi la be bw bl) H locs ∧ lv_has ls 3 [(0, .ref (a 0)), (1, .int code), (2, .int n)] ∧ ¬ (code = 4 ∧ 6 ≤ h)) (fun H locs ls st hJ => ?_) (fun K68 => ?_)
                · obtain ⟨rfl, N, hl, g4⟩ := hJ
                  have hok : lc_ok code n t h m0 := ⟨c1, c2, ht2, hhas, fun q => hbad (Or.inl q), fun q => hbad (Or.inr q), g4⟩
                  refine lv_aload_n hx hb dX1_token_68 rfl (lv_at hl 0 rfl) ?_
                  refine gB_co S N dX1_token_69 ?_
                  refine lv_aload_n hx hb dX1_token_72 rfl (lv_at hl 0 rfl) ?_
                  refine gB_tk S N dX1_token_73 ?_
                  refine lv_iload_n hx hb dX1_token_76 rfl (lv_at hl 1 rfl) ?_
                  refine sB_co S N t (by omega) dX1_token_77 (fun H locs N => ?_)
                  refine lv_aload_n hx hb dX1_token_78 rfl (lv_at hl 0 rfl) ?_
                  refine gB_ar S N dX1_token_79 ?_
                  refine lv_aload_n hx hb dX1_token_82 rfl (lv_at hl 0 rfl) ?_
                  refine gB_tk S N dX1_token_83 ?_
                  refine lv_iload_n hx hb dX1_token_86 rfl (lv_at hl 2 rfl) ?_
                  refine sB_ar S N t (by omega) dX1_token_87 (fun H locs N => ?_)
                  refine lv_aload_n hx hb dX1_token_88 rfl (lv_at hl 0 rfl) ?_
                  refine lv_dup hx hb dX1_token_89 rfl ?_
                  refine gB_tk S N dX1_token_90 ?_
                  refine lv_iconst (v := 1) hx hb dX1_token_93 (by decide) ?_
                  refine lv_iadd hx hb dX1_token_94 ?_
                  refine lc_top (nI (t + 1)) (nI_1 t) ?_
                  refine pB_tk S N dX1_token_95 (fun H locs N => ?_)
                  refine lv_iload_n hx hb dX1_token_98 rfl (lv_at hl 1 rfl) ?_
                  refine lv_iconst (v := 4) hx hb dX1_token_99 (by decide) ?_
                  refine lv_icmp_ne (tgt := 113) hx hb dX1_token_100 (by decide) (fun b4 => ?_) (fun b4 => ?_)
                  · have hchs : lc_chs code h = h := if_neg b4
                    refine lv_aload_n hx hb dX1_token_113 rfl (lv_at hl 0 rfl) ?_
                    refine lv_aload_n hx hb dX1_token_114 rfl (lv_at hl 0 rfl) ?_
                    refine gB_hh S N dX1_token_115 ?_
                    refine lv_iload_n hx hb dX1_token_118 rfl (lv_at hl 1 rfl) ?_
                    refine lc_callS (kB_takes l D d code) S N (lw_S q165 q166 q15 q167) hs_X1_takes ⟨by decide, by decide⟩ ⟨rfl, rfl⟩ hl (Nat.le_of_ble_eq_true rfl) rfl dX1_token_119 ⟨Nat.zero_le _, Nat.zero_le _⟩ (fun r w1 H locs hp N => ?_)
                    obtain rfl := hp
                    refine lv_isub hx hb dX1_token_122 ?_
                    refine lc_top (nI (m0 - lc_takes code)) (pk_sub hge) ?_
                    refine lv_iconst (v := 1) hx hb dX1_token_123 (by decide) ?_
                    refine lv_iadd hx hb dX1_token_124 ?_
                    refine lc_top (nI (lc_hgt code m0)) (by rw [nI_1, lc_hgt_eq hge]) ?_
                    refine pB_hh S N dX1_token_125 (fun H locs N => ?_)
                    refine lv_aload_n hx hb dX1_token_128 rfl (lv_at hl 0 rfl) ?_
                    refine gB_hh S N dX1_token_129 ?_
                    exact lc_iret S hr hlk N (Or.inl ⟨hok, rfl, by rw [hchs]⟩) dX1_token_132
                  · have hchs : lc_chs code h = h + 1 := if_pos b4
                    refine lv_aload_n hx hb dX1_token_103 rfl (lv_at hl 0 rfl) ?_
                    refine lv_dup hx hb dX1_token_104 rfl ?_
                    refine gB_ei S N dX1_token_105 ?_
                    refine lv_iconst (v := 1) hx hb dX1_token_108 (by decide) ?_
                    refine lv_iadd hx hb dX1_token_109 ?_
                    refine lc_top (nI (h + 1)) (nI_1 h) ?_
                    refine pB_ei S N dX1_token_110 (fun H locs N => ?_)
                    refine lv_aload_n hx hb dX1_token_113 rfl (lv_at hl 0 rfl) ?_
                    refine lv_aload_n hx hb dX1_token_114 rfl (lv_at hl 0 rfl) ?_
                    refine gB_hh S N dX1_token_115 ?_
                    refine lv_iload_n hx hb dX1_token_118 rfl (lv_at hl 1 rfl) ?_
                    refine lc_callS (kB_takes l D d code) S N (lw_S q165 q166 q15 q167) hs_X1_takes ⟨by decide, by decide⟩ ⟨rfl, rfl⟩ hl (Nat.le_of_ble_eq_true rfl) rfl dX1_token_119 ⟨Nat.zero_le _, Nat.zero_le _⟩ (fun r w1 H locs hp N => ?_)
                    obtain rfl := hp
                    refine lv_isub hx hb dX1_token_122 ?_
                    refine lc_top (nI (m0 - lc_takes code)) (pk_sub hge) ?_
                    refine lv_iconst (v := 1) hx hb dX1_token_123 (by decide) ?_
                    refine lv_iadd hx hb dX1_token_124 ?_
                    refine lc_top (nI (lc_hgt code m0)) (by rw [nI_1, lc_hgt_eq hge]) ?_
                    refine pB_hh S N dX1_token_125 (fun H locs N => ?_)
                    refine lv_aload_n hx hb dX1_token_128 rfl (lv_at hl 0 rfl) ?_
                    refine gB_hh S N dX1_token_129 ?_
                    exact lc_iret S hr hlk N (Or.inl ⟨hok, rfl, by rw [hchs]⟩) dX1_token_132
                · refine lv_iload_n hx hb dX1_token_52 rfl (lv_at hl 1 rfl) ?_
                  refine lv_iconst (v := 4) hx hb dX1_token_53 (by decide) ?_
                  refine lv_icmp_ne (tgt := 68) hx hb dX1_token_54 (by decide) (fun e1 => ?_) (fun e1 => ?_)
                  · exact K68 _ _ _ _ ⟨rfl, N, hl, fun q => e1 q.1⟩
                  · refine lv_aload_n hx hb dX1_token_57 rfl (lv_at hl 0 rfl) ?_
                    refine gB_ei S N dX1_token_58 ?_
                    refine lv_bipush (v := 6) hx hb dX1_token_61 (by decide) ?_
                    refine lv_icmp_ne (tgt := 68) hx hb dX1_token_63 (by decide) (fun e2 => ?_) (fun e2 => ?_)
                    · have hh2 : h < 6 := by rcases Nat.lt_or_ge h 6 with q | q; exact q; exact absurd (show nI h = 6 by rw [show h = 6 by omega]; rfl) e2
                      exact K68 _ _ _ _ ⟨rfl, N, hl, fun q => by omega⟩
                    · have hh2 : h = 6 := (nI_eq (a := h) (b := 6) (by omega) (by omega)).mp e2
                      refine lv_iconst (v := (-1)) hx hb dX1_token_66 (by decide) ?_
                      exact lc_iret S hr hlk N (Or.inr ⟨fun q => q.2.2.2.2.2.2 ⟨e1, by omega⟩, rfl, rfl⟩) dX1_token_67
              · refine lv_iload_n hx hb dX1_token_39 rfl (lv_at hl 1 rfl) ?_
                refine lv_if_ne (tgt := 52) hx hb dX1_token_40 (by decide) (fun e1 => ?_) (fun e1 => ?_)
                · exact K52 _ _ _ _ ⟨rfl, N, hl, fun q => e1 q.1⟩
                · refine lv_aload_n hx hb dX1_token_43 rfl (lv_at hl 0 rfl) ?_
                  refine gB_hh S N dX1_token_44 ?_
                  refine lv_bipush (v := 10) hx hb dX1_token_47 (by decide) ?_
                  refine lv_icmp_eq (tgt := 66) hx hb dX1_token_49 (by decide) (fun e2 => ?_) (fun e2 => ?_)
                  · have hm2 : m0 = 10 := (nI_eq (a := m0) (b := 10) (by omega) (by omega)).mp e2
                    refine lv_iconst (v := (-1)) hx hb dX1_token_66 (by decide) ?_
                    exact lc_iret S hr hlk N (Or.inr ⟨fun q => (lc_has_takes q.2.2.2.1).2 ⟨e1, hm2⟩, rfl, rfl⟩) dX1_token_67
                  · exact K52 _ _ _ _ ⟨rfl, N, hl, fun q => e2 (by rw [q.2]; rfl)⟩
            · have ht2 : t = 48 := (nI_eq (a := t) (b := 48) (by omega) (by omega)).mp c4
              refine lv_iconst (v := (-1)) hx hb dX1_token_37 (by decide) ?_
              exact lc_iret S hr hlk N (Or.inr ⟨fun q => by have := q.2.2.1; omega, rfl, rfl⟩) dX1_token_38
set_option maxHeartbeats 4000000 in
set_option maxRecDepth 100000 in
/-- join -/
theorem kB_join (l : Launch) (D : va_G) (d : ClassId) (a : Nat → Nat) (tk hh ei : Int32) (co ar en wi la be bw bl : Nat → Int32) (x y : lc_B) (st : List lc_B) (hst : st.length + 2 ≤ 11) (hk : lc_stk en wi la (y :: x :: st)) (code up : Int32) : lc_K l D d yX1_join cX1_join 5 none { frames := 1, cells := 0, slots := 0, locals := 21 } [.ref (a 0), .int code, .int up] (wB d a tk hh ei (nI (st.length + 2)) co ar en wi la be bw bl) (fun r w' => r = none ∧ ∃ en' wi' la' : Nat → Int32, w' = wB d a tk hh ei (nI (st.length + 1)) co ar en' wi' la' be bw bl ∧ lc_stk en' wi' la' (lc_jm code up x y :: st)) := by
  refine lc_K.of (by decide) (Nat.le_of_ble_eq_true rfl) (fun p e s m below meth c A ls S hr hlk hnm N hl => ?_)
  have S : CallFix p m c cX1_join 5 s _ lw_all RX1 := S
  have hx := S.1
  have hb := S.2.1
  have hl : lv_has ls 5 [(0, .ref (a 0)), (1, .int code), (2, .int up)] := hl
  obtain ⟨y1, y2, y3, x1, x2, x3, hrest⟩ := hk
  have y1 : en (st.length + 1) = y.1 := y1
  have y2 : wi (st.length + 1) = y.2.1 := y2
  have y3 : la (st.length + 1) = y.2.2 := y3
  refine lv_aload_n hx hb dX1_join_0 rfl (lv_at hl 0 rfl) ?_
  refine lv_dup hx hb dX1_join_1 rfl ?_
  refine gB_dd S N dX1_join_2 ?_
  refine lv_iconst (v := 1) hx hb dX1_join_5 (by decide) ?_
  refine lv_isub hx hb dX1_join_6 ?_
  refine lc_top (nI (st.length + 1)) (nI_pred _) ?_
  refine pB_dd S N dX1_join_7 (fun H locs N => ?_)
  refine lv_aload_n hx hb dX1_join_10 rfl (lv_at hl 0 rfl) ?_
  refine gB_dd S N dX1_join_11 ?_
  refine lv_iconst (v := 1) hx hb dX1_join_14 (by decide) ?_
  refine lv_isub hx hb dX1_join_15 ?_
  refine lc_top (nI st.length) (nI_pred _) ?_
  refine lv_istore_n (lv' := [(3, .int (nI st.length)), (0, .ref (a 0)), (1, .int code), (2, .int up)]) hx hb dX1_join_16 rfl hl (by decide) rfl (fun ls hl => ?_)
  refine lv_aload_n hx hb dX1_join_17 rfl (lv_at hl 1 rfl) ?_
  refine gB_dd S N dX1_join_18 ?_
  refine lv_istore (lv' := [(4, .int (nI (st.length + 1))), (3, .int (nI st.length)), (0, .ref (a 0)), (1, .int code), (2, .int up)]) hx hb dX1_join_21 hl (by decide) rfl (fun ls hl => ?_)
  refine lv_iload_n hx hb dX1_join_23 rfl (lv_at hl 3 rfl) ?_
  refine lv_iconst (v := 1) hx hb dX1_join_24 (by decide) ?_
  refine lv_icmp_ne (tgt := 92) hx hb dX1_join_25 (by decide) (fun c1 => ?_) (fun c1 => ?_)
  · refine lv_iload_n hx hb dX1_join_92 rfl (lv_at hl 3 rfl) ?_
    refine lv_iconst (v := 2) hx hb dX1_join_93 (by decide) ?_
    refine lv_icmp_ne (tgt := 153) hx hb dX1_join_94 (by decide) (fun c2 => ?_) (fun c2 => ?_)
    · refine lv_iload_n hx hb dX1_join_153 rfl (lv_at hl 4 rfl) ?_
      refine lv_if_eq (tgt := 196) hx hb dX1_join_154 (by decide) (fun c3 => ?_) (fun c3 => ?_)
      · have hj : lc_jm code up x y = x := by rw [lc_jm, if_neg c1, if_neg c2, if_pos c3]
        exact lc_vret S hr hlk N ⟨rfl, en, wi, la, rfl, by rw [hj]; exact ⟨x1, x2, x3, hrest⟩⟩ dX1_join_196
      · have hj : lc_jm code up x y = y := by rw [lc_jm, if_neg c1, if_neg c2, if_neg c3]
        refine lv_aload_n hx hb dX1_join_157 rfl (lv_at hl 2 rfl) ?_
        refine gB_en S N dX1_join_158 ?_
        refine lv_iload_n hx hb dX1_join_161 rfl (lv_at hl 1 rfl) ?_
        refine lv_aload_n hx hb dX1_join_162 rfl (lv_at hl 2 rfl) ?_
        refine gB_en S N dX1_join_163 ?_
        refine lv_iload hx hb dX1_join_166 (lv_at hl 0 rfl) ?_
        refine lB_en S N (st.length + 1) (by omega) dX1_join_168 ?_
        refine sB_en S N st.length (by omega) dX1_join_169 (fun H locs N => ?_)
        refine lv_aload_n hx hb dX1_join_170 rfl (lv_at hl 2 rfl) ?_
        refine gB_wi S N dX1_join_171 ?_
        refine lv_iload_n hx hb dX1_join_174 rfl (lv_at hl 1 rfl) ?_
        refine lv_aload_n hx hb dX1_join_175 rfl (lv_at hl 2 rfl) ?_
        refine gB_wi S N dX1_join_176 ?_
        refine lv_iload hx hb dX1_join_179 (lv_at hl 0 rfl) ?_
        refine lB_wi S N (st.length + 1) (by omega) dX1_join_181 ?_
        refine sB_wi S N st.length (by omega) dX1_join_182 (fun H locs N => ?_)
        refine lv_aload_n hx hb dX1_join_183 rfl (lv_at hl 2 rfl) ?_
        refine gB_la S N dX1_join_184 ?_
        refine lv_iload_n hx hb dX1_join_187 rfl (lv_at hl 1 rfl) ?_
        refine lv_aload_n hx hb dX1_join_188 rfl (lv_at hl 2 rfl) ?_
        refine gB_la S N dX1_join_189 ?_
        refine lv_iload hx hb dX1_join_192 (lv_at hl 0 rfl) ?_
        refine lB_la S N (st.length + 1) (by omega) dX1_join_194 ?_
        refine sB_la S N st.length (by omega) dX1_join_195 (fun H locs N => ?_)
        exact lc_vret S hr hlk N ⟨rfl, _, _, _, rfl, by rw [hj]; exact ⟨pk_us.trans y1, pk_us.trans y2, pk_us.trans y3, hrest.keep (fun i hi => ⟨pk_un (by omega), pk_un (by omega), pk_un (by omega)⟩)⟩⟩ dX1_join_196
    · have hj : lc_jm code up x y = (x.1 + (y.1 + 1), lc_mx x.2.1 y.2.1, y.2.2) := by rw [lc_jm, if_neg c1, if_pos c2]
      refine lv_aload_n hx hb dX1_join_97 rfl (lv_at hl 2 rfl) ?_
      refine gB_en S N dX1_join_98 ?_
      refine lv_iload_n hx hb dX1_join_101 rfl (lv_at hl 1 rfl) ?_
      refine lv_dup2_11 hx hb dX1_join_102 rfl rfl ?_
      refine lB_en S N st.length (by omega) dX1_join_103 ?_
      refine lv_aload_n hx hb dX1_join_104 rfl (lv_at hl 2 rfl) ?_
      refine gB_en S N dX1_join_105 ?_
      refine lv_iload hx hb dX1_join_108 (lv_at hl 0 rfl) ?_
      refine lB_en S N (st.length + 1) (by omega) dX1_join_110 ?_
      refine lv_iconst (v := 1) hx hb dX1_join_111 (by decide) ?_
      refine lv_iadd hx hb dX1_join_112 ?_
      refine lv_iadd hx hb dX1_join_113 ?_
      refine sB_en S N st.length (by omega) dX1_join_114 (fun H locs N => ?_)
      refine lv_aload_n hx hb dX1_join_115 rfl (lv_at hl 2 rfl) ?_
      refine gB_wi S N dX1_join_116 ?_
      refine lv_iload_n hx hb dX1_join_119 rfl (lv_at hl 1 rfl) ?_
      refine lv_aload_n hx hb dX1_join_120 rfl (lv_at hl 2 rfl) ?_
      refine gB_wi S N dX1_join_121 ?_
      refine lv_iload_n hx hb dX1_join_124 rfl (lv_at hl 1 rfl) ?_
      refine lB_wi S N st.length (by omega) dX1_join_125 ?_
      refine lv_aload_n hx hb dX1_join_126 rfl (lv_at hl 2 rfl) ?_
      refine gB_wi S N dX1_join_127 ?_
      refine lv_iload hx hb dX1_join_130 (lv_at hl 0 rfl) ?_
      refine lB_wi S N (st.length + 1) (by omega) dX1_join_132 ?_
      refine lc_callS (kB_most l D d (wi st.length) (wi (st.length + 1))) S N (lw_S q192 q193 q15 q194) hs_X1_most ⟨by decide, by decide⟩ ⟨rfl, rfl⟩ hl (Nat.le_of_ble_eq_true rfl) rfl dX1_join_133 ⟨Nat.zero_le _, Nat.zero_le _⟩ (fun r w1 H locs hp N => ?_)
      obtain rfl := hp
      refine sB_wi S N st.length (by omega) dX1_join_136 (fun H locs N => ?_)
      refine lv_aload_n hx hb dX1_join_137 rfl (lv_at hl 2 rfl) ?_
      refine gB_la S N dX1_join_138 ?_
      refine lv_iload_n hx hb dX1_join_141 rfl (lv_at hl 1 rfl) ?_
      refine lv_aload_n hx hb dX1_join_142 rfl (lv_at hl 2 rfl) ?_
      refine gB_la S N dX1_join_143 ?_
      refine lv_iload hx hb dX1_join_146 (lv_at hl 0 rfl) ?_
      refine lB_la S N (st.length + 1) (by omega) dX1_join_148 ?_
      refine sB_la S N st.length (by omega) dX1_join_149 (fun H locs N => ?_)
      refine lv_goto (tgt := 196) hx hb dX1_join_150 (by decide) ?_
      exact lc_vret S hr hlk N ⟨rfl, _, _, _, rfl, by rw [hj]; exact ⟨pk_us.trans (by rw [x1, y1]), pk_us.trans (by rw [x2, y2]), pk_us.trans y3, hrest.keep (fun i hi => ⟨pk_un (by omega), pk_un (by omega), pk_un (by omega)⟩)⟩⟩ dX1_join_196
  · have hj : lc_jm code up x y = (x.1 + y.1, lc_mx x.2.1 (x.2.2 + y.2.1), x.2.2 + y.2.2) := by rw [lc_jm, if_pos c1]
    refine lv_aload_n hx hb dX1_join_28 rfl (lv_at hl 2 rfl) ?_
    refine gB_en S N dX1_join_29 ?_
    refine lv_iload_n hx hb dX1_join_32 rfl (lv_at hl 1 rfl) ?_
    refine lv_dup2_11 hx hb dX1_join_33 rfl rfl ?_
    refine lB_en S N st.length (by omega) dX1_join_34 ?_
    refine lv_aload_n hx hb dX1_join_35 rfl (lv_at hl 2 rfl) ?_
    refine gB_en S N dX1_join_36 ?_
    refine lv_iload hx hb dX1_join_39 (lv_at hl 0 rfl) ?_
    refine lB_en S N (st.length + 1) (by omega) dX1_join_41 ?_
    refine lv_iadd hx hb dX1_join_42 ?_
    refine sB_en S N st.length (by omega) dX1_join_43 (fun H locs N => ?_)
    refine lv_aload_n hx hb dX1_join_44 rfl (lv_at hl 2 rfl) ?_
    refine gB_wi S N dX1_join_45 ?_
    refine lv_iload_n hx hb dX1_join_48 rfl (lv_at hl 1 rfl) ?_
    refine lv_aload_n hx hb dX1_join_49 rfl (lv_at hl 2 rfl) ?_
    refine gB_wi S N dX1_join_50 ?_
    refine lv_iload_n hx hb dX1_join_53 rfl (lv_at hl 1 rfl) ?_
    refine lB_wi S N st.length (by omega) dX1_join_54 ?_
    refine lv_aload_n hx hb dX1_join_55 rfl (lv_at hl 2 rfl) ?_
    refine gB_la S N dX1_join_56 ?_
    refine lv_iload_n hx hb dX1_join_59 rfl (lv_at hl 1 rfl) ?_
    refine lB_la S N st.length (by omega) dX1_join_60 ?_
    refine lv_aload_n hx hb dX1_join_61 rfl (lv_at hl 2 rfl) ?_
    refine gB_wi S N dX1_join_62 ?_
    refine lv_iload hx hb dX1_join_65 (lv_at hl 0 rfl) ?_
    refine lB_wi S N (st.length + 1) (by omega) dX1_join_67 ?_
    refine lv_iadd hx hb dX1_join_68 ?_
    refine lc_callS (kB_most l D d (wi st.length) (la st.length + wi (st.length + 1))) S N (lw_S q192 q193 q15 q194) hs_X1_most ⟨by decide, by decide⟩ ⟨rfl, rfl⟩ hl (Nat.le_of_ble_eq_true rfl) rfl dX1_join_69 ⟨Nat.zero_le _, Nat.zero_le _⟩ (fun r w1 H locs hp N => ?_)
    obtain rfl := hp
    refine sB_wi S N st.length (by omega) dX1_join_72 (fun H locs N => ?_)
    refine lv_aload_n hx hb dX1_join_73 rfl (lv_at hl 2 rfl) ?_
    refine gB_la S N dX1_join_74 ?_
    refine lv_iload_n hx hb dX1_join_77 rfl (lv_at hl 1 rfl) ?_
    refine lv_dup2_11 hx hb dX1_join_78 rfl rfl ?_
    refine lB_la S N st.length (by omega) dX1_join_79 ?_
    refine lv_aload_n hx hb dX1_join_80 rfl (lv_at hl 2 rfl) ?_
    refine gB_la S N dX1_join_81 ?_
    refine lv_iload hx hb dX1_join_84 (lv_at hl 0 rfl) ?_
    refine lB_la S N (st.length + 1) (by omega) dX1_join_86 ?_
    refine lv_iadd hx hb dX1_join_87 ?_
    refine sB_la S N st.length (by omega) dX1_join_88 (fun H locs N => ?_)
    refine lv_goto (tgt := 196) hx hb dX1_join_89 (by decide) ?_
    exact lc_vret S hr hlk N ⟨rfl, _, _, _, rfl, by rw [hj]; exact ⟨pk_us.trans (by rw [x1, y1]), pk_us.trans (by rw [x2, x3, y2]), pk_us.trans (by rw [x3, y3]), hrest.keep (fun i hi => ⟨pk_un (by omega), pk_un (by omega), pk_un (by omega)⟩)⟩⟩ dX1_join_196
end
section
theorem lc_sm0 {w : Nat} {st : List lc_B} {c : Nat} {t : lc_T} (h : t.1 = 0) : lc_sm w (st, c) t = ((0, t.2, t.2) :: st, c) := by
  unfold lc_sm
  exact if_pos h
theorem lc_sm3 {w : Nat} {st : List lc_B} {x : lc_B} {c : Nat} {t : lc_T} (h0 : ¬ t.1 = 0) (h : t.1 = 3) : lc_sm w (x :: st, c) t = (lc_ind t.2 x :: st, c) := by
  unfold lc_sm
  rw [if_neg h0, if_pos h]
theorem lc_smj {w : Nat} {st : List lc_B} {x y : lc_B} {c : Nat} {t : lc_T} (h0 : ¬ t.1 = 0) (h : ¬ t.1 = 3) : lc_sm w (y :: x :: st, c) t = (lc_jm t.1 (lc_bit w c) x y :: st, lc_chs t.1 c) := by
  unfold lc_sm
  rw [if_neg h0, if_neg h]
theorem lc_getT {l : List lc_T} {k : Nat} (h : k < l.length) : ∃ x, l[k]? = some x ∧ l.drop k = x :: l.drop (k + 1) := ⟨l[k], List.getElem?_eq_getElem h, List.drop_eq_getElem_cons h⟩
set_option maxHeartbeats 4000000 in
set_option maxRecDepth 100000 in
/-- make -/
theorem kB_make (l : Launch) (D : va_G) (d : ClassId) (a : Nat → Nat) (hh ei dd : Int32) (co ar en wi la be bw bl : Nat → Int32) (ts : List lc_T) (hts : lc_toks co ar ts) (ht48 : ts.length ≤ 48) (hwf : lc_wf 0 ts) (hcn : lc_cnt ts ≤ 6) (wy : Nat) (hwy : wy < 64) : lc_K l D d yX1_make cX1_make 5 none { frames := 2, cells := 0, slots := 0, locals := 45 } [.ref (a 0), .int (nI wy)] (wB d a (nI ts.length) hh ei dd co ar en wi la be bw bl) (fun r w' => r = none ∧ ∃ en' wi' la' : Nat → Int32, w' = wB d a (nI ts.length) hh ei (nI (lc_run wy ts).1.length) co ar en' wi' la' be bw bl ∧ lc_stk en' wi' la' (lc_run wy ts).1) := by
  refine lc_K.of (by decide) (Nat.le_of_ble_eq_true rfl) (fun p e s m below meth c A ls S hr hlk hnm N hl => ?_)
  have S : CallFix p m c cX1_make 5 s _ lw_all RX1 := S
  have hx := S.1
  have hb := S.2.1
  have hl : lv_has ls 5 [(0, .ref (a 0)), (1, .int (nI wy))] := hl
  refine lv_aload_n hx hb dX1_make_0 rfl (lv_at hl 0 rfl) ?_
  refine lv_iconst (v := 0) hx hb dX1_make_1 (by decide) ?_
  refine lc_top (nI ([] : List lc_B).length) nI_0.symm ?_
  refine pB_dd S N dX1_make_2 (fun H locs N => ?_)
  refine lv_iconst (v := 0) hx hb dX1_make_5 (by decide) ?_
  refine lc_top (nI 0) nI_0.symm ?_
  refine lv_istore_n (lv' := [(2, .int (nI 0)), (0, .ref (a 0)), (1, .int (nI wy))]) hx hb dX1_make_6 rfl hl (by decide) rfl (fun ls hl => ?_)
  refine lv_iconst (v := 0) hx hb dX1_make_7 (by decide) ?_
  refine lc_top (nI 0) nI_0.symm ?_
  refine lv_istore_n (lv' := [(3, .int (nI 0)), (2, .int (nI 0)), (0, .ref (a 0)), (1, .int (nI wy))]) hx hb dX1_make_8 rfl hl (by decide) rfl (fun ls hl => ?_)
  refine lc_loop (I := fun n H locs ls => ∃ (i ch : Nat) (st : List lc_B) (e1 e2 e3 : Nat → Int32), n + i = ts.length ∧ lc_run wy (ts.take i) = (st, ch) ∧ lc_St D d A s (wB d a (nI ts.length) hh ei (nI st.length) co ar e1 e2 e3 be bw bl) H locs ∧ lv_has ls 5 [(0, .ref (a 0)), (1, .int (nI wy)), (2, .int (nI ch)), (3, .int (nI i))] ∧ lc_stk e1 e2 e3 st ∧ lc_wf st.length (ts.drop i) ∧ ch + lc_cnt (ts.drop i) ≤ 6 ∧ st.length ≤ 10) (fun n H locs ls hI ih => ?_) ts.length ⟨0, 0, [], en, wi, la, rfl, rfl, N, lv_sub hl [2, 3, 1, 0] rfl, trivial, hwf, by rw [Nat.zero_add]; exact hcn, Nat.zero_le _⟩
  obtain ⟨i, ch, st, e1, e2, e3, hk, hrun, N, hl, hstk, hwf1, hch, hs10⟩ := hI
  refine lv_iload_n hx hb dX1_make_9 rfl (lv_at hl 3 rfl) ?_
  refine lv_aload_n hx hb dX1_make_10 rfl (lv_at hl 0 rfl) ?_
  refine gB_tk S N dX1_make_11 ?_
  refine lv_icmp_ge (tgt := 167) hx hb dX1_make_14 (by decide) (fun c1 => ?_) (fun c1 => ?_)
  · have hk1 := lc_nI_le c1 (by omega) (by omega)
    have htk : ts.take i = ts := List.take_of_length_le (by omega)
    rw [htk] at hrun
    exact lc_vret S hr hlk N ⟨rfl, e1, e2, e3, by rw [hrun], by rw [hrun]; exact hstk⟩ dX1_make_167
  · have hk1 := lc_nI_lt c1 (by omega) (by omega)
    obtain ⟨x, hx0, hdr⟩ := lc_getT hk1
    obtain ⟨f1, f2⟩ := hts i x hx0
    have hrun2 := lc_run_take (w := wy) hx0
    rw [hdr] at hwf1 hch
    rw [hrun] at hrun2
    obtain ⟨hhas, hwf2⟩ := hwf1
    have hlen := lc_sm_len (w := wy) (z := (st, ch)) (t := x) hhas
    have hl10 := lc_hgt_le hhas hs10
    have hch0 : ch + ((if x.1 = 4 then 1 else 0) + lc_cnt (ts.drop (i + 1))) ≤ 6 := hch
    refine lv_aload_n hx hb dX1_make_17 rfl (lv_at hl 0 rfl) ?_
    refine gB_co S N dX1_make_18 ?_
    refine lv_iload_n hx hb dX1_make_21 rfl (lv_at hl 3 rfl) ?_
    refine lB_co S N i (by omega) dX1_make_22 ?_
    refine lc_top x.1 f1 ?_
    refine lv_istore (lv' := [(4, .int x.1), (0, .ref (a 0)), (1, .int (nI wy)), (2, .int (nI ch)), (3, .int (nI i))]) hx hb dX1_make_23 hl (by decide) rfl (fun ls hl => ?_)
    refine lv_iload hx hb dX1_make_25 (lv_at hl 0 rfl) ?_
    refine lv_if_ne (tgt := 83) hx hb dX1_make_27 (by decide) (fun c0 => ?_) (fun c0 => ?_)
    · refine lv_iload hx hb dX1_make_83 (lv_at hl 0 rfl) ?_
      refine lv_iconst (v := 3) hx hb dX1_make_85 (by decide) ?_
      refine lv_icmp_ne (tgt := 132) hx hb dX1_make_86 (by decide) (fun c3 => ?_) (fun c3 => ?_)
      · have hm := lc_has2 c0 c3 hhas
        obtain ⟨y, z, sr, rfl⟩ : ∃ y z sr, st = y :: z :: sr := by
          match st, hm with
          | y :: z :: sr, _ => exact ⟨y, z, sr, rfl⟩
        have N : lc_St D d A s (wB d a (nI ts.length) hh ei (nI (sr.length + 2)) co ar e1 e2 e3 be bw bl) H locs := N
        have hs10 : sr.length + 2 ≤ 10 := hs10
        refine lv_aload_n hx hb dX1_make_132 rfl (lv_at hl 1 rfl) ?_
        refine lv_iload hx hb dX1_make_133 (lv_at hl 0 rfl) ?_
        refine lv_iload_n hx hb dX1_make_135 rfl (lv_at hl 2 rfl) ?_
        refine lv_iload_n hx hb dX1_make_136 rfl (lv_at hl 3 rfl) ?_
        refine lv_ishr hx hb dX1_make_137 ?_
        refine lv_iconst (v := 1) hx hb dX1_make_138 (by decide) ?_
        refine lv_iand hx hb dX1_make_139 ?_
        refine lc_top (nI (wy / 2 ^ ch % 2)) (lc_shbit (by omega) (by omega)) ?_
        refine lv_iconst (v := 1) hx hb dX1_make_140 (by decide) ?_
        refine lv_icmp_ne (tgt := 148) hx hb dX1_make_141 (by decide) (fun c4 => ?_) (fun c4 => ?_)
        · have hbit : lc_bit wy ch = 0 := by rw [lc_bit, if_neg]; intro q; exact c4 (by rw [q]; rfl)
          refine lv_iconst (v := 0) hx hb dX1_make_148 (by decide) ?_
          refine lc_callV (ci := 1) (kB_join l D d a (nI ts.length) hh ei co ar e1 e2 e3 be bw bl z y sr (by omega) hstk x.1 0) S N (lw_V q188 q190 qs10 q15 q191) hd_X1_join ⟨by decide, by decide⟩ ⟨rfl, rfl⟩ rfl rfl hl (Nat.le_of_ble_eq_true rfl) rfl dX1_make_149 ⟨Nat.zero_le _, Nat.zero_le _⟩ (fun r w1 H locs hp N => ?_)
          obtain ⟨rfl, g1, g2, g3, rfl, hstk2⟩ := hp
          rw [← hbit] at hstk2
          refine lv_iload hx hb dX1_make_152 (lv_at hl 0 rfl) ?_
          refine lv_iconst (v := 4) hx hb dX1_make_154 (by decide) ?_
          refine lv_icmp_ne (tgt := 161) hx hb dX1_make_155 (by decide) (fun c5 => ?_) (fun c5 => ?_)
          · have hchs : lc_chs x.1 ch = ch := if_neg c5
            rw [if_neg c5] at hch0
            rw [lc_smj c0 c3, hchs] at hrun2 hlen
            refine lv_iinc (v := nI (i + 1)) (lv' := [(3, .int (nI (i + 1))), (4, .int x.1), (0, .ref (a 0)), (1, .int (nI wy)), (2, .int (nI ch))]) hx hb dX1_make_161 hl (k := 4) rfl (nI_1 i) (by decide) rfl (fun ls hl => ?_)
            refine lv_goto (tgt := 9) hx hb dX1_make_164 (by decide) ?_
            have hlen : (lc_jm x.1 (lc_bit wy ch) z y :: sr).length = lc_hgt x.1 _ := hlen
            exact ih (n - 1) _ _ _ (by omega) ⟨i + 1, ch, lc_jm x.1 (lc_bit wy ch) z y :: sr, _, _, _, by omega, hrun2, N, lv_sub hl [2, 3, 4, 0] rfl, hstk2, by rw [hlen]; exact hwf2, by omega, by rw [hlen]; exact hl10⟩
          · have hchs : lc_chs x.1 ch = ch + 1 := if_pos c5
            rw [if_pos c5] at hch0
            refine lv_iinc (v := nI (ch + 1)) (lv' := [(2, .int (nI (ch + 1))), (4, .int x.1), (0, .ref (a 0)), (1, .int (nI wy)), (3, .int (nI i))]) hx hb dX1_make_158 hl (k := 3) rfl (nI_1 ch) (by decide) rfl (fun ls hl => ?_)
            rw [lc_smj c0 c3, hchs] at hrun2 hlen
            refine lv_iinc (v := nI (i + 1)) (lv' := [(3, .int (nI (i + 1))), (2, .int (nI (ch + 1))), (4, .int x.1), (0, .ref (a 0)), (1, .int (nI wy))]) hx hb dX1_make_161 hl (k := 4) rfl (nI_1 i) (by decide) rfl (fun ls hl => ?_)
            refine lv_goto (tgt := 9) hx hb dX1_make_164 (by decide) ?_
            have hlen : (lc_jm x.1 (lc_bit wy ch) z y :: sr).length = lc_hgt x.1 _ := hlen
            exact ih (n - 1) _ _ _ (by omega) ⟨i + 1, (ch + 1), lc_jm x.1 (lc_bit wy ch) z y :: sr, _, _, _, by omega, hrun2, N, lv_sub hl [3, 4, 1, 0] rfl, hstk2, by rw [hlen]; exact hwf2, by omega, by rw [hlen]; exact hl10⟩
        · have hbit : lc_bit wy ch = 1 := by rw [lc_bit, if_pos]; exact (nI_eq (a := wy / 2 ^ ch % 2) (b := 1) (by omega) (by omega)).mp c4
          refine lv_iconst (v := 1) hx hb dX1_make_144 (by decide) ?_
          refine lv_goto (tgt := 149) hx hb dX1_make_145 (by decide) ?_
          refine lc_callV (ci := 1) (kB_join l D d a (nI ts.length) hh ei co ar e1 e2 e3 be bw bl z y sr (by omega) hstk x.1 1) S N (lw_V q188 q190 qs10 q15 q191) hd_X1_join ⟨by decide, by decide⟩ ⟨rfl, rfl⟩ rfl rfl hl (Nat.le_of_ble_eq_true rfl) rfl dX1_make_149 ⟨Nat.zero_le _, Nat.zero_le _⟩ (fun r w1 H locs hp N => ?_)
          obtain ⟨rfl, g1, g2, g3, rfl, hstk2⟩ := hp
          rw [← hbit] at hstk2
          refine lv_iload hx hb dX1_make_152 (lv_at hl 0 rfl) ?_
          refine lv_iconst (v := 4) hx hb dX1_make_154 (by decide) ?_
          refine lv_icmp_ne (tgt := 161) hx hb dX1_make_155 (by decide) (fun c5 => ?_) (fun c5 => ?_)
          · have hchs : lc_chs x.1 ch = ch := if_neg c5
            rw [if_neg c5] at hch0
            rw [lc_smj c0 c3, hchs] at hrun2 hlen
            refine lv_iinc (v := nI (i + 1)) (lv' := [(3, .int (nI (i + 1))), (4, .int x.1), (0, .ref (a 0)), (1, .int (nI wy)), (2, .int (nI ch))]) hx hb dX1_make_161 hl (k := 4) rfl (nI_1 i) (by decide) rfl (fun ls hl => ?_)
            refine lv_goto (tgt := 9) hx hb dX1_make_164 (by decide) ?_
            have hlen : (lc_jm x.1 (lc_bit wy ch) z y :: sr).length = lc_hgt x.1 _ := hlen
            exact ih (n - 1) _ _ _ (by omega) ⟨i + 1, ch, lc_jm x.1 (lc_bit wy ch) z y :: sr, _, _, _, by omega, hrun2, N, lv_sub hl [2, 3, 4, 0] rfl, hstk2, by rw [hlen]; exact hwf2, by omega, by rw [hlen]; exact hl10⟩
          · have hchs : lc_chs x.1 ch = ch + 1 := if_pos c5
            rw [if_pos c5] at hch0
            refine lv_iinc (v := nI (ch + 1)) (lv' := [(2, .int (nI (ch + 1))), (4, .int x.1), (0, .ref (a 0)), (1, .int (nI wy)), (3, .int (nI i))]) hx hb dX1_make_158 hl (k := 3) rfl (nI_1 ch) (by decide) rfl (fun ls hl => ?_)
            rw [lc_smj c0 c3, hchs] at hrun2 hlen
            refine lv_iinc (v := nI (i + 1)) (lv' := [(3, .int (nI (i + 1))), (2, .int (nI (ch + 1))), (4, .int x.1), (0, .ref (a 0)), (1, .int (nI wy))]) hx hb dX1_make_161 hl (k := 4) rfl (nI_1 i) (by decide) rfl (fun ls hl => ?_)
            refine lv_goto (tgt := 9) hx hb dX1_make_164 (by decide) ?_
            have hlen : (lc_jm x.1 (lc_bit wy ch) z y :: sr).length = lc_hgt x.1 _ := hlen
            exact ih (n - 1) _ _ _ (by omega) ⟨i + 1, (ch + 1), lc_jm x.1 (lc_bit wy ch) z y :: sr, _, _, _, by omega, hrun2, N, lv_sub hl [3, 4, 1, 0] rfl, hstk2, by rw [hlen]; exact hwf2, by omega, by rw [hlen]; exact hl10⟩
      · have hm : 1 ≤ st.length := by rw [c3] at hhas; exact lc_has3 hhas
        obtain ⟨z, sr, rfl⟩ : ∃ z sr, st = z :: sr := by
          match st, hm with
          | z :: sr, _ => exact ⟨z, sr, rfl⟩
        obtain ⟨z1, z2, z3, hrest⟩ := hstk
        have N : lc_St D d A s (wB d a (nI ts.length) hh ei (nI (sr.length + 1)) co ar e1 e2 e3 be bw bl) H locs := N
        have hs10 : sr.length + 1 ≤ 10 := hs10
        refine lv_aload_n hx hb dX1_make_89 rfl (lv_at hl 1 rfl) ?_
        refine gB_wi S N dX1_make_90 ?_
        refine lv_aload_n hx hb dX1_make_93 rfl (lv_at hl 1 rfl) ?_
        refine gB_dd S N dX1_make_94 ?_
        refine lv_iconst (v := 1) hx hb dX1_make_97 (by decide) ?_
        refine lv_isub hx hb dX1_make_98 ?_
        refine lc_top (nI sr.length) (nI_pred _) ?_
        refine lv_dup2_11 hx hb dX1_make_99 rfl rfl ?_
        refine lB_wi S N sr.length (by omega) dX1_make_100 ?_
        refine lv_aload_n hx hb dX1_make_101 rfl (lv_at hl 1 rfl) ?_
        refine gB_ar S N dX1_make_102 ?_
        refine lv_iload_n hx hb dX1_make_105 rfl (lv_at hl 4 rfl) ?_
        refine lB_ar S N i (by omega) dX1_make_106 ?_
        refine lv_iadd hx hb dX1_make_107 ?_
        refine sB_wi S N sr.length (by omega) dX1_make_108 (fun H locs N => ?_)
        refine lv_aload_n hx hb dX1_make_109 rfl (lv_at hl 1 rfl) ?_
        refine gB_la S N dX1_make_110 ?_
        refine lv_aload_n hx hb dX1_make_113 rfl (lv_at hl 1 rfl) ?_
        refine gB_dd S N dX1_make_114 ?_
        refine lv_iconst (v := 1) hx hb dX1_make_117 (by decide) ?_
        refine lv_isub hx hb dX1_make_118 ?_
        refine lc_top (nI sr.length) (nI_pred _) ?_
        refine lv_dup2_11 hx hb dX1_make_119 rfl rfl ?_
        refine lB_la S N sr.length (by omega) dX1_make_120 ?_
        refine lv_aload_n hx hb dX1_make_121 rfl (lv_at hl 1 rfl) ?_
        refine gB_ar S N dX1_make_122 ?_
        refine lv_iload_n hx hb dX1_make_125 rfl (lv_at hl 4 rfl) ?_
        refine lB_ar S N i (by omega) dX1_make_126 ?_
        refine lv_iadd hx hb dX1_make_127 ?_
        refine sB_la S N sr.length (by omega) dX1_make_128 (fun H locs N => ?_)
        refine lv_goto (tgt := 161) hx hb dX1_make_129 (by decide) ?_
        have hch1 : ¬ x.1 = 4 := by rw [c3]; decide
        rw [if_neg hch1] at hch0
        rw [lc_sm3 c0 c3] at hrun2 hlen
        refine lv_iinc (v := nI (i + 1)) (lv' := [(3, .int (nI (i + 1))), (4, .int x.1), (0, .ref (a 0)), (1, .int (nI wy)), (2, .int (nI ch))]) hx hb dX1_make_161 hl (k := 4) rfl (nI_1 i) (by decide) rfl (fun ls hl => ?_)
        refine lv_goto (tgt := 9) hx hb dX1_make_164 (by decide) ?_
        have hlen : (lc_ind x.2 z :: sr).length = lc_hgt x.1 _ := hlen
        exact ih (n - 1) _ _ _ (by omega) ⟨i + 1, ch, lc_ind x.2 z :: sr, _, _, _, by omega, hrun2, N, lv_sub hl [2, 3, 4, 0] rfl, ⟨z1, pk_us.trans (by rw [z2, f2]; rfl), pk_us.trans (by rw [z3, f2]; rfl), hrest.keep (fun i hi => ⟨rfl, pk_un (by omega), pk_un (by omega)⟩)⟩, by rw [hlen]; exact hwf2, by omega, by rw [hlen]; exact hl10⟩
    · have hm : st.length < 10 := by rw [c0] at hhas; exact lc_has0 hhas
      refine lv_aload_n hx hb dX1_make_30 rfl (lv_at hl 1 rfl) ?_
      refine gB_en S N dX1_make_31 ?_
      refine lv_aload_n hx hb dX1_make_34 rfl (lv_at hl 1 rfl) ?_
      refine gB_dd S N dX1_make_35 ?_
      refine lv_iconst (v := 0) hx hb dX1_make_38 (by decide) ?_
      refine sB_en S N st.length (by omega) dX1_make_39 (fun H locs N => ?_)
      refine lv_aload_n hx hb dX1_make_40 rfl (lv_at hl 1 rfl) ?_
      refine gB_wi S N dX1_make_41 ?_
      refine lv_aload_n hx hb dX1_make_44 rfl (lv_at hl 1 rfl) ?_
      refine gB_dd S N dX1_make_45 ?_
      refine lv_aload_n hx hb dX1_make_48 rfl (lv_at hl 1 rfl) ?_
      refine gB_ar S N dX1_make_49 ?_
      refine lv_iload_n hx hb dX1_make_52 rfl (lv_at hl 4 rfl) ?_
      refine lB_ar S N i (by omega) dX1_make_53 ?_
      refine sB_wi S N st.length (by omega) dX1_make_54 (fun H locs N => ?_)
      refine lv_aload_n hx hb dX1_make_55 rfl (lv_at hl 1 rfl) ?_
      refine gB_la S N dX1_make_56 ?_
      refine lv_aload_n hx hb dX1_make_59 rfl (lv_at hl 1 rfl) ?_
      refine gB_dd S N dX1_make_60 ?_
      refine lv_aload_n hx hb dX1_make_63 rfl (lv_at hl 1 rfl) ?_
      refine gB_ar S N dX1_make_64 ?_
      refine lv_iload_n hx hb dX1_make_67 rfl (lv_at hl 4 rfl) ?_
      refine lB_ar S N i (by omega) dX1_make_68 ?_
      refine sB_la S N st.length (by omega) dX1_make_69 (fun H locs N => ?_)
      refine lv_aload_n hx hb dX1_make_70 rfl (lv_at hl 1 rfl) ?_
      refine lv_dup hx hb dX1_make_71 rfl ?_
      refine gB_dd S N dX1_make_72 ?_
      refine lv_iconst (v := 1) hx hb dX1_make_75 (by decide) ?_
      refine lv_iadd hx hb dX1_make_76 ?_
      refine lc_top (nI (st.length + 1)) (nI_1 _) ?_
      refine pB_dd S N dX1_make_77 (fun H locs N => ?_)
      refine lv_goto (tgt := 161) hx hb dX1_make_80 (by decide) ?_
      have hch1 : ¬ x.1 = 4 := by rw [c0]; decide
      rw [if_neg hch1] at hch0
      rw [lc_sm0 c0] at hrun2 hlen
      refine lv_iinc (v := nI (i + 1)) (lv' := [(3, .int (nI (i + 1))), (4, .int x.1), (0, .ref (a 0)), (1, .int (nI wy)), (2, .int (nI ch))]) hx hb dX1_make_161 hl (k := 4) rfl (nI_1 i) (by decide) rfl (fun ls hl => ?_)
      refine lv_goto (tgt := 9) hx hb dX1_make_164 (by decide) ?_
      have hlen : ((0, x.2, x.2) :: st).length = lc_hgt x.1 _ := hlen
      exact ih (n - 1) _ _ _ (by omega) ⟨i + 1, ch, (0, x.2, x.2) :: st, _, _, _, by omega, hrun2, N, lv_sub hl [2, 3, 4, 0] rfl, ⟨pk_us, pk_us.trans f2, pk_us.trans f2, hstk.keep (fun i hi => ⟨pk_un (by omega), pk_un (by omega), pk_un (by omega)⟩)⟩, by rw [hlen]; exact hwf2, by omega, by rw [hlen]; exact hl10⟩
set_option maxHeartbeats 4000000 in
set_option maxRecDepth 100000 in
/-- makeAll -/
theorem kB_makeAll (l : Launch) (D : va_G) (d : ClassId) (a : Nat → Nat) (hh dd : Int32) (co ar en wi la be bw bl : Nat → Int32) (ts : List lc_T) (hts : lc_toks co ar ts) (ht48 : ts.length ≤ 48) (hwf : lc_wf 0 ts) (hcn : lc_cnt ts ≤ 6) (j : Nat) (hj : j < lc_fin 0 ts) (hf10 : lc_fin 0 ts ≤ 10) : lc_K l D d yX1_makeAll cX1_makeAll 4 (some .int) { frames := 3, cells := 0, slots := 0, locals := 69 } [.ref (a 0), .int (nI j)] (wB d a (nI ts.length) hh (nI (lc_cnt ts)) dd co ar en wi la be bw bl) (fun r w' => r = some (.int (nI (2 ^ lc_cnt ts))) ∧ ∃ (dd' : Int32) (en' wi' la' be' bw' bl' : Nat → Int32), w' = wB d a (nI ts.length) hh (nI (lc_cnt ts)) dd' co ar en' wi' la' be' bw' bl' ∧ lc_seg 0 (lc_ways ts (lc_cnt ts) j) be' bw' bl') := by
  refine lc_K.of (by decide) (Nat.le_of_ble_eq_true rfl) (fun p e s m below meth c A ls S hr hlk hnm N hl => ?_)
  have S : CallFix p m c cX1_makeAll 4 s _ lw_all RX1 := S
  have hx := S.1
  have hb := S.2.1
  have hl : lv_has ls 4 [(0, .ref (a 0)), (1, .int (nI j))] := hl
  have hp : 2 ^ lc_cnt ts ≤ 64 := Nat.pow_le_pow_right (n := 2) (by decide) hcn
  generalize hE : 2 ^ lc_cnt ts = E at hp
  refine lv_iconst (v := 1) hx hb dX1_makeAll_0 (by decide) ?_
  refine lv_aload_n hx hb dX1_makeAll_1 rfl (lv_at hl 0 rfl) ?_
  refine gB_ei S N dX1_makeAll_2 ?_
  refine lv_ishl hx hb dX1_makeAll_5 ?_
  refine lc_top (nI E) (by rw [← hE]; exact lc_shl _ hcn) ?_
  refine lv_istore_n (lv' := [(2, .int (nI E)), (0, .ref (a 0)), (1, .int (nI j))]) hx hb dX1_makeAll_6 rfl hl (by decide) rfl (fun ls hl => ?_)
  refine lv_iconst (v := 0) hx hb dX1_makeAll_7 (by decide) ?_
  refine lc_top (nI 0) nI_0.symm ?_
  refine lv_istore_n (lv' := [(3, .int (nI 0)), (2, .int (nI E)), (0, .ref (a 0)), (1, .int (nI j))]) hx hb dX1_makeAll_8 rfl hl (by decide) rfl (fun ls hl => ?_)
  refine lc_loop (I := fun n H locs ls => ∃ (i : Nat) (dd : Int32) (e1 e2 e3 b1 b2 b3 : Nat → Int32), n + i = E ∧ lc_St D d A s (wB d a (nI ts.length) hh (nI (lc_cnt ts)) dd co ar e1 e2 e3 b1 b2 b3) H locs ∧ lv_has ls 4 [(0, .ref (a 0)), (1, .int (nI j)), (2, .int (nI E)), (3, .int (nI i))] ∧ lc_seg 0 ((List.range i).map (lc_way ts j)) b1 b2 b3) (fun n H locs ls hI ih => ?_) E ⟨0, dd, en, wi, la, be, bw, bl, rfl, N, lv_sub hl [2, 3, 1, 0] rfl, lc_seg_nil⟩
  clear N hl
  obtain ⟨i, dd, e1, e2, e3, b1, b2, b3, hk, N, hl, hseg⟩ := hI
  refine lv_iload_n hx hb dX1_makeAll_9 rfl (lv_at hl 3 rfl) ?_
  refine lv_iload_n hx hb dX1_makeAll_10 rfl (lv_at hl 2 rfl) ?_
  refine lv_icmp_ge (tgt := 82) hx hb dX1_makeAll_11 (by decide) (fun c1 => ?_) (fun c1 => ?_)
  · have hk1 := lc_nI_le c1 (by omega) (by omega)
    have hkq : i = E := by omega
    rw [hkq] at hseg
    refine lv_iload_n hx hb dX1_makeAll_82 rfl (lv_at hl 2 rfl) ?_
    exact lc_iret S hr hlk N ⟨rfl, dd, e1, e2, e3, b1, b2, b3, rfl, by rw [lc_ways, hE]; exact hseg⟩ dX1_makeAll_83
  · have hk1 := lc_nI_lt c1 (by omega) (by omega)
    refine lv_aload_n hx hb dX1_makeAll_14 rfl (lv_at hl 0 rfl) ?_
    refine lv_iload_n hx hb dX1_makeAll_15 rfl (lv_at hl 3 rfl) ?_
    refine lc_callV (ci := 1) (kB_make l D d a hh (nI (lc_cnt ts)) dd co ar e1 e2 e3 b1 b2 b3 ts hts ht48 hwf hcn i (by omega)) S N (lw_V q184 q186 qs9 q15 q187) hd_X1_make ⟨by decide, by decide⟩ ⟨rfl, rfl⟩ rfl rfl hl (Nat.le_of_ble_eq_true rfl) rfl dX1_makeAll_16 ⟨Nat.zero_le _, Nat.zero_le _⟩ (fun r w1 H locs hp N => ?_)
    obtain ⟨rfl, g1, g2, g3, rfl, hstk⟩ := hp
    have hlen := lc_run_len (w := i) hwf
    rw [hlen] at N
    have hx0 : (lc_run i ts).1[j]? = some (lc_way ts j i) := by
      rw [lc_way, List.getD_eq_getElem?_getD, List.getElem?_eq_getElem (by rw [hlen]; exact hj)]; rfl
    obtain ⟨f1, f2, f3⟩ := hstk.at hx0
    rw [hlen] at f1 f2 f3
    refine lv_aload_n hx hb dX1_makeAll_19 rfl (lv_at hl 0 rfl) ?_
    refine gB_be S N dX1_makeAll_20 ?_
    refine lv_iload_n hx hb dX1_makeAll_23 rfl (lv_at hl 3 rfl) ?_
    refine lv_aload_n hx hb dX1_makeAll_24 rfl (lv_at hl 0 rfl) ?_
    refine gB_en S N dX1_makeAll_25 ?_
    refine lv_aload_n hx hb dX1_makeAll_28 rfl (lv_at hl 0 rfl) ?_
    refine gB_dd S N dX1_makeAll_29 ?_
    refine lv_iconst (v := 1) hx hb dX1_makeAll_32 (by decide) ?_
    refine lv_isub hx hb dX1_makeAll_33 ?_
    refine lc_top (nI (lc_fin 0 ts - 1)) (lc_dec (by omega)) ?_
    refine lv_iload_n hx hb dX1_makeAll_34 rfl (lv_at hl 1 rfl) ?_
    refine lv_isub hx hb dX1_makeAll_35 ?_
    refine lc_top (nI (lc_fin 0 ts - 1 - j)) (pk_sub (by omega)) ?_
    refine lB_en S N (lc_fin 0 ts - 1 - j) (by omega) dX1_makeAll_36 ?_
    refine sB_be S N i (by omega) dX1_makeAll_37 (fun H locs N => ?_)
    refine lv_aload_n hx hb dX1_makeAll_38 rfl (lv_at hl 0 rfl) ?_
    refine gB_bw S N dX1_makeAll_39 ?_
    refine lv_iload_n hx hb dX1_makeAll_42 rfl (lv_at hl 3 rfl) ?_
    refine lv_aload_n hx hb dX1_makeAll_43 rfl (lv_at hl 0 rfl) ?_
    refine gB_wi S N dX1_makeAll_44 ?_
    refine lv_aload_n hx hb dX1_makeAll_47 rfl (lv_at hl 0 rfl) ?_
    refine gB_dd S N dX1_makeAll_48 ?_
    refine lv_iconst (v := 1) hx hb dX1_makeAll_51 (by decide) ?_
    refine lv_isub hx hb dX1_makeAll_52 ?_
    refine lc_top (nI (lc_fin 0 ts - 1)) (lc_dec (by omega)) ?_
    refine lv_iload_n hx hb dX1_makeAll_53 rfl (lv_at hl 1 rfl) ?_
    refine lv_isub hx hb dX1_makeAll_54 ?_
    refine lc_top (nI (lc_fin 0 ts - 1 - j)) (pk_sub (by omega)) ?_
    refine lB_wi S N (lc_fin 0 ts - 1 - j) (by omega) dX1_makeAll_55 ?_
    refine sB_bw S N i (by omega) dX1_makeAll_56 (fun H locs N => ?_)
    refine lv_aload_n hx hb dX1_makeAll_57 rfl (lv_at hl 0 rfl) ?_
    refine gB_bl S N dX1_makeAll_58 ?_
    refine lv_iload_n hx hb dX1_makeAll_61 rfl (lv_at hl 3 rfl) ?_
    refine lv_aload_n hx hb dX1_makeAll_62 rfl (lv_at hl 0 rfl) ?_
    refine gB_la S N dX1_makeAll_63 ?_
    refine lv_aload_n hx hb dX1_makeAll_66 rfl (lv_at hl 0 rfl) ?_
    refine gB_dd S N dX1_makeAll_67 ?_
    refine lv_iconst (v := 1) hx hb dX1_makeAll_70 (by decide) ?_
    refine lv_isub hx hb dX1_makeAll_71 ?_
    refine lc_top (nI (lc_fin 0 ts - 1)) (lc_dec (by omega)) ?_
    refine lv_iload_n hx hb dX1_makeAll_72 rfl (lv_at hl 1 rfl) ?_
    refine lv_isub hx hb dX1_makeAll_73 ?_
    refine lc_top (nI (lc_fin 0 ts - 1 - j)) (pk_sub (by omega)) ?_
    refine lB_la S N (lc_fin 0 ts - 1 - j) (by omega) dX1_makeAll_74 ?_
    refine sB_bl S N i (by omega) dX1_makeAll_75 (fun H locs N => ?_)
    refine lv_iinc (v := nI (i + 1)) (lv' := [(3, .int (nI (i + 1))), (0, .ref (a 0)), (1, .int (nI j)), (2, .int (nI E))]) hx hb dX1_makeAll_76 hl (k := 3) rfl (nI_1 i) (by decide) rfl (fun ls hl => ?_)
    refine lv_goto (tgt := 9) hx hb dX1_makeAll_79 (by decide) ?_
    have hkl : ((List.range i).map (lc_way ts j)).length = i := by rw [List.length_map, List.length_range]
    have hrs : (List.range (i + 1)).map (lc_way ts j) = (List.range i).map (lc_way ts j) ++ [lc_way ts j i] := by rw [List.range_succ, List.map_append]; rfl
    exact ih (n - 1) _ _ _ (by omega) ⟨i + 1, _, _, _, _, _, _, _, by omega, N, lv_sub hl [1, 2, 3, 0] rfl, by rw [hrs]; exact lc_seg.push (hseg.keep (fun q hq => ⟨pk_un (by omega), pk_un (by omega), pk_un (by omega)⟩)) ⟨by rw [hkl]; exact pk_us.trans f1, by rw [hkl]; exact pk_us.trans f2, by rw [hkl]; exact pk_us.trans f3⟩⟩
end
section
/-- a query of document k: -1 if it is not there -/
def lc_q (m : Nat) (k : Int32) (v : Nat → Int32) : Int32 := if k < 0 ∨ ¬ k < nI m then -1 else v k.toNatClampNeg
theorem lc_q_no {m : Nat} {k : Int32} {v : Nat → Int32} (h : k < 0 ∨ ¬ k < nI m) : lc_q m k v = -1 := if_pos h
theorem lc_q_yes {m j : Nat} {v : Nat → Int32} (h : j < m) (hm : m < 2 ^ 31) : lc_q m (nI j) v = v j := by
  rw [lc_q, if_neg, nI_clamp (by omega)]
  intro q
  rcases q with q | q
  · exact nI_pos (by omega) q
  · exact q (nI_lt h hm)
theorem lc_q_k {m : Nat} {k : Int32} (h : ¬ (k < 0 ∨ ¬ k < nI m)) (hm : m < 2 ^ 31) : ∃ j, j < m ∧ k = nI j := by
  obtain ⟨j, hj, rfl⟩ := nI_of (fun q => h (Or.inl q))
  refine ⟨j, ?_, rfl⟩
  rcases Nat.lt_or_ge j m with q | q
  · exact q
  · exact absurd (Or.inr (nI_nlt q hj)) h
theorem lc_ways_len {ts : List lc_T} {e j : Nat} : (lc_ways ts e j).length = 2 ^ e := by
  rw [lc_ways, List.length_map, List.length_range]
/-- v beats or doubles i -/
def lc_badw (l : List lc_B) (i v : Nat) : Bool := match l[v]?, l[i]? with
  | some x, some y => if x = y then decide (v < i) else lc_le x y
  | _, _ => false
theorem lc_badw_eq {l : List lc_B} {i v : Nat} {x y : lc_B} (hx : l[v]? = some x) (hy : l[i]? = some y) : lc_badw l i v = if x = y then decide (v < i) else lc_le x y := by
  unfold lc_badw
  rw [hx, hy]
def lc_isb (l : List lc_B) (i : Nat) : Bool := (List.range l.length).all (fun v => !lc_badw l i v)
theorem lc_isb_no {l : List lc_B} {i v : Nat} (hv : v < l.length) (h : lc_badw l i v = true) : lc_isb l i = false := by
  cases hh : lc_isb l i
  · rfl
  · have := List.all_eq_true.mp hh v (List.mem_range.mpr hv)
    rw [h] at this
    cases this
theorem lc_isb_yes {l : List lc_B} {i : Nat} (h : ∀ v, v < l.length → lc_badw l i v = false) : lc_isb l i = true := by
  refine List.all_eq_true.mpr (fun v hv => ?_)
  rw [h v (List.mem_range.mp hv)]
  rfl
def lc_cb (l : List lc_B) (n : Nat) : Nat := ((List.range n).filter (lc_isb l)).length
theorem lc_cb_yes {l : List lc_B} {n : Nat} (h : lc_isb l n = true) : lc_cb l (n + 1) = lc_cb l n + 1 := by
  rw [lc_cb, List.range_succ, List.filter_append, List.length_append]
  simp [h, lc_cb]
theorem lc_cb_no {l : List lc_B} {n : Nat} (h : lc_isb l n = false) : lc_cb l (n + 1) = lc_cb l n := by
  rw [lc_cb, List.range_succ, List.filter_append, List.length_append]
  simp [h, lc_cb]
theorem lc_cb_le {l : List lc_B} {n : Nat} : lc_cb l n ≤ n := by
  have := List.length_filter_le (lc_isb l) (List.range n)
  rw [List.length_range] at this
  exact this
set_option maxHeartbeats 4000000 in
set_option maxRecDepth 100000 in
/-- same -/
theorem kB_same (l : Launch) (D : va_G) (d : ClassId) (a : Nat → Nat) (tk hh ei dd : Int32) (co ar en wi la be bw bl : Nat → Int32) (lw : List lc_B) (hlw : lw.length ≤ 64) (hsg : lc_seg 0 lw be bw bl) (v i : Nat) (x y : lc_B) (hx0 : lw[v]? = some x) (hy0 : lw[i]? = some y) : lc_K l D d yX1_same cX1_same 3 (some .boolean) { frames := 0, cells := 0, slots := 0, locals := 0 } [.ref (a 0), .int (nI v), .int (nI i)] (wB d a tk hh ei dd co ar en wi la be bw bl) (fun r w' => ((r = some (.int 1) ∧ x = y) ∨ (r = some (.int 0) ∧ ¬ x = y)) ∧ w' = wB d a tk hh ei dd co ar en wi la be bw bl) := by
  refine lc_K.of (by decide) (Nat.le_of_ble_eq_true rfl) (fun p e s m below meth c A ls S hr hlk hnm N hl => ?_)
  have S : CallFix p m c cX1_same 3 s _ lw_all RX1 := S
  have hx := S.1
  have hb := S.2.1
  have hl : lv_has ls 3 [(0, .ref (a 0)), (1, .int (nI v)), (2, .int (nI i))] := hl
  have hv := (List.getElem?_eq_some_iff.mp hx0).1
  have hi := (List.getElem?_eq_some_iff.mp hy0).1
  obtain ⟨x1, x2, x3⟩ := hsg v x hx0
  obtain ⟨y1, y2, y3⟩ := hsg i y hy0
  have x1 : be v = x.1 := x1
  have x2 : bw v = x.2.1 := x2
  have x3 : bl v = x.2.2 := x3
  have y1 : be i = y.1 := y1
  have y2 : bw i = y.2.1 := y2
  have y3 : bl i = y.2.2 := y3
  refine lv_aload_n hx hb dX1_same_0 rfl (lv_at hl 0 rfl) ?_
  refine gB_be S N dX1_same_1 ?_
  refine lv_iload_n hx hb dX1_same_4 rfl (lv_at hl 1 rfl) ?_
  refine lB_be S N v (by omega) dX1_same_5 ?_
  refine lv_aload_n hx hb dX1_same_6 rfl (lv_at hl 0 rfl) ?_
  refine gB_be S N dX1_same_7 ?_
  refine lv_iload_n hx hb dX1_same_10 rfl (lv_at hl 2 rfl) ?_
  refine lB_be S N i (by omega) dX1_same_11 ?_
  refine lv_icmp_ne (tgt := 49) hx hb dX1_same_12 (by decide) (fun c1 => ?_) (fun c1 => ?_)
  · refine lv_iconst (v := 0) hx hb dX1_same_49 (by decide) ?_
    exact lc_zret S hr hlk N (by decide) ⟨Or.inr ⟨rfl, fun q => c1 (by rw [x1, y1, q])⟩, rfl⟩ dX1_same_50
  · refine lv_aload_n hx hb dX1_same_15 rfl (lv_at hl 0 rfl) ?_
    refine gB_bw S N dX1_same_16 ?_
    refine lv_iload_n hx hb dX1_same_19 rfl (lv_at hl 1 rfl) ?_
    refine lB_bw S N v (by omega) dX1_same_20 ?_
    refine lv_aload_n hx hb dX1_same_21 rfl (lv_at hl 0 rfl) ?_
    refine gB_bw S N dX1_same_22 ?_
    refine lv_iload_n hx hb dX1_same_25 rfl (lv_at hl 2 rfl) ?_
    refine lB_bw S N i (by omega) dX1_same_26 ?_
    refine lv_icmp_ne (tgt := 49) hx hb dX1_same_27 (by decide) (fun c2 => ?_) (fun c2 => ?_)
    · refine lv_iconst (v := 0) hx hb dX1_same_49 (by decide) ?_
      exact lc_zret S hr hlk N (by decide) ⟨Or.inr ⟨rfl, fun q => c2 (by rw [x2, y2, q])⟩, rfl⟩ dX1_same_50
    · refine lv_aload_n hx hb dX1_same_30 rfl (lv_at hl 0 rfl) ?_
      refine gB_bl S N dX1_same_31 ?_
      refine lv_iload_n hx hb dX1_same_34 rfl (lv_at hl 1 rfl) ?_
      refine lB_bl S N v (by omega) dX1_same_35 ?_
      refine lv_aload_n hx hb dX1_same_36 rfl (lv_at hl 0 rfl) ?_
      refine gB_bl S N dX1_same_37 ?_
      refine lv_iload_n hx hb dX1_same_40 rfl (lv_at hl 2 rfl) ?_
      refine lB_bl S N i (by omega) dX1_same_41 ?_
      refine lv_icmp_ne (tgt := 49) hx hb dX1_same_42 (by decide) (fun c3 => ?_) (fun c3 => ?_)
      · refine lv_iconst (v := 0) hx hb dX1_same_49 (by decide) ?_
        exact lc_zret S hr hlk N (by decide) ⟨Or.inr ⟨rfl, fun q => c3 (by rw [x3, y3, q])⟩, rfl⟩ dX1_same_50
      · refine lv_iconst (v := 1) hx hb dX1_same_45 (by decide) ?_
        refine lv_goto (tgt := 50) hx hb dX1_same_46 (by decide) ?_
        exact lc_zret S hr hlk N (by decide) ⟨Or.inl ⟨rfl, Prod.ext (by rw [← x1, ← y1]; exact c1) (Prod.ext (by rw [← x2, ← y2]; exact c2) (by rw [← x3, ← y3]; exact c3))⟩, rfl⟩ dX1_same_50
set_option maxHeartbeats 4000000 in
set_option maxRecDepth 100000 in
/-- isBest -/
theorem kB_isBest (l : Launch) (D : va_G) (d : ClassId) (a : Nat → Nat) (tk hh ei dd : Int32) (co ar en wi la be bw bl : Nat → Int32) (lw : List lc_B) (hlw : lw.length ≤ 64) (hsg : lc_seg 0 lw be bw bl) (i : Nat) (hi : i < lw.length) : lc_K l D d yX1_isBest cX1_isBest 5 (some .boolean) { frames := 1, cells := 0, slots := 0, locals := 22 } [.ref (a 0), .int (nI i), .int (nI lw.length)] (wB d a tk hh ei dd co ar en wi la be bw bl) (fun r w' => r = some (.int (lc_z (lc_isb lw i))) ∧ w' = wB d a tk hh ei dd co ar en wi la be bw bl) := by
  refine lc_K.of (by decide) (Nat.le_of_ble_eq_true rfl) (fun p e s m below meth c A ls S hr hlk hnm N hl => ?_)
  have S : CallFix p m c cX1_isBest 5 s _ lw_all RX1 := S
  have hx := S.1
  have hb := S.2.1
  have hl : lv_has ls 5 [(0, .ref (a 0)), (1, .int (nI i)), (2, .int (nI lw.length))] := hl
  obtain ⟨y, hy0⟩ := lc_getE hi
  obtain ⟨y1, y2, y3⟩ := hsg i y hy0
  have y1 : be i = y.1 := y1
  have y2 : bw i = y.2.1 := y2
  have y3 : bl i = y.2.2 := y3
  refine lv_iconst (v := 0) hx hb dX1_isBest_0 (by decide) ?_
  refine lc_top (nI 0) nI_0.symm ?_
  refine lv_istore_n (lv' := [(3, .int (nI 0)), (0, .ref (a 0)), (1, .int (nI i)), (2, .int (nI lw.length))]) hx hb dX1_isBest_1 rfl hl (by decide) rfl (fun ls hl => ?_)
  refine lc_loop (I := fun n H locs ls => ∃ v : Nat, n + v = lw.length ∧ lc_St D d A s (wB d a tk hh ei dd co ar en wi la be bw bl) H locs ∧ lv_has ls 5 [(0, .ref (a 0)), (1, .int (nI i)), (2, .int (nI lw.length)), (3, .int (nI v))] ∧ ∀ u, u < v → lc_badw lw i u = false) (fun n H locs ls hI ih => ?_) lw.length ⟨0, rfl, N, lv_sub hl [1, 2, 3, 0] rfl, fun u h => absurd h (Nat.not_lt_zero u)⟩
  obtain ⟨v, hk, N, hl, hinv⟩ := hI
  refine lv_iload_n hx hb dX1_isBest_2 rfl (lv_at hl 3 rfl) ?_
  refine lv_iload_n hx hb dX1_isBest_3 rfl (lv_at hl 2 rfl) ?_
  refine lv_icmp_ge (tgt := 89) hx hb dX1_isBest_4 (by decide) (fun c1 => ?_) (fun c1 => ?_)
  · have hk1 := lc_nI_le c1 (by omega) (by omega)
    have hb1 : lc_isb lw i = true := lc_isb_yes (fun u hu => hinv u (by omega))
    refine lv_iconst (v := 1) hx hb dX1_isBest_89 (by decide) ?_
    exact lc_zret S hr hlk N (by decide) ⟨by rw [hb1]; rfl, rfl⟩ dX1_isBest_90
  · have hk1 := lc_nI_lt c1 (by omega) (by omega)
    obtain ⟨x, hx0⟩ := lc_getE hk1
    obtain ⟨x1, x2, x3⟩ := hsg v x hx0
    have x1 : be v = x.1 := x1
    have x2 : bw v = x.2.1 := x2
    have x3 : bl v = x.2.2 := x3
    have hbw := lc_badw_eq hx0 hy0
    refine lc_cut 57 (J := fun H locs ls st => st = [.int (lc_z (lc_le x y))] ∧ lc_St D d A s (wB d a tk hh ei dd co ar en wi la be bw bl) H locs ∧ lv_has ls 5 [(0, .ref (a 0)), (1, .int (nI i)), (2, .int (nI lw.length)), (3, .int (nI v))]) (fun H locs ls st hJ => ?_) (fun KJ => ?_)
    · obtain ⟨rfl, N, hl⟩ := hJ
      refine lv_istore (lv' := [(4, .int (lc_z (lc_le x y))), (0, .ref (a 0)), (1, .int (nI i)), (2, .int (nI lw.length)), (3, .int (nI v))]) hx hb dX1_isBest_57 hl (by decide) rfl (fun ls hl => ?_)
      refine lv_aload_n hx hb dX1_isBest_59 rfl (lv_at hl 1 rfl) ?_
      refine lv_iload_n hx hb dX1_isBest_60 rfl (lv_at hl 4 rfl) ?_
      refine lv_iload_n hx hb dX1_isBest_61 rfl (lv_at hl 2 rfl) ?_
      refine lc_callV (ci := 1) (kB_same l D d a tk hh ei dd co ar en wi la be bw bl lw hlw hsg v i x y hx0 hy0) S N (lw_V q214 q216 qs12 q15 q217) hd_X1_same ⟨by decide, by decide⟩ ⟨rfl, rfl⟩ rfl rfl hl (Nat.le_of_ble_eq_true rfl) rfl dX1_isBest_62 ⟨Nat.zero_le _, Nat.zero_le _⟩ (fun r w1 H locs hp N => ?_)
      obtain ⟨hp, rfl⟩ := hp
      rcases hp with ⟨rfl, he⟩ | ⟨rfl, he⟩
      · rw [if_pos he] at hbw
        refine lv_if_eq (tgt := 76) hx hb dX1_isBest_65 (by decide) (fun z => ?_) (fun z => ?_)
        · exact absurd z (by decide)
        · refine lv_iload_n hx hb dX1_isBest_68 rfl (lv_at hl 4 rfl) ?_
          refine lv_iload_n hx hb dX1_isBest_69 rfl (lv_at hl 2 rfl) ?_
          refine lv_icmp_ge (tgt := 83) hx hb dX1_isBest_70 (by decide) (fun z2 => ?_) (fun z2 => ?_)
          · have hk3 := lc_nI_le z2 (by omega) (by omega)
            have hgood : lc_badw lw i v = false := by rw [hbw]; exact decide_eq_false (by omega)
            refine lv_iinc (v := nI (v + 1)) (lv' := [(3, .int (nI (v + 1))), (4, .int (lc_z (lc_le x y))), (0, .ref (a 0)), (1, .int (nI i)), (2, .int (nI lw.length))]) hx hb dX1_isBest_83 hl (k := 4) rfl (nI_1 v) (by decide) rfl (fun ls hl => ?_)
            refine lv_goto (tgt := 2) hx hb dX1_isBest_86 (by decide) ?_
            exact ih (n - 1) _ _ _ (by omega) ⟨v + 1, by omega, N, lv_sub hl [2, 3, 4, 0] rfl, fun u hu => by rcases Nat.lt_succ_iff_lt_or_eq.mp hu with q | q; exact hinv u q; rw [q]; exact hgood⟩
          · have hk3 := lc_nI_lt z2 (by omega) (by omega)
            have hb1 : lc_isb lw i = false := lc_isb_no hk1 (by rw [hbw]; exact decide_eq_true hk3)
            refine lv_goto (tgt := 81) hx hb dX1_isBest_73 (by decide) ?_
            refine lv_iconst (v := 0) hx hb dX1_isBest_81 (by decide) ?_
            exact lc_zret S hr hlk N (by decide) ⟨by rw [hb1]; rfl, rfl⟩ dX1_isBest_82
      · rw [if_neg he] at hbw
        refine lv_if_eq (tgt := 76) hx hb dX1_isBest_65 (by decide) (fun z => ?_) (fun z => ?_)
        · refine lv_iload hx hb dX1_isBest_76 (lv_at hl 0 rfl) ?_
          refine lv_if_eq (tgt := 83) hx hb dX1_isBest_78 (by decide) (fun z2 => ?_) (fun z2 => ?_)
          · have hgood : lc_badw lw i v = false := by rw [hbw]; cases hq : lc_le x y; rfl; rw [hq] at z2; exact absurd z2 (by decide)
            refine lv_iinc (v := nI (v + 1)) (lv' := [(3, .int (nI (v + 1))), (4, .int (lc_z (lc_le x y))), (0, .ref (a 0)), (1, .int (nI i)), (2, .int (nI lw.length))]) hx hb dX1_isBest_83 hl (k := 4) rfl (nI_1 v) (by decide) rfl (fun ls hl => ?_)
            refine lv_goto (tgt := 2) hx hb dX1_isBest_86 (by decide) ?_
            exact ih (n - 1) _ _ _ (by omega) ⟨v + 1, by omega, N, lv_sub hl [2, 3, 4, 0] rfl, fun u hu => by rcases Nat.lt_succ_iff_lt_or_eq.mp hu with q | q; exact hinv u q; rw [q]; exact hgood⟩
          · have hb1 : lc_isb lw i = false := lc_isb_no hk1 (by rw [hbw]; cases hq : lc_le x y; rw [hq] at z2; exact absurd rfl z2; rfl)
            refine lv_iconst (v := 0) hx hb dX1_isBest_81 (by decide) ?_
            exact lc_zret S hr hlk N (by decide) ⟨by rw [hb1]; rfl, rfl⟩ dX1_isBest_82
        · exact absurd rfl z
    · refine lv_aload_n hx hb dX1_isBest_7 rfl (lv_at hl 0 rfl) ?_
      refine gB_be S N dX1_isBest_8 ?_
      refine lv_iload_n hx hb dX1_isBest_11 rfl (lv_at hl 3 rfl) ?_
      refine lB_be S N v (by omega) dX1_isBest_12 ?_
      refine lv_aload_n hx hb dX1_isBest_13 rfl (lv_at hl 0 rfl) ?_
      refine gB_be S N dX1_isBest_14 ?_
      refine lv_iload_n hx hb dX1_isBest_17 rfl (lv_at hl 1 rfl) ?_
      refine lB_be S N i (by omega) dX1_isBest_18 ?_
      refine lv_icmp_gt (tgt := 56) hx hb dX1_isBest_19 (by decide) (fun d1 => ?_) (fun d1 => ?_)
      · refine lv_iconst (v := 0) hx hb dX1_isBest_56 (by decide) ?_
        exact KJ _ _ _ _ ⟨by rw [lc_le_f (fun h => lc_nle d1 (by rw [x1, y1]; exact h.1))]; rfl, N, hl⟩
      · refine lv_aload_n hx hb dX1_isBest_22 rfl (lv_at hl 0 rfl) ?_
        refine gB_bw S N dX1_isBest_23 ?_
        refine lv_iload_n hx hb dX1_isBest_26 rfl (lv_at hl 3 rfl) ?_
        refine lB_bw S N v (by omega) dX1_isBest_27 ?_
        refine lv_aload_n hx hb dX1_isBest_28 rfl (lv_at hl 0 rfl) ?_
        refine gB_bw S N dX1_isBest_29 ?_
        refine lv_iload_n hx hb dX1_isBest_32 rfl (lv_at hl 1 rfl) ?_
        refine lB_bw S N i (by omega) dX1_isBest_33 ?_
        refine lv_icmp_gt (tgt := 56) hx hb dX1_isBest_34 (by decide) (fun d2 => ?_) (fun d2 => ?_)
        · refine lv_iconst (v := 0) hx hb dX1_isBest_56 (by decide) ?_
          exact KJ _ _ _ _ ⟨by rw [lc_le_f (fun h => lc_nle d2 (by rw [x2, y2]; exact h.2.1))]; rfl, N, hl⟩
        · refine lv_aload_n hx hb dX1_isBest_37 rfl (lv_at hl 0 rfl) ?_
          refine gB_bl S N dX1_isBest_38 ?_
          refine lv_iload_n hx hb dX1_isBest_41 rfl (lv_at hl 3 rfl) ?_
          refine lB_bl S N v (by omega) dX1_isBest_42 ?_
          refine lv_aload_n hx hb dX1_isBest_43 rfl (lv_at hl 0 rfl) ?_
          refine gB_bl S N dX1_isBest_44 ?_
          refine lv_iload_n hx hb dX1_isBest_47 rfl (lv_at hl 1 rfl) ?_
          refine lB_bl S N i (by omega) dX1_isBest_48 ?_
          refine lv_icmp_gt (tgt := 56) hx hb dX1_isBest_49 (by decide) (fun d3 => ?_) (fun d3 => ?_)
          · refine lv_iconst (v := 0) hx hb dX1_isBest_56 (by decide) ?_
            exact KJ _ _ _ _ ⟨by rw [lc_le_f (fun h => lc_nle d3 (by rw [x3, y3]; exact h.2.2))]; rfl, N, hl⟩
          · refine lv_iconst (v := 1) hx hb dX1_isBest_52 (by decide) ?_
            refine lv_goto (tgt := 57) hx hb dX1_isBest_53 (by decide) ?_
            exact KJ _ _ _ _ ⟨by rw [lc_le_iff.mpr ⟨by rw [← x1, ← y1]; exact lc_nlt d1, by rw [← x2, ← y2]; exact lc_nlt d2, by rw [← x3, ← y3]; exact lc_nlt d3⟩]; rfl, N, hl⟩
end
section
set_option maxHeartbeats 4000000 in
set_option maxRecDepth 100000 in
/-- lines -/
theorem kB_lines (l : Launch) (D : va_G) (d : ClassId) (a : Nat → Nat) (dd : Int32) (co ar en wi la be bw bl : Nat → Int32) (ts : List lc_T) (hts : lc_toks co ar ts) (ht48 : ts.length ≤ 48) (hwf : lc_wf 0 ts) (hcn : lc_cnt ts ≤ 6) (hf10 : lc_fin 0 ts ≤ 10) (k lim : Int32) : lc_K l D d yX1_lines cX1_lines 6 (some .int) { frames := 4, cells := 0, slots := 0, locals := 92 } [.ref (a 0), .int k, .int lim] (wB d a (nI ts.length) (nI (lc_fin 0 ts)) (nI (lc_cnt ts)) dd co ar en wi la be bw bl) (fun r w' => r = some (.int (lc_q (lc_fin 0 ts) k (fun j => lc_lines lim (lc_ways ts (lc_cnt ts) j)))) ∧ ∃ (dd' : Int32) (en' wi' la' be' bw' bl' : Nat → Int32), w' = wB d a (nI ts.length) (nI (lc_fin 0 ts)) (nI (lc_cnt ts)) dd' co ar en' wi' la' be' bw' bl') := by
  refine lc_K.of (by decide) (Nat.le_of_ble_eq_true rfl) (fun p e s m below meth c A ls S hr hlk hnm N hl => ?_)
  have S : CallFix p m c cX1_lines 6 s _ lw_all RX1 := S
  have hx := S.1
  have hb := S.2.1
  have hl : lv_has ls 6 [(0, .ref (a 0)), (1, .int k), (2, .int lim)] := hl
  refine lv_aload_n hx hb dX1_lines_0 rfl (lv_at hl 0 rfl) ?_
  refine lv_iload_n hx hb dX1_lines_1 rfl (lv_at hl 1 rfl) ?_
  refine lc_callV (ci := 1) (kB_missing l D d a (nI ts.length) (nI (lc_fin 0 ts)) (nI (lc_cnt ts)) dd co ar en wi la be bw bl k) S N (lw_V q176 q178 qs7 q15 q179) hd_X1_missing ⟨by decide, by decide⟩ ⟨rfl, rfl⟩ rfl rfl hl (Nat.le_of_ble_eq_true rfl) rfl dX1_lines_2 ⟨Nat.zero_le _, Nat.zero_le _⟩ (fun r w1 H locs hp N => ?_)
  obtain ⟨hp, rfl⟩ := hp
  rcases hp with ⟨rfl, he⟩ | ⟨rfl, he⟩
  · refine lv_if_eq (tgt := 10) hx hb dX1_lines_5 (by decide) (fun z => ?_) (fun z => ?_)
    · exact absurd z (by decide)
    · refine lv_iconst (v := (-1)) hx hb dX1_lines_8 (by decide) ?_
      exact lc_iret S hr hlk N ⟨by rw [lc_q_no he], dd, en, wi, la, be, bw, bl, rfl⟩ dX1_lines_9
  · refine lv_if_eq (tgt := 10) hx hb dX1_lines_5 (by decide) (fun z => ?_) (fun z => ?_)
    rotate_left
    · exact absurd rfl z
    obtain ⟨j, hj, rfl⟩ := lc_q_k he (by omega)
    rw [lc_q_yes hj (by omega)]
    refine lv_iconst (v := (-1)) hx hb dX1_lines_10 (by decide) ?_
    refine lv_istore_n (lv' := [(3, .int (-1)), (0, .ref (a 0)), (1, .int (nI j)), (2, .int lim)]) hx hb dX1_lines_11 rfl hl (by decide) rfl (fun ls hl => ?_)
    refine lv_aload_n hx hb dX1_lines_12 rfl (lv_at hl 1 rfl) ?_
    refine lv_iload_n hx hb dX1_lines_13 rfl (lv_at hl 2 rfl) ?_
    refine lc_callV (ci := 1) (kB_makeAll l D d a (nI (lc_fin 0 ts)) dd co ar en wi la be bw bl ts hts ht48 hwf hcn j hj hf10) S N (lw_V q180 q182 qs8 q15 q183) hd_X1_makeAll ⟨by decide, by decide⟩ ⟨rfl, rfl⟩ rfl rfl hl (Nat.le_of_ble_eq_true rfl) rfl dX1_lines_14 ⟨Nat.zero_le _, Nat.zero_le _⟩ (fun r w1 H locs hp N => ?_)
    obtain ⟨rfl, dd2, g1, g2, g3, k1, k2, k3, rfl, hsg⟩ := hp
    have hp6 : 2 ^ lc_cnt ts ≤ 64 := Nat.pow_le_pow_right (n := 2) (by decide) hcn
    have hlen : (lc_ways ts (lc_cnt ts) j).length = 2 ^ lc_cnt ts := lc_ways_len
    rw [← hlen] at hp6
    rw [← hlen]
    generalize (lc_ways ts (lc_cnt ts) j) = lw at hsg hlen hp6 ⊢
    refine lv_istore (lv' := [(4, .int (nI lw.length)), (3, .int (-1)), (0, .ref (a 0)), (1, .int (nI j)), (2, .int lim)]) hx hb dX1_lines_17 hl (by decide) rfl (fun ls hl => ?_)
    refine lv_iconst (v := 0) hx hb dX1_lines_19 (by decide) ?_
    refine lc_top (nI 0) nI_0.symm ?_
    refine lv_istore (lv' := [(5, .int (nI 0)), (4, .int (nI lw.length)), (3, .int (-1)), (0, .ref (a 0)), (1, .int (nI j)), (2, .int lim)]) hx hb dX1_lines_20 hl (by decide) rfl (fun ls hl => ?_)
    refine lc_loop (I := fun n H locs ls => ∃ (i : Nat), n + i = lw.length ∧ lc_St D d A s (wB d a (nI ts.length) (nI (lc_fin 0 ts)) (nI (lc_cnt ts)) dd2 co ar g1 g2 g3 k1 k2 k3) H locs ∧ lv_has ls 6 [(0, .ref (a 0)), (1, .int (nI j)), (2, .int lim), (3, .int (lc_lines lim (lw.take i))), (4, .int (nI lw.length)), (5, .int (nI i))]) (fun n H locs ls hI ih => ?_) lw.length ⟨0, rfl, N, lv_sub hl [3, 4, 5, 2, 1, 0] rfl⟩
    obtain ⟨i, hk, N, hl⟩ := hI
    refine lv_iload hx hb dX1_lines_22 (lv_at hl 5 rfl) ?_
    refine lv_iload hx hb dX1_lines_24 (lv_at hl 4 rfl) ?_
    refine lv_icmp_ge (tgt := 69) hx hb dX1_lines_26 (by decide) (fun c1 => ?_) (fun c1 => ?_)
    · have hk1 := lc_nI_le c1 (by omega) (by omega)
      have hkq : lw.take i = lw := List.take_of_length_le (by omega)
      rw [hkq] at hl
      refine lv_iload_n hx hb dX1_lines_69 rfl (lv_at hl 3 rfl) ?_
      exact lc_iret S hr hlk N ⟨rfl, _, _, _, _, _, _, _, rfl⟩ dX1_lines_70
    · have hk1 := lc_nI_lt c1 (by omega) (by omega)
      obtain ⟨y, hy⟩ := lc_getE hk1
      obtain ⟨f1, f2, f3⟩ := hsg i y hy
      have f1 : k1 i = y.1 := f1
      have f2 : k2 i = y.2.1 := f2
      refine lv_aload_n hx hb dX1_lines_29 rfl (lv_at hl 0 rfl) ?_
      refine gB_bw S N dX1_lines_30 ?_
      refine lv_iload hx hb dX1_lines_33 (lv_at hl 5 rfl) ?_
      refine lB_bw S N i (by omega) dX1_lines_35 ?_
      refine lv_iload_n hx hb dX1_lines_36 rfl (lv_at hl 2 rfl) ?_
      refine lv_icmp_gt (tgt := 63) hx hb dX1_lines_37 (by decide) (fun d1 => ?_) (fun d1 => ?_)
      · have hm : lc_lines lim (lw.take (i + 1)) = (lc_lines lim (lw.take i)) := lc_min_no1 hy (decide_eq_false (fun h => lc_nle d1 (by rw [f2]; exact h)))
        refine lv_iinc (v := nI (i + 1)) (lv' := [(5, .int (nI (i + 1))), (0, .ref (a 0)), (1, .int (nI j)), (2, .int lim), (3, .int (lc_lines lim (lw.take i))), (4, .int (nI lw.length))]) hx hb dX1_lines_63 hl (k := 5) rfl (nI_1 i) (by decide) rfl (fun ls hl => ?_)
        refine lv_goto (tgt := 22) hx hb dX1_lines_66 (by decide) ?_
        exact ih (n - 1) _ _ _ (by omega) ⟨i + 1, by omega, N, by rw [hm]; exact lv_sub hl [1, 2, 3, 4, 5, 0] rfl⟩
      · have hok : (y.2.1 ≤ lim) := by rw [← f2]; exact lc_nlt d1
        refine lv_iload_n hx hb dX1_lines_40 rfl (lv_at hl 3 rfl) ?_
        refine lv_if_lt (tgt := 55) hx hb dX1_lines_41 (by decide) (fun d2 => ?_) (fun d2 => ?_)
        · refine lv_aload_n hx hb dX1_lines_55 rfl (lv_at hl 0 rfl) ?_
          refine gB_be S N dX1_lines_56 ?_
          refine lv_iload hx hb dX1_lines_59 (lv_at hl 5 rfl) ?_
          refine lB_be S N i (by omega) dX1_lines_61 ?_
          refine lv_istore_n (lv' := [(3, .int (k1 i)), (0, .ref (a 0)), (1, .int (nI j)), (2, .int lim), (4, .int (nI lw.length)), (5, .int (nI i))]) hx hb dX1_lines_62 rfl hl (by decide) rfl (fun ls hl => ?_)
          have hm : lc_lines lim (lw.take (i + 1)) = (k1 i) := (lc_min_yes hy (decide_eq_true hok) (Or.inl d2)).trans f1.symm
          refine lv_iinc (v := nI (i + 1)) (lv' := [(5, .int (nI (i + 1))), (3, .int (k1 i)), (0, .ref (a 0)), (1, .int (nI j)), (2, .int lim), (4, .int (nI lw.length))]) hx hb dX1_lines_63 hl (k := 5) rfl (nI_1 i) (by decide) rfl (fun ls hl => ?_)
          refine lv_goto (tgt := 22) hx hb dX1_lines_66 (by decide) ?_
          exact ih (n - 1) _ _ _ (by omega) ⟨i + 1, by omega, N, by rw [hm]; exact lv_sub hl [2, 3, 4, 1, 5, 0] rfl⟩
        · refine lv_aload_n hx hb dX1_lines_44 rfl (lv_at hl 0 rfl) ?_
          refine gB_be S N dX1_lines_45 ?_
          refine lv_iload hx hb dX1_lines_48 (lv_at hl 5 rfl) ?_
          refine lB_be S N i (by omega) dX1_lines_50 ?_
          refine lv_iload_n hx hb dX1_lines_51 rfl (lv_at hl 3 rfl) ?_
          refine lv_icmp_ge (tgt := 63) hx hb dX1_lines_52 (by decide) (fun d3 => ?_) (fun d3 => ?_)
          · have hm : lc_lines lim (lw.take (i + 1)) = (lc_lines lim (lw.take i)) := lc_min_no2 hy d2 (by rw [← f1]; exact d3)
            refine lv_iinc (v := nI (i + 1)) (lv' := [(5, .int (nI (i + 1))), (0, .ref (a 0)), (1, .int (nI j)), (2, .int lim), (3, .int (lc_lines lim (lw.take i))), (4, .int (nI lw.length))]) hx hb dX1_lines_63 hl (k := 5) rfl (nI_1 i) (by decide) rfl (fun ls hl => ?_)
            refine lv_goto (tgt := 22) hx hb dX1_lines_66 (by decide) ?_
            exact ih (n - 1) _ _ _ (by omega) ⟨i + 1, by omega, N, by rw [hm]; exact lv_sub hl [1, 2, 3, 4, 5, 0] rfl⟩
          · refine lv_aload_n hx hb dX1_lines_55 rfl (lv_at hl 0 rfl) ?_
            refine gB_be S N dX1_lines_56 ?_
            refine lv_iload hx hb dX1_lines_59 (lv_at hl 5 rfl) ?_
            refine lB_be S N i (by omega) dX1_lines_61 ?_
            refine lv_istore_n (lv' := [(3, .int (k1 i)), (0, .ref (a 0)), (1, .int (nI j)), (2, .int lim), (4, .int (nI lw.length)), (5, .int (nI i))]) hx hb dX1_lines_62 rfl hl (by decide) rfl (fun ls hl => ?_)
            have hm : lc_lines lim (lw.take (i + 1)) = (k1 i) := (lc_min_yes hy (decide_eq_true hok) (Or.inr (by rw [← f1]; exact lc_nle' d3))).trans f1.symm
            refine lv_iinc (v := nI (i + 1)) (lv' := [(5, .int (nI (i + 1))), (3, .int (k1 i)), (0, .ref (a 0)), (1, .int (nI j)), (2, .int lim), (4, .int (nI lw.length))]) hx hb dX1_lines_63 hl (k := 5) rfl (nI_1 i) (by decide) rfl (fun ls hl => ?_)
            refine lv_goto (tgt := 22) hx hb dX1_lines_66 (by decide) ?_
            exact ih (n - 1) _ _ _ (by omega) ⟨i + 1, by omega, N, by rw [hm]; exact lv_sub hl [2, 3, 4, 1, 5, 0] rfl⟩
set_option maxHeartbeats 4000000 in
set_option maxRecDepth 100000 in
/-- width -/
theorem kB_width (l : Launch) (D : va_G) (d : ClassId) (a : Nat → Nat) (dd : Int32) (co ar en wi la be bw bl : Nat → Int32) (ts : List lc_T) (hts : lc_toks co ar ts) (ht48 : ts.length ≤ 48) (hwf : lc_wf 0 ts) (hcn : lc_cnt ts ≤ 6) (hf10 : lc_fin 0 ts ≤ 10) (k lim : Int32) : lc_K l D d yX1_width cX1_width 6 (some .int) { frames := 4, cells := 0, slots := 0, locals := 92 } [.ref (a 0), .int k, .int lim] (wB d a (nI ts.length) (nI (lc_fin 0 ts)) (nI (lc_cnt ts)) dd co ar en wi la be bw bl) (fun r w' => r = some (.int (lc_q (lc_fin 0 ts) k (fun j => lc_width lim (lc_ways ts (lc_cnt ts) j)))) ∧ ∃ (dd' : Int32) (en' wi' la' be' bw' bl' : Nat → Int32), w' = wB d a (nI ts.length) (nI (lc_fin 0 ts)) (nI (lc_cnt ts)) dd' co ar en' wi' la' be' bw' bl') := by
  refine lc_K.of (by decide) (Nat.le_of_ble_eq_true rfl) (fun p e s m below meth c A ls S hr hlk hnm N hl => ?_)
  have S : CallFix p m c cX1_width 6 s _ lw_all RX1 := S
  have hx := S.1
  have hb := S.2.1
  have hl : lv_has ls 6 [(0, .ref (a 0)), (1, .int k), (2, .int lim)] := hl
  refine lv_aload_n hx hb dX1_width_0 rfl (lv_at hl 0 rfl) ?_
  refine lv_iload_n hx hb dX1_width_1 rfl (lv_at hl 1 rfl) ?_
  refine lc_callV (ci := 1) (kB_missing l D d a (nI ts.length) (nI (lc_fin 0 ts)) (nI (lc_cnt ts)) dd co ar en wi la be bw bl k) S N (lw_V q176 q178 qs7 q15 q179) hd_X1_missing ⟨by decide, by decide⟩ ⟨rfl, rfl⟩ rfl rfl hl (Nat.le_of_ble_eq_true rfl) rfl dX1_width_2 ⟨Nat.zero_le _, Nat.zero_le _⟩ (fun r w1 H locs hp N => ?_)
  obtain ⟨hp, rfl⟩ := hp
  rcases hp with ⟨rfl, he⟩ | ⟨rfl, he⟩
  · refine lv_if_eq (tgt := 10) hx hb dX1_width_5 (by decide) (fun z => ?_) (fun z => ?_)
    · exact absurd z (by decide)
    · refine lv_iconst (v := (-1)) hx hb dX1_width_8 (by decide) ?_
      exact lc_iret S hr hlk N ⟨by rw [lc_q_no he], dd, en, wi, la, be, bw, bl, rfl⟩ dX1_width_9
  · refine lv_if_eq (tgt := 10) hx hb dX1_width_5 (by decide) (fun z => ?_) (fun z => ?_)
    rotate_left
    · exact absurd rfl z
    obtain ⟨j, hj, rfl⟩ := lc_q_k he (by omega)
    rw [lc_q_yes hj (by omega)]
    refine lv_iconst (v := (-1)) hx hb dX1_width_10 (by decide) ?_
    refine lv_istore_n (lv' := [(3, .int (-1)), (0, .ref (a 0)), (1, .int (nI j)), (2, .int lim)]) hx hb dX1_width_11 rfl hl (by decide) rfl (fun ls hl => ?_)
    refine lv_aload_n hx hb dX1_width_12 rfl (lv_at hl 1 rfl) ?_
    refine lv_iload_n hx hb dX1_width_13 rfl (lv_at hl 2 rfl) ?_
    refine lc_callV (ci := 1) (kB_makeAll l D d a (nI (lc_fin 0 ts)) dd co ar en wi la be bw bl ts hts ht48 hwf hcn j hj hf10) S N (lw_V q180 q182 qs8 q15 q183) hd_X1_makeAll ⟨by decide, by decide⟩ ⟨rfl, rfl⟩ rfl rfl hl (Nat.le_of_ble_eq_true rfl) rfl dX1_width_14 ⟨Nat.zero_le _, Nat.zero_le _⟩ (fun r w1 H locs hp N => ?_)
    obtain ⟨rfl, dd2, g1, g2, g3, k1, k2, k3, rfl, hsg⟩ := hp
    have hp6 : 2 ^ lc_cnt ts ≤ 64 := Nat.pow_le_pow_right (n := 2) (by decide) hcn
    have hlen : (lc_ways ts (lc_cnt ts) j).length = 2 ^ lc_cnt ts := lc_ways_len
    rw [← hlen] at hp6
    rw [← hlen]
    generalize (lc_ways ts (lc_cnt ts) j) = lw at hsg hlen hp6 ⊢
    refine lv_istore (lv' := [(4, .int (nI lw.length)), (3, .int (-1)), (0, .ref (a 0)), (1, .int (nI j)), (2, .int lim)]) hx hb dX1_width_17 hl (by decide) rfl (fun ls hl => ?_)
    refine lv_iconst (v := 0) hx hb dX1_width_19 (by decide) ?_
    refine lc_top (nI 0) nI_0.symm ?_
    refine lv_istore (lv' := [(5, .int (nI 0)), (4, .int (nI lw.length)), (3, .int (-1)), (0, .ref (a 0)), (1, .int (nI j)), (2, .int lim)]) hx hb dX1_width_20 hl (by decide) rfl (fun ls hl => ?_)
    refine lc_loop (I := fun n H locs ls => ∃ (i : Nat), n + i = lw.length ∧ lc_St D d A s (wB d a (nI ts.length) (nI (lc_fin 0 ts)) (nI (lc_cnt ts)) dd2 co ar g1 g2 g3 k1 k2 k3) H locs ∧ lv_has ls 6 [(0, .ref (a 0)), (1, .int (nI j)), (2, .int lim), (3, .int (lc_width lim (lw.take i))), (4, .int (nI lw.length)), (5, .int (nI i))]) (fun n H locs ls hI ih => ?_) lw.length ⟨0, rfl, N, lv_sub hl [3, 4, 5, 2, 1, 0] rfl⟩
    obtain ⟨i, hk, N, hl⟩ := hI
    refine lv_iload hx hb dX1_width_22 (lv_at hl 5 rfl) ?_
    refine lv_iload hx hb dX1_width_24 (lv_at hl 4 rfl) ?_
    refine lv_icmp_ge (tgt := 69) hx hb dX1_width_26 (by decide) (fun c1 => ?_) (fun c1 => ?_)
    · have hk1 := lc_nI_le c1 (by omega) (by omega)
      have hkq : lw.take i = lw := List.take_of_length_le (by omega)
      rw [hkq] at hl
      refine lv_iload_n hx hb dX1_width_69 rfl (lv_at hl 3 rfl) ?_
      exact lc_iret S hr hlk N ⟨rfl, _, _, _, _, _, _, _, rfl⟩ dX1_width_70
    · have hk1 := lc_nI_lt c1 (by omega) (by omega)
      obtain ⟨y, hy⟩ := lc_getE hk1
      obtain ⟨f1, f2, f3⟩ := hsg i y hy
      have f1 : k1 i = y.1 := f1
      have f2 : k2 i = y.2.1 := f2
      refine lv_aload_n hx hb dX1_width_29 rfl (lv_at hl 0 rfl) ?_
      refine gB_be S N dX1_width_30 ?_
      refine lv_iload hx hb dX1_width_33 (lv_at hl 5 rfl) ?_
      refine lB_be S N i (by omega) dX1_width_35 ?_
      refine lv_iload_n hx hb dX1_width_36 rfl (lv_at hl 2 rfl) ?_
      refine lv_icmp_gt (tgt := 63) hx hb dX1_width_37 (by decide) (fun d1 => ?_) (fun d1 => ?_)
      · have hm : lc_width lim (lw.take (i + 1)) = (lc_width lim (lw.take i)) := lc_min_no1 hy (decide_eq_false (fun h => lc_nle d1 (by rw [f1]; exact h)))
        refine lv_iinc (v := nI (i + 1)) (lv' := [(5, .int (nI (i + 1))), (0, .ref (a 0)), (1, .int (nI j)), (2, .int lim), (3, .int (lc_width lim (lw.take i))), (4, .int (nI lw.length))]) hx hb dX1_width_63 hl (k := 5) rfl (nI_1 i) (by decide) rfl (fun ls hl => ?_)
        refine lv_goto (tgt := 22) hx hb dX1_width_66 (by decide) ?_
        exact ih (n - 1) _ _ _ (by omega) ⟨i + 1, by omega, N, by rw [hm]; exact lv_sub hl [1, 2, 3, 4, 5, 0] rfl⟩
      · have hok : (y.1 ≤ lim) := by rw [← f1]; exact lc_nlt d1
        refine lv_iload_n hx hb dX1_width_40 rfl (lv_at hl 3 rfl) ?_
        refine lv_if_lt (tgt := 55) hx hb dX1_width_41 (by decide) (fun d2 => ?_) (fun d2 => ?_)
        · refine lv_aload_n hx hb dX1_width_55 rfl (lv_at hl 0 rfl) ?_
          refine gB_bw S N dX1_width_56 ?_
          refine lv_iload hx hb dX1_width_59 (lv_at hl 5 rfl) ?_
          refine lB_bw S N i (by omega) dX1_width_61 ?_
          refine lv_istore_n (lv' := [(3, .int (k2 i)), (0, .ref (a 0)), (1, .int (nI j)), (2, .int lim), (4, .int (nI lw.length)), (5, .int (nI i))]) hx hb dX1_width_62 rfl hl (by decide) rfl (fun ls hl => ?_)
          have hm : lc_width lim (lw.take (i + 1)) = (k2 i) := (lc_min_yes hy (decide_eq_true hok) (Or.inl d2)).trans f2.symm
          refine lv_iinc (v := nI (i + 1)) (lv' := [(5, .int (nI (i + 1))), (3, .int (k2 i)), (0, .ref (a 0)), (1, .int (nI j)), (2, .int lim), (4, .int (nI lw.length))]) hx hb dX1_width_63 hl (k := 5) rfl (nI_1 i) (by decide) rfl (fun ls hl => ?_)
          refine lv_goto (tgt := 22) hx hb dX1_width_66 (by decide) ?_
          exact ih (n - 1) _ _ _ (by omega) ⟨i + 1, by omega, N, by rw [hm]; exact lv_sub hl [2, 3, 4, 1, 5, 0] rfl⟩
        · refine lv_aload_n hx hb dX1_width_44 rfl (lv_at hl 0 rfl) ?_
          refine gB_bw S N dX1_width_45 ?_
          refine lv_iload hx hb dX1_width_48 (lv_at hl 5 rfl) ?_
          refine lB_bw S N i (by omega) dX1_width_50 ?_
          refine lv_iload_n hx hb dX1_width_51 rfl (lv_at hl 3 rfl) ?_
          refine lv_icmp_ge (tgt := 63) hx hb dX1_width_52 (by decide) (fun d3 => ?_) (fun d3 => ?_)
          · have hm : lc_width lim (lw.take (i + 1)) = (lc_width lim (lw.take i)) := lc_min_no2 hy d2 (by rw [← f2]; exact d3)
            refine lv_iinc (v := nI (i + 1)) (lv' := [(5, .int (nI (i + 1))), (0, .ref (a 0)), (1, .int (nI j)), (2, .int lim), (3, .int (lc_width lim (lw.take i))), (4, .int (nI lw.length))]) hx hb dX1_width_63 hl (k := 5) rfl (nI_1 i) (by decide) rfl (fun ls hl => ?_)
            refine lv_goto (tgt := 22) hx hb dX1_width_66 (by decide) ?_
            exact ih (n - 1) _ _ _ (by omega) ⟨i + 1, by omega, N, by rw [hm]; exact lv_sub hl [1, 2, 3, 4, 5, 0] rfl⟩
          · refine lv_aload_n hx hb dX1_width_55 rfl (lv_at hl 0 rfl) ?_
            refine gB_bw S N dX1_width_56 ?_
            refine lv_iload hx hb dX1_width_59 (lv_at hl 5 rfl) ?_
            refine lB_bw S N i (by omega) dX1_width_61 ?_
            refine lv_istore_n (lv' := [(3, .int (k2 i)), (0, .ref (a 0)), (1, .int (nI j)), (2, .int lim), (4, .int (nI lw.length)), (5, .int (nI i))]) hx hb dX1_width_62 rfl hl (by decide) rfl (fun ls hl => ?_)
            have hm : lc_width lim (lw.take (i + 1)) = (k2 i) := (lc_min_yes hy (decide_eq_true hok) (Or.inr (by rw [← f2]; exact lc_nle' d3))).trans f2.symm
            refine lv_iinc (v := nI (i + 1)) (lv' := [(5, .int (nI (i + 1))), (3, .int (k2 i)), (0, .ref (a 0)), (1, .int (nI j)), (2, .int lim), (4, .int (nI lw.length))]) hx hb dX1_width_63 hl (k := 5) rfl (nI_1 i) (by decide) rfl (fun ls hl => ?_)
            refine lv_goto (tgt := 22) hx hb dX1_width_66 (by decide) ?_
            exact ih (n - 1) _ _ _ (by omega) ⟨i + 1, by omega, N, by rw [hm]; exact lv_sub hl [2, 3, 4, 1, 5, 0] rfl⟩
set_option maxHeartbeats 4000000 in
set_option maxRecDepth 100000 in
/-- best -/
theorem kB_best (l : Launch) (D : va_G) (d : ClassId) (a : Nat → Nat) (dd : Int32) (co ar en wi la be bw bl : Nat → Int32) (ts : List lc_T) (hts : lc_toks co ar ts) (ht48 : ts.length ≤ 48) (hwf : lc_wf 0 ts) (hcn : lc_cnt ts ≤ 6) (hf10 : lc_fin 0 ts ≤ 10) (k : Int32) : lc_K l D d yX1_best cX1_best 5 (some .int) { frames := 4, cells := 0, slots := 0, locals := 92 } [.ref (a 0), .int k] (wB d a (nI ts.length) (nI (lc_fin 0 ts)) (nI (lc_cnt ts)) dd co ar en wi la be bw bl) (fun r w' => r = some (.int (lc_q (lc_fin 0 ts) k (fun j => nI (lc_cb (lc_ways ts (lc_cnt ts) j) (lc_ways ts (lc_cnt ts) j).length)))) ∧ ∃ (dd' : Int32) (en' wi' la' be' bw' bl' : Nat → Int32), w' = wB d a (nI ts.length) (nI (lc_fin 0 ts)) (nI (lc_cnt ts)) dd' co ar en' wi' la' be' bw' bl') := by
  refine lc_K.of (by decide) (Nat.le_of_ble_eq_true rfl) (fun p e s m below meth c A ls S hr hlk hnm N hl => ?_)
  have S : CallFix p m c cX1_best 5 s _ lw_all RX1 := S
  have hx := S.1
  have hb := S.2.1
  have hl : lv_has ls 5 [(0, .ref (a 0)), (1, .int k)] := hl
  refine lv_aload_n hx hb dX1_best_0 rfl (lv_at hl 0 rfl) ?_
  refine lv_iload_n hx hb dX1_best_1 rfl (lv_at hl 1 rfl) ?_
  refine lc_callV (ci := 1) (kB_missing l D d a (nI ts.length) (nI (lc_fin 0 ts)) (nI (lc_cnt ts)) dd co ar en wi la be bw bl k) S N (lw_V q176 q178 qs7 q15 q179) hd_X1_missing ⟨by decide, by decide⟩ ⟨rfl, rfl⟩ rfl rfl hl (Nat.le_of_ble_eq_true rfl) rfl dX1_best_2 ⟨Nat.zero_le _, Nat.zero_le _⟩ (fun r w1 H locs hp N => ?_)
  obtain ⟨hp, rfl⟩ := hp
  rcases hp with ⟨rfl, he⟩ | ⟨rfl, he⟩
  · refine lv_if_eq (tgt := 10) hx hb dX1_best_5 (by decide) (fun z => ?_) (fun z => ?_)
    · exact absurd z (by decide)
    · refine lv_iconst (v := (-1)) hx hb dX1_best_8 (by decide) ?_
      exact lc_iret S hr hlk N ⟨by rw [lc_q_no he], dd, en, wi, la, be, bw, bl, rfl⟩ dX1_best_9
  · refine lv_if_eq (tgt := 10) hx hb dX1_best_5 (by decide) (fun z => ?_) (fun z => ?_)
    rotate_left
    · exact absurd rfl z
    obtain ⟨j, hj, rfl⟩ := lc_q_k he (by omega)
    rw [lc_q_yes hj (by omega)]
    refine lv_iconst (v := 0) hx hb dX1_best_10 (by decide) ?_
    refine lc_top (nI 0) nI_0.symm ?_
    refine lv_istore_n (lv' := [(2, .int (nI 0)), (0, .ref (a 0)), (1, .int (nI j))]) hx hb dX1_best_11 rfl hl (by decide) rfl (fun ls hl => ?_)
    refine lv_aload_n hx hb dX1_best_12 rfl (lv_at hl 1 rfl) ?_
    refine lv_iload_n hx hb dX1_best_13 rfl (lv_at hl 2 rfl) ?_
    refine lc_callV (ci := 1) (kB_makeAll l D d a (nI (lc_fin 0 ts)) dd co ar en wi la be bw bl ts hts ht48 hwf hcn j hj hf10) S N (lw_V q180 q182 qs8 q15 q183) hd_X1_makeAll ⟨by decide, by decide⟩ ⟨rfl, rfl⟩ rfl rfl hl (Nat.le_of_ble_eq_true rfl) rfl dX1_best_14 ⟨Nat.zero_le _, Nat.zero_le _⟩ (fun r w1 H locs hp N => ?_)
    obtain ⟨rfl, dd2, g1, g2, g3, k1, k2, k3, rfl, hsg⟩ := hp
    have hp6 : 2 ^ lc_cnt ts ≤ 64 := Nat.pow_le_pow_right (n := 2) (by decide) hcn
    have hlen : (lc_ways ts (lc_cnt ts) j).length = 2 ^ lc_cnt ts := lc_ways_len
    rw [← hlen] at hp6
    rw [← hlen]
    generalize (lc_ways ts (lc_cnt ts) j) = lw at hsg hlen hp6 ⊢
    refine lv_istore_n (lv' := [(3, .int (nI lw.length)), (2, .int (nI 0)), (0, .ref (a 0)), (1, .int (nI j))]) hx hb dX1_best_17 rfl hl (by decide) rfl (fun ls hl => ?_)
    refine lv_iconst (v := 0) hx hb dX1_best_18 (by decide) ?_
    refine lc_top (nI 0) nI_0.symm ?_
    refine lv_istore (lv' := [(4, .int (nI 0)), (3, .int (nI lw.length)), (2, .int (nI 0)), (0, .ref (a 0)), (1, .int (nI j))]) hx hb dX1_best_19 hl (by decide) rfl (fun ls hl => ?_)
    refine lc_loop (I := fun n H locs ls => ∃ (i : Nat), n + i = lw.length ∧ lc_St D d A s (wB d a (nI ts.length) (nI (lc_fin 0 ts)) (nI (lc_cnt ts)) dd2 co ar g1 g2 g3 k1 k2 k3) H locs ∧ lv_has ls 5 [(0, .ref (a 0)), (1, .int (nI j)), (2, .int (nI (lc_cb lw i))), (3, .int (nI lw.length)), (4, .int (nI i))]) (fun n H locs ls hI ih => ?_) lw.length ⟨0, rfl, N, lv_sub hl [3, 4, 2, 1, 0] rfl⟩
    obtain ⟨i, hk, N, hl⟩ := hI
    refine lv_iload hx hb dX1_best_21 (lv_at hl 4 rfl) ?_
    refine lv_iload_n hx hb dX1_best_23 rfl (lv_at hl 3 rfl) ?_
    refine lv_icmp_ge (tgt := 46) hx hb dX1_best_24 (by decide) (fun c1 => ?_) (fun c1 => ?_)
    · have hk1 := lc_nI_le c1 (by omega) (by omega)
      have hkq : i = lw.length := by omega
      subst hkq
      refine lv_iload_n hx hb dX1_best_46 rfl (lv_at hl 2 rfl) ?_
      exact lc_iret S hr hlk N ⟨rfl, _, _, _, _, _, _, _, rfl⟩ dX1_best_47
    · have hk1 := lc_nI_lt c1 (by omega) (by omega)
      refine lv_aload_n hx hb dX1_best_27 rfl (lv_at hl 0 rfl) ?_
      refine lv_iload hx hb dX1_best_28 (lv_at hl 4 rfl) ?_
      refine lv_iload_n hx hb dX1_best_30 rfl (lv_at hl 3 rfl) ?_
      refine lc_callV (ci := 1) (kB_isBest l D d a (nI ts.length) (nI (lc_fin 0 ts)) (nI (lc_cnt ts)) dd2 co ar g1 g2 g3 k1 k2 k3 lw hp6 hsg i hk1) S N (lw_V q210 q212 qs11 q15 q213) hd_X1_isBest ⟨by decide, by decide⟩ ⟨rfl, rfl⟩ rfl rfl hl (Nat.le_of_ble_eq_true rfl) rfl dX1_best_31 ⟨Nat.zero_le _, Nat.zero_le _⟩ (fun r w1 H locs hp N => ?_)
      obtain ⟨rfl, rfl⟩ := hp
      refine lv_if_eq (tgt := 40) hx hb dX1_best_34 (by decide) (fun d1 => ?_) (fun d1 => ?_)
      · have hb1 : lc_isb lw i = false := by cases hq : lc_isb lw i; rfl; rw [hq] at d1; exact absurd d1 (by decide)
        have hm : lc_cb lw (i + 1) = lc_cb lw i := lc_cb_no hb1
        refine lv_iinc (v := nI (i + 1)) (lv' := [(4, .int (nI (i + 1))), (0, .ref (a 0)), (1, .int (nI j)), (2, .int (nI (lc_cb lw i))), (3, .int (nI lw.length))]) hx hb dX1_best_40 hl (k := 4) rfl (nI_1 i) (by decide) rfl (fun ls hl => ?_)
        refine lv_goto (tgt := 21) hx hb dX1_best_43 (by decide) ?_
        exact ih (n - 1) _ _ _ (by omega) ⟨i + 1, by omega, N, by rw [hm]; exact lv_sub hl [1, 2, 3, 4, 0] rfl⟩
      · have hb1 : lc_isb lw i = true := by cases hq : lc_isb lw i; rw [hq] at d1; exact absurd rfl d1; rfl
        refine lv_iinc (v := nI (lc_cb lw i + 1)) (lv' := [(2, .int (nI (lc_cb lw i + 1))), (0, .ref (a 0)), (1, .int (nI j)), (3, .int (nI lw.length)), (4, .int (nI i))]) hx hb dX1_best_37 hl (k := 2) rfl (nI_1 _) (by decide) rfl (fun ls hl => ?_)
        have hm : lc_cb lw (i + 1) = lc_cb lw i + 1 := lc_cb_yes hb1
        refine lv_iinc (v := nI (i + 1)) (lv' := [(4, .int (nI (i + 1))), (2, .int (nI (lc_cb lw i + 1))), (0, .ref (a 0)), (1, .int (nI j)), (3, .int (nI lw.length))]) hx hb dX1_best_40 hl (k := 4) rfl (nI_1 i) (by decide) rfl (fun ls hl => ?_)
        refine lv_goto (tgt := 21) hx hb dX1_best_43 (by decide) ?_
        exact ih (n - 1) _ _ _ (by omega) ⟨i + 1, by omega, N, by rw [hm]; exact lv_sub hl [2, 3, 1, 4, 0] rfl⟩
set_option maxHeartbeats 4000000 in
set_option maxRecDepth 100000 in
/-- last -/
theorem kB_last (l : Launch) (D : va_G) (d : ClassId) (a : Nat → Nat) (dd : Int32) (co ar en wi la be bw bl : Nat → Int32) (ts : List lc_T) (hts : lc_toks co ar ts) (ht48 : ts.length ≤ 48) (hwf : lc_wf 0 ts) (hcn : lc_cnt ts ≤ 6) (hf10 : lc_fin 0 ts ≤ 10) (k ln wd : Int32) : lc_K l D d yX1_last cX1_last 8 (some .int) { frames := 4, cells := 0, slots := 0, locals := 92 } [.ref (a 0), .int k, .int ln, .int wd] (wB d a (nI ts.length) (nI (lc_fin 0 ts)) (nI (lc_cnt ts)) dd co ar en wi la be bw bl) (fun r w' => r = some (.int (lc_q (lc_fin 0 ts) k (fun j => lc_last ln wd (lc_ways ts (lc_cnt ts) j)))) ∧ ∃ (dd' : Int32) (en' wi' la' be' bw' bl' : Nat → Int32), w' = wB d a (nI ts.length) (nI (lc_fin 0 ts)) (nI (lc_cnt ts)) dd' co ar en' wi' la' be' bw' bl') := by
  refine lc_K.of (by decide) (Nat.le_of_ble_eq_true rfl) (fun p e s m below meth c A ls S hr hlk hnm N hl => ?_)
  have S : CallFix p m c cX1_last 8 s _ lw_all RX1 := S
  have hx := S.1
  have hb := S.2.1
  have hl : lv_has ls 8 [(0, .ref (a 0)), (1, .int k), (2, .int ln), (3, .int wd)] := hl
  refine lv_aload_n hx hb dX1_last_0 rfl (lv_at hl 0 rfl) ?_
  refine lv_iload_n hx hb dX1_last_1 rfl (lv_at hl 1 rfl) ?_
  refine lc_callV (ci := 1) (kB_missing l D d a (nI ts.length) (nI (lc_fin 0 ts)) (nI (lc_cnt ts)) dd co ar en wi la be bw bl k) S N (lw_V q176 q178 qs7 q15 q179) hd_X1_missing ⟨by decide, by decide⟩ ⟨rfl, rfl⟩ rfl rfl hl (Nat.le_of_ble_eq_true rfl) rfl dX1_last_2 ⟨Nat.zero_le _, Nat.zero_le _⟩ (fun r w1 H locs hp N => ?_)
  obtain ⟨hp, rfl⟩ := hp
  rcases hp with ⟨rfl, he⟩ | ⟨rfl, he⟩
  · refine lv_if_eq (tgt := 10) hx hb dX1_last_5 (by decide) (fun z => ?_) (fun z => ?_)
    · exact absurd z (by decide)
    · refine lv_iconst (v := (-1)) hx hb dX1_last_8 (by decide) ?_
      exact lc_iret S hr hlk N ⟨by rw [lc_q_no he], dd, en, wi, la, be, bw, bl, rfl⟩ dX1_last_9
  · refine lv_if_eq (tgt := 10) hx hb dX1_last_5 (by decide) (fun z => ?_) (fun z => ?_)
    rotate_left
    · exact absurd rfl z
    obtain ⟨j, hj, rfl⟩ := lc_q_k he (by omega)
    rw [lc_q_yes hj (by omega)]
    refine lv_iconst (v := (-1)) hx hb dX1_last_10 (by decide) ?_
    refine lv_istore (lv' := [(4, .int (-1)), (0, .ref (a 0)), (1, .int (nI j)), (2, .int ln), (3, .int wd)]) hx hb dX1_last_11 hl (by decide) rfl (fun ls hl => ?_)
    refine lv_aload_n hx hb dX1_last_13 rfl (lv_at hl 1 rfl) ?_
    refine lv_iload_n hx hb dX1_last_14 rfl (lv_at hl 2 rfl) ?_
    refine lc_callV (ci := 1) (kB_makeAll l D d a (nI (lc_fin 0 ts)) dd co ar en wi la be bw bl ts hts ht48 hwf hcn j hj hf10) S N (lw_V q180 q182 qs8 q15 q183) hd_X1_makeAll ⟨by decide, by decide⟩ ⟨rfl, rfl⟩ rfl rfl hl (Nat.le_of_ble_eq_true rfl) rfl dX1_last_15 ⟨Nat.zero_le _, Nat.zero_le _⟩ (fun r w1 H locs hp N => ?_)
    obtain ⟨rfl, dd2, g1, g2, g3, k1, k2, k3, rfl, hsg⟩ := hp
    have hp6 : 2 ^ lc_cnt ts ≤ 64 := Nat.pow_le_pow_right (n := 2) (by decide) hcn
    have hlen : (lc_ways ts (lc_cnt ts) j).length = 2 ^ lc_cnt ts := lc_ways_len
    rw [← hlen] at hp6
    rw [← hlen]
    generalize (lc_ways ts (lc_cnt ts) j) = lw at hsg hlen hp6 ⊢
    refine lv_istore (lv' := [(5, .int (nI lw.length)), (4, .int (-1)), (0, .ref (a 0)), (1, .int (nI j)), (2, .int ln), (3, .int wd)]) hx hb dX1_last_18 hl (by decide) rfl (fun ls hl => ?_)
    refine lv_iconst (v := 0) hx hb dX1_last_20 (by decide) ?_
    refine lc_top (nI 0) nI_0.symm ?_
    refine lv_istore (lv' := [(6, .int (nI 0)), (5, .int (nI lw.length)), (4, .int (-1)), (0, .ref (a 0)), (1, .int (nI j)), (2, .int ln), (3, .int wd)]) hx hb dX1_last_21 hl (by decide) rfl (fun ls hl => ?_)
    refine lc_loop (I := fun n H locs ls => ∃ (i : Nat), n + i = lw.length ∧ lc_St D d A s (wB d a (nI ts.length) (nI (lc_fin 0 ts)) (nI (lc_cnt ts)) dd2 co ar g1 g2 g3 k1 k2 k3) H locs ∧ lv_has ls 8 [(0, .ref (a 0)), (1, .int (nI j)), (2, .int ln), (3, .int wd), (4, .int (lc_last ln wd (lw.take i))), (5, .int (nI lw.length)), (6, .int (nI i))]) (fun n H locs ls hI ih => ?_) lw.length ⟨0, rfl, N, lv_sub hl [3, 4, 5, 6, 2, 1, 0] rfl⟩
    obtain ⟨i, hk, N, hl⟩ := hI
    refine lv_iload hx hb dX1_last_23 (lv_at hl 6 rfl) ?_
    refine lv_iload hx hb dX1_last_25 (lv_at hl 5 rfl) ?_
    refine lv_icmp_ge (tgt := 96) hx hb dX1_last_27 (by decide) (fun c1 => ?_) (fun c1 => ?_)
    · have hk1 := lc_nI_le c1 (by omega) (by omega)
      have hkq : lw.take i = lw := List.take_of_length_le (by omega)
      rw [hkq] at hl
      refine lv_iload hx hb dX1_last_96 (lv_at hl 4 rfl) ?_
      exact lc_iret S hr hlk N ⟨rfl, _, _, _, _, _, _, _, rfl⟩ dX1_last_98
    · have hk1 := lc_nI_lt c1 (by omega) (by omega)
      obtain ⟨y, hy⟩ := lc_getE hk1
      obtain ⟨f1, f2, f3⟩ := hsg i y hy
      have f1 : k1 i = y.1 := f1
      have f2 : k2 i = y.2.1 := f2
      have f3 : k3 i = y.2.2 := f3
      refine lv_aload_n hx hb dX1_last_30 rfl (lv_at hl 0 rfl) ?_
      refine gB_be S N dX1_last_31 ?_
      refine lv_iload hx hb dX1_last_34 (lv_at hl 6 rfl) ?_
      refine lB_be S N i (by omega) dX1_last_36 ?_
      refine lv_iload_n hx hb dX1_last_37 rfl (lv_at hl 2 rfl) ?_
      refine lv_icmp_gt (tgt := 56) hx hb dX1_last_38 (by decide) (fun d1 => ?_) (fun d1 => ?_)
      · refine lv_iconst (v := 0) hx hb dX1_last_56 (by decide) ?_
        refine lv_istore (lv' := [(7, .int 0), (0, .ref (a 0)), (1, .int (nI j)), (2, .int ln), (3, .int wd), (4, .int (lc_last ln wd (lw.take i))), (5, .int (nI lw.length)), (6, .int (nI i))]) hx hb dX1_last_57 hl (by decide) rfl (fun ls hl => ?_)
        refine lv_iload hx hb dX1_last_59 (lv_at hl 0 rfl) ?_
        refine lv_if_eq (tgt := 90) hx hb dX1_last_61 (by decide) (fun z9 => ?_) (fun z9 => ?_)
        · have hm : lc_last ln wd (lw.take (i + 1)) = (lc_last ln wd (lw.take i)) := lc_min_no1 hy (Bool.and_eq_false_iff.mpr (Or.inl (decide_eq_false (fun h => lc_nle d1 (by rw [f1]; exact h)))))
          refine lv_iinc (v := nI (i + 1)) (lv' := [(6, .int (nI (i + 1))), (7, .int 0), (0, .ref (a 0)), (1, .int (nI j)), (2, .int ln), (3, .int wd), (4, .int (lc_last ln wd (lw.take i))), (5, .int (nI lw.length))]) hx hb dX1_last_90 hl (k := 7) rfl (nI_1 i) (by decide) rfl (fun ls hl => ?_)
          refine lv_goto (tgt := 23) hx hb dX1_last_93 (by decide) ?_
          exact ih (n - 1) _ _ _ (by omega) ⟨i + 1, by omega, N, by rw [hm]; exact lv_sub hl [2, 3, 4, 5, 6, 7, 0] rfl⟩
        · exact absurd rfl z9
      · refine lv_aload_n hx hb dX1_last_41 rfl (lv_at hl 0 rfl) ?_
        refine gB_bw S N dX1_last_42 ?_
        refine lv_iload hx hb dX1_last_45 (lv_at hl 6 rfl) ?_
        refine lB_bw S N i (by omega) dX1_last_47 ?_
        refine lv_iload_n hx hb dX1_last_48 rfl (lv_at hl 3 rfl) ?_
        refine lv_icmp_gt (tgt := 56) hx hb dX1_last_49 (by decide) (fun d2 => ?_) (fun d2 => ?_)
        · refine lv_iconst (v := 0) hx hb dX1_last_56 (by decide) ?_
          refine lv_istore (lv' := [(7, .int 0), (0, .ref (a 0)), (1, .int (nI j)), (2, .int ln), (3, .int wd), (4, .int (lc_last ln wd (lw.take i))), (5, .int (nI lw.length)), (6, .int (nI i))]) hx hb dX1_last_57 hl (by decide) rfl (fun ls hl => ?_)
          refine lv_iload hx hb dX1_last_59 (lv_at hl 0 rfl) ?_
          refine lv_if_eq (tgt := 90) hx hb dX1_last_61 (by decide) (fun z9 => ?_) (fun z9 => ?_)
          · have hm : lc_last ln wd (lw.take (i + 1)) = (lc_last ln wd (lw.take i)) := lc_min_no1 hy (Bool.and_eq_false_iff.mpr (Or.inr (decide_eq_false (fun h => lc_nle d2 (by rw [f2]; exact h)))))
            refine lv_iinc (v := nI (i + 1)) (lv' := [(6, .int (nI (i + 1))), (7, .int 0), (0, .ref (a 0)), (1, .int (nI j)), (2, .int ln), (3, .int wd), (4, .int (lc_last ln wd (lw.take i))), (5, .int (nI lw.length))]) hx hb dX1_last_90 hl (k := 7) rfl (nI_1 i) (by decide) rfl (fun ls hl => ?_)
            refine lv_goto (tgt := 23) hx hb dX1_last_93 (by decide) ?_
            exact ih (n - 1) _ _ _ (by omega) ⟨i + 1, by omega, N, by rw [hm]; exact lv_sub hl [2, 3, 4, 5, 6, 7, 0] rfl⟩
          · exact absurd rfl z9
        · have hok : (decide (y.1 ≤ ln) && decide (y.2.1 ≤ wd)) = true := by rw [Bool.and_eq_true]; exact ⟨decide_eq_true (by rw [← f1]; exact lc_nlt d1), decide_eq_true (by rw [← f2]; exact lc_nlt d2)⟩
          refine lv_iconst (v := 1) hx hb dX1_last_52 (by decide) ?_
          refine lv_goto (tgt := 57) hx hb dX1_last_53 (by decide) ?_
          refine lv_istore (lv' := [(7, .int 1), (0, .ref (a 0)), (1, .int (nI j)), (2, .int ln), (3, .int wd), (4, .int (lc_last ln wd (lw.take i))), (5, .int (nI lw.length)), (6, .int (nI i))]) hx hb dX1_last_57 hl (by decide) rfl (fun ls hl => ?_)
          refine lv_iload hx hb dX1_last_59 (lv_at hl 0 rfl) ?_
          refine lv_if_eq (tgt := 90) hx hb dX1_last_61 (by decide) (fun z9 => ?_) (fun z9 => ?_)
          · exact absurd z9 (by decide)
          · refine lv_iload hx hb dX1_last_64 (lv_at hl 5 rfl) ?_
            refine lv_if_lt (tgt := 81) hx hb dX1_last_66 (by decide) (fun d3 => ?_) (fun d3 => ?_)
            · refine lv_aload_n hx hb dX1_last_81 rfl (lv_at hl 1 rfl) ?_
              refine gB_bl S N dX1_last_82 ?_
              refine lv_iload hx hb dX1_last_85 (lv_at hl 7 rfl) ?_
              refine lB_bl S N i (by omega) dX1_last_87 ?_
              refine lv_istore (lv' := [(4, .int (k3 i)), (7, .int 1), (0, .ref (a 0)), (1, .int (nI j)), (2, .int ln), (3, .int wd), (5, .int (nI lw.length)), (6, .int (nI i))]) hx hb dX1_last_88 hl (by decide) rfl (fun ls hl => ?_)
              have hm : lc_last ln wd (lw.take (i + 1)) = (k3 i) := (lc_min_yes hy hok (Or.inl d3)).trans f3.symm
              refine lv_iinc (v := nI (i + 1)) (lv' := [(6, .int (nI (i + 1))), (4, .int (k3 i)), (7, .int 1), (0, .ref (a 0)), (1, .int (nI j)), (2, .int ln), (3, .int wd), (5, .int (nI lw.length))]) hx hb dX1_last_90 hl (k := 7) rfl (nI_1 i) (by decide) rfl (fun ls hl => ?_)
              refine lv_goto (tgt := 23) hx hb dX1_last_93 (by decide) ?_
              exact ih (n - 1) _ _ _ (by omega) ⟨i + 1, by omega, N, by rw [hm]; exact lv_sub hl [3, 4, 5, 6, 1, 7, 0] rfl⟩
            · refine lv_aload_n hx hb dX1_last_69 rfl (lv_at hl 1 rfl) ?_
              refine gB_bl S N dX1_last_70 ?_
              refine lv_iload hx hb dX1_last_73 (lv_at hl 7 rfl) ?_
              refine lB_bl S N i (by omega) dX1_last_75 ?_
              refine lv_iload hx hb dX1_last_76 (lv_at hl 5 rfl) ?_
              refine lv_icmp_ge (tgt := 90) hx hb dX1_last_78 (by decide) (fun d4 => ?_) (fun d4 => ?_)
              · have hm : lc_last ln wd (lw.take (i + 1)) = (lc_last ln wd (lw.take i)) := lc_min_no2 hy d3 (by rw [← f3]; exact d4)
                refine lv_iinc (v := nI (i + 1)) (lv' := [(6, .int (nI (i + 1))), (7, .int 1), (0, .ref (a 0)), (1, .int (nI j)), (2, .int ln), (3, .int wd), (4, .int (lc_last ln wd (lw.take i))), (5, .int (nI lw.length))]) hx hb dX1_last_90 hl (k := 7) rfl (nI_1 i) (by decide) rfl (fun ls hl => ?_)
                refine lv_goto (tgt := 23) hx hb dX1_last_93 (by decide) ?_
                exact ih (n - 1) _ _ _ (by omega) ⟨i + 1, by omega, N, by rw [hm]; exact lv_sub hl [2, 3, 4, 5, 6, 7, 0] rfl⟩
              · refine lv_aload_n hx hb dX1_last_81 rfl (lv_at hl 1 rfl) ?_
                refine gB_bl S N dX1_last_82 ?_
                refine lv_iload hx hb dX1_last_85 (lv_at hl 7 rfl) ?_
                refine lB_bl S N i (by omega) dX1_last_87 ?_
                refine lv_istore (lv' := [(4, .int (k3 i)), (7, .int 1), (0, .ref (a 0)), (1, .int (nI j)), (2, .int ln), (3, .int wd), (5, .int (nI lw.length)), (6, .int (nI i))]) hx hb dX1_last_88 hl (by decide) rfl (fun ls hl => ?_)
                have hm : lc_last ln wd (lw.take (i + 1)) = (k3 i) := (lc_min_yes hy hok (Or.inr (by rw [← f3]; exact lc_nle' d4))).trans f3.symm
                refine lv_iinc (v := nI (i + 1)) (lv' := [(6, .int (nI (i + 1))), (4, .int (k3 i)), (7, .int 1), (0, .ref (a 0)), (1, .int (nI j)), (2, .int ln), (3, .int wd), (5, .int (nI lw.length))]) hx hb dX1_last_90 hl (k := 7) rfl (nI_1 i) (by decide) rfl (fun ls hl => ?_)
                refine lv_goto (tgt := 23) hx hb dX1_last_93 (by decide) ?_
                exact ih (n - 1) _ _ _ (by omega) ⟨i + 1, by omega, N, by rw [hm]; exact lv_sub hl [3, 4, 5, 6, 1, 7, 0] rfl⟩
set_option maxHeartbeats 4000000 in
set_option maxRecDepth 100000 in
/-- cost -/
theorem kB_cost (l : Launch) (D : va_G) (d : ClassId) (a : Nat → Nat) (dd : Int32) (co ar en wi la be bw bl : Nat → Int32) (ts : List lc_T) (hts : lc_toks co ar ts) (ht48 : ts.length ≤ 48) (hwf : lc_wf 0 ts) (hcn : lc_cnt ts ≤ 6) (hf10 : lc_fin 0 ts ≤ 10) (k price rom : Int32) : lc_K l D d yX1_cost cX1_cost 11 (some .int) { frames := 4, cells := 0, slots := 0, locals := 92 } [.ref (a 0), .int k, .int price, .int rom] (wB d a (nI ts.length) (nI (lc_fin 0 ts)) (nI (lc_cnt ts)) dd co ar en wi la be bw bl) (fun r w' => r = some (.int (lc_q (lc_fin 0 ts) k (fun j => lc_cost price rom (lc_ways ts (lc_cnt ts) j)))) ∧ ∃ (dd' : Int32) (en' wi' la' be' bw' bl' : Nat → Int32), w' = wB d a (nI ts.length) (nI (lc_fin 0 ts)) (nI (lc_cnt ts)) dd' co ar en' wi' la' be' bw' bl') := by
  refine lc_K.of (by decide) (Nat.le_of_ble_eq_true rfl) (fun p e s m below meth c A ls S hr hlk hnm N hl => ?_)
  have S : CallFix p m c cX1_cost 11 s _ lw_all RX1 := S
  have hx := S.1
  have hb := S.2.1
  have hl : lv_has ls 11 [(0, .ref (a 0)), (1, .int k), (2, .int price), (3, .int rom)] := hl
  refine lv_aload_n hx hb dX1_cost_0 rfl (lv_at hl 0 rfl) ?_
  refine lv_iload_n hx hb dX1_cost_1 rfl (lv_at hl 1 rfl) ?_
  refine lc_callV (ci := 1) (kB_missing l D d a (nI ts.length) (nI (lc_fin 0 ts)) (nI (lc_cnt ts)) dd co ar en wi la be bw bl k) S N (lw_V q176 q178 qs7 q15 q179) hd_X1_missing ⟨by decide, by decide⟩ ⟨rfl, rfl⟩ rfl rfl hl (Nat.le_of_ble_eq_true rfl) rfl dX1_cost_2 ⟨Nat.zero_le _, Nat.zero_le _⟩ (fun r w1 H locs hp N => ?_)
  obtain ⟨hp, rfl⟩ := hp
  rcases hp with ⟨rfl, he⟩ | ⟨rfl, he⟩
  · refine lv_if_eq (tgt := 10) hx hb dX1_cost_5 (by decide) (fun z => ?_) (fun z => ?_)
    · exact absurd z (by decide)
    · refine lv_iconst (v := (-1)) hx hb dX1_cost_8 (by decide) ?_
      exact lc_iret S hr hlk N ⟨by rw [lc_q_no he], dd, en, wi, la, be, bw, bl, rfl⟩ dX1_cost_9
  · refine lv_if_eq (tgt := 10) hx hb dX1_cost_5 (by decide) (fun z => ?_) (fun z => ?_)
    rotate_left
    · exact absurd rfl z
    obtain ⟨j, hj, rfl⟩ := lc_q_k he (by omega)
    rw [lc_q_yes hj (by omega)]
    refine lv_iload_n hx hb dX1_cost_10 rfl (lv_at hl 2 rfl) ?_
    refine lv_bipush (v := 100) hx hb dX1_cost_11 (by decide) ?_
    refine lc_callS (kB_within l D d price 100) S N (lw_S q203 q204 q15 q205) hs_X1_within ⟨by decide, by decide⟩ ⟨rfl, rfl⟩ hl (Nat.le_of_ble_eq_true rfl) rfl dX1_cost_13 ⟨Nat.zero_le _, Nat.zero_le _⟩ (fun r w1 H locs hp N => ?_)
    obtain rfl := hp
    refine lv_istore (lv' := [(4, .int (lc_clamp 100 price)), (0, .ref (a 0)), (1, .int (nI j)), (2, .int price), (3, .int rom)]) hx hb dX1_cost_16 hl (by decide) rfl (fun ls hl => ?_)
    refine lv_iload_n hx hb dX1_cost_18 rfl (lv_at hl 4 rfl) ?_
    refine lv_sipush (v := 200) hx hb dX1_cost_19 (by decide) ?_
    refine lc_callS (kB_within l D d rom 200) S N (lw_S q203 q204 q15 q205) hs_X1_within ⟨by decide, by decide⟩ ⟨rfl, rfl⟩ hl (Nat.le_of_ble_eq_true rfl) rfl dX1_cost_22 ⟨Nat.zero_le _, Nat.zero_le _⟩ (fun r w1 H locs hp N => ?_)
    obtain rfl := hp
    refine lv_istore (lv' := [(5, .int (lc_clamp 200 rom)), (4, .int (lc_clamp 100 price)), (0, .ref (a 0)), (1, .int (nI j)), (2, .int price), (3, .int rom)]) hx hb dX1_cost_25 hl (by decide) rfl (fun ls hl => ?_)
    refine lv_iconst (v := (-1)) hx hb dX1_cost_27 (by decide) ?_
    refine lv_istore (lv' := [(6, .int (-1)), (5, .int (lc_clamp 200 rom)), (4, .int (lc_clamp 100 price)), (0, .ref (a 0)), (1, .int (nI j)), (2, .int price), (3, .int rom)]) hx hb dX1_cost_28 hl (by decide) rfl (fun ls hl => ?_)
    refine lv_aload_n hx hb dX1_cost_30 rfl (lv_at hl 3 rfl) ?_
    refine lv_iload_n hx hb dX1_cost_31 rfl (lv_at hl 4 rfl) ?_
    refine lc_callV (ci := 1) (kB_makeAll l D d a (nI (lc_fin 0 ts)) dd co ar en wi la be bw bl ts hts ht48 hwf hcn j hj hf10) S N (lw_V q180 q182 qs8 q15 q183) hd_X1_makeAll ⟨by decide, by decide⟩ ⟨rfl, rfl⟩ rfl rfl hl (Nat.le_of_ble_eq_true rfl) rfl dX1_cost_32 ⟨Nat.zero_le _, Nat.zero_le _⟩ (fun r w1 H locs hp N => ?_)
    obtain ⟨rfl, dd2, g1, g2, g3, k1, k2, k3, rfl, hsg⟩ := hp
    have hp6 : 2 ^ lc_cnt ts ≤ 64 := Nat.pow_le_pow_right (n := 2) (by decide) hcn
    have hlen : (lc_ways ts (lc_cnt ts) j).length = 2 ^ lc_cnt ts := lc_ways_len
    rw [← hlen] at hp6
    rw [← hlen]
    generalize (lc_ways ts (lc_cnt ts) j) = lw at hsg hlen hp6 ⊢
    refine lv_istore (lv' := [(7, .int (nI lw.length)), (6, .int (-1)), (5, .int (lc_clamp 200 rom)), (4, .int (lc_clamp 100 price)), (0, .ref (a 0)), (1, .int (nI j)), (2, .int price), (3, .int rom)]) hx hb dX1_cost_35 hl (by decide) rfl (fun ls hl => ?_)
    refine lv_iconst (v := 0) hx hb dX1_cost_37 (by decide) ?_
    refine lc_top (nI 0) nI_0.symm ?_
    refine lv_istore (lv' := [(8, .int (nI 0)), (7, .int (nI lw.length)), (6, .int (-1)), (5, .int (lc_clamp 200 rom)), (4, .int (lc_clamp 100 price)), (0, .ref (a 0)), (1, .int (nI j)), (2, .int price), (3, .int rom)]) hx hb dX1_cost_38 hl (by decide) rfl (fun ls hl => ?_)
    refine lc_loop (I := fun n H locs ls => ∃ (i : Nat), n + i = lw.length ∧ lc_St D d A s (wB d a (nI ts.length) (nI (lc_fin 0 ts)) (nI (lc_cnt ts)) dd2 co ar g1 g2 g3 k1 k2 k3) H locs ∧ lv_has ls 11 [(0, .ref (a 0)), (1, .int (nI j)), (2, .int price), (3, .int rom), (4, .int (lc_clamp 100 price)), (5, .int (lc_clamp 200 rom)), (6, .int (lc_cost price rom (lw.take i))), (7, .int (nI lw.length)), (8, .int (nI i))]) (fun n H locs ls hI ih => ?_) lw.length ⟨0, rfl, N, lv_sub hl [5, 6, 7, 8, 4, 3, 2, 1, 0] rfl⟩
    obtain ⟨i, hk, N, hl⟩ := hI
    refine lv_iload hx hb dX1_cost_40 (lv_at hl 8 rfl) ?_
    refine lv_iload hx hb dX1_cost_42 (lv_at hl 7 rfl) ?_
    refine lv_icmp_ge (tgt := 115) hx hb dX1_cost_44 (by decide) (fun c1 => ?_) (fun c1 => ?_)
    · have hk1 := lc_nI_le c1 (by omega) (by omega)
      have hkq : lw.take i = lw := List.take_of_length_le (by omega)
      rw [hkq] at hl
      refine lv_iload hx hb dX1_cost_115 (lv_at hl 6 rfl) ?_
      exact lc_iret S hr hlk N ⟨rfl, _, _, _, _, _, _, _, rfl⟩ dX1_cost_117
    · have hk1 := lc_nI_lt c1 (by omega) (by omega)
      obtain ⟨y, hy⟩ := lc_getE hk1
      obtain ⟨f1, f2, f3⟩ := hsg i y hy
      have f1 : k1 i = y.1 := f1
      have f2 : k2 i = y.2.1 := f2
      refine lv_aload_n hx hb dX1_cost_47 rfl (lv_at hl 0 rfl) ?_
      refine gB_bw S N dX1_cost_48 ?_
      refine lv_iload hx hb dX1_cost_51 (lv_at hl 8 rfl) ?_
      refine lB_bw S N i (by omega) dX1_cost_53 ?_
      refine lv_iload hx hb dX1_cost_54 (lv_at hl 5 rfl) ?_
      refine lc_cut 73 (J := fun H locs ls st => st = [.int (lc_over (lc_clamp 200 rom) y)] ∧ lc_St D d A s (wB d a (nI ts.length) (nI (lc_fin 0 ts)) (nI (lc_cnt ts)) dd2 co ar g1 g2 g3 k1 k2 k3) H locs ∧ lv_has ls 11 [(0, .ref (a 0)), (1, .int (nI j)), (2, .int price), (3, .int rom), (4, .int (lc_clamp 100 price)), (5, .int (lc_clamp 200 rom)), (6, .int (lc_cost price rom (lw.take i))), (7, .int (nI lw.length)), (8, .int (nI i))]) (fun H locs ls st hJ => ?_) (fun KJ => ?_)
      · obtain ⟨rfl, N, hl⟩ := hJ
        refine lv_istore (lv' := [(9, .int (lc_over (lc_clamp 200 rom) y)), (0, .ref (a 0)), (1, .int (nI j)), (2, .int price), (3, .int rom), (4, .int (lc_clamp 100 price)), (5, .int (lc_clamp 200 rom)), (6, .int (lc_cost price rom (lw.take i))), (7, .int (nI lw.length)), (8, .int (nI i))]) hx hb dX1_cost_73 hl (by decide) rfl (fun ls hl => ?_)
        refine lv_iload hx hb dX1_cost_75 (lv_at hl 5 rfl) ?_
        refine lv_aload_n hx hb dX1_cost_77 rfl (lv_at hl 1 rfl) ?_
        refine gB_be S N dX1_cost_78 ?_
        refine lv_iload hx hb dX1_cost_81 (lv_at hl 9 rfl) ?_
        refine lB_be S N i (by omega) dX1_cost_83 ?_
        refine lv_imul hx hb dX1_cost_84 ?_
        refine lv_iload hx hb dX1_cost_85 (lv_at hl 0 rfl) ?_
        refine lv_iload hx hb dX1_cost_87 (lv_at hl 0 rfl) ?_
        refine lv_imul hx hb dX1_cost_89 ?_
        refine lv_iadd hx hb dX1_cost_90 ?_
        refine lc_top (lc_sum (lc_clamp 100 price) (lc_clamp 200 rom) y) (by rw [f1]; rfl) ?_
        refine lv_istore (lv' := [(10, .int (lc_sum (lc_clamp 100 price) (lc_clamp 200 rom) y)), (9, .int (lc_over (lc_clamp 200 rom) y)), (0, .ref (a 0)), (1, .int (nI j)), (2, .int price), (3, .int rom), (4, .int (lc_clamp 100 price)), (5, .int (lc_clamp 200 rom)), (6, .int (lc_cost price rom (lw.take i))), (7, .int (nI lw.length)), (8, .int (nI i))]) hx hb dX1_cost_91 hl (by decide) rfl (fun ls hl => ?_)
        refine lv_iload hx hb dX1_cost_93 (lv_at hl 8 rfl) ?_
        refine lv_if_lt (tgt := 105) hx hb dX1_cost_95 (by decide) (fun d2 => ?_) (fun d2 => ?_)
        · refine lv_iload hx hb dX1_cost_105 (lv_at hl 0 rfl) ?_
          refine lv_istore (lv' := [(6, .int (lc_sum (lc_clamp 100 price) (lc_clamp 200 rom) y)), (10, .int (lc_sum (lc_clamp 100 price) (lc_clamp 200 rom) y)), (9, .int (lc_over (lc_clamp 200 rom) y)), (0, .ref (a 0)), (1, .int (nI j)), (2, .int price), (3, .int rom), (4, .int (lc_clamp 100 price)), (5, .int (lc_clamp 200 rom)), (7, .int (nI lw.length)), (8, .int (nI i))]) hx hb dX1_cost_107 hl (by decide) rfl (fun ls hl => ?_)
          have hm : lc_cost price rom (lw.take (i + 1)) = (lc_sum (lc_clamp 100 price) (lc_clamp 200 rom) y) := lc_min_yes hy rfl (Or.inl d2)
          refine lv_iinc (v := nI (i + 1)) (lv' := [(8, .int (nI (i + 1))), (6, .int (lc_sum (lc_clamp 100 price) (lc_clamp 200 rom) y)), (10, .int (lc_sum (lc_clamp 100 price) (lc_clamp 200 rom) y)), (9, .int (lc_over (lc_clamp 200 rom) y)), (0, .ref (a 0)), (1, .int (nI j)), (2, .int price), (3, .int rom), (4, .int (lc_clamp 100 price)), (5, .int (lc_clamp 200 rom)), (7, .int (nI lw.length))]) hx hb dX1_cost_109 hl (k := 10) rfl (nI_1 i) (by decide) rfl (fun ls hl => ?_)
          refine lv_goto (tgt := 40) hx hb dX1_cost_112 (by decide) ?_
          exact ih (n - 1) _ _ _ (by omega) ⟨i + 1, by omega, N, by rw [hm]; exact lv_sub hl [4, 5, 6, 7, 8, 9, 1, 10, 0] rfl⟩
        · refine lv_iload hx hb dX1_cost_98 (lv_at hl 0 rfl) ?_
          refine lv_iload hx hb dX1_cost_100 (lv_at hl 8 rfl) ?_
          refine lv_icmp_ge (tgt := 109) hx hb dX1_cost_102 (by decide) (fun d3 => ?_) (fun d3 => ?_)
          · have hm : lc_cost price rom (lw.take (i + 1)) = (lc_cost price rom (lw.take i)) := lc_min_no2 hy d2 d3
            refine lv_iinc (v := nI (i + 1)) (lv' := [(8, .int (nI (i + 1))), (10, .int (lc_sum (lc_clamp 100 price) (lc_clamp 200 rom) y)), (9, .int (lc_over (lc_clamp 200 rom) y)), (0, .ref (a 0)), (1, .int (nI j)), (2, .int price), (3, .int rom), (4, .int (lc_clamp 100 price)), (5, .int (lc_clamp 200 rom)), (6, .int (lc_cost price rom (lw.take i))), (7, .int (nI lw.length))]) hx hb dX1_cost_109 hl (k := 10) rfl (nI_1 i) (by decide) rfl (fun ls hl => ?_)
            refine lv_goto (tgt := 40) hx hb dX1_cost_112 (by decide) ?_
            exact ih (n - 1) _ _ _ (by omega) ⟨i + 1, by omega, N, by rw [hm]; exact lv_sub hl [3, 4, 5, 6, 7, 8, 9, 10, 0] rfl⟩
          · refine lv_iload hx hb dX1_cost_105 (lv_at hl 0 rfl) ?_
            refine lv_istore (lv' := [(6, .int (lc_sum (lc_clamp 100 price) (lc_clamp 200 rom) y)), (10, .int (lc_sum (lc_clamp 100 price) (lc_clamp 200 rom) y)), (9, .int (lc_over (lc_clamp 200 rom) y)), (0, .ref (a 0)), (1, .int (nI j)), (2, .int price), (3, .int rom), (4, .int (lc_clamp 100 price)), (5, .int (lc_clamp 200 rom)), (7, .int (nI lw.length)), (8, .int (nI i))]) hx hb dX1_cost_107 hl (by decide) rfl (fun ls hl => ?_)
            have hm : lc_cost price rom (lw.take (i + 1)) = (lc_sum (lc_clamp 100 price) (lc_clamp 200 rom) y) := lc_min_yes hy rfl (Or.inr (lc_nle' d3))
            refine lv_iinc (v := nI (i + 1)) (lv' := [(8, .int (nI (i + 1))), (6, .int (lc_sum (lc_clamp 100 price) (lc_clamp 200 rom) y)), (10, .int (lc_sum (lc_clamp 100 price) (lc_clamp 200 rom) y)), (9, .int (lc_over (lc_clamp 200 rom) y)), (0, .ref (a 0)), (1, .int (nI j)), (2, .int price), (3, .int rom), (4, .int (lc_clamp 100 price)), (5, .int (lc_clamp 200 rom)), (7, .int (nI lw.length))]) hx hb dX1_cost_109 hl (k := 10) rfl (nI_1 i) (by decide) rfl (fun ls hl => ?_)
            refine lv_goto (tgt := 40) hx hb dX1_cost_112 (by decide) ?_
            exact ih (n - 1) _ _ _ (by omega) ⟨i + 1, by omega, N, by rw [hm]; exact lv_sub hl [4, 5, 6, 7, 8, 9, 1, 10, 0] rfl⟩
      · refine lv_icmp_le (tgt := 72) hx hb dX1_cost_56 (by decide) (fun d1 => ?_) (fun d1 => ?_)
        · refine lv_iconst (v := 0) hx hb dX1_cost_72 (by decide) ?_
          exact KJ _ _ _ _ ⟨by rw [lc_over, if_pos (by rw [← f2]; exact d1)] <;> rfl, N, hl⟩
        · refine lv_aload_n hx hb dX1_cost_59 rfl (lv_at hl 0 rfl) ?_
          refine gB_bw S N dX1_cost_60 ?_
          refine lv_iload hx hb dX1_cost_63 (lv_at hl 8 rfl) ?_
          refine lB_bw S N i (by omega) dX1_cost_65 ?_
          refine lv_iload hx hb dX1_cost_66 (lv_at hl 5 rfl) ?_
          refine lv_isub hx hb dX1_cost_68 ?_
          refine lv_goto (tgt := 73) hx hb dX1_cost_69 (by decide) ?_
          exact KJ _ _ _ _ ⟨by rw [lc_over, if_neg (by rw [← f2]; exact d1), f2] <;> rfl, N, hl⟩
end
section
/-! PLAIN LAW 1: fronts: the least boxes of a set -/
theorem lc_le_rfl (x : lc_B) : lc_le x x = true := lc_le_iff.mpr ⟨Int32.le_refl _, Int32.le_refl _, Int32.le_refl _⟩
theorem lc_le_tr {x y z : lc_B} (h1 : lc_le x y = true) (h2 : lc_le y z = true) : lc_le x z = true := by
  have a := lc_le_iff.mp h1
  have b := lc_le_iff.mp h2
  exact lc_le_iff.mpr ⟨Int32.le_trans a.1 b.1, Int32.le_trans a.2.1 b.2.1, Int32.le_trans a.2.2 b.2.2⟩
theorem lc_le_as {x y : lc_B} (h1 : lc_le x y = true) (h2 : lc_le y x = true) : x = y := by
  have a := lc_le_iff.mp h1
  have b := lc_le_iff.mp h2
  exact Prod.ext (Int32.le_antisymm a.1 b.1) (Prod.ext (Int32.le_antisymm a.2.1 b.2.1) (Int32.le_antisymm a.2.2 b.2.2))
def lc_front (d : List lc_B) (S : lc_B → Prop) : Prop := d.Nodup ∧ (∀ x ∈ d, ∀ y ∈ d, lc_le x y = true → x = y) ∧ (∀ x ∈ d, S x) ∧ ∀ y, S y → ∃ x ∈ d, lc_le x y = true
theorem lc_front_nil : lc_front [] (fun _ => False) := ⟨List.nodup_nil, fun x h => absurd h List.not_mem_nil, fun x h => absurd h List.not_mem_nil, fun y h => h.elim⟩
theorem lc_front.iff {d : List lc_B} {S T : lc_B → Prop} (h : lc_front d S) (e : ∀ x, S x ↔ T x) : lc_front d T := ⟨h.1, h.2.1, fun x hx => (e x).mp (h.2.2.1 x hx), fun y hy => h.2.2.2 y ((e y).mpr hy)⟩
theorem lc_front.gather {gs : List lc_B} {S : lc_B → Prop} (h : lc_front gs S) (x : lc_B) : lc_front (lc_gather gs x) (fun y => S y ∨ y = x) := by
  obtain ⟨h1, h2, h3, h4⟩ := h
  unfold lc_gather
  by_cases ha : gs.any (fun y => lc_le y x) = true
  · rw [if_pos ha]
    obtain ⟨z, hz, hzx⟩ := List.any_eq_true.mp ha
    refine ⟨h1, h2, fun y hy => Or.inl (h3 y hy), fun y hy => ?_⟩
    rcases hy with hy | hy
    · exact h4 y hy
    · exact ⟨z, hz, by rw [hy]; exact hzx⟩
  · rw [if_neg ha]
    have hno : ∀ z ∈ gs, ¬ lc_le z x = true := fun z hz hzx => ha (List.any_eq_true.mpr ⟨z, hz, hzx⟩)
    have hk : ∀ z, z ∈ gs.filter (fun y => !lc_le x y) ↔ z ∈ gs ∧ lc_le x z = false := by
      intro z
      rw [List.mem_filter]
      cases lc_le x z <;> simp
    have hm : ∀ z, z ∈ gs.filter (fun y => !lc_le x y) ++ [x] ↔ (z ∈ gs ∧ lc_le x z = false) ∨ z = x := by
      intro z
      rw [List.mem_append, hk, List.mem_singleton]
    refine ⟨?_, ?_, ?_, ?_⟩
    · rw [List.nodup_append]
      refine ⟨List.Nodup.sublist List.filter_sublist h1, List.nodup_cons.mpr ⟨List.not_mem_nil, List.nodup_nil⟩, ?_⟩
      intro z hz w hw e
      rw [List.mem_singleton] at hw
      rw [e, hw] at hz
      exact hno x ((hk x).mp hz).1 (lc_le_rfl x)
    · intro u hu v hv huv
      rcases (hm u).mp hu with ⟨u1, u2⟩ | u1
      · rcases (hm v).mp hv with ⟨v1, v2⟩ | v1
        · exact h2 u u1 v v1 huv
        · rw [v1] at huv
          exact absurd huv (hno u u1)
      · rcases (hm v).mp hv with ⟨v1, v2⟩ | v1
        · rw [u1, v2] at huv
          cases huv
        · rw [u1, v1]
    · intro u hu
      rcases (hm u).mp hu with ⟨u1, u2⟩ | u1
      · exact Or.inl (h3 u u1)
      · exact Or.inr u1
    · intro y hy
      rcases hy with hy | hy
      · obtain ⟨z, hz, hzy⟩ := h4 y hy
        cases hxz : lc_le x z
        · exact ⟨z, (hm z).mpr (Or.inl ⟨hz, hxz⟩), hzy⟩
        · exact ⟨x, (hm x).mpr (Or.inr rfl), lc_le_tr hxz hzy⟩
      · exact ⟨x, (hm x).mpr (Or.inr rfl), by rw [hy]; exact lc_le_rfl x⟩
theorem lc_front.indent {n : Int32} : ∀ {l gs : List lc_B} {S : lc_B → Prop}, lc_front gs S → lc_front (lc_indent n l gs) (fun y => S y ∨ ∃ z ∈ l, y = lc_ind n z)
  | [], gs, S, h => h.iff (fun x => by simp)
  | z :: l, gs, S, h => by
    have := lc_front.indent (n := n) (l := l) (h.gather (lc_ind n z))
    refine lc_front.iff (d := lc_indent n (z :: l) gs) this (fun x => ?_)
    simp [or_assoc]
theorem lc_front.row {code : Int32} {u : lc_B} : ∀ {l gs : List lc_B} {S : lc_B → Prop}, lc_front gs S → lc_front (lc_row code u l gs) (fun y => S y ∨ ∃ z ∈ l, y = lc_join code u z)
  | [], gs, S, h => h.iff (fun x => by simp)
  | z :: l, gs, S, h => by
    have := lc_front.row (code := code) (u := u) (l := l) (h.gather (lc_join code u z))
    refine lc_front.iff (d := lc_row code u (z :: l) gs) this (fun x => ?_)
    simp [or_assoc]
theorem lc_front.cross {code : Int32} {l2 : List lc_B} : ∀ {l gs : List lc_B} {S : lc_B → Prop}, lc_front gs S → lc_front (lc_cross code l l2 gs) (fun y => S y ∨ ∃ u ∈ l, ∃ z ∈ l2, y = lc_join code u z)
  | [], gs, S, h => h.iff (fun x => by simp)
  | u :: l, gs, S, h => by
    have := lc_front.cross (code := code) (l2 := l2) (l := l) (h.row (code := code) (u := u) (l := l2))
    refine lc_front.iff (d := lc_cross code (u :: l) l2 gs) this (fun x => ?_)
    simp [or_assoc]
/-- the front of a part that beats all is the front of all -/
theorem lc_front.dom {d : List lc_B} {S T : lc_B → Prop} (h : lc_front d S) (h1 : ∀ x, S x → T x) (h2 : ∀ y, T y → ∃ x, S x ∧ lc_le x y = true) : lc_front d T := by
  refine ⟨h.1, h.2.1, fun x hx => h1 x (h.2.2.1 x hx), fun y hy => ?_⟩
  obtain ⟨z, hz, hzy⟩ := h2 y hy
  obtain ⟨x, hx, hxz⟩ := h.2.2.2 z hz
  exact ⟨x, hx, lc_le_tr hxz hzy⟩
/-- the least value over the boxes that fit: what it is -/
theorem lc_min_spec {ok : lc_B → Bool} {v : lc_B → Int32} {l : List lc_B} (hpos : ∀ y ∈ l, ¬ v y < 0) : ∀ k, k ≤ l.length →
    (lc_min ok v (l.take k) = -1 ∧ ∀ (j : Nat) (y : lc_B), j < k → l[j]? = some y → ok y = false) ∨ (∃ y ∈ l, ok y = true ∧ v y = lc_min ok v (l.take k) ∧ ∀ (j : Nat) (z : lc_B), j < k → l[j]? = some z → ok z = true → lc_min ok v (l.take k) ≤ v z) := by
  intro k
  induction k with
  | zero => intro _; exact Or.inl ⟨rfl, fun j y h => absurd h (Nat.not_lt_zero j)⟩
  | succ k ih =>
    intro hk
    obtain ⟨x, hx⟩ := lc_getE (l := l) (k := k) (by omega)
    have hxm := List.mem_of_getElem? hx
    rcases ih (by omega) with ⟨e, hno⟩ | ⟨y, hy, hok, hvy, hall⟩
    · cases hox : ok x
      · refine Or.inl ⟨(lc_min_no1 hx hox).trans e, fun j y hj hy => ?_⟩
        rcases Nat.lt_succ_iff_lt_or_eq.mp hj with q | q
        · exact hno j y q hy
        · rw [q, hx] at hy; cases hy; exact hox
      · have em := lc_min_yes (v := v) hx hox (Or.inl (by rw [e]; decide))
        refine Or.inr ⟨x, hxm, hox, em.symm, fun j z hj hz hoz => ?_⟩
        rw [em]
        rcases Nat.lt_succ_iff_lt_or_eq.mp hj with q | q
        · rw [hno j z q hz] at hoz; cases hoz
        · rw [q, hx] at hz; cases hz; exact Int32.le_refl _
    · have hm0 : ¬ lc_min ok v (l.take k) < 0 := by rw [← hvy]; exact hpos y hy
      cases hox : ok x
      · have em := lc_min_no1 (v := v) hx hox
        refine Or.inr ⟨y, hy, hok, hvy.trans em.symm, fun j z hj hz hoz => ?_⟩
        rw [em]
        rcases Nat.lt_succ_iff_lt_or_eq.mp hj with q | q
        · exact hall j z q hz hoz
        · rw [q, hx] at hz; cases hz; rw [hox] at hoz; cases hoz
      · by_cases hlt : v x < lc_min ok v (l.take k)
        · have em := lc_min_yes (v := v) hx hox (Or.inr hlt)
          refine Or.inr ⟨x, hxm, hox, em.symm, fun j z hj hz hoz => ?_⟩
          rw [em]
          rcases Nat.lt_succ_iff_lt_or_eq.mp hj with q | q
          · exact Int32.le_trans (Int32.le_of_lt hlt) (hall j z q hz hoz)
          · rw [q, hx] at hz; cases hz; exact Int32.le_refl _
        · have em := lc_min_no2 (ok := ok) hx hm0 (lc_nlt hlt)
          refine Or.inr ⟨y, hy, hok, hvy.trans em.symm, fun j z hj hz hoz => ?_⟩
          rw [em]
          rcases Nat.lt_succ_iff_lt_or_eq.mp hj with q | q
          · exact hall j z q hz hoz
          · rw [q, hx] at hz; cases hz; exact lc_nlt hlt
theorem lc_min_sp {ok : lc_B → Bool} {v : lc_B → Int32} {l : List lc_B} (hpos : ∀ y ∈ l, ¬ v y < 0) :
    (lc_min ok v l = -1 ∧ ∀ y ∈ l, ok y = false) ∨ (∃ y ∈ l, ok y = true ∧ v y = lc_min ok v l ∧ ∀ z ∈ l, ok z = true → lc_min ok v l ≤ v z) := by
  have h := lc_min_spec (ok := ok) hpos l.length (Nat.le_refl _)
  rw [List.take_length] at h
  rcases h with ⟨e, h⟩ | ⟨y, hy, h1, h2, h3⟩
  · refine Or.inl ⟨e, fun y hy => ?_⟩
    obtain ⟨j, hj⟩ := List.getElem?_of_mem hy
    exact h j y (List.getElem?_eq_some_iff.mp hj).1 hj
  · refine Or.inr ⟨y, hy, h1, h2, fun z hz hoz => ?_⟩
    obtain ⟨j, hj⟩ := List.getElem?_of_mem hz
    exact h3 j z (List.getElem?_eq_some_iff.mp hj).1 hj hoz
/-- the least value over the front is the least value over all -/
theorem lc_min_eq {ok : lc_B → Bool} {v : lc_B → Int32} {d lw : List lc_B} {S : lc_B → Prop} (hf : lc_front d S) (hw : ∀ x, x ∈ lw ↔ S x) (hpos : ∀ y, S y → ¬ v y < 0) (hok : ∀ x y, S x → S y → lc_le x y = true → ok y = true → ok x = true) (hv : ∀ x y, S x → S y → lc_le x y = true → v x ≤ v y) : lc_min ok v d = lc_min ok v lw := by
  rcases lc_min_sp (ok := ok) (v := v) (l := d) (fun y hy => hpos y (hf.2.2.1 y hy)) with ⟨e1, n1⟩ | ⟨y1, m1, o1, v1, a1⟩
  · rcases lc_min_sp (ok := ok) (v := v) (l := lw) (fun y hy => hpos y ((hw y).mp hy)) with ⟨e2, n2⟩ | ⟨y2, m2, o2, v2, a2⟩
    · rw [e1, e2]
    · obtain ⟨x, hx, hxy⟩ := hf.2.2.2 y2 ((hw y2).mp m2)
      have := hok x y2 (hf.2.2.1 x hx) ((hw y2).mp m2) hxy o2
      rw [n1 x hx] at this
      cases this
  · rcases lc_min_sp (ok := ok) (v := v) (l := lw) (fun y hy => hpos y ((hw y).mp hy)) with ⟨e2, n2⟩ | ⟨y2, m2, o2, v2, a2⟩
    · rw [n2 y1 ((hw y1).mpr (hf.2.2.1 y1 m1))] at o1
      cases o1
    · obtain ⟨x, hx, hxy⟩ := hf.2.2.2 y2 ((hw y2).mp m2)
      have ox := hok x y2 (hf.2.2.1 x hx) ((hw y2).mp m2) hxy o2
      refine Int32.le_antisymm ?_ ?_
      · rw [← v2]
        exact Int32.le_trans (a1 x hx ox) (hv x y2 (hf.2.2.1 x hx) ((hw y2).mp m2) hxy)
      · rw [← v1]
        exact a2 y1 ((hw y1).mpr (hf.2.2.1 y1 m1)) o1
/-- as many boxes are best as the front has -/
theorem lc_cb_eq {d lw : List lc_B} {S : lc_B → Prop} (hf : lc_front d S) (hw : ∀ x, x ∈ lw ↔ S x) : lc_cb lw lw.length = d.length := by
  have hget : ∀ i, i < lw.length → lw[i]? = some (lw.getD i (0, 0, 0)) := by
    intro i hi
    rw [List.getD_eq_getElem?_getD, List.getElem?_eq_getElem hi]
    rfl
  have hgood : ∀ i, i < lw.length → lc_isb lw i = true → ∀ v z, lw[v]? = some z → lc_badw lw i v = false := by
    intro i hi hb v z hz
    have := List.all_eq_true.mp hb v (List.mem_range.mpr (List.getElem?_eq_some_iff.mp hz).1)
    simpa using this
  have hI : ∀ i, i ∈ (List.range lw.length).filter (lc_isb lw) ↔ i < lw.length ∧ lc_isb lw i = true := by
    intro i
    rw [List.mem_filter, List.mem_range]
  have hnd : (((List.range lw.length).filter (lc_isb lw)).map (fun i => lw.getD i (0, 0, 0))).Nodup := by
    refine List.pairwise_map.mpr ?_
    refine List.Pairwise.imp_of_mem ?_ (List.Pairwise.filter _ List.pairwise_lt_range)
    intro i j hi hj hij e
    obtain ⟨i1, i2⟩ := (hI i).mp hi
    obtain ⟨j1, j2⟩ := (hI j).mp hj
    have hb := hgood j j1 j2 i _ (hget i i1)
    rw [lc_badw_eq (hget i i1) (hget j j1), if_pos e] at hb
    exact absurd hij (of_decide_eq_false hb)
  have hmem : ∀ x, x ∈ ((List.range lw.length).filter (lc_isb lw)).map (fun i => lw.getD i (0, 0, 0)) ↔ x ∈ d := by
    intro x
    rw [List.mem_map]
    constructor
    · rintro ⟨i, hi, rfl⟩
      obtain ⟨i1, i2⟩ := (hI i).mp hi
      have hx := hget i i1
      obtain ⟨z, hz, hzx⟩ := hf.2.2.2 _ ((hw _).mp (List.mem_of_getElem? hx))
      obtain ⟨v, hv⟩ := List.getElem?_of_mem ((hw z).mpr (hf.2.2.1 z hz))
      have hb := hgood i i1 i2 v z hv
      rw [lc_badw_eq hv hx] at hb
      by_cases e : z = lw.getD i (0, 0, 0)
      · rw [← e]; exact hz
      · rw [if_neg e, hzx] at hb
        cases hb
    · intro hx
      obtain ⟨i0, hi0⟩ := List.getElem?_of_mem ((hw x).mpr (hf.2.2.1 x hx))
      obtain ⟨i, hi, hleast⟩ := pk_least (fun k => lw[k]? = some x) ⟨i0, hi0⟩
      have hil : i < lw.length := (List.getElem?_eq_some_iff.mp hi).1
      refine ⟨i, (hI i).mpr ⟨hil, lc_isb_yes (fun v hv => ?_)⟩, ?_⟩
      · rw [lc_badw_eq (hget v hv) hi]
        by_cases e : lw.getD v (0, 0, 0) = x
        · rw [if_pos e]
          exact decide_eq_false (fun q => hleast v q (by rw [hget v hv, e]))
        · rw [if_neg e]
          cases hq : lc_le (lw.getD v (0, 0, 0)) x
          · rfl
          · obtain ⟨z, hz, hzv⟩ := hf.2.2.2 _ ((hw _).mp (List.mem_of_getElem? (hget v hv)))
            have hzx := hf.2.1 z hz x hx (lc_le_tr hzv hq)
            rw [hzx] at hzv
            exact absurd (lc_le_as hq hzv) e
      · have := hget i hil
        rw [hi] at this
        exact (Option.some.inj this).symm
  have hp := (List.perm_ext_iff_of_nodup hnd hf.1).mpr hmem
  have hl := hp.length_eq
  rw [List.length_map] at hl
  exact hl
end
section
/-! PLAIN LAW 2: bounds; joins keep the order -/
theorem lc_add {a b : Int32} (h1 : 0 ≤ a.toInt) (h2 : 0 ≤ b.toInt) (h3 : a.toInt + b.toInt < 2147483648) : (a + b).toInt = a.toInt + b.toInt := by
  rw [Int32.toInt_add]
  exact Int.bmod_eq_of_le (by omega) (by omega)
theorem lc_sub {a b : Int32} (h1 : 0 ≤ b.toInt) (h2 : b.toInt ≤ a.toInt) : (a - b).toInt = a.toInt - b.toInt := by
  have := a.toInt_lt
  rw [Int32.toInt_sub]
  exact Int.bmod_eq_of_le (by omega) (by omega)
theorem lc_mul {a b : Int32} (h1 : 0 ≤ a.toInt * b.toInt) (h3 : a.toInt * b.toInt < 2147483648) : (a * b).toInt = a.toInt * b.toInt := by
  rw [Int32.toInt_mul]
  exact Int.bmod_eq_of_le (by omega) (by omega)
theorem lc_leI {a b : Int32} : a ≤ b ↔ a.toInt ≤ b.toInt := Int32.le_iff_toInt_le
theorem lc_ltI {a b : Int32} : a < b ↔ a.toInt < b.toInt := Int32.lt_iff_toInt_lt
/-- a box of a document of b tokens -/
def lc_bd (b : Nat) (x : lc_B) : Prop := 0 ≤ x.1.toInt ∧ x.1.toInt ≤ (b : Int) ∧ 0 ≤ x.2.1.toInt ∧ x.2.1.toInt ≤ 40 * (b : Int) ∧ 0 ≤ x.2.2.toInt ∧ x.2.2.toInt ≤ 40 * (b : Int)
theorem lc_mx_or (a b : Int32) : (lc_mx a b = b ∧ a.toInt ≤ b.toInt) ∨ (lc_mx a b = a ∧ b.toInt ≤ a.toInt) := by
  unfold lc_mx
  by_cases h : a ≤ b
  · rw [if_pos h]
    exact Or.inl ⟨rfl, lc_leI.mp h⟩
  · rw [if_neg h]
    exact Or.inr ⟨rfl, by have := lc_ltI.mp (lc_nle' h); omega⟩
theorem lc_mx_int (a b : Int32) : (lc_mx a b).toInt = max a.toInt b.toInt := by
  rcases lc_mx_or a b with ⟨h, q⟩ | ⟨h, q⟩
  · rw [h]; omega
  · rw [h]; omega
theorem lc_le_int {x y : lc_B} : lc_le x y = true ↔ x.1.toInt ≤ y.1.toInt ∧ x.2.1.toInt ≤ y.2.1.toInt ∧ x.2.2.toInt ≤ y.2.2.toInt := by
  rw [lc_le_iff, lc_leI, lc_leI, lc_leI]
theorem lc_bd_0 {n : Int32} (h : ¬ ((0 : Int32) = 0 ∧ (n < 0 ∨ 40 < n))) : lc_bd 1 (0, n, n) := by
  have h1 : ¬ n < 0 := fun q => h ⟨rfl, Or.inl q⟩
  have h2 : ¬ 40 < n := fun q => h ⟨rfl, Or.inr q⟩
  rw [lc_ltI] at h1 h2
  have e0 : (0 : Int32).toInt = 0 := by decide
  have e40 : (40 : Int32).toInt = 40 := by decide
  rw [e0] at h1
  rw [e40] at h2
  refine ⟨?_, ?_, ?_, ?_, ?_, ?_⟩ <;> dsimp only <;> omega
theorem lc_ind_int {n : Int32} {b : Nat} {x : lc_B} (hn : 0 ≤ n.toInt ∧ n.toInt ≤ 40) (hb : b ≤ 48) (h : lc_bd b x) : (lc_ind n x).1.toInt = x.1.toInt ∧ (lc_ind n x).2.1.toInt = x.2.1.toInt + n.toInt ∧ (lc_ind n x).2.2.toInt = x.2.2.toInt + n.toInt := by
  obtain ⟨h1, h2, h3, h4, h5, h6⟩ := h
  exact ⟨rfl, lc_add h3 hn.1 (by omega), lc_add h5 hn.1 (by omega)⟩
theorem lc_bd_ind {n : Int32} {b : Nat} {x : lc_B} (hn : 0 ≤ n.toInt ∧ n.toInt ≤ 40) (hb : b ≤ 48) (h : lc_bd b x) : lc_bd (b + 1) (lc_ind n x) := by
  obtain ⟨e1, e2, e3⟩ := lc_ind_int hn hb h
  obtain ⟨h1, h2, h3, h4, h5, h6⟩ := h
  unfold lc_bd
  rw [e1, e2, e3]
  omega
theorem lc_ind_mono {n : Int32} {b : Nat} {x y : lc_B} (hn : 0 ≤ n.toInt ∧ n.toInt ≤ 40) (hb : b ≤ 48) (hx : lc_bd b x) (hy : lc_bd b y) (h : lc_le x y = true) : lc_le (lc_ind n x) (lc_ind n y) = true := by
  obtain ⟨e1, e2, e3⟩ := lc_ind_int hn hb hx
  obtain ⟨g1, g2, g3⟩ := lc_ind_int hn hb hy
  rw [lc_le_int] at h ⊢
  rw [e1, e2, e3, g1, g2, g3]
  omega
theorem lc_ind_zero (x : lc_B) : lc_ind 0 x = x := by
  unfold lc_ind
  rw [Int32.add_zero, Int32.add_zero]
theorem lc_join_int {code : Int32} {b c : Nat} {x y : lc_B} (hb : b + c ≤ 48) (hx : lc_bd b x) (hy : lc_bd c y) :
    (code = 2 ∧ (lc_join code x y).1.toInt = x.1.toInt + y.1.toInt + 1 ∧ (lc_join code x y).2.1.toInt = max x.2.1.toInt y.2.1.toInt ∧ (lc_join code x y).2.2.toInt = y.2.2.toInt) ∨
    (¬ code = 2 ∧ (lc_join code x y).1.toInt = x.1.toInt + y.1.toInt ∧ (lc_join code x y).2.1.toInt = max x.2.1.toInt (x.2.2.toInt + y.2.1.toInt) ∧ (lc_join code x y).2.2.toInt = x.2.2.toInt + y.2.2.toInt) := by
  obtain ⟨x1, x2, x3, x4, x5, x6⟩ := hx
  obtain ⟨y1, y2, y3, y4, y5, y6⟩ := hy
  have e1 : (x.1 + y.1).toInt = x.1.toInt + y.1.toInt := lc_add x1 y1 (by omega)
  have e2 : (x.2.2 + y.2.1).toInt = x.2.2.toInt + y.2.1.toInt := lc_add x5 y3 (by omega)
  have e3 : (x.2.2 + y.2.2).toInt = x.2.2.toInt + y.2.2.toInt := lc_add x5 y5 (by omega)
  have e4 : (x.1 + y.1 + 1).toInt = x.1.toInt + y.1.toInt + 1 := by
    rw [lc_add (by omega) (by decide) (by rw [e1, show (1 : Int32).toInt = 1 by decide]; omega), e1]
    rfl
  unfold lc_join
  by_cases h : code = 2
  · rw [if_pos h]
    exact Or.inl ⟨h, e4, lc_mx_int _ _, rfl⟩
  · rw [if_neg h]
    exact Or.inr ⟨h, e1, by dsimp only; rw [lc_mx_int, e2], e3⟩
theorem lc_bd_join {code : Int32} {b c : Nat} {x y : lc_B} (hb : b + c ≤ 48) (hx : lc_bd b x) (hy : lc_bd c y) : lc_bd (b + c + 1) (lc_join code x y) := by
  have h := lc_join_int (code := code) hb hx hy
  obtain ⟨x1, x2, x3, x4, x5, x6⟩ := hx
  obtain ⟨y1, y2, y3, y4, y5, y6⟩ := hy
  unfold lc_bd
  rcases h with ⟨_, e1, e2, e3⟩ | ⟨_, e1, e2, e3⟩
  · rw [e1, e2, e3]; omega
  · rw [e1, e2, e3]; omega
theorem lc_join_mono {code : Int32} {b c : Nat} {x y x' y' : lc_B} (hb : b + c ≤ 48) (hx : lc_bd b x) (hy : lc_bd c y) (hx' : lc_bd b x') (hy' : lc_bd c y') (h1 : lc_le x x' = true) (h2 : lc_le y y' = true) : lc_le (lc_join code x y) (lc_join code x' y') = true := by
  have h := lc_join_int (code := code) hb hx hy
  have h' := lc_join_int (code := code) hb hx' hy'
  rw [lc_le_int] at h1 h2 ⊢
  rcases h with ⟨c1, e1, e2, e3⟩ | ⟨c1, e1, e2, e3⟩
  · rcases h' with ⟨c2, g1, g2, g3⟩ | ⟨c2, g1, g2, g3⟩
    · rw [e1, e2, e3, g1, g2, g3]; omega
    · exact absurd c1 c2
  · rcases h' with ⟨c2, g1, g2, g3⟩ | ⟨c2, g1, g2, g3⟩
    · exact absurd c2 c1
    · rw [e1, e2, e3, g1, g2, g3]; omega
theorem lc_jm_join {code up : Int32} {x y : lc_B} (h : code = 1 ∨ code = 2) : lc_jm code up x y = lc_join code x y := by
  rcases h with h | h
  · subst h
    rfl
  · subst h
    unfold lc_jm lc_join
    rw [if_neg (by decide), if_pos rfl, if_pos rfl, Int32.add_assoc]
theorem lc_jm_4 {up : Int32} {x y : lc_B} : lc_jm 4 up x y = if up = 0 then x else y := by
  unfold lc_jm
  rw [if_neg (by decide), if_neg (by decide)]
theorem lc_code {code : Int32} (h0 : ¬ code < 0) (h4 : ¬ 4 < code) (n0 : ¬ code = 0) (n3 : ¬ code = 3) (n4 : ¬ code = 4) : code = 1 ∨ code = 2 := by
  obtain ⟨j, hj, rfl⟩ := nI_of h0
  have hj4 : j ≤ 4 := by
    rcases Nat.lt_or_ge 4 j with q | q
    · exact absurd ((nI_ltI (a := 4) (b := j) (by omega) hj).mpr q) h4
    · exact q
  have : j = 0 ∨ j = 1 ∨ j = 2 ∨ j = 3 ∨ j = 4 := by omega
  rcases this with q | q | q | q | q
  · exact absurd (by rw [q]; rfl) n0
  · exact Or.inl (by rw [q]; rfl)
  · exact Or.inr (by rw [q]; rfl)
  · exact absurd (by rw [q]; rfl) n3
  · exact absurd (by rw [q]; rfl) n4
/-- the clamped numbers of cost -/
theorem lc_clamp_int {top v : Int32} (ht : 0 ≤ top.toInt) : 0 ≤ (lc_clamp top v).toInt ∧ (lc_clamp top v).toInt ≤ top.toInt := by
  unfold lc_clamp
  by_cases h : v < 0
  · rw [if_pos h]
    have : (0 : Int32).toInt = 0 := by decide
    omega
  · rw [if_neg h]
    rw [lc_ltI, show (0 : Int32).toInt = 0 by decide] at h
    by_cases h2 : v ≤ top
    · rw [if_pos h2]
      exact ⟨by omega, lc_leI.mp h2⟩
    · rw [if_neg h2]
      omega
theorem lc_over_int {r : Int32} {b : Nat} {x : lc_B} (hr : 0 ≤ r.toInt) (hx : lc_bd b x) : (lc_over r x).toInt = max 0 (x.2.1.toInt - r.toInt) := by
  unfold lc_over
  by_cases h : x.2.1 ≤ r
  · rw [if_pos h]
    have := lc_leI.mp h
    have e : (0 : Int32).toInt = 0 := by decide
    omega
  · rw [if_neg h]
    have := lc_ltI.mp (lc_nle' h)
    rw [lc_sub hr (by omega)]
    omega
theorem lc_sum_int {p r : Int32} {b : Nat} {x : lc_B} (hb : b ≤ 48) (hp : 0 ≤ p.toInt ∧ p.toInt ≤ 100) (hr : 0 ≤ r.toInt) (hx : lc_bd b x) : (lc_sum p r x).toInt = p.toInt * x.1.toInt + max 0 (x.2.1.toInt - r.toInt) * max 0 (x.2.1.toInt - r.toInt) ∧ 0 ≤ (lc_sum p r x).toInt := by
  have ho := lc_over_int hr hx
  obtain ⟨x1, x2, x3, x4, x5, x6⟩ := hx
  have m1 : 0 ≤ p.toInt * x.1.toInt := Int.mul_nonneg hp.1 x1
  have m2 : p.toInt * x.1.toInt ≤ 100 * 48 := Int.mul_le_mul hp.2 (by omega) x1 (by decide)
  have m3 : 0 ≤ max 0 (x.2.1.toInt - r.toInt) * max 0 (x.2.1.toInt - r.toInt) := Int.mul_nonneg (by omega) (by omega)
  have m4 : max 0 (x.2.1.toInt - r.toInt) * max 0 (x.2.1.toInt - r.toInt) ≤ 1920 * 1920 := Int.mul_le_mul (by omega) (by omega) (by omega) (by decide)
  unfold lc_sum
  have e1 : (p * x.1).toInt = p.toInt * x.1.toInt := lc_mul m1 (by omega)
  have e2 : (lc_over r x * lc_over r x).toInt = max 0 (x.2.1.toInt - r.toInt) * max 0 (x.2.1.toInt - r.toInt) := by
    rw [lc_mul (by rw [ho]; exact m3) (by rw [ho]; omega), ho]
  have e3 := lc_add (a := p * x.1) (b := lc_over r x * lc_over r x) (by rw [e1]; exact m1) (by rw [e2]; exact m3) (by rw [e1, e2]; omega)
  rw [e3, e1, e2]
  exact ⟨rfl, by omega⟩
theorem lc_sum_mono {p r : Int32} {b : Nat} {x y : lc_B} (hb : b ≤ 48) (hp : 0 ≤ p.toInt ∧ p.toInt ≤ 100) (hr : 0 ≤ r.toInt) (hx : lc_bd b x) (hy : lc_bd b y) (h : lc_le x y = true) : lc_sum p r x ≤ lc_sum p r y := by
  obtain ⟨h1, h2, h3⟩ := lc_le_int.mp h
  rw [lc_leI, (lc_sum_int hb hp hr hx).1, (lc_sum_int hb hp hr hy).1]
  have m1 : p.toInt * x.1.toInt ≤ p.toInt * y.1.toInt := Int.mul_le_mul_of_nonneg_left h1 hp.1
  have m2 : max 0 (x.2.1.toInt - r.toInt) * max 0 (x.2.1.toInt - r.toInt) ≤ max 0 (y.2.1.toInt - r.toInt) * max 0 (y.2.1.toInt - r.toInt) := Int.mul_le_mul (by omega) (by omega) (by omega) (by omega)
  omega
end
section
/-! PLAIN LAW 3: what holds between the documents and the tokens -/
def lc_cd (t : lc_T) : Prop := t.1 = 0 ∨ t.1 = 1 ∨ t.1 = 2 ∨ t.1 = 3 ∨ t.1 = 4
theorem lc_sm_2 (w : Nat) (z : List lc_B × Nat) (t : lc_T) : (lc_sm w z t).2 = lc_chs t.1 z.2 := by
  unfold lc_sm
  by_cases c0 : t.1 = 0
  · rw [if_pos c0, lc_chs, if_neg (by rw [c0]; decide)]
  · rw [if_neg c0]
    by_cases c3 : t.1 = 3
    · rw [if_pos c3, lc_chs, if_neg (by rw [c3]; decide)]
    · rw [if_neg c3]
theorem lc_fold_2 {w : Nat} : ∀ (ts : List lc_T) (z : List lc_B × Nat), (ts.foldl (lc_sm w) z).2 = z.2 + lc_cnt ts
  | [], z => rfl
  | t :: ts, z => by
    show (ts.foldl (lc_sm w) (lc_sm w z t)).2 = z.2 + ((if t.1 = 4 then 1 else 0) + lc_cnt ts)
    rw [lc_fold_2 ts, lc_sm_2, lc_chs]
    by_cases h : t.1 = 4
    · rw [if_pos h, if_pos h]; omega
    · rw [if_neg h, if_neg h]; omega
theorem lc_run_cnt (w : Nat) (ts : List lc_T) : (lc_run w ts).2 = lc_cnt ts := by
  have := lc_fold_2 (w := w) ts ([], 0)
  rw [lc_run, this]
  exact Nat.zero_add _
theorem lc_sm_congr {w w' : Nat} {z : List lc_B × Nat} {t : lc_T} (hc : lc_cd t) (h : t.1 = 4 → lc_bit w z.2 = lc_bit w' z.2) : lc_sm w z t = lc_sm w' z t := by
  unfold lc_sm
  by_cases c0 : t.1 = 0
  · rw [if_pos c0, if_pos c0]
  · rw [if_neg c0, if_neg c0]
    by_cases c3 : t.1 = 3
    · rw [if_pos c3, if_pos c3]
    · rw [if_neg c3, if_neg c3]
      have e : ∀ x y, lc_jm t.1 (lc_bit w z.2) x y = lc_jm t.1 (lc_bit w' z.2) x y := by
        intro x y
        rcases hc with e | e | e | e | e
        · exact absurd e c0
        · rw [lc_jm_join (Or.inl e), lc_jm_join (Or.inl e)]
        · rw [lc_jm_join (Or.inr e), lc_jm_join (Or.inr e)]
        · exact absurd e c3
        · rw [h e]
      simp only [e]
theorem lc_fold_congr {w w' : Nat} : ∀ (ts : List lc_T) (z : List lc_B × Nat), (∀ t ∈ ts, lc_cd t) → (∀ c, z.2 ≤ c → c < z.2 + lc_cnt ts → lc_bit w c = lc_bit w' c) → ts.foldl (lc_sm w) z = ts.foldl (lc_sm w') z
  | [], z, _, _ => rfl
  | t :: ts, z, hc, h => by
    have e : lc_cnt (t :: ts) = (if t.1 = 4 then 1 else 0) + lc_cnt ts := rfl
    have e1 : lc_sm w z t = lc_sm w' z t := lc_sm_congr (hc t List.mem_cons_self) (fun h4 => h z.2 (Nat.le_refl _) (by rw [e, if_pos h4]; omega))
    show ts.foldl (lc_sm w) (lc_sm w z t) = ts.foldl (lc_sm w') (lc_sm w' z t)
    rw [← e1]
    refine lc_fold_congr ts _ (fun u hu => hc u (List.mem_cons_of_mem _ hu)) (fun c h1 h2 => h c ?_ ?_)
    · rw [lc_sm_2, lc_chs] at h1
      by_cases h4 : t.1 = 4
      · rw [if_pos h4] at h1; omega
      · rw [if_neg h4] at h1; omega
    · rw [lc_sm_2, lc_chs] at h2
      rw [e]
      by_cases h4 : t.1 = 4
      · rw [if_pos h4] at h2 ⊢; omega
      · rw [if_neg h4] at h2 ⊢; omega
theorem lc_run_congr {w w' : Nat} {ts : List lc_T} (hc : ∀ t ∈ ts, lc_cd t) (h : ∀ c, c < lc_cnt ts → lc_bit w c = lc_bit w' c) : lc_run w ts = lc_run w' ts :=
  lc_fold_congr ts ([], 0) hc (fun c _ h2 => h c (by have : c < 0 + lc_cnt ts := h2; omega))
theorem lc_bit_hi {w e : Nat} (h : w < 2 ^ e) : lc_bit (w + 2 ^ e) e = 1 := by
  have h0 : 0 < 2 ^ e := Nat.pow_pos (by decide)
  rw [lc_bit, if_pos]
  rw [Nat.add_div_right _ h0, Nat.div_eq_of_lt h]
theorem lc_bit_lo {w e : Nat} (h : w < 2 ^ e) : lc_bit w e = 0 := by
  rw [lc_bit, if_neg]
  rw [Nat.div_eq_of_lt h]
  decide
theorem lc_bit_same {w e c : Nat} (h : c < e) : lc_bit w c = lc_bit (w + 2 ^ e) c := by
  have e1 : 2 ^ e = 2 ^ c * (2 * 2 ^ (e - c - 1)) := by
    rw [← Nat.pow_succ', ← Nat.pow_add]
    congr 1
    omega
  have h0 : 0 < 2 ^ c := Nat.pow_pos (by decide)
  have e2 : (w + 2 ^ e) / 2 ^ c % 2 = w / 2 ^ c % 2 := by
    rw [e1, Nat.add_mul_div_left _ _ h0, Nat.add_mul_mod_self_left]
  rw [lc_bit, lc_bit, e2]
abbrev lc_I : Type := (lc_B → Prop) × Nat × Nat
/-- each document is the front of its set -/
def lc_fr : List (List lc_B) → List lc_I → Prop
  | [], [] => True
  | q :: qs, g :: gs => (lc_front q g.1 ∧ q.length ≤ 2 ^ g.2.1 ∧ ∀ x, g.1 x → lc_bd g.2.2 x) ∧ lc_fr qs gs
  | _, _ => False
def lc_in : List lc_B → List lc_I → Prop
  | [], [] => True
  | x :: xs, g :: gs => g.1 x ∧ lc_in xs gs
  | _, _ => False
def lc_se : List lc_I → Nat
  | [] => 0
  | g :: gs => g.2.1 + lc_se gs
def lc_sb : List lc_I → Nat
  | [] => 0
  | g :: gs => g.2.2 + lc_sb gs
def lc_Inv (docs : List (List lc_B)) (ts : List lc_T) : Prop :=
  ts.length ≤ 48 ∧ lc_cnt ts ≤ 6 ∧ lc_wf 0 ts ∧ docs.length = lc_fin 0 ts ∧ docs.length ≤ 10 ∧ (∀ t ∈ ts, lc_cd t) ∧ ∃ gs : List lc_I, lc_fr docs gs ∧ lc_se gs ≤ lc_cnt ts ∧ lc_sb gs ≤ ts.length ∧ (∀ w, lc_in (lc_run w ts).1 gs) ∧ ∀ xs, lc_in xs gs → ∃ w, w < 2 ^ lc_cnt ts ∧ (lc_run w ts).1 = xs
theorem lc_Inv_0 : lc_Inv [] [] := by
  refine ⟨by decide, by decide, trivial, rfl, by decide, fun t h => absurd h List.not_mem_nil, [], trivial, by decide, by decide, fun w => trivial, fun xs h => ⟨0, by decide, ?_⟩⟩
  match xs, h with
  | [], _ => rfl
theorem lc_in_cons {xs : List lc_B} {g : lc_I} {gs : List lc_I} (h : lc_in xs (g :: gs)) : ∃ x st, xs = x :: st ∧ g.1 x ∧ lc_in st gs := by
  match xs, h with
  | x :: st, h => exact ⟨x, st, rfl, h.1, h.2⟩
theorem lc_fr_cons {q : List lc_B} {qs : List (List lc_B)} {gs : List lc_I} (h : lc_fr (q :: qs) gs) : ∃ g gs', gs = g :: gs' ∧ lc_front q g.1 ∧ q.length ≤ 2 ^ g.2.1 ∧ (∀ x, g.1 x → lc_bd g.2.2 x) ∧ lc_fr qs gs' := by
  match gs, h with
  | g :: gs', h => exact ⟨g, gs', rfl, h.1.1, h.1.2.1, h.1.2.2, h.2⟩
theorem lc_front_0 (x : lc_B) : lc_front [x] (fun y => y = x) := lc_front.iff (d := [x]) (lc_front_nil.gather x) (fun y => ⟨fun h => h.elim False.elim id, Or.inr⟩)
theorem lc_Inv.tok {docs : List (List lc_B)} {ts : List lc_T} {code n : Int32} (h : lc_Inv docs ts) (hok : lc_ok code n ts.length (lc_cnt ts) docs.length) : lc_Inv (lc_tok docs code n) (ts ++ [(code, n)]) := by
  obtain ⟨h48, h6, hwf, hfin, h10, hcd, gs, hfr, hse, hsb, hin, hpr⟩ := h
  obtain ⟨k0, k4, kt, khas, kb0, kb3, kb4⟩ := hok
  have hwf' : lc_wf 0 (ts ++ [(code, n)]) := lc_wf_snoc hwf (by rw [← hfin]; exact khas)
  have hfin' : lc_fin 0 (ts ++ [(code, n)]) = lc_hgt code docs.length := by rw [lc_fin_snoc, ← hfin]
  have hlen' : (ts ++ [(code, n)]).length = ts.length + 1 := by simp
  have hcnt' : lc_cnt (ts ++ [(code, n)]) = lc_chs code (lc_cnt ts) := lc_cnt_snoc
  have hl10 := lc_hgt_le khas h10
  have hrun' : ∀ w, lc_run w (ts ++ [(code, n)]) = lc_sm w ((lc_run w ts).1, lc_cnt ts) (code, n) := fun w => by rw [lc_run_snoc, ← lc_run_cnt w ts]
  have hcd' : lc_cd (code, n) → ∀ t ∈ ts ++ [(code, n)], lc_cd t := by
    intro hc t ht
    rcases List.mem_append.mp ht with q | q
    · exact hcd t q
    · rw [List.mem_singleton.mp q]; exact hc
  by_cases c0 : code = 0
  · subst c0
    have htok : lc_tok docs 0 n = [(0, n, n)] :: docs := by unfold lc_tok; exact if_pos rfl
    have hch : lc_chs 0 (lc_cnt ts) = lc_cnt ts := if_neg (by decide)
    have hh : lc_hgt 0 docs.length = docs.length + 1 := if_pos rfl
    rw [hh] at hl10 hfin'
    rw [hch] at hcnt'
    rw [htok]
    refine ⟨by omega, by omega, hwf', hfin'.symm, hl10, hcd' (Or.inl rfl), (fun x => x = (0, n, n), 0, 1) :: gs, ⟨⟨lc_front_0 _, Nat.le_refl _, fun x hx => by rw [hx]; exact lc_bd_0 kb0⟩, hfr⟩, ?_, ?_, fun w => ?_, fun xs hx => ?_⟩
    · show 0 + lc_se gs ≤ _; omega
    · show 1 + lc_sb gs ≤ _; omega
    · rw [hrun', lc_sm0 rfl]; exact ⟨rfl, hin w⟩
    · obtain ⟨x, st, rfl, hx1, hx2⟩ := lc_in_cons hx
      obtain ⟨w, hw, e⟩ := hpr st hx2
      refine ⟨w, by rw [hcnt']; exact hw, ?_⟩
      rw [hrun', lc_sm0 rfl, e]
      show (0, n, n) :: st = x :: st
      rw [show x = (0, n, n) from hx1]
  · by_cases c3 : code = 3
    · subst c3
      have hm := lc_has3 khas
      obtain ⟨q, ds, rfl⟩ : ∃ q ds, docs = q :: ds := by
        match docs, hm with
        | q :: ds, _ => exact ⟨q, ds, rfl⟩
      obtain ⟨g, gs0, rfl, f1, f2, f3, f4⟩ := lc_fr_cons hfr
      have htok : lc_tok (q :: ds) 3 n = lc_indent n q [] :: ds := by rw [lc_tok, if_neg (by decide), if_pos rfl]
      have hch : lc_chs 3 (lc_cnt ts) = lc_cnt ts := if_neg (by decide)
      have hh : lc_hgt 3 (q :: ds).length = (q :: ds).length := by rw [lc_hgt, if_neg (by decide), if_pos rfl]
      rw [hh] at hl10 hfin'
      rw [hch] at hcnt'
      rw [htok]
      have hn : 0 ≤ n.toInt ∧ n.toInt ≤ 40 := by
        have h1 : ¬ n < 0 := fun z => kb3 ⟨rfl, Or.inl z⟩
        have h2 : ¬ 20 < n := fun z => kb3 ⟨rfl, Or.inr z⟩
        rw [lc_ltI, show (0 : Int32).toInt = 0 by decide] at h1
        rw [lc_ltI, show (20 : Int32).toInt = 20 by decide] at h2
        omega
      have hsb' : g.2.2 + lc_sb gs0 ≤ ts.length := hsb
      have hse' : g.2.1 + lc_se gs0 ≤ lc_cnt ts := hse
      have hlen := lc_indent_len n q []
      have h00 : ([] : List lc_B).length = 0 := rfl
      refine ⟨by omega, by omega, hwf', hfin'.symm, hl10, hcd' (Or.inr (Or.inr (Or.inr (Or.inl rfl)))), (fun x => ∃ z, g.1 z ∧ x = lc_ind n z, g.2.1, g.2.2 + 1) :: gs0, ⟨⟨?_, ?_, ?_⟩, f4⟩, ?_, ?_, fun w => ?_, fun xs hx => ?_⟩
      · refine (lc_front_nil.indent (n := n) (l := q)).dom ?_ ?_
        · intro x hx
          rcases hx with hx | ⟨z, hz, rfl⟩
          · exact hx.elim
          · exact ⟨z, f1.2.2.1 z hz, rfl⟩
        · rintro y ⟨z, hz, rfl⟩
          obtain ⟨u, hu, huz⟩ := f1.2.2.2 z hz
          exact ⟨lc_ind n u, Or.inr ⟨u, hu, rfl⟩, lc_ind_mono hn (by omega) (f3 u (f1.2.2.1 u hu)) (f3 z hz) huz⟩
      · show (lc_indent n q []).length ≤ 2 ^ g.2.1
        omega
      · rintro x ⟨z, hz, rfl⟩
        exact lc_bd_ind hn (by omega) (f3 z hz)
      · show g.2.1 + lc_se gs0 ≤ _; omega
      · show g.2.2 + 1 + lc_sb gs0 ≤ _; omega
      · obtain ⟨x, st, e, hx1, hx2⟩ := lc_in_cons (hin w)
        rw [hrun', e, lc_sm3 c0 rfl]
        exact ⟨⟨x, hx1, rfl⟩, hx2⟩
      · obtain ⟨x, st, rfl, ⟨z, hz, rfl⟩, hx2⟩ := lc_in_cons hx
        obtain ⟨w, hw, e⟩ := hpr (z :: st) ⟨hz, hx2⟩
        refine ⟨w, by rw [hcnt']; exact hw, ?_⟩
        rw [hrun', e, lc_sm3 c0 rfl]
    · have hm := lc_has2 c0 c3 khas
      obtain ⟨q2, q1, ds, rfl⟩ : ∃ q2 q1 ds, docs = q2 :: q1 :: ds := by
        match docs, hm with
        | q2 :: q1 :: ds, _ => exact ⟨q2, q1, ds, rfl⟩
      obtain ⟨g2, gs1, rfl, f1, f2, f3, f4⟩ := lc_fr_cons hfr
      obtain ⟨g1, gs0, rfl, e1, e2, e3, e4⟩ := lc_fr_cons f4
      have htok : lc_tok (q2 :: q1 :: ds) code n = lc_two code q1 q2 [] :: ds := by rw [lc_tok, if_neg c0, if_neg c3]
      have hh : lc_hgt code (q2 :: q1 :: ds).length = ds.length + 1 := by rw [lc_hgt, if_neg c0, if_neg c3]; rfl
      rw [hh] at hl10 hfin'
      rw [htok]
      have hsb' : g2.2.2 + (g1.2.2 + lc_sb gs0) ≤ ts.length := hsb
      have hse' : g2.2.1 + (g1.2.1 + lc_se gs0) ≤ lc_cnt ts := hse
      have h00 : ([] : List lc_B).length = 0 := rfl
      have hin2 : ∀ w, ∃ y x st, (lc_run w ts).1 = y :: x :: st ∧ g2.1 y ∧ g1.1 x ∧ lc_in st gs0 := by
        intro w
        obtain ⟨y, st1, a1, a2, a3⟩ := lc_in_cons (hin w)
        obtain ⟨x, st, rfl, b2, b3⟩ := lc_in_cons a3
        exact ⟨y, x, st, a1, a2, b2, b3⟩
      by_cases c4 : code = 4
      · subst c4
        have htwo : lc_two 4 q1 q2 [] = lc_indent 0 q2 (lc_indent 0 q1 []) := if_pos rfl
        have hch : lc_chs 4 (lc_cnt ts) = lc_cnt ts + 1 := if_pos rfl
        rw [hch] at hcnt'
        have h66 : lc_cnt ts < 6 := by
          rcases Nat.lt_or_ge (lc_cnt ts) 6 with z | z
          · exact z
          · exact absurd ⟨rfl, z⟩ kb4
        rw [htwo]
        have l1 := lc_indent_len 0 q1 []
        have l2 := lc_indent_len 0 q2 (lc_indent 0 q1 [])
        refine ⟨by omega, by omega, hwf', hfin'.symm, hl10, hcd' (Or.inr (Or.inr (Or.inr (Or.inr rfl)))), (fun x => g1.1 x ∨ g2.1 x, g1.2.1 + g2.2.1 + 1, g1.2.2 + g2.2.2 + 1) :: gs0, ⟨⟨?_, ?_, ?_⟩, e4⟩, ?_, ?_, fun w => ?_, fun xs hx => ?_⟩
        · refine ((lc_front_nil.indent (n := 0) (l := q1)).indent (n := 0) (l := q2)).dom ?_ ?_
          · intro x hx
            rcases hx with (hx | ⟨z, hz, rfl⟩) | ⟨z, hz, rfl⟩
            · exact hx.elim
            · rw [lc_ind_zero]; exact Or.inl (e1.2.2.1 z hz)
            · rw [lc_ind_zero]; exact Or.inr (f1.2.2.1 z hz)
          · intro y hy
            rcases hy with hy | hy
            · obtain ⟨u, hu, huz⟩ := e1.2.2.2 y hy
              exact ⟨u, Or.inl (Or.inr ⟨u, hu, (lc_ind_zero u).symm⟩), huz⟩
            · obtain ⟨u, hu, huz⟩ := f1.2.2.2 y hy
              exact ⟨u, Or.inr ⟨u, hu, (lc_ind_zero u).symm⟩, huz⟩
        · show (lc_indent 0 q2 (lc_indent 0 q1 [])).length ≤ 2 ^ (g1.2.1 + g2.2.1 + 1)
          have p1 : 2 ^ g1.2.1 ≤ 2 ^ (g1.2.1 + g2.2.1) := Nat.pow_le_pow_right (by decide) (by omega)
          have p2 : 2 ^ g2.2.1 ≤ 2 ^ (g1.2.1 + g2.2.1) := Nat.pow_le_pow_right (by decide) (by omega)
          rw [Nat.pow_succ]
          omega
        · intro x hx
          rcases hx with hx | hx
          · obtain ⟨a1, a2, a3, a4, a5, a6⟩ := e3 x hx
            exact ⟨a1, by dsimp only; omega, a3, by dsimp only; omega, a5, by dsimp only; omega⟩
          · obtain ⟨a1, a2, a3, a4, a5, a6⟩ := f3 x hx
            exact ⟨a1, by dsimp only; omega, a3, by dsimp only; omega, a5, by dsimp only; omega⟩
        · show g1.2.1 + g2.2.1 + 1 + lc_se gs0 ≤ _; omega
        · show g1.2.2 + g2.2.2 + 1 + lc_sb gs0 ≤ _; omega
        · obtain ⟨y, x, st, e, hy, hx, hst⟩ := hin2 w
          rw [hrun', e, lc_smj c0 c3]
          refine ⟨?_, hst⟩
          show g1.1 (lc_jm 4 _ x y) ∨ g2.1 (lc_jm 4 _ x y)
          rw [lc_jm_4]
          split
          · exact Or.inl hx
          · exact Or.inr hy
        · obtain ⟨x, st, rfl, hx1, hst⟩ := lc_in_cons hx
          obtain ⟨y0, x0, st0, _, hy0, hx0, _⟩ := hin2 0
          rcases hx1 with hx1 | hx1
          · obtain ⟨w, hw, e⟩ := hpr (y0 :: x :: st) ⟨hy0, hx1, hst⟩
            refine ⟨w, by rw [hcnt', Nat.pow_succ]; omega, ?_⟩
            rw [hrun', e, lc_smj c0 c3]
            show lc_jm 4 (lc_bit w (lc_cnt ts)) x y0 :: st = x :: st
            rw [lc_jm_4, lc_bit_lo hw, if_pos rfl]
          · obtain ⟨w, hw, e⟩ := hpr (x :: x0 :: st) ⟨hx1, hx0, hst⟩
            refine ⟨w + 2 ^ lc_cnt ts, by rw [hcnt', Nat.pow_succ]; omega, ?_⟩
            have er : lc_run (w + 2 ^ lc_cnt ts) ts = lc_run w ts := (lc_run_congr hcd (fun c hc => lc_bit_same hc)).symm
            rw [hrun', er, e, lc_smj c0 c3]
            show lc_jm 4 (lc_bit (w + 2 ^ lc_cnt ts) (lc_cnt ts)) x0 x :: st = x :: st
            rw [lc_jm_4, lc_bit_hi hw, if_neg (by decide)]
      · have hcode := lc_code k0 k4 c0 c3 c4
        have htwo : lc_two code q1 q2 [] = lc_cross code q1 q2 [] := if_neg c4
        have hch : lc_chs code (lc_cnt ts) = lc_cnt ts := if_neg c4
        rw [hch] at hcnt'
        rw [htwo]
        have l1 := lc_cross_len code q1 q2 []
        refine ⟨by omega, by omega, hwf', hfin'.symm, hl10, hcd' (Or.inr (hcode.elim Or.inl (fun z => Or.inr (Or.inl z)))), (fun x => ∃ u v, g1.1 u ∧ g2.1 v ∧ x = lc_join code u v, g1.2.1 + g2.2.1, g1.2.2 + g2.2.2 + 1) :: gs0, ⟨⟨?_, ?_, ?_⟩, e4⟩, ?_, ?_, fun w => ?_, fun xs hx => ?_⟩
        · refine (lc_front_nil.cross (code := code) (l2 := q2) (l := q1)).dom ?_ ?_
          · intro x hx
            rcases hx with hx | ⟨u, hu, z, hz, rfl⟩
            · exact hx.elim
            · exact ⟨u, z, e1.2.2.1 u hu, f1.2.2.1 z hz, rfl⟩
          · rintro y ⟨u, v, hu, hv, rfl⟩
            obtain ⟨u', hu', huu⟩ := e1.2.2.2 u hu
            obtain ⟨v', hv', hvv⟩ := f1.2.2.2 v hv
            exact ⟨lc_join code u' v', Or.inr ⟨u', hu', v', hv', rfl⟩, lc_join_mono (b := g1.2.2) (c := g2.2.2) (by omega) (e3 u' (e1.2.2.1 u' hu')) (f3 v' (f1.2.2.1 v' hv')) (e3 u hu) (f3 v hv) huu hvv⟩
        · show (lc_cross code q1 q2 []).length ≤ 2 ^ (g1.2.1 + g2.2.1)
          have p1 : q1.length * q2.length ≤ 2 ^ g1.2.1 * 2 ^ g2.2.1 := Nat.mul_le_mul e2 f2
          rw [Nat.pow_add]
          omega
        · rintro x ⟨u, v, hu, hv, rfl⟩
          exact lc_bd_join (by omega) (e3 u hu) (f3 v hv)
        · show g1.2.1 + g2.2.1 + lc_se gs0 ≤ _; omega
        · show g1.2.2 + g2.2.2 + 1 + lc_sb gs0 ≤ _; omega
        · obtain ⟨y, x, st, e, hy, hx, hst⟩ := hin2 w
          rw [hrun', e, lc_smj c0 c3]
          exact ⟨⟨x, y, hx, hy, lc_jm_join hcode⟩, hst⟩
        · obtain ⟨x, st, rfl, ⟨u, v, hu, hv, rfl⟩, hst⟩ := lc_in_cons hx
          obtain ⟨w, hw, e⟩ := hpr (v :: u :: st) ⟨hv, hu, hst⟩
          refine ⟨w, by rw [hcnt']; exact hw, ?_⟩
          rw [hrun', e, lc_smj c0 c3]
          show lc_jm code _ u v :: st = _
          rw [lc_jm_join hcode]
end
section
/-! PLAIN LAW 4: the queries agree; sizes -/
theorem lc_fr_at : ∀ {docs : List (List lc_B)} {gs : List lc_I} {j : Nat}, lc_fr docs gs → j < docs.length → ∃ q g, docs[j]? = some q ∧ gs[j]? = some g ∧ lc_front q g.1 ∧ q.length ≤ 2 ^ g.2.1 ∧ ∀ x, g.1 x → lc_bd g.2.2 x
  | [], gs, j, _, h => absurd h (Nat.not_lt_zero j)
  | q :: qs, gs, 0, hf, _ => by
    obtain ⟨g, gs', rfl, a1, a2, a3, a4⟩ := lc_fr_cons hf
    exact ⟨q, g, rfl, rfl, a1, a2, a3⟩
  | q :: qs, gs, j + 1, hf, h => by
    obtain ⟨g, gs', rfl, a1, a2, a3, a4⟩ := lc_fr_cons hf
    obtain ⟨q', g', b1, b2, b3⟩ := lc_fr_at a4 (j := j) (by simpa using h)
    exact ⟨q', g', by simpa using b1, by simpa using b2, b3⟩
theorem lc_sb_at : ∀ {gs : List lc_I} {j : Nat} {g : lc_I}, gs[j]? = some g → g.2.2 ≤ lc_sb gs
  | [], j, g, h => by simp at h
  | a :: as, 0, g, h => by
    simp at h
    subst h
    show a.2.2 ≤ a.2.2 + lc_sb as
    omega
  | a :: as, j + 1, g, h => by
    have := lc_sb_at (gs := as) (j := j) (g := g) (by simpa using h)
    show g.2.2 ≤ a.2.2 + lc_sb as
    omega
theorem lc_in_at : ∀ {xs : List lc_B} {gs : List lc_I} {j : Nat} {g : lc_I}, lc_in xs gs → gs[j]? = some g → ∃ x, xs[j]? = some x ∧ g.1 x
  | xs, [], j, g, _, h => by simp at h
  | xs, a :: as, 0, g, hi, h => by
    obtain ⟨x, st, rfl, h1, h2⟩ := lc_in_cons hi
    simp at h
    subst h
    exact ⟨x, rfl, h1⟩
  | xs, a :: as, j + 1, g, hi, h => by
    obtain ⟨x, st, rfl, h1, h2⟩ := lc_in_cons hi
    obtain ⟨y, h3, h4⟩ := lc_in_at h2 (j := j) (g := g) (by simpa using h)
    exact ⟨y, by simpa using h3, h4⟩
theorem lc_in_set {y : lc_B} : ∀ {xs : List lc_B} {gs : List lc_I} {j : Nat} {g : lc_I}, lc_in xs gs → gs[j]? = some g → g.1 y → lc_in (xs.set j y) gs
  | xs, [], j, g, _, h, _ => by simp at h
  | xs, a :: as, 0, g, hi, h, hy => by
    obtain ⟨x, st, rfl, h1, h2⟩ := lc_in_cons hi
    simp at h
    subst h
    exact ⟨hy, h2⟩
  | xs, a :: as, j + 1, g, hi, h, hy => by
    obtain ⟨x, st, rfl, h1, h2⟩ := lc_in_cons hi
    exact ⟨h1, lc_in_set h2 (j := j) (g := g) (by simpa using h) hy⟩
/-- document j: its boxes are the front of all ways -/
theorem lc_Inv.doc {docs : List (List lc_B)} {ts : List lc_T} {j : Nat} (h : lc_Inv docs ts) (hj : j < lc_fin 0 ts) : ∃ (q : List lc_B) (S : lc_B → Prop) (b : Nat), docs[j]? = some q ∧ lc_front q S ∧ (∀ x, x ∈ lc_ways ts (lc_cnt ts) j ↔ S x) ∧ b ≤ 48 ∧ ∀ x, S x → lc_bd b x := by
  obtain ⟨h48, h6, hwf, hfin, h10, hcd, gs, hfr, hse, hsb, hin, hpr⟩ := h
  obtain ⟨q, g, a1, a2, a3, a4, a5⟩ := lc_fr_at hfr (by rw [hfin]; exact hj)
  have hb := lc_sb_at a2
  have hway : ∀ w, g.1 (lc_way ts j w) := by
    intro w
    obtain ⟨x, hx, hg⟩ := lc_in_at (hin w) a2
    rw [lc_way, List.getD_eq_getElem?_getD, hx]
    exact hg
  refine ⟨q, g.1, g.2.2, a1, a3, fun x => ?_, by omega, a5⟩
  rw [lc_ways, List.mem_map]
  constructor
  · rintro ⟨w, _, rfl⟩
    exact hway w
  · intro hx
    obtain ⟨w, hw, e⟩ := hpr _ (lc_in_set (hin 0) a2 hx)
    refine ⟨w, List.mem_range.mpr hw, ?_⟩
    rw [lc_way, e, List.getD_eq_getElem?_getD]
    have hl : j < (lc_run 0 ts).1.length := by rw [lc_run_len hwf]; exact hj
    rw [List.getElem?_set_self hl]
    rfl
theorem lc_Inv.query {docs : List (List lc_B)} {ts : List lc_T} {k : Int32} (h : lc_Inv docs ts) (f : List lc_B → Int32) (h0 : f [] = -1) (hf : ∀ (q lw : List lc_B) (S : lc_B → Prop) (b : Nat), lc_front q S → (∀ x, x ∈ lw ↔ S x) → b ≤ 48 → (∀ x, S x → lc_bd b x) → f q = f lw) : f (lc_doc docs k) = lc_q (lc_fin 0 ts) k (fun j => f (lc_ways ts (lc_cnt ts) j)) := by
  have hfin := h.2.2.2.1
  have h10 := h.2.2.2.2.1
  by_cases hm : k < 0 ∨ ¬ k < nI (lc_fin 0 ts)
  · rw [lc_q_no hm]
    have : lc_doc docs k = [] := by
      by_cases hk : k < 0
      · exact lc_doc_neg hk
      · exact lc_doc_big hk (by rw [hfin]; exact hm.elim (fun q => absurd q hk) id) (by omega)
    rw [this, h0]
  · obtain ⟨j, hj, rfl⟩ := lc_q_k hm (by omega)
    rw [lc_q_yes hj (by omega)]
    obtain ⟨q, S, b, a1, a2, a3, a4, a5⟩ := h.doc hj
    rw [lc_doc_at a1 (by omega)]
    exact hf q _ S b a2 a3 a4 a5
theorem lc_npos {a : Int32} (h : 0 ≤ a.toInt) : ¬ a < 0 := by
  rw [lc_ltI, show (0 : Int32).toInt = 0 by decide]
  omega
theorem lc_Inv.lines {docs : List (List lc_B)} {ts : List lc_T} {k lim : Int32} (h : lc_Inv docs ts) : lc_lines lim (lc_doc docs k) = lc_q (lc_fin 0 ts) k (fun j => lc_lines lim (lc_ways ts (lc_cnt ts) j)) := by
  refine h.query (lc_lines lim) rfl (fun q lw S b h1 h2 h3 h4 => lc_min_eq h1 h2 (fun y hy => lc_npos (h4 y hy).1) ?_ ?_)
  · intro x y _ _ hxy hy
    exact decide_eq_true (Int32.le_trans (lc_le_iff.mp hxy).2.1 (of_decide_eq_true hy))
  · intro x y _ _ hxy
    exact (lc_le_iff.mp hxy).1
theorem lc_Inv.width {docs : List (List lc_B)} {ts : List lc_T} {k lim : Int32} (h : lc_Inv docs ts) : lc_width lim (lc_doc docs k) = lc_q (lc_fin 0 ts) k (fun j => lc_width lim (lc_ways ts (lc_cnt ts) j)) := by
  refine h.query (lc_width lim) rfl (fun q lw S b h1 h2 h3 h4 => lc_min_eq h1 h2 (fun y hy => lc_npos (h4 y hy).2.2.1) ?_ ?_)
  · intro x y _ _ hxy hy
    exact decide_eq_true (Int32.le_trans (lc_le_iff.mp hxy).1 (of_decide_eq_true hy))
  · intro x y _ _ hxy
    exact (lc_le_iff.mp hxy).2.1
theorem lc_Inv.last {docs : List (List lc_B)} {ts : List lc_T} {k ln wd : Int32} (h : lc_Inv docs ts) : lc_last ln wd (lc_doc docs k) = lc_q (lc_fin 0 ts) k (fun j => lc_last ln wd (lc_ways ts (lc_cnt ts) j)) := by
  refine h.query (lc_last ln wd) rfl (fun q lw S b h1 h2 h3 h4 => lc_min_eq h1 h2 (fun y hy => lc_npos (h4 y hy).2.2.2.2.1) ?_ ?_)
  · intro x y _ _ hxy hy
    rw [Bool.and_eq_true] at hy ⊢
    exact ⟨decide_eq_true (Int32.le_trans (lc_le_iff.mp hxy).1 (of_decide_eq_true hy.1)), decide_eq_true (Int32.le_trans (lc_le_iff.mp hxy).2.1 (of_decide_eq_true hy.2))⟩
  · intro x y _ _ hxy
    exact (lc_le_iff.mp hxy).2.2
theorem lc_Inv.cost {docs : List (List lc_B)} {ts : List lc_T} {k price rom : Int32} (h : lc_Inv docs ts) : lc_cost price rom (lc_doc docs k) = lc_q (lc_fin 0 ts) k (fun j => lc_cost price rom (lc_ways ts (lc_cnt ts) j)) := by
  have hp := lc_clamp_int (top := 100) (v := price) (by decide)
  have hr := lc_clamp_int (top := 200) (v := rom) (by decide)
  rw [show (100 : Int32).toInt = 100 by decide] at hp
  refine h.query (lc_cost price rom) rfl (fun q lw S b h1 h2 h3 h4 => lc_min_eq h1 h2 (fun y hy => lc_npos (lc_sum_int h3 hp hr.1 (h4 y hy)).2) ?_ ?_)
  · intro x y _ _ _ _
    rfl
  · intro x y hx hy hxy
    exact lc_sum_mono h3 hp hr.1 (h4 x hx) (h4 y hy) hxy
theorem lc_Inv.best {docs : List (List lc_B)} {ts : List lc_T} {k : Int32} (h : lc_Inv docs ts) : (if k < 0 ∨ ¬ k < nI docs.length then -1 else nI (lc_doc docs k).length) = lc_q (lc_fin 0 ts) k (fun j => nI (lc_cb (lc_ways ts (lc_cnt ts) j) (lc_ways ts (lc_cnt ts) j).length)) := by
  have hfin := h.2.2.2.1
  have h10 := h.2.2.2.2.1
  rw [hfin]
  by_cases hm : k < 0 ∨ ¬ k < nI (lc_fin 0 ts)
  · rw [if_pos hm, lc_q_no hm]
  · rw [if_neg hm]
    obtain ⟨j, hj, rfl⟩ := lc_q_k hm (by omega)
    rw [lc_q_yes hj (by omega)]
    obtain ⟨q, S, b, a1, a2, a3, a4, a5⟩ := h.doc hj
    rw [lc_doc_at a1 (by omega), lc_cb_eq a2 a3]
/-- the sizes that a token needs -/
theorem lc_Inv.size {docs : List (List lc_B)} {ts : List lc_T} (h : lc_Inv docs ts) (q2 q1 : List lc_B) (ds : List (List lc_B)) (e : docs = q2 :: q1 :: ds) : q1.length * q2.length ≤ 64 ∧ (lc_cnt ts < 6 → q1.length + q2.length ≤ 64) := by
  obtain ⟨h48, h6, hwf, hfin, h10, hcd, gs, hfr, hse, hsb, hin, hpr⟩ := h
  subst e
  obtain ⟨g2, gs1, rfl, f1, f2, f3, f4⟩ := lc_fr_cons hfr
  obtain ⟨g1, gs0, rfl, e1, e2, e3, e4⟩ := lc_fr_cons f4
  have hse' : g2.2.1 + (g1.2.1 + lc_se gs0) ≤ lc_cnt ts := hse
  have p0 : 2 ^ (g1.2.1 + g2.2.1) ≤ 2 ^ 6 := Nat.pow_le_pow_right (by decide) (by omega)
  constructor
  · have p1 : q1.length * q2.length ≤ 2 ^ g1.2.1 * 2 ^ g2.2.1 := Nat.mul_le_mul e2 f2
    rw [Nat.pow_add] at p0
    omega
  · intro h5
    have p1 : 2 ^ g1.2.1 ≤ 2 ^ 5 := Nat.pow_le_pow_right (by decide) (by omega)
    have p2 : 2 ^ g2.2.1 ≤ 2 ^ 5 := Nat.pow_le_pow_right (by decide) (by omega)
    omega
/-- the heights of the two agree -/
theorem lc_Inv.len {docs : List (List lc_B)} {ts : List lc_T} {code n : Int32} (h : lc_Inv docs ts) (hok : lc_ok code n ts.length (lc_cnt ts) docs.length) : (lc_tok docs code n).length = lc_hgt code docs.length := by
  have h1 := (h.tok hok).2.2.2.1
  rw [lc_fin_snoc, ← h.2.2.2.1] at h1
  exact h1
end
section
set_option maxRecDepth 100000
/-! THE CLAIM OUT OF ONE WALK OF THE LAW'S BODY. Your part is whole_start (and what it stands on); all else here is the same for every law, but numbers. -/
def R_law : String := "LayoutChoiceLaw"
def lw_P (b : Addr) (xs : List Int32) (args : Array Value) (s : State) : Prop := args = #[.ref b] ∧ s.IntsAt b xs ∧ xs.length ≤ 256 ∧ (Jvm.Cond.and given_1 narrow_1).before args s = true
def lw_Q (_ : Array Value) (s : State) (o : Outcome) (t : State) : Prop := o = .returned (some (.int 1)) ∧ Framed s o t [] 600000 7290000
def lw_Z (below : List Frame) (a : Array Value) (s : State) : State → Prop := fun t => ∃ o, t.status = .running ∧ Ended t below o ∧ lw_Q a s o t
/-- the law's own end, with 1 on the stack, nothing written that was there before, its room as the claim has it -/
theorem lw_ret {p : Program} {l : Launch} {e : Env} {s : State} {m : MethodId} {below : List Frame} {meth : Method} {c : Code} {b : Nat} (hx : p.tables.exec = Jvm.exec) (hb : c.code = code) (hr : meth.sig.returnType = ret) (hlocks : meth.locks = false) {pc : Nat} {H : Heap} {ls : Array Slot} (hdg : decode code pc = .ok (.ireturn, 1)) : W p l e room_1 s m #[Value.ref b] below meth c H [] 600000 7290000 (lw_Z below #[Value.ref b] s) (F0 m pc ls [.int 1]) := by
  intro T hT X
  obtain ⟨fs, hret, hrun, hended, hW, hframe⟩ := X.leave (v := some (.int 1)) (hlocks := hlocks) (fun h => by rw [hr] at h; cases h)
  have hmeth' : T.vm.method? m = some meth := X.method'
  refine ⟨T.setFrames fs, ?_, .returned (some (.int 1)), hrun, hended, rfl, ⟨_, rfl⟩, hW, hframe⟩
  jvm_step X.here [X.here.top, hx, hb, hdg, hmeth', hr, ret, narrow_b1]
  (try refine ⟨rfl, ?_⟩); (try refine ⟨rfl, ?_⟩)
  first | (intro acts; rw [hret _ acts rfl rfl rfl]) | rw [hret _ _ rfl rfl rfl]
  exact Steps.refl _
/-- what holds at the law's entry: the machine, the code, the tables' words (any of lw_tbl by 'hts w (by decide +kernel)'), the script of L ints xs at the cell b, what the Statement gives of the start (any of its parts by flat_of_before) -/
def lw_At (p : Program) (s : State) (m : MethodId) (meth : Method) (c : Code) (b L : Nat) (xs : Nat → Int32) : Prop :=
  p.tables.exec = Jvm.exec ∧ c.code = code ∧ meth.sig.returnType = ret ∧ c.maxLocals = 4 ∧ s.vm.findClass R_law = some m.cls ∧ (∀ w ∈ lw_tbl, w.before #[Value.ref b] s = true) ∧ va_X b L xs s s.heap ∧ b < s.heap.size ∧ meth.locks = false ∧ (Jvm.Cond.and given_1 narrow_1).before #[Value.ref b] s = true
/-- what holds between two calls of the law -/
def lc_G (D : va_G) (d : ClassId) (A : Nat → Prop) (s : State) (a1 a2 : Nat → Nat) (H : Heap) (locs : List Loc) : Prop :=
  ∃ (docs : List (List lc_B)) (ts : List lc_T) (ga dd : Int32) (cn en wi la ne nw nl co ar e2 w2 l2 be bw bl : Nat → Int32), lc_Inv docs ts ∧ lc_docs cn en wi la docs ∧ lc_toks co ar ts ∧ lc_St D d A s (wA d a1 (nI ts.length) (nI (lc_cnt ts)) (nI docs.length) ga cn en wi la ne nw nl ++ wB d a2 (nI ts.length) (nI (lc_fin 0 ts)) (nI (lc_cnt ts)) dd co ar e2 w2 l2 be bw bl) H locs
section LCS
variable {p : Program} {l : Launch} {e : Env} {R : Room} {s : State} {m : MethodId} {args : Array Value} {below : List Frame} {meth : Method} {c : Code} {H : Heap} {locs : List Loc} {cells slots : Nat} {Q : State → Prop}
variable {cc : ByteArray} {pc nL : Nat} {ls : Array Slot} {rest : List Value} {D : va_G} {d : ClassId} {A : Nat → Prop} {ws : va_W} {own : String}
/-- the script's int number j -/
theorem lc_sld {b L : Nat} {xs : Nat → Int32} (S : CallFix p m c cc nL s args lw_all own) (N : lc_St D d A s ws H locs) (hX : va_X b L xs s s.heap) (hbl : b < s.heap.size) (hbA : ¬ A b) (hL : L ≤ 256) (j : Nat) (hj : j < L) (hdg : decode cc pc = .ok (.iaload, 1))
    (kk : W p l e R s m args below meth c H locs cells slots Q (F0 m (pc + 1) ls (.int (xs j) :: rest))) : W p l e R s m args below meth c H locs cells slots Q (F0 m pc ls (.int (nI j) :: .ref b :: rest)) := by
  refine va_sld S.1 S.2.1 hX hbl hbA N.2.2.2.1 (vp_in_nI hj (by omega)) hdg ?_
  rw [nI_clamp (by omega)]
  exact kk
end LCS
theorem lc_more {L v : Nat} (hL : L ≤ 256) (hv : v ≤ L) (h : ¬ nI L - 4 < nI v) : v + 4 ≤ L := by
  rw [lc_ltI, show (4 : Int32) = nI 4 from rfl, pk_sub_toInt (by omega) (by omega), nI_toInt (by omega)] at h
  omega
set_option maxHeartbeats 4000000 in
set_option maxRecDepth 100000 in
/-- the law's loop at its head: i calls are made -/
theorem lc_lawloop {p : Program} {l : Launch} {e : Env} {s : State} {m : MethodId} {below : List Frame} {meth : Method} {c : Code} {b L : Nat} {xs : Nat → Int32} (hL : L ≤ 256) (C0 : lw_At p s m meth c b L xs) {D : va_G} {d : ClassId} {a1 a2 : Nat → Nat} {H : Heap} {locs : List Loc} {ls : Array Slot} (G : lc_G D d (fun q : Nat => s.heap.size ≤ q) s a1 a2 H locs) (hl : lv_has ls 4 [(0, .ref b), (1, .ref (a1 0)), (2, .ref (a2 0)), (3, .int (nI (4 * 0)))]) : W p l e room_1 s m #[Value.ref b] below meth c H locs 600000 7290000 (lw_Z below #[Value.ref b] s) (F0 m 18 ls []) := by
  obtain ⟨hx, hb, hr, hml, hown, hts, hX, hbl, hlocks, hgv⟩ := id C0
  have hbA : ¬ (fun q : Nat => s.heap.size ≤ q) b := Nat.not_le.mpr hbl
  have S : CallFix p m c code 4 s #[Value.ref b] lw_all R_law := ⟨hx, hb, hml, hown, fun w h => hts w (lw_all_tbl h)⟩
  generalize hAe : (fun q : Nat => s.heap.size ≤ q) = A at G hbA
  refine lc_loop (I := fun n H locs ls => ∃ i : Nat, n + 4 * i = L + 4 ∧ 4 * i ≤ L ∧ lc_G D d A s a1 a2 H locs ∧ lv_has ls 4 [(0, .ref b), (1, .ref (a1 0)), (2, .ref (a2 0)), (3, .int (nI (4 * i)))]) (fun n H locs ls hI ih => ?_) (L + 4) ⟨0, rfl, Nat.zero_le L, G, hl⟩
  clear G hl
  obtain ⟨i, hi, hiL, G, hl⟩ := hI
  have G0 := G
  obtain ⟨docs, ts, ga, dd, cn, en, wi, la, ne, nw, nl, co, ar, e2, w2, l2, be, bw, bl, hinv, hdocs, htoks, N⟩ := G
  refine lv_iload_n hx hb dL_law_18 rfl (lv_at hl 3 rfl) ?_
  refine lv_aload_n hx hb dL_law_19 rfl (lv_at hl 0 rfl) ?_
  refine va_slen hx hb hX hbl hbA N.2.2.2.1 dL_law_20 ?_
  refine lc_top (nI L) rfl ?_
  refine lv_iconst (v := 4) hx hb dL_law_21 (by decide) ?_
  refine lv_isub hx hb dL_law_22 ?_
  refine lv_icmp_gt (tgt := 301) hx hb dL_law_23 (by decide) (fun c1 => ?_) (fun c1 => ?_)
  · refine lv_iconst (v := 1) hx hb dL_law_301 (by decide) ?_
    refine va_forget (fun q hq => ?_) ?_
    · have := N.2.2.2.1.2.2 q hq
      rw [← hAe] at this
      exact this
    · exact lw_ret hx hb hr hlocks dL_law_302
  · have h4 : 4 * i + 4 ≤ L := lc_more hL hiL c1
    refine lc_cut 295 (J := fun H locs ls st => st = [] ∧ lc_G D d A s a1 a2 H locs ∧ lv_has ls 4 [(0, .ref b), (1, .ref (a1 0)), (2, .ref (a2 0)), (3, .int (nI (4 * i)))]) (fun H locs ls st hJ => ?_) (fun KJ => ?_)
    · obtain ⟨rfl, G, hl⟩ := hJ
      refine lv_iinc (v := nI (4 * (i + 1))) (lv' := [(3, .int (nI (4 * (i + 1)))), (0, .ref b), (1, .ref (a1 0)), (2, .ref (a2 0))]) hx hb dL_law_295 hl (k := 3) rfl (nI_add (4 * i) 4) (by decide) rfl (fun ls hl => ?_)
      refine lv_goto (tgt := 18) hx hb dL_law_298 (by decide) ?_
      exact ih (n - 4) _ _ _ (by omega) ⟨i + 1, by omega, by omega, G, lv_sub hl [1, 2, 3, 0] rfl⟩
    · refine lv_aload_n hx hb dL_law_26 rfl (lv_at hl 0 rfl) ?_
      refine lv_iload_n hx hb dL_law_27 rfl (lv_at hl 3 rfl) ?_
      refine lc_sld S N hX hbl hbA hL (4 * i) (by omega) dL_law_28 ?_
      refine lv_bipush (v := 7) hx hb dL_law_29 (by decide) ?_
      refine lv_iand hx hb dL_law_31 ?_
      obtain ⟨j, hj, ej⟩ := pk_andE (xs (4 * i)) (m := 7) 3 (by decide)
      refine lc_top (nI j) ej ?_
      obtain ⟨h48, h6, hwf, hfin, h10, hcd, hgs⟩ := id hinv
      have hf10 : lc_fin 0 ts ≤ 10 := by rw [← hfin]; exact h10
      have hj8 : j = 0 ∨ j = 1 ∨ j = 2 ∨ j = 3 ∨ j = 4 ∨ j = 5 ∨ j = 6 ∨ j = 7 := by omega
      rcases hj8 with rfl | rfl | rfl | rfl | rfl | rfl | rfl | rfl
      · refine lv_tableIn (off := 44) (tgt := 76) hx hb dL_law_32 (by decide) (by decide) (by decide) (by decide) ?_
        refine lv_aload_n hx hb dL_law_76 rfl (lv_at hl 1 rfl) ?_
        refine lv_aload_n hx hb dL_law_77 rfl (lv_at hl 0 rfl) ?_
        refine lv_iload_n hx hb dL_law_78 rfl (lv_at hl 3 rfl) ?_
        refine lv_iconst (v := 1) hx hb dL_law_79 (by decide) ?_
        refine lv_iadd hx hb dL_law_80 ?_
        refine lc_top (nI (4 * i + 1)) (nI_add (4 * i) 1) ?_
        refine lc_sld S N hX hbl hbA hL (4 * i + 1) (by omega) dL_law_81 ?_
        refine lv_aload_n hx hb dL_law_82 rfl (lv_at hl 0 rfl) ?_
        refine lv_iload_n hx hb dL_law_83 rfl (lv_at hl 3 rfl) ?_
        refine lv_iconst (v := 2) hx hb dL_law_84 (by decide) ?_
        refine lv_iadd hx hb dL_law_85 ?_
        refine lc_top (nI (4 * i + 2)) (nI_add (4 * i) 2) ?_
        refine lc_sld S N hX hbl hbA hL (4 * i + 2) (by omega) dL_law_86 ?_
        refine lc_callF (ci := 0) (wr := wB d a2 (nI ts.length) (nI (lc_fin 0 ts)) (nI (lc_cnt ts)) dd co ar e2 w2 l2 be bw bl) (kA_token l D d a1 ga cn en wi la ne nw nl ts.length (lc_cnt ts) docs h48 h6 h10 hdocs hinv.size (xs (4 * i + 1)) (xs (4 * i + 2))) S N [0, 1, 2, 3, 4, 5, 6, 7] [8, 9, 10, 11, 12, 13, 14, 15, 16] rfl rfl (by decide) (by decide) (by decide) (lw_V q59 q60 q61 q14 q62) hd_X0_token ⟨Nat.le_of_ble_eq_true rfl, Nat.le_of_ble_eq_true rfl⟩ ⟨rfl, rfl⟩ rfl rfl hl (Nat.le_of_ble_eq_true rfl) rfl dL_law_87 ⟨Nat.le_of_ble_eq_true rfl, Nat.le_of_ble_eq_true rfl⟩ (fun r w1 H locs hpA N => ?_)
        rcases hpA with ⟨hok, ga', cn', en', wi', la', ne', nw', nl', rfl, rfl, hdocs'⟩ | ⟨hok, rfl, rfl⟩
        · refine lv_aload_n hx hb dL_law_90 rfl (lv_at hl 2 rfl) ?_
          refine lv_aload_n hx hb dL_law_91 rfl (lv_at hl 0 rfl) ?_
          refine lv_iload_n hx hb dL_law_92 rfl (lv_at hl 3 rfl) ?_
          refine lv_iconst (v := 1) hx hb dL_law_93 (by decide) ?_
          refine lv_iadd hx hb dL_law_94 ?_
          refine lc_top (nI (4 * i + 1)) (nI_add (4 * i) 1) ?_
          refine lc_sld S N hX hbl hbA hL (4 * i + 1) (by omega) dL_law_95 ?_
          refine lv_aload_n hx hb dL_law_96 rfl (lv_at hl 0 rfl) ?_
          refine lv_iload_n hx hb dL_law_97 rfl (lv_at hl 3 rfl) ?_
          refine lv_iconst (v := 2) hx hb dL_law_98 (by decide) ?_
          refine lv_iadd hx hb dL_law_99 ?_
          refine lc_top (nI (4 * i + 2)) (nI_add (4 * i) 2) ?_
          refine lc_sld S N hX hbl hbA hL (4 * i + 2) (by omega) dL_law_100 ?_
          refine lc_callF (ci := 1) (wr := wA d a1 (nI (ts.length + 1)) (nI (lc_chs (xs (4 * i + 1)) (lc_cnt ts))) (nI (lc_tok docs (xs (4 * i + 1)) (xs (4 * i + 2))).length) ga' cn' en' wi' la' ne' nw' nl') (kB_token l D d a2 dd co ar e2 w2 l2 be bw bl ts.length (lc_cnt ts) (lc_fin 0 ts) h48 h6 hf10 (xs (4 * i + 1)) (xs (4 * i + 2))) S N [0, 1, 2, 3, 4, 5, 6, 7, 8] [9, 10, 11, 12, 13, 14, 15, 16] rfl rfl (by decide) (by decide) (by decide) (lw_V q158 q159 q160 q15 q161) hd_X1_token ⟨Nat.le_of_ble_eq_true rfl, Nat.le_of_ble_eq_true rfl⟩ ⟨rfl, rfl⟩ rfl rfl hl (Nat.le_of_ble_eq_true rfl) rfl dL_law_101 ⟨Nat.le_of_ble_eq_true rfl, Nat.le_of_ble_eq_true rfl⟩ (fun r w1 H locs hpB N => ?_)
          rw [← hfin] at hpB
          rcases hpB with ⟨hok2, rfl, rfl⟩ | ⟨hok2, rfl, rfl⟩
          · refine lv_icmp_eq (tgt := 295) hx hb dL_law_104 (by decide) (fun c9 => ?_) (fun c9 => ?_)
            · have hlen2 : (ts ++ [(xs (4 * i + 1), xs (4 * i + 2))]).length = ts.length + 1 := by simp
              have hfin2 : lc_fin 0 (ts ++ [(xs (4 * i + 1), xs (4 * i + 2))]) = lc_hgt (xs (4 * i + 1)) docs.length := by rw [lc_fin_snoc, ← hfin]
              exact KJ _ _ _ _ ⟨rfl, ⟨lc_tok docs (xs (4 * i + 1)) (xs (4 * i + 2)), ts ++ [(xs (4 * i + 1), xs (4 * i + 2))], _, _, _, _, _, _, _, _, _, _, _, _, _, _, _, _, _, hinv.tok hok, hdocs', htoks.push, by rw [hlen2, hfin2, lc_cnt_snoc]; exact N⟩, hl⟩
            · exact absurd (by rw [hinv.len hok]) c9
          · exact absurd hok hok2
        · refine lv_aload_n hx hb dL_law_90 rfl (lv_at hl 2 rfl) ?_
          refine lv_aload_n hx hb dL_law_91 rfl (lv_at hl 0 rfl) ?_
          refine lv_iload_n hx hb dL_law_92 rfl (lv_at hl 3 rfl) ?_
          refine lv_iconst (v := 1) hx hb dL_law_93 (by decide) ?_
          refine lv_iadd hx hb dL_law_94 ?_
          refine lc_top (nI (4 * i + 1)) (nI_add (4 * i) 1) ?_
          refine lc_sld S N hX hbl hbA hL (4 * i + 1) (by omega) dL_law_95 ?_
          refine lv_aload_n hx hb dL_law_96 rfl (lv_at hl 0 rfl) ?_
          refine lv_iload_n hx hb dL_law_97 rfl (lv_at hl 3 rfl) ?_
          refine lv_iconst (v := 2) hx hb dL_law_98 (by decide) ?_
          refine lv_iadd hx hb dL_law_99 ?_
          refine lc_top (nI (4 * i + 2)) (nI_add (4 * i) 2) ?_
          refine lc_sld S N hX hbl hbA hL (4 * i + 2) (by omega) dL_law_100 ?_
          refine lc_callF (ci := 1) (wr := wA d a1 (nI ts.length) (nI (lc_cnt ts)) (nI docs.length) ga cn en wi la ne nw nl) (kB_token l D d a2 dd co ar e2 w2 l2 be bw bl ts.length (lc_cnt ts) (lc_fin 0 ts) h48 h6 hf10 (xs (4 * i + 1)) (xs (4 * i + 2))) S N [0, 1, 2, 3, 4, 5, 6, 7, 8] [9, 10, 11, 12, 13, 14, 15, 16] rfl rfl (by decide) (by decide) (by decide) (lw_V q158 q159 q160 q15 q161) hd_X1_token ⟨Nat.le_of_ble_eq_true rfl, Nat.le_of_ble_eq_true rfl⟩ ⟨rfl, rfl⟩ rfl rfl hl (Nat.le_of_ble_eq_true rfl) rfl dL_law_101 ⟨Nat.le_of_ble_eq_true rfl, Nat.le_of_ble_eq_true rfl⟩ (fun r w1 H locs hpB N => ?_)
          rw [← hfin] at hpB
          rcases hpB with ⟨hok2, rfl, rfl⟩ | ⟨hok2, rfl, rfl⟩
          · exact absurd hok2 hok
          · refine lv_icmp_eq (tgt := 295) hx hb dL_law_104 (by decide) (fun c9 => ?_) (fun c9 => ?_)
            · rw [hfin] at N
              exact KJ _ _ _ _ ⟨rfl, ⟨docs, ts, _, _, _, _, _, _, _, _, _, _, _, _, _, _, _, _, _, hinv, hdocs, htoks, by rw [hfin]; exact N⟩, hl⟩
            · exact absurd rfl c9
      · refine lv_tableIn (off := 77) (tgt := 109) hx hb dL_law_32 (by decide) (by decide) (by decide) (by decide) ?_
        refine lv_aload_n hx hb dL_law_109 rfl (lv_at hl 1 rfl) ?_
        refine lc_callF (ci := 0) (wr := wB d a2 (nI ts.length) (nI (lc_fin 0 ts)) (nI (lc_cnt ts)) dd co ar e2 w2 l2 be bw bl) (kA_clear l D d a1 (nI ts.length) (nI (lc_cnt ts)) (nI docs.length) ga cn en wi la ne nw nl) S N [0, 1, 2, 3, 4, 5, 6, 7] [8, 9, 10, 11, 12, 13, 14, 15, 16] rfl rfl (by decide) (by decide) (by decide) (lw_V q87 q88 q89 q14 q90) hd_X0_clear ⟨Nat.le_of_ble_eq_true rfl, Nat.le_of_ble_eq_true rfl⟩ ⟨rfl, rfl⟩ rfl rfl hl (Nat.le_of_ble_eq_true rfl) rfl dL_law_110 ⟨Nat.le_of_ble_eq_true rfl, Nat.le_of_ble_eq_true rfl⟩ (fun r w1 H locs hpA N => ?_)
        obtain ⟨rfl, rfl⟩ := hpA
        refine lv_aload_n hx hb dL_law_113 rfl (lv_at hl 2 rfl) ?_
        refine lc_callF (ci := 1) (wr := wA d a1 0 0 0 ga cn en wi la ne nw nl) (kB_clear l D d a2 (nI ts.length) (nI (lc_fin 0 ts)) (nI (lc_cnt ts)) dd co ar e2 w2 l2 be bw bl) S N [0, 1, 2, 3, 4, 5, 6, 7, 8] [9, 10, 11, 12, 13, 14, 15, 16] rfl rfl (by decide) (by decide) (by decide) (lw_V q168 q169 q170 q15 q171) hd_X1_clear ⟨Nat.le_of_ble_eq_true rfl, Nat.le_of_ble_eq_true rfl⟩ ⟨rfl, rfl⟩ rfl rfl hl (Nat.le_of_ble_eq_true rfl) rfl dL_law_114 ⟨Nat.le_of_ble_eq_true rfl, Nat.le_of_ble_eq_true rfl⟩ (fun r w1 H locs hpB N => ?_)
        obtain ⟨rfl, rfl⟩ := hpB
        refine lv_goto (tgt := 295) hx hb dL_law_117 (by decide) ?_
        exact KJ _ _ _ _ ⟨rfl, ⟨[], [], ga, dd, cn, en, wi, la, ne, nw, nl, co, ar, e2, w2, l2, be, bw, bl, lc_Inv_0, trivial, fun i x h => by simp at h, N⟩, hl⟩
      · refine lv_tableIn (off := 88) (tgt := 120) hx hb dL_law_32 (by decide) (by decide) (by decide) (by decide) ?_
        refine lv_aload_n hx hb dL_law_120 rfl (lv_at hl 1 rfl) ?_
        refine lv_aload_n hx hb dL_law_121 rfl (lv_at hl 0 rfl) ?_
        refine lv_iload_n hx hb dL_law_122 rfl (lv_at hl 3 rfl) ?_
        refine lv_iconst (v := 1) hx hb dL_law_123 (by decide) ?_
        refine lv_iadd hx hb dL_law_124 ?_
        refine lc_top (nI (4 * i + 1)) (nI_add (4 * i) 1) ?_
        refine lc_sld S N hX hbl hbA hL (4 * i + 1) (by omega) dL_law_125 ?_
        refine lv_aload_n hx hb dL_law_126 rfl (lv_at hl 0 rfl) ?_
        refine lv_iload_n hx hb dL_law_127 rfl (lv_at hl 3 rfl) ?_
        refine lv_iconst (v := 2) hx hb dL_law_128 (by decide) ?_
        refine lv_iadd hx hb dL_law_129 ?_
        refine lc_top (nI (4 * i + 2)) (nI_add (4 * i) 2) ?_
        refine lc_sld S N hX hbl hbA hL (4 * i + 2) (by omega) dL_law_130 ?_
        refine lc_callF (ci := 0) (wr := wB d a2 (nI ts.length) (nI (lc_fin 0 ts)) (nI (lc_cnt ts)) dd co ar e2 w2 l2 be bw bl) (kA_lines l D d a1 (nI ts.length) (nI (lc_cnt ts)) ga cn en wi la ne nw nl docs h10 hdocs (xs (4 * i + 1)) (xs (4 * i + 2))) S N [0, 1, 2, 3, 4, 5, 6, 7] [8, 9, 10, 11, 12, 13, 14, 15, 16] rfl rfl (by decide) (by decide) (by decide) (lw_V q91 q92 q93 q14 q94) hd_X0_lines ⟨Nat.le_of_ble_eq_true rfl, Nat.le_of_ble_eq_true rfl⟩ ⟨rfl, rfl⟩ rfl rfl hl (Nat.le_of_ble_eq_true rfl) rfl dL_law_131 ⟨Nat.le_of_ble_eq_true rfl, Nat.le_of_ble_eq_true rfl⟩ (fun r w1 H locs hpA N => ?_)
        obtain ⟨rfl, rfl⟩ := hpA
        refine lv_aload_n hx hb dL_law_134 rfl (lv_at hl 2 rfl) ?_
        refine lv_aload_n hx hb dL_law_135 rfl (lv_at hl 0 rfl) ?_
        refine lv_iload_n hx hb dL_law_136 rfl (lv_at hl 3 rfl) ?_
        refine lv_iconst (v := 1) hx hb dL_law_137 (by decide) ?_
        refine lv_iadd hx hb dL_law_138 ?_
        refine lc_top (nI (4 * i + 1)) (nI_add (4 * i) 1) ?_
        refine lc_sld S N hX hbl hbA hL (4 * i + 1) (by omega) dL_law_139 ?_
        refine lv_aload_n hx hb dL_law_140 rfl (lv_at hl 0 rfl) ?_
        refine lv_iload_n hx hb dL_law_141 rfl (lv_at hl 3 rfl) ?_
        refine lv_iconst (v := 2) hx hb dL_law_142 (by decide) ?_
        refine lv_iadd hx hb dL_law_143 ?_
        refine lc_top (nI (4 * i + 2)) (nI_add (4 * i) 2) ?_
        refine lc_sld S N hX hbl hbA hL (4 * i + 2) (by omega) dL_law_144 ?_
        refine lc_callF (ci := 1) (wr := wA d a1 (nI ts.length) (nI (lc_cnt ts)) (nI docs.length) ga cn en wi la ne nw nl) (kB_lines l D d a2 dd co ar e2 w2 l2 be bw bl ts htoks h48 hwf h6 hf10 (xs (4 * i + 1)) (xs (4 * i + 2))) S N [0, 1, 2, 3, 4, 5, 6, 7, 8] [9, 10, 11, 12, 13, 14, 15, 16] rfl rfl (by decide) (by decide) (by decide) (lw_V q172 q173 q174 q15 q175) hd_X1_lines ⟨Nat.le_of_ble_eq_true rfl, Nat.le_of_ble_eq_true rfl⟩ ⟨rfl, rfl⟩ rfl rfl hl (Nat.le_of_ble_eq_true rfl) rfl dL_law_145 ⟨Nat.le_of_ble_eq_true rfl, Nat.le_of_ble_eq_true rfl⟩ (fun r w1 H locs hpB N => ?_)
        obtain ⟨rfl, dd9, z1, z2, z3, z4, z5, z6, rfl⟩ := hpB
        refine lv_icmp_eq (tgt := 295) hx hb dL_law_148 (by decide) (fun c9 => ?_) (fun c9 => ?_)
        · exact KJ _ _ _ _ ⟨rfl, ⟨docs, ts, _, _, _, _, _, _, _, _, _, _, _, _, _, _, _, _, _, hinv, hdocs, htoks, N⟩, hl⟩
        · exact absurd hinv.lines c9
      · refine lv_tableIn (off := 121) (tgt := 153) hx hb dL_law_32 (by decide) (by decide) (by decide) (by decide) ?_
        refine lv_aload_n hx hb dL_law_153 rfl (lv_at hl 1 rfl) ?_
        refine lv_aload_n hx hb dL_law_154 rfl (lv_at hl 0 rfl) ?_
        refine lv_iload_n hx hb dL_law_155 rfl (lv_at hl 3 rfl) ?_
        refine lv_iconst (v := 1) hx hb dL_law_156 (by decide) ?_
        refine lv_iadd hx hb dL_law_157 ?_
        refine lc_top (nI (4 * i + 1)) (nI_add (4 * i) 1) ?_
        refine lc_sld S N hX hbl hbA hL (4 * i + 1) (by omega) dL_law_158 ?_
        refine lv_aload_n hx hb dL_law_159 rfl (lv_at hl 0 rfl) ?_
        refine lv_iload_n hx hb dL_law_160 rfl (lv_at hl 3 rfl) ?_
        refine lv_iconst (v := 2) hx hb dL_law_161 (by decide) ?_
        refine lv_iadd hx hb dL_law_162 ?_
        refine lc_top (nI (4 * i + 2)) (nI_add (4 * i) 2) ?_
        refine lc_sld S N hX hbl hbA hL (4 * i + 2) (by omega) dL_law_163 ?_
        refine lc_callF (ci := 0) (wr := wB d a2 (nI ts.length) (nI (lc_fin 0 ts)) (nI (lc_cnt ts)) dd co ar e2 w2 l2 be bw bl) (kA_width l D d a1 (nI ts.length) (nI (lc_cnt ts)) ga cn en wi la ne nw nl docs h10 hdocs (xs (4 * i + 1)) (xs (4 * i + 2))) S N [0, 1, 2, 3, 4, 5, 6, 7] [8, 9, 10, 11, 12, 13, 14, 15, 16] rfl rfl (by decide) (by decide) (by decide) (lw_V q99 q100 q101 q14 q102) hd_X0_width ⟨Nat.le_of_ble_eq_true rfl, Nat.le_of_ble_eq_true rfl⟩ ⟨rfl, rfl⟩ rfl rfl hl (Nat.le_of_ble_eq_true rfl) rfl dL_law_164 ⟨Nat.le_of_ble_eq_true rfl, Nat.le_of_ble_eq_true rfl⟩ (fun r w1 H locs hpA N => ?_)
        obtain ⟨rfl, rfl⟩ := hpA
        refine lv_aload_n hx hb dL_law_167 rfl (lv_at hl 2 rfl) ?_
        refine lv_aload_n hx hb dL_law_168 rfl (lv_at hl 0 rfl) ?_
        refine lv_iload_n hx hb dL_law_169 rfl (lv_at hl 3 rfl) ?_
        refine lv_iconst (v := 1) hx hb dL_law_170 (by decide) ?_
        refine lv_iadd hx hb dL_law_171 ?_
        refine lc_top (nI (4 * i + 1)) (nI_add (4 * i) 1) ?_
        refine lc_sld S N hX hbl hbA hL (4 * i + 1) (by omega) dL_law_172 ?_
        refine lv_aload_n hx hb dL_law_173 rfl (lv_at hl 0 rfl) ?_
        refine lv_iload_n hx hb dL_law_174 rfl (lv_at hl 3 rfl) ?_
        refine lv_iconst (v := 2) hx hb dL_law_175 (by decide) ?_
        refine lv_iadd hx hb dL_law_176 ?_
        refine lc_top (nI (4 * i + 2)) (nI_add (4 * i) 2) ?_
        refine lc_sld S N hX hbl hbA hL (4 * i + 2) (by omega) dL_law_177 ?_
        refine lc_callF (ci := 1) (wr := wA d a1 (nI ts.length) (nI (lc_cnt ts)) (nI docs.length) ga cn en wi la ne nw nl) (kB_width l D d a2 dd co ar e2 w2 l2 be bw bl ts htoks h48 hwf h6 hf10 (xs (4 * i + 1)) (xs (4 * i + 2))) S N [0, 1, 2, 3, 4, 5, 6, 7, 8] [9, 10, 11, 12, 13, 14, 15, 16] rfl rfl (by decide) (by decide) (by decide) (lw_V q195 q196 q197 q15 q198) hd_X1_width ⟨Nat.le_of_ble_eq_true rfl, Nat.le_of_ble_eq_true rfl⟩ ⟨rfl, rfl⟩ rfl rfl hl (Nat.le_of_ble_eq_true rfl) rfl dL_law_178 ⟨Nat.le_of_ble_eq_true rfl, Nat.le_of_ble_eq_true rfl⟩ (fun r w1 H locs hpB N => ?_)
        obtain ⟨rfl, dd9, z1, z2, z3, z4, z5, z6, rfl⟩ := hpB
        refine lv_icmp_eq (tgt := 295) hx hb dL_law_181 (by decide) (fun c9 => ?_) (fun c9 => ?_)
        · exact KJ _ _ _ _ ⟨rfl, ⟨docs, ts, _, _, _, _, _, _, _, _, _, _, _, _, _, _, _, _, _, hinv, hdocs, htoks, N⟩, hl⟩
        · exact absurd hinv.width c9
      · refine lv_tableIn (off := 154) (tgt := 186) hx hb dL_law_32 (by decide) (by decide) (by decide) (by decide) ?_
        refine lv_aload_n hx hb dL_law_186 rfl (lv_at hl 1 rfl) ?_
        refine lv_aload_n hx hb dL_law_187 rfl (lv_at hl 0 rfl) ?_
        refine lv_iload_n hx hb dL_law_188 rfl (lv_at hl 3 rfl) ?_
        refine lv_iconst (v := 1) hx hb dL_law_189 (by decide) ?_
        refine lv_iadd hx hb dL_law_190 ?_
        refine lc_top (nI (4 * i + 1)) (nI_add (4 * i) 1) ?_
        refine lc_sld S N hX hbl hbA hL (4 * i + 1) (by omega) dL_law_191 ?_
        refine lv_aload_n hx hb dL_law_192 rfl (lv_at hl 0 rfl) ?_
        refine lv_iload_n hx hb dL_law_193 rfl (lv_at hl 3 rfl) ?_
        refine lv_iconst (v := 2) hx hb dL_law_194 (by decide) ?_
        refine lv_iadd hx hb dL_law_195 ?_
        refine lc_top (nI (4 * i + 2)) (nI_add (4 * i) 2) ?_
        refine lc_sld S N hX hbl hbA hL (4 * i + 2) (by omega) dL_law_196 ?_
        refine lv_aload_n hx hb dL_law_197 rfl (lv_at hl 0 rfl) ?_
        refine lv_iload_n hx hb dL_law_198 rfl (lv_at hl 3 rfl) ?_
        refine lv_iconst (v := 3) hx hb dL_law_199 (by decide) ?_
        refine lv_iadd hx hb dL_law_200 ?_
        refine lc_top (nI (4 * i + 3)) (nI_add (4 * i) 3) ?_
        refine lc_sld S N hX hbl hbA hL (4 * i + 3) (by omega) dL_law_201 ?_
        refine lc_callF (ci := 0) (wr := wB d a2 (nI ts.length) (nI (lc_fin 0 ts)) (nI (lc_cnt ts)) dd co ar e2 w2 l2 be bw bl) (kA_cost l D d a1 (nI ts.length) (nI (lc_cnt ts)) ga cn en wi la ne nw nl docs h10 hdocs (xs (4 * i + 1)) (xs (4 * i + 2)) (xs (4 * i + 3))) S N [0, 1, 2, 3, 4, 5, 6, 7] [8, 9, 10, 11, 12, 13, 14, 15, 16] rfl rfl (by decide) (by decide) (by decide) (lw_V q103 q104 q105 q14 q106) hd_X0_cost ⟨Nat.le_of_ble_eq_true rfl, Nat.le_of_ble_eq_true rfl⟩ ⟨rfl, rfl⟩ rfl rfl hl (Nat.le_of_ble_eq_true rfl) rfl dL_law_202 ⟨Nat.le_of_ble_eq_true rfl, Nat.le_of_ble_eq_true rfl⟩ (fun r w1 H locs hpA N => ?_)
        obtain ⟨rfl, rfl⟩ := hpA
        refine lv_aload_n hx hb dL_law_205 rfl (lv_at hl 2 rfl) ?_
        refine lv_aload_n hx hb dL_law_206 rfl (lv_at hl 0 rfl) ?_
        refine lv_iload_n hx hb dL_law_207 rfl (lv_at hl 3 rfl) ?_
        refine lv_iconst (v := 1) hx hb dL_law_208 (by decide) ?_
        refine lv_iadd hx hb dL_law_209 ?_
        refine lc_top (nI (4 * i + 1)) (nI_add (4 * i) 1) ?_
        refine lc_sld S N hX hbl hbA hL (4 * i + 1) (by omega) dL_law_210 ?_
        refine lv_aload_n hx hb dL_law_211 rfl (lv_at hl 0 rfl) ?_
        refine lv_iload_n hx hb dL_law_212 rfl (lv_at hl 3 rfl) ?_
        refine lv_iconst (v := 2) hx hb dL_law_213 (by decide) ?_
        refine lv_iadd hx hb dL_law_214 ?_
        refine lc_top (nI (4 * i + 2)) (nI_add (4 * i) 2) ?_
        refine lc_sld S N hX hbl hbA hL (4 * i + 2) (by omega) dL_law_215 ?_
        refine lv_aload_n hx hb dL_law_216 rfl (lv_at hl 0 rfl) ?_
        refine lv_iload_n hx hb dL_law_217 rfl (lv_at hl 3 rfl) ?_
        refine lv_iconst (v := 3) hx hb dL_law_218 (by decide) ?_
        refine lv_iadd hx hb dL_law_219 ?_
        refine lc_top (nI (4 * i + 3)) (nI_add (4 * i) 3) ?_
        refine lc_sld S N hX hbl hbA hL (4 * i + 3) (by omega) dL_law_220 ?_
        refine lc_callF (ci := 1) (wr := wA d a1 (nI ts.length) (nI (lc_cnt ts)) (nI docs.length) ga cn en wi la ne nw nl) (kB_cost l D d a2 dd co ar e2 w2 l2 be bw bl ts htoks h48 hwf h6 hf10 (xs (4 * i + 1)) (xs (4 * i + 2)) (xs (4 * i + 3))) S N [0, 1, 2, 3, 4, 5, 6, 7, 8] [9, 10, 11, 12, 13, 14, 15, 16] rfl rfl (by decide) (by decide) (by decide) (lw_V q199 q200 q201 q15 q202) hd_X1_cost ⟨Nat.le_of_ble_eq_true rfl, Nat.le_of_ble_eq_true rfl⟩ ⟨rfl, rfl⟩ rfl rfl hl (Nat.le_of_ble_eq_true rfl) rfl dL_law_221 ⟨Nat.le_of_ble_eq_true rfl, Nat.le_of_ble_eq_true rfl⟩ (fun r w1 H locs hpB N => ?_)
        obtain ⟨rfl, dd9, z1, z2, z3, z4, z5, z6, rfl⟩ := hpB
        refine lv_icmp_eq (tgt := 295) hx hb dL_law_224 (by decide) (fun c9 => ?_) (fun c9 => ?_)
        · exact KJ _ _ _ _ ⟨rfl, ⟨docs, ts, _, _, _, _, _, _, _, _, _, _, _, _, _, _, _, _, _, hinv, hdocs, htoks, N⟩, hl⟩
        · exact absurd hinv.cost c9
      · refine lv_tableIn (off := 197) (tgt := 229) hx hb dL_law_32 (by decide) (by decide) (by decide) (by decide) ?_
        refine lv_aload_n hx hb dL_law_229 rfl (lv_at hl 1 rfl) ?_
        refine lv_aload_n hx hb dL_law_230 rfl (lv_at hl 0 rfl) ?_
        refine lv_iload_n hx hb dL_law_231 rfl (lv_at hl 3 rfl) ?_
        refine lv_iconst (v := 1) hx hb dL_law_232 (by decide) ?_
        refine lv_iadd hx hb dL_law_233 ?_
        refine lc_top (nI (4 * i + 1)) (nI_add (4 * i) 1) ?_
        refine lc_sld S N hX hbl hbA hL (4 * i + 1) (by omega) dL_law_234 ?_
        refine lc_callF (ci := 0) (wr := wB d a2 (nI ts.length) (nI (lc_fin 0 ts)) (nI (lc_cnt ts)) dd co ar e2 w2 l2 be bw bl) (kA_best l D d a1 (nI ts.length) (nI (lc_cnt ts)) ga cn en wi la ne nw nl docs h10 hdocs (xs (4 * i + 1))) S N [0, 1, 2, 3, 4, 5, 6, 7] [8, 9, 10, 11, 12, 13, 14, 15, 16] rfl rfl (by decide) (by decide) (by decide) (lw_V q107 q108 q109 q14 q110) hd_X0_best ⟨Nat.le_of_ble_eq_true rfl, Nat.le_of_ble_eq_true rfl⟩ ⟨rfl, rfl⟩ rfl rfl hl (Nat.le_of_ble_eq_true rfl) rfl dL_law_235 ⟨Nat.le_of_ble_eq_true rfl, Nat.le_of_ble_eq_true rfl⟩ (fun r w1 H locs hpA N => ?_)
        obtain ⟨rfl, rfl⟩ := hpA
        refine lv_aload_n hx hb dL_law_238 rfl (lv_at hl 2 rfl) ?_
        refine lv_aload_n hx hb dL_law_239 rfl (lv_at hl 0 rfl) ?_
        refine lv_iload_n hx hb dL_law_240 rfl (lv_at hl 3 rfl) ?_
        refine lv_iconst (v := 1) hx hb dL_law_241 (by decide) ?_
        refine lv_iadd hx hb dL_law_242 ?_
        refine lc_top (nI (4 * i + 1)) (nI_add (4 * i) 1) ?_
        refine lc_sld S N hX hbl hbA hL (4 * i + 1) (by omega) dL_law_243 ?_
        refine lc_callF (ci := 1) (wr := wA d a1 (nI ts.length) (nI (lc_cnt ts)) (nI docs.length) ga cn en wi la ne nw nl) (kB_best l D d a2 dd co ar e2 w2 l2 be bw bl ts htoks h48 hwf h6 hf10 (xs (4 * i + 1))) S N [0, 1, 2, 3, 4, 5, 6, 7, 8] [9, 10, 11, 12, 13, 14, 15, 16] rfl rfl (by decide) (by decide) (by decide) (lw_V q206 q207 q208 q15 q209) hd_X1_best ⟨Nat.le_of_ble_eq_true rfl, Nat.le_of_ble_eq_true rfl⟩ ⟨rfl, rfl⟩ rfl rfl hl (Nat.le_of_ble_eq_true rfl) rfl dL_law_244 ⟨Nat.le_of_ble_eq_true rfl, Nat.le_of_ble_eq_true rfl⟩ (fun r w1 H locs hpB N => ?_)
        obtain ⟨rfl, dd9, z1, z2, z3, z4, z5, z6, rfl⟩ := hpB
        refine lv_icmp_eq (tgt := 295) hx hb dL_law_247 (by decide) (fun c9 => ?_) (fun c9 => ?_)
        · exact KJ _ _ _ _ ⟨rfl, ⟨docs, ts, _, _, _, _, _, _, _, _, _, _, _, _, _, _, _, _, _, hinv, hdocs, htoks, N⟩, hl⟩
        · exact absurd hinv.best c9
      · refine lv_tableIn (off := 220) (tgt := 252) hx hb dL_law_32 (by decide) (by decide) (by decide) (by decide) ?_
        refine lv_aload_n hx hb dL_law_252 rfl (lv_at hl 1 rfl) ?_
        refine lv_aload_n hx hb dL_law_253 rfl (lv_at hl 0 rfl) ?_
        refine lv_iload_n hx hb dL_law_254 rfl (lv_at hl 3 rfl) ?_
        refine lv_iconst (v := 1) hx hb dL_law_255 (by decide) ?_
        refine lv_iadd hx hb dL_law_256 ?_
        refine lc_top (nI (4 * i + 1)) (nI_add (4 * i) 1) ?_
        refine lc_sld S N hX hbl hbA hL (4 * i + 1) (by omega) dL_law_257 ?_
        refine lv_aload_n hx hb dL_law_258 rfl (lv_at hl 0 rfl) ?_
        refine lv_iload_n hx hb dL_law_259 rfl (lv_at hl 3 rfl) ?_
        refine lv_iconst (v := 2) hx hb dL_law_260 (by decide) ?_
        refine lv_iadd hx hb dL_law_261 ?_
        refine lc_top (nI (4 * i + 2)) (nI_add (4 * i) 2) ?_
        refine lc_sld S N hX hbl hbA hL (4 * i + 2) (by omega) dL_law_262 ?_
        refine lv_aload_n hx hb dL_law_263 rfl (lv_at hl 0 rfl) ?_
        refine lv_iload_n hx hb dL_law_264 rfl (lv_at hl 3 rfl) ?_
        refine lv_iconst (v := 3) hx hb dL_law_265 (by decide) ?_
        refine lv_iadd hx hb dL_law_266 ?_
        refine lc_top (nI (4 * i + 3)) (nI_add (4 * i) 3) ?_
        refine lc_sld S N hX hbl hbA hL (4 * i + 3) (by omega) dL_law_267 ?_
        refine lc_callF (ci := 0) (wr := wB d a2 (nI ts.length) (nI (lc_fin 0 ts)) (nI (lc_cnt ts)) dd co ar e2 w2 l2 be bw bl) (kA_last l D d a1 (nI ts.length) (nI (lc_cnt ts)) ga cn en wi la ne nw nl docs h10 hdocs (xs (4 * i + 1)) (xs (4 * i + 2)) (xs (4 * i + 3))) S N [0, 1, 2, 3, 4, 5, 6, 7] [8, 9, 10, 11, 12, 13, 14, 15, 16] rfl rfl (by decide) (by decide) (by decide) (lw_V q111 q112 q113 q14 q114) hd_X0_last ⟨Nat.le_of_ble_eq_true rfl, Nat.le_of_ble_eq_true rfl⟩ ⟨rfl, rfl⟩ rfl rfl hl (Nat.le_of_ble_eq_true rfl) rfl dL_law_268 ⟨Nat.le_of_ble_eq_true rfl, Nat.le_of_ble_eq_true rfl⟩ (fun r w1 H locs hpA N => ?_)
        obtain ⟨rfl, rfl⟩ := hpA
        refine lv_aload_n hx hb dL_law_271 rfl (lv_at hl 2 rfl) ?_
        refine lv_aload_n hx hb dL_law_272 rfl (lv_at hl 0 rfl) ?_
        refine lv_iload_n hx hb dL_law_273 rfl (lv_at hl 3 rfl) ?_
        refine lv_iconst (v := 1) hx hb dL_law_274 (by decide) ?_
        refine lv_iadd hx hb dL_law_275 ?_
        refine lc_top (nI (4 * i + 1)) (nI_add (4 * i) 1) ?_
        refine lc_sld S N hX hbl hbA hL (4 * i + 1) (by omega) dL_law_276 ?_
        refine lv_aload_n hx hb dL_law_277 rfl (lv_at hl 0 rfl) ?_
        refine lv_iload_n hx hb dL_law_278 rfl (lv_at hl 3 rfl) ?_
        refine lv_iconst (v := 2) hx hb dL_law_279 (by decide) ?_
        refine lv_iadd hx hb dL_law_280 ?_
        refine lc_top (nI (4 * i + 2)) (nI_add (4 * i) 2) ?_
        refine lc_sld S N hX hbl hbA hL (4 * i + 2) (by omega) dL_law_281 ?_
        refine lv_aload_n hx hb dL_law_282 rfl (lv_at hl 0 rfl) ?_
        refine lv_iload_n hx hb dL_law_283 rfl (lv_at hl 3 rfl) ?_
        refine lv_iconst (v := 3) hx hb dL_law_284 (by decide) ?_
        refine lv_iadd hx hb dL_law_285 ?_
        refine lc_top (nI (4 * i + 3)) (nI_add (4 * i) 3) ?_
        refine lc_sld S N hX hbl hbA hL (4 * i + 3) (by omega) dL_law_286 ?_
        refine lc_callF (ci := 1) (wr := wA d a1 (nI ts.length) (nI (lc_cnt ts)) (nI docs.length) ga cn en wi la ne nw nl) (kB_last l D d a2 dd co ar e2 w2 l2 be bw bl ts htoks h48 hwf h6 hf10 (xs (4 * i + 1)) (xs (4 * i + 2)) (xs (4 * i + 3))) S N [0, 1, 2, 3, 4, 5, 6, 7, 8] [9, 10, 11, 12, 13, 14, 15, 16] rfl rfl (by decide) (by decide) (by decide) (lw_V q218 q219 q220 q15 q221) hd_X1_last ⟨Nat.le_of_ble_eq_true rfl, Nat.le_of_ble_eq_true rfl⟩ ⟨rfl, rfl⟩ rfl rfl hl (Nat.le_of_ble_eq_true rfl) rfl dL_law_287 ⟨Nat.le_of_ble_eq_true rfl, Nat.le_of_ble_eq_true rfl⟩ (fun r w1 H locs hpB N => ?_)
        obtain ⟨rfl, dd9, z1, z2, z3, z4, z5, z6, rfl⟩ := hpB
        refine lv_icmp_eq (tgt := 295) hx hb dL_law_290 (by decide) (fun c9 => ?_) (fun c9 => ?_)
        · exact KJ _ _ _ _ ⟨rfl, ⟨docs, ts, _, _, _, _, _, _, _, _, _, _, _, _, _, _, _, _, _, hinv, hdocs, htoks, N⟩, hl⟩
        · exact absurd hinv.last c9
      · refine lv_tableOut (tgt := 295) hx hb dL_law_32 (by decide) (by decide) ?_
        exact KJ _ _ _ _ ⟨rfl, G0, hl⟩
set_option maxHeartbeats 4000000 in
set_option maxRecDepth 100000 in
/-- the law, from its entry -/
theorem whole_start {p : Program} {e : Env} {s : State} {m : MethodId} {below : List Frame} {meth : Method} {c : Code} (l : Launch) {b L : Nat} {xs : Nat → Int32} (hL : L ≤ 256) (C0 : lw_At p s m meth c b L xs) : W p l e room_1 s m #[Value.ref b] below meth c s.heap [] 0 0 (lw_Z below #[Value.ref b] s) (entryFrame m ([Value.ref b] : List Value).toArray 4) := by
  obtain ⟨hx, hb, hr, hml, hown, hts, hX, hbl, hlocks, hgv⟩ := id C0
  have S : CallFix p m c code 4 s #[Value.ref b] lw_all R_law := ⟨hx, hb, hml, hown, fun w h => hts w (lw_all_tbl h)⟩
  have hta := S.2.2.2.2
  have hA : ∀ q : Nat, s.heap.size ≤ q → (fun q : Nat => s.heap.size ≤ q) q := fun _ h => h
  obtain ⟨c0_, iS0, hKn0⟩ := u_known (C := RX0) (T := TX0) (N := 11) (n := 11) hta in_X0 (hta _ q17)
  obtain ⟨c1_, iS1, hKn1⟩ := u_known (C := RX1) (T := TX1) (N := 12) (n := 12) hta in_X1 (hta _ q116)
  obtain ⟨dC, dI, hKc⟩ : ∃ (dC : Nat → ClassId) (dI : Nat → Nat → Nat), ∀ (k : Nat) (q : vw_C), vwCl[k]? = some q → u_Kn s q.1 q.2.1 q.2.2 (dC k) (dI k) := by
    refine ⟨fun k => if k = 0 then c0_ else c1_, fun k => if k = 0 then iS0 else iS1, ?_⟩
    intro k q hq
    match k, hq with
    | 0, hq => cases hq; exact hKn0
    | 1, hq => cases hq; exact hKn1
    | k + 2, hq => simp [vwCl] at hq
  obtain ⟨d, kA, comp, d1, d2, d3⟩ := Cond.arrayClass_spec (hta _ q58)
  have hK : va_K (dC, dI) vwCl [(d, .int)] s := ⟨hKc, fun k q h => by
    match k, h with
    | 0, h => cases h; exact ⟨fun n z => ⟨fun k h => (by cases h), kA, d2, comp, d3⟩, d1⟩
    | k + 1, h => simp at h⟩
  have hP : va_P (dC, dI) vwCl [] s.heap := fun k q h => by simp at h
  have hD : va_D (fun q : Nat => s.heap.size ≤ q) [] := ⟨fun i j p q h => by simp at h, fun k q h => by simp at h⟩
  have hS : va_S (fun q : Nat => s.heap.size ≤ q) s.heap s.heap [] := va_S.rf
  have hl := lv_entry ([.ref b]) (n := 4) (Nat.le_of_ble_eq_true rfl)
  rw [lg_entry_eq]
  generalize (lg_sl ([.ref b]) ++ List.replicate (4 - (lg_sl ([.ref b])).length) Slot.unset).toArray = ls at hl ⊢
  have hl : lv_has ls 4 [(0, .ref b)] := hl
  refine va_new (ci := 0) (fs := [.int 0, .int 0, .int 0, .null, .null, .null, .null, .int 0, .null, .null, .null]) (C := RX0) (T := TX0) (N := 11) hx hb hta in_X0 tyX0 tyX0_ok hown (hta _ q16) (hta _ q17) (hta _ q14) hK hP hD hS hA rfl (fun j hj => by rcases (show j = 0 ∨ j = 1 ∨ j = 2 ∨ j = 3 ∨ j = 4 ∨ j = 5 ∨ j = 6 ∨ j = 7 ∨ j = 8 ∨ j = 9 ∨ j = 10 by omega) with rfl | rfl | rfl | rfl | rfl | rfl | rfl | rfl | rfl | rfl | rfl <;> rfl) (Nat.le_of_ble_eq_true rfl) (Nat.le_of_ble_eq_true rfl) dL_law_0 (fun q0 H hP hD hS => ?_)
  have N : lc_St (dC, dI) d (fun q : Nat => s.heap.size ≤ q) s [(q0, .inr (0, [.int 0, .int 0, .int 0, .null, .null, .null, .null, .int 0, .null, .null, .null]))] H [] := ⟨hK, hP, hD, hS, hA⟩
  refine lv_dup hx hb dL_law_3 rfl ?_
  refine lc_callI (wr := []) (kA_init l (dC, dI) d q0) S N [0] [] rfl rfl (by decide) (by decide) (by decide) (lw_meth q20) q14 q18 q19 rfl hs_X0_init ⟨Nat.le_of_ble_eq_true rfl, Nat.le_of_ble_eq_true rfl⟩ hl (Nat.le_of_ble_eq_true rfl) rfl dL_law_4 ⟨Nat.le_of_ble_eq_true rfl, Nat.le_of_ble_eq_true rfl⟩ (fun r w1 H locs hp N2 => ?_)
  obtain ⟨rfl, a1, ha1, rfl⟩ := hp
  subst ha1
  refine lv_astore_n (lv' := [(1, .ref (a1 0)), (0, .ref b)]) hx hb dL_law_7 rfl hl (by decide) rfl (fun ls hl => ?_)
  refine va_new (ci := 1) (fs := [.int 0, .null, .null, .int 0, .int 0, .int 0, .null, .null, .null, .null, .null, .null]) (C := RX1) (T := TX1) (N := 12) hx hb hta in_X1 tyX1 tyX1_ok hown (hta _ q115) (hta _ q116) (hta _ q15) N2.1 N2.2.1 N2.2.2.1 N2.2.2.2.1 hA rfl (fun j hj => by rcases (show j = 0 ∨ j = 1 ∨ j = 2 ∨ j = 3 ∨ j = 4 ∨ j = 5 ∨ j = 6 ∨ j = 7 ∨ j = 8 ∨ j = 9 ∨ j = 10 ∨ j = 11 by omega) with rfl | rfl | rfl | rfl | rfl | rfl | rfl | rfl | rfl | rfl | rfl | rfl <;> rfl) (Nat.le_of_ble_eq_true rfl) (Nat.le_of_ble_eq_true rfl) dL_law_8 (fun q8 H hP hD hS => ?_)
  have N3 : lc_St (dC, dI) d (fun q : Nat => s.heap.size ≤ q) s (wA d a1 0 0 0 0 (fun _ => 0) (fun _ => 0) (fun _ => 0) (fun _ => 0) (fun _ => 0) (fun _ => 0) (fun _ => 0) ++ [(q8, .inr (1, [.int 0, .null, .null, .int 0, .int 0, .int 0, .null, .null, .null, .null, .null, .null]))]) H locs := ⟨hK, hP, hD, hS, hA⟩
  refine lv_dup hx hb dL_law_11 rfl ?_
  refine lc_callI (wr := wA d a1 0 0 0 0 (fun _ => 0) (fun _ => 0) (fun _ => 0) (fun _ => 0) (fun _ => 0) (fun _ => 0) (fun _ => 0)) (kB_init l (dC, dI) d q8) S N3 [8] [0, 1, 2, 3, 4, 5, 6, 7] rfl rfl (by decide) (by decide) (by decide) (lw_meth q119) q15 q117 q118 rfl hs_X1_init ⟨Nat.le_of_ble_eq_true rfl, Nat.le_of_ble_eq_true rfl⟩ hl (Nat.le_of_ble_eq_true rfl) rfl dL_law_12 ⟨Nat.le_of_ble_eq_true rfl, Nat.le_of_ble_eq_true rfl⟩ (fun r w1 H locs hp N4 => ?_)
  obtain ⟨rfl, a2, ha2, rfl⟩ := hp
  subst ha2
  refine lv_astore_n (lv' := [(2, .ref (a2 0)), (1, .ref (a1 0)), (0, .ref b)]) hx hb dL_law_15 rfl hl (by decide) rfl (fun ls hl => ?_)
  refine lv_iconst (v := 0) hx hb dL_law_16 (by decide) ?_
  refine lc_top (nI (4 * 0)) nI_0.symm ?_
  refine lv_istore_n (lv' := [(3, .int (nI (4 * 0))), (2, .ref (a2 0)), (1, .ref (a1 0)), (0, .ref b)]) hx hb dL_law_17 rfl hl (by decide) rfl (fun ls hl => ?_)
  refine W.widen (k := 600000) (n := 7290000) (Nat.le_of_ble_eq_true rfl) (Nat.le_of_ble_eq_true rfl) ?_
  exact lc_lawloop hL C0 ⟨[], [], 0, 0, _, _, _, _, _, _, _, _, _, _, _, _, _, _, _, lc_Inv_0, trivial, fun i x h => by simp at h, N4⟩ (lv_sub hl [3, 2, 1, 0] rfl)
end
section
set_option maxHeartbeats 4000000 in
theorem lw_walk (l : Launch) (b : Addr) (xs : List Int32) : MetFree l x (headSpec (Jvm.Cond.code x code maxLocals ret :: tables_1) room_1) (lw_P b xs) (fun _ _ _ _ _ => True) lw_Q := by
  refine MetFree.of_bodyS (code := code) (maxLocals := maxLocals) (ret := ret) (by decide) ?_ ?_
  · intro args s m h hn
    obtain ⟨meth, c, h1, h2, h3, h4, h5, h6, -, -⟩ := Cond.code_spec hn (atoms_spec (ws := Jvm.Cond.code x code maxLocals ret :: tables_1) h _ List.mem_cons_self)
    exact ⟨meth, c, h1, h2, h3, h4, h5, h6⟩
  · intro p e s m args below meth c s₁ B hml0 hP _
    obtain ⟨rfl, hx, hbd, hgv⟩ := hP
    obtain ⟨scr, harrAt, hlist, hof, hsmall⟩ := hx
    obtain ⟨hcb, hkn, -, -⟩ := State.arrayAt?_spec harrAt
    have hown : s.vm.findClass R_law = some m.cls := findClass_of_methodNamed B.named
    have hts0 : ∀ c ∈ (Jvm.Cond.code x code maxLocals ret :: tables_1), c.before #[Value.ref b] s = true := atoms_spec (ws := Jvm.Cond.code x code maxLocals ret :: tables_1) B.pre
    have hts : ∀ w ∈ lw_tbl, w.before #[Value.ref b] s = true := k2_hts_sels lw_privs (fun w hw => hts0 w (List.mem_cons_of_mem _ hw)) lw_privs_ok
    have hml : c.maxLocals = 4 := B.maxLocals_eq (hts0 _ List.mem_cons_self)
    have X₀ : Stand p l e room_1 s m #[Value.ref b] below meth c s₁ [] 0 0 := Stand.of_body B
    have hh0 : s₁.heap = s.heap := by rw [B.state]; rfl
    have hsz : scr.slots.size = xs.length := by rw [← Array.length_toList, hlist, List.length_map]
    have hval : ∀ j : Nat, j < xs.length → scr.slots[j]? = some (.int (xs.getD j 0)) := fun j hj => by
      rw [← Array.getElem?_toList, hlist]
      simp [hj]
    have hbl : b < s.heap.size := (Array.getElem?_eq_some_iff.mp hcb).1
    have hX : va_X b xs.length (fun j => xs.getD j 0) s s.heap := ⟨scr, hcb, hof, hkn, hsz, hval⟩
    have K : W p l e room_1 s m #[Value.ref b] below meth c s₁.heap [] 0 0 (lw_Z below #[Value.ref b] s) (entryFrame m ([Value.ref b] : List Value).toArray 4) := by
      rw [hh0]
      exact whole_start l hbd ⟨B.exec, B.bytes, B.returns, hml, hown, hts, hX, hbl, B.notSynchronized, hgv⟩
    obtain ⟨t, a1, o, b1, b2, b3⟩ := K s₁ rfl X₀
    exact ⟨t, o, a1, b1, b2, b3⟩
theorem lw_pre_spec {args : Array Value} {s : State} (h : (Jvm.Cond.and given_1 narrow_1).before args s = true) (hr : rest_1_c.before args s = true) : ∃ (b : Addr) (xs : List Int32), lw_P b xs args s := by
  have hs := flat_of_before _ h
  have hq := flat_of_before _ hr
  have hc : (Cond.count 1).before args s = true := hs _ (by decide +kernel)
  have harr : (Cond.arrayOf (.arg 0) .int).before args s = true := hs _ (by decide +kernel)
  have hle : (Cond.le (.length (.arg 0)) (.int 256)).before args s = true := hs _ (by decide +kernel)
  have hlen : (Cond.isInt (.length (.arg 0))).before args s = true := hq _ (by decide +kernel)
  have hall : (Cond.all (.arg 0) (.isInt (.elem (.arg 0) (.index 0)))).before args s = true := hq _ (by decide +kernel)
  obtain ⟨b, xs, hb, hx⟩ := State.ints_of_pre rfl harr hlen hall
  have hsm : xs.length < 2 ^ 31 := hx.choose_spec.2.2.2
  have hev : (Term.length (.arg 0)).eval args s none [] s = some (.int xs.length.toInt32) := hx.length_eval hb
  have hv := Cond.le_ints hev (show (Term.int 256).eval args s none [] s = some (.int 256) from rfl)
  have hd : xs.length.toInt32 ≤ 256 := by
    simpa [Cond.before, Cond.holds, hv] using hle
  have hN : xs.length ≤ 256 := (Int32.ofNat_le_ofNat hsm (by decide)).mp (show Int32.ofNat xs.length ≤ Int32.ofNat 256 from hd)
  exact ⟨b, xs, Cond.one_arg hc (show args[0]? = some (.ref b) from hb), hx, hN, h⟩
theorem lw_comes (l : Launch) : Comes l x (Jvm.Cond.code x code maxLocals ret :: tables_1) room_1 (fun tb e args s => Calls_1 tb e args s ∧ rest_1 tb e args s ∧ Pre_1 tb e args s)
    (fun _ _ args s o t => lw_Q args s o t) := by
  intro p e ha hc hk s m args below hf hfit hheap happ hpre
  obtain ⟨b, xs, hP⟩ := lw_pre_spec hpre.2.2 hpre.2.1
  obtain ⟨k, o, h1, h2, h3, hQ⟩ := lw_walk l b xs p e ha hc hk s m args below hf ((Spec.applies_iff_loose hf).mp happ).1 hP trivial
  exact ⟨k, o, h1, h2, h3, hQ⟩
theorem lw_frame {s t : State} {o : Outcome} {args : Array Value} (h : Framed s o t [] 600000 7290000) :
    Framed s o t (fieldLocs frame_1_writes args s ++ arrayLocs frame_1_arrays args s ++ staticLocs frame_1_statics s) 600000 7290000 := h
theorem lw_limb (L : Cond) (hL : ∀ (args : Array Value) (s t : State), L.after args s (.returned (some (.int 1))) t = true) :
    ArmFor flags0 classFile x code maxLocals ret World_1 tables_1 room_1 Calls_1 rest_1 Pre_1
      (fun tb e a s o t => postC L tb e a s o t ∧ Framed s o t (fieldLocs frame_1_writes a s ++ arrayLocs frame_1_arrays a s ++ staticLocs frame_1_statics s) 600000 7290000) := by
  intro l _ _ _ p e ha hc hk s m args below hf hfit hheap happ hpre
  obtain ⟨k, o, h1, h2, h3, rfl, hF⟩ := lw_comes l p e ha hc hk s m args below hf hfit hheap happ hpre
  exact ⟨k, _, h1, h2, h3, hL args s _, lw_frame hF⟩
theorem i_vc : Claimed_1_1 ∧ Claimed_1_2 := ⟨lw_limb limb_1_1 (fun args s t => by simp [limb_1_1, Cond.after, Cond.holds, Cond.value]), lw_limb limb_1_2 (fun args s t => Cond.after_iff.mpr (by
  first | (rw [show limb_1_2 = Cond.eq .result (.int 1) from rfl, Cond.eq_ints (x := 1) (y := 1) rfl rfl]; simp; done) | (simp [limb_1_2, Cond.value, Term.eval]; done)))⟩
end
