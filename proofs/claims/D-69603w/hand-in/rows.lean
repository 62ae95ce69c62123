section
-- ===== PART A: goes FIRST, ahead of the names: the tables' words, and 'selects' of the private methods out of them =====
/-- a private method of a class that the tables say can be made, by its rows of tables_1 -/
def lw_okq (q : MethodName × Nat) : Prop := (q.1.cls ≠ "java/lang/invoke/MethodHandle" ∧ q.1.cls ≠ "java/lang/invoke/VarHandle") ∧ Cond.instantiable q.1.cls q.2 ∈ tables_1 ∧ Cond.privateMethod q.1 ∈ tables_1 ∧ Cond.instanceMethod q.1 ∈ tables_1
set_option maxRecDepth 100000
theorem lw_p0 : lw_okq (⟨"DecimalText$Decimal", "times", "(I)V"⟩, 5) := ⟨⟨by decide +kernel, by decide +kernel⟩, List.mem_of_getElem? (i := 15) rfl, List.mem_of_getElem? (i := 96) rfl, List.mem_of_getElem? (i := 97) rfl⟩
theorem lw_p1 : lw_okq (⟨"DecimalText$Decimal", "round", "(I)V"⟩, 5) := ⟨⟨by decide +kernel, by decide +kernel⟩, List.mem_of_getElem? (i := 15) rfl, List.mem_of_getElem? (i := 108) rfl, List.mem_of_getElem? (i := 109) rfl⟩
theorem lw_p2 : lw_okq (⟨"DecimalText$Decimal", "digit", "(I)I"⟩, 5) := ⟨⟨by decide +kernel, by decide +kernel⟩, List.mem_of_getElem? (i := 15) rfl, List.mem_of_getElem? (i := 113) rfl, List.mem_of_getElem? (i := 114) rfl⟩
theorem lw_p3 : lw_okq (⟨"DecimalText", "arrange", "(IIIZ)V"⟩, 3) := ⟨⟨by decide +kernel, by decide +kernel⟩, List.mem_of_getElem? (i := 7) rfl, List.mem_of_getElem? (i := 121) rfl, List.mem_of_getElem? (i := 122) rfl⟩
theorem lw_p4 : lw_okq (⟨"DecimalTextModel", "put", "(I)V"⟩, 5) := ⟨⟨by decide +kernel, by decide +kernel⟩, List.mem_of_getElem? (i := 137) rfl, List.mem_of_getElem? (i := 168) rfl, List.mem_of_getElem? (i := 169) rfl⟩
theorem lw_p5 : lw_okq (⟨"DecimalTextModel", "spread", "(J)V"⟩, 5) := ⟨⟨by decide +kernel, by decide +kernel⟩, List.mem_of_getElem? (i := 137) rfl, List.mem_of_getElem? (i := 175) rfl, List.mem_of_getElem? (i := 176) rfl⟩
theorem lw_p6 : lw_okq (⟨"DecimalTextModel", "trim", "()V"⟩, 5) := ⟨⟨by decide +kernel, by decide +kernel⟩, List.mem_of_getElem? (i := 137) rfl, List.mem_of_getElem? (i := 182) rfl, List.mem_of_getElem? (i := 183) rfl⟩
theorem lw_p7 : lw_okq (⟨"DecimalTextModel", "twice", "()V"⟩, 5) := ⟨⟨by decide +kernel, by decide +kernel⟩, List.mem_of_getElem? (i := 137) rfl, List.mem_of_getElem? (i := 186) rfl, List.mem_of_getElem? (i := 187) rfl⟩
theorem lw_p8 : lw_okq (⟨"DecimalTextModel", "half", "()V"⟩, 5) := ⟨⟨by decide +kernel, by decide +kernel⟩, List.mem_of_getElem? (i := 137) rfl, List.mem_of_getElem? (i := 190) rfl, List.mem_of_getElem? (i := 191) rfl⟩
theorem lw_p9 : lw_okq (⟨"DecimalTextModel", "body", "(IIZ)V"⟩, 5) := ⟨⟨by decide +kernel, by decide +kernel⟩, List.mem_of_getElem? (i := 137) rfl, List.mem_of_getElem? (i := 194) rfl, List.mem_of_getElem? (i := 195) rfl⟩
theorem lw_p10 : lw_okq (⟨"DecimalTextModel", "cut", "(I)V"⟩, 5) := ⟨⟨by decide +kernel, by decide +kernel⟩, List.mem_of_getElem? (i := 137) rfl, List.mem_of_getElem? (i := 198) rfl, List.mem_of_getElem? (i := 199) rfl⟩
theorem lw_p11 : lw_okq (⟨"DecimalTextModel", "digit", "(I)I"⟩, 5) := ⟨⟨by decide +kernel, by decide +kernel⟩, List.mem_of_getElem? (i := 137) rfl, List.mem_of_getElem? (i := 202) rfl, List.mem_of_getElem? (i := 203) rfl⟩
theorem lw_p12 : lw_okq (⟨"DecimalTextModel", "fill", "(IIIZ)V"⟩, 5) := ⟨⟨by decide +kernel, by decide +kernel⟩, List.mem_of_getElem? (i := 137) rfl, List.mem_of_getElem? (i := 206) rfl, List.mem_of_getElem? (i := 207) rfl⟩
def lw_privs_1 : List (MethodName × Nat) := [(⟨"DecimalText$Decimal", "times", "(I)V"⟩, 5), (⟨"DecimalText$Decimal", "round", "(I)V"⟩, 5), (⟨"DecimalText$Decimal", "digit", "(I)I"⟩, 5), (⟨"DecimalText", "arrange", "(IIIZ)V"⟩, 3), (⟨"DecimalTextModel", "put", "(I)V"⟩, 5), (⟨"DecimalTextModel", "spread", "(J)V"⟩, 5), (⟨"DecimalTextModel", "trim", "()V"⟩, 5), (⟨"DecimalTextModel", "twice", "()V"⟩, 5), (⟨"DecimalTextModel", "half", "()V"⟩, 5), (⟨"DecimalTextModel", "body", "(IIZ)V"⟩, 5), (⟨"DecimalTextModel", "cut", "(I)V"⟩, 5), (⟨"DecimalTextModel", "digit", "(I)I"⟩, 5), (⟨"DecimalTextModel", "fill", "(IIIZ)V"⟩, 5)]
theorem lw_r1 : ∀ q ∈ lw_privs_1, lw_okq q := List.forall_mem_cons.mpr ⟨lw_p0, List.forall_mem_cons.mpr ⟨lw_p1, List.forall_mem_cons.mpr ⟨lw_p2, List.forall_mem_cons.mpr ⟨lw_p3, List.forall_mem_cons.mpr ⟨lw_p4, List.forall_mem_cons.mpr ⟨lw_p5, List.forall_mem_cons.mpr ⟨lw_p6, List.forall_mem_cons.mpr ⟨lw_p7, List.forall_mem_cons.mpr ⟨lw_p8, List.forall_mem_cons.mpr ⟨lw_p9, List.forall_mem_cons.mpr ⟨lw_p10, List.forall_mem_cons.mpr ⟨lw_p11, List.forall_mem_cons.mpr ⟨lw_p12, fun _ h => absurd h List.not_mem_nil⟩⟩⟩⟩⟩⟩⟩⟩⟩⟩⟩⟩⟩
def lw_privs : List (MethodName × Nat) := lw_privs_1
def lw_tbl : List Cond := k2_sels lw_privs ++ tables_1
theorem lw_privs_ok : ∀ q ∈ lw_privs, lw_okq q := lw_r1
-- ===== ONE list of words for every method: the tables' words that hold all through a run =====
def lw_all : List Cond := lw_tbl.filter goodWord
/-- a word of the tables by its place: claim/WORDS.tsv -/
theorem lw_w {w : Cond} (i : Nat) (h : lw_tbl[i]? = some w) (g : goodWord w = true) : w ∈ lw_all := List.mem_filter.mpr ⟨List.mem_of_getElem? h, g⟩
theorem lw_all_tbl {w : Cond} (h : w ∈ lw_all) : w ∈ lw_tbl := (List.mem_filter.mp h).1
theorem lw_self : GoodIn lw_all lw_all := fun w h => ⟨h, good_of_word (List.mem_filter.mp h).2⟩
/-- a class's field words, by their places -/
theorem lw_in (ws : List Cond) (ps : List Nat) (hp : ws = ps.filterMap (fun i => lw_tbl[i]?)) (hg : ws.all goodWord = true) : ∀ w ∈ ws, w ∈ lw_all := by
  intro w h
  have h1 := List.all_eq_true.mp hg w h
  rw [hp] at h
  obtain ⟨i, -, hi⟩ := List.mem_filterMap.mp h
  exact lw_w i hi h1
/-- the words of a contract for the method y with code b, L locals, answer r -/
abbrev ws_ (y : MethodName) (b : ByteArray) (L : Nat) (r : Option FieldType) : List Cond := Cond.code y b L r :: lw_all
theorem lw_meth {y : MethodName} {b : ByteArray} {L : Nat} {r : Option FieldType} (h : Cond.code y b L r ∈ lw_all) : GoodIn lw_all (ws_ y b L r) := by
  intro w hw
  rcases List.mem_cons.mp hw with e | e
  · rw [e]
    exact lw_self _ h
  · exact lw_self _ e
theorem lw_app {a c : List Cond} (ha : ∀ w ∈ a, w ∈ lw_all) (hc : GoodIn lw_all c) : GoodIn lw_all (a ++ c) := by
  intro w hw
  rcases List.mem_append.mp hw with e | e
  · exact lw_self w (ha w e)
  · exact hc w e
/-- what a call through an object asks: cwV n hts (lw_V ..) -/
theorem lw_V {own : String} {idx : Nat} {C : String} {y : MethodName} {b : ByteArray} {L : Nat} {r : Option FieldType} (h1 : Cond.methodLink own idx y ∈ lw_all) (h2 : Cond.instanceMethod y ∈ lw_all) (h3 : Cond.selects C y y ∈ lw_all) (h4 : Cond.initialized C ∈ lw_all) (h5 : Cond.code y b L r ∈ lw_all) : GoodIn lw_all (wsV own idx C y (ws_ y b L r)) := by
  refine lw_app ?_ (lw_meth h5)
  intro w hw
  simp only [List.mem_cons, List.not_mem_nil, or_false] at hw
  rcases hw with e | e | e | e
  · rw [e]; exact h1
  · rw [e]; exact h2
  · rw [e]; exact h3
  · rw [e]; exact h4
/-- what a static call asks: va_cwS n hts (lw_S ..) -/
theorem lw_S {own : String} {idx : Nat} {y : MethodName} {b : ByteArray} {L : Nat} {r : Option FieldType} (h1 : Cond.methodLink own idx y ∈ lw_all) (h2 : Cond.static y ∈ lw_all) (h3 : Cond.initialized y.cls ∈ lw_all) (h4 : Cond.code y b L r ∈ lw_all) : GoodIn lw_all (va_wsS own idx y (ws_ y b L r)) := by
  refine lw_app ?_ (lw_meth h4)
  intro w hw
  simp only [List.mem_cons, List.not_mem_nil, or_false] at hw
  rcases hw with e | e | e
  · rw [e]; exact h1
  · rw [e]; exact h2
  · rw [e]; exact h3
/-- the words of a contract for a method WITH HANDLERS (hh: its table) -/
abbrev wsW_ (y : MethodName) (b : ByteArray) (L : Nat) (r : Option FieldType) (hh : List (Nat × Nat × Nat × Nat)) : List Cond := Cond.codeWith y b L r hh :: lw_all
theorem lw_methW {y : MethodName} {b : ByteArray} {L : Nat} {r : Option FieldType} {hh : List (Nat × Nat × Nat × Nat)} (h : Cond.codeWith y b L r hh ∈ lw_all) : GoodIn lw_all (wsW_ y b L r hh) := by
  intro w hw
  rcases List.mem_cons.mp hw with e | e
  · rw [e]
    exact lw_self _ h
  · exact lw_self _ e
/-- any list of words by their places (lw_in), good -/
theorem lw_good {ws : List Cond} (h : ∀ w ∈ ws, w ∈ lw_all) : GoodIn lw_all ws := fun w hw => lw_self w (h w hw)
/-- what a call of a method with handlers asks: vx_cwVW n hts (lw_VW ..), vx_cwSW n hts (lw_SW ..) -/
theorem lw_VW {own : String} {idx : Nat} {C : String} {y : MethodName} {b : ByteArray} {L : Nat} {r : Option FieldType} {hh : List (Nat × Nat × Nat × Nat)} (h1 : Cond.methodLink own idx y ∈ lw_all) (h2 : Cond.instanceMethod y ∈ lw_all) (h3 : Cond.selects C y y ∈ lw_all) (h4 : Cond.initialized C ∈ lw_all) (h5 : Cond.codeWith y b L r hh ∈ lw_all) : GoodIn lw_all (wsV own idx C y (wsW_ y b L r hh)) := by
  refine lw_app ?_ (lw_methW h5)
  intro w hw
  simp only [List.mem_cons, List.not_mem_nil, or_false] at hw
  rcases hw with e | e | e | e
  · rw [e]; exact h1
  · rw [e]; exact h2
  · rw [e]; exact h3
  · rw [e]; exact h4
theorem lw_SW {own : String} {idx : Nat} {y : MethodName} {b : ByteArray} {L : Nat} {r : Option FieldType} {hh : List (Nat × Nat × Nat × Nat)} (h1 : Cond.methodLink own idx y ∈ lw_all) (h2 : Cond.static y ∈ lw_all) (h3 : Cond.initialized y.cls ∈ lw_all) (h4 : Cond.codeWith y b L r hh ∈ lw_all) : GoodIn lw_all (va_wsS own idx y (wsW_ y b L r hh)) := by
  refine lw_app ?_ (lw_methW h4)
  intro w hw
  simp only [List.mem_cons, List.not_mem_nil, or_false] at hw
  rcases hw with e | e | e
  · rw [e]; exact h1
  · rw [e]; exact h2
  · rw [e]; exact h3
/-- a word by its place in its run of the tables -/
theorem lw_at {r : List Cond} (hr : ∀ w ∈ r, w ∈ lw_tbl) {w : Cond} (i : Nat) (h : r[i]? = some w) : w ∈ lw_tbl := hr w (List.mem_of_getElem? h)
theorem lw_g {w : Cond} (h : w ∈ lw_tbl) (g : goodWord w = true) : w ∈ lw_all := List.mem_filter.mpr ⟨h, g⟩
theorem lw_ms : ∀ w ∈ k2_sels lw_privs, w ∈ lw_tbl := fun w h => show w ∈ k2_sels lw_privs ++ tables_1 from List.mem_append_left _ h
theorem lw_m0 : ∀ w ∈ tables_1, w ∈ lw_tbl := fun w h => show w ∈ k2_sels lw_privs ++ tables_1 from List.mem_append_right (k2_sels lw_privs) h
theorem qs0 : (Cond.selects "DecimalText$Decimal" ⟨"DecimalText$Decimal", "times", "(I)V"⟩ ⟨"DecimalText$Decimal", "times", "(I)V"⟩) ∈ lw_all := lw_g (lw_at lw_ms 0 rfl) rfl
theorem qs1 : (Cond.selects "DecimalText$Decimal" ⟨"DecimalText$Decimal", "round", "(I)V"⟩ ⟨"DecimalText$Decimal", "round", "(I)V"⟩) ∈ lw_all := lw_g (lw_at lw_ms 1 rfl) rfl
theorem qs2 : (Cond.selects "DecimalText$Decimal" ⟨"DecimalText$Decimal", "digit", "(I)I"⟩ ⟨"DecimalText$Decimal", "digit", "(I)I"⟩) ∈ lw_all := lw_g (lw_at lw_ms 2 rfl) rfl
theorem qs3 : (Cond.selects "DecimalText" ⟨"DecimalText", "arrange", "(IIIZ)V"⟩ ⟨"DecimalText", "arrange", "(IIIZ)V"⟩) ∈ lw_all := lw_g (lw_at lw_ms 3 rfl) rfl
theorem qs4 : (Cond.selects "DecimalTextModel" ⟨"DecimalTextModel", "put", "(I)V"⟩ ⟨"DecimalTextModel", "put", "(I)V"⟩) ∈ lw_all := lw_g (lw_at lw_ms 4 rfl) rfl
theorem qs5 : (Cond.selects "DecimalTextModel" ⟨"DecimalTextModel", "spread", "(J)V"⟩ ⟨"DecimalTextModel", "spread", "(J)V"⟩) ∈ lw_all := lw_g (lw_at lw_ms 5 rfl) rfl
theorem qs6 : (Cond.selects "DecimalTextModel" ⟨"DecimalTextModel", "trim", "()V"⟩ ⟨"DecimalTextModel", "trim", "()V"⟩) ∈ lw_all := lw_g (lw_at lw_ms 6 rfl) rfl
theorem qs7 : (Cond.selects "DecimalTextModel" ⟨"DecimalTextModel", "twice", "()V"⟩ ⟨"DecimalTextModel", "twice", "()V"⟩) ∈ lw_all := lw_g (lw_at lw_ms 7 rfl) rfl
theorem qs8 : (Cond.selects "DecimalTextModel" ⟨"DecimalTextModel", "half", "()V"⟩ ⟨"DecimalTextModel", "half", "()V"⟩) ∈ lw_all := lw_g (lw_at lw_ms 8 rfl) rfl
theorem qs9 : (Cond.selects "DecimalTextModel" ⟨"DecimalTextModel", "body", "(IIZ)V"⟩ ⟨"DecimalTextModel", "body", "(IIZ)V"⟩) ∈ lw_all := lw_g (lw_at lw_ms 9 rfl) rfl
theorem qs10 : (Cond.selects "DecimalTextModel" ⟨"DecimalTextModel", "cut", "(I)V"⟩ ⟨"DecimalTextModel", "cut", "(I)V"⟩) ∈ lw_all := lw_g (lw_at lw_ms 10 rfl) rfl
theorem qs11 : (Cond.selects "DecimalTextModel" ⟨"DecimalTextModel", "digit", "(I)I"⟩ ⟨"DecimalTextModel", "digit", "(I)I"⟩) ∈ lw_all := lw_g (lw_at lw_ms 11 rfl) rfl
theorem qs12 : (Cond.selects "DecimalTextModel" ⟨"DecimalTextModel", "fill", "(IIIZ)V"⟩ ⟨"DecimalTextModel", "fill", "(IIIZ)V"⟩) ∈ lw_all := lw_g (lw_at lw_ms 12 rfl) rfl

theorem q51 : (Jvm.Cond.arrayClass Jvm.ClassFile.FieldType.int) ∈ lw_all := lw_g (lw_at lw_m0 38 rfl) rfl
set_option maxRecDepth 100000
theorem q52 : (Jvm.Cond.arrayClass Jvm.ClassFile.FieldType.byte) ∈ lw_all := lw_g (lw_at lw_m0 39 rfl) rfl

theorem q18 : (Jvm.Cond.initialized "java/lang/Double") ∈ lw_all := lw_g (lw_at lw_m0 5 rfl) rfl
set_option maxRecDepth 100000
theorem q95 : (Jvm.Cond.static ({ cls := "java/lang/Double", name := "longBitsToDouble", desc := "(J)D" } : Jvm.MethodName)) ∈ lw_all := lw_g (lw_at lw_m0 82 rfl) rfl
theorem q96 : (Jvm.Cond.native ({ cls := "java/lang/Double", name := "longBitsToDouble", desc := "(J)D" } : Jvm.MethodName)) ∈ lw_all := lw_g (lw_at lw_m0 83 rfl) rfl
theorem q102 : (Jvm.Cond.static ({ cls := "java/lang/Double", name := "doubleToRawLongBits", desc := "(D)J" } : Jvm.MethodName)) ∈ lw_all := lw_g (lw_at lw_m0 89 rfl) rfl
theorem q103 : (Jvm.Cond.native ({ cls := "java/lang/Double", name := "doubleToRawLongBits", desc := "(D)J" } : Jvm.MethodName)) ∈ lw_all := lw_g (lw_at lw_m0 90 rfl) rfl

theorem q13 : (Jvm.Cond.initialized "DecimalTextLaw") ∈ lw_all := lw_g (lw_at lw_m0 0 rfl) rfl
set_option maxRecDepth 100000
theorem q19 : (Jvm.Cond.classLink "DecimalTextLaw" (7 : Nat) "DecimalText") ∈ lw_all := lw_g (lw_at lw_m0 6 rfl) rfl
theorem q21 : (Jvm.Cond.methodLink "DecimalTextLaw" (9 : Nat) ({ cls := "DecimalText", name := "<init>", desc := "()V" } : Jvm.MethodName)) ∈ lw_all := lw_g (lw_at lw_m0 8 rfl) rfl
theorem q77 : (Jvm.Cond.methodLink "DecimalTextLaw" (15 : Nat) ({ cls := "DecimalText", name := "make", desc := "(JIIII)I" } : Jvm.MethodName)) ∈ lw_all := lw_g (lw_at lw_m0 64 rfl) rfl
theorem q141 : (Jvm.Cond.methodLink "DecimalTextLaw" (20 : Nat) ({ cls := "DecimalText", name := "at", desc := "(I)I" } : Jvm.MethodName)) ∈ lw_all := lw_g (lw_at lw_m0 128 rfl) rfl
theorem q145 : (Jvm.Cond.methodLink "DecimalTextLaw" (25 : Nat) ({ cls := "DecimalText", name := "digits", desc := "(J)I" } : Jvm.MethodName)) ∈ lw_all := lw_g (lw_at lw_m0 132 rfl) rfl
theorem q149 : (Jvm.Cond.classLink "DecimalTextLaw" (10 : Nat) "DecimalTextModel") ∈ lw_all := lw_g (lw_at lw_m0 136 rfl) rfl
theorem q151 : (Jvm.Cond.methodLink "DecimalTextLaw" (12 : Nat) ({ cls := "DecimalTextModel", name := "<init>", desc := "()V" } : Jvm.MethodName)) ∈ lw_all := lw_g (lw_at lw_m0 138 rfl) rfl
theorem q171 : (Jvm.Cond.methodLink "DecimalTextLaw" (19 : Nat) ({ cls := "DecimalTextModel", name := "make", desc := "(JIIII)I" } : Jvm.MethodName)) ∈ lw_all := lw_g (lw_at lw_m0 158 rfl) rfl
theorem q222 : (Jvm.Cond.methodLink "DecimalTextLaw" (24 : Nat) ({ cls := "DecimalTextModel", name := "at", desc := "(I)I" } : Jvm.MethodName)) ∈ lw_all := lw_g (lw_at lw_m0 209 rfl) rfl
theorem q226 : (Jvm.Cond.methodLink "DecimalTextLaw" (29 : Nat) ({ cls := "DecimalTextModel", name := "digits", desc := "(J)I" } : Jvm.MethodName)) ∈ lw_all := lw_g (lw_at lw_m0 213 rfl) rfl
theorem q230 : (Jvm.Cond.constantLong "DecimalTextLaw" (13 : Nat) (4294967295 : Int64)) ∈ lw_all := lw_g (lw_at lw_m0 217 rfl) rfl

/-! java/lang/Object -/
set_option maxRecDepth 100000
def RJ0 : String := "java/lang/Object"
abbrev cJ0_init : ByteArray := object_method_1_code
def yJ0_init : MethodName := ⟨RJ0, "<init>", "()V"⟩
theorem dJ0_init_0 : decode cJ0_init 0 = .ok (.return_, 1) := by decide +kernel
theorem q25 : (Jvm.Cond.instanceMethod ({ cls := "java/lang/Object", name := "<init>", desc := "()V" } : Jvm.MethodName)) ∈ lw_all := lw_g (lw_at lw_m0 12 rfl) rfl
theorem q26 : (Jvm.Cond.code ({ cls := "java/lang/Object", name := "<init>", desc := "()V" } : Jvm.MethodName) object_method_1_code (1 : Nat) (Option.none : Option Jvm.ClassFile.FieldType)) ∈ lw_all := lw_g (lw_at lw_m0 13 rfl) rfl
end
section
/-! DecimalText$Bytes -/
set_option maxRecDepth 100000
def RX2 : String := "DecimalText$Bytes"
def TX2 : u_T := fun k => match k with
  | 0 => ("DecimalText$Bytes", "data", "[B", false)
  | _ => ("DecimalText$Bytes", "size", "I", false)
def tyX2 : Nat → FieldType := fun k => match k with
  | 0 => .array .byte
  | _ => .int
abbrev wsX20 : List Cond := u_ws RX2 TX2 2
theorem nmX2 : ∀ a, a < 2 → ∀ b, b < 2 → a ≠ b → (TX2 a).2.1 ≠ (TX2 b).2.1 := by decide +kernel
theorem tyX2_ok : ∀ k, k < 2 → parseFieldDescriptor (TX2 k).2.2.1 = some (tyX2 k) := by decide +kernel
abbrev cX2_init : ByteArray := prog_2_method_1_code
def yX2_init : MethodName := ⟨RX2, "<init>", "(I)V"⟩
theorem dX2_init_0 : decode cX2_init 0 = .ok (.aload_n 0, 1) := by decide +kernel
theorem dX2_init_1 : decode cX2_init 1 = .ok (.invokespecial 1, 3) := by decide +kernel
theorem dX2_init_4 : decode cX2_init 4 = .ok (.aload_n 0, 1) := by decide +kernel
theorem dX2_init_5 : decode cX2_init 5 = .ok (.iload_n 1, 1) := by decide +kernel
theorem dX2_init_6 : decode cX2_init 6 = .ok (.newarray .byte, 2) := by decide +kernel
theorem dX2_init_8 : decode cX2_init 8 = .ok (.putfield 7, 3) := by decide +kernel
theorem dX2_init_11 : decode cX2_init 11 = .ok (.return_, 1) := by decide +kernel
abbrev cX2_add : ByteArray := prog_2_method_2_code
def yX2_add : MethodName := ⟨RX2, "add", "(I)V"⟩
theorem dX2_add_0 : decode cX2_add 0 = .ok (.aload_n 0, 1) := by decide +kernel
theorem dX2_add_1 : decode cX2_add 1 = .ok (.getfield 13, 3) := by decide +kernel
theorem dX2_add_4 : decode cX2_add 4 = .ok (.aload_n 0, 1) := by decide +kernel
theorem dX2_add_5 : decode cX2_add 5 = .ok (.getfield 7, 3) := by decide +kernel
theorem dX2_add_8 : decode cX2_add 8 = .ok (.arraylength, 1) := by decide +kernel
theorem dX2_add_9 : decode cX2_add 9 = .ok (.if_icmp .ne 45, 3) := by decide +kernel
theorem dX2_add_12 : decode cX2_add 12 = .ok (.iconst 2, 1) := by decide +kernel
theorem dX2_add_13 : decode cX2_add 13 = .ok (.aload_n 0, 1) := by decide +kernel
theorem dX2_add_14 : decode cX2_add 14 = .ok (.getfield 13, 3) := by decide +kernel
theorem dX2_add_17 : decode cX2_add 17 = .ok (.imul, 1) := by decide +kernel
theorem dX2_add_18 : decode cX2_add 18 = .ok (.bipush 16, 2) := by decide +kernel
theorem dX2_add_20 : decode cX2_add 20 = .ok (.iadd, 1) := by decide +kernel
theorem dX2_add_21 : decode cX2_add 21 = .ok (.newarray .byte, 2) := by decide +kernel
theorem dX2_add_23 : decode cX2_add 23 = .ok (.astore_n 2, 1) := by decide +kernel
theorem dX2_add_24 : decode cX2_add 24 = .ok (.iconst 0, 1) := by decide +kernel
theorem dX2_add_25 : decode cX2_add 25 = .ok (.istore_n 3, 1) := by decide +kernel
theorem dX2_add_26 : decode cX2_add 26 = .ok (.iload_n 3, 1) := by decide +kernel
theorem dX2_add_27 : decode cX2_add 27 = .ok (.aload_n 0, 1) := by decide +kernel
theorem dX2_add_28 : decode cX2_add 28 = .ok (.getfield 13, 3) := by decide +kernel
theorem dX2_add_31 : decode cX2_add 31 = .ok (.if_icmp .ge 18, 3) := by decide +kernel
theorem dX2_add_34 : decode cX2_add 34 = .ok (.aload_n 2, 1) := by decide +kernel
theorem dX2_add_35 : decode cX2_add 35 = .ok (.iload_n 3, 1) := by decide +kernel
theorem dX2_add_36 : decode cX2_add 36 = .ok (.aload_n 0, 1) := by decide +kernel
theorem dX2_add_37 : decode cX2_add 37 = .ok (.getfield 7, 3) := by decide +kernel
theorem dX2_add_40 : decode cX2_add 40 = .ok (.iload_n 3, 1) := by decide +kernel
theorem dX2_add_41 : decode cX2_add 41 = .ok (.baload, 1) := by decide +kernel
theorem dX2_add_42 : decode cX2_add 42 = .ok (.bastore, 1) := by decide +kernel
theorem dX2_add_43 : decode cX2_add 43 = .ok (.iinc 3 1, 3) := by decide +kernel
theorem dX2_add_46 : decode cX2_add 46 = .ok (.goto (-20), 3) := by decide +kernel
theorem dX2_add_49 : decode cX2_add 49 = .ok (.aload_n 0, 1) := by decide +kernel
theorem dX2_add_50 : decode cX2_add 50 = .ok (.aload_n 2, 1) := by decide +kernel
theorem dX2_add_51 : decode cX2_add 51 = .ok (.putfield 7, 3) := by decide +kernel
theorem dX2_add_54 : decode cX2_add 54 = .ok (.aload_n 0, 1) := by decide +kernel
theorem dX2_add_55 : decode cX2_add 55 = .ok (.getfield 7, 3) := by decide +kernel
theorem dX2_add_58 : decode cX2_add 58 = .ok (.aload_n 0, 1) := by decide +kernel
theorem dX2_add_59 : decode cX2_add 59 = .ok (.getfield 13, 3) := by decide +kernel
theorem dX2_add_62 : decode cX2_add 62 = .ok (.iload_n 1, 1) := by decide +kernel
theorem dX2_add_63 : decode cX2_add 63 = .ok (.i2b, 1) := by decide +kernel
theorem dX2_add_64 : decode cX2_add 64 = .ok (.bastore, 1) := by decide +kernel
theorem dX2_add_65 : decode cX2_add 65 = .ok (.aload_n 0, 1) := by decide +kernel
theorem dX2_add_66 : decode cX2_add 66 = .ok (.dup, 1) := by decide +kernel
theorem dX2_add_67 : decode cX2_add 67 = .ok (.getfield 13, 3) := by decide +kernel
theorem dX2_add_70 : decode cX2_add 70 = .ok (.iconst 1, 1) := by decide +kernel
theorem dX2_add_71 : decode cX2_add 71 = .ok (.iadd, 1) := by decide +kernel
theorem dX2_add_72 : decode cX2_add 72 = .ok (.putfield 13, 3) := by decide +kernel
theorem dX2_add_75 : decode cX2_add 75 = .ok (.return_, 1) := by decide +kernel
abbrev cX2_at : ByteArray := prog_2_method_3_code
def yX2_at : MethodName := ⟨RX2, "at", "(I)I"⟩
theorem dX2_at_0 : decode cX2_at 0 = .ok (.aload_n 0, 1) := by decide +kernel
theorem dX2_at_1 : decode cX2_at 1 = .ok (.getfield 7, 3) := by decide +kernel
theorem dX2_at_4 : decode cX2_at 4 = .ok (.iload_n 1, 1) := by decide +kernel
theorem dX2_at_5 : decode cX2_at 5 = .ok (.baload, 1) := by decide +kernel
theorem dX2_at_6 : decode cX2_at 6 = .ok (.sipush 255, 3) := by decide +kernel
theorem dX2_at_9 : decode cX2_at 9 = .ok (.iand, 1) := by decide +kernel
theorem dX2_at_10 : decode cX2_at 10 = .ok (.ireturn, 1) := by decide +kernel
theorem q16 : (Jvm.Cond.initialized "DecimalText$Bytes") ∈ lw_all := lw_g (lw_at lw_m0 3 rfl) rfl
theorem q54 : (Jvm.Cond.instantiable "DecimalText$Bytes" (2 : Nat)) ∈ lw_all := lw_g (lw_at lw_m0 41 rfl) rfl
theorem q56 : (Jvm.Cond.instanceMethod ({ cls := "DecimalText$Bytes", name := "<init>", desc := "(I)V" } : Jvm.MethodName)) ∈ lw_all := lw_g (lw_at lw_m0 43 rfl) rfl
theorem q57 : (Jvm.Cond.code ({ cls := "DecimalText$Bytes", name := "<init>", desc := "(I)V" } : Jvm.MethodName) prog_2_method_1_code (2 : Nat) (Option.none : Option Jvm.ClassFile.FieldType)) ∈ lw_all := lw_g (lw_at lw_m0 44 rfl) rfl
theorem q58 : (Jvm.Cond.methodLink "DecimalText$Bytes" (1 : Nat) ({ cls := "java/lang/Object", name := "<init>", desc := "()V" } : Jvm.MethodName)) ∈ lw_all := lw_g (lw_at lw_m0 45 rfl) rfl
theorem q59 : (Jvm.Cond.fieldLink "DecimalText$Bytes" (7 : Nat) "DecimalText$Bytes" "data" "[B") ∈ lw_all := lw_g (lw_at lw_m0 46 rfl) rfl
theorem q61 : (Jvm.Cond.fieldLink "DecimalText$Bytes" (13 : Nat) "DecimalText$Bytes" "size" "I") ∈ lw_all := lw_g (lw_at lw_m0 48 rfl) rfl
theorem q62 : (Jvm.Cond.lays "DecimalText$Bytes" "DecimalText$Bytes" "data" "[B") ∈ lw_all := lw_g (lw_at lw_m0 49 rfl) rfl
theorem q63 : (Jvm.Cond.soleField "DecimalText$Bytes" "data") ∈ lw_all := lw_g (lw_at lw_m0 50 rfl) rfl
theorem q64 : (Jvm.Cond.lays "DecimalText$Bytes" "DecimalText$Bytes" "size" "I") ∈ lw_all := lw_g (lw_at lw_m0 51 rfl) rfl
theorem q65 : (Jvm.Cond.soleField "DecimalText$Bytes" "size") ∈ lw_all := lw_g (lw_at lw_m0 52 rfl) rfl
theorem q66 : (Jvm.Cond.superclass "DecimalText$Bytes" "java/lang/Object") ∈ lw_all := lw_g (lw_at lw_m0 53 rfl) rfl
theorem q90 : (Jvm.Cond.instanceMethod ({ cls := "DecimalText$Bytes", name := "add", desc := "(I)V" } : Jvm.MethodName)) ∈ lw_all := lw_g (lw_at lw_m0 77 rfl) rfl
theorem q91 : (Jvm.Cond.selects "DecimalText$Bytes" ({ cls := "DecimalText$Bytes", name := "add", desc := "(I)V" } : Jvm.MethodName) ({ cls := "DecimalText$Bytes", name := "add", desc := "(I)V" } : Jvm.MethodName)) ∈ lw_all := lw_g (lw_at lw_m0 78 rfl) rfl
theorem q92 : (Jvm.Cond.code ({ cls := "DecimalText$Bytes", name := "add", desc := "(I)V" } : Jvm.MethodName) prog_2_method_2_code (4 : Nat) (Option.none : Option Jvm.ClassFile.FieldType)) ∈ lw_all := lw_g (lw_at lw_m0 79 rfl) rfl
theorem q138 : (Jvm.Cond.instanceMethod ({ cls := "DecimalText$Bytes", name := "at", desc := "(I)I" } : Jvm.MethodName)) ∈ lw_all := lw_g (lw_at lw_m0 125 rfl) rfl
theorem q139 : (Jvm.Cond.selects "DecimalText$Bytes" ({ cls := "DecimalText$Bytes", name := "at", desc := "(I)I" } : Jvm.MethodName) ({ cls := "DecimalText$Bytes", name := "at", desc := "(I)I" } : Jvm.MethodName)) ∈ lw_all := lw_g (lw_at lw_m0 126 rfl) rfl
theorem q140 : (Jvm.Cond.code ({ cls := "DecimalText$Bytes", name := "at", desc := "(I)I" } : Jvm.MethodName) prog_2_method_3_code (2 : Nat) (Option.some Jvm.ClassFile.FieldType.int)) ∈ lw_all := lw_g (lw_at lw_m0 127 rfl) rfl
theorem in_X2 : ∀ w ∈ wsX20, w ∈ lw_all := lw_in wsX20 [62, 64] (by decide +kernel) (by decide +kernel)
end
section
/-! DecimalText -/
set_option maxRecDepth 100000
def RX0 : String := "DecimalText"
def TX0 : u_T := fun k => match k with
  | 0 => ("DecimalText", "decimal", "LDecimalText$Decimal;", true)
  | 1 => ("DecimalText", "body", "LDecimalText$Bytes;", true)
  | _ => ("DecimalText", "text", "LDecimalText$Bytes;", true)
def tyX0 : Nat → FieldType := fun k => match k with
  | 0 => .object "DecimalText$Decimal"
  | 1 => .object "DecimalText$Bytes"
  | _ => .object "DecimalText$Bytes"
abbrev wsX00 : List Cond := u_ws RX0 TX0 3
theorem nmX0 : ∀ a, a < 3 → ∀ b, b < 3 → a ≠ b → (TX0 a).2.1 ≠ (TX0 b).2.1 := by decide +kernel
theorem tyX0_ok : ∀ k, k < 3 → parseFieldDescriptor (TX0 k).2.2.1 = some (tyX0 k) := by decide +kernel
abbrev cX0_init : ByteArray := prog_1_method_1_code
def yX0_init : MethodName := ⟨RX0, "<init>", "()V"⟩
theorem dX0_init_0 : decode cX0_init 0 = .ok (.aload_n 0, 1) := by decide +kernel
theorem dX0_init_1 : decode cX0_init 1 = .ok (.invokespecial 1, 3) := by decide +kernel
theorem dX0_init_4 : decode cX0_init 4 = .ok (.aload_n 0, 1) := by decide +kernel
theorem dX0_init_5 : decode cX0_init 5 = .ok (.new 7, 3) := by decide +kernel
theorem dX0_init_8 : decode cX0_init 8 = .ok (.dup, 1) := by decide +kernel
theorem dX0_init_9 : decode cX0_init 9 = .ok (.invokespecial 9, 3) := by decide +kernel
theorem dX0_init_12 : decode cX0_init 12 = .ok (.putfield 10, 3) := by decide +kernel
theorem dX0_init_15 : decode cX0_init 15 = .ok (.aload_n 0, 1) := by decide +kernel
theorem dX0_init_16 : decode cX0_init 16 = .ok (.new 16, 3) := by decide +kernel
theorem dX0_init_19 : decode cX0_init 19 = .ok (.dup, 1) := by decide +kernel
theorem dX0_init_20 : decode cX0_init 20 = .ok (.bipush 64, 2) := by decide +kernel
theorem dX0_init_22 : decode cX0_init 22 = .ok (.invokespecial 18, 3) := by decide +kernel
theorem dX0_init_25 : decode cX0_init 25 = .ok (.putfield 21, 3) := by decide +kernel
theorem dX0_init_28 : decode cX0_init 28 = .ok (.aload_n 0, 1) := by decide +kernel
theorem dX0_init_29 : decode cX0_init 29 = .ok (.new 16, 3) := by decide +kernel
theorem dX0_init_32 : decode cX0_init 32 = .ok (.dup, 1) := by decide +kernel
theorem dX0_init_33 : decode cX0_init 33 = .ok (.bipush 64, 2) := by decide +kernel
theorem dX0_init_35 : decode cX0_init 35 = .ok (.invokespecial 18, 3) := by decide +kernel
theorem dX0_init_38 : decode cX0_init 38 = .ok (.putfield 25, 3) := by decide +kernel
theorem dX0_init_41 : decode cX0_init 41 = .ok (.aload_n 0, 1) := by decide +kernel
theorem dX0_init_42 : decode cX0_init 42 = .ok (.getfield 25, 3) := by decide +kernel
theorem dX0_init_45 : decode cX0_init 45 = .ok (.iconst 0, 1) := by decide +kernel
theorem dX0_init_46 : decode cX0_init 46 = .ok (.putfield 28, 3) := by decide +kernel
theorem dX0_init_49 : decode cX0_init 49 = .ok (.return_, 1) := by decide +kernel
abbrev cX0_make : ByteArray := prog_1_method_5_code
def yX0_make : MethodName := ⟨RX0, "make", "(JIIII)I"⟩
theorem dX0_make_0 : decode cX0_make 0 = .ok (.iload_n 3, 1) := by decide +kernel
theorem dX0_make_1 : decode cX0_make 1 = .ok (.ifCond .lt 52, 3) := by decide +kernel
theorem dX0_make_4 : decode cX0_make 4 = .ok (.iload_n 3, 1) := by decide +kernel
theorem dX0_make_5 : decode cX0_make 5 = .ok (.iconst 2, 1) := by decide +kernel
theorem dX0_make_6 : decode cX0_make 6 = .ok (.if_icmp .gt 47, 3) := by decide +kernel
theorem dX0_make_9 : decode cX0_make 9 = .ok (.iload 4, 2) := by decide +kernel
theorem dX0_make_11 : decode cX0_make 11 = .ok (.ifCond .lt 42, 3) := by decide +kernel
theorem dX0_make_14 : decode cX0_make 14 = .ok (.iload 4, 2) := by decide +kernel
theorem dX0_make_16 : decode cX0_make 16 = .ok (.bipush 15, 2) := by decide +kernel
theorem dX0_make_18 : decode cX0_make 18 = .ok (.if_icmp .gt 35, 3) := by decide +kernel
theorem dX0_make_21 : decode cX0_make 21 = .ok (.iload 5, 2) := by decide +kernel
theorem dX0_make_23 : decode cX0_make 23 = .ok (.ifCond .lt 30, 3) := by decide +kernel
theorem dX0_make_26 : decode cX0_make 26 = .ok (.iload 5, 2) := by decide +kernel
theorem dX0_make_28 : decode cX0_make 28 = .ok (.sipush 400, 3) := by decide +kernel
theorem dX0_make_31 : decode cX0_make 31 = .ok (.if_icmp .gt 22, 3) := by decide +kernel
theorem dX0_make_34 : decode cX0_make 34 = .ok (.iload 6, 2) := by decide +kernel
theorem dX0_make_36 : decode cX0_make 36 = .ok (.ifCond .lt 17, 3) := by decide +kernel
theorem dX0_make_39 : decode cX0_make 39 = .ok (.iload 6, 2) := by decide +kernel
theorem dX0_make_41 : decode cX0_make 41 = .ok (.bipush 31, 2) := by decide +kernel
theorem dX0_make_43 : decode cX0_make 43 = .ok (.if_icmp .gt 10, 3) := by decide +kernel
theorem dX0_make_46 : decode cX0_make 46 = .ok (.lload_n 1, 1) := by decide +kernel
theorem dX0_make_47 : decode cX0_make 47 = .ok (.invokestatic 36, 3) := by decide +kernel
theorem dX0_make_50 : decode cX0_make 50 = .ok (.ifCond .ne 5, 3) := by decide +kernel
theorem dX0_make_53 : decode cX0_make 53 = .ok (.iconst (-1), 1) := by decide +kernel
theorem dX0_make_54 : decode cX0_make 54 = .ok (.ireturn, 1) := by decide +kernel
theorem dX0_make_55 : decode cX0_make 55 = .ok (.aload_n 0, 1) := by decide +kernel
theorem dX0_make_56 : decode cX0_make 56 = .ok (.getfield 21, 3) := by decide +kernel
theorem dX0_make_59 : decode cX0_make 59 = .ok (.iconst 0, 1) := by decide +kernel
theorem dX0_make_60 : decode cX0_make 60 = .ok (.putfield 28, 3) := by decide +kernel
theorem dX0_make_63 : decode cX0_make 63 = .ok (.lload_n 1, 1) := by decide +kernel
theorem dX0_make_64 : decode cX0_make 64 = .ok (.invokestatic 40, 3) := by decide +kernel
theorem dX0_make_67 : decode cX0_make 67 = .ok (.istore 7, 2) := by decide +kernel
theorem dX0_make_69 : decode cX0_make 69 = .ok (.iload 7, 2) := by decide +kernel
theorem dX0_make_71 : decode cX0_make 71 = .ok (.ifCond .eq 33, 3) := by decide +kernel
theorem dX0_make_74 : decode cX0_make 74 = .ok (.aload_n 0, 1) := by decide +kernel
theorem dX0_make_75 : decode cX0_make 75 = .ok (.getfield 21, 3) := by decide +kernel
theorem dX0_make_78 : decode cX0_make 78 = .ok (.bipush 105, 2) := by decide +kernel
theorem dX0_make_80 : decode cX0_make 80 = .ok (.invokevirtual 43, 3) := by decide +kernel
theorem dX0_make_83 : decode cX0_make 83 = .ok (.aload_n 0, 1) := by decide +kernel
theorem dX0_make_84 : decode cX0_make 84 = .ok (.getfield 21, 3) := by decide +kernel
theorem dX0_make_87 : decode cX0_make 87 = .ok (.bipush 110, 2) := by decide +kernel
theorem dX0_make_89 : decode cX0_make 89 = .ok (.invokevirtual 43, 3) := by decide +kernel
theorem dX0_make_92 : decode cX0_make 92 = .ok (.aload_n 0, 1) := by decide +kernel
theorem dX0_make_93 : decode cX0_make 93 = .ok (.getfield 21, 3) := by decide +kernel
theorem dX0_make_96 : decode cX0_make 96 = .ok (.bipush 102, 2) := by decide +kernel
theorem dX0_make_98 : decode cX0_make 98 = .ok (.invokevirtual 43, 3) := by decide +kernel
theorem dX0_make_101 : decode cX0_make 101 = .ok (.goto 77, 3) := by decide +kernel
theorem dX0_make_104 : decode cX0_make 104 = .ok (.aload_n 0, 1) := by decide +kernel
theorem dX0_make_105 : decode cX0_make 105 = .ok (.getfield 10, 3) := by decide +kernel
theorem dX0_make_108 : decode cX0_make 108 = .ok (.lload_n 1, 1) := by decide +kernel
theorem dX0_make_109 : decode cX0_make 109 = .ok (.ldc2_w 46, 3) := by decide +kernel
theorem dX0_make_112 : decode cX0_make 112 = .ok (.land, 1) := by decide +kernel
theorem dX0_make_113 : decode cX0_make 113 = .ok (.invokestatic 48, 3) := by decide +kernel
theorem dX0_make_116 : decode cX0_make 116 = .ok (.invokevirtual 54, 3) := by decide +kernel
theorem dX0_make_119 : decode cX0_make 119 = .ok (.iload_n 3, 1) := by decide +kernel
theorem dX0_make_120 : decode cX0_make 120 = .ok (.ifCond .ne 26, 3) := by decide +kernel
theorem dX0_make_123 : decode cX0_make 123 = .ok (.aload_n 0, 1) := by decide +kernel
theorem dX0_make_124 : decode cX0_make 124 = .ok (.getfield 10, 3) := by decide +kernel
theorem dX0_make_127 : decode cX0_make 127 = .ok (.aload_n 0, 1) := by decide +kernel
theorem dX0_make_128 : decode cX0_make 128 = .ok (.getfield 21, 3) := by decide +kernel
theorem dX0_make_131 : decode cX0_make 131 = .ok (.iload 4, 2) := by decide +kernel
theorem dX0_make_133 : decode cX0_make 133 = .ok (.iload 6, 2) := by decide +kernel
theorem dX0_make_135 : decode cX0_make 135 = .ok (.bipush 16, 2) := by decide +kernel
theorem dX0_make_137 : decode cX0_make 137 = .ok (.invokestatic 58, 3) := by decide +kernel
theorem dX0_make_140 : decode cX0_make 140 = .ok (.invokevirtual 62, 3) := by decide +kernel
theorem dX0_make_143 : decode cX0_make 143 = .ok (.goto 35, 3) := by decide +kernel
theorem dX0_make_146 : decode cX0_make 146 = .ok (.aload_n 0, 1) := by decide +kernel
theorem dX0_make_147 : decode cX0_make 147 = .ok (.getfield 10, 3) := by decide +kernel
theorem dX0_make_150 : decode cX0_make 150 = .ok (.aload_n 0, 1) := by decide +kernel
theorem dX0_make_151 : decode cX0_make 151 = .ok (.getfield 21, 3) := by decide +kernel
theorem dX0_make_154 : decode cX0_make 154 = .ok (.iload 4, 2) := by decide +kernel
theorem dX0_make_156 : decode cX0_make 156 = .ok (.iload 6, 2) := by decide +kernel
theorem dX0_make_158 : decode cX0_make 158 = .ok (.bipush 16, 2) := by decide +kernel
theorem dX0_make_160 : decode cX0_make 160 = .ok (.invokestatic 58, 3) := by decide +kernel
theorem dX0_make_163 : decode cX0_make 163 = .ok (.iload_n 3, 1) := by decide +kernel
theorem dX0_make_164 : decode cX0_make 164 = .ok (.iconst 1, 1) := by decide +kernel
theorem dX0_make_165 : decode cX0_make 165 = .ok (.if_icmp .ne 8, 3) := by decide +kernel
theorem dX0_make_168 : decode cX0_make 168 = .ok (.bipush 101, 2) := by decide +kernel
theorem dX0_make_170 : decode cX0_make 170 = .ok (.goto 5, 3) := by decide +kernel
theorem dX0_make_173 : decode cX0_make 173 = .ok (.bipush 69, 2) := by decide +kernel
theorem dX0_make_175 : decode cX0_make 175 = .ok (.invokevirtual 66, 3) := by decide +kernel
theorem dX0_make_178 : decode cX0_make 178 = .ok (.lload_n 1, 1) := by decide +kernel
theorem dX0_make_179 : decode cX0_make 179 = .ok (.lconst 0, 1) := by decide +kernel
theorem dX0_make_180 : decode cX0_make 180 = .ok (.lcmp, 1) := by decide +kernel
theorem dX0_make_181 : decode cX0_make 181 = .ok (.ifCond .ge 8, 3) := by decide +kernel
theorem dX0_make_184 : decode cX0_make 184 = .ok (.bipush 45, 2) := by decide +kernel
theorem dX0_make_186 : decode cX0_make 186 = .ok (.goto 32, 3) := by decide +kernel
theorem dX0_make_189 : decode cX0_make 189 = .ok (.iload 6, 2) := by decide +kernel
theorem dX0_make_191 : decode cX0_make 191 = .ok (.iconst 2, 1) := by decide +kernel
theorem dX0_make_192 : decode cX0_make 192 = .ok (.invokestatic 58, 3) := by decide +kernel
theorem dX0_make_195 : decode cX0_make 195 = .ok (.ifCond .eq 8, 3) := by decide +kernel
theorem dX0_make_198 : decode cX0_make 198 = .ok (.bipush 43, 2) := by decide +kernel
theorem dX0_make_200 : decode cX0_make 200 = .ok (.goto 18, 3) := by decide +kernel
theorem dX0_make_203 : decode cX0_make 203 = .ok (.iload 6, 2) := by decide +kernel
theorem dX0_make_205 : decode cX0_make 205 = .ok (.iconst 4, 1) := by decide +kernel
theorem dX0_make_206 : decode cX0_make 206 = .ok (.invokestatic 58, 3) := by decide +kernel
theorem dX0_make_209 : decode cX0_make 209 = .ok (.ifCond .eq 8, 3) := by decide +kernel
theorem dX0_make_212 : decode cX0_make 212 = .ok (.bipush 32, 2) := by decide +kernel
theorem dX0_make_214 : decode cX0_make 214 = .ok (.goto 4, 3) := by decide +kernel
theorem dX0_make_217 : decode cX0_make 217 = .ok (.iconst 0, 1) := by decide +kernel
theorem dX0_make_218 : decode cX0_make 218 = .ok (.istore 8, 2) := by decide +kernel
theorem dX0_make_220 : decode cX0_make 220 = .ok (.aload_n 0, 1) := by decide +kernel
theorem dX0_make_221 : decode cX0_make 221 = .ok (.iload 8, 2) := by decide +kernel
theorem dX0_make_223 : decode cX0_make 223 = .ok (.iload 5, 2) := by decide +kernel
theorem dX0_make_225 : decode cX0_make 225 = .ok (.iload 6, 2) := by decide +kernel
theorem dX0_make_227 : decode cX0_make 227 = .ok (.iload 7, 2) := by decide +kernel
theorem dX0_make_229 : decode cX0_make 229 = .ok (.invokevirtual 70, 3) := by decide +kernel
theorem dX0_make_232 : decode cX0_make 232 = .ok (.aload_n 0, 1) := by decide +kernel
theorem dX0_make_233 : decode cX0_make 233 = .ok (.getfield 25, 3) := by decide +kernel
theorem dX0_make_236 : decode cX0_make 236 = .ok (.getfield 28, 3) := by decide +kernel
theorem dX0_make_239 : decode cX0_make 239 = .ok (.ireturn, 1) := by decide +kernel
abbrev cX0_isNumber : ByteArray := prog_1_method_2_code
def yX0_isNumber : MethodName := ⟨RX0, "isNumber", "(J)Z"⟩
theorem dX0_isNumber_0 : decode cX0_isNumber 0 = .ok (.lload_n 0, 1) := by decide +kernel
theorem dX0_isNumber_1 : decode cX0_isNumber 1 = .ok (.bipush 52, 2) := by decide +kernel
theorem dX0_isNumber_3 : decode cX0_isNumber 3 = .ok (.lshr, 1) := by decide +kernel
theorem dX0_isNumber_4 : decode cX0_isNumber 4 = .ok (.ldc2_w 32, 3) := by decide +kernel
theorem dX0_isNumber_7 : decode cX0_isNumber 7 = .ok (.land, 1) := by decide +kernel
theorem dX0_isNumber_8 : decode cX0_isNumber 8 = .ok (.ldc2_w 32, 3) := by decide +kernel
theorem dX0_isNumber_11 : decode cX0_isNumber 11 = .ok (.lcmp, 1) := by decide +kernel
theorem dX0_isNumber_12 : decode cX0_isNumber 12 = .ok (.ifCond .lt 13, 3) := by decide +kernel
theorem dX0_isNumber_15 : decode cX0_isNumber 15 = .ok (.lload_n 0, 1) := by decide +kernel
theorem dX0_isNumber_16 : decode cX0_isNumber 16 = .ok (.ldc2_w 34, 3) := by decide +kernel
theorem dX0_isNumber_19 : decode cX0_isNumber 19 = .ok (.land, 1) := by decide +kernel
theorem dX0_isNumber_20 : decode cX0_isNumber 20 = .ok (.lconst 0, 1) := by decide +kernel
theorem dX0_isNumber_21 : decode cX0_isNumber 21 = .ok (.lcmp, 1) := by decide +kernel
theorem dX0_isNumber_22 : decode cX0_isNumber 22 = .ok (.ifCond .ne 7, 3) := by decide +kernel
theorem dX0_isNumber_25 : decode cX0_isNumber 25 = .ok (.iconst 1, 1) := by decide +kernel
theorem dX0_isNumber_26 : decode cX0_isNumber 26 = .ok (.goto 4, 3) := by decide +kernel
theorem dX0_isNumber_29 : decode cX0_isNumber 29 = .ok (.iconst 0, 1) := by decide +kernel
theorem dX0_isNumber_30 : decode cX0_isNumber 30 = .ok (.ireturn, 1) := by decide +kernel
abbrev cX0_isEndless : ByteArray := prog_1_method_3_code
def yX0_isEndless : MethodName := ⟨RX0, "isEndless", "(J)Z"⟩
theorem dX0_isEndless_0 : decode cX0_isEndless 0 = .ok (.lload_n 0, 1) := by decide +kernel
theorem dX0_isEndless_1 : decode cX0_isEndless 1 = .ok (.bipush 52, 2) := by decide +kernel
theorem dX0_isEndless_3 : decode cX0_isEndless 3 = .ok (.lshr, 1) := by decide +kernel
theorem dX0_isEndless_4 : decode cX0_isEndless 4 = .ok (.ldc2_w 32, 3) := by decide +kernel
theorem dX0_isEndless_7 : decode cX0_isEndless 7 = .ok (.land, 1) := by decide +kernel
theorem dX0_isEndless_8 : decode cX0_isEndless 8 = .ok (.ldc2_w 32, 3) := by decide +kernel
theorem dX0_isEndless_11 : decode cX0_isEndless 11 = .ok (.lcmp, 1) := by decide +kernel
theorem dX0_isEndless_12 : decode cX0_isEndless 12 = .ok (.ifCond .ne 7, 3) := by decide +kernel
theorem dX0_isEndless_15 : decode cX0_isEndless 15 = .ok (.iconst 1, 1) := by decide +kernel
theorem dX0_isEndless_16 : decode cX0_isEndless 16 = .ok (.goto 4, 3) := by decide +kernel
theorem dX0_isEndless_19 : decode cX0_isEndless 19 = .ok (.iconst 0, 1) := by decide +kernel
theorem dX0_isEndless_20 : decode cX0_isEndless 20 = .ok (.ireturn, 1) := by decide +kernel
abbrev cX0_has : ByteArray := prog_1_method_4_code
def yX0_has : MethodName := ⟨RX0, "has", "(II)Z"⟩
theorem dX0_has_0 : decode cX0_has 0 = .ok (.iload_n 0, 1) := by decide +kernel
theorem dX0_has_1 : decode cX0_has 1 = .ok (.iload_n 1, 1) := by decide +kernel
theorem dX0_has_2 : decode cX0_has 2 = .ok (.iand, 1) := by decide +kernel
theorem dX0_has_3 : decode cX0_has 3 = .ok (.ifCond .eq 7, 3) := by decide +kernel
theorem dX0_has_6 : decode cX0_has 6 = .ok (.iconst 1, 1) := by decide +kernel
theorem dX0_has_7 : decode cX0_has 7 = .ok (.goto 4, 3) := by decide +kernel
theorem dX0_has_10 : decode cX0_has 10 = .ok (.iconst 0, 1) := by decide +kernel
theorem dX0_has_11 : decode cX0_has 11 = .ok (.ireturn, 1) := by decide +kernel
abbrev cX0_arrange : ByteArray := prog_1_method_6_code
def yX0_arrange : MethodName := ⟨RX0, "arrange", "(IIIZ)V"⟩
theorem dX0_arrange_0 : decode cX0_arrange 0 = .ok (.aload_n 0, 1) := by decide +kernel
theorem dX0_arrange_1 : decode cX0_arrange 1 = .ok (.getfield 25, 3) := by decide +kernel
theorem dX0_arrange_4 : decode cX0_arrange 4 = .ok (.iconst 0, 1) := by decide +kernel
theorem dX0_arrange_5 : decode cX0_arrange 5 = .ok (.putfield 28, 3) := by decide +kernel
theorem dX0_arrange_8 : decode cX0_arrange 8 = .ok (.iload_n 2, 1) := by decide +kernel
theorem dX0_arrange_9 : decode cX0_arrange 9 = .ok (.aload_n 0, 1) := by decide +kernel
theorem dX0_arrange_10 : decode cX0_arrange 10 = .ok (.getfield 21, 3) := by decide +kernel
theorem dX0_arrange_13 : decode cX0_arrange 13 = .ok (.getfield 28, 3) := by decide +kernel
theorem dX0_arrange_16 : decode cX0_arrange 16 = .ok (.isub, 1) := by decide +kernel
theorem dX0_arrange_17 : decode cX0_arrange 17 = .ok (.iload_n 1, 1) := by decide +kernel
theorem dX0_arrange_18 : decode cX0_arrange 18 = .ok (.ifCond .ne 7, 3) := by decide +kernel
theorem dX0_arrange_21 : decode cX0_arrange 21 = .ok (.iconst 0, 1) := by decide +kernel
theorem dX0_arrange_22 : decode cX0_arrange 22 = .ok (.goto 4, 3) := by decide +kernel
theorem dX0_arrange_25 : decode cX0_arrange 25 = .ok (.iconst 1, 1) := by decide +kernel
theorem dX0_arrange_26 : decode cX0_arrange 26 = .ok (.isub, 1) := by decide +kernel
theorem dX0_arrange_27 : decode cX0_arrange 27 = .ok (.istore 5, 2) := by decide +kernel
theorem dX0_arrange_29 : decode cX0_arrange 29 = .ok (.iload_n 3, 1) := by decide +kernel
theorem dX0_arrange_30 : decode cX0_arrange 30 = .ok (.iconst 1, 1) := by decide +kernel
theorem dX0_arrange_31 : decode cX0_arrange 31 = .ok (.invokestatic 58, 3) := by decide +kernel
theorem dX0_arrange_34 : decode cX0_arrange 34 = .ok (.istore 6, 2) := by decide +kernel
theorem dX0_arrange_36 : decode cX0_arrange 36 = .ok (.iload_n 3, 1) := by decide +kernel
theorem dX0_arrange_37 : decode cX0_arrange 37 = .ok (.bipush 8, 2) := by decide +kernel
theorem dX0_arrange_39 : decode cX0_arrange 39 = .ok (.invokestatic 58, 3) := by decide +kernel
theorem dX0_arrange_42 : decode cX0_arrange 42 = .ok (.ifCond .eq 17, 3) := by decide +kernel
theorem dX0_arrange_45 : decode cX0_arrange 45 = .ok (.iload 6, 2) := by decide +kernel
theorem dX0_arrange_47 : decode cX0_arrange 47 = .ok (.ifCond .ne 12, 3) := by decide +kernel
theorem dX0_arrange_50 : decode cX0_arrange 50 = .ok (.iload 4, 2) := by decide +kernel
theorem dX0_arrange_52 : decode cX0_arrange 52 = .ok (.ifCond .ne 7, 3) := by decide +kernel
theorem dX0_arrange_55 : decode cX0_arrange 55 = .ok (.iconst 1, 1) := by decide +kernel
theorem dX0_arrange_56 : decode cX0_arrange 56 = .ok (.goto 4, 3) := by decide +kernel
theorem dX0_arrange_59 : decode cX0_arrange 59 = .ok (.iconst 0, 1) := by decide +kernel
theorem dX0_arrange_60 : decode cX0_arrange 60 = .ok (.istore 7, 2) := by decide +kernel
theorem dX0_arrange_62 : decode cX0_arrange 62 = .ok (.iconst 0, 1) := by decide +kernel
theorem dX0_arrange_63 : decode cX0_arrange 63 = .ok (.istore 8, 2) := by decide +kernel
theorem dX0_arrange_65 : decode cX0_arrange 65 = .ok (.iload 8, 2) := by decide +kernel
theorem dX0_arrange_67 : decode cX0_arrange 67 = .ok (.iload 5, 2) := by decide +kernel
theorem dX0_arrange_69 : decode cX0_arrange 69 = .ok (.if_icmp .ge 28, 3) := by decide +kernel
theorem dX0_arrange_72 : decode cX0_arrange 72 = .ok (.iload 6, 2) := by decide +kernel
theorem dX0_arrange_74 : decode cX0_arrange 74 = .ok (.ifCond .ne 23, 3) := by decide +kernel
theorem dX0_arrange_77 : decode cX0_arrange 77 = .ok (.iload 7, 2) := by decide +kernel
theorem dX0_arrange_79 : decode cX0_arrange 79 = .ok (.ifCond .ne 18, 3) := by decide +kernel
theorem dX0_arrange_82 : decode cX0_arrange 82 = .ok (.aload_n 0, 1) := by decide +kernel
theorem dX0_arrange_83 : decode cX0_arrange 83 = .ok (.getfield 25, 3) := by decide +kernel
theorem dX0_arrange_86 : decode cX0_arrange 86 = .ok (.bipush 32, 2) := by decide +kernel
theorem dX0_arrange_88 : decode cX0_arrange 88 = .ok (.invokevirtual 43, 3) := by decide +kernel
theorem dX0_arrange_91 : decode cX0_arrange 91 = .ok (.iinc 8 1, 3) := by decide +kernel
theorem dX0_arrange_94 : decode cX0_arrange 94 = .ok (.goto (-29), 3) := by decide +kernel
theorem dX0_arrange_97 : decode cX0_arrange 97 = .ok (.iload_n 1, 1) := by decide +kernel
theorem dX0_arrange_98 : decode cX0_arrange 98 = .ok (.ifCond .eq 11, 3) := by decide +kernel
theorem dX0_arrange_101 : decode cX0_arrange 101 = .ok (.aload_n 0, 1) := by decide +kernel
theorem dX0_arrange_102 : decode cX0_arrange 102 = .ok (.getfield 25, 3) := by decide +kernel
theorem dX0_arrange_105 : decode cX0_arrange 105 = .ok (.iload_n 1, 1) := by decide +kernel
theorem dX0_arrange_106 : decode cX0_arrange 106 = .ok (.invokevirtual 43, 3) := by decide +kernel
theorem dX0_arrange_109 : decode cX0_arrange 109 = .ok (.iconst 0, 1) := by decide +kernel
theorem dX0_arrange_110 : decode cX0_arrange 110 = .ok (.istore 8, 2) := by decide +kernel
theorem dX0_arrange_112 : decode cX0_arrange 112 = .ok (.iload 8, 2) := by decide +kernel
theorem dX0_arrange_114 : decode cX0_arrange 114 = .ok (.iload 5, 2) := by decide +kernel
theorem dX0_arrange_116 : decode cX0_arrange 116 = .ok (.if_icmp .ge 23, 3) := by decide +kernel
theorem dX0_arrange_119 : decode cX0_arrange 119 = .ok (.iload 7, 2) := by decide +kernel
theorem dX0_arrange_121 : decode cX0_arrange 121 = .ok (.ifCond .eq 18, 3) := by decide +kernel
theorem dX0_arrange_124 : decode cX0_arrange 124 = .ok (.aload_n 0, 1) := by decide +kernel
theorem dX0_arrange_125 : decode cX0_arrange 125 = .ok (.getfield 25, 3) := by decide +kernel
theorem dX0_arrange_128 : decode cX0_arrange 128 = .ok (.bipush 48, 2) := by decide +kernel
theorem dX0_arrange_130 : decode cX0_arrange 130 = .ok (.invokevirtual 43, 3) := by decide +kernel
theorem dX0_arrange_133 : decode cX0_arrange 133 = .ok (.iinc 8 1, 3) := by decide +kernel
theorem dX0_arrange_136 : decode cX0_arrange 136 = .ok (.goto (-24), 3) := by decide +kernel
theorem dX0_arrange_139 : decode cX0_arrange 139 = .ok (.iconst 0, 1) := by decide +kernel
theorem dX0_arrange_140 : decode cX0_arrange 140 = .ok (.istore 8, 2) := by decide +kernel
theorem dX0_arrange_142 : decode cX0_arrange 142 = .ok (.iload 8, 2) := by decide +kernel
theorem dX0_arrange_144 : decode cX0_arrange 144 = .ok (.aload_n 0, 1) := by decide +kernel
theorem dX0_arrange_145 : decode cX0_arrange 145 = .ok (.getfield 21, 3) := by decide +kernel
theorem dX0_arrange_148 : decode cX0_arrange 148 = .ok (.getfield 28, 3) := by decide +kernel
theorem dX0_arrange_151 : decode cX0_arrange 151 = .ok (.if_icmp .ge 25, 3) := by decide +kernel
theorem dX0_arrange_154 : decode cX0_arrange 154 = .ok (.aload_n 0, 1) := by decide +kernel
theorem dX0_arrange_155 : decode cX0_arrange 155 = .ok (.getfield 25, 3) := by decide +kernel
theorem dX0_arrange_158 : decode cX0_arrange 158 = .ok (.aload_n 0, 1) := by decide +kernel
theorem dX0_arrange_159 : decode cX0_arrange 159 = .ok (.getfield 21, 3) := by decide +kernel
theorem dX0_arrange_162 : decode cX0_arrange 162 = .ok (.iload 8, 2) := by decide +kernel
theorem dX0_arrange_164 : decode cX0_arrange 164 = .ok (.invokevirtual 74, 3) := by decide +kernel
theorem dX0_arrange_167 : decode cX0_arrange 167 = .ok (.invokevirtual 43, 3) := by decide +kernel
theorem dX0_arrange_170 : decode cX0_arrange 170 = .ok (.iinc 8 1, 3) := by decide +kernel
theorem dX0_arrange_173 : decode cX0_arrange 173 = .ok (.goto (-31), 3) := by decide +kernel
theorem dX0_arrange_176 : decode cX0_arrange 176 = .ok (.iconst 0, 1) := by decide +kernel
theorem dX0_arrange_177 : decode cX0_arrange 177 = .ok (.istore 8, 2) := by decide +kernel
theorem dX0_arrange_179 : decode cX0_arrange 179 = .ok (.iload 8, 2) := by decide +kernel
theorem dX0_arrange_181 : decode cX0_arrange 181 = .ok (.iload 5, 2) := by decide +kernel
theorem dX0_arrange_183 : decode cX0_arrange 183 = .ok (.if_icmp .ge 23, 3) := by decide +kernel
theorem dX0_arrange_186 : decode cX0_arrange 186 = .ok (.iload 6, 2) := by decide +kernel
theorem dX0_arrange_188 : decode cX0_arrange 188 = .ok (.ifCond .eq 18, 3) := by decide +kernel
theorem dX0_arrange_191 : decode cX0_arrange 191 = .ok (.aload_n 0, 1) := by decide +kernel
theorem dX0_arrange_192 : decode cX0_arrange 192 = .ok (.getfield 25, 3) := by decide +kernel
theorem dX0_arrange_195 : decode cX0_arrange 195 = .ok (.bipush 32, 2) := by decide +kernel
theorem dX0_arrange_197 : decode cX0_arrange 197 = .ok (.invokevirtual 43, 3) := by decide +kernel
theorem dX0_arrange_200 : decode cX0_arrange 200 = .ok (.iinc 8 1, 3) := by decide +kernel
theorem dX0_arrange_203 : decode cX0_arrange 203 = .ok (.goto (-24), 3) := by decide +kernel
theorem dX0_arrange_206 : decode cX0_arrange 206 = .ok (.return_, 1) := by decide +kernel
abbrev cX0_at : ByteArray := prog_1_method_7_code
def yX0_at : MethodName := ⟨RX0, "at", "(I)I"⟩
theorem dX0_at_0 : decode cX0_at 0 = .ok (.iload_n 1, 1) := by decide +kernel
theorem dX0_at_1 : decode cX0_at 1 = .ok (.ifCond .lt 25, 3) := by decide +kernel
theorem dX0_at_4 : decode cX0_at 4 = .ok (.iload_n 1, 1) := by decide +kernel
theorem dX0_at_5 : decode cX0_at 5 = .ok (.aload_n 0, 1) := by decide +kernel
theorem dX0_at_6 : decode cX0_at 6 = .ok (.getfield 25, 3) := by decide +kernel
theorem dX0_at_9 : decode cX0_at 9 = .ok (.getfield 28, 3) := by decide +kernel
theorem dX0_at_12 : decode cX0_at 12 = .ok (.if_icmp .ge 14, 3) := by decide +kernel
theorem dX0_at_15 : decode cX0_at 15 = .ok (.aload_n 0, 1) := by decide +kernel
theorem dX0_at_16 : decode cX0_at 16 = .ok (.getfield 25, 3) := by decide +kernel
theorem dX0_at_19 : decode cX0_at 19 = .ok (.iload_n 1, 1) := by decide +kernel
theorem dX0_at_20 : decode cX0_at 20 = .ok (.invokevirtual 74, 3) := by decide +kernel
theorem dX0_at_23 : decode cX0_at 23 = .ok (.goto 4, 3) := by decide +kernel
theorem dX0_at_26 : decode cX0_at 26 = .ok (.iconst (-1), 1) := by decide +kernel
theorem dX0_at_27 : decode cX0_at 27 = .ok (.ireturn, 1) := by decide +kernel
abbrev cX0_digits : ByteArray := prog_1_method_8_code
def yX0_digits : MethodName := ⟨RX0, "digits", "(J)I"⟩
theorem dX0_digits_0 : decode cX0_digits 0 = .ok (.lload_n 1, 1) := by decide +kernel
theorem dX0_digits_1 : decode cX0_digits 1 = .ok (.invokestatic 40, 3) := by decide +kernel
theorem dX0_digits_4 : decode cX0_digits 4 = .ok (.ifCond .eq 5, 3) := by decide +kernel
theorem dX0_digits_7 : decode cX0_digits 7 = .ok (.iconst (-1), 1) := by decide +kernel
theorem dX0_digits_8 : decode cX0_digits 8 = .ok (.ireturn, 1) := by decide +kernel
theorem dX0_digits_9 : decode cX0_digits 9 = .ok (.aload_n 0, 1) := by decide +kernel
theorem dX0_digits_10 : decode cX0_digits 10 = .ok (.getfield 10, 3) := by decide +kernel
theorem dX0_digits_13 : decode cX0_digits 13 = .ok (.lload_n 1, 1) := by decide +kernel
theorem dX0_digits_14 : decode cX0_digits 14 = .ok (.ldc2_w 46, 3) := by decide +kernel
theorem dX0_digits_17 : decode cX0_digits 17 = .ok (.land, 1) := by decide +kernel
theorem dX0_digits_18 : decode cX0_digits 18 = .ok (.invokestatic 48, 3) := by decide +kernel
theorem dX0_digits_21 : decode cX0_digits 21 = .ok (.invokevirtual 54, 3) := by decide +kernel
theorem dX0_digits_24 : decode cX0_digits 24 = .ok (.aload_n 0, 1) := by decide +kernel
theorem dX0_digits_25 : decode cX0_digits 25 = .ok (.getfield 10, 3) := by decide +kernel
theorem dX0_digits_28 : decode cX0_digits 28 = .ok (.getfield 78, 3) := by decide +kernel
theorem dX0_digits_31 : decode cX0_digits 31 = .ok (.istore_n 3, 1) := by decide +kernel
theorem dX0_digits_32 : decode cX0_digits 32 = .ok (.iload_n 3, 1) := by decide +kernel
theorem dX0_digits_33 : decode cX0_digits 33 = .ok (.ifCond .le 23, 3) := by decide +kernel
theorem dX0_digits_36 : decode cX0_digits 36 = .ok (.aload_n 0, 1) := by decide +kernel
theorem dX0_digits_37 : decode cX0_digits 37 = .ok (.getfield 10, 3) := by decide +kernel
theorem dX0_digits_40 : decode cX0_digits 40 = .ok (.getfield 81, 3) := by decide +kernel
theorem dX0_digits_43 : decode cX0_digits 43 = .ok (.iload_n 3, 1) := by decide +kernel
theorem dX0_digits_44 : decode cX0_digits 44 = .ok (.iconst 1, 1) := by decide +kernel
theorem dX0_digits_45 : decode cX0_digits 45 = .ok (.isub, 1) := by decide +kernel
theorem dX0_digits_46 : decode cX0_digits 46 = .ok (.baload, 1) := by decide +kernel
theorem dX0_digits_47 : decode cX0_digits 47 = .ok (.ifCond .ne 9, 3) := by decide +kernel
theorem dX0_digits_50 : decode cX0_digits 50 = .ok (.iinc 3 (-1), 3) := by decide +kernel
theorem dX0_digits_53 : decode cX0_digits 53 = .ok (.goto (-21), 3) := by decide +kernel
theorem dX0_digits_56 : decode cX0_digits 56 = .ok (.iload_n 3, 1) := by decide +kernel
theorem dX0_digits_57 : decode cX0_digits 57 = .ok (.ireturn, 1) := by decide +kernel
theorem q14 : (Jvm.Cond.initialized "DecimalText") ∈ lw_all := lw_g (lw_at lw_m0 1 rfl) rfl
theorem q20 : (Jvm.Cond.instantiable "DecimalText" (3 : Nat)) ∈ lw_all := lw_g (lw_at lw_m0 7 rfl) rfl
theorem q22 : (Jvm.Cond.instanceMethod ({ cls := "DecimalText", name := "<init>", desc := "()V" } : Jvm.MethodName)) ∈ lw_all := lw_g (lw_at lw_m0 9 rfl) rfl
theorem q23 : (Jvm.Cond.code ({ cls := "DecimalText", name := "<init>", desc := "()V" } : Jvm.MethodName) prog_1_method_1_code (1 : Nat) (Option.none : Option Jvm.ClassFile.FieldType)) ∈ lw_all := lw_g (lw_at lw_m0 10 rfl) rfl
theorem q24 : (Jvm.Cond.methodLink "DecimalText" (1 : Nat) ({ cls := "java/lang/Object", name := "<init>", desc := "()V" } : Jvm.MethodName)) ∈ lw_all := lw_g (lw_at lw_m0 11 rfl) rfl
theorem q27 : (Jvm.Cond.classLink "DecimalText" (7 : Nat) "DecimalText$Decimal") ∈ lw_all := lw_g (lw_at lw_m0 14 rfl) rfl
theorem q29 : (Jvm.Cond.methodLinkNest "DecimalText" (9 : Nat) ({ cls := "DecimalText$Decimal", name := "<init>", desc := "()V" } : Jvm.MethodName) "DecimalText") ∈ lw_tbl := lw_at lw_m0 16 rfl
theorem q36 : (Jvm.Cond.fieldLinkNest "DecimalText" (81 : Nat) "DecimalText$Decimal" "digits" "[B" "DecimalText") ∈ lw_tbl := lw_at lw_m0 23 rfl
theorem q38 : (Jvm.Cond.fieldLinkNest "DecimalText" (78 : Nat) "DecimalText$Decimal" "count" "I" "DecimalText") ∈ lw_tbl := lw_at lw_m0 25 rfl
theorem q53 : (Jvm.Cond.classLink "DecimalText" (16 : Nat) "DecimalText$Bytes") ∈ lw_all := lw_g (lw_at lw_m0 40 rfl) rfl
theorem q55 : (Jvm.Cond.methodLink "DecimalText" (18 : Nat) ({ cls := "DecimalText$Bytes", name := "<init>", desc := "(I)V" } : Jvm.MethodName)) ∈ lw_all := lw_g (lw_at lw_m0 42 rfl) rfl
theorem q60 : (Jvm.Cond.fieldLink "DecimalText" (28 : Nat) "DecimalText$Bytes" "size" "I") ∈ lw_all := lw_g (lw_at lw_m0 47 rfl) rfl
theorem q67 : (Jvm.Cond.fieldLink "DecimalText" (10 : Nat) "DecimalText" "decimal" "LDecimalText$Decimal;") ∈ lw_all := lw_g (lw_at lw_m0 54 rfl) rfl
theorem q68 : (Jvm.Cond.fieldLink "DecimalText" (21 : Nat) "DecimalText" "body" "LDecimalText$Bytes;") ∈ lw_all := lw_g (lw_at lw_m0 55 rfl) rfl
theorem q69 : (Jvm.Cond.fieldLink "DecimalText" (25 : Nat) "DecimalText" "text" "LDecimalText$Bytes;") ∈ lw_all := lw_g (lw_at lw_m0 56 rfl) rfl
theorem q70 : (Jvm.Cond.laysFinal "DecimalText" "DecimalText" "decimal" "LDecimalText$Decimal;") ∈ lw_all := lw_g (lw_at lw_m0 57 rfl) rfl
theorem q71 : (Jvm.Cond.soleField "DecimalText" "decimal") ∈ lw_all := lw_g (lw_at lw_m0 58 rfl) rfl
theorem q72 : (Jvm.Cond.laysFinal "DecimalText" "DecimalText" "body" "LDecimalText$Bytes;") ∈ lw_all := lw_g (lw_at lw_m0 59 rfl) rfl
theorem q73 : (Jvm.Cond.soleField "DecimalText" "body") ∈ lw_all := lw_g (lw_at lw_m0 60 rfl) rfl
theorem q74 : (Jvm.Cond.laysFinal "DecimalText" "DecimalText" "text" "LDecimalText$Bytes;") ∈ lw_all := lw_g (lw_at lw_m0 61 rfl) rfl
theorem q75 : (Jvm.Cond.soleField "DecimalText" "text") ∈ lw_all := lw_g (lw_at lw_m0 62 rfl) rfl
theorem q76 : (Jvm.Cond.superclass "DecimalText" "java/lang/Object") ∈ lw_all := lw_g (lw_at lw_m0 63 rfl) rfl
theorem q78 : (Jvm.Cond.instanceMethod ({ cls := "DecimalText", name := "make", desc := "(JIIII)I" } : Jvm.MethodName)) ∈ lw_all := lw_g (lw_at lw_m0 65 rfl) rfl
theorem q79 : (Jvm.Cond.selects "DecimalText" ({ cls := "DecimalText", name := "make", desc := "(JIIII)I" } : Jvm.MethodName) ({ cls := "DecimalText", name := "make", desc := "(JIIII)I" } : Jvm.MethodName)) ∈ lw_all := lw_g (lw_at lw_m0 66 rfl) rfl
theorem q80 : (Jvm.Cond.code ({ cls := "DecimalText", name := "make", desc := "(JIIII)I" } : Jvm.MethodName) prog_1_method_5_code (9 : Nat) (Option.some Jvm.ClassFile.FieldType.int)) ∈ lw_all := lw_g (lw_at lw_m0 67 rfl) rfl
theorem q81 : (Jvm.Cond.methodLink "DecimalText" (36 : Nat) ({ cls := "DecimalText", name := "isNumber", desc := "(J)Z" } : Jvm.MethodName)) ∈ lw_all := lw_g (lw_at lw_m0 68 rfl) rfl
theorem q82 : (Jvm.Cond.static ({ cls := "DecimalText", name := "isNumber", desc := "(J)Z" } : Jvm.MethodName)) ∈ lw_all := lw_g (lw_at lw_m0 69 rfl) rfl
theorem q83 : (Jvm.Cond.code ({ cls := "DecimalText", name := "isNumber", desc := "(J)Z" } : Jvm.MethodName) prog_1_method_2_code (2 : Nat) (Option.some Jvm.ClassFile.FieldType.boolean)) ∈ lw_all := lw_g (lw_at lw_m0 70 rfl) rfl
theorem q84 : (Jvm.Cond.constantLong "DecimalText" (32 : Nat) (2047 : Int64)) ∈ lw_all := lw_g (lw_at lw_m0 71 rfl) rfl
theorem q85 : (Jvm.Cond.constantLong "DecimalText" (34 : Nat) (4503599627370495 : Int64)) ∈ lw_all := lw_g (lw_at lw_m0 72 rfl) rfl
theorem q86 : (Jvm.Cond.methodLink "DecimalText" (40 : Nat) ({ cls := "DecimalText", name := "isEndless", desc := "(J)Z" } : Jvm.MethodName)) ∈ lw_all := lw_g (lw_at lw_m0 73 rfl) rfl
theorem q87 : (Jvm.Cond.static ({ cls := "DecimalText", name := "isEndless", desc := "(J)Z" } : Jvm.MethodName)) ∈ lw_all := lw_g (lw_at lw_m0 74 rfl) rfl
theorem q88 : (Jvm.Cond.code ({ cls := "DecimalText", name := "isEndless", desc := "(J)Z" } : Jvm.MethodName) prog_1_method_3_code (2 : Nat) (Option.some Jvm.ClassFile.FieldType.boolean)) ∈ lw_all := lw_g (lw_at lw_m0 75 rfl) rfl
theorem q89 : (Jvm.Cond.methodLink "DecimalText" (43 : Nat) ({ cls := "DecimalText$Bytes", name := "add", desc := "(I)V" } : Jvm.MethodName)) ∈ lw_all := lw_g (lw_at lw_m0 76 rfl) rfl
theorem q93 : (Jvm.Cond.constantLong "DecimalText" (46 : Nat) (9223372036854775807 : Int64)) ∈ lw_all := lw_g (lw_at lw_m0 80 rfl) rfl
theorem q94 : (Jvm.Cond.methodLink "DecimalText" (48 : Nat) ({ cls := "java/lang/Double", name := "longBitsToDouble", desc := "(J)D" } : Jvm.MethodName)) ∈ lw_all := lw_g (lw_at lw_m0 81 rfl) rfl
theorem q97 : (Jvm.Cond.methodLink "DecimalText" (54 : Nat) ({ cls := "DecimalText$Decimal", name := "of", desc := "(D)V" } : Jvm.MethodName)) ∈ lw_all := lw_g (lw_at lw_m0 84 rfl) rfl
theorem q113 : (Jvm.Cond.methodLink "DecimalText" (58 : Nat) ({ cls := "DecimalText", name := "has", desc := "(II)Z" } : Jvm.MethodName)) ∈ lw_all := lw_g (lw_at lw_m0 100 rfl) rfl
theorem q114 : (Jvm.Cond.static ({ cls := "DecimalText", name := "has", desc := "(II)Z" } : Jvm.MethodName)) ∈ lw_all := lw_g (lw_at lw_m0 101 rfl) rfl
theorem q115 : (Jvm.Cond.code ({ cls := "DecimalText", name := "has", desc := "(II)Z" } : Jvm.MethodName) prog_1_method_4_code (2 : Nat) (Option.some Jvm.ClassFile.FieldType.boolean)) ∈ lw_all := lw_g (lw_at lw_m0 102 rfl) rfl
theorem q116 : (Jvm.Cond.methodLink "DecimalText" (62 : Nat) ({ cls := "DecimalText$Decimal", name := "plain", desc := "(LDecimalText$Bytes;IZ)V" } : Jvm.MethodName)) ∈ lw_all := lw_g (lw_at lw_m0 103 rfl) rfl
theorem q129 : (Jvm.Cond.methodLink "DecimalText" (66 : Nat) ({ cls := "DecimalText$Decimal", name := "scientific", desc := "(LDecimalText$Bytes;IZI)V" } : Jvm.MethodName)) ∈ lw_all := lw_g (lw_at lw_m0 116 rfl) rfl
theorem q133 : (Jvm.Cond.methodLink "DecimalText" (70 : Nat) ({ cls := "DecimalText", name := "arrange", desc := "(IIIZ)V" } : Jvm.MethodName)) ∈ lw_all := lw_g (lw_at lw_m0 120 rfl) rfl
theorem q134 : (Jvm.Cond.privateMethod ({ cls := "DecimalText", name := "arrange", desc := "(IIIZ)V" } : Jvm.MethodName)) ∈ lw_tbl := lw_at lw_m0 121 rfl
theorem q135 : (Jvm.Cond.instanceMethod ({ cls := "DecimalText", name := "arrange", desc := "(IIIZ)V" } : Jvm.MethodName)) ∈ lw_all := lw_g (lw_at lw_m0 122 rfl) rfl
theorem q136 : (Jvm.Cond.code ({ cls := "DecimalText", name := "arrange", desc := "(IIIZ)V" } : Jvm.MethodName) prog_1_method_6_code (9 : Nat) (Option.none : Option Jvm.ClassFile.FieldType)) ∈ lw_all := lw_g (lw_at lw_m0 123 rfl) rfl
theorem q137 : (Jvm.Cond.methodLink "DecimalText" (74 : Nat) ({ cls := "DecimalText$Bytes", name := "at", desc := "(I)I" } : Jvm.MethodName)) ∈ lw_all := lw_g (lw_at lw_m0 124 rfl) rfl
theorem q142 : (Jvm.Cond.instanceMethod ({ cls := "DecimalText", name := "at", desc := "(I)I" } : Jvm.MethodName)) ∈ lw_all := lw_g (lw_at lw_m0 129 rfl) rfl
theorem q143 : (Jvm.Cond.selects "DecimalText" ({ cls := "DecimalText", name := "at", desc := "(I)I" } : Jvm.MethodName) ({ cls := "DecimalText", name := "at", desc := "(I)I" } : Jvm.MethodName)) ∈ lw_all := lw_g (lw_at lw_m0 130 rfl) rfl
theorem q144 : (Jvm.Cond.code ({ cls := "DecimalText", name := "at", desc := "(I)I" } : Jvm.MethodName) prog_1_method_7_code (2 : Nat) (Option.some Jvm.ClassFile.FieldType.int)) ∈ lw_all := lw_g (lw_at lw_m0 131 rfl) rfl
theorem q146 : (Jvm.Cond.instanceMethod ({ cls := "DecimalText", name := "digits", desc := "(J)I" } : Jvm.MethodName)) ∈ lw_all := lw_g (lw_at lw_m0 133 rfl) rfl
theorem q147 : (Jvm.Cond.selects "DecimalText" ({ cls := "DecimalText", name := "digits", desc := "(J)I" } : Jvm.MethodName) ({ cls := "DecimalText", name := "digits", desc := "(J)I" } : Jvm.MethodName)) ∈ lw_all := lw_g (lw_at lw_m0 134 rfl) rfl
theorem q148 : (Jvm.Cond.code ({ cls := "DecimalText", name := "digits", desc := "(J)I" } : Jvm.MethodName) prog_1_method_8_code (4 : Nat) (Option.some Jvm.ClassFile.FieldType.int)) ∈ lw_all := lw_g (lw_at lw_m0 135 rfl) rfl
theorem in_X0 : ∀ w ∈ wsX00, w ∈ lw_all := lw_in wsX00 [70, 72, 74] (by decide +kernel) (by decide +kernel)
end
section
/-! DecimalText$Decimal -/
set_option maxRecDepth 100000
def RX1 : String := "DecimalText$Decimal"
def TX1 : u_T := fun k => match k with
  | 0 => ("DecimalText$Decimal", "words", "[I", true)
  | 1 => ("DecimalText$Decimal", "size", "I", false)
  | 2 => ("DecimalText$Decimal", "digits", "[B", true)
  | 3 => ("DecimalText$Decimal", "count", "I", false)
  | _ => ("DecimalText$Decimal", "point", "I", false)
def tyX1 : Nat → FieldType := fun k => match k with
  | 0 => .array .int
  | 1 => .int
  | 2 => .array .byte
  | 3 => .int
  | _ => .int
abbrev wsX10 : List Cond := u_ws RX1 TX1 5
theorem nmX1 : ∀ a, a < 5 → ∀ b, b < 5 → a ≠ b → (TX1 a).2.1 ≠ (TX1 b).2.1 := by decide +kernel
theorem tyX1_ok : ∀ k, k < 5 → parseFieldDescriptor (TX1 k).2.2.1 = some (tyX1 k) := by decide +kernel
abbrev cX1_init : ByteArray := prog_3_method_1_code
def yX1_init : MethodName := ⟨RX1, "<init>", "()V"⟩
theorem dX1_init_0 : decode cX1_init 0 = .ok (.aload_n 0, 1) := by decide +kernel
theorem dX1_init_1 : decode cX1_init 1 = .ok (.invokespecial 1, 3) := by decide +kernel
theorem dX1_init_4 : decode cX1_init 4 = .ok (.aload_n 0, 1) := by decide +kernel
theorem dX1_init_5 : decode cX1_init 5 = .ok (.sipush 140, 3) := by decide +kernel
theorem dX1_init_8 : decode cX1_init 8 = .ok (.newarray .int, 2) := by decide +kernel
theorem dX1_init_10 : decode cX1_init 10 = .ok (.putfield 7, 3) := by decide +kernel
theorem dX1_init_13 : decode cX1_init 13 = .ok (.aload_n 0, 1) := by decide +kernel
theorem dX1_init_14 : decode cX1_init 14 = .ok (.sipush 1300, 3) := by decide +kernel
theorem dX1_init_17 : decode cX1_init 17 = .ok (.newarray .byte, 2) := by decide +kernel
theorem dX1_init_19 : decode cX1_init 19 = .ok (.putfield 13, 3) := by decide +kernel
theorem dX1_init_22 : decode cX1_init 22 = .ok (.return_, 1) := by decide +kernel
abbrev cX1_of : ByteArray := prog_3_method_3_code
def yX1_of : MethodName := ⟨RX1, "of", "(D)V"⟩
theorem dX1_of_0 : decode cX1_of 0 = .ok (.dload_n 1, 1) := by decide +kernel
theorem dX1_of_1 : decode cX1_of 1 = .ok (.invokestatic 23, 3) := by decide +kernel
theorem dX1_of_4 : decode cX1_of 4 = .ok (.lstore_n 3, 1) := by decide +kernel
theorem dX1_of_5 : decode cX1_of 5 = .ok (.lload_n 3, 1) := by decide +kernel
theorem dX1_of_6 : decode cX1_of 6 = .ok (.bipush 52, 2) := by decide +kernel
theorem dX1_of_8 : decode cX1_of 8 = .ok (.lshr, 1) := by decide +kernel
theorem dX1_of_9 : decode cX1_of 9 = .ok (.ldc2_w 29, 3) := by decide +kernel
theorem dX1_of_12 : decode cX1_of 12 = .ok (.land, 1) := by decide +kernel
theorem dX1_of_13 : decode cX1_of 13 = .ok (.l2i, 1) := by decide +kernel
theorem dX1_of_14 : decode cX1_of 14 = .ok (.istore 5, 2) := by decide +kernel
theorem dX1_of_16 : decode cX1_of 16 = .ok (.lload_n 3, 1) := by decide +kernel
theorem dX1_of_17 : decode cX1_of 17 = .ok (.ldc2_w 31, 3) := by decide +kernel
theorem dX1_of_20 : decode cX1_of 20 = .ok (.land, 1) := by decide +kernel
theorem dX1_of_21 : decode cX1_of 21 = .ok (.lstore 6, 2) := by decide +kernel
theorem dX1_of_23 : decode cX1_of 23 = .ok (.iload 5, 2) := by decide +kernel
theorem dX1_of_25 : decode cX1_of 25 = .ok (.ifCond .le 14, 3) := by decide +kernel
theorem dX1_of_28 : decode cX1_of 28 = .ok (.lload 6, 2) := by decide +kernel
theorem dX1_of_30 : decode cX1_of 30 = .ok (.ldc2_w 33, 3) := by decide +kernel
theorem dX1_of_33 : decode cX1_of 33 = .ok (.lor, 1) := by decide +kernel
theorem dX1_of_34 : decode cX1_of 34 = .ok (.lstore 6, 2) := by decide +kernel
theorem dX1_of_36 : decode cX1_of 36 = .ok (.goto 6, 3) := by decide +kernel
theorem dX1_of_39 : decode cX1_of 39 = .ok (.iconst 1, 1) := by decide +kernel
theorem dX1_of_40 : decode cX1_of 40 = .ok (.istore 5, 2) := by decide +kernel
theorem dX1_of_42 : decode cX1_of 42 = .ok (.iinc 5 (-1075), 6) := by decide +kernel
theorem dX1_of_48 : decode cX1_of 48 = .ok (.aload_n 0, 1) := by decide +kernel
theorem dX1_of_49 : decode cX1_of 49 = .ok (.iconst 0, 1) := by decide +kernel
theorem dX1_of_50 : decode cX1_of 50 = .ok (.putfield 17, 3) := by decide +kernel
theorem dX1_of_53 : decode cX1_of 53 = .ok (.lload 6, 2) := by decide +kernel
theorem dX1_of_55 : decode cX1_of 55 = .ok (.lstore 8, 2) := by decide +kernel
theorem dX1_of_57 : decode cX1_of 57 = .ok (.lload 8, 2) := by decide +kernel
theorem dX1_of_59 : decode cX1_of 59 = .ok (.lconst 0, 1) := by decide +kernel
theorem dX1_of_60 : decode cX1_of 60 = .ok (.lcmp, 1) := by decide +kernel
theorem dX1_of_61 : decode cX1_of 61 = .ok (.ifCond .le 40, 3) := by decide +kernel
theorem dX1_of_64 : decode cX1_of 64 = .ok (.aload_n 0, 1) := by decide +kernel
theorem dX1_of_65 : decode cX1_of 65 = .ok (.getfield 7, 3) := by decide +kernel
theorem dX1_of_68 : decode cX1_of 68 = .ok (.aload_n 0, 1) := by decide +kernel
theorem dX1_of_69 : decode cX1_of 69 = .ok (.getfield 17, 3) := by decide +kernel
theorem dX1_of_72 : decode cX1_of 72 = .ok (.lload 8, 2) := by decide +kernel
theorem dX1_of_74 : decode cX1_of 74 = .ok (.ldc2_w 21, 3) := by decide +kernel
theorem dX1_of_77 : decode cX1_of 77 = .ok (.lrem, 1) := by decide +kernel
theorem dX1_of_78 : decode cX1_of 78 = .ok (.l2i, 1) := by decide +kernel
theorem dX1_of_79 : decode cX1_of 79 = .ok (.iastore, 1) := by decide +kernel
theorem dX1_of_80 : decode cX1_of 80 = .ok (.aload_n 0, 1) := by decide +kernel
theorem dX1_of_81 : decode cX1_of 81 = .ok (.dup, 1) := by decide +kernel
theorem dX1_of_82 : decode cX1_of 82 = .ok (.getfield 17, 3) := by decide +kernel
theorem dX1_of_85 : decode cX1_of 85 = .ok (.iconst 1, 1) := by decide +kernel
theorem dX1_of_86 : decode cX1_of 86 = .ok (.iadd, 1) := by decide +kernel
theorem dX1_of_87 : decode cX1_of 87 = .ok (.putfield 17, 3) := by decide +kernel
theorem dX1_of_90 : decode cX1_of 90 = .ok (.lload 8, 2) := by decide +kernel
theorem dX1_of_92 : decode cX1_of 92 = .ok (.ldc2_w 21, 3) := by decide +kernel
theorem dX1_of_95 : decode cX1_of 95 = .ok (.ldiv, 1) := by decide +kernel
theorem dX1_of_96 : decode cX1_of 96 = .ok (.lstore 8, 2) := by decide +kernel
theorem dX1_of_98 : decode cX1_of 98 = .ok (.goto (-41), 3) := by decide +kernel
theorem dX1_of_101 : decode cX1_of 101 = .ok (.iconst 0, 1) := by decide +kernel
theorem dX1_of_102 : decode cX1_of 102 = .ok (.istore 8, 2) := by decide +kernel
theorem dX1_of_104 : decode cX1_of 104 = .ok (.iload 8, 2) := by decide +kernel
theorem dX1_of_106 : decode cX1_of 106 = .ok (.iload 5, 2) := by decide +kernel
theorem dX1_of_108 : decode cX1_of 108 = .ok (.if_icmp .ge 14, 3) := by decide +kernel
theorem dX1_of_111 : decode cX1_of 111 = .ok (.aload_n 0, 1) := by decide +kernel
theorem dX1_of_112 : decode cX1_of 112 = .ok (.iconst 2, 1) := by decide +kernel
theorem dX1_of_113 : decode cX1_of 113 = .ok (.invokevirtual 35, 3) := by decide +kernel
theorem dX1_of_116 : decode cX1_of 116 = .ok (.iinc 8 1, 3) := by decide +kernel
theorem dX1_of_119 : decode cX1_of 119 = .ok (.goto (-15), 3) := by decide +kernel
theorem dX1_of_122 : decode cX1_of 122 = .ok (.iconst 0, 1) := by decide +kernel
theorem dX1_of_123 : decode cX1_of 123 = .ok (.istore 8, 2) := by decide +kernel
theorem dX1_of_125 : decode cX1_of 125 = .ok (.iload 8, 2) := by decide +kernel
theorem dX1_of_127 : decode cX1_of 127 = .ok (.iload 5, 2) := by decide +kernel
theorem dX1_of_129 : decode cX1_of 129 = .ok (.if_icmp .le 14, 3) := by decide +kernel
theorem dX1_of_132 : decode cX1_of 132 = .ok (.aload_n 0, 1) := by decide +kernel
theorem dX1_of_133 : decode cX1_of 133 = .ok (.iconst 5, 1) := by decide +kernel
theorem dX1_of_134 : decode cX1_of 134 = .ok (.invokevirtual 35, 3) := by decide +kernel
theorem dX1_of_137 : decode cX1_of 137 = .ok (.iinc 8 (-1), 3) := by decide +kernel
theorem dX1_of_140 : decode cX1_of 140 = .ok (.goto (-15), 3) := by decide +kernel
theorem dX1_of_143 : decode cX1_of 143 = .ok (.aload_n 0, 1) := by decide +kernel
theorem dX1_of_144 : decode cX1_of 144 = .ok (.iconst 0, 1) := by decide +kernel
theorem dX1_of_145 : decode cX1_of 145 = .ok (.putfield 39, 3) := by decide +kernel
theorem dX1_of_148 : decode cX1_of 148 = .ok (.iconst 0, 1) := by decide +kernel
theorem dX1_of_149 : decode cX1_of 149 = .ok (.istore 8, 2) := by decide +kernel
theorem dX1_of_151 : decode cX1_of 151 = .ok (.aload_n 0, 1) := by decide +kernel
theorem dX1_of_152 : decode cX1_of 152 = .ok (.getfield 17, 3) := by decide +kernel
theorem dX1_of_155 : decode cX1_of 155 = .ok (.iconst 1, 1) := by decide +kernel
theorem dX1_of_156 : decode cX1_of 156 = .ok (.isub, 1) := by decide +kernel
theorem dX1_of_157 : decode cX1_of 157 = .ok (.istore 9, 2) := by decide +kernel
theorem dX1_of_159 : decode cX1_of 159 = .ok (.iload 9, 2) := by decide +kernel
theorem dX1_of_161 : decode cX1_of 161 = .ok (.ifCond .lt 87, 3) := by decide +kernel
theorem dX1_of_164 : decode cX1_of 164 = .ok (.ldc 42, 2) := by decide +kernel
theorem dX1_of_166 : decode cX1_of 166 = .ok (.istore 10, 2) := by decide +kernel
theorem dX1_of_168 : decode cX1_of 168 = .ok (.iload 10, 2) := by decide +kernel
theorem dX1_of_170 : decode cX1_of 170 = .ok (.ifCond .le 72, 3) := by decide +kernel
theorem dX1_of_173 : decode cX1_of 173 = .ok (.aload_n 0, 1) := by decide +kernel
theorem dX1_of_174 : decode cX1_of 174 = .ok (.getfield 7, 3) := by decide +kernel
theorem dX1_of_177 : decode cX1_of 177 = .ok (.iload 9, 2) := by decide +kernel
theorem dX1_of_179 : decode cX1_of 179 = .ok (.iaload, 1) := by decide +kernel
theorem dX1_of_180 : decode cX1_of 180 = .ok (.iload 10, 2) := by decide +kernel
theorem dX1_of_182 : decode cX1_of 182 = .ok (.idiv, 1) := by decide +kernel
theorem dX1_of_183 : decode cX1_of 183 = .ok (.bipush 10, 2) := by decide +kernel
theorem dX1_of_185 : decode cX1_of 185 = .ok (.irem, 1) := by decide +kernel
theorem dX1_of_186 : decode cX1_of 186 = .ok (.istore 11, 2) := by decide +kernel
theorem dX1_of_188 : decode cX1_of 188 = .ok (.iload 8, 2) := by decide +kernel
theorem dX1_of_190 : decode cX1_of 190 = .ok (.ifCond .ne 8, 3) := by decide +kernel
theorem dX1_of_193 : decode cX1_of 193 = .ok (.iload 11, 2) := by decide +kernel
theorem dX1_of_195 : decode cX1_of 195 = .ok (.ifCond .le 7, 3) := by decide +kernel
theorem dX1_of_198 : decode cX1_of 198 = .ok (.iconst 1, 1) := by decide +kernel
theorem dX1_of_199 : decode cX1_of 199 = .ok (.goto 4, 3) := by decide +kernel
theorem dX1_of_202 : decode cX1_of 202 = .ok (.iconst 0, 1) := by decide +kernel
theorem dX1_of_203 : decode cX1_of 203 = .ok (.istore 8, 2) := by decide +kernel
theorem dX1_of_205 : decode cX1_of 205 = .ok (.iload 8, 2) := by decide +kernel
theorem dX1_of_207 : decode cX1_of 207 = .ok (.ifCond .eq 25, 3) := by decide +kernel
theorem dX1_of_210 : decode cX1_of 210 = .ok (.aload_n 0, 1) := by decide +kernel
theorem dX1_of_211 : decode cX1_of 211 = .ok (.getfield 13, 3) := by decide +kernel
theorem dX1_of_214 : decode cX1_of 214 = .ok (.aload_n 0, 1) := by decide +kernel
theorem dX1_of_215 : decode cX1_of 215 = .ok (.getfield 39, 3) := by decide +kernel
theorem dX1_of_218 : decode cX1_of 218 = .ok (.iload 11, 2) := by decide +kernel
theorem dX1_of_220 : decode cX1_of 220 = .ok (.i2b, 1) := by decide +kernel
theorem dX1_of_221 : decode cX1_of 221 = .ok (.bastore, 1) := by decide +kernel
theorem dX1_of_222 : decode cX1_of 222 = .ok (.aload_n 0, 1) := by decide +kernel
theorem dX1_of_223 : decode cX1_of 223 = .ok (.dup, 1) := by decide +kernel
theorem dX1_of_224 : decode cX1_of 224 = .ok (.getfield 39, 3) := by decide +kernel
theorem dX1_of_227 : decode cX1_of 227 = .ok (.iconst 1, 1) := by decide +kernel
theorem dX1_of_228 : decode cX1_of 228 = .ok (.iadd, 1) := by decide +kernel
theorem dX1_of_229 : decode cX1_of 229 = .ok (.putfield 39, 3) := by decide +kernel
theorem dX1_of_232 : decode cX1_of 232 = .ok (.iload 10, 2) := by decide +kernel
theorem dX1_of_234 : decode cX1_of 234 = .ok (.bipush 10, 2) := by decide +kernel
theorem dX1_of_236 : decode cX1_of 236 = .ok (.idiv, 1) := by decide +kernel
theorem dX1_of_237 : decode cX1_of 237 = .ok (.istore 10, 2) := by decide +kernel
theorem dX1_of_239 : decode cX1_of 239 = .ok (.goto (-71), 3) := by decide +kernel
theorem dX1_of_242 : decode cX1_of 242 = .ok (.iinc 9 (-1), 3) := by decide +kernel
theorem dX1_of_245 : decode cX1_of 245 = .ok (.goto (-86), 3) := by decide +kernel
theorem dX1_of_248 : decode cX1_of 248 = .ok (.aload_n 0, 1) := by decide +kernel
theorem dX1_of_249 : decode cX1_of 249 = .ok (.iload 5, 2) := by decide +kernel
theorem dX1_of_251 : decode cX1_of 251 = .ok (.ifCond .ge 13, 3) := by decide +kernel
theorem dX1_of_254 : decode cX1_of 254 = .ok (.aload_n 0, 1) := by decide +kernel
theorem dX1_of_255 : decode cX1_of 255 = .ok (.getfield 39, 3) := by decide +kernel
theorem dX1_of_258 : decode cX1_of 258 = .ok (.iload 5, 2) := by decide +kernel
theorem dX1_of_260 : decode cX1_of 260 = .ok (.iadd, 1) := by decide +kernel
theorem dX1_of_261 : decode cX1_of 261 = .ok (.goto 7, 3) := by decide +kernel
theorem dX1_of_264 : decode cX1_of 264 = .ok (.aload_n 0, 1) := by decide +kernel
theorem dX1_of_265 : decode cX1_of 265 = .ok (.getfield 39, 3) := by decide +kernel
theorem dX1_of_268 : decode cX1_of 268 = .ok (.putfield 43, 3) := by decide +kernel
theorem dX1_of_271 : decode cX1_of 271 = .ok (.aload_n 0, 1) := by decide +kernel
theorem dX1_of_272 : decode cX1_of 272 = .ok (.getfield 39, 3) := by decide +kernel
theorem dX1_of_275 : decode cX1_of 275 = .ok (.ifCond .ne 8, 3) := by decide +kernel
theorem dX1_of_278 : decode cX1_of 278 = .ok (.aload_n 0, 1) := by decide +kernel
theorem dX1_of_279 : decode cX1_of 279 = .ok (.iconst 0, 1) := by decide +kernel
theorem dX1_of_280 : decode cX1_of 280 = .ok (.putfield 43, 3) := by decide +kernel
theorem dX1_of_283 : decode cX1_of 283 = .ok (.return_, 1) := by decide +kernel
abbrev cX1_times : ByteArray := prog_3_method_2_code
def yX1_times : MethodName := ⟨RX1, "times", "(I)V"⟩
theorem dX1_times_0 : decode cX1_times 0 = .ok (.lconst 0, 1) := by decide +kernel
theorem dX1_times_1 : decode cX1_times 1 = .ok (.lstore_n 2, 1) := by decide +kernel
theorem dX1_times_2 : decode cX1_times 2 = .ok (.iconst 0, 1) := by decide +kernel
theorem dX1_times_3 : decode cX1_times 3 = .ok (.istore 4, 2) := by decide +kernel
theorem dX1_times_5 : decode cX1_times 5 = .ok (.iload 4, 2) := by decide +kernel
theorem dX1_times_7 : decode cX1_times 7 = .ok (.aload_n 0, 1) := by decide +kernel
theorem dX1_times_8 : decode cX1_times 8 = .ok (.getfield 17, 3) := by decide +kernel
theorem dX1_times_11 : decode cX1_times 11 = .ok (.if_icmp .ge 45, 3) := by decide +kernel
theorem dX1_times_14 : decode cX1_times 14 = .ok (.aload_n 0, 1) := by decide +kernel
theorem dX1_times_15 : decode cX1_times 15 = .ok (.getfield 7, 3) := by decide +kernel
theorem dX1_times_18 : decode cX1_times 18 = .ok (.iload 4, 2) := by decide +kernel
theorem dX1_times_20 : decode cX1_times 20 = .ok (.iaload, 1) := by decide +kernel
theorem dX1_times_21 : decode cX1_times 21 = .ok (.i2l, 1) := by decide +kernel
theorem dX1_times_22 : decode cX1_times 22 = .ok (.iload_n 1, 1) := by decide +kernel
theorem dX1_times_23 : decode cX1_times 23 = .ok (.i2l, 1) := by decide +kernel
theorem dX1_times_24 : decode cX1_times 24 = .ok (.lmul, 1) := by decide +kernel
theorem dX1_times_25 : decode cX1_times 25 = .ok (.lload_n 2, 1) := by decide +kernel
theorem dX1_times_26 : decode cX1_times 26 = .ok (.ladd, 1) := by decide +kernel
theorem dX1_times_27 : decode cX1_times 27 = .ok (.lstore 5, 2) := by decide +kernel
theorem dX1_times_29 : decode cX1_times 29 = .ok (.aload_n 0, 1) := by decide +kernel
theorem dX1_times_30 : decode cX1_times 30 = .ok (.getfield 7, 3) := by decide +kernel
theorem dX1_times_33 : decode cX1_times 33 = .ok (.iload 4, 2) := by decide +kernel
theorem dX1_times_35 : decode cX1_times 35 = .ok (.lload 5, 2) := by decide +kernel
theorem dX1_times_37 : decode cX1_times 37 = .ok (.ldc2_w 21, 3) := by decide +kernel
theorem dX1_times_40 : decode cX1_times 40 = .ok (.lrem, 1) := by decide +kernel
theorem dX1_times_41 : decode cX1_times 41 = .ok (.l2i, 1) := by decide +kernel
theorem dX1_times_42 : decode cX1_times 42 = .ok (.iastore, 1) := by decide +kernel
theorem dX1_times_43 : decode cX1_times 43 = .ok (.lload 5, 2) := by decide +kernel
theorem dX1_times_45 : decode cX1_times 45 = .ok (.ldc2_w 21, 3) := by decide +kernel
theorem dX1_times_48 : decode cX1_times 48 = .ok (.ldiv, 1) := by decide +kernel
theorem dX1_times_49 : decode cX1_times 49 = .ok (.lstore_n 2, 1) := by decide +kernel
theorem dX1_times_50 : decode cX1_times 50 = .ok (.iinc 4 1, 3) := by decide +kernel
theorem dX1_times_53 : decode cX1_times 53 = .ok (.goto (-48), 3) := by decide +kernel
theorem dX1_times_56 : decode cX1_times 56 = .ok (.lload_n 2, 1) := by decide +kernel
theorem dX1_times_57 : decode cX1_times 57 = .ok (.lconst 0, 1) := by decide +kernel
theorem dX1_times_58 : decode cX1_times 58 = .ok (.lcmp, 1) := by decide +kernel
theorem dX1_times_59 : decode cX1_times 59 = .ok (.ifCond .le 37, 3) := by decide +kernel
theorem dX1_times_62 : decode cX1_times 62 = .ok (.aload_n 0, 1) := by decide +kernel
theorem dX1_times_63 : decode cX1_times 63 = .ok (.getfield 7, 3) := by decide +kernel
theorem dX1_times_66 : decode cX1_times 66 = .ok (.aload_n 0, 1) := by decide +kernel
theorem dX1_times_67 : decode cX1_times 67 = .ok (.getfield 17, 3) := by decide +kernel
theorem dX1_times_70 : decode cX1_times 70 = .ok (.lload_n 2, 1) := by decide +kernel
theorem dX1_times_71 : decode cX1_times 71 = .ok (.ldc2_w 21, 3) := by decide +kernel
theorem dX1_times_74 : decode cX1_times 74 = .ok (.lrem, 1) := by decide +kernel
theorem dX1_times_75 : decode cX1_times 75 = .ok (.l2i, 1) := by decide +kernel
theorem dX1_times_76 : decode cX1_times 76 = .ok (.iastore, 1) := by decide +kernel
theorem dX1_times_77 : decode cX1_times 77 = .ok (.aload_n 0, 1) := by decide +kernel
theorem dX1_times_78 : decode cX1_times 78 = .ok (.dup, 1) := by decide +kernel
theorem dX1_times_79 : decode cX1_times 79 = .ok (.getfield 17, 3) := by decide +kernel
theorem dX1_times_82 : decode cX1_times 82 = .ok (.iconst 1, 1) := by decide +kernel
theorem dX1_times_83 : decode cX1_times 83 = .ok (.iadd, 1) := by decide +kernel
theorem dX1_times_84 : decode cX1_times 84 = .ok (.putfield 17, 3) := by decide +kernel
theorem dX1_times_87 : decode cX1_times 87 = .ok (.lload_n 2, 1) := by decide +kernel
theorem dX1_times_88 : decode cX1_times 88 = .ok (.ldc2_w 21, 3) := by decide +kernel
theorem dX1_times_91 : decode cX1_times 91 = .ok (.ldiv, 1) := by decide +kernel
theorem dX1_times_92 : decode cX1_times 92 = .ok (.lstore_n 2, 1) := by decide +kernel
theorem dX1_times_93 : decode cX1_times 93 = .ok (.goto (-37), 3) := by decide +kernel
theorem dX1_times_96 : decode cX1_times 96 = .ok (.return_, 1) := by decide +kernel
abbrev cX1_plain : ByteArray := prog_3_method_6_code
def yX1_plain : MethodName := ⟨RX1, "plain", "(LDecimalText$Bytes;IZ)V"⟩
theorem dX1_plain_0 : decode cX1_plain 0 = .ok (.aload_n 0, 1) := by decide +kernel
theorem dX1_plain_1 : decode cX1_plain 1 = .ok (.aload_n 0, 1) := by decide +kernel
theorem dX1_plain_2 : decode cX1_plain 2 = .ok (.getfield 43, 3) := by decide +kernel
theorem dX1_plain_5 : decode cX1_plain 5 = .ok (.iload_n 2, 1) := by decide +kernel
theorem dX1_plain_6 : decode cX1_plain 6 = .ok (.iadd, 1) := by decide +kernel
theorem dX1_plain_7 : decode cX1_plain 7 = .ok (.invokevirtual 46, 3) := by decide +kernel
theorem dX1_plain_10 : decode cX1_plain 10 = .ok (.aload_n 0, 1) := by decide +kernel
theorem dX1_plain_11 : decode cX1_plain 11 = .ok (.getfield 39, 3) := by decide +kernel
theorem dX1_plain_14 : decode cX1_plain 14 = .ok (.ifCond .ne 8, 3) := by decide +kernel
theorem dX1_plain_17 : decode cX1_plain 17 = .ok (.aload_n 0, 1) := by decide +kernel
theorem dX1_plain_18 : decode cX1_plain 18 = .ok (.iconst 0, 1) := by decide +kernel
theorem dX1_plain_19 : decode cX1_plain 19 = .ok (.putfield 43, 3) := by decide +kernel
theorem dX1_plain_22 : decode cX1_plain 22 = .ok (.aload_n 0, 1) := by decide +kernel
theorem dX1_plain_23 : decode cX1_plain 23 = .ok (.getfield 43, 3) := by decide +kernel
theorem dX1_plain_26 : decode cX1_plain 26 = .ok (.ifCond .gt 9, 3) := by decide +kernel
theorem dX1_plain_29 : decode cX1_plain 29 = .ok (.aload_n 1, 1) := by decide +kernel
theorem dX1_plain_30 : decode cX1_plain 30 = .ok (.bipush 48, 2) := by decide +kernel
theorem dX1_plain_32 : decode cX1_plain 32 = .ok (.invokevirtual 49, 3) := by decide +kernel
theorem dX1_plain_35 : decode cX1_plain 35 = .ok (.iconst 0, 1) := by decide +kernel
theorem dX1_plain_36 : decode cX1_plain 36 = .ok (.istore 4, 2) := by decide +kernel
theorem dX1_plain_38 : decode cX1_plain 38 = .ok (.iload 4, 2) := by decide +kernel
theorem dX1_plain_40 : decode cX1_plain 40 = .ok (.aload_n 0, 1) := by decide +kernel
theorem dX1_plain_41 : decode cX1_plain 41 = .ok (.getfield 43, 3) := by decide +kernel
theorem dX1_plain_44 : decode cX1_plain 44 = .ok (.if_icmp .ge 22, 3) := by decide +kernel
theorem dX1_plain_47 : decode cX1_plain 47 = .ok (.aload_n 1, 1) := by decide +kernel
theorem dX1_plain_48 : decode cX1_plain 48 = .ok (.bipush 48, 2) := by decide +kernel
theorem dX1_plain_50 : decode cX1_plain 50 = .ok (.aload_n 0, 1) := by decide +kernel
theorem dX1_plain_51 : decode cX1_plain 51 = .ok (.iload 4, 2) := by decide +kernel
theorem dX1_plain_53 : decode cX1_plain 53 = .ok (.invokevirtual 54, 3) := by decide +kernel
theorem dX1_plain_56 : decode cX1_plain 56 = .ok (.iadd, 1) := by decide +kernel
theorem dX1_plain_57 : decode cX1_plain 57 = .ok (.invokevirtual 49, 3) := by decide +kernel
theorem dX1_plain_60 : decode cX1_plain 60 = .ok (.iinc 4 1, 3) := by decide +kernel
theorem dX1_plain_63 : decode cX1_plain 63 = .ok (.goto (-25), 3) := by decide +kernel
theorem dX1_plain_66 : decode cX1_plain 66 = .ok (.iload_n 2, 1) := by decide +kernel
theorem dX1_plain_67 : decode cX1_plain 67 = .ok (.ifCond .gt 7, 3) := by decide +kernel
theorem dX1_plain_70 : decode cX1_plain 70 = .ok (.iload_n 3, 1) := by decide +kernel
theorem dX1_plain_71 : decode cX1_plain 71 = .ok (.ifCond .eq 9, 3) := by decide +kernel
theorem dX1_plain_74 : decode cX1_plain 74 = .ok (.aload_n 1, 1) := by decide +kernel
theorem dX1_plain_75 : decode cX1_plain 75 = .ok (.bipush 46, 2) := by decide +kernel
theorem dX1_plain_77 : decode cX1_plain 77 = .ok (.invokevirtual 49, 3) := by decide +kernel
theorem dX1_plain_80 : decode cX1_plain 80 = .ok (.iconst 0, 1) := by decide +kernel
theorem dX1_plain_81 : decode cX1_plain 81 = .ok (.istore 4, 2) := by decide +kernel
theorem dX1_plain_83 : decode cX1_plain 83 = .ok (.iload 4, 2) := by decide +kernel
theorem dX1_plain_85 : decode cX1_plain 85 = .ok (.iload_n 2, 1) := by decide +kernel
theorem dX1_plain_86 : decode cX1_plain 86 = .ok (.if_icmp .ge 27, 3) := by decide +kernel
theorem dX1_plain_89 : decode cX1_plain 89 = .ok (.aload_n 1, 1) := by decide +kernel
theorem dX1_plain_90 : decode cX1_plain 90 = .ok (.bipush 48, 2) := by decide +kernel
theorem dX1_plain_92 : decode cX1_plain 92 = .ok (.aload_n 0, 1) := by decide +kernel
theorem dX1_plain_93 : decode cX1_plain 93 = .ok (.aload_n 0, 1) := by decide +kernel
theorem dX1_plain_94 : decode cX1_plain 94 = .ok (.getfield 43, 3) := by decide +kernel
theorem dX1_plain_97 : decode cX1_plain 97 = .ok (.iload 4, 2) := by decide +kernel
theorem dX1_plain_99 : decode cX1_plain 99 = .ok (.iadd, 1) := by decide +kernel
theorem dX1_plain_100 : decode cX1_plain 100 = .ok (.invokevirtual 54, 3) := by decide +kernel
theorem dX1_plain_103 : decode cX1_plain 103 = .ok (.iadd, 1) := by decide +kernel
theorem dX1_plain_104 : decode cX1_plain 104 = .ok (.invokevirtual 49, 3) := by decide +kernel
theorem dX1_plain_107 : decode cX1_plain 107 = .ok (.iinc 4 1, 3) := by decide +kernel
theorem dX1_plain_110 : decode cX1_plain 110 = .ok (.goto (-27), 3) := by decide +kernel
theorem dX1_plain_113 : decode cX1_plain 113 = .ok (.return_, 1) := by decide +kernel
abbrev cX1_round : ByteArray := prog_3_method_4_code
def yX1_round : MethodName := ⟨RX1, "round", "(I)V"⟩
theorem dX1_round_0 : decode cX1_round 0 = .ok (.iload_n 1, 1) := by decide +kernel
theorem dX1_round_1 : decode cX1_round 1 = .ok (.aload_n 0, 1) := by decide +kernel
theorem dX1_round_2 : decode cX1_round 2 = .ok (.getfield 39, 3) := by decide +kernel
theorem dX1_round_5 : decode cX1_round 5 = .ok (.if_icmp .lt 4, 3) := by decide +kernel
theorem dX1_round_8 : decode cX1_round 8 = .ok (.return_, 1) := by decide +kernel
theorem dX1_round_9 : decode cX1_round 9 = .ok (.iload_n 1, 1) := by decide +kernel
theorem dX1_round_10 : decode cX1_round 10 = .ok (.ifCond .ge 9, 3) := by decide +kernel
theorem dX1_round_13 : decode cX1_round 13 = .ok (.aload_n 0, 1) := by decide +kernel
theorem dX1_round_14 : decode cX1_round 14 = .ok (.iconst 0, 1) := by decide +kernel
theorem dX1_round_15 : decode cX1_round 15 = .ok (.putfield 39, 3) := by decide +kernel
theorem dX1_round_18 : decode cX1_round 18 = .ok (.return_, 1) := by decide +kernel
theorem dX1_round_19 : decode cX1_round 19 = .ok (.aload_n 0, 1) := by decide +kernel
theorem dX1_round_20 : decode cX1_round 20 = .ok (.getfield 13, 3) := by decide +kernel
theorem dX1_round_23 : decode cX1_round 23 = .ok (.iload_n 1, 1) := by decide +kernel
theorem dX1_round_24 : decode cX1_round 24 = .ok (.baload, 1) := by decide +kernel
theorem dX1_round_25 : decode cX1_round 25 = .ok (.iconst 5, 1) := by decide +kernel
theorem dX1_round_26 : decode cX1_round 26 = .ok (.if_icmp .ne 7, 3) := by decide +kernel
theorem dX1_round_29 : decode cX1_round 29 = .ok (.iconst 1, 1) := by decide +kernel
theorem dX1_round_30 : decode cX1_round 30 = .ok (.goto 4, 3) := by decide +kernel
theorem dX1_round_33 : decode cX1_round 33 = .ok (.iconst 0, 1) := by decide +kernel
theorem dX1_round_34 : decode cX1_round 34 = .ok (.istore_n 2, 1) := by decide +kernel
theorem dX1_round_35 : decode cX1_round 35 = .ok (.iload_n 1, 1) := by decide +kernel
theorem dX1_round_36 : decode cX1_round 36 = .ok (.iconst 1, 1) := by decide +kernel
theorem dX1_round_37 : decode cX1_round 37 = .ok (.iadd, 1) := by decide +kernel
theorem dX1_round_38 : decode cX1_round 38 = .ok (.istore_n 3, 1) := by decide +kernel
theorem dX1_round_39 : decode cX1_round 39 = .ok (.iload_n 3, 1) := by decide +kernel
theorem dX1_round_40 : decode cX1_round 40 = .ok (.aload_n 0, 1) := by decide +kernel
theorem dX1_round_41 : decode cX1_round 41 = .ok (.getfield 39, 3) := by decide +kernel
theorem dX1_round_44 : decode cX1_round 44 = .ok (.if_icmp .ge 20, 3) := by decide +kernel
theorem dX1_round_47 : decode cX1_round 47 = .ok (.aload_n 0, 1) := by decide +kernel
theorem dX1_round_48 : decode cX1_round 48 = .ok (.getfield 13, 3) := by decide +kernel
theorem dX1_round_51 : decode cX1_round 51 = .ok (.iload_n 3, 1) := by decide +kernel
theorem dX1_round_52 : decode cX1_round 52 = .ok (.baload, 1) := by decide +kernel
theorem dX1_round_53 : decode cX1_round 53 = .ok (.ifCond .le 5, 3) := by decide +kernel
theorem dX1_round_56 : decode cX1_round 56 = .ok (.iconst 0, 1) := by decide +kernel
theorem dX1_round_57 : decode cX1_round 57 = .ok (.istore_n 2, 1) := by decide +kernel
theorem dX1_round_58 : decode cX1_round 58 = .ok (.iinc 3 1, 3) := by decide +kernel
theorem dX1_round_61 : decode cX1_round 61 = .ok (.goto (-22), 3) := by decide +kernel
theorem dX1_round_64 : decode cX1_round 64 = .ok (.iload_n 1, 1) := by decide +kernel
theorem dX1_round_65 : decode cX1_round 65 = .ok (.ifCond .le 21, 3) := by decide +kernel
theorem dX1_round_68 : decode cX1_round 68 = .ok (.aload_n 0, 1) := by decide +kernel
theorem dX1_round_69 : decode cX1_round 69 = .ok (.getfield 13, 3) := by decide +kernel
theorem dX1_round_72 : decode cX1_round 72 = .ok (.iload_n 1, 1) := by decide +kernel
theorem dX1_round_73 : decode cX1_round 73 = .ok (.iconst 1, 1) := by decide +kernel
theorem dX1_round_74 : decode cX1_round 74 = .ok (.isub, 1) := by decide +kernel
theorem dX1_round_75 : decode cX1_round 75 = .ok (.baload, 1) := by decide +kernel
theorem dX1_round_76 : decode cX1_round 76 = .ok (.iconst 2, 1) := by decide +kernel
theorem dX1_round_77 : decode cX1_round 77 = .ok (.irem, 1) := by decide +kernel
theorem dX1_round_78 : decode cX1_round 78 = .ok (.iconst 1, 1) := by decide +kernel
theorem dX1_round_79 : decode cX1_round 79 = .ok (.if_icmp .ne 7, 3) := by decide +kernel
theorem dX1_round_82 : decode cX1_round 82 = .ok (.iconst 1, 1) := by decide +kernel
theorem dX1_round_83 : decode cX1_round 83 = .ok (.goto 4, 3) := by decide +kernel
theorem dX1_round_86 : decode cX1_round 86 = .ok (.iconst 0, 1) := by decide +kernel
theorem dX1_round_87 : decode cX1_round 87 = .ok (.istore_n 3, 1) := by decide +kernel
theorem dX1_round_88 : decode cX1_round 88 = .ok (.iload_n 2, 1) := by decide +kernel
theorem dX1_round_89 : decode cX1_round 89 = .ok (.ifCond .eq 7, 3) := by decide +kernel
theorem dX1_round_92 : decode cX1_round 92 = .ok (.iload_n 3, 1) := by decide +kernel
theorem dX1_round_93 : decode cX1_round 93 = .ok (.goto 18, 3) := by decide +kernel
theorem dX1_round_96 : decode cX1_round 96 = .ok (.aload_n 0, 1) := by decide +kernel
theorem dX1_round_97 : decode cX1_round 97 = .ok (.getfield 13, 3) := by decide +kernel
theorem dX1_round_100 : decode cX1_round 100 = .ok (.iload_n 1, 1) := by decide +kernel
theorem dX1_round_101 : decode cX1_round 101 = .ok (.baload, 1) := by decide +kernel
theorem dX1_round_102 : decode cX1_round 102 = .ok (.iconst 5, 1) := by decide +kernel
theorem dX1_round_103 : decode cX1_round 103 = .ok (.if_icmp .lt 7, 3) := by decide +kernel
theorem dX1_round_106 : decode cX1_round 106 = .ok (.iconst 1, 1) := by decide +kernel
theorem dX1_round_107 : decode cX1_round 107 = .ok (.goto 4, 3) := by decide +kernel
theorem dX1_round_110 : decode cX1_round 110 = .ok (.iconst 0, 1) := by decide +kernel
theorem dX1_round_111 : decode cX1_round 111 = .ok (.istore 4, 2) := by decide +kernel
theorem dX1_round_113 : decode cX1_round 113 = .ok (.aload_n 0, 1) := by decide +kernel
theorem dX1_round_114 : decode cX1_round 114 = .ok (.iload_n 1, 1) := by decide +kernel
theorem dX1_round_115 : decode cX1_round 115 = .ok (.putfield 39, 3) := by decide +kernel
theorem dX1_round_118 : decode cX1_round 118 = .ok (.iload 4, 2) := by decide +kernel
theorem dX1_round_120 : decode cX1_round 120 = .ok (.ifCond .ne 4, 3) := by decide +kernel
theorem dX1_round_123 : decode cX1_round 123 = .ok (.return_, 1) := by decide +kernel
theorem dX1_round_124 : decode cX1_round 124 = .ok (.iload_n 1, 1) := by decide +kernel
theorem dX1_round_125 : decode cX1_round 125 = .ok (.iconst 1, 1) := by decide +kernel
theorem dX1_round_126 : decode cX1_round 126 = .ok (.isub, 1) := by decide +kernel
theorem dX1_round_127 : decode cX1_round 127 = .ok (.istore 5, 2) := by decide +kernel
theorem dX1_round_129 : decode cX1_round 129 = .ok (.iload 5, 2) := by decide +kernel
theorem dX1_round_131 : decode cX1_round 131 = .ok (.ifCond .lt 29, 3) := by decide +kernel
theorem dX1_round_134 : decode cX1_round 134 = .ok (.aload_n 0, 1) := by decide +kernel
theorem dX1_round_135 : decode cX1_round 135 = .ok (.getfield 13, 3) := by decide +kernel
theorem dX1_round_138 : decode cX1_round 138 = .ok (.iload 5, 2) := by decide +kernel
theorem dX1_round_140 : decode cX1_round 140 = .ok (.baload, 1) := by decide +kernel
theorem dX1_round_141 : decode cX1_round 141 = .ok (.bipush 9, 2) := by decide +kernel
theorem dX1_round_143 : decode cX1_round 143 = .ok (.if_icmp .ne 17, 3) := by decide +kernel
theorem dX1_round_146 : decode cX1_round 146 = .ok (.aload_n 0, 1) := by decide +kernel
theorem dX1_round_147 : decode cX1_round 147 = .ok (.getfield 13, 3) := by decide +kernel
theorem dX1_round_150 : decode cX1_round 150 = .ok (.iload 5, 2) := by decide +kernel
theorem dX1_round_152 : decode cX1_round 152 = .ok (.iconst 0, 1) := by decide +kernel
theorem dX1_round_153 : decode cX1_round 153 = .ok (.bastore, 1) := by decide +kernel
theorem dX1_round_154 : decode cX1_round 154 = .ok (.iinc 5 (-1), 3) := by decide +kernel
theorem dX1_round_157 : decode cX1_round 157 = .ok (.goto (-28), 3) := by decide +kernel
theorem dX1_round_160 : decode cX1_round 160 = .ok (.iload 5, 2) := by decide +kernel
theorem dX1_round_162 : decode cX1_round 162 = .ok (.ifCond .lt 18, 3) := by decide +kernel
theorem dX1_round_165 : decode cX1_round 165 = .ok (.aload_n 0, 1) := by decide +kernel
theorem dX1_round_166 : decode cX1_round 166 = .ok (.getfield 13, 3) := by decide +kernel
theorem dX1_round_169 : decode cX1_round 169 = .ok (.iload 5, 2) := by decide +kernel
theorem dX1_round_171 : decode cX1_round 171 = .ok (.dup2, 1) := by decide +kernel
theorem dX1_round_172 : decode cX1_round 172 = .ok (.baload, 1) := by decide +kernel
theorem dX1_round_173 : decode cX1_round 173 = .ok (.iconst 1, 1) := by decide +kernel
theorem dX1_round_174 : decode cX1_round 174 = .ok (.iadd, 1) := by decide +kernel
theorem dX1_round_175 : decode cX1_round 175 = .ok (.i2b, 1) := by decide +kernel
theorem dX1_round_176 : decode cX1_round 176 = .ok (.bastore, 1) := by decide +kernel
theorem dX1_round_177 : decode cX1_round 177 = .ok (.goto 63, 3) := by decide +kernel
theorem dX1_round_180 : decode cX1_round 180 = .ok (.aload_n 0, 1) := by decide +kernel
theorem dX1_round_181 : decode cX1_round 181 = .ok (.getfield 39, 3) := by decide +kernel
theorem dX1_round_184 : decode cX1_round 184 = .ok (.istore 6, 2) := by decide +kernel
theorem dX1_round_186 : decode cX1_round 186 = .ok (.iload 6, 2) := by decide +kernel
theorem dX1_round_188 : decode cX1_round 188 = .ok (.ifCond .le 25, 3) := by decide +kernel
theorem dX1_round_191 : decode cX1_round 191 = .ok (.aload_n 0, 1) := by decide +kernel
theorem dX1_round_192 : decode cX1_round 192 = .ok (.getfield 13, 3) := by decide +kernel
theorem dX1_round_195 : decode cX1_round 195 = .ok (.iload 6, 2) := by decide +kernel
theorem dX1_round_197 : decode cX1_round 197 = .ok (.aload_n 0, 1) := by decide +kernel
theorem dX1_round_198 : decode cX1_round 198 = .ok (.getfield 13, 3) := by decide +kernel
theorem dX1_round_201 : decode cX1_round 201 = .ok (.iload 6, 2) := by decide +kernel
theorem dX1_round_203 : decode cX1_round 203 = .ok (.iconst 1, 1) := by decide +kernel
theorem dX1_round_204 : decode cX1_round 204 = .ok (.isub, 1) := by decide +kernel
theorem dX1_round_205 : decode cX1_round 205 = .ok (.baload, 1) := by decide +kernel
theorem dX1_round_206 : decode cX1_round 206 = .ok (.bastore, 1) := by decide +kernel
theorem dX1_round_207 : decode cX1_round 207 = .ok (.iinc 6 (-1), 3) := by decide +kernel
theorem dX1_round_210 : decode cX1_round 210 = .ok (.goto (-24), 3) := by decide +kernel
theorem dX1_round_213 : decode cX1_round 213 = .ok (.aload_n 0, 1) := by decide +kernel
theorem dX1_round_214 : decode cX1_round 214 = .ok (.getfield 13, 3) := by decide +kernel
theorem dX1_round_217 : decode cX1_round 217 = .ok (.iconst 0, 1) := by decide +kernel
theorem dX1_round_218 : decode cX1_round 218 = .ok (.iconst 1, 1) := by decide +kernel
theorem dX1_round_219 : decode cX1_round 219 = .ok (.bastore, 1) := by decide +kernel
theorem dX1_round_220 : decode cX1_round 220 = .ok (.aload_n 0, 1) := by decide +kernel
theorem dX1_round_221 : decode cX1_round 221 = .ok (.dup, 1) := by decide +kernel
theorem dX1_round_222 : decode cX1_round 222 = .ok (.getfield 39, 3) := by decide +kernel
theorem dX1_round_225 : decode cX1_round 225 = .ok (.iconst 1, 1) := by decide +kernel
theorem dX1_round_226 : decode cX1_round 226 = .ok (.iadd, 1) := by decide +kernel
theorem dX1_round_227 : decode cX1_round 227 = .ok (.putfield 39, 3) := by decide +kernel
theorem dX1_round_230 : decode cX1_round 230 = .ok (.aload_n 0, 1) := by decide +kernel
theorem dX1_round_231 : decode cX1_round 231 = .ok (.dup, 1) := by decide +kernel
theorem dX1_round_232 : decode cX1_round 232 = .ok (.getfield 43, 3) := by decide +kernel
theorem dX1_round_235 : decode cX1_round 235 = .ok (.iconst 1, 1) := by decide +kernel
theorem dX1_round_236 : decode cX1_round 236 = .ok (.iadd, 1) := by decide +kernel
theorem dX1_round_237 : decode cX1_round 237 = .ok (.putfield 43, 3) := by decide +kernel
theorem dX1_round_240 : decode cX1_round 240 = .ok (.return_, 1) := by decide +kernel
abbrev cX1_digit : ByteArray := prog_3_method_5_code
def yX1_digit : MethodName := ⟨RX1, "digit", "(I)I"⟩
theorem dX1_digit_0 : decode cX1_digit 0 = .ok (.iload_n 1, 1) := by decide +kernel
theorem dX1_digit_1 : decode cX1_digit 1 = .ok (.ifCond .lt 20, 3) := by decide +kernel
theorem dX1_digit_4 : decode cX1_digit 4 = .ok (.iload_n 1, 1) := by decide +kernel
theorem dX1_digit_5 : decode cX1_digit 5 = .ok (.aload_n 0, 1) := by decide +kernel
theorem dX1_digit_6 : decode cX1_digit 6 = .ok (.getfield 39, 3) := by decide +kernel
theorem dX1_digit_9 : decode cX1_digit 9 = .ok (.if_icmp .ge 12, 3) := by decide +kernel
theorem dX1_digit_12 : decode cX1_digit 12 = .ok (.aload_n 0, 1) := by decide +kernel
theorem dX1_digit_13 : decode cX1_digit 13 = .ok (.getfield 13, 3) := by decide +kernel
theorem dX1_digit_16 : decode cX1_digit 16 = .ok (.iload_n 1, 1) := by decide +kernel
theorem dX1_digit_17 : decode cX1_digit 17 = .ok (.baload, 1) := by decide +kernel
theorem dX1_digit_18 : decode cX1_digit 18 = .ok (.goto 4, 3) := by decide +kernel
theorem dX1_digit_21 : decode cX1_digit 21 = .ok (.iconst 0, 1) := by decide +kernel
theorem dX1_digit_22 : decode cX1_digit 22 = .ok (.ireturn, 1) := by decide +kernel
abbrev cX1_scientific : ByteArray := prog_3_method_7_code
def yX1_scientific : MethodName := ⟨RX1, "scientific", "(LDecimalText$Bytes;IZI)V"⟩
theorem dX1_scientific_0 : decode cX1_scientific 0 = .ok (.aload_n 0, 1) := by decide +kernel
theorem dX1_scientific_1 : decode cX1_scientific 1 = .ok (.getfield 39, 3) := by decide +kernel
theorem dX1_scientific_4 : decode cX1_scientific 4 = .ok (.ifCond .ne 7, 3) := by decide +kernel
theorem dX1_scientific_7 : decode cX1_scientific 7 = .ok (.iconst 1, 1) := by decide +kernel
theorem dX1_scientific_8 : decode cX1_scientific 8 = .ok (.goto 4, 3) := by decide +kernel
theorem dX1_scientific_11 : decode cX1_scientific 11 = .ok (.iconst 0, 1) := by decide +kernel
theorem dX1_scientific_12 : decode cX1_scientific 12 = .ok (.istore 5, 2) := by decide +kernel
theorem dX1_scientific_14 : decode cX1_scientific 14 = .ok (.aload_n 0, 1) := by decide +kernel
theorem dX1_scientific_15 : decode cX1_scientific 15 = .ok (.iload_n 2, 1) := by decide +kernel
theorem dX1_scientific_16 : decode cX1_scientific 16 = .ok (.iconst 1, 1) := by decide +kernel
theorem dX1_scientific_17 : decode cX1_scientific 17 = .ok (.iadd, 1) := by decide +kernel
theorem dX1_scientific_18 : decode cX1_scientific 18 = .ok (.invokevirtual 46, 3) := by decide +kernel
theorem dX1_scientific_21 : decode cX1_scientific 21 = .ok (.iload 5, 2) := by decide +kernel
theorem dX1_scientific_23 : decode cX1_scientific 23 = .ok (.ifCond .eq 7, 3) := by decide +kernel
theorem dX1_scientific_26 : decode cX1_scientific 26 = .ok (.iconst 0, 1) := by decide +kernel
theorem dX1_scientific_27 : decode cX1_scientific 27 = .ok (.goto 9, 3) := by decide +kernel
theorem dX1_scientific_30 : decode cX1_scientific 30 = .ok (.aload_n 0, 1) := by decide +kernel
theorem dX1_scientific_31 : decode cX1_scientific 31 = .ok (.getfield 43, 3) := by decide +kernel
theorem dX1_scientific_34 : decode cX1_scientific 34 = .ok (.iconst 1, 1) := by decide +kernel
theorem dX1_scientific_35 : decode cX1_scientific 35 = .ok (.isub, 1) := by decide +kernel
theorem dX1_scientific_36 : decode cX1_scientific 36 = .ok (.istore 6, 2) := by decide +kernel
theorem dX1_scientific_38 : decode cX1_scientific 38 = .ok (.aload_n 1, 1) := by decide +kernel
theorem dX1_scientific_39 : decode cX1_scientific 39 = .ok (.bipush 48, 2) := by decide +kernel
theorem dX1_scientific_41 : decode cX1_scientific 41 = .ok (.aload_n 0, 1) := by decide +kernel
theorem dX1_scientific_42 : decode cX1_scientific 42 = .ok (.iconst 0, 1) := by decide +kernel
theorem dX1_scientific_43 : decode cX1_scientific 43 = .ok (.invokevirtual 54, 3) := by decide +kernel
theorem dX1_scientific_46 : decode cX1_scientific 46 = .ok (.iadd, 1) := by decide +kernel
theorem dX1_scientific_47 : decode cX1_scientific 47 = .ok (.invokevirtual 49, 3) := by decide +kernel
theorem dX1_scientific_50 : decode cX1_scientific 50 = .ok (.iload_n 2, 1) := by decide +kernel
theorem dX1_scientific_51 : decode cX1_scientific 51 = .ok (.ifCond .gt 7, 3) := by decide +kernel
theorem dX1_scientific_54 : decode cX1_scientific 54 = .ok (.iload_n 3, 1) := by decide +kernel
theorem dX1_scientific_55 : decode cX1_scientific 55 = .ok (.ifCond .eq 9, 3) := by decide +kernel
theorem dX1_scientific_58 : decode cX1_scientific 58 = .ok (.aload_n 1, 1) := by decide +kernel
theorem dX1_scientific_59 : decode cX1_scientific 59 = .ok (.bipush 46, 2) := by decide +kernel
theorem dX1_scientific_61 : decode cX1_scientific 61 = .ok (.invokevirtual 49, 3) := by decide +kernel
theorem dX1_scientific_64 : decode cX1_scientific 64 = .ok (.iconst 1, 1) := by decide +kernel
theorem dX1_scientific_65 : decode cX1_scientific 65 = .ok (.istore 7, 2) := by decide +kernel
theorem dX1_scientific_67 : decode cX1_scientific 67 = .ok (.iload 7, 2) := by decide +kernel
theorem dX1_scientific_69 : decode cX1_scientific 69 = .ok (.iload_n 2, 1) := by decide +kernel
theorem dX1_scientific_70 : decode cX1_scientific 70 = .ok (.if_icmp .gt 22, 3) := by decide +kernel
theorem dX1_scientific_73 : decode cX1_scientific 73 = .ok (.aload_n 1, 1) := by decide +kernel
theorem dX1_scientific_74 : decode cX1_scientific 74 = .ok (.bipush 48, 2) := by decide +kernel
theorem dX1_scientific_76 : decode cX1_scientific 76 = .ok (.aload_n 0, 1) := by decide +kernel
theorem dX1_scientific_77 : decode cX1_scientific 77 = .ok (.iload 7, 2) := by decide +kernel
theorem dX1_scientific_79 : decode cX1_scientific 79 = .ok (.invokevirtual 54, 3) := by decide +kernel
theorem dX1_scientific_82 : decode cX1_scientific 82 = .ok (.iadd, 1) := by decide +kernel
theorem dX1_scientific_83 : decode cX1_scientific 83 = .ok (.invokevirtual 49, 3) := by decide +kernel
theorem dX1_scientific_86 : decode cX1_scientific 86 = .ok (.iinc 7 1, 3) := by decide +kernel
theorem dX1_scientific_89 : decode cX1_scientific 89 = .ok (.goto (-22), 3) := by decide +kernel
theorem dX1_scientific_92 : decode cX1_scientific 92 = .ok (.aload_n 1, 1) := by decide +kernel
theorem dX1_scientific_93 : decode cX1_scientific 93 = .ok (.iload 4, 2) := by decide +kernel
theorem dX1_scientific_95 : decode cX1_scientific 95 = .ok (.invokevirtual 49, 3) := by decide +kernel
theorem dX1_scientific_98 : decode cX1_scientific 98 = .ok (.aload_n 1, 1) := by decide +kernel
theorem dX1_scientific_99 : decode cX1_scientific 99 = .ok (.iload 6, 2) := by decide +kernel
theorem dX1_scientific_101 : decode cX1_scientific 101 = .ok (.ifCond .ge 8, 3) := by decide +kernel
theorem dX1_scientific_104 : decode cX1_scientific 104 = .ok (.bipush 45, 2) := by decide +kernel
theorem dX1_scientific_106 : decode cX1_scientific 106 = .ok (.goto 5, 3) := by decide +kernel
theorem dX1_scientific_109 : decode cX1_scientific 109 = .ok (.bipush 43, 2) := by decide +kernel
theorem dX1_scientific_111 : decode cX1_scientific 111 = .ok (.invokevirtual 49, 3) := by decide +kernel
theorem dX1_scientific_114 : decode cX1_scientific 114 = .ok (.iload 6, 2) := by decide +kernel
theorem dX1_scientific_116 : decode cX1_scientific 116 = .ok (.ifCond .ge 9, 3) := by decide +kernel
theorem dX1_scientific_119 : decode cX1_scientific 119 = .ok (.iload 6, 2) := by decide +kernel
theorem dX1_scientific_121 : decode cX1_scientific 121 = .ok (.ineg, 1) := by decide +kernel
theorem dX1_scientific_122 : decode cX1_scientific 122 = .ok (.goto 5, 3) := by decide +kernel
theorem dX1_scientific_125 : decode cX1_scientific 125 = .ok (.iload 6, 2) := by decide +kernel
theorem dX1_scientific_127 : decode cX1_scientific 127 = .ok (.istore 7, 2) := by decide +kernel
theorem dX1_scientific_129 : decode cX1_scientific 129 = .ok (.iload 7, 2) := by decide +kernel
theorem dX1_scientific_131 : decode cX1_scientific 131 = .ok (.bipush 99, 2) := by decide +kernel
theorem dX1_scientific_133 : decode cX1_scientific 133 = .ok (.if_icmp .le 15, 3) := by decide +kernel
theorem dX1_scientific_136 : decode cX1_scientific 136 = .ok (.aload_n 1, 1) := by decide +kernel
theorem dX1_scientific_137 : decode cX1_scientific 137 = .ok (.bipush 48, 2) := by decide +kernel
theorem dX1_scientific_139 : decode cX1_scientific 139 = .ok (.iload 7, 2) := by decide +kernel
theorem dX1_scientific_141 : decode cX1_scientific 141 = .ok (.bipush 100, 2) := by decide +kernel
theorem dX1_scientific_143 : decode cX1_scientific 143 = .ok (.idiv, 1) := by decide +kernel
theorem dX1_scientific_144 : decode cX1_scientific 144 = .ok (.iadd, 1) := by decide +kernel
theorem dX1_scientific_145 : decode cX1_scientific 145 = .ok (.invokevirtual 49, 3) := by decide +kernel
theorem dX1_scientific_148 : decode cX1_scientific 148 = .ok (.aload_n 1, 1) := by decide +kernel
theorem dX1_scientific_149 : decode cX1_scientific 149 = .ok (.bipush 48, 2) := by decide +kernel
theorem dX1_scientific_151 : decode cX1_scientific 151 = .ok (.iload 7, 2) := by decide +kernel
theorem dX1_scientific_153 : decode cX1_scientific 153 = .ok (.bipush 10, 2) := by decide +kernel
theorem dX1_scientific_155 : decode cX1_scientific 155 = .ok (.idiv, 1) := by decide +kernel
theorem dX1_scientific_156 : decode cX1_scientific 156 = .ok (.bipush 10, 2) := by decide +kernel
theorem dX1_scientific_158 : decode cX1_scientific 158 = .ok (.irem, 1) := by decide +kernel
theorem dX1_scientific_159 : decode cX1_scientific 159 = .ok (.iadd, 1) := by decide +kernel
theorem dX1_scientific_160 : decode cX1_scientific 160 = .ok (.invokevirtual 49, 3) := by decide +kernel
theorem dX1_scientific_163 : decode cX1_scientific 163 = .ok (.aload_n 1, 1) := by decide +kernel
theorem dX1_scientific_164 : decode cX1_scientific 164 = .ok (.bipush 48, 2) := by decide +kernel
theorem dX1_scientific_166 : decode cX1_scientific 166 = .ok (.iload 7, 2) := by decide +kernel
theorem dX1_scientific_168 : decode cX1_scientific 168 = .ok (.bipush 10, 2) := by decide +kernel
theorem dX1_scientific_170 : decode cX1_scientific 170 = .ok (.irem, 1) := by decide +kernel
theorem dX1_scientific_171 : decode cX1_scientific 171 = .ok (.iadd, 1) := by decide +kernel
theorem dX1_scientific_172 : decode cX1_scientific 172 = .ok (.invokevirtual 49, 3) := by decide +kernel
theorem dX1_scientific_175 : decode cX1_scientific 175 = .ok (.return_, 1) := by decide +kernel
theorem q15 : (Jvm.Cond.initialized "DecimalText$Decimal") ∈ lw_all := lw_g (lw_at lw_m0 2 rfl) rfl
theorem q28 : (Jvm.Cond.instantiable "DecimalText$Decimal" (5 : Nat)) ∈ lw_all := lw_g (lw_at lw_m0 15 rfl) rfl
theorem q30 : (Jvm.Cond.instanceMethod ({ cls := "DecimalText$Decimal", name := "<init>", desc := "()V" } : Jvm.MethodName)) ∈ lw_all := lw_g (lw_at lw_m0 17 rfl) rfl
theorem q31 : (Jvm.Cond.code ({ cls := "DecimalText$Decimal", name := "<init>", desc := "()V" } : Jvm.MethodName) prog_3_method_1_code (1 : Nat) (Option.none : Option Jvm.ClassFile.FieldType)) ∈ lw_all := lw_g (lw_at lw_m0 18 rfl) rfl
theorem q32 : (Jvm.Cond.methodLink "DecimalText$Decimal" (1 : Nat) ({ cls := "java/lang/Object", name := "<init>", desc := "()V" } : Jvm.MethodName)) ∈ lw_all := lw_g (lw_at lw_m0 19 rfl) rfl
theorem q33 : (Jvm.Cond.fieldLink "DecimalText$Decimal" (7 : Nat) "DecimalText$Decimal" "words" "[I") ∈ lw_all := lw_g (lw_at lw_m0 20 rfl) rfl
theorem q34 : (Jvm.Cond.fieldLink "DecimalText$Decimal" (17 : Nat) "DecimalText$Decimal" "size" "I") ∈ lw_all := lw_g (lw_at lw_m0 21 rfl) rfl
theorem q35 : (Jvm.Cond.fieldLink "DecimalText$Decimal" (13 : Nat) "DecimalText$Decimal" "digits" "[B") ∈ lw_all := lw_g (lw_at lw_m0 22 rfl) rfl
theorem q37 : (Jvm.Cond.fieldLink "DecimalText$Decimal" (39 : Nat) "DecimalText$Decimal" "count" "I") ∈ lw_all := lw_g (lw_at lw_m0 24 rfl) rfl
theorem q39 : (Jvm.Cond.fieldLink "DecimalText$Decimal" (43 : Nat) "DecimalText$Decimal" "point" "I") ∈ lw_all := lw_g (lw_at lw_m0 26 rfl) rfl
theorem q40 : (Jvm.Cond.laysFinal "DecimalText$Decimal" "DecimalText$Decimal" "words" "[I") ∈ lw_all := lw_g (lw_at lw_m0 27 rfl) rfl
theorem q41 : (Jvm.Cond.soleField "DecimalText$Decimal" "words") ∈ lw_all := lw_g (lw_at lw_m0 28 rfl) rfl
theorem q42 : (Jvm.Cond.lays "DecimalText$Decimal" "DecimalText$Decimal" "size" "I") ∈ lw_all := lw_g (lw_at lw_m0 29 rfl) rfl
theorem q43 : (Jvm.Cond.soleField "DecimalText$Decimal" "size") ∈ lw_all := lw_g (lw_at lw_m0 30 rfl) rfl
theorem q44 : (Jvm.Cond.laysFinal "DecimalText$Decimal" "DecimalText$Decimal" "digits" "[B") ∈ lw_all := lw_g (lw_at lw_m0 31 rfl) rfl
theorem q45 : (Jvm.Cond.soleField "DecimalText$Decimal" "digits") ∈ lw_all := lw_g (lw_at lw_m0 32 rfl) rfl
theorem q46 : (Jvm.Cond.lays "DecimalText$Decimal" "DecimalText$Decimal" "count" "I") ∈ lw_all := lw_g (lw_at lw_m0 33 rfl) rfl
theorem q47 : (Jvm.Cond.soleField "DecimalText$Decimal" "count") ∈ lw_all := lw_g (lw_at lw_m0 34 rfl) rfl
theorem q48 : (Jvm.Cond.lays "DecimalText$Decimal" "DecimalText$Decimal" "point" "I") ∈ lw_all := lw_g (lw_at lw_m0 35 rfl) rfl
theorem q49 : (Jvm.Cond.soleField "DecimalText$Decimal" "point") ∈ lw_all := lw_g (lw_at lw_m0 36 rfl) rfl
theorem q50 : (Jvm.Cond.superclass "DecimalText$Decimal" "java/lang/Object") ∈ lw_all := lw_g (lw_at lw_m0 37 rfl) rfl
theorem q98 : (Jvm.Cond.instanceMethod ({ cls := "DecimalText$Decimal", name := "of", desc := "(D)V" } : Jvm.MethodName)) ∈ lw_all := lw_g (lw_at lw_m0 85 rfl) rfl
theorem q99 : (Jvm.Cond.selects "DecimalText$Decimal" ({ cls := "DecimalText$Decimal", name := "of", desc := "(D)V" } : Jvm.MethodName) ({ cls := "DecimalText$Decimal", name := "of", desc := "(D)V" } : Jvm.MethodName)) ∈ lw_all := lw_g (lw_at lw_m0 86 rfl) rfl
theorem q100 : (Jvm.Cond.code ({ cls := "DecimalText$Decimal", name := "of", desc := "(D)V" } : Jvm.MethodName) prog_3_method_3_code (12 : Nat) (Option.none : Option Jvm.ClassFile.FieldType)) ∈ lw_all := lw_g (lw_at lw_m0 87 rfl) rfl
theorem q101 : (Jvm.Cond.methodLink "DecimalText$Decimal" (23 : Nat) ({ cls := "java/lang/Double", name := "doubleToRawLongBits", desc := "(D)J" } : Jvm.MethodName)) ∈ lw_all := lw_g (lw_at lw_m0 88 rfl) rfl
theorem q104 : (Jvm.Cond.constantLong "DecimalText$Decimal" (29 : Nat) (2047 : Int64)) ∈ lw_all := lw_g (lw_at lw_m0 91 rfl) rfl
theorem q105 : (Jvm.Cond.constantLong "DecimalText$Decimal" (31 : Nat) (4503599627370495 : Int64)) ∈ lw_all := lw_g (lw_at lw_m0 92 rfl) rfl
theorem q106 : (Jvm.Cond.constantLong "DecimalText$Decimal" (33 : Nat) (4503599627370496 : Int64)) ∈ lw_all := lw_g (lw_at lw_m0 93 rfl) rfl
theorem q107 : (Jvm.Cond.constantLong "DecimalText$Decimal" (21 : Nat) (1000000000 : Int64)) ∈ lw_all := lw_g (lw_at lw_m0 94 rfl) rfl
theorem q108 : (Jvm.Cond.methodLink "DecimalText$Decimal" (35 : Nat) ({ cls := "DecimalText$Decimal", name := "times", desc := "(I)V" } : Jvm.MethodName)) ∈ lw_all := lw_g (lw_at lw_m0 95 rfl) rfl
theorem q109 : (Jvm.Cond.privateMethod ({ cls := "DecimalText$Decimal", name := "times", desc := "(I)V" } : Jvm.MethodName)) ∈ lw_tbl := lw_at lw_m0 96 rfl
theorem q110 : (Jvm.Cond.instanceMethod ({ cls := "DecimalText$Decimal", name := "times", desc := "(I)V" } : Jvm.MethodName)) ∈ lw_all := lw_g (lw_at lw_m0 97 rfl) rfl
theorem q111 : (Jvm.Cond.code ({ cls := "DecimalText$Decimal", name := "times", desc := "(I)V" } : Jvm.MethodName) prog_3_method_2_code (7 : Nat) (Option.none : Option Jvm.ClassFile.FieldType)) ∈ lw_all := lw_g (lw_at lw_m0 98 rfl) rfl
theorem q112 : (Jvm.Cond.constant "DecimalText$Decimal" (42 : Nat) (100000000 : Int32)) ∈ lw_all := lw_g (lw_at lw_m0 99 rfl) rfl
theorem q117 : (Jvm.Cond.instanceMethod ({ cls := "DecimalText$Decimal", name := "plain", desc := "(LDecimalText$Bytes;IZ)V" } : Jvm.MethodName)) ∈ lw_all := lw_g (lw_at lw_m0 104 rfl) rfl
theorem q118 : (Jvm.Cond.selects "DecimalText$Decimal" ({ cls := "DecimalText$Decimal", name := "plain", desc := "(LDecimalText$Bytes;IZ)V" } : Jvm.MethodName) ({ cls := "DecimalText$Decimal", name := "plain", desc := "(LDecimalText$Bytes;IZ)V" } : Jvm.MethodName)) ∈ lw_all := lw_g (lw_at lw_m0 105 rfl) rfl
theorem q119 : (Jvm.Cond.code ({ cls := "DecimalText$Decimal", name := "plain", desc := "(LDecimalText$Bytes;IZ)V" } : Jvm.MethodName) prog_3_method_6_code (5 : Nat) (Option.none : Option Jvm.ClassFile.FieldType)) ∈ lw_all := lw_g (lw_at lw_m0 106 rfl) rfl
theorem q120 : (Jvm.Cond.methodLink "DecimalText$Decimal" (46 : Nat) ({ cls := "DecimalText$Decimal", name := "round", desc := "(I)V" } : Jvm.MethodName)) ∈ lw_all := lw_g (lw_at lw_m0 107 rfl) rfl
theorem q121 : (Jvm.Cond.privateMethod ({ cls := "DecimalText$Decimal", name := "round", desc := "(I)V" } : Jvm.MethodName)) ∈ lw_tbl := lw_at lw_m0 108 rfl
theorem q122 : (Jvm.Cond.instanceMethod ({ cls := "DecimalText$Decimal", name := "round", desc := "(I)V" } : Jvm.MethodName)) ∈ lw_all := lw_g (lw_at lw_m0 109 rfl) rfl
theorem q123 : (Jvm.Cond.code ({ cls := "DecimalText$Decimal", name := "round", desc := "(I)V" } : Jvm.MethodName) prog_3_method_4_code (7 : Nat) (Option.none : Option Jvm.ClassFile.FieldType)) ∈ lw_all := lw_g (lw_at lw_m0 110 rfl) rfl
theorem q124 : (Jvm.Cond.methodLink "DecimalText$Decimal" (49 : Nat) ({ cls := "DecimalText$Bytes", name := "add", desc := "(I)V" } : Jvm.MethodName)) ∈ lw_all := lw_g (lw_at lw_m0 111 rfl) rfl
theorem q125 : (Jvm.Cond.methodLink "DecimalText$Decimal" (54 : Nat) ({ cls := "DecimalText$Decimal", name := "digit", desc := "(I)I" } : Jvm.MethodName)) ∈ lw_all := lw_g (lw_at lw_m0 112 rfl) rfl
theorem q126 : (Jvm.Cond.privateMethod ({ cls := "DecimalText$Decimal", name := "digit", desc := "(I)I" } : Jvm.MethodName)) ∈ lw_tbl := lw_at lw_m0 113 rfl
theorem q127 : (Jvm.Cond.instanceMethod ({ cls := "DecimalText$Decimal", name := "digit", desc := "(I)I" } : Jvm.MethodName)) ∈ lw_all := lw_g (lw_at lw_m0 114 rfl) rfl
theorem q128 : (Jvm.Cond.code ({ cls := "DecimalText$Decimal", name := "digit", desc := "(I)I" } : Jvm.MethodName) prog_3_method_5_code (2 : Nat) (Option.some Jvm.ClassFile.FieldType.int)) ∈ lw_all := lw_g (lw_at lw_m0 115 rfl) rfl
theorem q130 : (Jvm.Cond.instanceMethod ({ cls := "DecimalText$Decimal", name := "scientific", desc := "(LDecimalText$Bytes;IZI)V" } : Jvm.MethodName)) ∈ lw_all := lw_g (lw_at lw_m0 117 rfl) rfl
theorem q131 : (Jvm.Cond.selects "DecimalText$Decimal" ({ cls := "DecimalText$Decimal", name := "scientific", desc := "(LDecimalText$Bytes;IZI)V" } : Jvm.MethodName) ({ cls := "DecimalText$Decimal", name := "scientific", desc := "(LDecimalText$Bytes;IZI)V" } : Jvm.MethodName)) ∈ lw_all := lw_g (lw_at lw_m0 118 rfl) rfl
theorem q132 : (Jvm.Cond.code ({ cls := "DecimalText$Decimal", name := "scientific", desc := "(LDecimalText$Bytes;IZI)V" } : Jvm.MethodName) prog_3_method_7_code (8 : Nat) (Option.none : Option Jvm.ClassFile.FieldType)) ∈ lw_all := lw_g (lw_at lw_m0 119 rfl) rfl
theorem in_X1 : ∀ w ∈ wsX10, w ∈ lw_all := lw_in wsX10 [40, 42, 44, 46, 48] (by decide +kernel) (by decide +kernel)
end
section
/-! DecimalTextModel -/
set_option maxRecDepth 100000
def RX3 : String := "DecimalTextModel"
def TX3 : u_T := fun k => match k with
  | 0 => ("DecimalTextModel", "row", "[B", true)
  | 1 => ("DecimalTextModel", "digits", "I", false)
  | 2 => ("DecimalTextModel", "point", "I", false)
  | 3 => ("DecimalTextModel", "text", "[I", true)
  | _ => ("DecimalTextModel", "length", "I", false)
def tyX3 : Nat → FieldType := fun k => match k with
  | 0 => .array .byte
  | 1 => .int
  | 2 => .int
  | 3 => .array .int
  | _ => .int
abbrev wsX30 : List Cond := u_ws RX3 TX3 5
theorem nmX3 : ∀ a, a < 5 → ∀ b, b < 5 → a ≠ b → (TX3 a).2.1 ≠ (TX3 b).2.1 := by decide +kernel
theorem tyX3_ok : ∀ k, k < 5 → parseFieldDescriptor (TX3 k).2.2.1 = some (tyX3 k) := by decide +kernel
abbrev cX3_init : ByteArray := prog_5_method_1_code
def yX3_init : MethodName := ⟨RX3, "<init>", "()V"⟩
theorem dX3_init_0 : decode cX3_init 0 = .ok (.aload_n 0, 1) := by decide +kernel
theorem dX3_init_1 : decode cX3_init 1 = .ok (.invokespecial 1, 3) := by decide +kernel
theorem dX3_init_4 : decode cX3_init 4 = .ok (.aload_n 0, 1) := by decide +kernel
theorem dX3_init_5 : decode cX3_init 5 = .ok (.sipush 1200, 3) := by decide +kernel
theorem dX3_init_8 : decode cX3_init 8 = .ok (.newarray .byte, 2) := by decide +kernel
theorem dX3_init_10 : decode cX3_init 10 = .ok (.putfield 7, 3) := by decide +kernel
theorem dX3_init_13 : decode cX3_init 13 = .ok (.aload_n 0, 1) := by decide +kernel
theorem dX3_init_14 : decode cX3_init 14 = .ok (.sipush 420, 3) := by decide +kernel
theorem dX3_init_17 : decode cX3_init 17 = .ok (.newarray .int, 2) := by decide +kernel
theorem dX3_init_19 : decode cX3_init 19 = .ok (.putfield 13, 3) := by decide +kernel
theorem dX3_init_22 : decode cX3_init 22 = .ok (.return_, 1) := by decide +kernel
abbrev cX3_make : ByteArray := prog_5_method_13_code
def yX3_make : MethodName := ⟨RX3, "make", "(JIIII)I"⟩
theorem dX3_make_0 : decode cX3_make 0 = .ok (.iload_n 3, 1) := by decide +kernel
theorem dX3_make_1 : decode cX3_make 1 = .ok (.ifCond .lt 52, 3) := by decide +kernel
theorem dX3_make_4 : decode cX3_make 4 = .ok (.iload_n 3, 1) := by decide +kernel
theorem dX3_make_5 : decode cX3_make 5 = .ok (.iconst 2, 1) := by decide +kernel
theorem dX3_make_6 : decode cX3_make 6 = .ok (.if_icmp .gt 47, 3) := by decide +kernel
theorem dX3_make_9 : decode cX3_make 9 = .ok (.iload 4, 2) := by decide +kernel
theorem dX3_make_11 : decode cX3_make 11 = .ok (.ifCond .lt 42, 3) := by decide +kernel
theorem dX3_make_14 : decode cX3_make 14 = .ok (.iload 4, 2) := by decide +kernel
theorem dX3_make_16 : decode cX3_make 16 = .ok (.bipush 15, 2) := by decide +kernel
theorem dX3_make_18 : decode cX3_make 18 = .ok (.if_icmp .gt 35, 3) := by decide +kernel
theorem dX3_make_21 : decode cX3_make 21 = .ok (.iload 5, 2) := by decide +kernel
theorem dX3_make_23 : decode cX3_make 23 = .ok (.ifCond .lt 30, 3) := by decide +kernel
theorem dX3_make_26 : decode cX3_make 26 = .ok (.iload 5, 2) := by decide +kernel
theorem dX3_make_28 : decode cX3_make 28 = .ok (.sipush 400, 3) := by decide +kernel
theorem dX3_make_31 : decode cX3_make 31 = .ok (.if_icmp .gt 22, 3) := by decide +kernel
theorem dX3_make_34 : decode cX3_make 34 = .ok (.iload 6, 2) := by decide +kernel
theorem dX3_make_36 : decode cX3_make 36 = .ok (.ifCond .lt 17, 3) := by decide +kernel
theorem dX3_make_39 : decode cX3_make 39 = .ok (.iload 6, 2) := by decide +kernel
theorem dX3_make_41 : decode cX3_make 41 = .ok (.bipush 31, 2) := by decide +kernel
theorem dX3_make_43 : decode cX3_make 43 = .ok (.if_icmp .gt 10, 3) := by decide +kernel
theorem dX3_make_46 : decode cX3_make 46 = .ok (.lload_n 1, 1) := by decide +kernel
theorem dX3_make_47 : decode cX3_make 47 = .ok (.invokestatic 57, 3) := by decide +kernel
theorem dX3_make_50 : decode cX3_make 50 = .ok (.ifCond .eq 5, 3) := by decide +kernel
theorem dX3_make_53 : decode cX3_make 53 = .ok (.iconst (-1), 1) := by decide +kernel
theorem dX3_make_54 : decode cX3_make 54 = .ok (.ireturn, 1) := by decide +kernel
theorem dX3_make_55 : decode cX3_make 55 = .ok (.aload_n 0, 1) := by decide +kernel
theorem dX3_make_56 : decode cX3_make 56 = .ok (.iconst 0, 1) := by decide +kernel
theorem dX3_make_57 : decode cX3_make 57 = .ok (.putfield 43, 3) := by decide +kernel
theorem dX3_make_60 : decode cX3_make 60 = .ok (.lload_n 1, 1) := by decide +kernel
theorem dX3_make_61 : decode cX3_make 61 = .ok (.lconst 0, 1) := by decide +kernel
theorem dX3_make_62 : decode cX3_make 62 = .ok (.lcmp, 1) := by decide +kernel
theorem dX3_make_63 : decode cX3_make 63 = .ok (.ifCond .ge 8, 3) := by decide +kernel
theorem dX3_make_66 : decode cX3_make 66 = .ok (.bipush 45, 2) := by decide +kernel
theorem dX3_make_68 : decode cX3_make 68 = .ok (.goto 28, 3) := by decide +kernel
theorem dX3_make_71 : decode cX3_make 71 = .ok (.iload 6, 2) := by decide +kernel
theorem dX3_make_73 : decode cX3_make 73 = .ok (.iconst 2, 1) := by decide +kernel
theorem dX3_make_74 : decode cX3_make 74 = .ok (.iand, 1) := by decide +kernel
theorem dX3_make_75 : decode cX3_make 75 = .ok (.ifCond .eq 8, 3) := by decide +kernel
theorem dX3_make_78 : decode cX3_make 78 = .ok (.bipush 43, 2) := by decide +kernel
theorem dX3_make_80 : decode cX3_make 80 = .ok (.goto 16, 3) := by decide +kernel
theorem dX3_make_83 : decode cX3_make 83 = .ok (.iload 6, 2) := by decide +kernel
theorem dX3_make_85 : decode cX3_make 85 = .ok (.iconst 4, 1) := by decide +kernel
theorem dX3_make_86 : decode cX3_make 86 = .ok (.iand, 1) := by decide +kernel
theorem dX3_make_87 : decode cX3_make 87 = .ok (.ifCond .eq 8, 3) := by decide +kernel
theorem dX3_make_90 : decode cX3_make 90 = .ok (.bipush 32, 2) := by decide +kernel
theorem dX3_make_92 : decode cX3_make 92 = .ok (.goto 4, 3) := by decide +kernel
theorem dX3_make_95 : decode cX3_make 95 = .ok (.iconst 0, 1) := by decide +kernel
theorem dX3_make_96 : decode cX3_make 96 = .ok (.istore 7, 2) := by decide +kernel
theorem dX3_make_98 : decode cX3_make 98 = .ok (.iload 7, 2) := by decide +kernel
theorem dX3_make_100 : decode cX3_make 100 = .ok (.ifCond .eq 9, 3) := by decide +kernel
theorem dX3_make_103 : decode cX3_make 103 = .ok (.aload_n 0, 1) := by decide +kernel
theorem dX3_make_104 : decode cX3_make 104 = .ok (.iload 7, 2) := by decide +kernel
theorem dX3_make_106 : decode cX3_make 106 = .ok (.invokevirtual 54, 3) := by decide +kernel
theorem dX3_make_109 : decode cX3_make 109 = .ok (.aload_n 0, 1) := by decide +kernel
theorem dX3_make_110 : decode cX3_make 110 = .ok (.getfield 43, 3) := by decide +kernel
theorem dX3_make_113 : decode cX3_make 113 = .ok (.istore 8, 2) := by decide +kernel
theorem dX3_make_115 : decode cX3_make 115 = .ok (.lload_n 1, 1) := by decide +kernel
theorem dX3_make_116 : decode cX3_make 116 = .ok (.invokestatic 61, 3) := by decide +kernel
theorem dX3_make_119 : decode cX3_make 119 = .ok (.ifCond .eq 24, 3) := by decide +kernel
theorem dX3_make_122 : decode cX3_make 122 = .ok (.aload_n 0, 1) := by decide +kernel
theorem dX3_make_123 : decode cX3_make 123 = .ok (.bipush 105, 2) := by decide +kernel
theorem dX3_make_125 : decode cX3_make 125 = .ok (.invokevirtual 54, 3) := by decide +kernel
theorem dX3_make_128 : decode cX3_make 128 = .ok (.aload_n 0, 1) := by decide +kernel
theorem dX3_make_129 : decode cX3_make 129 = .ok (.bipush 110, 2) := by decide +kernel
theorem dX3_make_131 : decode cX3_make 131 = .ok (.invokevirtual 54, 3) := by decide +kernel
theorem dX3_make_134 : decode cX3_make 134 = .ok (.aload_n 0, 1) := by decide +kernel
theorem dX3_make_135 : decode cX3_make 135 = .ok (.bipush 102, 2) := by decide +kernel
theorem dX3_make_137 : decode cX3_make 137 = .ok (.invokevirtual 54, 3) := by decide +kernel
theorem dX3_make_140 : decode cX3_make 140 = .ok (.goto 28, 3) := by decide +kernel
theorem dX3_make_143 : decode cX3_make 143 = .ok (.aload_n 0, 1) := by decide +kernel
theorem dX3_make_144 : decode cX3_make 144 = .ok (.lload_n 1, 1) := by decide +kernel
theorem dX3_make_145 : decode cX3_make 145 = .ok (.invokevirtual 64, 3) := by decide +kernel
theorem dX3_make_148 : decode cX3_make 148 = .ok (.aload_n 0, 1) := by decide +kernel
theorem dX3_make_149 : decode cX3_make 149 = .ok (.iload_n 3, 1) := by decide +kernel
theorem dX3_make_150 : decode cX3_make 150 = .ok (.iload 4, 2) := by decide +kernel
theorem dX3_make_152 : decode cX3_make 152 = .ok (.iload 6, 2) := by decide +kernel
theorem dX3_make_154 : decode cX3_make 154 = .ok (.bipush 16, 2) := by decide +kernel
theorem dX3_make_156 : decode cX3_make 156 = .ok (.iand, 1) := by decide +kernel
theorem dX3_make_157 : decode cX3_make 157 = .ok (.ifCond .eq 7, 3) := by decide +kernel
theorem dX3_make_160 : decode cX3_make 160 = .ok (.iconst 1, 1) := by decide +kernel
theorem dX3_make_161 : decode cX3_make 161 = .ok (.goto 4, 3) := by decide +kernel
theorem dX3_make_164 : decode cX3_make 164 = .ok (.iconst 0, 1) := by decide +kernel
theorem dX3_make_165 : decode cX3_make 165 = .ok (.invokevirtual 68, 3) := by decide +kernel
theorem dX3_make_168 : decode cX3_make 168 = .ok (.iload 5, 2) := by decide +kernel
theorem dX3_make_170 : decode cX3_make 170 = .ok (.aload_n 0, 1) := by decide +kernel
theorem dX3_make_171 : decode cX3_make 171 = .ok (.getfield 43, 3) := by decide +kernel
theorem dX3_make_174 : decode cX3_make 174 = .ok (.isub, 1) := by decide +kernel
theorem dX3_make_175 : decode cX3_make 175 = .ok (.istore 9, 2) := by decide +kernel
theorem dX3_make_177 : decode cX3_make 177 = .ok (.iload 9, 2) := by decide +kernel
theorem dX3_make_179 : decode cX3_make 179 = .ok (.ifCond .le 17, 3) := by decide +kernel
theorem dX3_make_182 : decode cX3_make 182 = .ok (.aload_n 0, 1) := by decide +kernel
theorem dX3_make_183 : decode cX3_make 183 = .ok (.iload 9, 2) := by decide +kernel
theorem dX3_make_185 : decode cX3_make 185 = .ok (.iload 6, 2) := by decide +kernel
theorem dX3_make_187 : decode cX3_make 187 = .ok (.iload 8, 2) := by decide +kernel
theorem dX3_make_189 : decode cX3_make 189 = .ok (.lload_n 1, 1) := by decide +kernel
theorem dX3_make_190 : decode cX3_make 190 = .ok (.invokestatic 61, 3) := by decide +kernel
theorem dX3_make_193 : decode cX3_make 193 = .ok (.invokevirtual 72, 3) := by decide +kernel
theorem dX3_make_196 : decode cX3_make 196 = .ok (.aload_n 0, 1) := by decide +kernel
theorem dX3_make_197 : decode cX3_make 197 = .ok (.getfield 43, 3) := by decide +kernel
theorem dX3_make_200 : decode cX3_make 200 = .ok (.ireturn, 1) := by decide +kernel
abbrev cX3_none : ByteArray := prog_5_method_4_code
def yX3_none : MethodName := ⟨RX3, "none", "(J)Z"⟩
theorem dX3_none_0 : decode cX3_none 0 = .ok (.lload_n 0, 1) := by decide +kernel
theorem dX3_none_1 : decode cX3_none 1 = .ok (.bipush 52, 2) := by decide +kernel
theorem dX3_none_3 : decode cX3_none 3 = .ok (.lshr, 1) := by decide +kernel
theorem dX3_none_4 : decode cX3_none 4 = .ok (.ldc2_w 17, 3) := by decide +kernel
theorem dX3_none_7 : decode cX3_none 7 = .ok (.land, 1) := by decide +kernel
theorem dX3_none_8 : decode cX3_none 8 = .ok (.ldc2_w 17, 3) := by decide +kernel
theorem dX3_none_11 : decode cX3_none 11 = .ok (.lcmp, 1) := by decide +kernel
theorem dX3_none_12 : decode cX3_none 12 = .ok (.ifCond .ne 17, 3) := by decide +kernel
theorem dX3_none_15 : decode cX3_none 15 = .ok (.lload_n 0, 1) := by decide +kernel
theorem dX3_none_16 : decode cX3_none 16 = .ok (.ldc2_w 19, 3) := by decide +kernel
theorem dX3_none_19 : decode cX3_none 19 = .ok (.land, 1) := by decide +kernel
theorem dX3_none_20 : decode cX3_none 20 = .ok (.lconst 0, 1) := by decide +kernel
theorem dX3_none_21 : decode cX3_none 21 = .ok (.lcmp, 1) := by decide +kernel
theorem dX3_none_22 : decode cX3_none 22 = .ok (.ifCond .eq 7, 3) := by decide +kernel
theorem dX3_none_25 : decode cX3_none 25 = .ok (.iconst 1, 1) := by decide +kernel
theorem dX3_none_26 : decode cX3_none 26 = .ok (.goto 4, 3) := by decide +kernel
theorem dX3_none_29 : decode cX3_none 29 = .ok (.iconst 0, 1) := by decide +kernel
theorem dX3_none_30 : decode cX3_none 30 = .ok (.ireturn, 1) := by decide +kernel
abbrev cX3_put : ByteArray := prog_5_method_10_code
def yX3_put : MethodName := ⟨RX3, "put", "(I)V"⟩
theorem dX3_put_0 : decode cX3_put 0 = .ok (.aload_n 0, 1) := by decide +kernel
theorem dX3_put_1 : decode cX3_put 1 = .ok (.getfield 13, 3) := by decide +kernel
theorem dX3_put_4 : decode cX3_put 4 = .ok (.aload_n 0, 1) := by decide +kernel
theorem dX3_put_5 : decode cX3_put 5 = .ok (.getfield 43, 3) := by decide +kernel
theorem dX3_put_8 : decode cX3_put 8 = .ok (.iload_n 1, 1) := by decide +kernel
theorem dX3_put_9 : decode cX3_put 9 = .ok (.iastore, 1) := by decide +kernel
theorem dX3_put_10 : decode cX3_put 10 = .ok (.aload_n 0, 1) := by decide +kernel
theorem dX3_put_11 : decode cX3_put 11 = .ok (.aload_n 0, 1) := by decide +kernel
theorem dX3_put_12 : decode cX3_put 12 = .ok (.getfield 43, 3) := by decide +kernel
theorem dX3_put_15 : decode cX3_put 15 = .ok (.iconst 1, 1) := by decide +kernel
theorem dX3_put_16 : decode cX3_put 16 = .ok (.iadd, 1) := by decide +kernel
theorem dX3_put_17 : decode cX3_put 17 = .ok (.putfield 43, 3) := by decide +kernel
theorem dX3_put_20 : decode cX3_put 20 = .ok (.return_, 1) := by decide +kernel
abbrev cX3_infinite : ByteArray := prog_5_method_3_code
def yX3_infinite : MethodName := ⟨RX3, "infinite", "(J)Z"⟩
theorem dX3_infinite_0 : decode cX3_infinite 0 = .ok (.lload_n 0, 1) := by decide +kernel
theorem dX3_infinite_1 : decode cX3_infinite 1 = .ok (.bipush 52, 2) := by decide +kernel
theorem dX3_infinite_3 : decode cX3_infinite 3 = .ok (.lshr, 1) := by decide +kernel
theorem dX3_infinite_4 : decode cX3_infinite 4 = .ok (.ldc2_w 17, 3) := by decide +kernel
theorem dX3_infinite_7 : decode cX3_infinite 7 = .ok (.land, 1) := by decide +kernel
theorem dX3_infinite_8 : decode cX3_infinite 8 = .ok (.ldc2_w 17, 3) := by decide +kernel
theorem dX3_infinite_11 : decode cX3_infinite 11 = .ok (.lcmp, 1) := by decide +kernel
theorem dX3_infinite_12 : decode cX3_infinite 12 = .ok (.ifCond .ne 17, 3) := by decide +kernel
theorem dX3_infinite_15 : decode cX3_infinite 15 = .ok (.lload_n 0, 1) := by decide +kernel
theorem dX3_infinite_16 : decode cX3_infinite 16 = .ok (.ldc2_w 19, 3) := by decide +kernel
theorem dX3_infinite_19 : decode cX3_infinite 19 = .ok (.land, 1) := by decide +kernel
theorem dX3_infinite_20 : decode cX3_infinite 20 = .ok (.lconst 0, 1) := by decide +kernel
theorem dX3_infinite_21 : decode cX3_infinite 21 = .ok (.lcmp, 1) := by decide +kernel
theorem dX3_infinite_22 : decode cX3_infinite 22 = .ok (.ifCond .ne 7, 3) := by decide +kernel
theorem dX3_infinite_25 : decode cX3_infinite 25 = .ok (.iconst 1, 1) := by decide +kernel
theorem dX3_infinite_26 : decode cX3_infinite 26 = .ok (.goto 4, 3) := by decide +kernel
theorem dX3_infinite_29 : decode cX3_infinite 29 = .ok (.iconst 0, 1) := by decide +kernel
theorem dX3_infinite_30 : decode cX3_infinite 30 = .ok (.ireturn, 1) := by decide +kernel
abbrev cX3_spread : ByteArray := prog_5_method_5_code
def yX3_spread : MethodName := ⟨RX3, "spread", "(J)V"⟩
theorem dX3_spread_0 : decode cX3_spread 0 = .ok (.lload_n 1, 1) := by decide +kernel
theorem dX3_spread_1 : decode cX3_spread 1 = .ok (.bipush 52, 2) := by decide +kernel
theorem dX3_spread_3 : decode cX3_spread 3 = .ok (.lshr, 1) := by decide +kernel
theorem dX3_spread_4 : decode cX3_spread 4 = .ok (.ldc2_w 17, 3) := by decide +kernel
theorem dX3_spread_7 : decode cX3_spread 7 = .ok (.land, 1) := by decide +kernel
theorem dX3_spread_8 : decode cX3_spread 8 = .ok (.l2i, 1) := by decide +kernel
theorem dX3_spread_9 : decode cX3_spread 9 = .ok (.istore_n 3, 1) := by decide +kernel
theorem dX3_spread_10 : decode cX3_spread 10 = .ok (.lload_n 1, 1) := by decide +kernel
theorem dX3_spread_11 : decode cX3_spread 11 = .ok (.ldc2_w 19, 3) := by decide +kernel
theorem dX3_spread_14 : decode cX3_spread 14 = .ok (.land, 1) := by decide +kernel
theorem dX3_spread_15 : decode cX3_spread 15 = .ok (.lstore 4, 2) := by decide +kernel
theorem dX3_spread_17 : decode cX3_spread 17 = .ok (.iload_n 3, 1) := by decide +kernel
theorem dX3_spread_18 : decode cX3_spread 18 = .ok (.ifCond .le 11, 3) := by decide +kernel
theorem dX3_spread_21 : decode cX3_spread 21 = .ok (.lload 4, 2) := by decide +kernel
theorem dX3_spread_23 : decode cX3_spread 23 = .ok (.ldc2_w 21, 3) := by decide +kernel
theorem dX3_spread_26 : decode cX3_spread 26 = .ok (.ladd, 1) := by decide +kernel
theorem dX3_spread_27 : decode cX3_spread 27 = .ok (.lstore 4, 2) := by decide +kernel
theorem dX3_spread_29 : decode cX3_spread 29 = .ok (.aload_n 0, 1) := by decide +kernel
theorem dX3_spread_30 : decode cX3_spread 30 = .ok (.iconst 0, 1) := by decide +kernel
theorem dX3_spread_31 : decode cX3_spread 31 = .ok (.putfield 23, 3) := by decide +kernel
theorem dX3_spread_34 : decode cX3_spread 34 = .ok (.ldc2_w 27, 3) := by decide +kernel
theorem dX3_spread_37 : decode cX3_spread 37 = .ok (.lstore 6, 2) := by decide +kernel
theorem dX3_spread_39 : decode cX3_spread 39 = .ok (.lload 6, 2) := by decide +kernel
theorem dX3_spread_41 : decode cX3_spread 41 = .ok (.lconst 0, 1) := by decide +kernel
theorem dX3_spread_42 : decode cX3_spread 42 = .ok (.lcmp, 1) := by decide +kernel
theorem dX3_spread_43 : decode cX3_spread 43 = .ok (.ifCond .le 44, 3) := by decide +kernel
theorem dX3_spread_46 : decode cX3_spread 46 = .ok (.aload_n 0, 1) := by decide +kernel
theorem dX3_spread_47 : decode cX3_spread 47 = .ok (.getfield 7, 3) := by decide +kernel
theorem dX3_spread_50 : decode cX3_spread 50 = .ok (.aload_n 0, 1) := by decide +kernel
theorem dX3_spread_51 : decode cX3_spread 51 = .ok (.getfield 23, 3) := by decide +kernel
theorem dX3_spread_54 : decode cX3_spread 54 = .ok (.lload 4, 2) := by decide +kernel
theorem dX3_spread_56 : decode cX3_spread 56 = .ok (.lload 6, 2) := by decide +kernel
theorem dX3_spread_58 : decode cX3_spread 58 = .ok (.ldiv, 1) := by decide +kernel
theorem dX3_spread_59 : decode cX3_spread 59 = .ok (.ldc2_w 29, 3) := by decide +kernel
theorem dX3_spread_62 : decode cX3_spread 62 = .ok (.lrem, 1) := by decide +kernel
theorem dX3_spread_63 : decode cX3_spread 63 = .ok (.l2i, 1) := by decide +kernel
theorem dX3_spread_64 : decode cX3_spread 64 = .ok (.i2b, 1) := by decide +kernel
theorem dX3_spread_65 : decode cX3_spread 65 = .ok (.bastore, 1) := by decide +kernel
theorem dX3_spread_66 : decode cX3_spread 66 = .ok (.aload_n 0, 1) := by decide +kernel
theorem dX3_spread_67 : decode cX3_spread 67 = .ok (.aload_n 0, 1) := by decide +kernel
theorem dX3_spread_68 : decode cX3_spread 68 = .ok (.getfield 23, 3) := by decide +kernel
theorem dX3_spread_71 : decode cX3_spread 71 = .ok (.iconst 1, 1) := by decide +kernel
theorem dX3_spread_72 : decode cX3_spread 72 = .ok (.iadd, 1) := by decide +kernel
theorem dX3_spread_73 : decode cX3_spread 73 = .ok (.putfield 23, 3) := by decide +kernel
theorem dX3_spread_76 : decode cX3_spread 76 = .ok (.lload 6, 2) := by decide +kernel
theorem dX3_spread_78 : decode cX3_spread 78 = .ok (.ldc2_w 29, 3) := by decide +kernel
theorem dX3_spread_81 : decode cX3_spread 81 = .ok (.ldiv, 1) := by decide +kernel
theorem dX3_spread_82 : decode cX3_spread 82 = .ok (.lstore 6, 2) := by decide +kernel
theorem dX3_spread_84 : decode cX3_spread 84 = .ok (.goto (-45), 3) := by decide +kernel
theorem dX3_spread_87 : decode cX3_spread 87 = .ok (.aload_n 0, 1) := by decide +kernel
theorem dX3_spread_88 : decode cX3_spread 88 = .ok (.aload_n 0, 1) := by decide +kernel
theorem dX3_spread_89 : decode cX3_spread 89 = .ok (.getfield 23, 3) := by decide +kernel
theorem dX3_spread_92 : decode cX3_spread 92 = .ok (.putfield 31, 3) := by decide +kernel
theorem dX3_spread_95 : decode cX3_spread 95 = .ok (.aload_n 0, 1) := by decide +kernel
theorem dX3_spread_96 : decode cX3_spread 96 = .ok (.invokevirtual 34, 3) := by decide +kernel
theorem dX3_spread_99 : decode cX3_spread 99 = .ok (.iload_n 3, 1) := by decide +kernel
theorem dX3_spread_100 : decode cX3_spread 100 = .ok (.ifCond .ne 9, 3) := by decide +kernel
theorem dX3_spread_103 : decode cX3_spread 103 = .ok (.sipush (-1074), 3) := by decide +kernel
theorem dX3_spread_106 : decode cX3_spread 106 = .ok (.goto 8, 3) := by decide +kernel
theorem dX3_spread_109 : decode cX3_spread 109 = .ok (.iload_n 3, 1) := by decide +kernel
theorem dX3_spread_110 : decode cX3_spread 110 = .ok (.sipush 1075, 3) := by decide +kernel
theorem dX3_spread_113 : decode cX3_spread 113 = .ok (.isub, 1) := by decide +kernel
theorem dX3_spread_114 : decode cX3_spread 114 = .ok (.istore 6, 2) := by decide +kernel
theorem dX3_spread_116 : decode cX3_spread 116 = .ok (.iconst 0, 1) := by decide +kernel
theorem dX3_spread_117 : decode cX3_spread 117 = .ok (.istore 7, 2) := by decide +kernel
theorem dX3_spread_119 : decode cX3_spread 119 = .ok (.iload 7, 2) := by decide +kernel
theorem dX3_spread_121 : decode cX3_spread 121 = .ok (.iload 6, 2) := by decide +kernel
theorem dX3_spread_123 : decode cX3_spread 123 = .ok (.if_icmp .ge 13, 3) := by decide +kernel
theorem dX3_spread_126 : decode cX3_spread 126 = .ok (.aload_n 0, 1) := by decide +kernel
theorem dX3_spread_127 : decode cX3_spread 127 = .ok (.invokevirtual 37, 3) := by decide +kernel
theorem dX3_spread_130 : decode cX3_spread 130 = .ok (.iinc 7 1, 3) := by decide +kernel
theorem dX3_spread_133 : decode cX3_spread 133 = .ok (.goto (-14), 3) := by decide +kernel
theorem dX3_spread_136 : decode cX3_spread 136 = .ok (.iconst 0, 1) := by decide +kernel
theorem dX3_spread_137 : decode cX3_spread 137 = .ok (.istore 7, 2) := by decide +kernel
theorem dX3_spread_139 : decode cX3_spread 139 = .ok (.iload 7, 2) := by decide +kernel
theorem dX3_spread_141 : decode cX3_spread 141 = .ok (.iload 6, 2) := by decide +kernel
theorem dX3_spread_143 : decode cX3_spread 143 = .ok (.if_icmp .le 13, 3) := by decide +kernel
theorem dX3_spread_146 : decode cX3_spread 146 = .ok (.aload_n 0, 1) := by decide +kernel
theorem dX3_spread_147 : decode cX3_spread 147 = .ok (.invokevirtual 40, 3) := by decide +kernel
theorem dX3_spread_150 : decode cX3_spread 150 = .ok (.iinc 7 (-1), 3) := by decide +kernel
theorem dX3_spread_153 : decode cX3_spread 153 = .ok (.goto (-14), 3) := by decide +kernel
theorem dX3_spread_156 : decode cX3_spread 156 = .ok (.return_, 1) := by decide +kernel
abbrev cX3_trim : ByteArray := prog_5_method_6_code
def yX3_trim : MethodName := ⟨RX3, "trim", "()V"⟩
theorem dX3_trim_0 : decode cX3_trim 0 = .ok (.iconst 0, 1) := by decide +kernel
theorem dX3_trim_1 : decode cX3_trim 1 = .ok (.istore_n 1, 1) := by decide +kernel
theorem dX3_trim_2 : decode cX3_trim 2 = .ok (.iload_n 1, 1) := by decide +kernel
theorem dX3_trim_3 : decode cX3_trim 3 = .ok (.aload_n 0, 1) := by decide +kernel
theorem dX3_trim_4 : decode cX3_trim 4 = .ok (.getfield 23, 3) := by decide +kernel
theorem dX3_trim_7 : decode cX3_trim 7 = .ok (.if_icmp .ge 19, 3) := by decide +kernel
theorem dX3_trim_10 : decode cX3_trim 10 = .ok (.aload_n 0, 1) := by decide +kernel
theorem dX3_trim_11 : decode cX3_trim 11 = .ok (.getfield 7, 3) := by decide +kernel
theorem dX3_trim_14 : decode cX3_trim 14 = .ok (.iload_n 1, 1) := by decide +kernel
theorem dX3_trim_15 : decode cX3_trim 15 = .ok (.baload, 1) := by decide +kernel
theorem dX3_trim_16 : decode cX3_trim 16 = .ok (.ifCond .ne 10, 3) := by decide +kernel
theorem dX3_trim_19 : decode cX3_trim 19 = .ok (.iload_n 1, 1) := by decide +kernel
theorem dX3_trim_20 : decode cX3_trim 20 = .ok (.iconst 1, 1) := by decide +kernel
theorem dX3_trim_21 : decode cX3_trim 21 = .ok (.iadd, 1) := by decide +kernel
theorem dX3_trim_22 : decode cX3_trim 22 = .ok (.istore_n 1, 1) := by decide +kernel
theorem dX3_trim_23 : decode cX3_trim 23 = .ok (.goto (-21), 3) := by decide +kernel
theorem dX3_trim_26 : decode cX3_trim 26 = .ok (.iload_n 1, 1) := by decide +kernel
theorem dX3_trim_27 : decode cX3_trim 27 = .ok (.istore_n 2, 1) := by decide +kernel
theorem dX3_trim_28 : decode cX3_trim 28 = .ok (.iload_n 2, 1) := by decide +kernel
theorem dX3_trim_29 : decode cX3_trim 29 = .ok (.aload_n 0, 1) := by decide +kernel
theorem dX3_trim_30 : decode cX3_trim 30 = .ok (.getfield 23, 3) := by decide +kernel
theorem dX3_trim_33 : decode cX3_trim 33 = .ok (.if_icmp .ge 23, 3) := by decide +kernel
theorem dX3_trim_36 : decode cX3_trim 36 = .ok (.aload_n 0, 1) := by decide +kernel
theorem dX3_trim_37 : decode cX3_trim 37 = .ok (.getfield 7, 3) := by decide +kernel
theorem dX3_trim_40 : decode cX3_trim 40 = .ok (.iload_n 2, 1) := by decide +kernel
theorem dX3_trim_41 : decode cX3_trim 41 = .ok (.iload_n 1, 1) := by decide +kernel
theorem dX3_trim_42 : decode cX3_trim 42 = .ok (.isub, 1) := by decide +kernel
theorem dX3_trim_43 : decode cX3_trim 43 = .ok (.aload_n 0, 1) := by decide +kernel
theorem dX3_trim_44 : decode cX3_trim 44 = .ok (.getfield 7, 3) := by decide +kernel
theorem dX3_trim_47 : decode cX3_trim 47 = .ok (.iload_n 2, 1) := by decide +kernel
theorem dX3_trim_48 : decode cX3_trim 48 = .ok (.baload, 1) := by decide +kernel
theorem dX3_trim_49 : decode cX3_trim 49 = .ok (.bastore, 1) := by decide +kernel
theorem dX3_trim_50 : decode cX3_trim 50 = .ok (.iinc 2 1, 3) := by decide +kernel
theorem dX3_trim_53 : decode cX3_trim 53 = .ok (.goto (-25), 3) := by decide +kernel
theorem dX3_trim_56 : decode cX3_trim 56 = .ok (.aload_n 0, 1) := by decide +kernel
theorem dX3_trim_57 : decode cX3_trim 57 = .ok (.aload_n 0, 1) := by decide +kernel
theorem dX3_trim_58 : decode cX3_trim 58 = .ok (.getfield 23, 3) := by decide +kernel
theorem dX3_trim_61 : decode cX3_trim 61 = .ok (.iload_n 1, 1) := by decide +kernel
theorem dX3_trim_62 : decode cX3_trim 62 = .ok (.isub, 1) := by decide +kernel
theorem dX3_trim_63 : decode cX3_trim 63 = .ok (.putfield 23, 3) := by decide +kernel
theorem dX3_trim_66 : decode cX3_trim 66 = .ok (.aload_n 0, 1) := by decide +kernel
theorem dX3_trim_67 : decode cX3_trim 67 = .ok (.aload_n 0, 1) := by decide +kernel
theorem dX3_trim_68 : decode cX3_trim 68 = .ok (.getfield 31, 3) := by decide +kernel
theorem dX3_trim_71 : decode cX3_trim 71 = .ok (.iload_n 1, 1) := by decide +kernel
theorem dX3_trim_72 : decode cX3_trim 72 = .ok (.isub, 1) := by decide +kernel
theorem dX3_trim_73 : decode cX3_trim 73 = .ok (.putfield 31, 3) := by decide +kernel
theorem dX3_trim_76 : decode cX3_trim 76 = .ok (.aload_n 0, 1) := by decide +kernel
theorem dX3_trim_77 : decode cX3_trim 77 = .ok (.getfield 23, 3) := by decide +kernel
theorem dX3_trim_80 : decode cX3_trim 80 = .ok (.ifCond .le 30, 3) := by decide +kernel
theorem dX3_trim_83 : decode cX3_trim 83 = .ok (.aload_n 0, 1) := by decide +kernel
theorem dX3_trim_84 : decode cX3_trim 84 = .ok (.getfield 7, 3) := by decide +kernel
theorem dX3_trim_87 : decode cX3_trim 87 = .ok (.aload_n 0, 1) := by decide +kernel
theorem dX3_trim_88 : decode cX3_trim 88 = .ok (.getfield 23, 3) := by decide +kernel
theorem dX3_trim_91 : decode cX3_trim 91 = .ok (.iconst 1, 1) := by decide +kernel
theorem dX3_trim_92 : decode cX3_trim 92 = .ok (.isub, 1) := by decide +kernel
theorem dX3_trim_93 : decode cX3_trim 93 = .ok (.baload, 1) := by decide +kernel
theorem dX3_trim_94 : decode cX3_trim 94 = .ok (.ifCond .ne 16, 3) := by decide +kernel
theorem dX3_trim_97 : decode cX3_trim 97 = .ok (.aload_n 0, 1) := by decide +kernel
theorem dX3_trim_98 : decode cX3_trim 98 = .ok (.aload_n 0, 1) := by decide +kernel
theorem dX3_trim_99 : decode cX3_trim 99 = .ok (.getfield 23, 3) := by decide +kernel
theorem dX3_trim_102 : decode cX3_trim 102 = .ok (.iconst 1, 1) := by decide +kernel
theorem dX3_trim_103 : decode cX3_trim 103 = .ok (.isub, 1) := by decide +kernel
theorem dX3_trim_104 : decode cX3_trim 104 = .ok (.putfield 23, 3) := by decide +kernel
theorem dX3_trim_107 : decode cX3_trim 107 = .ok (.goto (-31), 3) := by decide +kernel
theorem dX3_trim_110 : decode cX3_trim 110 = .ok (.aload_n 0, 1) := by decide +kernel
theorem dX3_trim_111 : decode cX3_trim 111 = .ok (.getfield 23, 3) := by decide +kernel
theorem dX3_trim_114 : decode cX3_trim 114 = .ok (.ifCond .ne 8, 3) := by decide +kernel
theorem dX3_trim_117 : decode cX3_trim 117 = .ok (.aload_n 0, 1) := by decide +kernel
theorem dX3_trim_118 : decode cX3_trim 118 = .ok (.iconst 0, 1) := by decide +kernel
theorem dX3_trim_119 : decode cX3_trim 119 = .ok (.putfield 31, 3) := by decide +kernel
theorem dX3_trim_122 : decode cX3_trim 122 = .ok (.return_, 1) := by decide +kernel
end
section
set_option maxRecDepth 100000
abbrev cX3_twice : ByteArray := prog_5_method_7_code
def yX3_twice : MethodName := ⟨RX3, "twice", "()V"⟩
theorem dX3_twice_0 : decode cX3_twice 0 = .ok (.iconst 0, 1) := by decide +kernel
theorem dX3_twice_1 : decode cX3_twice 1 = .ok (.istore_n 1, 1) := by decide +kernel
theorem dX3_twice_2 : decode cX3_twice 2 = .ok (.aload_n 0, 1) := by decide +kernel
theorem dX3_twice_3 : decode cX3_twice 3 = .ok (.getfield 23, 3) := by decide +kernel
theorem dX3_twice_6 : decode cX3_twice 6 = .ok (.iconst 1, 1) := by decide +kernel
theorem dX3_twice_7 : decode cX3_twice 7 = .ok (.isub, 1) := by decide +kernel
theorem dX3_twice_8 : decode cX3_twice 8 = .ok (.istore_n 2, 1) := by decide +kernel
theorem dX3_twice_9 : decode cX3_twice 9 = .ok (.iload_n 2, 1) := by decide +kernel
theorem dX3_twice_10 : decode cX3_twice 10 = .ok (.ifCond .lt 36, 3) := by decide +kernel
theorem dX3_twice_13 : decode cX3_twice 13 = .ok (.iconst 2, 1) := by decide +kernel
theorem dX3_twice_14 : decode cX3_twice 14 = .ok (.aload_n 0, 1) := by decide +kernel
theorem dX3_twice_15 : decode cX3_twice 15 = .ok (.getfield 7, 3) := by decide +kernel
theorem dX3_twice_18 : decode cX3_twice 18 = .ok (.iload_n 2, 1) := by decide +kernel
theorem dX3_twice_19 : decode cX3_twice 19 = .ok (.baload, 1) := by decide +kernel
theorem dX3_twice_20 : decode cX3_twice 20 = .ok (.imul, 1) := by decide +kernel
theorem dX3_twice_21 : decode cX3_twice 21 = .ok (.iload_n 1, 1) := by decide +kernel
theorem dX3_twice_22 : decode cX3_twice 22 = .ok (.iadd, 1) := by decide +kernel
theorem dX3_twice_23 : decode cX3_twice 23 = .ok (.istore_n 3, 1) := by decide +kernel
theorem dX3_twice_24 : decode cX3_twice 24 = .ok (.aload_n 0, 1) := by decide +kernel
theorem dX3_twice_25 : decode cX3_twice 25 = .ok (.getfield 7, 3) := by decide +kernel
theorem dX3_twice_28 : decode cX3_twice 28 = .ok (.iload_n 2, 1) := by decide +kernel
theorem dX3_twice_29 : decode cX3_twice 29 = .ok (.iload_n 3, 1) := by decide +kernel
theorem dX3_twice_30 : decode cX3_twice 30 = .ok (.bipush 10, 2) := by decide +kernel
theorem dX3_twice_32 : decode cX3_twice 32 = .ok (.irem, 1) := by decide +kernel
theorem dX3_twice_33 : decode cX3_twice 33 = .ok (.i2b, 1) := by decide +kernel
theorem dX3_twice_34 : decode cX3_twice 34 = .ok (.bastore, 1) := by decide +kernel
theorem dX3_twice_35 : decode cX3_twice 35 = .ok (.iload_n 3, 1) := by decide +kernel
theorem dX3_twice_36 : decode cX3_twice 36 = .ok (.bipush 10, 2) := by decide +kernel
theorem dX3_twice_38 : decode cX3_twice 38 = .ok (.idiv, 1) := by decide +kernel
theorem dX3_twice_39 : decode cX3_twice 39 = .ok (.istore_n 1, 1) := by decide +kernel
theorem dX3_twice_40 : decode cX3_twice 40 = .ok (.iinc 2 (-1), 3) := by decide +kernel
theorem dX3_twice_43 : decode cX3_twice 43 = .ok (.goto (-34), 3) := by decide +kernel
theorem dX3_twice_46 : decode cX3_twice 46 = .ok (.iload_n 1, 1) := by decide +kernel
theorem dX3_twice_47 : decode cX3_twice 47 = .ok (.ifCond .le 60, 3) := by decide +kernel
theorem dX3_twice_50 : decode cX3_twice 50 = .ok (.aload_n 0, 1) := by decide +kernel
theorem dX3_twice_51 : decode cX3_twice 51 = .ok (.getfield 23, 3) := by decide +kernel
theorem dX3_twice_54 : decode cX3_twice 54 = .ok (.istore_n 2, 1) := by decide +kernel
theorem dX3_twice_55 : decode cX3_twice 55 = .ok (.iload_n 2, 1) := by decide +kernel
theorem dX3_twice_56 : decode cX3_twice 56 = .ok (.ifCond .le 23, 3) := by decide +kernel
theorem dX3_twice_59 : decode cX3_twice 59 = .ok (.aload_n 0, 1) := by decide +kernel
theorem dX3_twice_60 : decode cX3_twice 60 = .ok (.getfield 7, 3) := by decide +kernel
theorem dX3_twice_63 : decode cX3_twice 63 = .ok (.iload_n 2, 1) := by decide +kernel
theorem dX3_twice_64 : decode cX3_twice 64 = .ok (.aload_n 0, 1) := by decide +kernel
theorem dX3_twice_65 : decode cX3_twice 65 = .ok (.getfield 7, 3) := by decide +kernel
theorem dX3_twice_68 : decode cX3_twice 68 = .ok (.iload_n 2, 1) := by decide +kernel
theorem dX3_twice_69 : decode cX3_twice 69 = .ok (.iconst 1, 1) := by decide +kernel
theorem dX3_twice_70 : decode cX3_twice 70 = .ok (.isub, 1) := by decide +kernel
theorem dX3_twice_71 : decode cX3_twice 71 = .ok (.baload, 1) := by decide +kernel
theorem dX3_twice_72 : decode cX3_twice 72 = .ok (.bastore, 1) := by decide +kernel
theorem dX3_twice_73 : decode cX3_twice 73 = .ok (.iinc 2 (-1), 3) := by decide +kernel
theorem dX3_twice_76 : decode cX3_twice 76 = .ok (.goto (-21), 3) := by decide +kernel
theorem dX3_twice_79 : decode cX3_twice 79 = .ok (.aload_n 0, 1) := by decide +kernel
theorem dX3_twice_80 : decode cX3_twice 80 = .ok (.getfield 7, 3) := by decide +kernel
theorem dX3_twice_83 : decode cX3_twice 83 = .ok (.iconst 0, 1) := by decide +kernel
theorem dX3_twice_84 : decode cX3_twice 84 = .ok (.iload_n 1, 1) := by decide +kernel
theorem dX3_twice_85 : decode cX3_twice 85 = .ok (.i2b, 1) := by decide +kernel
theorem dX3_twice_86 : decode cX3_twice 86 = .ok (.bastore, 1) := by decide +kernel
theorem dX3_twice_87 : decode cX3_twice 87 = .ok (.aload_n 0, 1) := by decide +kernel
theorem dX3_twice_88 : decode cX3_twice 88 = .ok (.aload_n 0, 1) := by decide +kernel
theorem dX3_twice_89 : decode cX3_twice 89 = .ok (.getfield 23, 3) := by decide +kernel
theorem dX3_twice_92 : decode cX3_twice 92 = .ok (.iconst 1, 1) := by decide +kernel
theorem dX3_twice_93 : decode cX3_twice 93 = .ok (.iadd, 1) := by decide +kernel
theorem dX3_twice_94 : decode cX3_twice 94 = .ok (.putfield 23, 3) := by decide +kernel
theorem dX3_twice_97 : decode cX3_twice 97 = .ok (.aload_n 0, 1) := by decide +kernel
theorem dX3_twice_98 : decode cX3_twice 98 = .ok (.aload_n 0, 1) := by decide +kernel
theorem dX3_twice_99 : decode cX3_twice 99 = .ok (.getfield 31, 3) := by decide +kernel
theorem dX3_twice_102 : decode cX3_twice 102 = .ok (.iconst 1, 1) := by decide +kernel
theorem dX3_twice_103 : decode cX3_twice 103 = .ok (.iadd, 1) := by decide +kernel
theorem dX3_twice_104 : decode cX3_twice 104 = .ok (.putfield 31, 3) := by decide +kernel
theorem dX3_twice_107 : decode cX3_twice 107 = .ok (.aload_n 0, 1) := by decide +kernel
theorem dX3_twice_108 : decode cX3_twice 108 = .ok (.invokevirtual 34, 3) := by decide +kernel
theorem dX3_twice_111 : decode cX3_twice 111 = .ok (.return_, 1) := by decide +kernel
abbrev cX3_half : ByteArray := prog_5_method_8_code
def yX3_half : MethodName := ⟨RX3, "half", "()V"⟩
theorem dX3_half_0 : decode cX3_half 0 = .ok (.iconst 0, 1) := by decide +kernel
theorem dX3_half_1 : decode cX3_half 1 = .ok (.istore_n 1, 1) := by decide +kernel
theorem dX3_half_2 : decode cX3_half 2 = .ok (.iconst 0, 1) := by decide +kernel
theorem dX3_half_3 : decode cX3_half 3 = .ok (.istore_n 2, 1) := by decide +kernel
theorem dX3_half_4 : decode cX3_half 4 = .ok (.iload_n 2, 1) := by decide +kernel
theorem dX3_half_5 : decode cX3_half 5 = .ok (.aload_n 0, 1) := by decide +kernel
theorem dX3_half_6 : decode cX3_half 6 = .ok (.getfield 23, 3) := by decide +kernel
theorem dX3_half_9 : decode cX3_half 9 = .ok (.if_icmp .ge 35, 3) := by decide +kernel
theorem dX3_half_12 : decode cX3_half 12 = .ok (.bipush 10, 2) := by decide +kernel
theorem dX3_half_14 : decode cX3_half 14 = .ok (.iload_n 1, 1) := by decide +kernel
theorem dX3_half_15 : decode cX3_half 15 = .ok (.imul, 1) := by decide +kernel
theorem dX3_half_16 : decode cX3_half 16 = .ok (.aload_n 0, 1) := by decide +kernel
theorem dX3_half_17 : decode cX3_half 17 = .ok (.getfield 7, 3) := by decide +kernel
theorem dX3_half_20 : decode cX3_half 20 = .ok (.iload_n 2, 1) := by decide +kernel
theorem dX3_half_21 : decode cX3_half 21 = .ok (.baload, 1) := by decide +kernel
theorem dX3_half_22 : decode cX3_half 22 = .ok (.iadd, 1) := by decide +kernel
theorem dX3_half_23 : decode cX3_half 23 = .ok (.istore_n 3, 1) := by decide +kernel
theorem dX3_half_24 : decode cX3_half 24 = .ok (.aload_n 0, 1) := by decide +kernel
theorem dX3_half_25 : decode cX3_half 25 = .ok (.getfield 7, 3) := by decide +kernel
theorem dX3_half_28 : decode cX3_half 28 = .ok (.iload_n 2, 1) := by decide +kernel
theorem dX3_half_29 : decode cX3_half 29 = .ok (.iload_n 3, 1) := by decide +kernel
theorem dX3_half_30 : decode cX3_half 30 = .ok (.iconst 2, 1) := by decide +kernel
theorem dX3_half_31 : decode cX3_half 31 = .ok (.idiv, 1) := by decide +kernel
theorem dX3_half_32 : decode cX3_half 32 = .ok (.i2b, 1) := by decide +kernel
theorem dX3_half_33 : decode cX3_half 33 = .ok (.bastore, 1) := by decide +kernel
theorem dX3_half_34 : decode cX3_half 34 = .ok (.iload_n 3, 1) := by decide +kernel
theorem dX3_half_35 : decode cX3_half 35 = .ok (.iconst 2, 1) := by decide +kernel
theorem dX3_half_36 : decode cX3_half 36 = .ok (.irem, 1) := by decide +kernel
theorem dX3_half_37 : decode cX3_half 37 = .ok (.istore_n 1, 1) := by decide +kernel
theorem dX3_half_38 : decode cX3_half 38 = .ok (.iinc 2 1, 3) := by decide +kernel
theorem dX3_half_41 : decode cX3_half 41 = .ok (.goto (-37), 3) := by decide +kernel
theorem dX3_half_44 : decode cX3_half 44 = .ok (.iload_n 1, 1) := by decide +kernel
theorem dX3_half_45 : decode cX3_half 45 = .ok (.ifCond .le 23, 3) := by decide +kernel
theorem dX3_half_48 : decode cX3_half 48 = .ok (.aload_n 0, 1) := by decide +kernel
theorem dX3_half_49 : decode cX3_half 49 = .ok (.getfield 7, 3) := by decide +kernel
theorem dX3_half_52 : decode cX3_half 52 = .ok (.aload_n 0, 1) := by decide +kernel
theorem dX3_half_53 : decode cX3_half 53 = .ok (.getfield 23, 3) := by decide +kernel
theorem dX3_half_56 : decode cX3_half 56 = .ok (.iconst 5, 1) := by decide +kernel
theorem dX3_half_57 : decode cX3_half 57 = .ok (.bastore, 1) := by decide +kernel
theorem dX3_half_58 : decode cX3_half 58 = .ok (.aload_n 0, 1) := by decide +kernel
theorem dX3_half_59 : decode cX3_half 59 = .ok (.aload_n 0, 1) := by decide +kernel
theorem dX3_half_60 : decode cX3_half 60 = .ok (.getfield 23, 3) := by decide +kernel
theorem dX3_half_63 : decode cX3_half 63 = .ok (.iconst 1, 1) := by decide +kernel
theorem dX3_half_64 : decode cX3_half 64 = .ok (.iadd, 1) := by decide +kernel
theorem dX3_half_65 : decode cX3_half 65 = .ok (.putfield 23, 3) := by decide +kernel
theorem dX3_half_68 : decode cX3_half 68 = .ok (.aload_n 0, 1) := by decide +kernel
theorem dX3_half_69 : decode cX3_half 69 = .ok (.invokevirtual 34, 3) := by decide +kernel
theorem dX3_half_72 : decode cX3_half 72 = .ok (.return_, 1) := by decide +kernel
abbrev cX3_body : ByteArray := prog_5_method_12_code
def yX3_body : MethodName := ⟨RX3, "body", "(IIZ)V"⟩
theorem dX3_body_0 : decode cX3_body 0 = .ok (.iload_n 1, 1) := by decide +kernel
theorem dX3_body_1 : decode cX3_body 1 = .ok (.ifCond .ne 105, 3) := by decide +kernel
theorem dX3_body_4 : decode cX3_body 4 = .ok (.aload_n 0, 1) := by decide +kernel
theorem dX3_body_5 : decode cX3_body 5 = .ok (.aload_n 0, 1) := by decide +kernel
theorem dX3_body_6 : decode cX3_body 6 = .ok (.getfield 31, 3) := by decide +kernel
theorem dX3_body_9 : decode cX3_body 9 = .ok (.iload_n 2, 1) := by decide +kernel
theorem dX3_body_10 : decode cX3_body 10 = .ok (.iadd, 1) := by decide +kernel
theorem dX3_body_11 : decode cX3_body 11 = .ok (.invokevirtual 46, 3) := by decide +kernel
theorem dX3_body_14 : decode cX3_body 14 = .ok (.iconst 0, 1) := by decide +kernel
theorem dX3_body_15 : decode cX3_body 15 = .ok (.istore 4, 2) := by decide +kernel
theorem dX3_body_17 : decode cX3_body 17 = .ok (.iload 4, 2) := by decide +kernel
theorem dX3_body_19 : decode cX3_body 19 = .ok (.aload_n 0, 1) := by decide +kernel
theorem dX3_body_20 : decode cX3_body 20 = .ok (.getfield 31, 3) := by decide +kernel
theorem dX3_body_23 : decode cX3_body 23 = .ok (.if_icmp .ge 22, 3) := by decide +kernel
theorem dX3_body_26 : decode cX3_body 26 = .ok (.aload_n 0, 1) := by decide +kernel
theorem dX3_body_27 : decode cX3_body 27 = .ok (.bipush 48, 2) := by decide +kernel
theorem dX3_body_29 : decode cX3_body 29 = .ok (.aload_n 0, 1) := by decide +kernel
theorem dX3_body_30 : decode cX3_body 30 = .ok (.iload 4, 2) := by decide +kernel
theorem dX3_body_32 : decode cX3_body 32 = .ok (.invokevirtual 50, 3) := by decide +kernel
theorem dX3_body_35 : decode cX3_body 35 = .ok (.iadd, 1) := by decide +kernel
theorem dX3_body_36 : decode cX3_body 36 = .ok (.invokevirtual 54, 3) := by decide +kernel
theorem dX3_body_39 : decode cX3_body 39 = .ok (.iinc 4 1, 3) := by decide +kernel
theorem dX3_body_42 : decode cX3_body 42 = .ok (.goto (-25), 3) := by decide +kernel
theorem dX3_body_45 : decode cX3_body 45 = .ok (.aload_n 0, 1) := by decide +kernel
theorem dX3_body_46 : decode cX3_body 46 = .ok (.getfield 31, 3) := by decide +kernel
theorem dX3_body_49 : decode cX3_body 49 = .ok (.ifCond .gt 9, 3) := by decide +kernel
theorem dX3_body_52 : decode cX3_body 52 = .ok (.aload_n 0, 1) := by decide +kernel
theorem dX3_body_53 : decode cX3_body 53 = .ok (.bipush 48, 2) := by decide +kernel
theorem dX3_body_55 : decode cX3_body 55 = .ok (.invokevirtual 54, 3) := by decide +kernel
theorem dX3_body_58 : decode cX3_body 58 = .ok (.iload_n 2, 1) := by decide +kernel
theorem dX3_body_59 : decode cX3_body 59 = .ok (.ifCond .gt 7, 3) := by decide +kernel
theorem dX3_body_62 : decode cX3_body 62 = .ok (.iload_n 3, 1) := by decide +kernel
theorem dX3_body_63 : decode cX3_body 63 = .ok (.ifCond .eq 9, 3) := by decide +kernel
theorem dX3_body_66 : decode cX3_body 66 = .ok (.aload_n 0, 1) := by decide +kernel
theorem dX3_body_67 : decode cX3_body 67 = .ok (.bipush 46, 2) := by decide +kernel
theorem dX3_body_69 : decode cX3_body 69 = .ok (.invokevirtual 54, 3) := by decide +kernel
theorem dX3_body_72 : decode cX3_body 72 = .ok (.iconst 0, 1) := by decide +kernel
theorem dX3_body_73 : decode cX3_body 73 = .ok (.istore 4, 2) := by decide +kernel
theorem dX3_body_75 : decode cX3_body 75 = .ok (.iload 4, 2) := by decide +kernel
theorem dX3_body_77 : decode cX3_body 77 = .ok (.iload_n 2, 1) := by decide +kernel
theorem dX3_body_78 : decode cX3_body 78 = .ok (.if_icmp .ge 27, 3) := by decide +kernel
theorem dX3_body_81 : decode cX3_body 81 = .ok (.aload_n 0, 1) := by decide +kernel
theorem dX3_body_82 : decode cX3_body 82 = .ok (.bipush 48, 2) := by decide +kernel
theorem dX3_body_84 : decode cX3_body 84 = .ok (.aload_n 0, 1) := by decide +kernel
theorem dX3_body_85 : decode cX3_body 85 = .ok (.aload_n 0, 1) := by decide +kernel
theorem dX3_body_86 : decode cX3_body 86 = .ok (.getfield 31, 3) := by decide +kernel
theorem dX3_body_89 : decode cX3_body 89 = .ok (.iload 4, 2) := by decide +kernel
theorem dX3_body_91 : decode cX3_body 91 = .ok (.iadd, 1) := by decide +kernel
theorem dX3_body_92 : decode cX3_body 92 = .ok (.invokevirtual 50, 3) := by decide +kernel
theorem dX3_body_95 : decode cX3_body 95 = .ok (.iadd, 1) := by decide +kernel
theorem dX3_body_96 : decode cX3_body 96 = .ok (.invokevirtual 54, 3) := by decide +kernel
theorem dX3_body_99 : decode cX3_body 99 = .ok (.iinc 4 1, 3) := by decide +kernel
theorem dX3_body_102 : decode cX3_body 102 = .ok (.goto (-27), 3) := by decide +kernel
theorem dX3_body_105 : decode cX3_body 105 = .ok (.return_, 1) := by decide +kernel
theorem dX3_body_106 : decode cX3_body 106 = .ok (.aload_n 0, 1) := by decide +kernel
theorem dX3_body_107 : decode cX3_body 107 = .ok (.iload_n 2, 1) := by decide +kernel
theorem dX3_body_108 : decode cX3_body 108 = .ok (.iconst 1, 1) := by decide +kernel
theorem dX3_body_109 : decode cX3_body 109 = .ok (.iadd, 1) := by decide +kernel
theorem dX3_body_110 : decode cX3_body 110 = .ok (.invokevirtual 46, 3) := by decide +kernel
theorem dX3_body_113 : decode cX3_body 113 = .ok (.aload_n 0, 1) := by decide +kernel
theorem dX3_body_114 : decode cX3_body 114 = .ok (.getfield 23, 3) := by decide +kernel
theorem dX3_body_117 : decode cX3_body 117 = .ok (.ifCond .ne 7, 3) := by decide +kernel
theorem dX3_body_120 : decode cX3_body 120 = .ok (.iconst 0, 1) := by decide +kernel
theorem dX3_body_121 : decode cX3_body 121 = .ok (.goto 9, 3) := by decide +kernel
theorem dX3_body_124 : decode cX3_body 124 = .ok (.aload_n 0, 1) := by decide +kernel
theorem dX3_body_125 : decode cX3_body 125 = .ok (.getfield 31, 3) := by decide +kernel
theorem dX3_body_128 : decode cX3_body 128 = .ok (.iconst 1, 1) := by decide +kernel
theorem dX3_body_129 : decode cX3_body 129 = .ok (.isub, 1) := by decide +kernel
theorem dX3_body_130 : decode cX3_body 130 = .ok (.istore 4, 2) := by decide +kernel
theorem dX3_body_132 : decode cX3_body 132 = .ok (.aload_n 0, 1) := by decide +kernel
theorem dX3_body_133 : decode cX3_body 133 = .ok (.bipush 48, 2) := by decide +kernel
theorem dX3_body_135 : decode cX3_body 135 = .ok (.aload_n 0, 1) := by decide +kernel
theorem dX3_body_136 : decode cX3_body 136 = .ok (.iconst 0, 1) := by decide +kernel
theorem dX3_body_137 : decode cX3_body 137 = .ok (.invokevirtual 50, 3) := by decide +kernel
theorem dX3_body_140 : decode cX3_body 140 = .ok (.iadd, 1) := by decide +kernel
theorem dX3_body_141 : decode cX3_body 141 = .ok (.invokevirtual 54, 3) := by decide +kernel
theorem dX3_body_144 : decode cX3_body 144 = .ok (.iload_n 2, 1) := by decide +kernel
theorem dX3_body_145 : decode cX3_body 145 = .ok (.ifCond .gt 7, 3) := by decide +kernel
theorem dX3_body_148 : decode cX3_body 148 = .ok (.iload_n 3, 1) := by decide +kernel
theorem dX3_body_149 : decode cX3_body 149 = .ok (.ifCond .eq 9, 3) := by decide +kernel
theorem dX3_body_152 : decode cX3_body 152 = .ok (.aload_n 0, 1) := by decide +kernel
theorem dX3_body_153 : decode cX3_body 153 = .ok (.bipush 46, 2) := by decide +kernel
theorem dX3_body_155 : decode cX3_body 155 = .ok (.invokevirtual 54, 3) := by decide +kernel
theorem dX3_body_158 : decode cX3_body 158 = .ok (.iconst 1, 1) := by decide +kernel
theorem dX3_body_159 : decode cX3_body 159 = .ok (.istore 5, 2) := by decide +kernel
theorem dX3_body_161 : decode cX3_body 161 = .ok (.iload 5, 2) := by decide +kernel
theorem dX3_body_163 : decode cX3_body 163 = .ok (.iload_n 2, 1) := by decide +kernel
theorem dX3_body_164 : decode cX3_body 164 = .ok (.if_icmp .gt 22, 3) := by decide +kernel
theorem dX3_body_167 : decode cX3_body 167 = .ok (.aload_n 0, 1) := by decide +kernel
theorem dX3_body_168 : decode cX3_body 168 = .ok (.bipush 48, 2) := by decide +kernel
theorem dX3_body_170 : decode cX3_body 170 = .ok (.aload_n 0, 1) := by decide +kernel
theorem dX3_body_171 : decode cX3_body 171 = .ok (.iload 5, 2) := by decide +kernel
theorem dX3_body_173 : decode cX3_body 173 = .ok (.invokevirtual 50, 3) := by decide +kernel
theorem dX3_body_176 : decode cX3_body 176 = .ok (.iadd, 1) := by decide +kernel
theorem dX3_body_177 : decode cX3_body 177 = .ok (.invokevirtual 54, 3) := by decide +kernel
theorem dX3_body_180 : decode cX3_body 180 = .ok (.iinc 5 1, 3) := by decide +kernel
theorem dX3_body_183 : decode cX3_body 183 = .ok (.goto (-22), 3) := by decide +kernel
theorem dX3_body_186 : decode cX3_body 186 = .ok (.aload_n 0, 1) := by decide +kernel
theorem dX3_body_187 : decode cX3_body 187 = .ok (.iload_n 1, 1) := by decide +kernel
theorem dX3_body_188 : decode cX3_body 188 = .ok (.iconst 1, 1) := by decide +kernel
theorem dX3_body_189 : decode cX3_body 189 = .ok (.if_icmp .ne 8, 3) := by decide +kernel
theorem dX3_body_192 : decode cX3_body 192 = .ok (.bipush 101, 2) := by decide +kernel
theorem dX3_body_194 : decode cX3_body 194 = .ok (.goto 5, 3) := by decide +kernel
theorem dX3_body_197 : decode cX3_body 197 = .ok (.bipush 69, 2) := by decide +kernel
theorem dX3_body_199 : decode cX3_body 199 = .ok (.invokevirtual 54, 3) := by decide +kernel
theorem dX3_body_202 : decode cX3_body 202 = .ok (.aload_n 0, 1) := by decide +kernel
theorem dX3_body_203 : decode cX3_body 203 = .ok (.iload 4, 2) := by decide +kernel
theorem dX3_body_205 : decode cX3_body 205 = .ok (.ifCond .ge 8, 3) := by decide +kernel
theorem dX3_body_208 : decode cX3_body 208 = .ok (.bipush 45, 2) := by decide +kernel
theorem dX3_body_210 : decode cX3_body 210 = .ok (.goto 5, 3) := by decide +kernel
theorem dX3_body_213 : decode cX3_body 213 = .ok (.bipush 43, 2) := by decide +kernel
theorem dX3_body_215 : decode cX3_body 215 = .ok (.invokevirtual 54, 3) := by decide +kernel
theorem dX3_body_218 : decode cX3_body 218 = .ok (.iload 4, 2) := by decide +kernel
theorem dX3_body_220 : decode cX3_body 220 = .ok (.ifCond .ge 9, 3) := by decide +kernel
theorem dX3_body_223 : decode cX3_body 223 = .ok (.iload 4, 2) := by decide +kernel
theorem dX3_body_225 : decode cX3_body 225 = .ok (.ineg, 1) := by decide +kernel
theorem dX3_body_226 : decode cX3_body 226 = .ok (.goto 5, 3) := by decide +kernel
theorem dX3_body_229 : decode cX3_body 229 = .ok (.iload 4, 2) := by decide +kernel
theorem dX3_body_231 : decode cX3_body 231 = .ok (.istore 5, 2) := by decide +kernel
theorem dX3_body_233 : decode cX3_body 233 = .ok (.iload 5, 2) := by decide +kernel
theorem dX3_body_235 : decode cX3_body 235 = .ok (.bipush 99, 2) := by decide +kernel
theorem dX3_body_237 : decode cX3_body 237 = .ok (.if_icmp .le 15, 3) := by decide +kernel
theorem dX3_body_240 : decode cX3_body 240 = .ok (.aload_n 0, 1) := by decide +kernel
theorem dX3_body_241 : decode cX3_body 241 = .ok (.bipush 48, 2) := by decide +kernel
theorem dX3_body_243 : decode cX3_body 243 = .ok (.iload 5, 2) := by decide +kernel
theorem dX3_body_245 : decode cX3_body 245 = .ok (.bipush 100, 2) := by decide +kernel
theorem dX3_body_247 : decode cX3_body 247 = .ok (.idiv, 1) := by decide +kernel
theorem dX3_body_248 : decode cX3_body 248 = .ok (.iadd, 1) := by decide +kernel
theorem dX3_body_249 : decode cX3_body 249 = .ok (.invokevirtual 54, 3) := by decide +kernel
theorem dX3_body_252 : decode cX3_body 252 = .ok (.aload_n 0, 1) := by decide +kernel
theorem dX3_body_253 : decode cX3_body 253 = .ok (.bipush 48, 2) := by decide +kernel
theorem dX3_body_255 : decode cX3_body 255 = .ok (.iload 5, 2) := by decide +kernel
theorem dX3_body_257 : decode cX3_body 257 = .ok (.bipush 10, 2) := by decide +kernel
theorem dX3_body_259 : decode cX3_body 259 = .ok (.idiv, 1) := by decide +kernel
theorem dX3_body_260 : decode cX3_body 260 = .ok (.bipush 10, 2) := by decide +kernel
theorem dX3_body_262 : decode cX3_body 262 = .ok (.irem, 1) := by decide +kernel
theorem dX3_body_263 : decode cX3_body 263 = .ok (.iadd, 1) := by decide +kernel
theorem dX3_body_264 : decode cX3_body 264 = .ok (.invokevirtual 54, 3) := by decide +kernel
theorem dX3_body_267 : decode cX3_body 267 = .ok (.aload_n 0, 1) := by decide +kernel
theorem dX3_body_268 : decode cX3_body 268 = .ok (.bipush 48, 2) := by decide +kernel
theorem dX3_body_270 : decode cX3_body 270 = .ok (.iload 5, 2) := by decide +kernel
theorem dX3_body_272 : decode cX3_body 272 = .ok (.bipush 10, 2) := by decide +kernel
theorem dX3_body_274 : decode cX3_body 274 = .ok (.irem, 1) := by decide +kernel
theorem dX3_body_275 : decode cX3_body 275 = .ok (.iadd, 1) := by decide +kernel
theorem dX3_body_276 : decode cX3_body 276 = .ok (.invokevirtual 54, 3) := by decide +kernel
theorem dX3_body_279 : decode cX3_body 279 = .ok (.return_, 1) := by decide +kernel
end
section
set_option maxRecDepth 100000
abbrev cX3_cut : ByteArray := prog_5_method_9_code
def yX3_cut : MethodName := ⟨RX3, "cut", "(I)V"⟩
theorem dX3_cut_0 : decode cX3_cut 0 = .ok (.iload_n 1, 1) := by decide +kernel
theorem dX3_cut_1 : decode cX3_cut 1 = .ok (.aload_n 0, 1) := by decide +kernel
theorem dX3_cut_2 : decode cX3_cut 2 = .ok (.getfield 23, 3) := by decide +kernel
theorem dX3_cut_5 : decode cX3_cut 5 = .ok (.if_icmp .lt 4, 3) := by decide +kernel
theorem dX3_cut_8 : decode cX3_cut 8 = .ok (.return_, 1) := by decide +kernel
theorem dX3_cut_9 : decode cX3_cut 9 = .ok (.iload_n 1, 1) := by decide +kernel
theorem dX3_cut_10 : decode cX3_cut 10 = .ok (.ifCond .ge 14, 3) := by decide +kernel
theorem dX3_cut_13 : decode cX3_cut 13 = .ok (.aload_n 0, 1) := by decide +kernel
theorem dX3_cut_14 : decode cX3_cut 14 = .ok (.iconst 0, 1) := by decide +kernel
theorem dX3_cut_15 : decode cX3_cut 15 = .ok (.putfield 23, 3) := by decide +kernel
theorem dX3_cut_18 : decode cX3_cut 18 = .ok (.aload_n 0, 1) := by decide +kernel
theorem dX3_cut_19 : decode cX3_cut 19 = .ok (.iconst 0, 1) := by decide +kernel
theorem dX3_cut_20 : decode cX3_cut 20 = .ok (.putfield 31, 3) := by decide +kernel
theorem dX3_cut_23 : decode cX3_cut 23 = .ok (.return_, 1) := by decide +kernel
theorem dX3_cut_24 : decode cX3_cut 24 = .ok (.aload_n 0, 1) := by decide +kernel
theorem dX3_cut_25 : decode cX3_cut 25 = .ok (.getfield 7, 3) := by decide +kernel
theorem dX3_cut_28 : decode cX3_cut 28 = .ok (.iload_n 1, 1) := by decide +kernel
theorem dX3_cut_29 : decode cX3_cut 29 = .ok (.baload, 1) := by decide +kernel
theorem dX3_cut_30 : decode cX3_cut 30 = .ok (.iconst 5, 1) := by decide +kernel
theorem dX3_cut_31 : decode cX3_cut 31 = .ok (.if_icmp .le 7, 3) := by decide +kernel
theorem dX3_cut_34 : decode cX3_cut 34 = .ok (.iconst 1, 1) := by decide +kernel
theorem dX3_cut_35 : decode cX3_cut 35 = .ok (.goto 4, 3) := by decide +kernel
theorem dX3_cut_38 : decode cX3_cut 38 = .ok (.iconst 0, 1) := by decide +kernel
theorem dX3_cut_39 : decode cX3_cut 39 = .ok (.istore_n 2, 1) := by decide +kernel
theorem dX3_cut_40 : decode cX3_cut 40 = .ok (.aload_n 0, 1) := by decide +kernel
theorem dX3_cut_41 : decode cX3_cut 41 = .ok (.getfield 7, 3) := by decide +kernel
theorem dX3_cut_44 : decode cX3_cut 44 = .ok (.iload_n 1, 1) := by decide +kernel
theorem dX3_cut_45 : decode cX3_cut 45 = .ok (.baload, 1) := by decide +kernel
theorem dX3_cut_46 : decode cX3_cut 46 = .ok (.iconst 5, 1) := by decide +kernel
theorem dX3_cut_47 : decode cX3_cut 47 = .ok (.if_icmp .ne 47, 3) := by decide +kernel
theorem dX3_cut_50 : decode cX3_cut 50 = .ok (.iload_n 1, 1) := by decide +kernel
theorem dX3_cut_51 : decode cX3_cut 51 = .ok (.ifCond .le 21, 3) := by decide +kernel
theorem dX3_cut_54 : decode cX3_cut 54 = .ok (.aload_n 0, 1) := by decide +kernel
theorem dX3_cut_55 : decode cX3_cut 55 = .ok (.getfield 7, 3) := by decide +kernel
theorem dX3_cut_58 : decode cX3_cut 58 = .ok (.iload_n 1, 1) := by decide +kernel
theorem dX3_cut_59 : decode cX3_cut 59 = .ok (.iconst 1, 1) := by decide +kernel
theorem dX3_cut_60 : decode cX3_cut 60 = .ok (.isub, 1) := by decide +kernel
theorem dX3_cut_61 : decode cX3_cut 61 = .ok (.baload, 1) := by decide +kernel
theorem dX3_cut_62 : decode cX3_cut 62 = .ok (.iconst 2, 1) := by decide +kernel
theorem dX3_cut_63 : decode cX3_cut 63 = .ok (.irem, 1) := by decide +kernel
theorem dX3_cut_64 : decode cX3_cut 64 = .ok (.iconst 1, 1) := by decide +kernel
theorem dX3_cut_65 : decode cX3_cut 65 = .ok (.if_icmp .ne 7, 3) := by decide +kernel
theorem dX3_cut_68 : decode cX3_cut 68 = .ok (.iconst 1, 1) := by decide +kernel
theorem dX3_cut_69 : decode cX3_cut 69 = .ok (.goto 4, 3) := by decide +kernel
theorem dX3_cut_72 : decode cX3_cut 72 = .ok (.iconst 0, 1) := by decide +kernel
theorem dX3_cut_73 : decode cX3_cut 73 = .ok (.istore_n 3, 1) := by decide +kernel
theorem dX3_cut_74 : decode cX3_cut 74 = .ok (.iload_n 3, 1) := by decide +kernel
theorem dX3_cut_75 : decode cX3_cut 75 = .ok (.ifCond .ne 13, 3) := by decide +kernel
theorem dX3_cut_78 : decode cX3_cut 78 = .ok (.aload_n 0, 1) := by decide +kernel
theorem dX3_cut_79 : decode cX3_cut 79 = .ok (.getfield 23, 3) := by decide +kernel
theorem dX3_cut_82 : decode cX3_cut 82 = .ok (.iload_n 1, 1) := by decide +kernel
theorem dX3_cut_83 : decode cX3_cut 83 = .ok (.iconst 1, 1) := by decide +kernel
theorem dX3_cut_84 : decode cX3_cut 84 = .ok (.iadd, 1) := by decide +kernel
theorem dX3_cut_85 : decode cX3_cut 85 = .ok (.if_icmp .le 7, 3) := by decide +kernel
theorem dX3_cut_88 : decode cX3_cut 88 = .ok (.iconst 1, 1) := by decide +kernel
theorem dX3_cut_89 : decode cX3_cut 89 = .ok (.goto 4, 3) := by decide +kernel
theorem dX3_cut_92 : decode cX3_cut 92 = .ok (.iconst 0, 1) := by decide +kernel
theorem dX3_cut_93 : decode cX3_cut 93 = .ok (.istore_n 2, 1) := by decide +kernel
theorem dX3_cut_94 : decode cX3_cut 94 = .ok (.aload_n 0, 1) := by decide +kernel
theorem dX3_cut_95 : decode cX3_cut 95 = .ok (.getfield 31, 3) := by decide +kernel
theorem dX3_cut_98 : decode cX3_cut 98 = .ok (.istore_n 3, 1) := by decide +kernel
theorem dX3_cut_99 : decode cX3_cut 99 = .ok (.aload_n 0, 1) := by decide +kernel
theorem dX3_cut_100 : decode cX3_cut 100 = .ok (.iload_n 1, 1) := by decide +kernel
theorem dX3_cut_101 : decode cX3_cut 101 = .ok (.putfield 23, 3) := by decide +kernel
theorem dX3_cut_104 : decode cX3_cut 104 = .ok (.iload_n 2, 1) := by decide +kernel
theorem dX3_cut_105 : decode cX3_cut 105 = .ok (.ifCond .eq 118, 3) := by decide +kernel
theorem dX3_cut_108 : decode cX3_cut 108 = .ok (.iload_n 1, 1) := by decide +kernel
theorem dX3_cut_109 : decode cX3_cut 109 = .ok (.iconst 1, 1) := by decide +kernel
theorem dX3_cut_110 : decode cX3_cut 110 = .ok (.isub, 1) := by decide +kernel
theorem dX3_cut_111 : decode cX3_cut 111 = .ok (.istore 4, 2) := by decide +kernel
theorem dX3_cut_113 : decode cX3_cut 113 = .ok (.iload 4, 2) := by decide +kernel
theorem dX3_cut_115 : decode cX3_cut 115 = .ok (.ifCond .lt 32, 3) := by decide +kernel
theorem dX3_cut_118 : decode cX3_cut 118 = .ok (.aload_n 0, 1) := by decide +kernel
theorem dX3_cut_119 : decode cX3_cut 119 = .ok (.getfield 7, 3) := by decide +kernel
theorem dX3_cut_122 : decode cX3_cut 122 = .ok (.iload 4, 2) := by decide +kernel
theorem dX3_cut_124 : decode cX3_cut 124 = .ok (.baload, 1) := by decide +kernel
theorem dX3_cut_125 : decode cX3_cut 125 = .ok (.bipush 9, 2) := by decide +kernel
theorem dX3_cut_127 : decode cX3_cut 127 = .ok (.if_icmp .ne 20, 3) := by decide +kernel
theorem dX3_cut_130 : decode cX3_cut 130 = .ok (.aload_n 0, 1) := by decide +kernel
theorem dX3_cut_131 : decode cX3_cut 131 = .ok (.getfield 7, 3) := by decide +kernel
theorem dX3_cut_134 : decode cX3_cut 134 = .ok (.iload 4, 2) := by decide +kernel
theorem dX3_cut_136 : decode cX3_cut 136 = .ok (.iconst 0, 1) := by decide +kernel
theorem dX3_cut_137 : decode cX3_cut 137 = .ok (.bastore, 1) := by decide +kernel
theorem dX3_cut_138 : decode cX3_cut 138 = .ok (.iload 4, 2) := by decide +kernel
theorem dX3_cut_140 : decode cX3_cut 140 = .ok (.iconst 1, 1) := by decide +kernel
theorem dX3_cut_141 : decode cX3_cut 141 = .ok (.isub, 1) := by decide +kernel
theorem dX3_cut_142 : decode cX3_cut 142 = .ok (.istore 4, 2) := by decide +kernel
theorem dX3_cut_144 : decode cX3_cut 144 = .ok (.goto (-31), 3) := by decide +kernel
theorem dX3_cut_147 : decode cX3_cut 147 = .ok (.iload 4, 2) := by decide +kernel
theorem dX3_cut_149 : decode cX3_cut 149 = .ok (.ifCond .lt 23, 3) := by decide +kernel
theorem dX3_cut_152 : decode cX3_cut 152 = .ok (.aload_n 0, 1) := by decide +kernel
theorem dX3_cut_153 : decode cX3_cut 153 = .ok (.getfield 7, 3) := by decide +kernel
theorem dX3_cut_156 : decode cX3_cut 156 = .ok (.iload 4, 2) := by decide +kernel
theorem dX3_cut_158 : decode cX3_cut 158 = .ok (.aload_n 0, 1) := by decide +kernel
theorem dX3_cut_159 : decode cX3_cut 159 = .ok (.getfield 7, 3) := by decide +kernel
theorem dX3_cut_162 : decode cX3_cut 162 = .ok (.iload 4, 2) := by decide +kernel
theorem dX3_cut_164 : decode cX3_cut 164 = .ok (.baload, 1) := by decide +kernel
theorem dX3_cut_165 : decode cX3_cut 165 = .ok (.iconst 1, 1) := by decide +kernel
theorem dX3_cut_166 : decode cX3_cut 166 = .ok (.iadd, 1) := by decide +kernel
theorem dX3_cut_167 : decode cX3_cut 167 = .ok (.i2b, 1) := by decide +kernel
theorem dX3_cut_168 : decode cX3_cut 168 = .ok (.bastore, 1) := by decide +kernel
theorem dX3_cut_169 : decode cX3_cut 169 = .ok (.goto 54, 3) := by decide +kernel
theorem dX3_cut_172 : decode cX3_cut 172 = .ok (.iload_n 1, 1) := by decide +kernel
theorem dX3_cut_173 : decode cX3_cut 173 = .ok (.istore 5, 2) := by decide +kernel
theorem dX3_cut_175 : decode cX3_cut 175 = .ok (.iload 5, 2) := by decide +kernel
theorem dX3_cut_177 : decode cX3_cut 177 = .ok (.ifCond .le 25, 3) := by decide +kernel
theorem dX3_cut_180 : decode cX3_cut 180 = .ok (.aload_n 0, 1) := by decide +kernel
theorem dX3_cut_181 : decode cX3_cut 181 = .ok (.getfield 7, 3) := by decide +kernel
theorem dX3_cut_184 : decode cX3_cut 184 = .ok (.iload 5, 2) := by decide +kernel
theorem dX3_cut_186 : decode cX3_cut 186 = .ok (.aload_n 0, 1) := by decide +kernel
theorem dX3_cut_187 : decode cX3_cut 187 = .ok (.getfield 7, 3) := by decide +kernel
theorem dX3_cut_190 : decode cX3_cut 190 = .ok (.iload 5, 2) := by decide +kernel
theorem dX3_cut_192 : decode cX3_cut 192 = .ok (.iconst 1, 1) := by decide +kernel
theorem dX3_cut_193 : decode cX3_cut 193 = .ok (.isub, 1) := by decide +kernel
theorem dX3_cut_194 : decode cX3_cut 194 = .ok (.baload, 1) := by decide +kernel
theorem dX3_cut_195 : decode cX3_cut 195 = .ok (.bastore, 1) := by decide +kernel
theorem dX3_cut_196 : decode cX3_cut 196 = .ok (.iinc 5 (-1), 3) := by decide +kernel
theorem dX3_cut_199 : decode cX3_cut 199 = .ok (.goto (-24), 3) := by decide +kernel
theorem dX3_cut_202 : decode cX3_cut 202 = .ok (.aload_n 0, 1) := by decide +kernel
theorem dX3_cut_203 : decode cX3_cut 203 = .ok (.getfield 7, 3) := by decide +kernel
theorem dX3_cut_206 : decode cX3_cut 206 = .ok (.iconst 0, 1) := by decide +kernel
theorem dX3_cut_207 : decode cX3_cut 207 = .ok (.iconst 1, 1) := by decide +kernel
theorem dX3_cut_208 : decode cX3_cut 208 = .ok (.bastore, 1) := by decide +kernel
theorem dX3_cut_209 : decode cX3_cut 209 = .ok (.aload_n 0, 1) := by decide +kernel
theorem dX3_cut_210 : decode cX3_cut 210 = .ok (.iload_n 1, 1) := by decide +kernel
theorem dX3_cut_211 : decode cX3_cut 211 = .ok (.iconst 1, 1) := by decide +kernel
theorem dX3_cut_212 : decode cX3_cut 212 = .ok (.iadd, 1) := by decide +kernel
theorem dX3_cut_213 : decode cX3_cut 213 = .ok (.putfield 23, 3) := by decide +kernel
theorem dX3_cut_216 : decode cX3_cut 216 = .ok (.aload_n 0, 1) := by decide +kernel
theorem dX3_cut_217 : decode cX3_cut 217 = .ok (.iload_n 3, 1) := by decide +kernel
theorem dX3_cut_218 : decode cX3_cut 218 = .ok (.iconst 1, 1) := by decide +kernel
theorem dX3_cut_219 : decode cX3_cut 219 = .ok (.iadd, 1) := by decide +kernel
theorem dX3_cut_220 : decode cX3_cut 220 = .ok (.putfield 31, 3) := by decide +kernel
theorem dX3_cut_223 : decode cX3_cut 223 = .ok (.aload_n 0, 1) := by decide +kernel
theorem dX3_cut_224 : decode cX3_cut 224 = .ok (.invokevirtual 34, 3) := by decide +kernel
theorem dX3_cut_227 : decode cX3_cut 227 = .ok (.return_, 1) := by decide +kernel
abbrev cX3_digit : ByteArray := prog_5_method_11_code
def yX3_digit : MethodName := ⟨RX3, "digit", "(I)I"⟩
theorem dX3_digit_0 : decode cX3_digit 0 = .ok (.iload_n 1, 1) := by decide +kernel
theorem dX3_digit_1 : decode cX3_digit 1 = .ok (.ifCond .lt 20, 3) := by decide +kernel
theorem dX3_digit_4 : decode cX3_digit 4 = .ok (.iload_n 1, 1) := by decide +kernel
theorem dX3_digit_5 : decode cX3_digit 5 = .ok (.aload_n 0, 1) := by decide +kernel
theorem dX3_digit_6 : decode cX3_digit 6 = .ok (.getfield 23, 3) := by decide +kernel
theorem dX3_digit_9 : decode cX3_digit 9 = .ok (.if_icmp .ge 12, 3) := by decide +kernel
theorem dX3_digit_12 : decode cX3_digit 12 = .ok (.aload_n 0, 1) := by decide +kernel
theorem dX3_digit_13 : decode cX3_digit 13 = .ok (.getfield 7, 3) := by decide +kernel
theorem dX3_digit_16 : decode cX3_digit 16 = .ok (.iload_n 1, 1) := by decide +kernel
theorem dX3_digit_17 : decode cX3_digit 17 = .ok (.baload, 1) := by decide +kernel
theorem dX3_digit_18 : decode cX3_digit 18 = .ok (.goto 4, 3) := by decide +kernel
theorem dX3_digit_21 : decode cX3_digit 21 = .ok (.iconst 0, 1) := by decide +kernel
theorem dX3_digit_22 : decode cX3_digit 22 = .ok (.ireturn, 1) := by decide +kernel
abbrev cX3_fill : ByteArray := prog_5_method_14_code
def yX3_fill : MethodName := ⟨RX3, "fill", "(IIIZ)V"⟩
theorem dX3_fill_0 : decode cX3_fill 0 = .ok (.iload_n 2, 1) := by decide +kernel
theorem dX3_fill_1 : decode cX3_fill 1 = .ok (.iconst 1, 1) := by decide +kernel
theorem dX3_fill_2 : decode cX3_fill 2 = .ok (.iand, 1) := by decide +kernel
theorem dX3_fill_3 : decode cX3_fill 3 = .ok (.ifCond .eq 7, 3) := by decide +kernel
theorem dX3_fill_6 : decode cX3_fill 6 = .ok (.iconst 1, 1) := by decide +kernel
theorem dX3_fill_7 : decode cX3_fill 7 = .ok (.goto 4, 3) := by decide +kernel
theorem dX3_fill_10 : decode cX3_fill 10 = .ok (.iconst 0, 1) := by decide +kernel
theorem dX3_fill_11 : decode cX3_fill 11 = .ok (.istore 5, 2) := by decide +kernel
theorem dX3_fill_13 : decode cX3_fill 13 = .ok (.iload 5, 2) := by decide +kernel
theorem dX3_fill_15 : decode cX3_fill 15 = .ok (.ifCond .ne 19, 3) := by decide +kernel
theorem dX3_fill_18 : decode cX3_fill 18 = .ok (.iload_n 2, 1) := by decide +kernel
theorem dX3_fill_19 : decode cX3_fill 19 = .ok (.bipush 8, 2) := by decide +kernel
theorem dX3_fill_21 : decode cX3_fill 21 = .ok (.iand, 1) := by decide +kernel
theorem dX3_fill_22 : decode cX3_fill 22 = .ok (.ifCond .eq 12, 3) := by decide +kernel
theorem dX3_fill_25 : decode cX3_fill 25 = .ok (.iload 4, 2) := by decide +kernel
theorem dX3_fill_27 : decode cX3_fill 27 = .ok (.ifCond .ne 7, 3) := by decide +kernel
theorem dX3_fill_30 : decode cX3_fill 30 = .ok (.iconst 1, 1) := by decide +kernel
theorem dX3_fill_31 : decode cX3_fill 31 = .ok (.goto 4, 3) := by decide +kernel
theorem dX3_fill_34 : decode cX3_fill 34 = .ok (.iconst 0, 1) := by decide +kernel
theorem dX3_fill_35 : decode cX3_fill 35 = .ok (.istore 6, 2) := by decide +kernel
theorem dX3_fill_37 : decode cX3_fill 37 = .ok (.iload 5, 2) := by decide +kernel
theorem dX3_fill_39 : decode cX3_fill 39 = .ok (.ifCond .eq 10, 3) := by decide +kernel
theorem dX3_fill_42 : decode cX3_fill 42 = .ok (.aload_n 0, 1) := by decide +kernel
theorem dX3_fill_43 : decode cX3_fill 43 = .ok (.getfield 43, 3) := by decide +kernel
theorem dX3_fill_46 : decode cX3_fill 46 = .ok (.goto 13, 3) := by decide +kernel
theorem dX3_fill_49 : decode cX3_fill 49 = .ok (.iload 6, 2) := by decide +kernel
theorem dX3_fill_51 : decode cX3_fill 51 = .ok (.ifCond .eq 7, 3) := by decide +kernel
theorem dX3_fill_54 : decode cX3_fill 54 = .ok (.iload_n 3, 1) := by decide +kernel
theorem dX3_fill_55 : decode cX3_fill 55 = .ok (.goto 4, 3) := by decide +kernel
theorem dX3_fill_58 : decode cX3_fill 58 = .ok (.iconst 0, 1) := by decide +kernel
theorem dX3_fill_59 : decode cX3_fill 59 = .ok (.istore 7, 2) := by decide +kernel
theorem dX3_fill_61 : decode cX3_fill 61 = .ok (.aload_n 0, 1) := by decide +kernel
theorem dX3_fill_62 : decode cX3_fill 62 = .ok (.getfield 43, 3) := by decide +kernel
theorem dX3_fill_65 : decode cX3_fill 65 = .ok (.iconst 1, 1) := by decide +kernel
theorem dX3_fill_66 : decode cX3_fill 66 = .ok (.isub, 1) := by decide +kernel
theorem dX3_fill_67 : decode cX3_fill 67 = .ok (.istore 8, 2) := by decide +kernel
theorem dX3_fill_69 : decode cX3_fill 69 = .ok (.iload 8, 2) := by decide +kernel
theorem dX3_fill_71 : decode cX3_fill 71 = .ok (.iload 7, 2) := by decide +kernel
theorem dX3_fill_73 : decode cX3_fill 73 = .ok (.if_icmp .lt 25, 3) := by decide +kernel
theorem dX3_fill_76 : decode cX3_fill 76 = .ok (.aload_n 0, 1) := by decide +kernel
theorem dX3_fill_77 : decode cX3_fill 77 = .ok (.getfield 13, 3) := by decide +kernel
theorem dX3_fill_80 : decode cX3_fill 80 = .ok (.iload 8, 2) := by decide +kernel
theorem dX3_fill_82 : decode cX3_fill 82 = .ok (.iload_n 1, 1) := by decide +kernel
theorem dX3_fill_83 : decode cX3_fill 83 = .ok (.iadd, 1) := by decide +kernel
theorem dX3_fill_84 : decode cX3_fill 84 = .ok (.aload_n 0, 1) := by decide +kernel
theorem dX3_fill_85 : decode cX3_fill 85 = .ok (.getfield 13, 3) := by decide +kernel
theorem dX3_fill_88 : decode cX3_fill 88 = .ok (.iload 8, 2) := by decide +kernel
theorem dX3_fill_90 : decode cX3_fill 90 = .ok (.iaload, 1) := by decide +kernel
theorem dX3_fill_91 : decode cX3_fill 91 = .ok (.iastore, 1) := by decide +kernel
theorem dX3_fill_92 : decode cX3_fill 92 = .ok (.iinc 8 (-1), 3) := by decide +kernel
theorem dX3_fill_95 : decode cX3_fill 95 = .ok (.goto (-26), 3) := by decide +kernel
theorem dX3_fill_98 : decode cX3_fill 98 = .ok (.iconst 0, 1) := by decide +kernel
theorem dX3_fill_99 : decode cX3_fill 99 = .ok (.istore 8, 2) := by decide +kernel
theorem dX3_fill_101 : decode cX3_fill 101 = .ok (.iload 8, 2) := by decide +kernel
theorem dX3_fill_103 : decode cX3_fill 103 = .ok (.iload_n 1, 1) := by decide +kernel
theorem dX3_fill_104 : decode cX3_fill 104 = .ok (.if_icmp .ge 31, 3) := by decide +kernel
theorem dX3_fill_107 : decode cX3_fill 107 = .ok (.aload_n 0, 1) := by decide +kernel
theorem dX3_fill_108 : decode cX3_fill 108 = .ok (.getfield 13, 3) := by decide +kernel
theorem dX3_fill_111 : decode cX3_fill 111 = .ok (.iload 7, 2) := by decide +kernel
theorem dX3_fill_113 : decode cX3_fill 113 = .ok (.iload 8, 2) := by decide +kernel
theorem dX3_fill_115 : decode cX3_fill 115 = .ok (.iadd, 1) := by decide +kernel
theorem dX3_fill_116 : decode cX3_fill 116 = .ok (.iload 6, 2) := by decide +kernel
theorem dX3_fill_118 : decode cX3_fill 118 = .ok (.ifCond .eq 8, 3) := by decide +kernel
theorem dX3_fill_121 : decode cX3_fill 121 = .ok (.bipush 48, 2) := by decide +kernel
theorem dX3_fill_123 : decode cX3_fill 123 = .ok (.goto 5, 3) := by decide +kernel
theorem dX3_fill_126 : decode cX3_fill 126 = .ok (.bipush 32, 2) := by decide +kernel
theorem dX3_fill_128 : decode cX3_fill 128 = .ok (.iastore, 1) := by decide +kernel
theorem dX3_fill_129 : decode cX3_fill 129 = .ok (.iinc 8 1, 3) := by decide +kernel
theorem dX3_fill_132 : decode cX3_fill 132 = .ok (.goto (-31), 3) := by decide +kernel
theorem dX3_fill_135 : decode cX3_fill 135 = .ok (.aload_n 0, 1) := by decide +kernel
theorem dX3_fill_136 : decode cX3_fill 136 = .ok (.aload_n 0, 1) := by decide +kernel
theorem dX3_fill_137 : decode cX3_fill 137 = .ok (.getfield 43, 3) := by decide +kernel
theorem dX3_fill_140 : decode cX3_fill 140 = .ok (.iload_n 1, 1) := by decide +kernel
theorem dX3_fill_141 : decode cX3_fill 141 = .ok (.iadd, 1) := by decide +kernel
theorem dX3_fill_142 : decode cX3_fill 142 = .ok (.putfield 43, 3) := by decide +kernel
theorem dX3_fill_145 : decode cX3_fill 145 = .ok (.return_, 1) := by decide +kernel
abbrev cX3_at : ByteArray := prog_5_method_15_code
def yX3_at : MethodName := ⟨RX3, "at", "(I)I"⟩
theorem dX3_at_0 : decode cX3_at 0 = .ok (.iload_n 1, 1) := by decide +kernel
theorem dX3_at_1 : decode cX3_at 1 = .ok (.ifCond .lt 20, 3) := by decide +kernel
theorem dX3_at_4 : decode cX3_at 4 = .ok (.iload_n 1, 1) := by decide +kernel
theorem dX3_at_5 : decode cX3_at 5 = .ok (.aload_n 0, 1) := by decide +kernel
theorem dX3_at_6 : decode cX3_at 6 = .ok (.getfield 43, 3) := by decide +kernel
theorem dX3_at_9 : decode cX3_at 9 = .ok (.if_icmp .ge 12, 3) := by decide +kernel
theorem dX3_at_12 : decode cX3_at 12 = .ok (.aload_n 0, 1) := by decide +kernel
theorem dX3_at_13 : decode cX3_at 13 = .ok (.getfield 13, 3) := by decide +kernel
theorem dX3_at_16 : decode cX3_at 16 = .ok (.iload_n 1, 1) := by decide +kernel
theorem dX3_at_17 : decode cX3_at 17 = .ok (.iaload, 1) := by decide +kernel
theorem dX3_at_18 : decode cX3_at 18 = .ok (.goto 4, 3) := by decide +kernel
theorem dX3_at_21 : decode cX3_at 21 = .ok (.iconst (-1), 1) := by decide +kernel
theorem dX3_at_22 : decode cX3_at 22 = .ok (.ireturn, 1) := by decide +kernel
abbrev cX3_digits : ByteArray := prog_5_method_16_code
def yX3_digits : MethodName := ⟨RX3, "digits", "(J)I"⟩
theorem dX3_digits_0 : decode cX3_digits 0 = .ok (.lload_n 1, 1) := by decide +kernel
theorem dX3_digits_1 : decode cX3_digits 1 = .ok (.invokestatic 61, 3) := by decide +kernel
theorem dX3_digits_4 : decode cX3_digits 4 = .ok (.ifCond .ne 10, 3) := by decide +kernel
theorem dX3_digits_7 : decode cX3_digits 7 = .ok (.lload_n 1, 1) := by decide +kernel
theorem dX3_digits_8 : decode cX3_digits 8 = .ok (.invokestatic 57, 3) := by decide +kernel
theorem dX3_digits_11 : decode cX3_digits 11 = .ok (.ifCond .eq 5, 3) := by decide +kernel
theorem dX3_digits_14 : decode cX3_digits 14 = .ok (.iconst (-1), 1) := by decide +kernel
theorem dX3_digits_15 : decode cX3_digits 15 = .ok (.ireturn, 1) := by decide +kernel
theorem dX3_digits_16 : decode cX3_digits 16 = .ok (.aload_n 0, 1) := by decide +kernel
theorem dX3_digits_17 : decode cX3_digits 17 = .ok (.lload_n 1, 1) := by decide +kernel
theorem dX3_digits_18 : decode cX3_digits 18 = .ok (.invokevirtual 64, 3) := by decide +kernel
theorem dX3_digits_21 : decode cX3_digits 21 = .ok (.aload_n 0, 1) := by decide +kernel
theorem dX3_digits_22 : decode cX3_digits 22 = .ok (.getfield 23, 3) := by decide +kernel
theorem dX3_digits_25 : decode cX3_digits 25 = .ok (.ireturn, 1) := by decide +kernel
theorem q17 : (Jvm.Cond.initialized "DecimalTextModel") ∈ lw_all := lw_g (lw_at lw_m0 4 rfl) rfl
theorem q150 : (Jvm.Cond.instantiable "DecimalTextModel" (5 : Nat)) ∈ lw_all := lw_g (lw_at lw_m0 137 rfl) rfl
theorem q152 : (Jvm.Cond.instanceMethod ({ cls := "DecimalTextModel", name := "<init>", desc := "()V" } : Jvm.MethodName)) ∈ lw_all := lw_g (lw_at lw_m0 139 rfl) rfl
theorem q153 : (Jvm.Cond.code ({ cls := "DecimalTextModel", name := "<init>", desc := "()V" } : Jvm.MethodName) prog_5_method_1_code (1 : Nat) (Option.none : Option Jvm.ClassFile.FieldType)) ∈ lw_all := lw_g (lw_at lw_m0 140 rfl) rfl
theorem q154 : (Jvm.Cond.methodLink "DecimalTextModel" (1 : Nat) ({ cls := "java/lang/Object", name := "<init>", desc := "()V" } : Jvm.MethodName)) ∈ lw_all := lw_g (lw_at lw_m0 141 rfl) rfl
theorem q155 : (Jvm.Cond.fieldLink "DecimalTextModel" (7 : Nat) "DecimalTextModel" "row" "[B") ∈ lw_all := lw_g (lw_at lw_m0 142 rfl) rfl
theorem q156 : (Jvm.Cond.fieldLink "DecimalTextModel" (23 : Nat) "DecimalTextModel" "digits" "I") ∈ lw_all := lw_g (lw_at lw_m0 143 rfl) rfl
theorem q157 : (Jvm.Cond.fieldLink "DecimalTextModel" (31 : Nat) "DecimalTextModel" "point" "I") ∈ lw_all := lw_g (lw_at lw_m0 144 rfl) rfl
theorem q158 : (Jvm.Cond.fieldLink "DecimalTextModel" (13 : Nat) "DecimalTextModel" "text" "[I") ∈ lw_all := lw_g (lw_at lw_m0 145 rfl) rfl
theorem q159 : (Jvm.Cond.fieldLink "DecimalTextModel" (43 : Nat) "DecimalTextModel" "length" "I") ∈ lw_all := lw_g (lw_at lw_m0 146 rfl) rfl
theorem q160 : (Jvm.Cond.laysFinal "DecimalTextModel" "DecimalTextModel" "row" "[B") ∈ lw_all := lw_g (lw_at lw_m0 147 rfl) rfl
theorem q161 : (Jvm.Cond.soleField "DecimalTextModel" "row") ∈ lw_all := lw_g (lw_at lw_m0 148 rfl) rfl
theorem q162 : (Jvm.Cond.lays "DecimalTextModel" "DecimalTextModel" "digits" "I") ∈ lw_all := lw_g (lw_at lw_m0 149 rfl) rfl
theorem q163 : (Jvm.Cond.soleField "DecimalTextModel" "digits") ∈ lw_all := lw_g (lw_at lw_m0 150 rfl) rfl
theorem q164 : (Jvm.Cond.lays "DecimalTextModel" "DecimalTextModel" "point" "I") ∈ lw_all := lw_g (lw_at lw_m0 151 rfl) rfl
theorem q165 : (Jvm.Cond.soleField "DecimalTextModel" "point") ∈ lw_all := lw_g (lw_at lw_m0 152 rfl) rfl
theorem q166 : (Jvm.Cond.laysFinal "DecimalTextModel" "DecimalTextModel" "text" "[I") ∈ lw_all := lw_g (lw_at lw_m0 153 rfl) rfl
theorem q167 : (Jvm.Cond.soleField "DecimalTextModel" "text") ∈ lw_all := lw_g (lw_at lw_m0 154 rfl) rfl
theorem q168 : (Jvm.Cond.lays "DecimalTextModel" "DecimalTextModel" "length" "I") ∈ lw_all := lw_g (lw_at lw_m0 155 rfl) rfl
theorem q169 : (Jvm.Cond.soleField "DecimalTextModel" "length") ∈ lw_all := lw_g (lw_at lw_m0 156 rfl) rfl
theorem q170 : (Jvm.Cond.superclass "DecimalTextModel" "java/lang/Object") ∈ lw_all := lw_g (lw_at lw_m0 157 rfl) rfl
theorem q172 : (Jvm.Cond.instanceMethod ({ cls := "DecimalTextModel", name := "make", desc := "(JIIII)I" } : Jvm.MethodName)) ∈ lw_all := lw_g (lw_at lw_m0 159 rfl) rfl
theorem q173 : (Jvm.Cond.selects "DecimalTextModel" ({ cls := "DecimalTextModel", name := "make", desc := "(JIIII)I" } : Jvm.MethodName) ({ cls := "DecimalTextModel", name := "make", desc := "(JIIII)I" } : Jvm.MethodName)) ∈ lw_all := lw_g (lw_at lw_m0 160 rfl) rfl
theorem q174 : (Jvm.Cond.code ({ cls := "DecimalTextModel", name := "make", desc := "(JIIII)I" } : Jvm.MethodName) prog_5_method_13_code (10 : Nat) (Option.some Jvm.ClassFile.FieldType.int)) ∈ lw_all := lw_g (lw_at lw_m0 161 rfl) rfl
theorem q175 : (Jvm.Cond.methodLink "DecimalTextModel" (57 : Nat) ({ cls := "DecimalTextModel", name := "none", desc := "(J)Z" } : Jvm.MethodName)) ∈ lw_all := lw_g (lw_at lw_m0 162 rfl) rfl
theorem q176 : (Jvm.Cond.static ({ cls := "DecimalTextModel", name := "none", desc := "(J)Z" } : Jvm.MethodName)) ∈ lw_all := lw_g (lw_at lw_m0 163 rfl) rfl
theorem q177 : (Jvm.Cond.code ({ cls := "DecimalTextModel", name := "none", desc := "(J)Z" } : Jvm.MethodName) prog_5_method_4_code (2 : Nat) (Option.some Jvm.ClassFile.FieldType.boolean)) ∈ lw_all := lw_g (lw_at lw_m0 164 rfl) rfl
theorem q178 : (Jvm.Cond.constantLong "DecimalTextModel" (17 : Nat) (2047 : Int64)) ∈ lw_all := lw_g (lw_at lw_m0 165 rfl) rfl
theorem q179 : (Jvm.Cond.constantLong "DecimalTextModel" (19 : Nat) (4503599627370495 : Int64)) ∈ lw_all := lw_g (lw_at lw_m0 166 rfl) rfl
theorem q180 : (Jvm.Cond.methodLink "DecimalTextModel" (54 : Nat) ({ cls := "DecimalTextModel", name := "put", desc := "(I)V" } : Jvm.MethodName)) ∈ lw_all := lw_g (lw_at lw_m0 167 rfl) rfl
theorem q181 : (Jvm.Cond.privateMethod ({ cls := "DecimalTextModel", name := "put", desc := "(I)V" } : Jvm.MethodName)) ∈ lw_tbl := lw_at lw_m0 168 rfl
theorem q182 : (Jvm.Cond.instanceMethod ({ cls := "DecimalTextModel", name := "put", desc := "(I)V" } : Jvm.MethodName)) ∈ lw_all := lw_g (lw_at lw_m0 169 rfl) rfl
theorem q183 : (Jvm.Cond.code ({ cls := "DecimalTextModel", name := "put", desc := "(I)V" } : Jvm.MethodName) prog_5_method_10_code (2 : Nat) (Option.none : Option Jvm.ClassFile.FieldType)) ∈ lw_all := lw_g (lw_at lw_m0 170 rfl) rfl
theorem q184 : (Jvm.Cond.methodLink "DecimalTextModel" (61 : Nat) ({ cls := "DecimalTextModel", name := "infinite", desc := "(J)Z" } : Jvm.MethodName)) ∈ lw_all := lw_g (lw_at lw_m0 171 rfl) rfl
theorem q185 : (Jvm.Cond.static ({ cls := "DecimalTextModel", name := "infinite", desc := "(J)Z" } : Jvm.MethodName)) ∈ lw_all := lw_g (lw_at lw_m0 172 rfl) rfl
theorem q186 : (Jvm.Cond.code ({ cls := "DecimalTextModel", name := "infinite", desc := "(J)Z" } : Jvm.MethodName) prog_5_method_3_code (2 : Nat) (Option.some Jvm.ClassFile.FieldType.boolean)) ∈ lw_all := lw_g (lw_at lw_m0 173 rfl) rfl
theorem q187 : (Jvm.Cond.methodLink "DecimalTextModel" (64 : Nat) ({ cls := "DecimalTextModel", name := "spread", desc := "(J)V" } : Jvm.MethodName)) ∈ lw_all := lw_g (lw_at lw_m0 174 rfl) rfl
theorem q188 : (Jvm.Cond.privateMethod ({ cls := "DecimalTextModel", name := "spread", desc := "(J)V" } : Jvm.MethodName)) ∈ lw_tbl := lw_at lw_m0 175 rfl
theorem q189 : (Jvm.Cond.instanceMethod ({ cls := "DecimalTextModel", name := "spread", desc := "(J)V" } : Jvm.MethodName)) ∈ lw_all := lw_g (lw_at lw_m0 176 rfl) rfl
theorem q190 : (Jvm.Cond.code ({ cls := "DecimalTextModel", name := "spread", desc := "(J)V" } : Jvm.MethodName) prog_5_method_5_code (8 : Nat) (Option.none : Option Jvm.ClassFile.FieldType)) ∈ lw_all := lw_g (lw_at lw_m0 177 rfl) rfl
theorem q191 : (Jvm.Cond.constantLong "DecimalTextModel" (21 : Nat) (4503599627370496 : Int64)) ∈ lw_all := lw_g (lw_at lw_m0 178 rfl) rfl
theorem q192 : (Jvm.Cond.constantLong "DecimalTextModel" (27 : Nat) (1000000000000000000 : Int64)) ∈ lw_all := lw_g (lw_at lw_m0 179 rfl) rfl
theorem q193 : (Jvm.Cond.constantLong "DecimalTextModel" (29 : Nat) (10 : Int64)) ∈ lw_all := lw_g (lw_at lw_m0 180 rfl) rfl
theorem q194 : (Jvm.Cond.methodLink "DecimalTextModel" (34 : Nat) ({ cls := "DecimalTextModel", name := "trim", desc := "()V" } : Jvm.MethodName)) ∈ lw_all := lw_g (lw_at lw_m0 181 rfl) rfl
theorem q195 : (Jvm.Cond.privateMethod ({ cls := "DecimalTextModel", name := "trim", desc := "()V" } : Jvm.MethodName)) ∈ lw_tbl := lw_at lw_m0 182 rfl
theorem q196 : (Jvm.Cond.instanceMethod ({ cls := "DecimalTextModel", name := "trim", desc := "()V" } : Jvm.MethodName)) ∈ lw_all := lw_g (lw_at lw_m0 183 rfl) rfl
theorem q197 : (Jvm.Cond.code ({ cls := "DecimalTextModel", name := "trim", desc := "()V" } : Jvm.MethodName) prog_5_method_6_code (3 : Nat) (Option.none : Option Jvm.ClassFile.FieldType)) ∈ lw_all := lw_g (lw_at lw_m0 184 rfl) rfl
theorem q198 : (Jvm.Cond.methodLink "DecimalTextModel" (37 : Nat) ({ cls := "DecimalTextModel", name := "twice", desc := "()V" } : Jvm.MethodName)) ∈ lw_all := lw_g (lw_at lw_m0 185 rfl) rfl
theorem q199 : (Jvm.Cond.privateMethod ({ cls := "DecimalTextModel", name := "twice", desc := "()V" } : Jvm.MethodName)) ∈ lw_tbl := lw_at lw_m0 186 rfl
theorem q200 : (Jvm.Cond.instanceMethod ({ cls := "DecimalTextModel", name := "twice", desc := "()V" } : Jvm.MethodName)) ∈ lw_all := lw_g (lw_at lw_m0 187 rfl) rfl
theorem q201 : (Jvm.Cond.code ({ cls := "DecimalTextModel", name := "twice", desc := "()V" } : Jvm.MethodName) prog_5_method_7_code (4 : Nat) (Option.none : Option Jvm.ClassFile.FieldType)) ∈ lw_all := lw_g (lw_at lw_m0 188 rfl) rfl
theorem q202 : (Jvm.Cond.methodLink "DecimalTextModel" (40 : Nat) ({ cls := "DecimalTextModel", name := "half", desc := "()V" } : Jvm.MethodName)) ∈ lw_all := lw_g (lw_at lw_m0 189 rfl) rfl
theorem q203 : (Jvm.Cond.privateMethod ({ cls := "DecimalTextModel", name := "half", desc := "()V" } : Jvm.MethodName)) ∈ lw_tbl := lw_at lw_m0 190 rfl
theorem q204 : (Jvm.Cond.instanceMethod ({ cls := "DecimalTextModel", name := "half", desc := "()V" } : Jvm.MethodName)) ∈ lw_all := lw_g (lw_at lw_m0 191 rfl) rfl
theorem q205 : (Jvm.Cond.code ({ cls := "DecimalTextModel", name := "half", desc := "()V" } : Jvm.MethodName) prog_5_method_8_code (4 : Nat) (Option.none : Option Jvm.ClassFile.FieldType)) ∈ lw_all := lw_g (lw_at lw_m0 192 rfl) rfl
theorem q206 : (Jvm.Cond.methodLink "DecimalTextModel" (68 : Nat) ({ cls := "DecimalTextModel", name := "body", desc := "(IIZ)V" } : Jvm.MethodName)) ∈ lw_all := lw_g (lw_at lw_m0 193 rfl) rfl
theorem q207 : (Jvm.Cond.privateMethod ({ cls := "DecimalTextModel", name := "body", desc := "(IIZ)V" } : Jvm.MethodName)) ∈ lw_tbl := lw_at lw_m0 194 rfl
theorem q208 : (Jvm.Cond.instanceMethod ({ cls := "DecimalTextModel", name := "body", desc := "(IIZ)V" } : Jvm.MethodName)) ∈ lw_all := lw_g (lw_at lw_m0 195 rfl) rfl
theorem q209 : (Jvm.Cond.code ({ cls := "DecimalTextModel", name := "body", desc := "(IIZ)V" } : Jvm.MethodName) prog_5_method_12_code (6 : Nat) (Option.none : Option Jvm.ClassFile.FieldType)) ∈ lw_all := lw_g (lw_at lw_m0 196 rfl) rfl
theorem q210 : (Jvm.Cond.methodLink "DecimalTextModel" (46 : Nat) ({ cls := "DecimalTextModel", name := "cut", desc := "(I)V" } : Jvm.MethodName)) ∈ lw_all := lw_g (lw_at lw_m0 197 rfl) rfl
theorem q211 : (Jvm.Cond.privateMethod ({ cls := "DecimalTextModel", name := "cut", desc := "(I)V" } : Jvm.MethodName)) ∈ lw_tbl := lw_at lw_m0 198 rfl
theorem q212 : (Jvm.Cond.instanceMethod ({ cls := "DecimalTextModel", name := "cut", desc := "(I)V" } : Jvm.MethodName)) ∈ lw_all := lw_g (lw_at lw_m0 199 rfl) rfl
theorem q213 : (Jvm.Cond.code ({ cls := "DecimalTextModel", name := "cut", desc := "(I)V" } : Jvm.MethodName) prog_5_method_9_code (6 : Nat) (Option.none : Option Jvm.ClassFile.FieldType)) ∈ lw_all := lw_g (lw_at lw_m0 200 rfl) rfl
theorem q214 : (Jvm.Cond.methodLink "DecimalTextModel" (50 : Nat) ({ cls := "DecimalTextModel", name := "digit", desc := "(I)I" } : Jvm.MethodName)) ∈ lw_all := lw_g (lw_at lw_m0 201 rfl) rfl
theorem q215 : (Jvm.Cond.privateMethod ({ cls := "DecimalTextModel", name := "digit", desc := "(I)I" } : Jvm.MethodName)) ∈ lw_tbl := lw_at lw_m0 202 rfl
theorem q216 : (Jvm.Cond.instanceMethod ({ cls := "DecimalTextModel", name := "digit", desc := "(I)I" } : Jvm.MethodName)) ∈ lw_all := lw_g (lw_at lw_m0 203 rfl) rfl
theorem q217 : (Jvm.Cond.code ({ cls := "DecimalTextModel", name := "digit", desc := "(I)I" } : Jvm.MethodName) prog_5_method_11_code (2 : Nat) (Option.some Jvm.ClassFile.FieldType.int)) ∈ lw_all := lw_g (lw_at lw_m0 204 rfl) rfl
theorem q218 : (Jvm.Cond.methodLink "DecimalTextModel" (72 : Nat) ({ cls := "DecimalTextModel", name := "fill", desc := "(IIIZ)V" } : Jvm.MethodName)) ∈ lw_all := lw_g (lw_at lw_m0 205 rfl) rfl
theorem q219 : (Jvm.Cond.privateMethod ({ cls := "DecimalTextModel", name := "fill", desc := "(IIIZ)V" } : Jvm.MethodName)) ∈ lw_tbl := lw_at lw_m0 206 rfl
theorem q220 : (Jvm.Cond.instanceMethod ({ cls := "DecimalTextModel", name := "fill", desc := "(IIIZ)V" } : Jvm.MethodName)) ∈ lw_all := lw_g (lw_at lw_m0 207 rfl) rfl
theorem q221 : (Jvm.Cond.code ({ cls := "DecimalTextModel", name := "fill", desc := "(IIIZ)V" } : Jvm.MethodName) prog_5_method_14_code (9 : Nat) (Option.none : Option Jvm.ClassFile.FieldType)) ∈ lw_all := lw_g (lw_at lw_m0 208 rfl) rfl
theorem q223 : (Jvm.Cond.instanceMethod ({ cls := "DecimalTextModel", name := "at", desc := "(I)I" } : Jvm.MethodName)) ∈ lw_all := lw_g (lw_at lw_m0 210 rfl) rfl
theorem q224 : (Jvm.Cond.selects "DecimalTextModel" ({ cls := "DecimalTextModel", name := "at", desc := "(I)I" } : Jvm.MethodName) ({ cls := "DecimalTextModel", name := "at", desc := "(I)I" } : Jvm.MethodName)) ∈ lw_all := lw_g (lw_at lw_m0 211 rfl) rfl
theorem q225 : (Jvm.Cond.code ({ cls := "DecimalTextModel", name := "at", desc := "(I)I" } : Jvm.MethodName) prog_5_method_15_code (2 : Nat) (Option.some Jvm.ClassFile.FieldType.int)) ∈ lw_all := lw_g (lw_at lw_m0 212 rfl) rfl
theorem q227 : (Jvm.Cond.instanceMethod ({ cls := "DecimalTextModel", name := "digits", desc := "(J)I" } : Jvm.MethodName)) ∈ lw_all := lw_g (lw_at lw_m0 214 rfl) rfl
theorem q228 : (Jvm.Cond.selects "DecimalTextModel" ({ cls := "DecimalTextModel", name := "digits", desc := "(J)I" } : Jvm.MethodName) ({ cls := "DecimalTextModel", name := "digits", desc := "(J)I" } : Jvm.MethodName)) ∈ lw_all := lw_g (lw_at lw_m0 215 rfl) rfl
theorem q229 : (Jvm.Cond.code ({ cls := "DecimalTextModel", name := "digits", desc := "(J)I" } : Jvm.MethodName) prog_5_method_16_code (3 : Nat) (Option.some Jvm.ClassFile.FieldType.int)) ∈ lw_all := lw_g (lw_at lw_m0 216 rfl) rfl
theorem in_X3 : ∀ w ∈ wsX30, w ∈ lw_all := lw_in wsX30 [160, 162, 164, 166, 168] (by decide +kernel) (by decide +kernel)
end
section
/-! the law's own entry -/
set_option maxRecDepth 100000
abbrev cL_law : ByteArray := code
theorem dL_law_0 : decode cL_law 0 = .ok (.new 7, 3) := by decide +kernel
theorem dL_law_3 : decode cL_law 3 = .ok (.dup, 1) := by decide +kernel
theorem dL_law_4 : decode cL_law 4 = .ok (.invokespecial 9, 3) := by decide +kernel
theorem dL_law_7 : decode cL_law 7 = .ok (.astore_n 1, 1) := by decide +kernel
theorem dL_law_8 : decode cL_law 8 = .ok (.new 10, 3) := by decide +kernel
theorem dL_law_11 : decode cL_law 11 = .ok (.dup, 1) := by decide +kernel
theorem dL_law_12 : decode cL_law 12 = .ok (.invokespecial 12, 3) := by decide +kernel
theorem dL_law_15 : decode cL_law 15 = .ok (.astore_n 2, 1) := by decide +kernel
theorem dL_law_16 : decode cL_law 16 = .ok (.iconst 0, 1) := by decide +kernel
theorem dL_law_17 : decode cL_law 17 = .ok (.istore_n 3, 1) := by decide +kernel
theorem dL_law_18 : decode cL_law 18 = .ok (.iload_n 3, 1) := by decide +kernel
theorem dL_law_19 : decode cL_law 19 = .ok (.aload_n 0, 1) := by decide +kernel
theorem dL_law_20 : decode cL_law 20 = .ok (.arraylength, 1) := by decide +kernel
theorem dL_law_21 : decode cL_law 21 = .ok (.bipush 7, 2) := by decide +kernel
theorem dL_law_23 : decode cL_law 23 = .ok (.isub, 1) := by decide +kernel
theorem dL_law_24 : decode cL_law 24 = .ok (.if_icmp .gt 213, 3) := by decide +kernel
theorem dL_law_27 : decode cL_law 27 = .ok (.aload_n 0, 1) := by decide +kernel
theorem dL_law_28 : decode cL_law 28 = .ok (.iload_n 3, 1) := by decide +kernel
theorem dL_law_29 : decode cL_law 29 = .ok (.iaload, 1) := by decide +kernel
theorem dL_law_30 : decode cL_law 30 = .ok (.iconst 3, 1) := by decide +kernel
theorem dL_law_31 : decode cL_law 31 = .ok (.iand, 1) := by decide +kernel
theorem dL_law_32 : decode cL_law 32 = .ok (.tableswitch 199 0 2 #[28, 123, 146], 28) := by decide +kernel
theorem dL_law_60 : decode cL_law 60 = .ok (.aload_n 1, 1) := by decide +kernel
theorem dL_law_61 : decode cL_law 61 = .ok (.aload_n 0, 1) := by decide +kernel
theorem dL_law_62 : decode cL_law 62 = .ok (.iload_n 3, 1) := by decide +kernel
theorem dL_law_63 : decode cL_law 63 = .ok (.iconst 1, 1) := by decide +kernel
theorem dL_law_64 : decode cL_law 64 = .ok (.iadd, 1) := by decide +kernel
theorem dL_law_65 : decode cL_law 65 = .ok (.iaload, 1) := by decide +kernel
theorem dL_law_66 : decode cL_law 66 = .ok (.i2l, 1) := by decide +kernel
theorem dL_law_67 : decode cL_law 67 = .ok (.bipush 32, 2) := by decide +kernel
theorem dL_law_69 : decode cL_law 69 = .ok (.lshl, 1) := by decide +kernel
theorem dL_law_70 : decode cL_law 70 = .ok (.aload_n 0, 1) := by decide +kernel
theorem dL_law_71 : decode cL_law 71 = .ok (.iload_n 3, 1) := by decide +kernel
theorem dL_law_72 : decode cL_law 72 = .ok (.iconst 2, 1) := by decide +kernel
theorem dL_law_73 : decode cL_law 73 = .ok (.iadd, 1) := by decide +kernel
theorem dL_law_74 : decode cL_law 74 = .ok (.iaload, 1) := by decide +kernel
theorem dL_law_75 : decode cL_law 75 = .ok (.i2l, 1) := by decide +kernel
theorem dL_law_76 : decode cL_law 76 = .ok (.ldc2_w 13, 3) := by decide +kernel
theorem dL_law_79 : decode cL_law 79 = .ok (.land, 1) := by decide +kernel
theorem dL_law_80 : decode cL_law 80 = .ok (.lor, 1) := by decide +kernel
theorem dL_law_81 : decode cL_law 81 = .ok (.aload_n 0, 1) := by decide +kernel
theorem dL_law_82 : decode cL_law 82 = .ok (.iload_n 3, 1) := by decide +kernel
theorem dL_law_83 : decode cL_law 83 = .ok (.iconst 3, 1) := by decide +kernel
theorem dL_law_84 : decode cL_law 84 = .ok (.iadd, 1) := by decide +kernel
theorem dL_law_85 : decode cL_law 85 = .ok (.iaload, 1) := by decide +kernel
theorem dL_law_86 : decode cL_law 86 = .ok (.aload_n 0, 1) := by decide +kernel
theorem dL_law_87 : decode cL_law 87 = .ok (.iload_n 3, 1) := by decide +kernel
theorem dL_law_88 : decode cL_law 88 = .ok (.iconst 4, 1) := by decide +kernel
theorem dL_law_89 : decode cL_law 89 = .ok (.iadd, 1) := by decide +kernel
theorem dL_law_90 : decode cL_law 90 = .ok (.iaload, 1) := by decide +kernel
theorem dL_law_91 : decode cL_law 91 = .ok (.aload_n 0, 1) := by decide +kernel
theorem dL_law_92 : decode cL_law 92 = .ok (.iload_n 3, 1) := by decide +kernel
theorem dL_law_93 : decode cL_law 93 = .ok (.iconst 5, 1) := by decide +kernel
theorem dL_law_94 : decode cL_law 94 = .ok (.iadd, 1) := by decide +kernel
theorem dL_law_95 : decode cL_law 95 = .ok (.iaload, 1) := by decide +kernel
theorem dL_law_96 : decode cL_law 96 = .ok (.aload_n 0, 1) := by decide +kernel
theorem dL_law_97 : decode cL_law 97 = .ok (.iload_n 3, 1) := by decide +kernel
theorem dL_law_98 : decode cL_law 98 = .ok (.bipush 6, 2) := by decide +kernel
theorem dL_law_100 : decode cL_law 100 = .ok (.iadd, 1) := by decide +kernel
theorem dL_law_101 : decode cL_law 101 = .ok (.iaload, 1) := by decide +kernel
theorem dL_law_102 : decode cL_law 102 = .ok (.invokevirtual 15, 3) := by decide +kernel
theorem dL_law_105 : decode cL_law 105 = .ok (.aload_n 2, 1) := by decide +kernel
theorem dL_law_106 : decode cL_law 106 = .ok (.aload_n 0, 1) := by decide +kernel
theorem dL_law_107 : decode cL_law 107 = .ok (.iload_n 3, 1) := by decide +kernel
theorem dL_law_108 : decode cL_law 108 = .ok (.iconst 1, 1) := by decide +kernel
theorem dL_law_109 : decode cL_law 109 = .ok (.iadd, 1) := by decide +kernel
theorem dL_law_110 : decode cL_law 110 = .ok (.iaload, 1) := by decide +kernel
theorem dL_law_111 : decode cL_law 111 = .ok (.i2l, 1) := by decide +kernel
theorem dL_law_112 : decode cL_law 112 = .ok (.bipush 32, 2) := by decide +kernel
theorem dL_law_114 : decode cL_law 114 = .ok (.lshl, 1) := by decide +kernel
theorem dL_law_115 : decode cL_law 115 = .ok (.aload_n 0, 1) := by decide +kernel
theorem dL_law_116 : decode cL_law 116 = .ok (.iload_n 3, 1) := by decide +kernel
theorem dL_law_117 : decode cL_law 117 = .ok (.iconst 2, 1) := by decide +kernel
theorem dL_law_118 : decode cL_law 118 = .ok (.iadd, 1) := by decide +kernel
theorem dL_law_119 : decode cL_law 119 = .ok (.iaload, 1) := by decide +kernel
theorem dL_law_120 : decode cL_law 120 = .ok (.i2l, 1) := by decide +kernel
theorem dL_law_121 : decode cL_law 121 = .ok (.ldc2_w 13, 3) := by decide +kernel
theorem dL_law_124 : decode cL_law 124 = .ok (.land, 1) := by decide +kernel
theorem dL_law_125 : decode cL_law 125 = .ok (.lor, 1) := by decide +kernel
theorem dL_law_126 : decode cL_law 126 = .ok (.aload_n 0, 1) := by decide +kernel
theorem dL_law_127 : decode cL_law 127 = .ok (.iload_n 3, 1) := by decide +kernel
theorem dL_law_128 : decode cL_law 128 = .ok (.iconst 3, 1) := by decide +kernel
theorem dL_law_129 : decode cL_law 129 = .ok (.iadd, 1) := by decide +kernel
theorem dL_law_130 : decode cL_law 130 = .ok (.iaload, 1) := by decide +kernel
theorem dL_law_131 : decode cL_law 131 = .ok (.aload_n 0, 1) := by decide +kernel
theorem dL_law_132 : decode cL_law 132 = .ok (.iload_n 3, 1) := by decide +kernel
theorem dL_law_133 : decode cL_law 133 = .ok (.iconst 4, 1) := by decide +kernel
theorem dL_law_134 : decode cL_law 134 = .ok (.iadd, 1) := by decide +kernel
theorem dL_law_135 : decode cL_law 135 = .ok (.iaload, 1) := by decide +kernel
theorem dL_law_136 : decode cL_law 136 = .ok (.aload_n 0, 1) := by decide +kernel
theorem dL_law_137 : decode cL_law 137 = .ok (.iload_n 3, 1) := by decide +kernel
theorem dL_law_138 : decode cL_law 138 = .ok (.iconst 5, 1) := by decide +kernel
theorem dL_law_139 : decode cL_law 139 = .ok (.iadd, 1) := by decide +kernel
theorem dL_law_140 : decode cL_law 140 = .ok (.iaload, 1) := by decide +kernel
theorem dL_law_141 : decode cL_law 141 = .ok (.aload_n 0, 1) := by decide +kernel
theorem dL_law_142 : decode cL_law 142 = .ok (.iload_n 3, 1) := by decide +kernel
theorem dL_law_143 : decode cL_law 143 = .ok (.bipush 6, 2) := by decide +kernel
theorem dL_law_145 : decode cL_law 145 = .ok (.iadd, 1) := by decide +kernel
theorem dL_law_146 : decode cL_law 146 = .ok (.iaload, 1) := by decide +kernel
theorem dL_law_147 : decode cL_law 147 = .ok (.invokevirtual 19, 3) := by decide +kernel
theorem dL_law_150 : decode cL_law 150 = .ok (.if_icmp .eq 81, 3) := by decide +kernel
theorem dL_law_153 : decode cL_law 153 = .ok (.iconst 0, 1) := by decide +kernel
theorem dL_law_154 : decode cL_law 154 = .ok (.ireturn, 1) := by decide +kernel
theorem dL_law_155 : decode cL_law 155 = .ok (.aload_n 1, 1) := by decide +kernel
theorem dL_law_156 : decode cL_law 156 = .ok (.aload_n 0, 1) := by decide +kernel
theorem dL_law_157 : decode cL_law 157 = .ok (.iload_n 3, 1) := by decide +kernel
theorem dL_law_158 : decode cL_law 158 = .ok (.iconst 1, 1) := by decide +kernel
theorem dL_law_159 : decode cL_law 159 = .ok (.iadd, 1) := by decide +kernel
theorem dL_law_160 : decode cL_law 160 = .ok (.iaload, 1) := by decide +kernel
theorem dL_law_161 : decode cL_law 161 = .ok (.invokevirtual 20, 3) := by decide +kernel
theorem dL_law_164 : decode cL_law 164 = .ok (.aload_n 2, 1) := by decide +kernel
theorem dL_law_165 : decode cL_law 165 = .ok (.aload_n 0, 1) := by decide +kernel
theorem dL_law_166 : decode cL_law 166 = .ok (.iload_n 3, 1) := by decide +kernel
theorem dL_law_167 : decode cL_law 167 = .ok (.iconst 1, 1) := by decide +kernel
theorem dL_law_168 : decode cL_law 168 = .ok (.iadd, 1) := by decide +kernel
theorem dL_law_169 : decode cL_law 169 = .ok (.iaload, 1) := by decide +kernel
theorem dL_law_170 : decode cL_law 170 = .ok (.invokevirtual 24, 3) := by decide +kernel
theorem dL_law_173 : decode cL_law 173 = .ok (.if_icmp .eq 58, 3) := by decide +kernel
theorem dL_law_176 : decode cL_law 176 = .ok (.iconst 0, 1) := by decide +kernel
theorem dL_law_177 : decode cL_law 177 = .ok (.ireturn, 1) := by decide +kernel
theorem dL_law_178 : decode cL_law 178 = .ok (.aload_n 1, 1) := by decide +kernel
theorem dL_law_179 : decode cL_law 179 = .ok (.aload_n 0, 1) := by decide +kernel
theorem dL_law_180 : decode cL_law 180 = .ok (.iload_n 3, 1) := by decide +kernel
theorem dL_law_181 : decode cL_law 181 = .ok (.iconst 1, 1) := by decide +kernel
theorem dL_law_182 : decode cL_law 182 = .ok (.iadd, 1) := by decide +kernel
theorem dL_law_183 : decode cL_law 183 = .ok (.iaload, 1) := by decide +kernel
theorem dL_law_184 : decode cL_law 184 = .ok (.i2l, 1) := by decide +kernel
theorem dL_law_185 : decode cL_law 185 = .ok (.bipush 32, 2) := by decide +kernel
theorem dL_law_187 : decode cL_law 187 = .ok (.lshl, 1) := by decide +kernel
theorem dL_law_188 : decode cL_law 188 = .ok (.aload_n 0, 1) := by decide +kernel
theorem dL_law_189 : decode cL_law 189 = .ok (.iload_n 3, 1) := by decide +kernel
theorem dL_law_190 : decode cL_law 190 = .ok (.iconst 2, 1) := by decide +kernel
theorem dL_law_191 : decode cL_law 191 = .ok (.iadd, 1) := by decide +kernel
theorem dL_law_192 : decode cL_law 192 = .ok (.iaload, 1) := by decide +kernel
theorem dL_law_193 : decode cL_law 193 = .ok (.i2l, 1) := by decide +kernel
theorem dL_law_194 : decode cL_law 194 = .ok (.ldc2_w 13, 3) := by decide +kernel
theorem dL_law_197 : decode cL_law 197 = .ok (.land, 1) := by decide +kernel
theorem dL_law_198 : decode cL_law 198 = .ok (.lor, 1) := by decide +kernel
theorem dL_law_199 : decode cL_law 199 = .ok (.invokevirtual 25, 3) := by decide +kernel
theorem dL_law_202 : decode cL_law 202 = .ok (.aload_n 2, 1) := by decide +kernel
theorem dL_law_203 : decode cL_law 203 = .ok (.aload_n 0, 1) := by decide +kernel
theorem dL_law_204 : decode cL_law 204 = .ok (.iload_n 3, 1) := by decide +kernel
theorem dL_law_205 : decode cL_law 205 = .ok (.iconst 1, 1) := by decide +kernel
theorem dL_law_206 : decode cL_law 206 = .ok (.iadd, 1) := by decide +kernel
theorem dL_law_207 : decode cL_law 207 = .ok (.iaload, 1) := by decide +kernel
theorem dL_law_208 : decode cL_law 208 = .ok (.i2l, 1) := by decide +kernel
theorem dL_law_209 : decode cL_law 209 = .ok (.bipush 32, 2) := by decide +kernel
theorem dL_law_211 : decode cL_law 211 = .ok (.lshl, 1) := by decide +kernel
theorem dL_law_212 : decode cL_law 212 = .ok (.aload_n 0, 1) := by decide +kernel
theorem dL_law_213 : decode cL_law 213 = .ok (.iload_n 3, 1) := by decide +kernel
theorem dL_law_214 : decode cL_law 214 = .ok (.iconst 2, 1) := by decide +kernel
theorem dL_law_215 : decode cL_law 215 = .ok (.iadd, 1) := by decide +kernel
theorem dL_law_216 : decode cL_law 216 = .ok (.iaload, 1) := by decide +kernel
theorem dL_law_217 : decode cL_law 217 = .ok (.i2l, 1) := by decide +kernel
theorem dL_law_218 : decode cL_law 218 = .ok (.ldc2_w 13, 3) := by decide +kernel
theorem dL_law_221 : decode cL_law 221 = .ok (.land, 1) := by decide +kernel
theorem dL_law_222 : decode cL_law 222 = .ok (.lor, 1) := by decide +kernel
theorem dL_law_223 : decode cL_law 223 = .ok (.invokevirtual 29, 3) := by decide +kernel
theorem dL_law_226 : decode cL_law 226 = .ok (.if_icmp .eq 5, 3) := by decide +kernel
theorem dL_law_229 : decode cL_law 229 = .ok (.iconst 0, 1) := by decide +kernel
theorem dL_law_230 : decode cL_law 230 = .ok (.ireturn, 1) := by decide +kernel
theorem dL_law_231 : decode cL_law 231 = .ok (.iinc 3 7, 3) := by decide +kernel
theorem dL_law_234 : decode cL_law 234 = .ok (.goto (-216), 3) := by decide +kernel
theorem dL_law_237 : decode cL_law 237 = .ok (.iconst 1, 1) := by decide +kernel
theorem dL_law_238 : decode cL_law 238 = .ok (.ireturn, 1) := by decide +kernel
end
section
/-! own rows: ints as zI z, longs as zL z, arrays as zA g; the world in one word zW, what is fixed in a method in one word zF -/
set_option maxRecDepth 100000
def zI (z : Int) : Int32 := Int32.ofInt z
def zL (z : Int) : Int64 := Int64.ofInt z
theorem zI_toInt {a : Int} (h : -2147483648 ≤ a ∧ a < 2147483648) : (zI a).toInt = a := Int32.toInt_ofInt_of_le (by omega) (by omega)
theorem zL_toInt {a : Int} (h : -9223372036854775808 ≤ a ∧ a < 9223372036854775808) : (zL a).toInt = a := Int64.toInt_ofInt_of_le (by omega) (by omega)
theorem zI_of (x : Int32) : zI x.toInt = x := Int32.ofInt_toInt x
theorem zL_of (x : Int64) : zL x.toInt = x := Int64.ofInt_toInt x
theorem zI_rng (x : Int32) : -2147483648 ≤ x.toInt ∧ x.toInt < 2147483648 := by
  have h1 := Int32.le_toInt x
  have h2 := Int32.toInt_lt x
  omega
theorem zL_rng (x : Int64) : -9223372036854775808 ≤ x.toInt ∧ x.toInt < 9223372036854775808 := by
  have h1 := Int64.le_toInt x
  have h2 := Int64.toInt_lt x
  omega
theorem zI_ex (x : Int32) : ∃ z : Int, x = zI z ∧ -2147483648 ≤ z ∧ z < 2147483648 := ⟨x.toInt, (zI_of x).symm, (zI_rng x).1, (zI_rng x).2⟩
theorem zI_add (a b : Int) : zI a + zI b = zI (a + b) := (Int32.ofInt_add a b).symm
theorem zI_sub (a b : Int) : zI a - zI b = zI (a - b) := (Int32.ofInt_sub a b).symm
theorem zI_mul (a b : Int) : zI a * zI b = zI (a * b) := (Int32.ofInt_mul a b).symm
theorem zI_neg (a : Int) : - zI a = zI (-a) := (Int32.ofInt_neg a).symm
theorem zL_add (a b : Int) : zL a + zL b = zL (a + b) := (Int64.ofInt_add a b).symm
theorem zL_sub (a b : Int) : zL a - zL b = zL (a - b) := (Int64.ofInt_sub a b).symm
theorem zL_mul (a b : Int) : zL a * zL b = zL (a * b) := (Int64.ofInt_mul a b).symm
theorem zI_nat (n : Nat) : Int32.ofNat n = zI (n : Int) := Int32.ofInt_eq_ofNat.symm
theorem zI_inj {a b : Int} (ha : -2147483648 ≤ a ∧ a < 2147483648) (hb : -2147483648 ≤ b ∧ b < 2147483648) : zI a = zI b ↔ a = b :=
  ⟨fun h => by rw [← zI_toInt ha, ← zI_toInt hb, h], fun h => by rw [h]⟩
theorem zI_lt {a b : Int} (ha : -2147483648 ≤ a ∧ a < 2147483648) (hb : -2147483648 ≤ b ∧ b < 2147483648) : zI a < zI b ↔ a < b := by
  rw [Int32.lt_iff_toInt_lt, zI_toInt ha, zI_toInt hb]
theorem zI_le {a b : Int} (ha : -2147483648 ≤ a ∧ a < 2147483648) (hb : -2147483648 ≤ b ∧ b < 2147483648) : zI a ≤ zI b ↔ a ≤ b := by
  rw [Int32.le_iff_toInt_le, zI_toInt ha, zI_toInt hb]
theorem zL_inj {a b : Int} (ha : -9223372036854775808 ≤ a ∧ a < 9223372036854775808) (hb : -9223372036854775808 ≤ b ∧ b < 9223372036854775808) : zL a = zL b ↔ a = b :=
  ⟨fun h => by rw [← zL_toInt ha, ← zL_toInt hb, h], fun h => by rw [h]⟩
theorem zL_lt {a b : Int} (ha : -9223372036854775808 ≤ a ∧ a < 9223372036854775808) (hb : -9223372036854775808 ≤ b ∧ b < 9223372036854775808) : zL a < zL b ↔ a < b := by
  rw [Int64.lt_iff_toInt_lt, zL_toInt ha, zL_toInt hb]
theorem zL_le {a b : Int} (ha : -9223372036854775808 ≤ a ∧ a < 9223372036854775808) (hb : -9223372036854775808 ≤ b ∧ b < 9223372036854775808) : zL a ≤ zL b ↔ a ≤ b := by
  rw [Int64.le_iff_toInt_le, zL_toInt ha, zL_toInt hb]
theorem zI_0 : zI 0 = 0 := rfl
theorem zI_clamp {k : Int} (h0 : 0 ≤ k) (h1 : k < 2147483648) : (zI k).toNatClampNeg = k.toNat := Int32.toNatClampNeg_ofInt_of_le (by omega) (by omega)
theorem zI_vpin {k : Int} {n : Nat} (h0 : 0 ≤ k) (h1 : k < (n : Int)) (hn : n ≤ 2147483647) : vp_in (zI k) n := by
  intro h
  rcases h with h | h
  · rw [← zI_0, zI_lt (by omega) (by omega)] at h
    omega
  · rw [zI_clamp h0 (by omega)] at h
    omega
theorem zI_byte {x : Int} (h : -128 ≤ x ∧ x < 128) : (zI x).toInt8.toInt32 = zI x := by
  apply Int32.toInt_inj.1
  rw [Int8.toInt_toInt32, Int32.toInt_toInt8, zI_toInt (by omega), Int.bmod_eq_of_le (by omega) (by omega)]
theorem zI_narb {x : Int} (h : -128 ≤ x ∧ x < 128) : vp_nar .byte (zI x) = zI x := by rw [vp_nar_byte, zI_byte h]
/-- Java's quotient and remainder of numbers that are not negative -/
theorem zI_div {a b : Int} (ha : 0 ≤ a ∧ a < 2147483648) (hb : 0 < b ∧ b < 2147483648) : zI a / zI b = zI (a / b) := by
  have h := Int32.ofInt_tdiv (a := a) (b := b) (by show (-2147483648 : Int) ≤ a; omega) (by show a ≤ (2147483647 : Int); omega) (by show (-2147483648 : Int) ≤ b; omega) (by show b ≤ (2147483647 : Int); omega)
  rw [Int.tdiv_eq_ediv_of_nonneg ha.1] at h
  exact h.symm
theorem zL_div {a b : Int} (ha : 0 ≤ a ∧ a < 9223372036854775808) (hb : 0 < b ∧ b < 9223372036854775808) : zL a / zL b = zL (a / b) := by
  have h := Int64.ofInt_tdiv (a := a) (b := b) (by show (-9223372036854775808 : Int) ≤ a; omega) (by show a ≤ (9223372036854775807 : Int); omega) (by show (-9223372036854775808 : Int) ≤ b; omega) (by show b ≤ (9223372036854775807 : Int); omega)
  rw [Int.tdiv_eq_ediv_of_nonneg ha.1] at h
  exact h.symm
theorem zI_rem {a b : Int} (ha : 0 ≤ a ∧ a < 2147483648) (hb : 0 < b ∧ b < 2147483648) : zI a - zI a / zI b * zI b = zI (a % b) := by
  rw [zI_div ha hb, zI_mul, zI_sub, Int.emod_def, Int.mul_comm]
theorem zL_rem {a b : Int} (ha : 0 ≤ a ∧ a < 9223372036854775808) (hb : 0 < b ∧ b < 9223372036854775808) : zL a - zL a / zL b * zL b = zL (a % b) := by
  rw [zL_div ha hb, zL_mul, zL_sub, Int.emod_def, Int.mul_comm]
theorem zI_ne0 {b : Int} (hb : 0 < b ∧ b < 2147483648) : ¬ zI b = 0 := by
  rw [← zI_0, zI_inj (by omega) (by omega)]; omega
theorem zL_ne0 {b : Int} (hb : 0 < b ∧ b < 9223372036854775808) : ¬ zL b = 0 := by
  rw [show (0 : Int64) = zL 0 from rfl, zL_inj (by omega) (by omega)]; omega
theorem zI_l2i {a : Int} : (zL a).toInt32 = zI a := by
  apply Int32.toInt_inj.1
  have h32 : (2 : Nat) ^ 32 = Int32.size := by decide
  rw [Int64.toInt_toInt32, zL, zI, Int64.toInt_ofInt, Int32.toInt_ofInt, h32]
  exact Int.bmod_bmod_of_dvd (by decide)
theorem zL_i2l {a : Int} (h : -2147483648 ≤ a ∧ a < 2147483648) : (zI a).toInt64 = zL a := by
  apply Int64.toInt_inj.1
  rw [Int32.toInt_toInt64, zI_toInt h, zL_toInt (by omega)]
abbrev zA (g : Int → Int) : Nat → Int32 := fun j => zI (g (j : Int))
def zup (g : Int → Int) (k x : Int) : Int → Int := fun j => if j = k then x else g j
theorem zup_same (g : Int → Int) (k x : Int) : zup g k x k = x := if_pos rfl
theorem zup_ne (g : Int → Int) {k j : Int} (x : Int) (h : j ≠ k) : zup g k x j = g j := if_neg h
theorem zA_upd (g : Int → Int) {k x : Int} (h : 0 ≤ k) : upd (zA g) k.toNat (zI x) = zA (zup g k x) := by
  funext j
  simp only [upd, zA, zup]
  by_cases hj : j = k.toNat
  · rw [if_pos hj, if_pos (by omega)]
  · rw [if_neg hj, if_neg (by omega)]
theorem zA_ex (f : Nat → Int32) : ∃ g : Int → Int, f = zA g := ⟨fun j => (f j.toNat).toInt, by funext j; show f j = zI (f ((j : Int).toNat)).toInt; rw [Int.toNat_natCast, zI_of]⟩
theorem zA_0 : (fun _ => 0 : Nat → Int32) = zA (fun _ => 0) := rfl
abbrev vwCl : List vw_C := [(RX0, TX0, 3), (RX1, TX1, 5), (RX2, TX2, 2), (RX3, TX3, 5)]
/-- the nest mates' words -/
def zN (U : State) : Prop := va_Nw (.methodLinkNest "DecimalText" 9 ⟨"DecimalText$Decimal", "<init>", "()V"⟩ "DecimalText") U ∧ va_Nw (.fieldLinkNest "DecimalText" 81 "DecimalText$Decimal" "digits" "[B" "DecimalText") U ∧ va_Nw (.fieldLinkNest "DecimalText" 78 "DecimalText$Decimal" "count" "I" "DecimalText") U
theorem zN.warm {s U : State} (hW : s.WarmedH U.vm) (h : zN s) : zN U := ⟨va_Nw.warmM hW h.1, va_Nw.warmF hW h.2.1, va_Nw.warmF hW h.2.2⟩
theorem zN.same {u U : State} (hW : u.vm = U.vm) (h : zN u) : zN U := ⟨va_Nw.same rfl hW h.1, va_Nw.same rfl hW h.2.1, va_Nw.same rfl hW h.2.2⟩
abbrev zT (cB cI : ClassId) : List (ClassId × FieldType) := [(cB, .byte), (cI, .int)]
def zPre (D : va_G) (cB cI : ClassId) (wc : va_W) (sz : Nat) (U : State) : Prop := U.heap.size = sz ∧ va_P D vwCl wc U.heap ∧ va_K D vwCl (zT cB cI) U ∧ va_D (fun _ => True) wc ∧ zN U
def zPost {S : Type} (D : va_G) (A : Nat → Prop) (w : S → va_W) (u : S) (t : State) : Prop := va_P D vwCl (w u) t.heap ∧ va_D A (w u)
def zpi {S : Type} (post : Int → S → Prop) (x : Int32) (u : Int × S) : Prop := x = zI u.1 ∧ post u.1 u.2
/-- contracts: an int's answer, no answer -/
def zMi {S : Type} (l : Launch) (y : MethodName) (b : ByteArray) (L : Nat) (r : Option FieldType) (rm : Room) (D : va_G) (cB cI : ClassId) (av : List Value) (wc : va_W) (post : Int → S → Prop) (w' : S → va_W) : Prop :=
  ∀ sz : Nat, Met l y (ws_ y b L r) rm (va_Pc av (zPre D cB cI wc sz)) (va_Qi (zpi post) (zPost D (va_A wc sz) (fun u : Int × S => w' u.2)) (va_A wc sz)) rm.cells rm.slots (va_A wc sz)
def zMv {S : Type} (l : Launch) (y : MethodName) (b : ByteArray) (L : Nat) (rm : Room) (D : va_G) (cB cI : ClassId) (av : List Value) (wc : va_W) (post : S → Prop) (w' : S → va_W) : Prop :=
  ∀ sz : Nat, Met l y (ws_ y b L none) rm (va_Pc av (zPre D cB cI wc sz)) (va_Qv post (zPost D (va_A wc sz) w') (va_A wc sz)) rm.cells rm.slots (va_A wc sz)
/-- what is fixed while a method runs -/
def zF (p : Program) (c : Code) (cc : ByteArray) (nL : Nat) (s : State) (m : MethodId) (args : Array Value) (own : String) (D : va_G) (cB cI : ClassId) : Prop :=
  p.tables.exec = Jvm.exec ∧ c.code = cc ∧ c.maxLocals = nL ∧ s.vm.findClass own = some m.cls ∧ (∀ w ∈ lw_all, w.before args s = true) ∧ va_K D vwCl (zT cB cI) s ∧ zN s
def zW (D : va_G) (A : Nat → Prop) (H0 : Heap) (ws : va_W) (H : Heap) (locs : List Loc) : Prop := va_P D vwCl ws H ∧ va_D A ws ∧ va_S A H0 H locs
theorem zW.sub {D : va_G} {A : Nat → Prop} {H0 : Heap} {ws ws' : va_W} {H : Heap} {locs : List Loc} (h : zW D A H0 ws H locs) (is : List Nat) (hn : va_nd is = true) (hs : is.map (fun i => ws[i]?) = ws'.map some) : zW D A H0 ws' H locs := by
  refine ⟨fun k q hk => ?_, h.2.1.sub is hn hs, h.2.2⟩
  have h1 : (is.map (fun i => ws[i]?))[k]? = some (some q) := by rw [hs, List.getElem?_map, hk]; rfl
  rw [List.getElem?_map] at h1
  cases hi : is[k]? with
  | none => rw [hi] at h1; cases h1
  | some i => rw [hi] at h1; exact h.1 i q (Option.some.inj h1)
section ZROWS
variable {p : Program} {l : Launch} {e : Env} {R : Room} {s : State} {m : MethodId} {args : Array Value} {below : List Frame} {meth : Method} {c : Code} {H : Heap} {locs : List Loc} {cells slots : Nat} {Q : State → Prop}
variable {cc : ByteArray} {pc : Nat} {ls : Array Slot} {rest : List Value}
theorem z_iconst (hx : p.tables.exec = Jvm.exec) (hb : c.code = cc) {n : Int} (hdg : decode cc pc = .ok (.iconst n, 1))
    (k : W p l e R s m args below meth c H locs cells slots Q (F0 m (pc + 1) ls (.int (zI n) :: rest))) : W p l e R s m args below meth c H locs cells slots Q (F0 m pc ls rest) := lv_iconst hx hb hdg rfl k
theorem z_bipush (hx : p.tables.exec = Jvm.exec) (hb : c.code = cc) {n : Int} (hdg : decode cc pc = .ok (.bipush n, 2)) (hv : (Int8.ofInt n).toInt32 = zI n)
    (k : W p l e R s m args below meth c H locs cells slots Q (F0 m (pc + 2) ls (.int (zI n) :: rest))) : W p l e R s m args below meth c H locs cells slots Q (F0 m pc ls rest) := lv_bipush hx hb hdg hv k
theorem z_sipush (hx : p.tables.exec = Jvm.exec) (hb : c.code = cc) {n : Int} (hdg : decode cc pc = .ok (.sipush n, 3)) (hv : (Int16.ofInt n).toInt32 = zI n)
    (k : W p l e R s m args below meth c H locs cells slots Q (F0 m (pc + 3) ls (.int (zI n) :: rest))) : W p l e R s m args below meth c H locs cells slots Q (F0 m pc ls rest) := lv_sipush hx hb hdg hv k
theorem z_lconst (hx : p.tables.exec = Jvm.exec) (hb : c.code = cc) {n : Fin 2} (z : Int) (hdg : decode cc pc = .ok (.lconst n, 1)) (hv : Int64.ofNat (n : Nat) = zL z)
    (k : W p l e R s m args below meth c H locs cells slots Q (F0 m (pc + 1) ls (.long (zL z) :: rest))) : W p l e R s m args below meth c H locs cells slots Q (F0 m pc ls rest) := lv_lconst hx hb hdg hv k
theorem z_ldc2 (hx : p.tables.exec = Jvm.exec) (hb : c.code = cc) (z : Int) {own : String} {index : Nat} {v : Int64} (hown : s.vm.findClass own = some m.cls) (hc : (Jvm.Cond.constantLong own index v).before args s = true) (hv : v = zL z) (hdg : decode cc pc = .ok (.ldc2_w index, 3))
    (k : W p l e R s m args below meth c H locs cells slots Q (F0 m (pc + 3) ls (.long (zL z) :: rest))) : W p l e R s m args below meth c H locs cells slots Q (F0 m pc ls rest) := lv_ldc2 hx hb hown hc hdg (hv ▸ k)
theorem z_ldc (hx : p.tables.exec = Jvm.exec) (hb : c.code = cc) (z : Int) {own : String} {index : Nat} {v : Int32} (hown : s.vm.findClass own = some m.cls) (hc : (Jvm.Cond.constant own index v).before args s = true) (hv : v = zI z) (hdg : decode cc pc = .ok (.ldc index, 2))
    (k : W p l e R s m args below meth c H locs cells slots Q (F0 m (pc + 2) ls (.int (zI z) :: rest))) : W p l e R s m args below meth c H locs cells slots Q (F0 m pc ls rest) := lv_ldc hx hb hown hc hdg (hv ▸ k)
theorem z_iadd (hx : p.tables.exec = Jvm.exec) (hb : c.code = cc) {a b : Int} (hdg : decode cc pc = .ok (.iadd, 1))
    (k : W p l e R s m args below meth c H locs cells slots Q (F0 m (pc + 1) ls (.int (zI (a + b)) :: rest))) : W p l e R s m args below meth c H locs cells slots Q (F0 m pc ls (.int (zI b) :: .int (zI a) :: rest)) := lv_iadd hx hb hdg (by rw [zI_add]; exact k)
theorem z_isub (hx : p.tables.exec = Jvm.exec) (hb : c.code = cc) {a b : Int} (hdg : decode cc pc = .ok (.isub, 1))
    (k : W p l e R s m args below meth c H locs cells slots Q (F0 m (pc + 1) ls (.int (zI (a - b)) :: rest))) : W p l e R s m args below meth c H locs cells slots Q (F0 m pc ls (.int (zI b) :: .int (zI a) :: rest)) := lv_isub hx hb hdg (by rw [zI_sub]; exact k)
theorem z_imul (hx : p.tables.exec = Jvm.exec) (hb : c.code = cc) {a b : Int} (hdg : decode cc pc = .ok (.imul, 1))
    (k : W p l e R s m args below meth c H locs cells slots Q (F0 m (pc + 1) ls (.int (zI (a * b)) :: rest))) : W p l e R s m args below meth c H locs cells slots Q (F0 m pc ls (.int (zI b) :: .int (zI a) :: rest)) := lv_imul hx hb hdg (by rw [zI_mul]; exact k)
theorem z_ladd (hx : p.tables.exec = Jvm.exec) (hb : c.code = cc) {a b : Int} (hdg : decode cc pc = .ok (.ladd, 1))
    (k : W p l e R s m args below meth c H locs cells slots Q (F0 m (pc + 1) ls (.long (zL (a + b)) :: rest))) : W p l e R s m args below meth c H locs cells slots Q (F0 m pc ls (.long (zL b) :: .long (zL a) :: rest)) := lv_ladd hx hb hdg (by rw [zL_add]; exact k)
theorem z_lsub (hx : p.tables.exec = Jvm.exec) (hb : c.code = cc) {a b : Int} (hdg : decode cc pc = .ok (.lsub, 1))
    (k : W p l e R s m args below meth c H locs cells slots Q (F0 m (pc + 1) ls (.long (zL (a - b)) :: rest))) : W p l e R s m args below meth c H locs cells slots Q (F0 m pc ls (.long (zL b) :: .long (zL a) :: rest)) := lv_lsub hx hb hdg (by rw [zL_sub]; exact k)
theorem z_lmul (hx : p.tables.exec = Jvm.exec) (hb : c.code = cc) {a b : Int} (hdg : decode cc pc = .ok (.lmul, 1))
    (k : W p l e R s m args below meth c H locs cells slots Q (F0 m (pc + 1) ls (.long (zL (a * b)) :: rest))) : W p l e R s m args below meth c H locs cells slots Q (F0 m pc ls (.long (zL b) :: .long (zL a) :: rest)) := lv_lmul hx hb hdg (by rw [zL_mul]; exact k)
theorem z_ineg (hx : p.tables.exec = Jvm.exec) (hb : c.code = cc) {a : Int} (hdg : decode cc pc = .ok (.ineg, 1))
    (k : W p l e R s m args below meth c H locs cells slots Q (F0 m (pc + 1) ls (.int (zI (-a)) :: rest))) : W p l e R s m args below meth c H locs cells slots Q (F0 m pc ls (.int (zI a) :: rest)) := lv_ineg hx hb hdg (by rw [zI_neg]; exact k)
theorem z_idiv (hx : p.tables.exec = Jvm.exec) (hb : c.code = cc) {a b : Int} (ha : 0 ≤ a ∧ a < 2147483648) (hbb : 0 < b ∧ b < 2147483648) (hdg : decode cc pc = .ok (.idiv, 1))
    (k : W p l e R s m args below meth c H locs cells slots Q (F0 m (pc + 1) ls (.int (zI (a / b)) :: rest))) : W p l e R s m args below meth c H locs cells slots Q (F0 m pc ls (.int (zI b) :: .int (zI a) :: rest)) := lv_idiv hx hb hdg (zI_ne0 hbb) (by rw [zI_div ha hbb]; exact k)
theorem z_irem (hx : p.tables.exec = Jvm.exec) (hb : c.code = cc) {a b : Int} (ha : 0 ≤ a ∧ a < 2147483648) (hbb : 0 < b ∧ b < 2147483648) (hdg : decode cc pc = .ok (.irem, 1))
    (k : W p l e R s m args below meth c H locs cells slots Q (F0 m (pc + 1) ls (.int (zI (a % b)) :: rest))) : W p l e R s m args below meth c H locs cells slots Q (F0 m pc ls (.int (zI b) :: .int (zI a) :: rest)) := lv_irem hx hb hdg (zI_ne0 hbb) (by rw [zI_rem ha hbb]; exact k)
theorem z_ldiv (hx : p.tables.exec = Jvm.exec) (hb : c.code = cc) {a b : Int} (ha : 0 ≤ a ∧ a < 9223372036854775808) (hbb : 0 < b ∧ b < 9223372036854775808) (hdg : decode cc pc = .ok (.ldiv, 1))
    (k : W p l e R s m args below meth c H locs cells slots Q (F0 m (pc + 1) ls (.long (zL (a / b)) :: rest))) : W p l e R s m args below meth c H locs cells slots Q (F0 m pc ls (.long (zL b) :: .long (zL a) :: rest)) := lv_ldiv hx hb hdg (zL_ne0 hbb) (by rw [zL_div ha hbb]; exact k)
theorem z_lrem (hx : p.tables.exec = Jvm.exec) (hb : c.code = cc) {a b : Int} (ha : 0 ≤ a ∧ a < 9223372036854775808) (hbb : 0 < b ∧ b < 9223372036854775808) (hdg : decode cc pc = .ok (.lrem, 1))
    (k : W p l e R s m args below meth c H locs cells slots Q (F0 m (pc + 1) ls (.long (zL (a % b)) :: rest))) : W p l e R s m args below meth c H locs cells slots Q (F0 m pc ls (.long (zL b) :: .long (zL a) :: rest)) := lv_lrem hx hb hdg (zL_ne0 hbb) (by rw [zL_rem ha hbb]; exact k)
theorem z_l2i (hx : p.tables.exec = Jvm.exec) (hb : c.code = cc) {a : Int} (hdg : decode cc pc = .ok (.l2i, 1))
    (k : W p l e R s m args below meth c H locs cells slots Q (F0 m (pc + 1) ls (.int (zI a) :: rest))) : W p l e R s m args below meth c H locs cells slots Q (F0 m pc ls (.long (zL a) :: rest)) := lv_l2i hx hb hdg zI_l2i k
theorem z_i2l (hx : p.tables.exec = Jvm.exec) (hb : c.code = cc) {a : Int} (h : -2147483648 ≤ a ∧ a < 2147483648) (hdg : decode cc pc = .ok (.i2l, 1))
    (k : W p l e R s m args below meth c H locs cells slots Q (F0 m (pc + 1) ls (.long (zL a) :: rest))) : W p l e R s m args below meth c H locs cells slots Q (F0 m pc ls (.int (zI a) :: rest)) := lv_i2l hx hb hdg (zL_i2l h) k
theorem z_i2b (hx : p.tables.exec = Jvm.exec) (hb : c.code = cc) {a : Int} (h : -128 ≤ a ∧ a < 128) (hdg : decode cc pc = .ok (.i2b, 1))
    (k : W p l e R s m args below meth c H locs cells slots Q (F0 m (pc + 1) ls (.int (zI a) :: rest))) : W p l e R s m args below meth c H locs cells slots Q (F0 m pc ls (.int (zI a) :: rest)) := lv_i2b hx hb hdg (zI_byte h) k
theorem z_icmp_eq (hx : p.tables.exec = Jvm.exec) (hb : c.code = cc) {a b : Int} {off : Int} {tgt : Nat} (ha : -2147483648 ≤ a ∧ a < 2147483648) (hbb : -2147483648 ≤ b ∧ b < 2147483648) (hdg : decode cc pc = .ok (.if_icmp .eq off, 3)) (ht : (pc : Int) + off = (tgt : Int))
    (kt : a = b → W p l e R s m args below meth c H locs cells slots Q (F0 m tgt ls rest)) (kf : a ≠ b → W p l e R s m args below meth c H locs cells slots Q (F0 m (pc + 3) ls rest)) : W p l e R s m args below meth c H locs cells slots Q (F0 m pc ls (.int (zI b) :: .int (zI a) :: rest)) := lv_icmp_eq hx hb hdg ht (fun h => kt ((zI_inj ha hbb).mp h)) (fun h => kf (fun q => h ((zI_inj ha hbb).mpr q)))
theorem z_if_eq (hx : p.tables.exec = Jvm.exec) (hb : c.code = cc) {a : Int} {off : Int} {tgt : Nat} (ha : -2147483648 ≤ a ∧ a < 2147483648) (hdg : decode cc pc = .ok (.ifCond .eq off, 3)) (ht : (pc : Int) + off = (tgt : Int))
    (kt : a = 0 → W p l e R s m args below meth c H locs cells slots Q (F0 m tgt ls rest)) (kf : a ≠ 0 → W p l e R s m args below meth c H locs cells slots Q (F0 m (pc + 3) ls rest)) : W p l e R s m args below meth c H locs cells slots Q (F0 m pc ls (.int (zI a) :: rest)) := lv_if_eq hx hb hdg ht (fun h => kt ((zI_inj ha (b := 0) (by omega)).mp h)) (fun h => kf (fun q => h ((zI_inj ha (b := 0) (by omega)).mpr q)))
theorem z_icmp_ne (hx : p.tables.exec = Jvm.exec) (hb : c.code = cc) {a b : Int} {off : Int} {tgt : Nat} (ha : -2147483648 ≤ a ∧ a < 2147483648) (hbb : -2147483648 ≤ b ∧ b < 2147483648) (hdg : decode cc pc = .ok (.if_icmp .ne off, 3)) (ht : (pc : Int) + off = (tgt : Int))
    (kt : a ≠ b → W p l e R s m args below meth c H locs cells slots Q (F0 m tgt ls rest)) (kf : a = b → W p l e R s m args below meth c H locs cells slots Q (F0 m (pc + 3) ls rest)) : W p l e R s m args below meth c H locs cells slots Q (F0 m pc ls (.int (zI b) :: .int (zI a) :: rest)) := lv_icmp_ne hx hb hdg ht (fun h => kt (fun q => h ((zI_inj ha hbb).mpr q))) (fun h => kf ((zI_inj ha hbb).mp h))
theorem z_if_ne (hx : p.tables.exec = Jvm.exec) (hb : c.code = cc) {a : Int} {off : Int} {tgt : Nat} (ha : -2147483648 ≤ a ∧ a < 2147483648) (hdg : decode cc pc = .ok (.ifCond .ne off, 3)) (ht : (pc : Int) + off = (tgt : Int))
    (kt : a ≠ 0 → W p l e R s m args below meth c H locs cells slots Q (F0 m tgt ls rest)) (kf : a = 0 → W p l e R s m args below meth c H locs cells slots Q (F0 m (pc + 3) ls rest)) : W p l e R s m args below meth c H locs cells slots Q (F0 m pc ls (.int (zI a) :: rest)) := lv_if_ne hx hb hdg ht (fun h => kt (fun q => h ((zI_inj ha (b := 0) (by omega)).mpr q))) (fun h => kf ((zI_inj ha (b := 0) (by omega)).mp h))
theorem z_icmp_lt (hx : p.tables.exec = Jvm.exec) (hb : c.code = cc) {a b : Int} {off : Int} {tgt : Nat} (ha : -2147483648 ≤ a ∧ a < 2147483648) (hbb : -2147483648 ≤ b ∧ b < 2147483648) (hdg : decode cc pc = .ok (.if_icmp .lt off, 3)) (ht : (pc : Int) + off = (tgt : Int))
    (kt : a < b → W p l e R s m args below meth c H locs cells slots Q (F0 m tgt ls rest)) (kf : b ≤ a → W p l e R s m args below meth c H locs cells slots Q (F0 m (pc + 3) ls rest)) : W p l e R s m args below meth c H locs cells slots Q (F0 m pc ls (.int (zI b) :: .int (zI a) :: rest)) := lv_icmp_lt hx hb hdg ht (fun h => kt ((zI_lt ha hbb).mp h)) (fun h => kf (Int.not_lt.mp (fun q => h ((zI_lt ha hbb).mpr q))))
theorem z_if_lt (hx : p.tables.exec = Jvm.exec) (hb : c.code = cc) {a : Int} {off : Int} {tgt : Nat} (ha : -2147483648 ≤ a ∧ a < 2147483648) (hdg : decode cc pc = .ok (.ifCond .lt off, 3)) (ht : (pc : Int) + off = (tgt : Int))
    (kt : a < 0 → W p l e R s m args below meth c H locs cells slots Q (F0 m tgt ls rest)) (kf : 0 ≤ a → W p l e R s m args below meth c H locs cells slots Q (F0 m (pc + 3) ls rest)) : W p l e R s m args below meth c H locs cells slots Q (F0 m pc ls (.int (zI a) :: rest)) := lv_if_lt hx hb hdg ht (fun h => kt ((zI_lt ha (b := 0) (by omega)).mp h)) (fun h => kf (Int.not_lt.mp (fun q => h ((zI_lt ha (b := 0) (by omega)).mpr q))))
theorem z_icmp_ge (hx : p.tables.exec = Jvm.exec) (hb : c.code = cc) {a b : Int} {off : Int} {tgt : Nat} (ha : -2147483648 ≤ a ∧ a < 2147483648) (hbb : -2147483648 ≤ b ∧ b < 2147483648) (hdg : decode cc pc = .ok (.if_icmp .ge off, 3)) (ht : (pc : Int) + off = (tgt : Int))
    (kt : b ≤ a → W p l e R s m args below meth c H locs cells slots Q (F0 m tgt ls rest)) (kf : a < b → W p l e R s m args below meth c H locs cells slots Q (F0 m (pc + 3) ls rest)) : W p l e R s m args below meth c H locs cells slots Q (F0 m pc ls (.int (zI b) :: .int (zI a) :: rest)) := lv_icmp_ge hx hb hdg ht (fun h => kt ((zI_le hbb ha).mp h)) (fun h => kf (Int.not_le.mp (fun q => h ((zI_le hbb ha).mpr q))))
theorem z_if_ge (hx : p.tables.exec = Jvm.exec) (hb : c.code = cc) {a : Int} {off : Int} {tgt : Nat} (ha : -2147483648 ≤ a ∧ a < 2147483648) (hdg : decode cc pc = .ok (.ifCond .ge off, 3)) (ht : (pc : Int) + off = (tgt : Int))
    (kt : 0 ≤ a → W p l e R s m args below meth c H locs cells slots Q (F0 m tgt ls rest)) (kf : a < 0 → W p l e R s m args below meth c H locs cells slots Q (F0 m (pc + 3) ls rest)) : W p l e R s m args below meth c H locs cells slots Q (F0 m pc ls (.int (zI a) :: rest)) := lv_if_ge hx hb hdg ht (fun h => kt ((zI_le (a := 0) (by omega) ha).mp h)) (fun h => kf (Int.not_le.mp (fun q => h ((zI_le (a := 0) (by omega) ha).mpr q))))
theorem z_icmp_gt (hx : p.tables.exec = Jvm.exec) (hb : c.code = cc) {a b : Int} {off : Int} {tgt : Nat} (ha : -2147483648 ≤ a ∧ a < 2147483648) (hbb : -2147483648 ≤ b ∧ b < 2147483648) (hdg : decode cc pc = .ok (.if_icmp .gt off, 3)) (ht : (pc : Int) + off = (tgt : Int))
    (kt : b < a → W p l e R s m args below meth c H locs cells slots Q (F0 m tgt ls rest)) (kf : a ≤ b → W p l e R s m args below meth c H locs cells slots Q (F0 m (pc + 3) ls rest)) : W p l e R s m args below meth c H locs cells slots Q (F0 m pc ls (.int (zI b) :: .int (zI a) :: rest)) := lv_icmp_gt hx hb hdg ht (fun h => kt ((zI_lt hbb ha).mp h)) (fun h => kf (Int.not_lt.mp (fun q => h ((zI_lt hbb ha).mpr q))))
theorem z_if_gt (hx : p.tables.exec = Jvm.exec) (hb : c.code = cc) {a : Int} {off : Int} {tgt : Nat} (ha : -2147483648 ≤ a ∧ a < 2147483648) (hdg : decode cc pc = .ok (.ifCond .gt off, 3)) (ht : (pc : Int) + off = (tgt : Int))
    (kt : 0 < a → W p l e R s m args below meth c H locs cells slots Q (F0 m tgt ls rest)) (kf : a ≤ 0 → W p l e R s m args below meth c H locs cells slots Q (F0 m (pc + 3) ls rest)) : W p l e R s m args below meth c H locs cells slots Q (F0 m pc ls (.int (zI a) :: rest)) := lv_if_gt hx hb hdg ht (fun h => kt ((zI_lt (a := 0) (by omega) ha).mp h)) (fun h => kf (Int.not_lt.mp (fun q => h ((zI_lt (a := 0) (by omega) ha).mpr q))))
theorem z_icmp_le (hx : p.tables.exec = Jvm.exec) (hb : c.code = cc) {a b : Int} {off : Int} {tgt : Nat} (ha : -2147483648 ≤ a ∧ a < 2147483648) (hbb : -2147483648 ≤ b ∧ b < 2147483648) (hdg : decode cc pc = .ok (.if_icmp .le off, 3)) (ht : (pc : Int) + off = (tgt : Int))
    (kt : a ≤ b → W p l e R s m args below meth c H locs cells slots Q (F0 m tgt ls rest)) (kf : b < a → W p l e R s m args below meth c H locs cells slots Q (F0 m (pc + 3) ls rest)) : W p l e R s m args below meth c H locs cells slots Q (F0 m pc ls (.int (zI b) :: .int (zI a) :: rest)) := lv_icmp_le hx hb hdg ht (fun h => kt ((zI_le ha hbb).mp h)) (fun h => kf (Int.not_le.mp (fun q => h ((zI_le ha hbb).mpr q))))
theorem z_if_le (hx : p.tables.exec = Jvm.exec) (hb : c.code = cc) {a : Int} {off : Int} {tgt : Nat} (ha : -2147483648 ≤ a ∧ a < 2147483648) (hdg : decode cc pc = .ok (.ifCond .le off, 3)) (ht : (pc : Int) + off = (tgt : Int))
    (kt : a ≤ 0 → W p l e R s m args below meth c H locs cells slots Q (F0 m tgt ls rest)) (kf : 0 < a → W p l e R s m args below meth c H locs cells slots Q (F0 m (pc + 3) ls rest)) : W p l e R s m args below meth c H locs cells slots Q (F0 m pc ls (.int (zI a) :: rest)) := lv_if_le hx hb hdg ht (fun h => kt ((zI_le ha (b := 0) (by omega)).mp h)) (fun h => kf (Int.not_le.mp (fun q => h ((zI_le ha (b := 0) (by omega)).mpr q))))
theorem z_lcmp_eq (hx : p.tables.exec = Jvm.exec) (hb : c.code = cc) {a b : Int} {off : Int} {tgt : Nat} (ha : -9223372036854775808 ≤ a ∧ a < 9223372036854775808) (hbb : -9223372036854775808 ≤ b ∧ b < 9223372036854775808) (hdg1 : decode cc pc = .ok (.lcmp, 1)) (hdg : decode cc (pc + 1) = .ok (.ifCond .eq off, 3)) (ht : ((pc + 1 : Nat) : Int) + off = (tgt : Int))
    (kt : a = b → W p l e R s m args below meth c H locs cells slots Q (F0 m tgt ls rest)) (kf : a ≠ b → W p l e R s m args below meth c H locs cells slots Q (F0 m (pc + 1 + 3) ls rest)) : W p l e R s m args below meth c H locs cells slots Q (F0 m pc ls (.long (zL b) :: .long (zL a) :: rest)) := W.lcmp hx hb hdg1 (lv_if_eq hx hb hdg ht (fun h => kt (((lg_cmp_eq (zL a) (zL b)).trans (zL_inj ha hbb)).mp h)) (fun h => kf (fun q => h (((lg_cmp_eq (zL a) (zL b)).trans (zL_inj ha hbb)).mpr q))))
theorem z_lcmp_ne (hx : p.tables.exec = Jvm.exec) (hb : c.code = cc) {a b : Int} {off : Int} {tgt : Nat} (ha : -9223372036854775808 ≤ a ∧ a < 9223372036854775808) (hbb : -9223372036854775808 ≤ b ∧ b < 9223372036854775808) (hdg1 : decode cc pc = .ok (.lcmp, 1)) (hdg : decode cc (pc + 1) = .ok (.ifCond .ne off, 3)) (ht : ((pc + 1 : Nat) : Int) + off = (tgt : Int))
    (kt : a ≠ b → W p l e R s m args below meth c H locs cells slots Q (F0 m tgt ls rest)) (kf : a = b → W p l e R s m args below meth c H locs cells slots Q (F0 m (pc + 1 + 3) ls rest)) : W p l e R s m args below meth c H locs cells slots Q (F0 m pc ls (.long (zL b) :: .long (zL a) :: rest)) := W.lcmp hx hb hdg1 (lv_if_ne hx hb hdg ht (fun h => kt (fun q => h (((lg_cmp_eq (zL a) (zL b)).trans (zL_inj ha hbb)).mpr q))) (fun h => kf (((lg_cmp_eq (zL a) (zL b)).trans (zL_inj ha hbb)).mp h)))
theorem z_lcmp_lt (hx : p.tables.exec = Jvm.exec) (hb : c.code = cc) {a b : Int} {off : Int} {tgt : Nat} (ha : -9223372036854775808 ≤ a ∧ a < 9223372036854775808) (hbb : -9223372036854775808 ≤ b ∧ b < 9223372036854775808) (hdg1 : decode cc pc = .ok (.lcmp, 1)) (hdg : decode cc (pc + 1) = .ok (.ifCond .lt off, 3)) (ht : ((pc + 1 : Nat) : Int) + off = (tgt : Int))
    (kt : a < b → W p l e R s m args below meth c H locs cells slots Q (F0 m tgt ls rest)) (kf : b ≤ a → W p l e R s m args below meth c H locs cells slots Q (F0 m (pc + 1 + 3) ls rest)) : W p l e R s m args below meth c H locs cells slots Q (F0 m pc ls (.long (zL b) :: .long (zL a) :: rest)) := W.lcmp hx hb hdg1 (lv_if_lt hx hb hdg ht (fun h => kt (((lg_cmp_lt (zL a) (zL b)).trans (zL_lt ha hbb)).mp h)) (fun h => kf (Int.not_lt.mp (fun q => h (((lg_cmp_lt (zL a) (zL b)).trans (zL_lt ha hbb)).mpr q)))))
theorem z_lcmp_ge (hx : p.tables.exec = Jvm.exec) (hb : c.code = cc) {a b : Int} {off : Int} {tgt : Nat} (ha : -9223372036854775808 ≤ a ∧ a < 9223372036854775808) (hbb : -9223372036854775808 ≤ b ∧ b < 9223372036854775808) (hdg1 : decode cc pc = .ok (.lcmp, 1)) (hdg : decode cc (pc + 1) = .ok (.ifCond .ge off, 3)) (ht : ((pc + 1 : Nat) : Int) + off = (tgt : Int))
    (kt : b ≤ a → W p l e R s m args below meth c H locs cells slots Q (F0 m tgt ls rest)) (kf : a < b → W p l e R s m args below meth c H locs cells slots Q (F0 m (pc + 1 + 3) ls rest)) : W p l e R s m args below meth c H locs cells slots Q (F0 m pc ls (.long (zL b) :: .long (zL a) :: rest)) := W.lcmp hx hb hdg1 (lv_if_ge hx hb hdg ht (fun h => kt (((lg_cmp_ge (zL a) (zL b)).trans (zL_le hbb ha)).mp h)) (fun h => kf (Int.not_le.mp (fun q => h (((lg_cmp_ge (zL a) (zL b)).trans (zL_le hbb ha)).mpr q)))))
theorem z_lcmp_gt (hx : p.tables.exec = Jvm.exec) (hb : c.code = cc) {a b : Int} {off : Int} {tgt : Nat} (ha : -9223372036854775808 ≤ a ∧ a < 9223372036854775808) (hbb : -9223372036854775808 ≤ b ∧ b < 9223372036854775808) (hdg1 : decode cc pc = .ok (.lcmp, 1)) (hdg : decode cc (pc + 1) = .ok (.ifCond .gt off, 3)) (ht : ((pc + 1 : Nat) : Int) + off = (tgt : Int))
    (kt : b < a → W p l e R s m args below meth c H locs cells slots Q (F0 m tgt ls rest)) (kf : a ≤ b → W p l e R s m args below meth c H locs cells slots Q (F0 m (pc + 1 + 3) ls rest)) : W p l e R s m args below meth c H locs cells slots Q (F0 m pc ls (.long (zL b) :: .long (zL a) :: rest)) := W.lcmp hx hb hdg1 (lv_if_gt hx hb hdg ht (fun h => kt (((lg_cmp_gt (zL a) (zL b)).trans (zL_lt hbb ha)).mp h)) (fun h => kf (Int.not_lt.mp (fun q => h (((lg_cmp_gt (zL a) (zL b)).trans (zL_lt hbb ha)).mpr q)))))
theorem z_lcmp_le (hx : p.tables.exec = Jvm.exec) (hb : c.code = cc) {a b : Int} {off : Int} {tgt : Nat} (ha : -9223372036854775808 ≤ a ∧ a < 9223372036854775808) (hbb : -9223372036854775808 ≤ b ∧ b < 9223372036854775808) (hdg1 : decode cc pc = .ok (.lcmp, 1)) (hdg : decode cc (pc + 1) = .ok (.ifCond .le off, 3)) (ht : ((pc + 1 : Nat) : Int) + off = (tgt : Int))
    (kt : a ≤ b → W p l e R s m args below meth c H locs cells slots Q (F0 m tgt ls rest)) (kf : b < a → W p l e R s m args below meth c H locs cells slots Q (F0 m (pc + 1 + 3) ls rest)) : W p l e R s m args below meth c H locs cells slots Q (F0 m pc ls (.long (zL b) :: .long (zL a) :: rest)) := W.lcmp hx hb hdg1 (lv_if_le hx hb hdg ht (fun h => kt (((lg_cmp_le (zL a) (zL b)).trans (zL_le ha hbb)).mp h)) (fun h => kf (Int.not_le.mp (fun q => h (((lg_cmp_le (zL a) (zL b)).trans (zL_le ha hbb)).mpr q)))))
variable {nL : Nat} {own : String} {D : va_G} {cB cI : ClassId} {A : Nat → Prop} {a : Nat} {ws : va_W} {H0 : Heap}
theorem z_get {C : String} {T : u_T} {N ci index : Nat} {ref : String} (hF : zF p c cc nL s m args own D cB cI) (hI : zW D A H0 ws H locs) (hin : ∀ w ∈ u_ws C T N, w ∈ lw_all) (q0 : Nat) {fs : List Value} (he : ws[q0]? = some (a, .inr (ci, fs))) (hc : vwCl[ci]? = some (C, T, N)) (k : Nat) (hk : k < N) (hlink : Cond.fieldLink own index ref (T k).2.1 (T k).2.2.1 ∈ lw_all) (hsame : (T k).1 = ref) {v : Value} (hv : fs[k]? = some v) (hdg : decode cc pc = .ok (.getfield index, 3))
    (kk : W p l e R s m args below meth c H locs cells slots Q (F0 m (pc + 3) ls (v :: rest))) : W p l e R s m args below meth c H locs cells slots Q (F0 m pc ls (.ref a :: rest)) :=
  va_get hF.1 hF.2.1 hF.2.2.2.2.1 hin hF.2.2.2.1 hF.2.2.2.2.2.1 hI.1 q0 he hc k hk (hF.2.2.2.2.1 _ hlink) (fun _ h => hsame ▸ h) hv hdg kk
theorem z_put {C : String} {T : u_T} {N ci index : Nat} {ref : String} (hF : zF p c cc nL s m args own D cB cI) (hI : zW D A H0 ws H locs) (hin : ∀ w ∈ u_ws C T N, w ∈ lw_all) (ty0 : Nat → FieldType) (hty : ∀ k, k < N → parseFieldDescriptor (T k).2.2.1 = some (ty0 k)) (hnm : ∀ a, a < N → ∀ b, b < N → a ≠ b → (T a).2.1 ≠ (T b).2.1) (q0 : Nat) {fs : List Value} (he : ws[q0]? = some (a, .inr (ci, fs))) (hc : vwCl[ci]? = some (C, T, N)) (k : Nat) (hk : k < N) (hlink : Cond.fieldLink own index ref (T k).2.1 (T k).2.2.1 ∈ lw_all) (hsame : (T k).1 = ref) (hfin : (T k).2.2.2 = false) {ty : FieldType} {v : Value} (hd : parseFieldDescriptor (T k).2.2.1 = some ty) (hn : narrow ty v = v) (hfit : fits ty v = true) (hl : k < fs.length) (hdg : decode cc pc = .ok (.putfield index, 3))
    (kk : ∀ (H1 : Heap) (locs1 : List Loc), zW D A H0 (ws.set q0 (a, .inr (ci, fs.set k v))) H1 locs1 → W p l e R s m args below meth c H1 locs1 cells slots Q (F0 m (pc + 3) ls rest)) : W p l e R s m args below meth c H locs cells slots Q (F0 m pc ls (v :: .ref a :: rest)) :=
  va_put hF.1 hF.2.1 hF.2.2.2.2.1 hin ty0 hty hnm hF.2.2.2.1 hF.2.2.2.2.2.1 hI.1 hI.2.1 hI.2.2 q0 he hc k hk (hF.2.2.2.2.1 _ hlink) (fun _ h => hsame ▸ h) hfin hd hn hfit hl hdg (fun H1 locs1 h1 h2 h3 => kk H1 locs1 ⟨h1, h2, h3⟩)
theorem z_putF {C : String} {T : u_T} {N ci index : Nat} {ref : String} (hF : zF p c cc nL s m args own D cB cI) (hI : zW D A H0 ws H locs) (hin : ∀ w ∈ u_ws C T N, w ∈ lw_all) (ty0 : Nat → FieldType) (hty : ∀ k, k < N → parseFieldDescriptor (T k).2.2.1 = some (ty0 k)) (hnm : ∀ a, a < N → ∀ b, b < N → a ≠ b → (T a).2.1 ≠ (T b).2.1) (q0 : Nat) {fs : List Value} (he : ws[q0]? = some (a, .inr (ci, fs))) (hc : vwCl[ci]? = some (C, T, N)) (k : Nat) (hk : k < N) (hlink : Cond.fieldLink own index ref (T k).2.1 (T k).2.2.1 ∈ lw_all) (hsame : (T k).1 = ref) (hfin : (T k).2.2.2 = true) (hin2 : meth.name = "<init>") (hdecl : (T k).1 = own) {ty : FieldType} {v : Value} (hd : parseFieldDescriptor (T k).2.2.1 = some ty) (hn : narrow ty v = v) (hfit : fits ty v = true) (hl : k < fs.length) (hdg : decode cc pc = .ok (.putfield index, 3))
    (kk : ∀ (H1 : Heap) (locs1 : List Loc), zW D A H0 (ws.set q0 (a, .inr (ci, fs.set k v))) H1 locs1 → W p l e R s m args below meth c H1 locs1 cells slots Q (F0 m (pc + 3) ls rest)) : W p l e R s m args below meth c H locs cells slots Q (F0 m pc ls (v :: .ref a :: rest)) :=
  va_putF hF.1 hF.2.1 hF.2.2.2.2.1 hin ty0 hty hnm hF.2.2.2.1 hF.2.2.2.2.2.1 hI.1 hI.2.1 hI.2.2 q0 he hc k hk (hF.2.2.2.2.1 _ hlink) (fun _ h => hsame ▸ h) hfin hin2 hdecl hd hn hfit hl hdg (fun H1 locs1 h1 h2 h3 => kk H1 locs1 ⟨h1, h2, h3⟩)
theorem z_bald (hF : zF p c cc nL s m args own D cB cI) (hI : zW D A H0 ws H locs) (q0 : Nat) {n : Nat} {g : Int → Int} (ha : ws[q0]? = some (a, .inl (cB, n, .inl (zA g)))) {k : Int} (h0 : 0 ≤ k ∧ k < (n : Int)) (hn : n ≤ 2147483647) (hdg : decode cc pc = .ok (.baload, 1))
    (kk : W p l e R s m args below meth c H locs cells slots Q (F0 m (pc + 1) ls (.int (zI (g k)) :: rest))) : W p l e R s m args below meth c H locs cells slots Q (F0 m pc ls (.int (zI k) :: .ref a :: rest)) := by
  refine va_bald hF.1 hF.2.1 hF.2.2.2.2.2.1 hI.1 q0 0 ha rfl (zI_vpin h0.1 h0.2 hn) hdg ?_
  rw [zI_clamp h0.1 (by omega)]
  show W p l e R s m args below meth c H locs cells slots Q (F0 m (pc + 1) ls (.int (zI (g (k.toNat : Int))) :: rest))
  rw [Int.toNat_of_nonneg h0.1]
  exact kk
theorem z_iald (hF : zF p c cc nL s m args own D cB cI) (hI : zW D A H0 ws H locs) (q0 : Nat) {n : Nat} {g : Int → Int} (ha : ws[q0]? = some (a, .inl (cI, n, .inl (zA g)))) {k : Int} (h0 : 0 ≤ k ∧ k < (n : Int)) (hn : n ≤ 2147483647) (hdg : decode cc pc = .ok (.iaload, 1))
    (kk : W p l e R s m args below meth c H locs cells slots Q (F0 m (pc + 1) ls (.int (zI (g k)) :: rest))) : W p l e R s m args below meth c H locs cells slots Q (F0 m pc ls (.int (zI k) :: .ref a :: rest)) := by
  refine va_iald hF.1 hF.2.1 hF.2.2.2.2.2.1 hI.1 q0 1 ha rfl (zI_vpin h0.1 h0.2 hn) hdg ?_
  rw [zI_clamp h0.1 (by omega)]
  show W p l e R s m args below meth c H locs cells slots Q (F0 m (pc + 1) ls (.int (zI (g (k.toNat : Int))) :: rest))
  rw [Int.toNat_of_nonneg h0.1]
  exact kk
theorem z_bast (hF : zF p c cc nL s m args own D cB cI) (hI : zW D A H0 ws H locs) (q0 : Nat) {n : Nat} {g : Int → Int} (ha : ws[q0]? = some (a, .inl (cB, n, .inl (zA g)))) {k x : Int} (h0 : 0 ≤ k ∧ k < (n : Int)) (hn : n ≤ 2147483647) (hxx : -128 ≤ x ∧ x < 128) (hdg : decode cc pc = .ok (.bastore, 1))
    (kk : ∀ (H1 : Heap) (locs1 : List Loc), zW D A H0 (ws.set q0 (a, .inl (cB, n, .inl (zA (zup g k x))))) H1 locs1 → W p l e R s m args below meth c H1 locs1 cells slots Q (F0 m (pc + 1) ls rest)) : W p l e R s m args below meth c H locs cells slots Q (F0 m pc ls (.int (zI x) :: .int (zI k) :: .ref a :: rest)) := by
  refine va_bast hF.1 hF.2.1 hF.2.2.2.2.2.1 hI.1 hI.2.1 hI.2.2 q0 0 ha rfl (zI_vpin h0.1 h0.2 hn) hdg (fun H1 locs1 h1 h2 h3 => ?_)
  rw [zI_narb hxx] at h1 h2
  rw [zI_clamp h0.1 (by omega), zA_upd g h0.1] at h1 h2
  exact kk H1 locs1 ⟨h1, h2, h3⟩
theorem z_iast (hF : zF p c cc nL s m args own D cB cI) (hI : zW D A H0 ws H locs) (q0 : Nat) {n : Nat} {g : Int → Int} (ha : ws[q0]? = some (a, .inl (cI, n, .inl (zA g)))) {k x : Int} (h0 : 0 ≤ k ∧ k < (n : Int)) (hn : n ≤ 2147483647) (hdg : decode cc pc = .ok (.iastore, 1))
    (kk : ∀ (H1 : Heap) (locs1 : List Loc), zW D A H0 (ws.set q0 (a, .inl (cI, n, .inl (zA (zup g k x))))) H1 locs1 → W p l e R s m args below meth c H1 locs1 cells slots Q (F0 m (pc + 1) ls rest)) : W p l e R s m args below meth c H locs cells slots Q (F0 m pc ls (.int (zI x) :: .int (zI k) :: .ref a :: rest)) := by
  refine va_iast hF.1 hF.2.1 hF.2.2.2.2.2.1 hI.1 hI.2.1 hI.2.2 q0 1 ha rfl (zI_vpin h0.1 h0.2 hn) hdg (fun H1 locs1 h1 h2 h3 => ?_)
  rw [zI_clamp h0.1 (by omega), zA_upd g h0.1] at h1 h2
  exact kk H1 locs1 ⟨h1, h2, h3⟩
theorem z_alenB (hF : zF p c cc nL s m args own D cB cI) (hI : zW D A H0 ws H locs) (q0 : Nat) {n : Nat} {g : Nat → Int32} (ha : ws[q0]? = some (a, .inl (cB, n, .inl g))) (hdg : decode cc pc = .ok (.arraylength, 1))
    (kk : W p l e R s m args below meth c H locs cells slots Q (F0 m (pc + 1) ls (.int (zI (n : Int)) :: rest))) : W p l e R s m args below meth c H locs cells slots Q (F0 m pc ls (.ref a :: rest)) := va_alen (x := (n, .inl g)) hF.1 hF.2.1 hF.2.2.2.2.2.1 hI.1 q0 0 ha rfl (zI_nat n) hdg kk
theorem z_newB (hF : zF p c cc nL s m args own D cB cI) (hI : zW D A s.heap ws H locs) (hA : ∀ q, s.heap.size ≤ q → A q) {k : Int} (N : Nat) (hk : k = (N : Int)) (hN : N ≤ 1000000) (hcells : cells + 1 ≤ R.cells) (hslots : slots + N ≤ R.slots) (hdg : decode cc pc = .ok (.newarray .byte, 2))
    (kk : ∀ (q : Nat) (H1 : Heap), zW D A s.heap (ws ++ [(q, .inl (cB, N, .inl (zA (fun _ => 0))))]) H1 locs → W p l e R s m args below meth c H1 locs (cells + 1) (slots + N) Q (F0 m (pc + 2) ls (.ref q :: rest))) : W p l e R s m args below meth c H locs cells slots Q (F0 m pc ls (.int (zI k) :: rest)) := by
  subst hk
  refine va_newa (atype := .byte) (N' := N) (a0 := (N, .inl (fun _ => 0))) hF.1 hF.2.1 (hF.2.2.2.2.1 _ q52) (ty := .byte) rfl hF.2.2.2.2.2.1 hI.1 hI.2.1 hI.2.2 hA (fun cA => rfl) ?_ ?_ ?_ hcells hslots hdg (fun q cA H1 hK h1 h2 h3 => ?_)
  · rw [← zI_0, zI_lt (by omega) (by omega)]; omega
  · rw [zI_clamp (by omega) (by omega)]; omega
  · have : componentBytes .byte ≤ 8 := by decide
    exact Nat.le_trans (Nat.mul_le_mul hN this) (by decide)
  · have e1 : s.vm.findClass ("[" ++ (FieldType.byte).toString) = some cA := (hK.2 2 (cA, .byte) rfl).2
    have e2 : s.vm.findClass ("[" ++ (FieldType.byte).toString) = some cB := (hF.2.2.2.2.2.1.2 0 (cB, .byte) rfl).2
    have e3 : cA = cB := Option.some.inj (e1.symm.trans e2)
    subst e3
    exact kk q H1 ⟨h1, h2, h3⟩
theorem z_newI (hF : zF p c cc nL s m args own D cB cI) (hI : zW D A s.heap ws H locs) (hA : ∀ q, s.heap.size ≤ q → A q) {k : Int} (N : Nat) (hk : k = (N : Int)) (hN : N ≤ 1000000) (hcells : cells + 1 ≤ R.cells) (hslots : slots + N ≤ R.slots) (hdg : decode cc pc = .ok (.newarray .int, 2))
    (kk : ∀ (q : Nat) (H1 : Heap), zW D A s.heap (ws ++ [(q, .inl (cI, N, .inl (zA (fun _ => 0))))]) H1 locs → W p l e R s m args below meth c H1 locs (cells + 1) (slots + N) Q (F0 m (pc + 2) ls (.ref q :: rest))) : W p l e R s m args below meth c H locs cells slots Q (F0 m pc ls (.int (zI k) :: rest)) := by
  subst hk
  refine va_newa (atype := .int) (N' := N) (a0 := (N, .inl (fun _ => 0))) hF.1 hF.2.1 (hF.2.2.2.2.1 _ q51) (ty := .int) rfl hF.2.2.2.2.2.1 hI.1 hI.2.1 hI.2.2 hA (fun cA => rfl) ?_ ?_ ?_ hcells hslots hdg (fun q cA H1 hK h1 h2 h3 => ?_)
  · rw [← zI_0, zI_lt (by omega) (by omega)]; omega
  · rw [zI_clamp (by omega) (by omega)]; omega
  · have : componentBytes .int ≤ 8 := by decide
    exact Nat.le_trans (Nat.mul_le_mul hN this) (by decide)
  · have e1 : s.vm.findClass ("[" ++ (FieldType.int).toString) = some cA := (hK.2 2 (cA, .int) rfl).2
    have e2 : s.vm.findClass ("[" ++ (FieldType.int).toString) = some cI := (hF.2.2.2.2.2.1.2 1 (cI, .int) rfl).2
    have e3 : cA = cI := Option.some.inj (e1.symm.trans e2)
    subst e3
    exact kk q H1 ⟨h1, h2, h3⟩
theorem z_new {C : String} {T : u_T} {N ci index : Nat} (hF : zF p c cc nL s m args own D cB cI) (hI : zW D A s.heap ws H locs) (hA : ∀ q, s.heap.size ≤ q → A q) (hin : ∀ w ∈ u_ws C T N, w ∈ lw_all) (ty : Nat → FieldType) (hty : ∀ k, k < N → parseFieldDescriptor (T k).2.2.1 = some (ty k)) (hcl : Cond.classLink own index C ∈ lw_all) (hinst : Cond.instantiable C N ∈ lw_all) (hini : Cond.initialized C ∈ lw_all) (hc : vwCl[ci]? = some (C, T, N)) {fs : List Value} (hfs : ∀ j, j < N → defaultValue (ty j) = vp_V fs j) (hcells : cells + 1 ≤ R.cells) (hslots : slots + N ≤ R.slots) (hdg : decode cc pc = .ok (.new index, 3))
    (kk : ∀ (q : Nat) (H1 : Heap), zW D A s.heap (ws ++ [(q, .inr (ci, fs))]) H1 locs → W p l e R s m args below meth c H1 locs (cells + 1) (slots + N) Q (F0 m (pc + 3) ls (.ref q :: rest))) : W p l e R s m args below meth c H locs cells slots Q (F0 m pc ls rest) :=
  va_new hF.1 hF.2.1 hF.2.2.2.2.1 hin ty hty hF.2.2.2.1 (hF.2.2.2.2.1 _ hcl) (hF.2.2.2.2.1 _ hinst) (hF.2.2.2.2.1 _ hini) hF.2.2.2.2.2.1 hI.1 hI.2.1 hI.2.2 hA hc hfs hcells hslots hdg (fun q H1 h1 h2 h3 => kk q H1 ⟨h1, h2, h3⟩)
theorem z_vret {S : Type} {post : S → Prop} {w' : S → va_W} (hF : zF p c cc nL s m args own D cB cI) (hr : meth.sig.returnType = none) (hlk : meth.locks = false) (hI : zW D A s.heap ws H locs) (u : S) (hu : post u) (hw : w' u = ws) (hdg : decode cc pc = .ok (.return_, 1)) :
    W p l e R s m args below meth c H locs cells slots (MQ below (va_Qv post (zPost D A w') A) args s cells slots A) (F0 m pc ls []) :=
  W.vret hF.1 hF.2.1 hr (fun t ht hW => ⟨⟨u, rfl, hu, by rw [ht, hw]; exact hI.1, by rw [hw]; exact hI.2.1⟩, hI.2.2.F ht⟩) hI.2.2.2.2 hdg hlk
theorem z_iret {S : Type} {post : Int → S → Prop} {w' : S → va_W} {z : Int} (hF : zF p c cc nL s m args own D cB cI) (hr : meth.sig.returnType = some .int) (hlk : meth.locks = false) (hI : zW D A s.heap ws H locs) (u : S) (hu : post z u) (hw : w' u = ws) (hdg : decode cc pc = .ok (.ireturn, 1)) :
    W p l e R s m args below meth c H locs cells slots (MQ below (va_Qi (zpi post) (zPost D A (fun u : Int × S => w' u.2)) A) args s cells slots A) (F0 m pc ls [.int (zI z)]) :=
  W.iret hF.1 hF.2.1 hr (fun t ht hW => ⟨⟨zI z, (z, u), rfl, ⟨rfl, hu⟩, by rw [ht]; show va_P D vwCl (w' u) H; rw [hw]; exact hI.1, by show va_D A (w' u); rw [hw]; exact hI.2.1⟩, hI.2.2.F ht⟩) hI.2.2.2.2 hdg hlk
theorem z_zret {S : Type} {post : Int → S → Prop} {w' : S → va_W} {z : Int} (hF : zF p c cc nL s m args own D cB cI) (hr : meth.sig.returnType = some .boolean) (hlk : meth.locks = false) (hI : zW D A s.heap ws H locs) (u : S) (hz : z = 0 ∨ z = 1) (hu : post z u) (hw : w' u = ws) (hdg : decode cc pc = .ok (.ireturn, 1)) :
    W p l e R s m args below meth c H locs cells slots (MQ below (va_Qi (zpi post) (zPost D A (fun u : Int × S => w' u.2)) A) args s cells slots A) (F0 m pc ls [.int (zI z)]) :=
  W.zret hF.1 hF.2.1 hr (by rcases hz with rfl | rfl <;> decide) (fun t ht hW => ⟨⟨zI z, (z, u), rfl, ⟨rfl, hu⟩, by rw [ht]; show va_P D vwCl (w' u) H; rw [hw]; exact hI.1, by show va_D A (w' u); rw [hw]; exact hI.2.1⟩, hI.2.2.F ht⟩) hI.2.2.2.2 hdg hlk
theorem z_callVi {S : Type} {post : Int → S → Prop} {w' : S → va_W} {y : MethodName} {bytes : ByteArray} {maxL n index : Nat} {rt : Option FieldType} {rm : Room} {As st0 : List Value} {b : Nat} {C : String} {wc wr : va_W} (hF : zF p c cc nL s m args own D cB cI) (hM : zMi l y bytes maxL rt rm D cB cI (.ref b :: As) wc post w') (hG : GoodIn lw_all (wsV own index C y (ws_ y bytes maxL rt))) (hd : y.cls = C ∧ y.cls ≠ "java/lang/invoke/MethodHandle" ∧ y.cls ≠ "java/lang/invoke/VarHandle" ∧ (parseMethodDescriptor y.desc).map (fun d => d.parameters.length) = some n) (hR : rm.frames + 1 ≤ R.frames ∧ 8 + (maxL + 11) + rm.locals ≤ R.locals) (hI : zW D A s.heap ws H locs) (hA : ∀ q, s.heap.size ≤ q → A q) (isC isR : List Nat) (hC : isC.map (fun i => ws[i]?) = wc.map some) (hRr : isR.map (fun i => ws[i]?) = wr.map some) (hnC : va_nd isC = true) (hnR : va_nd isR = true) (hdis : ∀ i ∈ isR, i ∉ isC) {T : u_T} {N ci : Nat} {fs : List Value} (hrc : wc[0]? = some (b, .inr (ci, fs))) (hci : vwCl[ci]? = some (C, T, N)) (hn : As.length = n) (hls : ls.size = nL) (hst : st0 = As.reverse ++ .ref b :: rest) (hcat : 2 * (F0 m pc ls st0).monitorRoom + (rest.map fun v => v.category).sum ≤ 8) (hdg : decode cc pc = .ok (.invokevirtual index, 3)) (hf : cells + rm.cells ≤ R.cells ∧ slots + rm.slots ≤ R.slots)
    (kk : ∀ (r : Int) (u : S) (H1 : Heap) (locs1 : List Loc), post r u → zW D A s.heap (wr ++ w' u) H1 locs1 → W p l e R s m args below meth c H1 locs1 (cells + rm.cells) (slots + rm.slots) Q (F0 m (pc + 3) ls (.int (zI r) :: rest))) : W p l e R s m args below meth c H locs cells slots Q (F0 m pc ls st0) := by
  have hSb := hI.sub isC hnC hC
  have hPc := hSb.1
  have hDc := hSb.2.1
  have hFc := va_free (wc := wc) hI.2.1 hI.2.2 hA isC hC
  refine va_calli (va_runV (As := As) (rest := rest) ⟨hF.1, hF.2.1, hF.2.2.1, hF.2.2.2.1, hF.2.2.2.2.1⟩ (hM H.size) (cwV n hF.2.2.2.2.1 hG rfl rfl rfl hd hR) ⟨fun a U g mk q => by obtain ⟨q0, q1, qP, qK, qD, qN⟩ := q; exact ⟨q0, q1, qP, va_K.moved (u := U) (U := U.calling g mk a) (Vm.Alike.refl U.vm) qK, qD, zN.same (u := U) (U := U.calling g mk a) rfl qN⟩, va_recv hF.2.2.2.2.2.1 hPc (ci := ci) (q0 := 0) hci hrc, fun U hU hW => ⟨rfl, by rw [hU], by rw [hU]; exact hPc, va_K.moved hW.alike hF.2.2.2.2.2.1, hDc.weaken (fun _ _ _ _ => trivial), hF.2.2.2.2.2.2.warm hW⟩⟩ rfl hn hls hst hcat hdg hf) hI.2.2 (fun q _ h => hFc q h) hFc (fun r u t H1 locs1 ht hvm hw hB hz1 hk1 hS => ?_)
  obtain ⟨hP1, hD1⟩ := hB
  rw [ht] at hP1
  obtain ⟨hw1, hw2⟩ := hw
  obtain ⟨hP9, hD9⟩ := va_join hI.1 hI.2.1 isC isR hC hRr hnR hdis hk1 hFc hP1 hD1
  rw [hw1]
  exact kk u.1 u.2 H1 locs1 hw2 ⟨hP9, hD9, hS⟩
theorem z_callVv {S : Type} {post : S → Prop} {w' : S → va_W} {y : MethodName} {bytes : ByteArray} {maxL n index : Nat} {rm : Room} {As st0 : List Value} {b : Nat} {C : String} {wc wr : va_W} (hF : zF p c cc nL s m args own D cB cI) (hM : zMv l y bytes maxL rm D cB cI (.ref b :: As) wc post w') (hG : GoodIn lw_all (wsV own index C y (ws_ y bytes maxL none))) (hd : y.cls = C ∧ y.cls ≠ "java/lang/invoke/MethodHandle" ∧ y.cls ≠ "java/lang/invoke/VarHandle" ∧ (parseMethodDescriptor y.desc).map (fun d => d.parameters.length) = some n) (hR : rm.frames + 1 ≤ R.frames ∧ 8 + (maxL + 11) + rm.locals ≤ R.locals) (hI : zW D A s.heap ws H locs) (hA : ∀ q, s.heap.size ≤ q → A q) (isC isR : List Nat) (hC : isC.map (fun i => ws[i]?) = wc.map some) (hRr : isR.map (fun i => ws[i]?) = wr.map some) (hnC : va_nd isC = true) (hnR : va_nd isR = true) (hdis : ∀ i ∈ isR, i ∉ isC) {T : u_T} {N ci : Nat} {fs : List Value} (hrc : wc[0]? = some (b, .inr (ci, fs))) (hci : vwCl[ci]? = some (C, T, N)) (hn : As.length = n) (hls : ls.size = nL) (hst : st0 = As.reverse ++ .ref b :: rest) (hcat : 2 * (F0 m pc ls st0).monitorRoom + (rest.map fun v => v.category).sum ≤ 8) (hdg : decode cc pc = .ok (.invokevirtual index, 3)) (hf : cells + rm.cells ≤ R.cells ∧ slots + rm.slots ≤ R.slots)
    (kk : ∀ (u : S) (H1 : Heap) (locs1 : List Loc), post u → zW D A s.heap (wr ++ w' u) H1 locs1 → W p l e R s m args below meth c H1 locs1 (cells + rm.cells) (slots + rm.slots) Q (F0 m (pc + 3) ls rest)) : W p l e R s m args below meth c H locs cells slots Q (F0 m pc ls st0) := by
  have hSb := hI.sub isC hnC hC
  have hPc := hSb.1
  have hDc := hSb.2.1
  have hFc := va_free (wc := wc) hI.2.1 hI.2.2 hA isC hC
  refine va_callv (va_runV (As := As) (rest := rest) ⟨hF.1, hF.2.1, hF.2.2.1, hF.2.2.2.1, hF.2.2.2.2.1⟩ (hM H.size) (cwV n hF.2.2.2.2.1 hG rfl rfl rfl hd hR) ⟨fun a U g mk q => by obtain ⟨q0, q1, qP, qK, qD, qN⟩ := q; exact ⟨q0, q1, qP, va_K.moved (u := U) (U := U.calling g mk a) (Vm.Alike.refl U.vm) qK, qD, zN.same (u := U) (U := U.calling g mk a) rfl qN⟩, va_recv hF.2.2.2.2.2.1 hPc (ci := ci) (q0 := 0) hci hrc, fun U hU hW => ⟨rfl, by rw [hU], by rw [hU]; exact hPc, va_K.moved hW.alike hF.2.2.2.2.2.1, hDc.weaken (fun _ _ _ _ => trivial), hF.2.2.2.2.2.2.warm hW⟩⟩ rfl hn hls hst hcat hdg hf) hI.2.2 (fun q _ h => hFc q h) hFc (fun u t H1 locs1 ht hvm hw hB hz1 hk1 hS => ?_)
  obtain ⟨hP1, hD1⟩ := hB
  rw [ht] at hP1
  obtain ⟨hP9, hD9⟩ := va_join hI.1 hI.2.1 isC isR hC hRr hnR hdis hk1 hFc hP1 hD1
  exact kk u H1 locs1 hw ⟨hP9, hD9, hS⟩
theorem z_callSi {S : Type} {post : Int → S → Prop} {w' : S → va_W} {y : MethodName} {bytes : ByteArray} {maxL n index : Nat} {rt : Option FieldType} {rm : Room} {As st0 : List Value} {C : String} {wc wr : va_W} (hF : zF p c cc nL s m args own D cB cI) (hM : zMi l y bytes maxL rt rm D cB cI As wc post w') (hG : GoodIn lw_all (va_wsS own index y (ws_ y bytes maxL rt))) (hd : y.cls ≠ "java/lang/invoke/MethodHandle" ∧ y.cls ≠ "java/lang/invoke/VarHandle" ∧ (parseMethodDescriptor y.desc).map (fun d => d.parameters.length) = some n) (hR : rm.frames + 1 ≤ R.frames ∧ 8 + (maxL + 11) + rm.locals ≤ R.locals) (hI : zW D A s.heap ws H locs) (hA : ∀ q, s.heap.size ≤ q → A q) (isC isR : List Nat) (hC : isC.map (fun i => ws[i]?) = wc.map some) (hRr : isR.map (fun i => ws[i]?) = wr.map some) (hnC : va_nd isC = true) (hnR : va_nd isR = true) (hdis : ∀ i ∈ isR, i ∉ isC) (hn : As.length = n) (hls : ls.size = nL) (hst : st0 = As.reverse ++ rest) (hcat : 2 * (F0 m pc ls st0).monitorRoom + (rest.map fun v => v.category).sum ≤ 8) (hdg : decode cc pc = .ok (.invokestatic index, 3)) (hf : cells + rm.cells ≤ R.cells ∧ slots + rm.slots ≤ R.slots)
    (kk : ∀ (r : Int) (u : S) (H1 : Heap) (locs1 : List Loc), post r u → zW D A s.heap (wr ++ w' u) H1 locs1 → W p l e R s m args below meth c H1 locs1 (cells + rm.cells) (slots + rm.slots) Q (F0 m (pc + 3) ls (.int (zI r) :: rest))) : W p l e R s m args below meth c H locs cells slots Q (F0 m pc ls st0) := by
  have hSb := hI.sub isC hnC hC
  have hPc := hSb.1
  have hDc := hSb.2.1
  have hFc := va_free (wc := wc) hI.2.1 hI.2.2 hA isC hC
  refine va_calli (va_runS (As := As) (rest := rest) ⟨hF.1, hF.2.1, hF.2.2.1, hF.2.2.2.1, hF.2.2.2.2.1⟩ (hM H.size) (va_cwS n hF.2.2.2.2.1 hG rfl rfl rfl hd hR) ⟨fun a U g mk q => by obtain ⟨q0, q1, qP, qK, qD, qN⟩ := q; exact ⟨q0, q1, qP, va_K.moved (u := U) (U := U.calling g mk a) (Vm.Alike.refl U.vm) qK, qD, zN.same (u := U) (U := U.calling g mk a) rfl qN⟩, fun U hU hW => ⟨rfl, by rw [hU], by rw [hU]; exact hPc, va_K.moved hW.alike hF.2.2.2.2.2.1, hDc.weaken (fun _ _ _ _ => trivial), hF.2.2.2.2.2.2.warm hW⟩⟩ rfl hn hls hst hcat hdg hf) hI.2.2 (fun q _ h => hFc q h) hFc (fun r u t H1 locs1 ht hvm hw hB hz1 hk1 hS => ?_)
  obtain ⟨hP1, hD1⟩ := hB
  rw [ht] at hP1
  obtain ⟨hw1, hw2⟩ := hw
  obtain ⟨hP9, hD9⟩ := va_join hI.1 hI.2.1 isC isR hC hRr hnR hdis hk1 hFc hP1 hD1
  rw [hw1]
  exact kk u.1 u.2 H1 locs1 hw2 ⟨hP9, hD9, hS⟩
theorem z_callIv {S : Type} {post : S → Prop} {w' : S → va_W} {y : MethodName} {bytes : ByteArray} {maxL n index : Nat} {rm : Room} {As st0 : List Value} {b : Nat} {C : String} {wc wr : va_W} (hF : zF p c cc nL s m args own D cB cI) (hM : zMv l y bytes maxL rm D cB cI (.ref b :: As) wc post w') (hG : GoodIn lw_all (ws_ y bytes maxL none)) (hini : Cond.initialized y.cls ∈ lw_all) (hml : Cond.methodLink own index y ∈ lw_all) (him : Cond.instanceMethod y ∈ lw_all) (hy1 : y.name = "<init>") (hd : y.cls ≠ "java/lang/invoke/MethodHandle" ∧ y.cls ≠ "java/lang/invoke/VarHandle" ∧ (parseMethodDescriptor y.desc).map (fun d => d.parameters.length) = some n) (hR : rm.frames + 1 ≤ R.frames ∧ 8 + (maxL + 11) + rm.locals ≤ R.locals) (hI : zW D A s.heap ws H locs) (hA : ∀ q, s.heap.size ≤ q → A q) (isC isR : List Nat) (hC : isC.map (fun i => ws[i]?) = wc.map some) (hRr : isR.map (fun i => ws[i]?) = wr.map some) (hnC : va_nd isC = true) (hnR : va_nd isR = true) (hdis : ∀ i ∈ isR, i ∉ isC) (hn : As.length = n) (hls : ls.size = nL) (hst : st0 = As.reverse ++ .ref b :: rest) (hcat : 2 * (F0 m pc ls st0).monitorRoom + (rest.map fun v => v.category).sum ≤ 8) (hdg : decode cc pc = .ok (.invokespecial index, 3)) (hf : cells + rm.cells ≤ R.cells ∧ slots + rm.slots ≤ R.slots)
    (kk : ∀ (u : S) (H1 : Heap) (locs1 : List Loc), post u → zW D A s.heap (wr ++ w' u) H1 locs1 → W p l e R s m args below meth c H1 locs1 (cells + rm.cells) (slots + rm.slots) Q (F0 m (pc + 3) ls rest)) : W p l e R s m args below meth c H locs cells slots Q (F0 m pc ls st0) := by
  have hSb := hI.sub isC hnC hC
  have hPc := hSb.1
  have hDc := hSb.2.1
  have hFc := va_free (wc := wc) hI.2.1 hI.2.2 hA isC hC
  refine va_callv (va_runI (As := As) (rest := rest) ⟨hF.1, hF.2.1, hF.2.2.1, hF.2.2.2.1, hF.2.2.2.2.1⟩ (hM H.size) (cwI n hF.2.2.2.2.1 hG rfl rfl rfl (hF.2.2.2.2.1 _ hini) (hF.2.2.2.2.1 _ hml) (hF.2.2.2.2.1 _ him) hy1 hd hR) ⟨fun a U g mk q => by obtain ⟨q0, q1, qP, qK, qD, qN⟩ := q; exact ⟨q0, q1, qP, va_K.moved (u := U) (U := U.calling g mk a) (Vm.Alike.refl U.vm) qK, qD, zN.same (u := U) (U := U.calling g mk a) rfl qN⟩, fun U hU hW => ⟨rfl, by rw [hU], by rw [hU]; exact hPc, va_K.moved hW.alike hF.2.2.2.2.2.1, hDc.weaken (fun _ _ _ _ => trivial), hF.2.2.2.2.2.2.warm hW⟩⟩ rfl hn hls hst hcat hdg hf) hI.2.2 (fun q _ h => hFc q h) hFc (fun u t H1 locs1 ht hvm hw hB hz1 hk1 hS => ?_)
  obtain ⟨hP1, hD1⟩ := hB
  rw [ht] at hP1
  obtain ⟨hP9, hD9⟩ := va_join hI.1 hI.2.1 isC isR hC hRr hnR hdis hk1 hFc hP1 hD1
  exact kk u H1 locs1 hw ⟨hP9, hD9, hS⟩
theorem z_callNv {S : Type} {post : S → Prop} {w' : S → va_W} {y : MethodName} {bytes : ByteArray} {maxL n index : Nat} {rm : Room} {As st0 : List Value} {b : Nat} {C : String} {wc wr : va_W} (hF : zF p c cc nL s m args own D cB cI) (hM : zMv l y bytes maxL rm D cB cI (.ref b :: As) wc post w') {host : String} (hG : GoodIn lw_all (ws_ y bytes maxL none)) (hini : Cond.initialized y.cls ∈ lw_all) (hml : va_Nw (.methodLinkNest own index y host) s) (him : Cond.instanceMethod y ∈ lw_all) (hy1 : y.name = "<init>") (hd : y.cls ≠ "java/lang/invoke/MethodHandle" ∧ y.cls ≠ "java/lang/invoke/VarHandle" ∧ (parseMethodDescriptor y.desc).map (fun d => d.parameters.length) = some n) (hR : rm.frames + 1 ≤ R.frames ∧ 8 + (maxL + 11) + rm.locals ≤ R.locals) (hI : zW D A s.heap ws H locs) (hA : ∀ q, s.heap.size ≤ q → A q) (isC isR : List Nat) (hC : isC.map (fun i => ws[i]?) = wc.map some) (hRr : isR.map (fun i => ws[i]?) = wr.map some) (hnC : va_nd isC = true) (hnR : va_nd isR = true) (hdis : ∀ i ∈ isR, i ∉ isC) (hn : As.length = n) (hls : ls.size = nL) (hst : st0 = As.reverse ++ .ref b :: rest) (hcat : 2 * (F0 m pc ls st0).monitorRoom + (rest.map fun v => v.category).sum ≤ 8) (hdg : decode cc pc = .ok (.invokespecial index, 3)) (hf : cells + rm.cells ≤ R.cells ∧ slots + rm.slots ≤ R.slots)
    (kk : ∀ (u : S) (H1 : Heap) (locs1 : List Loc), post u → zW D A s.heap (wr ++ w' u) H1 locs1 → W p l e R s m args below meth c H1 locs1 (cells + rm.cells) (slots + rm.slots) Q (F0 m (pc + 3) ls rest)) : W p l e R s m args below meth c H locs cells slots Q (F0 m pc ls st0) := by
  have hSb := hI.sub isC hnC hC
  have hPc := hSb.1
  have hDc := hSb.2.1
  have hFc := va_free (wc := wc) hI.2.1 hI.2.2 hA isC hC
  refine va_callv (va_runIN (As := As) (rest := rest) ⟨hF.1, hF.2.1, hF.2.2.1, hF.2.2.2.1, hF.2.2.2.2.1⟩ (hM H.size) ⟨va_cnB n hF.2.2.2.2.1 hG rfl rfl rfl hml (hF.2.2.2.2.1 _ hini) hd hR, hy1, hF.2.2.2.2.1 _ him⟩ ⟨fun a U g mk q => by obtain ⟨q0, q1, qP, qK, qD, qN⟩ := q; exact ⟨q0, q1, qP, va_K.moved (u := U) (U := U.calling g mk a) (Vm.Alike.refl U.vm) qK, qD, zN.same (u := U) (U := U.calling g mk a) rfl qN⟩, fun U hU hW => ⟨rfl, by rw [hU], by rw [hU]; exact hPc, va_K.moved hW.alike hF.2.2.2.2.2.1, hDc.weaken (fun _ _ _ _ => trivial), hF.2.2.2.2.2.2.warm hW⟩⟩ rfl hn hls hst hcat hdg hf) hI.2.2 (fun q _ h => hFc q h) hFc (fun u t H1 locs1 ht hvm hw hB hz1 hk1 hS => ?_)
  obtain ⟨hP1, hD1⟩ := hB
  rw [ht] at hP1
  obtain ⟨hP9, hD9⟩ := va_join hI.1 hI.2.1 isC isR hC hRr hnR hdis hk1 hFc hP1 hD1
  exact kk u H1 locs1 hw ⟨hP9, hD9, hS⟩
end ZROWS
theorem z_metv {S : Type} {post : S → Prop} {w' : S → va_W} {l : Launch} {y : MethodName} {b : ByteArray} {L : Nat} {rm : Room} {D : va_G} {cB cI : ClassId} {av : List Value} {wc : va_W} (hy : plainName y.cls = true) (hlen : (lg_sl av).length ≤ L)
    (body : ∀ (p : Program) (e : Env) (s : State) (m : MethodId) (below : List Frame) (meth : Method) (c : Code) (A : Nat → Prop), zF p c b L s m av.toArray y.cls D cB cI → meth.sig.returnType = none → meth.locks = false → meth.name = y.name → (∀ q, s.heap.size ≤ q → A q) → zW D A s.heap wc s.heap [] →
      ∀ ls : Array Slot, lv_has ls L (lv_args 0 av) → W p l e rm s m av.toArray below meth c s.heap [] 0 0 (MQ below (va_Qv post (zPost D A w') A) av.toArray s rm.cells rm.slots A) (F0 m 0 ls [])) : zMv l y b L rm D cB cI av wc post w' := by
  intro sz
  refine Met.ofW (cc := b) (maxL := L) (ret := none) hy rfl ?_
  intro p e s m args below meth c s₁ B hml hv
  obtain ⟨rfl, hsz, hP, hK, hD0, hN⟩ := hv
  have hts := atoms_spec (ws := ws_ y b L none) B.pre
  have hts : ∀ w ∈ lw_all, w.before _ s = true := fun w h => hts w (List.mem_cons_of_mem _ h)
  subst hsz
  have hD := hD0.self (sz := s.heap.size)
  have hl := lv_entry av (n := L) hlen
  rw [lg_entry_eq]
  exact body p e s m below meth c (va_A wc s.heap.size) ⟨B.exec, B.bytes, hml, findClass_of_methodNamed B.named, hts, hK, hN⟩ B.returns B.notSynchronized (name_of_methodNamed B.named B.method).1 (fun q h => Or.inr h) ⟨hP, hD, va_S.rf⟩ _ hl
theorem z_meti {S : Type} {post : Int → S → Prop} {w' : S → va_W} {rt : Option FieldType} {l : Launch} {y : MethodName} {b : ByteArray} {L : Nat} {rm : Room} {D : va_G} {cB cI : ClassId} {av : List Value} {wc : va_W} (hy : plainName y.cls = true) (hlen : (lg_sl av).length ≤ L)
    (body : ∀ (p : Program) (e : Env) (s : State) (m : MethodId) (below : List Frame) (meth : Method) (c : Code) (A : Nat → Prop), zF p c b L s m av.toArray y.cls D cB cI → meth.sig.returnType = rt → meth.locks = false → meth.name = y.name → (∀ q, s.heap.size ≤ q → A q) → zW D A s.heap wc s.heap [] →
      ∀ ls : Array Slot, lv_has ls L (lv_args 0 av) → W p l e rm s m av.toArray below meth c s.heap [] 0 0 (MQ below (va_Qi (zpi post) (zPost D A (fun u : Int × S => w' u.2)) A) av.toArray s rm.cells rm.slots A) (F0 m 0 ls [])) : zMi l y b L rt rm D cB cI av wc post w' := by
  intro sz
  refine Met.ofW (cc := b) (maxL := L) (ret := rt) hy rfl ?_
  intro p e s m args below meth c s₁ B hml hv
  obtain ⟨rfl, hsz, hP, hK, hD0, hN⟩ := hv
  have hts := atoms_spec (ws := ws_ y b L rt) B.pre
  have hts : ∀ w ∈ lw_all, w.before _ s = true := fun w h => hts w (List.mem_cons_of_mem _ h)
  subst hsz
  have hD := hD0.self (sz := s.heap.size)
  have hl := lv_entry av (n := L) hlen
  rw [lg_entry_eq]
  exact body p e s m below meth c (va_A wc s.heap.size) ⟨B.exec, B.bytes, hml, findClass_of_methodNamed B.named, hts, hK, hN⟩ B.returns B.notSynchronized (name_of_methodNamed B.named B.method).1 (fun q h => Or.inr h) ⟨hP, hD, va_S.rf⟩ _ hl
end
section
/-! pure: worlds by name; digits of numbers -/
set_option maxRecDepth 100000
abbrev mW (h0 a b : Nat) (cB cI : ClassId) (g : Int → Int) (d pt : Int) (t : Int → Int) (len : Int) : va_W :=
  [(h0, .inr (3, [.ref a, .int (zI d), .int (zI pt), .ref b, .int (zI len)])), (a, .inl (cB, 1200, .inl (zA g))), (b, .inl (cI, 420, .inl (zA t)))]
abbrev dW (h a b : Nat) (cB cI : ClassId) (w : Int → Int) (sz : Int) (g : Int → Int) (cnt pt : Int) : va_W :=
  [(h, .inr (1, [.ref a, .int (zI sz), .ref b, .int (zI cnt), .int (zI pt)])), (a, .inl (cI, 140, .inl (zA w))), (b, .inl (cB, 1300, .inl (zA g)))]
abbrev bW (h a : Nat) (cB : ClassId) (cap : Nat) (g : Int → Int) (sz : Int) : va_W :=
  [(h, .inr (2, [.ref a, .int (zI sz)])), (a, .inl (cB, cap, .inl (zA g)))]
theorem ten_pos (k : Nat) : 0 < 10 ^ k := Nat.pow_pos (by decide)
theorem ten_succ (k : Nat) : 10 ^ (k + 1) = 10 * 10 ^ k := by rw [Nat.pow_succ, Nat.mul_comm]
theorem div_ten (v k : Nat) : v / 10 ^ (k + 1) = v / 10 ^ k / 10 := by rw [Nat.pow_succ, Nat.div_div_eq_div_mul]
theorem div_ten' (v k : Nat) : v / 10 ^ (k + 1) = v / 10 / 10 ^ k := by rw [ten_succ, Nat.div_div_eq_div_mul]
theorem mod_ten (v k : Nat) : v % 10 ^ (k + 1) = v / 10 ^ k % 10 * 10 ^ k + v % 10 ^ k := by
  rw [Nat.pow_succ, Nat.mod_mul, Nat.add_comm, Nat.mul_comm]
theorem lt_of_div0 {v k : Nat} (h : v / 10 ^ k = 0) : v < 10 ^ k := Nat.lt_of_not_le (fun q => by have := Nat.div_pos q (ten_pos k); omega)
/-- the first n places of g are the digits of v, the highest first -/
def Rw (g : Int → Int) (n v : Nat) : Prop := v < 10 ^ n ∧ ∀ i : Nat, i < n → g (i : Int) = ((v / 10 ^ (n - 1 - i) % 10 : Nat) : Int)
theorem Rw.rng {g : Int → Int} {n v : Nat} (h : Rw g n v) {z : Int} (h0 : 0 ≤ z) (h1 : z < n) : 0 ≤ g z ∧ g z ≤ 9 := by
  obtain ⟨i, rfl⟩ := Int.eq_ofNat_of_zero_le h0
  rw [h.2 i (by omega)]
  have : v / 10 ^ (n - 1 - i) % 10 < 10 := Nat.mod_lt _ (by decide)
  omega
theorem Rw.at {g : Int → Int} {n v : Nat} (h : Rw g n v) {z : Int} (h0 : 0 ≤ z) (h1 : z < n) : g z = ((v / 10 ^ (n - 1 - z.toNat) % 10 : Nat) : Int) := by
  obtain ⟨i, rfl⟩ := Int.eq_ofNat_of_zero_le h0
  rw [h.2 i (by omega)]
  rfl
theorem Rw.cong {g g' : Int → Int} {n v : Nat} (h : Rw g n v) (hg : ∀ i : Int, 0 ≤ i → i < n → g' i = g i) : Rw g' n v :=
  ⟨h.1, fun i hi => by rw [hg i (by omega) (by omega)]; exact h.2 i hi⟩
theorem Rw_lead {g : Int → Int} {n v : Nat} (h : Rw g n v) : ∀ k : Nat, k ≤ n → (∀ i : Nat, i < k → g (i : Int) = 0) → v < 10 ^ (n - k)
  | 0, _, _ => h.1
  | k + 1, hk, hz => by
    have h1 := Rw_lead h k (by omega) (fun i hi => hz i (by omega))
    have h2 := hz k (by omega)
    rw [h.2 k (by omega)] at h2
    have h3 : v / 10 ^ (n - 1 - k) % 10 = 0 := by omega
    rw [show n - k = (n - 1 - k) + 1 by omega, Nat.pow_succ] at h1
    have h4 : v / 10 ^ (n - 1 - k) < 10 := Nat.div_lt_of_lt_mul h1
    rw [show n - (k + 1) = n - 1 - k by omega]
    refine lt_of_div0 ?_
    generalize v / 10 ^ (n - 1 - k) = q at *
    omega
theorem Rw_shift {g g' : Int → Int} {n v : Nat} {z : Int} (h : Rw g n v) (hz : 0 ≤ z ∧ z ≤ n) (hl : ∀ i : Int, 0 ≤ i → i < z → g i = 0) (hs : ∀ i : Int, 0 ≤ i → i < n - z → g' i = g (i + z)) : Rw g' (n - z.toNat) v := by
  obtain ⟨k, rfl⟩ := Int.eq_ofNat_of_zero_le hz.1
  have hv := Rw_lead h k (by omega) (fun i hi => hl i (by omega) (by omega))
  refine ⟨hv, fun i hi => ?_⟩
  have hi : i < n - k := hi
  rw [hs i (by omega) (by omega), show ((i : Int) + (k : Int)) = ((i + k : Nat) : Int) by omega, h.2 (i + k) (by omega)]
  show _ = ((v / 10 ^ (n - k - 1 - i) % 10 : Nat) : Int)
  rw [show n - k - 1 - i = n - 1 - (i + k) by omega]
theorem Rw_last {g : Int → Int} {n v : Nat} (h : Rw g (n + 1) v) : g (n : Int) = ((v % 10 : Nat) : Int) := by
  rw [h.2 n (by omega), show n + 1 - 1 - n = 0 by omega, Nat.pow_zero, Nat.div_one]
theorem Rw_pop {g : Int → Int} {n v : Nat} (h : Rw g (n + 1) v) : Rw g n (v / 10) := by
  refine ⟨Nat.div_lt_of_lt_mul (by rw [← ten_succ]; exact h.1), fun i hi => ?_⟩
  rw [h.2 i (by omega), ← div_ten', show n + 1 - 1 - i = n - 1 - i + 1 by omega]
theorem Rw_first {g : Int → Int} {n v : Nat} (h : Rw g (n + 1) v) (h0 : g 0 ≠ 0) : 10 ^ n ≤ v := by
  have h1 := h.2 0 (by omega)
  refine Nat.le_of_not_lt (fun q => h0 ?_)
  show g ((0 : Nat) : Int) = 0
  rw [h1, show n + 1 - 1 - 0 = n by omega, Nat.div_eq_of_lt q]
  rfl
theorem Rw_push {g : Int → Int} {n v : Nat} {x : Nat} (h : Rw g n v) (hx : x < 10) : Rw (zup g (n : Int) (x : Int)) (n + 1) (10 * v + x) := by
  refine ⟨by rw [ten_succ]; have := h.1; omega, fun i hi => ?_⟩
  by_cases hin : i = n
  · subst hin
    rw [zup_same, show i + 1 - 1 - i = 0 by omega, Nat.pow_zero, Nat.div_one]
    omega
  · rw [zup_ne _ _ (by omega), h.2 i (by omega), show n + 1 - 1 - i = n - 1 - i + 1 by omega, div_ten', show (10 * v + x) / 10 = v by omega]
theorem Rw_0 (g : Int → Int) : Rw g 0 0 := ⟨by decide, fun i hi => by omega⟩
theorem Rw_cut {g : Int → Int} {N v : Nat} (h : Rw g N v) {k : Nat} (hk : k ≤ N) : Rw g k (v / 10 ^ (N - k)) := by
  refine ⟨Nat.div_lt_of_lt_mul (by rw [← Nat.pow_add, show N - k + k = N by omega]; exact h.1), fun i hi => ?_⟩
  rw [h.2 i (by omega), Nat.div_div_eq_div_mul, ← Nat.pow_add, show N - k + (k - 1 - i) = N - 1 - i by omega]
/-- v*10^x without zeros at its end: v' with n' digits, the point behind p' of them -/
def Nf (v : Nat) (x : Int) (v' n' : Nat) (p' : Int) : Prop := (v = 0 ∧ v' = 0 ∧ n' = 0 ∧ p' = 0) ∨ (v ≠ 0 ∧ v' % 10 ≠ 0 ∧ 10 ^ n' ≤ 10 * v' ∧ v' < 10 ^ n' ∧ ∃ k : Nat, v = v' * 10 ^ k ∧ p' - n' = x + k)
theorem trim_nf {g : Int → Int} {m v v' j : Nat} {x q : Int} (hR : Rw g m v') (hv : v = v' * 10 ^ j) (hm : m ≠ 0) (hlead : g 0 ≠ 0) (hlast : g ((m : Int) - 1) ≠ 0) (hq : q - m = x + j) : Nf v x v' m q := by
  obtain ⟨n, rfl⟩ : ∃ n, m = n + 1 := ⟨m - 1, by omega⟩
  have h1 := Rw_first hR hlead
  have h2 := Rw_last hR
  rw [show (((n + 1 : Nat) : Int) - 1) = (n : Int) by omega, h2] at hlast
  have h3 : 0 < v' := Nat.lt_of_lt_of_le (ten_pos n) h1
  refine Or.inr ⟨?_, by omega, by rw [ten_succ]; omega, hR.1, j, hv, hq⟩
  rw [hv]
  exact Nat.ne_of_gt (Nat.mul_pos h3 (ten_pos j))
theorem trim_nf0 {g : Int → Int} {v v' j : Nat} {x : Int} (hR : Rw g 0 v') (hv : v = v' * 10 ^ j) : Nf v x v' 0 0 := by
  have h1 : v' = 0 := by have := hR.1; simp at this; exact this
  subst h1
  exact Or.inl ⟨by rw [hv]; simp, rfl, rfl, rfl⟩
theorem Nf_scale {v x v1 n1 p1 v2 n2 p2} (c : Nat) (hc : c ≠ 0) (h : Nf v x v1 n1 p1) (h2 : Nf (c * v1) (p1 - n1) v2 n2 p2) : Nf (c * v) x v2 n2 p2 := by
  rcases h with ⟨rfl, rfl, rfl, rfl⟩ | ⟨h0, h1, h3, h4, k, h5, h6⟩
  · rcases h2 with ⟨a, b, c2, d⟩ | ⟨a, _⟩
    · exact Or.inl ⟨by simp, b, c2, d⟩
    · simp at a
  · rcases h2 with ⟨a, b, c2, d⟩ | ⟨a, b, c2, d, k2, e, f⟩
    · exfalso
      have : v1 ≠ 0 := by intro q; rw [q] at h1; simp at h1
      rcases Nat.mul_eq_zero.mp a with q | q <;> omega
    · refine Or.inr ⟨?_, b, c2, d, k + k2, ?_, by rw [f, h6]; omega⟩
      · intro q
        rcases Nat.mul_eq_zero.mp q with q | q <;> omega
      · rw [h5, ← Nat.mul_assoc, e, Nat.pow_add, Nat.mul_assoc, Nat.mul_comm (10 ^ k2)]
theorem Nf_ten {v x v' n' p'} (h : Nf v x v' n' p') : Nf (10 * v) (x - 1) v' n' p' := by
  rcases h with ⟨rfl, b, c, d⟩ | ⟨a, b, c, d, k, e, f⟩
  · exact Or.inl ⟨by simp, b, c, d⟩
  · exact Or.inr ⟨by omega, b, c, d, k + 1, by rw [e, Nat.pow_succ, Nat.mul_comm, Nat.mul_assoc], by rw [f]; omega⟩
theorem Nf_x {v x y v' n' p'} (h : Nf v x v' n' p') (e : x = y) : Nf v y v' n' p' := e ▸ h
/-! doubling a row -/
def Tw (g : Int → Int) (n v : Nat) (k : Int) (g' : Int → Int) (cy : Int) : Prop :=
  (∀ i : Int, 0 ≤ i → i ≤ k → g' i = g i) ∧ (∀ i : Nat, k < i → i < n → g' i = ((2 * v / 10 ^ (n - 1 - i) % 10 : Nat) : Int)) ∧ cy = ((2 * (v % 10 ^ (n - 1 - k).toNat) / 10 ^ (n - 1 - k).toNat : Nat) : Int)
theorem Tw_init {g : Int → Int} {n v : Nat} : Tw g n v (n - 1) g 0 := by
  refine ⟨fun i _ _ => rfl, fun i h1 h2 => by omega, ?_⟩
  rw [show ((n : Int) - 1 - (n - 1)).toNat = 0 by omega, Nat.pow_zero, Nat.mod_one]
  rfl
theorem dbl_mod (v j : Nat) : 2 * v / 10 ^ j % 10 = 2 * (v % 10 ^ (j + 1)) / 10 ^ j % 10 := by
  have h1 : v = 10 ^ (j + 1) * (v / 10 ^ (j + 1)) + v % 10 ^ (j + 1) := (Nat.div_add_mod v _).symm
  have h2 : 2 * v = 2 * (v % 10 ^ (j + 1)) + 10 ^ j * (10 * (2 * (v / 10 ^ (j + 1)))) := by
    have e : 10 ^ j * (10 * (2 * (v / 10 ^ (j + 1)))) = 2 * (10 ^ (j + 1) * (v / 10 ^ (j + 1))) := by
      rw [Nat.pow_succ, ← Nat.mul_assoc, ← Nat.mul_assoc, ← Nat.mul_assoc, Nat.mul_comm (10 ^ j * 10) 2]
    rw [e]
    omega
  rw [h2, Nat.add_mul_div_left _ _ (ten_pos j), Nat.add_mul_mod_self_left]
theorem dbl_step (v j : Nat) : 2 * (v % 10 ^ (j + 1)) / 10 ^ j = 2 * (v / 10 ^ j % 10) + 2 * (v % 10 ^ j) / 10 ^ j := by
  rw [mod_ten, show 2 * (v / 10 ^ j % 10 * 10 ^ j + v % 10 ^ j) = 2 * (v % 10 ^ j) + 10 ^ j * (2 * (v / 10 ^ j % 10)) by
    rw [Nat.mul_add, Nat.add_comm, Nat.mul_comm (10 ^ j), Nat.mul_assoc], Nat.add_mul_div_left _ _ (ten_pos j), Nat.add_comm]
theorem Tw_rng {g g' : Int → Int} {n v : Nat} {k cy : Int} (hR : Rw g n v) (hk : 0 ≤ k ∧ k < n) (h : Tw g n v k g' cy) : (0 ≤ g' k ∧ g' k ≤ 9) ∧ 0 ≤ cy ∧ cy ≤ 1 := by
  refine ⟨by rw [h.1 k hk.1 (by omega)]; exact hR.rng hk.1 hk.2, ?_⟩
  rw [h.2.2]
  generalize (n - 1 - k).toNat = j
  have h1 : v % 10 ^ j < 10 ^ j := Nat.mod_lt _ (ten_pos j)
  have h2 : 2 * (v % 10 ^ j) / 10 ^ j < 2 := Nat.div_lt_of_lt_mul (by omega)
  generalize 2 * (v % 10 ^ j) / 10 ^ j = q at *
  omega
theorem Tw_step {g g' : Int → Int} {n v : Nat} {k cy : Int} (hR : Rw g n v) (hk : 0 ≤ k ∧ k < n) (h : Tw g n v k g' cy) : Tw g n v (k + -1) (zup g' k ((2 * g' k + cy) % 10)) ((2 * g' k + cy) / 10) := by
  obtain ⟨i0, rfl⟩ := Int.eq_ofNat_of_zero_le hk.1
  obtain ⟨h1, h2, h3⟩ := h
  have e1 : g' (i0 : Int) = ((v / 10 ^ (n - 1 - i0) % 10 : Nat) : Int) := by rw [h1 _ (by omega) (by omega)]; exact hR.2 i0 (by omega)
  have ej : (n - 1 - (i0 : Int)).toNat = n - 1 - i0 := by omega
  rw [ej] at h3
  have hw : 2 * g' (i0 : Int) + cy = ((2 * (v % 10 ^ (n - 1 - i0 + 1)) / 10 ^ (n - 1 - i0) : Nat) : Int) := by
    rw [dbl_step, e1, h3]; omega
  refine ⟨fun i q1 q2 => ?_, fun i q1 q2 => ?_, ?_⟩
  · rw [zup_ne _ _ (by omega)]; exact h1 i q1 (by omega)
  · by_cases hi : i = i0
    · subst hi
      rw [zup_same, hw, dbl_mod]; omega
    · rw [zup_ne _ _ (by omega)]; exact h2 i (by omega) q2
  · rw [hw, show (n - 1 - ((i0 : Int) + -1)).toNat = n - 1 - i0 + 1 by omega, div_ten]; omega
theorem Tw_end {g g' : Int → Int} {n v : Nat} {cy : Int} {k : Int} (hk : k = -1) (hR : Rw g n v) (h : Tw g n v k g' cy) : cy = ((2 * v / 10 ^ n : Nat) : Int) ∧ cy ≤ 1 ∧ ∀ i : Nat, i < n → g' i = ((2 * v / 10 ^ (n - 1 - i) % 10 : Nat) : Int) := by
  subst hk
  obtain ⟨h1, h2, h3⟩ := h
  rw [show ((n : Int) - 1 - -1).toNat = n by omega, Nat.mod_eq_of_lt hR.1] at h3
  have h4 : 2 * v / 10 ^ n < 2 := Nat.div_lt_of_lt_mul (by have := hR.1; omega)
  exact ⟨h3, by omega, fun i hi => h2 i (by omega) hi⟩
theorem Tw_none {g g' : Int → Int} {n v : Nat} {cy k : Int} (hk : k = -1) (hR : Rw g n v) (h : Tw g n v k g' cy) (hc : cy ≤ 0) : Rw g' n (2 * v) := by
  obtain ⟨h1, -, h2⟩ := Tw_end hk hR h
  refine ⟨lt_of_div0 ?_, h2⟩
  generalize 2 * v / 10 ^ n = q at *
  omega
theorem Tw_carry {g g' g2 : Int → Int} {n v : Nat} {cy k : Int} (hk : k = -1) (hR : Rw g n v) (h : Tw g n v k g' cy) (hs : ∀ i : Int, 0 < i → i ≤ n → g2 i = g' (i - 1)) : Rw (zup g2 0 cy) (n + 1) (2 * v) := by
  obtain ⟨h1, hc, h2⟩ := Tw_end hk hR h
  refine ⟨by rw [ten_succ]; have := hR.1; omega, fun i hi => ?_⟩
  rcases i with _ | i
  · rw [show ((0 : Nat) : Int) = 0 from rfl, zup_same, show n + 1 - 1 - 0 = n by omega, h1]
    generalize 2 * v / 10 ^ n = q at *
    omega
  · rw [zup_ne _ _ (by omega), hs _ (by omega) (by omega), show (((i + 1 : Nat) : Int) - 1) = (i : Int) by omega, h2 i (by omega), show n + 1 - 1 - (i + 1) = n - 1 - i by omega]
/-! halving a row -/
def Hf (g : Int → Int) (n v : Nat) (k : Int) (g' : Int → Int) (r : Int) : Prop :=
  (∀ i : Int, k ≤ i → i < n → g' i = g i) ∧ (∀ i : Nat, (i : Int) < k → g' i = ((v / 2 / 10 ^ (n - 1 - i) % 10 : Nat) : Int)) ∧ r = ((v / 10 ^ (n - k).toNat % 2 : Nat) : Int)
theorem Hf_init {g : Int → Int} {n v : Nat} (hR : Rw g n v) : Hf g n v 0 g 0 := by
  refine ⟨fun i _ _ => rfl, fun i h1 => by omega, ?_⟩
  rw [show ((n : Int) - 0).toNat = n by omega, Nat.div_eq_of_lt hR.1]
  rfl
theorem Hf_rng {g g' : Int → Int} {n v : Nat} {k r : Int} (hR : Rw g n v) (hk : 0 ≤ k ∧ k < n) (h : Hf g n v k g' r) : (0 ≤ g' k ∧ g' k ≤ 9) ∧ 0 ≤ r ∧ r ≤ 1 := by
  refine ⟨by rw [h.1 k (by omega) hk.2]; exact hR.rng hk.1 hk.2, ?_⟩
  rw [h.2.2]
  omega
theorem Hf_step {g g' : Int → Int} {n v : Nat} {k r : Int} (hR : Rw g n v) (hk : 0 ≤ k ∧ k < n) (h : Hf g n v k g' r) : Hf g n v (k + 1) (zup g' k ((10 * r + g' k) / 2)) ((10 * r + g' k) % 2) := by
  obtain ⟨i0, rfl⟩ := Int.eq_ofNat_of_zero_le hk.1
  obtain ⟨h1, h2, h3⟩ := h
  have e1 : g' (i0 : Int) = ((v / 10 ^ (n - 1 - i0) % 10 : Nat) : Int) := by rw [h1 _ (by omega) (by omega)]; exact hR.2 i0 (by omega)
  have ej : (n - (i0 : Int)).toNat = n - 1 - i0 + 1 := by omega
  rw [ej, div_ten] at h3
  have key : v / 2 / 10 ^ (n - 1 - i0) % 10 = (10 * (v / 10 ^ (n - 1 - i0) / 10 % 2) + v / 10 ^ (n - 1 - i0) % 10) / 2 := by
    rw [Nat.div_div_eq_div_mul, Nat.mul_comm 2, ← Nat.div_div_eq_div_mul]
    omega
  refine ⟨fun i q1 q2 => ?_, fun i q1 => ?_, ?_⟩
  · rw [zup_ne _ _ (by omega)]; exact h1 i (by omega) q2
  · by_cases hi : i = i0
    · subst hi
      rw [zup_same, e1, h3, key]; omega
    · rw [zup_ne _ _ (by omega)]; exact h2 i (by omega)
  · rw [e1, h3, show (n - ((i0 : Int) + 1)).toNat = n - 1 - i0 by omega]; omega
theorem Hf_end {g g' : Int → Int} {n v : Nat} {k r : Int} (hk : k = n) (hR : Rw g n v) (h : Hf g n v k g' r) : Rw g' n (v / 2) ∧ r = ((v % 2 : Nat) : Int) := by
  subst hk
  obtain ⟨h1, h2, h3⟩ := h
  rw [show ((n : Int) - n).toNat = 0 by omega, Nat.pow_zero, Nat.div_one] at h3
  exact ⟨⟨Nat.lt_of_le_of_lt (Nat.div_le_self _ _) hR.1, fun i hi => h2 i (by omega)⟩, h3⟩
theorem Hf_odd {g g' : Int → Int} {n v : Nat} {k r : Int} (hk : k = n) (hR : Rw g n v) (h : Hf g n v k g' r) (hr : 0 < r) : Rw (zup g' (n : Int) 5) (n + 1) (5 * v) := by
  obtain ⟨h1, h2⟩ := Hf_end hk hR h
  have h3 := Rw_push (x := 5) h1 (by decide)
  rw [show 10 * (v / 2) + 5 = 5 * v by omega] at h3
  exact h3
end
section
/-! a double's bits as numbers; powers -/
set_option maxRecDepth 100000
theorem zL_and11 (a : Int) : zL a &&& zL 2047 = zL (a % 2048) := by
  apply Int64.toBitVec_inj.1
  apply BitVec.eq_of_toNat_eq
  rw [Int64.toBitVec_and, zL, zL, zL, Int64.toBitVec_ofInt, Int64.toBitVec_ofInt, Int64.toBitVec_ofInt, BitVec.toNat_and, BitVec.toNat_ofInt, BitVec.toNat_ofInt, BitVec.toNat_ofInt]
  have e : ((2047 : Int) % ((2 ^ 64 : Nat) : Int)).toNat = 2 ^ 11 - 1 := by decide
  rw [e, Nat.and_two_pow_sub_one_eq_mod]
  omega
theorem zL_and52 (a : Int) : zL a &&& zL 4503599627370495 = zL (a % 4503599627370496) := by
  apply Int64.toBitVec_inj.1
  apply BitVec.eq_of_toNat_eq
  rw [Int64.toBitVec_and, zL, zL, zL, Int64.toBitVec_ofInt, Int64.toBitVec_ofInt, Int64.toBitVec_ofInt, BitVec.toNat_and, BitVec.toNat_ofInt, BitVec.toNat_ofInt, BitVec.toNat_ofInt]
  have e : ((4503599627370495 : Int) % ((2 ^ 64 : Nat) : Int)).toNat = 2 ^ 52 - 1 := by decide
  rw [e, Nat.and_two_pow_sub_one_eq_mod]
  omega
theorem zL_and63 (a : Int) : zL a &&& zL 9223372036854775807 = zL (a % 9223372036854775808) := by
  apply Int64.toBitVec_inj.1
  apply BitVec.eq_of_toNat_eq
  rw [Int64.toBitVec_and, zL, zL, zL, Int64.toBitVec_ofInt, Int64.toBitVec_ofInt, Int64.toBitVec_ofInt, BitVec.toNat_and, BitVec.toNat_ofInt, BitVec.toNat_ofInt, BitVec.toNat_ofInt]
  have e : ((9223372036854775807 : Int) % ((2 ^ 64 : Nat) : Int)).toNat = 2 ^ 63 - 1 := by decide
  rw [e, Nat.and_two_pow_sub_one_eq_mod]
  omega
theorem zL_or52 {a : Int} (h : 0 ≤ a ∧ a < 4503599627370496) : zL a ||| zL 4503599627370496 = zL (a + 4503599627370496) := by
  apply Int64.toBitVec_inj.1
  apply BitVec.eq_of_toNat_eq
  rw [Int64.toBitVec_or, zL, zL, zL, Int64.toBitVec_ofInt, Int64.toBitVec_ofInt, Int64.toBitVec_ofInt, BitVec.toNat_or, BitVec.toNat_ofInt, BitVec.toNat_ofInt, BitVec.toNat_ofInt]
  have e : ((4503599627370496 : Int) % ((2 ^ 64 : Nat) : Int)).toNat = 2 ^ 52 * 1 := by decide
  have e2 : (a % ((2 ^ 64 : Nat) : Int)).toNat < 2 ^ 52 := by omega
  rw [e, Nat.or_comm, ← Nat.two_pow_add_eq_or_of_lt e2]
  omega
theorem zL_shrD {a : Int} {d : Nat} {D : Int64} (hD : (D.toBitVec.smod 64).toNat = d) (h : -9223372036854775808 ≤ a ∧ a < 9223372036854775808) : (zL a >>> D).toInt = a >>> d := by
  have e : (zL a >>> D).toInt = (zL a).toInt >>> d := by
    rw [← hD]
    exact BitVec.toInt_sshiftRight ..
  rw [e, zL_toInt h]
theorem zL_shr52 {a : Int} (h : -9223372036854775808 ≤ a ∧ a < 9223372036854775808) : zL a >>> ((zI 52).toInt64 &&& 63) = zL (a / 4503599627370496) := by
  apply Int64.toInt_inj.mp
  rw [zL_shrD (d := 52) (by decide) h, zL_toInt (by omega), Int.shiftRight_eq_div_pow]
  rfl
section ZB
variable {p : Program} {l : Launch} {e : Env} {R : Room} {s : State} {m : MethodId} {args : Array Value} {below : List Frame} {meth : Method} {c : Code} {H : Heap} {locs : List Loc} {cells slots : Nat} {Q : State → Prop}
variable {cc : ByteArray} {pc : Nat} {ls : Array Slot} {rest : List Value}
theorem z_lshr52 (hx : p.tables.exec = Jvm.exec) (hb : c.code = cc) {a : Int} (h : -9223372036854775808 ≤ a ∧ a < 9223372036854775808) (hdg : decode cc pc = .ok (.lshr, 1))
    (k : W p l e R s m args below meth c H locs cells slots Q (F0 m (pc + 1) ls (.long (zL (a / 4503599627370496)) :: rest))) : W p l e R s m args below meth c H locs cells slots Q (F0 m pc ls (.int (zI 52) :: .long (zL a) :: rest)) := lv_lshr hx hb hdg (zL_shr52 h) k
theorem z_land11 (hx : p.tables.exec = Jvm.exec) (hb : c.code = cc) {a : Int} (hdg : decode cc pc = .ok (.land, 1))
    (k : W p l e R s m args below meth c H locs cells slots Q (F0 m (pc + 1) ls (.long (zL (a % 2048)) :: rest))) : W p l e R s m args below meth c H locs cells slots Q (F0 m pc ls (.long (zL 2047) :: .long (zL a) :: rest)) := lv_land hx hb hdg (by rw [zL_and11]; exact k)
theorem z_land52 (hx : p.tables.exec = Jvm.exec) (hb : c.code = cc) {a : Int} (hdg : decode cc pc = .ok (.land, 1))
    (k : W p l e R s m args below meth c H locs cells slots Q (F0 m (pc + 1) ls (.long (zL (a % 4503599627370496)) :: rest))) : W p l e R s m args below meth c H locs cells slots Q (F0 m pc ls (.long (zL 4503599627370495) :: .long (zL a) :: rest)) := lv_land hx hb hdg (by rw [zL_and52]; exact k)
theorem z_land63 (hx : p.tables.exec = Jvm.exec) (hb : c.code = cc) {a : Int} (hdg : decode cc pc = .ok (.land, 1))
    (k : W p l e R s m args below meth c H locs cells slots Q (F0 m (pc + 1) ls (.long (zL (a % 9223372036854775808)) :: rest))) : W p l e R s m args below meth c H locs cells slots Q (F0 m pc ls (.long (zL 9223372036854775807) :: .long (zL a) :: rest)) := lv_land hx hb hdg (by rw [zL_and63]; exact k)
theorem z_lor52 (hx : p.tables.exec = Jvm.exec) (hb : c.code = cc) {a : Int} (h : 0 ≤ a ∧ a < 4503599627370496) (hdg : decode cc pc = .ok (.lor, 1))
    (k : W p l e R s m args below meth c H locs cells slots Q (F0 m (pc + 1) ls (.long (zL (a + 4503599627370496)) :: rest))) : W p l e R s m args below meth c H locs cells slots Q (F0 m pc ls (.long (zL 4503599627370496) :: .long (zL a) :: rest)) := lv_lor hx hb hdg (by rw [zL_or52 h]; exact k)
end ZB
/-- a double's whole number, its power of two, and the worth as N * 10^X -/
def bM (z : Int) : Nat := (z % 4503599627370496).toNat + (if 0 < z / 4503599627370496 % 2048 then 4503599627370496 else 0)
def bT (z : Int) : Int := if z / 4503599627370496 % 2048 = 0 then -1074 else z / 4503599627370496 % 2048 - 1075
def bB (z : Int) : Nat := bM z * 2 ^ (bT z).toNat
def bN (z : Int) : Nat := bB z * 5 ^ (-(bT z)).toNat
def bX (z : Int) : Int := if 0 ≤ bT z then 0 else bT z
theorem bM_lt (z : Int) : bM z < 9007199254740992 := by
  unfold bM
  split <;> omega
theorem bT_rng (z : Int) (h : z / 4503599627370496 % 2048 ≠ 2047) : -1074 ≤ bT z ∧ bT z ≤ 971 := by
  unfold bT
  split <;> omega
theorem pow_le_ten (c : Nat) (hc : c ≤ 10) (k : Nat) : c ^ k ≤ 10 ^ k := Nat.pow_le_pow_left hc k
theorem bB_lt (z : Int) : bB z < 10 ^ (16 + (bT z).toNat) := by
  have h1 := bM_lt z
  have h2 := pow_le_ten 2 (by decide) (bT z).toNat
  have h3 := ten_pos (bT z).toNat
  have h4 : bM z * 2 ^ (bT z).toNat ≤ 9007199254740991 * 10 ^ (bT z).toNat := Nat.mul_le_mul (by omega) h2
  rw [bB, Nat.pow_add]
  omega
theorem Nf_bound {v x v' n' p'} (h : Nf v x v' n' p') {B : Nat} (hB : v < 10 ^ B) : p' = 0 ∨ (x ≤ p' ∧ p' ≤ x + B) := by
  rcases h with ⟨_, _, _, d⟩ | ⟨a, b, c, d, k, e, f⟩
  · exact Or.inl d
  · right
    have h1 : 10 ^ (n' + k) < 10 ^ (B + 1) := by
      rw [Nat.pow_add, ten_succ]
      have h2 : 10 ^ n' * 10 ^ k ≤ 10 * v' * 10 ^ k := Nat.mul_le_mul_right _ c
      rw [Nat.mul_assoc, ← e] at h2
      omega
    have h2 := (Nat.pow_lt_pow_iff_right (show 1 < 10 by decide)).mp h1
    omega
/-- the units of the first digits: 10^18 .. 1, then 0 -/
def Un (j : Nat) : Int := if j ≤ 18 then ((10 ^ (18 - j) : Nat) : Int) else 0
theorem Un_step : ∀ j, j < 19 → Un j / 10 = Un (j + 1) := by decide
theorem Un_pos : ∀ j, j < 19 → 0 < Un j ∧ Un j ≤ 1000000000000000000 := by decide
theorem Un_19 : Un 19 = 0 := rfl
theorem Un_rng : ∀ j, j < 20 → 0 ≤ Un j ∧ Un j ≤ 1000000000000000000 := by decide
theorem Un_dig (M j : Nat) (h : j < 19) : (M : Int) / Un j % 10 = ((M / 10 ^ (18 - j) % 10 : Nat) : Int) := by
  rw [Un, if_pos (by omega)]
  generalize 10 ^ (18 - j) = q
  rw [← Int.natCast_ediv]
  omega
theorem Un_in (M j : Nat) (h : j < 19) (hM : M < 9007199254740992) : 0 ≤ (M : Int) / Un j ∧ (M : Int) / Un j < 9223372036854775808 := by
  have h1 := Un_pos j h
  have h2 : (0 : Int) ≤ (M : Int) / Un j := Int.ediv_nonneg (by omega) (by omega)
  have h3 : (M : Int) / Un j ≤ M := Int.ediv_le_self _ (by omega)
  omega
end
section
/-! rounding: half to even at a place -/
set_option maxRecDepth 100000
def rup (N k : Nat) : Nat := if 10 ^ k < 2 * (N % 10 ^ k) ∨ (2 * (N % 10 ^ k) = 10 ^ k ∧ N / 10 ^ k % 2 = 1) then N / 10 ^ k + 1 else N / 10 ^ k
theorem rup_hi {v k : Nat} (h : 5 < v / 10 ^ k % 10 ∨ (v / 10 ^ k % 10 = 5 ∧ 0 < v % 10 ^ k)) : rup v (k + 1) = v / 10 ^ (k + 1) + 1 := by
  rw [rup, if_pos]
  left
  rw [mod_ten, ten_succ]
  have h2 := ten_pos k
  generalize v / 10 ^ k % 10 = d at *
  generalize v % 10 ^ k = r at *
  rcases h with h | ⟨h, h3⟩
  · have h4 : 6 * 10 ^ k ≤ d * 10 ^ k := Nat.mul_le_mul_right _ h
    omega
  · subst h
    omega
theorem rup_lo {v k : Nat} (h : v / 10 ^ k % 10 < 5) : rup v (k + 1) = v / 10 ^ (k + 1) := by
  rw [rup, if_neg]
  rw [mod_ten, ten_succ]
  have h2 : v % 10 ^ k < 10 ^ k := Nat.mod_lt _ (ten_pos k)
  generalize v / 10 ^ k % 10 = d at *
  generalize v % 10 ^ k = r at *
  have h4 : d * 10 ^ k ≤ 4 * 10 ^ k := Nat.mul_le_mul_right _ (by omega)
  omega
theorem rup_tie {v k : Nat} (h : v / 10 ^ k % 10 = 5) (h0 : v % 10 ^ k = 0) : rup v (k + 1) = v / 10 ^ (k + 1) + v / 10 ^ (k + 1) % 2 := by
  rw [rup, mod_ten, h, h0, ten_succ]
  generalize v / (10 * 10 ^ k) = q
  have h2 := ten_pos k
  rcases Nat.mod_two_eq_zero_or_one q with e | e
  · rw [if_neg (by omega), e]; rfl
  · rw [if_pos (by right; omega), e]
theorem rup_0 {v k : Nat} (h : v % 10 ^ k = 0) : rup v k = v / 10 ^ k := by
  rw [rup, if_neg]
  have h2 := ten_pos k
  omega
theorem rup_small {v n k : Nat} (h : v < 10 ^ n) (hk : n < k) : rup v k = 0 := by
  obtain ⟨j, rfl⟩ : ∃ j, k = n + 1 + j := ⟨k - n - 1, by omega⟩
  have h1 : 10 * 10 ^ n ≤ 10 ^ (n + 1 + j) := by
    rw [← ten_succ]
    exact Nat.pow_le_pow_right (by decide) (by omega)
  rw [rup, Nat.mod_eq_of_lt (by omega), Nat.div_eq_of_lt (by omega), if_neg (by omega)]
/-- the digits behind place k of a row -/
theorem Rw_tail0 {g : Int → Int} {n v : Nat} (h : Rw g n v) : ∀ j : Nat, j ≤ n → (∀ i : Int, (n : Int) - j ≤ i → i < n → g i = 0) → v % 10 ^ j = 0
  | 0, _, _ => by simp [Nat.mod_one]
  | j + 1, hj, hz => by
    have h1 := Rw_tail0 h j (by omega) (fun i q1 q2 => hz i (by omega) q2)
    have h2 := hz ((n - 1 - j : Nat) : Int) (by omega) (by omega)
    rw [h.2 _ (by omega), show n - 1 - (n - 1 - j) = j by omega] at h2
    rw [mod_ten, h1]
    generalize v / 10 ^ j % 10 = q at *
    obtain rfl : q = 0 := by omega
    simp
theorem Rw_tailp {g : Int → Int} {n v : Nat} (h : Rw g n v) {j : Nat} (hj : j ≤ n) {i : Int} (h1 : (n : Int) - j ≤ i) (h2 : i < n) (h3 : g i ≠ 0) : 0 < v % 10 ^ j := by
  obtain ⟨i0, rfl⟩ := Int.eq_ofNat_of_zero_le (show 0 ≤ i by omega)
  rw [h.2 i0 (by omega)] at h3
  have h4 : v / 10 ^ (n - 1 - i0) % 10 ≠ 0 := by omega
  refine Nat.pos_of_ne_zero (fun q => h4 ?_)
  have e : 10 ^ j = 10 ^ (n - 1 - i0) * (10 * 10 ^ (j - 1 - (n - 1 - i0))) := by
    rw [← ten_succ, ← Nat.pow_add]
    congr 1
    omega
  obtain ⟨t, ht⟩ := Nat.dvd_of_mod_eq_zero q
  rw [ht, e, Nat.mul_assoc, Nat.mul_div_cancel_left _ (ten_pos _), Nat.mul_assoc]
  exact Nat.mul_mod_right 10 _
theorem mod_tail {v j : Nat} (hj : 0 < j) (h : v % 10 ≠ 0) : 0 < v % 10 ^ j := by
  refine Nat.pos_of_ne_zero (fun q => h ?_)
  obtain ⟨i, rfl⟩ : ∃ i, j = i + 1 := ⟨j - 1, by omega⟩
  obtain ⟨t, ht⟩ := Nat.dvd_of_mod_eq_zero q
  rw [ht, ten_succ, Nat.mul_assoc]
  exact Nat.mul_mod_right 10 _
theorem Rw_par {g : Int → Int} {n v : Nat} (h : Rw g n v) {k : Int} (hk : 0 < k ∧ k ≤ n) : g (k - 1) % 2 = ((v / 10 ^ (n - k.toNat) % 2 : Nat) : Int) := by
  rw [h.at (by omega) (by omega), show n - 1 - (k - 1).toNat = n - k.toNat by omega]
  generalize v / 10 ^ (n - k.toNat) = q
  omega
/-! carrying -/
def Cy (g : Int → Int) (n q : Nat) (k : Int) (g' : Int → Int) : Prop :=
  (∀ i : Int, 0 ≤ i → i ≤ k → g' i = g i) ∧ (∀ i : Int, k < i → i < n → g' i = 0) ∧ q % 10 ^ (n - 1 - k).toNat + 1 = 10 ^ (n - 1 - k).toNat
theorem Cy_init {g : Int → Int} {n q : Nat} : Cy g n q (n - 1) g := by
  refine ⟨fun i _ _ => rfl, fun i h1 h2 => by omega, ?_⟩
  rw [show ((n : Int) - 1 - (n - 1)).toNat = 0 by omega, Nat.pow_zero, Nat.mod_one]
theorem Cy_rng {g g' : Int → Int} {n q : Nat} {k : Int} (hR : Rw g n q) (hk : 0 ≤ k ∧ k < n) (h : Cy g n q k g') : 0 ≤ g' k ∧ g' k ≤ 9 := by
  rw [h.1 k hk.1 (by omega)]; exact hR.rng hk.1 hk.2
theorem Cy_step {g g' : Int → Int} {n q : Nat} {k : Int} (hR : Rw g n q) (hk : 0 ≤ k ∧ k < n) (h : Cy g n q k g') (h9 : g' k = 9) : Cy g n q (k - 1) (zup g' k 0) := by
  obtain ⟨i0, rfl⟩ := Int.eq_ofNat_of_zero_le hk.1
  obtain ⟨h1, h2, h3⟩ := h
  rw [h1 _ (by omega) (by omega), hR.2 i0 (by omega)] at h9
  have e1 : (n - 1 - (i0 : Int)).toNat = n - 1 - i0 := by omega
  rw [e1] at h3
  refine ⟨fun i q1 q2 => ?_, fun i q1 q2 => ?_, ?_⟩
  · rw [zup_ne _ _ (by omega)]; exact h1 i q1 (by omega)
  · by_cases hi : i = i0
    · rw [hi, zup_same]
    · rw [zup_ne _ _ hi]; exact h2 i (by omega) q2
  · rw [show (n - 1 - ((i0 : Int) - 1)).toNat = n - 1 - i0 + 1 by omega, mod_ten, ten_succ]
    generalize q / 10 ^ (n - 1 - i0) % 10 = d at *
    obtain rfl : d = 9 := by omega
    omega
theorem Cy_put {g g' : Int → Int} {n q : Nat} {k : Int} (hR : Rw g n q) (hk : 0 ≤ k ∧ k < n) (h : Cy g n q k g') (h9 : g' k ≠ 9) : Rw (zup g' k (g' k + 1)) n (q + 1) := by
  obtain ⟨i0, rfl⟩ := Int.eq_ofNat_of_zero_le hk.1
  have hrg := Cy_rng hR hk h
  obtain ⟨h1, h2, h3⟩ := h
  have e1 : (n - 1 - (i0 : Int)).toNat = n - 1 - i0 := by omega
  rw [e1] at h3
  have ed : g' (i0 : Int) = ((q / 10 ^ (n - 1 - i0) % 10 : Nat) : Int) := by rw [h1 _ (by omega) (by omega), hR.2 i0 (by omega)]
  have hq : q + 1 = (q / 10 ^ (n - 1 - i0) + 1) * 10 ^ (n - 1 - i0) := by
    have := Nat.div_add_mod q (10 ^ (n - 1 - i0))
    rw [Nat.add_mul, Nat.one_mul, Nat.mul_comm]
    omega
  have hlt9 : q / 10 ^ (n - 1 - i0) % 10 < 9 := by
    rw [ed] at h9 hrg
    generalize q / 10 ^ (n - 1 - i0) % 10 = d at *
    omega
  have hdiv : ∀ t : Nat, (q + 1) / 10 ^ (n - 1 - i0 + t) = (q / 10 ^ (n - 1 - i0) + 1) / 10 ^ t := fun t => by
    rw [hq, Nat.pow_add, ← Nat.div_div_eq_div_mul, Nat.mul_div_cancel _ (ten_pos _)]
  have hnc : ∀ t : Nat, (q / 10 ^ (n - 1 - i0) + 1) / 10 ^ (t + 1) = q / 10 ^ (n - 1 - i0) / 10 ^ (t + 1) := fun t => by
    rw [div_ten', div_ten']
    generalize q / 10 ^ (n - 1 - i0) = d at *
    rw [show (d + 1) / 10 = d / 10 by omega]
  refine ⟨?_, fun i hi => ?_⟩
  · have h5 : (q + 1) / 10 ^ (n - 1 - i0 + (i0 + 1)) = 0 := by
      rw [hdiv, hnc, Nat.div_div_eq_div_mul, ← Nat.pow_add, show n - 1 - i0 + (i0 + 1) = n by omega, Nat.div_eq_of_lt hR.1]
    rw [show n - 1 - i0 + (i0 + 1) = n by omega] at h5
    exact lt_of_div0 h5
  · by_cases hi2 : i = i0
    · subst hi2
      rw [zup_same, ed, ← Nat.add_zero (n - 1 - i), hdiv, Nat.add_zero, Nat.pow_zero, Nat.div_one]
      generalize q / 10 ^ (n - 1 - i) = d at *
      omega
    · rw [zup_ne _ _ (by omega)]
      by_cases hlt : i < i0
      · rw [h1 _ (by omega) (by omega), hR.2 i hi, show n - 1 - i = n - 1 - i0 + (i0 - i - 1 + 1) by omega, hdiv, hnc, Nat.div_div_eq_div_mul, ← Nat.pow_add]
      · rw [h2 _ (by omega) (by omega), hq, show n - 1 - i0 = n - 1 - i + (i - i0 - 1 + 1) by omega, Nat.pow_add, ← Nat.mul_assoc, Nat.mul_right_comm, Nat.mul_div_cancel _ (ten_pos _), ten_succ]
        generalize q / (10 ^ (n - 1 - i) * (10 * 10 ^ (i - i0 - 1))) + 1 = d
        rw [Nat.mul_left_comm, Nat.mul_mod_right]
        rfl
theorem Cy_all {g g' g2 : Int → Int} {n q : Nat} (hR : Rw g n q) (h : Cy g n q (-1) g') (hs : ∀ i : Int, 0 < i → i ≤ n → g2 i = g' (i - 1)) : q + 1 = 10 ^ n ∧ Rw (zup g2 0 1) (n + 1) (q + 1) := by
  obtain ⟨h1, h2, h3⟩ := h
  rw [show ((n : Int) - 1 - -1).toNat = n by omega, Nat.mod_eq_of_lt hR.1] at h3
  refine ⟨h3, by rw [h3, ten_succ]; have := ten_pos n; omega, fun i hi => ?_⟩
  rw [h3]
  rcases i with _ | i
  · rw [show ((0 : Nat) : Int) = 0 from rfl, zup_same, show n + 1 - 1 - 0 = n by omega, Nat.div_self (ten_pos n)]
    rfl
  · rw [zup_ne _ _ (by omega), hs _ (by omega) (by omega), h2 _ (by omega) (by omega), Nat.pow_div (by omega) (by decide), show n - (n + 1 - 1 - (i + 1)) = i + 1 by omega, ten_succ, Nat.mul_mod_right]
    rfl
/-! places -/
def dgt (w : Nat) (x j : Int) : Nat := if x ≤ j then w / 10 ^ (j - x).toNat % 10 else 0
theorem dgt_lt (w : Nat) (x j : Int) : dgt w x j < 10 := by
  unfold dgt
  split
  · exact Nat.mod_lt _ (by decide)
  · decide
theorem dgt_0 (x j : Int) : dgt 0 x j = 0 := by
  unfold dgt
  split
  · simp
  · rfl
theorem dgt_scale (w t : Nat) (x j : Int) : dgt (w * 10 ^ t) x j = dgt w (x + t) j := by
  unfold dgt
  by_cases h1 : x ≤ j
  · rw [if_pos h1]
    by_cases h2 : x + t ≤ j
    · rw [if_pos h2, show (j - x).toNat = t + (j - (x + t)).toNat by omega, Nat.pow_add, ← Nat.div_div_eq_div_mul, Nat.mul_div_cancel _ (ten_pos t)]
    · rw [if_neg h2, show t = (j - x).toNat + (t - (j - x).toNat - 1 + 1) by omega, Nat.pow_add, Nat.mul_left_comm, Nat.mul_div_cancel_left _ (ten_pos _), ten_succ, Nat.mul_left_comm, Nat.mul_mod_right]
  · rw [if_neg h1, if_neg (by omega)]
theorem dgt_row {g : Int → Int} {n v : Nat} (h : Rw g n v) (q k : Int) : (if 0 ≤ k ∧ k < n then g k else 0) = (dgt v (q - n) (q - 1 - k) : Int) := by
  unfold dgt
  by_cases h1 : 0 ≤ k ∧ k < n
  · rw [if_pos h1, if_pos (by omega), h.at h1.1 h1.2, show n - 1 - k.toNat = (q - 1 - k - (q - n)).toNat by omega]
  · rw [if_neg h1]
    by_cases h2 : q - n ≤ q - 1 - k
    · rw [if_pos h2, show (q - 1 - k - (q - n)).toNat = n + (-1 - k).toNat by omega, Nat.pow_add, ← Nat.div_div_eq_div_mul, Nat.div_eq_of_lt h.1]
      simp
    · rw [if_neg h2]
      rfl
/-- the number of places before the point -/
def Dp (w : Nat) (x P : Int) : Prop := (w = 0 ∧ P = 0) ∨ (w ≠ 0 ∧ ∃ c : Nat, 10 ^ c ≤ 10 * w ∧ w < 10 ^ c ∧ P = c + x)
theorem ten_uniq {w a b : Nat} (h1 : 10 ^ a ≤ 10 * w) (h2 : w < 10 ^ a) (h3 : 10 ^ b ≤ 10 * w) (h4 : w < 10 ^ b) : a = b := by
  have k1 : 10 ^ a < 10 ^ (b + 1) := by rw [ten_succ]; omega
  have k2 : 10 ^ b < 10 ^ (a + 1) := by rw [ten_succ]; omega
  have k3 := (Nat.pow_lt_pow_iff_right (show 1 < 10 by decide)).mp k1
  have k4 := (Nat.pow_lt_pow_iff_right (show 1 < 10 by decide)).mp k2
  omega
theorem Dp_uniq {w : Nat} {x P P' : Int} (h : Dp w x P) (h' : Dp w x P') : P = P' := by
  rcases h with ⟨a, b⟩ | ⟨a, c, d, e, f⟩
  · rcases h' with ⟨a', b'⟩ | ⟨a', _⟩
    · omega
    · exact absurd a a'
  · rcases h' with ⟨a', b'⟩ | ⟨a', c', d', e', f'⟩
    · exact absurd a' a
    · have := ten_uniq d e d' e'
      omega
theorem Dp_scale {w t : Nat} {x P : Int} (h : Dp w (x + t) P) : Dp (w * 10 ^ t) x P := by
  rcases h with ⟨a, b⟩ | ⟨a, c, d, e, f⟩
  · exact Or.inl ⟨by rw [a]; simp, b⟩
  · refine Or.inr ⟨Nat.ne_of_gt (Nat.mul_pos (by omega) (ten_pos t)), c + t, ?_, ?_, by omega⟩
    · rw [Nat.pow_add, ← Nat.mul_assoc]; exact Nat.mul_le_mul_right _ d
    · rw [Nat.pow_add]; exact Nat.mul_lt_mul_of_pos_right e (ten_pos t)
theorem Nf_Dp {v x v' n' p'} (h : Nf v x v' n' p') : Dp v x p' := by
  rcases h with ⟨a, b, c, d⟩ | ⟨a, b, c, d, k, e, f⟩
  · exact Or.inl ⟨a, d⟩
  · rw [e]
    exact Dp_scale (Or.inr ⟨by omega, n', c, d, by omega⟩)
theorem Nf_dgt {v x v' n' p'} (h : Nf v x v' n' p') (j : Int) : dgt v' (p' - n') j = dgt v x j := by
  rcases h with ⟨a, b, c, d⟩ | ⟨a, b, c, d, k, e, f⟩
  · rw [a, b, dgt_0, dgt_0]
  · rw [e, dgt_scale, f]
/-- a worth N*10^X rounded at place y -/
def rA (N : Nat) (X y : Int) : Nat := if y ≤ X then N else rup N (y - X).toNat
def rX (X y : Int) : Int := if y ≤ X then X else y
theorem rup_scale (v j k : Nat) : rup (v * 10 ^ j) (j + k) = rup v k := by
  have h1 : v * 10 ^ j / 10 ^ (j + k) = v / 10 ^ k := by rw [Nat.pow_add, ← Nat.div_div_eq_div_mul, Nat.mul_div_cancel _ (ten_pos j)]
  have h2 : v * 10 ^ j % 10 ^ (j + k) = v % 10 ^ k * 10 ^ j := by rw [Nat.pow_add, Nat.mul_comm (10 ^ j), Nat.mul_mod_mul_right]
  have h3 := ten_pos j
  have e1 : (10 ^ (j + k) < 2 * (v * 10 ^ j % 10 ^ (j + k))) ↔ 10 ^ k < 2 * (v % 10 ^ k) := by
    rw [h2, Nat.pow_add, Nat.mul_comm (10 ^ j), ← Nat.mul_assoc]
    exact Nat.mul_lt_mul_right h3
  have e2 : (2 * (v * 10 ^ j % 10 ^ (j + k)) = 10 ^ (j + k)) ↔ 2 * (v % 10 ^ k) = 10 ^ k := by
    rw [h2, Nat.pow_add, Nat.mul_comm (10 ^ j), ← Nat.mul_assoc]
    exact Nat.mul_right_cancel_iff h3
  simp only [rup, e1, e2, h1]
theorem rA_scale (v j : Nat) (X y : Int) : ∃ t : Nat, rA (v * 10 ^ j) X y = rA v (X + j) y * 10 ^ t ∧ rX X y + t = rX (X + j) y := by
  unfold rA rX
  by_cases h1 : y ≤ X
  · rw [if_pos h1, if_pos h1, if_pos (by omega), if_pos (by omega)]
    exact ⟨j, rfl, rfl⟩
  · rw [if_neg h1, if_neg h1]
    by_cases h2 : y ≤ X + j
    · rw [if_pos h2, if_pos h2]
      refine ⟨j - (y - X).toNat, ?_, by omega⟩
      have e : v * 10 ^ j = v * 10 ^ (j - (y - X).toNat) * 10 ^ (y - X).toNat := by
        rw [Nat.mul_assoc, ← Nat.pow_add, show j - (y - X).toNat + (y - X).toNat = j by omega]
      rw [e, rup_0 (Nat.mul_mod_left _ _), Nat.mul_div_cancel _ (ten_pos _)]
    · rw [if_neg h2, if_neg h2]
      refine ⟨0, ?_, by omega⟩
      rw [Nat.pow_zero, Nat.mul_one, show (y - X).toNat = j + (y - (X + j)).toNat by omega, rup_scale]
theorem rA_0 (X y : Int) : rA 0 X y = 0 := by
  unfold rA
  split
  · rfl
  · rw [rup_0 (by simp)]; simp
/-- what a stripped row shows when rounded at y is what the worth itself shows -/
theorem Nf_rnd {N X v n p0} (h : Nf N X v n p0) (y : Int) : (∀ j, dgt (rA v (p0 - n) y) (rX (p0 - n) y) j = dgt (rA N X y) (rX X y) j) ∧ ∀ P, Dp (rA v (p0 - n) y) (rX (p0 - n) y) P → Dp (rA N X y) (rX X y) P := by
  rcases h with ⟨a, b, c, d⟩ | ⟨a, b, c, d, k, e, f⟩
  · rw [a, b, rA_0, rA_0]
    refine ⟨fun j => by rw [dgt_0, dgt_0], fun P hP => ?_⟩
    rcases hP with ⟨_, q⟩ | ⟨q, _⟩
    · exact Or.inl ⟨rfl, q⟩
    · exact absurd rfl q
  · rw [f, e]
    obtain ⟨t, h1, h2⟩ := rA_scale v k X y
    rw [h1, ← h2]
    exact ⟨fun j => (dgt_scale _ _ _ _).symm, fun P hP => Dp_scale hP⟩
end
section
/-! the text, as a list of chars -/
set_option maxRecDepth 100000
/-- the array t holds the list L from its first place on -/
def Tx (t : Int → Int) (L : List Int) : Prop := ∀ i : Nat, i < L.length → L[i]? = some (t (i : Int))
theorem Tx_nil (t : Int → Int) : Tx t [] := fun i hi => by simp at hi
theorem Tx_put {t : Int → Int} {L : List Int} (h : Tx t L) {n : Int} (hn : n = L.length) (x : Int) : Tx (zup t n x) (L ++ [x]) := by
  intro i hi
  rw [List.length_append, List.length_singleton] at hi
  by_cases q : i < L.length
  · rw [List.getElem?_append_left q, h i q, zup_ne _ _ (by omega)]
  · have e : i = L.length := by omega
    subst e
    rw [List.getElem?_append_right (Nat.le_refl _), Nat.sub_self, hn, zup_same]
    rfl
def digs (D : Int → Nat) (hi : Int) (n : Nat) : List Int := (List.range n).map (fun i : Nat => 48 + (D (hi - (i : Int)) : Int))
theorem digs_len (D : Int → Nat) (hi : Int) (n : Nat) : (digs D hi n).length = n := by simp [digs]
theorem digs_0 (D : Int → Nat) (hi : Int) : digs D hi 0 = [] := rfl
theorem digs_succ (D : Int → Nat) (hi : Int) (n : Nat) : digs D hi (n + 1) = digs D hi n ++ [48 + (D (hi - (n : Int)) : Int)] := by
  rw [digs, List.range_succ, List.map_append]
  rfl
theorem digs_1 (D : Int → Nat) (hi : Int) : digs D hi 1 = [48 + (D hi : Int)] := by
  rw [digs_succ, digs_0, List.nil_append, show hi - ((0 : Nat) : Int) = hi by omega]
def intT (D : Int → Nat) (P : Int) : List Int := if P ≤ 0 then [48] else digs D (P - 1) P.toNat
def dotT (q dot : Int) : List Int := if 0 < q ∨ dot ≠ 0 then [46] else []
def expT (n : Int) : List Int := (if 99 < n then [48 + n / 100] else []) ++ [48 + n / 10 % 10] ++ [48 + n % 10]
def absI (e : Int) : Int := if e < 0 then -e else e
def plainT (D : Int → Nat) (P q dot : Int) : List Int := intT D P ++ dotT q dot ++ digs D (-1) q.toNat
def sciT (D : Int → Nat) (P e q dot letter : Int) : List Int := digs D (P - 1) 1 ++ dotT q dot ++ digs D (P - 2) q.toNat ++ [letter] ++ [if e < 0 then 45 else 43] ++ expT (absI e)
theorem intT_len (D : Int → Nat) (P : Int) : (intT D P).length ≤ P.toNat + 1 := by
  unfold intT
  split
  · simp
  · rw [digs_len]; omega
theorem dotT_len (q dot : Int) : (dotT q dot).length ≤ 1 := by
  unfold dotT
  split <;> simp
theorem expT_len (n : Int) : (expT n).length ≤ 3 := by
  unfold expT
  split <;> simp
/-- the digit at place j, and the places before the point, of the worth of z rounded at place y -/
def rD (z y j : Int) : Nat := dgt (rA (bN z) (bX z) y) (rX (bX z) y) j
def rP (z y P : Int) : Prop := Dp (rA (bN z) (bX z) y) (rX (bX z) y) P
def BodyS (z how q dot : Int) (L : List Int) : Prop :=
  (how = 0 ∧ ∃ P, rP z (-q) P ∧ L = plainT (rD z (-q)) P q dot) ∨ (how ≠ 0 ∧ ∃ P0 P, Dp (bN z) (bX z) P0 ∧ rP z (P0 - q - 1) P ∧ L = sciT (rD z (P0 - q - 1)) P (if bN z = 0 then 0 else P - 1) q dot (if how = 1 then 101 else 69))
theorem BodyS_uniq {z how q dot : Int} {L L' : List Int} (h : BodyS z how q dot L) (h' : BodyS z how q dot L') : L = L' := by
  rcases h with ⟨a, P, b, c⟩ | ⟨a, P0, P, b, c, d⟩
  · rcases h' with ⟨a', P', b', c'⟩ | ⟨a', _⟩
    · rw [c, c', Dp_uniq b b']
    · exact absurd a a'
  · rcases h' with ⟨a', _⟩ | ⟨a', P0', P', b', c', d'⟩
    · exact absurd a' a
    · have e := Dp_uniq b b'
      subst e
      rw [d, d', Dp_uniq c c']
theorem rD_lt (z y j : Int) : rD z y j < 10 := dgt_lt _ _ _
/-- a row that shows the worth of z rounded at place y -/
def Shw (z y : Int) (nm : Nat) (g : Int → Int) (d P : Int) : Prop :=
  ∃ n v : Nat, d = n ∧ n ≤ nm ∧ Rw g n v ∧ (∀ j, dgt v (P - n) j = rD z y j) ∧ rP z y P ∧ (n = 0 ↔ rA (bN z) (bX z) y = 0)
theorem Shw.d {z y : Int} {nm : Nat} {g : Int → Int} {d P : Int} (h : Shw z y nm g d P) : 0 ≤ d ∧ d ≤ nm := by
  obtain ⟨n, v, h1, h2, _⟩ := h
  omega
theorem Shw.dig {z y : Int} {nm : Nat} {g : Int → Int} {d P : Int} (h : Shw z y nm g d P) (k : Int) : (if 0 ≤ k ∧ k < d then g k else 0) = (rD z y (P - 1 - k) : Int) := by
  obtain ⟨n, v, h1, h2, h3, h4, _⟩ := h
  rw [h1, dgt_row h3 P k, h4]
theorem Shw.rP {z y : Int} {nm : Nat} {g : Int → Int} {d P : Int} (h : Shw z y nm g d P) : rP z y P := by
  obtain ⟨n, v, h1, h2, h3, h4, h5, _⟩ := h
  exact h5
theorem Shw.zero {z y : Int} {nm : Nat} {g : Int → Int} {d P : Int} (h : Shw z y nm g d P) : d = 0 ↔ rA (bN z) (bX z) y = 0 := by
  obtain ⟨n, v, h1, h2, h3, h4, h5, h6⟩ := h
  rw [← h6]
  omega
theorem rup_pos {N c k : Nat} (h : 10 ^ c ≤ 10 * N) (hk : k < c) : rup N k ≠ 0 := by
  have h1 : 0 < N / 10 ^ k := by
    refine Nat.div_pos ?_ (ten_pos k)
    obtain ⟨j, rfl⟩ : ∃ j, c = j + 1 := ⟨c - 1, by omega⟩
    rw [ten_succ] at h
    exact Nat.le_trans (Nat.pow_le_pow_right (by decide) (by omega)) (by omega : 10 ^ j ≤ N)
  unfold rup
  split <;> omega
/-- the exponent is asked of what isn't nothing -/
theorem sci_nz {z P0 q : Int} (hq : 0 ≤ q) (h : Dp (bN z) (bX z) P0) : rA (bN z) (bX z) (P0 - q - 1) = 0 ↔ bN z = 0 := by
  constructor
  · intro h1
    rcases h with ⟨a, b⟩ | ⟨a, c, d, e, f⟩
    · exact a
    · exfalso
      unfold rA at h1
      by_cases h2 : P0 - q - 1 ≤ bX z
      · rw [if_pos h2] at h1; exact a h1
      · rw [if_neg h2] at h1
        exact rup_pos d (by omega) h1
  · intro h1
    rw [h1, rA_0]
theorem rup_le (N k : Nat) : rup N k ≤ N / 10 ^ k + 1 := by
  unfold rup
  split <;> omega
theorem rA_bound {N : Nat} {X y : Int} {B : Nat} (hB : N < 10 ^ (B - X).toNat) (hX : X ≤ 0) (hy : y ≤ 0) {P : Int} (h : Dp (rA N X y) (rX X y) P) : P ≤ B + 1 := by
  rcases h with ⟨a, b⟩ | ⟨a, c, d, e, f⟩
  · omega
  · unfold rA rX at *
    by_cases h1 : y ≤ X
    · rw [if_pos h1] at d f
      have h2 : 10 ^ c < 10 ^ ((B - X).toNat + 1) := by rw [ten_succ]; omega
      have h3 := (Nat.pow_lt_pow_iff_right (show 1 < 10 by decide)).mp h2
      omega
    · rw [if_neg h1] at d f
      have h2 := rup_le N (y - X).toNat
      have h3 : N / 10 ^ (y - X).toNat < 10 ^ (B - y).toNat := Nat.div_lt_of_lt_mul (by rw [← Nat.pow_add, show (y - X).toNat + (B - y).toNat = (B - X).toNat by omega]; exact hB)
      have h4 : 10 ^ c < 10 ^ ((B - y).toNat + 2) := by rw [ten_succ, ten_succ]; have := ten_pos (B - y).toNat; omega
      have h5 := (Nat.pow_lt_pow_iff_right (show 1 < 10 by decide)).mp h4
      omega
theorem bN_lt {z : Int} (h : z / 4503599627370496 % 2048 ≠ 2047) : bN z < 10 ^ (309 - bX z).toNat := by
  have h1 := bT_rng z h
  have h2 := bM_lt z
  unfold bX bN bB
  by_cases h3 : 0 ≤ bT z
  · rw [if_pos h3, show (-(bT z)).toNat = 0 by omega, Nat.pow_zero, Nat.mul_one]
    have h4 : 2 ^ (bT z).toNat ≤ 2 ^ 971 := Nat.pow_le_pow_right (by decide) (by omega)
    have h5 : bM z * 2 ^ (bT z).toNat ≤ 9007199254740992 * 2 ^ 971 := Nat.mul_le_mul (by omega) h4
    exact Nat.lt_of_le_of_lt h5 (by decide +kernel)
  · rw [if_neg h3, show (bT z).toNat = 0 by omega, Nat.pow_zero, Nat.mul_one, show (309 - bT z).toNat = 309 + (-(bT z)).toNat by omega, Nat.pow_add]
    exact Nat.lt_of_lt_of_le (Nat.mul_lt_mul_of_pos_right (Nat.lt_of_lt_of_le h2 (by decide : 9007199254740992 ≤ 10 ^ 309)) (Nat.pow_pos (by decide))) (Nat.mul_le_mul_left _ (pow_le_ten 5 (by decide) _))
theorem bX_rng {z : Int} (h : z / 4503599627370496 % 2048 ≠ 2047) : -1074 ≤ bX z ∧ bX z ≤ 0 := by
  have h1 := bT_rng z h
  unfold bX
  split <;> omega
theorem rP_le {z y P : Int} (h : z / 4503599627370496 % 2048 ≠ 2047) (hy : y ≤ 0) (hP : rP z y P) : P ≤ 310 := by
  have h1 := bX_rng h
  exact rA_bound (B := 309) (bN_lt h) h1.2 hy hP
theorem Dp_rng {z P : Int} (h : z / 4503599627370496 % 2048 ≠ 2047) (hP : Dp (bN z) (bX z) P) : -1074 ≤ P ∧ P ≤ 310 := by
  have h1 := bX_rng h
  have h2 := bN_lt h
  rcases hP with ⟨a, b⟩ | ⟨a, c, d, e, f⟩
  · omega
  · have h4 : 10 ^ c < 10 ^ ((309 - bX z).toNat + 1) := by rw [ten_succ]; omega
    have h5 := (Nat.pow_lt_pow_iff_right (show 1 < 10 by decide)).mp h4
    omega
theorem rP_ge {z y P : Int} (h : z / 4503599627370496 % 2048 ≠ 2047) (hy : -2000 ≤ y) (hP : rP z y P) : -2000 ≤ P := by
  have h1 := bX_rng h
  rcases hP with ⟨a, b⟩ | ⟨a, c, d, e, f⟩
  · omega
  · unfold rX at f
    split at f <;> omega
theorem sci_le {z P0 q P : Int} (h : z / 4503599627370496 % 2048 ≠ 2047) (hq : 0 ≤ q ∧ q ≤ 15) (h0 : Dp (bN z) (bX z) P0) (hP : rP z (P0 - q - 1) P) : -1100 ≤ P ∧ P ≤ 311 := by
  have h1 := bX_rng h
  have h2 := bN_lt h
  have h3 := Dp_rng h h0
  rcases hP with ⟨a, b⟩ | ⟨a, c, d, e, f⟩
  · omega
  · unfold rA rX at *
    by_cases h4 : P0 - q - 1 ≤ bX z
    · rw [if_pos h4] at d f
      have h5 : 10 ^ c < 10 ^ ((309 - bX z).toNat + 1) := by rw [ten_succ]; omega
      have h6 := (Nat.pow_lt_pow_iff_right (show 1 < 10 by decide)).mp h5
      omega
    · rw [if_neg h4] at a d f
      rcases h0 with ⟨a0, b0⟩ | ⟨a0, c0, d0, e0, f0⟩
      · rw [a0, rup_0 (by simp)] at a; simp at a
      · have h7 := rup_le (bN z) (P0 - q - 1 - bX z).toNat
        have h8 : bN z / 10 ^ (P0 - q - 1 - bX z).toNat < 10 ^ (q + 1).toNat := Nat.div_lt_of_lt_mul (by rw [← Nat.pow_add, show (P0 - q - 1 - bX z).toNat + (q + 1).toNat = c0 by omega]; exact e0)
        have h9 : 10 ^ c < 10 ^ ((q + 1).toNat + 2) := by rw [ten_succ, ten_succ]; have := ten_pos (q + 1).toNat; omega
        have h10 := (Nat.pow_lt_pow_iff_right (show 1 < 10 by decide)).mp h9
        omega
end
section
/-! the model: put, digit, trim, twice, half -/
def trimP (nmax v : Nat) (x : Int) : (Int → Int) × Int × Int → Prop
  | (g', d', p') => ∃ n' v' : Nat, d' = n' ∧ n' ≤ nmax ∧ Rw g' n' v' ∧ Nf v x v' n' p'
set_option maxHeartbeats 4000000 in
set_option maxRecDepth 100000 in
/-- put(x) -/
theorem m_put (l : Launch) (D : va_G) (cB cI : ClassId) (h0 a b : Nat) (g : Int → Int) (d pt : Int) (t : Int → Int) (len : Int) (x : Int) (hln : 0 ≤ len ∧ len < 420) : zMv (S := Unit) l yX3_put cX3_put 2 ({ frames := 0, cells := 0, slots := 0, locals := 0 } : Room) D cB cI ([.ref h0, .int (zI x)] : List Value) (mW h0 a b cB cI g d pt t len) (fun _ => True) (fun _ => mW h0 a b cB cI g d pt (zup t len x) (len + 1)) := by
  refine z_metv (by decide) (Nat.le_of_ble_eq_true rfl) ?_
  intro p e s m below meth c A hF hr hlk hnm hA hI ls hl
  have hx := hF.1
  have hb := hF.2.1
  have hown := hF.2.2.2.1
  have hts := hF.2.2.2.2.1
  have hl : lv_has ls 2 [(0, .ref h0), (1, .int (zI x))] := hl
  obtain ⟨H, eH⟩ : ∃ H : Heap, H = s.heap := ⟨_, rfl⟩
  obtain ⟨locs, eL⟩ : ∃ L : List Loc, L = [] := ⟨_, rfl⟩
  have hI : zW D A s.heap (mW h0 a b cB cI g d pt t len) H locs := by rw [eH, eL]; exact hI
  suffices hgo : W p l e ({ frames := 0, cells := 0, slots := 0, locals := 0 } : Room) s m ([.ref h0, .int (zI x)] : List Value).toArray below meth c H locs 0 0 (MQ below (va_Qv (fun _ => True) (zPost D A (fun _ => mW h0 a b cB cI g d pt (zup t len x) (len + 1))) A) ([.ref h0, .int (zI x)] : List Value).toArray s ({ frames := 0, cells := 0, slots := 0, locals := 0 } : Room).cells ({ frames := 0, cells := 0, slots := 0, locals := 0 } : Room).slots A) (F0 m 0 ls []) by rw [eH, eL] at hgo; exact hgo
  clear eH eL
  refine lv_aload_n hx hb dX3_put_0 rfl (lv_at hl 0 rfl) ?_
  refine z_get (ci := 3) hF hI in_X3 0 rfl rfl 3 (by decide) q158 rfl rfl dX3_put_1 ?_
  refine lv_aload_n hx hb dX3_put_4 rfl (lv_at hl 0 rfl) ?_
  refine z_get (ci := 3) hF hI in_X3 0 rfl rfl 4 (by decide) q159 rfl rfl dX3_put_5 ?_
  refine lv_iload_n hx hb dX3_put_8 rfl (lv_at hl 1 rfl) ?_
  refine z_iast hF hI 2 rfl (by omega) (by omega) dX3_put_9 (fun H locs hI => ?_)
  have hI : zW D A s.heap (mW h0 a b cB cI g d pt (zup t len x) len) H locs := hI
  refine lv_aload_n hx hb dX3_put_10 rfl (lv_at hl 0 rfl) ?_
  refine lv_aload_n hx hb dX3_put_11 rfl (lv_at hl 0 rfl) ?_
  refine z_get (ci := 3) hF hI in_X3 0 rfl rfl 4 (by decide) q159 rfl rfl dX3_put_12 ?_
  refine z_iconst hx hb dX3_put_15 ?_
  refine z_iadd hx hb dX3_put_16 ?_
  refine z_put (ci := 3) (v := .int (zI (len + 1))) (ty := .int) hF hI in_X3 tyX3 tyX3_ok nmX3 0 rfl rfl 4 (by decide) q159 rfl rfl (by decide +kernel) rfl rfl (Nat.le_of_ble_eq_true rfl) dX3_put_17 (fun H locs hI => ?_)
  have hI : zW D A s.heap (mW h0 a b cB cI g d pt (zup t len x) (len + 1)) H locs := hI
  exact z_vret (S := Unit) (post := (fun _ => True)) (w' := (fun _ => mW h0 a b cB cI g d pt (zup t len x) (len + 1))) hF hr hlk hI () trivial rfl dX3_put_20
set_option maxHeartbeats 4000000 in
set_option maxRecDepth 100000 in
/-- digit(k) -/
theorem m_digit (l : Launch) (D : va_G) (cB cI : ClassId) (h0 a b : Nat) (g : Int → Int) (d pt : Int) (t : Int → Int) (len : Int) (k : Int) (hd : 0 ≤ d ∧ d ≤ 1200) (hk : -2147483648 ≤ k ∧ k < 2147483648) : zMi (S := Unit) l yX3_digit cX3_digit 2 (some .int) ({ frames := 0, cells := 0, slots := 0, locals := 0 } : Room) D cB cI ([.ref h0, .int (zI k)] : List Value) (mW h0 a b cB cI g d pt t len) (fun r _ => r = if 0 ≤ k ∧ k < d then g k else 0) (fun _ => mW h0 a b cB cI g d pt t len) := by
  refine z_meti (by decide) (Nat.le_of_ble_eq_true rfl) ?_
  intro p e s m below meth c A hF hr hlk hnm hA hI ls hl
  have hx := hF.1
  have hb := hF.2.1
  have hown := hF.2.2.2.1
  have hts := hF.2.2.2.2.1
  have hl : lv_has ls 2 [(0, .ref h0), (1, .int (zI k))] := hl
  obtain ⟨H, eH⟩ : ∃ H : Heap, H = s.heap := ⟨_, rfl⟩
  obtain ⟨locs, eL⟩ : ∃ L : List Loc, L = [] := ⟨_, rfl⟩
  have hI : zW D A s.heap (mW h0 a b cB cI g d pt t len) H locs := by rw [eH, eL]; exact hI
  suffices hgo : W p l e ({ frames := 0, cells := 0, slots := 0, locals := 0 } : Room) s m ([.ref h0, .int (zI k)] : List Value).toArray below meth c H locs 0 0 (MQ below (va_Qi (zpi (fun r _ => r = if 0 ≤ k ∧ k < d then g k else 0)) (zPost D A (fun u : Int × (Unit) => (fun _ => mW h0 a b cB cI g d pt t len) u.2)) A) ([.ref h0, .int (zI k)] : List Value).toArray s ({ frames := 0, cells := 0, slots := 0, locals := 0 } : Room).cells ({ frames := 0, cells := 0, slots := 0, locals := 0 } : Room).slots A) (F0 m 0 ls []) by rw [eH, eL] at hgo; exact hgo
  clear eH eL
  refine lv_iload_n hx hb dX3_digit_0 rfl (lv_at hl 1 rfl) ?_
  refine z_if_lt (tgt := 21) hx hb (by omega) dX3_digit_1 (by decide) (fun h1 => ?_) (fun h1 => ?_)
  · skip
    refine z_iconst hx hb dX3_digit_21 ?_
    exact z_iret (S := Unit) (post := (fun r _ => r = if 0 ≤ k ∧ k < d then g k else 0)) (w' := (fun _ => mW h0 a b cB cI g d pt t len)) hF hr hlk hI () (by rw [if_neg (by omega)]) rfl dX3_digit_22
  · skip
    refine lv_iload_n hx hb dX3_digit_4 rfl (lv_at hl 1 rfl) ?_
    refine lv_aload_n hx hb dX3_digit_5 rfl (lv_at hl 0 rfl) ?_
    refine z_get (ci := 3) hF hI in_X3 0 rfl rfl 1 (by decide) q156 rfl rfl dX3_digit_6 ?_
    refine z_icmp_ge (tgt := 21) hx hb (by omega) (by omega) dX3_digit_9 (by decide) (fun h2 => ?_) (fun h2 => ?_)
    · skip
      refine z_iconst hx hb dX3_digit_21 ?_
      exact z_iret (S := Unit) (post := (fun r _ => r = if 0 ≤ k ∧ k < d then g k else 0)) (w' := (fun _ => mW h0 a b cB cI g d pt t len)) hF hr hlk hI () (by rw [if_neg (by omega)]) rfl dX3_digit_22
    · skip
      refine lv_aload_n hx hb dX3_digit_12 rfl (lv_at hl 0 rfl) ?_
      refine z_get (ci := 3) hF hI in_X3 0 rfl rfl 0 (by decide) q155 rfl rfl dX3_digit_13 ?_
      refine lv_iload_n hx hb dX3_digit_16 rfl (lv_at hl 1 rfl) ?_
      refine z_bald hF hI 1 rfl (by omega) (by omega) dX3_digit_17 ?_
      refine lv_goto (tgt := 22) hx hb dX3_digit_18 (by decide) ?_
      exact z_iret (S := Unit) (post := (fun r _ => r = if 0 ≤ k ∧ k < d then g k else 0)) (w' := (fun _ => mW h0 a b cB cI g d pt t len)) hF hr hlk hI () (by rw [if_pos (by omega)]) rfl dX3_digit_22
set_option maxHeartbeats 4000000 in
set_option maxRecDepth 100000 in
/-- trim() -/
theorem m_trim (l : Launch) (D : va_G) (cB cI : ClassId) (h0 a b : Nat) (g : Int → Int) (d pt : Int) (t : Int → Int) (len : Int) (n v : Nat) (hd : d = (n : Int)) (hR : Rw g n v) (hn : n ≤ 1200) (hpt : -200000 ≤ pt ∧ pt ≤ 200000) : zMv (S := (Int → Int) × Int × Int) l yX3_trim cX3_trim 3 ({ frames := 0, cells := 0, slots := 0, locals := 0 } : Room) D cB cI ([.ref h0] : List Value) (mW h0 a b cB cI g d pt t len) (trimP n v (pt - n)) (fun u => mW h0 a b cB cI u.1 u.2.1 u.2.2 t len) := by
  refine z_metv (by decide) (Nat.le_of_ble_eq_true rfl) ?_
  intro p e s m below meth c A hF hr hlk hnm hA hI ls hl
  have hx := hF.1
  have hb := hF.2.1
  have hown := hF.2.2.2.1
  have hts := hF.2.2.2.2.1
  have hl : lv_has ls 3 [(0, .ref h0)] := hl
  obtain ⟨H, eH⟩ : ∃ H : Heap, H = s.heap := ⟨_, rfl⟩
  obtain ⟨locs, eL⟩ : ∃ L : List Loc, L = [] := ⟨_, rfl⟩
  have hI : zW D A s.heap (mW h0 a b cB cI g d pt t len) H locs := by rw [eH, eL]; exact hI
  suffices hgo : W p l e ({ frames := 0, cells := 0, slots := 0, locals := 0 } : Room) s m ([.ref h0] : List Value).toArray below meth c H locs 0 0 (MQ below (va_Qv (trimP n v (pt - n)) (zPost D A (fun u => mW h0 a b cB cI u.1 u.2.1 u.2.2 t len)) A) ([.ref h0] : List Value).toArray s ({ frames := 0, cells := 0, slots := 0, locals := 0 } : Room).cells ({ frames := 0, cells := 0, slots := 0, locals := 0 } : Room).slots A) (F0 m 0 ls []) by rw [eH, eL] at hgo; exact hgo
  clear eH eL
  have L110 : ∀ (z dm : Int) (g2 : Int → Int) (mm v2 : Nat), (0 ≤ z ∧ z ≤ n) → (dm = (mm : Int)) → (Rw g2 mm v2) → (∃ j : Nat, v = v2 * 10 ^ j ∧ (n : Int) - z = mm + j) → (0 < mm → g2 0 ≠ 0) → (dm = 0 ∨ g2 (dm - 1) ≠ 0) → ∀ (H : Heap) (locs : List Loc), zW D A s.heap (mW h0 a b cB cI g2 dm (pt - z) t len) H locs → ∀ ls : Array Slot, lv_has ls 3 [(0, .ref h0)] → W p l e ({ frames := 0, cells := 0, slots := 0, locals := 0 } : Room) s m ([.ref h0] : List Value).toArray below meth c H locs 0 0 (MQ below (va_Qv (trimP n v (pt - n)) (zPost D A (fun u => mW h0 a b cB cI u.1 u.2.1 u.2.2 t len)) A) ([.ref h0] : List Value).toArray s ({ frames := 0, cells := 0, slots := 0, locals := 0 } : Room).cells ({ frames := 0, cells := 0, slots := 0, locals := 0 } : Room).slots A) (F0 m 110 ls []) := by
    intro z dm g2 mm v2 hz hdm hR2 hj hld hla H locs hI ls hl
    refine lv_aload_n hx hb dX3_trim_110 rfl (lv_at hl 0 rfl) ?_
    refine z_get (ci := 3) hF hI in_X3 0 rfl rfl 1 (by decide) q156 rfl rfl dX3_trim_111 ?_
    refine z_if_ne (tgt := 122) hx hb (by omega) dX3_trim_114 (by decide) (fun h1 => ?_) (fun h1 => ?_)
    · skip
      exact z_vret (S := (Int → Int) × Int × Int) (post := (trimP n v (pt - n))) (w' := (fun u => mW h0 a b cB cI u.1 u.2.1 u.2.2 t len)) hF hr hlk hI (g2, dm, pt - z) ⟨mm, v2, hdm, by omega, hR2, by obtain ⟨j, hj1, hj2⟩ := hj; exact trim_nf hR2 hj1 (by omega) (hld (by omega)) (by rcases hla with q | q; omega; rw [← hdm]; exact q) (by omega)⟩ rfl dX3_trim_122
    · skip
      refine lv_aload_n hx hb dX3_trim_117 rfl (lv_at hl 0 rfl) ?_
      refine z_iconst hx hb dX3_trim_118 ?_
      refine z_put (ci := 3) (v := .int (zI 0)) (ty := .int) hF hI in_X3 tyX3 tyX3_ok nmX3 0 rfl rfl 2 (by decide) q157 rfl rfl (by decide +kernel) rfl rfl (Nat.le_of_ble_eq_true rfl) dX3_trim_119 (fun H locs hI => ?_)
      have hI : zW D A s.heap (mW h0 a b cB cI g2 dm 0 t len) H locs := hI
      exact z_vret (S := (Int → Int) × Int × Int) (post := (trimP n v (pt - n))) (w' := (fun u => mW h0 a b cB cI u.1 u.2.1 u.2.2 t len)) hF hr hlk hI (g2, dm, 0) ⟨mm, v2, hdm, by omega, hR2, by obtain ⟨j, hj1, hj2⟩ := hj; obtain rfl : mm = 0 := (by omega); exact trim_nf0 hR2 hj1⟩ rfl dX3_trim_122
  have L76 : ∀ (n_ : Nat), ∀ (z dm : Int) (g2 : Int → Int) (mm v2 : Nat), dm < (n_ : Int) → (0 ≤ z ∧ z ≤ n) → (dm = (mm : Int)) → (Rw g2 mm v2) → (∃ j : Nat, v = v2 * 10 ^ j ∧ (n : Int) - z = mm + j) → (0 < mm → g2 0 ≠ 0) → ∀ (H : Heap) (locs : List Loc), zW D A s.heap (mW h0 a b cB cI g2 dm (pt - z) t len) H locs → ∀ ls : Array Slot, lv_has ls 3 [(0, .ref h0)] → W p l e ({ frames := 0, cells := 0, slots := 0, locals := 0 } : Room) s m ([.ref h0] : List Value).toArray below meth c H locs 0 0 (MQ below (va_Qv (trimP n v (pt - n)) (zPost D A (fun u => mW h0 a b cB cI u.1 u.2.1 u.2.2 t len)) A) ([.ref h0] : List Value).toArray s ({ frames := 0, cells := 0, slots := 0, locals := 0 } : Room).cells ({ frames := 0, cells := 0, slots := 0, locals := 0 } : Room).slots A) (F0 m 76 ls []) := by
    intro n_
    induction n_ with
    | zero =>
      intro z dm g2 mm v2 hm_ hz hdm hR2 hj hld H locs hI ls hl
      exfalso; omega
    | succ n_ ih_ =>
      intro z dm g2 mm v2 hm_ hz hdm hR2 hj hld H locs hI ls hl
      refine lv_aload_n hx hb dX3_trim_76 rfl (lv_at hl 0 rfl) ?_
      refine z_get (ci := 3) hF hI in_X3 0 rfl rfl 1 (by decide) q156 rfl rfl dX3_trim_77 ?_
      refine z_if_le (tgt := 110) hx hb (by omega) dX3_trim_80 (by decide) (fun h1 => ?_) (fun h1 => ?_)
      · skip
        exact L110 z dm g2 mm v2 hz hdm hR2 hj hld (by exact Or.inl (by omega)) H locs hI ls (lv_sub hl [0] rfl)
      · skip
        have hrg := hR2.rng (z := dm - 1) (by omega) (by omega)
        refine lv_aload_n hx hb dX3_trim_83 rfl (lv_at hl 0 rfl) ?_
        refine z_get (ci := 3) hF hI in_X3 0 rfl rfl 0 (by decide) q155 rfl rfl dX3_trim_84 ?_
        refine lv_aload_n hx hb dX3_trim_87 rfl (lv_at hl 0 rfl) ?_
        refine z_get (ci := 3) hF hI in_X3 0 rfl rfl 1 (by decide) q156 rfl rfl dX3_trim_88 ?_
        refine z_iconst hx hb dX3_trim_91 ?_
        refine z_isub hx hb dX3_trim_92 ?_
        refine z_bald hF hI 1 rfl (by omega) (by omega) dX3_trim_93 ?_
        refine z_if_ne (tgt := 110) hx hb (by omega) dX3_trim_94 (by decide) (fun h2 => ?_) (fun h2 => ?_)
        · skip
          exact L110 z dm g2 mm v2 hz hdm hR2 hj hld (by exact Or.inr h2) H locs hI ls (lv_sub hl [0] rfl)
        · skip
          obtain ⟨m1, rfl⟩ : ∃ m1, mm = m1 + 1 := ⟨mm - 1, by omega⟩
          have h3 := Rw_last hR2
          rw [show dm - 1 = (m1 : Int) by omega, h3] at h2
          refine lv_aload_n hx hb dX3_trim_97 rfl (lv_at hl 0 rfl) ?_
          refine lv_aload_n hx hb dX3_trim_98 rfl (lv_at hl 0 rfl) ?_
          refine z_get (ci := 3) hF hI in_X3 0 rfl rfl 1 (by decide) q156 rfl rfl dX3_trim_99 ?_
          refine z_iconst hx hb dX3_trim_102 ?_
          refine z_isub hx hb dX3_trim_103 ?_
          refine z_put (ci := 3) (v := .int (zI (dm - 1))) (ty := .int) hF hI in_X3 tyX3 tyX3_ok nmX3 0 rfl rfl 1 (by decide) q156 rfl rfl (by decide +kernel) rfl rfl (Nat.le_of_ble_eq_true rfl) dX3_trim_104 (fun H locs hI => ?_)
          have hI : zW D A s.heap (mW h0 a b cB cI g2 (dm - 1) (pt - z) t len) H locs := hI
          refine lv_goto (tgt := 76) hx hb dX3_trim_107 (by decide) ?_
          exact ih_ z (dm - 1) g2 m1 (v2 / 10) (by omega) hz (by omega) (Rw_pop hR2) (by obtain ⟨j, hj1, hj2⟩ := hj; exact ⟨j + 1, by rw [hj1, Nat.pow_succ, Nat.mul_comm (10 ^ j), ← Nat.mul_assoc]; congr 1; omega, by omega⟩) (by intro q; exact hld (by omega)) H locs hI ls (lv_sub hl [0] rfl)
  have L28 : ∀ (n_ : Nat), ∀ (z k : Int) (g2 : Int → Int), n - k < (n_ : Int) → (0 ≤ z ∧ z ≤ n) → (∀ i : Int, 0 ≤ i → i < z → g i = 0) → (z < n → g z ≠ 0) → (z ≤ k ∧ k ≤ n) → (∀ i : Int, 0 ≤ i → i < k - z → g2 i = g (i + z)) → (∀ i : Int, k ≤ i → g2 i = g i) → ∀ (H : Heap) (locs : List Loc), zW D A s.heap (mW h0 a b cB cI g2 d pt t len) H locs → ∀ ls : Array Slot, lv_has ls 3 [(0, .ref h0), (1, .int (zI z)), (2, .int (zI k))] → W p l e ({ frames := 0, cells := 0, slots := 0, locals := 0 } : Room) s m ([.ref h0] : List Value).toArray below meth c H locs 0 0 (MQ below (va_Qv (trimP n v (pt - n)) (zPost D A (fun u => mW h0 a b cB cI u.1 u.2.1 u.2.2 t len)) A) ([.ref h0] : List Value).toArray s ({ frames := 0, cells := 0, slots := 0, locals := 0 } : Room).cells ({ frames := 0, cells := 0, slots := 0, locals := 0 } : Room).slots A) (F0 m 28 ls []) := by
    intro n_
    induction n_ with
    | zero =>
      intro z k g2 hm_ hz hz0 hz1 hk hs hk2 H locs hI ls hl
      exfalso; omega
    | succ n_ ih_ =>
      intro z k g2 hm_ hz hz0 hz1 hk hs hk2 H locs hI ls hl
      refine lv_iload_n hx hb dX3_trim_28 rfl (lv_at hl 2 rfl) ?_
      refine lv_aload_n hx hb dX3_trim_29 rfl (lv_at hl 0 rfl) ?_
      refine z_get (ci := 3) hF hI in_X3 0 rfl rfl 1 (by decide) q156 rfl rfl dX3_trim_30 ?_
      refine z_icmp_ge (tgt := 56) hx hb (by omega) (by omega) dX3_trim_33 (by decide) (fun h1 => ?_) (fun h1 => ?_)
      · skip
        refine lv_aload_n hx hb dX3_trim_56 rfl (lv_at hl 0 rfl) ?_
        refine lv_aload_n hx hb dX3_trim_57 rfl (lv_at hl 0 rfl) ?_
        refine z_get (ci := 3) hF hI in_X3 0 rfl rfl 1 (by decide) q156 rfl rfl dX3_trim_58 ?_
        refine lv_iload_n hx hb dX3_trim_61 rfl (lv_at hl 1 rfl) ?_
        refine z_isub hx hb dX3_trim_62 ?_
        refine z_put (ci := 3) (v := .int (zI (d - z))) (ty := .int) hF hI in_X3 tyX3 tyX3_ok nmX3 0 rfl rfl 1 (by decide) q156 rfl rfl (by decide +kernel) rfl rfl (Nat.le_of_ble_eq_true rfl) dX3_trim_63 (fun H locs hI => ?_)
        have hI : zW D A s.heap (mW h0 a b cB cI g2 (d - z) pt t len) H locs := hI
        refine lv_aload_n hx hb dX3_trim_66 rfl (lv_at hl 0 rfl) ?_
        refine lv_aload_n hx hb dX3_trim_67 rfl (lv_at hl 0 rfl) ?_
        refine z_get (ci := 3) hF hI in_X3 0 rfl rfl 2 (by decide) q157 rfl rfl dX3_trim_68 ?_
        refine lv_iload_n hx hb dX3_trim_71 rfl (lv_at hl 1 rfl) ?_
        refine z_isub hx hb dX3_trim_72 ?_
        refine z_put (ci := 3) (v := .int (zI (pt - z))) (ty := .int) hF hI in_X3 tyX3 tyX3_ok nmX3 0 rfl rfl 2 (by decide) q157 rfl rfl (by decide +kernel) rfl rfl (Nat.le_of_ble_eq_true rfl) dX3_trim_73 (fun H locs hI => ?_)
        have hI : zW D A s.heap (mW h0 a b cB cI g2 (d - z) (pt - z) t len) H locs := hI
        exact L76 ((d - z + 1).toNat) z (d - z) g2 (n - z.toNat) v (by omega) hz (by omega) (by exact Rw_shift hR hz hz0 (fun i q1 q2 => hs i q1 (by omega))) (by exact ⟨0, by simp, by omega⟩) (by intro q; have q2 := hs 0 (by omega) (by omega); rw [q2, show (0 : Int) + z = z by omega]; exact hz1 (by omega)) H locs hI ls (lv_sub hl [0] rfl)
      · skip
        have hrg : 0 ≤ g2 k ∧ g2 k ≤ 9 := by rw [hk2 k (by omega)]; exact hR.rng (by omega) (by omega)
        refine lv_aload_n hx hb dX3_trim_36 rfl (lv_at hl 0 rfl) ?_
        refine z_get (ci := 3) hF hI in_X3 0 rfl rfl 0 (by decide) q155 rfl rfl dX3_trim_37 ?_
        refine lv_iload_n hx hb dX3_trim_40 rfl (lv_at hl 2 rfl) ?_
        refine lv_iload_n hx hb dX3_trim_41 rfl (lv_at hl 1 rfl) ?_
        refine z_isub hx hb dX3_trim_42 ?_
        refine lv_aload_n hx hb dX3_trim_43 rfl (lv_at hl 0 rfl) ?_
        refine z_get (ci := 3) hF hI in_X3 0 rfl rfl 0 (by decide) q155 rfl rfl dX3_trim_44 ?_
        refine lv_iload_n hx hb dX3_trim_47 rfl (lv_at hl 2 rfl) ?_
        refine z_bald hF hI 1 rfl (by omega) (by omega) dX3_trim_48 ?_
        refine z_bast hF hI 1 rfl (by omega) (by omega) (by omega) dX3_trim_49 (fun H locs hI => ?_)
        have hI : zW D A s.heap (mW h0 a b cB cI (zup g2 (k - z) (g2 k)) d pt t len) H locs := hI
        refine lv_iinc (lv' := [(2, .int (zI (k + 1))), (0, .ref h0), (1, .int (zI z))]) (k := 2) hx hb dX3_trim_50 hl rfl (zI_add _ _) (by decide) rfl (fun ls hl => ?_)
        refine lv_goto (tgt := 28) hx hb dX3_trim_53 (by decide) ?_
        exact ih_ z (k + 1) (zup g2 (k - z) (g2 k)) (by omega) hz hz0 hz1 (by omega) (by intro i q1 q2; by_cases q : i = k - z; (rw [q, zup_same, hk2 k (by omega)]; congr 1; omega); (rw [zup_ne _ _ q]; exact hs i q1 (by omega))) (by intro i q1; rw [zup_ne _ _ (by omega)]; exact hk2 i (by omega)) H locs hI ls (lv_sub hl [1, 2, 0] rfl)
  have L26 : ∀ (z : Int), (0 ≤ z ∧ z ≤ n) → (∀ i : Int, 0 ≤ i → i < z → g i = 0) → (z < n → g z ≠ 0) → ∀ (H : Heap) (locs : List Loc), zW D A s.heap (mW h0 a b cB cI g d pt t len) H locs → ∀ ls : Array Slot, lv_has ls 3 [(0, .ref h0), (1, .int (zI z))] → W p l e ({ frames := 0, cells := 0, slots := 0, locals := 0 } : Room) s m ([.ref h0] : List Value).toArray below meth c H locs 0 0 (MQ below (va_Qv (trimP n v (pt - n)) (zPost D A (fun u => mW h0 a b cB cI u.1 u.2.1 u.2.2 t len)) A) ([.ref h0] : List Value).toArray s ({ frames := 0, cells := 0, slots := 0, locals := 0 } : Room).cells ({ frames := 0, cells := 0, slots := 0, locals := 0 } : Room).slots A) (F0 m 26 ls []) := by
    intro z hz hz0 hz1 H locs hI ls hl
    refine lv_iload_n hx hb dX3_trim_26 rfl (lv_at hl 1 rfl) ?_
    refine lv_istore_n (lv' := [(2, .int (zI z)), (0, .ref h0), (1, .int (zI z))]) hx hb dX3_trim_27 rfl hl (by decide) rfl (fun ls hl => ?_)
    exact L28 ((n - z + 1).toNat) z z g (by omega) hz hz0 hz1 (by omega) (by intro i q1 q2; exfalso; omega) (by intro i q1; rfl) H locs hI ls (lv_sub hl [1, 2, 0] rfl)
  have L2 : ∀ (n_ : Nat), ∀ (z : Int), n - z < (n_ : Int) → (0 ≤ z ∧ z ≤ n) → (∀ i : Int, 0 ≤ i → i < z → g i = 0) → ∀ (H : Heap) (locs : List Loc), zW D A s.heap (mW h0 a b cB cI g d pt t len) H locs → ∀ ls : Array Slot, lv_has ls 3 [(0, .ref h0), (1, .int (zI z))] → W p l e ({ frames := 0, cells := 0, slots := 0, locals := 0 } : Room) s m ([.ref h0] : List Value).toArray below meth c H locs 0 0 (MQ below (va_Qv (trimP n v (pt - n)) (zPost D A (fun u => mW h0 a b cB cI u.1 u.2.1 u.2.2 t len)) A) ([.ref h0] : List Value).toArray s ({ frames := 0, cells := 0, slots := 0, locals := 0 } : Room).cells ({ frames := 0, cells := 0, slots := 0, locals := 0 } : Room).slots A) (F0 m 2 ls []) := by
    intro n_
    induction n_ with
    | zero =>
      intro z hm_ hz hz0 H locs hI ls hl
      exfalso; omega
    | succ n_ ih_ =>
      intro z hm_ hz hz0 H locs hI ls hl
      refine lv_iload_n hx hb dX3_trim_2 rfl (lv_at hl 1 rfl) ?_
      refine lv_aload_n hx hb dX3_trim_3 rfl (lv_at hl 0 rfl) ?_
      refine z_get (ci := 3) hF hI in_X3 0 rfl rfl 1 (by decide) q156 rfl rfl dX3_trim_4 ?_
      refine z_icmp_ge (tgt := 26) hx hb (by omega) (by omega) dX3_trim_7 (by decide) (fun h1 => ?_) (fun h1 => ?_)
      · skip
        exact L26 z hz hz0 (by intro q; exfalso; omega) H locs hI ls (lv_sub hl [0, 1] rfl)
      · skip
        have hrg := hR.rng (z := z) (by omega) (by omega)
        refine lv_aload_n hx hb dX3_trim_10 rfl (lv_at hl 0 rfl) ?_
        refine z_get (ci := 3) hF hI in_X3 0 rfl rfl 0 (by decide) q155 rfl rfl dX3_trim_11 ?_
        refine lv_iload_n hx hb dX3_trim_14 rfl (lv_at hl 1 rfl) ?_
        refine z_bald hF hI 1 rfl (by omega) (by omega) dX3_trim_15 ?_
        refine z_if_ne (tgt := 26) hx hb (by omega) dX3_trim_16 (by decide) (fun h2 => ?_) (fun h2 => ?_)
        · skip
          exact L26 z hz hz0 (by exact fun _ => h2) H locs hI ls (lv_sub hl [0, 1] rfl)
        · skip
          refine lv_iload_n hx hb dX3_trim_19 rfl (lv_at hl 1 rfl) ?_
          refine z_iconst hx hb dX3_trim_20 ?_
          refine z_iadd hx hb dX3_trim_21 ?_
          refine lv_istore_n (lv' := [(1, .int (zI (z + 1))), (0, .ref h0)]) hx hb dX3_trim_22 rfl hl (by decide) rfl (fun ls hl => ?_)
          refine lv_goto (tgt := 2) hx hb dX3_trim_23 (by decide) ?_
          exact ih_ (z + 1) (by omega) (by omega) (by intro i q1 q2; by_cases q : i = z; (rw [q]; exact h2); exact hz0 i q1 (by omega)) H locs hI ls (lv_sub hl [1, 0] rfl)
  refine z_iconst hx hb dX3_trim_0 ?_
  refine lv_istore_n (lv' := [(1, .int (zI 0)), (0, .ref h0)]) hx hb dX3_trim_1 rfl hl (by decide) rfl (fun ls hl => ?_)
  exact L2 (n + 1) 0 (by omega) (by omega) (by intro i q1 q2; exfalso; omega) H locs hI ls (lv_sub hl [1, 0] rfl)
end
section
set_option maxHeartbeats 4000000 in
set_option maxRecDepth 100000 in
/-- twice() -/
theorem m_twice (l : Launch) (D : va_G) (cB cI : ClassId) (h0 a b : Nat) (g : Int → Int) (d pt : Int) (t : Int → Int) (len : Int) (n v : Nat) (hd : d = (n : Int)) (hR : Rw g n v) (hn : n ≤ 1199) (hpt : -100000 ≤ pt ∧ pt ≤ 100000) : zMv (S := (Int → Int) × Int × Int) l yX3_twice cX3_twice 4 ({ frames := 1, cells := 0, slots := 0, locals := 22 } : Room) D cB cI ([.ref h0] : List Value) (mW h0 a b cB cI g d pt t len) (trimP (n + 1) (2 * v) (pt - n)) (fun u => mW h0 a b cB cI u.1 u.2.1 u.2.2 t len) := by
  refine z_metv (by decide) (Nat.le_of_ble_eq_true rfl) ?_
  intro p e s m below meth c A hF hr hlk hnm hA hI ls hl
  have hx := hF.1
  have hb := hF.2.1
  have hown := hF.2.2.2.1
  have hts := hF.2.2.2.2.1
  have hl : lv_has ls 4 [(0, .ref h0)] := hl
  obtain ⟨H, eH⟩ : ∃ H : Heap, H = s.heap := ⟨_, rfl⟩
  obtain ⟨locs, eL⟩ : ∃ L : List Loc, L = [] := ⟨_, rfl⟩
  have hI : zW D A s.heap (mW h0 a b cB cI g d pt t len) H locs := by rw [eH, eL]; exact hI
  suffices hgo : W p l e ({ frames := 1, cells := 0, slots := 0, locals := 22 } : Room) s m ([.ref h0] : List Value).toArray below meth c H locs 0 0 (MQ below (va_Qv (trimP (n + 1) (2 * v) (pt - n)) (zPost D A (fun u => mW h0 a b cB cI u.1 u.2.1 u.2.2 t len)) A) ([.ref h0] : List Value).toArray s ({ frames := 1, cells := 0, slots := 0, locals := 22 } : Room).cells ({ frames := 1, cells := 0, slots := 0, locals := 22 } : Room).slots A) (F0 m 0 ls []) by rw [eH, eL] at hgo; exact hgo
  clear eH eL
  have L107 : ∀ (g2 : Int → Int) (d2 p2 : Int) (n2 : Nat), (d2 = (n2 : Int)) → (Rw g2 n2 (2 * v)) → (n2 ≤ n + 1) → (p2 - n2 = pt - n) → ∀ (H : Heap) (locs : List Loc), zW D A s.heap (mW h0 a b cB cI g2 d2 p2 t len) H locs → ∀ ls : Array Slot, lv_has ls 4 [(0, .ref h0)] → W p l e ({ frames := 1, cells := 0, slots := 0, locals := 22 } : Room) s m ([.ref h0] : List Value).toArray below meth c H locs 0 0 (MQ below (va_Qv (trimP (n + 1) (2 * v) (pt - n)) (zPost D A (fun u => mW h0 a b cB cI u.1 u.2.1 u.2.2 t len)) A) ([.ref h0] : List Value).toArray s ({ frames := 1, cells := 0, slots := 0, locals := 22 } : Room).cells ({ frames := 1, cells := 0, slots := 0, locals := 22 } : Room).slots A) (F0 m 107 ls []) := by
    intro g2 d2 p2 n2 hd2 hR2 hn2 hp2 H locs hI ls hl
    refine lv_aload_n hx hb dX3_twice_107 rfl (lv_at hl 0 rfl) ?_
    refine z_callVv (As := []) (rest := []) (wr := ([] : va_W)) (C := "DecimalTextModel") (ci := 3) hF (m_trim l D cB cI h0 a b g2 d2 p2 t len n2 (2 * v) hd2 hR2 (by omega) (by omega)) (lw_V q194 q196 qs6 q17 q197) (by decide +kernel) ⟨Nat.le_of_ble_eq_true rfl, Nat.le_of_ble_eq_true rfl⟩ hI hA [0, 1, 2] [] rfl rfl rfl rfl (by decide) rfl rfl rfl hl.1 rfl (lv_room (Nat.le_of_ble_eq_true rfl)) dX3_twice_108 ⟨Nat.le_of_ble_eq_true rfl, Nat.le_of_ble_eq_true rfl⟩ (fun u H locs hu hI => ?_)
    obtain ⟨g3, d3, p3⟩ := u
    have hI : zW D A s.heap (mW h0 a b cB cI g3 d3 p3 t len) H locs := hI
    obtain ⟨n3, v3, hd3, hn3, hR3, hN3⟩ := hu
    exact z_vret (S := (Int → Int) × Int × Int) (post := (trimP (n + 1) (2 * v) (pt - n))) (w' := (fun u => mW h0 a b cB cI u.1 u.2.1 u.2.2 t len)) hF hr hlk hI (g3, d3, p3) ⟨n3, v3, hd3, by omega, hR3, Nf_x hN3 (by omega)⟩ rfl dX3_twice_111
  have L55 : ∀ (n_ : Nat), ∀ (k cy : Int) (g1 g2 : Int → Int), k < (n_ : Int) → (0 ≤ k ∧ k ≤ n) → (Tw g n v (-1) g1 cy) → (0 ≤ cy ∧ cy ≤ 1) → (∀ i : Int, 0 ≤ i → i < n → 0 ≤ g1 i ∧ g1 i ≤ 9) → (∀ i : Int, k < i → i ≤ n → g2 i = g1 (i - 1)) → (∀ i : Int, 0 ≤ i → i ≤ k → g2 i = g1 i) → ∀ (H : Heap) (locs : List Loc), zW D A s.heap (mW h0 a b cB cI g2 d pt t len) H locs → ∀ ls : Array Slot, lv_has ls 4 [(0, .ref h0), (1, .int (zI cy)), (2, .int (zI k))] → W p l e ({ frames := 1, cells := 0, slots := 0, locals := 22 } : Room) s m ([.ref h0] : List Value).toArray below meth c H locs 0 0 (MQ below (va_Qv (trimP (n + 1) (2 * v) (pt - n)) (zPost D A (fun u => mW h0 a b cB cI u.1 u.2.1 u.2.2 t len)) A) ([.ref h0] : List Value).toArray s ({ frames := 1, cells := 0, slots := 0, locals := 22 } : Room).cells ({ frames := 1, cells := 0, slots := 0, locals := 22 } : Room).slots A) (F0 m 55 ls []) := by
    intro n_
    induction n_ with
    | zero =>
      intro k cy g1 g2 hm_ hk hT hcy hg hs hk2 H locs hI ls hl
      exfalso; omega
    | succ n_ ih_ =>
      intro k cy g1 g2 hm_ hk hT hcy hg hs hk2 H locs hI ls hl
      refine lv_iload_n hx hb dX3_twice_55 rfl (lv_at hl 2 rfl) ?_
      refine z_if_le (tgt := 79) hx hb (by omega) dX3_twice_56 (by decide) (fun h1 => ?_) (fun h1 => ?_)
      · skip
        refine lv_aload_n hx hb dX3_twice_79 rfl (lv_at hl 0 rfl) ?_
        refine z_get (ci := 3) hF hI in_X3 0 rfl rfl 0 (by decide) q155 rfl rfl dX3_twice_80 ?_
        refine z_iconst hx hb dX3_twice_83 ?_
        refine lv_iload_n hx hb dX3_twice_84 rfl (lv_at hl 1 rfl) ?_
        refine z_i2b hx hb (by omega) dX3_twice_85 ?_
        refine z_bast hF hI 1 rfl (by omega) (by omega) (by omega) dX3_twice_86 (fun H locs hI => ?_)
        have hI : zW D A s.heap (mW h0 a b cB cI (zup g2 0 cy) d pt t len) H locs := hI
        refine lv_aload_n hx hb dX3_twice_87 rfl (lv_at hl 0 rfl) ?_
        refine lv_aload_n hx hb dX3_twice_88 rfl (lv_at hl 0 rfl) ?_
        refine z_get (ci := 3) hF hI in_X3 0 rfl rfl 1 (by decide) q156 rfl rfl dX3_twice_89 ?_
        refine z_iconst hx hb dX3_twice_92 ?_
        refine z_iadd hx hb dX3_twice_93 ?_
        refine z_put (ci := 3) (v := .int (zI (d + 1))) (ty := .int) hF hI in_X3 tyX3 tyX3_ok nmX3 0 rfl rfl 1 (by decide) q156 rfl rfl (by decide +kernel) rfl rfl (Nat.le_of_ble_eq_true rfl) dX3_twice_94 (fun H locs hI => ?_)
        have hI : zW D A s.heap (mW h0 a b cB cI (zup g2 0 cy) (d + 1) pt t len) H locs := hI
        refine lv_aload_n hx hb dX3_twice_97 rfl (lv_at hl 0 rfl) ?_
        refine lv_aload_n hx hb dX3_twice_98 rfl (lv_at hl 0 rfl) ?_
        refine z_get (ci := 3) hF hI in_X3 0 rfl rfl 2 (by decide) q157 rfl rfl dX3_twice_99 ?_
        refine z_iconst hx hb dX3_twice_102 ?_
        refine z_iadd hx hb dX3_twice_103 ?_
        refine z_put (ci := 3) (v := .int (zI (pt + 1))) (ty := .int) hF hI in_X3 tyX3 tyX3_ok nmX3 0 rfl rfl 2 (by decide) q157 rfl rfl (by decide +kernel) rfl rfl (Nat.le_of_ble_eq_true rfl) dX3_twice_104 (fun H locs hI => ?_)
        have hI : zW D A s.heap (mW h0 a b cB cI (zup g2 0 cy) (d + 1) (pt + 1) t len) H locs := hI
        exact L107 (zup g2 0 cy) (d + 1) (pt + 1) (n + 1) (by omega) (by exact Tw_carry rfl hR hT (fun i q1 q2 => hs i (by omega) q2)) (by omega) (by omega) H locs hI ls (lv_sub hl [0] rfl)
      · skip
        have hrg : 0 ≤ g2 (k - 1) ∧ g2 (k - 1) ≤ 9 := by rw [hk2 (k - 1) (by omega) (by omega)]; exact hg (k - 1) (by omega) (by omega)
        refine lv_aload_n hx hb dX3_twice_59 rfl (lv_at hl 0 rfl) ?_
        refine z_get (ci := 3) hF hI in_X3 0 rfl rfl 0 (by decide) q155 rfl rfl dX3_twice_60 ?_
        refine lv_iload_n hx hb dX3_twice_63 rfl (lv_at hl 2 rfl) ?_
        refine lv_aload_n hx hb dX3_twice_64 rfl (lv_at hl 0 rfl) ?_
        refine z_get (ci := 3) hF hI in_X3 0 rfl rfl 0 (by decide) q155 rfl rfl dX3_twice_65 ?_
        refine lv_iload_n hx hb dX3_twice_68 rfl (lv_at hl 2 rfl) ?_
        refine z_iconst hx hb dX3_twice_69 ?_
        refine z_isub hx hb dX3_twice_70 ?_
        refine z_bald hF hI 1 rfl (by omega) (by omega) dX3_twice_71 ?_
        refine z_bast hF hI 1 rfl (by omega) (by omega) (by omega) dX3_twice_72 (fun H locs hI => ?_)
        have hI : zW D A s.heap (mW h0 a b cB cI (zup g2 k (g2 (k - 1))) d pt t len) H locs := hI
        refine lv_iinc (lv' := [(2, .int (zI (k + (-1)))), (0, .ref h0), (1, .int (zI cy))]) (k := 2) hx hb dX3_twice_73 hl rfl (zI_add _ _) (by decide) rfl (fun ls hl => ?_)
        refine lv_goto (tgt := 55) hx hb dX3_twice_76 (by decide) ?_
        exact ih_ (k + -1) cy g1 (zup g2 k (g2 (k - 1))) (by omega) (by omega) hT hcy hg (by intro i q1 q2; by_cases q : i = k; (rw [q, zup_same]; exact hk2 _ (by omega) (by omega)); (rw [zup_ne _ _ q]; exact hs i (by omega) q2)) (by intro i q1 q2; rw [zup_ne _ _ (by omega)]; exact hk2 i q1 (by omega)) H locs hI ls (lv_sub hl [1, 2, 0] rfl)
  have L9 : ∀ (n_ : Nat), ∀ (k cy : Int) (g1 : Int → Int), k + 1 < (n_ : Int) → (-1 ≤ k ∧ k < n) → (Tw g n v k g1 cy) → ∀ (H : Heap) (locs : List Loc), zW D A s.heap (mW h0 a b cB cI g1 d pt t len) H locs → ∀ ls : Array Slot, lv_has ls 4 [(0, .ref h0), (1, .int (zI cy)), (2, .int (zI k))] → W p l e ({ frames := 1, cells := 0, slots := 0, locals := 22 } : Room) s m ([.ref h0] : List Value).toArray below meth c H locs 0 0 (MQ below (va_Qv (trimP (n + 1) (2 * v) (pt - n)) (zPost D A (fun u => mW h0 a b cB cI u.1 u.2.1 u.2.2 t len)) A) ([.ref h0] : List Value).toArray s ({ frames := 1, cells := 0, slots := 0, locals := 22 } : Room).cells ({ frames := 1, cells := 0, slots := 0, locals := 22 } : Room).slots A) (F0 m 9 ls []) := by
    intro n_
    induction n_ with
    | zero =>
      intro k cy g1 hm_ hk hT H locs hI ls hl
      exfalso; omega
    | succ n_ ih_ =>
      intro k cy g1 hm_ hk hT H locs hI ls hl
      refine lv_iload_n hx hb dX3_twice_9 rfl (lv_at hl 2 rfl) ?_
      refine z_if_lt (tgt := 46) hx hb (by omega) dX3_twice_10 (by decide) (fun h1 => ?_) (fun h1 => ?_)
      · skip
        obtain rfl : k = -1 := (by omega)
        obtain ⟨hc1, hc2, hc3⟩ := Tw_end rfl hR hT
        have hcy : 0 ≤ cy ∧ cy ≤ 1 := (by rw [hc1] at hc2 ⊢; generalize 2 * v / 10 ^ n = q at *; omega)
        refine lv_iload_n hx hb dX3_twice_46 rfl (lv_at hl 1 rfl) ?_
        refine z_if_le (tgt := 107) hx hb (by omega) dX3_twice_47 (by decide) (fun h2 => ?_) (fun h2 => ?_)
        · skip
          exact L107 g1 d pt n hd (by exact Tw_none rfl hR hT h2) (by omega) (by omega) H locs hI ls (lv_sub hl [0] rfl)
        · skip
          refine lv_aload_n hx hb dX3_twice_50 rfl (lv_at hl 0 rfl) ?_
          refine z_get (ci := 3) hF hI in_X3 0 rfl rfl 1 (by decide) q156 rfl rfl dX3_twice_51 ?_
          refine lv_istore_n (lv' := [(2, .int (zI d)), (0, .ref h0), (1, .int (zI cy))]) hx hb dX3_twice_54 rfl hl (by decide) rfl (fun ls hl => ?_)
          exact L55 (n + 1) d cy g1 g1 (by omega) (by omega) hT hcy (by intro i q1 q2; obtain ⟨j, rfl⟩ := Int.eq_ofNat_of_zero_le q1; rw [hc3 j (by omega)]; generalize 2 * v / 10 ^ (n - 1 - j) = q at *; omega) (by intro i q1 q2; exfalso; omega) (by intro i q1 q2; rfl) H locs hI ls (lv_sub hl [1, 2, 0] rfl)
      · skip
        have hrg := Tw_rng hR (by omega) hT
        refine z_iconst hx hb dX3_twice_13 ?_
        refine lv_aload_n hx hb dX3_twice_14 rfl (lv_at hl 0 rfl) ?_
        refine z_get (ci := 3) hF hI in_X3 0 rfl rfl 0 (by decide) q155 rfl rfl dX3_twice_15 ?_
        refine lv_iload_n hx hb dX3_twice_18 rfl (lv_at hl 2 rfl) ?_
        refine z_bald hF hI 1 rfl (by omega) (by omega) dX3_twice_19 ?_
        refine z_imul hx hb dX3_twice_20 ?_
        refine lv_iload_n hx hb dX3_twice_21 rfl (lv_at hl 1 rfl) ?_
        refine z_iadd hx hb dX3_twice_22 ?_
        refine lv_istore_n (lv' := [(3, .int (zI ((2 * (g1 k)) + cy))), (0, .ref h0), (1, .int (zI cy)), (2, .int (zI k))]) hx hb dX3_twice_23 rfl hl (by decide) rfl (fun ls hl => ?_)
        refine lv_aload_n hx hb dX3_twice_24 rfl (lv_at hl 1 rfl) ?_
        refine z_get (ci := 3) hF hI in_X3 0 rfl rfl 0 (by decide) q155 rfl rfl dX3_twice_25 ?_
        refine lv_iload_n hx hb dX3_twice_28 rfl (lv_at hl 3 rfl) ?_
        refine lv_iload_n hx hb dX3_twice_29 rfl (lv_at hl 0 rfl) ?_
        refine z_bipush hx hb dX3_twice_30 (by decide) ?_
        refine z_irem hx hb (by omega) (by omega) dX3_twice_32 ?_
        refine z_i2b hx hb (by omega) dX3_twice_33 ?_
        refine z_bast hF hI 1 rfl (by omega) (by omega) (by omega) dX3_twice_34 (fun H locs hI => ?_)
        have hI : zW D A s.heap (mW h0 a b cB cI (zup g1 k (((2 * (g1 k)) + cy) % 10)) d pt t len) H locs := hI
        refine lv_iload_n hx hb dX3_twice_35 rfl (lv_at hl 0 rfl) ?_
        refine z_bipush hx hb dX3_twice_36 (by decide) ?_
        refine z_idiv hx hb (by omega) (by omega) dX3_twice_38 ?_
        refine lv_istore_n (lv' := [(1, .int (zI (((2 * (g1 k)) + cy) / 10))), (3, .int (zI ((2 * (g1 k)) + cy))), (0, .ref h0), (2, .int (zI k))]) hx hb dX3_twice_39 rfl hl (by decide) rfl (fun ls hl => ?_)
        refine lv_iinc (lv' := [(2, .int (zI (k + (-1)))), (1, .int (zI (((2 * (g1 k)) + cy) / 10))), (3, .int (zI ((2 * (g1 k)) + cy))), (0, .ref h0)]) (k := 3) hx hb dX3_twice_40 hl rfl (zI_add _ _) (by decide) rfl (fun ls hl => ?_)
        refine lv_goto (tgt := 9) hx hb dX3_twice_43 (by decide) ?_
        exact ih_ (k + -1) ((2 * (g1 k) + cy) / 10) (zup g1 k ((2 * (g1 k) + cy) % 10)) (by omega) (by omega) (by exact Tw_step hR (by omega) hT) H locs hI ls (lv_sub hl [3, 1, 0] rfl)
  refine z_iconst hx hb dX3_twice_0 ?_
  refine lv_istore_n (lv' := [(1, .int (zI 0)), (0, .ref h0)]) hx hb dX3_twice_1 rfl hl (by decide) rfl (fun ls hl => ?_)
  refine lv_aload_n hx hb dX3_twice_2 rfl (lv_at hl 1 rfl) ?_
  refine z_get (ci := 3) hF hI in_X3 0 rfl rfl 1 (by decide) q156 rfl rfl dX3_twice_3 ?_
  refine z_iconst hx hb dX3_twice_6 ?_
  refine z_isub hx hb dX3_twice_7 ?_
  refine lv_istore_n (lv' := [(2, .int (zI (d - 1))), (1, .int (zI 0)), (0, .ref h0)]) hx hb dX3_twice_8 rfl hl (by decide) rfl (fun ls hl => ?_)
  exact L9 (n + 1) (d - 1) 0 g (by omega) (by omega) (by rw [hd]; exact Tw_init) H locs hI ls (lv_sub hl [2, 1, 0] rfl)
set_option maxHeartbeats 4000000 in
set_option maxRecDepth 100000 in
/-- half() -/
theorem m_half (l : Launch) (D : va_G) (cB cI : ClassId) (h0 a b : Nat) (g : Int → Int) (d pt : Int) (t : Int → Int) (len : Int) (n v : Nat) (hd : d = (n : Int)) (hR : Rw g n v) (hn : n ≤ 1199) (hpt : -100000 ≤ pt ∧ pt ≤ 100000) : zMv (S := (Int → Int) × Int × Int) l yX3_half cX3_half 4 ({ frames := 1, cells := 0, slots := 0, locals := 22 } : Room) D cB cI ([.ref h0] : List Value) (mW h0 a b cB cI g d pt t len) (trimP (n + 1) (5 * v) (pt - n - 1)) (fun u => mW h0 a b cB cI u.1 u.2.1 u.2.2 t len) := by
  refine z_metv (by decide) (Nat.le_of_ble_eq_true rfl) ?_
  intro p e s m below meth c A hF hr hlk hnm hA hI ls hl
  have hx := hF.1
  have hb := hF.2.1
  have hown := hF.2.2.2.1
  have hts := hF.2.2.2.2.1
  have hl : lv_has ls 4 [(0, .ref h0)] := hl
  obtain ⟨H, eH⟩ : ∃ H : Heap, H = s.heap := ⟨_, rfl⟩
  obtain ⟨locs, eL⟩ : ∃ L : List Loc, L = [] := ⟨_, rfl⟩
  have hI : zW D A s.heap (mW h0 a b cB cI g d pt t len) H locs := by rw [eH, eL]; exact hI
  suffices hgo : W p l e ({ frames := 1, cells := 0, slots := 0, locals := 22 } : Room) s m ([.ref h0] : List Value).toArray below meth c H locs 0 0 (MQ below (va_Qv (trimP (n + 1) (5 * v) (pt - n - 1)) (zPost D A (fun u => mW h0 a b cB cI u.1 u.2.1 u.2.2 t len)) A) ([.ref h0] : List Value).toArray s ({ frames := 1, cells := 0, slots := 0, locals := 22 } : Room).cells ({ frames := 1, cells := 0, slots := 0, locals := 22 } : Room).slots A) (F0 m 0 ls []) by rw [eH, eL] at hgo; exact hgo
  clear eH eL
  have L68 : ∀ (g2 : Int → Int) (d2 : Int) (n2 w2 : Nat), (d2 = (n2 : Int)) → (Rw g2 n2 w2) → (n2 ≤ n + 1) → (∀ (v3 n3 : Nat) (p3 : Int), Nf w2 (pt - n2) v3 n3 p3 → Nf (5 * v) (pt - n - 1) v3 n3 p3) → ∀ (H : Heap) (locs : List Loc), zW D A s.heap (mW h0 a b cB cI g2 d2 pt t len) H locs → ∀ ls : Array Slot, lv_has ls 4 [(0, .ref h0)] → W p l e ({ frames := 1, cells := 0, slots := 0, locals := 22 } : Room) s m ([.ref h0] : List Value).toArray below meth c H locs 0 0 (MQ below (va_Qv (trimP (n + 1) (5 * v) (pt - n - 1)) (zPost D A (fun u => mW h0 a b cB cI u.1 u.2.1 u.2.2 t len)) A) ([.ref h0] : List Value).toArray s ({ frames := 1, cells := 0, slots := 0, locals := 22 } : Room).cells ({ frames := 1, cells := 0, slots := 0, locals := 22 } : Room).slots A) (F0 m 68 ls []) := by
    intro g2 d2 n2 w2 hd2 hR2 hn2 hfin H locs hI ls hl
    refine lv_aload_n hx hb dX3_half_68 rfl (lv_at hl 0 rfl) ?_
    refine z_callVv (As := []) (rest := []) (wr := ([] : va_W)) (C := "DecimalTextModel") (ci := 3) hF (m_trim l D cB cI h0 a b g2 d2 pt t len n2 w2 hd2 hR2 (by omega) (by omega)) (lw_V q194 q196 qs6 q17 q197) (by decide +kernel) ⟨Nat.le_of_ble_eq_true rfl, Nat.le_of_ble_eq_true rfl⟩ hI hA [0, 1, 2] [] rfl rfl rfl rfl (by decide) rfl rfl rfl hl.1 rfl (lv_room (Nat.le_of_ble_eq_true rfl)) dX3_half_69 ⟨Nat.le_of_ble_eq_true rfl, Nat.le_of_ble_eq_true rfl⟩ (fun u H locs hu hI => ?_)
    obtain ⟨g3, d3, p3⟩ := u
    have hI : zW D A s.heap (mW h0 a b cB cI g3 d3 p3 t len) H locs := hI
    obtain ⟨n3, v3, hd3, hn3, hR3, hN3⟩ := hu
    exact z_vret (S := (Int → Int) × Int × Int) (post := (trimP (n + 1) (5 * v) (pt - n - 1))) (w' := (fun u => mW h0 a b cB cI u.1 u.2.1 u.2.2 t len)) hF hr hlk hI (g3, d3, p3) ⟨n3, v3, hd3, by omega, hR3, hfin _ _ _ hN3⟩ rfl dX3_half_72
  have L4 : ∀ (n_ : Nat), ∀ (k r : Int) (g1 : Int → Int), n - k < (n_ : Int) → (0 ≤ k ∧ k ≤ n) → (Hf g n v k g1 r) → ∀ (H : Heap) (locs : List Loc), zW D A s.heap (mW h0 a b cB cI g1 d pt t len) H locs → ∀ ls : Array Slot, lv_has ls 4 [(0, .ref h0), (1, .int (zI r)), (2, .int (zI k))] → W p l e ({ frames := 1, cells := 0, slots := 0, locals := 22 } : Room) s m ([.ref h0] : List Value).toArray below meth c H locs 0 0 (MQ below (va_Qv (trimP (n + 1) (5 * v) (pt - n - 1)) (zPost D A (fun u => mW h0 a b cB cI u.1 u.2.1 u.2.2 t len)) A) ([.ref h0] : List Value).toArray s ({ frames := 1, cells := 0, slots := 0, locals := 22 } : Room).cells ({ frames := 1, cells := 0, slots := 0, locals := 22 } : Room).slots A) (F0 m 4 ls []) := by
    intro n_
    induction n_ with
    | zero =>
      intro k r g1 hm_ hk hT H locs hI ls hl
      exfalso; omega
    | succ n_ ih_ =>
      intro k r g1 hm_ hk hT H locs hI ls hl
      refine lv_iload_n hx hb dX3_half_4 rfl (lv_at hl 2 rfl) ?_
      refine lv_aload_n hx hb dX3_half_5 rfl (lv_at hl 0 rfl) ?_
      refine z_get (ci := 3) hF hI in_X3 0 rfl rfl 1 (by decide) q156 rfl rfl dX3_half_6 ?_
      refine z_icmp_ge (tgt := 44) hx hb (by omega) (by omega) dX3_half_9 (by decide) (fun h1 => ?_) (fun h1 => ?_)
      · skip
        obtain rfl : k = (n : Int) := (by omega)
        obtain ⟨hc1, hc2⟩ := Hf_end rfl hR hT
        refine lv_iload_n hx hb dX3_half_44 rfl (lv_at hl 1 rfl) ?_
        refine z_if_le (tgt := 68) hx hb (by omega) dX3_half_45 (by decide) (fun h2 => ?_) (fun h2 => ?_)
        · skip
          exact L68 g1 d n (v / 2) hd hc1 (by omega) (by intro v3 n3 p3 hq; have hq2 := Nf_ten hq; rw [show 10 * (v / 2) = 5 * v by omega] at hq2; exact hq2) H locs hI ls (lv_sub hl [0] rfl)
        · skip
          refine lv_aload_n hx hb dX3_half_48 rfl (lv_at hl 0 rfl) ?_
          refine z_get (ci := 3) hF hI in_X3 0 rfl rfl 0 (by decide) q155 rfl rfl dX3_half_49 ?_
          refine lv_aload_n hx hb dX3_half_52 rfl (lv_at hl 0 rfl) ?_
          refine z_get (ci := 3) hF hI in_X3 0 rfl rfl 1 (by decide) q156 rfl rfl dX3_half_53 ?_
          refine z_iconst hx hb dX3_half_56 ?_
          refine z_bast hF hI 1 rfl (by omega) (by omega) (by omega) dX3_half_57 (fun H locs hI => ?_)
          have hI : zW D A s.heap (mW h0 a b cB cI (zup g1 d 5) d pt t len) H locs := hI
          refine lv_aload_n hx hb dX3_half_58 rfl (lv_at hl 0 rfl) ?_
          refine lv_aload_n hx hb dX3_half_59 rfl (lv_at hl 0 rfl) ?_
          refine z_get (ci := 3) hF hI in_X3 0 rfl rfl 1 (by decide) q156 rfl rfl dX3_half_60 ?_
          refine z_iconst hx hb dX3_half_63 ?_
          refine z_iadd hx hb dX3_half_64 ?_
          refine z_put (ci := 3) (v := .int (zI (d + 1))) (ty := .int) hF hI in_X3 tyX3 tyX3_ok nmX3 0 rfl rfl 1 (by decide) q156 rfl rfl (by decide +kernel) rfl rfl (Nat.le_of_ble_eq_true rfl) dX3_half_65 (fun H locs hI => ?_)
          have hI : zW D A s.heap (mW h0 a b cB cI (zup g1 d 5) (d + 1) pt t len) H locs := hI
          exact L68 (zup g1 d 5) (d + 1) (n + 1) (5 * v) (by omega) (by rw [hd]; exact Hf_odd rfl hR hT h2) (by omega) (by intro v3 n3 p3 hq; exact Nf_x hq (by omega)) H locs hI ls (lv_sub hl [0] rfl)
      · skip
        have hrg := Hf_rng hR (by omega) hT
        refine z_bipush hx hb dX3_half_12 (by decide) ?_
        refine lv_iload_n hx hb dX3_half_14 rfl (lv_at hl 1 rfl) ?_
        refine z_imul hx hb dX3_half_15 ?_
        refine lv_aload_n hx hb dX3_half_16 rfl (lv_at hl 0 rfl) ?_
        refine z_get (ci := 3) hF hI in_X3 0 rfl rfl 0 (by decide) q155 rfl rfl dX3_half_17 ?_
        refine lv_iload_n hx hb dX3_half_20 rfl (lv_at hl 2 rfl) ?_
        refine z_bald hF hI 1 rfl (by omega) (by omega) dX3_half_21 ?_
        refine z_iadd hx hb dX3_half_22 ?_
        refine lv_istore_n (lv' := [(3, .int (zI ((10 * r) + (g1 k)))), (0, .ref h0), (1, .int (zI r)), (2, .int (zI k))]) hx hb dX3_half_23 rfl hl (by decide) rfl (fun ls hl => ?_)
        refine lv_aload_n hx hb dX3_half_24 rfl (lv_at hl 1 rfl) ?_
        refine z_get (ci := 3) hF hI in_X3 0 rfl rfl 0 (by decide) q155 rfl rfl dX3_half_25 ?_
        refine lv_iload_n hx hb dX3_half_28 rfl (lv_at hl 3 rfl) ?_
        refine lv_iload_n hx hb dX3_half_29 rfl (lv_at hl 0 rfl) ?_
        refine z_iconst hx hb dX3_half_30 ?_
        refine z_idiv hx hb (by omega) (by omega) dX3_half_31 ?_
        refine z_i2b hx hb (by omega) dX3_half_32 ?_
        refine z_bast hF hI 1 rfl (by omega) (by omega) (by omega) dX3_half_33 (fun H locs hI => ?_)
        have hI : zW D A s.heap (mW h0 a b cB cI (zup g1 k (((10 * r) + (g1 k)) / 2)) d pt t len) H locs := hI
        refine lv_iload_n hx hb dX3_half_34 rfl (lv_at hl 0 rfl) ?_
        refine z_iconst hx hb dX3_half_35 ?_
        refine z_irem hx hb (by omega) (by omega) dX3_half_36 ?_
        refine lv_istore_n (lv' := [(1, .int (zI (((10 * r) + (g1 k)) % 2))), (3, .int (zI ((10 * r) + (g1 k)))), (0, .ref h0), (2, .int (zI k))]) hx hb dX3_half_37 rfl hl (by decide) rfl (fun ls hl => ?_)
        refine lv_iinc (lv' := [(2, .int (zI (k + 1))), (1, .int (zI (((10 * r) + (g1 k)) % 2))), (3, .int (zI ((10 * r) + (g1 k)))), (0, .ref h0)]) (k := 3) hx hb dX3_half_38 hl rfl (zI_add _ _) (by decide) rfl (fun ls hl => ?_)
        refine lv_goto (tgt := 4) hx hb dX3_half_41 (by decide) ?_
        exact ih_ (k + 1) ((10 * r + g1 k) % 2) (zup g1 k ((10 * r + g1 k) / 2)) (by omega) (by omega) (by exact Hf_step hR (by omega) hT) H locs hI ls (lv_sub hl [3, 1, 0] rfl)
  refine z_iconst hx hb dX3_half_0 ?_
  refine lv_istore_n (lv' := [(1, .int (zI 0)), (0, .ref h0)]) hx hb dX3_half_1 rfl hl (by decide) rfl (fun ls hl => ?_)
  refine z_iconst hx hb dX3_half_2 ?_
  refine lv_istore_n (lv' := [(2, .int (zI 0)), (1, .int (zI 0)), (0, .ref h0)]) hx hb dX3_half_3 rfl hl (by decide) rfl (fun ls hl => ?_)
  exact L4 (n + 1) 0 0 g (by omega) (by omega) (by exact Hf_init hR) H locs hI ls (lv_sub hl [2, 1, 0] rfl)
end
section
/-! the model: infinite, none, spread -/
def spreadP (z : Int) : (Int → Int) × Int × Int → Prop
  | (g', d', p') => ∃ n' v' : Nat, d' = n' ∧ n' ≤ 1100 ∧ Rw g' n' v' ∧ Nf (bN z) (bX z) v' n' p'
theorem spread_fin {z k d1 p1 : Int} {g1 : Int → Int} {n1 v1 : Nat} (hd : d1 = n1) (hn : n1 ≤ 1100) (hR : Rw g1 n1 v1) (hN : Nf (bB z * 5 ^ (-k).toNat) k v1 n1 p1) (h1 : 0 ≤ bT z → k = 0) (h2 : bT z < 0 → k = bT z) : spreadP z (g1, d1, p1) := by
  refine ⟨n1, v1, hd, hn, hR, ?_⟩
  rw [bN, bX]
  by_cases h : 0 ≤ bT z
  · have hk := h1 h
    subst hk
    rw [if_pos h, show (-(bT z)).toNat = (-(0 : Int)).toNat by omega]
    exact hN
  · have hk := h2 (by omega)
    subst hk
    rw [if_neg h]
    exact hN
theorem spread_half {z k p1 p3 : Int} {n1 v1 n3 v3 : Nat} (h1 : Nf (bB z * 5 ^ (-k).toNat) k v1 n1 p1) (h2 : Nf (5 * v1) (p1 - n1 - 1) v3 n3 p3) (hk : k ≤ 0) : Nf (bB z * 5 ^ (-(k + -1)).toNat) (k + -1) v3 n3 p3 := by
  have h3 : Nf (bB z * 5 ^ (-k).toNat) (k + -1) v1 n1 (p1 - 1) ∨ v1 = 0 := by
    rcases h1 with ⟨a, b, c, d⟩ | ⟨a, b, c, d, k2, e, f⟩
    · exact Or.inr b
    · exact Or.inl (Or.inr ⟨a, b, c, d, k2, e, by omega⟩)
  have e1 : bB z * 5 ^ (-(k + -1)).toNat = 5 * (bB z * 5 ^ (-k).toNat) := by
    rw [show (-(k + -1)).toNat = (-k).toNat + 1 by omega, Nat.pow_succ, ← Nat.mul_assoc, Nat.mul_comm]
  rw [e1]
  rcases h3 with h3 | h3
  · exact Nf_scale 5 (by decide) h3 (Nf_x h2 (by omega))
  · have h4 : bB z * 5 ^ (-k).toNat = 0 := by
      rcases h1 with ⟨a, b, c, d⟩ | ⟨a, b, c, d, k2, e, f⟩
      · exact a
      · rw [h3] at b; simp at b
    rw [h4]
    rw [h3] at h2
    rcases h2 with ⟨a, b, c, d⟩ | ⟨a, _⟩
    · exact Or.inl ⟨by simp, b, c, d⟩
    · simp at a
theorem spread_twice {z k p1 p3 : Int} {n1 v1 n3 v3 : Nat} (h1 : Nf (bM z * 2 ^ k.toNat) 0 v1 n1 p1) (h2 : Nf (2 * v1) (p1 - n1) v3 n3 p3) (hk : 0 ≤ k) : Nf (bM z * 2 ^ (k + 1).toNat) 0 v3 n3 p3 := by
  rw [show (k + 1).toNat = k.toNat + 1 by omega, Nat.pow_succ, ← Nat.mul_assoc, Nat.mul_comm]
  exact Nf_scale 2 (by decide) h1 h2
theorem spread_mid {z k p1 : Int} {n1 v1 : Nat} (h1 : Nf (bM z * 2 ^ k.toNat) 0 v1 n1 p1) (hk : k.toNat = (bT z).toNat) : Nf (bB z * 5 ^ (-(0 : Int)).toNat) 0 v1 n1 p1 := by
  rw [show (-(0 : Int)).toNat = 0 from rfl, Nat.pow_zero, Nat.mul_one, bB, ← hk]
  exact h1
theorem spread_lt (z : Int) (k : Nat) : bB z * 5 ^ k < 10 ^ (16 + (bT z).toNat + k) := by
  rw [Nat.pow_add]
  exact Nat.lt_of_lt_of_le (Nat.mul_lt_mul_of_pos_right (bB_lt z) (Nat.pow_pos (by decide))) (Nat.mul_le_mul_left _ (pow_le_ten 5 (by decide) k))
theorem spread_lt2 (z : Int) (k : Nat) : bM z * 2 ^ k < 10 ^ (16 + k) := by
  rw [Nat.pow_add]
  exact Nat.lt_of_lt_of_le (Nat.mul_lt_mul_of_pos_right (Nat.lt_of_lt_of_le (bM_lt z) (by decide : 9007199254740992 ≤ 10 ^ 16)) (Nat.pow_pos (by decide))) (Nat.mul_le_mul_left _ (pow_le_ten 2 (by decide) k))
set_option maxHeartbeats 4000000 in
set_option maxRecDepth 100000 in
/-- infinite(bits) -/
theorem m_infinite (l : Launch) (D : va_G) (cB cI : ClassId) (z : Int) (hz : -9223372036854775808 ≤ z ∧ z < 9223372036854775808) : zMi (S := Unit) l yX3_infinite cX3_infinite 2 (some .boolean) ({ frames := 0, cells := 0, slots := 0, locals := 0 } : Room) D cB cI ([.long (zL z)] : List Value) ([] : va_W) (fun r _ => r = if z / 4503599627370496 % 2048 = 2047 ∧ z % 4503599627370496 = 0 then 1 else 0) (fun _ => ([] : va_W)) := by
  refine z_meti (by decide) (Nat.le_of_ble_eq_true rfl) ?_
  intro p e s m below meth c A hF hr hlk hnm hA hI ls hl
  have hx := hF.1
  have hb := hF.2.1
  have hown := hF.2.2.2.1
  have hts := hF.2.2.2.2.1
  have hl : lv_has ls 2 [(0, .long (zL z))] := hl
  obtain ⟨H, eH⟩ : ∃ H : Heap, H = s.heap := ⟨_, rfl⟩
  obtain ⟨locs, eL⟩ : ∃ L : List Loc, L = [] := ⟨_, rfl⟩
  have hI : zW D A s.heap ([] : va_W) H locs := by rw [eH, eL]; exact hI
  suffices hgo : W p l e ({ frames := 0, cells := 0, slots := 0, locals := 0 } : Room) s m ([.long (zL z)] : List Value).toArray below meth c H locs 0 0 (MQ below (va_Qi (zpi (fun r _ => r = if z / 4503599627370496 % 2048 = 2047 ∧ z % 4503599627370496 = 0 then 1 else 0)) (zPost D A (fun u : Int × (Unit) => (fun _ => ([] : va_W)) u.2)) A) ([.long (zL z)] : List Value).toArray s ({ frames := 0, cells := 0, slots := 0, locals := 0 } : Room).cells ({ frames := 0, cells := 0, slots := 0, locals := 0 } : Room).slots A) (F0 m 0 ls []) by rw [eH, eL] at hgo; exact hgo
  clear eH eL
  refine lv_lload_n hx hb dX3_infinite_0 rfl (lv_at hl 0 rfl) ?_
  refine z_bipush hx hb dX3_infinite_1 (by decide) ?_
  refine z_lshr52 hx hb (by omega) dX3_infinite_3 ?_
  refine z_ldc2 hx hb 2047 hown (hts _ q178) rfl dX3_infinite_4 ?_
  refine z_land11 hx hb dX3_infinite_7 ?_
  refine z_ldc2 hx hb 2047 hown (hts _ q178) rfl dX3_infinite_8 ?_
  refine z_lcmp_ne (tgt := 29) hx hb (by omega) (by omega) dX3_infinite_11 dX3_infinite_12 (by decide) (fun h1 => ?_) (fun h1 => ?_)
  · skip
    refine z_iconst hx hb dX3_infinite_29 ?_
    exact z_zret (S := Unit) (post := (fun r _ => r = if z / 4503599627370496 % 2048 = 2047 ∧ z % 4503599627370496 = 0 then 1 else 0)) (w' := (fun _ => ([] : va_W))) hF hr hlk hI () (Or.inl rfl) (by rw [if_neg (by omega)]) rfl dX3_infinite_30
  · skip
    refine lv_lload_n hx hb dX3_infinite_15 rfl (lv_at hl 0 rfl) ?_
    refine z_ldc2 hx hb 4503599627370495 hown (hts _ q179) rfl dX3_infinite_16 ?_
    refine z_land52 hx hb dX3_infinite_19 ?_
    refine z_lconst hx hb 0 dX3_infinite_20 (by decide) ?_
    refine z_lcmp_ne (tgt := 29) hx hb (by omega) (by omega) dX3_infinite_21 dX3_infinite_22 (by decide) (fun h2 => ?_) (fun h2 => ?_)
    · skip
      refine z_iconst hx hb dX3_infinite_29 ?_
      exact z_zret (S := Unit) (post := (fun r _ => r = if z / 4503599627370496 % 2048 = 2047 ∧ z % 4503599627370496 = 0 then 1 else 0)) (w' := (fun _ => ([] : va_W))) hF hr hlk hI () (Or.inl rfl) (by rw [if_neg (by omega)]) rfl dX3_infinite_30
    · skip
      refine z_iconst hx hb dX3_infinite_25 ?_
      refine lv_goto (tgt := 30) hx hb dX3_infinite_26 (by decide) ?_
      exact z_zret (S := Unit) (post := (fun r _ => r = if z / 4503599627370496 % 2048 = 2047 ∧ z % 4503599627370496 = 0 then 1 else 0)) (w' := (fun _ => ([] : va_W))) hF hr hlk hI () (Or.inr rfl) (by rw [if_pos (by omega)]) rfl dX3_infinite_30
set_option maxHeartbeats 4000000 in
set_option maxRecDepth 100000 in
/-- none(bits) -/
theorem m_none (l : Launch) (D : va_G) (cB cI : ClassId) (z : Int) (hz : -9223372036854775808 ≤ z ∧ z < 9223372036854775808) : zMi (S := Unit) l yX3_none cX3_none 2 (some .boolean) ({ frames := 0, cells := 0, slots := 0, locals := 0 } : Room) D cB cI ([.long (zL z)] : List Value) ([] : va_W) (fun r _ => r = if z / 4503599627370496 % 2048 = 2047 ∧ z % 4503599627370496 ≠ 0 then 1 else 0) (fun _ => ([] : va_W)) := by
  refine z_meti (by decide) (Nat.le_of_ble_eq_true rfl) ?_
  intro p e s m below meth c A hF hr hlk hnm hA hI ls hl
  have hx := hF.1
  have hb := hF.2.1
  have hown := hF.2.2.2.1
  have hts := hF.2.2.2.2.1
  have hl : lv_has ls 2 [(0, .long (zL z))] := hl
  obtain ⟨H, eH⟩ : ∃ H : Heap, H = s.heap := ⟨_, rfl⟩
  obtain ⟨locs, eL⟩ : ∃ L : List Loc, L = [] := ⟨_, rfl⟩
  have hI : zW D A s.heap ([] : va_W) H locs := by rw [eH, eL]; exact hI
  suffices hgo : W p l e ({ frames := 0, cells := 0, slots := 0, locals := 0 } : Room) s m ([.long (zL z)] : List Value).toArray below meth c H locs 0 0 (MQ below (va_Qi (zpi (fun r _ => r = if z / 4503599627370496 % 2048 = 2047 ∧ z % 4503599627370496 ≠ 0 then 1 else 0)) (zPost D A (fun u : Int × (Unit) => (fun _ => ([] : va_W)) u.2)) A) ([.long (zL z)] : List Value).toArray s ({ frames := 0, cells := 0, slots := 0, locals := 0 } : Room).cells ({ frames := 0, cells := 0, slots := 0, locals := 0 } : Room).slots A) (F0 m 0 ls []) by rw [eH, eL] at hgo; exact hgo
  clear eH eL
  refine lv_lload_n hx hb dX3_none_0 rfl (lv_at hl 0 rfl) ?_
  refine z_bipush hx hb dX3_none_1 (by decide) ?_
  refine z_lshr52 hx hb (by omega) dX3_none_3 ?_
  refine z_ldc2 hx hb 2047 hown (hts _ q178) rfl dX3_none_4 ?_
  refine z_land11 hx hb dX3_none_7 ?_
  refine z_ldc2 hx hb 2047 hown (hts _ q178) rfl dX3_none_8 ?_
  refine z_lcmp_ne (tgt := 29) hx hb (by omega) (by omega) dX3_none_11 dX3_none_12 (by decide) (fun h1 => ?_) (fun h1 => ?_)
  · skip
    refine z_iconst hx hb dX3_none_29 ?_
    exact z_zret (S := Unit) (post := (fun r _ => r = if z / 4503599627370496 % 2048 = 2047 ∧ z % 4503599627370496 ≠ 0 then 1 else 0)) (w' := (fun _ => ([] : va_W))) hF hr hlk hI () (Or.inl rfl) (by rw [if_neg (by omega)]) rfl dX3_none_30
  · skip
    refine lv_lload_n hx hb dX3_none_15 rfl (lv_at hl 0 rfl) ?_
    refine z_ldc2 hx hb 4503599627370495 hown (hts _ q179) rfl dX3_none_16 ?_
    refine z_land52 hx hb dX3_none_19 ?_
    refine z_lconst hx hb 0 dX3_none_20 (by decide) ?_
    refine z_lcmp_eq (tgt := 29) hx hb (by omega) (by omega) dX3_none_21 dX3_none_22 (by decide) (fun h2 => ?_) (fun h2 => ?_)
    · skip
      refine z_iconst hx hb dX3_none_29 ?_
      exact z_zret (S := Unit) (post := (fun r _ => r = if z / 4503599627370496 % 2048 = 2047 ∧ z % 4503599627370496 ≠ 0 then 1 else 0)) (w' := (fun _ => ([] : va_W))) hF hr hlk hI () (Or.inl rfl) (by rw [if_neg (by omega)]) rfl dX3_none_30
    · skip
      refine z_iconst hx hb dX3_none_25 ?_
      refine lv_goto (tgt := 30) hx hb dX3_none_26 (by decide) ?_
      exact z_zret (S := Unit) (post := (fun r _ => r = if z / 4503599627370496 % 2048 = 2047 ∧ z % 4503599627370496 ≠ 0 then 1 else 0)) (w' := (fun _ => ([] : va_W))) hF hr hlk hI () (Or.inr rfl) (by rw [if_pos (by omega)]) rfl dX3_none_30
set_option maxHeartbeats 4000000 in
set_option maxRecDepth 100000 in
/-- spread(bits): all digits of the worth, without zeros at either end -/
theorem m_spread (l : Launch) (D : va_G) (cB cI : ClassId) (h0 a b : Nat) (g : Int → Int) (d pt : Int) (t : Int → Int) (len : Int) (z : Int) (hz : -9223372036854775808 ≤ z ∧ z < 9223372036854775808) (hE : z / 4503599627370496 % 2048 ≠ 2047) : zMv (S := (Int → Int) × Int × Int) l yX3_spread cX3_spread 8 ({ frames := 2, cells := 0, slots := 0, locals := 45 } : Room) D cB cI ([.ref h0, .long (zL z)] : List Value) (mW h0 a b cB cI g d pt t len) (spreadP z) (fun u => mW h0 a b cB cI u.1 u.2.1 u.2.2 t len) := by
  refine z_metv (by decide) (Nat.le_of_ble_eq_true rfl) ?_
  intro p e s m below meth c A hF hr hlk hnm hA hI ls hl
  have hx := hF.1
  have hb := hF.2.1
  have hown := hF.2.2.2.1
  have hts := hF.2.2.2.2.1
  have hl : lv_has ls 8 [(0, .ref h0), (1, .long (zL z))] := hl
  obtain ⟨H, eH⟩ : ∃ H : Heap, H = s.heap := ⟨_, rfl⟩
  obtain ⟨locs, eL⟩ : ∃ L : List Loc, L = [] := ⟨_, rfl⟩
  have hI : zW D A s.heap (mW h0 a b cB cI g d pt t len) H locs := by rw [eH, eL]; exact hI
  suffices hgo : W p l e ({ frames := 2, cells := 0, slots := 0, locals := 45 } : Room) s m ([.ref h0, .long (zL z)] : List Value).toArray below meth c H locs 0 0 (MQ below (va_Qv (spreadP z) (zPost D A (fun u => mW h0 a b cB cI u.1 u.2.1 u.2.2 t len)) A) ([.ref h0, .long (zL z)] : List Value).toArray s ({ frames := 2, cells := 0, slots := 0, locals := 45 } : Room).cells ({ frames := 2, cells := 0, slots := 0, locals := 45 } : Room).slots A) (F0 m 0 ls []) by rw [eH, eL] at hgo; exact hgo
  clear eH eL
  have hT := bT_rng z hE
  have hMl := bM_lt z
  have L139 : ∀ (n_ : Nat), ∀ (k d1 p1 : Int) (g1 : Int → Int) (n1 v1 : Nat), k - bT z + 2000 < (n_ : Int) → (k ≤ 0) → (0 ≤ bT z → k = 0) → (bT z < 0 → bT z ≤ k) → (d1 = (n1 : Int)) → (Rw g1 n1 v1) → ((n1 : Int) ≤ 19 + (bT z).toNat - k) → (Nf (bB z * 5 ^ (-k).toNat) k v1 n1 p1) → ∀ (H : Heap) (locs : List Loc), zW D A s.heap (mW h0 a b cB cI g1 d1 p1 t len) H locs → ∀ ls : Array Slot, lv_has ls 8 [(0, .ref h0), (6, .int (zI (bT z))), (7, .int (zI k))] → W p l e ({ frames := 2, cells := 0, slots := 0, locals := 45 } : Room) s m ([.ref h0, .long (zL z)] : List Value).toArray below meth c H locs 0 0 (MQ below (va_Qv (spreadP z) (zPost D A (fun u => mW h0 a b cB cI u.1 u.2.1 u.2.2 t len)) A) ([.ref h0, .long (zL z)] : List Value).toArray s ({ frames := 2, cells := 0, slots := 0, locals := 45 } : Room).cells ({ frames := 2, cells := 0, slots := 0, locals := 45 } : Room).slots A) (F0 m 139 ls []) := by
    intro n_
    induction n_ with
    | zero =>
      intro k d1 p1 g1 n1 v1 hm_ hk hk1 hk2 hd1 hR1 hn1 hN1 H locs hI ls hl
      exfalso; omega
    | succ n_ ih_ =>
      intro k d1 p1 g1 n1 v1 hm_ hk hk1 hk2 hd1 hR1 hn1 hN1 H locs hI ls hl
      refine lv_iload hx hb dX3_spread_139 (lv_at hl 2 rfl) ?_
      refine lv_iload hx hb dX3_spread_141 (lv_at hl 1 rfl) ?_
      refine z_icmp_le (tgt := 156) hx hb (by omega) (by omega) dX3_spread_143 (by decide) (fun h1 => ?_) (fun h1 => ?_)
      · skip
        exact z_vret (S := (Int → Int) × Int × Int) (post := (spreadP z)) (w' := (fun u => mW h0 a b cB cI u.1 u.2.1 u.2.2 t len)) hF hr hlk hI (g1, d1, p1) (spread_fin (k := k) hd1 (by omega) hR1 hN1 (by omega) (by omega)) rfl dX3_spread_156
      · skip
        have hpb := Nf_bound hN1 (spread_lt z (-k).toNat)
        refine lv_aload_n hx hb dX3_spread_146 rfl (lv_at hl 0 rfl) ?_
        refine z_callVv (As := []) (rest := []) (wr := ([] : va_W)) (C := "DecimalTextModel") (ci := 3) hF (m_half l D cB cI h0 a b g1 d1 p1 t len n1 v1 hd1 hR1 (by omega) (by omega)) (lw_V q202 q204 qs8 q17 q205) (by decide +kernel) ⟨Nat.le_of_ble_eq_true rfl, Nat.le_of_ble_eq_true rfl⟩ hI hA [0, 1, 2] [] rfl rfl rfl rfl (by decide) rfl rfl rfl hl.1 rfl (lv_room (Nat.le_of_ble_eq_true rfl)) dX3_spread_147 ⟨Nat.le_of_ble_eq_true rfl, Nat.le_of_ble_eq_true rfl⟩ (fun u H locs hu hI => ?_)
        obtain ⟨g3, d3, p3⟩ := u
        have hI : zW D A s.heap (mW h0 a b cB cI g3 d3 p3 t len) H locs := hI
        obtain ⟨n3, v3, hd3, hn3, hR3, hN3⟩ := hu
        refine lv_iinc (lv' := [(7, .int (zI (k + (-1)))), (0, .ref h0), (6, .int (zI (bT z)))]) (k := 2) hx hb dX3_spread_150 hl rfl (zI_add _ _) (by decide) rfl (fun ls hl => ?_)
        refine lv_goto (tgt := 139) hx hb dX3_spread_153 (by decide) ?_
        exact ih_ (k + -1) d3 p3 g3 n3 v3 (by omega) (by omega) (by omega) (by omega) hd3 hR3 (by omega) (by exact spread_half hN1 hN3 (by omega)) H locs hI ls (lv_sub hl [1, 2, 0] rfl)
  have L119 : ∀ (n_ : Nat), ∀ (k d1 p1 : Int) (g1 : Int → Int) (n1 v1 : Nat), bT z - k + 2000 < (n_ : Int) → (0 ≤ k ∧ k ≤ (bT z).toNat) → (d1 = (n1 : Int)) → (Rw g1 n1 v1) → ((n1 : Int) ≤ 19 + k) → (Nf (bM z * 2 ^ k.toNat) 0 v1 n1 p1) → ∀ (H : Heap) (locs : List Loc), zW D A s.heap (mW h0 a b cB cI g1 d1 p1 t len) H locs → ∀ ls : Array Slot, lv_has ls 8 [(0, .ref h0), (6, .int (zI (bT z))), (7, .int (zI k))] → W p l e ({ frames := 2, cells := 0, slots := 0, locals := 45 } : Room) s m ([.ref h0, .long (zL z)] : List Value).toArray below meth c H locs 0 0 (MQ below (va_Qv (spreadP z) (zPost D A (fun u => mW h0 a b cB cI u.1 u.2.1 u.2.2 t len)) A) ([.ref h0, .long (zL z)] : List Value).toArray s ({ frames := 2, cells := 0, slots := 0, locals := 45 } : Room).cells ({ frames := 2, cells := 0, slots := 0, locals := 45 } : Room).slots A) (F0 m 119 ls []) := by
    intro n_
    induction n_ with
    | zero =>
      intro k d1 p1 g1 n1 v1 hm_ hk hd1 hR1 hn1 hN1 H locs hI ls hl
      exfalso; omega
    | succ n_ ih_ =>
      intro k d1 p1 g1 n1 v1 hm_ hk hd1 hR1 hn1 hN1 H locs hI ls hl
      refine lv_iload hx hb dX3_spread_119 (lv_at hl 2 rfl) ?_
      refine lv_iload hx hb dX3_spread_121 (lv_at hl 1 rfl) ?_
      refine z_icmp_ge (tgt := 136) hx hb (by omega) (by omega) dX3_spread_123 (by decide) (fun h1 => ?_) (fun h1 => ?_)
      · skip
        refine z_iconst hx hb dX3_spread_136 ?_
        refine lv_istore (lv' := [(7, .int (zI 0)), (0, .ref h0), (6, .int (zI (bT z)))]) hx hb dX3_spread_137 hl (by decide) rfl (fun ls hl => ?_)
        exact L139 (4000) 0 d1 p1 g1 n1 v1 (by omega) (by omega) (by omega) (by omega) hd1 hR1 (by omega) (by exact spread_mid hN1 (by omega)) H locs hI ls (lv_sub hl [1, 2, 0] rfl)
      · skip
        have hpb := Nf_bound hN1 (spread_lt2 z k.toNat)
        refine lv_aload_n hx hb dX3_spread_126 rfl (lv_at hl 0 rfl) ?_
        refine z_callVv (As := []) (rest := []) (wr := ([] : va_W)) (C := "DecimalTextModel") (ci := 3) hF (m_twice l D cB cI h0 a b g1 d1 p1 t len n1 v1 hd1 hR1 (by omega) (by omega)) (lw_V q198 q200 qs7 q17 q201) (by decide +kernel) ⟨Nat.le_of_ble_eq_true rfl, Nat.le_of_ble_eq_true rfl⟩ hI hA [0, 1, 2] [] rfl rfl rfl rfl (by decide) rfl rfl rfl hl.1 rfl (lv_room (Nat.le_of_ble_eq_true rfl)) dX3_spread_127 ⟨Nat.le_of_ble_eq_true rfl, Nat.le_of_ble_eq_true rfl⟩ (fun u H locs hu hI => ?_)
        obtain ⟨g3, d3, p3⟩ := u
        have hI : zW D A s.heap (mW h0 a b cB cI g3 d3 p3 t len) H locs := hI
        obtain ⟨n3, v3, hd3, hn3, hR3, hN3⟩ := hu
        refine lv_iinc (lv' := [(7, .int (zI (k + 1))), (0, .ref h0), (6, .int (zI (bT z)))]) (k := 2) hx hb dX3_spread_130 hl rfl (zI_add _ _) (by decide) rfl (fun ls hl => ?_)
        refine lv_goto (tgt := 119) hx hb dX3_spread_133 (by decide) ?_
        exact ih_ (k + 1) d3 p3 g3 n3 v3 (by omega) (by omega) hd3 hR3 (by omega) (by exact spread_twice hN1 hN3 (by omega)) H locs hI ls (lv_sub hl [1, 2, 0] rfl)
  have L114 : ∀ (x d1 p1 : Int) (g1 : Int → Int) (n1 v1 : Nat), (x = bT z) → (d1 = (n1 : Int)) → (Rw g1 n1 v1) → (n1 ≤ 19) → (Nf (bM z * 2 ^ (0 : Int).toNat) 0 v1 n1 p1) → ∀ (H : Heap) (locs : List Loc), zW D A s.heap (mW h0 a b cB cI g1 d1 p1 t len) H locs → ∀ ls : Array Slot, lv_has ls 8 [(0, .ref h0)] → W p l e ({ frames := 2, cells := 0, slots := 0, locals := 45 } : Room) s m ([.ref h0, .long (zL z)] : List Value).toArray below meth c H locs 0 0 (MQ below (va_Qv (spreadP z) (zPost D A (fun u => mW h0 a b cB cI u.1 u.2.1 u.2.2 t len)) A) ([.ref h0, .long (zL z)] : List Value).toArray s ({ frames := 2, cells := 0, slots := 0, locals := 45 } : Room).cells ({ frames := 2, cells := 0, slots := 0, locals := 45 } : Room).slots A) (F0 m 114 ls [.int (zI x)]) := by
    intro x d1 p1 g1 n1 v1 hx2 hd1 hR1 hn1 hN1 H locs hI ls hl
    subst hx2
    refine lv_istore (lv' := [(6, .int (zI (bT z))), (0, .ref h0)]) hx hb dX3_spread_114 hl (by decide) rfl (fun ls hl => ?_)
    refine z_iconst hx hb dX3_spread_116 ?_
    refine lv_istore (lv' := [(7, .int (zI 0)), (6, .int (zI (bT z))), (0, .ref h0)]) hx hb dX3_spread_117 hl (by decide) rfl (fun ls hl => ?_)
    exact L119 (4000) 0 d1 p1 g1 n1 v1 (by omega) (by omega) hd1 hR1 (by omega) (by exact hN1) H locs hI ls (lv_sub hl [2, 1, 0] rfl)
  have L39 : ∀ (n_ : Nat), ∀ (j : Nat) (d1 u1 : Int) (g1 : Int → Int), 19 - (j : Int) < (n_ : Int) → (j ≤ 19) → (d1 = (j : Int)) → (u1 = Un j) → (∀ i : Nat, i < j → g1 i = ((bM z / 10 ^ (18 - i) % 10 : Nat) : Int)) → ∀ (H : Heap) (locs : List Loc), zW D A s.heap (mW h0 a b cB cI g1 d1 pt t len) H locs → ∀ ls : Array Slot, lv_has ls 8 [(0, .ref h0), (3, .int (zI (z / 4503599627370496 % 2048))), (4, .long (zL (bM z : Int))), (6, .long (zL u1))] → W p l e ({ frames := 2, cells := 0, slots := 0, locals := 45 } : Room) s m ([.ref h0, .long (zL z)] : List Value).toArray below meth c H locs 0 0 (MQ below (va_Qv (spreadP z) (zPost D A (fun u => mW h0 a b cB cI u.1 u.2.1 u.2.2 t len)) A) ([.ref h0, .long (zL z)] : List Value).toArray s ({ frames := 2, cells := 0, slots := 0, locals := 45 } : Room).cells ({ frames := 2, cells := 0, slots := 0, locals := 45 } : Room).slots A) (F0 m 39 ls []) := by
    intro n_
    induction n_ with
    | zero =>
      intro j d1 u1 g1 hm_ hj hd1 hu hg H locs hI ls hl
      exfalso; omega
    | succ n_ ih_ =>
      intro j d1 u1 g1 hm_ hj hd1 hu hg H locs hI ls hl
      subst hu
      have hur := Un_rng j (by omega)
      refine lv_lload hx hb dX3_spread_39 (lv_at hl 3 rfl) ?_
      refine z_lconst hx hb 0 dX3_spread_41 (by decide) ?_
      refine z_lcmp_le (tgt := 87) hx hb (by omega) (by omega) dX3_spread_42 dX3_spread_43 (by decide) (fun h1 => ?_) (fun h1 => ?_)
      · skip
        obtain rfl : j = 19 := (by rcases Nat.lt_or_ge j 19 with q | q; (have := Un_pos j q; omega); omega)
        refine lv_aload_n hx hb dX3_spread_87 rfl (lv_at hl 0 rfl) ?_
        refine lv_aload_n hx hb dX3_spread_88 rfl (lv_at hl 0 rfl) ?_
        refine z_get (ci := 3) hF hI in_X3 0 rfl rfl 1 (by decide) q156 rfl rfl dX3_spread_89 ?_
        refine z_put (ci := 3) (v := .int (zI d1)) (ty := .int) hF hI in_X3 tyX3 tyX3_ok nmX3 0 rfl rfl 2 (by decide) q157 rfl rfl (by decide +kernel) rfl rfl (Nat.le_of_ble_eq_true rfl) dX3_spread_92 (fun H locs hI => ?_)
        have hI : zW D A s.heap (mW h0 a b cB cI g1 d1 d1 t len) H locs := hI
        refine lv_aload_n hx hb dX3_spread_95 rfl (lv_at hl 0 rfl) ?_
        refine z_callVv (As := []) (rest := []) (wr := ([] : va_W)) (C := "DecimalTextModel") (ci := 3) hF (m_trim l D cB cI h0 a b g1 d1 d1 t len 19 (bM z) (by omega) (by exact ⟨by omega, fun i hi => by rw [hg i hi]⟩) (by omega) (by omega)) (lw_V q194 q196 qs6 q17 q197) (by decide +kernel) ⟨Nat.le_of_ble_eq_true rfl, Nat.le_of_ble_eq_true rfl⟩ hI hA [0, 1, 2] [] rfl rfl rfl rfl (by decide) rfl rfl rfl hl.1 rfl (lv_room (Nat.le_of_ble_eq_true rfl)) dX3_spread_96 ⟨Nat.le_of_ble_eq_true rfl, Nat.le_of_ble_eq_true rfl⟩ (fun u H locs hu hI => ?_)
        obtain ⟨g3, d3, p3⟩ := u
        have hI : zW D A s.heap (mW h0 a b cB cI g3 d3 p3 t len) H locs := hI
        obtain ⟨n3, v3, hd3, hn3, hR3, hN3⟩ := hu
        refine lv_iload_n hx hb dX3_spread_99 rfl (lv_at hl 1 rfl) ?_
        refine z_if_ne (tgt := 109) hx hb (by omega) dX3_spread_100 (by decide) (fun h2 => ?_) (fun h2 => ?_)
        · skip
          refine lv_iload_n hx hb dX3_spread_109 rfl (lv_at hl 1 rfl) ?_
          refine z_sipush hx hb dX3_spread_110 (by decide) ?_
          refine z_isub hx hb dX3_spread_113 ?_
          exact L114 (z / 4503599627370496 % 2048 - 1075) d3 p3 g3 n3 v3 (by rw [bT, if_neg (by omega)]) hd3 hR3 hn3 (by rw [show (0 : Int).toNat = 0 from rfl, Nat.pow_zero, Nat.mul_one]; exact Nf_x hN3 (by omega)) H locs hI ls (lv_sub hl [0] rfl)
        · skip
          refine z_sipush hx hb dX3_spread_103 (by decide) ?_
          refine lv_goto (tgt := 114) hx hb dX3_spread_106 (by decide) ?_
          exact L114 (-1074) d3 p3 g3 n3 v3 (by rw [bT, if_pos (by omega)]) hd3 hR3 hn3 (by rw [show (0 : Int).toNat = 0 from rfl, Nat.pow_zero, Nat.mul_one]; exact Nf_x hN3 (by omega)) H locs hI ls (lv_sub hl [0] rfl)
      · skip
        have hj19 : j < 19 := (by rcases Nat.lt_or_ge j 19 with q | q; exact q; (obtain rfl : j = 19 := (by omega); rw [Un_19] at h1; omega))
        have hup := Un_pos j hj19
        have hin := Un_in (bM z) j hj19 hMl
        refine lv_aload_n hx hb dX3_spread_46 rfl (lv_at hl 0 rfl) ?_
        refine z_get (ci := 3) hF hI in_X3 0 rfl rfl 0 (by decide) q155 rfl rfl dX3_spread_47 ?_
        refine lv_aload_n hx hb dX3_spread_50 rfl (lv_at hl 0 rfl) ?_
        refine z_get (ci := 3) hF hI in_X3 0 rfl rfl 1 (by decide) q156 rfl rfl dX3_spread_51 ?_
        refine lv_lload hx hb dX3_spread_54 (lv_at hl 2 rfl) ?_
        refine lv_lload hx hb dX3_spread_56 (lv_at hl 3 rfl) ?_
        refine z_ldiv hx hb (by omega) (by omega) dX3_spread_58 ?_
        refine z_ldc2 hx hb 10 hown (hts _ q193) rfl dX3_spread_59 ?_
        refine z_lrem hx hb (by omega) (by omega) dX3_spread_62 ?_
        refine z_l2i hx hb dX3_spread_63 ?_
        refine z_i2b hx hb (by omega) dX3_spread_64 ?_
        refine z_bast hF hI 1 rfl (by omega) (by omega) (by omega) dX3_spread_65 (fun H locs hI => ?_)
        have hI : zW D A s.heap (mW h0 a b cB cI (zup g1 d1 (((bM z : Int) / (Un j)) % 10)) d1 pt t len) H locs := hI
        refine lv_aload_n hx hb dX3_spread_66 rfl (lv_at hl 0 rfl) ?_
        refine lv_aload_n hx hb dX3_spread_67 rfl (lv_at hl 0 rfl) ?_
        refine z_get (ci := 3) hF hI in_X3 0 rfl rfl 1 (by decide) q156 rfl rfl dX3_spread_68 ?_
        refine z_iconst hx hb dX3_spread_71 ?_
        refine z_iadd hx hb dX3_spread_72 ?_
        refine z_put (ci := 3) (v := .int (zI (d1 + 1))) (ty := .int) hF hI in_X3 tyX3 tyX3_ok nmX3 0 rfl rfl 1 (by decide) q156 rfl rfl (by decide +kernel) rfl rfl (Nat.le_of_ble_eq_true rfl) dX3_spread_73 (fun H locs hI => ?_)
        have hI : zW D A s.heap (mW h0 a b cB cI (zup g1 d1 (((bM z : Int) / (Un j)) % 10)) (d1 + 1) pt t len) H locs := hI
        refine lv_lload hx hb dX3_spread_76 (lv_at hl 3 rfl) ?_
        refine z_ldc2 hx hb 10 hown (hts _ q193) rfl dX3_spread_78 ?_
        refine z_ldiv hx hb (by omega) (by omega) dX3_spread_81 ?_
        refine lv_lstore (lv' := [(6, .long (zL ((Un j) / 10))), (0, .ref h0), (3, .int (zI (z / 4503599627370496 % 2048))), (4, .long (zL (bM z : Int)))]) hx hb dX3_spread_82 hl (by decide) rfl (fun ls hl => ?_)
        refine lv_goto (tgt := 39) hx hb dX3_spread_84 (by decide) ?_
        exact ih_ (j + 1) (d1 + 1) (Un j / 10) (zup g1 d1 ((bM z : Int) / Un j % 10)) (by omega) (by omega) (by omega) (by exact Un_step j hj19) (by intro i hi; by_cases q : i = j; (subst q; rw [hd1, zup_same]; exact Un_dig (bM z) i hj19); (rw [zup_ne _ _ (by omega)]; exact hg i (by omega))) H locs hI ls (lv_sub hl [1, 2, 3, 0] rfl)
  have L29 : ∀ (x : Int), (x = (bM z : Int)) → ∀ (H : Heap) (locs : List Loc), zW D A s.heap (mW h0 a b cB cI g d pt t len) H locs → ∀ ls : Array Slot, lv_has ls 8 [(0, .ref h0), (3, .int (zI (z / 4503599627370496 % 2048))), (4, .long (zL x))] → W p l e ({ frames := 2, cells := 0, slots := 0, locals := 45 } : Room) s m ([.ref h0, .long (zL z)] : List Value).toArray below meth c H locs 0 0 (MQ below (va_Qv (spreadP z) (zPost D A (fun u => mW h0 a b cB cI u.1 u.2.1 u.2.2 t len)) A) ([.ref h0, .long (zL z)] : List Value).toArray s ({ frames := 2, cells := 0, slots := 0, locals := 45 } : Room).cells ({ frames := 2, cells := 0, slots := 0, locals := 45 } : Room).slots A) (F0 m 29 ls []) := by
    intro x hx2 H locs hI ls hl
    subst hx2
    refine lv_aload_n hx hb dX3_spread_29 rfl (lv_at hl 0 rfl) ?_
    refine z_iconst hx hb dX3_spread_30 ?_
    refine z_put (ci := 3) (v := .int (zI 0)) (ty := .int) hF hI in_X3 tyX3 tyX3_ok nmX3 0 rfl rfl 1 (by decide) q156 rfl rfl (by decide +kernel) rfl rfl (Nat.le_of_ble_eq_true rfl) dX3_spread_31 (fun H locs hI => ?_)
    have hI : zW D A s.heap (mW h0 a b cB cI g 0 pt t len) H locs := hI
    refine z_ldc2 hx hb 1000000000000000000 hown (hts _ q192) rfl dX3_spread_34 ?_
    refine lv_lstore (lv' := [(6, .long (zL 1000000000000000000)), (0, .ref h0), (3, .int (zI (z / 4503599627370496 % 2048))), (4, .long (zL (bM z : Int)))]) hx hb dX3_spread_37 hl (by decide) rfl (fun ls hl => ?_)
    exact L39 (20) 0 0 1000000000000000000 g (by omega) (by omega) (by rfl) (by rfl) (by intro i hi; omega) H locs hI ls (lv_sub hl [1, 2, 3, 0] rfl)
  refine lv_lload_n hx hb dX3_spread_0 rfl (lv_at hl 1 rfl) ?_
  refine z_bipush hx hb dX3_spread_1 (by decide) ?_
  refine z_lshr52 hx hb (by omega) dX3_spread_3 ?_
  refine z_ldc2 hx hb 2047 hown (hts _ q178) rfl dX3_spread_4 ?_
  refine z_land11 hx hb dX3_spread_7 ?_
  refine z_l2i hx hb dX3_spread_8 ?_
  refine lv_istore_n (lv' := [(3, .int (zI ((z / 4503599627370496) % 2048))), (0, .ref h0), (1, .long (zL z))]) hx hb dX3_spread_9 rfl hl (by decide) rfl (fun ls hl => ?_)
  refine lv_lload_n hx hb dX3_spread_10 rfl (lv_at hl 2 rfl) ?_
  refine z_ldc2 hx hb 4503599627370495 hown (hts _ q179) rfl dX3_spread_11 ?_
  refine z_land52 hx hb dX3_spread_14 ?_
  refine lv_lstore (lv' := [(4, .long (zL (z % 4503599627370496))), (3, .int (zI ((z / 4503599627370496) % 2048))), (0, .ref h0), (1, .long (zL z))]) hx hb dX3_spread_15 hl (by decide) rfl (fun ls hl => ?_)
  refine lv_iload_n hx hb dX3_spread_17 rfl (lv_at hl 1 rfl) ?_
  refine z_if_le (tgt := 29) hx hb (by omega) dX3_spread_18 (by decide) (fun h0_ => ?_) (fun h0_ => ?_)
  · skip
    exact L29 (z % 4503599627370496) (by rw [bM, if_neg (by omega)]; omega) H locs hI ls (lv_sub hl [2, 1, 0] rfl)
  · skip
    refine lv_lload hx hb dX3_spread_21 (lv_at hl 0 rfl) ?_
    refine z_ldc2 hx hb 4503599627370496 hown (hts _ q191) rfl dX3_spread_23 ?_
    refine z_ladd hx hb dX3_spread_26 ?_
    refine lv_lstore (lv' := [(4, .long (zL ((z % 4503599627370496) + 4503599627370496))), (3, .int (zI ((z / 4503599627370496) % 2048))), (0, .ref h0), (1, .long (zL z))]) hx hb dX3_spread_27 hl (by decide) rfl (fun ls hl => ?_)
    exact L29 (z % 4503599627370496 + 4503599627370496) (by rw [bM, if_pos (by omega)]; omega) H locs hI ls (lv_sub hl [2, 1, 0] rfl)
end
section
/-! the model: cut -/
def cutP (n v : Nat) (pt y : Int) : (Int → Int) × Int × Int → Prop
  | (g', d', p') => ∃ n' v' : Nat, d' = n' ∧ n' ≤ n + 1 ∧ Rw g' n' v' ∧ (if y ≤ pt - n then v' = v ∧ n' = n ∧ p' = pt else Nf (rup v (y - (pt - n)).toNat) y v' n' p')
theorem cut_at {g : Int → Int} {n v : Nat} {k : Int} (hR : Rw g n v) (hk : 0 ≤ k ∧ k < n) : ∃ j : Nat, n - k.toNat = j + 1 ∧ g k = ((v / 10 ^ j % 10 : Nat) : Int) := ⟨n - 1 - k.toNat, by omega, hR.at hk.1 hk.2⟩
theorem cut_five1 {g : Int → Int} {n v : Nat} {k : Int} (hR : Rw g n v) (hk : 0 ≤ k ∧ k < n) (h5 : g k = 5) (hv : v % 10 ≠ 0) (h : v / 10 ^ (n - k.toNat) % 2 = 1 ∨ k + 1 < n) : rup v (n - k.toNat) = v / 10 ^ (n - k.toNat) + (1 : Int).toNat := by
  obtain ⟨j, e, hd⟩ := cut_at hR hk
  rw [e] at h ⊢
  rw [h5] at hd
  have h6 : v / 10 ^ j % 10 = 5 := by omega
  by_cases hj : j = 0
  · rw [rup_tie h6 (by rw [hj, Nat.pow_zero, Nat.mod_one])]
    rcases h with h | h
    · rw [h]; rfl
    · omega
  · exact rup_hi (Or.inr ⟨h6, mod_tail (by omega) hv⟩)
theorem cut_five0 {g : Int → Int} {n v : Nat} {k : Int} (hR : Rw g n v) (hk : 0 ≤ k ∧ k < n) (h5 : g k = 5) (h : v / 10 ^ (n - k.toNat) % 2 = 0) (h1 : n ≤ k + 1) : rup v (n - k.toNat) = v / 10 ^ (n - k.toNat) + (0 : Int).toNat := by
  obtain ⟨j, e, hd⟩ := cut_at hR hk
  obtain rfl : j = 0 := by omega
  rw [e] at h ⊢
  rw [h5] at hd
  rw [rup_tie (by omega) (by rw [Nat.pow_zero, Nat.mod_one]), h]
  rfl
theorem cut_far {g : Int → Int} {n v : Nat} {k up : Int} (hR : Rw g n v) (hk : 0 ≤ k ∧ k < n) (h5 : g k ≠ 5) (hup : up = if 5 < g k then 1 else 0) : rup v (n - k.toNat) = v / 10 ^ (n - k.toNat) + up.toNat := by
  obtain ⟨j, e, hd⟩ := cut_at hR hk
  rw [e]
  by_cases h : 5 < g k
  · rw [hup, if_pos h]
    exact rup_hi (Or.inl (by omega))
  · rw [hup, if_neg h]
    exact rup_lo (by omega)
theorem cut_show {z y : Int} {v n : Nat} {pt : Int} {g1 : Int → Int} {d1 p1 : Int} (hN : Nf (bN z) (bX z) v n pt) (h : cutP n v pt y (g1, d1, p1)) : Shw z y (n + 1) g1 d1 p1 := by
  obtain ⟨n1, v1, h1, h2, h3, h4⟩ := h
  obtain ⟨r1, r2⟩ := Nf_rnd hN y
  refine ⟨n1, v1, h1, h2, h3, ?_⟩
  have hz : rA v (pt - n) y = 0 ↔ rA (bN z) (bX z) y = 0 := by
    rcases hN with ⟨a, b, c, d⟩ | ⟨a, b, c, d, k, e, f⟩
    · rw [a, b, rA_0, rA_0]
    · rw [f]
      obtain ⟨t, q1, q2⟩ := rA_scale v k (bX z) y
      rw [e, q1]
      constructor
      · intro q; rw [q]; simp
      · intro q
        rcases Nat.mul_eq_zero.mp q with q | q
        · exact q
        · exact absurd q (Nat.ne_of_gt (ten_pos t))
  by_cases hy : y ≤ pt - n
  · rw [if_pos hy] at h4
    obtain ⟨e1, e2, e3⟩ := h4
    have ea : rA v (pt - n) y = v := if_pos hy
    have ex : rX (pt - n) y = pt - n := if_pos hy
    rw [ea, ex] at r1 r2
    rw [ea] at hz
    rw [e1, e2, e3]
    refine ⟨r1, r2 _ ?_, ?_⟩
    · rcases hN with ⟨a, b, c, d⟩ | ⟨a, b, c, d, k, e, f⟩
      · exact Or.inl ⟨b, d⟩
      · exact Or.inr ⟨by omega, n, c, d, by omega⟩
    · rw [← hz]
      rcases hN with ⟨a, b, c, d⟩ | ⟨a, b, c, d, k, e, f⟩
      · exact ⟨fun _ => b, fun _ => c⟩
      · constructor
        · intro q; rw [q] at d; simp at d; exact d
        · intro q; rw [q] at b; simp at b
  · rw [if_neg hy] at h4
    have ea : rA v (pt - n) y = rup v (y - (pt - n)).toNat := if_neg hy
    have ex : rX (pt - n) y = y := if_neg hy
    rw [ea, ex] at r1 r2
    rw [ea] at hz
    refine ⟨fun j => by rw [Nf_dgt h4]; exact r1 j, r2 _ (Nf_Dp h4), ?_⟩
    rw [← hz]
    rcases h4 with ⟨a, b, c, d⟩ | ⟨a, b, c, d, k, e, f⟩
    · exact ⟨fun _ => a, fun _ => c⟩
    · constructor
      · intro q
        rw [q] at d
        simp at d
        rw [e, d]
        simp
      · intro q; exact absurd q a
set_option maxHeartbeats 4000000 in
set_option maxRecDepth 100000 in
/-- cut(k): the first k digits, rounded -/
theorem m_cut (l : Launch) (D : va_G) (cB cI : ClassId) (h0 a b : Nat) (g : Int → Int) (d pt : Int) (t : Int → Int) (len : Int) (n v : Nat) (k y : Int) (hd : d = (n : Int)) (hR : Rw g n v) (hn : n ≤ 1199) (hpt : -100000 ≤ pt ∧ pt ≤ 100000) (hv : n = 0 ∨ v % 10 ≠ 0) (hk : -100000 ≤ k ∧ k ≤ 100000) (hy : y = pt - k) : zMv (S := (Int → Int) × Int × Int) l yX3_cut cX3_cut 6 ({ frames := 1, cells := 0, slots := 0, locals := 22 } : Room) D cB cI ([.ref h0, .int (zI k)] : List Value) (mW h0 a b cB cI g d pt t len) (cutP n v pt y) (fun u => mW h0 a b cB cI u.1 u.2.1 u.2.2 t len) := by
  refine z_metv (by decide) (Nat.le_of_ble_eq_true rfl) ?_
  intro p e s m below meth c A hF hr hlk hnm hA hI ls hl
  have hx := hF.1
  have hb := hF.2.1
  have hown := hF.2.2.2.1
  have hts := hF.2.2.2.2.1
  have hl : lv_has ls 6 [(0, .ref h0), (1, .int (zI k))] := hl
  obtain ⟨H, eH⟩ : ∃ H : Heap, H = s.heap := ⟨_, rfl⟩
  obtain ⟨locs, eL⟩ : ∃ L : List Loc, L = [] := ⟨_, rfl⟩
  have hI : zW D A s.heap (mW h0 a b cB cI g d pt t len) H locs := by rw [eH, eL]; exact hI
  suffices hgo : W p l e ({ frames := 1, cells := 0, slots := 0, locals := 22 } : Room) s m ([.ref h0, .int (zI k)] : List Value).toArray below meth c H locs 0 0 (MQ below (va_Qv (cutP n v pt y) (zPost D A (fun u => mW h0 a b cB cI u.1 u.2.1 u.2.2 t len)) A) ([.ref h0, .int (zI k)] : List Value).toArray s ({ frames := 1, cells := 0, slots := 0, locals := 22 } : Room).cells ({ frames := 1, cells := 0, slots := 0, locals := 22 } : Room).slots A) (F0 m 0 ls []) by rw [eH, eL] at hgo; exact hgo
  clear eH eL
  have L223 : ∀ (g2 : Int → Int) (d2 p2 : Int) (n2 w2 : Nat), (0 ≤ k ∧ k < n) → (d2 = (n2 : Int)) → (Rw g2 n2 w2) → ((n2 : Int) ≤ k + 1) → (w2 = rup v (n - k.toNat)) → (p2 - n2 = pt - k) → ∀ (H : Heap) (locs : List Loc), zW D A s.heap (mW h0 a b cB cI g2 d2 p2 t len) H locs → ∀ ls : Array Slot, lv_has ls 6 [(0, .ref h0)] → W p l e ({ frames := 1, cells := 0, slots := 0, locals := 22 } : Room) s m ([.ref h0, .int (zI k)] : List Value).toArray below meth c H locs 0 0 (MQ below (va_Qv (cutP n v pt y) (zPost D A (fun u => mW h0 a b cB cI u.1 u.2.1 u.2.2 t len)) A) ([.ref h0, .int (zI k)] : List Value).toArray s ({ frames := 1, cells := 0, slots := 0, locals := 22 } : Room).cells ({ frames := 1, cells := 0, slots := 0, locals := 22 } : Room).slots A) (F0 m 223 ls []) := by
    intro g2 d2 p2 n2 w2 hk0 hd2 hR2 hn2 hw2 hp2 H locs hI ls hl
    refine lv_aload_n hx hb dX3_cut_223 rfl (lv_at hl 0 rfl) ?_
    refine z_callVv (As := []) (rest := []) (wr := ([] : va_W)) (C := "DecimalTextModel") (ci := 3) hF (m_trim l D cB cI h0 a b g2 d2 p2 t len n2 w2 hd2 hR2 (by omega) (by omega)) (lw_V q194 q196 qs6 q17 q197) (by decide +kernel) ⟨Nat.le_of_ble_eq_true rfl, Nat.le_of_ble_eq_true rfl⟩ hI hA [0, 1, 2] [] rfl rfl rfl rfl (by decide) rfl rfl rfl hl.1 rfl (lv_room (Nat.le_of_ble_eq_true rfl)) dX3_cut_224 ⟨Nat.le_of_ble_eq_true rfl, Nat.le_of_ble_eq_true rfl⟩ (fun u H locs hu hI => ?_)
    obtain ⟨g3, d3, p3⟩ := u
    have hI : zW D A s.heap (mW h0 a b cB cI g3 d3 p3 t len) H locs := hI
    obtain ⟨n3, v3, hd3, hn3, hR3, hN3⟩ := hu
    exact z_vret (S := (Int → Int) × Int × Int) (post := (cutP n v pt y)) (w' := (fun u => mW h0 a b cB cI u.1 u.2.1 u.2.2 t len)) hF hr hlk hI (g3, d3, p3) ⟨n3, v3, hd3, by omega, hR3, by rw [if_neg (by omega), show (y - (pt - n)).toNat = n - k.toNat by omega, ← hw2]; exact Nf_x hN3 (by omega)⟩ rfl dX3_cut_227
  have L175 : ∀ (n_ : Nat), ∀ (i5 : Int) (g1 g2 : Int → Int), i5 < (n_ : Int) → (0 ≤ k ∧ k < n) → (rup v (n - k.toNat) = v / 10 ^ (n - k.toNat) + 1) → (Rw g k.toNat (v / 10 ^ (n - k.toNat))) → (Cy g k.toNat (v / 10 ^ (n - k.toNat)) (-1) g1) → (0 ≤ i5 ∧ i5 ≤ k) → (∀ i : Int, i5 < i → i ≤ k → g2 i = g1 (i - 1)) → (∀ i : Int, 0 ≤ i → i ≤ i5 → g2 i = g1 i) → ∀ (H : Heap) (locs : List Loc), zW D A s.heap (mW h0 a b cB cI g2 k pt t len) H locs → ∀ ls : Array Slot, lv_has ls 6 [(0, .ref h0), (1, .int (zI k)), (3, .int (zI pt)), (5, .int (zI i5))] → W p l e ({ frames := 1, cells := 0, slots := 0, locals := 22 } : Room) s m ([.ref h0, .int (zI k)] : List Value).toArray below meth c H locs 0 0 (MQ below (va_Qv (cutP n v pt y) (zPost D A (fun u => mW h0 a b cB cI u.1 u.2.1 u.2.2 t len)) A) ([.ref h0, .int (zI k)] : List Value).toArray s ({ frames := 1, cells := 0, slots := 0, locals := 22 } : Room).cells ({ frames := 1, cells := 0, slots := 0, locals := 22 } : Room).slots A) (F0 m 175 ls []) := by
    intro n_
    induction n_ with
    | zero =>
      intro i5 g1 g2 hm_ hk0 hup hRq hC hi5 hs hk2 H locs hI ls hl
      exfalso; omega
    | succ n_ ih_ =>
      intro i5 g1 g2 hm_ hk0 hup hRq hC hi5 hs hk2 H locs hI ls hl
      refine lv_iload hx hb dX3_cut_175 (lv_at hl 3 rfl) ?_
      refine z_if_le (tgt := 202) hx hb (by omega) dX3_cut_177 (by decide) (fun h1 => ?_) (fun h1 => ?_)
      · skip
        refine lv_aload_n hx hb dX3_cut_202 rfl (lv_at hl 0 rfl) ?_
        refine z_get (ci := 3) hF hI in_X3 0 rfl rfl 0 (by decide) q155 rfl rfl dX3_cut_203 ?_
        refine z_iconst hx hb dX3_cut_206 ?_
        refine z_iconst hx hb dX3_cut_207 ?_
        refine z_bast hF hI 1 rfl (by omega) (by omega) (by omega) dX3_cut_208 (fun H locs hI => ?_)
        have hI : zW D A s.heap (mW h0 a b cB cI (zup g2 0 1) k pt t len) H locs := hI
        refine lv_aload_n hx hb dX3_cut_209 rfl (lv_at hl 0 rfl) ?_
        refine lv_iload_n hx hb dX3_cut_210 rfl (lv_at hl 1 rfl) ?_
        refine z_iconst hx hb dX3_cut_211 ?_
        refine z_iadd hx hb dX3_cut_212 ?_
        refine z_put (ci := 3) (v := .int (zI (k + 1))) (ty := .int) hF hI in_X3 tyX3 tyX3_ok nmX3 0 rfl rfl 1 (by decide) q156 rfl rfl (by decide +kernel) rfl rfl (Nat.le_of_ble_eq_true rfl) dX3_cut_213 (fun H locs hI => ?_)
        have hI : zW D A s.heap (mW h0 a b cB cI (zup g2 0 1) (k + 1) pt t len) H locs := hI
        refine lv_aload_n hx hb dX3_cut_216 rfl (lv_at hl 0 rfl) ?_
        refine lv_iload_n hx hb dX3_cut_217 rfl (lv_at hl 2 rfl) ?_
        refine z_iconst hx hb dX3_cut_218 ?_
        refine z_iadd hx hb dX3_cut_219 ?_
        refine z_put (ci := 3) (v := .int (zI (pt + 1))) (ty := .int) hF hI in_X3 tyX3 tyX3_ok nmX3 0 rfl rfl 2 (by decide) q157 rfl rfl (by decide +kernel) rfl rfl (Nat.le_of_ble_eq_true rfl) dX3_cut_220 (fun H locs hI => ?_)
        have hI : zW D A s.heap (mW h0 a b cB cI (zup g2 0 1) (k + 1) (pt + 1) t len) H locs := hI
        obtain ⟨ha1, ha2⟩ := Cy_all (g2 := g2) hRq hC (fun i q1 q2 => hs i (by omega) (by omega))
        exact L223 (zup g2 0 1) (k + 1) (pt + 1) (k.toNat + 1) (v / 10 ^ (n - k.toNat) + 1) hk0 (by omega) ha2 (by omega) hup.symm (by omega) H locs hI ls (lv_sub hl [0] rfl)
      · skip
        have hrg : g2 (i5 - 1) = 0 := by rw [hk2 (i5 - 1) (by omega) (by omega)]; exact hC.2.1 _ (by omega) (by omega)
        refine lv_aload_n hx hb dX3_cut_180 rfl (lv_at hl 0 rfl) ?_
        refine z_get (ci := 3) hF hI in_X3 0 rfl rfl 0 (by decide) q155 rfl rfl dX3_cut_181 ?_
        refine lv_iload hx hb dX3_cut_184 (lv_at hl 3 rfl) ?_
        refine lv_aload_n hx hb dX3_cut_186 rfl (lv_at hl 0 rfl) ?_
        refine z_get (ci := 3) hF hI in_X3 0 rfl rfl 0 (by decide) q155 rfl rfl dX3_cut_187 ?_
        refine lv_iload hx hb dX3_cut_190 (lv_at hl 3 rfl) ?_
        refine z_iconst hx hb dX3_cut_192 ?_
        refine z_isub hx hb dX3_cut_193 ?_
        refine z_bald hF hI 1 rfl (by omega) (by omega) dX3_cut_194 ?_
        refine z_bast hF hI 1 rfl (by omega) (by omega) (by omega) dX3_cut_195 (fun H locs hI => ?_)
        have hI : zW D A s.heap (mW h0 a b cB cI (zup g2 i5 (g2 (i5 - 1))) k pt t len) H locs := hI
        refine lv_iinc (lv' := [(5, .int (zI (i5 + (-1)))), (0, .ref h0), (1, .int (zI k)), (3, .int (zI pt))]) (k := 3) hx hb dX3_cut_196 hl rfl (zI_add _ _) (by decide) rfl (fun ls hl => ?_)
        refine lv_goto (tgt := 175) hx hb dX3_cut_199 (by decide) ?_
        exact ih_ (i5 + -1) g1 (zup g2 i5 (g2 (i5 - 1))) (by omega) hk0 hup hRq hC (by omega) (by intro i q1 q2; by_cases q : i = i5; (rw [q, zup_same]; exact hk2 _ (by omega) (by omega)); (rw [zup_ne _ _ q]; exact hs i (by omega) q2)) (by intro i q1 q2; rw [zup_ne _ _ (by omega)]; exact hk2 i q1 (by omega)) H locs hI ls (lv_sub hl [1, 2, 3, 0] rfl)
  have L147 : ∀ (j : Int) (g1 : Int → Int), (0 ≤ k ∧ k < n) → (rup v (n - k.toNat) = v / 10 ^ (n - k.toNat) + 1) → (Rw g k.toNat (v / 10 ^ (n - k.toNat))) → (-1 ≤ j ∧ j < k) → (Cy g k.toNat (v / 10 ^ (n - k.toNat)) j g1) → (0 ≤ j → g1 j ≠ 9) → ∀ (H : Heap) (locs : List Loc), zW D A s.heap (mW h0 a b cB cI g1 k pt t len) H locs → ∀ ls : Array Slot, lv_has ls 6 [(0, .ref h0), (1, .int (zI k)), (3, .int (zI pt)), (4, .int (zI j))] → W p l e ({ frames := 1, cells := 0, slots := 0, locals := 22 } : Room) s m ([.ref h0, .int (zI k)] : List Value).toArray below meth c H locs 0 0 (MQ below (va_Qv (cutP n v pt y) (zPost D A (fun u => mW h0 a b cB cI u.1 u.2.1 u.2.2 t len)) A) ([.ref h0, .int (zI k)] : List Value).toArray s ({ frames := 1, cells := 0, slots := 0, locals := 22 } : Room).cells ({ frames := 1, cells := 0, slots := 0, locals := 22 } : Room).slots A) (F0 m 147 ls []) := by
    intro j g1 hk0 hup hRq hj hC h9 H locs hI ls hl
    refine lv_iload hx hb dX3_cut_147 (lv_at hl 3 rfl) ?_
    refine z_if_lt (tgt := 172) hx hb (by omega) dX3_cut_149 (by decide) (fun h1 => ?_) (fun h1 => ?_)
    · skip
      rw [show j = -1 by omega] at hC
      refine lv_iload_n hx hb dX3_cut_172 rfl (lv_at hl 1 rfl) ?_
      refine lv_istore (lv' := [(5, .int (zI k)), (0, .ref h0), (1, .int (zI k)), (3, .int (zI pt)), (4, .int (zI j))]) hx hb dX3_cut_173 hl (by decide) rfl (fun ls hl => ?_)
      exact L175 (k.toNat + 1) k g1 g1 (by omega) hk0 hup hRq hC (by omega) (by intro i q1 q2; exfalso; omega) (by intro i q1 q2; rfl) H locs hI ls (lv_sub hl [1, 2, 3, 0] rfl)
    · skip
      have hrg := Cy_rng hRq (by omega) hC
      have hne := h9 h1
      refine lv_aload_n hx hb dX3_cut_152 rfl (lv_at hl 0 rfl) ?_
      refine z_get (ci := 3) hF hI in_X3 0 rfl rfl 0 (by decide) q155 rfl rfl dX3_cut_153 ?_
      refine lv_iload hx hb dX3_cut_156 (lv_at hl 3 rfl) ?_
      refine lv_aload_n hx hb dX3_cut_158 rfl (lv_at hl 0 rfl) ?_
      refine z_get (ci := 3) hF hI in_X3 0 rfl rfl 0 (by decide) q155 rfl rfl dX3_cut_159 ?_
      refine lv_iload hx hb dX3_cut_162 (lv_at hl 3 rfl) ?_
      refine z_bald hF hI 1 rfl (by omega) (by omega) dX3_cut_164 ?_
      refine z_iconst hx hb dX3_cut_165 ?_
      refine z_iadd hx hb dX3_cut_166 ?_
      refine z_i2b hx hb (by omega) dX3_cut_167 ?_
      refine z_bast hF hI 1 rfl (by omega) (by omega) (by omega) dX3_cut_168 (fun H locs hI => ?_)
      have hI : zW D A s.heap (mW h0 a b cB cI (zup g1 j ((g1 j) + 1)) k pt t len) H locs := hI
      refine lv_goto (tgt := 223) hx hb dX3_cut_169 (by decide) ?_
      exact L223 (zup g1 j (g1 j + 1)) k pt k.toNat (v / 10 ^ (n - k.toNat) + 1) hk0 (by omega) (by exact Cy_put hRq (by omega) hC hne) (by omega) hup.symm (by omega) H locs hI ls (lv_sub hl [0] rfl)
  have L113 : ∀ (n_ : Nat), ∀ (j : Int) (g1 : Int → Int), j + 1 < (n_ : Int) → (0 ≤ k ∧ k < n) → (rup v (n - k.toNat) = v / 10 ^ (n - k.toNat) + 1) → (Rw g k.toNat (v / 10 ^ (n - k.toNat))) → (-1 ≤ j ∧ j < k) → (Cy g k.toNat (v / 10 ^ (n - k.toNat)) j g1) → ∀ (H : Heap) (locs : List Loc), zW D A s.heap (mW h0 a b cB cI g1 k pt t len) H locs → ∀ ls : Array Slot, lv_has ls 6 [(0, .ref h0), (1, .int (zI k)), (3, .int (zI pt)), (4, .int (zI j))] → W p l e ({ frames := 1, cells := 0, slots := 0, locals := 22 } : Room) s m ([.ref h0, .int (zI k)] : List Value).toArray below meth c H locs 0 0 (MQ below (va_Qv (cutP n v pt y) (zPost D A (fun u => mW h0 a b cB cI u.1 u.2.1 u.2.2 t len)) A) ([.ref h0, .int (zI k)] : List Value).toArray s ({ frames := 1, cells := 0, slots := 0, locals := 22 } : Room).cells ({ frames := 1, cells := 0, slots := 0, locals := 22 } : Room).slots A) (F0 m 113 ls []) := by
    intro n_
    induction n_ with
    | zero =>
      intro j g1 hm_ hk0 hup hRq hj hC H locs hI ls hl
      exfalso; omega
    | succ n_ ih_ =>
      intro j g1 hm_ hk0 hup hRq hj hC H locs hI ls hl
      refine lv_iload hx hb dX3_cut_113 (lv_at hl 3 rfl) ?_
      refine z_if_lt (tgt := 147) hx hb (by omega) dX3_cut_115 (by decide) (fun h1 => ?_) (fun h1 => ?_)
      · skip
        exact L147 j g1 hk0 hup hRq hj hC (by intro q; exfalso; omega) H locs hI ls (lv_sub hl [0, 1, 2, 3] rfl)
      · skip
        have hrg := Cy_rng hRq (by omega) hC
        refine lv_aload_n hx hb dX3_cut_118 rfl (lv_at hl 0 rfl) ?_
        refine z_get (ci := 3) hF hI in_X3 0 rfl rfl 0 (by decide) q155 rfl rfl dX3_cut_119 ?_
        refine lv_iload hx hb dX3_cut_122 (lv_at hl 3 rfl) ?_
        refine z_bald hF hI 1 rfl (by omega) (by omega) dX3_cut_124 ?_
        refine z_bipush hx hb dX3_cut_125 (by decide) ?_
        refine z_icmp_ne (tgt := 147) hx hb (by omega) (by omega) dX3_cut_127 (by decide) (fun h2 => ?_) (fun h2 => ?_)
        · skip
          exact L147 j g1 hk0 hup hRq hj hC (by exact fun _ => h2) H locs hI ls (lv_sub hl [0, 1, 2, 3] rfl)
        · skip
          refine lv_aload_n hx hb dX3_cut_130 rfl (lv_at hl 0 rfl) ?_
          refine z_get (ci := 3) hF hI in_X3 0 rfl rfl 0 (by decide) q155 rfl rfl dX3_cut_131 ?_
          refine lv_iload hx hb dX3_cut_134 (lv_at hl 3 rfl) ?_
          refine z_iconst hx hb dX3_cut_136 ?_
          refine z_bast hF hI 1 rfl (by omega) (by omega) (by omega) dX3_cut_137 (fun H locs hI => ?_)
          have hI : zW D A s.heap (mW h0 a b cB cI (zup g1 j 0) k pt t len) H locs := hI
          refine lv_iload hx hb dX3_cut_138 (lv_at hl 3 rfl) ?_
          refine z_iconst hx hb dX3_cut_140 ?_
          refine z_isub hx hb dX3_cut_141 ?_
          refine lv_istore (lv' := [(4, .int (zI (j - 1))), (0, .ref h0), (1, .int (zI k)), (3, .int (zI pt))]) hx hb dX3_cut_142 hl (by decide) rfl (fun ls hl => ?_)
          refine lv_goto (tgt := 113) hx hb dX3_cut_144 (by decide) ?_
          exact ih_ (j - 1) (zup g1 j 0) (by omega) hk0 hup hRq (by omega) (by exact Cy_step hRq (by omega) hC h2) H locs hI ls (lv_sub hl [1, 2, 3, 0] rfl)
  have L94 : ∀ (up : Int), (0 ≤ k ∧ k < n) → (rup v (n - k.toNat) = v / 10 ^ (n - k.toNat) + up.toNat) → (up = 0 ∨ up = 1) → ∀ (H : Heap) (locs : List Loc), zW D A s.heap (mW h0 a b cB cI g d pt t len) H locs → ∀ ls : Array Slot, lv_has ls 6 [(0, .ref h0), (1, .int (zI k)), (2, .int (zI up))] → W p l e ({ frames := 1, cells := 0, slots := 0, locals := 22 } : Room) s m ([.ref h0, .int (zI k)] : List Value).toArray below meth c H locs 0 0 (MQ below (va_Qv (cutP n v pt y) (zPost D A (fun u => mW h0 a b cB cI u.1 u.2.1 u.2.2 t len)) A) ([.ref h0, .int (zI k)] : List Value).toArray s ({ frames := 1, cells := 0, slots := 0, locals := 22 } : Room).cells ({ frames := 1, cells := 0, slots := 0, locals := 22 } : Room).slots A) (F0 m 94 ls []) := by
    intro up hk0 hup hu1 H locs hI ls hl
    have hRq := Rw_cut hR (k := k.toNat) (by omega)
    refine lv_aload_n hx hb dX3_cut_94 rfl (lv_at hl 0 rfl) ?_
    refine z_get (ci := 3) hF hI in_X3 0 rfl rfl 2 (by decide) q157 rfl rfl dX3_cut_95 ?_
    refine lv_istore_n (lv' := [(3, .int (zI pt)), (0, .ref h0), (1, .int (zI k)), (2, .int (zI up))]) hx hb dX3_cut_98 rfl hl (by decide) rfl (fun ls hl => ?_)
    refine lv_aload_n hx hb dX3_cut_99 rfl (lv_at hl 1 rfl) ?_
    refine lv_iload_n hx hb dX3_cut_100 rfl (lv_at hl 2 rfl) ?_
    refine z_put (ci := 3) (v := .int (zI k)) (ty := .int) hF hI in_X3 tyX3 tyX3_ok nmX3 0 rfl rfl 1 (by decide) q156 rfl rfl (by decide +kernel) rfl rfl (Nat.le_of_ble_eq_true rfl) dX3_cut_101 (fun H locs hI => ?_)
    have hI : zW D A s.heap (mW h0 a b cB cI g k pt t len) H locs := hI
    refine lv_iload_n hx hb dX3_cut_104 rfl (lv_at hl 3 rfl) ?_
    refine z_if_eq (tgt := 223) hx hb (by omega) dX3_cut_105 (by decide) (fun h1 => ?_) (fun h1 => ?_)
    · skip
      exact L223 g k pt k.toNat (v / 10 ^ (n - k.toNat)) hk0 (by omega) hRq (by omega) (by omega) (by omega) H locs hI ls (lv_sub hl [1] rfl)
    · skip
      refine lv_iload_n hx hb dX3_cut_108 rfl (lv_at hl 2 rfl) ?_
      refine z_iconst hx hb dX3_cut_109 ?_
      refine z_isub hx hb dX3_cut_110 ?_
      refine lv_istore (lv' := [(4, .int (zI (k - 1))), (3, .int (zI pt)), (0, .ref h0), (1, .int (zI k)), (2, .int (zI up))]) hx hb dX3_cut_111 hl (by decide) rfl (fun ls hl => ?_)
      exact L113 (k.toNat + 1) (k - 1) g (by omega) hk0 (by omega) hRq (by omega) (by have hi := Cy_init (g := g) (n := k.toNat) (q := v / 10 ^ (n - k.toNat)); rw [show ((k.toNat : Nat) : Int) - 1 = k - 1 by omega] at hi; exact hi) H locs hI ls (lv_sub hl [2, 3, 1, 0] rfl)
  have L74 : ∀ (od up : Int), (0 ≤ k ∧ k < n) → (g k = 5) → (od = ((v / 10 ^ (n - k.toNat) % 2 : Nat) : Int)) → ∀ (H : Heap) (locs : List Loc), zW D A s.heap (mW h0 a b cB cI g d pt t len) H locs → ∀ ls : Array Slot, lv_has ls 6 [(0, .ref h0), (1, .int (zI k)), (2, .int (zI up)), (3, .int (zI od))] → W p l e ({ frames := 1, cells := 0, slots := 0, locals := 22 } : Room) s m ([.ref h0, .int (zI k)] : List Value).toArray below meth c H locs 0 0 (MQ below (va_Qv (cutP n v pt y) (zPost D A (fun u => mW h0 a b cB cI u.1 u.2.1 u.2.2 t len)) A) ([.ref h0, .int (zI k)] : List Value).toArray s ({ frames := 1, cells := 0, slots := 0, locals := 22 } : Room).cells ({ frames := 1, cells := 0, slots := 0, locals := 22 } : Room).slots A) (F0 m 74 ls []) := by
    intro od up hk0 h5 hod H locs hI ls hl
    refine lv_iload_n hx hb dX3_cut_74 rfl (lv_at hl 3 rfl) ?_
    refine z_if_ne (tgt := 88) hx hb (by omega) dX3_cut_75 (by decide) (fun h1 => ?_) (fun h1 => ?_)
    · skip
      refine z_iconst hx hb dX3_cut_88 ?_
      refine lv_goto (tgt := 93) hx hb dX3_cut_89 (by decide) ?_
      refine lv_istore_n (lv' := [(2, .int (zI 1)), (0, .ref h0), (1, .int (zI k)), (3, .int (zI od))]) hx hb dX3_cut_93 rfl hl (by decide) rfl (fun ls hl => ?_)
      exact L94 1 hk0 (by exact cut_five1 hR hk0 h5 (by rcases hv with q | q; omega; exact q) (Or.inl (by omega))) (by omega) H locs hI ls (lv_sub hl [1, 2, 0] rfl)
    · skip
      refine lv_aload_n hx hb dX3_cut_78 rfl (lv_at hl 0 rfl) ?_
      refine z_get (ci := 3) hF hI in_X3 0 rfl rfl 1 (by decide) q156 rfl rfl dX3_cut_79 ?_
      refine lv_iload_n hx hb dX3_cut_82 rfl (lv_at hl 1 rfl) ?_
      refine z_iconst hx hb dX3_cut_83 ?_
      refine z_iadd hx hb dX3_cut_84 ?_
      refine z_icmp_le (tgt := 92) hx hb (by omega) (by omega) dX3_cut_85 (by decide) (fun h2 => ?_) (fun h2 => ?_)
      · skip
        refine z_iconst hx hb dX3_cut_92 ?_
        refine lv_istore_n (lv' := [(2, .int (zI 0)), (0, .ref h0), (1, .int (zI k)), (3, .int (zI od))]) hx hb dX3_cut_93 rfl hl (by decide) rfl (fun ls hl => ?_)
        exact L94 0 hk0 (by exact cut_five0 hR hk0 h5 (by omega) (by omega)) (by omega) H locs hI ls (lv_sub hl [1, 2, 0] rfl)
      · skip
        refine z_iconst hx hb dX3_cut_88 ?_
        refine lv_goto (tgt := 93) hx hb dX3_cut_89 (by decide) ?_
        refine lv_istore_n (lv' := [(2, .int (zI 1)), (0, .ref h0), (1, .int (zI k)), (3, .int (zI od))]) hx hb dX3_cut_93 rfl hl (by decide) rfl (fun ls hl => ?_)
        exact L94 1 hk0 (by exact cut_five1 hR hk0 h5 (by rcases hv with q | q; omega; exact q) (Or.inr (by omega))) (by omega) H locs hI ls (lv_sub hl [1, 2, 0] rfl)
  have L40 : ∀ (up : Int), (0 ≤ k ∧ k < n) → (up = if 5 < g k then 1 else 0) → ∀ (H : Heap) (locs : List Loc), zW D A s.heap (mW h0 a b cB cI g d pt t len) H locs → ∀ ls : Array Slot, lv_has ls 6 [(0, .ref h0), (1, .int (zI k)), (2, .int (zI up))] → W p l e ({ frames := 1, cells := 0, slots := 0, locals := 22 } : Room) s m ([.ref h0, .int (zI k)] : List Value).toArray below meth c H locs 0 0 (MQ below (va_Qv (cutP n v pt y) (zPost D A (fun u => mW h0 a b cB cI u.1 u.2.1 u.2.2 t len)) A) ([.ref h0, .int (zI k)] : List Value).toArray s ({ frames := 1, cells := 0, slots := 0, locals := 22 } : Room).cells ({ frames := 1, cells := 0, slots := 0, locals := 22 } : Room).slots A) (F0 m 40 ls []) := by
    intro up hk0 hup H locs hI ls hl
    have hrg := hR.rng (z := k) (by omega) (by omega)
    refine lv_aload_n hx hb dX3_cut_40 rfl (lv_at hl 0 rfl) ?_
    refine z_get (ci := 3) hF hI in_X3 0 rfl rfl 0 (by decide) q155 rfl rfl dX3_cut_41 ?_
    refine lv_iload_n hx hb dX3_cut_44 rfl (lv_at hl 1 rfl) ?_
    refine z_bald hF hI 1 rfl (by omega) (by omega) dX3_cut_45 ?_
    refine z_iconst hx hb dX3_cut_46 ?_
    refine z_icmp_ne (tgt := 94) hx hb (by omega) (by omega) dX3_cut_47 (by decide) (fun h1 => ?_) (fun h1 => ?_)
    · skip
      exact L94 up hk0 (by exact cut_far hR hk0 h1 hup) (by omega) H locs hI ls (lv_sub hl [0, 1, 2] rfl)
    · skip
      refine lv_iload_n hx hb dX3_cut_50 rfl (lv_at hl 1 rfl) ?_
      refine z_if_le (tgt := 72) hx hb (by omega) dX3_cut_51 (by decide) (fun h2 => ?_) (fun h2 => ?_)
      · skip
        refine z_iconst hx hb dX3_cut_72 ?_
        refine lv_istore_n (lv' := [(3, .int (zI 0)), (0, .ref h0), (1, .int (zI k)), (2, .int (zI up))]) hx hb dX3_cut_73 rfl hl (by decide) rfl (fun ls hl => ?_)
        exact L74 0 up hk0 h1 (by obtain rfl : k = 0 := (by omega); rw [show n - (0 : Int).toNat = n by omega, Nat.div_eq_of_lt hR.1]; rfl) H locs hI ls (lv_sub hl [1, 2, 3, 0] rfl)
      · skip
        have hrg2 := hR.rng (z := k - 1) (by omega) (by omega)
        have hpar := Rw_par hR (k := k) (by omega)
        refine lv_aload_n hx hb dX3_cut_54 rfl (lv_at hl 0 rfl) ?_
        refine z_get (ci := 3) hF hI in_X3 0 rfl rfl 0 (by decide) q155 rfl rfl dX3_cut_55 ?_
        refine lv_iload_n hx hb dX3_cut_58 rfl (lv_at hl 1 rfl) ?_
        refine z_iconst hx hb dX3_cut_59 ?_
        refine z_isub hx hb dX3_cut_60 ?_
        refine z_bald hF hI 1 rfl (by omega) (by omega) dX3_cut_61 ?_
        refine z_iconst hx hb dX3_cut_62 ?_
        refine z_irem hx hb (by omega) (by omega) dX3_cut_63 ?_
        refine z_iconst hx hb dX3_cut_64 ?_
        refine z_icmp_ne (tgt := 72) hx hb (by omega) (by omega) dX3_cut_65 (by decide) (fun h3 => ?_) (fun h3 => ?_)
        · skip
          refine z_iconst hx hb dX3_cut_72 ?_
          refine lv_istore_n (lv' := [(3, .int (zI 0)), (0, .ref h0), (1, .int (zI k)), (2, .int (zI up))]) hx hb dX3_cut_73 rfl hl (by decide) rfl (fun ls hl => ?_)
          exact L74 0 up hk0 h1 (by omega) H locs hI ls (lv_sub hl [1, 2, 3, 0] rfl)
        · skip
          refine z_iconst hx hb dX3_cut_68 ?_
          refine lv_goto (tgt := 73) hx hb dX3_cut_69 (by decide) ?_
          refine lv_istore_n (lv' := [(3, .int (zI 1)), (0, .ref h0), (1, .int (zI k)), (2, .int (zI up))]) hx hb dX3_cut_73 rfl hl (by decide) rfl (fun ls hl => ?_)
          exact L74 1 up hk0 h1 (by omega) H locs hI ls (lv_sub hl [1, 2, 3, 0] rfl)
  refine lv_iload_n hx hb dX3_cut_0 rfl (lv_at hl 1 rfl) ?_
  refine lv_aload_n hx hb dX3_cut_1 rfl (lv_at hl 0 rfl) ?_
  refine z_get (ci := 3) hF hI in_X3 0 rfl rfl 1 (by decide) q156 rfl rfl dX3_cut_2 ?_
  refine z_icmp_lt (tgt := 9) hx hb (by omega) (by omega) dX3_cut_5 (by decide) (fun h1 => ?_) (fun h1 => ?_)
  · skip
    refine lv_iload_n hx hb dX3_cut_9 rfl (lv_at hl 1 rfl) ?_
    refine z_if_ge (tgt := 24) hx hb (by omega) dX3_cut_10 (by decide) (fun h2 => ?_) (fun h2 => ?_)
    · skip
      have hrg := hR.rng (z := k) (by omega) (by omega)
      refine lv_aload_n hx hb dX3_cut_24 rfl (lv_at hl 0 rfl) ?_
      refine z_get (ci := 3) hF hI in_X3 0 rfl rfl 0 (by decide) q155 rfl rfl dX3_cut_25 ?_
      refine lv_iload_n hx hb dX3_cut_28 rfl (lv_at hl 1 rfl) ?_
      refine z_bald hF hI 1 rfl (by omega) (by omega) dX3_cut_29 ?_
      refine z_iconst hx hb dX3_cut_30 ?_
      refine z_icmp_le (tgt := 38) hx hb (by omega) (by omega) dX3_cut_31 (by decide) (fun h3 => ?_) (fun h3 => ?_)
      · skip
        refine z_iconst hx hb dX3_cut_38 ?_
        refine lv_istore_n (lv' := [(2, .int (zI 0)), (0, .ref h0), (1, .int (zI k))]) hx hb dX3_cut_39 rfl hl (by decide) rfl (fun ls hl => ?_)
        exact L40 0 (by omega) (by rw [if_neg (by omega)]) H locs hI ls (lv_sub hl [1, 2, 0] rfl)
      · skip
        refine z_iconst hx hb dX3_cut_34 ?_
        refine lv_goto (tgt := 39) hx hb dX3_cut_35 (by decide) ?_
        refine lv_istore_n (lv' := [(2, .int (zI 1)), (0, .ref h0), (1, .int (zI k))]) hx hb dX3_cut_39 rfl hl (by decide) rfl (fun ls hl => ?_)
        exact L40 1 (by omega) (by rw [if_pos (by omega)]) H locs hI ls (lv_sub hl [1, 2, 0] rfl)
    · skip
      refine lv_aload_n hx hb dX3_cut_13 rfl (lv_at hl 0 rfl) ?_
      refine z_iconst hx hb dX3_cut_14 ?_
      refine z_put (ci := 3) (v := .int (zI 0)) (ty := .int) hF hI in_X3 tyX3 tyX3_ok nmX3 0 rfl rfl 1 (by decide) q156 rfl rfl (by decide +kernel) rfl rfl (Nat.le_of_ble_eq_true rfl) dX3_cut_15 (fun H locs hI => ?_)
      have hI : zW D A s.heap (mW h0 a b cB cI g 0 pt t len) H locs := hI
      refine lv_aload_n hx hb dX3_cut_18 rfl (lv_at hl 0 rfl) ?_
      refine z_iconst hx hb dX3_cut_19 ?_
      refine z_put (ci := 3) (v := .int (zI 0)) (ty := .int) hF hI in_X3 tyX3 tyX3_ok nmX3 0 rfl rfl 2 (by decide) q157 rfl rfl (by decide +kernel) rfl rfl (Nat.le_of_ble_eq_true rfl) dX3_cut_20 (fun H locs hI => ?_)
      have hI : zW D A s.heap (mW h0 a b cB cI g 0 0 t len) H locs := hI
      exact z_vret (S := (Int → Int) × Int × Int) (post := (cutP n v pt y)) (w' := (fun u => mW h0 a b cB cI u.1 u.2.1 u.2.2 t len)) hF hr hlk hI (g, 0, 0) ⟨0, 0, rfl, by omega, Rw_0 g, by rw [if_neg (by omega), rup_small hR.1 (by omega)]; exact Or.inl ⟨rfl, rfl, rfl, rfl⟩⟩ rfl dX3_cut_23
  · skip
    exact z_vret (S := (Int → Int) × Int × Int) (post := (cutP n v pt y)) (w' := (fun u => mW h0 a b cB cI u.1 u.2.1 u.2.2 t len)) hF hr hlk hI (g, d, pt) ⟨n, v, hd, by omega, hR, by rw [if_pos (by omega)]; exact ⟨rfl, rfl, rfl⟩⟩ rfl dX3_cut_8
end
section
/-! the model: body -/
/-- the array t holds L, and ln is its length -/
def Txl (t : Int → Int) (ln : Int) (L : List Int) : Prop := Tx t L ∧ ln = (L.length : Int)
theorem Txl_add {t : Int → Int} {ln x : Int} {A X Y : List Int} (h : Txl t ln (A ++ X)) (hY : Y = X ++ [x]) : Txl (zup t ln x) (ln + 1) (A ++ Y) := by
  rw [hY, ← List.append_assoc]
  exact ⟨Tx_put h.1 h.2 x, by rw [List.length_append (bs := [x]), List.length_singleton, h.2]; omega⟩
theorem Nf_norm {v x v' n' p'} (h : Nf v x v' n' p') : n' = 0 ∨ v' % 10 ≠ 0 := by
  rcases h with ⟨a, b, c, d⟩ | ⟨a, b, c, d, k, e, f⟩
  · exact Or.inl c
  · exact Or.inr b
theorem Shw_mono {z y : Int} {nm nm' : Nat} {g : Int → Int} {d P : Int} (h : Shw z y nm g d P) (hn : nm ≤ nm') : Shw z y nm' g d P := by
  obtain ⟨n, v, h1, h2, h3⟩ := h
  exact ⟨n, v, h1, Nat.le_trans h2 hn, h3⟩
def bodyP (z how q dot : Int) (L0 : List Int) : (Int → Int) × Int × Int × (Int → Int) × Int → Prop
  | (_, _, _, t', ln') => ∃ L : List Int, BodyS z how q dot L ∧ Txl t' ln' (L0 ++ L) ∧ ln' ≤ 400
set_option maxHeartbeats 4000000 in
set_option maxRecDepth 100000 in
/-- body(how, q, dot) -/
theorem m_body (l : Launch) (D : va_G) (cB cI : ClassId) (h0 a b : Nat) (g : Int → Int) (d pt : Int) (t : Int → Int) (len : Int) (n v : Nat) (z how q dot : Int) (L0 : List Int) (hd : d = (n : Int)) (hR : Rw g n v) (hn : n ≤ 1100) (hN : Nf (bN z) (bX z) v n pt) (hE : z / 4503599627370496 % 2048 ≠ 2047) (hhow : 0 ≤ how ∧ how ≤ 2) (hq : 0 ≤ q ∧ q ≤ 15) (hdot : dot = 0 ∨ dot = 1) (hT : Txl t len (L0 ++ [])) (hL0 : L0.length ≤ 1) : zMv (S := (Int → Int) × Int × Int × (Int → Int) × Int) l yX3_body cX3_body 6 ({ frames := 2, cells := 0, slots := 0, locals := 47 } : Room) D cB cI ([.ref h0, .int (zI how), .int (zI q), .int (zI dot)] : List Value) (mW h0 a b cB cI g d pt t len) (bodyP z how q dot L0) (fun u => mW h0 a b cB cI u.1 u.2.1 u.2.2.1 u.2.2.2.1 u.2.2.2.2) := by
  refine z_metv (by decide) (Nat.le_of_ble_eq_true rfl) ?_
  intro p e s m below meth c A hF hr hlk hnm hA hI ls hl
  have hx := hF.1
  have hb := hF.2.1
  have hown := hF.2.2.2.1
  have hts := hF.2.2.2.2.1
  have hl : lv_has ls 6 [(0, .ref h0), (1, .int (zI how)), (2, .int (zI q)), (3, .int (zI dot))] := hl
  obtain ⟨H, eH⟩ : ∃ H : Heap, H = s.heap := ⟨_, rfl⟩
  obtain ⟨locs, eL⟩ : ∃ L : List Loc, L = [] := ⟨_, rfl⟩
  have hI : zW D A s.heap (mW h0 a b cB cI g d pt t len) H locs := by rw [eH, eL]; exact hI
  suffices hgo : W p l e ({ frames := 2, cells := 0, slots := 0, locals := 47 } : Room) s m ([.ref h0, .int (zI how), .int (zI q), .int (zI dot)] : List Value).toArray below meth c H locs 0 0 (MQ below (va_Qv (bodyP z how q dot L0) (zPost D A (fun u => mW h0 a b cB cI u.1 u.2.1 u.2.2.1 u.2.2.2.1 u.2.2.2.2)) A) ([.ref h0, .int (zI how), .int (zI q), .int (zI dot)] : List Value).toArray s ({ frames := 2, cells := 0, slots := 0, locals := 47 } : Room).cells ({ frames := 2, cells := 0, slots := 0, locals := 47 } : Room).slots A) (F0 m 0 ls []) by rw [eH, eL] at hgo; exact hgo
  clear eH eL
  have hDp := Nf_Dp hN
  have hptr := Dp_rng hE hDp
  have L75 : ∀ (n_ : Nat), ∀ (k : Int) (g1 t1 : Int → Int) (d1 p1 ln1 : Int), q - k < (n_ : Int) → (how = 0) → (Shw z (-q) 1200 g1 d1 p1) → (0 ≤ k ∧ k ≤ q) → (Txl t1 ln1 (L0 ++ (intT (rD z (-q)) p1 ++ dotT q dot ++ digs (rD z (-q)) (-1) k.toNat))) → ∀ (H : Heap) (locs : List Loc), zW D A s.heap (mW h0 a b cB cI g1 d1 p1 t1 ln1) H locs → ∀ ls : Array Slot, lv_has ls 6 [(0, .ref h0), (1, .int (zI how)), (2, .int (zI q)), (3, .int (zI dot)), (4, .int (zI k))] → W p l e ({ frames := 2, cells := 0, slots := 0, locals := 47 } : Room) s m ([.ref h0, .int (zI how), .int (zI q), .int (zI dot)] : List Value).toArray below meth c H locs 0 0 (MQ below (va_Qv (bodyP z how q dot L0) (zPost D A (fun u => mW h0 a b cB cI u.1 u.2.1 u.2.2.1 u.2.2.2.1 u.2.2.2.2)) A) ([.ref h0, .int (zI how), .int (zI q), .int (zI dot)] : List Value).toArray s ({ frames := 2, cells := 0, slots := 0, locals := 47 } : Room).cells ({ frames := 2, cells := 0, slots := 0, locals := 47 } : Room).slots A) (F0 m 75 ls []) := by
    intro n_
    induction n_ with
    | zero =>
      intro k g1 t1 d1 p1 ln1 hm_ hw hS hk hT1 H locs hI ls hl
      exfalso; omega
    | succ n_ ih_ =>
      intro k g1 t1 d1 p1 ln1 hm_ hw hS hk hT1 H locs hI ls hl
      have hpl := rP_le hE (by omega) hS.rP
      have hpg := rP_ge hE (by omega) hS.rP
      have hil := intT_len (rD z (-q)) p1
      have hdl := dotT_len q dot
      have hl2 := hT1.2
      simp only [List.length_append, digs_len] at hl2
      refine lv_iload hx hb dX3_body_75 (lv_at hl 4 rfl) ?_
      refine lv_iload_n hx hb dX3_body_77 rfl (lv_at hl 2 rfl) ?_
      refine z_icmp_ge (tgt := 105) hx hb (by omega) (by omega) dX3_body_78 (by decide) (fun h1 => ?_) (fun h1 => ?_)
      · skip
        exact z_vret (S := (Int → Int) × Int × Int × (Int → Int) × Int) (post := (bodyP z how q dot L0)) (w' := (fun u => mW h0 a b cB cI u.1 u.2.1 u.2.2.1 u.2.2.2.1 u.2.2.2.2)) hF hr hlk hI (g1, d1, p1, t1, ln1) ⟨plainT (rD z (-q)) p1 q dot, Or.inl ⟨hw, p1, hS.rP, rfl⟩, by rw [show k.toNat = q.toNat by omega] at hT1; exact hT1, by omega⟩ rfl dX3_body_105
      · skip
        refine lv_aload_n hx hb dX3_body_81 rfl (lv_at hl 0 rfl) ?_
        refine z_bipush hx hb dX3_body_82 (by decide) ?_
        refine lv_aload_n hx hb dX3_body_84 rfl (lv_at hl 0 rfl) ?_
        refine lv_aload_n hx hb dX3_body_85 rfl (lv_at hl 0 rfl) ?_
        refine z_get (ci := 3) hF hI in_X3 0 rfl rfl 2 (by decide) q157 rfl rfl dX3_body_86 ?_
        refine lv_iload hx hb dX3_body_89 (lv_at hl 4 rfl) ?_
        refine z_iadd hx hb dX3_body_91 ?_
        refine z_callVi (n := 1) (As := [.int (zI (p1 + k))]) (rest := [.int (zI 48), .ref h0]) (wr := ([] : va_W)) (C := "DecimalTextModel") (ci := 3) hF (m_digit l D cB cI h0 a b g1 d1 p1 t1 ln1 (p1 + k) hS.d (by omega)) (lw_V q214 q216 qs11 q17 q217) (by decide +kernel) ⟨Nat.le_of_ble_eq_true rfl, Nat.le_of_ble_eq_true rfl⟩ hI hA [0, 1, 2] [] rfl rfl rfl rfl (by decide) rfl rfl rfl hl.1 rfl (lv_room (Nat.le_of_ble_eq_true rfl)) dX3_body_92 ⟨Nat.le_of_ble_eq_true rfl, Nat.le_of_ble_eq_true rfl⟩ (fun r u H locs hu hI => ?_)
        obtain _u := u
        have hI : zW D A s.heap (mW h0 a b cB cI g1 d1 p1 t1 ln1) H locs := hI
        have hr1 := hu.trans (hS.dig (p1 + k))
        refine z_iadd hx hb dX3_body_95 ?_
        refine z_callVv (n := 1) (As := [.int (zI (48 + r))]) (rest := []) (wr := ([] : va_W)) (C := "DecimalTextModel") (ci := 3) hF (m_put l D cB cI h0 a b g1 d1 p1 t1 ln1 (48 + r) (by omega)) (lw_V q180 q182 qs4 q17 q183) (by decide +kernel) ⟨Nat.le_of_ble_eq_true rfl, Nat.le_of_ble_eq_true rfl⟩ hI hA [0, 1, 2] [] rfl rfl rfl rfl (by decide) rfl rfl rfl hl.1 rfl (lv_room (Nat.le_of_ble_eq_true rfl)) dX3_body_96 ⟨Nat.le_of_ble_eq_true rfl, Nat.le_of_ble_eq_true rfl⟩ (fun u H locs hu hI => ?_)
        obtain _u := u
        have hI : zW D A s.heap (mW h0 a b cB cI g1 d1 p1 (zup t1 ln1 (48 + r)) (ln1 + 1)) H locs := hI
        refine lv_iinc (lv' := [(4, .int (zI (k + 1))), (0, .ref h0), (1, .int (zI how)), (2, .int (zI q)), (3, .int (zI dot))]) (k := 4) hx hb dX3_body_99 hl rfl (zI_add _ _) (by decide) rfl (fun ls hl => ?_)
        refine lv_goto (tgt := 75) hx hb dX3_body_102 (by decide) ?_
        exact ih_ (k + 1) g1 (zup t1 ln1 (48 + r)) d1 p1 (ln1 + 1) (by omega) hw hS (by omega) (by exact Txl_add hT1 (by rw [show (k + 1).toNat = k.toNat + 1 by omega, digs_succ, ← List.append_assoc, hr1, show p1 - 1 - (p1 + k) = -1 - (k.toNat : Int) by omega])) H locs hI ls (lv_sub hl [1, 2, 3, 4, 0] rfl)
  have L72 : ∀ (g1 t1 : Int → Int) (d1 p1 ln1 : Int), (how = 0) → (Shw z (-q) 1200 g1 d1 p1) → (Txl t1 ln1 (L0 ++ (intT (rD z (-q)) p1 ++ dotT q dot))) → ∀ (H : Heap) (locs : List Loc), zW D A s.heap (mW h0 a b cB cI g1 d1 p1 t1 ln1) H locs → ∀ ls : Array Slot, lv_has ls 6 [(0, .ref h0), (1, .int (zI how)), (2, .int (zI q)), (3, .int (zI dot))] → W p l e ({ frames := 2, cells := 0, slots := 0, locals := 47 } : Room) s m ([.ref h0, .int (zI how), .int (zI q), .int (zI dot)] : List Value).toArray below meth c H locs 0 0 (MQ below (va_Qv (bodyP z how q dot L0) (zPost D A (fun u => mW h0 a b cB cI u.1 u.2.1 u.2.2.1 u.2.2.2.1 u.2.2.2.2)) A) ([.ref h0, .int (zI how), .int (zI q), .int (zI dot)] : List Value).toArray s ({ frames := 2, cells := 0, slots := 0, locals := 47 } : Room).cells ({ frames := 2, cells := 0, slots := 0, locals := 47 } : Room).slots A) (F0 m 72 ls []) := by
    intro g1 t1 d1 p1 ln1 hw hS hT1 H locs hI ls hl
    refine z_iconst hx hb dX3_body_72 ?_
    refine lv_istore (lv' := [(4, .int (zI 0)), (0, .ref h0), (1, .int (zI how)), (2, .int (zI q)), (3, .int (zI dot))]) hx hb dX3_body_73 hl (by decide) rfl (fun ls hl => ?_)
    exact L75 (16) 0 g1 t1 d1 p1 ln1 (by omega) hw hS (by omega) (by rw [show (0 : Int).toNat = 0 from rfl, digs_0, List.append_nil]; exact hT1) H locs hI ls (lv_sub hl [1, 2, 3, 4, 0] rfl)
  have L66 : ∀ (g1 t1 : Int → Int) (d1 p1 ln1 : Int), (how = 0) → (Shw z (-q) 1200 g1 d1 p1) → (0 < q ∨ dot ≠ 0) → (Txl t1 ln1 (L0 ++ intT (rD z (-q)) p1)) → ∀ (H : Heap) (locs : List Loc), zW D A s.heap (mW h0 a b cB cI g1 d1 p1 t1 ln1) H locs → ∀ ls : Array Slot, lv_has ls 6 [(0, .ref h0), (1, .int (zI how)), (2, .int (zI q)), (3, .int (zI dot))] → W p l e ({ frames := 2, cells := 0, slots := 0, locals := 47 } : Room) s m ([.ref h0, .int (zI how), .int (zI q), .int (zI dot)] : List Value).toArray below meth c H locs 0 0 (MQ below (va_Qv (bodyP z how q dot L0) (zPost D A (fun u => mW h0 a b cB cI u.1 u.2.1 u.2.2.1 u.2.2.2.1 u.2.2.2.2)) A) ([.ref h0, .int (zI how), .int (zI q), .int (zI dot)] : List Value).toArray s ({ frames := 2, cells := 0, slots := 0, locals := 47 } : Room).cells ({ frames := 2, cells := 0, slots := 0, locals := 47 } : Room).slots A) (F0 m 66 ls []) := by
    intro g1 t1 d1 p1 ln1 hw hS hdd hT1 H locs hI ls hl
    have hpl := rP_le hE (by omega) hS.rP
    have hpg := rP_ge hE (by omega) hS.rP
    have hil := intT_len (rD z (-q)) p1
    have hl2 := hT1.2
    simp only [List.length_append, digs_len] at hl2
    refine lv_aload_n hx hb dX3_body_66 rfl (lv_at hl 0 rfl) ?_
    refine z_bipush hx hb dX3_body_67 (by decide) ?_
    refine z_callVv (n := 1) (As := [.int (zI 46)]) (rest := []) (wr := ([] : va_W)) (C := "DecimalTextModel") (ci := 3) hF (m_put l D cB cI h0 a b g1 d1 p1 t1 ln1 46 (by omega)) (lw_V q180 q182 qs4 q17 q183) (by decide +kernel) ⟨Nat.le_of_ble_eq_true rfl, Nat.le_of_ble_eq_true rfl⟩ hI hA [0, 1, 2] [] rfl rfl rfl rfl (by decide) rfl rfl rfl hl.1 rfl (lv_room (Nat.le_of_ble_eq_true rfl)) dX3_body_69 ⟨Nat.le_of_ble_eq_true rfl, Nat.le_of_ble_eq_true rfl⟩ (fun u H locs hu hI => ?_)
    obtain _u := u
    have hI : zW D A s.heap (mW h0 a b cB cI g1 d1 p1 (zup t1 ln1 46) (ln1 + 1)) H locs := hI
    exact L72 g1 (zup t1 ln1 46) d1 p1 (ln1 + 1) hw hS (by exact Txl_add hT1 (by rw [dotT, if_pos hdd])) H locs hI ls (lv_sub hl [0, 1, 2, 3] rfl)
  have L58 : ∀ (g1 t1 : Int → Int) (d1 p1 ln1 : Int), (how = 0) → (Shw z (-q) 1200 g1 d1 p1) → (Txl t1 ln1 (L0 ++ intT (rD z (-q)) p1)) → ∀ (H : Heap) (locs : List Loc), zW D A s.heap (mW h0 a b cB cI g1 d1 p1 t1 ln1) H locs → ∀ ls : Array Slot, lv_has ls 6 [(0, .ref h0), (1, .int (zI how)), (2, .int (zI q)), (3, .int (zI dot))] → W p l e ({ frames := 2, cells := 0, slots := 0, locals := 47 } : Room) s m ([.ref h0, .int (zI how), .int (zI q), .int (zI dot)] : List Value).toArray below meth c H locs 0 0 (MQ below (va_Qv (bodyP z how q dot L0) (zPost D A (fun u => mW h0 a b cB cI u.1 u.2.1 u.2.2.1 u.2.2.2.1 u.2.2.2.2)) A) ([.ref h0, .int (zI how), .int (zI q), .int (zI dot)] : List Value).toArray s ({ frames := 2, cells := 0, slots := 0, locals := 47 } : Room).cells ({ frames := 2, cells := 0, slots := 0, locals := 47 } : Room).slots A) (F0 m 58 ls []) := by
    intro g1 t1 d1 p1 ln1 hw hS hT1 H locs hI ls hl
    refine lv_iload_n hx hb dX3_body_58 rfl (lv_at hl 2 rfl) ?_
    refine z_if_gt (tgt := 66) hx hb (by omega) dX3_body_59 (by decide) (fun h1 => ?_) (fun h1 => ?_)
    · skip
      exact L66 g1 t1 d1 p1 ln1 hw hS (by exact Or.inl h1) hT1 H locs hI ls (lv_sub hl [0, 1, 2, 3] rfl)
    · skip
      refine lv_iload_n hx hb dX3_body_62 rfl (lv_at hl 3 rfl) ?_
      refine z_if_eq (tgt := 72) hx hb (by omega) dX3_body_63 (by decide) (fun h2 => ?_) (fun h2 => ?_)
      · skip
        exact L72 g1 t1 d1 p1 ln1 hw hS (by rw [dotT, if_neg (by omega), List.append_nil]; exact hT1) H locs hI ls (lv_sub hl [0, 1, 2, 3] rfl)
      · skip
        exact L66 g1 t1 d1 p1 ln1 hw hS (by exact Or.inr h2) hT1 H locs hI ls (lv_sub hl [0, 1, 2, 3] rfl)
  have L17 : ∀ (n_ : Nat), ∀ (k : Int) (g1 t1 : Int → Int) (d1 p1 ln1 : Int), p1 - k + 3000 < (n_ : Int) → (how = 0) → (Shw z (-q) 1200 g1 d1 p1) → (0 ≤ k ∧ (k ≤ p1 ∨ k = 0)) → (Txl t1 ln1 (L0 ++ digs (rD z (-q)) (p1 - 1) k.toNat)) → ∀ (H : Heap) (locs : List Loc), zW D A s.heap (mW h0 a b cB cI g1 d1 p1 t1 ln1) H locs → ∀ ls : Array Slot, lv_has ls 6 [(0, .ref h0), (1, .int (zI how)), (2, .int (zI q)), (3, .int (zI dot)), (4, .int (zI k))] → W p l e ({ frames := 2, cells := 0, slots := 0, locals := 47 } : Room) s m ([.ref h0, .int (zI how), .int (zI q), .int (zI dot)] : List Value).toArray below meth c H locs 0 0 (MQ below (va_Qv (bodyP z how q dot L0) (zPost D A (fun u => mW h0 a b cB cI u.1 u.2.1 u.2.2.1 u.2.2.2.1 u.2.2.2.2)) A) ([.ref h0, .int (zI how), .int (zI q), .int (zI dot)] : List Value).toArray s ({ frames := 2, cells := 0, slots := 0, locals := 47 } : Room).cells ({ frames := 2, cells := 0, slots := 0, locals := 47 } : Room).slots A) (F0 m 17 ls []) := by
    intro n_
    induction n_ with
    | zero =>
      intro k g1 t1 d1 p1 ln1 hm_ hw hS hk hT1 H locs hI ls hl
      exfalso; have := rP_ge hE (by omega) hS.rP; omega
    | succ n_ ih_ =>
      intro k g1 t1 d1 p1 ln1 hm_ hw hS hk hT1 H locs hI ls hl
      have hpl := rP_le hE (by omega) hS.rP
      have hpg := rP_ge hE (by omega) hS.rP
      have hl2 := hT1.2
      simp only [List.length_append, digs_len] at hl2
      refine lv_iload hx hb dX3_body_17 (lv_at hl 4 rfl) ?_
      refine lv_aload_n hx hb dX3_body_19 rfl (lv_at hl 0 rfl) ?_
      refine z_get (ci := 3) hF hI in_X3 0 rfl rfl 2 (by decide) q157 rfl rfl dX3_body_20 ?_
      refine z_icmp_ge (tgt := 45) hx hb (by omega) (by omega) dX3_body_23 (by decide) (fun h1 => ?_) (fun h1 => ?_)
      · skip
        refine lv_aload_n hx hb dX3_body_45 rfl (lv_at hl 0 rfl) ?_
        refine z_get (ci := 3) hF hI in_X3 0 rfl rfl 2 (by decide) q157 rfl rfl dX3_body_46 ?_
        refine z_if_gt (tgt := 58) hx hb (by omega) dX3_body_49 (by decide) (fun h2 => ?_) (fun h2 => ?_)
        · skip
          exact L58 g1 t1 d1 p1 ln1 hw hS (by rw [intT, if_neg (by omega), show p1.toNat = k.toNat by omega]; exact hT1) H locs hI ls (lv_sub hl [0, 1, 2, 3] rfl)
        · skip
          refine lv_aload_n hx hb dX3_body_52 rfl (lv_at hl 0 rfl) ?_
          refine z_bipush hx hb dX3_body_53 (by decide) ?_
          refine z_callVv (n := 1) (As := [.int (zI 48)]) (rest := []) (wr := ([] : va_W)) (C := "DecimalTextModel") (ci := 3) hF (m_put l D cB cI h0 a b g1 d1 p1 t1 ln1 48 (by omega)) (lw_V q180 q182 qs4 q17 q183) (by decide +kernel) ⟨Nat.le_of_ble_eq_true rfl, Nat.le_of_ble_eq_true rfl⟩ hI hA [0, 1, 2] [] rfl rfl rfl rfl (by decide) rfl rfl rfl hl.1 rfl (lv_room (Nat.le_of_ble_eq_true rfl)) dX3_body_55 ⟨Nat.le_of_ble_eq_true rfl, Nat.le_of_ble_eq_true rfl⟩ (fun u H locs hu hI => ?_)
          obtain _u := u
          have hI : zW D A s.heap (mW h0 a b cB cI g1 d1 p1 (zup t1 ln1 48) (ln1 + 1)) H locs := hI
          exact L58 g1 (zup t1 ln1 48) d1 p1 (ln1 + 1) hw hS (by exact Txl_add hT1 (by rw [intT, if_pos (by omega), show k.toNat = 0 by omega, digs_0]; rfl)) H locs hI ls (lv_sub hl [0, 1, 2, 3] rfl)
      · skip
        refine lv_aload_n hx hb dX3_body_26 rfl (lv_at hl 0 rfl) ?_
        refine z_bipush hx hb dX3_body_27 (by decide) ?_
        refine lv_aload_n hx hb dX3_body_29 rfl (lv_at hl 0 rfl) ?_
        refine lv_iload hx hb dX3_body_30 (lv_at hl 4 rfl) ?_
        refine z_callVi (n := 1) (As := [.int (zI k)]) (rest := [.int (zI 48), .ref h0]) (wr := ([] : va_W)) (C := "DecimalTextModel") (ci := 3) hF (m_digit l D cB cI h0 a b g1 d1 p1 t1 ln1 k hS.d (by omega)) (lw_V q214 q216 qs11 q17 q217) (by decide +kernel) ⟨Nat.le_of_ble_eq_true rfl, Nat.le_of_ble_eq_true rfl⟩ hI hA [0, 1, 2] [] rfl rfl rfl rfl (by decide) rfl rfl rfl hl.1 rfl (lv_room (Nat.le_of_ble_eq_true rfl)) dX3_body_32 ⟨Nat.le_of_ble_eq_true rfl, Nat.le_of_ble_eq_true rfl⟩ (fun r u H locs hu hI => ?_)
        obtain _u := u
        have hI : zW D A s.heap (mW h0 a b cB cI g1 d1 p1 t1 ln1) H locs := hI
        have hr1 := hu.trans (hS.dig k)
        refine z_iadd hx hb dX3_body_35 ?_
        refine z_callVv (n := 1) (As := [.int (zI (48 + r))]) (rest := []) (wr := ([] : va_W)) (C := "DecimalTextModel") (ci := 3) hF (m_put l D cB cI h0 a b g1 d1 p1 t1 ln1 (48 + r) (by omega)) (lw_V q180 q182 qs4 q17 q183) (by decide +kernel) ⟨Nat.le_of_ble_eq_true rfl, Nat.le_of_ble_eq_true rfl⟩ hI hA [0, 1, 2] [] rfl rfl rfl rfl (by decide) rfl rfl rfl hl.1 rfl (lv_room (Nat.le_of_ble_eq_true rfl)) dX3_body_36 ⟨Nat.le_of_ble_eq_true rfl, Nat.le_of_ble_eq_true rfl⟩ (fun u H locs hu hI => ?_)
        obtain _u := u
        have hI : zW D A s.heap (mW h0 a b cB cI g1 d1 p1 (zup t1 ln1 (48 + r)) (ln1 + 1)) H locs := hI
        refine lv_iinc (lv' := [(4, .int (zI (k + 1))), (0, .ref h0), (1, .int (zI how)), (2, .int (zI q)), (3, .int (zI dot))]) (k := 4) hx hb dX3_body_39 hl rfl (zI_add _ _) (by decide) rfl (fun ls hl => ?_)
        refine lv_goto (tgt := 17) hx hb dX3_body_42 (by decide) ?_
        exact ih_ (k + 1) g1 (zup t1 ln1 (48 + r)) d1 p1 (ln1 + 1) (by omega) hw hS (by omega) (by exact Txl_add hT1 (by rw [show (k + 1).toNat = k.toNat + 1 by omega, digs_succ, hr1, show p1 - 1 - (k.toNat : Int) = p1 - 1 - k by omega])) H locs hI ls (lv_sub hl [1, 2, 3, 4, 0] rfl)
  have L252 : ∀ (n5 : Int) (X : List Int) (g1 t1 : Int → Int) (d1 p1 ln1 : Int), (Txl t1 ln1 (L0 ++ X)) → (X.length ≤ 30) → (0 ≤ n5 ∧ n5 ≤ 1200) → (BodyS z how q dot (X ++ [48 + n5 / 10 % 10] ++ [48 + n5 % 10])) → ∀ (H : Heap) (locs : List Loc), zW D A s.heap (mW h0 a b cB cI g1 d1 p1 t1 ln1) H locs → ∀ ls : Array Slot, lv_has ls 6 [(0, .ref h0), (5, .int (zI n5))] → W p l e ({ frames := 2, cells := 0, slots := 0, locals := 47 } : Room) s m ([.ref h0, .int (zI how), .int (zI q), .int (zI dot)] : List Value).toArray below meth c H locs 0 0 (MQ below (va_Qv (bodyP z how q dot L0) (zPost D A (fun u => mW h0 a b cB cI u.1 u.2.1 u.2.2.1 u.2.2.2.1 u.2.2.2.2)) A) ([.ref h0, .int (zI how), .int (zI q), .int (zI dot)] : List Value).toArray s ({ frames := 2, cells := 0, slots := 0, locals := 47 } : Room).cells ({ frames := 2, cells := 0, slots := 0, locals := 47 } : Room).slots A) (F0 m 252 ls []) := by
    intro n5 X g1 t1 d1 p1 ln1 hT1 hX hn5 hfin H locs hI ls hl
    have hl2 := hT1.2
    simp only [List.length_append, List.length_cons, List.length_nil, digs_len] at hl2
    refine lv_aload_n hx hb dX3_body_252 rfl (lv_at hl 0 rfl) ?_
    refine z_bipush hx hb dX3_body_253 (by decide) ?_
    refine lv_iload hx hb dX3_body_255 (lv_at hl 1 rfl) ?_
    refine z_bipush hx hb dX3_body_257 (by decide) ?_
    refine z_idiv hx hb (by omega) (by omega) dX3_body_259 ?_
    refine z_bipush hx hb dX3_body_260 (by decide) ?_
    refine z_irem hx hb (by omega) (by omega) dX3_body_262 ?_
    refine z_iadd hx hb dX3_body_263 ?_
    refine z_callVv (n := 1) (As := [.int (zI (48 + ((n5 / 10) % 10)))]) (rest := []) (wr := ([] : va_W)) (C := "DecimalTextModel") (ci := 3) hF (m_put l D cB cI h0 a b g1 d1 p1 t1 ln1 (48 + ((n5 / 10) % 10)) (by omega)) (lw_V q180 q182 qs4 q17 q183) (by decide +kernel) ⟨Nat.le_of_ble_eq_true rfl, Nat.le_of_ble_eq_true rfl⟩ hI hA [0, 1, 2] [] rfl rfl rfl rfl (by decide) rfl rfl rfl hl.1 rfl (lv_room (Nat.le_of_ble_eq_true rfl)) dX3_body_264 ⟨Nat.le_of_ble_eq_true rfl, Nat.le_of_ble_eq_true rfl⟩ (fun u H locs hu hI => ?_)
    obtain _u := u
    have hI : zW D A s.heap (mW h0 a b cB cI g1 d1 p1 (zup t1 ln1 (48 + ((n5 / 10) % 10))) (ln1 + 1)) H locs := hI
    have hT2 := Txl_add hT1 (Y := X ++ [48 + n5 / 10 % 10]) rfl
    refine lv_aload_n hx hb dX3_body_267 rfl (lv_at hl 0 rfl) ?_
    refine z_bipush hx hb dX3_body_268 (by decide) ?_
    refine lv_iload hx hb dX3_body_270 (lv_at hl 1 rfl) ?_
    refine z_bipush hx hb dX3_body_272 (by decide) ?_
    refine z_irem hx hb (by omega) (by omega) dX3_body_274 ?_
    refine z_iadd hx hb dX3_body_275 ?_
    refine z_callVv (n := 1) (As := [.int (zI (48 + (n5 % 10)))]) (rest := []) (wr := ([] : va_W)) (C := "DecimalTextModel") (ci := 3) hF (m_put l D cB cI h0 a b g1 d1 p1 (zup t1 ln1 (48 + ((n5 / 10) % 10))) (ln1 + 1) (48 + (n5 % 10)) (by omega)) (lw_V q180 q182 qs4 q17 q183) (by decide +kernel) ⟨Nat.le_of_ble_eq_true rfl, Nat.le_of_ble_eq_true rfl⟩ hI hA [0, 1, 2] [] rfl rfl rfl rfl (by decide) rfl rfl rfl hl.1 rfl (lv_room (Nat.le_of_ble_eq_true rfl)) dX3_body_276 ⟨Nat.le_of_ble_eq_true rfl, Nat.le_of_ble_eq_true rfl⟩ (fun u H locs hu hI => ?_)
    obtain _u := u
    have hI : zW D A s.heap (mW h0 a b cB cI g1 d1 p1 (zup (zup t1 ln1 (48 + ((n5 / 10) % 10))) (ln1 + 1) (48 + (n5 % 10))) ((ln1 + 1) + 1)) H locs := hI
    have hT3 := Txl_add hT2 (Y := X ++ [48 + n5 / 10 % 10] ++ [48 + n5 % 10]) rfl
    exact z_vret (S := (Int → Int) × Int × Int × (Int → Int) × Int) (post := (bodyP z how q dot L0)) (w' := (fun u => mW h0 a b cB cI u.1 u.2.1 u.2.2.1 u.2.2.2.1 u.2.2.2.2)) hF hr hlk hI (g1, d1, p1, zup (zup t1 ln1 (48 + ((n5 / 10) % 10))) (ln1 + 1) (48 + (n5 % 10)), (ln1 + 1) + 1) ⟨_, hfin, hT3, by omega⟩ rfl dX3_body_279
  have L231 : ∀ (n5 : Int) (X : List Int) (g1 t1 : Int → Int) (d1 p1 ln1 : Int), (Txl t1 ln1 (L0 ++ X)) → (X.length ≤ 25) → (0 ≤ n5 ∧ n5 ≤ 1200) → (BodyS z how q dot (X ++ expT n5)) → ∀ (H : Heap) (locs : List Loc), zW D A s.heap (mW h0 a b cB cI g1 d1 p1 t1 ln1) H locs → ∀ ls : Array Slot, lv_has ls 6 [(0, .ref h0)] → W p l e ({ frames := 2, cells := 0, slots := 0, locals := 47 } : Room) s m ([.ref h0, .int (zI how), .int (zI q), .int (zI dot)] : List Value).toArray below meth c H locs 0 0 (MQ below (va_Qv (bodyP z how q dot L0) (zPost D A (fun u => mW h0 a b cB cI u.1 u.2.1 u.2.2.1 u.2.2.2.1 u.2.2.2.2)) A) ([.ref h0, .int (zI how), .int (zI q), .int (zI dot)] : List Value).toArray s ({ frames := 2, cells := 0, slots := 0, locals := 47 } : Room).cells ({ frames := 2, cells := 0, slots := 0, locals := 47 } : Room).slots A) (F0 m 231 ls [.int (zI n5)]) := by
    intro n5 X g1 t1 d1 p1 ln1 hT1 hX hn5 hfin H locs hI ls hl
    have hl2 := hT1.2
    simp only [List.length_append, List.length_cons, List.length_nil, digs_len] at hl2
    refine lv_istore (lv' := [(5, .int (zI n5)), (0, .ref h0)]) hx hb dX3_body_231 hl (by decide) rfl (fun ls hl => ?_)
    refine lv_iload hx hb dX3_body_233 (lv_at hl 0 rfl) ?_
    refine z_bipush hx hb dX3_body_235 (by decide) ?_
    refine z_icmp_le (tgt := 252) hx hb (by omega) (by omega) dX3_body_237 (by decide) (fun h1 => ?_) (fun h1 => ?_)
    · skip
      exact L252 n5 X g1 t1 d1 p1 ln1 hT1 (by omega) hn5 (by rw [expT, if_neg (by omega), List.nil_append] at hfin; rw [List.append_assoc]; exact hfin) H locs hI ls (lv_sub hl [1, 0] rfl)
    · skip
      refine lv_aload_n hx hb dX3_body_240 rfl (lv_at hl 1 rfl) ?_
      refine z_bipush hx hb dX3_body_241 (by decide) ?_
      refine lv_iload hx hb dX3_body_243 (lv_at hl 0 rfl) ?_
      refine z_bipush hx hb dX3_body_245 (by decide) ?_
      refine z_idiv hx hb (by omega) (by omega) dX3_body_247 ?_
      refine z_iadd hx hb dX3_body_248 ?_
      refine z_callVv (n := 1) (As := [.int (zI (48 + (n5 / 100)))]) (rest := []) (wr := ([] : va_W)) (C := "DecimalTextModel") (ci := 3) hF (m_put l D cB cI h0 a b g1 d1 p1 t1 ln1 (48 + (n5 / 100)) (by omega)) (lw_V q180 q182 qs4 q17 q183) (by decide +kernel) ⟨Nat.le_of_ble_eq_true rfl, Nat.le_of_ble_eq_true rfl⟩ hI hA [0, 1, 2] [] rfl rfl rfl rfl (by decide) rfl rfl rfl hl.1 rfl (lv_room (Nat.le_of_ble_eq_true rfl)) dX3_body_249 ⟨Nat.le_of_ble_eq_true rfl, Nat.le_of_ble_eq_true rfl⟩ (fun u H locs hu hI => ?_)
      obtain _u := u
      have hI : zW D A s.heap (mW h0 a b cB cI g1 d1 p1 (zup t1 ln1 (48 + (n5 / 100))) (ln1 + 1)) H locs := hI
      exact L252 n5 (X ++ [48 + n5 / 100]) g1 (zup t1 ln1 (48 + (n5 / 100))) d1 p1 (ln1 + 1) (by exact Txl_add hT1 rfl) (by rw [List.length_append, List.length_singleton]; omega) hn5 (by rw [expT, if_pos (by omega)] at hfin; simp only [List.append_assoc] at hfin ⊢; exact hfin) H locs hI ls (lv_sub hl [1, 0] rfl)
  have L215 : ∀ (sg ee : Int) (X : List Int) (g1 t1 : Int → Int) (d1 p1 ln1 : Int), (Txl t1 ln1 (L0 ++ X)) → (X.length ≤ 24) → (-1200 ≤ ee ∧ ee ≤ 1200) → (BodyS z how q dot (X ++ [sg] ++ expT (absI ee))) → ∀ (H : Heap) (locs : List Loc), zW D A s.heap (mW h0 a b cB cI g1 d1 p1 t1 ln1) H locs → ∀ ls : Array Slot, lv_has ls 6 [(0, .ref h0), (4, .int (zI ee))] → W p l e ({ frames := 2, cells := 0, slots := 0, locals := 47 } : Room) s m ([.ref h0, .int (zI how), .int (zI q), .int (zI dot)] : List Value).toArray below meth c H locs 0 0 (MQ below (va_Qv (bodyP z how q dot L0) (zPost D A (fun u => mW h0 a b cB cI u.1 u.2.1 u.2.2.1 u.2.2.2.1 u.2.2.2.2)) A) ([.ref h0, .int (zI how), .int (zI q), .int (zI dot)] : List Value).toArray s ({ frames := 2, cells := 0, slots := 0, locals := 47 } : Room).cells ({ frames := 2, cells := 0, slots := 0, locals := 47 } : Room).slots A) (F0 m 215 ls [.int (zI sg), .ref h0]) := by
    intro sg ee X g1 t1 d1 p1 ln1 hT1 hX hee hfin H locs hI ls hl
    have hl2 := hT1.2
    simp only [List.length_append, List.length_cons, List.length_nil, digs_len] at hl2
    refine z_callVv (n := 1) (As := [.int (zI sg)]) (rest := []) (wr := ([] : va_W)) (C := "DecimalTextModel") (ci := 3) hF (m_put l D cB cI h0 a b g1 d1 p1 t1 ln1 sg (by omega)) (lw_V q180 q182 qs4 q17 q183) (by decide +kernel) ⟨Nat.le_of_ble_eq_true rfl, Nat.le_of_ble_eq_true rfl⟩ hI hA [0, 1, 2] [] rfl rfl rfl rfl (by decide) rfl rfl rfl hl.1 rfl (lv_room (Nat.le_of_ble_eq_true rfl)) dX3_body_215 ⟨Nat.le_of_ble_eq_true rfl, Nat.le_of_ble_eq_true rfl⟩ (fun u H locs hu hI => ?_)
    obtain _u := u
    have hI : zW D A s.heap (mW h0 a b cB cI g1 d1 p1 (zup t1 ln1 sg) (ln1 + 1)) H locs := hI
    have hT2 := Txl_add hT1 (Y := X ++ [sg]) rfl
    refine lv_iload hx hb dX3_body_218 (lv_at hl 1 rfl) ?_
    refine z_if_ge (tgt := 229) hx hb (by omega) dX3_body_220 (by decide) (fun h1 => ?_) (fun h1 => ?_)
    · skip
      refine lv_iload hx hb dX3_body_229 (lv_at hl 1 rfl) ?_
      exact L231 ee (X ++ [sg]) g1 (zup t1 ln1 sg) d1 p1 (ln1 + 1) hT2 (by rw [List.length_append, List.length_singleton]; omega) (by omega) (by rw [absI, if_neg (by omega)] at hfin; exact hfin) H locs hI ls (lv_sub hl [0] rfl)
    · skip
      refine lv_iload hx hb dX3_body_223 (lv_at hl 1 rfl) ?_
      refine z_ineg hx hb dX3_body_225 ?_
      refine lv_goto (tgt := 231) hx hb dX3_body_226 (by decide) ?_
      exact L231 (-ee) (X ++ [sg]) g1 (zup t1 ln1 sg) d1 p1 (ln1 + 1) hT2 (by rw [List.length_append, List.length_singleton]; omega) (by omega) (by rw [absI, if_pos (by omega)] at hfin; exact hfin) H locs hI ls (lv_sub hl [0] rfl)
  have L199 : ∀ (lt ee : Int) (X : List Int) (g1 t1 : Int → Int) (d1 p1 ln1 : Int), (Txl t1 ln1 (L0 ++ X)) → (X.length ≤ 23) → (-1200 ≤ ee ∧ ee ≤ 1200) → (BodyS z how q dot (X ++ [lt] ++ [if ee < 0 then 45 else 43] ++ expT (absI ee))) → ∀ (H : Heap) (locs : List Loc), zW D A s.heap (mW h0 a b cB cI g1 d1 p1 t1 ln1) H locs → ∀ ls : Array Slot, lv_has ls 6 [(0, .ref h0), (4, .int (zI ee))] → W p l e ({ frames := 2, cells := 0, slots := 0, locals := 47 } : Room) s m ([.ref h0, .int (zI how), .int (zI q), .int (zI dot)] : List Value).toArray below meth c H locs 0 0 (MQ below (va_Qv (bodyP z how q dot L0) (zPost D A (fun u => mW h0 a b cB cI u.1 u.2.1 u.2.2.1 u.2.2.2.1 u.2.2.2.2)) A) ([.ref h0, .int (zI how), .int (zI q), .int (zI dot)] : List Value).toArray s ({ frames := 2, cells := 0, slots := 0, locals := 47 } : Room).cells ({ frames := 2, cells := 0, slots := 0, locals := 47 } : Room).slots A) (F0 m 199 ls [.int (zI lt), .ref h0]) := by
    intro lt ee X g1 t1 d1 p1 ln1 hT1 hX hee hfin H locs hI ls hl
    have hl2 := hT1.2
    simp only [List.length_append, List.length_cons, List.length_nil, digs_len] at hl2
    refine z_callVv (n := 1) (As := [.int (zI lt)]) (rest := []) (wr := ([] : va_W)) (C := "DecimalTextModel") (ci := 3) hF (m_put l D cB cI h0 a b g1 d1 p1 t1 ln1 lt (by omega)) (lw_V q180 q182 qs4 q17 q183) (by decide +kernel) ⟨Nat.le_of_ble_eq_true rfl, Nat.le_of_ble_eq_true rfl⟩ hI hA [0, 1, 2] [] rfl rfl rfl rfl (by decide) rfl rfl rfl hl.1 rfl (lv_room (Nat.le_of_ble_eq_true rfl)) dX3_body_199 ⟨Nat.le_of_ble_eq_true rfl, Nat.le_of_ble_eq_true rfl⟩ (fun u H locs hu hI => ?_)
    obtain _u := u
    have hI : zW D A s.heap (mW h0 a b cB cI g1 d1 p1 (zup t1 ln1 lt) (ln1 + 1)) H locs := hI
    have hT2 := Txl_add hT1 (Y := X ++ [lt]) rfl
    refine lv_aload_n hx hb dX3_body_202 rfl (lv_at hl 0 rfl) ?_
    refine lv_iload hx hb dX3_body_203 (lv_at hl 1 rfl) ?_
    refine z_if_ge (tgt := 213) hx hb (by omega) dX3_body_205 (by decide) (fun h1 => ?_) (fun h1 => ?_)
    · skip
      refine z_bipush hx hb dX3_body_213 (by decide) ?_
      exact L215 43 ee (X ++ [lt]) g1 (zup t1 ln1 lt) d1 p1 (ln1 + 1) hT2 (by rw [List.length_append, List.length_singleton]; omega) hee (by rw [if_neg (by omega)] at hfin; exact hfin) H locs hI ls (lv_sub hl [0, 1] rfl)
    · skip
      refine z_bipush hx hb dX3_body_208 (by decide) ?_
      refine lv_goto (tgt := 215) hx hb dX3_body_210 (by decide) ?_
      exact L215 45 ee (X ++ [lt]) g1 (zup t1 ln1 lt) d1 p1 (ln1 + 1) hT2 (by rw [List.length_append, List.length_singleton]; omega) hee (by rw [if_pos (by omega)] at hfin; exact hfin) H locs hI ls (lv_sub hl [0, 1] rfl)
  have L161 : ∀ (n_ : Nat), ∀ (k : Int) (ee : Int) (g1 t1 : Int → Int) (d1 p1 ln1 : Int), q - k + 1 < (n_ : Int) → (how ≠ 0) → (Shw z (pt - q - 1) 1200 g1 d1 p1) → (ee = if bN z = 0 then 0 else p1 - 1) → (1 ≤ k ∧ k ≤ q + 1) → (Txl t1 ln1 (L0 ++ (digs (rD z (pt - q - 1)) (p1 - 1) 1 ++ dotT q dot ++ digs (rD z (pt - q - 1)) (p1 - 2) (k - 1).toNat))) → ∀ (H : Heap) (locs : List Loc), zW D A s.heap (mW h0 a b cB cI g1 d1 p1 t1 ln1) H locs → ∀ ls : Array Slot, lv_has ls 6 [(0, .ref h0), (1, .int (zI how)), (2, .int (zI q)), (3, .int (zI dot)), (4, .int (zI ee)), (5, .int (zI k))] → W p l e ({ frames := 2, cells := 0, slots := 0, locals := 47 } : Room) s m ([.ref h0, .int (zI how), .int (zI q), .int (zI dot)] : List Value).toArray below meth c H locs 0 0 (MQ below (va_Qv (bodyP z how q dot L0) (zPost D A (fun u => mW h0 a b cB cI u.1 u.2.1 u.2.2.1 u.2.2.2.1 u.2.2.2.2)) A) ([.ref h0, .int (zI how), .int (zI q), .int (zI dot)] : List Value).toArray s ({ frames := 2, cells := 0, slots := 0, locals := 47 } : Room).cells ({ frames := 2, cells := 0, slots := 0, locals := 47 } : Room).slots A) (F0 m 161 ls []) := by
    intro n_
    induction n_ with
    | zero =>
      intro k ee g1 t1 d1 p1 ln1 hm_ hw hS he hk hT1 H locs hI ls hl
      exfalso; omega
    | succ n_ ih_ =>
      intro k ee g1 t1 d1 p1 ln1 hm_ hw hS he hk hT1 H locs hI ls hl
      have hsl := sci_le hE hq hDp hS.rP
      have hdl := dotT_len q dot
      have hl2 := hT1.2
      simp only [List.length_append, List.length_cons, List.length_nil, digs_len] at hl2
      refine lv_iload hx hb dX3_body_161 (lv_at hl 5 rfl) ?_
      refine lv_iload_n hx hb dX3_body_163 rfl (lv_at hl 2 rfl) ?_
      refine z_icmp_gt (tgt := 186) hx hb (by omega) (by omega) dX3_body_164 (by decide) (fun h1 => ?_) (fun h1 => ?_)
      · skip
        rw [show (k - 1).toNat = q.toNat by omega] at hT1
        refine lv_aload_n hx hb dX3_body_186 rfl (lv_at hl 0 rfl) ?_
        refine lv_iload_n hx hb dX3_body_187 rfl (lv_at hl 1 rfl) ?_
        refine z_iconst hx hb dX3_body_188 ?_
        refine z_icmp_ne (tgt := 197) hx hb (by omega) (by omega) dX3_body_189 (by decide) (fun h2 => ?_) (fun h2 => ?_)
        · skip
          refine z_bipush hx hb dX3_body_197 (by decide) ?_
          exact L199 69 ee (digs (rD z (pt - q - 1)) (p1 - 1) 1 ++ dotT q dot ++ digs (rD z (pt - q - 1)) (p1 - 2) q.toNat) g1 t1 d1 p1 ln1 hT1 (by simp only [List.length_append, digs_len]; omega) (by rw [he]; split <;> omega) (by exact Or.inr ⟨hw, pt, p1, hDp, hS.rP, by rw [if_neg (by omega : ¬ how = 1), ← he]; rfl⟩) H locs hI ls (lv_sub hl [0, 4] rfl)
        · skip
          refine z_bipush hx hb dX3_body_192 (by decide) ?_
          refine lv_goto (tgt := 199) hx hb dX3_body_194 (by decide) ?_
          exact L199 101 ee (digs (rD z (pt - q - 1)) (p1 - 1) 1 ++ dotT q dot ++ digs (rD z (pt - q - 1)) (p1 - 2) q.toNat) g1 t1 d1 p1 ln1 hT1 (by simp only [List.length_append, digs_len]; omega) (by rw [he]; split <;> omega) (by exact Or.inr ⟨hw, pt, p1, hDp, hS.rP, by rw [if_pos (by omega : how = 1), ← he]; rfl⟩) H locs hI ls (lv_sub hl [0, 4] rfl)
      · skip
        refine lv_aload_n hx hb dX3_body_167 rfl (lv_at hl 0 rfl) ?_
        refine z_bipush hx hb dX3_body_168 (by decide) ?_
        refine lv_aload_n hx hb dX3_body_170 rfl (lv_at hl 0 rfl) ?_
        refine lv_iload hx hb dX3_body_171 (lv_at hl 5 rfl) ?_
        refine z_callVi (n := 1) (As := [.int (zI k)]) (rest := [.int (zI 48), .ref h0]) (wr := ([] : va_W)) (C := "DecimalTextModel") (ci := 3) hF (m_digit l D cB cI h0 a b g1 d1 p1 t1 ln1 k hS.d (by omega)) (lw_V q214 q216 qs11 q17 q217) (by decide +kernel) ⟨Nat.le_of_ble_eq_true rfl, Nat.le_of_ble_eq_true rfl⟩ hI hA [0, 1, 2] [] rfl rfl rfl rfl (by decide) rfl rfl rfl hl.1 rfl (lv_room (Nat.le_of_ble_eq_true rfl)) dX3_body_173 ⟨Nat.le_of_ble_eq_true rfl, Nat.le_of_ble_eq_true rfl⟩ (fun r u H locs hu hI => ?_)
        obtain _u := u
        have hI : zW D A s.heap (mW h0 a b cB cI g1 d1 p1 t1 ln1) H locs := hI
        have hr1 := hu.trans (hS.dig k)
        refine z_iadd hx hb dX3_body_176 ?_
        refine z_callVv (n := 1) (As := [.int (zI (48 + r))]) (rest := []) (wr := ([] : va_W)) (C := "DecimalTextModel") (ci := 3) hF (m_put l D cB cI h0 a b g1 d1 p1 t1 ln1 (48 + r) (by omega)) (lw_V q180 q182 qs4 q17 q183) (by decide +kernel) ⟨Nat.le_of_ble_eq_true rfl, Nat.le_of_ble_eq_true rfl⟩ hI hA [0, 1, 2] [] rfl rfl rfl rfl (by decide) rfl rfl rfl hl.1 rfl (lv_room (Nat.le_of_ble_eq_true rfl)) dX3_body_177 ⟨Nat.le_of_ble_eq_true rfl, Nat.le_of_ble_eq_true rfl⟩ (fun u H locs hu hI => ?_)
        obtain _u := u
        have hI : zW D A s.heap (mW h0 a b cB cI g1 d1 p1 (zup t1 ln1 (48 + r)) (ln1 + 1)) H locs := hI
        refine lv_iinc (lv' := [(5, .int (zI (k + 1))), (0, .ref h0), (1, .int (zI how)), (2, .int (zI q)), (3, .int (zI dot)), (4, .int (zI ee))]) (k := 5) hx hb dX3_body_180 hl rfl (zI_add _ _) (by decide) rfl (fun ls hl => ?_)
        refine lv_goto (tgt := 161) hx hb dX3_body_183 (by decide) ?_
        exact ih_ (k + 1) ee g1 (zup t1 ln1 (48 + r)) d1 p1 (ln1 + 1) (by omega) hw hS he (by omega) (by exact Txl_add hT1 (by rw [show (k + 1 - 1).toNat = (k - 1).toNat + 1 by omega, digs_succ _ (p1 - 2), ← List.append_assoc, hr1, show p1 - 2 - ((k - 1).toNat : Int) = p1 - 1 - k by omega])) H locs hI ls (lv_sub hl [1, 2, 3, 4, 5, 0] rfl)
  have L158 : ∀ (ee : Int) (g1 t1 : Int → Int) (d1 p1 ln1 : Int), (how ≠ 0) → (Shw z (pt - q - 1) 1200 g1 d1 p1) → (ee = if bN z = 0 then 0 else p1 - 1) → (Txl t1 ln1 (L0 ++ (digs (rD z (pt - q - 1)) (p1 - 1) 1 ++ dotT q dot))) → ∀ (H : Heap) (locs : List Loc), zW D A s.heap (mW h0 a b cB cI g1 d1 p1 t1 ln1) H locs → ∀ ls : Array Slot, lv_has ls 6 [(0, .ref h0), (1, .int (zI how)), (2, .int (zI q)), (3, .int (zI dot)), (4, .int (zI ee))] → W p l e ({ frames := 2, cells := 0, slots := 0, locals := 47 } : Room) s m ([.ref h0, .int (zI how), .int (zI q), .int (zI dot)] : List Value).toArray below meth c H locs 0 0 (MQ below (va_Qv (bodyP z how q dot L0) (zPost D A (fun u => mW h0 a b cB cI u.1 u.2.1 u.2.2.1 u.2.2.2.1 u.2.2.2.2)) A) ([.ref h0, .int (zI how), .int (zI q), .int (zI dot)] : List Value).toArray s ({ frames := 2, cells := 0, slots := 0, locals := 47 } : Room).cells ({ frames := 2, cells := 0, slots := 0, locals := 47 } : Room).slots A) (F0 m 158 ls []) := by
    intro ee g1 t1 d1 p1 ln1 hw hS he hT1 H locs hI ls hl
    refine z_iconst hx hb dX3_body_158 ?_
    refine lv_istore (lv' := [(5, .int (zI 1)), (0, .ref h0), (1, .int (zI how)), (2, .int (zI q)), (3, .int (zI dot)), (4, .int (zI ee))]) hx hb dX3_body_159 hl (by decide) rfl (fun ls hl => ?_)
    exact L161 (17) 1 ee g1 t1 d1 p1 ln1 (by omega) hw hS he (by omega) (by rw [show ((1 : Int) - 1).toNat = 0 from rfl, digs_0, List.append_nil]; exact hT1) H locs hI ls (lv_sub hl [1, 2, 3, 4, 5, 0] rfl)
  have L152 : ∀ (ee : Int) (g1 t1 : Int → Int) (d1 p1 ln1 : Int), (how ≠ 0) → (Shw z (pt - q - 1) 1200 g1 d1 p1) → (ee = if bN z = 0 then 0 else p1 - 1) → (0 < q ∨ dot ≠ 0) → (Txl t1 ln1 (L0 ++ digs (rD z (pt - q - 1)) (p1 - 1) 1)) → ∀ (H : Heap) (locs : List Loc), zW D A s.heap (mW h0 a b cB cI g1 d1 p1 t1 ln1) H locs → ∀ ls : Array Slot, lv_has ls 6 [(0, .ref h0), (1, .int (zI how)), (2, .int (zI q)), (3, .int (zI dot)), (4, .int (zI ee))] → W p l e ({ frames := 2, cells := 0, slots := 0, locals := 47 } : Room) s m ([.ref h0, .int (zI how), .int (zI q), .int (zI dot)] : List Value).toArray below meth c H locs 0 0 (MQ below (va_Qv (bodyP z how q dot L0) (zPost D A (fun u => mW h0 a b cB cI u.1 u.2.1 u.2.2.1 u.2.2.2.1 u.2.2.2.2)) A) ([.ref h0, .int (zI how), .int (zI q), .int (zI dot)] : List Value).toArray s ({ frames := 2, cells := 0, slots := 0, locals := 47 } : Room).cells ({ frames := 2, cells := 0, slots := 0, locals := 47 } : Room).slots A) (F0 m 152 ls []) := by
    intro ee g1 t1 d1 p1 ln1 hw hS he hdd hT1 H locs hI ls hl
    have hl2 := hT1.2
    simp only [List.length_append, List.length_cons, List.length_nil, digs_len] at hl2
    refine lv_aload_n hx hb dX3_body_152 rfl (lv_at hl 0 rfl) ?_
    refine z_bipush hx hb dX3_body_153 (by decide) ?_
    refine z_callVv (n := 1) (As := [.int (zI 46)]) (rest := []) (wr := ([] : va_W)) (C := "DecimalTextModel") (ci := 3) hF (m_put l D cB cI h0 a b g1 d1 p1 t1 ln1 46 (by omega)) (lw_V q180 q182 qs4 q17 q183) (by decide +kernel) ⟨Nat.le_of_ble_eq_true rfl, Nat.le_of_ble_eq_true rfl⟩ hI hA [0, 1, 2] [] rfl rfl rfl rfl (by decide) rfl rfl rfl hl.1 rfl (lv_room (Nat.le_of_ble_eq_true rfl)) dX3_body_155 ⟨Nat.le_of_ble_eq_true rfl, Nat.le_of_ble_eq_true rfl⟩ (fun u H locs hu hI => ?_)
    obtain _u := u
    have hI : zW D A s.heap (mW h0 a b cB cI g1 d1 p1 (zup t1 ln1 46) (ln1 + 1)) H locs := hI
    exact L158 ee g1 (zup t1 ln1 46) d1 p1 (ln1 + 1) hw hS he (by exact Txl_add hT1 (by rw [dotT, if_pos hdd])) H locs hI ls (lv_sub hl [0, 1, 2, 3, 4] rfl)
  have L130 : ∀ (ee : Int) (g1 t1 : Int → Int) (d1 p1 ln1 : Int), (how ≠ 0) → (Shw z (pt - q - 1) 1200 g1 d1 p1) → (ee = if bN z = 0 then 0 else p1 - 1) → (Txl t1 ln1 (L0 ++ [])) → ∀ (H : Heap) (locs : List Loc), zW D A s.heap (mW h0 a b cB cI g1 d1 p1 t1 ln1) H locs → ∀ ls : Array Slot, lv_has ls 6 [(0, .ref h0), (1, .int (zI how)), (2, .int (zI q)), (3, .int (zI dot))] → W p l e ({ frames := 2, cells := 0, slots := 0, locals := 47 } : Room) s m ([.ref h0, .int (zI how), .int (zI q), .int (zI dot)] : List Value).toArray below meth c H locs 0 0 (MQ below (va_Qv (bodyP z how q dot L0) (zPost D A (fun u => mW h0 a b cB cI u.1 u.2.1 u.2.2.1 u.2.2.2.1 u.2.2.2.2)) A) ([.ref h0, .int (zI how), .int (zI q), .int (zI dot)] : List Value).toArray s ({ frames := 2, cells := 0, slots := 0, locals := 47 } : Room).cells ({ frames := 2, cells := 0, slots := 0, locals := 47 } : Room).slots A) (F0 m 130 ls [.int (zI ee)]) := by
    intro ee g1 t1 d1 p1 ln1 hw hS he hT1 H locs hI ls hl
    have hl2 := hT1.2
    simp only [List.length_append, List.length_cons, List.length_nil, digs_len] at hl2
    have hsl := sci_le hE hq hDp hS.rP
    refine lv_istore (lv' := [(4, .int (zI ee)), (0, .ref h0), (1, .int (zI how)), (2, .int (zI q)), (3, .int (zI dot))]) hx hb dX3_body_130 hl (by decide) rfl (fun ls hl => ?_)
    refine lv_aload_n hx hb dX3_body_132 rfl (lv_at hl 1 rfl) ?_
    refine z_bipush hx hb dX3_body_133 (by decide) ?_
    refine lv_aload_n hx hb dX3_body_135 rfl (lv_at hl 1 rfl) ?_
    refine z_iconst hx hb dX3_body_136 ?_
    refine z_callVi (n := 1) (As := [.int (zI 0)]) (rest := [.int (zI 48), .ref h0]) (wr := ([] : va_W)) (C := "DecimalTextModel") (ci := 3) hF (m_digit l D cB cI h0 a b g1 d1 p1 t1 ln1 0 hS.d (by omega)) (lw_V q214 q216 qs11 q17 q217) (by decide +kernel) ⟨Nat.le_of_ble_eq_true rfl, Nat.le_of_ble_eq_true rfl⟩ hI hA [0, 1, 2] [] rfl rfl rfl rfl (by decide) rfl rfl rfl hl.1 rfl (lv_room (Nat.le_of_ble_eq_true rfl)) dX3_body_137 ⟨Nat.le_of_ble_eq_true rfl, Nat.le_of_ble_eq_true rfl⟩ (fun r u H locs hu hI => ?_)
    obtain _u := u
    have hI : zW D A s.heap (mW h0 a b cB cI g1 d1 p1 t1 ln1) H locs := hI
    have hr1 := hu.trans (hS.dig 0)
    refine z_iadd hx hb dX3_body_140 ?_
    refine z_callVv (n := 1) (As := [.int (zI (48 + r))]) (rest := []) (wr := ([] : va_W)) (C := "DecimalTextModel") (ci := 3) hF (m_put l D cB cI h0 a b g1 d1 p1 t1 ln1 (48 + r) (by omega)) (lw_V q180 q182 qs4 q17 q183) (by decide +kernel) ⟨Nat.le_of_ble_eq_true rfl, Nat.le_of_ble_eq_true rfl⟩ hI hA [0, 1, 2] [] rfl rfl rfl rfl (by decide) rfl rfl rfl hl.1 rfl (lv_room (Nat.le_of_ble_eq_true rfl)) dX3_body_141 ⟨Nat.le_of_ble_eq_true rfl, Nat.le_of_ble_eq_true rfl⟩ (fun u H locs hu hI => ?_)
    obtain _u := u
    have hI : zW D A s.heap (mW h0 a b cB cI g1 d1 p1 (zup t1 ln1 (48 + r)) (ln1 + 1)) H locs := hI
    have hT2 := Txl_add (x := 48 + r) hT1 (Y := digs (rD z (pt - q - 1)) (p1 - 1) 1) (by rw [digs_1, hr1, show p1 - 1 - 0 = p1 - 1 by omega]; rfl)
    refine lv_iload_n hx hb dX3_body_144 rfl (lv_at hl 3 rfl) ?_
    refine z_if_gt (tgt := 152) hx hb (by omega) dX3_body_145 (by decide) (fun h1 => ?_) (fun h1 => ?_)
    · skip
      exact L152 ee g1 (zup t1 ln1 (48 + r)) d1 p1 (ln1 + 1) hw hS he (by exact Or.inl h1) hT2 H locs hI ls (lv_sub hl [1, 2, 3, 4, 0] rfl)
    · skip
      refine lv_iload_n hx hb dX3_body_148 rfl (lv_at hl 4 rfl) ?_
      refine z_if_eq (tgt := 158) hx hb (by omega) dX3_body_149 (by decide) (fun h2 => ?_) (fun h2 => ?_)
      · skip
        exact L158 ee g1 (zup t1 ln1 (48 + r)) d1 p1 (ln1 + 1) hw hS he (by rw [dotT, if_neg (by omega), List.append_nil]; exact hT2) H locs hI ls (lv_sub hl [1, 2, 3, 4, 0] rfl)
      · skip
        exact L152 ee g1 (zup t1 ln1 (48 + r)) d1 p1 (ln1 + 1) hw hS he (by exact Or.inr h2) hT2 H locs hI ls (lv_sub hl [1, 2, 3, 4, 0] rfl)
  refine lv_iload_n hx hb dX3_body_0 rfl (lv_at hl 1 rfl) ?_
  refine z_if_ne (tgt := 106) hx hb (by omega) dX3_body_1 (by decide) (fun h1 => ?_) (fun h1 => ?_)
  · skip
    refine lv_aload_n hx hb dX3_body_106 rfl (lv_at hl 0 rfl) ?_
    refine lv_iload_n hx hb dX3_body_107 rfl (lv_at hl 2 rfl) ?_
    refine z_iconst hx hb dX3_body_108 ?_
    refine z_iadd hx hb dX3_body_109 ?_
    refine z_callVv (n := 1) (As := [.int (zI (q + 1))]) (rest := []) (wr := ([] : va_W)) (C := "DecimalTextModel") (ci := 3) hF (m_cut l D cB cI h0 a b g d pt t len n v (q + 1) (pt - q - 1) hd hR (by omega) (by omega) (Nf_norm hN) (by omega) (by omega)) (lw_V q210 q212 qs10 q17 q213) (by decide +kernel) ⟨Nat.le_of_ble_eq_true rfl, Nat.le_of_ble_eq_true rfl⟩ hI hA [0, 1, 2] [] rfl rfl rfl rfl (by decide) rfl rfl rfl hl.1 rfl (lv_room (Nat.le_of_ble_eq_true rfl)) dX3_body_110 ⟨Nat.le_of_ble_eq_true rfl, Nat.le_of_ble_eq_true rfl⟩ (fun u H locs hu hI => ?_)
    obtain ⟨g1, d1, p1⟩ := u
    have hI : zW D A s.heap (mW h0 a b cB cI g1 d1 p1 t len) H locs := hI
    have hS0 := cut_show hN hu
    have hS := Shw_mono hS0 (show n + 1 ≤ 1200 by omega)
    have hz0 := hS.zero.trans (sci_nz hq.1 hDp)
    have hdd := hS.d
    have hsl := sci_le hE hq hDp hS.rP
    refine lv_aload_n hx hb dX3_body_113 rfl (lv_at hl 0 rfl) ?_
    refine z_get (ci := 3) hF hI in_X3 0 rfl rfl 1 (by decide) q156 rfl rfl dX3_body_114 ?_
    refine z_if_ne (tgt := 124) hx hb (by omega) dX3_body_117 (by decide) (fun h2 => ?_) (fun h2 => ?_)
    · skip
      refine lv_aload_n hx hb dX3_body_124 rfl (lv_at hl 0 rfl) ?_
      refine z_get (ci := 3) hF hI in_X3 0 rfl rfl 2 (by decide) q157 rfl rfl dX3_body_125 ?_
      refine z_iconst hx hb dX3_body_128 ?_
      refine z_isub hx hb dX3_body_129 ?_
      exact L130 (p1 - 1) g1 t d1 p1 len h1 hS (by rw [if_neg (fun q9 => h2 (hz0.mpr q9))]) hT H locs hI ls (lv_sub hl [0, 1, 2, 3] rfl)
    · skip
      refine z_iconst hx hb dX3_body_120 ?_
      refine lv_goto (tgt := 130) hx hb dX3_body_121 (by decide) ?_
      exact L130 0 g1 t d1 p1 len h1 hS (by rw [if_pos (hz0.mp h2)]) hT H locs hI ls (lv_sub hl [0, 1, 2, 3] rfl)
  · skip
    refine lv_aload_n hx hb dX3_body_4 rfl (lv_at hl 0 rfl) ?_
    refine lv_aload_n hx hb dX3_body_5 rfl (lv_at hl 0 rfl) ?_
    refine z_get (ci := 3) hF hI in_X3 0 rfl rfl 2 (by decide) q157 rfl rfl dX3_body_6 ?_
    refine lv_iload_n hx hb dX3_body_9 rfl (lv_at hl 2 rfl) ?_
    refine z_iadd hx hb dX3_body_10 ?_
    refine z_callVv (n := 1) (As := [.int (zI (pt + q))]) (rest := []) (wr := ([] : va_W)) (C := "DecimalTextModel") (ci := 3) hF (m_cut l D cB cI h0 a b g d pt t len n v (pt + q) (-q) hd hR (by omega) (by omega) (Nf_norm hN) (by omega) (by omega)) (lw_V q210 q212 qs10 q17 q213) (by decide +kernel) ⟨Nat.le_of_ble_eq_true rfl, Nat.le_of_ble_eq_true rfl⟩ hI hA [0, 1, 2] [] rfl rfl rfl rfl (by decide) rfl rfl rfl hl.1 rfl (lv_room (Nat.le_of_ble_eq_true rfl)) dX3_body_11 ⟨Nat.le_of_ble_eq_true rfl, Nat.le_of_ble_eq_true rfl⟩ (fun u H locs hu hI => ?_)
    obtain ⟨g1, d1, p1⟩ := u
    have hI : zW D A s.heap (mW h0 a b cB cI g1 d1 p1 t len) H locs := hI
    have hS0 := cut_show hN hu
    have hS := Shw_mono hS0 (show n + 1 ≤ 1200 by omega)
    have hpg := rP_ge hE (by omega) hS.rP
    refine z_iconst hx hb dX3_body_14 ?_
    refine lv_istore (lv' := [(4, .int (zI 0)), (0, .ref h0), (1, .int (zI how)), (2, .int (zI q)), (3, .int (zI dot))]) hx hb dX3_body_15 hl (by decide) rfl (fun ls hl => ?_)
    exact L17 ((p1 + 3001).toNat) 0 g1 t d1 p1 len (by omega) h1 hS (by omega) (by rw [show (0 : Int).toNat = 0 from rfl, digs_0]; exact hT) H locs hI ls (lv_sub hl [1, 2, 3, 4, 0] rfl)
end
section
/-! flags; padding; what the law compares -/
set_option maxRecDepth 100000
theorem fl_all : ∀ f : Nat, f < 32 → (zI (f : Int) &&& zI 1 = zI ((f : Int) % 2)) ∧ (zI (f : Int) &&& zI 2 = zI ((f : Int) / 2 % 2 * 2)) ∧ (zI (f : Int) &&& zI 4 = zI ((f : Int) / 4 % 2 * 4)) ∧ (zI (f : Int) &&& zI 8 = zI ((f : Int) / 8 % 2 * 8)) ∧ (zI (f : Int) &&& zI 16 = zI ((f : Int) / 16 % 2 * 16)) := by decide +kernel
theorem fl_int {f : Int} (h : 0 ≤ f ∧ f < 32) : (zI f &&& zI 1 = zI (f % 2)) ∧ (zI f &&& zI 2 = zI (f / 2 % 2 * 2)) ∧ (zI f &&& zI 4 = zI (f / 4 % 2 * 4)) ∧ (zI f &&& zI 8 = zI (f / 8 % 2 * 8)) ∧ (zI f &&& zI 16 = zI (f / 16 % 2 * 16)) := by
  obtain ⟨k, rfl⟩ := Int.eq_ofNat_of_zero_le h.1
  exact fl_all k (by omega)
section ZF
variable {p : Program} {l : Launch} {e : Env} {R : Room} {s : State} {m : MethodId} {args : Array Value} {below : List Frame} {meth : Method} {c : Code} {H : Heap} {locs : List Loc} {cells slots : Nat} {Q : State → Prop}
variable {cc : ByteArray} {pc : Nat} {ls : Array Slot} {rest : List Value}
theorem z_iand1 (hx : p.tables.exec = Jvm.exec) (hb : c.code = cc) {f : Int} (h : 0 ≤ f ∧ f < 32) (hdg : decode cc pc = .ok (.iand, 1))
    (k : W p l e R s m args below meth c H locs cells slots Q (F0 m (pc + 1) ls (.int (zI (f % 2)) :: rest))) : W p l e R s m args below meth c H locs cells slots Q (F0 m pc ls (.int (zI 1) :: .int (zI f) :: rest)) := lv_iand hx hb hdg (by rw [(fl_int h).1]; exact k)
theorem z_iand2 (hx : p.tables.exec = Jvm.exec) (hb : c.code = cc) {f : Int} (h : 0 ≤ f ∧ f < 32) (hdg : decode cc pc = .ok (.iand, 1))
    (k : W p l e R s m args below meth c H locs cells slots Q (F0 m (pc + 1) ls (.int (zI (f / 2 % 2 * 2)) :: rest))) : W p l e R s m args below meth c H locs cells slots Q (F0 m pc ls (.int (zI 2) :: .int (zI f) :: rest)) := lv_iand hx hb hdg (by rw [(fl_int h).2.1]; exact k)
theorem z_iand4 (hx : p.tables.exec = Jvm.exec) (hb : c.code = cc) {f : Int} (h : 0 ≤ f ∧ f < 32) (hdg : decode cc pc = .ok (.iand, 1))
    (k : W p l e R s m args below meth c H locs cells slots Q (F0 m (pc + 1) ls (.int (zI (f / 4 % 2 * 4)) :: rest))) : W p l e R s m args below meth c H locs cells slots Q (F0 m pc ls (.int (zI 4) :: .int (zI f) :: rest)) := lv_iand hx hb hdg (by rw [(fl_int h).2.2.1]; exact k)
theorem z_iand8 (hx : p.tables.exec = Jvm.exec) (hb : c.code = cc) {f : Int} (h : 0 ≤ f ∧ f < 32) (hdg : decode cc pc = .ok (.iand, 1))
    (k : W p l e R s m args below meth c H locs cells slots Q (F0 m (pc + 1) ls (.int (zI (f / 8 % 2 * 8)) :: rest))) : W p l e R s m args below meth c H locs cells slots Q (F0 m pc ls (.int (zI 8) :: .int (zI f) :: rest)) := lv_iand hx hb hdg (by rw [(fl_int h).2.2.2.1]; exact k)
theorem z_iand16 (hx : p.tables.exec = Jvm.exec) (hb : c.code = cc) {f : Int} (h : 0 ≤ f ∧ f < 32) (hdg : decode cc pc = .ok (.iand, 1))
    (k : W p l e R s m args below meth c H locs cells slots Q (F0 m (pc + 1) ls (.int (zI (f / 16 % 2 * 16)) :: rest))) : W p l e R s m args below meth c H locs cells slots Q (F0 m pc ls (.int (zI 16) :: .int (zI f) :: rest)) := lv_iand hx hb hdg (by rw [(fl_int h).2.2.2.2]; exact k)
end ZF
theorem Tx_fill {t t2 : Int → Int} {L : List Int} {at_ more ch len : Int} (h : Tx t L) (hl : len = (L.length : Int)) (ha : 0 ≤ at_ ∧ at_ ≤ len) (hm : 0 ≤ more) (h1 : ∀ i : Int, 0 ≤ i → i < at_ → t2 i = t i) (h2 : ∀ j : Int, at_ ≤ j → j < len → t2 (j + more) = t j) (h3 : ∀ i : Int, at_ ≤ i → i < at_ + more → t2 i = ch) :
    Txl t2 (len + more) (L.take at_.toNat ++ (List.replicate more.toNat ch ++ L.drop at_.toNat)) := by
  have hlen : (L.take at_.toNat ++ (List.replicate more.toNat ch ++ L.drop at_.toNat)).length = L.length + more.toNat := by
    simp only [List.length_append, List.length_take, List.length_replicate, List.length_drop]
    omega
  have htk : (L.take at_.toNat).length = at_.toNat := by rw [List.length_take]; omega
  refine ⟨fun i hi => ?_, by rw [hlen]; omega⟩
  rw [hlen] at hi
  by_cases q1 : i < at_.toNat
  · rw [List.getElem?_append_left (by omega), List.getElem?_take_of_lt q1, h i (by omega), h1 i (by omega) (by omega)]
  · rw [List.getElem?_append_right (by omega), htk]
    by_cases q2 : i - at_.toNat < more.toNat
    · rw [List.getElem?_append_left (by rw [List.length_replicate]; omega), List.getElem?_replicate_of_lt q2, h3 i (by omega) (by omega)]
    · rw [List.getElem?_append_right (by rw [List.length_replicate]; omega), List.length_replicate, List.getElem?_drop, h _ (by omega)]
      have e := h2 ((at_.toNat + (i - at_.toNat - more.toNat) : Nat) : Int) (by omega) (by omega)
      rw [← e]
      congr 2
      omega
def sgn (z fl : Int) : Int := if z < 0 then 45 else if fl / 2 % 2 * 2 ≠ 0 then 43 else if fl / 4 % 2 * 4 ≠ 0 then 32 else 0
def sgT (s : Int) : List Int := if s = 0 then [] else [s]
theorem sgT_len (s : Int) : ((sgT s).length : Int) = if s = 0 then 0 else 1 := by
  unfold sgT
  split <;> rfl
def padT (B L : List Int) (wd fl : Int) (inf : Prop) [Decidable inf] : List Int :=
  if fl % 2 ≠ 0 then B ++ L ++ List.replicate (wd - (B.length + L.length)).toNat 32 else if fl / 8 % 2 * 8 ≠ 0 ∧ ¬ inf then B ++ List.replicate (wd - (B.length + L.length)).toNat 48 ++ L else List.replicate (wd - (B.length + L.length)).toNat 32 ++ (B ++ L)
def InfOr (z how q fl : Int) (L : List Int) : Prop := if z / 4503599627370496 % 2048 = 2047 then L = [105, 110, 102] else BodyS z how q (if fl / 16 % 2 * 16 = 0 then 0 else 1) L
def FullS (z how q wd fl : Int) (T : List Int) : Prop := ∃ L, InfOr z how q fl L ∧ T = padT (sgT (sgn z fl)) L wd fl (z / 4503599627370496 % 2048 = 2047)
def badA (z how q wd fl : Int) : Prop := how < 0 ∨ 2 < how ∨ q < 0 ∨ 15 < q ∨ wd < 0 ∨ 400 < wd ∨ fl < 0 ∨ 31 < fl ∨ (z / 4503599627370496 % 2048 = 2047 ∧ z % 4503599627370496 ≠ 0)
def MakeS (z how q wd fl : Int) (T0 : List Int) (r : Int) (T : List Int) : Prop := (badA z how q wd fl ∧ r = -1 ∧ T = T0) ∨ (¬ badA z how q wd fl ∧ FullS z how q wd fl T ∧ r = (T.length : Int))
theorem InfOr_uniq {z how q fl : Int} {L L' : List Int} (h : InfOr z how q fl L) (h' : InfOr z how q fl L') : L = L' := by
  unfold InfOr at h h'
  by_cases e : z / 4503599627370496 % 2048 = 2047
  · rw [if_pos e] at h h'; rw [h, h']
  · rw [if_neg e] at h h'; exact BodyS_uniq h h'
theorem MakeS_uniq {z how q wd fl : Int} {T0 T T' : List Int} {r r' : Int} (h : MakeS z how q wd fl T0 r T) (h' : MakeS z how q wd fl T0 r' T') : r = r' ∧ T = T' := by
  rcases h with ⟨a, b, c⟩ | ⟨a, ⟨L, b1, b2⟩, c⟩
  · rcases h' with ⟨a', b', c'⟩ | ⟨a', _⟩
    · exact ⟨by rw [b, b'], by rw [c, c']⟩
    · exact absurd a a'
  · rcases h' with ⟨a', _⟩ | ⟨a', ⟨L', b1', b2'⟩, c'⟩
    · exact absurd a' a
    · have e := InfOr_uniq b1 b1'
      subst e
      have e2 : T = T' := by rw [b2, b2']
      exact ⟨by rw [c, c', e2], e2⟩
theorem pad_none {B L : List Int} {wd fl : Int} {inf : Prop} [Decidable inf] (h : wd ≤ ((B ++ L).length : Int)) : padT B L wd fl inf = B ++ L := by
  rw [List.length_append] at h
  unfold padT
  rw [show (wd - ((B.length : Int) + (L.length : Int))).toNat = 0 by omega]
  split
  · simp
  · split <;> simp
theorem Nf_uniq {v x v1 n1 p1 v2 n2 p2} (h1 : Nf v x v1 n1 p1) (h2 : Nf v x v2 n2 p2) : n1 = n2 := by
  have hP := Dp_uniq (Nf_Dp h1) (Nf_Dp h2)
  rcases h1 with ⟨a, b, c, d⟩ | ⟨a, b, c, d, k, e, f⟩
  · rcases h2 with ⟨a', b', c', d'⟩ | ⟨a', _⟩
    · omega
    · exact absurd a a'
  · rcases h2 with ⟨a', _⟩ | ⟨a', b', c', d', k', e', f'⟩
    · exact absurd a' a
    · have key : ∀ {u w i j : Nat}, u * 10 ^ i = w * 10 ^ j → i < j → u % 10 = 0 := by
        intro u w i j hh hij
        obtain ⟨t, rfl⟩ : ∃ t, j = i + (t + 1) := ⟨j - i - 1, by omega⟩
        rw [Nat.pow_add, Nat.mul_left_comm, Nat.mul_comm (10 ^ i)] at hh
        have := Nat.eq_of_mul_eq_mul_right (ten_pos i) hh
        rw [this, ten_succ, Nat.mul_left_comm]
        exact Nat.mul_mod_right 10 _
      rcases Nat.lt_trichotomy k k' with q | q | q
      · exact absurd (key (e.symm.trans e') q) b
      · omega
      · exact absurd (key (e'.symm.trans e) q) b'
def DigS (z r : Int) : Prop := (z / 4503599627370496 % 2048 = 2047 ∧ r = -1) ∨ (z / 4503599627370496 % 2048 ≠ 2047 ∧ ∃ (v' n' : Nat) (p' : Int), Nf (bN z) (bX z) v' n' p' ∧ r = n')
theorem DigS_uniq {z r r' : Int} (h : DigS z r) (h' : DigS z r') : r = r' := by
  rcases h with ⟨a, b⟩ | ⟨a, v, n, q, b, c⟩
  · rcases h' with ⟨a', b'⟩ | ⟨a', _⟩
    · omega
    · exact absurd a a'
  · rcases h' with ⟨a', _⟩ | ⟨a', v', n', q', b', c'⟩
    · exact absurd a' a
    · rw [c, c', Nf_uniq b b']
end
section
/-! the model: its constructor, at, fill, make, digits -/
def fillT (LL : List Int) (more : Nat) (fl fr pl : Int) : List Int :=
  if fl % 2 ≠ 0 then LL ++ List.replicate more 32 else if fl / 8 % 2 * 8 ≠ 0 ∧ pl = 0 then LL.take fr.toNat ++ List.replicate more 48 ++ LL.drop fr.toNat else List.replicate more 32 ++ LL
theorem fill_pad {B L : List Int} {wd fl fr pl ln : Int} {inf : Prop} [Decidable inf] (hfr : fr = (B.length : Int)) (hln : ln = (B.length : Int) + (L.length : Int)) (hpl : pl = 0 ↔ ¬ inf) : fillT (B ++ L) (wd - ln).toNat fl fr pl = padT B L wd fl inf := by
  unfold fillT padT
  rw [hln]
  by_cases h1 : fl % 2 ≠ 0
  · rw [if_pos h1, if_pos h1]
  · rw [if_neg h1, if_neg h1]
    by_cases h2 : fl / 8 % 2 * 8 ≠ 0 ∧ pl = 0
    · rw [if_pos h2, if_pos ⟨h2.1, hpl.mp h2.2⟩, hfr, Int.toNat_natCast, List.take_left, List.drop_left]
    · rw [if_neg h2, if_neg (fun q => h2 ⟨q.1, hpl.mpr q.2⟩)]
theorem Txl_one (t : Int → Int) (x : Int) : Txl (zup t 0 x) (0 + 1) ([x] ++ []) := by
  have h := Txl_add (A := []) (X := []) (Y := [x]) (t := t) (ln := 0) (x := x) ⟨Tx_nil t, rfl⟩ rfl
  exact h
def makeP (z how q wd fl : Int) (T0 : List Int) (r : Int) : (Int → Int) × Int × Int × (Int → Int) × Int → Prop
  | (_, _, _, t', ln') => ∃ T : List Int, MakeS z how q wd fl T0 r T ∧ Txl t' ln' T ∧ T.length ≤ 400
set_option maxHeartbeats 4000000 in
set_option maxRecDepth 100000 in
/-- DecimalTextModel() -/
theorem m_init (l : Launch) (D : va_G) (cB cI : ClassId) (h0 : Nat)  : zMv (S := Nat × Nat) l yX3_init cX3_init 1 ({ frames := 1, cells := 2, slots := 1620, locals := 12 } : Room) D cB cI ([.ref h0] : List Value) ([(h0, .inr (3, [.null, .int (zI 0), .int (zI 0), .null, .int (zI 0)]))]) (fun _ => True) (fun u : Nat × Nat => mW h0 u.1 u.2 cB cI (fun _ => 0) 0 0 (fun _ => 0) 0) := by
  refine z_metv (by decide) (Nat.le_of_ble_eq_true rfl) ?_
  intro p e s m below meth c A hF hr hlk hnm hA hI ls hl
  have hx := hF.1
  have hb := hF.2.1
  have hown := hF.2.2.2.1
  have hts := hF.2.2.2.2.1
  have hl : lv_has ls 1 [(0, .ref h0)] := hl
  obtain ⟨H, eH⟩ : ∃ H : Heap, H = s.heap := ⟨_, rfl⟩
  obtain ⟨locs, eL⟩ : ∃ L : List Loc, L = [] := ⟨_, rfl⟩
  have hI : zW D A s.heap ([(h0, .inr (3, [.null, .int (zI 0), .int (zI 0), .null, .int (zI 0)]))]) H locs := by rw [eH, eL]; exact hI
  suffices hgo : W p l e ({ frames := 1, cells := 2, slots := 1620, locals := 12 } : Room) s m ([.ref h0] : List Value).toArray below meth c H locs 0 0 (MQ below (va_Qv (fun _ => True) (zPost D A (fun u : Nat × Nat => mW h0 u.1 u.2 cB cI (fun _ => 0) 0 0 (fun _ => 0) 0)) A) ([.ref h0] : List Value).toArray s ({ frames := 1, cells := 2, slots := 1620, locals := 12 } : Room).cells ({ frames := 1, cells := 2, slots := 1620, locals := 12 } : Room).slots A) (F0 m 0 ls []) by rw [eH, eL] at hgo; exact hgo
  clear eH eL
  refine lv_aload_n hx hb dX3_init_0 rfl (lv_at hl 0 rfl) ?_
  refine W.objInit hx hb hown (hts _ q154) (hts _ q25) (hts _ q26) rfl (by rw [hF.2.2.1]; exact hl.1) rfl dX3_init_1 (Nat.le_of_ble_eq_true rfl) (Nat.le_of_ble_eq_true rfl) ?_
  refine W.eq (g2 := F0 m 4 ls []) rfl ?_
  refine lv_aload_n hx hb dX3_init_4 rfl (lv_at hl 0 rfl) ?_
  refine z_sipush hx hb dX3_init_5 (by decide) ?_
  refine z_newB hF hI hA (1200) rfl (by omega) (by first | exact Nat.le_of_ble_eq_true rfl | (dsimp only; omega)) (by first | exact Nat.le_of_ble_eq_true rfl | (dsimp only; omega)) dX3_init_8 (fun a1 H hI => ?_)
  have hI : zW D A s.heap ([(h0, .inr (3, [.null, .int (zI 0), .int (zI 0), .null, .int (zI 0)]))] ++ [(a1, .inl (cB, 1200, .inl (zA (fun _ => 0))))]) H locs := hI
  refine z_putF (ci := 3) (v := .ref a1) (ty := .array .byte) hF hI in_X3 tyX3 tyX3_ok nmX3 0 rfl rfl 0 (by decide) q155 rfl rfl hnm rfl (by decide +kernel) rfl rfl (Nat.le_of_ble_eq_true rfl) dX3_init_10 (fun H locs hI => ?_)
  have hI : zW D A s.heap ([(h0, .inr (3, [.ref a1, .int (zI 0), .int (zI 0), .null, .int (zI 0)]))] ++ [(a1, .inl (cB, 1200, .inl (zA (fun _ => 0))))]) H locs := hI
  refine lv_aload_n hx hb dX3_init_13 rfl (lv_at hl 0 rfl) ?_
  refine z_sipush hx hb dX3_init_14 (by decide) ?_
  refine z_newI hF hI hA (420) rfl (by omega) (by first | exact Nat.le_of_ble_eq_true rfl | (dsimp only; omega)) (by first | exact Nat.le_of_ble_eq_true rfl | (dsimp only; omega)) dX3_init_17 (fun a2 H hI => ?_)
  have hI : zW D A s.heap ([(h0, .inr (3, [.ref a1, .int (zI 0), .int (zI 0), .null, .int (zI 0)]))] ++ ([(a1, .inl (cB, 1200, .inl (zA (fun _ => 0))))] ++ [(a2, .inl (cI, 420, .inl (zA (fun _ => 0))))])) H locs := hI
  refine z_putF (ci := 3) (v := .ref a2) (ty := .array .int) hF hI in_X3 tyX3 tyX3_ok nmX3 0 rfl rfl 3 (by decide) q158 rfl rfl hnm rfl (by decide +kernel) rfl rfl (Nat.le_of_ble_eq_true rfl) dX3_init_19 (fun H locs hI => ?_)
  have hI : zW D A s.heap ([(h0, .inr (3, [.ref a1, .int (zI 0), .int (zI 0), .ref a2, .int (zI 0)]))] ++ ([(a1, .inl (cB, 1200, .inl (zA (fun _ => 0))))] ++ [(a2, .inl (cI, 420, .inl (zA (fun _ => 0))))])) H locs := hI
  exact z_vret (S := Nat × Nat) (post := (fun _ => True)) (w' := (fun u : Nat × Nat => mW h0 u.1 u.2 cB cI (fun _ => 0) 0 0 (fun _ => 0) 0)) hF hr hlk hI (a1, a2) trivial rfl dX3_init_22
set_option maxHeartbeats 4000000 in
set_option maxRecDepth 100000 in
/-- at(k) -/
theorem m_at (l : Launch) (D : va_G) (cB cI : ClassId) (h0 a b : Nat) (g : Int → Int) (d pt : Int) (t : Int → Int) (len : Int) (k : Int) (hln : 0 ≤ len ∧ len ≤ 420) (hk : -2147483648 ≤ k ∧ k < 2147483648) : zMi (S := Unit) l yX3_at cX3_at 2 (some .int) ({ frames := 0, cells := 0, slots := 0, locals := 0 } : Room) D cB cI ([.ref h0, .int (zI k)] : List Value) (mW h0 a b cB cI g d pt t len) (fun r _ => r = if 0 ≤ k ∧ k < len then t k else -1) (fun _ => mW h0 a b cB cI g d pt t len) := by
  refine z_meti (by decide) (Nat.le_of_ble_eq_true rfl) ?_
  intro p e s m below meth c A hF hr hlk hnm hA hI ls hl
  have hx := hF.1
  have hb := hF.2.1
  have hown := hF.2.2.2.1
  have hts := hF.2.2.2.2.1
  have hl : lv_has ls 2 [(0, .ref h0), (1, .int (zI k))] := hl
  obtain ⟨H, eH⟩ : ∃ H : Heap, H = s.heap := ⟨_, rfl⟩
  obtain ⟨locs, eL⟩ : ∃ L : List Loc, L = [] := ⟨_, rfl⟩
  have hI : zW D A s.heap (mW h0 a b cB cI g d pt t len) H locs := by rw [eH, eL]; exact hI
  suffices hgo : W p l e ({ frames := 0, cells := 0, slots := 0, locals := 0 } : Room) s m ([.ref h0, .int (zI k)] : List Value).toArray below meth c H locs 0 0 (MQ below (va_Qi (zpi (fun r _ => r = if 0 ≤ k ∧ k < len then t k else -1)) (zPost D A (fun u : Int × (Unit) => (fun _ => mW h0 a b cB cI g d pt t len) u.2)) A) ([.ref h0, .int (zI k)] : List Value).toArray s ({ frames := 0, cells := 0, slots := 0, locals := 0 } : Room).cells ({ frames := 0, cells := 0, slots := 0, locals := 0 } : Room).slots A) (F0 m 0 ls []) by rw [eH, eL] at hgo; exact hgo
  clear eH eL
  refine lv_iload_n hx hb dX3_at_0 rfl (lv_at hl 1 rfl) ?_
  refine z_if_lt (tgt := 21) hx hb (by omega) dX3_at_1 (by decide) (fun h1 => ?_) (fun h1 => ?_)
  · skip
    refine z_iconst hx hb dX3_at_21 ?_
    exact z_iret (S := Unit) (post := (fun r _ => r = if 0 ≤ k ∧ k < len then t k else -1)) (w' := (fun _ => mW h0 a b cB cI g d pt t len)) hF hr hlk hI () (by rw [if_neg (by omega)]) rfl dX3_at_22
  · skip
    refine lv_iload_n hx hb dX3_at_4 rfl (lv_at hl 1 rfl) ?_
    refine lv_aload_n hx hb dX3_at_5 rfl (lv_at hl 0 rfl) ?_
    refine z_get (ci := 3) hF hI in_X3 0 rfl rfl 4 (by decide) q159 rfl rfl dX3_at_6 ?_
    refine z_icmp_ge (tgt := 21) hx hb (by omega) (by omega) dX3_at_9 (by decide) (fun h2 => ?_) (fun h2 => ?_)
    · skip
      refine z_iconst hx hb dX3_at_21 ?_
      exact z_iret (S := Unit) (post := (fun r _ => r = if 0 ≤ k ∧ k < len then t k else -1)) (w' := (fun _ => mW h0 a b cB cI g d pt t len)) hF hr hlk hI () (by rw [if_neg (by omega)]) rfl dX3_at_22
    · skip
      refine lv_aload_n hx hb dX3_at_12 rfl (lv_at hl 0 rfl) ?_
      refine z_get (ci := 3) hF hI in_X3 0 rfl rfl 3 (by decide) q158 rfl rfl dX3_at_13 ?_
      refine lv_iload_n hx hb dX3_at_16 rfl (lv_at hl 1 rfl) ?_
      refine z_iald hF hI 2 rfl (by omega) (by omega) dX3_at_17 ?_
      refine lv_goto (tgt := 22) hx hb dX3_at_18 (by decide) ?_
      exact z_iret (S := Unit) (post := (fun r _ => r = if 0 ≤ k ∧ k < len then t k else -1)) (w' := (fun _ => mW h0 a b cB cI g d pt t len)) hF hr hlk hI () (by rw [if_pos (by omega)]) rfl dX3_at_22
set_option maxHeartbeats 4000000 in
set_option maxRecDepth 100000 in
/-- fill(more, flags, from, plain) -/
theorem m_fill (l : Launch) (D : va_G) (cB cI : ClassId) (h0 a b : Nat) (g : Int → Int) (d pt : Int) (t : Int → Int) (len : Int) (more fl fr pl : Int) (LL : List Int) (hT : Txl t len LL) (hm : 0 < more ∧ len + more ≤ 420) (hf : 0 ≤ fr ∧ fr ≤ len) (hfl : 0 ≤ fl ∧ fl < 32) (hpl : pl = 0 ∨ pl = 1) : zMv (S := (Int → Int)) l yX3_fill cX3_fill 9 ({ frames := 0, cells := 0, slots := 0, locals := 0 } : Room) D cB cI ([.ref h0, .int (zI more), .int (zI fl), .int (zI fr), .int (zI pl)] : List Value) (mW h0 a b cB cI g d pt t len) (fun t2 => Txl t2 (len + more) (fillT LL more.toNat fl fr pl)) (fun t2 => mW h0 a b cB cI g d pt t2 (len + more)) := by
  refine z_metv (by decide) (Nat.le_of_ble_eq_true rfl) ?_
  intro p e s m below meth c A hF hr hlk hnm hA hI ls hl
  have hx := hF.1
  have hb := hF.2.1
  have hown := hF.2.2.2.1
  have hts := hF.2.2.2.2.1
  have hl : lv_has ls 9 [(0, .ref h0), (1, .int (zI more)), (2, .int (zI fl)), (3, .int (zI fr)), (4, .int (zI pl))] := hl
  obtain ⟨H, eH⟩ : ∃ H : Heap, H = s.heap := ⟨_, rfl⟩
  obtain ⟨locs, eL⟩ : ∃ L : List Loc, L = [] := ⟨_, rfl⟩
  have hI : zW D A s.heap (mW h0 a b cB cI g d pt t len) H locs := by rw [eH, eL]; exact hI
  suffices hgo : W p l e ({ frames := 0, cells := 0, slots := 0, locals := 0 } : Room) s m ([.ref h0, .int (zI more), .int (zI fl), .int (zI fr), .int (zI pl)] : List Value).toArray below meth c H locs 0 0 (MQ below (va_Qv (fun t2 => Txl t2 (len + more) (fillT LL more.toNat fl fr pl)) (zPost D A (fun t2 => mW h0 a b cB cI g d pt t2 (len + more))) A) ([.ref h0, .int (zI more), .int (zI fl), .int (zI fr), .int (zI pl)] : List Value).toArray s ({ frames := 0, cells := 0, slots := 0, locals := 0 } : Room).cells ({ frames := 0, cells := 0, slots := 0, locals := 0 } : Room).slots A) (F0 m 0 ls []) by rw [eH, eL] at hgo; exact hgo
  clear eH eL
  have hlen := hT.2
  have L101 : ∀ (n_ : Nat), ∀ (k zr at_ : Int) (t1 : Int → Int), more - k < (n_ : Int) → (0 ≤ at_ ∧ at_ ≤ len) → (zr = 0 ∨ zr = 1) → (fillT LL more.toNat fl fr pl = LL.take at_.toNat ++ (List.replicate more.toNat (if zr = 0 then 32 else 48) ++ LL.drop at_.toNat)) → (0 ≤ k ∧ k ≤ more) → (∀ i : Int, 0 ≤ i → i < at_ → t1 i = t i) → (∀ j : Int, at_ ≤ j → j < len → t1 (j + more) = t j) → (∀ i : Int, at_ ≤ i → i < at_ + k → t1 i = (if zr = 0 then 32 else 48)) → ∀ (H : Heap) (locs : List Loc), zW D A s.heap (mW h0 a b cB cI g d pt t1 len) H locs → ∀ ls : Array Slot, lv_has ls 9 [(0, .ref h0), (1, .int (zI more)), (6, .int (zI zr)), (7, .int (zI at_)), (8, .int (zI k))] → W p l e ({ frames := 0, cells := 0, slots := 0, locals := 0 } : Room) s m ([.ref h0, .int (zI more), .int (zI fl), .int (zI fr), .int (zI pl)] : List Value).toArray below meth c H locs 0 0 (MQ below (va_Qv (fun t2 => Txl t2 (len + more) (fillT LL more.toNat fl fr pl)) (zPost D A (fun t2 => mW h0 a b cB cI g d pt t2 (len + more))) A) ([.ref h0, .int (zI more), .int (zI fl), .int (zI fr), .int (zI pl)] : List Value).toArray s ({ frames := 0, cells := 0, slots := 0, locals := 0 } : Room).cells ({ frames := 0, cells := 0, slots := 0, locals := 0 } : Room).slots A) (F0 m 101 ls []) := by
    intro n_
    induction n_ with
    | zero =>
      intro k zr at_ t1 hm_ ha hzr hfin hk h1_ h2_ h3_ H locs hI ls hl
      exfalso; omega
    | succ n_ ih_ =>
      intro k zr at_ t1 hm_ ha hzr hfin hk h1_ h2_ h3_ H locs hI ls hl
      refine lv_iload hx hb dX3_fill_101 (lv_at hl 4 rfl) ?_
      refine lv_iload_n hx hb dX3_fill_103 rfl (lv_at hl 1 rfl) ?_
      refine z_icmp_ge (tgt := 135) hx hb (by omega) (by omega) dX3_fill_104 (by decide) (fun h1 => ?_) (fun h1 => ?_)
      · skip
        refine lv_aload_n hx hb dX3_fill_135 rfl (lv_at hl 0 rfl) ?_
        refine lv_aload_n hx hb dX3_fill_136 rfl (lv_at hl 0 rfl) ?_
        refine z_get (ci := 3) hF hI in_X3 0 rfl rfl 4 (by decide) q159 rfl rfl dX3_fill_137 ?_
        refine lv_iload_n hx hb dX3_fill_140 rfl (lv_at hl 1 rfl) ?_
        refine z_iadd hx hb dX3_fill_141 ?_
        refine z_put (ci := 3) (v := .int (zI (len + more))) (ty := .int) hF hI in_X3 tyX3 tyX3_ok nmX3 0 rfl rfl 4 (by decide) q159 rfl rfl (by decide +kernel) rfl rfl (Nat.le_of_ble_eq_true rfl) dX3_fill_142 (fun H locs hI => ?_)
        have hI : zW D A s.heap (mW h0 a b cB cI g d pt t1 (len + more)) H locs := hI
        exact z_vret (S := (Int → Int)) (post := (fun t2 => Txl t2 (len + more) (fillT LL more.toNat fl fr pl))) (w' := (fun t2 => mW h0 a b cB cI g d pt t2 (len + more))) hF hr hlk hI t1 (by rw [hfin]; exact Tx_fill hT.1 hlen ha (by omega) h1_ h2_ (fun i q1 q2 => h3_ i q1 (by omega))) rfl dX3_fill_145
      · skip
        refine lv_aload_n hx hb dX3_fill_107 rfl (lv_at hl 0 rfl) ?_
        refine z_get (ci := 3) hF hI in_X3 0 rfl rfl 3 (by decide) q158 rfl rfl dX3_fill_108 ?_
        refine lv_iload hx hb dX3_fill_111 (lv_at hl 3 rfl) ?_
        refine lv_iload hx hb dX3_fill_113 (lv_at hl 4 rfl) ?_
        refine z_iadd hx hb dX3_fill_115 ?_
        refine lv_iload hx hb dX3_fill_116 (lv_at hl 2 rfl) ?_
        refine z_if_eq (tgt := 126) hx hb (by omega) dX3_fill_118 (by decide) (fun h2 => ?_) (fun h2 => ?_)
        · skip
          refine z_bipush hx hb dX3_fill_126 (by decide) ?_
          refine z_iast hF hI 2 rfl (by omega) (by omega) dX3_fill_128 (fun H locs hI => ?_)
          have hI : zW D A s.heap (mW h0 a b cB cI g d pt (zup t1 (at_ + k) 32) len) H locs := hI
          refine lv_iinc (lv' := [(8, .int (zI (k + 1))), (0, .ref h0), (1, .int (zI more)), (6, .int (zI zr)), (7, .int (zI at_))]) (k := 4) hx hb dX3_fill_129 hl rfl (zI_add _ _) (by decide) rfl (fun ls hl => ?_)
          refine lv_goto (tgt := 101) hx hb dX3_fill_132 (by decide) ?_
          exact ih_ (k + 1) zr at_ (zup t1 (at_ + k) 32) (by omega) ha hzr hfin (by omega) (by intro i q1 q2; rw [zup_ne _ _ (by omega)]; exact h1_ i q1 q2) (by intro j q1 q2; rw [zup_ne _ _ (by omega)]; exact h2_ j q1 q2) (by intro i q1 q2; by_cases q : i = at_ + k; (rw [q, zup_same, if_pos (by omega)]); (rw [zup_ne _ _ q]; exact h3_ i q1 (by omega))) H locs hI ls (lv_sub hl [1, 2, 3, 4, 0] rfl)
        · skip
          refine z_bipush hx hb dX3_fill_121 (by decide) ?_
          refine lv_goto (tgt := 128) hx hb dX3_fill_123 (by decide) ?_
          refine z_iast hF hI 2 rfl (by omega) (by omega) dX3_fill_128 (fun H locs hI => ?_)
          have hI : zW D A s.heap (mW h0 a b cB cI g d pt (zup t1 (at_ + k) 48) len) H locs := hI
          refine lv_iinc (lv' := [(8, .int (zI (k + 1))), (0, .ref h0), (1, .int (zI more)), (6, .int (zI zr)), (7, .int (zI at_))]) (k := 4) hx hb dX3_fill_129 hl rfl (zI_add _ _) (by decide) rfl (fun ls hl => ?_)
          refine lv_goto (tgt := 101) hx hb dX3_fill_132 (by decide) ?_
          exact ih_ (k + 1) zr at_ (zup t1 (at_ + k) 48) (by omega) ha hzr hfin (by omega) (by intro i q1 q2; rw [zup_ne _ _ (by omega)]; exact h1_ i q1 q2) (by intro j q1 q2; rw [zup_ne _ _ (by omega)]; exact h2_ j q1 q2) (by intro i q1 q2; by_cases q : i = at_ + k; (rw [q, zup_same, if_neg (by omega)]); (rw [zup_ne _ _ q]; exact h3_ i q1 (by omega))) H locs hI ls (lv_sub hl [1, 2, 3, 4, 0] rfl)
  have L69 : ∀ (n_ : Nat), ∀ (k zr at_ : Int) (t1 : Int → Int), k + 1 < (n_ : Int) → (0 ≤ at_ ∧ at_ ≤ len) → (zr = 0 ∨ zr = 1) → (fillT LL more.toNat fl fr pl = LL.take at_.toNat ++ (List.replicate more.toNat (if zr = 0 then 32 else 48) ++ LL.drop at_.toNat)) → (at_ - 1 ≤ k ∧ k ≤ len - 1) → (∀ i : Int, 0 ≤ i → i ≤ k + more → t1 i = t i) → (∀ j : Int, k < j → j < len → t1 (j + more) = t j) → ∀ (H : Heap) (locs : List Loc), zW D A s.heap (mW h0 a b cB cI g d pt t1 len) H locs → ∀ ls : Array Slot, lv_has ls 9 [(0, .ref h0), (1, .int (zI more)), (6, .int (zI zr)), (7, .int (zI at_)), (8, .int (zI k))] → W p l e ({ frames := 0, cells := 0, slots := 0, locals := 0 } : Room) s m ([.ref h0, .int (zI more), .int (zI fl), .int (zI fr), .int (zI pl)] : List Value).toArray below meth c H locs 0 0 (MQ below (va_Qv (fun t2 => Txl t2 (len + more) (fillT LL more.toNat fl fr pl)) (zPost D A (fun t2 => mW h0 a b cB cI g d pt t2 (len + more))) A) ([.ref h0, .int (zI more), .int (zI fl), .int (zI fr), .int (zI pl)] : List Value).toArray s ({ frames := 0, cells := 0, slots := 0, locals := 0 } : Room).cells ({ frames := 0, cells := 0, slots := 0, locals := 0 } : Room).slots A) (F0 m 69 ls []) := by
    intro n_
    induction n_ with
    | zero =>
      intro k zr at_ t1 hm_ ha hzr hfin hk hA_ hB_ H locs hI ls hl
      exfalso; omega
    | succ n_ ih_ =>
      intro k zr at_ t1 hm_ ha hzr hfin hk hA_ hB_ H locs hI ls hl
      refine lv_iload hx hb dX3_fill_69 (lv_at hl 4 rfl) ?_
      refine lv_iload hx hb dX3_fill_71 (lv_at hl 3 rfl) ?_
      refine z_icmp_lt (tgt := 98) hx hb (by omega) (by omega) dX3_fill_73 (by decide) (fun h1 => ?_) (fun h1 => ?_)
      · skip
        refine z_iconst hx hb dX3_fill_98 ?_
        refine lv_istore (lv' := [(8, .int (zI 0)), (0, .ref h0), (1, .int (zI more)), (6, .int (zI zr)), (7, .int (zI at_))]) hx hb dX3_fill_99 hl (by decide) rfl (fun ls hl => ?_)
        exact L101 (more.toNat + 1) 0 zr at_ t1 (by omega) ha hzr hfin (by omega) (by intro i q1 q2; exact hA_ i q1 (by omega)) (by intro j q1 q2; exact hB_ j (by omega) q2) (by intro i q1 q2; exfalso; omega) H locs hI ls (lv_sub hl [1, 2, 3, 4, 0] rfl)
      · skip
        refine lv_aload_n hx hb dX3_fill_76 rfl (lv_at hl 0 rfl) ?_
        refine z_get (ci := 3) hF hI in_X3 0 rfl rfl 3 (by decide) q158 rfl rfl dX3_fill_77 ?_
        refine lv_iload hx hb dX3_fill_80 (lv_at hl 4 rfl) ?_
        refine lv_iload_n hx hb dX3_fill_82 rfl (lv_at hl 1 rfl) ?_
        refine z_iadd hx hb dX3_fill_83 ?_
        refine lv_aload_n hx hb dX3_fill_84 rfl (lv_at hl 0 rfl) ?_
        refine z_get (ci := 3) hF hI in_X3 0 rfl rfl 3 (by decide) q158 rfl rfl dX3_fill_85 ?_
        refine lv_iload hx hb dX3_fill_88 (lv_at hl 4 rfl) ?_
        refine z_iald hF hI 2 rfl (by omega) (by omega) dX3_fill_90 ?_
        refine z_iast hF hI 2 rfl (by omega) (by omega) dX3_fill_91 (fun H locs hI => ?_)
        have hI : zW D A s.heap (mW h0 a b cB cI g d pt (zup t1 (k + more) (t1 k)) len) H locs := hI
        refine lv_iinc (lv' := [(8, .int (zI (k + (-1)))), (0, .ref h0), (1, .int (zI more)), (6, .int (zI zr)), (7, .int (zI at_))]) (k := 4) hx hb dX3_fill_92 hl rfl (zI_add _ _) (by decide) rfl (fun ls hl => ?_)
        refine lv_goto (tgt := 69) hx hb dX3_fill_95 (by decide) ?_
        exact ih_ (k + -1) zr at_ (zup t1 (k + more) (t1 k)) (by omega) ha hzr hfin (by omega) (by intro i q1 q2; rw [zup_ne _ _ (by omega)]; exact hA_ i q1 (by omega)) (by intro j q1 q2; by_cases q : j = k; (rw [q, zup_same]; exact hA_ k (by omega) (by omega)); (rw [zup_ne _ _ (by omega)]; exact hB_ j (by omega) q2)) H locs hI ls (lv_sub hl [1, 2, 3, 4, 0] rfl)
  have L59 : ∀ (zr at_ : Int), (0 ≤ at_ ∧ at_ ≤ len) → (zr = 0 ∨ zr = 1) → (fillT LL more.toNat fl fr pl = LL.take at_.toNat ++ (List.replicate more.toNat (if zr = 0 then 32 else 48) ++ LL.drop at_.toNat)) → ∀ (H : Heap) (locs : List Loc), zW D A s.heap (mW h0 a b cB cI g d pt t len) H locs → ∀ ls : Array Slot, lv_has ls 9 [(0, .ref h0), (1, .int (zI more)), (6, .int (zI zr))] → W p l e ({ frames := 0, cells := 0, slots := 0, locals := 0 } : Room) s m ([.ref h0, .int (zI more), .int (zI fl), .int (zI fr), .int (zI pl)] : List Value).toArray below meth c H locs 0 0 (MQ below (va_Qv (fun t2 => Txl t2 (len + more) (fillT LL more.toNat fl fr pl)) (zPost D A (fun t2 => mW h0 a b cB cI g d pt t2 (len + more))) A) ([.ref h0, .int (zI more), .int (zI fl), .int (zI fr), .int (zI pl)] : List Value).toArray s ({ frames := 0, cells := 0, slots := 0, locals := 0 } : Room).cells ({ frames := 0, cells := 0, slots := 0, locals := 0 } : Room).slots A) (F0 m 59 ls [.int (zI at_)]) := by
    intro zr at_ ha hzr hfin H locs hI ls hl
    refine lv_istore (lv' := [(7, .int (zI at_)), (0, .ref h0), (1, .int (zI more)), (6, .int (zI zr))]) hx hb dX3_fill_59 hl (by decide) rfl (fun ls hl => ?_)
    refine lv_aload_n hx hb dX3_fill_61 rfl (lv_at hl 1 rfl) ?_
    refine z_get (ci := 3) hF hI in_X3 0 rfl rfl 4 (by decide) q159 rfl rfl dX3_fill_62 ?_
    refine z_iconst hx hb dX3_fill_65 ?_
    refine z_isub hx hb dX3_fill_66 ?_
    refine lv_istore (lv' := [(8, .int (zI (len - 1))), (7, .int (zI at_)), (0, .ref h0), (1, .int (zI more)), (6, .int (zI zr))]) hx hb dX3_fill_67 hl (by decide) rfl (fun ls hl => ?_)
    exact L69 (len.toNat + 1) (len - 1) zr at_ t (by omega) ha hzr hfin (by omega) (by intro i q1 q2; rfl) (by intro j q1 q2; exfalso; omega) H locs hI ls (lv_sub hl [2, 3, 4, 1, 0] rfl)
  have L35 : ∀ (lf zr : Int), (lf = fl % 2) → (zr = if fl % 2 = 0 ∧ fl / 8 % 2 * 8 ≠ 0 ∧ pl = 0 then 1 else 0) → ((zr = 1 ∧ fl % 2 = 0 ∧ fl / 8 % 2 * 8 ≠ 0 ∧ pl = 0) ∨ (zr = 0 ∧ ¬ (fl % 2 = 0 ∧ fl / 8 % 2 * 8 ≠ 0 ∧ pl = 0))) → ∀ (H : Heap) (locs : List Loc), zW D A s.heap (mW h0 a b cB cI g d pt t len) H locs → ∀ ls : Array Slot, lv_has ls 9 [(0, .ref h0), (1, .int (zI more)), (3, .int (zI fr)), (5, .int (zI lf))] → W p l e ({ frames := 0, cells := 0, slots := 0, locals := 0 } : Room) s m ([.ref h0, .int (zI more), .int (zI fl), .int (zI fr), .int (zI pl)] : List Value).toArray below meth c H locs 0 0 (MQ below (va_Qv (fun t2 => Txl t2 (len + more) (fillT LL more.toNat fl fr pl)) (zPost D A (fun t2 => mW h0 a b cB cI g d pt t2 (len + more))) A) ([.ref h0, .int (zI more), .int (zI fl), .int (zI fr), .int (zI pl)] : List Value).toArray s ({ frames := 0, cells := 0, slots := 0, locals := 0 } : Room).cells ({ frames := 0, cells := 0, slots := 0, locals := 0 } : Room).slots A) (F0 m 35 ls [.int (zI zr)]) := by
    intro lf zr hlf hz1 hz2 H locs hI ls hl
    refine lv_istore (lv' := [(6, .int (zI zr)), (0, .ref h0), (1, .int (zI more)), (3, .int (zI fr)), (5, .int (zI lf))]) hx hb dX3_fill_35 hl (by decide) rfl (fun ls hl => ?_)
    refine lv_iload hx hb dX3_fill_37 (lv_at hl 4 rfl) ?_
    refine z_if_eq (tgt := 49) hx hb (by omega) dX3_fill_39 (by decide) (fun h1 => ?_) (fun h1 => ?_)
    · skip
      refine lv_iload hx hb dX3_fill_49 (lv_at hl 0 rfl) ?_
      refine z_if_eq (tgt := 58) hx hb (by omega) dX3_fill_51 (by decide) (fun h2 => ?_) (fun h2 => ?_)
      · skip
        refine z_iconst hx hb dX3_fill_58 ?_
        exact L59 zr 0 (by omega) (by omega) (by rw [fillT, if_neg (by omega), if_neg (by omega), if_pos h2]; simp) H locs hI ls (lv_sub hl [1, 2, 0] rfl)
      · skip
        refine lv_iload_n hx hb dX3_fill_54 rfl (lv_at hl 3 rfl) ?_
        refine lv_goto (tgt := 59) hx hb dX3_fill_55 (by decide) ?_
        exact L59 zr fr (by omega) (by omega) (by rw [fillT, if_neg (by omega), if_pos (by omega), if_neg h2, List.append_assoc]) H locs hI ls (lv_sub hl [1, 2, 0] rfl)
    · skip
      refine lv_aload_n hx hb dX3_fill_42 rfl (lv_at hl 1 rfl) ?_
      refine z_get (ci := 3) hF hI in_X3 0 rfl rfl 4 (by decide) q159 rfl rfl dX3_fill_43 ?_
      refine lv_goto (tgt := 59) hx hb dX3_fill_46 (by decide) ?_
      exact L59 zr len (by omega) (by omega) (by rw [fillT, if_pos (by omega), if_pos (by omega), hlen, Int.toNat_natCast, List.take_length, List.drop_length, List.append_nil]) H locs hI ls (lv_sub hl [1, 2, 0] rfl)
  have L11 : ∀ (lf : Int), (lf = fl % 2) → ∀ (H : Heap) (locs : List Loc), zW D A s.heap (mW h0 a b cB cI g d pt t len) H locs → ∀ ls : Array Slot, lv_has ls 9 [(0, .ref h0), (1, .int (zI more)), (2, .int (zI fl)), (3, .int (zI fr)), (4, .int (zI pl))] → W p l e ({ frames := 0, cells := 0, slots := 0, locals := 0 } : Room) s m ([.ref h0, .int (zI more), .int (zI fl), .int (zI fr), .int (zI pl)] : List Value).toArray below meth c H locs 0 0 (MQ below (va_Qv (fun t2 => Txl t2 (len + more) (fillT LL more.toNat fl fr pl)) (zPost D A (fun t2 => mW h0 a b cB cI g d pt t2 (len + more))) A) ([.ref h0, .int (zI more), .int (zI fl), .int (zI fr), .int (zI pl)] : List Value).toArray s ({ frames := 0, cells := 0, slots := 0, locals := 0 } : Room).cells ({ frames := 0, cells := 0, slots := 0, locals := 0 } : Room).slots A) (F0 m 11 ls [.int (zI lf)]) := by
    intro lf hlf H locs hI ls hl
    refine lv_istore (lv' := [(5, .int (zI lf)), (0, .ref h0), (1, .int (zI more)), (2, .int (zI fl)), (3, .int (zI fr)), (4, .int (zI pl))]) hx hb dX3_fill_11 hl (by decide) rfl (fun ls hl => ?_)
    refine lv_iload hx hb dX3_fill_13 (lv_at hl 0 rfl) ?_
    refine z_if_ne (tgt := 34) hx hb (by omega) dX3_fill_15 (by decide) (fun h1 => ?_) (fun h1 => ?_)
    · skip
      refine z_iconst hx hb dX3_fill_34 ?_
      exact L35 lf 0 hlf (by rw [if_neg (by omega)]) (by exact Or.inr (by omega)) H locs hI ls (lv_sub hl [1, 2, 4, 0] rfl)
    · skip
      refine lv_iload_n hx hb dX3_fill_18 rfl (lv_at hl 3 rfl) ?_
      refine z_bipush hx hb dX3_fill_19 (by decide) ?_
      refine z_iand8 hx hb (by omega) dX3_fill_21 ?_
      refine z_if_eq (tgt := 34) hx hb (by omega) dX3_fill_22 (by decide) (fun h2 => ?_) (fun h2 => ?_)
      · skip
        refine z_iconst hx hb dX3_fill_34 ?_
        exact L35 lf 0 hlf (by rw [if_neg (by omega)]) (by exact Or.inr (by omega)) H locs hI ls (lv_sub hl [1, 2, 4, 0] rfl)
      · skip
        refine lv_iload hx hb dX3_fill_25 (lv_at hl 5 rfl) ?_
        refine z_if_ne (tgt := 34) hx hb (by omega) dX3_fill_27 (by decide) (fun h3 => ?_) (fun h3 => ?_)
        · skip
          refine z_iconst hx hb dX3_fill_34 ?_
          exact L35 lf 0 hlf (by rw [if_neg (by omega)]) (by exact Or.inr (by omega)) H locs hI ls (lv_sub hl [1, 2, 4, 0] rfl)
        · skip
          refine z_iconst hx hb dX3_fill_30 ?_
          refine lv_goto (tgt := 35) hx hb dX3_fill_31 (by decide) ?_
          exact L35 lf 1 hlf (by rw [if_pos (by omega)]) (by exact Or.inl (by omega)) H locs hI ls (lv_sub hl [1, 2, 4, 0] rfl)
  refine lv_iload_n hx hb dX3_fill_0 rfl (lv_at hl 2 rfl) ?_
  refine z_iconst hx hb dX3_fill_1 ?_
  refine z_iand1 hx hb (by omega) dX3_fill_2 ?_
  refine z_if_eq (tgt := 10) hx hb (by omega) dX3_fill_3 (by decide) (fun h1 => ?_) (fun h1 => ?_)
  · skip
    refine z_iconst hx hb dX3_fill_10 ?_
    exact L11 0 (by omega) H locs hI ls (lv_sub hl [0, 1, 2, 3, 4] rfl)
  · skip
    refine z_iconst hx hb dX3_fill_6 ?_
    refine lv_goto (tgt := 11) hx hb dX3_fill_7 (by decide) ?_
    exact L11 1 (by omega) H locs hI ls (lv_sub hl [0, 1, 2, 3, 4] rfl)
set_option maxHeartbeats 4000000 in
set_option maxRecDepth 100000 in
/-- make(bits, how, p, width, flags) -/
theorem m_make (l : Launch) (D : va_G) (cB cI : ClassId) (h0 a b : Nat) (g : Int → Int) (d pt : Int) (t : Int → Int) (len : Int) (z how q wd fl : Int) (T0 : List Int) (hz : -9223372036854775808 ≤ z ∧ z < 9223372036854775808) (hhow : -2147483648 ≤ how ∧ how < 2147483648) (hq : -2147483648 ≤ q ∧ q < 2147483648) (hwd : -2147483648 ≤ wd ∧ wd < 2147483648) (hfl : -2147483648 ≤ fl ∧ fl < 2147483648) (hT0 : Txl t len T0) (hT1_ : T0.length ≤ 400) : zMi (S := (Int → Int) × Int × Int × (Int → Int) × Int) l yX3_make cX3_make 10 (some .int) ({ frames := 3, cells := 0, slots := 0, locals := 72 } : Room) D cB cI ([.ref h0, .long (zL z), .int (zI how), .int (zI q), .int (zI wd), .int (zI fl)] : List Value) (mW h0 a b cB cI g d pt t len) (makeP z how q wd fl T0) (fun u => mW h0 a b cB cI u.1 u.2.1 u.2.2.1 u.2.2.2.1 u.2.2.2.2) := by
  refine z_meti (by decide) (Nat.le_of_ble_eq_true rfl) ?_
  intro p e s m below meth c A hF hr hlk hnm hA hI ls hl
  have hx := hF.1
  have hb := hF.2.1
  have hown := hF.2.2.2.1
  have hts := hF.2.2.2.2.1
  have hl : lv_has ls 10 [(0, .ref h0), (1, .long (zL z)), (3, .int (zI how)), (4, .int (zI q)), (5, .int (zI wd)), (6, .int (zI fl))] := hl
  obtain ⟨H, eH⟩ : ∃ H : Heap, H = s.heap := ⟨_, rfl⟩
  obtain ⟨locs, eL⟩ : ∃ L : List Loc, L = [] := ⟨_, rfl⟩
  have hI : zW D A s.heap (mW h0 a b cB cI g d pt t len) H locs := by rw [eH, eL]; exact hI
  suffices hgo : W p l e ({ frames := 3, cells := 0, slots := 0, locals := 72 } : Room) s m ([.ref h0, .long (zL z), .int (zI how), .int (zI q), .int (zI wd), .int (zI fl)] : List Value).toArray below meth c H locs 0 0 (MQ below (va_Qi (zpi (makeP z how q wd fl T0)) (zPost D A (fun u : Int × ((Int → Int) × Int × Int × (Int → Int) × Int) => (fun u => mW h0 a b cB cI u.1 u.2.1 u.2.2.1 u.2.2.2.1 u.2.2.2.2) u.2)) A) ([.ref h0, .long (zL z), .int (zI how), .int (zI q), .int (zI wd), .int (zI fl)] : List Value).toArray s ({ frames := 3, cells := 0, slots := 0, locals := 72 } : Room).cells ({ frames := 3, cells := 0, slots := 0, locals := 72 } : Room).slots A) (F0 m 0 ls []) by rw [eH, eL] at hgo; exact hgo
  clear eH eL
  have L196 : ∀ (g1 t1 : Int → Int) (d1 p1 ln1 : Int) (T1 : List Int), (¬ badA z how q wd fl ∧ (0 ≤ how ∧ how ≤ 2) ∧ (0 ≤ q ∧ q ≤ 15) ∧ (0 ≤ wd ∧ wd ≤ 400) ∧ (0 ≤ fl ∧ fl ≤ 31)) → (Txl t1 ln1 T1) → (ln1 ≤ 400) → (FullS z how q wd fl T1) → ∀ (H : Heap) (locs : List Loc), zW D A s.heap (mW h0 a b cB cI g1 d1 p1 t1 ln1) H locs → ∀ ls : Array Slot, lv_has ls 10 [(0, .ref h0)] → W p l e ({ frames := 3, cells := 0, slots := 0, locals := 72 } : Room) s m ([.ref h0, .long (zL z), .int (zI how), .int (zI q), .int (zI wd), .int (zI fl)] : List Value).toArray below meth c H locs 0 0 (MQ below (va_Qi (zpi (makeP z how q wd fl T0)) (zPost D A (fun u : Int × ((Int → Int) × Int × Int × (Int → Int) × Int) => (fun u => mW h0 a b cB cI u.1 u.2.1 u.2.2.1 u.2.2.2.1 u.2.2.2.2) u.2)) A) ([.ref h0, .long (zL z), .int (zI how), .int (zI q), .int (zI wd), .int (zI fl)] : List Value).toArray s ({ frames := 3, cells := 0, slots := 0, locals := 72 } : Room).cells ({ frames := 3, cells := 0, slots := 0, locals := 72 } : Room).slots A) (F0 m 196 ls []) := by
    intro g1 t1 d1 p1 ln1 T1 hok hT1 hT2 hFull H locs hI ls hl
    refine lv_aload_n hx hb dX3_make_196 rfl (lv_at hl 0 rfl) ?_
    refine z_get (ci := 3) hF hI in_X3 0 rfl rfl 4 (by decide) q159 rfl rfl dX3_make_197 ?_
    exact z_iret (S := (Int → Int) × Int × Int × (Int → Int) × Int) (post := (makeP z how q wd fl T0)) (w' := (fun u => mW h0 a b cB cI u.1 u.2.1 u.2.2.1 u.2.2.2.1 u.2.2.2.2)) hF hr hlk hI (g1, d1, p1, t1, ln1) ⟨T1, Or.inr ⟨hok.1, hFull, hT1.2⟩, hT1, by have := hT1.2; omega⟩ rfl dX3_make_200
  have L168 : ∀ (g1 t1 : Int → Int) (d1 p1 ln1 : Int) (fr : Int) (LL : List Int), (¬ badA z how q wd fl ∧ (0 ≤ how ∧ how ≤ 2) ∧ (0 ≤ q ∧ q ≤ 15) ∧ (0 ≤ wd ∧ wd ≤ 400) ∧ (0 ≤ fl ∧ fl ≤ 31)) → (Txl t1 ln1 (sgT (sgn z fl) ++ LL)) → (ln1 ≤ 400) → (fr = ((sgT (sgn z fl)).length : Int)) → (InfOr z how q fl LL) → ∀ (H : Heap) (locs : List Loc), zW D A s.heap (mW h0 a b cB cI g1 d1 p1 t1 ln1) H locs → ∀ ls : Array Slot, lv_has ls 10 [(0, .ref h0), (1, .long (zL z)), (3, .int (zI how)), (4, .int (zI q)), (5, .int (zI wd)), (6, .int (zI fl)), (8, .int (zI fr))] → W p l e ({ frames := 3, cells := 0, slots := 0, locals := 72 } : Room) s m ([.ref h0, .long (zL z), .int (zI how), .int (zI q), .int (zI wd), .int (zI fl)] : List Value).toArray below meth c H locs 0 0 (MQ below (va_Qi (zpi (makeP z how q wd fl T0)) (zPost D A (fun u : Int × ((Int → Int) × Int × Int × (Int → Int) × Int) => (fun u => mW h0 a b cB cI u.1 u.2.1 u.2.2.1 u.2.2.2.1 u.2.2.2.2) u.2)) A) ([.ref h0, .long (zL z), .int (zI how), .int (zI q), .int (zI wd), .int (zI fl)] : List Value).toArray s ({ frames := 3, cells := 0, slots := 0, locals := 72 } : Room).cells ({ frames := 3, cells := 0, slots := 0, locals := 72 } : Room).slots A) (F0 m 168 ls []) := by
    intro g1 t1 d1 p1 ln1 fr LL hok hT1 hT2 hfr hLL H locs hI ls hl
    have hl1 := hT1.2
    simp only [List.length_append] at hl1
    have hsl := sgT_len (sgn z fl)
    refine lv_iload hx hb dX3_make_168 (lv_at hl 4 rfl) ?_
    refine lv_aload_n hx hb dX3_make_170 rfl (lv_at hl 0 rfl) ?_
    refine z_get (ci := 3) hF hI in_X3 0 rfl rfl 4 (by decide) q159 rfl rfl dX3_make_171 ?_
    refine z_isub hx hb dX3_make_174 ?_
    refine lv_istore (lv' := [(9, .int (zI (wd - ln1))), (0, .ref h0), (1, .long (zL z)), (3, .int (zI how)), (4, .int (zI q)), (5, .int (zI wd)), (6, .int (zI fl)), (8, .int (zI fr))]) hx hb dX3_make_175 hl (by decide) rfl (fun ls hl => ?_)
    refine lv_iload hx hb dX3_make_177 (lv_at hl 0 rfl) ?_
    refine z_if_le (tgt := 196) hx hb (by omega) dX3_make_179 (by decide) (fun h1 => ?_) (fun h1 => ?_)
    · skip
      exact L196 g1 t1 d1 p1 ln1 (sgT (sgn z fl) ++ LL) hok hT1 (by omega) (by exact ⟨LL, hLL, (pad_none (by rw [← hT1.2]; omega)).symm⟩) H locs hI ls (lv_sub hl [1] rfl)
    · skip
      refine lv_aload_n hx hb dX3_make_182 rfl (lv_at hl 1 rfl) ?_
      refine lv_iload hx hb dX3_make_183 (lv_at hl 0 rfl) ?_
      refine lv_iload hx hb dX3_make_185 (lv_at hl 6 rfl) ?_
      refine lv_iload hx hb dX3_make_187 (lv_at hl 7 rfl) ?_
      refine lv_lload_n hx hb dX3_make_189 rfl (lv_at hl 2 rfl) ?_
      refine z_callSi (n := 1) (As := [.long (zL z)]) (rest := [.int (zI fr), .int (zI fl), .int (zI (wd - ln1)), .ref h0]) (wr := ([(h0, .inr (3, [.ref a, .int (zI d1), .int (zI p1), .ref b, .int (zI ln1)])), (a, .inl (cB, 1200, .inl (zA g1))), (b, .inl (cI, 420, .inl (zA t1)))] : va_W)) (C := "DecimalTextModel") hF (m_infinite l D cB cI z hz) (lw_S q184 q185 q17 q186) (by decide +kernel) ⟨Nat.le_of_ble_eq_true rfl, Nat.le_of_ble_eq_true rfl⟩ hI hA [] [0, 1, 2] rfl rfl rfl rfl (by decide) rfl hl.1 rfl (lv_room (Nat.le_of_ble_eq_true rfl)) dX3_make_190 ⟨Nat.le_of_ble_eq_true rfl, Nat.le_of_ble_eq_true rfl⟩ (fun ri u H locs hu hI => ?_)
      obtain _u := u
      have hI : zW D A s.heap (mW h0 a b cB cI g1 d1 p1 t1 ln1) H locs := hI
      have hri : (ri = 1 ∧ z / 4503599627370496 % 2048 = 2047 ∧ z % 4503599627370496 = 0) ∨ (ri = 0 ∧ ¬ (z / 4503599627370496 % 2048 = 2047 ∧ z % 4503599627370496 = 0)) := by rw [hu]; split; exact Or.inl ⟨rfl, by assumption⟩; exact Or.inr ⟨rfl, by assumption⟩
      have hnb : ¬ (z / 4503599627370496 % 2048 = 2047 ∧ z % 4503599627370496 ≠ 0) := fun q9 => hok.1 (by unfold badA; omega)
      refine z_callVv (n := 4) (As := [.int (zI (wd - ln1)), .int (zI fl), .int (zI fr), .int (zI ri)]) (rest := []) (wr := ([] : va_W)) (C := "DecimalTextModel") (ci := 3) hF (m_fill l D cB cI h0 a b g1 d1 p1 t1 ln1 (wd - ln1) fl fr ri (sgT (sgn z fl) ++ LL) hT1 (by omega) (by omega) (by omega) (by omega)) (lw_V q218 q220 qs12 q17 q221) (by decide +kernel) ⟨Nat.le_of_ble_eq_true rfl, Nat.le_of_ble_eq_true rfl⟩ hI hA [0, 1, 2] [] rfl rfl rfl rfl (by decide) rfl rfl rfl hl.1 rfl (lv_room (Nat.le_of_ble_eq_true rfl)) dX3_make_193 ⟨Nat.le_of_ble_eq_true rfl, Nat.le_of_ble_eq_true rfl⟩ (fun u H locs hu hI => ?_)
      revert u; intro t2 hu hI
      have hI : zW D A s.heap (mW h0 a b cB cI g1 d1 p1 t2 (ln1 + (wd - ln1))) H locs := hI
      exact L196 g1 t2 d1 p1 (ln1 + (wd - ln1)) (fillT (sgT (sgn z fl) ++ LL) (wd - ln1).toNat fl fr ri) hok hu (by omega) (by exact ⟨LL, hLL, fill_pad (by omega) (by omega) (by omega)⟩) H locs hI ls (lv_sub hl [1] rfl)
  have L165 : ∀ (g1 t1 : Int → Int) (d1 p1 ln1 : Int) (fr dt : Int), (¬ badA z how q wd fl ∧ (0 ≤ how ∧ how ≤ 2) ∧ (0 ≤ q ∧ q ≤ 15) ∧ (0 ≤ wd ∧ wd ≤ 400) ∧ (0 ≤ fl ∧ fl ≤ 31)) → (z / 4503599627370496 % 2048 ≠ 2047) → (spreadP z (g1, d1, p1)) → (dt = 0 ∨ dt = 1) → (dt = if fl / 16 % 2 * 16 = 0 then 0 else 1) → (Txl t1 ln1 (sgT (sgn z fl) ++ [])) → (fr = ((sgT (sgn z fl)).length : Int)) → ∀ (H : Heap) (locs : List Loc), zW D A s.heap (mW h0 a b cB cI g1 d1 p1 t1 ln1) H locs → ∀ ls : Array Slot, lv_has ls 10 [(0, .ref h0), (1, .long (zL z)), (3, .int (zI how)), (4, .int (zI q)), (5, .int (zI wd)), (6, .int (zI fl)), (8, .int (zI fr))] → W p l e ({ frames := 3, cells := 0, slots := 0, locals := 72 } : Room) s m ([.ref h0, .long (zL z), .int (zI how), .int (zI q), .int (zI wd), .int (zI fl)] : List Value).toArray below meth c H locs 0 0 (MQ below (va_Qi (zpi (makeP z how q wd fl T0)) (zPost D A (fun u : Int × ((Int → Int) × Int × Int × (Int → Int) × Int) => (fun u => mW h0 a b cB cI u.1 u.2.1 u.2.2.1 u.2.2.2.1 u.2.2.2.2) u.2)) A) ([.ref h0, .long (zL z), .int (zI how), .int (zI q), .int (zI wd), .int (zI fl)] : List Value).toArray s ({ frames := 3, cells := 0, slots := 0, locals := 72 } : Room).cells ({ frames := 3, cells := 0, slots := 0, locals := 72 } : Room).slots A) (F0 m 165 ls [.int (zI dt), .int (zI q), .int (zI how), .ref h0]) := by
    intro g1 t1 d1 p1 ln1 fr dt hok hE hSp hdt hdt2 hT1 hfr H locs hI ls hl
    obtain ⟨n1, v1, hd1, hn1, hR1, hN1⟩ := hSp
    refine z_callVv (n := 3) (As := [.int (zI how), .int (zI q), .int (zI dt)]) (rest := []) (wr := ([] : va_W)) (C := "DecimalTextModel") (ci := 3) hF (m_body l D cB cI h0 a b g1 d1 p1 t1 ln1 n1 v1 z how q dt (sgT (sgn z fl)) hd1 hR1 hn1 hN1 hE hok.2.1 hok.2.2.1 hdt hT1 (by have := sgT_len (sgn z fl); omega)) (lw_V q206 q208 qs9 q17 q209) (by decide +kernel) ⟨Nat.le_of_ble_eq_true rfl, Nat.le_of_ble_eq_true rfl⟩ hI hA [0, 1, 2] [] rfl rfl rfl rfl (by decide) rfl rfl rfl hl.1 rfl (lv_room (Nat.le_of_ble_eq_true rfl)) dX3_make_165 ⟨Nat.le_of_ble_eq_true rfl, Nat.le_of_ble_eq_true rfl⟩ (fun u H locs hu hI => ?_)
    obtain ⟨g2, d2, p2, t2, ln2⟩ := u
    have hI : zW D A s.heap (mW h0 a b cB cI g2 d2 p2 t2 ln2) H locs := hI
    obtain ⟨LL, hLL, hT2, hln2⟩ := hu
    exact L168 g2 t2 d2 p2 ln2 fr LL hok hT2 hln2 hfr (by rw [InfOr, if_neg hE, ← hdt2]; exact hLL) H locs hI ls (lv_sub hl [0, 1, 2, 3, 4, 5, 6] rfl)
  have L109 : ∀ (g1 t1 : Int → Int) (d1 p1 ln1 : Int), (¬ badA z how q wd fl ∧ (0 ≤ how ∧ how ≤ 2) ∧ (0 ≤ q ∧ q ≤ 15) ∧ (0 ≤ wd ∧ wd ≤ 400) ∧ (0 ≤ fl ∧ fl ≤ 31)) → (Txl t1 ln1 (sgT (sgn z fl) ++ [])) → ∀ (H : Heap) (locs : List Loc), zW D A s.heap (mW h0 a b cB cI g1 d1 p1 t1 ln1) H locs → ∀ ls : Array Slot, lv_has ls 10 [(0, .ref h0), (1, .long (zL z)), (3, .int (zI how)), (4, .int (zI q)), (5, .int (zI wd)), (6, .int (zI fl))] → W p l e ({ frames := 3, cells := 0, slots := 0, locals := 72 } : Room) s m ([.ref h0, .long (zL z), .int (zI how), .int (zI q), .int (zI wd), .int (zI fl)] : List Value).toArray below meth c H locs 0 0 (MQ below (va_Qi (zpi (makeP z how q wd fl T0)) (zPost D A (fun u : Int × ((Int → Int) × Int × Int × (Int → Int) × Int) => (fun u => mW h0 a b cB cI u.1 u.2.1 u.2.2.1 u.2.2.2.1 u.2.2.2.2) u.2)) A) ([.ref h0, .long (zL z), .int (zI how), .int (zI q), .int (zI wd), .int (zI fl)] : List Value).toArray s ({ frames := 3, cells := 0, slots := 0, locals := 72 } : Room).cells ({ frames := 3, cells := 0, slots := 0, locals := 72 } : Room).slots A) (F0 m 109 ls []) := by
    intro g1 t1 d1 p1 ln1 hok hT1 H locs hI ls hl
    refine lv_aload_n hx hb dX3_make_109 rfl (lv_at hl 0 rfl) ?_
    refine z_get (ci := 3) hF hI in_X3 0 rfl rfl 4 (by decide) q159 rfl rfl dX3_make_110 ?_
    refine lv_istore (lv' := [(8, .int (zI ln1)), (0, .ref h0), (1, .long (zL z)), (3, .int (zI how)), (4, .int (zI q)), (5, .int (zI wd)), (6, .int (zI fl))]) hx hb dX3_make_113 hl (by decide) rfl (fun ls hl => ?_)
    refine lv_lload_n hx hb dX3_make_115 rfl (lv_at hl 2 rfl) ?_
    refine z_callSi (n := 1) (As := [.long (zL z)]) (rest := []) (wr := ([(h0, .inr (3, [.ref a, .int (zI d1), .int (zI p1), .ref b, .int (zI ln1)])), (a, .inl (cB, 1200, .inl (zA g1))), (b, .inl (cI, 420, .inl (zA t1)))] : va_W)) (C := "DecimalTextModel") hF (m_infinite l D cB cI z hz) (lw_S q184 q185 q17 q186) (by decide +kernel) ⟨Nat.le_of_ble_eq_true rfl, Nat.le_of_ble_eq_true rfl⟩ hI hA [] [0, 1, 2] rfl rfl rfl rfl (by decide) rfl hl.1 rfl (lv_room (Nat.le_of_ble_eq_true rfl)) dX3_make_116 ⟨Nat.le_of_ble_eq_true rfl, Nat.le_of_ble_eq_true rfl⟩ (fun ri u H locs hu hI => ?_)
    obtain _u := u
    have hI : zW D A s.heap (mW h0 a b cB cI g1 d1 p1 t1 ln1) H locs := hI
    have hri : (ri = 1 ∧ z / 4503599627370496 % 2048 = 2047 ∧ z % 4503599627370496 = 0) ∨ (ri = 0 ∧ ¬ (z / 4503599627370496 % 2048 = 2047 ∧ z % 4503599627370496 = 0)) := by rw [hu]; split; exact Or.inl ⟨rfl, by assumption⟩; exact Or.inr ⟨rfl, by assumption⟩
    have hnb : ¬ (z / 4503599627370496 % 2048 = 2047 ∧ z % 4503599627370496 ≠ 0) := fun q9 => hok.1 (by unfold badA; omega)
    have hl1 := hT1.2
    simp only [List.length_append, List.length_nil] at hl1
    have hsl := sgT_len (sgn z fl)
    have hsl2 : ((sgT (sgn z fl)).length : Int) ≤ 1 := by rw [hsl]; split <;> omega
    refine z_if_eq (tgt := 143) hx hb (by omega) dX3_make_119 (by decide) (fun h1 => ?_) (fun h1 => ?_)
    · skip
      refine lv_aload_n hx hb dX3_make_143 rfl (lv_at hl 1 rfl) ?_
      refine lv_lload_n hx hb dX3_make_144 rfl (lv_at hl 2 rfl) ?_
      refine z_callVv (n := 1) (As := [.long (zL z)]) (rest := []) (wr := ([] : va_W)) (C := "DecimalTextModel") (ci := 3) hF (m_spread l D cB cI h0 a b g1 d1 p1 t1 ln1 z hz (by omega)) (lw_V q187 q189 qs5 q17 q190) (by decide +kernel) ⟨Nat.le_of_ble_eq_true rfl, Nat.le_of_ble_eq_true rfl⟩ hI hA [0, 1, 2] [] rfl rfl rfl rfl (by decide) rfl rfl rfl hl.1 rfl (lv_room (Nat.le_of_ble_eq_true rfl)) dX3_make_145 ⟨Nat.le_of_ble_eq_true rfl, Nat.le_of_ble_eq_true rfl⟩ (fun u H locs hu hI => ?_)
      obtain ⟨g2, d2, p2⟩ := u
      have hI : zW D A s.heap (mW h0 a b cB cI g2 d2 p2 t1 ln1) H locs := hI
      refine lv_aload_n hx hb dX3_make_148 rfl (lv_at hl 1 rfl) ?_
      refine lv_iload_n hx hb dX3_make_149 rfl (lv_at hl 3 rfl) ?_
      refine lv_iload hx hb dX3_make_150 (lv_at hl 4 rfl) ?_
      refine lv_iload hx hb dX3_make_152 (lv_at hl 6 rfl) ?_
      refine z_bipush hx hb dX3_make_154 (by decide) ?_
      refine z_iand16 hx hb (by omega) dX3_make_156 ?_
      refine z_if_eq (tgt := 164) hx hb (by omega) dX3_make_157 (by decide) (fun h2 => ?_) (fun h2 => ?_)
      · skip
        refine z_iconst hx hb dX3_make_164 ?_
        exact L165 g2 t1 d2 p2 ln1 ln1 0 hok (by omega) hu (by omega) (by rw [if_pos (by omega)]) hT1 (by omega) H locs hI ls (lv_sub hl [1, 2, 3, 4, 5, 6, 0] rfl)
      · skip
        refine z_iconst hx hb dX3_make_160 ?_
        refine lv_goto (tgt := 165) hx hb dX3_make_161 (by decide) ?_
        exact L165 g2 t1 d2 p2 ln1 ln1 1 hok (by omega) hu (by omega) (by rw [if_neg (by omega)]) hT1 (by omega) H locs hI ls (lv_sub hl [1, 2, 3, 4, 5, 6, 0] rfl)
    · skip
      refine lv_aload_n hx hb dX3_make_122 rfl (lv_at hl 1 rfl) ?_
      refine z_bipush hx hb dX3_make_123 (by decide) ?_
      refine z_callVv (n := 1) (As := [.int (zI 105)]) (rest := []) (wr := ([] : va_W)) (C := "DecimalTextModel") (ci := 3) hF (m_put l D cB cI h0 a b g1 d1 p1 t1 ln1 105 (by omega)) (lw_V q180 q182 qs4 q17 q183) (by decide +kernel) ⟨Nat.le_of_ble_eq_true rfl, Nat.le_of_ble_eq_true rfl⟩ hI hA [0, 1, 2] [] rfl rfl rfl rfl (by decide) rfl rfl rfl hl.1 rfl (lv_room (Nat.le_of_ble_eq_true rfl)) dX3_make_125 ⟨Nat.le_of_ble_eq_true rfl, Nat.le_of_ble_eq_true rfl⟩ (fun u H locs hu hI => ?_)
      obtain _u := u
      have hI : zW D A s.heap (mW h0 a b cB cI g1 d1 p1 (zup t1 ln1 105) (ln1 + 1)) H locs := hI
      refine lv_aload_n hx hb dX3_make_128 rfl (lv_at hl 1 rfl) ?_
      refine z_bipush hx hb dX3_make_129 (by decide) ?_
      refine z_callVv (n := 1) (As := [.int (zI 110)]) (rest := []) (wr := ([] : va_W)) (C := "DecimalTextModel") (ci := 3) hF (m_put l D cB cI h0 a b g1 d1 p1 (zup t1 ln1 105) (ln1 + 1) 110 (by omega)) (lw_V q180 q182 qs4 q17 q183) (by decide +kernel) ⟨Nat.le_of_ble_eq_true rfl, Nat.le_of_ble_eq_true rfl⟩ hI hA [0, 1, 2] [] rfl rfl rfl rfl (by decide) rfl rfl rfl hl.1 rfl (lv_room (Nat.le_of_ble_eq_true rfl)) dX3_make_131 ⟨Nat.le_of_ble_eq_true rfl, Nat.le_of_ble_eq_true rfl⟩ (fun u H locs hu hI => ?_)
      obtain _u := u
      have hI : zW D A s.heap (mW h0 a b cB cI g1 d1 p1 (zup (zup t1 ln1 105) (ln1 + 1) 110) ((ln1 + 1) + 1)) H locs := hI
      refine lv_aload_n hx hb dX3_make_134 rfl (lv_at hl 1 rfl) ?_
      refine z_bipush hx hb dX3_make_135 (by decide) ?_
      refine z_callVv (n := 1) (As := [.int (zI 102)]) (rest := []) (wr := ([] : va_W)) (C := "DecimalTextModel") (ci := 3) hF (m_put l D cB cI h0 a b g1 d1 p1 (zup (zup t1 ln1 105) (ln1 + 1) 110) ((ln1 + 1) + 1) 102 (by omega)) (lw_V q180 q182 qs4 q17 q183) (by decide +kernel) ⟨Nat.le_of_ble_eq_true rfl, Nat.le_of_ble_eq_true rfl⟩ hI hA [0, 1, 2] [] rfl rfl rfl rfl (by decide) rfl rfl rfl hl.1 rfl (lv_room (Nat.le_of_ble_eq_true rfl)) dX3_make_137 ⟨Nat.le_of_ble_eq_true rfl, Nat.le_of_ble_eq_true rfl⟩ (fun u H locs hu hI => ?_)
      obtain _u := u
      have hI : zW D A s.heap (mW h0 a b cB cI g1 d1 p1 (zup (zup (zup t1 ln1 105) (ln1 + 1) 110) ((ln1 + 1) + 1) 102) (((ln1 + 1) + 1) + 1)) H locs := hI
      have hT3 := Txl_add (x := 102) (Txl_add (x := 110) (Txl_add (x := 105) hT1 (Y := [105]) rfl) (Y := [105, 110]) rfl) (Y := [105, 110, 102]) rfl
      refine lv_goto (tgt := 168) hx hb dX3_make_140 (by decide) ?_
      exact L168 g1 (zup (zup (zup t1 ln1 105) (ln1 + 1) 110) ((ln1 + 1) + 1) 102) d1 p1 (((ln1 + 1) + 1) + 1) ln1 ([105, 110, 102]) hok hT3 (by omega) (by omega) (by rw [InfOr, if_pos (by omega)]) H locs hI ls (lv_sub hl [1, 2, 3, 4, 5, 6, 0] rfl)
  have L96 : ∀ (sg : Int), (¬ badA z how q wd fl ∧ (0 ≤ how ∧ how ≤ 2) ∧ (0 ≤ q ∧ q ≤ 15) ∧ (0 ≤ wd ∧ wd ≤ 400) ∧ (0 ≤ fl ∧ fl ≤ 31)) → (sgn z fl = sg) → (0 ≤ sg ∧ sg ≤ 100) → ∀ (H : Heap) (locs : List Loc), zW D A s.heap (mW h0 a b cB cI g d pt t 0) H locs → ∀ ls : Array Slot, lv_has ls 10 [(0, .ref h0), (1, .long (zL z)), (3, .int (zI how)), (4, .int (zI q)), (5, .int (zI wd)), (6, .int (zI fl))] → W p l e ({ frames := 3, cells := 0, slots := 0, locals := 72 } : Room) s m ([.ref h0, .long (zL z), .int (zI how), .int (zI q), .int (zI wd), .int (zI fl)] : List Value).toArray below meth c H locs 0 0 (MQ below (va_Qi (zpi (makeP z how q wd fl T0)) (zPost D A (fun u : Int × ((Int → Int) × Int × Int × (Int → Int) × Int) => (fun u => mW h0 a b cB cI u.1 u.2.1 u.2.2.1 u.2.2.2.1 u.2.2.2.2) u.2)) A) ([.ref h0, .long (zL z), .int (zI how), .int (zI q), .int (zI wd), .int (zI fl)] : List Value).toArray s ({ frames := 3, cells := 0, slots := 0, locals := 72 } : Room).cells ({ frames := 3, cells := 0, slots := 0, locals := 72 } : Room).slots A) (F0 m 96 ls [.int (zI sg)]) := by
    intro sg hok hs1 hs2 H locs hI ls hl
    refine lv_istore (lv' := [(7, .int (zI sg)), (0, .ref h0), (1, .long (zL z)), (3, .int (zI how)), (4, .int (zI q)), (5, .int (zI wd)), (6, .int (zI fl))]) hx hb dX3_make_96 hl (by decide) rfl (fun ls hl => ?_)
    refine lv_iload hx hb dX3_make_98 (lv_at hl 0 rfl) ?_
    refine z_if_eq (tgt := 109) hx hb (by omega) dX3_make_100 (by decide) (fun h1 => ?_) (fun h1 => ?_)
    · skip
      exact L109 g t d pt 0 hok (by rw [hs1, h1]; exact ⟨Tx_nil t, rfl⟩) H locs hI ls (lv_sub hl [1, 2, 3, 4, 5, 6] rfl)
    · skip
      refine lv_aload_n hx hb dX3_make_103 rfl (lv_at hl 1 rfl) ?_
      refine lv_iload hx hb dX3_make_104 (lv_at hl 0 rfl) ?_
      refine z_callVv (n := 1) (As := [.int (zI sg)]) (rest := []) (wr := ([] : va_W)) (C := "DecimalTextModel") (ci := 3) hF (m_put l D cB cI h0 a b g d pt t 0 sg (by omega)) (lw_V q180 q182 qs4 q17 q183) (by decide +kernel) ⟨Nat.le_of_ble_eq_true rfl, Nat.le_of_ble_eq_true rfl⟩ hI hA [0, 1, 2] [] rfl rfl rfl rfl (by decide) rfl rfl rfl hl.1 rfl (lv_room (Nat.le_of_ble_eq_true rfl)) dX3_make_106 ⟨Nat.le_of_ble_eq_true rfl, Nat.le_of_ble_eq_true rfl⟩ (fun u H locs hu hI => ?_)
      obtain _u := u
      have hI : zW D A s.heap (mW h0 a b cB cI g d pt (zup t 0 sg) (0 + 1)) H locs := hI
      exact L109 g (zup t 0 sg) d pt (0 + 1) hok (by rw [hs1, sgT, if_neg h1]; exact Txl_one t sg) H locs hI ls (lv_sub hl [1, 2, 3, 4, 5, 6] rfl)
  have L55 : (¬ badA z how q wd fl ∧ (0 ≤ how ∧ how ≤ 2) ∧ (0 ≤ q ∧ q ≤ 15) ∧ (0 ≤ wd ∧ wd ≤ 400) ∧ (0 ≤ fl ∧ fl ≤ 31)) → ∀ (H : Heap) (locs : List Loc), zW D A s.heap (mW h0 a b cB cI g d pt t len) H locs → ∀ ls : Array Slot, lv_has ls 10 [(0, .ref h0), (1, .long (zL z)), (3, .int (zI how)), (4, .int (zI q)), (5, .int (zI wd)), (6, .int (zI fl))] → W p l e ({ frames := 3, cells := 0, slots := 0, locals := 72 } : Room) s m ([.ref h0, .long (zL z), .int (zI how), .int (zI q), .int (zI wd), .int (zI fl)] : List Value).toArray below meth c H locs 0 0 (MQ below (va_Qi (zpi (makeP z how q wd fl T0)) (zPost D A (fun u : Int × ((Int → Int) × Int × Int × (Int → Int) × Int) => (fun u => mW h0 a b cB cI u.1 u.2.1 u.2.2.1 u.2.2.2.1 u.2.2.2.2) u.2)) A) ([.ref h0, .long (zL z), .int (zI how), .int (zI q), .int (zI wd), .int (zI fl)] : List Value).toArray s ({ frames := 3, cells := 0, slots := 0, locals := 72 } : Room).cells ({ frames := 3, cells := 0, slots := 0, locals := 72 } : Room).slots A) (F0 m 55 ls []) := by
    intro  hok H locs hI ls hl
    refine lv_aload_n hx hb dX3_make_55 rfl (lv_at hl 0 rfl) ?_
    refine z_iconst hx hb dX3_make_56 ?_
    refine z_put (ci := 3) (v := .int (zI 0)) (ty := .int) hF hI in_X3 tyX3 tyX3_ok nmX3 0 rfl rfl 4 (by decide) q159 rfl rfl (by decide +kernel) rfl rfl (Nat.le_of_ble_eq_true rfl) dX3_make_57 (fun H locs hI => ?_)
    have hI : zW D A s.heap (mW h0 a b cB cI g d pt t 0) H locs := hI
    refine lv_lload_n hx hb dX3_make_60 rfl (lv_at hl 1 rfl) ?_
    refine z_lconst hx hb 0 dX3_make_61 (by decide) ?_
    refine z_lcmp_ge (tgt := 71) hx hb (by omega) (by omega) dX3_make_62 dX3_make_63 (by decide) (fun h1 => ?_) (fun h1 => ?_)
    · skip
      refine lv_iload hx hb dX3_make_71 (lv_at hl 5 rfl) ?_
      refine z_iconst hx hb dX3_make_73 ?_
      refine z_iand2 hx hb (by omega) dX3_make_74 ?_
      refine z_if_eq (tgt := 83) hx hb (by omega) dX3_make_75 (by decide) (fun h2 => ?_) (fun h2 => ?_)
      · skip
        refine lv_iload hx hb dX3_make_83 (lv_at hl 5 rfl) ?_
        refine z_iconst hx hb dX3_make_85 ?_
        refine z_iand4 hx hb (by omega) dX3_make_86 ?_
        refine z_if_eq (tgt := 95) hx hb (by omega) dX3_make_87 (by decide) (fun h3 => ?_) (fun h3 => ?_)
        · skip
          refine z_iconst hx hb dX3_make_95 ?_
          exact L96 0 hok (by rw [sgn, if_neg (by omega), if_neg (by omega), if_neg (by omega)]) (by omega) H locs hI ls (lv_sub hl [0, 1, 2, 3, 4, 5] rfl)
        · skip
          refine z_bipush hx hb dX3_make_90 (by decide) ?_
          refine lv_goto (tgt := 96) hx hb dX3_make_92 (by decide) ?_
          exact L96 32 hok (by rw [sgn, if_neg (by omega), if_neg (by omega), if_pos (by omega)]) (by omega) H locs hI ls (lv_sub hl [0, 1, 2, 3, 4, 5] rfl)
      · skip
        refine z_bipush hx hb dX3_make_78 (by decide) ?_
        refine lv_goto (tgt := 96) hx hb dX3_make_80 (by decide) ?_
        exact L96 43 hok (by rw [sgn, if_neg (by omega), if_pos (by omega)]) (by omega) H locs hI ls (lv_sub hl [0, 1, 2, 3, 4, 5] rfl)
    · skip
      refine z_bipush hx hb dX3_make_66 (by decide) ?_
      refine lv_goto (tgt := 96) hx hb dX3_make_68 (by decide) ?_
      exact L96 45 hok (by rw [sgn, if_pos (by omega)]) (by omega) H locs hI ls (lv_sub hl [0, 1, 2, 3, 4, 5] rfl)
  have L53 : (badA z how q wd fl) → ∀ (H : Heap) (locs : List Loc), zW D A s.heap (mW h0 a b cB cI g d pt t len) H locs → ∀ ls : Array Slot, lv_has ls 10 [(0, .ref h0)] → W p l e ({ frames := 3, cells := 0, slots := 0, locals := 72 } : Room) s m ([.ref h0, .long (zL z), .int (zI how), .int (zI q), .int (zI wd), .int (zI fl)] : List Value).toArray below meth c H locs 0 0 (MQ below (va_Qi (zpi (makeP z how q wd fl T0)) (zPost D A (fun u : Int × ((Int → Int) × Int × Int × (Int → Int) × Int) => (fun u => mW h0 a b cB cI u.1 u.2.1 u.2.2.1 u.2.2.2.1 u.2.2.2.2) u.2)) A) ([.ref h0, .long (zL z), .int (zI how), .int (zI q), .int (zI wd), .int (zI fl)] : List Value).toArray s ({ frames := 3, cells := 0, slots := 0, locals := 72 } : Room).cells ({ frames := 3, cells := 0, slots := 0, locals := 72 } : Room).slots A) (F0 m 53 ls []) := by
    intro  hbad H locs hI ls hl
    refine z_iconst hx hb dX3_make_53 ?_
    exact z_iret (S := (Int → Int) × Int × Int × (Int → Int) × Int) (post := (makeP z how q wd fl T0)) (w' := (fun u => mW h0 a b cB cI u.1 u.2.1 u.2.2.1 u.2.2.2.1 u.2.2.2.2)) hF hr hlk hI (g, d, pt, t, len) ⟨T0, Or.inl ⟨hbad, rfl, rfl⟩, hT0, hT1_⟩ rfl dX3_make_54
  refine lv_iload_n hx hb dX3_make_0 rfl (lv_at hl 2 rfl) ?_
  refine z_if_lt (tgt := 53) hx hb (by omega) dX3_make_1 (by decide) (fun c0 => ?_) (fun c0 => ?_)
  · skip
    exact L53  (by unfold badA; omega) H locs hI ls (lv_sub hl [0] rfl)
  · skip
    refine lv_iload_n hx hb dX3_make_4 rfl (lv_at hl 2 rfl) ?_
    refine z_iconst hx hb dX3_make_5 ?_
    refine z_icmp_gt (tgt := 53) hx hb (by omega) (by omega) dX3_make_6 (by decide) (fun c1 => ?_) (fun c1 => ?_)
    · skip
      exact L53  (by unfold badA; omega) H locs hI ls (lv_sub hl [0] rfl)
    · skip
      refine lv_iload hx hb dX3_make_9 (lv_at hl 3 rfl) ?_
      refine z_if_lt (tgt := 53) hx hb (by omega) dX3_make_11 (by decide) (fun c2 => ?_) (fun c2 => ?_)
      · skip
        exact L53  (by unfold badA; omega) H locs hI ls (lv_sub hl [0] rfl)
      · skip
        refine lv_iload hx hb dX3_make_14 (lv_at hl 3 rfl) ?_
        refine z_bipush hx hb dX3_make_16 (by decide) ?_
        refine z_icmp_gt (tgt := 53) hx hb (by omega) (by omega) dX3_make_18 (by decide) (fun c3 => ?_) (fun c3 => ?_)
        · skip
          exact L53  (by unfold badA; omega) H locs hI ls (lv_sub hl [0] rfl)
        · skip
          refine lv_iload hx hb dX3_make_21 (lv_at hl 4 rfl) ?_
          refine z_if_lt (tgt := 53) hx hb (by omega) dX3_make_23 (by decide) (fun c4 => ?_) (fun c4 => ?_)
          · skip
            exact L53  (by unfold badA; omega) H locs hI ls (lv_sub hl [0] rfl)
          · skip
            refine lv_iload hx hb dX3_make_26 (lv_at hl 4 rfl) ?_
            refine z_sipush hx hb dX3_make_28 (by decide) ?_
            refine z_icmp_gt (tgt := 53) hx hb (by omega) (by omega) dX3_make_31 (by decide) (fun c5 => ?_) (fun c5 => ?_)
            · skip
              exact L53  (by unfold badA; omega) H locs hI ls (lv_sub hl [0] rfl)
            · skip
              refine lv_iload hx hb dX3_make_34 (lv_at hl 5 rfl) ?_
              refine z_if_lt (tgt := 53) hx hb (by omega) dX3_make_36 (by decide) (fun c6 => ?_) (fun c6 => ?_)
              · skip
                exact L53  (by unfold badA; omega) H locs hI ls (lv_sub hl [0] rfl)
              · skip
                refine lv_iload hx hb dX3_make_39 (lv_at hl 5 rfl) ?_
                refine z_bipush hx hb dX3_make_41 (by decide) ?_
                refine z_icmp_gt (tgt := 53) hx hb (by omega) (by omega) dX3_make_43 (by decide) (fun c7 => ?_) (fun c7 => ?_)
                · skip
                  exact L53  (by unfold badA; omega) H locs hI ls (lv_sub hl [0] rfl)
                · skip
                  refine lv_lload_n hx hb dX3_make_46 rfl (lv_at hl 1 rfl) ?_
                  refine z_callSi (n := 1) (As := [.long (zL z)]) (rest := []) (wr := ([(h0, .inr (3, [.ref a, .int (zI d), .int (zI pt), .ref b, .int (zI len)])), (a, .inl (cB, 1200, .inl (zA g))), (b, .inl (cI, 420, .inl (zA t)))] : va_W)) (C := "DecimalTextModel") hF (m_none l D cB cI z hz) (lw_S q175 q176 q17 q177) (by decide +kernel) ⟨Nat.le_of_ble_eq_true rfl, Nat.le_of_ble_eq_true rfl⟩ hI hA [] [0, 1, 2] rfl rfl rfl rfl (by decide) rfl hl.1 rfl (lv_room (Nat.le_of_ble_eq_true rfl)) dX3_make_47 ⟨Nat.le_of_ble_eq_true rfl, Nat.le_of_ble_eq_true rfl⟩ (fun ri u H locs hu hI => ?_)
                  obtain _u := u
                  have hI : zW D A s.heap (mW h0 a b cB cI g d pt t len) H locs := hI
                  have hri : (ri = 1 ∧ z / 4503599627370496 % 2048 = 2047 ∧ z % 4503599627370496 ≠ 0) ∨ (ri = 0 ∧ ¬ (z / 4503599627370496 % 2048 = 2047 ∧ z % 4503599627370496 ≠ 0)) := by rw [hu]; split; exact Or.inl ⟨rfl, by assumption⟩; exact Or.inr ⟨rfl, by assumption⟩
                  refine z_if_eq (tgt := 55) hx hb (by omega) dX3_make_50 (by decide) (fun c8 => ?_) (fun c8 => ?_)
                  · skip
                    exact L55  (by exact ⟨by unfold badA; omega, by omega, by omega, by omega, by omega⟩) H locs hI ls (lv_sub hl [0, 1, 2, 3, 4, 5] rfl)
                  · skip
                    exact L53  (by unfold badA; omega) H locs hI ls (lv_sub hl [0] rfl)
set_option maxHeartbeats 4000000 in
set_option maxRecDepth 100000 in
/-- digits(bits) -/
theorem m_digits (l : Launch) (D : va_G) (cB cI : ClassId) (h0 a b : Nat) (g : Int → Int) (d pt : Int) (t : Int → Int) (len : Int) (z : Int) (hz : -9223372036854775808 ≤ z ∧ z < 9223372036854775808) : zMi (S := (Int → Int) × Int × Int) l yX3_digits cX3_digits 3 (some .int) ({ frames := 3, cells := 0, slots := 0, locals := 72 } : Room) D cB cI ([.ref h0, .long (zL z)] : List Value) (mW h0 a b cB cI g d pt t len) (fun r _ => DigS z r) (fun u => mW h0 a b cB cI u.1 u.2.1 u.2.2 t len) := by
  refine z_meti (by decide) (Nat.le_of_ble_eq_true rfl) ?_
  intro p e s m below meth c A hF hr hlk hnm hA hI ls hl
  have hx := hF.1
  have hb := hF.2.1
  have hown := hF.2.2.2.1
  have hts := hF.2.2.2.2.1
  have hl : lv_has ls 3 [(0, .ref h0), (1, .long (zL z))] := hl
  obtain ⟨H, eH⟩ : ∃ H : Heap, H = s.heap := ⟨_, rfl⟩
  obtain ⟨locs, eL⟩ : ∃ L : List Loc, L = [] := ⟨_, rfl⟩
  have hI : zW D A s.heap (mW h0 a b cB cI g d pt t len) H locs := by rw [eH, eL]; exact hI
  suffices hgo : W p l e ({ frames := 3, cells := 0, slots := 0, locals := 72 } : Room) s m ([.ref h0, .long (zL z)] : List Value).toArray below meth c H locs 0 0 (MQ below (va_Qi (zpi (fun r _ => DigS z r)) (zPost D A (fun u : Int × ((Int → Int) × Int × Int) => (fun u => mW h0 a b cB cI u.1 u.2.1 u.2.2 t len) u.2)) A) ([.ref h0, .long (zL z)] : List Value).toArray s ({ frames := 3, cells := 0, slots := 0, locals := 72 } : Room).cells ({ frames := 3, cells := 0, slots := 0, locals := 72 } : Room).slots A) (F0 m 0 ls []) by rw [eH, eL] at hgo; exact hgo
  clear eH eL
  refine lv_lload_n hx hb dX3_digits_0 rfl (lv_at hl 1 rfl) ?_
  refine z_callSi (n := 1) (As := [.long (zL z)]) (rest := []) (wr := ([(h0, .inr (3, [.ref a, .int (zI d), .int (zI pt), .ref b, .int (zI len)])), (a, .inl (cB, 1200, .inl (zA g))), (b, .inl (cI, 420, .inl (zA t)))] : va_W)) (C := "DecimalTextModel") hF (m_infinite l D cB cI z hz) (lw_S q184 q185 q17 q186) (by decide +kernel) ⟨Nat.le_of_ble_eq_true rfl, Nat.le_of_ble_eq_true rfl⟩ hI hA [] [0, 1, 2] rfl rfl rfl rfl (by decide) rfl hl.1 rfl (lv_room (Nat.le_of_ble_eq_true rfl)) dX3_digits_1 ⟨Nat.le_of_ble_eq_true rfl, Nat.le_of_ble_eq_true rfl⟩ (fun ri u H locs hu hI => ?_)
  obtain _u := u
  have hI : zW D A s.heap (mW h0 a b cB cI g d pt t len) H locs := hI
  have hri : (ri = 1 ∧ z / 4503599627370496 % 2048 = 2047 ∧ z % 4503599627370496 = 0) ∨ (ri = 0 ∧ ¬ (z / 4503599627370496 % 2048 = 2047 ∧ z % 4503599627370496 = 0)) := by rw [hu]; split; exact Or.inl ⟨rfl, by assumption⟩; exact Or.inr ⟨rfl, by assumption⟩
  refine z_if_ne (tgt := 14) hx hb (by omega) dX3_digits_4 (by decide) (fun h1 => ?_) (fun h1 => ?_)
  · skip
    refine z_iconst hx hb dX3_digits_14 ?_
    exact z_iret (S := (Int → Int) × Int × Int) (post := (fun r _ => DigS z r)) (w' := (fun u => mW h0 a b cB cI u.1 u.2.1 u.2.2 t len)) hF hr hlk hI (g, d, pt) (Or.inl ⟨by omega, rfl⟩) rfl dX3_digits_15
  · skip
    refine lv_lload_n hx hb dX3_digits_7 rfl (lv_at hl 1 rfl) ?_
    refine z_callSi (n := 1) (As := [.long (zL z)]) (rest := []) (wr := ([(h0, .inr (3, [.ref a, .int (zI d), .int (zI pt), .ref b, .int (zI len)])), (a, .inl (cB, 1200, .inl (zA g))), (b, .inl (cI, 420, .inl (zA t)))] : va_W)) (C := "DecimalTextModel") hF (m_none l D cB cI z hz) (lw_S q175 q176 q17 q177) (by decide +kernel) ⟨Nat.le_of_ble_eq_true rfl, Nat.le_of_ble_eq_true rfl⟩ hI hA [] [0, 1, 2] rfl rfl rfl rfl (by decide) rfl hl.1 rfl (lv_room (Nat.le_of_ble_eq_true rfl)) dX3_digits_8 ⟨Nat.le_of_ble_eq_true rfl, Nat.le_of_ble_eq_true rfl⟩ (fun rj u H locs hu hI => ?_)
    obtain _u := u
    have hI : zW D A s.heap (mW h0 a b cB cI g d pt t len) H locs := hI
    have hrj : (rj = 1 ∧ z / 4503599627370496 % 2048 = 2047 ∧ z % 4503599627370496 ≠ 0) ∨ (rj = 0 ∧ ¬ (z / 4503599627370496 % 2048 = 2047 ∧ z % 4503599627370496 ≠ 0)) := by rw [hu]; split; exact Or.inl ⟨rfl, by assumption⟩; exact Or.inr ⟨rfl, by assumption⟩
    refine z_if_eq (tgt := 16) hx hb (by omega) dX3_digits_11 (by decide) (fun h2 => ?_) (fun h2 => ?_)
    · skip
      refine lv_aload_n hx hb dX3_digits_16 rfl (lv_at hl 0 rfl) ?_
      refine lv_lload_n hx hb dX3_digits_17 rfl (lv_at hl 1 rfl) ?_
      refine z_callVv (n := 1) (As := [.long (zL z)]) (rest := []) (wr := ([] : va_W)) (C := "DecimalTextModel") (ci := 3) hF (m_spread l D cB cI h0 a b g d pt t len z hz (by omega)) (lw_V q187 q189 qs5 q17 q190) (by decide +kernel) ⟨Nat.le_of_ble_eq_true rfl, Nat.le_of_ble_eq_true rfl⟩ hI hA [0, 1, 2] [] rfl rfl rfl rfl (by decide) rfl rfl rfl hl.1 rfl (lv_room (Nat.le_of_ble_eq_true rfl)) dX3_digits_18 ⟨Nat.le_of_ble_eq_true rfl, Nat.le_of_ble_eq_true rfl⟩ (fun u H locs hu hI => ?_)
      obtain ⟨g2, d2, p2⟩ := u
      have hI : zW D A s.heap (mW h0 a b cB cI g2 d2 p2 t len) H locs := hI
      obtain ⟨n1, v1, hd1, hn1, hR1, hN1⟩ := hu
      refine lv_aload_n hx hb dX3_digits_21 rfl (lv_at hl 0 rfl) ?_
      refine z_get (ci := 3) hF hI in_X3 0 rfl rfl 1 (by decide) q156 rfl rfl dX3_digits_22 ?_
      exact z_iret (S := (Int → Int) × Int × Int) (post := (fun r _ => DigS z r)) (w' := (fun u => mW h0 a b cB cI u.1 u.2.1 u.2.2 t len)) hF hr hlk hI (g2, d2, p2) (Or.inr ⟨by omega, v1, n1, p2, hN1, hd1⟩) rfl dX3_digits_25
    · skip
      refine z_iconst hx hb dX3_digits_14 ?_
      exact z_iret (S := (Int → Int) × Int × Int) (post := (fun r _ => DigS z r)) (w' := (fun u => mW h0 a b cB cI u.1 u.2.1 u.2.2 t len)) hF hr hlk hI (g, d, pt) (Or.inl ⟨by omega, rfl⟩) rfl dX3_digits_15
end
section
/-! the component: own rows (masks, nest mates' fields, the double's bits), words and bytes as pictures -/
set_option maxRecDepth 100000
theorem zI_and255 {a : Int} (h : 0 ≤ a ∧ a < 256) : zI a &&& zI 255 = zI a := by
  apply Int32.toBitVec_inj.1
  apply BitVec.eq_of_toNat_eq
  rw [Int32.toBitVec_and, zI, zI, Int32.toBitVec_ofInt, Int32.toBitVec_ofInt, BitVec.toNat_and, BitVec.toNat_ofInt, BitVec.toNat_ofInt]
  have e : ((255 : Int) % ((2 ^ 32 : Nat) : Int)).toNat = 2 ^ 8 - 1 := by decide
  rw [e, Nat.and_two_pow_sub_one_eq_mod]
  omega
theorem zL_snan {z : Int} (h : 0 ≤ z ∧ z < 9218868437227405312) : vn_snl2d (zL z) = false := by
  have e1 : (zL z).toUInt64.toNat = z.toNat := by
    show (zL z).toBitVec.toNat = z.toNat
    rw [zL, Int64.toBitVec_ofInt, BitVec.toNat_ofInt]
    omega
  have e2 : ¬ ((zL z).toUInt64 &&& 0x7fffffffffffffff > 0x7ff0000000000000) := by
    intro q
    have q1 : (0x7ff0000000000000 : UInt64).toNat < ((zL z).toUInt64 &&& 0x7fffffffffffffff).toNat := UInt64.lt_iff_toNat_lt.mp q
    rw [UInt64.toNat_and, e1] at q1
    have q2 : z.toNat &&& (0x7fffffffffffffff : UInt64).toNat ≤ z.toNat := Nat.and_le_left
    have q3 : (0x7ff0000000000000 : UInt64).toNat = 9218868437227405312 := by decide
    omega
  unfold vn_snl2d
  rw [decide_eq_false e2]
  rfl
section ZC
variable {p : Program} {l : Launch} {e : Env} {R : Room} {s : State} {m : MethodId} {args : Array Value} {below : List Frame} {meth : Method} {c : Code} {H : Heap} {locs : List Loc} {cells slots : Nat} {Q : State → Prop}
variable {cc : ByteArray} {pc : Nat} {ls : Array Slot} {rest : List Value}
variable {nL : Nat} {own : String} {D : va_G} {cB cI : ClassId} {A : Nat → Prop} {a : Nat} {ws : va_W} {H0 : Heap}
theorem z_iand255 (hx : p.tables.exec = Jvm.exec) (hb : c.code = cc) {f : Int} (h : 0 ≤ f ∧ f < 256) (hdg : decode cc pc = .ok (.iand, 1))
    (k : W p l e R s m args below meth c H locs cells slots Q (F0 m (pc + 1) ls (.int (zI f) :: rest))) : W p l e R s m args below meth c H locs cells slots Q (F0 m pc ls (.int (zI 255) :: .int (zI f) :: rest)) := lv_iand hx hb hdg (by rw [zI_and255 h]; exact k)
theorem z_iandV (hx : p.tables.exec = Jvm.exec) (hb : c.code = cc) {f g v : Int} (h : zI f &&& zI g = zI v) (hdg : decode cc pc = .ok (.iand, 1))
    (k : W p l e R s m args below meth c H locs cells slots Q (F0 m (pc + 1) ls (.int (zI v) :: rest))) : W p l e R s m args below meth c H locs cells slots Q (F0 m pc ls (.int (zI g) :: .int (zI f) :: rest)) := lv_iand hx hb hdg (by rw [h]; exact k)
theorem z_getN {C host : String} {T : u_T} {N ci index : Nat} {ref : String} (hF : zF p c cc nL s m args own D cB cI) (hI : zW D A H0 ws H locs) (hin : ∀ w ∈ u_ws C T N, w ∈ lw_all) (q0 : Nat) {fs : List Value} (he : ws[q0]? = some (a, .inr (ci, fs))) (hc : vwCl[ci]? = some (C, T, N)) (k : Nat) (hk : k < N) (hlink : va_Nw (Cond.fieldLinkNest own index ref (T k).2.1 (T k).2.2.1 host) s) (hsame : (T k).1 = ref) {v : Value} (hv : fs[k]? = some v) (hdg : decode cc pc = .ok (.getfield index, 3))
    (kk : W p l e R s m args below meth c H locs cells slots Q (F0 m (pc + 3) ls (v :: rest))) : W p l e R s m args below meth c H locs cells slots Q (F0 m pc ls (.ref a :: rest)) :=
  va_getN hF.1 hF.2.1 hF.2.2.2.2.1 hin hF.2.2.2.1 hF.2.2.2.2.2.1 hI.1 q0 he hc k hk (va_Nw.use rfl hlink) (fun _ h => hsame ▸ h) hv hdg kk
theorem z_d2l {z : Int} {index : Nat} (hF : zF p c cc nL s m args own D cB cI) (hls : ls.size = nL) (hml : Cond.methodLink own index ⟨"java/lang/Double", "doubleToRawLongBits", "(D)J"⟩ ∈ lw_all) (hf : 1 ≤ R.frames) (hl2 : (rest.map fun v => v.category).sum + 15 ≤ R.locals) (hdg : decode cc pc = .ok (.invokestatic index, 3))
    (k : W p l e R s m args below meth c H locs cells slots Q (F0 m (pc + 3) ls (.long (zL z) :: rest))) : W p l e R s m args below meth c H locs cells slots Q (F0 m pc ls (.double (zL z).toUInt64 :: rest)) :=
  vn_d2l hF.1 hF.2.1 (by rw [hF.2.2.1, hls]) hF.2.2.2.1 (hF.2.2.2.2.1 _ hml) (hF.2.2.2.2.1 _ q103) (hF.2.2.2.2.1 _ q102) (hF.2.2.2.2.1 _ q18) hf hl2 hdg k
theorem z_l2d {z : Int} {index : Nat} (hF : zF p c cc nL s m args own D cB cI) (hls : ls.size = nL) (hz : 0 ≤ z ∧ z < 9218868437227405312) (hml : Cond.methodLink own index ⟨"java/lang/Double", "longBitsToDouble", "(J)D"⟩ ∈ lw_all) (hf : 1 ≤ R.frames) (hl2 : (rest.map fun v => v.category).sum + 15 ≤ R.locals) (hdg : decode cc pc = .ok (.invokestatic index, 3))
    (k : W p l e R s m args below meth c H locs cells slots Q (F0 m (pc + 3) ls (.double (zL z).toUInt64 :: rest))) : W p l e R s m args below meth c H locs cells slots Q (F0 m pc ls (.long (zL z) :: rest)) :=
  vn_l2d hF.1 hF.2.1 (by rw [hF.2.2.1, hls]) hF.2.2.2.1 (hF.2.2.2.2.1 _ hml) (hF.2.2.2.2.1 _ q96) (hF.2.2.2.2.1 _ q95) (hF.2.2.2.2.1 _ q18) (zL_snan hz) hf hl2 hdg k
end ZC
/-! bytes: a list held in a row of bytes that grows -/
def By (g : Int → Int) (sz : Int) (L : List Int) : Prop := Txl g sz L ∧ ∀ x ∈ L, 0 ≤ x ∧ x < 128
def gcap (cap : Nat) (sz : Int) : Nat := if sz < (cap : Int) then cap else 2 * cap + 16
theorem gcap_ok {cap : Nat} {sz : Int} (h : sz ≤ (cap : Int)) (hs : sz ≤ 1900) (hc : cap ≤ 4000) : cap ≤ gcap cap sz ∧ sz + 1 ≤ (gcap cap sz : Int) ∧ gcap cap sz ≤ 4000 := by
  unfold gcap
  split <;> omega
theorem By.nil (g : Int → Int) : By g 0 [] := ⟨⟨Tx_nil g, rfl⟩, fun x hx => by simp at hx⟩
theorem By.sz {g : Int → Int} {sz : Int} {L : List Int} (h : By g sz L) : sz = (L.length : Int) := h.1.2
theorem By.at {g : Int → Int} {sz : Int} {L : List Int} (h : By g sz L) {k : Int} (h0 : 0 ≤ k) (h1 : k < sz) : 0 ≤ g k ∧ g k < 128 ∧ L[k.toNat]? = some (g k) := by
  obtain ⟨i, rfl⟩ := Int.eq_ofNat_of_zero_le h0
  have hi : i < L.length := by have := h.sz; omega
  have e := h.1.1 i hi
  have q := h.2 _ (List.mem_of_getElem? e)
  exact ⟨q.1, q.2, e⟩
theorem By.put {g g1 : Int → Int} {sz x : Int} {L : List Int} (h : By g sz L) (hc : ∀ i : Int, 0 ≤ i → i < sz → g1 i = g i) (hx : 0 ≤ x ∧ x < 128) : By (zup g1 sz x) (sz + 1) (L ++ [x]) := by
  have h1 : Tx g1 L := fun i hi => by rw [hc i (by omega) (by have := h.sz; omega)]; exact h.1.1 i hi
  refine ⟨⟨Tx_put h1 h.1.2 x, by rw [List.length_append, List.length_singleton, h.1.2]; omega⟩, fun y hy => ?_⟩
  rcases List.mem_append.mp hy with q | q
  · exact h.2 y q
  · rw [List.mem_singleton.mp q]; exact hx
theorem By.to {g : Int → Int} {sz : Int} {L Y : List Int} (h : By g sz L) (e : Y = L) : By g sz Y := e ▸ h
/-! words of nine digits, the lowest first -/
def wv (w : Int → Int) : Nat → Int
  | 0 => 0
  | n + 1 => wv w n + w (n : Int) * (1000000000 ^ n : Nat)
def Wd (w : Int → Int) (n : Nat) : Prop := ∀ i : Int, 0 ≤ i → i < n → 0 ≤ w i ∧ w i < 1000000000
theorem Wd.nil (w : Int → Int) : Wd w 0 := fun i h0 h1 => by omega
theorem wv_cong {w w' : Int → Int} : ∀ n : Nat, (∀ i : Int, 0 ≤ i → i < n → w' i = w i) → wv w' n = wv w n
  | 0, _ => rfl
  | n + 1, h => by
    show wv w' n + w' n * _ = wv w n + w n * _
    rw [wv_cong n (fun i h0 h1 => h i h0 (by omega)), h n (by omega) (by omega)]
theorem wv_push (w : Int → Int) (n : Nat) (x : Int) : wv (zup w (n : Int) x) (n + 1) = wv w n + x * (1000000000 ^ n : Nat) := by
  show wv (zup w n x) n + zup w n x n * _ = _
  rw [zup_same, wv_cong n (fun i h0 h1 => zup_ne w x (by omega))]
theorem Wd.push {w : Int → Int} {n : Nat} (h : Wd w n) {x : Int} (hx : 0 ≤ x ∧ x < 1000000000) : Wd (zup w (n : Int) x) (n + 1) := by
  intro i h0 h1
  by_cases q : i = n
  · rw [q, zup_same]; exact hx
  · rw [zup_ne _ _ q]; exact h i h0 (by omega)
theorem nine_pos (n : Nat) : 0 < 1000000000 ^ n := Nat.pow_pos (by decide)
theorem nine_ten (n : Nat) : 1000000000 ^ n = 10 ^ (9 * n) := by
  rw [show 1000000000 = 10 ^ 9 from rfl, ← Nat.pow_mul]
theorem wv_rng {w : Int → Int} : ∀ n : Nat, Wd w n → 0 ≤ wv w n ∧ wv w n < (1000000000 ^ n : Nat)
  | 0, _ => by
    constructor
    · exact Int.le_refl 0
    · show (0 : Int) < ((1 : Nat) : Int); decide
  | n + 1, h => by
    have h1 := wv_rng n (fun i h0 h1 => h i h0 (by omega))
    have h2 := h n (by omega) (by omega)
    have h3 := nine_pos n
    rw [Nat.pow_succ]
    show 0 ≤ wv w n + w n * _ ∧ wv w n + w n * _ < _
    generalize (1000000000 ^ n : Nat) = P at *
    have h4 : 0 ≤ w (n : Int) * (P : Int) := Int.mul_nonneg h2.1 (by omega)
    have h5 : w (n : Int) * (P : Int) ≤ 999999999 * (P : Int) := Int.mul_le_mul_of_nonneg_right (by omega) (by omega)
    rw [Int.natCast_mul]
    omega
theorem wv_cut {w : Int → Int} {n : Nat} (h : Wd w n) : ∀ {k : Nat}, k < n → ∀ {N : Nat}, wv w n = (N : Int) → ((N / 1000000000 ^ k % 1000000000 : Nat) : Int) = w (k : Int) := by
  induction n with
  | zero => intro k hk; omega
  | succ n ih =>
    intro k hk N hN
    have h1 : Wd w n := fun i h0 h1 => h i h0 (by omega)
    have h2 := wv_rng n h1
    have h3 := h n (by omega) (by omega)
    obtain ⟨M, hM⟩ := Int.eq_ofNat_of_zero_le h2.1
    obtain ⟨y, hy⟩ := Int.eq_ofNat_of_zero_le h3.1
    have hN2 : N = M + 1000000000 ^ n * y := by
      have e : wv w n + w n * ((1000000000 ^ n : Nat) : Int) = (N : Int) := hN
      rw [hM, hy, Int.mul_comm, ← Int.natCast_mul, ← Int.natCast_add] at e
      exact (Int.ofNat.inj e).symm
    have hM2 : M < 1000000000 ^ n := by rw [hM] at h2; exact Int.ofNat_lt.mp h2.2
    by_cases q : k = n
    · subst q
      rw [hN2, Nat.add_mul_div_left _ _ (nine_pos k), Nat.div_eq_of_lt hM2, Nat.zero_add, hy]
      rw [hy] at h3
      rw [Nat.mod_eq_of_lt (by omega)]
    · have h5 := ih h1 (k := k) (by omega) hM
      rw [← h5, hN2]
      have e2 : 1000000000 ^ n * y = 1000000000 ^ k * (1000000000 * (1000000000 ^ (n - k - 1) * y)) := by
        rw [← Nat.mul_assoc, ← Nat.mul_assoc, ← Nat.pow_succ, ← Nat.pow_add, show k + 1 + (n - k - 1) = n by omega]
      rw [e2, Nat.add_mul_div_left _ _ (nine_pos k), Nat.add_mul_mod_self_left]
theorem nine_lt {a b M : Nat} (h1 : 1000000000 ^ a ≤ M) (h2 : M < 1000000000 ^ b) : a < b :=
  (Nat.pow_lt_pow_iff_right (show 1 < 1000000000 by decide)).mp (Nat.lt_of_le_of_lt h1 h2)
/-- multiplying the words: up to place k it is done, cy is carried -/
def Tm (w : Int → Int) (n : Nat) (b : Int) (k : Int) (w' : Int → Int) (cy : Int) : Prop :=
  (∀ i : Int, k ≤ i → i < n → w' i = w i) ∧ Wd w' k.toNat ∧ (0 ≤ cy ∧ cy < b) ∧ wv w' k.toNat + cy * (1000000000 ^ k.toNat : Nat) = b * wv w k.toNat
theorem Tm_init {w : Int → Int} {n : Nat} {b : Int} (hb : 0 < b) : Tm w n b 0 w 0 :=
  ⟨fun i _ _ => rfl, Wd.nil w, ⟨Int.le_refl 0, hb⟩, by show (0 : Int) + 0 * _ = b * 0; omega⟩
theorem Tm_rng {w w' : Int → Int} {n : Nat} {b k cy : Int} (hW : Wd w n) (hb : 0 < b ∧ b ≤ 9) (hk : 0 ≤ k ∧ k < n) (h : Tm w n b k w' cy) : (0 ≤ w' k ∧ w' k < 1000000000) ∧ (0 ≤ cy ∧ cy < b) ∧ (0 ≤ w' k * b + cy ∧ w' k * b + cy < 1000000000 * b) := by
  have e := h.1 k (by omega) hk.2
  have q := hW k hk.1 hk.2
  rw [← e] at q
  have h2 := h.2.2.1
  have q1 : 0 ≤ w' k * b := Int.mul_nonneg q.1 (by omega)
  have q2 : w' k * b ≤ 999999999 * b := Int.mul_le_mul_of_nonneg_right (by omega) (by omega)
  exact ⟨q, h2, by omega, by omega⟩
theorem Tm_step {w w' : Int → Int} {n : Nat} {b k cy : Int} (hW : Wd w n) (hb : 0 < b ∧ b ≤ 9) (hk : 0 ≤ k ∧ k < n) (h : Tm w n b k w' cy) : Tm w n b (k + 1) (zup w' k ((w' k * b + cy) % 1000000000)) ((w' k * b + cy) / 1000000000) := by
  have hr := Tm_rng hW hb hk h
  obtain ⟨i, rfl⟩ := Int.eq_ofNat_of_zero_le hk.1
  obtain ⟨h1, h2, h3, h4⟩ := h
  have ei : ((i : Int) + 1).toNat = i + 1 := by omega
  rw [Int.toNat_natCast] at h2 h4
  rw [h1 i (by omega) hk.2] at hr ⊢
  refine ⟨fun j q1 q2 => ?_, ?_, ?_, ?_⟩
  · rw [zup_ne _ _ (by omega)]; exact h1 j (by omega) q2
  · rw [ei]; exact h2.push (by omega)
  · generalize w (i : Int) * b + cy = v at *
    constructor
    · omega
    · exact Int.ediv_lt_of_lt_mul (by decide) (by omega)
  · rw [ei, wv_push]
    show _ = b * (wv w i + w i * _)
    rw [Nat.pow_succ, Int.natCast_mul, Int.mul_add, ← h4]
    generalize ((1000000000 ^ i : Nat) : Int) = P
    have e5 : w (i : Int) * b + cy = (w (i : Int) * b + cy) % 1000000000 + 1000000000 * ((w (i : Int) * b + cy) / 1000000000) := (Int.emod_add_mul_ediv _ _).symm
    generalize (w (i : Int) * b + cy) % 1000000000 = r at *
    generalize (w (i : Int) * b + cy) / 1000000000 = q at *
    have e6 : b * (w (i : Int) * P) = (w (i : Int) * b) * P := by rw [← Int.mul_assoc, Int.mul_comm b]
    have e7 : w (i : Int) * b = r + 1000000000 * q - cy := by omega
    rw [e6, e7, Int.sub_mul, Int.add_mul]
    have e8 : q * (P * ((1000000000 : Nat) : Int)) = 1000000000 * q * P := by
      rw [← Int.mul_assoc, Int.mul_comm]
      show 1000000000 * (q * P) = _
      rw [Int.mul_assoc]
    rw [e8]
    omega
end
section
/-! the component, pure: carrying words, reading off digits, rounding shown -/
set_option maxRecDepth 100000
/-- words w, n of them, and what is still to be carried: together T -/
def Tc (w : Int → Int) (n : Nat) (cy T : Int) : Prop := Wd w n ∧ 0 ≤ cy ∧ wv w n + cy * (1000000000 ^ n : Nat) = T
theorem Tc_step {w : Int → Int} {n : Nat} {cy T : Int} (h : Tc w n cy T) : Tc (zup w (n : Int) (cy % 1000000000)) (n + 1) (cy / 1000000000) T := by
  obtain ⟨h1, h2, h3⟩ := h
  refine ⟨h1.push (by omega), by omega, ?_⟩
  rw [wv_push, Nat.pow_succ, Int.natCast_mul, ← h3]
  generalize ((1000000000 ^ n : Nat) : Int) = P
  have e5 : cy = cy % 1000000000 + 1000000000 * (cy / 1000000000) := (Int.emod_add_mul_ediv _ _).symm
  generalize cy % 1000000000 = r at *
  generalize cy / 1000000000 = q at *
  have e8 : q * (P * ((1000000000 : Nat) : Int)) = 1000000000 * q * P := by
    rw [← Int.mul_assoc, Int.mul_comm]
    show 1000000000 * (q * P) = _
    rw [Int.mul_assoc]
  rw [e8, e5, Int.add_mul]
  omega
theorem Tc_lt {w : Int → Int} {n k : Nat} {cy T : Int} (h : Tc w n cy T) (hc : 0 < cy) (hT : T < (1000000000 ^ k : Nat)) : n < k := by
  obtain ⟨h1, h2, h3⟩ := h
  have h4 := wv_rng n h1
  have h5 : 1 * ((1000000000 ^ n : Nat) : Int) ≤ cy * ((1000000000 ^ n : Nat) : Int) := Int.mul_le_mul_of_nonneg_right (by omega) (Int.natCast_nonneg _)
  rw [Int.one_mul] at h5
  have h6 : ((1000000000 ^ n : Nat) : Int) < ((1000000000 ^ k : Nat) : Int) := by omega
  exact (Nat.pow_lt_pow_iff_right (show 1 < 1000000000 by decide)).mp (Int.ofNat_lt.mp h6)
theorem Tc_end {w : Int → Int} {n : Nat} {cy T : Int} (h : Tc w n cy T) (hc : cy ≤ 0) : Wd w n ∧ wv w n = T := by
  obtain ⟨h1, h2, h3⟩ := h
  obtain rfl : cy = 0 := by omega
  refine ⟨h1, ?_⟩
  rw [← h3]
  omega
theorem Tc_init (w : Int → Int) {T : Int} (h : 0 ≤ T) : Tc w 0 T T := ⟨Wd.nil w, h, by show (0 : Int) + T * ((1 : Nat) : Int) = T; omega⟩
theorem Tm_end {w w' : Int → Int} {n : Nat} {b k cy V : Int} (hk : k = n) (hV : wv w n = V) (h : Tm w n b k w' cy) : Tc w' n cy (b * V) := by
  subst hk
  obtain ⟨h1, h2, h3, h4⟩ := h
  rw [Int.toNat_natCast] at h2 h4
  exact ⟨h2, h3.1, by rw [h4, hV]⟩
theorem nine_140 {N : Nat} {T : Int} (hT : T = N) {k : Nat} (h : N < 10 ^ k) (hk : k ≤ 1260) : T < ((1000000000 ^ 140 : Nat) : Int) := by
  rw [hT]
  refine Int.ofNat_lt.mpr ?_
  rw [nine_ten]
  exact Nat.lt_of_lt_of_le h (Nat.pow_le_pow_right (by decide) (by omega))
/-- digits read off so far: c of them, of the number v; any: whether there is one -/
def Dg (g : Int → Int) (c v : Nat) (any : Int) : Prop := Rw g c v ∧ ((c = 0 ∧ any = 0) ∨ (0 < c ∧ 10 ^ c ≤ 10 * v ∧ any = 1))
theorem Dg.any01 {g : Int → Int} {c v : Nat} {any : Int} (h : Dg g c v any) : any = 0 ∨ any = 1 := by
  rcases h.2 with ⟨_, q⟩ | ⟨_, _, q⟩
  · exact Or.inl q
  · exact Or.inr q
theorem Dg.none {g : Int → Int} {c v : Nat} {any : Int} (h : Dg g c v any) (ha : any = 0) : c = 0 ∧ v = 0 := by
  rcases h.2 with ⟨q, _⟩ | ⟨_, _, q⟩
  · refine ⟨q, ?_⟩
    have h1 := h.1.1
    rw [q] at h1
    simp at h1
    exact h1
  · omega
theorem Dg_skip {g : Int → Int} {c v v' : Nat} {any : Int} {d : Nat} (h : Dg g c v any) (ha : any = 0) (hd : d = 0) (hv : v' = 10 * v + d) : Dg g c v' 0 := by
  obtain ⟨h1, h2⟩ := h.none ha
  have e : v' = v := by omega
  rw [e, ← ha]
  exact h
theorem Dg_push {g : Int → Int} {c v v' : Nat} {any x : Int} {d : Nat} (h : Dg g c v any) (hd : d < 10) (hp : any ≠ 0 ∨ 0 < d) (hv : v' = 10 * v + d) (hx : x = (d : Int)) : Dg (zup g (c : Int) x) (c + 1) v' 1 := by
  rw [hv, hx]
  refine ⟨Rw_push h.1 hd, Or.inr ⟨by omega, ?_, rfl⟩⟩
  rw [ten_succ]
  rcases h.2 with ⟨q1, q2⟩ | ⟨q1, q2, q3⟩
  · rw [q1, Nat.pow_zero]
    rcases hp with q | q <;> omega
  · omega
theorem Dg_le {g : Int → Int} {c v k : Nat} {any : Int} (h : Dg g c v any) (hv : v < 10 ^ k) : c ≤ k := by
  rcases h.2 with ⟨q1, q2⟩ | ⟨q1, q2, q3⟩
  · omega
  · have h1 : 10 ^ c < 10 ^ (k + 1) := by rw [ten_succ]; omega
    have h2 := (Nat.pow_lt_pow_iff_right (show 1 < 10 by decide)).mp h1
    omega
def Un9 (j : Nat) : Int := if j ≤ 8 then ((10 ^ (8 - j) : Nat) : Int) else 0
theorem Un9_step : ∀ j, j < 9 → Un9 j / 10 = Un9 (j + 1) := by decide
theorem Un9_pos : ∀ j, j < 9 → 0 < Un9 j ∧ Un9 j ≤ 100000000 := by decide
theorem Un9_9 : Un9 9 = 0 := rfl
theorem Un9_rng : ∀ j, j < 10 → 0 ≤ Un9 j ∧ Un9 j ≤ 100000000 := by decide
theorem Un9_in {x : Int} {j : Nat} (h : j < 9) (hx : 0 ≤ x ∧ x < 1000000000) : 0 ≤ x / Un9 j ∧ x / Un9 j < 2147483648 := by
  have h1 := Un9_pos j h
  have h2 : (0 : Int) ≤ x / Un9 j := Int.ediv_nonneg hx.1 (by omega)
  have h3 : x / Un9 j ≤ x := Int.ediv_le_self _ hx.1
  omega
theorem mod_div_ten (a i : Nat) (h : i < 9) : a % 1000000000 / 10 ^ i % 10 = a / 10 ^ i % 10 := by
  have h9 : 1000000000 = 10 ^ i * (10 * 10 ^ (8 - i)) := by
    rw [← ten_succ, ← Nat.pow_add, show i + (8 - i + 1) = 9 by omega]
  rw [h9, Nat.mod_mul_right_div_self, Nat.mod_mul_right_mod]
theorem Un9_dig {w : Int → Int} {n k j N : Nat} (hW : Wd w n) (hN : wv w n = (N : Int)) (hk : k < n) (hj : j < 9) : w (k : Int) / Un9 j % 10 = ((N / 10 ^ (9 * (k + 1) - (j + 1)) % 10 : Nat) : Int) := by
  have h1 := wv_cut hW hk hN
  rw [← h1, Un9, if_pos (by omega)]
  have e : N / 10 ^ (9 * (k + 1) - (j + 1)) % 10 = N / 1000000000 ^ k % 1000000000 / 10 ^ (8 - j) % 10 := by
    rw [mod_div_ten _ _ (by omega), nine_ten, Nat.div_div_eq_div_mul, ← Nat.pow_add, show 9 * k + (8 - j) = 9 * (k + 1) - (j + 1) by omega]
  rw [e]
  generalize N / 1000000000 ^ k % 1000000000 = a
  generalize 10 ^ (8 - j) = q
  rw [← Int.natCast_ediv]
  omega
theorem dig_next {N e : Nat} (he : 0 < e) : N / 10 ^ (e - 1) = 10 * (N / 10 ^ e) + N / 10 ^ (e - 1) % 10 := by
  obtain ⟨i, rfl⟩ : ∃ i, e = i + 1 := ⟨e - 1, by omega⟩
  rw [div_ten, Nat.add_sub_cancel]
  omega
/-- what 'of' leaves: n digits of N, the point behind pt of them -/
def Ofp (N : Nat) (X : Int) (n : Nat) (pt : Int) : Prop := (N = 0 ∧ n = 0 ∧ pt = 0) ∨ (N ≠ 0 ∧ 10 ^ n ≤ 10 * N ∧ pt = n + X)
def ofP (z : Int) : (Int → Int) × Int × (Int → Int) × Int × Int → Prop
  | (_, _, g', c', p') => ∃ n : Nat, c' = n ∧ n ≤ 1260 ∧ Rw g' n (bN z) ∧ Ofp (bN z) (bX z) n p'
theorem Ofp_Dp {g : Int → Int} {N n : Nat} {X pt : Int} (h : Ofp N X n pt) (hR : Rw g n N) : Dp N X pt := by
  rcases h with ⟨a, b, c⟩ | ⟨a, b, c⟩
  · exact Or.inl ⟨a, c⟩
  · exact Or.inr ⟨a, n, b, hR.1, c⟩
theorem Ofp_zero {g : Int → Int} {N n : Nat} {X pt : Int} (h : Ofp N X n pt) (hR : Rw g n N) : n = 0 ↔ N = 0 := by
  rcases h with ⟨a, b, c⟩ | ⟨a, b, c⟩
  · exact ⟨fun _ => a, fun _ => b⟩
  · constructor
    · intro q
      have h1 := hR.1
      rw [q] at h1
      simp at h1
      exact h1
    · intro q; exact absurd q a
theorem Ofp_lead {N n : Nat} {X pt : Int} (h : Ofp N X n pt) : n = 0 ∨ 10 ^ n ≤ 10 * N := by
  rcases h with ⟨a, b, c⟩ | ⟨a, b, c⟩
  · exact Or.inl b
  · exact Or.inr b
theorem bits63 (z : Int) : z % 9223372036854775808 / 4503599627370496 % 2048 = z / 4503599627370496 % 2048 ∧ z % 9223372036854775808 % 4503599627370496 = z % 4503599627370496 := by omega
theorem bM63 (z : Int) : bM (z % 9223372036854775808) = bM z := by
  unfold bM
  rw [(bits63 z).1, (bits63 z).2]
theorem bT63 (z : Int) : bT (z % 9223372036854775808) = bT z := by
  unfold bT
  rw [(bits63 z).1]
theorem bN63 (z : Int) : bN (z % 9223372036854775808) = bN z := by
  unfold bN bB
  rw [bM63, bT63]
theorem bX63 (z : Int) : bX (z % 9223372036854775808) = bX z := by
  unfold bX
  rw [bT63]
theorem ofP63 {z : Int} {u : (Int → Int) × Int × (Int → Int) × Int × Int} (h : ofP (z % 9223372036854775808) u) : ofP z u := by
  obtain ⟨w', s', g', c', p'⟩ := u
  obtain ⟨n, h1, h2, h3, h4⟩ := h
  rw [bN63, bX63] at h4
  rw [bN63] at h3
  exact ⟨n, h1, h2, h3, h4⟩
/-- what 'round' leaves -/
def rndP (n v : Nat) (pt k : Int) : (Int → Int) × Int × Int → Prop
  | (g', c', p') => ∃ n' v' : Nat, c' = n' ∧ n' ≤ n + 1 ∧ Rw g' n' v' ∧ (n' = 0 ∨ 10 ^ n' ≤ 10 * v') ∧ (if (n : Int) ≤ k then v' = v ∧ n' = n ∧ p' = pt else v' = rup v ((n : Int) - k).toNat ∧ (0 ≤ k → p' - n' = pt - k) ∧ (k < 0 → n' = 0))
theorem rnd_show {z y k : Int} {n : Nat} {pt : Int} {g g1 : Int → Int} {c1 p1 P : Int} (hO : Ofp (bN z) (bX z) n pt) (hR : Rw g n (bN z)) (hy : y = pt - k) (h : rndP n (bN z) pt k (g1, c1, p1)) (hP : P = if c1 = 0 then 0 else p1) : Shw z y (n + 1) g1 c1 P := by
  obtain ⟨n1, v1, h1, h2, h3, h4, h5⟩ := h
  have hv0 : n1 = 0 → v1 = 0 := fun q => by
    have q1 := h3.1
    rw [q] at q1
    simp at q1
    exact q1
  have hP0 : n1 = 0 → P = 0 := fun q => by rw [hP, if_pos (by omega)]
  have hP1 : n1 ≠ 0 → P = p1 := fun q => by rw [hP, if_neg (by omega)]
  have hnil : rA (bN z) (bX z) y = 0 → n1 = 0 → Shw z y (n + 1) g1 c1 P := fun q1 q2 => by
    refine ⟨n1, v1, h1, h2, h3, fun j => ?_, ?_, ⟨fun _ => q1, fun _ => q2⟩⟩
    · rw [hv0 q2, rD, q1, dgt_0, dgt_0]
    · exact Or.inl ⟨q1, hP0 q2⟩
  rcases hO with ⟨a, b, c⟩ | ⟨a, b, c⟩
  · refine hnil (by rw [a, rA_0]) ?_
    by_cases hk : (n : Int) ≤ k
    · rw [if_pos hk] at h5
      omega
    · rw [if_neg hk] at h5
      exact h5.2.2 (by omega)
  · have hn0 : n ≠ 0 := fun q => by
      have q1 := hR.1
      rw [q] at q1
      simp at q1
      exact a q1
    by_cases hk : (n : Int) ≤ k
    · rw [if_pos hk] at h5
      obtain ⟨e1, e2, e3⟩ := h5
      have ea : rA (bN z) (bX z) y = bN z := if_pos (by omega)
      have ex : rX (bX z) y = bX z := if_pos (by omega)
      rw [hP1 (by omega), e3]
      refine ⟨n1, v1, h1, h2, h3, fun j => ?_, ?_, ?_⟩
      · rw [rD, ea, ex, e1, e2, show pt - (n : Int) = bX z by omega]
      · rw [rP, ea, ex]
        exact Or.inr ⟨a, n, b, hR.1, c⟩
      · rw [ea, e2]
        exact ⟨fun q => absurd q hn0, fun q => absurd q a⟩
    · rw [if_neg hk] at h5
      obtain ⟨e1, e2, e3⟩ := h5
      have ea : rA (bN z) (bX z) y = v1 := by
        rw [e1, rA, if_neg (by omega), show (y - bX z).toNat = ((n : Int) - k).toNat by omega]
      have ex : rX (bX z) y = y := if_neg (by omega)
      by_cases hn1 : n1 = 0
      · exact hnil (by rw [ea, hv0 hn1]) hn1
      · have e4 := e2 (by rcases Int.lt_or_le k 0 with q | q; exact absurd (e3 q) hn1; exact q)
        have hv1 : v1 ≠ 0 := fun q => by
          rcases h4 with q2 | q2
          · exact hn1 q2
          · have := ten_pos n1
            omega
        rw [hP1 hn1]
        refine ⟨n1, v1, h1, h2, h3, fun j => ?_, ?_, ?_⟩
        · rw [rD, ea, ex, show p1 - (n1 : Int) = y by omega]
        · rw [rP, ea, ex]
          refine Or.inr ⟨hv1, n1, ?_, h3.1, by omega⟩
          rcases h4 with q2 | q2
          · exact absurd q2 hn1
          · exact q2
        · rw [ea]
          exact ⟨fun q => absurd q hn1, fun q => absurd q hv1⟩
/-- rounding up: the digit at k, whether it is exactly a half -/
theorem rnd_half {g : Int → Int} {n v : Nat} {k : Int} (hR : Rw g n v) (hk : 0 ≤ k ∧ k < n) (h5 : g k = 5) (ht : ∀ i : Int, k < i → i < n → g i = 0) : rup v ((n : Int) - k).toNat = v / 10 ^ ((n : Int) - k).toNat + v / 10 ^ ((n : Int) - k).toNat % 2 := by
  obtain ⟨j, e, hd⟩ := cut_at hR hk
  rw [show ((n : Int) - k).toNat = j + 1 by omega]
  rw [h5] at hd
  exact rup_tie (by omega) (Rw_tail0 hR j (by omega) (fun i q1 q2 => ht i (by omega) q2))
theorem rnd_hi {g : Int → Int} {n v : Nat} {k : Int} (hR : Rw g n v) (hk : 0 ≤ k ∧ k < n) (h5 : 5 ≤ g k) (hh : g k ≠ 5 ∨ ∃ i : Int, k < i ∧ i < n ∧ g i ≠ 0) : rup v ((n : Int) - k).toNat = v / 10 ^ ((n : Int) - k).toNat + 1 := by
  obtain ⟨j, e, hd⟩ := cut_at hR hk
  rw [show ((n : Int) - k).toNat = j + 1 by omega]
  refine rup_hi ?_
  by_cases q : g k = 5
  · right
    rcases hh with hh | ⟨i, i1, i2, i3⟩
    · exact absurd q hh
    · exact ⟨by omega, Rw_tailp hR (by omega) (i := i) (by omega) i2 i3⟩
  · left
    omega
theorem rnd_lo {g : Int → Int} {n v : Nat} {k : Int} (hR : Rw g n v) (hk : 0 ≤ k ∧ k < n) (h5 : g k < 5) : rup v ((n : Int) - k).toNat = v / 10 ^ ((n : Int) - k).toNat := by
  obtain ⟨j, e, hd⟩ := cut_at hR hk
  rw [show ((n : Int) - k).toNat = j + 1 by omega]
  exact rup_lo (by omega)
/-- the first k digits of a row that doesn't begin with 0 don't either -/
theorem lead_cut {n v : Nat} {k : Int} (hl : n = 0 ∨ 10 ^ n ≤ 10 * v) (hk : 0 ≤ k ∧ k < n) : k.toNat = 0 ∨ 10 ^ k.toNat ≤ 10 * (v / 10 ^ ((n : Int) - k).toNat) := by
  by_cases h0 : k.toNat = 0
  · exact Or.inl h0
  · right
    obtain ⟨i, hi⟩ : ∃ i, k.toNat = i + 1 := ⟨k.toNat - 1, by omega⟩
    rw [hi, ten_succ]
    have h1 : 10 ^ n ≤ 10 * v := by
      rcases hl with q | q
      · omega
      · exact q
    refine Nat.mul_le_mul_left _ ((Nat.le_div_iff_mul_le (ten_pos _)).mpr ?_)
    rw [← Nat.pow_add, show i + ((n : Int) - k).toNat = n - 1 by omega]
    obtain ⟨n', hn'⟩ : ∃ n', n = n' + 1 := ⟨n - 1, by omega⟩
    rw [hn', ten_succ] at h1
    rw [hn', Nat.add_sub_cancel]
    omega
theorem lead_up {m q : Nat} (h : m = 0 ∨ 10 ^ m ≤ 10 * q) : m = 0 ∨ 10 ^ m ≤ 10 * (q + 1) := by
  rcases h with h | h
  · exact Or.inl h
  · right; omega
/-! texts of the two ways -/
def PlainS (z q dot : Int) (L : List Int) : Prop := ∃ P, rP z (-q) P ∧ L = plainT (rD z (-q)) P q dot
def SciS (z q dot letter : Int) (L : List Int) : Prop := ∃ P0 P, Dp (bN z) (bX z) P0 ∧ rP z (P0 - q - 1) P ∧ L = sciT (rD z (P0 - q - 1)) P (if bN z = 0 then 0 else P - 1) q dot letter
end
section
/-! the component: Bytes, the small questions, Decimal(), digit, times -/
def addP (sz x : Int) (L : List Int) : Nat × (Int → Int) → Prop
  | (_, g') => By g' (sz + 1) (L ++ [x])
def timesP (T : Int) : (Int → Int) × Int → Prop
  | (w', s') => ∃ n1 : Nat, s' = n1 ∧ n1 ≤ 140 ∧ Wd w' n1 ∧ wv w' n1 = T
set_option maxHeartbeats 4000000 in
set_option maxRecDepth 100000 in
/-- Bytes(64) -/
theorem c_binit (l : Launch) (D : va_G) (cB cI : ClassId) (yb : Nat)  : zMv (S := Nat) l yX2_init cX2_init 2 ({ frames := 1, cells := 1, slots := 64, locals := 12 } : Room) D cB cI ([.ref yb, .int (zI 64)] : List Value) ([(yb, .inr (2, [.null, .int (zI 0)]))]) (fun _ => True) (fun u : Nat => bW yb u cB 64 (fun _ => 0) 0) := by
  refine z_metv (by decide) (Nat.le_of_ble_eq_true rfl) ?_
  intro p e s m below meth c A hF hr hlk hnm hA hI ls hl
  have hx := hF.1
  have hb := hF.2.1
  have hown := hF.2.2.2.1
  have hts := hF.2.2.2.2.1
  have hl : lv_has ls 2 [(0, .ref yb), (1, .int (zI 64))] := hl
  obtain ⟨H, eH⟩ : ∃ H : Heap, H = s.heap := ⟨_, rfl⟩
  obtain ⟨locs, eL⟩ : ∃ L : List Loc, L = [] := ⟨_, rfl⟩
  have hI : zW D A s.heap ([(yb, .inr (2, [.null, .int (zI 0)]))]) H locs := by rw [eH, eL]; exact hI
  suffices hgo : W p l e ({ frames := 1, cells := 1, slots := 64, locals := 12 } : Room) s m ([.ref yb, .int (zI 64)] : List Value).toArray below meth c H locs 0 0 (MQ below (va_Qv (fun _ => True) (zPost D A (fun u : Nat => bW yb u cB 64 (fun _ => 0) 0)) A) ([.ref yb, .int (zI 64)] : List Value).toArray s ({ frames := 1, cells := 1, slots := 64, locals := 12 } : Room).cells ({ frames := 1, cells := 1, slots := 64, locals := 12 } : Room).slots A) (F0 m 0 ls []) by rw [eH, eL] at hgo; exact hgo
  clear eH eL
  refine lv_aload_n hx hb dX2_init_0 rfl (lv_at hl 0 rfl) ?_
  refine W.objInit hx hb hown (hts _ q58) (hts _ q25) (hts _ q26) rfl (by rw [hF.2.2.1]; exact hl.1) rfl dX2_init_1 (Nat.le_of_ble_eq_true rfl) (Nat.le_of_ble_eq_true rfl) ?_
  refine W.eq (g2 := F0 m 4 ls []) rfl ?_
  refine lv_aload_n hx hb dX2_init_4 rfl (lv_at hl 0 rfl) ?_
  refine lv_iload_n hx hb dX2_init_5 rfl (lv_at hl 1 rfl) ?_
  refine z_newB hF hI hA (64) rfl (by omega) (by first | exact Nat.le_of_ble_eq_true rfl | (dsimp only; omega)) (by first | exact Nat.le_of_ble_eq_true rfl | (dsimp only; omega)) dX2_init_6 (fun a1 H hI => ?_)
  have hI : zW D A s.heap ([(yb, .inr (2, [.null, .int (zI 0)]))] ++ [(a1, .inl (cB, 64, .inl (zA (fun _ => 0))))]) H locs := hI
  refine z_put (ci := 2) (v := .ref a1) (ty := .array .byte) hF hI in_X2 tyX2 tyX2_ok nmX2 0 rfl rfl 0 (by decide) q59 rfl rfl (by decide +kernel) rfl rfl (Nat.le_of_ble_eq_true rfl) dX2_init_8 (fun H locs hI => ?_)
  have hI : zW D A s.heap ([(yb, .inr (2, [.ref a1, .int (zI 0)]))] ++ [(a1, .inl (cB, 64, .inl (zA (fun _ => 0))))]) H locs := hI
  exact z_vret (S := Nat) (post := (fun _ => True)) (w' := (fun u : Nat => bW yb u cB 64 (fun _ => 0) 0)) hF hr hlk hI a1 trivial rfl dX2_init_11
set_option maxHeartbeats 4000000 in
set_option maxRecDepth 100000 in
/-- Bytes.add(x) -/
theorem c_add (l : Launch) (D : va_G) (cB cI : ClassId) (yb ya cap : Nat) (g : Int → Int) (sz : Int) (x : Int) (L : List Int) (hB : By g sz L) (hx0 : 0 ≤ x ∧ x < 128) (hcp : sz ≤ (cap : Int)) (hc1 : cap ≤ 4000) (hs1 : sz ≤ 1900) : zMv (S := Nat × (Int → Int)) l yX2_add cX2_add 4 ({ frames := 0, cells := gcap cap sz - cap, slots := 2 * (gcap cap sz - cap), locals := 0 } : Room) D cB cI ([.ref yb, .int (zI x)] : List Value) (bW yb ya cB cap g sz) (addP sz x L) (fun u : Nat × (Int → Int) => bW yb u.1 cB (gcap cap sz) u.2 (sz + 1)) := by
  refine z_metv (by decide) (Nat.le_of_ble_eq_true rfl) ?_
  intro p e s m below meth c A hF hr hlk hnm hA hI ls hl
  have hx := hF.1
  have hb := hF.2.1
  have hown := hF.2.2.2.1
  have hts := hF.2.2.2.2.1
  have hl : lv_has ls 4 [(0, .ref yb), (1, .int (zI x))] := hl
  obtain ⟨H, eH⟩ : ∃ H : Heap, H = s.heap := ⟨_, rfl⟩
  obtain ⟨locs, eL⟩ : ∃ L : List Loc, L = [] := ⟨_, rfl⟩
  have hI : zW D A s.heap (bW yb ya cB cap g sz) H locs := by rw [eH, eL]; exact hI
  suffices hgo : W p l e ({ frames := 0, cells := gcap cap sz - cap, slots := 2 * (gcap cap sz - cap), locals := 0 } : Room) s m ([.ref yb, .int (zI x)] : List Value).toArray below meth c H locs 0 0 (MQ below (va_Qv (addP sz x L) (zPost D A (fun u : Nat × (Int → Int) => bW yb u.1 cB (gcap cap sz) u.2 (sz + 1))) A) ([.ref yb, .int (zI x)] : List Value).toArray s ({ frames := 0, cells := gcap cap sz - cap, slots := 2 * (gcap cap sz - cap), locals := 0 } : Room).cells ({ frames := 0, cells := gcap cap sz - cap, slots := 2 * (gcap cap sz - cap), locals := 0 } : Room).slots A) (F0 m 0 ls []) by rw [eH, eL] at hgo; exact hgo
  clear eH eL
  have hsz := hB.sz
  have hgo := gcap_ok hcp hs1 hc1
  have L54 : ∀ (ha1 : Nat) (g1 : Int → Int), (∀ i : Int, 0 ≤ i → i < sz → g1 i = g i) → ∀ (H : Heap) (locs : List Loc), zW D A s.heap (bW yb ha1 cB (gcap cap sz) g1 sz) H locs → ∀ ls : Array Slot, lv_has ls 4 [(0, .ref yb), (1, .int (zI x))] → W p l e ({ frames := 0, cells := gcap cap sz - cap, slots := 2 * (gcap cap sz - cap), locals := 0 } : Room) s m ([.ref yb, .int (zI x)] : List Value).toArray below meth c H locs (gcap cap sz - cap) (2 * (gcap cap sz - cap)) (MQ below (va_Qv (addP sz x L) (zPost D A (fun u : Nat × (Int → Int) => bW yb u.1 cB (gcap cap sz) u.2 (sz + 1))) A) ([.ref yb, .int (zI x)] : List Value).toArray s ({ frames := 0, cells := gcap cap sz - cap, slots := 2 * (gcap cap sz - cap), locals := 0 } : Room).cells ({ frames := 0, cells := gcap cap sz - cap, slots := 2 * (gcap cap sz - cap), locals := 0 } : Room).slots A) (F0 m 54 ls []) := by
    intro ha1 g1 hc H locs hI ls hl
    refine lv_aload_n hx hb dX2_add_54 rfl (lv_at hl 0 rfl) ?_
    refine z_get (ci := 2) hF hI in_X2 0 rfl rfl 0 (by decide) q59 rfl rfl dX2_add_55 ?_
    refine lv_aload_n hx hb dX2_add_58 rfl (lv_at hl 0 rfl) ?_
    refine z_get (ci := 2) hF hI in_X2 0 rfl rfl 1 (by decide) q61 rfl rfl dX2_add_59 ?_
    refine lv_iload_n hx hb dX2_add_62 rfl (lv_at hl 1 rfl) ?_
    refine z_i2b hx hb (by omega) dX2_add_63 ?_
    refine z_bast hF hI 1 rfl (by omega) (by omega) (by omega) dX2_add_64 (fun H locs hI => ?_)
    have hI : zW D A s.heap (bW yb ha1 cB (gcap cap sz) (zup g1 sz x) sz) H locs := hI
    refine lv_aload_n hx hb dX2_add_65 rfl (lv_at hl 0 rfl) ?_
    refine lv_dup hx hb dX2_add_66 rfl ?_
    refine z_get (ci := 2) hF hI in_X2 0 rfl rfl 1 (by decide) q61 rfl rfl dX2_add_67 ?_
    refine z_iconst hx hb dX2_add_70 ?_
    refine z_iadd hx hb dX2_add_71 ?_
    refine z_put (ci := 2) (v := .int (zI (sz + 1))) (ty := .int) hF hI in_X2 tyX2 tyX2_ok nmX2 0 rfl rfl 1 (by decide) q61 rfl rfl (by decide +kernel) rfl rfl (Nat.le_of_ble_eq_true rfl) dX2_add_72 (fun H locs hI => ?_)
    have hI : zW D A s.heap (bW yb ha1 cB (gcap cap sz) (zup g1 sz x) (sz + 1)) H locs := hI
    exact z_vret (S := Nat × (Int → Int)) (post := (addP sz x L)) (w' := (fun u : Nat × (Int → Int) => bW yb u.1 cB (gcap cap sz) u.2 (sz + 1))) hF hr hlk hI (ha1, zup g1 sz x) (hB.put hc hx0) rfl dX2_add_75
  refine lv_aload_n hx hb dX2_add_0 rfl (lv_at hl 0 rfl) ?_
  refine z_get (ci := 2) hF hI in_X2 0 rfl rfl 1 (by decide) q61 rfl rfl dX2_add_1 ?_
  refine lv_aload_n hx hb dX2_add_4 rfl (lv_at hl 0 rfl) ?_
  refine z_get (ci := 2) hF hI in_X2 0 rfl rfl 0 (by decide) q59 rfl rfl dX2_add_5 ?_
  refine z_alenB hF hI 1 rfl dX2_add_8 ?_
  refine z_icmp_ne (tgt := 54) hx hb (by omega) (by omega) dX2_add_9 (by decide) (fun h1 => ?_) (fun h1 => ?_)
  · skip
    have hg : gcap cap sz = cap := if_pos (by omega)
    refine W.widen (k := (gcap cap sz - cap)) (n := (2 * (gcap cap sz - cap))) (by first | omega | (dsimp only; omega)) (by first | omega | (dsimp only; omega)) ?_
    have hI : zW D A s.heap (bW yb ya cB (gcap cap sz) g sz) H locs := by rw [hg]; exact hI
    exact L54 ya g (by intro i q1 q2; rfl) H locs hI ls (lv_sub hl [0, 1] rfl)
  · skip
    have hg : gcap cap sz = 2 * cap + 16 := if_neg (by omega)
    refine z_iconst hx hb dX2_add_12 ?_
    refine lv_aload_n hx hb dX2_add_13 rfl (lv_at hl 0 rfl) ?_
    refine z_get (ci := 2) hF hI in_X2 0 rfl rfl 1 (by decide) q61 rfl rfl dX2_add_14 ?_
    refine z_imul hx hb dX2_add_17 ?_
    refine z_bipush hx hb dX2_add_18 (by decide) ?_
    refine z_iadd hx hb dX2_add_20 ?_
    refine z_newB hF hI hA (2 * cap + 16) (by omega) (by omega) (by first | exact Nat.le_of_ble_eq_true rfl | (dsimp only; omega)) (by first | exact Nat.le_of_ble_eq_true rfl | (dsimp only; omega)) dX2_add_21 (fun a1 H hI => ?_)
    have hI : zW D A s.heap ((bW yb ya cB cap g sz) ++ [(a1, .inl (cB, 2 * cap + 16, .inl (zA (fun _ => 0))))]) H locs := hI
    refine W.widen (k := (gcap cap sz - cap)) (n := (2 * (gcap cap sz - cap))) (by first | omega | (dsimp only; omega)) (by first | omega | (dsimp only; omega)) ?_
    have hl0 := hl
    refine lv_astore_n (lv' := [(2, .ref a1), (0, .ref yb), (1, .int (zI x))]) hx hb dX2_add_23 rfl hl (by decide) rfl (fun ls hl => ?_)
    refine z_iconst hx hb dX2_add_24 ?_
    refine lv_istore_n (lv' := [(3, .int (zI 0)), (2, .ref a1), (0, .ref yb), (1, .int (zI x))]) hx hb dX2_add_25 rfl hl (by decide) rfl (fun ls hl => ?_)
    have L26 : ∀ (n_ : Nat), ∀ (k : Int) (g2 : Int → Int), sz - k < (n_ : Int) → (0 ≤ k ∧ k ≤ sz) → (∀ i : Int, 0 ≤ i → i < k → g2 i = g i) → ∀ (H : Heap) (locs : List Loc), zW D A s.heap ((bW yb ya cB cap g sz) ++ [(a1, .inl (cB, 2 * cap + 16, .inl (zA g2)))]) H locs → ∀ ls : Array Slot, lv_has ls 4 [(0, .ref yb), (1, .int (zI x)), (2, .ref a1), (3, .int (zI k))] → W p l e ({ frames := 0, cells := gcap cap sz - cap, slots := 2 * (gcap cap sz - cap), locals := 0 } : Room) s m ([.ref yb, .int (zI x)] : List Value).toArray below meth c H locs (gcap cap sz - cap) (2 * (gcap cap sz - cap)) (MQ below (va_Qv (addP sz x L) (zPost D A (fun u : Nat × (Int → Int) => bW yb u.1 cB (gcap cap sz) u.2 (sz + 1))) A) ([.ref yb, .int (zI x)] : List Value).toArray s ({ frames := 0, cells := gcap cap sz - cap, slots := 2 * (gcap cap sz - cap), locals := 0 } : Room).cells ({ frames := 0, cells := gcap cap sz - cap, slots := 2 * (gcap cap sz - cap), locals := 0 } : Room).slots A) (F0 m 26 ls []) := by
      intro n_
      induction n_ with
      | zero =>
        intro k g2 hm_ hk hc H locs hI ls hl
        exfalso; omega
      | succ n_ ih_ =>
        intro k g2 hm_ hk hc H locs hI ls hl
        refine lv_iload_n hx hb dX2_add_26 rfl (lv_at hl 3 rfl) ?_
        refine lv_aload_n hx hb dX2_add_27 rfl (lv_at hl 0 rfl) ?_
        refine z_get (ci := 2) hF hI in_X2 0 rfl rfl 1 (by decide) q61 rfl rfl dX2_add_28 ?_
        refine z_icmp_ge (tgt := 49) hx hb (by omega) (by omega) dX2_add_31 (by decide) (fun h2 => ?_) (fun h2 => ?_)
        · skip
          refine lv_aload_n hx hb dX2_add_49 rfl (lv_at hl 0 rfl) ?_
          refine lv_aload_n hx hb dX2_add_50 rfl (lv_at hl 2 rfl) ?_
          refine z_put (ci := 2) (v := .ref a1) (ty := .array .byte) hF hI in_X2 tyX2 tyX2_ok nmX2 0 rfl rfl 0 (by decide) q59 rfl rfl (by decide +kernel) rfl rfl (Nat.le_of_ble_eq_true rfl) dX2_add_51 (fun H locs hI => ?_)
          have hI : zW D A s.heap (bW yb a1 cB (2 * cap + 16) g2 sz) H locs := hI.sub [0, 2] rfl rfl
          have hI : zW D A s.heap (bW yb a1 cB (gcap cap sz) g2 sz) H locs := by rw [hg]; exact hI
          exact L54 a1 g2 (by intro i q1 q2; exact hc i q1 (by omega)) H locs hI ls (lv_sub hl [0, 1] rfl)
        · skip
          have hbr := hB.at (k := k) (by omega) (by omega)
          refine lv_aload_n hx hb dX2_add_34 rfl (lv_at hl 2 rfl) ?_
          refine lv_iload_n hx hb dX2_add_35 rfl (lv_at hl 3 rfl) ?_
          refine lv_aload_n hx hb dX2_add_36 rfl (lv_at hl 0 rfl) ?_
          refine z_get (ci := 2) hF hI in_X2 0 rfl rfl 0 (by decide) q59 rfl rfl dX2_add_37 ?_
          refine lv_iload_n hx hb dX2_add_40 rfl (lv_at hl 3 rfl) ?_
          refine z_bald hF hI 1 rfl (by omega) (by omega) dX2_add_41 ?_
          refine z_bast hF hI 2 rfl (by omega) (by omega) (by omega) dX2_add_42 (fun H locs hI => ?_)
          have hI : zW D A s.heap ((bW yb ya cB cap g sz) ++ [(a1, .inl (cB, 2 * cap + 16, .inl (zA (zup g2 k (g k)))))]) H locs := hI
          refine lv_iinc (lv' := [(3, .int (zI (k + 1))), (0, .ref yb), (1, .int (zI x)), (2, .ref a1)]) (k := 3) hx hb dX2_add_43 hl rfl (zI_add _ _) (by decide) rfl (fun ls hl => ?_)
          refine lv_goto (tgt := 26) hx hb dX2_add_46 (by decide) ?_
          exact ih_ (k + 1) (zup g2 k (g k)) (by omega) (by omega) (by intro i q1 q2; by_cases q : i = k; (rw [q, zup_same]); (rw [zup_ne _ _ q]; exact hc i q1 (by omega))) H locs hI ls (lv_sub hl [1, 2, 3, 0] rfl)
    exact L26 (sz.toNat + 1) 0 (fun _ => 0) (by omega) (by omega) (by intro i q1 q2; exfalso; omega) H locs hI ls (lv_sub hl [2, 3, 1, 0] rfl)
set_option maxHeartbeats 4000000 in
set_option maxRecDepth 100000 in
/-- Bytes.at(k) -/
theorem c_bat (l : Launch) (D : va_G) (cB cI : ClassId) (yb ya cap : Nat) (g : Int → Int) (sz : Int) (k : Int) (L : List Int) (hB : By g sz L) (hk : 0 ≤ k ∧ k < sz) (hcp : sz ≤ (cap : Int)) (hc1 : cap ≤ 4000) : zMi (S := Unit) l yX2_at cX2_at 2 (some .int) ({ frames := 0, cells := 0, slots := 0, locals := 0 } : Room) D cB cI ([.ref yb, .int (zI k)] : List Value) (bW yb ya cB cap g sz) (fun r _ => r = g k) (fun _ => bW yb ya cB cap g sz) := by
  refine z_meti (by decide) (Nat.le_of_ble_eq_true rfl) ?_
  intro p e s m below meth c A hF hr hlk hnm hA hI ls hl
  have hx := hF.1
  have hb := hF.2.1
  have hown := hF.2.2.2.1
  have hts := hF.2.2.2.2.1
  have hl : lv_has ls 2 [(0, .ref yb), (1, .int (zI k))] := hl
  obtain ⟨H, eH⟩ : ∃ H : Heap, H = s.heap := ⟨_, rfl⟩
  obtain ⟨locs, eL⟩ : ∃ L : List Loc, L = [] := ⟨_, rfl⟩
  have hI : zW D A s.heap (bW yb ya cB cap g sz) H locs := by rw [eH, eL]; exact hI
  suffices hgo : W p l e ({ frames := 0, cells := 0, slots := 0, locals := 0 } : Room) s m ([.ref yb, .int (zI k)] : List Value).toArray below meth c H locs 0 0 (MQ below (va_Qi (zpi (fun r _ => r = g k)) (zPost D A (fun u : Int × (Unit) => (fun _ => bW yb ya cB cap g sz) u.2)) A) ([.ref yb, .int (zI k)] : List Value).toArray s ({ frames := 0, cells := 0, slots := 0, locals := 0 } : Room).cells ({ frames := 0, cells := 0, slots := 0, locals := 0 } : Room).slots A) (F0 m 0 ls []) by rw [eH, eL] at hgo; exact hgo
  clear eH eL
  have hbr := hB.at hk.1 hk.2
  refine lv_aload_n hx hb dX2_at_0 rfl (lv_at hl 0 rfl) ?_
  refine z_get (ci := 2) hF hI in_X2 0 rfl rfl 0 (by decide) q59 rfl rfl dX2_at_1 ?_
  refine lv_iload_n hx hb dX2_at_4 rfl (lv_at hl 1 rfl) ?_
  refine z_bald hF hI 1 rfl (by omega) (by omega) dX2_at_5 ?_
  refine z_sipush hx hb dX2_at_6 (by decide) ?_
  refine z_iand255 hx hb (by omega) dX2_at_9 ?_
  exact z_iret (S := Unit) (post := (fun r _ => r = g k)) (w' := (fun _ => bW yb ya cB cap g sz)) hF hr hlk hI () rfl rfl dX2_at_10
set_option maxHeartbeats 4000000 in
set_option maxRecDepth 100000 in
/-- isNumber(bits) -/
theorem c_isnum (l : Launch) (D : va_G) (cB cI : ClassId) (z : Int) (hz : -9223372036854775808 ≤ z ∧ z < 9223372036854775808) : zMi (S := Unit) l yX0_isNumber cX0_isNumber 2 (some .boolean) ({ frames := 0, cells := 0, slots := 0, locals := 0 } : Room) D cB cI ([.long (zL z)] : List Value) ([] : va_W) (fun r _ => r = if z / 4503599627370496 % 2048 = 2047 ∧ z % 4503599627370496 ≠ 0 then 0 else 1) (fun _ => ([] : va_W)) := by
  refine z_meti (by decide) (Nat.le_of_ble_eq_true rfl) ?_
  intro p e s m below meth c A hF hr hlk hnm hA hI ls hl
  have hx := hF.1
  have hb := hF.2.1
  have hown := hF.2.2.2.1
  have hts := hF.2.2.2.2.1
  have hl : lv_has ls 2 [(0, .long (zL z))] := hl
  obtain ⟨H, eH⟩ : ∃ H : Heap, H = s.heap := ⟨_, rfl⟩
  obtain ⟨locs, eL⟩ : ∃ L : List Loc, L = [] := ⟨_, rfl⟩
  have hI : zW D A s.heap ([] : va_W) H locs := by rw [eH, eL]; exact hI
  suffices hgo : W p l e ({ frames := 0, cells := 0, slots := 0, locals := 0 } : Room) s m ([.long (zL z)] : List Value).toArray below meth c H locs 0 0 (MQ below (va_Qi (zpi (fun r _ => r = if z / 4503599627370496 % 2048 = 2047 ∧ z % 4503599627370496 ≠ 0 then 0 else 1)) (zPost D A (fun u : Int × (Unit) => (fun _ => ([] : va_W)) u.2)) A) ([.long (zL z)] : List Value).toArray s ({ frames := 0, cells := 0, slots := 0, locals := 0 } : Room).cells ({ frames := 0, cells := 0, slots := 0, locals := 0 } : Room).slots A) (F0 m 0 ls []) by rw [eH, eL] at hgo; exact hgo
  clear eH eL
  refine lv_lload_n hx hb dX0_isNumber_0 rfl (lv_at hl 0 rfl) ?_
  refine z_bipush hx hb dX0_isNumber_1 (by decide) ?_
  refine z_lshr52 hx hb (by omega) dX0_isNumber_3 ?_
  refine z_ldc2 hx hb 2047 hown (hts _ q84) rfl dX0_isNumber_4 ?_
  refine z_land11 hx hb dX0_isNumber_7 ?_
  refine z_ldc2 hx hb 2047 hown (hts _ q84) rfl dX0_isNumber_8 ?_
  refine z_lcmp_lt (tgt := 25) hx hb (by omega) (by omega) dX0_isNumber_11 dX0_isNumber_12 (by decide) (fun h1 => ?_) (fun h1 => ?_)
  · skip
    refine z_iconst hx hb dX0_isNumber_25 ?_
    refine lv_goto (tgt := 30) hx hb dX0_isNumber_26 (by decide) ?_
    exact z_zret (S := Unit) (post := (fun r _ => r = if z / 4503599627370496 % 2048 = 2047 ∧ z % 4503599627370496 ≠ 0 then 0 else 1)) (w' := (fun _ => ([] : va_W))) hF hr hlk hI () (Or.inr rfl) (by rw [if_neg (by omega)]) rfl dX0_isNumber_30
  · skip
    refine lv_lload_n hx hb dX0_isNumber_15 rfl (lv_at hl 0 rfl) ?_
    refine z_ldc2 hx hb 4503599627370495 hown (hts _ q85) rfl dX0_isNumber_16 ?_
    refine z_land52 hx hb dX0_isNumber_19 ?_
    refine z_lconst hx hb 0 dX0_isNumber_20 (by decide) ?_
    refine z_lcmp_ne (tgt := 29) hx hb (by omega) (by omega) dX0_isNumber_21 dX0_isNumber_22 (by decide) (fun h2 => ?_) (fun h2 => ?_)
    · skip
      refine z_iconst hx hb dX0_isNumber_29 ?_
      exact z_zret (S := Unit) (post := (fun r _ => r = if z / 4503599627370496 % 2048 = 2047 ∧ z % 4503599627370496 ≠ 0 then 0 else 1)) (w' := (fun _ => ([] : va_W))) hF hr hlk hI () (Or.inl rfl) (by rw [if_pos (by omega)]) rfl dX0_isNumber_30
    · skip
      refine z_iconst hx hb dX0_isNumber_25 ?_
      refine lv_goto (tgt := 30) hx hb dX0_isNumber_26 (by decide) ?_
      exact z_zret (S := Unit) (post := (fun r _ => r = if z / 4503599627370496 % 2048 = 2047 ∧ z % 4503599627370496 ≠ 0 then 0 else 1)) (w' := (fun _ => ([] : va_W))) hF hr hlk hI () (Or.inr rfl) (by rw [if_neg (by omega)]) rfl dX0_isNumber_30
set_option maxHeartbeats 4000000 in
set_option maxRecDepth 100000 in
/-- isEndless(bits) -/
theorem c_isend (l : Launch) (D : va_G) (cB cI : ClassId) (z : Int) (hz : -9223372036854775808 ≤ z ∧ z < 9223372036854775808) : zMi (S := Unit) l yX0_isEndless cX0_isEndless 2 (some .boolean) ({ frames := 0, cells := 0, slots := 0, locals := 0 } : Room) D cB cI ([.long (zL z)] : List Value) ([] : va_W) (fun r _ => r = if z / 4503599627370496 % 2048 = 2047 then 1 else 0) (fun _ => ([] : va_W)) := by
  refine z_meti (by decide) (Nat.le_of_ble_eq_true rfl) ?_
  intro p e s m below meth c A hF hr hlk hnm hA hI ls hl
  have hx := hF.1
  have hb := hF.2.1
  have hown := hF.2.2.2.1
  have hts := hF.2.2.2.2.1
  have hl : lv_has ls 2 [(0, .long (zL z))] := hl
  obtain ⟨H, eH⟩ : ∃ H : Heap, H = s.heap := ⟨_, rfl⟩
  obtain ⟨locs, eL⟩ : ∃ L : List Loc, L = [] := ⟨_, rfl⟩
  have hI : zW D A s.heap ([] : va_W) H locs := by rw [eH, eL]; exact hI
  suffices hgo : W p l e ({ frames := 0, cells := 0, slots := 0, locals := 0 } : Room) s m ([.long (zL z)] : List Value).toArray below meth c H locs 0 0 (MQ below (va_Qi (zpi (fun r _ => r = if z / 4503599627370496 % 2048 = 2047 then 1 else 0)) (zPost D A (fun u : Int × (Unit) => (fun _ => ([] : va_W)) u.2)) A) ([.long (zL z)] : List Value).toArray s ({ frames := 0, cells := 0, slots := 0, locals := 0 } : Room).cells ({ frames := 0, cells := 0, slots := 0, locals := 0 } : Room).slots A) (F0 m 0 ls []) by rw [eH, eL] at hgo; exact hgo
  clear eH eL
  refine lv_lload_n hx hb dX0_isEndless_0 rfl (lv_at hl 0 rfl) ?_
  refine z_bipush hx hb dX0_isEndless_1 (by decide) ?_
  refine z_lshr52 hx hb (by omega) dX0_isEndless_3 ?_
  refine z_ldc2 hx hb 2047 hown (hts _ q84) rfl dX0_isEndless_4 ?_
  refine z_land11 hx hb dX0_isEndless_7 ?_
  refine z_ldc2 hx hb 2047 hown (hts _ q84) rfl dX0_isEndless_8 ?_
  refine z_lcmp_ne (tgt := 19) hx hb (by omega) (by omega) dX0_isEndless_11 dX0_isEndless_12 (by decide) (fun h1 => ?_) (fun h1 => ?_)
  · skip
    refine z_iconst hx hb dX0_isEndless_19 ?_
    exact z_zret (S := Unit) (post := (fun r _ => r = if z / 4503599627370496 % 2048 = 2047 then 1 else 0)) (w' := (fun _ => ([] : va_W))) hF hr hlk hI () (Or.inl rfl) (by rw [if_neg (by omega)]) rfl dX0_isEndless_20
  · skip
    refine z_iconst hx hb dX0_isEndless_15 ?_
    refine lv_goto (tgt := 20) hx hb dX0_isEndless_16 (by decide) ?_
    exact z_zret (S := Unit) (post := (fun r _ => r = if z / 4503599627370496 % 2048 = 2047 then 1 else 0)) (w' := (fun _ => ([] : va_W))) hF hr hlk hI () (Or.inr rfl) (by rw [if_pos (by omega)]) rfl dX0_isEndless_20
set_option maxHeartbeats 4000000 in
set_option maxRecDepth 100000 in
/-- has(flags, f) -/
theorem c_has (l : Launch) (D : va_G) (cB cI : ClassId) (fl f v : Int) (hv : zI fl &&& zI f = zI v) (hv1 : 0 ≤ v ∧ v < 32) : zMi (S := Unit) l yX0_has cX0_has 2 (some .boolean) ({ frames := 0, cells := 0, slots := 0, locals := 0 } : Room) D cB cI ([.int (zI fl), .int (zI f)] : List Value) ([] : va_W) (fun r _ => r = if v = 0 then 0 else 1) (fun _ => ([] : va_W)) := by
  refine z_meti (by decide) (Nat.le_of_ble_eq_true rfl) ?_
  intro p e s m below meth c A hF hr hlk hnm hA hI ls hl
  have hx := hF.1
  have hb := hF.2.1
  have hown := hF.2.2.2.1
  have hts := hF.2.2.2.2.1
  have hl : lv_has ls 2 [(0, .int (zI fl)), (1, .int (zI f))] := hl
  obtain ⟨H, eH⟩ : ∃ H : Heap, H = s.heap := ⟨_, rfl⟩
  obtain ⟨locs, eL⟩ : ∃ L : List Loc, L = [] := ⟨_, rfl⟩
  have hI : zW D A s.heap ([] : va_W) H locs := by rw [eH, eL]; exact hI
  suffices hgo : W p l e ({ frames := 0, cells := 0, slots := 0, locals := 0 } : Room) s m ([.int (zI fl), .int (zI f)] : List Value).toArray below meth c H locs 0 0 (MQ below (va_Qi (zpi (fun r _ => r = if v = 0 then 0 else 1)) (zPost D A (fun u : Int × (Unit) => (fun _ => ([] : va_W)) u.2)) A) ([.int (zI fl), .int (zI f)] : List Value).toArray s ({ frames := 0, cells := 0, slots := 0, locals := 0 } : Room).cells ({ frames := 0, cells := 0, slots := 0, locals := 0 } : Room).slots A) (F0 m 0 ls []) by rw [eH, eL] at hgo; exact hgo
  clear eH eL
  refine lv_iload_n hx hb dX0_has_0 rfl (lv_at hl 0 rfl) ?_
  refine lv_iload_n hx hb dX0_has_1 rfl (lv_at hl 1 rfl) ?_
  refine z_iandV hx hb hv dX0_has_2 ?_
  refine z_if_eq (tgt := 10) hx hb (by omega) dX0_has_3 (by decide) (fun h1 => ?_) (fun h1 => ?_)
  · skip
    refine z_iconst hx hb dX0_has_10 ?_
    exact z_zret (S := Unit) (post := (fun r _ => r = if v = 0 then 0 else 1)) (w' := (fun _ => ([] : va_W))) hF hr hlk hI () (Or.inl rfl) (by rw [if_pos h1]) rfl dX0_has_11
  · skip
    refine z_iconst hx hb dX0_has_6 ?_
    refine lv_goto (tgt := 11) hx hb dX0_has_7 (by decide) ?_
    exact z_zret (S := Unit) (post := (fun r _ => r = if v = 0 then 0 else 1)) (w' := (fun _ => ([] : va_W))) hF hr hlk hI () (Or.inr rfl) (by rw [if_neg h1]) rfl dX0_has_11
set_option maxHeartbeats 4000000 in
set_option maxRecDepth 100000 in
/-- Decimal() -/
theorem c_dinit (l : Launch) (D : va_G) (cB cI : ClassId) (xd : Nat)  : zMv (S := Nat × Nat) l yX1_init cX1_init 1 ({ frames := 1, cells := 2, slots := 1440, locals := 12 } : Room) D cB cI ([.ref xd] : List Value) ([(xd, .inr (1, [.null, .int (zI 0), .null, .int (zI 0), .int (zI 0)]))]) (fun _ => True) (fun u : Nat × Nat => dW xd u.1 u.2 cB cI (fun _ => 0) 0 (fun _ => 0) 0 0) := by
  refine z_metv (by decide) (Nat.le_of_ble_eq_true rfl) ?_
  intro p e s m below meth c A hF hr hlk hnm hA hI ls hl
  have hx := hF.1
  have hb := hF.2.1
  have hown := hF.2.2.2.1
  have hts := hF.2.2.2.2.1
  have hl : lv_has ls 1 [(0, .ref xd)] := hl
  obtain ⟨H, eH⟩ : ∃ H : Heap, H = s.heap := ⟨_, rfl⟩
  obtain ⟨locs, eL⟩ : ∃ L : List Loc, L = [] := ⟨_, rfl⟩
  have hI : zW D A s.heap ([(xd, .inr (1, [.null, .int (zI 0), .null, .int (zI 0), .int (zI 0)]))]) H locs := by rw [eH, eL]; exact hI
  suffices hgo : W p l e ({ frames := 1, cells := 2, slots := 1440, locals := 12 } : Room) s m ([.ref xd] : List Value).toArray below meth c H locs 0 0 (MQ below (va_Qv (fun _ => True) (zPost D A (fun u : Nat × Nat => dW xd u.1 u.2 cB cI (fun _ => 0) 0 (fun _ => 0) 0 0)) A) ([.ref xd] : List Value).toArray s ({ frames := 1, cells := 2, slots := 1440, locals := 12 } : Room).cells ({ frames := 1, cells := 2, slots := 1440, locals := 12 } : Room).slots A) (F0 m 0 ls []) by rw [eH, eL] at hgo; exact hgo
  clear eH eL
  refine lv_aload_n hx hb dX1_init_0 rfl (lv_at hl 0 rfl) ?_
  refine W.objInit hx hb hown (hts _ q32) (hts _ q25) (hts _ q26) rfl (by rw [hF.2.2.1]; exact hl.1) rfl dX1_init_1 (Nat.le_of_ble_eq_true rfl) (Nat.le_of_ble_eq_true rfl) ?_
  refine W.eq (g2 := F0 m 4 ls []) rfl ?_
  refine lv_aload_n hx hb dX1_init_4 rfl (lv_at hl 0 rfl) ?_
  refine z_sipush hx hb dX1_init_5 (by decide) ?_
  refine z_newI hF hI hA (140) rfl (by omega) (by first | exact Nat.le_of_ble_eq_true rfl | (dsimp only; omega)) (by first | exact Nat.le_of_ble_eq_true rfl | (dsimp only; omega)) dX1_init_8 (fun a1 H hI => ?_)
  have hI : zW D A s.heap ([(xd, .inr (1, [.null, .int (zI 0), .null, .int (zI 0), .int (zI 0)]))] ++ [(a1, .inl (cI, 140, .inl (zA (fun _ => 0))))]) H locs := hI
  refine z_putF (ci := 1) (v := .ref a1) (ty := .array .int) hF hI in_X1 tyX1 tyX1_ok nmX1 0 rfl rfl 0 (by decide) q33 rfl rfl hnm rfl (by decide +kernel) rfl rfl (Nat.le_of_ble_eq_true rfl) dX1_init_10 (fun H locs hI => ?_)
  have hI : zW D A s.heap ([(xd, .inr (1, [.ref a1, .int (zI 0), .null, .int (zI 0), .int (zI 0)]))] ++ [(a1, .inl (cI, 140, .inl (zA (fun _ => 0))))]) H locs := hI
  refine lv_aload_n hx hb dX1_init_13 rfl (lv_at hl 0 rfl) ?_
  refine z_sipush hx hb dX1_init_14 (by decide) ?_
  refine z_newB hF hI hA (1300) rfl (by omega) (by first | exact Nat.le_of_ble_eq_true rfl | (dsimp only; omega)) (by first | exact Nat.le_of_ble_eq_true rfl | (dsimp only; omega)) dX1_init_17 (fun a2 H hI => ?_)
  have hI : zW D A s.heap ([(xd, .inr (1, [.ref a1, .int (zI 0), .null, .int (zI 0), .int (zI 0)]))] ++ ([(a1, .inl (cI, 140, .inl (zA (fun _ => 0))))] ++ [(a2, .inl (cB, 1300, .inl (zA (fun _ => 0))))])) H locs := hI
  refine z_putF (ci := 1) (v := .ref a2) (ty := .array .byte) hF hI in_X1 tyX1 tyX1_ok nmX1 0 rfl rfl 2 (by decide) q35 rfl rfl hnm rfl (by decide +kernel) rfl rfl (Nat.le_of_ble_eq_true rfl) dX1_init_19 (fun H locs hI => ?_)
  have hI : zW D A s.heap ([(xd, .inr (1, [.ref a1, .int (zI 0), .ref a2, .int (zI 0), .int (zI 0)]))] ++ ([(a1, .inl (cI, 140, .inl (zA (fun _ => 0))))] ++ [(a2, .inl (cB, 1300, .inl (zA (fun _ => 0))))])) H locs := hI
  exact z_vret (S := Nat × Nat) (post := (fun _ => True)) (w' := (fun u : Nat × Nat => dW xd u.1 u.2 cB cI (fun _ => 0) 0 (fun _ => 0) 0 0)) hF hr hlk hI (a1, a2) trivial rfl dX1_init_22
set_option maxHeartbeats 4000000 in
set_option maxRecDepth 100000 in
/-- digit(k) -/
theorem c_digit (l : Launch) (D : va_G) (cB cI : ClassId) (xd xw xg : Nat) (w : Int → Int) (sz : Int) (g : Int → Int) (cnt pt : Int) (k : Int) (hd1 : 0 ≤ cnt ∧ cnt ≤ 1300) (hk : -2147483648 ≤ k ∧ k < 2147483648) : zMi (S := Unit) l yX1_digit cX1_digit 2 (some .int) ({ frames := 0, cells := 0, slots := 0, locals := 0 } : Room) D cB cI ([.ref xd, .int (zI k)] : List Value) (dW xd xw xg cB cI w sz g cnt pt) (fun r _ => r = if 0 ≤ k ∧ k < cnt then g k else 0) (fun _ => dW xd xw xg cB cI w sz g cnt pt) := by
  refine z_meti (by decide) (Nat.le_of_ble_eq_true rfl) ?_
  intro p e s m below meth c A hF hr hlk hnm hA hI ls hl
  have hx := hF.1
  have hb := hF.2.1
  have hown := hF.2.2.2.1
  have hts := hF.2.2.2.2.1
  have hl : lv_has ls 2 [(0, .ref xd), (1, .int (zI k))] := hl
  obtain ⟨H, eH⟩ : ∃ H : Heap, H = s.heap := ⟨_, rfl⟩
  obtain ⟨locs, eL⟩ : ∃ L : List Loc, L = [] := ⟨_, rfl⟩
  have hI : zW D A s.heap (dW xd xw xg cB cI w sz g cnt pt) H locs := by rw [eH, eL]; exact hI
  suffices hgo : W p l e ({ frames := 0, cells := 0, slots := 0, locals := 0 } : Room) s m ([.ref xd, .int (zI k)] : List Value).toArray below meth c H locs 0 0 (MQ below (va_Qi (zpi (fun r _ => r = if 0 ≤ k ∧ k < cnt then g k else 0)) (zPost D A (fun u : Int × (Unit) => (fun _ => dW xd xw xg cB cI w sz g cnt pt) u.2)) A) ([.ref xd, .int (zI k)] : List Value).toArray s ({ frames := 0, cells := 0, slots := 0, locals := 0 } : Room).cells ({ frames := 0, cells := 0, slots := 0, locals := 0 } : Room).slots A) (F0 m 0 ls []) by rw [eH, eL] at hgo; exact hgo
  clear eH eL
  refine lv_iload_n hx hb dX1_digit_0 rfl (lv_at hl 1 rfl) ?_
  refine z_if_lt (tgt := 21) hx hb (by omega) dX1_digit_1 (by decide) (fun h1 => ?_) (fun h1 => ?_)
  · skip
    refine z_iconst hx hb dX1_digit_21 ?_
    exact z_iret (S := Unit) (post := (fun r _ => r = if 0 ≤ k ∧ k < cnt then g k else 0)) (w' := (fun _ => dW xd xw xg cB cI w sz g cnt pt)) hF hr hlk hI () (by rw [if_neg (by omega)]) rfl dX1_digit_22
  · skip
    refine lv_iload_n hx hb dX1_digit_4 rfl (lv_at hl 1 rfl) ?_
    refine lv_aload_n hx hb dX1_digit_5 rfl (lv_at hl 0 rfl) ?_
    refine z_get (ci := 1) hF hI in_X1 0 rfl rfl 3 (by decide) q37 rfl rfl dX1_digit_6 ?_
    refine z_icmp_ge (tgt := 21) hx hb (by omega) (by omega) dX1_digit_9 (by decide) (fun h2 => ?_) (fun h2 => ?_)
    · skip
      refine z_iconst hx hb dX1_digit_21 ?_
      exact z_iret (S := Unit) (post := (fun r _ => r = if 0 ≤ k ∧ k < cnt then g k else 0)) (w' := (fun _ => dW xd xw xg cB cI w sz g cnt pt)) hF hr hlk hI () (by rw [if_neg (by omega)]) rfl dX1_digit_22
    · skip
      refine lv_aload_n hx hb dX1_digit_12 rfl (lv_at hl 0 rfl) ?_
      refine z_get (ci := 1) hF hI in_X1 0 rfl rfl 2 (by decide) q35 rfl rfl dX1_digit_13 ?_
      refine lv_iload_n hx hb dX1_digit_16 rfl (lv_at hl 1 rfl) ?_
      refine z_bald hF hI 2 rfl (by omega) (by omega) dX1_digit_17 ?_
      refine lv_goto (tgt := 22) hx hb dX1_digit_18 (by decide) ?_
      exact z_iret (S := Unit) (post := (fun r _ => r = if 0 ≤ k ∧ k < cnt then g k else 0)) (w' := (fun _ => dW xd xw xg cB cI w sz g cnt pt)) hF hr hlk hI () (by rw [if_pos (by omega)]) rfl dX1_digit_22
set_option maxHeartbeats 4000000 in
set_option maxRecDepth 100000 in
/-- times(b) -/
theorem c_times (l : Launch) (D : va_G) (cB cI : ClassId) (xd xw xg : Nat) (w : Int → Int) (sz : Int) (g : Int → Int) (cnt pt : Int) (n : Nat) (b V : Int) (hn : sz = (n : Int)) (hn1 : n ≤ 140) (hW : Wd w n) (hV : wv w n = V) (hby : 0 < b ∧ b ≤ 9) (hT : b * V < ((1000000000 ^ 140 : Nat) : Int)) : zMv (S := (Int → Int) × Int) l yX1_times cX1_times 7 ({ frames := 0, cells := 0, slots := 0, locals := 0 } : Room) D cB cI ([.ref xd, .int (zI b)] : List Value) (dW xd xw xg cB cI w sz g cnt pt) (timesP (b * V)) (fun u : (Int → Int) × Int => dW xd xw xg cB cI u.1 u.2 g cnt pt) := by
  refine z_metv (by decide) (Nat.le_of_ble_eq_true rfl) ?_
  intro p e s m below meth c A hF hr hlk hnm hA hI ls hl
  have hx := hF.1
  have hb := hF.2.1
  have hown := hF.2.2.2.1
  have hts := hF.2.2.2.2.1
  have hl : lv_has ls 7 [(0, .ref xd), (1, .int (zI b))] := hl
  obtain ⟨H, eH⟩ : ∃ H : Heap, H = s.heap := ⟨_, rfl⟩
  obtain ⟨locs, eL⟩ : ∃ L : List Loc, L = [] := ⟨_, rfl⟩
  have hI : zW D A s.heap (dW xd xw xg cB cI w sz g cnt pt) H locs := by rw [eH, eL]; exact hI
  suffices hgo : W p l e ({ frames := 0, cells := 0, slots := 0, locals := 0 } : Room) s m ([.ref xd, .int (zI b)] : List Value).toArray below meth c H locs 0 0 (MQ below (va_Qv (timesP (b * V)) (zPost D A (fun u : (Int → Int) × Int => dW xd xw xg cB cI u.1 u.2 g cnt pt)) A) ([.ref xd, .int (zI b)] : List Value).toArray s ({ frames := 0, cells := 0, slots := 0, locals := 0 } : Room).cells ({ frames := 0, cells := 0, slots := 0, locals := 0 } : Room).slots A) (F0 m 0 ls []) by rw [eH, eL] at hgo; exact hgo
  clear eH eL
  have L56 : ∀ (n_ : Nat), ∀ (s1 cy : Int) (w1 : Int → Int) (n1 : Nat), cy < (n_ : Int) → (s1 = (n1 : Int)) → (n1 ≤ 140) → (cy < 1000000000) → (Tc w1 n1 cy (b * V)) → ∀ (H : Heap) (locs : List Loc), zW D A s.heap (dW xd xw xg cB cI w1 s1 g cnt pt) H locs → ∀ ls : Array Slot, lv_has ls 7 [(0, .ref xd), (2, .long (zL cy))] → W p l e ({ frames := 0, cells := 0, slots := 0, locals := 0 } : Room) s m ([.ref xd, .int (zI b)] : List Value).toArray below meth c H locs 0 0 (MQ below (va_Qv (timesP (b * V)) (zPost D A (fun u : (Int → Int) × Int => dW xd xw xg cB cI u.1 u.2 g cnt pt)) A) ([.ref xd, .int (zI b)] : List Value).toArray s ({ frames := 0, cells := 0, slots := 0, locals := 0 } : Room).cells ({ frames := 0, cells := 0, slots := 0, locals := 0 } : Room).slots A) (F0 m 56 ls []) := by
    intro n_
    induction n_ with
    | zero =>
      intro s1 cy w1 n1 hm_ hs1 hn2 hc2 hC H locs hI ls hl
      exfalso; have := hC.2.1; omega
    | succ n_ ih_ =>
      intro s1 cy w1 n1 hm_ hs1 hn2 hc2 hC H locs hI ls hl
      have hcy := hC.2.1
      refine lv_lload_n hx hb dX1_times_56 rfl (lv_at hl 1 rfl) ?_
      refine z_lconst hx hb 0 dX1_times_57 (by decide) ?_
      refine z_lcmp_le (tgt := 96) hx hb (by omega) (by omega) dX1_times_58 dX1_times_59 (by decide) (fun h1 => ?_) (fun h1 => ?_)
      · skip
        obtain ⟨he1, he2⟩ := Tc_end hC h1
        exact z_vret (S := (Int → Int) × Int) (post := (timesP (b * V))) (w' := (fun u : (Int → Int) × Int => dW xd xw xg cB cI u.1 u.2 g cnt pt)) hF hr hlk hI (w1, s1) ⟨n1, hs1, hn2, he1, he2⟩ rfl dX1_times_96
      · skip
        have hlt := Tc_lt hC h1 hT
        refine lv_aload_n hx hb dX1_times_62 rfl (lv_at hl 0 rfl) ?_
        refine z_get (ci := 1) hF hI in_X1 0 rfl rfl 0 (by decide) q33 rfl rfl dX1_times_63 ?_
        refine lv_aload_n hx hb dX1_times_66 rfl (lv_at hl 0 rfl) ?_
        refine z_get (ci := 1) hF hI in_X1 0 rfl rfl 1 (by decide) q34 rfl rfl dX1_times_67 ?_
        refine lv_lload_n hx hb dX1_times_70 rfl (lv_at hl 1 rfl) ?_
        refine z_ldc2 hx hb 1000000000 hown (hts _ q107) rfl dX1_times_71 ?_
        refine z_lrem hx hb (by omega) (by omega) dX1_times_74 ?_
        refine z_l2i hx hb dX1_times_75 ?_
        refine z_iast hF hI 1 rfl (by omega) (by omega) dX1_times_76 (fun H locs hI => ?_)
        have hI : zW D A s.heap (dW xd xw xg cB cI (zup w1 s1 (cy % 1000000000)) s1 g cnt pt) H locs := hI
        refine lv_aload_n hx hb dX1_times_77 rfl (lv_at hl 0 rfl) ?_
        refine lv_dup hx hb dX1_times_78 rfl ?_
        refine z_get (ci := 1) hF hI in_X1 0 rfl rfl 1 (by decide) q34 rfl rfl dX1_times_79 ?_
        refine z_iconst hx hb dX1_times_82 ?_
        refine z_iadd hx hb dX1_times_83 ?_
        refine z_put (ci := 1) (v := .int (zI (s1 + 1))) (ty := .int) hF hI in_X1 tyX1 tyX1_ok nmX1 0 rfl rfl 1 (by decide) q34 rfl rfl (by decide +kernel) rfl rfl (Nat.le_of_ble_eq_true rfl) dX1_times_84 (fun H locs hI => ?_)
        have hI : zW D A s.heap (dW xd xw xg cB cI (zup w1 s1 (cy % 1000000000)) (s1 + 1) g cnt pt) H locs := hI
        refine lv_lload_n hx hb dX1_times_87 rfl (lv_at hl 1 rfl) ?_
        refine z_ldc2 hx hb 1000000000 hown (hts _ q107) rfl dX1_times_88 ?_
        refine z_ldiv hx hb (by omega) (by omega) dX1_times_91 ?_
        refine lv_lstore_n (lv' := [(2, .long (zL (cy / 1000000000))), (0, .ref xd)]) hx hb dX1_times_92 rfl hl (by decide) rfl (fun ls hl => ?_)
        refine lv_goto (tgt := 56) hx hb dX1_times_93 (by decide) ?_
        exact ih_ (s1 + 1) (cy / 1000000000) (zup w1 s1 (cy % 1000000000)) (n1 + 1) (by omega) (by omega) (by omega) (by omega) (by rw [hs1]; exact Tc_step hC) H locs hI ls (lv_sub hl [1, 0] rfl)
  have L5 : ∀ (n_ : Nat), ∀ (k cy : Int) (w1 : Int → Int), n - k < (n_ : Int) → (0 ≤ k ∧ k ≤ n) → (Tm w n b k w1 cy) → ∀ (H : Heap) (locs : List Loc), zW D A s.heap (dW xd xw xg cB cI w1 sz g cnt pt) H locs → ∀ ls : Array Slot, lv_has ls 7 [(0, .ref xd), (1, .int (zI b)), (2, .long (zL cy)), (4, .int (zI k))] → W p l e ({ frames := 0, cells := 0, slots := 0, locals := 0 } : Room) s m ([.ref xd, .int (zI b)] : List Value).toArray below meth c H locs 0 0 (MQ below (va_Qv (timesP (b * V)) (zPost D A (fun u : (Int → Int) × Int => dW xd xw xg cB cI u.1 u.2 g cnt pt)) A) ([.ref xd, .int (zI b)] : List Value).toArray s ({ frames := 0, cells := 0, slots := 0, locals := 0 } : Room).cells ({ frames := 0, cells := 0, slots := 0, locals := 0 } : Room).slots A) (F0 m 5 ls []) := by
    intro n_
    induction n_ with
    | zero =>
      intro k cy w1 hm_ hk hT1 H locs hI ls hl
      exfalso; omega
    | succ n_ ih_ =>
      intro k cy w1 hm_ hk hT1 H locs hI ls hl
      refine lv_iload hx hb dX1_times_5 (lv_at hl 3 rfl) ?_
      refine lv_aload_n hx hb dX1_times_7 rfl (lv_at hl 0 rfl) ?_
      refine z_get (ci := 1) hF hI in_X1 0 rfl rfl 1 (by decide) q34 rfl rfl dX1_times_8 ?_
      refine z_icmp_ge (tgt := 56) hx hb (by omega) (by omega) dX1_times_11 (by decide) (fun h1 => ?_) (fun h1 => ?_)
      · skip
        have hcr := hT1.2.2.1
        exact L56 (cy.toNat + 1) sz cy w1 n (by omega) hn hn1 (by omega) (by exact Tm_end (by omega) hV hT1) H locs hI ls (lv_sub hl [0, 2] rfl)
      · skip
        have hrg := Tm_rng hW hby (by omega) hT1
        refine lv_aload_n hx hb dX1_times_14 rfl (lv_at hl 0 rfl) ?_
        refine z_get (ci := 1) hF hI in_X1 0 rfl rfl 0 (by decide) q33 rfl rfl dX1_times_15 ?_
        refine lv_iload hx hb dX1_times_18 (lv_at hl 3 rfl) ?_
        refine z_iald hF hI 1 rfl (by omega) (by omega) dX1_times_20 ?_
        refine z_i2l hx hb (by omega) dX1_times_21 ?_
        refine lv_iload_n hx hb dX1_times_22 rfl (lv_at hl 1 rfl) ?_
        refine z_i2l hx hb (by omega) dX1_times_23 ?_
        refine z_lmul hx hb dX1_times_24 ?_
        refine lv_lload_n hx hb dX1_times_25 rfl (lv_at hl 2 rfl) ?_
        refine z_ladd hx hb dX1_times_26 ?_
        refine lv_lstore (lv' := [(5, .long (zL (((w1 k) * b) + cy))), (0, .ref xd), (1, .int (zI b)), (2, .long (zL cy)), (4, .int (zI k))]) hx hb dX1_times_27 hl (by decide) rfl (fun ls hl => ?_)
        refine lv_aload_n hx hb dX1_times_29 rfl (lv_at hl 1 rfl) ?_
        refine z_get (ci := 1) hF hI in_X1 0 rfl rfl 0 (by decide) q33 rfl rfl dX1_times_30 ?_
        refine lv_iload hx hb dX1_times_33 (lv_at hl 4 rfl) ?_
        refine lv_lload hx hb dX1_times_35 (lv_at hl 0 rfl) ?_
        refine z_ldc2 hx hb 1000000000 hown (hts _ q107) rfl dX1_times_37 ?_
        refine z_lrem hx hb (by omega) (by omega) dX1_times_40 ?_
        refine z_l2i hx hb dX1_times_41 ?_
        refine z_iast hF hI 1 rfl (by omega) (by omega) dX1_times_42 (fun H locs hI => ?_)
        have hI : zW D A s.heap (dW xd xw xg cB cI (zup w1 k ((((w1 k) * b) + cy) % 1000000000)) sz g cnt pt) H locs := hI
        refine lv_lload hx hb dX1_times_43 (lv_at hl 0 rfl) ?_
        refine z_ldc2 hx hb 1000000000 hown (hts _ q107) rfl dX1_times_45 ?_
        refine z_ldiv hx hb (by omega) (by omega) dX1_times_48 ?_
        refine lv_lstore_n (lv' := [(2, .long (zL ((((w1 k) * b) + cy) / 1000000000))), (5, .long (zL (((w1 k) * b) + cy))), (0, .ref xd), (1, .int (zI b)), (4, .int (zI k))]) hx hb dX1_times_49 rfl hl (by decide) rfl (fun ls hl => ?_)
        refine lv_iinc (lv' := [(4, .int (zI (k + 1))), (2, .long (zL ((((w1 k) * b) + cy) / 1000000000))), (5, .long (zL (((w1 k) * b) + cy))), (0, .ref xd), (1, .int (zI b))]) (k := 4) hx hb dX1_times_50 hl rfl (zI_add _ _) (by decide) rfl (fun ls hl => ?_)
        refine lv_goto (tgt := 5) hx hb dX1_times_53 (by decide) ?_
        exact ih_ (k + 1) (((w1 k) * b + cy) / 1000000000) (zup w1 k (((w1 k) * b + cy) % 1000000000)) (by omega) (by omega) (by exact Tm_step hW hby (by omega) hT1) H locs hI ls (lv_sub hl [3, 4, 1, 0] rfl)
  refine z_lconst hx hb 0 dX1_times_0 (by decide) ?_
  refine lv_lstore_n (lv' := [(2, .long (zL 0)), (0, .ref xd), (1, .int (zI b))]) hx hb dX1_times_1 rfl hl (by decide) rfl (fun ls hl => ?_)
  refine z_iconst hx hb dX1_times_2 ?_
  refine lv_istore (lv' := [(4, .int (zI 0)), (2, .long (zL 0)), (0, .ref xd), (1, .int (zI b))]) hx hb dX1_times_3 hl (by decide) rfl (fun ls hl => ?_)
  exact L5 (n + 1) 0 0 w (by omega) (by omega) (by exact Tm_init hby.1) H locs hI ls (lv_sub hl [2, 3, 1, 0] rfl)
end
section
/-! the component: of -/
theorem Dg_zero {g : Int → Int} {c v : Nat} {any : Int} (h : Dg g c v any) : c = 0 ↔ v = 0 := by
  rcases h.2 with ⟨q1, q2⟩ | ⟨q1, q2, q3⟩
  · exact ⟨fun _ => (h.none q2).2, fun _ => q1⟩
  · constructor
    · intro q; omega
    · intro q
      have := ten_pos c
      omega
theorem Dg_lead {g : Int → Int} {c v : Nat} {any : Int} (h : Dg g c v any) : c = 0 ∨ 10 ^ c ≤ 10 * v := by
  rcases h.2 with ⟨q1, q2⟩ | ⟨q1, q2, q3⟩
  · exact Or.inl q1
  · exact Or.inr q2
theorem of_two (z k : Int) (hk : 0 ≤ k) : 2 * ((bM z * 2 ^ k.toNat : Nat) : Int) = ((bM z * 2 ^ (k + 1).toNat : Nat) : Int) := by
  rw [show (k + 1).toNat = k.toNat + 1 by omega, Nat.pow_succ, ← Nat.mul_assoc]
  omega
theorem of_five (z k : Int) (hk : k ≤ 0) : 5 * ((bB z * 5 ^ (-k).toNat : Nat) : Int) = ((bB z * 5 ^ (-k + 1).toNat : Nat) : Int) := by
  rw [show (-k + 1).toNat = (-k).toNat + 1 by omega, Nat.pow_succ, ← Nat.mul_assoc]
  omega
theorem bN_1260 {z : Int} (h : z / 4503599627370496 % 2048 ≠ 2047) : bN z < 10 ^ 1260 := by
  have h1 := bT_rng z h
  have h2 := spread_lt z (-(bT z)).toNat
  rw [bN]
  exact Nat.lt_of_lt_of_le h2 (Nat.pow_le_pow_right (by decide) (by omega))
set_option maxHeartbeats 4000000 in
set_option maxRecDepth 100000 in
/-- of(x): all digits of the worth -/
theorem c_of (l : Launch) (D : va_G) (cB cI : ClassId) (xd xw xg : Nat) (w : Int → Int) (sz : Int) (g : Int → Int) (cnt pt : Int) (z : Int) (hz : 0 ≤ z ∧ z < 9223372036854775808) (hE : z / 4503599627370496 % 2048 ≠ 2047) : zMv (S := (Int → Int) × Int × (Int → Int) × Int × Int) l yX1_of cX1_of 12 ({ frames := 1, cells := 0, slots := 0, locals := 26 } : Room) D cB cI ([.ref xd, .double (zL z).toUInt64] : List Value) (dW xd xw xg cB cI w sz g cnt pt) (ofP z) (fun u => dW xd xw xg cB cI u.1 u.2.1 u.2.2.1 u.2.2.2.1 u.2.2.2.2) := by
  refine z_metv (by decide) (Nat.le_of_ble_eq_true rfl) ?_
  intro p e s m below meth c A hF hr hlk hnm hA hI ls hl
  have hx := hF.1
  have hb := hF.2.1
  have hown := hF.2.2.2.1
  have hts := hF.2.2.2.2.1
  have hl : lv_has ls 12 [(0, .ref xd), (1, .double (zL z).toUInt64)] := hl
  obtain ⟨H, eH⟩ : ∃ H : Heap, H = s.heap := ⟨_, rfl⟩
  obtain ⟨locs, eL⟩ : ∃ L : List Loc, L = [] := ⟨_, rfl⟩
  have hI : zW D A s.heap (dW xd xw xg cB cI w sz g cnt pt) H locs := by rw [eH, eL]; exact hI
  suffices hgo : W p l e ({ frames := 1, cells := 0, slots := 0, locals := 26 } : Room) s m ([.ref xd, .double (zL z).toUInt64] : List Value).toArray below meth c H locs 0 0 (MQ below (va_Qv (ofP z) (zPost D A (fun u => dW xd xw xg cB cI u.1 u.2.1 u.2.2.1 u.2.2.2.1 u.2.2.2.2)) A) ([.ref xd, .double (zL z).toUInt64] : List Value).toArray s ({ frames := 1, cells := 0, slots := 0, locals := 26 } : Room).cells ({ frames := 1, cells := 0, slots := 0, locals := 26 } : Room).slots A) (F0 m 0 ls []) by rw [eH, eL] at hgo; exact hgo
  clear eH eL
  have hTr := bT_rng z hE
  have hMl := bM_lt z
  have hNl := bN_1260 hE
  have L271 : ∀ (w1 g1 : Int → Int) (s1 c1 p1 : Int) (n1 : Nat), (c1 = (n1 : Int)) → (n1 ≤ 1260) → (Rw g1 n1 (bN z)) → (n1 = 0 ↔ bN z = 0) → (n1 = 0 ∨ 10 ^ n1 ≤ 10 * bN z) → (p1 = n1 + bX z) → ∀ (H : Heap) (locs : List Loc), zW D A s.heap (dW xd xw xg cB cI w1 s1 g1 c1 p1) H locs → ∀ ls : Array Slot, lv_has ls 12 [(0, .ref xd)] → W p l e ({ frames := 1, cells := 0, slots := 0, locals := 26 } : Room) s m ([.ref xd, .double (zL z).toUInt64] : List Value).toArray below meth c H locs 0 0 (MQ below (va_Qv (ofP z) (zPost D A (fun u => dW xd xw xg cB cI u.1 u.2.1 u.2.2.1 u.2.2.2.1 u.2.2.2.2)) A) ([.ref xd, .double (zL z).toUInt64] : List Value).toArray s ({ frames := 1, cells := 0, slots := 0, locals := 26 } : Room).cells ({ frames := 1, cells := 0, slots := 0, locals := 26 } : Room).slots A) (F0 m 271 ls []) := by
    intro w1 g1 s1 c1 p1 n1 hc1 hn1 hR1 hz1 hld hp1 H locs hI ls hl
    refine lv_aload_n hx hb dX1_of_271 rfl (lv_at hl 0 rfl) ?_
    refine z_get (ci := 1) hF hI in_X1 0 rfl rfl 3 (by decide) q37 rfl rfl dX1_of_272 ?_
    refine z_if_ne (tgt := 283) hx hb (by omega) dX1_of_275 (by decide) (fun h1 => ?_) (fun h1 => ?_)
    · skip
      exact z_vret (S := (Int → Int) × Int × (Int → Int) × Int × Int) (post := (ofP z)) (w' := (fun u => dW xd xw xg cB cI u.1 u.2.1 u.2.2.1 u.2.2.2.1 u.2.2.2.2)) hF hr hlk hI (w1, s1, g1, c1, p1) ⟨n1, hc1, hn1, hR1, Or.inr ⟨fun q => h1 (by have := hz1.mpr q; omega), by rcases hld with q | q; (exfalso; omega); exact q, hp1⟩⟩ rfl dX1_of_283
    · skip
      refine lv_aload_n hx hb dX1_of_278 rfl (lv_at hl 0 rfl) ?_
      refine z_iconst hx hb dX1_of_279 ?_
      refine z_put (ci := 1) (v := .int (zI 0)) (ty := .int) hF hI in_X1 tyX1 tyX1_ok nmX1 0 rfl rfl 4 (by decide) q39 rfl rfl (by decide +kernel) rfl rfl (Nat.le_of_ble_eq_true rfl) dX1_of_280 (fun H locs hI => ?_)
      have hI : zW D A s.heap (dW xd xw xg cB cI w1 s1 g1 c1 0) H locs := hI
      exact z_vret (S := (Int → Int) × Int × (Int → Int) × Int × Int) (post := (ofP z)) (w' := (fun u => dW xd xw xg cB cI u.1 u.2.1 u.2.2.1 u.2.2.2.1 u.2.2.2.2)) hF hr hlk hI (w1, s1, g1, c1, 0) ⟨n1, hc1, hn1, hR1, Or.inl ⟨hz1.mp (by omega), by omega, rfl⟩⟩ rfl dX1_of_283
  have L248 : ∀ (w1 g1 : Int → Int) (s1 c1 : Int) (n1 : Nat), (c1 = (n1 : Int)) → (n1 ≤ 1260) → (Rw g1 n1 (bN z)) → (n1 = 0 ↔ bN z = 0) → (n1 = 0 ∨ 10 ^ n1 ≤ 10 * bN z) → ∀ (H : Heap) (locs : List Loc), zW D A s.heap (dW xd xw xg cB cI w1 s1 g1 c1 pt) H locs → ∀ ls : Array Slot, lv_has ls 12 [(0, .ref xd), (5, .int (zI (bT z)))] → W p l e ({ frames := 1, cells := 0, slots := 0, locals := 26 } : Room) s m ([.ref xd, .double (zL z).toUInt64] : List Value).toArray below meth c H locs 0 0 (MQ below (va_Qv (ofP z) (zPost D A (fun u => dW xd xw xg cB cI u.1 u.2.1 u.2.2.1 u.2.2.2.1 u.2.2.2.2)) A) ([.ref xd, .double (zL z).toUInt64] : List Value).toArray s ({ frames := 1, cells := 0, slots := 0, locals := 26 } : Room).cells ({ frames := 1, cells := 0, slots := 0, locals := 26 } : Room).slots A) (F0 m 248 ls []) := by
    intro w1 g1 s1 c1 n1 hc1 hn1 hR1 hz1 hld H locs hI ls hl
    refine lv_aload_n hx hb dX1_of_248 rfl (lv_at hl 0 rfl) ?_
    refine lv_iload hx hb dX1_of_249 (lv_at hl 1 rfl) ?_
    refine z_if_ge (tgt := 264) hx hb (by omega) dX1_of_251 (by decide) (fun h1 => ?_) (fun h1 => ?_)
    · skip
      refine lv_aload_n hx hb dX1_of_264 rfl (lv_at hl 0 rfl) ?_
      refine z_get (ci := 1) hF hI in_X1 0 rfl rfl 3 (by decide) q37 rfl rfl dX1_of_265 ?_
      refine z_put (ci := 1) (v := .int (zI c1)) (ty := .int) hF hI in_X1 tyX1 tyX1_ok nmX1 0 rfl rfl 4 (by decide) q39 rfl rfl (by decide +kernel) rfl rfl (Nat.le_of_ble_eq_true rfl) dX1_of_268 (fun H locs hI => ?_)
      have hI : zW D A s.heap (dW xd xw xg cB cI w1 s1 g1 c1 c1) H locs := hI
      exact L271 w1 g1 s1 c1 c1 n1 hc1 hn1 hR1 hz1 hld (by unfold bX; split <;> omega) H locs hI ls (lv_sub hl [0] rfl)
    · skip
      refine lv_aload_n hx hb dX1_of_254 rfl (lv_at hl 0 rfl) ?_
      refine z_get (ci := 1) hF hI in_X1 0 rfl rfl 3 (by decide) q37 rfl rfl dX1_of_255 ?_
      refine lv_iload hx hb dX1_of_258 (lv_at hl 1 rfl) ?_
      refine z_iadd hx hb dX1_of_260 ?_
      refine lv_goto (tgt := 268) hx hb dX1_of_261 (by decide) ?_
      refine z_put (ci := 1) (v := .int (zI (c1 + (bT z)))) (ty := .int) hF hI in_X1 tyX1 tyX1_ok nmX1 0 rfl rfl 4 (by decide) q39 rfl rfl (by decide +kernel) rfl rfl (Nat.le_of_ble_eq_true rfl) dX1_of_268 (fun H locs hI => ?_)
      have hI : zW D A s.heap (dW xd xw xg cB cI w1 s1 g1 c1 (c1 + (bT z))) H locs := hI
      exact L271 w1 g1 s1 c1 (c1 + bT z) n1 hc1 hn1 hR1 hz1 hld (by unfold bX; split <;> omega) H locs hI ls (lv_sub hl [0] rfl)
  have L159 : ∀ (n_ : Nat), ∀ (k any : Int) (w1 g1 : Int → Int) (s1 c1 : Int) (n1 cc1 : Nat), k + 1 < (n_ : Int) → (-1 ≤ k ∧ k < n1) → (s1 = (n1 : Int)) → (n1 ≤ 140) → (Wd w1 n1) → (wv w1 n1 = (bN z : Int)) → (c1 = (cc1 : Int)) → (Dg g1 cc1 (bN z / 10 ^ (9 * (k + 1).toNat)) any) → ∀ (H : Heap) (locs : List Loc), zW D A s.heap (dW xd xw xg cB cI w1 s1 g1 c1 pt) H locs → ∀ ls : Array Slot, lv_has ls 12 [(0, .ref xd), (5, .int (zI (bT z))), (8, .int (zI any)), (9, .int (zI k))] → W p l e ({ frames := 1, cells := 0, slots := 0, locals := 26 } : Room) s m ([.ref xd, .double (zL z).toUInt64] : List Value).toArray below meth c H locs 0 0 (MQ below (va_Qv (ofP z) (zPost D A (fun u => dW xd xw xg cB cI u.1 u.2.1 u.2.2.1 u.2.2.2.1 u.2.2.2.2)) A) ([.ref xd, .double (zL z).toUInt64] : List Value).toArray s ({ frames := 1, cells := 0, slots := 0, locals := 26 } : Room).cells ({ frames := 1, cells := 0, slots := 0, locals := 26 } : Room).slots A) (F0 m 159 ls []) := by
    intro n_
    induction n_ with
    | zero =>
      intro k any w1 g1 s1 c1 n1 cc1 hm_ hk hs1 hn1 hW1 hV1 hc1 hD1 H locs hI ls hl
      exfalso; omega
    | succ n_ ih_ =>
      intro k any w1 g1 s1 c1 n1 cc1 hm_ hk hs1 hn1 hW1 hV1 hc1 hD1 H locs hI ls hl
      refine lv_iload hx hb dX1_of_159 (lv_at hl 3 rfl) ?_
      refine z_if_lt (tgt := 248) hx hb (by omega) dX1_of_161 (by decide) (fun h1 => ?_) (fun h1 => ?_)
      · skip
        rw [show 9 * (k + 1).toNat = 0 by omega, Nat.pow_zero, Nat.div_one] at hD1
        exact L248 w1 g1 s1 c1 cc1 hc1 (by exact Dg_le hD1 hNl) hD1.1 (by exact Dg_zero hD1) (by exact Dg_lead hD1) H locs hI ls (lv_sub hl [0, 1] rfl)
      · skip
        have iho_ := ih_
        obtain ⟨k0, rfl⟩ := Int.eq_ofNat_of_zero_le h1
        have hwr := hW1 (k0 : Int) (by omega) (by omega)
        have L168 : ∀ (n_ : Nat), ∀ (j : Nat) (any u9 : Int) (g2 : Int → Int) (c2 : Int) (cc2 : Nat), 9 - (j : Int) < (n_ : Int) → (j ≤ 9) → (u9 = Un9 j) → (c2 = (cc2 : Int)) → (Dg g2 cc2 (bN z / 10 ^ (9 * (k0 + 1) - j)) any) → ∀ (H : Heap) (locs : List Loc), zW D A s.heap (dW xd xw xg cB cI w1 s1 g2 c2 pt) H locs → ∀ ls : Array Slot, lv_has ls 12 [(0, .ref xd), (5, .int (zI (bT z))), (8, .int (zI any)), (9, .int (zI (k0 : Int))), (10, .int (zI u9))] → W p l e ({ frames := 1, cells := 0, slots := 0, locals := 26 } : Room) s m ([.ref xd, .double (zL z).toUInt64] : List Value).toArray below meth c H locs 0 0 (MQ below (va_Qv (ofP z) (zPost D A (fun u => dW xd xw xg cB cI u.1 u.2.1 u.2.2.1 u.2.2.2.1 u.2.2.2.2)) A) ([.ref xd, .double (zL z).toUInt64] : List Value).toArray s ({ frames := 1, cells := 0, slots := 0, locals := 26 } : Room).cells ({ frames := 1, cells := 0, slots := 0, locals := 26 } : Room).slots A) (F0 m 168 ls []) := by
          intro n_
          induction n_ with
          | zero =>
            intro j any u9 g2 c2 cc2 hm_ hj hu hc2 hD2 H locs hI ls hl
            exfalso; omega
          | succ n_ ih_ =>
            intro j any u9 g2 c2 cc2 hm_ hj hu hc2 hD2 H locs hI ls hl
            subst hu
            have hur := Un9_rng j (by omega)
            refine lv_iload hx hb dX1_of_168 (lv_at hl 4 rfl) ?_
            refine z_if_le (tgt := 242) hx hb (by omega) dX1_of_170 (by decide) (fun h2 => ?_) (fun h2 => ?_)
            · skip
              have hj9 : j = 9 := (by rcases Nat.lt_or_ge j 9 with q | q; (have := Un9_pos j q; omega); omega)
              have ha01 := hD2.any01
              refine lv_iinc (lv' := [(9, .int (zI ((k0 : Int) + (-1)))), (0, .ref xd), (5, .int (zI (bT z))), (8, .int (zI any)), (10, .int (zI (Un9 j)))]) (k := 3) hx hb dX1_of_242 hl rfl (zI_add _ _) (by decide) rfl (fun ls hl => ?_)
              refine lv_goto (tgt := 159) hx hb dX1_of_245 (by decide) ?_
              exact iho_ ((k0 : Int) + -1) any w1 g2 s1 c2 n1 cc2 (by omega) (by omega) hs1 hn1 hW1 hV1 hc2 (by rw [show 9 * ((k0 : Int) + -1 + 1).toNat = 9 * (k0 + 1) - j by omega]; exact hD2) H locs hI ls (lv_sub hl [1, 2, 3, 0] rfl)
            · skip
              have hj9 : j < 9 := (by rcases Nat.lt_or_ge j 9 with q | q; exact q; (obtain rfl : j = 9 := (by omega); rw [Un9_9] at h2; omega))
              have hup := Un9_pos j hj9
              have hin := Un9_in hj9 hwr
              have hdg := Un9_dig hW1 hV1 (show k0 < n1 by omega) hj9
              have hnx := dig_next (N := bN z) (e := 9 * (k0 + 1) - j) (by omega)
              rw [show 9 * (k0 + 1) - j - 1 = 9 * (k0 + 1) - (j + 1) by omega] at hnx
              have hd10 : bN z / 10 ^ (9 * (k0 + 1) - (j + 1)) % 10 < 10 := Nat.mod_lt _ (by decide)
              have hcl := Dg_le hD2 (Nat.lt_of_le_of_lt (Nat.div_le_self _ _) hNl)
              have ha01 := hD2.any01
              obtain ⟨dd, hdd⟩ : ∃ dd : Int, dd = w1 (k0 : Int) / Un9 j % 10 := ⟨_, rfl⟩
              rw [← hdd] at hdg
              refine lv_aload_n hx hb dX1_of_173 rfl (lv_at hl 0 rfl) ?_
              refine z_get (ci := 1) hF hI in_X1 0 rfl rfl 0 (by decide) q33 rfl rfl dX1_of_174 ?_
              refine lv_iload hx hb dX1_of_177 (lv_at hl 3 rfl) ?_
              refine z_iald hF hI 1 rfl (by omega) (by omega) dX1_of_179 ?_
              refine lv_iload hx hb dX1_of_180 (lv_at hl 4 rfl) ?_
              refine z_idiv hx hb (by omega) (by omega) dX1_of_182 ?_
              refine z_bipush hx hb dX1_of_183 (by decide) ?_
              refine z_irem hx hb (by omega) (by omega) dX1_of_185 ?_
              rw [← hdd]
              have hdr : 0 ≤ dd ∧ dd < 10 := (by omega)
              have L232 : ∀ (any2 c3 : Int) (g3 : Int → Int) (cc3 : Nat), (c3 = (cc3 : Int)) → (Dg g3 cc3 (bN z / 10 ^ (9 * (k0 + 1) - (j + 1))) any2) → ∀ (H : Heap) (locs : List Loc), zW D A s.heap (dW xd xw xg cB cI w1 s1 g3 c3 pt) H locs → ∀ ls : Array Slot, lv_has ls 12 [(0, .ref xd), (5, .int (zI (bT z))), (8, .int (zI any2)), (9, .int (zI (k0 : Int))), (10, .int (zI (Un9 j)))] → W p l e ({ frames := 1, cells := 0, slots := 0, locals := 26 } : Room) s m ([.ref xd, .double (zL z).toUInt64] : List Value).toArray below meth c H locs 0 0 (MQ below (va_Qv (ofP z) (zPost D A (fun u => dW xd xw xg cB cI u.1 u.2.1 u.2.2.1 u.2.2.2.1 u.2.2.2.2)) A) ([.ref xd, .double (zL z).toUInt64] : List Value).toArray s ({ frames := 1, cells := 0, slots := 0, locals := 26 } : Room).cells ({ frames := 1, cells := 0, slots := 0, locals := 26 } : Room).slots A) (F0 m 232 ls []) := by
                intro any2 c3 g3 cc3 hc3 hD3 H locs hI ls hl
                refine lv_iload hx hb dX1_of_232 (lv_at hl 4 rfl) ?_
                refine z_bipush hx hb dX1_of_234 (by decide) ?_
                refine z_idiv hx hb (by omega) (by omega) dX1_of_236 ?_
                refine lv_istore (lv' := [(10, .int (zI ((Un9 j) / 10))), (0, .ref xd), (5, .int (zI (bT z))), (8, .int (zI any2)), (9, .int (zI (k0 : Int)))]) hx hb dX1_of_237 hl (by decide) rfl (fun ls hl => ?_)
                refine lv_goto (tgt := 168) hx hb dX1_of_239 (by decide) ?_
                exact ih_ (j + 1) any2 (Un9 j / 10) g3 c3 cc3 (by omega) (by omega) (by exact Un9_step j hj9) hc3 hD3 H locs hI ls (lv_sub hl [1, 2, 3, 4, 0] rfl)
              have L198 : (any ≠ 0 ∨ 0 < dd) → ∀ (H : Heap) (locs : List Loc), zW D A s.heap (dW xd xw xg cB cI w1 s1 g2 c2 pt) H locs → ∀ ls : Array Slot, lv_has ls 12 [(0, .ref xd), (5, .int (zI (bT z))), (8, .int (zI any)), (9, .int (zI (k0 : Int))), (10, .int (zI (Un9 j))), (11, .int (zI dd))] → W p l e ({ frames := 1, cells := 0, slots := 0, locals := 26 } : Room) s m ([.ref xd, .double (zL z).toUInt64] : List Value).toArray below meth c H locs 0 0 (MQ below (va_Qv (ofP z) (zPost D A (fun u => dW xd xw xg cB cI u.1 u.2.1 u.2.2.1 u.2.2.2.1 u.2.2.2.2)) A) ([.ref xd, .double (zL z).toUInt64] : List Value).toArray s ({ frames := 1, cells := 0, slots := 0, locals := 26 } : Room).cells ({ frames := 1, cells := 0, slots := 0, locals := 26 } : Room).slots A) (F0 m 198 ls []) := by
                intro  hpp H locs hI ls hl
                refine z_iconst hx hb dX1_of_198 ?_
                refine lv_goto (tgt := 203) hx hb dX1_of_199 (by decide) ?_
                refine lv_istore (lv' := [(8, .int (zI 1)), (0, .ref xd), (5, .int (zI (bT z))), (9, .int (zI (k0 : Int))), (10, .int (zI (Un9 j))), (11, .int (zI dd))]) hx hb dX1_of_203 hl (by decide) rfl (fun ls hl => ?_)
                refine lv_iload hx hb dX1_of_205 (lv_at hl 0 rfl) ?_
                refine z_if_eq (tgt := 232) hx hb (by omega) dX1_of_207 (by decide) (fun h5 => ?_) (fun h5 => ?_)
                · skip
                  exfalso; omega
                · skip
                  refine lv_aload_n hx hb dX1_of_210 rfl (lv_at hl 1 rfl) ?_
                  refine z_get (ci := 1) hF hI in_X1 0 rfl rfl 2 (by decide) q35 rfl rfl dX1_of_211 ?_
                  refine lv_aload_n hx hb dX1_of_214 rfl (lv_at hl 1 rfl) ?_
                  refine z_get (ci := 1) hF hI in_X1 0 rfl rfl 3 (by decide) q37 rfl rfl dX1_of_215 ?_
                  refine lv_iload hx hb dX1_of_218 (lv_at hl 5 rfl) ?_
                  refine z_i2b hx hb (by omega) dX1_of_220 ?_
                  refine z_bast hF hI 2 rfl (by omega) (by omega) (by omega) dX1_of_221 (fun H locs hI => ?_)
                  have hI : zW D A s.heap (dW xd xw xg cB cI w1 s1 (zup g2 c2 dd) c2 pt) H locs := hI
                  refine lv_aload_n hx hb dX1_of_222 rfl (lv_at hl 1 rfl) ?_
                  refine lv_dup hx hb dX1_of_223 rfl ?_
                  refine z_get (ci := 1) hF hI in_X1 0 rfl rfl 3 (by decide) q37 rfl rfl dX1_of_224 ?_
                  refine z_iconst hx hb dX1_of_227 ?_
                  refine z_iadd hx hb dX1_of_228 ?_
                  refine z_put (ci := 1) (v := .int (zI (c2 + 1))) (ty := .int) hF hI in_X1 tyX1 tyX1_ok nmX1 0 rfl rfl 3 (by decide) q37 rfl rfl (by decide +kernel) rfl rfl (Nat.le_of_ble_eq_true rfl) dX1_of_229 (fun H locs hI => ?_)
                  have hI : zW D A s.heap (dW xd xw xg cB cI w1 s1 (zup g2 c2 dd) (c2 + 1) pt) H locs := hI
                  exact L232 1 (c2 + 1) (zup g2 c2 dd) (cc2 + 1) (by omega) (by rw [hc2]; exact Dg_push hD2 hd10 (by omega) hnx hdg) H locs hI ls (lv_sub hl [1, 2, 0, 3, 4] rfl)
              refine lv_istore (lv' := [(11, .int (zI dd)), (0, .ref xd), (5, .int (zI (bT z))), (8, .int (zI any)), (9, .int (zI (k0 : Int))), (10, .int (zI (Un9 j)))]) hx hb dX1_of_186 hl (by decide) rfl (fun ls hl => ?_)
              refine lv_iload hx hb dX1_of_188 (lv_at hl 3 rfl) ?_
              refine z_if_ne (tgt := 198) hx hb (by omega) dX1_of_190 (by decide) (fun h3 => ?_) (fun h3 => ?_)
              · skip
                exact L198  (by exact Or.inl h3) H locs hI ls (lv_sub hl [1, 2, 3, 4, 5, 0] rfl)
              · skip
                refine lv_iload hx hb dX1_of_193 (lv_at hl 0 rfl) ?_
                refine z_if_le (tgt := 202) hx hb (by omega) dX1_of_195 (by decide) (fun h4 => ?_) (fun h4 => ?_)
                · skip
                  refine z_iconst hx hb dX1_of_202 ?_
                  refine lv_istore (lv' := [(8, .int (zI 0)), (11, .int (zI dd)), (0, .ref xd), (5, .int (zI (bT z))), (9, .int (zI (k0 : Int))), (10, .int (zI (Un9 j)))]) hx hb dX1_of_203 hl (by decide) rfl (fun ls hl => ?_)
                  refine lv_iload hx hb dX1_of_205 (lv_at hl 0 rfl) ?_
                  refine z_if_eq (tgt := 232) hx hb (by omega) dX1_of_207 (by decide) (fun h5 => ?_) (fun h5 => ?_)
                  · skip
                    exact L232 0 c2 g2 cc2 hc2 (by exact Dg_skip hD2 h3 (by omega) hnx) H locs hI ls (lv_sub hl [2, 3, 0, 4, 5] rfl)
                  · skip
                    exfalso; omega
                · skip
                  exact L198  (by exact Or.inr h4) H locs hI ls (lv_sub hl [1, 2, 3, 4, 5, 0] rfl)
        refine z_ldc hx hb 100000000 hown (hts _ q112) rfl dX1_of_164 ?_
        refine lv_istore (lv' := [(10, .int (zI 100000000)), (0, .ref xd), (5, .int (zI (bT z))), (8, .int (zI any)), (9, .int (zI (k0 : Int)))]) hx hb dX1_of_166 hl (by decide) rfl (fun ls hl => ?_)
        exact L168 (10) 0 any 100000000 g1 c1 cc1 (by omega) (by omega) (by rfl) hc1 (by rw [show ((k0 : Int) + 1).toNat = k0 + 1 by omega] at hD1; exact hD1) H locs hI ls (lv_sub hl [1, 2, 3, 4, 0] rfl)
  have L143 : ∀ (w1 g1 : Int → Int) (s1 c1 : Int) (n1 : Nat), (s1 = (n1 : Int)) → (n1 ≤ 140) → (Wd w1 n1) → (wv w1 n1 = (bN z : Int)) → ∀ (H : Heap) (locs : List Loc), zW D A s.heap (dW xd xw xg cB cI w1 s1 g1 c1 pt) H locs → ∀ ls : Array Slot, lv_has ls 12 [(0, .ref xd), (5, .int (zI (bT z)))] → W p l e ({ frames := 1, cells := 0, slots := 0, locals := 26 } : Room) s m ([.ref xd, .double (zL z).toUInt64] : List Value).toArray below meth c H locs 0 0 (MQ below (va_Qv (ofP z) (zPost D A (fun u => dW xd xw xg cB cI u.1 u.2.1 u.2.2.1 u.2.2.2.1 u.2.2.2.2)) A) ([.ref xd, .double (zL z).toUInt64] : List Value).toArray s ({ frames := 1, cells := 0, slots := 0, locals := 26 } : Room).cells ({ frames := 1, cells := 0, slots := 0, locals := 26 } : Room).slots A) (F0 m 143 ls []) := by
    intro w1 g1 s1 c1 n1 hs1 hn1 hW1 hV1 H locs hI ls hl
    have hNr := wv_rng n1 hW1
    rw [hV1, nine_ten] at hNr
    refine lv_aload_n hx hb dX1_of_143 rfl (lv_at hl 0 rfl) ?_
    refine z_iconst hx hb dX1_of_144 ?_
    refine z_put (ci := 1) (v := .int (zI 0)) (ty := .int) hF hI in_X1 tyX1 tyX1_ok nmX1 0 rfl rfl 3 (by decide) q37 rfl rfl (by decide +kernel) rfl rfl (Nat.le_of_ble_eq_true rfl) dX1_of_145 (fun H locs hI => ?_)
    have hI : zW D A s.heap (dW xd xw xg cB cI w1 s1 g1 0 pt) H locs := hI
    refine z_iconst hx hb dX1_of_148 ?_
    refine lv_istore (lv' := [(8, .int (zI 0)), (0, .ref xd), (5, .int (zI (bT z)))]) hx hb dX1_of_149 hl (by decide) rfl (fun ls hl => ?_)
    refine lv_aload_n hx hb dX1_of_151 rfl (lv_at hl 1 rfl) ?_
    refine z_get (ci := 1) hF hI in_X1 0 rfl rfl 1 (by decide) q34 rfl rfl dX1_of_152 ?_
    refine z_iconst hx hb dX1_of_155 ?_
    refine z_isub hx hb dX1_of_156 ?_
    refine lv_istore (lv' := [(9, .int (zI (s1 - 1))), (8, .int (zI 0)), (0, .ref xd), (5, .int (zI (bT z)))]) hx hb dX1_of_157 hl (by decide) rfl (fun ls hl => ?_)
    exact L159 (n1 + 1) (s1 - 1) 0 w1 g1 s1 0 n1 0 (by omega) (by omega) hs1 hn1 hW1 hV1 (by rfl) (by rw [show 9 * (s1 - 1 + 1).toNat = 9 * n1 by omega, Nat.div_eq_of_lt (Int.ofNat_lt.mp hNr.2)]; exact ⟨Rw_0 g1, Or.inl ⟨rfl, rfl⟩⟩) H locs hI ls (lv_sub hl [2, 3, 1, 0] rfl)
  have L125 : ∀ (n_ : Nat), ∀ (k : Int) (w1 : Int → Int) (s1 : Int) (n1 : Nat), k - bT z + 2000 < (n_ : Int) → (k ≤ 0 ∧ (0 ≤ bT z → k = 0)) → (bT z < 0 → bT z ≤ k) → (s1 = (n1 : Int)) → (n1 ≤ 140) → (Wd w1 n1) → (wv w1 n1 = ((bB z * 5 ^ (-k).toNat : Nat) : Int)) → ∀ (H : Heap) (locs : List Loc), zW D A s.heap (dW xd xw xg cB cI w1 s1 g cnt pt) H locs → ∀ ls : Array Slot, lv_has ls 12 [(0, .ref xd), (5, .int (zI (bT z))), (8, .int (zI k))] → W p l e ({ frames := 1, cells := 0, slots := 0, locals := 26 } : Room) s m ([.ref xd, .double (zL z).toUInt64] : List Value).toArray below meth c H locs 0 0 (MQ below (va_Qv (ofP z) (zPost D A (fun u => dW xd xw xg cB cI u.1 u.2.1 u.2.2.1 u.2.2.2.1 u.2.2.2.2)) A) ([.ref xd, .double (zL z).toUInt64] : List Value).toArray s ({ frames := 1, cells := 0, slots := 0, locals := 26 } : Room).cells ({ frames := 1, cells := 0, slots := 0, locals := 26 } : Room).slots A) (F0 m 125 ls []) := by
    intro n_
    induction n_ with
    | zero =>
      intro k w1 s1 n1 hm_ hk hk2 hs1 hn1 hW1 hV1 H locs hI ls hl
      exfalso; omega
    | succ n_ ih_ =>
      intro k w1 s1 n1 hm_ hk hk2 hs1 hn1 hW1 hV1 H locs hI ls hl
      refine lv_iload hx hb dX1_of_125 (lv_at hl 2 rfl) ?_
      refine lv_iload hx hb dX1_of_127 (lv_at hl 1 rfl) ?_
      refine z_icmp_le (tgt := 143) hx hb (by omega) (by omega) dX1_of_129 (by decide) (fun h1 => ?_) (fun h1 => ?_)
      · skip
        exact L143 w1 g s1 cnt n1 hs1 hn1 hW1 (by rw [hV1, bN, show (-k).toNat = (-(bT z)).toNat by omega]) H locs hI ls (lv_sub hl [0, 1] rfl)
      · skip
        refine lv_aload_n hx hb dX1_of_132 rfl (lv_at hl 0 rfl) ?_
        refine z_iconst hx hb dX1_of_133 ?_
        refine z_callVv (n := 1) (As := [.int (zI 5)]) (rest := []) (wr := ([] : va_W)) (C := "DecimalText$Decimal") (ci := 1) hF (c_times l D cB cI xd xw xg w1 s1 g cnt pt n1 5 ((bB z * 5 ^ (-k).toNat : Nat) : Int) hs1 hn1 hW1 hV1 (by omega) (by exact nine_140 (of_five z k (by omega)) (spread_lt z (-k + 1).toNat) (by omega))) (lw_V q108 q110 qs0 q15 q111) (by decide +kernel) ⟨Nat.le_of_ble_eq_true rfl, Nat.le_of_ble_eq_true rfl⟩ hI hA [0, 1, 2] [] rfl rfl rfl rfl (by decide) rfl rfl rfl hl.1 rfl (lv_room (Nat.le_of_ble_eq_true rfl)) dX1_of_134 ⟨Nat.le_of_ble_eq_true rfl, Nat.le_of_ble_eq_true rfl⟩ (fun u H locs hu hI => ?_)
        obtain ⟨w3, s3⟩ := u
        have hI : zW D A s.heap (dW xd xw xg cB cI w3 s3 g cnt pt) H locs := hI
        obtain ⟨n3, hs3, hn3, hW3, hV3⟩ := hu
        refine lv_iinc (lv' := [(8, .int (zI (k + (-1)))), (0, .ref xd), (5, .int (zI (bT z)))]) (k := 2) hx hb dX1_of_137 hl rfl (zI_add _ _) (by decide) rfl (fun ls hl => ?_)
        refine lv_goto (tgt := 125) hx hb dX1_of_140 (by decide) ?_
        exact ih_ (k + -1) w3 s3 n3 (by omega) (by omega) (by omega) hs3 hn3 hW3 (by rw [hV3, of_five z k (by omega), show (-(k + -1)).toNat = (-k + 1).toNat by omega]) H locs hI ls (lv_sub hl [1, 2, 0] rfl)
  have L104 : ∀ (n_ : Nat), ∀ (k : Int) (w1 : Int → Int) (s1 : Int) (n1 : Nat), bT z - k + 2000 < (n_ : Int) → (0 ≤ k ∧ k ≤ (bT z).toNat) → (s1 = (n1 : Int)) → (n1 ≤ 140) → (Wd w1 n1) → (wv w1 n1 = ((bM z * 2 ^ k.toNat : Nat) : Int)) → ∀ (H : Heap) (locs : List Loc), zW D A s.heap (dW xd xw xg cB cI w1 s1 g cnt pt) H locs → ∀ ls : Array Slot, lv_has ls 12 [(0, .ref xd), (5, .int (zI (bT z))), (8, .int (zI k))] → W p l e ({ frames := 1, cells := 0, slots := 0, locals := 26 } : Room) s m ([.ref xd, .double (zL z).toUInt64] : List Value).toArray below meth c H locs 0 0 (MQ below (va_Qv (ofP z) (zPost D A (fun u => dW xd xw xg cB cI u.1 u.2.1 u.2.2.1 u.2.2.2.1 u.2.2.2.2)) A) ([.ref xd, .double (zL z).toUInt64] : List Value).toArray s ({ frames := 1, cells := 0, slots := 0, locals := 26 } : Room).cells ({ frames := 1, cells := 0, slots := 0, locals := 26 } : Room).slots A) (F0 m 104 ls []) := by
    intro n_
    induction n_ with
    | zero =>
      intro k w1 s1 n1 hm_ hk hs1 hn1 hW1 hV1 H locs hI ls hl
      exfalso; omega
    | succ n_ ih_ =>
      intro k w1 s1 n1 hm_ hk hs1 hn1 hW1 hV1 H locs hI ls hl
      refine lv_iload hx hb dX1_of_104 (lv_at hl 2 rfl) ?_
      refine lv_iload hx hb dX1_of_106 (lv_at hl 1 rfl) ?_
      refine z_icmp_ge (tgt := 122) hx hb (by omega) (by omega) dX1_of_108 (by decide) (fun h1 => ?_) (fun h1 => ?_)
      · skip
        refine z_iconst hx hb dX1_of_122 ?_
        refine lv_istore (lv' := [(8, .int (zI 0)), (0, .ref xd), (5, .int (zI (bT z)))]) hx hb dX1_of_123 hl (by decide) rfl (fun ls hl => ?_)
        exact L125 (4000) 0 w1 s1 n1 (by omega) (by omega) (by omega) hs1 hn1 hW1 (by rw [hV1, show (-(0 : Int)).toNat = 0 from rfl, Nat.pow_zero, Nat.mul_one, bB, show k.toNat = (bT z).toNat by omega]) H locs hI ls (lv_sub hl [1, 2, 0] rfl)
      · skip
        refine lv_aload_n hx hb dX1_of_111 rfl (lv_at hl 0 rfl) ?_
        refine z_iconst hx hb dX1_of_112 ?_
        refine z_callVv (n := 1) (As := [.int (zI 2)]) (rest := []) (wr := ([] : va_W)) (C := "DecimalText$Decimal") (ci := 1) hF (c_times l D cB cI xd xw xg w1 s1 g cnt pt n1 2 ((bM z * 2 ^ k.toNat : Nat) : Int) hs1 hn1 hW1 hV1 (by omega) (by exact nine_140 (of_two z k (by omega)) (spread_lt2 z (k + 1).toNat) (by omega))) (lw_V q108 q110 qs0 q15 q111) (by decide +kernel) ⟨Nat.le_of_ble_eq_true rfl, Nat.le_of_ble_eq_true rfl⟩ hI hA [0, 1, 2] [] rfl rfl rfl rfl (by decide) rfl rfl rfl hl.1 rfl (lv_room (Nat.le_of_ble_eq_true rfl)) dX1_of_113 ⟨Nat.le_of_ble_eq_true rfl, Nat.le_of_ble_eq_true rfl⟩ (fun u H locs hu hI => ?_)
        obtain ⟨w3, s3⟩ := u
        have hI : zW D A s.heap (dW xd xw xg cB cI w3 s3 g cnt pt) H locs := hI
        obtain ⟨n3, hs3, hn3, hW3, hV3⟩ := hu
        refine lv_iinc (lv' := [(8, .int (zI (k + 1))), (0, .ref xd), (5, .int (zI (bT z)))]) (k := 2) hx hb dX1_of_116 hl rfl (zI_add _ _) (by decide) rfl (fun ls hl => ?_)
        refine lv_goto (tgt := 104) hx hb dX1_of_119 (by decide) ?_
        exact ih_ (k + 1) w3 s3 n3 (by omega) (by omega) hs3 hn3 hW3 (by rw [hV3]; exact of_two z k (by omega)) H locs hI ls (lv_sub hl [1, 2, 0] rfl)
  have L57 : ∀ (n_ : Nat), ∀ (v s1 : Int) (w1 : Int → Int) (n1 : Nat), v < (n_ : Int) → (v < 9007199254740992) → (s1 = (n1 : Int)) → (n1 ≤ 140) → (Tc w1 n1 v (bM z : Int)) → ∀ (H : Heap) (locs : List Loc), zW D A s.heap (dW xd xw xg cB cI w1 s1 g cnt pt) H locs → ∀ ls : Array Slot, lv_has ls 12 [(0, .ref xd), (5, .int (zI (bT z))), (8, .long (zL v))] → W p l e ({ frames := 1, cells := 0, slots := 0, locals := 26 } : Room) s m ([.ref xd, .double (zL z).toUInt64] : List Value).toArray below meth c H locs 0 0 (MQ below (va_Qv (ofP z) (zPost D A (fun u => dW xd xw xg cB cI u.1 u.2.1 u.2.2.1 u.2.2.2.1 u.2.2.2.2)) A) ([.ref xd, .double (zL z).toUInt64] : List Value).toArray s ({ frames := 1, cells := 0, slots := 0, locals := 26 } : Room).cells ({ frames := 1, cells := 0, slots := 0, locals := 26 } : Room).slots A) (F0 m 57 ls []) := by
    intro n_
    induction n_ with
    | zero =>
      intro v s1 w1 n1 hm_ hv hs1 hn1 hC H locs hI ls hl
      exfalso; have := hC.2.1; omega
    | succ n_ ih_ =>
      intro v s1 w1 n1 hm_ hv hs1 hn1 hC H locs hI ls hl
      have hvr := hC.2.1
      refine lv_lload hx hb dX1_of_57 (lv_at hl 2 rfl) ?_
      refine z_lconst hx hb 0 dX1_of_59 (by decide) ?_
      refine z_lcmp_le (tgt := 101) hx hb (by omega) (by omega) dX1_of_60 dX1_of_61 (by decide) (fun h1 => ?_) (fun h1 => ?_)
      · skip
        obtain ⟨he1, he2⟩ := Tc_end hC h1
        refine z_iconst hx hb dX1_of_101 ?_
        refine lv_istore (lv' := [(8, .int (zI 0)), (0, .ref xd), (5, .int (zI (bT z)))]) hx hb dX1_of_102 hl (by decide) rfl (fun ls hl => ?_)
        exact L104 (4000) 0 w1 s1 n1 (by omega) (by omega) hs1 hn1 he1 (by rw [he2, show (0 : Int).toNat = 0 from rfl, Nat.pow_zero, Nat.mul_one]) H locs hI ls (lv_sub hl [1, 2, 0] rfl)
      · skip
        have hlt := Tc_lt hC h1 (show ((bM z : Nat) : Int) < ((1000000000 ^ 140 : Nat) : Int) from nine_140 rfl (show bM z < 10 ^ 16 by omega) (by decide))
        refine lv_aload_n hx hb dX1_of_64 rfl (lv_at hl 0 rfl) ?_
        refine z_get (ci := 1) hF hI in_X1 0 rfl rfl 0 (by decide) q33 rfl rfl dX1_of_65 ?_
        refine lv_aload_n hx hb dX1_of_68 rfl (lv_at hl 0 rfl) ?_
        refine z_get (ci := 1) hF hI in_X1 0 rfl rfl 1 (by decide) q34 rfl rfl dX1_of_69 ?_
        refine lv_lload hx hb dX1_of_72 (lv_at hl 2 rfl) ?_
        refine z_ldc2 hx hb 1000000000 hown (hts _ q107) rfl dX1_of_74 ?_
        refine z_lrem hx hb (by omega) (by omega) dX1_of_77 ?_
        refine z_l2i hx hb dX1_of_78 ?_
        refine z_iast hF hI 1 rfl (by omega) (by omega) dX1_of_79 (fun H locs hI => ?_)
        have hI : zW D A s.heap (dW xd xw xg cB cI (zup w1 s1 (v % 1000000000)) s1 g cnt pt) H locs := hI
        refine lv_aload_n hx hb dX1_of_80 rfl (lv_at hl 0 rfl) ?_
        refine lv_dup hx hb dX1_of_81 rfl ?_
        refine z_get (ci := 1) hF hI in_X1 0 rfl rfl 1 (by decide) q34 rfl rfl dX1_of_82 ?_
        refine z_iconst hx hb dX1_of_85 ?_
        refine z_iadd hx hb dX1_of_86 ?_
        refine z_put (ci := 1) (v := .int (zI (s1 + 1))) (ty := .int) hF hI in_X1 tyX1 tyX1_ok nmX1 0 rfl rfl 1 (by decide) q34 rfl rfl (by decide +kernel) rfl rfl (Nat.le_of_ble_eq_true rfl) dX1_of_87 (fun H locs hI => ?_)
        have hI : zW D A s.heap (dW xd xw xg cB cI (zup w1 s1 (v % 1000000000)) (s1 + 1) g cnt pt) H locs := hI
        refine lv_lload hx hb dX1_of_90 (lv_at hl 2 rfl) ?_
        refine z_ldc2 hx hb 1000000000 hown (hts _ q107) rfl dX1_of_92 ?_
        refine z_ldiv hx hb (by omega) (by omega) dX1_of_95 ?_
        refine lv_lstore (lv' := [(8, .long (zL (v / 1000000000))), (0, .ref xd), (5, .int (zI (bT z)))]) hx hb dX1_of_96 hl (by decide) rfl (fun ls hl => ?_)
        refine lv_goto (tgt := 57) hx hb dX1_of_98 (by decide) ?_
        exact ih_ (v / 1000000000) (s1 + 1) (zup w1 s1 (v % 1000000000)) (n1 + 1) (by omega) (by omega) (by omega) (by omega) (by rw [hs1]; exact Tc_step hC) H locs hI ls (lv_sub hl [1, 2, 0] rfl)
  have L42 : ∀ (xe xf : Int), (xe + -1075 = bT z) → (xf = (bM z : Int)) → ∀ (H : Heap) (locs : List Loc), zW D A s.heap (dW xd xw xg cB cI w sz g cnt pt) H locs → ∀ ls : Array Slot, lv_has ls 12 [(0, .ref xd), (5, .int (zI xe)), (6, .long (zL xf))] → W p l e ({ frames := 1, cells := 0, slots := 0, locals := 26 } : Room) s m ([.ref xd, .double (zL z).toUInt64] : List Value).toArray below meth c H locs 0 0 (MQ below (va_Qv (ofP z) (zPost D A (fun u => dW xd xw xg cB cI u.1 u.2.1 u.2.2.1 u.2.2.2.1 u.2.2.2.2)) A) ([.ref xd, .double (zL z).toUInt64] : List Value).toArray s ({ frames := 1, cells := 0, slots := 0, locals := 26 } : Room).cells ({ frames := 1, cells := 0, slots := 0, locals := 26 } : Room).slots A) (F0 m 42 ls []) := by
    intro xe xf hxe hxf H locs hI ls hl
    subst hxf
    refine lv_iincW (lv' := [(5, .int (zI (xe + (-1075)))), (0, .ref xd), (6, .long (zL (bM z : Int)))]) (k := 1) hx hb dX1_of_42 hl rfl (zI_add _ _) (by decide) rfl (fun ls hl => ?_)
    rw [hxe] at hl
    refine lv_aload_n hx hb dX1_of_48 rfl (lv_at hl 1 rfl) ?_
    refine z_iconst hx hb dX1_of_49 ?_
    refine z_put (ci := 1) (v := .int (zI 0)) (ty := .int) hF hI in_X1 tyX1 tyX1_ok nmX1 0 rfl rfl 1 (by decide) q34 rfl rfl (by decide +kernel) rfl rfl (Nat.le_of_ble_eq_true rfl) dX1_of_50 (fun H locs hI => ?_)
    have hI : zW D A s.heap (dW xd xw xg cB cI w 0 g cnt pt) H locs := hI
    refine lv_lload hx hb dX1_of_53 (lv_at hl 2 rfl) ?_
    refine lv_lstore (lv' := [(8, .long (zL (bM z : Int))), (5, .int (zI (bT z))), (0, .ref xd), (6, .long (zL (bM z : Int)))]) hx hb dX1_of_55 hl (by decide) rfl (fun ls hl => ?_)
    exact L57 (bM z + 1) (bM z : Int) 0 w 0 (by omega) (by omega) (by rfl) (by omega) (by exact Tc_init w (by omega)) H locs hI ls (lv_sub hl [2, 1, 0] rfl)
  refine lv_dload_n hx hb dX1_of_0 rfl (lv_at hl 1 rfl) ?_
  refine z_d2l hF hl.1 q101 (Nat.le_of_ble_eq_true rfl) (Nat.le_of_ble_eq_true rfl) dX1_of_1 ?_
  refine lv_lstore_n (lv' := [(3, .long (zL z)), (0, .ref xd), (1, .double (zL z).toUInt64)]) hx hb dX1_of_4 rfl hl (by decide) rfl (fun ls hl => ?_)
  refine lv_lload_n hx hb dX1_of_5 rfl (lv_at hl 0 rfl) ?_
  refine z_bipush hx hb dX1_of_6 (by decide) ?_
  refine z_lshr52 hx hb (by omega) dX1_of_8 ?_
  refine z_ldc2 hx hb 2047 hown (hts _ q104) rfl dX1_of_9 ?_
  refine z_land11 hx hb dX1_of_12 ?_
  refine z_l2i hx hb dX1_of_13 ?_
  refine lv_istore (lv' := [(5, .int (zI ((z / 4503599627370496) % 2048))), (3, .long (zL z)), (0, .ref xd), (1, .double (zL z).toUInt64)]) hx hb dX1_of_14 hl (by decide) rfl (fun ls hl => ?_)
  refine lv_lload_n hx hb dX1_of_16 rfl (lv_at hl 1 rfl) ?_
  refine z_ldc2 hx hb 4503599627370495 hown (hts _ q105) rfl dX1_of_17 ?_
  refine z_land52 hx hb dX1_of_20 ?_
  refine lv_lstore (lv' := [(6, .long (zL (z % 4503599627370496))), (5, .int (zI ((z / 4503599627370496) % 2048))), (3, .long (zL z)), (0, .ref xd), (1, .double (zL z).toUInt64)]) hx hb dX1_of_21 hl (by decide) rfl (fun ls hl => ?_)
  refine lv_iload hx hb dX1_of_23 (lv_at hl 1 rfl) ?_
  refine z_if_le (tgt := 39) hx hb (by omega) dX1_of_25 (by decide) (fun h0_ => ?_) (fun h0_ => ?_)
  · skip
    refine z_iconst hx hb dX1_of_39 ?_
    refine lv_istore (lv' := [(5, .int (zI 1)), (6, .long (zL (z % 4503599627370496))), (3, .long (zL z)), (0, .ref xd), (1, .double (zL z).toUInt64)]) hx hb dX1_of_40 hl (by decide) rfl (fun ls hl => ?_)
    exact L42 1 (z % 4503599627370496) (by unfold bT; split <;> omega) (by unfold bM; split <;> omega) H locs hI ls (lv_sub hl [3, 0, 1] rfl)
  · skip
    refine lv_lload hx hb dX1_of_28 (lv_at hl 0 rfl) ?_
    refine z_ldc2 hx hb 4503599627370496 hown (hts _ q106) rfl dX1_of_30 ?_
    refine z_lor52 hx hb (by omega) dX1_of_33 ?_
    refine lv_lstore (lv' := [(6, .long (zL ((z % 4503599627370496) + 4503599627370496))), (5, .int (zI ((z / 4503599627370496) % 2048))), (3, .long (zL z)), (0, .ref xd), (1, .double (zL z).toUInt64)]) hx hb dX1_of_34 hl (by decide) rfl (fun ls hl => ?_)
    refine lv_goto (tgt := 42) hx hb dX1_of_36 (by decide) ?_
    exact L42 (z / 4503599627370496 % 2048) (z % 4503599627370496 + 4503599627370496) (by unfold bT; split <;> omega) (by unfold bM; split <;> omega) H locs hI ls (lv_sub hl [3, 1, 0] rfl)
end
section
/-! the component: round -/
set_option maxHeartbeats 4000000 in
set_option maxRecDepth 100000 in
/-- round(k): the first k digits, rounded -/
theorem c_round (l : Launch) (D : va_G) (cB cI : ClassId) (xd xw xg : Nat) (w : Int → Int) (sz : Int) (g : Int → Int) (cnt pt : Int) (n v : Nat) (k : Int) (hc : cnt = (n : Int)) (hR : Rw g n v) (hn : n ≤ 1290) (hpt : -100000 ≤ pt ∧ pt ≤ 100000) (hld : n = 0 ∨ 10 ^ n ≤ 10 * v) (hk : -100000 ≤ k ∧ k ≤ 100000) : zMv (S := (Int → Int) × Int × Int) l yX1_round cX1_round 7 ({ frames := 0, cells := 0, slots := 0, locals := 0 } : Room) D cB cI ([.ref xd, .int (zI k)] : List Value) (dW xd xw xg cB cI w sz g cnt pt) (rndP n v pt k) (fun u => dW xd xw xg cB cI w sz u.1 u.2.1 u.2.2) := by
  refine z_metv (by decide) (Nat.le_of_ble_eq_true rfl) ?_
  intro p e s m below meth c A hF hr hlk hnm hA hI ls hl
  have hx := hF.1
  have hb := hF.2.1
  have hown := hF.2.2.2.1
  have hts := hF.2.2.2.2.1
  have hl : lv_has ls 7 [(0, .ref xd), (1, .int (zI k))] := hl
  obtain ⟨H, eH⟩ : ∃ H : Heap, H = s.heap := ⟨_, rfl⟩
  obtain ⟨locs, eL⟩ : ∃ L : List Loc, L = [] := ⟨_, rfl⟩
  have hI : zW D A s.heap (dW xd xw xg cB cI w sz g cnt pt) H locs := by rw [eH, eL]; exact hI
  suffices hgo : W p l e ({ frames := 0, cells := 0, slots := 0, locals := 0 } : Room) s m ([.ref xd, .int (zI k)] : List Value).toArray below meth c H locs 0 0 (MQ below (va_Qv (rndP n v pt k) (zPost D A (fun u => dW xd xw xg cB cI w sz u.1 u.2.1 u.2.2)) A) ([.ref xd, .int (zI k)] : List Value).toArray s ({ frames := 0, cells := 0, slots := 0, locals := 0 } : Room).cells ({ frames := 0, cells := 0, slots := 0, locals := 0 } : Room).slots A) (F0 m 0 ls []) by rw [eH, eL] at hgo; exact hgo
  clear eH eL
  have L240 : ∀ (g2 : Int → Int) (c2 p2 : Int) (n2 w2 : Nat), (0 ≤ k ∧ k < n) → (c2 = (n2 : Int)) → (Rw g2 n2 w2) → ((n2 : Int) ≤ k + 1) → (n2 = 0 ∨ 10 ^ n2 ≤ 10 * w2) → (w2 = rup v ((n : Int) - k).toNat) → (p2 - n2 = pt - k) → ∀ (H : Heap) (locs : List Loc), zW D A s.heap (dW xd xw xg cB cI w sz g2 c2 p2) H locs → ∀ ls : Array Slot, lv_has ls 7 [(0, .ref xd)] → W p l e ({ frames := 0, cells := 0, slots := 0, locals := 0 } : Room) s m ([.ref xd, .int (zI k)] : List Value).toArray below meth c H locs 0 0 (MQ below (va_Qv (rndP n v pt k) (zPost D A (fun u => dW xd xw xg cB cI w sz u.1 u.2.1 u.2.2)) A) ([.ref xd, .int (zI k)] : List Value).toArray s ({ frames := 0, cells := 0, slots := 0, locals := 0 } : Room).cells ({ frames := 0, cells := 0, slots := 0, locals := 0 } : Room).slots A) (F0 m 240 ls []) := by
    intro g2 c2 p2 n2 w2 hk0 hc2 hR2 hn2 hl2 hw2 hp2 H locs hI ls hl
    exact z_vret (S := (Int → Int) × Int × Int) (post := (rndP n v pt k)) (w' := (fun u => dW xd xw xg cB cI w sz u.1 u.2.1 u.2.2)) hF hr hlk hI (g2, c2, p2) ⟨n2, w2, hc2, by omega, hR2, hl2, by rw [if_neg (by omega)]; exact ⟨hw2, fun _ => by omega, fun _ => by omega⟩⟩ rfl dX1_round_240
  have L186 : ∀ (n_ : Nat), ∀ (i5 : Int) (g1 g2 : Int → Int), i5 < (n_ : Int) → (0 ≤ k ∧ k < n) → (rup v ((n : Int) - k).toNat = v / 10 ^ ((n : Int) - k).toNat + 1) → (Rw g k.toNat (v / 10 ^ ((n : Int) - k).toNat)) → (Cy g k.toNat (v / 10 ^ ((n : Int) - k).toNat) (-1) g1) → (0 ≤ i5 ∧ i5 ≤ k) → (∀ i : Int, i5 < i → i ≤ k → g2 i = g1 (i - 1)) → (∀ i : Int, 0 ≤ i → i ≤ i5 → g2 i = g1 i) → ∀ (H : Heap) (locs : List Loc), zW D A s.heap (dW xd xw xg cB cI w sz g2 k pt) H locs → ∀ ls : Array Slot, lv_has ls 7 [(0, .ref xd), (6, .int (zI i5))] → W p l e ({ frames := 0, cells := 0, slots := 0, locals := 0 } : Room) s m ([.ref xd, .int (zI k)] : List Value).toArray below meth c H locs 0 0 (MQ below (va_Qv (rndP n v pt k) (zPost D A (fun u => dW xd xw xg cB cI w sz u.1 u.2.1 u.2.2)) A) ([.ref xd, .int (zI k)] : List Value).toArray s ({ frames := 0, cells := 0, slots := 0, locals := 0 } : Room).cells ({ frames := 0, cells := 0, slots := 0, locals := 0 } : Room).slots A) (F0 m 186 ls []) := by
    intro n_
    induction n_ with
    | zero =>
      intro i5 g1 g2 hm_ hk0 hup hRq hC hi5 hs hk2 H locs hI ls hl
      exfalso; omega
    | succ n_ ih_ =>
      intro i5 g1 g2 hm_ hk0 hup hRq hC hi5 hs hk2 H locs hI ls hl
      refine lv_iload hx hb dX1_round_186 (lv_at hl 1 rfl) ?_
      refine z_if_le (tgt := 213) hx hb (by omega) dX1_round_188 (by decide) (fun h1 => ?_) (fun h1 => ?_)
      · skip
        refine lv_aload_n hx hb dX1_round_213 rfl (lv_at hl 0 rfl) ?_
        refine z_get (ci := 1) hF hI in_X1 0 rfl rfl 2 (by decide) q35 rfl rfl dX1_round_214 ?_
        refine z_iconst hx hb dX1_round_217 ?_
        refine z_iconst hx hb dX1_round_218 ?_
        refine z_bast hF hI 2 rfl (by omega) (by omega) (by omega) dX1_round_219 (fun H locs hI => ?_)
        have hI : zW D A s.heap (dW xd xw xg cB cI w sz (zup g2 0 1) k pt) H locs := hI
        refine lv_aload_n hx hb dX1_round_220 rfl (lv_at hl 0 rfl) ?_
        refine lv_dup hx hb dX1_round_221 rfl ?_
        refine z_get (ci := 1) hF hI in_X1 0 rfl rfl 3 (by decide) q37 rfl rfl dX1_round_222 ?_
        refine z_iconst hx hb dX1_round_225 ?_
        refine z_iadd hx hb dX1_round_226 ?_
        refine z_put (ci := 1) (v := .int (zI (k + 1))) (ty := .int) hF hI in_X1 tyX1 tyX1_ok nmX1 0 rfl rfl 3 (by decide) q37 rfl rfl (by decide +kernel) rfl rfl (Nat.le_of_ble_eq_true rfl) dX1_round_227 (fun H locs hI => ?_)
        have hI : zW D A s.heap (dW xd xw xg cB cI w sz (zup g2 0 1) (k + 1) pt) H locs := hI
        refine lv_aload_n hx hb dX1_round_230 rfl (lv_at hl 0 rfl) ?_
        refine lv_dup hx hb dX1_round_231 rfl ?_
        refine z_get (ci := 1) hF hI in_X1 0 rfl rfl 4 (by decide) q39 rfl rfl dX1_round_232 ?_
        refine z_iconst hx hb dX1_round_235 ?_
        refine z_iadd hx hb dX1_round_236 ?_
        refine z_put (ci := 1) (v := .int (zI (pt + 1))) (ty := .int) hF hI in_X1 tyX1 tyX1_ok nmX1 0 rfl rfl 4 (by decide) q39 rfl rfl (by decide +kernel) rfl rfl (Nat.le_of_ble_eq_true rfl) dX1_round_237 (fun H locs hI => ?_)
        have hI : zW D A s.heap (dW xd xw xg cB cI w sz (zup g2 0 1) (k + 1) (pt + 1)) H locs := hI
        obtain ⟨ha1, ha2⟩ := Cy_all (g2 := g2) hRq hC (fun i q1 q2 => hs i (by omega) (by omega))
        exact L240 (zup g2 0 1) (k + 1) (pt + 1) (k.toNat + 1) (v / 10 ^ ((n : Int) - k).toNat + 1) hk0 (by omega) ha2 (by omega) (by right; have := ten_succ k.toNat; omega) hup.symm (by omega) H locs hI ls (lv_sub hl [0] rfl)
      · skip
        have hrg : g2 (i5 - 1) = 0 := by rw [hk2 (i5 - 1) (by omega) (by omega)]; exact hC.2.1 _ (by omega) (by omega)
        refine lv_aload_n hx hb dX1_round_191 rfl (lv_at hl 0 rfl) ?_
        refine z_get (ci := 1) hF hI in_X1 0 rfl rfl 2 (by decide) q35 rfl rfl dX1_round_192 ?_
        refine lv_iload hx hb dX1_round_195 (lv_at hl 1 rfl) ?_
        refine lv_aload_n hx hb dX1_round_197 rfl (lv_at hl 0 rfl) ?_
        refine z_get (ci := 1) hF hI in_X1 0 rfl rfl 2 (by decide) q35 rfl rfl dX1_round_198 ?_
        refine lv_iload hx hb dX1_round_201 (lv_at hl 1 rfl) ?_
        refine z_iconst hx hb dX1_round_203 ?_
        refine z_isub hx hb dX1_round_204 ?_
        refine z_bald hF hI 2 rfl (by omega) (by omega) dX1_round_205 ?_
        refine z_bast hF hI 2 rfl (by omega) (by omega) (by omega) dX1_round_206 (fun H locs hI => ?_)
        have hI : zW D A s.heap (dW xd xw xg cB cI w sz (zup g2 i5 (g2 (i5 - 1))) k pt) H locs := hI
        refine lv_iinc (lv' := [(6, .int (zI (i5 + (-1)))), (0, .ref xd)]) (k := 1) hx hb dX1_round_207 hl rfl (zI_add _ _) (by decide) rfl (fun ls hl => ?_)
        refine lv_goto (tgt := 186) hx hb dX1_round_210 (by decide) ?_
        exact ih_ (i5 + -1) g1 (zup g2 i5 (g2 (i5 - 1))) (by omega) hk0 hup hRq hC (by omega) (by intro i q1 q2; by_cases q : i = i5; (rw [q, zup_same]; exact hk2 _ (by omega) (by omega)); (rw [zup_ne _ _ q]; exact hs i (by omega) q2)) (by intro i q1 q2; rw [zup_ne _ _ (by omega)]; exact hk2 i q1 (by omega)) H locs hI ls (lv_sub hl [1, 0] rfl)
  have L160 : ∀ (j : Int) (g1 : Int → Int), (0 ≤ k ∧ k < n) → (rup v ((n : Int) - k).toNat = v / 10 ^ ((n : Int) - k).toNat + 1) → (Rw g k.toNat (v / 10 ^ ((n : Int) - k).toNat)) → (-1 ≤ j ∧ j < k) → (Cy g k.toNat (v / 10 ^ ((n : Int) - k).toNat) j g1) → (0 ≤ j → g1 j ≠ 9) → ∀ (H : Heap) (locs : List Loc), zW D A s.heap (dW xd xw xg cB cI w sz g1 k pt) H locs → ∀ ls : Array Slot, lv_has ls 7 [(0, .ref xd), (1, .int (zI k)), (5, .int (zI j))] → W p l e ({ frames := 0, cells := 0, slots := 0, locals := 0 } : Room) s m ([.ref xd, .int (zI k)] : List Value).toArray below meth c H locs 0 0 (MQ below (va_Qv (rndP n v pt k) (zPost D A (fun u => dW xd xw xg cB cI w sz u.1 u.2.1 u.2.2)) A) ([.ref xd, .int (zI k)] : List Value).toArray s ({ frames := 0, cells := 0, slots := 0, locals := 0 } : Room).cells ({ frames := 0, cells := 0, slots := 0, locals := 0 } : Room).slots A) (F0 m 160 ls []) := by
    intro j g1 hk0 hup hRq hj hC h9 H locs hI ls hl
    refine lv_iload hx hb dX1_round_160 (lv_at hl 2 rfl) ?_
    refine z_if_lt (tgt := 180) hx hb (by omega) dX1_round_162 (by decide) (fun h1 => ?_) (fun h1 => ?_)
    · skip
      rw [show j = -1 by omega] at hC
      refine lv_aload_n hx hb dX1_round_180 rfl (lv_at hl 0 rfl) ?_
      refine z_get (ci := 1) hF hI in_X1 0 rfl rfl 3 (by decide) q37 rfl rfl dX1_round_181 ?_
      refine lv_istore (lv' := [(6, .int (zI k)), (0, .ref xd), (1, .int (zI k)), (5, .int (zI j))]) hx hb dX1_round_184 hl (by decide) rfl (fun ls hl => ?_)
      exact L186 (k.toNat + 1) k g1 g1 (by omega) hk0 hup hRq hC (by omega) (by intro i q1 q2; exfalso; omega) (by intro i q1 q2; rfl) H locs hI ls (lv_sub hl [1, 0] rfl)
    · skip
      have hrg := Cy_rng hRq (by omega) hC
      have hne := h9 h1
      refine lv_aload_n hx hb dX1_round_165 rfl (lv_at hl 0 rfl) ?_
      refine z_get (ci := 1) hF hI in_X1 0 rfl rfl 2 (by decide) q35 rfl rfl dX1_round_166 ?_
      refine lv_iload hx hb dX1_round_169 (lv_at hl 2 rfl) ?_
      refine lv_dup2_11 hx hb dX1_round_171 rfl rfl ?_
      refine z_bald hF hI 2 rfl (by omega) (by omega) dX1_round_172 ?_
      refine z_iconst hx hb dX1_round_173 ?_
      refine z_iadd hx hb dX1_round_174 ?_
      refine z_i2b hx hb (by omega) dX1_round_175 ?_
      refine z_bast hF hI 2 rfl (by omega) (by omega) (by omega) dX1_round_176 (fun H locs hI => ?_)
      have hI : zW D A s.heap (dW xd xw xg cB cI w sz (zup g1 j ((g1 j) + 1)) k pt) H locs := hI
      refine lv_goto (tgt := 240) hx hb dX1_round_177 (by decide) ?_
      exact L240 (zup g1 j (g1 j + 1)) k pt k.toNat (v / 10 ^ ((n : Int) - k).toNat + 1) hk0 (by omega) (by exact Cy_put hRq (by omega) hC hne) (by omega) (by exact lead_up (lead_cut hld hk0)) hup.symm (by omega) H locs hI ls (lv_sub hl [0] rfl)
  have L129 : ∀ (n_ : Nat), ∀ (j : Int) (g1 : Int → Int), j + 1 < (n_ : Int) → (0 ≤ k ∧ k < n) → (rup v ((n : Int) - k).toNat = v / 10 ^ ((n : Int) - k).toNat + 1) → (Rw g k.toNat (v / 10 ^ ((n : Int) - k).toNat)) → (-1 ≤ j ∧ j < k) → (Cy g k.toNat (v / 10 ^ ((n : Int) - k).toNat) j g1) → ∀ (H : Heap) (locs : List Loc), zW D A s.heap (dW xd xw xg cB cI w sz g1 k pt) H locs → ∀ ls : Array Slot, lv_has ls 7 [(0, .ref xd), (1, .int (zI k)), (5, .int (zI j))] → W p l e ({ frames := 0, cells := 0, slots := 0, locals := 0 } : Room) s m ([.ref xd, .int (zI k)] : List Value).toArray below meth c H locs 0 0 (MQ below (va_Qv (rndP n v pt k) (zPost D A (fun u => dW xd xw xg cB cI w sz u.1 u.2.1 u.2.2)) A) ([.ref xd, .int (zI k)] : List Value).toArray s ({ frames := 0, cells := 0, slots := 0, locals := 0 } : Room).cells ({ frames := 0, cells := 0, slots := 0, locals := 0 } : Room).slots A) (F0 m 129 ls []) := by
    intro n_
    induction n_ with
    | zero =>
      intro j g1 hm_ hk0 hup hRq hj hC H locs hI ls hl
      exfalso; omega
    | succ n_ ih_ =>
      intro j g1 hm_ hk0 hup hRq hj hC H locs hI ls hl
      refine lv_iload hx hb dX1_round_129 (lv_at hl 2 rfl) ?_
      refine z_if_lt (tgt := 160) hx hb (by omega) dX1_round_131 (by decide) (fun h1 => ?_) (fun h1 => ?_)
      · skip
        exact L160 j g1 hk0 hup hRq hj hC (by intro q; exfalso; omega) H locs hI ls (lv_sub hl [0, 1, 2] rfl)
      · skip
        have hrg := Cy_rng hRq (by omega) hC
        refine lv_aload_n hx hb dX1_round_134 rfl (lv_at hl 0 rfl) ?_
        refine z_get (ci := 1) hF hI in_X1 0 rfl rfl 2 (by decide) q35 rfl rfl dX1_round_135 ?_
        refine lv_iload hx hb dX1_round_138 (lv_at hl 2 rfl) ?_
        refine z_bald hF hI 2 rfl (by omega) (by omega) dX1_round_140 ?_
        refine z_bipush hx hb dX1_round_141 (by decide) ?_
        refine z_icmp_ne (tgt := 160) hx hb (by omega) (by omega) dX1_round_143 (by decide) (fun h2 => ?_) (fun h2 => ?_)
        · skip
          exact L160 j g1 hk0 hup hRq hj hC (by exact fun _ => h2) H locs hI ls (lv_sub hl [0, 1, 2] rfl)
        · skip
          refine lv_aload_n hx hb dX1_round_146 rfl (lv_at hl 0 rfl) ?_
          refine z_get (ci := 1) hF hI in_X1 0 rfl rfl 2 (by decide) q35 rfl rfl dX1_round_147 ?_
          refine lv_iload hx hb dX1_round_150 (lv_at hl 2 rfl) ?_
          refine z_iconst hx hb dX1_round_152 ?_
          refine z_bast hF hI 2 rfl (by omega) (by omega) (by omega) dX1_round_153 (fun H locs hI => ?_)
          have hI : zW D A s.heap (dW xd xw xg cB cI w sz (zup g1 j 0) k pt) H locs := hI
          refine lv_iinc (lv' := [(5, .int (zI (j + (-1)))), (0, .ref xd), (1, .int (zI k))]) (k := 2) hx hb dX1_round_154 hl rfl (zI_add _ _) (by decide) rfl (fun ls hl => ?_)
          refine lv_goto (tgt := 129) hx hb dX1_round_157 (by decide) ?_
          exact ih_ (j + -1) (zup g1 j 0) (by omega) hk0 hup hRq (by omega) (by rw [show j + -1 = j - 1 by omega]; exact Cy_step hRq (by omega) hC h2) H locs hI ls (lv_sub hl [1, 2, 0] rfl)
  have L111 : ∀ (up : Int), (0 ≤ k ∧ k < n) → (rup v ((n : Int) - k).toNat = v / 10 ^ ((n : Int) - k).toNat + up.toNat) → (up = 0 ∨ up = 1) → ∀ (H : Heap) (locs : List Loc), zW D A s.heap (dW xd xw xg cB cI w sz g cnt pt) H locs → ∀ ls : Array Slot, lv_has ls 7 [(0, .ref xd), (1, .int (zI k))] → W p l e ({ frames := 0, cells := 0, slots := 0, locals := 0 } : Room) s m ([.ref xd, .int (zI k)] : List Value).toArray below meth c H locs 0 0 (MQ below (va_Qv (rndP n v pt k) (zPost D A (fun u => dW xd xw xg cB cI w sz u.1 u.2.1 u.2.2)) A) ([.ref xd, .int (zI k)] : List Value).toArray s ({ frames := 0, cells := 0, slots := 0, locals := 0 } : Room).cells ({ frames := 0, cells := 0, slots := 0, locals := 0 } : Room).slots A) (F0 m 111 ls [.int (zI up)]) := by
    intro up hk0 hup hu1 H locs hI ls hl
    have hRq := Rw_cut hR (k := k.toNat) (by omega)
    rw [show n - k.toNat = ((n : Int) - k).toNat by omega] at hRq
    refine lv_istore (lv' := [(4, .int (zI up)), (0, .ref xd), (1, .int (zI k))]) hx hb dX1_round_111 hl (by decide) rfl (fun ls hl => ?_)
    refine lv_aload_n hx hb dX1_round_113 rfl (lv_at hl 1 rfl) ?_
    refine lv_iload_n hx hb dX1_round_114 rfl (lv_at hl 2 rfl) ?_
    refine z_put (ci := 1) (v := .int (zI k)) (ty := .int) hF hI in_X1 tyX1 tyX1_ok nmX1 0 rfl rfl 3 (by decide) q37 rfl rfl (by decide +kernel) rfl rfl (Nat.le_of_ble_eq_true rfl) dX1_round_115 (fun H locs hI => ?_)
    have hI : zW D A s.heap (dW xd xw xg cB cI w sz g k pt) H locs := hI
    refine lv_iload hx hb dX1_round_118 (lv_at hl 0 rfl) ?_
    refine z_if_ne (tgt := 124) hx hb (by omega) dX1_round_120 (by decide) (fun h1 => ?_) (fun h1 => ?_)
    · skip
      refine lv_iload_n hx hb dX1_round_124 rfl (lv_at hl 2 rfl) ?_
      refine z_iconst hx hb dX1_round_125 ?_
      refine z_isub hx hb dX1_round_126 ?_
      refine lv_istore (lv' := [(5, .int (zI (k - 1))), (4, .int (zI up)), (0, .ref xd), (1, .int (zI k))]) hx hb dX1_round_127 hl (by decide) rfl (fun ls hl => ?_)
      exact L129 (k.toNat + 1) (k - 1) g (by omega) hk0 (by omega) hRq (by omega) (by have hi := Cy_init (g := g) (n := k.toNat) (q := v / 10 ^ ((n : Int) - k).toNat); rw [show ((k.toNat : Nat) : Int) - 1 = k - 1 by omega] at hi; exact hi) H locs hI ls (lv_sub hl [2, 3, 0] rfl)
    · skip
      exact z_vret (S := (Int → Int) × Int × Int) (post := (rndP n v pt k)) (w' := (fun u => dW xd xw xg cB cI w sz u.1 u.2.1 u.2.2)) hF hr hlk hI (g, k, pt) ⟨k.toNat, v / 10 ^ ((n : Int) - k).toNat, by omega, by omega, hRq, lead_cut hld hk0, by rw [if_neg (by omega)]; exact ⟨by omega, fun _ => by omega, fun _ => by omega⟩⟩ rfl dX1_round_123
  have L88 : ∀ (hf od : Int), (0 ≤ k ∧ k < n) → ((hf = 1 ∧ g k = 5 ∧ ∀ i : Int, k < i → i < n → g i = 0) ∨ (hf = 0 ∧ (g k ≠ 5 ∨ ∃ i : Int, k < i ∧ i < n ∧ g i ≠ 0))) → (od = ((v / 10 ^ ((n : Int) - k).toNat % 2 : Nat) : Int)) → ∀ (H : Heap) (locs : List Loc), zW D A s.heap (dW xd xw xg cB cI w sz g cnt pt) H locs → ∀ ls : Array Slot, lv_has ls 7 [(0, .ref xd), (1, .int (zI k)), (2, .int (zI hf)), (3, .int (zI od))] → W p l e ({ frames := 0, cells := 0, slots := 0, locals := 0 } : Room) s m ([.ref xd, .int (zI k)] : List Value).toArray below meth c H locs 0 0 (MQ below (va_Qv (rndP n v pt k) (zPost D A (fun u => dW xd xw xg cB cI w sz u.1 u.2.1 u.2.2)) A) ([.ref xd, .int (zI k)] : List Value).toArray s ({ frames := 0, cells := 0, slots := 0, locals := 0 } : Room).cells ({ frames := 0, cells := 0, slots := 0, locals := 0 } : Room).slots A) (F0 m 88 ls []) := by
    intro hf od hk0 hhf hod H locs hI ls hl
    have hrg := hR.rng (z := k) (by omega) (by omega)
    have hq01 : 0 ≤ hf ∧ hf ≤ 1 := (by rcases hhf with q | q <;> omega)
    refine lv_iload_n hx hb dX1_round_88 rfl (lv_at hl 2 rfl) ?_
    refine z_if_eq (tgt := 96) hx hb (by omega) dX1_round_89 (by decide) (fun h1 => ?_) (fun h1 => ?_)
    · skip
      refine lv_aload_n hx hb dX1_round_96 rfl (lv_at hl 0 rfl) ?_
      refine z_get (ci := 1) hF hI in_X1 0 rfl rfl 2 (by decide) q35 rfl rfl dX1_round_97 ?_
      refine lv_iload_n hx hb dX1_round_100 rfl (lv_at hl 1 rfl) ?_
      refine z_bald hF hI 2 rfl (by omega) (by omega) dX1_round_101 ?_
      refine z_iconst hx hb dX1_round_102 ?_
      refine z_icmp_lt (tgt := 110) hx hb (by omega) (by omega) dX1_round_103 (by decide) (fun h2 => ?_) (fun h2 => ?_)
      · skip
        refine z_iconst hx hb dX1_round_110 ?_
        exact L111 0 hk0 (by have q9 := rnd_lo hR hk0 h2; omega) (by omega) H locs hI ls (lv_sub hl [0, 1] rfl)
      · skip
        refine z_iconst hx hb dX1_round_106 ?_
        refine lv_goto (tgt := 111) hx hb dX1_round_107 (by decide) ?_
        exact L111 1 hk0 (by rcases hhf with q | q; (exfalso; omega); (have q9 := rnd_hi hR hk0 h2 q.2; omega)) (by omega) H locs hI ls (lv_sub hl [0, 1] rfl)
    · skip
      refine lv_iload_n hx hb dX1_round_92 rfl (lv_at hl 3 rfl) ?_
      refine lv_goto (tgt := 111) hx hb dX1_round_93 (by decide) ?_
      exact L111 od hk0 (by rcases hhf with q | q; (have q9 := rnd_half hR hk0 q.2.1 q.2.2; omega); (exfalso; omega)) (by omega) H locs hI ls (lv_sub hl [0, 1] rfl)
  have L64 : ∀ (hf : Int), (0 ≤ k ∧ k < n) → ((hf = 1 ∧ g k = 5 ∧ ∀ i : Int, k < i → i < n → g i = 0) ∨ (hf = 0 ∧ (g k ≠ 5 ∨ ∃ i : Int, k < i ∧ i < n ∧ g i ≠ 0))) → ∀ (H : Heap) (locs : List Loc), zW D A s.heap (dW xd xw xg cB cI w sz g cnt pt) H locs → ∀ ls : Array Slot, lv_has ls 7 [(0, .ref xd), (1, .int (zI k)), (2, .int (zI hf))] → W p l e ({ frames := 0, cells := 0, slots := 0, locals := 0 } : Room) s m ([.ref xd, .int (zI k)] : List Value).toArray below meth c H locs 0 0 (MQ below (va_Qv (rndP n v pt k) (zPost D A (fun u => dW xd xw xg cB cI w sz u.1 u.2.1 u.2.2)) A) ([.ref xd, .int (zI k)] : List Value).toArray s ({ frames := 0, cells := 0, slots := 0, locals := 0 } : Room).cells ({ frames := 0, cells := 0, slots := 0, locals := 0 } : Room).slots A) (F0 m 64 ls []) := by
    intro hf hk0 hhf H locs hI ls hl
    have hq01 : 0 ≤ hf ∧ hf ≤ 1 := (by rcases hhf with q | q <;> omega)
    refine lv_iload_n hx hb dX1_round_64 rfl (lv_at hl 1 rfl) ?_
    refine z_if_le (tgt := 86) hx hb (by omega) dX1_round_65 (by decide) (fun h2 => ?_) (fun h2 => ?_)
    · skip
      refine z_iconst hx hb dX1_round_86 ?_
      refine lv_istore_n (lv' := [(3, .int (zI 0)), (0, .ref xd), (1, .int (zI k)), (2, .int (zI hf))]) hx hb dX1_round_87 rfl hl (by decide) rfl (fun ls hl => ?_)
      exact L88 hf 0 hk0 hhf (by rw [show ((n : Int) - k).toNat = n by omega, Nat.div_eq_of_lt hR.1]; rfl) H locs hI ls (lv_sub hl [1, 2, 3, 0] rfl)
    · skip
      have hrg2 := hR.rng (z := k - 1) (by omega) (by omega)
      have hpar := Rw_par hR (k := k) (by omega)
      rw [show n - k.toNat = ((n : Int) - k).toNat by omega] at hpar
      refine lv_aload_n hx hb dX1_round_68 rfl (lv_at hl 0 rfl) ?_
      refine z_get (ci := 1) hF hI in_X1 0 rfl rfl 2 (by decide) q35 rfl rfl dX1_round_69 ?_
      refine lv_iload_n hx hb dX1_round_72 rfl (lv_at hl 1 rfl) ?_
      refine z_iconst hx hb dX1_round_73 ?_
      refine z_isub hx hb dX1_round_74 ?_
      refine z_bald hF hI 2 rfl (by omega) (by omega) dX1_round_75 ?_
      refine z_iconst hx hb dX1_round_76 ?_
      refine z_irem hx hb (by omega) (by omega) dX1_round_77 ?_
      refine z_iconst hx hb dX1_round_78 ?_
      refine z_icmp_ne (tgt := 86) hx hb (by omega) (by omega) dX1_round_79 (by decide) (fun h3 => ?_) (fun h3 => ?_)
      · skip
        refine z_iconst hx hb dX1_round_86 ?_
        refine lv_istore_n (lv' := [(3, .int (zI 0)), (0, .ref xd), (1, .int (zI k)), (2, .int (zI hf))]) hx hb dX1_round_87 rfl hl (by decide) rfl (fun ls hl => ?_)
        exact L88 hf 0 hk0 hhf (by omega) H locs hI ls (lv_sub hl [1, 2, 3, 0] rfl)
      · skip
        refine z_iconst hx hb dX1_round_82 ?_
        refine lv_goto (tgt := 87) hx hb dX1_round_83 (by decide) ?_
        refine lv_istore_n (lv' := [(3, .int (zI 1)), (0, .ref xd), (1, .int (zI k)), (2, .int (zI hf))]) hx hb dX1_round_87 rfl hl (by decide) rfl (fun ls hl => ?_)
        exact L88 hf 1 hk0 hhf (by omega) H locs hI ls (lv_sub hl [1, 2, 3, 0] rfl)
  have L39 : ∀ (n_ : Nat), ∀ (j hf : Int), n - j < (n_ : Int) → (0 ≤ k ∧ k < n) → (k < j ∧ j ≤ n) → ((hf = 1 ∧ g k = 5 ∧ ∀ i : Int, k < i → i < j → g i = 0) ∨ (hf = 0 ∧ (g k ≠ 5 ∨ ∃ i : Int, k < i ∧ i < j ∧ g i ≠ 0))) → ∀ (H : Heap) (locs : List Loc), zW D A s.heap (dW xd xw xg cB cI w sz g cnt pt) H locs → ∀ ls : Array Slot, lv_has ls 7 [(0, .ref xd), (1, .int (zI k)), (2, .int (zI hf)), (3, .int (zI j))] → W p l e ({ frames := 0, cells := 0, slots := 0, locals := 0 } : Room) s m ([.ref xd, .int (zI k)] : List Value).toArray below meth c H locs 0 0 (MQ below (va_Qv (rndP n v pt k) (zPost D A (fun u => dW xd xw xg cB cI w sz u.1 u.2.1 u.2.2)) A) ([.ref xd, .int (zI k)] : List Value).toArray s ({ frames := 0, cells := 0, slots := 0, locals := 0 } : Room).cells ({ frames := 0, cells := 0, slots := 0, locals := 0 } : Room).slots A) (F0 m 39 ls []) := by
    intro n_
    induction n_ with
    | zero =>
      intro j hf hm_ hk0 hj hhf H locs hI ls hl
      exfalso; omega
    | succ n_ ih_ =>
      intro j hf hm_ hk0 hj hhf H locs hI ls hl
      refine lv_iload_n hx hb dX1_round_39 rfl (lv_at hl 3 rfl) ?_
      refine lv_aload_n hx hb dX1_round_40 rfl (lv_at hl 0 rfl) ?_
      refine z_get (ci := 1) hF hI in_X1 0 rfl rfl 3 (by decide) q37 rfl rfl dX1_round_41 ?_
      refine z_icmp_ge (tgt := 64) hx hb (by omega) (by omega) dX1_round_44 (by decide) (fun h1 => ?_) (fun h1 => ?_)
      · skip
        rw [show j = (n : Int) by omega] at hhf
        exact L64 hf hk0 hhf H locs hI ls (lv_sub hl [0, 1, 2] rfl)
      · skip
        have hrg := hR.rng (z := j) (by omega) (by omega)
        refine lv_aload_n hx hb dX1_round_47 rfl (lv_at hl 0 rfl) ?_
        refine z_get (ci := 1) hF hI in_X1 0 rfl rfl 2 (by decide) q35 rfl rfl dX1_round_48 ?_
        refine lv_iload_n hx hb dX1_round_51 rfl (lv_at hl 3 rfl) ?_
        refine z_bald hF hI 2 rfl (by omega) (by omega) dX1_round_52 ?_
        refine z_if_le (tgt := 58) hx hb (by omega) dX1_round_53 (by decide) (fun h2 => ?_) (fun h2 => ?_)
        · skip
          refine lv_iinc (lv' := [(3, .int (zI (j + 1))), (0, .ref xd), (1, .int (zI k)), (2, .int (zI hf))]) (k := 3) hx hb dX1_round_58 hl rfl (zI_add _ _) (by decide) rfl (fun ls hl => ?_)
          refine lv_goto (tgt := 39) hx hb dX1_round_61 (by decide) ?_
          exact ih_ (j + 1) hf (by omega) hk0 (by omega) (by rcases hhf with q | q; (exact Or.inl ⟨q.1, q.2.1, fun i q1 q2 => by (by_cases q3 : i = j; (rw [q3]; omega); exact q.2.2 i q1 (by omega))⟩); (refine Or.inr ⟨q.1, ?_⟩; rcases q.2 with q2 | ⟨i, i1, i2, i3⟩; exact Or.inl q2; exact Or.inr ⟨i, i1, by omega, i3⟩)) H locs hI ls (lv_sub hl [1, 2, 3, 0] rfl)
        · skip
          refine z_iconst hx hb dX1_round_56 ?_
          refine lv_istore_n (lv' := [(2, .int (zI 0)), (0, .ref xd), (1, .int (zI k)), (3, .int (zI j))]) hx hb dX1_round_57 rfl hl (by decide) rfl (fun ls hl => ?_)
          refine lv_iinc (lv' := [(3, .int (zI (j + 1))), (2, .int (zI 0)), (0, .ref xd), (1, .int (zI k))]) (k := 3) hx hb dX1_round_58 hl rfl (zI_add _ _) (by decide) rfl (fun ls hl => ?_)
          refine lv_goto (tgt := 39) hx hb dX1_round_61 (by decide) ?_
          exact ih_ (j + 1) 0 (by omega) hk0 (by omega) (by exact Or.inr ⟨rfl, Or.inr ⟨j, by omega, by omega, by omega⟩⟩) H locs hI ls (lv_sub hl [2, 3, 1, 0] rfl)
  have L34 : ∀ (hf : Int), (0 ≤ k ∧ k < n) → ((hf = 1 ∧ g k = 5 ∧ ∀ i : Int, k < i → i < (k + 1) → g i = 0) ∨ (hf = 0 ∧ (g k ≠ 5 ∨ ∃ i : Int, k < i ∧ i < (k + 1) ∧ g i ≠ 0))) → ∀ (H : Heap) (locs : List Loc), zW D A s.heap (dW xd xw xg cB cI w sz g cnt pt) H locs → ∀ ls : Array Slot, lv_has ls 7 [(0, .ref xd), (1, .int (zI k))] → W p l e ({ frames := 0, cells := 0, slots := 0, locals := 0 } : Room) s m ([.ref xd, .int (zI k)] : List Value).toArray below meth c H locs 0 0 (MQ below (va_Qv (rndP n v pt k) (zPost D A (fun u => dW xd xw xg cB cI w sz u.1 u.2.1 u.2.2)) A) ([.ref xd, .int (zI k)] : List Value).toArray s ({ frames := 0, cells := 0, slots := 0, locals := 0 } : Room).cells ({ frames := 0, cells := 0, slots := 0, locals := 0 } : Room).slots A) (F0 m 34 ls [.int (zI hf)]) := by
    intro hf hk0 hhf H locs hI ls hl
    refine lv_istore_n (lv' := [(2, .int (zI hf)), (0, .ref xd), (1, .int (zI k))]) hx hb dX1_round_34 rfl hl (by decide) rfl (fun ls hl => ?_)
    refine lv_iload_n hx hb dX1_round_35 rfl (lv_at hl 2 rfl) ?_
    refine z_iconst hx hb dX1_round_36 ?_
    refine z_iadd hx hb dX1_round_37 ?_
    refine lv_istore_n (lv' := [(3, .int (zI (k + 1))), (2, .int (zI hf)), (0, .ref xd), (1, .int (zI k))]) hx hb dX1_round_38 rfl hl (by decide) rfl (fun ls hl => ?_)
    exact L39 (n + 1) (k + 1) hf (by omega) hk0 (by omega) hhf H locs hI ls (lv_sub hl [2, 3, 1, 0] rfl)
  refine lv_iload_n hx hb dX1_round_0 rfl (lv_at hl 1 rfl) ?_
  refine lv_aload_n hx hb dX1_round_1 rfl (lv_at hl 0 rfl) ?_
  refine z_get (ci := 1) hF hI in_X1 0 rfl rfl 3 (by decide) q37 rfl rfl dX1_round_2 ?_
  refine z_icmp_lt (tgt := 9) hx hb (by omega) (by omega) dX1_round_5 (by decide) (fun h1 => ?_) (fun h1 => ?_)
  · skip
    refine lv_iload_n hx hb dX1_round_9 rfl (lv_at hl 1 rfl) ?_
    refine z_if_ge (tgt := 19) hx hb (by omega) dX1_round_10 (by decide) (fun h2 => ?_) (fun h2 => ?_)
    · skip
      have hrg := hR.rng (z := k) (by omega) (by omega)
      refine lv_aload_n hx hb dX1_round_19 rfl (lv_at hl 0 rfl) ?_
      refine z_get (ci := 1) hF hI in_X1 0 rfl rfl 2 (by decide) q35 rfl rfl dX1_round_20 ?_
      refine lv_iload_n hx hb dX1_round_23 rfl (lv_at hl 1 rfl) ?_
      refine z_bald hF hI 2 rfl (by omega) (by omega) dX1_round_24 ?_
      refine z_iconst hx hb dX1_round_25 ?_
      refine z_icmp_ne (tgt := 33) hx hb (by omega) (by omega) dX1_round_26 (by decide) (fun h3 => ?_) (fun h3 => ?_)
      · skip
        refine z_iconst hx hb dX1_round_33 ?_
        exact L34 0 (by omega) (by exact Or.inr ⟨rfl, Or.inl h3⟩) H locs hI ls (lv_sub hl [0, 1] rfl)
      · skip
        refine z_iconst hx hb dX1_round_29 ?_
        refine lv_goto (tgt := 34) hx hb dX1_round_30 (by decide) ?_
        exact L34 1 (by omega) (by exact Or.inl ⟨rfl, h3, fun i q1 q2 => by (exfalso; omega)⟩) H locs hI ls (lv_sub hl [0, 1] rfl)
    · skip
      refine lv_aload_n hx hb dX1_round_13 rfl (lv_at hl 0 rfl) ?_
      refine z_iconst hx hb dX1_round_14 ?_
      refine z_put (ci := 1) (v := .int (zI 0)) (ty := .int) hF hI in_X1 tyX1 tyX1_ok nmX1 0 rfl rfl 3 (by decide) q37 rfl rfl (by decide +kernel) rfl rfl (Nat.le_of_ble_eq_true rfl) dX1_round_15 (fun H locs hI => ?_)
      have hI : zW D A s.heap (dW xd xw xg cB cI w sz g 0 pt) H locs := hI
      exact z_vret (S := (Int → Int) × Int × Int) (post := (rndP n v pt k)) (w' := (fun u => dW xd xw xg cB cI w sz u.1 u.2.1 u.2.2)) hF hr hlk hI (g, 0, pt) ⟨0, 0, rfl, by omega, Rw_0 g, Or.inl rfl, by rw [if_neg (by omega), rup_small hR.1 (by omega)]; exact ⟨rfl, fun _ => by omega, fun _ => rfl⟩⟩ rfl dX1_round_18
  · skip
    exact z_vret (S := (Int → Int) × Int × Int) (post := (rndP n v pt k)) (w' := (fun u => dW xd xw xg cB cI w sz u.1 u.2.1 u.2.2)) hF hr hlk hI (g, cnt, pt) ⟨n, v, hc, by omega, hR, hld, by rw [if_pos (by omega)]; exact ⟨rfl, rfl, rfl⟩⟩ rfl dX1_round_8
end
section
/-! the component: plain, scientific -/
def textP (S : List Int → Prop) : ((Int → Int) × Int × Int) × Nat × Nat × (Int → Int) × Int → Prop
  | (_, _, cap', gb', sb') => ∃ L : List Int, S L ∧ By gb' sb' L ∧ cap' ≤ 4000 ∧ sb' ≤ (cap' : Int) ∧ sb' ≤ 400
set_option maxHeartbeats 4000000 in
set_option maxRecDepth 100000 in
/-- plain(to, q, dot) -/
theorem c_plain (l : Launch) (D : va_G) (cB cI : ClassId) (xd xw xg : Nat) (w : Int → Int) (sz : Int) (g : Int → Int) (cnt pt : Int) (yb ya cap : Nat) (gb : Int → Int) (sb : Int) (n : Nat) (z q dot : Int) (hc : cnt = (n : Int)) (hR : Rw g n (bN z)) (hn : n ≤ 1260) (hO : Ofp (bN z) (bX z) n pt) (hE : z / 4503599627370496 % 2048 ≠ 2047) (hq : 0 ≤ q ∧ q ≤ 15) (hdot : dot = 0 ∨ dot = 1) (hB : By gb sb []) (hcp : sb ≤ (cap : Int)) (hc1 : cap ≤ 4000) : zMv (S := ((Int → Int) × Int × Int) × Nat × Nat × (Int → Int) × Int) l yX1_plain cX1_plain 5 ({ frames := 1, cells := 4000, slots := 8000, locals := 26 } : Room) D cB cI ([.ref xd, .ref yb, .int (zI q), .int (zI dot)] : List Value) ((dW xd xw xg cB cI w sz g cnt pt) ++ (bW yb ya cB cap gb sb)) (textP (PlainS z q dot)) (fun u => dW xd xw xg cB cI w sz u.1.1 u.1.2.1 u.1.2.2 ++ bW yb u.2.1 cB u.2.2.1 u.2.2.2.1 u.2.2.2.2) := by
  refine z_metv (by decide) (Nat.le_of_ble_eq_true rfl) ?_
  intro p e s m below meth c A hF hr hlk hnm hA hI ls hl
  have hx := hF.1
  have hb := hF.2.1
  have hown := hF.2.2.2.1
  have hts := hF.2.2.2.2.1
  have hl : lv_has ls 5 [(0, .ref xd), (1, .ref yb), (2, .int (zI q)), (3, .int (zI dot))] := hl
  obtain ⟨H, eH⟩ : ∃ H : Heap, H = s.heap := ⟨_, rfl⟩
  obtain ⟨locs, eL⟩ : ∃ L : List Loc, L = [] := ⟨_, rfl⟩
  have hI : zW D A s.heap ((dW xd xw xg cB cI w sz g cnt pt) ++ (bW yb ya cB cap gb sb)) H locs := by rw [eH, eL]; exact hI
  suffices hgo : W p l e ({ frames := 1, cells := 4000, slots := 8000, locals := 26 } : Room) s m ([.ref xd, .ref yb, .int (zI q), .int (zI dot)] : List Value).toArray below meth c H locs 0 0 (MQ below (va_Qv (textP (PlainS z q dot)) (zPost D A (fun u => dW xd xw xg cB cI w sz u.1.1 u.1.2.1 u.1.2.2 ++ bW yb u.2.1 cB u.2.2.1 u.2.2.2.1 u.2.2.2.2)) A) ([.ref xd, .ref yb, .int (zI q), .int (zI dot)] : List Value).toArray s ({ frames := 1, cells := 4000, slots := 8000, locals := 26 } : Room).cells ({ frames := 1, cells := 4000, slots := 8000, locals := 26 } : Room).slots A) (F0 m 0 ls []) by rw [eH, eL] at hgo; exact hgo
  clear eH eL
  have hDp := Ofp_Dp hO hR
  have hptr := Dp_rng hE hDp
  have hsb := hB.sz
  simp only [List.length_nil] at hsb
  have L83 : ∀ (n_ : Nat), ∀ (k : Int) (PP : Int) (g1 gb1 : Int → Int) (c1 p1 sb1 : Int) (ya1 cp1 : Nat), q - k < (n_ : Int) → (Shw z (-q) 1300 g1 c1 PP) → (p1 = PP) → (cap ≤ cp1 ∧ cp1 ≤ 4000 ∧ sb1 ≤ (cp1 : Int)) → (0 ≤ k ∧ k ≤ q) → (By gb1 sb1 (intT (rD z (-q)) PP ++ dotT q dot ++ digs (rD z (-q)) (-1) k.toNat)) → ∀ (H : Heap) (locs : List Loc), zW D A s.heap ((dW xd xw xg cB cI w sz g1 c1 p1) ++ (bW yb ya1 cB cp1 gb1 sb1)) H locs → ∀ ls : Array Slot, lv_has ls 5 [(0, .ref xd), (1, .ref yb), (2, .int (zI q)), (3, .int (zI dot)), (4, .int (zI k))] → W p l e ({ frames := 1, cells := 4000, slots := 8000, locals := 26 } : Room) s m ([.ref xd, .ref yb, .int (zI q), .int (zI dot)] : List Value).toArray below meth c H locs (cp1 - cap) (2 * (cp1 - cap)) (MQ below (va_Qv (textP (PlainS z q dot)) (zPost D A (fun u => dW xd xw xg cB cI w sz u.1.1 u.1.2.1 u.1.2.2 ++ bW yb u.2.1 cB u.2.2.1 u.2.2.2.1 u.2.2.2.2)) A) ([.ref xd, .ref yb, .int (zI q), .int (zI dot)] : List Value).toArray s ({ frames := 1, cells := 4000, slots := 8000, locals := 26 } : Room).cells ({ frames := 1, cells := 4000, slots := 8000, locals := 26 } : Room).slots A) (F0 m 83 ls []) := by
    intro n_
    induction n_ with
    | zero =>
      intro k PP g1 gb1 c1 p1 sb1 ya1 cp1 hm_ hS hPP hcp1 hk hB1 H locs hI ls hl
      exfalso; omega
    | succ n_ ih_ =>
      intro k PP g1 gb1 c1 p1 sb1 ya1 cp1 hm_ hS hPP hcp1 hk hB1 H locs hI ls hl
      have hpl := rP_le hE (by omega) hS.rP
      have hpg := rP_ge hE (by omega) hS.rP
      have hil := intT_len (rD z (-q)) PP
      have hdl := dotT_len q dot
      have hSd := hS.d
      have hl2 := hB1.sz
      try simp only [List.length_append, digs_len, List.length_nil] at hl2
      refine lv_iload hx hb dX1_plain_83 (lv_at hl 4 rfl) ?_
      refine lv_iload_n hx hb dX1_plain_85 rfl (lv_at hl 2 rfl) ?_
      refine z_icmp_ge (tgt := 113) hx hb (by omega) (by omega) dX1_plain_86 (by decide) (fun h1 => ?_) (fun h1 => ?_)
      · skip
        refine W.widen (k := 4000) (n := 8000) (by first | omega | (dsimp only; omega)) (by first | omega | (dsimp only; omega)) ?_
        exact z_vret (S := ((Int → Int) × Int × Int) × Nat × Nat × (Int → Int) × Int) (post := (textP (PlainS z q dot))) (w' := (fun u => dW xd xw xg cB cI w sz u.1.1 u.1.2.1 u.1.2.2 ++ bW yb u.2.1 cB u.2.2.1 u.2.2.2.1 u.2.2.2.2)) hF hr hlk hI ((g1, c1, p1), ya1, cp1, gb1, sb1) ⟨plainT (rD z (-q)) PP q dot, ⟨PP, hS.rP, rfl⟩, hB1.to (by rw [plainT, show k.toNat = q.toNat by omega]), by omega, by omega, by omega⟩ rfl dX1_plain_113
      · skip
        refine lv_aload_n hx hb dX1_plain_89 rfl (lv_at hl 1 rfl) ?_
        refine z_bipush hx hb dX1_plain_90 (by decide) ?_
        refine lv_aload_n hx hb dX1_plain_92 rfl (lv_at hl 0 rfl) ?_
        refine lv_aload_n hx hb dX1_plain_93 rfl (lv_at hl 0 rfl) ?_
        refine z_get (ci := 1) hF hI in_X1 0 rfl rfl 4 (by decide) q39 rfl rfl dX1_plain_94 ?_
        refine lv_iload hx hb dX1_plain_97 (lv_at hl 4 rfl) ?_
        refine z_iadd hx hb dX1_plain_99 ?_
        refine z_callVi (n := 1) (As := [.int (zI (p1 + k))]) (rest := [.int (zI 48), .ref yb]) (wr := ([(yb, .inr (2, [.ref ya1, .int (zI sb1)])), (ya1, .inl (cB, cp1, .inl (zA gb1)))] : va_W)) (C := "DecimalText$Decimal") (ci := 1) hF (c_digit l D cB cI xd xw xg w sz g1 c1 p1 (p1 + k) (by omega) (by omega)) (lw_V q125 q127 qs2 q15 q128) (by decide +kernel) ⟨Nat.le_of_ble_eq_true rfl, Nat.le_of_ble_eq_true rfl⟩ hI hA [0, 1, 2] [3, 4] rfl rfl rfl rfl (by decide) rfl rfl rfl hl.1 rfl (lv_room (Nat.le_of_ble_eq_true rfl)) dX1_plain_100 ⟨by first | omega | (dsimp only; omega), by first | omega | (dsimp only; omega)⟩ (fun r u H locs hu hI => ?_)
        obtain _u := u
        have hI : zW D A s.heap ((dW xd xw xg cB cI w sz g1 c1 p1) ++ (bW yb ya1 cB cp1 gb1 sb1)) H locs := hI.sub [2, 3, 4, 0, 1] rfl rfl
        have hr1 := hu.trans (hS.dig (p1 + k))
        have hr2 := rD_lt z (-q) (PP - 1 - (p1 + k))
        refine z_iadd hx hb dX1_plain_103 ?_
        have hgc1 := gcap_ok (cap := cp1) (sz := sb1) (by omega) (by omega) (by omega)
        refine z_callVv (n := 1) (As := [.int (zI (48 + r))]) (rest := []) (wr := ([(xd, .inr (1, [.ref xw, .int (zI sz), .ref xg, .int (zI c1), .int (zI p1)])), (xw, .inl (cI, 140, .inl (zA w))), (xg, .inl (cB, 1300, .inl (zA g1)))] : va_W)) (C := "DecimalText$Bytes") (ci := 2) hF (c_add l D cB cI yb ya1 cp1 gb1 sb1 (48 + r) (intT (rD z (-q)) PP ++ dotT q dot ++ digs (rD z (-q)) (-1) k.toNat) hB1 (by omega) (by omega) (by omega) (by omega)) (lw_V q124 q90 q91 q16 q92) (by decide +kernel) ⟨Nat.le_of_ble_eq_true rfl, Nat.le_of_ble_eq_true rfl⟩ hI hA [3, 4] [0, 1, 2] rfl rfl rfl rfl (by decide) rfl rfl rfl hl.1 rfl (lv_room (Nat.le_of_ble_eq_true rfl)) dX1_plain_104 ⟨by first | omega | (dsimp only; omega), by first | omega | (dsimp only; omega)⟩ (fun u H locs hu hI => ?_)
        obtain ⟨ya1, gy1⟩ := u
        have hI : zW D A s.heap ((dW xd xw xg cB cI w sz g1 c1 p1) ++ (bW yb ya1 cB (gcap cp1 sb1) gy1 (sb1 + 1))) H locs := hI
        have hBy1 : By gy1 (sb1 + 1) ((intT (rD z (-q)) PP ++ dotT q dot ++ digs (rD z (-q)) (-1) k.toNat) ++ [48 + r]) := hu
        refine W.widen (k := ((gcap cp1 sb1) - cap)) (n := (2 * ((gcap cp1 sb1) - cap))) (by first | omega | (dsimp only; omega)) (by first | omega | (dsimp only; omega)) ?_
        refine lv_iinc (lv' := [(4, .int (zI (k + 1))), (0, .ref xd), (1, .ref yb), (2, .int (zI q)), (3, .int (zI dot))]) (k := 4) hx hb dX1_plain_107 hl rfl (zI_add _ _) (by decide) rfl (fun ls hl => ?_)
        refine lv_goto (tgt := 83) hx hb dX1_plain_110 (by decide) ?_
        exact ih_ (k + 1) PP g1 gy1 c1 p1 (sb1 + 1) ya1 (gcap cp1 sb1) (by omega) hS hPP (by omega) (by omega) (by exact hBy1.to (by rw [show (k + 1).toNat = k.toNat + 1 by omega, digs_succ, ← List.append_assoc, hr1, show PP - 1 - (p1 + k) = -1 - (k.toNat : Int) by omega])) H locs hI ls (lv_sub hl [1, 2, 3, 4, 0] rfl)
  have L80 : ∀ (PP : Int) (g1 gb1 : Int → Int) (c1 p1 sb1 : Int) (ya1 cp1 : Nat), (Shw z (-q) 1300 g1 c1 PP) → (p1 = PP) → (cap ≤ cp1 ∧ cp1 ≤ 4000 ∧ sb1 ≤ (cp1 : Int)) → (By gb1 sb1 (intT (rD z (-q)) PP ++ dotT q dot)) → ∀ (H : Heap) (locs : List Loc), zW D A s.heap ((dW xd xw xg cB cI w sz g1 c1 p1) ++ (bW yb ya1 cB cp1 gb1 sb1)) H locs → ∀ ls : Array Slot, lv_has ls 5 [(0, .ref xd), (1, .ref yb), (2, .int (zI q)), (3, .int (zI dot))] → W p l e ({ frames := 1, cells := 4000, slots := 8000, locals := 26 } : Room) s m ([.ref xd, .ref yb, .int (zI q), .int (zI dot)] : List Value).toArray below meth c H locs (cp1 - cap) (2 * (cp1 - cap)) (MQ below (va_Qv (textP (PlainS z q dot)) (zPost D A (fun u => dW xd xw xg cB cI w sz u.1.1 u.1.2.1 u.1.2.2 ++ bW yb u.2.1 cB u.2.2.1 u.2.2.2.1 u.2.2.2.2)) A) ([.ref xd, .ref yb, .int (zI q), .int (zI dot)] : List Value).toArray s ({ frames := 1, cells := 4000, slots := 8000, locals := 26 } : Room).cells ({ frames := 1, cells := 4000, slots := 8000, locals := 26 } : Room).slots A) (F0 m 80 ls []) := by
    intro PP g1 gb1 c1 p1 sb1 ya1 cp1 hS hPP hcp1 hB1 H locs hI ls hl
    refine z_iconst hx hb dX1_plain_80 ?_
    refine lv_istore (lv' := [(4, .int (zI 0)), (0, .ref xd), (1, .ref yb), (2, .int (zI q)), (3, .int (zI dot))]) hx hb dX1_plain_81 hl (by decide) rfl (fun ls hl => ?_)
    exact L83 (16) 0 PP g1 gb1 c1 p1 sb1 ya1 cp1 (by omega) hS hPP hcp1 (by omega) (by rw [show (0 : Int).toNat = 0 from rfl, digs_0, List.append_nil]; exact hB1) H locs hI ls (lv_sub hl [1, 2, 3, 4, 0] rfl)
  have L74 : ∀ (PP : Int) (g1 gb1 : Int → Int) (c1 p1 sb1 : Int) (ya1 cp1 : Nat), (Shw z (-q) 1300 g1 c1 PP) → (p1 = PP) → (cap ≤ cp1 ∧ cp1 ≤ 4000 ∧ sb1 ≤ (cp1 : Int)) → (0 < q ∨ dot ≠ 0) → (By gb1 sb1 (intT (rD z (-q)) PP)) → ∀ (H : Heap) (locs : List Loc), zW D A s.heap ((dW xd xw xg cB cI w sz g1 c1 p1) ++ (bW yb ya1 cB cp1 gb1 sb1)) H locs → ∀ ls : Array Slot, lv_has ls 5 [(0, .ref xd), (1, .ref yb), (2, .int (zI q)), (3, .int (zI dot))] → W p l e ({ frames := 1, cells := 4000, slots := 8000, locals := 26 } : Room) s m ([.ref xd, .ref yb, .int (zI q), .int (zI dot)] : List Value).toArray below meth c H locs (cp1 - cap) (2 * (cp1 - cap)) (MQ below (va_Qv (textP (PlainS z q dot)) (zPost D A (fun u => dW xd xw xg cB cI w sz u.1.1 u.1.2.1 u.1.2.2 ++ bW yb u.2.1 cB u.2.2.1 u.2.2.2.1 u.2.2.2.2)) A) ([.ref xd, .ref yb, .int (zI q), .int (zI dot)] : List Value).toArray s ({ frames := 1, cells := 4000, slots := 8000, locals := 26 } : Room).cells ({ frames := 1, cells := 4000, slots := 8000, locals := 26 } : Room).slots A) (F0 m 74 ls []) := by
    intro PP g1 gb1 c1 p1 sb1 ya1 cp1 hS hPP hcp1 hdd hB1 H locs hI ls hl
    have hpl := rP_le hE (by omega) hS.rP
    have hpg := rP_ge hE (by omega) hS.rP
    have hil := intT_len (rD z (-q)) PP
    have hSd := hS.d
    have hl2 := hB1.sz
    try simp only [List.length_append, digs_len, List.length_nil] at hl2
    refine lv_aload_n hx hb dX1_plain_74 rfl (lv_at hl 1 rfl) ?_
    refine z_bipush hx hb dX1_plain_75 (by decide) ?_
    have hgc2 := gcap_ok (cap := cp1) (sz := sb1) (by omega) (by omega) (by omega)
    refine z_callVv (n := 1) (As := [.int (zI 46)]) (rest := []) (wr := ([(xd, .inr (1, [.ref xw, .int (zI sz), .ref xg, .int (zI c1), .int (zI p1)])), (xw, .inl (cI, 140, .inl (zA w))), (xg, .inl (cB, 1300, .inl (zA g1)))] : va_W)) (C := "DecimalText$Bytes") (ci := 2) hF (c_add l D cB cI yb ya1 cp1 gb1 sb1 46 (intT (rD z (-q)) PP) hB1 (by omega) (by omega) (by omega) (by omega)) (lw_V q124 q90 q91 q16 q92) (by decide +kernel) ⟨Nat.le_of_ble_eq_true rfl, Nat.le_of_ble_eq_true rfl⟩ hI hA [3, 4] [0, 1, 2] rfl rfl rfl rfl (by decide) rfl rfl rfl hl.1 rfl (lv_room (Nat.le_of_ble_eq_true rfl)) dX1_plain_77 ⟨by first | omega | (dsimp only; omega), by first | omega | (dsimp only; omega)⟩ (fun u H locs hu hI => ?_)
    obtain ⟨ya2, gy2⟩ := u
    have hI : zW D A s.heap ((dW xd xw xg cB cI w sz g1 c1 p1) ++ (bW yb ya2 cB (gcap cp1 sb1) gy2 (sb1 + 1))) H locs := hI
    have hBy2 : By gy2 (sb1 + 1) (intT (rD z (-q)) PP ++ [46]) := hu
    refine W.widen (k := ((gcap cp1 sb1) - cap)) (n := (2 * ((gcap cp1 sb1) - cap))) (by first | omega | (dsimp only; omega)) (by first | omega | (dsimp only; omega)) ?_
    exact L80 PP g1 gy2 c1 p1 (sb1 + 1) ya2 (gcap cp1 sb1) hS hPP (by omega) (by exact hBy2.to (by rw [dotT, if_pos hdd])) H locs hI ls (lv_sub hl [0, 1, 2, 3] rfl)
  have L66 : ∀ (PP : Int) (g1 gb1 : Int → Int) (c1 p1 sb1 : Int) (ya1 cp1 : Nat), (Shw z (-q) 1300 g1 c1 PP) → (p1 = PP) → (cap ≤ cp1 ∧ cp1 ≤ 4000 ∧ sb1 ≤ (cp1 : Int)) → (By gb1 sb1 (intT (rD z (-q)) PP)) → ∀ (H : Heap) (locs : List Loc), zW D A s.heap ((dW xd xw xg cB cI w sz g1 c1 p1) ++ (bW yb ya1 cB cp1 gb1 sb1)) H locs → ∀ ls : Array Slot, lv_has ls 5 [(0, .ref xd), (1, .ref yb), (2, .int (zI q)), (3, .int (zI dot))] → W p l e ({ frames := 1, cells := 4000, slots := 8000, locals := 26 } : Room) s m ([.ref xd, .ref yb, .int (zI q), .int (zI dot)] : List Value).toArray below meth c H locs (cp1 - cap) (2 * (cp1 - cap)) (MQ below (va_Qv (textP (PlainS z q dot)) (zPost D A (fun u => dW xd xw xg cB cI w sz u.1.1 u.1.2.1 u.1.2.2 ++ bW yb u.2.1 cB u.2.2.1 u.2.2.2.1 u.2.2.2.2)) A) ([.ref xd, .ref yb, .int (zI q), .int (zI dot)] : List Value).toArray s ({ frames := 1, cells := 4000, slots := 8000, locals := 26 } : Room).cells ({ frames := 1, cells := 4000, slots := 8000, locals := 26 } : Room).slots A) (F0 m 66 ls []) := by
    intro PP g1 gb1 c1 p1 sb1 ya1 cp1 hS hPP hcp1 hB1 H locs hI ls hl
    refine lv_iload_n hx hb dX1_plain_66 rfl (lv_at hl 2 rfl) ?_
    refine z_if_gt (tgt := 74) hx hb (by omega) dX1_plain_67 (by decide) (fun h1 => ?_) (fun h1 => ?_)
    · skip
      exact L74 PP g1 gb1 c1 p1 sb1 ya1 cp1 hS hPP hcp1 (by exact Or.inl h1) hB1 H locs hI ls (lv_sub hl [0, 1, 2, 3] rfl)
    · skip
      refine lv_iload_n hx hb dX1_plain_70 rfl (lv_at hl 3 rfl) ?_
      refine z_if_eq (tgt := 80) hx hb (by omega) dX1_plain_71 (by decide) (fun h2 => ?_) (fun h2 => ?_)
      · skip
        exact L80 PP g1 gb1 c1 p1 sb1 ya1 cp1 hS hPP hcp1 (by rw [dotT, if_neg (by omega), List.append_nil]; exact hB1) H locs hI ls (lv_sub hl [0, 1, 2, 3] rfl)
      · skip
        exact L74 PP g1 gb1 c1 p1 sb1 ya1 cp1 hS hPP hcp1 (by exact Or.inr h2) hB1 H locs hI ls (lv_sub hl [0, 1, 2, 3] rfl)
  have L38 : ∀ (n_ : Nat), ∀ (k : Int) (PP : Int) (g1 gb1 : Int → Int) (c1 p1 sb1 : Int) (ya1 cp1 : Nat), PP - k + 3000 < (n_ : Int) → (Shw z (-q) 1300 g1 c1 PP) → (p1 = PP) → (cap ≤ cp1 ∧ cp1 ≤ 4000 ∧ sb1 ≤ (cp1 : Int)) → (0 ≤ k ∧ (k ≤ PP ∨ k = 0)) → (By gb1 sb1 ((if PP ≤ 0 then [48] else ([] : List Int)) ++ digs (rD z (-q)) (PP - 1) k.toNat)) → ∀ (H : Heap) (locs : List Loc), zW D A s.heap ((dW xd xw xg cB cI w sz g1 c1 p1) ++ (bW yb ya1 cB cp1 gb1 sb1)) H locs → ∀ ls : Array Slot, lv_has ls 5 [(0, .ref xd), (1, .ref yb), (2, .int (zI q)), (3, .int (zI dot)), (4, .int (zI k))] → W p l e ({ frames := 1, cells := 4000, slots := 8000, locals := 26 } : Room) s m ([.ref xd, .ref yb, .int (zI q), .int (zI dot)] : List Value).toArray below meth c H locs (cp1 - cap) (2 * (cp1 - cap)) (MQ below (va_Qv (textP (PlainS z q dot)) (zPost D A (fun u => dW xd xw xg cB cI w sz u.1.1 u.1.2.1 u.1.2.2 ++ bW yb u.2.1 cB u.2.2.1 u.2.2.2.1 u.2.2.2.2)) A) ([.ref xd, .ref yb, .int (zI q), .int (zI dot)] : List Value).toArray s ({ frames := 1, cells := 4000, slots := 8000, locals := 26 } : Room).cells ({ frames := 1, cells := 4000, slots := 8000, locals := 26 } : Room).slots A) (F0 m 38 ls []) := by
    intro n_
    induction n_ with
    | zero =>
      intro k PP g1 gb1 c1 p1 sb1 ya1 cp1 hm_ hS hPP hcp1 hk hB1 H locs hI ls hl
      exfalso; have := rP_ge hE (by omega) hS.rP; omega
    | succ n_ ih_ =>
      intro k PP g1 gb1 c1 p1 sb1 ya1 cp1 hm_ hS hPP hcp1 hk hB1 H locs hI ls hl
      have hpl := rP_le hE (by omega) hS.rP
      have hpg := rP_ge hE (by omega) hS.rP
      have hSd := hS.d
      have hl2 := hB1.sz
      try simp only [List.length_append, digs_len, List.length_nil] at hl2
      have hl3 : (if PP ≤ 0 then [48] else ([] : List Int)).length ≤ 1 := by split <;> simp
      refine lv_iload hx hb dX1_plain_38 (lv_at hl 4 rfl) ?_
      refine lv_aload_n hx hb dX1_plain_40 rfl (lv_at hl 0 rfl) ?_
      refine z_get (ci := 1) hF hI in_X1 0 rfl rfl 4 (by decide) q39 rfl rfl dX1_plain_41 ?_
      refine z_icmp_ge (tgt := 66) hx hb (by omega) (by omega) dX1_plain_44 (by decide) (fun h1 => ?_) (fun h1 => ?_)
      · skip
        exact L66 PP g1 gb1 c1 p1 sb1 ya1 cp1 hS hPP hcp1 (by exact hB1.to (by unfold intT; by_cases q9 : PP ≤ 0; (rw [if_pos q9, if_pos q9, show k.toNat = 0 by omega, digs_0, List.append_nil]); (rw [if_neg q9, if_neg q9, show k.toNat = PP.toNat by omega, List.nil_append]))) H locs hI ls (lv_sub hl [0, 1, 2, 3] rfl)
      · skip
        refine lv_aload_n hx hb dX1_plain_47 rfl (lv_at hl 1 rfl) ?_
        refine z_bipush hx hb dX1_plain_48 (by decide) ?_
        refine lv_aload_n hx hb dX1_plain_50 rfl (lv_at hl 0 rfl) ?_
        refine lv_iload hx hb dX1_plain_51 (lv_at hl 4 rfl) ?_
        refine z_callVi (n := 1) (As := [.int (zI k)]) (rest := [.int (zI 48), .ref yb]) (wr := ([(yb, .inr (2, [.ref ya1, .int (zI sb1)])), (ya1, .inl (cB, cp1, .inl (zA gb1)))] : va_W)) (C := "DecimalText$Decimal") (ci := 1) hF (c_digit l D cB cI xd xw xg w sz g1 c1 p1 k (by omega) (by omega)) (lw_V q125 q127 qs2 q15 q128) (by decide +kernel) ⟨Nat.le_of_ble_eq_true rfl, Nat.le_of_ble_eq_true rfl⟩ hI hA [0, 1, 2] [3, 4] rfl rfl rfl rfl (by decide) rfl rfl rfl hl.1 rfl (lv_room (Nat.le_of_ble_eq_true rfl)) dX1_plain_53 ⟨by first | omega | (dsimp only; omega), by first | omega | (dsimp only; omega)⟩ (fun r u H locs hu hI => ?_)
        obtain _u := u
        have hI : zW D A s.heap ((dW xd xw xg cB cI w sz g1 c1 p1) ++ (bW yb ya1 cB cp1 gb1 sb1)) H locs := hI.sub [2, 3, 4, 0, 1] rfl rfl
        have hr1 := hu.trans (hS.dig k)
        have hr2 := rD_lt z (-q) (PP - 1 - k)
        refine z_iadd hx hb dX1_plain_56 ?_
        have hgc3 := gcap_ok (cap := cp1) (sz := sb1) (by omega) (by omega) (by omega)
        refine z_callVv (n := 1) (As := [.int (zI (48 + r))]) (rest := []) (wr := ([(xd, .inr (1, [.ref xw, .int (zI sz), .ref xg, .int (zI c1), .int (zI p1)])), (xw, .inl (cI, 140, .inl (zA w))), (xg, .inl (cB, 1300, .inl (zA g1)))] : va_W)) (C := "DecimalText$Bytes") (ci := 2) hF (c_add l D cB cI yb ya1 cp1 gb1 sb1 (48 + r) ((if PP ≤ 0 then [48] else ([] : List Int)) ++ digs (rD z (-q)) (PP - 1) k.toNat) hB1 (by omega) (by omega) (by omega) (by omega)) (lw_V q124 q90 q91 q16 q92) (by decide +kernel) ⟨Nat.le_of_ble_eq_true rfl, Nat.le_of_ble_eq_true rfl⟩ hI hA [3, 4] [0, 1, 2] rfl rfl rfl rfl (by decide) rfl rfl rfl hl.1 rfl (lv_room (Nat.le_of_ble_eq_true rfl)) dX1_plain_57 ⟨by first | omega | (dsimp only; omega), by first | omega | (dsimp only; omega)⟩ (fun u H locs hu hI => ?_)
        obtain ⟨ya3, gy3⟩ := u
        have hI : zW D A s.heap ((dW xd xw xg cB cI w sz g1 c1 p1) ++ (bW yb ya3 cB (gcap cp1 sb1) gy3 (sb1 + 1))) H locs := hI
        have hBy3 : By gy3 (sb1 + 1) (((if PP ≤ 0 then [48] else ([] : List Int)) ++ digs (rD z (-q)) (PP - 1) k.toNat) ++ [48 + r]) := hu
        refine W.widen (k := ((gcap cp1 sb1) - cap)) (n := (2 * ((gcap cp1 sb1) - cap))) (by first | omega | (dsimp only; omega)) (by first | omega | (dsimp only; omega)) ?_
        refine lv_iinc (lv' := [(4, .int (zI (k + 1))), (0, .ref xd), (1, .ref yb), (2, .int (zI q)), (3, .int (zI dot))]) (k := 4) hx hb dX1_plain_60 hl rfl (zI_add _ _) (by decide) rfl (fun ls hl => ?_)
        refine lv_goto (tgt := 38) hx hb dX1_plain_63 (by decide) ?_
        exact ih_ (k + 1) PP g1 gy3 c1 p1 (sb1 + 1) ya3 (gcap cp1 sb1) (by omega) hS hPP (by omega) (by omega) (by exact hBy3.to (by rw [show (k + 1).toNat = k.toNat + 1 by omega, digs_succ, ← List.append_assoc, hr1, show PP - 1 - (k.toNat : Int) = PP - 1 - k by omega])) H locs hI ls (lv_sub hl [1, 2, 3, 4, 0] rfl)
  have L35 : ∀ (PP : Int) (g1 gb1 : Int → Int) (c1 p1 sb1 : Int) (ya1 cp1 : Nat), (Shw z (-q) 1300 g1 c1 PP) → (p1 = PP) → (cap ≤ cp1 ∧ cp1 ≤ 4000 ∧ sb1 ≤ (cp1 : Int)) → (By gb1 sb1 (if PP ≤ 0 then [48] else ([] : List Int))) → ∀ (H : Heap) (locs : List Loc), zW D A s.heap ((dW xd xw xg cB cI w sz g1 c1 p1) ++ (bW yb ya1 cB cp1 gb1 sb1)) H locs → ∀ ls : Array Slot, lv_has ls 5 [(0, .ref xd), (1, .ref yb), (2, .int (zI q)), (3, .int (zI dot))] → W p l e ({ frames := 1, cells := 4000, slots := 8000, locals := 26 } : Room) s m ([.ref xd, .ref yb, .int (zI q), .int (zI dot)] : List Value).toArray below meth c H locs (cp1 - cap) (2 * (cp1 - cap)) (MQ below (va_Qv (textP (PlainS z q dot)) (zPost D A (fun u => dW xd xw xg cB cI w sz u.1.1 u.1.2.1 u.1.2.2 ++ bW yb u.2.1 cB u.2.2.1 u.2.2.2.1 u.2.2.2.2)) A) ([.ref xd, .ref yb, .int (zI q), .int (zI dot)] : List Value).toArray s ({ frames := 1, cells := 4000, slots := 8000, locals := 26 } : Room).cells ({ frames := 1, cells := 4000, slots := 8000, locals := 26 } : Room).slots A) (F0 m 35 ls []) := by
    intro PP g1 gb1 c1 p1 sb1 ya1 cp1 hS hPP hcp1 hB1 H locs hI ls hl
    have hpg := rP_ge hE (by omega) hS.rP
    refine z_iconst hx hb dX1_plain_35 ?_
    refine lv_istore (lv' := [(4, .int (zI 0)), (0, .ref xd), (1, .ref yb), (2, .int (zI q)), (3, .int (zI dot))]) hx hb dX1_plain_36 hl (by decide) rfl (fun ls hl => ?_)
    exact L38 ((PP + 3001).toNat) 0 PP g1 gb1 c1 p1 sb1 ya1 cp1 (by omega) hS hPP hcp1 (by omega) (by rw [show (0 : Int).toNat = 0 from rfl, digs_0, List.append_nil]; exact hB1) H locs hI ls (lv_sub hl [1, 2, 3, 4, 0] rfl)
  have L22 : ∀ (PP : Int) (g1 : Int → Int) (c1 p1 : Int), (Shw z (-q) 1300 g1 c1 PP) → (p1 = PP) → ∀ (H : Heap) (locs : List Loc), zW D A s.heap ((dW xd xw xg cB cI w sz g1 c1 p1) ++ (bW yb ya cB cap gb sb)) H locs → ∀ ls : Array Slot, lv_has ls 5 [(0, .ref xd), (1, .ref yb), (2, .int (zI q)), (3, .int (zI dot))] → W p l e ({ frames := 1, cells := 4000, slots := 8000, locals := 26 } : Room) s m ([.ref xd, .ref yb, .int (zI q), .int (zI dot)] : List Value).toArray below meth c H locs 0 0 (MQ below (va_Qv (textP (PlainS z q dot)) (zPost D A (fun u => dW xd xw xg cB cI w sz u.1.1 u.1.2.1 u.1.2.2 ++ bW yb u.2.1 cB u.2.2.1 u.2.2.2.1 u.2.2.2.2)) A) ([.ref xd, .ref yb, .int (zI q), .int (zI dot)] : List Value).toArray s ({ frames := 1, cells := 4000, slots := 8000, locals := 26 } : Room).cells ({ frames := 1, cells := 4000, slots := 8000, locals := 26 } : Room).slots A) (F0 m 22 ls []) := by
    intro PP g1 c1 p1 hS hPP H locs hI ls hl
    have hpg := rP_ge hE (by omega) hS.rP
    have hpl := rP_le hE (by omega) hS.rP
    refine lv_aload_n hx hb dX1_plain_22 rfl (lv_at hl 0 rfl) ?_
    refine z_get (ci := 1) hF hI in_X1 0 rfl rfl 4 (by decide) q39 rfl rfl dX1_plain_23 ?_
    refine z_if_gt (tgt := 35) hx hb (by omega) dX1_plain_26 (by decide) (fun h1 => ?_) (fun h1 => ?_)
    · skip
      refine W.widen (k := (cap - cap)) (n := (2 * (cap - cap))) (by first | omega | (dsimp only; omega)) (by first | omega | (dsimp only; omega)) ?_
      exact L35 PP g1 gb c1 p1 sb ya cap hS hPP (by omega) (by rw [if_neg (by omega)]; exact hB) H locs hI ls (lv_sub hl [0, 1, 2, 3] rfl)
    · skip
      refine lv_aload_n hx hb dX1_plain_29 rfl (lv_at hl 1 rfl) ?_
      refine z_bipush hx hb dX1_plain_30 (by decide) ?_
      have hgc4 := gcap_ok (cap := cap) (sz := sb) (by omega) (by omega) (by omega)
      refine z_callVv (n := 1) (As := [.int (zI 48)]) (rest := []) (wr := ([(xd, .inr (1, [.ref xw, .int (zI sz), .ref xg, .int (zI c1), .int (zI p1)])), (xw, .inl (cI, 140, .inl (zA w))), (xg, .inl (cB, 1300, .inl (zA g1)))] : va_W)) (C := "DecimalText$Bytes") (ci := 2) hF (c_add l D cB cI yb ya cap gb sb 48 ([]) hB (by omega) (by omega) (by omega) (by omega)) (lw_V q124 q90 q91 q16 q92) (by decide +kernel) ⟨Nat.le_of_ble_eq_true rfl, Nat.le_of_ble_eq_true rfl⟩ hI hA [3, 4] [0, 1, 2] rfl rfl rfl rfl (by decide) rfl rfl rfl hl.1 rfl (lv_room (Nat.le_of_ble_eq_true rfl)) dX1_plain_32 ⟨by first | omega | (dsimp only; omega), by first | omega | (dsimp only; omega)⟩ (fun u H locs hu hI => ?_)
      obtain ⟨ya4, gy4⟩ := u
      have hI : zW D A s.heap ((dW xd xw xg cB cI w sz g1 c1 p1) ++ (bW yb ya4 cB (gcap cap sb) gy4 (sb + 1))) H locs := hI
      have hBy4 : By gy4 (sb + 1) ([] ++ [48]) := hu
      refine W.widen (k := ((gcap cap sb) - cap)) (n := (2 * ((gcap cap sb) - cap))) (by first | omega | (dsimp only; omega)) (by first | omega | (dsimp only; omega)) ?_
      exact L35 PP g1 gy4 c1 p1 (sb + 1) ya4 (gcap cap sb) hS hPP (by omega) (by rw [if_pos (by omega)]; exact hBy4) H locs hI ls (lv_sub hl [0, 1, 2, 3] rfl)
  refine lv_aload_n hx hb dX1_plain_0 rfl (lv_at hl 0 rfl) ?_
  refine lv_aload_n hx hb dX1_plain_1 rfl (lv_at hl 0 rfl) ?_
  refine z_get (ci := 1) hF hI in_X1 0 rfl rfl 4 (by decide) q39 rfl rfl dX1_plain_2 ?_
  refine lv_iload_n hx hb dX1_plain_5 rfl (lv_at hl 2 rfl) ?_
  refine z_iadd hx hb dX1_plain_6 ?_
  refine z_callVv (n := 1) (As := [.int (zI (pt + q))]) (rest := []) (wr := ([(yb, .inr (2, [.ref ya, .int (zI sb)])), (ya, .inl (cB, cap, .inl (zA gb)))] : va_W)) (C := "DecimalText$Decimal") (ci := 1) hF (c_round l D cB cI xd xw xg w sz g cnt pt n (bN z) (pt + q) hc hR (by omega) (by omega) (Ofp_lead hO) (by omega)) (lw_V q120 q122 qs1 q15 q123) (by decide +kernel) ⟨Nat.le_of_ble_eq_true rfl, Nat.le_of_ble_eq_true rfl⟩ hI hA [0, 1, 2] [3, 4] rfl rfl rfl rfl (by decide) rfl rfl rfl hl.1 rfl (lv_room (Nat.le_of_ble_eq_true rfl)) dX1_plain_7 ⟨by first | omega | (dsimp only; omega), by first | omega | (dsimp only; omega)⟩ (fun u H locs hu hI => ?_)
  obtain ⟨g1, c1, p1⟩ := u
  have hI : zW D A s.heap ((dW xd xw xg cB cI w sz g1 c1 p1) ++ (bW yb ya cB cap gb sb)) H locs := hI.sub [2, 3, 4, 0, 1] rfl rfl
  have hSx := rnd_show (P := if c1 = 0 then 0 else p1) (y := -q) hO hR (by omega) hu rfl
  have hS := Shw_mono hSx (show n + 1 ≤ 1300 by omega)
  have hSd := hS.d
  refine lv_aload_n hx hb dX1_plain_10 rfl (lv_at hl 0 rfl) ?_
  refine z_get (ci := 1) hF hI in_X1 0 rfl rfl 3 (by decide) q37 rfl rfl dX1_plain_11 ?_
  refine z_if_ne (tgt := 22) hx hb (by omega) dX1_plain_14 (by decide) (fun h1 => ?_) (fun h1 => ?_)
  · skip
    exact L22 p1 g1 c1 p1 (by rw [if_neg h1] at hS; exact hS) (by rfl) H locs hI ls (lv_sub hl [0, 1, 2, 3] rfl)
  · skip
    refine lv_aload_n hx hb dX1_plain_17 rfl (lv_at hl 0 rfl) ?_
    refine z_iconst hx hb dX1_plain_18 ?_
    refine z_put (ci := 1) (v := .int (zI 0)) (ty := .int) hF hI in_X1 tyX1 tyX1_ok nmX1 0 rfl rfl 4 (by decide) q39 rfl rfl (by decide +kernel) rfl rfl (Nat.le_of_ble_eq_true rfl) dX1_plain_19 (fun H locs hI => ?_)
    have hI : zW D A s.heap ((dW xd xw xg cB cI w sz g1 c1 0) ++ (bW yb ya cB cap gb sb)) H locs := hI
    exact L22 0 g1 c1 0 (by rw [if_pos h1] at hS; exact hS) (by rfl) H locs hI ls (lv_sub hl [0, 1, 2, 3] rfl)
set_option maxHeartbeats 4000000 in
set_option maxRecDepth 100000 in
/-- scientific(to, q, dot, letter) -/
theorem c_sci (l : Launch) (D : va_G) (cB cI : ClassId) (xd xw xg : Nat) (w : Int → Int) (sz : Int) (g : Int → Int) (cnt pt : Int) (yb ya cap : Nat) (gb : Int → Int) (sb : Int) (n : Nat) (z q dot : Int) (lt : Int) (hc : cnt = (n : Int)) (hR : Rw g n (bN z)) (hn : n ≤ 1260) (hO : Ofp (bN z) (bX z) n pt) (hE : z / 4503599627370496 % 2048 ≠ 2047) (hq : 0 ≤ q ∧ q ≤ 15) (hdot : dot = 0 ∨ dot = 1) (hB : By gb sb []) (hcp : sb ≤ (cap : Int)) (hc1 : cap ≤ 4000) (hlt : 0 ≤ lt ∧ lt < 128) : zMv (S := ((Int → Int) × Int × Int) × Nat × Nat × (Int → Int) × Int) l yX1_scientific cX1_scientific 8 ({ frames := 1, cells := 4000, slots := 8000, locals := 26 } : Room) D cB cI ([.ref xd, .ref yb, .int (zI q), .int (zI dot), .int (zI lt)] : List Value) ((dW xd xw xg cB cI w sz g cnt pt) ++ (bW yb ya cB cap gb sb)) (textP (SciS z q dot lt)) (fun u => dW xd xw xg cB cI w sz u.1.1 u.1.2.1 u.1.2.2 ++ bW yb u.2.1 cB u.2.2.1 u.2.2.2.1 u.2.2.2.2) := by
  refine z_metv (by decide) (Nat.le_of_ble_eq_true rfl) ?_
  intro p e s m below meth c A hF hr hlk hnm hA hI ls hl
  have hx := hF.1
  have hb := hF.2.1
  have hown := hF.2.2.2.1
  have hts := hF.2.2.2.2.1
  have hl : lv_has ls 8 [(0, .ref xd), (1, .ref yb), (2, .int (zI q)), (3, .int (zI dot)), (4, .int (zI lt))] := hl
  obtain ⟨H, eH⟩ : ∃ H : Heap, H = s.heap := ⟨_, rfl⟩
  obtain ⟨locs, eL⟩ : ∃ L : List Loc, L = [] := ⟨_, rfl⟩
  have hI : zW D A s.heap ((dW xd xw xg cB cI w sz g cnt pt) ++ (bW yb ya cB cap gb sb)) H locs := by rw [eH, eL]; exact hI
  suffices hgo : W p l e ({ frames := 1, cells := 4000, slots := 8000, locals := 26 } : Room) s m ([.ref xd, .ref yb, .int (zI q), .int (zI dot), .int (zI lt)] : List Value).toArray below meth c H locs 0 0 (MQ below (va_Qv (textP (SciS z q dot lt)) (zPost D A (fun u => dW xd xw xg cB cI w sz u.1.1 u.1.2.1 u.1.2.2 ++ bW yb u.2.1 cB u.2.2.1 u.2.2.2.1 u.2.2.2.2)) A) ([.ref xd, .ref yb, .int (zI q), .int (zI dot), .int (zI lt)] : List Value).toArray s ({ frames := 1, cells := 4000, slots := 8000, locals := 26 } : Room).cells ({ frames := 1, cells := 4000, slots := 8000, locals := 26 } : Room).slots A) (F0 m 0 ls []) by rw [eH, eL] at hgo; exact hgo
  clear eH eL
  have hDp := Ofp_Dp hO hR
  have hptr := Dp_rng hE hDp
  have hsb := hB.sz
  simp only [List.length_nil] at hsb
  have L148 : ∀ (n7 : Int) (X : List Int) (g1 gb1 : Int → Int) (c1 p1 sb1 : Int) (ya1 cp1 : Nat), (cap ≤ cp1 ∧ cp1 ≤ 4000 ∧ sb1 ≤ (cp1 : Int)) → (X.length ≤ 30) → (By gb1 sb1 X) → (0 ≤ n7 ∧ n7 ≤ 1200) → (SciS z q dot lt (X ++ [48 + n7 / 10 % 10] ++ [48 + n7 % 10])) → ∀ (H : Heap) (locs : List Loc), zW D A s.heap ((dW xd xw xg cB cI w sz g1 c1 p1) ++ (bW yb ya1 cB cp1 gb1 sb1)) H locs → ∀ ls : Array Slot, lv_has ls 8 [(0, .ref xd), (1, .ref yb), (7, .int (zI n7))] → W p l e ({ frames := 1, cells := 4000, slots := 8000, locals := 26 } : Room) s m ([.ref xd, .ref yb, .int (zI q), .int (zI dot), .int (zI lt)] : List Value).toArray below meth c H locs (cp1 - cap) (2 * (cp1 - cap)) (MQ below (va_Qv (textP (SciS z q dot lt)) (zPost D A (fun u => dW xd xw xg cB cI w sz u.1.1 u.1.2.1 u.1.2.2 ++ bW yb u.2.1 cB u.2.2.1 u.2.2.2.1 u.2.2.2.2)) A) ([.ref xd, .ref yb, .int (zI q), .int (zI dot), .int (zI lt)] : List Value).toArray s ({ frames := 1, cells := 4000, slots := 8000, locals := 26 } : Room).cells ({ frames := 1, cells := 4000, slots := 8000, locals := 26 } : Room).slots A) (F0 m 148 ls []) := by
    intro n7 X g1 gb1 c1 p1 sb1 ya1 cp1 hcp1 hX hB1 hn7 hfin H locs hI ls hl
    have hl2 := hB1.sz
    try simp only [List.length_append, List.length_cons, List.length_nil, digs_len] at hl2
    refine lv_aload_n hx hb dX1_scientific_148 rfl (lv_at hl 1 rfl) ?_
    refine z_bipush hx hb dX1_scientific_149 (by decide) ?_
    refine lv_iload hx hb dX1_scientific_151 (lv_at hl 2 rfl) ?_
    refine z_bipush hx hb dX1_scientific_153 (by decide) ?_
    refine z_idiv hx hb (by omega) (by omega) dX1_scientific_155 ?_
    refine z_bipush hx hb dX1_scientific_156 (by decide) ?_
    refine z_irem hx hb (by omega) (by omega) dX1_scientific_158 ?_
    refine z_iadd hx hb dX1_scientific_159 ?_
    have hgc5 := gcap_ok (cap := cp1) (sz := sb1) (by omega) (by omega) (by omega)
    refine z_callVv (n := 1) (As := [.int (zI (48 + ((n7 / 10) % 10)))]) (rest := []) (wr := ([(xd, .inr (1, [.ref xw, .int (zI sz), .ref xg, .int (zI c1), .int (zI p1)])), (xw, .inl (cI, 140, .inl (zA w))), (xg, .inl (cB, 1300, .inl (zA g1)))] : va_W)) (C := "DecimalText$Bytes") (ci := 2) hF (c_add l D cB cI yb ya1 cp1 gb1 sb1 (48 + ((n7 / 10) % 10)) X hB1 (by omega) (by omega) (by omega) (by omega)) (lw_V q124 q90 q91 q16 q92) (by decide +kernel) ⟨Nat.le_of_ble_eq_true rfl, Nat.le_of_ble_eq_true rfl⟩ hI hA [3, 4] [0, 1, 2] rfl rfl rfl rfl (by decide) rfl rfl rfl hl.1 rfl (lv_room (Nat.le_of_ble_eq_true rfl)) dX1_scientific_160 ⟨by first | omega | (dsimp only; omega), by first | omega | (dsimp only; omega)⟩ (fun u H locs hu hI => ?_)
    obtain ⟨ya5, gy5⟩ := u
    have hI : zW D A s.heap ((dW xd xw xg cB cI w sz g1 c1 p1) ++ (bW yb ya5 cB (gcap cp1 sb1) gy5 (sb1 + 1))) H locs := hI
    have hBy5 : By gy5 (sb1 + 1) (X ++ [48 + ((n7 / 10) % 10)]) := hu
    refine lv_aload_n hx hb dX1_scientific_163 rfl (lv_at hl 1 rfl) ?_
    refine z_bipush hx hb dX1_scientific_164 (by decide) ?_
    refine lv_iload hx hb dX1_scientific_166 (lv_at hl 2 rfl) ?_
    refine z_bipush hx hb dX1_scientific_168 (by decide) ?_
    refine z_irem hx hb (by omega) (by omega) dX1_scientific_170 ?_
    refine z_iadd hx hb dX1_scientific_171 ?_
    have hgc6 := gcap_ok (cap := gcap cp1 sb1) (sz := sb1 + 1) (by omega) (by omega) (by omega)
    refine z_callVv (n := 1) (As := [.int (zI (48 + (n7 % 10)))]) (rest := []) (wr := ([(xd, .inr (1, [.ref xw, .int (zI sz), .ref xg, .int (zI c1), .int (zI p1)])), (xw, .inl (cI, 140, .inl (zA w))), (xg, .inl (cB, 1300, .inl (zA g1)))] : va_W)) (C := "DecimalText$Bytes") (ci := 2) hF (c_add l D cB cI yb ya5 (gcap cp1 sb1) gy5 (sb1 + 1) (48 + (n7 % 10)) (X ++ [48 + ((n7 / 10) % 10)]) hBy5 (by omega) (by omega) (by omega) (by omega)) (lw_V q124 q90 q91 q16 q92) (by decide +kernel) ⟨Nat.le_of_ble_eq_true rfl, Nat.le_of_ble_eq_true rfl⟩ hI hA [3, 4] [0, 1, 2] rfl rfl rfl rfl (by decide) rfl rfl rfl hl.1 rfl (lv_room (Nat.le_of_ble_eq_true rfl)) dX1_scientific_172 ⟨by first | omega | (dsimp only; omega), by first | omega | (dsimp only; omega)⟩ (fun u H locs hu hI => ?_)
    obtain ⟨ya6, gy6⟩ := u
    have hI : zW D A s.heap ((dW xd xw xg cB cI w sz g1 c1 p1) ++ (bW yb ya6 cB (gcap (gcap cp1 sb1) (sb1 + 1)) gy6 ((sb1 + 1) + 1))) H locs := hI
    have hBy6 : By gy6 ((sb1 + 1) + 1) ((X ++ [48 + ((n7 / 10) % 10)]) ++ [48 + (n7 % 10)]) := hu
    refine W.widen (k := 4000) (n := 8000) (by first | omega | (dsimp only; omega)) (by first | omega | (dsimp only; omega)) ?_
    exact z_vret (S := ((Int → Int) × Int × Int) × Nat × Nat × (Int → Int) × Int) (post := (textP (SciS z q dot lt))) (w' := (fun u => dW xd xw xg cB cI w sz u.1.1 u.1.2.1 u.1.2.2 ++ bW yb u.2.1 cB u.2.2.1 u.2.2.2.1 u.2.2.2.2)) hF hr hlk hI ((g1, c1, p1), ya6, gcap (gcap cp1 sb1) (sb1 + 1), gy6, (sb1 + 1) + 1) ⟨_, hfin, hBy6, by omega, by omega, by omega⟩ rfl dX1_scientific_175
  have L127 : ∀ (n7 : Int) (X : List Int) (g1 gb1 : Int → Int) (c1 p1 sb1 : Int) (ya1 cp1 : Nat), (cap ≤ cp1 ∧ cp1 ≤ 4000 ∧ sb1 ≤ (cp1 : Int)) → (X.length ≤ 25) → (By gb1 sb1 X) → (0 ≤ n7 ∧ n7 ≤ 1200) → (SciS z q dot lt (X ++ expT n7)) → ∀ (H : Heap) (locs : List Loc), zW D A s.heap ((dW xd xw xg cB cI w sz g1 c1 p1) ++ (bW yb ya1 cB cp1 gb1 sb1)) H locs → ∀ ls : Array Slot, lv_has ls 8 [(0, .ref xd), (1, .ref yb)] → W p l e ({ frames := 1, cells := 4000, slots := 8000, locals := 26 } : Room) s m ([.ref xd, .ref yb, .int (zI q), .int (zI dot), .int (zI lt)] : List Value).toArray below meth c H locs (cp1 - cap) (2 * (cp1 - cap)) (MQ below (va_Qv (textP (SciS z q dot lt)) (zPost D A (fun u => dW xd xw xg cB cI w sz u.1.1 u.1.2.1 u.1.2.2 ++ bW yb u.2.1 cB u.2.2.1 u.2.2.2.1 u.2.2.2.2)) A) ([.ref xd, .ref yb, .int (zI q), .int (zI dot), .int (zI lt)] : List Value).toArray s ({ frames := 1, cells := 4000, slots := 8000, locals := 26 } : Room).cells ({ frames := 1, cells := 4000, slots := 8000, locals := 26 } : Room).slots A) (F0 m 127 ls [.int (zI n7)]) := by
    intro n7 X g1 gb1 c1 p1 sb1 ya1 cp1 hcp1 hX hB1 hn7 hfin H locs hI ls hl
    have hl2 := hB1.sz
    try simp only [List.length_append, List.length_cons, List.length_nil, digs_len] at hl2
    refine lv_istore (lv' := [(7, .int (zI n7)), (0, .ref xd), (1, .ref yb)]) hx hb dX1_scientific_127 hl (by decide) rfl (fun ls hl => ?_)
    refine lv_iload hx hb dX1_scientific_129 (lv_at hl 0 rfl) ?_
    refine z_bipush hx hb dX1_scientific_131 (by decide) ?_
    refine z_icmp_le (tgt := 148) hx hb (by omega) (by omega) dX1_scientific_133 (by decide) (fun h1 => ?_) (fun h1 => ?_)
    · skip
      exact L148 n7 X g1 gb1 c1 p1 sb1 ya1 cp1 hcp1 (by omega) hB1 hn7 (by rw [expT, if_neg (by omega), List.nil_append] at hfin; rw [List.append_assoc]; exact hfin) H locs hI ls (lv_sub hl [1, 2, 0] rfl)
    · skip
      refine lv_aload_n hx hb dX1_scientific_136 rfl (lv_at hl 2 rfl) ?_
      refine z_bipush hx hb dX1_scientific_137 (by decide) ?_
      refine lv_iload hx hb dX1_scientific_139 (lv_at hl 0 rfl) ?_
      refine z_bipush hx hb dX1_scientific_141 (by decide) ?_
      refine z_idiv hx hb (by omega) (by omega) dX1_scientific_143 ?_
      refine z_iadd hx hb dX1_scientific_144 ?_
      have hgc7 := gcap_ok (cap := cp1) (sz := sb1) (by omega) (by omega) (by omega)
      refine z_callVv (n := 1) (As := [.int (zI (48 + (n7 / 100)))]) (rest := []) (wr := ([(xd, .inr (1, [.ref xw, .int (zI sz), .ref xg, .int (zI c1), .int (zI p1)])), (xw, .inl (cI, 140, .inl (zA w))), (xg, .inl (cB, 1300, .inl (zA g1)))] : va_W)) (C := "DecimalText$Bytes") (ci := 2) hF (c_add l D cB cI yb ya1 cp1 gb1 sb1 (48 + (n7 / 100)) X hB1 (by omega) (by omega) (by omega) (by omega)) (lw_V q124 q90 q91 q16 q92) (by decide +kernel) ⟨Nat.le_of_ble_eq_true rfl, Nat.le_of_ble_eq_true rfl⟩ hI hA [3, 4] [0, 1, 2] rfl rfl rfl rfl (by decide) rfl rfl rfl hl.1 rfl (lv_room (Nat.le_of_ble_eq_true rfl)) dX1_scientific_145 ⟨by first | omega | (dsimp only; omega), by first | omega | (dsimp only; omega)⟩ (fun u H locs hu hI => ?_)
      obtain ⟨ya7, gy7⟩ := u
      have hI : zW D A s.heap ((dW xd xw xg cB cI w sz g1 c1 p1) ++ (bW yb ya7 cB (gcap cp1 sb1) gy7 (sb1 + 1))) H locs := hI
      have hBy7 : By gy7 (sb1 + 1) (X ++ [48 + (n7 / 100)]) := hu
      refine W.widen (k := ((gcap cp1 sb1) - cap)) (n := (2 * ((gcap cp1 sb1) - cap))) (by first | omega | (dsimp only; omega)) (by first | omega | (dsimp only; omega)) ?_
      exact L148 n7 (X ++ [48 + n7 / 100]) g1 gy7 c1 p1 (sb1 + 1) ya7 (gcap cp1 sb1) (by omega) (by rw [List.length_append, List.length_singleton]; omega) hBy7 hn7 (by rw [expT, if_pos (by omega)] at hfin; simp only [List.append_assoc] at hfin ⊢; exact hfin) H locs hI ls (lv_sub hl [1, 2, 0] rfl)
  have L111 : ∀ (sg ee : Int) (X : List Int) (g1 gb1 : Int → Int) (c1 p1 sb1 : Int) (ya1 cp1 : Nat), (cap ≤ cp1 ∧ cp1 ≤ 4000 ∧ sb1 ≤ (cp1 : Int)) → (X.length ≤ 24) → (By gb1 sb1 X) → (0 ≤ sg ∧ sg < 128) → (-1200 ≤ ee ∧ ee ≤ 1200) → (SciS z q dot lt (X ++ [sg] ++ expT (absI ee))) → ∀ (H : Heap) (locs : List Loc), zW D A s.heap ((dW xd xw xg cB cI w sz g1 c1 p1) ++ (bW yb ya1 cB cp1 gb1 sb1)) H locs → ∀ ls : Array Slot, lv_has ls 8 [(0, .ref xd), (1, .ref yb), (6, .int (zI ee))] → W p l e ({ frames := 1, cells := 4000, slots := 8000, locals := 26 } : Room) s m ([.ref xd, .ref yb, .int (zI q), .int (zI dot), .int (zI lt)] : List Value).toArray below meth c H locs (cp1 - cap) (2 * (cp1 - cap)) (MQ below (va_Qv (textP (SciS z q dot lt)) (zPost D A (fun u => dW xd xw xg cB cI w sz u.1.1 u.1.2.1 u.1.2.2 ++ bW yb u.2.1 cB u.2.2.1 u.2.2.2.1 u.2.2.2.2)) A) ([.ref xd, .ref yb, .int (zI q), .int (zI dot), .int (zI lt)] : List Value).toArray s ({ frames := 1, cells := 4000, slots := 8000, locals := 26 } : Room).cells ({ frames := 1, cells := 4000, slots := 8000, locals := 26 } : Room).slots A) (F0 m 111 ls [.int (zI sg), .ref yb]) := by
    intro sg ee X g1 gb1 c1 p1 sb1 ya1 cp1 hcp1 hX hB1 hsg hee hfin H locs hI ls hl
    have hl2 := hB1.sz
    try simp only [List.length_append, List.length_cons, List.length_nil, digs_len] at hl2
    have hgc8 := gcap_ok (cap := cp1) (sz := sb1) (by omega) (by omega) (by omega)
    refine z_callVv (n := 1) (As := [.int (zI sg)]) (rest := []) (wr := ([(xd, .inr (1, [.ref xw, .int (zI sz), .ref xg, .int (zI c1), .int (zI p1)])), (xw, .inl (cI, 140, .inl (zA w))), (xg, .inl (cB, 1300, .inl (zA g1)))] : va_W)) (C := "DecimalText$Bytes") (ci := 2) hF (c_add l D cB cI yb ya1 cp1 gb1 sb1 sg X hB1 (by omega) (by omega) (by omega) (by omega)) (lw_V q124 q90 q91 q16 q92) (by decide +kernel) ⟨Nat.le_of_ble_eq_true rfl, Nat.le_of_ble_eq_true rfl⟩ hI hA [3, 4] [0, 1, 2] rfl rfl rfl rfl (by decide) rfl rfl rfl hl.1 rfl (lv_room (Nat.le_of_ble_eq_true rfl)) dX1_scientific_111 ⟨by first | omega | (dsimp only; omega), by first | omega | (dsimp only; omega)⟩ (fun u H locs hu hI => ?_)
    obtain ⟨ya8, gy8⟩ := u
    have hI : zW D A s.heap ((dW xd xw xg cB cI w sz g1 c1 p1) ++ (bW yb ya8 cB (gcap cp1 sb1) gy8 (sb1 + 1))) H locs := hI
    have hBy8 : By gy8 (sb1 + 1) (X ++ [sg]) := hu
    refine W.widen (k := ((gcap cp1 sb1) - cap)) (n := (2 * ((gcap cp1 sb1) - cap))) (by first | omega | (dsimp only; omega)) (by first | omega | (dsimp only; omega)) ?_
    refine lv_iload hx hb dX1_scientific_114 (lv_at hl 2 rfl) ?_
    refine z_if_ge (tgt := 125) hx hb (by omega) dX1_scientific_116 (by decide) (fun h1 => ?_) (fun h1 => ?_)
    · skip
      refine lv_iload hx hb dX1_scientific_125 (lv_at hl 2 rfl) ?_
      exact L127 ee (X ++ [sg]) g1 gy8 c1 p1 (sb1 + 1) ya8 (gcap cp1 sb1) (by omega) (by rw [List.length_append, List.length_singleton]; omega) hBy8 (by omega) (by rw [absI, if_neg (by omega)] at hfin; exact hfin) H locs hI ls (lv_sub hl [0, 1] rfl)
    · skip
      refine lv_iload hx hb dX1_scientific_119 (lv_at hl 2 rfl) ?_
      refine z_ineg hx hb dX1_scientific_121 ?_
      refine lv_goto (tgt := 127) hx hb dX1_scientific_122 (by decide) ?_
      exact L127 (-ee) (X ++ [sg]) g1 gy8 c1 p1 (sb1 + 1) ya8 (gcap cp1 sb1) (by omega) (by rw [List.length_append, List.length_singleton]; omega) hBy8 (by omega) (by rw [absI, if_pos (by omega)] at hfin; exact hfin) H locs hI ls (lv_sub hl [0, 1] rfl)
  have L92 : ∀ (ee : Int) (X : List Int) (g1 gb1 : Int → Int) (c1 p1 sb1 : Int) (ya1 cp1 : Nat), (cap ≤ cp1 ∧ cp1 ≤ 4000 ∧ sb1 ≤ (cp1 : Int)) → (X.length ≤ 23) → (By gb1 sb1 X) → (-1200 ≤ ee ∧ ee ≤ 1200) → (SciS z q dot lt (X ++ [lt] ++ [if ee < 0 then 45 else 43] ++ expT (absI ee))) → ∀ (H : Heap) (locs : List Loc), zW D A s.heap ((dW xd xw xg cB cI w sz g1 c1 p1) ++ (bW yb ya1 cB cp1 gb1 sb1)) H locs → ∀ ls : Array Slot, lv_has ls 8 [(0, .ref xd), (1, .ref yb), (4, .int (zI lt)), (6, .int (zI ee))] → W p l e ({ frames := 1, cells := 4000, slots := 8000, locals := 26 } : Room) s m ([.ref xd, .ref yb, .int (zI q), .int (zI dot), .int (zI lt)] : List Value).toArray below meth c H locs (cp1 - cap) (2 * (cp1 - cap)) (MQ below (va_Qv (textP (SciS z q dot lt)) (zPost D A (fun u => dW xd xw xg cB cI w sz u.1.1 u.1.2.1 u.1.2.2 ++ bW yb u.2.1 cB u.2.2.1 u.2.2.2.1 u.2.2.2.2)) A) ([.ref xd, .ref yb, .int (zI q), .int (zI dot), .int (zI lt)] : List Value).toArray s ({ frames := 1, cells := 4000, slots := 8000, locals := 26 } : Room).cells ({ frames := 1, cells := 4000, slots := 8000, locals := 26 } : Room).slots A) (F0 m 92 ls []) := by
    intro ee X g1 gb1 c1 p1 sb1 ya1 cp1 hcp1 hX hB1 hee hfin H locs hI ls hl
    have hl2 := hB1.sz
    try simp only [List.length_append, List.length_cons, List.length_nil, digs_len] at hl2
    refine lv_aload_n hx hb dX1_scientific_92 rfl (lv_at hl 1 rfl) ?_
    refine lv_iload hx hb dX1_scientific_93 (lv_at hl 2 rfl) ?_
    have hgc9 := gcap_ok (cap := cp1) (sz := sb1) (by omega) (by omega) (by omega)
    refine z_callVv (n := 1) (As := [.int (zI lt)]) (rest := []) (wr := ([(xd, .inr (1, [.ref xw, .int (zI sz), .ref xg, .int (zI c1), .int (zI p1)])), (xw, .inl (cI, 140, .inl (zA w))), (xg, .inl (cB, 1300, .inl (zA g1)))] : va_W)) (C := "DecimalText$Bytes") (ci := 2) hF (c_add l D cB cI yb ya1 cp1 gb1 sb1 lt X hB1 (by omega) (by omega) (by omega) (by omega)) (lw_V q124 q90 q91 q16 q92) (by decide +kernel) ⟨Nat.le_of_ble_eq_true rfl, Nat.le_of_ble_eq_true rfl⟩ hI hA [3, 4] [0, 1, 2] rfl rfl rfl rfl (by decide) rfl rfl rfl hl.1 rfl (lv_room (Nat.le_of_ble_eq_true rfl)) dX1_scientific_95 ⟨by first | omega | (dsimp only; omega), by first | omega | (dsimp only; omega)⟩ (fun u H locs hu hI => ?_)
    obtain ⟨ya9, gy9⟩ := u
    have hI : zW D A s.heap ((dW xd xw xg cB cI w sz g1 c1 p1) ++ (bW yb ya9 cB (gcap cp1 sb1) gy9 (sb1 + 1))) H locs := hI
    have hBy9 : By gy9 (sb1 + 1) (X ++ [lt]) := hu
    refine W.widen (k := ((gcap cp1 sb1) - cap)) (n := (2 * ((gcap cp1 sb1) - cap))) (by first | omega | (dsimp only; omega)) (by first | omega | (dsimp only; omega)) ?_
    refine lv_aload_n hx hb dX1_scientific_98 rfl (lv_at hl 1 rfl) ?_
    refine lv_iload hx hb dX1_scientific_99 (lv_at hl 3 rfl) ?_
    refine z_if_ge (tgt := 109) hx hb (by omega) dX1_scientific_101 (by decide) (fun h1 => ?_) (fun h1 => ?_)
    · skip
      refine z_bipush hx hb dX1_scientific_109 (by decide) ?_
      exact L111 43 ee (X ++ [lt]) g1 gy9 c1 p1 (sb1 + 1) ya9 (gcap cp1 sb1) (by omega) (by rw [List.length_append, List.length_singleton]; omega) hBy9 (by omega) hee (by rw [if_neg (by omega)] at hfin; exact hfin) H locs hI ls (lv_sub hl [0, 1, 3] rfl)
    · skip
      refine z_bipush hx hb dX1_scientific_104 (by decide) ?_
      refine lv_goto (tgt := 111) hx hb dX1_scientific_106 (by decide) ?_
      exact L111 45 ee (X ++ [lt]) g1 gy9 c1 p1 (sb1 + 1) ya9 (gcap cp1 sb1) (by omega) (by rw [List.length_append, List.length_singleton]; omega) hBy9 (by omega) hee (by rw [if_pos (by omega)] at hfin; exact hfin) H locs hI ls (lv_sub hl [0, 1, 3] rfl)
  have L67 : ∀ (n_ : Nat), ∀ (k : Int) (ee PP : Int) (g1 gb1 : Int → Int) (c1 p1 sb1 : Int) (ya1 cp1 : Nat), q - k + 1 < (n_ : Int) → (Shw z (pt - q - 1) 1300 g1 c1 PP) → (ee = if bN z = 0 then 0 else PP - 1) → (cap ≤ cp1 ∧ cp1 ≤ 4000 ∧ sb1 ≤ (cp1 : Int)) → (1 ≤ k ∧ k ≤ q + 1) → (By gb1 sb1 (digs (rD z (pt - q - 1)) (PP - 1) 1 ++ dotT q dot ++ digs (rD z (pt - q - 1)) (PP - 2) (k - 1).toNat)) → ∀ (H : Heap) (locs : List Loc), zW D A s.heap ((dW xd xw xg cB cI w sz g1 c1 p1) ++ (bW yb ya1 cB cp1 gb1 sb1)) H locs → ∀ ls : Array Slot, lv_has ls 8 [(0, .ref xd), (1, .ref yb), (2, .int (zI q)), (3, .int (zI dot)), (4, .int (zI lt)), (6, .int (zI ee)), (7, .int (zI k))] → W p l e ({ frames := 1, cells := 4000, slots := 8000, locals := 26 } : Room) s m ([.ref xd, .ref yb, .int (zI q), .int (zI dot), .int (zI lt)] : List Value).toArray below meth c H locs (cp1 - cap) (2 * (cp1 - cap)) (MQ below (va_Qv (textP (SciS z q dot lt)) (zPost D A (fun u => dW xd xw xg cB cI w sz u.1.1 u.1.2.1 u.1.2.2 ++ bW yb u.2.1 cB u.2.2.1 u.2.2.2.1 u.2.2.2.2)) A) ([.ref xd, .ref yb, .int (zI q), .int (zI dot), .int (zI lt)] : List Value).toArray s ({ frames := 1, cells := 4000, slots := 8000, locals := 26 } : Room).cells ({ frames := 1, cells := 4000, slots := 8000, locals := 26 } : Room).slots A) (F0 m 67 ls []) := by
    intro n_
    induction n_ with
    | zero =>
      intro k ee PP g1 gb1 c1 p1 sb1 ya1 cp1 hm_ hS he hcp1 hk hB1 H locs hI ls hl
      exfalso; omega
    | succ n_ ih_ =>
      intro k ee PP g1 gb1 c1 p1 sb1 ya1 cp1 hm_ hS he hcp1 hk hB1 H locs hI ls hl
      have hsl := sci_le hE hq hDp hS.rP
      have hSd := hS.d
      have hdl := dotT_len q dot
      have hl2 := hB1.sz
      try simp only [List.length_append, List.length_cons, List.length_nil, digs_len] at hl2
      refine lv_iload hx hb dX1_scientific_67 (lv_at hl 6 rfl) ?_
      refine lv_iload_n hx hb dX1_scientific_69 rfl (lv_at hl 2 rfl) ?_
      refine z_icmp_gt (tgt := 92) hx hb (by omega) (by omega) dX1_scientific_70 (by decide) (fun h1 => ?_) (fun h1 => ?_)
      · skip
        rw [show (k - 1).toNat = q.toNat by omega] at hB1
        exact L92 ee (digs (rD z (pt - q - 1)) (PP - 1) 1 ++ dotT q dot ++ digs (rD z (pt - q - 1)) (PP - 2) q.toNat) g1 gb1 c1 p1 sb1 ya1 cp1 hcp1 (by simp only [List.length_append, digs_len]; omega) hB1 (by rw [he]; split <;> omega) (by exact ⟨pt, PP, hDp, hS.rP, by rw [← he]; rfl⟩) H locs hI ls (lv_sub hl [0, 1, 4, 5] rfl)
      · skip
        refine lv_aload_n hx hb dX1_scientific_73 rfl (lv_at hl 1 rfl) ?_
        refine z_bipush hx hb dX1_scientific_74 (by decide) ?_
        refine lv_aload_n hx hb dX1_scientific_76 rfl (lv_at hl 0 rfl) ?_
        refine lv_iload hx hb dX1_scientific_77 (lv_at hl 6 rfl) ?_
        refine z_callVi (n := 1) (As := [.int (zI k)]) (rest := [.int (zI 48), .ref yb]) (wr := ([(yb, .inr (2, [.ref ya1, .int (zI sb1)])), (ya1, .inl (cB, cp1, .inl (zA gb1)))] : va_W)) (C := "DecimalText$Decimal") (ci := 1) hF (c_digit l D cB cI xd xw xg w sz g1 c1 p1 k (by omega) (by omega)) (lw_V q125 q127 qs2 q15 q128) (by decide +kernel) ⟨Nat.le_of_ble_eq_true rfl, Nat.le_of_ble_eq_true rfl⟩ hI hA [0, 1, 2] [3, 4] rfl rfl rfl rfl (by decide) rfl rfl rfl hl.1 rfl (lv_room (Nat.le_of_ble_eq_true rfl)) dX1_scientific_79 ⟨by first | omega | (dsimp only; omega), by first | omega | (dsimp only; omega)⟩ (fun r u H locs hu hI => ?_)
        obtain _u := u
        have hI : zW D A s.heap ((dW xd xw xg cB cI w sz g1 c1 p1) ++ (bW yb ya1 cB cp1 gb1 sb1)) H locs := hI.sub [2, 3, 4, 0, 1] rfl rfl
        have hr1 := hu.trans (hS.dig k)
        have hr2 := rD_lt z (pt - q - 1) (PP - 1 - k)
        refine z_iadd hx hb dX1_scientific_82 ?_
        have hgc10 := gcap_ok (cap := cp1) (sz := sb1) (by omega) (by omega) (by omega)
        refine z_callVv (n := 1) (As := [.int (zI (48 + r))]) (rest := []) (wr := ([(xd, .inr (1, [.ref xw, .int (zI sz), .ref xg, .int (zI c1), .int (zI p1)])), (xw, .inl (cI, 140, .inl (zA w))), (xg, .inl (cB, 1300, .inl (zA g1)))] : va_W)) (C := "DecimalText$Bytes") (ci := 2) hF (c_add l D cB cI yb ya1 cp1 gb1 sb1 (48 + r) (digs (rD z (pt - q - 1)) (PP - 1) 1 ++ dotT q dot ++ digs (rD z (pt - q - 1)) (PP - 2) (k - 1).toNat) hB1 (by omega) (by omega) (by omega) (by omega)) (lw_V q124 q90 q91 q16 q92) (by decide +kernel) ⟨Nat.le_of_ble_eq_true rfl, Nat.le_of_ble_eq_true rfl⟩ hI hA [3, 4] [0, 1, 2] rfl rfl rfl rfl (by decide) rfl rfl rfl hl.1 rfl (lv_room (Nat.le_of_ble_eq_true rfl)) dX1_scientific_83 ⟨by first | omega | (dsimp only; omega), by first | omega | (dsimp only; omega)⟩ (fun u H locs hu hI => ?_)
        obtain ⟨ya10, gy10⟩ := u
        have hI : zW D A s.heap ((dW xd xw xg cB cI w sz g1 c1 p1) ++ (bW yb ya10 cB (gcap cp1 sb1) gy10 (sb1 + 1))) H locs := hI
        have hBy10 : By gy10 (sb1 + 1) ((digs (rD z (pt - q - 1)) (PP - 1) 1 ++ dotT q dot ++ digs (rD z (pt - q - 1)) (PP - 2) (k - 1).toNat) ++ [48 + r]) := hu
        refine W.widen (k := ((gcap cp1 sb1) - cap)) (n := (2 * ((gcap cp1 sb1) - cap))) (by first | omega | (dsimp only; omega)) (by first | omega | (dsimp only; omega)) ?_
        refine lv_iinc (lv' := [(7, .int (zI (k + 1))), (0, .ref xd), (1, .ref yb), (2, .int (zI q)), (3, .int (zI dot)), (4, .int (zI lt)), (6, .int (zI ee))]) (k := 6) hx hb dX1_scientific_86 hl rfl (zI_add _ _) (by decide) rfl (fun ls hl => ?_)
        refine lv_goto (tgt := 67) hx hb dX1_scientific_89 (by decide) ?_
        exact ih_ (k + 1) ee PP g1 gy10 c1 p1 (sb1 + 1) ya10 (gcap cp1 sb1) (by omega) hS he (by omega) (by omega) (by exact hBy10.to (by rw [show (k + 1 - 1).toNat = (k - 1).toNat + 1 by omega, digs_succ _ (PP - 2), ← List.append_assoc, hr1, show PP - 2 - ((k - 1).toNat : Int) = PP - 1 - k by omega])) H locs hI ls (lv_sub hl [1, 2, 3, 4, 5, 6, 0] rfl)
  have L64 : ∀ (ee PP : Int) (g1 gb1 : Int → Int) (c1 p1 sb1 : Int) (ya1 cp1 : Nat), (Shw z (pt - q - 1) 1300 g1 c1 PP) → (ee = if bN z = 0 then 0 else PP - 1) → (cap ≤ cp1 ∧ cp1 ≤ 4000 ∧ sb1 ≤ (cp1 : Int)) → (By gb1 sb1 (digs (rD z (pt - q - 1)) (PP - 1) 1 ++ dotT q dot)) → ∀ (H : Heap) (locs : List Loc), zW D A s.heap ((dW xd xw xg cB cI w sz g1 c1 p1) ++ (bW yb ya1 cB cp1 gb1 sb1)) H locs → ∀ ls : Array Slot, lv_has ls 8 [(0, .ref xd), (1, .ref yb), (2, .int (zI q)), (3, .int (zI dot)), (4, .int (zI lt)), (6, .int (zI ee))] → W p l e ({ frames := 1, cells := 4000, slots := 8000, locals := 26 } : Room) s m ([.ref xd, .ref yb, .int (zI q), .int (zI dot), .int (zI lt)] : List Value).toArray below meth c H locs (cp1 - cap) (2 * (cp1 - cap)) (MQ below (va_Qv (textP (SciS z q dot lt)) (zPost D A (fun u => dW xd xw xg cB cI w sz u.1.1 u.1.2.1 u.1.2.2 ++ bW yb u.2.1 cB u.2.2.1 u.2.2.2.1 u.2.2.2.2)) A) ([.ref xd, .ref yb, .int (zI q), .int (zI dot), .int (zI lt)] : List Value).toArray s ({ frames := 1, cells := 4000, slots := 8000, locals := 26 } : Room).cells ({ frames := 1, cells := 4000, slots := 8000, locals := 26 } : Room).slots A) (F0 m 64 ls []) := by
    intro ee PP g1 gb1 c1 p1 sb1 ya1 cp1 hS he hcp1 hB1 H locs hI ls hl
    refine z_iconst hx hb dX1_scientific_64 ?_
    refine lv_istore (lv' := [(7, .int (zI 1)), (0, .ref xd), (1, .ref yb), (2, .int (zI q)), (3, .int (zI dot)), (4, .int (zI lt)), (6, .int (zI ee))]) hx hb dX1_scientific_65 hl (by decide) rfl (fun ls hl => ?_)
    exact L67 (17) 1 ee PP g1 gb1 c1 p1 sb1 ya1 cp1 (by omega) hS he hcp1 (by omega) (by rw [show ((1 : Int) - 1).toNat = 0 from rfl, digs_0, List.append_nil]; exact hB1) H locs hI ls (lv_sub hl [1, 2, 3, 4, 5, 6, 0] rfl)
  have L58 : ∀ (ee PP : Int) (g1 gb1 : Int → Int) (c1 p1 sb1 : Int) (ya1 cp1 : Nat), (Shw z (pt - q - 1) 1300 g1 c1 PP) → (ee = if bN z = 0 then 0 else PP - 1) → (cap ≤ cp1 ∧ cp1 ≤ 4000 ∧ sb1 ≤ (cp1 : Int)) → (0 < q ∨ dot ≠ 0) → (By gb1 sb1 (digs (rD z (pt - q - 1)) (PP - 1) 1)) → ∀ (H : Heap) (locs : List Loc), zW D A s.heap ((dW xd xw xg cB cI w sz g1 c1 p1) ++ (bW yb ya1 cB cp1 gb1 sb1)) H locs → ∀ ls : Array Slot, lv_has ls 8 [(0, .ref xd), (1, .ref yb), (2, .int (zI q)), (3, .int (zI dot)), (4, .int (zI lt)), (6, .int (zI ee))] → W p l e ({ frames := 1, cells := 4000, slots := 8000, locals := 26 } : Room) s m ([.ref xd, .ref yb, .int (zI q), .int (zI dot), .int (zI lt)] : List Value).toArray below meth c H locs (cp1 - cap) (2 * (cp1 - cap)) (MQ below (va_Qv (textP (SciS z q dot lt)) (zPost D A (fun u => dW xd xw xg cB cI w sz u.1.1 u.1.2.1 u.1.2.2 ++ bW yb u.2.1 cB u.2.2.1 u.2.2.2.1 u.2.2.2.2)) A) ([.ref xd, .ref yb, .int (zI q), .int (zI dot), .int (zI lt)] : List Value).toArray s ({ frames := 1, cells := 4000, slots := 8000, locals := 26 } : Room).cells ({ frames := 1, cells := 4000, slots := 8000, locals := 26 } : Room).slots A) (F0 m 58 ls []) := by
    intro ee PP g1 gb1 c1 p1 sb1 ya1 cp1 hS he hcp1 hdd hB1 H locs hI ls hl
    have hl2 := hB1.sz
    try simp only [List.length_append, List.length_cons, List.length_nil, digs_len] at hl2
    refine lv_aload_n hx hb dX1_scientific_58 rfl (lv_at hl 1 rfl) ?_
    refine z_bipush hx hb dX1_scientific_59 (by decide) ?_
    have hgc11 := gcap_ok (cap := cp1) (sz := sb1) (by omega) (by omega) (by omega)
    refine z_callVv (n := 1) (As := [.int (zI 46)]) (rest := []) (wr := ([(xd, .inr (1, [.ref xw, .int (zI sz), .ref xg, .int (zI c1), .int (zI p1)])), (xw, .inl (cI, 140, .inl (zA w))), (xg, .inl (cB, 1300, .inl (zA g1)))] : va_W)) (C := "DecimalText$Bytes") (ci := 2) hF (c_add l D cB cI yb ya1 cp1 gb1 sb1 46 (digs (rD z (pt - q - 1)) (PP - 1) 1) hB1 (by omega) (by omega) (by omega) (by omega)) (lw_V q124 q90 q91 q16 q92) (by decide +kernel) ⟨Nat.le_of_ble_eq_true rfl, Nat.le_of_ble_eq_true rfl⟩ hI hA [3, 4] [0, 1, 2] rfl rfl rfl rfl (by decide) rfl rfl rfl hl.1 rfl (lv_room (Nat.le_of_ble_eq_true rfl)) dX1_scientific_61 ⟨by first | omega | (dsimp only; omega), by first | omega | (dsimp only; omega)⟩ (fun u H locs hu hI => ?_)
    obtain ⟨ya11, gy11⟩ := u
    have hI : zW D A s.heap ((dW xd xw xg cB cI w sz g1 c1 p1) ++ (bW yb ya11 cB (gcap cp1 sb1) gy11 (sb1 + 1))) H locs := hI
    have hBy11 : By gy11 (sb1 + 1) (digs (rD z (pt - q - 1)) (PP - 1) 1 ++ [46]) := hu
    refine W.widen (k := ((gcap cp1 sb1) - cap)) (n := (2 * ((gcap cp1 sb1) - cap))) (by first | omega | (dsimp only; omega)) (by first | omega | (dsimp only; omega)) ?_
    exact L64 ee PP g1 gy11 c1 p1 (sb1 + 1) ya11 (gcap cp1 sb1) hS he (by omega) (by exact hBy11.to (by rw [dotT, if_pos hdd])) H locs hI ls (lv_sub hl [0, 1, 2, 3, 4, 5] rfl)
  have L36 : ∀ (ee PP : Int) (g1 : Int → Int) (c1 p1 : Int), (Shw z (pt - q - 1) 1300 g1 c1 PP) → (ee = if bN z = 0 then 0 else PP - 1) → ∀ (H : Heap) (locs : List Loc), zW D A s.heap ((dW xd xw xg cB cI w sz g1 c1 p1) ++ (bW yb ya cB cap gb sb)) H locs → ∀ ls : Array Slot, lv_has ls 8 [(0, .ref xd), (1, .ref yb), (2, .int (zI q)), (3, .int (zI dot)), (4, .int (zI lt))] → W p l e ({ frames := 1, cells := 4000, slots := 8000, locals := 26 } : Room) s m ([.ref xd, .ref yb, .int (zI q), .int (zI dot), .int (zI lt)] : List Value).toArray below meth c H locs 0 0 (MQ below (va_Qv (textP (SciS z q dot lt)) (zPost D A (fun u => dW xd xw xg cB cI w sz u.1.1 u.1.2.1 u.1.2.2 ++ bW yb u.2.1 cB u.2.2.1 u.2.2.2.1 u.2.2.2.2)) A) ([.ref xd, .ref yb, .int (zI q), .int (zI dot), .int (zI lt)] : List Value).toArray s ({ frames := 1, cells := 4000, slots := 8000, locals := 26 } : Room).cells ({ frames := 1, cells := 4000, slots := 8000, locals := 26 } : Room).slots A) (F0 m 36 ls [.int (zI ee)]) := by
    intro ee PP g1 c1 p1 hS he H locs hI ls hl
    have hsl := sci_le hE hq hDp hS.rP
    have hSd := hS.d
    refine lv_istore (lv' := [(6, .int (zI ee)), (0, .ref xd), (1, .ref yb), (2, .int (zI q)), (3, .int (zI dot)), (4, .int (zI lt))]) hx hb dX1_scientific_36 hl (by decide) rfl (fun ls hl => ?_)
    refine lv_aload_n hx hb dX1_scientific_38 rfl (lv_at hl 2 rfl) ?_
    refine z_bipush hx hb dX1_scientific_39 (by decide) ?_
    refine lv_aload_n hx hb dX1_scientific_41 rfl (lv_at hl 1 rfl) ?_
    refine z_iconst hx hb dX1_scientific_42 ?_
    refine z_callVi (n := 1) (As := [.int (zI 0)]) (rest := [.int (zI 48), .ref yb]) (wr := ([(yb, .inr (2, [.ref ya, .int (zI sb)])), (ya, .inl (cB, cap, .inl (zA gb)))] : va_W)) (C := "DecimalText$Decimal") (ci := 1) hF (c_digit l D cB cI xd xw xg w sz g1 c1 p1 0 (by omega) (by omega)) (lw_V q125 q127 qs2 q15 q128) (by decide +kernel) ⟨Nat.le_of_ble_eq_true rfl, Nat.le_of_ble_eq_true rfl⟩ hI hA [0, 1, 2] [3, 4] rfl rfl rfl rfl (by decide) rfl rfl rfl hl.1 rfl (lv_room (Nat.le_of_ble_eq_true rfl)) dX1_scientific_43 ⟨by first | omega | (dsimp only; omega), by first | omega | (dsimp only; omega)⟩ (fun r u H locs hu hI => ?_)
    obtain _u := u
    have hI : zW D A s.heap ((dW xd xw xg cB cI w sz g1 c1 p1) ++ (bW yb ya cB cap gb sb)) H locs := hI.sub [2, 3, 4, 0, 1] rfl rfl
    have hr1 := hu.trans (hS.dig 0)
    have hr2 := rD_lt z (pt - q - 1) (PP - 1 - 0)
    refine z_iadd hx hb dX1_scientific_46 ?_
    have hgc12 := gcap_ok (cap := cap) (sz := sb) (by omega) (by omega) (by omega)
    refine z_callVv (n := 1) (As := [.int (zI (48 + r))]) (rest := []) (wr := ([(xd, .inr (1, [.ref xw, .int (zI sz), .ref xg, .int (zI c1), .int (zI p1)])), (xw, .inl (cI, 140, .inl (zA w))), (xg, .inl (cB, 1300, .inl (zA g1)))] : va_W)) (C := "DecimalText$Bytes") (ci := 2) hF (c_add l D cB cI yb ya cap gb sb (48 + r) ([]) hB (by omega) (by omega) (by omega) (by omega)) (lw_V q124 q90 q91 q16 q92) (by decide +kernel) ⟨Nat.le_of_ble_eq_true rfl, Nat.le_of_ble_eq_true rfl⟩ hI hA [3, 4] [0, 1, 2] rfl rfl rfl rfl (by decide) rfl rfl rfl hl.1 rfl (lv_room (Nat.le_of_ble_eq_true rfl)) dX1_scientific_47 ⟨by first | omega | (dsimp only; omega), by first | omega | (dsimp only; omega)⟩ (fun u H locs hu hI => ?_)
    obtain ⟨ya12, gy12⟩ := u
    have hI : zW D A s.heap ((dW xd xw xg cB cI w sz g1 c1 p1) ++ (bW yb ya12 cB (gcap cap sb) gy12 (sb + 1))) H locs := hI
    have hBy12 : By gy12 (sb + 1) ([] ++ [48 + r]) := hu
    refine W.widen (k := ((gcap cap sb) - cap)) (n := (2 * ((gcap cap sb) - cap))) (by first | omega | (dsimp only; omega)) (by first | omega | (dsimp only; omega)) ?_
    have hB2 := hBy12.to (Y := digs (rD z (pt - q - 1)) (PP - 1) 1) (by rw [digs_1, hr1, show PP - 1 - 0 = PP - 1 by omega]; rfl)
    refine lv_iload_n hx hb dX1_scientific_50 rfl (lv_at hl 3 rfl) ?_
    refine z_if_gt (tgt := 58) hx hb (by omega) dX1_scientific_51 (by decide) (fun h1 => ?_) (fun h1 => ?_)
    · skip
      exact L58 ee PP g1 gy12 c1 p1 (sb + 1) ya12 (gcap cap sb) hS he (by omega) (by exact Or.inl h1) hB2 H locs hI ls (lv_sub hl [1, 2, 3, 4, 5, 0] rfl)
    · skip
      refine lv_iload_n hx hb dX1_scientific_54 rfl (lv_at hl 4 rfl) ?_
      refine z_if_eq (tgt := 64) hx hb (by omega) dX1_scientific_55 (by decide) (fun h2 => ?_) (fun h2 => ?_)
      · skip
        exact L64 ee PP g1 gy12 c1 p1 (sb + 1) ya12 (gcap cap sb) hS he (by omega) (by rw [dotT, if_neg (by omega), List.append_nil]; exact hB2) H locs hI ls (lv_sub hl [1, 2, 3, 4, 5, 0] rfl)
      · skip
        exact L58 ee PP g1 gy12 c1 p1 (sb + 1) ya12 (gcap cap sb) hS he (by omega) (by exact Or.inr h2) hB2 H locs hI ls (lv_sub hl [1, 2, 3, 4, 5, 0] rfl)
  have L12 : ∀ (no : Int), (no = if bN z = 0 then 1 else 0) → ∀ (H : Heap) (locs : List Loc), zW D A s.heap ((dW xd xw xg cB cI w sz g cnt pt) ++ (bW yb ya cB cap gb sb)) H locs → ∀ ls : Array Slot, lv_has ls 8 [(0, .ref xd), (1, .ref yb), (2, .int (zI q)), (3, .int (zI dot)), (4, .int (zI lt))] → W p l e ({ frames := 1, cells := 4000, slots := 8000, locals := 26 } : Room) s m ([.ref xd, .ref yb, .int (zI q), .int (zI dot), .int (zI lt)] : List Value).toArray below meth c H locs 0 0 (MQ below (va_Qv (textP (SciS z q dot lt)) (zPost D A (fun u => dW xd xw xg cB cI w sz u.1.1 u.1.2.1 u.1.2.2 ++ bW yb u.2.1 cB u.2.2.1 u.2.2.2.1 u.2.2.2.2)) A) ([.ref xd, .ref yb, .int (zI q), .int (zI dot), .int (zI lt)] : List Value).toArray s ({ frames := 1, cells := 4000, slots := 8000, locals := 26 } : Room).cells ({ frames := 1, cells := 4000, slots := 8000, locals := 26 } : Room).slots A) (F0 m 12 ls [.int (zI no)]) := by
    intro no hno H locs hI ls hl
    have hno1 : 0 ≤ no ∧ no ≤ 1 := (by rw [hno]; split <;> omega)
    refine lv_istore (lv' := [(5, .int (zI no)), (0, .ref xd), (1, .ref yb), (2, .int (zI q)), (3, .int (zI dot)), (4, .int (zI lt))]) hx hb dX1_scientific_12 hl (by decide) rfl (fun ls hl => ?_)
    refine lv_aload_n hx hb dX1_scientific_14 rfl (lv_at hl 1 rfl) ?_
    refine lv_iload_n hx hb dX1_scientific_15 rfl (lv_at hl 3 rfl) ?_
    refine z_iconst hx hb dX1_scientific_16 ?_
    refine z_iadd hx hb dX1_scientific_17 ?_
    refine z_callVv (n := 1) (As := [.int (zI (q + 1))]) (rest := []) (wr := ([(yb, .inr (2, [.ref ya, .int (zI sb)])), (ya, .inl (cB, cap, .inl (zA gb)))] : va_W)) (C := "DecimalText$Decimal") (ci := 1) hF (c_round l D cB cI xd xw xg w sz g cnt pt n (bN z) (q + 1) hc hR (by omega) (by omega) (Ofp_lead hO) (by omega)) (lw_V q120 q122 qs1 q15 q123) (by decide +kernel) ⟨Nat.le_of_ble_eq_true rfl, Nat.le_of_ble_eq_true rfl⟩ hI hA [0, 1, 2] [3, 4] rfl rfl rfl rfl (by decide) rfl rfl rfl hl.1 rfl (lv_room (Nat.le_of_ble_eq_true rfl)) dX1_scientific_18 ⟨by first | omega | (dsimp only; omega), by first | omega | (dsimp only; omega)⟩ (fun u H locs hu hI => ?_)
    obtain ⟨g1, c1, p1⟩ := u
    have hI : zW D A s.heap ((dW xd xw xg cB cI w sz g1 c1 p1) ++ (bW yb ya cB cap gb sb)) H locs := hI.sub [2, 3, 4, 0, 1] rfl rfl
    have hSx := rnd_show (P := if c1 = 0 then 0 else p1) (y := pt - q - 1) hO hR (by omega) hu rfl
    have hS := Shw_mono hSx (show n + 1 ≤ 1300 by omega)
    have hz0 := hS.zero.trans (sci_nz hq.1 hDp)
    have hSd := hS.d
    have hsl := sci_le hE hq hDp hS.rP
    refine lv_iload hx hb dX1_scientific_21 (lv_at hl 0 rfl) ?_
    refine z_if_eq (tgt := 30) hx hb (by omega) dX1_scientific_23 (by decide) (fun h1 => ?_) (fun h1 => ?_)
    · skip
      have hN0 : bN z ≠ 0 := (by intro q9; rw [if_pos q9] at hno; omega)
      have hc0 : c1 ≠ 0 := fun q9 => hN0 (hz0.mp q9)
      rw [if_neg hc0] at hS hsl
      refine lv_aload_n hx hb dX1_scientific_30 rfl (lv_at hl 1 rfl) ?_
      refine z_get (ci := 1) hF hI in_X1 0 rfl rfl 4 (by decide) q39 rfl rfl dX1_scientific_31 ?_
      refine z_iconst hx hb dX1_scientific_34 ?_
      refine z_isub hx hb dX1_scientific_35 ?_
      exact L36 (p1 - 1) p1 g1 c1 p1 hS (by rw [if_neg hN0]) H locs hI ls (lv_sub hl [1, 2, 3, 4, 5] rfl)
    · skip
      have hN0 : bN z = 0 := (by by_cases q9 : bN z = 0; exact q9; (rw [if_neg q9] at hno; omega))
      refine z_iconst hx hb dX1_scientific_26 ?_
      refine lv_goto (tgt := 36) hx hb dX1_scientific_27 (by decide) ?_
      exact L36 0 (if c1 = 0 then 0 else p1) g1 c1 p1 hS (by rw [if_pos hN0]) H locs hI ls (lv_sub hl [1, 2, 3, 4, 5] rfl)
  have hz9 := Ofp_zero hO hR
  refine lv_aload_n hx hb dX1_scientific_0 rfl (lv_at hl 0 rfl) ?_
  refine z_get (ci := 1) hF hI in_X1 0 rfl rfl 3 (by decide) q37 rfl rfl dX1_scientific_1 ?_
  refine z_if_ne (tgt := 11) hx hb (by omega) dX1_scientific_4 (by decide) (fun h1 => ?_) (fun h1 => ?_)
  · skip
    refine z_iconst hx hb dX1_scientific_11 ?_
    exact L12 0 (by rw [if_neg (fun q9 => h1 (by have := hz9.mpr q9; omega))]) H locs hI ls (lv_sub hl [0, 1, 2, 3, 4] rfl)
  · skip
    refine z_iconst hx hb dX1_scientific_7 ?_
    refine lv_goto (tgt := 12) hx hb dX1_scientific_8 (by decide) ?_
    exact L12 1 (by rw [if_pos (hz9.mp (by omega))]) H locs hI ls (lv_sub hl [0, 1, 2, 3, 4] rfl)
end
section
/-! the component: its constructor, at, arrange -/
def arrP (T : List Int) : Nat × Nat × (Int → Int) × Int → Prop
  | (_, tc', gt', st') => By gt' st' T ∧ tc' ≤ 4000 ∧ st' ≤ (tc' : Int)
theorem take_snoc {L : List Int} {k : Nat} {x : Int} (h : L[k]? = some x) : L.take (k + 1) = L.take k ++ [x] := by
  rw [List.take_succ, h]
  rfl
theorem arr_fin {sg wd fl lf zr pad k : Int} {LL : List Int} {inf : Prop} [Decidable inf] (hlf : (lf = 0 ∧ fl % 2 = 0) ∨ (lf = 1 ∧ fl % 2 ≠ 0)) (hzr : (zr = 1 ∧ fl % 2 = 0 ∧ fl / 8 % 2 * 8 ≠ 0 ∧ ¬ inf) ∨ (zr = 0 ∧ ¬ (fl % 2 = 0 ∧ fl / 8 % 2 * 8 ≠ 0 ∧ ¬ inf)))
    (hpad : pad = wd - (((sgT sg).length : Int) + (LL.length : Int))) (hk : k.toNat = if lf = 0 ∧ zr = 0 then pad.toNat else 0) :
    List.replicate k.toNat (32 : Int) ++ sgT sg ++ (if zr ≠ 0 then List.replicate pad.toNat (48 : Int) else []) ++ LL ++ (if lf ≠ 0 then List.replicate pad.toNat (32 : Int) else []) = padT (sgT sg) LL wd fl inf := by
  unfold padT
  rw [← hpad, hk]
  rcases hlf with ⟨q1, q2⟩ | ⟨q1, q2⟩
  · rcases hzr with ⟨r1, r2, r3, r4⟩ | ⟨r1, r2⟩
    · rw [if_neg (by omega), if_pos (by omega), if_neg (by omega), if_neg (by omega), if_pos ⟨r3, r4⟩, List.replicate_zero, List.nil_append, List.append_nil]
    · rw [if_pos ⟨q1, r1⟩, if_neg (by omega), if_neg (by omega), if_neg (by omega), if_neg (fun q => r2 ⟨q2, q.1, q.2⟩), List.append_nil, List.append_nil, List.append_assoc]
  · have r1 : zr = 0 := by
      rcases hzr with ⟨r1, r2, _⟩ | ⟨r1, r2⟩
      · exact absurd r2 q2
      · exact r1
    rw [if_neg (by omega), if_neg (by omega), if_pos (by omega), if_pos (by omega), List.replicate_zero, List.nil_append, List.append_nil]
set_option maxHeartbeats 4000000 in
set_option maxRecDepth 100000 in
/-- DecimalText() -/
theorem c_xinit (l : Launch) (D : va_G) (cB cI : ClassId) (xo : Nat)  : zMv (S := (Nat × Nat × Nat) × (Nat × Nat) × Nat × Nat) l yX0_init cX0_init 1 ({ frames := 2, cells := 7, slots := 1577, locals := 33 } : Room) D cB cI ([.ref xo] : List Value) ([(xo, .inr (0, [.null, .null, .null]))]) (fun _ => True) (fun u : (Nat × Nat × Nat) × (Nat × Nat) × Nat × Nat => [(xo, .inr (0, [.ref u.1.1, .ref u.2.1.1, .ref u.2.2.1]))] ++ (dW u.1.1 u.1.2.1 u.1.2.2 cB cI (fun _ => 0) 0 (fun _ => 0) 0 0 ++ (bW u.2.1.1 u.2.1.2 cB 64 (fun _ => 0) 0 ++ bW u.2.2.1 u.2.2.2 cB 64 (fun _ => 0) 0))) := by
  refine z_metv (by decide) (Nat.le_of_ble_eq_true rfl) ?_
  intro p e s m below meth c A hF hr hlk hnm hA hI ls hl
  have hx := hF.1
  have hb := hF.2.1
  have hown := hF.2.2.2.1
  have hts := hF.2.2.2.2.1
  have hl : lv_has ls 1 [(0, .ref xo)] := hl
  obtain ⟨H, eH⟩ : ∃ H : Heap, H = s.heap := ⟨_, rfl⟩
  obtain ⟨locs, eL⟩ : ∃ L : List Loc, L = [] := ⟨_, rfl⟩
  have hI : zW D A s.heap ([(xo, .inr (0, [.null, .null, .null]))]) H locs := by rw [eH, eL]; exact hI
  suffices hgo : W p l e ({ frames := 2, cells := 7, slots := 1577, locals := 33 } : Room) s m ([.ref xo] : List Value).toArray below meth c H locs 0 0 (MQ below (va_Qv (fun _ => True) (zPost D A (fun u : (Nat × Nat × Nat) × (Nat × Nat) × Nat × Nat => [(xo, .inr (0, [.ref u.1.1, .ref u.2.1.1, .ref u.2.2.1]))] ++ (dW u.1.1 u.1.2.1 u.1.2.2 cB cI (fun _ => 0) 0 (fun _ => 0) 0 0 ++ (bW u.2.1.1 u.2.1.2 cB 64 (fun _ => 0) 0 ++ bW u.2.2.1 u.2.2.2 cB 64 (fun _ => 0) 0)))) A) ([.ref xo] : List Value).toArray s ({ frames := 2, cells := 7, slots := 1577, locals := 33 } : Room).cells ({ frames := 2, cells := 7, slots := 1577, locals := 33 } : Room).slots A) (F0 m 0 ls []) by rw [eH, eL] at hgo; exact hgo
  clear eH eL
  refine lv_aload_n hx hb dX0_init_0 rfl (lv_at hl 0 rfl) ?_
  refine W.objInit hx hb hown (hts _ q24) (hts _ q25) (hts _ q26) rfl (by rw [hF.2.2.1]; exact hl.1) rfl dX0_init_1 (Nat.le_of_ble_eq_true rfl) (Nat.le_of_ble_eq_true rfl) ?_
  refine W.eq (g2 := F0 m 4 ls []) rfl ?_
  refine lv_aload_n hx hb dX0_init_4 rfl (lv_at hl 0 rfl) ?_
  refine z_new (ci := 1) (fs := [.null, .int (zI 0), .null, .int (zI 0), .int (zI 0)]) hF hI hA in_X1 tyX1 tyX1_ok q27 q28 q15 rfl (fun j hj => by rcases (show j = 0 ∨ j = 1 ∨ j = 2 ∨ j = 3 ∨ j = 4 by omega) with rfl | rfl | rfl | rfl | rfl <;> rfl) (by first | exact Nat.le_of_ble_eq_true rfl | (dsimp only; omega)) (by first | exact Nat.le_of_ble_eq_true rfl | (dsimp only; omega)) dX0_init_5 (fun d1 H hI => ?_)
  have hI : zW D A s.heap ([(xo, .inr (0, [.null, .null, .null]))] ++ [(d1, .inr (1, [.null, .int (zI 0), .null, .int (zI 0), .int (zI 0)]))]) H locs := hI
  refine lv_dup hx hb dX0_init_8 rfl ?_
  refine z_callNv (n := 0) (As := []) (rest := [.ref d1, .ref xo]) (wr := ([(xo, .inr (0, [.null, .null, .null]))] : va_W)) (C := "DecimalText$Decimal") hF (c_dinit l D cB cI d1) (lw_meth q31) q15 hF.2.2.2.2.2.2.1 q30 rfl (by decide +kernel) ⟨Nat.le_of_ble_eq_true rfl, Nat.le_of_ble_eq_true rfl⟩ hI hA [1] [0] rfl rfl rfl rfl (by decide) rfl hl.1 rfl (lv_room (Nat.le_of_ble_eq_true rfl)) dX0_init_9 ⟨by first | omega | (dsimp only; omega), by first | omega | (dsimp only; omega)⟩ (fun u H locs hu hI => ?_)
  obtain ⟨dw, dg⟩ := u
  have hI : zW D A s.heap ([(xo, .inr (0, [.null, .null, .null]))] ++ (dW d1 dw dg cB cI (fun _ => 0) 0 (fun _ => 0) 0 0)) H locs := hI
  refine z_putF (ci := 0) (v := .ref d1) (ty := .object "DecimalText$Decimal") hF hI in_X0 tyX0 tyX0_ok nmX0 0 rfl rfl 0 (by decide) q67 rfl rfl hnm rfl (by decide +kernel) rfl rfl (Nat.le_of_ble_eq_true rfl) dX0_init_12 (fun H locs hI => ?_)
  have hI : zW D A s.heap ([(xo, .inr (0, [.ref d1, .null, .null]))] ++ (dW d1 dw dg cB cI (fun _ => 0) 0 (fun _ => 0) 0 0)) H locs := hI
  refine lv_aload_n hx hb dX0_init_15 rfl (lv_at hl 0 rfl) ?_
  refine z_new (ci := 2) (fs := [.null, .int (zI 0)]) hF hI hA in_X2 tyX2 tyX2_ok q53 q54 q16 rfl (fun j hj => by rcases (show j = 0 ∨ j = 1 by omega) with rfl | rfl <;> rfl) (by first | exact Nat.le_of_ble_eq_true rfl | (dsimp only; omega)) (by first | exact Nat.le_of_ble_eq_true rfl | (dsimp only; omega)) dX0_init_16 (fun b1 H hI => ?_)
  have hI : zW D A s.heap ([(xo, .inr (0, [.ref d1, .null, .null]))] ++ ((dW d1 dw dg cB cI (fun _ => 0) 0 (fun _ => 0) 0 0) ++ [(b1, .inr (2, [.null, .int (zI 0)]))])) H locs := hI
  refine lv_dup hx hb dX0_init_19 rfl ?_
  refine z_bipush hx hb dX0_init_20 (by decide) ?_
  refine z_callIv (n := 1) (As := [.int (zI 64)]) (rest := [.ref b1, .ref xo]) (wr := ([(xo, .inr (0, [.ref d1, .null, .null])), (d1, .inr (1, [.ref dw, .int (zI 0), .ref dg, .int (zI 0), .int (zI 0)])), (dw, .inl (cI, 140, .inl (zA (fun _ => 0)))), (dg, .inl (cB, 1300, .inl (zA (fun _ => 0))))] : va_W)) (C := "DecimalText$Bytes") hF (c_binit l D cB cI b1) (lw_meth q57) q16 q55 q56 rfl (by decide +kernel) ⟨Nat.le_of_ble_eq_true rfl, Nat.le_of_ble_eq_true rfl⟩ hI hA [4] [0, 1, 2, 3] rfl rfl rfl rfl (by decide) rfl hl.1 rfl (lv_room (Nat.le_of_ble_eq_true rfl)) dX0_init_22 ⟨by first | omega | (dsimp only; omega), by first | omega | (dsimp only; omega)⟩ (fun ba H locs hu hI => ?_)
  have hI : zW D A s.heap ([(xo, .inr (0, [.ref d1, .null, .null]))] ++ ((dW d1 dw dg cB cI (fun _ => 0) 0 (fun _ => 0) 0 0) ++ (bW b1 ba cB 64 (fun _ => 0) 0))) H locs := hI
  refine z_putF (ci := 0) (v := .ref b1) (ty := .object "DecimalText$Bytes") hF hI in_X0 tyX0 tyX0_ok nmX0 0 rfl rfl 1 (by decide) q68 rfl rfl hnm rfl (by decide +kernel) rfl rfl (Nat.le_of_ble_eq_true rfl) dX0_init_25 (fun H locs hI => ?_)
  have hI : zW D A s.heap ([(xo, .inr (0, [.ref d1, .ref b1, .null]))] ++ ((dW d1 dw dg cB cI (fun _ => 0) 0 (fun _ => 0) 0 0) ++ (bW b1 ba cB 64 (fun _ => 0) 0))) H locs := hI
  refine lv_aload_n hx hb dX0_init_28 rfl (lv_at hl 0 rfl) ?_
  refine z_new (ci := 2) (fs := [.null, .int (zI 0)]) hF hI hA in_X2 tyX2 tyX2_ok q53 q54 q16 rfl (fun j hj => by rcases (show j = 0 ∨ j = 1 by omega) with rfl | rfl <;> rfl) (by first | exact Nat.le_of_ble_eq_true rfl | (dsimp only; omega)) (by first | exact Nat.le_of_ble_eq_true rfl | (dsimp only; omega)) dX0_init_29 (fun b2 H hI => ?_)
  have hI : zW D A s.heap ([(xo, .inr (0, [.ref d1, .ref b1, .null]))] ++ ((dW d1 dw dg cB cI (fun _ => 0) 0 (fun _ => 0) 0 0) ++ ((bW b1 ba cB 64 (fun _ => 0) 0) ++ [(b2, .inr (2, [.null, .int (zI 0)]))]))) H locs := hI
  refine lv_dup hx hb dX0_init_32 rfl ?_
  refine z_bipush hx hb dX0_init_33 (by decide) ?_
  refine z_callIv (n := 1) (As := [.int (zI 64)]) (rest := [.ref b2, .ref xo]) (wr := ([(xo, .inr (0, [.ref d1, .ref b1, .null])), (d1, .inr (1, [.ref dw, .int (zI 0), .ref dg, .int (zI 0), .int (zI 0)])), (dw, .inl (cI, 140, .inl (zA (fun _ => 0)))), (dg, .inl (cB, 1300, .inl (zA (fun _ => 0)))), (b1, .inr (2, [.ref ba, .int (zI 0)])), (ba, .inl (cB, 64, .inl (zA (fun _ => 0))))] : va_W)) (C := "DecimalText$Bytes") hF (c_binit l D cB cI b2) (lw_meth q57) q16 q55 q56 rfl (by decide +kernel) ⟨Nat.le_of_ble_eq_true rfl, Nat.le_of_ble_eq_true rfl⟩ hI hA [6] [0, 1, 2, 3, 4, 5] rfl rfl rfl rfl (by decide) rfl hl.1 rfl (lv_room (Nat.le_of_ble_eq_true rfl)) dX0_init_35 ⟨by first | omega | (dsimp only; omega), by first | omega | (dsimp only; omega)⟩ (fun bb H locs hu hI => ?_)
  have hI : zW D A s.heap ([(xo, .inr (0, [.ref d1, .ref b1, .null]))] ++ ((dW d1 dw dg cB cI (fun _ => 0) 0 (fun _ => 0) 0 0) ++ ((bW b1 ba cB 64 (fun _ => 0) 0) ++ (bW b2 bb cB 64 (fun _ => 0) 0)))) H locs := hI
  refine z_putF (ci := 0) (v := .ref b2) (ty := .object "DecimalText$Bytes") hF hI in_X0 tyX0 tyX0_ok nmX0 0 rfl rfl 2 (by decide) q69 rfl rfl hnm rfl (by decide +kernel) rfl rfl (Nat.le_of_ble_eq_true rfl) dX0_init_38 (fun H locs hI => ?_)
  have hI : zW D A s.heap ([(xo, .inr (0, [.ref d1, .ref b1, .ref b2]))] ++ ((dW d1 dw dg cB cI (fun _ => 0) 0 (fun _ => 0) 0 0) ++ ((bW b1 ba cB 64 (fun _ => 0) 0) ++ (bW b2 bb cB 64 (fun _ => 0) 0)))) H locs := hI
  refine lv_aload_n hx hb dX0_init_41 rfl (lv_at hl 0 rfl) ?_
  refine z_get (ci := 0) hF hI in_X0 0 rfl rfl 2 (by decide) q69 rfl rfl dX0_init_42 ?_
  refine z_iconst hx hb dX0_init_45 ?_
  refine z_put (ci := 2) (v := .int (zI 0)) (ty := .int) hF hI in_X2 tyX2 tyX2_ok nmX2 6 rfl rfl 1 (by decide) q60 rfl rfl (by decide +kernel) rfl rfl (Nat.le_of_ble_eq_true rfl) dX0_init_46 (fun H locs hI => ?_)
  have hI : zW D A s.heap ([(xo, .inr (0, [.ref d1, .ref b1, .ref b2]))] ++ ((dW d1 dw dg cB cI (fun _ => 0) 0 (fun _ => 0) 0 0) ++ ((bW b1 ba cB 64 (fun _ => 0) 0) ++ (bW b2 bb cB 64 (fun _ => 0) 0)))) H locs := hI
  exact z_vret (S := (Nat × Nat × Nat) × (Nat × Nat) × Nat × Nat) (post := (fun _ => True)) (w' := (fun u : (Nat × Nat × Nat) × (Nat × Nat) × Nat × Nat => [(xo, .inr (0, [.ref u.1.1, .ref u.2.1.1, .ref u.2.2.1]))] ++ (dW u.1.1 u.1.2.1 u.1.2.2 cB cI (fun _ => 0) 0 (fun _ => 0) 0 0 ++ (bW u.2.1.1 u.2.1.2 cB 64 (fun _ => 0) 0 ++ bW u.2.2.1 u.2.2.2 cB 64 (fun _ => 0) 0)))) hF hr hlk hI ((d1, dw, dg), (b1, ba), b2, bb) trivial rfl dX0_init_49
set_option maxHeartbeats 4000000 in
set_option maxRecDepth 100000 in
/-- at(k) -/
theorem c_xat (l : Launch) (D : va_G) (cB cI : ClassId) (xo xd yb tb : Nat) (ta tc : Nat) (gt : Int → Int) (st : Int) (k : Int) (T : List Int) (hB : By gt st T) (hcp : st ≤ (tc : Int)) (hc1 : tc ≤ 4000) (hk : -2147483648 ≤ k ∧ k < 2147483648) : zMi (S := Unit) l yX0_at cX0_at 2 (some .int) ({ frames := 1, cells := 0, slots := 0, locals := 21 } : Room) D cB cI ([.ref xo, .int (zI k)] : List Value) ([(xo, .inr (0, [.ref xd, .ref yb, .ref tb]))] ++ (bW tb ta cB tc gt st)) (fun r _ => r = if 0 ≤ k ∧ k < st then gt k else -1) (fun _ => [(xo, .inr (0, [.ref xd, .ref yb, .ref tb]))] ++ bW tb ta cB tc gt st) := by
  refine z_meti (by decide) (Nat.le_of_ble_eq_true rfl) ?_
  intro p e s m below meth c A hF hr hlk hnm hA hI ls hl
  have hx := hF.1
  have hb := hF.2.1
  have hown := hF.2.2.2.1
  have hts := hF.2.2.2.2.1
  have hl : lv_has ls 2 [(0, .ref xo), (1, .int (zI k))] := hl
  obtain ⟨H, eH⟩ : ∃ H : Heap, H = s.heap := ⟨_, rfl⟩
  obtain ⟨locs, eL⟩ : ∃ L : List Loc, L = [] := ⟨_, rfl⟩
  have hI : zW D A s.heap ([(xo, .inr (0, [.ref xd, .ref yb, .ref tb]))] ++ (bW tb ta cB tc gt st)) H locs := by rw [eH, eL]; exact hI
  suffices hgo : W p l e ({ frames := 1, cells := 0, slots := 0, locals := 21 } : Room) s m ([.ref xo, .int (zI k)] : List Value).toArray below meth c H locs 0 0 (MQ below (va_Qi (zpi (fun r _ => r = if 0 ≤ k ∧ k < st then gt k else -1)) (zPost D A (fun u : Int × (Unit) => (fun _ => [(xo, .inr (0, [.ref xd, .ref yb, .ref tb]))] ++ bW tb ta cB tc gt st) u.2)) A) ([.ref xo, .int (zI k)] : List Value).toArray s ({ frames := 1, cells := 0, slots := 0, locals := 21 } : Room).cells ({ frames := 1, cells := 0, slots := 0, locals := 21 } : Room).slots A) (F0 m 0 ls []) by rw [eH, eL] at hgo; exact hgo
  clear eH eL
  have hsz := hB.sz
  refine lv_iload_n hx hb dX0_at_0 rfl (lv_at hl 1 rfl) ?_
  refine z_if_lt (tgt := 26) hx hb (by omega) dX0_at_1 (by decide) (fun h1 => ?_) (fun h1 => ?_)
  · skip
    refine z_iconst hx hb dX0_at_26 ?_
    exact z_iret (z := (-1)) (S := Unit) (post := (fun r _ => r = if 0 ≤ k ∧ k < st then gt k else -1)) (w' := (fun _ => [(xo, .inr (0, [.ref xd, .ref yb, .ref tb]))] ++ bW tb ta cB tc gt st)) hF hr hlk hI () (by rw [if_neg (by omega)]) rfl dX0_at_27
  · skip
    refine lv_iload_n hx hb dX0_at_4 rfl (lv_at hl 1 rfl) ?_
    refine lv_aload_n hx hb dX0_at_5 rfl (lv_at hl 0 rfl) ?_
    refine z_get (ci := 0) hF hI in_X0 0 rfl rfl 2 (by decide) q69 rfl rfl dX0_at_6 ?_
    refine z_get (ci := 2) hF hI in_X2 1 rfl rfl 1 (by decide) q60 rfl rfl dX0_at_9 ?_
    refine z_icmp_ge (tgt := 26) hx hb (by omega) (by omega) dX0_at_12 (by decide) (fun h2 => ?_) (fun h2 => ?_)
    · skip
      refine z_iconst hx hb dX0_at_26 ?_
      exact z_iret (z := (-1)) (S := Unit) (post := (fun r _ => r = if 0 ≤ k ∧ k < st then gt k else -1)) (w' := (fun _ => [(xo, .inr (0, [.ref xd, .ref yb, .ref tb]))] ++ bW tb ta cB tc gt st)) hF hr hlk hI () (by rw [if_neg (by omega)]) rfl dX0_at_27
    · skip
      refine lv_aload_n hx hb dX0_at_15 rfl (lv_at hl 0 rfl) ?_
      refine z_get (ci := 0) hF hI in_X0 0 rfl rfl 2 (by decide) q69 rfl rfl dX0_at_16 ?_
      refine lv_iload_n hx hb dX0_at_19 rfl (lv_at hl 1 rfl) ?_
      refine z_callVi (n := 1) (As := [.int (zI k)]) (rest := []) (wr := ([(xo, .inr (0, [.ref xd, .ref yb, .ref tb]))] : va_W)) (C := "DecimalText$Bytes") (ci := 2) hF (c_bat l D cB cI tb ta tc gt st k T hB (by omega) (by omega) (by omega)) (lw_V q137 q138 q139 q16 q140) (by decide +kernel) ⟨Nat.le_of_ble_eq_true rfl, Nat.le_of_ble_eq_true rfl⟩ hI hA [1, 2] [0] rfl rfl rfl rfl (by decide) rfl rfl rfl hl.1 rfl (lv_room (Nat.le_of_ble_eq_true rfl)) dX0_at_20 ⟨by first | omega | (dsimp only; omega), by first | omega | (dsimp only; omega)⟩ (fun r _u H locs hu hI => ?_)
      have hI : zW D A s.heap ([(xo, .inr (0, [.ref xd, .ref yb, .ref tb]))] ++ (bW tb ta cB tc gt st)) H locs := hI
      refine lv_goto (tgt := 27) hx hb dX0_at_23 (by decide) ?_
      exact z_iret (z := r) (S := Unit) (post := (fun r _ => r = if 0 ≤ k ∧ k < st then gt k else -1)) (w' := (fun _ => [(xo, .inr (0, [.ref xd, .ref yb, .ref tb]))] ++ bW tb ta cB tc gt st)) hF hr hlk hI () (by rw [if_pos (by omega)]; exact hu) rfl dX0_at_27
set_option maxHeartbeats 4000000 in
set_option maxRecDepth 100000 in
/-- arrange(sign, width, flags, endless) -/
theorem c_arr (l : Launch) (D : va_G) (cB cI : ClassId) (xo xd yb tb : Nat) (ya cap : Nat) (gb : Int → Int) (sb : Int) (ta tc : Nat) (gt : Int → Int) (st : Int) (sg wd fl en : Int) (inf : Prop) [Decidable inf] (LL : List Int) (hsg : 0 ≤ sg ∧ sg < 128) (hwd : 0 ≤ wd ∧ wd ≤ 400) (hfl : 0 ≤ fl ∧ fl < 32) (hen : (en = 1 ∧ inf) ∨ (en = 0 ∧ ¬ inf)) (hB : By gb sb LL) (hcb : sb ≤ (cap : Int)) (hcb1 : cap ≤ 4000) (hLL : LL.length ≤ 400) (htc : tc ≤ 4000) : zMv (S := Nat × Nat × (Int → Int) × Int) l yX0_arrange cX0_arrange 9 ({ frames := 1, cells := 4000, slots := 8000, locals := 23 } : Room) D cB cI ([.ref xo, .int (zI sg), .int (zI wd), .int (zI fl), .int (zI en)] : List Value) ([(xo, .inr (0, [.ref xd, .ref yb, .ref tb]))] ++ ((bW yb ya cB cap gb sb) ++ (bW tb ta cB tc gt st))) (arrP (padT (sgT sg) LL wd fl inf)) (fun u => [(xo, .inr (0, [.ref xd, .ref yb, .ref tb]))] ++ (bW yb ya cB cap gb sb ++ bW tb u.1 cB u.2.1 u.2.2.1 u.2.2.2)) := by
  refine z_metv (by decide) (Nat.le_of_ble_eq_true rfl) ?_
  intro p e s m below meth c A hF hr hlk hnm hA hI ls hl
  have hx := hF.1
  have hb := hF.2.1
  have hown := hF.2.2.2.1
  have hts := hF.2.2.2.2.1
  have hl : lv_has ls 9 [(0, .ref xo), (1, .int (zI sg)), (2, .int (zI wd)), (3, .int (zI fl)), (4, .int (zI en))] := hl
  obtain ⟨H, eH⟩ : ∃ H : Heap, H = s.heap := ⟨_, rfl⟩
  obtain ⟨locs, eL⟩ : ∃ L : List Loc, L = [] := ⟨_, rfl⟩
  have hI : zW D A s.heap ([(xo, .inr (0, [.ref xd, .ref yb, .ref tb]))] ++ ((bW yb ya cB cap gb sb) ++ (bW tb ta cB tc gt st))) H locs := by rw [eH, eL]; exact hI
  suffices hgo : W p l e ({ frames := 1, cells := 4000, slots := 8000, locals := 23 } : Room) s m ([.ref xo, .int (zI sg), .int (zI wd), .int (zI fl), .int (zI en)] : List Value).toArray below meth c H locs 0 0 (MQ below (va_Qv (arrP (padT (sgT sg) LL wd fl inf)) (zPost D A (fun u => [(xo, .inr (0, [.ref xd, .ref yb, .ref tb]))] ++ (bW yb ya cB cap gb sb ++ bW tb u.1 cB u.2.1 u.2.2.1 u.2.2.2))) A) ([.ref xo, .int (zI sg), .int (zI wd), .int (zI fl), .int (zI en)] : List Value).toArray s ({ frames := 1, cells := 4000, slots := 8000, locals := 23 } : Room).cells ({ frames := 1, cells := 4000, slots := 8000, locals := 23 } : Room).slots A) (F0 m 0 ls []) by rw [eH, eL] at hgo; exact hgo
  clear eH eL
  have hsb := hB.sz
  have hs1 := sgT_len sg
  obtain ⟨s1, hs1⟩ : ∃ s1 : Int, s1 = ((sgT sg).length : Int) := ⟨_, rfl⟩
  have hs2 : (sg = 0 ∧ s1 = 0) ∨ (sg ≠ 0 ∧ s1 = 1) := by rw [hs1, sgT_len]; split; exact Or.inl ⟨by assumption, rfl⟩; exact Or.inr ⟨by assumption, rfl⟩
  obtain ⟨pad, hpad⟩ : ∃ pad : Int, pad = wd - (((sgT sg).length : Int) + (LL.length : Int)) := ⟨_, rfl⟩
  have L179 : ∀ (n_ : Nat), ∀ (k : Int) (X : List Int) (gt1 : Int → Int) (st1 : Int) (ta1 tc1 : Nat) (lf zr : Int), pad - k + 1000 < (n_ : Int) → (tc ≤ tc1 ∧ tc1 ≤ 4000 ∧ st1 ≤ (tc1 : Int)) → ((lf = 0 ∧ fl % 2 = 0) ∨ (lf = 1 ∧ fl % 2 ≠ 0)) → ((zr = 1 ∧ fl % 2 = 0 ∧ fl / 8 % 2 * 8 ≠ 0 ∧ ¬ inf) ∨ (zr = 0 ∧ ¬ (fl % 2 = 0 ∧ fl / 8 % 2 * 8 ≠ 0 ∧ ¬ inf))) → (X.length ≤ 1201) → (0 ≤ k ∧ (k ≤ pad ∨ k = 0)) → (lf = 0 → k = 0) → (By gt1 st1 (X ++ List.replicate k.toNat (32 : Int))) → (X ++ (if lf ≠ 0 then List.replicate pad.toNat (32 : Int) else []) = padT (sgT sg) LL wd fl inf) → ∀ (H : Heap) (locs : List Loc), zW D A s.heap ([(xo, .inr (0, [.ref xd, .ref yb, .ref tb]))] ++ ((bW yb ya cB cap gb sb) ++ (bW tb ta1 cB tc1 gt1 st1))) H locs → ∀ ls : Array Slot, lv_has ls 9 [(0, .ref xo), (1, .int (zI sg)), (5, .int (zI pad)), (6, .int (zI lf)), (7, .int (zI zr)), (8, .int (zI k))] → W p l e ({ frames := 1, cells := 4000, slots := 8000, locals := 23 } : Room) s m ([.ref xo, .int (zI sg), .int (zI wd), .int (zI fl), .int (zI en)] : List Value).toArray below meth c H locs (tc1 - tc) (2 * (tc1 - tc)) (MQ below (va_Qv (arrP (padT (sgT sg) LL wd fl inf)) (zPost D A (fun u => [(xo, .inr (0, [.ref xd, .ref yb, .ref tb]))] ++ (bW yb ya cB cap gb sb ++ bW tb u.1 cB u.2.1 u.2.2.1 u.2.2.2))) A) ([.ref xo, .int (zI sg), .int (zI wd), .int (zI fl), .int (zI en)] : List Value).toArray s ({ frames := 1, cells := 4000, slots := 8000, locals := 23 } : Room).cells ({ frames := 1, cells := 4000, slots := 8000, locals := 23 } : Room).slots A) (F0 m 179 ls []) := by
    intro n_
    induction n_ with
    | zero =>
      intro k X gt1 st1 ta1 tc1 lf zr hm_ hcp1 hlf hzr hX hk hk2 hB1 hfin H locs hI ls hl
      exfalso; omega
    | succ n_ ih_ =>
      intro k X gt1 st1 ta1 tc1 lf zr hm_ hcp1 hlf hzr hX hk hk2 hB1 hfin H locs hI ls hl
      have hl2 := hB1.sz
      try simp only [List.length_append, List.length_replicate, List.length_take] at hl2
      refine lv_iload hx hb dX0_arrange_179 (lv_at hl 5 rfl) ?_
      refine lv_iload hx hb dX0_arrange_181 (lv_at hl 2 rfl) ?_
      refine z_icmp_ge (tgt := 206) hx hb (by omega) (by omega) dX0_arrange_183 (by decide) (fun h1 => ?_) (fun h1 => ?_)
      · skip
        refine W.widen (k := 4000) (n := 8000) (by first | omega | (dsimp only; omega)) (by first | omega | (dsimp only; omega)) ?_
        exact z_vret (S := Nat × Nat × (Int → Int) × Int) (post := (arrP (padT (sgT sg) LL wd fl inf))) (w' := (fun u => [(xo, .inr (0, [.ref xd, .ref yb, .ref tb]))] ++ (bW yb ya cB cap gb sb ++ bW tb u.1 cB u.2.1 u.2.2.1 u.2.2.2))) hF hr hlk hI (ta1, tc1, gt1, st1) ⟨hB1.to (by rw [← hfin]; by_cases q9 : lf = 0; (rw [if_neg (by omega : ¬ lf ≠ 0), show k.toNat = 0 by omega]; try rfl); (rw [if_pos (by omega : lf ≠ 0), show k.toNat = pad.toNat by omega])), by omega, by omega⟩ rfl dX0_arrange_206
      · skip
        refine lv_iload hx hb dX0_arrange_186 (lv_at hl 3 rfl) ?_
        refine z_if_eq (tgt := 206) hx hb (by omega) dX0_arrange_188 (by decide) (fun h2 => ?_) (fun h2 => ?_)
        · skip
          refine W.widen (k := 4000) (n := 8000) (by first | omega | (dsimp only; omega)) (by first | omega | (dsimp only; omega)) ?_
          exact z_vret (S := Nat × Nat × (Int → Int) × Int) (post := (arrP (padT (sgT sg) LL wd fl inf))) (w' := (fun u => [(xo, .inr (0, [.ref xd, .ref yb, .ref tb]))] ++ (bW yb ya cB cap gb sb ++ bW tb u.1 cB u.2.1 u.2.2.1 u.2.2.2))) hF hr hlk hI (ta1, tc1, gt1, st1) ⟨hB1.to (by rw [← hfin]; rw [if_neg (by omega : ¬ lf ≠ 0), show k.toNat = 0 by omega]; try rfl), by omega, by omega⟩ rfl dX0_arrange_206
        · skip
          refine lv_aload_n hx hb dX0_arrange_191 rfl (lv_at hl 0 rfl) ?_
          refine z_get (ci := 0) hF hI in_X0 0 rfl rfl 2 (by decide) q69 rfl rfl dX0_arrange_192 ?_
          refine z_bipush hx hb dX0_arrange_195 (by decide) ?_
          have hgc1 := gcap_ok (cap := tc1) (sz := st1) (by omega) (by omega) (by omega)
          refine z_callVv (n := 1) (As := [.int (zI 32)]) (rest := []) (wr := ([(xo, .inr (0, [.ref xd, .ref yb, .ref tb])), (yb, .inr (2, [.ref ya, .int (zI sb)])), (ya, .inl (cB, cap, .inl (zA gb)))] : va_W)) (C := "DecimalText$Bytes") (ci := 2) hF (c_add l D cB cI tb ta1 tc1 gt1 st1 32 (X ++ List.replicate k.toNat (32 : Int)) hB1 (by omega) (by omega) (by omega) (by omega)) (lw_V q89 q90 q91 q16 q92) (by decide +kernel) ⟨Nat.le_of_ble_eq_true rfl, Nat.le_of_ble_eq_true rfl⟩ hI hA [3, 4] [0, 1, 2] rfl rfl rfl rfl (by decide) rfl rfl rfl hl.1 rfl (lv_room (Nat.le_of_ble_eq_true rfl)) dX0_arrange_197 ⟨by first | omega | (dsimp only; omega), by first | omega | (dsimp only; omega)⟩ (fun u H locs hu hI => ?_)
          obtain ⟨ya1, gy1⟩ := u
          have hI : zW D A s.heap ([(xo, .inr (0, [.ref xd, .ref yb, .ref tb]))] ++ ((bW yb ya cB cap gb sb) ++ (bW tb ya1 cB (gcap tc1 st1) gy1 (st1 + 1)))) H locs := hI
          have hBy1 : By gy1 (st1 + 1) ((X ++ List.replicate k.toNat (32 : Int)) ++ [32]) := hu
          refine W.widen (k := ((gcap tc1 st1) - tc)) (n := (2 * ((gcap tc1 st1) - tc))) (by first | omega | (dsimp only; omega)) (by first | omega | (dsimp only; omega)) ?_
          refine lv_iinc (lv' := [(8, .int (zI (k + 1))), (0, .ref xo), (1, .int (zI sg)), (5, .int (zI pad)), (6, .int (zI lf)), (7, .int (zI zr))]) (k := 5) hx hb dX0_arrange_200 hl rfl (zI_add _ _) (by decide) rfl (fun ls hl => ?_)
          refine lv_goto (tgt := 179) hx hb dX0_arrange_203 (by decide) ?_
          exact ih_ (k + 1) X gy1 (st1 + 1) ya1 (gcap tc1 st1) lf zr (by omega) (by omega) hlf hzr (by omega) (by omega) (by omega) (by exact hBy1.to (by rw [show (k + 1).toNat = k.toNat + 1 by omega, List.replicate_succ', ← List.append_assoc])) hfin H locs hI ls (lv_sub hl [1, 2, 3, 4, 5, 0] rfl)
  have L142 : ∀ (n_ : Nat), ∀ (k : Int) (X : List Int) (gt1 : Int → Int) (st1 : Int) (ta1 tc1 : Nat) (lf zr : Int), sb - k < (n_ : Int) → (tc ≤ tc1 ∧ tc1 ≤ 4000 ∧ st1 ≤ (tc1 : Int)) → ((lf = 0 ∧ fl % 2 = 0) ∨ (lf = 1 ∧ fl % 2 ≠ 0)) → ((zr = 1 ∧ fl % 2 = 0 ∧ fl / 8 % 2 * 8 ≠ 0 ∧ ¬ inf) ∨ (zr = 0 ∧ ¬ (fl % 2 = 0 ∧ fl / 8 % 2 * 8 ≠ 0 ∧ ¬ inf))) → (X.length ≤ 801) → (0 ≤ k ∧ k ≤ sb) → (By gt1 st1 (X ++ LL.take k.toNat)) → (X ++ LL ++ (if lf ≠ 0 then List.replicate pad.toNat (32 : Int) else []) = padT (sgT sg) LL wd fl inf) → ∀ (H : Heap) (locs : List Loc), zW D A s.heap ([(xo, .inr (0, [.ref xd, .ref yb, .ref tb]))] ++ ((bW yb ya cB cap gb sb) ++ (bW tb ta1 cB tc1 gt1 st1))) H locs → ∀ ls : Array Slot, lv_has ls 9 [(0, .ref xo), (1, .int (zI sg)), (5, .int (zI pad)), (6, .int (zI lf)), (7, .int (zI zr)), (8, .int (zI k))] → W p l e ({ frames := 1, cells := 4000, slots := 8000, locals := 23 } : Room) s m ([.ref xo, .int (zI sg), .int (zI wd), .int (zI fl), .int (zI en)] : List Value).toArray below meth c H locs (tc1 - tc) (2 * (tc1 - tc)) (MQ below (va_Qv (arrP (padT (sgT sg) LL wd fl inf)) (zPost D A (fun u => [(xo, .inr (0, [.ref xd, .ref yb, .ref tb]))] ++ (bW yb ya cB cap gb sb ++ bW tb u.1 cB u.2.1 u.2.2.1 u.2.2.2))) A) ([.ref xo, .int (zI sg), .int (zI wd), .int (zI fl), .int (zI en)] : List Value).toArray s ({ frames := 1, cells := 4000, slots := 8000, locals := 23 } : Room).cells ({ frames := 1, cells := 4000, slots := 8000, locals := 23 } : Room).slots A) (F0 m 142 ls []) := by
    intro n_
    induction n_ with
    | zero =>
      intro k X gt1 st1 ta1 tc1 lf zr hm_ hcp1 hlf hzr hX hk hB1 hfin H locs hI ls hl
      exfalso; omega
    | succ n_ ih_ =>
      intro k X gt1 st1 ta1 tc1 lf zr hm_ hcp1 hlf hzr hX hk hB1 hfin H locs hI ls hl
      have hl2 := hB1.sz
      try simp only [List.length_append, List.length_replicate, List.length_take] at hl2
      refine lv_iload hx hb dX0_arrange_142 (lv_at hl 5 rfl) ?_
      refine lv_aload_n hx hb dX0_arrange_144 rfl (lv_at hl 0 rfl) ?_
      refine z_get (ci := 0) hF hI in_X0 0 rfl rfl 1 (by decide) q68 rfl rfl dX0_arrange_145 ?_
      refine z_get (ci := 2) hF hI in_X2 1 rfl rfl 1 (by decide) q60 rfl rfl dX0_arrange_148 ?_
      refine z_icmp_ge (tgt := 176) hx hb (by omega) (by omega) dX0_arrange_151 (by decide) (fun h1 => ?_) (fun h1 => ?_)
      · skip
        have hkL : k.toNat = LL.length := (by omega)
        rw [hkL, List.take_length] at hB1
        refine z_iconst hx hb dX0_arrange_176 ?_
        refine lv_istore (lv' := [(8, .int (zI 0)), (0, .ref xo), (1, .int (zI sg)), (5, .int (zI pad)), (6, .int (zI lf)), (7, .int (zI zr))]) hx hb dX0_arrange_177 hl (by decide) rfl (fun ls hl => ?_)
        exact L179 ((pad + 1001).toNat) 0 (X ++ LL) gt1 st1 ta1 tc1 lf zr (by omega) hcp1 hlf hzr (by rw [List.length_append]; omega) (by omega) (by intro _; rfl) (by rw [show (0 : Int).toNat = 0 from rfl, List.replicate_zero, List.append_nil]; exact hB1) hfin H locs hI ls (lv_sub hl [1, 2, 3, 4, 5, 0] rfl)
      · skip
        have hbr := hB.at (k := k) (by omega) (by omega)
        refine lv_aload_n hx hb dX0_arrange_154 rfl (lv_at hl 0 rfl) ?_
        refine z_get (ci := 0) hF hI in_X0 0 rfl rfl 2 (by decide) q69 rfl rfl dX0_arrange_155 ?_
        refine lv_aload_n hx hb dX0_arrange_158 rfl (lv_at hl 0 rfl) ?_
        refine z_get (ci := 0) hF hI in_X0 0 rfl rfl 1 (by decide) q68 rfl rfl dX0_arrange_159 ?_
        refine lv_iload hx hb dX0_arrange_162 (lv_at hl 5 rfl) ?_
        refine z_callVi (n := 1) (As := [.int (zI k)]) (rest := [.ref tb]) (wr := ([(xo, .inr (0, [.ref xd, .ref yb, .ref tb])), (tb, .inr (2, [.ref ta1, .int (zI st1)])), (ta1, .inl (cB, tc1, .inl (zA gt1)))] : va_W)) (C := "DecimalText$Bytes") (ci := 2) hF (c_bat l D cB cI yb ya cap gb sb k LL hB (by omega) (by omega) (by omega)) (lw_V q137 q138 q139 q16 q140) (by decide +kernel) ⟨Nat.le_of_ble_eq_true rfl, Nat.le_of_ble_eq_true rfl⟩ hI hA [1, 2] [0, 3, 4] rfl rfl rfl rfl (by decide) rfl rfl rfl hl.1 rfl (lv_room (Nat.le_of_ble_eq_true rfl)) dX0_arrange_164 ⟨by first | omega | (dsimp only; omega), by first | omega | (dsimp only; omega)⟩ (fun r _u H locs hu hI => ?_)
        have hI : zW D A s.heap ([(xo, .inr (0, [.ref xd, .ref yb, .ref tb]))] ++ ((bW yb ya cB cap gb sb) ++ (bW tb ta1 cB tc1 gt1 st1))) H locs := hI.sub [0, 3, 4, 1, 2] rfl rfl
        have hrk : r = gb k := hu
        have hgc2 := gcap_ok (cap := tc1) (sz := st1) (by omega) (by omega) (by omega)
        refine z_callVv (n := 1) (As := [.int (zI r)]) (rest := []) (wr := ([(xo, .inr (0, [.ref xd, .ref yb, .ref tb])), (yb, .inr (2, [.ref ya, .int (zI sb)])), (ya, .inl (cB, cap, .inl (zA gb)))] : va_W)) (C := "DecimalText$Bytes") (ci := 2) hF (c_add l D cB cI tb ta1 tc1 gt1 st1 r (X ++ LL.take k.toNat) hB1 (by omega) (by omega) (by omega) (by omega)) (lw_V q89 q90 q91 q16 q92) (by decide +kernel) ⟨Nat.le_of_ble_eq_true rfl, Nat.le_of_ble_eq_true rfl⟩ hI hA [3, 4] [0, 1, 2] rfl rfl rfl rfl (by decide) rfl rfl rfl hl.1 rfl (lv_room (Nat.le_of_ble_eq_true rfl)) dX0_arrange_167 ⟨by first | omega | (dsimp only; omega), by first | omega | (dsimp only; omega)⟩ (fun u H locs hu hI => ?_)
        obtain ⟨ya2, gy2⟩ := u
        have hI : zW D A s.heap ([(xo, .inr (0, [.ref xd, .ref yb, .ref tb]))] ++ ((bW yb ya cB cap gb sb) ++ (bW tb ya2 cB (gcap tc1 st1) gy2 (st1 + 1)))) H locs := hI
        have hBy2 : By gy2 (st1 + 1) ((X ++ LL.take k.toNat) ++ [r]) := hu
        refine W.widen (k := ((gcap tc1 st1) - tc)) (n := (2 * ((gcap tc1 st1) - tc))) (by first | omega | (dsimp only; omega)) (by first | omega | (dsimp only; omega)) ?_
        refine lv_iinc (lv' := [(8, .int (zI (k + 1))), (0, .ref xo), (1, .int (zI sg)), (5, .int (zI pad)), (6, .int (zI lf)), (7, .int (zI zr))]) (k := 5) hx hb dX0_arrange_170 hl rfl (zI_add _ _) (by decide) rfl (fun ls hl => ?_)
        refine lv_goto (tgt := 142) hx hb dX0_arrange_173 (by decide) ?_
        exact ih_ (k + 1) X gy2 (st1 + 1) ya2 (gcap tc1 st1) lf zr (by omega) (by omega) hlf hzr hX (by omega) (by exact hBy2.to (by rw [show (k + 1).toNat = k.toNat + 1 by omega, hrk, List.append_assoc]; congr 1; exact take_snoc hbr.2.2)) hfin H locs hI ls (lv_sub hl [1, 2, 3, 4, 5, 0] rfl)
  have L139 : ∀ (X : List Int) (gt1 : Int → Int) (st1 : Int) (ta1 tc1 : Nat) (lf zr : Int), (tc ≤ tc1 ∧ tc1 ≤ 4000 ∧ st1 ≤ (tc1 : Int)) → ((lf = 0 ∧ fl % 2 = 0) ∨ (lf = 1 ∧ fl % 2 ≠ 0)) → ((zr = 1 ∧ fl % 2 = 0 ∧ fl / 8 % 2 * 8 ≠ 0 ∧ ¬ inf) ∨ (zr = 0 ∧ ¬ (fl % 2 = 0 ∧ fl / 8 % 2 * 8 ≠ 0 ∧ ¬ inf))) → (X.length ≤ 801) → (By gt1 st1 X) → (X ++ LL ++ (if lf ≠ 0 then List.replicate pad.toNat (32 : Int) else []) = padT (sgT sg) LL wd fl inf) → ∀ (H : Heap) (locs : List Loc), zW D A s.heap ([(xo, .inr (0, [.ref xd, .ref yb, .ref tb]))] ++ ((bW yb ya cB cap gb sb) ++ (bW tb ta1 cB tc1 gt1 st1))) H locs → ∀ ls : Array Slot, lv_has ls 9 [(0, .ref xo), (1, .int (zI sg)), (5, .int (zI pad)), (6, .int (zI lf)), (7, .int (zI zr))] → W p l e ({ frames := 1, cells := 4000, slots := 8000, locals := 23 } : Room) s m ([.ref xo, .int (zI sg), .int (zI wd), .int (zI fl), .int (zI en)] : List Value).toArray below meth c H locs (tc1 - tc) (2 * (tc1 - tc)) (MQ below (va_Qv (arrP (padT (sgT sg) LL wd fl inf)) (zPost D A (fun u => [(xo, .inr (0, [.ref xd, .ref yb, .ref tb]))] ++ (bW yb ya cB cap gb sb ++ bW tb u.1 cB u.2.1 u.2.2.1 u.2.2.2))) A) ([.ref xo, .int (zI sg), .int (zI wd), .int (zI fl), .int (zI en)] : List Value).toArray s ({ frames := 1, cells := 4000, slots := 8000, locals := 23 } : Room).cells ({ frames := 1, cells := 4000, slots := 8000, locals := 23 } : Room).slots A) (F0 m 139 ls []) := by
    intro X gt1 st1 ta1 tc1 lf zr hcp1 hlf hzr hX hB1 hfin H locs hI ls hl
    refine z_iconst hx hb dX0_arrange_139 ?_
    refine lv_istore (lv' := [(8, .int (zI 0)), (0, .ref xo), (1, .int (zI sg)), (5, .int (zI pad)), (6, .int (zI lf)), (7, .int (zI zr))]) hx hb dX0_arrange_140 hl (by decide) rfl (fun ls hl => ?_)
    exact L142 (LL.length + 1) 0 X gt1 st1 ta1 tc1 lf zr (by omega) hcp1 hlf hzr hX (by omega) (by rw [show (0 : Int).toNat = 0 from rfl, List.take_zero, List.append_nil]; exact hB1) hfin H locs hI ls (lv_sub hl [1, 2, 3, 4, 5, 0] rfl)
  have L112 : ∀ (n_ : Nat), ∀ (k : Int) (X : List Int) (gt1 : Int → Int) (st1 : Int) (ta1 tc1 : Nat) (lf zr : Int), pad - k + 1000 < (n_ : Int) → (tc ≤ tc1 ∧ tc1 ≤ 4000 ∧ st1 ≤ (tc1 : Int)) → ((lf = 0 ∧ fl % 2 = 0) ∨ (lf = 1 ∧ fl % 2 ≠ 0)) → ((zr = 1 ∧ fl % 2 = 0 ∧ fl / 8 % 2 * 8 ≠ 0 ∧ ¬ inf) ∨ (zr = 0 ∧ ¬ (fl % 2 = 0 ∧ fl / 8 % 2 * 8 ≠ 0 ∧ ¬ inf))) → (X.length ≤ 401) → (0 ≤ k ∧ (k ≤ pad ∨ k = 0)) → (zr = 0 → k = 0) → (By gt1 st1 (X ++ List.replicate k.toNat (48 : Int))) → (X ++ (if zr ≠ 0 then List.replicate pad.toNat (48 : Int) else []) ++ LL ++ (if lf ≠ 0 then List.replicate pad.toNat (32 : Int) else []) = padT (sgT sg) LL wd fl inf) → ∀ (H : Heap) (locs : List Loc), zW D A s.heap ([(xo, .inr (0, [.ref xd, .ref yb, .ref tb]))] ++ ((bW yb ya cB cap gb sb) ++ (bW tb ta1 cB tc1 gt1 st1))) H locs → ∀ ls : Array Slot, lv_has ls 9 [(0, .ref xo), (1, .int (zI sg)), (5, .int (zI pad)), (6, .int (zI lf)), (7, .int (zI zr)), (8, .int (zI k))] → W p l e ({ frames := 1, cells := 4000, slots := 8000, locals := 23 } : Room) s m ([.ref xo, .int (zI sg), .int (zI wd), .int (zI fl), .int (zI en)] : List Value).toArray below meth c H locs (tc1 - tc) (2 * (tc1 - tc)) (MQ below (va_Qv (arrP (padT (sgT sg) LL wd fl inf)) (zPost D A (fun u => [(xo, .inr (0, [.ref xd, .ref yb, .ref tb]))] ++ (bW yb ya cB cap gb sb ++ bW tb u.1 cB u.2.1 u.2.2.1 u.2.2.2))) A) ([.ref xo, .int (zI sg), .int (zI wd), .int (zI fl), .int (zI en)] : List Value).toArray s ({ frames := 1, cells := 4000, slots := 8000, locals := 23 } : Room).cells ({ frames := 1, cells := 4000, slots := 8000, locals := 23 } : Room).slots A) (F0 m 112 ls []) := by
    intro n_
    induction n_ with
    | zero =>
      intro k X gt1 st1 ta1 tc1 lf zr hm_ hcp1 hlf hzr hX hk hk2 hB1 hfin H locs hI ls hl
      exfalso; omega
    | succ n_ ih_ =>
      intro k X gt1 st1 ta1 tc1 lf zr hm_ hcp1 hlf hzr hX hk hk2 hB1 hfin H locs hI ls hl
      have hl2 := hB1.sz
      try simp only [List.length_append, List.length_replicate, List.length_take] at hl2
      refine lv_iload hx hb dX0_arrange_112 (lv_at hl 5 rfl) ?_
      refine lv_iload hx hb dX0_arrange_114 (lv_at hl 2 rfl) ?_
      refine z_icmp_ge (tgt := 139) hx hb (by omega) (by omega) dX0_arrange_116 (by decide) (fun h1 => ?_) (fun h1 => ?_)
      · skip
        exact L139 (X ++ List.replicate k.toNat (48 : Int)) gt1 st1 ta1 tc1 lf zr hcp1 hlf hzr (by rw [List.length_append, List.length_replicate]; omega) hB1 (by rw [← hfin]; by_cases q9 : zr = 0; (rw [if_neg (by omega : ¬ zr ≠ 0), show k.toNat = 0 by omega]; try rfl); (rw [if_pos (by omega : zr ≠ 0), show k.toNat = pad.toNat by omega])) H locs hI ls (lv_sub hl [0, 1, 2, 3, 4] rfl)
      · skip
        refine lv_iload hx hb dX0_arrange_119 (lv_at hl 4 rfl) ?_
        refine z_if_eq (tgt := 139) hx hb (by omega) dX0_arrange_121 (by decide) (fun h2 => ?_) (fun h2 => ?_)
        · skip
          exact L139 (X ++ List.replicate k.toNat (48 : Int)) gt1 st1 ta1 tc1 lf zr hcp1 hlf hzr (by rw [List.length_append, List.length_replicate]; omega) hB1 (by rw [← hfin]; rw [if_neg (by omega : ¬ zr ≠ 0), show k.toNat = 0 by omega]; try rfl) H locs hI ls (lv_sub hl [0, 1, 2, 3, 4] rfl)
        · skip
          refine lv_aload_n hx hb dX0_arrange_124 rfl (lv_at hl 0 rfl) ?_
          refine z_get (ci := 0) hF hI in_X0 0 rfl rfl 2 (by decide) q69 rfl rfl dX0_arrange_125 ?_
          refine z_bipush hx hb dX0_arrange_128 (by decide) ?_
          have hgc3 := gcap_ok (cap := tc1) (sz := st1) (by omega) (by omega) (by omega)
          refine z_callVv (n := 1) (As := [.int (zI 48)]) (rest := []) (wr := ([(xo, .inr (0, [.ref xd, .ref yb, .ref tb])), (yb, .inr (2, [.ref ya, .int (zI sb)])), (ya, .inl (cB, cap, .inl (zA gb)))] : va_W)) (C := "DecimalText$Bytes") (ci := 2) hF (c_add l D cB cI tb ta1 tc1 gt1 st1 48 (X ++ List.replicate k.toNat (48 : Int)) hB1 (by omega) (by omega) (by omega) (by omega)) (lw_V q89 q90 q91 q16 q92) (by decide +kernel) ⟨Nat.le_of_ble_eq_true rfl, Nat.le_of_ble_eq_true rfl⟩ hI hA [3, 4] [0, 1, 2] rfl rfl rfl rfl (by decide) rfl rfl rfl hl.1 rfl (lv_room (Nat.le_of_ble_eq_true rfl)) dX0_arrange_130 ⟨by first | omega | (dsimp only; omega), by first | omega | (dsimp only; omega)⟩ (fun u H locs hu hI => ?_)
          obtain ⟨ya3, gy3⟩ := u
          have hI : zW D A s.heap ([(xo, .inr (0, [.ref xd, .ref yb, .ref tb]))] ++ ((bW yb ya cB cap gb sb) ++ (bW tb ya3 cB (gcap tc1 st1) gy3 (st1 + 1)))) H locs := hI
          have hBy3 : By gy3 (st1 + 1) ((X ++ List.replicate k.toNat (48 : Int)) ++ [48]) := hu
          refine W.widen (k := ((gcap tc1 st1) - tc)) (n := (2 * ((gcap tc1 st1) - tc))) (by first | omega | (dsimp only; omega)) (by first | omega | (dsimp only; omega)) ?_
          refine lv_iinc (lv' := [(8, .int (zI (k + 1))), (0, .ref xo), (1, .int (zI sg)), (5, .int (zI pad)), (6, .int (zI lf)), (7, .int (zI zr))]) (k := 5) hx hb dX0_arrange_133 hl rfl (zI_add _ _) (by decide) rfl (fun ls hl => ?_)
          refine lv_goto (tgt := 112) hx hb dX0_arrange_136 (by decide) ?_
          exact ih_ (k + 1) X gy3 (st1 + 1) ya3 (gcap tc1 st1) lf zr (by omega) (by omega) hlf hzr (by omega) (by omega) (by omega) (by exact hBy3.to (by rw [show (k + 1).toNat = k.toNat + 1 by omega, List.replicate_succ', ← List.append_assoc])) hfin H locs hI ls (lv_sub hl [1, 2, 3, 4, 5, 0] rfl)
  have L109 : ∀ (X : List Int) (gt1 : Int → Int) (st1 : Int) (ta1 tc1 : Nat) (lf zr : Int), (tc ≤ tc1 ∧ tc1 ≤ 4000 ∧ st1 ≤ (tc1 : Int)) → ((lf = 0 ∧ fl % 2 = 0) ∨ (lf = 1 ∧ fl % 2 ≠ 0)) → ((zr = 1 ∧ fl % 2 = 0 ∧ fl / 8 % 2 * 8 ≠ 0 ∧ ¬ inf) ∨ (zr = 0 ∧ ¬ (fl % 2 = 0 ∧ fl / 8 % 2 * 8 ≠ 0 ∧ ¬ inf))) → (X.length ≤ 401) → (By gt1 st1 X) → (X ++ (if zr ≠ 0 then List.replicate pad.toNat (48 : Int) else []) ++ LL ++ (if lf ≠ 0 then List.replicate pad.toNat (32 : Int) else []) = padT (sgT sg) LL wd fl inf) → ∀ (H : Heap) (locs : List Loc), zW D A s.heap ([(xo, .inr (0, [.ref xd, .ref yb, .ref tb]))] ++ ((bW yb ya cB cap gb sb) ++ (bW tb ta1 cB tc1 gt1 st1))) H locs → ∀ ls : Array Slot, lv_has ls 9 [(0, .ref xo), (1, .int (zI sg)), (5, .int (zI pad)), (6, .int (zI lf)), (7, .int (zI zr))] → W p l e ({ frames := 1, cells := 4000, slots := 8000, locals := 23 } : Room) s m ([.ref xo, .int (zI sg), .int (zI wd), .int (zI fl), .int (zI en)] : List Value).toArray below meth c H locs (tc1 - tc) (2 * (tc1 - tc)) (MQ below (va_Qv (arrP (padT (sgT sg) LL wd fl inf)) (zPost D A (fun u => [(xo, .inr (0, [.ref xd, .ref yb, .ref tb]))] ++ (bW yb ya cB cap gb sb ++ bW tb u.1 cB u.2.1 u.2.2.1 u.2.2.2))) A) ([.ref xo, .int (zI sg), .int (zI wd), .int (zI fl), .int (zI en)] : List Value).toArray s ({ frames := 1, cells := 4000, slots := 8000, locals := 23 } : Room).cells ({ frames := 1, cells := 4000, slots := 8000, locals := 23 } : Room).slots A) (F0 m 109 ls []) := by
    intro X gt1 st1 ta1 tc1 lf zr hcp1 hlf hzr hX hB1 hfin H locs hI ls hl
    refine z_iconst hx hb dX0_arrange_109 ?_
    refine lv_istore (lv' := [(8, .int (zI 0)), (0, .ref xo), (1, .int (zI sg)), (5, .int (zI pad)), (6, .int (zI lf)), (7, .int (zI zr))]) hx hb dX0_arrange_110 hl (by decide) rfl (fun ls hl => ?_)
    exact L112 ((pad + 1001).toNat) 0 X gt1 st1 ta1 tc1 lf zr (by omega) hcp1 hlf hzr hX (by omega) (by intro _; rfl) (by rw [show (0 : Int).toNat = 0 from rfl, List.replicate_zero, List.append_nil]; exact hB1) hfin H locs hI ls (lv_sub hl [1, 2, 3, 4, 5, 0] rfl)
  have L97 : ∀ (X : List Int) (gt1 : Int → Int) (st1 : Int) (ta1 tc1 : Nat) (lf zr : Int), (tc ≤ tc1 ∧ tc1 ≤ 4000 ∧ st1 ≤ (tc1 : Int)) → ((lf = 0 ∧ fl % 2 = 0) ∨ (lf = 1 ∧ fl % 2 ≠ 0)) → ((zr = 1 ∧ fl % 2 = 0 ∧ fl / 8 % 2 * 8 ≠ 0 ∧ ¬ inf) ∨ (zr = 0 ∧ ¬ (fl % 2 = 0 ∧ fl / 8 % 2 * 8 ≠ 0 ∧ ¬ inf))) → (X.length ≤ 400) → (By gt1 st1 X) → (X ++ sgT sg ++ (if zr ≠ 0 then List.replicate pad.toNat (48 : Int) else []) ++ LL ++ (if lf ≠ 0 then List.replicate pad.toNat (32 : Int) else []) = padT (sgT sg) LL wd fl inf) → ∀ (H : Heap) (locs : List Loc), zW D A s.heap ([(xo, .inr (0, [.ref xd, .ref yb, .ref tb]))] ++ ((bW yb ya cB cap gb sb) ++ (bW tb ta1 cB tc1 gt1 st1))) H locs → ∀ ls : Array Slot, lv_has ls 9 [(0, .ref xo), (1, .int (zI sg)), (5, .int (zI pad)), (6, .int (zI lf)), (7, .int (zI zr))] → W p l e ({ frames := 1, cells := 4000, slots := 8000, locals := 23 } : Room) s m ([.ref xo, .int (zI sg), .int (zI wd), .int (zI fl), .int (zI en)] : List Value).toArray below meth c H locs (tc1 - tc) (2 * (tc1 - tc)) (MQ below (va_Qv (arrP (padT (sgT sg) LL wd fl inf)) (zPost D A (fun u => [(xo, .inr (0, [.ref xd, .ref yb, .ref tb]))] ++ (bW yb ya cB cap gb sb ++ bW tb u.1 cB u.2.1 u.2.2.1 u.2.2.2))) A) ([.ref xo, .int (zI sg), .int (zI wd), .int (zI fl), .int (zI en)] : List Value).toArray s ({ frames := 1, cells := 4000, slots := 8000, locals := 23 } : Room).cells ({ frames := 1, cells := 4000, slots := 8000, locals := 23 } : Room).slots A) (F0 m 97 ls []) := by
    intro X gt1 st1 ta1 tc1 lf zr hcp1 hlf hzr hX hB1 hfin H locs hI ls hl
    have hl2 := hB1.sz
    try simp only [List.length_append, List.length_replicate, List.length_take] at hl2
    refine lv_iload_n hx hb dX0_arrange_97 rfl (lv_at hl 1 rfl) ?_
    refine z_if_eq (tgt := 109) hx hb (by omega) dX0_arrange_98 (by decide) (fun h1 => ?_) (fun h1 => ?_)
    · skip
      exact L109 X gt1 st1 ta1 tc1 lf zr hcp1 hlf hzr (by omega) hB1 (by rw [← hfin, sgT, if_pos h1, List.append_nil]) H locs hI ls (lv_sub hl [0, 1, 2, 3, 4] rfl)
    · skip
      refine lv_aload_n hx hb dX0_arrange_101 rfl (lv_at hl 0 rfl) ?_
      refine z_get (ci := 0) hF hI in_X0 0 rfl rfl 2 (by decide) q69 rfl rfl dX0_arrange_102 ?_
      refine lv_iload_n hx hb dX0_arrange_105 rfl (lv_at hl 1 rfl) ?_
      have hgc4 := gcap_ok (cap := tc1) (sz := st1) (by omega) (by omega) (by omega)
      refine z_callVv (n := 1) (As := [.int (zI sg)]) (rest := []) (wr := ([(xo, .inr (0, [.ref xd, .ref yb, .ref tb])), (yb, .inr (2, [.ref ya, .int (zI sb)])), (ya, .inl (cB, cap, .inl (zA gb)))] : va_W)) (C := "DecimalText$Bytes") (ci := 2) hF (c_add l D cB cI tb ta1 tc1 gt1 st1 sg X hB1 (by omega) (by omega) (by omega) (by omega)) (lw_V q89 q90 q91 q16 q92) (by decide +kernel) ⟨Nat.le_of_ble_eq_true rfl, Nat.le_of_ble_eq_true rfl⟩ hI hA [3, 4] [0, 1, 2] rfl rfl rfl rfl (by decide) rfl rfl rfl hl.1 rfl (lv_room (Nat.le_of_ble_eq_true rfl)) dX0_arrange_106 ⟨by first | omega | (dsimp only; omega), by first | omega | (dsimp only; omega)⟩ (fun u H locs hu hI => ?_)
      obtain ⟨ya4, gy4⟩ := u
      have hI : zW D A s.heap ([(xo, .inr (0, [.ref xd, .ref yb, .ref tb]))] ++ ((bW yb ya cB cap gb sb) ++ (bW tb ya4 cB (gcap tc1 st1) gy4 (st1 + 1)))) H locs := hI
      have hBy4 : By gy4 (st1 + 1) (X ++ [sg]) := hu
      refine W.widen (k := ((gcap tc1 st1) - tc)) (n := (2 * ((gcap tc1 st1) - tc))) (by first | omega | (dsimp only; omega)) (by first | omega | (dsimp only; omega)) ?_
      exact L109 (X ++ [sg]) gy4 (st1 + 1) ya4 (gcap tc1 st1) lf zr (by omega) hlf hzr (by rw [List.length_append, List.length_singleton]; omega) hBy4 (by rw [← hfin, sgT, if_neg h1]) H locs hI ls (lv_sub hl [0, 1, 2, 3, 4] rfl)
  have L65 : ∀ (n_ : Nat), ∀ (k : Int) (gt1 : Int → Int) (st1 : Int) (ta1 tc1 : Nat) (lf zr : Int), pad - k + 1000 < (n_ : Int) → (tc ≤ tc1 ∧ tc1 ≤ 4000 ∧ st1 ≤ (tc1 : Int)) → ((lf = 0 ∧ fl % 2 = 0) ∨ (lf = 1 ∧ fl % 2 ≠ 0)) → ((zr = 1 ∧ fl % 2 = 0 ∧ fl / 8 % 2 * 8 ≠ 0 ∧ ¬ inf) ∨ (zr = 0 ∧ ¬ (fl % 2 = 0 ∧ fl / 8 % 2 * 8 ≠ 0 ∧ ¬ inf))) → (0 ≤ k ∧ (k ≤ pad ∨ k = 0)) → (lf ≠ 0 ∨ zr ≠ 0 → k = 0) → (By gt1 st1 (List.replicate k.toNat (32 : Int))) → ∀ (H : Heap) (locs : List Loc), zW D A s.heap ([(xo, .inr (0, [.ref xd, .ref yb, .ref tb]))] ++ ((bW yb ya cB cap gb sb) ++ (bW tb ta1 cB tc1 gt1 st1))) H locs → ∀ ls : Array Slot, lv_has ls 9 [(0, .ref xo), (1, .int (zI sg)), (5, .int (zI pad)), (6, .int (zI lf)), (7, .int (zI zr)), (8, .int (zI k))] → W p l e ({ frames := 1, cells := 4000, slots := 8000, locals := 23 } : Room) s m ([.ref xo, .int (zI sg), .int (zI wd), .int (zI fl), .int (zI en)] : List Value).toArray below meth c H locs (tc1 - tc) (2 * (tc1 - tc)) (MQ below (va_Qv (arrP (padT (sgT sg) LL wd fl inf)) (zPost D A (fun u => [(xo, .inr (0, [.ref xd, .ref yb, .ref tb]))] ++ (bW yb ya cB cap gb sb ++ bW tb u.1 cB u.2.1 u.2.2.1 u.2.2.2))) A) ([.ref xo, .int (zI sg), .int (zI wd), .int (zI fl), .int (zI en)] : List Value).toArray s ({ frames := 1, cells := 4000, slots := 8000, locals := 23 } : Room).cells ({ frames := 1, cells := 4000, slots := 8000, locals := 23 } : Room).slots A) (F0 m 65 ls []) := by
    intro n_
    induction n_ with
    | zero =>
      intro k gt1 st1 ta1 tc1 lf zr hm_ hcp1 hlf hzr hk hk2 hB1 H locs hI ls hl
      exfalso; omega
    | succ n_ ih_ =>
      intro k gt1 st1 ta1 tc1 lf zr hm_ hcp1 hlf hzr hk hk2 hB1 H locs hI ls hl
      have hl2 := hB1.sz
      try simp only [List.length_append, List.length_replicate, List.length_take] at hl2
      refine lv_iload hx hb dX0_arrange_65 (lv_at hl 5 rfl) ?_
      refine lv_iload hx hb dX0_arrange_67 (lv_at hl 2 rfl) ?_
      refine z_icmp_ge (tgt := 97) hx hb (by omega) (by omega) dX0_arrange_69 (by decide) (fun h1 => ?_) (fun h1 => ?_)
      · skip
        exact L97 (List.replicate k.toNat (32 : Int)) gt1 st1 ta1 tc1 lf zr hcp1 hlf hzr (by rw [List.length_replicate]; omega) hB1 (by exact arr_fin hlf hzr hpad (by split <;> omega)) H locs hI ls (lv_sub hl [0, 1, 2, 3, 4] rfl)
      · skip
        refine lv_iload hx hb dX0_arrange_72 (lv_at hl 3 rfl) ?_
        refine z_if_ne (tgt := 97) hx hb (by omega) dX0_arrange_74 (by decide) (fun h2 => ?_) (fun h2 => ?_)
        · skip
          exact L97 (List.replicate k.toNat (32 : Int)) gt1 st1 ta1 tc1 lf zr hcp1 hlf hzr (by rw [List.length_replicate]; omega) hB1 (by exact arr_fin hlf hzr hpad (by split <;> omega)) H locs hI ls (lv_sub hl [0, 1, 2, 3, 4] rfl)
        · skip
          refine lv_iload hx hb dX0_arrange_77 (lv_at hl 4 rfl) ?_
          refine z_if_ne (tgt := 97) hx hb (by omega) dX0_arrange_79 (by decide) (fun h3 => ?_) (fun h3 => ?_)
          · skip
            exact L97 (List.replicate k.toNat (32 : Int)) gt1 st1 ta1 tc1 lf zr hcp1 hlf hzr (by rw [List.length_replicate]; omega) hB1 (by exact arr_fin hlf hzr hpad (by split <;> omega)) H locs hI ls (lv_sub hl [0, 1, 2, 3, 4] rfl)
          · skip
            refine lv_aload_n hx hb dX0_arrange_82 rfl (lv_at hl 0 rfl) ?_
            refine z_get (ci := 0) hF hI in_X0 0 rfl rfl 2 (by decide) q69 rfl rfl dX0_arrange_83 ?_
            refine z_bipush hx hb dX0_arrange_86 (by decide) ?_
            have hgc5 := gcap_ok (cap := tc1) (sz := st1) (by omega) (by omega) (by omega)
            refine z_callVv (n := 1) (As := [.int (zI 32)]) (rest := []) (wr := ([(xo, .inr (0, [.ref xd, .ref yb, .ref tb])), (yb, .inr (2, [.ref ya, .int (zI sb)])), (ya, .inl (cB, cap, .inl (zA gb)))] : va_W)) (C := "DecimalText$Bytes") (ci := 2) hF (c_add l D cB cI tb ta1 tc1 gt1 st1 32 (List.replicate k.toNat (32 : Int)) hB1 (by omega) (by omega) (by omega) (by omega)) (lw_V q89 q90 q91 q16 q92) (by decide +kernel) ⟨Nat.le_of_ble_eq_true rfl, Nat.le_of_ble_eq_true rfl⟩ hI hA [3, 4] [0, 1, 2] rfl rfl rfl rfl (by decide) rfl rfl rfl hl.1 rfl (lv_room (Nat.le_of_ble_eq_true rfl)) dX0_arrange_88 ⟨by first | omega | (dsimp only; omega), by first | omega | (dsimp only; omega)⟩ (fun u H locs hu hI => ?_)
            obtain ⟨ya5, gy5⟩ := u
            have hI : zW D A s.heap ([(xo, .inr (0, [.ref xd, .ref yb, .ref tb]))] ++ ((bW yb ya cB cap gb sb) ++ (bW tb ya5 cB (gcap tc1 st1) gy5 (st1 + 1)))) H locs := hI
            have hBy5 : By gy5 (st1 + 1) ((List.replicate k.toNat (32 : Int)) ++ [32]) := hu
            refine W.widen (k := ((gcap tc1 st1) - tc)) (n := (2 * ((gcap tc1 st1) - tc))) (by first | omega | (dsimp only; omega)) (by first | omega | (dsimp only; omega)) ?_
            refine lv_iinc (lv' := [(8, .int (zI (k + 1))), (0, .ref xo), (1, .int (zI sg)), (5, .int (zI pad)), (6, .int (zI lf)), (7, .int (zI zr))]) (k := 5) hx hb dX0_arrange_91 hl rfl (zI_add _ _) (by decide) rfl (fun ls hl => ?_)
            refine lv_goto (tgt := 65) hx hb dX0_arrange_94 (by decide) ?_
            exact ih_ (k + 1) gy5 (st1 + 1) ya5 (gcap tc1 st1) lf zr (by omega) (by omega) hlf hzr (by omega) (by omega) (by exact hBy5.to (by rw [show (k + 1).toNat = k.toNat + 1 by omega, List.replicate_succ'])) H locs hI ls (lv_sub hl [1, 2, 3, 4, 5, 0] rfl)
  have L60 : ∀ (lf zr : Int), ((lf = 0 ∧ fl % 2 = 0) ∨ (lf = 1 ∧ fl % 2 ≠ 0)) → ((zr = 1 ∧ fl % 2 = 0 ∧ fl / 8 % 2 * 8 ≠ 0 ∧ ¬ inf) ∨ (zr = 0 ∧ ¬ (fl % 2 = 0 ∧ fl / 8 % 2 * 8 ≠ 0 ∧ ¬ inf))) → ∀ (H : Heap) (locs : List Loc), zW D A s.heap ([(xo, .inr (0, [.ref xd, .ref yb, .ref tb]))] ++ ((bW yb ya cB cap gb sb) ++ (bW tb ta cB tc gt 0))) H locs → ∀ ls : Array Slot, lv_has ls 9 [(0, .ref xo), (1, .int (zI sg)), (5, .int (zI pad)), (6, .int (zI lf))] → W p l e ({ frames := 1, cells := 4000, slots := 8000, locals := 23 } : Room) s m ([.ref xo, .int (zI sg), .int (zI wd), .int (zI fl), .int (zI en)] : List Value).toArray below meth c H locs (tc - tc) (2 * (tc - tc)) (MQ below (va_Qv (arrP (padT (sgT sg) LL wd fl inf)) (zPost D A (fun u => [(xo, .inr (0, [.ref xd, .ref yb, .ref tb]))] ++ (bW yb ya cB cap gb sb ++ bW tb u.1 cB u.2.1 u.2.2.1 u.2.2.2))) A) ([.ref xo, .int (zI sg), .int (zI wd), .int (zI fl), .int (zI en)] : List Value).toArray s ({ frames := 1, cells := 4000, slots := 8000, locals := 23 } : Room).cells ({ frames := 1, cells := 4000, slots := 8000, locals := 23 } : Room).slots A) (F0 m 60 ls [.int (zI zr)]) := by
    intro lf zr hlf hzr H locs hI ls hl
    refine lv_istore (lv' := [(7, .int (zI zr)), (0, .ref xo), (1, .int (zI sg)), (5, .int (zI pad)), (6, .int (zI lf))]) hx hb dX0_arrange_60 hl (by decide) rfl (fun ls hl => ?_)
    refine z_iconst hx hb dX0_arrange_62 ?_
    refine lv_istore (lv' := [(8, .int (zI 0)), (7, .int (zI zr)), (0, .ref xo), (1, .int (zI sg)), (5, .int (zI pad)), (6, .int (zI lf))]) hx hb dX0_arrange_63 hl (by decide) rfl (fun ls hl => ?_)
    exact L65 ((pad + 1001).toNat) 0 gt 0 ta tc lf zr (by omega) (by omega) hlf hzr (by omega) (by intro _; rfl) (by exact By.nil gt) H locs hI ls (lv_sub hl [2, 3, 4, 5, 1, 0] rfl)
  have L27 : ∀ (x5 : Int), (x5 = pad) → ∀ (H : Heap) (locs : List Loc), zW D A s.heap ([(xo, .inr (0, [.ref xd, .ref yb, .ref tb]))] ++ ((bW yb ya cB cap gb sb) ++ (bW tb ta cB tc gt 0))) H locs → ∀ ls : Array Slot, lv_has ls 9 [(0, .ref xo), (1, .int (zI sg)), (3, .int (zI fl)), (4, .int (zI en))] → W p l e ({ frames := 1, cells := 4000, slots := 8000, locals := 23 } : Room) s m ([.ref xo, .int (zI sg), .int (zI wd), .int (zI fl), .int (zI en)] : List Value).toArray below meth c H locs 0 0 (MQ below (va_Qv (arrP (padT (sgT sg) LL wd fl inf)) (zPost D A (fun u => [(xo, .inr (0, [.ref xd, .ref yb, .ref tb]))] ++ (bW yb ya cB cap gb sb ++ bW tb u.1 cB u.2.1 u.2.2.1 u.2.2.2))) A) ([.ref xo, .int (zI sg), .int (zI wd), .int (zI fl), .int (zI en)] : List Value).toArray s ({ frames := 1, cells := 4000, slots := 8000, locals := 23 } : Room).cells ({ frames := 1, cells := 4000, slots := 8000, locals := 23 } : Room).slots A) (F0 m 27 ls [.int (zI x5)]) := by
    intro x5 hx5 H locs hI ls hl
    rw [hx5]
    refine lv_istore (lv' := [(5, .int (zI pad)), (0, .ref xo), (1, .int (zI sg)), (3, .int (zI fl)), (4, .int (zI en))]) hx hb dX0_arrange_27 hl (by decide) rfl (fun ls hl => ?_)
    refine lv_iload_n hx hb dX0_arrange_29 rfl (lv_at hl 3 rfl) ?_
    refine z_iconst hx hb dX0_arrange_30 ?_
    refine z_callSi (n := 2) (As := [.int (zI fl), .int (zI 1)]) (rest := []) (wr := ([(xo, .inr (0, [.ref xd, .ref yb, .ref tb])), (yb, .inr (2, [.ref ya, .int (zI sb)])), (ya, .inl (cB, cap, .inl (zA gb))), (tb, .inr (2, [.ref ta, .int (zI 0)])), (ta, .inl (cB, tc, .inl (zA gt)))] : va_W)) (C := "DecimalText") hF (c_has l D cB cI fl 1 (fl % 2) (fl_int hfl).1 (by omega)) (lw_S q113 q114 q14 q115) (by decide +kernel) ⟨Nat.le_of_ble_eq_true rfl, Nat.le_of_ble_eq_true rfl⟩ hI hA [] [0, 1, 2, 3, 4] rfl rfl rfl rfl (by decide) rfl hl.1 rfl (lv_room (Nat.le_of_ble_eq_true rfl)) dX0_arrange_31 ⟨by first | omega | (dsimp only; omega), by first | omega | (dsimp only; omega)⟩ (fun lf _u H locs hu hI => ?_)
    have hI : zW D A s.heap ([(xo, .inr (0, [.ref xd, .ref yb, .ref tb]))] ++ ((bW yb ya cB cap gb sb) ++ (bW tb ta cB tc gt 0))) H locs := hI
    have hlf : (lf = 0 ∧ fl % 2 = 0) ∨ (lf = 1 ∧ fl % 2 ≠ 0) := by rw [hu]; split; exact Or.inl ⟨rfl, by assumption⟩; exact Or.inr ⟨rfl, by assumption⟩
    refine lv_istore (lv' := [(6, .int (zI lf)), (5, .int (zI pad)), (0, .ref xo), (1, .int (zI sg)), (3, .int (zI fl)), (4, .int (zI en))]) hx hb dX0_arrange_34 hl (by decide) rfl (fun ls hl => ?_)
    refine lv_iload_n hx hb dX0_arrange_36 rfl (lv_at hl 4 rfl) ?_
    refine z_bipush hx hb dX0_arrange_37 (by decide) ?_
    refine z_callSi (n := 2) (As := [.int (zI fl), .int (zI 8)]) (rest := []) (wr := ([(xo, .inr (0, [.ref xd, .ref yb, .ref tb])), (yb, .inr (2, [.ref ya, .int (zI sb)])), (ya, .inl (cB, cap, .inl (zA gb))), (tb, .inr (2, [.ref ta, .int (zI 0)])), (ta, .inl (cB, tc, .inl (zA gt)))] : va_W)) (C := "DecimalText") hF (c_has l D cB cI fl 8 (fl / 8 % 2 * 8) (fl_int hfl).2.2.2.1 (by omega)) (lw_S q113 q114 q14 q115) (by decide +kernel) ⟨Nat.le_of_ble_eq_true rfl, Nat.le_of_ble_eq_true rfl⟩ hI hA [] [0, 1, 2, 3, 4] rfl rfl rfl rfl (by decide) rfl hl.1 rfl (lv_room (Nat.le_of_ble_eq_true rfl)) dX0_arrange_39 ⟨by first | omega | (dsimp only; omega), by first | omega | (dsimp only; omega)⟩ (fun r8 _u H locs hu hI => ?_)
    have hI : zW D A s.heap ([(xo, .inr (0, [.ref xd, .ref yb, .ref tb]))] ++ ((bW yb ya cB cap gb sb) ++ (bW tb ta cB tc gt 0))) H locs := hI
    have hr8 : (r8 = 0 ∧ fl / 8 % 2 * 8 = 0) ∨ (r8 = 1 ∧ fl / 8 % 2 * 8 ≠ 0) := by rw [hu]; split; exact Or.inl ⟨rfl, by assumption⟩; exact Or.inr ⟨rfl, by assumption⟩
    refine W.widen (k := (tc - tc)) (n := (2 * (tc - tc))) (by first | omega | (dsimp only; omega)) (by first | omega | (dsimp only; omega)) ?_
    refine z_if_eq (tgt := 59) hx hb (by omega) dX0_arrange_42 (by decide) (fun h1 => ?_) (fun h1 => ?_)
    · skip
      refine z_iconst hx hb dX0_arrange_59 ?_
      exact L60 lf 0 hlf (by refine Or.inr ⟨rfl, ?_⟩; rcases hen with q | q; (exact fun q9 => q9.2.2 q.2); (intro q9; omega)) H locs hI ls (lv_sub hl [2, 3, 1, 0] rfl)
    · skip
      refine lv_iload hx hb dX0_arrange_45 (lv_at hl 0 rfl) ?_
      refine z_if_ne (tgt := 59) hx hb (by omega) dX0_arrange_47 (by decide) (fun h2 => ?_) (fun h2 => ?_)
      · skip
        refine z_iconst hx hb dX0_arrange_59 ?_
        exact L60 lf 0 hlf (by refine Or.inr ⟨rfl, ?_⟩; rcases hen with q | q; (exact fun q9 => q9.2.2 q.2); (intro q9; omega)) H locs hI ls (lv_sub hl [2, 3, 1, 0] rfl)
      · skip
        refine lv_iload hx hb dX0_arrange_50 (lv_at hl 5 rfl) ?_
        refine z_if_ne (tgt := 59) hx hb (by omega) dX0_arrange_52 (by decide) (fun h3 => ?_) (fun h3 => ?_)
        · skip
          refine z_iconst hx hb dX0_arrange_59 ?_
          exact L60 lf 0 hlf (by refine Or.inr ⟨rfl, ?_⟩; rcases hen with q | q; (exact fun q9 => q9.2.2 q.2); (intro q9; omega)) H locs hI ls (lv_sub hl [2, 3, 1, 0] rfl)
        · skip
          refine z_iconst hx hb dX0_arrange_55 ?_
          refine lv_goto (tgt := 60) hx hb dX0_arrange_56 (by decide) ?_
          exact L60 lf 1 hlf (by refine Or.inl ⟨rfl, by omega, by omega, ?_⟩; rcases hen with q | q; (exfalso; omega); exact q.2) H locs hI ls (lv_sub hl [2, 3, 1, 0] rfl)
  refine lv_aload_n hx hb dX0_arrange_0 rfl (lv_at hl 0 rfl) ?_
  refine z_get (ci := 0) hF hI in_X0 0 rfl rfl 2 (by decide) q69 rfl rfl dX0_arrange_1 ?_
  refine z_iconst hx hb dX0_arrange_4 ?_
  refine z_put (ci := 2) (v := .int (zI 0)) (ty := .int) hF hI in_X2 tyX2 tyX2_ok nmX2 3 rfl rfl 1 (by decide) q60 rfl rfl (by decide +kernel) rfl rfl (Nat.le_of_ble_eq_true rfl) dX0_arrange_5 (fun H locs hI => ?_)
  have hI : zW D A s.heap ([(xo, .inr (0, [.ref xd, .ref yb, .ref tb]))] ++ ((bW yb ya cB cap gb sb) ++ (bW tb ta cB tc gt 0))) H locs := hI
  refine lv_iload_n hx hb dX0_arrange_8 rfl (lv_at hl 2 rfl) ?_
  refine lv_aload_n hx hb dX0_arrange_9 rfl (lv_at hl 0 rfl) ?_
  refine z_get (ci := 0) hF hI in_X0 0 rfl rfl 1 (by decide) q68 rfl rfl dX0_arrange_10 ?_
  refine z_get (ci := 2) hF hI in_X2 1 rfl rfl 1 (by decide) q60 rfl rfl dX0_arrange_13 ?_
  refine z_isub hx hb dX0_arrange_16 ?_
  refine lv_iload_n hx hb dX0_arrange_17 rfl (lv_at hl 1 rfl) ?_
  refine z_if_ne (tgt := 25) hx hb (by omega) dX0_arrange_18 (by decide) (fun h1 => ?_) (fun h1 => ?_)
  · skip
    refine z_iconst hx hb dX0_arrange_25 ?_
    refine z_isub hx hb dX0_arrange_26 ?_
    exact L27 (wd - sb - 1) (by omega) H locs hI ls (lv_sub hl [0, 1, 3, 4] rfl)
  · skip
    refine z_iconst hx hb dX0_arrange_21 ?_
    refine lv_goto (tgt := 26) hx hb dX0_arrange_22 (by decide) ?_
    refine z_isub hx hb dX0_arrange_26 ?_
    exact L27 (wd - sb - 0) (by omega) H locs hI ls (lv_sub hl [0, 1, 3, 4] rfl)
end
section
/-! the component: make, digits -/
def cmakeP (z how q wd fl : Int) (T0 : List Int) (r : Int) : ((Int → Int) × Int × (Int → Int) × Int × Int) × (Nat × Nat × (Int → Int) × Int) × Nat × Nat × (Int → Int) × Int → Prop
  | (_, (_, cap', _, _), _, tc', gt', st') => ∃ T : List Int, MakeS z how q wd fl T0 r T ∧ By gt' st' T ∧ cap' ≤ 4000 ∧ tc' ≤ 4000 ∧ st' ≤ (tc' : Int)
theorem dig_fin0 {z n3 : Int} {g : Int → Int} {m v : Nat} (hE : z / 4503599627370496 % 2048 ≠ 2047) (hR : Rw g m v) (hj : ∃ j : Nat, bN z = v * 10 ^ j) (hn : n3 = (m : Int)) (h0 : n3 ≤ 0) : DigS z n3 := by
  obtain ⟨j, hj⟩ := hj
  obtain rfl : m = 0 := by omega
  have hv : v = 0 := by have := hR.1; simp at this; exact this
  refine Or.inr ⟨hE, 0, 0, 0, Or.inl ⟨by rw [hj, hv]; simp, rfl, rfl, rfl⟩, by omega⟩
theorem dig_fin {z n3 : Int} {g : Int → Int} {m v : Nat} (hE : z / 4503599627370496 % 2048 ≠ 2047) (hR : Rw g m v) (hj : ∃ j : Nat, bN z = v * 10 ^ j) (hl : m = 0 ∨ 10 ^ m ≤ 10 * v) (hn : n3 = (m : Int)) (h0 : 0 < n3) (hg : g (n3 - 1) ≠ 0) : DigS z n3 := by
  obtain ⟨j, hj⟩ := hj
  obtain ⟨m1, rfl⟩ : ∃ m1, m = m1 + 1 := ⟨m - 1, by omega⟩
  have h1 := Rw_last hR
  rw [show n3 - 1 = (m1 : Int) by omega, h1] at hg
  have h2 : 10 ^ (m1 + 1) ≤ 10 * v := by
    rcases hl with q | q
    · omega
    · exact q
  have hv : 0 < v := by
    have := ten_pos (m1 + 1)
    omega
  refine Or.inr ⟨hE, v, m1 + 1, ((m1 + 1 : Nat) : Int) + bX z + j, Or.inr ⟨?_, by omega, h2, hR.1, j, hj, by omega⟩, hn⟩
  rw [hj]
  exact Nat.ne_of_gt (Nat.mul_pos hv (ten_pos j))
set_option maxHeartbeats 4000000 in
set_option maxRecDepth 100000 in
/-- make(bits, how, p, width, flags) -/
theorem c_make (l : Launch) (D : va_G) (cB cI : ClassId) (xo xd yb tb : Nat) (xw xg : Nat) (w : Int → Int) (sz : Int) (g : Int → Int) (cnt pt : Int) (ya cap : Nat) (gb : Int → Int) (sb : Int) (ta tc : Nat) (gt : Int → Int) (st : Int) (z how q wd fl : Int) (T0 : List Int) (hz : -9223372036854775808 ≤ z ∧ z < 9223372036854775808) (hhow : -2147483648 ≤ how ∧ how < 2147483648) (hq : -2147483648 ≤ q ∧ q < 2147483648) (hwd : -2147483648 ≤ wd ∧ wd < 2147483648) (hfl0 : -2147483648 ≤ fl ∧ fl < 2147483648) (hT0 : By gt st T0) (hst : st ≤ (tc : Int)) (htc : tc ≤ 4000) (hcap : cap ≤ 4000) : zMi (S := ((Int → Int) × Int × (Int → Int) × Int × Int) × (Nat × Nat × (Int → Int) × Int) × Nat × Nat × (Int → Int) × Int) l yX0_make cX0_make 9 (some .int) ({ frames := 2, cells := 8000, slots := 16000, locals := 57 } : Room) D cB cI ([.ref xo, .long (zL z), .int (zI how), .int (zI q), .int (zI wd), .int (zI fl)] : List Value) ([(xo, .inr (0, [.ref xd, .ref yb, .ref tb]))] ++ ((dW xd xw xg cB cI w sz g cnt pt) ++ ((bW yb ya cB cap gb sb) ++ (bW tb ta cB tc gt st)))) (cmakeP z how q wd fl T0) (fun u => [(xo, .inr (0, [.ref xd, .ref yb, .ref tb]))] ++ (dW xd xw xg cB cI u.1.1 u.1.2.1 u.1.2.2.1 u.1.2.2.2.1 u.1.2.2.2.2 ++ (bW yb u.2.1.1 cB u.2.1.2.1 u.2.1.2.2.1 u.2.1.2.2.2 ++ bW tb u.2.2.1 cB u.2.2.2.1 u.2.2.2.2.1 u.2.2.2.2.2))) := by
  refine z_meti (by decide) (Nat.le_of_ble_eq_true rfl) ?_
  intro p e s m below meth c A hF hr hlk hnm hA hI ls hl
  have hx := hF.1
  have hb := hF.2.1
  have hown := hF.2.2.2.1
  have hts := hF.2.2.2.2.1
  have hl : lv_has ls 9 [(0, .ref xo), (1, .long (zL z)), (3, .int (zI how)), (4, .int (zI q)), (5, .int (zI wd)), (6, .int (zI fl))] := hl
  obtain ⟨H, eH⟩ : ∃ H : Heap, H = s.heap := ⟨_, rfl⟩
  obtain ⟨locs, eL⟩ : ∃ L : List Loc, L = [] := ⟨_, rfl⟩
  have hI : zW D A s.heap ([(xo, .inr (0, [.ref xd, .ref yb, .ref tb]))] ++ ((dW xd xw xg cB cI w sz g cnt pt) ++ ((bW yb ya cB cap gb sb) ++ (bW tb ta cB tc gt st)))) H locs := by rw [eH, eL]; exact hI
  suffices hgo : W p l e ({ frames := 2, cells := 8000, slots := 16000, locals := 57 } : Room) s m ([.ref xo, .long (zL z), .int (zI how), .int (zI q), .int (zI wd), .int (zI fl)] : List Value).toArray below meth c H locs 0 0 (MQ below (va_Qi (zpi (cmakeP z how q wd fl T0)) (zPost D A (fun u : Int × (((Int → Int) × Int × (Int → Int) × Int × Int) × (Nat × Nat × (Int → Int) × Int) × Nat × Nat × (Int → Int) × Int) => (fun u => [(xo, .inr (0, [.ref xd, .ref yb, .ref tb]))] ++ (dW xd xw xg cB cI u.1.1 u.1.2.1 u.1.2.2.1 u.1.2.2.2.1 u.1.2.2.2.2 ++ (bW yb u.2.1.1 cB u.2.1.2.1 u.2.1.2.2.1 u.2.1.2.2.2 ++ bW tb u.2.2.1 cB u.2.2.2.1 u.2.2.2.2.1 u.2.2.2.2.2))) u.2)) A) ([.ref xo, .long (zL z), .int (zI how), .int (zI q), .int (zI wd), .int (zI fl)] : List Value).toArray s ({ frames := 2, cells := 8000, slots := 16000, locals := 57 } : Room).cells ({ frames := 2, cells := 8000, slots := 16000, locals := 57 } : Room).slots A) (F0 m 0 ls []) by rw [eH, eL] at hgo; exact hgo
  clear eH eL
  have L218 : ∀ (sg en : Int) (w1 g1 : Int → Int) (s1 c1 p1 : Int) (ya1 cp1 : Nat) (gb1 : Int → Int) (sb1 : Int) (LL : List Int), (¬ badA z how q wd fl ∧ (0 ≤ how ∧ how ≤ 2) ∧ (0 ≤ q ∧ q ≤ 15) ∧ (0 ≤ wd ∧ wd ≤ 400) ∧ (0 ≤ fl ∧ fl ≤ 31)) → ((en = 1 ∧ z / 4503599627370496 % 2048 = 2047) ∨ (en = 0 ∧ ¬ z / 4503599627370496 % 2048 = 2047)) → (By gb1 sb1 LL) → (sb1 ≤ (cp1 : Int)) → (cp1 ≤ 4000) → (LL.length ≤ 400) → (InfOr z how q fl LL) → (sgn z fl = sg) → (0 ≤ sg ∧ sg ≤ 100) → ∀ (H : Heap) (locs : List Loc), zW D A s.heap ([(xo, .inr (0, [.ref xd, .ref yb, .ref tb]))] ++ ((dW xd xw xg cB cI w1 s1 g1 c1 p1) ++ ((bW yb ya1 cB cp1 gb1 sb1) ++ (bW tb ta cB tc gt st)))) H locs → ∀ ls : Array Slot, lv_has ls 9 [(0, .ref xo), (1, .long (zL z)), (3, .int (zI how)), (4, .int (zI q)), (5, .int (zI wd)), (6, .int (zI fl)), (7, .int (zI en))] → W p l e ({ frames := 2, cells := 8000, slots := 16000, locals := 57 } : Room) s m ([.ref xo, .long (zL z), .int (zI how), .int (zI q), .int (zI wd), .int (zI fl)] : List Value).toArray below meth c H locs 4000 8000 (MQ below (va_Qi (zpi (cmakeP z how q wd fl T0)) (zPost D A (fun u : Int × (((Int → Int) × Int × (Int → Int) × Int × Int) × (Nat × Nat × (Int → Int) × Int) × Nat × Nat × (Int → Int) × Int) => (fun u => [(xo, .inr (0, [.ref xd, .ref yb, .ref tb]))] ++ (dW xd xw xg cB cI u.1.1 u.1.2.1 u.1.2.2.1 u.1.2.2.2.1 u.1.2.2.2.2 ++ (bW yb u.2.1.1 cB u.2.1.2.1 u.2.1.2.2.1 u.2.1.2.2.2 ++ bW tb u.2.2.1 cB u.2.2.2.1 u.2.2.2.2.1 u.2.2.2.2.2))) u.2)) A) ([.ref xo, .long (zL z), .int (zI how), .int (zI q), .int (zI wd), .int (zI fl)] : List Value).toArray s ({ frames := 2, cells := 8000, slots := 16000, locals := 57 } : Room).cells ({ frames := 2, cells := 8000, slots := 16000, locals := 57 } : Room).slots A) (F0 m 218 ls [.int (zI sg)]) := by
    intro sg en w1 g1 s1 c1 p1 ya1 cp1 gb1 sb1 LL hok hen hB1 hcp1 hcp2 hLL hInf hs1 hs2 H locs hI ls hl
    refine lv_istore (lv' := [(8, .int (zI sg)), (0, .ref xo), (1, .long (zL z)), (3, .int (zI how)), (4, .int (zI q)), (5, .int (zI wd)), (6, .int (zI fl)), (7, .int (zI en))]) hx hb dX0_make_218 hl (by decide) rfl (fun ls hl => ?_)
    refine lv_aload_n hx hb dX0_make_220 rfl (lv_at hl 1 rfl) ?_
    refine lv_iload hx hb dX0_make_221 (lv_at hl 0 rfl) ?_
    refine lv_iload hx hb dX0_make_223 (lv_at hl 5 rfl) ?_
    refine lv_iload hx hb dX0_make_225 (lv_at hl 6 rfl) ?_
    refine lv_iload hx hb dX0_make_227 (lv_at hl 7 rfl) ?_
    refine z_callVv (n := 4) (As := [.int (zI sg), .int (zI wd), .int (zI fl), .int (zI en)]) (rest := []) (wr := ([(xd, .inr (1, [.ref xw, .int (zI s1), .ref xg, .int (zI c1), .int (zI p1)])), (xw, .inl (cI, 140, .inl (zA w1))), (xg, .inl (cB, 1300, .inl (zA g1)))] : va_W)) (C := "DecimalText") (ci := 0) hF (c_arr l D cB cI xo xd yb tb ya1 cp1 gb1 sb1 ta tc gt st sg wd fl en (z / 4503599627370496 % 2048 = 2047) LL (by omega) (by omega) (by omega) hen hB1 hcp1 hcp2 hLL htc) (lw_V q133 q135 qs3 q14 q136) (by decide +kernel) ⟨Nat.le_of_ble_eq_true rfl, Nat.le_of_ble_eq_true rfl⟩ hI hA [0, 4, 5, 6, 7] [1, 2, 3] rfl rfl rfl rfl (by decide) rfl rfl rfl hl.1 rfl (lv_room (Nat.le_of_ble_eq_true rfl)) dX0_make_229 ⟨by first | omega | (dsimp only; omega), by first | omega | (dsimp only; omega)⟩ (fun u H locs hu hI => ?_)
    obtain ⟨ta2, tc2, gt2, st2⟩ := u
    have hI : zW D A s.heap ([(xo, .inr (0, [.ref xd, .ref yb, .ref tb]))] ++ ((dW xd xw xg cB cI w1 s1 g1 c1 p1) ++ ((bW yb ya1 cB cp1 gb1 sb1) ++ (bW tb ta2 cB tc2 gt2 st2)))) H locs := hI.sub [3, 0, 1, 2, 4, 5, 6, 7] rfl rfl
    obtain ⟨hB2, htc2, hst2⟩ := hu
    refine lv_aload_n hx hb dX0_make_232 rfl (lv_at hl 1 rfl) ?_
    refine z_get (ci := 0) hF hI in_X0 0 rfl rfl 2 (by decide) q69 rfl rfl dX0_make_233 ?_
    refine z_get (ci := 2) hF hI in_X2 6 rfl rfl 1 (by decide) q60 rfl rfl dX0_make_236 ?_
    refine W.widen (k := 8000) (n := 16000) (by first | omega | (dsimp only; omega)) (by first | omega | (dsimp only; omega)) ?_
    exact z_iret (z := st2) (S := ((Int → Int) × Int × (Int → Int) × Int × Int) × (Nat × Nat × (Int → Int) × Int) × Nat × Nat × (Int → Int) × Int) (post := (cmakeP z how q wd fl T0)) (w' := (fun u => [(xo, .inr (0, [.ref xd, .ref yb, .ref tb]))] ++ (dW xd xw xg cB cI u.1.1 u.1.2.1 u.1.2.2.1 u.1.2.2.2.1 u.1.2.2.2.2 ++ (bW yb u.2.1.1 cB u.2.1.2.1 u.2.1.2.2.1 u.2.1.2.2.2 ++ bW tb u.2.2.1 cB u.2.2.2.1 u.2.2.2.2.1 u.2.2.2.2.2)))) hF hr hlk hI ((w1, s1, g1, c1, p1), (ya1, cp1, gb1, sb1), ta2, tc2, gt2, st2) ⟨_, Or.inr ⟨hok.1, ⟨LL, hInf, by rw [hs1]⟩, hB2.sz⟩, hB2, hcp2, htc2, hst2⟩ rfl dX0_make_239
  have L178 : ∀ (en : Int) (w1 g1 : Int → Int) (s1 c1 p1 : Int) (ya1 cp1 : Nat) (gb1 : Int → Int) (sb1 : Int) (LL : List Int), (¬ badA z how q wd fl ∧ (0 ≤ how ∧ how ≤ 2) ∧ (0 ≤ q ∧ q ≤ 15) ∧ (0 ≤ wd ∧ wd ≤ 400) ∧ (0 ≤ fl ∧ fl ≤ 31)) → ((en = 1 ∧ z / 4503599627370496 % 2048 = 2047) ∨ (en = 0 ∧ ¬ z / 4503599627370496 % 2048 = 2047)) → (By gb1 sb1 LL) → (sb1 ≤ (cp1 : Int)) → (cp1 ≤ 4000) → (LL.length ≤ 400) → (InfOr z how q fl LL) → ∀ (H : Heap) (locs : List Loc), zW D A s.heap ([(xo, .inr (0, [.ref xd, .ref yb, .ref tb]))] ++ ((dW xd xw xg cB cI w1 s1 g1 c1 p1) ++ ((bW yb ya1 cB cp1 gb1 sb1) ++ (bW tb ta cB tc gt st)))) H locs → ∀ ls : Array Slot, lv_has ls 9 [(0, .ref xo), (1, .long (zL z)), (3, .int (zI how)), (4, .int (zI q)), (5, .int (zI wd)), (6, .int (zI fl)), (7, .int (zI en))] → W p l e ({ frames := 2, cells := 8000, slots := 16000, locals := 57 } : Room) s m ([.ref xo, .long (zL z), .int (zI how), .int (zI q), .int (zI wd), .int (zI fl)] : List Value).toArray below meth c H locs 4000 8000 (MQ below (va_Qi (zpi (cmakeP z how q wd fl T0)) (zPost D A (fun u : Int × (((Int → Int) × Int × (Int → Int) × Int × Int) × (Nat × Nat × (Int → Int) × Int) × Nat × Nat × (Int → Int) × Int) => (fun u => [(xo, .inr (0, [.ref xd, .ref yb, .ref tb]))] ++ (dW xd xw xg cB cI u.1.1 u.1.2.1 u.1.2.2.1 u.1.2.2.2.1 u.1.2.2.2.2 ++ (bW yb u.2.1.1 cB u.2.1.2.1 u.2.1.2.2.1 u.2.1.2.2.2 ++ bW tb u.2.2.1 cB u.2.2.2.1 u.2.2.2.2.1 u.2.2.2.2.2))) u.2)) A) ([.ref xo, .long (zL z), .int (zI how), .int (zI q), .int (zI wd), .int (zI fl)] : List Value).toArray s ({ frames := 2, cells := 8000, slots := 16000, locals := 57 } : Room).cells ({ frames := 2, cells := 8000, slots := 16000, locals := 57 } : Room).slots A) (F0 m 178 ls []) := by
    intro en w1 g1 s1 c1 p1 ya1 cp1 gb1 sb1 LL hok hen hB1 hcp1 hcp2 hLL hInf H locs hI ls hl
    have hfl : 0 ≤ fl ∧ fl < 32 := (by omega)
    refine lv_lload_n hx hb dX0_make_178 rfl (lv_at hl 1 rfl) ?_
    refine z_lconst hx hb 0 dX0_make_179 (by decide) ?_
    refine z_lcmp_ge (tgt := 189) hx hb (by omega) (by omega) dX0_make_180 dX0_make_181 (by decide) (fun h1 => ?_) (fun h1 => ?_)
    · skip
      refine lv_iload hx hb dX0_make_189 (lv_at hl 5 rfl) ?_
      refine z_iconst hx hb dX0_make_191 ?_
      refine z_callSi (n := 2) (As := [.int (zI fl), .int (zI 2)]) (rest := []) (wr := ([(xo, .inr (0, [.ref xd, .ref yb, .ref tb])), (xd, .inr (1, [.ref xw, .int (zI s1), .ref xg, .int (zI c1), .int (zI p1)])), (xw, .inl (cI, 140, .inl (zA w1))), (xg, .inl (cB, 1300, .inl (zA g1))), (yb, .inr (2, [.ref ya1, .int (zI sb1)])), (ya1, .inl (cB, cp1, .inl (zA gb1))), (tb, .inr (2, [.ref ta, .int (zI st)])), (ta, .inl (cB, tc, .inl (zA gt)))] : va_W)) (C := "DecimalText") hF (c_has l D cB cI fl 2 (fl / 2 % 2 * 2) (fl_int hfl).2.1 (by omega)) (lw_S q113 q114 q14 q115) (by decide +kernel) ⟨Nat.le_of_ble_eq_true rfl, Nat.le_of_ble_eq_true rfl⟩ hI hA [] [0, 1, 2, 3, 4, 5, 6, 7] rfl rfl rfl rfl (by decide) rfl hl.1 rfl (lv_room (Nat.le_of_ble_eq_true rfl)) dX0_make_192 ⟨by first | omega | (dsimp only; omega), by first | omega | (dsimp only; omega)⟩ (fun r2 _u H locs hu hI => ?_)
      have hI : zW D A s.heap ([(xo, .inr (0, [.ref xd, .ref yb, .ref tb]))] ++ ((dW xd xw xg cB cI w1 s1 g1 c1 p1) ++ ((bW yb ya1 cB cp1 gb1 sb1) ++ (bW tb ta cB tc gt st)))) H locs := hI
      have hr2 : (r2 = 0 ∧ fl / 2 % 2 * 2 = 0) ∨ (r2 = 1 ∧ fl / 2 % 2 * 2 ≠ 0) := by rw [hu]; split; exact Or.inl ⟨rfl, by assumption⟩; exact Or.inr ⟨rfl, by assumption⟩
      refine W.widen (k := 4000) (n := 8000) (by first | omega | (dsimp only; omega)) (by first | omega | (dsimp only; omega)) ?_
      refine z_if_eq (tgt := 203) hx hb (by omega) dX0_make_195 (by decide) (fun h2 => ?_) (fun h2 => ?_)
      · skip
        refine lv_iload hx hb dX0_make_203 (lv_at hl 5 rfl) ?_
        refine z_iconst hx hb dX0_make_205 ?_
        refine z_callSi (n := 2) (As := [.int (zI fl), .int (zI 4)]) (rest := []) (wr := ([(xo, .inr (0, [.ref xd, .ref yb, .ref tb])), (xd, .inr (1, [.ref xw, .int (zI s1), .ref xg, .int (zI c1), .int (zI p1)])), (xw, .inl (cI, 140, .inl (zA w1))), (xg, .inl (cB, 1300, .inl (zA g1))), (yb, .inr (2, [.ref ya1, .int (zI sb1)])), (ya1, .inl (cB, cp1, .inl (zA gb1))), (tb, .inr (2, [.ref ta, .int (zI st)])), (ta, .inl (cB, tc, .inl (zA gt)))] : va_W)) (C := "DecimalText") hF (c_has l D cB cI fl 4 (fl / 4 % 2 * 4) (fl_int hfl).2.2.1 (by omega)) (lw_S q113 q114 q14 q115) (by decide +kernel) ⟨Nat.le_of_ble_eq_true rfl, Nat.le_of_ble_eq_true rfl⟩ hI hA [] [0, 1, 2, 3, 4, 5, 6, 7] rfl rfl rfl rfl (by decide) rfl hl.1 rfl (lv_room (Nat.le_of_ble_eq_true rfl)) dX0_make_206 ⟨by first | omega | (dsimp only; omega), by first | omega | (dsimp only; omega)⟩ (fun r4 _u H locs hu hI => ?_)
        have hI : zW D A s.heap ([(xo, .inr (0, [.ref xd, .ref yb, .ref tb]))] ++ ((dW xd xw xg cB cI w1 s1 g1 c1 p1) ++ ((bW yb ya1 cB cp1 gb1 sb1) ++ (bW tb ta cB tc gt st)))) H locs := hI
        have hr4 : (r4 = 0 ∧ fl / 4 % 2 * 4 = 0) ∨ (r4 = 1 ∧ fl / 4 % 2 * 4 ≠ 0) := by rw [hu]; split; exact Or.inl ⟨rfl, by assumption⟩; exact Or.inr ⟨rfl, by assumption⟩
        refine W.widen (k := 4000) (n := 8000) (by first | omega | (dsimp only; omega)) (by first | omega | (dsimp only; omega)) ?_
        refine z_if_eq (tgt := 217) hx hb (by omega) dX0_make_209 (by decide) (fun h3 => ?_) (fun h3 => ?_)
        · skip
          refine z_iconst hx hb dX0_make_217 ?_
          exact L218 0 en w1 g1 s1 c1 p1 ya1 cp1 gb1 sb1 LL hok hen hB1 hcp1 hcp2 hLL hInf (by rw [sgn, if_neg (by omega), if_neg (by omega), if_neg (by omega)]) (by omega) H locs hI ls (lv_sub hl [0, 1, 2, 3, 4, 5, 6] rfl)
        · skip
          refine z_bipush hx hb dX0_make_212 (by decide) ?_
          refine lv_goto (tgt := 218) hx hb dX0_make_214 (by decide) ?_
          exact L218 32 en w1 g1 s1 c1 p1 ya1 cp1 gb1 sb1 LL hok hen hB1 hcp1 hcp2 hLL hInf (by rw [sgn, if_neg (by omega), if_neg (by omega), if_pos (by omega)]) (by omega) H locs hI ls (lv_sub hl [0, 1, 2, 3, 4, 5, 6] rfl)
      · skip
        refine z_bipush hx hb dX0_make_198 (by decide) ?_
        refine lv_goto (tgt := 218) hx hb dX0_make_200 (by decide) ?_
        exact L218 43 en w1 g1 s1 c1 p1 ya1 cp1 gb1 sb1 LL hok hen hB1 hcp1 hcp2 hLL hInf (by rw [sgn, if_neg (by omega), if_pos (by omega)]) (by omega) H locs hI ls (lv_sub hl [0, 1, 2, 3, 4, 5, 6] rfl)
    · skip
      refine z_bipush hx hb dX0_make_184 (by decide) ?_
      refine lv_goto (tgt := 218) hx hb dX0_make_186 (by decide) ?_
      exact L218 45 en w1 g1 s1 c1 p1 ya1 cp1 gb1 sb1 LL hok hen hB1 hcp1 hcp2 hLL hInf (by rw [sgn, if_pos (by omega)]) (by omega) H locs hI ls (lv_sub hl [0, 1, 2, 3, 4, 5, 6] rfl)
  have L175 : ∀ (dt lt : Int) (w1 g1 : Int → Int) (s1 c1 p1 : Int), (¬ badA z how q wd fl ∧ (0 ≤ how ∧ how ≤ 2) ∧ (0 ≤ q ∧ q ≤ 15) ∧ (0 ≤ wd ∧ wd ≤ 400) ∧ (0 ≤ fl ∧ fl ≤ 31)) → (z / 4503599627370496 % 2048 ≠ 2047) → (ofP z (w1, s1, g1, c1, p1)) → ((dt = 0 ∧ fl / 16 % 2 * 16 = 0) ∨ (dt = 1 ∧ fl / 16 % 2 * 16 ≠ 0)) → (how ≠ 0) → (lt = if how = 1 then 101 else 69) → (0 ≤ lt ∧ lt < 128) → ∀ (H : Heap) (locs : List Loc), zW D A s.heap ([(xo, .inr (0, [.ref xd, .ref yb, .ref tb]))] ++ ((dW xd xw xg cB cI w1 s1 g1 c1 p1) ++ ((bW yb ya cB cap gb 0) ++ (bW tb ta cB tc gt st)))) H locs → ∀ ls : Array Slot, lv_has ls 9 [(0, .ref xo), (1, .long (zL z)), (3, .int (zI how)), (4, .int (zI q)), (5, .int (zI wd)), (6, .int (zI fl)), (7, .int (zI 0))] → W p l e ({ frames := 2, cells := 8000, slots := 16000, locals := 57 } : Room) s m ([.ref xo, .long (zL z), .int (zI how), .int (zI q), .int (zI wd), .int (zI fl)] : List Value).toArray below meth c H locs 0 0 (MQ below (va_Qi (zpi (cmakeP z how q wd fl T0)) (zPost D A (fun u : Int × (((Int → Int) × Int × (Int → Int) × Int × Int) × (Nat × Nat × (Int → Int) × Int) × Nat × Nat × (Int → Int) × Int) => (fun u => [(xo, .inr (0, [.ref xd, .ref yb, .ref tb]))] ++ (dW xd xw xg cB cI u.1.1 u.1.2.1 u.1.2.2.1 u.1.2.2.2.1 u.1.2.2.2.2 ++ (bW yb u.2.1.1 cB u.2.1.2.1 u.2.1.2.2.1 u.2.1.2.2.2 ++ bW tb u.2.2.1 cB u.2.2.2.1 u.2.2.2.2.1 u.2.2.2.2.2))) u.2)) A) ([.ref xo, .long (zL z), .int (zI how), .int (zI q), .int (zI wd), .int (zI fl)] : List Value).toArray s ({ frames := 2, cells := 8000, slots := 16000, locals := 57 } : Room).cells ({ frames := 2, cells := 8000, slots := 16000, locals := 57 } : Room).slots A) (F0 m 175 ls [.int (zI lt), .int (zI dt), .int (zI q), .ref yb, .ref xd]) := by
    intro dt lt w1 g1 s1 c1 p1 hok hE hOf hdt hhw hlt hlt2 H locs hI ls hl
    obtain ⟨n1, hc1, hn1, hR1, hO1⟩ := hOf
    have hdt2 : dt = if fl / 16 % 2 * 16 = 0 then 0 else 1 := (by split <;> omega)
    refine z_callVv (n := 4) (As := [.ref yb, .int (zI q), .int (zI dt), .int (zI lt)]) (rest := []) (wr := ([(xo, .inr (0, [.ref xd, .ref yb, .ref tb])), (tb, .inr (2, [.ref ta, .int (zI st)])), (ta, .inl (cB, tc, .inl (zA gt)))] : va_W)) (C := "DecimalText$Decimal") (ci := 1) hF (c_sci l D cB cI xd xw xg w1 s1 g1 c1 p1 yb ya cap gb 0 n1 z q dt lt hc1 hR1 hn1 hO1 hE hok.2.2.1 (by omega) (By.nil gb) (by omega) hcap (by omega)) (lw_V q129 q130 q131 q15 q132) (by decide +kernel) ⟨Nat.le_of_ble_eq_true rfl, Nat.le_of_ble_eq_true rfl⟩ hI hA [1, 2, 3, 4, 5] [0, 6, 7] rfl rfl rfl rfl (by decide) rfl rfl rfl hl.1 rfl (lv_room (Nat.le_of_ble_eq_true rfl)) dX0_make_175 ⟨by first | omega | (dsimp only; omega), by first | omega | (dsimp only; omega)⟩ (fun u H locs hu hI => ?_)
    obtain ⟨⟨g2, c2, p2⟩, ya2, cp2, gb2, sb2⟩ := u
    have hI : zW D A s.heap ([(xo, .inr (0, [.ref xd, .ref yb, .ref tb]))] ++ ((dW xd xw xg cB cI w1 s1 g2 c2 p2) ++ ((bW yb ya2 cB cp2 gb2 sb2) ++ (bW tb ta cB tc gt st)))) H locs := hI.sub [0, 3, 4, 5, 6, 7, 1, 2] rfl rfl
    obtain ⟨LL, hLL, hB2, hcp2, hcs2, hsl2⟩ := hu
    have hBs := hB2.sz
    refine W.widen (k := 4000) (n := 8000) (by first | omega | (dsimp only; omega)) (by first | omega | (dsimp only; omega)) ?_
    exact L178 0 w1 g2 s1 c2 p2 ya2 cp2 gb2 sb2 LL hok (by exact Or.inr ⟨rfl, hE⟩) hB2 hcs2 hcp2 (by omega) (by rw [InfOr, if_neg hE, ← hdt2]; obtain ⟨P0, P, y1, y2, y3⟩ := hLL; exact Or.inr ⟨hhw, P0, P, y1, y2, by rw [y3, hlt]⟩) H locs hI ls (lv_sub hl [0, 1, 2, 3, 4, 5, 6] rfl)
  have L119 : ∀ (w1 g1 : Int → Int) (s1 c1 p1 : Int), (¬ badA z how q wd fl ∧ (0 ≤ how ∧ how ≤ 2) ∧ (0 ≤ q ∧ q ≤ 15) ∧ (0 ≤ wd ∧ wd ≤ 400) ∧ (0 ≤ fl ∧ fl ≤ 31)) → (z / 4503599627370496 % 2048 ≠ 2047) → (ofP z (w1, s1, g1, c1, p1)) → ∀ (H : Heap) (locs : List Loc), zW D A s.heap ([(xo, .inr (0, [.ref xd, .ref yb, .ref tb]))] ++ ((dW xd xw xg cB cI w1 s1 g1 c1 p1) ++ ((bW yb ya cB cap gb 0) ++ (bW tb ta cB tc gt st)))) H locs → ∀ ls : Array Slot, lv_has ls 9 [(0, .ref xo), (1, .long (zL z)), (3, .int (zI how)), (4, .int (zI q)), (5, .int (zI wd)), (6, .int (zI fl)), (7, .int (zI 0))] → W p l e ({ frames := 2, cells := 8000, slots := 16000, locals := 57 } : Room) s m ([.ref xo, .long (zL z), .int (zI how), .int (zI q), .int (zI wd), .int (zI fl)] : List Value).toArray below meth c H locs 0 0 (MQ below (va_Qi (zpi (cmakeP z how q wd fl T0)) (zPost D A (fun u : Int × (((Int → Int) × Int × (Int → Int) × Int × Int) × (Nat × Nat × (Int → Int) × Int) × Nat × Nat × (Int → Int) × Int) => (fun u => [(xo, .inr (0, [.ref xd, .ref yb, .ref tb]))] ++ (dW xd xw xg cB cI u.1.1 u.1.2.1 u.1.2.2.1 u.1.2.2.2.1 u.1.2.2.2.2 ++ (bW yb u.2.1.1 cB u.2.1.2.1 u.2.1.2.2.1 u.2.1.2.2.2 ++ bW tb u.2.2.1 cB u.2.2.2.1 u.2.2.2.2.1 u.2.2.2.2.2))) u.2)) A) ([.ref xo, .long (zL z), .int (zI how), .int (zI q), .int (zI wd), .int (zI fl)] : List Value).toArray s ({ frames := 2, cells := 8000, slots := 16000, locals := 57 } : Room).cells ({ frames := 2, cells := 8000, slots := 16000, locals := 57 } : Room).slots A) (F0 m 119 ls []) := by
    intro w1 g1 s1 c1 p1 hok hE hOf H locs hI ls hl
    have hfl : 0 ≤ fl ∧ fl < 32 := (by omega)
    refine lv_iload_n hx hb dX0_make_119 rfl (lv_at hl 2 rfl) ?_
    refine z_if_ne (tgt := 146) hx hb (by omega) dX0_make_120 (by decide) (fun h1 => ?_) (fun h1 => ?_)
    · skip
      refine lv_aload_n hx hb dX0_make_146 rfl (lv_at hl 0 rfl) ?_
      refine z_get (ci := 0) hF hI in_X0 0 rfl rfl 0 (by decide) q67 rfl rfl dX0_make_147 ?_
      refine lv_aload_n hx hb dX0_make_150 rfl (lv_at hl 0 rfl) ?_
      refine z_get (ci := 0) hF hI in_X0 0 rfl rfl 1 (by decide) q68 rfl rfl dX0_make_151 ?_
      refine lv_iload hx hb dX0_make_154 (lv_at hl 3 rfl) ?_
      refine lv_iload hx hb dX0_make_156 (lv_at hl 5 rfl) ?_
      refine z_bipush hx hb dX0_make_158 (by decide) ?_
      refine z_callSi (n := 2) (As := [.int (zI fl), .int (zI 16)]) (rest := [.int (zI q), .ref yb, .ref xd]) (wr := ([(xo, .inr (0, [.ref xd, .ref yb, .ref tb])), (xd, .inr (1, [.ref xw, .int (zI s1), .ref xg, .int (zI c1), .int (zI p1)])), (xw, .inl (cI, 140, .inl (zA w1))), (xg, .inl (cB, 1300, .inl (zA g1))), (yb, .inr (2, [.ref ya, .int (zI 0)])), (ya, .inl (cB, cap, .inl (zA gb))), (tb, .inr (2, [.ref ta, .int (zI st)])), (ta, .inl (cB, tc, .inl (zA gt)))] : va_W)) (C := "DecimalText") hF (c_has l D cB cI fl 16 (fl / 16 % 2 * 16) (fl_int hfl).2.2.2.2 (by omega)) (lw_S q113 q114 q14 q115) (by decide +kernel) ⟨Nat.le_of_ble_eq_true rfl, Nat.le_of_ble_eq_true rfl⟩ hI hA [] [0, 1, 2, 3, 4, 5, 6, 7] rfl rfl rfl rfl (by decide) rfl hl.1 rfl (lv_room (Nat.le_of_ble_eq_true rfl)) dX0_make_160 ⟨by first | omega | (dsimp only; omega), by first | omega | (dsimp only; omega)⟩ (fun dt _u H locs hu hI => ?_)
      have hI : zW D A s.heap ([(xo, .inr (0, [.ref xd, .ref yb, .ref tb]))] ++ ((dW xd xw xg cB cI w1 s1 g1 c1 p1) ++ ((bW yb ya cB cap gb 0) ++ (bW tb ta cB tc gt st)))) H locs := hI
      have hdt : (dt = 0 ∧ fl / 16 % 2 * 16 = 0) ∨ (dt = 1 ∧ fl / 16 % 2 * 16 ≠ 0) := by rw [hu]; split; exact Or.inl ⟨rfl, by assumption⟩; exact Or.inr ⟨rfl, by assumption⟩
      refine W.widen (k := 0) (n := 0) (by first | omega | (dsimp only; omega)) (by first | omega | (dsimp only; omega)) ?_
      refine lv_iload_n hx hb dX0_make_163 rfl (lv_at hl 2 rfl) ?_
      refine z_iconst hx hb dX0_make_164 ?_
      refine z_icmp_ne (tgt := 173) hx hb (by omega) (by omega) dX0_make_165 (by decide) (fun h2 => ?_) (fun h2 => ?_)
      · skip
        refine z_bipush hx hb dX0_make_173 (by decide) ?_
        exact L175 dt 69 w1 g1 s1 c1 p1 hok hE hOf hdt h1 (by rw [if_neg (by omega)]) (by omega) H locs hI ls (lv_sub hl [0, 1, 2, 3, 4, 5, 6] rfl)
      · skip
        refine z_bipush hx hb dX0_make_168 (by decide) ?_
        refine lv_goto (tgt := 175) hx hb dX0_make_170 (by decide) ?_
        exact L175 dt 101 w1 g1 s1 c1 p1 hok hE hOf hdt h1 (by rw [if_pos (by omega)]) (by omega) H locs hI ls (lv_sub hl [0, 1, 2, 3, 4, 5, 6] rfl)
    · skip
      refine lv_aload_n hx hb dX0_make_123 rfl (lv_at hl 0 rfl) ?_
      refine z_get (ci := 0) hF hI in_X0 0 rfl rfl 0 (by decide) q67 rfl rfl dX0_make_124 ?_
      refine lv_aload_n hx hb dX0_make_127 rfl (lv_at hl 0 rfl) ?_
      refine z_get (ci := 0) hF hI in_X0 0 rfl rfl 1 (by decide) q68 rfl rfl dX0_make_128 ?_
      refine lv_iload hx hb dX0_make_131 (lv_at hl 3 rfl) ?_
      refine lv_iload hx hb dX0_make_133 (lv_at hl 5 rfl) ?_
      refine z_bipush hx hb dX0_make_135 (by decide) ?_
      refine z_callSi (n := 2) (As := [.int (zI fl), .int (zI 16)]) (rest := [.int (zI q), .ref yb, .ref xd]) (wr := ([(xo, .inr (0, [.ref xd, .ref yb, .ref tb])), (xd, .inr (1, [.ref xw, .int (zI s1), .ref xg, .int (zI c1), .int (zI p1)])), (xw, .inl (cI, 140, .inl (zA w1))), (xg, .inl (cB, 1300, .inl (zA g1))), (yb, .inr (2, [.ref ya, .int (zI 0)])), (ya, .inl (cB, cap, .inl (zA gb))), (tb, .inr (2, [.ref ta, .int (zI st)])), (ta, .inl (cB, tc, .inl (zA gt)))] : va_W)) (C := "DecimalText") hF (c_has l D cB cI fl 16 (fl / 16 % 2 * 16) (fl_int hfl).2.2.2.2 (by omega)) (lw_S q113 q114 q14 q115) (by decide +kernel) ⟨Nat.le_of_ble_eq_true rfl, Nat.le_of_ble_eq_true rfl⟩ hI hA [] [0, 1, 2, 3, 4, 5, 6, 7] rfl rfl rfl rfl (by decide) rfl hl.1 rfl (lv_room (Nat.le_of_ble_eq_true rfl)) dX0_make_137 ⟨by first | omega | (dsimp only; omega), by first | omega | (dsimp only; omega)⟩ (fun dt _u H locs hu hI => ?_)
      have hI : zW D A s.heap ([(xo, .inr (0, [.ref xd, .ref yb, .ref tb]))] ++ ((dW xd xw xg cB cI w1 s1 g1 c1 p1) ++ ((bW yb ya cB cap gb 0) ++ (bW tb ta cB tc gt st)))) H locs := hI
      have hdt : (dt = 0 ∧ fl / 16 % 2 * 16 = 0) ∨ (dt = 1 ∧ fl / 16 % 2 * 16 ≠ 0) := by rw [hu]; split; exact Or.inl ⟨rfl, by assumption⟩; exact Or.inr ⟨rfl, by assumption⟩
      obtain ⟨n1, hc1, hn1, hR1, hO1⟩ := hOf
      have hdt2 : dt = if fl / 16 % 2 * 16 = 0 then 0 else 1 := (by split <;> omega)
      refine z_callVv (n := 3) (As := [.ref yb, .int (zI q), .int (zI dt)]) (rest := []) (wr := ([(xo, .inr (0, [.ref xd, .ref yb, .ref tb])), (tb, .inr (2, [.ref ta, .int (zI st)])), (ta, .inl (cB, tc, .inl (zA gt)))] : va_W)) (C := "DecimalText$Decimal") (ci := 1) hF (c_plain l D cB cI xd xw xg w1 s1 g1 c1 p1 yb ya cap gb 0 n1 z q dt  hc1 hR1 hn1 hO1 hE hok.2.2.1 (by omega) (By.nil gb) (by omega) hcap ) (lw_V q116 q117 q118 q15 q119) (by decide +kernel) ⟨Nat.le_of_ble_eq_true rfl, Nat.le_of_ble_eq_true rfl⟩ hI hA [1, 2, 3, 4, 5] [0, 6, 7] rfl rfl rfl rfl (by decide) rfl rfl rfl hl.1 rfl (lv_room (Nat.le_of_ble_eq_true rfl)) dX0_make_140 ⟨by first | omega | (dsimp only; omega), by first | omega | (dsimp only; omega)⟩ (fun u H locs hu hI => ?_)
      obtain ⟨⟨g2, c2, p2⟩, ya2, cp2, gb2, sb2⟩ := u
      have hI : zW D A s.heap ([(xo, .inr (0, [.ref xd, .ref yb, .ref tb]))] ++ ((dW xd xw xg cB cI w1 s1 g2 c2 p2) ++ ((bW yb ya2 cB cp2 gb2 sb2) ++ (bW tb ta cB tc gt st)))) H locs := hI.sub [0, 3, 4, 5, 6, 7, 1, 2] rfl rfl
      obtain ⟨LL, hLL, hB2, hcp2, hcs2, hsl2⟩ := hu
      have hBs := hB2.sz
      refine lv_goto (tgt := 178) hx hb dX0_make_143 (by decide) ?_
      refine W.widen (k := 4000) (n := 8000) (by first | omega | (dsimp only; omega)) (by first | omega | (dsimp only; omega)) ?_
      exact L178 0 w1 g2 s1 c2 p2 ya2 cp2 gb2 sb2 LL hok (by exact Or.inr ⟨rfl, hE⟩) hB2 hcs2 hcp2 (by omega) (by rw [InfOr, if_neg hE, ← hdt2]; exact Or.inl ⟨h1, hLL⟩) H locs hI ls (lv_sub hl [0, 1, 2, 3, 4, 5, 6] rfl)
  have L55 : (¬ badA z how q wd fl ∧ (0 ≤ how ∧ how ≤ 2) ∧ (0 ≤ q ∧ q ≤ 15) ∧ (0 ≤ wd ∧ wd ≤ 400) ∧ (0 ≤ fl ∧ fl ≤ 31)) → ∀ (H : Heap) (locs : List Loc), zW D A s.heap ([(xo, .inr (0, [.ref xd, .ref yb, .ref tb]))] ++ ((dW xd xw xg cB cI w sz g cnt pt) ++ ((bW yb ya cB cap gb sb) ++ (bW tb ta cB tc gt st)))) H locs → ∀ ls : Array Slot, lv_has ls 9 [(0, .ref xo), (1, .long (zL z)), (3, .int (zI how)), (4, .int (zI q)), (5, .int (zI wd)), (6, .int (zI fl))] → W p l e ({ frames := 2, cells := 8000, slots := 16000, locals := 57 } : Room) s m ([.ref xo, .long (zL z), .int (zI how), .int (zI q), .int (zI wd), .int (zI fl)] : List Value).toArray below meth c H locs 0 0 (MQ below (va_Qi (zpi (cmakeP z how q wd fl T0)) (zPost D A (fun u : Int × (((Int → Int) × Int × (Int → Int) × Int × Int) × (Nat × Nat × (Int → Int) × Int) × Nat × Nat × (Int → Int) × Int) => (fun u => [(xo, .inr (0, [.ref xd, .ref yb, .ref tb]))] ++ (dW xd xw xg cB cI u.1.1 u.1.2.1 u.1.2.2.1 u.1.2.2.2.1 u.1.2.2.2.2 ++ (bW yb u.2.1.1 cB u.2.1.2.1 u.2.1.2.2.1 u.2.1.2.2.2 ++ bW tb u.2.2.1 cB u.2.2.2.1 u.2.2.2.2.1 u.2.2.2.2.2))) u.2)) A) ([.ref xo, .long (zL z), .int (zI how), .int (zI q), .int (zI wd), .int (zI fl)] : List Value).toArray s ({ frames := 2, cells := 8000, slots := 16000, locals := 57 } : Room).cells ({ frames := 2, cells := 8000, slots := 16000, locals := 57 } : Room).slots A) (F0 m 55 ls []) := by
    intro  hok H locs hI ls hl
    refine lv_aload_n hx hb dX0_make_55 rfl (lv_at hl 0 rfl) ?_
    refine z_get (ci := 0) hF hI in_X0 0 rfl rfl 1 (by decide) q68 rfl rfl dX0_make_56 ?_
    refine z_iconst hx hb dX0_make_59 ?_
    refine z_put (ci := 2) (v := .int (zI 0)) (ty := .int) hF hI in_X2 tyX2 tyX2_ok nmX2 4 rfl rfl 1 (by decide) q60 rfl rfl (by decide +kernel) rfl rfl (Nat.le_of_ble_eq_true rfl) dX0_make_60 (fun H locs hI => ?_)
    have hI : zW D A s.heap ([(xo, .inr (0, [.ref xd, .ref yb, .ref tb]))] ++ ((dW xd xw xg cB cI w sz g cnt pt) ++ ((bW yb ya cB cap gb 0) ++ (bW tb ta cB tc gt st)))) H locs := hI
    refine lv_lload_n hx hb dX0_make_63 rfl (lv_at hl 1 rfl) ?_
    refine z_callSi (n := 1) (As := [.long (zL z)]) (rest := []) (wr := ([(xo, .inr (0, [.ref xd, .ref yb, .ref tb])), (xd, .inr (1, [.ref xw, .int (zI sz), .ref xg, .int (zI cnt), .int (zI pt)])), (xw, .inl (cI, 140, .inl (zA w))), (xg, .inl (cB, 1300, .inl (zA g))), (yb, .inr (2, [.ref ya, .int (zI 0)])), (ya, .inl (cB, cap, .inl (zA gb))), (tb, .inr (2, [.ref ta, .int (zI st)])), (ta, .inl (cB, tc, .inl (zA gt)))] : va_W)) (C := "DecimalText") hF (c_isend l D cB cI z hz) (lw_S q86 q87 q14 q88) (by decide +kernel) ⟨Nat.le_of_ble_eq_true rfl, Nat.le_of_ble_eq_true rfl⟩ hI hA [] [0, 1, 2, 3, 4, 5, 6, 7] rfl rfl rfl rfl (by decide) rfl hl.1 rfl (lv_room (Nat.le_of_ble_eq_true rfl)) dX0_make_64 ⟨by first | omega | (dsimp only; omega), by first | omega | (dsimp only; omega)⟩ (fun en _u H locs hu hI => ?_)
    have hI : zW D A s.heap ([(xo, .inr (0, [.ref xd, .ref yb, .ref tb]))] ++ ((dW xd xw xg cB cI w sz g cnt pt) ++ ((bW yb ya cB cap gb 0) ++ (bW tb ta cB tc gt st)))) H locs := hI
    have hen : (en = 1 ∧ z / 4503599627370496 % 2048 = 2047) ∨ (en = 0 ∧ ¬ z / 4503599627370496 % 2048 = 2047) := by rw [hu]; split; exact Or.inl ⟨rfl, by assumption⟩; exact Or.inr ⟨rfl, by assumption⟩
    refine lv_istore (lv' := [(7, .int (zI en)), (0, .ref xo), (1, .long (zL z)), (3, .int (zI how)), (4, .int (zI q)), (5, .int (zI wd)), (6, .int (zI fl))]) hx hb dX0_make_67 hl (by decide) rfl (fun ls hl => ?_)
    refine lv_iload hx hb dX0_make_69 (lv_at hl 0 rfl) ?_
    refine z_if_eq (tgt := 104) hx hb (by omega) dX0_make_71 (by decide) (fun h1 => ?_) (fun h1 => ?_)
    · skip
      obtain rfl : en = 0 := h1
      refine lv_aload_n hx hb dX0_make_104 rfl (lv_at hl 1 rfl) ?_
      refine z_get (ci := 0) hF hI in_X0 0 rfl rfl 0 (by decide) q67 rfl rfl dX0_make_105 ?_
      refine lv_lload_n hx hb dX0_make_108 rfl (lv_at hl 2 rfl) ?_
      refine z_ldc2 hx hb 9223372036854775807 hown (hts _ q93) rfl dX0_make_109 ?_
      refine z_land63 hx hb dX0_make_112 ?_
      refine z_l2d hF hl.1 (by omega) q94 (Nat.le_of_ble_eq_true rfl) (Nat.le_of_ble_eq_true rfl) dX0_make_113 ?_
      refine z_callVv (n := 1) (As := [.double (zL (z % 9223372036854775808)).toUInt64]) (rest := []) (wr := ([(xo, .inr (0, [.ref xd, .ref yb, .ref tb])), (yb, .inr (2, [.ref ya, .int (zI 0)])), (ya, .inl (cB, cap, .inl (zA gb))), (tb, .inr (2, [.ref ta, .int (zI st)])), (ta, .inl (cB, tc, .inl (zA gt)))] : va_W)) (C := "DecimalText$Decimal") (ci := 1) hF (c_of l D cB cI xd xw xg w sz g cnt pt (z % 9223372036854775808) (by omega) (by omega)) (lw_V q97 q98 q99 q15 q100) (by decide +kernel) ⟨Nat.le_of_ble_eq_true rfl, Nat.le_of_ble_eq_true rfl⟩ hI hA [1, 2, 3] [0, 4, 5, 6, 7] rfl rfl rfl rfl (by decide) rfl rfl rfl hl.1 rfl (lv_room (Nat.le_of_ble_eq_true rfl)) dX0_make_116 ⟨by first | omega | (dsimp only; omega), by first | omega | (dsimp only; omega)⟩ (fun u H locs hu hI => ?_)
      obtain ⟨w1, s1, g1, c1, p1⟩ := u
      have hI : zW D A s.heap ([(xo, .inr (0, [.ref xd, .ref yb, .ref tb]))] ++ ((dW xd xw xg cB cI w1 s1 g1 c1 p1) ++ ((bW yb ya cB cap gb 0) ++ (bW tb ta cB tc gt st)))) H locs := hI.sub [0, 5, 6, 7, 1, 2, 3, 4] rfl rfl
      refine W.widen (k := 0) (n := 0) (by first | omega | (dsimp only; omega)) (by first | omega | (dsimp only; omega)) ?_
      exact L119 w1 g1 s1 c1 p1 hok (by omega) (by exact ofP63 hu) H locs hI ls (lv_sub hl [1, 2, 3, 4, 5, 6, 0] rfl)
    · skip
      refine lv_aload_n hx hb dX0_make_74 rfl (lv_at hl 1 rfl) ?_
      refine z_get (ci := 0) hF hI in_X0 0 rfl rfl 1 (by decide) q68 rfl rfl dX0_make_75 ?_
      refine z_bipush hx hb dX0_make_78 (by decide) ?_
      have hgc1 := gcap_ok (cap := cap) (sz := 0) (by omega) (by omega) (by omega)
      refine z_callVv (n := 1) (As := [.int (zI 105)]) (rest := []) (wr := ([(xo, .inr (0, [.ref xd, .ref yb, .ref tb])), (xd, .inr (1, [.ref xw, .int (zI sz), .ref xg, .int (zI cnt), .int (zI pt)])), (xw, .inl (cI, 140, .inl (zA w))), (xg, .inl (cB, 1300, .inl (zA g))), (tb, .inr (2, [.ref ta, .int (zI st)])), (ta, .inl (cB, tc, .inl (zA gt)))] : va_W)) (C := "DecimalText$Bytes") (ci := 2) hF (c_add l D cB cI yb ya cap gb 0 105 ([]) (By.nil gb) (by omega) (by omega) (by omega) (by omega)) (lw_V q89 q90 q91 q16 q92) (by decide +kernel) ⟨Nat.le_of_ble_eq_true rfl, Nat.le_of_ble_eq_true rfl⟩ hI hA [4, 5] [0, 1, 2, 3, 6, 7] rfl rfl rfl rfl (by decide) rfl rfl rfl hl.1 rfl (lv_room (Nat.le_of_ble_eq_true rfl)) dX0_make_80 ⟨by first | omega | (dsimp only; omega), by first | omega | (dsimp only; omega)⟩ (fun u H locs hu hI => ?_)
      obtain ⟨ya1, gy1⟩ := u
      have hI : zW D A s.heap ([(xo, .inr (0, [.ref xd, .ref yb, .ref tb]))] ++ ((dW xd xw xg cB cI w sz g cnt pt) ++ ((bW yb ya1 cB (gcap cap 0) gy1 (0 + 1)) ++ (bW tb ta cB tc gt st)))) H locs := hI.sub [0, 1, 2, 3, 6, 7, 4, 5] rfl rfl
      have hBy1 : By gy1 (0 + 1) ([] ++ [105]) := hu
      refine lv_aload_n hx hb dX0_make_83 rfl (lv_at hl 1 rfl) ?_
      refine z_get (ci := 0) hF hI in_X0 0 rfl rfl 1 (by decide) q68 rfl rfl dX0_make_84 ?_
      refine z_bipush hx hb dX0_make_87 (by decide) ?_
      have hgc2 := gcap_ok (cap := gcap cap 0) (sz := 0 + 1) (by omega) (by omega) (by omega)
      refine z_callVv (n := 1) (As := [.int (zI 110)]) (rest := []) (wr := ([(xo, .inr (0, [.ref xd, .ref yb, .ref tb])), (xd, .inr (1, [.ref xw, .int (zI sz), .ref xg, .int (zI cnt), .int (zI pt)])), (xw, .inl (cI, 140, .inl (zA w))), (xg, .inl (cB, 1300, .inl (zA g))), (tb, .inr (2, [.ref ta, .int (zI st)])), (ta, .inl (cB, tc, .inl (zA gt)))] : va_W)) (C := "DecimalText$Bytes") (ci := 2) hF (c_add l D cB cI yb ya1 (gcap cap 0) gy1 (0 + 1) 110 ([] ++ [105]) hBy1 (by omega) (by omega) (by omega) (by omega)) (lw_V q89 q90 q91 q16 q92) (by decide +kernel) ⟨Nat.le_of_ble_eq_true rfl, Nat.le_of_ble_eq_true rfl⟩ hI hA [4, 5] [0, 1, 2, 3, 6, 7] rfl rfl rfl rfl (by decide) rfl rfl rfl hl.1 rfl (lv_room (Nat.le_of_ble_eq_true rfl)) dX0_make_89 ⟨by first | omega | (dsimp only; omega), by first | omega | (dsimp only; omega)⟩ (fun u H locs hu hI => ?_)
      obtain ⟨ya2, gy2⟩ := u
      have hI : zW D A s.heap ([(xo, .inr (0, [.ref xd, .ref yb, .ref tb]))] ++ ((dW xd xw xg cB cI w sz g cnt pt) ++ ((bW yb ya2 cB (gcap (gcap cap 0) (0 + 1)) gy2 ((0 + 1) + 1)) ++ (bW tb ta cB tc gt st)))) H locs := hI.sub [0, 1, 2, 3, 6, 7, 4, 5] rfl rfl
      have hBy2 : By gy2 ((0 + 1) + 1) (([] ++ [105]) ++ [110]) := hu
      refine lv_aload_n hx hb dX0_make_92 rfl (lv_at hl 1 rfl) ?_
      refine z_get (ci := 0) hF hI in_X0 0 rfl rfl 1 (by decide) q68 rfl rfl dX0_make_93 ?_
      refine z_bipush hx hb dX0_make_96 (by decide) ?_
      have hgc3 := gcap_ok (cap := gcap (gcap cap 0) (0 + 1)) (sz := (0 + 1) + 1) (by omega) (by omega) (by omega)
      refine z_callVv (n := 1) (As := [.int (zI 102)]) (rest := []) (wr := ([(xo, .inr (0, [.ref xd, .ref yb, .ref tb])), (xd, .inr (1, [.ref xw, .int (zI sz), .ref xg, .int (zI cnt), .int (zI pt)])), (xw, .inl (cI, 140, .inl (zA w))), (xg, .inl (cB, 1300, .inl (zA g))), (tb, .inr (2, [.ref ta, .int (zI st)])), (ta, .inl (cB, tc, .inl (zA gt)))] : va_W)) (C := "DecimalText$Bytes") (ci := 2) hF (c_add l D cB cI yb ya2 (gcap (gcap cap 0) (0 + 1)) gy2 ((0 + 1) + 1) 102 (([] ++ [105]) ++ [110]) hBy2 (by omega) (by omega) (by omega) (by omega)) (lw_V q89 q90 q91 q16 q92) (by decide +kernel) ⟨Nat.le_of_ble_eq_true rfl, Nat.le_of_ble_eq_true rfl⟩ hI hA [4, 5] [0, 1, 2, 3, 6, 7] rfl rfl rfl rfl (by decide) rfl rfl rfl hl.1 rfl (lv_room (Nat.le_of_ble_eq_true rfl)) dX0_make_98 ⟨by first | omega | (dsimp only; omega), by first | omega | (dsimp only; omega)⟩ (fun u H locs hu hI => ?_)
      obtain ⟨ya3, gy3⟩ := u
      have hI : zW D A s.heap ([(xo, .inr (0, [.ref xd, .ref yb, .ref tb]))] ++ ((dW xd xw xg cB cI w sz g cnt pt) ++ ((bW yb ya3 cB (gcap (gcap (gcap cap 0) (0 + 1)) ((0 + 1) + 1)) gy3 (((0 + 1) + 1) + 1)) ++ (bW tb ta cB tc gt st)))) H locs := hI.sub [0, 1, 2, 3, 6, 7, 4, 5] rfl rfl
      have hBy3 : By gy3 (((0 + 1) + 1) + 1) ((([] ++ [105]) ++ [110]) ++ [102]) := hu
      refine lv_goto (tgt := 178) hx hb dX0_make_101 (by decide) ?_
      refine W.widen (k := 4000) (n := 8000) (by first | omega | (dsimp only; omega)) (by first | omega | (dsimp only; omega)) ?_
      exact L178 en w g sz cnt pt ya3 (gcap (gcap (gcap cap 0) (0 + 1)) ((0 + 1) + 1)) gy3 (((0 + 1) + 1) + 1) ([105, 110, 102]) hok hen (by exact hBy3.to rfl) (by omega) (by omega) (by decide) (by rw [InfOr, if_pos (by omega)]) H locs hI ls (lv_sub hl [1, 2, 3, 4, 5, 6, 0] rfl)
  have L53 : (badA z how q wd fl) → ∀ (H : Heap) (locs : List Loc), zW D A s.heap ([(xo, .inr (0, [.ref xd, .ref yb, .ref tb]))] ++ ((dW xd xw xg cB cI w sz g cnt pt) ++ ((bW yb ya cB cap gb sb) ++ (bW tb ta cB tc gt st)))) H locs → ∀ ls : Array Slot, lv_has ls 9 [(0, .ref xo)] → W p l e ({ frames := 2, cells := 8000, slots := 16000, locals := 57 } : Room) s m ([.ref xo, .long (zL z), .int (zI how), .int (zI q), .int (zI wd), .int (zI fl)] : List Value).toArray below meth c H locs 0 0 (MQ below (va_Qi (zpi (cmakeP z how q wd fl T0)) (zPost D A (fun u : Int × (((Int → Int) × Int × (Int → Int) × Int × Int) × (Nat × Nat × (Int → Int) × Int) × Nat × Nat × (Int → Int) × Int) => (fun u => [(xo, .inr (0, [.ref xd, .ref yb, .ref tb]))] ++ (dW xd xw xg cB cI u.1.1 u.1.2.1 u.1.2.2.1 u.1.2.2.2.1 u.1.2.2.2.2 ++ (bW yb u.2.1.1 cB u.2.1.2.1 u.2.1.2.2.1 u.2.1.2.2.2 ++ bW tb u.2.2.1 cB u.2.2.2.1 u.2.2.2.2.1 u.2.2.2.2.2))) u.2)) A) ([.ref xo, .long (zL z), .int (zI how), .int (zI q), .int (zI wd), .int (zI fl)] : List Value).toArray s ({ frames := 2, cells := 8000, slots := 16000, locals := 57 } : Room).cells ({ frames := 2, cells := 8000, slots := 16000, locals := 57 } : Room).slots A) (F0 m 53 ls []) := by
    intro  hbad H locs hI ls hl
    refine z_iconst hx hb dX0_make_53 ?_
    refine W.widen (k := 8000) (n := 16000) (by first | omega | (dsimp only; omega)) (by first | omega | (dsimp only; omega)) ?_
    exact z_iret (z := (-1)) (S := ((Int → Int) × Int × (Int → Int) × Int × Int) × (Nat × Nat × (Int → Int) × Int) × Nat × Nat × (Int → Int) × Int) (post := (cmakeP z how q wd fl T0)) (w' := (fun u => [(xo, .inr (0, [.ref xd, .ref yb, .ref tb]))] ++ (dW xd xw xg cB cI u.1.1 u.1.2.1 u.1.2.2.1 u.1.2.2.2.1 u.1.2.2.2.2 ++ (bW yb u.2.1.1 cB u.2.1.2.1 u.2.1.2.2.1 u.2.1.2.2.2 ++ bW tb u.2.2.1 cB u.2.2.2.1 u.2.2.2.2.1 u.2.2.2.2.2)))) hF hr hlk hI ((w, sz, g, cnt, pt), (ya, cap, gb, sb), ta, tc, gt, st) ⟨T0, Or.inl ⟨hbad, rfl, rfl⟩, hT0, hcap, htc, hst⟩ rfl dX0_make_54
  refine lv_iload_n hx hb dX0_make_0 rfl (lv_at hl 2 rfl) ?_
  refine z_if_lt (tgt := 53) hx hb (by omega) dX0_make_1 (by decide) (fun c0 => ?_) (fun c0 => ?_)
  · skip
    exact L53  (by unfold badA; omega) H locs hI ls (lv_sub hl [0] rfl)
  · skip
    refine lv_iload_n hx hb dX0_make_4 rfl (lv_at hl 2 rfl) ?_
    refine z_iconst hx hb dX0_make_5 ?_
    refine z_icmp_gt (tgt := 53) hx hb (by omega) (by omega) dX0_make_6 (by decide) (fun c1 => ?_) (fun c1 => ?_)
    · skip
      exact L53  (by unfold badA; omega) H locs hI ls (lv_sub hl [0] rfl)
    · skip
      refine lv_iload hx hb dX0_make_9 (lv_at hl 3 rfl) ?_
      refine z_if_lt (tgt := 53) hx hb (by omega) dX0_make_11 (by decide) (fun c2 => ?_) (fun c2 => ?_)
      · skip
        exact L53  (by unfold badA; omega) H locs hI ls (lv_sub hl [0] rfl)
      · skip
        refine lv_iload hx hb dX0_make_14 (lv_at hl 3 rfl) ?_
        refine z_bipush hx hb dX0_make_16 (by decide) ?_
        refine z_icmp_gt (tgt := 53) hx hb (by omega) (by omega) dX0_make_18 (by decide) (fun c3 => ?_) (fun c3 => ?_)
        · skip
          exact L53  (by unfold badA; omega) H locs hI ls (lv_sub hl [0] rfl)
        · skip
          refine lv_iload hx hb dX0_make_21 (lv_at hl 4 rfl) ?_
          refine z_if_lt (tgt := 53) hx hb (by omega) dX0_make_23 (by decide) (fun c4 => ?_) (fun c4 => ?_)
          · skip
            exact L53  (by unfold badA; omega) H locs hI ls (lv_sub hl [0] rfl)
          · skip
            refine lv_iload hx hb dX0_make_26 (lv_at hl 4 rfl) ?_
            refine z_sipush hx hb dX0_make_28 (by decide) ?_
            refine z_icmp_gt (tgt := 53) hx hb (by omega) (by omega) dX0_make_31 (by decide) (fun c5 => ?_) (fun c5 => ?_)
            · skip
              exact L53  (by unfold badA; omega) H locs hI ls (lv_sub hl [0] rfl)
            · skip
              refine lv_iload hx hb dX0_make_34 (lv_at hl 5 rfl) ?_
              refine z_if_lt (tgt := 53) hx hb (by omega) dX0_make_36 (by decide) (fun c6 => ?_) (fun c6 => ?_)
              · skip
                exact L53  (by unfold badA; omega) H locs hI ls (lv_sub hl [0] rfl)
              · skip
                refine lv_iload hx hb dX0_make_39 (lv_at hl 5 rfl) ?_
                refine z_bipush hx hb dX0_make_41 (by decide) ?_
                refine z_icmp_gt (tgt := 53) hx hb (by omega) (by omega) dX0_make_43 (by decide) (fun c7 => ?_) (fun c7 => ?_)
                · skip
                  exact L53  (by unfold badA; omega) H locs hI ls (lv_sub hl [0] rfl)
                · skip
                  refine lv_lload_n hx hb dX0_make_46 rfl (lv_at hl 1 rfl) ?_
                  refine z_callSi (n := 1) (As := [.long (zL z)]) (rest := []) (wr := ([(xo, .inr (0, [.ref xd, .ref yb, .ref tb])), (xd, .inr (1, [.ref xw, .int (zI sz), .ref xg, .int (zI cnt), .int (zI pt)])), (xw, .inl (cI, 140, .inl (zA w))), (xg, .inl (cB, 1300, .inl (zA g))), (yb, .inr (2, [.ref ya, .int (zI sb)])), (ya, .inl (cB, cap, .inl (zA gb))), (tb, .inr (2, [.ref ta, .int (zI st)])), (ta, .inl (cB, tc, .inl (zA gt)))] : va_W)) (C := "DecimalText") hF (c_isnum l D cB cI z hz) (lw_S q81 q82 q14 q83) (by decide +kernel) ⟨Nat.le_of_ble_eq_true rfl, Nat.le_of_ble_eq_true rfl⟩ hI hA [] [0, 1, 2, 3, 4, 5, 6, 7] rfl rfl rfl rfl (by decide) rfl hl.1 rfl (lv_room (Nat.le_of_ble_eq_true rfl)) dX0_make_47 ⟨by first | omega | (dsimp only; omega), by first | omega | (dsimp only; omega)⟩ (fun ri _u H locs hu hI => ?_)
                  have hI : zW D A s.heap ([(xo, .inr (0, [.ref xd, .ref yb, .ref tb]))] ++ ((dW xd xw xg cB cI w sz g cnt pt) ++ ((bW yb ya cB cap gb sb) ++ (bW tb ta cB tc gt st)))) H locs := hI
                  have hri : (ri = 0 ∧ z / 4503599627370496 % 2048 = 2047 ∧ z % 4503599627370496 ≠ 0) ∨ (ri = 1 ∧ ¬ (z / 4503599627370496 % 2048 = 2047 ∧ z % 4503599627370496 ≠ 0)) := by rw [hu]; split; exact Or.inl ⟨rfl, by assumption⟩; exact Or.inr ⟨rfl, by assumption⟩
                  refine W.widen (k := 0) (n := 0) (by first | omega | (dsimp only; omega)) (by first | omega | (dsimp only; omega)) ?_
                  refine z_if_ne (tgt := 55) hx hb (by omega) dX0_make_50 (by decide) (fun c8 => ?_) (fun c8 => ?_)
                  · skip
                    exact L55  (by exact ⟨by unfold badA; omega, by omega, by omega, by omega, by omega⟩) H locs hI ls (lv_sub hl [0, 1, 2, 3, 4, 5] rfl)
                  · skip
                    exact L53  (by unfold badA; omega) H locs hI ls (lv_sub hl [0] rfl)
set_option maxHeartbeats 4000000 in
set_option maxRecDepth 100000 in
/-- digits(bits) -/
theorem c_digits (l : Launch) (D : va_G) (cB cI : ClassId) (xo xd yb tb : Nat) (xw xg : Nat) (w : Int → Int) (sz : Int) (g : Int → Int) (cnt pt : Int) (z : Int) (hz : -9223372036854775808 ≤ z ∧ z < 9223372036854775808) : zMi (S := (Int → Int) × Int × (Int → Int) × Int × Int) l yX0_digits cX0_digits 4 (some .int) ({ frames := 2, cells := 0, slots := 0, locals := 57 } : Room) D cB cI ([.ref xo, .long (zL z)] : List Value) ([(xo, .inr (0, [.ref xd, .ref yb, .ref tb]))] ++ (dW xd xw xg cB cI w sz g cnt pt)) (fun r _ => DigS z r) (fun u => [(xo, .inr (0, [.ref xd, .ref yb, .ref tb]))] ++ dW xd xw xg cB cI u.1 u.2.1 u.2.2.1 u.2.2.2.1 u.2.2.2.2) := by
  refine z_meti (by decide) (Nat.le_of_ble_eq_true rfl) ?_
  intro p e s m below meth c A hF hr hlk hnm hA hI ls hl
  have hx := hF.1
  have hb := hF.2.1
  have hown := hF.2.2.2.1
  have hts := hF.2.2.2.2.1
  have hl : lv_has ls 4 [(0, .ref xo), (1, .long (zL z))] := hl
  obtain ⟨H, eH⟩ : ∃ H : Heap, H = s.heap := ⟨_, rfl⟩
  obtain ⟨locs, eL⟩ : ∃ L : List Loc, L = [] := ⟨_, rfl⟩
  have hI : zW D A s.heap ([(xo, .inr (0, [.ref xd, .ref yb, .ref tb]))] ++ (dW xd xw xg cB cI w sz g cnt pt)) H locs := by rw [eH, eL]; exact hI
  suffices hgo : W p l e ({ frames := 2, cells := 0, slots := 0, locals := 57 } : Room) s m ([.ref xo, .long (zL z)] : List Value).toArray below meth c H locs 0 0 (MQ below (va_Qi (zpi (fun r _ => DigS z r)) (zPost D A (fun u : Int × ((Int → Int) × Int × (Int → Int) × Int × Int) => (fun u => [(xo, .inr (0, [.ref xd, .ref yb, .ref tb]))] ++ dW xd xw xg cB cI u.1 u.2.1 u.2.2.1 u.2.2.2.1 u.2.2.2.2) u.2)) A) ([.ref xo, .long (zL z)] : List Value).toArray s ({ frames := 2, cells := 0, slots := 0, locals := 57 } : Room).cells ({ frames := 2, cells := 0, slots := 0, locals := 57 } : Room).slots A) (F0 m 0 ls []) by rw [eH, eL] at hgo; exact hgo
  clear eH eL
  have L56 : ∀ (n3 : Int) (w1 g1 : Int → Int) (s1 c1 p1 : Int), (DigS z n3) → ∀ (H : Heap) (locs : List Loc), zW D A s.heap ([(xo, .inr (0, [.ref xd, .ref yb, .ref tb]))] ++ (dW xd xw xg cB cI w1 s1 g1 c1 p1)) H locs → ∀ ls : Array Slot, lv_has ls 4 [(0, .ref xo), (3, .int (zI n3))] → W p l e ({ frames := 2, cells := 0, slots := 0, locals := 57 } : Room) s m ([.ref xo, .long (zL z)] : List Value).toArray below meth c H locs 0 0 (MQ below (va_Qi (zpi (fun r _ => DigS z r)) (zPost D A (fun u : Int × ((Int → Int) × Int × (Int → Int) × Int × Int) => (fun u => [(xo, .inr (0, [.ref xd, .ref yb, .ref tb]))] ++ dW xd xw xg cB cI u.1 u.2.1 u.2.2.1 u.2.2.2.1 u.2.2.2.2) u.2)) A) ([.ref xo, .long (zL z)] : List Value).toArray s ({ frames := 2, cells := 0, slots := 0, locals := 57 } : Room).cells ({ frames := 2, cells := 0, slots := 0, locals := 57 } : Room).slots A) (F0 m 56 ls []) := by
    intro n3 w1 g1 s1 c1 p1 hfin H locs hI ls hl
    refine lv_iload_n hx hb dX0_digits_56 rfl (lv_at hl 1 rfl) ?_
    exact z_iret (z := n3) (S := (Int → Int) × Int × (Int → Int) × Int × Int) (post := (fun r _ => DigS z r)) (w' := (fun u => [(xo, .inr (0, [.ref xd, .ref yb, .ref tb]))] ++ dW xd xw xg cB cI u.1 u.2.1 u.2.2.1 u.2.2.2.1 u.2.2.2.2)) hF hr hlk hI (w1, s1, g1, c1, p1) hfin rfl dX0_digits_57
  have L32 : ∀ (n_ : Nat), ∀ (n3 : Int) (w1 g1 : Int → Int) (s1 c1 p1 : Int) (mm v2 : Nat), n3 < (n_ : Int) → (z / 4503599627370496 % 2048 ≠ 2047) → (n3 = (mm : Int)) → (mm ≤ 1260) → (Rw g1 mm v2) → (mm = 0 ∨ 10 ^ mm ≤ 10 * v2) → (∃ j : Nat, bN z = v2 * 10 ^ j) → ∀ (H : Heap) (locs : List Loc), zW D A s.heap ([(xo, .inr (0, [.ref xd, .ref yb, .ref tb]))] ++ (dW xd xw xg cB cI w1 s1 g1 c1 p1)) H locs → ∀ ls : Array Slot, lv_has ls 4 [(0, .ref xo), (3, .int (zI n3))] → W p l e ({ frames := 2, cells := 0, slots := 0, locals := 57 } : Room) s m ([.ref xo, .long (zL z)] : List Value).toArray below meth c H locs 0 0 (MQ below (va_Qi (zpi (fun r _ => DigS z r)) (zPost D A (fun u : Int × ((Int → Int) × Int × (Int → Int) × Int × Int) => (fun u => [(xo, .inr (0, [.ref xd, .ref yb, .ref tb]))] ++ dW xd xw xg cB cI u.1 u.2.1 u.2.2.1 u.2.2.2.1 u.2.2.2.2) u.2)) A) ([.ref xo, .long (zL z)] : List Value).toArray s ({ frames := 2, cells := 0, slots := 0, locals := 57 } : Room).cells ({ frames := 2, cells := 0, slots := 0, locals := 57 } : Room).slots A) (F0 m 32 ls []) := by
    intro n_
    induction n_ with
    | zero =>
      intro n3 w1 g1 s1 c1 p1 mm v2 hm_ hE hn3 hmm hR1 hld hj H locs hI ls hl
      exfalso; omega
    | succ n_ ih_ =>
      intro n3 w1 g1 s1 c1 p1 mm v2 hm_ hE hn3 hmm hR1 hld hj H locs hI ls hl
      refine lv_iload_n hx hb dX0_digits_32 rfl (lv_at hl 1 rfl) ?_
      refine z_if_le (tgt := 56) hx hb (by omega) dX0_digits_33 (by decide) (fun h1 => ?_) (fun h1 => ?_)
      · skip
        exact L56 n3 w1 g1 s1 c1 p1 (by exact dig_fin0 hE hR1 hj hn3 (by omega)) H locs hI ls (lv_sub hl [0, 1] rfl)
      · skip
        have hrg := hR1.rng (z := n3 - 1) (by omega) (by omega)
        refine lv_aload_n hx hb dX0_digits_36 rfl (lv_at hl 0 rfl) ?_
        refine z_get (ci := 0) hF hI in_X0 0 rfl rfl 0 (by decide) q67 rfl rfl dX0_digits_37 ?_
        refine z_getN (ci := 1) hF hI in_X1 1 rfl rfl 2 (by decide) hF.2.2.2.2.2.2.2.1 rfl rfl dX0_digits_40 ?_
        refine lv_iload_n hx hb dX0_digits_43 rfl (lv_at hl 1 rfl) ?_
        refine z_iconst hx hb dX0_digits_44 ?_
        refine z_isub hx hb dX0_digits_45 ?_
        refine z_bald hF hI 3 rfl (by omega) (by omega) dX0_digits_46 ?_
        refine z_if_ne (tgt := 56) hx hb (by omega) dX0_digits_47 (by decide) (fun h2 => ?_) (fun h2 => ?_)
        · skip
          exact L56 n3 w1 g1 s1 c1 p1 (by exact dig_fin hE hR1 hj hld hn3 (by omega) h2) H locs hI ls (lv_sub hl [0, 1] rfl)
        · skip
          obtain ⟨m1, rfl⟩ : ∃ m1, mm = m1 + 1 := ⟨mm - 1, by omega⟩
          have h3 := Rw_last hR1
          rw [show n3 - 1 = (m1 : Int) by omega, h3] at h2
          refine lv_iinc (lv' := [(3, .int (zI (n3 + (-1)))), (0, .ref xo)]) (k := 1) hx hb dX0_digits_50 hl rfl (zI_add _ _) (by decide) rfl (fun ls hl => ?_)
          refine lv_goto (tgt := 32) hx hb dX0_digits_53 (by decide) ?_
          exact ih_ (n3 + -1) w1 g1 s1 c1 p1 m1 (v2 / 10) (by omega) hE (by omega) (by omega) (Rw_pop hR1) (by right; rcases hld with q | q; (exfalso; omega); (rw [ten_succ] at q; omega)) (by obtain ⟨j, hj1⟩ := hj; exact ⟨j + 1, by rw [hj1, Nat.pow_succ, Nat.mul_comm (10 ^ j), ← Nat.mul_assoc]; congr 1; omega⟩) H locs hI ls (lv_sub hl [1, 0] rfl)
  refine lv_lload_n hx hb dX0_digits_0 rfl (lv_at hl 1 rfl) ?_
  refine z_callSi (n := 1) (As := [.long (zL z)]) (rest := []) (wr := ([(xo, .inr (0, [.ref xd, .ref yb, .ref tb])), (xd, .inr (1, [.ref xw, .int (zI sz), .ref xg, .int (zI cnt), .int (zI pt)])), (xw, .inl (cI, 140, .inl (zA w))), (xg, .inl (cB, 1300, .inl (zA g)))] : va_W)) (C := "DecimalText") hF (c_isend l D cB cI z hz) (lw_S q86 q87 q14 q88) (by decide +kernel) ⟨Nat.le_of_ble_eq_true rfl, Nat.le_of_ble_eq_true rfl⟩ hI hA [] [0, 1, 2, 3] rfl rfl rfl rfl (by decide) rfl hl.1 rfl (lv_room (Nat.le_of_ble_eq_true rfl)) dX0_digits_1 ⟨by first | omega | (dsimp only; omega), by first | omega | (dsimp only; omega)⟩ (fun en _u H locs hu hI => ?_)
  have hI : zW D A s.heap ([(xo, .inr (0, [.ref xd, .ref yb, .ref tb]))] ++ (dW xd xw xg cB cI w sz g cnt pt)) H locs := hI
  have hen : (en = 1 ∧ z / 4503599627370496 % 2048 = 2047) ∨ (en = 0 ∧ ¬ z / 4503599627370496 % 2048 = 2047) := by rw [hu]; split; exact Or.inl ⟨rfl, by assumption⟩; exact Or.inr ⟨rfl, by assumption⟩
  refine z_if_eq (tgt := 9) hx hb (by omega) dX0_digits_4 (by decide) (fun h1 => ?_) (fun h1 => ?_)
  · skip
    have hE : z / 4503599627370496 % 2048 ≠ 2047 := (by omega)
    refine lv_aload_n hx hb dX0_digits_9 rfl (lv_at hl 0 rfl) ?_
    refine z_get (ci := 0) hF hI in_X0 0 rfl rfl 0 (by decide) q67 rfl rfl dX0_digits_10 ?_
    refine lv_lload_n hx hb dX0_digits_13 rfl (lv_at hl 1 rfl) ?_
    refine z_ldc2 hx hb 9223372036854775807 hown (hts _ q93) rfl dX0_digits_14 ?_
    refine z_land63 hx hb dX0_digits_17 ?_
    refine z_l2d hF hl.1 (by omega) q94 (Nat.le_of_ble_eq_true rfl) (Nat.le_of_ble_eq_true rfl) dX0_digits_18 ?_
    refine z_callVv (n := 1) (As := [.double (zL (z % 9223372036854775808)).toUInt64]) (rest := []) (wr := ([(xo, .inr (0, [.ref xd, .ref yb, .ref tb]))] : va_W)) (C := "DecimalText$Decimal") (ci := 1) hF (c_of l D cB cI xd xw xg w sz g cnt pt (z % 9223372036854775808) (by omega) (by omega)) (lw_V q97 q98 q99 q15 q100) (by decide +kernel) ⟨Nat.le_of_ble_eq_true rfl, Nat.le_of_ble_eq_true rfl⟩ hI hA [1, 2, 3] [0] rfl rfl rfl rfl (by decide) rfl rfl rfl hl.1 rfl (lv_room (Nat.le_of_ble_eq_true rfl)) dX0_digits_21 ⟨by first | omega | (dsimp only; omega), by first | omega | (dsimp only; omega)⟩ (fun u H locs hu hI => ?_)
    obtain ⟨w1, s1, g1, c1, p1⟩ := u
    have hI : zW D A s.heap ([(xo, .inr (0, [.ref xd, .ref yb, .ref tb]))] ++ (dW xd xw xg cB cI w1 s1 g1 c1 p1)) H locs := hI
    obtain ⟨n1, hc1, hn1, hR1, hO1⟩ := ofP63 hu
    refine W.widen (k := 0) (n := 0) (by first | omega | (dsimp only; omega)) (by first | omega | (dsimp only; omega)) ?_
    refine lv_aload_n hx hb dX0_digits_24 rfl (lv_at hl 0 rfl) ?_
    refine z_get (ci := 0) hF hI in_X0 0 rfl rfl 0 (by decide) q67 rfl rfl dX0_digits_25 ?_
    refine z_getN (ci := 1) hF hI in_X1 1 rfl rfl 3 (by decide) hF.2.2.2.2.2.2.2.2 rfl rfl dX0_digits_28 ?_
    refine lv_istore_n (lv' := [(3, .int (zI c1)), (0, .ref xo), (1, .long (zL z))]) hx hb dX0_digits_31 rfl hl (by decide) rfl (fun ls hl => ?_)
    exact L32 (n1 + 1) c1 w1 g1 s1 c1 p1 n1 (bN z) (by omega) hE hc1 hn1 hR1 (by exact Ofp_lead hO1) (by exact ⟨0, by rw [Nat.pow_zero, Nat.mul_one]⟩) H locs hI ls (lv_sub hl [1, 0] rfl)
  · skip
    refine z_iconst hx hb dX0_digits_7 ?_
    exact z_iret (z := (-1)) (S := (Int → Int) × Int × (Int → Int) × Int × Int) (post := (fun r _ => DigS z r)) (w' := (fun u => [(xo, .inr (0, [.ref xd, .ref yb, .ref tb]))] ++ dW xd xw xg cB cI u.1 u.2.1 u.2.2.1 u.2.2.2.1 u.2.2.2.2)) hF hr hlk hI (w, sz, g, cnt, pt) (Or.inl ⟨by omega, rfl⟩) rfl dX0_digits_8
end
section
/-! THE CLAIM OUT OF ONE WALK OF THE LAW'S BODY. Your part is whole_start (and what it stands on); all else here is the same for every law, but numbers. -/
def R_law : String := "DecimalTextLaw"
def lw_P (b : Addr) (xs : List Int32) (args : Array Value) (s : State) : Prop := args = #[.ref b] ∧ s.IntsAt b xs ∧ xs.length ≤ 448 ∧ (Jvm.Cond.and given_1 narrow_1).before args s = true
def lw_Q (_ : Array Value) (s : State) (o : Outcome) (t : State) : Prop := o = .returned (some (.int 1)) ∧ Framed s o t [] 600000 7302250
def lw_Z (below : List Frame) (a : Array Value) (s : State) : State → Prop := fun t => ∃ o, t.status = .running ∧ Ended t below o ∧ lw_Q a s o t
/-- the law's own end, with 1 on the stack, nothing written that was there before, its room as the claim has it -/
theorem lw_ret {p : Program} {l : Launch} {e : Env} {s : State} {m : MethodId} {below : List Frame} {meth : Method} {c : Code} {b : Nat} (hx : p.tables.exec = Jvm.exec) (hb : c.code = code) (hr : meth.sig.returnType = ret) (hlocks : meth.locks = false) {pc : Nat} {H : Heap} {ls : Array Slot} (hdg : decode code pc = .ok (.ireturn, 1)) : W p l e room_1 s m #[Value.ref b] below meth c H [] 600000 7302250 (lw_Z below #[Value.ref b] s) (F0 m pc ls [.int 1]) := by
  intro T hT X
  obtain ⟨fs, hret, hrun, hended, hW, hframe⟩ := X.leave (v := some (.int 1)) (hlocks := hlocks) (fun h => by rw [hr] at h; cases h)
  have hmeth' : T.vm.method? m = some meth := X.method'
  refine ⟨T.setFrames fs, ?_, .returned (some (.int 1)), hrun, hended, rfl, ⟨_, rfl⟩, hW, hframe⟩
  jvm_step X.here [X.here.top, hx, hb, hdg, hmeth', hr, ret, narrow_b1]
  (try refine ⟨rfl, ?_⟩); (try refine ⟨rfl, ?_⟩)
  first | (intro acts; rw [hret _ acts rfl rfl rfl]) | rw [hret _ _ rfl rfl rfl]
  exact Steps.refl _
/-- what holds at the law's entry: the machine, the code, the tables' words (any of lw_tbl by 'hts w (by decide +kernel)'), the script of L ints xs at the cell b, what the Statement gives of the start (any of its parts by flat_of_before) -/
def lw_At (p : Program) (s : State) (m : MethodId) (meth : Method) (c : Code) (b L : Nat) (xs : Nat → Int32) : Prop :=
  p.tables.exec = Jvm.exec ∧ c.code = code ∧ meth.sig.returnType = ret ∧ c.maxLocals = 4 ∧ s.vm.findClass R_law = some m.cls ∧ (∀ w ∈ lw_tbl, w.before #[Value.ref b] s = true) ∧ va_X b L xs s s.heap ∧ b < s.heap.size ∧ meth.locks = false ∧ (Jvm.Cond.and given_1 narrow_1).before #[Value.ref b] s = true
/-! the law: its own rows -/
set_option maxRecDepth 100000
def scr (xs : Nat → Int32) (k : Int) : Int := (xs k.toNat).toInt
theorem scr_rng (xs : Nat → Int32) (k : Int) : -2147483648 ≤ scr xs k ∧ scr xs k < 2147483648 := zI_rng _
def lbits (a b : Int) : Int := ((zL a <<< ((zI 32).toInt64 &&& 63)) ||| (zL b &&& zL 4294967295)).toInt
theorem lbits_rng (a b : Int) : -9223372036854775808 ≤ lbits a b ∧ lbits a b < 9223372036854775808 := zL_rng _
theorem zI_and3 (a : Int) : zI a &&& zI 3 = zI (a % 4) := by
  apply Int32.toBitVec_inj.1
  apply BitVec.eq_of_toNat_eq
  rw [Int32.toBitVec_and, zI, zI, zI, Int32.toBitVec_ofInt, Int32.toBitVec_ofInt, Int32.toBitVec_ofInt, BitVec.toNat_and, BitVec.toNat_ofInt, BitVec.toNat_ofInt, BitVec.toNat_ofInt]
  have e : ((3 : Int) % ((2 ^ 32 : Nat) : Int)).toNat = 2 ^ 2 - 1 := by decide
  rw [e, Nat.and_two_pow_sub_one_eq_mod]
  omega
section ZLAW
variable {p : Program} {l : Launch} {e : Env} {R : Room} {s : State} {m : MethodId} {args : Array Value} {below : List Frame} {meth : Method} {c : Code} {H : Heap} {locs : List Loc} {cells slots : Nat} {Q : State → Prop}
variable {cc : ByteArray} {pc : Nat} {ls : Array Slot} {rest : List Value}
variable {D : va_G} {A : Nat → Prop} {ws : va_W} {b L : Nat} {xs : Nat → Int32}
theorem z_sld (hx : p.tables.exec = Jvm.exec) (hb : c.code = cc) (hX : va_X b L xs s s.heap) (hbl : b < s.heap.size) (hbA : ¬ A b) (hI : zW D A s.heap ws H locs) {k : Int} (hk : 0 ≤ k ∧ k < (L : Int)) (hL : L ≤ 2147483647) (hdg : decode cc pc = .ok (.iaload, 1))
    (kk : W p l e R s m args below meth c H locs cells slots Q (F0 m (pc + 1) ls (.int (zI (scr xs k)) :: rest))) : W p l e R s m args below meth c H locs cells slots Q (F0 m pc ls (.int (zI k) :: .ref b :: rest)) := by
  refine va_sld hx hb hX hbl hbA hI.2.2 (zI_vpin hk.1 hk.2 hL) hdg ?_
  rw [zI_clamp hk.1 (by omega)]
  have e : xs k.toNat = zI (scr xs k) := (zI_of _).symm
  rw [e]
  exact kk
theorem z_slen (hx : p.tables.exec = Jvm.exec) (hb : c.code = cc) (hX : va_X b L xs s s.heap) (hbl : b < s.heap.size) (hbA : ¬ A b) (hI : zW D A s.heap ws H locs) (hdg : decode cc pc = .ok (.arraylength, 1))
    (kk : W p l e R s m args below meth c H locs cells slots Q (F0 m (pc + 1) ls (.int (zI (L : Int)) :: rest))) : W p l e R s m args below meth c H locs cells slots Q (F0 m pc ls (.ref b :: rest)) := by
  refine va_slen hx hb hX hbl hbA hI.2.2 hdg ?_
  rw [zI_nat]
  exact kk
theorem z_lshl32 (hx : p.tables.exec = Jvm.exec) (hb : c.code = cc) {a : Int} (hdg : decode cc pc = .ok (.lshl, 1))
    (k : W p l e R s m args below meth c H locs cells slots Q (F0 m (pc + 1) ls (.long (zL a <<< ((zI 32).toInt64 &&& 63)) :: rest))) : W p l e R s m args below meth c H locs cells slots Q (F0 m pc ls (.int (zI 32) :: .long (zL a) :: rest)) := lv_lshl hx hb hdg rfl k
theorem z_landM (hx : p.tables.exec = Jvm.exec) (hb : c.code = cc) {a : Int} (hdg : decode cc pc = .ok (.land, 1))
    (k : W p l e R s m args below meth c H locs cells slots Q (F0 m (pc + 1) ls (.long (zL a &&& zL 4294967295) :: rest))) : W p l e R s m args below meth c H locs cells slots Q (F0 m pc ls (.long (zL 4294967295) :: .long (zL a) :: rest)) := lv_land hx hb hdg k
theorem z_lorM (hx : p.tables.exec = Jvm.exec) (hb : c.code = cc) {a b : Int} (hdg : decode cc pc = .ok (.lor, 1))
    (k : W p l e R s m args below meth c H locs cells slots Q (F0 m (pc + 1) ls (.long (zL (lbits a b)) :: rest))) : W p l e R s m args below meth c H locs cells slots Q (F0 m pc ls (.long (zL b &&& zL 4294967295) :: .long (zL a <<< ((zI 32).toInt64 &&& 63)) :: rest)) := by
  refine lv_lor hx hb hdg ?_
  have e : (zL a <<< ((zI 32).toInt64 &&& 63)) ||| (zL b &&& zL 4294967295) = zL (lbits a b) := (zL_of _).symm
  rw [e]
  exact k
end ZLAW
theorem MakeS_rng {z how q wd fl : Int} {T0 T : List Int} {r : Int} (h : MakeS z how q wd fl T0 r T) (hT : T.length ≤ 400) : -1 ≤ r ∧ r ≤ 400 := by
  rcases h with ⟨_, b, _⟩ | ⟨_, _, c⟩ <;> omega
theorem at_same {gt tm : Int → Int} {st lm : Int} {T : List Int} (h : By gt st T) (h2 : Txl tm lm T) (k : Int) : (if 0 ≤ k ∧ k < st then gt k else -1) = (if 0 ≤ k ∧ k < lm then tm k else -1) := by
  have e1 := h.sz
  have e2 := h2.2
  have e3 : st = lm := by omega
  rw [e3]
  by_cases q : 0 ≤ k ∧ k < lm
  · rw [if_pos q, if_pos q]
    have h3 := (h.at q.1 (by omega)).2.2
    have h4 := h2.1 k.toNat (by omega)
    rw [h3, Int.toNat_of_nonneg q.1] at h4
    exact Option.some.inj h4
  · rw [if_neg q, if_neg q]
theorem at_rng {gt : Int → Int} {st : Int} {T : List Int} (h : By gt st T) (k : Int) : -1 ≤ (if 0 ≤ k ∧ k < st then gt k else -1) ∧ (if 0 ≤ k ∧ k < st then gt k else -1) ≤ 400 := by
  by_cases q : 0 ≤ k ∧ k < st
  · rw [if_pos q]
    have := h.at q.1 q.2
    omega
  · rw [if_neg q]
    omega
theorem DigS_rng {z r : Int} (h : DigS z r) : -1 ≤ r ∧ r ≤ 2000 := by
  rcases h with ⟨_, b⟩ | ⟨a, v, n, q, b, c⟩
  · omega
  · have hN := bN_1260 a
    rcases b with ⟨_, _, b2, _⟩ | ⟨b0, b1, b2, b3, k, b4, b5⟩
    · omega
    · have h1 : 10 ^ (n + k) < 10 ^ 1261 := by
        have h2 : 10 ^ n * 10 ^ k ≤ 10 * v * 10 ^ k := Nat.mul_le_mul_right _ b2
        rw [Nat.mul_assoc, ← b4] at h2
        rw [Nat.pow_add, ten_succ 1260]
        omega
      have h3 := (Nat.pow_lt_pow_iff_right (show 1 < 10 by decide)).mp h1
      omega
/-- what is fixed in the law -/
theorem law_F {p : Program} {s : State} {m : MethodId} {meth : Method} {c : Code} {b L : Nat} {xs : Nat → Int32} (C0 : lw_At p s m meth c b L xs) : ∃ (D : va_G) (cB cI : ClassId), zF p c code 4 s m #[Value.ref b] "DecimalTextLaw" D cB cI := by
  obtain ⟨hx, hb, hr, hml, hown, hts0, hX, hbl, hlocks, hgv⟩ := C0
  have hts : ∀ w ∈ lw_all, w.before #[Value.ref b] s = true := fun w h => hts0 w (lw_all_tbl h)
  obtain ⟨c0, i0, hK0⟩ := u_known (C := RX0) (T := TX0) (N := 3) (n := 3) hts in_X0 (hts _ q20)
  obtain ⟨c1, i1, hK1⟩ := u_known (C := RX1) (T := TX1) (N := 5) (n := 5) hts in_X1 (hts _ q28)
  obtain ⟨c2, i2, hK2⟩ := u_known (C := RX2) (T := TX2) (N := 2) (n := 2) hts in_X2 (hts _ q54)
  obtain ⟨c3, i3, hK3⟩ := u_known (C := RX3) (T := TX3) (N := 5) (n := 5) hts in_X3 (hts _ q150)
  obtain ⟨cB, kB, mB, b1, b2, b3⟩ := Cond.arrayClass_spec (hts _ q52)
  obtain ⟨cI, kI, mI, j1, j2, j3⟩ := Cond.arrayClass_spec (hts _ q51)
  refine ⟨(fun k => if k = 0 then c0 else if k = 1 then c1 else if k = 2 then c2 else c3, fun k => if k = 0 then i0 else if k = 1 then i1 else if k = 2 then i2 else i3), cB, cI, hx, hb, hml, hown, hts, ⟨?_, ?_⟩, va_Nw.of rfl (hts0 _ q29), va_Nw.of rfl (hts0 _ q36), va_Nw.of rfl (hts0 _ q38)⟩
  · intro k q hq
    match k, hq with
    | 0, hq => cases hq; exact hK0
    | 1, hq => cases hq; exact hK1
    | 2, hq => cases hq; exact hK2
    | 3, hq => cases hq; exact hK3
    | k + 4, hq => simp at hq
  · intro k q hq
    match k, hq with
    | 0, hq => cases hq; exact ⟨fun n z => ⟨fun k h => (by cases h), kB, b2, mB, b3⟩, b1⟩
    | 1, hq => cases hq; exact ⟨fun n z => ⟨fun k h => (by cases h), kI, j2, mI, j3⟩, j1⟩
    | k + 2, hq => simp at hq
end
section
set_option maxHeartbeats 8000000 in
set_option maxRecDepth 100000 in
/-- from the entry, for every script of at most 448 ints, the law comes to its end with true -/
theorem whole_start {p : Program} {e : Env} {s : State} {m : MethodId} {below : List Frame} {meth : Method} {c : Code} (l : Launch) {b L : Nat} {xs : Nat → Int32} (hL : L ≤ 448) (C0 : lw_At p s m meth c b L xs) : W p l e room_1 s m #[Value.ref b] below meth c s.heap [] 0 0 (lw_Z below #[Value.ref b] s) (entryFrame m ([Value.ref b] : List Value).toArray 4) := by
  obtain ⟨D, cB, cI, hF⟩ := law_F C0
  obtain ⟨hx, hb, hr, hml, hown0, hts0, hX, hbl, hlocks, hgv⟩ := C0
  have hown := hF.2.2.2.1
  have hts := hF.2.2.2.2.1
  obtain ⟨A, hAd⟩ : ∃ A : Nat → Prop, A = fun q : Nat => s.heap.size ≤ q := ⟨_, rfl⟩
  have hA : ∀ q, s.heap.size ≤ q → A q := fun q h => by rw [hAd]; exact h
  have hbA : ¬ A b := by rw [hAd]; exact Nat.not_le.mpr hbl
  have hl := lv_entry ([.ref b]) (n := 4) (Nat.le_of_ble_eq_true rfl)
  rw [lg_entry_eq]
  generalize (lg_sl ([.ref b]) ++ List.replicate (4 - (lg_sl ([.ref b])).length) Slot.unset).toArray = ls at hl ⊢
  have hl : lv_has ls 4 [(0, .ref b)] := hl
  obtain ⟨H, eH⟩ : ∃ H : Heap, H = s.heap := ⟨_, rfl⟩
  obtain ⟨locs, eL⟩ : ∃ L : List Loc, L = [] := ⟨_, rfl⟩
  have hI : zW D A s.heap ([] : va_W) H locs := by rw [eH, eL]; exact ⟨fun k q h => by simp at h, ⟨fun i j p q h => by simp at h, fun k q h => by simp at h⟩, va_S.rf⟩
  suffices hgo : W p l e room_1 s m ([.ref b] : List Value).toArray below meth c H locs 0 0 (lw_Z below #[Value.ref b] s) (F0 m 0 ls []) by rw [eH, eL] at hgo; exact hgo
  clear eH eL
  refine z_new (ci := 0) (fs := [.null, .null, .null]) hF hI hA in_X0 tyX0 tyX0_ok q19 q20 q14 rfl (fun j hj => by rcases (show j = 0 ∨ j = 1 ∨ j = 2 by omega) with rfl | rfl | rfl <;> rfl) (by first | exact Nat.le_of_ble_eq_true rfl | (dsimp only; omega)) (by first | exact Nat.le_of_ble_eq_true rfl | (dsimp only; omega)) dL_law_0 (fun xo H hI => ?_)
  have hI : zW D A s.heap ([(xo, .inr (0, [.null, .null, .null]))]) H locs := hI
  refine lv_dup hx hb dL_law_3 rfl ?_
  refine z_callIv (n := 0) (As := []) (rest := [.ref xo]) (wr := ([] : va_W)) (C := "DecimalText") hF (c_xinit l D cB cI xo) (lw_meth q23) q14 q21 q22 rfl (by decide +kernel) ⟨Nat.le_of_ble_eq_true rfl, Nat.le_of_ble_eq_true rfl⟩ hI hA [0] [] rfl rfl rfl rfl (by decide) rfl hl.1 rfl (lv_room (Nat.le_of_ble_eq_true rfl)) dL_law_4 ⟨by (dsimp only [room_1]; omega), by (dsimp only [room_1]; omega)⟩ (fun u H locs hu hI => ?_)
  obtain ⟨⟨xd, xw, xg⟩, ⟨yb, ya0⟩, tb, ta0⟩ := u
  have hI : zW D A s.heap ([(xo, .inr (0, [.ref xd, .ref yb, .ref tb]))] ++ ((dW xd xw xg cB cI (fun _ => 0) 0 (fun _ => 0) 0 0) ++ ((bW yb ya0 cB 64 (fun _ => 0) 0) ++ (bW tb ta0 cB 64 (fun _ => 0) 0)))) H locs := hI
  refine W.widen (k := 10) (n := 2000) (by first | omega | (dsimp only; omega) | (dsimp only [room_1]; omega)) (by first | omega | (dsimp only; omega) | (dsimp only [room_1]; omega)) ?_
  refine lv_astore_n (lv' := [(1, .ref xo), (0, .ref b)]) hx hb dL_law_7 rfl hl (by decide) rfl (fun ls hl => ?_)
  refine z_new (ci := 3) (fs := [.null, .int (zI 0), .int (zI 0), .null, .int (zI 0)]) hF hI hA in_X3 tyX3 tyX3_ok q149 q150 q17 rfl (fun j hj => by rcases (show j = 0 ∨ j = 1 ∨ j = 2 ∨ j = 3 ∨ j = 4 by omega) with rfl | rfl | rfl | rfl | rfl <;> rfl) (by first | exact Nat.le_of_ble_eq_true rfl | (dsimp only; omega)) (by first | exact Nat.le_of_ble_eq_true rfl | (dsimp only; omega)) dL_law_8 (fun h0 H hI => ?_)
  have hI : zW D A s.heap ([(xo, .inr (0, [.ref xd, .ref yb, .ref tb]))] ++ ((dW xd xw xg cB cI (fun _ => 0) 0 (fun _ => 0) 0 0) ++ ((bW yb ya0 cB 64 (fun _ => 0) 0) ++ ((bW tb ta0 cB 64 (fun _ => 0) 0) ++ [(h0, .inr (3, [.null, .int (zI 0), .int (zI 0), .null, .int (zI 0)]))])))) H locs := hI
  refine lv_dup hx hb dL_law_11 rfl ?_
  refine z_callIv (n := 0) (As := []) (rest := [.ref h0]) (wr := ([(xo, .inr (0, [.ref xd, .ref yb, .ref tb])), (xd, .inr (1, [.ref xw, .int (zI 0), .ref xg, .int (zI 0), .int (zI 0)])), (xw, .inl (cI, 140, .inl (zA (fun _ => 0)))), (xg, .inl (cB, 1300, .inl (zA (fun _ => 0)))), (yb, .inr (2, [.ref ya0, .int (zI 0)])), (ya0, .inl (cB, 64, .inl (zA (fun _ => 0)))), (tb, .inr (2, [.ref ta0, .int (zI 0)])), (ta0, .inl (cB, 64, .inl (zA (fun _ => 0))))] : va_W)) (C := "DecimalTextModel") hF (m_init l D cB cI h0) (lw_meth q153) q17 q151 q152 rfl (by decide +kernel) ⟨Nat.le_of_ble_eq_true rfl, Nat.le_of_ble_eq_true rfl⟩ hI hA [8] [0, 1, 2, 3, 4, 5, 6, 7] rfl rfl rfl rfl (by decide) rfl hl.1 rfl (lv_room (Nat.le_of_ble_eq_true rfl)) dL_law_12 ⟨by (dsimp only [room_1]; omega), by (dsimp only [room_1]; omega)⟩ (fun u H locs hu hI => ?_)
  obtain ⟨ma, mb⟩ := u
  have hI : zW D A s.heap ([(xo, .inr (0, [.ref xd, .ref yb, .ref tb]))] ++ ((dW xd xw xg cB cI (fun _ => 0) 0 (fun _ => 0) 0 0) ++ ((bW yb ya0 cB 64 (fun _ => 0) 0) ++ ((bW tb ta0 cB 64 (fun _ => 0) 0) ++ (mW h0 ma mb cB cI (fun _ => 0) 0 0 (fun _ => 0) 0))))) H locs := hI
  refine W.widen (k := 100) (n := 10000) (by first | omega | (dsimp only; omega) | (dsimp only [room_1]; omega)) (by first | omega | (dsimp only; omega) | (dsimp only [room_1]; omega)) ?_
  refine lv_astore_n (lv' := [(2, .ref h0), (1, .ref xo), (0, .ref b)]) hx hb dL_law_15 rfl hl (by decide) rfl (fun ls hl => ?_)
  refine z_iconst hx hb dL_law_16 ?_
  refine lv_istore_n (lv' := [(3, .int (zI 0)), (2, .ref h0), (1, .ref xo), (0, .ref b)]) hx hb dL_law_17 rfl hl (by decide) rfl (fun ls hl => ?_)
  have L18 : ∀ (n_ : Nat), ∀ (i : Int) (j : Nat) (w g gb gt gm tm : Int → Int) (sz cnt pt sb st dm pm lm : Int) (ya cap ta tc : Nat) (T : List Int), (L : Int) - i < (n_ : Int) → (i = 7 * (j : Int)) → (i ≤ L) → (By gt st T) → (st ≤ (tc : Int)) → (tc ≤ 4000) → (cap ≤ 4000) → (Txl tm lm T) → (T.length ≤ 400) → ∀ (H : Heap) (locs : List Loc), zW D A s.heap ([(xo, .inr (0, [.ref xd, .ref yb, .ref tb]))] ++ ((dW xd xw xg cB cI w sz g cnt pt) ++ ((bW yb ya cB cap gb sb) ++ ((bW tb ta cB tc gt st) ++ (mW h0 ma mb cB cI gm dm pm tm lm))))) H locs → ∀ ls : Array Slot, lv_has ls 4 [(0, .ref b), (1, .ref xo), (2, .ref h0), (3, .int (zI i))] → W p l e room_1 s m ([.ref b] : List Value).toArray below meth c H locs (100 + 8000 * j) (10000 + 16000 * j) (lw_Z below #[Value.ref b] s) (F0 m 18 ls []) := by
    intro n_
    induction n_ with
    | zero =>
      intro i j w g gb gt gm tm sz cnt pt sb st dm pm lm ya cap ta tc T hm_ hi hiL hT hst htc hcap hTm hTl H locs hI ls hl
      exfalso; omega
    | succ n_ ih_ =>
      intro i j w g gb gt gm tm sz cnt pt sb st dm pm lm ya cap ta tc T hm_ hi hiL hT hst htc hcap hTm hTl H locs hI ls hl
      refine lv_iload_n hx hb dL_law_18 rfl (lv_at hl 3 rfl) ?_
      refine lv_aload_n hx hb dL_law_19 rfl (lv_at hl 0 rfl) ?_
      refine z_slen hx hb hX hbl hbA hI dL_law_20 ?_
      refine z_bipush hx hb dL_law_21 (by decide) ?_
      refine z_isub hx hb dL_law_23 ?_
      refine z_icmp_gt (tgt := 237) hx hb (by omega) (by omega) dL_law_24 (by decide) (fun h1 => ?_) (fun h1 => ?_)
      · skip
        refine lv_iconst (v := 1) hx hb dL_law_237 (by decide) ?_
        refine va_forget (fun q hq => by have h9 := hI.2.2.2.2 q hq; rw [hAd] at h9; exact h9) ?_
        refine W.widen (k := 600000) (n := 7302250) (by first | omega | (dsimp only; omega) | (dsimp only [room_1]; omega)) (by first | omega | (dsimp only; omega) | (dsimp only [room_1]; omega)) ?_
        exact lw_ret hx hb hr hlocks dL_law_238
      · skip
        have hj63 : j ≤ 63 := (by omega)
        refine lv_aload_n hx hb dL_law_27 rfl (lv_at hl 0 rfl) ?_
        refine lv_iload_n hx hb dL_law_28 rfl (lv_at hl 3 rfl) ?_
        refine z_sld hx hb hX hbl hbA hI (by omega) (by omega) dL_law_29 ?_
        have hsr := scr_rng xs i
        refine z_iconst hx hb dL_law_30 ?_
        refine z_iandV hx hb (zI_and3 (scr xs i)) dL_law_31 ?_
        obtain ⟨vv, hvv⟩ : ∃ vv : Int, vv = scr xs i % 4 := ⟨_, rfl⟩
        rw [← hvv]
        rcases (show vv = 0 ∨ vv = 1 ∨ vv = 2 ∨ vv = 3 by omega) with q9 | q9 | q9 | q9
        · rw [q9]
          refine lv_tableIn (tgt := 60) (off := 28) hx hb dL_law_32 (by decide) (by decide) (by decide) (by decide) ?_
          have hzr := lbits_rng (scr xs (i + 1)) (scr xs (i + 2))
          have hs1 := scr_rng xs (i + 1)
          have hs2 := scr_rng xs (i + 2)
          have hs3 := scr_rng xs (i + 3)
          have hs4 := scr_rng xs (i + 4)
          have hs5 := scr_rng xs (i + 5)
          have hs6 := scr_rng xs (i + 6)
          refine lv_aload_n hx hb dL_law_60 rfl (lv_at hl 1 rfl) ?_
          refine lv_aload_n hx hb dL_law_61 rfl (lv_at hl 0 rfl) ?_
          refine lv_iload_n hx hb dL_law_62 rfl (lv_at hl 3 rfl) ?_
          refine z_iconst hx hb dL_law_63 ?_
          refine z_iadd hx hb dL_law_64 ?_
          refine z_sld hx hb hX hbl hbA hI (by omega) (by omega) dL_law_65 ?_
          have hsr := scr_rng xs (i + 1)
          refine z_i2l hx hb (by omega) dL_law_66 ?_
          refine z_bipush hx hb dL_law_67 (by decide) ?_
          refine z_lshl32 hx hb dL_law_69 ?_
          refine lv_aload_n hx hb dL_law_70 rfl (lv_at hl 0 rfl) ?_
          refine lv_iload_n hx hb dL_law_71 rfl (lv_at hl 3 rfl) ?_
          refine z_iconst hx hb dL_law_72 ?_
          refine z_iadd hx hb dL_law_73 ?_
          refine z_sld hx hb hX hbl hbA hI (by omega) (by omega) dL_law_74 ?_
          have hsr := scr_rng xs (i + 2)
          refine z_i2l hx hb (by omega) dL_law_75 ?_
          refine z_ldc2 hx hb 4294967295 hown (hts _ q230) rfl dL_law_76 ?_
          refine z_landM hx hb dL_law_79 ?_
          refine z_lorM hx hb dL_law_80 ?_
          refine lv_aload_n hx hb dL_law_81 rfl (lv_at hl 0 rfl) ?_
          refine lv_iload_n hx hb dL_law_82 rfl (lv_at hl 3 rfl) ?_
          refine z_iconst hx hb dL_law_83 ?_
          refine z_iadd hx hb dL_law_84 ?_
          refine z_sld hx hb hX hbl hbA hI (by omega) (by omega) dL_law_85 ?_
          have hsr := scr_rng xs (i + 3)
          refine lv_aload_n hx hb dL_law_86 rfl (lv_at hl 0 rfl) ?_
          refine lv_iload_n hx hb dL_law_87 rfl (lv_at hl 3 rfl) ?_
          refine z_iconst hx hb dL_law_88 ?_
          refine z_iadd hx hb dL_law_89 ?_
          refine z_sld hx hb hX hbl hbA hI (by omega) (by omega) dL_law_90 ?_
          have hsr := scr_rng xs (i + 4)
          refine lv_aload_n hx hb dL_law_91 rfl (lv_at hl 0 rfl) ?_
          refine lv_iload_n hx hb dL_law_92 rfl (lv_at hl 3 rfl) ?_
          refine z_iconst hx hb dL_law_93 ?_
          refine z_iadd hx hb dL_law_94 ?_
          refine z_sld hx hb hX hbl hbA hI (by omega) (by omega) dL_law_95 ?_
          have hsr := scr_rng xs (i + 5)
          refine lv_aload_n hx hb dL_law_96 rfl (lv_at hl 0 rfl) ?_
          refine lv_iload_n hx hb dL_law_97 rfl (lv_at hl 3 rfl) ?_
          refine z_bipush hx hb dL_law_98 (by decide) ?_
          refine z_iadd hx hb dL_law_100 ?_
          refine z_sld hx hb hX hbl hbA hI (by omega) (by omega) dL_law_101 ?_
          have hsr := scr_rng xs (i + 6)
          refine z_callVi (n := 5) (As := [.long (zL (lbits (scr xs (i + 1)) (scr xs (i + 2)))), .int (zI (scr xs (i + 3))), .int (zI (scr xs (i + 4))), .int (zI (scr xs (i + 5))), .int (zI (scr xs (i + 6)))]) (rest := []) (wr := ([(h0, .inr (3, [.ref ma, .int (zI dm), .int (zI pm), .ref mb, .int (zI lm)])), (ma, .inl (cB, 1200, .inl (zA gm))), (mb, .inl (cI, 420, .inl (zA tm)))] : va_W)) (C := "DecimalText") (ci := 0) hF (c_make l D cB cI xo xd yb tb xw xg w sz g cnt pt ya cap gb sb ta tc gt st (lbits (scr xs (i + 1)) (scr xs (i + 2))) (scr xs (i + 3)) (scr xs (i + 4)) (scr xs (i + 5)) (scr xs (i + 6)) T hzr hs3 hs4 hs5 hs6 hT hst htc hcap) (lw_V q77 q78 q79 q14 q80) (by decide +kernel) ⟨Nat.le_of_ble_eq_true rfl, Nat.le_of_ble_eq_true rfl⟩ hI hA [0, 1, 2, 3, 4, 5, 6, 7] [8, 9, 10] rfl rfl rfl rfl (by decide) rfl rfl rfl hl.1 rfl (lv_room (Nat.le_of_ble_eq_true rfl)) dL_law_102 ⟨by (dsimp only [room_1]; omega), by (dsimp only [room_1]; omega)⟩ (fun r1 u H locs hu hI => ?_)
          obtain ⟨⟨w1, s1, g1, c1, p1⟩, ⟨ya1, cp1, gb1, sb1⟩, ta1, tc1, gt1, st1⟩ := u
          have hI : zW D A s.heap ([(xo, .inr (0, [.ref xd, .ref yb, .ref tb]))] ++ ((dW xd xw xg cB cI w1 s1 g1 c1 p1) ++ ((bW yb ya1 cB cp1 gb1 sb1) ++ ((bW tb ta1 cB tc1 gt1 st1) ++ (mW h0 ma mb cB cI gm dm pm tm lm))))) H locs := hI.sub [3, 4, 5, 6, 7, 8, 9, 10, 0, 1, 2] rfl rfl
          obtain ⟨T1, hM1, hB1, hcp1, htc1, hst1⟩ := hu
          refine lv_aload_n hx hb dL_law_105 rfl (lv_at hl 2 rfl) ?_
          refine lv_aload_n hx hb dL_law_106 rfl (lv_at hl 0 rfl) ?_
          refine lv_iload_n hx hb dL_law_107 rfl (lv_at hl 3 rfl) ?_
          refine z_iconst hx hb dL_law_108 ?_
          refine z_iadd hx hb dL_law_109 ?_
          refine z_sld hx hb hX hbl hbA hI (by omega) (by omega) dL_law_110 ?_
          have hsr := scr_rng xs (i + 1)
          refine z_i2l hx hb (by omega) dL_law_111 ?_
          refine z_bipush hx hb dL_law_112 (by decide) ?_
          refine z_lshl32 hx hb dL_law_114 ?_
          refine lv_aload_n hx hb dL_law_115 rfl (lv_at hl 0 rfl) ?_
          refine lv_iload_n hx hb dL_law_116 rfl (lv_at hl 3 rfl) ?_
          refine z_iconst hx hb dL_law_117 ?_
          refine z_iadd hx hb dL_law_118 ?_
          refine z_sld hx hb hX hbl hbA hI (by omega) (by omega) dL_law_119 ?_
          have hsr := scr_rng xs (i + 2)
          refine z_i2l hx hb (by omega) dL_law_120 ?_
          refine z_ldc2 hx hb 4294967295 hown (hts _ q230) rfl dL_law_121 ?_
          refine z_landM hx hb dL_law_124 ?_
          refine z_lorM hx hb dL_law_125 ?_
          refine lv_aload_n hx hb dL_law_126 rfl (lv_at hl 0 rfl) ?_
          refine lv_iload_n hx hb dL_law_127 rfl (lv_at hl 3 rfl) ?_
          refine z_iconst hx hb dL_law_128 ?_
          refine z_iadd hx hb dL_law_129 ?_
          refine z_sld hx hb hX hbl hbA hI (by omega) (by omega) dL_law_130 ?_
          have hsr := scr_rng xs (i + 3)
          refine lv_aload_n hx hb dL_law_131 rfl (lv_at hl 0 rfl) ?_
          refine lv_iload_n hx hb dL_law_132 rfl (lv_at hl 3 rfl) ?_
          refine z_iconst hx hb dL_law_133 ?_
          refine z_iadd hx hb dL_law_134 ?_
          refine z_sld hx hb hX hbl hbA hI (by omega) (by omega) dL_law_135 ?_
          have hsr := scr_rng xs (i + 4)
          refine lv_aload_n hx hb dL_law_136 rfl (lv_at hl 0 rfl) ?_
          refine lv_iload_n hx hb dL_law_137 rfl (lv_at hl 3 rfl) ?_
          refine z_iconst hx hb dL_law_138 ?_
          refine z_iadd hx hb dL_law_139 ?_
          refine z_sld hx hb hX hbl hbA hI (by omega) (by omega) dL_law_140 ?_
          have hsr := scr_rng xs (i + 5)
          refine lv_aload_n hx hb dL_law_141 rfl (lv_at hl 0 rfl) ?_
          refine lv_iload_n hx hb dL_law_142 rfl (lv_at hl 3 rfl) ?_
          refine z_bipush hx hb dL_law_143 (by decide) ?_
          refine z_iadd hx hb dL_law_145 ?_
          refine z_sld hx hb hX hbl hbA hI (by omega) (by omega) dL_law_146 ?_
          have hsr := scr_rng xs (i + 6)
          refine z_callVi (n := 5) (As := [.long (zL (lbits (scr xs (i + 1)) (scr xs (i + 2)))), .int (zI (scr xs (i + 3))), .int (zI (scr xs (i + 4))), .int (zI (scr xs (i + 5))), .int (zI (scr xs (i + 6)))]) (rest := [.int (zI r1)]) (wr := ([(xo, .inr (0, [.ref xd, .ref yb, .ref tb])), (xd, .inr (1, [.ref xw, .int (zI s1), .ref xg, .int (zI c1), .int (zI p1)])), (xw, .inl (cI, 140, .inl (zA w1))), (xg, .inl (cB, 1300, .inl (zA g1))), (yb, .inr (2, [.ref ya1, .int (zI sb1)])), (ya1, .inl (cB, cp1, .inl (zA gb1))), (tb, .inr (2, [.ref ta1, .int (zI st1)])), (ta1, .inl (cB, tc1, .inl (zA gt1)))] : va_W)) (C := "DecimalTextModel") (ci := 3) hF (m_make l D cB cI h0 ma mb gm dm pm tm lm (lbits (scr xs (i + 1)) (scr xs (i + 2))) (scr xs (i + 3)) (scr xs (i + 4)) (scr xs (i + 5)) (scr xs (i + 6)) T hzr hs3 hs4 hs5 hs6 hTm hTl) (lw_V q171 q172 q173 q17 q174) (by decide +kernel) ⟨Nat.le_of_ble_eq_true rfl, Nat.le_of_ble_eq_true rfl⟩ hI hA [8, 9, 10] [0, 1, 2, 3, 4, 5, 6, 7] rfl rfl rfl rfl (by decide) rfl rfl rfl hl.1 rfl (lv_room (Nat.le_of_ble_eq_true rfl)) dL_law_147 ⟨by (dsimp only [room_1]; omega), by (dsimp only [room_1]; omega)⟩ (fun r2 u H locs hu hI => ?_)
          obtain ⟨gm1, dm1, pm1, tm1, lm1⟩ := u
          have hI : zW D A s.heap ([(xo, .inr (0, [.ref xd, .ref yb, .ref tb]))] ++ ((dW xd xw xg cB cI w1 s1 g1 c1 p1) ++ ((bW yb ya1 cB cp1 gb1 sb1) ++ ((bW tb ta1 cB tc1 gt1 st1) ++ (mW h0 ma mb cB cI gm1 dm1 pm1 tm1 lm1))))) H locs := hI
          obtain ⟨T2, hM2, hTx2, hTl2⟩ := hu
          obtain ⟨hre, hTe⟩ := MakeS_uniq hM1 hM2
          have hrr := MakeS_rng hM2 hTl2
          rw [hTe] at hB1
          refine z_icmp_eq (tgt := 231) hx hb (by omega) (by omega) dL_law_150 (by decide) (fun h2 => ?_) (fun h2 => ?_)
          · skip
            refine lv_iinc (lv' := [(3, .int (zI (i + 7))), (0, .ref b), (1, .ref xo), (2, .ref h0)]) (k := 3) hx hb dL_law_231 hl rfl (zI_add _ _) (by decide) rfl (fun ls hl => ?_)
            refine lv_goto (tgt := 18) hx hb dL_law_234 (by decide) ?_
            refine W.widen (k := (100 + 8000 * (j + 1))) (n := (10000 + 16000 * (j + 1))) (by first | omega | (dsimp only; omega) | (dsimp only [room_1]; omega)) (by first | omega | (dsimp only; omega) | (dsimp only [room_1]; omega)) ?_
            exact ih_ (i + 7) (j + 1) w1 g1 gb1 gt1 gm1 tm1 s1 c1 p1 sb1 st1 dm1 pm1 lm1 ya1 cp1 ta1 tc1 T2 (by omega) (by omega) (by omega) hB1 hst1 htc1 hcp1 hTx2 hTl2 H locs hI ls (lv_sub hl [1, 2, 3, 0] rfl)
          · skip
            exact absurd hre h2
        · rw [q9]
          refine lv_tableIn (tgt := 155) (off := 123) hx hb dL_law_32 (by decide) (by decide) (by decide) (by decide) ?_
          have hzr := lbits_rng (scr xs (i + 1)) (scr xs (i + 2))
          have hs1 := scr_rng xs (i + 1)
          have hs2 := scr_rng xs (i + 2)
          have hs3 := scr_rng xs (i + 3)
          have hs4 := scr_rng xs (i + 4)
          have hs5 := scr_rng xs (i + 5)
          have hs6 := scr_rng xs (i + 6)
          refine lv_aload_n hx hb dL_law_155 rfl (lv_at hl 1 rfl) ?_
          refine lv_aload_n hx hb dL_law_156 rfl (lv_at hl 0 rfl) ?_
          refine lv_iload_n hx hb dL_law_157 rfl (lv_at hl 3 rfl) ?_
          refine z_iconst hx hb dL_law_158 ?_
          refine z_iadd hx hb dL_law_159 ?_
          refine z_sld hx hb hX hbl hbA hI (by omega) (by omega) dL_law_160 ?_
          have hsr := scr_rng xs (i + 1)
          refine z_callVi (n := 1) (As := [.int (zI (scr xs (i + 1)))]) (rest := []) (wr := ([(xd, .inr (1, [.ref xw, .int (zI sz), .ref xg, .int (zI cnt), .int (zI pt)])), (xw, .inl (cI, 140, .inl (zA w))), (xg, .inl (cB, 1300, .inl (zA g))), (yb, .inr (2, [.ref ya, .int (zI sb)])), (ya, .inl (cB, cap, .inl (zA gb))), (h0, .inr (3, [.ref ma, .int (zI dm), .int (zI pm), .ref mb, .int (zI lm)])), (ma, .inl (cB, 1200, .inl (zA gm))), (mb, .inl (cI, 420, .inl (zA tm)))] : va_W)) (C := "DecimalText") (ci := 0) hF (c_xat l D cB cI xo xd yb tb ta tc gt st (scr xs (i + 1)) T hT hst htc hs1) (lw_V q141 q142 q143 q14 q144) (by decide +kernel) ⟨Nat.le_of_ble_eq_true rfl, Nat.le_of_ble_eq_true rfl⟩ hI hA [0, 6, 7] [1, 2, 3, 4, 5, 8, 9, 10] rfl rfl rfl rfl (by decide) rfl rfl rfl hl.1 rfl (lv_room (Nat.le_of_ble_eq_true rfl)) dL_law_161 ⟨by (dsimp only [room_1]; omega), by (dsimp only [room_1]; omega)⟩ (fun r1 _u H locs hu hI => ?_)
          have hI : zW D A s.heap ([(xo, .inr (0, [.ref xd, .ref yb, .ref tb]))] ++ ((dW xd xw xg cB cI w sz g cnt pt) ++ ((bW yb ya cB cap gb sb) ++ ((bW tb ta cB tc gt st) ++ (mW h0 ma mb cB cI gm dm pm tm lm))))) H locs := hI.sub [8, 0, 1, 2, 3, 4, 9, 10, 5, 6, 7] rfl rfl
          have hr1 : r1 = _ := hu
          refine lv_aload_n hx hb dL_law_164 rfl (lv_at hl 2 rfl) ?_
          refine lv_aload_n hx hb dL_law_165 rfl (lv_at hl 0 rfl) ?_
          refine lv_iload_n hx hb dL_law_166 rfl (lv_at hl 3 rfl) ?_
          refine z_iconst hx hb dL_law_167 ?_
          refine z_iadd hx hb dL_law_168 ?_
          refine z_sld hx hb hX hbl hbA hI (by omega) (by omega) dL_law_169 ?_
          have hsr := scr_rng xs (i + 1)
          have hmz := hTm.2
          refine z_callVi (n := 1) (As := [.int (zI (scr xs (i + 1)))]) (rest := [.int (zI r1)]) (wr := ([(xo, .inr (0, [.ref xd, .ref yb, .ref tb])), (xd, .inr (1, [.ref xw, .int (zI sz), .ref xg, .int (zI cnt), .int (zI pt)])), (xw, .inl (cI, 140, .inl (zA w))), (xg, .inl (cB, 1300, .inl (zA g))), (yb, .inr (2, [.ref ya, .int (zI sb)])), (ya, .inl (cB, cap, .inl (zA gb))), (tb, .inr (2, [.ref ta, .int (zI st)])), (ta, .inl (cB, tc, .inl (zA gt)))] : va_W)) (C := "DecimalTextModel") (ci := 3) hF (m_at l D cB cI h0 ma mb gm dm pm tm lm (scr xs (i + 1)) (by omega) hs1) (lw_V q222 q223 q224 q17 q225) (by decide +kernel) ⟨Nat.le_of_ble_eq_true rfl, Nat.le_of_ble_eq_true rfl⟩ hI hA [8, 9, 10] [0, 1, 2, 3, 4, 5, 6, 7] rfl rfl rfl rfl (by decide) rfl rfl rfl hl.1 rfl (lv_room (Nat.le_of_ble_eq_true rfl)) dL_law_170 ⟨by (dsimp only [room_1]; omega), by (dsimp only [room_1]; omega)⟩ (fun r2 _u H locs hu hI => ?_)
          have hI : zW D A s.heap ([(xo, .inr (0, [.ref xd, .ref yb, .ref tb]))] ++ ((dW xd xw xg cB cI w sz g cnt pt) ++ ((bW yb ya cB cap gb sb) ++ ((bW tb ta cB tc gt st) ++ (mW h0 ma mb cB cI gm dm pm tm lm))))) H locs := hI
          have hr2 : r2 = _ := hu
          have hre : r1 = r2 := by rw [hr1, hr2]; exact at_same hT hTm _
          have hrr : -1 ≤ r1 ∧ r1 ≤ 400 := by rw [hr1]; exact at_rng hT _
          refine z_icmp_eq (tgt := 231) hx hb (by omega) (by omega) dL_law_173 (by decide) (fun h2 => ?_) (fun h2 => ?_)
          · skip
            refine lv_iinc (lv' := [(3, .int (zI (i + 7))), (0, .ref b), (1, .ref xo), (2, .ref h0)]) (k := 3) hx hb dL_law_231 hl rfl (zI_add _ _) (by decide) rfl (fun ls hl => ?_)
            refine lv_goto (tgt := 18) hx hb dL_law_234 (by decide) ?_
            refine W.widen (k := (100 + 8000 * (j + 1))) (n := (10000 + 16000 * (j + 1))) (by first | omega | (dsimp only; omega) | (dsimp only [room_1]; omega)) (by first | omega | (dsimp only; omega) | (dsimp only [room_1]; omega)) ?_
            exact ih_ (i + 7) (j + 1) w g gb gt gm tm sz cnt pt sb st dm pm lm ya cap ta tc T (by omega) (by omega) (by omega) hT hst htc hcap hTm hTl H locs hI ls (lv_sub hl [1, 2, 3, 0] rfl)
          · skip
            exact absurd hre h2
        · rw [q9]
          refine lv_tableIn (tgt := 178) (off := 146) hx hb dL_law_32 (by decide) (by decide) (by decide) (by decide) ?_
          have hzr := lbits_rng (scr xs (i + 1)) (scr xs (i + 2))
          have hs1 := scr_rng xs (i + 1)
          have hs2 := scr_rng xs (i + 2)
          have hs3 := scr_rng xs (i + 3)
          have hs4 := scr_rng xs (i + 4)
          have hs5 := scr_rng xs (i + 5)
          have hs6 := scr_rng xs (i + 6)
          refine lv_aload_n hx hb dL_law_178 rfl (lv_at hl 1 rfl) ?_
          refine lv_aload_n hx hb dL_law_179 rfl (lv_at hl 0 rfl) ?_
          refine lv_iload_n hx hb dL_law_180 rfl (lv_at hl 3 rfl) ?_
          refine z_iconst hx hb dL_law_181 ?_
          refine z_iadd hx hb dL_law_182 ?_
          refine z_sld hx hb hX hbl hbA hI (by omega) (by omega) dL_law_183 ?_
          have hsr := scr_rng xs (i + 1)
          refine z_i2l hx hb (by omega) dL_law_184 ?_
          refine z_bipush hx hb dL_law_185 (by decide) ?_
          refine z_lshl32 hx hb dL_law_187 ?_
          refine lv_aload_n hx hb dL_law_188 rfl (lv_at hl 0 rfl) ?_
          refine lv_iload_n hx hb dL_law_189 rfl (lv_at hl 3 rfl) ?_
          refine z_iconst hx hb dL_law_190 ?_
          refine z_iadd hx hb dL_law_191 ?_
          refine z_sld hx hb hX hbl hbA hI (by omega) (by omega) dL_law_192 ?_
          have hsr := scr_rng xs (i + 2)
          refine z_i2l hx hb (by omega) dL_law_193 ?_
          refine z_ldc2 hx hb 4294967295 hown (hts _ q230) rfl dL_law_194 ?_
          refine z_landM hx hb dL_law_197 ?_
          refine z_lorM hx hb dL_law_198 ?_
          refine z_callVi (n := 1) (As := [.long (zL (lbits (scr xs (i + 1)) (scr xs (i + 2))))]) (rest := []) (wr := ([(yb, .inr (2, [.ref ya, .int (zI sb)])), (ya, .inl (cB, cap, .inl (zA gb))), (tb, .inr (2, [.ref ta, .int (zI st)])), (ta, .inl (cB, tc, .inl (zA gt))), (h0, .inr (3, [.ref ma, .int (zI dm), .int (zI pm), .ref mb, .int (zI lm)])), (ma, .inl (cB, 1200, .inl (zA gm))), (mb, .inl (cI, 420, .inl (zA tm)))] : va_W)) (C := "DecimalText") (ci := 0) hF (c_digits l D cB cI xo xd yb tb xw xg w sz g cnt pt (lbits (scr xs (i + 1)) (scr xs (i + 2))) hzr) (lw_V q145 q146 q147 q14 q148) (by decide +kernel) ⟨Nat.le_of_ble_eq_true rfl, Nat.le_of_ble_eq_true rfl⟩ hI hA [0, 1, 2, 3] [4, 5, 6, 7, 8, 9, 10] rfl rfl rfl rfl (by decide) rfl rfl rfl hl.1 rfl (lv_room (Nat.le_of_ble_eq_true rfl)) dL_law_199 ⟨by (dsimp only [room_1]; omega), by (dsimp only [room_1]; omega)⟩ (fun r1 u H locs hu hI => ?_)
          obtain ⟨w1, s1, g1, c1, p1⟩ := u
          have hI : zW D A s.heap ([(xo, .inr (0, [.ref xd, .ref yb, .ref tb]))] ++ ((dW xd xw xg cB cI w1 s1 g1 c1 p1) ++ ((bW yb ya cB cap gb sb) ++ ((bW tb ta cB tc gt st) ++ (mW h0 ma mb cB cI gm dm pm tm lm))))) H locs := hI.sub [7, 8, 9, 10, 0, 1, 2, 3, 4, 5, 6] rfl rfl
          have hd1 : DigS (lbits (scr xs (i + 1)) (scr xs (i + 2))) r1 := hu
          refine lv_aload_n hx hb dL_law_202 rfl (lv_at hl 2 rfl) ?_
          refine lv_aload_n hx hb dL_law_203 rfl (lv_at hl 0 rfl) ?_
          refine lv_iload_n hx hb dL_law_204 rfl (lv_at hl 3 rfl) ?_
          refine z_iconst hx hb dL_law_205 ?_
          refine z_iadd hx hb dL_law_206 ?_
          refine z_sld hx hb hX hbl hbA hI (by omega) (by omega) dL_law_207 ?_
          have hsr := scr_rng xs (i + 1)
          refine z_i2l hx hb (by omega) dL_law_208 ?_
          refine z_bipush hx hb dL_law_209 (by decide) ?_
          refine z_lshl32 hx hb dL_law_211 ?_
          refine lv_aload_n hx hb dL_law_212 rfl (lv_at hl 0 rfl) ?_
          refine lv_iload_n hx hb dL_law_213 rfl (lv_at hl 3 rfl) ?_
          refine z_iconst hx hb dL_law_214 ?_
          refine z_iadd hx hb dL_law_215 ?_
          refine z_sld hx hb hX hbl hbA hI (by omega) (by omega) dL_law_216 ?_
          have hsr := scr_rng xs (i + 2)
          refine z_i2l hx hb (by omega) dL_law_217 ?_
          refine z_ldc2 hx hb 4294967295 hown (hts _ q230) rfl dL_law_218 ?_
          refine z_landM hx hb dL_law_221 ?_
          refine z_lorM hx hb dL_law_222 ?_
          refine z_callVi (n := 1) (As := [.long (zL (lbits (scr xs (i + 1)) (scr xs (i + 2))))]) (rest := [.int (zI r1)]) (wr := ([(xo, .inr (0, [.ref xd, .ref yb, .ref tb])), (xd, .inr (1, [.ref xw, .int (zI s1), .ref xg, .int (zI c1), .int (zI p1)])), (xw, .inl (cI, 140, .inl (zA w1))), (xg, .inl (cB, 1300, .inl (zA g1))), (yb, .inr (2, [.ref ya, .int (zI sb)])), (ya, .inl (cB, cap, .inl (zA gb))), (tb, .inr (2, [.ref ta, .int (zI st)])), (ta, .inl (cB, tc, .inl (zA gt)))] : va_W)) (C := "DecimalTextModel") (ci := 3) hF (m_digits l D cB cI h0 ma mb gm dm pm tm lm (lbits (scr xs (i + 1)) (scr xs (i + 2))) hzr) (lw_V q226 q227 q228 q17 q229) (by decide +kernel) ⟨Nat.le_of_ble_eq_true rfl, Nat.le_of_ble_eq_true rfl⟩ hI hA [8, 9, 10] [0, 1, 2, 3, 4, 5, 6, 7] rfl rfl rfl rfl (by decide) rfl rfl rfl hl.1 rfl (lv_room (Nat.le_of_ble_eq_true rfl)) dL_law_223 ⟨by (dsimp only [room_1]; omega), by (dsimp only [room_1]; omega)⟩ (fun r2 u H locs hu hI => ?_)
          obtain ⟨gm1, dm1, pm1⟩ := u
          have hI : zW D A s.heap ([(xo, .inr (0, [.ref xd, .ref yb, .ref tb]))] ++ ((dW xd xw xg cB cI w1 s1 g1 c1 p1) ++ ((bW yb ya cB cap gb sb) ++ ((bW tb ta cB tc gt st) ++ (mW h0 ma mb cB cI gm1 dm1 pm1 tm lm))))) H locs := hI
          have hd2 : DigS (lbits (scr xs (i + 1)) (scr xs (i + 2))) r2 := hu
          have hre := DigS_uniq hd1 hd2
          have hrr := DigS_rng hd1
          refine z_icmp_eq (tgt := 231) hx hb (by omega) (by omega) dL_law_226 (by decide) (fun h2 => ?_) (fun h2 => ?_)
          · skip
            refine lv_iinc (lv' := [(3, .int (zI (i + 7))), (0, .ref b), (1, .ref xo), (2, .ref h0)]) (k := 3) hx hb dL_law_231 hl rfl (zI_add _ _) (by decide) rfl (fun ls hl => ?_)
            refine lv_goto (tgt := 18) hx hb dL_law_234 (by decide) ?_
            refine W.widen (k := (100 + 8000 * (j + 1))) (n := (10000 + 16000 * (j + 1))) (by first | omega | (dsimp only; omega) | (dsimp only [room_1]; omega)) (by first | omega | (dsimp only; omega) | (dsimp only [room_1]; omega)) ?_
            exact ih_ (i + 7) (j + 1) w1 g1 gb gt gm1 tm s1 c1 p1 sb st dm1 pm1 lm ya cap ta tc T (by omega) (by omega) (by omega) hT hst htc hcap hTm hTl H locs hI ls (lv_sub hl [1, 2, 3, 0] rfl)
          · skip
            exact absurd hre h2
        · rw [q9]
          refine lv_tableOut (tgt := 231) hx hb dL_law_32 (Or.inr (by decide)) (by decide) ?_
          refine lv_iinc (lv' := [(3, .int (zI (i + 7))), (0, .ref b), (1, .ref xo), (2, .ref h0)]) (k := 3) hx hb dL_law_231 hl rfl (zI_add _ _) (by decide) rfl (fun ls hl => ?_)
          refine lv_goto (tgt := 18) hx hb dL_law_234 (by decide) ?_
          refine W.widen (k := (100 + 8000 * (j + 1))) (n := (10000 + 16000 * (j + 1))) (by first | omega | (dsimp only; omega) | (dsimp only [room_1]; omega)) (by first | omega | (dsimp only; omega) | (dsimp only [room_1]; omega)) ?_
          exact ih_ (i + 7) (j + 1) w g gb gt gm tm sz cnt pt sb st dm pm lm ya cap ta tc T (by omega) (by omega) (by omega) hT hst htc hcap hTm hTl H locs hI ls (lv_sub hl [1, 2, 3, 0] rfl)
  exact L18 (L + 1) 0 0 (fun _ => 0) (fun _ => 0) (fun _ => 0) (fun _ => 0) (fun _ => 0) (fun _ => 0) 0 0 0 0 0 0 0 0 ya0 64 ta0 64 ([]) (by omega) (by rfl) (by omega) (by exact By.nil _) (by omega) (by omega) (by omega) (by exact ⟨Tx_nil _, rfl⟩) (by decide) H locs hI ls (lv_sub hl [3, 2, 1, 0] rfl)
end
section
set_option maxHeartbeats 4000000 in
theorem lw_walk (l : Launch) (b : Addr) (xs : List Int32) : MetFree l x (headSpec (Jvm.Cond.code x code maxLocals ret :: tables_1) room_1) (lw_P b xs) (fun _ _ _ _ _ => True) lw_Q := by
  refine MetFree.of_bodyS (code := code) (maxLocals := maxLocals) (ret := ret) (by decide) ?_ ?_
  · intro args s m h hn
    obtain ⟨meth, c, h1, h2, h3, h4, h5, h6, -, -⟩ := Cond.code_spec hn (atoms_spec (ws := Jvm.Cond.code x code maxLocals ret :: tables_1) h _ List.mem_cons_self)
    exact ⟨meth, c, h1, h2, h3, h4, h5, h6⟩
  · intro p e s m args below meth c s₁ B hml0 hP _
    obtain ⟨rfl, hx, hbd, hgv⟩ := hP
    obtain ⟨scr, harrAt, hlist, hof, hsmall⟩ := hx
    obtain ⟨hcb, hkn, -, -⟩ := State.arrayAt?_spec harrAt
    have hown : s.vm.findClass R_law = some m.cls := findClass_of_methodNamed B.named
    have hts0 : ∀ c ∈ (Jvm.Cond.code x code maxLocals ret :: tables_1), c.before #[Value.ref b] s = true := atoms_spec (ws := Jvm.Cond.code x code maxLocals ret :: tables_1) B.pre
    have hts : ∀ w ∈ lw_tbl, w.before #[Value.ref b] s = true := k2_hts_sels lw_privs (fun w hw => hts0 w (List.mem_cons_of_mem _ hw)) lw_privs_ok
    have hml : c.maxLocals = 4 := B.maxLocals_eq (hts0 _ List.mem_cons_self)
    have X₀ : Stand p l e room_1 s m #[Value.ref b] below meth c s₁ [] 0 0 := Stand.of_body B
    have hh0 : s₁.heap = s.heap := by rw [B.state]; rfl
    have hsz : scr.slots.size = xs.length := by rw [← Array.length_toList, hlist, List.length_map]
    have hval : ∀ j : Nat, j < xs.length → scr.slots[j]? = some (.int (xs.getD j 0)) := fun j hj => by
      rw [← Array.getElem?_toList, hlist]
      simp [hj]
    have hbl : b < s.heap.size := (Array.getElem?_eq_some_iff.mp hcb).1
    have hX : va_X b xs.length (fun j => xs.getD j 0) s s.heap := ⟨scr, hcb, hof, hkn, hsz, hval⟩
    have K : W p l e room_1 s m #[Value.ref b] below meth c s₁.heap [] 0 0 (lw_Z below #[Value.ref b] s) (entryFrame m ([Value.ref b] : List Value).toArray 4) := by
      rw [hh0]
      exact whole_start l hbd ⟨B.exec, B.bytes, B.returns, hml, hown, hts, hX, hbl, B.notSynchronized, hgv⟩
    obtain ⟨t, a1, o, b1, b2, b3⟩ := K s₁ rfl X₀
    exact ⟨t, o, a1, b1, b2, b3⟩
theorem lw_pre_spec {args : Array Value} {s : State} (h : (Jvm.Cond.and given_1 narrow_1).before args s = true) (hr : rest_1_c.before args s = true) : ∃ (b : Addr) (xs : List Int32), lw_P b xs args s := by
  have hs := flat_of_before _ h
  have hq := flat_of_before _ hr
  have hc : (Cond.count 1).before args s = true := hs _ (by decide +kernel)
  have harr : (Cond.arrayOf (.arg 0) .int).before args s = true := hs _ (by decide +kernel)
  have hle : (Cond.le (.length (.arg 0)) (.int 448)).before args s = true := hs _ (by decide +kernel)
  have hlen : (Cond.isInt (.length (.arg 0))).before args s = true := hq _ (by decide +kernel)
  have hall : (Cond.all (.arg 0) (.isInt (.elem (.arg 0) (.index 0)))).before args s = true := hq _ (by decide +kernel)
  obtain ⟨b, xs, hb, hx⟩ := State.ints_of_pre rfl harr hlen hall
  have hsm : xs.length < 2 ^ 31 := hx.choose_spec.2.2.2
  have hev : (Term.length (.arg 0)).eval args s none [] s = some (.int xs.length.toInt32) := hx.length_eval hb
  have hv := Cond.le_ints hev (show (Term.int 448).eval args s none [] s = some (.int 448) from rfl)
  have hd : xs.length.toInt32 ≤ 448 := by
    simpa [Cond.before, Cond.holds, hv] using hle
  have hN : xs.length ≤ 448 := (Int32.ofNat_le_ofNat hsm (by decide)).mp (show Int32.ofNat xs.length ≤ Int32.ofNat 448 from hd)
  exact ⟨b, xs, Cond.one_arg hc (show args[0]? = some (.ref b) from hb), hx, hN, h⟩
theorem lw_comes (l : Launch) : Comes l x (Jvm.Cond.code x code maxLocals ret :: tables_1) room_1 (fun tb e args s => Calls_1 tb e args s ∧ rest_1 tb e args s ∧ Pre_1 tb e args s)
    (fun _ _ args s o t => lw_Q args s o t) := by
  intro p e ha hc hk s m args below hf hfit hheap happ hpre
  obtain ⟨b, xs, hP⟩ := lw_pre_spec hpre.2.2 hpre.2.1
  obtain ⟨k, o, h1, h2, h3, hQ⟩ := lw_walk l b xs p e ha hc hk s m args below hf ((Spec.applies_iff_loose hf).mp happ).1 hP trivial
  exact ⟨k, o, h1, h2, h3, hQ⟩
theorem lw_frame {s t : State} {o : Outcome} {args : Array Value} (h : Framed s o t [] 600000 7302250) :
    Framed s o t (fieldLocs frame_1_writes args s ++ arrayLocs frame_1_arrays args s ++ staticLocs frame_1_statics s) 600000 7302250 := h
theorem lw_limb (L : Cond) (hL : ∀ (args : Array Value) (s t : State), L.after args s (.returned (some (.int 1))) t = true) :
    ArmFor flags0 classFile x code maxLocals ret World_1 tables_1 room_1 Calls_1 rest_1 Pre_1
      (fun tb e a s o t => postC L tb e a s o t ∧ Framed s o t (fieldLocs frame_1_writes a s ++ arrayLocs frame_1_arrays a s ++ staticLocs frame_1_statics s) 600000 7302250) := by
  intro l _ _ _ p e ha hc hk s m args below hf hfit hheap happ hpre
  obtain ⟨k, o, h1, h2, h3, rfl, hF⟩ := lw_comes l p e ha hc hk s m args below hf hfit hheap happ hpre
  exact ⟨k, _, h1, h2, h3, hL args s _, lw_frame hF⟩
theorem i_vc : Claimed_1_1 ∧ Claimed_1_2 := ⟨lw_limb limb_1_1 (fun args s t => by simp [limb_1_1, Cond.after, Cond.holds, Cond.value]), lw_limb limb_1_2 (fun args s t => Cond.after_iff.mpr (by
  first | (rw [show limb_1_2 = Cond.eq .result (.int 1) from rfl, Cond.eq_ints (x := 1) (y := 1) rfl rfl]; simp; done) | (simp [limb_1_2, Cond.value, Term.eval]; done)))⟩
end
