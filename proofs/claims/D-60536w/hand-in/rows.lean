section
-- ===== PART A: goes FIRST, ahead of the names: the tables' words, and 'selects' of the private methods out of them =====
/-- a private method of a class that the tables say can be made, by its rows of tables_1 -/
def lw_okq (q : MethodName × Nat) : Prop := (q.1.cls ≠ "java/lang/invoke/MethodHandle" ∧ q.1.cls ≠ "java/lang/invoke/VarHandle") ∧ Cond.instantiable q.1.cls q.2 ∈ tables_1 ∧ Cond.privateMethod q.1 ∈ tables_1 ∧ Cond.instanceMethod q.1 ∈ tables_1
set_option maxRecDepth 100000
theorem lw_p0 : lw_okq (⟨"PyramidSender", "startWidth", "()V"⟩, 11) := ⟨⟨by decide +kernel, by decide +kernel⟩, List.mem_of_getElem? (i := 4) rfl, List.mem_of_getElem? (i := 65) rfl, List.mem_of_getElem? (i := 66) rfl⟩
theorem lw_p1 : lw_okq (⟨"PyramidSender", "foretell", "(IZ)I"⟩, 11) := ⟨⟨by decide +kernel, by decide +kernel⟩, List.mem_of_getElem? (i := 4) rfl, List.mem_of_getElem? (i := 69) rfl, List.mem_of_getElem? (i := 70) rfl⟩
theorem lw_p2 : lw_okq (⟨"PyramidSender", "pixelFor", "(IZ)I"⟩, 11) := ⟨⟨by decide +kernel, by decide +kernel⟩, List.mem_of_getElem? (i := 4) rfl, List.mem_of_getElem? (i := 73) rfl, List.mem_of_getElem? (i := 74) rfl⟩
theorem lw_p3 : lw_okq (⟨"PyramidSender", "writeCode", "(I)V"⟩, 11) := ⟨⟨by decide +kernel, by decide +kernel⟩, List.mem_of_getElem? (i := 4) rfl, List.mem_of_getElem? (i := 80) rfl, List.mem_of_getElem? (i := 81) rfl⟩
theorem lw_p4 : lw_okq (⟨"PyramidSender", "writeBit", "(I)V"⟩, 11) := ⟨⟨by decide +kernel, by decide +kernel⟩, List.mem_of_getElem? (i := 4) rfl, List.mem_of_getElem? (i := 84) rfl, List.mem_of_getElem? (i := 85) rfl⟩
theorem lw_p5 : lw_okq (⟨"PyramidSender", "writeBits", "(II)V"⟩, 11) := ⟨⟨by decide +kernel, by decide +kernel⟩, List.mem_of_getElem? (i := 4) rfl, List.mem_of_getElem? (i := 88) rfl, List.mem_of_getElem? (i := 89) rfl⟩
theorem lw_p6 : lw_okq (⟨"PyramidSender", "adapt", "(I)V"⟩, 11) := ⟨⟨by decide +kernel, by decide +kernel⟩, List.mem_of_getElem? (i := 4) rfl, List.mem_of_getElem? (i := 92) rfl, List.mem_of_getElem? (i := 93) rfl⟩
theorem lw_p7 : lw_okq (⟨"PyramidSender", "readCode", "()I"⟩, 11) := ⟨⟨by decide +kernel, by decide +kernel⟩, List.mem_of_getElem? (i := 4) rfl, List.mem_of_getElem? (i := 100) rfl, List.mem_of_getElem? (i := 101) rfl⟩
theorem lw_p8 : lw_okq (⟨"PyramidSender", "readBit", "()I"⟩, 11) := ⟨⟨by decide +kernel, by decide +kernel⟩, List.mem_of_getElem? (i := 4) rfl, List.mem_of_getElem? (i := 104) rfl, List.mem_of_getElem? (i := 105) rfl⟩
theorem lw_p9 : lw_okq (⟨"PyramidSender", "readBits", "(I)I"⟩, 11) := ⟨⟨by decide +kernel, by decide +kernel⟩, List.mem_of_getElem? (i := 4) rfl, List.mem_of_getElem? (i := 108) rfl, List.mem_of_getElem? (i := 109) rfl⟩
def lw_privs_1 : List (MethodName × Nat) := [(⟨"PyramidSender", "startWidth", "()V"⟩, 11), (⟨"PyramidSender", "foretell", "(IZ)I"⟩, 11), (⟨"PyramidSender", "pixelFor", "(IZ)I"⟩, 11), (⟨"PyramidSender", "writeCode", "(I)V"⟩, 11), (⟨"PyramidSender", "writeBit", "(I)V"⟩, 11), (⟨"PyramidSender", "writeBits", "(II)V"⟩, 11), (⟨"PyramidSender", "adapt", "(I)V"⟩, 11), (⟨"PyramidSender", "readCode", "()I"⟩, 11), (⟨"PyramidSender", "readBit", "()I"⟩, 11), (⟨"PyramidSender", "readBits", "(I)I"⟩, 11)]
theorem lw_r1 : ∀ q ∈ lw_privs_1, lw_okq q := List.forall_mem_cons.mpr ⟨lw_p0, List.forall_mem_cons.mpr ⟨lw_p1, List.forall_mem_cons.mpr ⟨lw_p2, List.forall_mem_cons.mpr ⟨lw_p3, List.forall_mem_cons.mpr ⟨lw_p4, List.forall_mem_cons.mpr ⟨lw_p5, List.forall_mem_cons.mpr ⟨lw_p6, List.forall_mem_cons.mpr ⟨lw_p7, List.forall_mem_cons.mpr ⟨lw_p8, List.forall_mem_cons.mpr ⟨lw_p9, fun _ h => absurd h List.not_mem_nil⟩⟩⟩⟩⟩⟩⟩⟩⟩⟩
def lw_privs : List (MethodName × Nat) := lw_privs_1
def lw_tbl : List Cond := k2_sels lw_privs ++ tables_1
theorem lw_privs_ok : ∀ q ∈ lw_privs, lw_okq q := lw_r1
-- ===== ONE list of words for every method: the tables' words that hold all through a run =====
def lw_all : List Cond := lw_tbl.filter goodWord
/-- a word of the tables by its place: claim/WORDS.tsv -/
theorem lw_w {w : Cond} (i : Nat) (h : lw_tbl[i]? = some w) (g : goodWord w = true) : w ∈ lw_all := List.mem_filter.mpr ⟨List.mem_of_getElem? h, g⟩
theorem lw_all_tbl {w : Cond} (h : w ∈ lw_all) : w ∈ lw_tbl := (List.mem_filter.mp h).1
theorem lw_self : GoodIn lw_all lw_all := fun w h => ⟨h, good_of_word (List.mem_filter.mp h).2⟩
/-- a class's field words, by their places -/
theorem lw_in (ws : List Cond) (ps : List Nat) (hp : ws = ps.filterMap (fun i => lw_tbl[i]?)) (hg : ws.all goodWord = true) : ∀ w ∈ ws, w ∈ lw_all := by
  intro w h
  have h1 := List.all_eq_true.mp hg w h
  rw [hp] at h
  obtain ⟨i, -, hi⟩ := List.mem_filterMap.mp h
  exact lw_w i hi h1
/-- the words of a contract for the method y with code b, L locals, answer r -/
abbrev ws_ (y : MethodName) (b : ByteArray) (L : Nat) (r : Option FieldType) : List Cond := Cond.code y b L r :: lw_all
theorem lw_meth {y : MethodName} {b : ByteArray} {L : Nat} {r : Option FieldType} (h : Cond.code y b L r ∈ lw_all) : GoodIn lw_all (ws_ y b L r) := by
  intro w hw
  rcases List.mem_cons.mp hw with e | e
  · rw [e]
    exact lw_self _ h
  · exact lw_self _ e
theorem lw_app {a c : List Cond} (ha : ∀ w ∈ a, w ∈ lw_all) (hc : GoodIn lw_all c) : GoodIn lw_all (a ++ c) := by
  intro w hw
  rcases List.mem_append.mp hw with e | e
  · exact lw_self w (ha w e)
  · exact hc w e
/-- what a call through an object asks: cwV n hts (lw_V ..) -/
theorem lw_V {own : String} {idx : Nat} {C : String} {y : MethodName} {b : ByteArray} {L : Nat} {r : Option FieldType} (h1 : Cond.methodLink own idx y ∈ lw_all) (h2 : Cond.instanceMethod y ∈ lw_all) (h3 : Cond.selects C y y ∈ lw_all) (h4 : Cond.initialized C ∈ lw_all) (h5 : Cond.code y b L r ∈ lw_all) : GoodIn lw_all (wsV own idx C y (ws_ y b L r)) := by
  refine lw_app ?_ (lw_meth h5)
  intro w hw
  simp only [List.mem_cons, List.not_mem_nil, or_false] at hw
  rcases hw with e | e | e | e
  · rw [e]; exact h1
  · rw [e]; exact h2
  · rw [e]; exact h3
  · rw [e]; exact h4
/-- what a static call asks: va_cwS n hts (lw_S ..) -/
theorem lw_S {own : String} {idx : Nat} {y : MethodName} {b : ByteArray} {L : Nat} {r : Option FieldType} (h1 : Cond.methodLink own idx y ∈ lw_all) (h2 : Cond.static y ∈ lw_all) (h3 : Cond.initialized y.cls ∈ lw_all) (h4 : Cond.code y b L r ∈ lw_all) : GoodIn lw_all (va_wsS own idx y (ws_ y b L r)) := by
  refine lw_app ?_ (lw_meth h4)
  intro w hw
  simp only [List.mem_cons, List.not_mem_nil, or_false] at hw
  rcases hw with e | e | e
  · rw [e]; exact h1
  · rw [e]; exact h2
  · rw [e]; exact h3
/-- the words of a contract for a method WITH HANDLERS (hh: its table) -/
abbrev wsW_ (y : MethodName) (b : ByteArray) (L : Nat) (r : Option FieldType) (hh : List (Nat × Nat × Nat × Nat)) : List Cond := Cond.codeWith y b L r hh :: lw_all
theorem lw_methW {y : MethodName} {b : ByteArray} {L : Nat} {r : Option FieldType} {hh : List (Nat × Nat × Nat × Nat)} (h : Cond.codeWith y b L r hh ∈ lw_all) : GoodIn lw_all (wsW_ y b L r hh) := by
  intro w hw
  rcases List.mem_cons.mp hw with e | e
  · rw [e]
    exact lw_self _ h
  · exact lw_self _ e
/-- any list of words by their places (lw_in), good -/
theorem lw_good {ws : List Cond} (h : ∀ w ∈ ws, w ∈ lw_all) : GoodIn lw_all ws := fun w hw => lw_self w (h w hw)
/-- what a call of a method with handlers asks: vx_cwVW n hts (lw_VW ..), vx_cwSW n hts (lw_SW ..) -/
theorem lw_VW {own : String} {idx : Nat} {C : String} {y : MethodName} {b : ByteArray} {L : Nat} {r : Option FieldType} {hh : List (Nat × Nat × Nat × Nat)} (h1 : Cond.methodLink own idx y ∈ lw_all) (h2 : Cond.instanceMethod y ∈ lw_all) (h3 : Cond.selects C y y ∈ lw_all) (h4 : Cond.initialized C ∈ lw_all) (h5 : Cond.codeWith y b L r hh ∈ lw_all) : GoodIn lw_all (wsV own idx C y (wsW_ y b L r hh)) := by
  refine lw_app ?_ (lw_methW h5)
  intro w hw
  simp only [List.mem_cons, List.not_mem_nil, or_false] at hw
  rcases hw with e | e | e | e
  · rw [e]; exact h1
  · rw [e]; exact h2
  · rw [e]; exact h3
  · rw [e]; exact h4
theorem lw_SW {own : String} {idx : Nat} {y : MethodName} {b : ByteArray} {L : Nat} {r : Option FieldType} {hh : List (Nat × Nat × Nat × Nat)} (h1 : Cond.methodLink own idx y ∈ lw_all) (h2 : Cond.static y ∈ lw_all) (h3 : Cond.initialized y.cls ∈ lw_all) (h4 : Cond.codeWith y b L r hh ∈ lw_all) : GoodIn lw_all (va_wsS own idx y (wsW_ y b L r hh)) := by
  refine lw_app ?_ (lw_methW h4)
  intro w hw
  simp only [List.mem_cons, List.not_mem_nil, or_false] at hw
  rcases hw with e | e | e
  · rw [e]; exact h1
  · rw [e]; exact h2
  · rw [e]; exact h3
/-- a word by its place in its run of the tables -/
theorem lw_at {r : List Cond} (hr : ∀ w ∈ r, w ∈ lw_tbl) {w : Cond} (i : Nat) (h : r[i]? = some w) : w ∈ lw_tbl := hr w (List.mem_of_getElem? h)
theorem lw_g {w : Cond} (h : w ∈ lw_tbl) (g : goodWord w = true) : w ∈ lw_all := List.mem_filter.mpr ⟨h, g⟩
theorem lw_ms : ∀ w ∈ k2_sels lw_privs, w ∈ lw_tbl := fun w h => show w ∈ k2_sels lw_privs ++ tables_1 from List.mem_append_left _ h
theorem lw_m0 : ∀ w ∈ tables_1, w ∈ lw_tbl := fun w h => show w ∈ k2_sels lw_privs ++ tables_1 from List.mem_append_right (k2_sels lw_privs) h
theorem qs0 : (Cond.selects "PyramidSender" ⟨"PyramidSender", "startWidth", "()V"⟩ ⟨"PyramidSender", "startWidth", "()V"⟩) ∈ lw_all := lw_g (lw_at lw_ms 0 rfl) rfl
theorem qs1 : (Cond.selects "PyramidSender" ⟨"PyramidSender", "foretell", "(IZ)I"⟩ ⟨"PyramidSender", "foretell", "(IZ)I"⟩) ∈ lw_all := lw_g (lw_at lw_ms 1 rfl) rfl
theorem qs2 : (Cond.selects "PyramidSender" ⟨"PyramidSender", "pixelFor", "(IZ)I"⟩ ⟨"PyramidSender", "pixelFor", "(IZ)I"⟩) ∈ lw_all := lw_g (lw_at lw_ms 2 rfl) rfl
theorem qs3 : (Cond.selects "PyramidSender" ⟨"PyramidSender", "writeCode", "(I)V"⟩ ⟨"PyramidSender", "writeCode", "(I)V"⟩) ∈ lw_all := lw_g (lw_at lw_ms 3 rfl) rfl
theorem qs4 : (Cond.selects "PyramidSender" ⟨"PyramidSender", "writeBit", "(I)V"⟩ ⟨"PyramidSender", "writeBit", "(I)V"⟩) ∈ lw_all := lw_g (lw_at lw_ms 4 rfl) rfl
theorem qs5 : (Cond.selects "PyramidSender" ⟨"PyramidSender", "writeBits", "(II)V"⟩ ⟨"PyramidSender", "writeBits", "(II)V"⟩) ∈ lw_all := lw_g (lw_at lw_ms 5 rfl) rfl
theorem qs6 : (Cond.selects "PyramidSender" ⟨"PyramidSender", "adapt", "(I)V"⟩ ⟨"PyramidSender", "adapt", "(I)V"⟩) ∈ lw_all := lw_g (lw_at lw_ms 6 rfl) rfl
theorem qs7 : (Cond.selects "PyramidSender" ⟨"PyramidSender", "readCode", "()I"⟩ ⟨"PyramidSender", "readCode", "()I"⟩) ∈ lw_all := lw_g (lw_at lw_ms 7 rfl) rfl
theorem qs8 : (Cond.selects "PyramidSender" ⟨"PyramidSender", "readBit", "()I"⟩ ⟨"PyramidSender", "readBit", "()I"⟩) ∈ lw_all := lw_g (lw_at lw_ms 8 rfl) rfl
theorem qs9 : (Cond.selects "PyramidSender" ⟨"PyramidSender", "readBits", "(I)I"⟩ ⟨"PyramidSender", "readBits", "(I)I"⟩) ∈ lw_all := lw_g (lw_at lw_ms 9 rfl) rfl
theorem q10 : (Jvm.Cond.initialized "PyramidSenderLaw") ∈ lw_all := lw_g (lw_at lw_m0 0 rfl) rfl
set_option maxRecDepth 100000
theorem q13 : (Jvm.Cond.classLink "PyramidSenderLaw" (7 : Nat) "PyramidSender") ∈ lw_all := lw_g (lw_at lw_m0 3 rfl) rfl
theorem q15 : (Jvm.Cond.methodLink "PyramidSenderLaw" (9 : Nat) ({ cls := "PyramidSender", name := "<init>", desc := "()V" } : Jvm.MethodName)) ∈ lw_all := lw_g (lw_at lw_m0 5 rfl) rfl
theorem q59 : (Jvm.Cond.methodLink "PyramidSenderLaw" (13 : Nat) ({ cls := "PyramidSender", name := "draw", desc := "(III)I" } : Jvm.MethodName)) ∈ lw_all := lw_g (lw_at lw_m0 49 rfl) rfl
theorem q66 : (Jvm.Cond.methodLink "PyramidSenderLaw" (18 : Nat) ({ cls := "PyramidSender", name := "ramp", desc := "(III)V" } : Jvm.MethodName)) ∈ lw_all := lw_g (lw_at lw_m0 56 rfl) rfl
theorem q70 : (Jvm.Cond.methodLink "PyramidSenderLaw" (23 : Nat) ({ cls := "PyramidSender", name := "send", desc := "()V" } : Jvm.MethodName)) ∈ lw_all := lw_g (lw_at lw_m0 60 rfl) rfl
theorem q105 : (Jvm.Cond.methodLink "PyramidSenderLaw" (27 : Nat) ({ cls := "PyramidSender", name := "receive", desc := "(I)I" } : Jvm.MethodName)) ∈ lw_all := lw_g (lw_at lw_m0 95 rfl) rfl
theorem q124 : (Jvm.Cond.methodLink "PyramidSenderLaw" (32 : Nat) ({ cls := "PyramidSender", name := "pixel", desc := "(II)I" } : Jvm.MethodName)) ∈ lw_all := lw_g (lw_at lw_m0 114 rfl) rfl
theorem q128 : (Jvm.Cond.methodLink "PyramidSenderLaw" (37 : Nat) ({ cls := "PyramidSender", name := "rank", desc := "(II)I" } : Jvm.MethodName)) ∈ lw_all := lw_g (lw_at lw_m0 118 rfl) rfl
theorem q132 : (Jvm.Cond.methodLink "PyramidSenderLaw" (41 : Nat) ({ cls := "PyramidSender", name := "count", desc := "(II)I" } : Jvm.MethodName)) ∈ lw_all := lw_g (lw_at lw_m0 122 rfl) rfl
theorem q136 : (Jvm.Cond.methodLink "PyramidSenderLaw" (45 : Nat) ({ cls := "PyramidSender", name := "sum", desc := "()I" } : Jvm.MethodName)) ∈ lw_all := lw_g (lw_at lw_m0 126 rfl) rfl
theorem q140 : (Jvm.Cond.classLink "PyramidSenderLaw" (10 : Nat) "PyramidSenderModel") ∈ lw_all := lw_g (lw_at lw_m0 130 rfl) rfl
theorem q142 : (Jvm.Cond.methodLink "PyramidSenderLaw" (12 : Nat) ({ cls := "PyramidSenderModel", name := "<init>", desc := "()V" } : Jvm.MethodName)) ∈ lw_all := lw_g (lw_at lw_m0 132 rfl) rfl
theorem q159 : (Jvm.Cond.methodLink "PyramidSenderLaw" (17 : Nat) ({ cls := "PyramidSenderModel", name := "draw", desc := "(III)I" } : Jvm.MethodName)) ∈ lw_all := lw_g (lw_at lw_m0 149 rfl) rfl
theorem q166 : (Jvm.Cond.methodLink "PyramidSenderLaw" (22 : Nat) ({ cls := "PyramidSenderModel", name := "ramp", desc := "(III)V" } : Jvm.MethodName)) ∈ lw_all := lw_g (lw_at lw_m0 156 rfl) rfl
theorem q170 : (Jvm.Cond.methodLink "PyramidSenderLaw" (26 : Nat) ({ cls := "PyramidSenderModel", name := "send", desc := "()V" } : Jvm.MethodName)) ∈ lw_all := lw_g (lw_at lw_m0 160 rfl) rfl
theorem q174 : (Jvm.Cond.methodLink "PyramidSenderLaw" (31 : Nat) ({ cls := "PyramidSenderModel", name := "receive", desc := "(I)I" } : Jvm.MethodName)) ∈ lw_all := lw_g (lw_at lw_m0 164 rfl) rfl
theorem q178 : (Jvm.Cond.methodLink "PyramidSenderLaw" (36 : Nat) ({ cls := "PyramidSenderModel", name := "pixel", desc := "(II)I" } : Jvm.MethodName)) ∈ lw_all := lw_g (lw_at lw_m0 168 rfl) rfl
theorem q188 : (Jvm.Cond.methodLink "PyramidSenderLaw" (40 : Nat) ({ cls := "PyramidSenderModel", name := "rank", desc := "(II)I" } : Jvm.MethodName)) ∈ lw_all := lw_g (lw_at lw_m0 178 rfl) rfl
theorem q192 : (Jvm.Cond.methodLink "PyramidSenderLaw" (44 : Nat) ({ cls := "PyramidSenderModel", name := "count", desc := "(II)I" } : Jvm.MethodName)) ∈ lw_all := lw_g (lw_at lw_m0 182 rfl) rfl
theorem q196 : (Jvm.Cond.methodLink "PyramidSenderLaw" (49 : Nat) ({ cls := "PyramidSenderModel", name := "sum", desc := "()I" } : Jvm.MethodName)) ∈ lw_all := lw_g (lw_at lw_m0 186 rfl) rfl
theorem q58 : (Jvm.Cond.arrayClass Jvm.ClassFile.FieldType.int) ∈ lw_all := lw_g (lw_at lw_m0 48 rfl) rfl
set_option maxRecDepth 100000
/-! java/lang/Object -/
set_option maxRecDepth 100000
def RJ0 : String := "java/lang/Object"
abbrev cJ0_init : ByteArray := object_method_1_code
def yJ0_init : MethodName := ⟨RJ0, "<init>", "()V"⟩
theorem q19 : (Jvm.Cond.instanceMethod ({ cls := "java/lang/Object", name := "<init>", desc := "()V" } : Jvm.MethodName)) ∈ lw_all := lw_g (lw_at lw_m0 9 rfl) rfl
theorem q20 : (Jvm.Cond.code ({ cls := "java/lang/Object", name := "<init>", desc := "()V" } : Jvm.MethodName) object_method_1_code (1 : Nat) (Option.none : Option Jvm.ClassFile.FieldType)) ∈ lw_all := lw_g (lw_at lw_m0 10 rfl) rfl
/-! PyramidSender -/
set_option maxRecDepth 100000
def RX0 : String := "PyramidSender"
def TX0 : u_T := fun k => match k with
  | 0 => ("PyramidSender", "drawn", "[I", true)
  | 1 => ("PyramidSender", "sent", "Z", false)
  | 2 => ("PyramidSender", "bits", "[I", true)
  | 3 => ("PyramidSender", "length", "I", false)
  | 4 => ("PyramidSender", "readAt", "I", false)
  | 5 => ("PyramidSender", "received", "I", false)
  | 6 => ("PyramidSender", "decoded", "[I", true)
  | 7 => ("PyramidSender", "order", "[I", true)
  | 8 => ("PyramidSender", "rankOf", "[I", true)
  | 9 => ("PyramidSender", "width", "I", false)
  | _ => ("PyramidSender", "balance", "I", false)
def tyX0 : Nat → FieldType := fun k => match k with
  | 0 => .array .int
  | 1 => .boolean
  | 2 => .array .int
  | 3 => .int
  | 4 => .int
  | 5 => .int
  | 6 => .array .int
  | 7 => .array .int
  | 8 => .array .int
  | 9 => .int
  | _ => .int
abbrev wsX00 : List Cond := u_ws RX0 TX0 11
theorem nmX0 : ∀ a, a < 11 → ∀ b, b < 11 → a ≠ b → (TX0 a).2.1 ≠ (TX0 b).2.1 := by decide +kernel
theorem tyX0_ok : ∀ k, k < 11 → parseFieldDescriptor (TX0 k).2.2.1 = some (tyX0 k) := by decide +kernel
abbrev cX0_init : ByteArray := prog_1_method_1_code
def yX0_init : MethodName := ⟨RX0, "<init>", "()V"⟩
abbrev cX0_stepOf : ByteArray := prog_1_method_11_code
def yX0_stepOf : MethodName := ⟨RX0, "stepOf", "(II)I"⟩
abbrev cX0_draw : ByteArray := prog_1_method_2_code
def yX0_draw : MethodName := ⟨RX0, "draw", "(III)I"⟩
abbrev cX0_inPicture : ByteArray := prog_1_method_10_code
def yX0_inPicture : MethodName := ⟨RX0, "inPicture", "(II)Z"⟩
abbrev cX0_ramp : ByteArray := prog_1_method_3_code
def yX0_ramp : MethodName := ⟨RX0, "ramp", "(III)V"⟩
abbrev cX0_send : ByteArray := prog_1_method_4_code
def yX0_send : MethodName := ⟨RX0, "send", "()V"⟩
abbrev cX0_startWidth : ByteArray := prog_1_method_16_code
def yX0_startWidth : MethodName := ⟨RX0, "startWidth", "()V"⟩
abbrev cX0_foretell : ByteArray := prog_1_method_13_code
def yX0_foretell : MethodName := ⟨RX0, "foretell", "(IZ)I"⟩
abbrev cX0_pixelFor : ByteArray := prog_1_method_12_code
def yX0_pixelFor : MethodName := ⟨RX0, "pixelFor", "(IZ)I"⟩
abbrev cX0_fold : ByteArray := prog_1_method_14_code
def yX0_fold : MethodName := ⟨RX0, "fold", "(I)I"⟩
abbrev cX0_writeCode : ByteArray := prog_1_method_20_code
def yX0_writeCode : MethodName := ⟨RX0, "writeCode", "(I)V"⟩
abbrev cX0_writeBit : ByteArray := prog_1_method_18_code
def yX0_writeBit : MethodName := ⟨RX0, "writeBit", "(I)V"⟩
abbrev cX0_writeBits : ByteArray := prog_1_method_19_code
def yX0_writeBits : MethodName := ⟨RX0, "writeBits", "(II)V"⟩
abbrev cX0_adapt : ByteArray := prog_1_method_17_code
def yX0_adapt : MethodName := ⟨RX0, "adapt", "(I)V"⟩
abbrev cX0_receive : ByteArray := prog_1_method_5_code
def yX0_receive : MethodName := ⟨RX0, "receive", "(I)I"⟩
abbrev cX0_readCode : ByteArray := prog_1_method_23_code
def yX0_readCode : MethodName := ⟨RX0, "readCode", "()I"⟩
abbrev cX0_readBit : ByteArray := prog_1_method_21_code
def yX0_readBit : MethodName := ⟨RX0, "readBit", "()I"⟩
abbrev cX0_readBits : ByteArray := prog_1_method_22_code
def yX0_readBits : MethodName := ⟨RX0, "readBits", "(I)I"⟩
abbrev cX0_unfold : ByteArray := prog_1_method_15_code
def yX0_unfold : MethodName := ⟨RX0, "unfold", "(I)I"⟩
abbrev cX0_pixel : ByteArray := prog_1_method_6_code
def yX0_pixel : MethodName := ⟨RX0, "pixel", "(II)I"⟩
abbrev cX0_rank : ByteArray := prog_1_method_7_code
def yX0_rank : MethodName := ⟨RX0, "rank", "(II)I"⟩
abbrev cX0_count : ByteArray := prog_1_method_8_code
def yX0_count : MethodName := ⟨RX0, "count", "(II)I"⟩
abbrev cX0_sum : ByteArray := prog_1_method_9_code
def yX0_sum : MethodName := ⟨RX0, "sum", "()I"⟩
theorem q11 : (Jvm.Cond.initialized "PyramidSender") ∈ lw_all := lw_g (lw_at lw_m0 1 rfl) rfl
theorem q14 : (Jvm.Cond.instantiable "PyramidSender" (11 : Nat)) ∈ lw_all := lw_g (lw_at lw_m0 4 rfl) rfl
theorem q16 : (Jvm.Cond.instanceMethod ({ cls := "PyramidSender", name := "<init>", desc := "()V" } : Jvm.MethodName)) ∈ lw_all := lw_g (lw_at lw_m0 6 rfl) rfl
theorem q17 : (Jvm.Cond.code ({ cls := "PyramidSender", name := "<init>", desc := "()V" } : Jvm.MethodName) prog_1_method_1_code (7 : Nat) (Option.none : Option Jvm.ClassFile.FieldType)) ∈ lw_all := lw_g (lw_at lw_m0 7 rfl) rfl
theorem q18 : (Jvm.Cond.methodLink "PyramidSender" (1 : Nat) ({ cls := "java/lang/Object", name := "<init>", desc := "()V" } : Jvm.MethodName)) ∈ lw_all := lw_g (lw_at lw_m0 8 rfl) rfl
theorem q21 : (Jvm.Cond.methodLink "PyramidSender" (25 : Nat) ({ cls := "PyramidSender", name := "stepOf", desc := "(II)I" } : Jvm.MethodName)) ∈ lw_all := lw_g (lw_at lw_m0 11 rfl) rfl
theorem q22 : (Jvm.Cond.static ({ cls := "PyramidSender", name := "stepOf", desc := "(II)I" } : Jvm.MethodName)) ∈ lw_all := lw_g (lw_at lw_m0 12 rfl) rfl
theorem q23 : (Jvm.Cond.code ({ cls := "PyramidSender", name := "stepOf", desc := "(II)I" } : Jvm.MethodName) prog_1_method_11_code (3 : Nat) (Option.some Jvm.ClassFile.FieldType.int)) ∈ lw_all := lw_g (lw_at lw_m0 13 rfl) rfl
theorem q24 : (Jvm.Cond.fieldLink "PyramidSender" (7 : Nat) "PyramidSender" "drawn" "[I") ∈ lw_all := lw_g (lw_at lw_m0 14 rfl) rfl
theorem q25 : (Jvm.Cond.fieldLink "PyramidSender" (33 : Nat) "PyramidSender" "sent" "Z") ∈ lw_all := lw_g (lw_at lw_m0 15 rfl) rfl
theorem q26 : (Jvm.Cond.fieldLink "PyramidSender" (13 : Nat) "PyramidSender" "bits" "[I") ∈ lw_all := lw_g (lw_at lw_m0 16 rfl) rfl
theorem q27 : (Jvm.Cond.fieldLink "PyramidSender" (37 : Nat) "PyramidSender" "length" "I") ∈ lw_all := lw_g (lw_at lw_m0 17 rfl) rfl
theorem q28 : (Jvm.Cond.fieldLink "PyramidSender" (62 : Nat) "PyramidSender" "readAt" "I") ∈ lw_all := lw_g (lw_at lw_m0 18 rfl) rfl
theorem q29 : (Jvm.Cond.fieldLink "PyramidSender" (59 : Nat) "PyramidSender" "received" "I") ∈ lw_all := lw_g (lw_at lw_m0 19 rfl) rfl
theorem q30 : (Jvm.Cond.fieldLink "PyramidSender" (16 : Nat) "PyramidSender" "decoded" "[I") ∈ lw_all := lw_g (lw_at lw_m0 20 rfl) rfl
theorem q31 : (Jvm.Cond.fieldLink "PyramidSender" (19 : Nat) "PyramidSender" "order" "[I") ∈ lw_all := lw_g (lw_at lw_m0 21 rfl) rfl
theorem q32 : (Jvm.Cond.fieldLink "PyramidSender" (22 : Nat) "PyramidSender" "rankOf" "[I") ∈ lw_all := lw_g (lw_at lw_m0 22 rfl) rfl
theorem q33 : (Jvm.Cond.fieldLink "PyramidSender" (75 : Nat) "PyramidSender" "width" "I") ∈ lw_all := lw_g (lw_at lw_m0 23 rfl) rfl
theorem q34 : (Jvm.Cond.fieldLink "PyramidSender" (78 : Nat) "PyramidSender" "balance" "I") ∈ lw_all := lw_g (lw_at lw_m0 24 rfl) rfl
theorem q35 : (Jvm.Cond.laysFinal "PyramidSender" "PyramidSender" "drawn" "[I") ∈ lw_all := lw_g (lw_at lw_m0 25 rfl) rfl
theorem q36 : (Jvm.Cond.soleField "PyramidSender" "drawn") ∈ lw_all := lw_g (lw_at lw_m0 26 rfl) rfl
theorem q37 : (Jvm.Cond.lays "PyramidSender" "PyramidSender" "sent" "Z") ∈ lw_all := lw_g (lw_at lw_m0 27 rfl) rfl
theorem q38 : (Jvm.Cond.soleField "PyramidSender" "sent") ∈ lw_all := lw_g (lw_at lw_m0 28 rfl) rfl
theorem q39 : (Jvm.Cond.laysFinal "PyramidSender" "PyramidSender" "bits" "[I") ∈ lw_all := lw_g (lw_at lw_m0 29 rfl) rfl
theorem q40 : (Jvm.Cond.soleField "PyramidSender" "bits") ∈ lw_all := lw_g (lw_at lw_m0 30 rfl) rfl
theorem q41 : (Jvm.Cond.lays "PyramidSender" "PyramidSender" "length" "I") ∈ lw_all := lw_g (lw_at lw_m0 31 rfl) rfl
theorem q42 : (Jvm.Cond.soleField "PyramidSender" "length") ∈ lw_all := lw_g (lw_at lw_m0 32 rfl) rfl
theorem q43 : (Jvm.Cond.lays "PyramidSender" "PyramidSender" "readAt" "I") ∈ lw_all := lw_g (lw_at lw_m0 33 rfl) rfl
theorem q44 : (Jvm.Cond.soleField "PyramidSender" "readAt") ∈ lw_all := lw_g (lw_at lw_m0 34 rfl) rfl
theorem q45 : (Jvm.Cond.lays "PyramidSender" "PyramidSender" "received" "I") ∈ lw_all := lw_g (lw_at lw_m0 35 rfl) rfl
theorem q46 : (Jvm.Cond.soleField "PyramidSender" "received") ∈ lw_all := lw_g (lw_at lw_m0 36 rfl) rfl
theorem q47 : (Jvm.Cond.laysFinal "PyramidSender" "PyramidSender" "decoded" "[I") ∈ lw_all := lw_g (lw_at lw_m0 37 rfl) rfl
theorem q48 : (Jvm.Cond.soleField "PyramidSender" "decoded") ∈ lw_all := lw_g (lw_at lw_m0 38 rfl) rfl
theorem q49 : (Jvm.Cond.laysFinal "PyramidSender" "PyramidSender" "order" "[I") ∈ lw_all := lw_g (lw_at lw_m0 39 rfl) rfl
theorem q50 : (Jvm.Cond.soleField "PyramidSender" "order") ∈ lw_all := lw_g (lw_at lw_m0 40 rfl) rfl
theorem q51 : (Jvm.Cond.laysFinal "PyramidSender" "PyramidSender" "rankOf" "[I") ∈ lw_all := lw_g (lw_at lw_m0 41 rfl) rfl
theorem q52 : (Jvm.Cond.soleField "PyramidSender" "rankOf") ∈ lw_all := lw_g (lw_at lw_m0 42 rfl) rfl
theorem q53 : (Jvm.Cond.lays "PyramidSender" "PyramidSender" "width" "I") ∈ lw_all := lw_g (lw_at lw_m0 43 rfl) rfl
theorem q54 : (Jvm.Cond.soleField "PyramidSender" "width") ∈ lw_all := lw_g (lw_at lw_m0 44 rfl) rfl
theorem q55 : (Jvm.Cond.lays "PyramidSender" "PyramidSender" "balance" "I") ∈ lw_all := lw_g (lw_at lw_m0 45 rfl) rfl
theorem q56 : (Jvm.Cond.soleField "PyramidSender" "balance") ∈ lw_all := lw_g (lw_at lw_m0 46 rfl) rfl
theorem q57 : (Jvm.Cond.superclass "PyramidSender" "java/lang/Object") ∈ lw_all := lw_g (lw_at lw_m0 47 rfl) rfl
theorem q60 : (Jvm.Cond.instanceMethod ({ cls := "PyramidSender", name := "draw", desc := "(III)I" } : Jvm.MethodName)) ∈ lw_all := lw_g (lw_at lw_m0 50 rfl) rfl
theorem q61 : (Jvm.Cond.selects "PyramidSender" ({ cls := "PyramidSender", name := "draw", desc := "(III)I" } : Jvm.MethodName) ({ cls := "PyramidSender", name := "draw", desc := "(III)I" } : Jvm.MethodName)) ∈ lw_all := lw_g (lw_at lw_m0 51 rfl) rfl
theorem q62 : (Jvm.Cond.code ({ cls := "PyramidSender", name := "draw", desc := "(III)I" } : Jvm.MethodName) prog_1_method_2_code (5 : Nat) (Option.some Jvm.ClassFile.FieldType.int)) ∈ lw_all := lw_g (lw_at lw_m0 52 rfl) rfl
theorem q63 : (Jvm.Cond.methodLink "PyramidSender" (29 : Nat) ({ cls := "PyramidSender", name := "inPicture", desc := "(II)Z" } : Jvm.MethodName)) ∈ lw_all := lw_g (lw_at lw_m0 53 rfl) rfl
theorem q64 : (Jvm.Cond.static ({ cls := "PyramidSender", name := "inPicture", desc := "(II)Z" } : Jvm.MethodName)) ∈ lw_all := lw_g (lw_at lw_m0 54 rfl) rfl
theorem q65 : (Jvm.Cond.code ({ cls := "PyramidSender", name := "inPicture", desc := "(II)Z" } : Jvm.MethodName) prog_1_method_10_code (2 : Nat) (Option.some Jvm.ClassFile.FieldType.boolean)) ∈ lw_all := lw_g (lw_at lw_m0 55 rfl) rfl
theorem q67 : (Jvm.Cond.instanceMethod ({ cls := "PyramidSender", name := "ramp", desc := "(III)V" } : Jvm.MethodName)) ∈ lw_all := lw_g (lw_at lw_m0 57 rfl) rfl
theorem q68 : (Jvm.Cond.selects "PyramidSender" ({ cls := "PyramidSender", name := "ramp", desc := "(III)V" } : Jvm.MethodName) ({ cls := "PyramidSender", name := "ramp", desc := "(III)V" } : Jvm.MethodName)) ∈ lw_all := lw_g (lw_at lw_m0 58 rfl) rfl
theorem q69 : (Jvm.Cond.code ({ cls := "PyramidSender", name := "ramp", desc := "(III)V" } : Jvm.MethodName) prog_1_method_3_code (6 : Nat) (Option.none : Option Jvm.ClassFile.FieldType)) ∈ lw_all := lw_g (lw_at lw_m0 59 rfl) rfl
theorem q71 : (Jvm.Cond.instanceMethod ({ cls := "PyramidSender", name := "send", desc := "()V" } : Jvm.MethodName)) ∈ lw_all := lw_g (lw_at lw_m0 61 rfl) rfl
theorem q72 : (Jvm.Cond.selects "PyramidSender" ({ cls := "PyramidSender", name := "send", desc := "()V" } : Jvm.MethodName) ({ cls := "PyramidSender", name := "send", desc := "()V" } : Jvm.MethodName)) ∈ lw_all := lw_g (lw_at lw_m0 62 rfl) rfl
theorem q73 : (Jvm.Cond.code ({ cls := "PyramidSender", name := "send", desc := "()V" } : Jvm.MethodName) prog_1_method_4_code (5 : Nat) (Option.none : Option Jvm.ClassFile.FieldType)) ∈ lw_all := lw_g (lw_at lw_m0 63 rfl) rfl
theorem q74 : (Jvm.Cond.methodLink "PyramidSender" (41 : Nat) ({ cls := "PyramidSender", name := "startWidth", desc := "()V" } : Jvm.MethodName)) ∈ lw_all := lw_g (lw_at lw_m0 64 rfl) rfl
theorem q75 : (Jvm.Cond.privateMethod ({ cls := "PyramidSender", name := "startWidth", desc := "()V" } : Jvm.MethodName)) ∈ lw_tbl := lw_at lw_m0 65 rfl
theorem q76 : (Jvm.Cond.instanceMethod ({ cls := "PyramidSender", name := "startWidth", desc := "()V" } : Jvm.MethodName)) ∈ lw_all := lw_g (lw_at lw_m0 66 rfl) rfl
theorem q77 : (Jvm.Cond.code ({ cls := "PyramidSender", name := "startWidth", desc := "()V" } : Jvm.MethodName) prog_1_method_16_code (1 : Nat) (Option.none : Option Jvm.ClassFile.FieldType)) ∈ lw_all := lw_g (lw_at lw_m0 67 rfl) rfl
theorem q78 : (Jvm.Cond.methodLink "PyramidSender" (44 : Nat) ({ cls := "PyramidSender", name := "foretell", desc := "(IZ)I" } : Jvm.MethodName)) ∈ lw_all := lw_g (lw_at lw_m0 68 rfl) rfl
theorem q79 : (Jvm.Cond.privateMethod ({ cls := "PyramidSender", name := "foretell", desc := "(IZ)I" } : Jvm.MethodName)) ∈ lw_tbl := lw_at lw_m0 69 rfl
theorem q80 : (Jvm.Cond.instanceMethod ({ cls := "PyramidSender", name := "foretell", desc := "(IZ)I" } : Jvm.MethodName)) ∈ lw_all := lw_g (lw_at lw_m0 70 rfl) rfl
theorem q81 : (Jvm.Cond.code ({ cls := "PyramidSender", name := "foretell", desc := "(IZ)I" } : Jvm.MethodName) prog_1_method_13_code (10 : Nat) (Option.some Jvm.ClassFile.FieldType.int)) ∈ lw_all := lw_g (lw_at lw_m0 71 rfl) rfl
theorem q82 : (Jvm.Cond.methodLink "PyramidSender" (72 : Nat) ({ cls := "PyramidSender", name := "pixelFor", desc := "(IZ)I" } : Jvm.MethodName)) ∈ lw_all := lw_g (lw_at lw_m0 72 rfl) rfl
theorem q83 : (Jvm.Cond.privateMethod ({ cls := "PyramidSender", name := "pixelFor", desc := "(IZ)I" } : Jvm.MethodName)) ∈ lw_tbl := lw_at lw_m0 73 rfl
theorem q84 : (Jvm.Cond.instanceMethod ({ cls := "PyramidSender", name := "pixelFor", desc := "(IZ)I" } : Jvm.MethodName)) ∈ lw_all := lw_g (lw_at lw_m0 74 rfl) rfl
theorem q85 : (Jvm.Cond.code ({ cls := "PyramidSender", name := "pixelFor", desc := "(IZ)I" } : Jvm.MethodName) prog_1_method_12_code (3 : Nat) (Option.some Jvm.ClassFile.FieldType.int)) ∈ lw_all := lw_g (lw_at lw_m0 75 rfl) rfl
theorem q86 : (Jvm.Cond.methodLink "PyramidSender" (48 : Nat) ({ cls := "PyramidSender", name := "fold", desc := "(I)I" } : Jvm.MethodName)) ∈ lw_all := lw_g (lw_at lw_m0 76 rfl) rfl
theorem q87 : (Jvm.Cond.static ({ cls := "PyramidSender", name := "fold", desc := "(I)I" } : Jvm.MethodName)) ∈ lw_all := lw_g (lw_at lw_m0 77 rfl) rfl
theorem q88 : (Jvm.Cond.code ({ cls := "PyramidSender", name := "fold", desc := "(I)I" } : Jvm.MethodName) prog_1_method_14_code (1 : Nat) (Option.some Jvm.ClassFile.FieldType.int)) ∈ lw_all := lw_g (lw_at lw_m0 78 rfl) rfl
theorem q89 : (Jvm.Cond.methodLink "PyramidSender" (52 : Nat) ({ cls := "PyramidSender", name := "writeCode", desc := "(I)V" } : Jvm.MethodName)) ∈ lw_all := lw_g (lw_at lw_m0 79 rfl) rfl
theorem q90 : (Jvm.Cond.privateMethod ({ cls := "PyramidSender", name := "writeCode", desc := "(I)V" } : Jvm.MethodName)) ∈ lw_tbl := lw_at lw_m0 80 rfl
theorem q91 : (Jvm.Cond.instanceMethod ({ cls := "PyramidSender", name := "writeCode", desc := "(I)V" } : Jvm.MethodName)) ∈ lw_all := lw_g (lw_at lw_m0 81 rfl) rfl
theorem q92 : (Jvm.Cond.code ({ cls := "PyramidSender", name := "writeCode", desc := "(I)V" } : Jvm.MethodName) prog_1_method_20_code (4 : Nat) (Option.none : Option Jvm.ClassFile.FieldType)) ∈ lw_all := lw_g (lw_at lw_m0 82 rfl) rfl
theorem q93 : (Jvm.Cond.methodLink "PyramidSender" (81 : Nat) ({ cls := "PyramidSender", name := "writeBit", desc := "(I)V" } : Jvm.MethodName)) ∈ lw_all := lw_g (lw_at lw_m0 83 rfl) rfl
theorem q94 : (Jvm.Cond.privateMethod ({ cls := "PyramidSender", name := "writeBit", desc := "(I)V" } : Jvm.MethodName)) ∈ lw_tbl := lw_at lw_m0 84 rfl
theorem q95 : (Jvm.Cond.instanceMethod ({ cls := "PyramidSender", name := "writeBit", desc := "(I)V" } : Jvm.MethodName)) ∈ lw_all := lw_g (lw_at lw_m0 85 rfl) rfl
theorem q96 : (Jvm.Cond.code ({ cls := "PyramidSender", name := "writeBit", desc := "(I)V" } : Jvm.MethodName) prog_1_method_18_code (2 : Nat) (Option.none : Option Jvm.ClassFile.FieldType)) ∈ lw_all := lw_g (lw_at lw_m0 86 rfl) rfl
theorem q97 : (Jvm.Cond.methodLink "PyramidSender" (84 : Nat) ({ cls := "PyramidSender", name := "writeBits", desc := "(II)V" } : Jvm.MethodName)) ∈ lw_all := lw_g (lw_at lw_m0 87 rfl) rfl
theorem q98 : (Jvm.Cond.privateMethod ({ cls := "PyramidSender", name := "writeBits", desc := "(II)V" } : Jvm.MethodName)) ∈ lw_tbl := lw_at lw_m0 88 rfl
theorem q99 : (Jvm.Cond.instanceMethod ({ cls := "PyramidSender", name := "writeBits", desc := "(II)V" } : Jvm.MethodName)) ∈ lw_all := lw_g (lw_at lw_m0 89 rfl) rfl
theorem q100 : (Jvm.Cond.code ({ cls := "PyramidSender", name := "writeBits", desc := "(II)V" } : Jvm.MethodName) prog_1_method_19_code (4 : Nat) (Option.none : Option Jvm.ClassFile.FieldType)) ∈ lw_all := lw_g (lw_at lw_m0 90 rfl) rfl
theorem q101 : (Jvm.Cond.methodLink "PyramidSender" (56 : Nat) ({ cls := "PyramidSender", name := "adapt", desc := "(I)V" } : Jvm.MethodName)) ∈ lw_all := lw_g (lw_at lw_m0 91 rfl) rfl
theorem q102 : (Jvm.Cond.privateMethod ({ cls := "PyramidSender", name := "adapt", desc := "(I)V" } : Jvm.MethodName)) ∈ lw_tbl := lw_at lw_m0 92 rfl
theorem q103 : (Jvm.Cond.instanceMethod ({ cls := "PyramidSender", name := "adapt", desc := "(I)V" } : Jvm.MethodName)) ∈ lw_all := lw_g (lw_at lw_m0 93 rfl) rfl
theorem q104 : (Jvm.Cond.code ({ cls := "PyramidSender", name := "adapt", desc := "(I)V" } : Jvm.MethodName) prog_1_method_17_code (2 : Nat) (Option.none : Option Jvm.ClassFile.FieldType)) ∈ lw_all := lw_g (lw_at lw_m0 94 rfl) rfl
theorem q106 : (Jvm.Cond.instanceMethod ({ cls := "PyramidSender", name := "receive", desc := "(I)I" } : Jvm.MethodName)) ∈ lw_all := lw_g (lw_at lw_m0 96 rfl) rfl
theorem q107 : (Jvm.Cond.selects "PyramidSender" ({ cls := "PyramidSender", name := "receive", desc := "(I)I" } : Jvm.MethodName) ({ cls := "PyramidSender", name := "receive", desc := "(I)I" } : Jvm.MethodName)) ∈ lw_all := lw_g (lw_at lw_m0 97 rfl) rfl
theorem q108 : (Jvm.Cond.code ({ cls := "PyramidSender", name := "receive", desc := "(I)I" } : Jvm.MethodName) prog_1_method_5_code (7 : Nat) (Option.some Jvm.ClassFile.FieldType.int)) ∈ lw_all := lw_g (lw_at lw_m0 98 rfl) rfl
theorem q109 : (Jvm.Cond.methodLink "PyramidSender" (65 : Nat) ({ cls := "PyramidSender", name := "readCode", desc := "()I" } : Jvm.MethodName)) ∈ lw_all := lw_g (lw_at lw_m0 99 rfl) rfl
theorem q110 : (Jvm.Cond.privateMethod ({ cls := "PyramidSender", name := "readCode", desc := "()I" } : Jvm.MethodName)) ∈ lw_tbl := lw_at lw_m0 100 rfl
theorem q111 : (Jvm.Cond.instanceMethod ({ cls := "PyramidSender", name := "readCode", desc := "()I" } : Jvm.MethodName)) ∈ lw_all := lw_g (lw_at lw_m0 101 rfl) rfl
theorem q112 : (Jvm.Cond.code ({ cls := "PyramidSender", name := "readCode", desc := "()I" } : Jvm.MethodName) prog_1_method_23_code (5 : Nat) (Option.some Jvm.ClassFile.FieldType.int)) ∈ lw_all := lw_g (lw_at lw_m0 102 rfl) rfl
theorem q113 : (Jvm.Cond.methodLink "PyramidSender" (88 : Nat) ({ cls := "PyramidSender", name := "readBit", desc := "()I" } : Jvm.MethodName)) ∈ lw_all := lw_g (lw_at lw_m0 103 rfl) rfl
theorem q114 : (Jvm.Cond.privateMethod ({ cls := "PyramidSender", name := "readBit", desc := "()I" } : Jvm.MethodName)) ∈ lw_tbl := lw_at lw_m0 104 rfl
theorem q115 : (Jvm.Cond.instanceMethod ({ cls := "PyramidSender", name := "readBit", desc := "()I" } : Jvm.MethodName)) ∈ lw_all := lw_g (lw_at lw_m0 105 rfl) rfl
theorem q116 : (Jvm.Cond.code ({ cls := "PyramidSender", name := "readBit", desc := "()I" } : Jvm.MethodName) prog_1_method_21_code (2 : Nat) (Option.some Jvm.ClassFile.FieldType.int)) ∈ lw_all := lw_g (lw_at lw_m0 106 rfl) rfl
theorem q117 : (Jvm.Cond.methodLink "PyramidSender" (91 : Nat) ({ cls := "PyramidSender", name := "readBits", desc := "(I)I" } : Jvm.MethodName)) ∈ lw_all := lw_g (lw_at lw_m0 107 rfl) rfl
theorem q118 : (Jvm.Cond.privateMethod ({ cls := "PyramidSender", name := "readBits", desc := "(I)I" } : Jvm.MethodName)) ∈ lw_tbl := lw_at lw_m0 108 rfl
theorem q119 : (Jvm.Cond.instanceMethod ({ cls := "PyramidSender", name := "readBits", desc := "(I)I" } : Jvm.MethodName)) ∈ lw_all := lw_g (lw_at lw_m0 109 rfl) rfl
theorem q120 : (Jvm.Cond.code ({ cls := "PyramidSender", name := "readBits", desc := "(I)I" } : Jvm.MethodName) prog_1_method_22_code (5 : Nat) (Option.some Jvm.ClassFile.FieldType.int)) ∈ lw_all := lw_g (lw_at lw_m0 110 rfl) rfl
theorem q121 : (Jvm.Cond.methodLink "PyramidSender" (69 : Nat) ({ cls := "PyramidSender", name := "unfold", desc := "(I)I" } : Jvm.MethodName)) ∈ lw_all := lw_g (lw_at lw_m0 111 rfl) rfl
theorem q122 : (Jvm.Cond.static ({ cls := "PyramidSender", name := "unfold", desc := "(I)I" } : Jvm.MethodName)) ∈ lw_all := lw_g (lw_at lw_m0 112 rfl) rfl
theorem q123 : (Jvm.Cond.code ({ cls := "PyramidSender", name := "unfold", desc := "(I)I" } : Jvm.MethodName) prog_1_method_15_code (1 : Nat) (Option.some Jvm.ClassFile.FieldType.int)) ∈ lw_all := lw_g (lw_at lw_m0 113 rfl) rfl
theorem q125 : (Jvm.Cond.instanceMethod ({ cls := "PyramidSender", name := "pixel", desc := "(II)I" } : Jvm.MethodName)) ∈ lw_all := lw_g (lw_at lw_m0 115 rfl) rfl
theorem q126 : (Jvm.Cond.selects "PyramidSender" ({ cls := "PyramidSender", name := "pixel", desc := "(II)I" } : Jvm.MethodName) ({ cls := "PyramidSender", name := "pixel", desc := "(II)I" } : Jvm.MethodName)) ∈ lw_all := lw_g (lw_at lw_m0 116 rfl) rfl
theorem q127 : (Jvm.Cond.code ({ cls := "PyramidSender", name := "pixel", desc := "(II)I" } : Jvm.MethodName) prog_1_method_6_code (3 : Nat) (Option.some Jvm.ClassFile.FieldType.int)) ∈ lw_all := lw_g (lw_at lw_m0 117 rfl) rfl
theorem q129 : (Jvm.Cond.instanceMethod ({ cls := "PyramidSender", name := "rank", desc := "(II)I" } : Jvm.MethodName)) ∈ lw_all := lw_g (lw_at lw_m0 119 rfl) rfl
theorem q130 : (Jvm.Cond.selects "PyramidSender" ({ cls := "PyramidSender", name := "rank", desc := "(II)I" } : Jvm.MethodName) ({ cls := "PyramidSender", name := "rank", desc := "(II)I" } : Jvm.MethodName)) ∈ lw_all := lw_g (lw_at lw_m0 120 rfl) rfl
theorem q131 : (Jvm.Cond.code ({ cls := "PyramidSender", name := "rank", desc := "(II)I" } : Jvm.MethodName) prog_1_method_7_code (3 : Nat) (Option.some Jvm.ClassFile.FieldType.int)) ∈ lw_all := lw_g (lw_at lw_m0 121 rfl) rfl
theorem q133 : (Jvm.Cond.instanceMethod ({ cls := "PyramidSender", name := "count", desc := "(II)I" } : Jvm.MethodName)) ∈ lw_all := lw_g (lw_at lw_m0 123 rfl) rfl
theorem q134 : (Jvm.Cond.selects "PyramidSender" ({ cls := "PyramidSender", name := "count", desc := "(II)I" } : Jvm.MethodName) ({ cls := "PyramidSender", name := "count", desc := "(II)I" } : Jvm.MethodName)) ∈ lw_all := lw_g (lw_at lw_m0 124 rfl) rfl
theorem q135 : (Jvm.Cond.code ({ cls := "PyramidSender", name := "count", desc := "(II)I" } : Jvm.MethodName) prog_1_method_8_code (6 : Nat) (Option.some Jvm.ClassFile.FieldType.int)) ∈ lw_all := lw_g (lw_at lw_m0 125 rfl) rfl
theorem q137 : (Jvm.Cond.instanceMethod ({ cls := "PyramidSender", name := "sum", desc := "()I" } : Jvm.MethodName)) ∈ lw_all := lw_g (lw_at lw_m0 127 rfl) rfl
theorem q138 : (Jvm.Cond.selects "PyramidSender" ({ cls := "PyramidSender", name := "sum", desc := "()I" } : Jvm.MethodName) ({ cls := "PyramidSender", name := "sum", desc := "()I" } : Jvm.MethodName)) ∈ lw_all := lw_g (lw_at lw_m0 128 rfl) rfl
theorem q139 : (Jvm.Cond.code ({ cls := "PyramidSender", name := "sum", desc := "()I" } : Jvm.MethodName) prog_1_method_9_code (3 : Nat) (Option.some Jvm.ClassFile.FieldType.int)) ∈ lw_all := lw_g (lw_at lw_m0 129 rfl) rfl
theorem in_X0 : ∀ w ∈ wsX00, w ∈ lw_all := lw_in wsX00 [35, 37, 39, 41, 43, 45, 47, 49, 51, 53, 55] (by decide +kernel) (by decide +kernel)
/-! PyramidSenderModel -/
set_option maxRecDepth 100000
def RX1 : String := "PyramidSenderModel"
def TX1 : u_T := fun k => match k with
  | 0 => ("PyramidSenderModel", "drawn", "[I", true)
  | 1 => ("PyramidSenderModel", "sent", "[I", true)
  | 2 => ("PyramidSenderModel", "any", "Z", false)
  | _ => ("PyramidSenderModel", "received", "I", false)
def tyX1 : Nat → FieldType := fun k => match k with
  | 0 => .array .int
  | 1 => .array .int
  | 2 => .boolean
  | _ => .int
abbrev wsX10 : List Cond := u_ws RX1 TX1 4
theorem nmX1 : ∀ a, a < 4 → ∀ b, b < 4 → a ≠ b → (TX1 a).2.1 ≠ (TX1 b).2.1 := by decide +kernel
theorem tyX1_ok : ∀ k, k < 4 → parseFieldDescriptor (TX1 k).2.2.1 = some (tyX1 k) := by decide +kernel
abbrev cX1_init : ByteArray := prog_3_method_1_code
def yX1_init : MethodName := ⟨RX1, "<init>", "()V"⟩
abbrev cX1_draw : ByteArray := prog_3_method_3_code
def yX1_draw : MethodName := ⟨RX1, "draw", "(III)I"⟩
abbrev cX1_off : ByteArray := prog_3_method_2_code
def yX1_off : MethodName := ⟨RX1, "off", "(II)Z"⟩
abbrev cX1_ramp : ByteArray := prog_3_method_4_code
def yX1_ramp : MethodName := ⟨RX1, "ramp", "(III)V"⟩
abbrev cX1_send : ByteArray := prog_3_method_5_code
def yX1_send : MethodName := ⟨RX1, "send", "()V"⟩
abbrev cX1_receive : ByteArray := prog_3_method_6_code
def yX1_receive : MethodName := ⟨RX1, "receive", "(I)I"⟩
abbrev cX1_pixel : ByteArray := prog_3_method_9_code
def yX1_pixel : MethodName := ⟨RX1, "pixel", "(II)I"⟩
abbrev cX1_place : ByteArray := prog_3_method_8_code
def yX1_place : MethodName := ⟨RX1, "place", "(I)I"⟩
abbrev cX1_step : ByteArray := prog_3_method_7_code
def yX1_step : MethodName := ⟨RX1, "step", "(I)I"⟩
abbrev cX1_rank : ByteArray := prog_3_method_10_code
def yX1_rank : MethodName := ⟨RX1, "rank", "(II)I"⟩
abbrev cX1_count : ByteArray := prog_3_method_11_code
def yX1_count : MethodName := ⟨RX1, "count", "(II)I"⟩
abbrev cX1_sum : ByteArray := prog_3_method_12_code
def yX1_sum : MethodName := ⟨RX1, "sum", "()I"⟩
theorem q12 : (Jvm.Cond.initialized "PyramidSenderModel") ∈ lw_all := lw_g (lw_at lw_m0 2 rfl) rfl
theorem q141 : (Jvm.Cond.instantiable "PyramidSenderModel" (4 : Nat)) ∈ lw_all := lw_g (lw_at lw_m0 131 rfl) rfl
theorem q143 : (Jvm.Cond.instanceMethod ({ cls := "PyramidSenderModel", name := "<init>", desc := "()V" } : Jvm.MethodName)) ∈ lw_all := lw_g (lw_at lw_m0 133 rfl) rfl
theorem q144 : (Jvm.Cond.code ({ cls := "PyramidSenderModel", name := "<init>", desc := "()V" } : Jvm.MethodName) prog_3_method_1_code (1 : Nat) (Option.none : Option Jvm.ClassFile.FieldType)) ∈ lw_all := lw_g (lw_at lw_m0 134 rfl) rfl
theorem q145 : (Jvm.Cond.methodLink "PyramidSenderModel" (1 : Nat) ({ cls := "java/lang/Object", name := "<init>", desc := "()V" } : Jvm.MethodName)) ∈ lw_all := lw_g (lw_at lw_m0 135 rfl) rfl
theorem q146 : (Jvm.Cond.fieldLink "PyramidSenderModel" (7 : Nat) "PyramidSenderModel" "drawn" "[I") ∈ lw_all := lw_g (lw_at lw_m0 136 rfl) rfl
theorem q147 : (Jvm.Cond.fieldLink "PyramidSenderModel" (13 : Nat) "PyramidSenderModel" "sent" "[I") ∈ lw_all := lw_g (lw_at lw_m0 137 rfl) rfl
theorem q148 : (Jvm.Cond.fieldLink "PyramidSenderModel" (20 : Nat) "PyramidSenderModel" "any" "Z") ∈ lw_all := lw_g (lw_at lw_m0 138 rfl) rfl
theorem q149 : (Jvm.Cond.fieldLink "PyramidSenderModel" (24 : Nat) "PyramidSenderModel" "received" "I") ∈ lw_all := lw_g (lw_at lw_m0 139 rfl) rfl
theorem q150 : (Jvm.Cond.laysFinal "PyramidSenderModel" "PyramidSenderModel" "drawn" "[I") ∈ lw_all := lw_g (lw_at lw_m0 140 rfl) rfl
theorem q151 : (Jvm.Cond.soleField "PyramidSenderModel" "drawn") ∈ lw_all := lw_g (lw_at lw_m0 141 rfl) rfl
theorem q152 : (Jvm.Cond.laysFinal "PyramidSenderModel" "PyramidSenderModel" "sent" "[I") ∈ lw_all := lw_g (lw_at lw_m0 142 rfl) rfl
theorem q153 : (Jvm.Cond.soleField "PyramidSenderModel" "sent") ∈ lw_all := lw_g (lw_at lw_m0 143 rfl) rfl
theorem q154 : (Jvm.Cond.lays "PyramidSenderModel" "PyramidSenderModel" "any" "Z") ∈ lw_all := lw_g (lw_at lw_m0 144 rfl) rfl
theorem q155 : (Jvm.Cond.soleField "PyramidSenderModel" "any") ∈ lw_all := lw_g (lw_at lw_m0 145 rfl) rfl
theorem q156 : (Jvm.Cond.lays "PyramidSenderModel" "PyramidSenderModel" "received" "I") ∈ lw_all := lw_g (lw_at lw_m0 146 rfl) rfl
theorem q157 : (Jvm.Cond.soleField "PyramidSenderModel" "received") ∈ lw_all := lw_g (lw_at lw_m0 147 rfl) rfl
theorem q158 : (Jvm.Cond.superclass "PyramidSenderModel" "java/lang/Object") ∈ lw_all := lw_g (lw_at lw_m0 148 rfl) rfl
theorem q160 : (Jvm.Cond.instanceMethod ({ cls := "PyramidSenderModel", name := "draw", desc := "(III)I" } : Jvm.MethodName)) ∈ lw_all := lw_g (lw_at lw_m0 150 rfl) rfl
theorem q161 : (Jvm.Cond.selects "PyramidSenderModel" ({ cls := "PyramidSenderModel", name := "draw", desc := "(III)I" } : Jvm.MethodName) ({ cls := "PyramidSenderModel", name := "draw", desc := "(III)I" } : Jvm.MethodName)) ∈ lw_all := lw_g (lw_at lw_m0 151 rfl) rfl
theorem q162 : (Jvm.Cond.code ({ cls := "PyramidSenderModel", name := "draw", desc := "(III)I" } : Jvm.MethodName) prog_3_method_3_code (5 : Nat) (Option.some Jvm.ClassFile.FieldType.int)) ∈ lw_all := lw_g (lw_at lw_m0 152 rfl) rfl
theorem q163 : (Jvm.Cond.methodLink "PyramidSenderModel" (16 : Nat) ({ cls := "PyramidSenderModel", name := "off", desc := "(II)Z" } : Jvm.MethodName)) ∈ lw_all := lw_g (lw_at lw_m0 153 rfl) rfl
theorem q164 : (Jvm.Cond.static ({ cls := "PyramidSenderModel", name := "off", desc := "(II)Z" } : Jvm.MethodName)) ∈ lw_all := lw_g (lw_at lw_m0 154 rfl) rfl
theorem q165 : (Jvm.Cond.code ({ cls := "PyramidSenderModel", name := "off", desc := "(II)Z" } : Jvm.MethodName) prog_3_method_2_code (2 : Nat) (Option.some Jvm.ClassFile.FieldType.boolean)) ∈ lw_all := lw_g (lw_at lw_m0 155 rfl) rfl
theorem q167 : (Jvm.Cond.instanceMethod ({ cls := "PyramidSenderModel", name := "ramp", desc := "(III)V" } : Jvm.MethodName)) ∈ lw_all := lw_g (lw_at lw_m0 157 rfl) rfl
theorem q168 : (Jvm.Cond.selects "PyramidSenderModel" ({ cls := "PyramidSenderModel", name := "ramp", desc := "(III)V" } : Jvm.MethodName) ({ cls := "PyramidSenderModel", name := "ramp", desc := "(III)V" } : Jvm.MethodName)) ∈ lw_all := lw_g (lw_at lw_m0 158 rfl) rfl
theorem q169 : (Jvm.Cond.code ({ cls := "PyramidSenderModel", name := "ramp", desc := "(III)V" } : Jvm.MethodName) prog_3_method_4_code (5 : Nat) (Option.none : Option Jvm.ClassFile.FieldType)) ∈ lw_all := lw_g (lw_at lw_m0 159 rfl) rfl
theorem q171 : (Jvm.Cond.instanceMethod ({ cls := "PyramidSenderModel", name := "send", desc := "()V" } : Jvm.MethodName)) ∈ lw_all := lw_g (lw_at lw_m0 161 rfl) rfl
theorem q172 : (Jvm.Cond.selects "PyramidSenderModel" ({ cls := "PyramidSenderModel", name := "send", desc := "()V" } : Jvm.MethodName) ({ cls := "PyramidSenderModel", name := "send", desc := "()V" } : Jvm.MethodName)) ∈ lw_all := lw_g (lw_at lw_m0 162 rfl) rfl
theorem q173 : (Jvm.Cond.code ({ cls := "PyramidSenderModel", name := "send", desc := "()V" } : Jvm.MethodName) prog_3_method_5_code (2 : Nat) (Option.none : Option Jvm.ClassFile.FieldType)) ∈ lw_all := lw_g (lw_at lw_m0 163 rfl) rfl
theorem q175 : (Jvm.Cond.instanceMethod ({ cls := "PyramidSenderModel", name := "receive", desc := "(I)I" } : Jvm.MethodName)) ∈ lw_all := lw_g (lw_at lw_m0 165 rfl) rfl
theorem q176 : (Jvm.Cond.selects "PyramidSenderModel" ({ cls := "PyramidSenderModel", name := "receive", desc := "(I)I" } : Jvm.MethodName) ({ cls := "PyramidSenderModel", name := "receive", desc := "(I)I" } : Jvm.MethodName)) ∈ lw_all := lw_g (lw_at lw_m0 166 rfl) rfl
theorem q177 : (Jvm.Cond.code ({ cls := "PyramidSenderModel", name := "receive", desc := "(I)I" } : Jvm.MethodName) prog_3_method_6_code (3 : Nat) (Option.some Jvm.ClassFile.FieldType.int)) ∈ lw_all := lw_g (lw_at lw_m0 167 rfl) rfl
theorem q179 : (Jvm.Cond.instanceMethod ({ cls := "PyramidSenderModel", name := "pixel", desc := "(II)I" } : Jvm.MethodName)) ∈ lw_all := lw_g (lw_at lw_m0 169 rfl) rfl
theorem q180 : (Jvm.Cond.selects "PyramidSenderModel" ({ cls := "PyramidSenderModel", name := "pixel", desc := "(II)I" } : Jvm.MethodName) ({ cls := "PyramidSenderModel", name := "pixel", desc := "(II)I" } : Jvm.MethodName)) ∈ lw_all := lw_g (lw_at lw_m0 170 rfl) rfl
theorem q181 : (Jvm.Cond.code ({ cls := "PyramidSenderModel", name := "pixel", desc := "(II)I" } : Jvm.MethodName) prog_3_method_9_code (3 : Nat) (Option.some Jvm.ClassFile.FieldType.int)) ∈ lw_all := lw_g (lw_at lw_m0 171 rfl) rfl
theorem q182 : (Jvm.Cond.methodLink "PyramidSenderModel" (32 : Nat) ({ cls := "PyramidSenderModel", name := "place", desc := "(I)I" } : Jvm.MethodName)) ∈ lw_all := lw_g (lw_at lw_m0 172 rfl) rfl
theorem q183 : (Jvm.Cond.static ({ cls := "PyramidSenderModel", name := "place", desc := "(I)I" } : Jvm.MethodName)) ∈ lw_all := lw_g (lw_at lw_m0 173 rfl) rfl
theorem q184 : (Jvm.Cond.code ({ cls := "PyramidSenderModel", name := "place", desc := "(I)I" } : Jvm.MethodName) prog_3_method_8_code (5 : Nat) (Option.some Jvm.ClassFile.FieldType.int)) ∈ lw_all := lw_g (lw_at lw_m0 174 rfl) rfl
theorem q185 : (Jvm.Cond.methodLink "PyramidSenderModel" (28 : Nat) ({ cls := "PyramidSenderModel", name := "step", desc := "(I)I" } : Jvm.MethodName)) ∈ lw_all := lw_g (lw_at lw_m0 175 rfl) rfl
theorem q186 : (Jvm.Cond.static ({ cls := "PyramidSenderModel", name := "step", desc := "(I)I" } : Jvm.MethodName)) ∈ lw_all := lw_g (lw_at lw_m0 176 rfl) rfl
theorem q187 : (Jvm.Cond.code ({ cls := "PyramidSenderModel", name := "step", desc := "(I)I" } : Jvm.MethodName) prog_3_method_7_code (3 : Nat) (Option.some Jvm.ClassFile.FieldType.int)) ∈ lw_all := lw_g (lw_at lw_m0 177 rfl) rfl
theorem q189 : (Jvm.Cond.instanceMethod ({ cls := "PyramidSenderModel", name := "rank", desc := "(II)I" } : Jvm.MethodName)) ∈ lw_all := lw_g (lw_at lw_m0 179 rfl) rfl
theorem q190 : (Jvm.Cond.selects "PyramidSenderModel" ({ cls := "PyramidSenderModel", name := "rank", desc := "(II)I" } : Jvm.MethodName) ({ cls := "PyramidSenderModel", name := "rank", desc := "(II)I" } : Jvm.MethodName)) ∈ lw_all := lw_g (lw_at lw_m0 180 rfl) rfl
theorem q191 : (Jvm.Cond.code ({ cls := "PyramidSenderModel", name := "rank", desc := "(II)I" } : Jvm.MethodName) prog_3_method_10_code (3 : Nat) (Option.some Jvm.ClassFile.FieldType.int)) ∈ lw_all := lw_g (lw_at lw_m0 181 rfl) rfl
theorem q193 : (Jvm.Cond.instanceMethod ({ cls := "PyramidSenderModel", name := "count", desc := "(II)I" } : Jvm.MethodName)) ∈ lw_all := lw_g (lw_at lw_m0 183 rfl) rfl
theorem q194 : (Jvm.Cond.selects "PyramidSenderModel" ({ cls := "PyramidSenderModel", name := "count", desc := "(II)I" } : Jvm.MethodName) ({ cls := "PyramidSenderModel", name := "count", desc := "(II)I" } : Jvm.MethodName)) ∈ lw_all := lw_g (lw_at lw_m0 184 rfl) rfl
theorem q195 : (Jvm.Cond.code ({ cls := "PyramidSenderModel", name := "count", desc := "(II)I" } : Jvm.MethodName) prog_3_method_11_code (5 : Nat) (Option.some Jvm.ClassFile.FieldType.int)) ∈ lw_all := lw_g (lw_at lw_m0 185 rfl) rfl
theorem q197 : (Jvm.Cond.instanceMethod ({ cls := "PyramidSenderModel", name := "sum", desc := "()I" } : Jvm.MethodName)) ∈ lw_all := lw_g (lw_at lw_m0 187 rfl) rfl
theorem q198 : (Jvm.Cond.selects "PyramidSenderModel" ({ cls := "PyramidSenderModel", name := "sum", desc := "()I" } : Jvm.MethodName) ({ cls := "PyramidSenderModel", name := "sum", desc := "()I" } : Jvm.MethodName)) ∈ lw_all := lw_g (lw_at lw_m0 188 rfl) rfl
theorem q199 : (Jvm.Cond.code ({ cls := "PyramidSenderModel", name := "sum", desc := "()I" } : Jvm.MethodName) prog_3_method_12_code (3 : Nat) (Option.some Jvm.ClassFile.FieldType.int)) ∈ lw_all := lw_g (lw_at lw_m0 189 rfl) rfl
theorem in_X1 : ∀ w ∈ wsX10, w ∈ lw_all := lw_in wsX10 [150, 152, 154, 156] (by decide +kernel) (by decide +kernel)
/-! the law's own entry -/
set_option maxRecDepth 100000
abbrev cL_law : ByteArray := code
abbrev vwCl : List vw_C := [(RX0, TX0, 11), (RX1, TX1, 4)]
end
section
set_option maxRecDepth 100000
theorem dX0_init_0 : decode cX0_init 0 = .ok (.aload_n 0, 1) := by decide +kernel
theorem dX0_init_1 : decode cX0_init 1 = .ok (.invokespecial 1, 3) := by decide +kernel
theorem dX0_init_4 : decode cX0_init 4 = .ok (.aload_n 0, 1) := by decide +kernel
theorem dX0_init_5 : decode cX0_init 5 = .ok (.bipush 81, 2) := by decide +kernel
theorem dX0_init_7 : decode cX0_init 7 = .ok (.newarray .int, 2) := by decide +kernel
theorem dX0_init_9 : decode cX0_init 9 = .ok (.putfield 7, 3) := by decide +kernel
theorem dX0_init_12 : decode cX0_init 12 = .ok (.aload_n 0, 1) := by decide +kernel
theorem dX0_init_13 : decode cX0_init 13 = .ok (.bipush 48, 2) := by decide +kernel
theorem dX0_init_15 : decode cX0_init 15 = .ok (.newarray .int, 2) := by decide +kernel
theorem dX0_init_17 : decode cX0_init 17 = .ok (.putfield 13, 3) := by decide +kernel
theorem dX0_init_20 : decode cX0_init 20 = .ok (.aload_n 0, 1) := by decide +kernel
theorem dX0_init_21 : decode cX0_init 21 = .ok (.bipush 81, 2) := by decide +kernel
theorem dX0_init_23 : decode cX0_init 23 = .ok (.newarray .int, 2) := by decide +kernel
theorem dX0_init_25 : decode cX0_init 25 = .ok (.putfield 16, 3) := by decide +kernel
theorem dX0_init_28 : decode cX0_init 28 = .ok (.aload_n 0, 1) := by decide +kernel
theorem dX0_init_29 : decode cX0_init 29 = .ok (.bipush 81, 2) := by decide +kernel
theorem dX0_init_31 : decode cX0_init 31 = .ok (.newarray .int, 2) := by decide +kernel
theorem dX0_init_33 : decode cX0_init 33 = .ok (.putfield 19, 3) := by decide +kernel
theorem dX0_init_36 : decode cX0_init 36 = .ok (.aload_n 0, 1) := by decide +kernel
theorem dX0_init_37 : decode cX0_init 37 = .ok (.bipush 81, 2) := by decide +kernel
theorem dX0_init_39 : decode cX0_init 39 = .ok (.newarray .int, 2) := by decide +kernel
theorem dX0_init_41 : decode cX0_init 41 = .ok (.putfield 22, 3) := by decide +kernel
theorem dX0_init_44 : decode cX0_init 44 = .ok (.iconst 0, 1) := by decide +kernel
theorem dX0_init_45 : decode cX0_init 45 = .ok (.istore_n 1, 1) := by decide +kernel
theorem dX0_init_46 : decode cX0_init 46 = .ok (.bipush 8, 2) := by decide +kernel
theorem dX0_init_48 : decode cX0_init 48 = .ok (.istore_n 2, 1) := by decide +kernel
theorem dX0_init_49 : decode cX0_init 49 = .ok (.iload_n 2, 1) := by decide +kernel
theorem dX0_init_50 : decode cX0_init 50 = .ok (.ifCond .le 68, 3) := by decide +kernel
theorem dX0_init_53 : decode cX0_init 53 = .ok (.iconst 0, 1) := by decide +kernel
theorem dX0_init_54 : decode cX0_init 54 = .ok (.istore_n 3, 1) := by decide +kernel
theorem dX0_init_55 : decode cX0_init 55 = .ok (.iload_n 3, 1) := by decide +kernel
theorem dX0_init_56 : decode cX0_init 56 = .ok (.bipush 81, 2) := by decide +kernel
theorem dX0_init_58 : decode cX0_init 58 = .ok (.if_icmp .ge 53, 3) := by decide +kernel
theorem dX0_init_61 : decode cX0_init 61 = .ok (.iload_n 3, 1) := by decide +kernel
theorem dX0_init_62 : decode cX0_init 62 = .ok (.bipush 9, 2) := by decide +kernel
theorem dX0_init_64 : decode cX0_init 64 = .ok (.irem, 1) := by decide +kernel
theorem dX0_init_65 : decode cX0_init 65 = .ok (.istore 4, 2) := by decide +kernel
theorem dX0_init_67 : decode cX0_init 67 = .ok (.iload_n 3, 1) := by decide +kernel
theorem dX0_init_68 : decode cX0_init 68 = .ok (.bipush 9, 2) := by decide +kernel
theorem dX0_init_70 : decode cX0_init 70 = .ok (.idiv, 1) := by decide +kernel
theorem dX0_init_71 : decode cX0_init 71 = .ok (.istore 5, 2) := by decide +kernel
theorem dX0_init_73 : decode cX0_init 73 = .ok (.iload 4, 2) := by decide +kernel
theorem dX0_init_75 : decode cX0_init 75 = .ok (.iload 5, 2) := by decide +kernel
theorem dX0_init_77 : decode cX0_init 77 = .ok (.invokestatic 25, 3) := by decide +kernel
theorem dX0_init_80 : decode cX0_init 80 = .ok (.istore 6, 2) := by decide +kernel
theorem dX0_init_82 : decode cX0_init 82 = .ok (.iload 6, 2) := by decide +kernel
theorem dX0_init_84 : decode cX0_init 84 = .ok (.iload_n 2, 1) := by decide +kernel
theorem dX0_init_85 : decode cX0_init 85 = .ok (.if_icmp .ne 20, 3) := by decide +kernel
theorem dX0_init_88 : decode cX0_init 88 = .ok (.aload_n 0, 1) := by decide +kernel
theorem dX0_init_89 : decode cX0_init 89 = .ok (.getfield 19, 3) := by decide +kernel
theorem dX0_init_92 : decode cX0_init 92 = .ok (.iload_n 1, 1) := by decide +kernel
theorem dX0_init_93 : decode cX0_init 93 = .ok (.iload_n 3, 1) := by decide +kernel
theorem dX0_init_94 : decode cX0_init 94 = .ok (.iastore, 1) := by decide +kernel
theorem dX0_init_95 : decode cX0_init 95 = .ok (.aload_n 0, 1) := by decide +kernel
theorem dX0_init_96 : decode cX0_init 96 = .ok (.getfield 22, 3) := by decide +kernel
theorem dX0_init_99 : decode cX0_init 99 = .ok (.iload_n 3, 1) := by decide +kernel
theorem dX0_init_100 : decode cX0_init 100 = .ok (.iload_n 1, 1) := by decide +kernel
theorem dX0_init_101 : decode cX0_init 101 = .ok (.iastore, 1) := by decide +kernel
theorem dX0_init_102 : decode cX0_init 102 = .ok (.iinc 1 1, 3) := by decide +kernel
theorem dX0_init_105 : decode cX0_init 105 = .ok (.iinc 3 1, 3) := by decide +kernel
theorem dX0_init_108 : decode cX0_init 108 = .ok (.goto (-53), 3) := by decide +kernel
theorem dX0_init_111 : decode cX0_init 111 = .ok (.iload_n 2, 1) := by decide +kernel
theorem dX0_init_112 : decode cX0_init 112 = .ok (.iconst 2, 1) := by decide +kernel
theorem dX0_init_113 : decode cX0_init 113 = .ok (.idiv, 1) := by decide +kernel
theorem dX0_init_114 : decode cX0_init 114 = .ok (.istore_n 2, 1) := by decide +kernel
theorem dX0_init_115 : decode cX0_init 115 = .ok (.goto (-66), 3) := by decide +kernel
theorem dX0_init_118 : decode cX0_init 118 = .ok (.return_, 1) := by decide +kernel
theorem dX0_stepOf_0 : decode cX0_stepOf 0 = .ok (.bipush 8, 2) := by decide +kernel
theorem dX0_stepOf_2 : decode cX0_stepOf 2 = .ok (.istore_n 2, 1) := by decide +kernel
theorem dX0_stepOf_3 : decode cX0_stepOf 3 = .ok (.iload_n 2, 1) := by decide +kernel
theorem dX0_stepOf_4 : decode cX0_stepOf 4 = .ok (.iconst 1, 1) := by decide +kernel
theorem dX0_stepOf_5 : decode cX0_stepOf 5 = .ok (.if_icmp .le 24, 3) := by decide +kernel
theorem dX0_stepOf_8 : decode cX0_stepOf 8 = .ok (.iload_n 0, 1) := by decide +kernel
theorem dX0_stepOf_9 : decode cX0_stepOf 9 = .ok (.iload_n 2, 1) := by decide +kernel
theorem dX0_stepOf_10 : decode cX0_stepOf 10 = .ok (.irem, 1) := by decide +kernel
theorem dX0_stepOf_11 : decode cX0_stepOf 11 = .ok (.ifCond .ne 11, 3) := by decide +kernel
theorem dX0_stepOf_14 : decode cX0_stepOf 14 = .ok (.iload_n 1, 1) := by decide +kernel
theorem dX0_stepOf_15 : decode cX0_stepOf 15 = .ok (.iload_n 2, 1) := by decide +kernel
theorem dX0_stepOf_16 : decode cX0_stepOf 16 = .ok (.irem, 1) := by decide +kernel
theorem dX0_stepOf_17 : decode cX0_stepOf 17 = .ok (.ifCond .ne 5, 3) := by decide +kernel
theorem dX0_stepOf_20 : decode cX0_stepOf 20 = .ok (.iload_n 2, 1) := by decide +kernel
theorem dX0_stepOf_21 : decode cX0_stepOf 21 = .ok (.ireturn, 1) := by decide +kernel
theorem dX0_stepOf_22 : decode cX0_stepOf 22 = .ok (.iload_n 2, 1) := by decide +kernel
theorem dX0_stepOf_23 : decode cX0_stepOf 23 = .ok (.iconst 2, 1) := by decide +kernel
theorem dX0_stepOf_24 : decode cX0_stepOf 24 = .ok (.idiv, 1) := by decide +kernel
theorem dX0_stepOf_25 : decode cX0_stepOf 25 = .ok (.istore_n 2, 1) := by decide +kernel
theorem dX0_stepOf_26 : decode cX0_stepOf 26 = .ok (.goto (-23), 3) := by decide +kernel
theorem dX0_stepOf_29 : decode cX0_stepOf 29 = .ok (.iconst 1, 1) := by decide +kernel
theorem dX0_stepOf_30 : decode cX0_stepOf 30 = .ok (.ireturn, 1) := by decide +kernel
theorem dX0_draw_0 : decode cX0_draw 0 = .ok (.iload_n 1, 1) := by decide +kernel
theorem dX0_draw_1 : decode cX0_draw 1 = .ok (.iload_n 2, 1) := by decide +kernel
theorem dX0_draw_2 : decode cX0_draw 2 = .ok (.invokestatic 29, 3) := by decide +kernel
theorem dX0_draw_5 : decode cX0_draw 5 = .ok (.ifCond .ne 5, 3) := by decide +kernel
theorem dX0_draw_8 : decode cX0_draw 8 = .ok (.iconst (-1), 1) := by decide +kernel
theorem dX0_draw_9 : decode cX0_draw 9 = .ok (.ireturn, 1) := by decide +kernel
theorem dX0_draw_10 : decode cX0_draw 10 = .ok (.aload_n 0, 1) := by decide +kernel
theorem dX0_draw_11 : decode cX0_draw 11 = .ok (.getfield 7, 3) := by decide +kernel
theorem dX0_draw_14 : decode cX0_draw 14 = .ok (.bipush 9, 2) := by decide +kernel
theorem dX0_draw_16 : decode cX0_draw 16 = .ok (.iload_n 2, 1) := by decide +kernel
theorem dX0_draw_17 : decode cX0_draw 17 = .ok (.imul, 1) := by decide +kernel
theorem dX0_draw_18 : decode cX0_draw 18 = .ok (.iload_n 1, 1) := by decide +kernel
theorem dX0_draw_19 : decode cX0_draw 19 = .ok (.iadd, 1) := by decide +kernel
theorem dX0_draw_20 : decode cX0_draw 20 = .ok (.iaload, 1) := by decide +kernel
theorem dX0_draw_21 : decode cX0_draw 21 = .ok (.istore 4, 2) := by decide +kernel
theorem dX0_draw_23 : decode cX0_draw 23 = .ok (.aload_n 0, 1) := by decide +kernel
theorem dX0_draw_24 : decode cX0_draw 24 = .ok (.getfield 7, 3) := by decide +kernel
theorem dX0_draw_27 : decode cX0_draw 27 = .ok (.bipush 9, 2) := by decide +kernel
theorem dX0_draw_29 : decode cX0_draw 29 = .ok (.iload_n 2, 1) := by decide +kernel
theorem dX0_draw_30 : decode cX0_draw 30 = .ok (.imul, 1) := by decide +kernel
theorem dX0_draw_31 : decode cX0_draw 31 = .ok (.iload_n 1, 1) := by decide +kernel
theorem dX0_draw_32 : decode cX0_draw 32 = .ok (.iadd, 1) := by decide +kernel
theorem dX0_draw_33 : decode cX0_draw 33 = .ok (.iload_n 3, 1) := by decide +kernel
theorem dX0_draw_34 : decode cX0_draw 34 = .ok (.sipush 255, 3) := by decide +kernel
theorem dX0_draw_37 : decode cX0_draw 37 = .ok (.iand, 1) := by decide +kernel
theorem dX0_draw_38 : decode cX0_draw 38 = .ok (.iastore, 1) := by decide +kernel
theorem dX0_draw_39 : decode cX0_draw 39 = .ok (.iload 4, 2) := by decide +kernel
theorem dX0_draw_41 : decode cX0_draw 41 = .ok (.ireturn, 1) := by decide +kernel
theorem dX0_inPicture_0 : decode cX0_inPicture 0 = .ok (.iload_n 0, 1) := by decide +kernel
theorem dX0_inPicture_1 : decode cX0_inPicture 1 = .ok (.ifCond .lt 23, 3) := by decide +kernel
theorem dX0_inPicture_4 : decode cX0_inPicture 4 = .ok (.iload_n 0, 1) := by decide +kernel
theorem dX0_inPicture_5 : decode cX0_inPicture 5 = .ok (.bipush 8, 2) := by decide +kernel
theorem dX0_inPicture_7 : decode cX0_inPicture 7 = .ok (.if_icmp .gt 17, 3) := by decide +kernel
theorem dX0_inPicture_10 : decode cX0_inPicture 10 = .ok (.iload_n 1, 1) := by decide +kernel
theorem dX0_inPicture_11 : decode cX0_inPicture 11 = .ok (.ifCond .lt 13, 3) := by decide +kernel
theorem dX0_inPicture_14 : decode cX0_inPicture 14 = .ok (.iload_n 1, 1) := by decide +kernel
theorem dX0_inPicture_15 : decode cX0_inPicture 15 = .ok (.bipush 8, 2) := by decide +kernel
theorem dX0_inPicture_17 : decode cX0_inPicture 17 = .ok (.if_icmp .gt 7, 3) := by decide +kernel
theorem dX0_inPicture_20 : decode cX0_inPicture 20 = .ok (.iconst 1, 1) := by decide +kernel
theorem dX0_inPicture_21 : decode cX0_inPicture 21 = .ok (.goto 4, 3) := by decide +kernel
theorem dX0_inPicture_24 : decode cX0_inPicture 24 = .ok (.iconst 0, 1) := by decide +kernel
theorem dX0_inPicture_25 : decode cX0_inPicture 25 = .ok (.ireturn, 1) := by decide +kernel
theorem dX0_ramp_0 : decode cX0_ramp 0 = .ok (.iconst 0, 1) := by decide +kernel
theorem dX0_ramp_1 : decode cX0_ramp 1 = .ok (.istore 4, 2) := by decide +kernel
theorem dX0_ramp_3 : decode cX0_ramp 3 = .ok (.iload 4, 2) := by decide +kernel
theorem dX0_ramp_5 : decode cX0_ramp 5 = .ok (.bipush 9, 2) := by decide +kernel
theorem dX0_ramp_7 : decode cX0_ramp 7 = .ok (.if_icmp .ge 53, 3) := by decide +kernel
theorem dX0_ramp_10 : decode cX0_ramp 10 = .ok (.iconst 0, 1) := by decide +kernel
theorem dX0_ramp_11 : decode cX0_ramp 11 = .ok (.istore 5, 2) := by decide +kernel
theorem dX0_ramp_13 : decode cX0_ramp 13 = .ok (.iload 5, 2) := by decide +kernel
theorem dX0_ramp_15 : decode cX0_ramp 15 = .ok (.bipush 9, 2) := by decide +kernel
theorem dX0_ramp_17 : decode cX0_ramp 17 = .ok (.if_icmp .ge 37, 3) := by decide +kernel
theorem dX0_ramp_20 : decode cX0_ramp 20 = .ok (.aload_n 0, 1) := by decide +kernel
theorem dX0_ramp_21 : decode cX0_ramp 21 = .ok (.getfield 7, 3) := by decide +kernel
theorem dX0_ramp_24 : decode cX0_ramp 24 = .ok (.bipush 9, 2) := by decide +kernel
theorem dX0_ramp_26 : decode cX0_ramp 26 = .ok (.iload 4, 2) := by decide +kernel
theorem dX0_ramp_28 : decode cX0_ramp 28 = .ok (.imul, 1) := by decide +kernel
theorem dX0_ramp_29 : decode cX0_ramp 29 = .ok (.iload 5, 2) := by decide +kernel
theorem dX0_ramp_31 : decode cX0_ramp 31 = .ok (.iadd, 1) := by decide +kernel
theorem dX0_ramp_32 : decode cX0_ramp 32 = .ok (.iload_n 1, 1) := by decide +kernel
theorem dX0_ramp_33 : decode cX0_ramp 33 = .ok (.iload_n 2, 1) := by decide +kernel
theorem dX0_ramp_34 : decode cX0_ramp 34 = .ok (.iload 5, 2) := by decide +kernel
theorem dX0_ramp_36 : decode cX0_ramp 36 = .ok (.imul, 1) := by decide +kernel
theorem dX0_ramp_37 : decode cX0_ramp 37 = .ok (.iadd, 1) := by decide +kernel
theorem dX0_ramp_38 : decode cX0_ramp 38 = .ok (.iload_n 3, 1) := by decide +kernel
theorem dX0_ramp_39 : decode cX0_ramp 39 = .ok (.iload 4, 2) := by decide +kernel
theorem dX0_ramp_41 : decode cX0_ramp 41 = .ok (.imul, 1) := by decide +kernel
theorem dX0_ramp_42 : decode cX0_ramp 42 = .ok (.iadd, 1) := by decide +kernel
theorem dX0_ramp_43 : decode cX0_ramp 43 = .ok (.sipush 255, 3) := by decide +kernel
theorem dX0_ramp_46 : decode cX0_ramp 46 = .ok (.iand, 1) := by decide +kernel
theorem dX0_ramp_47 : decode cX0_ramp 47 = .ok (.iastore, 1) := by decide +kernel
theorem dX0_ramp_48 : decode cX0_ramp 48 = .ok (.iinc 5 1, 3) := by decide +kernel
theorem dX0_ramp_51 : decode cX0_ramp 51 = .ok (.goto (-38), 3) := by decide +kernel
theorem dX0_ramp_54 : decode cX0_ramp 54 = .ok (.iinc 4 1, 3) := by decide +kernel
theorem dX0_ramp_57 : decode cX0_ramp 57 = .ok (.goto (-54), 3) := by decide +kernel
theorem dX0_ramp_60 : decode cX0_ramp 60 = .ok (.return_, 1) := by decide +kernel
theorem dX0_send_0 : decode cX0_send 0 = .ok (.aload_n 0, 1) := by decide +kernel
theorem dX0_send_1 : decode cX0_send 1 = .ok (.iconst 1, 1) := by decide +kernel
theorem dX0_send_2 : decode cX0_send 2 = .ok (.putfield 33, 3) := by decide +kernel
theorem dX0_send_5 : decode cX0_send 5 = .ok (.aload_n 0, 1) := by decide +kernel
theorem dX0_send_6 : decode cX0_send 6 = .ok (.iconst 0, 1) := by decide +kernel
theorem dX0_send_7 : decode cX0_send 7 = .ok (.putfield 37, 3) := by decide +kernel
theorem dX0_send_10 : decode cX0_send 10 = .ok (.iconst 0, 1) := by decide +kernel
theorem dX0_send_11 : decode cX0_send 11 = .ok (.istore_n 1, 1) := by decide +kernel
theorem dX0_send_12 : decode cX0_send 12 = .ok (.iload_n 1, 1) := by decide +kernel
theorem dX0_send_13 : decode cX0_send 13 = .ok (.bipush 48, 2) := by decide +kernel
theorem dX0_send_15 : decode cX0_send 15 = .ok (.if_icmp .ge 16, 3) := by decide +kernel
theorem dX0_send_18 : decode cX0_send 18 = .ok (.aload_n 0, 1) := by decide +kernel
theorem dX0_send_19 : decode cX0_send 19 = .ok (.getfield 13, 3) := by decide +kernel
theorem dX0_send_22 : decode cX0_send 22 = .ok (.iload_n 1, 1) := by decide +kernel
theorem dX0_send_23 : decode cX0_send 23 = .ok (.iconst 0, 1) := by decide +kernel
theorem dX0_send_24 : decode cX0_send 24 = .ok (.iastore, 1) := by decide +kernel
theorem dX0_send_25 : decode cX0_send 25 = .ok (.iinc 1 1, 3) := by decide +kernel
theorem dX0_send_28 : decode cX0_send 28 = .ok (.goto (-16), 3) := by decide +kernel
theorem dX0_send_31 : decode cX0_send 31 = .ok (.aload_n 0, 1) := by decide +kernel
theorem dX0_send_32 : decode cX0_send 32 = .ok (.invokevirtual 41, 3) := by decide +kernel
theorem dX0_send_35 : decode cX0_send 35 = .ok (.iconst 0, 1) := by decide +kernel
theorem dX0_send_36 : decode cX0_send 36 = .ok (.istore_n 1, 1) := by decide +kernel
theorem dX0_send_37 : decode cX0_send 37 = .ok (.iload_n 1, 1) := by decide +kernel
theorem dX0_send_38 : decode cX0_send 38 = .ok (.bipush 81, 2) := by decide +kernel
theorem dX0_send_40 : decode cX0_send 40 = .ok (.if_icmp .ge 57, 3) := by decide +kernel
theorem dX0_send_43 : decode cX0_send 43 = .ok (.aload_n 0, 1) := by decide +kernel
theorem dX0_send_44 : decode cX0_send 44 = .ok (.aload_n 0, 1) := by decide +kernel
theorem dX0_send_45 : decode cX0_send 45 = .ok (.getfield 19, 3) := by decide +kernel
theorem dX0_send_48 : decode cX0_send 48 = .ok (.iload_n 1, 1) := by decide +kernel
theorem dX0_send_49 : decode cX0_send 49 = .ok (.iaload, 1) := by decide +kernel
theorem dX0_send_50 : decode cX0_send 50 = .ok (.iconst 1, 1) := by decide +kernel
theorem dX0_send_51 : decode cX0_send 51 = .ok (.invokevirtual 44, 3) := by decide +kernel
theorem dX0_send_54 : decode cX0_send 54 = .ok (.istore_n 2, 1) := by decide +kernel
theorem dX0_send_55 : decode cX0_send 55 = .ok (.aload_n 0, 1) := by decide +kernel
theorem dX0_send_56 : decode cX0_send 56 = .ok (.getfield 7, 3) := by decide +kernel
theorem dX0_send_59 : decode cX0_send 59 = .ok (.aload_n 0, 1) := by decide +kernel
theorem dX0_send_60 : decode cX0_send 60 = .ok (.getfield 19, 3) := by decide +kernel
theorem dX0_send_63 : decode cX0_send 63 = .ok (.iload_n 1, 1) := by decide +kernel
theorem dX0_send_64 : decode cX0_send 64 = .ok (.iaload, 1) := by decide +kernel
theorem dX0_send_65 : decode cX0_send 65 = .ok (.iaload, 1) := by decide +kernel
theorem dX0_send_66 : decode cX0_send 66 = .ok (.iload_n 2, 1) := by decide +kernel
theorem dX0_send_67 : decode cX0_send 67 = .ok (.isub, 1) := by decide +kernel
theorem dX0_send_68 : decode cX0_send 68 = .ok (.sipush 255, 3) := by decide +kernel
theorem dX0_send_71 : decode cX0_send 71 = .ok (.iand, 1) := by decide +kernel
theorem dX0_send_72 : decode cX0_send 72 = .ok (.istore_n 3, 1) := by decide +kernel
theorem dX0_send_73 : decode cX0_send 73 = .ok (.iload_n 3, 1) := by decide +kernel
theorem dX0_send_74 : decode cX0_send 74 = .ok (.invokestatic 48, 3) := by decide +kernel
theorem dX0_send_77 : decode cX0_send 77 = .ok (.istore 4, 2) := by decide +kernel
theorem dX0_send_79 : decode cX0_send 79 = .ok (.aload_n 0, 1) := by decide +kernel
theorem dX0_send_80 : decode cX0_send 80 = .ok (.iload 4, 2) := by decide +kernel
theorem dX0_send_82 : decode cX0_send 82 = .ok (.invokevirtual 52, 3) := by decide +kernel
theorem dX0_send_85 : decode cX0_send 85 = .ok (.aload_n 0, 1) := by decide +kernel
theorem dX0_send_86 : decode cX0_send 86 = .ok (.iload 4, 2) := by decide +kernel
theorem dX0_send_88 : decode cX0_send 88 = .ok (.invokevirtual 56, 3) := by decide +kernel
theorem dX0_send_91 : decode cX0_send 91 = .ok (.iinc 1 1, 3) := by decide +kernel
theorem dX0_send_94 : decode cX0_send 94 = .ok (.goto (-57), 3) := by decide +kernel
theorem dX0_send_97 : decode cX0_send 97 = .ok (.aload_n 0, 1) := by decide +kernel
theorem dX0_send_98 : decode cX0_send 98 = .ok (.iconst 0, 1) := by decide +kernel
theorem dX0_send_99 : decode cX0_send 99 = .ok (.putfield 59, 3) := by decide +kernel
theorem dX0_send_102 : decode cX0_send 102 = .ok (.aload_n 0, 1) := by decide +kernel
theorem dX0_send_103 : decode cX0_send 103 = .ok (.iconst 0, 1) := by decide +kernel
theorem dX0_send_104 : decode cX0_send 104 = .ok (.putfield 62, 3) := by decide +kernel
theorem dX0_send_107 : decode cX0_send 107 = .ok (.aload_n 0, 1) := by decide +kernel
theorem dX0_send_108 : decode cX0_send 108 = .ok (.invokevirtual 41, 3) := by decide +kernel
theorem dX0_send_111 : decode cX0_send 111 = .ok (.return_, 1) := by decide +kernel
end
section
set_option maxRecDepth 100000
theorem dX0_startWidth_0 : decode cX0_startWidth 0 = .ok (.aload_n 0, 1) := by decide +kernel
theorem dX0_startWidth_1 : decode cX0_startWidth 1 = .ok (.iconst 3, 1) := by decide +kernel
theorem dX0_startWidth_2 : decode cX0_startWidth 2 = .ok (.putfield 75, 3) := by decide +kernel
theorem dX0_startWidth_5 : decode cX0_startWidth 5 = .ok (.aload_n 0, 1) := by decide +kernel
theorem dX0_startWidth_6 : decode cX0_startWidth 6 = .ok (.iconst 0, 1) := by decide +kernel
theorem dX0_startWidth_7 : decode cX0_startWidth 7 = .ok (.putfield 78, 3) := by decide +kernel
theorem dX0_startWidth_10 : decode cX0_startWidth 10 = .ok (.return_, 1) := by decide +kernel
theorem dX0_foretell_0 : decode cX0_foretell 0 = .ok (.iload_n 1, 1) := by decide +kernel
theorem dX0_foretell_1 : decode cX0_foretell 1 = .ok (.bipush 9, 2) := by decide +kernel
theorem dX0_foretell_3 : decode cX0_foretell 3 = .ok (.irem, 1) := by decide +kernel
theorem dX0_foretell_4 : decode cX0_foretell 4 = .ok (.istore_n 3, 1) := by decide +kernel
theorem dX0_foretell_5 : decode cX0_foretell 5 = .ok (.iload_n 1, 1) := by decide +kernel
theorem dX0_foretell_6 : decode cX0_foretell 6 = .ok (.bipush 9, 2) := by decide +kernel
theorem dX0_foretell_8 : decode cX0_foretell 8 = .ok (.idiv, 1) := by decide +kernel
theorem dX0_foretell_9 : decode cX0_foretell 9 = .ok (.istore 4, 2) := by decide +kernel
theorem dX0_foretell_11 : decode cX0_foretell 11 = .ok (.iload_n 3, 1) := by decide +kernel
theorem dX0_foretell_12 : decode cX0_foretell 12 = .ok (.iload 4, 2) := by decide +kernel
theorem dX0_foretell_14 : decode cX0_foretell 14 = .ok (.invokestatic 25, 3) := by decide +kernel
theorem dX0_foretell_17 : decode cX0_foretell 17 = .ok (.istore 5, 2) := by decide +kernel
theorem dX0_foretell_19 : decode cX0_foretell 19 = .ok (.iload 5, 2) := by decide +kernel
theorem dX0_foretell_21 : decode cX0_foretell 21 = .ok (.bipush 8, 2) := by decide +kernel
theorem dX0_foretell_23 : decode cX0_foretell 23 = .ok (.if_icmp .ne 37, 3) := by decide +kernel
theorem dX0_foretell_26 : decode cX0_foretell 26 = .ok (.aload_n 0, 1) := by decide +kernel
theorem dX0_foretell_27 : decode cX0_foretell 27 = .ok (.getfield 22, 3) := by decide +kernel
theorem dX0_foretell_30 : decode cX0_foretell 30 = .ok (.iload_n 1, 1) := by decide +kernel
theorem dX0_foretell_31 : decode cX0_foretell 31 = .ok (.iaload, 1) := by decide +kernel
theorem dX0_foretell_32 : decode cX0_foretell 32 = .ok (.ifCond .ne 9, 3) := by decide +kernel
theorem dX0_foretell_35 : decode cX0_foretell 35 = .ok (.sipush 128, 3) := by decide +kernel
theorem dX0_foretell_38 : decode cX0_foretell 38 = .ok (.goto 21, 3) := by decide +kernel
theorem dX0_foretell_41 : decode cX0_foretell 41 = .ok (.aload_n 0, 1) := by decide +kernel
theorem dX0_foretell_42 : decode cX0_foretell 42 = .ok (.aload_n 0, 1) := by decide +kernel
theorem dX0_foretell_43 : decode cX0_foretell 43 = .ok (.getfield 19, 3) := by decide +kernel
theorem dX0_foretell_46 : decode cX0_foretell 46 = .ok (.aload_n 0, 1) := by decide +kernel
theorem dX0_foretell_47 : decode cX0_foretell 47 = .ok (.getfield 22, 3) := by decide +kernel
theorem dX0_foretell_50 : decode cX0_foretell 50 = .ok (.iload_n 1, 1) := by decide +kernel
theorem dX0_foretell_51 : decode cX0_foretell 51 = .ok (.iaload, 1) := by decide +kernel
theorem dX0_foretell_52 : decode cX0_foretell 52 = .ok (.iconst 1, 1) := by decide +kernel
theorem dX0_foretell_53 : decode cX0_foretell 53 = .ok (.isub, 1) := by decide +kernel
theorem dX0_foretell_54 : decode cX0_foretell 54 = .ok (.iaload, 1) := by decide +kernel
theorem dX0_foretell_55 : decode cX0_foretell 55 = .ok (.iload_n 2, 1) := by decide +kernel
theorem dX0_foretell_56 : decode cX0_foretell 56 = .ok (.invokevirtual 72, 3) := by decide +kernel
theorem dX0_foretell_59 : decode cX0_foretell 59 = .ok (.ireturn, 1) := by decide +kernel
theorem dX0_foretell_60 : decode cX0_foretell 60 = .ok (.iload_n 3, 1) := by decide +kernel
theorem dX0_foretell_61 : decode cX0_foretell 61 = .ok (.iconst 2, 1) := by decide +kernel
theorem dX0_foretell_62 : decode cX0_foretell 62 = .ok (.iload 5, 2) := by decide +kernel
theorem dX0_foretell_64 : decode cX0_foretell 64 = .ok (.imul, 1) := by decide +kernel
theorem dX0_foretell_65 : decode cX0_foretell 65 = .ok (.irem, 1) := by decide +kernel
theorem dX0_foretell_66 : decode cX0_foretell 66 = .ok (.ifCond .eq 7, 3) := by decide +kernel
theorem dX0_foretell_69 : decode cX0_foretell 69 = .ok (.iconst 1, 1) := by decide +kernel
theorem dX0_foretell_70 : decode cX0_foretell 70 = .ok (.goto 4, 3) := by decide +kernel
theorem dX0_foretell_73 : decode cX0_foretell 73 = .ok (.iconst 0, 1) := by decide +kernel
theorem dX0_foretell_74 : decode cX0_foretell 74 = .ok (.istore 6, 2) := by decide +kernel
theorem dX0_foretell_76 : decode cX0_foretell 76 = .ok (.iload 4, 2) := by decide +kernel
theorem dX0_foretell_78 : decode cX0_foretell 78 = .ok (.iconst 2, 1) := by decide +kernel
theorem dX0_foretell_79 : decode cX0_foretell 79 = .ok (.iload 5, 2) := by decide +kernel
theorem dX0_foretell_81 : decode cX0_foretell 81 = .ok (.imul, 1) := by decide +kernel
theorem dX0_foretell_82 : decode cX0_foretell 82 = .ok (.irem, 1) := by decide +kernel
theorem dX0_foretell_83 : decode cX0_foretell 83 = .ok (.ifCond .eq 7, 3) := by decide +kernel
theorem dX0_foretell_86 : decode cX0_foretell 86 = .ok (.iconst 1, 1) := by decide +kernel
theorem dX0_foretell_87 : decode cX0_foretell 87 = .ok (.goto 4, 3) := by decide +kernel
theorem dX0_foretell_90 : decode cX0_foretell 90 = .ok (.iconst 0, 1) := by decide +kernel
theorem dX0_foretell_91 : decode cX0_foretell 91 = .ok (.istore 7, 2) := by decide +kernel
theorem dX0_foretell_93 : decode cX0_foretell 93 = .ok (.iload 6, 2) := by decide +kernel
theorem dX0_foretell_95 : decode cX0_foretell 95 = .ok (.ifCond .eq 84, 3) := by decide +kernel
theorem dX0_foretell_98 : decode cX0_foretell 98 = .ok (.iload 7, 2) := by decide +kernel
theorem dX0_foretell_100 : decode cX0_foretell 100 = .ok (.ifCond .eq 79, 3) := by decide +kernel
theorem dX0_foretell_103 : decode cX0_foretell 103 = .ok (.aload_n 0, 1) := by decide +kernel
theorem dX0_foretell_104 : decode cX0_foretell 104 = .ok (.iload_n 1, 1) := by decide +kernel
theorem dX0_foretell_105 : decode cX0_foretell 105 = .ok (.bipush 9, 2) := by decide +kernel
theorem dX0_foretell_107 : decode cX0_foretell 107 = .ok (.iload 5, 2) := by decide +kernel
theorem dX0_foretell_109 : decode cX0_foretell 109 = .ok (.imul, 1) := by decide +kernel
theorem dX0_foretell_110 : decode cX0_foretell 110 = .ok (.isub, 1) := by decide +kernel
theorem dX0_foretell_111 : decode cX0_foretell 111 = .ok (.iload 5, 2) := by decide +kernel
theorem dX0_foretell_113 : decode cX0_foretell 113 = .ok (.isub, 1) := by decide +kernel
theorem dX0_foretell_114 : decode cX0_foretell 114 = .ok (.iload_n 2, 1) := by decide +kernel
theorem dX0_foretell_115 : decode cX0_foretell 115 = .ok (.invokevirtual 72, 3) := by decide +kernel
theorem dX0_foretell_118 : decode cX0_foretell 118 = .ok (.aload_n 0, 1) := by decide +kernel
theorem dX0_foretell_119 : decode cX0_foretell 119 = .ok (.iload_n 1, 1) := by decide +kernel
theorem dX0_foretell_120 : decode cX0_foretell 120 = .ok (.bipush 9, 2) := by decide +kernel
theorem dX0_foretell_122 : decode cX0_foretell 122 = .ok (.iload 5, 2) := by decide +kernel
theorem dX0_foretell_124 : decode cX0_foretell 124 = .ok (.imul, 1) := by decide +kernel
theorem dX0_foretell_125 : decode cX0_foretell 125 = .ok (.isub, 1) := by decide +kernel
theorem dX0_foretell_126 : decode cX0_foretell 126 = .ok (.iload 5, 2) := by decide +kernel
theorem dX0_foretell_128 : decode cX0_foretell 128 = .ok (.iadd, 1) := by decide +kernel
theorem dX0_foretell_129 : decode cX0_foretell 129 = .ok (.iload_n 2, 1) := by decide +kernel
theorem dX0_foretell_130 : decode cX0_foretell 130 = .ok (.invokevirtual 72, 3) := by decide +kernel
theorem dX0_foretell_133 : decode cX0_foretell 133 = .ok (.iadd, 1) := by decide +kernel
theorem dX0_foretell_134 : decode cX0_foretell 134 = .ok (.istore 8, 2) := by decide +kernel
theorem dX0_foretell_136 : decode cX0_foretell 136 = .ok (.aload_n 0, 1) := by decide +kernel
theorem dX0_foretell_137 : decode cX0_foretell 137 = .ok (.iload_n 1, 1) := by decide +kernel
theorem dX0_foretell_138 : decode cX0_foretell 138 = .ok (.bipush 9, 2) := by decide +kernel
theorem dX0_foretell_140 : decode cX0_foretell 140 = .ok (.iload 5, 2) := by decide +kernel
theorem dX0_foretell_142 : decode cX0_foretell 142 = .ok (.imul, 1) := by decide +kernel
theorem dX0_foretell_143 : decode cX0_foretell 143 = .ok (.iadd, 1) := by decide +kernel
theorem dX0_foretell_144 : decode cX0_foretell 144 = .ok (.iload 5, 2) := by decide +kernel
theorem dX0_foretell_146 : decode cX0_foretell 146 = .ok (.isub, 1) := by decide +kernel
theorem dX0_foretell_147 : decode cX0_foretell 147 = .ok (.iload_n 2, 1) := by decide +kernel
theorem dX0_foretell_148 : decode cX0_foretell 148 = .ok (.invokevirtual 72, 3) := by decide +kernel
theorem dX0_foretell_151 : decode cX0_foretell 151 = .ok (.aload_n 0, 1) := by decide +kernel
theorem dX0_foretell_152 : decode cX0_foretell 152 = .ok (.iload_n 1, 1) := by decide +kernel
theorem dX0_foretell_153 : decode cX0_foretell 153 = .ok (.bipush 9, 2) := by decide +kernel
theorem dX0_foretell_155 : decode cX0_foretell 155 = .ok (.iload 5, 2) := by decide +kernel
theorem dX0_foretell_157 : decode cX0_foretell 157 = .ok (.imul, 1) := by decide +kernel
theorem dX0_foretell_158 : decode cX0_foretell 158 = .ok (.iadd, 1) := by decide +kernel
theorem dX0_foretell_159 : decode cX0_foretell 159 = .ok (.iload 5, 2) := by decide +kernel
theorem dX0_foretell_161 : decode cX0_foretell 161 = .ok (.iadd, 1) := by decide +kernel
theorem dX0_foretell_162 : decode cX0_foretell 162 = .ok (.iload_n 2, 1) := by decide +kernel
theorem dX0_foretell_163 : decode cX0_foretell 163 = .ok (.invokevirtual 72, 3) := by decide +kernel
theorem dX0_foretell_166 : decode cX0_foretell 166 = .ok (.iadd, 1) := by decide +kernel
theorem dX0_foretell_167 : decode cX0_foretell 167 = .ok (.istore 9, 2) := by decide +kernel
theorem dX0_foretell_169 : decode cX0_foretell 169 = .ok (.iload 8, 2) := by decide +kernel
theorem dX0_foretell_171 : decode cX0_foretell 171 = .ok (.iload 9, 2) := by decide +kernel
theorem dX0_foretell_173 : decode cX0_foretell 173 = .ok (.iadd, 1) := by decide +kernel
theorem dX0_foretell_174 : decode cX0_foretell 174 = .ok (.iconst 2, 1) := by decide +kernel
theorem dX0_foretell_175 : decode cX0_foretell 175 = .ok (.iadd, 1) := by decide +kernel
theorem dX0_foretell_176 : decode cX0_foretell 176 = .ok (.iconst 4, 1) := by decide +kernel
theorem dX0_foretell_177 : decode cX0_foretell 177 = .ok (.idiv, 1) := by decide +kernel
theorem dX0_foretell_178 : decode cX0_foretell 178 = .ok (.ireturn, 1) := by decide +kernel
theorem dX0_foretell_179 : decode cX0_foretell 179 = .ok (.iload 6, 2) := by decide +kernel
theorem dX0_foretell_181 : decode cX0_foretell 181 = .ok (.ifCond .eq 8, 3) := by decide +kernel
theorem dX0_foretell_184 : decode cX0_foretell 184 = .ok (.iload 5, 2) := by decide +kernel
theorem dX0_foretell_186 : decode cX0_foretell 186 = .ok (.goto 8, 3) := by decide +kernel
theorem dX0_foretell_189 : decode cX0_foretell 189 = .ok (.bipush 9, 2) := by decide +kernel
theorem dX0_foretell_191 : decode cX0_foretell 191 = .ok (.iload 5, 2) := by decide +kernel
theorem dX0_foretell_193 : decode cX0_foretell 193 = .ok (.imul, 1) := by decide +kernel
theorem dX0_foretell_194 : decode cX0_foretell 194 = .ok (.istore 8, 2) := by decide +kernel
theorem dX0_foretell_196 : decode cX0_foretell 196 = .ok (.aload_n 0, 1) := by decide +kernel
theorem dX0_foretell_197 : decode cX0_foretell 197 = .ok (.iload_n 1, 1) := by decide +kernel
theorem dX0_foretell_198 : decode cX0_foretell 198 = .ok (.iload 8, 2) := by decide +kernel
theorem dX0_foretell_200 : decode cX0_foretell 200 = .ok (.isub, 1) := by decide +kernel
theorem dX0_foretell_201 : decode cX0_foretell 201 = .ok (.iload_n 2, 1) := by decide +kernel
theorem dX0_foretell_202 : decode cX0_foretell 202 = .ok (.invokevirtual 72, 3) := by decide +kernel
theorem dX0_foretell_205 : decode cX0_foretell 205 = .ok (.aload_n 0, 1) := by decide +kernel
theorem dX0_foretell_206 : decode cX0_foretell 206 = .ok (.iload_n 1, 1) := by decide +kernel
theorem dX0_foretell_207 : decode cX0_foretell 207 = .ok (.iload 8, 2) := by decide +kernel
theorem dX0_foretell_209 : decode cX0_foretell 209 = .ok (.iadd, 1) := by decide +kernel
theorem dX0_foretell_210 : decode cX0_foretell 210 = .ok (.iload_n 2, 1) := by decide +kernel
theorem dX0_foretell_211 : decode cX0_foretell 211 = .ok (.invokevirtual 72, 3) := by decide +kernel
theorem dX0_foretell_214 : decode cX0_foretell 214 = .ok (.iadd, 1) := by decide +kernel
theorem dX0_foretell_215 : decode cX0_foretell 215 = .ok (.iconst 1, 1) := by decide +kernel
theorem dX0_foretell_216 : decode cX0_foretell 216 = .ok (.iadd, 1) := by decide +kernel
theorem dX0_foretell_217 : decode cX0_foretell 217 = .ok (.iconst 2, 1) := by decide +kernel
theorem dX0_foretell_218 : decode cX0_foretell 218 = .ok (.idiv, 1) := by decide +kernel
theorem dX0_foretell_219 : decode cX0_foretell 219 = .ok (.ireturn, 1) := by decide +kernel
theorem dX0_pixelFor_0 : decode cX0_pixelFor 0 = .ok (.iload_n 2, 1) := by decide +kernel
theorem dX0_pixelFor_1 : decode cX0_pixelFor 1 = .ok (.ifCond .eq 12, 3) := by decide +kernel
theorem dX0_pixelFor_4 : decode cX0_pixelFor 4 = .ok (.aload_n 0, 1) := by decide +kernel
theorem dX0_pixelFor_5 : decode cX0_pixelFor 5 = .ok (.getfield 7, 3) := by decide +kernel
theorem dX0_pixelFor_8 : decode cX0_pixelFor 8 = .ok (.iload_n 1, 1) := by decide +kernel
theorem dX0_pixelFor_9 : decode cX0_pixelFor 9 = .ok (.iaload, 1) := by decide +kernel
theorem dX0_pixelFor_10 : decode cX0_pixelFor 10 = .ok (.goto 9, 3) := by decide +kernel
theorem dX0_pixelFor_13 : decode cX0_pixelFor 13 = .ok (.aload_n 0, 1) := by decide +kernel
theorem dX0_pixelFor_14 : decode cX0_pixelFor 14 = .ok (.getfield 16, 3) := by decide +kernel
theorem dX0_pixelFor_17 : decode cX0_pixelFor 17 = .ok (.iload_n 1, 1) := by decide +kernel
theorem dX0_pixelFor_18 : decode cX0_pixelFor 18 = .ok (.iaload, 1) := by decide +kernel
theorem dX0_pixelFor_19 : decode cX0_pixelFor 19 = .ok (.ireturn, 1) := by decide +kernel
theorem dX0_fold_0 : decode cX0_fold 0 = .ok (.iload_n 0, 1) := by decide +kernel
theorem dX0_fold_1 : decode cX0_fold 1 = .ok (.sipush 128, 3) := by decide +kernel
theorem dX0_fold_4 : decode cX0_fold 4 = .ok (.if_icmp .ge 9, 3) := by decide +kernel
theorem dX0_fold_7 : decode cX0_fold 7 = .ok (.iconst 2, 1) := by decide +kernel
theorem dX0_fold_8 : decode cX0_fold 8 = .ok (.iload_n 0, 1) := by decide +kernel
theorem dX0_fold_9 : decode cX0_fold 9 = .ok (.imul, 1) := by decide +kernel
theorem dX0_fold_10 : decode cX0_fold 10 = .ok (.goto 12, 3) := by decide +kernel
theorem dX0_fold_13 : decode cX0_fold 13 = .ok (.iconst 2, 1) := by decide +kernel
theorem dX0_fold_14 : decode cX0_fold 14 = .ok (.sipush 255, 3) := by decide +kernel
theorem dX0_fold_17 : decode cX0_fold 17 = .ok (.iload_n 0, 1) := by decide +kernel
theorem dX0_fold_18 : decode cX0_fold 18 = .ok (.isub, 1) := by decide +kernel
theorem dX0_fold_19 : decode cX0_fold 19 = .ok (.imul, 1) := by decide +kernel
theorem dX0_fold_20 : decode cX0_fold 20 = .ok (.iconst 1, 1) := by decide +kernel
theorem dX0_fold_21 : decode cX0_fold 21 = .ok (.iadd, 1) := by decide +kernel
theorem dX0_fold_22 : decode cX0_fold 22 = .ok (.ireturn, 1) := by decide +kernel
theorem dX0_writeCode_0 : decode cX0_writeCode 0 = .ok (.iload_n 1, 1) := by decide +kernel
theorem dX0_writeCode_1 : decode cX0_writeCode 1 = .ok (.aload_n 0, 1) := by decide +kernel
theorem dX0_writeCode_2 : decode cX0_writeCode 2 = .ok (.getfield 75, 3) := by decide +kernel
theorem dX0_writeCode_5 : decode cX0_writeCode 5 = .ok (.ishr, 1) := by decide +kernel
theorem dX0_writeCode_6 : decode cX0_writeCode 6 = .ok (.istore_n 2, 1) := by decide +kernel
theorem dX0_writeCode_7 : decode cX0_writeCode 7 = .ok (.iconst 0, 1) := by decide +kernel
theorem dX0_writeCode_8 : decode cX0_writeCode 8 = .ok (.istore_n 3, 1) := by decide +kernel
theorem dX0_writeCode_9 : decode cX0_writeCode 9 = .ok (.iload_n 3, 1) := by decide +kernel
theorem dX0_writeCode_10 : decode cX0_writeCode 10 = .ok (.bipush 8, 2) := by decide +kernel
theorem dX0_writeCode_12 : decode cX0_writeCode 12 = .ok (.if_icmp .ge 19, 3) := by decide +kernel
theorem dX0_writeCode_15 : decode cX0_writeCode 15 = .ok (.iload_n 3, 1) := by decide +kernel
theorem dX0_writeCode_16 : decode cX0_writeCode 16 = .ok (.iload_n 2, 1) := by decide +kernel
theorem dX0_writeCode_17 : decode cX0_writeCode 17 = .ok (.if_icmp .ge 14, 3) := by decide +kernel
theorem dX0_writeCode_20 : decode cX0_writeCode 20 = .ok (.aload_n 0, 1) := by decide +kernel
theorem dX0_writeCode_21 : decode cX0_writeCode 21 = .ok (.iconst 1, 1) := by decide +kernel
theorem dX0_writeCode_22 : decode cX0_writeCode 22 = .ok (.invokevirtual 81, 3) := by decide +kernel
theorem dX0_writeCode_25 : decode cX0_writeCode 25 = .ok (.iinc 3 1, 3) := by decide +kernel
theorem dX0_writeCode_28 : decode cX0_writeCode 28 = .ok (.goto (-19), 3) := by decide +kernel
theorem dX0_writeCode_31 : decode cX0_writeCode 31 = .ok (.iload_n 2, 1) := by decide +kernel
theorem dX0_writeCode_32 : decode cX0_writeCode 32 = .ok (.bipush 8, 2) := by decide +kernel
theorem dX0_writeCode_34 : decode cX0_writeCode 34 = .ok (.if_icmp .lt 13, 3) := by decide +kernel
theorem dX0_writeCode_37 : decode cX0_writeCode 37 = .ok (.aload_n 0, 1) := by decide +kernel
theorem dX0_writeCode_38 : decode cX0_writeCode 38 = .ok (.iload_n 1, 1) := by decide +kernel
theorem dX0_writeCode_39 : decode cX0_writeCode 39 = .ok (.bipush 8, 2) := by decide +kernel
theorem dX0_writeCode_41 : decode cX0_writeCode 41 = .ok (.invokevirtual 84, 3) := by decide +kernel
theorem dX0_writeCode_44 : decode cX0_writeCode 44 = .ok (.goto 26, 3) := by decide +kernel
theorem dX0_writeCode_47 : decode cX0_writeCode 47 = .ok (.aload_n 0, 1) := by decide +kernel
theorem dX0_writeCode_48 : decode cX0_writeCode 48 = .ok (.iconst 0, 1) := by decide +kernel
theorem dX0_writeCode_49 : decode cX0_writeCode 49 = .ok (.invokevirtual 81, 3) := by decide +kernel
theorem dX0_writeCode_52 : decode cX0_writeCode 52 = .ok (.aload_n 0, 1) := by decide +kernel
theorem dX0_writeCode_53 : decode cX0_writeCode 53 = .ok (.iload_n 1, 1) := by decide +kernel
theorem dX0_writeCode_54 : decode cX0_writeCode 54 = .ok (.iconst 1, 1) := by decide +kernel
theorem dX0_writeCode_55 : decode cX0_writeCode 55 = .ok (.aload_n 0, 1) := by decide +kernel
theorem dX0_writeCode_56 : decode cX0_writeCode 56 = .ok (.getfield 75, 3) := by decide +kernel
theorem dX0_writeCode_59 : decode cX0_writeCode 59 = .ok (.ishl, 1) := by decide +kernel
theorem dX0_writeCode_60 : decode cX0_writeCode 60 = .ok (.iconst 1, 1) := by decide +kernel
theorem dX0_writeCode_61 : decode cX0_writeCode 61 = .ok (.isub, 1) := by decide +kernel
theorem dX0_writeCode_62 : decode cX0_writeCode 62 = .ok (.iand, 1) := by decide +kernel
theorem dX0_writeCode_63 : decode cX0_writeCode 63 = .ok (.aload_n 0, 1) := by decide +kernel
theorem dX0_writeCode_64 : decode cX0_writeCode 64 = .ok (.getfield 75, 3) := by decide +kernel
theorem dX0_writeCode_67 : decode cX0_writeCode 67 = .ok (.invokevirtual 84, 3) := by decide +kernel
theorem dX0_writeCode_70 : decode cX0_writeCode 70 = .ok (.return_, 1) := by decide +kernel
end
section
set_option maxRecDepth 100000
theorem dX0_writeBit_0 : decode cX0_writeBit 0 = .ok (.aload_n 0, 1) := by decide +kernel
theorem dX0_writeBit_1 : decode cX0_writeBit 1 = .ok (.getfield 13, 3) := by decide +kernel
theorem dX0_writeBit_4 : decode cX0_writeBit 4 = .ok (.aload_n 0, 1) := by decide +kernel
theorem dX0_writeBit_5 : decode cX0_writeBit 5 = .ok (.getfield 37, 3) := by decide +kernel
theorem dX0_writeBit_8 : decode cX0_writeBit 8 = .ok (.iconst 5, 1) := by decide +kernel
theorem dX0_writeBit_9 : decode cX0_writeBit 9 = .ok (.ishr, 1) := by decide +kernel
theorem dX0_writeBit_10 : decode cX0_writeBit 10 = .ok (.dup2, 1) := by decide +kernel
theorem dX0_writeBit_11 : decode cX0_writeBit 11 = .ok (.iaload, 1) := by decide +kernel
theorem dX0_writeBit_12 : decode cX0_writeBit 12 = .ok (.iload_n 1, 1) := by decide +kernel
theorem dX0_writeBit_13 : decode cX0_writeBit 13 = .ok (.aload_n 0, 1) := by decide +kernel
theorem dX0_writeBit_14 : decode cX0_writeBit 14 = .ok (.getfield 37, 3) := by decide +kernel
theorem dX0_writeBit_17 : decode cX0_writeBit 17 = .ok (.bipush 31, 2) := by decide +kernel
theorem dX0_writeBit_19 : decode cX0_writeBit 19 = .ok (.iand, 1) := by decide +kernel
theorem dX0_writeBit_20 : decode cX0_writeBit 20 = .ok (.ishl, 1) := by decide +kernel
theorem dX0_writeBit_21 : decode cX0_writeBit 21 = .ok (.ior, 1) := by decide +kernel
theorem dX0_writeBit_22 : decode cX0_writeBit 22 = .ok (.iastore, 1) := by decide +kernel
theorem dX0_writeBit_23 : decode cX0_writeBit 23 = .ok (.aload_n 0, 1) := by decide +kernel
theorem dX0_writeBit_24 : decode cX0_writeBit 24 = .ok (.dup, 1) := by decide +kernel
theorem dX0_writeBit_25 : decode cX0_writeBit 25 = .ok (.getfield 37, 3) := by decide +kernel
theorem dX0_writeBit_28 : decode cX0_writeBit 28 = .ok (.iconst 1, 1) := by decide +kernel
theorem dX0_writeBit_29 : decode cX0_writeBit 29 = .ok (.iadd, 1) := by decide +kernel
theorem dX0_writeBit_30 : decode cX0_writeBit 30 = .ok (.putfield 37, 3) := by decide +kernel
theorem dX0_writeBit_33 : decode cX0_writeBit 33 = .ok (.return_, 1) := by decide +kernel
theorem dX0_writeBits_0 : decode cX0_writeBits 0 = .ok (.iload_n 2, 1) := by decide +kernel
theorem dX0_writeBits_1 : decode cX0_writeBits 1 = .ok (.iconst 1, 1) := by decide +kernel
theorem dX0_writeBits_2 : decode cX0_writeBits 2 = .ok (.isub, 1) := by decide +kernel
theorem dX0_writeBits_3 : decode cX0_writeBits 3 = .ok (.istore_n 3, 1) := by decide +kernel
theorem dX0_writeBits_4 : decode cX0_writeBits 4 = .ok (.iload_n 3, 1) := by decide +kernel
theorem dX0_writeBits_5 : decode cX0_writeBits 5 = .ok (.ifCond .lt 18, 3) := by decide +kernel
theorem dX0_writeBits_8 : decode cX0_writeBits 8 = .ok (.aload_n 0, 1) := by decide +kernel
theorem dX0_writeBits_9 : decode cX0_writeBits 9 = .ok (.iload_n 1, 1) := by decide +kernel
theorem dX0_writeBits_10 : decode cX0_writeBits 10 = .ok (.iload_n 3, 1) := by decide +kernel
theorem dX0_writeBits_11 : decode cX0_writeBits 11 = .ok (.iushr, 1) := by decide +kernel
theorem dX0_writeBits_12 : decode cX0_writeBits 12 = .ok (.iconst 1, 1) := by decide +kernel
theorem dX0_writeBits_13 : decode cX0_writeBits 13 = .ok (.iand, 1) := by decide +kernel
theorem dX0_writeBits_14 : decode cX0_writeBits 14 = .ok (.invokevirtual 81, 3) := by decide +kernel
theorem dX0_writeBits_17 : decode cX0_writeBits 17 = .ok (.iinc 3 (-1), 3) := by decide +kernel
theorem dX0_writeBits_20 : decode cX0_writeBits 20 = .ok (.goto (-16), 3) := by decide +kernel
theorem dX0_writeBits_23 : decode cX0_writeBits 23 = .ok (.return_, 1) := by decide +kernel
theorem dX0_adapt_0 : decode cX0_adapt 0 = .ok (.iload_n 1, 1) := by decide +kernel
theorem dX0_adapt_1 : decode cX0_adapt 1 = .ok (.aload_n 0, 1) := by decide +kernel
theorem dX0_adapt_2 : decode cX0_adapt 2 = .ok (.getfield 75, 3) := by decide +kernel
theorem dX0_adapt_5 : decode cX0_adapt 5 = .ok (.ishr, 1) := by decide +kernel
theorem dX0_adapt_6 : decode cX0_adapt 6 = .ok (.iconst 1, 1) := by decide +kernel
theorem dX0_adapt_7 : decode cX0_adapt 7 = .ok (.if_icmp .le 16, 3) := by decide +kernel
theorem dX0_adapt_10 : decode cX0_adapt 10 = .ok (.aload_n 0, 1) := by decide +kernel
theorem dX0_adapt_11 : decode cX0_adapt 11 = .ok (.dup, 1) := by decide +kernel
theorem dX0_adapt_12 : decode cX0_adapt 12 = .ok (.getfield 78, 3) := by decide +kernel
theorem dX0_adapt_15 : decode cX0_adapt 15 = .ok (.iconst 2, 1) := by decide +kernel
theorem dX0_adapt_16 : decode cX0_adapt 16 = .ok (.iadd, 1) := by decide +kernel
theorem dX0_adapt_17 : decode cX0_adapt 17 = .ok (.putfield 78, 3) := by decide +kernel
theorem dX0_adapt_20 : decode cX0_adapt 20 = .ok (.goto 24, 3) := by decide +kernel
theorem dX0_adapt_23 : decode cX0_adapt 23 = .ok (.iload_n 1, 1) := by decide +kernel
theorem dX0_adapt_24 : decode cX0_adapt 24 = .ok (.iconst 1, 1) := by decide +kernel
theorem dX0_adapt_25 : decode cX0_adapt 25 = .ok (.ishl, 1) := by decide +kernel
theorem dX0_adapt_26 : decode cX0_adapt 26 = .ok (.aload_n 0, 1) := by decide +kernel
theorem dX0_adapt_27 : decode cX0_adapt 27 = .ok (.getfield 75, 3) := by decide +kernel
theorem dX0_adapt_30 : decode cX0_adapt 30 = .ok (.ishr, 1) := by decide +kernel
theorem dX0_adapt_31 : decode cX0_adapt 31 = .ok (.ifCond .ne 13, 3) := by decide +kernel
theorem dX0_adapt_34 : decode cX0_adapt 34 = .ok (.aload_n 0, 1) := by decide +kernel
theorem dX0_adapt_35 : decode cX0_adapt 35 = .ok (.dup, 1) := by decide +kernel
theorem dX0_adapt_36 : decode cX0_adapt 36 = .ok (.getfield 78, 3) := by decide +kernel
theorem dX0_adapt_39 : decode cX0_adapt 39 = .ok (.iconst 1, 1) := by decide +kernel
theorem dX0_adapt_40 : decode cX0_adapt 40 = .ok (.isub, 1) := by decide +kernel
theorem dX0_adapt_41 : decode cX0_adapt 41 = .ok (.putfield 78, 3) := by decide +kernel
theorem dX0_adapt_44 : decode cX0_adapt 44 = .ok (.aload_n 0, 1) := by decide +kernel
theorem dX0_adapt_45 : decode cX0_adapt 45 = .ok (.getfield 78, 3) := by decide +kernel
theorem dX0_adapt_48 : decode cX0_adapt 48 = .ok (.iconst 4, 1) := by decide +kernel
theorem dX0_adapt_49 : decode cX0_adapt 49 = .ok (.if_icmp .lt 30, 3) := by decide +kernel
theorem dX0_adapt_52 : decode cX0_adapt 52 = .ok (.aload_n 0, 1) := by decide +kernel
theorem dX0_adapt_53 : decode cX0_adapt 53 = .ok (.getfield 75, 3) := by decide +kernel
theorem dX0_adapt_56 : decode cX0_adapt 56 = .ok (.bipush 6, 2) := by decide +kernel
theorem dX0_adapt_58 : decode cX0_adapt 58 = .ok (.if_icmp .ge 21, 3) := by decide +kernel
theorem dX0_adapt_61 : decode cX0_adapt 61 = .ok (.aload_n 0, 1) := by decide +kernel
theorem dX0_adapt_62 : decode cX0_adapt 62 = .ok (.dup, 1) := by decide +kernel
theorem dX0_adapt_63 : decode cX0_adapt 63 = .ok (.getfield 75, 3) := by decide +kernel
theorem dX0_adapt_66 : decode cX0_adapt 66 = .ok (.iconst 1, 1) := by decide +kernel
theorem dX0_adapt_67 : decode cX0_adapt 67 = .ok (.iadd, 1) := by decide +kernel
theorem dX0_adapt_68 : decode cX0_adapt 68 = .ok (.putfield 75, 3) := by decide +kernel
theorem dX0_adapt_71 : decode cX0_adapt 71 = .ok (.aload_n 0, 1) := by decide +kernel
theorem dX0_adapt_72 : decode cX0_adapt 72 = .ok (.iconst 0, 1) := by decide +kernel
theorem dX0_adapt_73 : decode cX0_adapt 73 = .ok (.putfield 78, 3) := by decide +kernel
theorem dX0_adapt_76 : decode cX0_adapt 76 = .ok (.goto 34, 3) := by decide +kernel
theorem dX0_adapt_79 : decode cX0_adapt 79 = .ok (.aload_n 0, 1) := by decide +kernel
theorem dX0_adapt_80 : decode cX0_adapt 80 = .ok (.getfield 78, 3) := by decide +kernel
theorem dX0_adapt_83 : decode cX0_adapt 83 = .ok (.bipush (-4), 2) := by decide +kernel
theorem dX0_adapt_85 : decode cX0_adapt 85 = .ok (.if_icmp .gt 25, 3) := by decide +kernel
theorem dX0_adapt_88 : decode cX0_adapt 88 = .ok (.aload_n 0, 1) := by decide +kernel
theorem dX0_adapt_89 : decode cX0_adapt 89 = .ok (.getfield 75, 3) := by decide +kernel
theorem dX0_adapt_92 : decode cX0_adapt 92 = .ok (.ifCond .le 18, 3) := by decide +kernel
theorem dX0_adapt_95 : decode cX0_adapt 95 = .ok (.aload_n 0, 1) := by decide +kernel
theorem dX0_adapt_96 : decode cX0_adapt 96 = .ok (.dup, 1) := by decide +kernel
theorem dX0_adapt_97 : decode cX0_adapt 97 = .ok (.getfield 75, 3) := by decide +kernel
theorem dX0_adapt_100 : decode cX0_adapt 100 = .ok (.iconst 1, 1) := by decide +kernel
theorem dX0_adapt_101 : decode cX0_adapt 101 = .ok (.isub, 1) := by decide +kernel
theorem dX0_adapt_102 : decode cX0_adapt 102 = .ok (.putfield 75, 3) := by decide +kernel
theorem dX0_adapt_105 : decode cX0_adapt 105 = .ok (.aload_n 0, 1) := by decide +kernel
theorem dX0_adapt_106 : decode cX0_adapt 106 = .ok (.iconst 0, 1) := by decide +kernel
theorem dX0_adapt_107 : decode cX0_adapt 107 = .ok (.putfield 78, 3) := by decide +kernel
theorem dX0_adapt_110 : decode cX0_adapt 110 = .ok (.return_, 1) := by decide +kernel
theorem dX0_receive_0 : decode cX0_receive 0 = .ok (.aload_n 0, 1) := by decide +kernel
theorem dX0_receive_1 : decode cX0_receive 1 = .ok (.getfield 33, 3) := by decide +kernel
theorem dX0_receive_4 : decode cX0_receive 4 = .ok (.ifCond .ne 5, 3) := by decide +kernel
theorem dX0_receive_7 : decode cX0_receive 7 = .ok (.iconst (-1), 1) := by decide +kernel
theorem dX0_receive_8 : decode cX0_receive 8 = .ok (.ireturn, 1) := by decide +kernel
theorem dX0_receive_9 : decode cX0_receive 9 = .ok (.iconst 0, 1) := by decide +kernel
theorem dX0_receive_10 : decode cX0_receive 10 = .ok (.istore_n 2, 1) := by decide +kernel
theorem dX0_receive_11 : decode cX0_receive 11 = .ok (.iload_n 2, 1) := by decide +kernel
theorem dX0_receive_12 : decode cX0_receive 12 = .ok (.iload_n 1, 1) := by decide +kernel
theorem dX0_receive_13 : decode cX0_receive 13 = .ok (.if_icmp .ge 86, 3) := by decide +kernel
theorem dX0_receive_16 : decode cX0_receive 16 = .ok (.iload_n 2, 1) := by decide +kernel
theorem dX0_receive_17 : decode cX0_receive 17 = .ok (.bipush 81, 2) := by decide +kernel
theorem dX0_receive_19 : decode cX0_receive 19 = .ok (.if_icmp .ge 80, 3) := by decide +kernel
theorem dX0_receive_22 : decode cX0_receive 22 = .ok (.aload_n 0, 1) := by decide +kernel
theorem dX0_receive_23 : decode cX0_receive 23 = .ok (.getfield 59, 3) := by decide +kernel
theorem dX0_receive_26 : decode cX0_receive 26 = .ok (.bipush 81, 2) := by decide +kernel
theorem dX0_receive_28 : decode cX0_receive 28 = .ok (.if_icmp .ge 71, 3) := by decide +kernel
theorem dX0_receive_31 : decode cX0_receive 31 = .ok (.aload_n 0, 1) := by decide +kernel
theorem dX0_receive_32 : decode cX0_receive 32 = .ok (.getfield 19, 3) := by decide +kernel
theorem dX0_receive_35 : decode cX0_receive 35 = .ok (.aload_n 0, 1) := by decide +kernel
theorem dX0_receive_36 : decode cX0_receive 36 = .ok (.getfield 59, 3) := by decide +kernel
theorem dX0_receive_39 : decode cX0_receive 39 = .ok (.iaload, 1) := by decide +kernel
theorem dX0_receive_40 : decode cX0_receive 40 = .ok (.istore_n 3, 1) := by decide +kernel
theorem dX0_receive_41 : decode cX0_receive 41 = .ok (.aload_n 0, 1) := by decide +kernel
theorem dX0_receive_42 : decode cX0_receive 42 = .ok (.invokevirtual 65, 3) := by decide +kernel
theorem dX0_receive_45 : decode cX0_receive 45 = .ok (.istore 4, 2) := by decide +kernel
theorem dX0_receive_47 : decode cX0_receive 47 = .ok (.aload_n 0, 1) := by decide +kernel
theorem dX0_receive_48 : decode cX0_receive 48 = .ok (.iload_n 3, 1) := by decide +kernel
theorem dX0_receive_49 : decode cX0_receive 49 = .ok (.iconst 0, 1) := by decide +kernel
theorem dX0_receive_50 : decode cX0_receive 50 = .ok (.invokevirtual 44, 3) := by decide +kernel
theorem dX0_receive_53 : decode cX0_receive 53 = .ok (.istore 5, 2) := by decide +kernel
theorem dX0_receive_55 : decode cX0_receive 55 = .ok (.iload 4, 2) := by decide +kernel
theorem dX0_receive_57 : decode cX0_receive 57 = .ok (.invokestatic 69, 3) := by decide +kernel
theorem dX0_receive_60 : decode cX0_receive 60 = .ok (.istore 6, 2) := by decide +kernel
theorem dX0_receive_62 : decode cX0_receive 62 = .ok (.aload_n 0, 1) := by decide +kernel
theorem dX0_receive_63 : decode cX0_receive 63 = .ok (.getfield 16, 3) := by decide +kernel
theorem dX0_receive_66 : decode cX0_receive 66 = .ok (.iload_n 3, 1) := by decide +kernel
theorem dX0_receive_67 : decode cX0_receive 67 = .ok (.iload 5, 2) := by decide +kernel
theorem dX0_receive_69 : decode cX0_receive 69 = .ok (.iload 6, 2) := by decide +kernel
theorem dX0_receive_71 : decode cX0_receive 71 = .ok (.iadd, 1) := by decide +kernel
theorem dX0_receive_72 : decode cX0_receive 72 = .ok (.sipush 255, 3) := by decide +kernel
theorem dX0_receive_75 : decode cX0_receive 75 = .ok (.iand, 1) := by decide +kernel
theorem dX0_receive_76 : decode cX0_receive 76 = .ok (.iastore, 1) := by decide +kernel
theorem dX0_receive_77 : decode cX0_receive 77 = .ok (.aload_n 0, 1) := by decide +kernel
theorem dX0_receive_78 : decode cX0_receive 78 = .ok (.iload 4, 2) := by decide +kernel
theorem dX0_receive_80 : decode cX0_receive 80 = .ok (.invokevirtual 56, 3) := by decide +kernel
theorem dX0_receive_83 : decode cX0_receive 83 = .ok (.aload_n 0, 1) := by decide +kernel
theorem dX0_receive_84 : decode cX0_receive 84 = .ok (.dup, 1) := by decide +kernel
theorem dX0_receive_85 : decode cX0_receive 85 = .ok (.getfield 59, 3) := by decide +kernel
theorem dX0_receive_88 : decode cX0_receive 88 = .ok (.iconst 1, 1) := by decide +kernel
theorem dX0_receive_89 : decode cX0_receive 89 = .ok (.iadd, 1) := by decide +kernel
theorem dX0_receive_90 : decode cX0_receive 90 = .ok (.putfield 59, 3) := by decide +kernel
theorem dX0_receive_93 : decode cX0_receive 93 = .ok (.iinc 2 1, 3) := by decide +kernel
theorem dX0_receive_96 : decode cX0_receive 96 = .ok (.goto (-85), 3) := by decide +kernel
theorem dX0_receive_99 : decode cX0_receive 99 = .ok (.aload_n 0, 1) := by decide +kernel
theorem dX0_receive_100 : decode cX0_receive 100 = .ok (.getfield 59, 3) := by decide +kernel
theorem dX0_receive_103 : decode cX0_receive 103 = .ok (.ireturn, 1) := by decide +kernel
theorem dX0_readCode_0 : decode cX0_readCode 0 = .ok (.iconst 0, 1) := by decide +kernel
theorem dX0_readCode_1 : decode cX0_readCode 1 = .ok (.istore_n 1, 1) := by decide +kernel
theorem dX0_readCode_2 : decode cX0_readCode 2 = .ok (.iconst 1, 1) := by decide +kernel
theorem dX0_readCode_3 : decode cX0_readCode 3 = .ok (.istore_n 2, 1) := by decide +kernel
theorem dX0_readCode_4 : decode cX0_readCode 4 = .ok (.iconst 0, 1) := by decide +kernel
theorem dX0_readCode_5 : decode cX0_readCode 5 = .ok (.istore_n 3, 1) := by decide +kernel
theorem dX0_readCode_6 : decode cX0_readCode 6 = .ok (.iload_n 3, 1) := by decide +kernel
theorem dX0_readCode_7 : decode cX0_readCode 7 = .ok (.bipush 8, 2) := by decide +kernel
theorem dX0_readCode_9 : decode cX0_readCode 9 = .ok (.if_icmp .ge 36, 3) := by decide +kernel
theorem dX0_readCode_12 : decode cX0_readCode 12 = .ok (.iload_n 2, 1) := by decide +kernel
theorem dX0_readCode_13 : decode cX0_readCode 13 = .ok (.ifCond .eq 32, 3) := by decide +kernel
theorem dX0_readCode_16 : decode cX0_readCode 16 = .ok (.aload_n 0, 1) := by decide +kernel
theorem dX0_readCode_17 : decode cX0_readCode 17 = .ok (.invokevirtual 88, 3) := by decide +kernel
theorem dX0_readCode_20 : decode cX0_readCode 20 = .ok (.istore 4, 2) := by decide +kernel
theorem dX0_readCode_22 : decode cX0_readCode 22 = .ok (.iload 4, 2) := by decide +kernel
theorem dX0_readCode_24 : decode cX0_readCode 24 = .ok (.iconst 1, 1) := by decide +kernel
theorem dX0_readCode_25 : decode cX0_readCode 25 = .ok (.if_icmp .ne 7, 3) := by decide +kernel
theorem dX0_readCode_28 : decode cX0_readCode 28 = .ok (.iconst 1, 1) := by decide +kernel
theorem dX0_readCode_29 : decode cX0_readCode 29 = .ok (.goto 4, 3) := by decide +kernel
theorem dX0_readCode_32 : decode cX0_readCode 32 = .ok (.iconst 0, 1) := by decide +kernel
theorem dX0_readCode_33 : decode cX0_readCode 33 = .ok (.istore_n 2, 1) := by decide +kernel
theorem dX0_readCode_34 : decode cX0_readCode 34 = .ok (.iload_n 1, 1) := by decide +kernel
theorem dX0_readCode_35 : decode cX0_readCode 35 = .ok (.iload 4, 2) := by decide +kernel
theorem dX0_readCode_37 : decode cX0_readCode 37 = .ok (.iadd, 1) := by decide +kernel
theorem dX0_readCode_38 : decode cX0_readCode 38 = .ok (.istore_n 1, 1) := by decide +kernel
theorem dX0_readCode_39 : decode cX0_readCode 39 = .ok (.iinc 3 1, 3) := by decide +kernel
theorem dX0_readCode_42 : decode cX0_readCode 42 = .ok (.goto (-36), 3) := by decide +kernel
theorem dX0_readCode_45 : decode cX0_readCode 45 = .ok (.iload_n 2, 1) := by decide +kernel
theorem dX0_readCode_46 : decode cX0_readCode 46 = .ok (.ifCond .eq 10, 3) := by decide +kernel
theorem dX0_readCode_49 : decode cX0_readCode 49 = .ok (.aload_n 0, 1) := by decide +kernel
theorem dX0_readCode_50 : decode cX0_readCode 50 = .ok (.bipush 8, 2) := by decide +kernel
theorem dX0_readCode_52 : decode cX0_readCode 52 = .ok (.invokevirtual 91, 3) := by decide +kernel
theorem dX0_readCode_55 : decode cX0_readCode 55 = .ok (.ireturn, 1) := by decide +kernel
theorem dX0_readCode_56 : decode cX0_readCode 56 = .ok (.aload_n 0, 1) := by decide +kernel
theorem dX0_readCode_57 : decode cX0_readCode 57 = .ok (.aload_n 0, 1) := by decide +kernel
theorem dX0_readCode_58 : decode cX0_readCode 58 = .ok (.getfield 75, 3) := by decide +kernel
theorem dX0_readCode_61 : decode cX0_readCode 61 = .ok (.invokevirtual 91, 3) := by decide +kernel
theorem dX0_readCode_64 : decode cX0_readCode 64 = .ok (.istore_n 3, 1) := by decide +kernel
theorem dX0_readCode_65 : decode cX0_readCode 65 = .ok (.iload_n 1, 1) := by decide +kernel
theorem dX0_readCode_66 : decode cX0_readCode 66 = .ok (.aload_n 0, 1) := by decide +kernel
theorem dX0_readCode_67 : decode cX0_readCode 67 = .ok (.getfield 75, 3) := by decide +kernel
theorem dX0_readCode_70 : decode cX0_readCode 70 = .ok (.ishl, 1) := by decide +kernel
theorem dX0_readCode_71 : decode cX0_readCode 71 = .ok (.iload_n 3, 1) := by decide +kernel
theorem dX0_readCode_72 : decode cX0_readCode 72 = .ok (.iadd, 1) := by decide +kernel
theorem dX0_readCode_73 : decode cX0_readCode 73 = .ok (.ireturn, 1) := by decide +kernel
end
section
set_option maxRecDepth 100000
theorem dX0_readBit_0 : decode cX0_readBit 0 = .ok (.aload_n 0, 1) := by decide +kernel
theorem dX0_readBit_1 : decode cX0_readBit 1 = .ok (.getfield 13, 3) := by decide +kernel
theorem dX0_readBit_4 : decode cX0_readBit 4 = .ok (.aload_n 0, 1) := by decide +kernel
theorem dX0_readBit_5 : decode cX0_readBit 5 = .ok (.getfield 62, 3) := by decide +kernel
theorem dX0_readBit_8 : decode cX0_readBit 8 = .ok (.iconst 5, 1) := by decide +kernel
theorem dX0_readBit_9 : decode cX0_readBit 9 = .ok (.ishr, 1) := by decide +kernel
theorem dX0_readBit_10 : decode cX0_readBit 10 = .ok (.iaload, 1) := by decide +kernel
theorem dX0_readBit_11 : decode cX0_readBit 11 = .ok (.aload_n 0, 1) := by decide +kernel
theorem dX0_readBit_12 : decode cX0_readBit 12 = .ok (.getfield 62, 3) := by decide +kernel
theorem dX0_readBit_15 : decode cX0_readBit 15 = .ok (.bipush 31, 2) := by decide +kernel
theorem dX0_readBit_17 : decode cX0_readBit 17 = .ok (.iand, 1) := by decide +kernel
theorem dX0_readBit_18 : decode cX0_readBit 18 = .ok (.iushr, 1) := by decide +kernel
theorem dX0_readBit_19 : decode cX0_readBit 19 = .ok (.iconst 1, 1) := by decide +kernel
theorem dX0_readBit_20 : decode cX0_readBit 20 = .ok (.iand, 1) := by decide +kernel
theorem dX0_readBit_21 : decode cX0_readBit 21 = .ok (.istore_n 1, 1) := by decide +kernel
theorem dX0_readBit_22 : decode cX0_readBit 22 = .ok (.aload_n 0, 1) := by decide +kernel
theorem dX0_readBit_23 : decode cX0_readBit 23 = .ok (.dup, 1) := by decide +kernel
theorem dX0_readBit_24 : decode cX0_readBit 24 = .ok (.getfield 62, 3) := by decide +kernel
theorem dX0_readBit_27 : decode cX0_readBit 27 = .ok (.iconst 1, 1) := by decide +kernel
theorem dX0_readBit_28 : decode cX0_readBit 28 = .ok (.iadd, 1) := by decide +kernel
theorem dX0_readBit_29 : decode cX0_readBit 29 = .ok (.putfield 62, 3) := by decide +kernel
theorem dX0_readBit_32 : decode cX0_readBit 32 = .ok (.iload_n 1, 1) := by decide +kernel
theorem dX0_readBit_33 : decode cX0_readBit 33 = .ok (.ireturn, 1) := by decide +kernel
theorem dX0_readBits_0 : decode cX0_readBits 0 = .ok (.iconst 0, 1) := by decide +kernel
theorem dX0_readBits_1 : decode cX0_readBits 1 = .ok (.istore_n 2, 1) := by decide +kernel
theorem dX0_readBits_2 : decode cX0_readBits 2 = .ok (.iconst 0, 1) := by decide +kernel
theorem dX0_readBits_3 : decode cX0_readBits 3 = .ok (.istore_n 3, 1) := by decide +kernel
theorem dX0_readBits_4 : decode cX0_readBits 4 = .ok (.iload_n 3, 1) := by decide +kernel
theorem dX0_readBits_5 : decode cX0_readBits 5 = .ok (.iload_n 1, 1) := by decide +kernel
theorem dX0_readBits_6 : decode cX0_readBits 6 = .ok (.if_icmp .ge 22, 3) := by decide +kernel
theorem dX0_readBits_9 : decode cX0_readBits 9 = .ok (.aload_n 0, 1) := by decide +kernel
theorem dX0_readBits_10 : decode cX0_readBits 10 = .ok (.invokevirtual 88, 3) := by decide +kernel
theorem dX0_readBits_13 : decode cX0_readBits 13 = .ok (.istore 4, 2) := by decide +kernel
theorem dX0_readBits_15 : decode cX0_readBits 15 = .ok (.iconst 2, 1) := by decide +kernel
theorem dX0_readBits_16 : decode cX0_readBits 16 = .ok (.iload_n 2, 1) := by decide +kernel
theorem dX0_readBits_17 : decode cX0_readBits 17 = .ok (.imul, 1) := by decide +kernel
theorem dX0_readBits_18 : decode cX0_readBits 18 = .ok (.iload 4, 2) := by decide +kernel
theorem dX0_readBits_20 : decode cX0_readBits 20 = .ok (.iadd, 1) := by decide +kernel
theorem dX0_readBits_21 : decode cX0_readBits 21 = .ok (.istore_n 2, 1) := by decide +kernel
theorem dX0_readBits_22 : decode cX0_readBits 22 = .ok (.iinc 3 1, 3) := by decide +kernel
theorem dX0_readBits_25 : decode cX0_readBits 25 = .ok (.goto (-21), 3) := by decide +kernel
theorem dX0_readBits_28 : decode cX0_readBits 28 = .ok (.iload_n 2, 1) := by decide +kernel
theorem dX0_readBits_29 : decode cX0_readBits 29 = .ok (.ireturn, 1) := by decide +kernel
theorem dX0_unfold_0 : decode cX0_unfold 0 = .ok (.iload_n 0, 1) := by decide +kernel
theorem dX0_unfold_1 : decode cX0_unfold 1 = .ok (.iconst 2, 1) := by decide +kernel
theorem dX0_unfold_2 : decode cX0_unfold 2 = .ok (.irem, 1) := by decide +kernel
theorem dX0_unfold_3 : decode cX0_unfold 3 = .ok (.ifCond .ne 9, 3) := by decide +kernel
theorem dX0_unfold_6 : decode cX0_unfold 6 = .ok (.iload_n 0, 1) := by decide +kernel
theorem dX0_unfold_7 : decode cX0_unfold 7 = .ok (.iconst 2, 1) := by decide +kernel
theorem dX0_unfold_8 : decode cX0_unfold 8 = .ok (.idiv, 1) := by decide +kernel
theorem dX0_unfold_9 : decode cX0_unfold 9 = .ok (.goto 10, 3) := by decide +kernel
theorem dX0_unfold_12 : decode cX0_unfold 12 = .ok (.sipush 255, 3) := by decide +kernel
theorem dX0_unfold_15 : decode cX0_unfold 15 = .ok (.iload_n 0, 1) := by decide +kernel
theorem dX0_unfold_16 : decode cX0_unfold 16 = .ok (.iconst 2, 1) := by decide +kernel
theorem dX0_unfold_17 : decode cX0_unfold 17 = .ok (.idiv, 1) := by decide +kernel
theorem dX0_unfold_18 : decode cX0_unfold 18 = .ok (.isub, 1) := by decide +kernel
theorem dX0_unfold_19 : decode cX0_unfold 19 = .ok (.ireturn, 1) := by decide +kernel
theorem dX0_pixel_0 : decode cX0_pixel 0 = .ok (.iload_n 1, 1) := by decide +kernel
theorem dX0_pixel_1 : decode cX0_pixel 1 = .ok (.iload_n 2, 1) := by decide +kernel
theorem dX0_pixel_2 : decode cX0_pixel 2 = .ok (.invokestatic 29, 3) := by decide +kernel
theorem dX0_pixel_5 : decode cX0_pixel 5 = .ok (.ifCond .eq 28, 3) := by decide +kernel
theorem dX0_pixel_8 : decode cX0_pixel 8 = .ok (.aload_n 0, 1) := by decide +kernel
theorem dX0_pixel_9 : decode cX0_pixel 9 = .ok (.getfield 33, 3) := by decide +kernel
theorem dX0_pixel_12 : decode cX0_pixel 12 = .ok (.ifCond .eq 21, 3) := by decide +kernel
theorem dX0_pixel_15 : decode cX0_pixel 15 = .ok (.aload_n 0, 1) := by decide +kernel
theorem dX0_pixel_16 : decode cX0_pixel 16 = .ok (.getfield 22, 3) := by decide +kernel
theorem dX0_pixel_19 : decode cX0_pixel 19 = .ok (.bipush 9, 2) := by decide +kernel
theorem dX0_pixel_21 : decode cX0_pixel 21 = .ok (.iload_n 2, 1) := by decide +kernel
theorem dX0_pixel_22 : decode cX0_pixel 22 = .ok (.imul, 1) := by decide +kernel
theorem dX0_pixel_23 : decode cX0_pixel 23 = .ok (.iload_n 1, 1) := by decide +kernel
theorem dX0_pixel_24 : decode cX0_pixel 24 = .ok (.iadd, 1) := by decide +kernel
theorem dX0_pixel_25 : decode cX0_pixel 25 = .ok (.iaload, 1) := by decide +kernel
theorem dX0_pixel_26 : decode cX0_pixel 26 = .ok (.aload_n 0, 1) := by decide +kernel
theorem dX0_pixel_27 : decode cX0_pixel 27 = .ok (.getfield 59, 3) := by decide +kernel
theorem dX0_pixel_30 : decode cX0_pixel 30 = .ok (.if_icmp .lt 5, 3) := by decide +kernel
theorem dX0_pixel_33 : decode cX0_pixel 33 = .ok (.iconst (-1), 1) := by decide +kernel
theorem dX0_pixel_34 : decode cX0_pixel 34 = .ok (.ireturn, 1) := by decide +kernel
theorem dX0_pixel_35 : decode cX0_pixel 35 = .ok (.aload_n 0, 1) := by decide +kernel
theorem dX0_pixel_36 : decode cX0_pixel 36 = .ok (.getfield 16, 3) := by decide +kernel
theorem dX0_pixel_39 : decode cX0_pixel 39 = .ok (.bipush 9, 2) := by decide +kernel
theorem dX0_pixel_41 : decode cX0_pixel 41 = .ok (.iload_n 2, 1) := by decide +kernel
theorem dX0_pixel_42 : decode cX0_pixel 42 = .ok (.imul, 1) := by decide +kernel
theorem dX0_pixel_43 : decode cX0_pixel 43 = .ok (.iload_n 1, 1) := by decide +kernel
theorem dX0_pixel_44 : decode cX0_pixel 44 = .ok (.iadd, 1) := by decide +kernel
theorem dX0_pixel_45 : decode cX0_pixel 45 = .ok (.iaload, 1) := by decide +kernel
theorem dX0_pixel_46 : decode cX0_pixel 46 = .ok (.ireturn, 1) := by decide +kernel
theorem dX0_rank_0 : decode cX0_rank 0 = .ok (.iload_n 1, 1) := by decide +kernel
theorem dX0_rank_1 : decode cX0_rank 1 = .ok (.iload_n 2, 1) := by decide +kernel
theorem dX0_rank_2 : decode cX0_rank 2 = .ok (.invokestatic 29, 3) := by decide +kernel
theorem dX0_rank_5 : decode cX0_rank 5 = .ok (.ifCond .eq 17, 3) := by decide +kernel
theorem dX0_rank_8 : decode cX0_rank 8 = .ok (.aload_n 0, 1) := by decide +kernel
theorem dX0_rank_9 : decode cX0_rank 9 = .ok (.getfield 22, 3) := by decide +kernel
theorem dX0_rank_12 : decode cX0_rank 12 = .ok (.bipush 9, 2) := by decide +kernel
theorem dX0_rank_14 : decode cX0_rank 14 = .ok (.iload_n 2, 1) := by decide +kernel
theorem dX0_rank_15 : decode cX0_rank 15 = .ok (.imul, 1) := by decide +kernel
theorem dX0_rank_16 : decode cX0_rank 16 = .ok (.iload_n 1, 1) := by decide +kernel
theorem dX0_rank_17 : decode cX0_rank 17 = .ok (.iadd, 1) := by decide +kernel
theorem dX0_rank_18 : decode cX0_rank 18 = .ok (.iaload, 1) := by decide +kernel
theorem dX0_rank_19 : decode cX0_rank 19 = .ok (.goto 4, 3) := by decide +kernel
theorem dX0_rank_22 : decode cX0_rank 22 = .ok (.iconst (-1), 1) := by decide +kernel
theorem dX0_rank_23 : decode cX0_rank 23 = .ok (.ireturn, 1) := by decide +kernel
theorem dX0_count_0 : decode cX0_count 0 = .ok (.iconst 0, 1) := by decide +kernel
theorem dX0_count_1 : decode cX0_count 1 = .ok (.istore_n 3, 1) := by decide +kernel
theorem dX0_count_2 : decode cX0_count 2 = .ok (.iconst 0, 1) := by decide +kernel
theorem dX0_count_3 : decode cX0_count 3 = .ok (.istore 4, 2) := by decide +kernel
theorem dX0_count_5 : decode cX0_count 5 = .ok (.iload 4, 2) := by decide +kernel
theorem dX0_count_7 : decode cX0_count 7 = .ok (.bipush 81, 2) := by decide +kernel
theorem dX0_count_9 : decode cX0_count 9 = .ok (.if_icmp .ge 54, 3) := by decide +kernel
theorem dX0_count_12 : decode cX0_count 12 = .ok (.aload_n 0, 1) := by decide +kernel
theorem dX0_count_13 : decode cX0_count 13 = .ok (.getfield 16, 3) := by decide +kernel
theorem dX0_count_16 : decode cX0_count 16 = .ok (.aload_n 0, 1) := by decide +kernel
theorem dX0_count_17 : decode cX0_count 17 = .ok (.getfield 19, 3) := by decide +kernel
theorem dX0_count_20 : decode cX0_count 20 = .ok (.iload 4, 2) := by decide +kernel
theorem dX0_count_22 : decode cX0_count 22 = .ok (.iaload, 1) := by decide +kernel
theorem dX0_count_23 : decode cX0_count 23 = .ok (.iaload, 1) := by decide +kernel
theorem dX0_count_24 : decode cX0_count 24 = .ok (.istore 5, 2) := by decide +kernel
theorem dX0_count_26 : decode cX0_count 26 = .ok (.aload_n 0, 1) := by decide +kernel
theorem dX0_count_27 : decode cX0_count 27 = .ok (.getfield 33, 3) := by decide +kernel
theorem dX0_count_30 : decode cX0_count 30 = .ok (.ifCond .eq 27, 3) := by decide +kernel
theorem dX0_count_33 : decode cX0_count 33 = .ok (.iload 4, 2) := by decide +kernel
theorem dX0_count_35 : decode cX0_count 35 = .ok (.aload_n 0, 1) := by decide +kernel
theorem dX0_count_36 : decode cX0_count 36 = .ok (.getfield 59, 3) := by decide +kernel
theorem dX0_count_39 : decode cX0_count 39 = .ok (.if_icmp .ge 18, 3) := by decide +kernel
theorem dX0_count_42 : decode cX0_count 42 = .ok (.iload 5, 2) := by decide +kernel
theorem dX0_count_44 : decode cX0_count 44 = .ok (.iload_n 1, 1) := by decide +kernel
theorem dX0_count_45 : decode cX0_count 45 = .ok (.if_icmp .lt 12, 3) := by decide +kernel
theorem dX0_count_48 : decode cX0_count 48 = .ok (.iload 5, 2) := by decide +kernel
theorem dX0_count_50 : decode cX0_count 50 = .ok (.iload_n 2, 1) := by decide +kernel
theorem dX0_count_51 : decode cX0_count 51 = .ok (.if_icmp .gt 6, 3) := by decide +kernel
theorem dX0_count_54 : decode cX0_count 54 = .ok (.iinc 3 1, 3) := by decide +kernel
theorem dX0_count_57 : decode cX0_count 57 = .ok (.iinc 4 1, 3) := by decide +kernel
theorem dX0_count_60 : decode cX0_count 60 = .ok (.goto (-55), 3) := by decide +kernel
theorem dX0_count_63 : decode cX0_count 63 = .ok (.iload_n 3, 1) := by decide +kernel
theorem dX0_count_64 : decode cX0_count 64 = .ok (.ireturn, 1) := by decide +kernel
theorem dX0_sum_0 : decode cX0_sum 0 = .ok (.iconst 0, 1) := by decide +kernel
theorem dX0_sum_1 : decode cX0_sum 1 = .ok (.istore_n 1, 1) := by decide +kernel
theorem dX0_sum_2 : decode cX0_sum 2 = .ok (.iconst 0, 1) := by decide +kernel
theorem dX0_sum_3 : decode cX0_sum 3 = .ok (.istore_n 2, 1) := by decide +kernel
theorem dX0_sum_4 : decode cX0_sum 4 = .ok (.iload_n 2, 1) := by decide +kernel
theorem dX0_sum_5 : decode cX0_sum 5 = .ok (.bipush 81, 2) := by decide +kernel
theorem dX0_sum_7 : decode cX0_sum 7 = .ok (.if_icmp .ge 42, 3) := by decide +kernel
theorem dX0_sum_10 : decode cX0_sum 10 = .ok (.iload_n 1, 1) := by decide +kernel
theorem dX0_sum_11 : decode cX0_sum 11 = .ok (.aload_n 0, 1) := by decide +kernel
theorem dX0_sum_12 : decode cX0_sum 12 = .ok (.getfield 33, 3) := by decide +kernel
theorem dX0_sum_15 : decode cX0_sum 15 = .ok (.ifCond .eq 25, 3) := by decide +kernel
theorem dX0_sum_18 : decode cX0_sum 18 = .ok (.iload_n 2, 1) := by decide +kernel
theorem dX0_sum_19 : decode cX0_sum 19 = .ok (.aload_n 0, 1) := by decide +kernel
theorem dX0_sum_20 : decode cX0_sum 20 = .ok (.getfield 59, 3) := by decide +kernel
theorem dX0_sum_23 : decode cX0_sum 23 = .ok (.if_icmp .ge 17, 3) := by decide +kernel
theorem dX0_sum_26 : decode cX0_sum 26 = .ok (.aload_n 0, 1) := by decide +kernel
theorem dX0_sum_27 : decode cX0_sum 27 = .ok (.getfield 16, 3) := by decide +kernel
theorem dX0_sum_30 : decode cX0_sum 30 = .ok (.aload_n 0, 1) := by decide +kernel
theorem dX0_sum_31 : decode cX0_sum 31 = .ok (.getfield 19, 3) := by decide +kernel
theorem dX0_sum_34 : decode cX0_sum 34 = .ok (.iload_n 2, 1) := by decide +kernel
theorem dX0_sum_35 : decode cX0_sum 35 = .ok (.iaload, 1) := by decide +kernel
theorem dX0_sum_36 : decode cX0_sum 36 = .ok (.iaload, 1) := by decide +kernel
theorem dX0_sum_37 : decode cX0_sum 37 = .ok (.goto 4, 3) := by decide +kernel
theorem dX0_sum_40 : decode cX0_sum 40 = .ok (.iconst 0, 1) := by decide +kernel
theorem dX0_sum_41 : decode cX0_sum 41 = .ok (.iadd, 1) := by decide +kernel
theorem dX0_sum_42 : decode cX0_sum 42 = .ok (.istore_n 1, 1) := by decide +kernel
theorem dX0_sum_43 : decode cX0_sum 43 = .ok (.iinc 2 1, 3) := by decide +kernel
theorem dX0_sum_46 : decode cX0_sum 46 = .ok (.goto (-42), 3) := by decide +kernel
theorem dX0_sum_49 : decode cX0_sum 49 = .ok (.iload_n 1, 1) := by decide +kernel
theorem dX0_sum_50 : decode cX0_sum 50 = .ok (.ireturn, 1) := by decide +kernel
end
section
set_option maxRecDepth 100000
theorem dX1_init_0 : decode cX1_init 0 = .ok (.aload_n 0, 1) := by decide +kernel
theorem dX1_init_1 : decode cX1_init 1 = .ok (.invokespecial 1, 3) := by decide +kernel
theorem dX1_init_4 : decode cX1_init 4 = .ok (.aload_n 0, 1) := by decide +kernel
theorem dX1_init_5 : decode cX1_init 5 = .ok (.bipush 81, 2) := by decide +kernel
theorem dX1_init_7 : decode cX1_init 7 = .ok (.newarray .int, 2) := by decide +kernel
theorem dX1_init_9 : decode cX1_init 9 = .ok (.putfield 7, 3) := by decide +kernel
theorem dX1_init_12 : decode cX1_init 12 = .ok (.aload_n 0, 1) := by decide +kernel
theorem dX1_init_13 : decode cX1_init 13 = .ok (.bipush 81, 2) := by decide +kernel
theorem dX1_init_15 : decode cX1_init 15 = .ok (.newarray .int, 2) := by decide +kernel
theorem dX1_init_17 : decode cX1_init 17 = .ok (.putfield 13, 3) := by decide +kernel
theorem dX1_init_20 : decode cX1_init 20 = .ok (.return_, 1) := by decide +kernel
theorem dX1_draw_0 : decode cX1_draw 0 = .ok (.iload_n 1, 1) := by decide +kernel
theorem dX1_draw_1 : decode cX1_draw 1 = .ok (.iload_n 2, 1) := by decide +kernel
theorem dX1_draw_2 : decode cX1_draw 2 = .ok (.invokestatic 16, 3) := by decide +kernel
theorem dX1_draw_5 : decode cX1_draw 5 = .ok (.ifCond .eq 5, 3) := by decide +kernel
theorem dX1_draw_8 : decode cX1_draw 8 = .ok (.iconst (-1), 1) := by decide +kernel
theorem dX1_draw_9 : decode cX1_draw 9 = .ok (.ireturn, 1) := by decide +kernel
theorem dX1_draw_10 : decode cX1_draw 10 = .ok (.aload_n 0, 1) := by decide +kernel
theorem dX1_draw_11 : decode cX1_draw 11 = .ok (.getfield 7, 3) := by decide +kernel
theorem dX1_draw_14 : decode cX1_draw 14 = .ok (.bipush 9, 2) := by decide +kernel
theorem dX1_draw_16 : decode cX1_draw 16 = .ok (.iload_n 2, 1) := by decide +kernel
theorem dX1_draw_17 : decode cX1_draw 17 = .ok (.imul, 1) := by decide +kernel
theorem dX1_draw_18 : decode cX1_draw 18 = .ok (.iload_n 1, 1) := by decide +kernel
theorem dX1_draw_19 : decode cX1_draw 19 = .ok (.iadd, 1) := by decide +kernel
theorem dX1_draw_20 : decode cX1_draw 20 = .ok (.iaload, 1) := by decide +kernel
theorem dX1_draw_21 : decode cX1_draw 21 = .ok (.istore 4, 2) := by decide +kernel
theorem dX1_draw_23 : decode cX1_draw 23 = .ok (.aload_n 0, 1) := by decide +kernel
theorem dX1_draw_24 : decode cX1_draw 24 = .ok (.getfield 7, 3) := by decide +kernel
theorem dX1_draw_27 : decode cX1_draw 27 = .ok (.bipush 9, 2) := by decide +kernel
theorem dX1_draw_29 : decode cX1_draw 29 = .ok (.iload_n 2, 1) := by decide +kernel
theorem dX1_draw_30 : decode cX1_draw 30 = .ok (.imul, 1) := by decide +kernel
theorem dX1_draw_31 : decode cX1_draw 31 = .ok (.iload_n 1, 1) := by decide +kernel
theorem dX1_draw_32 : decode cX1_draw 32 = .ok (.iadd, 1) := by decide +kernel
theorem dX1_draw_33 : decode cX1_draw 33 = .ok (.iload_n 3, 1) := by decide +kernel
theorem dX1_draw_34 : decode cX1_draw 34 = .ok (.sipush 255, 3) := by decide +kernel
theorem dX1_draw_37 : decode cX1_draw 37 = .ok (.iand, 1) := by decide +kernel
theorem dX1_draw_38 : decode cX1_draw 38 = .ok (.iastore, 1) := by decide +kernel
theorem dX1_draw_39 : decode cX1_draw 39 = .ok (.iload 4, 2) := by decide +kernel
theorem dX1_draw_41 : decode cX1_draw 41 = .ok (.ireturn, 1) := by decide +kernel
theorem dX1_off_0 : decode cX1_off 0 = .ok (.iload_n 0, 1) := by decide +kernel
theorem dX1_off_1 : decode cX1_off 1 = .ok (.ifCond .lt 19, 3) := by decide +kernel
theorem dX1_off_4 : decode cX1_off 4 = .ok (.iload_n 0, 1) := by decide +kernel
theorem dX1_off_5 : decode cX1_off 5 = .ok (.bipush 8, 2) := by decide +kernel
theorem dX1_off_7 : decode cX1_off 7 = .ok (.if_icmp .gt 13, 3) := by decide +kernel
theorem dX1_off_10 : decode cX1_off 10 = .ok (.iload_n 1, 1) := by decide +kernel
theorem dX1_off_11 : decode cX1_off 11 = .ok (.ifCond .lt 9, 3) := by decide +kernel
theorem dX1_off_14 : decode cX1_off 14 = .ok (.iload_n 1, 1) := by decide +kernel
theorem dX1_off_15 : decode cX1_off 15 = .ok (.bipush 8, 2) := by decide +kernel
theorem dX1_off_17 : decode cX1_off 17 = .ok (.if_icmp .le 7, 3) := by decide +kernel
theorem dX1_off_20 : decode cX1_off 20 = .ok (.iconst 1, 1) := by decide +kernel
theorem dX1_off_21 : decode cX1_off 21 = .ok (.goto 4, 3) := by decide +kernel
theorem dX1_off_24 : decode cX1_off 24 = .ok (.iconst 0, 1) := by decide +kernel
theorem dX1_off_25 : decode cX1_off 25 = .ok (.ireturn, 1) := by decide +kernel
theorem dX1_ramp_0 : decode cX1_ramp 0 = .ok (.iconst 0, 1) := by decide +kernel
theorem dX1_ramp_1 : decode cX1_ramp 1 = .ok (.istore 4, 2) := by decide +kernel
theorem dX1_ramp_3 : decode cX1_ramp 3 = .ok (.iload 4, 2) := by decide +kernel
theorem dX1_ramp_5 : decode cX1_ramp 5 = .ok (.bipush 81, 2) := by decide +kernel
theorem dX1_ramp_7 : decode cX1_ramp 7 = .ok (.if_icmp .ge 37, 3) := by decide +kernel
theorem dX1_ramp_10 : decode cX1_ramp 10 = .ok (.aload_n 0, 1) := by decide +kernel
theorem dX1_ramp_11 : decode cX1_ramp 11 = .ok (.getfield 7, 3) := by decide +kernel
theorem dX1_ramp_14 : decode cX1_ramp 14 = .ok (.iload 4, 2) := by decide +kernel
theorem dX1_ramp_16 : decode cX1_ramp 16 = .ok (.iload_n 1, 1) := by decide +kernel
theorem dX1_ramp_17 : decode cX1_ramp 17 = .ok (.iload_n 2, 1) := by decide +kernel
theorem dX1_ramp_18 : decode cX1_ramp 18 = .ok (.iload 4, 2) := by decide +kernel
theorem dX1_ramp_20 : decode cX1_ramp 20 = .ok (.bipush 9, 2) := by decide +kernel
theorem dX1_ramp_22 : decode cX1_ramp 22 = .ok (.irem, 1) := by decide +kernel
theorem dX1_ramp_23 : decode cX1_ramp 23 = .ok (.imul, 1) := by decide +kernel
theorem dX1_ramp_24 : decode cX1_ramp 24 = .ok (.iadd, 1) := by decide +kernel
theorem dX1_ramp_25 : decode cX1_ramp 25 = .ok (.iload_n 3, 1) := by decide +kernel
theorem dX1_ramp_26 : decode cX1_ramp 26 = .ok (.iload 4, 2) := by decide +kernel
theorem dX1_ramp_28 : decode cX1_ramp 28 = .ok (.bipush 9, 2) := by decide +kernel
theorem dX1_ramp_30 : decode cX1_ramp 30 = .ok (.idiv, 1) := by decide +kernel
theorem dX1_ramp_31 : decode cX1_ramp 31 = .ok (.imul, 1) := by decide +kernel
theorem dX1_ramp_32 : decode cX1_ramp 32 = .ok (.iadd, 1) := by decide +kernel
theorem dX1_ramp_33 : decode cX1_ramp 33 = .ok (.sipush 255, 3) := by decide +kernel
theorem dX1_ramp_36 : decode cX1_ramp 36 = .ok (.iand, 1) := by decide +kernel
theorem dX1_ramp_37 : decode cX1_ramp 37 = .ok (.iastore, 1) := by decide +kernel
theorem dX1_ramp_38 : decode cX1_ramp 38 = .ok (.iinc 4 1, 3) := by decide +kernel
theorem dX1_ramp_41 : decode cX1_ramp 41 = .ok (.goto (-38), 3) := by decide +kernel
theorem dX1_ramp_44 : decode cX1_ramp 44 = .ok (.return_, 1) := by decide +kernel
theorem dX1_send_0 : decode cX1_send 0 = .ok (.iconst 0, 1) := by decide +kernel
theorem dX1_send_1 : decode cX1_send 1 = .ok (.istore_n 1, 1) := by decide +kernel
theorem dX1_send_2 : decode cX1_send 2 = .ok (.iload_n 1, 1) := by decide +kernel
theorem dX1_send_3 : decode cX1_send 3 = .ok (.bipush 81, 2) := by decide +kernel
theorem dX1_send_5 : decode cX1_send 5 = .ok (.if_icmp .ge 21, 3) := by decide +kernel
theorem dX1_send_8 : decode cX1_send 8 = .ok (.aload_n 0, 1) := by decide +kernel
theorem dX1_send_9 : decode cX1_send 9 = .ok (.getfield 13, 3) := by decide +kernel
theorem dX1_send_12 : decode cX1_send 12 = .ok (.iload_n 1, 1) := by decide +kernel
theorem dX1_send_13 : decode cX1_send 13 = .ok (.aload_n 0, 1) := by decide +kernel
theorem dX1_send_14 : decode cX1_send 14 = .ok (.getfield 7, 3) := by decide +kernel
theorem dX1_send_17 : decode cX1_send 17 = .ok (.iload_n 1, 1) := by decide +kernel
theorem dX1_send_18 : decode cX1_send 18 = .ok (.iaload, 1) := by decide +kernel
theorem dX1_send_19 : decode cX1_send 19 = .ok (.iastore, 1) := by decide +kernel
theorem dX1_send_20 : decode cX1_send 20 = .ok (.iinc 1 1, 3) := by decide +kernel
theorem dX1_send_23 : decode cX1_send 23 = .ok (.goto (-21), 3) := by decide +kernel
theorem dX1_send_26 : decode cX1_send 26 = .ok (.aload_n 0, 1) := by decide +kernel
theorem dX1_send_27 : decode cX1_send 27 = .ok (.iconst 1, 1) := by decide +kernel
theorem dX1_send_28 : decode cX1_send 28 = .ok (.putfield 20, 3) := by decide +kernel
theorem dX1_send_31 : decode cX1_send 31 = .ok (.aload_n 0, 1) := by decide +kernel
theorem dX1_send_32 : decode cX1_send 32 = .ok (.iconst 0, 1) := by decide +kernel
theorem dX1_send_33 : decode cX1_send 33 = .ok (.putfield 24, 3) := by decide +kernel
theorem dX1_send_36 : decode cX1_send 36 = .ok (.return_, 1) := by decide +kernel
theorem dX1_receive_0 : decode cX1_receive 0 = .ok (.aload_n 0, 1) := by decide +kernel
theorem dX1_receive_1 : decode cX1_receive 1 = .ok (.getfield 20, 3) := by decide +kernel
theorem dX1_receive_4 : decode cX1_receive 4 = .ok (.ifCond .ne 5, 3) := by decide +kernel
theorem dX1_receive_7 : decode cX1_receive 7 = .ok (.iconst (-1), 1) := by decide +kernel
theorem dX1_receive_8 : decode cX1_receive 8 = .ok (.ireturn, 1) := by decide +kernel
theorem dX1_receive_9 : decode cX1_receive 9 = .ok (.iload_n 1, 1) := by decide +kernel
theorem dX1_receive_10 : decode cX1_receive 10 = .ok (.ifCond .ge 7, 3) := by decide +kernel
theorem dX1_receive_13 : decode cX1_receive 13 = .ok (.iconst 0, 1) := by decide +kernel
theorem dX1_receive_14 : decode cX1_receive 14 = .ok (.goto 4, 3) := by decide +kernel
theorem dX1_receive_17 : decode cX1_receive 17 = .ok (.iload_n 1, 1) := by decide +kernel
theorem dX1_receive_18 : decode cX1_receive 18 = .ok (.istore_n 2, 1) := by decide +kernel
theorem dX1_receive_19 : decode cX1_receive 19 = .ok (.aload_n 0, 1) := by decide +kernel
theorem dX1_receive_20 : decode cX1_receive 20 = .ok (.iload_n 2, 1) := by decide +kernel
theorem dX1_receive_21 : decode cX1_receive 21 = .ok (.bipush 81, 2) := by decide +kernel
theorem dX1_receive_23 : decode cX1_receive 23 = .ok (.aload_n 0, 1) := by decide +kernel
theorem dX1_receive_24 : decode cX1_receive 24 = .ok (.getfield 24, 3) := by decide +kernel
theorem dX1_receive_27 : decode cX1_receive 27 = .ok (.isub, 1) := by decide +kernel
theorem dX1_receive_28 : decode cX1_receive 28 = .ok (.if_icmp .le 8, 3) := by decide +kernel
theorem dX1_receive_31 : decode cX1_receive 31 = .ok (.bipush 81, 2) := by decide +kernel
theorem dX1_receive_33 : decode cX1_receive 33 = .ok (.goto 9, 3) := by decide +kernel
theorem dX1_receive_36 : decode cX1_receive 36 = .ok (.aload_n 0, 1) := by decide +kernel
theorem dX1_receive_37 : decode cX1_receive 37 = .ok (.getfield 24, 3) := by decide +kernel
theorem dX1_receive_40 : decode cX1_receive 40 = .ok (.iload_n 2, 1) := by decide +kernel
theorem dX1_receive_41 : decode cX1_receive 41 = .ok (.iadd, 1) := by decide +kernel
theorem dX1_receive_42 : decode cX1_receive 42 = .ok (.putfield 24, 3) := by decide +kernel
theorem dX1_receive_45 : decode cX1_receive 45 = .ok (.aload_n 0, 1) := by decide +kernel
theorem dX1_receive_46 : decode cX1_receive 46 = .ok (.getfield 24, 3) := by decide +kernel
theorem dX1_receive_49 : decode cX1_receive 49 = .ok (.ireturn, 1) := by decide +kernel
theorem dX1_pixel_0 : decode cX1_pixel 0 = .ok (.iload_n 1, 1) := by decide +kernel
theorem dX1_pixel_1 : decode cX1_pixel 1 = .ok (.iload_n 2, 1) := by decide +kernel
theorem dX1_pixel_2 : decode cX1_pixel 2 = .ok (.invokestatic 16, 3) := by decide +kernel
theorem dX1_pixel_5 : decode cX1_pixel 5 = .ok (.ifCond .ne 26, 3) := by decide +kernel
theorem dX1_pixel_8 : decode cX1_pixel 8 = .ok (.aload_n 0, 1) := by decide +kernel
theorem dX1_pixel_9 : decode cX1_pixel 9 = .ok (.getfield 20, 3) := by decide +kernel
theorem dX1_pixel_12 : decode cX1_pixel 12 = .ok (.ifCond .eq 19, 3) := by decide +kernel
theorem dX1_pixel_15 : decode cX1_pixel 15 = .ok (.bipush 9, 2) := by decide +kernel
theorem dX1_pixel_17 : decode cX1_pixel 17 = .ok (.iload_n 2, 1) := by decide +kernel
theorem dX1_pixel_18 : decode cX1_pixel 18 = .ok (.imul, 1) := by decide +kernel
theorem dX1_pixel_19 : decode cX1_pixel 19 = .ok (.iload_n 1, 1) := by decide +kernel
theorem dX1_pixel_20 : decode cX1_pixel 20 = .ok (.iadd, 1) := by decide +kernel
theorem dX1_pixel_21 : decode cX1_pixel 21 = .ok (.invokestatic 32, 3) := by decide +kernel
theorem dX1_pixel_24 : decode cX1_pixel 24 = .ok (.aload_n 0, 1) := by decide +kernel
theorem dX1_pixel_25 : decode cX1_pixel 25 = .ok (.getfield 24, 3) := by decide +kernel
theorem dX1_pixel_28 : decode cX1_pixel 28 = .ok (.if_icmp .lt 5, 3) := by decide +kernel
theorem dX1_pixel_31 : decode cX1_pixel 31 = .ok (.iconst (-1), 1) := by decide +kernel
theorem dX1_pixel_32 : decode cX1_pixel 32 = .ok (.ireturn, 1) := by decide +kernel
theorem dX1_pixel_33 : decode cX1_pixel 33 = .ok (.aload_n 0, 1) := by decide +kernel
theorem dX1_pixel_34 : decode cX1_pixel 34 = .ok (.getfield 13, 3) := by decide +kernel
theorem dX1_pixel_37 : decode cX1_pixel 37 = .ok (.bipush 9, 2) := by decide +kernel
theorem dX1_pixel_39 : decode cX1_pixel 39 = .ok (.iload_n 2, 1) := by decide +kernel
theorem dX1_pixel_40 : decode cX1_pixel 40 = .ok (.imul, 1) := by decide +kernel
theorem dX1_pixel_41 : decode cX1_pixel 41 = .ok (.iload_n 1, 1) := by decide +kernel
theorem dX1_pixel_42 : decode cX1_pixel 42 = .ok (.iadd, 1) := by decide +kernel
theorem dX1_pixel_43 : decode cX1_pixel 43 = .ok (.iaload, 1) := by decide +kernel
theorem dX1_pixel_44 : decode cX1_pixel 44 = .ok (.ireturn, 1) := by decide +kernel
theorem dX1_place_0 : decode cX1_place 0 = .ok (.iconst 0, 1) := by decide +kernel
theorem dX1_place_1 : decode cX1_place 1 = .ok (.istore_n 1, 1) := by decide +kernel
theorem dX1_place_2 : decode cX1_place 2 = .ok (.iload_n 0, 1) := by decide +kernel
theorem dX1_place_3 : decode cX1_place 3 = .ok (.invokestatic 28, 3) := by decide +kernel
theorem dX1_place_6 : decode cX1_place 6 = .ok (.istore_n 2, 1) := by decide +kernel
theorem dX1_place_7 : decode cX1_place 7 = .ok (.iconst 0, 1) := by decide +kernel
theorem dX1_place_8 : decode cX1_place 8 = .ok (.istore_n 3, 1) := by decide +kernel
theorem dX1_place_9 : decode cX1_place 9 = .ok (.iload_n 3, 1) := by decide +kernel
theorem dX1_place_10 : decode cX1_place 10 = .ok (.bipush 81, 2) := by decide +kernel
theorem dX1_place_12 : decode cX1_place 12 = .ok (.if_icmp .ge 35, 3) := by decide +kernel
theorem dX1_place_15 : decode cX1_place 15 = .ok (.iload_n 3, 1) := by decide +kernel
theorem dX1_place_16 : decode cX1_place 16 = .ok (.invokestatic 28, 3) := by decide +kernel
theorem dX1_place_19 : decode cX1_place 19 = .ok (.istore 4, 2) := by decide +kernel
theorem dX1_place_21 : decode cX1_place 21 = .ok (.iload 4, 2) := by decide +kernel
theorem dX1_place_23 : decode cX1_place 23 = .ok (.iload_n 2, 1) := by decide +kernel
theorem dX1_place_24 : decode cX1_place 24 = .ok (.if_icmp .gt 14, 3) := by decide +kernel
theorem dX1_place_27 : decode cX1_place 27 = .ok (.iload 4, 2) := by decide +kernel
theorem dX1_place_29 : decode cX1_place 29 = .ok (.iload_n 2, 1) := by decide +kernel
theorem dX1_place_30 : decode cX1_place 30 = .ok (.if_icmp .ne 11, 3) := by decide +kernel
theorem dX1_place_33 : decode cX1_place 33 = .ok (.iload_n 3, 1) := by decide +kernel
theorem dX1_place_34 : decode cX1_place 34 = .ok (.iload_n 0, 1) := by decide +kernel
theorem dX1_place_35 : decode cX1_place 35 = .ok (.if_icmp .ge 6, 3) := by decide +kernel
theorem dX1_place_38 : decode cX1_place 38 = .ok (.iinc 1 1, 3) := by decide +kernel
theorem dX1_place_41 : decode cX1_place 41 = .ok (.iinc 3 1, 3) := by decide +kernel
theorem dX1_place_44 : decode cX1_place 44 = .ok (.goto (-35), 3) := by decide +kernel
theorem dX1_place_47 : decode cX1_place 47 = .ok (.iload_n 1, 1) := by decide +kernel
theorem dX1_place_48 : decode cX1_place 48 = .ok (.ireturn, 1) := by decide +kernel
theorem dX1_step_0 : decode cX1_step 0 = .ok (.iload_n 0, 1) := by decide +kernel
theorem dX1_step_1 : decode cX1_step 1 = .ok (.bipush 9, 2) := by decide +kernel
theorem dX1_step_3 : decode cX1_step 3 = .ok (.irem, 1) := by decide +kernel
theorem dX1_step_4 : decode cX1_step 4 = .ok (.istore_n 1, 1) := by decide +kernel
theorem dX1_step_5 : decode cX1_step 5 = .ok (.iload_n 0, 1) := by decide +kernel
theorem dX1_step_6 : decode cX1_step 6 = .ok (.bipush 9, 2) := by decide +kernel
theorem dX1_step_8 : decode cX1_step 8 = .ok (.idiv, 1) := by decide +kernel
theorem dX1_step_9 : decode cX1_step 9 = .ok (.istore_n 2, 1) := by decide +kernel
theorem dX1_step_10 : decode cX1_step 10 = .ok (.iload_n 1, 1) := by decide +kernel
theorem dX1_step_11 : decode cX1_step 11 = .ok (.bipush 8, 2) := by decide +kernel
theorem dX1_step_13 : decode cX1_step 13 = .ok (.irem, 1) := by decide +kernel
theorem dX1_step_14 : decode cX1_step 14 = .ok (.ifCond .ne 13, 3) := by decide +kernel
theorem dX1_step_17 : decode cX1_step 17 = .ok (.iload_n 2, 1) := by decide +kernel
theorem dX1_step_18 : decode cX1_step 18 = .ok (.bipush 8, 2) := by decide +kernel
theorem dX1_step_20 : decode cX1_step 20 = .ok (.irem, 1) := by decide +kernel
theorem dX1_step_21 : decode cX1_step 21 = .ok (.ifCond .ne 6, 3) := by decide +kernel
theorem dX1_step_24 : decode cX1_step 24 = .ok (.bipush 8, 2) := by decide +kernel
theorem dX1_step_26 : decode cX1_step 26 = .ok (.ireturn, 1) := by decide +kernel
theorem dX1_step_27 : decode cX1_step 27 = .ok (.iload_n 1, 1) := by decide +kernel
theorem dX1_step_28 : decode cX1_step 28 = .ok (.iconst 4, 1) := by decide +kernel
theorem dX1_step_29 : decode cX1_step 29 = .ok (.irem, 1) := by decide +kernel
theorem dX1_step_30 : decode cX1_step 30 = .ok (.ifCond .ne 11, 3) := by decide +kernel
theorem dX1_step_33 : decode cX1_step 33 = .ok (.iload_n 2, 1) := by decide +kernel
theorem dX1_step_34 : decode cX1_step 34 = .ok (.iconst 4, 1) := by decide +kernel
theorem dX1_step_35 : decode cX1_step 35 = .ok (.irem, 1) := by decide +kernel
theorem dX1_step_36 : decode cX1_step 36 = .ok (.ifCond .ne 5, 3) := by decide +kernel
theorem dX1_step_39 : decode cX1_step 39 = .ok (.iconst 4, 1) := by decide +kernel
theorem dX1_step_40 : decode cX1_step 40 = .ok (.ireturn, 1) := by decide +kernel
theorem dX1_step_41 : decode cX1_step 41 = .ok (.iload_n 1, 1) := by decide +kernel
theorem dX1_step_42 : decode cX1_step 42 = .ok (.iconst 2, 1) := by decide +kernel
theorem dX1_step_43 : decode cX1_step 43 = .ok (.irem, 1) := by decide +kernel
theorem dX1_step_44 : decode cX1_step 44 = .ok (.ifCond .ne 13, 3) := by decide +kernel
theorem dX1_step_47 : decode cX1_step 47 = .ok (.iload_n 2, 1) := by decide +kernel
theorem dX1_step_48 : decode cX1_step 48 = .ok (.iconst 2, 1) := by decide +kernel
theorem dX1_step_49 : decode cX1_step 49 = .ok (.irem, 1) := by decide +kernel
theorem dX1_step_50 : decode cX1_step 50 = .ok (.ifCond .ne 7, 3) := by decide +kernel
theorem dX1_step_53 : decode cX1_step 53 = .ok (.iconst 2, 1) := by decide +kernel
theorem dX1_step_54 : decode cX1_step 54 = .ok (.goto 4, 3) := by decide +kernel
theorem dX1_step_57 : decode cX1_step 57 = .ok (.iconst 1, 1) := by decide +kernel
theorem dX1_step_58 : decode cX1_step 58 = .ok (.ireturn, 1) := by decide +kernel
theorem dX1_rank_0 : decode cX1_rank 0 = .ok (.iload_n 1, 1) := by decide +kernel
theorem dX1_rank_1 : decode cX1_rank 1 = .ok (.iload_n 2, 1) := by decide +kernel
theorem dX1_rank_2 : decode cX1_rank 2 = .ok (.invokestatic 16, 3) := by decide +kernel
theorem dX1_rank_5 : decode cX1_rank 5 = .ok (.ifCond .eq 7, 3) := by decide +kernel
theorem dX1_rank_8 : decode cX1_rank 8 = .ok (.iconst (-1), 1) := by decide +kernel
theorem dX1_rank_9 : decode cX1_rank 9 = .ok (.goto 12, 3) := by decide +kernel
theorem dX1_rank_12 : decode cX1_rank 12 = .ok (.bipush 9, 2) := by decide +kernel
theorem dX1_rank_14 : decode cX1_rank 14 = .ok (.iload_n 2, 1) := by decide +kernel
theorem dX1_rank_15 : decode cX1_rank 15 = .ok (.imul, 1) := by decide +kernel
theorem dX1_rank_16 : decode cX1_rank 16 = .ok (.iload_n 1, 1) := by decide +kernel
theorem dX1_rank_17 : decode cX1_rank 17 = .ok (.iadd, 1) := by decide +kernel
theorem dX1_rank_18 : decode cX1_rank 18 = .ok (.invokestatic 32, 3) := by decide +kernel
theorem dX1_rank_21 : decode cX1_rank 21 = .ok (.ireturn, 1) := by decide +kernel
theorem dX1_count_0 : decode cX1_count 0 = .ok (.iconst 0, 1) := by decide +kernel
theorem dX1_count_1 : decode cX1_count 1 = .ok (.istore_n 3, 1) := by decide +kernel
theorem dX1_count_2 : decode cX1_count 2 = .ok (.iconst 0, 1) := by decide +kernel
theorem dX1_count_3 : decode cX1_count 3 = .ok (.istore 4, 2) := by decide +kernel
theorem dX1_count_5 : decode cX1_count 5 = .ok (.iload 4, 2) := by decide +kernel
theorem dX1_count_7 : decode cX1_count 7 = .ok (.bipush 81, 2) := by decide +kernel
theorem dX1_count_9 : decode cX1_count 9 = .ok (.if_icmp .ge 46, 3) := by decide +kernel
theorem dX1_count_12 : decode cX1_count 12 = .ok (.iload 4, 2) := by decide +kernel
theorem dX1_count_14 : decode cX1_count 14 = .ok (.invokestatic 32, 3) := by decide +kernel
theorem dX1_count_17 : decode cX1_count 17 = .ok (.aload_n 0, 1) := by decide +kernel
theorem dX1_count_18 : decode cX1_count 18 = .ok (.getfield 24, 3) := by decide +kernel
theorem dX1_count_21 : decode cX1_count 21 = .ok (.if_icmp .ge 28, 3) := by decide +kernel
theorem dX1_count_24 : decode cX1_count 24 = .ok (.iload_n 1, 1) := by decide +kernel
theorem dX1_count_25 : decode cX1_count 25 = .ok (.aload_n 0, 1) := by decide +kernel
theorem dX1_count_26 : decode cX1_count 26 = .ok (.getfield 13, 3) := by decide +kernel
theorem dX1_count_29 : decode cX1_count 29 = .ok (.iload 4, 2) := by decide +kernel
theorem dX1_count_31 : decode cX1_count 31 = .ok (.iaload, 1) := by decide +kernel
theorem dX1_count_32 : decode cX1_count 32 = .ok (.if_icmp .gt 17, 3) := by decide +kernel
theorem dX1_count_35 : decode cX1_count 35 = .ok (.aload_n 0, 1) := by decide +kernel
theorem dX1_count_36 : decode cX1_count 36 = .ok (.getfield 13, 3) := by decide +kernel
theorem dX1_count_39 : decode cX1_count 39 = .ok (.iload 4, 2) := by decide +kernel
theorem dX1_count_41 : decode cX1_count 41 = .ok (.iaload, 1) := by decide +kernel
theorem dX1_count_42 : decode cX1_count 42 = .ok (.iload_n 2, 1) := by decide +kernel
theorem dX1_count_43 : decode cX1_count 43 = .ok (.if_icmp .gt 6, 3) := by decide +kernel
theorem dX1_count_46 : decode cX1_count 46 = .ok (.iinc 3 1, 3) := by decide +kernel
theorem dX1_count_49 : decode cX1_count 49 = .ok (.iinc 4 1, 3) := by decide +kernel
theorem dX1_count_52 : decode cX1_count 52 = .ok (.goto (-47), 3) := by decide +kernel
theorem dX1_count_55 : decode cX1_count 55 = .ok (.iload_n 3, 1) := by decide +kernel
theorem dX1_count_56 : decode cX1_count 56 = .ok (.ireturn, 1) := by decide +kernel
theorem dX1_sum_0 : decode cX1_sum 0 = .ok (.iconst 0, 1) := by decide +kernel
theorem dX1_sum_1 : decode cX1_sum 1 = .ok (.istore_n 1, 1) := by decide +kernel
theorem dX1_sum_2 : decode cX1_sum 2 = .ok (.iconst 0, 1) := by decide +kernel
theorem dX1_sum_3 : decode cX1_sum 3 = .ok (.istore_n 2, 1) := by decide +kernel
theorem dX1_sum_4 : decode cX1_sum 4 = .ok (.iload_n 2, 1) := by decide +kernel
theorem dX1_sum_5 : decode cX1_sum 5 = .ok (.bipush 81, 2) := by decide +kernel
theorem dX1_sum_7 : decode cX1_sum 7 = .ok (.if_icmp .ge 29, 3) := by decide +kernel
theorem dX1_sum_10 : decode cX1_sum 10 = .ok (.iload_n 2, 1) := by decide +kernel
theorem dX1_sum_11 : decode cX1_sum 11 = .ok (.invokestatic 32, 3) := by decide +kernel
theorem dX1_sum_14 : decode cX1_sum 14 = .ok (.aload_n 0, 1) := by decide +kernel
theorem dX1_sum_15 : decode cX1_sum 15 = .ok (.getfield 24, 3) := by decide +kernel
theorem dX1_sum_18 : decode cX1_sum 18 = .ok (.if_icmp .ge 12, 3) := by decide +kernel
theorem dX1_sum_21 : decode cX1_sum 21 = .ok (.iload_n 1, 1) := by decide +kernel
theorem dX1_sum_22 : decode cX1_sum 22 = .ok (.aload_n 0, 1) := by decide +kernel
theorem dX1_sum_23 : decode cX1_sum 23 = .ok (.getfield 13, 3) := by decide +kernel
theorem dX1_sum_26 : decode cX1_sum 26 = .ok (.iload_n 2, 1) := by decide +kernel
theorem dX1_sum_27 : decode cX1_sum 27 = .ok (.iaload, 1) := by decide +kernel
theorem dX1_sum_28 : decode cX1_sum 28 = .ok (.iadd, 1) := by decide +kernel
theorem dX1_sum_29 : decode cX1_sum 29 = .ok (.istore_n 1, 1) := by decide +kernel
theorem dX1_sum_30 : decode cX1_sum 30 = .ok (.iinc 2 1, 3) := by decide +kernel
theorem dX1_sum_33 : decode cX1_sum 33 = .ok (.goto (-29), 3) := by decide +kernel
theorem dX1_sum_36 : decode cX1_sum 36 = .ok (.iload_n 1, 1) := by decide +kernel
theorem dX1_sum_37 : decode cX1_sum 37 = .ok (.ireturn, 1) := by decide +kernel
end
section
set_option maxRecDepth 100000
theorem dL_law_0 : decode cL_law 0 = .ok (.new 7, 3) := by decide +kernel
theorem dL_law_3 : decode cL_law 3 = .ok (.dup, 1) := by decide +kernel
theorem dL_law_4 : decode cL_law 4 = .ok (.invokespecial 9, 3) := by decide +kernel
theorem dL_law_7 : decode cL_law 7 = .ok (.astore_n 1, 1) := by decide +kernel
theorem dL_law_8 : decode cL_law 8 = .ok (.new 10, 3) := by decide +kernel
theorem dL_law_11 : decode cL_law 11 = .ok (.dup, 1) := by decide +kernel
theorem dL_law_12 : decode cL_law 12 = .ok (.invokespecial 12, 3) := by decide +kernel
theorem dL_law_15 : decode cL_law 15 = .ok (.astore_n 2, 1) := by decide +kernel
theorem dL_law_16 : decode cL_law 16 = .ok (.iconst 0, 1) := by decide +kernel
theorem dL_law_17 : decode cL_law 17 = .ok (.istore_n 3, 1) := by decide +kernel
theorem dL_law_18 : decode cL_law 18 = .ok (.iload_n 3, 1) := by decide +kernel
theorem dL_law_19 : decode cL_law 19 = .ok (.aload_n 0, 1) := by decide +kernel
theorem dL_law_20 : decode cL_law 20 = .ok (.arraylength, 1) := by decide +kernel
theorem dL_law_21 : decode cL_law 21 = .ok (.iconst 4, 1) := by decide +kernel
theorem dL_law_22 : decode cL_law 22 = .ok (.isub, 1) := by decide +kernel
theorem dL_law_23 : decode cL_law 23 = .ok (.if_icmp .gt 293, 3) := by decide +kernel
theorem dL_law_26 : decode cL_law 26 = .ok (.aload_n 0, 1) := by decide +kernel
theorem dL_law_27 : decode cL_law 27 = .ok (.iload_n 3, 1) := by decide +kernel
theorem dL_law_28 : decode cL_law 28 = .ok (.iaload, 1) := by decide +kernel
theorem dL_law_29 : decode cL_law 29 = .ok (.bipush 7, 2) := by decide +kernel
theorem dL_law_31 : decode cL_law 31 = .ok (.iand, 1) := by decide +kernel
theorem dL_law_32 : decode cL_law 32 = .ok (.tableswitch 278 0 7 #[48, 91, 132, 143, 166, 199, 232, 265], 48) := by decide +kernel
theorem dL_law_80 : decode cL_law 80 = .ok (.aload_n 1, 1) := by decide +kernel
theorem dL_law_81 : decode cL_law 81 = .ok (.aload_n 0, 1) := by decide +kernel
theorem dL_law_82 : decode cL_law 82 = .ok (.iload_n 3, 1) := by decide +kernel
theorem dL_law_83 : decode cL_law 83 = .ok (.iconst 1, 1) := by decide +kernel
theorem dL_law_84 : decode cL_law 84 = .ok (.iadd, 1) := by decide +kernel
theorem dL_law_85 : decode cL_law 85 = .ok (.iaload, 1) := by decide +kernel
theorem dL_law_86 : decode cL_law 86 = .ok (.aload_n 0, 1) := by decide +kernel
theorem dL_law_87 : decode cL_law 87 = .ok (.iload_n 3, 1) := by decide +kernel
theorem dL_law_88 : decode cL_law 88 = .ok (.iconst 2, 1) := by decide +kernel
theorem dL_law_89 : decode cL_law 89 = .ok (.iadd, 1) := by decide +kernel
theorem dL_law_90 : decode cL_law 90 = .ok (.iaload, 1) := by decide +kernel
theorem dL_law_91 : decode cL_law 91 = .ok (.aload_n 0, 1) := by decide +kernel
theorem dL_law_92 : decode cL_law 92 = .ok (.iload_n 3, 1) := by decide +kernel
theorem dL_law_93 : decode cL_law 93 = .ok (.iconst 3, 1) := by decide +kernel
theorem dL_law_94 : decode cL_law 94 = .ok (.iadd, 1) := by decide +kernel
theorem dL_law_95 : decode cL_law 95 = .ok (.iaload, 1) := by decide +kernel
theorem dL_law_96 : decode cL_law 96 = .ok (.invokevirtual 13, 3) := by decide +kernel
theorem dL_law_99 : decode cL_law 99 = .ok (.aload_n 2, 1) := by decide +kernel
theorem dL_law_100 : decode cL_law 100 = .ok (.aload_n 0, 1) := by decide +kernel
theorem dL_law_101 : decode cL_law 101 = .ok (.iload_n 3, 1) := by decide +kernel
theorem dL_law_102 : decode cL_law 102 = .ok (.iconst 1, 1) := by decide +kernel
theorem dL_law_103 : decode cL_law 103 = .ok (.iadd, 1) := by decide +kernel
theorem dL_law_104 : decode cL_law 104 = .ok (.iaload, 1) := by decide +kernel
theorem dL_law_105 : decode cL_law 105 = .ok (.aload_n 0, 1) := by decide +kernel
theorem dL_law_106 : decode cL_law 106 = .ok (.iload_n 3, 1) := by decide +kernel
theorem dL_law_107 : decode cL_law 107 = .ok (.iconst 2, 1) := by decide +kernel
theorem dL_law_108 : decode cL_law 108 = .ok (.iadd, 1) := by decide +kernel
theorem dL_law_109 : decode cL_law 109 = .ok (.iaload, 1) := by decide +kernel
theorem dL_law_110 : decode cL_law 110 = .ok (.aload_n 0, 1) := by decide +kernel
theorem dL_law_111 : decode cL_law 111 = .ok (.iload_n 3, 1) := by decide +kernel
theorem dL_law_112 : decode cL_law 112 = .ok (.iconst 3, 1) := by decide +kernel
theorem dL_law_113 : decode cL_law 113 = .ok (.iadd, 1) := by decide +kernel
theorem dL_law_114 : decode cL_law 114 = .ok (.iaload, 1) := by decide +kernel
theorem dL_law_115 : decode cL_law 115 = .ok (.invokevirtual 17, 3) := by decide +kernel
theorem dL_law_118 : decode cL_law 118 = .ok (.if_icmp .eq 192, 3) := by decide +kernel
theorem dL_law_121 : decode cL_law 121 = .ok (.iconst 0, 1) := by decide +kernel
theorem dL_law_122 : decode cL_law 122 = .ok (.ireturn, 1) := by decide +kernel
theorem dL_law_123 : decode cL_law 123 = .ok (.aload_n 1, 1) := by decide +kernel
theorem dL_law_124 : decode cL_law 124 = .ok (.aload_n 0, 1) := by decide +kernel
theorem dL_law_125 : decode cL_law 125 = .ok (.iload_n 3, 1) := by decide +kernel
theorem dL_law_126 : decode cL_law 126 = .ok (.iconst 1, 1) := by decide +kernel
theorem dL_law_127 : decode cL_law 127 = .ok (.iadd, 1) := by decide +kernel
theorem dL_law_128 : decode cL_law 128 = .ok (.iaload, 1) := by decide +kernel
theorem dL_law_129 : decode cL_law 129 = .ok (.aload_n 0, 1) := by decide +kernel
theorem dL_law_130 : decode cL_law 130 = .ok (.iload_n 3, 1) := by decide +kernel
theorem dL_law_131 : decode cL_law 131 = .ok (.iconst 2, 1) := by decide +kernel
theorem dL_law_132 : decode cL_law 132 = .ok (.iadd, 1) := by decide +kernel
theorem dL_law_133 : decode cL_law 133 = .ok (.iaload, 1) := by decide +kernel
theorem dL_law_134 : decode cL_law 134 = .ok (.aload_n 0, 1) := by decide +kernel
theorem dL_law_135 : decode cL_law 135 = .ok (.iload_n 3, 1) := by decide +kernel
theorem dL_law_136 : decode cL_law 136 = .ok (.iconst 3, 1) := by decide +kernel
theorem dL_law_137 : decode cL_law 137 = .ok (.iadd, 1) := by decide +kernel
theorem dL_law_138 : decode cL_law 138 = .ok (.iaload, 1) := by decide +kernel
theorem dL_law_139 : decode cL_law 139 = .ok (.invokevirtual 18, 3) := by decide +kernel
theorem dL_law_142 : decode cL_law 142 = .ok (.aload_n 2, 1) := by decide +kernel
theorem dL_law_143 : decode cL_law 143 = .ok (.aload_n 0, 1) := by decide +kernel
theorem dL_law_144 : decode cL_law 144 = .ok (.iload_n 3, 1) := by decide +kernel
theorem dL_law_145 : decode cL_law 145 = .ok (.iconst 1, 1) := by decide +kernel
theorem dL_law_146 : decode cL_law 146 = .ok (.iadd, 1) := by decide +kernel
theorem dL_law_147 : decode cL_law 147 = .ok (.iaload, 1) := by decide +kernel
theorem dL_law_148 : decode cL_law 148 = .ok (.aload_n 0, 1) := by decide +kernel
theorem dL_law_149 : decode cL_law 149 = .ok (.iload_n 3, 1) := by decide +kernel
theorem dL_law_150 : decode cL_law 150 = .ok (.iconst 2, 1) := by decide +kernel
theorem dL_law_151 : decode cL_law 151 = .ok (.iadd, 1) := by decide +kernel
theorem dL_law_152 : decode cL_law 152 = .ok (.iaload, 1) := by decide +kernel
theorem dL_law_153 : decode cL_law 153 = .ok (.aload_n 0, 1) := by decide +kernel
theorem dL_law_154 : decode cL_law 154 = .ok (.iload_n 3, 1) := by decide +kernel
theorem dL_law_155 : decode cL_law 155 = .ok (.iconst 3, 1) := by decide +kernel
theorem dL_law_156 : decode cL_law 156 = .ok (.iadd, 1) := by decide +kernel
theorem dL_law_157 : decode cL_law 157 = .ok (.iaload, 1) := by decide +kernel
theorem dL_law_158 : decode cL_law 158 = .ok (.invokevirtual 22, 3) := by decide +kernel
theorem dL_law_161 : decode cL_law 161 = .ok (.goto 149, 3) := by decide +kernel
theorem dL_law_164 : decode cL_law 164 = .ok (.aload_n 1, 1) := by decide +kernel
theorem dL_law_165 : decode cL_law 165 = .ok (.invokevirtual 23, 3) := by decide +kernel
theorem dL_law_168 : decode cL_law 168 = .ok (.aload_n 2, 1) := by decide +kernel
theorem dL_law_169 : decode cL_law 169 = .ok (.invokevirtual 26, 3) := by decide +kernel
theorem dL_law_172 : decode cL_law 172 = .ok (.goto 138, 3) := by decide +kernel
theorem dL_law_175 : decode cL_law 175 = .ok (.aload_n 1, 1) := by decide +kernel
theorem dL_law_176 : decode cL_law 176 = .ok (.aload_n 0, 1) := by decide +kernel
theorem dL_law_177 : decode cL_law 177 = .ok (.iload_n 3, 1) := by decide +kernel
theorem dL_law_178 : decode cL_law 178 = .ok (.iconst 1, 1) := by decide +kernel
theorem dL_law_179 : decode cL_law 179 = .ok (.iadd, 1) := by decide +kernel
theorem dL_law_180 : decode cL_law 180 = .ok (.iaload, 1) := by decide +kernel
theorem dL_law_181 : decode cL_law 181 = .ok (.invokevirtual 27, 3) := by decide +kernel
theorem dL_law_184 : decode cL_law 184 = .ok (.aload_n 2, 1) := by decide +kernel
theorem dL_law_185 : decode cL_law 185 = .ok (.aload_n 0, 1) := by decide +kernel
theorem dL_law_186 : decode cL_law 186 = .ok (.iload_n 3, 1) := by decide +kernel
theorem dL_law_187 : decode cL_law 187 = .ok (.iconst 1, 1) := by decide +kernel
theorem dL_law_188 : decode cL_law 188 = .ok (.iadd, 1) := by decide +kernel
theorem dL_law_189 : decode cL_law 189 = .ok (.iaload, 1) := by decide +kernel
theorem dL_law_190 : decode cL_law 190 = .ok (.invokevirtual 31, 3) := by decide +kernel
theorem dL_law_193 : decode cL_law 193 = .ok (.if_icmp .eq 117, 3) := by decide +kernel
theorem dL_law_196 : decode cL_law 196 = .ok (.iconst 0, 1) := by decide +kernel
theorem dL_law_197 : decode cL_law 197 = .ok (.ireturn, 1) := by decide +kernel
theorem dL_law_198 : decode cL_law 198 = .ok (.aload_n 1, 1) := by decide +kernel
theorem dL_law_199 : decode cL_law 199 = .ok (.aload_n 0, 1) := by decide +kernel
theorem dL_law_200 : decode cL_law 200 = .ok (.iload_n 3, 1) := by decide +kernel
theorem dL_law_201 : decode cL_law 201 = .ok (.iconst 1, 1) := by decide +kernel
theorem dL_law_202 : decode cL_law 202 = .ok (.iadd, 1) := by decide +kernel
theorem dL_law_203 : decode cL_law 203 = .ok (.iaload, 1) := by decide +kernel
theorem dL_law_204 : decode cL_law 204 = .ok (.aload_n 0, 1) := by decide +kernel
theorem dL_law_205 : decode cL_law 205 = .ok (.iload_n 3, 1) := by decide +kernel
theorem dL_law_206 : decode cL_law 206 = .ok (.iconst 2, 1) := by decide +kernel
theorem dL_law_207 : decode cL_law 207 = .ok (.iadd, 1) := by decide +kernel
theorem dL_law_208 : decode cL_law 208 = .ok (.iaload, 1) := by decide +kernel
theorem dL_law_209 : decode cL_law 209 = .ok (.invokevirtual 32, 3) := by decide +kernel
theorem dL_law_212 : decode cL_law 212 = .ok (.aload_n 2, 1) := by decide +kernel
theorem dL_law_213 : decode cL_law 213 = .ok (.aload_n 0, 1) := by decide +kernel
theorem dL_law_214 : decode cL_law 214 = .ok (.iload_n 3, 1) := by decide +kernel
theorem dL_law_215 : decode cL_law 215 = .ok (.iconst 1, 1) := by decide +kernel
theorem dL_law_216 : decode cL_law 216 = .ok (.iadd, 1) := by decide +kernel
theorem dL_law_217 : decode cL_law 217 = .ok (.iaload, 1) := by decide +kernel
theorem dL_law_218 : decode cL_law 218 = .ok (.aload_n 0, 1) := by decide +kernel
theorem dL_law_219 : decode cL_law 219 = .ok (.iload_n 3, 1) := by decide +kernel
theorem dL_law_220 : decode cL_law 220 = .ok (.iconst 2, 1) := by decide +kernel
theorem dL_law_221 : decode cL_law 221 = .ok (.iadd, 1) := by decide +kernel
theorem dL_law_222 : decode cL_law 222 = .ok (.iaload, 1) := by decide +kernel
theorem dL_law_223 : decode cL_law 223 = .ok (.invokevirtual 36, 3) := by decide +kernel
theorem dL_law_226 : decode cL_law 226 = .ok (.if_icmp .eq 84, 3) := by decide +kernel
theorem dL_law_229 : decode cL_law 229 = .ok (.iconst 0, 1) := by decide +kernel
theorem dL_law_230 : decode cL_law 230 = .ok (.ireturn, 1) := by decide +kernel
theorem dL_law_231 : decode cL_law 231 = .ok (.aload_n 1, 1) := by decide +kernel
theorem dL_law_232 : decode cL_law 232 = .ok (.aload_n 0, 1) := by decide +kernel
theorem dL_law_233 : decode cL_law 233 = .ok (.iload_n 3, 1) := by decide +kernel
theorem dL_law_234 : decode cL_law 234 = .ok (.iconst 1, 1) := by decide +kernel
theorem dL_law_235 : decode cL_law 235 = .ok (.iadd, 1) := by decide +kernel
theorem dL_law_236 : decode cL_law 236 = .ok (.iaload, 1) := by decide +kernel
theorem dL_law_237 : decode cL_law 237 = .ok (.aload_n 0, 1) := by decide +kernel
theorem dL_law_238 : decode cL_law 238 = .ok (.iload_n 3, 1) := by decide +kernel
theorem dL_law_239 : decode cL_law 239 = .ok (.iconst 2, 1) := by decide +kernel
theorem dL_law_240 : decode cL_law 240 = .ok (.iadd, 1) := by decide +kernel
theorem dL_law_241 : decode cL_law 241 = .ok (.iaload, 1) := by decide +kernel
theorem dL_law_242 : decode cL_law 242 = .ok (.invokevirtual 37, 3) := by decide +kernel
theorem dL_law_245 : decode cL_law 245 = .ok (.aload_n 2, 1) := by decide +kernel
theorem dL_law_246 : decode cL_law 246 = .ok (.aload_n 0, 1) := by decide +kernel
theorem dL_law_247 : decode cL_law 247 = .ok (.iload_n 3, 1) := by decide +kernel
theorem dL_law_248 : decode cL_law 248 = .ok (.iconst 1, 1) := by decide +kernel
theorem dL_law_249 : decode cL_law 249 = .ok (.iadd, 1) := by decide +kernel
theorem dL_law_250 : decode cL_law 250 = .ok (.iaload, 1) := by decide +kernel
theorem dL_law_251 : decode cL_law 251 = .ok (.aload_n 0, 1) := by decide +kernel
theorem dL_law_252 : decode cL_law 252 = .ok (.iload_n 3, 1) := by decide +kernel
theorem dL_law_253 : decode cL_law 253 = .ok (.iconst 2, 1) := by decide +kernel
theorem dL_law_254 : decode cL_law 254 = .ok (.iadd, 1) := by decide +kernel
theorem dL_law_255 : decode cL_law 255 = .ok (.iaload, 1) := by decide +kernel
theorem dL_law_256 : decode cL_law 256 = .ok (.invokevirtual 40, 3) := by decide +kernel
theorem dL_law_259 : decode cL_law 259 = .ok (.if_icmp .eq 51, 3) := by decide +kernel
theorem dL_law_262 : decode cL_law 262 = .ok (.iconst 0, 1) := by decide +kernel
theorem dL_law_263 : decode cL_law 263 = .ok (.ireturn, 1) := by decide +kernel
theorem dL_law_264 : decode cL_law 264 = .ok (.aload_n 1, 1) := by decide +kernel
theorem dL_law_265 : decode cL_law 265 = .ok (.aload_n 0, 1) := by decide +kernel
theorem dL_law_266 : decode cL_law 266 = .ok (.iload_n 3, 1) := by decide +kernel
theorem dL_law_267 : decode cL_law 267 = .ok (.iconst 1, 1) := by decide +kernel
theorem dL_law_268 : decode cL_law 268 = .ok (.iadd, 1) := by decide +kernel
theorem dL_law_269 : decode cL_law 269 = .ok (.iaload, 1) := by decide +kernel
theorem dL_law_270 : decode cL_law 270 = .ok (.aload_n 0, 1) := by decide +kernel
theorem dL_law_271 : decode cL_law 271 = .ok (.iload_n 3, 1) := by decide +kernel
theorem dL_law_272 : decode cL_law 272 = .ok (.iconst 2, 1) := by decide +kernel
theorem dL_law_273 : decode cL_law 273 = .ok (.iadd, 1) := by decide +kernel
theorem dL_law_274 : decode cL_law 274 = .ok (.iaload, 1) := by decide +kernel
theorem dL_law_275 : decode cL_law 275 = .ok (.invokevirtual 41, 3) := by decide +kernel
theorem dL_law_278 : decode cL_law 278 = .ok (.aload_n 2, 1) := by decide +kernel
theorem dL_law_279 : decode cL_law 279 = .ok (.aload_n 0, 1) := by decide +kernel
theorem dL_law_280 : decode cL_law 280 = .ok (.iload_n 3, 1) := by decide +kernel
theorem dL_law_281 : decode cL_law 281 = .ok (.iconst 1, 1) := by decide +kernel
theorem dL_law_282 : decode cL_law 282 = .ok (.iadd, 1) := by decide +kernel
theorem dL_law_283 : decode cL_law 283 = .ok (.iaload, 1) := by decide +kernel
theorem dL_law_284 : decode cL_law 284 = .ok (.aload_n 0, 1) := by decide +kernel
theorem dL_law_285 : decode cL_law 285 = .ok (.iload_n 3, 1) := by decide +kernel
theorem dL_law_286 : decode cL_law 286 = .ok (.iconst 2, 1) := by decide +kernel
theorem dL_law_287 : decode cL_law 287 = .ok (.iadd, 1) := by decide +kernel
theorem dL_law_288 : decode cL_law 288 = .ok (.iaload, 1) := by decide +kernel
theorem dL_law_289 : decode cL_law 289 = .ok (.invokevirtual 44, 3) := by decide +kernel
theorem dL_law_292 : decode cL_law 292 = .ok (.if_icmp .eq 18, 3) := by decide +kernel
theorem dL_law_295 : decode cL_law 295 = .ok (.iconst 0, 1) := by decide +kernel
theorem dL_law_296 : decode cL_law 296 = .ok (.ireturn, 1) := by decide +kernel
theorem dL_law_297 : decode cL_law 297 = .ok (.aload_n 1, 1) := by decide +kernel
theorem dL_law_298 : decode cL_law 298 = .ok (.invokevirtual 45, 3) := by decide +kernel
theorem dL_law_301 : decode cL_law 301 = .ok (.aload_n 2, 1) := by decide +kernel
theorem dL_law_302 : decode cL_law 302 = .ok (.invokevirtual 49, 3) := by decide +kernel
theorem dL_law_305 : decode cL_law 305 = .ok (.if_icmp .eq 5, 3) := by decide +kernel
theorem dL_law_308 : decode cL_law 308 = .ok (.iconst 0, 1) := by decide +kernel
theorem dL_law_309 : decode cL_law 309 = .ok (.ireturn, 1) := by decide +kernel
theorem dL_law_310 : decode cL_law 310 = .ok (.iinc 3 4, 3) := by decide +kernel
theorem dL_law_313 : decode cL_law 313 = .ok (.goto (-295), 3) := by decide +kernel
theorem dL_law_316 : decode cL_law 316 = .ok (.iconst 1, 1) := by decide +kernel
theorem dL_law_317 : decode cL_law 317 = .ok (.ireturn, 1) := by decide +kernel
end
section
section JA
variable {p : Program} {l : Launch} {e : Env} {R : Room} {s : State} {m : MethodId} {args : Array Value} {below : List Frame} {meth : Method} {c : Code} {H : Heap} {locs : List Loc} {cells slots : Nat} {Q : State → Prop} {cc : ByteArray} {pc : Nat} {ls : Array Slot} {rest : List Value}
theorem ji_add (hexec : p.tables.exec = Jvm.exec) (hb : c.code = cc) {x y v : Int32} (hdg : decode cc pc = .ok (.iadd, 1)) (hv : x + y = v) (k : W p l e R s m args below meth c H locs cells slots Q (F0 m (pc + 1) ls (.int v :: rest))) : W p l e R s m args below meth c H locs cells slots Q (F0 m pc ls (.int y :: .int x :: rest)) := by
  subst hv
  exact lv_iadd hexec hb hdg k
theorem ji_sub (hexec : p.tables.exec = Jvm.exec) (hb : c.code = cc) {x y v : Int32} (hdg : decode cc pc = .ok (.isub, 1)) (hv : x - y = v) (k : W p l e R s m args below meth c H locs cells slots Q (F0 m (pc + 1) ls (.int v :: rest))) : W p l e R s m args below meth c H locs cells slots Q (F0 m pc ls (.int y :: .int x :: rest)) := by
  subst hv
  exact lv_isub hexec hb hdg k
theorem ji_mul (hexec : p.tables.exec = Jvm.exec) (hb : c.code = cc) {x y v : Int32} (hdg : decode cc pc = .ok (.imul, 1)) (hv : x * y = v) (k : W p l e R s m args below meth c H locs cells slots Q (F0 m (pc + 1) ls (.int v :: rest))) : W p l e R s m args below meth c H locs cells slots Q (F0 m pc ls (.int y :: .int x :: rest)) := by
  subst hv
  exact lv_imul hexec hb hdg k
theorem ji_and (hexec : p.tables.exec = Jvm.exec) (hb : c.code = cc) {x y v : Int32} (hdg : decode cc pc = .ok (.iand, 1)) (hv : x &&& y = v) (k : W p l e R s m args below meth c H locs cells slots Q (F0 m (pc + 1) ls (.int v :: rest))) : W p l e R s m args below meth c H locs cells slots Q (F0 m pc ls (.int y :: .int x :: rest)) := by
  subst hv
  exact lv_iand hexec hb hdg k
theorem ji_or (hexec : p.tables.exec = Jvm.exec) (hb : c.code = cc) {x y v : Int32} (hdg : decode cc pc = .ok (.ior, 1)) (hv : x ||| y = v) (k : W p l e R s m args below meth c H locs cells slots Q (F0 m (pc + 1) ls (.int v :: rest))) : W p l e R s m args below meth c H locs cells slots Q (F0 m pc ls (.int y :: .int x :: rest)) := by
  subst hv
  exact lv_ior hexec hb hdg k
theorem ji_shl (hexec : p.tables.exec = Jvm.exec) (hb : c.code = cc) {x y v : Int32} (hdg : decode cc pc = .ok (.ishl, 1)) (hv : x <<< (y &&& 31) = v) (k : W p l e R s m args below meth c H locs cells slots Q (F0 m (pc + 1) ls (.int v :: rest))) : W p l e R s m args below meth c H locs cells slots Q (F0 m pc ls (.int y :: .int x :: rest)) := by
  subst hv
  exact lv_ishl hexec hb hdg k
theorem ji_shr (hexec : p.tables.exec = Jvm.exec) (hb : c.code = cc) {x y v : Int32} (hdg : decode cc pc = .ok (.ishr, 1)) (hv : x >>> (y &&& 31) = v) (k : W p l e R s m args below meth c H locs cells slots Q (F0 m (pc + 1) ls (.int v :: rest))) : W p l e R s m args below meth c H locs cells slots Q (F0 m pc ls (.int y :: .int x :: rest)) := by
  subst hv
  exact lv_ishr hexec hb hdg k
theorem ji_div (hexec : p.tables.exec = Jvm.exec) (hb : c.code = cc) {x y v : Int32} (hdg : decode cc pc = .ok (.idiv, 1)) (hne : ¬ y = 0) (hv : x / y = v) (k : W p l e R s m args below meth c H locs cells slots Q (F0 m (pc + 1) ls (.int v :: rest))) : W p l e R s m args below meth c H locs cells slots Q (F0 m pc ls (.int y :: .int x :: rest)) := by
  subst hv
  exact lv_idiv hexec hb hdg hne k
theorem ji_rem (hexec : p.tables.exec = Jvm.exec) (hb : c.code = cc) {x y v : Int32} (hdg : decode cc pc = .ok (.irem, 1)) (hne : ¬ y = 0) (hv : x - x / y * y = v) (k : W p l e R s m args below meth c H locs cells slots Q (F0 m (pc + 1) ls (.int v :: rest))) : W p l e R s m args below meth c H locs cells slots Q (F0 m pc ls (.int y :: .int x :: rest)) := by
  subst hv
  exact lv_irem hexec hb hdg hne k
theorem jn_ge (hexec : p.tables.exec = Jvm.exec) (hb : c.code = cc) {a b : Nat} (ha : a < 2 ^ 31) (hb9 : b < 2 ^ 31) {off : Int} {tgt : Nat} (hdg : decode cc pc = .ok (.if_icmp .ge off, 3)) (ht : (pc : Int) + off = (tgt : Int))
    (kt : b ≤ a → W p l e R s m args below meth c H locs cells slots Q (F0 m tgt ls rest)) (kf : a < b → W p l e R s m args below meth c H locs cells slots Q (F0 m (pc + 3) ls rest)) : W p l e R s m args below meth c H locs cells slots Q (F0 m pc ls (.int (nI b) :: .int (nI a) :: rest)) :=
  lv_icmp_ge hexec hb hdg ht (fun c1 => kt ((nI_leI hb9 ha).mp c1)) (fun c1 => kf (Nat.not_le.mp (fun z => c1 ((nI_leI hb9 ha).mpr z))))
theorem jn_gt (hexec : p.tables.exec = Jvm.exec) (hb : c.code = cc) {a b : Nat} (ha : a < 2 ^ 31) (hb9 : b < 2 ^ 31) {off : Int} {tgt : Nat} (hdg : decode cc pc = .ok (.if_icmp .gt off, 3)) (ht : (pc : Int) + off = (tgt : Int))
    (kt : b < a → W p l e R s m args below meth c H locs cells slots Q (F0 m tgt ls rest)) (kf : a ≤ b → W p l e R s m args below meth c H locs cells slots Q (F0 m (pc + 3) ls rest)) : W p l e R s m args below meth c H locs cells slots Q (F0 m pc ls (.int (nI b) :: .int (nI a) :: rest)) :=
  lv_icmp_gt hexec hb hdg ht (fun c1 => kt ((nI_ltI hb9 ha).mp c1)) (fun c1 => kf (Nat.not_lt.mp (fun z => c1 ((nI_ltI hb9 ha).mpr z))))
theorem jn_le (hexec : p.tables.exec = Jvm.exec) (hb : c.code = cc) {a b : Nat} (ha : a < 2 ^ 31) (hb9 : b < 2 ^ 31) {off : Int} {tgt : Nat} (hdg : decode cc pc = .ok (.if_icmp .le off, 3)) (ht : (pc : Int) + off = (tgt : Int))
    (kt : a ≤ b → W p l e R s m args below meth c H locs cells slots Q (F0 m tgt ls rest)) (kf : b < a → W p l e R s m args below meth c H locs cells slots Q (F0 m (pc + 3) ls rest)) : W p l e R s m args below meth c H locs cells slots Q (F0 m pc ls (.int (nI b) :: .int (nI a) :: rest)) :=
  lv_icmp_le hexec hb hdg ht (fun c1 => kt ((nI_leI ha hb9).mp c1)) (fun c1 => kf (Nat.not_le.mp (fun z => c1 ((nI_leI ha hb9).mpr z))))
theorem jn_lt (hexec : p.tables.exec = Jvm.exec) (hb : c.code = cc) {a b : Nat} (ha : a < 2 ^ 31) (hb9 : b < 2 ^ 31) {off : Int} {tgt : Nat} (hdg : decode cc pc = .ok (.if_icmp .lt off, 3)) (ht : (pc : Int) + off = (tgt : Int))
    (kt : a < b → W p l e R s m args below meth c H locs cells slots Q (F0 m tgt ls rest)) (kf : b ≤ a → W p l e R s m args below meth c H locs cells slots Q (F0 m (pc + 3) ls rest)) : W p l e R s m args below meth c H locs cells slots Q (F0 m pc ls (.int (nI b) :: .int (nI a) :: rest)) :=
  lv_icmp_lt hexec hb hdg ht (fun c1 => kt ((nI_ltI ha hb9).mp c1)) (fun c1 => kf (Nat.not_lt.mp (fun z => c1 ((nI_ltI ha hb9).mpr z))))
theorem jn_eq (hexec : p.tables.exec = Jvm.exec) (hb : c.code = cc) {a b : Nat} (ha : a < 2 ^ 31) (hb9 : b < 2 ^ 31) {off : Int} {tgt : Nat} (hdg : decode cc pc = .ok (.if_icmp .eq off, 3)) (ht : (pc : Int) + off = (tgt : Int))
    (kt : a = b → W p l e R s m args below meth c H locs cells slots Q (F0 m tgt ls rest)) (kf : ¬ a = b → W p l e R s m args below meth c H locs cells slots Q (F0 m (pc + 3) ls rest)) : W p l e R s m args below meth c H locs cells slots Q (F0 m pc ls (.int (nI b) :: .int (nI a) :: rest)) :=
  lv_icmp_eq hexec hb hdg ht (fun c1 => kt ((nI_eq ha hb9).mp c1)) (fun c1 => kf ((fun z => c1 ((nI_eq ha hb9).mpr z))))
theorem jn_ne (hexec : p.tables.exec = Jvm.exec) (hb : c.code = cc) {a b : Nat} (ha : a < 2 ^ 31) (hb9 : b < 2 ^ 31) {off : Int} {tgt : Nat} (hdg : decode cc pc = .ok (.if_icmp .ne off, 3)) (ht : (pc : Int) + off = (tgt : Int))
    (kt : ¬ a = b → W p l e R s m args below meth c H locs cells slots Q (F0 m tgt ls rest)) (kf : a = b → W p l e R s m args below meth c H locs cells slots Q (F0 m (pc + 3) ls rest)) : W p l e R s m args below meth c H locs cells slots Q (F0 m pc ls (.int (nI b) :: .int (nI a) :: rest)) :=
  lv_icmp_ne hexec hb hdg ht (fun c1 => kt ((fun z => c1 ((nI_eq ha hb9).mpr z)))) (fun c1 => kf ((nI_eq ha hb9).mp c1))
theorem jz_eq (hexec : p.tables.exec = Jvm.exec) (hb : c.code = cc) {a : Nat} (ha : a < 2 ^ 31) {off : Int} {tgt : Nat} (hdg : decode cc pc = .ok (.ifCond .eq off, 3)) (ht : (pc : Int) + off = (tgt : Int))
    (kt : a = 0 → W p l e R s m args below meth c H locs cells slots Q (F0 m tgt ls rest)) (kf : ¬ a = 0 → W p l e R s m args below meth c H locs cells slots Q (F0 m (pc + 3) ls rest)) : W p l e R s m args below meth c H locs cells slots Q (F0 m pc ls (.int (nI a) :: rest)) :=
  lv_if_eq hexec hb hdg ht (fun c1 => kt ((nI_eq ha (by decide)).mp c1)) (fun c1 => kf ((fun z => c1 ((nI_eq ha (by decide)).mpr z))))
theorem jz_ne (hexec : p.tables.exec = Jvm.exec) (hb : c.code = cc) {a : Nat} (ha : a < 2 ^ 31) {off : Int} {tgt : Nat} (hdg : decode cc pc = .ok (.ifCond .ne off, 3)) (ht : (pc : Int) + off = (tgt : Int))
    (kt : ¬ a = 0 → W p l e R s m args below meth c H locs cells slots Q (F0 m tgt ls rest)) (kf : a = 0 → W p l e R s m args below meth c H locs cells slots Q (F0 m (pc + 3) ls rest)) : W p l e R s m args below meth c H locs cells slots Q (F0 m pc ls (.int (nI a) :: rest)) :=
  lv_if_ne hexec hb hdg ht (fun c1 => kt ((fun z => c1 ((nI_eq ha (by decide)).mpr z)))) (fun c1 => kf ((nI_eq ha (by decide)).mp c1))
theorem jz_le (hexec : p.tables.exec = Jvm.exec) (hb : c.code = cc) {a : Nat} (ha : a < 2 ^ 31) {off : Int} {tgt : Nat} (hdg : decode cc pc = .ok (.ifCond .le off, 3)) (ht : (pc : Int) + off = (tgt : Int))
    (kt : a = 0 → W p l e R s m args below meth c H locs cells slots Q (F0 m tgt ls rest)) (kf : 0 < a → W p l e R s m args below meth c H locs cells slots Q (F0 m (pc + 3) ls rest)) : W p l e R s m args below meth c H locs cells slots Q (F0 m pc ls (.int (nI a) :: rest)) :=
  lv_if_le hexec hb hdg ht (fun c1 => kt (Nat.le_zero.mp ((nI_leI ha (by decide)).mp c1))) (fun c1 => kf (Nat.not_le.mp (fun z => c1 ((nI_leI ha (by decide)).mpr z))))
variable {D : va_G} {cl : List vw_C} {A : Nat → Prop} {a : Nat} {tys : List (ClassId × FieldType)} {ws : va_W} {H0 : Heap}
/-- an int array is read at a known place -/
theorem ja_ld (hexec : p.tables.exec = Jvm.exec) (hb : c.code = cc) (hK : va_K D cl tys s) (hP : va_P D cl ws H) (q0 t0 : Nat) {cA : ClassId} {n : Nat} {f : Nat → Int32} (ha : ws[q0]? = some (a, .inl (cA, n, .inl f))) (ht : tys[t0]? = some (cA, .int)) {k : Nat} (hk : k < n) (hn : n < 2 ^ 31) {v : Int32} (hv : f k = v) (hdg : decode cc pc = .ok (.iaload, 1))
    (kk : W p l e R s m args below meth c H locs cells slots Q (F0 m (pc + 1) ls (.int v :: rest))) : W p l e R s m args below meth c H locs cells slots Q (F0 m pc ls (.int (nI k) :: .ref a :: rest)) := by
  refine va_iald hexec hb hK hP q0 t0 ha ht (vp_in_nI hk hn) hdg ?_
  rw [nI_clamp (Nat.lt_trans hk hn), hv]
  exact kk
/-- an int array is written at a known place -/
theorem ja_st (hexec : p.tables.exec = Jvm.exec) (hb : c.code = cc) (hK : va_K D cl tys s) (hP : va_P D cl ws H) (hD : va_D A ws) (hS : va_S A H0 H locs) (q0 t0 : Nat) {cA : ClassId} {n : Nat} {f f' : Nat → Int32} (ha : ws[q0]? = some (a, .inl (cA, n, .inl f))) (ht : tys[t0]? = some (cA, .int)) {k : Nat} {x : Int32} (hk : k < n) (hn : n < 2 ^ 31) (hf : upd f k x = f') (hdg : decode cc pc = .ok (.iastore, 1))
    (kk : ∀ (H1 : Heap) (locs1 : List Loc), va_P D cl (ws.set q0 (a, .inl (cA, n, .inl f'))) H1 → va_D A (ws.set q0 (a, .inl (cA, n, .inl f'))) → va_S A H0 H1 locs1 → W p l e R s m args below meth c H1 locs1 cells slots Q (F0 m (pc + 1) ls rest)) : W p l e R s m args below meth c H locs cells slots Q (F0 m pc ls (.int x :: .int (nI k) :: .ref a :: rest)) := by
  refine va_iast hexec hb hK hP hD hS q0 t0 ha ht (vp_in_nI hk hn) hdg ?_
  rw [nI_clamp (Nat.lt_trans hk hn), hf]
  exact kk
/-- a loop: by a measure that falls -/
theorem ja_loop (I : Nat → Heap → List Loc → Array Slot → Prop) (step : ∀ n : Nat, (∀ k : Nat, k < n → ∀ (H : Heap) (locs : List Loc) (ls : Array Slot), I k H locs ls → W p l e R s m args below meth c H locs cells slots Q (F0 m pc ls [])) → ∀ (H : Heap) (locs : List Loc) (ls : Array Slot), I n H locs ls → W p l e R s m args below meth c H locs cells slots Q (F0 m pc ls [])) (n : Nat) {H : Heap} {locs : List Loc} {ls : Array Slot} (h : I n H locs ls) : W p l e R s m args below meth c H locs cells slots Q (F0 m pc ls []) := by
  have all : ∀ n : Nat, ∀ (H : Heap) (locs : List Loc) (ls : Array Slot), I n H locs ls → W p l e R s m args below meth c H locs cells slots Q (F0 m pc ls []) := by
    intro n
    induction n using Nat.strongRecOn with
    | ind n ih => exact step n ih
  exact all n H locs ls h
end JA
/-- what a loop of a method keeps: its world, what it may write, its variables -/
abbrev ja_I (A : Nat → Prop) (D : va_G) (H0 : Heap) (ws : va_W) (nL : Nat) (lv : List (Nat × Value)) (H : Heap) (locs : List Loc) (ls : Array Slot) : Prop := va_P D vwCl ws H ∧ va_D A ws ∧ va_S A H0 H locs ∧ lv_has ls nL lv
abbrev jc_pre (D : va_G) (tys : List (ClassId × FieldType)) (w0 : va_W) (sz : Nat) (av : List Value) : Array Value → State → Prop := va_Pc av (fun U => U.heap.size = sz ∧ va_P D vwCl w0 U.heap ∧ va_K D vwCl tys U ∧ va_D (fun _ => True) w0)
theorem jc_blind (D : va_G) (tys : List (ClassId × FieldType)) (w0 : va_W) (sz : Nat) (av : List Value) : FrameBlind (jc_pre D tys w0 sz av) := by
  intro a U g mk q
  obtain ⟨q0, q1, qP, qK, qD⟩ := q
  exact ⟨q0, q1, qP, va_K.moved (u := U) (U := U.calling g mk a) (Vm.Alike.refl U.vm) qK, qD⟩
abbrev jc_qv (D : va_G) (w1 : va_W) (A : Nat → Prop) : Array Value → State → Outcome → State → Prop := va_Qv (fun _ : Unit => True) (fun _ t => va_P D vwCl w1 t.heap ∧ va_D A w1) A
abbrev jc_qi (D : va_G) (r : Int32) (w1 : va_W) (A : Nat → Prop) : Array Value → State → Outcome → State → Prop := va_Qi (fun (r9 : Int32) (_ : Unit) => r9 = r) (fun _ t => va_P D vwCl w1 t.heap ∧ va_D A w1) A
/-- a contract: nothing is answered; the world w0 becomes w1 -/
def MV (l : Launch) (y : MethodName) (ws : List Cond) (rm : Room) (D : va_G) (tys : List (ClassId × FieldType)) (av : List Value) (w0 w1 : va_W) : Prop := ∀ sz : Nat, Met l y ws rm (jc_pre D tys w0 sz av) (jc_qv D w1 (va_A w0 sz)) 0 0 (va_A w0 sz)
/-- a contract: the int r is answered; the world w0 becomes w1 -/
def MI (l : Launch) (y : MethodName) (ws : List Cond) (rm : Room) (D : va_G) (tys : List (ClassId × FieldType)) (av : List Value) (w0 : va_W) (r : Int32) (w1 : va_W) : Prop := ∀ sz : Nat, Met l y ws rm (jc_pre D tys w0 sz av) (jc_qi D r w1 (va_A w0 sz)) 0 0 (va_A w0 sz)

theorem MV.ofW {l : Launch} {y : MethodName} {cc : ByteArray} {maxL : Nat} {rm : Room} {D : va_G} {tys : List (ClassId × FieldType)} {av : List Value} {w0 w1 : va_W} (hy : plainName y.cls = true) (hlen : (lg_sl av).length ≤ maxL)
    (body : ∀ (p : Program) (e : Env) (s : State) (m : MethodId) (below : List Frame) (meth : Method) (c : Code) (A : Nat → Prop), p.tables.exec = Jvm.exec → c.code = cc → meth.sig.returnType = none → c.maxLocals = maxL → s.vm.findClass y.cls = some m.cls → (∀ w ∈ lw_all, w.before av.toArray s = true) → meth.locks = false → (∀ q : Nat, s.heap.size ≤ q → A q) → va_K D vwCl tys s → va_P D vwCl w0 s.heap → va_D A w0 → ∀ ls : Array Slot, lv_has ls maxL (lv_args 0 av) → W p l e rm s m av.toArray below meth c s.heap [] 0 0 (MQ below (jc_qv D w1 A) av.toArray s 0 0 A) (F0 m 0 ls [])) :
    MV l y (ws_ y cc maxL none) rm D tys av w0 w1 := by
  intro sz
  refine Met.ofW (cc := cc) (maxL := maxL) (ret := none) hy rfl ?_
  intro p e s m args below meth c s₁ B hml hv
  obtain ⟨rfl, hsz, hP, hK, hD0⟩ := hv
  have hts := atoms_spec (ws := ws_ y cc maxL none) B.pre
  have hts : ∀ w ∈ lw_all, w.before _ s = true := fun w h => hts w (List.mem_cons_of_mem _ h)
  subst hsz
  have hD := hD0.self (sz := s.heap.size)
  have hl := lv_entry av (n := maxL) hlen
  rw [lg_entry_eq]
  exact body p e s m below meth c (va_A w0 s.heap.size) B.exec B.bytes B.returns hml (findClass_of_methodNamed B.named) hts B.notSynchronized (fun q h => Or.inr h) hK hP hD _ hl
theorem MI.ofW {l : Launch} {y : MethodName} {cc : ByteArray} {maxL : Nat} {ty : FieldType} {rm : Room} {D : va_G} {tys : List (ClassId × FieldType)} {av : List Value} {w0 w1 : va_W} {r : Int32} (hy : plainName y.cls = true) (hlen : (lg_sl av).length ≤ maxL)
    (body : ∀ (p : Program) (e : Env) (s : State) (m : MethodId) (below : List Frame) (meth : Method) (c : Code) (A : Nat → Prop), p.tables.exec = Jvm.exec → c.code = cc → meth.sig.returnType = (some ty) → c.maxLocals = maxL → s.vm.findClass y.cls = some m.cls → (∀ w ∈ lw_all, w.before av.toArray s = true) → meth.locks = false → (∀ q : Nat, s.heap.size ≤ q → A q) → va_K D vwCl tys s → va_P D vwCl w0 s.heap → va_D A w0 → ∀ ls : Array Slot, lv_has ls maxL (lv_args 0 av) → W p l e rm s m av.toArray below meth c s.heap [] 0 0 (MQ below (jc_qi D r w1 A) av.toArray s 0 0 A) (F0 m 0 ls [])) :
    MI l y (ws_ y cc maxL (some ty)) rm D tys av w0 r w1 := by
  intro sz
  refine Met.ofW (cc := cc) (maxL := maxL) (ret := (some ty)) hy rfl ?_
  intro p e s m args below meth c s₁ B hml hv
  obtain ⟨rfl, hsz, hP, hK, hD0⟩ := hv
  have hts := atoms_spec (ws := ws_ y cc maxL (some ty)) B.pre
  have hts : ∀ w ∈ lw_all, w.before _ s = true := fun w h => hts w (List.mem_cons_of_mem _ h)
  subst hsz
  have hD := hD0.self (sz := s.heap.size)
  have hl := lv_entry av (n := maxL) hlen
  rw [lg_entry_eq]
  exact body p e s m below meth c (va_A w0 s.heap.size) B.exec B.bytes B.returns hml (findClass_of_methodNamed B.named) hts B.notSynchronized (fun q h => Or.inr h) hK hP hD _ hl
section JB
variable {p : Program} {l : Launch} {e : Env} {R : Room} {s : State} {m : MethodId} {args : Array Value} {below : List Frame} {meth : Method} {c : Code} {H : Heap} {locs : List Loc} {cells slots : Nat} {Q : State → Prop} {cc : ByteArray} {pc : Nat} {ls : Array Slot} {rest st : List Value}
variable {D : va_G} {A : Nat → Prop} {b : Nat} {tys tys' : List (ClassId × FieldType)} {ws w0 w1 wr : va_W} {H0 : Heap} {own : String} {index n maxL nL ci : Nat} {y : MethodName} {bytes : ByteArray} {wsy Ts : List Cond} {rm : Room} {As : List Value} {fs : List Value} {q : vw_C} {r : Int32} {ty : FieldType}
theorem jr_v (hx : p.tables.exec = Jvm.exec) (hb : c.code = cc) (hr : meth.sig.returnType = none) (hlocks : meth.locks = false) (hP : va_P D vwCl w1 H) (hD : va_D A w1) (hS : va_S A s.heap H locs) (hdg : decode cc pc = .ok (.return_, 1)) : W p l e R s m args below meth c H locs 0 0 (MQ below (jc_qv D w1 A) args s 0 0 A) (F0 m pc ls []) :=
  W.vret hx hb hr (fun t ht _ => ⟨⟨(), rfl, trivial, by rw [ht]; exact hP, hD⟩, hS.F ht⟩) hS.2.2 hdg
theorem jr_i {v : Int32} (hx : p.tables.exec = Jvm.exec) (hb : c.code = cc) (hr : meth.sig.returnType = some .int) (hlocks : meth.locks = false) (hP : va_P D vwCl w1 H) (hD : va_D A w1) (hS : va_S A s.heap H locs) (hv : v = r) (hdg : decode cc pc = .ok (.ireturn, 1)) : W p l e R s m args below meth c H locs 0 0 (MQ below (jc_qi D r w1 A) args s 0 0 A) (F0 m pc ls [.int v]) :=
  W.iret (v := v) hx hb hr (fun t ht _ => ⟨⟨v, (), rfl, hv, by rw [ht]; exact hP, hD⟩, hS.F ht⟩) hS.2.2 hdg
theorem jr_z {v : Int32} (hx : p.tables.exec = Jvm.exec) (hb : c.code = cc) (hr : meth.sig.returnType = some .boolean) (hn : narrow .boolean (.int v) = .int v) (hlocks : meth.locks = false) (hP : va_P D vwCl w1 H) (hD : va_D A w1) (hS : va_S A s.heap H locs) (hv : v = r) (hdg : decode cc pc = .ok (.ireturn, 1)) : W p l e R s m args below meth c H locs 0 0 (MQ below (jc_qi D r w1 A) args s 0 0 A) (F0 m pc ls [.int v]) :=
  W.zret (v := v) hx hb hr hn (fun t ht _ => ⟨⟨v, (), rfl, hv, by rw [ht]; exact hP, hD⟩, hS.F ht⟩) hS.2.2 hdg
theorem j_pick {is : List Nat} {ws w : va_W} (h : is.map (fun i => ws[i]?) = w.map some) : is.filterMap (fun i => ws[i]?) = w := by
  have h1 := congrArg (List.filterMap id) h
  rw [List.filterMap_map, List.filterMap_map] at h1
  have e1 : (id ∘ fun i => ws[i]?) = fun i : Nat => ws[i]? := rfl
  have e2 : List.filterMap (id ∘ some) w = w := by
    have : (id ∘ some : Nat × va_E → Option (Nat × va_E)) = some := rfl
    rw [this, List.filterMap_some]
  rw [e1, e2] at h1
  exact h1
theorem kc_Vv (S : CallFix p m c cc nL s args Ts own) (hM : MV l y wsy rm D tys' (.ref b :: As) w0 w1) (cw : CallW R s args own q.1 index y bytes maxL none wsy rm 0 0 n) (hK : va_K D vwCl tys s) (ks : List Nat) (hks : ks.filterMap (fun i => tys[i]?) = tys') (hP : va_P D vwCl ws H) (hD : va_D A ws) (hS : va_S A H0 H locs) (hA : ∀ q, H0.size ≤ q → A q) (isC isR : List Nat) (hC : isC.map (fun i => ws[i]?) = w0.map some) (hR : isR.map (fun i => ws[i]?) = wr.map some) (hnC : va_nd isC = true) (hn : va_nd isR = true) (hdis : ∀ i ∈ isR, i ∉ isC) (hc : vwCl[ci]? = some q) (he : w0[0]? = some (b, .inr (ci, fs))) (hlen : As.length = n) (hsize : ls.size = nL) (hst : st = As.reverse ++ .ref b :: rest) (hroom : (rest.map fun v => v.category).sum ≤ 8) (hdg : decode cc pc = .ok (.invokevirtual index, 3)) (hcs : cells ≤ R.cells ∧ slots ≤ R.slots)
    (kk : ∀ (H1 : Heap) (locs1 : List Loc), va_P D vwCl (wr ++ w1) H1 → va_D A (wr ++ w1) → va_S A H0 H1 locs1 → W p l e R s m args below meth c H1 locs1 cells slots Q (F0 m (pc + 3) ls rest)) : W p l e R s m args below meth c H locs cells slots Q (F0 m pc ls st) := by
  have hPc := hP.sub (ws' := w0) isC (j_pick hC)
  have hDc := hD.sub (ws' := w0) isC hnC hC
  have hKc := hK.sub (tys' := tys') ks hks
  have hFc := va_free (wc := w0) hD hS hA isC hC
  refine va_callv (va_runV (As := As) (rest := rest) S (hM H.size) cw ⟨jc_blind D tys' w0 H.size _, va_recv hKc hPc (ci := ci) (q0 := 0) hc he, fun U hU hW => ⟨rfl, by rw [hU], by rw [hU]; exact hPc, va_K.moved hW.alike hKc, hDc.weaken (fun _ _ _ _ => trivial)⟩⟩ rfl hlen hsize hst (lv_room hroom) hdg hcs) hS (fun q _ h => hFc q h) hFc (fun u t H1 locs1 ht hvm hw hB hz1 hk1 hS1 => ?_)
  obtain ⟨hP1, hD1⟩ := hB
  rw [ht] at hP1
  obtain ⟨hP2, hD2⟩ := va_join (wr := wr) (w1 := w1) hP hD isC isR hC hR hn hdis hk1 hFc hP1 hD1
  skip
  exact kk H1 locs1 hP2 hD2 hS1
theorem kc_Vi (S : CallFix p m c cc nL s args Ts own) (hM : MI l y wsy rm D tys' (.ref b :: As) w0 r w1) (cw : CallW R s args own q.1 index y bytes maxL (some ty) wsy rm 0 0 n) (hK : va_K D vwCl tys s) (ks : List Nat) (hks : ks.filterMap (fun i => tys[i]?) = tys') (hP : va_P D vwCl ws H) (hD : va_D A ws) (hS : va_S A H0 H locs) (hA : ∀ q, H0.size ≤ q → A q) (isC isR : List Nat) (hC : isC.map (fun i => ws[i]?) = w0.map some) (hR : isR.map (fun i => ws[i]?) = wr.map some) (hnC : va_nd isC = true) (hn : va_nd isR = true) (hdis : ∀ i ∈ isR, i ∉ isC) (hc : vwCl[ci]? = some q) (he : w0[0]? = some (b, .inr (ci, fs))) (hlen : As.length = n) (hsize : ls.size = nL) (hst : st = As.reverse ++ .ref b :: rest) (hroom : (rest.map fun v => v.category).sum ≤ 8) (hdg : decode cc pc = .ok (.invokevirtual index, 3)) (hcs : cells ≤ R.cells ∧ slots ≤ R.slots)
    (kk : ∀ (H1 : Heap) (locs1 : List Loc), va_P D vwCl (wr ++ w1) H1 → va_D A (wr ++ w1) → va_S A H0 H1 locs1 → W p l e R s m args below meth c H1 locs1 cells slots Q (F0 m (pc + 3) ls (.int r :: rest))) : W p l e R s m args below meth c H locs cells slots Q (F0 m pc ls st) := by
  have hPc := hP.sub (ws' := w0) isC (j_pick hC)
  have hDc := hD.sub (ws' := w0) isC hnC hC
  have hKc := hK.sub (tys' := tys') ks hks
  have hFc := va_free (wc := w0) hD hS hA isC hC
  refine va_calli (va_runV (As := As) (rest := rest) S (hM H.size) cw ⟨jc_blind D tys' w0 H.size _, va_recv hKc hPc (ci := ci) (q0 := 0) hc he, fun U hU hW => ⟨rfl, by rw [hU], by rw [hU]; exact hPc, va_K.moved hW.alike hKc, hDc.weaken (fun _ _ _ _ => trivial)⟩⟩ rfl hlen hsize hst (lv_room hroom) hdg hcs) hS (fun q _ h => hFc q h) hFc (fun r9 u t H1 locs1 ht hvm hw hB hz1 hk1 hS1 => ?_)
  obtain ⟨hP1, hD1⟩ := hB
  rw [ht] at hP1
  obtain ⟨hP2, hD2⟩ := va_join (wr := wr) (w1 := w1) hP hD isC isR hC hR hn hdis hk1 hFc hP1 hD1
  subst hw
  exact kk H1 locs1 hP2 hD2 hS1
theorem kc_Si (S : CallFix p m c cc nL s args Ts own) (hM : MI l y wsy rm D tys' As w0 r w1) (cw : CallB R s args own index y bytes maxL (some ty) wsy rm 0 0 n ∧ (Cond.static y).before args s = true) (hK : va_K D vwCl tys s) (ks : List Nat) (hks : ks.filterMap (fun i => tys[i]?) = tys') (hP : va_P D vwCl ws H) (hD : va_D A ws) (hS : va_S A H0 H locs) (hA : ∀ q, H0.size ≤ q → A q) (isC isR : List Nat) (hC : isC.map (fun i => ws[i]?) = w0.map some) (hR : isR.map (fun i => ws[i]?) = wr.map some) (hnC : va_nd isC = true) (hn : va_nd isR = true) (hdis : ∀ i ∈ isR, i ∉ isC) (hlen : As.length = n) (hsize : ls.size = nL) (hst : st = As.reverse ++ rest) (hroom : (rest.map fun v => v.category).sum ≤ 8) (hdg : decode cc pc = .ok (.invokestatic index, 3)) (hcs : cells ≤ R.cells ∧ slots ≤ R.slots)
    (kk : ∀ (H1 : Heap) (locs1 : List Loc), va_P D vwCl (wr ++ w1) H1 → va_D A (wr ++ w1) → va_S A H0 H1 locs1 → W p l e R s m args below meth c H1 locs1 cells slots Q (F0 m (pc + 3) ls (.int r :: rest))) : W p l e R s m args below meth c H locs cells slots Q (F0 m pc ls st) := by
  have hPc := hP.sub (ws' := w0) isC (j_pick hC)
  have hDc := hD.sub (ws' := w0) isC hnC hC
  have hKc := hK.sub (tys' := tys') ks hks
  have hFc := va_free (wc := w0) hD hS hA isC hC
  refine va_calli (va_runS (As := As) (rest := rest) S (hM H.size) cw ⟨jc_blind D tys' w0 H.size _, fun U hU hW => ⟨rfl, by rw [hU], by rw [hU]; exact hPc, va_K.moved hW.alike hKc, hDc.weaken (fun _ _ _ _ => trivial)⟩⟩ rfl hlen hsize hst (lv_room hroom) hdg hcs) hS (fun q _ h => hFc q h) hFc (fun r9 u t H1 locs1 ht hvm hw hB hz1 hk1 hS1 => ?_)
  obtain ⟨hP1, hD1⟩ := hB
  rw [ht] at hP1
  obtain ⟨hP2, hD2⟩ := va_join (wr := wr) (w1 := w1) hP hD isC isR hC hR hn hdis hk1 hFc hP1 hD1
  subst hw
  exact kk H1 locs1 hP2 hD2 hS1
end JB
end
section
/-- an array of small numbers -/
def nf (f : Nat → Nat) : Nat → Int32 := fun j => nI (f j)
def odL : List Nat := [0, 8, 72, 80, 4, 36, 40, 44, 76, 2, 6, 18, 20, 22, 24, 26, 38, 42, 54, 56, 58, 60, 62, 74, 78, 1, 3, 5, 7, 9, 10, 11, 12, 13, 14, 15, 16, 17, 19, 21, 23, 25, 27, 28, 29, 30, 31, 32, 33, 34, 35, 37, 39, 41, 43, 45, 46, 47, 48, 49, 50, 51, 52, 53, 55, 57, 59, 61, 63, 64, 65, 66, 67, 68, 69, 70, 71, 73, 75, 77, 79]
def rkL : List Nat := [0, 25, 9, 26, 4, 27, 10, 28, 1, 29, 30, 31, 32, 33, 34, 35, 36, 37, 11, 38, 12, 39, 13, 40, 14, 41, 15, 42, 43, 44, 45, 46, 47, 48, 49, 50, 5, 51, 16, 52, 6, 53, 17, 54, 7, 55, 56, 57, 58, 59, 60, 61, 62, 63, 18, 64, 19, 65, 20, 66, 21, 67, 22, 68, 69, 70, 71, 72, 73, 74, 75, 76, 2, 77, 23, 78, 8, 79, 24, 80, 3]
/-- the place that is sent k-th; the rank of a place -/
def od (k : Nat) : Nat := odL.getD k 0
def rk (q : Nat) : Nat := rkL.getD q 0
abbrev Xw (d : ClassId) (a : Nat → Nat) (D B C O R : Nat → Int32) (sn ln ra rc w b : Int32) : va_W := [(a 0, .inr (0, [.ref (a 1), .int sn, .ref (a 2), .int ln, .int ra, .int rc, .ref (a 3), .ref (a 4), .ref (a 5), .int w, .int b])), (a 1, .inl (d, 81, .inl D)), (a 2, .inl (d, 48, .inl B)), (a 3, .inl (d, 81, .inl C)), (a 4, .inl (d, 81, .inl O)), (a 5, .inl (d, 81, .inl R))]
abbrev Yw (d : ClassId) (a : Nat → Nat) (D E : Nat → Int32) (an rc : Int32) : va_W := [(a 0, .inr (1, [.ref (a 1), .ref (a 2), .int an, .int rc])), (a 1, .inl (d, 81, .inl D)), (a 2, .inl (d, 81, .inl E))]
abbrev ro0 : Room := { frames := 0, cells := 0, slots := 0, locals := 0 }
abbrev ro1 : Room := { frames := 1, cells := 0, slots := 0, locals := 32 }
abbrev ro2 : Room := { frames := 2, cells := 0, slots := 0, locals := 64 }
abbrev ro3 : Room := { frames := 3, cells := 0, slots := 0, locals := 96 }
/-- the step of a lattice point: the greatest of 2^j .. 2, 1 that goes into both -/
def stj (x y : Nat) : Nat → Nat
  | 0 => 1
  | j + 1 => if x % 2 ^ (j + 1) = 0 ∧ y % 2 ^ (j + 1) = 0 then 2 ^ (j + 1) else stj x y j
def st2 (x y : Nat) : Nat := stj x y 3
def stp (q : Nat) : Nat := st2 (q % 9) (q / 9)
/-- the foretold value of place q, out of a picture P -/
def gs (P : Nat → Nat) (q : Nat) : Nat :=
  if stp q = 8 then (if rk q = 0 then 128 else P (od (rk q - 1)))
  else if q % 9 % (2 * stp q) ≠ 0 ∧ q / 9 % (2 * stp q) ≠ 0 then (P (q - 9 * stp q - stp q) + P (q - 9 * stp q + stp q) + (P (q + 9 * stp q - stp q) + P (q + 9 * stp q + stp q)) + 2) / 4
  else (P (q - (if q % 9 % (2 * stp q) ≠ 0 then stp q else 9 * stp q)) + P (q + (if q % 9 % (2 * stp q) ≠ 0 then stp q else 9 * stp q)) + 1) / 2
def fl (x : Nat) : Nat := if x < 128 then 2 * x else 2 * (255 - x) + 1
def uf (f : Nat) : Nat := if f % 2 = 0 then f / 2 else 255 - f / 2
/-- the balance behind a folded number -/
def ab (w : Nat) (b : Int32) (f : Nat) : Int32 := if 1 < f / 2 ^ w then b + 2 else if 2 * f / 2 ^ w = 0 then b - 1 else b
/-- width and balance behind a folded number -/
def ad (w : Nat) (b : Int32) (f : Nat) : Nat × Int32 := if ¬ ab w b f < nI 4 ∧ w < 6 then (w + 1, nI 0) else if ¬ (-4) < ab w b f ∧ 0 < w then (w - 1, nI 0) else (w, ab w b f)
/-- the low c bits of v, the highest first -/
def bt (v : Nat) : Nat → List Nat
  | 0 => []
  | c + 1 => (v / 2 ^ c % 2) :: bt v c
/-- the code of f at width w -/
def cd (f w : Nat) : List Nat := if 8 ≤ f / 2 ^ w then List.replicate 8 1 ++ bt f 8 else List.replicate (f / 2 ^ w) 1 ++ 0 :: bt (f % 2 ^ w) w
/-- bit b is laid at n; a list of bits is laid from n on; bit n is read -/
def wB (B : Nat → Int32) (n b : Nat) : Nat → Int32 := upd B (n / 32) (B (n / 32) ||| nI b <<< (nI (n % 32) &&& 31))
def wL : List Nat → (Nat → Int32) → Nat → (Nat → Int32)
  | [], B, _ => B
  | b :: L, B, n => wL L (wB B n b) (n + 1)
def rB (B : Nat → Int32) (n : Nat) : Nat := (B (n / 32)).toBitVec.toNat / 2 ^ (n % 32) % 2
def rv (B : Nat → Int32) (n : Nat) : Nat → Nat
  | 0 => 0
  | c + 1 => 2 * rv B n c + rB B (n + c)
/-- the folded number of the k-th place of a picture; width and balance ahead of it; the bits ahead of it -/
def fo (e : Nat → Nat) (k : Nat) : Nat := fl ((e (od k) + 256 - gs e (od k)) % 256)
def wb (e : Nat → Nat) : Nat → Nat × Int32
  | 0 => (3, nI 0)
  | k + 1 => ad (wb e k).1 (wb e k).2 (fo e k)
def stm (e : Nat → Nat) : Nat → List Nat
  | 0 => []
  | k + 1 => stm e k ++ cd (fo e k) (wb e k).1
/-- a picture that is written over at one place -/
def up (f : Nat → Nat) (k x : Nat) : Nat → Nat := fun j => if j = k then x else f j
end
section
theorem sh_l : ∀ n, n < 32 → ((nI n &&& 31).toBitVec.smod 32).toNat = n := by decide +kernel
theorem sh_u : ∀ n, n < 32 → (((nI n).toUInt32 &&& Int32.toUInt32 31).toBitVec % 32).toNat = n := by decide +kernel
theorem ar_shr {a k : Nat} (ha : a < 2 ^ 31) (hk : k < 32) : nI a >>> (nI k &&& 31) = nI (a / 2 ^ k) := pk_shrN ha _ k (sh_l k hk)
theorem ar_shl {a k : Nat} (hk : k < 32) (h : a * 2 ^ k < 2 ^ 32) : nI a <<< (nI k &&& 31) = nI (a * 2 ^ k) := pk_shlN _ k (sh_l k hk) h
theorem ar_ushr {a k : Nat} (ha : a < 2 ^ 32) (hk : k < 32) : ((nI a).toUInt32 >>> ((nI k).toUInt32 &&& Int32.toUInt32 31)).toInt32 = nI (a / 2 ^ k) := pk_ushrN ha _ k (sh_u k hk)
theorem ar_and31 {n : Nat} (h : n < 2 ^ 32) : nI n &&& nI 31 = nI (n % 32) := pk_andN h 5 (by decide)
theorem ar_and1 {n : Nat} (h : n < 2 ^ 32) : nI n &&& nI 1 = nI (n % 2) := pk_andN h 1 (by decide)
theorem ar_and7 (x : Int32) : x &&& nI 7 = nI (x.toBitVec.toNat % 8) := pk_and x 3 (by decide)
theorem ar_and255 (x : Int32) : x &&& nI 255 = nI (x.toBitVec.toNat % 256) := pk_and x 8 (by decide)
theorem ar_and255N {n : Nat} (h : n < 2 ^ 32) : nI n &&& nI 255 = nI (n % 256) := pk_andN h 8 (by decide)
theorem ar_mask {f w : Nat} (hf : f < 2 ^ 32) (hw : w < 32) : nI f &&& nI (2 ^ w - 1) = nI (f % 2 ^ w) := by
  refine pk_andN hf w ?_
  exact pk_tn (Nat.lt_of_le_of_lt (Nat.sub_le _ _) (Nat.pow_lt_pow_right (by decide) hw))
theorem ar_shr5 {a : Nat} (ha : a < 2 ^ 31) : nI a >>> (nI 5 &&& 31) = nI (a / 32) := by
  rw [ar_shr ha (by decide)]
theorem ar_wrap (n : Nat) : nI (n + 4294967296) = nI n := by
  apply Int32.toBitVec_inj.mp
  show BitVec.ofNat 32 (n + 4294967296) = BitVec.ofNat 32 n
  apply BitVec.eq_of_toNat_eq
  simp only [BitVec.toNat_ofNat]
  omega
theorem ar_sub_lt {a g : Nat} (h : a < g) (hg : g ≤ 4294967296) : nI a - nI g = nI (a + 4294967296 - g) := by
  have h1 : nI (a + 4294967296) = nI a := ar_wrap a
  rw [← h1]
  exact pk_sub (by omega)
theorem ar_diff {a g : Nat} (ha : a < 256) (hg : g < 256) : (nI a - nI g) &&& nI 255 = nI ((a + 256 - g) % 256) := by
  rcases Nat.lt_or_ge a g with h | h
  · rw [ar_sub_lt h (by omega), ar_and255N (by omega)]
    congr 1
    omega
  · rw [pk_sub h, ar_and255N (by omega)]
    congr 1
    omega
theorem ar_255 : ∀ x : Int32, x.toBitVec.toNat % 256 < 256 := fun _ => Nat.mod_lt _ (by decide)
theorem ar_pow6 {w : Nat} (h : w ≤ 6) : 2 ^ w ≤ 64 := Nat.pow_le_pow_right (by decide) h
theorem ar_pow0 (w : Nat) : 0 < 2 ^ w := Nat.pow_pos (by decide)
theorem ar_nf_upd (f : Nat → Nat) (k x : Nat) : upd (nf f) k (nI x) = nf (up f k x) := by
  funext j
  by_cases h : j = k
  · simp [upd, nf, up, h]
  · simp [upd, nf, up, h]
theorem ar_up_lt {f : Nat → Nat} (h : ∀ j, f j < 256) (k : Nat) {x : Nat} (hx : x < 256) : ∀ j, up f k x j < 256 := by
  intro j
  unfold up
  split
  · exact hx
  · exact h j
theorem ar_div_lt {f w : Nat} (h : f < 256) : f / 2 ^ w < 256 := Nat.lt_of_le_of_lt (Nat.div_le_self _ _) h
end
section
/-- the point is in the picture, as the code asks it -/
abbrev ip (x y : Int32) : Prop := ¬ x < 0 ∧ ¬ nI 8 < x ∧ ¬ y < 0 ∧ ¬ nI 8 < y
theorem lw_rB (B : Nat → Int32) (n : Nat) : ((B (n / 32)).toUInt32 >>> ((nI (n % 32)).toUInt32 &&& Int32.toUInt32 31)).toInt32 &&& nI 1 = nI (rB B n) := by
  rw [pk_and _ (m := nI 1) 1 (by decide), pk_ushr _ _ (n % 32) (sh_u _ (Nat.mod_lt _ (by decide)))]
  rfl
set_option maxHeartbeats 4000000 in
set_option maxRecDepth 100000 in
/-- bit k is laid at place n -/
theorem mX0_writeBit (l : Launch) (G : va_G) (d : ClassId) (a : Nat → Nat) (D B C : Nat → Int32) (sn ra rc w b : Int32) (n k : Nat) (hn : n < 1536) : MV l yX0_writeBit (ws_ yX0_writeBit cX0_writeBit 2 none) ro0 G [(d, .int)] [.ref (a 0), .int (nI k)] (Xw d a D B C (nf od) (nf rk) sn (nI n) ra rc w b) (Xw d a D (wB B n k) C (nf od) (nf rk) sn (nI (n + 1)) ra rc w b) := by
  refine MV.ofW (by decide) (Nat.le_of_ble_eq_true rfl) ?_
  intro p e8 s m below meth c A hx hb hr hml hown hts hlocks hA hK hP hD ls hl
  have hS : va_S A s.heap s.heap [] := va_S.rf
  have hown : s.vm.findClass RX0 = some m.cls := hown
  have hl : lv_has ls 2 [(0, .ref (a 0)), (1, .int (nI k))] := hl
  refine lv_aload_n hx hb dX0_writeBit_0 rfl (lv_at hl 0 rfl) ?_
  refine va_get (D := G) (ci := 0) (v := .ref (a 2)) (C := RX0) (T := TX0) (N := 11) hx hb hts in_X0 hown hK hP 0 rfl rfl 2 (by decide) (hts _ q26) (fun _ h9 => h9) rfl dX0_writeBit_1 ?_
  refine lv_aload_n hx hb dX0_writeBit_4 rfl (lv_at hl 0 rfl) ?_
  refine va_get (D := G) (ci := 0) (v := .int (nI n)) (C := RX0) (T := TX0) (N := 11) hx hb hts in_X0 hown hK hP 0 rfl rfl 3 (by decide) (hts _ q27) (fun _ h9 => h9) rfl dX0_writeBit_5 ?_
  refine lv_iconst (v := nI 5) hx hb dX0_writeBit_8 (by decide) ?_
  refine ji_shr hx hb dX0_writeBit_9 (v := nI (n / 32)) (ar_shr5 (by omega)) ?_
  refine lv_dup2_11 hx hb dX0_writeBit_10 rfl rfl ?_
  refine ja_ld hx hb hK hP 2 0 rfl rfl (k := n / 32) (by omega) (by decide) (v := B (n / 32)) rfl dX0_writeBit_11 ?_
  refine lv_iload_n hx hb dX0_writeBit_12 rfl (lv_at hl 1 rfl) ?_
  refine lv_aload_n hx hb dX0_writeBit_13 rfl (lv_at hl 0 rfl) ?_
  refine va_get (D := G) (ci := 0) (v := .int (nI n)) (C := RX0) (T := TX0) (N := 11) hx hb hts in_X0 hown hK hP 0 rfl rfl 3 (by decide) (hts _ q27) (fun _ h9 => h9) rfl dX0_writeBit_14 ?_
  refine lv_bipush (v := nI 31) hx hb dX0_writeBit_17 (by decide) ?_
  refine ji_and hx hb dX0_writeBit_19 (v := nI (n % 32)) (ar_and31 (by omega)) ?_
  refine ji_shl hx hb dX0_writeBit_20 (v := (nI k) <<< ((nI (n % 32)) &&& 31)) rfl ?_
  refine ji_or hx hb dX0_writeBit_21 (v := (B (n / 32)) ||| ((nI k) <<< ((nI (n % 32)) &&& 31))) rfl ?_
  refine ja_st hx hb hK hP hD hS 2 0 rfl rfl (k := n / 32) (by omega) (by decide) (f' := wB B n k) rfl dX0_writeBit_22 (fun H locs hP hD hS => ?_)
  have hP : va_P G vwCl (Xw d a D (wB B n k) C (nf od) (nf rk) sn (nI n) ra rc w b) H := hP
  have hD : va_D A (Xw d a D (wB B n k) C (nf od) (nf rk) sn (nI n) ra rc w b) := hD
  refine lv_aload_n hx hb dX0_writeBit_23 rfl (lv_at hl 0 rfl) ?_
  refine lv_dup hx hb dX0_writeBit_24 rfl ?_
  refine va_get (D := G) (ci := 0) (v := .int (nI n)) (C := RX0) (T := TX0) (N := 11) hx hb hts in_X0 hown hK hP 0 rfl rfl 3 (by decide) (hts _ q27) (fun _ h9 => h9) rfl dX0_writeBit_25 ?_
  refine lv_iconst (v := nI 1) hx hb dX0_writeBit_28 (by decide) ?_
  refine ji_add hx hb dX0_writeBit_29 (v := nI (n + 1)) (nI_add n 1) ?_
  refine va_put (D := G) (ci := 0) (v := .int (nI (n + 1))) (ty := .int) (C := RX0) (T := TX0) (N := 11) hx hb hts in_X0 tyX0 tyX0_ok nmX0 hown hK hP hD hS 0 rfl rfl 3 (by decide) (hts _ q27) (fun _ h9 => h9) rfl (by decide +kernel) rfl rfl (Nat.le_of_ble_eq_true rfl) dX0_writeBit_30 (fun H locs hP hD hS => ?_)
  have hP : va_P G vwCl (Xw d a D (wB B n k) C (nf od) (nf rk) sn (nI (n + 1)) ra rc w b) H := hP
  have hD : va_D A (Xw d a D (wB B n k) C (nf od) (nf rk) sn (nI (n + 1)) ra rc w b) := hD
  exact jr_v hx hb hr hlocks hP hD hS dX0_writeBit_33
set_option maxHeartbeats 4000000 in
set_option maxRecDepth 100000 in
/-- bit n is read -/
theorem mX0_readBit (l : Launch) (G : va_G) (d : ClassId) (a : Nat → Nat) (D B C : Nat → Int32) (sn ln rc w b : Int32) (n : Nat) (hn : n < 1536) : MI l yX0_readBit (ws_ yX0_readBit cX0_readBit 2 (some .int)) ro0 G [(d, .int)] [.ref (a 0)] (Xw d a D B C (nf od) (nf rk) sn ln (nI n) rc w b) (nI (rB B n)) (Xw d a D B C (nf od) (nf rk) sn ln (nI (n + 1)) rc w b) := by
  refine MI.ofW (by decide) (Nat.le_of_ble_eq_true rfl) ?_
  intro p e8 s m below meth c A hx hb hr hml hown hts hlocks hA hK hP hD ls hl
  have hS : va_S A s.heap s.heap [] := va_S.rf
  have hown : s.vm.findClass RX0 = some m.cls := hown
  have hl : lv_has ls 2 [(0, .ref (a 0))] := hl
  refine lv_aload_n hx hb dX0_readBit_0 rfl (lv_at hl 0 rfl) ?_
  refine va_get (D := G) (ci := 0) (v := .ref (a 2)) (C := RX0) (T := TX0) (N := 11) hx hb hts in_X0 hown hK hP 0 rfl rfl 2 (by decide) (hts _ q26) (fun _ h9 => h9) rfl dX0_readBit_1 ?_
  refine lv_aload_n hx hb dX0_readBit_4 rfl (lv_at hl 0 rfl) ?_
  refine va_get (D := G) (ci := 0) (v := .int (nI n)) (C := RX0) (T := TX0) (N := 11) hx hb hts in_X0 hown hK hP 0 rfl rfl 4 (by decide) (hts _ q28) (fun _ h9 => h9) rfl dX0_readBit_5 ?_
  refine lv_iconst (v := nI 5) hx hb dX0_readBit_8 (by decide) ?_
  refine ji_shr hx hb dX0_readBit_9 (v := nI (n / 32)) (ar_shr5 (by omega)) ?_
  refine ja_ld hx hb hK hP 2 0 rfl rfl (k := n / 32) (by omega) (by decide) (v := B (n / 32)) rfl dX0_readBit_10 ?_
  refine lv_aload_n hx hb dX0_readBit_11 rfl (lv_at hl 0 rfl) ?_
  refine va_get (D := G) (ci := 0) (v := .int (nI n)) (C := RX0) (T := TX0) (N := 11) hx hb hts in_X0 hown hK hP 0 rfl rfl 4 (by decide) (hts _ q28) (fun _ h9 => h9) rfl dX0_readBit_12 ?_
  refine lv_bipush (v := nI 31) hx hb dX0_readBit_15 (by decide) ?_
  refine ji_and hx hb dX0_readBit_17 (v := nI (n % 32)) (ar_and31 (by omega)) ?_
  refine lv_iushr (v := ((B (n / 32)).toUInt32 >>> ((nI (n % 32)).toUInt32 &&& Int32.toUInt32 31)).toInt32) hx hb dX0_readBit_18 rfl ?_
  refine lv_iconst (v := nI 1) hx hb dX0_readBit_19 (by decide) ?_
  refine ji_and hx hb dX0_readBit_20 (v := nI (rB B n)) (lw_rB B n) ?_
  refine lv_istore_n (lv' := [(1, .int (nI (rB B n))), (0, .ref (a 0))]) hx hb dX0_readBit_21 rfl hl (by decide) rfl (fun ls hl => ?_)
  refine lv_aload_n hx hb dX0_readBit_22 rfl (lv_at hl 1 rfl) ?_
  refine lv_dup hx hb dX0_readBit_23 rfl ?_
  refine va_get (D := G) (ci := 0) (v := .int (nI n)) (C := RX0) (T := TX0) (N := 11) hx hb hts in_X0 hown hK hP 0 rfl rfl 4 (by decide) (hts _ q28) (fun _ h9 => h9) rfl dX0_readBit_24 ?_
  refine lv_iconst (v := nI 1) hx hb dX0_readBit_27 (by decide) ?_
  refine ji_add hx hb dX0_readBit_28 (v := nI (n + 1)) (nI_add n 1) ?_
  refine va_put (D := G) (ci := 0) (v := .int (nI (n + 1))) (ty := .int) (C := RX0) (T := TX0) (N := 11) hx hb hts in_X0 tyX0 tyX0_ok nmX0 hown hK hP hD hS 0 rfl rfl 4 (by decide) (hts _ q28) (fun _ h9 => h9) rfl (by decide +kernel) rfl rfl (Nat.le_of_ble_eq_true rfl) dX0_readBit_29 (fun H locs hP hD hS => ?_)
  have hP : va_P G vwCl (Xw d a D B C (nf od) (nf rk) sn ln (nI (n + 1)) rc w b) H := hP
  have hD : va_D A (Xw d a D B C (nf od) (nf rk) sn ln (nI (n + 1)) rc w b) := hD
  refine lv_iload_n hx hb dX0_readBit_32 rfl (lv_at hl 0 rfl) ?_
  exact jr_i hx hb hr hlocks hP hD hS rfl dX0_readBit_33
set_option maxHeartbeats 4000000 in
set_option maxRecDepth 100000 in
/-- width 3, balance 0 -/
theorem mX0_startWidth (l : Launch) (G : va_G) (d : ClassId) (a : Nat → Nat) (D B C : Nat → Int32) (sn ln ra rc w b : Int32) : MV l yX0_startWidth (ws_ yX0_startWidth cX0_startWidth 1 none) ro0 G [(d, .int)] [.ref (a 0)] (Xw d a D B C (nf od) (nf rk) sn ln ra rc w b) (Xw d a D B C (nf od) (nf rk) sn ln ra rc (nI 3) (nI 0)) := by
  refine MV.ofW (by decide) (Nat.le_of_ble_eq_true rfl) ?_
  intro p e8 s m below meth c A hx hb hr hml hown hts hlocks hA hK hP hD ls hl
  have hS : va_S A s.heap s.heap [] := va_S.rf
  have hown : s.vm.findClass RX0 = some m.cls := hown
  have hl : lv_has ls 1 [(0, .ref (a 0))] := hl
  refine lv_aload_n hx hb dX0_startWidth_0 rfl (lv_at hl 0 rfl) ?_
  refine lv_iconst (v := nI 3) hx hb dX0_startWidth_1 (by decide) ?_
  refine va_put (D := G) (ci := 0) (v := .int (nI 3)) (ty := .int) (C := RX0) (T := TX0) (N := 11) hx hb hts in_X0 tyX0 tyX0_ok nmX0 hown hK hP hD hS 0 rfl rfl 9 (by decide) (hts _ q33) (fun _ h9 => h9) rfl (by decide +kernel) rfl rfl (Nat.le_of_ble_eq_true rfl) dX0_startWidth_2 (fun H locs hP hD hS => ?_)
  have hP : va_P G vwCl (Xw d a D B C (nf od) (nf rk) sn ln ra rc (nI 3) b) H := hP
  have hD : va_D A (Xw d a D B C (nf od) (nf rk) sn ln ra rc (nI 3) b) := hD
  refine lv_aload_n hx hb dX0_startWidth_5 rfl (lv_at hl 0 rfl) ?_
  refine lv_iconst (v := nI 0) hx hb dX0_startWidth_6 (by decide) ?_
  refine va_put (D := G) (ci := 0) (v := .int (nI 0)) (ty := .int) (C := RX0) (T := TX0) (N := 11) hx hb hts in_X0 tyX0 tyX0_ok nmX0 hown hK hP hD hS 0 rfl rfl 10 (by decide) (hts _ q34) (fun _ h9 => h9) rfl (by decide +kernel) rfl rfl (Nat.le_of_ble_eq_true rfl) dX0_startWidth_7 (fun H locs hP hD hS => ?_)
  have hP : va_P G vwCl (Xw d a D B C (nf od) (nf rk) sn ln ra rc (nI 3) (nI 0)) H := hP
  have hD : va_D A (Xw d a D B C (nf od) (nf rk) sn ln ra rc (nI 3) (nI 0)) := hD
  exact jr_v hx hb hr hlocks hP hD hS dX0_startWidth_10
set_option maxHeartbeats 4000000 in
set_option maxRecDepth 100000 in
/-- a pixel of the drawn or of the decoded picture -/
theorem mX0_pixelFor (l : Launch) (G : va_G) (d : ClassId) (a : Nat → Nat) (D C : Nat → Nat) (B : Nat → Int32) (sn ln ra rc w b : Int32) (q z : Nat) (hq : q < 81) (hz : z < 2) : MI l yX0_pixelFor (ws_ yX0_pixelFor cX0_pixelFor 3 (some .int)) ro0 G [(d, .int)] [.ref (a 0), .int (nI q), .int (nI z)] (Xw d a (nf D) B (nf C) (nf od) (nf rk) sn ln ra rc w b) (nI ((if z = 0 then C else D) q)) (Xw d a (nf D) B (nf C) (nf od) (nf rk) sn ln ra rc w b) := by
  refine MI.ofW (by decide) (Nat.le_of_ble_eq_true rfl) ?_
  intro p e8 s m below meth c A hx hb hr hml hown hts hlocks hA hK hP hD ls hl
  have hS : va_S A s.heap s.heap [] := va_S.rf
  have hown : s.vm.findClass RX0 = some m.cls := hown
  have hl : lv_has ls 3 [(0, .ref (a 0)), (1, .int (nI q)), (2, .int (nI z))] := hl
  refine lv_iload_n hx hb dX0_pixelFor_0 rfl (lv_at hl 2 rfl) ?_
  refine jz_eq (tgt := 13) hx hb (by omega) dX0_pixelFor_1 (by decide) (fun c_1 => ?_) (fun c_1 => ?_)
  · refine lv_aload_n hx hb dX0_pixelFor_13 rfl (lv_at hl 0 rfl) ?_
    refine va_get (D := G) (ci := 0) (v := .ref (a 3)) (C := RX0) (T := TX0) (N := 11) hx hb hts in_X0 hown hK hP 0 rfl rfl 6 (by decide) (hts _ q30) (fun _ h9 => h9) rfl dX0_pixelFor_14 ?_
    refine lv_iload_n hx hb dX0_pixelFor_17 rfl (lv_at hl 1 rfl) ?_
    refine ja_ld hx hb hK hP 3 0 rfl rfl (k := q) (by omega) (by decide) (v := nI (C q)) rfl dX0_pixelFor_18 ?_
    exact jr_i hx hb hr hlocks hP hD hS (by rw [if_pos c_1]) dX0_pixelFor_19
  · refine lv_aload_n hx hb dX0_pixelFor_4 rfl (lv_at hl 0 rfl) ?_
    refine va_get (D := G) (ci := 0) (v := .ref (a 1)) (C := RX0) (T := TX0) (N := 11) hx hb hts in_X0 hown hK hP 0 rfl rfl 0 (by decide) (hts _ q24) (fun _ h9 => h9) rfl dX0_pixelFor_5 ?_
    refine lv_iload_n hx hb dX0_pixelFor_8 rfl (lv_at hl 1 rfl) ?_
    refine ja_ld hx hb hK hP 1 0 rfl rfl (k := q) (by omega) (by decide) (v := nI (D q)) rfl dX0_pixelFor_9 ?_
    refine lv_goto (tgt := 19) hx hb dX0_pixelFor_10 (by decide) ?_
    exact jr_i hx hb hr hlocks hP hD hS (by rw [if_neg c_1]) dX0_pixelFor_19
set_option maxHeartbeats 4000000 in
set_option maxRecDepth 100000 in
/-- a difference is folded -/
theorem mX0_fold (l : Launch) (G : va_G) (f : Nat) (hf : f < 256) : MI l yX0_fold (ws_ yX0_fold cX0_fold 1 (some .int)) ro0 G [] [.int (nI f)] ([]) (nI (fl f)) ([]) := by
  refine MI.ofW (by decide) (Nat.le_of_ble_eq_true rfl) ?_
  intro p e8 s m below meth c A hx hb hr hml hown hts hlocks hA hK hP hD ls hl
  have hS : va_S A s.heap s.heap [] := va_S.rf
  have hown : s.vm.findClass RX0 = some m.cls := hown
  have hl : lv_has ls 1 [(0, .int (nI f))] := hl
  refine lv_iload_n hx hb dX0_fold_0 rfl (lv_at hl 0 rfl) ?_
  refine lv_sipush (v := nI 128) hx hb dX0_fold_1 (by decide) ?_
  refine jn_ge (tgt := 13) hx hb (by omega) (by omega) dX0_fold_4 (by decide) (fun c_1 => ?_) (fun c_1 => ?_)
  · refine lv_iconst (v := nI 2) hx hb dX0_fold_13 (by decide) ?_
    refine lv_sipush (v := nI 255) hx hb dX0_fold_14 (by decide) ?_
    refine lv_iload_n hx hb dX0_fold_17 rfl (lv_at hl 0 rfl) ?_
    refine ji_sub hx hb dX0_fold_18 (v := nI (255 - f)) (pk_sub (a := 255) (b := f) (by omega)) ?_
    refine ji_mul hx hb dX0_fold_19 (v := nI (2 * (255 - f))) (pk_mul 2 (255 - f)) ?_
    refine lv_iconst (v := nI 1) hx hb dX0_fold_20 (by decide) ?_
    refine ji_add hx hb dX0_fold_21 (v := nI ((2 * (255 - f)) + 1)) (nI_add (2 * (255 - f)) 1) ?_
    exact jr_i hx hb hr hlocks hP hD hS (by unfold fl; rw [if_neg (by omega)]) dX0_fold_22
  · refine lv_iconst (v := nI 2) hx hb dX0_fold_7 (by decide) ?_
    refine lv_iload_n hx hb dX0_fold_8 rfl (lv_at hl 0 rfl) ?_
    refine ji_mul hx hb dX0_fold_9 (v := nI (2 * f)) (pk_mul 2 f) ?_
    refine lv_goto (tgt := 22) hx hb dX0_fold_10 (by decide) ?_
    exact jr_i hx hb hr hlocks hP hD hS (by unfold fl; rw [if_pos c_1]) dX0_fold_22
set_option maxHeartbeats 4000000 in
set_option maxRecDepth 100000 in
/-- and unfolded -/
theorem mX0_unfold (l : Launch) (G : va_G) (f : Nat) (hf : f < 512) : MI l yX0_unfold (ws_ yX0_unfold cX0_unfold 1 (some .int)) ro0 G [] [.int (nI f)] ([]) (nI (uf f)) ([]) := by
  refine MI.ofW (by decide) (Nat.le_of_ble_eq_true rfl) ?_
  intro p e8 s m below meth c A hx hb hr hml hown hts hlocks hA hK hP hD ls hl
  have hS : va_S A s.heap s.heap [] := va_S.rf
  have hown : s.vm.findClass RX0 = some m.cls := hown
  have hl : lv_has ls 1 [(0, .int (nI f))] := hl
  refine lv_iload_n hx hb dX0_unfold_0 rfl (lv_at hl 0 rfl) ?_
  refine lv_iconst (v := nI 2) hx hb dX0_unfold_1 (by decide) ?_
  refine ji_rem hx hb dX0_unfold_2 (by decide) (v := nI (f % 2)) (pk_rem (a := f) (d := 2) (by omega) (by omega) (by omega)) ?_
  refine jz_ne (tgt := 12) hx hb (by omega) dX0_unfold_3 (by decide) (fun c_1 => ?_) (fun c_1 => ?_)
  · refine lv_sipush (v := nI 255) hx hb dX0_unfold_12 (by decide) ?_
    refine lv_iload_n hx hb dX0_unfold_15 rfl (lv_at hl 0 rfl) ?_
    refine lv_iconst (v := nI 2) hx hb dX0_unfold_16 (by decide) ?_
    refine ji_div hx hb dX0_unfold_17 (by decide) (v := nI (f / 2)) (pk_div (a := f) (d := 2) (by omega) (by omega) (by omega)) ?_
    refine ji_sub hx hb dX0_unfold_18 (v := nI (255 - (f / 2))) (pk_sub (a := 255) (b := (f / 2)) (by omega)) ?_
    exact jr_i hx hb hr hlocks hP hD hS (by unfold uf; rw [if_neg c_1]) dX0_unfold_19
  · refine lv_iload_n hx hb dX0_unfold_6 rfl (lv_at hl 0 rfl) ?_
    refine lv_iconst (v := nI 2) hx hb dX0_unfold_7 (by decide) ?_
    refine ji_div hx hb dX0_unfold_8 (by decide) (v := nI (f / 2)) (pk_div (a := f) (d := 2) (by omega) (by omega) (by omega)) ?_
    refine lv_goto (tgt := 19) hx hb dX0_unfold_9 (by decide) ?_
    exact jr_i hx hb hr hlocks hP hD hS (by unfold uf; rw [if_pos c_1]) dX0_unfold_19
set_option maxHeartbeats 4000000 in
set_option maxRecDepth 100000 in
/-- the step of a lattice point -/
theorem mX0_stepOf (l : Launch) (G : va_G) (x y : Nat) (hx9 : x < 2 ^ 31) (hy9 : y < 2 ^ 31) : MI l yX0_stepOf (ws_ yX0_stepOf cX0_stepOf 3 (some .int)) ro0 G [] [.int (nI x), .int (nI y)] ([]) (nI (st2 x y)) ([]) := by
  refine MI.ofW (by decide) (Nat.le_of_ble_eq_true rfl) ?_
  intro p e8 s m below meth c A hx hb hr hml hown hts hlocks hA hK hP hD ls hl
  have hS : va_S A s.heap s.heap [] := va_S.rf
  have hown : s.vm.findClass RX0 = some m.cls := hown
  have hl : lv_has ls 3 [(0, .int (nI x)), (1, .int (nI y))] := hl
  refine lv_bipush (v := nI 8) hx hb dX0_stepOf_0 (by decide) ?_
  refine lv_istore_n (lv' := [(2, .int (nI 8)), (0, .int (nI x)), (1, .int (nI y))]) hx hb dX0_stepOf_2 rfl hl (by decide) rfl (fun ls hl => ?_)
  refine ja_loop (fun n H locs ls => n ≤ 3 ∧ st2 x y = stj x y n ∧ ja_I A G s.heap ([]) 3 [(0, .int (nI x)), (1, .int (nI y)), (2, .int (nI (2 ^ n)))] H locs ls) ?_ 3 ⟨Nat.le_refl 3, rfl, hP, hD, hS, lv_sub hl [1, 2, 0] rfl⟩
  intro n ih H locs ls hI
  obtain ⟨hn, hs, hP, hD, hS, hl⟩ := hI
  have hp : 2 ^ n ≤ 8 := Nat.pow_le_pow_right (n := 2) (by decide) hn
  have hp0 := ar_pow0 n
  refine lv_iload_n hx hb dX0_stepOf_3 rfl (lv_at hl 2 rfl) ?_
  refine lv_iconst (v := nI 1) hx hb dX0_stepOf_4 (by decide) ?_
  refine jn_le (tgt := 29) hx hb (by omega) (by omega) dX0_stepOf_5 (by decide) (fun c_1 => ?_) (fun c_1 => ?_)
  · have hn0 : n = 0 := by
      rcases n with _ | n
      · rfl
      · have := ar_pow0 n; rw [Nat.pow_succ] at c_1; omega
    subst hn0
    refine lv_iconst (v := nI 1) hx hb dX0_stepOf_29 (by decide) ?_
    exact jr_i hx hb hr hlocks hP hD hS (by rw [hs]; rfl) dX0_stepOf_30
  · obtain ⟨j, rfl⟩ : ∃ j, n = j + 1 := by
      rcases n with _ | n
      · exact absurd c_1 (by decide)
      · exact ⟨n, rfl⟩
    refine lv_iload_n hx hb dX0_stepOf_8 rfl (lv_at hl 0 rfl) ?_
    refine lv_iload_n hx hb dX0_stepOf_9 rfl (lv_at hl 2 rfl) ?_
    refine ji_rem hx hb dX0_stepOf_10 (nI_ne0 (by omega) (by omega)) (v := nI (x % (2 ^ (j + 1)))) (pk_rem (a := x) (d := 2 ^ (j + 1)) (by omega) (by omega) (by omega)) ?_
    refine jz_ne (tgt := 22) hx hb (Nat.lt_of_le_of_lt (Nat.mod_le _ _) hx9) dX0_stepOf_11 (by decide) (fun c_2 => ?_) (fun c_2 => ?_)
    · refine lv_iload_n hx hb dX0_stepOf_22 rfl (lv_at hl 2 rfl) ?_
      refine lv_iconst (v := nI 2) hx hb dX0_stepOf_23 (by decide) ?_
      refine ji_div hx hb dX0_stepOf_24 (by decide) (v := nI (2 ^ j)) (by rw [pk_div (a := 2 ^ (j + 1)) (d := 2) (by omega) (by decide) (by decide), Nat.pow_succ, Nat.mul_div_cancel _ (by decide)]) ?_
      refine lv_istore_n (lv' := [(2, .int (nI (2 ^ j))), (0, .int (nI x)), (1, .int (nI y))]) hx hb dX0_stepOf_25 rfl hl (by decide) rfl (fun ls hl => ?_)
      refine lv_goto (tgt := 3) hx hb dX0_stepOf_26 (by decide) ?_
      exact ih j (by omega) _ _ _ ⟨by omega, by rw [hs]; exact if_neg (fun z => c_2 z.1), hP, hD, hS, lv_sub hl [1, 2, 0] rfl⟩
    · refine lv_iload_n hx hb dX0_stepOf_14 rfl (lv_at hl 1 rfl) ?_
      refine lv_iload_n hx hb dX0_stepOf_15 rfl (lv_at hl 2 rfl) ?_
      refine ji_rem hx hb dX0_stepOf_16 (nI_ne0 (by omega) (by omega)) (v := nI (y % (2 ^ (j + 1)))) (pk_rem (a := y) (d := 2 ^ (j + 1)) (by omega) (by omega) (by omega)) ?_
      refine jz_ne (tgt := 22) hx hb (Nat.lt_of_le_of_lt (Nat.mod_le _ _) hy9) dX0_stepOf_17 (by decide) (fun c_3 => ?_) (fun c_3 => ?_)
      · refine lv_iload_n hx hb dX0_stepOf_22 rfl (lv_at hl 2 rfl) ?_
        refine lv_iconst (v := nI 2) hx hb dX0_stepOf_23 (by decide) ?_
        refine ji_div hx hb dX0_stepOf_24 (by decide) (v := nI (2 ^ j)) (by rw [pk_div (a := 2 ^ (j + 1)) (d := 2) (by omega) (by decide) (by decide), Nat.pow_succ, Nat.mul_div_cancel _ (by decide)]) ?_
        refine lv_istore_n (lv' := [(2, .int (nI (2 ^ j))), (0, .int (nI x)), (1, .int (nI y))]) hx hb dX0_stepOf_25 rfl hl (by decide) rfl (fun ls hl => ?_)
        refine lv_goto (tgt := 3) hx hb dX0_stepOf_26 (by decide) ?_
        exact ih j (by omega) _ _ _ ⟨by omega, by rw [hs]; exact if_neg (fun z => c_3 z.2), hP, hD, hS, lv_sub hl [1, 2, 0] rfl⟩
      · refine lv_iload_n hx hb dX0_stepOf_20 rfl (lv_at hl 2 rfl) ?_
        exact jr_i hx hb hr hlocks hP hD hS (by rw [hs]; exact congrArg nI (if_pos (c := x % 2 ^ (j + 1) = 0 ∧ y % 2 ^ (j + 1) = 0) ⟨c_2, c_3⟩).symm) dX0_stepOf_21
set_option maxHeartbeats 4000000 in
set_option maxRecDepth 100000 in
/-- does a point lie in the picture -/
theorem mX0_inPicture (l : Launch) (G : va_G) (x y : Int32) : MI l yX0_inPicture (ws_ yX0_inPicture cX0_inPicture 2 (some .boolean)) ro0 G [] [.int x, .int y] ([]) (if ip x y then nI 1 else nI 0) ([]) := by
  refine MI.ofW (by decide) (Nat.le_of_ble_eq_true rfl) ?_
  intro p e8 s m below meth c A hx hb hr hml hown hts hlocks hA hK hP hD ls hl
  have hS : va_S A s.heap s.heap [] := va_S.rf
  have hown : s.vm.findClass RX0 = some m.cls := hown
  have hl : lv_has ls 2 [(0, .int x), (1, .int y)] := hl
  refine lv_iload_n hx hb dX0_inPicture_0 rfl (lv_at hl 0 rfl) ?_
  refine lv_if_lt (tgt := 24) hx hb dX0_inPicture_1 (by decide) (fun c_1 => ?_) (fun c_1 => ?_)
  · refine lv_iconst (v := nI 0) hx hb dX0_inPicture_24 (by decide) ?_
    exact jr_z hx hb hr rfl hlocks hP hD hS (by rw [if_neg (fun z => z.1 c_1)]) dX0_inPicture_25
  · refine lv_iload_n hx hb dX0_inPicture_4 rfl (lv_at hl 0 rfl) ?_
    refine lv_bipush (v := nI 8) hx hb dX0_inPicture_5 (by decide) ?_
    refine lv_icmp_gt (tgt := 24) hx hb dX0_inPicture_7 (by decide) (fun c_2 => ?_) (fun c_2 => ?_)
    · refine lv_iconst (v := nI 0) hx hb dX0_inPicture_24 (by decide) ?_
      exact jr_z hx hb hr rfl hlocks hP hD hS (by rw [if_neg (fun z => z.2.1 c_2)]) dX0_inPicture_25
    · refine lv_iload_n hx hb dX0_inPicture_10 rfl (lv_at hl 1 rfl) ?_
      refine lv_if_lt (tgt := 24) hx hb dX0_inPicture_11 (by decide) (fun c_3 => ?_) (fun c_3 => ?_)
      · refine lv_iconst (v := nI 0) hx hb dX0_inPicture_24 (by decide) ?_
        exact jr_z hx hb hr rfl hlocks hP hD hS (by rw [if_neg (fun z => z.2.2.1 c_3)]) dX0_inPicture_25
      · refine lv_iload_n hx hb dX0_inPicture_14 rfl (lv_at hl 1 rfl) ?_
        refine lv_bipush (v := nI 8) hx hb dX0_inPicture_15 (by decide) ?_
        refine lv_icmp_gt (tgt := 24) hx hb dX0_inPicture_17 (by decide) (fun c_4 => ?_) (fun c_4 => ?_)
        · refine lv_iconst (v := nI 0) hx hb dX0_inPicture_24 (by decide) ?_
          exact jr_z hx hb hr rfl hlocks hP hD hS (by rw [if_neg (fun z => z.2.2.2 c_4)]) dX0_inPicture_25
        · refine lv_iconst (v := nI 1) hx hb dX0_inPicture_20 (by decide) ?_
          refine lv_goto (tgt := 25) hx hb dX0_inPicture_21 (by decide) ?_
          exact jr_z hx hb hr rfl hlocks hP hD hS (by rw [if_pos ⟨c_1, c_2, c_3, c_4⟩]) dX0_inPicture_25
end
section
theorem ar_m1 {n : Nat} (hn : n < 2 ^ 31) : nI n - nI 1 < 0 ↔ n = 0 := by
  rcases n with _ | n
  · exact ⟨fun _ => rfl, fun _ => by decide⟩
  · have e : nI (n + 1) - nI 1 = nI n := nI_pred n
    rw [e]
    exact ⟨fun h => absurd h (nI_pos (by omega)), fun h => absurd h (by omega)⟩
theorem ar_dec (x : Int32) : x + Int32.ofInt (-1) = x - nI 1 := by
  rw [Int32.sub_eq_add_neg]
  rfl
theorem wL_app (L1 L2 : List Nat) : ∀ (B : Nat → Int32) (n : Nat), wL (L1 ++ L2) B n = wL L2 (wL L1 B n) (n + L1.length) := by
  induction L1 with
  | nil => intro B n; rfl
  | cons b L ih =>
    intro B n
    show wL (L ++ L2) (wB B n b) (n + 1) = _
    rw [ih]
    show _ = wL L2 (wL L (wB B n b) (n + 1)) (n + (L.length + 1))
    rw [Nat.add_assoc n 1, Nat.add_comm 1]
theorem wL_rep (B : Nat → Int32) (n k : Nat) : wL (List.replicate (k + 1) 1) B n = wB (wL (List.replicate k 1) B n) (n + k) 1 := by
  rw [List.replicate_succ', wL_app, List.length_replicate]
  rfl
theorem bt_len (v c : Nat) : (bt v c).length = c := by
  induction c with
  | zero => rfl
  | succ c ih => show (bt v c).length + 1 = c + 1; rw [ih]
theorem cd_big {f w : Nat} (h : 8 ≤ f / 2 ^ w) : cd f w = List.replicate 8 1 ++ bt f 8 := if_pos h
theorem cd_small {f w : Nat} (h : f / 2 ^ w < 8) : cd f w = List.replicate (f / 2 ^ w) 1 ++ 0 :: bt (f % 2 ^ w) w := if_neg (by omega)
theorem cd_lenB {f w : Nat} (h : 8 ≤ f / 2 ^ w) : (cd f w).length = 16 := by
  rw [cd_big h, List.length_append, List.length_replicate, bt_len]
theorem cd_lenS {f w : Nat} (h : f / 2 ^ w < 8) : (cd f w).length = f / 2 ^ w + 1 + w := by
  rw [cd_small h, List.length_append, List.length_replicate, List.length_cons, bt_len]
  omega
theorem cd_len {f w : Nat} (hw : w ≤ 6) : (cd f w).length ≤ 16 := by
  rcases Nat.lt_or_ge (f / 2 ^ w) 8 with h | h
  · rw [cd_lenS h]; omega
  · rw [cd_lenB h]; omega
theorem wL_big {f w : Nat} (B : Nat → Int32) (i : Nat) (h : 8 ≤ f / 2 ^ w) : wL (cd f w) B i = wL (bt f 8) (wL (List.replicate 8 1) B i) (i + 8) := by
  rw [cd_big h, wL_app, List.length_replicate]
theorem wL_small {f w : Nat} (B : Nat → Int32) (i : Nat) (h : f / 2 ^ w < 8) : wL (cd f w) B i = wL (bt (f % 2 ^ w) w) (wB (wL (List.replicate (f / 2 ^ w) 1) B i) (i + f / 2 ^ w) 0) (i + f / 2 ^ w + 1) := by
  rw [cd_small h, wL_app, List.length_replicate]
  rfl
theorem rB_lt (B : Nat → Int32) (n : Nat) : rB B n < 2 := Nat.mod_lt _ (by decide)
theorem bt_get (v : Nat) : ∀ (c j : Nat), j < c → (bt v c).getD j 0 = v / 2 ^ (c - 1 - j) % 2 := by
  intro c
  induction c with
  | zero => intro j h; exact absurd h (by omega)
  | succ c ih =>
    intro j h
    rcases j with _ | j
    · show v / 2 ^ c % 2 = _
      rw [show c + 1 - 1 - 0 = c by omega]
    · show (bt v c).getD j 0 = _
      rw [ih j (by omega)]
      rw [show c + 1 - 1 - (j + 1) = c - 1 - j by omega]
theorem rv_bt {B : Nat → Int32} {n v c : Nat} (h : ∀ j, j < c → rB B (n + j) = (bt v c).getD j 0) (hv : v < 2 ^ c) : rv B n c = v := by
  have key : ∀ j, j ≤ c → rv B n j = v / 2 ^ (c - j) := by
    intro j
    induction j with
    | zero =>
      intro _
      show 0 = _
      rw [Nat.sub_zero, Nat.div_eq_of_lt hv]
    | succ j ih =>
      intro hj
      show 2 * rv B n j + rB B (n + j) = _
      rw [ih (by omega), h j (by omega), bt_get v c j (by omega)]
      have e : c - j = (c - 1 - j) + 1 := by omega
      rw [e, show c - (j + 1) = c - 1 - j by omega, Nat.pow_succ, ← Nat.div_div_eq_div_mul]
      omega
  rw [key c (Nat.le_refl c), Nat.sub_self, Nat.pow_zero, Nat.div_one]
theorem gD_l {L1 L2 : List Nat} {j : Nat} (h : j < L1.length) : (L1 ++ L2).getD j 0 = L1.getD j 0 := by
  simp [List.getD, List.getElem?_append_left h]
theorem gD_r {L1 L2 : List Nat} {k j : Nat} (h : L1.length = k) : (L1 ++ L2).getD (k + j) 0 = L2.getD j 0 := by
  subst h
  rw [List.getD_eq_getElem?_getD, List.getD_eq_getElem?_getD, List.getElem?_append_right (Nat.le_add_right _ _), Nat.add_sub_cancel_left]
theorem gD_rep {n j : Nat} (h : j < n) : (List.replicate n 1).getD j 0 = 1 := by
  simp [List.getD, h]
/-- the bits of a code lie from i on -/
def Str (B : Nat → Int32) (i : Nat) (L : List Nat) : Prop := ∀ j, j < L.length → rB B (i + j) = L.getD j 0
theorem rd_one {B : Nat → Int32} {i f w k : Nat} (h : Str B i (cd f w)) (h1 : k < f / 2 ^ w) (h8 : k < 8) : rB B (i + k) = 1 := by
  rcases Nat.lt_or_ge (f / 2 ^ w) 8 with c | c
  · rw [h k (by rw [cd_lenS c]; omega), cd_small c, gD_l (by rw [List.length_replicate]; exact h1), gD_rep h1]
  · rw [h k (by rw [cd_lenB c]; omega), cd_big c, gD_l (by rw [List.length_replicate]; exact h8), gD_rep h8]
theorem rd_zero {B : Nat → Int32} {i f w : Nat} (h : Str B i (cd f w)) (h8 : f / 2 ^ w < 8) : rB B (i + f / 2 ^ w) = 0 := by
  have e := gD_r (L1 := List.replicate (f / 2 ^ w) 1) (L2 := 0 :: bt (f % 2 ^ w) w) (j := 0) List.length_replicate
  rw [h (f / 2 ^ w) (by rw [cd_lenS h8]; omega), cd_small h8]
  exact e
theorem rd_big {B : Nat → Int32} {i f w : Nat} (h : Str B i (cd f w)) (hf : f < 256) (h8 : 8 ≤ f / 2 ^ w) : rv B (i + 8) 8 = f := by
  refine rv_bt (fun j hj => ?_) hf
  rw [Nat.add_assoc, h (8 + j) (by rw [cd_lenB h8]; omega), cd_big h8, gD_r List.length_replicate]
theorem rd_small {B : Nat → Int32} {i f w : Nat} (h : Str B i (cd f w)) (h8 : f / 2 ^ w < 8) : rv B (i + f / 2 ^ w + 1) w = f % 2 ^ w := by
  refine rv_bt (fun j hj => ?_) (Nat.mod_lt _ (ar_pow0 w))
  rw [show i + f / 2 ^ w + 1 + j = i + (f / 2 ^ w + (j + 1)) by omega, h (f / 2 ^ w + (j + 1)) (by rw [cd_lenS h8]; omega), cd_small h8, gD_r List.length_replicate]
  rfl
theorem ad_le {w : Nat} (b : Int32) (f : Nat) (h : w ≤ 6) : (ad w b f).1 ≤ 6 := by
  unfold ad
  split
  · show w + 1 ≤ 6; omega
  · split
    · show w - 1 ≤ 6; omega
    · exact h
theorem wb_le (e : Nat → Nat) (k : Nat) : (wb e k).1 ≤ 6 := by
  induction k with
  | zero => show (3 : Nat) ≤ 6; decide
  | succ k ih => exact ad_le _ _ ih
-- tables
theorem tb_od : ∀ k, k < 81 → od k < 81 := by decide +kernel
theorem tb_rk : ∀ q, q < 81 → rk q < 81 := by decide +kernel
theorem tb_ro : ∀ k, k < 81 → rk (od k) = k := by decide +kernel
theorem tb_or : ∀ q, q < 81 → od (rk q) = q := by decide +kernel
theorem tb_st : ∀ q, q < 81 → 1 ≤ stp q ∧ stp q ≤ 8 := by decide +kernel
theorem tb_X : ∀ q, q < 81 → ¬ stp q = 8 → ¬ q % 9 % (2 * stp q) = 0 → ¬ q / 9 % (2 * stp q) = 0 → 9 * stp q + stp q ≤ q ∧ q + 9 * stp q + stp q < 81 := by decide +kernel
theorem tb_H : ∀ q, q < 81 → ¬ stp q = 8 → ¬ q % 9 % (2 * stp q) = 0 → q / 9 % (2 * stp q) = 0 → stp q ≤ q ∧ q + stp q < 81 := by decide +kernel
theorem tb_V : ∀ q, q < 81 → ¬ stp q = 8 → q % 9 % (2 * stp q) = 0 → 9 * stp q ≤ q ∧ q + 9 * stp q < 81 := by decide +kernel
-- foretelling looks at smaller ranks alone
theorem tb_X2a : ∀ q, q < 81 → ¬ stp q = 8 → ¬ q % 9 % (2 * stp q) = 0 → ¬ q / 9 % (2 * stp q) = 0 → rk (q - 9 * stp q - stp q) < rk q ∧ rk (q - 9 * stp q + stp q) < rk q := by decide +kernel
theorem tb_X2b : ∀ q, q < 81 → ¬ stp q = 8 → ¬ q % 9 % (2 * stp q) = 0 → ¬ q / 9 % (2 * stp q) = 0 → rk (q + 9 * stp q - stp q) < rk q ∧ rk (q + 9 * stp q + stp q) < rk q := by decide +kernel
theorem tb_H2 : ∀ q, q < 81 → ¬ stp q = 8 → ¬ q % 9 % (2 * stp q) = 0 → q / 9 % (2 * stp q) = 0 → rk (q - stp q) < rk q ∧ rk (q + stp q) < rk q := by decide +kernel
theorem tb_V2 : ∀ q, q < 81 → ¬ stp q = 8 → q % 9 % (2 * stp q) = 0 → rk (q - 9 * stp q) < rk q ∧ rk (q + 9 * stp q) < rk q := by decide +kernel
theorem gs_8z {P : Nat → Nat} {q : Nat} (h : stp q = 8) (h0 : rk q = 0) : gs P q = 128 := by
  unfold gs; rw [if_pos h, if_pos h0]
theorem gs_8 {P : Nat → Nat} {q : Nat} (h : stp q = 8) (h0 : ¬ rk q = 0) : gs P q = P (od (rk q - 1)) := by
  unfold gs; rw [if_pos h, if_neg h0]
theorem gs_X {P : Nat → Nat} {q : Nat} (h : ¬ stp q = 8) (h1 : ¬ q % 9 % (2 * stp q) = 0) (h2 : ¬ q / 9 % (2 * stp q) = 0) : gs P q = (P (q - 9 * stp q - stp q) + P (q - 9 * stp q + stp q) + (P (q + 9 * stp q - stp q) + P (q + 9 * stp q + stp q)) + 2) / 4 := by
  unfold gs; rw [if_neg h, if_pos ⟨h1, h2⟩]
theorem gs_H {P : Nat → Nat} {q : Nat} (h : ¬ stp q = 8) (h1 : ¬ q % 9 % (2 * stp q) = 0) (h2 : q / 9 % (2 * stp q) = 0) : gs P q = (P (q - stp q) + P (q + stp q) + 1) / 2 := by
  unfold gs; rw [if_neg h, if_neg (fun z => z.2 h2), if_pos h1]
theorem gs_V {P : Nat → Nat} {q : Nat} (h : ¬ stp q = 8) (h1 : q % 9 % (2 * stp q) = 0) : gs P q = (P (q - 9 * stp q) + P (q + 9 * stp q) + 1) / 2 := by
  unfold gs; rw [if_neg h, if_neg (fun z => z.1 h1), if_neg (fun z => z h1)]
theorem gs_lt {P : Nat → Nat} (hP : ∀ j, P j < 256) (q : Nat) : gs P q < 256 := by
  by_cases h : stp q = 8
  · by_cases h0 : rk q = 0
    · rw [gs_8z h h0]; decide
    · rw [gs_8 h h0]; exact hP _
  · by_cases h1 : q % 9 % (2 * stp q) = 0
    · rw [gs_V h h1]
      have a1 := hP (q - 9 * stp q)
      have a2 := hP (q + 9 * stp q)
      omega
    · by_cases h2 : q / 9 % (2 * stp q) = 0
      · rw [gs_H h h1 h2]
        have a1 := hP (q - stp q)
        have a2 := hP (q + stp q)
        omega
      · rw [gs_X h h1 h2]
        have a1 := hP (q - 9 * stp q - stp q)
        have a2 := hP (q - 9 * stp q + stp q)
        have a3 := hP (q + 9 * stp q - stp q)
        have a4 := hP (q + 9 * stp q + stp q)
        omega
theorem gs_same {P P2 : Nat → Nat} {q : Nat} (hq : q < 81) (h : ∀ j, j < 81 → rk j < rk q → P j = P2 j) : gs P q = gs P2 q := by
  by_cases h8 : stp q = 8
  · by_cases h0 : rk q = 0
    · rw [gs_8z h8 h0, gs_8z h8 h0]
    · rw [gs_8 h8 h0, gs_8 h8 h0]
      have r := tb_rk q hq
      exact h _ (tb_od _ (by omega)) (by rw [tb_ro _ (by omega)]; omega)
  · by_cases h1 : q % 9 % (2 * stp q) = 0
    · rw [gs_V h8 h1, gs_V h8 h1]
      obtain ⟨r1, r2⟩ := tb_V2 q hq h8 h1
      obtain ⟨b1, b2⟩ := tb_V q hq h8 h1
      rw [h _ (by omega) r1, h _ (by omega) r2]
    · by_cases h2 : q / 9 % (2 * stp q) = 0
      · rw [gs_H h8 h1 h2, gs_H h8 h1 h2]
        obtain ⟨r1, r2⟩ := tb_H2 q hq h8 h1 h2
        obtain ⟨b1, b2⟩ := tb_H q hq h8 h1 h2
        rw [h _ (by omega) r1, h _ (by omega) r2]
      · rw [gs_X h8 h1 h2, gs_X h8 h1 h2]
        obtain ⟨r1, r2⟩ := tb_X2a q hq h8 h1 h2
        obtain ⟨r3, r4⟩ := tb_X2b q hq h8 h1 h2
        obtain ⟨b1, b2⟩ := tb_X q hq h8 h1 h2
        rw [h _ (by omega) r1, h _ (by omega) r2, h _ (by omega) r3, h _ (by omega) r4]
theorem fl_lt {x : Nat} (h : x < 256) : fl x < 256 := by
  unfold fl
  split <;> omega
theorem uf_fl {x : Nat} (h : x < 256) : uf (fl x) = x := by
  unfold fl uf
  split <;> split <;> omega
theorem fo_lt (e : Nat → Nat) (k : Nat) : fo e k < 256 := fl_lt (Nat.mod_lt _ (by decide))
/-- a decoded pixel is the pixel that was sent -/
theorem dec_ok {a g : Nat} (ha : a < 256) (hg : g < 256) : (g + uf (fl ((a + 256 - g) % 256))) % 256 = a := by
  rw [uf_fl (Nat.mod_lt _ (by decide))]
  omega
end
section
set_option maxHeartbeats 4000000 in
set_option maxRecDepth 100000 in
/-- width and balance follow a folded number -/
theorem mX0_adapt (l : Launch) (G : va_G) (d : ClassId) (a : Nat → Nat) (D B C : Nat → Int32) (sn ln ra rc b : Int32) (w f : Nat) (hw : w ≤ 6) (hf : f < 256) : MV l yX0_adapt (ws_ yX0_adapt cX0_adapt 2 none) ro0 G [(d, .int)] [.ref (a 0), .int (nI f)] (Xw d a D B C (nf od) (nf rk) sn ln ra rc (nI w) b) (Xw d a D B C (nf od) (nf rk) sn ln ra rc (nI ((ad w b f).1)) ((ad w b f).2)) := by
  refine MV.ofW (by decide) (Nat.le_of_ble_eq_true rfl) ?_
  intro p e8 s m below meth c A hx hb hr hml hown hts hlocks hA hK hP hD ls hl
  have hS : va_S A s.heap s.heap [] := va_S.rf
  have hown : s.vm.findClass RX0 = some m.cls := hown
  have hl : lv_has ls 2 [(0, .ref (a 0)), (1, .int (nI f))] := hl
  have hq : f / 2 ^ w < 256 := ar_div_lt hf
  have hq2 : 2 * f / 2 ^ w < 512 := Nat.lt_of_le_of_lt (Nat.div_le_self _ _) (by omega)
  refine lv_iload_n hx hb dX0_adapt_0 rfl (lv_at hl 1 rfl) ?_
  refine lv_aload_n hx hb dX0_adapt_1 rfl (lv_at hl 0 rfl) ?_
  refine va_get (D := G) (ci := 0) (v := .int (nI w)) (C := RX0) (T := TX0) (N := 11) hx hb hts in_X0 hown hK hP 0 rfl rfl 9 (by decide) (hts _ q33) (fun _ h9 => h9) rfl dX0_adapt_2 ?_
  refine ji_shr hx hb dX0_adapt_5 (v := nI (f / 2 ^ w)) (ar_shr (by omega) (by omega)) ?_
  refine lv_iconst (v := nI 1) hx hb dX0_adapt_6 (by decide) ?_
  refine jn_le (tgt := 23) hx hb (by omega) (by omega) dX0_adapt_7 (by decide) (fun c_1 => ?_) (fun c_1 => ?_)
  · refine lv_iload_n hx hb dX0_adapt_23 rfl (lv_at hl 1 rfl) ?_
    refine lv_iconst (v := nI 1) hx hb dX0_adapt_24 (by decide) ?_
    refine ji_shl hx hb dX0_adapt_25 (v := nI (2 * f)) (by rw [ar_shl (by decide) (by omega)]; congr 1; omega) ?_
    refine lv_aload_n hx hb dX0_adapt_26 rfl (lv_at hl 0 rfl) ?_
    refine va_get (D := G) (ci := 0) (v := .int (nI w)) (C := RX0) (T := TX0) (N := 11) hx hb hts in_X0 hown hK hP 0 rfl rfl 9 (by decide) (hts _ q33) (fun _ h9 => h9) rfl dX0_adapt_27 ?_
    refine ji_shr hx hb dX0_adapt_30 (v := nI (2 * f / 2 ^ w)) (ar_shr (by omega) (by omega)) ?_
    refine jz_ne (tgt := 44) hx hb (by omega) dX0_adapt_31 (by decide) (fun c_2 => ?_) (fun c_2 => ?_)
    · have hab : ab w b f = b := by unfold ab; rw [if_neg (by omega), if_neg c_2]
      refine lv_aload_n hx hb dX0_adapt_44 rfl (lv_at hl 0 rfl) ?_
      refine va_get (D := G) (ci := 0) (v := .int b) (C := RX0) (T := TX0) (N := 11) hx hb hts in_X0 hown hK hP 0 rfl rfl 10 (by decide) (hts _ q34) (fun _ h9 => h9) rfl dX0_adapt_45 ?_
      refine lv_iconst (v := nI 4) hx hb dX0_adapt_48 (by decide) ?_
      refine lv_icmp_lt (tgt := 79) hx hb dX0_adapt_49 (by decide) (fun c_3 => ?_) (fun c_3 => ?_)
      · have no1 : ¬ (¬ ab w b f < nI 4 ∧ w < 6) := fun z => z.1 (by rw [hab]; exact c_3)
        refine lv_aload_n hx hb dX0_adapt_79 rfl (lv_at hl 0 rfl) ?_
        refine va_get (D := G) (ci := 0) (v := .int b) (C := RX0) (T := TX0) (N := 11) hx hb hts in_X0 hown hK hP 0 rfl rfl 10 (by decide) (hts _ q34) (fun _ h9 => h9) rfl dX0_adapt_80 ?_
        refine lv_bipush (v := (-4)) hx hb dX0_adapt_83 (by decide) ?_
        refine lv_icmp_gt (tgt := 110) hx hb dX0_adapt_85 (by decide) (fun c_4 => ?_) (fun c_4 => ?_)
        · have hE : ad w b f = (w, b) := by unfold ad; rw [if_neg no1, if_neg (fun z => z.1 (by rw [hab]; exact c_4)), hab]
          rw [hE]
          exact jr_v hx hb hr hlocks hP hD hS dX0_adapt_110
        · refine lv_aload_n hx hb dX0_adapt_88 rfl (lv_at hl 0 rfl) ?_
          refine va_get (D := G) (ci := 0) (v := .int (nI w)) (C := RX0) (T := TX0) (N := 11) hx hb hts in_X0 hown hK hP 0 rfl rfl 9 (by decide) (hts _ q33) (fun _ h9 => h9) rfl dX0_adapt_89 ?_
          refine jz_le (tgt := 110) hx hb (by omega) dX0_adapt_92 (by decide) (fun c_5 => ?_) (fun c_5 => ?_)
          · have hE : ad w b f = (w, b) := by unfold ad; rw [if_neg no1, if_neg (fun z => absurd z.2 (by omega)), hab]
            rw [hE]
            exact jr_v hx hb hr hlocks hP hD hS dX0_adapt_110
          · refine lv_aload_n hx hb dX0_adapt_95 rfl (lv_at hl 0 rfl) ?_
            refine lv_dup hx hb dX0_adapt_96 rfl ?_
            refine va_get (D := G) (ci := 0) (v := .int (nI w)) (C := RX0) (T := TX0) (N := 11) hx hb hts in_X0 hown hK hP 0 rfl rfl 9 (by decide) (hts _ q33) (fun _ h9 => h9) rfl dX0_adapt_97 ?_
            refine lv_iconst (v := nI 1) hx hb dX0_adapt_100 (by decide) ?_
            refine ji_sub hx hb dX0_adapt_101 (v := nI (w - 1)) (pk_sub (a := w) (b := 1) (by omega)) ?_
            refine va_put (D := G) (ci := 0) (v := .int (nI (w - 1))) (ty := .int) (C := RX0) (T := TX0) (N := 11) hx hb hts in_X0 tyX0 tyX0_ok nmX0 hown hK hP hD hS 0 rfl rfl 9 (by decide) (hts _ q33) (fun _ h9 => h9) rfl (by decide +kernel) rfl rfl (Nat.le_of_ble_eq_true rfl) dX0_adapt_102 (fun H locs hP hD hS => ?_)
            have hP : va_P G vwCl (Xw d a D B C (nf od) (nf rk) sn ln ra rc (nI (w - 1)) b) H := hP
            have hD : va_D A (Xw d a D B C (nf od) (nf rk) sn ln ra rc (nI (w - 1)) b) := hD
            refine lv_aload_n hx hb dX0_adapt_105 rfl (lv_at hl 0 rfl) ?_
            refine lv_iconst (v := nI 0) hx hb dX0_adapt_106 (by decide) ?_
            refine va_put (D := G) (ci := 0) (v := .int (nI 0)) (ty := .int) (C := RX0) (T := TX0) (N := 11) hx hb hts in_X0 tyX0 tyX0_ok nmX0 hown hK hP hD hS 0 rfl rfl 10 (by decide) (hts _ q34) (fun _ h9 => h9) rfl (by decide +kernel) rfl rfl (Nat.le_of_ble_eq_true rfl) dX0_adapt_107 (fun H locs hP hD hS => ?_)
            have hP : va_P G vwCl (Xw d a D B C (nf od) (nf rk) sn ln ra rc (nI (w - 1)) (nI 0)) H := hP
            have hD : va_D A (Xw d a D B C (nf od) (nf rk) sn ln ra rc (nI (w - 1)) (nI 0)) := hD
            have hE : ad w b f = (w - 1, nI 0) := by unfold ad; rw [if_neg no1, if_pos ⟨fun z => c_4 (by rw [← hab]; exact z), c_5⟩]
            rw [hE]
            exact jr_v hx hb hr hlocks hP hD hS dX0_adapt_110
      · refine lv_aload_n hx hb dX0_adapt_52 rfl (lv_at hl 0 rfl) ?_
        refine va_get (D := G) (ci := 0) (v := .int (nI w)) (C := RX0) (T := TX0) (N := 11) hx hb hts in_X0 hown hK hP 0 rfl rfl 9 (by decide) (hts _ q33) (fun _ h9 => h9) rfl dX0_adapt_53 ?_
        refine lv_bipush (v := nI 6) hx hb dX0_adapt_56 (by decide) ?_
        refine jn_ge (tgt := 79) hx hb (by omega) (by omega) dX0_adapt_58 (by decide) (fun c_6 => ?_) (fun c_6 => ?_)
        · have no1 : ¬ (¬ ab w b f < nI 4 ∧ w < 6) := fun z => absurd z.2 (by omega)
          refine lv_aload_n hx hb dX0_adapt_79 rfl (lv_at hl 0 rfl) ?_
          refine va_get (D := G) (ci := 0) (v := .int b) (C := RX0) (T := TX0) (N := 11) hx hb hts in_X0 hown hK hP 0 rfl rfl 10 (by decide) (hts _ q34) (fun _ h9 => h9) rfl dX0_adapt_80 ?_
          refine lv_bipush (v := (-4)) hx hb dX0_adapt_83 (by decide) ?_
          refine lv_icmp_gt (tgt := 110) hx hb dX0_adapt_85 (by decide) (fun c_7 => ?_) (fun c_7 => ?_)
          · have hE : ad w b f = (w, b) := by unfold ad; rw [if_neg no1, if_neg (fun z => z.1 (by rw [hab]; exact c_7)), hab]
            rw [hE]
            exact jr_v hx hb hr hlocks hP hD hS dX0_adapt_110
          · refine lv_aload_n hx hb dX0_adapt_88 rfl (lv_at hl 0 rfl) ?_
            refine va_get (D := G) (ci := 0) (v := .int (nI w)) (C := RX0) (T := TX0) (N := 11) hx hb hts in_X0 hown hK hP 0 rfl rfl 9 (by decide) (hts _ q33) (fun _ h9 => h9) rfl dX0_adapt_89 ?_
            refine jz_le (tgt := 110) hx hb (by omega) dX0_adapt_92 (by decide) (fun c_8 => ?_) (fun c_8 => ?_)
            · have hE : ad w b f = (w, b) := by unfold ad; rw [if_neg no1, if_neg (fun z => absurd z.2 (by omega)), hab]
              rw [hE]
              exact jr_v hx hb hr hlocks hP hD hS dX0_adapt_110
            · refine lv_aload_n hx hb dX0_adapt_95 rfl (lv_at hl 0 rfl) ?_
              refine lv_dup hx hb dX0_adapt_96 rfl ?_
              refine va_get (D := G) (ci := 0) (v := .int (nI w)) (C := RX0) (T := TX0) (N := 11) hx hb hts in_X0 hown hK hP 0 rfl rfl 9 (by decide) (hts _ q33) (fun _ h9 => h9) rfl dX0_adapt_97 ?_
              refine lv_iconst (v := nI 1) hx hb dX0_adapt_100 (by decide) ?_
              refine ji_sub hx hb dX0_adapt_101 (v := nI (w - 1)) (pk_sub (a := w) (b := 1) (by omega)) ?_
              refine va_put (D := G) (ci := 0) (v := .int (nI (w - 1))) (ty := .int) (C := RX0) (T := TX0) (N := 11) hx hb hts in_X0 tyX0 tyX0_ok nmX0 hown hK hP hD hS 0 rfl rfl 9 (by decide) (hts _ q33) (fun _ h9 => h9) rfl (by decide +kernel) rfl rfl (Nat.le_of_ble_eq_true rfl) dX0_adapt_102 (fun H locs hP hD hS => ?_)
              have hP : va_P G vwCl (Xw d a D B C (nf od) (nf rk) sn ln ra rc (nI (w - 1)) b) H := hP
              have hD : va_D A (Xw d a D B C (nf od) (nf rk) sn ln ra rc (nI (w - 1)) b) := hD
              refine lv_aload_n hx hb dX0_adapt_105 rfl (lv_at hl 0 rfl) ?_
              refine lv_iconst (v := nI 0) hx hb dX0_adapt_106 (by decide) ?_
              refine va_put (D := G) (ci := 0) (v := .int (nI 0)) (ty := .int) (C := RX0) (T := TX0) (N := 11) hx hb hts in_X0 tyX0 tyX0_ok nmX0 hown hK hP hD hS 0 rfl rfl 10 (by decide) (hts _ q34) (fun _ h9 => h9) rfl (by decide +kernel) rfl rfl (Nat.le_of_ble_eq_true rfl) dX0_adapt_107 (fun H locs hP hD hS => ?_)
              have hP : va_P G vwCl (Xw d a D B C (nf od) (nf rk) sn ln ra rc (nI (w - 1)) (nI 0)) H := hP
              have hD : va_D A (Xw d a D B C (nf od) (nf rk) sn ln ra rc (nI (w - 1)) (nI 0)) := hD
              have hE : ad w b f = (w - 1, nI 0) := by unfold ad; rw [if_neg no1, if_pos ⟨fun z => c_7 (by rw [← hab]; exact z), c_8⟩]
              rw [hE]
              exact jr_v hx hb hr hlocks hP hD hS dX0_adapt_110
        · refine lv_aload_n hx hb dX0_adapt_61 rfl (lv_at hl 0 rfl) ?_
          refine lv_dup hx hb dX0_adapt_62 rfl ?_
          refine va_get (D := G) (ci := 0) (v := .int (nI w)) (C := RX0) (T := TX0) (N := 11) hx hb hts in_X0 hown hK hP 0 rfl rfl 9 (by decide) (hts _ q33) (fun _ h9 => h9) rfl dX0_adapt_63 ?_
          refine lv_iconst (v := nI 1) hx hb dX0_adapt_66 (by decide) ?_
          refine ji_add hx hb dX0_adapt_67 (v := nI (w + 1)) (nI_add w 1) ?_
          refine va_put (D := G) (ci := 0) (v := .int (nI (w + 1))) (ty := .int) (C := RX0) (T := TX0) (N := 11) hx hb hts in_X0 tyX0 tyX0_ok nmX0 hown hK hP hD hS 0 rfl rfl 9 (by decide) (hts _ q33) (fun _ h9 => h9) rfl (by decide +kernel) rfl rfl (Nat.le_of_ble_eq_true rfl) dX0_adapt_68 (fun H locs hP hD hS => ?_)
          have hP : va_P G vwCl (Xw d a D B C (nf od) (nf rk) sn ln ra rc (nI (w + 1)) b) H := hP
          have hD : va_D A (Xw d a D B C (nf od) (nf rk) sn ln ra rc (nI (w + 1)) b) := hD
          refine lv_aload_n hx hb dX0_adapt_71 rfl (lv_at hl 0 rfl) ?_
          refine lv_iconst (v := nI 0) hx hb dX0_adapt_72 (by decide) ?_
          refine va_put (D := G) (ci := 0) (v := .int (nI 0)) (ty := .int) (C := RX0) (T := TX0) (N := 11) hx hb hts in_X0 tyX0 tyX0_ok nmX0 hown hK hP hD hS 0 rfl rfl 10 (by decide) (hts _ q34) (fun _ h9 => h9) rfl (by decide +kernel) rfl rfl (Nat.le_of_ble_eq_true rfl) dX0_adapt_73 (fun H locs hP hD hS => ?_)
          have hP : va_P G vwCl (Xw d a D B C (nf od) (nf rk) sn ln ra rc (nI (w + 1)) (nI 0)) H := hP
          have hD : va_D A (Xw d a D B C (nf od) (nf rk) sn ln ra rc (nI (w + 1)) (nI 0)) := hD
          refine lv_goto (tgt := 110) hx hb dX0_adapt_76 (by decide) ?_
          have hE : ad w b f = (w + 1, nI 0) := if_pos ⟨fun z => c_3 (by rw [← hab]; exact z), c_6⟩
          rw [hE]
          exact jr_v hx hb hr hlocks hP hD hS dX0_adapt_110
    · refine lv_aload_n hx hb dX0_adapt_34 rfl (lv_at hl 0 rfl) ?_
      refine lv_dup hx hb dX0_adapt_35 rfl ?_
      refine va_get (D := G) (ci := 0) (v := .int b) (C := RX0) (T := TX0) (N := 11) hx hb hts in_X0 hown hK hP 0 rfl rfl 10 (by decide) (hts _ q34) (fun _ h9 => h9) rfl dX0_adapt_36 ?_
      refine lv_iconst (v := nI 1) hx hb dX0_adapt_39 (by decide) ?_
      refine ji_sub hx hb dX0_adapt_40 (v := b - 1) rfl ?_
      refine va_put (D := G) (ci := 0) (v := .int (b - 1)) (ty := .int) (C := RX0) (T := TX0) (N := 11) hx hb hts in_X0 tyX0 tyX0_ok nmX0 hown hK hP hD hS 0 rfl rfl 10 (by decide) (hts _ q34) (fun _ h9 => h9) rfl (by decide +kernel) rfl rfl (Nat.le_of_ble_eq_true rfl) dX0_adapt_41 (fun H locs hP hD hS => ?_)
      have hP : va_P G vwCl (Xw d a D B C (nf od) (nf rk) sn ln ra rc (nI w) (b - 1)) H := hP
      have hD : va_D A (Xw d a D B C (nf od) (nf rk) sn ln ra rc (nI w) (b - 1)) := hD
      refine lv_aload_n hx hb dX0_adapt_44 rfl (lv_at hl 0 rfl) ?_
      refine va_get (D := G) (ci := 0) (v := .int (b - 1)) (C := RX0) (T := TX0) (N := 11) hx hb hts in_X0 hown hK hP 0 rfl rfl 10 (by decide) (hts _ q34) (fun _ h9 => h9) rfl dX0_adapt_45 ?_
      refine lv_iconst (v := nI 4) hx hb dX0_adapt_48 (by decide) ?_
      have hab : ab w b f = b - 1 := by unfold ab; rw [if_neg (by omega), if_pos c_2]
      refine lv_icmp_lt (tgt := 79) hx hb dX0_adapt_49 (by decide) (fun c_9 => ?_) (fun c_9 => ?_)
      · have no1 : ¬ (¬ ab w b f < nI 4 ∧ w < 6) := fun z => z.1 (by rw [hab]; exact c_9)
        refine lv_aload_n hx hb dX0_adapt_79 rfl (lv_at hl 0 rfl) ?_
        refine va_get (D := G) (ci := 0) (v := .int (b - 1)) (C := RX0) (T := TX0) (N := 11) hx hb hts in_X0 hown hK hP 0 rfl rfl 10 (by decide) (hts _ q34) (fun _ h9 => h9) rfl dX0_adapt_80 ?_
        refine lv_bipush (v := (-4)) hx hb dX0_adapt_83 (by decide) ?_
        refine lv_icmp_gt (tgt := 110) hx hb dX0_adapt_85 (by decide) (fun c_10 => ?_) (fun c_10 => ?_)
        · have hE : ad w b f = (w, b - 1) := by unfold ad; rw [if_neg no1, if_neg (fun z => z.1 (by rw [hab]; exact c_10)), hab]
          rw [hE]
          exact jr_v hx hb hr hlocks hP hD hS dX0_adapt_110
        · refine lv_aload_n hx hb dX0_adapt_88 rfl (lv_at hl 0 rfl) ?_
          refine va_get (D := G) (ci := 0) (v := .int (nI w)) (C := RX0) (T := TX0) (N := 11) hx hb hts in_X0 hown hK hP 0 rfl rfl 9 (by decide) (hts _ q33) (fun _ h9 => h9) rfl dX0_adapt_89 ?_
          refine jz_le (tgt := 110) hx hb (by omega) dX0_adapt_92 (by decide) (fun c_11 => ?_) (fun c_11 => ?_)
          · have hE : ad w b f = (w, b - 1) := by unfold ad; rw [if_neg no1, if_neg (fun z => absurd z.2 (by omega)), hab]
            rw [hE]
            exact jr_v hx hb hr hlocks hP hD hS dX0_adapt_110
          · refine lv_aload_n hx hb dX0_adapt_95 rfl (lv_at hl 0 rfl) ?_
            refine lv_dup hx hb dX0_adapt_96 rfl ?_
            refine va_get (D := G) (ci := 0) (v := .int (nI w)) (C := RX0) (T := TX0) (N := 11) hx hb hts in_X0 hown hK hP 0 rfl rfl 9 (by decide) (hts _ q33) (fun _ h9 => h9) rfl dX0_adapt_97 ?_
            refine lv_iconst (v := nI 1) hx hb dX0_adapt_100 (by decide) ?_
            refine ji_sub hx hb dX0_adapt_101 (v := nI (w - 1)) (pk_sub (a := w) (b := 1) (by omega)) ?_
            refine va_put (D := G) (ci := 0) (v := .int (nI (w - 1))) (ty := .int) (C := RX0) (T := TX0) (N := 11) hx hb hts in_X0 tyX0 tyX0_ok nmX0 hown hK hP hD hS 0 rfl rfl 9 (by decide) (hts _ q33) (fun _ h9 => h9) rfl (by decide +kernel) rfl rfl (Nat.le_of_ble_eq_true rfl) dX0_adapt_102 (fun H locs hP hD hS => ?_)
            have hP : va_P G vwCl (Xw d a D B C (nf od) (nf rk) sn ln ra rc (nI (w - 1)) (b - 1)) H := hP
            have hD : va_D A (Xw d a D B C (nf od) (nf rk) sn ln ra rc (nI (w - 1)) (b - 1)) := hD
            refine lv_aload_n hx hb dX0_adapt_105 rfl (lv_at hl 0 rfl) ?_
            refine lv_iconst (v := nI 0) hx hb dX0_adapt_106 (by decide) ?_
            refine va_put (D := G) (ci := 0) (v := .int (nI 0)) (ty := .int) (C := RX0) (T := TX0) (N := 11) hx hb hts in_X0 tyX0 tyX0_ok nmX0 hown hK hP hD hS 0 rfl rfl 10 (by decide) (hts _ q34) (fun _ h9 => h9) rfl (by decide +kernel) rfl rfl (Nat.le_of_ble_eq_true rfl) dX0_adapt_107 (fun H locs hP hD hS => ?_)
            have hP : va_P G vwCl (Xw d a D B C (nf od) (nf rk) sn ln ra rc (nI (w - 1)) (nI 0)) H := hP
            have hD : va_D A (Xw d a D B C (nf od) (nf rk) sn ln ra rc (nI (w - 1)) (nI 0)) := hD
            have hE : ad w b f = (w - 1, nI 0) := by unfold ad; rw [if_neg no1, if_pos ⟨fun z => c_10 (by rw [← hab]; exact z), c_11⟩]
            rw [hE]
            exact jr_v hx hb hr hlocks hP hD hS dX0_adapt_110
      · refine lv_aload_n hx hb dX0_adapt_52 rfl (lv_at hl 0 rfl) ?_
        refine va_get (D := G) (ci := 0) (v := .int (nI w)) (C := RX0) (T := TX0) (N := 11) hx hb hts in_X0 hown hK hP 0 rfl rfl 9 (by decide) (hts _ q33) (fun _ h9 => h9) rfl dX0_adapt_53 ?_
        refine lv_bipush (v := nI 6) hx hb dX0_adapt_56 (by decide) ?_
        refine jn_ge (tgt := 79) hx hb (by omega) (by omega) dX0_adapt_58 (by decide) (fun c_12 => ?_) (fun c_12 => ?_)
        · have no1 : ¬ (¬ ab w b f < nI 4 ∧ w < 6) := fun z => absurd z.2 (by omega)
          refine lv_aload_n hx hb dX0_adapt_79 rfl (lv_at hl 0 rfl) ?_
          refine va_get (D := G) (ci := 0) (v := .int (b - 1)) (C := RX0) (T := TX0) (N := 11) hx hb hts in_X0 hown hK hP 0 rfl rfl 10 (by decide) (hts _ q34) (fun _ h9 => h9) rfl dX0_adapt_80 ?_
          refine lv_bipush (v := (-4)) hx hb dX0_adapt_83 (by decide) ?_
          refine lv_icmp_gt (tgt := 110) hx hb dX0_adapt_85 (by decide) (fun c_13 => ?_) (fun c_13 => ?_)
          · have hE : ad w b f = (w, b - 1) := by unfold ad; rw [if_neg no1, if_neg (fun z => z.1 (by rw [hab]; exact c_13)), hab]
            rw [hE]
            exact jr_v hx hb hr hlocks hP hD hS dX0_adapt_110
          · refine lv_aload_n hx hb dX0_adapt_88 rfl (lv_at hl 0 rfl) ?_
            refine va_get (D := G) (ci := 0) (v := .int (nI w)) (C := RX0) (T := TX0) (N := 11) hx hb hts in_X0 hown hK hP 0 rfl rfl 9 (by decide) (hts _ q33) (fun _ h9 => h9) rfl dX0_adapt_89 ?_
            refine jz_le (tgt := 110) hx hb (by omega) dX0_adapt_92 (by decide) (fun c_14 => ?_) (fun c_14 => ?_)
            · have hE : ad w b f = (w, b - 1) := by unfold ad; rw [if_neg no1, if_neg (fun z => absurd z.2 (by omega)), hab]
              rw [hE]
              exact jr_v hx hb hr hlocks hP hD hS dX0_adapt_110
            · refine lv_aload_n hx hb dX0_adapt_95 rfl (lv_at hl 0 rfl) ?_
              refine lv_dup hx hb dX0_adapt_96 rfl ?_
              refine va_get (D := G) (ci := 0) (v := .int (nI w)) (C := RX0) (T := TX0) (N := 11) hx hb hts in_X0 hown hK hP 0 rfl rfl 9 (by decide) (hts _ q33) (fun _ h9 => h9) rfl dX0_adapt_97 ?_
              refine lv_iconst (v := nI 1) hx hb dX0_adapt_100 (by decide) ?_
              refine ji_sub hx hb dX0_adapt_101 (v := nI (w - 1)) (pk_sub (a := w) (b := 1) (by omega)) ?_
              refine va_put (D := G) (ci := 0) (v := .int (nI (w - 1))) (ty := .int) (C := RX0) (T := TX0) (N := 11) hx hb hts in_X0 tyX0 tyX0_ok nmX0 hown hK hP hD hS 0 rfl rfl 9 (by decide) (hts _ q33) (fun _ h9 => h9) rfl (by decide +kernel) rfl rfl (Nat.le_of_ble_eq_true rfl) dX0_adapt_102 (fun H locs hP hD hS => ?_)
              have hP : va_P G vwCl (Xw d a D B C (nf od) (nf rk) sn ln ra rc (nI (w - 1)) (b - 1)) H := hP
              have hD : va_D A (Xw d a D B C (nf od) (nf rk) sn ln ra rc (nI (w - 1)) (b - 1)) := hD
              refine lv_aload_n hx hb dX0_adapt_105 rfl (lv_at hl 0 rfl) ?_
              refine lv_iconst (v := nI 0) hx hb dX0_adapt_106 (by decide) ?_
              refine va_put (D := G) (ci := 0) (v := .int (nI 0)) (ty := .int) (C := RX0) (T := TX0) (N := 11) hx hb hts in_X0 tyX0 tyX0_ok nmX0 hown hK hP hD hS 0 rfl rfl 10 (by decide) (hts _ q34) (fun _ h9 => h9) rfl (by decide +kernel) rfl rfl (Nat.le_of_ble_eq_true rfl) dX0_adapt_107 (fun H locs hP hD hS => ?_)
              have hP : va_P G vwCl (Xw d a D B C (nf od) (nf rk) sn ln ra rc (nI (w - 1)) (nI 0)) H := hP
              have hD : va_D A (Xw d a D B C (nf od) (nf rk) sn ln ra rc (nI (w - 1)) (nI 0)) := hD
              have hE : ad w b f = (w - 1, nI 0) := by unfold ad; rw [if_neg no1, if_pos ⟨fun z => c_13 (by rw [← hab]; exact z), c_14⟩]
              rw [hE]
              exact jr_v hx hb hr hlocks hP hD hS dX0_adapt_110
        · refine lv_aload_n hx hb dX0_adapt_61 rfl (lv_at hl 0 rfl) ?_
          refine lv_dup hx hb dX0_adapt_62 rfl ?_
          refine va_get (D := G) (ci := 0) (v := .int (nI w)) (C := RX0) (T := TX0) (N := 11) hx hb hts in_X0 hown hK hP 0 rfl rfl 9 (by decide) (hts _ q33) (fun _ h9 => h9) rfl dX0_adapt_63 ?_
          refine lv_iconst (v := nI 1) hx hb dX0_adapt_66 (by decide) ?_
          refine ji_add hx hb dX0_adapt_67 (v := nI (w + 1)) (nI_add w 1) ?_
          refine va_put (D := G) (ci := 0) (v := .int (nI (w + 1))) (ty := .int) (C := RX0) (T := TX0) (N := 11) hx hb hts in_X0 tyX0 tyX0_ok nmX0 hown hK hP hD hS 0 rfl rfl 9 (by decide) (hts _ q33) (fun _ h9 => h9) rfl (by decide +kernel) rfl rfl (Nat.le_of_ble_eq_true rfl) dX0_adapt_68 (fun H locs hP hD hS => ?_)
          have hP : va_P G vwCl (Xw d a D B C (nf od) (nf rk) sn ln ra rc (nI (w + 1)) (b - 1)) H := hP
          have hD : va_D A (Xw d a D B C (nf od) (nf rk) sn ln ra rc (nI (w + 1)) (b - 1)) := hD
          refine lv_aload_n hx hb dX0_adapt_71 rfl (lv_at hl 0 rfl) ?_
          refine lv_iconst (v := nI 0) hx hb dX0_adapt_72 (by decide) ?_
          refine va_put (D := G) (ci := 0) (v := .int (nI 0)) (ty := .int) (C := RX0) (T := TX0) (N := 11) hx hb hts in_X0 tyX0 tyX0_ok nmX0 hown hK hP hD hS 0 rfl rfl 10 (by decide) (hts _ q34) (fun _ h9 => h9) rfl (by decide +kernel) rfl rfl (Nat.le_of_ble_eq_true rfl) dX0_adapt_73 (fun H locs hP hD hS => ?_)
          have hP : va_P G vwCl (Xw d a D B C (nf od) (nf rk) sn ln ra rc (nI (w + 1)) (nI 0)) H := hP
          have hD : va_D A (Xw d a D B C (nf od) (nf rk) sn ln ra rc (nI (w + 1)) (nI 0)) := hD
          refine lv_goto (tgt := 110) hx hb dX0_adapt_76 (by decide) ?_
          have hE : ad w b f = (w + 1, nI 0) := if_pos ⟨fun z => c_9 (by rw [← hab]; exact z), c_12⟩
          rw [hE]
          exact jr_v hx hb hr hlocks hP hD hS dX0_adapt_110
  · refine lv_aload_n hx hb dX0_adapt_10 rfl (lv_at hl 0 rfl) ?_
    refine lv_dup hx hb dX0_adapt_11 rfl ?_
    refine va_get (D := G) (ci := 0) (v := .int b) (C := RX0) (T := TX0) (N := 11) hx hb hts in_X0 hown hK hP 0 rfl rfl 10 (by decide) (hts _ q34) (fun _ h9 => h9) rfl dX0_adapt_12 ?_
    refine lv_iconst (v := nI 2) hx hb dX0_adapt_15 (by decide) ?_
    refine ji_add hx hb dX0_adapt_16 (v := b + 2) rfl ?_
    refine va_put (D := G) (ci := 0) (v := .int (b + 2)) (ty := .int) (C := RX0) (T := TX0) (N := 11) hx hb hts in_X0 tyX0 tyX0_ok nmX0 hown hK hP hD hS 0 rfl rfl 10 (by decide) (hts _ q34) (fun _ h9 => h9) rfl (by decide +kernel) rfl rfl (Nat.le_of_ble_eq_true rfl) dX0_adapt_17 (fun H locs hP hD hS => ?_)
    have hP : va_P G vwCl (Xw d a D B C (nf od) (nf rk) sn ln ra rc (nI w) (b + 2)) H := hP
    have hD : va_D A (Xw d a D B C (nf od) (nf rk) sn ln ra rc (nI w) (b + 2)) := hD
    refine lv_goto (tgt := 44) hx hb dX0_adapt_20 (by decide) ?_
    have hab : ab w b f = b + 2 := by unfold ab; rw [if_pos c_1]
    refine lv_aload_n hx hb dX0_adapt_44 rfl (lv_at hl 0 rfl) ?_
    refine va_get (D := G) (ci := 0) (v := .int (b + 2)) (C := RX0) (T := TX0) (N := 11) hx hb hts in_X0 hown hK hP 0 rfl rfl 10 (by decide) (hts _ q34) (fun _ h9 => h9) rfl dX0_adapt_45 ?_
    refine lv_iconst (v := nI 4) hx hb dX0_adapt_48 (by decide) ?_
    refine lv_icmp_lt (tgt := 79) hx hb dX0_adapt_49 (by decide) (fun c_15 => ?_) (fun c_15 => ?_)
    · have no1 : ¬ (¬ ab w b f < nI 4 ∧ w < 6) := fun z => z.1 (by rw [hab]; exact c_15)
      refine lv_aload_n hx hb dX0_adapt_79 rfl (lv_at hl 0 rfl) ?_
      refine va_get (D := G) (ci := 0) (v := .int (b + 2)) (C := RX0) (T := TX0) (N := 11) hx hb hts in_X0 hown hK hP 0 rfl rfl 10 (by decide) (hts _ q34) (fun _ h9 => h9) rfl dX0_adapt_80 ?_
      refine lv_bipush (v := (-4)) hx hb dX0_adapt_83 (by decide) ?_
      refine lv_icmp_gt (tgt := 110) hx hb dX0_adapt_85 (by decide) (fun c_16 => ?_) (fun c_16 => ?_)
      · have hE : ad w b f = (w, b + 2) := by unfold ad; rw [if_neg no1, if_neg (fun z => z.1 (by rw [hab]; exact c_16)), hab]
        rw [hE]
        exact jr_v hx hb hr hlocks hP hD hS dX0_adapt_110
      · refine lv_aload_n hx hb dX0_adapt_88 rfl (lv_at hl 0 rfl) ?_
        refine va_get (D := G) (ci := 0) (v := .int (nI w)) (C := RX0) (T := TX0) (N := 11) hx hb hts in_X0 hown hK hP 0 rfl rfl 9 (by decide) (hts _ q33) (fun _ h9 => h9) rfl dX0_adapt_89 ?_
        refine jz_le (tgt := 110) hx hb (by omega) dX0_adapt_92 (by decide) (fun c_17 => ?_) (fun c_17 => ?_)
        · have hE : ad w b f = (w, b + 2) := by unfold ad; rw [if_neg no1, if_neg (fun z => absurd z.2 (by omega)), hab]
          rw [hE]
          exact jr_v hx hb hr hlocks hP hD hS dX0_adapt_110
        · refine lv_aload_n hx hb dX0_adapt_95 rfl (lv_at hl 0 rfl) ?_
          refine lv_dup hx hb dX0_adapt_96 rfl ?_
          refine va_get (D := G) (ci := 0) (v := .int (nI w)) (C := RX0) (T := TX0) (N := 11) hx hb hts in_X0 hown hK hP 0 rfl rfl 9 (by decide) (hts _ q33) (fun _ h9 => h9) rfl dX0_adapt_97 ?_
          refine lv_iconst (v := nI 1) hx hb dX0_adapt_100 (by decide) ?_
          refine ji_sub hx hb dX0_adapt_101 (v := nI (w - 1)) (pk_sub (a := w) (b := 1) (by omega)) ?_
          refine va_put (D := G) (ci := 0) (v := .int (nI (w - 1))) (ty := .int) (C := RX0) (T := TX0) (N := 11) hx hb hts in_X0 tyX0 tyX0_ok nmX0 hown hK hP hD hS 0 rfl rfl 9 (by decide) (hts _ q33) (fun _ h9 => h9) rfl (by decide +kernel) rfl rfl (Nat.le_of_ble_eq_true rfl) dX0_adapt_102 (fun H locs hP hD hS => ?_)
          have hP : va_P G vwCl (Xw d a D B C (nf od) (nf rk) sn ln ra rc (nI (w - 1)) (b + 2)) H := hP
          have hD : va_D A (Xw d a D B C (nf od) (nf rk) sn ln ra rc (nI (w - 1)) (b + 2)) := hD
          refine lv_aload_n hx hb dX0_adapt_105 rfl (lv_at hl 0 rfl) ?_
          refine lv_iconst (v := nI 0) hx hb dX0_adapt_106 (by decide) ?_
          refine va_put (D := G) (ci := 0) (v := .int (nI 0)) (ty := .int) (C := RX0) (T := TX0) (N := 11) hx hb hts in_X0 tyX0 tyX0_ok nmX0 hown hK hP hD hS 0 rfl rfl 10 (by decide) (hts _ q34) (fun _ h9 => h9) rfl (by decide +kernel) rfl rfl (Nat.le_of_ble_eq_true rfl) dX0_adapt_107 (fun H locs hP hD hS => ?_)
          have hP : va_P G vwCl (Xw d a D B C (nf od) (nf rk) sn ln ra rc (nI (w - 1)) (nI 0)) H := hP
          have hD : va_D A (Xw d a D B C (nf od) (nf rk) sn ln ra rc (nI (w - 1)) (nI 0)) := hD
          have hE : ad w b f = (w - 1, nI 0) := by unfold ad; rw [if_neg no1, if_pos ⟨fun z => c_16 (by rw [← hab]; exact z), c_17⟩]
          rw [hE]
          exact jr_v hx hb hr hlocks hP hD hS dX0_adapt_110
    · refine lv_aload_n hx hb dX0_adapt_52 rfl (lv_at hl 0 rfl) ?_
      refine va_get (D := G) (ci := 0) (v := .int (nI w)) (C := RX0) (T := TX0) (N := 11) hx hb hts in_X0 hown hK hP 0 rfl rfl 9 (by decide) (hts _ q33) (fun _ h9 => h9) rfl dX0_adapt_53 ?_
      refine lv_bipush (v := nI 6) hx hb dX0_adapt_56 (by decide) ?_
      refine jn_ge (tgt := 79) hx hb (by omega) (by omega) dX0_adapt_58 (by decide) (fun c_18 => ?_) (fun c_18 => ?_)
      · have no1 : ¬ (¬ ab w b f < nI 4 ∧ w < 6) := fun z => absurd z.2 (by omega)
        refine lv_aload_n hx hb dX0_adapt_79 rfl (lv_at hl 0 rfl) ?_
        refine va_get (D := G) (ci := 0) (v := .int (b + 2)) (C := RX0) (T := TX0) (N := 11) hx hb hts in_X0 hown hK hP 0 rfl rfl 10 (by decide) (hts _ q34) (fun _ h9 => h9) rfl dX0_adapt_80 ?_
        refine lv_bipush (v := (-4)) hx hb dX0_adapt_83 (by decide) ?_
        refine lv_icmp_gt (tgt := 110) hx hb dX0_adapt_85 (by decide) (fun c_19 => ?_) (fun c_19 => ?_)
        · have hE : ad w b f = (w, b + 2) := by unfold ad; rw [if_neg no1, if_neg (fun z => z.1 (by rw [hab]; exact c_19)), hab]
          rw [hE]
          exact jr_v hx hb hr hlocks hP hD hS dX0_adapt_110
        · refine lv_aload_n hx hb dX0_adapt_88 rfl (lv_at hl 0 rfl) ?_
          refine va_get (D := G) (ci := 0) (v := .int (nI w)) (C := RX0) (T := TX0) (N := 11) hx hb hts in_X0 hown hK hP 0 rfl rfl 9 (by decide) (hts _ q33) (fun _ h9 => h9) rfl dX0_adapt_89 ?_
          refine jz_le (tgt := 110) hx hb (by omega) dX0_adapt_92 (by decide) (fun c_20 => ?_) (fun c_20 => ?_)
          · have hE : ad w b f = (w, b + 2) := by unfold ad; rw [if_neg no1, if_neg (fun z => absurd z.2 (by omega)), hab]
            rw [hE]
            exact jr_v hx hb hr hlocks hP hD hS dX0_adapt_110
          · refine lv_aload_n hx hb dX0_adapt_95 rfl (lv_at hl 0 rfl) ?_
            refine lv_dup hx hb dX0_adapt_96 rfl ?_
            refine va_get (D := G) (ci := 0) (v := .int (nI w)) (C := RX0) (T := TX0) (N := 11) hx hb hts in_X0 hown hK hP 0 rfl rfl 9 (by decide) (hts _ q33) (fun _ h9 => h9) rfl dX0_adapt_97 ?_
            refine lv_iconst (v := nI 1) hx hb dX0_adapt_100 (by decide) ?_
            refine ji_sub hx hb dX0_adapt_101 (v := nI (w - 1)) (pk_sub (a := w) (b := 1) (by omega)) ?_
            refine va_put (D := G) (ci := 0) (v := .int (nI (w - 1))) (ty := .int) (C := RX0) (T := TX0) (N := 11) hx hb hts in_X0 tyX0 tyX0_ok nmX0 hown hK hP hD hS 0 rfl rfl 9 (by decide) (hts _ q33) (fun _ h9 => h9) rfl (by decide +kernel) rfl rfl (Nat.le_of_ble_eq_true rfl) dX0_adapt_102 (fun H locs hP hD hS => ?_)
            have hP : va_P G vwCl (Xw d a D B C (nf od) (nf rk) sn ln ra rc (nI (w - 1)) (b + 2)) H := hP
            have hD : va_D A (Xw d a D B C (nf od) (nf rk) sn ln ra rc (nI (w - 1)) (b + 2)) := hD
            refine lv_aload_n hx hb dX0_adapt_105 rfl (lv_at hl 0 rfl) ?_
            refine lv_iconst (v := nI 0) hx hb dX0_adapt_106 (by decide) ?_
            refine va_put (D := G) (ci := 0) (v := .int (nI 0)) (ty := .int) (C := RX0) (T := TX0) (N := 11) hx hb hts in_X0 tyX0 tyX0_ok nmX0 hown hK hP hD hS 0 rfl rfl 10 (by decide) (hts _ q34) (fun _ h9 => h9) rfl (by decide +kernel) rfl rfl (Nat.le_of_ble_eq_true rfl) dX0_adapt_107 (fun H locs hP hD hS => ?_)
            have hP : va_P G vwCl (Xw d a D B C (nf od) (nf rk) sn ln ra rc (nI (w - 1)) (nI 0)) H := hP
            have hD : va_D A (Xw d a D B C (nf od) (nf rk) sn ln ra rc (nI (w - 1)) (nI 0)) := hD
            have hE : ad w b f = (w - 1, nI 0) := by unfold ad; rw [if_neg no1, if_pos ⟨fun z => c_19 (by rw [← hab]; exact z), c_20⟩]
            rw [hE]
            exact jr_v hx hb hr hlocks hP hD hS dX0_adapt_110
      · refine lv_aload_n hx hb dX0_adapt_61 rfl (lv_at hl 0 rfl) ?_
        refine lv_dup hx hb dX0_adapt_62 rfl ?_
        refine va_get (D := G) (ci := 0) (v := .int (nI w)) (C := RX0) (T := TX0) (N := 11) hx hb hts in_X0 hown hK hP 0 rfl rfl 9 (by decide) (hts _ q33) (fun _ h9 => h9) rfl dX0_adapt_63 ?_
        refine lv_iconst (v := nI 1) hx hb dX0_adapt_66 (by decide) ?_
        refine ji_add hx hb dX0_adapt_67 (v := nI (w + 1)) (nI_add w 1) ?_
        refine va_put (D := G) (ci := 0) (v := .int (nI (w + 1))) (ty := .int) (C := RX0) (T := TX0) (N := 11) hx hb hts in_X0 tyX0 tyX0_ok nmX0 hown hK hP hD hS 0 rfl rfl 9 (by decide) (hts _ q33) (fun _ h9 => h9) rfl (by decide +kernel) rfl rfl (Nat.le_of_ble_eq_true rfl) dX0_adapt_68 (fun H locs hP hD hS => ?_)
        have hP : va_P G vwCl (Xw d a D B C (nf od) (nf rk) sn ln ra rc (nI (w + 1)) (b + 2)) H := hP
        have hD : va_D A (Xw d a D B C (nf od) (nf rk) sn ln ra rc (nI (w + 1)) (b + 2)) := hD
        refine lv_aload_n hx hb dX0_adapt_71 rfl (lv_at hl 0 rfl) ?_
        refine lv_iconst (v := nI 0) hx hb dX0_adapt_72 (by decide) ?_
        refine va_put (D := G) (ci := 0) (v := .int (nI 0)) (ty := .int) (C := RX0) (T := TX0) (N := 11) hx hb hts in_X0 tyX0 tyX0_ok nmX0 hown hK hP hD hS 0 rfl rfl 10 (by decide) (hts _ q34) (fun _ h9 => h9) rfl (by decide +kernel) rfl rfl (Nat.le_of_ble_eq_true rfl) dX0_adapt_73 (fun H locs hP hD hS => ?_)
        have hP : va_P G vwCl (Xw d a D B C (nf od) (nf rk) sn ln ra rc (nI (w + 1)) (nI 0)) H := hP
        have hD : va_D A (Xw d a D B C (nf od) (nf rk) sn ln ra rc (nI (w + 1)) (nI 0)) := hD
        refine lv_goto (tgt := 110) hx hb dX0_adapt_76 (by decide) ?_
        have hE : ad w b f = (w + 1, nI 0) := if_pos ⟨fun z => c_15 (by rw [← hab]; exact z), c_18⟩
        rw [hE]
        exact jr_v hx hb hr hlocks hP hD hS dX0_adapt_110
set_option maxHeartbeats 4000000 in
set_option maxRecDepth 100000 in
/-- the low bits of v are laid from i on -/
theorem mX0_writeBits (l : Launch) (G : va_G) (d : ClassId) (a : Nat → Nat) (D B C : Nat → Int32) (sn ra rc w b : Int32) (i v c9 : Nat) (hi : i + c9 ≤ 1536) (hc : c9 ≤ 8) (hv : v < 256) : MV l yX0_writeBits (ws_ yX0_writeBits cX0_writeBits 4 none) ro1 G [(d, .int)] [.ref (a 0), .int (nI v), .int (nI c9)] (Xw d a D B C (nf od) (nf rk) sn (nI i) ra rc w b) (Xw d a D (wL (bt v c9) B i) C (nf od) (nf rk) sn (nI (i + c9)) ra rc w b) := by
  refine MV.ofW (by decide) (Nat.le_of_ble_eq_true rfl) ?_
  intro p e8 s m below meth c A hx hb hr hml hown hts hlocks hA hK hP hD ls hl
  have hS : va_S A s.heap s.heap [] := va_S.rf
  have hown : s.vm.findClass RX0 = some m.cls := hown
  have hl : lv_has ls 4 [(0, .ref (a 0)), (1, .int (nI v)), (2, .int (nI c9))] := hl
  refine lv_iload_n hx hb dX0_writeBits_0 rfl (lv_at hl 2 rfl) ?_
  refine lv_iconst (v := nI 1) hx hb dX0_writeBits_1 (by decide) ?_
  refine ji_sub hx hb dX0_writeBits_2 (v := nI c9 - nI 1) rfl ?_
  refine lv_istore_n (lv' := [(3, .int (nI c9 - nI 1)), (0, .ref (a 0)), (1, .int (nI v)), (2, .int (nI c9))]) hx hb dX0_writeBits_3 rfl hl (by decide) rfl (fun ls hl => ?_)
  refine ja_loop (fun n H locs ls => ∃ (B1 : Nat → Int32) (j : Nat), n ≤ c9 ∧ wL (bt v n) B1 j = wL (bt v c9) B i ∧ j + n = i + c9 ∧ ja_I A G s.heap (Xw d a D B1 C (nf od) (nf rk) sn (nI j) ra rc w b) 4 [(0, .ref (a 0)), (1, .int (nI v)), (3, .int (nI n - nI 1))] H locs ls) ?_ c9 ⟨B, i, Nat.le_refl _, rfl, rfl, hP, hD, hS, lv_sub hl [1, 2, 0] rfl⟩
  intro n ih H locs ls hI
  obtain ⟨B1, j, hn, hw, hj, hP, hD, hS, hl⟩ := hI
  refine lv_iload_n hx hb dX0_writeBits_4 rfl (lv_at hl 2 rfl) ?_
  refine lv_if_lt (tgt := 23) hx hb dX0_writeBits_5 (by decide) (fun c_1 => ?_) (fun c_1 => ?_)
  · have hn0 : n = 0 := (ar_m1 (by omega)).mp c_1
    subst hn0
    have hB : B1 = wL (bt v c9) B i := hw
    have hJ : j = i + c9 := by omega
    rw [hB, hJ] at hP hD
    exact jr_v hx hb hr hlocks hP hD hS dX0_writeBits_23
  · obtain ⟨k, rfl⟩ : ∃ k, n = k + 1 := by
      rcases n with _ | n
      · exact absurd ((ar_m1 (n := 0) (by decide)).mpr rfl) c_1
      · exact ⟨n, rfl⟩
    have e3 : nI (k + 1) - nI 1 = nI k := nI_pred k
    rw [e3] at hl
    have hq : v / 2 ^ k < 256 := ar_div_lt hv
    refine lv_aload_n hx hb dX0_writeBits_8 rfl (lv_at hl 0 rfl) ?_
    refine lv_iload_n hx hb dX0_writeBits_9 rfl (lv_at hl 1 rfl) ?_
    refine lv_iload_n hx hb dX0_writeBits_10 rfl (lv_at hl 2 rfl) ?_
    refine lv_iushr (v := nI (v / 2 ^ k)) hx hb dX0_writeBits_11 (ar_ushr (by omega) (by omega)) ?_
    refine lv_iconst (v := nI 1) hx hb dX0_writeBits_12 (by decide) ?_
    refine ji_and hx hb dX0_writeBits_13 (v := nI (v / 2 ^ k % 2)) (ar_and1 (by omega)) ?_
    refine kc_Vv (wr := []) (w1 := Xw d a D (wB B1 j (v / 2 ^ k % 2)) C (nf od) (nf rk) sn (nI (j + 1)) ra rc w b) (rest := []) ⟨hx, hb, hml, hown, hts⟩ (mX0_writeBit l G d a D B1 C sn ra rc w b j (v / 2 ^ k % 2) (by omega)) (cwV 1 hts (lw_V q93 q95 qs4 q11 q96) rfl rfl rfl (by decide +kernel) ⟨(Nat.le_of_ble_eq_true rfl), (Nat.le_of_ble_eq_true rfl)⟩) hK [0] rfl hP hD hS hA [0, 1, 2, 3, 4, 5] [] rfl rfl rfl rfl (by decide) (ci := 0) rfl rfl rfl hl.1 rfl (Nat.le_of_ble_eq_true rfl) dX0_writeBits_14 ⟨(Nat.le_of_ble_eq_true rfl), (Nat.le_of_ble_eq_true rfl)⟩ (fun H locs hP hD hS => ?_)
    have hP : va_P G vwCl (Xw d a D (wB B1 j (v / 2 ^ k % 2)) C (nf od) (nf rk) sn (nI (j + 1)) ra rc w b) H := hP
    have hD : va_D A (Xw d a D (wB B1 j (v / 2 ^ k % 2)) C (nf od) (nf rk) sn (nI (j + 1)) ra rc w b) := hD
    refine lv_iinc (v := nI k - nI 1) (lv' := [(3, .int (nI k - nI 1)), (0, .ref (a 0)), (1, .int (nI v))]) hx hb dX0_writeBits_17 hl (k := 2) rfl (ar_dec (nI k)) (by decide) rfl (fun ls hl => ?_)
    refine lv_goto (tgt := 4) hx hb dX0_writeBits_20 (by decide) ?_
    exact ih k (by omega) _ _ _ ⟨wB B1 j (v / 2 ^ k % 2), j + 1, by omega, hw, by omega, hP, hD, hS, lv_sub hl [1, 2, 0] rfl⟩
set_option maxHeartbeats 4000000 in
set_option maxRecDepth 100000 in
/-- the code of f is laid from i on -/
theorem mX0_writeCode (l : Launch) (G : va_G) (d : ClassId) (a : Nat → Nat) (D B C : Nat → Int32) (sn ra rc b : Int32) (i f w : Nat) (hi : i + 16 ≤ 1536) (hf : f < 256) (hw : w ≤ 6) : MV l yX0_writeCode (ws_ yX0_writeCode cX0_writeCode 4 none) ro2 G [(d, .int)] [.ref (a 0), .int (nI f)] (Xw d a D B C (nf od) (nf rk) sn (nI i) ra rc (nI w) b) (Xw d a D (wL (cd f w) B i) C (nf od) (nf rk) sn (nI (i + (cd f w).length)) ra rc (nI w) b) := by
  refine MV.ofW (by decide) (Nat.le_of_ble_eq_true rfl) ?_
  intro p e8 s m below meth c A hx hb hr hml hown hts hlocks hA hK hP hD ls hl
  have hS : va_S A s.heap s.heap [] := va_S.rf
  have hown : s.vm.findClass RX0 = some m.cls := hown
  have hl : lv_has ls 4 [(0, .ref (a 0)), (1, .int (nI f))] := hl
  have hq : f / 2 ^ w < 256 := ar_div_lt hf
  have hp := ar_pow6 hw
  have hp0 := ar_pow0 w
  refine lv_iload_n hx hb dX0_writeCode_0 rfl (lv_at hl 1 rfl) ?_
  refine lv_aload_n hx hb dX0_writeCode_1 rfl (lv_at hl 0 rfl) ?_
  refine va_get (D := G) (ci := 0) (v := .int (nI w)) (C := RX0) (T := TX0) (N := 11) hx hb hts in_X0 hown hK hP 0 rfl rfl 9 (by decide) (hts _ q33) (fun _ h9 => h9) rfl dX0_writeCode_2 ?_
  refine ji_shr hx hb dX0_writeCode_5 (v := nI (f / 2 ^ w)) (ar_shr (by omega) (by omega)) ?_
  refine lv_istore_n (lv' := [(2, .int (nI (f / 2 ^ w))), (0, .ref (a 0)), (1, .int (nI f))]) hx hb dX0_writeCode_6 rfl hl (by decide) rfl (fun ls hl => ?_)
  refine lv_iconst (v := nI 0) hx hb dX0_writeCode_7 (by decide) ?_
  refine lv_istore_n (lv' := [(3, .int (nI 0)), (2, .int (nI (f / 2 ^ w))), (0, .ref (a 0)), (1, .int (nI f))]) hx hb dX0_writeCode_8 rfl hl (by decide) rfl (fun ls hl => ?_)
  refine ja_loop (fun n H locs ls => ∃ (k : Nat), k + n = 8 ∧ k ≤ f / 2 ^ w ∧ ja_I A G s.heap (Xw d a D (wL (List.replicate k 1) B i) C (nf od) (nf rk) sn (nI (i + k)) ra rc (nI w) b) 4 [(0, .ref (a 0)), (1, .int (nI f)), (2, .int (nI (f / 2 ^ w))), (3, .int (nI k))] H locs ls) ?_ 8 ⟨0, rfl, Nat.zero_le _, hP, hD, hS, lv_sub hl [2, 3, 1, 0] rfl⟩
  intro n ih H locs ls hI
  obtain ⟨k, hk, hkq, hP, hD, hS, hl⟩ := hI
  refine lv_iload_n hx hb dX0_writeCode_9 rfl (lv_at hl 3 rfl) ?_
  refine lv_bipush (v := nI 8) hx hb dX0_writeCode_10 (by decide) ?_
  refine jn_ge (tgt := 31) hx hb (by omega) (by omega) dX0_writeCode_12 (by decide) (fun c_1 => ?_) (fun c_1 => ?_)
  · obtain rfl : k = 8 := by omega
    refine lv_iload_n hx hb dX0_writeCode_31 rfl (lv_at hl 2 rfl) ?_
    refine lv_bipush (v := nI 8) hx hb dX0_writeCode_32 (by decide) ?_
    refine jn_lt (tgt := 47) hx hb (by omega) (by omega) dX0_writeCode_34 (by decide) (fun c_2 => ?_) (fun c_2 => ?_)
    · exact absurd c_2 (by omega)
    · refine lv_aload_n hx hb dX0_writeCode_37 rfl (lv_at hl 0 rfl) ?_
      refine lv_iload_n hx hb dX0_writeCode_38 rfl (lv_at hl 1 rfl) ?_
      refine lv_bipush (v := nI 8) hx hb dX0_writeCode_39 (by decide) ?_
      refine kc_Vv (wr := []) (w1 := Xw d a D (wL (bt f 8) (wL (List.replicate 8 1) B i) (i + 8)) C (nf od) (nf rk) sn (nI (i + 8 + 8)) ra rc (nI w) b) (rest := []) ⟨hx, hb, hml, hown, hts⟩ (mX0_writeBits l G d a D (wL (List.replicate 8 1) B i) C sn ra rc (nI w) b (i + 8) f 8 (by omega) (by omega) hf) (cwV 2 hts (lw_V q97 q99 qs5 q11 q100) rfl rfl rfl (by decide +kernel) ⟨(Nat.le_of_ble_eq_true rfl), (Nat.le_of_ble_eq_true rfl)⟩) hK [0] rfl hP hD hS hA [0, 1, 2, 3, 4, 5] [] rfl rfl rfl rfl (by decide) (ci := 0) rfl rfl rfl hl.1 rfl (Nat.le_of_ble_eq_true rfl) dX0_writeCode_41 ⟨(Nat.le_of_ble_eq_true rfl), (Nat.le_of_ble_eq_true rfl)⟩ (fun H locs hP hD hS => ?_)
      have hP : va_P G vwCl (Xw d a D (wL (bt f 8) (wL (List.replicate 8 1) B i) (i + 8)) C (nf od) (nf rk) sn (nI (i + 8 + 8)) ra rc (nI w) b) H := hP
      have hD : va_D A (Xw d a D (wL (bt f 8) (wL (List.replicate 8 1) B i) (i + 8)) C (nf od) (nf rk) sn (nI (i + 8 + 8)) ra rc (nI w) b) := hD
      refine lv_goto (tgt := 70) hx hb dX0_writeCode_44 (by decide) ?_
      rw [wL_big B i c_2, cd_lenB c_2]
      exact jr_v hx hb hr hlocks hP hD hS dX0_writeCode_70
  · refine lv_iload_n hx hb dX0_writeCode_15 rfl (lv_at hl 3 rfl) ?_
    refine lv_iload_n hx hb dX0_writeCode_16 rfl (lv_at hl 2 rfl) ?_
    refine jn_ge (tgt := 31) hx hb (by omega) (by omega) dX0_writeCode_17 (by decide) (fun c_3 => ?_) (fun c_3 => ?_)
    · obtain rfl : k = f / 2 ^ w := by omega
      refine lv_iload_n hx hb dX0_writeCode_31 rfl (lv_at hl 2 rfl) ?_
      refine lv_bipush (v := nI 8) hx hb dX0_writeCode_32 (by decide) ?_
      refine jn_lt (tgt := 47) hx hb (by omega) (by omega) dX0_writeCode_34 (by decide) (fun c_4 => ?_) (fun c_4 => ?_)
      · refine lv_aload_n hx hb dX0_writeCode_47 rfl (lv_at hl 0 rfl) ?_
        refine lv_iconst (v := nI 0) hx hb dX0_writeCode_48 (by decide) ?_
        refine kc_Vv (wr := []) (w1 := Xw d a D (wB (wL (List.replicate (f / 2 ^ w) 1) B i) (i + f / 2 ^ w) 0) C (nf od) (nf rk) sn (nI (i + f / 2 ^ w + 1)) ra rc (nI w) b) (rest := []) ⟨hx, hb, hml, hown, hts⟩ (mX0_writeBit l G d a D (wL (List.replicate (f / 2 ^ w) 1) B i) C sn ra rc (nI w) b (i + f / 2 ^ w) 0 (by omega)) (cwV 1 hts (lw_V q93 q95 qs4 q11 q96) rfl rfl rfl (by decide +kernel) ⟨(Nat.le_of_ble_eq_true rfl), (Nat.le_of_ble_eq_true rfl)⟩) hK [0] rfl hP hD hS hA [0, 1, 2, 3, 4, 5] [] rfl rfl rfl rfl (by decide) (ci := 0) rfl rfl rfl hl.1 rfl (Nat.le_of_ble_eq_true rfl) dX0_writeCode_49 ⟨(Nat.le_of_ble_eq_true rfl), (Nat.le_of_ble_eq_true rfl)⟩ (fun H locs hP hD hS => ?_)
        have hP : va_P G vwCl (Xw d a D (wB (wL (List.replicate (f / 2 ^ w) 1) B i) (i + f / 2 ^ w) 0) C (nf od) (nf rk) sn (nI (i + f / 2 ^ w + 1)) ra rc (nI w) b) H := hP
        have hD : va_D A (Xw d a D (wB (wL (List.replicate (f / 2 ^ w) 1) B i) (i + f / 2 ^ w) 0) C (nf od) (nf rk) sn (nI (i + f / 2 ^ w + 1)) ra rc (nI w) b) := hD
        refine lv_aload_n hx hb dX0_writeCode_52 rfl (lv_at hl 0 rfl) ?_
        refine lv_iload_n hx hb dX0_writeCode_53 rfl (lv_at hl 1 rfl) ?_
        refine lv_iconst (v := nI 1) hx hb dX0_writeCode_54 (by decide) ?_
        refine lv_aload_n hx hb dX0_writeCode_55 rfl (lv_at hl 0 rfl) ?_
        refine va_get (D := G) (ci := 0) (v := .int (nI w)) (C := RX0) (T := TX0) (N := 11) hx hb hts in_X0 hown hK hP 0 rfl rfl 9 (by decide) (hts _ q33) (fun _ h9 => h9) rfl dX0_writeCode_56 ?_
        refine ji_shl hx hb dX0_writeCode_59 (v := nI (2 ^ w)) (by rw [ar_shl (by omega) (by omega), Nat.one_mul]) ?_
        refine lv_iconst (v := nI 1) hx hb dX0_writeCode_60 (by decide) ?_
        refine ji_sub hx hb dX0_writeCode_61 (v := nI ((2 ^ w) - 1)) (pk_sub (a := (2 ^ w)) (b := 1) (by omega)) ?_
        refine ji_and hx hb dX0_writeCode_62 (v := nI (f % 2 ^ w)) (ar_mask (by omega) (by omega)) ?_
        refine lv_aload_n hx hb dX0_writeCode_63 rfl (lv_at hl 0 rfl) ?_
        refine va_get (D := G) (ci := 0) (v := .int (nI w)) (C := RX0) (T := TX0) (N := 11) hx hb hts in_X0 hown hK hP 0 rfl rfl 9 (by decide) (hts _ q33) (fun _ h9 => h9) rfl dX0_writeCode_64 ?_
        have hm : f % 2 ^ w < 2 ^ w := Nat.mod_lt _ hp0
        refine kc_Vv (wr := []) (w1 := Xw d a D (wL (bt (f % 2 ^ w) w) (wB (wL (List.replicate (f / 2 ^ w) 1) B i) (i + f / 2 ^ w) 0) (i + f / 2 ^ w + 1)) C (nf od) (nf rk) sn (nI (i + f / 2 ^ w + 1 + w)) ra rc (nI w) b) (rest := []) ⟨hx, hb, hml, hown, hts⟩ (mX0_writeBits l G d a D (wB (wL (List.replicate (f / 2 ^ w) 1) B i) (i + f / 2 ^ w) 0) C sn ra rc (nI w) b (i + f / 2 ^ w + 1) (f % 2 ^ w) w (by omega) (by omega) (by omega)) (cwV 2 hts (lw_V q97 q99 qs5 q11 q100) rfl rfl rfl (by decide +kernel) ⟨(Nat.le_of_ble_eq_true rfl), (Nat.le_of_ble_eq_true rfl)⟩) hK [0] rfl hP hD hS hA [0, 1, 2, 3, 4, 5] [] rfl rfl rfl rfl (by decide) (ci := 0) rfl rfl rfl hl.1 rfl (Nat.le_of_ble_eq_true rfl) dX0_writeCode_67 ⟨(Nat.le_of_ble_eq_true rfl), (Nat.le_of_ble_eq_true rfl)⟩ (fun H locs hP hD hS => ?_)
        have hP : va_P G vwCl (Xw d a D (wL (bt (f % 2 ^ w) w) (wB (wL (List.replicate (f / 2 ^ w) 1) B i) (i + f / 2 ^ w) 0) (i + f / 2 ^ w + 1)) C (nf od) (nf rk) sn (nI (i + f / 2 ^ w + 1 + w)) ra rc (nI w) b) H := hP
        have hD : va_D A (Xw d a D (wL (bt (f % 2 ^ w) w) (wB (wL (List.replicate (f / 2 ^ w) 1) B i) (i + f / 2 ^ w) 0) (i + f / 2 ^ w + 1)) C (nf od) (nf rk) sn (nI (i + f / 2 ^ w + 1 + w)) ra rc (nI w) b) := hD
        rw [wL_small B i c_4, cd_lenS c_4, show i + (f / 2 ^ w + 1 + w) = i + f / 2 ^ w + 1 + w by omega]
        exact jr_v hx hb hr hlocks hP hD hS dX0_writeCode_70
      · exact absurd c_4 (by omega)
    · refine lv_aload_n hx hb dX0_writeCode_20 rfl (lv_at hl 0 rfl) ?_
      refine lv_iconst (v := nI 1) hx hb dX0_writeCode_21 (by decide) ?_
      refine kc_Vv (wr := []) (w1 := Xw d a D (wB (wL (List.replicate k 1) B i) (i + k) 1) C (nf od) (nf rk) sn (nI (i + k + 1)) ra rc (nI w) b) (rest := []) ⟨hx, hb, hml, hown, hts⟩ (mX0_writeBit l G d a D (wL (List.replicate k 1) B i) C sn ra rc (nI w) b (i + k) 1 (by omega)) (cwV 1 hts (lw_V q93 q95 qs4 q11 q96) rfl rfl rfl (by decide +kernel) ⟨(Nat.le_of_ble_eq_true rfl), (Nat.le_of_ble_eq_true rfl)⟩) hK [0] rfl hP hD hS hA [0, 1, 2, 3, 4, 5] [] rfl rfl rfl rfl (by decide) (ci := 0) rfl rfl rfl hl.1 rfl (Nat.le_of_ble_eq_true rfl) dX0_writeCode_22 ⟨(Nat.le_of_ble_eq_true rfl), (Nat.le_of_ble_eq_true rfl)⟩ (fun H locs hP hD hS => ?_)
      have hP : va_P G vwCl (Xw d a D (wB (wL (List.replicate k 1) B i) (i + k) 1) C (nf od) (nf rk) sn (nI (i + k + 1)) ra rc (nI w) b) H := hP
      have hD : va_D A (Xw d a D (wB (wL (List.replicate k 1) B i) (i + k) 1) C (nf od) (nf rk) sn (nI (i + k + 1)) ra rc (nI w) b) := hD
      rw [← wL_rep] at hP hD
      refine lv_iinc (v := nI (k + 1)) (lv' := [(3, .int (nI (k + 1))), (0, .ref (a 0)), (1, .int (nI f)), (2, .int (nI (f / 2 ^ w)))]) hx hb dX0_writeCode_25 hl (k := 3) rfl (nI_1 k) (by decide) rfl (fun ls hl => ?_)
      refine lv_goto (tgt := 9) hx hb dX0_writeCode_28 (by decide) ?_
      exact ih (n - 1) (by omega) _ _ _ ⟨k + 1, by omega, by omega, hP, hD, hS, lv_sub hl [1, 2, 3, 0] rfl⟩
set_option maxHeartbeats 4000000 in
set_option maxRecDepth 100000 in
/-- a number of c9 bits is read from i on -/
theorem mX0_readBits (l : Launch) (G : va_G) (d : ClassId) (a : Nat → Nat) (D B C : Nat → Int32) (sn ln rc w b : Int32) (i c9 : Nat) (hi : i + c9 ≤ 1536) (hc : c9 ≤ 8) : MI l yX0_readBits (ws_ yX0_readBits cX0_readBits 5 (some .int)) ro1 G [(d, .int)] [.ref (a 0), .int (nI c9)] (Xw d a D B C (nf od) (nf rk) sn ln (nI i) rc w b) (nI (rv B i c9)) (Xw d a D B C (nf od) (nf rk) sn ln (nI (i + c9)) rc w b) := by
  refine MI.ofW (by decide) (Nat.le_of_ble_eq_true rfl) ?_
  intro p e8 s m below meth c A hx hb hr hml hown hts hlocks hA hK hP hD ls hl
  have hS : va_S A s.heap s.heap [] := va_S.rf
  have hown : s.vm.findClass RX0 = some m.cls := hown
  have hl : lv_has ls 5 [(0, .ref (a 0)), (1, .int (nI c9))] := hl
  refine lv_iconst (v := nI 0) hx hb dX0_readBits_0 (by decide) ?_
  refine lv_istore_n (lv' := [(2, .int (nI 0)), (0, .ref (a 0)), (1, .int (nI c9))]) hx hb dX0_readBits_1 rfl hl (by decide) rfl (fun ls hl => ?_)
  refine lv_iconst (v := nI 0) hx hb dX0_readBits_2 (by decide) ?_
  refine lv_istore_n (lv' := [(3, .int (nI 0)), (2, .int (nI 0)), (0, .ref (a 0)), (1, .int (nI c9))]) hx hb dX0_readBits_3 rfl hl (by decide) rfl (fun ls hl => ?_)
  refine ja_loop (fun n H locs ls => ∃ (k : Nat), k + n = c9 ∧ ja_I A G s.heap (Xw d a D B C (nf od) (nf rk) sn ln (nI (i + k)) rc w b) 5 [(0, .ref (a 0)), (1, .int (nI c9)), (2, .int (nI (rv B i k))), (3, .int (nI k))] H locs ls) ?_ c9 ⟨0, Nat.zero_add _, hP, hD, hS, lv_sub hl [2, 3, 1, 0] rfl⟩
  intro n ih H locs ls hI
  obtain ⟨k, hk, hP, hD, hS, hl⟩ := hI
  refine lv_iload_n hx hb dX0_readBits_4 rfl (lv_at hl 3 rfl) ?_
  refine lv_iload_n hx hb dX0_readBits_5 rfl (lv_at hl 1 rfl) ?_
  refine jn_ge (tgt := 28) hx hb (by omega) (by omega) dX0_readBits_6 (by decide) (fun c_1 => ?_) (fun c_1 => ?_)
  · obtain rfl : k = c9 := by omega
    refine lv_iload_n hx hb dX0_readBits_28 rfl (lv_at hl 2 rfl) ?_
    exact jr_i hx hb hr hlocks hP hD hS rfl dX0_readBits_29
  · refine lv_aload_n hx hb dX0_readBits_9 rfl (lv_at hl 0 rfl) ?_
    refine kc_Vi (wr := []) (w1 := Xw d a D B C (nf od) (nf rk) sn ln (nI (i + k + 1)) rc w b) (rest := []) ⟨hx, hb, hml, hown, hts⟩ (mX0_readBit l G d a D B C sn ln rc w b (i + k) (by omega)) (cwV 0 hts (lw_V q113 q115 qs8 q11 q116) rfl rfl rfl (by decide +kernel) ⟨(Nat.le_of_ble_eq_true rfl), (Nat.le_of_ble_eq_true rfl)⟩) hK [0] rfl hP hD hS hA [0, 1, 2, 3, 4, 5] [] rfl rfl rfl rfl (by decide) (ci := 0) rfl rfl rfl hl.1 rfl (Nat.le_of_ble_eq_true rfl) dX0_readBits_10 ⟨(Nat.le_of_ble_eq_true rfl), (Nat.le_of_ble_eq_true rfl)⟩ (fun H locs hP hD hS => ?_)
    have hP : va_P G vwCl (Xw d a D B C (nf od) (nf rk) sn ln (nI (i + k + 1)) rc w b) H := hP
    have hD : va_D A (Xw d a D B C (nf od) (nf rk) sn ln (nI (i + k + 1)) rc w b) := hD
    refine lv_istore (lv' := [(4, .int (nI (rB B (i + k)))), (0, .ref (a 0)), (1, .int (nI c9)), (2, .int (nI (rv B i k))), (3, .int (nI k))]) hx hb dX0_readBits_13 hl (by decide) rfl (fun ls hl => ?_)
    refine lv_iconst (v := nI 2) hx hb dX0_readBits_15 (by decide) ?_
    refine lv_iload_n hx hb dX0_readBits_16 rfl (lv_at hl 3 rfl) ?_
    refine ji_mul hx hb dX0_readBits_17 (v := nI (2 * (rv B i k))) (pk_mul 2 (rv B i k)) ?_
    refine lv_iload hx hb dX0_readBits_18 (lv_at hl 0 rfl) ?_
    refine ji_add hx hb dX0_readBits_20 (v := nI ((2 * (rv B i k)) + (rB B (i + k)))) (nI_add (2 * (rv B i k)) (rB B (i + k))) ?_
    refine lv_istore_n (lv' := [(2, .int (nI ((2 * (rv B i k)) + (rB B (i + k))))), (4, .int (nI (rB B (i + k)))), (0, .ref (a 0)), (1, .int (nI c9)), (3, .int (nI k))]) hx hb dX0_readBits_21 rfl hl (by decide) rfl (fun ls hl => ?_)
    refine lv_iinc (v := nI (k + 1)) (lv' := [(3, .int (nI (k + 1))), (2, .int (nI ((2 * (rv B i k)) + (rB B (i + k))))), (4, .int (nI (rB B (i + k)))), (0, .ref (a 0)), (1, .int (nI c9))]) hx hb dX0_readBits_22 hl (k := 4) rfl (nI_1 k) (by decide) rfl (fun ls hl => ?_)
    refine lv_goto (tgt := 4) hx hb dX0_readBits_25 (by decide) ?_
    exact ih (n - 1) (by omega) _ _ _ ⟨k + 1, by omega, hP, hD, hS, lv_sub hl [3, 4, 1, 0] rfl⟩
set_option maxHeartbeats 4000000 in
set_option maxRecDepth 100000 in
/-- the code of f is read from i on -/
theorem mX0_readCode (l : Launch) (G : va_G) (d : ClassId) (a : Nat → Nat) (D B C : Nat → Int32) (sn ln rc b : Int32) (i f w : Nat) (hi : i + 16 ≤ 1536) (hf : f < 256) (hw : w ≤ 6) (hs : Str B i (cd f w)) : MI l yX0_readCode (ws_ yX0_readCode cX0_readCode 5 (some .int)) ro2 G [(d, .int)] [.ref (a 0)] (Xw d a D B C (nf od) (nf rk) sn ln (nI i) rc (nI w) b) (nI f) (Xw d a D B C (nf od) (nf rk) sn ln (nI (i + (cd f w).length)) rc (nI w) b) := by
  refine MI.ofW (by decide) (Nat.le_of_ble_eq_true rfl) ?_
  intro p e8 s m below meth c A hx hb hr hml hown hts hlocks hA hK hP hD ls hl
  have hS : va_S A s.heap s.heap [] := va_S.rf
  have hown : s.vm.findClass RX0 = some m.cls := hown
  have hl : lv_has ls 5 [(0, .ref (a 0))] := hl
  have hq : f / 2 ^ w < 256 := ar_div_lt hf
  have hp := ar_pow6 hw
  have hp0 := ar_pow0 w
  refine lv_iconst (v := nI 0) hx hb dX0_readCode_0 (by decide) ?_
  refine lv_istore_n (lv' := [(1, .int (nI 0)), (0, .ref (a 0))]) hx hb dX0_readCode_1 rfl hl (by decide) rfl (fun ls hl => ?_)
  refine lv_iconst (v := nI 1) hx hb dX0_readCode_2 (by decide) ?_
  refine lv_istore_n (lv' := [(2, .int (nI 1)), (1, .int (nI 0)), (0, .ref (a 0))]) hx hb dX0_readCode_3 rfl hl (by decide) rfl (fun ls hl => ?_)
  refine lv_iconst (v := nI 0) hx hb dX0_readCode_4 (by decide) ?_
  refine lv_istore_n (lv' := [(3, .int (nI 0)), (2, .int (nI 1)), (1, .int (nI 0)), (0, .ref (a 0))]) hx hb dX0_readCode_5 rfl hl (by decide) rfl (fun ls hl => ?_)
  refine ja_loop (fun n H locs ls => ∃ (k : Nat), k + n = 8 ∧ k ≤ f / 2 ^ w ∧ ja_I A G s.heap (Xw d a D B C (nf od) (nf rk) sn ln (nI (i + k)) rc (nI w) b) 5 [(0, .ref (a 0)), (1, .int (nI k)), (2, .int (nI 1)), (3, .int (nI k))] H locs ls) ?_ 8 ⟨0, rfl, Nat.zero_le _, hP, hD, hS, lv_sub hl [3, 2, 1, 0] rfl⟩
  intro n ih H locs ls hI
  obtain ⟨k, hk, hkq, hP, hD, hS, hl⟩ := hI
  refine lv_iload_n hx hb dX0_readCode_6 rfl (lv_at hl 3 rfl) ?_
  refine lv_bipush (v := nI 8) hx hb dX0_readCode_7 (by decide) ?_
  refine jn_ge (tgt := 45) hx hb (by omega) (by omega) dX0_readCode_9 (by decide) (fun c_1 => ?_) (fun c_1 => ?_)
  · obtain rfl : k = 8 := by omega
    refine lv_iload_n hx hb dX0_readCode_45 rfl (lv_at hl 2 rfl) ?_
    refine jz_eq (tgt := 56) hx hb (by omega) dX0_readCode_46 (by decide) (fun c_2 => ?_) (fun c_2 => ?_)
    · exact absurd c_2 (by decide)
    · refine lv_aload_n hx hb dX0_readCode_49 rfl (lv_at hl 0 rfl) ?_
      refine lv_bipush (v := nI 8) hx hb dX0_readCode_50 (by decide) ?_
      refine kc_Vi (wr := []) (w1 := Xw d a D B C (nf od) (nf rk) sn ln (nI (i + 8 + 8)) rc (nI w) b) (rest := []) ⟨hx, hb, hml, hown, hts⟩ (mX0_readBits l G d a D B C sn ln rc (nI w) b (i + 8) 8 (by omega) (by omega)) (cwV 1 hts (lw_V q117 q119 qs9 q11 q120) rfl rfl rfl (by decide +kernel) ⟨(Nat.le_of_ble_eq_true rfl), (Nat.le_of_ble_eq_true rfl)⟩) hK [0] rfl hP hD hS hA [0, 1, 2, 3, 4, 5] [] rfl rfl rfl rfl (by decide) (ci := 0) rfl rfl rfl hl.1 rfl (Nat.le_of_ble_eq_true rfl) dX0_readCode_52 ⟨(Nat.le_of_ble_eq_true rfl), (Nat.le_of_ble_eq_true rfl)⟩ (fun H locs hP hD hS => ?_)
      have hP : va_P G vwCl (Xw d a D B C (nf od) (nf rk) sn ln (nI (i + 8 + 8)) rc (nI w) b) H := hP
      have hD : va_D A (Xw d a D B C (nf od) (nf rk) sn ln (nI (i + 8 + 8)) rc (nI w) b) := hD
      rw [cd_lenB hkq]
      exact jr_i hx hb hr hlocks hP hD hS (by rw [rd_big hs hf hkq]) dX0_readCode_55
  · refine lv_iload_n hx hb dX0_readCode_12 rfl (lv_at hl 2 rfl) ?_
    refine jz_eq (tgt := 45) hx hb (by omega) dX0_readCode_13 (by decide) (fun c_3 => ?_) (fun c_3 => ?_)
    · exact absurd c_3 (by decide)
    · have hr2 := rB_lt B (i + k)
      refine lv_aload_n hx hb dX0_readCode_16 rfl (lv_at hl 0 rfl) ?_
      refine kc_Vi (wr := []) (w1 := Xw d a D B C (nf od) (nf rk) sn ln (nI (i + k + 1)) rc (nI w) b) (rest := []) ⟨hx, hb, hml, hown, hts⟩ (mX0_readBit l G d a D B C sn ln rc (nI w) b (i + k) (by omega)) (cwV 0 hts (lw_V q113 q115 qs8 q11 q116) rfl rfl rfl (by decide +kernel) ⟨(Nat.le_of_ble_eq_true rfl), (Nat.le_of_ble_eq_true rfl)⟩) hK [0] rfl hP hD hS hA [0, 1, 2, 3, 4, 5] [] rfl rfl rfl rfl (by decide) (ci := 0) rfl rfl rfl hl.1 rfl (Nat.le_of_ble_eq_true rfl) dX0_readCode_17 ⟨(Nat.le_of_ble_eq_true rfl), (Nat.le_of_ble_eq_true rfl)⟩ (fun H locs hP hD hS => ?_)
      have hP : va_P G vwCl (Xw d a D B C (nf od) (nf rk) sn ln (nI (i + k + 1)) rc (nI w) b) H := hP
      have hD : va_D A (Xw d a D B C (nf od) (nf rk) sn ln (nI (i + k + 1)) rc (nI w) b) := hD
      refine lv_istore (lv' := [(4, .int (nI (rB B (i + k)))), (0, .ref (a 0)), (1, .int (nI k)), (2, .int (nI 1)), (3, .int (nI k))]) hx hb dX0_readCode_20 hl (by decide) rfl (fun ls hl => ?_)
      refine lv_iload hx hb dX0_readCode_22 (lv_at hl 0 rfl) ?_
      refine lv_iconst (v := nI 1) hx hb dX0_readCode_24 (by decide) ?_
      refine jn_ne (tgt := 32) hx hb (by omega) (by omega) dX0_readCode_25 (by decide) (fun c_4 => ?_) (fun c_4 => ?_)
      · obtain rfl : k = f / 2 ^ w := by
          rcases Nat.lt_or_ge k (f / 2 ^ w) with h | h
          · exact absurd (rd_one hs h c_1) c_4
          · omega
        have h0 := rd_zero hs c_1
        refine lv_iconst (v := nI 0) hx hb dX0_readCode_32 (by decide) ?_
        refine lv_istore_n (lv' := [(2, .int (nI 0)), (4, .int (nI (rB B (i + f / 2 ^ w)))), (0, .ref (a 0)), (1, .int (nI (f / 2 ^ w))), (3, .int (nI (f / 2 ^ w)))]) hx hb dX0_readCode_33 rfl hl (by decide) rfl (fun ls hl => ?_)
        refine lv_iload_n hx hb dX0_readCode_34 rfl (lv_at hl 3 rfl) ?_
        refine lv_iload hx hb dX0_readCode_35 (lv_at hl 1 rfl) ?_
        refine ji_add hx hb dX0_readCode_37 (v := nI (f / 2 ^ w)) (by rw [h0, nI_add, Nat.add_zero]) ?_
        refine lv_istore_n (lv' := [(1, .int (nI (f / 2 ^ w))), (2, .int (nI 0)), (4, .int (nI (rB B (i + f / 2 ^ w)))), (0, .ref (a 0)), (3, .int (nI (f / 2 ^ w)))]) hx hb dX0_readCode_38 rfl hl (by decide) rfl (fun ls hl => ?_)
        refine lv_iinc (v := nI ((f / 2 ^ w) + 1)) (lv' := [(3, .int (nI ((f / 2 ^ w) + 1))), (1, .int (nI (f / 2 ^ w))), (2, .int (nI 0)), (4, .int (nI (rB B (i + f / 2 ^ w)))), (0, .ref (a 0))]) hx hb dX0_readCode_39 hl (k := 4) rfl (nI_1 (f / 2 ^ w)) (by decide) rfl (fun ls hl => ?_)
        refine lv_goto (tgt := 6) hx hb dX0_readCode_42 (by decide) ?_
        refine lv_iload_n hx hb dX0_readCode_6 rfl (lv_at hl 0 rfl) ?_
        refine lv_bipush (v := nI 8) hx hb dX0_readCode_7 (by decide) ?_
        refine jn_ge (tgt := 45) hx hb (by omega) (by omega) dX0_readCode_9 (by decide) (fun c_5 => ?_) (fun c_5 => ?_)
        · refine lv_iload_n hx hb dX0_readCode_45 rfl (lv_at hl 2 rfl) ?_
          refine jz_eq (tgt := 56) hx hb (by omega) dX0_readCode_46 (by decide) (fun c_6 => ?_) (fun c_6 => ?_)
          · refine lv_aload_n hx hb dX0_readCode_56 rfl (lv_at hl 4 rfl) ?_
            refine lv_aload_n hx hb dX0_readCode_57 rfl (lv_at hl 4 rfl) ?_
            refine va_get (D := G) (ci := 0) (v := .int (nI w)) (C := RX0) (T := TX0) (N := 11) hx hb hts in_X0 hown hK hP 0 rfl rfl 9 (by decide) (hts _ q33) (fun _ h9 => h9) rfl dX0_readCode_58 ?_
            refine kc_Vi (wr := []) (w1 := Xw d a D B C (nf od) (nf rk) sn ln (nI (i + f / 2 ^ w + 1 + w)) rc (nI w) b) (rest := []) ⟨hx, hb, hml, hown, hts⟩ (mX0_readBits l G d a D B C sn ln rc (nI w) b (i + f / 2 ^ w + 1) w (by omega) (by omega)) (cwV 1 hts (lw_V q117 q119 qs9 q11 q120) rfl rfl rfl (by decide +kernel) ⟨(Nat.le_of_ble_eq_true rfl), (Nat.le_of_ble_eq_true rfl)⟩) hK [0] rfl hP hD hS hA [0, 1, 2, 3, 4, 5] [] rfl rfl rfl rfl (by decide) (ci := 0) rfl rfl rfl hl.1 rfl (Nat.le_of_ble_eq_true rfl) dX0_readCode_61 ⟨(Nat.le_of_ble_eq_true rfl), (Nat.le_of_ble_eq_true rfl)⟩ (fun H locs hP hD hS => ?_)
            have hP : va_P G vwCl (Xw d a D B C (nf od) (nf rk) sn ln (nI (i + f / 2 ^ w + 1 + w)) rc (nI w) b) H := hP
            have hD : va_D A (Xw d a D B C (nf od) (nf rk) sn ln (nI (i + f / 2 ^ w + 1 + w)) rc (nI w) b) := hD
            refine lv_istore_n (lv' := [(3, .int (nI (rv B (i + f / 2 ^ w + 1) w))), (1, .int (nI (f / 2 ^ w))), (2, .int (nI 0)), (4, .int (nI (rB B (i + f / 2 ^ w)))), (0, .ref (a 0))]) hx hb dX0_readCode_64 rfl hl (by decide) rfl (fun ls hl => ?_)
            refine lv_iload_n hx hb dX0_readCode_65 rfl (lv_at hl 1 rfl) ?_
            refine lv_aload_n hx hb dX0_readCode_66 rfl (lv_at hl 4 rfl) ?_
            refine va_get (D := G) (ci := 0) (v := .int (nI w)) (C := RX0) (T := TX0) (N := 11) hx hb hts in_X0 hown hK hP 0 rfl rfl 9 (by decide) (hts _ q33) (fun _ h9 => h9) rfl dX0_readCode_67 ?_
            refine ji_shl hx hb dX0_readCode_70 (v := nI (f / 2 ^ w * 2 ^ w)) (ar_shl (by omega) (by have := Nat.div_mul_le_self f (2 ^ w); omega)) ?_
            refine lv_iload_n hx hb dX0_readCode_71 rfl (lv_at hl 0 rfl) ?_
            refine ji_add hx hb dX0_readCode_72 (v := nI f) (by rw [rd_small hs c_1, nI_add, Nat.mul_comm, Nat.div_add_mod]) ?_
            rw [cd_lenS c_1, show i + (f / 2 ^ w + 1 + w) = i + f / 2 ^ w + 1 + w by omega]
            exact jr_i hx hb hr hlocks hP hD hS rfl dX0_readCode_73
          · exact absurd rfl c_6
        · refine lv_iload_n hx hb dX0_readCode_12 rfl (lv_at hl 2 rfl) ?_
          refine jz_eq (tgt := 45) hx hb (by omega) dX0_readCode_13 (by decide) (fun c_7 => ?_) (fun c_7 => ?_)
          · refine lv_iload_n hx hb dX0_readCode_45 rfl (lv_at hl 2 rfl) ?_
            refine jz_eq (tgt := 56) hx hb (by omega) dX0_readCode_46 (by decide) (fun c_8 => ?_) (fun c_8 => ?_)
            · refine lv_aload_n hx hb dX0_readCode_56 rfl (lv_at hl 4 rfl) ?_
              refine lv_aload_n hx hb dX0_readCode_57 rfl (lv_at hl 4 rfl) ?_
              refine va_get (D := G) (ci := 0) (v := .int (nI w)) (C := RX0) (T := TX0) (N := 11) hx hb hts in_X0 hown hK hP 0 rfl rfl 9 (by decide) (hts _ q33) (fun _ h9 => h9) rfl dX0_readCode_58 ?_
              refine kc_Vi (wr := []) (w1 := Xw d a D B C (nf od) (nf rk) sn ln (nI (i + f / 2 ^ w + 1 + w)) rc (nI w) b) (rest := []) ⟨hx, hb, hml, hown, hts⟩ (mX0_readBits l G d a D B C sn ln rc (nI w) b (i + f / 2 ^ w + 1) w (by omega) (by omega)) (cwV 1 hts (lw_V q117 q119 qs9 q11 q120) rfl rfl rfl (by decide +kernel) ⟨(Nat.le_of_ble_eq_true rfl), (Nat.le_of_ble_eq_true rfl)⟩) hK [0] rfl hP hD hS hA [0, 1, 2, 3, 4, 5] [] rfl rfl rfl rfl (by decide) (ci := 0) rfl rfl rfl hl.1 rfl (Nat.le_of_ble_eq_true rfl) dX0_readCode_61 ⟨(Nat.le_of_ble_eq_true rfl), (Nat.le_of_ble_eq_true rfl)⟩ (fun H locs hP hD hS => ?_)
              have hP : va_P G vwCl (Xw d a D B C (nf od) (nf rk) sn ln (nI (i + f / 2 ^ w + 1 + w)) rc (nI w) b) H := hP
              have hD : va_D A (Xw d a D B C (nf od) (nf rk) sn ln (nI (i + f / 2 ^ w + 1 + w)) rc (nI w) b) := hD
              refine lv_istore_n (lv' := [(3, .int (nI (rv B (i + f / 2 ^ w + 1) w))), (1, .int (nI (f / 2 ^ w))), (2, .int (nI 0)), (4, .int (nI (rB B (i + f / 2 ^ w)))), (0, .ref (a 0))]) hx hb dX0_readCode_64 rfl hl (by decide) rfl (fun ls hl => ?_)
              refine lv_iload_n hx hb dX0_readCode_65 rfl (lv_at hl 1 rfl) ?_
              refine lv_aload_n hx hb dX0_readCode_66 rfl (lv_at hl 4 rfl) ?_
              refine va_get (D := G) (ci := 0) (v := .int (nI w)) (C := RX0) (T := TX0) (N := 11) hx hb hts in_X0 hown hK hP 0 rfl rfl 9 (by decide) (hts _ q33) (fun _ h9 => h9) rfl dX0_readCode_67 ?_
              refine ji_shl hx hb dX0_readCode_70 (v := nI (f / 2 ^ w * 2 ^ w)) (ar_shl (by omega) (by have := Nat.div_mul_le_self f (2 ^ w); omega)) ?_
              refine lv_iload_n hx hb dX0_readCode_71 rfl (lv_at hl 0 rfl) ?_
              refine ji_add hx hb dX0_readCode_72 (v := nI f) (by rw [rd_small hs c_1, nI_add, Nat.mul_comm, Nat.div_add_mod]) ?_
              rw [cd_lenS c_1, show i + (f / 2 ^ w + 1 + w) = i + f / 2 ^ w + 1 + w by omega]
              exact jr_i hx hb hr hlocks hP hD hS rfl dX0_readCode_73
            · exact absurd rfl c_8
          · exact absurd rfl c_7
      · have hk1 : k + 1 ≤ f / 2 ^ w := by
          rcases Nat.lt_or_ge k (f / 2 ^ w) with h | h
          · exact h
          · obtain rfl : k = f / 2 ^ w := by omega
            exact absurd ((rd_zero hs c_1).symm.trans c_4) (by decide)
        refine lv_iconst (v := nI 1) hx hb dX0_readCode_28 (by decide) ?_
        refine lv_goto (tgt := 33) hx hb dX0_readCode_29 (by decide) ?_
        refine lv_istore_n (lv' := [(2, .int (nI 1)), (4, .int (nI (rB B (i + k)))), (0, .ref (a 0)), (1, .int (nI k)), (3, .int (nI k))]) hx hb dX0_readCode_33 rfl hl (by decide) rfl (fun ls hl => ?_)
        refine lv_iload_n hx hb dX0_readCode_34 rfl (lv_at hl 3 rfl) ?_
        refine lv_iload hx hb dX0_readCode_35 (lv_at hl 1 rfl) ?_
        refine ji_add hx hb dX0_readCode_37 (v := nI (k + 1)) (by rw [c_4, nI_add]) ?_
        refine lv_istore_n (lv' := [(1, .int (nI (k + 1))), (2, .int (nI 1)), (4, .int (nI (rB B (i + k)))), (0, .ref (a 0)), (3, .int (nI k))]) hx hb dX0_readCode_38 rfl hl (by decide) rfl (fun ls hl => ?_)
        refine lv_iinc (v := nI (k + 1)) (lv' := [(3, .int (nI (k + 1))), (1, .int (nI (k + 1))), (2, .int (nI 1)), (4, .int (nI (rB B (i + k)))), (0, .ref (a 0))]) hx hb dX0_readCode_39 hl (k := 4) rfl (nI_1 k) (by decide) rfl (fun ls hl => ?_)
        refine lv_goto (tgt := 6) hx hb dX0_readCode_42 (by decide) ?_
        exact ih (n - 1) (by omega) _ _ _ ⟨k + 1, by omega, hk1, hP, hD, hS, lv_sub hl [4, 1, 2, 0] rfl⟩
end
section
/-- the bits are wiped below k -/
def clr (B : Nat → Int32) (k : Nat) : Nat → Int32 := fun j => if j < k then nI 0 else B j
theorem clr_0 (B : Nat → Int32) : clr B 0 = B := by
  funext j
  unfold clr
  rw [if_neg (by omega)]
theorem clr_s (B : Nat → Int32) (k : Nat) : upd (clr B k) k (nI 0) = clr B (k + 1) := by
  funext j
  unfold upd clr
  by_cases h : j = k
  · rw [if_pos h, if_pos (by omega)]
  · rw [if_neg h]
    by_cases h2 : j < k
    · rw [if_pos h2, if_pos (by omega)]
    · rw [if_neg h2, if_neg (by omega)]
theorem stm_wL (e : Nat → Nat) (k : Nat) (B : Nat → Int32) : wL (stm e (k + 1)) B 0 = wL (cd (fo e k) (wb e k).1) (wL (stm e k) B 0) (stm e k).length := by
  show wL (stm e k ++ cd (fo e k) (wb e k).1) B 0 = _
  rw [wL_app, Nat.zero_add]
theorem stm_l1 (e : Nat → Nat) (k : Nat) : (stm e (k + 1)).length = (stm e k).length + (cd (fo e k) (wb e k).1).length := by
  show (stm e k ++ cd (fo e k) (wb e k).1).length = _
  rw [List.length_append]
theorem stm_len (e : Nat → Nat) (k : Nat) : (stm e k).length ≤ 16 * k := by
  induction k with
  | zero => exact Nat.le_refl 0
  | succ k ih =>
    rw [stm_l1]
    have := cd_len (f := fo e k) (wb_le e k)
    omega
theorem uf_lt (f : Nat) (h : f < 256) : uf f < 256 := by
  unfold uf
  split <;> omega
/-- the decoded picture behind the ranks r0 .. r - 1 -/
def dc (c e : Nat → Nat) (r0 r : Nat) : Nat → Nat := fun j => if j < 81 ∧ r0 ≤ rk j ∧ rk j < r then e j else c j
theorem dc_0 (c e : Nat → Nat) (r0 : Nat) : dc c e r0 r0 = c := by
  funext j
  unfold dc
  rw [if_neg (by omega)]
theorem dc_up {c e : Nat → Nat} {r0 r : Nat} (h : r0 ≤ r) (h81 : r < 81) : up (dc c e r0 r) (od r) (e (od r)) = dc c e r0 (r + 1) := by
  funext j
  unfold up
  by_cases hj : j = od r
  · subst hj
    rw [if_pos rfl]
    unfold dc
    rw [if_pos ⟨tb_od r h81, by rw [tb_ro r h81]; exact h, by rw [tb_ro r h81]; omega⟩]
  · rw [if_neg hj]
    unfold dc
    by_cases hb : j < 81 ∧ r0 ≤ rk j ∧ rk j < r
    · rw [if_pos hb, if_pos ⟨hb.1, hb.2.1, by omega⟩]
    · rw [if_neg hb, if_neg]
      intro z
      rcases Nat.lt_or_ge (rk j) r with q | q
      · exact hb ⟨z.1, z.2.1, q⟩
      · have e1 : rk j = r := by omega
        have e2 := tb_or j z.1
        rw [e1] at e2
        exact hj e2.symm
theorem dc_e {c e : Nat → Nat} {r0 r : Nat} (hc : ∀ k, k < r0 → c (od k) = e (od k)) {j : Nat} (hj : j < 81) (h : rk j < r) : dc c e r0 r j = e j := by
  unfold dc
  by_cases h0 : r0 ≤ rk j
  · rw [if_pos ⟨hj, h0, h⟩]
  · rw [if_neg (fun z => h0 z.2.1)]
    have := hc (rk j) (by omega)
    rw [tb_or j hj] at this
    exact this
theorem dc_lt {c e : Nat → Nat} (hc : ∀ j, c j < 256) (he : ∀ j, e j < 256) (r0 r : Nat) : ∀ j, dc c e r0 r j < 256 := by
  intro j
  unfold dc
  split
  · exact he j
  · exact hc j
theorem dc_g {c e : Nat → Nat} {r0 r : Nat} (hc : ∀ k, k < r0 → c (od k) = e (od k)) (h : r < 81) : gs (dc c e r0 r) (od r) = gs e (od r) := by
  refine gs_same (tb_od r h) (fun j hj hr => ?_)
  rw [tb_ro r h] at hr
  exact dc_e hc hj hr
/-- how far a receive comes -/
def rcv (r0 : Nat) (cn : Int32) : Nat := min 81 (r0 + cn.toNatClampNeg)
theorem cn_le {k : Nat} {cn : Int32} (hk : k < 2 ^ 31) (h : cn ≤ nI k) : cn.toNatClampNeg ≤ k := by
  have h1 := Int32.le_iff_toInt_le.mp h
  rw [nI_toInt hk] at h1
  rw [← Int32.toNat_toInt]
  omega
theorem cn_lt {k : Nat} {cn : Int32} (hk : k < 2 ^ 31) (h : ¬ cn ≤ nI k) : k < cn.toNatClampNeg := by
  have h1 : ¬ cn.toInt ≤ (nI k).toInt := fun z => h (Int32.le_iff_toInt_le.mpr z)
  rw [nI_toInt hk] at h1
  rw [← Int32.toNat_toInt]
  omega
end
section
theorem mX0_stepAt (l : Launch) (G : va_G) (q : Nat) (hq : q < 81) : MI l yX0_stepOf (ws_ yX0_stepOf cX0_stepOf 3 (some .int)) ro0 G [] [.int (nI (q % 9)), .int (nI (q / 9))] [] (nI (stp q)) [] := mX0_stepOf l G (q % 9) (q / 9) (by omega) (by omega)
theorem mX0_px (l : Launch) (G : va_G) (d : ClassId) (a : Nat → Nat) (D C P : Nat → Nat) (B : Nat → Int32) (sn ln ra rc w b : Int32) (q z : Nat) (hq : q < 81) (hz : z < 2) (h9 : P = if z = 0 then C else D) : MI l yX0_pixelFor (ws_ yX0_pixelFor cX0_pixelFor 3 (some .int)) ro0 G [(d, .int)] [.ref (a 0), .int (nI q), .int (nI z)] (Xw d a (nf D) B (nf C) (nf od) (nf rk) sn ln ra rc w b) (nI (P q)) (Xw d a (nf D) B (nf C) (nf od) (nf rk) sn ln ra rc w b) := by
  subst h9
  exact mX0_pixelFor l G d a D C B sn ln ra rc w b q z hq hz
set_option maxHeartbeats 4000000 in
set_option maxRecDepth 100000 in
/-- the foretold value of a place -/
theorem mX0_foretell (l : Launch) (G : va_G) (d : ClassId) (a : Nat → Nat) (D C P : Nat → Nat) (B : Nat → Int32) (sn ln ra rc w b : Int32) (q z : Nat) (hq : q < 81) (hz : z < 2) (h9 : P = if z = 0 then C else D) (hPb : ∀ j, P j < 256) : MI l yX0_foretell (ws_ yX0_foretell cX0_foretell 10 (some .int)) ro1 G [(d, .int)] [.ref (a 0), .int (nI q), .int (nI z)] (Xw d a (nf D) B (nf C) (nf od) (nf rk) sn ln ra rc w b) (nI (gs P q)) (Xw d a (nf D) B (nf C) (nf od) (nf rk) sn ln ra rc w b) := by
  refine MI.ofW (by decide) (Nat.le_of_ble_eq_true rfl) ?_
  intro p e8 s m below meth c A hx hb hr hml hown hts hlocks hA hK hP hD ls hl
  have hS : va_S A s.heap s.heap [] := va_S.rf
  have hown : s.vm.findClass RX0 = some m.cls := hown
  have hl : lv_has ls 10 [(0, .ref (a 0)), (1, .int (nI q)), (2, .int (nI z))] := hl
  obtain ⟨hs1, hs8⟩ := tb_st q hq
  have hrk := tb_rk q hq
  refine lv_iload_n hx hb dX0_foretell_0 rfl (lv_at hl 1 rfl) ?_
  refine lv_bipush (v := nI 9) hx hb dX0_foretell_1 (by decide) ?_
  refine ji_rem hx hb dX0_foretell_3 (by decide) (v := nI (q % 9)) (pk_rem (a := q) (d := 9) (by omega) (by omega) (by omega)) ?_
  refine lv_istore_n (lv' := [(3, .int (nI (q % 9))), (0, .ref (a 0)), (1, .int (nI q)), (2, .int (nI z))]) hx hb dX0_foretell_4 rfl hl (by decide) rfl (fun ls hl => ?_)
  refine lv_iload_n hx hb dX0_foretell_5 rfl (lv_at hl 2 rfl) ?_
  refine lv_bipush (v := nI 9) hx hb dX0_foretell_6 (by decide) ?_
  refine ji_div hx hb dX0_foretell_8 (by decide) (v := nI (q / 9)) (pk_div (a := q) (d := 9) (by omega) (by omega) (by omega)) ?_
  refine lv_istore (lv' := [(4, .int (nI (q / 9))), (3, .int (nI (q % 9))), (0, .ref (a 0)), (1, .int (nI q)), (2, .int (nI z))]) hx hb dX0_foretell_9 hl (by decide) rfl (fun ls hl => ?_)
  refine lv_iload_n hx hb dX0_foretell_11 rfl (lv_at hl 1 rfl) ?_
  refine lv_iload hx hb dX0_foretell_12 (lv_at hl 0 rfl) ?_
  refine kc_Si (wr := Xw d a (nf D) B (nf C) (nf od) (nf rk) sn ln ra rc w b) (w1 := []) (rest := []) ⟨hx, hb, hml, hown, hts⟩ (mX0_stepAt l G q hq) (va_cwS 2 hts (lw_S q21 q22 q11 q23) rfl rfl rfl (by decide +kernel) ⟨(Nat.le_of_ble_eq_true rfl), (Nat.le_of_ble_eq_true rfl)⟩) hK [] rfl hP hD hS hA [] [0, 1, 2, 3, 4, 5] rfl rfl rfl rfl (by decide) rfl hl.1 rfl (Nat.le_of_ble_eq_true rfl) dX0_foretell_14 ⟨(Nat.le_of_ble_eq_true rfl), (Nat.le_of_ble_eq_true rfl)⟩ (fun H locs hP hD hS => ?_)
  have hP : va_P G vwCl (Xw d a (nf D) B (nf C) (nf od) (nf rk) sn ln ra rc w b) H := hP
  have hD : va_D A (Xw d a (nf D) B (nf C) (nf od) (nf rk) sn ln ra rc w b) := hD
  refine lv_istore (lv' := [(5, .int (nI (stp q))), (4, .int (nI (q / 9))), (3, .int (nI (q % 9))), (0, .ref (a 0)), (1, .int (nI q)), (2, .int (nI z))]) hx hb dX0_foretell_17 hl (by decide) rfl (fun ls hl => ?_)
  refine lv_iload hx hb dX0_foretell_19 (lv_at hl 0 rfl) ?_
  refine lv_bipush (v := nI 8) hx hb dX0_foretell_21 (by decide) ?_
  refine jn_ne (tgt := 60) hx hb (by omega) (by omega) dX0_foretell_23 (by decide) (fun c_1 => ?_) (fun c_1 => ?_)
  · refine lv_iload_n hx hb dX0_foretell_60 rfl (lv_at hl 2 rfl) ?_
    refine lv_iconst (v := nI 2) hx hb dX0_foretell_61 (by decide) ?_
    refine lv_iload hx hb dX0_foretell_62 (lv_at hl 0 rfl) ?_
    refine ji_mul hx hb dX0_foretell_64 (v := nI (2 * (stp q))) (pk_mul 2 (stp q)) ?_
    refine ji_rem hx hb dX0_foretell_65 (nI_ne0 (by omega) (by omega)) (v := nI (q % 9 % (2 * stp q))) (pk_rem (a := q % 9) (d := 2 * stp q) (by omega) (by omega) (by omega)) ?_
    refine jz_eq (tgt := 73) hx hb (Nat.lt_of_le_of_lt (Nat.mod_le _ _) (by omega)) dX0_foretell_66 (by decide) (fun c_2 => ?_) (fun c_2 => ?_)
    · refine lv_iconst (v := nI 0) hx hb dX0_foretell_73 (by decide) ?_
      refine lv_istore (lv' := [(6, .int (nI 0)), (5, .int (nI (stp q))), (4, .int (nI (q / 9))), (3, .int (nI (q % 9))), (0, .ref (a 0)), (1, .int (nI q)), (2, .int (nI z))]) hx hb dX0_foretell_74 hl (by decide) rfl (fun ls hl => ?_)
      refine lv_iload hx hb dX0_foretell_76 (lv_at hl 2 rfl) ?_
      refine lv_iconst (v := nI 2) hx hb dX0_foretell_78 (by decide) ?_
      refine lv_iload hx hb dX0_foretell_79 (lv_at hl 1 rfl) ?_
      refine ji_mul hx hb dX0_foretell_81 (v := nI (2 * (stp q))) (pk_mul 2 (stp q)) ?_
      refine ji_rem hx hb dX0_foretell_82 (nI_ne0 (by omega) (by omega)) (v := nI (q / 9 % (2 * stp q))) (pk_rem (a := q / 9) (d := 2 * stp q) (by omega) (by omega) (by omega)) ?_
      refine jz_eq (tgt := 90) hx hb (Nat.lt_of_le_of_lt (Nat.mod_le _ _) (by omega)) dX0_foretell_83 (by decide) (fun c_3 => ?_) (fun c_3 => ?_)
      · refine lv_iconst (v := nI 0) hx hb dX0_foretell_90 (by decide) ?_
        refine lv_istore (lv' := [(7, .int (nI 0)), (6, .int (nI 0)), (5, .int (nI (stp q))), (4, .int (nI (q / 9))), (3, .int (nI (q % 9))), (0, .ref (a 0)), (1, .int (nI q)), (2, .int (nI z))]) hx hb dX0_foretell_91 hl (by decide) rfl (fun ls hl => ?_)
        refine lv_iload hx hb dX0_foretell_93 (lv_at hl 1 rfl) ?_
        refine jz_eq (tgt := 179) hx hb (by omega) dX0_foretell_95 (by decide) (fun c_4 => ?_) (fun c_4 => ?_)
        · obtain ⟨g1, g2⟩ := tb_V q hq c_1 c_2
          refine lv_iload hx hb dX0_foretell_179 (lv_at hl 1 rfl) ?_
          refine jz_eq (tgt := 189) hx hb (by omega) dX0_foretell_181 (by decide) (fun c_5 => ?_) (fun c_5 => ?_)
          · have b1 := hPb (q - (9 * stp q))
            have b2 := hPb (q + (9 * stp q))
            refine lv_bipush (v := nI 9) hx hb dX0_foretell_189 (by decide) ?_
            refine lv_iload hx hb dX0_foretell_191 (lv_at hl 2 rfl) ?_
            refine ji_mul hx hb dX0_foretell_193 (v := nI (9 * (stp q))) (pk_mul 9 (stp q)) ?_
            refine lv_istore (lv' := [(8, .int (nI (9 * (stp q)))), (7, .int (nI 0)), (6, .int (nI 0)), (5, .int (nI (stp q))), (4, .int (nI (q / 9))), (3, .int (nI (q % 9))), (0, .ref (a 0)), (1, .int (nI q)), (2, .int (nI z))]) hx hb dX0_foretell_194 hl (by decide) rfl (fun ls hl => ?_)
            refine lv_aload_n hx hb dX0_foretell_196 rfl (lv_at hl 6 rfl) ?_
            refine lv_iload_n hx hb dX0_foretell_197 rfl (lv_at hl 7 rfl) ?_
            refine lv_iload hx hb dX0_foretell_198 (lv_at hl 0 rfl) ?_
            refine ji_sub hx hb dX0_foretell_200 (v := nI (q - (9 * (stp q)))) (pk_sub (a := q) (b := (9 * (stp q))) (by omega)) ?_
            refine lv_iload_n hx hb dX0_foretell_201 rfl (lv_at hl 8 rfl) ?_
            refine kc_Vi (wr := []) (w1 := Xw d a (nf D) B (nf C) (nf od) (nf rk) sn ln ra rc w b) (rest := []) ⟨hx, hb, hml, hown, hts⟩ (mX0_px l G d a D C P B sn ln ra rc w b (q - 9 * stp q) z (by omega) hz h9) (cwV 2 hts (lw_V q82 q84 qs2 q11 q85) rfl rfl rfl (by decide +kernel) ⟨(Nat.le_of_ble_eq_true rfl), (Nat.le_of_ble_eq_true rfl)⟩) hK [0] rfl hP hD hS hA [0, 1, 2, 3, 4, 5] [] rfl rfl rfl rfl (by decide) (ci := 0) rfl rfl rfl hl.1 rfl (Nat.le_of_ble_eq_true rfl) dX0_foretell_202 ⟨(Nat.le_of_ble_eq_true rfl), (Nat.le_of_ble_eq_true rfl)⟩ (fun H locs hP hD hS => ?_)
            have hP : va_P G vwCl (Xw d a (nf D) B (nf C) (nf od) (nf rk) sn ln ra rc w b) H := hP
            have hD : va_D A (Xw d a (nf D) B (nf C) (nf od) (nf rk) sn ln ra rc w b) := hD
            refine lv_aload_n hx hb dX0_foretell_205 rfl (lv_at hl 6 rfl) ?_
            refine lv_iload_n hx hb dX0_foretell_206 rfl (lv_at hl 7 rfl) ?_
            refine lv_iload hx hb dX0_foretell_207 (lv_at hl 0 rfl) ?_
            refine ji_add hx hb dX0_foretell_209 (v := nI (q + 9 * stp q)) (nI_add _ _) ?_
            refine lv_iload_n hx hb dX0_foretell_210 rfl (lv_at hl 8 rfl) ?_
            refine kc_Vi (wr := []) (w1 := Xw d a (nf D) B (nf C) (nf od) (nf rk) sn ln ra rc w b) (rest := [.int (nI (P (q - 9 * stp q)))]) ⟨hx, hb, hml, hown, hts⟩ (mX0_px l G d a D C P B sn ln ra rc w b (q + 9 * stp q) z (by omega) hz h9) (cwV 2 hts (lw_V q82 q84 qs2 q11 q85) rfl rfl rfl (by decide +kernel) ⟨(Nat.le_of_ble_eq_true rfl), (Nat.le_of_ble_eq_true rfl)⟩) hK [0] rfl hP hD hS hA [0, 1, 2, 3, 4, 5] [] rfl rfl rfl rfl (by decide) (ci := 0) rfl rfl rfl hl.1 rfl (Nat.le_of_ble_eq_true rfl) dX0_foretell_211 ⟨(Nat.le_of_ble_eq_true rfl), (Nat.le_of_ble_eq_true rfl)⟩ (fun H locs hP hD hS => ?_)
            have hP : va_P G vwCl (Xw d a (nf D) B (nf C) (nf od) (nf rk) sn ln ra rc w b) H := hP
            have hD : va_D A (Xw d a (nf D) B (nf C) (nf od) (nf rk) sn ln ra rc w b) := hD
            refine ji_add hx hb dX0_foretell_214 (v := nI ((P (q - 9 * stp q)) + (P (q + 9 * stp q)))) (nI_add (P (q - 9 * stp q)) (P (q + 9 * stp q))) ?_
            refine lv_iconst (v := nI 1) hx hb dX0_foretell_215 (by decide) ?_
            refine ji_add hx hb dX0_foretell_216 (v := nI (((P (q - 9 * stp q)) + (P (q + 9 * stp q))) + 1)) (nI_add ((P (q - 9 * stp q)) + (P (q + 9 * stp q))) 1) ?_
            refine lv_iconst (v := nI 2) hx hb dX0_foretell_217 (by decide) ?_
            refine ji_div hx hb dX0_foretell_218 (by decide) (v := nI ((((P (q - 9 * stp q)) + (P (q + 9 * stp q))) + 1) / 2)) (pk_div (a := (((P (q - 9 * stp q)) + (P (q + 9 * stp q))) + 1)) (d := 2) (by omega) (by omega) (by omega)) ?_
            exact jr_i hx hb hr hlocks hP hD hS (by rw [gs_V c_1 c_2]) dX0_foretell_219
          · exact absurd rfl c_5
        · exact absurd rfl c_4
      · refine lv_iconst (v := nI 1) hx hb dX0_foretell_86 (by decide) ?_
        refine lv_goto (tgt := 91) hx hb dX0_foretell_87 (by decide) ?_
        refine lv_istore (lv' := [(7, .int (nI 1)), (6, .int (nI 0)), (5, .int (nI (stp q))), (4, .int (nI (q / 9))), (3, .int (nI (q % 9))), (0, .ref (a 0)), (1, .int (nI q)), (2, .int (nI z))]) hx hb dX0_foretell_91 hl (by decide) rfl (fun ls hl => ?_)
        refine lv_iload hx hb dX0_foretell_93 (lv_at hl 1 rfl) ?_
        refine jz_eq (tgt := 179) hx hb (by omega) dX0_foretell_95 (by decide) (fun c_6 => ?_) (fun c_6 => ?_)
        · obtain ⟨g1, g2⟩ := tb_V q hq c_1 c_2
          refine lv_iload hx hb dX0_foretell_179 (lv_at hl 1 rfl) ?_
          refine jz_eq (tgt := 189) hx hb (by omega) dX0_foretell_181 (by decide) (fun c_7 => ?_) (fun c_7 => ?_)
          · have b1 := hPb (q - (9 * stp q))
            have b2 := hPb (q + (9 * stp q))
            refine lv_bipush (v := nI 9) hx hb dX0_foretell_189 (by decide) ?_
            refine lv_iload hx hb dX0_foretell_191 (lv_at hl 2 rfl) ?_
            refine ji_mul hx hb dX0_foretell_193 (v := nI (9 * (stp q))) (pk_mul 9 (stp q)) ?_
            refine lv_istore (lv' := [(8, .int (nI (9 * (stp q)))), (7, .int (nI 1)), (6, .int (nI 0)), (5, .int (nI (stp q))), (4, .int (nI (q / 9))), (3, .int (nI (q % 9))), (0, .ref (a 0)), (1, .int (nI q)), (2, .int (nI z))]) hx hb dX0_foretell_194 hl (by decide) rfl (fun ls hl => ?_)
            refine lv_aload_n hx hb dX0_foretell_196 rfl (lv_at hl 6 rfl) ?_
            refine lv_iload_n hx hb dX0_foretell_197 rfl (lv_at hl 7 rfl) ?_
            refine lv_iload hx hb dX0_foretell_198 (lv_at hl 0 rfl) ?_
            refine ji_sub hx hb dX0_foretell_200 (v := nI (q - (9 * (stp q)))) (pk_sub (a := q) (b := (9 * (stp q))) (by omega)) ?_
            refine lv_iload_n hx hb dX0_foretell_201 rfl (lv_at hl 8 rfl) ?_
            refine kc_Vi (wr := []) (w1 := Xw d a (nf D) B (nf C) (nf od) (nf rk) sn ln ra rc w b) (rest := []) ⟨hx, hb, hml, hown, hts⟩ (mX0_px l G d a D C P B sn ln ra rc w b (q - 9 * stp q) z (by omega) hz h9) (cwV 2 hts (lw_V q82 q84 qs2 q11 q85) rfl rfl rfl (by decide +kernel) ⟨(Nat.le_of_ble_eq_true rfl), (Nat.le_of_ble_eq_true rfl)⟩) hK [0] rfl hP hD hS hA [0, 1, 2, 3, 4, 5] [] rfl rfl rfl rfl (by decide) (ci := 0) rfl rfl rfl hl.1 rfl (Nat.le_of_ble_eq_true rfl) dX0_foretell_202 ⟨(Nat.le_of_ble_eq_true rfl), (Nat.le_of_ble_eq_true rfl)⟩ (fun H locs hP hD hS => ?_)
            have hP : va_P G vwCl (Xw d a (nf D) B (nf C) (nf od) (nf rk) sn ln ra rc w b) H := hP
            have hD : va_D A (Xw d a (nf D) B (nf C) (nf od) (nf rk) sn ln ra rc w b) := hD
            refine lv_aload_n hx hb dX0_foretell_205 rfl (lv_at hl 6 rfl) ?_
            refine lv_iload_n hx hb dX0_foretell_206 rfl (lv_at hl 7 rfl) ?_
            refine lv_iload hx hb dX0_foretell_207 (lv_at hl 0 rfl) ?_
            refine ji_add hx hb dX0_foretell_209 (v := nI (q + 9 * stp q)) (nI_add _ _) ?_
            refine lv_iload_n hx hb dX0_foretell_210 rfl (lv_at hl 8 rfl) ?_
            refine kc_Vi (wr := []) (w1 := Xw d a (nf D) B (nf C) (nf od) (nf rk) sn ln ra rc w b) (rest := [.int (nI (P (q - 9 * stp q)))]) ⟨hx, hb, hml, hown, hts⟩ (mX0_px l G d a D C P B sn ln ra rc w b (q + 9 * stp q) z (by omega) hz h9) (cwV 2 hts (lw_V q82 q84 qs2 q11 q85) rfl rfl rfl (by decide +kernel) ⟨(Nat.le_of_ble_eq_true rfl), (Nat.le_of_ble_eq_true rfl)⟩) hK [0] rfl hP hD hS hA [0, 1, 2, 3, 4, 5] [] rfl rfl rfl rfl (by decide) (ci := 0) rfl rfl rfl hl.1 rfl (Nat.le_of_ble_eq_true rfl) dX0_foretell_211 ⟨(Nat.le_of_ble_eq_true rfl), (Nat.le_of_ble_eq_true rfl)⟩ (fun H locs hP hD hS => ?_)
            have hP : va_P G vwCl (Xw d a (nf D) B (nf C) (nf od) (nf rk) sn ln ra rc w b) H := hP
            have hD : va_D A (Xw d a (nf D) B (nf C) (nf od) (nf rk) sn ln ra rc w b) := hD
            refine ji_add hx hb dX0_foretell_214 (v := nI ((P (q - 9 * stp q)) + (P (q + 9 * stp q)))) (nI_add (P (q - 9 * stp q)) (P (q + 9 * stp q))) ?_
            refine lv_iconst (v := nI 1) hx hb dX0_foretell_215 (by decide) ?_
            refine ji_add hx hb dX0_foretell_216 (v := nI (((P (q - 9 * stp q)) + (P (q + 9 * stp q))) + 1)) (nI_add ((P (q - 9 * stp q)) + (P (q + 9 * stp q))) 1) ?_
            refine lv_iconst (v := nI 2) hx hb dX0_foretell_217 (by decide) ?_
            refine ji_div hx hb dX0_foretell_218 (by decide) (v := nI ((((P (q - 9 * stp q)) + (P (q + 9 * stp q))) + 1) / 2)) (pk_div (a := (((P (q - 9 * stp q)) + (P (q + 9 * stp q))) + 1)) (d := 2) (by omega) (by omega) (by omega)) ?_
            exact jr_i hx hb hr hlocks hP hD hS (by rw [gs_V c_1 c_2]) dX0_foretell_219
          · exact absurd rfl c_7
        · exact absurd rfl c_6
    · refine lv_iconst (v := nI 1) hx hb dX0_foretell_69 (by decide) ?_
      refine lv_goto (tgt := 74) hx hb dX0_foretell_70 (by decide) ?_
      refine lv_istore (lv' := [(6, .int (nI 1)), (5, .int (nI (stp q))), (4, .int (nI (q / 9))), (3, .int (nI (q % 9))), (0, .ref (a 0)), (1, .int (nI q)), (2, .int (nI z))]) hx hb dX0_foretell_74 hl (by decide) rfl (fun ls hl => ?_)
      refine lv_iload hx hb dX0_foretell_76 (lv_at hl 2 rfl) ?_
      refine lv_iconst (v := nI 2) hx hb dX0_foretell_78 (by decide) ?_
      refine lv_iload hx hb dX0_foretell_79 (lv_at hl 1 rfl) ?_
      refine ji_mul hx hb dX0_foretell_81 (v := nI (2 * (stp q))) (pk_mul 2 (stp q)) ?_
      refine ji_rem hx hb dX0_foretell_82 (nI_ne0 (by omega) (by omega)) (v := nI (q / 9 % (2 * stp q))) (pk_rem (a := q / 9) (d := 2 * stp q) (by omega) (by omega) (by omega)) ?_
      refine jz_eq (tgt := 90) hx hb (Nat.lt_of_le_of_lt (Nat.mod_le _ _) (by omega)) dX0_foretell_83 (by decide) (fun c_8 => ?_) (fun c_8 => ?_)
      · refine lv_iconst (v := nI 0) hx hb dX0_foretell_90 (by decide) ?_
        refine lv_istore (lv' := [(7, .int (nI 0)), (6, .int (nI 1)), (5, .int (nI (stp q))), (4, .int (nI (q / 9))), (3, .int (nI (q % 9))), (0, .ref (a 0)), (1, .int (nI q)), (2, .int (nI z))]) hx hb dX0_foretell_91 hl (by decide) rfl (fun ls hl => ?_)
        refine lv_iload hx hb dX0_foretell_93 (lv_at hl 1 rfl) ?_
        refine jz_eq (tgt := 179) hx hb (by omega) dX0_foretell_95 (by decide) (fun c_9 => ?_) (fun c_9 => ?_)
        · exact absurd c_9 (by decide)
        · refine lv_iload hx hb dX0_foretell_98 (lv_at hl 0 rfl) ?_
          refine jz_eq (tgt := 179) hx hb (by omega) dX0_foretell_100 (by decide) (fun c_10 => ?_) (fun c_10 => ?_)
          · obtain ⟨g1, g2⟩ := tb_H q hq c_1 c_2 c_8
            refine lv_iload hx hb dX0_foretell_179 (lv_at hl 1 rfl) ?_
            refine jz_eq (tgt := 189) hx hb (by omega) dX0_foretell_181 (by decide) (fun c_11 => ?_) (fun c_11 => ?_)
            · exact absurd c_11 (by decide)
            · have b1 := hPb (q - (stp q))
              have b2 := hPb (q + (stp q))
              refine lv_iload hx hb dX0_foretell_184 (lv_at hl 2 rfl) ?_
              refine lv_goto (tgt := 194) hx hb dX0_foretell_186 (by decide) ?_
              refine lv_istore (lv' := [(8, .int (nI (stp q))), (7, .int (nI 0)), (6, .int (nI 1)), (5, .int (nI (stp q))), (4, .int (nI (q / 9))), (3, .int (nI (q % 9))), (0, .ref (a 0)), (1, .int (nI q)), (2, .int (nI z))]) hx hb dX0_foretell_194 hl (by decide) rfl (fun ls hl => ?_)
              refine lv_aload_n hx hb dX0_foretell_196 rfl (lv_at hl 6 rfl) ?_
              refine lv_iload_n hx hb dX0_foretell_197 rfl (lv_at hl 7 rfl) ?_
              refine lv_iload hx hb dX0_foretell_198 (lv_at hl 0 rfl) ?_
              refine ji_sub hx hb dX0_foretell_200 (v := nI (q - stp q)) (pk_sub (by omega)) ?_
              refine lv_iload_n hx hb dX0_foretell_201 rfl (lv_at hl 8 rfl) ?_
              refine kc_Vi (wr := []) (w1 := Xw d a (nf D) B (nf C) (nf od) (nf rk) sn ln ra rc w b) (rest := []) ⟨hx, hb, hml, hown, hts⟩ (mX0_px l G d a D C P B sn ln ra rc w b (q - stp q) z (by omega) hz h9) (cwV 2 hts (lw_V q82 q84 qs2 q11 q85) rfl rfl rfl (by decide +kernel) ⟨(Nat.le_of_ble_eq_true rfl), (Nat.le_of_ble_eq_true rfl)⟩) hK [0] rfl hP hD hS hA [0, 1, 2, 3, 4, 5] [] rfl rfl rfl rfl (by decide) (ci := 0) rfl rfl rfl hl.1 rfl (Nat.le_of_ble_eq_true rfl) dX0_foretell_202 ⟨(Nat.le_of_ble_eq_true rfl), (Nat.le_of_ble_eq_true rfl)⟩ (fun H locs hP hD hS => ?_)
              have hP : va_P G vwCl (Xw d a (nf D) B (nf C) (nf od) (nf rk) sn ln ra rc w b) H := hP
              have hD : va_D A (Xw d a (nf D) B (nf C) (nf od) (nf rk) sn ln ra rc w b) := hD
              refine lv_aload_n hx hb dX0_foretell_205 rfl (lv_at hl 6 rfl) ?_
              refine lv_iload_n hx hb dX0_foretell_206 rfl (lv_at hl 7 rfl) ?_
              refine lv_iload hx hb dX0_foretell_207 (lv_at hl 0 rfl) ?_
              refine ji_add hx hb dX0_foretell_209 (v := nI (q + stp q)) (nI_add _ _) ?_
              refine lv_iload_n hx hb dX0_foretell_210 rfl (lv_at hl 8 rfl) ?_
              refine kc_Vi (wr := []) (w1 := Xw d a (nf D) B (nf C) (nf od) (nf rk) sn ln ra rc w b) (rest := [.int (nI (P (q - stp q)))]) ⟨hx, hb, hml, hown, hts⟩ (mX0_px l G d a D C P B sn ln ra rc w b (q + stp q) z (by omega) hz h9) (cwV 2 hts (lw_V q82 q84 qs2 q11 q85) rfl rfl rfl (by decide +kernel) ⟨(Nat.le_of_ble_eq_true rfl), (Nat.le_of_ble_eq_true rfl)⟩) hK [0] rfl hP hD hS hA [0, 1, 2, 3, 4, 5] [] rfl rfl rfl rfl (by decide) (ci := 0) rfl rfl rfl hl.1 rfl (Nat.le_of_ble_eq_true rfl) dX0_foretell_211 ⟨(Nat.le_of_ble_eq_true rfl), (Nat.le_of_ble_eq_true rfl)⟩ (fun H locs hP hD hS => ?_)
              have hP : va_P G vwCl (Xw d a (nf D) B (nf C) (nf od) (nf rk) sn ln ra rc w b) H := hP
              have hD : va_D A (Xw d a (nf D) B (nf C) (nf od) (nf rk) sn ln ra rc w b) := hD
              refine ji_add hx hb dX0_foretell_214 (v := nI ((P (q - stp q)) + (P (q + stp q)))) (nI_add (P (q - stp q)) (P (q + stp q))) ?_
              refine lv_iconst (v := nI 1) hx hb dX0_foretell_215 (by decide) ?_
              refine ji_add hx hb dX0_foretell_216 (v := nI (((P (q - stp q)) + (P (q + stp q))) + 1)) (nI_add ((P (q - stp q)) + (P (q + stp q))) 1) ?_
              refine lv_iconst (v := nI 2) hx hb dX0_foretell_217 (by decide) ?_
              refine ji_div hx hb dX0_foretell_218 (by decide) (v := nI ((((P (q - stp q)) + (P (q + stp q))) + 1) / 2)) (pk_div (a := (((P (q - stp q)) + (P (q + stp q))) + 1)) (d := 2) (by omega) (by omega) (by omega)) ?_
              exact jr_i hx hb hr hlocks hP hD hS (by rw [gs_H c_1 c_2 c_8]) dX0_foretell_219
          · exact absurd rfl c_10
      · refine lv_iconst (v := nI 1) hx hb dX0_foretell_86 (by decide) ?_
        refine lv_goto (tgt := 91) hx hb dX0_foretell_87 (by decide) ?_
        refine lv_istore (lv' := [(7, .int (nI 1)), (6, .int (nI 1)), (5, .int (nI (stp q))), (4, .int (nI (q / 9))), (3, .int (nI (q % 9))), (0, .ref (a 0)), (1, .int (nI q)), (2, .int (nI z))]) hx hb dX0_foretell_91 hl (by decide) rfl (fun ls hl => ?_)
        refine lv_iload hx hb dX0_foretell_93 (lv_at hl 1 rfl) ?_
        refine jz_eq (tgt := 179) hx hb (by omega) dX0_foretell_95 (by decide) (fun c_12 => ?_) (fun c_12 => ?_)
        · exact absurd c_12 (by decide)
        · refine lv_iload hx hb dX0_foretell_98 (lv_at hl 0 rfl) ?_
          refine jz_eq (tgt := 179) hx hb (by omega) dX0_foretell_100 (by decide) (fun c_13 => ?_) (fun c_13 => ?_)
          · exact absurd c_13 (by decide)
          · obtain ⟨g1, g2⟩ := tb_X q hq c_1 c_2 c_8
            have b1 := hPb (q - 9 * stp q - stp q)
            have b2 := hPb (q - 9 * stp q + stp q)
            have b3 := hPb (q + 9 * stp q - stp q)
            have b4 := hPb (q + 9 * stp q + stp q)
            refine lv_aload_n hx hb dX0_foretell_103 rfl (lv_at hl 5 rfl) ?_
            refine lv_iload_n hx hb dX0_foretell_104 rfl (lv_at hl 6 rfl) ?_
            refine lv_bipush (v := nI 9) hx hb dX0_foretell_105 (by decide) ?_
            refine lv_iload hx hb dX0_foretell_107 (lv_at hl 2 rfl) ?_
            refine ji_mul hx hb dX0_foretell_109 (v := nI (9 * (stp q))) (pk_mul 9 (stp q)) ?_
            refine ji_sub hx hb dX0_foretell_110 (v := nI (q - 9 * stp q)) (pk_sub (by omega)) ?_
            refine lv_iload hx hb dX0_foretell_111 (lv_at hl 2 rfl) ?_
            refine ji_sub hx hb dX0_foretell_113 (v := nI (q - 9 * stp q - stp q)) (pk_sub (by omega)) ?_
            refine lv_iload_n hx hb dX0_foretell_114 rfl (lv_at hl 7 rfl) ?_
            refine kc_Vi (wr := []) (w1 := Xw d a (nf D) B (nf C) (nf od) (nf rk) sn ln ra rc w b) (rest := []) ⟨hx, hb, hml, hown, hts⟩ (mX0_px l G d a D C P B sn ln ra rc w b (q - 9 * stp q - stp q) z (by omega) hz h9) (cwV 2 hts (lw_V q82 q84 qs2 q11 q85) rfl rfl rfl (by decide +kernel) ⟨(Nat.le_of_ble_eq_true rfl), (Nat.le_of_ble_eq_true rfl)⟩) hK [0] rfl hP hD hS hA [0, 1, 2, 3, 4, 5] [] rfl rfl rfl rfl (by decide) (ci := 0) rfl rfl rfl hl.1 rfl (Nat.le_of_ble_eq_true rfl) dX0_foretell_115 ⟨(Nat.le_of_ble_eq_true rfl), (Nat.le_of_ble_eq_true rfl)⟩ (fun H locs hP hD hS => ?_)
            have hP : va_P G vwCl (Xw d a (nf D) B (nf C) (nf od) (nf rk) sn ln ra rc w b) H := hP
            have hD : va_D A (Xw d a (nf D) B (nf C) (nf od) (nf rk) sn ln ra rc w b) := hD
            refine lv_aload_n hx hb dX0_foretell_118 rfl (lv_at hl 5 rfl) ?_
            refine lv_iload_n hx hb dX0_foretell_119 rfl (lv_at hl 6 rfl) ?_
            refine lv_bipush (v := nI 9) hx hb dX0_foretell_120 (by decide) ?_
            refine lv_iload hx hb dX0_foretell_122 (lv_at hl 2 rfl) ?_
            refine ji_mul hx hb dX0_foretell_124 (v := nI (9 * (stp q))) (pk_mul 9 (stp q)) ?_
            refine ji_sub hx hb dX0_foretell_125 (v := nI (q - 9 * stp q)) (pk_sub (by omega)) ?_
            refine lv_iload hx hb dX0_foretell_126 (lv_at hl 2 rfl) ?_
            refine ji_add hx hb dX0_foretell_128 (v := nI (q - 9 * stp q + stp q)) (nI_add _ _) ?_
            refine lv_iload_n hx hb dX0_foretell_129 rfl (lv_at hl 7 rfl) ?_
            refine kc_Vi (wr := []) (w1 := Xw d a (nf D) B (nf C) (nf od) (nf rk) sn ln ra rc w b) (rest := [.int (nI (P (q - 9 * stp q - stp q)))]) ⟨hx, hb, hml, hown, hts⟩ (mX0_px l G d a D C P B sn ln ra rc w b (q - 9 * stp q + stp q) z (by omega) hz h9) (cwV 2 hts (lw_V q82 q84 qs2 q11 q85) rfl rfl rfl (by decide +kernel) ⟨(Nat.le_of_ble_eq_true rfl), (Nat.le_of_ble_eq_true rfl)⟩) hK [0] rfl hP hD hS hA [0, 1, 2, 3, 4, 5] [] rfl rfl rfl rfl (by decide) (ci := 0) rfl rfl rfl hl.1 rfl (Nat.le_of_ble_eq_true rfl) dX0_foretell_130 ⟨(Nat.le_of_ble_eq_true rfl), (Nat.le_of_ble_eq_true rfl)⟩ (fun H locs hP hD hS => ?_)
            have hP : va_P G vwCl (Xw d a (nf D) B (nf C) (nf od) (nf rk) sn ln ra rc w b) H := hP
            have hD : va_D A (Xw d a (nf D) B (nf C) (nf od) (nf rk) sn ln ra rc w b) := hD
            refine ji_add hx hb dX0_foretell_133 (v := nI ((P (q - 9 * stp q - stp q)) + (P (q - 9 * stp q + stp q)))) (nI_add (P (q - 9 * stp q - stp q)) (P (q - 9 * stp q + stp q))) ?_
            refine lv_istore (lv' := [(8, .int (nI ((P (q - 9 * stp q - stp q)) + (P (q - 9 * stp q + stp q))))), (7, .int (nI 1)), (6, .int (nI 1)), (5, .int (nI (stp q))), (4, .int (nI (q / 9))), (3, .int (nI (q % 9))), (0, .ref (a 0)), (1, .int (nI q)), (2, .int (nI z))]) hx hb dX0_foretell_134 hl (by decide) rfl (fun ls hl => ?_)
            refine lv_aload_n hx hb dX0_foretell_136 rfl (lv_at hl 6 rfl) ?_
            refine lv_iload_n hx hb dX0_foretell_137 rfl (lv_at hl 7 rfl) ?_
            refine lv_bipush (v := nI 9) hx hb dX0_foretell_138 (by decide) ?_
            refine lv_iload hx hb dX0_foretell_140 (lv_at hl 3 rfl) ?_
            refine ji_mul hx hb dX0_foretell_142 (v := nI (9 * (stp q))) (pk_mul 9 (stp q)) ?_
            refine ji_add hx hb dX0_foretell_143 (v := nI (q + 9 * stp q)) (nI_add _ _) ?_
            refine lv_iload hx hb dX0_foretell_144 (lv_at hl 3 rfl) ?_
            refine ji_sub hx hb dX0_foretell_146 (v := nI (q + 9 * stp q - stp q)) (pk_sub (by omega)) ?_
            refine lv_iload_n hx hb dX0_foretell_147 rfl (lv_at hl 8 rfl) ?_
            refine kc_Vi (wr := []) (w1 := Xw d a (nf D) B (nf C) (nf od) (nf rk) sn ln ra rc w b) (rest := []) ⟨hx, hb, hml, hown, hts⟩ (mX0_px l G d a D C P B sn ln ra rc w b (q + 9 * stp q - stp q) z (by omega) hz h9) (cwV 2 hts (lw_V q82 q84 qs2 q11 q85) rfl rfl rfl (by decide +kernel) ⟨(Nat.le_of_ble_eq_true rfl), (Nat.le_of_ble_eq_true rfl)⟩) hK [0] rfl hP hD hS hA [0, 1, 2, 3, 4, 5] [] rfl rfl rfl rfl (by decide) (ci := 0) rfl rfl rfl hl.1 rfl (Nat.le_of_ble_eq_true rfl) dX0_foretell_148 ⟨(Nat.le_of_ble_eq_true rfl), (Nat.le_of_ble_eq_true rfl)⟩ (fun H locs hP hD hS => ?_)
            have hP : va_P G vwCl (Xw d a (nf D) B (nf C) (nf od) (nf rk) sn ln ra rc w b) H := hP
            have hD : va_D A (Xw d a (nf D) B (nf C) (nf od) (nf rk) sn ln ra rc w b) := hD
            refine lv_aload_n hx hb dX0_foretell_151 rfl (lv_at hl 6 rfl) ?_
            refine lv_iload_n hx hb dX0_foretell_152 rfl (lv_at hl 7 rfl) ?_
            refine lv_bipush (v := nI 9) hx hb dX0_foretell_153 (by decide) ?_
            refine lv_iload hx hb dX0_foretell_155 (lv_at hl 3 rfl) ?_
            refine ji_mul hx hb dX0_foretell_157 (v := nI (9 * (stp q))) (pk_mul 9 (stp q)) ?_
            refine ji_add hx hb dX0_foretell_158 (v := nI (q + 9 * stp q)) (nI_add _ _) ?_
            refine lv_iload hx hb dX0_foretell_159 (lv_at hl 3 rfl) ?_
            refine ji_add hx hb dX0_foretell_161 (v := nI (q + 9 * stp q + stp q)) (nI_add _ _) ?_
            refine lv_iload_n hx hb dX0_foretell_162 rfl (lv_at hl 8 rfl) ?_
            refine kc_Vi (wr := []) (w1 := Xw d a (nf D) B (nf C) (nf od) (nf rk) sn ln ra rc w b) (rest := [.int (nI (P (q + 9 * stp q - stp q)))]) ⟨hx, hb, hml, hown, hts⟩ (mX0_px l G d a D C P B sn ln ra rc w b (q + 9 * stp q + stp q) z (by omega) hz h9) (cwV 2 hts (lw_V q82 q84 qs2 q11 q85) rfl rfl rfl (by decide +kernel) ⟨(Nat.le_of_ble_eq_true rfl), (Nat.le_of_ble_eq_true rfl)⟩) hK [0] rfl hP hD hS hA [0, 1, 2, 3, 4, 5] [] rfl rfl rfl rfl (by decide) (ci := 0) rfl rfl rfl hl.1 rfl (Nat.le_of_ble_eq_true rfl) dX0_foretell_163 ⟨(Nat.le_of_ble_eq_true rfl), (Nat.le_of_ble_eq_true rfl)⟩ (fun H locs hP hD hS => ?_)
            have hP : va_P G vwCl (Xw d a (nf D) B (nf C) (nf od) (nf rk) sn ln ra rc w b) H := hP
            have hD : va_D A (Xw d a (nf D) B (nf C) (nf od) (nf rk) sn ln ra rc w b) := hD
            refine ji_add hx hb dX0_foretell_166 (v := nI ((P (q + 9 * stp q - stp q)) + (P (q + 9 * stp q + stp q)))) (nI_add (P (q + 9 * stp q - stp q)) (P (q + 9 * stp q + stp q))) ?_
            refine lv_istore (lv' := [(9, .int (nI ((P (q + 9 * stp q - stp q)) + (P (q + 9 * stp q + stp q))))), (8, .int (nI ((P (q - 9 * stp q - stp q)) + (P (q - 9 * stp q + stp q))))), (7, .int (nI 1)), (6, .int (nI 1)), (5, .int (nI (stp q))), (4, .int (nI (q / 9))), (3, .int (nI (q % 9))), (0, .ref (a 0)), (1, .int (nI q)), (2, .int (nI z))]) hx hb dX0_foretell_167 hl (by decide) rfl (fun ls hl => ?_)
            refine lv_iload hx hb dX0_foretell_169 (lv_at hl 1 rfl) ?_
            refine lv_iload hx hb dX0_foretell_171 (lv_at hl 0 rfl) ?_
            refine ji_add hx hb dX0_foretell_173 (v := nI (((P (q - 9 * stp q - stp q)) + (P (q - 9 * stp q + stp q))) + ((P (q + 9 * stp q - stp q)) + (P (q + 9 * stp q + stp q))))) (nI_add ((P (q - 9 * stp q - stp q)) + (P (q - 9 * stp q + stp q))) ((P (q + 9 * stp q - stp q)) + (P (q + 9 * stp q + stp q)))) ?_
            refine lv_iconst (v := nI 2) hx hb dX0_foretell_174 (by decide) ?_
            refine ji_add hx hb dX0_foretell_175 (v := nI ((((P (q - 9 * stp q - stp q)) + (P (q - 9 * stp q + stp q))) + ((P (q + 9 * stp q - stp q)) + (P (q + 9 * stp q + stp q)))) + 2)) (nI_add (((P (q - 9 * stp q - stp q)) + (P (q - 9 * stp q + stp q))) + ((P (q + 9 * stp q - stp q)) + (P (q + 9 * stp q + stp q)))) 2) ?_
            refine lv_iconst (v := nI 4) hx hb dX0_foretell_176 (by decide) ?_
            refine ji_div hx hb dX0_foretell_177 (by decide) (v := nI (((((P (q - 9 * stp q - stp q)) + (P (q - 9 * stp q + stp q))) + ((P (q + 9 * stp q - stp q)) + (P (q + 9 * stp q + stp q)))) + 2) / 4)) (pk_div (a := ((((P (q - 9 * stp q - stp q)) + (P (q - 9 * stp q + stp q))) + ((P (q + 9 * stp q - stp q)) + (P (q + 9 * stp q + stp q)))) + 2)) (d := 4) (by omega) (by omega) (by omega)) ?_
            exact jr_i hx hb hr hlocks hP hD hS (by rw [gs_X c_1 c_2 c_8]) dX0_foretell_178
  · refine lv_aload_n hx hb dX0_foretell_26 rfl (lv_at hl 3 rfl) ?_
    refine va_get (D := G) (ci := 0) (v := .ref (a 5)) (C := RX0) (T := TX0) (N := 11) hx hb hts in_X0 hown hK hP 0 rfl rfl 8 (by decide) (hts _ q32) (fun _ h9 => h9) rfl dX0_foretell_27 ?_
    refine lv_iload_n hx hb dX0_foretell_30 rfl (lv_at hl 4 rfl) ?_
    refine ja_ld hx hb hK hP 5 0 rfl rfl (k := q) (by omega) (by decide) (v := nI (rk q)) rfl dX0_foretell_31 ?_
    refine jz_ne (tgt := 41) hx hb (by omega) dX0_foretell_32 (by decide) (fun c_14 => ?_) (fun c_14 => ?_)
    · refine lv_aload_n hx hb dX0_foretell_41 rfl (lv_at hl 3 rfl) ?_
      refine lv_aload_n hx hb dX0_foretell_42 rfl (lv_at hl 3 rfl) ?_
      refine va_get (D := G) (ci := 0) (v := .ref (a 4)) (C := RX0) (T := TX0) (N := 11) hx hb hts in_X0 hown hK hP 0 rfl rfl 7 (by decide) (hts _ q31) (fun _ h9 => h9) rfl dX0_foretell_43 ?_
      refine lv_aload_n hx hb dX0_foretell_46 rfl (lv_at hl 3 rfl) ?_
      refine va_get (D := G) (ci := 0) (v := .ref (a 5)) (C := RX0) (T := TX0) (N := 11) hx hb hts in_X0 hown hK hP 0 rfl rfl 8 (by decide) (hts _ q32) (fun _ h9 => h9) rfl dX0_foretell_47 ?_
      refine lv_iload_n hx hb dX0_foretell_50 rfl (lv_at hl 4 rfl) ?_
      refine ja_ld hx hb hK hP 5 0 rfl rfl (k := q) (by omega) (by decide) (v := nI (rk q)) rfl dX0_foretell_51 ?_
      refine lv_iconst (v := nI 1) hx hb dX0_foretell_52 (by decide) ?_
      refine ji_sub hx hb dX0_foretell_53 (v := nI ((rk q) - 1)) (pk_sub (a := (rk q)) (b := 1) (by omega)) ?_
      refine ja_ld hx hb hK hP 4 0 rfl rfl (k := (rk q) - 1) (by omega) (by decide) (v := nI (od ((rk q) - 1))) rfl dX0_foretell_54 ?_
      refine lv_iload_n hx hb dX0_foretell_55 rfl (lv_at hl 5 rfl) ?_
      refine kc_Vi (wr := []) (w1 := Xw d a (nf D) B (nf C) (nf od) (nf rk) sn ln ra rc w b) (rest := []) ⟨hx, hb, hml, hown, hts⟩ (mX0_px l G d a D C P B sn ln ra rc w b (od (rk q - 1)) z (tb_od _ (by omega)) hz h9) (cwV 2 hts (lw_V q82 q84 qs2 q11 q85) rfl rfl rfl (by decide +kernel) ⟨(Nat.le_of_ble_eq_true rfl), (Nat.le_of_ble_eq_true rfl)⟩) hK [0] rfl hP hD hS hA [0, 1, 2, 3, 4, 5] [] rfl rfl rfl rfl (by decide) (ci := 0) rfl rfl rfl hl.1 rfl (Nat.le_of_ble_eq_true rfl) dX0_foretell_56 ⟨(Nat.le_of_ble_eq_true rfl), (Nat.le_of_ble_eq_true rfl)⟩ (fun H locs hP hD hS => ?_)
      have hP : va_P G vwCl (Xw d a (nf D) B (nf C) (nf od) (nf rk) sn ln ra rc w b) H := hP
      have hD : va_D A (Xw d a (nf D) B (nf C) (nf od) (nf rk) sn ln ra rc w b) := hD
      exact jr_i hx hb hr hlocks hP hD hS (by rw [gs_8 c_1 c_14]) dX0_foretell_59
    · refine lv_sipush (v := nI 128) hx hb dX0_foretell_35 (by decide) ?_
      refine lv_goto (tgt := 59) hx hb dX0_foretell_38 (by decide) ?_
      exact jr_i hx hb hr hlocks hP hD hS (by rw [gs_8z c_1 c_14]) dX0_foretell_59
end
section
set_option maxHeartbeats 4000000 in
set_option maxRecDepth 100000 in
/-- the drawn picture is coded -/
theorem mX0_send (l : Launch) (G : va_G) (d : ClassId) (a : Nat → Nat) (D C : Nat → Nat) (B : Nat → Int32) (sn ln ra rc w b : Int32) (hD9 : ∀ j, D j < 256) : MV l yX0_send (ws_ yX0_send cX0_send 5 none) ro3 G [(d, .int)] [.ref (a 0)] (Xw d a (nf D) B (nf C) (nf od) (nf rk) sn ln ra rc w b) (Xw d a (nf D) (wL (stm D 81) (clr B 48) 0) (nf C) (nf od) (nf rk) (nI 1) (nI ((stm D 81).length)) (nI 0) (nI 0) (nI 3) (nI 0)) := by
  refine MV.ofW (by decide) (Nat.le_of_ble_eq_true rfl) ?_
  intro p e8 s m below meth c A hx hb hr hml hown hts hlocks hA hK hP hD ls hl
  have hS : va_S A s.heap s.heap [] := va_S.rf
  have hown : s.vm.findClass RX0 = some m.cls := hown
  have hl : lv_has ls 5 [(0, .ref (a 0))] := hl
  refine lv_aload_n hx hb dX0_send_0 rfl (lv_at hl 0 rfl) ?_
  refine lv_iconst (v := nI 1) hx hb dX0_send_1 (by decide) ?_
  refine va_put (D := G) (ci := 0) (v := .int (nI 1)) (ty := .boolean) (C := RX0) (T := TX0) (N := 11) hx hb hts in_X0 tyX0 tyX0_ok nmX0 hown hK hP hD hS 0 rfl rfl 1 (by decide) (hts _ q25) (fun _ h9 => h9) rfl (by decide +kernel) rfl rfl (Nat.le_of_ble_eq_true rfl) dX0_send_2 (fun H locs hP hD hS => ?_)
  have hP : va_P G vwCl (Xw d a (nf D) B (nf C) (nf od) (nf rk) (nI 1) ln ra rc w b) H := hP
  have hD : va_D A (Xw d a (nf D) B (nf C) (nf od) (nf rk) (nI 1) ln ra rc w b) := hD
  refine lv_aload_n hx hb dX0_send_5 rfl (lv_at hl 0 rfl) ?_
  refine lv_iconst (v := nI 0) hx hb dX0_send_6 (by decide) ?_
  refine va_put (D := G) (ci := 0) (v := .int (nI 0)) (ty := .int) (C := RX0) (T := TX0) (N := 11) hx hb hts in_X0 tyX0 tyX0_ok nmX0 hown hK hP hD hS 0 rfl rfl 3 (by decide) (hts _ q27) (fun _ h9 => h9) rfl (by decide +kernel) rfl rfl (Nat.le_of_ble_eq_true rfl) dX0_send_7 (fun H locs hP hD hS => ?_)
  have hP : va_P G vwCl (Xw d a (nf D) B (nf C) (nf od) (nf rk) (nI 1) (nI 0) ra rc w b) H := hP
  have hD : va_D A (Xw d a (nf D) B (nf C) (nf od) (nf rk) (nI 1) (nI 0) ra rc w b) := hD
  refine lv_iconst (v := nI 0) hx hb dX0_send_10 (by decide) ?_
  refine lv_istore_n (lv' := [(1, .int (nI 0)), (0, .ref (a 0))]) hx hb dX0_send_11 rfl hl (by decide) rfl (fun ls hl => ?_)
  rw [← clr_0 B] at hP hD
  refine ja_loop (fun n H locs ls => ∃ (k : Nat), k + n = 48 ∧ ja_I A G s.heap (Xw d a (nf D) (clr B k) (nf C) (nf od) (nf rk) (nI 1) (nI 0) ra rc w b) 5 [(0, .ref (a 0)), (1, .int (nI k))] H locs ls) ?_ 48 ⟨0, rfl, hP, hD, hS, lv_sub hl [1, 0] rfl⟩
  intro n ih H locs ls hI
  obtain ⟨k, hk, hP, hD, hS, hl⟩ := hI
  refine lv_iload_n hx hb dX0_send_12 rfl (lv_at hl 1 rfl) ?_
  refine lv_bipush (v := nI 48) hx hb dX0_send_13 (by decide) ?_
  refine jn_ge (tgt := 31) hx hb (by omega) (by omega) dX0_send_15 (by decide) (fun c_1 => ?_) (fun c_1 => ?_)
  · obtain rfl : k = 48 := by omega
    refine lv_aload_n hx hb dX0_send_31 rfl (lv_at hl 0 rfl) ?_
    refine kc_Vv (wr := []) (w1 := Xw d a (nf D) (clr B 48) (nf C) (nf od) (nf rk) (nI 1) (nI 0) ra rc (nI 3) (nI 0)) (rest := []) ⟨hx, hb, hml, hown, hts⟩ (mX0_startWidth l G d a (nf D) (clr B 48) (nf C) (nI 1) (nI 0) ra rc w b) (cwV 0 hts (lw_V q74 q76 qs0 q11 q77) rfl rfl rfl (by decide +kernel) ⟨(Nat.le_of_ble_eq_true rfl), (Nat.le_of_ble_eq_true rfl)⟩) hK [0] rfl hP hD hS hA [0, 1, 2, 3, 4, 5] [] rfl rfl rfl rfl (by decide) (ci := 0) rfl rfl rfl hl.1 rfl (Nat.le_of_ble_eq_true rfl) dX0_send_32 ⟨(Nat.le_of_ble_eq_true rfl), (Nat.le_of_ble_eq_true rfl)⟩ (fun H locs hP hD hS => ?_)
    have hP : va_P G vwCl (Xw d a (nf D) (clr B 48) (nf C) (nf od) (nf rk) (nI 1) (nI 0) ra rc (nI 3) (nI 0)) H := hP
    have hD : va_D A (Xw d a (nf D) (clr B 48) (nf C) (nf od) (nf rk) (nI 1) (nI 0) ra rc (nI 3) (nI 0)) := hD
    refine lv_iconst (v := nI 0) hx hb dX0_send_35 (by decide) ?_
    refine lv_istore_n (lv' := [(1, .int (nI 0)), (0, .ref (a 0))]) hx hb dX0_send_36 rfl hl (by decide) rfl (fun ls hl => ?_)
    refine ja_loop (fun n H locs ls => ∃ (k : Nat), k + n = 81 ∧ ja_I A G s.heap (Xw d a (nf D) (wL (stm D k) (clr B 48) 0) (nf C) (nf od) (nf rk) (nI 1) (nI ((stm D k).length)) ra rc (nI ((wb D k).1)) ((wb D k).2)) 5 [(0, .ref (a 0)), (1, .int (nI k))] H locs ls) ?_ 81 ⟨0, rfl, hP, hD, hS, lv_sub hl [1, 0] rfl⟩
    intro n ih H locs ls hI
    obtain ⟨k, hk, hP, hD, hS, hl⟩ := hI
    refine lv_iload_n hx hb dX0_send_37 rfl (lv_at hl 1 rfl) ?_
    refine lv_bipush (v := nI 81) hx hb dX0_send_38 (by decide) ?_
    refine jn_ge (tgt := 97) hx hb (by omega) (by omega) dX0_send_40 (by decide) (fun c_2 => ?_) (fun c_2 => ?_)
    · obtain rfl : k = 81 := by omega
      refine lv_aload_n hx hb dX0_send_97 rfl (lv_at hl 0 rfl) ?_
      refine lv_iconst (v := nI 0) hx hb dX0_send_98 (by decide) ?_
      refine va_put (D := G) (ci := 0) (v := .int (nI 0)) (ty := .int) (C := RX0) (T := TX0) (N := 11) hx hb hts in_X0 tyX0 tyX0_ok nmX0 hown hK hP hD hS 0 rfl rfl 5 (by decide) (hts _ q29) (fun _ h9 => h9) rfl (by decide +kernel) rfl rfl (Nat.le_of_ble_eq_true rfl) dX0_send_99 (fun H locs hP hD hS => ?_)
      have hP : va_P G vwCl (Xw d a (nf D) (wL (stm D 81) (clr B 48) 0) (nf C) (nf od) (nf rk) (nI 1) (nI ((stm D 81).length)) ra (nI 0) (nI ((wb D 81).1)) ((wb D 81).2)) H := hP
      have hD : va_D A (Xw d a (nf D) (wL (stm D 81) (clr B 48) 0) (nf C) (nf od) (nf rk) (nI 1) (nI ((stm D 81).length)) ra (nI 0) (nI ((wb D 81).1)) ((wb D 81).2)) := hD
      refine lv_aload_n hx hb dX0_send_102 rfl (lv_at hl 0 rfl) ?_
      refine lv_iconst (v := nI 0) hx hb dX0_send_103 (by decide) ?_
      refine va_put (D := G) (ci := 0) (v := .int (nI 0)) (ty := .int) (C := RX0) (T := TX0) (N := 11) hx hb hts in_X0 tyX0 tyX0_ok nmX0 hown hK hP hD hS 0 rfl rfl 4 (by decide) (hts _ q28) (fun _ h9 => h9) rfl (by decide +kernel) rfl rfl (Nat.le_of_ble_eq_true rfl) dX0_send_104 (fun H locs hP hD hS => ?_)
      have hP : va_P G vwCl (Xw d a (nf D) (wL (stm D 81) (clr B 48) 0) (nf C) (nf od) (nf rk) (nI 1) (nI ((stm D 81).length)) (nI 0) (nI 0) (nI ((wb D 81).1)) ((wb D 81).2)) H := hP
      have hD : va_D A (Xw d a (nf D) (wL (stm D 81) (clr B 48) 0) (nf C) (nf od) (nf rk) (nI 1) (nI ((stm D 81).length)) (nI 0) (nI 0) (nI ((wb D 81).1)) ((wb D 81).2)) := hD
      refine lv_aload_n hx hb dX0_send_107 rfl (lv_at hl 0 rfl) ?_
      refine kc_Vv (wr := []) (w1 := Xw d a (nf D) (wL (stm D 81) (clr B 48) 0) (nf C) (nf od) (nf rk) (nI 1) (nI ((stm D 81).length)) (nI 0) (nI 0) (nI 3) (nI 0)) (rest := []) ⟨hx, hb, hml, hown, hts⟩ (mX0_startWidth l G d a (nf D) (wL (stm D 81) (clr B 48) 0) (nf C) (nI 1) (nI (stm D 81).length) (nI 0) (nI 0) (nI (wb D 81).1) (wb D 81).2) (cwV 0 hts (lw_V q74 q76 qs0 q11 q77) rfl rfl rfl (by decide +kernel) ⟨(Nat.le_of_ble_eq_true rfl), (Nat.le_of_ble_eq_true rfl)⟩) hK [0] rfl hP hD hS hA [0, 1, 2, 3, 4, 5] [] rfl rfl rfl rfl (by decide) (ci := 0) rfl rfl rfl hl.1 rfl (Nat.le_of_ble_eq_true rfl) dX0_send_108 ⟨(Nat.le_of_ble_eq_true rfl), (Nat.le_of_ble_eq_true rfl)⟩ (fun H locs hP hD hS => ?_)
      have hP : va_P G vwCl (Xw d a (nf D) (wL (stm D 81) (clr B 48) 0) (nf C) (nf od) (nf rk) (nI 1) (nI ((stm D 81).length)) (nI 0) (nI 0) (nI 3) (nI 0)) H := hP
      have hD : va_D A (Xw d a (nf D) (wL (stm D 81) (clr B 48) 0) (nf C) (nf od) (nf rk) (nI 1) (nI ((stm D 81).length)) (nI 0) (nI 0) (nI 3) (nI 0)) := hD
      exact jr_v hx hb hr hlocks hP hD hS dX0_send_111
    · have hsl := stm_len D k
      have hod := tb_od k (by omega)
      refine lv_aload_n hx hb dX0_send_43 rfl (lv_at hl 0 rfl) ?_
      refine lv_aload_n hx hb dX0_send_44 rfl (lv_at hl 0 rfl) ?_
      refine va_get (D := G) (ci := 0) (v := .ref (a 4)) (C := RX0) (T := TX0) (N := 11) hx hb hts in_X0 hown hK hP 0 rfl rfl 7 (by decide) (hts _ q31) (fun _ h9 => h9) rfl dX0_send_45 ?_
      refine lv_iload_n hx hb dX0_send_48 rfl (lv_at hl 1 rfl) ?_
      refine ja_ld hx hb hK hP 4 0 rfl rfl (k := k) (by omega) (by decide) (v := nI (od k)) rfl dX0_send_49 ?_
      refine lv_iconst (v := nI 1) hx hb dX0_send_50 (by decide) ?_
      refine kc_Vi (wr := []) (w1 := Xw d a (nf D) (wL (stm D k) (clr B 48) 0) (nf C) (nf od) (nf rk) (nI 1) (nI ((stm D k).length)) ra rc (nI ((wb D k).1)) ((wb D k).2)) (rest := []) ⟨hx, hb, hml, hown, hts⟩ (mX0_foretell l G d a D C D (wL (stm D k) (clr B 48) 0) (nI 1) (nI (stm D k).length) ra rc (nI (wb D k).1) (wb D k).2 (od k) 1 hod (by decide) rfl hD9) (cwV 2 hts (lw_V q78 q80 qs1 q11 q81) rfl rfl rfl (by decide +kernel) ⟨(Nat.le_of_ble_eq_true rfl), (Nat.le_of_ble_eq_true rfl)⟩) hK [0] rfl hP hD hS hA [0, 1, 2, 3, 4, 5] [] rfl rfl rfl rfl (by decide) (ci := 0) rfl rfl rfl hl.1 rfl (Nat.le_of_ble_eq_true rfl) dX0_send_51 ⟨(Nat.le_of_ble_eq_true rfl), (Nat.le_of_ble_eq_true rfl)⟩ (fun H locs hP hD hS => ?_)
      have hP : va_P G vwCl (Xw d a (nf D) (wL (stm D k) (clr B 48) 0) (nf C) (nf od) (nf rk) (nI 1) (nI ((stm D k).length)) ra rc (nI ((wb D k).1)) ((wb D k).2)) H := hP
      have hD : va_D A (Xw d a (nf D) (wL (stm D k) (clr B 48) 0) (nf C) (nf od) (nf rk) (nI 1) (nI ((stm D k).length)) ra rc (nI ((wb D k).1)) ((wb D k).2)) := hD
      refine lv_istore_n (lv' := [(2, .int (nI (gs D (od k)))), (0, .ref (a 0)), (1, .int (nI k))]) hx hb dX0_send_54 rfl hl (by decide) rfl (fun ls hl => ?_)
      refine lv_aload_n hx hb dX0_send_55 rfl (lv_at hl 1 rfl) ?_
      refine va_get (D := G) (ci := 0) (v := .ref (a 1)) (C := RX0) (T := TX0) (N := 11) hx hb hts in_X0 hown hK hP 0 rfl rfl 0 (by decide) (hts _ q24) (fun _ h9 => h9) rfl dX0_send_56 ?_
      refine lv_aload_n hx hb dX0_send_59 rfl (lv_at hl 1 rfl) ?_
      refine va_get (D := G) (ci := 0) (v := .ref (a 4)) (C := RX0) (T := TX0) (N := 11) hx hb hts in_X0 hown hK hP 0 rfl rfl 7 (by decide) (hts _ q31) (fun _ h9 => h9) rfl dX0_send_60 ?_
      refine lv_iload_n hx hb dX0_send_63 rfl (lv_at hl 2 rfl) ?_
      refine ja_ld hx hb hK hP 4 0 rfl rfl (k := k) (by omega) (by decide) (v := nI (od k)) rfl dX0_send_64 ?_
      refine ja_ld hx hb hK hP 1 0 rfl rfl (k := od k) (by omega) (by decide) (v := nI (D (od k))) rfl dX0_send_65 ?_
      refine lv_iload_n hx hb dX0_send_66 rfl (lv_at hl 0 rfl) ?_
      refine ji_sub hx hb dX0_send_67 (v := nI (D (od k)) - nI (gs D (od k))) rfl ?_
      refine lv_sipush (v := nI 255) hx hb dX0_send_68 (by decide) ?_
      refine ji_and hx hb dX0_send_71 (v := nI ((D (od k) + 256 - gs D (od k)) % 256)) (ar_diff (hD9 _) (gs_lt hD9 _)) ?_
      refine lv_istore_n (lv' := [(3, .int (nI ((D (od k) + 256 - gs D (od k)) % 256))), (2, .int (nI (gs D (od k)))), (0, .ref (a 0)), (1, .int (nI k))]) hx hb dX0_send_72 rfl hl (by decide) rfl (fun ls hl => ?_)
      refine lv_iload_n hx hb dX0_send_73 rfl (lv_at hl 0 rfl) ?_
      refine kc_Si (wr := Xw d a (nf D) (wL (stm D k) (clr B 48) 0) (nf C) (nf od) (nf rk) (nI 1) (nI ((stm D k).length)) ra rc (nI ((wb D k).1)) ((wb D k).2)) (w1 := []) (rest := []) ⟨hx, hb, hml, hown, hts⟩ (mX0_fold l G ((D (od k) + 256 - gs D (od k)) % 256) (Nat.mod_lt _ (by decide))) (va_cwS 1 hts (lw_S q86 q87 q11 q88) rfl rfl rfl (by decide +kernel) ⟨(Nat.le_of_ble_eq_true rfl), (Nat.le_of_ble_eq_true rfl)⟩) hK [] rfl hP hD hS hA [] [0, 1, 2, 3, 4, 5] rfl rfl rfl rfl (by decide) rfl hl.1 rfl (Nat.le_of_ble_eq_true rfl) dX0_send_74 ⟨(Nat.le_of_ble_eq_true rfl), (Nat.le_of_ble_eq_true rfl)⟩ (fun H locs hP hD hS => ?_)
      have hP : va_P G vwCl (Xw d a (nf D) (wL (stm D k) (clr B 48) 0) (nf C) (nf od) (nf rk) (nI 1) (nI ((stm D k).length)) ra rc (nI ((wb D k).1)) ((wb D k).2)) H := hP
      have hD : va_D A (Xw d a (nf D) (wL (stm D k) (clr B 48) 0) (nf C) (nf od) (nf rk) (nI 1) (nI ((stm D k).length)) ra rc (nI ((wb D k).1)) ((wb D k).2)) := hD
      refine lv_istore (lv' := [(4, .int (nI (fo D k))), (3, .int (nI ((D (od k) + 256 - gs D (od k)) % 256))), (2, .int (nI (gs D (od k)))), (0, .ref (a 0)), (1, .int (nI k))]) hx hb dX0_send_77 hl (by decide) rfl (fun ls hl => ?_)
      refine lv_aload_n hx hb dX0_send_79 rfl (lv_at hl 3 rfl) ?_
      refine lv_iload hx hb dX0_send_80 (lv_at hl 0 rfl) ?_
      refine kc_Vv (wr := []) (w1 := Xw d a (nf D) (wL (cd (fo D k) (wb D k).1) (wL (stm D k) (clr B 48) 0) (stm D k).length) (nf C) (nf od) (nf rk) (nI 1) (nI ((stm D k).length + (cd (fo D k) (wb D k).1).length)) ra rc (nI ((wb D k).1)) ((wb D k).2)) (rest := []) ⟨hx, hb, hml, hown, hts⟩ (mX0_writeCode l G d a (nf D) (wL (stm D k) (clr B 48) 0) (nf C) (nI 1) ra rc (wb D k).2 (stm D k).length (fo D k) (wb D k).1 (by omega) (fo_lt D k) (wb_le D k)) (cwV 1 hts (lw_V q89 q91 qs3 q11 q92) rfl rfl rfl (by decide +kernel) ⟨(Nat.le_of_ble_eq_true rfl), (Nat.le_of_ble_eq_true rfl)⟩) hK [0] rfl hP hD hS hA [0, 1, 2, 3, 4, 5] [] rfl rfl rfl rfl (by decide) (ci := 0) rfl rfl rfl hl.1 rfl (Nat.le_of_ble_eq_true rfl) dX0_send_82 ⟨(Nat.le_of_ble_eq_true rfl), (Nat.le_of_ble_eq_true rfl)⟩ (fun H locs hP hD hS => ?_)
      have hP : va_P G vwCl (Xw d a (nf D) (wL (cd (fo D k) (wb D k).1) (wL (stm D k) (clr B 48) 0) (stm D k).length) (nf C) (nf od) (nf rk) (nI 1) (nI ((stm D k).length + (cd (fo D k) (wb D k).1).length)) ra rc (nI ((wb D k).1)) ((wb D k).2)) H := hP
      have hD : va_D A (Xw d a (nf D) (wL (cd (fo D k) (wb D k).1) (wL (stm D k) (clr B 48) 0) (stm D k).length) (nf C) (nf od) (nf rk) (nI 1) (nI ((stm D k).length + (cd (fo D k) (wb D k).1).length)) ra rc (nI ((wb D k).1)) ((wb D k).2)) := hD
      rw [← stm_wL, ← stm_l1] at hP hD
      refine lv_aload_n hx hb dX0_send_85 rfl (lv_at hl 3 rfl) ?_
      refine lv_iload hx hb dX0_send_86 (lv_at hl 0 rfl) ?_
      refine kc_Vv (wr := []) (w1 := Xw d a (nf D) (wL (stm D (k + 1)) (clr B 48) 0) (nf C) (nf od) (nf rk) (nI 1) (nI ((stm D (k + 1)).length)) ra rc (nI ((wb D (k + 1)).1)) ((wb D (k + 1)).2)) (rest := []) ⟨hx, hb, hml, hown, hts⟩ (mX0_adapt l G d a (nf D) (wL (stm D (k + 1)) (clr B 48) 0) (nf C) (nI 1) (nI (stm D (k + 1)).length) ra rc (wb D k).2 (wb D k).1 (fo D k) (wb_le D k) (fo_lt D k)) (cwV 1 hts (lw_V q101 q103 qs6 q11 q104) rfl rfl rfl (by decide +kernel) ⟨(Nat.le_of_ble_eq_true rfl), (Nat.le_of_ble_eq_true rfl)⟩) hK [0] rfl hP hD hS hA [0, 1, 2, 3, 4, 5] [] rfl rfl rfl rfl (by decide) (ci := 0) rfl rfl rfl hl.1 rfl (Nat.le_of_ble_eq_true rfl) dX0_send_88 ⟨(Nat.le_of_ble_eq_true rfl), (Nat.le_of_ble_eq_true rfl)⟩ (fun H locs hP hD hS => ?_)
      have hP : va_P G vwCl (Xw d a (nf D) (wL (stm D (k + 1)) (clr B 48) 0) (nf C) (nf od) (nf rk) (nI 1) (nI ((stm D (k + 1)).length)) ra rc (nI ((wb D (k + 1)).1)) ((wb D (k + 1)).2)) H := hP
      have hD : va_D A (Xw d a (nf D) (wL (stm D (k + 1)) (clr B 48) 0) (nf C) (nf od) (nf rk) (nI 1) (nI ((stm D (k + 1)).length)) ra rc (nI ((wb D (k + 1)).1)) ((wb D (k + 1)).2)) := hD
      refine lv_iinc (v := nI (k + 1)) (lv' := [(1, .int (nI (k + 1))), (4, .int (nI (fo D k))), (3, .int (nI ((D (od k) + 256 - gs D (od k)) % 256))), (2, .int (nI (gs D (od k)))), (0, .ref (a 0))]) hx hb dX0_send_91 hl (k := 4) rfl (nI_1 k) (by decide) rfl (fun ls hl => ?_)
      refine lv_goto (tgt := 37) hx hb dX0_send_94 (by decide) ?_
      exact ih (n - 1) (by omega) _ _ _ ⟨k + 1, by omega, hP, hD, hS, lv_sub hl [4, 0] rfl⟩
  · refine lv_aload_n hx hb dX0_send_18 rfl (lv_at hl 0 rfl) ?_
    refine va_get (D := G) (ci := 0) (v := .ref (a 2)) (C := RX0) (T := TX0) (N := 11) hx hb hts in_X0 hown hK hP 0 rfl rfl 2 (by decide) (hts _ q26) (fun _ h9 => h9) rfl dX0_send_19 ?_
    refine lv_iload_n hx hb dX0_send_22 rfl (lv_at hl 1 rfl) ?_
    refine lv_iconst (v := nI 0) hx hb dX0_send_23 (by decide) ?_
    refine ja_st hx hb hK hP hD hS 2 0 rfl rfl (k := k) (by omega) (by decide) (f' := clr B (k + 1)) (clr_s B k) dX0_send_24 (fun H locs hP hD hS => ?_)
    have hP : va_P G vwCl (Xw d a (nf D) (clr B (k + 1)) (nf C) (nf od) (nf rk) (nI 1) (nI 0) ra rc w b) H := hP
    have hD : va_D A (Xw d a (nf D) (clr B (k + 1)) (nf C) (nf od) (nf rk) (nI 1) (nI 0) ra rc w b) := hD
    refine lv_iinc (v := nI (k + 1)) (lv' := [(1, .int (nI (k + 1))), (0, .ref (a 0))]) hx hb dX0_send_25 hl (k := 1) rfl (nI_1 k) (by decide) rfl (fun ls hl => ?_)
    refine lv_goto (tgt := 12) hx hb dX0_send_28 (by decide) ?_
    exact ih (n - 1) (by omega) _ _ _ ⟨k + 1, by omega, hP, hD, hS, lv_sub hl [1, 0] rfl⟩
set_option maxHeartbeats 4000000 in
set_option maxRecDepth 100000 in
/-- nothing was sent -/
theorem mX0_receive0 (l : Launch) (G : va_G) (d : ClassId) (a : Nat → Nat) (D B C : Nat → Int32) (ln ra rc w b cn : Int32) : MI l yX0_receive (ws_ yX0_receive cX0_receive 7 (some .int)) ro3 G [(d, .int)] [.ref (a 0), .int cn] (Xw d a D B C (nf od) (nf rk) (nI 0) ln ra rc w b) (-1) (Xw d a D B C (nf od) (nf rk) (nI 0) ln ra rc w b) := by
  refine MI.ofW (by decide) (Nat.le_of_ble_eq_true rfl) ?_
  intro p e8 s m below meth c A hx hb hr hml hown hts hlocks hA hK hP hD ls hl
  have hS : va_S A s.heap s.heap [] := va_S.rf
  have hown : s.vm.findClass RX0 = some m.cls := hown
  have hl : lv_has ls 7 [(0, .ref (a 0)), (1, .int cn)] := hl
  refine lv_aload_n hx hb dX0_receive_0 rfl (lv_at hl 0 rfl) ?_
  refine va_get (D := G) (ci := 0) (v := .int (nI 0)) (C := RX0) (T := TX0) (N := 11) hx hb hts in_X0 hown hK hP 0 rfl rfl 1 (by decide) (hts _ q25) (fun _ h9 => h9) rfl dX0_receive_1 ?_
  refine jz_ne (tgt := 9) hx hb (by omega) dX0_receive_4 (by decide) (fun c_1 => ?_) (fun c_1 => ?_)
  · exact absurd rfl c_1
  · refine lv_iconst (v := (-1)) hx hb dX0_receive_7 (by decide) ?_
    exact jr_i hx hb hr hlocks hP hD hS rfl dX0_receive_8
set_option maxHeartbeats 4000000 in
set_option maxRecDepth 100000 in
/-- the next codes are read -/
theorem mX0_receive1 (l : Launch) (G : va_G) (d : ClassId) (a : Nat → Nat) (D c9 e : Nat → Nat) (B : Nat → Int32) (ln cn : Int32) (r0 : Nat) (hc : ∀ j, c9 j < 256) (he : ∀ j, e j < 256) (hr0 : r0 ≤ 81) (hce : ∀ k, k < r0 → c9 (od k) = e (od k)) (hst : ∀ k, k < 81 → Str B (stm e k).length (cd (fo e k) (wb e k).1)) : MI l yX0_receive (ws_ yX0_receive cX0_receive 7 (some .int)) ro3 G [(d, .int)] [.ref (a 0), .int cn] (Xw d a (nf D) B (nf c9) (nf od) (nf rk) (nI 1) ln (nI ((stm e r0).length)) (nI r0) (nI ((wb e r0).1)) ((wb e r0).2)) (nI (rcv r0 cn)) (Xw d a (nf D) B (nf (dc c9 e r0 (rcv r0 cn))) (nf od) (nf rk) (nI 1) ln (nI ((stm e (rcv r0 cn)).length)) (nI (rcv r0 cn)) (nI ((wb e (rcv r0 cn)).1)) ((wb e (rcv r0 cn)).2)) := by
  refine MI.ofW (by decide) (Nat.le_of_ble_eq_true rfl) ?_
  intro p e8 s m below meth c A hx hb hr hml hown hts hlocks hA hK hP hD ls hl
  have hS : va_S A s.heap s.heap [] := va_S.rf
  have hown : s.vm.findClass RX0 = some m.cls := hown
  have hl : lv_has ls 7 [(0, .ref (a 0)), (1, .int cn)] := hl
  refine lv_aload_n hx hb dX0_receive_0 rfl (lv_at hl 0 rfl) ?_
  refine va_get (D := G) (ci := 0) (v := .int (nI 1)) (C := RX0) (T := TX0) (N := 11) hx hb hts in_X0 hown hK hP 0 rfl rfl 1 (by decide) (hts _ q25) (fun _ h9 => h9) rfl dX0_receive_1 ?_
  refine jz_ne (tgt := 9) hx hb (by omega) dX0_receive_4 (by decide) (fun c_1 => ?_) (fun c_1 => ?_)
  · refine lv_iconst (v := nI 0) hx hb dX0_receive_9 (by decide) ?_
    refine lv_istore_n (lv' := [(2, .int (nI 0)), (0, .ref (a 0)), (1, .int cn)]) hx hb dX0_receive_10 rfl hl (by decide) rfl (fun ls hl => ?_)
    rw [← dc_0 c9 e r0] at hP hD
    refine ja_loop (fun n H locs ls => ∃ (k : Nat), r0 + k + n = 81 ∧ k ≤ cn.toNatClampNeg ∧ ja_I A G s.heap (Xw d a (nf D) B (nf (dc c9 e r0 (r0 + k))) (nf od) (nf rk) (nI 1) ln (nI ((stm e (r0 + k)).length)) (nI (r0 + k)) (nI ((wb e (r0 + k)).1)) ((wb e (r0 + k)).2)) 7 [(0, .ref (a 0)), (1, .int cn), (2, .int (nI k))] H locs ls) ?_ (81 - r0) ⟨0, by omega, Nat.zero_le _, hP, hD, hS, lv_sub hl [1, 2, 0] rfl⟩
    intro n ih H locs ls hI
    obtain ⟨k, hk, hkc, hP, hD, hS, hl⟩ := hI
    refine lv_iload_n hx hb dX0_receive_11 rfl (lv_at hl 2 rfl) ?_
    refine lv_iload_n hx hb dX0_receive_12 rfl (lv_at hl 1 rfl) ?_
    refine lv_icmp_ge (tgt := 99) hx hb dX0_receive_13 (by decide) (fun c_2 => ?_) (fun c_2 => ?_)
    · have hr9 : rcv r0 cn = r0 + k := by unfold rcv; have := cn_le (by omega) c_2; omega
      rw [hr9]
      refine lv_aload_n hx hb dX0_receive_99 rfl (lv_at hl 0 rfl) ?_
      refine va_get (D := G) (ci := 0) (v := .int (nI (r0 + k))) (C := RX0) (T := TX0) (N := 11) hx hb hts in_X0 hown hK hP 0 rfl rfl 5 (by decide) (hts _ q29) (fun _ h9 => h9) rfl dX0_receive_100 ?_
      exact jr_i hx hb hr hlocks hP hD hS rfl dX0_receive_103
    · have hk1 := cn_lt (by omega) c_2
      refine lv_iload_n hx hb dX0_receive_16 rfl (lv_at hl 2 rfl) ?_
      refine lv_bipush (v := nI 81) hx hb dX0_receive_17 (by decide) ?_
      refine jn_ge (tgt := 99) hx hb (by omega) (by omega) dX0_receive_19 (by decide) (fun c_3 => ?_) (fun c_3 => ?_)
      · have hr9 : rcv r0 cn = r0 + k := by unfold rcv; omega
        rw [hr9]
        refine lv_aload_n hx hb dX0_receive_99 rfl (lv_at hl 0 rfl) ?_
        refine va_get (D := G) (ci := 0) (v := .int (nI (r0 + k))) (C := RX0) (T := TX0) (N := 11) hx hb hts in_X0 hown hK hP 0 rfl rfl 5 (by decide) (hts _ q29) (fun _ h9 => h9) rfl dX0_receive_100 ?_
        exact jr_i hx hb hr hlocks hP hD hS rfl dX0_receive_103
      · refine lv_aload_n hx hb dX0_receive_22 rfl (lv_at hl 0 rfl) ?_
        refine va_get (D := G) (ci := 0) (v := .int (nI (r0 + k))) (C := RX0) (T := TX0) (N := 11) hx hb hts in_X0 hown hK hP 0 rfl rfl 5 (by decide) (hts _ q29) (fun _ h9 => h9) rfl dX0_receive_23 ?_
        refine lv_bipush (v := nI 81) hx hb dX0_receive_26 (by decide) ?_
        refine jn_ge (tgt := 99) hx hb (by omega) (by omega) dX0_receive_28 (by decide) (fun c_4 => ?_) (fun c_4 => ?_)
        · have hr9 : rcv r0 cn = r0 + k := by unfold rcv; omega
          rw [hr9]
          refine lv_aload_n hx hb dX0_receive_99 rfl (lv_at hl 0 rfl) ?_
          refine va_get (D := G) (ci := 0) (v := .int (nI (r0 + k))) (C := RX0) (T := TX0) (N := 11) hx hb hts in_X0 hown hK hP 0 rfl rfl 5 (by decide) (hts _ q29) (fun _ h9 => h9) rfl dX0_receive_100 ?_
          exact jr_i hx hb hr hlocks hP hD hS rfl dX0_receive_103
        · have hod := tb_od (r0 + k) (by omega)
          have hsl := stm_len e (r0 + k)
          have hg : gs (dc c9 e r0 (r0 + k)) (od (r0 + k)) = gs e (od (r0 + k)) := dc_g hce (by omega)
          refine lv_aload_n hx hb dX0_receive_31 rfl (lv_at hl 0 rfl) ?_
          refine va_get (D := G) (ci := 0) (v := .ref (a 4)) (C := RX0) (T := TX0) (N := 11) hx hb hts in_X0 hown hK hP 0 rfl rfl 7 (by decide) (hts _ q31) (fun _ h9 => h9) rfl dX0_receive_32 ?_
          refine lv_aload_n hx hb dX0_receive_35 rfl (lv_at hl 0 rfl) ?_
          refine va_get (D := G) (ci := 0) (v := .int (nI (r0 + k))) (C := RX0) (T := TX0) (N := 11) hx hb hts in_X0 hown hK hP 0 rfl rfl 5 (by decide) (hts _ q29) (fun _ h9 => h9) rfl dX0_receive_36 ?_
          refine ja_ld hx hb hK hP 4 0 rfl rfl (k := r0 + k) (by omega) (by decide) (v := nI (od (r0 + k))) rfl dX0_receive_39 ?_
          refine lv_istore_n (lv' := [(3, .int (nI (od (r0 + k)))), (0, .ref (a 0)), (1, .int cn), (2, .int (nI k))]) hx hb dX0_receive_40 rfl hl (by decide) rfl (fun ls hl => ?_)
          refine lv_aload_n hx hb dX0_receive_41 rfl (lv_at hl 1 rfl) ?_
          refine kc_Vi (wr := []) (w1 := Xw d a (nf D) B (nf (dc c9 e r0 (r0 + k))) (nf od) (nf rk) (nI 1) ln (nI ((stm e (r0 + k)).length + (cd (fo e (r0 + k)) (wb e (r0 + k)).1).length)) (nI (r0 + k)) (nI ((wb e (r0 + k)).1)) ((wb e (r0 + k)).2)) (rest := []) ⟨hx, hb, hml, hown, hts⟩ (mX0_readCode l G d a (nf D) B (nf (dc c9 e r0 (r0 + k))) (nI 1) ln (nI (r0 + k)) (wb e (r0 + k)).2 (stm e (r0 + k)).length (fo e (r0 + k)) (wb e (r0 + k)).1 (by omega) (fo_lt e _) (wb_le e _) (hst _ (by omega))) (cwV 0 hts (lw_V q109 q111 qs7 q11 q112) rfl rfl rfl (by decide +kernel) ⟨(Nat.le_of_ble_eq_true rfl), (Nat.le_of_ble_eq_true rfl)⟩) hK [0] rfl hP hD hS hA [0, 1, 2, 3, 4, 5] [] rfl rfl rfl rfl (by decide) (ci := 0) rfl rfl rfl hl.1 rfl (Nat.le_of_ble_eq_true rfl) dX0_receive_42 ⟨(Nat.le_of_ble_eq_true rfl), (Nat.le_of_ble_eq_true rfl)⟩ (fun H locs hP hD hS => ?_)
          have hP : va_P G vwCl (Xw d a (nf D) B (nf (dc c9 e r0 (r0 + k))) (nf od) (nf rk) (nI 1) ln (nI ((stm e (r0 + k)).length + (cd (fo e (r0 + k)) (wb e (r0 + k)).1).length)) (nI (r0 + k)) (nI ((wb e (r0 + k)).1)) ((wb e (r0 + k)).2)) H := hP
          have hD : va_D A (Xw d a (nf D) B (nf (dc c9 e r0 (r0 + k))) (nf od) (nf rk) (nI 1) ln (nI ((stm e (r0 + k)).length + (cd (fo e (r0 + k)) (wb e (r0 + k)).1).length)) (nI (r0 + k)) (nI ((wb e (r0 + k)).1)) ((wb e (r0 + k)).2)) := hD
          rw [← stm_l1] at hP hD
          have hF := mX0_foretell l G d a D (dc c9 e r0 (r0 + k)) (dc c9 e r0 (r0 + k)) B (nI 1) ln (nI (stm e (r0 + k + 1)).length) (nI (r0 + k)) (nI (wb e (r0 + k)).1) (wb e (r0 + k)).2 (od (r0 + k)) 0 hod (by decide) rfl (dc_lt hc he _ _)
          rw [hg] at hF
          refine lv_istore (lv' := [(4, .int (nI (fo e (r0 + k)))), (3, .int (nI (od (r0 + k)))), (0, .ref (a 0)), (1, .int cn), (2, .int (nI k))]) hx hb dX0_receive_45 hl (by decide) rfl (fun ls hl => ?_)
          refine lv_aload_n hx hb dX0_receive_47 rfl (lv_at hl 2 rfl) ?_
          refine lv_iload_n hx hb dX0_receive_48 rfl (lv_at hl 1 rfl) ?_
          refine lv_iconst (v := nI 0) hx hb dX0_receive_49 (by decide) ?_
          refine kc_Vi (wr := []) (w1 := Xw d a (nf D) B (nf (dc c9 e r0 (r0 + k))) (nf od) (nf rk) (nI 1) ln (nI ((stm e (r0 + k + 1)).length)) (nI (r0 + k)) (nI ((wb e (r0 + k)).1)) ((wb e (r0 + k)).2)) (rest := []) ⟨hx, hb, hml, hown, hts⟩ (hF) (cwV 2 hts (lw_V q78 q80 qs1 q11 q81) rfl rfl rfl (by decide +kernel) ⟨(Nat.le_of_ble_eq_true rfl), (Nat.le_of_ble_eq_true rfl)⟩) hK [0] rfl hP hD hS hA [0, 1, 2, 3, 4, 5] [] rfl rfl rfl rfl (by decide) (ci := 0) rfl rfl rfl hl.1 rfl (Nat.le_of_ble_eq_true rfl) dX0_receive_50 ⟨(Nat.le_of_ble_eq_true rfl), (Nat.le_of_ble_eq_true rfl)⟩ (fun H locs hP hD hS => ?_)
          have hP : va_P G vwCl (Xw d a (nf D) B (nf (dc c9 e r0 (r0 + k))) (nf od) (nf rk) (nI 1) ln (nI ((stm e (r0 + k + 1)).length)) (nI (r0 + k)) (nI ((wb e (r0 + k)).1)) ((wb e (r0 + k)).2)) H := hP
          have hD : va_D A (Xw d a (nf D) B (nf (dc c9 e r0 (r0 + k))) (nf od) (nf rk) (nI 1) ln (nI ((stm e (r0 + k + 1)).length)) (nI (r0 + k)) (nI ((wb e (r0 + k)).1)) ((wb e (r0 + k)).2)) := hD
          refine lv_istore (lv' := [(5, .int (nI (gs e (od (r0 + k))))), (4, .int (nI (fo e (r0 + k)))), (3, .int (nI (od (r0 + k)))), (0, .ref (a 0)), (1, .int cn), (2, .int (nI k))]) hx hb dX0_receive_53 hl (by decide) rfl (fun ls hl => ?_)
          refine lv_iload hx hb dX0_receive_55 (lv_at hl 1 rfl) ?_
          refine kc_Si (wr := Xw d a (nf D) B (nf (dc c9 e r0 (r0 + k))) (nf od) (nf rk) (nI 1) ln (nI ((stm e (r0 + k + 1)).length)) (nI (r0 + k)) (nI ((wb e (r0 + k)).1)) ((wb e (r0 + k)).2)) (w1 := []) (rest := []) ⟨hx, hb, hml, hown, hts⟩ (mX0_unfold l G (fo e (r0 + k)) (by have := fo_lt e (r0 + k); omega)) (va_cwS 1 hts (lw_S q121 q122 q11 q123) rfl rfl rfl (by decide +kernel) ⟨(Nat.le_of_ble_eq_true rfl), (Nat.le_of_ble_eq_true rfl)⟩) hK [] rfl hP hD hS hA [] [0, 1, 2, 3, 4, 5] rfl rfl rfl rfl (by decide) rfl hl.1 rfl (Nat.le_of_ble_eq_true rfl) dX0_receive_57 ⟨(Nat.le_of_ble_eq_true rfl), (Nat.le_of_ble_eq_true rfl)⟩ (fun H locs hP hD hS => ?_)
          have hP : va_P G vwCl (Xw d a (nf D) B (nf (dc c9 e r0 (r0 + k))) (nf od) (nf rk) (nI 1) ln (nI ((stm e (r0 + k + 1)).length)) (nI (r0 + k)) (nI ((wb e (r0 + k)).1)) ((wb e (r0 + k)).2)) H := hP
          have hD : va_D A (Xw d a (nf D) B (nf (dc c9 e r0 (r0 + k))) (nf od) (nf rk) (nI 1) ln (nI ((stm e (r0 + k + 1)).length)) (nI (r0 + k)) (nI ((wb e (r0 + k)).1)) ((wb e (r0 + k)).2)) := hD
          have g1 := gs_lt he (od (r0 + k))
          have g2 := uf_lt (fo e (r0 + k)) (fo_lt e _)
          refine lv_istore (lv' := [(6, .int (nI (uf (fo e (r0 + k))))), (5, .int (nI (gs e (od (r0 + k))))), (4, .int (nI (fo e (r0 + k)))), (3, .int (nI (od (r0 + k)))), (0, .ref (a 0)), (1, .int cn), (2, .int (nI k))]) hx hb dX0_receive_60 hl (by decide) rfl (fun ls hl => ?_)
          refine lv_aload_n hx hb dX0_receive_62 rfl (lv_at hl 4 rfl) ?_
          refine va_get (D := G) (ci := 0) (v := .ref (a 3)) (C := RX0) (T := TX0) (N := 11) hx hb hts in_X0 hown hK hP 0 rfl rfl 6 (by decide) (hts _ q30) (fun _ h9 => h9) rfl dX0_receive_63 ?_
          refine lv_iload_n hx hb dX0_receive_66 rfl (lv_at hl 3 rfl) ?_
          refine lv_iload hx hb dX0_receive_67 (lv_at hl 1 rfl) ?_
          refine lv_iload hx hb dX0_receive_69 (lv_at hl 0 rfl) ?_
          refine ji_add hx hb dX0_receive_71 (v := nI ((gs e (od (r0 + k))) + (uf (fo e (r0 + k))))) (nI_add (gs e (od (r0 + k))) (uf (fo e (r0 + k)))) ?_
          refine lv_sipush (v := nI 255) hx hb dX0_receive_72 (by decide) ?_
          refine ji_and hx hb dX0_receive_75 (v := nI (e (od (r0 + k)))) (by rw [ar_and255N (by omega)]; exact congrArg nI (dec_ok (he _) g1)) ?_
          refine ja_st hx hb hK hP hD hS 3 0 rfl rfl (k := od (r0 + k)) hod (by decide) (f' := nf (dc c9 e r0 (r0 + k + 1))) (by rw [ar_nf_upd, dc_up (by omega) (by omega)]) dX0_receive_76 (fun H locs hP hD hS => ?_)
          have hP : va_P G vwCl (Xw d a (nf D) B (nf (dc c9 e r0 (r0 + k + 1))) (nf od) (nf rk) (nI 1) ln (nI ((stm e (r0 + k + 1)).length)) (nI (r0 + k)) (nI ((wb e (r0 + k)).1)) ((wb e (r0 + k)).2)) H := hP
          have hD : va_D A (Xw d a (nf D) B (nf (dc c9 e r0 (r0 + k + 1))) (nf od) (nf rk) (nI 1) ln (nI ((stm e (r0 + k + 1)).length)) (nI (r0 + k)) (nI ((wb e (r0 + k)).1)) ((wb e (r0 + k)).2)) := hD
          refine lv_aload_n hx hb dX0_receive_77 rfl (lv_at hl 4 rfl) ?_
          refine lv_iload hx hb dX0_receive_78 (lv_at hl 2 rfl) ?_
          refine kc_Vv (wr := []) (w1 := Xw d a (nf D) B (nf (dc c9 e r0 (r0 + k + 1))) (nf od) (nf rk) (nI 1) ln (nI ((stm e (r0 + k + 1)).length)) (nI (r0 + k)) (nI ((wb e (r0 + k + 1)).1)) ((wb e (r0 + k + 1)).2)) (rest := []) ⟨hx, hb, hml, hown, hts⟩ (mX0_adapt l G d a (nf D) B (nf (dc c9 e r0 (r0 + k + 1))) (nI 1) ln (nI (stm e (r0 + k + 1)).length) (nI (r0 + k)) (wb e (r0 + k)).2 (wb e (r0 + k)).1 (fo e (r0 + k)) (wb_le e _) (fo_lt e _)) (cwV 1 hts (lw_V q101 q103 qs6 q11 q104) rfl rfl rfl (by decide +kernel) ⟨(Nat.le_of_ble_eq_true rfl), (Nat.le_of_ble_eq_true rfl)⟩) hK [0] rfl hP hD hS hA [0, 1, 2, 3, 4, 5] [] rfl rfl rfl rfl (by decide) (ci := 0) rfl rfl rfl hl.1 rfl (Nat.le_of_ble_eq_true rfl) dX0_receive_80 ⟨(Nat.le_of_ble_eq_true rfl), (Nat.le_of_ble_eq_true rfl)⟩ (fun H locs hP hD hS => ?_)
          have hP : va_P G vwCl (Xw d a (nf D) B (nf (dc c9 e r0 (r0 + k + 1))) (nf od) (nf rk) (nI 1) ln (nI ((stm e (r0 + k + 1)).length)) (nI (r0 + k)) (nI ((wb e (r0 + k + 1)).1)) ((wb e (r0 + k + 1)).2)) H := hP
          have hD : va_D A (Xw d a (nf D) B (nf (dc c9 e r0 (r0 + k + 1))) (nf od) (nf rk) (nI 1) ln (nI ((stm e (r0 + k + 1)).length)) (nI (r0 + k)) (nI ((wb e (r0 + k + 1)).1)) ((wb e (r0 + k + 1)).2)) := hD
          refine lv_aload_n hx hb dX0_receive_83 rfl (lv_at hl 4 rfl) ?_
          refine lv_dup hx hb dX0_receive_84 rfl ?_
          refine va_get (D := G) (ci := 0) (v := .int (nI (r0 + k))) (C := RX0) (T := TX0) (N := 11) hx hb hts in_X0 hown hK hP 0 rfl rfl 5 (by decide) (hts _ q29) (fun _ h9 => h9) rfl dX0_receive_85 ?_
          refine lv_iconst (v := nI 1) hx hb dX0_receive_88 (by decide) ?_
          refine ji_add hx hb dX0_receive_89 (v := nI ((r0 + k) + 1)) (nI_add (r0 + k) 1) ?_
          refine va_put (D := G) (ci := 0) (v := .int (nI ((r0 + k) + 1))) (ty := .int) (C := RX0) (T := TX0) (N := 11) hx hb hts in_X0 tyX0 tyX0_ok nmX0 hown hK hP hD hS 0 rfl rfl 5 (by decide) (hts _ q29) (fun _ h9 => h9) rfl (by decide +kernel) rfl rfl (Nat.le_of_ble_eq_true rfl) dX0_receive_90 (fun H locs hP hD hS => ?_)
          have hP : va_P G vwCl (Xw d a (nf D) B (nf (dc c9 e r0 (r0 + k + 1))) (nf od) (nf rk) (nI 1) ln (nI ((stm e (r0 + k + 1)).length)) (nI ((r0 + k) + 1)) (nI ((wb e (r0 + k + 1)).1)) ((wb e (r0 + k + 1)).2)) H := hP
          have hD : va_D A (Xw d a (nf D) B (nf (dc c9 e r0 (r0 + k + 1))) (nf od) (nf rk) (nI 1) ln (nI ((stm e (r0 + k + 1)).length)) (nI ((r0 + k) + 1)) (nI ((wb e (r0 + k + 1)).1)) ((wb e (r0 + k + 1)).2)) := hD
          refine lv_iinc (v := nI (k + 1)) (lv' := [(2, .int (nI (k + 1))), (6, .int (nI (uf (fo e (r0 + k))))), (5, .int (nI (gs e (od (r0 + k))))), (4, .int (nI (fo e (r0 + k)))), (3, .int (nI (od (r0 + k)))), (0, .ref (a 0)), (1, .int cn)]) hx hb dX0_receive_93 hl (k := 6) rfl (nI_1 k) (by decide) rfl (fun ls hl => ?_)
          refine lv_goto (tgt := 11) hx hb dX0_receive_96 (by decide) ?_
          exact ih (n - 1) (by omega) _ _ _ ⟨k + 1, by omega, by omega, hP, hD, hS, lv_sub hl [5, 6, 0] rfl⟩
  · exact absurd c_1 (by decide)
end
section
theorem wB_at (B : Nat → Int32) (n b j : Nat) (h : j / 32 = n / 32) : wB B n b (j / 32) = (B (j / 32) ||| nI b <<< (nI (n % 32) &&& 31)) := by
  unfold wB upd
  rw [if_pos h, h]
theorem wB_off (B : Nat → Int32) (n b j : Nat) (h : ¬ j / 32 = n / 32) : wB B n b (j / 32) = B (j / 32) := by
  unfold wB upd
  rw [if_neg h]
theorem rb_tb (x i : Nat) : x / 2 ^ i % 2 = (x.testBit i).toNat := by
  rw [Nat.testBit_eq_decide_div_mod_eq]
  have := Nat.mod_lt (x / 2 ^ i) (show 0 < 2 by decide)
  by_cases h : x / 2 ^ i % 2 = 1
  · simp [h]
  · simp [h]
    omega
theorem wB_nat {x : Int32} {b s : Nat} (hb : b < 2) (hs : s < 32) : (x ||| nI b <<< (nI s &&& 31)).toBitVec.toNat = x.toBitVec.toNat ||| b * 2 ^ s := by
  have h1 : (nI b <<< (nI s &&& 31)).toBitVec.toNat = b * 2 ^ s := by
    rw [pk_shl (nI b) _ s (sh_l s hs), pk_tn (by omega)]
    have h2 : 2 ^ s < 2 ^ 32 := Nat.pow_lt_pow_right (by decide) hs
    refine Nat.mod_eq_of_lt ?_
    rcases (show b = 0 ∨ b = 1 by omega) with rfl | rfl
    · rw [Nat.zero_mul]; decide
    · rw [Nat.one_mul]; exact h2
  show (x.toBitVec ||| (nI b <<< (nI s &&& 31)).toBitVec).toNat = _
  rw [BitVec.toNat_or, h1]
theorem rB_wB {B : Nat → Int32} {n b j : Nat} (hb : b < 2) (h0 : rB B n = 0) : rB (wB B n b) j = if j = n then b else rB B j := by
  by_cases hw : j / 32 = n / 32
  · unfold rB
    rw [wB_at B n b j hw, wB_nat hb (Nat.mod_lt _ (by decide)), rb_tb, Nat.testBit_or]
    unfold rB at h0
    rw [← hw, rb_tb] at h0
    rcases (show b = 0 ∨ b = 1 by omega) with rfl | rfl
    · rw [Nat.zero_mul, Nat.zero_testBit, Bool.or_false, ← rb_tb]
      by_cases hj : j = n
      · rw [if_pos hj, hj]
        rw [hw, ← rb_tb] at h0
        exact h0
      · rw [if_neg hj]
    · rw [Nat.one_mul, Nat.testBit_two_pow]
      by_cases hj : j = n
      · rw [if_pos hj, hj]
        simp
      · rw [if_neg hj]
        have hne : ¬ n % 32 = j % 32 := by omega
        simp only [hne, decide_false, Bool.or_false]
        rw [← rb_tb]
  · rw [if_neg (by intro z; exact hw (by rw [z]))]
    unfold rB
    rw [wB_off B n b j hw]
theorem wL_rd : ∀ (L : List Nat) (B : Nat → Int32) (n : Nat), (∀ b ∈ L, b < 2) → n + L.length ≤ 1536 → (∀ j, n ≤ j → j < 1536 → rB B j = 0) → ∀ j, j < 1536 → rB (wL L B n) j = if j < n then rB B j else L.getD (j - n) 0 := by
  intro L
  induction L with
  | nil =>
    intro B n _ _ hz j hj
    show rB B j = _
    by_cases h : j < n
    · rw [if_pos h]
    · rw [if_neg h, hz j (by omega) hj]
      rfl
  | cons b L ih =>
    intro B n hb hn hz j hj
    have hb0 : b < 2 := hb b List.mem_cons_self
    have hn1 : n + (L.length + 1) ≤ 1536 := hn
    have h0 : rB B n = 0 := hz n (Nat.le_refl n) (by omega)
    show rB (wL L (wB B n b) (n + 1)) j = _
    rw [ih (wB B n b) (n + 1) (fun x hx => hb x (List.mem_cons_of_mem _ hx)) (by omega) (fun i h1 h2 => by rw [rB_wB hb0 h0, if_neg (by omega)]; exact hz i (by omega) h2) j hj]
    rcases Nat.lt_trichotomy j n with h | h | h
    · rw [if_pos (by omega), if_pos h, rB_wB hb0 h0, if_neg (by omega)]
    · rw [if_pos (by omega), if_neg (by omega), rB_wB hb0 h0, if_pos h, h, Nat.sub_self]
      rfl
    · rw [if_neg (by omega), if_neg (by omega), show j - n = (j - (n + 1)) + 1 by omega]
      rfl
theorem bt_2 (v c : Nat) : ∀ b ∈ bt v c, b < 2 := by
  induction c with
  | zero => intro b h; cases h
  | succ c ih =>
    intro b h
    rcases List.mem_cons.mp h with h | h
    · rw [h]; exact Nat.mod_lt _ (by decide)
    · exact ih b h
theorem cd_2 (f w : Nat) : ∀ b ∈ cd f w, b < 2 := by
  intro b h
  unfold cd at h
  split at h
  · rcases List.mem_append.mp h with h | h
    · rw [List.eq_of_mem_replicate h]; decide
    · exact bt_2 _ _ b h
  · rcases List.mem_append.mp h with h | h
    · rw [List.eq_of_mem_replicate h]; decide
    · rcases List.mem_cons.mp h with h | h
      · rw [h]; decide
      · exact bt_2 _ _ b h
theorem stm_2 (e : Nat → Nat) (k : Nat) : ∀ b ∈ stm e k, b < 2 := by
  induction k with
  | zero => intro b h; cases h
  | succ k ih =>
    intro b h
    rcases List.mem_append.mp h with h | h
    · exact ih b h
    · exact cd_2 _ _ b h
theorem stm_cut (e : Nat → Nat) (k : Nat) : ∀ n, ∃ R, stm e (k + 1 + n) = stm e k ++ (cd (fo e k) (wb e k).1 ++ R) := by
  intro n
  induction n with
  | zero => exact ⟨[], by rw [List.append_nil]; rfl⟩
  | succ n ih =>
    obtain ⟨R, hR⟩ := ih
    refine ⟨R ++ cd (fo e (k + 1 + n)) (wb e (k + 1 + n)).1, ?_⟩
    show stm e (k + 1 + n) ++ cd (fo e (k + 1 + n)) (wb e (k + 1 + n)).1 = _
    rw [hR, List.append_assoc, List.append_assoc]
theorem clr_z (B : Nat → Int32) : ∀ j, j < 1536 → rB (clr B 48) j = 0 := by
  intro j hj
  unfold rB clr
  rw [if_pos (by omega)]
  show (0 : Nat) / 2 ^ (j % 32) % 2 = 0
  rw [Nat.zero_div]
/-- what was sent lies in the bits, code by code -/
theorem str_all (e : Nat → Nat) (B : Nat → Int32) : ∀ k, k < 81 → Str (wL (stm e 81) (clr B 48) 0) (stm e k).length (cd (fo e k) (wb e k).1) := by
  intro k hk j hj
  have h81 := stm_len e 81
  have hsl := stm_len e k
  have hcl := cd_len (f := fo e k) (wb_le e k)
  rw [wL_rd (stm e 81) (clr B 48) 0 (stm_2 e 81) (by omega) (fun i _ h => clr_z B i h) _ (by omega), if_neg (by omega), Nat.sub_zero]
  obtain ⟨R, hR⟩ := stm_cut e k (80 - k)
  rw [show k + 1 + (80 - k) = 81 by omega] at hR
  rw [hR, gD_r rfl, gD_l hj]
/-- sums -/
def sm (g : Nat → Nat) : Nat → Nat
  | 0 => 0
  | k + 1 => sm g k + g k
theorem sm_list (g : Nat → Nat) (n : Nat) : sm g n = ((List.range n).map g).sum := by
  induction n with
  | zero => rfl
  | succ n ih =>
    rw [List.range_succ, List.map_append, List.sum_append, ← ih]
    simp [sm]
theorem sm_same {g h : Nat → Nat} {n : Nat} (e : ∀ k, k < n → g k = h k) : sm g n = sm h n := by
  induction n with
  | zero => rfl
  | succ n ih =>
    show sm g n + g n = sm h n + h n
    rw [ih (fun k hk => e k (by omega)), e n (by omega)]
theorem od_perm : List.Perm ((List.range 81).map od) (List.range 81) := List.isPerm_iff.mp (by decide +kernel)
theorem sm_od (g : Nat → Nat) : sm (fun k => g (od k)) 81 = sm g 81 := by
  rw [sm_list, sm_list]
  have h := (od_perm.map g).sum_nat
  rw [List.map_map] at h
  exact h
theorem sm_1 {g : Nat → Nat} {k : Nat} (h : g k = 1) : sm g (k + 1) = sm g k + 1 := by
  show sm g k + g k = _
  rw [h]
theorem sm_0 {g : Nat → Nat} {k : Nat} (h : g k = 0) : sm g (k + 1) = sm g k := by
  show sm g k + g k = _
  rw [h, Nat.add_zero]
/-- what the class counts and adds; what the reference counts and adds -/
def ctX (s9 rc : Nat) (lo hi : Int32) (c : Nat → Nat) (k : Nat) : Nat := if ¬ s9 = 0 ∧ k < rc ∧ ¬ nI (c (od k)) < lo ∧ ¬ hi < nI (c (od k)) then 1 else 0
def suX (s9 rc : Nat) (c : Nat → Nat) (k : Nat) : Nat := if ¬ s9 = 0 ∧ k < rc then c (od k) else 0
def ctM (rc : Nat) (lo hi : Int32) (e : Nat → Nat) (q : Nat) : Nat := if rk q < rc ∧ ¬ nI (e q) < lo ∧ ¬ hi < nI (e q) then 1 else 0
def suM (rc : Nat) (e : Nat → Nat) (q : Nat) : Nat := if rk q < rc then e q else 0
theorem ct_same {s9 rc : Nat} {lo hi : Int32} {c e : Nat → Nat} (h0 : s9 = 0 → rc = 0) (hr : rc ≤ 81) (h : ∀ k, k < rc → c (od k) = e (od k)) : sm (ctX s9 rc lo hi c) 81 = sm (ctM rc lo hi e) 81 := by
  rw [← sm_od (ctM rc lo hi e)]
  refine sm_same (fun k hk => ?_)
  unfold ctX ctM
  rw [tb_ro k hk]
  by_cases hk2 : k < rc
  · have hs : ¬ s9 = 0 := fun z => by have := h0 z; omega
    rw [h k hk2]
    simp only [hs, hk2, not_false_eq_true, true_and]
  · rw [if_neg (fun z => hk2 z.2.1), if_neg (fun z => hk2 z.1)]
theorem su_same {s9 rc : Nat} {c e : Nat → Nat} (h0 : s9 = 0 → rc = 0) (hr : rc ≤ 81) (h : ∀ k, k < rc → c (od k) = e (od k)) : sm (suX s9 rc c) 81 = sm (suM rc e) 81 := by
  rw [← sm_od (suM rc e)]
  refine sm_same (fun k hk => ?_)
  unfold suX suM
  rw [tb_ro k hk]
  by_cases hk2 : k < rc
  · have hs : ¬ s9 = 0 := fun z => by have := h0 z; omega
    rw [h k hk2, if_pos ⟨hs, hk2⟩, if_pos hk2]
  · rw [if_neg (fun z => hk2 z.2), if_neg hk2]
/-- a ramp, as far as place k -/
def rpv (b dx dy : Int32) (j : Nat) : Nat := (b + dx * nI (j % 9) + dy * nI (j / 9)).toBitVec.toNat % 256
def rmp (b dx dy : Int32) (f : Nat → Nat) (k : Nat) : Nat → Nat := fun j => if j < k then rpv b dx dy j else f j
theorem rmp_0 (b dx dy : Int32) (f : Nat → Nat) : rmp b dx dy f 0 = f := by
  funext j
  unfold rmp
  rw [if_neg (by omega)]
theorem rmp_s (b dx dy : Int32) (f : Nat → Nat) (k : Nat) : up (rmp b dx dy f k) k (rpv b dx dy k) = rmp b dx dy f (k + 1) := by
  funext j
  unfold up rmp
  by_cases h : j = k
  · rw [if_pos h, if_pos (by omega), h]
  · rw [if_neg h]
    by_cases h2 : j < k
    · rw [if_pos h2, if_pos (by omega)]
    · rw [if_neg h2, if_neg (by omega)]
theorem rmp_lt {f : Nat → Nat} (h : ∀ j, f j < 256) (b dx dy : Int32) (k : Nat) : ∀ j, rmp b dx dy f k j < 256 := by
  intro j
  unfold rmp
  split
  · exact Nat.mod_lt _ (by decide)
  · exact h j
/-- the picture is kept as far as place k -/
def cpy (e f : Nat → Nat) (k : Nat) : Nat → Nat := fun j => if j < k then f j else e j
theorem cpy_0 (e f : Nat → Nat) : cpy e f 0 = e := by
  funext j
  unfold cpy
  rw [if_neg (by omega)]
theorem cpy_s (e f : Nat → Nat) (k : Nat) : up (cpy e f k) k (f k) = cpy e f (k + 1) := by
  funext j
  unfold up cpy
  by_cases h : j = k
  · rw [if_pos h, if_pos (by omega), h]
  · rw [if_neg h]
    by_cases h2 : j < k
    · rw [if_pos h2, if_pos (by omega)]
    · rw [if_neg h2, if_neg (by omega)]
/-- a point in the picture -/
theorem ip_of {x y : Int32} (h : ip x y) : ∃ i j : Nat, i < 9 ∧ j < 9 ∧ x = nI i ∧ y = nI j := by
  obtain ⟨h1, h2, h3, h4⟩ := h
  obtain ⟨i, hi, ex⟩ := nI_of2 (M := nI 8) (n := 8) (by decide) h1 (Int32.not_lt.mp h2)
  obtain ⟨j, hj, ey⟩ := nI_of2 (M := nI 8) (n := 8) (by decide) h3 (Int32.not_lt.mp h4)
  exact ⟨i, j, by omega, by omega, ex, ey⟩
theorem ip_nI {i j : Nat} (hi : i < 9) (hj : j < 9) : ip (nI i) (nI j) := ⟨nI_pos (by omega), nI_nlt (by omega) (by omega), nI_pos (by omega), nI_nlt (by omega) (by omega)⟩
/-- what pixel answers -/
def pxv (s9 rc : Nat) (f : Nat → Nat) (q : Nat) : Int32 := if ¬ s9 = 0 ∧ rk q < rc then nI (f q) else (-1)
theorem px_same {s9 rc : Nat} {c e : Nat → Nat} {q : Nat} (hq : q < 81) (h : ∀ k, k < rc → c (od k) = e (od k)) : pxv s9 rc c q = pxv s9 rc e q := by
  unfold pxv
  by_cases hb : ¬ s9 = 0 ∧ rk q < rc
  · have := h (rk q) hb.2
    rw [tb_or q hq] at this
    rw [if_pos hb, if_pos hb, this]
  · rw [if_neg hb, if_neg hb]
/-- how the reference finds a rank -/
def plj (i : Nat) (j : Nat) : Nat := if stp i < stp j ∨ (stp j = stp i ∧ j < i) then 1 else 0
theorem tb_pl : ∀ q, q < 81 → sm (plj q) 81 = rk q := by decide +kernel
end
section
set_option maxHeartbeats 4000000 in
set_option maxRecDepth 100000 in
/-- a pixel is drawn -/
theorem mX0_draw1 (l : Launch) (G : va_G) (d : ClassId) (a : Nat → Nat) (D : Nat → Nat) (B C : Nat → Int32) (sn ln ra rc w b : Int32) (x y : Nat) (v : Int32) (hx9 : x < 9) (hy9 : y < 9) : MI l yX0_draw (ws_ yX0_draw cX0_draw 5 (some .int)) ro1 G [(d, .int)] [.ref (a 0), .int (nI x), .int (nI y), .int v] (Xw d a (nf D) B C (nf od) (nf rk) sn ln ra rc w b) (nI (D (9 * y + x))) (Xw d a (nf (up D (9 * y + x) (v.toBitVec.toNat % 256))) B C (nf od) (nf rk) sn ln ra rc w b) := by
  refine MI.ofW (by decide) (Nat.le_of_ble_eq_true rfl) ?_
  intro p e8 s m below meth c A hx hb hr hml hown hts hlocks hA hK hP hD ls hl
  have hS : va_S A s.heap s.heap [] := va_S.rf
  have hown : s.vm.findClass RX0 = some m.cls := hown
  have hl : lv_has ls 5 [(0, .ref (a 0)), (1, .int (nI x)), (2, .int (nI y)), (3, .int v)] := hl
  have hI := mX0_inPicture l G (nI x) (nI y)
  rw [if_pos (ip_nI hx9 hy9)] at hI
  refine lv_iload_n hx hb dX0_draw_0 rfl (lv_at hl 1 rfl) ?_
  refine lv_iload_n hx hb dX0_draw_1 rfl (lv_at hl 2 rfl) ?_
  refine kc_Si (wr := Xw d a (nf D) B C (nf od) (nf rk) sn ln ra rc w b) (w1 := []) (rest := []) ⟨hx, hb, hml, hown, hts⟩ (hI) (va_cwS 2 hts (lw_S q63 q64 q11 q65) rfl rfl rfl (by decide +kernel) ⟨(Nat.le_of_ble_eq_true rfl), (Nat.le_of_ble_eq_true rfl)⟩) hK [] rfl hP hD hS hA [] [0, 1, 2, 3, 4, 5] rfl rfl rfl rfl (by decide) rfl hl.1 rfl (Nat.le_of_ble_eq_true rfl) dX0_draw_2 ⟨(Nat.le_of_ble_eq_true rfl), (Nat.le_of_ble_eq_true rfl)⟩ (fun H locs hP hD hS => ?_)
  have hP : va_P G vwCl (Xw d a (nf D) B C (nf od) (nf rk) sn ln ra rc w b) H := hP
  have hD : va_D A (Xw d a (nf D) B C (nf od) (nf rk) sn ln ra rc w b) := hD
  refine jz_ne (tgt := 10) hx hb (by omega) dX0_draw_5 (by decide) (fun c_1 => ?_) (fun c_1 => ?_)
  · refine lv_aload_n hx hb dX0_draw_10 rfl (lv_at hl 0 rfl) ?_
    refine va_get (D := G) (ci := 0) (v := .ref (a 1)) (C := RX0) (T := TX0) (N := 11) hx hb hts in_X0 hown hK hP 0 rfl rfl 0 (by decide) (hts _ q24) (fun _ h9 => h9) rfl dX0_draw_11 ?_
    refine lv_bipush (v := nI 9) hx hb dX0_draw_14 (by decide) ?_
    refine lv_iload_n hx hb dX0_draw_16 rfl (lv_at hl 2 rfl) ?_
    refine ji_mul hx hb dX0_draw_17 (v := nI (9 * y)) (pk_mul 9 y) ?_
    refine lv_iload_n hx hb dX0_draw_18 rfl (lv_at hl 1 rfl) ?_
    refine ji_add hx hb dX0_draw_19 (v := nI ((9 * y) + x)) (nI_add (9 * y) x) ?_
    refine ja_ld hx hb hK hP 1 0 rfl rfl (k := (9 * y) + x) (by omega) (by decide) (v := nI (D ((9 * y) + x))) rfl dX0_draw_20 ?_
    refine lv_istore (lv' := [(4, .int (nI (D ((9 * y) + x)))), (0, .ref (a 0)), (1, .int (nI x)), (2, .int (nI y)), (3, .int v)]) hx hb dX0_draw_21 hl (by decide) rfl (fun ls hl => ?_)
    refine lv_aload_n hx hb dX0_draw_23 rfl (lv_at hl 1 rfl) ?_
    refine va_get (D := G) (ci := 0) (v := .ref (a 1)) (C := RX0) (T := TX0) (N := 11) hx hb hts in_X0 hown hK hP 0 rfl rfl 0 (by decide) (hts _ q24) (fun _ h9 => h9) rfl dX0_draw_24 ?_
    refine lv_bipush (v := nI 9) hx hb dX0_draw_27 (by decide) ?_
    refine lv_iload_n hx hb dX0_draw_29 rfl (lv_at hl 3 rfl) ?_
    refine ji_mul hx hb dX0_draw_30 (v := nI (9 * y)) (pk_mul 9 y) ?_
    refine lv_iload_n hx hb dX0_draw_31 rfl (lv_at hl 2 rfl) ?_
    refine ji_add hx hb dX0_draw_32 (v := nI ((9 * y) + x)) (nI_add (9 * y) x) ?_
    refine lv_iload_n hx hb dX0_draw_33 rfl (lv_at hl 4 rfl) ?_
    refine lv_sipush (v := nI 255) hx hb dX0_draw_34 (by decide) ?_
    refine ji_and hx hb dX0_draw_37 (v := nI (v.toBitVec.toNat % 256)) (ar_and255 v) ?_
    refine ja_st hx hb hK hP hD hS 1 0 rfl rfl (k := (9 * y) + x) (by omega) (by decide) (f' := nf (up D (9 * y + x) (v.toBitVec.toNat % 256))) (ar_nf_upd _ _ _) dX0_draw_38 (fun H locs hP hD hS => ?_)
    have hP : va_P G vwCl (Xw d a (nf (up D (9 * y + x) (v.toBitVec.toNat % 256))) B C (nf od) (nf rk) sn ln ra rc w b) H := hP
    have hD : va_D A (Xw d a (nf (up D (9 * y + x) (v.toBitVec.toNat % 256))) B C (nf od) (nf rk) sn ln ra rc w b) := hD
    refine lv_iload hx hb dX0_draw_39 (lv_at hl 0 rfl) ?_
    exact jr_i hx hb hr hlocks hP hD hS rfl dX0_draw_41
  · exact absurd c_1 (by decide)
set_option maxHeartbeats 4000000 in
set_option maxRecDepth 100000 in
/-- outside nothing is drawn -/
theorem mX0_draw0 (l : Launch) (G : va_G) (d : ClassId) (a : Nat → Nat) (D B C : Nat → Int32) (sn ln ra rc w b : Int32) (x y v : Int32) (hno : ¬ ip x y) : MI l yX0_draw (ws_ yX0_draw cX0_draw 5 (some .int)) ro1 G [(d, .int)] [.ref (a 0), .int x, .int y, .int v] (Xw d a D B C (nf od) (nf rk) sn ln ra rc w b) (-1) (Xw d a D B C (nf od) (nf rk) sn ln ra rc w b) := by
  refine MI.ofW (by decide) (Nat.le_of_ble_eq_true rfl) ?_
  intro p e8 s m below meth c A hx hb hr hml hown hts hlocks hA hK hP hD ls hl
  have hS : va_S A s.heap s.heap [] := va_S.rf
  have hown : s.vm.findClass RX0 = some m.cls := hown
  have hl : lv_has ls 5 [(0, .ref (a 0)), (1, .int x), (2, .int y), (3, .int v)] := hl
  have hI := mX0_inPicture l G x y
  rw [if_neg hno] at hI
  refine lv_iload_n hx hb dX0_draw_0 rfl (lv_at hl 1 rfl) ?_
  refine lv_iload_n hx hb dX0_draw_1 rfl (lv_at hl 2 rfl) ?_
  refine kc_Si (wr := Xw d a D B C (nf od) (nf rk) sn ln ra rc w b) (w1 := []) (rest := []) ⟨hx, hb, hml, hown, hts⟩ (hI) (va_cwS 2 hts (lw_S q63 q64 q11 q65) rfl rfl rfl (by decide +kernel) ⟨(Nat.le_of_ble_eq_true rfl), (Nat.le_of_ble_eq_true rfl)⟩) hK [] rfl hP hD hS hA [] [0, 1, 2, 3, 4, 5] rfl rfl rfl rfl (by decide) rfl hl.1 rfl (Nat.le_of_ble_eq_true rfl) dX0_draw_2 ⟨(Nat.le_of_ble_eq_true rfl), (Nat.le_of_ble_eq_true rfl)⟩ (fun H locs hP hD hS => ?_)
  have hP : va_P G vwCl (Xw d a D B C (nf od) (nf rk) sn ln ra rc w b) H := hP
  have hD : va_D A (Xw d a D B C (nf od) (nf rk) sn ln ra rc w b) := hD
  refine jz_ne (tgt := 10) hx hb (by omega) dX0_draw_5 (by decide) (fun c_1 => ?_) (fun c_1 => ?_)
  · exact absurd rfl c_1
  · refine lv_iconst (v := (-1)) hx hb dX0_draw_8 (by decide) ?_
    exact jr_i hx hb hr hlocks hP hD hS rfl dX0_draw_9
set_option maxHeartbeats 4000000 in
set_option maxRecDepth 100000 in
/-- a ramp is drawn -/
theorem mX0_ramp (l : Launch) (G : va_G) (d : ClassId) (a : Nat → Nat) (D : Nat → Nat) (B C : Nat → Int32) (sn ln ra rc w b : Int32) (b9 dx dy : Int32) : MV l yX0_ramp (ws_ yX0_ramp cX0_ramp 6 none) ro0 G [(d, .int)] [.ref (a 0), .int b9, .int dx, .int dy] (Xw d a (nf D) B C (nf od) (nf rk) sn ln ra rc w b) (Xw d a (nf (rmp b9 dx dy D (81))) B C (nf od) (nf rk) sn ln ra rc w b) := by
  refine MV.ofW (by decide) (Nat.le_of_ble_eq_true rfl) ?_
  intro p e8 s m below meth c A hx hb hr hml hown hts hlocks hA hK hP hD ls hl
  have hS : va_S A s.heap s.heap [] := va_S.rf
  have hown : s.vm.findClass RX0 = some m.cls := hown
  have hl : lv_has ls 6 [(0, .ref (a 0)), (1, .int b9), (2, .int dx), (3, .int dy)] := hl
  rw [← rmp_0 b9 dx dy D] at hP hD
  refine lv_iconst (v := nI 0) hx hb dX0_ramp_0 (by decide) ?_
  refine lv_istore (lv' := [(4, .int (nI 0)), (0, .ref (a 0)), (1, .int b9), (2, .int dx), (3, .int dy)]) hx hb dX0_ramp_1 hl (by decide) rfl (fun ls hl => ?_)
  refine ja_loop (fun n H locs ls => ∃ (y : Nat), y + n = 9 ∧ ja_I A G s.heap (Xw d a (nf (rmp b9 dx dy D (9 * y))) B C (nf od) (nf rk) sn ln ra rc w b) 6 [(0, .ref (a 0)), (1, .int b9), (2, .int dx), (3, .int dy), (4, .int (nI y))] H locs ls) ?_ 9 ⟨0, rfl, hP, hD, hS, lv_sub hl [1, 2, 3, 4, 0] rfl⟩
  intro n ih H locs ls hI
  obtain ⟨y, hy, hP, hD, hS, hl⟩ := hI
  refine lv_iload hx hb dX0_ramp_3 (lv_at hl 4 rfl) ?_
  refine lv_bipush (v := nI 9) hx hb dX0_ramp_5 (by decide) ?_
  refine jn_ge (tgt := 60) hx hb (by omega) (by omega) dX0_ramp_7 (by decide) (fun c_1 => ?_) (fun c_1 => ?_)
  · obtain rfl : y = 9 := by omega
    exact jr_v hx hb hr hlocks hP hD hS dX0_ramp_60
  · have ihO := ih
    refine lv_iconst (v := nI 0) hx hb dX0_ramp_10 (by decide) ?_
    refine lv_istore (lv' := [(5, .int (nI 0)), (0, .ref (a 0)), (1, .int b9), (2, .int dx), (3, .int dy), (4, .int (nI y))]) hx hb dX0_ramp_11 hl (by decide) rfl (fun ls hl => ?_)
    refine ja_loop (fun n H locs ls => ∃ (x : Nat), x + n = 9 ∧ ja_I A G s.heap (Xw d a (nf (rmp b9 dx dy D (9 * y + x))) B C (nf od) (nf rk) sn ln ra rc w b) 6 [(0, .ref (a 0)), (1, .int b9), (2, .int dx), (3, .int dy), (4, .int (nI y)), (5, .int (nI x))] H locs ls) ?_ 9 ⟨0, rfl, hP, hD, hS, lv_sub hl [1, 2, 3, 4, 5, 0] rfl⟩
    intro n ih H locs ls hI
    obtain ⟨x, hx2, hP, hD, hS, hl⟩ := hI
    refine lv_iload hx hb dX0_ramp_13 (lv_at hl 5 rfl) ?_
    refine lv_bipush (v := nI 9) hx hb dX0_ramp_15 (by decide) ?_
    refine jn_ge (tgt := 54) hx hb (by omega) (by omega) dX0_ramp_17 (by decide) (fun c_2 => ?_) (fun c_2 => ?_)
    · obtain rfl : x = 9 := by omega
      refine lv_iinc (v := nI (y + 1)) (lv' := [(4, .int (nI (y + 1))), (0, .ref (a 0)), (1, .int b9), (2, .int dx), (3, .int dy), (5, .int (nI 9))]) hx hb dX0_ramp_54 hl (k := 4) rfl (nI_1 y) (by decide) rfl (fun ls hl => ?_)
      refine lv_goto (tgt := 3) hx hb dX0_ramp_57 (by decide) ?_
      exact ihO (9 - (y + 1)) (by omega) _ _ _ ⟨y + 1, by omega, hP, hD, hS, lv_sub hl [1, 2, 3, 4, 0] rfl⟩
    · refine lv_aload_n hx hb dX0_ramp_20 rfl (lv_at hl 0 rfl) ?_
      refine va_get (D := G) (ci := 0) (v := .ref (a 1)) (C := RX0) (T := TX0) (N := 11) hx hb hts in_X0 hown hK hP 0 rfl rfl 0 (by decide) (hts _ q24) (fun _ h9 => h9) rfl dX0_ramp_21 ?_
      refine lv_bipush (v := nI 9) hx hb dX0_ramp_24 (by decide) ?_
      refine lv_iload hx hb dX0_ramp_26 (lv_at hl 4 rfl) ?_
      refine ji_mul hx hb dX0_ramp_28 (v := nI (9 * y)) (pk_mul 9 y) ?_
      refine lv_iload hx hb dX0_ramp_29 (lv_at hl 5 rfl) ?_
      refine ji_add hx hb dX0_ramp_31 (v := nI ((9 * y) + x)) (nI_add (9 * y) x) ?_
      refine lv_iload_n hx hb dX0_ramp_32 rfl (lv_at hl 1 rfl) ?_
      refine lv_iload_n hx hb dX0_ramp_33 rfl (lv_at hl 2 rfl) ?_
      refine lv_iload hx hb dX0_ramp_34 (lv_at hl 5 rfl) ?_
      refine ji_mul hx hb dX0_ramp_36 (v := dx * (nI x)) rfl ?_
      refine ji_add hx hb dX0_ramp_37 (v := b9 + (dx * (nI x))) rfl ?_
      refine lv_iload_n hx hb dX0_ramp_38 rfl (lv_at hl 3 rfl) ?_
      refine lv_iload hx hb dX0_ramp_39 (lv_at hl 4 rfl) ?_
      refine ji_mul hx hb dX0_ramp_41 (v := dy * (nI y)) rfl ?_
      refine ji_add hx hb dX0_ramp_42 (v := (b9 + (dx * (nI x))) + (dy * (nI y))) rfl ?_
      refine lv_sipush (v := nI 255) hx hb dX0_ramp_43 (by decide) ?_
      refine ji_and hx hb dX0_ramp_46 (v := nI (rpv b9 dx dy (9 * y + x))) (by rw [ar_and255]; unfold rpv; rw [show (9 * y + x) % 9 = x by omega, show (9 * y + x) / 9 = y by omega]) ?_
      refine ja_st hx hb hK hP hD hS 1 0 rfl rfl (k := (9 * y) + x) (by omega) (by decide) (f' := nf (rmp b9 dx dy D (9 * y + x + 1))) (by rw [ar_nf_upd, rmp_s]) dX0_ramp_47 (fun H locs hP hD hS => ?_)
      have hP : va_P G vwCl (Xw d a (nf (rmp b9 dx dy D (9 * y + x + 1))) B C (nf od) (nf rk) sn ln ra rc w b) H := hP
      have hD : va_D A (Xw d a (nf (rmp b9 dx dy D (9 * y + x + 1))) B C (nf od) (nf rk) sn ln ra rc w b) := hD
      refine lv_iinc (v := nI (x + 1)) (lv' := [(5, .int (nI (x + 1))), (0, .ref (a 0)), (1, .int b9), (2, .int dx), (3, .int dy), (4, .int (nI y))]) hx hb dX0_ramp_48 hl (k := 5) rfl (nI_1 x) (by decide) rfl (fun ls hl => ?_)
      refine lv_goto (tgt := 13) hx hb dX0_ramp_51 (by decide) ?_
      exact ih (n - 1) (by omega) _ _ _ ⟨x + 1, by omega, hP, hD, hS, lv_sub hl [1, 2, 3, 4, 5, 0] rfl⟩
set_option maxHeartbeats 4000000 in
set_option maxRecDepth 100000 in
/-- a decoded pixel -/
theorem mX0_pixel1 (l : Launch) (G : va_G) (d : ClassId) (a : Nat → Nat) (C : Nat → Nat) (D B : Nat → Int32) (ln ra w b : Int32) (x y : Nat) (s9 r : Nat) (hx9 : x < 9) (hy9 : y < 9) (hs : s9 < 2) (hr9 : r ≤ 81) : MI l yX0_pixel (ws_ yX0_pixel cX0_pixel 3 (some .int)) ro1 G [(d, .int)] [.ref (a 0), .int (nI x), .int (nI y)] (Xw d a D B (nf C) (nf od) (nf rk) (nI s9) ln ra (nI r) w b) (pxv s9 r C (9 * y + x)) (Xw d a D B (nf C) (nf od) (nf rk) (nI s9) ln ra (nI r) w b) := by
  refine MI.ofW (by decide) (Nat.le_of_ble_eq_true rfl) ?_
  intro p e8 s m below meth c A hx hb hr hml hown hts hlocks hA hK hP hD ls hl
  have hS : va_S A s.heap s.heap [] := va_S.rf
  have hown : s.vm.findClass RX0 = some m.cls := hown
  have hl : lv_has ls 3 [(0, .ref (a 0)), (1, .int (nI x)), (2, .int (nI y))] := hl
  have hrk := tb_rk (9 * y + x) (by omega)
  have hI := mX0_inPicture l G (nI x) (nI y)
  rw [if_pos (ip_nI hx9 hy9)] at hI
  refine lv_iload_n hx hb dX0_pixel_0 rfl (lv_at hl 1 rfl) ?_
  refine lv_iload_n hx hb dX0_pixel_1 rfl (lv_at hl 2 rfl) ?_
  refine kc_Si (wr := Xw d a D B (nf C) (nf od) (nf rk) (nI s9) ln ra (nI r) w b) (w1 := []) (rest := []) ⟨hx, hb, hml, hown, hts⟩ (hI) (va_cwS 2 hts (lw_S q63 q64 q11 q65) rfl rfl rfl (by decide +kernel) ⟨(Nat.le_of_ble_eq_true rfl), (Nat.le_of_ble_eq_true rfl)⟩) hK [] rfl hP hD hS hA [] [0, 1, 2, 3, 4, 5] rfl rfl rfl rfl (by decide) rfl hl.1 rfl (Nat.le_of_ble_eq_true rfl) dX0_pixel_2 ⟨(Nat.le_of_ble_eq_true rfl), (Nat.le_of_ble_eq_true rfl)⟩ (fun H locs hP hD hS => ?_)
  have hP : va_P G vwCl (Xw d a D B (nf C) (nf od) (nf rk) (nI s9) ln ra (nI r) w b) H := hP
  have hD : va_D A (Xw d a D B (nf C) (nf od) (nf rk) (nI s9) ln ra (nI r) w b) := hD
  refine jz_eq (tgt := 33) hx hb (by omega) dX0_pixel_5 (by decide) (fun c_1 => ?_) (fun c_1 => ?_)
  · exact absurd c_1 (by decide)
  · refine lv_aload_n hx hb dX0_pixel_8 rfl (lv_at hl 0 rfl) ?_
    refine va_get (D := G) (ci := 0) (v := .int (nI s9)) (C := RX0) (T := TX0) (N := 11) hx hb hts in_X0 hown hK hP 0 rfl rfl 1 (by decide) (hts _ q25) (fun _ h9 => h9) rfl dX0_pixel_9 ?_
    refine jz_eq (tgt := 33) hx hb (by omega) dX0_pixel_12 (by decide) (fun c_2 => ?_) (fun c_2 => ?_)
    · refine lv_iconst (v := (-1)) hx hb dX0_pixel_33 (by decide) ?_
      exact jr_i hx hb hr hlocks hP hD hS (by unfold pxv; rw [if_neg (fun z => z.1 c_2)]) dX0_pixel_34
    · refine lv_aload_n hx hb dX0_pixel_15 rfl (lv_at hl 0 rfl) ?_
      refine va_get (D := G) (ci := 0) (v := .ref (a 5)) (C := RX0) (T := TX0) (N := 11) hx hb hts in_X0 hown hK hP 0 rfl rfl 8 (by decide) (hts _ q32) (fun _ h9 => h9) rfl dX0_pixel_16 ?_
      refine lv_bipush (v := nI 9) hx hb dX0_pixel_19 (by decide) ?_
      refine lv_iload_n hx hb dX0_pixel_21 rfl (lv_at hl 2 rfl) ?_
      refine ji_mul hx hb dX0_pixel_22 (v := nI (9 * y)) (pk_mul 9 y) ?_
      refine lv_iload_n hx hb dX0_pixel_23 rfl (lv_at hl 1 rfl) ?_
      refine ji_add hx hb dX0_pixel_24 (v := nI ((9 * y) + x)) (nI_add (9 * y) x) ?_
      refine ja_ld hx hb hK hP 5 0 rfl rfl (k := (9 * y) + x) (by omega) (by decide) (v := nI (rk ((9 * y) + x))) rfl dX0_pixel_25 ?_
      refine lv_aload_n hx hb dX0_pixel_26 rfl (lv_at hl 0 rfl) ?_
      refine va_get (D := G) (ci := 0) (v := .int (nI r)) (C := RX0) (T := TX0) (N := 11) hx hb hts in_X0 hown hK hP 0 rfl rfl 5 (by decide) (hts _ q29) (fun _ h9 => h9) rfl dX0_pixel_27 ?_
      refine jn_lt (tgt := 35) hx hb (by omega) (by omega) dX0_pixel_30 (by decide) (fun c_3 => ?_) (fun c_3 => ?_)
      · refine lv_aload_n hx hb dX0_pixel_35 rfl (lv_at hl 0 rfl) ?_
        refine va_get (D := G) (ci := 0) (v := .ref (a 3)) (C := RX0) (T := TX0) (N := 11) hx hb hts in_X0 hown hK hP 0 rfl rfl 6 (by decide) (hts _ q30) (fun _ h9 => h9) rfl dX0_pixel_36 ?_
        refine lv_bipush (v := nI 9) hx hb dX0_pixel_39 (by decide) ?_
        refine lv_iload_n hx hb dX0_pixel_41 rfl (lv_at hl 2 rfl) ?_
        refine ji_mul hx hb dX0_pixel_42 (v := nI (9 * y)) (pk_mul 9 y) ?_
        refine lv_iload_n hx hb dX0_pixel_43 rfl (lv_at hl 1 rfl) ?_
        refine ji_add hx hb dX0_pixel_44 (v := nI ((9 * y) + x)) (nI_add (9 * y) x) ?_
        refine ja_ld hx hb hK hP 3 0 rfl rfl (k := (9 * y) + x) (by omega) (by decide) (v := nI (C ((9 * y) + x))) rfl dX0_pixel_45 ?_
        exact jr_i hx hb hr hlocks hP hD hS (by unfold pxv; rw [if_pos ⟨c_2, c_3⟩]) dX0_pixel_46
      · refine lv_iconst (v := (-1)) hx hb dX0_pixel_33 (by decide) ?_
        exact jr_i hx hb hr hlocks hP hD hS (by unfold pxv; rw [if_neg (fun z => absurd z.2 (by omega))]) dX0_pixel_34
set_option maxHeartbeats 4000000 in
set_option maxRecDepth 100000 in
/-- outside -/
theorem mX0_pixel0 (l : Launch) (G : va_G) (d : ClassId) (a : Nat → Nat) (D B C : Nat → Int32) (sn ln ra rc w b : Int32) (x y : Int32) (hno : ¬ ip x y) : MI l yX0_pixel (ws_ yX0_pixel cX0_pixel 3 (some .int)) ro1 G [(d, .int)] [.ref (a 0), .int x, .int y] (Xw d a D B C (nf od) (nf rk) sn ln ra rc w b) (-1) (Xw d a D B C (nf od) (nf rk) sn ln ra rc w b) := by
  refine MI.ofW (by decide) (Nat.le_of_ble_eq_true rfl) ?_
  intro p e8 s m below meth c A hx hb hr hml hown hts hlocks hA hK hP hD ls hl
  have hS : va_S A s.heap s.heap [] := va_S.rf
  have hown : s.vm.findClass RX0 = some m.cls := hown
  have hl : lv_has ls 3 [(0, .ref (a 0)), (1, .int x), (2, .int y)] := hl
  have hI := mX0_inPicture l G x y
  rw [if_neg hno] at hI
  refine lv_iload_n hx hb dX0_pixel_0 rfl (lv_at hl 1 rfl) ?_
  refine lv_iload_n hx hb dX0_pixel_1 rfl (lv_at hl 2 rfl) ?_
  refine kc_Si (wr := Xw d a D B C (nf od) (nf rk) sn ln ra rc w b) (w1 := []) (rest := []) ⟨hx, hb, hml, hown, hts⟩ (hI) (va_cwS 2 hts (lw_S q63 q64 q11 q65) rfl rfl rfl (by decide +kernel) ⟨(Nat.le_of_ble_eq_true rfl), (Nat.le_of_ble_eq_true rfl)⟩) hK [] rfl hP hD hS hA [] [0, 1, 2, 3, 4, 5] rfl rfl rfl rfl (by decide) rfl hl.1 rfl (Nat.le_of_ble_eq_true rfl) dX0_pixel_2 ⟨(Nat.le_of_ble_eq_true rfl), (Nat.le_of_ble_eq_true rfl)⟩ (fun H locs hP hD hS => ?_)
  have hP : va_P G vwCl (Xw d a D B C (nf od) (nf rk) sn ln ra rc w b) H := hP
  have hD : va_D A (Xw d a D B C (nf od) (nf rk) sn ln ra rc w b) := hD
  refine jz_eq (tgt := 33) hx hb (by omega) dX0_pixel_5 (by decide) (fun c_1 => ?_) (fun c_1 => ?_)
  · refine lv_iconst (v := (-1)) hx hb dX0_pixel_33 (by decide) ?_
    exact jr_i hx hb hr hlocks hP hD hS rfl dX0_pixel_34
  · exact absurd rfl c_1
set_option maxHeartbeats 4000000 in
set_option maxRecDepth 100000 in
/-- a rank -/
theorem mX0_rank1 (l : Launch) (G : va_G) (d : ClassId) (a : Nat → Nat) (D B C : Nat → Int32) (sn ln ra rc w b : Int32) (x y : Nat) (hx9 : x < 9) (hy9 : y < 9) : MI l yX0_rank (ws_ yX0_rank cX0_rank 3 (some .int)) ro1 G [(d, .int)] [.ref (a 0), .int (nI x), .int (nI y)] (Xw d a D B C (nf od) (nf rk) sn ln ra rc w b) (nI (rk (9 * y + x))) (Xw d a D B C (nf od) (nf rk) sn ln ra rc w b) := by
  refine MI.ofW (by decide) (Nat.le_of_ble_eq_true rfl) ?_
  intro p e8 s m below meth c A hx hb hr hml hown hts hlocks hA hK hP hD ls hl
  have hS : va_S A s.heap s.heap [] := va_S.rf
  have hown : s.vm.findClass RX0 = some m.cls := hown
  have hl : lv_has ls 3 [(0, .ref (a 0)), (1, .int (nI x)), (2, .int (nI y))] := hl
  have hI := mX0_inPicture l G (nI x) (nI y)
  rw [if_pos (ip_nI hx9 hy9)] at hI
  refine lv_iload_n hx hb dX0_rank_0 rfl (lv_at hl 1 rfl) ?_
  refine lv_iload_n hx hb dX0_rank_1 rfl (lv_at hl 2 rfl) ?_
  refine kc_Si (wr := Xw d a D B C (nf od) (nf rk) sn ln ra rc w b) (w1 := []) (rest := []) ⟨hx, hb, hml, hown, hts⟩ (hI) (va_cwS 2 hts (lw_S q63 q64 q11 q65) rfl rfl rfl (by decide +kernel) ⟨(Nat.le_of_ble_eq_true rfl), (Nat.le_of_ble_eq_true rfl)⟩) hK [] rfl hP hD hS hA [] [0, 1, 2, 3, 4, 5] rfl rfl rfl rfl (by decide) rfl hl.1 rfl (Nat.le_of_ble_eq_true rfl) dX0_rank_2 ⟨(Nat.le_of_ble_eq_true rfl), (Nat.le_of_ble_eq_true rfl)⟩ (fun H locs hP hD hS => ?_)
  have hP : va_P G vwCl (Xw d a D B C (nf od) (nf rk) sn ln ra rc w b) H := hP
  have hD : va_D A (Xw d a D B C (nf od) (nf rk) sn ln ra rc w b) := hD
  refine jz_eq (tgt := 22) hx hb (by omega) dX0_rank_5 (by decide) (fun c_1 => ?_) (fun c_1 => ?_)
  · exact absurd c_1 (by decide)
  · refine lv_aload_n hx hb dX0_rank_8 rfl (lv_at hl 0 rfl) ?_
    refine va_get (D := G) (ci := 0) (v := .ref (a 5)) (C := RX0) (T := TX0) (N := 11) hx hb hts in_X0 hown hK hP 0 rfl rfl 8 (by decide) (hts _ q32) (fun _ h9 => h9) rfl dX0_rank_9 ?_
    refine lv_bipush (v := nI 9) hx hb dX0_rank_12 (by decide) ?_
    refine lv_iload_n hx hb dX0_rank_14 rfl (lv_at hl 2 rfl) ?_
    refine ji_mul hx hb dX0_rank_15 (v := nI (9 * y)) (pk_mul 9 y) ?_
    refine lv_iload_n hx hb dX0_rank_16 rfl (lv_at hl 1 rfl) ?_
    refine ji_add hx hb dX0_rank_17 (v := nI ((9 * y) + x)) (nI_add (9 * y) x) ?_
    refine ja_ld hx hb hK hP 5 0 rfl rfl (k := (9 * y) + x) (by omega) (by decide) (v := nI (rk ((9 * y) + x))) rfl dX0_rank_18 ?_
    refine lv_goto (tgt := 23) hx hb dX0_rank_19 (by decide) ?_
    exact jr_i hx hb hr hlocks hP hD hS rfl dX0_rank_23
set_option maxHeartbeats 4000000 in
set_option maxRecDepth 100000 in
/-- outside -/
theorem mX0_rank0 (l : Launch) (G : va_G) (d : ClassId) (a : Nat → Nat) (D B C : Nat → Int32) (sn ln ra rc w b : Int32) (x y : Int32) (hno : ¬ ip x y) : MI l yX0_rank (ws_ yX0_rank cX0_rank 3 (some .int)) ro1 G [(d, .int)] [.ref (a 0), .int x, .int y] (Xw d a D B C (nf od) (nf rk) sn ln ra rc w b) (-1) (Xw d a D B C (nf od) (nf rk) sn ln ra rc w b) := by
  refine MI.ofW (by decide) (Nat.le_of_ble_eq_true rfl) ?_
  intro p e8 s m below meth c A hx hb hr hml hown hts hlocks hA hK hP hD ls hl
  have hS : va_S A s.heap s.heap [] := va_S.rf
  have hown : s.vm.findClass RX0 = some m.cls := hown
  have hl : lv_has ls 3 [(0, .ref (a 0)), (1, .int x), (2, .int y)] := hl
  have hI := mX0_inPicture l G x y
  rw [if_neg hno] at hI
  refine lv_iload_n hx hb dX0_rank_0 rfl (lv_at hl 1 rfl) ?_
  refine lv_iload_n hx hb dX0_rank_1 rfl (lv_at hl 2 rfl) ?_
  refine kc_Si (wr := Xw d a D B C (nf od) (nf rk) sn ln ra rc w b) (w1 := []) (rest := []) ⟨hx, hb, hml, hown, hts⟩ (hI) (va_cwS 2 hts (lw_S q63 q64 q11 q65) rfl rfl rfl (by decide +kernel) ⟨(Nat.le_of_ble_eq_true rfl), (Nat.le_of_ble_eq_true rfl)⟩) hK [] rfl hP hD hS hA [] [0, 1, 2, 3, 4, 5] rfl rfl rfl rfl (by decide) rfl hl.1 rfl (Nat.le_of_ble_eq_true rfl) dX0_rank_2 ⟨(Nat.le_of_ble_eq_true rfl), (Nat.le_of_ble_eq_true rfl)⟩ (fun H locs hP hD hS => ?_)
  have hP : va_P G vwCl (Xw d a D B C (nf od) (nf rk) sn ln ra rc w b) H := hP
  have hD : va_D A (Xw d a D B C (nf od) (nf rk) sn ln ra rc w b) := hD
  refine jz_eq (tgt := 22) hx hb (by omega) dX0_rank_5 (by decide) (fun c_1 => ?_) (fun c_1 => ?_)
  · refine lv_iconst (v := (-1)) hx hb dX0_rank_22 (by decide) ?_
    exact jr_i hx hb hr hlocks hP hD hS rfl dX0_rank_23
  · exact absurd rfl c_1
set_option maxHeartbeats 4000000 in
set_option maxRecDepth 100000 in
/-- how many decoded pixels lie between -/
theorem mX0_count (l : Launch) (G : va_G) (d : ClassId) (a : Nat → Nat) (C : Nat → Nat) (D B : Nat → Int32) (ln ra w b lo hi : Int32) (s9 r : Nat) (hs : s9 < 2) (hr9 : r ≤ 81) : MI l yX0_count (ws_ yX0_count cX0_count 6 (some .int)) ro0 G [(d, .int)] [.ref (a 0), .int lo, .int hi] (Xw d a D B (nf C) (nf od) (nf rk) (nI s9) ln ra (nI r) w b) (nI (sm (ctX s9 r lo hi C) 81)) (Xw d a D B (nf C) (nf od) (nf rk) (nI s9) ln ra (nI r) w b) := by
  refine MI.ofW (by decide) (Nat.le_of_ble_eq_true rfl) ?_
  intro p e8 s m below meth c A hx hb hr hml hown hts hlocks hA hK hP hD ls hl
  have hS : va_S A s.heap s.heap [] := va_S.rf
  have hown : s.vm.findClass RX0 = some m.cls := hown
  have hl : lv_has ls 6 [(0, .ref (a 0)), (1, .int lo), (2, .int hi)] := hl
  refine lv_iconst (v := nI 0) hx hb dX0_count_0 (by decide) ?_
  refine lv_istore_n (lv' := [(3, .int (nI 0)), (0, .ref (a 0)), (1, .int lo), (2, .int hi)]) hx hb dX0_count_1 rfl hl (by decide) rfl (fun ls hl => ?_)
  refine lv_iconst (v := nI 0) hx hb dX0_count_2 (by decide) ?_
  refine lv_istore (lv' := [(4, .int (nI 0)), (3, .int (nI 0)), (0, .ref (a 0)), (1, .int lo), (2, .int hi)]) hx hb dX0_count_3 hl (by decide) rfl (fun ls hl => ?_)
  refine ja_loop (fun n H locs ls => ∃ (k : Nat), k + n = 81 ∧ ja_I A G s.heap (Xw d a D B (nf C) (nf od) (nf rk) (nI s9) ln ra (nI r) w b) 6 [(0, .ref (a 0)), (1, .int lo), (2, .int hi), (3, .int (nI (sm (ctX s9 r lo hi C) k))), (4, .int (nI k))] H locs ls) ?_ 81 ⟨0, rfl, hP, hD, hS, lv_sub hl [2, 3, 4, 1, 0] rfl⟩
  intro n ih H locs ls hI
  obtain ⟨k, hk, hP, hD, hS, hl⟩ := hI
  refine lv_iload hx hb dX0_count_5 (lv_at hl 4 rfl) ?_
  refine lv_bipush (v := nI 81) hx hb dX0_count_7 (by decide) ?_
  refine jn_ge (tgt := 63) hx hb (by omega) (by omega) dX0_count_9 (by decide) (fun c_1 => ?_) (fun c_1 => ?_)
  · obtain rfl : k = 81 := by omega
    refine lv_iload_n hx hb dX0_count_63 rfl (lv_at hl 3 rfl) ?_
    exact jr_i hx hb hr hlocks hP hD hS rfl dX0_count_64
  · have hod := tb_od k (by omega)
    refine lv_aload_n hx hb dX0_count_12 rfl (lv_at hl 0 rfl) ?_
    refine va_get (D := G) (ci := 0) (v := .ref (a 3)) (C := RX0) (T := TX0) (N := 11) hx hb hts in_X0 hown hK hP 0 rfl rfl 6 (by decide) (hts _ q30) (fun _ h9 => h9) rfl dX0_count_13 ?_
    refine lv_aload_n hx hb dX0_count_16 rfl (lv_at hl 0 rfl) ?_
    refine va_get (D := G) (ci := 0) (v := .ref (a 4)) (C := RX0) (T := TX0) (N := 11) hx hb hts in_X0 hown hK hP 0 rfl rfl 7 (by decide) (hts _ q31) (fun _ h9 => h9) rfl dX0_count_17 ?_
    refine lv_iload hx hb dX0_count_20 (lv_at hl 4 rfl) ?_
    refine ja_ld hx hb hK hP 4 0 rfl rfl (k := k) (by omega) (by decide) (v := nI (od k)) rfl dX0_count_22 ?_
    refine ja_ld hx hb hK hP 3 0 rfl rfl (k := od k) (by omega) (by decide) (v := nI (C (od k))) rfl dX0_count_23 ?_
    refine lv_istore (lv' := [(5, .int (nI (C (od k)))), (0, .ref (a 0)), (1, .int lo), (2, .int hi), (3, .int (nI (sm (ctX s9 r lo hi C) k))), (4, .int (nI k))]) hx hb dX0_count_24 hl (by decide) rfl (fun ls hl => ?_)
    refine lv_aload_n hx hb dX0_count_26 rfl (lv_at hl 1 rfl) ?_
    refine va_get (D := G) (ci := 0) (v := .int (nI s9)) (C := RX0) (T := TX0) (N := 11) hx hb hts in_X0 hown hK hP 0 rfl rfl 1 (by decide) (hts _ q25) (fun _ h9 => h9) rfl dX0_count_27 ?_
    refine jz_eq (tgt := 57) hx hb (by omega) dX0_count_30 (by decide) (fun c_2 => ?_) (fun c_2 => ?_)
    · refine lv_iinc (v := nI (k + 1)) (lv' := [(4, .int (nI (k + 1))), (5, .int (nI (C (od k)))), (0, .ref (a 0)), (1, .int lo), (2, .int hi), (3, .int (nI (sm (ctX s9 r lo hi C) k)))]) hx hb dX0_count_57 hl (k := 5) rfl (nI_1 k) (by decide) rfl (fun ls hl => ?_)
      have hE : sm (ctX s9 r lo hi C) (k + 1) = sm (ctX s9 r lo hi C) k := sm_0 (if_neg (fun z => z.1 c_2))
      rw [← hE] at hl
      refine lv_goto (tgt := 5) hx hb dX0_count_60 (by decide) ?_
      exact ih (n - 1) (by omega) _ _ _ ⟨k + 1, by omega, hP, hD, hS, lv_sub hl [2, 3, 4, 5, 0] rfl⟩
    · refine lv_iload hx hb dX0_count_33 (lv_at hl 5 rfl) ?_
      refine lv_aload_n hx hb dX0_count_35 rfl (lv_at hl 1 rfl) ?_
      refine va_get (D := G) (ci := 0) (v := .int (nI r)) (C := RX0) (T := TX0) (N := 11) hx hb hts in_X0 hown hK hP 0 rfl rfl 5 (by decide) (hts _ q29) (fun _ h9 => h9) rfl dX0_count_36 ?_
      refine jn_ge (tgt := 57) hx hb (by omega) (by omega) dX0_count_39 (by decide) (fun c_3 => ?_) (fun c_3 => ?_)
      · refine lv_iinc (v := nI (k + 1)) (lv' := [(4, .int (nI (k + 1))), (5, .int (nI (C (od k)))), (0, .ref (a 0)), (1, .int lo), (2, .int hi), (3, .int (nI (sm (ctX s9 r lo hi C) k)))]) hx hb dX0_count_57 hl (k := 5) rfl (nI_1 k) (by decide) rfl (fun ls hl => ?_)
        have hE : sm (ctX s9 r lo hi C) (k + 1) = sm (ctX s9 r lo hi C) k := sm_0 (if_neg (fun z => absurd z.2.1 (by omega)))
        rw [← hE] at hl
        refine lv_goto (tgt := 5) hx hb dX0_count_60 (by decide) ?_
        exact ih (n - 1) (by omega) _ _ _ ⟨k + 1, by omega, hP, hD, hS, lv_sub hl [2, 3, 4, 5, 0] rfl⟩
      · refine lv_iload hx hb dX0_count_42 (lv_at hl 0 rfl) ?_
        refine lv_iload_n hx hb dX0_count_44 rfl (lv_at hl 2 rfl) ?_
        refine lv_icmp_lt (tgt := 57) hx hb dX0_count_45 (by decide) (fun c_4 => ?_) (fun c_4 => ?_)
        · refine lv_iinc (v := nI (k + 1)) (lv' := [(4, .int (nI (k + 1))), (5, .int (nI (C (od k)))), (0, .ref (a 0)), (1, .int lo), (2, .int hi), (3, .int (nI (sm (ctX s9 r lo hi C) k)))]) hx hb dX0_count_57 hl (k := 5) rfl (nI_1 k) (by decide) rfl (fun ls hl => ?_)
          have hE : sm (ctX s9 r lo hi C) (k + 1) = sm (ctX s9 r lo hi C) k := sm_0 (if_neg (fun z => z.2.2.1 c_4))
          rw [← hE] at hl
          refine lv_goto (tgt := 5) hx hb dX0_count_60 (by decide) ?_
          exact ih (n - 1) (by omega) _ _ _ ⟨k + 1, by omega, hP, hD, hS, lv_sub hl [2, 3, 4, 5, 0] rfl⟩
        · refine lv_iload hx hb dX0_count_48 (lv_at hl 0 rfl) ?_
          refine lv_iload_n hx hb dX0_count_50 rfl (lv_at hl 3 rfl) ?_
          refine lv_icmp_gt (tgt := 57) hx hb dX0_count_51 (by decide) (fun c_5 => ?_) (fun c_5 => ?_)
          · refine lv_iinc (v := nI (k + 1)) (lv' := [(4, .int (nI (k + 1))), (5, .int (nI (C (od k)))), (0, .ref (a 0)), (1, .int lo), (2, .int hi), (3, .int (nI (sm (ctX s9 r lo hi C) k)))]) hx hb dX0_count_57 hl (k := 5) rfl (nI_1 k) (by decide) rfl (fun ls hl => ?_)
            have hE : sm (ctX s9 r lo hi C) (k + 1) = sm (ctX s9 r lo hi C) k := sm_0 (if_neg (fun z => z.2.2.2 c_5))
            rw [← hE] at hl
            refine lv_goto (tgt := 5) hx hb dX0_count_60 (by decide) ?_
            exact ih (n - 1) (by omega) _ _ _ ⟨k + 1, by omega, hP, hD, hS, lv_sub hl [2, 3, 4, 5, 0] rfl⟩
          · refine lv_iinc (v := nI ((sm (ctX s9 r lo hi C) k) + 1)) (lv' := [(3, .int (nI ((sm (ctX s9 r lo hi C) k) + 1))), (5, .int (nI (C (od k)))), (0, .ref (a 0)), (1, .int lo), (2, .int hi), (4, .int (nI k))]) hx hb dX0_count_54 hl (k := 4) rfl (nI_1 (sm (ctX s9 r lo hi C) k)) (by decide) rfl (fun ls hl => ?_)
            refine lv_iinc (v := nI (k + 1)) (lv' := [(4, .int (nI (k + 1))), (3, .int (nI ((sm (ctX s9 r lo hi C) k) + 1))), (5, .int (nI (C (od k)))), (0, .ref (a 0)), (1, .int lo), (2, .int hi)]) hx hb dX0_count_57 hl (k := 5) rfl (nI_1 k) (by decide) rfl (fun ls hl => ?_)
            have hE : sm (ctX s9 r lo hi C) (k + 1) = sm (ctX s9 r lo hi C) k + 1 := sm_1 (if_pos ⟨c_2, c_3, c_4, c_5⟩)
            rw [← hE] at hl
            refine lv_goto (tgt := 5) hx hb dX0_count_60 (by decide) ?_
            exact ih (n - 1) (by omega) _ _ _ ⟨k + 1, by omega, hP, hD, hS, lv_sub hl [3, 4, 5, 1, 0] rfl⟩
set_option maxHeartbeats 4000000 in
set_option maxRecDepth 100000 in
/-- the sum of the decoded pixels -/
theorem mX0_sum (l : Launch) (G : va_G) (d : ClassId) (a : Nat → Nat) (C : Nat → Nat) (D B : Nat → Int32) (ln ra w b : Int32) (s9 r : Nat) (hs : s9 < 2) (hr9 : r ≤ 81) : MI l yX0_sum (ws_ yX0_sum cX0_sum 3 (some .int)) ro0 G [(d, .int)] [.ref (a 0)] (Xw d a D B (nf C) (nf od) (nf rk) (nI s9) ln ra (nI r) w b) (nI (sm (suX s9 r C) 81)) (Xw d a D B (nf C) (nf od) (nf rk) (nI s9) ln ra (nI r) w b) := by
  refine MI.ofW (by decide) (Nat.le_of_ble_eq_true rfl) ?_
  intro p e8 s m below meth c A hx hb hr hml hown hts hlocks hA hK hP hD ls hl
  have hS : va_S A s.heap s.heap [] := va_S.rf
  have hown : s.vm.findClass RX0 = some m.cls := hown
  have hl : lv_has ls 3 [(0, .ref (a 0))] := hl
  refine lv_iconst (v := nI 0) hx hb dX0_sum_0 (by decide) ?_
  refine lv_istore_n (lv' := [(1, .int (nI 0)), (0, .ref (a 0))]) hx hb dX0_sum_1 rfl hl (by decide) rfl (fun ls hl => ?_)
  refine lv_iconst (v := nI 0) hx hb dX0_sum_2 (by decide) ?_
  refine lv_istore_n (lv' := [(2, .int (nI 0)), (1, .int (nI 0)), (0, .ref (a 0))]) hx hb dX0_sum_3 rfl hl (by decide) rfl (fun ls hl => ?_)
  refine ja_loop (fun n H locs ls => ∃ (k : Nat), k + n = 81 ∧ ja_I A G s.heap (Xw d a D B (nf C) (nf od) (nf rk) (nI s9) ln ra (nI r) w b) 3 [(0, .ref (a 0)), (1, .int (nI (sm (suX s9 r C) k))), (2, .int (nI k))] H locs ls) ?_ 81 ⟨0, rfl, hP, hD, hS, lv_sub hl [2, 1, 0] rfl⟩
  intro n ih H locs ls hI
  obtain ⟨k, hk, hP, hD, hS, hl⟩ := hI
  refine lv_iload_n hx hb dX0_sum_4 rfl (lv_at hl 2 rfl) ?_
  refine lv_bipush (v := nI 81) hx hb dX0_sum_5 (by decide) ?_
  refine jn_ge (tgt := 49) hx hb (by omega) (by omega) dX0_sum_7 (by decide) (fun c_1 => ?_) (fun c_1 => ?_)
  · obtain rfl : k = 81 := by omega
    refine lv_iload_n hx hb dX0_sum_49 rfl (lv_at hl 1 rfl) ?_
    exact jr_i hx hb hr hlocks hP hD hS rfl dX0_sum_50
  · have hod := tb_od k (by omega)
    refine lv_iload_n hx hb dX0_sum_10 rfl (lv_at hl 1 rfl) ?_
    refine lv_aload_n hx hb dX0_sum_11 rfl (lv_at hl 0 rfl) ?_
    refine va_get (D := G) (ci := 0) (v := .int (nI s9)) (C := RX0) (T := TX0) (N := 11) hx hb hts in_X0 hown hK hP 0 rfl rfl 1 (by decide) (hts _ q25) (fun _ h9 => h9) rfl dX0_sum_12 ?_
    refine jz_eq (tgt := 40) hx hb (by omega) dX0_sum_15 (by decide) (fun c_2 => ?_) (fun c_2 => ?_)
    · have hE : (suX s9 r C) k = 0 := if_neg (fun z => z.1 c_2)
      refine lv_iconst (v := nI 0) hx hb dX0_sum_40 (by decide) ?_
      refine ji_add hx hb dX0_sum_41 (v := nI (sm (suX s9 r C) (k + 1))) (by rw [nI_add]; show _ = nI (sm (suX s9 r C) k + (suX s9 r C) k); rw [hE]) ?_
      refine lv_istore_n (lv' := [(1, .int (nI (sm (suX s9 r C) (k + 1)))), (0, .ref (a 0)), (2, .int (nI k))]) hx hb dX0_sum_42 rfl hl (by decide) rfl (fun ls hl => ?_)
      refine lv_iinc (v := nI (k + 1)) (lv' := [(2, .int (nI (k + 1))), (1, .int (nI (sm (suX s9 r C) (k + 1)))), (0, .ref (a 0))]) hx hb dX0_sum_43 hl (k := 2) rfl (nI_1 k) (by decide) rfl (fun ls hl => ?_)
      refine lv_goto (tgt := 4) hx hb dX0_sum_46 (by decide) ?_
      exact ih (n - 1) (by omega) _ _ _ ⟨k + 1, by omega, hP, hD, hS, lv_sub hl [2, 1, 0] rfl⟩
    · refine lv_iload_n hx hb dX0_sum_18 rfl (lv_at hl 2 rfl) ?_
      refine lv_aload_n hx hb dX0_sum_19 rfl (lv_at hl 0 rfl) ?_
      refine va_get (D := G) (ci := 0) (v := .int (nI r)) (C := RX0) (T := TX0) (N := 11) hx hb hts in_X0 hown hK hP 0 rfl rfl 5 (by decide) (hts _ q29) (fun _ h9 => h9) rfl dX0_sum_20 ?_
      refine jn_ge (tgt := 40) hx hb (by omega) (by omega) dX0_sum_23 (by decide) (fun c_3 => ?_) (fun c_3 => ?_)
      · have hE : (suX s9 r C) k = 0 := if_neg (fun z => absurd z.2 (by omega))
        refine lv_iconst (v := nI 0) hx hb dX0_sum_40 (by decide) ?_
        refine ji_add hx hb dX0_sum_41 (v := nI (sm (suX s9 r C) (k + 1))) (by rw [nI_add]; show _ = nI (sm (suX s9 r C) k + (suX s9 r C) k); rw [hE]) ?_
        refine lv_istore_n (lv' := [(1, .int (nI (sm (suX s9 r C) (k + 1)))), (0, .ref (a 0)), (2, .int (nI k))]) hx hb dX0_sum_42 rfl hl (by decide) rfl (fun ls hl => ?_)
        refine lv_iinc (v := nI (k + 1)) (lv' := [(2, .int (nI (k + 1))), (1, .int (nI (sm (suX s9 r C) (k + 1)))), (0, .ref (a 0))]) hx hb dX0_sum_43 hl (k := 2) rfl (nI_1 k) (by decide) rfl (fun ls hl => ?_)
        refine lv_goto (tgt := 4) hx hb dX0_sum_46 (by decide) ?_
        exact ih (n - 1) (by omega) _ _ _ ⟨k + 1, by omega, hP, hD, hS, lv_sub hl [2, 1, 0] rfl⟩
      · refine lv_aload_n hx hb dX0_sum_26 rfl (lv_at hl 0 rfl) ?_
        refine va_get (D := G) (ci := 0) (v := .ref (a 3)) (C := RX0) (T := TX0) (N := 11) hx hb hts in_X0 hown hK hP 0 rfl rfl 6 (by decide) (hts _ q30) (fun _ h9 => h9) rfl dX0_sum_27 ?_
        refine lv_aload_n hx hb dX0_sum_30 rfl (lv_at hl 0 rfl) ?_
        refine va_get (D := G) (ci := 0) (v := .ref (a 4)) (C := RX0) (T := TX0) (N := 11) hx hb hts in_X0 hown hK hP 0 rfl rfl 7 (by decide) (hts _ q31) (fun _ h9 => h9) rfl dX0_sum_31 ?_
        refine lv_iload_n hx hb dX0_sum_34 rfl (lv_at hl 2 rfl) ?_
        refine ja_ld hx hb hK hP 4 0 rfl rfl (k := k) (by omega) (by decide) (v := nI (od k)) rfl dX0_sum_35 ?_
        refine ja_ld hx hb hK hP 3 0 rfl rfl (k := od k) (by omega) (by decide) (v := nI (C (od k))) rfl dX0_sum_36 ?_
        refine lv_goto (tgt := 41) hx hb dX0_sum_37 (by decide) ?_
        have hE : (suX s9 r C) k = C (od k) := if_pos ⟨c_2, c_3⟩
        refine ji_add hx hb dX0_sum_41 (v := nI (sm (suX s9 r C) (k + 1))) (by rw [nI_add]; show _ = nI (sm (suX s9 r C) k + (suX s9 r C) k); rw [hE]) ?_
        refine lv_istore_n (lv' := [(1, .int (nI (sm (suX s9 r C) (k + 1)))), (0, .ref (a 0)), (2, .int (nI k))]) hx hb dX0_sum_42 rfl hl (by decide) rfl (fun ls hl => ?_)
        refine lv_iinc (v := nI (k + 1)) (lv' := [(2, .int (nI (k + 1))), (1, .int (nI (sm (suX s9 r C) (k + 1)))), (0, .ref (a 0))]) hx hb dX0_sum_43 hl (k := 2) rfl (nI_1 k) (by decide) rfl (fun ls hl => ?_)
        refine lv_goto (tgt := 4) hx hb dX0_sum_46 (by decide) ?_
        exact ih (n - 1) (by omega) _ _ _ ⟨k + 1, by omega, hP, hD, hS, lv_sub hl [2, 1, 0] rfl⟩
end
section
theorem stp_eq (q : Nat) : stp q = if q % 9 % 8 = 0 ∧ q / 9 % 8 = 0 then 8 else if q % 9 % 4 = 0 ∧ q / 9 % 4 = 0 then 4 else if q % 9 % 2 = 0 ∧ q / 9 % 2 = 0 then 2 else 1 := rfl
theorem cn_neg {x : Int32} (h : x < 0) : x.toNatClampNeg = 0 := by
  have h1 := Int32.lt_iff_toInt_lt.mp h
  rw [← Int32.toNat_toInt]
  have h2 : (0 : Int32).toInt = 0 := rfl
  omega
set_option maxHeartbeats 4000000 in
set_option maxRecDepth 100000 in
/-- does a point lie outside -/
theorem mX1_off (l : Launch) (G : va_G) (x y : Int32) : MI l yX1_off (ws_ yX1_off cX1_off 2 (some .boolean)) ro0 G [] [.int x, .int y] ([]) (if ip x y then nI 0 else nI 1) ([]) := by
  refine MI.ofW (by decide) (Nat.le_of_ble_eq_true rfl) ?_
  intro p e8 s m below meth c A hx hb hr hml hown hts hlocks hA hK hP hD ls hl
  have hS : va_S A s.heap s.heap [] := va_S.rf
  have hown : s.vm.findClass RX1 = some m.cls := hown
  have hl : lv_has ls 2 [(0, .int x), (1, .int y)] := hl
  refine lv_iload_n hx hb dX1_off_0 rfl (lv_at hl 0 rfl) ?_
  refine lv_if_lt (tgt := 20) hx hb dX1_off_1 (by decide) (fun c_1 => ?_) (fun c_1 => ?_)
  · refine lv_iconst (v := nI 1) hx hb dX1_off_20 (by decide) ?_
    refine lv_goto (tgt := 25) hx hb dX1_off_21 (by decide) ?_
    exact jr_z hx hb hr rfl hlocks hP hD hS (by rw [if_neg (fun z => z.1 c_1)]) dX1_off_25
  · refine lv_iload_n hx hb dX1_off_4 rfl (lv_at hl 0 rfl) ?_
    refine lv_bipush (v := nI 8) hx hb dX1_off_5 (by decide) ?_
    refine lv_icmp_gt (tgt := 20) hx hb dX1_off_7 (by decide) (fun c_2 => ?_) (fun c_2 => ?_)
    · refine lv_iconst (v := nI 1) hx hb dX1_off_20 (by decide) ?_
      refine lv_goto (tgt := 25) hx hb dX1_off_21 (by decide) ?_
      exact jr_z hx hb hr rfl hlocks hP hD hS (by rw [if_neg (fun z => z.2.1 c_2)]) dX1_off_25
    · refine lv_iload_n hx hb dX1_off_10 rfl (lv_at hl 1 rfl) ?_
      refine lv_if_lt (tgt := 20) hx hb dX1_off_11 (by decide) (fun c_3 => ?_) (fun c_3 => ?_)
      · refine lv_iconst (v := nI 1) hx hb dX1_off_20 (by decide) ?_
        refine lv_goto (tgt := 25) hx hb dX1_off_21 (by decide) ?_
        exact jr_z hx hb hr rfl hlocks hP hD hS (by rw [if_neg (fun z => z.2.2.1 c_3)]) dX1_off_25
      · refine lv_iload_n hx hb dX1_off_14 rfl (lv_at hl 1 rfl) ?_
        refine lv_bipush (v := nI 8) hx hb dX1_off_15 (by decide) ?_
        refine lv_icmp_le (tgt := 24) hx hb dX1_off_17 (by decide) (fun c_4 => ?_) (fun c_4 => ?_)
        · refine lv_iconst (v := nI 0) hx hb dX1_off_24 (by decide) ?_
          exact jr_z hx hb hr rfl hlocks hP hD hS (by rw [if_pos ⟨c_1, c_2, c_3, Int32.not_lt.mpr c_4⟩]) dX1_off_25
        · refine lv_iconst (v := nI 1) hx hb dX1_off_20 (by decide) ?_
          refine lv_goto (tgt := 25) hx hb dX1_off_21 (by decide) ?_
          exact jr_z hx hb hr rfl hlocks hP hD hS (by rw [if_neg (fun z => c_4 (Int32.not_lt.mp z.2.2.2))]) dX1_off_25
set_option maxHeartbeats 4000000 in
set_option maxRecDepth 100000 in
/-- the step of a place -/
theorem mX1_step (l : Launch) (G : va_G) (q : Nat) (hq : q < 81) : MI l yX1_step (ws_ yX1_step cX1_step 3 (some .int)) ro0 G [] [.int (nI q)] ([]) (nI (stp q)) ([]) := by
  refine MI.ofW (by decide) (Nat.le_of_ble_eq_true rfl) ?_
  intro p e8 s m below meth c A hx hb hr hml hown hts hlocks hA hK hP hD ls hl
  have hS : va_S A s.heap s.heap [] := va_S.rf
  have hown : s.vm.findClass RX1 = some m.cls := hown
  have hl : lv_has ls 3 [(0, .int (nI q))] := hl
  refine lv_iload_n hx hb dX1_step_0 rfl (lv_at hl 0 rfl) ?_
  refine lv_bipush (v := nI 9) hx hb dX1_step_1 (by decide) ?_
  refine ji_rem hx hb dX1_step_3 (by decide) (v := nI (q % 9)) (pk_rem (a := q) (d := 9) (by omega) (by omega) (by omega)) ?_
  refine lv_istore_n (lv' := [(1, .int (nI (q % 9))), (0, .int (nI q))]) hx hb dX1_step_4 rfl hl (by decide) rfl (fun ls hl => ?_)
  refine lv_iload_n hx hb dX1_step_5 rfl (lv_at hl 1 rfl) ?_
  refine lv_bipush (v := nI 9) hx hb dX1_step_6 (by decide) ?_
  refine ji_div hx hb dX1_step_8 (by decide) (v := nI (q / 9)) (pk_div (a := q) (d := 9) (by omega) (by omega) (by omega)) ?_
  refine lv_istore_n (lv' := [(2, .int (nI (q / 9))), (1, .int (nI (q % 9))), (0, .int (nI q))]) hx hb dX1_step_9 rfl hl (by decide) rfl (fun ls hl => ?_)
  refine lv_iload_n hx hb dX1_step_10 rfl (lv_at hl 1 rfl) ?_
  refine lv_bipush (v := nI 8) hx hb dX1_step_11 (by decide) ?_
  refine ji_rem hx hb dX1_step_13 (by decide) (v := nI ((q % 9) % 8)) (pk_rem (a := (q % 9)) (d := 8) (by omega) (by omega) (by omega)) ?_
  refine jz_ne (tgt := 27) hx hb (by omega) dX1_step_14 (by decide) (fun c_1 => ?_) (fun c_1 => ?_)
  · refine lv_iload_n hx hb dX1_step_27 rfl (lv_at hl 1 rfl) ?_
    refine lv_iconst (v := nI 4) hx hb dX1_step_28 (by decide) ?_
    refine ji_rem hx hb dX1_step_29 (by decide) (v := nI ((q % 9) % 4)) (pk_rem (a := (q % 9)) (d := 4) (by omega) (by omega) (by omega)) ?_
    refine jz_ne (tgt := 41) hx hb (by omega) dX1_step_30 (by decide) (fun c_2 => ?_) (fun c_2 => ?_)
    · refine lv_iload_n hx hb dX1_step_41 rfl (lv_at hl 1 rfl) ?_
      refine lv_iconst (v := nI 2) hx hb dX1_step_42 (by decide) ?_
      refine ji_rem hx hb dX1_step_43 (by decide) (v := nI ((q % 9) % 2)) (pk_rem (a := (q % 9)) (d := 2) (by omega) (by omega) (by omega)) ?_
      refine jz_ne (tgt := 57) hx hb (by omega) dX1_step_44 (by decide) (fun c_3 => ?_) (fun c_3 => ?_)
      · refine lv_iconst (v := nI 1) hx hb dX1_step_57 (by decide) ?_
        exact jr_i hx hb hr hlocks hP hD hS (by rw [stp_eq, if_neg (fun z => c_1 z.1), if_neg (fun z => c_2 z.1), if_neg (fun z => c_3 z.1)]) dX1_step_58
      · refine lv_iload_n hx hb dX1_step_47 rfl (lv_at hl 0 rfl) ?_
        refine lv_iconst (v := nI 2) hx hb dX1_step_48 (by decide) ?_
        refine ji_rem hx hb dX1_step_49 (by decide) (v := nI ((q / 9) % 2)) (pk_rem (a := (q / 9)) (d := 2) (by omega) (by omega) (by omega)) ?_
        refine jz_ne (tgt := 57) hx hb (by omega) dX1_step_50 (by decide) (fun c_4 => ?_) (fun c_4 => ?_)
        · refine lv_iconst (v := nI 1) hx hb dX1_step_57 (by decide) ?_
          exact jr_i hx hb hr hlocks hP hD hS (by rw [stp_eq, if_neg (fun z => c_1 z.1), if_neg (fun z => c_2 z.1), if_neg (fun z => c_4 z.2)]) dX1_step_58
        · refine lv_iconst (v := nI 2) hx hb dX1_step_53 (by decide) ?_
          refine lv_goto (tgt := 58) hx hb dX1_step_54 (by decide) ?_
          exact jr_i hx hb hr hlocks hP hD hS (by rw [stp_eq, if_neg (fun z => c_1 z.1), if_neg (fun z => c_2 z.1), if_pos ⟨c_3, c_4⟩]) dX1_step_58
    · refine lv_iload_n hx hb dX1_step_33 rfl (lv_at hl 0 rfl) ?_
      refine lv_iconst (v := nI 4) hx hb dX1_step_34 (by decide) ?_
      refine ji_rem hx hb dX1_step_35 (by decide) (v := nI ((q / 9) % 4)) (pk_rem (a := (q / 9)) (d := 4) (by omega) (by omega) (by omega)) ?_
      refine jz_ne (tgt := 41) hx hb (by omega) dX1_step_36 (by decide) (fun c_5 => ?_) (fun c_5 => ?_)
      · refine lv_iload_n hx hb dX1_step_41 rfl (lv_at hl 1 rfl) ?_
        refine lv_iconst (v := nI 2) hx hb dX1_step_42 (by decide) ?_
        refine ji_rem hx hb dX1_step_43 (by decide) (v := nI ((q % 9) % 2)) (pk_rem (a := (q % 9)) (d := 2) (by omega) (by omega) (by omega)) ?_
        refine jz_ne (tgt := 57) hx hb (by omega) dX1_step_44 (by decide) (fun c_6 => ?_) (fun c_6 => ?_)
        · refine lv_iconst (v := nI 1) hx hb dX1_step_57 (by decide) ?_
          exact jr_i hx hb hr hlocks hP hD hS (by rw [stp_eq, if_neg (fun z => c_1 z.1), if_neg (fun z => c_5 z.2), if_neg (fun z => c_6 z.1)]) dX1_step_58
        · refine lv_iload_n hx hb dX1_step_47 rfl (lv_at hl 0 rfl) ?_
          refine lv_iconst (v := nI 2) hx hb dX1_step_48 (by decide) ?_
          refine ji_rem hx hb dX1_step_49 (by decide) (v := nI ((q / 9) % 2)) (pk_rem (a := (q / 9)) (d := 2) (by omega) (by omega) (by omega)) ?_
          refine jz_ne (tgt := 57) hx hb (by omega) dX1_step_50 (by decide) (fun c_7 => ?_) (fun c_7 => ?_)
          · refine lv_iconst (v := nI 1) hx hb dX1_step_57 (by decide) ?_
            exact jr_i hx hb hr hlocks hP hD hS (by rw [stp_eq, if_neg (fun z => c_1 z.1), if_neg (fun z => c_5 z.2), if_neg (fun z => c_7 z.2)]) dX1_step_58
          · refine lv_iconst (v := nI 2) hx hb dX1_step_53 (by decide) ?_
            refine lv_goto (tgt := 58) hx hb dX1_step_54 (by decide) ?_
            exact jr_i hx hb hr hlocks hP hD hS (by rw [stp_eq, if_neg (fun z => c_1 z.1), if_neg (fun z => c_5 z.2), if_pos ⟨c_6, c_7⟩]) dX1_step_58
      · refine lv_iconst (v := nI 4) hx hb dX1_step_39 (by decide) ?_
        exact jr_i hx hb hr hlocks hP hD hS (by rw [stp_eq, if_neg (fun z => c_1 z.1), if_pos ⟨c_2, c_5⟩]) dX1_step_40
  · refine lv_iload_n hx hb dX1_step_17 rfl (lv_at hl 0 rfl) ?_
    refine lv_bipush (v := nI 8) hx hb dX1_step_18 (by decide) ?_
    refine ji_rem hx hb dX1_step_20 (by decide) (v := nI ((q / 9) % 8)) (pk_rem (a := (q / 9)) (d := 8) (by omega) (by omega) (by omega)) ?_
    refine jz_ne (tgt := 27) hx hb (by omega) dX1_step_21 (by decide) (fun c_8 => ?_) (fun c_8 => ?_)
    · refine lv_iload_n hx hb dX1_step_27 rfl (lv_at hl 1 rfl) ?_
      refine lv_iconst (v := nI 4) hx hb dX1_step_28 (by decide) ?_
      refine ji_rem hx hb dX1_step_29 (by decide) (v := nI ((q % 9) % 4)) (pk_rem (a := (q % 9)) (d := 4) (by omega) (by omega) (by omega)) ?_
      refine jz_ne (tgt := 41) hx hb (by omega) dX1_step_30 (by decide) (fun c_9 => ?_) (fun c_9 => ?_)
      · refine lv_iload_n hx hb dX1_step_41 rfl (lv_at hl 1 rfl) ?_
        refine lv_iconst (v := nI 2) hx hb dX1_step_42 (by decide) ?_
        refine ji_rem hx hb dX1_step_43 (by decide) (v := nI ((q % 9) % 2)) (pk_rem (a := (q % 9)) (d := 2) (by omega) (by omega) (by omega)) ?_
        refine jz_ne (tgt := 57) hx hb (by omega) dX1_step_44 (by decide) (fun c_10 => ?_) (fun c_10 => ?_)
        · refine lv_iconst (v := nI 1) hx hb dX1_step_57 (by decide) ?_
          exact jr_i hx hb hr hlocks hP hD hS (by rw [stp_eq, if_neg (fun z => c_8 z.2), if_neg (fun z => c_9 z.1), if_neg (fun z => c_10 z.1)]) dX1_step_58
        · refine lv_iload_n hx hb dX1_step_47 rfl (lv_at hl 0 rfl) ?_
          refine lv_iconst (v := nI 2) hx hb dX1_step_48 (by decide) ?_
          refine ji_rem hx hb dX1_step_49 (by decide) (v := nI ((q / 9) % 2)) (pk_rem (a := (q / 9)) (d := 2) (by omega) (by omega) (by omega)) ?_
          refine jz_ne (tgt := 57) hx hb (by omega) dX1_step_50 (by decide) (fun c_11 => ?_) (fun c_11 => ?_)
          · refine lv_iconst (v := nI 1) hx hb dX1_step_57 (by decide) ?_
            exact jr_i hx hb hr hlocks hP hD hS (by rw [stp_eq, if_neg (fun z => c_8 z.2), if_neg (fun z => c_9 z.1), if_neg (fun z => c_11 z.2)]) dX1_step_58
          · refine lv_iconst (v := nI 2) hx hb dX1_step_53 (by decide) ?_
            refine lv_goto (tgt := 58) hx hb dX1_step_54 (by decide) ?_
            exact jr_i hx hb hr hlocks hP hD hS (by rw [stp_eq, if_neg (fun z => c_8 z.2), if_neg (fun z => c_9 z.1), if_pos ⟨c_10, c_11⟩]) dX1_step_58
      · refine lv_iload_n hx hb dX1_step_33 rfl (lv_at hl 0 rfl) ?_
        refine lv_iconst (v := nI 4) hx hb dX1_step_34 (by decide) ?_
        refine ji_rem hx hb dX1_step_35 (by decide) (v := nI ((q / 9) % 4)) (pk_rem (a := (q / 9)) (d := 4) (by omega) (by omega) (by omega)) ?_
        refine jz_ne (tgt := 41) hx hb (by omega) dX1_step_36 (by decide) (fun c_12 => ?_) (fun c_12 => ?_)
        · refine lv_iload_n hx hb dX1_step_41 rfl (lv_at hl 1 rfl) ?_
          refine lv_iconst (v := nI 2) hx hb dX1_step_42 (by decide) ?_
          refine ji_rem hx hb dX1_step_43 (by decide) (v := nI ((q % 9) % 2)) (pk_rem (a := (q % 9)) (d := 2) (by omega) (by omega) (by omega)) ?_
          refine jz_ne (tgt := 57) hx hb (by omega) dX1_step_44 (by decide) (fun c_13 => ?_) (fun c_13 => ?_)
          · refine lv_iconst (v := nI 1) hx hb dX1_step_57 (by decide) ?_
            exact jr_i hx hb hr hlocks hP hD hS (by rw [stp_eq, if_neg (fun z => c_8 z.2), if_neg (fun z => c_12 z.2), if_neg (fun z => c_13 z.1)]) dX1_step_58
          · refine lv_iload_n hx hb dX1_step_47 rfl (lv_at hl 0 rfl) ?_
            refine lv_iconst (v := nI 2) hx hb dX1_step_48 (by decide) ?_
            refine ji_rem hx hb dX1_step_49 (by decide) (v := nI ((q / 9) % 2)) (pk_rem (a := (q / 9)) (d := 2) (by omega) (by omega) (by omega)) ?_
            refine jz_ne (tgt := 57) hx hb (by omega) dX1_step_50 (by decide) (fun c_14 => ?_) (fun c_14 => ?_)
            · refine lv_iconst (v := nI 1) hx hb dX1_step_57 (by decide) ?_
              exact jr_i hx hb hr hlocks hP hD hS (by rw [stp_eq, if_neg (fun z => c_8 z.2), if_neg (fun z => c_12 z.2), if_neg (fun z => c_14 z.2)]) dX1_step_58
            · refine lv_iconst (v := nI 2) hx hb dX1_step_53 (by decide) ?_
              refine lv_goto (tgt := 58) hx hb dX1_step_54 (by decide) ?_
              exact jr_i hx hb hr hlocks hP hD hS (by rw [stp_eq, if_neg (fun z => c_8 z.2), if_neg (fun z => c_12 z.2), if_pos ⟨c_13, c_14⟩]) dX1_step_58
        · refine lv_iconst (v := nI 4) hx hb dX1_step_39 (by decide) ?_
          exact jr_i hx hb hr hlocks hP hD hS (by rw [stp_eq, if_neg (fun z => c_8 z.2), if_pos ⟨c_9, c_12⟩]) dX1_step_40
    · refine lv_bipush (v := nI 8) hx hb dX1_step_24 (by decide) ?_
      exact jr_i hx hb hr hlocks hP hD hS (by rw [stp_eq, if_pos ⟨c_1, c_8⟩]) dX1_step_26
set_option maxHeartbeats 4000000 in
set_option maxRecDepth 100000 in
/-- the rank of a place -/
theorem mX1_place (l : Launch) (G : va_G) (q : Nat) (hq : q < 81) : MI l yX1_place (ws_ yX1_place cX1_place 5 (some .int)) ro1 G [] [.int (nI q)] ([]) (nI (rk q)) ([]) := by
  refine MI.ofW (by decide) (Nat.le_of_ble_eq_true rfl) ?_
  intro p e8 s m below meth c A hx hb hr hml hown hts hlocks hA hK hP hD ls hl
  have hS : va_S A s.heap s.heap [] := va_S.rf
  have hown : s.vm.findClass RX1 = some m.cls := hown
  have hl : lv_has ls 5 [(0, .int (nI q))] := hl
  obtain ⟨hs1, hs8⟩ := tb_st q hq
  refine lv_iconst (v := nI 0) hx hb dX1_place_0 (by decide) ?_
  refine lv_istore_n (lv' := [(1, .int (nI 0)), (0, .int (nI q))]) hx hb dX1_place_1 rfl hl (by decide) rfl (fun ls hl => ?_)
  refine lv_iload_n hx hb dX1_place_2 rfl (lv_at hl 1 rfl) ?_
  refine kc_Si (wr := []) (w1 := []) (rest := []) ⟨hx, hb, hml, hown, hts⟩ (mX1_step l G q hq) (va_cwS 1 hts (lw_S q185 q186 q12 q187) rfl rfl rfl (by decide +kernel) ⟨(Nat.le_of_ble_eq_true rfl), (Nat.le_of_ble_eq_true rfl)⟩) hK [] rfl hP hD hS hA [] [] rfl rfl rfl rfl (by decide) rfl hl.1 rfl (Nat.le_of_ble_eq_true rfl) dX1_place_3 ⟨(Nat.le_of_ble_eq_true rfl), (Nat.le_of_ble_eq_true rfl)⟩ (fun H locs hP hD hS => ?_)
  refine lv_istore_n (lv' := [(2, .int (nI (stp q))), (1, .int (nI 0)), (0, .int (nI q))]) hx hb dX1_place_6 rfl hl (by decide) rfl (fun ls hl => ?_)
  refine lv_iconst (v := nI 0) hx hb dX1_place_7 (by decide) ?_
  refine lv_istore_n (lv' := [(3, .int (nI 0)), (2, .int (nI (stp q))), (1, .int (nI 0)), (0, .int (nI q))]) hx hb dX1_place_8 rfl hl (by decide) rfl (fun ls hl => ?_)
  refine ja_loop (fun n H locs ls => ∃ (j : Nat), j + n = 81 ∧ ja_I A G s.heap ([]) 5 [(0, .int (nI q)), (1, .int (nI (sm (plj q) j))), (2, .int (nI (stp q))), (3, .int (nI j))] H locs ls) ?_ 81 ⟨0, rfl, hP, hD, hS, lv_sub hl [3, 2, 1, 0] rfl⟩
  intro n ih H locs ls hI
  obtain ⟨j, hj, hP, hD, hS, hl⟩ := hI
  refine lv_iload_n hx hb dX1_place_9 rfl (lv_at hl 3 rfl) ?_
  refine lv_bipush (v := nI 81) hx hb dX1_place_10 (by decide) ?_
  refine jn_ge (tgt := 47) hx hb (by omega) (by omega) dX1_place_12 (by decide) (fun c_1 => ?_) (fun c_1 => ?_)
  · obtain rfl : j = 81 := by omega
    refine lv_iload_n hx hb dX1_place_47 rfl (lv_at hl 1 rfl) ?_
    exact jr_i hx hb hr hlocks hP hD hS (by rw [tb_pl q hq]) dX1_place_48
  · obtain ⟨hj1, hj8⟩ := tb_st j (by omega)
    refine lv_iload_n hx hb dX1_place_15 rfl (lv_at hl 3 rfl) ?_
    refine kc_Si (wr := []) (w1 := []) (rest := []) ⟨hx, hb, hml, hown, hts⟩ (mX1_step l G j (by omega)) (va_cwS 1 hts (lw_S q185 q186 q12 q187) rfl rfl rfl (by decide +kernel) ⟨(Nat.le_of_ble_eq_true rfl), (Nat.le_of_ble_eq_true rfl)⟩) hK [] rfl hP hD hS hA [] [] rfl rfl rfl rfl (by decide) rfl hl.1 rfl (Nat.le_of_ble_eq_true rfl) dX1_place_16 ⟨(Nat.le_of_ble_eq_true rfl), (Nat.le_of_ble_eq_true rfl)⟩ (fun H locs hP hD hS => ?_)
    refine lv_istore (lv' := [(4, .int (nI (stp j))), (0, .int (nI q)), (1, .int (nI (sm (plj q) j))), (2, .int (nI (stp q))), (3, .int (nI j))]) hx hb dX1_place_19 hl (by decide) rfl (fun ls hl => ?_)
    refine lv_iload hx hb dX1_place_21 (lv_at hl 0 rfl) ?_
    refine lv_iload_n hx hb dX1_place_23 rfl (lv_at hl 3 rfl) ?_
    refine jn_gt (tgt := 38) hx hb (by omega) (by omega) dX1_place_24 (by decide) (fun c_2 => ?_) (fun c_2 => ?_)
    · refine lv_iinc (v := nI ((sm (plj q) j) + 1)) (lv' := [(1, .int (nI ((sm (plj q) j) + 1))), (4, .int (nI (stp j))), (0, .int (nI q)), (2, .int (nI (stp q))), (3, .int (nI j))]) hx hb dX1_place_38 hl (k := 2) rfl (nI_1 (sm (plj q) j)) (by decide) rfl (fun ls hl => ?_)
      refine lv_iinc (v := nI (j + 1)) (lv' := [(3, .int (nI (j + 1))), (1, .int (nI ((sm (plj q) j) + 1))), (4, .int (nI (stp j))), (0, .int (nI q)), (2, .int (nI (stp q)))]) hx hb dX1_place_41 hl (k := 4) rfl (nI_1 j) (by decide) rfl (fun ls hl => ?_)
      have hE : sm (plj q) (j + 1) = sm (plj q) j + 1 := sm_1 (if_pos (Or.inl c_2))
      rw [← hE] at hl
      refine lv_goto (tgt := 9) hx hb dX1_place_44 (by decide) ?_
      exact ih (n - 1) (by omega) _ _ _ ⟨j + 1, by omega, hP, hD, hS, lv_sub hl [3, 1, 4, 0] rfl⟩
    · refine lv_iload hx hb dX1_place_27 (lv_at hl 0 rfl) ?_
      refine lv_iload_n hx hb dX1_place_29 rfl (lv_at hl 3 rfl) ?_
      refine jn_ne (tgt := 41) hx hb (by omega) (by omega) dX1_place_30 (by decide) (fun c_3 => ?_) (fun c_3 => ?_)
      · refine lv_iinc (v := nI (j + 1)) (lv' := [(3, .int (nI (j + 1))), (4, .int (nI (stp j))), (0, .int (nI q)), (1, .int (nI (sm (plj q) j))), (2, .int (nI (stp q)))]) hx hb dX1_place_41 hl (k := 4) rfl (nI_1 j) (by decide) rfl (fun ls hl => ?_)
        have hE : sm (plj q) (j + 1) = sm (plj q) j := sm_0 (if_neg (by omega))
        rw [← hE] at hl
        refine lv_goto (tgt := 9) hx hb dX1_place_44 (by decide) ?_
        exact ih (n - 1) (by omega) _ _ _ ⟨j + 1, by omega, hP, hD, hS, lv_sub hl [2, 3, 4, 0] rfl⟩
      · refine lv_iload_n hx hb dX1_place_33 rfl (lv_at hl 4 rfl) ?_
        refine lv_iload_n hx hb dX1_place_34 rfl (lv_at hl 1 rfl) ?_
        refine jn_ge (tgt := 41) hx hb (by omega) (by omega) dX1_place_35 (by decide) (fun c_4 => ?_) (fun c_4 => ?_)
        · refine lv_iinc (v := nI (j + 1)) (lv' := [(3, .int (nI (j + 1))), (4, .int (nI (stp j))), (0, .int (nI q)), (1, .int (nI (sm (plj q) j))), (2, .int (nI (stp q)))]) hx hb dX1_place_41 hl (k := 4) rfl (nI_1 j) (by decide) rfl (fun ls hl => ?_)
          have hE : sm (plj q) (j + 1) = sm (plj q) j := sm_0 (if_neg (by omega))
          rw [← hE] at hl
          refine lv_goto (tgt := 9) hx hb dX1_place_44 (by decide) ?_
          exact ih (n - 1) (by omega) _ _ _ ⟨j + 1, by omega, hP, hD, hS, lv_sub hl [2, 3, 4, 0] rfl⟩
        · refine lv_iinc (v := nI ((sm (plj q) j) + 1)) (lv' := [(1, .int (nI ((sm (plj q) j) + 1))), (4, .int (nI (stp j))), (0, .int (nI q)), (2, .int (nI (stp q))), (3, .int (nI j))]) hx hb dX1_place_38 hl (k := 2) rfl (nI_1 (sm (plj q) j)) (by decide) rfl (fun ls hl => ?_)
          refine lv_iinc (v := nI (j + 1)) (lv' := [(3, .int (nI (j + 1))), (1, .int (nI ((sm (plj q) j) + 1))), (4, .int (nI (stp j))), (0, .int (nI q)), (2, .int (nI (stp q)))]) hx hb dX1_place_41 hl (k := 4) rfl (nI_1 j) (by decide) rfl (fun ls hl => ?_)
          have hE : sm (plj q) (j + 1) = sm (plj q) j + 1 := sm_1 (if_pos (Or.inr ⟨c_3, c_4⟩))
          rw [← hE] at hl
          refine lv_goto (tgt := 9) hx hb dX1_place_44 (by decide) ?_
          exact ih (n - 1) (by omega) _ _ _ ⟨j + 1, by omega, hP, hD, hS, lv_sub hl [3, 1, 4, 0] rfl⟩
set_option maxHeartbeats 4000000 in
set_option maxRecDepth 100000 in
/-- a pixel is drawn -/
theorem mX1_draw1 (l : Launch) (G : va_G) (d : ClassId) (a : Nat → Nat) (D : Nat → Nat) (E : Nat → Int32) (an rc : Int32) (x y : Nat) (v : Int32) (hx9 : x < 9) (hy9 : y < 9) : MI l yX1_draw (ws_ yX1_draw cX1_draw 5 (some .int)) ro1 G [(d, .int)] [.ref (a 0), .int (nI x), .int (nI y), .int v] (Yw d a (nf D) E an rc) (nI (D (9 * y + x))) (Yw d a (nf (up D (9 * y + x) (v.toBitVec.toNat % 256))) E an rc) := by
  refine MI.ofW (by decide) (Nat.le_of_ble_eq_true rfl) ?_
  intro p e8 s m below meth c A hx hb hr hml hown hts hlocks hA hK hP hD ls hl
  have hS : va_S A s.heap s.heap [] := va_S.rf
  have hown : s.vm.findClass RX1 = some m.cls := hown
  have hl : lv_has ls 5 [(0, .ref (a 0)), (1, .int (nI x)), (2, .int (nI y)), (3, .int v)] := hl
  have hI := mX1_off l G (nI x) (nI y)
  rw [if_pos (ip_nI hx9 hy9)] at hI
  refine lv_iload_n hx hb dX1_draw_0 rfl (lv_at hl 1 rfl) ?_
  refine lv_iload_n hx hb dX1_draw_1 rfl (lv_at hl 2 rfl) ?_
  refine kc_Si (wr := Yw d a (nf D) E an rc) (w1 := []) (rest := []) ⟨hx, hb, hml, hown, hts⟩ (hI) (va_cwS 2 hts (lw_S q163 q164 q12 q165) rfl rfl rfl (by decide +kernel) ⟨(Nat.le_of_ble_eq_true rfl), (Nat.le_of_ble_eq_true rfl)⟩) hK [] rfl hP hD hS hA [] [0, 1, 2] rfl rfl rfl rfl (by decide) rfl hl.1 rfl (Nat.le_of_ble_eq_true rfl) dX1_draw_2 ⟨(Nat.le_of_ble_eq_true rfl), (Nat.le_of_ble_eq_true rfl)⟩ (fun H locs hP hD hS => ?_)
  have hP : va_P G vwCl (Yw d a (nf D) E an rc) H := hP
  have hD : va_D A (Yw d a (nf D) E an rc) := hD
  refine jz_eq (tgt := 10) hx hb (by omega) dX1_draw_5 (by decide) (fun c_1 => ?_) (fun c_1 => ?_)
  · refine lv_aload_n hx hb dX1_draw_10 rfl (lv_at hl 0 rfl) ?_
    refine va_get (D := G) (ci := 1) (v := .ref (a 1)) (C := RX1) (T := TX1) (N := 4) hx hb hts in_X1 hown hK hP 0 rfl rfl 0 (by decide) (hts _ q146) (fun _ h9 => h9) rfl dX1_draw_11 ?_
    refine lv_bipush (v := nI 9) hx hb dX1_draw_14 (by decide) ?_
    refine lv_iload_n hx hb dX1_draw_16 rfl (lv_at hl 2 rfl) ?_
    refine ji_mul hx hb dX1_draw_17 (v := nI (9 * y)) (pk_mul 9 y) ?_
    refine lv_iload_n hx hb dX1_draw_18 rfl (lv_at hl 1 rfl) ?_
    refine ji_add hx hb dX1_draw_19 (v := nI ((9 * y) + x)) (nI_add (9 * y) x) ?_
    refine ja_ld hx hb hK hP 1 0 rfl rfl (k := (9 * y) + x) (by omega) (by decide) (v := nI (D ((9 * y) + x))) rfl dX1_draw_20 ?_
    refine lv_istore (lv' := [(4, .int (nI (D ((9 * y) + x)))), (0, .ref (a 0)), (1, .int (nI x)), (2, .int (nI y)), (3, .int v)]) hx hb dX1_draw_21 hl (by decide) rfl (fun ls hl => ?_)
    refine lv_aload_n hx hb dX1_draw_23 rfl (lv_at hl 1 rfl) ?_
    refine va_get (D := G) (ci := 1) (v := .ref (a 1)) (C := RX1) (T := TX1) (N := 4) hx hb hts in_X1 hown hK hP 0 rfl rfl 0 (by decide) (hts _ q146) (fun _ h9 => h9) rfl dX1_draw_24 ?_
    refine lv_bipush (v := nI 9) hx hb dX1_draw_27 (by decide) ?_
    refine lv_iload_n hx hb dX1_draw_29 rfl (lv_at hl 3 rfl) ?_
    refine ji_mul hx hb dX1_draw_30 (v := nI (9 * y)) (pk_mul 9 y) ?_
    refine lv_iload_n hx hb dX1_draw_31 rfl (lv_at hl 2 rfl) ?_
    refine ji_add hx hb dX1_draw_32 (v := nI ((9 * y) + x)) (nI_add (9 * y) x) ?_
    refine lv_iload_n hx hb dX1_draw_33 rfl (lv_at hl 4 rfl) ?_
    refine lv_sipush (v := nI 255) hx hb dX1_draw_34 (by decide) ?_
    refine ji_and hx hb dX1_draw_37 (v := nI (v.toBitVec.toNat % 256)) (ar_and255 v) ?_
    refine ja_st hx hb hK hP hD hS 1 0 rfl rfl (k := (9 * y) + x) (by omega) (by decide) (f' := nf (up D (9 * y + x) (v.toBitVec.toNat % 256))) (ar_nf_upd _ _ _) dX1_draw_38 (fun H locs hP hD hS => ?_)
    have hP : va_P G vwCl (Yw d a (nf (up D (9 * y + x) (v.toBitVec.toNat % 256))) E an rc) H := hP
    have hD : va_D A (Yw d a (nf (up D (9 * y + x) (v.toBitVec.toNat % 256))) E an rc) := hD
    refine lv_iload hx hb dX1_draw_39 (lv_at hl 0 rfl) ?_
    exact jr_i hx hb hr hlocks hP hD hS rfl dX1_draw_41
  · exact absurd rfl c_1
set_option maxHeartbeats 4000000 in
set_option maxRecDepth 100000 in
/-- outside nothing is drawn -/
theorem mX1_draw0 (l : Launch) (G : va_G) (d : ClassId) (a : Nat → Nat) (D E : Nat → Int32) (an rc x y v : Int32) (hno : ¬ ip x y) : MI l yX1_draw (ws_ yX1_draw cX1_draw 5 (some .int)) ro1 G [(d, .int)] [.ref (a 0), .int x, .int y, .int v] (Yw d a D E an rc) (-1) (Yw d a D E an rc) := by
  refine MI.ofW (by decide) (Nat.le_of_ble_eq_true rfl) ?_
  intro p e8 s m below meth c A hx hb hr hml hown hts hlocks hA hK hP hD ls hl
  have hS : va_S A s.heap s.heap [] := va_S.rf
  have hown : s.vm.findClass RX1 = some m.cls := hown
  have hl : lv_has ls 5 [(0, .ref (a 0)), (1, .int x), (2, .int y), (3, .int v)] := hl
  have hI := mX1_off l G x y
  rw [if_neg hno] at hI
  refine lv_iload_n hx hb dX1_draw_0 rfl (lv_at hl 1 rfl) ?_
  refine lv_iload_n hx hb dX1_draw_1 rfl (lv_at hl 2 rfl) ?_
  refine kc_Si (wr := Yw d a D E an rc) (w1 := []) (rest := []) ⟨hx, hb, hml, hown, hts⟩ (hI) (va_cwS 2 hts (lw_S q163 q164 q12 q165) rfl rfl rfl (by decide +kernel) ⟨(Nat.le_of_ble_eq_true rfl), (Nat.le_of_ble_eq_true rfl)⟩) hK [] rfl hP hD hS hA [] [0, 1, 2] rfl rfl rfl rfl (by decide) rfl hl.1 rfl (Nat.le_of_ble_eq_true rfl) dX1_draw_2 ⟨(Nat.le_of_ble_eq_true rfl), (Nat.le_of_ble_eq_true rfl)⟩ (fun H locs hP hD hS => ?_)
  have hP : va_P G vwCl (Yw d a D E an rc) H := hP
  have hD : va_D A (Yw d a D E an rc) := hD
  refine jz_eq (tgt := 10) hx hb (by omega) dX1_draw_5 (by decide) (fun c_1 => ?_) (fun c_1 => ?_)
  · exact absurd c_1 (by decide)
  · refine lv_iconst (v := (-1)) hx hb dX1_draw_8 (by decide) ?_
    exact jr_i hx hb hr hlocks hP hD hS rfl dX1_draw_9
set_option maxHeartbeats 4000000 in
set_option maxRecDepth 100000 in
/-- a ramp is drawn -/
theorem mX1_ramp (l : Launch) (G : va_G) (d : ClassId) (a : Nat → Nat) (D : Nat → Nat) (E : Nat → Int32) (an rc b9 dx dy : Int32) : MV l yX1_ramp (ws_ yX1_ramp cX1_ramp 5 none) ro0 G [(d, .int)] [.ref (a 0), .int b9, .int dx, .int dy] (Yw d a (nf D) E an rc) (Yw d a (nf (rmp b9 dx dy D (81))) E an rc) := by
  refine MV.ofW (by decide) (Nat.le_of_ble_eq_true rfl) ?_
  intro p e8 s m below meth c A hx hb hr hml hown hts hlocks hA hK hP hD ls hl
  have hS : va_S A s.heap s.heap [] := va_S.rf
  have hown : s.vm.findClass RX1 = some m.cls := hown
  have hl : lv_has ls 5 [(0, .ref (a 0)), (1, .int b9), (2, .int dx), (3, .int dy)] := hl
  rw [← rmp_0 b9 dx dy D] at hP hD
  refine lv_iconst (v := nI 0) hx hb dX1_ramp_0 (by decide) ?_
  refine lv_istore (lv' := [(4, .int (nI 0)), (0, .ref (a 0)), (1, .int b9), (2, .int dx), (3, .int dy)]) hx hb dX1_ramp_1 hl (by decide) rfl (fun ls hl => ?_)
  refine ja_loop (fun n H locs ls => ∃ (k : Nat), k + n = 81 ∧ ja_I A G s.heap (Yw d a (nf (rmp b9 dx dy D (k))) E an rc) 5 [(0, .ref (a 0)), (1, .int b9), (2, .int dx), (3, .int dy), (4, .int (nI k))] H locs ls) ?_ 81 ⟨0, rfl, hP, hD, hS, lv_sub hl [1, 2, 3, 4, 0] rfl⟩
  intro n ih H locs ls hI
  obtain ⟨k, hk, hP, hD, hS, hl⟩ := hI
  refine lv_iload hx hb dX1_ramp_3 (lv_at hl 4 rfl) ?_
  refine lv_bipush (v := nI 81) hx hb dX1_ramp_5 (by decide) ?_
  refine jn_ge (tgt := 44) hx hb (by omega) (by omega) dX1_ramp_7 (by decide) (fun c_1 => ?_) (fun c_1 => ?_)
  · obtain rfl : k = 81 := by omega
    exact jr_v hx hb hr hlocks hP hD hS dX1_ramp_44
  · refine lv_aload_n hx hb dX1_ramp_10 rfl (lv_at hl 0 rfl) ?_
    refine va_get (D := G) (ci := 1) (v := .ref (a 1)) (C := RX1) (T := TX1) (N := 4) hx hb hts in_X1 hown hK hP 0 rfl rfl 0 (by decide) (hts _ q146) (fun _ h9 => h9) rfl dX1_ramp_11 ?_
    refine lv_iload hx hb dX1_ramp_14 (lv_at hl 4 rfl) ?_
    refine lv_iload_n hx hb dX1_ramp_16 rfl (lv_at hl 1 rfl) ?_
    refine lv_iload_n hx hb dX1_ramp_17 rfl (lv_at hl 2 rfl) ?_
    refine lv_iload hx hb dX1_ramp_18 (lv_at hl 4 rfl) ?_
    refine lv_bipush (v := nI 9) hx hb dX1_ramp_20 (by decide) ?_
    refine ji_rem hx hb dX1_ramp_22 (by decide) (v := nI (k % 9)) (pk_rem (a := k) (d := 9) (by omega) (by omega) (by omega)) ?_
    refine ji_mul hx hb dX1_ramp_23 (v := dx * (nI (k % 9))) rfl ?_
    refine ji_add hx hb dX1_ramp_24 (v := b9 + (dx * (nI (k % 9)))) rfl ?_
    refine lv_iload_n hx hb dX1_ramp_25 rfl (lv_at hl 3 rfl) ?_
    refine lv_iload hx hb dX1_ramp_26 (lv_at hl 4 rfl) ?_
    refine lv_bipush (v := nI 9) hx hb dX1_ramp_28 (by decide) ?_
    refine ji_div hx hb dX1_ramp_30 (by decide) (v := nI (k / 9)) (pk_div (a := k) (d := 9) (by omega) (by omega) (by omega)) ?_
    refine ji_mul hx hb dX1_ramp_31 (v := dy * (nI (k / 9))) rfl ?_
    refine ji_add hx hb dX1_ramp_32 (v := (b9 + (dx * (nI (k % 9)))) + (dy * (nI (k / 9)))) rfl ?_
    refine lv_sipush (v := nI 255) hx hb dX1_ramp_33 (by decide) ?_
    refine ji_and hx hb dX1_ramp_36 (v := nI (rpv b9 dx dy k)) (ar_and255 _) ?_
    refine ja_st hx hb hK hP hD hS 1 0 rfl rfl (k := k) (by omega) (by decide) (f' := nf (rmp b9 dx dy D (k + 1))) (by rw [ar_nf_upd, rmp_s]) dX1_ramp_37 (fun H locs hP hD hS => ?_)
    have hP : va_P G vwCl (Yw d a (nf (rmp b9 dx dy D (k + 1))) E an rc) H := hP
    have hD : va_D A (Yw d a (nf (rmp b9 dx dy D (k + 1))) E an rc) := hD
    refine lv_iinc (v := nI (k + 1)) (lv' := [(4, .int (nI (k + 1))), (0, .ref (a 0)), (1, .int b9), (2, .int dx), (3, .int dy)]) hx hb dX1_ramp_38 hl (k := 4) rfl (nI_1 k) (by decide) rfl (fun ls hl => ?_)
    refine lv_goto (tgt := 3) hx hb dX1_ramp_41 (by decide) ?_
    exact ih (n - 1) (by omega) _ _ _ ⟨k + 1, by omega, hP, hD, hS, lv_sub hl [1, 2, 3, 4, 0] rfl⟩
set_option maxHeartbeats 4000000 in
set_option maxRecDepth 100000 in
/-- the picture is kept -/
theorem mX1_send (l : Launch) (G : va_G) (d : ClassId) (a : Nat → Nat) (D E : Nat → Nat) (an rc : Int32) : MV l yX1_send (ws_ yX1_send cX1_send 2 none) ro0 G [(d, .int)] [.ref (a 0)] (Yw d a (nf D) (nf E) an rc) (Yw d a (nf D) (nf (cpy E D (81))) (nI 1) (nI 0)) := by
  refine MV.ofW (by decide) (Nat.le_of_ble_eq_true rfl) ?_
  intro p e8 s m below meth c A hx hb hr hml hown hts hlocks hA hK hP hD ls hl
  have hS : va_S A s.heap s.heap [] := va_S.rf
  have hown : s.vm.findClass RX1 = some m.cls := hown
  have hl : lv_has ls 2 [(0, .ref (a 0))] := hl
  rw [← cpy_0 E D] at hP hD
  refine lv_iconst (v := nI 0) hx hb dX1_send_0 (by decide) ?_
  refine lv_istore_n (lv' := [(1, .int (nI 0)), (0, .ref (a 0))]) hx hb dX1_send_1 rfl hl (by decide) rfl (fun ls hl => ?_)
  refine ja_loop (fun n H locs ls => ∃ (k : Nat), k + n = 81 ∧ ja_I A G s.heap (Yw d a (nf D) (nf (cpy E D (k))) an rc) 2 [(0, .ref (a 0)), (1, .int (nI k))] H locs ls) ?_ 81 ⟨0, rfl, hP, hD, hS, lv_sub hl [1, 0] rfl⟩
  intro n ih H locs ls hI
  obtain ⟨k, hk, hP, hD, hS, hl⟩ := hI
  refine lv_iload_n hx hb dX1_send_2 rfl (lv_at hl 1 rfl) ?_
  refine lv_bipush (v := nI 81) hx hb dX1_send_3 (by decide) ?_
  refine jn_ge (tgt := 26) hx hb (by omega) (by omega) dX1_send_5 (by decide) (fun c_1 => ?_) (fun c_1 => ?_)
  · obtain rfl : k = 81 := by omega
    refine lv_aload_n hx hb dX1_send_26 rfl (lv_at hl 0 rfl) ?_
    refine lv_iconst (v := nI 1) hx hb dX1_send_27 (by decide) ?_
    refine va_put (D := G) (ci := 1) (v := .int (nI 1)) (ty := .boolean) (C := RX1) (T := TX1) (N := 4) hx hb hts in_X1 tyX1 tyX1_ok nmX1 hown hK hP hD hS 0 rfl rfl 2 (by decide) (hts _ q148) (fun _ h9 => h9) rfl (by decide +kernel) rfl rfl (Nat.le_of_ble_eq_true rfl) dX1_send_28 (fun H locs hP hD hS => ?_)
    have hP : va_P G vwCl (Yw d a (nf D) (nf (cpy E D (81))) (nI 1) rc) H := hP
    have hD : va_D A (Yw d a (nf D) (nf (cpy E D (81))) (nI 1) rc) := hD
    refine lv_aload_n hx hb dX1_send_31 rfl (lv_at hl 0 rfl) ?_
    refine lv_iconst (v := nI 0) hx hb dX1_send_32 (by decide) ?_
    refine va_put (D := G) (ci := 1) (v := .int (nI 0)) (ty := .int) (C := RX1) (T := TX1) (N := 4) hx hb hts in_X1 tyX1 tyX1_ok nmX1 hown hK hP hD hS 0 rfl rfl 3 (by decide) (hts _ q149) (fun _ h9 => h9) rfl (by decide +kernel) rfl rfl (Nat.le_of_ble_eq_true rfl) dX1_send_33 (fun H locs hP hD hS => ?_)
    have hP : va_P G vwCl (Yw d a (nf D) (nf (cpy E D (81))) (nI 1) (nI 0)) H := hP
    have hD : va_D A (Yw d a (nf D) (nf (cpy E D (81))) (nI 1) (nI 0)) := hD
    exact jr_v hx hb hr hlocks hP hD hS dX1_send_36
  · refine lv_aload_n hx hb dX1_send_8 rfl (lv_at hl 0 rfl) ?_
    refine va_get (D := G) (ci := 1) (v := .ref (a 2)) (C := RX1) (T := TX1) (N := 4) hx hb hts in_X1 hown hK hP 0 rfl rfl 1 (by decide) (hts _ q147) (fun _ h9 => h9) rfl dX1_send_9 ?_
    refine lv_iload_n hx hb dX1_send_12 rfl (lv_at hl 1 rfl) ?_
    refine lv_aload_n hx hb dX1_send_13 rfl (lv_at hl 0 rfl) ?_
    refine va_get (D := G) (ci := 1) (v := .ref (a 1)) (C := RX1) (T := TX1) (N := 4) hx hb hts in_X1 hown hK hP 0 rfl rfl 0 (by decide) (hts _ q146) (fun _ h9 => h9) rfl dX1_send_14 ?_
    refine lv_iload_n hx hb dX1_send_17 rfl (lv_at hl 1 rfl) ?_
    refine ja_ld hx hb hK hP 1 0 rfl rfl (k := k) (by omega) (by decide) (v := nI (D k)) rfl dX1_send_18 ?_
    refine ja_st hx hb hK hP hD hS 2 0 rfl rfl (k := k) (by omega) (by decide) (f' := nf (cpy E D (k + 1))) (by rw [ar_nf_upd, cpy_s]) dX1_send_19 (fun H locs hP hD hS => ?_)
    have hP : va_P G vwCl (Yw d a (nf D) (nf (cpy E D (k + 1))) an rc) H := hP
    have hD : va_D A (Yw d a (nf D) (nf (cpy E D (k + 1))) an rc) := hD
    refine lv_iinc (v := nI (k + 1)) (lv' := [(1, .int (nI (k + 1))), (0, .ref (a 0))]) hx hb dX1_send_20 hl (k := 1) rfl (nI_1 k) (by decide) rfl (fun ls hl => ?_)
    refine lv_goto (tgt := 2) hx hb dX1_send_23 (by decide) ?_
    exact ih (n - 1) (by omega) _ _ _ ⟨k + 1, by omega, hP, hD, hS, lv_sub hl [1, 0] rfl⟩
set_option maxHeartbeats 4000000 in
set_option maxRecDepth 100000 in
/-- nothing was sent -/
theorem mX1_receive0 (l : Launch) (G : va_G) (d : ClassId) (a : Nat → Nat) (D E : Nat → Int32) (rc cn : Int32) : MI l yX1_receive (ws_ yX1_receive cX1_receive 3 (some .int)) ro0 G [(d, .int)] [.ref (a 0), .int cn] (Yw d a D E (nI 0) rc) (-1) (Yw d a D E (nI 0) rc) := by
  refine MI.ofW (by decide) (Nat.le_of_ble_eq_true rfl) ?_
  intro p e8 s m below meth c A hx hb hr hml hown hts hlocks hA hK hP hD ls hl
  have hS : va_S A s.heap s.heap [] := va_S.rf
  have hown : s.vm.findClass RX1 = some m.cls := hown
  have hl : lv_has ls 3 [(0, .ref (a 0)), (1, .int cn)] := hl
  refine lv_aload_n hx hb dX1_receive_0 rfl (lv_at hl 0 rfl) ?_
  refine va_get (D := G) (ci := 1) (v := .int (nI 0)) (C := RX1) (T := TX1) (N := 4) hx hb hts in_X1 hown hK hP 0 rfl rfl 2 (by decide) (hts _ q148) (fun _ h9 => h9) rfl dX1_receive_1 ?_
  refine jz_ne (tgt := 9) hx hb (by omega) dX1_receive_4 (by decide) (fun c_1 => ?_) (fun c_1 => ?_)
  · exact absurd rfl c_1
  · refine lv_iconst (v := (-1)) hx hb dX1_receive_7 (by decide) ?_
    exact jr_i hx hb hr hlocks hP hD hS rfl dX1_receive_8
set_option maxHeartbeats 4000000 in
set_option maxRecDepth 100000 in
/-- more is received -/
theorem mX1_receive1 (l : Launch) (G : va_G) (d : ClassId) (a : Nat → Nat) (D E : Nat → Int32) (cn : Int32) (r : Nat) (hr9 : r ≤ 81) : MI l yX1_receive (ws_ yX1_receive cX1_receive 3 (some .int)) ro0 G [(d, .int)] [.ref (a 0), .int cn] (Yw d a D E (nI 1) (nI r)) (nI (rcv r cn)) (Yw d a D E (nI 1) (nI (rcv r cn))) := by
  refine MI.ofW (by decide) (Nat.le_of_ble_eq_true rfl) ?_
  intro p e8 s m below meth c A hx hb hr hml hown hts hlocks hA hK hP hD ls hl
  have hS : va_S A s.heap s.heap [] := va_S.rf
  have hown : s.vm.findClass RX1 = some m.cls := hown
  have hl : lv_has ls 3 [(0, .ref (a 0)), (1, .int cn)] := hl
  refine lv_aload_n hx hb dX1_receive_0 rfl (lv_at hl 0 rfl) ?_
  refine va_get (D := G) (ci := 1) (v := .int (nI 1)) (C := RX1) (T := TX1) (N := 4) hx hb hts in_X1 hown hK hP 0 rfl rfl 2 (by decide) (hts _ q148) (fun _ h9 => h9) rfl dX1_receive_1 ?_
  refine jz_ne (tgt := 9) hx hb (by omega) dX1_receive_4 (by decide) (fun c_1 => ?_) (fun c_1 => ?_)
  · refine lv_iload_n hx hb dX1_receive_9 rfl (lv_at hl 1 rfl) ?_
    refine lv_if_ge (tgt := 17) hx hb dX1_receive_10 (by decide) (fun c_2 => ?_) (fun c_2 => ?_)
    · obtain ⟨m9, hm9, rfl⟩ := nI_of (x := cn) (Int32.not_lt.mpr c_2)
      have hcl : (nI m9).toNatClampNeg = m9 := nI_clamp hm9
      refine lv_iload_n hx hb dX1_receive_17 rfl (lv_at hl 1 rfl) ?_
      refine lv_istore_n (lv' := [(2, .int (nI m9)), (0, .ref (a 0)), (1, .int (nI m9))]) hx hb dX1_receive_18 rfl hl (by decide) rfl (fun ls hl => ?_)
      refine lv_aload_n hx hb dX1_receive_19 rfl (lv_at hl 1 rfl) ?_
      refine lv_iload_n hx hb dX1_receive_20 rfl (lv_at hl 0 rfl) ?_
      refine lv_bipush (v := nI 81) hx hb dX1_receive_21 (by decide) ?_
      refine lv_aload_n hx hb dX1_receive_23 rfl (lv_at hl 1 rfl) ?_
      refine va_get (D := G) (ci := 1) (v := .int (nI r)) (C := RX1) (T := TX1) (N := 4) hx hb hts in_X1 hown hK hP 0 rfl rfl 3 (by decide) (hts _ q149) (fun _ h9 => h9) rfl dX1_receive_24 ?_
      refine ji_sub hx hb dX1_receive_27 (v := nI (81 - r)) (pk_sub (a := 81) (b := r) (by omega)) ?_
      refine jn_le (tgt := 36) hx hb (by omega) (by omega) dX1_receive_28 (by decide) (fun c_3 => ?_) (fun c_3 => ?_)
      · have hE : rcv r (nI m9) = r + m9 := by unfold rcv; rw [hcl]; omega
        rw [hE]
        refine lv_aload_n hx hb dX1_receive_36 rfl (lv_at hl 1 rfl) ?_
        refine va_get (D := G) (ci := 1) (v := .int (nI r)) (C := RX1) (T := TX1) (N := 4) hx hb hts in_X1 hown hK hP 0 rfl rfl 3 (by decide) (hts _ q149) (fun _ h9 => h9) rfl dX1_receive_37 ?_
        refine lv_iload_n hx hb dX1_receive_40 rfl (lv_at hl 0 rfl) ?_
        refine ji_add hx hb dX1_receive_41 (v := nI (r + m9)) (nI_add r m9) ?_
        refine va_put (D := G) (ci := 1) (v := .int (nI (r + m9))) (ty := .int) (C := RX1) (T := TX1) (N := 4) hx hb hts in_X1 tyX1 tyX1_ok nmX1 hown hK hP hD hS 0 rfl rfl 3 (by decide) (hts _ q149) (fun _ h9 => h9) rfl (by decide +kernel) rfl rfl (Nat.le_of_ble_eq_true rfl) dX1_receive_42 (fun H locs hP hD hS => ?_)
        have hP : va_P G vwCl (Yw d a D E (nI 1) (nI (r + m9))) H := hP
        have hD : va_D A (Yw d a D E (nI 1) (nI (r + m9))) := hD
        refine lv_aload_n hx hb dX1_receive_45 rfl (lv_at hl 1 rfl) ?_
        refine va_get (D := G) (ci := 1) (v := .int (nI (r + m9))) (C := RX1) (T := TX1) (N := 4) hx hb hts in_X1 hown hK hP 0 rfl rfl 3 (by decide) (hts _ q149) (fun _ h9 => h9) rfl dX1_receive_46 ?_
        exact jr_i hx hb hr hlocks hP hD hS rfl dX1_receive_49
      · have hE : rcv r (nI m9) = 81 := by unfold rcv; rw [hcl]; omega
        rw [hE]
        refine lv_bipush (v := nI 81) hx hb dX1_receive_31 (by decide) ?_
        refine lv_goto (tgt := 42) hx hb dX1_receive_33 (by decide) ?_
        refine va_put (D := G) (ci := 1) (v := .int (nI 81)) (ty := .int) (C := RX1) (T := TX1) (N := 4) hx hb hts in_X1 tyX1 tyX1_ok nmX1 hown hK hP hD hS 0 rfl rfl 3 (by decide) (hts _ q149) (fun _ h9 => h9) rfl (by decide +kernel) rfl rfl (Nat.le_of_ble_eq_true rfl) dX1_receive_42 (fun H locs hP hD hS => ?_)
        have hP : va_P G vwCl (Yw d a D E (nI 1) (nI 81)) H := hP
        have hD : va_D A (Yw d a D E (nI 1) (nI 81)) := hD
        refine lv_aload_n hx hb dX1_receive_45 rfl (lv_at hl 1 rfl) ?_
        refine va_get (D := G) (ci := 1) (v := .int (nI 81)) (C := RX1) (T := TX1) (N := 4) hx hb hts in_X1 hown hK hP 0 rfl rfl 3 (by decide) (hts _ q149) (fun _ h9 => h9) rfl dX1_receive_46 ?_
        exact jr_i hx hb hr hlocks hP hD hS rfl dX1_receive_49
    · have hcl : cn.toNatClampNeg = 0 := cn_neg (Int32.not_le.mp c_2)
      refine lv_iconst (v := nI 0) hx hb dX1_receive_13 (by decide) ?_
      refine lv_goto (tgt := 18) hx hb dX1_receive_14 (by decide) ?_
      refine lv_istore_n (lv' := [(2, .int (nI 0)), (0, .ref (a 0)), (1, .int cn)]) hx hb dX1_receive_18 rfl hl (by decide) rfl (fun ls hl => ?_)
      refine lv_aload_n hx hb dX1_receive_19 rfl (lv_at hl 1 rfl) ?_
      refine lv_iload_n hx hb dX1_receive_20 rfl (lv_at hl 0 rfl) ?_
      refine lv_bipush (v := nI 81) hx hb dX1_receive_21 (by decide) ?_
      refine lv_aload_n hx hb dX1_receive_23 rfl (lv_at hl 1 rfl) ?_
      refine va_get (D := G) (ci := 1) (v := .int (nI r)) (C := RX1) (T := TX1) (N := 4) hx hb hts in_X1 hown hK hP 0 rfl rfl 3 (by decide) (hts _ q149) (fun _ h9 => h9) rfl dX1_receive_24 ?_
      refine ji_sub hx hb dX1_receive_27 (v := nI (81 - r)) (pk_sub (a := 81) (b := r) (by omega)) ?_
      refine jn_le (tgt := 36) hx hb (by omega) (by omega) dX1_receive_28 (by decide) (fun c_4 => ?_) (fun c_4 => ?_)
      · have hE : rcv r cn = r + 0 := by unfold rcv; rw [hcl]; omega
        rw [hE]
        refine lv_aload_n hx hb dX1_receive_36 rfl (lv_at hl 1 rfl) ?_
        refine va_get (D := G) (ci := 1) (v := .int (nI r)) (C := RX1) (T := TX1) (N := 4) hx hb hts in_X1 hown hK hP 0 rfl rfl 3 (by decide) (hts _ q149) (fun _ h9 => h9) rfl dX1_receive_37 ?_
        refine lv_iload_n hx hb dX1_receive_40 rfl (lv_at hl 0 rfl) ?_
        refine ji_add hx hb dX1_receive_41 (v := nI (r + 0)) (nI_add r 0) ?_
        refine va_put (D := G) (ci := 1) (v := .int (nI (r + 0))) (ty := .int) (C := RX1) (T := TX1) (N := 4) hx hb hts in_X1 tyX1 tyX1_ok nmX1 hown hK hP hD hS 0 rfl rfl 3 (by decide) (hts _ q149) (fun _ h9 => h9) rfl (by decide +kernel) rfl rfl (Nat.le_of_ble_eq_true rfl) dX1_receive_42 (fun H locs hP hD hS => ?_)
        have hP : va_P G vwCl (Yw d a D E (nI 1) (nI (r + 0))) H := hP
        have hD : va_D A (Yw d a D E (nI 1) (nI (r + 0))) := hD
        refine lv_aload_n hx hb dX1_receive_45 rfl (lv_at hl 1 rfl) ?_
        refine va_get (D := G) (ci := 1) (v := .int (nI (r + 0))) (C := RX1) (T := TX1) (N := 4) hx hb hts in_X1 hown hK hP 0 rfl rfl 3 (by decide) (hts _ q149) (fun _ h9 => h9) rfl dX1_receive_46 ?_
        exact jr_i hx hb hr hlocks hP hD hS rfl dX1_receive_49
      · exact absurd c_4 (by omega)
  · exact absurd c_1 (by decide)
set_option maxHeartbeats 4000000 in
set_option maxRecDepth 100000 in
/-- a pixel that was sent -/
theorem mX1_pixel1 (l : Launch) (G : va_G) (d : ClassId) (a : Nat → Nat) (E : Nat → Nat) (D : Nat → Int32) (x y : Nat) (s9 r : Nat) (hx9 : x < 9) (hy9 : y < 9) (hs : s9 < 2) (hr9 : r ≤ 81) : MI l yX1_pixel (ws_ yX1_pixel cX1_pixel 3 (some .int)) ro2 G [(d, .int)] [.ref (a 0), .int (nI x), .int (nI y)] (Yw d a D (nf E) (nI s9) (nI r)) (pxv s9 r E (9 * y + x)) (Yw d a D (nf E) (nI s9) (nI r)) := by
  refine MI.ofW (by decide) (Nat.le_of_ble_eq_true rfl) ?_
  intro p e8 s m below meth c A hx hb hr hml hown hts hlocks hA hK hP hD ls hl
  have hS : va_S A s.heap s.heap [] := va_S.rf
  have hown : s.vm.findClass RX1 = some m.cls := hown
  have hl : lv_has ls 3 [(0, .ref (a 0)), (1, .int (nI x)), (2, .int (nI y))] := hl
  have hrk := tb_rk (9 * y + x) (by omega)
  have hI := mX1_off l G (nI x) (nI y)
  rw [if_pos (ip_nI hx9 hy9)] at hI
  refine lv_iload_n hx hb dX1_pixel_0 rfl (lv_at hl 1 rfl) ?_
  refine lv_iload_n hx hb dX1_pixel_1 rfl (lv_at hl 2 rfl) ?_
  refine kc_Si (wr := Yw d a D (nf E) (nI s9) (nI r)) (w1 := []) (rest := []) ⟨hx, hb, hml, hown, hts⟩ (hI) (va_cwS 2 hts (lw_S q163 q164 q12 q165) rfl rfl rfl (by decide +kernel) ⟨(Nat.le_of_ble_eq_true rfl), (Nat.le_of_ble_eq_true rfl)⟩) hK [] rfl hP hD hS hA [] [0, 1, 2] rfl rfl rfl rfl (by decide) rfl hl.1 rfl (Nat.le_of_ble_eq_true rfl) dX1_pixel_2 ⟨(Nat.le_of_ble_eq_true rfl), (Nat.le_of_ble_eq_true rfl)⟩ (fun H locs hP hD hS => ?_)
  have hP : va_P G vwCl (Yw d a D (nf E) (nI s9) (nI r)) H := hP
  have hD : va_D A (Yw d a D (nf E) (nI s9) (nI r)) := hD
  refine jz_ne (tgt := 31) hx hb (by omega) dX1_pixel_5 (by decide) (fun c_1 => ?_) (fun c_1 => ?_)
  · exact absurd rfl c_1
  · refine lv_aload_n hx hb dX1_pixel_8 rfl (lv_at hl 0 rfl) ?_
    refine va_get (D := G) (ci := 1) (v := .int (nI s9)) (C := RX1) (T := TX1) (N := 4) hx hb hts in_X1 hown hK hP 0 rfl rfl 2 (by decide) (hts _ q148) (fun _ h9 => h9) rfl dX1_pixel_9 ?_
    refine jz_eq (tgt := 31) hx hb (by omega) dX1_pixel_12 (by decide) (fun c_2 => ?_) (fun c_2 => ?_)
    · refine lv_iconst (v := (-1)) hx hb dX1_pixel_31 (by decide) ?_
      exact jr_i hx hb hr hlocks hP hD hS (by unfold pxv; rw [if_neg (fun z => z.1 c_2)]) dX1_pixel_32
    · refine lv_bipush (v := nI 9) hx hb dX1_pixel_15 (by decide) ?_
      refine lv_iload_n hx hb dX1_pixel_17 rfl (lv_at hl 2 rfl) ?_
      refine ji_mul hx hb dX1_pixel_18 (v := nI (9 * y)) (pk_mul 9 y) ?_
      refine lv_iload_n hx hb dX1_pixel_19 rfl (lv_at hl 1 rfl) ?_
      refine ji_add hx hb dX1_pixel_20 (v := nI ((9 * y) + x)) (nI_add (9 * y) x) ?_
      refine kc_Si (wr := Yw d a D (nf E) (nI s9) (nI r)) (w1 := []) (rest := []) ⟨hx, hb, hml, hown, hts⟩ (mX1_place l G (9 * y + x) (by omega)) (va_cwS 1 hts (lw_S q182 q183 q12 q184) rfl rfl rfl (by decide +kernel) ⟨(Nat.le_of_ble_eq_true rfl), (Nat.le_of_ble_eq_true rfl)⟩) hK [] rfl hP hD hS hA [] [0, 1, 2] rfl rfl rfl rfl (by decide) rfl hl.1 rfl (Nat.le_of_ble_eq_true rfl) dX1_pixel_21 ⟨(Nat.le_of_ble_eq_true rfl), (Nat.le_of_ble_eq_true rfl)⟩ (fun H locs hP hD hS => ?_)
      have hP : va_P G vwCl (Yw d a D (nf E) (nI s9) (nI r)) H := hP
      have hD : va_D A (Yw d a D (nf E) (nI s9) (nI r)) := hD
      refine lv_aload_n hx hb dX1_pixel_24 rfl (lv_at hl 0 rfl) ?_
      refine va_get (D := G) (ci := 1) (v := .int (nI r)) (C := RX1) (T := TX1) (N := 4) hx hb hts in_X1 hown hK hP 0 rfl rfl 3 (by decide) (hts _ q149) (fun _ h9 => h9) rfl dX1_pixel_25 ?_
      refine jn_lt (tgt := 33) hx hb (by omega) (by omega) dX1_pixel_28 (by decide) (fun c_3 => ?_) (fun c_3 => ?_)
      · refine lv_aload_n hx hb dX1_pixel_33 rfl (lv_at hl 0 rfl) ?_
        refine va_get (D := G) (ci := 1) (v := .ref (a 2)) (C := RX1) (T := TX1) (N := 4) hx hb hts in_X1 hown hK hP 0 rfl rfl 1 (by decide) (hts _ q147) (fun _ h9 => h9) rfl dX1_pixel_34 ?_
        refine lv_bipush (v := nI 9) hx hb dX1_pixel_37 (by decide) ?_
        refine lv_iload_n hx hb dX1_pixel_39 rfl (lv_at hl 2 rfl) ?_
        refine ji_mul hx hb dX1_pixel_40 (v := nI (9 * y)) (pk_mul 9 y) ?_
        refine lv_iload_n hx hb dX1_pixel_41 rfl (lv_at hl 1 rfl) ?_
        refine ji_add hx hb dX1_pixel_42 (v := nI ((9 * y) + x)) (nI_add (9 * y) x) ?_
        refine ja_ld hx hb hK hP 2 0 rfl rfl (k := (9 * y) + x) (by omega) (by decide) (v := nI (E ((9 * y) + x))) rfl dX1_pixel_43 ?_
        exact jr_i hx hb hr hlocks hP hD hS (by unfold pxv; rw [if_pos ⟨c_2, c_3⟩]) dX1_pixel_44
      · refine lv_iconst (v := (-1)) hx hb dX1_pixel_31 (by decide) ?_
        exact jr_i hx hb hr hlocks hP hD hS (by unfold pxv; rw [if_neg (fun z => absurd z.2 (by omega))]) dX1_pixel_32
set_option maxHeartbeats 4000000 in
set_option maxRecDepth 100000 in
/-- outside -/
theorem mX1_pixel0 (l : Launch) (G : va_G) (d : ClassId) (a : Nat → Nat) (D E : Nat → Int32) (an rc x y : Int32) (hno : ¬ ip x y) : MI l yX1_pixel (ws_ yX1_pixel cX1_pixel 3 (some .int)) ro2 G [(d, .int)] [.ref (a 0), .int x, .int y] (Yw d a D E an rc) (-1) (Yw d a D E an rc) := by
  refine MI.ofW (by decide) (Nat.le_of_ble_eq_true rfl) ?_
  intro p e8 s m below meth c A hx hb hr hml hown hts hlocks hA hK hP hD ls hl
  have hS : va_S A s.heap s.heap [] := va_S.rf
  have hown : s.vm.findClass RX1 = some m.cls := hown
  have hl : lv_has ls 3 [(0, .ref (a 0)), (1, .int x), (2, .int y)] := hl
  have hI := mX1_off l G x y
  rw [if_neg hno] at hI
  refine lv_iload_n hx hb dX1_pixel_0 rfl (lv_at hl 1 rfl) ?_
  refine lv_iload_n hx hb dX1_pixel_1 rfl (lv_at hl 2 rfl) ?_
  refine kc_Si (wr := Yw d a D E an rc) (w1 := []) (rest := []) ⟨hx, hb, hml, hown, hts⟩ (hI) (va_cwS 2 hts (lw_S q163 q164 q12 q165) rfl rfl rfl (by decide +kernel) ⟨(Nat.le_of_ble_eq_true rfl), (Nat.le_of_ble_eq_true rfl)⟩) hK [] rfl hP hD hS hA [] [0, 1, 2] rfl rfl rfl rfl (by decide) rfl hl.1 rfl (Nat.le_of_ble_eq_true rfl) dX1_pixel_2 ⟨(Nat.le_of_ble_eq_true rfl), (Nat.le_of_ble_eq_true rfl)⟩ (fun H locs hP hD hS => ?_)
  have hP : va_P G vwCl (Yw d a D E an rc) H := hP
  have hD : va_D A (Yw d a D E an rc) := hD
  refine jz_ne (tgt := 31) hx hb (by omega) dX1_pixel_5 (by decide) (fun c_1 => ?_) (fun c_1 => ?_)
  · refine lv_iconst (v := (-1)) hx hb dX1_pixel_31 (by decide) ?_
    exact jr_i hx hb hr hlocks hP hD hS rfl dX1_pixel_32
  · exact absurd c_1 (by decide)
set_option maxHeartbeats 4000000 in
set_option maxRecDepth 100000 in
/-- a rank -/
theorem mX1_rank1 (l : Launch) (G : va_G) (d : ClassId) (a : Nat → Nat) (D E : Nat → Int32) (an rc : Int32) (x y : Nat) (hx9 : x < 9) (hy9 : y < 9) : MI l yX1_rank (ws_ yX1_rank cX1_rank 3 (some .int)) ro2 G [(d, .int)] [.ref (a 0), .int (nI x), .int (nI y)] (Yw d a D E an rc) (nI (rk (9 * y + x))) (Yw d a D E an rc) := by
  refine MI.ofW (by decide) (Nat.le_of_ble_eq_true rfl) ?_
  intro p e8 s m below meth c A hx hb hr hml hown hts hlocks hA hK hP hD ls hl
  have hS : va_S A s.heap s.heap [] := va_S.rf
  have hown : s.vm.findClass RX1 = some m.cls := hown
  have hl : lv_has ls 3 [(0, .ref (a 0)), (1, .int (nI x)), (2, .int (nI y))] := hl
  have hI := mX1_off l G (nI x) (nI y)
  rw [if_pos (ip_nI hx9 hy9)] at hI
  refine lv_iload_n hx hb dX1_rank_0 rfl (lv_at hl 1 rfl) ?_
  refine lv_iload_n hx hb dX1_rank_1 rfl (lv_at hl 2 rfl) ?_
  refine kc_Si (wr := Yw d a D E an rc) (w1 := []) (rest := []) ⟨hx, hb, hml, hown, hts⟩ (hI) (va_cwS 2 hts (lw_S q163 q164 q12 q165) rfl rfl rfl (by decide +kernel) ⟨(Nat.le_of_ble_eq_true rfl), (Nat.le_of_ble_eq_true rfl)⟩) hK [] rfl hP hD hS hA [] [0, 1, 2] rfl rfl rfl rfl (by decide) rfl hl.1 rfl (Nat.le_of_ble_eq_true rfl) dX1_rank_2 ⟨(Nat.le_of_ble_eq_true rfl), (Nat.le_of_ble_eq_true rfl)⟩ (fun H locs hP hD hS => ?_)
  have hP : va_P G vwCl (Yw d a D E an rc) H := hP
  have hD : va_D A (Yw d a D E an rc) := hD
  refine jz_eq (tgt := 12) hx hb (by omega) dX1_rank_5 (by decide) (fun c_1 => ?_) (fun c_1 => ?_)
  · refine lv_bipush (v := nI 9) hx hb dX1_rank_12 (by decide) ?_
    refine lv_iload_n hx hb dX1_rank_14 rfl (lv_at hl 2 rfl) ?_
    refine ji_mul hx hb dX1_rank_15 (v := nI (9 * y)) (pk_mul 9 y) ?_
    refine lv_iload_n hx hb dX1_rank_16 rfl (lv_at hl 1 rfl) ?_
    refine ji_add hx hb dX1_rank_17 (v := nI ((9 * y) + x)) (nI_add (9 * y) x) ?_
    refine kc_Si (wr := Yw d a D E an rc) (w1 := []) (rest := []) ⟨hx, hb, hml, hown, hts⟩ (mX1_place l G (9 * y + x) (by omega)) (va_cwS 1 hts (lw_S q182 q183 q12 q184) rfl rfl rfl (by decide +kernel) ⟨(Nat.le_of_ble_eq_true rfl), (Nat.le_of_ble_eq_true rfl)⟩) hK [] rfl hP hD hS hA [] [0, 1, 2] rfl rfl rfl rfl (by decide) rfl hl.1 rfl (Nat.le_of_ble_eq_true rfl) dX1_rank_18 ⟨(Nat.le_of_ble_eq_true rfl), (Nat.le_of_ble_eq_true rfl)⟩ (fun H locs hP hD hS => ?_)
    have hP : va_P G vwCl (Yw d a D E an rc) H := hP
    have hD : va_D A (Yw d a D E an rc) := hD
    exact jr_i hx hb hr hlocks hP hD hS rfl dX1_rank_21
  · exact absurd rfl c_1
set_option maxHeartbeats 4000000 in
set_option maxRecDepth 100000 in
/-- outside -/
theorem mX1_rank0 (l : Launch) (G : va_G) (d : ClassId) (a : Nat → Nat) (D E : Nat → Int32) (an rc x y : Int32) (hno : ¬ ip x y) : MI l yX1_rank (ws_ yX1_rank cX1_rank 3 (some .int)) ro2 G [(d, .int)] [.ref (a 0), .int x, .int y] (Yw d a D E an rc) (-1) (Yw d a D E an rc) := by
  refine MI.ofW (by decide) (Nat.le_of_ble_eq_true rfl) ?_
  intro p e8 s m below meth c A hx hb hr hml hown hts hlocks hA hK hP hD ls hl
  have hS : va_S A s.heap s.heap [] := va_S.rf
  have hown : s.vm.findClass RX1 = some m.cls := hown
  have hl : lv_has ls 3 [(0, .ref (a 0)), (1, .int x), (2, .int y)] := hl
  have hI := mX1_off l G x y
  rw [if_neg hno] at hI
  refine lv_iload_n hx hb dX1_rank_0 rfl (lv_at hl 1 rfl) ?_
  refine lv_iload_n hx hb dX1_rank_1 rfl (lv_at hl 2 rfl) ?_
  refine kc_Si (wr := Yw d a D E an rc) (w1 := []) (rest := []) ⟨hx, hb, hml, hown, hts⟩ (hI) (va_cwS 2 hts (lw_S q163 q164 q12 q165) rfl rfl rfl (by decide +kernel) ⟨(Nat.le_of_ble_eq_true rfl), (Nat.le_of_ble_eq_true rfl)⟩) hK [] rfl hP hD hS hA [] [0, 1, 2] rfl rfl rfl rfl (by decide) rfl hl.1 rfl (Nat.le_of_ble_eq_true rfl) dX1_rank_2 ⟨(Nat.le_of_ble_eq_true rfl), (Nat.le_of_ble_eq_true rfl)⟩ (fun H locs hP hD hS => ?_)
  have hP : va_P G vwCl (Yw d a D E an rc) H := hP
  have hD : va_D A (Yw d a D E an rc) := hD
  refine jz_eq (tgt := 12) hx hb (by omega) dX1_rank_5 (by decide) (fun c_1 => ?_) (fun c_1 => ?_)
  · exact absurd c_1 (by decide)
  · refine lv_iconst (v := (-1)) hx hb dX1_rank_8 (by decide) ?_
    refine lv_goto (tgt := 21) hx hb dX1_rank_9 (by decide) ?_
    exact jr_i hx hb hr hlocks hP hD hS rfl dX1_rank_21
set_option maxHeartbeats 4000000 in
set_option maxRecDepth 100000 in
/-- how many received pixels lie between -/
theorem mX1_count (l : Launch) (G : va_G) (d : ClassId) (a : Nat → Nat) (E : Nat → Nat) (D : Nat → Int32) (an lo hi : Int32) (r : Nat) (hr9 : r ≤ 81) : MI l yX1_count (ws_ yX1_count cX1_count 5 (some .int)) ro2 G [(d, .int)] [.ref (a 0), .int lo, .int hi] (Yw d a D (nf E) an (nI r)) (nI (sm (ctM r lo hi E) 81)) (Yw d a D (nf E) an (nI r)) := by
  refine MI.ofW (by decide) (Nat.le_of_ble_eq_true rfl) ?_
  intro p e8 s m below meth c A hx hb hr hml hown hts hlocks hA hK hP hD ls hl
  have hS : va_S A s.heap s.heap [] := va_S.rf
  have hown : s.vm.findClass RX1 = some m.cls := hown
  have hl : lv_has ls 5 [(0, .ref (a 0)), (1, .int lo), (2, .int hi)] := hl
  refine lv_iconst (v := nI 0) hx hb dX1_count_0 (by decide) ?_
  refine lv_istore_n (lv' := [(3, .int (nI 0)), (0, .ref (a 0)), (1, .int lo), (2, .int hi)]) hx hb dX1_count_1 rfl hl (by decide) rfl (fun ls hl => ?_)
  refine lv_iconst (v := nI 0) hx hb dX1_count_2 (by decide) ?_
  refine lv_istore (lv' := [(4, .int (nI 0)), (3, .int (nI 0)), (0, .ref (a 0)), (1, .int lo), (2, .int hi)]) hx hb dX1_count_3 hl (by decide) rfl (fun ls hl => ?_)
  refine ja_loop (fun n H locs ls => ∃ (k : Nat), k + n = 81 ∧ ja_I A G s.heap (Yw d a D (nf E) an (nI r)) 5 [(0, .ref (a 0)), (1, .int lo), (2, .int hi), (3, .int (nI (sm (ctM r lo hi E) k))), (4, .int (nI k))] H locs ls) ?_ 81 ⟨0, rfl, hP, hD, hS, lv_sub hl [2, 3, 4, 1, 0] rfl⟩
  intro n ih H locs ls hI
  obtain ⟨k, hk, hP, hD, hS, hl⟩ := hI
  refine lv_iload hx hb dX1_count_5 (lv_at hl 4 rfl) ?_
  refine lv_bipush (v := nI 81) hx hb dX1_count_7 (by decide) ?_
  refine jn_ge (tgt := 55) hx hb (by omega) (by omega) dX1_count_9 (by decide) (fun c_1 => ?_) (fun c_1 => ?_)
  · obtain rfl : k = 81 := by omega
    refine lv_iload_n hx hb dX1_count_55 rfl (lv_at hl 3 rfl) ?_
    exact jr_i hx hb hr hlocks hP hD hS rfl dX1_count_56
  · have hrk := tb_rk k (by omega)
    refine lv_iload hx hb dX1_count_12 (lv_at hl 4 rfl) ?_
    refine kc_Si (wr := Yw d a D (nf E) an (nI r)) (w1 := []) (rest := []) ⟨hx, hb, hml, hown, hts⟩ (mX1_place l G k (by omega)) (va_cwS 1 hts (lw_S q182 q183 q12 q184) rfl rfl rfl (by decide +kernel) ⟨(Nat.le_of_ble_eq_true rfl), (Nat.le_of_ble_eq_true rfl)⟩) hK [] rfl hP hD hS hA [] [0, 1, 2] rfl rfl rfl rfl (by decide) rfl hl.1 rfl (Nat.le_of_ble_eq_true rfl) dX1_count_14 ⟨(Nat.le_of_ble_eq_true rfl), (Nat.le_of_ble_eq_true rfl)⟩ (fun H locs hP hD hS => ?_)
    have hP : va_P G vwCl (Yw d a D (nf E) an (nI r)) H := hP
    have hD : va_D A (Yw d a D (nf E) an (nI r)) := hD
    refine lv_aload_n hx hb dX1_count_17 rfl (lv_at hl 0 rfl) ?_
    refine va_get (D := G) (ci := 1) (v := .int (nI r)) (C := RX1) (T := TX1) (N := 4) hx hb hts in_X1 hown hK hP 0 rfl rfl 3 (by decide) (hts _ q149) (fun _ h9 => h9) rfl dX1_count_18 ?_
    refine jn_ge (tgt := 49) hx hb (by omega) (by omega) dX1_count_21 (by decide) (fun c_2 => ?_) (fun c_2 => ?_)
    · refine lv_iinc (v := nI (k + 1)) (lv' := [(4, .int (nI (k + 1))), (0, .ref (a 0)), (1, .int lo), (2, .int hi), (3, .int (nI (sm (ctM r lo hi E) k)))]) hx hb dX1_count_49 hl (k := 4) rfl (nI_1 k) (by decide) rfl (fun ls hl => ?_)
      have hE : sm (ctM r lo hi E) (k + 1) = sm (ctM r lo hi E) k := sm_0 (if_neg (fun z => absurd z.1 (by omega)))
      rw [← hE] at hl
      refine lv_goto (tgt := 5) hx hb dX1_count_52 (by decide) ?_
      exact ih (n - 1) (by omega) _ _ _ ⟨k + 1, by omega, hP, hD, hS, lv_sub hl [1, 2, 3, 4, 0] rfl⟩
    · refine lv_iload_n hx hb dX1_count_24 rfl (lv_at hl 1 rfl) ?_
      refine lv_aload_n hx hb dX1_count_25 rfl (lv_at hl 0 rfl) ?_
      refine va_get (D := G) (ci := 1) (v := .ref (a 2)) (C := RX1) (T := TX1) (N := 4) hx hb hts in_X1 hown hK hP 0 rfl rfl 1 (by decide) (hts _ q147) (fun _ h9 => h9) rfl dX1_count_26 ?_
      refine lv_iload hx hb dX1_count_29 (lv_at hl 4 rfl) ?_
      refine ja_ld hx hb hK hP 2 0 rfl rfl (k := k) (by omega) (by decide) (v := nI (E k)) rfl dX1_count_31 ?_
      refine lv_icmp_gt (tgt := 49) hx hb dX1_count_32 (by decide) (fun c_3 => ?_) (fun c_3 => ?_)
      · refine lv_iinc (v := nI (k + 1)) (lv' := [(4, .int (nI (k + 1))), (0, .ref (a 0)), (1, .int lo), (2, .int hi), (3, .int (nI (sm (ctM r lo hi E) k)))]) hx hb dX1_count_49 hl (k := 4) rfl (nI_1 k) (by decide) rfl (fun ls hl => ?_)
        have hE : sm (ctM r lo hi E) (k + 1) = sm (ctM r lo hi E) k := sm_0 (if_neg (fun z => z.2.1 c_3))
        rw [← hE] at hl
        refine lv_goto (tgt := 5) hx hb dX1_count_52 (by decide) ?_
        exact ih (n - 1) (by omega) _ _ _ ⟨k + 1, by omega, hP, hD, hS, lv_sub hl [1, 2, 3, 4, 0] rfl⟩
      · refine lv_aload_n hx hb dX1_count_35 rfl (lv_at hl 0 rfl) ?_
        refine va_get (D := G) (ci := 1) (v := .ref (a 2)) (C := RX1) (T := TX1) (N := 4) hx hb hts in_X1 hown hK hP 0 rfl rfl 1 (by decide) (hts _ q147) (fun _ h9 => h9) rfl dX1_count_36 ?_
        refine lv_iload hx hb dX1_count_39 (lv_at hl 4 rfl) ?_
        refine ja_ld hx hb hK hP 2 0 rfl rfl (k := k) (by omega) (by decide) (v := nI (E k)) rfl dX1_count_41 ?_
        refine lv_iload_n hx hb dX1_count_42 rfl (lv_at hl 2 rfl) ?_
        refine lv_icmp_gt (tgt := 49) hx hb dX1_count_43 (by decide) (fun c_4 => ?_) (fun c_4 => ?_)
        · refine lv_iinc (v := nI (k + 1)) (lv' := [(4, .int (nI (k + 1))), (0, .ref (a 0)), (1, .int lo), (2, .int hi), (3, .int (nI (sm (ctM r lo hi E) k)))]) hx hb dX1_count_49 hl (k := 4) rfl (nI_1 k) (by decide) rfl (fun ls hl => ?_)
          have hE : sm (ctM r lo hi E) (k + 1) = sm (ctM r lo hi E) k := sm_0 (if_neg (fun z => z.2.2 c_4))
          rw [← hE] at hl
          refine lv_goto (tgt := 5) hx hb dX1_count_52 (by decide) ?_
          exact ih (n - 1) (by omega) _ _ _ ⟨k + 1, by omega, hP, hD, hS, lv_sub hl [1, 2, 3, 4, 0] rfl⟩
        · refine lv_iinc (v := nI ((sm (ctM r lo hi E) k) + 1)) (lv' := [(3, .int (nI ((sm (ctM r lo hi E) k) + 1))), (0, .ref (a 0)), (1, .int lo), (2, .int hi), (4, .int (nI k))]) hx hb dX1_count_46 hl (k := 3) rfl (nI_1 (sm (ctM r lo hi E) k)) (by decide) rfl (fun ls hl => ?_)
          refine lv_iinc (v := nI (k + 1)) (lv' := [(4, .int (nI (k + 1))), (3, .int (nI ((sm (ctM r lo hi E) k) + 1))), (0, .ref (a 0)), (1, .int lo), (2, .int hi)]) hx hb dX1_count_49 hl (k := 4) rfl (nI_1 k) (by decide) rfl (fun ls hl => ?_)
          have hE : sm (ctM r lo hi E) (k + 1) = sm (ctM r lo hi E) k + 1 := sm_1 (if_pos (⟨c_2, c_3, c_4⟩))
          rw [← hE] at hl
          refine lv_goto (tgt := 5) hx hb dX1_count_52 (by decide) ?_
          exact ih (n - 1) (by omega) _ _ _ ⟨k + 1, by omega, hP, hD, hS, lv_sub hl [2, 3, 4, 1, 0] rfl⟩
set_option maxHeartbeats 4000000 in
set_option maxRecDepth 100000 in
/-- the sum of the received pixels -/
theorem mX1_sum (l : Launch) (G : va_G) (d : ClassId) (a : Nat → Nat) (E : Nat → Nat) (D : Nat → Int32) (an : Int32) (r : Nat) (hr9 : r ≤ 81) : MI l yX1_sum (ws_ yX1_sum cX1_sum 3 (some .int)) ro2 G [(d, .int)] [.ref (a 0)] (Yw d a D (nf E) an (nI r)) (nI (sm (suM r E) 81)) (Yw d a D (nf E) an (nI r)) := by
  refine MI.ofW (by decide) (Nat.le_of_ble_eq_true rfl) ?_
  intro p e8 s m below meth c A hx hb hr hml hown hts hlocks hA hK hP hD ls hl
  have hS : va_S A s.heap s.heap [] := va_S.rf
  have hown : s.vm.findClass RX1 = some m.cls := hown
  have hl : lv_has ls 3 [(0, .ref (a 0))] := hl
  refine lv_iconst (v := nI 0) hx hb dX1_sum_0 (by decide) ?_
  refine lv_istore_n (lv' := [(1, .int (nI 0)), (0, .ref (a 0))]) hx hb dX1_sum_1 rfl hl (by decide) rfl (fun ls hl => ?_)
  refine lv_iconst (v := nI 0) hx hb dX1_sum_2 (by decide) ?_
  refine lv_istore_n (lv' := [(2, .int (nI 0)), (1, .int (nI 0)), (0, .ref (a 0))]) hx hb dX1_sum_3 rfl hl (by decide) rfl (fun ls hl => ?_)
  refine ja_loop (fun n H locs ls => ∃ (k : Nat), k + n = 81 ∧ ja_I A G s.heap (Yw d a D (nf E) an (nI r)) 3 [(0, .ref (a 0)), (1, .int (nI (sm (suM r E) k))), (2, .int (nI k))] H locs ls) ?_ 81 ⟨0, rfl, hP, hD, hS, lv_sub hl [2, 1, 0] rfl⟩
  intro n ih H locs ls hI
  obtain ⟨k, hk, hP, hD, hS, hl⟩ := hI
  refine lv_iload_n hx hb dX1_sum_4 rfl (lv_at hl 2 rfl) ?_
  refine lv_bipush (v := nI 81) hx hb dX1_sum_5 (by decide) ?_
  refine jn_ge (tgt := 36) hx hb (by omega) (by omega) dX1_sum_7 (by decide) (fun c_1 => ?_) (fun c_1 => ?_)
  · obtain rfl : k = 81 := by omega
    refine lv_iload_n hx hb dX1_sum_36 rfl (lv_at hl 1 rfl) ?_
    exact jr_i hx hb hr hlocks hP hD hS rfl dX1_sum_37
  · have hrk := tb_rk k (by omega)
    refine lv_iload_n hx hb dX1_sum_10 rfl (lv_at hl 2 rfl) ?_
    refine kc_Si (wr := Yw d a D (nf E) an (nI r)) (w1 := []) (rest := []) ⟨hx, hb, hml, hown, hts⟩ (mX1_place l G k (by omega)) (va_cwS 1 hts (lw_S q182 q183 q12 q184) rfl rfl rfl (by decide +kernel) ⟨(Nat.le_of_ble_eq_true rfl), (Nat.le_of_ble_eq_true rfl)⟩) hK [] rfl hP hD hS hA [] [0, 1, 2] rfl rfl rfl rfl (by decide) rfl hl.1 rfl (Nat.le_of_ble_eq_true rfl) dX1_sum_11 ⟨(Nat.le_of_ble_eq_true rfl), (Nat.le_of_ble_eq_true rfl)⟩ (fun H locs hP hD hS => ?_)
    have hP : va_P G vwCl (Yw d a D (nf E) an (nI r)) H := hP
    have hD : va_D A (Yw d a D (nf E) an (nI r)) := hD
    refine lv_aload_n hx hb dX1_sum_14 rfl (lv_at hl 0 rfl) ?_
    refine va_get (D := G) (ci := 1) (v := .int (nI r)) (C := RX1) (T := TX1) (N := 4) hx hb hts in_X1 hown hK hP 0 rfl rfl 3 (by decide) (hts _ q149) (fun _ h9 => h9) rfl dX1_sum_15 ?_
    refine jn_ge (tgt := 30) hx hb (by omega) (by omega) dX1_sum_18 (by decide) (fun c_2 => ?_) (fun c_2 => ?_)
    · refine lv_iinc (v := nI (k + 1)) (lv' := [(2, .int (nI (k + 1))), (0, .ref (a 0)), (1, .int (nI (sm (suM r E) k)))]) hx hb dX1_sum_30 hl (k := 2) rfl (nI_1 k) (by decide) rfl (fun ls hl => ?_)
      have hE : sm (suM r E) (k + 1) = sm (suM r E) k := sm_0 (if_neg (by omega))
      rw [← hE] at hl
      refine lv_goto (tgt := 4) hx hb dX1_sum_33 (by decide) ?_
      exact ih (n - 1) (by omega) _ _ _ ⟨k + 1, by omega, hP, hD, hS, lv_sub hl [1, 2, 0] rfl⟩
    · refine lv_iload_n hx hb dX1_sum_21 rfl (lv_at hl 1 rfl) ?_
      refine lv_aload_n hx hb dX1_sum_22 rfl (lv_at hl 0 rfl) ?_
      refine va_get (D := G) (ci := 1) (v := .ref (a 2)) (C := RX1) (T := TX1) (N := 4) hx hb hts in_X1 hown hK hP 0 rfl rfl 1 (by decide) (hts _ q147) (fun _ h9 => h9) rfl dX1_sum_23 ?_
      refine lv_iload_n hx hb dX1_sum_26 rfl (lv_at hl 2 rfl) ?_
      refine ja_ld hx hb hK hP 2 0 rfl rfl (k := k) (by omega) (by decide) (v := nI (E k)) rfl dX1_sum_27 ?_
      refine ji_add hx hb dX1_sum_28 (v := nI (sm (suM r E) (k + 1))) (by rw [nI_add]; show _ = nI (sm (suM r E) k + (suM r E) k); rw [show (suM r E) k = E k from if_pos c_2]) ?_
      refine lv_istore_n (lv' := [(1, .int (nI (sm (suM r E) (k + 1)))), (0, .ref (a 0)), (2, .int (nI k))]) hx hb dX1_sum_29 rfl hl (by decide) rfl (fun ls hl => ?_)
      refine lv_iinc (v := nI (k + 1)) (lv' := [(2, .int (nI (k + 1))), (1, .int (nI (sm (suM r E) (k + 1)))), (0, .ref (a 0))]) hx hb dX1_sum_30 hl (k := 2) rfl (nI_1 k) (by decide) rfl (fun ls hl => ?_)
      refine lv_goto (tgt := 4) hx hb dX1_sum_33 (by decide) ?_
      exact ih (n - 1) (by omega) _ _ _ ⟨k + 1, by omega, hP, hD, hS, lv_sub hl [2, 1, 0] rfl⟩
end
section
/-- all int arrays are of one kind -/
theorem ja_dd {D : va_G} {cl : List vw_C} {tys : List (ClassId × FieldType)} {s : State} (hK : va_K D cl tys s) (i j : Nat) {d1 d2 : ClassId} (h1 : tys[i]? = some (d1, .int)) (h2 : tys[j]? = some (d2, .int)) : d2 = d1 := by
  have e1 : s.vm.findClass ("[" ++ (FieldType.int).toString) = some d1 := (hK.2 i _ h1).2
  have e2 : s.vm.findClass ("[" ++ (FieldType.int).toString) = some d2 := (hK.2 j _ h2).2
  exact Option.some.inj (e2.symm.trans e1)
/-- how many places stand ahead of p when those of step s are laid out -/
def cqa (s : Nat) (q : Nat) : Nat := if s < stp q then 1 else 0
def cqb (s : Nat) (q : Nat) : Nat := if stp q = s then 1 else 0
def cq (s p : Nat) : Nat := sm (cqa s) 81 + sm (cqb s) p
def odp (c : Nat) : Nat → Nat := fun j => if j < c then od j else 0
def rkp (s p : Nat) : Nat → Nat := fun j => if j < 81 ∧ (s < stp j ∨ (stp j = s ∧ j < p)) then rk j else 0
theorem tb_c1 : ∀ p, p < 81 → cq (stp p) p = rk p := by decide +kernel
theorem tb_c2 : ∀ s, s < 9 → (s = 8 ∨ s = 4 ∨ s = 2 ∨ s = 1) → cq s 81 = cq (s / 2) 0 := by decide +kernel
theorem tb_c3 : ∀ s, s < 9 → (s = 8 ∨ s = 4 ∨ s = 2 ∨ s = 1) → ∀ j, j < 81 → (s ≤ stp j ↔ s / 2 < stp j) := by decide +kernel
theorem cq_y {s p : Nat} (h : stp p = s) : cq s (p + 1) = cq s p + 1 := by
  unfold cq
  rw [sm_1 (g := cqb s) (k := p) (if_pos h)]
  omega
theorem cq_n {s p : Nat} (h : ¬ stp p = s) : cq s (p + 1) = cq s p := by
  unfold cq
  rw [sm_0 (g := cqb s) (k := p) (if_neg h)]
theorem odp_0 : odp 0 = fun _ => 0 := by
  funext j
  unfold odp
  rw [if_neg (by omega)]
theorem odp_s (c : Nat) : up (odp c) c (od c) = odp (c + 1) := by
  funext j
  unfold up odp
  by_cases h : j = c
  · rw [if_pos h, if_pos (by omega), h]
  · rw [if_neg h]
    by_cases h2 : j < c
    · rw [if_pos h2, if_pos (by omega)]
    · rw [if_neg h2, if_neg (by omega)]
theorem odp_e : odp 81 = od := by
  funext j
  unfold odp
  by_cases h : j < 81
  · rw [if_pos h]
  · rw [if_neg h]
    unfold od
    rw [List.getD_eq_getElem?_getD, List.getElem?_eq_none (show odL.length ≤ j from Nat.not_lt.mp h)]
    rfl
theorem rkp_0 : rkp 8 0 = fun _ => 0 := by
  funext j
  unfold rkp
  by_cases h : j < 81
  · have := tb_st j h
    rw [if_neg (by omega)]
  · rw [if_neg (by omega)]
theorem rkp_y {s p : Nat} (hp : p < 81) (h : stp p = s) : up (rkp s p) p (rk p) = rkp s (p + 1) := by
  funext j
  unfold up rkp
  by_cases hj : j = p
  · subst hj
    rw [if_pos rfl, if_pos ⟨hp, Or.inr ⟨h, by omega⟩⟩]
  · rw [if_neg hj]
    by_cases h2 : j < 81 ∧ (s < stp j ∨ (stp j = s ∧ j < p))
    · rw [if_pos h2, if_pos ⟨h2.1, by omega⟩]
    · rw [if_neg h2, if_neg (by omega)]
theorem rkp_n {s p : Nat} (h : ¬ stp p = s) : rkp s (p + 1) = rkp s p := by
  funext j
  unfold rkp
  by_cases h2 : j < 81 ∧ (s < stp j ∨ (stp j = s ∧ j < p))
  · rw [if_pos h2, if_pos ⟨h2.1, by omega⟩]
  · rw [if_neg h2, if_neg]
    intro z
    rcases z.2 with q | q
    · exact h2 ⟨z.1, Or.inl q⟩
    · rcases Nat.lt_or_ge j p with q2 | q2
      · exact h2 ⟨z.1, Or.inr ⟨q.1, q2⟩⟩
      · have e : j = p := by omega
        rw [e] at q
        exact h q.1
theorem rkp_d {s : Nat} (hs : s = 8 ∨ s = 4 ∨ s = 2 ∨ s = 1) : rkp s 81 = rkp (s / 2) 0 := by
  funext j
  unfold rkp
  by_cases hj : j < 81
  · have e := tb_c3 s (by omega) hs j hj
    by_cases h : s ≤ stp j
    · rw [if_pos ⟨hj, by omega⟩, if_pos ⟨hj, Or.inl (e.mp h)⟩]
    · rw [if_neg (by omega), if_neg]
      intro z
      rcases z.2 with q | q
      · exact h (e.mpr q)
      · exact absurd q.2 (by omega)
  · rw [if_neg (by omega), if_neg (by omega)]
theorem rkp_e : rkp 0 0 = rk := by
  funext j
  unfold rkp
  by_cases h : j < 81
  · have := tb_st j h
    rw [if_pos ⟨h, Or.inl (by omega)⟩]
  · rw [if_neg (by omega)]
    unfold rk
    rw [List.getD_eq_getElem?_getD, List.getElem?_eq_none (show rkL.length ≤ j from Nat.not_lt.mp h)]
    rfl
theorem cq_e : cq 0 0 = 81 := by decide +kernel
theorem cq_b : cq 8 0 = 0 := by decide +kernel
abbrev obX0 : List Value := [.null, .int (nI 0), .null, .int (nI 0), .int (nI 0), .int (nI 0), .null, .null, .null, .int (nI 0), .int (nI 0)]
abbrev obY0 : List Value := [.null, .null, .int (nI 0), .int (nI 0)]
abbrev roI : Room := { frames := 1, cells := 5, slots := 372, locals := 32 }
abbrev roJ : Room := { frames := 1, cells := 2, slots := 162, locals := 32 }
abbrev X9 (d : ClassId) (a : Nat → Nat) : va_W := Xw d a (nf (fun _ => 0)) (nf (fun _ => 0)) (nf (fun _ => 0)) (nf od) (nf rk) (nI 0) (nI 0) (nI 0) (nI 0) (nI 0) (nI 0)
abbrev Y9 (d : ClassId) (a : Nat → Nat) : va_W := Yw d a (nf (fun _ => 0)) (nf (fun _ => 0)) (nI 0) (nI 0)
abbrev bX9 (G : va_G) (A : Nat → Prop) (h : Nat) (u : (Nat → Nat) × ClassId) (t : State) : Prop := u.1 0 = h ∧ va_P G vwCl (X9 u.2 u.1) t.heap ∧ va_K G vwCl [(u.2, .int)] t ∧ va_D A (X9 u.2 u.1)
abbrev bY9 (G : va_G) (A : Nat → Prop) (h : Nat) (u : (Nat → Nat) × ClassId) (t : State) : Prop := u.1 0 = h ∧ va_P G vwCl (Y9 u.2 u.1) t.heap ∧ va_K G vwCl [(u.2, .int)] t ∧ va_D A (Y9 u.2 u.1)
end
section
set_option maxHeartbeats 4000000 in
set_option maxRecDepth 100000 in
theorem mX0_init (l : Launch) (G : va_G) (h sz : Nat) : Met l yX0_init (ws_ yX0_init cX0_init 7 none) roI (jc_pre G [] [(h, .inr (0, obX0))] sz [.ref h]) (va_Qv (fun _ : (Nat → Nat) × ClassId => True) (bX9 G (va_A [(h, .inr (0, obX0))] sz) h) (va_A [(h, .inr (0, obX0))] sz)) 5 372 (va_A [(h, .inr (0, obX0))] sz) := by
  refine Met.ofW (cc := cX0_init) (maxL := 7) (ret := none) (by decide) rfl ?_
  intro p e8 s m args below meth c s₁ Bd hml hv
  obtain ⟨rfl, hsz, hP, hK, hD0⟩ := hv
  have hx := Bd.exec
  have hb := Bd.bytes
  have hr := Bd.returns
  have hts := atoms_spec (ws := ws_ yX0_init cX0_init 7 none) Bd.pre
  have hts : ∀ w ∈ lw_all, w.before _ s = true := fun w h => hts w (List.mem_cons_of_mem _ h)
  have hown : s.vm.findClass RX0 = some m.cls := findClass_of_methodNamed Bd.named
  have hlocks := Bd.notSynchronized
  have hin : meth.name = "<init>" := (name_of_methodNamed Bd.named Bd.method).1
  subst hsz
  have hD := hD0.self (sz := s.heap.size)
  generalize hAe : va_A [(h, .inr (0, obX0))] s.heap.size = A at hD ⊢
  have hA : ∀ q : Nat, s.heap.size ≤ q → A q := fun q h => by rw [← hAe]; exact Or.inr h
  have hS : va_S A s.heap s.heap [] := va_S.rf
  have hl := lv_entry ([.ref h]) (n := 7) (Nat.le_of_ble_eq_true rfl)
  rw [lg_entry_eq]
  generalize (lg_sl ([.ref h]) ++ List.replicate (7 - (lg_sl ([.ref h])).length) Slot.unset).toArray = ls at hl ⊢
  have hl : lv_has ls 7 [(0, .ref h)] := hl
  refine lv_aload_n hx hb dX0_init_0 rfl (lv_at hl 0 rfl) ?_
  refine W.objInit hx hb hown (hts _ q18) (hts _ q19) (hts _ q20) rfl (by rw [hml]; exact hl.1) rfl dX0_init_1 (Nat.le_of_ble_eq_true rfl) (Nat.le_of_ble_eq_true rfl) ?_
  refine W.eq (g2 := F0 m 4 ls []) rfl ?_
  refine lv_aload_n hx hb dX0_init_4 rfl (lv_at hl 0 rfl) ?_
  refine lv_bipush (v := nI 81) hx hb dX0_init_5 (by decide) ?_
  refine va_newa (D := G) (atype := .int) (ty := .int) (a0 := (81, .inl (nf (fun _ => 0)))) (N' := 81) hx hb (hts _ q58) rfl hK hP hD hS hA (fun _ => rfl) (nI_pos (by decide)) (nI_clamp (by decide)) (by decide) (Nat.le_of_ble_eq_true rfl) (Nat.le_of_ble_eq_true rfl) dX0_init_7 (fun q1 d H hK hP hD hS => ?_)
  have hK : va_K G vwCl [(d, .int)] s := hK
  have hP : va_P G vwCl [(h, .inr (0, [.null, .int (nI 0), .null, .int (nI 0), .int (nI 0), .int (nI 0), .null, .null, .null, .int (nI 0), .int (nI 0)])), (q1, .inl (d, 81, .inl (nf (fun _ => 0))))] H := hP
  have hD : va_D A [(h, .inr (0, [.null, .int (nI 0), .null, .int (nI 0), .int (nI 0), .int (nI 0), .null, .null, .null, .int (nI 0), .int (nI 0)])), (q1, .inl (d, 81, .inl (nf (fun _ => 0))))] := hD
  refine W.widen (k := 1) (n := 81) (Nat.le_of_ble_eq_true rfl) (Nat.le_of_ble_eq_true rfl) ?_
  refine va_putF (D := G) (ci := 0) (v := .ref q1) (ty := .array .int) (C := RX0) (T := TX0) (N := 11) hx hb hts in_X0 tyX0 tyX0_ok nmX0 hown hK hP hD hS 0 rfl rfl 0 (by decide) (hts _ q24) (fun _ h9 => h9) rfl hin rfl (by decide +kernel) rfl rfl (Nat.le_of_ble_eq_true rfl) dX0_init_9 (fun H locs hP hD hS => ?_)
  have hP : va_P G vwCl [(h, .inr (0, [.ref q1, .int (nI 0), .null, .int (nI 0), .int (nI 0), .int (nI 0), .null, .null, .null, .int (nI 0), .int (nI 0)])), (q1, .inl (d, 81, .inl (nf (fun _ => 0))))] H := hP
  have hD : va_D A [(h, .inr (0, [.ref q1, .int (nI 0), .null, .int (nI 0), .int (nI 0), .int (nI 0), .null, .null, .null, .int (nI 0), .int (nI 0)])), (q1, .inl (d, 81, .inl (nf (fun _ => 0))))] := hD
  refine lv_aload_n hx hb dX0_init_12 rfl (lv_at hl 0 rfl) ?_
  refine lv_bipush (v := nI 48) hx hb dX0_init_13 (by decide) ?_
  refine va_newa (D := G) (atype := .int) (ty := .int) (a0 := (48, .inl (nf (fun _ => 0)))) (N' := 48) hx hb (hts _ q58) rfl hK hP hD hS hA (fun _ => rfl) (nI_pos (by decide)) (nI_clamp (by decide)) (by decide) (Nat.le_of_ble_eq_true rfl) (Nat.le_of_ble_eq_true rfl) dX0_init_15 (fun q2 d1 H hK hP hD hS => ?_)
  have hdd : d = d1 := (ja_dd hK 0 1 rfl rfl).symm
  subst hdd
  have hK : va_K G vwCl [(d, .int)] s := hK.sub [0] rfl
  have hP : va_P G vwCl [(h, .inr (0, [.ref q1, .int (nI 0), .null, .int (nI 0), .int (nI 0), .int (nI 0), .null, .null, .null, .int (nI 0), .int (nI 0)])), (q1, .inl (d, 81, .inl (nf (fun _ => 0)))), (q2, .inl (d, 48, .inl (nf (fun _ => 0))))] H := hP
  have hD : va_D A [(h, .inr (0, [.ref q1, .int (nI 0), .null, .int (nI 0), .int (nI 0), .int (nI 0), .null, .null, .null, .int (nI 0), .int (nI 0)])), (q1, .inl (d, 81, .inl (nf (fun _ => 0)))), (q2, .inl (d, 48, .inl (nf (fun _ => 0))))] := hD
  refine W.widen (k := 2) (n := 129) (Nat.le_of_ble_eq_true rfl) (Nat.le_of_ble_eq_true rfl) ?_
  refine va_putF (D := G) (ci := 0) (v := .ref q2) (ty := .array .int) (C := RX0) (T := TX0) (N := 11) hx hb hts in_X0 tyX0 tyX0_ok nmX0 hown hK hP hD hS 0 rfl rfl 2 (by decide) (hts _ q26) (fun _ h9 => h9) rfl hin rfl (by decide +kernel) rfl rfl (Nat.le_of_ble_eq_true rfl) dX0_init_17 (fun H locs hP hD hS => ?_)
  have hP : va_P G vwCl [(h, .inr (0, [.ref q1, .int (nI 0), .ref q2, .int (nI 0), .int (nI 0), .int (nI 0), .null, .null, .null, .int (nI 0), .int (nI 0)])), (q1, .inl (d, 81, .inl (nf (fun _ => 0)))), (q2, .inl (d, 48, .inl (nf (fun _ => 0))))] H := hP
  have hD : va_D A [(h, .inr (0, [.ref q1, .int (nI 0), .ref q2, .int (nI 0), .int (nI 0), .int (nI 0), .null, .null, .null, .int (nI 0), .int (nI 0)])), (q1, .inl (d, 81, .inl (nf (fun _ => 0)))), (q2, .inl (d, 48, .inl (nf (fun _ => 0))))] := hD
  refine lv_aload_n hx hb dX0_init_20 rfl (lv_at hl 0 rfl) ?_
  refine lv_bipush (v := nI 81) hx hb dX0_init_21 (by decide) ?_
  refine va_newa (D := G) (atype := .int) (ty := .int) (a0 := (81, .inl (nf (fun _ => 0)))) (N' := 81) hx hb (hts _ q58) rfl hK hP hD hS hA (fun _ => rfl) (nI_pos (by decide)) (nI_clamp (by decide)) (by decide) (Nat.le_of_ble_eq_true rfl) (Nat.le_of_ble_eq_true rfl) dX0_init_23 (fun q3 d2 H hK hP hD hS => ?_)
  have hdd : d = d2 := (ja_dd hK 0 1 rfl rfl).symm
  subst hdd
  have hK : va_K G vwCl [(d, .int)] s := hK.sub [0] rfl
  have hP : va_P G vwCl [(h, .inr (0, [.ref q1, .int (nI 0), .ref q2, .int (nI 0), .int (nI 0), .int (nI 0), .null, .null, .null, .int (nI 0), .int (nI 0)])), (q1, .inl (d, 81, .inl (nf (fun _ => 0)))), (q2, .inl (d, 48, .inl (nf (fun _ => 0)))), (q3, .inl (d, 81, .inl (nf (fun _ => 0))))] H := hP
  have hD : va_D A [(h, .inr (0, [.ref q1, .int (nI 0), .ref q2, .int (nI 0), .int (nI 0), .int (nI 0), .null, .null, .null, .int (nI 0), .int (nI 0)])), (q1, .inl (d, 81, .inl (nf (fun _ => 0)))), (q2, .inl (d, 48, .inl (nf (fun _ => 0)))), (q3, .inl (d, 81, .inl (nf (fun _ => 0))))] := hD
  refine W.widen (k := 3) (n := 210) (Nat.le_of_ble_eq_true rfl) (Nat.le_of_ble_eq_true rfl) ?_
  refine va_putF (D := G) (ci := 0) (v := .ref q3) (ty := .array .int) (C := RX0) (T := TX0) (N := 11) hx hb hts in_X0 tyX0 tyX0_ok nmX0 hown hK hP hD hS 0 rfl rfl 6 (by decide) (hts _ q30) (fun _ h9 => h9) rfl hin rfl (by decide +kernel) rfl rfl (Nat.le_of_ble_eq_true rfl) dX0_init_25 (fun H locs hP hD hS => ?_)
  have hP : va_P G vwCl [(h, .inr (0, [.ref q1, .int (nI 0), .ref q2, .int (nI 0), .int (nI 0), .int (nI 0), .ref q3, .null, .null, .int (nI 0), .int (nI 0)])), (q1, .inl (d, 81, .inl (nf (fun _ => 0)))), (q2, .inl (d, 48, .inl (nf (fun _ => 0)))), (q3, .inl (d, 81, .inl (nf (fun _ => 0))))] H := hP
  have hD : va_D A [(h, .inr (0, [.ref q1, .int (nI 0), .ref q2, .int (nI 0), .int (nI 0), .int (nI 0), .ref q3, .null, .null, .int (nI 0), .int (nI 0)])), (q1, .inl (d, 81, .inl (nf (fun _ => 0)))), (q2, .inl (d, 48, .inl (nf (fun _ => 0)))), (q3, .inl (d, 81, .inl (nf (fun _ => 0))))] := hD
  refine lv_aload_n hx hb dX0_init_28 rfl (lv_at hl 0 rfl) ?_
  refine lv_bipush (v := nI 81) hx hb dX0_init_29 (by decide) ?_
  refine va_newa (D := G) (atype := .int) (ty := .int) (a0 := (81, .inl (nf (fun _ => 0)))) (N' := 81) hx hb (hts _ q58) rfl hK hP hD hS hA (fun _ => rfl) (nI_pos (by decide)) (nI_clamp (by decide)) (by decide) (Nat.le_of_ble_eq_true rfl) (Nat.le_of_ble_eq_true rfl) dX0_init_31 (fun q4 d3 H hK hP hD hS => ?_)
  have hdd : d = d3 := (ja_dd hK 0 1 rfl rfl).symm
  subst hdd
  have hK : va_K G vwCl [(d, .int)] s := hK.sub [0] rfl
  have hP : va_P G vwCl [(h, .inr (0, [.ref q1, .int (nI 0), .ref q2, .int (nI 0), .int (nI 0), .int (nI 0), .ref q3, .null, .null, .int (nI 0), .int (nI 0)])), (q1, .inl (d, 81, .inl (nf (fun _ => 0)))), (q2, .inl (d, 48, .inl (nf (fun _ => 0)))), (q3, .inl (d, 81, .inl (nf (fun _ => 0)))), (q4, .inl (d, 81, .inl (nf (fun _ => 0))))] H := hP
  have hD : va_D A [(h, .inr (0, [.ref q1, .int (nI 0), .ref q2, .int (nI 0), .int (nI 0), .int (nI 0), .ref q3, .null, .null, .int (nI 0), .int (nI 0)])), (q1, .inl (d, 81, .inl (nf (fun _ => 0)))), (q2, .inl (d, 48, .inl (nf (fun _ => 0)))), (q3, .inl (d, 81, .inl (nf (fun _ => 0)))), (q4, .inl (d, 81, .inl (nf (fun _ => 0))))] := hD
  refine W.widen (k := 4) (n := 291) (Nat.le_of_ble_eq_true rfl) (Nat.le_of_ble_eq_true rfl) ?_
  refine va_putF (D := G) (ci := 0) (v := .ref q4) (ty := .array .int) (C := RX0) (T := TX0) (N := 11) hx hb hts in_X0 tyX0 tyX0_ok nmX0 hown hK hP hD hS 0 rfl rfl 7 (by decide) (hts _ q31) (fun _ h9 => h9) rfl hin rfl (by decide +kernel) rfl rfl (Nat.le_of_ble_eq_true rfl) dX0_init_33 (fun H locs hP hD hS => ?_)
  have hP : va_P G vwCl [(h, .inr (0, [.ref q1, .int (nI 0), .ref q2, .int (nI 0), .int (nI 0), .int (nI 0), .ref q3, .ref q4, .null, .int (nI 0), .int (nI 0)])), (q1, .inl (d, 81, .inl (nf (fun _ => 0)))), (q2, .inl (d, 48, .inl (nf (fun _ => 0)))), (q3, .inl (d, 81, .inl (nf (fun _ => 0)))), (q4, .inl (d, 81, .inl (nf (fun _ => 0))))] H := hP
  have hD : va_D A [(h, .inr (0, [.ref q1, .int (nI 0), .ref q2, .int (nI 0), .int (nI 0), .int (nI 0), .ref q3, .ref q4, .null, .int (nI 0), .int (nI 0)])), (q1, .inl (d, 81, .inl (nf (fun _ => 0)))), (q2, .inl (d, 48, .inl (nf (fun _ => 0)))), (q3, .inl (d, 81, .inl (nf (fun _ => 0)))), (q4, .inl (d, 81, .inl (nf (fun _ => 0))))] := hD
  refine lv_aload_n hx hb dX0_init_36 rfl (lv_at hl 0 rfl) ?_
  refine lv_bipush (v := nI 81) hx hb dX0_init_37 (by decide) ?_
  refine va_newa (D := G) (atype := .int) (ty := .int) (a0 := (81, .inl (nf (fun _ => 0)))) (N' := 81) hx hb (hts _ q58) rfl hK hP hD hS hA (fun _ => rfl) (nI_pos (by decide)) (nI_clamp (by decide)) (by decide) (Nat.le_of_ble_eq_true rfl) (Nat.le_of_ble_eq_true rfl) dX0_init_39 (fun q5 d4 H hK hP hD hS => ?_)
  have hdd : d = d4 := (ja_dd hK 0 1 rfl rfl).symm
  subst hdd
  have hK : va_K G vwCl [(d, .int)] s := hK.sub [0] rfl
  have hP : va_P G vwCl [(h, .inr (0, [.ref q1, .int (nI 0), .ref q2, .int (nI 0), .int (nI 0), .int (nI 0), .ref q3, .ref q4, .null, .int (nI 0), .int (nI 0)])), (q1, .inl (d, 81, .inl (nf (fun _ => 0)))), (q2, .inl (d, 48, .inl (nf (fun _ => 0)))), (q3, .inl (d, 81, .inl (nf (fun _ => 0)))), (q4, .inl (d, 81, .inl (nf (fun _ => 0)))), (q5, .inl (d, 81, .inl (nf (fun _ => 0))))] H := hP
  have hD : va_D A [(h, .inr (0, [.ref q1, .int (nI 0), .ref q2, .int (nI 0), .int (nI 0), .int (nI 0), .ref q3, .ref q4, .null, .int (nI 0), .int (nI 0)])), (q1, .inl (d, 81, .inl (nf (fun _ => 0)))), (q2, .inl (d, 48, .inl (nf (fun _ => 0)))), (q3, .inl (d, 81, .inl (nf (fun _ => 0)))), (q4, .inl (d, 81, .inl (nf (fun _ => 0)))), (q5, .inl (d, 81, .inl (nf (fun _ => 0))))] := hD
  refine W.widen (k := 5) (n := 372) (Nat.le_of_ble_eq_true rfl) (Nat.le_of_ble_eq_true rfl) ?_
  refine va_putF (D := G) (ci := 0) (v := .ref q5) (ty := .array .int) (C := RX0) (T := TX0) (N := 11) hx hb hts in_X0 tyX0 tyX0_ok nmX0 hown hK hP hD hS 0 rfl rfl 8 (by decide) (hts _ q32) (fun _ h9 => h9) rfl hin rfl (by decide +kernel) rfl rfl (Nat.le_of_ble_eq_true rfl) dX0_init_41 (fun H locs hP hD hS => ?_)
  have hP : va_P G vwCl [(h, .inr (0, [.ref q1, .int (nI 0), .ref q2, .int (nI 0), .int (nI 0), .int (nI 0), .ref q3, .ref q4, .ref q5, .int (nI 0), .int (nI 0)])), (q1, .inl (d, 81, .inl (nf (fun _ => 0)))), (q2, .inl (d, 48, .inl (nf (fun _ => 0)))), (q3, .inl (d, 81, .inl (nf (fun _ => 0)))), (q4, .inl (d, 81, .inl (nf (fun _ => 0)))), (q5, .inl (d, 81, .inl (nf (fun _ => 0))))] H := hP
  have hD : va_D A [(h, .inr (0, [.ref q1, .int (nI 0), .ref q2, .int (nI 0), .int (nI 0), .int (nI 0), .ref q3, .ref q4, .ref q5, .int (nI 0), .int (nI 0)])), (q1, .inl (d, 81, .inl (nf (fun _ => 0)))), (q2, .inl (d, 48, .inl (nf (fun _ => 0)))), (q3, .inl (d, 81, .inl (nf (fun _ => 0)))), (q4, .inl (d, 81, .inl (nf (fun _ => 0)))), (q5, .inl (d, 81, .inl (nf (fun _ => 0))))] := hD
  obtain ⟨a, e0, e1, e2, e3, e4, e5⟩ : ∃ a : Nat → Nat, h = a 0 ∧ q1 = a 1 ∧ q2 = a 2 ∧ q3 = a 3 ∧ q4 = a 4 ∧ q5 = a 5 := ⟨fun k => [h, q1, q2, q3, q4, q5].getD k 0, rfl, rfl, rfl, rfl, rfl, rfl⟩
  subst e0 e1 e2 e3 e4 e5
  have hP : va_P G vwCl (Xw d a (nf (fun _ => 0)) (nf (fun _ => 0)) (nf (fun _ => 0)) (nf (fun _ => 0)) (nf (fun _ => 0)) (nI 0) (nI 0) (nI 0) (nI 0) (nI 0) (nI 0)) H := hP
  have hD : va_D A (Xw d a (nf (fun _ => 0)) (nf (fun _ => 0)) (nf (fun _ => 0)) (nf (fun _ => 0)) (nf (fun _ => 0)) (nI 0) (nI 0) (nI 0) (nI 0) (nI 0) (nI 0)) := hD
  have eO : (fun _ => 0 : Nat → Nat) = odp (cq 8 0) := by rw [cq_b, odp_0]
  have eR : (fun _ => 0 : Nat → Nat) = rkp 8 0 := rkp_0.symm
  have hP : va_P G vwCl (Xw d a (nf (fun _ => 0)) (nf (fun _ => 0)) (nf (fun _ => 0)) (nf (odp (cq 8 0))) (nf (rkp 8 0)) (nI 0) (nI 0) (nI 0) (nI 0) (nI 0) (nI 0)) H := by rw [← eO, ← eR]; exact hP
  have hD : va_D A (Xw d a (nf (fun _ => 0)) (nf (fun _ => 0)) (nf (fun _ => 0)) (nf (odp (cq 8 0))) (nf (rkp 8 0)) (nI 0) (nI 0) (nI 0) (nI 0) (nI 0) (nI 0)) := by rw [← eO, ← eR]; exact hD
  have eZ : nI 0 = nI (cq 8 0) := by rw [cq_b]
  refine lv_iconst (v := nI 0) hx hb dX0_init_44 (by decide) ?_
  refine lv_istore_n (lv' := [(1, .int (nI 0)), (0, .ref (a 0))]) hx hb dX0_init_45 rfl hl (by decide) rfl (fun ls hl => ?_)
  refine lv_bipush (v := nI 8) hx hb dX0_init_46 (by decide) ?_
  refine lv_istore_n (lv' := [(2, .int (nI 8)), (1, .int (nI 0)), (0, .ref (a 0))]) hx hb dX0_init_48 rfl hl (by decide) rfl (fun ls hl => ?_)
  have hl : lv_has ls 7 [(2, .int (nI 8)), (1, .int (nI (cq 8 0))), (0, .ref (a 0))] := by rw [← eZ]; exact hl
  refine ja_loop (fun n H locs ls => ∃ (s9 : Nat), ((n = 4 ∧ s9 = 8) ∨ (n = 3 ∧ s9 = 4) ∨ (n = 2 ∧ s9 = 2) ∨ (n = 1 ∧ s9 = 1) ∨ (n = 0 ∧ s9 = 0)) ∧ ja_I A G s.heap (Xw d a (nf (fun _ => 0)) (nf (fun _ => 0)) (nf (fun _ => 0)) (nf (odp (cq s9 0))) (nf (rkp s9 0)) (nI 0) (nI 0) (nI 0) (nI 0) (nI 0) (nI 0)) 7 [(0, .ref (a 0)), (1, .int (nI (cq s9 0))), (2, .int (nI s9))] H locs ls) ?_ 4 ⟨8, by omega, hP, hD, hS, lv_sub hl [2, 1, 0] rfl⟩
  intro n ih H locs ls hI
  obtain ⟨s9, hs, hP, hD, hS, hl⟩ := hI
  refine lv_iload_n hx hb dX0_init_49 rfl (lv_at hl 2 rfl) ?_
  refine jz_le (tgt := 118) hx hb (by omega) dX0_init_50 (by decide) (fun c_1 => ?_) (fun c_1 => ?_)
  · obtain rfl : s9 = 0 := c_1
    rw [cq_e, odp_e, rkp_e] at hP hD
    exact W.vret hx hb hr (fun t ht hW => ⟨⟨(a, d), rfl, trivial, rfl, by rw [ht]; exact hP, va_K.moved hW.alike hK, hD⟩, hS.F ht⟩) hS.2.2 dX0_init_118
  · have hs4 : s9 = 8 ∨ s9 = 4 ∨ s9 = 2 ∨ s9 = 1 := by omega
    have ihO := ih
    refine lv_iconst (v := nI 0) hx hb dX0_init_53 (by decide) ?_
    refine lv_istore_n (lv' := [(3, .int (nI 0)), (0, .ref (a 0)), (1, .int (nI (cq s9 0))), (2, .int (nI s9))]) hx hb dX0_init_54 rfl hl (by decide) rfl (fun ls hl => ?_)
    refine ja_loop (fun n H locs ls => ∃ (p9 : Nat), p9 + n = 81 ∧ ja_I A G s.heap (Xw d a (nf (fun _ => 0)) (nf (fun _ => 0)) (nf (fun _ => 0)) (nf (odp (cq s9 p9))) (nf (rkp s9 p9)) (nI 0) (nI 0) (nI 0) (nI 0) (nI 0) (nI 0)) 7 [(0, .ref (a 0)), (1, .int (nI (cq s9 p9))), (2, .int (nI s9)), (3, .int (nI p9))] H locs ls) ?_ 81 ⟨0, rfl, hP, hD, hS, lv_sub hl [1, 2, 3, 0] rfl⟩
    intro n ih H locs ls hI
    obtain ⟨p9, hp, hP, hD, hS, hl⟩ := hI
    refine lv_iload_n hx hb dX0_init_55 rfl (lv_at hl 3 rfl) ?_
    refine lv_bipush (v := nI 81) hx hb dX0_init_56 (by decide) ?_
    refine jn_ge (tgt := 111) hx hb (by omega) (by omega) dX0_init_58 (by decide) (fun c_2 => ?_) (fun c_2 => ?_)
    · obtain rfl : p9 = 81 := by omega
      refine lv_iload_n hx hb dX0_init_111 rfl (lv_at hl 2 rfl) ?_
      refine lv_iconst (v := nI 2) hx hb dX0_init_112 (by decide) ?_
      refine ji_div hx hb dX0_init_113 (by decide) (v := nI (s9 / 2)) (pk_div (a := s9) (d := 2) (by omega) (by omega) (by omega)) ?_
      refine lv_istore_n (lv' := [(2, .int (nI (s9 / 2))), (0, .ref (a 0)), (1, .int (nI (cq s9 81))), (3, .int (nI 81))]) hx hb dX0_init_114 rfl hl (by decide) rfl (fun ls hl => ?_)
      refine lv_goto (tgt := 49) hx hb dX0_init_115 (by decide) ?_
      rw [tb_c2 s9 (by omega) hs4] at hP hD hl
      rw [rkp_d hs4] at hP hD
      exact ihO (if s9 = 8 then 3 else if s9 = 4 then 2 else if s9 = 2 then 1 else 0) (by rcases hs4 with rfl | rfl | rfl | rfl <;> simp <;> omega) _ _ _ ⟨s9 / 2, by rcases hs4 with rfl | rfl | rfl | rfl <;> simp, hP, hD, hS, lv_sub hl [1, 2, 0] rfl⟩
    · refine lv_iload_n hx hb dX0_init_61 rfl (lv_at hl 3 rfl) ?_
      refine lv_bipush (v := nI 9) hx hb dX0_init_62 (by decide) ?_
      refine ji_rem hx hb dX0_init_64 (by decide) (v := nI (p9 % 9)) (pk_rem (a := p9) (d := 9) (by omega) (by omega) (by omega)) ?_
      refine lv_istore (lv' := [(4, .int (nI (p9 % 9))), (0, .ref (a 0)), (1, .int (nI (cq s9 p9))), (2, .int (nI s9)), (3, .int (nI p9))]) hx hb dX0_init_65 hl (by decide) rfl (fun ls hl => ?_)
      refine lv_iload_n hx hb dX0_init_67 rfl (lv_at hl 4 rfl) ?_
      refine lv_bipush (v := nI 9) hx hb dX0_init_68 (by decide) ?_
      refine ji_div hx hb dX0_init_70 (by decide) (v := nI (p9 / 9)) (pk_div (a := p9) (d := 9) (by omega) (by omega) (by omega)) ?_
      refine lv_istore (lv' := [(5, .int (nI (p9 / 9))), (4, .int (nI (p9 % 9))), (0, .ref (a 0)), (1, .int (nI (cq s9 p9))), (2, .int (nI s9)), (3, .int (nI p9))]) hx hb dX0_init_71 hl (by decide) rfl (fun ls hl => ?_)
      refine lv_iload hx hb dX0_init_73 (lv_at hl 1 rfl) ?_
      refine lv_iload hx hb dX0_init_75 (lv_at hl 0 rfl) ?_
      refine kc_Si (wr := Xw d a (nf (fun _ => 0)) (nf (fun _ => 0)) (nf (fun _ => 0)) (nf (odp (cq s9 p9))) (nf (rkp s9 p9)) (nI 0) (nI 0) (nI 0) (nI 0) (nI 0) (nI 0)) (w1 := []) (rest := []) ⟨hx, hb, hml, hown, hts⟩ (mX0_stepAt l G p9 (by omega)) (va_cwS 2 hts (lw_S q21 q22 q11 q23) rfl rfl rfl (by decide +kernel) ⟨(Nat.le_of_ble_eq_true rfl), (Nat.le_of_ble_eq_true rfl)⟩) hK [] rfl hP hD hS hA [] [0, 1, 2, 3, 4, 5] rfl rfl rfl rfl (by decide) rfl hl.1 rfl (Nat.le_of_ble_eq_true rfl) dX0_init_77 ⟨(Nat.le_of_ble_eq_true rfl), (Nat.le_of_ble_eq_true rfl)⟩ (fun H locs hP hD hS => ?_)
      have hP : va_P G vwCl (Xw d a (nf (fun _ => 0)) (nf (fun _ => 0)) (nf (fun _ => 0)) (nf (odp (cq s9 p9))) (nf (rkp s9 p9)) (nI 0) (nI 0) (nI 0) (nI 0) (nI 0) (nI 0)) H := hP
      have hD : va_D A (Xw d a (nf (fun _ => 0)) (nf (fun _ => 0)) (nf (fun _ => 0)) (nf (odp (cq s9 p9))) (nf (rkp s9 p9)) (nI 0) (nI 0) (nI 0) (nI 0) (nI 0) (nI 0)) := hD
      have hst := tb_st p9 (by omega)
      refine lv_istore (lv' := [(6, .int (nI (stp p9))), (5, .int (nI (p9 / 9))), (4, .int (nI (p9 % 9))), (0, .ref (a 0)), (1, .int (nI (cq s9 p9))), (2, .int (nI s9)), (3, .int (nI p9))]) hx hb dX0_init_80 hl (by decide) rfl (fun ls hl => ?_)
      refine lv_iload hx hb dX0_init_82 (lv_at hl 0 rfl) ?_
      refine lv_iload_n hx hb dX0_init_84 rfl (lv_at hl 5 rfl) ?_
      refine jn_ne (tgt := 105) hx hb (by omega) (by omega) dX0_init_85 (by decide) (fun c_3 => ?_) (fun c_3 => ?_)
      · rw [← cq_n c_3] at hP hD hl
        rw [← rkp_n c_3] at hP hD
        refine lv_iinc (v := nI (p9 + 1)) (lv' := [(3, .int (nI (p9 + 1))), (6, .int (nI (stp p9))), (5, .int (nI (p9 / 9))), (4, .int (nI (p9 % 9))), (0, .ref (a 0)), (1, .int (nI (cq s9 (p9 + 1)))), (2, .int (nI s9))]) hx hb dX0_init_105 hl (k := 6) rfl (nI_1 p9) (by decide) rfl (fun ls hl => ?_)
        refine lv_goto (tgt := 55) hx hb dX0_init_108 (by decide) ?_
        exact ih (n - 1) (by omega) _ _ _ ⟨p9 + 1, by omega, hP, hD, hS, lv_sub hl [4, 5, 6, 0] rfl⟩
      · have hc1 : cq s9 p9 = rk p9 := by rw [← c_3]; exact tb_c1 p9 (by omega)
        have hc2 := tb_rk p9 (by omega)
        have hc3 := tb_or p9 (by omega)
        refine lv_aload_n hx hb dX0_init_88 rfl (lv_at hl 3 rfl) ?_
        refine va_get (D := G) (ci := 0) (v := .ref (a 4)) (C := RX0) (T := TX0) (N := 11) hx hb hts in_X0 hown hK hP 0 rfl rfl 7 (by decide) (hts _ q31) (fun _ h9 => h9) rfl dX0_init_89 ?_
        refine lv_iload_n hx hb dX0_init_92 rfl (lv_at hl 4 rfl) ?_
        refine lv_iload_n hx hb dX0_init_93 rfl (lv_at hl 6 rfl) ?_
        refine ja_st hx hb hK hP hD hS 4 0 rfl rfl (k := cq s9 p9) (by omega) (by decide) (f' := nf (odp (cq s9 p9 + 1))) (by rw [ar_nf_upd, ← odp_s, hc1, hc3]) dX0_init_94 (fun H locs hP hD hS => ?_)
        have hP : va_P G vwCl (Xw d a (nf (fun _ => 0)) (nf (fun _ => 0)) (nf (fun _ => 0)) (nf (odp (cq s9 p9 + 1))) (nf (rkp s9 p9)) (nI 0) (nI 0) (nI 0) (nI 0) (nI 0) (nI 0)) H := hP
        have hD : va_D A (Xw d a (nf (fun _ => 0)) (nf (fun _ => 0)) (nf (fun _ => 0)) (nf (odp (cq s9 p9 + 1))) (nf (rkp s9 p9)) (nI 0) (nI 0) (nI 0) (nI 0) (nI 0) (nI 0)) := hD
        refine lv_aload_n hx hb dX0_init_95 rfl (lv_at hl 3 rfl) ?_
        refine va_get (D := G) (ci := 0) (v := .ref (a 5)) (C := RX0) (T := TX0) (N := 11) hx hb hts in_X0 hown hK hP 0 rfl rfl 8 (by decide) (hts _ q32) (fun _ h9 => h9) rfl dX0_init_96 ?_
        refine lv_iload_n hx hb dX0_init_99 rfl (lv_at hl 6 rfl) ?_
        refine lv_iload_n hx hb dX0_init_100 rfl (lv_at hl 4 rfl) ?_
        refine ja_st hx hb hK hP hD hS 5 0 rfl rfl (k := p9) (by omega) (by decide) (f' := nf (rkp s9 (p9 + 1))) (by rw [hc1, ar_nf_upd, rkp_y (by omega) c_3]) dX0_init_101 (fun H locs hP hD hS => ?_)
        have hP : va_P G vwCl (Xw d a (nf (fun _ => 0)) (nf (fun _ => 0)) (nf (fun _ => 0)) (nf (odp (cq s9 p9 + 1))) (nf (rkp s9 (p9 + 1))) (nI 0) (nI 0) (nI 0) (nI 0) (nI 0) (nI 0)) H := hP
        have hD : va_D A (Xw d a (nf (fun _ => 0)) (nf (fun _ => 0)) (nf (fun _ => 0)) (nf (odp (cq s9 p9 + 1))) (nf (rkp s9 (p9 + 1))) (nI 0) (nI 0) (nI 0) (nI 0) (nI 0) (nI 0)) := hD
        refine lv_iinc (v := nI ((cq s9 p9) + 1)) (lv' := [(1, .int (nI ((cq s9 p9) + 1))), (6, .int (nI (stp p9))), (5, .int (nI (p9 / 9))), (4, .int (nI (p9 % 9))), (0, .ref (a 0)), (2, .int (nI s9)), (3, .int (nI p9))]) hx hb dX0_init_102 hl (k := 4) rfl (nI_1 (cq s9 p9)) (by decide) rfl (fun ls hl => ?_)
        refine lv_iinc (v := nI (p9 + 1)) (lv' := [(3, .int (nI (p9 + 1))), (1, .int (nI ((cq s9 p9) + 1))), (6, .int (nI (stp p9))), (5, .int (nI (p9 / 9))), (4, .int (nI (p9 % 9))), (0, .ref (a 0)), (2, .int (nI s9))]) hx hb dX0_init_105 hl (k := 6) rfl (nI_1 p9) (by decide) rfl (fun ls hl => ?_)
        rw [← cq_y c_3] at hP hD hl
        refine lv_goto (tgt := 55) hx hb dX0_init_108 (by decide) ?_
        exact ih (n - 1) (by omega) _ _ _ ⟨p9 + 1, by omega, hP, hD, hS, lv_sub hl [5, 1, 6, 0] rfl⟩
set_option maxHeartbeats 4000000 in
set_option maxRecDepth 100000 in
theorem mX1_init (l : Launch) (G : va_G) (h sz : Nat) : Met l yX1_init (ws_ yX1_init cX1_init 1 none) roJ (jc_pre G [] [(h, .inr (1, obY0))] sz [.ref h]) (va_Qv (fun _ : (Nat → Nat) × ClassId => True) (bY9 G (va_A [(h, .inr (1, obY0))] sz) h) (va_A [(h, .inr (1, obY0))] sz)) 2 162 (va_A [(h, .inr (1, obY0))] sz) := by
  refine Met.ofW (cc := cX1_init) (maxL := 1) (ret := none) (by decide) rfl ?_
  intro p e8 s m args below meth c s₁ Bd hml hv
  obtain ⟨rfl, hsz, hP, hK, hD0⟩ := hv
  have hx := Bd.exec
  have hb := Bd.bytes
  have hr := Bd.returns
  have hts := atoms_spec (ws := ws_ yX1_init cX1_init 1 none) Bd.pre
  have hts : ∀ w ∈ lw_all, w.before _ s = true := fun w h => hts w (List.mem_cons_of_mem _ h)
  have hown : s.vm.findClass RX1 = some m.cls := findClass_of_methodNamed Bd.named
  have hlocks := Bd.notSynchronized
  have hin : meth.name = "<init>" := (name_of_methodNamed Bd.named Bd.method).1
  subst hsz
  have hD := hD0.self (sz := s.heap.size)
  generalize hAe : va_A [(h, .inr (1, obY0))] s.heap.size = A at hD ⊢
  have hA : ∀ q : Nat, s.heap.size ≤ q → A q := fun q h => by rw [← hAe]; exact Or.inr h
  have hS : va_S A s.heap s.heap [] := va_S.rf
  have hl := lv_entry ([.ref h]) (n := 1) (Nat.le_of_ble_eq_true rfl)
  rw [lg_entry_eq]
  generalize (lg_sl ([.ref h]) ++ List.replicate (1 - (lg_sl ([.ref h])).length) Slot.unset).toArray = ls at hl ⊢
  have hl : lv_has ls 1 [(0, .ref h)] := hl
  refine lv_aload_n hx hb dX1_init_0 rfl (lv_at hl 0 rfl) ?_
  refine W.objInit hx hb hown (hts _ q145) (hts _ q19) (hts _ q20) rfl (by rw [hml]; exact hl.1) rfl dX1_init_1 (Nat.le_of_ble_eq_true rfl) (Nat.le_of_ble_eq_true rfl) ?_
  refine W.eq (g2 := F0 m 4 ls []) rfl ?_
  refine lv_aload_n hx hb dX1_init_4 rfl (lv_at hl 0 rfl) ?_
  refine lv_bipush (v := nI 81) hx hb dX1_init_5 (by decide) ?_
  refine va_newa (D := G) (atype := .int) (ty := .int) (a0 := (81, .inl (nf (fun _ => 0)))) (N' := 81) hx hb (hts _ q58) rfl hK hP hD hS hA (fun _ => rfl) (nI_pos (by decide)) (nI_clamp (by decide)) (by decide) (Nat.le_of_ble_eq_true rfl) (Nat.le_of_ble_eq_true rfl) dX1_init_7 (fun q1 d H hK hP hD hS => ?_)
  have hK : va_K G vwCl [(d, .int)] s := hK
  have hP : va_P G vwCl [(h, .inr (1, [.null, .null, .int (nI 0), .int (nI 0)])), (q1, .inl (d, 81, .inl (nf (fun _ => 0))))] H := hP
  have hD : va_D A [(h, .inr (1, [.null, .null, .int (nI 0), .int (nI 0)])), (q1, .inl (d, 81, .inl (nf (fun _ => 0))))] := hD
  refine W.widen (k := 1) (n := 81) (Nat.le_of_ble_eq_true rfl) (Nat.le_of_ble_eq_true rfl) ?_
  refine va_putF (D := G) (ci := 1) (v := .ref q1) (ty := .array .int) (C := RX1) (T := TX1) (N := 4) hx hb hts in_X1 tyX1 tyX1_ok nmX1 hown hK hP hD hS 0 rfl rfl 0 (by decide) (hts _ q146) (fun _ h9 => h9) rfl hin rfl (by decide +kernel) rfl rfl (Nat.le_of_ble_eq_true rfl) dX1_init_9 (fun H locs hP hD hS => ?_)
  have hP : va_P G vwCl [(h, .inr (1, [.ref q1, .null, .int (nI 0), .int (nI 0)])), (q1, .inl (d, 81, .inl (nf (fun _ => 0))))] H := hP
  have hD : va_D A [(h, .inr (1, [.ref q1, .null, .int (nI 0), .int (nI 0)])), (q1, .inl (d, 81, .inl (nf (fun _ => 0))))] := hD
  refine lv_aload_n hx hb dX1_init_12 rfl (lv_at hl 0 rfl) ?_
  refine lv_bipush (v := nI 81) hx hb dX1_init_13 (by decide) ?_
  refine va_newa (D := G) (atype := .int) (ty := .int) (a0 := (81, .inl (nf (fun _ => 0)))) (N' := 81) hx hb (hts _ q58) rfl hK hP hD hS hA (fun _ => rfl) (nI_pos (by decide)) (nI_clamp (by decide)) (by decide) (Nat.le_of_ble_eq_true rfl) (Nat.le_of_ble_eq_true rfl) dX1_init_15 (fun q2 d1 H hK hP hD hS => ?_)
  have hdd : d = d1 := (ja_dd hK 0 1 rfl rfl).symm
  subst hdd
  have hK : va_K G vwCl [(d, .int)] s := hK.sub [0] rfl
  have hP : va_P G vwCl [(h, .inr (1, [.ref q1, .null, .int (nI 0), .int (nI 0)])), (q1, .inl (d, 81, .inl (nf (fun _ => 0)))), (q2, .inl (d, 81, .inl (nf (fun _ => 0))))] H := hP
  have hD : va_D A [(h, .inr (1, [.ref q1, .null, .int (nI 0), .int (nI 0)])), (q1, .inl (d, 81, .inl (nf (fun _ => 0)))), (q2, .inl (d, 81, .inl (nf (fun _ => 0))))] := hD
  refine W.widen (k := 2) (n := 162) (Nat.le_of_ble_eq_true rfl) (Nat.le_of_ble_eq_true rfl) ?_
  refine va_putF (D := G) (ci := 1) (v := .ref q2) (ty := .array .int) (C := RX1) (T := TX1) (N := 4) hx hb hts in_X1 tyX1 tyX1_ok nmX1 hown hK hP hD hS 0 rfl rfl 1 (by decide) (hts _ q147) (fun _ h9 => h9) rfl hin rfl (by decide +kernel) rfl rfl (Nat.le_of_ble_eq_true rfl) dX1_init_17 (fun H locs hP hD hS => ?_)
  have hP : va_P G vwCl [(h, .inr (1, [.ref q1, .ref q2, .int (nI 0), .int (nI 0)])), (q1, .inl (d, 81, .inl (nf (fun _ => 0)))), (q2, .inl (d, 81, .inl (nf (fun _ => 0))))] H := hP
  have hD : va_D A [(h, .inr (1, [.ref q1, .ref q2, .int (nI 0), .int (nI 0)])), (q1, .inl (d, 81, .inl (nf (fun _ => 0)))), (q2, .inl (d, 81, .inl (nf (fun _ => 0))))] := hD
  obtain ⟨a, e0, e1, e2⟩ : ∃ a : Nat → Nat, h = a 0 ∧ q1 = a 1 ∧ q2 = a 2 := ⟨fun k => [h, q1, q2].getD k 0, rfl, rfl, rfl⟩
  subst e0 e1 e2
  exact W.vret hx hb hr (fun t ht hW => ⟨⟨(a, d), rfl, trivial, rfl, by rw [ht]; exact hP, va_K.moved hW.alike hK, hD⟩, hS.F ht⟩) hS.2.2 dX1_init_20
end
section
/-! THE CLAIM OUT OF ONE WALK OF THE LAW'S BODY. Your part is whole_start (and what it stands on); all else here is the same for every law, but numbers. -/
def R_law : String := "PyramidSenderLaw"
def lw_P (b : Addr) (xs : List Int32) (args : Array Value) (s : State) : Prop := args = #[.ref b] ∧ s.IntsAt b xs ∧ xs.length ≤ 256 ∧ (Jvm.Cond.and given_1 narrow_1).before args s = true
def lw_Q (_ : Array Value) (s : State) (o : Outcome) (t : State) : Prop := o = .returned (some (.int 1)) ∧ Framed s o t [] 600000 7290000
def lw_Z (below : List Frame) (a : Array Value) (s : State) : State → Prop := fun t => ∃ o, t.status = .running ∧ Ended t below o ∧ lw_Q a s o t
/-- the law's own end, with 1 on the stack, nothing written that was there before, its room as the claim has it -/
theorem lw_ret {p : Program} {l : Launch} {e : Env} {s : State} {m : MethodId} {below : List Frame} {meth : Method} {c : Code} {b : Nat} (hx : p.tables.exec = Jvm.exec) (hb : c.code = code) (hr : meth.sig.returnType = ret) (hlocks : meth.locks = false) {pc : Nat} {H : Heap} {ls : Array Slot} (hdg : decode code pc = .ok (.ireturn, 1)) : W p l e room_1 s m #[Value.ref b] below meth c H [] 600000 7290000 (lw_Z below #[Value.ref b] s) (F0 m pc ls [.int 1]) := by
  intro T hT X
  obtain ⟨fs, hret, hrun, hended, hW, hframe⟩ := X.leave (v := some (.int 1)) (hlocks := hlocks) (fun h => by rw [hr] at h; cases h)
  have hmeth' : T.vm.method? m = some meth := X.method'
  refine ⟨T.setFrames fs, ?_, .returned (some (.int 1)), hrun, hended, rfl, ⟨_, rfl⟩, hW, hframe⟩
  jvm_step X.here [X.here.top, hx, hb, hdg, hmeth', hr, ret, narrow_b1]
  (try refine ⟨rfl, ?_⟩); (try refine ⟨rfl, ?_⟩)
  first | (intro acts; rw [hret _ acts rfl rfl rfl]) | rw [hret _ _ rfl rfl rfl]
  exact Steps.refl _
/-- what holds at the law's entry: the machine, the code, the tables' words (any of lw_tbl by 'hts w (by decide +kernel)'), the script of L ints xs at the cell b, what the Statement gives of the start (any of its parts by flat_of_before) -/
def lw_At (p : Program) (s : State) (m : MethodId) (meth : Method) (c : Code) (b L : Nat) (xs : Nat → Int32) : Prop :=
  p.tables.exec = Jvm.exec ∧ c.code = code ∧ meth.sig.returnType = ret ∧ c.maxLocals = 4 ∧ s.vm.findClass R_law = some m.cls ∧ (∀ w ∈ lw_tbl, w.before #[Value.ref b] s = true) ∧ va_X b L xs s s.heap ∧ b < s.heap.size ∧ meth.locks = false ∧ (Jvm.Cond.and given_1 narrow_1).before #[Value.ref b] s = true
section JL
variable {p : Program} {l : Launch} {e : Env} {R : Room} {s : State} {m : MethodId} {args : Array Value} {below : List Frame} {meth : Method} {c : Code} {H : Heap} {locs : List Loc} {cells slots : Nat} {Q : State → Prop} {cc : ByteArray} {pc : Nat} {ls : Array Slot} {rest : List Value} {A : Nat → Prop} {H0 : Heap}
/-- the script is read at a known place -/
theorem jl_ld (hexec : p.tables.exec = Jvm.exec) (hb : c.code = cc) {b L : Nat} {xs : Nat → Int32} (hX : va_X b L xs s H0) (hbl : b < H0.size) (hbA : ¬ A b) (hS : va_S A H0 H locs) {k : Nat} (hk : k < L) (hL : L < 2 ^ 31) {v : Int32} (hv : xs k = v) (hdg : decode cc pc = .ok (.iaload, 1))
    (kk : W p l e R s m args below meth c H locs cells slots Q (F0 m (pc + 1) ls (.int v :: rest))) : W p l e R s m args below meth c H locs cells slots Q (F0 m pc ls (.int (nI k) :: .ref b :: rest)) := by
  refine va_sld hexec hb hX hbl hbA hS (vp_in_nI hk hL) hdg ?_
  rw [nI_clamp (Nat.lt_trans hk hL), hv]
  exact kk
end JL
theorem law_lt {L i : Nat} (hL : L ≤ 256) (hi : i < 2 ^ 30) (h : ¬ nI L - nI 4 < nI i) : i + 4 ≤ L := by
  have h1 : ¬ (nI L - nI 4).toInt < (nI i).toInt := fun z => h (Int32.lt_iff_toInt_lt.mpr z)
  rw [pk_sub_toInt (by omega) (by omega), nI_toInt (by omega)] at h1
  omega
/-- the class and the reference stand alike: D drawn, e9 sent, e2 what the reference kept of it, c9 decoded, r received -/
def LI (D e9 e2 c9 : Nat → Nat) (B : Nat → Int32) (s9 r : Nat) (ra w b9 : Int32) : Prop := (∀ j, D j < 256) ∧ (∀ j, e9 j < 256) ∧ (∀ j, c9 j < 256) ∧ r ≤ 81 ∧ s9 < 2 ∧ (s9 = 0 → r = 0) ∧ (∀ k, k < r → c9 (od k) = e9 (od k)) ∧ (∀ j, j < 81 → e2 j = e9 j) ∧ (s9 = 1 → ra = nI (stm e9 r).length ∧ w = nI (wb e9 r).1 ∧ b9 = (wb e9 r).2 ∧ ∀ k, k < 81 → Str B (stm e9 k).length (cd (fo e9 k) (wb e9 k).1))
theorem LI_0 : LI (fun _ => 0) (fun _ => 0) (fun _ => 0) (fun _ => 0) (nf (fun _ => 0)) 0 0 (nI 0) (nI 0) (nI 0) := ⟨fun _ => Nat.zero_lt_succ 255, fun _ => Nat.zero_lt_succ 255, fun _ => Nat.zero_lt_succ 255, by decide, by decide, fun _ => rfl, fun k h => absurd h (by omega), fun _ _ => rfl, fun h => absurd h (by decide)⟩
theorem LI_D {D D2 e9 e2 c9 : Nat → Nat} {B : Nat → Int32} {s9 r : Nat} {ra w b9 : Int32} (h : LI D e9 e2 c9 B s9 r ra w b9) (hD : ∀ j, D2 j < 256) : LI D2 e9 e2 c9 B s9 r ra w b9 := ⟨hD, h.2⟩
theorem LI_send {D e9 e2 c9 : Nat → Nat} {B : Nat → Int32} {s9 r : Nat} {ra w b9 : Int32} (h : LI D e9 e2 c9 B s9 r ra w b9) : LI D D (cpy e2 D 81) c9 (wL (stm D 81) (clr B 48) 0) 1 0 (nI 0) (nI 3) (nI 0) := by
  obtain ⟨h1, h2, h3, h4, h5, h6, h7, h8, h9⟩ := h
  refine ⟨h1, h1, h3, by decide, by decide, fun z => absurd z (by decide), fun k hk => absurd hk (by omega), fun j hj => ?_, fun _ => ⟨rfl, rfl, rfl, str_all D B⟩⟩
  unfold cpy
  rw [if_pos hj]
theorem LI_recv {D e9 e2 c9 : Nat → Nat} {B : Nat → Int32} {r : Nat} {ra w b9 : Int32} (cn : Int32) (h : LI D e9 e2 c9 B 1 r ra w b9) : LI D e9 e2 (dc c9 e9 r (rcv r cn)) B 1 (rcv r cn) (nI (stm e9 (rcv r cn)).length) (nI (wb e9 (rcv r cn)).1) (wb e9 (rcv r cn)).2 := by
  obtain ⟨h1, h2, h3, h4, h5, h6, h7, h8, h9⟩ := h
  have hr : rcv r cn ≤ 81 := Nat.min_le_left _ _
  refine ⟨h1, h2, dc_lt h3 h2 _ _, hr, by decide, fun z => absurd z (by decide), fun k hk => ?_, h8, fun z => ⟨rfl, rfl, rfl, (h9 z).2.2.2⟩⟩
  exact dc_e h7 (tb_od k (by omega)) (by rw [tb_ro k (by omega)]; exact hk)
/-- what the reference kept answers as what was sent -/
theorem LI_c {D e9 e2 c9 : Nat → Nat} {B : Nat → Int32} {s9 r : Nat} {ra w b9 : Int32} (h : LI D e9 e2 c9 B s9 r ra w b9) : ∀ k, k < r → c9 (od k) = e2 (od k) := by
  obtain ⟨h1, h2, h3, h4, h5, h6, h7, h8, h9⟩ := h
  intro k hk
  rw [h7 k hk, h8 _ (tb_od k (by omega))]
end
section
set_option maxHeartbeats 8000000 in
set_option maxRecDepth 100000 in
/-- the loop of the law: the class and the reference stand alike at its head -/
theorem law_loop {p : Program} {e : Env} {s : State} {m : MethodId} {below : List Frame} {meth : Method} {c : Code} (l : Launch) {b L : Nat} {xs : Nat → Int32} (hL : L ≤ 256) (C0 : lw_At p s m meth c b L xs) (G : va_G) (d : ClassId) (a a2 : Nat → Nat) (A : Nat → Prop) (hA : ∀ q : Nat, s.heap.size ≤ q → A q) (hA2 : ∀ q : Nat, A q → s.heap.size ≤ q) (hK : va_K G vwCl [(d, .int)] s) {H : Heap} {locs : List Loc} {ls : Array Slot} (hP : va_P G vwCl (X9 d a ++ Y9 d a2) H) (hD : va_D A (X9 d a ++ Y9 d a2)) (hS : va_S A s.heap H locs) (hl : lv_has ls 4 [(0, .ref b), (1, .ref (a 0)), (2, .ref (a2 0)), (3, .int (nI 0))]) : W p l e room_1 s m #[Value.ref b] below meth c H locs 9 549 (lw_Z below #[Value.ref b] s) (F0 m 18 ls []) := by
  obtain ⟨hx, hb, hr, hml, hown, hts0, hX, hbl, hlocks, hgv⟩ := C0
  have hts : ∀ w ∈ lw_all, w.before #[Value.ref b] s = true := fun w h => hts0 w (lw_all_tbl h)
  have hbA : ¬ A b := fun z => absurd (hA2 b z) (Nat.not_le.mpr hbl)
  refine ja_loop (fun n H locs ls => ∃ (i : Nat) (D e9 e2 c9 : Nat → Nat) (B : Nat → Int32) (s9 r : Nat) (ln ra w b9 : Int32), i + n = L ∧ LI D e9 e2 c9 B s9 r ra w b9 ∧ ja_I A G s.heap (Xw d a (nf D) B (nf c9) (nf od) (nf rk) (nI s9) ln ra (nI r) w b9 ++ Yw d a2 (nf D) (nf e2) (nI s9) (nI r)) 4 [(0, .ref b), (1, .ref (a 0)), (2, .ref (a2 0)), (3, .int (nI i))] H locs ls) ?_ L ⟨0, fun _ => 0, fun _ => 0, fun _ => 0, fun _ => 0, nf (fun _ => 0), 0, 0, nI 0, nI 0, nI 0, nI 0, Nat.zero_add L, LI_0, hP, hD, hS, hl⟩
  intro n ih H locs ls hI
  obtain ⟨i, D, e9, e2, c9, B, s9, r, ln, ra, w, b9, hi, hLI, hP, hD, hS, hl⟩ := hI
  obtain ⟨hD9, he9, hc9, hr9, hs9, hsr, hce, he2, hsn⟩ := id hLI
  have hcM := LI_c hLI
  refine lv_iload_n hx hb dL_law_18 rfl (lv_at hl 3 rfl) ?_
  refine lv_aload_n hx hb dL_law_19 rfl (lv_at hl 0 rfl) ?_
  refine va_slen hx hb hX hbl hbA hS dL_law_20 ?_
  refine lv_iconst (v := nI 4) hx hb dL_law_21 (by decide) ?_
  refine ji_sub hx hb dL_law_22 (v := nI L - nI 4) rfl ?_
  refine lv_icmp_gt (tgt := 316) hx hb dL_law_23 (by decide) (fun c_1 => ?_) (fun c_1 => ?_)
  · refine lv_iconst (v := nI 1) hx hb dL_law_316 (by decide) ?_
    refine va_forget (fun q hq => hA2 _ (hS.2.2 q hq)) ?_
    refine W.widen (k := 600000) (n := 7290000) (Nat.le_of_ble_eq_true rfl) (Nat.le_of_ble_eq_true rfl) ?_
    exact lw_ret hx hb hr hlocks dL_law_317
  · have hi4 : i + 4 ≤ L := law_lt hL (by omega) c_1
    refine lv_aload_n hx hb dL_law_26 rfl (lv_at hl 0 rfl) ?_
    refine lv_iload_n hx hb dL_law_27 rfl (lv_at hl 3 rfl) ?_
    refine jl_ld hx hb hX hbl hbA hS (k := i) (by omega) (by omega) (v := xs i) rfl dL_law_28 ?_
    refine lv_bipush (v := nI 7) hx hb dL_law_29 (by decide) ?_
    refine ji_and hx hb dL_law_31 (v := nI ((xs i).toBitVec.toNat % 8)) (ar_and7 _) ?_
    have hz : (xs i).toBitVec.toNat % 8 < 8 := Nat.mod_lt _ (by decide)
    generalize (xs i).toBitVec.toNat % 8 = z at hz ⊢
    rcases (show z = 0 ∨ z = 1 ∨ z = 2 ∨ z = 3 ∨ z = 4 ∨ z = 5 ∨ z = 6 ∨ z = 7 by omega) with rfl | rfl | rfl | rfl | rfl | rfl | rfl | rfl
    · refine lv_tableIn (tgt := 80) (off := 48) hx hb dL_law_32 (by decide) (by decide) (by decide) (by decide) ?_
      by_cases hip : ip (xs (i + 1)) (xs (i + 2))
      · obtain ⟨x, y, hx9, hy9, ex, ey⟩ := ip_of hip
        refine lv_aload_n hx hb dL_law_80 rfl (lv_at hl 1 rfl) ?_
        refine lv_aload_n hx hb dL_law_81 rfl (lv_at hl 0 rfl) ?_
        refine lv_iload_n hx hb dL_law_82 rfl (lv_at hl 3 rfl) ?_
        refine lv_iconst (v := nI 1) hx hb dL_law_83 (by decide) ?_
        refine ji_add hx hb dL_law_84 (v := nI (i + 1)) (nI_add i 1) ?_
        refine jl_ld hx hb hX hbl hbA hS (k := i + 1) (by omega) (by omega) (v := nI x) ex dL_law_85 ?_
        refine lv_aload_n hx hb dL_law_86 rfl (lv_at hl 0 rfl) ?_
        refine lv_iload_n hx hb dL_law_87 rfl (lv_at hl 3 rfl) ?_
        refine lv_iconst (v := nI 2) hx hb dL_law_88 (by decide) ?_
        refine ji_add hx hb dL_law_89 (v := nI (i + 2)) (nI_add i 2) ?_
        refine jl_ld hx hb hX hbl hbA hS (k := i + 2) (by omega) (by omega) (v := nI y) ey dL_law_90 ?_
        refine lv_aload_n hx hb dL_law_91 rfl (lv_at hl 0 rfl) ?_
        refine lv_iload_n hx hb dL_law_92 rfl (lv_at hl 3 rfl) ?_
        refine lv_iconst (v := nI 3) hx hb dL_law_93 (by decide) ?_
        refine ji_add hx hb dL_law_94 (v := nI (i + 3)) (nI_add i 3) ?_
        refine jl_ld hx hb hX hbl hbA hS (k := i + 3) (by omega) (by omega) (v := xs (i + 3)) rfl dL_law_95 ?_
        refine kc_Vi (wr := Yw d a2 (nf D) (nf e2) (nI s9) (nI r)) (w1 := Xw d a (nf (up D (9 * y + x) ((xs (i + 3)).toBitVec.toNat % 256))) B (nf c9) (nf od) (nf rk) (nI s9) ln ra (nI r) w b9) (rest := []) ⟨hx, hb, hml, hown, hts⟩ (mX0_draw1 l G d a D B (nf c9) (nI s9) ln ra (nI r) w b9 x y (xs (i + 3)) hx9 hy9) (cwV 3 hts (lw_V q59 q60 q61 q11 q62) rfl rfl rfl (by decide +kernel) ⟨(Nat.le_of_ble_eq_true rfl), (Nat.le_of_ble_eq_true rfl)⟩) hK [0] rfl hP hD hS hA [0, 1, 2, 3, 4, 5] [6, 7, 8] rfl rfl rfl rfl (by decide) (ci := 0) rfl rfl rfl hl.1 rfl (Nat.le_of_ble_eq_true rfl) dL_law_96 ⟨(Nat.le_of_ble_eq_true rfl), (Nat.le_of_ble_eq_true rfl)⟩ (fun H locs hP hD hS => ?_)
        have hP : va_P G vwCl (Yw d a2 (nf D) (nf e2) (nI s9) (nI r) ++ Xw d a (nf (up D (9 * y + x) ((xs (i + 3)).toBitVec.toNat % 256))) B (nf c9) (nf od) (nf rk) (nI s9) ln ra (nI r) w b9) H := hP
        have hD : va_D A (Yw d a2 (nf D) (nf e2) (nI s9) (nI r) ++ Xw d a (nf (up D (9 * y + x) ((xs (i + 3)).toBitVec.toNat % 256))) B (nf c9) (nf od) (nf rk) (nI s9) ln ra (nI r) w b9) := hD
        refine lv_aload_n hx hb dL_law_99 rfl (lv_at hl 2 rfl) ?_
        refine lv_aload_n hx hb dL_law_100 rfl (lv_at hl 0 rfl) ?_
        refine lv_iload_n hx hb dL_law_101 rfl (lv_at hl 3 rfl) ?_
        refine lv_iconst (v := nI 1) hx hb dL_law_102 (by decide) ?_
        refine ji_add hx hb dL_law_103 (v := nI (i + 1)) (nI_add i 1) ?_
        refine jl_ld hx hb hX hbl hbA hS (k := i + 1) (by omega) (by omega) (v := nI x) ex dL_law_104 ?_
        refine lv_aload_n hx hb dL_law_105 rfl (lv_at hl 0 rfl) ?_
        refine lv_iload_n hx hb dL_law_106 rfl (lv_at hl 3 rfl) ?_
        refine lv_iconst (v := nI 2) hx hb dL_law_107 (by decide) ?_
        refine ji_add hx hb dL_law_108 (v := nI (i + 2)) (nI_add i 2) ?_
        refine jl_ld hx hb hX hbl hbA hS (k := i + 2) (by omega) (by omega) (v := nI y) ey dL_law_109 ?_
        refine lv_aload_n hx hb dL_law_110 rfl (lv_at hl 0 rfl) ?_
        refine lv_iload_n hx hb dL_law_111 rfl (lv_at hl 3 rfl) ?_
        refine lv_iconst (v := nI 3) hx hb dL_law_112 (by decide) ?_
        refine ji_add hx hb dL_law_113 (v := nI (i + 3)) (nI_add i 3) ?_
        refine jl_ld hx hb hX hbl hbA hS (k := i + 3) (by omega) (by omega) (v := xs (i + 3)) rfl dL_law_114 ?_
        refine kc_Vi (wr := Xw d a (nf (up D (9 * y + x) ((xs (i + 3)).toBitVec.toNat % 256))) B (nf c9) (nf od) (nf rk) (nI s9) ln ra (nI r) w b9) (w1 := Yw d a2 (nf (up D (9 * y + x) ((xs (i + 3)).toBitVec.toNat % 256))) (nf e2) (nI s9) (nI r)) (rest := [.int (nI (D (9 * y + x)))]) ⟨hx, hb, hml, hown, hts⟩ (mX1_draw1 l G d a2 D (nf e2) (nI s9) (nI r) x y (xs (i + 3)) hx9 hy9) (cwV 3 hts (lw_V q159 q160 q161 q12 q162) rfl rfl rfl (by decide +kernel) ⟨(Nat.le_of_ble_eq_true rfl), (Nat.le_of_ble_eq_true rfl)⟩) hK [0] rfl hP hD hS hA [0, 1, 2] [3, 4, 5, 6, 7, 8] rfl rfl rfl rfl (by decide) (ci := 1) rfl rfl rfl hl.1 rfl (Nat.le_of_ble_eq_true rfl) dL_law_115 ⟨(Nat.le_of_ble_eq_true rfl), (Nat.le_of_ble_eq_true rfl)⟩ (fun H locs hP hD hS => ?_)
        have hP : va_P G vwCl (Xw d a (nf (up D (9 * y + x) ((xs (i + 3)).toBitVec.toNat % 256))) B (nf c9) (nf od) (nf rk) (nI s9) ln ra (nI r) w b9 ++ Yw d a2 (nf (up D (9 * y + x) ((xs (i + 3)).toBitVec.toNat % 256))) (nf e2) (nI s9) (nI r)) H := hP
        have hD : va_D A (Xw d a (nf (up D (9 * y + x) ((xs (i + 3)).toBitVec.toNat % 256))) B (nf c9) (nf od) (nf rk) (nI s9) ln ra (nI r) w b9 ++ Yw d a2 (nf (up D (9 * y + x) ((xs (i + 3)).toBitVec.toNat % 256))) (nf e2) (nI s9) (nI r)) := hD
        refine lv_icmp_eq (tgt := 310) hx hb dL_law_118 (by decide) (fun c_2 => ?_) (fun c_2 => ?_)
        · refine lv_iinc (v := nI (i + 4)) (lv' := [(3, .int (nI (i + 4))), (0, .ref b), (1, .ref (a 0)), (2, .ref (a2 0))]) hx hb dL_law_310 hl (k := 3) rfl (nI_add i 4) (by decide) rfl (fun ls hl => ?_)
          refine lv_goto (tgt := 18) hx hb dL_law_313 (by decide) ?_
          exact ih (n - 4) (by omega) _ _ _ ⟨i + 4, (up D (9 * y + x) ((xs (i + 3)).toBitVec.toNat % 256)), e9, e2, c9, B, s9, r, ln, ra, w, b9, by omega, LI_D hLI (ar_up_lt hD9 _ (ar_255 _)), hP, hD, hS, lv_sub hl [1, 2, 3, 0] rfl⟩
        · exact absurd rfl c_2
      · refine lv_aload_n hx hb dL_law_80 rfl (lv_at hl 1 rfl) ?_
        refine lv_aload_n hx hb dL_law_81 rfl (lv_at hl 0 rfl) ?_
        refine lv_iload_n hx hb dL_law_82 rfl (lv_at hl 3 rfl) ?_
        refine lv_iconst (v := nI 1) hx hb dL_law_83 (by decide) ?_
        refine ji_add hx hb dL_law_84 (v := nI (i + 1)) (nI_add i 1) ?_
        refine jl_ld hx hb hX hbl hbA hS (k := i + 1) (by omega) (by omega) (v := xs (i + 1)) rfl dL_law_85 ?_
        refine lv_aload_n hx hb dL_law_86 rfl (lv_at hl 0 rfl) ?_
        refine lv_iload_n hx hb dL_law_87 rfl (lv_at hl 3 rfl) ?_
        refine lv_iconst (v := nI 2) hx hb dL_law_88 (by decide) ?_
        refine ji_add hx hb dL_law_89 (v := nI (i + 2)) (nI_add i 2) ?_
        refine jl_ld hx hb hX hbl hbA hS (k := i + 2) (by omega) (by omega) (v := xs (i + 2)) rfl dL_law_90 ?_
        refine lv_aload_n hx hb dL_law_91 rfl (lv_at hl 0 rfl) ?_
        refine lv_iload_n hx hb dL_law_92 rfl (lv_at hl 3 rfl) ?_
        refine lv_iconst (v := nI 3) hx hb dL_law_93 (by decide) ?_
        refine ji_add hx hb dL_law_94 (v := nI (i + 3)) (nI_add i 3) ?_
        refine jl_ld hx hb hX hbl hbA hS (k := i + 3) (by omega) (by omega) (v := xs (i + 3)) rfl dL_law_95 ?_
        refine kc_Vi (wr := Yw d a2 (nf D) (nf e2) (nI s9) (nI r)) (w1 := Xw d a (nf D) B (nf c9) (nf od) (nf rk) (nI s9) ln ra (nI r) w b9) (rest := []) ⟨hx, hb, hml, hown, hts⟩ (mX0_draw0 l G d a (nf D) B (nf c9) (nI s9) ln ra (nI r) w b9 (xs (i + 1)) (xs (i + 2)) (xs (i + 3)) hip) (cwV 3 hts (lw_V q59 q60 q61 q11 q62) rfl rfl rfl (by decide +kernel) ⟨(Nat.le_of_ble_eq_true rfl), (Nat.le_of_ble_eq_true rfl)⟩) hK [0] rfl hP hD hS hA [0, 1, 2, 3, 4, 5] [6, 7, 8] rfl rfl rfl rfl (by decide) (ci := 0) rfl rfl rfl hl.1 rfl (Nat.le_of_ble_eq_true rfl) dL_law_96 ⟨(Nat.le_of_ble_eq_true rfl), (Nat.le_of_ble_eq_true rfl)⟩ (fun H locs hP hD hS => ?_)
        have hP : va_P G vwCl (Yw d a2 (nf D) (nf e2) (nI s9) (nI r) ++ Xw d a (nf D) B (nf c9) (nf od) (nf rk) (nI s9) ln ra (nI r) w b9) H := hP
        have hD : va_D A (Yw d a2 (nf D) (nf e2) (nI s9) (nI r) ++ Xw d a (nf D) B (nf c9) (nf od) (nf rk) (nI s9) ln ra (nI r) w b9) := hD
        refine lv_aload_n hx hb dL_law_99 rfl (lv_at hl 2 rfl) ?_
        refine lv_aload_n hx hb dL_law_100 rfl (lv_at hl 0 rfl) ?_
        refine lv_iload_n hx hb dL_law_101 rfl (lv_at hl 3 rfl) ?_
        refine lv_iconst (v := nI 1) hx hb dL_law_102 (by decide) ?_
        refine ji_add hx hb dL_law_103 (v := nI (i + 1)) (nI_add i 1) ?_
        refine jl_ld hx hb hX hbl hbA hS (k := i + 1) (by omega) (by omega) (v := xs (i + 1)) rfl dL_law_104 ?_
        refine lv_aload_n hx hb dL_law_105 rfl (lv_at hl 0 rfl) ?_
        refine lv_iload_n hx hb dL_law_106 rfl (lv_at hl 3 rfl) ?_
        refine lv_iconst (v := nI 2) hx hb dL_law_107 (by decide) ?_
        refine ji_add hx hb dL_law_108 (v := nI (i + 2)) (nI_add i 2) ?_
        refine jl_ld hx hb hX hbl hbA hS (k := i + 2) (by omega) (by omega) (v := xs (i + 2)) rfl dL_law_109 ?_
        refine lv_aload_n hx hb dL_law_110 rfl (lv_at hl 0 rfl) ?_
        refine lv_iload_n hx hb dL_law_111 rfl (lv_at hl 3 rfl) ?_
        refine lv_iconst (v := nI 3) hx hb dL_law_112 (by decide) ?_
        refine ji_add hx hb dL_law_113 (v := nI (i + 3)) (nI_add i 3) ?_
        refine jl_ld hx hb hX hbl hbA hS (k := i + 3) (by omega) (by omega) (v := xs (i + 3)) rfl dL_law_114 ?_
        refine kc_Vi (wr := Xw d a (nf D) B (nf c9) (nf od) (nf rk) (nI s9) ln ra (nI r) w b9) (w1 := Yw d a2 (nf D) (nf e2) (nI s9) (nI r)) (rest := [.int (-1)]) ⟨hx, hb, hml, hown, hts⟩ (mX1_draw0 l G d a2 (nf D) (nf e2) (nI s9) (nI r) (xs (i + 1)) (xs (i + 2)) (xs (i + 3)) hip) (cwV 3 hts (lw_V q159 q160 q161 q12 q162) rfl rfl rfl (by decide +kernel) ⟨(Nat.le_of_ble_eq_true rfl), (Nat.le_of_ble_eq_true rfl)⟩) hK [0] rfl hP hD hS hA [0, 1, 2] [3, 4, 5, 6, 7, 8] rfl rfl rfl rfl (by decide) (ci := 1) rfl rfl rfl hl.1 rfl (Nat.le_of_ble_eq_true rfl) dL_law_115 ⟨(Nat.le_of_ble_eq_true rfl), (Nat.le_of_ble_eq_true rfl)⟩ (fun H locs hP hD hS => ?_)
        have hP : va_P G vwCl (Xw d a (nf D) B (nf c9) (nf od) (nf rk) (nI s9) ln ra (nI r) w b9 ++ Yw d a2 (nf D) (nf e2) (nI s9) (nI r)) H := hP
        have hD : va_D A (Xw d a (nf D) B (nf c9) (nf od) (nf rk) (nI s9) ln ra (nI r) w b9 ++ Yw d a2 (nf D) (nf e2) (nI s9) (nI r)) := hD
        refine lv_icmp_eq (tgt := 310) hx hb dL_law_118 (by decide) (fun c_3 => ?_) (fun c_3 => ?_)
        · refine lv_iinc (v := nI (i + 4)) (lv' := [(3, .int (nI (i + 4))), (0, .ref b), (1, .ref (a 0)), (2, .ref (a2 0))]) hx hb dL_law_310 hl (k := 3) rfl (nI_add i 4) (by decide) rfl (fun ls hl => ?_)
          refine lv_goto (tgt := 18) hx hb dL_law_313 (by decide) ?_
          exact ih (n - 4) (by omega) _ _ _ ⟨i + 4, D, e9, e2, c9, B, s9, r, ln, ra, w, b9, by omega, hLI, hP, hD, hS, lv_sub hl [1, 2, 3, 0] rfl⟩
        · exact absurd rfl c_3
    · refine lv_tableIn (tgt := 123) (off := 91) hx hb dL_law_32 (by decide) (by decide) (by decide) (by decide) ?_
      refine lv_aload_n hx hb dL_law_123 rfl (lv_at hl 1 rfl) ?_
      refine lv_aload_n hx hb dL_law_124 rfl (lv_at hl 0 rfl) ?_
      refine lv_iload_n hx hb dL_law_125 rfl (lv_at hl 3 rfl) ?_
      refine lv_iconst (v := nI 1) hx hb dL_law_126 (by decide) ?_
      refine ji_add hx hb dL_law_127 (v := nI (i + 1)) (nI_add i 1) ?_
      refine jl_ld hx hb hX hbl hbA hS (k := i + 1) (by omega) (by omega) (v := xs (i + 1)) rfl dL_law_128 ?_
      refine lv_aload_n hx hb dL_law_129 rfl (lv_at hl 0 rfl) ?_
      refine lv_iload_n hx hb dL_law_130 rfl (lv_at hl 3 rfl) ?_
      refine lv_iconst (v := nI 2) hx hb dL_law_131 (by decide) ?_
      refine ji_add hx hb dL_law_132 (v := nI (i + 2)) (nI_add i 2) ?_
      refine jl_ld hx hb hX hbl hbA hS (k := i + 2) (by omega) (by omega) (v := xs (i + 2)) rfl dL_law_133 ?_
      refine lv_aload_n hx hb dL_law_134 rfl (lv_at hl 0 rfl) ?_
      refine lv_iload_n hx hb dL_law_135 rfl (lv_at hl 3 rfl) ?_
      refine lv_iconst (v := nI 3) hx hb dL_law_136 (by decide) ?_
      refine ji_add hx hb dL_law_137 (v := nI (i + 3)) (nI_add i 3) ?_
      refine jl_ld hx hb hX hbl hbA hS (k := i + 3) (by omega) (by omega) (v := xs (i + 3)) rfl dL_law_138 ?_
      refine kc_Vv (wr := Yw d a2 (nf D) (nf e2) (nI s9) (nI r)) (w1 := Xw d a (nf (rmp (xs (i + 1)) (xs (i + 2)) (xs (i + 3)) D 81)) B (nf c9) (nf od) (nf rk) (nI s9) ln ra (nI r) w b9) (rest := []) ⟨hx, hb, hml, hown, hts⟩ (mX0_ramp l G d a D B (nf c9) (nI s9) ln ra (nI r) w b9 (xs (i + 1)) (xs (i + 2)) (xs (i + 3))) (cwV 3 hts (lw_V q66 q67 q68 q11 q69) rfl rfl rfl (by decide +kernel) ⟨(Nat.le_of_ble_eq_true rfl), (Nat.le_of_ble_eq_true rfl)⟩) hK [0] rfl hP hD hS hA [0, 1, 2, 3, 4, 5] [6, 7, 8] rfl rfl rfl rfl (by decide) (ci := 0) rfl rfl rfl hl.1 rfl (Nat.le_of_ble_eq_true rfl) dL_law_139 ⟨(Nat.le_of_ble_eq_true rfl), (Nat.le_of_ble_eq_true rfl)⟩ (fun H locs hP hD hS => ?_)
      have hP : va_P G vwCl (Yw d a2 (nf D) (nf e2) (nI s9) (nI r) ++ Xw d a (nf (rmp (xs (i + 1)) (xs (i + 2)) (xs (i + 3)) D 81)) B (nf c9) (nf od) (nf rk) (nI s9) ln ra (nI r) w b9) H := hP
      have hD : va_D A (Yw d a2 (nf D) (nf e2) (nI s9) (nI r) ++ Xw d a (nf (rmp (xs (i + 1)) (xs (i + 2)) (xs (i + 3)) D 81)) B (nf c9) (nf od) (nf rk) (nI s9) ln ra (nI r) w b9) := hD
      refine lv_aload_n hx hb dL_law_142 rfl (lv_at hl 2 rfl) ?_
      refine lv_aload_n hx hb dL_law_143 rfl (lv_at hl 0 rfl) ?_
      refine lv_iload_n hx hb dL_law_144 rfl (lv_at hl 3 rfl) ?_
      refine lv_iconst (v := nI 1) hx hb dL_law_145 (by decide) ?_
      refine ji_add hx hb dL_law_146 (v := nI (i + 1)) (nI_add i 1) ?_
      refine jl_ld hx hb hX hbl hbA hS (k := i + 1) (by omega) (by omega) (v := xs (i + 1)) rfl dL_law_147 ?_
      refine lv_aload_n hx hb dL_law_148 rfl (lv_at hl 0 rfl) ?_
      refine lv_iload_n hx hb dL_law_149 rfl (lv_at hl 3 rfl) ?_
      refine lv_iconst (v := nI 2) hx hb dL_law_150 (by decide) ?_
      refine ji_add hx hb dL_law_151 (v := nI (i + 2)) (nI_add i 2) ?_
      refine jl_ld hx hb hX hbl hbA hS (k := i + 2) (by omega) (by omega) (v := xs (i + 2)) rfl dL_law_152 ?_
      refine lv_aload_n hx hb dL_law_153 rfl (lv_at hl 0 rfl) ?_
      refine lv_iload_n hx hb dL_law_154 rfl (lv_at hl 3 rfl) ?_
      refine lv_iconst (v := nI 3) hx hb dL_law_155 (by decide) ?_
      refine ji_add hx hb dL_law_156 (v := nI (i + 3)) (nI_add i 3) ?_
      refine jl_ld hx hb hX hbl hbA hS (k := i + 3) (by omega) (by omega) (v := xs (i + 3)) rfl dL_law_157 ?_
      refine kc_Vv (wr := Xw d a (nf (rmp (xs (i + 1)) (xs (i + 2)) (xs (i + 3)) D 81)) B (nf c9) (nf od) (nf rk) (nI s9) ln ra (nI r) w b9) (w1 := Yw d a2 (nf (rmp (xs (i + 1)) (xs (i + 2)) (xs (i + 3)) D 81)) (nf e2) (nI s9) (nI r)) (rest := []) ⟨hx, hb, hml, hown, hts⟩ (mX1_ramp l G d a2 D (nf e2) (nI s9) (nI r) (xs (i + 1)) (xs (i + 2)) (xs (i + 3))) (cwV 3 hts (lw_V q166 q167 q168 q12 q169) rfl rfl rfl (by decide +kernel) ⟨(Nat.le_of_ble_eq_true rfl), (Nat.le_of_ble_eq_true rfl)⟩) hK [0] rfl hP hD hS hA [0, 1, 2] [3, 4, 5, 6, 7, 8] rfl rfl rfl rfl (by decide) (ci := 1) rfl rfl rfl hl.1 rfl (Nat.le_of_ble_eq_true rfl) dL_law_158 ⟨(Nat.le_of_ble_eq_true rfl), (Nat.le_of_ble_eq_true rfl)⟩ (fun H locs hP hD hS => ?_)
      have hP : va_P G vwCl (Xw d a (nf (rmp (xs (i + 1)) (xs (i + 2)) (xs (i + 3)) D 81)) B (nf c9) (nf od) (nf rk) (nI s9) ln ra (nI r) w b9 ++ Yw d a2 (nf (rmp (xs (i + 1)) (xs (i + 2)) (xs (i + 3)) D 81)) (nf e2) (nI s9) (nI r)) H := hP
      have hD : va_D A (Xw d a (nf (rmp (xs (i + 1)) (xs (i + 2)) (xs (i + 3)) D 81)) B (nf c9) (nf od) (nf rk) (nI s9) ln ra (nI r) w b9 ++ Yw d a2 (nf (rmp (xs (i + 1)) (xs (i + 2)) (xs (i + 3)) D 81)) (nf e2) (nI s9) (nI r)) := hD
      refine lv_goto (tgt := 310) hx hb dL_law_161 (by decide) ?_
      refine lv_iinc (v := nI (i + 4)) (lv' := [(3, .int (nI (i + 4))), (0, .ref b), (1, .ref (a 0)), (2, .ref (a2 0))]) hx hb dL_law_310 hl (k := 3) rfl (nI_add i 4) (by decide) rfl (fun ls hl => ?_)
      refine lv_goto (tgt := 18) hx hb dL_law_313 (by decide) ?_
      exact ih (n - 4) (by omega) _ _ _ ⟨i + 4, (rmp (xs (i + 1)) (xs (i + 2)) (xs (i + 3)) D 81), e9, e2, c9, B, s9, r, ln, ra, w, b9, by omega, LI_D hLI (rmp_lt hD9 _ _ _ _), hP, hD, hS, lv_sub hl [1, 2, 3, 0] rfl⟩
    · refine lv_tableIn (tgt := 164) (off := 132) hx hb dL_law_32 (by decide) (by decide) (by decide) (by decide) ?_
      refine lv_aload_n hx hb dL_law_164 rfl (lv_at hl 1 rfl) ?_
      refine kc_Vv (wr := Yw d a2 (nf D) (nf e2) (nI s9) (nI r)) (w1 := Xw d a (nf D) (wL (stm D 81) (clr B 48) 0) (nf c9) (nf od) (nf rk) (nI 1) (nI ((stm D 81).length)) (nI 0) (nI 0) (nI 3) (nI 0)) (rest := []) ⟨hx, hb, hml, hown, hts⟩ (mX0_send l G d a D c9 B (nI s9) ln ra (nI r) w b9 hD9) (cwV 0 hts (lw_V q70 q71 q72 q11 q73) rfl rfl rfl (by decide +kernel) ⟨(Nat.le_of_ble_eq_true rfl), (Nat.le_of_ble_eq_true rfl)⟩) hK [0] rfl hP hD hS hA [0, 1, 2, 3, 4, 5] [6, 7, 8] rfl rfl rfl rfl (by decide) (ci := 0) rfl rfl rfl hl.1 rfl (Nat.le_of_ble_eq_true rfl) dL_law_165 ⟨(Nat.le_of_ble_eq_true rfl), (Nat.le_of_ble_eq_true rfl)⟩ (fun H locs hP hD hS => ?_)
      have hP : va_P G vwCl (Yw d a2 (nf D) (nf e2) (nI s9) (nI r) ++ Xw d a (nf D) (wL (stm D 81) (clr B 48) 0) (nf c9) (nf od) (nf rk) (nI 1) (nI ((stm D 81).length)) (nI 0) (nI 0) (nI 3) (nI 0)) H := hP
      have hD : va_D A (Yw d a2 (nf D) (nf e2) (nI s9) (nI r) ++ Xw d a (nf D) (wL (stm D 81) (clr B 48) 0) (nf c9) (nf od) (nf rk) (nI 1) (nI ((stm D 81).length)) (nI 0) (nI 0) (nI 3) (nI 0)) := hD
      refine lv_aload_n hx hb dL_law_168 rfl (lv_at hl 2 rfl) ?_
      refine kc_Vv (wr := Xw d a (nf D) (wL (stm D 81) (clr B 48) 0) (nf c9) (nf od) (nf rk) (nI 1) (nI ((stm D 81).length)) (nI 0) (nI 0) (nI 3) (nI 0)) (w1 := Yw d a2 (nf D) (nf (cpy e2 D 81)) (nI 1) (nI 0)) (rest := []) ⟨hx, hb, hml, hown, hts⟩ (mX1_send l G d a2 D e2 (nI s9) (nI r)) (cwV 0 hts (lw_V q170 q171 q172 q12 q173) rfl rfl rfl (by decide +kernel) ⟨(Nat.le_of_ble_eq_true rfl), (Nat.le_of_ble_eq_true rfl)⟩) hK [0] rfl hP hD hS hA [0, 1, 2] [3, 4, 5, 6, 7, 8] rfl rfl rfl rfl (by decide) (ci := 1) rfl rfl rfl hl.1 rfl (Nat.le_of_ble_eq_true rfl) dL_law_169 ⟨(Nat.le_of_ble_eq_true rfl), (Nat.le_of_ble_eq_true rfl)⟩ (fun H locs hP hD hS => ?_)
      have hP : va_P G vwCl (Xw d a (nf D) (wL (stm D 81) (clr B 48) 0) (nf c9) (nf od) (nf rk) (nI 1) (nI ((stm D 81).length)) (nI 0) (nI 0) (nI 3) (nI 0) ++ Yw d a2 (nf D) (nf (cpy e2 D 81)) (nI 1) (nI 0)) H := hP
      have hD : va_D A (Xw d a (nf D) (wL (stm D 81) (clr B 48) 0) (nf c9) (nf od) (nf rk) (nI 1) (nI ((stm D 81).length)) (nI 0) (nI 0) (nI 3) (nI 0) ++ Yw d a2 (nf D) (nf (cpy e2 D 81)) (nI 1) (nI 0)) := hD
      refine lv_goto (tgt := 310) hx hb dL_law_172 (by decide) ?_
      refine lv_iinc (v := nI (i + 4)) (lv' := [(3, .int (nI (i + 4))), (0, .ref b), (1, .ref (a 0)), (2, .ref (a2 0))]) hx hb dL_law_310 hl (k := 3) rfl (nI_add i 4) (by decide) rfl (fun ls hl => ?_)
      refine lv_goto (tgt := 18) hx hb dL_law_313 (by decide) ?_
      exact ih (n - 4) (by omega) _ _ _ ⟨i + 4, D, D, (cpy e2 D 81), c9, (wL (stm D 81) (clr B 48) 0), 1, 0, (nI (stm D 81).length), (nI 0), (nI 3), (nI 0), by omega, LI_send hLI, hP, hD, hS, lv_sub hl [1, 2, 3, 0] rfl⟩
    · refine lv_tableIn (tgt := 175) (off := 143) hx hb dL_law_32 (by decide) (by decide) (by decide) (by decide) ?_
      rcases (show s9 = 0 ∨ s9 = 1 by omega) with rfl | rfl
      · refine lv_aload_n hx hb dL_law_175 rfl (lv_at hl 1 rfl) ?_
        refine lv_aload_n hx hb dL_law_176 rfl (lv_at hl 0 rfl) ?_
        refine lv_iload_n hx hb dL_law_177 rfl (lv_at hl 3 rfl) ?_
        refine lv_iconst (v := nI 1) hx hb dL_law_178 (by decide) ?_
        refine ji_add hx hb dL_law_179 (v := nI (i + 1)) (nI_add i 1) ?_
        refine jl_ld hx hb hX hbl hbA hS (k := i + 1) (by omega) (by omega) (v := xs (i + 1)) rfl dL_law_180 ?_
        refine kc_Vi (wr := Yw d a2 (nf D) (nf e2) (nI 0) (nI r)) (w1 := Xw d a (nf D) B (nf c9) (nf od) (nf rk) (nI 0) ln ra (nI r) w b9) (rest := []) ⟨hx, hb, hml, hown, hts⟩ (mX0_receive0 l G d a (nf D) B (nf c9) ln ra (nI r) w b9 (xs (i + 1))) (cwV 1 hts (lw_V q105 q106 q107 q11 q108) rfl rfl rfl (by decide +kernel) ⟨(Nat.le_of_ble_eq_true rfl), (Nat.le_of_ble_eq_true rfl)⟩) hK [0] rfl hP hD hS hA [0, 1, 2, 3, 4, 5] [6, 7, 8] rfl rfl rfl rfl (by decide) (ci := 0) rfl rfl rfl hl.1 rfl (Nat.le_of_ble_eq_true rfl) dL_law_181 ⟨(Nat.le_of_ble_eq_true rfl), (Nat.le_of_ble_eq_true rfl)⟩ (fun H locs hP hD hS => ?_)
        have hP : va_P G vwCl (Yw d a2 (nf D) (nf e2) (nI 0) (nI r) ++ Xw d a (nf D) B (nf c9) (nf od) (nf rk) (nI 0) ln ra (nI r) w b9) H := hP
        have hD : va_D A (Yw d a2 (nf D) (nf e2) (nI 0) (nI r) ++ Xw d a (nf D) B (nf c9) (nf od) (nf rk) (nI 0) ln ra (nI r) w b9) := hD
        refine lv_aload_n hx hb dL_law_184 rfl (lv_at hl 2 rfl) ?_
        refine lv_aload_n hx hb dL_law_185 rfl (lv_at hl 0 rfl) ?_
        refine lv_iload_n hx hb dL_law_186 rfl (lv_at hl 3 rfl) ?_
        refine lv_iconst (v := nI 1) hx hb dL_law_187 (by decide) ?_
        refine ji_add hx hb dL_law_188 (v := nI (i + 1)) (nI_add i 1) ?_
        refine jl_ld hx hb hX hbl hbA hS (k := i + 1) (by omega) (by omega) (v := xs (i + 1)) rfl dL_law_189 ?_
        refine kc_Vi (wr := Xw d a (nf D) B (nf c9) (nf od) (nf rk) (nI 0) ln ra (nI r) w b9) (w1 := Yw d a2 (nf D) (nf e2) (nI 0) (nI r)) (rest := [.int (-1)]) ⟨hx, hb, hml, hown, hts⟩ (mX1_receive0 l G d a2 (nf D) (nf e2) (nI r) (xs (i + 1))) (cwV 1 hts (lw_V q174 q175 q176 q12 q177) rfl rfl rfl (by decide +kernel) ⟨(Nat.le_of_ble_eq_true rfl), (Nat.le_of_ble_eq_true rfl)⟩) hK [0] rfl hP hD hS hA [0, 1, 2] [3, 4, 5, 6, 7, 8] rfl rfl rfl rfl (by decide) (ci := 1) rfl rfl rfl hl.1 rfl (Nat.le_of_ble_eq_true rfl) dL_law_190 ⟨(Nat.le_of_ble_eq_true rfl), (Nat.le_of_ble_eq_true rfl)⟩ (fun H locs hP hD hS => ?_)
        have hP : va_P G vwCl (Xw d a (nf D) B (nf c9) (nf od) (nf rk) (nI 0) ln ra (nI r) w b9 ++ Yw d a2 (nf D) (nf e2) (nI 0) (nI r)) H := hP
        have hD : va_D A (Xw d a (nf D) B (nf c9) (nf od) (nf rk) (nI 0) ln ra (nI r) w b9 ++ Yw d a2 (nf D) (nf e2) (nI 0) (nI r)) := hD
        refine lv_icmp_eq (tgt := 310) hx hb dL_law_193 (by decide) (fun c_4 => ?_) (fun c_4 => ?_)
        · refine lv_iinc (v := nI (i + 4)) (lv' := [(3, .int (nI (i + 4))), (0, .ref b), (1, .ref (a 0)), (2, .ref (a2 0))]) hx hb dL_law_310 hl (k := 3) rfl (nI_add i 4) (by decide) rfl (fun ls hl => ?_)
          refine lv_goto (tgt := 18) hx hb dL_law_313 (by decide) ?_
          exact ih (n - 4) (by omega) _ _ _ ⟨i + 4, D, e9, e2, c9, B, 0, r, ln, ra, w, b9, by omega, hLI, hP, hD, hS, lv_sub hl [1, 2, 3, 0] rfl⟩
        · exact absurd rfl c_4
      · obtain ⟨era, ew, eb, hst⟩ := hsn rfl
        subst era ew eb
        refine lv_aload_n hx hb dL_law_175 rfl (lv_at hl 1 rfl) ?_
        refine lv_aload_n hx hb dL_law_176 rfl (lv_at hl 0 rfl) ?_
        refine lv_iload_n hx hb dL_law_177 rfl (lv_at hl 3 rfl) ?_
        refine lv_iconst (v := nI 1) hx hb dL_law_178 (by decide) ?_
        refine ji_add hx hb dL_law_179 (v := nI (i + 1)) (nI_add i 1) ?_
        refine jl_ld hx hb hX hbl hbA hS (k := i + 1) (by omega) (by omega) (v := xs (i + 1)) rfl dL_law_180 ?_
        refine kc_Vi (wr := Yw d a2 (nf D) (nf e2) (nI 1) (nI r)) (w1 := Xw d a (nf D) B (nf (dc c9 e9 r (rcv r (xs (i + 1))))) (nf od) (nf rk) (nI 1) ln (nI ((stm e9 (rcv r (xs (i + 1)))).length)) (nI (rcv r (xs (i + 1)))) (nI ((wb e9 (rcv r (xs (i + 1)))).1)) ((wb e9 (rcv r (xs (i + 1)))).2)) (rest := []) ⟨hx, hb, hml, hown, hts⟩ (mX0_receive1 l G d a D c9 e9 B ln (xs (i + 1)) r hc9 he9 hr9 hce hst) (cwV 1 hts (lw_V q105 q106 q107 q11 q108) rfl rfl rfl (by decide +kernel) ⟨(Nat.le_of_ble_eq_true rfl), (Nat.le_of_ble_eq_true rfl)⟩) hK [0] rfl hP hD hS hA [0, 1, 2, 3, 4, 5] [6, 7, 8] rfl rfl rfl rfl (by decide) (ci := 0) rfl rfl rfl hl.1 rfl (Nat.le_of_ble_eq_true rfl) dL_law_181 ⟨(Nat.le_of_ble_eq_true rfl), (Nat.le_of_ble_eq_true rfl)⟩ (fun H locs hP hD hS => ?_)
        have hP : va_P G vwCl (Yw d a2 (nf D) (nf e2) (nI 1) (nI r) ++ Xw d a (nf D) B (nf (dc c9 e9 r (rcv r (xs (i + 1))))) (nf od) (nf rk) (nI 1) ln (nI ((stm e9 (rcv r (xs (i + 1)))).length)) (nI (rcv r (xs (i + 1)))) (nI ((wb e9 (rcv r (xs (i + 1)))).1)) ((wb e9 (rcv r (xs (i + 1)))).2)) H := hP
        have hD : va_D A (Yw d a2 (nf D) (nf e2) (nI 1) (nI r) ++ Xw d a (nf D) B (nf (dc c9 e9 r (rcv r (xs (i + 1))))) (nf od) (nf rk) (nI 1) ln (nI ((stm e9 (rcv r (xs (i + 1)))).length)) (nI (rcv r (xs (i + 1)))) (nI ((wb e9 (rcv r (xs (i + 1)))).1)) ((wb e9 (rcv r (xs (i + 1)))).2)) := hD
        refine lv_aload_n hx hb dL_law_184 rfl (lv_at hl 2 rfl) ?_
        refine lv_aload_n hx hb dL_law_185 rfl (lv_at hl 0 rfl) ?_
        refine lv_iload_n hx hb dL_law_186 rfl (lv_at hl 3 rfl) ?_
        refine lv_iconst (v := nI 1) hx hb dL_law_187 (by decide) ?_
        refine ji_add hx hb dL_law_188 (v := nI (i + 1)) (nI_add i 1) ?_
        refine jl_ld hx hb hX hbl hbA hS (k := i + 1) (by omega) (by omega) (v := xs (i + 1)) rfl dL_law_189 ?_
        refine kc_Vi (wr := Xw d a (nf D) B (nf (dc c9 e9 r (rcv r (xs (i + 1))))) (nf od) (nf rk) (nI 1) ln (nI ((stm e9 (rcv r (xs (i + 1)))).length)) (nI (rcv r (xs (i + 1)))) (nI ((wb e9 (rcv r (xs (i + 1)))).1)) ((wb e9 (rcv r (xs (i + 1)))).2)) (w1 := Yw d a2 (nf D) (nf e2) (nI 1) (nI (rcv r (xs (i + 1))))) (rest := [.int (nI (rcv r (xs (i + 1))))]) ⟨hx, hb, hml, hown, hts⟩ (mX1_receive1 l G d a2 (nf D) (nf e2) (xs (i + 1)) r hr9) (cwV 1 hts (lw_V q174 q175 q176 q12 q177) rfl rfl rfl (by decide +kernel) ⟨(Nat.le_of_ble_eq_true rfl), (Nat.le_of_ble_eq_true rfl)⟩) hK [0] rfl hP hD hS hA [0, 1, 2] [3, 4, 5, 6, 7, 8] rfl rfl rfl rfl (by decide) (ci := 1) rfl rfl rfl hl.1 rfl (Nat.le_of_ble_eq_true rfl) dL_law_190 ⟨(Nat.le_of_ble_eq_true rfl), (Nat.le_of_ble_eq_true rfl)⟩ (fun H locs hP hD hS => ?_)
        have hP : va_P G vwCl (Xw d a (nf D) B (nf (dc c9 e9 r (rcv r (xs (i + 1))))) (nf od) (nf rk) (nI 1) ln (nI ((stm e9 (rcv r (xs (i + 1)))).length)) (nI (rcv r (xs (i + 1)))) (nI ((wb e9 (rcv r (xs (i + 1)))).1)) ((wb e9 (rcv r (xs (i + 1)))).2) ++ Yw d a2 (nf D) (nf e2) (nI 1) (nI (rcv r (xs (i + 1))))) H := hP
        have hD : va_D A (Xw d a (nf D) B (nf (dc c9 e9 r (rcv r (xs (i + 1))))) (nf od) (nf rk) (nI 1) ln (nI ((stm e9 (rcv r (xs (i + 1)))).length)) (nI (rcv r (xs (i + 1)))) (nI ((wb e9 (rcv r (xs (i + 1)))).1)) ((wb e9 (rcv r (xs (i + 1)))).2) ++ Yw d a2 (nf D) (nf e2) (nI 1) (nI (rcv r (xs (i + 1))))) := hD
        refine lv_icmp_eq (tgt := 310) hx hb dL_law_193 (by decide) (fun c_5 => ?_) (fun c_5 => ?_)
        · refine lv_iinc (v := nI (i + 4)) (lv' := [(3, .int (nI (i + 4))), (0, .ref b), (1, .ref (a 0)), (2, .ref (a2 0))]) hx hb dL_law_310 hl (k := 3) rfl (nI_add i 4) (by decide) rfl (fun ls hl => ?_)
          refine lv_goto (tgt := 18) hx hb dL_law_313 (by decide) ?_
          exact ih (n - 4) (by omega) _ _ _ ⟨i + 4, D, e9, e2, (dc c9 e9 r (rcv r (xs (i + 1)))), B, 1, (rcv r (xs (i + 1))), ln, (nI (stm e9 (rcv r (xs (i + 1)))).length), (nI (wb e9 (rcv r (xs (i + 1)))).1), ((wb e9 (rcv r (xs (i + 1)))).2), by omega, LI_recv _ hLI, hP, hD, hS, lv_sub hl [1, 2, 3, 0] rfl⟩
        · exact absurd rfl c_5
    · refine lv_tableIn (tgt := 198) (off := 166) hx hb dL_law_32 (by decide) (by decide) (by decide) (by decide) ?_
      by_cases hip : ip (xs (i + 1)) (xs (i + 2))
      · obtain ⟨x, y, hx9, hy9, ex, ey⟩ := ip_of hip
        refine lv_aload_n hx hb dL_law_198 rfl (lv_at hl 1 rfl) ?_
        refine lv_aload_n hx hb dL_law_199 rfl (lv_at hl 0 rfl) ?_
        refine lv_iload_n hx hb dL_law_200 rfl (lv_at hl 3 rfl) ?_
        refine lv_iconst (v := nI 1) hx hb dL_law_201 (by decide) ?_
        refine ji_add hx hb dL_law_202 (v := nI (i + 1)) (nI_add i 1) ?_
        refine jl_ld hx hb hX hbl hbA hS (k := i + 1) (by omega) (by omega) (v := nI x) ex dL_law_203 ?_
        refine lv_aload_n hx hb dL_law_204 rfl (lv_at hl 0 rfl) ?_
        refine lv_iload_n hx hb dL_law_205 rfl (lv_at hl 3 rfl) ?_
        refine lv_iconst (v := nI 2) hx hb dL_law_206 (by decide) ?_
        refine ji_add hx hb dL_law_207 (v := nI (i + 2)) (nI_add i 2) ?_
        refine jl_ld hx hb hX hbl hbA hS (k := i + 2) (by omega) (by omega) (v := nI y) ey dL_law_208 ?_
        refine kc_Vi (wr := Yw d a2 (nf D) (nf e2) (nI s9) (nI r)) (w1 := Xw d a (nf D) B (nf c9) (nf od) (nf rk) (nI s9) ln ra (nI r) w b9) (rest := []) ⟨hx, hb, hml, hown, hts⟩ (mX0_pixel1 l G d a c9 (nf D) B ln ra w b9 x y s9 r hx9 hy9 hs9 hr9) (cwV 2 hts (lw_V q124 q125 q126 q11 q127) rfl rfl rfl (by decide +kernel) ⟨(Nat.le_of_ble_eq_true rfl), (Nat.le_of_ble_eq_true rfl)⟩) hK [0] rfl hP hD hS hA [0, 1, 2, 3, 4, 5] [6, 7, 8] rfl rfl rfl rfl (by decide) (ci := 0) rfl rfl rfl hl.1 rfl (Nat.le_of_ble_eq_true rfl) dL_law_209 ⟨(Nat.le_of_ble_eq_true rfl), (Nat.le_of_ble_eq_true rfl)⟩ (fun H locs hP hD hS => ?_)
        have hP : va_P G vwCl (Yw d a2 (nf D) (nf e2) (nI s9) (nI r) ++ Xw d a (nf D) B (nf c9) (nf od) (nf rk) (nI s9) ln ra (nI r) w b9) H := hP
        have hD : va_D A (Yw d a2 (nf D) (nf e2) (nI s9) (nI r) ++ Xw d a (nf D) B (nf c9) (nf od) (nf rk) (nI s9) ln ra (nI r) w b9) := hD
        refine lv_aload_n hx hb dL_law_212 rfl (lv_at hl 2 rfl) ?_
        refine lv_aload_n hx hb dL_law_213 rfl (lv_at hl 0 rfl) ?_
        refine lv_iload_n hx hb dL_law_214 rfl (lv_at hl 3 rfl) ?_
        refine lv_iconst (v := nI 1) hx hb dL_law_215 (by decide) ?_
        refine ji_add hx hb dL_law_216 (v := nI (i + 1)) (nI_add i 1) ?_
        refine jl_ld hx hb hX hbl hbA hS (k := i + 1) (by omega) (by omega) (v := nI x) ex dL_law_217 ?_
        refine lv_aload_n hx hb dL_law_218 rfl (lv_at hl 0 rfl) ?_
        refine lv_iload_n hx hb dL_law_219 rfl (lv_at hl 3 rfl) ?_
        refine lv_iconst (v := nI 2) hx hb dL_law_220 (by decide) ?_
        refine ji_add hx hb dL_law_221 (v := nI (i + 2)) (nI_add i 2) ?_
        refine jl_ld hx hb hX hbl hbA hS (k := i + 2) (by omega) (by omega) (v := nI y) ey dL_law_222 ?_
        refine kc_Vi (wr := Xw d a (nf D) B (nf c9) (nf od) (nf rk) (nI s9) ln ra (nI r) w b9) (w1 := Yw d a2 (nf D) (nf e2) (nI s9) (nI r)) (rest := [.int (pxv s9 r c9 (9 * y + x))]) ⟨hx, hb, hml, hown, hts⟩ (mX1_pixel1 l G d a2 e2 (nf D) x y s9 r hx9 hy9 hs9 hr9) (cwV 2 hts (lw_V q178 q179 q180 q12 q181) rfl rfl rfl (by decide +kernel) ⟨(Nat.le_of_ble_eq_true rfl), (Nat.le_of_ble_eq_true rfl)⟩) hK [0] rfl hP hD hS hA [0, 1, 2] [3, 4, 5, 6, 7, 8] rfl rfl rfl rfl (by decide) (ci := 1) rfl rfl rfl hl.1 rfl (Nat.le_of_ble_eq_true rfl) dL_law_223 ⟨(Nat.le_of_ble_eq_true rfl), (Nat.le_of_ble_eq_true rfl)⟩ (fun H locs hP hD hS => ?_)
        have hP : va_P G vwCl (Xw d a (nf D) B (nf c9) (nf od) (nf rk) (nI s9) ln ra (nI r) w b9 ++ Yw d a2 (nf D) (nf e2) (nI s9) (nI r)) H := hP
        have hD : va_D A (Xw d a (nf D) B (nf c9) (nf od) (nf rk) (nI s9) ln ra (nI r) w b9 ++ Yw d a2 (nf D) (nf e2) (nI s9) (nI r)) := hD
        refine lv_icmp_eq (tgt := 310) hx hb dL_law_226 (by decide) (fun c_6 => ?_) (fun c_6 => ?_)
        · refine lv_iinc (v := nI (i + 4)) (lv' := [(3, .int (nI (i + 4))), (0, .ref b), (1, .ref (a 0)), (2, .ref (a2 0))]) hx hb dL_law_310 hl (k := 3) rfl (nI_add i 4) (by decide) rfl (fun ls hl => ?_)
          refine lv_goto (tgt := 18) hx hb dL_law_313 (by decide) ?_
          exact ih (n - 4) (by omega) _ _ _ ⟨i + 4, D, e9, e2, c9, B, s9, r, ln, ra, w, b9, by omega, hLI, hP, hD, hS, lv_sub hl [1, 2, 3, 0] rfl⟩
        · exact absurd (px_same (by omega) hcM) c_6
      · refine lv_aload_n hx hb dL_law_198 rfl (lv_at hl 1 rfl) ?_
        refine lv_aload_n hx hb dL_law_199 rfl (lv_at hl 0 rfl) ?_
        refine lv_iload_n hx hb dL_law_200 rfl (lv_at hl 3 rfl) ?_
        refine lv_iconst (v := nI 1) hx hb dL_law_201 (by decide) ?_
        refine ji_add hx hb dL_law_202 (v := nI (i + 1)) (nI_add i 1) ?_
        refine jl_ld hx hb hX hbl hbA hS (k := i + 1) (by omega) (by omega) (v := xs (i + 1)) rfl dL_law_203 ?_
        refine lv_aload_n hx hb dL_law_204 rfl (lv_at hl 0 rfl) ?_
        refine lv_iload_n hx hb dL_law_205 rfl (lv_at hl 3 rfl) ?_
        refine lv_iconst (v := nI 2) hx hb dL_law_206 (by decide) ?_
        refine ji_add hx hb dL_law_207 (v := nI (i + 2)) (nI_add i 2) ?_
        refine jl_ld hx hb hX hbl hbA hS (k := i + 2) (by omega) (by omega) (v := xs (i + 2)) rfl dL_law_208 ?_
        refine kc_Vi (wr := Yw d a2 (nf D) (nf e2) (nI s9) (nI r)) (w1 := Xw d a (nf D) B (nf c9) (nf od) (nf rk) (nI s9) ln ra (nI r) w b9) (rest := []) ⟨hx, hb, hml, hown, hts⟩ (mX0_pixel0 l G d a (nf D) B (nf c9) (nI s9) ln ra (nI r) w b9 (xs (i + 1)) (xs (i + 2)) hip) (cwV 2 hts (lw_V q124 q125 q126 q11 q127) rfl rfl rfl (by decide +kernel) ⟨(Nat.le_of_ble_eq_true rfl), (Nat.le_of_ble_eq_true rfl)⟩) hK [0] rfl hP hD hS hA [0, 1, 2, 3, 4, 5] [6, 7, 8] rfl rfl rfl rfl (by decide) (ci := 0) rfl rfl rfl hl.1 rfl (Nat.le_of_ble_eq_true rfl) dL_law_209 ⟨(Nat.le_of_ble_eq_true rfl), (Nat.le_of_ble_eq_true rfl)⟩ (fun H locs hP hD hS => ?_)
        have hP : va_P G vwCl (Yw d a2 (nf D) (nf e2) (nI s9) (nI r) ++ Xw d a (nf D) B (nf c9) (nf od) (nf rk) (nI s9) ln ra (nI r) w b9) H := hP
        have hD : va_D A (Yw d a2 (nf D) (nf e2) (nI s9) (nI r) ++ Xw d a (nf D) B (nf c9) (nf od) (nf rk) (nI s9) ln ra (nI r) w b9) := hD
        refine lv_aload_n hx hb dL_law_212 rfl (lv_at hl 2 rfl) ?_
        refine lv_aload_n hx hb dL_law_213 rfl (lv_at hl 0 rfl) ?_
        refine lv_iload_n hx hb dL_law_214 rfl (lv_at hl 3 rfl) ?_
        refine lv_iconst (v := nI 1) hx hb dL_law_215 (by decide) ?_
        refine ji_add hx hb dL_law_216 (v := nI (i + 1)) (nI_add i 1) ?_
        refine jl_ld hx hb hX hbl hbA hS (k := i + 1) (by omega) (by omega) (v := xs (i + 1)) rfl dL_law_217 ?_
        refine lv_aload_n hx hb dL_law_218 rfl (lv_at hl 0 rfl) ?_
        refine lv_iload_n hx hb dL_law_219 rfl (lv_at hl 3 rfl) ?_
        refine lv_iconst (v := nI 2) hx hb dL_law_220 (by decide) ?_
        refine ji_add hx hb dL_law_221 (v := nI (i + 2)) (nI_add i 2) ?_
        refine jl_ld hx hb hX hbl hbA hS (k := i + 2) (by omega) (by omega) (v := xs (i + 2)) rfl dL_law_222 ?_
        refine kc_Vi (wr := Xw d a (nf D) B (nf c9) (nf od) (nf rk) (nI s9) ln ra (nI r) w b9) (w1 := Yw d a2 (nf D) (nf e2) (nI s9) (nI r)) (rest := [.int (-1)]) ⟨hx, hb, hml, hown, hts⟩ (mX1_pixel0 l G d a2 (nf D) (nf e2) (nI s9) (nI r) (xs (i + 1)) (xs (i + 2)) hip) (cwV 2 hts (lw_V q178 q179 q180 q12 q181) rfl rfl rfl (by decide +kernel) ⟨(Nat.le_of_ble_eq_true rfl), (Nat.le_of_ble_eq_true rfl)⟩) hK [0] rfl hP hD hS hA [0, 1, 2] [3, 4, 5, 6, 7, 8] rfl rfl rfl rfl (by decide) (ci := 1) rfl rfl rfl hl.1 rfl (Nat.le_of_ble_eq_true rfl) dL_law_223 ⟨(Nat.le_of_ble_eq_true rfl), (Nat.le_of_ble_eq_true rfl)⟩ (fun H locs hP hD hS => ?_)
        have hP : va_P G vwCl (Xw d a (nf D) B (nf c9) (nf od) (nf rk) (nI s9) ln ra (nI r) w b9 ++ Yw d a2 (nf D) (nf e2) (nI s9) (nI r)) H := hP
        have hD : va_D A (Xw d a (nf D) B (nf c9) (nf od) (nf rk) (nI s9) ln ra (nI r) w b9 ++ Yw d a2 (nf D) (nf e2) (nI s9) (nI r)) := hD
        refine lv_icmp_eq (tgt := 310) hx hb dL_law_226 (by decide) (fun c_7 => ?_) (fun c_7 => ?_)
        · refine lv_iinc (v := nI (i + 4)) (lv' := [(3, .int (nI (i + 4))), (0, .ref b), (1, .ref (a 0)), (2, .ref (a2 0))]) hx hb dL_law_310 hl (k := 3) rfl (nI_add i 4) (by decide) rfl (fun ls hl => ?_)
          refine lv_goto (tgt := 18) hx hb dL_law_313 (by decide) ?_
          exact ih (n - 4) (by omega) _ _ _ ⟨i + 4, D, e9, e2, c9, B, s9, r, ln, ra, w, b9, by omega, hLI, hP, hD, hS, lv_sub hl [1, 2, 3, 0] rfl⟩
        · exact absurd rfl c_7
    · refine lv_tableIn (tgt := 231) (off := 199) hx hb dL_law_32 (by decide) (by decide) (by decide) (by decide) ?_
      by_cases hip : ip (xs (i + 1)) (xs (i + 2))
      · obtain ⟨x, y, hx9, hy9, ex, ey⟩ := ip_of hip
        refine lv_aload_n hx hb dL_law_231 rfl (lv_at hl 1 rfl) ?_
        refine lv_aload_n hx hb dL_law_232 rfl (lv_at hl 0 rfl) ?_
        refine lv_iload_n hx hb dL_law_233 rfl (lv_at hl 3 rfl) ?_
        refine lv_iconst (v := nI 1) hx hb dL_law_234 (by decide) ?_
        refine ji_add hx hb dL_law_235 (v := nI (i + 1)) (nI_add i 1) ?_
        refine jl_ld hx hb hX hbl hbA hS (k := i + 1) (by omega) (by omega) (v := nI x) ex dL_law_236 ?_
        refine lv_aload_n hx hb dL_law_237 rfl (lv_at hl 0 rfl) ?_
        refine lv_iload_n hx hb dL_law_238 rfl (lv_at hl 3 rfl) ?_
        refine lv_iconst (v := nI 2) hx hb dL_law_239 (by decide) ?_
        refine ji_add hx hb dL_law_240 (v := nI (i + 2)) (nI_add i 2) ?_
        refine jl_ld hx hb hX hbl hbA hS (k := i + 2) (by omega) (by omega) (v := nI y) ey dL_law_241 ?_
        refine kc_Vi (wr := Yw d a2 (nf D) (nf e2) (nI s9) (nI r)) (w1 := Xw d a (nf D) B (nf c9) (nf od) (nf rk) (nI s9) ln ra (nI r) w b9) (rest := []) ⟨hx, hb, hml, hown, hts⟩ (mX0_rank1 l G d a (nf D) B (nf c9) (nI s9) ln ra (nI r) w b9 x y hx9 hy9) (cwV 2 hts (lw_V q128 q129 q130 q11 q131) rfl rfl rfl (by decide +kernel) ⟨(Nat.le_of_ble_eq_true rfl), (Nat.le_of_ble_eq_true rfl)⟩) hK [0] rfl hP hD hS hA [0, 1, 2, 3, 4, 5] [6, 7, 8] rfl rfl rfl rfl (by decide) (ci := 0) rfl rfl rfl hl.1 rfl (Nat.le_of_ble_eq_true rfl) dL_law_242 ⟨(Nat.le_of_ble_eq_true rfl), (Nat.le_of_ble_eq_true rfl)⟩ (fun H locs hP hD hS => ?_)
        have hP : va_P G vwCl (Yw d a2 (nf D) (nf e2) (nI s9) (nI r) ++ Xw d a (nf D) B (nf c9) (nf od) (nf rk) (nI s9) ln ra (nI r) w b9) H := hP
        have hD : va_D A (Yw d a2 (nf D) (nf e2) (nI s9) (nI r) ++ Xw d a (nf D) B (nf c9) (nf od) (nf rk) (nI s9) ln ra (nI r) w b9) := hD
        refine lv_aload_n hx hb dL_law_245 rfl (lv_at hl 2 rfl) ?_
        refine lv_aload_n hx hb dL_law_246 rfl (lv_at hl 0 rfl) ?_
        refine lv_iload_n hx hb dL_law_247 rfl (lv_at hl 3 rfl) ?_
        refine lv_iconst (v := nI 1) hx hb dL_law_248 (by decide) ?_
        refine ji_add hx hb dL_law_249 (v := nI (i + 1)) (nI_add i 1) ?_
        refine jl_ld hx hb hX hbl hbA hS (k := i + 1) (by omega) (by omega) (v := nI x) ex dL_law_250 ?_
        refine lv_aload_n hx hb dL_law_251 rfl (lv_at hl 0 rfl) ?_
        refine lv_iload_n hx hb dL_law_252 rfl (lv_at hl 3 rfl) ?_
        refine lv_iconst (v := nI 2) hx hb dL_law_253 (by decide) ?_
        refine ji_add hx hb dL_law_254 (v := nI (i + 2)) (nI_add i 2) ?_
        refine jl_ld hx hb hX hbl hbA hS (k := i + 2) (by omega) (by omega) (v := nI y) ey dL_law_255 ?_
        refine kc_Vi (wr := Xw d a (nf D) B (nf c9) (nf od) (nf rk) (nI s9) ln ra (nI r) w b9) (w1 := Yw d a2 (nf D) (nf e2) (nI s9) (nI r)) (rest := [.int (nI (rk (9 * y + x)))]) ⟨hx, hb, hml, hown, hts⟩ (mX1_rank1 l G d a2 (nf D) (nf e2) (nI s9) (nI r) x y hx9 hy9) (cwV 2 hts (lw_V q188 q189 q190 q12 q191) rfl rfl rfl (by decide +kernel) ⟨(Nat.le_of_ble_eq_true rfl), (Nat.le_of_ble_eq_true rfl)⟩) hK [0] rfl hP hD hS hA [0, 1, 2] [3, 4, 5, 6, 7, 8] rfl rfl rfl rfl (by decide) (ci := 1) rfl rfl rfl hl.1 rfl (Nat.le_of_ble_eq_true rfl) dL_law_256 ⟨(Nat.le_of_ble_eq_true rfl), (Nat.le_of_ble_eq_true rfl)⟩ (fun H locs hP hD hS => ?_)
        have hP : va_P G vwCl (Xw d a (nf D) B (nf c9) (nf od) (nf rk) (nI s9) ln ra (nI r) w b9 ++ Yw d a2 (nf D) (nf e2) (nI s9) (nI r)) H := hP
        have hD : va_D A (Xw d a (nf D) B (nf c9) (nf od) (nf rk) (nI s9) ln ra (nI r) w b9 ++ Yw d a2 (nf D) (nf e2) (nI s9) (nI r)) := hD
        refine lv_icmp_eq (tgt := 310) hx hb dL_law_259 (by decide) (fun c_8 => ?_) (fun c_8 => ?_)
        · refine lv_iinc (v := nI (i + 4)) (lv' := [(3, .int (nI (i + 4))), (0, .ref b), (1, .ref (a 0)), (2, .ref (a2 0))]) hx hb dL_law_310 hl (k := 3) rfl (nI_add i 4) (by decide) rfl (fun ls hl => ?_)
          refine lv_goto (tgt := 18) hx hb dL_law_313 (by decide) ?_
          exact ih (n - 4) (by omega) _ _ _ ⟨i + 4, D, e9, e2, c9, B, s9, r, ln, ra, w, b9, by omega, hLI, hP, hD, hS, lv_sub hl [1, 2, 3, 0] rfl⟩
        · exact absurd rfl c_8
      · refine lv_aload_n hx hb dL_law_231 rfl (lv_at hl 1 rfl) ?_
        refine lv_aload_n hx hb dL_law_232 rfl (lv_at hl 0 rfl) ?_
        refine lv_iload_n hx hb dL_law_233 rfl (lv_at hl 3 rfl) ?_
        refine lv_iconst (v := nI 1) hx hb dL_law_234 (by decide) ?_
        refine ji_add hx hb dL_law_235 (v := nI (i + 1)) (nI_add i 1) ?_
        refine jl_ld hx hb hX hbl hbA hS (k := i + 1) (by omega) (by omega) (v := xs (i + 1)) rfl dL_law_236 ?_
        refine lv_aload_n hx hb dL_law_237 rfl (lv_at hl 0 rfl) ?_
        refine lv_iload_n hx hb dL_law_238 rfl (lv_at hl 3 rfl) ?_
        refine lv_iconst (v := nI 2) hx hb dL_law_239 (by decide) ?_
        refine ji_add hx hb dL_law_240 (v := nI (i + 2)) (nI_add i 2) ?_
        refine jl_ld hx hb hX hbl hbA hS (k := i + 2) (by omega) (by omega) (v := xs (i + 2)) rfl dL_law_241 ?_
        refine kc_Vi (wr := Yw d a2 (nf D) (nf e2) (nI s9) (nI r)) (w1 := Xw d a (nf D) B (nf c9) (nf od) (nf rk) (nI s9) ln ra (nI r) w b9) (rest := []) ⟨hx, hb, hml, hown, hts⟩ (mX0_rank0 l G d a (nf D) B (nf c9) (nI s9) ln ra (nI r) w b9 (xs (i + 1)) (xs (i + 2)) hip) (cwV 2 hts (lw_V q128 q129 q130 q11 q131) rfl rfl rfl (by decide +kernel) ⟨(Nat.le_of_ble_eq_true rfl), (Nat.le_of_ble_eq_true rfl)⟩) hK [0] rfl hP hD hS hA [0, 1, 2, 3, 4, 5] [6, 7, 8] rfl rfl rfl rfl (by decide) (ci := 0) rfl rfl rfl hl.1 rfl (Nat.le_of_ble_eq_true rfl) dL_law_242 ⟨(Nat.le_of_ble_eq_true rfl), (Nat.le_of_ble_eq_true rfl)⟩ (fun H locs hP hD hS => ?_)
        have hP : va_P G vwCl (Yw d a2 (nf D) (nf e2) (nI s9) (nI r) ++ Xw d a (nf D) B (nf c9) (nf od) (nf rk) (nI s9) ln ra (nI r) w b9) H := hP
        have hD : va_D A (Yw d a2 (nf D) (nf e2) (nI s9) (nI r) ++ Xw d a (nf D) B (nf c9) (nf od) (nf rk) (nI s9) ln ra (nI r) w b9) := hD
        refine lv_aload_n hx hb dL_law_245 rfl (lv_at hl 2 rfl) ?_
        refine lv_aload_n hx hb dL_law_246 rfl (lv_at hl 0 rfl) ?_
        refine lv_iload_n hx hb dL_law_247 rfl (lv_at hl 3 rfl) ?_
        refine lv_iconst (v := nI 1) hx hb dL_law_248 (by decide) ?_
        refine ji_add hx hb dL_law_249 (v := nI (i + 1)) (nI_add i 1) ?_
        refine jl_ld hx hb hX hbl hbA hS (k := i + 1) (by omega) (by omega) (v := xs (i + 1)) rfl dL_law_250 ?_
        refine lv_aload_n hx hb dL_law_251 rfl (lv_at hl 0 rfl) ?_
        refine lv_iload_n hx hb dL_law_252 rfl (lv_at hl 3 rfl) ?_
        refine lv_iconst (v := nI 2) hx hb dL_law_253 (by decide) ?_
        refine ji_add hx hb dL_law_254 (v := nI (i + 2)) (nI_add i 2) ?_
        refine jl_ld hx hb hX hbl hbA hS (k := i + 2) (by omega) (by omega) (v := xs (i + 2)) rfl dL_law_255 ?_
        refine kc_Vi (wr := Xw d a (nf D) B (nf c9) (nf od) (nf rk) (nI s9) ln ra (nI r) w b9) (w1 := Yw d a2 (nf D) (nf e2) (nI s9) (nI r)) (rest := [.int (-1)]) ⟨hx, hb, hml, hown, hts⟩ (mX1_rank0 l G d a2 (nf D) (nf e2) (nI s9) (nI r) (xs (i + 1)) (xs (i + 2)) hip) (cwV 2 hts (lw_V q188 q189 q190 q12 q191) rfl rfl rfl (by decide +kernel) ⟨(Nat.le_of_ble_eq_true rfl), (Nat.le_of_ble_eq_true rfl)⟩) hK [0] rfl hP hD hS hA [0, 1, 2] [3, 4, 5, 6, 7, 8] rfl rfl rfl rfl (by decide) (ci := 1) rfl rfl rfl hl.1 rfl (Nat.le_of_ble_eq_true rfl) dL_law_256 ⟨(Nat.le_of_ble_eq_true rfl), (Nat.le_of_ble_eq_true rfl)⟩ (fun H locs hP hD hS => ?_)
        have hP : va_P G vwCl (Xw d a (nf D) B (nf c9) (nf od) (nf rk) (nI s9) ln ra (nI r) w b9 ++ Yw d a2 (nf D) (nf e2) (nI s9) (nI r)) H := hP
        have hD : va_D A (Xw d a (nf D) B (nf c9) (nf od) (nf rk) (nI s9) ln ra (nI r) w b9 ++ Yw d a2 (nf D) (nf e2) (nI s9) (nI r)) := hD
        refine lv_icmp_eq (tgt := 310) hx hb dL_law_259 (by decide) (fun c_9 => ?_) (fun c_9 => ?_)
        · refine lv_iinc (v := nI (i + 4)) (lv' := [(3, .int (nI (i + 4))), (0, .ref b), (1, .ref (a 0)), (2, .ref (a2 0))]) hx hb dL_law_310 hl (k := 3) rfl (nI_add i 4) (by decide) rfl (fun ls hl => ?_)
          refine lv_goto (tgt := 18) hx hb dL_law_313 (by decide) ?_
          exact ih (n - 4) (by omega) _ _ _ ⟨i + 4, D, e9, e2, c9, B, s9, r, ln, ra, w, b9, by omega, hLI, hP, hD, hS, lv_sub hl [1, 2, 3, 0] rfl⟩
        · exact absurd rfl c_9
    · refine lv_tableIn (tgt := 264) (off := 232) hx hb dL_law_32 (by decide) (by decide) (by decide) (by decide) ?_
      refine lv_aload_n hx hb dL_law_264 rfl (lv_at hl 1 rfl) ?_
      refine lv_aload_n hx hb dL_law_265 rfl (lv_at hl 0 rfl) ?_
      refine lv_iload_n hx hb dL_law_266 rfl (lv_at hl 3 rfl) ?_
      refine lv_iconst (v := nI 1) hx hb dL_law_267 (by decide) ?_
      refine ji_add hx hb dL_law_268 (v := nI (i + 1)) (nI_add i 1) ?_
      refine jl_ld hx hb hX hbl hbA hS (k := i + 1) (by omega) (by omega) (v := xs (i + 1)) rfl dL_law_269 ?_
      refine lv_aload_n hx hb dL_law_270 rfl (lv_at hl 0 rfl) ?_
      refine lv_iload_n hx hb dL_law_271 rfl (lv_at hl 3 rfl) ?_
      refine lv_iconst (v := nI 2) hx hb dL_law_272 (by decide) ?_
      refine ji_add hx hb dL_law_273 (v := nI (i + 2)) (nI_add i 2) ?_
      refine jl_ld hx hb hX hbl hbA hS (k := i + 2) (by omega) (by omega) (v := xs (i + 2)) rfl dL_law_274 ?_
      refine kc_Vi (wr := Yw d a2 (nf D) (nf e2) (nI s9) (nI r)) (w1 := Xw d a (nf D) B (nf c9) (nf od) (nf rk) (nI s9) ln ra (nI r) w b9) (rest := []) ⟨hx, hb, hml, hown, hts⟩ (mX0_count l G d a c9 (nf D) B ln ra w b9 (xs (i + 1)) (xs (i + 2)) s9 r hs9 hr9) (cwV 2 hts (lw_V q132 q133 q134 q11 q135) rfl rfl rfl (by decide +kernel) ⟨(Nat.le_of_ble_eq_true rfl), (Nat.le_of_ble_eq_true rfl)⟩) hK [0] rfl hP hD hS hA [0, 1, 2, 3, 4, 5] [6, 7, 8] rfl rfl rfl rfl (by decide) (ci := 0) rfl rfl rfl hl.1 rfl (Nat.le_of_ble_eq_true rfl) dL_law_275 ⟨(Nat.le_of_ble_eq_true rfl), (Nat.le_of_ble_eq_true rfl)⟩ (fun H locs hP hD hS => ?_)
      have hP : va_P G vwCl (Yw d a2 (nf D) (nf e2) (nI s9) (nI r) ++ Xw d a (nf D) B (nf c9) (nf od) (nf rk) (nI s9) ln ra (nI r) w b9) H := hP
      have hD : va_D A (Yw d a2 (nf D) (nf e2) (nI s9) (nI r) ++ Xw d a (nf D) B (nf c9) (nf od) (nf rk) (nI s9) ln ra (nI r) w b9) := hD
      refine lv_aload_n hx hb dL_law_278 rfl (lv_at hl 2 rfl) ?_
      refine lv_aload_n hx hb dL_law_279 rfl (lv_at hl 0 rfl) ?_
      refine lv_iload_n hx hb dL_law_280 rfl (lv_at hl 3 rfl) ?_
      refine lv_iconst (v := nI 1) hx hb dL_law_281 (by decide) ?_
      refine ji_add hx hb dL_law_282 (v := nI (i + 1)) (nI_add i 1) ?_
      refine jl_ld hx hb hX hbl hbA hS (k := i + 1) (by omega) (by omega) (v := xs (i + 1)) rfl dL_law_283 ?_
      refine lv_aload_n hx hb dL_law_284 rfl (lv_at hl 0 rfl) ?_
      refine lv_iload_n hx hb dL_law_285 rfl (lv_at hl 3 rfl) ?_
      refine lv_iconst (v := nI 2) hx hb dL_law_286 (by decide) ?_
      refine ji_add hx hb dL_law_287 (v := nI (i + 2)) (nI_add i 2) ?_
      refine jl_ld hx hb hX hbl hbA hS (k := i + 2) (by omega) (by omega) (v := xs (i + 2)) rfl dL_law_288 ?_
      refine kc_Vi (wr := Xw d a (nf D) B (nf c9) (nf od) (nf rk) (nI s9) ln ra (nI r) w b9) (w1 := Yw d a2 (nf D) (nf e2) (nI s9) (nI r)) (rest := [.int (nI (sm (ctX s9 r (xs (i + 1)) (xs (i + 2)) c9) 81))]) ⟨hx, hb, hml, hown, hts⟩ (mX1_count l G d a2 e2 (nf D) (nI s9) (xs (i + 1)) (xs (i + 2)) r hr9) (cwV 2 hts (lw_V q192 q193 q194 q12 q195) rfl rfl rfl (by decide +kernel) ⟨(Nat.le_of_ble_eq_true rfl), (Nat.le_of_ble_eq_true rfl)⟩) hK [0] rfl hP hD hS hA [0, 1, 2] [3, 4, 5, 6, 7, 8] rfl rfl rfl rfl (by decide) (ci := 1) rfl rfl rfl hl.1 rfl (Nat.le_of_ble_eq_true rfl) dL_law_289 ⟨(Nat.le_of_ble_eq_true rfl), (Nat.le_of_ble_eq_true rfl)⟩ (fun H locs hP hD hS => ?_)
      have hP : va_P G vwCl (Xw d a (nf D) B (nf c9) (nf od) (nf rk) (nI s9) ln ra (nI r) w b9 ++ Yw d a2 (nf D) (nf e2) (nI s9) (nI r)) H := hP
      have hD : va_D A (Xw d a (nf D) B (nf c9) (nf od) (nf rk) (nI s9) ln ra (nI r) w b9 ++ Yw d a2 (nf D) (nf e2) (nI s9) (nI r)) := hD
      refine lv_icmp_eq (tgt := 310) hx hb dL_law_292 (by decide) (fun c_10 => ?_) (fun c_10 => ?_)
      · refine lv_iinc (v := nI (i + 4)) (lv' := [(3, .int (nI (i + 4))), (0, .ref b), (1, .ref (a 0)), (2, .ref (a2 0))]) hx hb dL_law_310 hl (k := 3) rfl (nI_add i 4) (by decide) rfl (fun ls hl => ?_)
        refine lv_goto (tgt := 18) hx hb dL_law_313 (by decide) ?_
        exact ih (n - 4) (by omega) _ _ _ ⟨i + 4, D, e9, e2, c9, B, s9, r, ln, ra, w, b9, by omega, hLI, hP, hD, hS, lv_sub hl [1, 2, 3, 0] rfl⟩
      · exact absurd (congrArg nI (ct_same hsr hr9 hcM)) c_10
    · refine lv_tableIn (tgt := 297) (off := 265) hx hb dL_law_32 (by decide) (by decide) (by decide) (by decide) ?_
      refine lv_aload_n hx hb dL_law_297 rfl (lv_at hl 1 rfl) ?_
      refine kc_Vi (wr := Yw d a2 (nf D) (nf e2) (nI s9) (nI r)) (w1 := Xw d a (nf D) B (nf c9) (nf od) (nf rk) (nI s9) ln ra (nI r) w b9) (rest := []) ⟨hx, hb, hml, hown, hts⟩ (mX0_sum l G d a c9 (nf D) B ln ra w b9 s9 r hs9 hr9) (cwV 0 hts (lw_V q136 q137 q138 q11 q139) rfl rfl rfl (by decide +kernel) ⟨(Nat.le_of_ble_eq_true rfl), (Nat.le_of_ble_eq_true rfl)⟩) hK [0] rfl hP hD hS hA [0, 1, 2, 3, 4, 5] [6, 7, 8] rfl rfl rfl rfl (by decide) (ci := 0) rfl rfl rfl hl.1 rfl (Nat.le_of_ble_eq_true rfl) dL_law_298 ⟨(Nat.le_of_ble_eq_true rfl), (Nat.le_of_ble_eq_true rfl)⟩ (fun H locs hP hD hS => ?_)
      have hP : va_P G vwCl (Yw d a2 (nf D) (nf e2) (nI s9) (nI r) ++ Xw d a (nf D) B (nf c9) (nf od) (nf rk) (nI s9) ln ra (nI r) w b9) H := hP
      have hD : va_D A (Yw d a2 (nf D) (nf e2) (nI s9) (nI r) ++ Xw d a (nf D) B (nf c9) (nf od) (nf rk) (nI s9) ln ra (nI r) w b9) := hD
      refine lv_aload_n hx hb dL_law_301 rfl (lv_at hl 2 rfl) ?_
      refine kc_Vi (wr := Xw d a (nf D) B (nf c9) (nf od) (nf rk) (nI s9) ln ra (nI r) w b9) (w1 := Yw d a2 (nf D) (nf e2) (nI s9) (nI r)) (rest := [.int (nI (sm (suX s9 r c9) 81))]) ⟨hx, hb, hml, hown, hts⟩ (mX1_sum l G d a2 e2 (nf D) (nI s9) r hr9) (cwV 0 hts (lw_V q196 q197 q198 q12 q199) rfl rfl rfl (by decide +kernel) ⟨(Nat.le_of_ble_eq_true rfl), (Nat.le_of_ble_eq_true rfl)⟩) hK [0] rfl hP hD hS hA [0, 1, 2] [3, 4, 5, 6, 7, 8] rfl rfl rfl rfl (by decide) (ci := 1) rfl rfl rfl hl.1 rfl (Nat.le_of_ble_eq_true rfl) dL_law_302 ⟨(Nat.le_of_ble_eq_true rfl), (Nat.le_of_ble_eq_true rfl)⟩ (fun H locs hP hD hS => ?_)
      have hP : va_P G vwCl (Xw d a (nf D) B (nf c9) (nf od) (nf rk) (nI s9) ln ra (nI r) w b9 ++ Yw d a2 (nf D) (nf e2) (nI s9) (nI r)) H := hP
      have hD : va_D A (Xw d a (nf D) B (nf c9) (nf od) (nf rk) (nI s9) ln ra (nI r) w b9 ++ Yw d a2 (nf D) (nf e2) (nI s9) (nI r)) := hD
      refine lv_icmp_eq (tgt := 310) hx hb dL_law_305 (by decide) (fun c_11 => ?_) (fun c_11 => ?_)
      · refine lv_iinc (v := nI (i + 4)) (lv' := [(3, .int (nI (i + 4))), (0, .ref b), (1, .ref (a 0)), (2, .ref (a2 0))]) hx hb dL_law_310 hl (k := 3) rfl (nI_add i 4) (by decide) rfl (fun ls hl => ?_)
        refine lv_goto (tgt := 18) hx hb dL_law_313 (by decide) ?_
        exact ih (n - 4) (by omega) _ _ _ ⟨i + 4, D, e9, e2, c9, B, s9, r, ln, ra, w, b9, by omega, hLI, hP, hD, hS, lv_sub hl [1, 2, 3, 0] rfl⟩
      · exact absurd (congrArg nI (su_same hsr hr9 hcM)) c_11
end
section
set_option maxHeartbeats 4000000 in
set_option maxRecDepth 100000 in
/-- from the entry, for every script of at most 256 ints, the law comes to its end with true -/
theorem whole_start {p : Program} {e : Env} {s : State} {m : MethodId} {below : List Frame} {meth : Method} {c : Code} (l : Launch) {b L : Nat} {xs : Nat → Int32} (hL : L ≤ 256) (C0 : lw_At p s m meth c b L xs) : W p l e room_1 s m #[Value.ref b] below meth c s.heap [] 0 0 (lw_Z below #[Value.ref b] s) (entryFrame m ([Value.ref b] : List Value).toArray 4) := by
  obtain ⟨hx, hb, hr, hml, hown, hts0, hX, hbl, hlocks, hgv⟩ := id C0
  have hts : ∀ w ∈ lw_all, w.before #[Value.ref b] s = true := fun w h => hts0 w (lw_all_tbl h)
  obtain ⟨A, hA, hA2⟩ : ∃ A : Nat → Prop, (∀ q : Nat, s.heap.size ≤ q → A q) ∧ ∀ q : Nat, A q → s.heap.size ≤ q := ⟨fun q => s.heap.size ≤ q, fun _ h => h, fun _ h => h⟩
  obtain ⟨c0, iS0, hKn0⟩ := u_known (C := RX0) (T := TX0) (N := 11) (n := 11) hts0 (fun w h => lw_all_tbl (in_X0 w h)) (hts _ q14)
  obtain ⟨c1, iS1, hKn1⟩ := u_known (C := RX1) (T := TX1) (N := 4) (n := 4) hts0 (fun w h => lw_all_tbl (in_X1 w h)) (hts _ q141)
  obtain ⟨G, hKc⟩ : ∃ G : va_G, ∀ (k : Nat) (q : vw_C), vwCl[k]? = some q → u_Kn s q.1 q.2.1 q.2.2 (G.1 k) (G.2 k) := by
    refine ⟨(fun k => if k = 0 then c0 else c1, fun k => if k = 0 then iS0 else iS1), ?_⟩
    intro k q hq
    match k, hq with
    | 0, hq => cases hq; exact hKn0
    | 1, hq => cases hq; exact hKn1
    | k + 2, hq => simp [vwCl] at hq
  have hS : va_S A s.heap s.heap [] := va_S.rf
  have hK : va_K G vwCl [] s := ⟨hKc, fun k q h => by simp at h⟩
  have hP : va_P G vwCl [] s.heap := fun k q h => by simp at h
  have hD : va_D A [] := ⟨fun i j p q h => by simp at h, fun k q h => by simp at h⟩
  have hl := lv_entry ([.ref b]) (n := 4) (Nat.le_of_ble_eq_true rfl)
  rw [lg_entry_eq]
  generalize (lg_sl ([.ref b]) ++ List.replicate (4 - (lg_sl ([.ref b])).length) Slot.unset).toArray = ls at hl ⊢
  have hl : lv_has ls 4 [(0, .ref b)] := hl
  refine va_new (D := G) (ci := 0) (fs := obX0) (C := RX0) (T := TX0) (N := 11) hx hb hts in_X0 tyX0 tyX0_ok hown (hts _ q13) (hts _ q14) (hts _ q11) hK hP hD hS hA rfl (fun j hj => by rcases (show j = 0 ∨ j = 1 ∨ j = 2 ∨ j = 3 ∨ j = 4 ∨ j = 5 ∨ j = 6 ∨ j = 7 ∨ j = 8 ∨ j = 9 ∨ j = 10 by omega) with rfl | rfl | rfl | rfl | rfl | rfl | rfl | rfl | rfl | rfl | rfl <;> rfl) (Nat.le_of_ble_eq_true rfl) (Nat.le_of_ble_eq_true rfl) dL_law_0 (fun h0 H hP hD hS => ?_)
  have hP : va_P G vwCl ([(h0, .inr (0, obX0))]) H := hP
  have hD : va_D A ([(h0, .inr (0, obX0))]) := hD
  refine W.widen (k := 1) (n := 11) (Nat.le_of_ble_eq_true rfl) (Nat.le_of_ble_eq_true rfl) ?_
  refine lv_dup hx hb dL_law_3 rfl ?_
  have hPc := hP.sub (ws' := [(h0, .inr (0, obX0))]) [0] rfl
  have hDc := hD.sub (ws' := [(h0, .inr (0, obX0))]) [0] (by decide) rfl
  have hKc2 := hK.sub (tys' := []) [] rfl
  have hFc := va_free (wc := [(h0, .inr (0, obX0))]) hD hS hA [0] rfl
  refine va_callv (va_runI (As := []) (rest := [.ref h0]) ⟨hx, hb, hml, hown, hts⟩ (mX0_init l G h0 H.size) (cwI 0 hts (lw_meth q17) rfl rfl rfl (hts _ q11) (hts _ q15) (hts _ q16) rfl (by decide +kernel) ⟨(Nat.le_of_ble_eq_true rfl), (Nat.le_of_ble_eq_true rfl)⟩) ⟨jc_blind G [] _ H.size _, fun U hU hW => ⟨rfl, by rw [hU], by rw [hU]; exact hPc, va_K.moved hW.alike hKc2, hDc.weaken (fun _ _ _ _ => trivial)⟩⟩ rfl rfl hl.1 rfl (lv_room (Nat.le_of_ble_eq_true rfl)) dL_law_4 ⟨(Nat.le_of_ble_eq_true rfl), (Nat.le_of_ble_eq_true rfl)⟩) hS (fun q _ h => hFc q h) hFc (fun u t H1 locs ht hvm hw hB hz1 hk1 hS => ?_)
  obtain ⟨a, d⟩ := u
  obtain ⟨ha0, hP1, hK1, hD1⟩ := hB
  dsimp only at ha0 hP1 hK1 hD1
  subst ha0
  rw [ht] at hP1
  have hK1 := va_K.moved hvm.symm hK1
  obtain ⟨hP, hD⟩ := va_join (wr := []) (w1 := X9 d a) hP hD [0] [] rfl rfl (by decide) (by decide) hk1 hFc hP1 hD1
  have hK : va_K G vwCl [(d, .int)] s := hK1
  generalize H1 = H at hP hS ⊢
  have hP : va_P G vwCl (X9 d a) H := hP
  have hD : va_D A (X9 d a) := hD
  refine W.widen (k := 6) (n := 383) (Nat.le_of_ble_eq_true rfl) (Nat.le_of_ble_eq_true rfl) ?_
  refine lv_astore_n (lv' := [(1, .ref (a 0)), (0, .ref b)]) hx hb dL_law_7 rfl hl (by decide) rfl (fun ls hl => ?_)
  refine va_new (D := G) (ci := 1) (fs := obY0) (C := RX1) (T := TX1) (N := 4) hx hb hts in_X1 tyX1 tyX1_ok hown (hts _ q140) (hts _ q141) (hts _ q12) hK hP hD hS hA rfl (fun j hj => by rcases (show j = 0 ∨ j = 1 ∨ j = 2 ∨ j = 3 by omega) with rfl | rfl | rfl | rfl <;> rfl) (Nat.le_of_ble_eq_true rfl) (Nat.le_of_ble_eq_true rfl) dL_law_8 (fun h1 H hP hD hS => ?_)
  have hP : va_P G vwCl (X9 d a ++ [(h1, .inr (1, obY0))]) H := hP
  have hD : va_D A (X9 d a ++ [(h1, .inr (1, obY0))]) := hD
  refine W.widen (k := 7) (n := 387) (Nat.le_of_ble_eq_true rfl) (Nat.le_of_ble_eq_true rfl) ?_
  refine lv_dup hx hb dL_law_11 rfl ?_
  have hPc := hP.sub (ws' := [(h1, .inr (1, obY0))]) [6] rfl
  have hDc := hD.sub (ws' := [(h1, .inr (1, obY0))]) [6] (by decide) rfl
  have hKc2 := hK.sub (tys' := []) [] rfl
  have hFc := va_free (wc := [(h1, .inr (1, obY0))]) hD hS hA [6] rfl
  refine va_callv (va_runI (As := []) (rest := [.ref h1]) ⟨hx, hb, hml, hown, hts⟩ (mX1_init l G h1 H.size) (cwI 0 hts (lw_meth q144) rfl rfl rfl (hts _ q12) (hts _ q142) (hts _ q143) rfl (by decide +kernel) ⟨(Nat.le_of_ble_eq_true rfl), (Nat.le_of_ble_eq_true rfl)⟩) ⟨jc_blind G [] _ H.size _, fun U hU hW => ⟨rfl, by rw [hU], by rw [hU]; exact hPc, va_K.moved hW.alike hKc2, hDc.weaken (fun _ _ _ _ => trivial)⟩⟩ rfl rfl hl.1 rfl (lv_room (Nat.le_of_ble_eq_true rfl)) dL_law_12 ⟨(Nat.le_of_ble_eq_true rfl), (Nat.le_of_ble_eq_true rfl)⟩) hS (fun q _ h => hFc q h) hFc (fun u t H1 locs ht hvm hw hB hz1 hk1 hS => ?_)
  obtain ⟨a2, d2⟩ := u
  obtain ⟨ha1, hP1, hK1, hD1⟩ := hB
  dsimp only at ha1 hP1 hK1 hD1
  subst ha1
  rw [ht] at hP1
  have hK1 := va_K.moved hvm.symm hK1
  obtain ⟨hP, hD⟩ := va_join (wr := X9 d a) (w1 := Y9 d2 a2) hP hD [6] [0, 1, 2, 3, 4, 5] rfl rfl (by decide) (by decide) hk1 hFc hP1 hD1
  have hK2 : va_K G vwCl [(d, .int), (d2, .int)] s := hK.app hK1
  have hdd : d = d2 := (ja_dd hK2 0 1 rfl rfl).symm
  subst hdd
  generalize H1 = H at hP hS ⊢
  have hP : va_P G vwCl (X9 d a ++ Y9 d a2) H := hP
  have hD : va_D A (X9 d a ++ Y9 d a2) := hD
  refine W.widen (k := 9) (n := 549) (Nat.le_of_ble_eq_true rfl) (Nat.le_of_ble_eq_true rfl) ?_
  refine lv_astore_n (lv' := [(2, .ref (a2 0)), (1, .ref (a 0)), (0, .ref b)]) hx hb dL_law_15 rfl hl (by decide) rfl (fun ls hl => ?_)
  refine lv_iconst (v := nI 0) hx hb dL_law_16 (by decide) ?_
  refine lv_istore_n (lv' := [(3, .int (nI 0)), (2, .ref (a2 0)), (1, .ref (a 0)), (0, .ref b)]) hx hb dL_law_17 rfl hl (by decide) rfl (fun ls hl => ?_)
  exact law_loop l hL C0 G d a a2 A hA hA2 hK hP hD hS (lv_sub hl [3, 2, 1, 0] rfl)
set_option maxHeartbeats 4000000 in
theorem lw_walk (l : Launch) (b : Addr) (xs : List Int32) : MetFree l x (headSpec (Jvm.Cond.code x code maxLocals ret :: tables_1) room_1) (lw_P b xs) (fun _ _ _ _ _ => True) lw_Q := by
  refine MetFree.of_bodyS (code := code) (maxLocals := maxLocals) (ret := ret) (by decide) ?_ ?_
  · intro args s m h hn
    obtain ⟨meth, c, h1, h2, h3, h4, h5, h6, -, -⟩ := Cond.code_spec hn (atoms_spec (ws := Jvm.Cond.code x code maxLocals ret :: tables_1) h _ List.mem_cons_self)
    exact ⟨meth, c, h1, h2, h3, h4, h5, h6⟩
  · intro p e s m args below meth c s₁ B hml0 hP _
    obtain ⟨rfl, hx, hbd, hgv⟩ := hP
    obtain ⟨scr, harrAt, hlist, hof, hsmall⟩ := hx
    obtain ⟨hcb, hkn, -, -⟩ := State.arrayAt?_spec harrAt
    have hown : s.vm.findClass R_law = some m.cls := findClass_of_methodNamed B.named
    have hts0 : ∀ c ∈ (Jvm.Cond.code x code maxLocals ret :: tables_1), c.before #[Value.ref b] s = true := atoms_spec (ws := Jvm.Cond.code x code maxLocals ret :: tables_1) B.pre
    have hts : ∀ w ∈ lw_tbl, w.before #[Value.ref b] s = true := k2_hts_sels lw_privs (fun w hw => hts0 w (List.mem_cons_of_mem _ hw)) lw_privs_ok
    have hml : c.maxLocals = 4 := B.maxLocals_eq (hts0 _ List.mem_cons_self)
    have X₀ : Stand p l e room_1 s m #[Value.ref b] below meth c s₁ [] 0 0 := Stand.of_body B
    have hh0 : s₁.heap = s.heap := by rw [B.state]; rfl
    have hsz : scr.slots.size = xs.length := by rw [← Array.length_toList, hlist, List.length_map]
    have hval : ∀ j : Nat, j < xs.length → scr.slots[j]? = some (.int (xs.getD j 0)) := fun j hj => by
      rw [← Array.getElem?_toList, hlist]
      simp [hj]
    have hbl : b < s.heap.size := (Array.getElem?_eq_some_iff.mp hcb).1
    have hX : va_X b xs.length (fun j => xs.getD j 0) s s.heap := ⟨scr, hcb, hof, hkn, hsz, hval⟩
    have K : W p l e room_1 s m #[Value.ref b] below meth c s₁.heap [] 0 0 (lw_Z below #[Value.ref b] s) (entryFrame m ([Value.ref b] : List Value).toArray 4) := by
      rw [hh0]
      exact whole_start l hbd ⟨B.exec, B.bytes, B.returns, hml, hown, hts, hX, hbl, B.notSynchronized, hgv⟩
    obtain ⟨t, a1, o, b1, b2, b3⟩ := K s₁ rfl X₀
    exact ⟨t, o, a1, b1, b2, b3⟩
theorem lw_pre_spec {args : Array Value} {s : State} (h : (Jvm.Cond.and given_1 narrow_1).before args s = true) (hr : rest_1_c.before args s = true) : ∃ (b : Addr) (xs : List Int32), lw_P b xs args s := by
  have hs := flat_of_before _ h
  have hq := flat_of_before _ hr
  have hc : (Cond.count 1).before args s = true := hs _ (by decide +kernel)
  have harr : (Cond.arrayOf (.arg 0) .int).before args s = true := hs _ (by decide +kernel)
  have hle : (Cond.le (.length (.arg 0)) (.int 256)).before args s = true := hs _ (by decide +kernel)
  have hlen : (Cond.isInt (.length (.arg 0))).before args s = true := hq _ (by decide +kernel)
  have hall : (Cond.all (.arg 0) (.isInt (.elem (.arg 0) (.index 0)))).before args s = true := hq _ (by decide +kernel)
  obtain ⟨b, xs, hb, hx⟩ := State.ints_of_pre rfl harr hlen hall
  have hsm : xs.length < 2 ^ 31 := hx.choose_spec.2.2.2
  have hev : (Term.length (.arg 0)).eval args s none [] s = some (.int xs.length.toInt32) := hx.length_eval hb
  have hv := Cond.le_ints hev (show (Term.int 256).eval args s none [] s = some (.int 256) from rfl)
  have hd : xs.length.toInt32 ≤ 256 := by
    simpa [Cond.before, Cond.holds, hv] using hle
  have hN : xs.length ≤ 256 := (Int32.ofNat_le_ofNat hsm (by decide)).mp (show Int32.ofNat xs.length ≤ Int32.ofNat 256 from hd)
  exact ⟨b, xs, Cond.one_arg hc (show args[0]? = some (.ref b) from hb), hx, hN, h⟩
theorem lw_comes (l : Launch) : Comes l x (Jvm.Cond.code x code maxLocals ret :: tables_1) room_1 (fun tb e args s => Calls_1 tb e args s ∧ rest_1 tb e args s ∧ Pre_1 tb e args s)
    (fun _ _ args s o t => lw_Q args s o t) := by
  intro p e ha hc hk s m args below hf hfit hheap happ hpre
  obtain ⟨b, xs, hP⟩ := lw_pre_spec hpre.2.2 hpre.2.1
  obtain ⟨k, o, h1, h2, h3, hQ⟩ := lw_walk l b xs p e ha hc hk s m args below hf ((Spec.applies_iff_loose hf).mp happ).1 hP trivial
  exact ⟨k, o, h1, h2, h3, hQ⟩
theorem lw_frame {s t : State} {o : Outcome} {args : Array Value} (h : Framed s o t [] 600000 7290000) :
    Framed s o t (fieldLocs frame_1_writes args s ++ arrayLocs frame_1_arrays args s ++ staticLocs frame_1_statics s) 600000 7290000 := h
theorem lw_limb (L : Cond) (hL : ∀ (args : Array Value) (s t : State), L.after args s (.returned (some (.int 1))) t = true) :
    ArmFor flags0 classFile x code maxLocals ret World_1 tables_1 room_1 Calls_1 rest_1 Pre_1
      (fun tb e a s o t => postC L tb e a s o t ∧ Framed s o t (fieldLocs frame_1_writes a s ++ arrayLocs frame_1_arrays a s ++ staticLocs frame_1_statics s) 600000 7290000) := by
  intro l _ _ _ p e ha hc hk s m args below hf hfit hheap happ hpre
  obtain ⟨k, o, h1, h2, h3, rfl, hF⟩ := lw_comes l p e ha hc hk s m args below hf hfit hheap happ hpre
  exact ⟨k, _, h1, h2, h3, hL args s _, lw_frame hF⟩
theorem i_vc : Claimed_1_1 ∧ Claimed_1_2 := ⟨lw_limb limb_1_1 (fun args s t => by simp [limb_1_1, Cond.after, Cond.holds, Cond.value]), lw_limb limb_1_2 (fun args s t => Cond.after_iff.mpr (by
  first | (rw [show limb_1_2 = Cond.eq .result (.int 1) from rfl, Cond.eq_ints (x := 1) (y := 1) rfl rfl]; simp; done) | (simp [limb_1_2, Cond.value, Term.eval]; done)))⟩
end
