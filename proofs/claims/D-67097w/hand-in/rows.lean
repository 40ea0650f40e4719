section
-- ===== PART A: goes FIRST, ahead of the names: the tables' words, and 'selects' of the private methods out of them =====
/-- a private method of a class that the tables say can be made, by its rows of tables_1 -/
def lw_okq (q : MethodName × Nat) : Prop := (q.1.cls ≠ "java/lang/invoke/MethodHandle" ∧ q.1.cls ≠ "java/lang/invoke/VarHandle") ∧ Cond.instantiable q.1.cls q.2 ∈ tables_1 ∧ Cond.privateMethod q.1 ∈ tables_1 ∧ Cond.instanceMethod q.1 ∈ tables_1
set_option maxRecDepth 100000
theorem lw_p0 : lw_okq (⟨"TwistedBits$Ring", "mixed", "(I)I"⟩, 4) := ⟨⟨by decide +kernel, by decide +kernel⟩, List.mem_of_getElem? (i := 14) rfl, List.mem_of_getElem? (i := 38) rfl, List.mem_of_getElem? (i := 39) rfl⟩
theorem lw_p1 : lw_okq (⟨"TwistedBits$Ring", "begin", "()V"⟩, 4) := ⟨⟨by decide +kernel, by decide +kernel⟩, List.mem_of_getElem? (i := 14) rfl, List.mem_of_getElem? (i := 43) rfl, List.mem_of_getElem? (i := 44) rfl⟩
theorem lw_p2 : lw_okq (⟨"TwistedBits", "put", "(II)I"⟩, 3) := ⟨⟨by decide +kernel, by decide +kernel⟩, List.mem_of_getElem? (i := 6) rfl, List.mem_of_getElem? (i := 69) rfl, List.mem_of_getElem? (i := 70) rfl⟩
theorem lw_p3 : lw_okq (⟨"TwistedBits$Ring", "on", "(I)I"⟩, 4) := ⟨⟨by decide +kernel, by decide +kernel⟩, List.mem_of_getElem? (i := 14) rfl, List.mem_of_getElem? (i := 87) rfl, List.mem_of_getElem? (i := 88) rfl⟩
theorem lw_p4 : lw_okq (⟨"TwistedBits", "next", "()I"⟩, 3) := ⟨⟨by decide +kernel, by decide +kernel⟩, List.mem_of_getElem? (i := 6) rfl, List.mem_of_getElem? (i := 97) rfl, List.mem_of_getElem? (i := 98) rfl⟩
theorem lw_p5 : lw_okq (⟨"TwistedBitsModel", "next", "()I"⟩, 4) := ⟨⟨by decide +kernel, by decide +kernel⟩, List.mem_of_getElem? (i := 125) rfl, List.mem_of_getElem? (i := 170) rfl, List.mem_of_getElem? (i := 171) rfl⟩
def lw_privs_1 : List (MethodName × Nat) := [(⟨"TwistedBits$Ring", "mixed", "(I)I"⟩, 4), (⟨"TwistedBits$Ring", "begin", "()V"⟩, 4), (⟨"TwistedBits", "put", "(II)I"⟩, 3), (⟨"TwistedBits$Ring", "on", "(I)I"⟩, 4), (⟨"TwistedBits", "next", "()I"⟩, 3), (⟨"TwistedBitsModel", "next", "()I"⟩, 4)]
theorem lw_r1 : ∀ q ∈ lw_privs_1, lw_okq q := List.forall_mem_cons.mpr ⟨lw_p0, List.forall_mem_cons.mpr ⟨lw_p1, List.forall_mem_cons.mpr ⟨lw_p2, List.forall_mem_cons.mpr ⟨lw_p3, List.forall_mem_cons.mpr ⟨lw_p4, List.forall_mem_cons.mpr ⟨lw_p5, fun _ h => absurd h List.not_mem_nil⟩⟩⟩⟩⟩⟩
def lw_privs : List (MethodName × Nat) := lw_privs_1
def lw_tbl : List Cond := k2_sels lw_privs ++ tables_1
theorem lw_privs_ok : ∀ q ∈ lw_privs, lw_okq q := lw_r1
-- ===== ONE list of words for every method: the tables' words that hold all through a run =====
def lw_all : List Cond := lw_tbl.filter goodWord
/-- a word of the tables by its place: claim/WORDS.tsv -/
theorem lw_w {w : Cond} (i : Nat) (h : lw_tbl[i]? = some w) (g : goodWord w = true) : w ∈ lw_all := List.mem_filter.mpr ⟨List.mem_of_getElem? h, g⟩
theorem lw_all_tbl {w : Cond} (h : w ∈ lw_all) : w ∈ lw_tbl := (List.mem_filter.mp h).1
theorem lw_self : GoodIn lw_all lw_all := fun w h => ⟨h, good_of_word (List.mem_filter.mp h).2⟩
/-- a class's field words, by their places -/
theorem lw_in (ws : List Cond) (ps : List Nat) (hp : ws = ps.filterMap (fun i => lw_tbl[i]?)) (hg : ws.all goodWord = true) : ∀ w ∈ ws, w ∈ lw_all := by
  intro w h
  have h1 := List.all_eq_true.mp hg w h
  rw [hp] at h
  obtain ⟨i, -, hi⟩ := List.mem_filterMap.mp h
  exact lw_w i hi h1
/-- the words of a contract for the method y with code b, L locals, answer r -/
abbrev ws_ (y : MethodName) (b : ByteArray) (L : Nat) (r : Option FieldType) : List Cond := Cond.code y b L r :: lw_all
theorem lw_meth {y : MethodName} {b : ByteArray} {L : Nat} {r : Option FieldType} (h : Cond.code y b L r ∈ lw_all) : GoodIn lw_all (ws_ y b L r) := by
  intro w hw
  rcases List.mem_cons.mp hw with e | e
  · rw [e]
    exact lw_self _ h
  · exact lw_self _ e
theorem lw_app {a c : List Cond} (ha : ∀ w ∈ a, w ∈ lw_all) (hc : GoodIn lw_all c) : GoodIn lw_all (a ++ c) := by
  intro w hw
  rcases List.mem_append.mp hw with e | e
  · exact lw_self w (ha w e)
  · exact hc w e
/-- what a call through an object asks: cwV n hts (lw_V ..) -/
theorem lw_V {own : String} {idx : Nat} {C : String} {y : MethodName} {b : ByteArray} {L : Nat} {r : Option FieldType} (h1 : Cond.methodLink own idx y ∈ lw_all) (h2 : Cond.instanceMethod y ∈ lw_all) (h3 : Cond.selects C y y ∈ lw_all) (h4 : Cond.initialized C ∈ lw_all) (h5 : Cond.code y b L r ∈ lw_all) : GoodIn lw_all (wsV own idx C y (ws_ y b L r)) := by
  refine lw_app ?_ (lw_meth h5)
  intro w hw
  simp only [List.mem_cons, List.not_mem_nil, or_false] at hw
  rcases hw with e | e | e | e
  · rw [e]; exact h1
  · rw [e]; exact h2
  · rw [e]; exact h3
  · rw [e]; exact h4
/-- what a static call asks: va_cwS n hts (lw_S ..) -/
theorem lw_S {own : String} {idx : Nat} {y : MethodName} {b : ByteArray} {L : Nat} {r : Option FieldType} (h1 : Cond.methodLink own idx y ∈ lw_all) (h2 : Cond.static y ∈ lw_all) (h3 : Cond.initialized y.cls ∈ lw_all) (h4 : Cond.code y b L r ∈ lw_all) : GoodIn lw_all (va_wsS own idx y (ws_ y b L r)) := by
  refine lw_app ?_ (lw_meth h4)
  intro w hw
  simp only [List.mem_cons, List.not_mem_nil, or_false] at hw
  rcases hw with e | e | e
  · rw [e]; exact h1
  · rw [e]; exact h2
  · rw [e]; exact h3
/-- the words of a contract for a method WITH HANDLERS (hh: its table) -/
abbrev wsW_ (y : MethodName) (b : ByteArray) (L : Nat) (r : Option FieldType) (hh : List (Nat × Nat × Nat × Nat)) : List Cond := Cond.codeWith y b L r hh :: lw_all
theorem lw_methW {y : MethodName} {b : ByteArray} {L : Nat} {r : Option FieldType} {hh : List (Nat × Nat × Nat × Nat)} (h : Cond.codeWith y b L r hh ∈ lw_all) : GoodIn lw_all (wsW_ y b L r hh) := by
  intro w hw
  rcases List.mem_cons.mp hw with e | e
  · rw [e]
    exact lw_self _ h
  · exact lw_self _ e
/-- any list of words by their places (lw_in), good -/
theorem lw_good {ws : List Cond} (h : ∀ w ∈ ws, w ∈ lw_all) : GoodIn lw_all ws := fun w hw => lw_self w (h w hw)
/-- what a call of a method with handlers asks: vx_cwVW n hts (lw_VW ..), vx_cwSW n hts (lw_SW ..) -/
theorem lw_VW {own : String} {idx : Nat} {C : String} {y : MethodName} {b : ByteArray} {L : Nat} {r : Option FieldType} {hh : List (Nat × Nat × Nat × Nat)} (h1 : Cond.methodLink own idx y ∈ lw_all) (h2 : Cond.instanceMethod y ∈ lw_all) (h3 : Cond.selects C y y ∈ lw_all) (h4 : Cond.initialized C ∈ lw_all) (h5 : Cond.codeWith y b L r hh ∈ lw_all) : GoodIn lw_all (wsV own idx C y (wsW_ y b L r hh)) := by
  refine lw_app ?_ (lw_methW h5)
  intro w hw
  simp only [List.mem_cons, List.not_mem_nil, or_false] at hw
  rcases hw with e | e | e | e
  · rw [e]; exact h1
  · rw [e]; exact h2
  · rw [e]; exact h3
  · rw [e]; exact h4
theorem lw_SW {own : String} {idx : Nat} {y : MethodName} {b : ByteArray} {L : Nat} {r : Option FieldType} {hh : List (Nat × Nat × Nat × Nat)} (h1 : Cond.methodLink own idx y ∈ lw_all) (h2 : Cond.static y ∈ lw_all) (h3 : Cond.initialized y.cls ∈ lw_all) (h4 : Cond.codeWith y b L r hh ∈ lw_all) : GoodIn lw_all (va_wsS own idx y (wsW_ y b L r hh)) := by
  refine lw_app ?_ (lw_methW h4)
  intro w hw
  simp only [List.mem_cons, List.not_mem_nil, or_false] at hw
  rcases hw with e | e | e
  · rw [e]; exact h1
  · rw [e]; exact h2
  · rw [e]; exact h3
/-- a word by its place in its run of the tables -/
theorem lw_at {r : List Cond} (hr : ∀ w ∈ r, w ∈ lw_tbl) {w : Cond} (i : Nat) (h : r[i]? = some w) : w ∈ lw_tbl := hr w (List.mem_of_getElem? h)
theorem lw_g {w : Cond} (h : w ∈ lw_tbl) (g : goodWord w = true) : w ∈ lw_all := List.mem_filter.mpr ⟨h, g⟩
theorem lw_ms : ∀ w ∈ k2_sels lw_privs, w ∈ lw_tbl := fun w h => show w ∈ k2_sels lw_privs ++ tables_1 from List.mem_append_left _ h
theorem lw_m0 : ∀ w ∈ tables_1, w ∈ lw_tbl := fun w h => show w ∈ k2_sels lw_privs ++ tables_1 from List.mem_append_right (k2_sels lw_privs) h
theorem qs0 : (Cond.selects "TwistedBits$Ring" ⟨"TwistedBits$Ring", "mixed", "(I)I"⟩ ⟨"TwistedBits$Ring", "mixed", "(I)I"⟩) ∈ lw_all := lw_g (lw_at lw_ms 0 rfl) rfl
theorem qs1 : (Cond.selects "TwistedBits$Ring" ⟨"TwistedBits$Ring", "begin", "()V"⟩ ⟨"TwistedBits$Ring", "begin", "()V"⟩) ∈ lw_all := lw_g (lw_at lw_ms 1 rfl) rfl
theorem qs2 : (Cond.selects "TwistedBits" ⟨"TwistedBits", "put", "(II)I"⟩ ⟨"TwistedBits", "put", "(II)I"⟩) ∈ lw_all := lw_g (lw_at lw_ms 2 rfl) rfl
theorem qs3 : (Cond.selects "TwistedBits$Ring" ⟨"TwistedBits$Ring", "on", "(I)I"⟩ ⟨"TwistedBits$Ring", "on", "(I)I"⟩) ∈ lw_all := lw_g (lw_at lw_ms 3 rfl) rfl
theorem qs4 : (Cond.selects "TwistedBits" ⟨"TwistedBits", "next", "()I"⟩ ⟨"TwistedBits", "next", "()I"⟩) ∈ lw_all := lw_g (lw_at lw_ms 4 rfl) rfl
theorem qs5 : (Cond.selects "TwistedBitsModel" ⟨"TwistedBitsModel", "next", "()I"⟩ ⟨"TwistedBitsModel", "next", "()I"⟩) ∈ lw_all := lw_g (lw_at lw_ms 5 rfl) rfl
end
section
/-! java/lang/Math -/
set_option maxRecDepth 100000
def RJ0 : String := "java/lang/Math"
abbrev cJ0_max : ByteArray := prog_5_method_65_code
def yJ0_max : MethodName := ⟨RJ0, "max", "(II)I"⟩
theorem dJ0_max_0 : decode cJ0_max 0 = .ok (.iload_n 0, 1) := by decide +kernel
theorem dJ0_max_1 : decode cJ0_max 1 = .ok (.iload_n 1, 1) := by decide +kernel
theorem dJ0_max_2 : decode cJ0_max 2 = .ok (.if_icmp .lt 7, 3) := by decide +kernel
theorem dJ0_max_5 : decode cJ0_max 5 = .ok (.iload_n 0, 1) := by decide +kernel
theorem dJ0_max_6 : decode cJ0_max 6 = .ok (.goto 4, 3) := by decide +kernel
theorem dJ0_max_9 : decode cJ0_max 9 = .ok (.iload_n 1, 1) := by decide +kernel
theorem dJ0_max_10 : decode cJ0_max 10 = .ok (.ireturn, 1) := by decide +kernel
theorem q10 : (Jvm.Cond.initialized "java/lang/Math") ∈ lw_all := lw_g (lw_at lw_m0 4 rfl) rfl
theorem q89 : (Jvm.Cond.static ({ cls := "java/lang/Math", name := "max", desc := "(II)I" } : Jvm.MethodName)) ∈ lw_all := lw_g (lw_at lw_m0 83 rfl) rfl
theorem q90 : (Jvm.Cond.code ({ cls := "java/lang/Math", name := "max", desc := "(II)I" } : Jvm.MethodName) prog_5_method_65_code (2 : Nat) (Option.some Jvm.ClassFile.FieldType.int)) ∈ lw_all := lw_g (lw_at lw_m0 84 rfl) rfl
/-! java/lang/Object -/
set_option maxRecDepth 100000
def RJ1 : String := "java/lang/Object"
abbrev cJ1_init : ByteArray := object_method_1_code
def yJ1_init : MethodName := ⟨RJ1, "<init>", "()V"⟩
theorem dJ1_init_0 : decode cJ1_init 0 = .ok (.return_, 1) := by decide +kernel
theorem q17 : (Jvm.Cond.instanceMethod ({ cls := "java/lang/Object", name := "<init>", desc := "()V" } : Jvm.MethodName)) ∈ lw_all := lw_g (lw_at lw_m0 11 rfl) rfl
theorem q18 : (Jvm.Cond.code ({ cls := "java/lang/Object", name := "<init>", desc := "()V" } : Jvm.MethodName) object_method_1_code (1 : Nat) (Option.none : Option Jvm.ClassFile.FieldType)) ∈ lw_all := lw_g (lw_at lw_m0 12 rfl) rfl
theorem q38 : (Jvm.Cond.arrayClass Jvm.ClassFile.FieldType.int) ∈ lw_all := lw_g (lw_at lw_m0 32 rfl) rfl
set_option maxRecDepth 100000
theorem q6 : (Jvm.Cond.initialized "TwistedBitsLaw") ∈ lw_all := lw_g (lw_at lw_m0 0 rfl) rfl
set_option maxRecDepth 100000
theorem q11 : (Jvm.Cond.classLink "TwistedBitsLaw" (7 : Nat) "TwistedBits") ∈ lw_all := lw_g (lw_at lw_m0 5 rfl) rfl
theorem q13 : (Jvm.Cond.methodLink "TwistedBitsLaw" (9 : Nat) ({ cls := "TwistedBits", name := "<init>", desc := "()V" } : Jvm.MethodName)) ∈ lw_all := lw_g (lw_at lw_m0 7 rfl) rfl
theorem q62 : (Jvm.Cond.methodLink "TwistedBitsLaw" (13 : Nat) ({ cls := "TwistedBits", name := "seed", desc := "(I)V" } : Jvm.MethodName)) ∈ lw_all := lw_g (lw_at lw_m0 56 rfl) rfl
theorem q66 : (Jvm.Cond.methodLink "TwistedBitsLaw" (18 : Nat) ({ cls := "TwistedBits", name := "width", desc := "(I)V" } : Jvm.MethodName)) ∈ lw_all := lw_g (lw_at lw_m0 60 rfl) rfl
theorem q70 : (Jvm.Cond.methodLink "TwistedBitsLaw" (22 : Nat) ({ cls := "TwistedBits", name := "key", desc := "(IIIII)V" } : Jvm.MethodName)) ∈ lw_all := lw_g (lw_at lw_m0 64 rfl) rfl
theorem q78 : (Jvm.Cond.methodLink "TwistedBitsLaw" (27 : Nat) ({ cls := "TwistedBits", name := "keyed", desc := "()V" } : Jvm.MethodName)) ∈ lw_all := lw_g (lw_at lw_m0 72 rfl) rfl
theorem q98 : (Jvm.Cond.methodLink "TwistedBitsLaw" (31 : Nat) ({ cls := "TwistedBits", name := "bits", desc := "(I)I" } : Jvm.MethodName)) ∈ lw_all := lw_g (lw_at lw_m0 92 rfl) rfl
theorem q117 : (Jvm.Cond.methodLink "TwistedBitsLaw" (36 : Nat) ({ cls := "TwistedBits", name := "wide", desc := "()J" } : Jvm.MethodName)) ∈ lw_all := lw_g (lw_at lw_m0 111 rfl) rfl
theorem q122 : (Jvm.Cond.methodLink "TwistedBitsLaw" (41 : Nat) ({ cls := "TwistedBits", name := "coin", desc := "()Z" } : Jvm.MethodName)) ∈ lw_all := lw_g (lw_at lw_m0 116 rfl) rfl
theorem q126 : (Jvm.Cond.methodLink "TwistedBitsLaw" (46 : Nat) ({ cls := "TwistedBits", name := "skip", desc := "(I)I" } : Jvm.MethodName)) ∈ lw_all := lw_g (lw_at lw_m0 120 rfl) rfl
theorem q130 : (Jvm.Cond.classLink "TwistedBitsLaw" (10 : Nat) "TwistedBitsModel") ∈ lw_all := lw_g (lw_at lw_m0 124 rfl) rfl
theorem q132 : (Jvm.Cond.methodLink "TwistedBitsLaw" (12 : Nat) ({ cls := "TwistedBitsModel", name := "<init>", desc := "()V" } : Jvm.MethodName)) ∈ lw_all := lw_g (lw_at lw_m0 126 rfl) rfl
theorem q154 : (Jvm.Cond.methodLink "TwistedBitsLaw" (17 : Nat) ({ cls := "TwistedBitsModel", name := "seed", desc := "(I)V" } : Jvm.MethodName)) ∈ lw_all := lw_g (lw_at lw_m0 148 rfl) rfl
theorem q155 : (Jvm.Cond.methodLink "TwistedBitsLaw" (21 : Nat) ({ cls := "TwistedBitsModel", name := "width", desc := "(I)V" } : Jvm.MethodName)) ∈ lw_all := lw_g (lw_at lw_m0 149 rfl) rfl
theorem q159 : (Jvm.Cond.methodLink "TwistedBitsLaw" (26 : Nat) ({ cls := "TwistedBitsModel", name := "key", desc := "(IIIII)V" } : Jvm.MethodName)) ∈ lw_all := lw_g (lw_at lw_m0 153 rfl) rfl
theorem q163 : (Jvm.Cond.methodLink "TwistedBitsLaw" (30 : Nat) ({ cls := "TwistedBitsModel", name := "keyed", desc := "()V" } : Jvm.MethodName)) ∈ lw_all := lw_g (lw_at lw_m0 157 rfl) rfl
theorem q171 : (Jvm.Cond.methodLink "TwistedBitsLaw" (35 : Nat) ({ cls := "TwistedBitsModel", name := "bits", desc := "(I)I" } : Jvm.MethodName)) ∈ lw_all := lw_g (lw_at lw_m0 165 rfl) rfl
theorem q183 : (Jvm.Cond.methodLink "TwistedBitsLaw" (40 : Nat) ({ cls := "TwistedBitsModel", name := "wide", desc := "()J" } : Jvm.MethodName)) ∈ lw_all := lw_g (lw_at lw_m0 177 rfl) rfl
theorem q188 : (Jvm.Cond.methodLink "TwistedBitsLaw" (45 : Nat) ({ cls := "TwistedBitsModel", name := "coin", desc := "()Z" } : Jvm.MethodName)) ∈ lw_all := lw_g (lw_at lw_m0 182 rfl) rfl
theorem q192 : (Jvm.Cond.methodLink "TwistedBitsLaw" (49 : Nat) ({ cls := "TwistedBitsModel", name := "skip", desc := "(I)I" } : Jvm.MethodName)) ∈ lw_all := lw_g (lw_at lw_m0 186 rfl) rfl
/-! TwistedBits$Ring -/
set_option maxRecDepth 100000
def RX1 : String := "TwistedBits$Ring"
def TX1 : u_T := fun k => match k with
  | 0 => ("TwistedBits$Ring", "row", "[I", true)
  | 1 => ("TwistedBits$Ring", "here", "I", false)
  | 2 => ("TwistedBits$Ring", "next", "I", false)
  | _ => ("TwistedBits$Ring", "far", "I", false)
def tyX1 : Nat → FieldType := fun k => match k with
  | 0 => .array .int
  | 1 => .int
  | 2 => .int
  | _ => .int
abbrev wsX10 : List Cond := u_ws RX1 TX1 4
theorem nmX1 : ∀ a, a < 4 → ∀ b, b < 4 → a ≠ b → (TX1 a).2.1 ≠ (TX1 b).2.1 := by decide +kernel
theorem tyX1_ok : ∀ k, k < 4 → parseFieldDescriptor (TX1 k).2.2.1 = some (tyX1 k) := by decide +kernel
abbrev cX1_init : ByteArray := prog_2_method_1_code
def yX1_init : MethodName := ⟨RX1, "<init>", "()V"⟩
theorem dX1_init_0 : decode cX1_init 0 = .ok (.aload_n 0, 1) := by decide +kernel
theorem dX1_init_1 : decode cX1_init 1 = .ok (.invokespecial 3, 3) := by decide +kernel
theorem dX1_init_4 : decode cX1_init 4 = .ok (.aload_n 0, 1) := by decide +kernel
theorem dX1_init_5 : decode cX1_init 5 = .ok (.sipush 624, 3) := by decide +kernel
theorem dX1_init_8 : decode cX1_init 8 = .ok (.newarray .int, 2) := by decide +kernel
theorem dX1_init_10 : decode cX1_init 10 = .ok (.putfield 9, 3) := by decide +kernel
theorem dX1_init_13 : decode cX1_init 13 = .ok (.return_, 1) := by decide +kernel
abbrev cX1_seed : ByteArray := prog_2_method_2_code
def yX1_seed : MethodName := ⟨RX1, "seed", "(I)V"⟩
theorem dX1_seed_0 : decode cX1_seed 0 = .ok (.aload_n 0, 1) := by decide +kernel
theorem dX1_seed_1 : decode cX1_seed 1 = .ok (.getfield 9, 3) := by decide +kernel
theorem dX1_seed_4 : decode cX1_seed 4 = .ok (.iconst 0, 1) := by decide +kernel
theorem dX1_seed_5 : decode cX1_seed 5 = .ok (.iload_n 1, 1) := by decide +kernel
theorem dX1_seed_6 : decode cX1_seed 6 = .ok (.iastore, 1) := by decide +kernel
theorem dX1_seed_7 : decode cX1_seed 7 = .ok (.iconst 1, 1) := by decide +kernel
theorem dX1_seed_8 : decode cX1_seed 8 = .ok (.istore_n 2, 1) := by decide +kernel
theorem dX1_seed_9 : decode cX1_seed 9 = .ok (.iload_n 2, 1) := by decide +kernel
theorem dX1_seed_10 : decode cX1_seed 10 = .ok (.sipush 624, 3) := by decide +kernel
theorem dX1_seed_13 : decode cX1_seed 13 = .ok (.if_icmp .ge 27, 3) := by decide +kernel
theorem dX1_seed_16 : decode cX1_seed 16 = .ok (.aload_n 0, 1) := by decide +kernel
theorem dX1_seed_17 : decode cX1_seed 17 = .ok (.getfield 9, 3) := by decide +kernel
theorem dX1_seed_20 : decode cX1_seed 20 = .ok (.iload_n 2, 1) := by decide +kernel
theorem dX1_seed_21 : decode cX1_seed 21 = .ok (.aload_n 0, 1) := by decide +kernel
theorem dX1_seed_22 : decode cX1_seed 22 = .ok (.iload_n 2, 1) := by decide +kernel
theorem dX1_seed_23 : decode cX1_seed 23 = .ok (.iconst 1, 1) := by decide +kernel
theorem dX1_seed_24 : decode cX1_seed 24 = .ok (.isub, 1) := by decide +kernel
theorem dX1_seed_25 : decode cX1_seed 25 = .ok (.invokevirtual 15, 3) := by decide +kernel
theorem dX1_seed_28 : decode cX1_seed 28 = .ok (.ldc 19, 2) := by decide +kernel
theorem dX1_seed_30 : decode cX1_seed 30 = .ok (.imul, 1) := by decide +kernel
theorem dX1_seed_31 : decode cX1_seed 31 = .ok (.iload_n 2, 1) := by decide +kernel
theorem dX1_seed_32 : decode cX1_seed 32 = .ok (.iadd, 1) := by decide +kernel
theorem dX1_seed_33 : decode cX1_seed 33 = .ok (.iastore, 1) := by decide +kernel
theorem dX1_seed_34 : decode cX1_seed 34 = .ok (.iinc 2 1, 3) := by decide +kernel
theorem dX1_seed_37 : decode cX1_seed 37 = .ok (.goto (-28), 3) := by decide +kernel
theorem dX1_seed_40 : decode cX1_seed 40 = .ok (.aload_n 0, 1) := by decide +kernel
theorem dX1_seed_41 : decode cX1_seed 41 = .ok (.invokevirtual 20, 3) := by decide +kernel
theorem dX1_seed_44 : decode cX1_seed 44 = .ok (.return_, 1) := by decide +kernel
abbrev cX1_mixed : ByteArray := prog_2_method_4_code
def yX1_mixed : MethodName := ⟨RX1, "mixed", "(I)I"⟩
theorem dX1_mixed_0 : decode cX1_mixed 0 = .ok (.aload_n 0, 1) := by decide +kernel
theorem dX1_mixed_1 : decode cX1_mixed 1 = .ok (.getfield 9, 3) := by decide +kernel
theorem dX1_mixed_4 : decode cX1_mixed 4 = .ok (.iload_n 1, 1) := by decide +kernel
theorem dX1_mixed_5 : decode cX1_mixed 5 = .ok (.iaload, 1) := by decide +kernel
theorem dX1_mixed_6 : decode cX1_mixed 6 = .ok (.aload_n 0, 1) := by decide +kernel
theorem dX1_mixed_7 : decode cX1_mixed 7 = .ok (.getfield 9, 3) := by decide +kernel
theorem dX1_mixed_10 : decode cX1_mixed 10 = .ok (.iload_n 1, 1) := by decide +kernel
theorem dX1_mixed_11 : decode cX1_mixed 11 = .ok (.iaload, 1) := by decide +kernel
theorem dX1_mixed_12 : decode cX1_mixed 12 = .ok (.bipush 30, 2) := by decide +kernel
theorem dX1_mixed_14 : decode cX1_mixed 14 = .ok (.iushr, 1) := by decide +kernel
theorem dX1_mixed_15 : decode cX1_mixed 15 = .ok (.ixor, 1) := by decide +kernel
theorem dX1_mixed_16 : decode cX1_mixed 16 = .ok (.ireturn, 1) := by decide +kernel
abbrev cX1_begin : ByteArray := prog_2_method_3_code
def yX1_begin : MethodName := ⟨RX1, "begin", "()V"⟩
theorem dX1_begin_0 : decode cX1_begin 0 = .ok (.aload_n 0, 1) := by decide +kernel
theorem dX1_begin_1 : decode cX1_begin 1 = .ok (.iconst 0, 1) := by decide +kernel
theorem dX1_begin_2 : decode cX1_begin 2 = .ok (.putfield 23, 3) := by decide +kernel
theorem dX1_begin_5 : decode cX1_begin 5 = .ok (.aload_n 0, 1) := by decide +kernel
theorem dX1_begin_6 : decode cX1_begin 6 = .ok (.iconst 1, 1) := by decide +kernel
theorem dX1_begin_7 : decode cX1_begin 7 = .ok (.putfield 27, 3) := by decide +kernel
theorem dX1_begin_10 : decode cX1_begin 10 = .ok (.aload_n 0, 1) := by decide +kernel
theorem dX1_begin_11 : decode cX1_begin 11 = .ok (.sipush 397, 3) := by decide +kernel
theorem dX1_begin_14 : decode cX1_begin 14 = .ok (.putfield 30, 3) := by decide +kernel
theorem dX1_begin_17 : decode cX1_begin 17 = .ok (.return_, 1) := by decide +kernel
abbrev cX1_seed_2 : ByteArray := prog_2_method_7_code
def yX1_seed_2 : MethodName := ⟨RX1, "seed", "([II)V"⟩
theorem dX1_seed_2_0 : decode cX1_seed_2 0 = .ok (.aload_n 0, 1) := by decide +kernel
theorem dX1_seed_2_1 : decode cX1_seed_2 1 = .ok (.ldc 41, 2) := by decide +kernel
theorem dX1_seed_2_3 : decode cX1_seed_2 3 = .ok (.invokevirtual 42, 3) := by decide +kernel
theorem dX1_seed_2_6 : decode cX1_seed_2 6 = .ok (.iconst 1, 1) := by decide +kernel
theorem dX1_seed_2_7 : decode cX1_seed_2 7 = .ok (.istore_n 3, 1) := by decide +kernel
theorem dX1_seed_2_8 : decode cX1_seed_2 8 = .ok (.iconst 0, 1) := by decide +kernel
theorem dX1_seed_2_9 : decode cX1_seed_2 9 = .ok (.istore 4, 2) := by decide +kernel
theorem dX1_seed_2_11 : decode cX1_seed_2 11 = .ok (.sipush 624, 3) := by decide +kernel
theorem dX1_seed_2_14 : decode cX1_seed_2 14 = .ok (.iload_n 2, 1) := by decide +kernel
theorem dX1_seed_2_15 : decode cX1_seed_2 15 = .ok (.invokestatic 46, 3) := by decide +kernel
theorem dX1_seed_2_18 : decode cX1_seed_2 18 = .ok (.istore 5, 2) := by decide +kernel
theorem dX1_seed_2_20 : decode cX1_seed_2 20 = .ok (.iload 5, 2) := by decide +kernel
theorem dX1_seed_2_22 : decode cX1_seed_2 22 = .ok (.ifCond .le 58, 3) := by decide +kernel
theorem dX1_seed_2_25 : decode cX1_seed_2 25 = .ok (.aload_n 0, 1) := by decide +kernel
theorem dX1_seed_2_26 : decode cX1_seed_2 26 = .ok (.getfield 9, 3) := by decide +kernel
theorem dX1_seed_2_29 : decode cX1_seed_2 29 = .ok (.iload_n 3, 1) := by decide +kernel
theorem dX1_seed_2_30 : decode cX1_seed_2 30 = .ok (.aload_n 0, 1) := by decide +kernel
theorem dX1_seed_2_31 : decode cX1_seed_2 31 = .ok (.getfield 9, 3) := by decide +kernel
theorem dX1_seed_2_34 : decode cX1_seed_2 34 = .ok (.iload_n 3, 1) := by decide +kernel
theorem dX1_seed_2_35 : decode cX1_seed_2 35 = .ok (.iaload, 1) := by decide +kernel
theorem dX1_seed_2_36 : decode cX1_seed_2 36 = .ok (.aload_n 0, 1) := by decide +kernel
theorem dX1_seed_2_37 : decode cX1_seed_2 37 = .ok (.iload_n 3, 1) := by decide +kernel
theorem dX1_seed_2_38 : decode cX1_seed_2 38 = .ok (.iconst 1, 1) := by decide +kernel
theorem dX1_seed_2_39 : decode cX1_seed_2 39 = .ok (.isub, 1) := by decide +kernel
theorem dX1_seed_2_40 : decode cX1_seed_2 40 = .ok (.invokevirtual 15, 3) := by decide +kernel
theorem dX1_seed_2_43 : decode cX1_seed_2 43 = .ok (.ldc 52, 2) := by decide +kernel
theorem dX1_seed_2_45 : decode cX1_seed_2 45 = .ok (.imul, 1) := by decide +kernel
theorem dX1_seed_2_46 : decode cX1_seed_2 46 = .ok (.ixor, 1) := by decide +kernel
theorem dX1_seed_2_47 : decode cX1_seed_2 47 = .ok (.aload_n 1, 1) := by decide +kernel
theorem dX1_seed_2_48 : decode cX1_seed_2 48 = .ok (.iload 4, 2) := by decide +kernel
theorem dX1_seed_2_50 : decode cX1_seed_2 50 = .ok (.iaload, 1) := by decide +kernel
theorem dX1_seed_2_51 : decode cX1_seed_2 51 = .ok (.iadd, 1) := by decide +kernel
theorem dX1_seed_2_52 : decode cX1_seed_2 52 = .ok (.iload 4, 2) := by decide +kernel
theorem dX1_seed_2_54 : decode cX1_seed_2 54 = .ok (.iadd, 1) := by decide +kernel
theorem dX1_seed_2_55 : decode cX1_seed_2 55 = .ok (.iastore, 1) := by decide +kernel
theorem dX1_seed_2_56 : decode cX1_seed_2 56 = .ok (.aload_n 0, 1) := by decide +kernel
theorem dX1_seed_2_57 : decode cX1_seed_2 57 = .ok (.iload_n 3, 1) := by decide +kernel
theorem dX1_seed_2_58 : decode cX1_seed_2 58 = .ok (.invokevirtual 53, 3) := by decide +kernel
theorem dX1_seed_2_61 : decode cX1_seed_2 61 = .ok (.istore_n 3, 1) := by decide +kernel
theorem dX1_seed_2_62 : decode cX1_seed_2 62 = .ok (.iinc 4 1, 3) := by decide +kernel
theorem dX1_seed_2_65 : decode cX1_seed_2 65 = .ok (.iload 4, 2) := by decide +kernel
theorem dX1_seed_2_67 : decode cX1_seed_2 67 = .ok (.iload_n 2, 1) := by decide +kernel
theorem dX1_seed_2_68 : decode cX1_seed_2 68 = .ok (.if_icmp .ne 6, 3) := by decide +kernel
theorem dX1_seed_2_71 : decode cX1_seed_2 71 = .ok (.iconst 0, 1) := by decide +kernel
theorem dX1_seed_2_72 : decode cX1_seed_2 72 = .ok (.istore 4, 2) := by decide +kernel
theorem dX1_seed_2_74 : decode cX1_seed_2 74 = .ok (.iinc 5 (-1), 3) := by decide +kernel
theorem dX1_seed_2_77 : decode cX1_seed_2 77 = .ok (.goto (-57), 3) := by decide +kernel
theorem dX1_seed_2_80 : decode cX1_seed_2 80 = .ok (.sipush 623, 3) := by decide +kernel
theorem dX1_seed_2_83 : decode cX1_seed_2 83 = .ok (.istore 5, 2) := by decide +kernel
theorem dX1_seed_2_85 : decode cX1_seed_2 85 = .ok (.iload 5, 2) := by decide +kernel
theorem dX1_seed_2_87 : decode cX1_seed_2 87 = .ok (.ifCond .le 40, 3) := by decide +kernel
theorem dX1_seed_2_90 : decode cX1_seed_2 90 = .ok (.aload_n 0, 1) := by decide +kernel
theorem dX1_seed_2_91 : decode cX1_seed_2 91 = .ok (.getfield 9, 3) := by decide +kernel
theorem dX1_seed_2_94 : decode cX1_seed_2 94 = .ok (.iload_n 3, 1) := by decide +kernel
theorem dX1_seed_2_95 : decode cX1_seed_2 95 = .ok (.aload_n 0, 1) := by decide +kernel
theorem dX1_seed_2_96 : decode cX1_seed_2 96 = .ok (.getfield 9, 3) := by decide +kernel
theorem dX1_seed_2_99 : decode cX1_seed_2 99 = .ok (.iload_n 3, 1) := by decide +kernel
theorem dX1_seed_2_100 : decode cX1_seed_2 100 = .ok (.iaload, 1) := by decide +kernel
theorem dX1_seed_2_101 : decode cX1_seed_2 101 = .ok (.aload_n 0, 1) := by decide +kernel
theorem dX1_seed_2_102 : decode cX1_seed_2 102 = .ok (.iload_n 3, 1) := by decide +kernel
theorem dX1_seed_2_103 : decode cX1_seed_2 103 = .ok (.iconst 1, 1) := by decide +kernel
theorem dX1_seed_2_104 : decode cX1_seed_2 104 = .ok (.isub, 1) := by decide +kernel
theorem dX1_seed_2_105 : decode cX1_seed_2 105 = .ok (.invokevirtual 15, 3) := by decide +kernel
theorem dX1_seed_2_108 : decode cX1_seed_2 108 = .ok (.ldc 56, 2) := by decide +kernel
theorem dX1_seed_2_110 : decode cX1_seed_2 110 = .ok (.imul, 1) := by decide +kernel
theorem dX1_seed_2_111 : decode cX1_seed_2 111 = .ok (.ixor, 1) := by decide +kernel
theorem dX1_seed_2_112 : decode cX1_seed_2 112 = .ok (.iload_n 3, 1) := by decide +kernel
theorem dX1_seed_2_113 : decode cX1_seed_2 113 = .ok (.isub, 1) := by decide +kernel
theorem dX1_seed_2_114 : decode cX1_seed_2 114 = .ok (.iastore, 1) := by decide +kernel
theorem dX1_seed_2_115 : decode cX1_seed_2 115 = .ok (.aload_n 0, 1) := by decide +kernel
theorem dX1_seed_2_116 : decode cX1_seed_2 116 = .ok (.iload_n 3, 1) := by decide +kernel
theorem dX1_seed_2_117 : decode cX1_seed_2 117 = .ok (.invokevirtual 53, 3) := by decide +kernel
theorem dX1_seed_2_120 : decode cX1_seed_2 120 = .ok (.istore_n 3, 1) := by decide +kernel
theorem dX1_seed_2_121 : decode cX1_seed_2 121 = .ok (.iinc 5 (-1), 3) := by decide +kernel
theorem dX1_seed_2_124 : decode cX1_seed_2 124 = .ok (.goto (-39), 3) := by decide +kernel
theorem dX1_seed_2_127 : decode cX1_seed_2 127 = .ok (.aload_n 0, 1) := by decide +kernel
theorem dX1_seed_2_128 : decode cX1_seed_2 128 = .ok (.getfield 9, 3) := by decide +kernel
theorem dX1_seed_2_131 : decode cX1_seed_2 131 = .ok (.iconst 0, 1) := by decide +kernel
theorem dX1_seed_2_132 : decode cX1_seed_2 132 = .ok (.ldc 35, 2) := by decide +kernel
theorem dX1_seed_2_134 : decode cX1_seed_2 134 = .ok (.iastore, 1) := by decide +kernel
theorem dX1_seed_2_135 : decode cX1_seed_2 135 = .ok (.aload_n 0, 1) := by decide +kernel
theorem dX1_seed_2_136 : decode cX1_seed_2 136 = .ok (.invokevirtual 20, 3) := by decide +kernel
theorem dX1_seed_2_139 : decode cX1_seed_2 139 = .ok (.return_, 1) := by decide +kernel
abbrev cX1_on : ByteArray := prog_2_method_8_code
def yX1_on : MethodName := ⟨RX1, "on", "(I)I"⟩
theorem dX1_on_0 : decode cX1_on 0 = .ok (.iload_n 1, 1) := by decide +kernel
theorem dX1_on_1 : decode cX1_on 1 = .ok (.iconst 1, 1) := by decide +kernel
theorem dX1_on_2 : decode cX1_on 2 = .ok (.iadd, 1) := by decide +kernel
theorem dX1_on_3 : decode cX1_on 3 = .ok (.sipush 624, 3) := by decide +kernel
theorem dX1_on_6 : decode cX1_on 6 = .ok (.if_icmp .ge 7, 3) := by decide +kernel
theorem dX1_on_9 : decode cX1_on 9 = .ok (.iload_n 1, 1) := by decide +kernel
theorem dX1_on_10 : decode cX1_on 10 = .ok (.iconst 1, 1) := by decide +kernel
theorem dX1_on_11 : decode cX1_on 11 = .ok (.iadd, 1) := by decide +kernel
theorem dX1_on_12 : decode cX1_on 12 = .ok (.ireturn, 1) := by decide +kernel
theorem dX1_on_13 : decode cX1_on 13 = .ok (.aload_n 0, 1) := by decide +kernel
theorem dX1_on_14 : decode cX1_on 14 = .ok (.getfield 9, 3) := by decide +kernel
theorem dX1_on_17 : decode cX1_on 17 = .ok (.iconst 0, 1) := by decide +kernel
theorem dX1_on_18 : decode cX1_on 18 = .ok (.aload_n 0, 1) := by decide +kernel
theorem dX1_on_19 : decode cX1_on 19 = .ok (.getfield 9, 3) := by decide +kernel
theorem dX1_on_22 : decode cX1_on 22 = .ok (.sipush 623, 3) := by decide +kernel
theorem dX1_on_25 : decode cX1_on 25 = .ok (.iaload, 1) := by decide +kernel
theorem dX1_on_26 : decode cX1_on 26 = .ok (.iastore, 1) := by decide +kernel
theorem dX1_on_27 : decode cX1_on 27 = .ok (.iconst 1, 1) := by decide +kernel
theorem dX1_on_28 : decode cX1_on 28 = .ok (.ireturn, 1) := by decide +kernel
abbrev cX1_turned : ByteArray := prog_2_method_6_code
def yX1_turned : MethodName := ⟨RX1, "turned", "()I"⟩
theorem dX1_turned_0 : decode cX1_turned 0 = .ok (.aload_n 0, 1) := by decide +kernel
theorem dX1_turned_1 : decode cX1_turned 1 = .ok (.getfield 9, 3) := by decide +kernel
theorem dX1_turned_4 : decode cX1_turned 4 = .ok (.aload_n 0, 1) := by decide +kernel
theorem dX1_turned_5 : decode cX1_turned 5 = .ok (.getfield 23, 3) := by decide +kernel
theorem dX1_turned_8 : decode cX1_turned 8 = .ok (.iaload, 1) := by decide +kernel
theorem dX1_turned_9 : decode cX1_turned 9 = .ok (.ldc 35, 2) := by decide +kernel
theorem dX1_turned_11 : decode cX1_turned 11 = .ok (.iand, 1) := by decide +kernel
theorem dX1_turned_12 : decode cX1_turned 12 = .ok (.aload_n 0, 1) := by decide +kernel
theorem dX1_turned_13 : decode cX1_turned 13 = .ok (.getfield 9, 3) := by decide +kernel
theorem dX1_turned_16 : decode cX1_turned 16 = .ok (.aload_n 0, 1) := by decide +kernel
theorem dX1_turned_17 : decode cX1_turned 17 = .ok (.getfield 27, 3) := by decide +kernel
theorem dX1_turned_20 : decode cX1_turned 20 = .ok (.iaload, 1) := by decide +kernel
theorem dX1_turned_21 : decode cX1_turned 21 = .ok (.ldc 36, 2) := by decide +kernel
theorem dX1_turned_23 : decode cX1_turned 23 = .ok (.iand, 1) := by decide +kernel
theorem dX1_turned_24 : decode cX1_turned 24 = .ok (.ior, 1) := by decide +kernel
theorem dX1_turned_25 : decode cX1_turned 25 = .ok (.istore_n 1, 1) := by decide +kernel
theorem dX1_turned_26 : decode cX1_turned 26 = .ok (.aload_n 0, 1) := by decide +kernel
theorem dX1_turned_27 : decode cX1_turned 27 = .ok (.getfield 9, 3) := by decide +kernel
theorem dX1_turned_30 : decode cX1_turned 30 = .ok (.aload_n 0, 1) := by decide +kernel
theorem dX1_turned_31 : decode cX1_turned 31 = .ok (.getfield 30, 3) := by decide +kernel
theorem dX1_turned_34 : decode cX1_turned 34 = .ok (.iaload, 1) := by decide +kernel
theorem dX1_turned_35 : decode cX1_turned 35 = .ok (.iload_n 1, 1) := by decide +kernel
theorem dX1_turned_36 : decode cX1_turned 36 = .ok (.iconst 1, 1) := by decide +kernel
theorem dX1_turned_37 : decode cX1_turned 37 = .ok (.iushr, 1) := by decide +kernel
theorem dX1_turned_38 : decode cX1_turned 38 = .ok (.ixor, 1) := by decide +kernel
theorem dX1_turned_39 : decode cX1_turned 39 = .ok (.iload_n 1, 1) := by decide +kernel
theorem dX1_turned_40 : decode cX1_turned 40 = .ok (.iconst 1, 1) := by decide +kernel
theorem dX1_turned_41 : decode cX1_turned 41 = .ok (.iand, 1) := by decide +kernel
theorem dX1_turned_42 : decode cX1_turned 42 = .ok (.ineg, 1) := by decide +kernel
theorem dX1_turned_43 : decode cX1_turned 43 = .ok (.ldc 37, 2) := by decide +kernel
theorem dX1_turned_45 : decode cX1_turned 45 = .ok (.iand, 1) := by decide +kernel
theorem dX1_turned_46 : decode cX1_turned 46 = .ok (.ixor, 1) := by decide +kernel
theorem dX1_turned_47 : decode cX1_turned 47 = .ok (.istore_n 2, 1) := by decide +kernel
theorem dX1_turned_48 : decode cX1_turned 48 = .ok (.aload_n 0, 1) := by decide +kernel
theorem dX1_turned_49 : decode cX1_turned 49 = .ok (.getfield 9, 3) := by decide +kernel
theorem dX1_turned_52 : decode cX1_turned 52 = .ok (.aload_n 0, 1) := by decide +kernel
theorem dX1_turned_53 : decode cX1_turned 53 = .ok (.getfield 23, 3) := by decide +kernel
theorem dX1_turned_56 : decode cX1_turned 56 = .ok (.iload_n 2, 1) := by decide +kernel
theorem dX1_turned_57 : decode cX1_turned 57 = .ok (.iastore, 1) := by decide +kernel
theorem dX1_turned_58 : decode cX1_turned 58 = .ok (.aload_n 0, 1) := by decide +kernel
theorem dX1_turned_59 : decode cX1_turned 59 = .ok (.aload_n 0, 1) := by decide +kernel
theorem dX1_turned_60 : decode cX1_turned 60 = .ok (.getfield 27, 3) := by decide +kernel
theorem dX1_turned_63 : decode cX1_turned 63 = .ok (.putfield 23, 3) := by decide +kernel
theorem dX1_turned_66 : decode cX1_turned 66 = .ok (.aload_n 0, 1) := by decide +kernel
theorem dX1_turned_67 : decode cX1_turned 67 = .ok (.aload_n 0, 1) := by decide +kernel
theorem dX1_turned_68 : decode cX1_turned 68 = .ok (.getfield 27, 3) := by decide +kernel
theorem dX1_turned_71 : decode cX1_turned 71 = .ok (.invokestatic 38, 3) := by decide +kernel
theorem dX1_turned_74 : decode cX1_turned 74 = .ok (.putfield 27, 3) := by decide +kernel
theorem dX1_turned_77 : decode cX1_turned 77 = .ok (.aload_n 0, 1) := by decide +kernel
theorem dX1_turned_78 : decode cX1_turned 78 = .ok (.aload_n 0, 1) := by decide +kernel
theorem dX1_turned_79 : decode cX1_turned 79 = .ok (.getfield 30, 3) := by decide +kernel
theorem dX1_turned_82 : decode cX1_turned 82 = .ok (.invokestatic 38, 3) := by decide +kernel
theorem dX1_turned_85 : decode cX1_turned 85 = .ok (.putfield 30, 3) := by decide +kernel
theorem dX1_turned_88 : decode cX1_turned 88 = .ok (.iload_n 2, 1) := by decide +kernel
theorem dX1_turned_89 : decode cX1_turned 89 = .ok (.ireturn, 1) := by decide +kernel
abbrev cX1_around : ByteArray := prog_2_method_5_code
def yX1_around : MethodName := ⟨RX1, "around", "(I)I"⟩
theorem dX1_around_0 : decode cX1_around 0 = .ok (.iload_n 0, 1) := by decide +kernel
theorem dX1_around_1 : decode cX1_around 1 = .ok (.iconst 1, 1) := by decide +kernel
theorem dX1_around_2 : decode cX1_around 2 = .ok (.iadd, 1) := by decide +kernel
theorem dX1_around_3 : decode cX1_around 3 = .ok (.sipush 624, 3) := by decide +kernel
theorem dX1_around_6 : decode cX1_around 6 = .ok (.if_icmp .ne 7, 3) := by decide +kernel
theorem dX1_around_9 : decode cX1_around 9 = .ok (.iconst 0, 1) := by decide +kernel
theorem dX1_around_10 : decode cX1_around 10 = .ok (.goto 6, 3) := by decide +kernel
theorem dX1_around_13 : decode cX1_around 13 = .ok (.iload_n 0, 1) := by decide +kernel
theorem dX1_around_14 : decode cX1_around 14 = .ok (.iconst 1, 1) := by decide +kernel
theorem dX1_around_15 : decode cX1_around 15 = .ok (.iadd, 1) := by decide +kernel
theorem dX1_around_16 : decode cX1_around 16 = .ok (.ireturn, 1) := by decide +kernel
theorem q8 : (Jvm.Cond.initialized "TwistedBits$Ring") ∈ lw_all := lw_g (lw_at lw_m0 2 rfl) rfl
theorem q20 : (Jvm.Cond.instantiable "TwistedBits$Ring" (4 : Nat)) ∈ lw_all := lw_g (lw_at lw_m0 14 rfl) rfl
theorem q22 : (Jvm.Cond.instanceMethod ({ cls := "TwistedBits$Ring", name := "<init>", desc := "()V" } : Jvm.MethodName)) ∈ lw_all := lw_g (lw_at lw_m0 16 rfl) rfl
theorem q23 : (Jvm.Cond.code ({ cls := "TwistedBits$Ring", name := "<init>", desc := "()V" } : Jvm.MethodName) prog_2_method_1_code (1 : Nat) (Option.none : Option Jvm.ClassFile.FieldType)) ∈ lw_all := lw_g (lw_at lw_m0 17 rfl) rfl
theorem q24 : (Jvm.Cond.methodLink "TwistedBits$Ring" (3 : Nat) ({ cls := "java/lang/Object", name := "<init>", desc := "()V" } : Jvm.MethodName)) ∈ lw_all := lw_g (lw_at lw_m0 18 rfl) rfl
theorem q25 : (Jvm.Cond.fieldLink "TwistedBits$Ring" (9 : Nat) "TwistedBits$Ring" "row" "[I") ∈ lw_all := lw_g (lw_at lw_m0 19 rfl) rfl
theorem q26 : (Jvm.Cond.fieldLink "TwistedBits$Ring" (23 : Nat) "TwistedBits$Ring" "here" "I") ∈ lw_all := lw_g (lw_at lw_m0 20 rfl) rfl
theorem q27 : (Jvm.Cond.fieldLink "TwistedBits$Ring" (27 : Nat) "TwistedBits$Ring" "next" "I") ∈ lw_all := lw_g (lw_at lw_m0 21 rfl) rfl
theorem q28 : (Jvm.Cond.fieldLink "TwistedBits$Ring" (30 : Nat) "TwistedBits$Ring" "far" "I") ∈ lw_all := lw_g (lw_at lw_m0 22 rfl) rfl
theorem q29 : (Jvm.Cond.laysFinal "TwistedBits$Ring" "TwistedBits$Ring" "row" "[I") ∈ lw_all := lw_g (lw_at lw_m0 23 rfl) rfl
theorem q30 : (Jvm.Cond.soleField "TwistedBits$Ring" "row") ∈ lw_all := lw_g (lw_at lw_m0 24 rfl) rfl
theorem q31 : (Jvm.Cond.lays "TwistedBits$Ring" "TwistedBits$Ring" "here" "I") ∈ lw_all := lw_g (lw_at lw_m0 25 rfl) rfl
theorem q32 : (Jvm.Cond.soleField "TwistedBits$Ring" "here") ∈ lw_all := lw_g (lw_at lw_m0 26 rfl) rfl
theorem q33 : (Jvm.Cond.lays "TwistedBits$Ring" "TwistedBits$Ring" "next" "I") ∈ lw_all := lw_g (lw_at lw_m0 27 rfl) rfl
theorem q34 : (Jvm.Cond.soleField "TwistedBits$Ring" "next") ∈ lw_all := lw_g (lw_at lw_m0 28 rfl) rfl
theorem q35 : (Jvm.Cond.lays "TwistedBits$Ring" "TwistedBits$Ring" "far" "I") ∈ lw_all := lw_g (lw_at lw_m0 29 rfl) rfl
theorem q36 : (Jvm.Cond.soleField "TwistedBits$Ring" "far") ∈ lw_all := lw_g (lw_at lw_m0 30 rfl) rfl
theorem q37 : (Jvm.Cond.superclass "TwistedBits$Ring" "java/lang/Object") ∈ lw_all := lw_g (lw_at lw_m0 31 rfl) rfl
theorem q40 : (Jvm.Cond.instanceMethod ({ cls := "TwistedBits$Ring", name := "seed", desc := "(I)V" } : Jvm.MethodName)) ∈ lw_all := lw_g (lw_at lw_m0 34 rfl) rfl
theorem q41 : (Jvm.Cond.selects "TwistedBits$Ring" ({ cls := "TwistedBits$Ring", name := "seed", desc := "(I)V" } : Jvm.MethodName) ({ cls := "TwistedBits$Ring", name := "seed", desc := "(I)V" } : Jvm.MethodName)) ∈ lw_all := lw_g (lw_at lw_m0 35 rfl) rfl
theorem q42 : (Jvm.Cond.code ({ cls := "TwistedBits$Ring", name := "seed", desc := "(I)V" } : Jvm.MethodName) prog_2_method_2_code (3 : Nat) (Option.none : Option Jvm.ClassFile.FieldType)) ∈ lw_all := lw_g (lw_at lw_m0 36 rfl) rfl
theorem q43 : (Jvm.Cond.methodLink "TwistedBits$Ring" (15 : Nat) ({ cls := "TwistedBits$Ring", name := "mixed", desc := "(I)I" } : Jvm.MethodName)) ∈ lw_all := lw_g (lw_at lw_m0 37 rfl) rfl
theorem q44 : (Jvm.Cond.privateMethod ({ cls := "TwistedBits$Ring", name := "mixed", desc := "(I)I" } : Jvm.MethodName)) ∈ lw_tbl := lw_at lw_m0 38 rfl
theorem q45 : (Jvm.Cond.instanceMethod ({ cls := "TwistedBits$Ring", name := "mixed", desc := "(I)I" } : Jvm.MethodName)) ∈ lw_all := lw_g (lw_at lw_m0 39 rfl) rfl
theorem q46 : (Jvm.Cond.code ({ cls := "TwistedBits$Ring", name := "mixed", desc := "(I)I" } : Jvm.MethodName) prog_2_method_4_code (2 : Nat) (Option.some Jvm.ClassFile.FieldType.int)) ∈ lw_all := lw_g (lw_at lw_m0 40 rfl) rfl
theorem q47 : (Jvm.Cond.constant "TwistedBits$Ring" (19 : Nat) (1812433253 : Int32)) ∈ lw_all := lw_g (lw_at lw_m0 41 rfl) rfl
theorem q48 : (Jvm.Cond.methodLink "TwistedBits$Ring" (20 : Nat) ({ cls := "TwistedBits$Ring", name := "begin", desc := "()V" } : Jvm.MethodName)) ∈ lw_all := lw_g (lw_at lw_m0 42 rfl) rfl
theorem q49 : (Jvm.Cond.privateMethod ({ cls := "TwistedBits$Ring", name := "begin", desc := "()V" } : Jvm.MethodName)) ∈ lw_tbl := lw_at lw_m0 43 rfl
theorem q50 : (Jvm.Cond.instanceMethod ({ cls := "TwistedBits$Ring", name := "begin", desc := "()V" } : Jvm.MethodName)) ∈ lw_all := lw_g (lw_at lw_m0 44 rfl) rfl
theorem q51 : (Jvm.Cond.code ({ cls := "TwistedBits$Ring", name := "begin", desc := "()V" } : Jvm.MethodName) prog_2_method_3_code (1 : Nat) (Option.none : Option Jvm.ClassFile.FieldType)) ∈ lw_all := lw_g (lw_at lw_m0 45 rfl) rfl
theorem q83 : (Jvm.Cond.instanceMethod ({ cls := "TwistedBits$Ring", name := "seed", desc := "([II)V" } : Jvm.MethodName)) ∈ lw_all := lw_g (lw_at lw_m0 77 rfl) rfl
theorem q84 : (Jvm.Cond.selects "TwistedBits$Ring" ({ cls := "TwistedBits$Ring", name := "seed", desc := "([II)V" } : Jvm.MethodName) ({ cls := "TwistedBits$Ring", name := "seed", desc := "([II)V" } : Jvm.MethodName)) ∈ lw_all := lw_g (lw_at lw_m0 78 rfl) rfl
theorem q85 : (Jvm.Cond.code ({ cls := "TwistedBits$Ring", name := "seed", desc := "([II)V" } : Jvm.MethodName) prog_2_method_7_code (6 : Nat) (Option.none : Option Jvm.ClassFile.FieldType)) ∈ lw_all := lw_g (lw_at lw_m0 79 rfl) rfl
theorem q86 : (Jvm.Cond.constant "TwistedBits$Ring" (41 : Nat) (19650218 : Int32)) ∈ lw_all := lw_g (lw_at lw_m0 80 rfl) rfl
theorem q87 : (Jvm.Cond.methodLink "TwistedBits$Ring" (42 : Nat) ({ cls := "TwistedBits$Ring", name := "seed", desc := "(I)V" } : Jvm.MethodName)) ∈ lw_all := lw_g (lw_at lw_m0 81 rfl) rfl
theorem q88 : (Jvm.Cond.methodLink "TwistedBits$Ring" (46 : Nat) ({ cls := "java/lang/Math", name := "max", desc := "(II)I" } : Jvm.MethodName)) ∈ lw_all := lw_g (lw_at lw_m0 82 rfl) rfl
theorem q91 : (Jvm.Cond.constant "TwistedBits$Ring" (52 : Nat) (1664525 : Int32)) ∈ lw_all := lw_g (lw_at lw_m0 85 rfl) rfl
theorem q92 : (Jvm.Cond.methodLink "TwistedBits$Ring" (53 : Nat) ({ cls := "TwistedBits$Ring", name := "on", desc := "(I)I" } : Jvm.MethodName)) ∈ lw_all := lw_g (lw_at lw_m0 86 rfl) rfl
theorem q93 : (Jvm.Cond.privateMethod ({ cls := "TwistedBits$Ring", name := "on", desc := "(I)I" } : Jvm.MethodName)) ∈ lw_tbl := lw_at lw_m0 87 rfl
theorem q94 : (Jvm.Cond.instanceMethod ({ cls := "TwistedBits$Ring", name := "on", desc := "(I)I" } : Jvm.MethodName)) ∈ lw_all := lw_g (lw_at lw_m0 88 rfl) rfl
theorem q95 : (Jvm.Cond.code ({ cls := "TwistedBits$Ring", name := "on", desc := "(I)I" } : Jvm.MethodName) prog_2_method_8_code (2 : Nat) (Option.some Jvm.ClassFile.FieldType.int)) ∈ lw_all := lw_g (lw_at lw_m0 89 rfl) rfl
theorem q96 : (Jvm.Cond.constant "TwistedBits$Ring" (56 : Nat) (1566083941 : Int32)) ∈ lw_all := lw_g (lw_at lw_m0 90 rfl) rfl
theorem q97 : (Jvm.Cond.constant "TwistedBits$Ring" (35 : Nat) (-2147483648 : Int32)) ∈ lw_all := lw_g (lw_at lw_m0 91 rfl) rfl
theorem q107 : (Jvm.Cond.instanceMethod ({ cls := "TwistedBits$Ring", name := "turned", desc := "()I" } : Jvm.MethodName)) ∈ lw_all := lw_g (lw_at lw_m0 101 rfl) rfl
theorem q108 : (Jvm.Cond.selects "TwistedBits$Ring" ({ cls := "TwistedBits$Ring", name := "turned", desc := "()I" } : Jvm.MethodName) ({ cls := "TwistedBits$Ring", name := "turned", desc := "()I" } : Jvm.MethodName)) ∈ lw_all := lw_g (lw_at lw_m0 102 rfl) rfl
theorem q109 : (Jvm.Cond.code ({ cls := "TwistedBits$Ring", name := "turned", desc := "()I" } : Jvm.MethodName) prog_2_method_6_code (3 : Nat) (Option.some Jvm.ClassFile.FieldType.int)) ∈ lw_all := lw_g (lw_at lw_m0 103 rfl) rfl
theorem q110 : (Jvm.Cond.constant "TwistedBits$Ring" (36 : Nat) (2147483647 : Int32)) ∈ lw_all := lw_g (lw_at lw_m0 104 rfl) rfl
theorem q111 : (Jvm.Cond.constant "TwistedBits$Ring" (37 : Nat) (-1727483681 : Int32)) ∈ lw_all := lw_g (lw_at lw_m0 105 rfl) rfl
theorem q112 : (Jvm.Cond.methodLink "TwistedBits$Ring" (38 : Nat) ({ cls := "TwistedBits$Ring", name := "around", desc := "(I)I" } : Jvm.MethodName)) ∈ lw_all := lw_g (lw_at lw_m0 106 rfl) rfl
theorem q113 : (Jvm.Cond.static ({ cls := "TwistedBits$Ring", name := "around", desc := "(I)I" } : Jvm.MethodName)) ∈ lw_all := lw_g (lw_at lw_m0 107 rfl) rfl
theorem q114 : (Jvm.Cond.code ({ cls := "TwistedBits$Ring", name := "around", desc := "(I)I" } : Jvm.MethodName) prog_2_method_5_code (1 : Nat) (Option.some Jvm.ClassFile.FieldType.int)) ∈ lw_all := lw_g (lw_at lw_m0 108 rfl) rfl
theorem in_X1 : ∀ w ∈ wsX10, w ∈ lw_all := lw_in wsX10 [29, 31, 33, 35] (by decide +kernel) (by decide +kernel)
end
section
/-! TwistedBits -/
set_option maxRecDepth 100000
def RX0 : String := "TwistedBits"
def TX0 : u_T := fun k => match k with
  | 0 => ("TwistedBits", "ring", "LTwistedBits$Ring;", true)
  | 1 => ("TwistedBits", "key", "[I", true)
  | _ => ("TwistedBits", "size", "I", false)
def tyX0 : Nat → FieldType := fun k => match k with
  | 0 => .object "TwistedBits$Ring"
  | 1 => .array .int
  | _ => .int
abbrev wsX00 : List Cond := u_ws RX0 TX0 3
theorem nmX0 : ∀ a, a < 3 → ∀ b, b < 3 → a ≠ b → (TX0 a).2.1 ≠ (TX0 b).2.1 := by decide +kernel
theorem tyX0_ok : ∀ k, k < 3 → parseFieldDescriptor (TX0 k).2.2.1 = some (tyX0 k) := by decide +kernel
abbrev cX0_init : ByteArray := prog_1_method_1_code
def yX0_init : MethodName := ⟨RX0, "<init>", "()V"⟩
theorem dX0_init_0 : decode cX0_init 0 = .ok (.aload_n 0, 1) := by decide +kernel
theorem dX0_init_1 : decode cX0_init 1 = .ok (.invokespecial 1, 3) := by decide +kernel
theorem dX0_init_4 : decode cX0_init 4 = .ok (.aload_n 0, 1) := by decide +kernel
theorem dX0_init_5 : decode cX0_init 5 = .ok (.new 7, 3) := by decide +kernel
theorem dX0_init_8 : decode cX0_init 8 = .ok (.dup, 1) := by decide +kernel
theorem dX0_init_9 : decode cX0_init 9 = .ok (.invokespecial 9, 3) := by decide +kernel
theorem dX0_init_12 : decode cX0_init 12 = .ok (.putfield 10, 3) := by decide +kernel
theorem dX0_init_15 : decode cX0_init 15 = .ok (.aload_n 0, 1) := by decide +kernel
theorem dX0_init_16 : decode cX0_init 16 = .ok (.sipush 1024, 3) := by decide +kernel
theorem dX0_init_19 : decode cX0_init 19 = .ok (.newarray .int, 2) := by decide +kernel
theorem dX0_init_21 : decode cX0_init 21 = .ok (.putfield 16, 3) := by decide +kernel
theorem dX0_init_24 : decode cX0_init 24 = .ok (.aload_n 0, 1) := by decide +kernel
theorem dX0_init_25 : decode cX0_init 25 = .ok (.iconst 1, 1) := by decide +kernel
theorem dX0_init_26 : decode cX0_init 26 = .ok (.putfield 20, 3) := by decide +kernel
theorem dX0_init_29 : decode cX0_init 29 = .ok (.aload_n 0, 1) := by decide +kernel
theorem dX0_init_30 : decode cX0_init 30 = .ok (.getfield 10, 3) := by decide +kernel
theorem dX0_init_33 : decode cX0_init 33 = .ok (.sipush 5489, 3) := by decide +kernel
theorem dX0_init_36 : decode cX0_init 36 = .ok (.invokevirtual 24, 3) := by decide +kernel
theorem dX0_init_39 : decode cX0_init 39 = .ok (.return_, 1) := by decide +kernel
abbrev cX0_seed : ByteArray := prog_1_method_2_code
def yX0_seed : MethodName := ⟨RX0, "seed", "(I)V"⟩
theorem dX0_seed_0 : decode cX0_seed 0 = .ok (.aload_n 0, 1) := by decide +kernel
theorem dX0_seed_1 : decode cX0_seed 1 = .ok (.getfield 10, 3) := by decide +kernel
theorem dX0_seed_4 : decode cX0_seed 4 = .ok (.iload_n 1, 1) := by decide +kernel
theorem dX0_seed_5 : decode cX0_seed 5 = .ok (.invokevirtual 24, 3) := by decide +kernel
theorem dX0_seed_8 : decode cX0_seed 8 = .ok (.return_, 1) := by decide +kernel
abbrev cX0_width : ByteArray := prog_1_method_3_code
def yX0_width : MethodName := ⟨RX0, "width", "(I)V"⟩
theorem dX0_width_0 : decode cX0_width 0 = .ok (.aload_n 0, 1) := by decide +kernel
theorem dX0_width_1 : decode cX0_width 1 = .ok (.iconst 1, 1) := by decide +kernel
theorem dX0_width_2 : decode cX0_width 2 = .ok (.iload_n 1, 1) := by decide +kernel
theorem dX0_width_3 : decode cX0_width 3 = .ok (.sipush 1023, 3) := by decide +kernel
theorem dX0_width_6 : decode cX0_width 6 = .ok (.iand, 1) := by decide +kernel
theorem dX0_width_7 : decode cX0_width 7 = .ok (.iadd, 1) := by decide +kernel
theorem dX0_width_8 : decode cX0_width 8 = .ok (.putfield 20, 3) := by decide +kernel
theorem dX0_width_11 : decode cX0_width 11 = .ok (.iconst 0, 1) := by decide +kernel
theorem dX0_width_12 : decode cX0_width 12 = .ok (.istore_n 2, 1) := by decide +kernel
theorem dX0_width_13 : decode cX0_width 13 = .ok (.iload_n 2, 1) := by decide +kernel
theorem dX0_width_14 : decode cX0_width 14 = .ok (.aload_n 0, 1) := by decide +kernel
theorem dX0_width_15 : decode cX0_width 15 = .ok (.getfield 20, 3) := by decide +kernel
theorem dX0_width_18 : decode cX0_width 18 = .ok (.if_icmp .ge 16, 3) := by decide +kernel
theorem dX0_width_21 : decode cX0_width 21 = .ok (.aload_n 0, 1) := by decide +kernel
theorem dX0_width_22 : decode cX0_width 22 = .ok (.getfield 16, 3) := by decide +kernel
theorem dX0_width_25 : decode cX0_width 25 = .ok (.iload_n 2, 1) := by decide +kernel
theorem dX0_width_26 : decode cX0_width 26 = .ok (.iconst 0, 1) := by decide +kernel
theorem dX0_width_27 : decode cX0_width 27 = .ok (.iastore, 1) := by decide +kernel
theorem dX0_width_28 : decode cX0_width 28 = .ok (.iinc 2 1, 3) := by decide +kernel
theorem dX0_width_31 : decode cX0_width 31 = .ok (.goto (-18), 3) := by decide +kernel
theorem dX0_width_34 : decode cX0_width 34 = .ok (.return_, 1) := by decide +kernel
abbrev cX0_key : ByteArray := prog_1_method_4_code
def yX0_key : MethodName := ⟨RX0, "key", "(IIIII)V"⟩
theorem dX0_key_0 : decode cX0_key 0 = .ok (.iload_n 1, 1) := by decide +kernel
theorem dX0_key_1 : decode cX0_key 1 = .ok (.sipush 1023, 3) := by decide +kernel
theorem dX0_key_4 : decode cX0_key 4 = .ok (.iand, 1) := by decide +kernel
theorem dX0_key_5 : decode cX0_key 5 = .ok (.aload_n 0, 1) := by decide +kernel
theorem dX0_key_6 : decode cX0_key 6 = .ok (.getfield 20, 3) := by decide +kernel
theorem dX0_key_9 : decode cX0_key 9 = .ok (.irem, 1) := by decide +kernel
theorem dX0_key_10 : decode cX0_key 10 = .ok (.istore 6, 2) := by decide +kernel
theorem dX0_key_12 : decode cX0_key 12 = .ok (.aload_n 0, 1) := by decide +kernel
theorem dX0_key_13 : decode cX0_key 13 = .ok (.iload 6, 2) := by decide +kernel
theorem dX0_key_15 : decode cX0_key 15 = .ok (.iload_n 2, 1) := by decide +kernel
theorem dX0_key_16 : decode cX0_key 16 = .ok (.invokevirtual 28, 3) := by decide +kernel
theorem dX0_key_19 : decode cX0_key 19 = .ok (.istore 6, 2) := by decide +kernel
theorem dX0_key_21 : decode cX0_key 21 = .ok (.aload_n 0, 1) := by decide +kernel
theorem dX0_key_22 : decode cX0_key 22 = .ok (.iload 6, 2) := by decide +kernel
theorem dX0_key_24 : decode cX0_key 24 = .ok (.iload_n 3, 1) := by decide +kernel
theorem dX0_key_25 : decode cX0_key 25 = .ok (.invokevirtual 28, 3) := by decide +kernel
theorem dX0_key_28 : decode cX0_key 28 = .ok (.istore 6, 2) := by decide +kernel
theorem dX0_key_30 : decode cX0_key 30 = .ok (.aload_n 0, 1) := by decide +kernel
theorem dX0_key_31 : decode cX0_key 31 = .ok (.iload 6, 2) := by decide +kernel
theorem dX0_key_33 : decode cX0_key 33 = .ok (.iload 4, 2) := by decide +kernel
theorem dX0_key_35 : decode cX0_key 35 = .ok (.invokevirtual 28, 3) := by decide +kernel
theorem dX0_key_38 : decode cX0_key 38 = .ok (.istore 6, 2) := by decide +kernel
theorem dX0_key_40 : decode cX0_key 40 = .ok (.aload_n 0, 1) := by decide +kernel
theorem dX0_key_41 : decode cX0_key 41 = .ok (.iload 6, 2) := by decide +kernel
theorem dX0_key_43 : decode cX0_key 43 = .ok (.iload 5, 2) := by decide +kernel
theorem dX0_key_45 : decode cX0_key 45 = .ok (.invokevirtual 28, 3) := by decide +kernel
theorem dX0_key_48 : decode cX0_key 48 = .ok (.pop, 1) := by decide +kernel
theorem dX0_key_49 : decode cX0_key 49 = .ok (.return_, 1) := by decide +kernel
abbrev cX0_put : ByteArray := prog_1_method_5_code
def yX0_put : MethodName := ⟨RX0, "put", "(II)I"⟩
theorem dX0_put_0 : decode cX0_put 0 = .ok (.aload_n 0, 1) := by decide +kernel
theorem dX0_put_1 : decode cX0_put 1 = .ok (.getfield 16, 3) := by decide +kernel
theorem dX0_put_4 : decode cX0_put 4 = .ok (.iload_n 1, 1) := by decide +kernel
theorem dX0_put_5 : decode cX0_put 5 = .ok (.iload_n 2, 1) := by decide +kernel
theorem dX0_put_6 : decode cX0_put 6 = .ok (.iastore, 1) := by decide +kernel
theorem dX0_put_7 : decode cX0_put 7 = .ok (.iload_n 1, 1) := by decide +kernel
theorem dX0_put_8 : decode cX0_put 8 = .ok (.iconst 1, 1) := by decide +kernel
theorem dX0_put_9 : decode cX0_put 9 = .ok (.iadd, 1) := by decide +kernel
theorem dX0_put_10 : decode cX0_put 10 = .ok (.aload_n 0, 1) := by decide +kernel
theorem dX0_put_11 : decode cX0_put 11 = .ok (.getfield 20, 3) := by decide +kernel
theorem dX0_put_14 : decode cX0_put 14 = .ok (.if_icmp .ne 7, 3) := by decide +kernel
theorem dX0_put_17 : decode cX0_put 17 = .ok (.iconst 0, 1) := by decide +kernel
theorem dX0_put_18 : decode cX0_put 18 = .ok (.goto 6, 3) := by decide +kernel
theorem dX0_put_21 : decode cX0_put 21 = .ok (.iload_n 1, 1) := by decide +kernel
theorem dX0_put_22 : decode cX0_put 22 = .ok (.iconst 1, 1) := by decide +kernel
theorem dX0_put_23 : decode cX0_put 23 = .ok (.iadd, 1) := by decide +kernel
theorem dX0_put_24 : decode cX0_put 24 = .ok (.ireturn, 1) := by decide +kernel
abbrev cX0_keyed : ByteArray := prog_1_method_6_code
def yX0_keyed : MethodName := ⟨RX0, "keyed", "()V"⟩
theorem dX0_keyed_0 : decode cX0_keyed 0 = .ok (.aload_n 0, 1) := by decide +kernel
theorem dX0_keyed_1 : decode cX0_keyed 1 = .ok (.getfield 10, 3) := by decide +kernel
theorem dX0_keyed_4 : decode cX0_keyed 4 = .ok (.aload_n 0, 1) := by decide +kernel
theorem dX0_keyed_5 : decode cX0_keyed 5 = .ok (.getfield 16, 3) := by decide +kernel
theorem dX0_keyed_8 : decode cX0_keyed 8 = .ok (.aload_n 0, 1) := by decide +kernel
theorem dX0_keyed_9 : decode cX0_keyed 9 = .ok (.getfield 20, 3) := by decide +kernel
theorem dX0_keyed_12 : decode cX0_keyed 12 = .ok (.invokevirtual 32, 3) := by decide +kernel
theorem dX0_keyed_15 : decode cX0_keyed 15 = .ok (.return_, 1) := by decide +kernel
abbrev cX0_bits : ByteArray := prog_1_method_8_code
def yX0_bits : MethodName := ⟨RX0, "bits", "(I)I"⟩
theorem dX0_bits_0 : decode cX0_bits 0 = .ok (.aload_n 0, 1) := by decide +kernel
theorem dX0_bits_1 : decode cX0_bits 1 = .ok (.invokevirtual 41, 3) := by decide +kernel
theorem dX0_bits_4 : decode cX0_bits 4 = .ok (.bipush 31, 2) := by decide +kernel
theorem dX0_bits_6 : decode cX0_bits 6 = .ok (.iload_n 1, 1) := by decide +kernel
theorem dX0_bits_7 : decode cX0_bits 7 = .ok (.bipush 31, 2) := by decide +kernel
theorem dX0_bits_9 : decode cX0_bits 9 = .ok (.iand, 1) := by decide +kernel
theorem dX0_bits_10 : decode cX0_bits 10 = .ok (.isub, 1) := by decide +kernel
theorem dX0_bits_11 : decode cX0_bits 11 = .ok (.iushr, 1) := by decide +kernel
theorem dX0_bits_12 : decode cX0_bits 12 = .ok (.ireturn, 1) := by decide +kernel
abbrev cX0_next : ByteArray := prog_1_method_7_code
def yX0_next : MethodName := ⟨RX0, "next", "()I"⟩
theorem dX0_next_0 : decode cX0_next 0 = .ok (.aload_n 0, 1) := by decide +kernel
theorem dX0_next_1 : decode cX0_next 1 = .ok (.getfield 10, 3) := by decide +kernel
theorem dX0_next_4 : decode cX0_next 4 = .ok (.invokevirtual 35, 3) := by decide +kernel
theorem dX0_next_7 : decode cX0_next 7 = .ok (.istore_n 1, 1) := by decide +kernel
theorem dX0_next_8 : decode cX0_next 8 = .ok (.iload_n 1, 1) := by decide +kernel
theorem dX0_next_9 : decode cX0_next 9 = .ok (.iload_n 1, 1) := by decide +kernel
theorem dX0_next_10 : decode cX0_next 10 = .ok (.bipush 11, 2) := by decide +kernel
theorem dX0_next_12 : decode cX0_next 12 = .ok (.iushr, 1) := by decide +kernel
theorem dX0_next_13 : decode cX0_next 13 = .ok (.ixor, 1) := by decide +kernel
theorem dX0_next_14 : decode cX0_next 14 = .ok (.istore_n 1, 1) := by decide +kernel
theorem dX0_next_15 : decode cX0_next 15 = .ok (.iload_n 1, 1) := by decide +kernel
theorem dX0_next_16 : decode cX0_next 16 = .ok (.iload_n 1, 1) := by decide +kernel
theorem dX0_next_17 : decode cX0_next 17 = .ok (.bipush 7, 2) := by decide +kernel
theorem dX0_next_19 : decode cX0_next 19 = .ok (.ishl, 1) := by decide +kernel
theorem dX0_next_20 : decode cX0_next 20 = .ok (.ldc 39, 2) := by decide +kernel
theorem dX0_next_22 : decode cX0_next 22 = .ok (.iand, 1) := by decide +kernel
theorem dX0_next_23 : decode cX0_next 23 = .ok (.ixor, 1) := by decide +kernel
theorem dX0_next_24 : decode cX0_next 24 = .ok (.istore_n 1, 1) := by decide +kernel
theorem dX0_next_25 : decode cX0_next 25 = .ok (.iload_n 1, 1) := by decide +kernel
theorem dX0_next_26 : decode cX0_next 26 = .ok (.iload_n 1, 1) := by decide +kernel
theorem dX0_next_27 : decode cX0_next 27 = .ok (.bipush 15, 2) := by decide +kernel
theorem dX0_next_29 : decode cX0_next 29 = .ok (.ishl, 1) := by decide +kernel
theorem dX0_next_30 : decode cX0_next 30 = .ok (.ldc 40, 2) := by decide +kernel
theorem dX0_next_32 : decode cX0_next 32 = .ok (.iand, 1) := by decide +kernel
theorem dX0_next_33 : decode cX0_next 33 = .ok (.ixor, 1) := by decide +kernel
theorem dX0_next_34 : decode cX0_next 34 = .ok (.istore_n 1, 1) := by decide +kernel
theorem dX0_next_35 : decode cX0_next 35 = .ok (.iload_n 1, 1) := by decide +kernel
theorem dX0_next_36 : decode cX0_next 36 = .ok (.iload_n 1, 1) := by decide +kernel
theorem dX0_next_37 : decode cX0_next 37 = .ok (.bipush 18, 2) := by decide +kernel
theorem dX0_next_39 : decode cX0_next 39 = .ok (.iushr, 1) := by decide +kernel
theorem dX0_next_40 : decode cX0_next 40 = .ok (.ixor, 1) := by decide +kernel
theorem dX0_next_41 : decode cX0_next 41 = .ok (.ireturn, 1) := by decide +kernel
abbrev cX0_wide : ByteArray := prog_1_method_9_code
def yX0_wide : MethodName := ⟨RX0, "wide", "()J"⟩
theorem dX0_wide_0 : decode cX0_wide 0 = .ok (.aload_n 0, 1) := by decide +kernel
theorem dX0_wide_1 : decode cX0_wide 1 = .ok (.invokevirtual 41, 3) := by decide +kernel
theorem dX0_wide_4 : decode cX0_wide 4 = .ok (.i2l, 1) := by decide +kernel
theorem dX0_wide_5 : decode cX0_wide 5 = .ok (.lstore_n 1, 1) := by decide +kernel
theorem dX0_wide_6 : decode cX0_wide 6 = .ok (.lload_n 1, 1) := by decide +kernel
theorem dX0_wide_7 : decode cX0_wide 7 = .ok (.bipush 32, 2) := by decide +kernel
theorem dX0_wide_9 : decode cX0_wide 9 = .ok (.lshl, 1) := by decide +kernel
theorem dX0_wide_10 : decode cX0_wide 10 = .ok (.aload_n 0, 1) := by decide +kernel
theorem dX0_wide_11 : decode cX0_wide 11 = .ok (.invokevirtual 41, 3) := by decide +kernel
theorem dX0_wide_14 : decode cX0_wide 14 = .ok (.i2l, 1) := by decide +kernel
theorem dX0_wide_15 : decode cX0_wide 15 = .ok (.ldc2_w 44, 3) := by decide +kernel
theorem dX0_wide_18 : decode cX0_wide 18 = .ok (.land, 1) := by decide +kernel
theorem dX0_wide_19 : decode cX0_wide 19 = .ok (.lor, 1) := by decide +kernel
theorem dX0_wide_20 : decode cX0_wide 20 = .ok (.lreturn, 1) := by decide +kernel
abbrev cX0_coin : ByteArray := prog_1_method_10_code
def yX0_coin : MethodName := ⟨RX0, "coin", "()Z"⟩
theorem dX0_coin_0 : decode cX0_coin 0 = .ok (.aload_n 0, 1) := by decide +kernel
theorem dX0_coin_1 : decode cX0_coin 1 = .ok (.invokevirtual 41, 3) := by decide +kernel
theorem dX0_coin_4 : decode cX0_coin 4 = .ok (.ifCond .ge 7, 3) := by decide +kernel
theorem dX0_coin_7 : decode cX0_coin 7 = .ok (.iconst 1, 1) := by decide +kernel
theorem dX0_coin_8 : decode cX0_coin 8 = .ok (.goto 4, 3) := by decide +kernel
theorem dX0_coin_11 : decode cX0_coin 11 = .ok (.iconst 0, 1) := by decide +kernel
theorem dX0_coin_12 : decode cX0_coin 12 = .ok (.ireturn, 1) := by decide +kernel
abbrev cX0_skip : ByteArray := prog_1_method_11_code
def yX0_skip : MethodName := ⟨RX0, "skip", "(I)I"⟩
theorem dX0_skip_0 : decode cX0_skip 0 = .ok (.iconst 0, 1) := by decide +kernel
theorem dX0_skip_1 : decode cX0_skip 1 = .ok (.istore_n 2, 1) := by decide +kernel
theorem dX0_skip_2 : decode cX0_skip 2 = .ok (.iload_n 1, 1) := by decide +kernel
theorem dX0_skip_3 : decode cX0_skip 3 = .ok (.sipush 1023, 3) := by decide +kernel
theorem dX0_skip_6 : decode cX0_skip 6 = .ok (.iand, 1) := by decide +kernel
theorem dX0_skip_7 : decode cX0_skip 7 = .ok (.istore_n 3, 1) := by decide +kernel
theorem dX0_skip_8 : decode cX0_skip 8 = .ok (.iload_n 3, 1) := by decide +kernel
theorem dX0_skip_9 : decode cX0_skip 9 = .ok (.ifCond .le 14, 3) := by decide +kernel
theorem dX0_skip_12 : decode cX0_skip 12 = .ok (.aload_n 0, 1) := by decide +kernel
theorem dX0_skip_13 : decode cX0_skip 13 = .ok (.invokevirtual 41, 3) := by decide +kernel
theorem dX0_skip_16 : decode cX0_skip 16 = .ok (.istore_n 2, 1) := by decide +kernel
theorem dX0_skip_17 : decode cX0_skip 17 = .ok (.iinc 3 (-1), 3) := by decide +kernel
theorem dX0_skip_20 : decode cX0_skip 20 = .ok (.goto (-12), 3) := by decide +kernel
theorem dX0_skip_23 : decode cX0_skip 23 = .ok (.iload_n 2, 1) := by decide +kernel
theorem dX0_skip_24 : decode cX0_skip 24 = .ok (.ireturn, 1) := by decide +kernel
theorem q7 : (Jvm.Cond.initialized "TwistedBits") ∈ lw_all := lw_g (lw_at lw_m0 1 rfl) rfl
theorem q12 : (Jvm.Cond.instantiable "TwistedBits" (3 : Nat)) ∈ lw_all := lw_g (lw_at lw_m0 6 rfl) rfl
theorem q14 : (Jvm.Cond.instanceMethod ({ cls := "TwistedBits", name := "<init>", desc := "()V" } : Jvm.MethodName)) ∈ lw_all := lw_g (lw_at lw_m0 8 rfl) rfl
theorem q15 : (Jvm.Cond.code ({ cls := "TwistedBits", name := "<init>", desc := "()V" } : Jvm.MethodName) prog_1_method_1_code (1 : Nat) (Option.none : Option Jvm.ClassFile.FieldType)) ∈ lw_all := lw_g (lw_at lw_m0 9 rfl) rfl
theorem q16 : (Jvm.Cond.methodLink "TwistedBits" (1 : Nat) ({ cls := "java/lang/Object", name := "<init>", desc := "()V" } : Jvm.MethodName)) ∈ lw_all := lw_g (lw_at lw_m0 10 rfl) rfl
theorem q19 : (Jvm.Cond.classLink "TwistedBits" (7 : Nat) "TwistedBits$Ring") ∈ lw_all := lw_g (lw_at lw_m0 13 rfl) rfl
theorem q21 : (Jvm.Cond.methodLinkNest "TwistedBits" (9 : Nat) ({ cls := "TwistedBits$Ring", name := "<init>", desc := "()V" } : Jvm.MethodName) "TwistedBits") ∈ lw_tbl := lw_at lw_m0 15 rfl
theorem q39 : (Jvm.Cond.methodLink "TwistedBits" (24 : Nat) ({ cls := "TwistedBits$Ring", name := "seed", desc := "(I)V" } : Jvm.MethodName)) ∈ lw_all := lw_g (lw_at lw_m0 33 rfl) rfl
theorem q52 : (Jvm.Cond.fieldLink "TwistedBits" (10 : Nat) "TwistedBits" "ring" "LTwistedBits$Ring;") ∈ lw_all := lw_g (lw_at lw_m0 46 rfl) rfl
theorem q53 : (Jvm.Cond.fieldLink "TwistedBits" (16 : Nat) "TwistedBits" "key" "[I") ∈ lw_all := lw_g (lw_at lw_m0 47 rfl) rfl
theorem q54 : (Jvm.Cond.fieldLink "TwistedBits" (20 : Nat) "TwistedBits" "size" "I") ∈ lw_all := lw_g (lw_at lw_m0 48 rfl) rfl
theorem q55 : (Jvm.Cond.laysFinal "TwistedBits" "TwistedBits" "ring" "LTwistedBits$Ring;") ∈ lw_all := lw_g (lw_at lw_m0 49 rfl) rfl
theorem q56 : (Jvm.Cond.soleField "TwistedBits" "ring") ∈ lw_all := lw_g (lw_at lw_m0 50 rfl) rfl
theorem q57 : (Jvm.Cond.laysFinal "TwistedBits" "TwistedBits" "key" "[I") ∈ lw_all := lw_g (lw_at lw_m0 51 rfl) rfl
theorem q58 : (Jvm.Cond.soleField "TwistedBits" "key") ∈ lw_all := lw_g (lw_at lw_m0 52 rfl) rfl
theorem q59 : (Jvm.Cond.lays "TwistedBits" "TwistedBits" "size" "I") ∈ lw_all := lw_g (lw_at lw_m0 53 rfl) rfl
theorem q60 : (Jvm.Cond.soleField "TwistedBits" "size") ∈ lw_all := lw_g (lw_at lw_m0 54 rfl) rfl
theorem q61 : (Jvm.Cond.superclass "TwistedBits" "java/lang/Object") ∈ lw_all := lw_g (lw_at lw_m0 55 rfl) rfl
theorem q63 : (Jvm.Cond.instanceMethod ({ cls := "TwistedBits", name := "seed", desc := "(I)V" } : Jvm.MethodName)) ∈ lw_all := lw_g (lw_at lw_m0 57 rfl) rfl
theorem q64 : (Jvm.Cond.selects "TwistedBits" ({ cls := "TwistedBits", name := "seed", desc := "(I)V" } : Jvm.MethodName) ({ cls := "TwistedBits", name := "seed", desc := "(I)V" } : Jvm.MethodName)) ∈ lw_all := lw_g (lw_at lw_m0 58 rfl) rfl
theorem q65 : (Jvm.Cond.code ({ cls := "TwistedBits", name := "seed", desc := "(I)V" } : Jvm.MethodName) prog_1_method_2_code (2 : Nat) (Option.none : Option Jvm.ClassFile.FieldType)) ∈ lw_all := lw_g (lw_at lw_m0 59 rfl) rfl
theorem q67 : (Jvm.Cond.instanceMethod ({ cls := "TwistedBits", name := "width", desc := "(I)V" } : Jvm.MethodName)) ∈ lw_all := lw_g (lw_at lw_m0 61 rfl) rfl
theorem q68 : (Jvm.Cond.selects "TwistedBits" ({ cls := "TwistedBits", name := "width", desc := "(I)V" } : Jvm.MethodName) ({ cls := "TwistedBits", name := "width", desc := "(I)V" } : Jvm.MethodName)) ∈ lw_all := lw_g (lw_at lw_m0 62 rfl) rfl
theorem q69 : (Jvm.Cond.code ({ cls := "TwistedBits", name := "width", desc := "(I)V" } : Jvm.MethodName) prog_1_method_3_code (3 : Nat) (Option.none : Option Jvm.ClassFile.FieldType)) ∈ lw_all := lw_g (lw_at lw_m0 63 rfl) rfl
theorem q71 : (Jvm.Cond.instanceMethod ({ cls := "TwistedBits", name := "key", desc := "(IIIII)V" } : Jvm.MethodName)) ∈ lw_all := lw_g (lw_at lw_m0 65 rfl) rfl
theorem q72 : (Jvm.Cond.selects "TwistedBits" ({ cls := "TwistedBits", name := "key", desc := "(IIIII)V" } : Jvm.MethodName) ({ cls := "TwistedBits", name := "key", desc := "(IIIII)V" } : Jvm.MethodName)) ∈ lw_all := lw_g (lw_at lw_m0 66 rfl) rfl
theorem q73 : (Jvm.Cond.code ({ cls := "TwistedBits", name := "key", desc := "(IIIII)V" } : Jvm.MethodName) prog_1_method_4_code (7 : Nat) (Option.none : Option Jvm.ClassFile.FieldType)) ∈ lw_all := lw_g (lw_at lw_m0 67 rfl) rfl
theorem q74 : (Jvm.Cond.methodLink "TwistedBits" (28 : Nat) ({ cls := "TwistedBits", name := "put", desc := "(II)I" } : Jvm.MethodName)) ∈ lw_all := lw_g (lw_at lw_m0 68 rfl) rfl
theorem q75 : (Jvm.Cond.privateMethod ({ cls := "TwistedBits", name := "put", desc := "(II)I" } : Jvm.MethodName)) ∈ lw_tbl := lw_at lw_m0 69 rfl
theorem q76 : (Jvm.Cond.instanceMethod ({ cls := "TwistedBits", name := "put", desc := "(II)I" } : Jvm.MethodName)) ∈ lw_all := lw_g (lw_at lw_m0 70 rfl) rfl
theorem q77 : (Jvm.Cond.code ({ cls := "TwistedBits", name := "put", desc := "(II)I" } : Jvm.MethodName) prog_1_method_5_code (3 : Nat) (Option.some Jvm.ClassFile.FieldType.int)) ∈ lw_all := lw_g (lw_at lw_m0 71 rfl) rfl
theorem q79 : (Jvm.Cond.instanceMethod ({ cls := "TwistedBits", name := "keyed", desc := "()V" } : Jvm.MethodName)) ∈ lw_all := lw_g (lw_at lw_m0 73 rfl) rfl
theorem q80 : (Jvm.Cond.selects "TwistedBits" ({ cls := "TwistedBits", name := "keyed", desc := "()V" } : Jvm.MethodName) ({ cls := "TwistedBits", name := "keyed", desc := "()V" } : Jvm.MethodName)) ∈ lw_all := lw_g (lw_at lw_m0 74 rfl) rfl
theorem q81 : (Jvm.Cond.code ({ cls := "TwistedBits", name := "keyed", desc := "()V" } : Jvm.MethodName) prog_1_method_6_code (1 : Nat) (Option.none : Option Jvm.ClassFile.FieldType)) ∈ lw_all := lw_g (lw_at lw_m0 75 rfl) rfl
theorem q82 : (Jvm.Cond.methodLink "TwistedBits" (32 : Nat) ({ cls := "TwistedBits$Ring", name := "seed", desc := "([II)V" } : Jvm.MethodName)) ∈ lw_all := lw_g (lw_at lw_m0 76 rfl) rfl
theorem q99 : (Jvm.Cond.instanceMethod ({ cls := "TwistedBits", name := "bits", desc := "(I)I" } : Jvm.MethodName)) ∈ lw_all := lw_g (lw_at lw_m0 93 rfl) rfl
theorem q100 : (Jvm.Cond.selects "TwistedBits" ({ cls := "TwistedBits", name := "bits", desc := "(I)I" } : Jvm.MethodName) ({ cls := "TwistedBits", name := "bits", desc := "(I)I" } : Jvm.MethodName)) ∈ lw_all := lw_g (lw_at lw_m0 94 rfl) rfl
theorem q101 : (Jvm.Cond.code ({ cls := "TwistedBits", name := "bits", desc := "(I)I" } : Jvm.MethodName) prog_1_method_8_code (2 : Nat) (Option.some Jvm.ClassFile.FieldType.int)) ∈ lw_all := lw_g (lw_at lw_m0 95 rfl) rfl
theorem q102 : (Jvm.Cond.methodLink "TwistedBits" (41 : Nat) ({ cls := "TwistedBits", name := "next", desc := "()I" } : Jvm.MethodName)) ∈ lw_all := lw_g (lw_at lw_m0 96 rfl) rfl
theorem q103 : (Jvm.Cond.privateMethod ({ cls := "TwistedBits", name := "next", desc := "()I" } : Jvm.MethodName)) ∈ lw_tbl := lw_at lw_m0 97 rfl
theorem q104 : (Jvm.Cond.instanceMethod ({ cls := "TwistedBits", name := "next", desc := "()I" } : Jvm.MethodName)) ∈ lw_all := lw_g (lw_at lw_m0 98 rfl) rfl
theorem q105 : (Jvm.Cond.code ({ cls := "TwistedBits", name := "next", desc := "()I" } : Jvm.MethodName) prog_1_method_7_code (2 : Nat) (Option.some Jvm.ClassFile.FieldType.int)) ∈ lw_all := lw_g (lw_at lw_m0 99 rfl) rfl
theorem q106 : (Jvm.Cond.methodLink "TwistedBits" (35 : Nat) ({ cls := "TwistedBits$Ring", name := "turned", desc := "()I" } : Jvm.MethodName)) ∈ lw_all := lw_g (lw_at lw_m0 100 rfl) rfl
theorem q115 : (Jvm.Cond.constant "TwistedBits" (39 : Nat) (-1658038656 : Int32)) ∈ lw_all := lw_g (lw_at lw_m0 109 rfl) rfl
theorem q116 : (Jvm.Cond.constant "TwistedBits" (40 : Nat) (-272236544 : Int32)) ∈ lw_all := lw_g (lw_at lw_m0 110 rfl) rfl
theorem q118 : (Jvm.Cond.instanceMethod ({ cls := "TwistedBits", name := "wide", desc := "()J" } : Jvm.MethodName)) ∈ lw_all := lw_g (lw_at lw_m0 112 rfl) rfl
theorem q119 : (Jvm.Cond.selects "TwistedBits" ({ cls := "TwistedBits", name := "wide", desc := "()J" } : Jvm.MethodName) ({ cls := "TwistedBits", name := "wide", desc := "()J" } : Jvm.MethodName)) ∈ lw_all := lw_g (lw_at lw_m0 113 rfl) rfl
theorem q120 : (Jvm.Cond.code ({ cls := "TwistedBits", name := "wide", desc := "()J" } : Jvm.MethodName) prog_1_method_9_code (3 : Nat) (Option.some Jvm.ClassFile.FieldType.long)) ∈ lw_all := lw_g (lw_at lw_m0 114 rfl) rfl
theorem q121 : (Jvm.Cond.constantLong "TwistedBits" (44 : Nat) (4294967295 : Int64)) ∈ lw_all := lw_g (lw_at lw_m0 115 rfl) rfl
theorem q123 : (Jvm.Cond.instanceMethod ({ cls := "TwistedBits", name := "coin", desc := "()Z" } : Jvm.MethodName)) ∈ lw_all := lw_g (lw_at lw_m0 117 rfl) rfl
theorem q124 : (Jvm.Cond.selects "TwistedBits" ({ cls := "TwistedBits", name := "coin", desc := "()Z" } : Jvm.MethodName) ({ cls := "TwistedBits", name := "coin", desc := "()Z" } : Jvm.MethodName)) ∈ lw_all := lw_g (lw_at lw_m0 118 rfl) rfl
theorem q125 : (Jvm.Cond.code ({ cls := "TwistedBits", name := "coin", desc := "()Z" } : Jvm.MethodName) prog_1_method_10_code (1 : Nat) (Option.some Jvm.ClassFile.FieldType.boolean)) ∈ lw_all := lw_g (lw_at lw_m0 119 rfl) rfl
theorem q127 : (Jvm.Cond.instanceMethod ({ cls := "TwistedBits", name := "skip", desc := "(I)I" } : Jvm.MethodName)) ∈ lw_all := lw_g (lw_at lw_m0 121 rfl) rfl
theorem q128 : (Jvm.Cond.selects "TwistedBits" ({ cls := "TwistedBits", name := "skip", desc := "(I)I" } : Jvm.MethodName) ({ cls := "TwistedBits", name := "skip", desc := "(I)I" } : Jvm.MethodName)) ∈ lw_all := lw_g (lw_at lw_m0 122 rfl) rfl
theorem q129 : (Jvm.Cond.code ({ cls := "TwistedBits", name := "skip", desc := "(I)I" } : Jvm.MethodName) prog_1_method_11_code (4 : Nat) (Option.some Jvm.ClassFile.FieldType.int)) ∈ lw_all := lw_g (lw_at lw_m0 123 rfl) rfl
theorem in_X0 : ∀ w ∈ wsX00, w ∈ lw_all := lw_in wsX00 [55, 57, 59] (by decide +kernel) (by decide +kernel)
end
section
/-! TwistedBitsModel -/
set_option maxRecDepth 100000
def RX2 : String := "TwistedBitsModel"
def TX2 : u_T := fun k => match k with
  | 0 => ("TwistedBitsModel", "s", "[I", true)
  | 1 => ("TwistedBitsModel", "seed", "[I", true)
  | 2 => ("TwistedBitsModel", "width", "I", false)
  | _ => ("TwistedBitsModel", "at", "I", false)
def tyX2 : Nat → FieldType := fun k => match k with
  | 0 => .array .int
  | 1 => .array .int
  | 2 => .int
  | _ => .int
abbrev wsX20 : List Cond := u_ws RX2 TX2 4
theorem nmX2 : ∀ a, a < 4 → ∀ b, b < 4 → a ≠ b → (TX2 a).2.1 ≠ (TX2 b).2.1 := by decide +kernel
theorem tyX2_ok : ∀ k, k < 4 → parseFieldDescriptor (TX2 k).2.2.1 = some (tyX2 k) := by decide +kernel
abbrev cX2_init : ByteArray := prog_4_method_1_code
def yX2_init : MethodName := ⟨RX2, "<init>", "()V"⟩
theorem dX2_init_0 : decode cX2_init 0 = .ok (.aload_n 0, 1) := by decide +kernel
theorem dX2_init_1 : decode cX2_init 1 = .ok (.invokespecial 1, 3) := by decide +kernel
theorem dX2_init_4 : decode cX2_init 4 = .ok (.aload_n 0, 1) := by decide +kernel
theorem dX2_init_5 : decode cX2_init 5 = .ok (.sipush 624, 3) := by decide +kernel
theorem dX2_init_8 : decode cX2_init 8 = .ok (.newarray .int, 2) := by decide +kernel
theorem dX2_init_10 : decode cX2_init 10 = .ok (.putfield 7, 3) := by decide +kernel
theorem dX2_init_13 : decode cX2_init 13 = .ok (.aload_n 0, 1) := by decide +kernel
theorem dX2_init_14 : decode cX2_init 14 = .ok (.sipush 1024, 3) := by decide +kernel
theorem dX2_init_17 : decode cX2_init 17 = .ok (.newarray .int, 2) := by decide +kernel
theorem dX2_init_19 : decode cX2_init 19 = .ok (.putfield 13, 3) := by decide +kernel
theorem dX2_init_22 : decode cX2_init 22 = .ok (.aload_n 0, 1) := by decide +kernel
theorem dX2_init_23 : decode cX2_init 23 = .ok (.iconst 1, 1) := by decide +kernel
theorem dX2_init_24 : decode cX2_init 24 = .ok (.putfield 16, 3) := by decide +kernel
theorem dX2_init_27 : decode cX2_init 27 = .ok (.aload_n 0, 1) := by decide +kernel
theorem dX2_init_28 : decode cX2_init 28 = .ok (.sipush 624, 3) := by decide +kernel
theorem dX2_init_31 : decode cX2_init 31 = .ok (.putfield 20, 3) := by decide +kernel
theorem dX2_init_34 : decode cX2_init 34 = .ok (.aload_n 0, 1) := by decide +kernel
theorem dX2_init_35 : decode cX2_init 35 = .ok (.sipush 5489, 3) := by decide +kernel
theorem dX2_init_38 : decode cX2_init 38 = .ok (.invokevirtual 23, 3) := by decide +kernel
theorem dX2_init_41 : decode cX2_init 41 = .ok (.return_, 1) := by decide +kernel
abbrev cX2_seed : ByteArray := prog_4_method_2_code
def yX2_seed : MethodName := ⟨RX2, "seed", "(I)V"⟩
theorem dX2_seed_0 : decode cX2_seed 0 = .ok (.aload_n 0, 1) := by decide +kernel
theorem dX2_seed_1 : decode cX2_seed 1 = .ok (.getfield 7, 3) := by decide +kernel
theorem dX2_seed_4 : decode cX2_seed 4 = .ok (.iconst 0, 1) := by decide +kernel
theorem dX2_seed_5 : decode cX2_seed 5 = .ok (.iload_n 1, 1) := by decide +kernel
theorem dX2_seed_6 : decode cX2_seed 6 = .ok (.iastore, 1) := by decide +kernel
theorem dX2_seed_7 : decode cX2_seed 7 = .ok (.iconst 1, 1) := by decide +kernel
theorem dX2_seed_8 : decode cX2_seed 8 = .ok (.istore_n 2, 1) := by decide +kernel
theorem dX2_seed_9 : decode cX2_seed 9 = .ok (.iload_n 2, 1) := by decide +kernel
theorem dX2_seed_10 : decode cX2_seed 10 = .ok (.sipush 624, 3) := by decide +kernel
theorem dX2_seed_13 : decode cX2_seed 13 = .ok (.if_icmp .ge 40, 3) := by decide +kernel
theorem dX2_seed_16 : decode cX2_seed 16 = .ok (.aload_n 0, 1) := by decide +kernel
theorem dX2_seed_17 : decode cX2_seed 17 = .ok (.getfield 7, 3) := by decide +kernel
theorem dX2_seed_20 : decode cX2_seed 20 = .ok (.iload_n 2, 1) := by decide +kernel
theorem dX2_seed_21 : decode cX2_seed 21 = .ok (.aload_n 0, 1) := by decide +kernel
theorem dX2_seed_22 : decode cX2_seed 22 = .ok (.getfield 7, 3) := by decide +kernel
theorem dX2_seed_25 : decode cX2_seed 25 = .ok (.iload_n 2, 1) := by decide +kernel
theorem dX2_seed_26 : decode cX2_seed 26 = .ok (.iconst 1, 1) := by decide +kernel
theorem dX2_seed_27 : decode cX2_seed 27 = .ok (.isub, 1) := by decide +kernel
theorem dX2_seed_28 : decode cX2_seed 28 = .ok (.iaload, 1) := by decide +kernel
theorem dX2_seed_29 : decode cX2_seed 29 = .ok (.aload_n 0, 1) := by decide +kernel
theorem dX2_seed_30 : decode cX2_seed 30 = .ok (.getfield 7, 3) := by decide +kernel
theorem dX2_seed_33 : decode cX2_seed 33 = .ok (.iload_n 2, 1) := by decide +kernel
theorem dX2_seed_34 : decode cX2_seed 34 = .ok (.iconst 1, 1) := by decide +kernel
theorem dX2_seed_35 : decode cX2_seed 35 = .ok (.isub, 1) := by decide +kernel
theorem dX2_seed_36 : decode cX2_seed 36 = .ok (.iaload, 1) := by decide +kernel
theorem dX2_seed_37 : decode cX2_seed 37 = .ok (.bipush 30, 2) := by decide +kernel
theorem dX2_seed_39 : decode cX2_seed 39 = .ok (.iushr, 1) := by decide +kernel
theorem dX2_seed_40 : decode cX2_seed 40 = .ok (.ixor, 1) := by decide +kernel
theorem dX2_seed_41 : decode cX2_seed 41 = .ok (.ldc 26, 2) := by decide +kernel
theorem dX2_seed_43 : decode cX2_seed 43 = .ok (.imul, 1) := by decide +kernel
theorem dX2_seed_44 : decode cX2_seed 44 = .ok (.iload_n 2, 1) := by decide +kernel
theorem dX2_seed_45 : decode cX2_seed 45 = .ok (.iadd, 1) := by decide +kernel
theorem dX2_seed_46 : decode cX2_seed 46 = .ok (.iastore, 1) := by decide +kernel
theorem dX2_seed_47 : decode cX2_seed 47 = .ok (.iinc 2 1, 3) := by decide +kernel
theorem dX2_seed_50 : decode cX2_seed 50 = .ok (.goto (-41), 3) := by decide +kernel
theorem dX2_seed_53 : decode cX2_seed 53 = .ok (.aload_n 0, 1) := by decide +kernel
theorem dX2_seed_54 : decode cX2_seed 54 = .ok (.sipush 624, 3) := by decide +kernel
theorem dX2_seed_57 : decode cX2_seed 57 = .ok (.putfield 20, 3) := by decide +kernel
theorem dX2_seed_60 : decode cX2_seed 60 = .ok (.return_, 1) := by decide +kernel
abbrev cX2_width : ByteArray := prog_4_method_3_code
def yX2_width : MethodName := ⟨RX2, "width", "(I)V"⟩
theorem dX2_width_0 : decode cX2_width 0 = .ok (.aload_n 0, 1) := by decide +kernel
theorem dX2_width_1 : decode cX2_width 1 = .ok (.iconst 1, 1) := by decide +kernel
theorem dX2_width_2 : decode cX2_width 2 = .ok (.iload_n 1, 1) := by decide +kernel
theorem dX2_width_3 : decode cX2_width 3 = .ok (.sipush 1023, 3) := by decide +kernel
theorem dX2_width_6 : decode cX2_width 6 = .ok (.iand, 1) := by decide +kernel
theorem dX2_width_7 : decode cX2_width 7 = .ok (.iadd, 1) := by decide +kernel
theorem dX2_width_8 : decode cX2_width 8 = .ok (.putfield 16, 3) := by decide +kernel
theorem dX2_width_11 : decode cX2_width 11 = .ok (.iconst 0, 1) := by decide +kernel
theorem dX2_width_12 : decode cX2_width 12 = .ok (.istore_n 2, 1) := by decide +kernel
theorem dX2_width_13 : decode cX2_width 13 = .ok (.iload_n 2, 1) := by decide +kernel
theorem dX2_width_14 : decode cX2_width 14 = .ok (.sipush 1024, 3) := by decide +kernel
theorem dX2_width_17 : decode cX2_width 17 = .ok (.if_icmp .ge 16, 3) := by decide +kernel
theorem dX2_width_20 : decode cX2_width 20 = .ok (.aload_n 0, 1) := by decide +kernel
theorem dX2_width_21 : decode cX2_width 21 = .ok (.getfield 13, 3) := by decide +kernel
theorem dX2_width_24 : decode cX2_width 24 = .ok (.iload_n 2, 1) := by decide +kernel
theorem dX2_width_25 : decode cX2_width 25 = .ok (.iconst 0, 1) := by decide +kernel
theorem dX2_width_26 : decode cX2_width 26 = .ok (.iastore, 1) := by decide +kernel
theorem dX2_width_27 : decode cX2_width 27 = .ok (.iinc 2 1, 3) := by decide +kernel
theorem dX2_width_30 : decode cX2_width 30 = .ok (.goto (-17), 3) := by decide +kernel
theorem dX2_width_33 : decode cX2_width 33 = .ok (.return_, 1) := by decide +kernel
abbrev cX2_key : ByteArray := prog_4_method_4_code
def yX2_key : MethodName := ⟨RX2, "key", "(IIIII)V"⟩
theorem dX2_key_0 : decode cX2_key 0 = .ok (.iload_n 1, 1) := by decide +kernel
theorem dX2_key_1 : decode cX2_key 1 = .ok (.sipush 1023, 3) := by decide +kernel
theorem dX2_key_4 : decode cX2_key 4 = .ok (.iand, 1) := by decide +kernel
theorem dX2_key_5 : decode cX2_key 5 = .ok (.aload_n 0, 1) := by decide +kernel
theorem dX2_key_6 : decode cX2_key 6 = .ok (.getfield 16, 3) := by decide +kernel
theorem dX2_key_9 : decode cX2_key 9 = .ok (.irem, 1) := by decide +kernel
theorem dX2_key_10 : decode cX2_key 10 = .ok (.istore 6, 2) := by decide +kernel
theorem dX2_key_12 : decode cX2_key 12 = .ok (.iconst 0, 1) := by decide +kernel
theorem dX2_key_13 : decode cX2_key 13 = .ok (.istore 7, 2) := by decide +kernel
theorem dX2_key_15 : decode cX2_key 15 = .ok (.iload 7, 2) := by decide +kernel
theorem dX2_key_17 : decode cX2_key 17 = .ok (.iconst 4, 1) := by decide +kernel
theorem dX2_key_18 : decode cX2_key 18 = .ok (.if_icmp .ge 56, 3) := by decide +kernel
theorem dX2_key_21 : decode cX2_key 21 = .ok (.aload_n 0, 1) := by decide +kernel
theorem dX2_key_22 : decode cX2_key 22 = .ok (.getfield 13, 3) := by decide +kernel
theorem dX2_key_25 : decode cX2_key 25 = .ok (.iload 6, 2) := by decide +kernel
theorem dX2_key_27 : decode cX2_key 27 = .ok (.iload 7, 2) := by decide +kernel
theorem dX2_key_29 : decode cX2_key 29 = .ok (.iadd, 1) := by decide +kernel
theorem dX2_key_30 : decode cX2_key 30 = .ok (.aload_n 0, 1) := by decide +kernel
theorem dX2_key_31 : decode cX2_key 31 = .ok (.getfield 16, 3) := by decide +kernel
theorem dX2_key_34 : decode cX2_key 34 = .ok (.irem, 1) := by decide +kernel
theorem dX2_key_35 : decode cX2_key 35 = .ok (.iload 7, 2) := by decide +kernel
theorem dX2_key_37 : decode cX2_key 37 = .ok (.ifCond .ne 7, 3) := by decide +kernel
theorem dX2_key_40 : decode cX2_key 40 = .ok (.iload_n 2, 1) := by decide +kernel
theorem dX2_key_41 : decode cX2_key 41 = .ok (.goto 26, 3) := by decide +kernel
theorem dX2_key_44 : decode cX2_key 44 = .ok (.iload 7, 2) := by decide +kernel
theorem dX2_key_46 : decode cX2_key 46 = .ok (.iconst 1, 1) := by decide +kernel
theorem dX2_key_47 : decode cX2_key 47 = .ok (.if_icmp .ne 7, 3) := by decide +kernel
theorem dX2_key_50 : decode cX2_key 50 = .ok (.iload_n 3, 1) := by decide +kernel
theorem dX2_key_51 : decode cX2_key 51 = .ok (.goto 16, 3) := by decide +kernel
theorem dX2_key_54 : decode cX2_key 54 = .ok (.iload 7, 2) := by decide +kernel
theorem dX2_key_56 : decode cX2_key 56 = .ok (.iconst 2, 1) := by decide +kernel
theorem dX2_key_57 : decode cX2_key 57 = .ok (.if_icmp .ne 8, 3) := by decide +kernel
theorem dX2_key_60 : decode cX2_key 60 = .ok (.iload 4, 2) := by decide +kernel
theorem dX2_key_62 : decode cX2_key 62 = .ok (.goto 5, 3) := by decide +kernel
theorem dX2_key_65 : decode cX2_key 65 = .ok (.iload 5, 2) := by decide +kernel
theorem dX2_key_67 : decode cX2_key 67 = .ok (.iastore, 1) := by decide +kernel
theorem dX2_key_68 : decode cX2_key 68 = .ok (.iinc 7 1, 3) := by decide +kernel
theorem dX2_key_71 : decode cX2_key 71 = .ok (.goto (-56), 3) := by decide +kernel
theorem dX2_key_74 : decode cX2_key 74 = .ok (.return_, 1) := by decide +kernel
abbrev cX2_keyed : ByteArray := prog_4_method_5_code
def yX2_keyed : MethodName := ⟨RX2, "keyed", "()V"⟩
theorem dX2_keyed_0 : decode cX2_keyed 0 = .ok (.aload_n 0, 1) := by decide +kernel
theorem dX2_keyed_1 : decode cX2_keyed 1 = .ok (.ldc 27, 2) := by decide +kernel
theorem dX2_keyed_3 : decode cX2_keyed 3 = .ok (.invokevirtual 23, 3) := by decide +kernel
theorem dX2_keyed_6 : decode cX2_keyed 6 = .ok (.iconst 1, 1) := by decide +kernel
theorem dX2_keyed_7 : decode cX2_keyed 7 = .ok (.istore_n 1, 1) := by decide +kernel
theorem dX2_keyed_8 : decode cX2_keyed 8 = .ok (.iconst 0, 1) := by decide +kernel
theorem dX2_keyed_9 : decode cX2_keyed 9 = .ok (.istore_n 2, 1) := by decide +kernel
theorem dX2_keyed_10 : decode cX2_keyed 10 = .ok (.aload_n 0, 1) := by decide +kernel
theorem dX2_keyed_11 : decode cX2_keyed 11 = .ok (.getfield 16, 3) := by decide +kernel
theorem dX2_keyed_14 : decode cX2_keyed 14 = .ok (.sipush 624, 3) := by decide +kernel
theorem dX2_keyed_17 : decode cX2_keyed 17 = .ok (.if_icmp .le 10, 3) := by decide +kernel
theorem dX2_keyed_20 : decode cX2_keyed 20 = .ok (.aload_n 0, 1) := by decide +kernel
theorem dX2_keyed_21 : decode cX2_keyed 21 = .ok (.getfield 16, 3) := by decide +kernel
theorem dX2_keyed_24 : decode cX2_keyed 24 = .ok (.goto 6, 3) := by decide +kernel
theorem dX2_keyed_27 : decode cX2_keyed 27 = .ok (.sipush 624, 3) := by decide +kernel
theorem dX2_keyed_30 : decode cX2_keyed 30 = .ok (.istore_n 3, 1) := by decide +kernel
theorem dX2_keyed_31 : decode cX2_keyed 31 = .ok (.iconst 0, 1) := by decide +kernel
theorem dX2_keyed_32 : decode cX2_keyed 32 = .ok (.istore 4, 2) := by decide +kernel
theorem dX2_keyed_34 : decode cX2_keyed 34 = .ok (.iload 4, 2) := by decide +kernel
theorem dX2_keyed_36 : decode cX2_keyed 36 = .ok (.iload_n 3, 1) := by decide +kernel
theorem dX2_keyed_37 : decode cX2_keyed 37 = .ok (.if_icmp .ge 95, 3) := by decide +kernel
theorem dX2_keyed_40 : decode cX2_keyed 40 = .ok (.aload_n 0, 1) := by decide +kernel
theorem dX2_keyed_41 : decode cX2_keyed 41 = .ok (.getfield 7, 3) := by decide +kernel
theorem dX2_keyed_44 : decode cX2_keyed 44 = .ok (.iload_n 1, 1) := by decide +kernel
theorem dX2_keyed_45 : decode cX2_keyed 45 = .ok (.aload_n 0, 1) := by decide +kernel
theorem dX2_keyed_46 : decode cX2_keyed 46 = .ok (.getfield 7, 3) := by decide +kernel
theorem dX2_keyed_49 : decode cX2_keyed 49 = .ok (.iload_n 1, 1) := by decide +kernel
theorem dX2_keyed_50 : decode cX2_keyed 50 = .ok (.iaload, 1) := by decide +kernel
theorem dX2_keyed_51 : decode cX2_keyed 51 = .ok (.aload_n 0, 1) := by decide +kernel
theorem dX2_keyed_52 : decode cX2_keyed 52 = .ok (.getfield 7, 3) := by decide +kernel
theorem dX2_keyed_55 : decode cX2_keyed 55 = .ok (.iload_n 1, 1) := by decide +kernel
theorem dX2_keyed_56 : decode cX2_keyed 56 = .ok (.iconst 1, 1) := by decide +kernel
theorem dX2_keyed_57 : decode cX2_keyed 57 = .ok (.isub, 1) := by decide +kernel
theorem dX2_keyed_58 : decode cX2_keyed 58 = .ok (.iaload, 1) := by decide +kernel
theorem dX2_keyed_59 : decode cX2_keyed 59 = .ok (.aload_n 0, 1) := by decide +kernel
theorem dX2_keyed_60 : decode cX2_keyed 60 = .ok (.getfield 7, 3) := by decide +kernel
theorem dX2_keyed_63 : decode cX2_keyed 63 = .ok (.iload_n 1, 1) := by decide +kernel
theorem dX2_keyed_64 : decode cX2_keyed 64 = .ok (.iconst 1, 1) := by decide +kernel
theorem dX2_keyed_65 : decode cX2_keyed 65 = .ok (.isub, 1) := by decide +kernel
theorem dX2_keyed_66 : decode cX2_keyed 66 = .ok (.iaload, 1) := by decide +kernel
theorem dX2_keyed_67 : decode cX2_keyed 67 = .ok (.bipush 30, 2) := by decide +kernel
theorem dX2_keyed_69 : decode cX2_keyed 69 = .ok (.iushr, 1) := by decide +kernel
theorem dX2_keyed_70 : decode cX2_keyed 70 = .ok (.ixor, 1) := by decide +kernel
theorem dX2_keyed_71 : decode cX2_keyed 71 = .ok (.ldc 28, 2) := by decide +kernel
theorem dX2_keyed_73 : decode cX2_keyed 73 = .ok (.imul, 1) := by decide +kernel
theorem dX2_keyed_74 : decode cX2_keyed 74 = .ok (.ixor, 1) := by decide +kernel
theorem dX2_keyed_75 : decode cX2_keyed 75 = .ok (.aload_n 0, 1) := by decide +kernel
theorem dX2_keyed_76 : decode cX2_keyed 76 = .ok (.getfield 13, 3) := by decide +kernel
theorem dX2_keyed_79 : decode cX2_keyed 79 = .ok (.iload_n 2, 1) := by decide +kernel
theorem dX2_keyed_80 : decode cX2_keyed 80 = .ok (.iaload, 1) := by decide +kernel
theorem dX2_keyed_81 : decode cX2_keyed 81 = .ok (.iadd, 1) := by decide +kernel
theorem dX2_keyed_82 : decode cX2_keyed 82 = .ok (.iload_n 2, 1) := by decide +kernel
theorem dX2_keyed_83 : decode cX2_keyed 83 = .ok (.iadd, 1) := by decide +kernel
theorem dX2_keyed_84 : decode cX2_keyed 84 = .ok (.iastore, 1) := by decide +kernel
theorem dX2_keyed_85 : decode cX2_keyed 85 = .ok (.iload_n 1, 1) := by decide +kernel
theorem dX2_keyed_86 : decode cX2_keyed 86 = .ok (.iconst 1, 1) := by decide +kernel
theorem dX2_keyed_87 : decode cX2_keyed 87 = .ok (.iadd, 1) := by decide +kernel
theorem dX2_keyed_88 : decode cX2_keyed 88 = .ok (.istore_n 1, 1) := by decide +kernel
theorem dX2_keyed_89 : decode cX2_keyed 89 = .ok (.iload_n 2, 1) := by decide +kernel
theorem dX2_keyed_90 : decode cX2_keyed 90 = .ok (.iconst 1, 1) := by decide +kernel
theorem dX2_keyed_91 : decode cX2_keyed 91 = .ok (.iadd, 1) := by decide +kernel
theorem dX2_keyed_92 : decode cX2_keyed 92 = .ok (.istore_n 2, 1) := by decide +kernel
theorem dX2_keyed_93 : decode cX2_keyed 93 = .ok (.iload_n 1, 1) := by decide +kernel
theorem dX2_keyed_94 : decode cX2_keyed 94 = .ok (.sipush 624, 3) := by decide +kernel
theorem dX2_keyed_97 : decode cX2_keyed 97 = .ok (.if_icmp .ne 19, 3) := by decide +kernel
theorem dX2_keyed_100 : decode cX2_keyed 100 = .ok (.aload_n 0, 1) := by decide +kernel
theorem dX2_keyed_101 : decode cX2_keyed 101 = .ok (.getfield 7, 3) := by decide +kernel
theorem dX2_keyed_104 : decode cX2_keyed 104 = .ok (.iconst 0, 1) := by decide +kernel
theorem dX2_keyed_105 : decode cX2_keyed 105 = .ok (.aload_n 0, 1) := by decide +kernel
theorem dX2_keyed_106 : decode cX2_keyed 106 = .ok (.getfield 7, 3) := by decide +kernel
theorem dX2_keyed_109 : decode cX2_keyed 109 = .ok (.sipush 623, 3) := by decide +kernel
theorem dX2_keyed_112 : decode cX2_keyed 112 = .ok (.iaload, 1) := by decide +kernel
theorem dX2_keyed_113 : decode cX2_keyed 113 = .ok (.iastore, 1) := by decide +kernel
theorem dX2_keyed_114 : decode cX2_keyed 114 = .ok (.iconst 1, 1) := by decide +kernel
theorem dX2_keyed_115 : decode cX2_keyed 115 = .ok (.istore_n 1, 1) := by decide +kernel
theorem dX2_keyed_116 : decode cX2_keyed 116 = .ok (.iload_n 2, 1) := by decide +kernel
theorem dX2_keyed_117 : decode cX2_keyed 117 = .ok (.aload_n 0, 1) := by decide +kernel
theorem dX2_keyed_118 : decode cX2_keyed 118 = .ok (.getfield 16, 3) := by decide +kernel
theorem dX2_keyed_121 : decode cX2_keyed 121 = .ok (.if_icmp .ne 5, 3) := by decide +kernel
theorem dX2_keyed_124 : decode cX2_keyed 124 = .ok (.iconst 0, 1) := by decide +kernel
theorem dX2_keyed_125 : decode cX2_keyed 125 = .ok (.istore_n 2, 1) := by decide +kernel
theorem dX2_keyed_126 : decode cX2_keyed 126 = .ok (.iinc 4 1, 3) := by decide +kernel
theorem dX2_keyed_129 : decode cX2_keyed 129 = .ok (.goto (-95), 3) := by decide +kernel
theorem dX2_keyed_132 : decode cX2_keyed 132 = .ok (.iconst 0, 1) := by decide +kernel
theorem dX2_keyed_133 : decode cX2_keyed 133 = .ok (.istore 4, 2) := by decide +kernel
theorem dX2_keyed_135 : decode cX2_keyed 135 = .ok (.iload 4, 2) := by decide +kernel
theorem dX2_keyed_137 : decode cX2_keyed 137 = .ok (.sipush 623, 3) := by decide +kernel
theorem dX2_keyed_140 : decode cX2_keyed 140 = .ok (.if_icmp .ge 74, 3) := by decide +kernel
theorem dX2_keyed_143 : decode cX2_keyed 143 = .ok (.aload_n 0, 1) := by decide +kernel
theorem dX2_keyed_144 : decode cX2_keyed 144 = .ok (.getfield 7, 3) := by decide +kernel
theorem dX2_keyed_147 : decode cX2_keyed 147 = .ok (.iload_n 1, 1) := by decide +kernel
theorem dX2_keyed_148 : decode cX2_keyed 148 = .ok (.aload_n 0, 1) := by decide +kernel
theorem dX2_keyed_149 : decode cX2_keyed 149 = .ok (.getfield 7, 3) := by decide +kernel
theorem dX2_keyed_152 : decode cX2_keyed 152 = .ok (.iload_n 1, 1) := by decide +kernel
theorem dX2_keyed_153 : decode cX2_keyed 153 = .ok (.iaload, 1) := by decide +kernel
theorem dX2_keyed_154 : decode cX2_keyed 154 = .ok (.aload_n 0, 1) := by decide +kernel
theorem dX2_keyed_155 : decode cX2_keyed 155 = .ok (.getfield 7, 3) := by decide +kernel
theorem dX2_keyed_158 : decode cX2_keyed 158 = .ok (.iload_n 1, 1) := by decide +kernel
theorem dX2_keyed_159 : decode cX2_keyed 159 = .ok (.iconst 1, 1) := by decide +kernel
theorem dX2_keyed_160 : decode cX2_keyed 160 = .ok (.isub, 1) := by decide +kernel
theorem dX2_keyed_161 : decode cX2_keyed 161 = .ok (.iaload, 1) := by decide +kernel
theorem dX2_keyed_162 : decode cX2_keyed 162 = .ok (.aload_n 0, 1) := by decide +kernel
theorem dX2_keyed_163 : decode cX2_keyed 163 = .ok (.getfield 7, 3) := by decide +kernel
theorem dX2_keyed_166 : decode cX2_keyed 166 = .ok (.iload_n 1, 1) := by decide +kernel
theorem dX2_keyed_167 : decode cX2_keyed 167 = .ok (.iconst 1, 1) := by decide +kernel
theorem dX2_keyed_168 : decode cX2_keyed 168 = .ok (.isub, 1) := by decide +kernel
theorem dX2_keyed_169 : decode cX2_keyed 169 = .ok (.iaload, 1) := by decide +kernel
theorem dX2_keyed_170 : decode cX2_keyed 170 = .ok (.bipush 30, 2) := by decide +kernel
theorem dX2_keyed_172 : decode cX2_keyed 172 = .ok (.iushr, 1) := by decide +kernel
theorem dX2_keyed_173 : decode cX2_keyed 173 = .ok (.ixor, 1) := by decide +kernel
theorem dX2_keyed_174 : decode cX2_keyed 174 = .ok (.ldc 29, 2) := by decide +kernel
theorem dX2_keyed_176 : decode cX2_keyed 176 = .ok (.imul, 1) := by decide +kernel
theorem dX2_keyed_177 : decode cX2_keyed 177 = .ok (.ixor, 1) := by decide +kernel
theorem dX2_keyed_178 : decode cX2_keyed 178 = .ok (.iload_n 1, 1) := by decide +kernel
theorem dX2_keyed_179 : decode cX2_keyed 179 = .ok (.isub, 1) := by decide +kernel
theorem dX2_keyed_180 : decode cX2_keyed 180 = .ok (.iastore, 1) := by decide +kernel
theorem dX2_keyed_181 : decode cX2_keyed 181 = .ok (.iload_n 1, 1) := by decide +kernel
theorem dX2_keyed_182 : decode cX2_keyed 182 = .ok (.iconst 1, 1) := by decide +kernel
theorem dX2_keyed_183 : decode cX2_keyed 183 = .ok (.iadd, 1) := by decide +kernel
theorem dX2_keyed_184 : decode cX2_keyed 184 = .ok (.istore_n 1, 1) := by decide +kernel
theorem dX2_keyed_185 : decode cX2_keyed 185 = .ok (.iload_n 1, 1) := by decide +kernel
theorem dX2_keyed_186 : decode cX2_keyed 186 = .ok (.sipush 624, 3) := by decide +kernel
theorem dX2_keyed_189 : decode cX2_keyed 189 = .ok (.if_icmp .ne 19, 3) := by decide +kernel
theorem dX2_keyed_192 : decode cX2_keyed 192 = .ok (.aload_n 0, 1) := by decide +kernel
theorem dX2_keyed_193 : decode cX2_keyed 193 = .ok (.getfield 7, 3) := by decide +kernel
theorem dX2_keyed_196 : decode cX2_keyed 196 = .ok (.iconst 0, 1) := by decide +kernel
theorem dX2_keyed_197 : decode cX2_keyed 197 = .ok (.aload_n 0, 1) := by decide +kernel
theorem dX2_keyed_198 : decode cX2_keyed 198 = .ok (.getfield 7, 3) := by decide +kernel
theorem dX2_keyed_201 : decode cX2_keyed 201 = .ok (.sipush 623, 3) := by decide +kernel
theorem dX2_keyed_204 : decode cX2_keyed 204 = .ok (.iaload, 1) := by decide +kernel
theorem dX2_keyed_205 : decode cX2_keyed 205 = .ok (.iastore, 1) := by decide +kernel
theorem dX2_keyed_206 : decode cX2_keyed 206 = .ok (.iconst 1, 1) := by decide +kernel
theorem dX2_keyed_207 : decode cX2_keyed 207 = .ok (.istore_n 1, 1) := by decide +kernel
theorem dX2_keyed_208 : decode cX2_keyed 208 = .ok (.iinc 4 1, 3) := by decide +kernel
theorem dX2_keyed_211 : decode cX2_keyed 211 = .ok (.goto (-76), 3) := by decide +kernel
theorem dX2_keyed_214 : decode cX2_keyed 214 = .ok (.aload_n 0, 1) := by decide +kernel
theorem dX2_keyed_215 : decode cX2_keyed 215 = .ok (.getfield 7, 3) := by decide +kernel
theorem dX2_keyed_218 : decode cX2_keyed 218 = .ok (.iconst 0, 1) := by decide +kernel
theorem dX2_keyed_219 : decode cX2_keyed 219 = .ok (.ldc 30, 2) := by decide +kernel
theorem dX2_keyed_221 : decode cX2_keyed 221 = .ok (.iastore, 1) := by decide +kernel
theorem dX2_keyed_222 : decode cX2_keyed 222 = .ok (.aload_n 0, 1) := by decide +kernel
theorem dX2_keyed_223 : decode cX2_keyed 223 = .ok (.sipush 624, 3) := by decide +kernel
theorem dX2_keyed_226 : decode cX2_keyed 226 = .ok (.putfield 20, 3) := by decide +kernel
theorem dX2_keyed_229 : decode cX2_keyed 229 = .ok (.return_, 1) := by decide +kernel
abbrev cX2_bits : ByteArray := prog_4_method_7_code
def yX2_bits : MethodName := ⟨RX2, "bits", "(I)I"⟩
theorem dX2_bits_0 : decode cX2_bits 0 = .ok (.aload_n 0, 1) := by decide +kernel
theorem dX2_bits_1 : decode cX2_bits 1 = .ok (.invokevirtual 35, 3) := by decide +kernel
theorem dX2_bits_4 : decode cX2_bits 4 = .ok (.bipush 31, 2) := by decide +kernel
theorem dX2_bits_6 : decode cX2_bits 6 = .ok (.iload_n 1, 1) := by decide +kernel
theorem dX2_bits_7 : decode cX2_bits 7 = .ok (.bipush 31, 2) := by decide +kernel
theorem dX2_bits_9 : decode cX2_bits 9 = .ok (.iand, 1) := by decide +kernel
theorem dX2_bits_10 : decode cX2_bits 10 = .ok (.isub, 1) := by decide +kernel
theorem dX2_bits_11 : decode cX2_bits 11 = .ok (.iushr, 1) := by decide +kernel
theorem dX2_bits_12 : decode cX2_bits 12 = .ok (.ireturn, 1) := by decide +kernel
abbrev cX2_next : ByteArray := prog_4_method_6_code
def yX2_next : MethodName := ⟨RX2, "next", "()I"⟩
theorem dX2_next_0 : decode cX2_next 0 = .ok (.aload_n 0, 1) := by decide +kernel
theorem dX2_next_1 : decode cX2_next 1 = .ok (.getfield 20, 3) := by decide +kernel
theorem dX2_next_4 : decode cX2_next 4 = .ok (.sipush 624, 3) := by decide +kernel
theorem dX2_next_7 : decode cX2_next 7 = .ok (.if_icmp .ne 86, 3) := by decide +kernel
theorem dX2_next_10 : decode cX2_next 10 = .ok (.iconst 0, 1) := by decide +kernel
theorem dX2_next_11 : decode cX2_next 11 = .ok (.istore_n 1, 1) := by decide +kernel
theorem dX2_next_12 : decode cX2_next 12 = .ok (.iload_n 1, 1) := by decide +kernel
theorem dX2_next_13 : decode cX2_next 13 = .ok (.sipush 624, 3) := by decide +kernel
theorem dX2_next_16 : decode cX2_next 16 = .ok (.if_icmp .ge 72, 3) := by decide +kernel
theorem dX2_next_19 : decode cX2_next 19 = .ok (.aload_n 0, 1) := by decide +kernel
theorem dX2_next_20 : decode cX2_next 20 = .ok (.getfield 7, 3) := by decide +kernel
theorem dX2_next_23 : decode cX2_next 23 = .ok (.iload_n 1, 1) := by decide +kernel
theorem dX2_next_24 : decode cX2_next 24 = .ok (.iaload, 1) := by decide +kernel
theorem dX2_next_25 : decode cX2_next 25 = .ok (.ldc 30, 2) := by decide +kernel
theorem dX2_next_27 : decode cX2_next 27 = .ok (.iand, 1) := by decide +kernel
theorem dX2_next_28 : decode cX2_next 28 = .ok (.aload_n 0, 1) := by decide +kernel
theorem dX2_next_29 : decode cX2_next 29 = .ok (.getfield 7, 3) := by decide +kernel
theorem dX2_next_32 : decode cX2_next 32 = .ok (.iload_n 1, 1) := by decide +kernel
theorem dX2_next_33 : decode cX2_next 33 = .ok (.iconst 1, 1) := by decide +kernel
theorem dX2_next_34 : decode cX2_next 34 = .ok (.iadd, 1) := by decide +kernel
theorem dX2_next_35 : decode cX2_next 35 = .ok (.sipush 624, 3) := by decide +kernel
theorem dX2_next_38 : decode cX2_next 38 = .ok (.irem, 1) := by decide +kernel
theorem dX2_next_39 : decode cX2_next 39 = .ok (.iaload, 1) := by decide +kernel
theorem dX2_next_40 : decode cX2_next 40 = .ok (.ldc 31, 2) := by decide +kernel
theorem dX2_next_42 : decode cX2_next 42 = .ok (.iand, 1) := by decide +kernel
theorem dX2_next_43 : decode cX2_next 43 = .ok (.ior, 1) := by decide +kernel
theorem dX2_next_44 : decode cX2_next 44 = .ok (.istore_n 2, 1) := by decide +kernel
theorem dX2_next_45 : decode cX2_next 45 = .ok (.aload_n 0, 1) := by decide +kernel
theorem dX2_next_46 : decode cX2_next 46 = .ok (.getfield 7, 3) := by decide +kernel
theorem dX2_next_49 : decode cX2_next 49 = .ok (.iload_n 1, 1) := by decide +kernel
theorem dX2_next_50 : decode cX2_next 50 = .ok (.aload_n 0, 1) := by decide +kernel
theorem dX2_next_51 : decode cX2_next 51 = .ok (.getfield 7, 3) := by decide +kernel
theorem dX2_next_54 : decode cX2_next 54 = .ok (.iload_n 1, 1) := by decide +kernel
theorem dX2_next_55 : decode cX2_next 55 = .ok (.sipush 397, 3) := by decide +kernel
theorem dX2_next_58 : decode cX2_next 58 = .ok (.iadd, 1) := by decide +kernel
theorem dX2_next_59 : decode cX2_next 59 = .ok (.sipush 624, 3) := by decide +kernel
theorem dX2_next_62 : decode cX2_next 62 = .ok (.irem, 1) := by decide +kernel
theorem dX2_next_63 : decode cX2_next 63 = .ok (.iaload, 1) := by decide +kernel
theorem dX2_next_64 : decode cX2_next 64 = .ok (.iload_n 2, 1) := by decide +kernel
theorem dX2_next_65 : decode cX2_next 65 = .ok (.iconst 1, 1) := by decide +kernel
theorem dX2_next_66 : decode cX2_next 66 = .ok (.iushr, 1) := by decide +kernel
theorem dX2_next_67 : decode cX2_next 67 = .ok (.ixor, 1) := by decide +kernel
theorem dX2_next_68 : decode cX2_next 68 = .ok (.iload_n 2, 1) := by decide +kernel
theorem dX2_next_69 : decode cX2_next 69 = .ok (.iconst 1, 1) := by decide +kernel
theorem dX2_next_70 : decode cX2_next 70 = .ok (.iand, 1) := by decide +kernel
theorem dX2_next_71 : decode cX2_next 71 = .ok (.ifCond .eq 8, 3) := by decide +kernel
theorem dX2_next_74 : decode cX2_next 74 = .ok (.ldc 32, 2) := by decide +kernel
theorem dX2_next_76 : decode cX2_next 76 = .ok (.goto 4, 3) := by decide +kernel
theorem dX2_next_79 : decode cX2_next 79 = .ok (.iconst 0, 1) := by decide +kernel
theorem dX2_next_80 : decode cX2_next 80 = .ok (.ixor, 1) := by decide +kernel
theorem dX2_next_81 : decode cX2_next 81 = .ok (.iastore, 1) := by decide +kernel
theorem dX2_next_82 : decode cX2_next 82 = .ok (.iinc 1 1, 3) := by decide +kernel
theorem dX2_next_85 : decode cX2_next 85 = .ok (.goto (-73), 3) := by decide +kernel
theorem dX2_next_88 : decode cX2_next 88 = .ok (.aload_n 0, 1) := by decide +kernel
theorem dX2_next_89 : decode cX2_next 89 = .ok (.iconst 0, 1) := by decide +kernel
theorem dX2_next_90 : decode cX2_next 90 = .ok (.putfield 20, 3) := by decide +kernel
theorem dX2_next_93 : decode cX2_next 93 = .ok (.aload_n 0, 1) := by decide +kernel
theorem dX2_next_94 : decode cX2_next 94 = .ok (.getfield 7, 3) := by decide +kernel
theorem dX2_next_97 : decode cX2_next 97 = .ok (.aload_n 0, 1) := by decide +kernel
theorem dX2_next_98 : decode cX2_next 98 = .ok (.getfield 20, 3) := by decide +kernel
theorem dX2_next_101 : decode cX2_next 101 = .ok (.iaload, 1) := by decide +kernel
theorem dX2_next_102 : decode cX2_next 102 = .ok (.istore_n 1, 1) := by decide +kernel
theorem dX2_next_103 : decode cX2_next 103 = .ok (.aload_n 0, 1) := by decide +kernel
theorem dX2_next_104 : decode cX2_next 104 = .ok (.aload_n 0, 1) := by decide +kernel
theorem dX2_next_105 : decode cX2_next 105 = .ok (.getfield 20, 3) := by decide +kernel
theorem dX2_next_108 : decode cX2_next 108 = .ok (.iconst 1, 1) := by decide +kernel
theorem dX2_next_109 : decode cX2_next 109 = .ok (.iadd, 1) := by decide +kernel
theorem dX2_next_110 : decode cX2_next 110 = .ok (.putfield 20, 3) := by decide +kernel
theorem dX2_next_113 : decode cX2_next 113 = .ok (.iload_n 1, 1) := by decide +kernel
theorem dX2_next_114 : decode cX2_next 114 = .ok (.iload_n 1, 1) := by decide +kernel
theorem dX2_next_115 : decode cX2_next 115 = .ok (.bipush 11, 2) := by decide +kernel
theorem dX2_next_117 : decode cX2_next 117 = .ok (.iushr, 1) := by decide +kernel
theorem dX2_next_118 : decode cX2_next 118 = .ok (.ixor, 1) := by decide +kernel
theorem dX2_next_119 : decode cX2_next 119 = .ok (.istore_n 1, 1) := by decide +kernel
theorem dX2_next_120 : decode cX2_next 120 = .ok (.iload_n 1, 1) := by decide +kernel
theorem dX2_next_121 : decode cX2_next 121 = .ok (.iload_n 1, 1) := by decide +kernel
theorem dX2_next_122 : decode cX2_next 122 = .ok (.bipush 7, 2) := by decide +kernel
theorem dX2_next_124 : decode cX2_next 124 = .ok (.ishl, 1) := by decide +kernel
theorem dX2_next_125 : decode cX2_next 125 = .ok (.ldc 33, 2) := by decide +kernel
theorem dX2_next_127 : decode cX2_next 127 = .ok (.iand, 1) := by decide +kernel
theorem dX2_next_128 : decode cX2_next 128 = .ok (.ixor, 1) := by decide +kernel
theorem dX2_next_129 : decode cX2_next 129 = .ok (.istore_n 1, 1) := by decide +kernel
theorem dX2_next_130 : decode cX2_next 130 = .ok (.iload_n 1, 1) := by decide +kernel
theorem dX2_next_131 : decode cX2_next 131 = .ok (.iload_n 1, 1) := by decide +kernel
theorem dX2_next_132 : decode cX2_next 132 = .ok (.bipush 15, 2) := by decide +kernel
theorem dX2_next_134 : decode cX2_next 134 = .ok (.ishl, 1) := by decide +kernel
theorem dX2_next_135 : decode cX2_next 135 = .ok (.ldc 34, 2) := by decide +kernel
theorem dX2_next_137 : decode cX2_next 137 = .ok (.iand, 1) := by decide +kernel
theorem dX2_next_138 : decode cX2_next 138 = .ok (.ixor, 1) := by decide +kernel
theorem dX2_next_139 : decode cX2_next 139 = .ok (.istore_n 1, 1) := by decide +kernel
theorem dX2_next_140 : decode cX2_next 140 = .ok (.iload_n 1, 1) := by decide +kernel
theorem dX2_next_141 : decode cX2_next 141 = .ok (.iload_n 1, 1) := by decide +kernel
theorem dX2_next_142 : decode cX2_next 142 = .ok (.bipush 18, 2) := by decide +kernel
theorem dX2_next_144 : decode cX2_next 144 = .ok (.iushr, 1) := by decide +kernel
theorem dX2_next_145 : decode cX2_next 145 = .ok (.ixor, 1) := by decide +kernel
theorem dX2_next_146 : decode cX2_next 146 = .ok (.ireturn, 1) := by decide +kernel
abbrev cX2_wide : ByteArray := prog_4_method_8_code
def yX2_wide : MethodName := ⟨RX2, "wide", "()J"⟩
theorem dX2_wide_0 : decode cX2_wide 0 = .ok (.aload_n 0, 1) := by decide +kernel
theorem dX2_wide_1 : decode cX2_wide 1 = .ok (.invokevirtual 35, 3) := by decide +kernel
theorem dX2_wide_4 : decode cX2_wide 4 = .ok (.i2l, 1) := by decide +kernel
theorem dX2_wide_5 : decode cX2_wide 5 = .ok (.lstore_n 1, 1) := by decide +kernel
theorem dX2_wide_6 : decode cX2_wide 6 = .ok (.lload_n 1, 1) := by decide +kernel
theorem dX2_wide_7 : decode cX2_wide 7 = .ok (.bipush 32, 2) := by decide +kernel
theorem dX2_wide_9 : decode cX2_wide 9 = .ok (.lshl, 1) := by decide +kernel
theorem dX2_wide_10 : decode cX2_wide 10 = .ok (.aload_n 0, 1) := by decide +kernel
theorem dX2_wide_11 : decode cX2_wide 11 = .ok (.invokevirtual 35, 3) := by decide +kernel
theorem dX2_wide_14 : decode cX2_wide 14 = .ok (.i2l, 1) := by decide +kernel
theorem dX2_wide_15 : decode cX2_wide 15 = .ok (.ldc2_w 39, 3) := by decide +kernel
theorem dX2_wide_18 : decode cX2_wide 18 = .ok (.land, 1) := by decide +kernel
theorem dX2_wide_19 : decode cX2_wide 19 = .ok (.lor, 1) := by decide +kernel
theorem dX2_wide_20 : decode cX2_wide 20 = .ok (.lreturn, 1) := by decide +kernel
abbrev cX2_coin : ByteArray := prog_4_method_9_code
def yX2_coin : MethodName := ⟨RX2, "coin", "()Z"⟩
theorem dX2_coin_0 : decode cX2_coin 0 = .ok (.aload_n 0, 1) := by decide +kernel
theorem dX2_coin_1 : decode cX2_coin 1 = .ok (.invokevirtual 35, 3) := by decide +kernel
theorem dX2_coin_4 : decode cX2_coin 4 = .ok (.bipush 31, 2) := by decide +kernel
theorem dX2_coin_6 : decode cX2_coin 6 = .ok (.iushr, 1) := by decide +kernel
theorem dX2_coin_7 : decode cX2_coin 7 = .ok (.ifCond .eq 7, 3) := by decide +kernel
theorem dX2_coin_10 : decode cX2_coin 10 = .ok (.iconst 1, 1) := by decide +kernel
theorem dX2_coin_11 : decode cX2_coin 11 = .ok (.goto 4, 3) := by decide +kernel
theorem dX2_coin_14 : decode cX2_coin 14 = .ok (.iconst 0, 1) := by decide +kernel
theorem dX2_coin_15 : decode cX2_coin 15 = .ok (.ireturn, 1) := by decide +kernel
abbrev cX2_skip : ByteArray := prog_4_method_10_code
def yX2_skip : MethodName := ⟨RX2, "skip", "(I)I"⟩
theorem dX2_skip_0 : decode cX2_skip 0 = .ok (.iconst 0, 1) := by decide +kernel
theorem dX2_skip_1 : decode cX2_skip 1 = .ok (.istore_n 2, 1) := by decide +kernel
theorem dX2_skip_2 : decode cX2_skip 2 = .ok (.iconst 0, 1) := by decide +kernel
theorem dX2_skip_3 : decode cX2_skip 3 = .ok (.istore_n 3, 1) := by decide +kernel
theorem dX2_skip_4 : decode cX2_skip 4 = .ok (.iload_n 3, 1) := by decide +kernel
theorem dX2_skip_5 : decode cX2_skip 5 = .ok (.iload_n 1, 1) := by decide +kernel
theorem dX2_skip_6 : decode cX2_skip 6 = .ok (.sipush 1023, 3) := by decide +kernel
theorem dX2_skip_9 : decode cX2_skip 9 = .ok (.iand, 1) := by decide +kernel
theorem dX2_skip_10 : decode cX2_skip 10 = .ok (.if_icmp .ge 14, 3) := by decide +kernel
theorem dX2_skip_13 : decode cX2_skip 13 = .ok (.aload_n 0, 1) := by decide +kernel
theorem dX2_skip_14 : decode cX2_skip 14 = .ok (.invokevirtual 35, 3) := by decide +kernel
theorem dX2_skip_17 : decode cX2_skip 17 = .ok (.istore_n 2, 1) := by decide +kernel
theorem dX2_skip_18 : decode cX2_skip 18 = .ok (.iinc 3 1, 3) := by decide +kernel
theorem dX2_skip_21 : decode cX2_skip 21 = .ok (.goto (-17), 3) := by decide +kernel
theorem dX2_skip_24 : decode cX2_skip 24 = .ok (.iload_n 2, 1) := by decide +kernel
theorem dX2_skip_25 : decode cX2_skip 25 = .ok (.ireturn, 1) := by decide +kernel
theorem q9 : (Jvm.Cond.initialized "TwistedBitsModel") ∈ lw_all := lw_g (lw_at lw_m0 3 rfl) rfl
theorem q131 : (Jvm.Cond.instantiable "TwistedBitsModel" (4 : Nat)) ∈ lw_all := lw_g (lw_at lw_m0 125 rfl) rfl
theorem q133 : (Jvm.Cond.instanceMethod ({ cls := "TwistedBitsModel", name := "<init>", desc := "()V" } : Jvm.MethodName)) ∈ lw_all := lw_g (lw_at lw_m0 127 rfl) rfl
theorem q134 : (Jvm.Cond.code ({ cls := "TwistedBitsModel", name := "<init>", desc := "()V" } : Jvm.MethodName) prog_4_method_1_code (1 : Nat) (Option.none : Option Jvm.ClassFile.FieldType)) ∈ lw_all := lw_g (lw_at lw_m0 128 rfl) rfl
theorem q135 : (Jvm.Cond.methodLink "TwistedBitsModel" (1 : Nat) ({ cls := "java/lang/Object", name := "<init>", desc := "()V" } : Jvm.MethodName)) ∈ lw_all := lw_g (lw_at lw_m0 129 rfl) rfl
theorem q136 : (Jvm.Cond.methodLink "TwistedBitsModel" (23 : Nat) ({ cls := "TwistedBitsModel", name := "seed", desc := "(I)V" } : Jvm.MethodName)) ∈ lw_all := lw_g (lw_at lw_m0 130 rfl) rfl
theorem q137 : (Jvm.Cond.instanceMethod ({ cls := "TwistedBitsModel", name := "seed", desc := "(I)V" } : Jvm.MethodName)) ∈ lw_all := lw_g (lw_at lw_m0 131 rfl) rfl
theorem q138 : (Jvm.Cond.selects "TwistedBitsModel" ({ cls := "TwistedBitsModel", name := "seed", desc := "(I)V" } : Jvm.MethodName) ({ cls := "TwistedBitsModel", name := "seed", desc := "(I)V" } : Jvm.MethodName)) ∈ lw_all := lw_g (lw_at lw_m0 132 rfl) rfl
theorem q139 : (Jvm.Cond.code ({ cls := "TwistedBitsModel", name := "seed", desc := "(I)V" } : Jvm.MethodName) prog_4_method_2_code (3 : Nat) (Option.none : Option Jvm.ClassFile.FieldType)) ∈ lw_all := lw_g (lw_at lw_m0 133 rfl) rfl
theorem q140 : (Jvm.Cond.constant "TwistedBitsModel" (26 : Nat) (1812433253 : Int32)) ∈ lw_all := lw_g (lw_at lw_m0 134 rfl) rfl
theorem q141 : (Jvm.Cond.fieldLink "TwistedBitsModel" (7 : Nat) "TwistedBitsModel" "s" "[I") ∈ lw_all := lw_g (lw_at lw_m0 135 rfl) rfl
theorem q142 : (Jvm.Cond.fieldLink "TwistedBitsModel" (13 : Nat) "TwistedBitsModel" "seed" "[I") ∈ lw_all := lw_g (lw_at lw_m0 136 rfl) rfl
theorem q143 : (Jvm.Cond.fieldLink "TwistedBitsModel" (16 : Nat) "TwistedBitsModel" "width" "I") ∈ lw_all := lw_g (lw_at lw_m0 137 rfl) rfl
theorem q144 : (Jvm.Cond.fieldLink "TwistedBitsModel" (20 : Nat) "TwistedBitsModel" "at" "I") ∈ lw_all := lw_g (lw_at lw_m0 138 rfl) rfl
theorem q145 : (Jvm.Cond.laysFinal "TwistedBitsModel" "TwistedBitsModel" "s" "[I") ∈ lw_all := lw_g (lw_at lw_m0 139 rfl) rfl
theorem q146 : (Jvm.Cond.soleField "TwistedBitsModel" "s") ∈ lw_all := lw_g (lw_at lw_m0 140 rfl) rfl
theorem q147 : (Jvm.Cond.laysFinal "TwistedBitsModel" "TwistedBitsModel" "seed" "[I") ∈ lw_all := lw_g (lw_at lw_m0 141 rfl) rfl
theorem q148 : (Jvm.Cond.soleField "TwistedBitsModel" "seed") ∈ lw_all := lw_g (lw_at lw_m0 142 rfl) rfl
theorem q149 : (Jvm.Cond.lays "TwistedBitsModel" "TwistedBitsModel" "width" "I") ∈ lw_all := lw_g (lw_at lw_m0 143 rfl) rfl
theorem q150 : (Jvm.Cond.soleField "TwistedBitsModel" "width") ∈ lw_all := lw_g (lw_at lw_m0 144 rfl) rfl
theorem q151 : (Jvm.Cond.lays "TwistedBitsModel" "TwistedBitsModel" "at" "I") ∈ lw_all := lw_g (lw_at lw_m0 145 rfl) rfl
theorem q152 : (Jvm.Cond.soleField "TwistedBitsModel" "at") ∈ lw_all := lw_g (lw_at lw_m0 146 rfl) rfl
theorem q153 : (Jvm.Cond.superclass "TwistedBitsModel" "java/lang/Object") ∈ lw_all := lw_g (lw_at lw_m0 147 rfl) rfl
theorem q156 : (Jvm.Cond.instanceMethod ({ cls := "TwistedBitsModel", name := "width", desc := "(I)V" } : Jvm.MethodName)) ∈ lw_all := lw_g (lw_at lw_m0 150 rfl) rfl
theorem q157 : (Jvm.Cond.selects "TwistedBitsModel" ({ cls := "TwistedBitsModel", name := "width", desc := "(I)V" } : Jvm.MethodName) ({ cls := "TwistedBitsModel", name := "width", desc := "(I)V" } : Jvm.MethodName)) ∈ lw_all := lw_g (lw_at lw_m0 151 rfl) rfl
theorem q158 : (Jvm.Cond.code ({ cls := "TwistedBitsModel", name := "width", desc := "(I)V" } : Jvm.MethodName) prog_4_method_3_code (3 : Nat) (Option.none : Option Jvm.ClassFile.FieldType)) ∈ lw_all := lw_g (lw_at lw_m0 152 rfl) rfl
theorem q160 : (Jvm.Cond.instanceMethod ({ cls := "TwistedBitsModel", name := "key", desc := "(IIIII)V" } : Jvm.MethodName)) ∈ lw_all := lw_g (lw_at lw_m0 154 rfl) rfl
theorem q161 : (Jvm.Cond.selects "TwistedBitsModel" ({ cls := "TwistedBitsModel", name := "key", desc := "(IIIII)V" } : Jvm.MethodName) ({ cls := "TwistedBitsModel", name := "key", desc := "(IIIII)V" } : Jvm.MethodName)) ∈ lw_all := lw_g (lw_at lw_m0 155 rfl) rfl
theorem q162 : (Jvm.Cond.code ({ cls := "TwistedBitsModel", name := "key", desc := "(IIIII)V" } : Jvm.MethodName) prog_4_method_4_code (8 : Nat) (Option.none : Option Jvm.ClassFile.FieldType)) ∈ lw_all := lw_g (lw_at lw_m0 156 rfl) rfl
theorem q164 : (Jvm.Cond.instanceMethod ({ cls := "TwistedBitsModel", name := "keyed", desc := "()V" } : Jvm.MethodName)) ∈ lw_all := lw_g (lw_at lw_m0 158 rfl) rfl
theorem q165 : (Jvm.Cond.selects "TwistedBitsModel" ({ cls := "TwistedBitsModel", name := "keyed", desc := "()V" } : Jvm.MethodName) ({ cls := "TwistedBitsModel", name := "keyed", desc := "()V" } : Jvm.MethodName)) ∈ lw_all := lw_g (lw_at lw_m0 159 rfl) rfl
theorem q166 : (Jvm.Cond.code ({ cls := "TwistedBitsModel", name := "keyed", desc := "()V" } : Jvm.MethodName) prog_4_method_5_code (5 : Nat) (Option.none : Option Jvm.ClassFile.FieldType)) ∈ lw_all := lw_g (lw_at lw_m0 160 rfl) rfl
theorem q167 : (Jvm.Cond.constant "TwistedBitsModel" (27 : Nat) (19650218 : Int32)) ∈ lw_all := lw_g (lw_at lw_m0 161 rfl) rfl
theorem q168 : (Jvm.Cond.constant "TwistedBitsModel" (28 : Nat) (1664525 : Int32)) ∈ lw_all := lw_g (lw_at lw_m0 162 rfl) rfl
theorem q169 : (Jvm.Cond.constant "TwistedBitsModel" (29 : Nat) (1566083941 : Int32)) ∈ lw_all := lw_g (lw_at lw_m0 163 rfl) rfl
theorem q170 : (Jvm.Cond.constant "TwistedBitsModel" (30 : Nat) (-2147483648 : Int32)) ∈ lw_all := lw_g (lw_at lw_m0 164 rfl) rfl
theorem q172 : (Jvm.Cond.instanceMethod ({ cls := "TwistedBitsModel", name := "bits", desc := "(I)I" } : Jvm.MethodName)) ∈ lw_all := lw_g (lw_at lw_m0 166 rfl) rfl
theorem q173 : (Jvm.Cond.selects "TwistedBitsModel" ({ cls := "TwistedBitsModel", name := "bits", desc := "(I)I" } : Jvm.MethodName) ({ cls := "TwistedBitsModel", name := "bits", desc := "(I)I" } : Jvm.MethodName)) ∈ lw_all := lw_g (lw_at lw_m0 167 rfl) rfl
theorem q174 : (Jvm.Cond.code ({ cls := "TwistedBitsModel", name := "bits", desc := "(I)I" } : Jvm.MethodName) prog_4_method_7_code (2 : Nat) (Option.some Jvm.ClassFile.FieldType.int)) ∈ lw_all := lw_g (lw_at lw_m0 168 rfl) rfl
theorem q175 : (Jvm.Cond.methodLink "TwistedBitsModel" (35 : Nat) ({ cls := "TwistedBitsModel", name := "next", desc := "()I" } : Jvm.MethodName)) ∈ lw_all := lw_g (lw_at lw_m0 169 rfl) rfl
theorem q176 : (Jvm.Cond.privateMethod ({ cls := "TwistedBitsModel", name := "next", desc := "()I" } : Jvm.MethodName)) ∈ lw_tbl := lw_at lw_m0 170 rfl
theorem q177 : (Jvm.Cond.instanceMethod ({ cls := "TwistedBitsModel", name := "next", desc := "()I" } : Jvm.MethodName)) ∈ lw_all := lw_g (lw_at lw_m0 171 rfl) rfl
theorem q178 : (Jvm.Cond.code ({ cls := "TwistedBitsModel", name := "next", desc := "()I" } : Jvm.MethodName) prog_4_method_6_code (3 : Nat) (Option.some Jvm.ClassFile.FieldType.int)) ∈ lw_all := lw_g (lw_at lw_m0 172 rfl) rfl
theorem q179 : (Jvm.Cond.constant "TwistedBitsModel" (31 : Nat) (2147483647 : Int32)) ∈ lw_all := lw_g (lw_at lw_m0 173 rfl) rfl
theorem q180 : (Jvm.Cond.constant "TwistedBitsModel" (32 : Nat) (-1727483681 : Int32)) ∈ lw_all := lw_g (lw_at lw_m0 174 rfl) rfl
theorem q181 : (Jvm.Cond.constant "TwistedBitsModel" (33 : Nat) (-1658038656 : Int32)) ∈ lw_all := lw_g (lw_at lw_m0 175 rfl) rfl
theorem q182 : (Jvm.Cond.constant "TwistedBitsModel" (34 : Nat) (-272236544 : Int32)) ∈ lw_all := lw_g (lw_at lw_m0 176 rfl) rfl
theorem q184 : (Jvm.Cond.instanceMethod ({ cls := "TwistedBitsModel", name := "wide", desc := "()J" } : Jvm.MethodName)) ∈ lw_all := lw_g (lw_at lw_m0 178 rfl) rfl
theorem q185 : (Jvm.Cond.selects "TwistedBitsModel" ({ cls := "TwistedBitsModel", name := "wide", desc := "()J" } : Jvm.MethodName) ({ cls := "TwistedBitsModel", name := "wide", desc := "()J" } : Jvm.MethodName)) ∈ lw_all := lw_g (lw_at lw_m0 179 rfl) rfl
theorem q186 : (Jvm.Cond.code ({ cls := "TwistedBitsModel", name := "wide", desc := "()J" } : Jvm.MethodName) prog_4_method_8_code (3 : Nat) (Option.some Jvm.ClassFile.FieldType.long)) ∈ lw_all := lw_g (lw_at lw_m0 180 rfl) rfl
theorem q187 : (Jvm.Cond.constantLong "TwistedBitsModel" (39 : Nat) (4294967295 : Int64)) ∈ lw_all := lw_g (lw_at lw_m0 181 rfl) rfl
theorem q189 : (Jvm.Cond.instanceMethod ({ cls := "TwistedBitsModel", name := "coin", desc := "()Z" } : Jvm.MethodName)) ∈ lw_all := lw_g (lw_at lw_m0 183 rfl) rfl
theorem q190 : (Jvm.Cond.selects "TwistedBitsModel" ({ cls := "TwistedBitsModel", name := "coin", desc := "()Z" } : Jvm.MethodName) ({ cls := "TwistedBitsModel", name := "coin", desc := "()Z" } : Jvm.MethodName)) ∈ lw_all := lw_g (lw_at lw_m0 184 rfl) rfl
theorem q191 : (Jvm.Cond.code ({ cls := "TwistedBitsModel", name := "coin", desc := "()Z" } : Jvm.MethodName) prog_4_method_9_code (1 : Nat) (Option.some Jvm.ClassFile.FieldType.boolean)) ∈ lw_all := lw_g (lw_at lw_m0 185 rfl) rfl
theorem q193 : (Jvm.Cond.instanceMethod ({ cls := "TwistedBitsModel", name := "skip", desc := "(I)I" } : Jvm.MethodName)) ∈ lw_all := lw_g (lw_at lw_m0 187 rfl) rfl
theorem q194 : (Jvm.Cond.selects "TwistedBitsModel" ({ cls := "TwistedBitsModel", name := "skip", desc := "(I)I" } : Jvm.MethodName) ({ cls := "TwistedBitsModel", name := "skip", desc := "(I)I" } : Jvm.MethodName)) ∈ lw_all := lw_g (lw_at lw_m0 188 rfl) rfl
theorem q195 : (Jvm.Cond.code ({ cls := "TwistedBitsModel", name := "skip", desc := "(I)I" } : Jvm.MethodName) prog_4_method_10_code (4 : Nat) (Option.some Jvm.ClassFile.FieldType.int)) ∈ lw_all := lw_g (lw_at lw_m0 189 rfl) rfl
theorem in_X2 : ∀ w ∈ wsX20, w ∈ lw_all := lw_in wsX20 [145, 147, 149, 151] (by decide +kernel) (by decide +kernel)
end
section
/-! the law's own entry -/
set_option maxRecDepth 100000
abbrev cL_law : ByteArray := code
theorem dL_law_0 : decode cL_law 0 = .ok (.new 7, 3) := by decide +kernel
theorem dL_law_3 : decode cL_law 3 = .ok (.dup, 1) := by decide +kernel
theorem dL_law_4 : decode cL_law 4 = .ok (.invokespecial 9, 3) := by decide +kernel
theorem dL_law_7 : decode cL_law 7 = .ok (.astore_n 1, 1) := by decide +kernel
theorem dL_law_8 : decode cL_law 8 = .ok (.new 10, 3) := by decide +kernel
theorem dL_law_11 : decode cL_law 11 = .ok (.dup, 1) := by decide +kernel
theorem dL_law_12 : decode cL_law 12 = .ok (.invokespecial 12, 3) := by decide +kernel
theorem dL_law_15 : decode cL_law 15 = .ok (.astore_n 2, 1) := by decide +kernel
theorem dL_law_16 : decode cL_law 16 = .ok (.iconst 0, 1) := by decide +kernel
theorem dL_law_17 : decode cL_law 17 = .ok (.istore_n 3, 1) := by decide +kernel
theorem dL_law_18 : decode cL_law 18 = .ok (.iload_n 3, 1) := by decide +kernel
theorem dL_law_19 : decode cL_law 19 = .ok (.aload_n 0, 1) := by decide +kernel
theorem dL_law_20 : decode cL_law 20 = .ok (.arraylength, 1) := by decide +kernel
theorem dL_law_21 : decode cL_law 21 = .ok (.bipush 6, 2) := by decide +kernel
theorem dL_law_23 : decode cL_law 23 = .ok (.isub, 1) := by decide +kernel
theorem dL_law_24 : decode cL_law 24 = .ok (.if_icmp .gt 249, 3) := by decide +kernel
theorem dL_law_27 : decode cL_law 27 = .ok (.aload_n 0, 1) := by decide +kernel
theorem dL_law_28 : decode cL_law 28 = .ok (.iload_n 3, 1) := by decide +kernel
theorem dL_law_29 : decode cL_law 29 = .ok (.iaload, 1) := by decide +kernel
theorem dL_law_30 : decode cL_law 30 = .ok (.bipush 7, 2) := by decide +kernel
theorem dL_law_32 : decode cL_law 32 = .ok (.iand, 1) := by decide +kernel
theorem dL_law_33 : decode cL_law 33 = .ok (.tableswitch 234 0 7 #[47, 68, 89, 150, 161, 184, 198, 211], 47) := by decide +kernel
theorem dL_law_80 : decode cL_law 80 = .ok (.aload_n 1, 1) := by decide +kernel
theorem dL_law_81 : decode cL_law 81 = .ok (.aload_n 0, 1) := by decide +kernel
theorem dL_law_82 : decode cL_law 82 = .ok (.iload_n 3, 1) := by decide +kernel
theorem dL_law_83 : decode cL_law 83 = .ok (.iconst 1, 1) := by decide +kernel
theorem dL_law_84 : decode cL_law 84 = .ok (.iadd, 1) := by decide +kernel
theorem dL_law_85 : decode cL_law 85 = .ok (.iaload, 1) := by decide +kernel
theorem dL_law_86 : decode cL_law 86 = .ok (.invokevirtual 13, 3) := by decide +kernel
theorem dL_law_89 : decode cL_law 89 = .ok (.aload_n 2, 1) := by decide +kernel
theorem dL_law_90 : decode cL_law 90 = .ok (.aload_n 0, 1) := by decide +kernel
theorem dL_law_91 : decode cL_law 91 = .ok (.iload_n 3, 1) := by decide +kernel
theorem dL_law_92 : decode cL_law 92 = .ok (.iconst 1, 1) := by decide +kernel
theorem dL_law_93 : decode cL_law 93 = .ok (.iadd, 1) := by decide +kernel
theorem dL_law_94 : decode cL_law 94 = .ok (.iaload, 1) := by decide +kernel
theorem dL_law_95 : decode cL_law 95 = .ok (.invokevirtual 17, 3) := by decide +kernel
theorem dL_law_98 : decode cL_law 98 = .ok (.goto 169, 3) := by decide +kernel
theorem dL_law_101 : decode cL_law 101 = .ok (.aload_n 1, 1) := by decide +kernel
theorem dL_law_102 : decode cL_law 102 = .ok (.aload_n 0, 1) := by decide +kernel
theorem dL_law_103 : decode cL_law 103 = .ok (.iload_n 3, 1) := by decide +kernel
theorem dL_law_104 : decode cL_law 104 = .ok (.iconst 1, 1) := by decide +kernel
theorem dL_law_105 : decode cL_law 105 = .ok (.iadd, 1) := by decide +kernel
theorem dL_law_106 : decode cL_law 106 = .ok (.iaload, 1) := by decide +kernel
theorem dL_law_107 : decode cL_law 107 = .ok (.invokevirtual 18, 3) := by decide +kernel
theorem dL_law_110 : decode cL_law 110 = .ok (.aload_n 2, 1) := by decide +kernel
theorem dL_law_111 : decode cL_law 111 = .ok (.aload_n 0, 1) := by decide +kernel
theorem dL_law_112 : decode cL_law 112 = .ok (.iload_n 3, 1) := by decide +kernel
theorem dL_law_113 : decode cL_law 113 = .ok (.iconst 1, 1) := by decide +kernel
theorem dL_law_114 : decode cL_law 114 = .ok (.iadd, 1) := by decide +kernel
theorem dL_law_115 : decode cL_law 115 = .ok (.iaload, 1) := by decide +kernel
theorem dL_law_116 : decode cL_law 116 = .ok (.invokevirtual 21, 3) := by decide +kernel
theorem dL_law_119 : decode cL_law 119 = .ok (.goto 148, 3) := by decide +kernel
theorem dL_law_122 : decode cL_law 122 = .ok (.aload_n 1, 1) := by decide +kernel
theorem dL_law_123 : decode cL_law 123 = .ok (.aload_n 0, 1) := by decide +kernel
theorem dL_law_124 : decode cL_law 124 = .ok (.iload_n 3, 1) := by decide +kernel
theorem dL_law_125 : decode cL_law 125 = .ok (.iconst 1, 1) := by decide +kernel
theorem dL_law_126 : decode cL_law 126 = .ok (.iadd, 1) := by decide +kernel
theorem dL_law_127 : decode cL_law 127 = .ok (.iaload, 1) := by decide +kernel
theorem dL_law_128 : decode cL_law 128 = .ok (.aload_n 0, 1) := by decide +kernel
theorem dL_law_129 : decode cL_law 129 = .ok (.iload_n 3, 1) := by decide +kernel
theorem dL_law_130 : decode cL_law 130 = .ok (.iconst 2, 1) := by decide +kernel
theorem dL_law_131 : decode cL_law 131 = .ok (.iadd, 1) := by decide +kernel
theorem dL_law_132 : decode cL_law 132 = .ok (.iaload, 1) := by decide +kernel
theorem dL_law_133 : decode cL_law 133 = .ok (.aload_n 0, 1) := by decide +kernel
theorem dL_law_134 : decode cL_law 134 = .ok (.iload_n 3, 1) := by decide +kernel
theorem dL_law_135 : decode cL_law 135 = .ok (.iconst 3, 1) := by decide +kernel
theorem dL_law_136 : decode cL_law 136 = .ok (.iadd, 1) := by decide +kernel
theorem dL_law_137 : decode cL_law 137 = .ok (.iaload, 1) := by decide +kernel
theorem dL_law_138 : decode cL_law 138 = .ok (.aload_n 0, 1) := by decide +kernel
theorem dL_law_139 : decode cL_law 139 = .ok (.iload_n 3, 1) := by decide +kernel
theorem dL_law_140 : decode cL_law 140 = .ok (.iconst 4, 1) := by decide +kernel
theorem dL_law_141 : decode cL_law 141 = .ok (.iadd, 1) := by decide +kernel
theorem dL_law_142 : decode cL_law 142 = .ok (.iaload, 1) := by decide +kernel
theorem dL_law_143 : decode cL_law 143 = .ok (.aload_n 0, 1) := by decide +kernel
theorem dL_law_144 : decode cL_law 144 = .ok (.iload_n 3, 1) := by decide +kernel
theorem dL_law_145 : decode cL_law 145 = .ok (.iconst 5, 1) := by decide +kernel
theorem dL_law_146 : decode cL_law 146 = .ok (.iadd, 1) := by decide +kernel
theorem dL_law_147 : decode cL_law 147 = .ok (.iaload, 1) := by decide +kernel
theorem dL_law_148 : decode cL_law 148 = .ok (.invokevirtual 22, 3) := by decide +kernel
theorem dL_law_151 : decode cL_law 151 = .ok (.aload_n 2, 1) := by decide +kernel
theorem dL_law_152 : decode cL_law 152 = .ok (.aload_n 0, 1) := by decide +kernel
theorem dL_law_153 : decode cL_law 153 = .ok (.iload_n 3, 1) := by decide +kernel
theorem dL_law_154 : decode cL_law 154 = .ok (.iconst 1, 1) := by decide +kernel
theorem dL_law_155 : decode cL_law 155 = .ok (.iadd, 1) := by decide +kernel
theorem dL_law_156 : decode cL_law 156 = .ok (.iaload, 1) := by decide +kernel
theorem dL_law_157 : decode cL_law 157 = .ok (.aload_n 0, 1) := by decide +kernel
theorem dL_law_158 : decode cL_law 158 = .ok (.iload_n 3, 1) := by decide +kernel
theorem dL_law_159 : decode cL_law 159 = .ok (.iconst 2, 1) := by decide +kernel
theorem dL_law_160 : decode cL_law 160 = .ok (.iadd, 1) := by decide +kernel
theorem dL_law_161 : decode cL_law 161 = .ok (.iaload, 1) := by decide +kernel
theorem dL_law_162 : decode cL_law 162 = .ok (.aload_n 0, 1) := by decide +kernel
theorem dL_law_163 : decode cL_law 163 = .ok (.iload_n 3, 1) := by decide +kernel
theorem dL_law_164 : decode cL_law 164 = .ok (.iconst 3, 1) := by decide +kernel
theorem dL_law_165 : decode cL_law 165 = .ok (.iadd, 1) := by decide +kernel
theorem dL_law_166 : decode cL_law 166 = .ok (.iaload, 1) := by decide +kernel
theorem dL_law_167 : decode cL_law 167 = .ok (.aload_n 0, 1) := by decide +kernel
theorem dL_law_168 : decode cL_law 168 = .ok (.iload_n 3, 1) := by decide +kernel
theorem dL_law_169 : decode cL_law 169 = .ok (.iconst 4, 1) := by decide +kernel
theorem dL_law_170 : decode cL_law 170 = .ok (.iadd, 1) := by decide +kernel
theorem dL_law_171 : decode cL_law 171 = .ok (.iaload, 1) := by decide +kernel
theorem dL_law_172 : decode cL_law 172 = .ok (.aload_n 0, 1) := by decide +kernel
theorem dL_law_173 : decode cL_law 173 = .ok (.iload_n 3, 1) := by decide +kernel
theorem dL_law_174 : decode cL_law 174 = .ok (.iconst 5, 1) := by decide +kernel
theorem dL_law_175 : decode cL_law 175 = .ok (.iadd, 1) := by decide +kernel
theorem dL_law_176 : decode cL_law 176 = .ok (.iaload, 1) := by decide +kernel
theorem dL_law_177 : decode cL_law 177 = .ok (.invokevirtual 26, 3) := by decide +kernel
theorem dL_law_180 : decode cL_law 180 = .ok (.goto 87, 3) := by decide +kernel
theorem dL_law_183 : decode cL_law 183 = .ok (.aload_n 1, 1) := by decide +kernel
theorem dL_law_184 : decode cL_law 184 = .ok (.invokevirtual 27, 3) := by decide +kernel
theorem dL_law_187 : decode cL_law 187 = .ok (.aload_n 2, 1) := by decide +kernel
theorem dL_law_188 : decode cL_law 188 = .ok (.invokevirtual 30, 3) := by decide +kernel
theorem dL_law_191 : decode cL_law 191 = .ok (.goto 76, 3) := by decide +kernel
theorem dL_law_194 : decode cL_law 194 = .ok (.aload_n 1, 1) := by decide +kernel
theorem dL_law_195 : decode cL_law 195 = .ok (.aload_n 0, 1) := by decide +kernel
theorem dL_law_196 : decode cL_law 196 = .ok (.iload_n 3, 1) := by decide +kernel
theorem dL_law_197 : decode cL_law 197 = .ok (.iconst 1, 1) := by decide +kernel
theorem dL_law_198 : decode cL_law 198 = .ok (.iadd, 1) := by decide +kernel
theorem dL_law_199 : decode cL_law 199 = .ok (.iaload, 1) := by decide +kernel
theorem dL_law_200 : decode cL_law 200 = .ok (.invokevirtual 31, 3) := by decide +kernel
theorem dL_law_203 : decode cL_law 203 = .ok (.aload_n 2, 1) := by decide +kernel
theorem dL_law_204 : decode cL_law 204 = .ok (.aload_n 0, 1) := by decide +kernel
theorem dL_law_205 : decode cL_law 205 = .ok (.iload_n 3, 1) := by decide +kernel
theorem dL_law_206 : decode cL_law 206 = .ok (.iconst 1, 1) := by decide +kernel
theorem dL_law_207 : decode cL_law 207 = .ok (.iadd, 1) := by decide +kernel
theorem dL_law_208 : decode cL_law 208 = .ok (.iaload, 1) := by decide +kernel
theorem dL_law_209 : decode cL_law 209 = .ok (.invokevirtual 35, 3) := by decide +kernel
theorem dL_law_212 : decode cL_law 212 = .ok (.if_icmp .eq 55, 3) := by decide +kernel
theorem dL_law_215 : decode cL_law 215 = .ok (.iconst 0, 1) := by decide +kernel
theorem dL_law_216 : decode cL_law 216 = .ok (.ireturn, 1) := by decide +kernel
theorem dL_law_217 : decode cL_law 217 = .ok (.aload_n 1, 1) := by decide +kernel
theorem dL_law_218 : decode cL_law 218 = .ok (.invokevirtual 36, 3) := by decide +kernel
theorem dL_law_221 : decode cL_law 221 = .ok (.aload_n 2, 1) := by decide +kernel
theorem dL_law_222 : decode cL_law 222 = .ok (.invokevirtual 40, 3) := by decide +kernel
theorem dL_law_225 : decode cL_law 225 = .ok (.lcmp, 1) := by decide +kernel
theorem dL_law_226 : decode cL_law 226 = .ok (.ifCond .eq 41, 3) := by decide +kernel
theorem dL_law_229 : decode cL_law 229 = .ok (.iconst 0, 1) := by decide +kernel
theorem dL_law_230 : decode cL_law 230 = .ok (.ireturn, 1) := by decide +kernel
theorem dL_law_231 : decode cL_law 231 = .ok (.aload_n 1, 1) := by decide +kernel
theorem dL_law_232 : decode cL_law 232 = .ok (.invokevirtual 41, 3) := by decide +kernel
theorem dL_law_235 : decode cL_law 235 = .ok (.aload_n 2, 1) := by decide +kernel
theorem dL_law_236 : decode cL_law 236 = .ok (.invokevirtual 45, 3) := by decide +kernel
theorem dL_law_239 : decode cL_law 239 = .ok (.if_icmp .eq 28, 3) := by decide +kernel
theorem dL_law_242 : decode cL_law 242 = .ok (.iconst 0, 1) := by decide +kernel
theorem dL_law_243 : decode cL_law 243 = .ok (.ireturn, 1) := by decide +kernel
theorem dL_law_244 : decode cL_law 244 = .ok (.aload_n 1, 1) := by decide +kernel
theorem dL_law_245 : decode cL_law 245 = .ok (.aload_n 0, 1) := by decide +kernel
theorem dL_law_246 : decode cL_law 246 = .ok (.iload_n 3, 1) := by decide +kernel
theorem dL_law_247 : decode cL_law 247 = .ok (.iconst 1, 1) := by decide +kernel
theorem dL_law_248 : decode cL_law 248 = .ok (.iadd, 1) := by decide +kernel
theorem dL_law_249 : decode cL_law 249 = .ok (.iaload, 1) := by decide +kernel
theorem dL_law_250 : decode cL_law 250 = .ok (.invokevirtual 46, 3) := by decide +kernel
theorem dL_law_253 : decode cL_law 253 = .ok (.aload_n 2, 1) := by decide +kernel
theorem dL_law_254 : decode cL_law 254 = .ok (.aload_n 0, 1) := by decide +kernel
theorem dL_law_255 : decode cL_law 255 = .ok (.iload_n 3, 1) := by decide +kernel
theorem dL_law_256 : decode cL_law 256 = .ok (.iconst 1, 1) := by decide +kernel
theorem dL_law_257 : decode cL_law 257 = .ok (.iadd, 1) := by decide +kernel
theorem dL_law_258 : decode cL_law 258 = .ok (.iaload, 1) := by decide +kernel
theorem dL_law_259 : decode cL_law 259 = .ok (.invokevirtual 49, 3) := by decide +kernel
theorem dL_law_262 : decode cL_law 262 = .ok (.if_icmp .eq 5, 3) := by decide +kernel
theorem dL_law_265 : decode cL_law 265 = .ok (.iconst 0, 1) := by decide +kernel
theorem dL_law_266 : decode cL_law 266 = .ok (.ireturn, 1) := by decide +kernel
theorem dL_law_267 : decode cL_law 267 = .ok (.iinc 3 6, 3) := by decide +kernel
theorem dL_law_270 : decode cL_law 270 = .ok (.goto (-252), 3) := by decide +kernel
theorem dL_law_273 : decode cL_law 273 = .ok (.iconst 1, 1) := by decide +kernel
theorem dL_law_274 : decode cL_law 274 = .ok (.ireturn, 1) := by decide +kernel
end
section
/-! RULES: contracts with one plain picture before and one behind; places as Nat; calls in one row -/
set_option maxRecDepth 100000
abbrev vwCl : List vw_C := [(RX0, TX0, 3), (RX1, TX1, 4), (RX2, TX2, 4)]
/-- what a contract starts from: the cells ws, the classes, the class d0 of int arrays -/
def tw_U (D : va_G) (d0 : ClassId) (ws : va_W) (sz : Nat) (U : State) : Prop := U.heap.size = sz ∧ va_P D vwCl ws U.heap ∧ va_K D vwCl [(d0, .int)] U ∧ va_D (fun _ => True) ws
/-- what it ends in -/
def tw_B (D : va_G) (d0 : ClassId) (A : Nat → Prop) (ws : va_W) (_ : Unit) (t : State) : Prop := va_P D vwCl ws t.heap ∧ va_K D vwCl [(d0, .int)] t ∧ va_D A ws
def tw_Mv (l : Launch) (y : MethodName) (wsM : List Cond) (rm : Room) (D : va_G) (d0 : ClassId) (av : List Value) (w0 w1 : va_W) : Prop := ∀ sz : Nat, Met l y wsM rm (va_Pc av (tw_U D d0 w0 sz)) (va_Qv (fun _ : Unit => True) (tw_B D d0 (va_A w0 sz) w1) (va_A w0 sz)) 0 0 (va_A w0 sz)
def tw_Mi (l : Launch) (y : MethodName) (wsM : List Cond) (rm : Room) (D : va_G) (d0 : ClassId) (av : List Value) (w0 w1 : va_W) (r : Int32) : Prop := ∀ sz : Nat, Met l y wsM rm (va_Pc av (tw_U D d0 w0 sz)) (va_Qi (fun x (_ : Unit) => x = r) (tw_B D d0 (va_A w0 sz) w1) (va_A w0 sz)) 0 0 (va_A w0 sz)
def tw_Ml (l : Launch) (y : MethodName) (wsM : List Cond) (rm : Room) (D : va_G) (d0 : ClassId) (av : List Value) (w0 w1 : va_W) (r : Int64) : Prop := ∀ sz : Nat, Met l y wsM rm (va_Pc av (tw_U D d0 w0 sz)) (va_Ql (fun x (_ : Unit) => x = r) (tw_B D d0 (va_A w0 sz) w1) (va_A w0 sz)) 0 0 (va_A w0 sz)
theorem tw_blind {D : va_G} {d0 : ClassId} {w0 : va_W} {sz : Nat} {av : List Value} : FrameBlind (va_Pc av (tw_U D d0 w0 sz)) := fun a U g mk q => by
  obtain ⟨q0, q1, qP, qK, qD⟩ := q
  exact ⟨q0, q1, qP, va_K.moved (u := U) (U := U.calling g mk a) (Vm.Alike.refl U.vm) qK, qD⟩
/-- a void method's contract out of a walk of its body; the walk ends by 'ret' -/
theorem tw_Mv_of {l : Launch} {y : MethodName} {cc : ByteArray} {nL : Nat} {rm : Room} {D : va_G} {d0 : ClassId} {av : List Value} {w0 w1 : va_W} {lv : List (Nat × Value)} (hy : plainName y.cls = true) (hn : (lg_sl av).length ≤ nL) (hlv : lv_args 0 av = lv)
    (body : ∀ (p : Program) (e : Env) (s : State) (m : MethodId) (below : List Frame) (meth : Method) (c : Code) (A : Nat → Prop) (Q : State → Prop) (ls : Array Slot) (H : Heap) (locs : List Loc), p.tables.exec = Jvm.exec → c.code = cc → c.maxLocals = nL → s.vm.findClass y.cls = some m.cls → (∀ w ∈ lw_all, w.before av.toArray s = true) → (∀ q : Nat, s.heap.size ≤ q → A q) → va_K D vwCl [(d0, .int)] s → va_P D vwCl w0 H → va_D A w0 → va_S A s.heap H locs → lv_has ls nL lv →
      (∀ (H : Heap) (locs : List Loc) (pc : Nat) (ls : Array Slot), decode cc pc = .ok (.return_, 1) → va_P D vwCl w1 H → va_D A w1 → va_S A s.heap H locs → W p l e rm s m av.toArray below meth c H locs 0 0 Q (F0 m pc ls [])) →
      W p l e rm s m av.toArray below meth c H locs 0 0 Q (F0 m 0 ls [])) : tw_Mv l y (ws_ y cc nL none) rm D d0 av w0 w1 := by
  intro sz
  refine Met.ofW (cc := cc) (maxL := nL) (ret := none) hy rfl ?_
  intro p e s m args below meth c s₁ B hml hv
  obtain ⟨rfl, hsz, hP, hK, hD0⟩ := hv
  have hr := B.returns
  have hts := atoms_spec (ws := ws_ y cc nL none) B.pre
  have hts : ∀ w ∈ lw_all, w.before _ s = true := fun w h => hts w (List.mem_cons_of_mem _ h)
  have hown : s.vm.findClass y.cls = some m.cls := findClass_of_methodNamed B.named
  have hlocks := B.notSynchronized
  subst hsz
  have hD := hD0.self (sz := s.heap.size)
  have hl := lv_entry av (n := nL) hn
  rw [lg_entry_eq]
  rw [hlv] at hl
  refine body p e s m below meth c (va_A w0 s.heap.size) _ _ s.heap [] B.exec B.bytes hml hown hts (fun q h => Or.inr h) hK hP hD va_S.rf hl ?_
  intro H locs pc ls hd hP hD hS
  exact W.vret B.exec B.bytes hr (fun t ht hW => ⟨⟨(), rfl, trivial, by rw [ht]; exact hP, va_K.moved hW.alike hK, hD⟩, hS.F ht⟩) hS.2.2 hd
/-- an int method's (also boolean's: rt) contract out of a walk of its body -/
theorem tw_Mi_of {l : Launch} {y : MethodName} {cc : ByteArray} {nL : Nat} {rm : Room} {D : va_G} {d0 : ClassId} {av : List Value} {w0 w1 : va_W} {r : Int32} {lv : List (Nat × Value)} (rt : FieldType) (hrt : narrow rt (.int r) = .int r) (hy : plainName y.cls = true) (hn : (lg_sl av).length ≤ nL) (hlv : lv_args 0 av = lv)
    (body : ∀ (p : Program) (e : Env) (s : State) (m : MethodId) (below : List Frame) (meth : Method) (c : Code) (A : Nat → Prop) (Q : State → Prop) (ls : Array Slot) (H : Heap) (locs : List Loc), p.tables.exec = Jvm.exec → c.code = cc → c.maxLocals = nL → s.vm.findClass y.cls = some m.cls → (∀ w ∈ lw_all, w.before av.toArray s = true) → (∀ q : Nat, s.heap.size ≤ q → A q) → va_K D vwCl [(d0, .int)] s → va_P D vwCl w0 H → va_D A w0 → va_S A s.heap H locs → lv_has ls nL lv →
      (∀ (H : Heap) (locs : List Loc) (pc : Nat) (ls : Array Slot), decode cc pc = .ok (.ireturn, 1) → va_P D vwCl w1 H → va_D A w1 → va_S A s.heap H locs → W p l e rm s m av.toArray below meth c H locs 0 0 Q (F0 m pc ls [.int r])) →
      W p l e rm s m av.toArray below meth c H locs 0 0 Q (F0 m 0 ls [])) : tw_Mi l y (ws_ y cc nL (some rt)) rm D d0 av w0 w1 r := by
  intro sz
  refine Met.ofW (cc := cc) (maxL := nL) (ret := some rt) hy rfl ?_
  intro p e s m args below meth c s₁ B hml hv
  obtain ⟨rfl, hsz, hP, hK, hD0⟩ := hv
  have hr := B.returns
  have hts := atoms_spec (ws := ws_ y cc nL (some rt)) B.pre
  have hts : ∀ w ∈ lw_all, w.before _ s = true := fun w h => hts w (List.mem_cons_of_mem _ h)
  have hown : s.vm.findClass y.cls = some m.cls := findClass_of_methodNamed B.named
  have hlocks := B.notSynchronized
  subst hsz
  have hD := hD0.self (sz := s.heap.size)
  have hl := lv_entry av (n := nL) hn
  rw [lg_entry_eq]
  rw [hlv] at hl
  refine body p e s m below meth c (va_A w0 s.heap.size) _ _ s.heap [] B.exec B.bytes hml hown hts (fun q h => Or.inr h) hK hP hD va_S.rf hl ?_
  intro H locs pc ls hd hP hD hS
  exact W.zret B.exec B.bytes hr hrt (fun t ht hW => ⟨⟨r, (), rfl, rfl, by rw [ht]; exact hP, va_K.moved hW.alike hK, hD⟩, hS.F ht⟩) hS.2.2 hd
/-- a long method's contract out of a walk of its body -/
theorem tw_Ml_of {l : Launch} {y : MethodName} {cc : ByteArray} {nL : Nat} {rm : Room} {D : va_G} {d0 : ClassId} {av : List Value} {w0 w1 : va_W} {r : Int64} {lv : List (Nat × Value)} (hy : plainName y.cls = true) (hn : (lg_sl av).length ≤ nL) (hlv : lv_args 0 av = lv)
    (body : ∀ (p : Program) (e : Env) (s : State) (m : MethodId) (below : List Frame) (meth : Method) (c : Code) (A : Nat → Prop) (Q : State → Prop) (ls : Array Slot) (H : Heap) (locs : List Loc), p.tables.exec = Jvm.exec → c.code = cc → c.maxLocals = nL → s.vm.findClass y.cls = some m.cls → (∀ w ∈ lw_all, w.before av.toArray s = true) → (∀ q : Nat, s.heap.size ≤ q → A q) → va_K D vwCl [(d0, .int)] s → va_P D vwCl w0 H → va_D A w0 → va_S A s.heap H locs → lv_has ls nL lv →
      (∀ (H : Heap) (locs : List Loc) (pc : Nat) (ls : Array Slot), decode cc pc = .ok (.lreturn, 1) → va_P D vwCl w1 H → va_D A w1 → va_S A s.heap H locs → W p l e rm s m av.toArray below meth c H locs 0 0 Q (F0 m pc ls [.long r])) →
      W p l e rm s m av.toArray below meth c H locs 0 0 Q (F0 m 0 ls [])) : tw_Ml l y (ws_ y cc nL (some .long)) rm D d0 av w0 w1 r := by
  intro sz
  refine Met.ofW (cc := cc) (maxL := nL) (ret := some .long) hy rfl ?_
  intro p e s m args below meth c s₁ B hml hv
  obtain ⟨rfl, hsz, hP, hK, hD0⟩ := hv
  have hr := B.returns
  have hts := atoms_spec (ws := ws_ y cc nL (some .long)) B.pre
  have hts : ∀ w ∈ lw_all, w.before _ s = true := fun w h => hts w (List.mem_cons_of_mem _ h)
  have hown : s.vm.findClass y.cls = some m.cls := findClass_of_methodNamed B.named
  have hlocks := B.notSynchronized
  subst hsz
  have hD := hD0.self (sz := s.heap.size)
  have hl := lv_entry av (n := nL) hn
  rw [lg_entry_eq]
  rw [hlv] at hl
  refine body p e s m below meth c (va_A w0 s.heap.size) _ _ s.heap [] B.exec B.bytes hml hown hts (fun q h => Or.inr h) hK hP hD va_S.rf hl ?_
  intro H locs pc ls hd hP hD hS
  exact W.lret B.exec B.bytes hr (fun t ht hW => ⟨⟨r, (), rfl, rfl, by rw [ht]; exact hP, va_K.moved hW.alike hK, hD⟩, hS.F ht⟩) hS.2.2 hd
/-- two classes of int arrays are one -/
theorem tw_one {D : va_G} {cl : List vw_C} {d1 d2 : ClassId} {U : State} {t1 t2 : List (ClassId × FieldType)} (h1 : va_K D cl t1 U) (h2 : va_K D cl t2 U) (i j : Nat) (e1 : t1[i]? = some (d1, .int)) (e2 : t2[j]? = some (d2, .int)) : d1 = d2 := by
  have a : U.vm.findClass ("[" ++ (FieldType.int).toString) = some d1 := (h1.2 i _ e1).2
  have b : U.vm.findClass ("[" ++ (FieldType.int).toString) = some d2 := (h2.2 j _ e2).2
  exact Option.some.inj (a.symm.trans b)
theorem tw_inc (e : Nat) : nI e + Int32.ofInt 1 = nI (e + 1) := nI_1 e
theorem tw_inc6 (e : Nat) : nI e + Int32.ofInt 6 = nI (e + 6) := nI_add e 6
theorem tw_dec (e : Nat) : nI (e + 1) + Int32.ofInt (-1) = nI e := pk_m1 e
section TwR
variable {p : Program} {l : Launch} {e : Env} {R : Room} {s : State} {m : MethodId} {args : Array Value} {below : List Frame} {meth : Method} {c : Code} {H : Heap} {locs : List Loc} {cells slots : Nat} {Q : State → Prop}
variable {cc : ByteArray} {pc : Nat} {ls : Array Slot} {rest : List Value} {D : va_G} {A : Nat → Prop} {a : Nat} {ws : va_W} {H0 : Heap}
theorem tw_top {x z : Int32} (h : x = z) (k : W p l e R s m args below meth c H locs cells slots Q (F0 m pc ls (.int z :: rest))) : W p l e R s m args below meth c H locs cells slots Q (F0 m pc ls (.int x :: rest)) := h ▸ k
theorem tw_topl {x z : Int64} (h : x = z) (k : W p l e R s m args below meth c H locs cells slots Q (F0 m pc ls (.long z :: rest))) : W p l e R s m args below meth c H locs cells slots Q (F0 m pc ls (.long x :: rest)) := h ▸ k
theorem tw_iald {cl : List vw_C} {tys : List (ClassId × FieldType)} (hexec : p.tables.exec = Jvm.exec) (hb : c.code = cc) (hK : va_K D cl tys s) (hP : va_P D cl ws H) (q0 t0 : Nat) {cA : ClassId} {n : Nat} {f : Nat → Int32} (ha : ws[q0]? = some (a, .inl (cA, n, .inl f))) (ht : tys[t0]? = some (cA, .int)) {i : Nat} (hi : i < n) (hn : n < 2 ^ 31) (hdg : decode cc pc = .ok (.iaload, 1))
    (kk : W p l e R s m args below meth c H locs cells slots Q (F0 m (pc + 1) ls (.int (f i) :: rest))) : W p l e R s m args below meth c H locs cells slots Q (F0 m pc ls (.int (nI i) :: .ref a :: rest)) := by
  refine va_iald hexec hb hK hP q0 t0 ha ht (vp_in_nI hi hn) hdg ?_
  rw [nI_clamp (Nat.lt_trans hi hn)]
  exact kk
theorem tw_iast {cl : List vw_C} {tys : List (ClassId × FieldType)} (hexec : p.tables.exec = Jvm.exec) (hb : c.code = cc) (hK : va_K D cl tys s) (hP : va_P D cl ws H) (hD : va_D A ws) (hS : va_S A H0 H locs) (q0 t0 : Nat) {cA : ClassId} {n : Nat} {f : Nat → Int32} (ha : ws[q0]? = some (a, .inl (cA, n, .inl f))) (ht : tys[t0]? = some (cA, .int)) {i : Nat} {x : Int32} (hi : i < n) (hn : n < 2 ^ 31) (hdg : decode cc pc = .ok (.iastore, 1))
    (kk : ∀ (H1 : Heap) (locs1 : List Loc), va_P D cl (ws.set q0 (a, .inl (cA, n, .inl (upd f i x)))) H1 → va_D A (ws.set q0 (a, .inl (cA, n, .inl (upd f i x)))) → va_S A H0 H1 locs1 → W p l e R s m args below meth c H1 locs1 cells slots Q (F0 m (pc + 1) ls rest)) : W p l e R s m args below meth c H locs cells slots Q (F0 m pc ls (.int x :: .int (nI i) :: .ref a :: rest)) := by
  refine va_iast hexec hb hK hP hD hS q0 t0 ha ht (vp_in_nI hi hn) hdg ?_
  rw [nI_clamp (Nat.lt_trans hi hn)]
  exact kk
theorem tw_sld (hexec : p.tables.exec = Jvm.exec) (hb : c.code = cc) {b L : Nat} {xs : Nat → Int32} (hX : va_X b L xs s H0) (hbl : b < H0.size) (hbA : ¬ A b) (hS : va_S A H0 H locs) {i : Nat} (hi : i < L) (hL : L < 2 ^ 31) (hdg : decode cc pc = .ok (.iaload, 1))
    (kk : W p l e R s m args below meth c H locs cells slots Q (F0 m (pc + 1) ls (.int (xs i) :: rest))) : W p l e R s m args below meth c H locs cells slots Q (F0 m pc ls (.int (nI i) :: .ref b :: rest)) := by
  refine va_sld hexec hb hX hbl hbA hS (vp_in_nI hi hL) hdg ?_
  rw [nI_clamp (Nat.lt_trans hi hL)]
  exact kk
theorem tw_icmp_ge (hexec : p.tables.exec = Jvm.exec) (hb : c.code = cc) {x y : Nat} {off : Int} {tgt : Nat} (hdg : decode cc pc = .ok (.if_icmp .ge off, 3)) (ht : (pc : Int) + off = (tgt : Int)) (hx : x < 2 ^ 31) (hy : y < 2 ^ 31)
    (kt : y ≤ x → W p l e R s m args below meth c H locs cells slots Q (F0 m tgt ls rest)) (kf : x < y → W p l e R s m args below meth c H locs cells slots Q (F0 m (pc + 3) ls rest)) : W p l e R s m args below meth c H locs cells slots Q (F0 m pc ls (.int (nI y) :: .int (nI x) :: rest)) :=
  lv_icmp_ge hexec hb hdg ht (fun h => kt ((nI_leI hy hx).mp h)) (fun h => kf (Nat.not_le.mp fun q => h ((nI_leI hy hx).mpr q)))
theorem tw_icmp_le (hexec : p.tables.exec = Jvm.exec) (hb : c.code = cc) {x y : Nat} {off : Int} {tgt : Nat} (hdg : decode cc pc = .ok (.if_icmp .le off, 3)) (ht : (pc : Int) + off = (tgt : Int)) (hx : x < 2 ^ 31) (hy : y < 2 ^ 31)
    (kt : x ≤ y → W p l e R s m args below meth c H locs cells slots Q (F0 m tgt ls rest)) (kf : y < x → W p l e R s m args below meth c H locs cells slots Q (F0 m (pc + 3) ls rest)) : W p l e R s m args below meth c H locs cells slots Q (F0 m pc ls (.int (nI y) :: .int (nI x) :: rest)) :=
  lv_icmp_le hexec hb hdg ht (fun h => kt ((nI_leI hx hy).mp h)) (fun h => kf (Nat.not_le.mp fun q => h ((nI_leI hx hy).mpr q)))
theorem tw_icmp_ne (hexec : p.tables.exec = Jvm.exec) (hb : c.code = cc) {x y : Nat} {off : Int} {tgt : Nat} (hdg : decode cc pc = .ok (.if_icmp .ne off, 3)) (ht : (pc : Int) + off = (tgt : Int)) (hx : x < 2 ^ 31) (hy : y < 2 ^ 31)
    (kt : ¬ x = y → W p l e R s m args below meth c H locs cells slots Q (F0 m tgt ls rest)) (kf : x = y → W p l e R s m args below meth c H locs cells slots Q (F0 m (pc + 3) ls rest)) : W p l e R s m args below meth c H locs cells slots Q (F0 m pc ls (.int (nI y) :: .int (nI x) :: rest)) :=
  lv_icmp_ne hexec hb hdg ht (fun h => kt fun q => h (by rw [q])) (fun h => kf ((nI_eq hx hy).mp h))
theorem tw_if_le (hexec : p.tables.exec = Jvm.exec) (hb : c.code = cc) {x : Nat} {off : Int} {tgt : Nat} (hdg : decode cc pc = .ok (.ifCond .le off, 3)) (ht : (pc : Int) + off = (tgt : Int)) (hx : x < 2 ^ 31)
    (kt : x = 0 → W p l e R s m args below meth c H locs cells slots Q (F0 m tgt ls rest)) (kf : 0 < x → W p l e R s m args below meth c H locs cells slots Q (F0 m (pc + 3) ls rest)) : W p l e R s m args below meth c H locs cells slots Q (F0 m pc ls (.int (nI x) :: rest)) :=
  lv_if_le hexec hb hdg ht (fun h => kt ((Nat.eq_zero_or_pos x).elim id (fun q => absurd h (nI_nle q hx)))) (fun h => kf ((Nat.eq_zero_or_pos x).elim (fun q => absurd (by rw [q, nI_0]; decide) h) id))
theorem tw_if_ne (hexec : p.tables.exec = Jvm.exec) (hb : c.code = cc) {x : Nat} {off : Int} {tgt : Nat} (hdg : decode cc pc = .ok (.ifCond .ne off, 3)) (ht : (pc : Int) + off = (tgt : Int)) (hx : x < 2 ^ 31)
    (kt : ¬ x = 0 → W p l e R s m args below meth c H locs cells slots Q (F0 m tgt ls rest)) (kf : x = 0 → W p l e R s m args below meth c H locs cells slots Q (F0 m (pc + 3) ls rest)) : W p l e R s m args below meth c H locs cells slots Q (F0 m pc ls (.int (nI x) :: rest)) :=
  lv_if_ne hexec hb hdg ht (fun h => kt fun q => h (by rw [q, nI_0])) (fun h => kf ((Nat.eq_zero_or_pos x).elim id (fun q => absurd h (nI_ne0 q hx))))
theorem tw_irem (hexec : p.tables.exec = Jvm.exec) (hb : c.code = cc) {x y : Nat} (hdg : decode cc pc = .ok (.irem, 1)) (hx : x < 2 ^ 31) (h0 : 0 < y) (hy : y < 2 ^ 31)
    (kk : W p l e R s m args below meth c H locs cells slots Q (F0 m (pc + 1) ls (.int (nI (x % y)) :: rest))) : W p l e R s m args below meth c H locs cells slots Q (F0 m pc ls (.int (nI y) :: .int (nI x) :: rest)) :=
  lv_irem hexec hb hdg (nI_ne0 h0 hy) (tw_top (pk_rem hx h0 hy) kk)
variable {y : MethodName} {bytes : ByteArray} {maxL nL n index : Nat} {ret : Option FieldType} {wsM : List Cond} {rm : Room} {own C : String} {b : Nat} {As st0 : List Value} {d0 : ClassId} {wc wr w1 : va_W} {vr : vw_C} {fs : List Value}
/-- a call of an object's void method: its cells (places isC), the rest (places isR) unchanged -/
theorem tw_cv (S : CallFix p m c cc nL s args lw_all own) (hM : tw_Mv l y wsM rm D d0 (.ref b :: As) wc w1) (cw : CallW R s args own C index y bytes maxL ret wsM rm 0 0 n)
    (hK : va_K D vwCl [(d0, .int)] s) (hP : va_P D vwCl ws H) (hD : va_D A ws) (hS : va_S A s.heap H locs) (hA : ∀ q, s.heap.size ≤ q → A q)
    (isC isR : List Nat) (ci q0 : Nat) (hPs : isC.filterMap (fun i => ws[i]?) = wc) (hn1 : va_nd isC = true) (hC : isC.map (fun i => ws[i]?) = wc.map some) (hR : isR.map (fun i => ws[i]?) = wr.map some) (hn2 : va_nd isR = true) (hdis : ∀ i ∈ isR, i ∉ isC)
    (hci : vwCl[ci]? = some vr) (hrC : vr.1 = C) (hq0 : wc[q0]? = some (b, .inr (ci, fs)))
    (hnA : As.length = n) (hsize : ls.size = nL) (hst : st0 = As.reverse ++ .ref b :: rest) (hW : (rest.map fun v => v.category).sum ≤ 8) (hdg : decode cc pc = .ok (.invokevirtual index, 3)) (hf : cells ≤ R.cells ∧ slots ≤ R.slots)
    (kk : ∀ (H : Heap) (locs : List Loc), va_P D vwCl (wr ++ w1) H → va_D A (wr ++ w1) → va_S A s.heap H locs → W p l e R s m args below meth c H locs cells slots Q (F0 m (pc + 3) ls rest)) : W p l e R s m args below meth c H locs cells slots Q (F0 m pc ls st0) := by
  subst hrC
  have hPc := hP.sub (ws' := wc) isC hPs
  have hDc := hD.sub (ws' := wc) isC hn1 hC
  have hFc := va_free (wc := wc) hD hS hA isC hC
  refine va_callv (va_runV (As := As) (rest := rest) S (hM H.size) cw ⟨tw_blind, va_recv hK hPc (ci := ci) (q0 := q0) hci hq0, fun U hU hW => ⟨rfl, by rw [hU], by rw [hU]; exact hPc, va_K.moved hW.alike hK, hDc.weaken (fun _ _ _ _ => trivial)⟩⟩ rfl hnA hsize hst (lv_room hW) hdg hf) hS (fun q _ h => hFc q h) hFc (fun u t H1 locs ht hvm hw1 hB hz1 hk1 hS => ?_)
  obtain ⟨hP1, hK1, hD1⟩ := hB
  rw [ht] at hP1
  obtain ⟨hP2, hD2⟩ := va_join (wr := wr) (w1 := w1) hP hD isC isR hC hR hn2 hdis hk1 hFc hP1 hD1
  exact kk H1 locs hP2 hD2 hS
/-- the same, of an int method -/
theorem tw_ci {r : Int32} (S : CallFix p m c cc nL s args lw_all own) (hM : tw_Mi l y wsM rm D d0 (.ref b :: As) wc w1 r) (cw : CallW R s args own C index y bytes maxL ret wsM rm 0 0 n)
    (hK : va_K D vwCl [(d0, .int)] s) (hP : va_P D vwCl ws H) (hD : va_D A ws) (hS : va_S A s.heap H locs) (hA : ∀ q, s.heap.size ≤ q → A q)
    (isC isR : List Nat) (ci q0 : Nat) (hPs : isC.filterMap (fun i => ws[i]?) = wc) (hn1 : va_nd isC = true) (hC : isC.map (fun i => ws[i]?) = wc.map some) (hR : isR.map (fun i => ws[i]?) = wr.map some) (hn2 : va_nd isR = true) (hdis : ∀ i ∈ isR, i ∉ isC)
    (hci : vwCl[ci]? = some vr) (hrC : vr.1 = C) (hq0 : wc[q0]? = some (b, .inr (ci, fs)))
    (hnA : As.length = n) (hsize : ls.size = nL) (hst : st0 = As.reverse ++ .ref b :: rest) (hW : (rest.map fun v => v.category).sum ≤ 8) (hdg : decode cc pc = .ok (.invokevirtual index, 3)) (hf : cells ≤ R.cells ∧ slots ≤ R.slots)
    (kk : ∀ (H : Heap) (locs : List Loc), va_P D vwCl (wr ++ w1) H → va_D A (wr ++ w1) → va_S A s.heap H locs → W p l e R s m args below meth c H locs cells slots Q (F0 m (pc + 3) ls (.int r :: rest))) : W p l e R s m args below meth c H locs cells slots Q (F0 m pc ls st0) := by
  subst hrC
  have hPc := hP.sub (ws' := wc) isC hPs
  have hDc := hD.sub (ws' := wc) isC hn1 hC
  have hFc := va_free (wc := wc) hD hS hA isC hC
  refine va_calli (va_runV (As := As) (rest := rest) S (hM H.size) cw ⟨tw_blind, va_recv hK hPc (ci := ci) (q0 := q0) hci hq0, fun U hU hW => ⟨rfl, by rw [hU], by rw [hU]; exact hPc, va_K.moved hW.alike hK, hDc.weaken (fun _ _ _ _ => trivial)⟩⟩ rfl hnA hsize hst (lv_room hW) hdg hf) hS (fun q _ h => hFc q h) hFc (fun x u t H1 locs ht hvm hw1 hB hz1 hk1 hS => ?_)
  obtain ⟨hP1, hK1, hD1⟩ := hB
  rw [ht] at hP1
  obtain ⟨hP2, hD2⟩ := va_join (wr := wr) (w1 := w1) hP hD isC isR hC hR hn2 hdis hk1 hFc hP1 hD1
  have hw1 : x = r := hw1
  subst hw1
  exact kk H1 locs hP2 hD2 hS
/-- the same, of a long method -/
theorem tw_cl {r : Int64} (S : CallFix p m c cc nL s args lw_all own) (hM : tw_Ml l y wsM rm D d0 (.ref b :: As) wc w1 r) (cw : CallW R s args own C index y bytes maxL ret wsM rm 0 0 n)
    (hK : va_K D vwCl [(d0, .int)] s) (hP : va_P D vwCl ws H) (hD : va_D A ws) (hS : va_S A s.heap H locs) (hA : ∀ q, s.heap.size ≤ q → A q)
    (isC isR : List Nat) (ci q0 : Nat) (hPs : isC.filterMap (fun i => ws[i]?) = wc) (hn1 : va_nd isC = true) (hC : isC.map (fun i => ws[i]?) = wc.map some) (hR : isR.map (fun i => ws[i]?) = wr.map some) (hn2 : va_nd isR = true) (hdis : ∀ i ∈ isR, i ∉ isC)
    (hci : vwCl[ci]? = some vr) (hrC : vr.1 = C) (hq0 : wc[q0]? = some (b, .inr (ci, fs)))
    (hnA : As.length = n) (hsize : ls.size = nL) (hst : st0 = As.reverse ++ .ref b :: rest) (hW : (rest.map fun v => v.category).sum ≤ 8) (hdg : decode cc pc = .ok (.invokevirtual index, 3)) (hf : cells ≤ R.cells ∧ slots ≤ R.slots)
    (kk : ∀ (H : Heap) (locs : List Loc), va_P D vwCl (wr ++ w1) H → va_D A (wr ++ w1) → va_S A s.heap H locs → W p l e R s m args below meth c H locs cells slots Q (F0 m (pc + 3) ls (.long r :: rest))) : W p l e R s m args below meth c H locs cells slots Q (F0 m pc ls st0) := by
  subst hrC
  have hPc := hP.sub (ws' := wc) isC hPs
  have hDc := hD.sub (ws' := wc) isC hn1 hC
  have hFc := va_free (wc := wc) hD hS hA isC hC
  refine va_calll (va_runV (As := As) (rest := rest) S (hM H.size) cw ⟨tw_blind, va_recv hK hPc (ci := ci) (q0 := q0) hci hq0, fun U hU hW => ⟨rfl, by rw [hU], by rw [hU]; exact hPc, va_K.moved hW.alike hK, hDc.weaken (fun _ _ _ _ => trivial)⟩⟩ rfl hnA hsize hst (lv_room hW) hdg hf) hS (fun q _ h => hFc q h) hFc (fun x u t H1 locs ht hvm hw1 hB hz1 hk1 hS => ?_)
  obtain ⟨hP1, hK1, hD1⟩ := hB
  rw [ht] at hP1
  obtain ⟨hP2, hD2⟩ := va_join (wr := wr) (w1 := w1) hP hD isC isR hC hR hn2 hdis hk1 hFc hP1 hD1
  have hw1 : x = r := hw1
  subst hw1
  exact kk H1 locs hP2 hD2 hS
/-- a call of a static int method that needs no cell -/
theorem tw_cs {r : Int32} (S : CallFix p m c cc nL s args lw_all own) (hM : tw_Mi l y wsM rm D d0 As [] [] r) (cw : CallB R s args own index y bytes maxL ret wsM rm 0 0 n ∧ (Cond.static y).before args s = true)
    (hK : va_K D vwCl [(d0, .int)] s) (hP : va_P D vwCl ws H) (hD : va_D A ws) (hS : va_S A s.heap H locs) (hA : ∀ q, s.heap.size ≤ q → A q)
    (hnA : As.length = n) (hsize : ls.size = nL) (hst : st0 = As.reverse ++ rest) (hW : (rest.map fun v => v.category).sum ≤ 8) (hdg : decode cc pc = .ok (.invokestatic index, 3)) (hf : cells ≤ R.cells ∧ slots ≤ R.slots)
    (kk : ∀ (H : Heap) (locs : List Loc), va_P D vwCl ws H → va_S A s.heap H locs → W p l e R s m args below meth c H locs cells slots Q (F0 m (pc + 3) ls (.int r :: rest))) : W p l e R s m args below meth c H locs cells slots Q (F0 m pc ls st0) := by
  have hFc : ∀ q, va_A [] H.size q → A q := va_free (wc := []) hD hS hA [] rfl
  refine va_calli (va_runS (As := As) (rest := rest) S (hM H.size) cw ⟨tw_blind, fun U hU hW => ⟨rfl, by rw [hU], (fun k q h => by simp at h), va_K.moved hW.alike hK, ⟨fun i j p q h => by simp at h, fun k q h => by simp at h⟩⟩⟩ rfl hnA hsize hst (lv_room hW) hdg hf) hS (fun q _ h => hFc q h) hFc (fun x u t H1 locs ht hvm hw1 hB hz1 hk1 hS => ?_)
  have hw1 : x = r := hw1
  subst hw1
  refine kk H1 locs (hP.kept (fun k q hk => hk1 q.1 ((hP k q hk).lt) (fun h => ?_))) hS
  rcases h with ⟨k2, e2, h⟩ | h
  · simp at h
  · exact absurd ((hP k q hk).lt) (Nat.not_lt.mpr h)
end TwR
end
section
/-! PURE: what the class and the reference compute, and that they answer alike (no machine in sight) -/
def tw_us (x n : Int32) : Int32 := (x.toUInt32 >>> (n.toUInt32 &&& Int32.toUInt32 31)).toInt32
def tw_mx (x : Int32) : Int32 := x ^^^ tw_us x 30
def tw_sd (f : Nat → Int32) : Nat → Nat → Int32
  | 0 => f
  | n + 1 => upd (tw_sd f n) (n + 1) (tw_mx (tw_sd f n n) * 1812433253 + nI (n + 1))
/-- the row behind seed(v) -/
def tw_seed (f : Nat → Int32) (v : Int32) : Nat → Int32 := tw_sd (upd f 0 v) 623
def tw_oi (i : Nat) : Nat := if i + 1 < 624 then i + 1 else 1
def tw_of (f : Nat → Int32) (i : Nat) : Nat → Int32 := if i + 1 < 624 then f else upd f 0 (f 623)
def tw_a1 (g f : Nat → Int32) (i j : Nat) : Nat → Int32 := upd f i ((f i ^^^ tw_mx (f (i - 1)) * 1664525) + g j + nI j)
def tw_a2 (f : Nat → Int32) (i : Nat) : Nat → Int32 := upd f i ((f i ^^^ tw_mx (f (i - 1)) * 1566083941) - nI i)
def tw_jn (n j : Nat) : Nat := if j + 1 = n then 0 else j + 1
/-- k steps of the first go -/
def tw_K1 (g : Nat → Int32) (n : Nat) : Nat → (Nat → Int32) → Nat → Nat → (Nat → Int32) × Nat
  | 0, f, i, _ => (f, i)
  | k + 1, f, i, j => tw_K1 g n k (tw_of (tw_a1 g f i j) i) (tw_oi i) (tw_jn n j)
/-- k steps of the second go -/
def tw_K2 : Nat → (Nat → Int32) → Nat → Nat → Int32
  | 0, f, _ => f
  | k + 1, f, i => tw_K2 k (tw_of (tw_a2 f i) i) (tw_oi i)
/-- the row behind keyed() -/
def tw_keyed (f g : Nat → Int32) (n : Nat) : Nat → Int32 := upd (tw_K2 623 (tw_K1 g n (max 624 n) (tw_seed f 19650218) 1 0).1 (tw_K1 g n (max 624 n) (tw_seed f 19650218) 1 0).2) 0 (-2147483648)
def tw_w (x y : Int32) : Int32 := (x &&& (-2147483648)) ||| (y &&& 2147483647)
def tw_tv (x y z : Int32) : Int32 := (z ^^^ tw_us (tw_w x y) 1) ^^^ ((-(tw_w x y &&& 1)) &&& (-1727483681))
def tw_tm (x y z : Int32) : Int32 := (z ^^^ tw_us (tw_w x y) 1) ^^^ (if tw_w x y &&& 1 = 0 then 0 else (-1727483681))
def tw_nx (a : Nat) : Nat := if a + 1 = 624 then 0 else a + 1
def tw_fr (a : Nat) : Nat := (a + 397) % 624
/-- turned(): its answer, the row behind it -/
def tw_xv (f : Nat → Int32) (a : Nat) : Int32 := tw_tv (f a) (f (tw_nx a)) (f (tw_fr a))
def tw_tf (f : Nat → Int32) (a : Nat) : Nat → Int32 := upd f a (tw_xv f a)
/-- the reference's turning of one place, of n places -/
def tw_tn (f : Nat → Int32) (k : Nat) : Nat → Int32 := upd f k (tw_tm (f k) (f ((k + 1) % 624)) (f ((k + 397) % 624)))
def tw_T (f : Nat → Int32) : Nat → Nat → Int32
  | 0 => f
  | n + 1 => tw_tn (tw_T f n) n
def tw_mf (f : Nat → Int32) (t : Nat) : Nat → Int32 := if t = 624 then tw_T f 624 else f
def tw_mt (t : Nat) : Nat := if t = 624 then 0 else t
def tw_mv (f : Nat → Int32) (t : Nat) : Int32 := tw_mf f t (tw_mt t)
def tw_p1 (y : Int32) : Int32 := y ^^^ tw_us y 11
def tw_p2 (y : Int32) : Int32 := y ^^^ ((y <<< ((7 : Int32) &&& 31)) &&& (-1658038656))
def tw_p3 (y : Int32) : Int32 := y ^^^ ((y <<< ((15 : Int32) &&& 31)) &&& (-272236544))
def tw_p4 (y : Int32) : Int32 := y ^^^ tw_us y 18
def tw_tp (y : Int32) : Int32 := tw_p4 (tw_p3 (tw_p2 (tw_p1 y)))
def tw_bt (o n : Int32) : Int32 := tw_us o (31 - (n &&& 31))
def tw_wd (o1 o2 : Int32) : Int64 := (o1.toInt64 <<< ((32 : Int32).toInt64 &&& 63)) ||| (o2.toInt64 &&& 4294967295)
def tw_lo (n : Int32) : Nat := n.toBitVec.toNat % 1024
def tw_xs : Nat → (Nat → Int32) → Nat → Int32 → (Nat → Int32) × Nat × Int32
  | 0, f, a, v => (f, a, v)
  | k + 1, f, a, _ => tw_xs k (tw_tf f a) (tw_nx a) (tw_tp (tw_xv f a))
def tw_ms : Nat → (Nat → Int32) → Nat → Int32 → (Nat → Int32) × Nat × Int32
  | 0, f, t, v => (f, t, v)
  | k + 1, f, t, _ => tw_ms k (tw_mf f t) (tw_mt t + 1) (tw_tp (tw_mv f t))
def tw_z (g : Nat → Int32) : Nat → Nat → Int32
  | 0 => g
  | n + 1 => upd (tw_z g n) n 0
def tw_xk (g : Nat → Int32) (n i : Nat) (a b c d : Int32) : Nat → Int32 := upd (upd (upd (upd g i a) (tw_jn n i) b) (tw_jn n (tw_jn n i)) c) (tw_jn n (tw_jn n (tw_jn n i))) d
def tw_mk (g : Nat → Int32) (n i : Nat) (a b c d : Int32) : Nat → Int32 := upd (upd (upd (upd g ((i + 0) % n) a) ((i + 1) % n) b) ((i + 2) % n) c) ((i + 3) % n) d
-- laws
theorem tw_lo_lt (n : Int32) : tw_lo n < 1024 := Nat.mod_lt _ (by decide)
theorem tw_lo_and (n : Int32) : n &&& 1023 = nI (tw_lo n) := pk_and n 10 (by decide)
theorem tw_nx_lt {a : Nat} (h : a < 624) : tw_nx a < 624 := by
  unfold tw_nx
  split <;> omega
theorem tw_fr_lt (a : Nat) : tw_fr a < 624 := Nat.mod_lt _ (by decide)
theorem tw_fr_nx {a : Nat} (h : a < 624) : tw_nx (tw_fr a) = tw_fr (tw_nx a) := by
  unfold tw_nx tw_fr
  split <;> split <;> omega
theorem tw_oi_in {i : Nat} (h : i < 624) : 1 ≤ tw_oi i ∧ tw_oi i < 624 := by
  unfold tw_oi
  split <;> omega
theorem tw_jn_lt {n j : Nat} (h : j < n) : tw_jn n j < n := by
  unfold tw_jn
  split <;> omega
theorem tw_sd_eq {f f' : Nat → Int32} (h0 : f 0 = f' 0) : ∀ (n j : Nat), (j ≤ n ∨ f j = f' j) → tw_sd f n j = tw_sd f' n j := by
  intro n
  induction n with
  | zero =>
    intro j h
    rcases h with h | h
    · have e : j = 0 := by omega
      subst e
      exact h0
    · exact h
  | succ n ih =>
    intro j h
    have hn := ih n (Or.inl (Nat.le_refl n))
    show upd _ _ _ j = upd _ _ _ j
    by_cases hj : j = n + 1
    · rw [hj, pk_us, pk_us, hn]
    · rw [pk_un hj, pk_un hj]
      exact ih j (h.imp (fun q => by omega) id)
theorem tw_seed_eq {f f' : Nat → Int32} (v : Int32) (h : ∀ j, 624 ≤ j → f j = f' j) : tw_seed f v = tw_seed f' v := by
  funext j
  unfold tw_seed
  generalize h6 : 623 = N
  refine tw_sd_eq (by rw [pk_us, pk_us]) N j ?_
  by_cases hj : j ≤ N
  · exact Or.inl hj
  · exact Or.inr (by rw [pk_un (by omega), pk_un (by omega)]; exact h j (by omega))
theorem tw_bit (w : Int32) : (-(w &&& 1)) &&& (-1727483681) = if w &&& 1 = 0 then 0 else (-1727483681) := by
  obtain ⟨j, hj, e⟩ := pk_andE w (m := 1) 1 (by decide)
  rw [e]
  have h : j = 0 ∨ j = 1 := by omega
  rcases h with rfl | rfl <;> decide +kernel
theorem tw_tv_tm (x y z : Int32) : tw_tv x y z = tw_tm x y z := by
  unfold tw_tv tw_tm
  rw [tw_bit]
theorem tw_nx_mod {a : Nat} (h : a < 624) : tw_nx a = (a + 1) % 624 := by
  unfold tw_nx
  split <;> omega
theorem tw_tf_tn (f : Nat → Int32) {a : Nat} (h : a < 624) : tw_tf f a = tw_tn f a := by
  unfold tw_tf tw_tn tw_xv
  rw [tw_tv_tm, tw_nx_mod h]
  rfl
theorem tw_T_out (f : Nat → Int32) : ∀ (n j : Nat), n ≤ j → tw_T f n j = f j := by
  intro n
  induction n with
  | zero => intro j _; rfl
  | succ n ih =>
    intro j h
    show upd _ _ _ j = f j
    rw [pk_un (by omega)]
    exact ih j (by omega)
theorem tw_T_at (f : Nat → Int32) (k : Nat) : ∀ n : Nat, k < n → tw_T f n k = tw_T f (k + 1) k := by
  intro n
  induction n with
  | zero => intro h; exact absurd h (Nat.not_lt_zero k)
  | succ n ih =>
    intro h
    by_cases hk : k = n
    · rw [hk]
    · refine Eq.trans ?_ (ih (by omega))
      show upd _ _ _ k = _
      rw [pk_un hk]
/-- what stands between the class's row (its place a) and the reference's (its place t) -/
def tw_R (f : Nat → Int32) (a : Nat) (f' : Nat → Int32) (t : Nat) : Prop := (t = 624 ∧ a = 0 ∧ f = f') ∨ (t < 624 ∧ a = t ∧ ∃ o, f' = tw_T o 624 ∧ f = tw_T o t)
theorem tw_R_lt {f f' : Nat → Int32} {a t : Nat} (h : tw_R f a f' t) : a < 624 ∧ t ≤ 624 := by
  rcases h with ⟨h1, h2, -⟩ | ⟨h1, h2, -⟩ <;> omega
theorem tw_R_out {f f' : Nat → Int32} {a t : Nat} (h : tw_R f a f' t) : ∀ j, 624 ≤ j → f j = f' j := by
  intro j hj
  rcases h with ⟨-, -, h⟩ | ⟨h1, -, o, h2, h3⟩
  · rw [h]
  · rw [h2, h3, tw_T_out o t j (by omega), tw_T_out o 624 j hj]
theorem tw_R_same (f : Nat → Int32) : tw_R f 0 f 624 := Or.inl ⟨rfl, rfl, rfl⟩
theorem tw_tf_at (f : Nat → Int32) (a : Nat) : tw_tf f a a = tw_xv f a := pk_us
theorem tw_R_next {f f' : Nat → Int32} {a t : Nat} (h : tw_R f a f' t) : tw_xv f a = tw_mv f' t ∧ tw_R (tw_tf f a) (tw_nx a) (tw_mf f' t) (tw_mt t + 1) := by
  rcases h with ⟨h1, h2, h3⟩ | ⟨h1, h2, o, h3, h4⟩
  · subst h1; subst h2; subst h3
    have e1 : tw_tf f 0 = tw_T f (0 + 1) := tw_tf_tn f (by decide)
    have e2 : tw_mf f 624 = tw_T f 624 := if_pos rfl
    have e3 : tw_mt 624 = 0 := rfl
    refine ⟨?_, Or.inr ⟨by rw [e3]; decide, by rw [e3]; rfl, f, e2, by rw [e1, e3]⟩⟩
    rw [← tw_tf_at, e1, ← tw_T_at f 0 624 (by decide)]
    unfold tw_mv
    rw [e2, e3]
  · subst h2; subst h3
    have e1 : tw_tf f a = tw_T o (a + 1) := by rw [tw_tf_tn f h1, h4]; rfl
    have e2 : tw_mf (tw_T o 624) a = tw_T o 624 := if_neg (by omega)
    have e3 : tw_mt a = a := if_neg (by omega)
    refine ⟨?_, ?_⟩
    · rw [← tw_tf_at, e1, ← tw_T_at o a 624 h1]
      unfold tw_mv
      rw [e2, e3]
    · rw [e1, e2, e3]
      by_cases h6 : a + 1 = 624
      · exact Or.inl ⟨h6, if_pos h6, by rw [h6]⟩
      · exact Or.inr ⟨by omega, if_neg h6, o, rfl, rfl⟩
theorem tw_R_skip : ∀ (k : Nat) (f f' : Nat → Int32) (a t : Nat) (v : Int32), tw_R f a f' t → (tw_xs k f a v).2.2 = (tw_ms k f' t v).2.2 ∧ tw_R (tw_xs k f a v).1 (tw_xs k f a v).2.1 (tw_ms k f' t v).1 (tw_ms k f' t v).2.1 := by
  intro k
  induction k with
  | zero => intro f f' a t v h; exact ⟨rfl, h⟩
  | succ k ih =>
    intro f f' a t v h
    obtain ⟨h1, h2⟩ := tw_R_next h
    have h3 := ih _ _ _ _ (tw_tp (tw_xv f a)) h2
    show (tw_xs k _ _ _).2.2 = (tw_ms k _ _ (tw_tp (tw_mv f' t))).2.2 ∧ tw_R (tw_xs k _ _ _).1 (tw_xs k _ _ _).2.1 (tw_ms k _ _ (tw_tp (tw_mv f' t))).1 (tw_ms k _ _ (tw_tp (tw_mv f' t))).2.1
    rw [← h1]
    exact h3
theorem tw_K1_eq {g g' : Nat → Int32} {n : Nat} (h : ∀ j, j < n → g j = g' j) : ∀ (k : Nat) (f : Nat → Int32) (i j : Nat), j < n → tw_K1 g n k f i j = tw_K1 g' n k f i j := by
  intro k
  induction k with
  | zero => intro f i j _; rfl
  | succ k ih =>
    intro f i j hj
    show tw_K1 g n k _ _ _ = tw_K1 g' n k _ _ _
    rw [show tw_a1 g f i j = tw_a1 g' f i j from by unfold tw_a1; rw [h j hj]]
    exact ih _ _ _ (tw_jn_lt hj)
theorem tw_keyed_eq {f f' g g' : Nat → Int32} {n : Nat} (hf : ∀ j, 624 ≤ j → f j = f' j) (hg : ∀ j, j < n → g j = g' j) (hn : 0 < n) : tw_keyed f g n = tw_keyed f' g' n := by
  unfold tw_keyed
  rw [tw_seed_eq 19650218 hf, tw_K1_eq hg (max 624 n) _ 1 0 hn]
theorem tw_z_at (g : Nat → Int32) : ∀ (n j : Nat), j < n → tw_z g n j = 0 := by
  intro n
  induction n with
  | zero => intro j h; exact absurd h (Nat.not_lt_zero j)
  | succ n ih =>
    intro j h
    show upd _ _ _ j = 0
    by_cases hj : j = n
    · rw [hj, pk_us]
    · rw [pk_un hj]
      exact ih j (by omega)
theorem tw_upd_ag {g g' : Nat → Int32} {n : Nat} (h : ∀ j, j < n → g j = g' j) (i : Nat) (x : Int32) : ∀ j, j < n → upd g i x j = upd g' i x j := by
  intro j hj
  by_cases e : j = i
  · rw [e, pk_us, pk_us]
  · rw [pk_un e, pk_un e]
    exact h j hj
theorem tw_jn_mod {n i : Nat} (h : i < n) : tw_jn n i = (i + 1) % n := by
  unfold tw_jn
  split
  · rename_i e
    rw [e, Nat.mod_self]
  · rw [Nat.mod_eq_of_lt (by omega)]
theorem tw_k_ag {g g' : Nat → Int32} {n i : Nat} (h : ∀ j, j < n → g j = g' j) (hi : i < n) (a b c d : Int32) : ∀ j, j < n → tw_xk g n i a b c d j = tw_mk g' n i a b c d j := by
  have e0 : (i + 0) % n = i := Nat.mod_eq_of_lt (by omega)
  have l1 := tw_jn_lt hi
  have e1 : (i + 1) % n = tw_jn n i := (tw_jn_mod hi).symm
  have e2 : (i + 2) % n = tw_jn n (tw_jn n i) := by rw [tw_jn_mod l1, tw_jn_mod hi, Nat.mod_add_mod]
  have e3 : (i + 3) % n = tw_jn n (tw_jn n (tw_jn n i)) := by rw [tw_jn_mod (tw_jn_lt l1), ← e2, Nat.mod_add_mod]
  unfold tw_xk tw_mk
  rw [e0, e1, e2, e3]
  exact tw_upd_ag (tw_upd_ag (tw_upd_ag (tw_upd_ag h _ _) _ _) _ _) _ _
theorem tw_sgn (o : Int32) : 0 ≤ o ↔ tw_us o 31 = 0 := by
  have e : (tw_us o 31).toBitVec.toNat = o.toBitVec.toNat / 2 ^ 31 := pk_ushr o 31 31 (by decide)
  have hlt := o.toBitVec.isLt
  have hi : o.toInt = if 2 * o.toBitVec.toNat < 2 ^ 32 then (o.toBitVec.toNat : Int) else (o.toBitVec.toNat : Int) - ((2 ^ 32 : Nat) : Int) := BitVec.toInt_eq_toNat_cond o.toBitVec
  rw [Int32.le_iff_toInt_le, show (0 : Int32).toInt = 0 from by decide, hi]
  constructor
  · intro q
    apply Int32.toBitVec_inj.mp
    apply BitVec.eq_of_toNat_eq
    rw [e]
    show _ = 0
    split at q <;> omega
  · intro q
    rw [q] at e
    have e0 : (0 : Int32).toBitVec.toNat = 0 := by decide
    split <;> omega
def tw_xc (o : Int32) : Int32 := if 0 ≤ o then 0 else 1
def tw_mc (o : Int32) : Int32 := if tw_us o 31 = 0 then 0 else 1
theorem tw_coin (o : Int32) : tw_xc o = tw_mc o := by
  unfold tw_xc tw_mc
  by_cases h : 0 ≤ o
  · rw [if_pos h, if_pos ((tw_sgn o).mp h)]
  · rw [if_neg h, if_neg (fun q => h ((tw_sgn o).mpr q))]
theorem tw_xs_lt : ∀ (k : Nat) (f : Nat → Int32) (a : Nat) (v : Int32), a < 624 → (tw_xs k f a v).2.1 < 624 := by
  intro k
  induction k with
  | zero => intro f a v h; exact h
  | succ k ih => intro f a v h; exact ih _ _ _ (tw_nx_lt h)
theorem tw_mt_lt {t : Nat} (h : t ≤ 624) : tw_mt t < 624 := by
  unfold tw_mt
  split <;> omega
end
section
/-! RING: contracts of TwistedBits$Ring (by gen_ring.py) -/
set_option maxHeartbeats 4000000 in
set_option maxRecDepth 100000 in
/-- Ring.mixed(k) -/
theorem m_mixed (l : Launch) (D : va_G) (d0 : ClassId) (h r : Nat) (f : Nat → Int32) (x y z : Int32) (k : Nat) (hk : k < 624) : tw_Mi l yX1_mixed (ws_ yX1_mixed cX1_mixed 2 (some .int)) ({ frames := 0, cells := 0, slots := 0, locals := 0 } : Room) D d0 [.ref h, .int (nI k)] [(h, .inr (1, [.ref r, .int x, .int y, .int z])), (r, .inl (d0, 624, .inl f))] [(h, .inr (1, [.ref r, .int x, .int y, .int z])), (r, .inl (d0, 624, .inl f))] (tw_mx (f k)) := by
  refine tw_Mi_of (lv := [(0, .ref h), (1, .int (nI k))]) .int (vp_nar_int _) (by decide) (Nat.le_of_ble_eq_true rfl) rfl ?_
  intro p e s m below meth c A Q ls H locs hx hb hml hown hts hA hK hP hD hS hl ret
  have hown : s.vm.findClass RX1 = some m.cls := hown
  refine lv_aload_n hx hb dX1_mixed_0 rfl (lv_at hl 0 rfl) ?_
  refine va_get (D := D) (ci := 1) (v := .ref r) (C := RX1) (T := TX1) (N := 4) hx hb hts in_X1 hown hK hP 0 rfl rfl 0 (by decide) (hts _ q25) (fun _ h9 => h9) rfl dX1_mixed_1 ?_
  refine lv_iload_n hx hb dX1_mixed_4 rfl (lv_at hl 1 rfl) ?_
  refine tw_iald hx hb hK hP 1 0 rfl rfl (by omega) (by omega) dX1_mixed_5 ?_
  refine lv_aload_n hx hb dX1_mixed_6 rfl (lv_at hl 0 rfl) ?_
  refine va_get (D := D) (ci := 1) (v := .ref r) (C := RX1) (T := TX1) (N := 4) hx hb hts in_X1 hown hK hP 0 rfl rfl 0 (by decide) (hts _ q25) (fun _ h9 => h9) rfl dX1_mixed_7 ?_
  refine lv_iload_n hx hb dX1_mixed_10 rfl (lv_at hl 1 rfl) ?_
  refine tw_iald hx hb hK hP 1 0 rfl rfl (by omega) (by omega) dX1_mixed_11 ?_
  refine lv_bipush (v := 30) hx hb dX1_mixed_12 (by decide) ?_
  refine lv_iushr (v := tw_us (f k) 30) hx hb dX1_mixed_14 rfl ?_
  refine lv_ixor hx hb dX1_mixed_15 ?_
  refine tw_top (z := tw_mx (f k)) (rfl) ?_
  exact ret _ _ _ _ dX1_mixed_16 hP hD hS
set_option maxHeartbeats 4000000 in
set_option maxRecDepth 100000 in
/-- Ring.begin() -/
theorem m_begin (l : Launch) (D : va_G) (d0 : ClassId) (h r : Nat) (f : Nat → Int32) (x y z : Int32) : tw_Mv l yX1_begin (ws_ yX1_begin cX1_begin 1 none) ({ frames := 0, cells := 0, slots := 0, locals := 0 } : Room) D d0 [.ref h] [(h, .inr (1, [.ref r, .int x, .int y, .int z])), (r, .inl (d0, 624, .inl f))] [(h, .inr (1, [.ref r, .int (nI 0), .int (nI 1), .int (nI 397)])), (r, .inl (d0, 624, .inl f))] := by
  refine tw_Mv_of (lv := [(0, .ref h)]) (by decide) (Nat.le_of_ble_eq_true rfl) rfl ?_
  intro p e s m below meth c A Q ls H locs hx hb hml hown hts hA hK hP hD hS hl ret
  have hown : s.vm.findClass RX1 = some m.cls := hown
  refine lv_aload_n hx hb dX1_begin_0 rfl (lv_at hl 0 rfl) ?_
  refine lv_iconst (v := nI 0) hx hb dX1_begin_1 (by decide) ?_
  refine va_put (D := D) (ci := 1) (v := .int (nI 0)) (ty := .int) (C := RX1) (T := TX1) (N := 4) hx hb hts in_X1 tyX1 tyX1_ok nmX1 hown hK hP hD hS 0 rfl rfl 1 (by decide) (hts _ q26) (fun _ h9 => h9) rfl (by decide +kernel) rfl rfl (Nat.le_of_ble_eq_true rfl) dX1_begin_2 (fun H locs hP hD hS => ?_)
  have hP : va_P D vwCl [(h, .inr (1, [.ref r, .int (nI 0), .int y, .int z])), (r, .inl (d0, 624, .inl f))] H := hP
  have hD : va_D A [(h, .inr (1, [.ref r, .int (nI 0), .int y, .int z])), (r, .inl (d0, 624, .inl f))] := hD
  refine lv_aload_n hx hb dX1_begin_5 rfl (lv_at hl 0 rfl) ?_
  refine lv_iconst (v := nI 1) hx hb dX1_begin_6 (by decide) ?_
  refine va_put (D := D) (ci := 1) (v := .int (nI 1)) (ty := .int) (C := RX1) (T := TX1) (N := 4) hx hb hts in_X1 tyX1 tyX1_ok nmX1 hown hK hP hD hS 0 rfl rfl 2 (by decide) (hts _ q27) (fun _ h9 => h9) rfl (by decide +kernel) rfl rfl (Nat.le_of_ble_eq_true rfl) dX1_begin_7 (fun H locs hP hD hS => ?_)
  have hP : va_P D vwCl [(h, .inr (1, [.ref r, .int (nI 0), .int (nI 1), .int z])), (r, .inl (d0, 624, .inl f))] H := hP
  have hD : va_D A [(h, .inr (1, [.ref r, .int (nI 0), .int (nI 1), .int z])), (r, .inl (d0, 624, .inl f))] := hD
  refine lv_aload_n hx hb dX1_begin_10 rfl (lv_at hl 0 rfl) ?_
  refine lv_sipush (v := nI 397) hx hb dX1_begin_11 (by decide) ?_
  refine va_put (D := D) (ci := 1) (v := .int (nI 397)) (ty := .int) (C := RX1) (T := TX1) (N := 4) hx hb hts in_X1 tyX1 tyX1_ok nmX1 hown hK hP hD hS 0 rfl rfl 3 (by decide) (hts _ q28) (fun _ h9 => h9) rfl (by decide +kernel) rfl rfl (Nat.le_of_ble_eq_true rfl) dX1_begin_14 (fun H locs hP hD hS => ?_)
  have hP : va_P D vwCl [(h, .inr (1, [.ref r, .int (nI 0), .int (nI 1), .int (nI 397)])), (r, .inl (d0, 624, .inl f))] H := hP
  have hD : va_D A [(h, .inr (1, [.ref r, .int (nI 0), .int (nI 1), .int (nI 397)])), (r, .inl (d0, 624, .inl f))] := hD
  exact ret _ _ _ _ dX1_begin_17 hP hD hS
set_option maxHeartbeats 4000000 in
set_option maxRecDepth 100000 in
/-- Ring.around(k) -/
theorem m_around (l : Launch) (D : va_G) (d0 : ClassId) (k : Nat) (hk : k < 624) : tw_Mi l yX1_around (ws_ yX1_around cX1_around 1 (some .int)) ({ frames := 0, cells := 0, slots := 0, locals := 0 } : Room) D d0 [.int (nI k)] [] [] (nI (tw_nx k)) := by
  refine tw_Mi_of (lv := [(0, .int (nI k))]) .int (vp_nar_int _) (by decide) (Nat.le_of_ble_eq_true rfl) rfl ?_
  intro p e s m below meth c A Q ls H locs hx hb hml hown hts hA hK hP hD hS hl ret
  have hown : s.vm.findClass RX1 = some m.cls := hown
  refine lv_iload_n hx hb dX1_around_0 rfl (lv_at hl 0 rfl) ?_
  refine lv_iconst (v := nI 1) hx hb dX1_around_1 (by decide) ?_
  refine lv_iadd hx hb dX1_around_2 ?_
  refine tw_top (z := nI (k + 1)) (nI_add _ _) ?_
  refine lv_sipush (v := nI 624) hx hb dX1_around_3 (by decide) ?_
  refine tw_icmp_ne (tgt := 13) hx hb dX1_around_6 (by decide) (by omega) (by omega) (fun hc => ?_) (fun hc => ?_)
  · refine lv_iload_n hx hb dX1_around_13 rfl (lv_at hl 0 rfl) ?_
    refine lv_iconst (v := nI 1) hx hb dX1_around_14 (by decide) ?_
    refine lv_iadd hx hb dX1_around_15 ?_
    refine tw_top (z := nI (k + 1)) (nI_add _ _) ?_
    refine tw_top (z := nI (tw_nx k)) (by rw [show tw_nx k = k + 1 from if_neg hc]) ?_
    exact ret _ _ _ _ dX1_around_16 hP hD hS
  · refine lv_iconst (v := nI 0) hx hb dX1_around_9 (by decide) ?_
    refine lv_goto (tgt := 16) hx hb dX1_around_10 (by decide) ?_
    refine tw_top (z := nI (tw_nx k)) (by rw [show tw_nx k = 0 from if_pos hc]) ?_
    exact ret _ _ _ _ dX1_around_16 hP hD hS
set_option maxHeartbeats 4000000 in
set_option maxRecDepth 100000 in
/-- Ring.on(i) -/
theorem m_on (l : Launch) (D : va_G) (d0 : ClassId) (h r : Nat) (f : Nat → Int32) (x y z : Int32) (i : Nat) (hi : i < 624) : tw_Mi l yX1_on (ws_ yX1_on cX1_on 2 (some .int)) ({ frames := 0, cells := 0, slots := 0, locals := 0 } : Room) D d0 [.ref h, .int (nI i)] [(h, .inr (1, [.ref r, .int x, .int y, .int z])), (r, .inl (d0, 624, .inl f))] [(h, .inr (1, [.ref r, .int x, .int y, .int z])), (r, .inl (d0, 624, .inl (tw_of f i)))] (nI (tw_oi i)) := by
  refine tw_Mi_of (lv := [(0, .ref h), (1, .int (nI i))]) .int (vp_nar_int _) (by decide) (Nat.le_of_ble_eq_true rfl) rfl ?_
  intro p e s m below meth c A Q ls H locs hx hb hml hown hts hA hK hP hD hS hl ret
  have hown : s.vm.findClass RX1 = some m.cls := hown
  refine lv_iload_n hx hb dX1_on_0 rfl (lv_at hl 1 rfl) ?_
  refine lv_iconst (v := nI 1) hx hb dX1_on_1 (by decide) ?_
  refine lv_iadd hx hb dX1_on_2 ?_
  refine tw_top (z := nI (i + 1)) (nI_add _ _) ?_
  refine lv_sipush (v := nI 624) hx hb dX1_on_3 (by decide) ?_
  refine tw_icmp_ge (tgt := 13) hx hb dX1_on_6 (by decide) (by omega) (by omega) (fun hc => ?_) (fun hc => ?_)
  · refine lv_aload_n hx hb dX1_on_13 rfl (lv_at hl 0 rfl) ?_
    refine va_get (D := D) (ci := 1) (v := .ref r) (C := RX1) (T := TX1) (N := 4) hx hb hts in_X1 hown hK hP 0 rfl rfl 0 (by decide) (hts _ q25) (fun _ h9 => h9) rfl dX1_on_14 ?_
    refine lv_iconst (v := nI 0) hx hb dX1_on_17 (by decide) ?_
    refine lv_aload_n hx hb dX1_on_18 rfl (lv_at hl 0 rfl) ?_
    refine va_get (D := D) (ci := 1) (v := .ref r) (C := RX1) (T := TX1) (N := 4) hx hb hts in_X1 hown hK hP 0 rfl rfl 0 (by decide) (hts _ q25) (fun _ h9 => h9) rfl dX1_on_19 ?_
    refine lv_sipush (v := nI 623) hx hb dX1_on_22 (by decide) ?_
    refine tw_iald hx hb hK hP 1 0 rfl rfl (by omega) (by omega) dX1_on_25 ?_
    refine tw_iast hx hb hK hP hD hS 1 0 rfl rfl (by omega) (by omega) dX1_on_26 (fun H locs hP hD hS => ?_)
    have hP : va_P D vwCl [(h, .inr (1, [.ref r, .int x, .int y, .int z])), (r, .inl (d0, 624, .inl (upd f 0 (f 623))))] H := hP
    have hD : va_D A [(h, .inr (1, [.ref r, .int x, .int y, .int z])), (r, .inl (d0, 624, .inl (upd f 0 (f 623))))] := hD
    rw [← show tw_of f i = upd f 0 (f 623) from if_neg (by omega)] at hP hD
    have hP : va_P D vwCl [(h, .inr (1, [.ref r, .int x, .int y, .int z])), (r, .inl (d0, 624, .inl (tw_of f i)))] H := hP
    have hD : va_D A [(h, .inr (1, [.ref r, .int x, .int y, .int z])), (r, .inl (d0, 624, .inl (tw_of f i)))] := hD
    refine lv_iconst (v := nI 1) hx hb dX1_on_27 (by decide) ?_
    refine tw_top (z := nI (tw_oi i)) (by rw [show tw_oi i = 1 from if_neg (by omega)]) ?_
    exact ret _ _ _ _ dX1_on_28 hP hD hS
  · refine lv_iload_n hx hb dX1_on_9 rfl (lv_at hl 1 rfl) ?_
    refine lv_iconst (v := nI 1) hx hb dX1_on_10 (by decide) ?_
    refine lv_iadd hx hb dX1_on_11 ?_
    refine tw_top (z := nI (i + 1)) (nI_add _ _) ?_
    refine tw_top (z := nI (tw_oi i)) (by rw [show tw_oi i = i + 1 from if_pos hc]) ?_
    have ef : tw_of f i = f := if_pos hc
    rw [← ef] at hP hD
    have hP : va_P D vwCl [(h, .inr (1, [.ref r, .int x, .int y, .int z])), (r, .inl (d0, 624, .inl (tw_of f i)))] H := hP
    have hD : va_D A [(h, .inr (1, [.ref r, .int x, .int y, .int z])), (r, .inl (d0, 624, .inl (tw_of f i)))] := hD
    exact ret _ _ _ _ dX1_on_12 hP hD hS
set_option maxHeartbeats 4000000 in
set_option maxRecDepth 100000 in
/-- Ring.seed(v) -/
theorem m_seed (l : Launch) (D : va_G) (d0 : ClassId) (h r : Nat) (f f1 : Nat → Int32) (x y z v : Int32) (hf1 : f1 = tw_seed f v) : tw_Mv l yX1_seed (ws_ yX1_seed cX1_seed 3 none) ({ frames := 1, cells := 0, slots := 0, locals := 30 } : Room) D d0 [.ref h, .int v] [(h, .inr (1, [.ref r, .int x, .int y, .int z])), (r, .inl (d0, 624, .inl f))] [(h, .inr (1, [.ref r, .int (nI 0), .int (nI 1), .int (nI 397)])), (r, .inl (d0, 624, .inl f1))] := by
  refine tw_Mv_of (lv := [(0, .ref h), (1, .int v)]) (by decide) (Nat.le_of_ble_eq_true rfl) rfl ?_
  intro p e s m below meth c A Q ls H locs hx hb hml hown hts hA hK hP hD hS hl ret
  have hown : s.vm.findClass RX1 = some m.cls := hown
  have lp : ∀ (q : Nat) (i : Nat) (H : Heap) (locs : List Loc) (ls : Array Slot), i + q = 623 → va_P D vwCl [(h, .inr (1, [.ref r, .int x, .int y, .int z])), (r, .inl (d0, 624, .inl (tw_sd (upd f 0 v) i)))] H → va_D A [(h, .inr (1, [.ref r, .int x, .int y, .int z])), (r, .inl (d0, 624, .inl (tw_sd (upd f 0 v) i)))] → va_S A s.heap H locs → lv_has ls 3 [(0, .ref h), (1, .int v), (2, .int (nI (i + 1)))] → W p l e ({ frames := 1, cells := 0, slots := 0, locals := 30 } : Room) s m ([.ref h, .int v] : List Value).toArray below meth c H locs 0 0 Q (F0 m 9 ls []) := by
    intro q
    induction q with
    | zero =>
      intro i H locs ls hi hP hD hS hl
      refine lv_iload_n hx hb dX1_seed_9 rfl (lv_at hl 2 rfl) ?_
      refine lv_sipush (v := nI 624) hx hb dX1_seed_10 (by decide) ?_
      refine tw_icmp_ge (tgt := 40) hx hb dX1_seed_13 (by decide) (by omega) (by omega) (fun hc => ?_) (fun hc => absurd hc (by omega))
      have ei : i = 623 := by omega
      subst ei
      rw [← show f1 = tw_sd (upd f 0 v) 623 from hf1] at hP hD
      have hP : va_P D vwCl [(h, .inr (1, [.ref r, .int x, .int y, .int z])), (r, .inl (d0, 624, .inl f1))] H := hP
      have hD : va_D A [(h, .inr (1, [.ref r, .int x, .int y, .int z])), (r, .inl (d0, 624, .inl f1))] := hD
      refine lv_aload_n hx hb dX1_seed_40 rfl (lv_at hl 0 rfl) ?_
      refine tw_cv (As := []) (rest := []) (wr := []) (C := RX1) ⟨hx, hb, hml, hown, hts⟩ (m_begin l D d0 h r f1 x y z) (cwV 0 hts (lw_V q48 q50 qs1 q8 q51) rfl rfl rfl (by decide +kernel) ⟨Nat.le_of_ble_eq_true rfl, Nat.le_of_ble_eq_true rfl⟩) hK hP hD hS hA [0, 1] [] 1 0 rfl (by decide) rfl rfl (by decide) (by decide) rfl rfl rfl rfl hl.1 rfl (Nat.le_of_ble_eq_true rfl) dX1_seed_41 ⟨Nat.zero_le _, Nat.zero_le _⟩ (fun H locs hP hD hS => ?_)
      have hP : va_P D vwCl [(h, .inr (1, [.ref r, .int (nI 0), .int (nI 1), .int (nI 397)])), (r, .inl (d0, 624, .inl f1))] H := hP
      have hD : va_D A [(h, .inr (1, [.ref r, .int (nI 0), .int (nI 1), .int (nI 397)])), (r, .inl (d0, 624, .inl f1))] := hD
      exact ret _ _ _ _ dX1_seed_44 hP hD hS
    | succ q ih =>
      intro i H locs ls hi hP hD hS hl
      refine lv_iload_n hx hb dX1_seed_9 rfl (lv_at hl 2 rfl) ?_
      refine lv_sipush (v := nI 624) hx hb dX1_seed_10 (by decide) ?_
      refine tw_icmp_ge (tgt := 40) hx hb dX1_seed_13 (by decide) (by omega) (by omega) (fun hc => absurd hc (by omega)) (fun hc => ?_)
      refine lv_aload_n hx hb dX1_seed_16 rfl (lv_at hl 0 rfl) ?_
      refine va_get (D := D) (ci := 1) (v := .ref r) (C := RX1) (T := TX1) (N := 4) hx hb hts in_X1 hown hK hP 0 rfl rfl 0 (by decide) (hts _ q25) (fun _ h9 => h9) rfl dX1_seed_17 ?_
      refine lv_iload_n hx hb dX1_seed_20 rfl (lv_at hl 2 rfl) ?_
      refine lv_aload_n hx hb dX1_seed_21 rfl (lv_at hl 0 rfl) ?_
      refine lv_iload_n hx hb dX1_seed_22 rfl (lv_at hl 2 rfl) ?_
      refine lv_iconst (v := nI 1) hx hb dX1_seed_23 (by decide) ?_
      refine lv_isub hx hb dX1_seed_24 ?_
      refine tw_top (z := nI i) (nI_pred i) ?_
      refine tw_ci (As := [.int (nI i)]) (rest := [.int (nI (i + 1)), .ref r]) (wr := []) (C := RX1) ⟨hx, hb, hml, hown, hts⟩ (m_mixed l D d0 h r (tw_sd (upd f 0 v) i) x y z i (by omega)) (cwV 1 hts (lw_V q43 q45 qs0 q8 q46) rfl rfl rfl (by decide +kernel) ⟨Nat.le_of_ble_eq_true rfl, Nat.le_of_ble_eq_true rfl⟩) hK hP hD hS hA [0, 1] [] 1 0 rfl (by decide) rfl rfl (by decide) (by decide) rfl rfl rfl rfl hl.1 rfl (Nat.le_of_ble_eq_true rfl) dX1_seed_25 ⟨Nat.zero_le _, Nat.zero_le _⟩ (fun H locs hP hD hS => ?_)
      have hP : va_P D vwCl [(h, .inr (1, [.ref r, .int x, .int y, .int z])), (r, .inl (d0, 624, .inl (tw_sd (upd f 0 v) i)))] H := hP
      have hD : va_D A [(h, .inr (1, [.ref r, .int x, .int y, .int z])), (r, .inl (d0, 624, .inl (tw_sd (upd f 0 v) i)))] := hD
      refine lv_ldc hx hb hown (hts _ q47) dX1_seed_28 ?_
      refine lv_imul hx hb dX1_seed_30 ?_
      refine lv_iload_n hx hb dX1_seed_31 rfl (lv_at hl 2 rfl) ?_
      refine lv_iadd hx hb dX1_seed_32 ?_
      refine tw_iast hx hb hK hP hD hS 1 0 rfl rfl (by omega) (by omega) dX1_seed_33 (fun H locs hP hD hS => ?_)
      have hP : va_P D vwCl [(h, .inr (1, [.ref r, .int x, .int y, .int z])), (r, .inl (d0, 624, .inl (upd (tw_sd (upd f 0 v) i) (i + 1) (((tw_mx (tw_sd (upd f 0 v) i i)) * 1812433253) + (nI (i + 1))))))] H := hP
      have hD : va_D A [(h, .inr (1, [.ref r, .int x, .int y, .int z])), (r, .inl (d0, 624, .inl (upd (tw_sd (upd f 0 v) i) (i + 1) (((tw_mx (tw_sd (upd f 0 v) i i)) * 1812433253) + (nI (i + 1))))))] := hD
      have hP : va_P D vwCl [(h, .inr (1, [.ref r, .int x, .int y, .int z])), (r, .inl (d0, 624, .inl (tw_sd (upd f 0 v) (i + 1))))] H := hP
      have hD : va_D A [(h, .inr (1, [.ref r, .int x, .int y, .int z])), (r, .inl (d0, 624, .inl (tw_sd (upd f 0 v) (i + 1))))] := hD
      refine lv_iinc (v := nI (i + 1 + 1)) (lv' := [(2, .int (nI (i + 1 + 1))), (0, .ref h), (1, .int v)]) hx hb dX1_seed_34 hl (k := 2) rfl (tw_inc _) (by decide) rfl (fun ls hl => ?_)
      refine lv_goto (tgt := 9) hx hb dX1_seed_37 (by decide) ?_
      exact ih (i + 1) _ _ _ (by omega) hP hD hS (lv_sub hl [1, 2, 0] rfl)
  refine lv_aload_n hx hb dX1_seed_0 rfl (lv_at hl 0 rfl) ?_
  refine va_get (D := D) (ci := 1) (v := .ref r) (C := RX1) (T := TX1) (N := 4) hx hb hts in_X1 hown hK hP 0 rfl rfl 0 (by decide) (hts _ q25) (fun _ h9 => h9) rfl dX1_seed_1 ?_
  refine lv_iconst (v := nI 0) hx hb dX1_seed_4 (by decide) ?_
  refine lv_iload_n hx hb dX1_seed_5 rfl (lv_at hl 1 rfl) ?_
  refine tw_iast hx hb hK hP hD hS 1 0 rfl rfl (by omega) (by omega) dX1_seed_6 (fun H locs hP hD hS => ?_)
  have hP : va_P D vwCl [(h, .inr (1, [.ref r, .int x, .int y, .int z])), (r, .inl (d0, 624, .inl (upd f 0 v)))] H := hP
  have hD : va_D A [(h, .inr (1, [.ref r, .int x, .int y, .int z])), (r, .inl (d0, 624, .inl (upd f 0 v)))] := hD
  refine lv_iconst (v := nI 1) hx hb dX1_seed_7 (by decide) ?_
  refine lv_istore_n (lv' := [(2, .int (nI 1)), (0, .ref h), (1, .int v)]) hx hb dX1_seed_8 rfl hl (by decide) rfl (fun ls hl => ?_)
  have hP : va_P D vwCl [(h, .inr (1, [.ref r, .int x, .int y, .int z])), (r, .inl (d0, 624, .inl (tw_sd (upd f 0 v) 0)))] H := hP
  have hD : va_D A [(h, .inr (1, [.ref r, .int x, .int y, .int z])), (r, .inl (d0, 624, .inl (tw_sd (upd f 0 v) 0)))] := hD
  exact lp 623 0 _ _ _ (by omega) hP hD hS (lv_sub hl [1, 2, 0] rfl)
set_option maxHeartbeats 4000000 in
set_option maxRecDepth 100000 in
/-- Ring.turned() -/
theorem m_turned (l : Launch) (D : va_G) (d0 : ClassId) (h r : Nat) (f : Nat → Int32) (i1 i2 i3 : Nat) (h1 : i1 < 624) (h2 : i2 < 624) (h3 : i3 < 624) : tw_Mi l yX1_turned (ws_ yX1_turned cX1_turned 3 (some .int)) ({ frames := 1, cells := 0, slots := 0, locals := 30 } : Room) D d0 [.ref h] [(h, .inr (1, [.ref r, .int (nI i1), .int (nI i2), .int (nI i3)])), (r, .inl (d0, 624, .inl f))] [(h, .inr (1, [.ref r, .int (nI i2), .int (nI (tw_nx i2)), .int (nI (tw_nx i3))])), (r, .inl (d0, 624, .inl (upd f i1 (tw_tv (f i1) (f i2) (f i3)))))] (tw_tv (f i1) (f i2) (f i3)) := by
  refine tw_Mi_of (lv := [(0, .ref h)]) .int (vp_nar_int _) (by decide) (Nat.le_of_ble_eq_true rfl) rfl ?_
  intro p e s m below meth c A Q ls H locs hx hb hml hown hts hA hK hP hD hS hl ret
  have hown : s.vm.findClass RX1 = some m.cls := hown
  refine lv_aload_n hx hb dX1_turned_0 rfl (lv_at hl 0 rfl) ?_
  refine va_get (D := D) (ci := 1) (v := .ref r) (C := RX1) (T := TX1) (N := 4) hx hb hts in_X1 hown hK hP 0 rfl rfl 0 (by decide) (hts _ q25) (fun _ h9 => h9) rfl dX1_turned_1 ?_
  refine lv_aload_n hx hb dX1_turned_4 rfl (lv_at hl 0 rfl) ?_
  refine va_get (D := D) (ci := 1) (v := .int (nI i1)) (C := RX1) (T := TX1) (N := 4) hx hb hts in_X1 hown hK hP 0 rfl rfl 1 (by decide) (hts _ q26) (fun _ h9 => h9) rfl dX1_turned_5 ?_
  refine tw_iald hx hb hK hP 1 0 rfl rfl (by omega) (by omega) dX1_turned_8 ?_
  refine lv_ldc hx hb hown (hts _ q97) dX1_turned_9 ?_
  refine lv_iand hx hb dX1_turned_11 ?_
  refine lv_aload_n hx hb dX1_turned_12 rfl (lv_at hl 0 rfl) ?_
  refine va_get (D := D) (ci := 1) (v := .ref r) (C := RX1) (T := TX1) (N := 4) hx hb hts in_X1 hown hK hP 0 rfl rfl 0 (by decide) (hts _ q25) (fun _ h9 => h9) rfl dX1_turned_13 ?_
  refine lv_aload_n hx hb dX1_turned_16 rfl (lv_at hl 0 rfl) ?_
  refine va_get (D := D) (ci := 1) (v := .int (nI i2)) (C := RX1) (T := TX1) (N := 4) hx hb hts in_X1 hown hK hP 0 rfl rfl 2 (by decide) (hts _ q27) (fun _ h9 => h9) rfl dX1_turned_17 ?_
  refine tw_iald hx hb hK hP 1 0 rfl rfl (by omega) (by omega) dX1_turned_20 ?_
  refine lv_ldc hx hb hown (hts _ q110) dX1_turned_21 ?_
  refine lv_iand hx hb dX1_turned_23 ?_
  refine lv_ior hx hb dX1_turned_24 ?_
  refine tw_top (z := tw_w (f i1) (f i2)) (rfl) ?_
  refine lv_istore_n (lv' := [(1, .int (tw_w (f i1) (f i2))), (0, .ref h)]) hx hb dX1_turned_25 rfl hl (by decide) rfl (fun ls hl => ?_)
  refine lv_aload_n hx hb dX1_turned_26 rfl (lv_at hl 1 rfl) ?_
  refine va_get (D := D) (ci := 1) (v := .ref r) (C := RX1) (T := TX1) (N := 4) hx hb hts in_X1 hown hK hP 0 rfl rfl 0 (by decide) (hts _ q25) (fun _ h9 => h9) rfl dX1_turned_27 ?_
  refine lv_aload_n hx hb dX1_turned_30 rfl (lv_at hl 1 rfl) ?_
  refine va_get (D := D) (ci := 1) (v := .int (nI i3)) (C := RX1) (T := TX1) (N := 4) hx hb hts in_X1 hown hK hP 0 rfl rfl 3 (by decide) (hts _ q28) (fun _ h9 => h9) rfl dX1_turned_31 ?_
  refine tw_iald hx hb hK hP 1 0 rfl rfl (by omega) (by omega) dX1_turned_34 ?_
  refine lv_iload_n hx hb dX1_turned_35 rfl (lv_at hl 0 rfl) ?_
  refine lv_iconst (v := 1) hx hb dX1_turned_36 (by decide) ?_
  refine lv_iushr (v := tw_us (tw_w (f i1) (f i2)) 1) hx hb dX1_turned_37 rfl ?_
  refine lv_ixor hx hb dX1_turned_38 ?_
  refine lv_iload_n hx hb dX1_turned_39 rfl (lv_at hl 0 rfl) ?_
  refine lv_iconst (v := 1) hx hb dX1_turned_40 (by decide) ?_
  refine lv_iand hx hb dX1_turned_41 ?_
  refine lv_ineg hx hb dX1_turned_42 ?_
  refine lv_ldc hx hb hown (hts _ q111) dX1_turned_43 ?_
  refine lv_iand hx hb dX1_turned_45 ?_
  refine lv_ixor hx hb dX1_turned_46 ?_
  refine tw_top (z := tw_tv (f i1) (f i2) (f i3)) (rfl) ?_
  refine lv_istore_n (lv' := [(2, .int (tw_tv (f i1) (f i2) (f i3))), (1, .int (tw_w (f i1) (f i2))), (0, .ref h)]) hx hb dX1_turned_47 rfl hl (by decide) rfl (fun ls hl => ?_)
  refine lv_aload_n hx hb dX1_turned_48 rfl (lv_at hl 2 rfl) ?_
  refine va_get (D := D) (ci := 1) (v := .ref r) (C := RX1) (T := TX1) (N := 4) hx hb hts in_X1 hown hK hP 0 rfl rfl 0 (by decide) (hts _ q25) (fun _ h9 => h9) rfl dX1_turned_49 ?_
  refine lv_aload_n hx hb dX1_turned_52 rfl (lv_at hl 2 rfl) ?_
  refine va_get (D := D) (ci := 1) (v := .int (nI i1)) (C := RX1) (T := TX1) (N := 4) hx hb hts in_X1 hown hK hP 0 rfl rfl 1 (by decide) (hts _ q26) (fun _ h9 => h9) rfl dX1_turned_53 ?_
  refine lv_iload_n hx hb dX1_turned_56 rfl (lv_at hl 0 rfl) ?_
  refine tw_iast hx hb hK hP hD hS 1 0 rfl rfl (by omega) (by omega) dX1_turned_57 (fun H locs hP hD hS => ?_)
  have hP : va_P D vwCl [(h, .inr (1, [.ref r, .int (nI i1), .int (nI i2), .int (nI i3)])), (r, .inl (d0, 624, .inl (upd f i1 (tw_tv (f i1) (f i2) (f i3)))))] H := hP
  have hD : va_D A [(h, .inr (1, [.ref r, .int (nI i1), .int (nI i2), .int (nI i3)])), (r, .inl (d0, 624, .inl (upd f i1 (tw_tv (f i1) (f i2) (f i3)))))] := hD
  refine lv_aload_n hx hb dX1_turned_58 rfl (lv_at hl 2 rfl) ?_
  refine lv_aload_n hx hb dX1_turned_59 rfl (lv_at hl 2 rfl) ?_
  refine va_get (D := D) (ci := 1) (v := .int (nI i2)) (C := RX1) (T := TX1) (N := 4) hx hb hts in_X1 hown hK hP 0 rfl rfl 2 (by decide) (hts _ q27) (fun _ h9 => h9) rfl dX1_turned_60 ?_
  refine va_put (D := D) (ci := 1) (v := .int (nI i2)) (ty := .int) (C := RX1) (T := TX1) (N := 4) hx hb hts in_X1 tyX1 tyX1_ok nmX1 hown hK hP hD hS 0 rfl rfl 1 (by decide) (hts _ q26) (fun _ h9 => h9) rfl (by decide +kernel) rfl rfl (Nat.le_of_ble_eq_true rfl) dX1_turned_63 (fun H locs hP hD hS => ?_)
  have hP : va_P D vwCl [(h, .inr (1, [.ref r, .int (nI i2), .int (nI i2), .int (nI i3)])), (r, .inl (d0, 624, .inl (upd f i1 (tw_tv (f i1) (f i2) (f i3)))))] H := hP
  have hD : va_D A [(h, .inr (1, [.ref r, .int (nI i2), .int (nI i2), .int (nI i3)])), (r, .inl (d0, 624, .inl (upd f i1 (tw_tv (f i1) (f i2) (f i3)))))] := hD
  refine lv_aload_n hx hb dX1_turned_66 rfl (lv_at hl 2 rfl) ?_
  refine lv_aload_n hx hb dX1_turned_67 rfl (lv_at hl 2 rfl) ?_
  refine va_get (D := D) (ci := 1) (v := .int (nI i2)) (C := RX1) (T := TX1) (N := 4) hx hb hts in_X1 hown hK hP 0 rfl rfl 2 (by decide) (hts _ q27) (fun _ h9 => h9) rfl dX1_turned_68 ?_
  refine tw_cs (As := [.int (nI i2)]) (rest := [.ref h]) ⟨hx, hb, hml, hown, hts⟩ (m_around l D d0 i2 h2) (va_cwS 1 hts (lw_S q112 q113 q8 q114) rfl rfl rfl (by decide +kernel) ⟨Nat.le_of_ble_eq_true rfl, Nat.le_of_ble_eq_true rfl⟩) hK hP hD hS hA rfl hl.1 rfl (Nat.le_of_ble_eq_true rfl) dX1_turned_71 ⟨Nat.zero_le _, Nat.zero_le _⟩ (fun H locs hP hS => ?_)
  refine va_put (D := D) (ci := 1) (v := .int (nI (tw_nx i2))) (ty := .int) (C := RX1) (T := TX1) (N := 4) hx hb hts in_X1 tyX1 tyX1_ok nmX1 hown hK hP hD hS 0 rfl rfl 2 (by decide) (hts _ q27) (fun _ h9 => h9) rfl (by decide +kernel) rfl rfl (Nat.le_of_ble_eq_true rfl) dX1_turned_74 (fun H locs hP hD hS => ?_)
  have hP : va_P D vwCl [(h, .inr (1, [.ref r, .int (nI i2), .int (nI (tw_nx i2)), .int (nI i3)])), (r, .inl (d0, 624, .inl (upd f i1 (tw_tv (f i1) (f i2) (f i3)))))] H := hP
  have hD : va_D A [(h, .inr (1, [.ref r, .int (nI i2), .int (nI (tw_nx i2)), .int (nI i3)])), (r, .inl (d0, 624, .inl (upd f i1 (tw_tv (f i1) (f i2) (f i3)))))] := hD
  refine lv_aload_n hx hb dX1_turned_77 rfl (lv_at hl 2 rfl) ?_
  refine lv_aload_n hx hb dX1_turned_78 rfl (lv_at hl 2 rfl) ?_
  refine va_get (D := D) (ci := 1) (v := .int (nI i3)) (C := RX1) (T := TX1) (N := 4) hx hb hts in_X1 hown hK hP 0 rfl rfl 3 (by decide) (hts _ q28) (fun _ h9 => h9) rfl dX1_turned_79 ?_
  refine tw_cs (As := [.int (nI i3)]) (rest := [.ref h]) ⟨hx, hb, hml, hown, hts⟩ (m_around l D d0 i3 h3) (va_cwS 1 hts (lw_S q112 q113 q8 q114) rfl rfl rfl (by decide +kernel) ⟨Nat.le_of_ble_eq_true rfl, Nat.le_of_ble_eq_true rfl⟩) hK hP hD hS hA rfl hl.1 rfl (Nat.le_of_ble_eq_true rfl) dX1_turned_82 ⟨Nat.zero_le _, Nat.zero_le _⟩ (fun H locs hP hS => ?_)
  refine va_put (D := D) (ci := 1) (v := .int (nI (tw_nx i3))) (ty := .int) (C := RX1) (T := TX1) (N := 4) hx hb hts in_X1 tyX1 tyX1_ok nmX1 hown hK hP hD hS 0 rfl rfl 3 (by decide) (hts _ q28) (fun _ h9 => h9) rfl (by decide +kernel) rfl rfl (Nat.le_of_ble_eq_true rfl) dX1_turned_85 (fun H locs hP hD hS => ?_)
  have hP : va_P D vwCl [(h, .inr (1, [.ref r, .int (nI i2), .int (nI (tw_nx i2)), .int (nI (tw_nx i3))])), (r, .inl (d0, 624, .inl (upd f i1 (tw_tv (f i1) (f i2) (f i3)))))] H := hP
  have hD : va_D A [(h, .inr (1, [.ref r, .int (nI i2), .int (nI (tw_nx i2)), .int (nI (tw_nx i3))])), (r, .inl (d0, 624, .inl (upd f i1 (tw_tv (f i1) (f i2) (f i3)))))] := hD
  refine lv_iload_n hx hb dX1_turned_88 rfl (lv_at hl 0 rfl) ?_
  exact ret _ _ _ _ dX1_turned_89 hP hD hS
end
section
/-! RING: Ring.seed(int[], int) (by gen_seed2.py) -/
theorem tw_max {n : Nat} (h : n < 2 ^ 31) : (if nI 624 < nI n then nI n else nI 624) = nI (max 624 n) := by
  by_cases q : 624 < n
  · rw [if_pos ((nI_ltI (by decide) h).mpr q), Nat.max_eq_right (Nat.le_of_lt q)]
  · rw [if_neg (fun z => q ((nI_ltI (by decide) h).mp z)), Nat.max_eq_left (Nat.le_of_not_lt q)]
set_option maxHeartbeats 4000000 in
set_option maxRecDepth 100000 in
/-- Ring.seed(key, n) -/
theorem m_seed2 (l : Launch) (D : va_G) (d0 : ClassId) (h r kq : Nat) (f f1 g : Nat → Int32) (x y z : Int32) (n : Nat) (hn1 : 0 < n) (hn2 : n ≤ 1024) (hf1 : f1 = tw_keyed f g n) : tw_Mv l yX1_seed_2 (ws_ yX1_seed_2 cX1_seed_2 6 none) ({ frames := 2, cells := 0, slots := 0, locals := 60 } : Room) D d0 [.ref h, .ref kq, .int (nI n)] [(kq, .inl (d0, 1024, .inl g)), (h, .inr (1, [.ref r, .int x, .int y, .int z])), (r, .inl (d0, 624, .inl f))] [(kq, .inl (d0, 1024, .inl g)), (h, .inr (1, [.ref r, .int (nI 0), .int (nI 1), .int (nI 397)])), (r, .inl (d0, 624, .inl f1))] := by
  refine tw_Mv_of (lv := [(0, .ref h), (1, .ref kq), (2, .int (nI n))]) (by decide) (Nat.le_of_ble_eq_true rfl) rfl ?_
  intro p e s m below meth c A Q ls H locs hx hb hml hown hts hA hK hP hD hS hl ret
  have hown : s.vm.findClass RX1 = some m.cls := hown
  obtain ⟨fs, hfs⟩ : ∃ q, q = tw_seed f 19650218 := ⟨_, rfl⟩
  obtain ⟨P1, hP1⟩ : ∃ q, q = tw_K1 g n (max 624 n) fs 1 0 := ⟨_, rfl⟩
  obtain ⟨fB, hfB⟩ : ∃ q, q = tw_K2 623 P1.1 P1.2 := ⟨_, rfl⟩
  have hf1 : f1 = upd fB 0 (-2147483648) := by rw [hf1, hfB, hP1, hfs]; rfl
  have lp2 : ∀ (q : Nat) (F : Nat → Int32) (i : Nat) (H : Heap) (locs : List Loc) (ls : Array Slot), 1 ≤ i → i < 624 → q ≤ 1024 → tw_K2 q F i = fB → va_P D vwCl [(kq, .inl (d0, 1024, .inl g)), (h, .inr (1, [.ref r, .int (nI 0), .int (nI 1), .int (nI 397)])), (r, .inl (d0, 624, .inl F))] H → va_D A [(kq, .inl (d0, 1024, .inl g)), (h, .inr (1, [.ref r, .int (nI 0), .int (nI 1), .int (nI 397)])), (r, .inl (d0, 624, .inl F))] → va_S A s.heap H locs → lv_has ls 6 [(0, .ref h), (3, .int (nI i)), (5, .int (nI q))] → W p l e ({ frames := 2, cells := 0, slots := 0, locals := 60 } : Room) s m ([.ref h, .ref kq, .int (nI n)] : List Value).toArray below meth c H locs 0 0 Q (F0 m 85 ls []) := by
    intro q
    induction q with
    | zero =>
      intro F i H locs ls h1 h6 hq hE hP hD hS hl
      refine lv_iload hx hb dX1_seed_2_85 (lv_at hl 2 rfl) ?_
      refine tw_if_le (tgt := 127) hx hb dX1_seed_2_87 (by decide) (by omega) (fun hc => ?_) (fun hc => absurd hc (by omega))
      have hE : F = fB := hE
      subst hE
      refine lv_aload_n hx hb dX1_seed_2_127 rfl (lv_at hl 0 rfl) ?_
      refine va_get (D := D) (ci := 1) (v := .ref r) (C := RX1) (T := TX1) (N := 4) hx hb hts in_X1 hown hK hP 1 rfl rfl 0 (by decide) (hts _ q25) (fun _ h9 => h9) rfl dX1_seed_2_128 ?_
      refine lv_iconst (v := nI 0) hx hb dX1_seed_2_131 (by decide) ?_
      refine lv_ldc hx hb hown (hts _ q97) dX1_seed_2_132 ?_
      refine tw_iast hx hb hK hP hD hS 2 0 rfl rfl (by omega) (by omega) dX1_seed_2_134 (fun H locs hP hD hS => ?_)
      have hP : va_P D vwCl [(kq, .inl (d0, 1024, .inl g)), (h, .inr (1, [.ref r, .int (nI 0), .int (nI 1), .int (nI 397)])), (r, .inl (d0, 624, .inl (upd F 0 ((-2147483648)))))] H := hP
      have hD : va_D A [(kq, .inl (d0, 1024, .inl g)), (h, .inr (1, [.ref r, .int (nI 0), .int (nI 1), .int (nI 397)])), (r, .inl (d0, 624, .inl (upd F 0 ((-2147483648)))))] := hD
      rw [← hf1] at hP hD
      have hP : va_P D vwCl [(kq, .inl (d0, 1024, .inl g)), (h, .inr (1, [.ref r, .int (nI 0), .int (nI 1), .int (nI 397)])), (r, .inl (d0, 624, .inl f1))] H := hP
      have hD : va_D A [(kq, .inl (d0, 1024, .inl g)), (h, .inr (1, [.ref r, .int (nI 0), .int (nI 1), .int (nI 397)])), (r, .inl (d0, 624, .inl f1))] := hD
      refine lv_aload_n hx hb dX1_seed_2_135 rfl (lv_at hl 0 rfl) ?_
      refine tw_cv (As := []) (rest := []) (wr := [(kq, .inl (d0, 1024, .inl g))]) (C := RX1) ⟨hx, hb, hml, hown, hts⟩ (m_begin l D d0 h r f1 (nI 0) (nI 1) (nI 397)) (cwV 0 hts (lw_V q48 q50 qs1 q8 q51) rfl rfl rfl (by decide +kernel) ⟨Nat.le_of_ble_eq_true rfl, Nat.le_of_ble_eq_true rfl⟩) hK hP hD hS hA [1, 2] [0] 1 0 rfl (by decide) rfl rfl (by decide) (by decide) rfl rfl rfl rfl hl.1 rfl (Nat.le_of_ble_eq_true rfl) dX1_seed_2_136 ⟨Nat.zero_le _, Nat.zero_le _⟩ (fun H locs hP hD hS => ?_)
      have hP : va_P D vwCl [(kq, .inl (d0, 1024, .inl g)), (h, .inr (1, [.ref r, .int (nI 0), .int (nI 1), .int (nI 397)])), (r, .inl (d0, 624, .inl f1))] H := hP
      have hD : va_D A [(kq, .inl (d0, 1024, .inl g)), (h, .inr (1, [.ref r, .int (nI 0), .int (nI 1), .int (nI 397)])), (r, .inl (d0, 624, .inl f1))] := hD
      exact ret _ _ _ _ dX1_seed_2_139 hP hD hS
    | succ q ih =>
      intro F i H locs ls h1 h6 hq hE hP hD hS hl
      refine lv_iload hx hb dX1_seed_2_85 (lv_at hl 2 rfl) ?_
      refine tw_if_le (tgt := 127) hx hb dX1_seed_2_87 (by decide) (by omega) (fun hc => absurd hc (by omega)) (fun hc => ?_)
      refine lv_aload_n hx hb dX1_seed_2_90 rfl (lv_at hl 0 rfl) ?_
      refine va_get (D := D) (ci := 1) (v := .ref r) (C := RX1) (T := TX1) (N := 4) hx hb hts in_X1 hown hK hP 1 rfl rfl 0 (by decide) (hts _ q25) (fun _ h9 => h9) rfl dX1_seed_2_91 ?_
      refine lv_iload_n hx hb dX1_seed_2_94 rfl (lv_at hl 1 rfl) ?_
      refine lv_aload_n hx hb dX1_seed_2_95 rfl (lv_at hl 0 rfl) ?_
      refine va_get (D := D) (ci := 1) (v := .ref r) (C := RX1) (T := TX1) (N := 4) hx hb hts in_X1 hown hK hP 1 rfl rfl 0 (by decide) (hts _ q25) (fun _ h9 => h9) rfl dX1_seed_2_96 ?_
      refine lv_iload_n hx hb dX1_seed_2_99 rfl (lv_at hl 1 rfl) ?_
      refine tw_iald hx hb hK hP 2 0 rfl rfl (by omega) (by omega) dX1_seed_2_100 ?_
      refine lv_aload_n hx hb dX1_seed_2_101 rfl (lv_at hl 0 rfl) ?_
      refine lv_iload_n hx hb dX1_seed_2_102 rfl (lv_at hl 1 rfl) ?_
      refine lv_iconst (v := nI 1) hx hb dX1_seed_2_103 (by decide) ?_
      refine lv_isub hx hb dX1_seed_2_104 ?_
      refine tw_top (z := nI (i - 1)) (pk_sub (by omega)) ?_
      refine tw_ci (As := [.int (nI (i - 1))]) (rest := [.int (F i), .int (nI i), .ref r]) (wr := [(kq, .inl (d0, 1024, .inl g))]) (C := RX1) ⟨hx, hb, hml, hown, hts⟩ (m_mixed l D d0 h r F (nI 0) (nI 1) (nI 397) (i - 1) (by omega)) (cwV 1 hts (lw_V q43 q45 qs0 q8 q46) rfl rfl rfl (by decide +kernel) ⟨Nat.le_of_ble_eq_true rfl, Nat.le_of_ble_eq_true rfl⟩) hK hP hD hS hA [1, 2] [0] 1 0 rfl (by decide) rfl rfl (by decide) (by decide) rfl rfl rfl rfl hl.1 rfl (Nat.le_of_ble_eq_true rfl) dX1_seed_2_105 ⟨Nat.zero_le _, Nat.zero_le _⟩ (fun H locs hP hD hS => ?_)
      have hP : va_P D vwCl [(kq, .inl (d0, 1024, .inl g)), (h, .inr (1, [.ref r, .int (nI 0), .int (nI 1), .int (nI 397)])), (r, .inl (d0, 624, .inl F))] H := hP
      have hD : va_D A [(kq, .inl (d0, 1024, .inl g)), (h, .inr (1, [.ref r, .int (nI 0), .int (nI 1), .int (nI 397)])), (r, .inl (d0, 624, .inl F))] := hD
      refine lv_ldc hx hb hown (hts _ q96) dX1_seed_2_108 ?_
      refine lv_imul hx hb dX1_seed_2_110 ?_
      refine lv_ixor hx hb dX1_seed_2_111 ?_
      refine lv_iload_n hx hb dX1_seed_2_112 rfl (lv_at hl 1 rfl) ?_
      refine lv_isub hx hb dX1_seed_2_113 ?_
      refine tw_iast hx hb hK hP hD hS 2 0 rfl rfl (by omega) (by omega) dX1_seed_2_114 (fun H locs hP hD hS => ?_)
      have hP : va_P D vwCl [(kq, .inl (d0, 1024, .inl g)), (h, .inr (1, [.ref r, .int (nI 0), .int (nI 1), .int (nI 397)])), (r, .inl (d0, 624, .inl (upd F i (((F i) ^^^ ((tw_mx (F (i - 1))) * 1566083941)) - (nI i)))))] H := hP
      have hD : va_D A [(kq, .inl (d0, 1024, .inl g)), (h, .inr (1, [.ref r, .int (nI 0), .int (nI 1), .int (nI 397)])), (r, .inl (d0, 624, .inl (upd F i (((F i) ^^^ ((tw_mx (F (i - 1))) * 1566083941)) - (nI i)))))] := hD
      have hP : va_P D vwCl [(kq, .inl (d0, 1024, .inl g)), (h, .inr (1, [.ref r, .int (nI 0), .int (nI 1), .int (nI 397)])), (r, .inl (d0, 624, .inl (tw_a2 F i)))] H := hP
      have hD : va_D A [(kq, .inl (d0, 1024, .inl g)), (h, .inr (1, [.ref r, .int (nI 0), .int (nI 1), .int (nI 397)])), (r, .inl (d0, 624, .inl (tw_a2 F i)))] := hD
      refine lv_aload_n hx hb dX1_seed_2_115 rfl (lv_at hl 0 rfl) ?_
      refine lv_iload_n hx hb dX1_seed_2_116 rfl (lv_at hl 1 rfl) ?_
      refine tw_ci (As := [.int (nI i)]) (rest := []) (wr := [(kq, .inl (d0, 1024, .inl g))]) (C := RX1) ⟨hx, hb, hml, hown, hts⟩ (m_on l D d0 h r (tw_a2 F i) (nI 0) (nI 1) (nI 397) i (by omega)) (cwV 1 hts (lw_V q92 q94 qs3 q8 q95) rfl rfl rfl (by decide +kernel) ⟨Nat.le_of_ble_eq_true rfl, Nat.le_of_ble_eq_true rfl⟩) hK hP hD hS hA [1, 2] [0] 1 0 rfl (by decide) rfl rfl (by decide) (by decide) rfl rfl rfl rfl hl.1 rfl (Nat.le_of_ble_eq_true rfl) dX1_seed_2_117 ⟨Nat.zero_le _, Nat.zero_le _⟩ (fun H locs hP hD hS => ?_)
      have hP : va_P D vwCl [(kq, .inl (d0, 1024, .inl g)), (h, .inr (1, [.ref r, .int (nI 0), .int (nI 1), .int (nI 397)])), (r, .inl (d0, 624, .inl (tw_of (tw_a2 F i) i)))] H := hP
      have hD : va_D A [(kq, .inl (d0, 1024, .inl g)), (h, .inr (1, [.ref r, .int (nI 0), .int (nI 1), .int (nI 397)])), (r, .inl (d0, 624, .inl (tw_of (tw_a2 F i) i)))] := hD
      refine lv_istore_n (lv' := [(3, .int (nI (tw_oi i))), (0, .ref h), (5, .int (nI (q + 1)))]) hx hb dX1_seed_2_120 rfl hl (by decide) rfl (fun ls hl => ?_)
      refine lv_iinc (v := nI q) (lv' := [(5, .int (nI q)), (3, .int (nI (tw_oi i))), (0, .ref h)]) hx hb dX1_seed_2_121 hl (k := 2) rfl (tw_dec _) (by decide) rfl (fun ls hl => ?_)
      refine lv_goto (tgt := 85) hx hb dX1_seed_2_124 (by decide) ?_
      have hi2 := tw_oi_in (i := i) (by omega)
      exact ih (tw_of (tw_a2 F i) i) (tw_oi i) _ _ _ hi2.1 hi2.2 (by omega) hE hP hD hS (lv_sub hl [2, 1, 0] rfl)
  have lp1 : ∀ (q : Nat) (F : Nat → Int32) (i j : Nat) (H : Heap) (locs : List Loc) (ls : Array Slot), 1 ≤ i → i < 624 → j < n → q ≤ 1024 → tw_K1 g n q F i j = P1 → va_P D vwCl [(kq, .inl (d0, 1024, .inl g)), (h, .inr (1, [.ref r, .int (nI 0), .int (nI 1), .int (nI 397)])), (r, .inl (d0, 624, .inl F))] H → va_D A [(kq, .inl (d0, 1024, .inl g)), (h, .inr (1, [.ref r, .int (nI 0), .int (nI 1), .int (nI 397)])), (r, .inl (d0, 624, .inl F))] → va_S A s.heap H locs → lv_has ls 6 [(0, .ref h), (1, .ref kq), (2, .int (nI n)), (3, .int (nI i)), (4, .int (nI j)), (5, .int (nI q))] → W p l e ({ frames := 2, cells := 0, slots := 0, locals := 60 } : Room) s m ([.ref h, .ref kq, .int (nI n)] : List Value).toArray below meth c H locs 0 0 Q (F0 m 20 ls []) := by
    intro q
    induction q with
    | zero =>
      intro F i j H locs ls h1 h6 hj hq hE hP hD hS hl
      refine lv_iload hx hb dX1_seed_2_20 (lv_at hl 5 rfl) ?_
      refine tw_if_le (tgt := 80) hx hb dX1_seed_2_22 (by decide) (by omega) (fun hc => ?_) (fun hc => absurd hc (by omega))
      have hE : (F, i) = P1 := hE
      refine lv_sipush (v := nI 623) hx hb dX1_seed_2_80 (by decide) ?_
      refine lv_istore (lv' := [(5, .int (nI 623)), (0, .ref h), (1, .ref kq), (2, .int (nI n)), (3, .int (nI i)), (4, .int (nI j))]) hx hb dX1_seed_2_83 hl (by decide) rfl (fun ls hl => ?_)
      exact lp2 623 F i _ _ _ h1 h6 (by omega) (by rw [hfB, ← hE]) hP hD hS (lv_sub hl [1, 4, 0] rfl)
    | succ q ih =>
      intro F i j H locs ls h1 h6 hj hq hE hP hD hS hl
      refine lv_iload hx hb dX1_seed_2_20 (lv_at hl 5 rfl) ?_
      refine tw_if_le (tgt := 80) hx hb dX1_seed_2_22 (by decide) (by omega) (fun hc => absurd hc (by omega)) (fun hc => ?_)
      refine lv_aload_n hx hb dX1_seed_2_25 rfl (lv_at hl 0 rfl) ?_
      refine va_get (D := D) (ci := 1) (v := .ref r) (C := RX1) (T := TX1) (N := 4) hx hb hts in_X1 hown hK hP 1 rfl rfl 0 (by decide) (hts _ q25) (fun _ h9 => h9) rfl dX1_seed_2_26 ?_
      refine lv_iload_n hx hb dX1_seed_2_29 rfl (lv_at hl 3 rfl) ?_
      refine lv_aload_n hx hb dX1_seed_2_30 rfl (lv_at hl 0 rfl) ?_
      refine va_get (D := D) (ci := 1) (v := .ref r) (C := RX1) (T := TX1) (N := 4) hx hb hts in_X1 hown hK hP 1 rfl rfl 0 (by decide) (hts _ q25) (fun _ h9 => h9) rfl dX1_seed_2_31 ?_
      refine lv_iload_n hx hb dX1_seed_2_34 rfl (lv_at hl 3 rfl) ?_
      refine tw_iald hx hb hK hP 2 0 rfl rfl (by omega) (by omega) dX1_seed_2_35 ?_
      refine lv_aload_n hx hb dX1_seed_2_36 rfl (lv_at hl 0 rfl) ?_
      refine lv_iload_n hx hb dX1_seed_2_37 rfl (lv_at hl 3 rfl) ?_
      refine lv_iconst (v := nI 1) hx hb dX1_seed_2_38 (by decide) ?_
      refine lv_isub hx hb dX1_seed_2_39 ?_
      refine tw_top (z := nI (i - 1)) (pk_sub (by omega)) ?_
      refine tw_ci (As := [.int (nI (i - 1))]) (rest := [.int (F i), .int (nI i), .ref r]) (wr := [(kq, .inl (d0, 1024, .inl g))]) (C := RX1) ⟨hx, hb, hml, hown, hts⟩ (m_mixed l D d0 h r F (nI 0) (nI 1) (nI 397) (i - 1) (by omega)) (cwV 1 hts (lw_V q43 q45 qs0 q8 q46) rfl rfl rfl (by decide +kernel) ⟨Nat.le_of_ble_eq_true rfl, Nat.le_of_ble_eq_true rfl⟩) hK hP hD hS hA [1, 2] [0] 1 0 rfl (by decide) rfl rfl (by decide) (by decide) rfl rfl rfl rfl hl.1 rfl (Nat.le_of_ble_eq_true rfl) dX1_seed_2_40 ⟨Nat.zero_le _, Nat.zero_le _⟩ (fun H locs hP hD hS => ?_)
      have hP : va_P D vwCl [(kq, .inl (d0, 1024, .inl g)), (h, .inr (1, [.ref r, .int (nI 0), .int (nI 1), .int (nI 397)])), (r, .inl (d0, 624, .inl F))] H := hP
      have hD : va_D A [(kq, .inl (d0, 1024, .inl g)), (h, .inr (1, [.ref r, .int (nI 0), .int (nI 1), .int (nI 397)])), (r, .inl (d0, 624, .inl F))] := hD
      refine lv_ldc hx hb hown (hts _ q91) dX1_seed_2_43 ?_
      refine lv_imul hx hb dX1_seed_2_45 ?_
      refine lv_ixor hx hb dX1_seed_2_46 ?_
      refine lv_aload_n hx hb dX1_seed_2_47 rfl (lv_at hl 1 rfl) ?_
      refine lv_iload hx hb dX1_seed_2_48 (lv_at hl 4 rfl) ?_
      refine tw_iald hx hb hK hP 0 0 rfl rfl (by omega) (by omega) dX1_seed_2_50 ?_
      refine lv_iadd hx hb dX1_seed_2_51 ?_
      refine lv_iload hx hb dX1_seed_2_52 (lv_at hl 4 rfl) ?_
      refine lv_iadd hx hb dX1_seed_2_54 ?_
      refine tw_iast hx hb hK hP hD hS 2 0 rfl rfl (by omega) (by omega) dX1_seed_2_55 (fun H locs hP hD hS => ?_)
      have hP : va_P D vwCl [(kq, .inl (d0, 1024, .inl g)), (h, .inr (1, [.ref r, .int (nI 0), .int (nI 1), .int (nI 397)])), (r, .inl (d0, 624, .inl (upd F i ((((F i) ^^^ ((tw_mx (F (i - 1))) * 1664525)) + (g j)) + (nI j)))))] H := hP
      have hD : va_D A [(kq, .inl (d0, 1024, .inl g)), (h, .inr (1, [.ref r, .int (nI 0), .int (nI 1), .int (nI 397)])), (r, .inl (d0, 624, .inl (upd F i ((((F i) ^^^ ((tw_mx (F (i - 1))) * 1664525)) + (g j)) + (nI j)))))] := hD
      have hP : va_P D vwCl [(kq, .inl (d0, 1024, .inl g)), (h, .inr (1, [.ref r, .int (nI 0), .int (nI 1), .int (nI 397)])), (r, .inl (d0, 624, .inl (tw_a1 g F i j)))] H := hP
      have hD : va_D A [(kq, .inl (d0, 1024, .inl g)), (h, .inr (1, [.ref r, .int (nI 0), .int (nI 1), .int (nI 397)])), (r, .inl (d0, 624, .inl (tw_a1 g F i j)))] := hD
      refine lv_aload_n hx hb dX1_seed_2_56 rfl (lv_at hl 0 rfl) ?_
      refine lv_iload_n hx hb dX1_seed_2_57 rfl (lv_at hl 3 rfl) ?_
      refine tw_ci (As := [.int (nI i)]) (rest := []) (wr := [(kq, .inl (d0, 1024, .inl g))]) (C := RX1) ⟨hx, hb, hml, hown, hts⟩ (m_on l D d0 h r (tw_a1 g F i j) (nI 0) (nI 1) (nI 397) i (by omega)) (cwV 1 hts (lw_V q92 q94 qs3 q8 q95) rfl rfl rfl (by decide +kernel) ⟨Nat.le_of_ble_eq_true rfl, Nat.le_of_ble_eq_true rfl⟩) hK hP hD hS hA [1, 2] [0] 1 0 rfl (by decide) rfl rfl (by decide) (by decide) rfl rfl rfl rfl hl.1 rfl (Nat.le_of_ble_eq_true rfl) dX1_seed_2_58 ⟨Nat.zero_le _, Nat.zero_le _⟩ (fun H locs hP hD hS => ?_)
      have hP : va_P D vwCl [(kq, .inl (d0, 1024, .inl g)), (h, .inr (1, [.ref r, .int (nI 0), .int (nI 1), .int (nI 397)])), (r, .inl (d0, 624, .inl (tw_of (tw_a1 g F i j) i)))] H := hP
      have hD : va_D A [(kq, .inl (d0, 1024, .inl g)), (h, .inr (1, [.ref r, .int (nI 0), .int (nI 1), .int (nI 397)])), (r, .inl (d0, 624, .inl (tw_of (tw_a1 g F i j) i)))] := hD
      have hi2 := tw_oi_in (i := i) (by omega)
      have hj2 := tw_jn_lt hj
      refine lv_istore_n (lv' := [(3, .int (nI (tw_oi i))), (0, .ref h), (1, .ref kq), (2, .int (nI n)), (4, .int (nI j)), (5, .int (nI (q + 1)))]) hx hb dX1_seed_2_61 rfl hl (by decide) rfl (fun ls hl => ?_)
      refine lv_iinc (v := nI (j + 1)) (lv' := [(4, .int (nI (j + 1))), (3, .int (nI (tw_oi i))), (0, .ref h), (1, .ref kq), (2, .int (nI n)), (5, .int (nI (q + 1)))]) hx hb dX1_seed_2_62 hl (k := 4) rfl (tw_inc _) (by decide) rfl (fun ls hl => ?_)
      refine lv_iload hx hb dX1_seed_2_65 (lv_at hl 0 rfl) ?_
      refine lv_iload_n hx hb dX1_seed_2_67 rfl (lv_at hl 4 rfl) ?_
      refine tw_icmp_ne (tgt := 74) hx hb dX1_seed_2_68 (by decide) (by omega) (by omega) (fun hc => ?_) (fun hc => ?_)
      · refine lv_iinc (v := nI q) (lv' := [(5, .int (nI q)), (4, .int (nI (j + 1))), (3, .int (nI (tw_oi i))), (0, .ref h), (1, .ref kq), (2, .int (nI n))]) hx hb dX1_seed_2_74 hl (k := 5) rfl (tw_dec _) (by decide) rfl (fun ls hl => ?_)
        refine lv_goto (tgt := 20) hx hb dX1_seed_2_77 (by decide) ?_
        have ej : tw_jn n j = j + 1 := if_neg hc
        exact ih (tw_of (tw_a1 g F i j) i) (tw_oi i) (j + 1) _ _ _ hi2.1 hi2.2 (by omega) (by omega) (by rw [← ej]; exact hE) hP hD hS (lv_sub hl [3, 4, 5, 2, 1, 0] rfl)
      · refine lv_iconst (v := nI 0) hx hb dX1_seed_2_71 (by decide) ?_
        refine lv_istore (lv' := [(4, .int (nI 0)), (3, .int (nI (tw_oi i))), (0, .ref h), (1, .ref kq), (2, .int (nI n)), (5, .int (nI (q + 1)))]) hx hb dX1_seed_2_72 hl (by decide) rfl (fun ls hl => ?_)
        refine lv_iinc (v := nI q) (lv' := [(5, .int (nI q)), (4, .int (nI 0)), (3, .int (nI (tw_oi i))), (0, .ref h), (1, .ref kq), (2, .int (nI n))]) hx hb dX1_seed_2_74 hl (k := 5) rfl (tw_dec _) (by decide) rfl (fun ls hl => ?_)
        refine lv_goto (tgt := 20) hx hb dX1_seed_2_77 (by decide) ?_
        have ej : tw_jn n j = 0 := if_pos hc
        exact ih (tw_of (tw_a1 g F i j) i) (tw_oi i) 0 _ _ _ hi2.1 hi2.2 (by omega) (by omega) (by rw [← ej]; exact hE) hP hD hS (lv_sub hl [3, 4, 5, 2, 1, 0] rfl)
  refine lv_aload_n hx hb dX1_seed_2_0 rfl (lv_at hl 0 rfl) ?_
  refine lv_ldc hx hb hown (hts _ q86) dX1_seed_2_1 ?_
  refine tw_cv (As := [.int 19650218]) (rest := []) (wr := [(kq, .inl (d0, 1024, .inl g))]) (C := RX1) ⟨hx, hb, hml, hown, hts⟩ (m_seed l D d0 h r f fs x y z 19650218 hfs) (cwV 1 hts (lw_V q87 q40 q41 q8 q42) rfl rfl rfl (by decide +kernel) ⟨Nat.le_of_ble_eq_true rfl, Nat.le_of_ble_eq_true rfl⟩) hK hP hD hS hA [1, 2] [0] 1 0 rfl (by decide) rfl rfl (by decide) (by decide) rfl rfl rfl rfl hl.1 rfl (Nat.le_of_ble_eq_true rfl) dX1_seed_2_3 ⟨Nat.zero_le _, Nat.zero_le _⟩ (fun H locs hP hD hS => ?_)
  have hP : va_P D vwCl [(kq, .inl (d0, 1024, .inl g)), (h, .inr (1, [.ref r, .int (nI 0), .int (nI 1), .int (nI 397)])), (r, .inl (d0, 624, .inl fs))] H := hP
  have hD : va_D A [(kq, .inl (d0, 1024, .inl g)), (h, .inr (1, [.ref r, .int (nI 0), .int (nI 1), .int (nI 397)])), (r, .inl (d0, 624, .inl fs))] := hD
  refine lv_iconst (v := nI 1) hx hb dX1_seed_2_6 (by decide) ?_
  refine lv_istore_n (lv' := [(3, .int (nI 1)), (0, .ref h), (1, .ref kq), (2, .int (nI n))]) hx hb dX1_seed_2_7 rfl hl (by decide) rfl (fun ls hl => ?_)
  refine lv_iconst (v := nI 0) hx hb dX1_seed_2_8 (by decide) ?_
  refine lv_istore (lv' := [(4, .int (nI 0)), (3, .int (nI 1)), (0, .ref h), (1, .ref kq), (2, .int (nI n))]) hx hb dX1_seed_2_9 hl (by decide) rfl (fun ls hl => ?_)
  refine lv_sipush (v := nI 624) hx hb dX1_seed_2_11 (by decide) ?_
  refine lv_iload_n hx hb dX1_seed_2_14 rfl (lv_at hl 4 rfl) ?_
  refine va_mmax hx hb (hml.trans hl.1.symm) hown (hts _ q88) (hts _ q89) (hts _ q10) (hts _ q90) (Nat.le_of_ble_eq_true rfl) (Nat.le_of_ble_eq_true rfl) (Nat.zero_le _) (Nat.zero_le _) dX1_seed_2_15 ?_
  refine tw_top (z := nI (max 624 n)) (tw_max (by omega)) ?_
  refine lv_istore (lv' := [(5, .int (nI (max 624 n))), (4, .int (nI 0)), (3, .int (nI 1)), (0, .ref h), (1, .ref kq), (2, .int (nI n))]) hx hb dX1_seed_2_18 hl (by decide) rfl (fun ls hl => ?_)
  exact lp1 (max 624 n) fs 1 0 _ _ _ (by decide) (by decide) hn1 (by omega) hP1.symm hP hD hS (lv_sub hl [3, 4, 5, 2, 1, 0] rfl)
end
section
/-! TWISTEDBITS: contracts of its methods but the constructor (by gen_bits.py) -/
set_option maxHeartbeats 4000000 in
set_option maxRecDepth 100000 in
/-- TwistedBits.seed(v) -/
theorem m_xseed (l : Launch) (D : va_G) (d0 : ClassId) (b h r kq : Nat) (f g : Nat → Int32) (f1 : Nat → Int32) (x y z v : Int32) (n : Nat) (hf1 : f1 = tw_seed f v) : tw_Mv l yX0_seed (ws_ yX0_seed cX0_seed 2 none) ({ frames := 2, cells := 0, slots := 0, locals := 60 } : Room) D d0 [.ref b, .int v] [(b, .inr (0, [.ref h, .ref kq, .int (nI n)])), (kq, .inl (d0, 1024, .inl g)), (h, .inr (1, [.ref r, .int x, .int y, .int z])), (r, .inl (d0, 624, .inl f))] [(b, .inr (0, [.ref h, .ref kq, .int (nI n)])), (kq, .inl (d0, 1024, .inl g)), (h, .inr (1, [.ref r, .int (nI 0), .int (nI 1), .int (nI 397)])), (r, .inl (d0, 624, .inl f1))] := by
  refine tw_Mv_of (lv := [(0, .ref b), (1, .int v)]) (by decide) (Nat.le_of_ble_eq_true rfl) rfl ?_
  intro p e s m below meth c A Q ls H locs hx hb hml hown hts hA hK hP hD hS hl ret
  have hown : s.vm.findClass RX0 = some m.cls := hown
  refine lv_aload_n hx hb dX0_seed_0 rfl (lv_at hl 0 rfl) ?_
  refine va_get (D := D) (ci := 0) (v := .ref h) (C := RX0) (T := TX0) (N := 3) hx hb hts in_X0 hown hK hP 0 rfl rfl 0 (by decide) (hts _ q52) (fun _ h9 => h9) rfl dX0_seed_1 ?_
  refine lv_iload_n hx hb dX0_seed_4 rfl (lv_at hl 1 rfl) ?_
  refine tw_cv (As := [.int v]) (rest := []) (wr := [(b, .inr (0, [.ref h, .ref kq, .int (nI n)])), (kq, .inl (d0, 1024, .inl g))]) (C := RX1) ⟨hx, hb, hml, hown, hts⟩ (m_seed l D d0 h r f f1 x y z v hf1) (cwV 1 hts (lw_V q39 q40 q41 q8 q42) rfl rfl rfl (by decide +kernel) ⟨Nat.le_of_ble_eq_true rfl, Nat.le_of_ble_eq_true rfl⟩) hK hP hD hS hA [2, 3] [0, 1] 1 0 rfl (by decide) rfl rfl (by decide) (by decide) rfl rfl rfl rfl hl.1 rfl (Nat.le_of_ble_eq_true rfl) dX0_seed_5 ⟨Nat.zero_le _, Nat.zero_le _⟩ (fun H locs hP hD hS => ?_)
  have hP : va_P D vwCl [(b, .inr (0, [.ref h, .ref kq, .int (nI n)])), (kq, .inl (d0, 1024, .inl g)), (h, .inr (1, [.ref r, .int (nI 0), .int (nI 1), .int (nI 397)])), (r, .inl (d0, 624, .inl f1))] H := hP
  have hD : va_D A [(b, .inr (0, [.ref h, .ref kq, .int (nI n)])), (kq, .inl (d0, 1024, .inl g)), (h, .inr (1, [.ref r, .int (nI 0), .int (nI 1), .int (nI 397)])), (r, .inl (d0, 624, .inl f1))] := hD
  exact ret _ _ _ _ dX0_seed_8 hP hD hS
set_option maxHeartbeats 4000000 in
set_option maxRecDepth 100000 in
/-- TwistedBits.width(v) -/
theorem m_xwidth (l : Launch) (D : va_G) (d0 : ClassId) (b h r kq : Nat) (f g : Nat → Int32) (x y z v : Int32) (n n1 : Nat) (hn1 : n1 = 1 + tw_lo v) : tw_Mv l yX0_width (ws_ yX0_width cX0_width 3 none) ({ frames := 0, cells := 0, slots := 0, locals := 0 } : Room) D d0 [.ref b, .int v] [(b, .inr (0, [.ref h, .ref kq, .int (nI n)])), (kq, .inl (d0, 1024, .inl g)), (h, .inr (1, [.ref r, .int x, .int y, .int z])), (r, .inl (d0, 624, .inl f))] [(b, .inr (0, [.ref h, .ref kq, .int (nI n1)])), (kq, .inl (d0, 1024, .inl (tw_z g n1))), (h, .inr (1, [.ref r, .int x, .int y, .int z])), (r, .inl (d0, 624, .inl f))] := by
  refine tw_Mv_of (lv := [(0, .ref b), (1, .int v)]) (by decide) (Nat.le_of_ble_eq_true rfl) rfl ?_
  intro p e s m below meth c A Q ls H locs hx hb hml hown hts hA hK hP hD hS hl ret
  have hown : s.vm.findClass RX0 = some m.cls := hown
  have hlo := tw_lo_lt v
  have lp : ∀ (q : Nat) (j : Nat) (H : Heap) (locs : List Loc) (ls : Array Slot), j + q = n1 → va_P D vwCl [(b, .inr (0, [.ref h, .ref kq, .int (nI n1)])), (kq, .inl (d0, 1024, .inl (tw_z g j))), (h, .inr (1, [.ref r, .int x, .int y, .int z])), (r, .inl (d0, 624, .inl f))] H → va_D A [(b, .inr (0, [.ref h, .ref kq, .int (nI n1)])), (kq, .inl (d0, 1024, .inl (tw_z g j))), (h, .inr (1, [.ref r, .int x, .int y, .int z])), (r, .inl (d0, 624, .inl f))] → va_S A s.heap H locs → lv_has ls 3 [(0, .ref b), (2, .int (nI j))] → W p l e ({ frames := 0, cells := 0, slots := 0, locals := 0 } : Room) s m ([.ref b, .int v] : List Value).toArray below meth c H locs 0 0 Q (F0 m 13 ls []) := by
    intro q
    induction q with
    | zero =>
      intro j H locs ls hj hP hD hS hl
      refine lv_iload_n hx hb dX0_width_13 rfl (lv_at hl 1 rfl) ?_
      refine lv_aload_n hx hb dX0_width_14 rfl (lv_at hl 0 rfl) ?_
      refine va_get (D := D) (ci := 0) (v := .int (nI n1)) (C := RX0) (T := TX0) (N := 3) hx hb hts in_X0 hown hK hP 0 rfl rfl 2 (by decide) (hts _ q54) (fun _ h9 => h9) rfl dX0_width_15 ?_
      refine tw_icmp_ge (tgt := 34) hx hb dX0_width_18 (by decide) (by omega) (by omega) (fun hc => ?_) (fun hc => absurd hc (by omega))
      have ej : j = n1 := by omega
      subst ej
      exact ret _ _ _ _ dX0_width_34 hP hD hS
    | succ q ih =>
      intro j H locs ls hj hP hD hS hl
      refine lv_iload_n hx hb dX0_width_13 rfl (lv_at hl 1 rfl) ?_
      refine lv_aload_n hx hb dX0_width_14 rfl (lv_at hl 0 rfl) ?_
      refine va_get (D := D) (ci := 0) (v := .int (nI n1)) (C := RX0) (T := TX0) (N := 3) hx hb hts in_X0 hown hK hP 0 rfl rfl 2 (by decide) (hts _ q54) (fun _ h9 => h9) rfl dX0_width_15 ?_
      refine tw_icmp_ge (tgt := 34) hx hb dX0_width_18 (by decide) (by omega) (by omega) (fun hc => absurd hc (by omega)) (fun hc => ?_)
      refine lv_aload_n hx hb dX0_width_21 rfl (lv_at hl 0 rfl) ?_
      refine va_get (D := D) (ci := 0) (v := .ref kq) (C := RX0) (T := TX0) (N := 3) hx hb hts in_X0 hown hK hP 0 rfl rfl 1 (by decide) (hts _ q53) (fun _ h9 => h9) rfl dX0_width_22 ?_
      refine lv_iload_n hx hb dX0_width_25 rfl (lv_at hl 1 rfl) ?_
      refine lv_iconst (v := 0) hx hb dX0_width_26 (by decide) ?_
      refine tw_iast hx hb hK hP hD hS 1 0 rfl rfl (by omega) (by omega) dX0_width_27 (fun H locs hP hD hS => ?_)
      have hP : va_P D vwCl [(b, .inr (0, [.ref h, .ref kq, .int (nI n1)])), (kq, .inl (d0, 1024, .inl (upd (tw_z g j) j 0))), (h, .inr (1, [.ref r, .int x, .int y, .int z])), (r, .inl (d0, 624, .inl f))] H := hP
      have hD : va_D A [(b, .inr (0, [.ref h, .ref kq, .int (nI n1)])), (kq, .inl (d0, 1024, .inl (upd (tw_z g j) j 0))), (h, .inr (1, [.ref r, .int x, .int y, .int z])), (r, .inl (d0, 624, .inl f))] := hD
      have hP : va_P D vwCl [(b, .inr (0, [.ref h, .ref kq, .int (nI n1)])), (kq, .inl (d0, 1024, .inl (tw_z g (j + 1)))), (h, .inr (1, [.ref r, .int x, .int y, .int z])), (r, .inl (d0, 624, .inl f))] H := hP
      have hD : va_D A [(b, .inr (0, [.ref h, .ref kq, .int (nI n1)])), (kq, .inl (d0, 1024, .inl (tw_z g (j + 1)))), (h, .inr (1, [.ref r, .int x, .int y, .int z])), (r, .inl (d0, 624, .inl f))] := hD
      refine lv_iinc (v := nI (j + 1)) (lv' := [(2, .int (nI (j + 1))), (0, .ref b)]) hx hb dX0_width_28 hl (k := 1) rfl (tw_inc _) (by decide) rfl (fun ls hl => ?_)
      refine lv_goto (tgt := 13) hx hb dX0_width_31 (by decide) ?_
      exact ih (j + 1) _ _ _ (by omega) hP hD hS (lv_sub hl [1, 0] rfl)
  refine lv_aload_n hx hb dX0_width_0 rfl (lv_at hl 0 rfl) ?_
  refine lv_iconst (v := nI 1) hx hb dX0_width_1 (by decide) ?_
  refine lv_iload_n hx hb dX0_width_2 rfl (lv_at hl 1 rfl) ?_
  refine lv_sipush (v := nI 1023) hx hb dX0_width_3 (by decide) ?_
  refine lv_iand hx hb dX0_width_6 ?_
  refine tw_top (z := nI (tw_lo v)) (tw_lo_and v) ?_
  refine lv_iadd hx hb dX0_width_7 ?_
  refine tw_top (z := nI (1 + tw_lo v)) (nI_add _ _) ?_
  refine tw_top (z := nI n1) (by rw [hn1]) ?_
  refine va_put (D := D) (ci := 0) (v := .int (nI n1)) (ty := .int) (C := RX0) (T := TX0) (N := 3) hx hb hts in_X0 tyX0 tyX0_ok nmX0 hown hK hP hD hS 0 rfl rfl 2 (by decide) (hts _ q54) (fun _ h9 => h9) rfl (by decide +kernel) rfl rfl (Nat.le_of_ble_eq_true rfl) dX0_width_8 (fun H locs hP hD hS => ?_)
  have hP : va_P D vwCl [(b, .inr (0, [.ref h, .ref kq, .int (nI n1)])), (kq, .inl (d0, 1024, .inl g)), (h, .inr (1, [.ref r, .int x, .int y, .int z])), (r, .inl (d0, 624, .inl f))] H := hP
  have hD : va_D A [(b, .inr (0, [.ref h, .ref kq, .int (nI n1)])), (kq, .inl (d0, 1024, .inl g)), (h, .inr (1, [.ref r, .int x, .int y, .int z])), (r, .inl (d0, 624, .inl f))] := hD
  refine lv_iconst (v := nI 0) hx hb dX0_width_11 (by decide) ?_
  refine lv_istore_n (lv' := [(2, .int (nI 0)), (0, .ref b), (1, .int v)]) hx hb dX0_width_12 rfl hl (by decide) rfl (fun ls hl => ?_)
  have hP : va_P D vwCl [(b, .inr (0, [.ref h, .ref kq, .int (nI n1)])), (kq, .inl (d0, 1024, .inl (tw_z g 0))), (h, .inr (1, [.ref r, .int x, .int y, .int z])), (r, .inl (d0, 624, .inl f))] H := hP
  have hD : va_D A [(b, .inr (0, [.ref h, .ref kq, .int (nI n1)])), (kq, .inl (d0, 1024, .inl (tw_z g 0))), (h, .inr (1, [.ref r, .int x, .int y, .int z])), (r, .inl (d0, 624, .inl f))] := hD
  exact lp n1 0 _ _ _ (by omega) hP hD hS (lv_sub hl [1, 0] rfl)
set_option maxHeartbeats 4000000 in
set_option maxRecDepth 100000 in
/-- TwistedBits.put(i, v) -/
theorem m_put (l : Launch) (D : va_G) (d0 : ClassId) (b h r kq : Nat) (f g : Nat → Int32) (x y z v : Int32) (n i : Nat) (hi : i < n) (hn : n ≤ 1024) : tw_Mi l yX0_put (ws_ yX0_put cX0_put 3 (some .int)) ({ frames := 0, cells := 0, slots := 0, locals := 0 } : Room) D d0 [.ref b, .int (nI i), .int v] [(b, .inr (0, [.ref h, .ref kq, .int (nI n)])), (kq, .inl (d0, 1024, .inl g)), (h, .inr (1, [.ref r, .int x, .int y, .int z])), (r, .inl (d0, 624, .inl f))] [(b, .inr (0, [.ref h, .ref kq, .int (nI n)])), (kq, .inl (d0, 1024, .inl (upd g i v))), (h, .inr (1, [.ref r, .int x, .int y, .int z])), (r, .inl (d0, 624, .inl f))] (nI (tw_jn n i)) := by
  refine tw_Mi_of (lv := [(0, .ref b), (1, .int (nI i)), (2, .int v)]) .int (vp_nar_int _) (by decide) (Nat.le_of_ble_eq_true rfl) rfl ?_
  intro p e s m below meth c A Q ls H locs hx hb hml hown hts hA hK hP hD hS hl ret
  have hown : s.vm.findClass RX0 = some m.cls := hown
  refine lv_aload_n hx hb dX0_put_0 rfl (lv_at hl 0 rfl) ?_
  refine va_get (D := D) (ci := 0) (v := .ref kq) (C := RX0) (T := TX0) (N := 3) hx hb hts in_X0 hown hK hP 0 rfl rfl 1 (by decide) (hts _ q53) (fun _ h9 => h9) rfl dX0_put_1 ?_
  refine lv_iload_n hx hb dX0_put_4 rfl (lv_at hl 1 rfl) ?_
  refine lv_iload_n hx hb dX0_put_5 rfl (lv_at hl 2 rfl) ?_
  refine tw_iast hx hb hK hP hD hS 1 0 rfl rfl (by omega) (by omega) dX0_put_6 (fun H locs hP hD hS => ?_)
  have hP : va_P D vwCl [(b, .inr (0, [.ref h, .ref kq, .int (nI n)])), (kq, .inl (d0, 1024, .inl (upd g i v))), (h, .inr (1, [.ref r, .int x, .int y, .int z])), (r, .inl (d0, 624, .inl f))] H := hP
  have hD : va_D A [(b, .inr (0, [.ref h, .ref kq, .int (nI n)])), (kq, .inl (d0, 1024, .inl (upd g i v))), (h, .inr (1, [.ref r, .int x, .int y, .int z])), (r, .inl (d0, 624, .inl f))] := hD
  refine lv_iload_n hx hb dX0_put_7 rfl (lv_at hl 1 rfl) ?_
  refine lv_iconst (v := nI 1) hx hb dX0_put_8 (by decide) ?_
  refine lv_iadd hx hb dX0_put_9 ?_
  refine tw_top (z := nI (i + 1)) (nI_add _ _) ?_
  refine lv_aload_n hx hb dX0_put_10 rfl (lv_at hl 0 rfl) ?_
  refine va_get (D := D) (ci := 0) (v := .int (nI n)) (C := RX0) (T := TX0) (N := 3) hx hb hts in_X0 hown hK hP 0 rfl rfl 2 (by decide) (hts _ q54) (fun _ h9 => h9) rfl dX0_put_11 ?_
  refine tw_icmp_ne (tgt := 21) hx hb dX0_put_14 (by decide) (by omega) (by omega) (fun hc => ?_) (fun hc => ?_)
  · refine lv_iload_n hx hb dX0_put_21 rfl (lv_at hl 1 rfl) ?_
    refine lv_iconst (v := nI 1) hx hb dX0_put_22 (by decide) ?_
    refine lv_iadd hx hb dX0_put_23 ?_
    refine tw_top (z := nI (i + 1)) (nI_add _ _) ?_
    refine tw_top (z := nI (tw_jn n i)) (by rw [show tw_jn n i = i + 1 from if_neg hc]) ?_
    exact ret _ _ _ _ dX0_put_24 hP hD hS
  · refine lv_iconst (v := nI 0) hx hb dX0_put_17 (by decide) ?_
    refine lv_goto (tgt := 24) hx hb dX0_put_18 (by decide) ?_
    refine tw_top (z := nI (tw_jn n i)) (by rw [show tw_jn n i = 0 from if_pos hc]) ?_
    exact ret _ _ _ _ dX0_put_24 hP hD hS
set_option maxHeartbeats 4000000 in
set_option maxRecDepth 100000 in
/-- TwistedBits.key(at, a, b, c, d) -/
theorem m_xkey (l : Launch) (D : va_G) (d0 : ClassId) (b h r kq : Nat) (f g : Nat → Int32) (x y z p0 p1 p2 p3 p4 : Int32) (n i : Nat) (hn1 : 0 < n) (hn : n ≤ 1024) (hi : i = tw_lo p0 % n) : tw_Mv l yX0_key (ws_ yX0_key cX0_key 7 none) ({ frames := 1, cells := 0, slots := 0, locals := 30 } : Room) D d0 [.ref b, .int p0, .int p1, .int p2, .int p3, .int p4] [(b, .inr (0, [.ref h, .ref kq, .int (nI n)])), (kq, .inl (d0, 1024, .inl g)), (h, .inr (1, [.ref r, .int x, .int y, .int z])), (r, .inl (d0, 624, .inl f))] [(b, .inr (0, [.ref h, .ref kq, .int (nI n)])), (kq, .inl (d0, 1024, .inl (tw_xk g n i p1 p2 p3 p4))), (h, .inr (1, [.ref r, .int x, .int y, .int z])), (r, .inl (d0, 624, .inl f))] := by
  refine tw_Mv_of (lv := [(0, .ref b), (1, .int p0), (2, .int p1), (3, .int p2), (4, .int p3), (5, .int p4)]) (by decide) (Nat.le_of_ble_eq_true rfl) rfl ?_
  intro p e s m below meth c A Q ls H locs hx hb hml hown hts hA hK hP hD hS hl ret
  have hown : s.vm.findClass RX0 = some m.cls := hown
  have hlo := tw_lo_lt p0
  have hin : i < n := by rw [hi]; exact Nat.mod_lt _ hn1
  have hj1 := tw_jn_lt hin
  have hj2 := tw_jn_lt hj1
  have hj3 := tw_jn_lt hj2
  refine lv_iload_n hx hb dX0_key_0 rfl (lv_at hl 1 rfl) ?_
  refine lv_sipush (v := 1023) hx hb dX0_key_1 (by decide) ?_
  refine lv_iand hx hb dX0_key_4 ?_
  refine tw_top (z := nI (tw_lo p0)) (tw_lo_and p0) ?_
  refine lv_aload_n hx hb dX0_key_5 rfl (lv_at hl 0 rfl) ?_
  refine va_get (D := D) (ci := 0) (v := .int (nI n)) (C := RX0) (T := TX0) (N := 3) hx hb hts in_X0 hown hK hP 0 rfl rfl 2 (by decide) (hts _ q54) (fun _ h9 => h9) rfl dX0_key_6 ?_
  refine tw_irem hx hb dX0_key_9 (by omega) (by omega) (by omega) ?_
  refine tw_top (z := nI i) (by rw [hi]) ?_
  refine lv_istore (lv' := [(6, .int (nI i)), (0, .ref b), (1, .int p0), (2, .int p1), (3, .int p2), (4, .int p3), (5, .int p4)]) hx hb dX0_key_10 hl (by decide) rfl (fun ls hl => ?_)
  refine lv_aload_n hx hb dX0_key_12 rfl (lv_at hl 1 rfl) ?_
  refine lv_iload hx hb dX0_key_13 (lv_at hl 0 rfl) ?_
  refine lv_iload_n hx hb dX0_key_15 rfl (lv_at hl 3 rfl) ?_
  refine tw_ci (As := [.int (nI i), .int p1]) (rest := []) (wr := []) (C := RX0) ⟨hx, hb, hml, hown, hts⟩ (m_put l D d0 b h r kq f g x y z p1 n i hin hn) (cwV 2 hts (lw_V q74 q76 qs2 q7 q77) rfl rfl rfl (by decide +kernel) ⟨Nat.le_of_ble_eq_true rfl, Nat.le_of_ble_eq_true rfl⟩) hK hP hD hS hA [0, 1, 2, 3] [] 0 0 rfl (by decide) rfl rfl (by decide) (by decide) rfl rfl rfl rfl hl.1 rfl (Nat.le_of_ble_eq_true rfl) dX0_key_16 ⟨Nat.zero_le _, Nat.zero_le _⟩ (fun H locs hP hD hS => ?_)
  have hP : va_P D vwCl [(b, .inr (0, [.ref h, .ref kq, .int (nI n)])), (kq, .inl (d0, 1024, .inl (upd g i p1))), (h, .inr (1, [.ref r, .int x, .int y, .int z])), (r, .inl (d0, 624, .inl f))] H := hP
  have hD : va_D A [(b, .inr (0, [.ref h, .ref kq, .int (nI n)])), (kq, .inl (d0, 1024, .inl (upd g i p1))), (h, .inr (1, [.ref r, .int x, .int y, .int z])), (r, .inl (d0, 624, .inl f))] := hD
  refine lv_istore (lv' := [(6, .int (nI (tw_jn n i))), (0, .ref b), (1, .int p0), (2, .int p1), (3, .int p2), (4, .int p3), (5, .int p4)]) hx hb dX0_key_19 hl (by decide) rfl (fun ls hl => ?_)
  refine lv_aload_n hx hb dX0_key_21 rfl (lv_at hl 1 rfl) ?_
  refine lv_iload hx hb dX0_key_22 (lv_at hl 0 rfl) ?_
  refine lv_iload_n hx hb dX0_key_24 rfl (lv_at hl 4 rfl) ?_
  refine tw_ci (As := [.int (nI (tw_jn n i)), .int p2]) (rest := []) (wr := []) (C := RX0) ⟨hx, hb, hml, hown, hts⟩ (m_put l D d0 b h r kq f (upd g i p1) x y z p2 n (tw_jn n i) hj1 hn) (cwV 2 hts (lw_V q74 q76 qs2 q7 q77) rfl rfl rfl (by decide +kernel) ⟨Nat.le_of_ble_eq_true rfl, Nat.le_of_ble_eq_true rfl⟩) hK hP hD hS hA [0, 1, 2, 3] [] 0 0 rfl (by decide) rfl rfl (by decide) (by decide) rfl rfl rfl rfl hl.1 rfl (Nat.le_of_ble_eq_true rfl) dX0_key_25 ⟨Nat.zero_le _, Nat.zero_le _⟩ (fun H locs hP hD hS => ?_)
  have hP : va_P D vwCl [(b, .inr (0, [.ref h, .ref kq, .int (nI n)])), (kq, .inl (d0, 1024, .inl (upd (upd g i p1) (tw_jn n i) p2))), (h, .inr (1, [.ref r, .int x, .int y, .int z])), (r, .inl (d0, 624, .inl f))] H := hP
  have hD : va_D A [(b, .inr (0, [.ref h, .ref kq, .int (nI n)])), (kq, .inl (d0, 1024, .inl (upd (upd g i p1) (tw_jn n i) p2))), (h, .inr (1, [.ref r, .int x, .int y, .int z])), (r, .inl (d0, 624, .inl f))] := hD
  refine lv_istore (lv' := [(6, .int (nI (tw_jn n (tw_jn n i)))), (0, .ref b), (1, .int p0), (2, .int p1), (3, .int p2), (4, .int p3), (5, .int p4)]) hx hb dX0_key_28 hl (by decide) rfl (fun ls hl => ?_)
  refine lv_aload_n hx hb dX0_key_30 rfl (lv_at hl 1 rfl) ?_
  refine lv_iload hx hb dX0_key_31 (lv_at hl 0 rfl) ?_
  refine lv_iload hx hb dX0_key_33 (lv_at hl 5 rfl) ?_
  refine tw_ci (As := [.int (nI (tw_jn n (tw_jn n i))), .int p3]) (rest := []) (wr := []) (C := RX0) ⟨hx, hb, hml, hown, hts⟩ (m_put l D d0 b h r kq f (upd (upd g i p1) (tw_jn n i) p2) x y z p3 n (tw_jn n (tw_jn n i)) hj2 hn) (cwV 2 hts (lw_V q74 q76 qs2 q7 q77) rfl rfl rfl (by decide +kernel) ⟨Nat.le_of_ble_eq_true rfl, Nat.le_of_ble_eq_true rfl⟩) hK hP hD hS hA [0, 1, 2, 3] [] 0 0 rfl (by decide) rfl rfl (by decide) (by decide) rfl rfl rfl rfl hl.1 rfl (Nat.le_of_ble_eq_true rfl) dX0_key_35 ⟨Nat.zero_le _, Nat.zero_le _⟩ (fun H locs hP hD hS => ?_)
  have hP : va_P D vwCl [(b, .inr (0, [.ref h, .ref kq, .int (nI n)])), (kq, .inl (d0, 1024, .inl (upd (upd (upd g i p1) (tw_jn n i) p2) (tw_jn n (tw_jn n i)) p3))), (h, .inr (1, [.ref r, .int x, .int y, .int z])), (r, .inl (d0, 624, .inl f))] H := hP
  have hD : va_D A [(b, .inr (0, [.ref h, .ref kq, .int (nI n)])), (kq, .inl (d0, 1024, .inl (upd (upd (upd g i p1) (tw_jn n i) p2) (tw_jn n (tw_jn n i)) p3))), (h, .inr (1, [.ref r, .int x, .int y, .int z])), (r, .inl (d0, 624, .inl f))] := hD
  refine lv_istore (lv' := [(6, .int (nI (tw_jn n (tw_jn n (tw_jn n i))))), (0, .ref b), (1, .int p0), (2, .int p1), (3, .int p2), (4, .int p3), (5, .int p4)]) hx hb dX0_key_38 hl (by decide) rfl (fun ls hl => ?_)
  refine lv_aload_n hx hb dX0_key_40 rfl (lv_at hl 1 rfl) ?_
  refine lv_iload hx hb dX0_key_41 (lv_at hl 0 rfl) ?_
  refine lv_iload hx hb dX0_key_43 (lv_at hl 6 rfl) ?_
  refine tw_ci (As := [.int (nI (tw_jn n (tw_jn n (tw_jn n i)))), .int p4]) (rest := []) (wr := []) (C := RX0) ⟨hx, hb, hml, hown, hts⟩ (m_put l D d0 b h r kq f (upd (upd (upd g i p1) (tw_jn n i) p2) (tw_jn n (tw_jn n i)) p3) x y z p4 n (tw_jn n (tw_jn n (tw_jn n i))) hj3 hn) (cwV 2 hts (lw_V q74 q76 qs2 q7 q77) rfl rfl rfl (by decide +kernel) ⟨Nat.le_of_ble_eq_true rfl, Nat.le_of_ble_eq_true rfl⟩) hK hP hD hS hA [0, 1, 2, 3] [] 0 0 rfl (by decide) rfl rfl (by decide) (by decide) rfl rfl rfl rfl hl.1 rfl (Nat.le_of_ble_eq_true rfl) dX0_key_45 ⟨Nat.zero_le _, Nat.zero_le _⟩ (fun H locs hP hD hS => ?_)
  have hP : va_P D vwCl [(b, .inr (0, [.ref h, .ref kq, .int (nI n)])), (kq, .inl (d0, 1024, .inl (upd (upd (upd (upd g i p1) (tw_jn n i) p2) (tw_jn n (tw_jn n i)) p3) (tw_jn n (tw_jn n (tw_jn n i))) p4))), (h, .inr (1, [.ref r, .int x, .int y, .int z])), (r, .inl (d0, 624, .inl f))] H := hP
  have hD : va_D A [(b, .inr (0, [.ref h, .ref kq, .int (nI n)])), (kq, .inl (d0, 1024, .inl (upd (upd (upd (upd g i p1) (tw_jn n i) p2) (tw_jn n (tw_jn n i)) p3) (tw_jn n (tw_jn n (tw_jn n i))) p4))), (h, .inr (1, [.ref r, .int x, .int y, .int z])), (r, .inl (d0, 624, .inl f))] := hD
  refine lv_pop hx hb dX0_key_48 rfl ?_
  exact ret _ _ _ _ dX0_key_49 hP hD hS
set_option maxHeartbeats 4000000 in
set_option maxRecDepth 100000 in
/-- TwistedBits.keyed() -/
theorem m_xkeyed (l : Launch) (D : va_G) (d0 : ClassId) (b h r kq : Nat) (f g : Nat → Int32) (f1 : Nat → Int32) (x y z : Int32) (n : Nat) (hn1 : 0 < n) (hn : n ≤ 1024) (hf1 : f1 = tw_keyed f g n) : tw_Mv l yX0_keyed (ws_ yX0_keyed cX0_keyed 1 none) ({ frames := 3, cells := 0, slots := 0, locals := 90 } : Room) D d0 [.ref b] [(b, .inr (0, [.ref h, .ref kq, .int (nI n)])), (kq, .inl (d0, 1024, .inl g)), (h, .inr (1, [.ref r, .int x, .int y, .int z])), (r, .inl (d0, 624, .inl f))] [(b, .inr (0, [.ref h, .ref kq, .int (nI n)])), (kq, .inl (d0, 1024, .inl g)), (h, .inr (1, [.ref r, .int (nI 0), .int (nI 1), .int (nI 397)])), (r, .inl (d0, 624, .inl f1))] := by
  refine tw_Mv_of (lv := [(0, .ref b)]) (by decide) (Nat.le_of_ble_eq_true rfl) rfl ?_
  intro p e s m below meth c A Q ls H locs hx hb hml hown hts hA hK hP hD hS hl ret
  have hown : s.vm.findClass RX0 = some m.cls := hown
  refine lv_aload_n hx hb dX0_keyed_0 rfl (lv_at hl 0 rfl) ?_
  refine va_get (D := D) (ci := 0) (v := .ref h) (C := RX0) (T := TX0) (N := 3) hx hb hts in_X0 hown hK hP 0 rfl rfl 0 (by decide) (hts _ q52) (fun _ h9 => h9) rfl dX0_keyed_1 ?_
  refine lv_aload_n hx hb dX0_keyed_4 rfl (lv_at hl 0 rfl) ?_
  refine va_get (D := D) (ci := 0) (v := .ref kq) (C := RX0) (T := TX0) (N := 3) hx hb hts in_X0 hown hK hP 0 rfl rfl 1 (by decide) (hts _ q53) (fun _ h9 => h9) rfl dX0_keyed_5 ?_
  refine lv_aload_n hx hb dX0_keyed_8 rfl (lv_at hl 0 rfl) ?_
  refine va_get (D := D) (ci := 0) (v := .int (nI n)) (C := RX0) (T := TX0) (N := 3) hx hb hts in_X0 hown hK hP 0 rfl rfl 2 (by decide) (hts _ q54) (fun _ h9 => h9) rfl dX0_keyed_9 ?_
  refine tw_cv (As := [.ref kq, .int (nI n)]) (rest := []) (wr := [(b, .inr (0, [.ref h, .ref kq, .int (nI n)]))]) (C := RX1) ⟨hx, hb, hml, hown, hts⟩ (m_seed2 l D d0 h r kq f f1 g x y z n hn1 hn hf1) (cwV 2 hts (lw_V q82 q83 q84 q8 q85) rfl rfl rfl (by decide +kernel) ⟨Nat.le_of_ble_eq_true rfl, Nat.le_of_ble_eq_true rfl⟩) hK hP hD hS hA [1, 2, 3] [0] 1 1 rfl (by decide) rfl rfl (by decide) (by decide) rfl rfl rfl rfl hl.1 rfl (Nat.le_of_ble_eq_true rfl) dX0_keyed_12 ⟨Nat.zero_le _, Nat.zero_le _⟩ (fun H locs hP hD hS => ?_)
  have hP : va_P D vwCl [(b, .inr (0, [.ref h, .ref kq, .int (nI n)])), (kq, .inl (d0, 1024, .inl g)), (h, .inr (1, [.ref r, .int (nI 0), .int (nI 1), .int (nI 397)])), (r, .inl (d0, 624, .inl f1))] H := hP
  have hD : va_D A [(b, .inr (0, [.ref h, .ref kq, .int (nI n)])), (kq, .inl (d0, 1024, .inl g)), (h, .inr (1, [.ref r, .int (nI 0), .int (nI 1), .int (nI 397)])), (r, .inl (d0, 624, .inl f1))] := hD
  exact ret _ _ _ _ dX0_keyed_15 hP hD hS
set_option maxHeartbeats 4000000 in
set_option maxRecDepth 100000 in
/-- TwistedBits.next() -/
theorem m_xnext (l : Launch) (D : va_G) (d0 : ClassId) (b h r kq : Nat) (f g : Nat → Int32) (n a : Nat) (ha : a < 624) : tw_Mi l yX0_next (ws_ yX0_next cX0_next 2 (some .int)) ({ frames := 2, cells := 0, slots := 0, locals := 60 } : Room) D d0 [.ref b] [(b, .inr (0, [.ref h, .ref kq, .int (nI n)])), (kq, .inl (d0, 1024, .inl g)), (h, .inr (1, [.ref r, .int (nI a), .int (nI (tw_nx a)), .int (nI (tw_fr a))])), (r, .inl (d0, 624, .inl f))] [(b, .inr (0, [.ref h, .ref kq, .int (nI n)])), (kq, .inl (d0, 1024, .inl g)), (h, .inr (1, [.ref r, .int (nI (tw_nx a)), .int (nI (tw_nx (tw_nx a))), .int (nI (tw_fr (tw_nx a)))])), (r, .inl (d0, 624, .inl (tw_tf f a)))] (tw_tp (tw_xv f a)) := by
  refine tw_Mi_of (lv := [(0, .ref b)]) .int (vp_nar_int _) (by decide) (Nat.le_of_ble_eq_true rfl) rfl ?_
  intro p e s m below meth c A Q ls H locs hx hb hml hown hts hA hK hP hD hS hl ret
  have hown : s.vm.findClass RX0 = some m.cls := hown
  refine lv_aload_n hx hb dX0_next_0 rfl (lv_at hl 0 rfl) ?_
  refine va_get (D := D) (ci := 0) (v := .ref h) (C := RX0) (T := TX0) (N := 3) hx hb hts in_X0 hown hK hP 0 rfl rfl 0 (by decide) (hts _ q52) (fun _ h9 => h9) rfl dX0_next_1 ?_
  refine tw_ci (As := []) (rest := []) (wr := [(b, .inr (0, [.ref h, .ref kq, .int (nI n)])), (kq, .inl (d0, 1024, .inl g))]) (C := RX1) ⟨hx, hb, hml, hown, hts⟩ (m_turned l D d0 h r f a (tw_nx a) (tw_fr a) ha (tw_nx_lt ha) (tw_fr_lt a)) (cwV 0 hts (lw_V q106 q107 q108 q8 q109) rfl rfl rfl (by decide +kernel) ⟨Nat.le_of_ble_eq_true rfl, Nat.le_of_ble_eq_true rfl⟩) hK hP hD hS hA [2, 3] [0, 1] 1 0 rfl (by decide) rfl rfl (by decide) (by decide) rfl rfl rfl rfl hl.1 rfl (Nat.le_of_ble_eq_true rfl) dX0_next_4 ⟨Nat.zero_le _, Nat.zero_le _⟩ (fun H locs hP hD hS => ?_)
  have hP : va_P D vwCl [(b, .inr (0, [.ref h, .ref kq, .int (nI n)])), (kq, .inl (d0, 1024, .inl g)), (h, .inr (1, [.ref r, .int (nI (tw_nx a)), .int (nI (tw_nx (tw_nx a))), .int (nI (tw_nx (tw_fr a)))])), (r, .inl (d0, 624, .inl (upd f a (tw_tv (f a) (f (tw_nx a)) (f (tw_fr a))))))] H := hP
  have hD : va_D A [(b, .inr (0, [.ref h, .ref kq, .int (nI n)])), (kq, .inl (d0, 1024, .inl g)), (h, .inr (1, [.ref r, .int (nI (tw_nx a)), .int (nI (tw_nx (tw_nx a))), .int (nI (tw_nx (tw_fr a)))])), (r, .inl (d0, 624, .inl (upd f a (tw_tv (f a) (f (tw_nx a)) (f (tw_fr a))))))] := hD
  rw [tw_fr_nx ha] at hP hD
  have hP : va_P D vwCl [(b, .inr (0, [.ref h, .ref kq, .int (nI n)])), (kq, .inl (d0, 1024, .inl g)), (h, .inr (1, [.ref r, .int (nI (tw_nx a)), .int (nI (tw_nx (tw_nx a))), .int (nI (tw_fr (tw_nx a)))])), (r, .inl (d0, 624, .inl (tw_tf f a)))] H := hP
  have hD : va_D A [(b, .inr (0, [.ref h, .ref kq, .int (nI n)])), (kq, .inl (d0, 1024, .inl g)), (h, .inr (1, [.ref r, .int (nI (tw_nx a)), .int (nI (tw_nx (tw_nx a))), .int (nI (tw_fr (tw_nx a)))])), (r, .inl (d0, 624, .inl (tw_tf f a)))] := hD
  refine tw_top (z := tw_xv f a) (rfl) ?_
  refine lv_istore_n (lv' := [(1, .int (tw_xv f a)), (0, .ref b)]) hx hb dX0_next_7 rfl hl (by decide) rfl (fun ls hl => ?_)
  refine lv_iload_n hx hb dX0_next_8 rfl (lv_at hl 0 rfl) ?_
  refine lv_iload_n hx hb dX0_next_9 rfl (lv_at hl 0 rfl) ?_
  refine lv_bipush (v := 11) hx hb dX0_next_10 (by decide) ?_
  refine lv_iushr (v := tw_us (tw_xv f a) 11) hx hb dX0_next_12 rfl ?_
  refine lv_ixor hx hb dX0_next_13 ?_
  refine tw_top (z := tw_p1 (tw_xv f a)) (rfl) ?_
  refine lv_istore_n (lv' := [(1, .int (tw_p1 (tw_xv f a))), (0, .ref b)]) hx hb dX0_next_14 rfl hl (by decide) rfl (fun ls hl => ?_)
  refine lv_iload_n hx hb dX0_next_15 rfl (lv_at hl 0 rfl) ?_
  refine lv_iload_n hx hb dX0_next_16 rfl (lv_at hl 0 rfl) ?_
  refine lv_bipush (v := 7) hx hb dX0_next_17 (by decide) ?_
  refine lv_ishl hx hb dX0_next_19 ?_
  refine lv_ldc hx hb hown (hts _ q115) dX0_next_20 ?_
  refine lv_iand hx hb dX0_next_22 ?_
  refine lv_ixor hx hb dX0_next_23 ?_
  refine tw_top (z := tw_p2 (tw_p1 (tw_xv f a))) (rfl) ?_
  refine lv_istore_n (lv' := [(1, .int (tw_p2 (tw_p1 (tw_xv f a)))), (0, .ref b)]) hx hb dX0_next_24 rfl hl (by decide) rfl (fun ls hl => ?_)
  refine lv_iload_n hx hb dX0_next_25 rfl (lv_at hl 0 rfl) ?_
  refine lv_iload_n hx hb dX0_next_26 rfl (lv_at hl 0 rfl) ?_
  refine lv_bipush (v := 15) hx hb dX0_next_27 (by decide) ?_
  refine lv_ishl hx hb dX0_next_29 ?_
  refine lv_ldc hx hb hown (hts _ q116) dX0_next_30 ?_
  refine lv_iand hx hb dX0_next_32 ?_
  refine lv_ixor hx hb dX0_next_33 ?_
  refine tw_top (z := tw_p3 (tw_p2 (tw_p1 (tw_xv f a)))) (rfl) ?_
  refine lv_istore_n (lv' := [(1, .int (tw_p3 (tw_p2 (tw_p1 (tw_xv f a))))), (0, .ref b)]) hx hb dX0_next_34 rfl hl (by decide) rfl (fun ls hl => ?_)
  refine lv_iload_n hx hb dX0_next_35 rfl (lv_at hl 0 rfl) ?_
  refine lv_iload_n hx hb dX0_next_36 rfl (lv_at hl 0 rfl) ?_
  refine lv_bipush (v := 18) hx hb dX0_next_37 (by decide) ?_
  refine lv_iushr (v := tw_us (tw_p3 (tw_p2 (tw_p1 (tw_xv f a)))) 18) hx hb dX0_next_39 rfl ?_
  refine lv_ixor hx hb dX0_next_40 ?_
  refine tw_top (z := tw_tp (tw_xv f a)) (rfl) ?_
  exact ret _ _ _ _ dX0_next_41 hP hD hS
set_option maxHeartbeats 4000000 in
set_option maxRecDepth 100000 in
/-- TwistedBits.bits(v) -/
theorem m_xbits (l : Launch) (D : va_G) (d0 : ClassId) (b h r kq : Nat) (f g : Nat → Int32) (v : Int32) (n a : Nat) (ha : a < 624) : tw_Mi l yX0_bits (ws_ yX0_bits cX0_bits 2 (some .int)) ({ frames := 3, cells := 0, slots := 0, locals := 90 } : Room) D d0 [.ref b, .int v] [(b, .inr (0, [.ref h, .ref kq, .int (nI n)])), (kq, .inl (d0, 1024, .inl g)), (h, .inr (1, [.ref r, .int (nI a), .int (nI (tw_nx a)), .int (nI (tw_fr a))])), (r, .inl (d0, 624, .inl f))] [(b, .inr (0, [.ref h, .ref kq, .int (nI n)])), (kq, .inl (d0, 1024, .inl g)), (h, .inr (1, [.ref r, .int (nI (tw_nx a)), .int (nI (tw_nx (tw_nx a))), .int (nI (tw_fr (tw_nx a)))])), (r, .inl (d0, 624, .inl (tw_tf f a)))] (tw_bt (tw_tp (tw_xv f a)) v) := by
  refine tw_Mi_of (lv := [(0, .ref b), (1, .int v)]) .int (vp_nar_int _) (by decide) (Nat.le_of_ble_eq_true rfl) rfl ?_
  intro p e s m below meth c A Q ls H locs hx hb hml hown hts hA hK hP hD hS hl ret
  have hown : s.vm.findClass RX0 = some m.cls := hown
  refine lv_aload_n hx hb dX0_bits_0 rfl (lv_at hl 0 rfl) ?_
  refine tw_ci (As := []) (rest := []) (wr := []) (C := RX0) ⟨hx, hb, hml, hown, hts⟩ (m_xnext l D d0 b h r kq f g n a ha) (cwV 0 hts (lw_V q102 q104 qs4 q7 q105) rfl rfl rfl (by decide +kernel) ⟨Nat.le_of_ble_eq_true rfl, Nat.le_of_ble_eq_true rfl⟩) hK hP hD hS hA [0, 1, 2, 3] [] 0 0 rfl (by decide) rfl rfl (by decide) (by decide) rfl rfl rfl rfl hl.1 rfl (Nat.le_of_ble_eq_true rfl) dX0_bits_1 ⟨Nat.zero_le _, Nat.zero_le _⟩ (fun H locs hP hD hS => ?_)
  have hP : va_P D vwCl [(b, .inr (0, [.ref h, .ref kq, .int (nI n)])), (kq, .inl (d0, 1024, .inl g)), (h, .inr (1, [.ref r, .int (nI (tw_nx a)), .int (nI (tw_nx (tw_nx a))), .int (nI (tw_fr (tw_nx a)))])), (r, .inl (d0, 624, .inl (tw_tf f a)))] H := hP
  have hD : va_D A [(b, .inr (0, [.ref h, .ref kq, .int (nI n)])), (kq, .inl (d0, 1024, .inl g)), (h, .inr (1, [.ref r, .int (nI (tw_nx a)), .int (nI (tw_nx (tw_nx a))), .int (nI (tw_fr (tw_nx a)))])), (r, .inl (d0, 624, .inl (tw_tf f a)))] := hD
  refine lv_bipush (v := 31) hx hb dX0_bits_4 (by decide) ?_
  refine lv_iload_n hx hb dX0_bits_6 rfl (lv_at hl 1 rfl) ?_
  refine lv_bipush (v := 31) hx hb dX0_bits_7 (by decide) ?_
  refine lv_iand hx hb dX0_bits_9 ?_
  refine lv_isub hx hb dX0_bits_10 ?_
  refine lv_iushr (v := tw_us (tw_tp (tw_xv f a)) (31 - (v &&& 31))) hx hb dX0_bits_11 rfl ?_
  refine tw_top (z := tw_bt (tw_tp (tw_xv f a)) v) (rfl) ?_
  exact ret _ _ _ _ dX0_bits_12 hP hD hS
set_option maxHeartbeats 4000000 in
set_option maxRecDepth 100000 in
/-- TwistedBits.wide() -/
theorem m_xwide (l : Launch) (D : va_G) (d0 : ClassId) (b h r kq : Nat) (f g : Nat → Int32) (n a : Nat) (ha : a < 624) : tw_Ml l yX0_wide (ws_ yX0_wide cX0_wide 3 (some .long)) ({ frames := 3, cells := 0, slots := 0, locals := 90 } : Room) D d0 [.ref b] [(b, .inr (0, [.ref h, .ref kq, .int (nI n)])), (kq, .inl (d0, 1024, .inl g)), (h, .inr (1, [.ref r, .int (nI a), .int (nI (tw_nx a)), .int (nI (tw_fr a))])), (r, .inl (d0, 624, .inl f))] [(b, .inr (0, [.ref h, .ref kq, .int (nI n)])), (kq, .inl (d0, 1024, .inl g)), (h, .inr (1, [.ref r, .int (nI (tw_nx (tw_nx a))), .int (nI (tw_nx (tw_nx (tw_nx a)))), .int (nI (tw_fr (tw_nx (tw_nx a))))])), (r, .inl (d0, 624, .inl (tw_tf (tw_tf f a) (tw_nx a))))] (tw_wd (tw_tp (tw_xv f a)) (tw_tp (tw_xv (tw_tf f a) (tw_nx a)))) := by
  refine tw_Ml_of (lv := [(0, .ref b)]) (by decide) (Nat.le_of_ble_eq_true rfl) rfl ?_
  intro p e s m below meth c A Q ls H locs hx hb hml hown hts hA hK hP hD hS hl ret
  have hown : s.vm.findClass RX0 = some m.cls := hown
  refine lv_aload_n hx hb dX0_wide_0 rfl (lv_at hl 0 rfl) ?_
  refine tw_ci (As := []) (rest := []) (wr := []) (C := RX0) ⟨hx, hb, hml, hown, hts⟩ (m_xnext l D d0 b h r kq f g n a ha) (cwV 0 hts (lw_V q102 q104 qs4 q7 q105) rfl rfl rfl (by decide +kernel) ⟨Nat.le_of_ble_eq_true rfl, Nat.le_of_ble_eq_true rfl⟩) hK hP hD hS hA [0, 1, 2, 3] [] 0 0 rfl (by decide) rfl rfl (by decide) (by decide) rfl rfl rfl rfl hl.1 rfl (Nat.le_of_ble_eq_true rfl) dX0_wide_1 ⟨Nat.zero_le _, Nat.zero_le _⟩ (fun H locs hP hD hS => ?_)
  have hP : va_P D vwCl [(b, .inr (0, [.ref h, .ref kq, .int (nI n)])), (kq, .inl (d0, 1024, .inl g)), (h, .inr (1, [.ref r, .int (nI (tw_nx a)), .int (nI (tw_nx (tw_nx a))), .int (nI (tw_fr (tw_nx a)))])), (r, .inl (d0, 624, .inl (tw_tf f a)))] H := hP
  have hD : va_D A [(b, .inr (0, [.ref h, .ref kq, .int (nI n)])), (kq, .inl (d0, 1024, .inl g)), (h, .inr (1, [.ref r, .int (nI (tw_nx a)), .int (nI (tw_nx (tw_nx a))), .int (nI (tw_fr (tw_nx a)))])), (r, .inl (d0, 624, .inl (tw_tf f a)))] := hD
  refine lv_i2l (v := (tw_tp (tw_xv f a)).toInt64) hx hb dX0_wide_4 rfl ?_
  refine lv_lstore_n (lv' := [(1, .long ((tw_tp (tw_xv f a)).toInt64)), (0, .ref b)]) hx hb dX0_wide_5 rfl hl (by decide) rfl (fun ls hl => ?_)
  refine lv_lload_n hx hb dX0_wide_6 rfl (lv_at hl 0 rfl) ?_
  refine lv_bipush (v := 32) hx hb dX0_wide_7 (by decide) ?_
  refine lv_lshl (v := ((tw_tp (tw_xv f a)).toInt64) <<< ((32 : Int32).toInt64 &&& 63)) hx hb dX0_wide_9 rfl ?_
  refine lv_aload_n hx hb dX0_wide_10 rfl (lv_at hl 1 rfl) ?_
  refine tw_ci (As := []) (rest := [.long (((tw_tp (tw_xv f a)).toInt64) <<< ((32 : Int32).toInt64 &&& 63))]) (wr := []) (C := RX0) ⟨hx, hb, hml, hown, hts⟩ (m_xnext l D d0 b h r kq (tw_tf f a) g n (tw_nx a) (tw_nx_lt ha)) (cwV 0 hts (lw_V q102 q104 qs4 q7 q105) rfl rfl rfl (by decide +kernel) ⟨Nat.le_of_ble_eq_true rfl, Nat.le_of_ble_eq_true rfl⟩) hK hP hD hS hA [0, 1, 2, 3] [] 0 0 rfl (by decide) rfl rfl (by decide) (by decide) rfl rfl rfl rfl hl.1 rfl (Nat.le_of_ble_eq_true rfl) dX0_wide_11 ⟨Nat.zero_le _, Nat.zero_le _⟩ (fun H locs hP hD hS => ?_)
  have hP : va_P D vwCl [(b, .inr (0, [.ref h, .ref kq, .int (nI n)])), (kq, .inl (d0, 1024, .inl g)), (h, .inr (1, [.ref r, .int (nI (tw_nx (tw_nx a))), .int (nI (tw_nx (tw_nx (tw_nx a)))), .int (nI (tw_fr (tw_nx (tw_nx a))))])), (r, .inl (d0, 624, .inl (tw_tf (tw_tf f a) (tw_nx a))))] H := hP
  have hD : va_D A [(b, .inr (0, [.ref h, .ref kq, .int (nI n)])), (kq, .inl (d0, 1024, .inl g)), (h, .inr (1, [.ref r, .int (nI (tw_nx (tw_nx a))), .int (nI (tw_nx (tw_nx (tw_nx a)))), .int (nI (tw_fr (tw_nx (tw_nx a))))])), (r, .inl (d0, 624, .inl (tw_tf (tw_tf f a) (tw_nx a))))] := hD
  refine lv_i2l (v := (tw_tp (tw_xv (tw_tf f a) (tw_nx a))).toInt64) hx hb dX0_wide_14 rfl ?_
  refine lv_ldc2 hx hb hown (hts _ q121) dX0_wide_15 ?_
  refine lv_land hx hb dX0_wide_18 ?_
  refine lv_lor hx hb dX0_wide_19 ?_
  refine tw_topl (z := tw_wd (tw_tp (tw_xv f a)) (tw_tp (tw_xv (tw_tf f a) (tw_nx a)))) (rfl) ?_
  exact ret _ _ _ _ dX0_wide_20 hP hD hS
theorem tw_xc_nar (o : Int32) : narrow .boolean (.int (tw_xc o)) = .int (tw_xc o) := by
  unfold tw_xc
  split <;> rfl
set_option maxHeartbeats 4000000 in
set_option maxRecDepth 100000 in
/-- TwistedBits.coin() -/
theorem m_xcoin (l : Launch) (D : va_G) (d0 : ClassId) (b h r kq : Nat) (f g : Nat → Int32) (n a : Nat) (ha : a < 624) : tw_Mi l yX0_coin (ws_ yX0_coin cX0_coin 1 (some .boolean)) ({ frames := 3, cells := 0, slots := 0, locals := 90 } : Room) D d0 [.ref b] [(b, .inr (0, [.ref h, .ref kq, .int (nI n)])), (kq, .inl (d0, 1024, .inl g)), (h, .inr (1, [.ref r, .int (nI a), .int (nI (tw_nx a)), .int (nI (tw_fr a))])), (r, .inl (d0, 624, .inl f))] [(b, .inr (0, [.ref h, .ref kq, .int (nI n)])), (kq, .inl (d0, 1024, .inl g)), (h, .inr (1, [.ref r, .int (nI (tw_nx a)), .int (nI (tw_nx (tw_nx a))), .int (nI (tw_fr (tw_nx a)))])), (r, .inl (d0, 624, .inl (tw_tf f a)))] (tw_xc (tw_tp (tw_xv f a))) := by
  refine tw_Mi_of (lv := [(0, .ref b)]) .boolean (tw_xc_nar _) (by decide) (Nat.le_of_ble_eq_true rfl) rfl ?_
  intro p e s m below meth c A Q ls H locs hx hb hml hown hts hA hK hP hD hS hl ret
  have hown : s.vm.findClass RX0 = some m.cls := hown
  refine lv_aload_n hx hb dX0_coin_0 rfl (lv_at hl 0 rfl) ?_
  refine tw_ci (As := []) (rest := []) (wr := []) (C := RX0) ⟨hx, hb, hml, hown, hts⟩ (m_xnext l D d0 b h r kq f g n a ha) (cwV 0 hts (lw_V q102 q104 qs4 q7 q105) rfl rfl rfl (by decide +kernel) ⟨Nat.le_of_ble_eq_true rfl, Nat.le_of_ble_eq_true rfl⟩) hK hP hD hS hA [0, 1, 2, 3] [] 0 0 rfl (by decide) rfl rfl (by decide) (by decide) rfl rfl rfl rfl hl.1 rfl (Nat.le_of_ble_eq_true rfl) dX0_coin_1 ⟨Nat.zero_le _, Nat.zero_le _⟩ (fun H locs hP hD hS => ?_)
  have hP : va_P D vwCl [(b, .inr (0, [.ref h, .ref kq, .int (nI n)])), (kq, .inl (d0, 1024, .inl g)), (h, .inr (1, [.ref r, .int (nI (tw_nx a)), .int (nI (tw_nx (tw_nx a))), .int (nI (tw_fr (tw_nx a)))])), (r, .inl (d0, 624, .inl (tw_tf f a)))] H := hP
  have hD : va_D A [(b, .inr (0, [.ref h, .ref kq, .int (nI n)])), (kq, .inl (d0, 1024, .inl g)), (h, .inr (1, [.ref r, .int (nI (tw_nx a)), .int (nI (tw_nx (tw_nx a))), .int (nI (tw_fr (tw_nx a)))])), (r, .inl (d0, 624, .inl (tw_tf f a)))] := hD
  refine lv_if_ge (tgt := 11) hx hb dX0_coin_4 (by decide) (fun hc => ?_) (fun hc => ?_)
  · refine lv_iconst (v := 0) hx hb dX0_coin_11 (by decide) ?_
    refine tw_top (z := tw_xc (tw_tp (tw_xv f a))) (by rw [show tw_xc (tw_tp (tw_xv f a)) = 0 from if_pos hc]) ?_
    exact ret _ _ _ _ dX0_coin_12 hP hD hS
  · refine lv_iconst (v := 1) hx hb dX0_coin_7 (by decide) ?_
    refine lv_goto (tgt := 12) hx hb dX0_coin_8 (by decide) ?_
    refine tw_top (z := tw_xc (tw_tp (tw_xv f a))) (by rw [show tw_xc (tw_tp (tw_xv f a)) = 1 from if_neg hc]) ?_
    exact ret _ _ _ _ dX0_coin_12 hP hD hS
set_option maxHeartbeats 4000000 in
set_option maxRecDepth 100000 in
/-- TwistedBits.skip(v) -/
theorem m_xskip (l : Launch) (D : va_G) (d0 : ClassId) (b h r kq : Nat) (f g : Nat → Int32) (v : Int32) (n a : Nat) (ha : a < 624) (P : (Nat → Int32) × Nat × Int32) (hPs : P = tw_xs (tw_lo v) f a 0) : tw_Mi l yX0_skip (ws_ yX0_skip cX0_skip 4 (some .int)) ({ frames := 3, cells := 0, slots := 0, locals := 90 } : Room) D d0 [.ref b, .int v] [(b, .inr (0, [.ref h, .ref kq, .int (nI n)])), (kq, .inl (d0, 1024, .inl g)), (h, .inr (1, [.ref r, .int (nI a), .int (nI (tw_nx a)), .int (nI (tw_fr a))])), (r, .inl (d0, 624, .inl f))] [(b, .inr (0, [.ref h, .ref kq, .int (nI n)])), (kq, .inl (d0, 1024, .inl g)), (h, .inr (1, [.ref r, .int (nI P.2.1), .int (nI (tw_nx P.2.1)), .int (nI (tw_fr P.2.1))])), (r, .inl (d0, 624, .inl P.1))] P.2.2 := by
  refine tw_Mi_of (lv := [(0, .ref b), (1, .int v)]) .int (vp_nar_int _) (by decide) (Nat.le_of_ble_eq_true rfl) rfl ?_
  intro p e s m below meth c A Q ls H locs hx hb hml hown hts hA hK hP hD hS hl ret
  have hown : s.vm.findClass RX0 = some m.cls := hown
  have hlo := tw_lo_lt v
  have lp : ∀ (q : Nat) (F : Nat → Int32) (i : Nat) (u : Int32) (H : Heap) (locs : List Loc) (ls : Array Slot), i < 624 → q ≤ 1024 → tw_xs q F i u = P → va_P D vwCl [(b, .inr (0, [.ref h, .ref kq, .int (nI n)])), (kq, .inl (d0, 1024, .inl g)), (h, .inr (1, [.ref r, .int (nI i), .int (nI (tw_nx i)), .int (nI (tw_fr i))])), (r, .inl (d0, 624, .inl F))] H → va_D A [(b, .inr (0, [.ref h, .ref kq, .int (nI n)])), (kq, .inl (d0, 1024, .inl g)), (h, .inr (1, [.ref r, .int (nI i), .int (nI (tw_nx i)), .int (nI (tw_fr i))])), (r, .inl (d0, 624, .inl F))] → va_S A s.heap H locs → lv_has ls 4 [(0, .ref b), (2, .int u), (3, .int (nI q))] → W p l e ({ frames := 3, cells := 0, slots := 0, locals := 90 } : Room) s m ([.ref b, .int v] : List Value).toArray below meth c H locs 0 0 Q (F0 m 8 ls []) := by
    intro q
    induction q with
    | zero =>
      intro F i u H locs ls hi hq hE hP hD hS hl
      refine lv_iload_n hx hb dX0_skip_8 rfl (lv_at hl 2 rfl) ?_
      refine tw_if_le (tgt := 23) hx hb dX0_skip_9 (by decide) (by omega) (fun hc => ?_) (fun hc => absurd hc (by omega))
      have hE : (F, i, u) = P := hE
      subst hE
      refine lv_iload_n hx hb dX0_skip_23 rfl (lv_at hl 1 rfl) ?_
      exact ret _ _ _ _ dX0_skip_24 hP hD hS
    | succ q ih =>
      intro F i u H locs ls hi hq hE hP hD hS hl
      refine lv_iload_n hx hb dX0_skip_8 rfl (lv_at hl 2 rfl) ?_
      refine tw_if_le (tgt := 23) hx hb dX0_skip_9 (by decide) (by omega) (fun hc => absurd hc (by omega)) (fun hc => ?_)
      refine lv_aload_n hx hb dX0_skip_12 rfl (lv_at hl 0 rfl) ?_
      refine tw_ci (As := []) (rest := []) (wr := []) (C := RX0) ⟨hx, hb, hml, hown, hts⟩ (m_xnext l D d0 b h r kq F g n i hi) (cwV 0 hts (lw_V q102 q104 qs4 q7 q105) rfl rfl rfl (by decide +kernel) ⟨Nat.le_of_ble_eq_true rfl, Nat.le_of_ble_eq_true rfl⟩) hK hP hD hS hA [0, 1, 2, 3] [] 0 0 rfl (by decide) rfl rfl (by decide) (by decide) rfl rfl rfl rfl hl.1 rfl (Nat.le_of_ble_eq_true rfl) dX0_skip_13 ⟨Nat.zero_le _, Nat.zero_le _⟩ (fun H locs hP hD hS => ?_)
      have hP : va_P D vwCl [(b, .inr (0, [.ref h, .ref kq, .int (nI n)])), (kq, .inl (d0, 1024, .inl g)), (h, .inr (1, [.ref r, .int (nI (tw_nx i)), .int (nI (tw_nx (tw_nx i))), .int (nI (tw_fr (tw_nx i)))])), (r, .inl (d0, 624, .inl (tw_tf F i)))] H := hP
      have hD : va_D A [(b, .inr (0, [.ref h, .ref kq, .int (nI n)])), (kq, .inl (d0, 1024, .inl g)), (h, .inr (1, [.ref r, .int (nI (tw_nx i)), .int (nI (tw_nx (tw_nx i))), .int (nI (tw_fr (tw_nx i)))])), (r, .inl (d0, 624, .inl (tw_tf F i)))] := hD
      refine lv_istore_n (lv' := [(2, .int (tw_tp (tw_xv F i))), (0, .ref b), (3, .int (nI (q + 1)))]) hx hb dX0_skip_16 rfl hl (by decide) rfl (fun ls hl => ?_)
      refine lv_iinc (v := nI q) (lv' := [(3, .int (nI q)), (2, .int (tw_tp (tw_xv F i))), (0, .ref b)]) hx hb dX0_skip_17 hl (k := 2) rfl (tw_dec _) (by decide) rfl (fun ls hl => ?_)
      refine lv_goto (tgt := 8) hx hb dX0_skip_20 (by decide) ?_
      exact ih (tw_tf F i) (tw_nx i) (tw_tp (tw_xv F i)) _ _ _ (tw_nx_lt hi) (by omega) hE hP hD hS (lv_sub hl [2, 1, 0] rfl)
  refine lv_iconst (v := 0) hx hb dX0_skip_0 (by decide) ?_
  refine lv_istore_n (lv' := [(2, .int 0), (0, .ref b), (1, .int v)]) hx hb dX0_skip_1 rfl hl (by decide) rfl (fun ls hl => ?_)
  refine lv_iload_n hx hb dX0_skip_2 rfl (lv_at hl 2 rfl) ?_
  refine lv_sipush (v := 1023) hx hb dX0_skip_3 (by decide) ?_
  refine lv_iand hx hb dX0_skip_6 ?_
  refine tw_top (z := nI (tw_lo v)) (tw_lo_and v) ?_
  refine lv_istore_n (lv' := [(3, .int (nI (tw_lo v))), (2, .int 0), (0, .ref b), (1, .int v)]) hx hb dX0_skip_7 rfl hl (by decide) rfl (fun ls hl => ?_)
  exact lp (tw_lo v) f a 0 _ _ _ ha (by omega) hPs.symm hP hD hS (lv_sub hl [2, 1, 0] rfl)
end
section
/-! REFERENCE: contracts of TwistedBitsModel but the constructor (by gen_model.py) -/
set_option maxHeartbeats 4000000 in
set_option maxRecDepth 100000 in
/-- TwistedBitsModel.seed(v) -/
theorem m_rseed (l : Launch) (D : va_G) (d0 : ClassId) (b sa ka : Nat) (f g : Nat → Int32) (f1 : Nat → Int32) (x v : Int32) (n : Nat) (hf1 : f1 = tw_seed f v) : tw_Mv l yX2_seed (ws_ yX2_seed cX2_seed 3 none) ({ frames := 0, cells := 0, slots := 0, locals := 0 } : Room) D d0 [.ref b, .int v] [(b, .inr (2, [.ref sa, .ref ka, .int (nI n), .int x])), (sa, .inl (d0, 624, .inl f)), (ka, .inl (d0, 1024, .inl g))] [(b, .inr (2, [.ref sa, .ref ka, .int (nI n), .int (nI 624)])), (sa, .inl (d0, 624, .inl f1)), (ka, .inl (d0, 1024, .inl g))] := by
  refine tw_Mv_of (lv := [(0, .ref b), (1, .int v)]) (by decide) (Nat.le_of_ble_eq_true rfl) rfl ?_
  intro p e s m below meth c A Q ls H locs hx hb hml hown hts hA hK hP hD hS hl ret
  have hown : s.vm.findClass RX2 = some m.cls := hown
  have lp : ∀ (q : Nat) (i : Nat) (H : Heap) (locs : List Loc) (ls : Array Slot), i + q = 623 → va_P D vwCl [(b, .inr (2, [.ref sa, .ref ka, .int (nI n), .int x])), (sa, .inl (d0, 624, .inl (tw_sd (upd f 0 v) i))), (ka, .inl (d0, 1024, .inl g))] H → va_D A [(b, .inr (2, [.ref sa, .ref ka, .int (nI n), .int x])), (sa, .inl (d0, 624, .inl (tw_sd (upd f 0 v) i))), (ka, .inl (d0, 1024, .inl g))] → va_S A s.heap H locs → lv_has ls 3 [(0, .ref b), (2, .int (nI (i + 1)))] → W p l e ({ frames := 0, cells := 0, slots := 0, locals := 0 } : Room) s m ([.ref b, .int v] : List Value).toArray below meth c H locs 0 0 Q (F0 m 9 ls []) := by
    intro q
    induction q with
    | zero =>
      intro i H locs ls hi hP hD hS hl
      refine lv_iload_n hx hb dX2_seed_9 rfl (lv_at hl 1 rfl) ?_
      refine lv_sipush (v := nI 624) hx hb dX2_seed_10 (by decide) ?_
      refine tw_icmp_ge (tgt := 53) hx hb dX2_seed_13 (by decide) (by omega) (by omega) (fun hc => ?_) (fun hc => absurd hc (by omega))
      have ei : i = 623 := by omega
      subst ei
      rw [← show f1 = tw_sd (upd f 0 v) 623 from hf1] at hP hD
      have hP : va_P D vwCl [(b, .inr (2, [.ref sa, .ref ka, .int (nI n), .int x])), (sa, .inl (d0, 624, .inl f1)), (ka, .inl (d0, 1024, .inl g))] H := hP
      have hD : va_D A [(b, .inr (2, [.ref sa, .ref ka, .int (nI n), .int x])), (sa, .inl (d0, 624, .inl f1)), (ka, .inl (d0, 1024, .inl g))] := hD
      refine lv_aload_n hx hb dX2_seed_53 rfl (lv_at hl 0 rfl) ?_
      refine lv_sipush (v := nI 624) hx hb dX2_seed_54 (by decide) ?_
      refine va_put (D := D) (ci := 2) (v := .int (nI 624)) (ty := .int) (C := RX2) (T := TX2) (N := 4) hx hb hts in_X2 tyX2 tyX2_ok nmX2 hown hK hP hD hS 0 rfl rfl 3 (by decide) (hts _ q144) (fun _ h9 => h9) rfl (by decide +kernel) rfl rfl (Nat.le_of_ble_eq_true rfl) dX2_seed_57 (fun H locs hP hD hS => ?_)
      have hP : va_P D vwCl [(b, .inr (2, [.ref sa, .ref ka, .int (nI n), .int (nI 624)])), (sa, .inl (d0, 624, .inl f1)), (ka, .inl (d0, 1024, .inl g))] H := hP
      have hD : va_D A [(b, .inr (2, [.ref sa, .ref ka, .int (nI n), .int (nI 624)])), (sa, .inl (d0, 624, .inl f1)), (ka, .inl (d0, 1024, .inl g))] := hD
      exact ret _ _ _ _ dX2_seed_60 hP hD hS
    | succ q ih =>
      intro i H locs ls hi hP hD hS hl
      refine lv_iload_n hx hb dX2_seed_9 rfl (lv_at hl 1 rfl) ?_
      refine lv_sipush (v := nI 624) hx hb dX2_seed_10 (by decide) ?_
      refine tw_icmp_ge (tgt := 53) hx hb dX2_seed_13 (by decide) (by omega) (by omega) (fun hc => absurd hc (by omega)) (fun hc => ?_)
      refine lv_aload_n hx hb dX2_seed_16 rfl (lv_at hl 0 rfl) ?_
      refine va_get (D := D) (ci := 2) (v := .ref sa) (C := RX2) (T := TX2) (N := 4) hx hb hts in_X2 hown hK hP 0 rfl rfl 0 (by decide) (hts _ q141) (fun _ h9 => h9) rfl dX2_seed_17 ?_
      refine lv_iload_n hx hb dX2_seed_20 rfl (lv_at hl 1 rfl) ?_
      refine lv_aload_n hx hb dX2_seed_21 rfl (lv_at hl 0 rfl) ?_
      refine va_get (D := D) (ci := 2) (v := .ref sa) (C := RX2) (T := TX2) (N := 4) hx hb hts in_X2 hown hK hP 0 rfl rfl 0 (by decide) (hts _ q141) (fun _ h9 => h9) rfl dX2_seed_22 ?_
      refine lv_iload_n hx hb dX2_seed_25 rfl (lv_at hl 1 rfl) ?_
      refine lv_iconst (v := nI 1) hx hb dX2_seed_26 (by decide) ?_
      refine lv_isub hx hb dX2_seed_27 ?_
      refine tw_top (z := nI i) (nI_pred i) ?_
      refine tw_iald hx hb hK hP 1 0 rfl rfl (by omega) (by omega) dX2_seed_28 ?_
      refine lv_aload_n hx hb dX2_seed_29 rfl (lv_at hl 0 rfl) ?_
      refine va_get (D := D) (ci := 2) (v := .ref sa) (C := RX2) (T := TX2) (N := 4) hx hb hts in_X2 hown hK hP 0 rfl rfl 0 (by decide) (hts _ q141) (fun _ h9 => h9) rfl dX2_seed_30 ?_
      refine lv_iload_n hx hb dX2_seed_33 rfl (lv_at hl 1 rfl) ?_
      refine lv_iconst (v := nI 1) hx hb dX2_seed_34 (by decide) ?_
      refine lv_isub hx hb dX2_seed_35 ?_
      refine tw_top (z := nI i) (nI_pred i) ?_
      refine tw_iald hx hb hK hP 1 0 rfl rfl (by omega) (by omega) dX2_seed_36 ?_
      refine lv_bipush (v := 30) hx hb dX2_seed_37 (by decide) ?_
      refine lv_iushr (v := tw_us ((tw_sd (upd f 0 v) i) i) 30) hx hb dX2_seed_39 rfl ?_
      refine lv_ixor hx hb dX2_seed_40 ?_
      refine tw_top (z := tw_mx (tw_sd (upd f 0 v) i i)) (rfl) ?_
      refine lv_ldc hx hb hown (hts _ q140) dX2_seed_41 ?_
      refine lv_imul hx hb dX2_seed_43 ?_
      refine lv_iload_n hx hb dX2_seed_44 rfl (lv_at hl 1 rfl) ?_
      refine lv_iadd hx hb dX2_seed_45 ?_
      refine tw_iast hx hb hK hP hD hS 1 0 rfl rfl (by omega) (by omega) dX2_seed_46 (fun H locs hP hD hS => ?_)
      have hP : va_P D vwCl [(b, .inr (2, [.ref sa, .ref ka, .int (nI n), .int x])), (sa, .inl (d0, 624, .inl (upd (tw_sd (upd f 0 v) i) (i + 1) (((tw_mx (tw_sd (upd f 0 v) i i)) * 1812433253) + (nI (i + 1)))))), (ka, .inl (d0, 1024, .inl g))] H := hP
      have hD : va_D A [(b, .inr (2, [.ref sa, .ref ka, .int (nI n), .int x])), (sa, .inl (d0, 624, .inl (upd (tw_sd (upd f 0 v) i) (i + 1) (((tw_mx (tw_sd (upd f 0 v) i i)) * 1812433253) + (nI (i + 1)))))), (ka, .inl (d0, 1024, .inl g))] := hD
      have hP : va_P D vwCl [(b, .inr (2, [.ref sa, .ref ka, .int (nI n), .int x])), (sa, .inl (d0, 624, .inl (tw_sd (upd f 0 v) (i + 1)))), (ka, .inl (d0, 1024, .inl g))] H := hP
      have hD : va_D A [(b, .inr (2, [.ref sa, .ref ka, .int (nI n), .int x])), (sa, .inl (d0, 624, .inl (tw_sd (upd f 0 v) (i + 1)))), (ka, .inl (d0, 1024, .inl g))] := hD
      refine lv_iinc (v := nI (i + 1 + 1)) (lv' := [(2, .int (nI (i + 1 + 1))), (0, .ref b)]) hx hb dX2_seed_47 hl (k := 1) rfl (tw_inc _) (by decide) rfl (fun ls hl => ?_)
      refine lv_goto (tgt := 9) hx hb dX2_seed_50 (by decide) ?_
      exact ih (i + 1) _ _ _ (by omega) hP hD hS (lv_sub hl [1, 0] rfl)
  refine lv_aload_n hx hb dX2_seed_0 rfl (lv_at hl 0 rfl) ?_
  refine va_get (D := D) (ci := 2) (v := .ref sa) (C := RX2) (T := TX2) (N := 4) hx hb hts in_X2 hown hK hP 0 rfl rfl 0 (by decide) (hts _ q141) (fun _ h9 => h9) rfl dX2_seed_1 ?_
  refine lv_iconst (v := nI 0) hx hb dX2_seed_4 (by decide) ?_
  refine lv_iload_n hx hb dX2_seed_5 rfl (lv_at hl 1 rfl) ?_
  refine tw_iast hx hb hK hP hD hS 1 0 rfl rfl (by omega) (by omega) dX2_seed_6 (fun H locs hP hD hS => ?_)
  have hP : va_P D vwCl [(b, .inr (2, [.ref sa, .ref ka, .int (nI n), .int x])), (sa, .inl (d0, 624, .inl (upd f 0 v))), (ka, .inl (d0, 1024, .inl g))] H := hP
  have hD : va_D A [(b, .inr (2, [.ref sa, .ref ka, .int (nI n), .int x])), (sa, .inl (d0, 624, .inl (upd f 0 v))), (ka, .inl (d0, 1024, .inl g))] := hD
  refine lv_iconst (v := nI 1) hx hb dX2_seed_7 (by decide) ?_
  refine lv_istore_n (lv' := [(2, .int (nI 1)), (0, .ref b), (1, .int v)]) hx hb dX2_seed_8 rfl hl (by decide) rfl (fun ls hl => ?_)
  have hP : va_P D vwCl [(b, .inr (2, [.ref sa, .ref ka, .int (nI n), .int x])), (sa, .inl (d0, 624, .inl (tw_sd (upd f 0 v) 0))), (ka, .inl (d0, 1024, .inl g))] H := hP
  have hD : va_D A [(b, .inr (2, [.ref sa, .ref ka, .int (nI n), .int x])), (sa, .inl (d0, 624, .inl (tw_sd (upd f 0 v) 0))), (ka, .inl (d0, 1024, .inl g))] := hD
  exact lp 623 0 _ _ _ (by omega) hP hD hS (lv_sub hl [1, 0] rfl)
set_option maxHeartbeats 4000000 in
set_option maxRecDepth 100000 in
/-- TwistedBitsModel.width(v) -/
theorem m_rwidth (l : Launch) (D : va_G) (d0 : ClassId) (b sa ka : Nat) (f g : Nat → Int32) (g1 : Nat → Int32) (x v : Int32) (n n1 : Nat) (hn1 : n1 = 1 + tw_lo v) (hg1 : g1 = tw_z g 1024) : tw_Mv l yX2_width (ws_ yX2_width cX2_width 3 none) ({ frames := 0, cells := 0, slots := 0, locals := 0 } : Room) D d0 [.ref b, .int v] [(b, .inr (2, [.ref sa, .ref ka, .int (nI n), .int x])), (sa, .inl (d0, 624, .inl f)), (ka, .inl (d0, 1024, .inl g))] [(b, .inr (2, [.ref sa, .ref ka, .int (nI n1), .int x])), (sa, .inl (d0, 624, .inl f)), (ka, .inl (d0, 1024, .inl g1))] := by
  refine tw_Mv_of (lv := [(0, .ref b), (1, .int v)]) (by decide) (Nat.le_of_ble_eq_true rfl) rfl ?_
  intro p e s m below meth c A Q ls H locs hx hb hml hown hts hA hK hP hD hS hl ret
  have hown : s.vm.findClass RX2 = some m.cls := hown
  have hlo := tw_lo_lt v
  have lp : ∀ (q : Nat) (j : Nat) (H : Heap) (locs : List Loc) (ls : Array Slot), j + q = 1024 → va_P D vwCl [(b, .inr (2, [.ref sa, .ref ka, .int (nI n1), .int x])), (sa, .inl (d0, 624, .inl f)), (ka, .inl (d0, 1024, .inl (tw_z g j)))] H → va_D A [(b, .inr (2, [.ref sa, .ref ka, .int (nI n1), .int x])), (sa, .inl (d0, 624, .inl f)), (ka, .inl (d0, 1024, .inl (tw_z g j)))] → va_S A s.heap H locs → lv_has ls 3 [(0, .ref b), (2, .int (nI j))] → W p l e ({ frames := 0, cells := 0, slots := 0, locals := 0 } : Room) s m ([.ref b, .int v] : List Value).toArray below meth c H locs 0 0 Q (F0 m 13 ls []) := by
    intro q
    induction q with
    | zero =>
      intro j H locs ls hj hP hD hS hl
      refine lv_iload_n hx hb dX2_width_13 rfl (lv_at hl 1 rfl) ?_
      refine lv_sipush (v := nI 1024) hx hb dX2_width_14 (by decide) ?_
      refine tw_icmp_ge (tgt := 33) hx hb dX2_width_17 (by decide) (by omega) (by omega) (fun hc => ?_) (fun hc => absurd hc (by omega))
      have ej : j = 1024 := by omega
      subst ej
      rw [← hg1] at hP hD
      have hP : va_P D vwCl [(b, .inr (2, [.ref sa, .ref ka, .int (nI n1), .int x])), (sa, .inl (d0, 624, .inl f)), (ka, .inl (d0, 1024, .inl g1))] H := hP
      have hD : va_D A [(b, .inr (2, [.ref sa, .ref ka, .int (nI n1), .int x])), (sa, .inl (d0, 624, .inl f)), (ka, .inl (d0, 1024, .inl g1))] := hD
      exact ret _ _ _ _ dX2_width_33 hP hD hS
    | succ q ih =>
      intro j H locs ls hj hP hD hS hl
      refine lv_iload_n hx hb dX2_width_13 rfl (lv_at hl 1 rfl) ?_
      refine lv_sipush (v := nI 1024) hx hb dX2_width_14 (by decide) ?_
      refine tw_icmp_ge (tgt := 33) hx hb dX2_width_17 (by decide) (by omega) (by omega) (fun hc => absurd hc (by omega)) (fun hc => ?_)
      refine lv_aload_n hx hb dX2_width_20 rfl (lv_at hl 0 rfl) ?_
      refine va_get (D := D) (ci := 2) (v := .ref ka) (C := RX2) (T := TX2) (N := 4) hx hb hts in_X2 hown hK hP 0 rfl rfl 1 (by decide) (hts _ q142) (fun _ h9 => h9) rfl dX2_width_21 ?_
      refine lv_iload_n hx hb dX2_width_24 rfl (lv_at hl 1 rfl) ?_
      refine lv_iconst (v := 0) hx hb dX2_width_25 (by decide) ?_
      refine tw_iast hx hb hK hP hD hS 2 0 rfl rfl (by omega) (by omega) dX2_width_26 (fun H locs hP hD hS => ?_)
      have hP : va_P D vwCl [(b, .inr (2, [.ref sa, .ref ka, .int (nI n1), .int x])), (sa, .inl (d0, 624, .inl f)), (ka, .inl (d0, 1024, .inl (upd (tw_z g j) j 0)))] H := hP
      have hD : va_D A [(b, .inr (2, [.ref sa, .ref ka, .int (nI n1), .int x])), (sa, .inl (d0, 624, .inl f)), (ka, .inl (d0, 1024, .inl (upd (tw_z g j) j 0)))] := hD
      have hP : va_P D vwCl [(b, .inr (2, [.ref sa, .ref ka, .int (nI n1), .int x])), (sa, .inl (d0, 624, .inl f)), (ka, .inl (d0, 1024, .inl (tw_z g (j + 1))))] H := hP
      have hD : va_D A [(b, .inr (2, [.ref sa, .ref ka, .int (nI n1), .int x])), (sa, .inl (d0, 624, .inl f)), (ka, .inl (d0, 1024, .inl (tw_z g (j + 1))))] := hD
      refine lv_iinc (v := nI (j + 1)) (lv' := [(2, .int (nI (j + 1))), (0, .ref b)]) hx hb dX2_width_27 hl (k := 1) rfl (tw_inc _) (by decide) rfl (fun ls hl => ?_)
      refine lv_goto (tgt := 13) hx hb dX2_width_30 (by decide) ?_
      exact ih (j + 1) _ _ _ (by omega) hP hD hS (lv_sub hl [1, 0] rfl)
  refine lv_aload_n hx hb dX2_width_0 rfl (lv_at hl 0 rfl) ?_
  refine lv_iconst (v := nI 1) hx hb dX2_width_1 (by decide) ?_
  refine lv_iload_n hx hb dX2_width_2 rfl (lv_at hl 1 rfl) ?_
  refine lv_sipush (v := nI 1023) hx hb dX2_width_3 (by decide) ?_
  refine lv_iand hx hb dX2_width_6 ?_
  refine tw_top (z := nI (tw_lo v)) (tw_lo_and v) ?_
  refine lv_iadd hx hb dX2_width_7 ?_
  refine tw_top (z := nI (1 + tw_lo v)) (nI_add _ _) ?_
  refine tw_top (z := nI n1) (by rw [hn1]) ?_
  refine va_put (D := D) (ci := 2) (v := .int (nI n1)) (ty := .int) (C := RX2) (T := TX2) (N := 4) hx hb hts in_X2 tyX2 tyX2_ok nmX2 hown hK hP hD hS 0 rfl rfl 2 (by decide) (hts _ q143) (fun _ h9 => h9) rfl (by decide +kernel) rfl rfl (Nat.le_of_ble_eq_true rfl) dX2_width_8 (fun H locs hP hD hS => ?_)
  have hP : va_P D vwCl [(b, .inr (2, [.ref sa, .ref ka, .int (nI n1), .int x])), (sa, .inl (d0, 624, .inl f)), (ka, .inl (d0, 1024, .inl g))] H := hP
  have hD : va_D A [(b, .inr (2, [.ref sa, .ref ka, .int (nI n1), .int x])), (sa, .inl (d0, 624, .inl f)), (ka, .inl (d0, 1024, .inl g))] := hD
  refine lv_iconst (v := nI 0) hx hb dX2_width_11 (by decide) ?_
  refine lv_istore_n (lv' := [(2, .int (nI 0)), (0, .ref b), (1, .int v)]) hx hb dX2_width_12 rfl hl (by decide) rfl (fun ls hl => ?_)
  have hP : va_P D vwCl [(b, .inr (2, [.ref sa, .ref ka, .int (nI n1), .int x])), (sa, .inl (d0, 624, .inl f)), (ka, .inl (d0, 1024, .inl (tw_z g 0)))] H := hP
  have hD : va_D A [(b, .inr (2, [.ref sa, .ref ka, .int (nI n1), .int x])), (sa, .inl (d0, 624, .inl f)), (ka, .inl (d0, 1024, .inl (tw_z g 0)))] := hD
  exact lp 1024 0 _ _ _ (by omega) hP hD hS (lv_sub hl [1, 0] rfl)
set_option maxHeartbeats 4000000 in
set_option maxRecDepth 100000 in
/-- TwistedBitsModel.key(at, a, b, c, d) -/
theorem m_rkey (l : Launch) (D : va_G) (d0 : ClassId) (b sa ka : Nat) (f g : Nat → Int32) (x p0 p1 p2 p3 p4 : Int32) (n i : Nat) (hn1 : 0 < n) (hn : n ≤ 1024) (hi : i = tw_lo p0 % n) : tw_Mv l yX2_key (ws_ yX2_key cX2_key 8 none) ({ frames := 0, cells := 0, slots := 0, locals := 0 } : Room) D d0 [.ref b, .int p0, .int p1, .int p2, .int p3, .int p4] [(b, .inr (2, [.ref sa, .ref ka, .int (nI n), .int x])), (sa, .inl (d0, 624, .inl f)), (ka, .inl (d0, 1024, .inl g))] [(b, .inr (2, [.ref sa, .ref ka, .int (nI n), .int x])), (sa, .inl (d0, 624, .inl f)), (ka, .inl (d0, 1024, .inl (tw_mk g n i p1 p2 p3 p4)))] := by
  refine tw_Mv_of (lv := [(0, .ref b), (1, .int p0), (2, .int p1), (3, .int p2), (4, .int p3), (5, .int p4)]) (by decide) (Nat.le_of_ble_eq_true rfl) rfl ?_
  intro p e s m below meth c A Q ls H locs hx hb hml hown hts hA hK hP hD hS hl ret
  have hown : s.vm.findClass RX2 = some m.cls := hown
  have hlo := tw_lo_lt p0
  have hin : i < n := by rw [hi]; exact Nat.mod_lt _ hn1
  have hm : ∀ k : Nat, (i + k) % n < 1024 := fun k => Nat.lt_of_lt_of_le (Nat.mod_lt _ hn1) hn
  refine lv_iload_n hx hb dX2_key_0 rfl (lv_at hl 1 rfl) ?_
  refine lv_sipush (v := 1023) hx hb dX2_key_1 (by decide) ?_
  refine lv_iand hx hb dX2_key_4 ?_
  refine tw_top (z := nI (tw_lo p0)) (tw_lo_and p0) ?_
  refine lv_aload_n hx hb dX2_key_5 rfl (lv_at hl 0 rfl) ?_
  refine va_get (D := D) (ci := 2) (v := .int (nI n)) (C := RX2) (T := TX2) (N := 4) hx hb hts in_X2 hown hK hP 0 rfl rfl 2 (by decide) (hts _ q143) (fun _ h9 => h9) rfl dX2_key_6 ?_
  refine tw_irem hx hb dX2_key_9 (by omega) (by omega) (by omega) ?_
  refine tw_top (z := nI i) (by rw [hi]) ?_
  refine lv_istore (lv' := [(6, .int (nI i)), (0, .ref b), (1, .int p0), (2, .int p1), (3, .int p2), (4, .int p3), (5, .int p4)]) hx hb dX2_key_10 hl (by decide) rfl (fun ls hl => ?_)
  refine lv_iconst (v := nI 0) hx hb dX2_key_12 (by decide) ?_
  refine lv_istore (lv' := [(7, .int (nI 0)), (6, .int (nI i)), (0, .ref b), (1, .int p0), (2, .int p1), (3, .int p2), (4, .int p3), (5, .int p4)]) hx hb dX2_key_13 hl (by decide) rfl (fun ls hl => ?_)
  refine lv_iload hx hb dX2_key_15 (lv_at hl 0 rfl) ?_
  refine lv_iconst (v := nI 4) hx hb dX2_key_17 (by decide) ?_
  refine tw_icmp_ge (tgt := 74) hx hb dX2_key_18 (by decide) (by omega) (by omega) (fun hc => absurd hc (by decide)) (fun hc => ?_)
  refine lv_aload_n hx hb dX2_key_21 rfl (lv_at hl 2 rfl) ?_
  refine va_get (D := D) (ci := 2) (v := .ref ka) (C := RX2) (T := TX2) (N := 4) hx hb hts in_X2 hown hK hP 0 rfl rfl 1 (by decide) (hts _ q142) (fun _ h9 => h9) rfl dX2_key_22 ?_
  refine lv_iload hx hb dX2_key_25 (lv_at hl 1 rfl) ?_
  refine lv_iload hx hb dX2_key_27 (lv_at hl 0 rfl) ?_
  refine lv_iadd hx hb dX2_key_29 ?_
  refine tw_top (z := nI (i + 0)) (nI_add _ _) ?_
  refine lv_aload_n hx hb dX2_key_30 rfl (lv_at hl 2 rfl) ?_
  refine va_get (D := D) (ci := 2) (v := .int (nI n)) (C := RX2) (T := TX2) (N := 4) hx hb hts in_X2 hown hK hP 0 rfl rfl 2 (by decide) (hts _ q143) (fun _ h9 => h9) rfl dX2_key_31 ?_
  refine tw_irem hx hb dX2_key_34 (by omega) (by omega) (by omega) ?_
  refine lv_iload hx hb dX2_key_35 (lv_at hl 0 rfl) ?_
  refine tw_if_ne (tgt := 44) hx hb dX2_key_37 (by decide) (by omega) (fun hc => absurd hc (by decide)) (fun hc => ?_)
  refine lv_iload_n hx hb dX2_key_40 rfl (lv_at hl 4 rfl) ?_
  refine lv_goto (tgt := 67) hx hb dX2_key_41 (by decide) ?_
  refine tw_iast hx hb hK hP hD hS 2 0 rfl rfl (hm 0) (by omega) dX2_key_67 (fun H locs hP hD hS => ?_)
  have hP : va_P D vwCl [(b, .inr (2, [.ref sa, .ref ka, .int (nI n), .int x])), (sa, .inl (d0, 624, .inl f)), (ka, .inl (d0, 1024, .inl (upd g ((i + 0) % n) p1)))] H := hP
  have hD : va_D A [(b, .inr (2, [.ref sa, .ref ka, .int (nI n), .int x])), (sa, .inl (d0, 624, .inl f)), (ka, .inl (d0, 1024, .inl (upd g ((i + 0) % n) p1)))] := hD
  refine lv_iinc (v := nI (0 + 1)) (lv' := [(7, .int (nI (0 + 1))), (6, .int (nI i)), (0, .ref b), (1, .int p0), (2, .int p1), (3, .int p2), (4, .int p3), (5, .int p4)]) hx hb dX2_key_68 hl (k := 0) rfl (tw_inc _) (by decide) rfl (fun ls hl => ?_)
  have hl : lv_has ls 8 [(7, .int (nI 1)), (6, .int (nI i)), (0, .ref b), (1, .int p0), (2, .int p1), (3, .int p2), (4, .int p3), (5, .int p4)] := hl
  refine lv_goto (tgt := 15) hx hb dX2_key_71 (by decide) ?_
  refine lv_iload hx hb dX2_key_15 (lv_at hl 0 rfl) ?_
  refine lv_iconst (v := nI 4) hx hb dX2_key_17 (by decide) ?_
  refine tw_icmp_ge (tgt := 74) hx hb dX2_key_18 (by decide) (by omega) (by omega) (fun hc => absurd hc (by decide)) (fun hc => ?_)
  refine lv_aload_n hx hb dX2_key_21 rfl (lv_at hl 2 rfl) ?_
  refine va_get (D := D) (ci := 2) (v := .ref ka) (C := RX2) (T := TX2) (N := 4) hx hb hts in_X2 hown hK hP 0 rfl rfl 1 (by decide) (hts _ q142) (fun _ h9 => h9) rfl dX2_key_22 ?_
  refine lv_iload hx hb dX2_key_25 (lv_at hl 1 rfl) ?_
  refine lv_iload hx hb dX2_key_27 (lv_at hl 0 rfl) ?_
  refine lv_iadd hx hb dX2_key_29 ?_
  refine tw_top (z := nI (i + 1)) (nI_add _ _) ?_
  refine lv_aload_n hx hb dX2_key_30 rfl (lv_at hl 2 rfl) ?_
  refine va_get (D := D) (ci := 2) (v := .int (nI n)) (C := RX2) (T := TX2) (N := 4) hx hb hts in_X2 hown hK hP 0 rfl rfl 2 (by decide) (hts _ q143) (fun _ h9 => h9) rfl dX2_key_31 ?_
  refine tw_irem hx hb dX2_key_34 (by omega) (by omega) (by omega) ?_
  refine lv_iload hx hb dX2_key_35 (lv_at hl 0 rfl) ?_
  refine tw_if_ne (tgt := 44) hx hb dX2_key_37 (by decide) (by omega) (fun hc => ?_) (fun hc => absurd hc (by decide))
  refine lv_iload hx hb dX2_key_44 (lv_at hl 0 rfl) ?_
  refine lv_iconst (v := nI 1) hx hb dX2_key_46 (by decide) ?_
  refine tw_icmp_ne (tgt := 54) hx hb dX2_key_47 (by decide) (by omega) (by omega) (fun hc => absurd hc (by decide)) (fun hc => ?_)
  refine lv_iload_n hx hb dX2_key_50 rfl (lv_at hl 5 rfl) ?_
  refine lv_goto (tgt := 67) hx hb dX2_key_51 (by decide) ?_
  refine tw_iast hx hb hK hP hD hS 2 0 rfl rfl (hm 1) (by omega) dX2_key_67 (fun H locs hP hD hS => ?_)
  have hP : va_P D vwCl [(b, .inr (2, [.ref sa, .ref ka, .int (nI n), .int x])), (sa, .inl (d0, 624, .inl f)), (ka, .inl (d0, 1024, .inl (upd (upd g ((i + 0) % n) p1) ((i + 1) % n) p2)))] H := hP
  have hD : va_D A [(b, .inr (2, [.ref sa, .ref ka, .int (nI n), .int x])), (sa, .inl (d0, 624, .inl f)), (ka, .inl (d0, 1024, .inl (upd (upd g ((i + 0) % n) p1) ((i + 1) % n) p2)))] := hD
  refine lv_iinc (v := nI (1 + 1)) (lv' := [(7, .int (nI (1 + 1))), (6, .int (nI i)), (0, .ref b), (1, .int p0), (2, .int p1), (3, .int p2), (4, .int p3), (5, .int p4)]) hx hb dX2_key_68 hl (k := 0) rfl (tw_inc _) (by decide) rfl (fun ls hl => ?_)
  have hl : lv_has ls 8 [(7, .int (nI 2)), (6, .int (nI i)), (0, .ref b), (1, .int p0), (2, .int p1), (3, .int p2), (4, .int p3), (5, .int p4)] := hl
  refine lv_goto (tgt := 15) hx hb dX2_key_71 (by decide) ?_
  refine lv_iload hx hb dX2_key_15 (lv_at hl 0 rfl) ?_
  refine lv_iconst (v := nI 4) hx hb dX2_key_17 (by decide) ?_
  refine tw_icmp_ge (tgt := 74) hx hb dX2_key_18 (by decide) (by omega) (by omega) (fun hc => absurd hc (by decide)) (fun hc => ?_)
  refine lv_aload_n hx hb dX2_key_21 rfl (lv_at hl 2 rfl) ?_
  refine va_get (D := D) (ci := 2) (v := .ref ka) (C := RX2) (T := TX2) (N := 4) hx hb hts in_X2 hown hK hP 0 rfl rfl 1 (by decide) (hts _ q142) (fun _ h9 => h9) rfl dX2_key_22 ?_
  refine lv_iload hx hb dX2_key_25 (lv_at hl 1 rfl) ?_
  refine lv_iload hx hb dX2_key_27 (lv_at hl 0 rfl) ?_
  refine lv_iadd hx hb dX2_key_29 ?_
  refine tw_top (z := nI (i + 2)) (nI_add _ _) ?_
  refine lv_aload_n hx hb dX2_key_30 rfl (lv_at hl 2 rfl) ?_
  refine va_get (D := D) (ci := 2) (v := .int (nI n)) (C := RX2) (T := TX2) (N := 4) hx hb hts in_X2 hown hK hP 0 rfl rfl 2 (by decide) (hts _ q143) (fun _ h9 => h9) rfl dX2_key_31 ?_
  refine tw_irem hx hb dX2_key_34 (by omega) (by omega) (by omega) ?_
  refine lv_iload hx hb dX2_key_35 (lv_at hl 0 rfl) ?_
  refine tw_if_ne (tgt := 44) hx hb dX2_key_37 (by decide) (by omega) (fun hc => ?_) (fun hc => absurd hc (by decide))
  refine lv_iload hx hb dX2_key_44 (lv_at hl 0 rfl) ?_
  refine lv_iconst (v := nI 1) hx hb dX2_key_46 (by decide) ?_
  refine tw_icmp_ne (tgt := 54) hx hb dX2_key_47 (by decide) (by omega) (by omega) (fun hc => ?_) (fun hc => absurd hc (by decide))
  refine lv_iload hx hb dX2_key_54 (lv_at hl 0 rfl) ?_
  refine lv_iconst (v := nI 2) hx hb dX2_key_56 (by decide) ?_
  refine tw_icmp_ne (tgt := 65) hx hb dX2_key_57 (by decide) (by omega) (by omega) (fun hc => absurd hc (by decide)) (fun hc => ?_)
  refine lv_iload hx hb dX2_key_60 (lv_at hl 6 rfl) ?_
  refine lv_goto (tgt := 67) hx hb dX2_key_62 (by decide) ?_
  refine tw_iast hx hb hK hP hD hS 2 0 rfl rfl (hm 2) (by omega) dX2_key_67 (fun H locs hP hD hS => ?_)
  have hP : va_P D vwCl [(b, .inr (2, [.ref sa, .ref ka, .int (nI n), .int x])), (sa, .inl (d0, 624, .inl f)), (ka, .inl (d0, 1024, .inl (upd (upd (upd g ((i + 0) % n) p1) ((i + 1) % n) p2) ((i + 2) % n) p3)))] H := hP
  have hD : va_D A [(b, .inr (2, [.ref sa, .ref ka, .int (nI n), .int x])), (sa, .inl (d0, 624, .inl f)), (ka, .inl (d0, 1024, .inl (upd (upd (upd g ((i + 0) % n) p1) ((i + 1) % n) p2) ((i + 2) % n) p3)))] := hD
  refine lv_iinc (v := nI (2 + 1)) (lv' := [(7, .int (nI (2 + 1))), (6, .int (nI i)), (0, .ref b), (1, .int p0), (2, .int p1), (3, .int p2), (4, .int p3), (5, .int p4)]) hx hb dX2_key_68 hl (k := 0) rfl (tw_inc _) (by decide) rfl (fun ls hl => ?_)
  have hl : lv_has ls 8 [(7, .int (nI 3)), (6, .int (nI i)), (0, .ref b), (1, .int p0), (2, .int p1), (3, .int p2), (4, .int p3), (5, .int p4)] := hl
  refine lv_goto (tgt := 15) hx hb dX2_key_71 (by decide) ?_
  refine lv_iload hx hb dX2_key_15 (lv_at hl 0 rfl) ?_
  refine lv_iconst (v := nI 4) hx hb dX2_key_17 (by decide) ?_
  refine tw_icmp_ge (tgt := 74) hx hb dX2_key_18 (by decide) (by omega) (by omega) (fun hc => absurd hc (by decide)) (fun hc => ?_)
  refine lv_aload_n hx hb dX2_key_21 rfl (lv_at hl 2 rfl) ?_
  refine va_get (D := D) (ci := 2) (v := .ref ka) (C := RX2) (T := TX2) (N := 4) hx hb hts in_X2 hown hK hP 0 rfl rfl 1 (by decide) (hts _ q142) (fun _ h9 => h9) rfl dX2_key_22 ?_
  refine lv_iload hx hb dX2_key_25 (lv_at hl 1 rfl) ?_
  refine lv_iload hx hb dX2_key_27 (lv_at hl 0 rfl) ?_
  refine lv_iadd hx hb dX2_key_29 ?_
  refine tw_top (z := nI (i + 3)) (nI_add _ _) ?_
  refine lv_aload_n hx hb dX2_key_30 rfl (lv_at hl 2 rfl) ?_
  refine va_get (D := D) (ci := 2) (v := .int (nI n)) (C := RX2) (T := TX2) (N := 4) hx hb hts in_X2 hown hK hP 0 rfl rfl 2 (by decide) (hts _ q143) (fun _ h9 => h9) rfl dX2_key_31 ?_
  refine tw_irem hx hb dX2_key_34 (by omega) (by omega) (by omega) ?_
  refine lv_iload hx hb dX2_key_35 (lv_at hl 0 rfl) ?_
  refine tw_if_ne (tgt := 44) hx hb dX2_key_37 (by decide) (by omega) (fun hc => ?_) (fun hc => absurd hc (by decide))
  refine lv_iload hx hb dX2_key_44 (lv_at hl 0 rfl) ?_
  refine lv_iconst (v := nI 1) hx hb dX2_key_46 (by decide) ?_
  refine tw_icmp_ne (tgt := 54) hx hb dX2_key_47 (by decide) (by omega) (by omega) (fun hc => ?_) (fun hc => absurd hc (by decide))
  refine lv_iload hx hb dX2_key_54 (lv_at hl 0 rfl) ?_
  refine lv_iconst (v := nI 2) hx hb dX2_key_56 (by decide) ?_
  refine tw_icmp_ne (tgt := 65) hx hb dX2_key_57 (by decide) (by omega) (by omega) (fun hc => ?_) (fun hc => absurd hc (by decide))
  refine lv_iload hx hb dX2_key_65 (lv_at hl 7 rfl) ?_
  refine tw_iast hx hb hK hP hD hS 2 0 rfl rfl (hm 3) (by omega) dX2_key_67 (fun H locs hP hD hS => ?_)
  have hP : va_P D vwCl [(b, .inr (2, [.ref sa, .ref ka, .int (nI n), .int x])), (sa, .inl (d0, 624, .inl f)), (ka, .inl (d0, 1024, .inl (upd (upd (upd (upd g ((i + 0) % n) p1) ((i + 1) % n) p2) ((i + 2) % n) p3) ((i + 3) % n) p4)))] H := hP
  have hD : va_D A [(b, .inr (2, [.ref sa, .ref ka, .int (nI n), .int x])), (sa, .inl (d0, 624, .inl f)), (ka, .inl (d0, 1024, .inl (upd (upd (upd (upd g ((i + 0) % n) p1) ((i + 1) % n) p2) ((i + 2) % n) p3) ((i + 3) % n) p4)))] := hD
  refine lv_iinc (v := nI (3 + 1)) (lv' := [(7, .int (nI (3 + 1))), (6, .int (nI i)), (0, .ref b), (1, .int p0), (2, .int p1), (3, .int p2), (4, .int p3), (5, .int p4)]) hx hb dX2_key_68 hl (k := 0) rfl (tw_inc _) (by decide) rfl (fun ls hl => ?_)
  have hl : lv_has ls 8 [(7, .int (nI 4)), (6, .int (nI i)), (0, .ref b), (1, .int p0), (2, .int p1), (3, .int p2), (4, .int p3), (5, .int p4)] := hl
  refine lv_goto (tgt := 15) hx hb dX2_key_71 (by decide) ?_
  refine lv_iload hx hb dX2_key_15 (lv_at hl 0 rfl) ?_
  refine lv_iconst (v := nI 4) hx hb dX2_key_17 (by decide) ?_
  refine tw_icmp_ge (tgt := 74) hx hb dX2_key_18 (by decide) (by omega) (by omega) (fun hc => ?_) (fun hc => absurd hc (by decide))
  exact ret _ _ _ _ dX2_key_74 hP hD hS
set_option maxHeartbeats 4000000 in
set_option maxRecDepth 100000 in
/-- TwistedBitsModel.keyed() -/
theorem m_rkeyed (l : Launch) (D : va_G) (d0 : ClassId) (b sa ka : Nat) (f g : Nat → Int32) (f1 : Nat → Int32) (x : Int32) (n : Nat) (hn1 : 0 < n) (hn2 : n ≤ 1024) (hf1 : f1 = tw_keyed f g n) : tw_Mv l yX2_keyed (ws_ yX2_keyed cX2_keyed 5 none) ({ frames := 1, cells := 0, slots := 0, locals := 30 } : Room) D d0 [.ref b] [(b, .inr (2, [.ref sa, .ref ka, .int (nI n), .int x])), (sa, .inl (d0, 624, .inl f)), (ka, .inl (d0, 1024, .inl g))] [(b, .inr (2, [.ref sa, .ref ka, .int (nI n), .int (nI 624)])), (sa, .inl (d0, 624, .inl f1)), (ka, .inl (d0, 1024, .inl g))] := by
  refine tw_Mv_of (lv := [(0, .ref b)]) (by decide) (Nat.le_of_ble_eq_true rfl) rfl ?_
  intro p e s m below meth c A Q ls H locs hx hb hml hown hts hA hK hP hD hS hl ret
  have hown : s.vm.findClass RX2 = some m.cls := hown
  obtain ⟨fs, hfs⟩ : ∃ q, q = tw_seed f 19650218 := ⟨_, rfl⟩
  obtain ⟨P1, hP1⟩ : ∃ q, q = tw_K1 g n (max 624 n) fs 1 0 := ⟨_, rfl⟩
  obtain ⟨fB, hfB⟩ : ∃ q, q = tw_K2 623 P1.1 P1.2 := ⟨_, rfl⟩
  have hf1 : f1 = upd fB 0 (-2147483648) := by rw [hf1, hfB, hP1, hfs]; rfl
  obtain ⟨T, hT⟩ : ∃ q, q = max 624 n := ⟨_, rfl⟩
  rw [← hT] at hP1
  have lp2 : ∀ (q : Nat) (F : Nat → Int32) (i cn : Nat) (H : Heap) (locs : List Loc) (ls : Array Slot), 1 ≤ i → i < 624 → cn + q = 623 → tw_K2 q F i = fB → va_P D vwCl [(b, .inr (2, [.ref sa, .ref ka, .int (nI n), .int (nI 624)])), (sa, .inl (d0, 624, .inl F)), (ka, .inl (d0, 1024, .inl g))] H → va_D A [(b, .inr (2, [.ref sa, .ref ka, .int (nI n), .int (nI 624)])), (sa, .inl (d0, 624, .inl F)), (ka, .inl (d0, 1024, .inl g))] → va_S A s.heap H locs → lv_has ls 5 [(0, .ref b), (1, .int (nI i)), (4, .int (nI cn))] → W p l e ({ frames := 1, cells := 0, slots := 0, locals := 30 } : Room) s m ([.ref b] : List Value).toArray below meth c H locs 0 0 Q (F0 m 135 ls []) := by
    intro q
    induction q with
    | zero =>
      intro F i cn H locs ls h1 h6 hq hE hP hD hS hl
      refine lv_iload hx hb dX2_keyed_135 (lv_at hl 2 rfl) ?_
      refine lv_sipush (v := nI 623) hx hb dX2_keyed_137 (by decide) ?_
      refine tw_icmp_ge (tgt := 214) hx hb dX2_keyed_140 (by decide) (by omega) (by omega) (fun hc => ?_) (fun hc => absurd hc (by omega))
      have hE : F = fB := hE
      subst hE
      refine lv_aload_n hx hb dX2_keyed_214 rfl (lv_at hl 0 rfl) ?_
      refine va_get (D := D) (ci := 2) (v := .ref sa) (C := RX2) (T := TX2) (N := 4) hx hb hts in_X2 hown hK hP 0 rfl rfl 0 (by decide) (hts _ q141) (fun _ h9 => h9) rfl dX2_keyed_215 ?_
      refine lv_iconst (v := nI 0) hx hb dX2_keyed_218 (by decide) ?_
      refine lv_ldc hx hb hown (hts _ q170) dX2_keyed_219 ?_
      refine tw_iast hx hb hK hP hD hS 1 0 rfl rfl (by omega) (by omega) dX2_keyed_221 (fun H locs hP hD hS => ?_)
      have hP : va_P D vwCl [(b, .inr (2, [.ref sa, .ref ka, .int (nI n), .int (nI 624)])), (sa, .inl (d0, 624, .inl (upd F 0 ((-2147483648))))), (ka, .inl (d0, 1024, .inl g))] H := hP
      have hD : va_D A [(b, .inr (2, [.ref sa, .ref ka, .int (nI n), .int (nI 624)])), (sa, .inl (d0, 624, .inl (upd F 0 ((-2147483648))))), (ka, .inl (d0, 1024, .inl g))] := hD
      rw [← hf1] at hP hD
      have hP : va_P D vwCl [(b, .inr (2, [.ref sa, .ref ka, .int (nI n), .int (nI 624)])), (sa, .inl (d0, 624, .inl f1)), (ka, .inl (d0, 1024, .inl g))] H := hP
      have hD : va_D A [(b, .inr (2, [.ref sa, .ref ka, .int (nI n), .int (nI 624)])), (sa, .inl (d0, 624, .inl f1)), (ka, .inl (d0, 1024, .inl g))] := hD
      refine lv_aload_n hx hb dX2_keyed_222 rfl (lv_at hl 0 rfl) ?_
      refine lv_sipush (v := nI 624) hx hb dX2_keyed_223 (by decide) ?_
      refine va_put (D := D) (ci := 2) (v := .int (nI 624)) (ty := .int) (C := RX2) (T := TX2) (N := 4) hx hb hts in_X2 tyX2 tyX2_ok nmX2 hown hK hP hD hS 0 rfl rfl 3 (by decide) (hts _ q144) (fun _ h9 => h9) rfl (by decide +kernel) rfl rfl (Nat.le_of_ble_eq_true rfl) dX2_keyed_226 (fun H locs hP hD hS => ?_)
      have hP : va_P D vwCl [(b, .inr (2, [.ref sa, .ref ka, .int (nI n), .int (nI 624)])), (sa, .inl (d0, 624, .inl f1)), (ka, .inl (d0, 1024, .inl g))] H := hP
      have hD : va_D A [(b, .inr (2, [.ref sa, .ref ka, .int (nI n), .int (nI 624)])), (sa, .inl (d0, 624, .inl f1)), (ka, .inl (d0, 1024, .inl g))] := hD
      exact ret _ _ _ _ dX2_keyed_229 hP hD hS
    | succ q ih =>
      intro F i cn H locs ls h1 h6 hq hE hP hD hS hl
      refine lv_iload hx hb dX2_keyed_135 (lv_at hl 2 rfl) ?_
      refine lv_sipush (v := nI 623) hx hb dX2_keyed_137 (by decide) ?_
      refine tw_icmp_ge (tgt := 214) hx hb dX2_keyed_140 (by decide) (by omega) (by omega) (fun hc => absurd hc (by omega)) (fun hc => ?_)
      refine lv_aload_n hx hb dX2_keyed_143 rfl (lv_at hl 0 rfl) ?_
      refine va_get (D := D) (ci := 2) (v := .ref sa) (C := RX2) (T := TX2) (N := 4) hx hb hts in_X2 hown hK hP 0 rfl rfl 0 (by decide) (hts _ q141) (fun _ h9 => h9) rfl dX2_keyed_144 ?_
      refine lv_iload_n hx hb dX2_keyed_147 rfl (lv_at hl 1 rfl) ?_
      refine lv_aload_n hx hb dX2_keyed_148 rfl (lv_at hl 0 rfl) ?_
      refine va_get (D := D) (ci := 2) (v := .ref sa) (C := RX2) (T := TX2) (N := 4) hx hb hts in_X2 hown hK hP 0 rfl rfl 0 (by decide) (hts _ q141) (fun _ h9 => h9) rfl dX2_keyed_149 ?_
      refine lv_iload_n hx hb dX2_keyed_152 rfl (lv_at hl 1 rfl) ?_
      refine tw_iald hx hb hK hP 1 0 rfl rfl (by omega) (by omega) dX2_keyed_153 ?_
      refine lv_aload_n hx hb dX2_keyed_154 rfl (lv_at hl 0 rfl) ?_
      refine va_get (D := D) (ci := 2) (v := .ref sa) (C := RX2) (T := TX2) (N := 4) hx hb hts in_X2 hown hK hP 0 rfl rfl 0 (by decide) (hts _ q141) (fun _ h9 => h9) rfl dX2_keyed_155 ?_
      refine lv_iload_n hx hb dX2_keyed_158 rfl (lv_at hl 1 rfl) ?_
      refine lv_iconst (v := nI 1) hx hb dX2_keyed_159 (by decide) ?_
      refine lv_isub hx hb dX2_keyed_160 ?_
      refine tw_top (z := nI (i - 1)) (pk_sub (by omega)) ?_
      refine tw_iald hx hb hK hP 1 0 rfl rfl (by omega) (by omega) dX2_keyed_161 ?_
      refine lv_aload_n hx hb dX2_keyed_162 rfl (lv_at hl 0 rfl) ?_
      refine va_get (D := D) (ci := 2) (v := .ref sa) (C := RX2) (T := TX2) (N := 4) hx hb hts in_X2 hown hK hP 0 rfl rfl 0 (by decide) (hts _ q141) (fun _ h9 => h9) rfl dX2_keyed_163 ?_
      refine lv_iload_n hx hb dX2_keyed_166 rfl (lv_at hl 1 rfl) ?_
      refine lv_iconst (v := nI 1) hx hb dX2_keyed_167 (by decide) ?_
      refine lv_isub hx hb dX2_keyed_168 ?_
      refine tw_top (z := nI (i - 1)) (pk_sub (by omega)) ?_
      refine tw_iald hx hb hK hP 1 0 rfl rfl (by omega) (by omega) dX2_keyed_169 ?_
      refine lv_bipush (v := 30) hx hb dX2_keyed_170 (by decide) ?_
      refine lv_iushr (v := tw_us (F (i - 1)) 30) hx hb dX2_keyed_172 rfl ?_
      refine lv_ixor hx hb dX2_keyed_173 ?_
      refine tw_top (z := tw_mx (F (i - 1))) (rfl) ?_
      refine lv_ldc hx hb hown (hts _ q169) dX2_keyed_174 ?_
      refine lv_imul hx hb dX2_keyed_176 ?_
      refine lv_ixor hx hb dX2_keyed_177 ?_
      refine lv_iload_n hx hb dX2_keyed_178 rfl (lv_at hl 1 rfl) ?_
      refine lv_isub hx hb dX2_keyed_179 ?_
      refine tw_iast hx hb hK hP hD hS 1 0 rfl rfl (by omega) (by omega) dX2_keyed_180 (fun H locs hP hD hS => ?_)
      have hP : va_P D vwCl [(b, .inr (2, [.ref sa, .ref ka, .int (nI n), .int (nI 624)])), (sa, .inl (d0, 624, .inl (upd F i (((F i) ^^^ ((tw_mx (F (i - 1))) * 1566083941)) - (nI i))))), (ka, .inl (d0, 1024, .inl g))] H := hP
      have hD : va_D A [(b, .inr (2, [.ref sa, .ref ka, .int (nI n), .int (nI 624)])), (sa, .inl (d0, 624, .inl (upd F i (((F i) ^^^ ((tw_mx (F (i - 1))) * 1566083941)) - (nI i))))), (ka, .inl (d0, 1024, .inl g))] := hD
      have hP : va_P D vwCl [(b, .inr (2, [.ref sa, .ref ka, .int (nI n), .int (nI 624)])), (sa, .inl (d0, 624, .inl (tw_a2 F i))), (ka, .inl (d0, 1024, .inl g))] H := hP
      have hD : va_D A [(b, .inr (2, [.ref sa, .ref ka, .int (nI n), .int (nI 624)])), (sa, .inl (d0, 624, .inl (tw_a2 F i))), (ka, .inl (d0, 1024, .inl g))] := hD
      have hi2 := tw_oi_in (i := i) (by omega)
      refine lv_iload_n hx hb dX2_keyed_181 rfl (lv_at hl 1 rfl) ?_
      refine lv_iconst (v := nI 1) hx hb dX2_keyed_182 (by decide) ?_
      refine lv_iadd hx hb dX2_keyed_183 ?_
      refine tw_top (z := nI (i + 1)) (nI_add _ _) ?_
      refine lv_istore_n (lv' := [(1, .int (nI (i + 1))), (0, .ref b), (4, .int (nI cn))]) hx hb dX2_keyed_184 rfl hl (by decide) rfl (fun ls hl => ?_)
      refine lv_iload_n hx hb dX2_keyed_185 rfl (lv_at hl 0 rfl) ?_
      refine lv_sipush (v := nI 624) hx hb dX2_keyed_186 (by decide) ?_
      refine tw_icmp_ne (tgt := 208) hx hb dX2_keyed_189 (by decide) (by omega) (by omega) (fun hc => ?_) (fun hc => ?_)
      · refine lv_iinc (v := nI (cn + 1)) (lv' := [(4, .int (nI (cn + 1))), (1, .int (nI (i + 1))), (0, .ref b)]) hx hb dX2_keyed_208 hl (k := 2) rfl (tw_inc _) (by decide) rfl (fun ls hl => ?_)
        refine lv_goto (tgt := 135) hx hb dX2_keyed_211 (by decide) ?_
        have e1 : tw_oi i = i + 1 := if_pos (by omega)
        have e2 : tw_of (tw_a2 F i) i = tw_a2 F i := if_pos (by omega)
        exact ih (tw_a2 F i) (i + 1) (cn + 1) _ _ _ (by omega) (by omega) (by omega) (by rw [← e1]; rw [← e2]; exact hE) hP hD hS (lv_sub hl [2, 1, 0] rfl)
      · refine lv_aload_n hx hb dX2_keyed_192 rfl (lv_at hl 1 rfl) ?_
        refine va_get (D := D) (ci := 2) (v := .ref sa) (C := RX2) (T := TX2) (N := 4) hx hb hts in_X2 hown hK hP 0 rfl rfl 0 (by decide) (hts _ q141) (fun _ h9 => h9) rfl dX2_keyed_193 ?_
        refine lv_iconst (v := nI 0) hx hb dX2_keyed_196 (by decide) ?_
        refine lv_aload_n hx hb dX2_keyed_197 rfl (lv_at hl 1 rfl) ?_
        refine va_get (D := D) (ci := 2) (v := .ref sa) (C := RX2) (T := TX2) (N := 4) hx hb hts in_X2 hown hK hP 0 rfl rfl 0 (by decide) (hts _ q141) (fun _ h9 => h9) rfl dX2_keyed_198 ?_
        refine lv_sipush (v := nI 623) hx hb dX2_keyed_201 (by decide) ?_
        refine tw_iald hx hb hK hP 1 0 rfl rfl (by omega) (by omega) dX2_keyed_204 ?_
        refine tw_iast hx hb hK hP hD hS 1 0 rfl rfl (by omega) (by omega) dX2_keyed_205 (fun H locs hP hD hS => ?_)
        have hP : va_P D vwCl [(b, .inr (2, [.ref sa, .ref ka, .int (nI n), .int (nI 624)])), (sa, .inl (d0, 624, .inl (upd (tw_a2 F i) 0 ((tw_a2 F i) 623)))), (ka, .inl (d0, 1024, .inl g))] H := hP
        have hD : va_D A [(b, .inr (2, [.ref sa, .ref ka, .int (nI n), .int (nI 624)])), (sa, .inl (d0, 624, .inl (upd (tw_a2 F i) 0 ((tw_a2 F i) 623)))), (ka, .inl (d0, 1024, .inl g))] := hD
        refine lv_iconst (v := nI 1) hx hb dX2_keyed_206 (by decide) ?_
        refine lv_istore_n (lv' := [(1, .int (nI 1)), (0, .ref b), (4, .int (nI cn))]) hx hb dX2_keyed_207 rfl hl (by decide) rfl (fun ls hl => ?_)
        refine lv_iinc (v := nI (cn + 1)) (lv' := [(4, .int (nI (cn + 1))), (1, .int (nI 1)), (0, .ref b)]) hx hb dX2_keyed_208 hl (k := 2) rfl (tw_inc _) (by decide) rfl (fun ls hl => ?_)
        refine lv_goto (tgt := 135) hx hb dX2_keyed_211 (by decide) ?_
        have e1 : tw_oi i = 1 := if_neg (by omega)
        have e2 : tw_of (tw_a2 F i) i = upd (tw_a2 F i) 0 (tw_a2 F i 623) := if_neg (by omega)
        exact ih (upd (tw_a2 F i) 0 (tw_a2 F i 623)) 1 (cn + 1) _ _ _ (by omega) (by omega) (by omega) (by rw [← e1, ← e2]; exact hE) hP hD hS (lv_sub hl [2, 1, 0] rfl)
  have lp1 : ∀ (q : Nat) (F : Nat → Int32) (i j cn : Nat) (H : Heap) (locs : List Loc) (ls : Array Slot), 1 ≤ i → i < 624 → j < n → cn + q = T → tw_K1 g n q F i j = P1 → va_P D vwCl [(b, .inr (2, [.ref sa, .ref ka, .int (nI n), .int (nI 624)])), (sa, .inl (d0, 624, .inl F)), (ka, .inl (d0, 1024, .inl g))] H → va_D A [(b, .inr (2, [.ref sa, .ref ka, .int (nI n), .int (nI 624)])), (sa, .inl (d0, 624, .inl F)), (ka, .inl (d0, 1024, .inl g))] → va_S A s.heap H locs → lv_has ls 5 [(0, .ref b), (1, .int (nI i)), (2, .int (nI j)), (3, .int (nI T)), (4, .int (nI cn))] → W p l e ({ frames := 1, cells := 0, slots := 0, locals := 30 } : Room) s m ([.ref b] : List Value).toArray below meth c H locs 0 0 Q (F0 m 34 ls []) := by
    intro q
    induction q with
    | zero =>
      intro F i j cn H locs ls h1 h6 hj hq hE hP hD hS hl
      refine lv_iload hx hb dX2_keyed_34 (lv_at hl 4 rfl) ?_
      refine lv_iload_n hx hb dX2_keyed_36 rfl (lv_at hl 3 rfl) ?_
      refine tw_icmp_ge (tgt := 132) hx hb dX2_keyed_37 (by decide) (by omega) (by omega) (fun hc => ?_) (fun hc => absurd hc (by omega))
      have hE : (F, i) = P1 := hE
      refine lv_iconst (v := nI 0) hx hb dX2_keyed_132 (by decide) ?_
      refine lv_istore (lv' := [(4, .int (nI 0)), (0, .ref b), (1, .int (nI i)), (2, .int (nI j)), (3, .int (nI T))]) hx hb dX2_keyed_133 hl (by decide) rfl (fun ls hl => ?_)
      exact lp2 623 F i 0 _ _ _ h1 h6 (by omega) (by rw [hfB, ← hE]) hP hD hS (lv_sub hl [1, 2, 0] rfl)
    | succ q ih =>
      intro F i j cn H locs ls h1 h6 hj hq hE hP hD hS hl
      refine lv_iload hx hb dX2_keyed_34 (lv_at hl 4 rfl) ?_
      refine lv_iload_n hx hb dX2_keyed_36 rfl (lv_at hl 3 rfl) ?_
      refine tw_icmp_ge (tgt := 132) hx hb dX2_keyed_37 (by decide) (by omega) (by omega) (fun hc => absurd hc (by omega)) (fun hc => ?_)
      refine lv_aload_n hx hb dX2_keyed_40 rfl (lv_at hl 0 rfl) ?_
      refine va_get (D := D) (ci := 2) (v := .ref sa) (C := RX2) (T := TX2) (N := 4) hx hb hts in_X2 hown hK hP 0 rfl rfl 0 (by decide) (hts _ q141) (fun _ h9 => h9) rfl dX2_keyed_41 ?_
      refine lv_iload_n hx hb dX2_keyed_44 rfl (lv_at hl 1 rfl) ?_
      refine lv_aload_n hx hb dX2_keyed_45 rfl (lv_at hl 0 rfl) ?_
      refine va_get (D := D) (ci := 2) (v := .ref sa) (C := RX2) (T := TX2) (N := 4) hx hb hts in_X2 hown hK hP 0 rfl rfl 0 (by decide) (hts _ q141) (fun _ h9 => h9) rfl dX2_keyed_46 ?_
      refine lv_iload_n hx hb dX2_keyed_49 rfl (lv_at hl 1 rfl) ?_
      refine tw_iald hx hb hK hP 1 0 rfl rfl (by omega) (by omega) dX2_keyed_50 ?_
      refine lv_aload_n hx hb dX2_keyed_51 rfl (lv_at hl 0 rfl) ?_
      refine va_get (D := D) (ci := 2) (v := .ref sa) (C := RX2) (T := TX2) (N := 4) hx hb hts in_X2 hown hK hP 0 rfl rfl 0 (by decide) (hts _ q141) (fun _ h9 => h9) rfl dX2_keyed_52 ?_
      refine lv_iload_n hx hb dX2_keyed_55 rfl (lv_at hl 1 rfl) ?_
      refine lv_iconst (v := nI 1) hx hb dX2_keyed_56 (by decide) ?_
      refine lv_isub hx hb dX2_keyed_57 ?_
      refine tw_top (z := nI (i - 1)) (pk_sub (by omega)) ?_
      refine tw_iald hx hb hK hP 1 0 rfl rfl (by omega) (by omega) dX2_keyed_58 ?_
      refine lv_aload_n hx hb dX2_keyed_59 rfl (lv_at hl 0 rfl) ?_
      refine va_get (D := D) (ci := 2) (v := .ref sa) (C := RX2) (T := TX2) (N := 4) hx hb hts in_X2 hown hK hP 0 rfl rfl 0 (by decide) (hts _ q141) (fun _ h9 => h9) rfl dX2_keyed_60 ?_
      refine lv_iload_n hx hb dX2_keyed_63 rfl (lv_at hl 1 rfl) ?_
      refine lv_iconst (v := nI 1) hx hb dX2_keyed_64 (by decide) ?_
      refine lv_isub hx hb dX2_keyed_65 ?_
      refine tw_top (z := nI (i - 1)) (pk_sub (by omega)) ?_
      refine tw_iald hx hb hK hP 1 0 rfl rfl (by omega) (by omega) dX2_keyed_66 ?_
      refine lv_bipush (v := 30) hx hb dX2_keyed_67 (by decide) ?_
      refine lv_iushr (v := tw_us (F (i - 1)) 30) hx hb dX2_keyed_69 rfl ?_
      refine lv_ixor hx hb dX2_keyed_70 ?_
      refine tw_top (z := tw_mx (F (i - 1))) (rfl) ?_
      refine lv_ldc hx hb hown (hts _ q168) dX2_keyed_71 ?_
      refine lv_imul hx hb dX2_keyed_73 ?_
      refine lv_ixor hx hb dX2_keyed_74 ?_
      refine lv_aload_n hx hb dX2_keyed_75 rfl (lv_at hl 0 rfl) ?_
      refine va_get (D := D) (ci := 2) (v := .ref ka) (C := RX2) (T := TX2) (N := 4) hx hb hts in_X2 hown hK hP 0 rfl rfl 1 (by decide) (hts _ q142) (fun _ h9 => h9) rfl dX2_keyed_76 ?_
      refine lv_iload_n hx hb dX2_keyed_79 rfl (lv_at hl 2 rfl) ?_
      refine tw_iald hx hb hK hP 2 0 rfl rfl (by omega) (by omega) dX2_keyed_80 ?_
      refine lv_iadd hx hb dX2_keyed_81 ?_
      refine lv_iload_n hx hb dX2_keyed_82 rfl (lv_at hl 2 rfl) ?_
      refine lv_iadd hx hb dX2_keyed_83 ?_
      refine tw_iast hx hb hK hP hD hS 1 0 rfl rfl (by omega) (by omega) dX2_keyed_84 (fun H locs hP hD hS => ?_)
      have hP : va_P D vwCl [(b, .inr (2, [.ref sa, .ref ka, .int (nI n), .int (nI 624)])), (sa, .inl (d0, 624, .inl (upd F i ((((F i) ^^^ ((tw_mx (F (i - 1))) * 1664525)) + (g j)) + (nI j))))), (ka, .inl (d0, 1024, .inl g))] H := hP
      have hD : va_D A [(b, .inr (2, [.ref sa, .ref ka, .int (nI n), .int (nI 624)])), (sa, .inl (d0, 624, .inl (upd F i ((((F i) ^^^ ((tw_mx (F (i - 1))) * 1664525)) + (g j)) + (nI j))))), (ka, .inl (d0, 1024, .inl g))] := hD
      have hP : va_P D vwCl [(b, .inr (2, [.ref sa, .ref ka, .int (nI n), .int (nI 624)])), (sa, .inl (d0, 624, .inl (tw_a1 g F i j))), (ka, .inl (d0, 1024, .inl g))] H := hP
      have hD : va_D A [(b, .inr (2, [.ref sa, .ref ka, .int (nI n), .int (nI 624)])), (sa, .inl (d0, 624, .inl (tw_a1 g F i j))), (ka, .inl (d0, 1024, .inl g))] := hD
      have hi2 := tw_oi_in (i := i) (by omega)
      refine lv_iload_n hx hb dX2_keyed_85 rfl (lv_at hl 1 rfl) ?_
      refine lv_iconst (v := nI 1) hx hb dX2_keyed_86 (by decide) ?_
      refine lv_iadd hx hb dX2_keyed_87 ?_
      refine tw_top (z := nI (i + 1)) (nI_add _ _) ?_
      refine lv_istore_n (lv' := [(1, .int (nI (i + 1))), (0, .ref b), (2, .int (nI j)), (3, .int (nI T)), (4, .int (nI cn))]) hx hb dX2_keyed_88 rfl hl (by decide) rfl (fun ls hl => ?_)
      refine lv_iload_n hx hb dX2_keyed_89 rfl (lv_at hl 2 rfl) ?_
      refine lv_iconst (v := nI 1) hx hb dX2_keyed_90 (by decide) ?_
      refine lv_iadd hx hb dX2_keyed_91 ?_
      refine tw_top (z := nI (j + 1)) (nI_add _ _) ?_
      refine lv_istore_n (lv' := [(2, .int (nI (j + 1))), (1, .int (nI (i + 1))), (0, .ref b), (3, .int (nI T)), (4, .int (nI cn))]) hx hb dX2_keyed_92 rfl hl (by decide) rfl (fun ls hl => ?_)
      refine lv_iload_n hx hb dX2_keyed_93 rfl (lv_at hl 1 rfl) ?_
      refine lv_sipush (v := nI 624) hx hb dX2_keyed_94 (by decide) ?_
      refine tw_icmp_ne (tgt := 116) hx hb dX2_keyed_97 (by decide) (by omega) (by omega) (fun hc => ?_) (fun hc => ?_)
      · have e1 : tw_oi i = i + 1 := if_pos (by omega)
        have e2 : tw_of (tw_a1 g F i j) i = tw_a1 g F i j := if_pos (by omega)
        refine lv_iload_n hx hb dX2_keyed_116 rfl (lv_at hl 0 rfl) ?_
        refine lv_aload_n hx hb dX2_keyed_117 rfl (lv_at hl 2 rfl) ?_
        refine va_get (D := D) (ci := 2) (v := .int (nI n)) (C := RX2) (T := TX2) (N := 4) hx hb hts in_X2 hown hK hP 0 rfl rfl 2 (by decide) (hts _ q143) (fun _ h9 => h9) rfl dX2_keyed_118 ?_
        refine tw_icmp_ne (tgt := 126) hx hb dX2_keyed_121 (by decide) (by omega) (by omega) (fun hd => ?_) (fun hd => ?_)
        · refine lv_iinc (v := nI (cn + 1)) (lv' := [(4, .int (nI (cn + 1))), (2, .int (nI (j + 1))), (1, .int (nI (i + 1))), (0, .ref b), (3, .int (nI T))]) hx hb dX2_keyed_126 hl (k := 4) rfl (tw_inc _) (by decide) rfl (fun ls hl => ?_)
          refine lv_goto (tgt := 34) hx hb dX2_keyed_129 (by decide) ?_
          have e3 : tw_jn n j = j + 1 := if_neg hd
          have hE : tw_K1 g n q (tw_of (tw_a1 g F i j) i) (tw_oi i) (tw_jn n j) = P1 := hE
          rw [e2, e1, e3] at hE
          exact ih (tw_a1 g F i j) (i + 1) (j + 1) (cn + 1) _ _ _ (by omega) (by omega) (by omega) (by omega) hE hP hD hS (lv_sub hl [3, 2, 1, 4, 0] rfl)
        · refine lv_iconst (v := nI 0) hx hb dX2_keyed_124 (by decide) ?_
          refine lv_istore_n (lv' := [(2, .int (nI 0)), (1, .int (nI (i + 1))), (0, .ref b), (3, .int (nI T)), (4, .int (nI cn))]) hx hb dX2_keyed_125 rfl hl (by decide) rfl (fun ls hl => ?_)
          refine lv_iinc (v := nI (cn + 1)) (lv' := [(4, .int (nI (cn + 1))), (2, .int (nI 0)), (1, .int (nI (i + 1))), (0, .ref b), (3, .int (nI T))]) hx hb dX2_keyed_126 hl (k := 4) rfl (tw_inc _) (by decide) rfl (fun ls hl => ?_)
          refine lv_goto (tgt := 34) hx hb dX2_keyed_129 (by decide) ?_
          have e3 : tw_jn n j = 0 := if_pos hd
          have hE : tw_K1 g n q (tw_of (tw_a1 g F i j) i) (tw_oi i) (tw_jn n j) = P1 := hE
          rw [e2, e1, e3] at hE
          exact ih (tw_a1 g F i j) (i + 1) 0 (cn + 1) _ _ _ (by omega) (by omega) (by omega) (by omega) hE hP hD hS (lv_sub hl [3, 2, 1, 4, 0] rfl)
      · refine lv_aload_n hx hb dX2_keyed_100 rfl (lv_at hl 2 rfl) ?_
        refine va_get (D := D) (ci := 2) (v := .ref sa) (C := RX2) (T := TX2) (N := 4) hx hb hts in_X2 hown hK hP 0 rfl rfl 0 (by decide) (hts _ q141) (fun _ h9 => h9) rfl dX2_keyed_101 ?_
        refine lv_iconst (v := nI 0) hx hb dX2_keyed_104 (by decide) ?_
        refine lv_aload_n hx hb dX2_keyed_105 rfl (lv_at hl 2 rfl) ?_
        refine va_get (D := D) (ci := 2) (v := .ref sa) (C := RX2) (T := TX2) (N := 4) hx hb hts in_X2 hown hK hP 0 rfl rfl 0 (by decide) (hts _ q141) (fun _ h9 => h9) rfl dX2_keyed_106 ?_
        refine lv_sipush (v := nI 623) hx hb dX2_keyed_109 (by decide) ?_
        refine tw_iald hx hb hK hP 1 0 rfl rfl (by omega) (by omega) dX2_keyed_112 ?_
        refine tw_iast hx hb hK hP hD hS 1 0 rfl rfl (by omega) (by omega) dX2_keyed_113 (fun H locs hP hD hS => ?_)
        have hP : va_P D vwCl [(b, .inr (2, [.ref sa, .ref ka, .int (nI n), .int (nI 624)])), (sa, .inl (d0, 624, .inl (upd (tw_a1 g F i j) 0 ((tw_a1 g F i j) 623)))), (ka, .inl (d0, 1024, .inl g))] H := hP
        have hD : va_D A [(b, .inr (2, [.ref sa, .ref ka, .int (nI n), .int (nI 624)])), (sa, .inl (d0, 624, .inl (upd (tw_a1 g F i j) 0 ((tw_a1 g F i j) 623)))), (ka, .inl (d0, 1024, .inl g))] := hD
        refine lv_iconst (v := nI 1) hx hb dX2_keyed_114 (by decide) ?_
        refine lv_istore_n (lv' := [(1, .int (nI 1)), (2, .int (nI (j + 1))), (0, .ref b), (3, .int (nI T)), (4, .int (nI cn))]) hx hb dX2_keyed_115 rfl hl (by decide) rfl (fun ls hl => ?_)
        have e1 : tw_oi i = 1 := if_neg (by omega)
        have e2 : tw_of (tw_a1 g F i j) i = upd (tw_a1 g F i j) 0 (tw_a1 g F i j 623) := if_neg (by omega)
        refine lv_iload_n hx hb dX2_keyed_116 rfl (lv_at hl 1 rfl) ?_
        refine lv_aload_n hx hb dX2_keyed_117 rfl (lv_at hl 2 rfl) ?_
        refine va_get (D := D) (ci := 2) (v := .int (nI n)) (C := RX2) (T := TX2) (N := 4) hx hb hts in_X2 hown hK hP 0 rfl rfl 2 (by decide) (hts _ q143) (fun _ h9 => h9) rfl dX2_keyed_118 ?_
        refine tw_icmp_ne (tgt := 126) hx hb dX2_keyed_121 (by decide) (by omega) (by omega) (fun hd => ?_) (fun hd => ?_)
        · refine lv_iinc (v := nI (cn + 1)) (lv' := [(4, .int (nI (cn + 1))), (1, .int (nI 1)), (2, .int (nI (j + 1))), (0, .ref b), (3, .int (nI T))]) hx hb dX2_keyed_126 hl (k := 4) rfl (tw_inc _) (by decide) rfl (fun ls hl => ?_)
          refine lv_goto (tgt := 34) hx hb dX2_keyed_129 (by decide) ?_
          have e3 : tw_jn n j = j + 1 := if_neg hd
          have hE : tw_K1 g n q (tw_of (tw_a1 g F i j) i) (tw_oi i) (tw_jn n j) = P1 := hE
          rw [e2, e1, e3] at hE
          exact ih (upd (tw_a1 g F i j) 0 (tw_a1 g F i j 623)) (1) (j + 1) (cn + 1) _ _ _ (by omega) (by omega) (by omega) (by omega) hE hP hD hS (lv_sub hl [3, 1, 2, 4, 0] rfl)
        · refine lv_iconst (v := nI 0) hx hb dX2_keyed_124 (by decide) ?_
          refine lv_istore_n (lv' := [(2, .int (nI 0)), (1, .int (nI 1)), (0, .ref b), (3, .int (nI T)), (4, .int (nI cn))]) hx hb dX2_keyed_125 rfl hl (by decide) rfl (fun ls hl => ?_)
          refine lv_iinc (v := nI (cn + 1)) (lv' := [(4, .int (nI (cn + 1))), (2, .int (nI 0)), (1, .int (nI 1)), (0, .ref b), (3, .int (nI T))]) hx hb dX2_keyed_126 hl (k := 4) rfl (tw_inc _) (by decide) rfl (fun ls hl => ?_)
          refine lv_goto (tgt := 34) hx hb dX2_keyed_129 (by decide) ?_
          have e3 : tw_jn n j = 0 := if_pos hd
          have hE : tw_K1 g n q (tw_of (tw_a1 g F i j) i) (tw_oi i) (tw_jn n j) = P1 := hE
          rw [e2, e1, e3] at hE
          exact ih (upd (tw_a1 g F i j) 0 (tw_a1 g F i j 623)) (1) 0 (cn + 1) _ _ _ (by omega) (by omega) (by omega) (by omega) hE hP hD hS (lv_sub hl [3, 2, 1, 4, 0] rfl)
  refine lv_aload_n hx hb dX2_keyed_0 rfl (lv_at hl 0 rfl) ?_
  refine lv_ldc hx hb hown (hts _ q167) dX2_keyed_1 ?_
  refine tw_cv (As := [.int 19650218]) (rest := []) (wr := []) (C := RX2) ⟨hx, hb, hml, hown, hts⟩ (m_rseed l D d0 b sa ka f g fs x 19650218 n hfs) (cwV 1 hts (lw_V q136 q137 q138 q9 q139) rfl rfl rfl (by decide +kernel) ⟨Nat.le_of_ble_eq_true rfl, Nat.le_of_ble_eq_true rfl⟩) hK hP hD hS hA [0, 1, 2] [] 2 0 rfl (by decide) rfl rfl (by decide) (by decide) rfl rfl rfl rfl hl.1 rfl (Nat.le_of_ble_eq_true rfl) dX2_keyed_3 ⟨Nat.zero_le _, Nat.zero_le _⟩ (fun H locs hP hD hS => ?_)
  have hP : va_P D vwCl [(b, .inr (2, [.ref sa, .ref ka, .int (nI n), .int (nI 624)])), (sa, .inl (d0, 624, .inl fs)), (ka, .inl (d0, 1024, .inl g))] H := hP
  have hD : va_D A [(b, .inr (2, [.ref sa, .ref ka, .int (nI n), .int (nI 624)])), (sa, .inl (d0, 624, .inl fs)), (ka, .inl (d0, 1024, .inl g))] := hD
  refine lv_iconst (v := nI 1) hx hb dX2_keyed_6 (by decide) ?_
  refine lv_istore_n (lv' := [(1, .int (nI 1)), (0, .ref b)]) hx hb dX2_keyed_7 rfl hl (by decide) rfl (fun ls hl => ?_)
  refine lv_iconst (v := nI 0) hx hb dX2_keyed_8 (by decide) ?_
  refine lv_istore_n (lv' := [(2, .int (nI 0)), (1, .int (nI 1)), (0, .ref b)]) hx hb dX2_keyed_9 rfl hl (by decide) rfl (fun ls hl => ?_)
  refine lv_aload_n hx hb dX2_keyed_10 rfl (lv_at hl 2 rfl) ?_
  refine va_get (D := D) (ci := 2) (v := .int (nI n)) (C := RX2) (T := TX2) (N := 4) hx hb hts in_X2 hown hK hP 0 rfl rfl 2 (by decide) (hts _ q143) (fun _ h9 => h9) rfl dX2_keyed_11 ?_
  refine lv_sipush (v := nI 624) hx hb dX2_keyed_14 (by decide) ?_
  refine tw_icmp_le (tgt := 27) hx hb dX2_keyed_17 (by decide) (by omega) (by omega) (fun hc => ?_) (fun hc => ?_)
  · refine lv_sipush (v := nI 624) hx hb dX2_keyed_27 (by decide) ?_
    refine tw_top (z := nI T) (by rw [hT, Nat.max_eq_left hc]) ?_
    refine lv_istore_n (lv' := [(3, .int (nI T)), (2, .int (nI 0)), (1, .int (nI 1)), (0, .ref b)]) hx hb dX2_keyed_30 rfl hl (by decide) rfl (fun ls hl => ?_)
    refine lv_iconst (v := nI 0) hx hb dX2_keyed_31 (by decide) ?_
    refine lv_istore (lv' := [(4, .int (nI 0)), (3, .int (nI T)), (2, .int (nI 0)), (1, .int (nI 1)), (0, .ref b)]) hx hb dX2_keyed_32 hl (by decide) rfl (fun ls hl => ?_)
    exact lp1 T fs 1 0 0 _ _ _ (by decide) (by decide) hn1 (by omega) hP1.symm hP hD hS (lv_sub hl [4, 3, 2, 1, 0] rfl)
  · refine lv_aload_n hx hb dX2_keyed_20 rfl (lv_at hl 2 rfl) ?_
    refine va_get (D := D) (ci := 2) (v := .int (nI n)) (C := RX2) (T := TX2) (N := 4) hx hb hts in_X2 hown hK hP 0 rfl rfl 2 (by decide) (hts _ q143) (fun _ h9 => h9) rfl dX2_keyed_21 ?_
    refine lv_goto (tgt := 30) hx hb dX2_keyed_24 (by decide) ?_
    refine tw_top (z := nI T) (by rw [hT, Nat.max_eq_right (Nat.le_of_lt hc)]) ?_
    refine lv_istore_n (lv' := [(3, .int (nI T)), (2, .int (nI 0)), (1, .int (nI 1)), (0, .ref b)]) hx hb dX2_keyed_30 rfl hl (by decide) rfl (fun ls hl => ?_)
    refine lv_iconst (v := nI 0) hx hb dX2_keyed_31 (by decide) ?_
    refine lv_istore (lv' := [(4, .int (nI 0)), (3, .int (nI T)), (2, .int (nI 0)), (1, .int (nI 1)), (0, .ref b)]) hx hb dX2_keyed_32 hl (by decide) rfl (fun ls hl => ?_)
    exact lp1 T fs 1 0 0 _ _ _ (by decide) (by decide) hn1 (by omega) hP1.symm hP hD hS (lv_sub hl [4, 3, 2, 1, 0] rfl)
set_option maxHeartbeats 4000000 in
set_option maxRecDepth 100000 in
/-- TwistedBitsModel.next() -/
theorem m_rnext (l : Launch) (D : va_G) (d0 : ClassId) (b sa ka : Nat) (f g : Nat → Int32) (f2 : Nat → Int32) (n t t2 : Nat) (ht : t ≤ 624) (hf2 : f2 = tw_mf f t) (ht2 : t2 = tw_mt t) : tw_Mi l yX2_next (ws_ yX2_next cX2_next 3 (some .int)) ({ frames := 0, cells := 0, slots := 0, locals := 0 } : Room) D d0 [.ref b] [(b, .inr (2, [.ref sa, .ref ka, .int (nI n), .int (nI t)])), (sa, .inl (d0, 624, .inl f)), (ka, .inl (d0, 1024, .inl g))] [(b, .inr (2, [.ref sa, .ref ka, .int (nI n), .int (nI (t2 + 1))])), (sa, .inl (d0, 624, .inl f2)), (ka, .inl (d0, 1024, .inl g))] (tw_tp (f2 t2)) := by
  refine tw_Mi_of (lv := [(0, .ref b)]) .int (vp_nar_int _) (by decide) (Nat.le_of_ble_eq_true rfl) rfl ?_
  intro p e s m below meth c A Q ls H locs hx hb hml hown hts hA hK hP hD hS hl ret
  have hown : s.vm.findClass RX2 = some m.cls := hown
  have hlt : t2 < 624 := by rw [ht2]; exact tw_mt_lt ht
  have tail : ∀ (H : Heap) (locs : List Loc) (ls : Array Slot), va_P D vwCl [(b, .inr (2, [.ref sa, .ref ka, .int (nI n), .int (nI t2)])), (sa, .inl (d0, 624, .inl f2)), (ka, .inl (d0, 1024, .inl g))] H → va_D A [(b, .inr (2, [.ref sa, .ref ka, .int (nI n), .int (nI t2)])), (sa, .inl (d0, 624, .inl f2)), (ka, .inl (d0, 1024, .inl g))] → va_S A s.heap H locs → lv_has ls 3 [(0, .ref b)] → W p l e ({ frames := 0, cells := 0, slots := 0, locals := 0 } : Room) s m ([.ref b] : List Value).toArray below meth c H locs 0 0 Q (F0 m 93 ls []) := by
    intro H locs ls hP hD hS hl
    refine lv_aload_n hx hb dX2_next_93 rfl (lv_at hl 0 rfl) ?_
    refine va_get (D := D) (ci := 2) (v := .ref sa) (C := RX2) (T := TX2) (N := 4) hx hb hts in_X2 hown hK hP 0 rfl rfl 0 (by decide) (hts _ q141) (fun _ h9 => h9) rfl dX2_next_94 ?_
    refine lv_aload_n hx hb dX2_next_97 rfl (lv_at hl 0 rfl) ?_
    refine va_get (D := D) (ci := 2) (v := .int (nI t2)) (C := RX2) (T := TX2) (N := 4) hx hb hts in_X2 hown hK hP 0 rfl rfl 3 (by decide) (hts _ q144) (fun _ h9 => h9) rfl dX2_next_98 ?_
    refine tw_iald hx hb hK hP 1 0 rfl rfl (by omega) (by omega) dX2_next_101 ?_
    refine lv_istore_n (lv' := [(1, .int (f2 t2)), (0, .ref b)]) hx hb dX2_next_102 rfl hl (by decide) rfl (fun ls hl => ?_)
    refine lv_aload_n hx hb dX2_next_103 rfl (lv_at hl 1 rfl) ?_
    refine lv_aload_n hx hb dX2_next_104 rfl (lv_at hl 1 rfl) ?_
    refine va_get (D := D) (ci := 2) (v := .int (nI t2)) (C := RX2) (T := TX2) (N := 4) hx hb hts in_X2 hown hK hP 0 rfl rfl 3 (by decide) (hts _ q144) (fun _ h9 => h9) rfl dX2_next_105 ?_
    refine lv_iconst (v := nI 1) hx hb dX2_next_108 (by decide) ?_
    refine lv_iadd hx hb dX2_next_109 ?_
    refine tw_top (z := nI (t2 + 1)) (nI_add _ _) ?_
    refine va_put (D := D) (ci := 2) (v := .int (nI (t2 + 1))) (ty := .int) (C := RX2) (T := TX2) (N := 4) hx hb hts in_X2 tyX2 tyX2_ok nmX2 hown hK hP hD hS 0 rfl rfl 3 (by decide) (hts _ q144) (fun _ h9 => h9) rfl (by decide +kernel) rfl rfl (Nat.le_of_ble_eq_true rfl) dX2_next_110 (fun H locs hP hD hS => ?_)
    have hP : va_P D vwCl [(b, .inr (2, [.ref sa, .ref ka, .int (nI n), .int (nI (t2 + 1))])), (sa, .inl (d0, 624, .inl f2)), (ka, .inl (d0, 1024, .inl g))] H := hP
    have hD : va_D A [(b, .inr (2, [.ref sa, .ref ka, .int (nI n), .int (nI (t2 + 1))])), (sa, .inl (d0, 624, .inl f2)), (ka, .inl (d0, 1024, .inl g))] := hD
    refine lv_iload_n hx hb dX2_next_113 rfl (lv_at hl 0 rfl) ?_
    refine lv_iload_n hx hb dX2_next_114 rfl (lv_at hl 0 rfl) ?_
    refine lv_bipush (v := 11) hx hb dX2_next_115 (by decide) ?_
    refine lv_iushr (v := tw_us (f2 t2) 11) hx hb dX2_next_117 rfl ?_
    refine lv_ixor hx hb dX2_next_118 ?_
    refine tw_top (z := tw_p1 (f2 t2)) (rfl) ?_
    refine lv_istore_n (lv' := [(1, .int (tw_p1 (f2 t2))), (0, .ref b)]) hx hb dX2_next_119 rfl hl (by decide) rfl (fun ls hl => ?_)
    refine lv_iload_n hx hb dX2_next_120 rfl (lv_at hl 0 rfl) ?_
    refine lv_iload_n hx hb dX2_next_121 rfl (lv_at hl 0 rfl) ?_
    refine lv_bipush (v := 7) hx hb dX2_next_122 (by decide) ?_
    refine lv_ishl hx hb dX2_next_124 ?_
    refine lv_ldc hx hb hown (hts _ q181) dX2_next_125 ?_
    refine lv_iand hx hb dX2_next_127 ?_
    refine lv_ixor hx hb dX2_next_128 ?_
    refine tw_top (z := tw_p2 (tw_p1 (f2 t2))) (rfl) ?_
    refine lv_istore_n (lv' := [(1, .int (tw_p2 (tw_p1 (f2 t2)))), (0, .ref b)]) hx hb dX2_next_129 rfl hl (by decide) rfl (fun ls hl => ?_)
    refine lv_iload_n hx hb dX2_next_130 rfl (lv_at hl 0 rfl) ?_
    refine lv_iload_n hx hb dX2_next_131 rfl (lv_at hl 0 rfl) ?_
    refine lv_bipush (v := 15) hx hb dX2_next_132 (by decide) ?_
    refine lv_ishl hx hb dX2_next_134 ?_
    refine lv_ldc hx hb hown (hts _ q182) dX2_next_135 ?_
    refine lv_iand hx hb dX2_next_137 ?_
    refine lv_ixor hx hb dX2_next_138 ?_
    refine tw_top (z := tw_p3 (tw_p2 (tw_p1 (f2 t2)))) (rfl) ?_
    refine lv_istore_n (lv' := [(1, .int (tw_p3 (tw_p2 (tw_p1 (f2 t2))))), (0, .ref b)]) hx hb dX2_next_139 rfl hl (by decide) rfl (fun ls hl => ?_)
    refine lv_iload_n hx hb dX2_next_140 rfl (lv_at hl 0 rfl) ?_
    refine lv_iload_n hx hb dX2_next_141 rfl (lv_at hl 0 rfl) ?_
    refine lv_bipush (v := 18) hx hb dX2_next_142 (by decide) ?_
    refine lv_iushr (v := tw_us (tw_p3 (tw_p2 (tw_p1 (f2 t2)))) 18) hx hb dX2_next_144 rfl ?_
    refine lv_ixor hx hb dX2_next_145 ?_
    refine tw_top (z := tw_tp (f2 t2)) (rfl) ?_
    exact ret _ _ _ _ dX2_next_146 hP hD hS
  refine lv_aload_n hx hb dX2_next_0 rfl (lv_at hl 0 rfl) ?_
  refine va_get (D := D) (ci := 2) (v := .int (nI t)) (C := RX2) (T := TX2) (N := 4) hx hb hts in_X2 hown hK hP 0 rfl rfl 3 (by decide) (hts _ q144) (fun _ h9 => h9) rfl dX2_next_1 ?_
  refine lv_sipush (v := nI 624) hx hb dX2_next_4 (by decide) ?_
  refine tw_icmp_ne (tgt := 93) hx hb dX2_next_7 (by decide) (by omega) (by omega) (fun hte => ?_) (fun hte => ?_)
  · rw [← show f2 = f from hf2.trans (if_neg hte)] at hP hD
    have hP : va_P D vwCl [(b, .inr (2, [.ref sa, .ref ka, .int (nI n), .int (nI t)])), (sa, .inl (d0, 624, .inl f2)), (ka, .inl (d0, 1024, .inl g))] H := hP
    have hD : va_D A [(b, .inr (2, [.ref sa, .ref ka, .int (nI n), .int (nI t)])), (sa, .inl (d0, 624, .inl f2)), (ka, .inl (d0, 1024, .inl g))] := hD
    rw [← show t2 = t from ht2.trans (if_neg hte)] at hP hD
    have hP : va_P D vwCl [(b, .inr (2, [.ref sa, .ref ka, .int (nI n), .int (nI t2)])), (sa, .inl (d0, 624, .inl f2)), (ka, .inl (d0, 1024, .inl g))] H := hP
    have hD : va_D A [(b, .inr (2, [.ref sa, .ref ka, .int (nI n), .int (nI t2)])), (sa, .inl (d0, 624, .inl f2)), (ka, .inl (d0, 1024, .inl g))] := hD
    exact tail  _ _ _  hP hD hS (lv_sub hl [0] rfl)
  · have lp : ∀ (q : Nat) (k : Nat) (H : Heap) (locs : List Loc) (ls : Array Slot), k + q = 624 → va_P D vwCl [(b, .inr (2, [.ref sa, .ref ka, .int (nI n), .int (nI t)])), (sa, .inl (d0, 624, .inl (tw_T f k))), (ka, .inl (d0, 1024, .inl g))] H → va_D A [(b, .inr (2, [.ref sa, .ref ka, .int (nI n), .int (nI t)])), (sa, .inl (d0, 624, .inl (tw_T f k))), (ka, .inl (d0, 1024, .inl g))] → va_S A s.heap H locs → lv_has ls 3 [(0, .ref b), (1, .int (nI k))] → W p l e ({ frames := 0, cells := 0, slots := 0, locals := 0 } : Room) s m ([.ref b] : List Value).toArray below meth c H locs 0 0 Q (F0 m 12 ls []) := by
      intro q
      induction q with
      | zero =>
        intro k H locs ls hk hP hD hS hl
        refine lv_iload_n hx hb dX2_next_12 rfl (lv_at hl 1 rfl) ?_
        refine lv_sipush (v := nI 624) hx hb dX2_next_13 (by decide) ?_
        refine tw_icmp_ge (tgt := 88) hx hb dX2_next_16 (by decide) (by omega) (by omega) (fun hc => ?_) (fun hc => absurd hc (by omega))
        have ek : k = 624 := by omega
        subst ek
        rw [← show f2 = tw_T f 624 from hf2.trans (if_pos hte)] at hP hD
        have hP : va_P D vwCl [(b, .inr (2, [.ref sa, .ref ka, .int (nI n), .int (nI t)])), (sa, .inl (d0, 624, .inl f2)), (ka, .inl (d0, 1024, .inl g))] H := hP
        have hD : va_D A [(b, .inr (2, [.ref sa, .ref ka, .int (nI n), .int (nI t)])), (sa, .inl (d0, 624, .inl f2)), (ka, .inl (d0, 1024, .inl g))] := hD
        refine lv_aload_n hx hb dX2_next_88 rfl (lv_at hl 0 rfl) ?_
        refine lv_iconst (v := nI 0) hx hb dX2_next_89 (by decide) ?_
        refine va_put (D := D) (ci := 2) (v := .int (nI 0)) (ty := .int) (C := RX2) (T := TX2) (N := 4) hx hb hts in_X2 tyX2 tyX2_ok nmX2 hown hK hP hD hS 0 rfl rfl 3 (by decide) (hts _ q144) (fun _ h9 => h9) rfl (by decide +kernel) rfl rfl (Nat.le_of_ble_eq_true rfl) dX2_next_90 (fun H locs hP hD hS => ?_)
        have hP : va_P D vwCl [(b, .inr (2, [.ref sa, .ref ka, .int (nI n), .int (nI 0)])), (sa, .inl (d0, 624, .inl f2)), (ka, .inl (d0, 1024, .inl g))] H := hP
        have hD : va_D A [(b, .inr (2, [.ref sa, .ref ka, .int (nI n), .int (nI 0)])), (sa, .inl (d0, 624, .inl f2)), (ka, .inl (d0, 1024, .inl g))] := hD
        rw [← show t2 = 0 from ht2.trans (if_pos hte)] at hP hD
        have hP : va_P D vwCl [(b, .inr (2, [.ref sa, .ref ka, .int (nI n), .int (nI t2)])), (sa, .inl (d0, 624, .inl f2)), (ka, .inl (d0, 1024, .inl g))] H := hP
        have hD : va_D A [(b, .inr (2, [.ref sa, .ref ka, .int (nI n), .int (nI t2)])), (sa, .inl (d0, 624, .inl f2)), (ka, .inl (d0, 1024, .inl g))] := hD
        exact tail  _ _ _  hP hD hS (lv_sub hl [0] rfl)
      | succ q ih =>
        intro k H locs ls hk hP hD hS hl
        refine lv_iload_n hx hb dX2_next_12 rfl (lv_at hl 1 rfl) ?_
        refine lv_sipush (v := nI 624) hx hb dX2_next_13 (by decide) ?_
        refine tw_icmp_ge (tgt := 88) hx hb dX2_next_16 (by decide) (by omega) (by omega) (fun hc => absurd hc (by omega)) (fun hc => ?_)
        refine lv_aload_n hx hb dX2_next_19 rfl (lv_at hl 0 rfl) ?_
        refine va_get (D := D) (ci := 2) (v := .ref sa) (C := RX2) (T := TX2) (N := 4) hx hb hts in_X2 hown hK hP 0 rfl rfl 0 (by decide) (hts _ q141) (fun _ h9 => h9) rfl dX2_next_20 ?_
        refine lv_iload_n hx hb dX2_next_23 rfl (lv_at hl 1 rfl) ?_
        refine tw_iald hx hb hK hP 1 0 rfl rfl (by omega) (by omega) dX2_next_24 ?_
        refine lv_ldc hx hb hown (hts _ q170) dX2_next_25 ?_
        refine lv_iand hx hb dX2_next_27 ?_
        refine lv_aload_n hx hb dX2_next_28 rfl (lv_at hl 0 rfl) ?_
        refine va_get (D := D) (ci := 2) (v := .ref sa) (C := RX2) (T := TX2) (N := 4) hx hb hts in_X2 hown hK hP 0 rfl rfl 0 (by decide) (hts _ q141) (fun _ h9 => h9) rfl dX2_next_29 ?_
        refine lv_iload_n hx hb dX2_next_32 rfl (lv_at hl 1 rfl) ?_
        refine lv_iconst (v := nI 1) hx hb dX2_next_33 (by decide) ?_
        refine lv_iadd hx hb dX2_next_34 ?_
        refine tw_top (z := nI (k + 1)) (nI_add _ _) ?_
        refine lv_sipush (v := nI 624) hx hb dX2_next_35 (by decide) ?_
        refine tw_irem hx hb dX2_next_38 (by omega) (by omega) (by omega) ?_
        refine tw_iald hx hb hK hP 1 0 rfl rfl (Nat.mod_lt _ (by decide)) (by omega) dX2_next_39 ?_
        refine lv_ldc hx hb hown (hts _ q179) dX2_next_40 ?_
        refine lv_iand hx hb dX2_next_42 ?_
        refine lv_ior hx hb dX2_next_43 ?_
        refine tw_top (z := tw_w ((tw_T f k) k) ((tw_T f k) ((k + 1) % 624))) (rfl) ?_
        refine lv_istore_n (lv' := [(2, .int (tw_w ((tw_T f k) k) ((tw_T f k) ((k + 1) % 624)))), (0, .ref b), (1, .int (nI k))]) hx hb dX2_next_44 rfl hl (by decide) rfl (fun ls hl => ?_)
        refine lv_aload_n hx hb dX2_next_45 rfl (lv_at hl 1 rfl) ?_
        refine va_get (D := D) (ci := 2) (v := .ref sa) (C := RX2) (T := TX2) (N := 4) hx hb hts in_X2 hown hK hP 0 rfl rfl 0 (by decide) (hts _ q141) (fun _ h9 => h9) rfl dX2_next_46 ?_
        refine lv_iload_n hx hb dX2_next_49 rfl (lv_at hl 2 rfl) ?_
        refine lv_aload_n hx hb dX2_next_50 rfl (lv_at hl 1 rfl) ?_
        refine va_get (D := D) (ci := 2) (v := .ref sa) (C := RX2) (T := TX2) (N := 4) hx hb hts in_X2 hown hK hP 0 rfl rfl 0 (by decide) (hts _ q141) (fun _ h9 => h9) rfl dX2_next_51 ?_
        refine lv_iload_n hx hb dX2_next_54 rfl (lv_at hl 2 rfl) ?_
        refine lv_sipush (v := nI 397) hx hb dX2_next_55 (by decide) ?_
        refine lv_iadd hx hb dX2_next_58 ?_
        refine tw_top (z := nI (k + 397)) (nI_add _ _) ?_
        refine lv_sipush (v := nI 624) hx hb dX2_next_59 (by decide) ?_
        refine tw_irem hx hb dX2_next_62 (by omega) (by omega) (by omega) ?_
        refine tw_iald hx hb hK hP 1 0 rfl rfl (Nat.mod_lt _ (by decide)) (by omega) dX2_next_63 ?_
        refine lv_iload_n hx hb dX2_next_64 rfl (lv_at hl 0 rfl) ?_
        refine lv_iconst (v := 1) hx hb dX2_next_65 (by decide) ?_
        refine lv_iushr (v := tw_us (tw_w ((tw_T f k) k) ((tw_T f k) ((k + 1) % 624))) 1) hx hb dX2_next_66 rfl ?_
        refine lv_ixor hx hb dX2_next_67 ?_
        refine lv_iload_n hx hb dX2_next_68 rfl (lv_at hl 0 rfl) ?_
        refine lv_iconst (v := 1) hx hb dX2_next_69 (by decide) ?_
        refine lv_iand hx hb dX2_next_70 ?_
        refine lv_if_eq (tgt := 79) hx hb dX2_next_71 (by decide) (fun hd => ?_) (fun hd => ?_)
        · refine lv_iconst (v := 0) hx hb dX2_next_79 (by decide) ?_
          refine lv_ixor hx hb dX2_next_80 ?_
          refine tw_top (z := tw_tm ((tw_T f k) k) ((tw_T f k) ((k + 1) % 624)) ((tw_T f k) ((k + 397) % 624))) (by unfold tw_tm; rw [if_pos hd]) ?_
          refine tw_iast hx hb hK hP hD hS 1 0 rfl rfl (by omega) (by omega) dX2_next_81 (fun H locs hP hD hS => ?_)
          have hP : va_P D vwCl [(b, .inr (2, [.ref sa, .ref ka, .int (nI n), .int (nI t)])), (sa, .inl (d0, 624, .inl (upd (tw_T f k) k (tw_tm ((tw_T f k) k) ((tw_T f k) ((k + 1) % 624)) ((tw_T f k) ((k + 397) % 624)))))), (ka, .inl (d0, 1024, .inl g))] H := hP
          have hD : va_D A [(b, .inr (2, [.ref sa, .ref ka, .int (nI n), .int (nI t)])), (sa, .inl (d0, 624, .inl (upd (tw_T f k) k (tw_tm ((tw_T f k) k) ((tw_T f k) ((k + 1) % 624)) ((tw_T f k) ((k + 397) % 624)))))), (ka, .inl (d0, 1024, .inl g))] := hD
          have hP : va_P D vwCl [(b, .inr (2, [.ref sa, .ref ka, .int (nI n), .int (nI t)])), (sa, .inl (d0, 624, .inl (tw_T f (k + 1)))), (ka, .inl (d0, 1024, .inl g))] H := hP
          have hD : va_D A [(b, .inr (2, [.ref sa, .ref ka, .int (nI n), .int (nI t)])), (sa, .inl (d0, 624, .inl (tw_T f (k + 1)))), (ka, .inl (d0, 1024, .inl g))] := hD
          refine lv_iinc (v := nI (k + 1)) (lv' := [(1, .int (nI (k + 1))), (2, .int (tw_w ((tw_T f k) k) ((tw_T f k) ((k + 1) % 624)))), (0, .ref b)]) hx hb dX2_next_82 hl (k := 2) rfl (tw_inc _) (by decide) rfl (fun ls hl => ?_)
          refine lv_goto (tgt := 12) hx hb dX2_next_85 (by decide) ?_
          exact ih (k + 1) _ _ _ (by omega) hP hD hS (lv_sub hl [2, 0] rfl)
        · refine lv_ldc hx hb hown (hts _ q180) dX2_next_74 ?_
          refine lv_goto (tgt := 80) hx hb dX2_next_76 (by decide) ?_
          refine lv_ixor hx hb dX2_next_80 ?_
          refine tw_top (z := tw_tm ((tw_T f k) k) ((tw_T f k) ((k + 1) % 624)) ((tw_T f k) ((k + 397) % 624))) (by unfold tw_tm; rw [if_neg hd]) ?_
          refine tw_iast hx hb hK hP hD hS 1 0 rfl rfl (by omega) (by omega) dX2_next_81 (fun H locs hP hD hS => ?_)
          have hP : va_P D vwCl [(b, .inr (2, [.ref sa, .ref ka, .int (nI n), .int (nI t)])), (sa, .inl (d0, 624, .inl (upd (tw_T f k) k (tw_tm ((tw_T f k) k) ((tw_T f k) ((k + 1) % 624)) ((tw_T f k) ((k + 397) % 624)))))), (ka, .inl (d0, 1024, .inl g))] H := hP
          have hD : va_D A [(b, .inr (2, [.ref sa, .ref ka, .int (nI n), .int (nI t)])), (sa, .inl (d0, 624, .inl (upd (tw_T f k) k (tw_tm ((tw_T f k) k) ((tw_T f k) ((k + 1) % 624)) ((tw_T f k) ((k + 397) % 624)))))), (ka, .inl (d0, 1024, .inl g))] := hD
          have hP : va_P D vwCl [(b, .inr (2, [.ref sa, .ref ka, .int (nI n), .int (nI t)])), (sa, .inl (d0, 624, .inl (tw_T f (k + 1)))), (ka, .inl (d0, 1024, .inl g))] H := hP
          have hD : va_D A [(b, .inr (2, [.ref sa, .ref ka, .int (nI n), .int (nI t)])), (sa, .inl (d0, 624, .inl (tw_T f (k + 1)))), (ka, .inl (d0, 1024, .inl g))] := hD
          refine lv_iinc (v := nI (k + 1)) (lv' := [(1, .int (nI (k + 1))), (2, .int (tw_w ((tw_T f k) k) ((tw_T f k) ((k + 1) % 624)))), (0, .ref b)]) hx hb dX2_next_82 hl (k := 2) rfl (tw_inc _) (by decide) rfl (fun ls hl => ?_)
          refine lv_goto (tgt := 12) hx hb dX2_next_85 (by decide) ?_
          exact ih (k + 1) _ _ _ (by omega) hP hD hS (lv_sub hl [2, 0] rfl)
    refine lv_iconst (v := nI 0) hx hb dX2_next_10 (by decide) ?_
    refine lv_istore_n (lv' := [(1, .int (nI 0)), (0, .ref b)]) hx hb dX2_next_11 rfl hl (by decide) rfl (fun ls hl => ?_)
    have hP : va_P D vwCl [(b, .inr (2, [.ref sa, .ref ka, .int (nI n), .int (nI t)])), (sa, .inl (d0, 624, .inl (tw_T f 0))), (ka, .inl (d0, 1024, .inl g))] H := hP
    have hD : va_D A [(b, .inr (2, [.ref sa, .ref ka, .int (nI n), .int (nI t)])), (sa, .inl (d0, 624, .inl (tw_T f 0))), (ka, .inl (d0, 1024, .inl g))] := hD
    exact lp 624 0 _ _ _ (by omega) hP hD hS (lv_sub hl [1, 0] rfl)
theorem tw_mt_le {t : Nat} (h : t ≤ 624) : tw_mt t + 1 ≤ 624 := tw_mt_lt h
set_option maxHeartbeats 4000000 in
set_option maxRecDepth 100000 in
/-- TwistedBitsModel.bits(v) -/
theorem m_rbits (l : Launch) (D : va_G) (d0 : ClassId) (b sa ka : Nat) (f g : Nat → Int32) (v : Int32) (n t : Nat) (ht : t ≤ 624) : tw_Mi l yX2_bits (ws_ yX2_bits cX2_bits 2 (some .int)) ({ frames := 1, cells := 0, slots := 0, locals := 30 } : Room) D d0 [.ref b, .int v] [(b, .inr (2, [.ref sa, .ref ka, .int (nI n), .int (nI t)])), (sa, .inl (d0, 624, .inl f)), (ka, .inl (d0, 1024, .inl g))] [(b, .inr (2, [.ref sa, .ref ka, .int (nI n), .int (nI (tw_mt t + 1))])), (sa, .inl (d0, 624, .inl (tw_mf f t))), (ka, .inl (d0, 1024, .inl g))] (tw_bt (tw_tp (tw_mv f t)) v) := by
  refine tw_Mi_of (lv := [(0, .ref b), (1, .int v)]) .int (vp_nar_int _) (by decide) (Nat.le_of_ble_eq_true rfl) rfl ?_
  intro p e s m below meth c A Q ls H locs hx hb hml hown hts hA hK hP hD hS hl ret
  have hown : s.vm.findClass RX2 = some m.cls := hown
  refine lv_aload_n hx hb dX2_bits_0 rfl (lv_at hl 0 rfl) ?_
  refine tw_ci (As := []) (rest := []) (wr := []) (C := RX2) ⟨hx, hb, hml, hown, hts⟩ (m_rnext l D d0 b sa ka f g (tw_mf f t) n t (tw_mt t) ht rfl rfl) (cwV 0 hts (lw_V q175 q177 qs5 q9 q178) rfl rfl rfl (by decide +kernel) ⟨Nat.le_of_ble_eq_true rfl, Nat.le_of_ble_eq_true rfl⟩) hK hP hD hS hA [0, 1, 2] [] 2 0 rfl (by decide) rfl rfl (by decide) (by decide) rfl rfl rfl rfl hl.1 rfl (Nat.le_of_ble_eq_true rfl) dX2_bits_1 ⟨Nat.zero_le _, Nat.zero_le _⟩ (fun H locs hP hD hS => ?_)
  have hP : va_P D vwCl [(b, .inr (2, [.ref sa, .ref ka, .int (nI n), .int (nI (tw_mt t + 1))])), (sa, .inl (d0, 624, .inl (tw_mf f t))), (ka, .inl (d0, 1024, .inl g))] H := hP
  have hD : va_D A [(b, .inr (2, [.ref sa, .ref ka, .int (nI n), .int (nI (tw_mt t + 1))])), (sa, .inl (d0, 624, .inl (tw_mf f t))), (ka, .inl (d0, 1024, .inl g))] := hD
  refine lv_bipush (v := 31) hx hb dX2_bits_4 (by decide) ?_
  refine lv_iload_n hx hb dX2_bits_6 rfl (lv_at hl 1 rfl) ?_
  refine lv_bipush (v := 31) hx hb dX2_bits_7 (by decide) ?_
  refine lv_iand hx hb dX2_bits_9 ?_
  refine lv_isub hx hb dX2_bits_10 ?_
  refine lv_iushr (v := tw_us (tw_tp (tw_mf f t (tw_mt t))) (31 - (v &&& 31))) hx hb dX2_bits_11 rfl ?_
  refine tw_top (z := tw_bt (tw_tp (tw_mv f t)) v) (rfl) ?_
  exact ret _ _ _ _ dX2_bits_12 hP hD hS
set_option maxHeartbeats 4000000 in
set_option maxRecDepth 100000 in
/-- TwistedBitsModel.wide() -/
theorem m_rwide (l : Launch) (D : va_G) (d0 : ClassId) (b sa ka : Nat) (f g : Nat → Int32) (n t : Nat) (ht : t ≤ 624) : tw_Ml l yX2_wide (ws_ yX2_wide cX2_wide 3 (some .long)) ({ frames := 1, cells := 0, slots := 0, locals := 30 } : Room) D d0 [.ref b] [(b, .inr (2, [.ref sa, .ref ka, .int (nI n), .int (nI t)])), (sa, .inl (d0, 624, .inl f)), (ka, .inl (d0, 1024, .inl g))] [(b, .inr (2, [.ref sa, .ref ka, .int (nI n), .int (nI (tw_mt (tw_mt t + 1) + 1))])), (sa, .inl (d0, 624, .inl (tw_mf (tw_mf f t) (tw_mt t + 1)))), (ka, .inl (d0, 1024, .inl g))] (tw_wd (tw_tp (tw_mv f t)) (tw_tp (tw_mv (tw_mf f t) (tw_mt t + 1)))) := by
  refine tw_Ml_of (lv := [(0, .ref b)]) (by decide) (Nat.le_of_ble_eq_true rfl) rfl ?_
  intro p e s m below meth c A Q ls H locs hx hb hml hown hts hA hK hP hD hS hl ret
  have hown : s.vm.findClass RX2 = some m.cls := hown
  refine lv_aload_n hx hb dX2_wide_0 rfl (lv_at hl 0 rfl) ?_
  refine tw_ci (As := []) (rest := []) (wr := []) (C := RX2) ⟨hx, hb, hml, hown, hts⟩ (m_rnext l D d0 b sa ka f g (tw_mf f t) n t (tw_mt t) ht rfl rfl) (cwV 0 hts (lw_V q175 q177 qs5 q9 q178) rfl rfl rfl (by decide +kernel) ⟨Nat.le_of_ble_eq_true rfl, Nat.le_of_ble_eq_true rfl⟩) hK hP hD hS hA [0, 1, 2] [] 2 0 rfl (by decide) rfl rfl (by decide) (by decide) rfl rfl rfl rfl hl.1 rfl (Nat.le_of_ble_eq_true rfl) dX2_wide_1 ⟨Nat.zero_le _, Nat.zero_le _⟩ (fun H locs hP hD hS => ?_)
  have hP : va_P D vwCl [(b, .inr (2, [.ref sa, .ref ka, .int (nI n), .int (nI (tw_mt t + 1))])), (sa, .inl (d0, 624, .inl (tw_mf f t))), (ka, .inl (d0, 1024, .inl g))] H := hP
  have hD : va_D A [(b, .inr (2, [.ref sa, .ref ka, .int (nI n), .int (nI (tw_mt t + 1))])), (sa, .inl (d0, 624, .inl (tw_mf f t))), (ka, .inl (d0, 1024, .inl g))] := hD
  refine lv_i2l (v := (tw_tp (tw_mf f t (tw_mt t))).toInt64) hx hb dX2_wide_4 rfl ?_
  refine lv_lstore_n (lv' := [(1, .long ((tw_tp (tw_mf f t (tw_mt t))).toInt64)), (0, .ref b)]) hx hb dX2_wide_5 rfl hl (by decide) rfl (fun ls hl => ?_)
  refine lv_lload_n hx hb dX2_wide_6 rfl (lv_at hl 0 rfl) ?_
  refine lv_bipush (v := 32) hx hb dX2_wide_7 (by decide) ?_
  refine lv_lshl (v := ((tw_tp (tw_mf f t (tw_mt t))).toInt64) <<< ((32 : Int32).toInt64 &&& 63)) hx hb dX2_wide_9 rfl ?_
  refine lv_aload_n hx hb dX2_wide_10 rfl (lv_at hl 1 rfl) ?_
  refine tw_ci (As := []) (rest := [.long (((tw_tp (tw_mf f t (tw_mt t))).toInt64) <<< ((32 : Int32).toInt64 &&& 63))]) (wr := []) (C := RX2) ⟨hx, hb, hml, hown, hts⟩ (m_rnext l D d0 b sa ka (tw_mf f t) g (tw_mf (tw_mf f t) (tw_mt t + 1)) n (tw_mt t + 1) (tw_mt (tw_mt t + 1)) (tw_mt_le ht) rfl rfl) (cwV 0 hts (lw_V q175 q177 qs5 q9 q178) rfl rfl rfl (by decide +kernel) ⟨Nat.le_of_ble_eq_true rfl, Nat.le_of_ble_eq_true rfl⟩) hK hP hD hS hA [0, 1, 2] [] 2 0 rfl (by decide) rfl rfl (by decide) (by decide) rfl rfl rfl rfl hl.1 rfl (Nat.le_of_ble_eq_true rfl) dX2_wide_11 ⟨Nat.zero_le _, Nat.zero_le _⟩ (fun H locs hP hD hS => ?_)
  have hP : va_P D vwCl [(b, .inr (2, [.ref sa, .ref ka, .int (nI n), .int (nI (tw_mt (tw_mt t + 1) + 1))])), (sa, .inl (d0, 624, .inl (tw_mf (tw_mf f t) (tw_mt t + 1)))), (ka, .inl (d0, 1024, .inl g))] H := hP
  have hD : va_D A [(b, .inr (2, [.ref sa, .ref ka, .int (nI n), .int (nI (tw_mt (tw_mt t + 1) + 1))])), (sa, .inl (d0, 624, .inl (tw_mf (tw_mf f t) (tw_mt t + 1)))), (ka, .inl (d0, 1024, .inl g))] := hD
  refine lv_i2l (v := (tw_tp (tw_mf (tw_mf f t) (tw_mt t + 1) (tw_mt (tw_mt t + 1)))).toInt64) hx hb dX2_wide_14 rfl ?_
  refine lv_ldc2 hx hb hown (hts _ q187) dX2_wide_15 ?_
  refine lv_land hx hb dX2_wide_18 ?_
  refine lv_lor hx hb dX2_wide_19 ?_
  refine tw_topl (z := tw_wd (tw_tp (tw_mv f t)) (tw_tp (tw_mv (tw_mf f t) (tw_mt t + 1)))) (rfl) ?_
  exact ret _ _ _ _ dX2_wide_20 hP hD hS
theorem tw_mc_nar (o : Int32) : narrow .boolean (.int (tw_mc o)) = .int (tw_mc o) := by
  unfold tw_mc
  split <;> rfl
set_option maxHeartbeats 4000000 in
set_option maxRecDepth 100000 in
/-- TwistedBitsModel.coin() -/
theorem m_rcoin (l : Launch) (D : va_G) (d0 : ClassId) (b sa ka : Nat) (f g : Nat → Int32) (n t : Nat) (ht : t ≤ 624) : tw_Mi l yX2_coin (ws_ yX2_coin cX2_coin 1 (some .boolean)) ({ frames := 1, cells := 0, slots := 0, locals := 30 } : Room) D d0 [.ref b] [(b, .inr (2, [.ref sa, .ref ka, .int (nI n), .int (nI t)])), (sa, .inl (d0, 624, .inl f)), (ka, .inl (d0, 1024, .inl g))] [(b, .inr (2, [.ref sa, .ref ka, .int (nI n), .int (nI (tw_mt t + 1))])), (sa, .inl (d0, 624, .inl (tw_mf f t))), (ka, .inl (d0, 1024, .inl g))] (tw_mc (tw_tp (tw_mv f t))) := by
  refine tw_Mi_of (lv := [(0, .ref b)]) .boolean (tw_mc_nar _) (by decide) (Nat.le_of_ble_eq_true rfl) rfl ?_
  intro p e s m below meth c A Q ls H locs hx hb hml hown hts hA hK hP hD hS hl ret
  have hown : s.vm.findClass RX2 = some m.cls := hown
  refine lv_aload_n hx hb dX2_coin_0 rfl (lv_at hl 0 rfl) ?_
  refine tw_ci (As := []) (rest := []) (wr := []) (C := RX2) ⟨hx, hb, hml, hown, hts⟩ (m_rnext l D d0 b sa ka f g (tw_mf f t) n t (tw_mt t) ht rfl rfl) (cwV 0 hts (lw_V q175 q177 qs5 q9 q178) rfl rfl rfl (by decide +kernel) ⟨Nat.le_of_ble_eq_true rfl, Nat.le_of_ble_eq_true rfl⟩) hK hP hD hS hA [0, 1, 2] [] 2 0 rfl (by decide) rfl rfl (by decide) (by decide) rfl rfl rfl rfl hl.1 rfl (Nat.le_of_ble_eq_true rfl) dX2_coin_1 ⟨Nat.zero_le _, Nat.zero_le _⟩ (fun H locs hP hD hS => ?_)
  have hP : va_P D vwCl [(b, .inr (2, [.ref sa, .ref ka, .int (nI n), .int (nI (tw_mt t + 1))])), (sa, .inl (d0, 624, .inl (tw_mf f t))), (ka, .inl (d0, 1024, .inl g))] H := hP
  have hD : va_D A [(b, .inr (2, [.ref sa, .ref ka, .int (nI n), .int (nI (tw_mt t + 1))])), (sa, .inl (d0, 624, .inl (tw_mf f t))), (ka, .inl (d0, 1024, .inl g))] := hD
  refine tw_top (z := tw_tp (tw_mv f t)) (rfl) ?_
  refine lv_bipush (v := 31) hx hb dX2_coin_4 (by decide) ?_
  refine lv_iushr (v := tw_us (tw_tp (tw_mv f t)) 31) hx hb dX2_coin_6 rfl ?_
  refine lv_if_eq (tgt := 14) hx hb dX2_coin_7 (by decide) (fun hc => ?_) (fun hc => ?_)
  · refine lv_iconst (v := 0) hx hb dX2_coin_14 (by decide) ?_
    refine tw_top (z := tw_mc (tw_tp (tw_mv f t))) (by rw [show tw_mc (tw_tp (tw_mv f t)) = 0 from if_pos hc]) ?_
    exact ret _ _ _ _ dX2_coin_15 hP hD hS
  · refine lv_iconst (v := 1) hx hb dX2_coin_10 (by decide) ?_
    refine lv_goto (tgt := 15) hx hb dX2_coin_11 (by decide) ?_
    refine tw_top (z := tw_mc (tw_tp (tw_mv f t))) (by rw [show tw_mc (tw_tp (tw_mv f t)) = 1 from if_neg hc]) ?_
    exact ret _ _ _ _ dX2_coin_15 hP hD hS
set_option maxHeartbeats 4000000 in
set_option maxRecDepth 100000 in
/-- TwistedBitsModel.skip(v) -/
theorem m_rskip (l : Launch) (D : va_G) (d0 : ClassId) (b sa ka : Nat) (f g : Nat → Int32) (v : Int32) (n t : Nat) (ht : t ≤ 624) (P : (Nat → Int32) × Nat × Int32) (hPs : P = tw_ms (tw_lo v) f t 0) : tw_Mi l yX2_skip (ws_ yX2_skip cX2_skip 4 (some .int)) ({ frames := 1, cells := 0, slots := 0, locals := 30 } : Room) D d0 [.ref b, .int v] [(b, .inr (2, [.ref sa, .ref ka, .int (nI n), .int (nI t)])), (sa, .inl (d0, 624, .inl f)), (ka, .inl (d0, 1024, .inl g))] [(b, .inr (2, [.ref sa, .ref ka, .int (nI n), .int (nI P.2.1)])), (sa, .inl (d0, 624, .inl P.1)), (ka, .inl (d0, 1024, .inl g))] P.2.2 := by
  refine tw_Mi_of (lv := [(0, .ref b), (1, .int v)]) .int (vp_nar_int _) (by decide) (Nat.le_of_ble_eq_true rfl) rfl ?_
  intro p e s m below meth c A Q ls H locs hx hb hml hown hts hA hK hP hD hS hl ret
  have hown : s.vm.findClass RX2 = some m.cls := hown
  have hlo := tw_lo_lt v
  have lp : ∀ (q : Nat) (F : Nat → Int32) (i : Nat) (u : Int32) (cc2 : Nat) (H : Heap) (locs : List Loc) (ls : Array Slot), i ≤ 624 → cc2 + q = tw_lo v → tw_ms q F i u = P → va_P D vwCl [(b, .inr (2, [.ref sa, .ref ka, .int (nI n), .int (nI i)])), (sa, .inl (d0, 624, .inl F)), (ka, .inl (d0, 1024, .inl g))] H → va_D A [(b, .inr (2, [.ref sa, .ref ka, .int (nI n), .int (nI i)])), (sa, .inl (d0, 624, .inl F)), (ka, .inl (d0, 1024, .inl g))] → va_S A s.heap H locs → lv_has ls 4 [(0, .ref b), (1, .int v), (2, .int u), (3, .int (nI cc2))] → W p l e ({ frames := 1, cells := 0, slots := 0, locals := 30 } : Room) s m ([.ref b, .int v] : List Value).toArray below meth c H locs 0 0 Q (F0 m 4 ls []) := by
    intro q
    induction q with
    | zero =>
      intro F i u cc2 H locs ls hi hq hE hP hD hS hl
      refine lv_iload_n hx hb dX2_skip_4 rfl (lv_at hl 3 rfl) ?_
      refine lv_iload_n hx hb dX2_skip_5 rfl (lv_at hl 1 rfl) ?_
      refine lv_sipush (v := 1023) hx hb dX2_skip_6 (by decide) ?_
      refine lv_iand hx hb dX2_skip_9 ?_
      refine tw_top (z := nI (tw_lo v)) (tw_lo_and v) ?_
      refine tw_icmp_ge (tgt := 24) hx hb dX2_skip_10 (by decide) (by omega) (by omega) (fun hc => ?_) (fun hc => absurd hc (by omega))
      have hE : (F, i, u) = P := hE
      subst hE
      refine lv_iload_n hx hb dX2_skip_24 rfl (lv_at hl 2 rfl) ?_
      exact ret _ _ _ _ dX2_skip_25 hP hD hS
    | succ q ih =>
      intro F i u cc2 H locs ls hi hq hE hP hD hS hl
      refine lv_iload_n hx hb dX2_skip_4 rfl (lv_at hl 3 rfl) ?_
      refine lv_iload_n hx hb dX2_skip_5 rfl (lv_at hl 1 rfl) ?_
      refine lv_sipush (v := 1023) hx hb dX2_skip_6 (by decide) ?_
      refine lv_iand hx hb dX2_skip_9 ?_
      refine tw_top (z := nI (tw_lo v)) (tw_lo_and v) ?_
      refine tw_icmp_ge (tgt := 24) hx hb dX2_skip_10 (by decide) (by omega) (by omega) (fun hc => absurd hc (by omega)) (fun hc => ?_)
      refine lv_aload_n hx hb dX2_skip_13 rfl (lv_at hl 0 rfl) ?_
      refine tw_ci (As := []) (rest := []) (wr := []) (C := RX2) ⟨hx, hb, hml, hown, hts⟩ (m_rnext l D d0 b sa ka F g (tw_mf F i) n i (tw_mt i) hi rfl rfl) (cwV 0 hts (lw_V q175 q177 qs5 q9 q178) rfl rfl rfl (by decide +kernel) ⟨Nat.le_of_ble_eq_true rfl, Nat.le_of_ble_eq_true rfl⟩) hK hP hD hS hA [0, 1, 2] [] 2 0 rfl (by decide) rfl rfl (by decide) (by decide) rfl rfl rfl rfl hl.1 rfl (Nat.le_of_ble_eq_true rfl) dX2_skip_14 ⟨Nat.zero_le _, Nat.zero_le _⟩ (fun H locs hP hD hS => ?_)
      have hP : va_P D vwCl [(b, .inr (2, [.ref sa, .ref ka, .int (nI n), .int (nI (tw_mt i + 1))])), (sa, .inl (d0, 624, .inl (tw_mf F i))), (ka, .inl (d0, 1024, .inl g))] H := hP
      have hD : va_D A [(b, .inr (2, [.ref sa, .ref ka, .int (nI n), .int (nI (tw_mt i + 1))])), (sa, .inl (d0, 624, .inl (tw_mf F i))), (ka, .inl (d0, 1024, .inl g))] := hD
      refine tw_top (z := tw_tp (tw_mv F i)) (rfl) ?_
      refine lv_istore_n (lv' := [(2, .int (tw_tp (tw_mv F i))), (0, .ref b), (1, .int v), (3, .int (nI cc2))]) hx hb dX2_skip_17 rfl hl (by decide) rfl (fun ls hl => ?_)
      refine lv_iinc (v := nI (cc2 + 1)) (lv' := [(3, .int (nI (cc2 + 1))), (2, .int (tw_tp (tw_mv F i))), (0, .ref b), (1, .int v)]) hx hb dX2_skip_18 hl (k := 3) rfl (tw_inc _) (by decide) rfl (fun ls hl => ?_)
      refine lv_goto (tgt := 4) hx hb dX2_skip_21 (by decide) ?_
      exact ih (tw_mf F i) (tw_mt i + 1) (tw_tp (tw_mv F i)) (cc2 + 1) _ _ _ (tw_mt_le hi) (by omega) hE hP hD hS (lv_sub hl [2, 3, 1, 0] rfl)
  refine lv_iconst (v := 0) hx hb dX2_skip_0 (by decide) ?_
  refine lv_istore_n (lv' := [(2, .int 0), (0, .ref b), (1, .int v)]) hx hb dX2_skip_1 rfl hl (by decide) rfl (fun ls hl => ?_)
  refine lv_iconst (v := nI 0) hx hb dX2_skip_2 (by decide) ?_
  refine lv_istore_n (lv' := [(3, .int (nI 0)), (2, .int 0), (0, .ref b), (1, .int v)]) hx hb dX2_skip_3 rfl hl (by decide) rfl (fun ls hl => ?_)
  exact lp (tw_lo v) f t 0 0 _ _ _ ht (by omega) hPs.symm hP hD hS (lv_sub hl [2, 3, 1, 0] rfl)
end
section
/-! CONSTRUCTORS (by gen_init.py) -/
abbrev tw_BR_S : Type := Nat × ClassId
/-- the cells behind the constructor -/
abbrev tw_BR (D : va_G) (A : Nat → Prop) (h : Nat) (u : tw_BR_S) (t : State) : Prop := match u with
  | (r, d0) => va_P D vwCl [(h, .inr (1, [.ref r, .int (nI 0), .int (nI 0), .int (nI 0)])), (r, .inl (d0, 624, .inl (fun _ => 0)))] t.heap ∧ va_K D vwCl [(d0, .int)] t ∧ va_D A [(h, .inr (1, [.ref r, .int (nI 0), .int (nI 0), .int (nI 0)])), (r, .inl (d0, 624, .inl (fun _ => 0)))]
set_option maxHeartbeats 4000000 in
set_option maxRecDepth 100000 in
/-- Ring() -/
theorem m_ringinit (l : Launch) (D : va_G) (h : Nat) (sz : Nat) : Met l yX1_init (ws_ yX1_init cX1_init 1 none) ({ frames := 1, cells := 1, slots := 624, locals := 30 } : Room) (va_Pc [.ref h] (fun U => U.heap.size = sz ∧ va_P D vwCl [(h, .inr (1, [.null, .int (nI 0), .int (nI 0), .int (nI 0)]))] U.heap ∧ va_K D vwCl [] U ∧ va_D (fun _ => True) [(h, .inr (1, [.null, .int (nI 0), .int (nI 0), .int (nI 0)]))])) (va_Qv (fun _ : tw_BR_S => True) (tw_BR D (va_A [(h, .inr (1, [.null, .int (nI 0), .int (nI 0), .int (nI 0)]))] sz) h) (va_A [(h, .inr (1, [.null, .int (nI 0), .int (nI 0), .int (nI 0)]))] sz)) 1 624 (va_A [(h, .inr (1, [.null, .int (nI 0), .int (nI 0), .int (nI 0)]))] sz) := by
  refine Met.ofW (cc := cX1_init) (maxL := 1) (ret := none) (by decide) rfl ?_
  intro p e s m args below meth c s₁ B hml hv
  obtain ⟨rfl, hsz, hP, hK, hD0⟩ := hv
  have hx := B.exec
  have hb := B.bytes
  have hr := B.returns
  have hts := atoms_spec (ws := ws_ yX1_init cX1_init 1 none) B.pre
  have hts : ∀ w ∈ lw_all, w.before _ s = true := fun w h => hts w (List.mem_cons_of_mem _ h)
  have hown : s.vm.findClass RX1 = some m.cls := findClass_of_methodNamed B.named
  have hlocks := B.notSynchronized
  have hin : meth.name = "<init>" := (name_of_methodNamed B.named B.method).1
  subst hsz
  have hD := hD0.self (sz := s.heap.size)
  generalize hAe : va_A [(h, .inr (1, [.null, .int (nI 0), .int (nI 0), .int (nI 0)]))] s.heap.size = A at hD ⊢
  have hA : ∀ q : Nat, s.heap.size ≤ q → A q := fun q h => by rw [← hAe]; exact Or.inr h
  have hS : va_S A s.heap s.heap [] := va_S.rf
  have hl := lv_entry ([.ref h]) (n := 1) (Nat.le_of_ble_eq_true rfl)
  rw [lg_entry_eq]
  generalize (lg_sl ([.ref h]) ++ List.replicate (1 - (lg_sl ([.ref h])).length) Slot.unset).toArray = ls at hl ⊢
  have hl : lv_has ls 1 [(0, .ref h)] := hl
  refine lv_aload_n hx hb dX1_init_0 rfl (lv_at hl 0 rfl) ?_
  refine W.objInit hx hb hown (hts _ q24) (hts _ q17) (hts _ q18) rfl (by rw [hml]; exact hl.1) rfl dX1_init_1 (Nat.le_of_ble_eq_true rfl) (Nat.le_of_ble_eq_true rfl) ?_
  refine W.eq (g2 := F0 m 4 ls []) rfl ?_
  refine lv_aload_n hx hb dX1_init_4 rfl (lv_at hl 0 rfl) ?_
  refine lv_sipush (v := nI 624) hx hb dX1_init_5 (by decide) ?_
  refine va_newa (atype := .int) (ty := .int) (N' := 624) (a0 := (624, .inl (fun _ => 0))) hx hb (hts _ q38) rfl hK hP hD hS hA (fun _ => rfl) (by decide) (by decide) (by decide) (Nat.le_of_ble_eq_true rfl) (Nat.le_of_ble_eq_true rfl) dX1_init_8 (fun r d0 H hK hP hD hS => ?_)
  have hK : va_K D vwCl [(d0, .int)] s := hK
  have hP : va_P D vwCl [(h, .inr (1, [.null, .int (nI 0), .int (nI 0), .int (nI 0)])), (r, .inl (d0, 624, .inl (fun _ => 0)))] H := hP
  have hD : va_D A [(h, .inr (1, [.null, .int (nI 0), .int (nI 0), .int (nI 0)])), (r, .inl (d0, 624, .inl (fun _ => 0)))] := hD
  refine va_putF (D := D) (ci := 1) (v := .ref r) (ty := .array .int) (C := RX1) (T := TX1) (N := 4) hx hb hts in_X1 tyX1 tyX1_ok nmX1 hown hK hP hD hS 0 rfl rfl 0 (by decide) (hts _ q25) (fun _ h9 => h9) rfl hin rfl (by decide +kernel) rfl rfl (Nat.le_of_ble_eq_true rfl) dX1_init_10 (fun H locs hP hD hS => ?_)
  have hP : va_P D vwCl [(h, .inr (1, [.ref r, .int (nI 0), .int (nI 0), .int (nI 0)])), (r, .inl (d0, 624, .inl (fun _ => 0)))] H := hP
  have hD : va_D A [(h, .inr (1, [.ref r, .int (nI 0), .int (nI 0), .int (nI 0)])), (r, .inl (d0, 624, .inl (fun _ => 0)))] := hD
  exact W.vret hx hb hr (fun t ht hW => ⟨⟨(r, d0), rfl, trivial, by rw [ht]; exact hP, va_K.moved hW.alike hK, hD⟩, hS.F ht⟩) hS.2.2 dX1_init_13
abbrev tw_BX_S : Type := Nat × Nat × Nat × ClassId
/-- the cells behind the constructor -/
abbrev tw_BX (D : va_G) (A : Nat → Prop) (b : Nat) (f1 : Nat → Int32) (u : tw_BX_S) (t : State) : Prop := match u with
  | (h, r, kq, d0) => va_P D vwCl [(b, .inr (0, [.ref h, .ref kq, .int (nI 1)])), (kq, .inl (d0, 1024, .inl (fun _ => 0))), (h, .inr (1, [.ref r, .int (nI 0), .int (nI 1), .int (nI 397)])), (r, .inl (d0, 624, .inl f1))] t.heap ∧ va_K D vwCl [(d0, .int)] t ∧ va_D A [(b, .inr (0, [.ref h, .ref kq, .int (nI 1)])), (kq, .inl (d0, 1024, .inl (fun _ => 0))), (h, .inr (1, [.ref r, .int (nI 0), .int (nI 1), .int (nI 397)])), (r, .inl (d0, 624, .inl f1))]
set_option maxHeartbeats 4000000 in
set_option maxRecDepth 100000 in
/-- TwistedBits() -/
theorem m_xinit (l : Launch) (D : va_G) (b : Nat) (f1 : Nat → Int32) (hf1 : f1 = tw_seed (fun _ => 0) 5489) (sz : Nat) : Met l yX0_init (ws_ yX0_init cX0_init 1 none) ({ frames := 2, cells := 3, slots := 1652, locals := 60 } : Room) (va_Pc [.ref b] (fun U => U.heap.size = sz ∧ va_P D vwCl [(b, .inr (0, [.null, .null, .int (nI 0)]))] U.heap ∧ va_K D vwCl [] U ∧ va_D (fun _ => True) [(b, .inr (0, [.null, .null, .int (nI 0)]))] ∧ va_Nw (Cond.methodLinkNest RX0 9 yX1_init "TwistedBits") U)) (va_Qv (fun _ : tw_BX_S => True) (tw_BX D (va_A [(b, .inr (0, [.null, .null, .int (nI 0)]))] sz) b f1) (va_A [(b, .inr (0, [.null, .null, .int (nI 0)]))] sz)) 3 1652 (va_A [(b, .inr (0, [.null, .null, .int (nI 0)]))] sz) := by
  refine Met.ofW (cc := cX0_init) (maxL := 1) (ret := none) (by decide) rfl ?_
  intro p e s m args below meth c s₁ B hml hv
  obtain ⟨rfl, hsz, hP, hK, hD0, hNw⟩ := hv
  have hx := B.exec
  have hb := B.bytes
  have hr := B.returns
  have hts := atoms_spec (ws := ws_ yX0_init cX0_init 1 none) B.pre
  have hts : ∀ w ∈ lw_all, w.before _ s = true := fun w h => hts w (List.mem_cons_of_mem _ h)
  have hown : s.vm.findClass RX0 = some m.cls := findClass_of_methodNamed B.named
  have hlocks := B.notSynchronized
  have hin : meth.name = "<init>" := (name_of_methodNamed B.named B.method).1
  subst hsz
  have hD := hD0.self (sz := s.heap.size)
  generalize hAe : va_A [(b, .inr (0, [.null, .null, .int (nI 0)]))] s.heap.size = A at hD ⊢
  have hA : ∀ q : Nat, s.heap.size ≤ q → A q := fun q h => by rw [← hAe]; exact Or.inr h
  have hS : va_S A s.heap s.heap [] := va_S.rf
  have hl := lv_entry ([.ref b]) (n := 1) (Nat.le_of_ble_eq_true rfl)
  rw [lg_entry_eq]
  generalize (lg_sl ([.ref b]) ++ List.replicate (1 - (lg_sl ([.ref b])).length) Slot.unset).toArray = ls at hl ⊢
  have hl : lv_has ls 1 [(0, .ref b)] := hl
  refine lv_aload_n hx hb dX0_init_0 rfl (lv_at hl 0 rfl) ?_
  refine W.objInit hx hb hown (hts _ q16) (hts _ q17) (hts _ q18) rfl (by rw [hml]; exact hl.1) rfl dX0_init_1 (Nat.le_of_ble_eq_true rfl) (Nat.le_of_ble_eq_true rfl) ?_
  refine W.eq (g2 := F0 m 4 ls []) rfl ?_
  refine lv_aload_n hx hb dX0_init_4 rfl (lv_at hl 0 rfl) ?_
  refine va_new (ci := 1) (fs := [.null, .int (nI 0), .int (nI 0), .int (nI 0)]) (C := RX1) (T := TX1) (N := 4) hx hb hts in_X1 tyX1 tyX1_ok hown (hts _ q19) (hts _ q20) (hts _ q8) hK hP hD hS hA rfl (fun j hj => by rcases (show j = 0 ∨ j = 1 ∨ j = 2 ∨ j = 3 by omega) with rfl | rfl | rfl | rfl <;> rfl) (Nat.le_of_ble_eq_true rfl) (Nat.le_of_ble_eq_true rfl) dX0_init_5 (fun h H hP hD hS => ?_)
  have hP : va_P D vwCl [(b, .inr (0, [.null, .null, .int (nI 0)])), (h, .inr (1, [.null, .int (nI 0), .int (nI 0), .int (nI 0)]))] H := hP
  have hD : va_D A [(b, .inr (0, [.null, .null, .int (nI 0)])), (h, .inr (1, [.null, .int (nI 0), .int (nI 0), .int (nI 0)]))] := hD
  refine lv_dup hx hb dX0_init_8 rfl ?_
  have hPc := hP.sub (ws' := [(h, .inr (1, [.null, .int (nI 0), .int (nI 0), .int (nI 0)]))]) [1] rfl
  have hDc := hD.sub (ws' := [(h, .inr (1, [.null, .int (nI 0), .int (nI 0), .int (nI 0)]))]) [1] (by decide) rfl
  have hFc := va_free (wc := [(h, .inr (1, [.null, .int (nI 0), .int (nI 0), .int (nI 0)]))]) hD hS hA [1] rfl
  refine va_callv (va_runIN (As := []) (rest := [.ref h, .ref b]) ⟨hx, hb, hml, hown, hts⟩ (m_ringinit l D h H.size) ⟨va_cnB 0 hts (lw_meth q23) rfl rfl rfl hNw (hts _ q8) (by decide +kernel) ⟨Nat.le_of_ble_eq_true rfl, Nat.le_of_ble_eq_true rfl⟩, rfl, hts _ q22⟩ ⟨fun a U g mk q => by obtain ⟨q0, q1, qP, qK, qD⟩ := q; exact ⟨q0, q1, qP, va_K.moved (u := U) (U := U.calling g mk a) (Vm.Alike.refl U.vm) qK, qD⟩, fun U hU hW => ⟨rfl, by rw [hU], by rw [hU]; exact hPc, va_K.moved hW.alike hK, hDc.weaken (fun _ _ _ _ => trivial)⟩⟩ rfl rfl hl.1 rfl (lv_room (Nat.le_of_ble_eq_true rfl)) dX0_init_9 ⟨Nat.le_of_ble_eq_true rfl, Nat.le_of_ble_eq_true rfl⟩) hS (fun q _ z => hFc q z) hFc (fun u t H1 locs ht hvm hw1 hB hz1 hk1 hS => ?_)
  obtain ⟨r, d0⟩ := u
  obtain ⟨hP1, hK1, hD1⟩ := hB
  rw [ht] at hP1
  have hK := va_K.moved hvm.symm hK1
  obtain ⟨hP, hD⟩ := va_join (wr := [(b, .inr (0, [.null, .null, .int (nI 0)]))]) (w1 := [(h, .inr (1, [.ref r, .int (nI 0), .int (nI 0), .int (nI 0)])), (r, .inl (d0, 624, .inl (fun _ => 0)))]) hP hD [1] [0] rfl rfl (by decide) (by decide) hk1 hFc hP1 hD1
  generalize H1 = H at hP hS ⊢
  have hP : va_P D vwCl [(b, .inr (0, [.null, .null, .int (nI 0)])), (h, .inr (1, [.ref r, .int (nI 0), .int (nI 0), .int (nI 0)])), (r, .inl (d0, 624, .inl (fun _ => 0)))] H := hP
  have hD : va_D A [(b, .inr (0, [.null, .null, .int (nI 0)])), (h, .inr (1, [.ref r, .int (nI 0), .int (nI 0), .int (nI 0)])), (r, .inl (d0, 624, .inl (fun _ => 0)))] := hD
  refine va_putF (D := D) (ci := 0) (v := .ref h) (ty := .object "TwistedBits$Ring") (C := RX0) (T := TX0) (N := 3) hx hb hts in_X0 tyX0 tyX0_ok nmX0 hown hK hP hD hS 0 rfl rfl 0 (by decide) (hts _ q52) (fun _ h9 => h9) rfl hin rfl (by decide +kernel) rfl rfl (Nat.le_of_ble_eq_true rfl) dX0_init_12 (fun H locs hP hD hS => ?_)
  have hP : va_P D vwCl [(b, .inr (0, [.ref h, .null, .int (nI 0)])), (h, .inr (1, [.ref r, .int (nI 0), .int (nI 0), .int (nI 0)])), (r, .inl (d0, 624, .inl (fun _ => 0)))] H := hP
  have hD : va_D A [(b, .inr (0, [.ref h, .null, .int (nI 0)])), (h, .inr (1, [.ref r, .int (nI 0), .int (nI 0), .int (nI 0)])), (r, .inl (d0, 624, .inl (fun _ => 0)))] := hD
  refine lv_aload_n hx hb dX0_init_15 rfl (lv_at hl 0 rfl) ?_
  refine lv_sipush (v := nI 1024) hx hb dX0_init_16 (by decide) ?_
  refine va_newa (atype := .int) (ty := .int) (N' := 1024) (a0 := (1024, .inl (fun _ => 0))) hx hb (hts _ q38) rfl hK hP hD hS hA (fun _ => rfl) (by decide) (by decide) (by decide) (Nat.le_of_ble_eq_true rfl) (Nat.le_of_ble_eq_true rfl) dX0_init_19 (fun kq d1 H hK hP hD hS => ?_)
  have ed : d1 = d0 := tw_one hK hK 1 0 rfl rfl
  rw [ed] at hP hD
  have hK := hK.sub (tys' := [(d0, .int)]) [0] rfl
  have hP : va_P D vwCl [(b, .inr (0, [.ref h, .null, .int (nI 0)])), (h, .inr (1, [.ref r, .int (nI 0), .int (nI 0), .int (nI 0)])), (r, .inl (d0, 624, .inl (fun _ => 0))), (kq, .inl (d0, 1024, .inl (fun _ => 0)))] H := hP
  have hD : va_D A [(b, .inr (0, [.ref h, .null, .int (nI 0)])), (h, .inr (1, [.ref r, .int (nI 0), .int (nI 0), .int (nI 0)])), (r, .inl (d0, 624, .inl (fun _ => 0))), (kq, .inl (d0, 1024, .inl (fun _ => 0)))] := hD
  refine va_putF (D := D) (ci := 0) (v := .ref kq) (ty := .array .int) (C := RX0) (T := TX0) (N := 3) hx hb hts in_X0 tyX0 tyX0_ok nmX0 hown hK hP hD hS 0 rfl rfl 1 (by decide) (hts _ q53) (fun _ h9 => h9) rfl hin rfl (by decide +kernel) rfl rfl (Nat.le_of_ble_eq_true rfl) dX0_init_21 (fun H locs hP hD hS => ?_)
  have hP : va_P D vwCl [(b, .inr (0, [.ref h, .ref kq, .int (nI 0)])), (h, .inr (1, [.ref r, .int (nI 0), .int (nI 0), .int (nI 0)])), (r, .inl (d0, 624, .inl (fun _ => 0))), (kq, .inl (d0, 1024, .inl (fun _ => 0)))] H := hP
  have hD : va_D A [(b, .inr (0, [.ref h, .ref kq, .int (nI 0)])), (h, .inr (1, [.ref r, .int (nI 0), .int (nI 0), .int (nI 0)])), (r, .inl (d0, 624, .inl (fun _ => 0))), (kq, .inl (d0, 1024, .inl (fun _ => 0)))] := hD
  have hP : va_P D vwCl [(b, .inr (0, [.ref h, .ref kq, .int (nI 0)])), (kq, .inl (d0, 1024, .inl (fun _ => 0))), (h, .inr (1, [.ref r, .int (nI 0), .int (nI 0), .int (nI 0)])), (r, .inl (d0, 624, .inl (fun _ => 0)))] H := hP.sub [0, 3, 1, 2] rfl
  have hD : va_D A [(b, .inr (0, [.ref h, .ref kq, .int (nI 0)])), (kq, .inl (d0, 1024, .inl (fun _ => 0))), (h, .inr (1, [.ref r, .int (nI 0), .int (nI 0), .int (nI 0)])), (r, .inl (d0, 624, .inl (fun _ => 0)))] := hD.sub [0, 3, 1, 2] (by decide) rfl
  refine lv_aload_n hx hb dX0_init_24 rfl (lv_at hl 0 rfl) ?_
  refine lv_iconst (v := nI 1) hx hb dX0_init_25 (by decide) ?_
  refine va_put (D := D) (ci := 0) (v := .int (nI 1)) (ty := .int) (C := RX0) (T := TX0) (N := 3) hx hb hts in_X0 tyX0 tyX0_ok nmX0 hown hK hP hD hS 0 rfl rfl 2 (by decide) (hts _ q54) (fun _ h9 => h9) rfl (by decide +kernel) rfl rfl (Nat.le_of_ble_eq_true rfl) dX0_init_26 (fun H locs hP hD hS => ?_)
  have hP : va_P D vwCl [(b, .inr (0, [.ref h, .ref kq, .int (nI 1)])), (kq, .inl (d0, 1024, .inl (fun _ => 0))), (h, .inr (1, [.ref r, .int (nI 0), .int (nI 0), .int (nI 0)])), (r, .inl (d0, 624, .inl (fun _ => 0)))] H := hP
  have hD : va_D A [(b, .inr (0, [.ref h, .ref kq, .int (nI 1)])), (kq, .inl (d0, 1024, .inl (fun _ => 0))), (h, .inr (1, [.ref r, .int (nI 0), .int (nI 0), .int (nI 0)])), (r, .inl (d0, 624, .inl (fun _ => 0)))] := hD
  refine lv_aload_n hx hb dX0_init_29 rfl (lv_at hl 0 rfl) ?_
  refine va_get (D := D) (ci := 0) (v := .ref h) (C := RX0) (T := TX0) (N := 3) hx hb hts in_X0 hown hK hP 0 rfl rfl 0 (by decide) (hts _ q52) (fun _ h9 => h9) rfl dX0_init_30 ?_
  refine lv_sipush (v := 5489) hx hb dX0_init_33 (by decide) ?_
  refine tw_cv (As := [.int 5489]) (rest := []) (wr := [(b, .inr (0, [.ref h, .ref kq, .int (nI 1)])), (kq, .inl (d0, 1024, .inl (fun _ => 0)))]) (C := RX1) ⟨hx, hb, hml, hown, hts⟩ (m_seed l D d0 h r (fun _ => 0) f1 (nI 0) (nI 0) (nI 0) 5489 hf1) (cwV 1 hts (lw_V q39 q40 q41 q8 q42) rfl rfl rfl (by decide +kernel) ⟨Nat.le_of_ble_eq_true rfl, Nat.le_of_ble_eq_true rfl⟩) hK hP hD hS hA [2, 3] [0, 1] 1 0 rfl (by decide) rfl rfl (by decide) (by decide) rfl rfl rfl rfl hl.1 rfl (Nat.le_of_ble_eq_true rfl) dX0_init_36 ⟨Nat.le_of_ble_eq_true rfl, Nat.le_of_ble_eq_true rfl⟩ (fun H locs hP hD hS => ?_)
  have hP : va_P D vwCl [(b, .inr (0, [.ref h, .ref kq, .int (nI 1)])), (kq, .inl (d0, 1024, .inl (fun _ => 0))), (h, .inr (1, [.ref r, .int (nI 0), .int (nI 1), .int (nI 397)])), (r, .inl (d0, 624, .inl f1))] H := hP
  have hD : va_D A [(b, .inr (0, [.ref h, .ref kq, .int (nI 1)])), (kq, .inl (d0, 1024, .inl (fun _ => 0))), (h, .inr (1, [.ref r, .int (nI 0), .int (nI 1), .int (nI 397)])), (r, .inl (d0, 624, .inl f1))] := hD
  exact W.vret hx hb hr (fun t ht hW => ⟨⟨(h, r, kq, d0), rfl, trivial, by rw [ht]; exact hP, va_K.moved hW.alike hK, hD⟩, hS.F ht⟩) hS.2.2 dX0_init_39
abbrev tw_BM_S : Type := Nat × Nat × ClassId
/-- the cells behind the constructor -/
abbrev tw_BM (D : va_G) (A : Nat → Prop) (b : Nat) (f1 : Nat → Int32) (u : tw_BM_S) (t : State) : Prop := match u with
  | (sa, ka, d0) => va_P D vwCl [(b, .inr (2, [.ref sa, .ref ka, .int (nI 1), .int (nI 624)])), (sa, .inl (d0, 624, .inl f1)), (ka, .inl (d0, 1024, .inl (fun _ => 0)))] t.heap ∧ va_K D vwCl [(d0, .int)] t ∧ va_D A [(b, .inr (2, [.ref sa, .ref ka, .int (nI 1), .int (nI 624)])), (sa, .inl (d0, 624, .inl f1)), (ka, .inl (d0, 1024, .inl (fun _ => 0)))]
set_option maxHeartbeats 4000000 in
set_option maxRecDepth 100000 in
/-- TwistedBitsModel() -/
theorem m_rinit (l : Launch) (D : va_G) (b : Nat) (f1 : Nat → Int32) (hf1 : f1 = tw_seed (fun _ => 0) 5489) (sz : Nat) : Met l yX2_init (ws_ yX2_init cX2_init 1 none) ({ frames := 1, cells := 2, slots := 1648, locals := 30 } : Room) (va_Pc [.ref b] (fun U => U.heap.size = sz ∧ va_P D vwCl [(b, .inr (2, [.null, .null, .int (nI 0), .int (nI 0)]))] U.heap ∧ va_K D vwCl [] U ∧ va_D (fun _ => True) [(b, .inr (2, [.null, .null, .int (nI 0), .int (nI 0)]))])) (va_Qv (fun _ : tw_BM_S => True) (tw_BM D (va_A [(b, .inr (2, [.null, .null, .int (nI 0), .int (nI 0)]))] sz) b f1) (va_A [(b, .inr (2, [.null, .null, .int (nI 0), .int (nI 0)]))] sz)) 2 1648 (va_A [(b, .inr (2, [.null, .null, .int (nI 0), .int (nI 0)]))] sz) := by
  refine Met.ofW (cc := cX2_init) (maxL := 1) (ret := none) (by decide) rfl ?_
  intro p e s m args below meth c s₁ B hml hv
  obtain ⟨rfl, hsz, hP, hK, hD0⟩ := hv
  have hx := B.exec
  have hb := B.bytes
  have hr := B.returns
  have hts := atoms_spec (ws := ws_ yX2_init cX2_init 1 none) B.pre
  have hts : ∀ w ∈ lw_all, w.before _ s = true := fun w h => hts w (List.mem_cons_of_mem _ h)
  have hown : s.vm.findClass RX2 = some m.cls := findClass_of_methodNamed B.named
  have hlocks := B.notSynchronized
  have hin : meth.name = "<init>" := (name_of_methodNamed B.named B.method).1
  subst hsz
  have hD := hD0.self (sz := s.heap.size)
  generalize hAe : va_A [(b, .inr (2, [.null, .null, .int (nI 0), .int (nI 0)]))] s.heap.size = A at hD ⊢
  have hA : ∀ q : Nat, s.heap.size ≤ q → A q := fun q h => by rw [← hAe]; exact Or.inr h
  have hS : va_S A s.heap s.heap [] := va_S.rf
  have hl := lv_entry ([.ref b]) (n := 1) (Nat.le_of_ble_eq_true rfl)
  rw [lg_entry_eq]
  generalize (lg_sl ([.ref b]) ++ List.replicate (1 - (lg_sl ([.ref b])).length) Slot.unset).toArray = ls at hl ⊢
  have hl : lv_has ls 1 [(0, .ref b)] := hl
  refine lv_aload_n hx hb dX2_init_0 rfl (lv_at hl 0 rfl) ?_
  refine W.objInit hx hb hown (hts _ q135) (hts _ q17) (hts _ q18) rfl (by rw [hml]; exact hl.1) rfl dX2_init_1 (Nat.le_of_ble_eq_true rfl) (Nat.le_of_ble_eq_true rfl) ?_
  refine W.eq (g2 := F0 m 4 ls []) rfl ?_
  refine lv_aload_n hx hb dX2_init_4 rfl (lv_at hl 0 rfl) ?_
  refine lv_sipush (v := nI 624) hx hb dX2_init_5 (by decide) ?_
  refine va_newa (atype := .int) (ty := .int) (N' := 624) (a0 := (624, .inl (fun _ => 0))) hx hb (hts _ q38) rfl hK hP hD hS hA (fun _ => rfl) (by decide) (by decide) (by decide) (Nat.le_of_ble_eq_true rfl) (Nat.le_of_ble_eq_true rfl) dX2_init_8 (fun sa d0 H hK hP hD hS => ?_)
  have hK : va_K D vwCl [(d0, .int)] s := hK
  have hP : va_P D vwCl [(b, .inr (2, [.null, .null, .int (nI 0), .int (nI 0)])), (sa, .inl (d0, 624, .inl (fun _ => 0)))] H := hP
  have hD : va_D A [(b, .inr (2, [.null, .null, .int (nI 0), .int (nI 0)])), (sa, .inl (d0, 624, .inl (fun _ => 0)))] := hD
  refine va_putF (D := D) (ci := 2) (v := .ref sa) (ty := .array .int) (C := RX2) (T := TX2) (N := 4) hx hb hts in_X2 tyX2 tyX2_ok nmX2 hown hK hP hD hS 0 rfl rfl 0 (by decide) (hts _ q141) (fun _ h9 => h9) rfl hin rfl (by decide +kernel) rfl rfl (Nat.le_of_ble_eq_true rfl) dX2_init_10 (fun H locs hP hD hS => ?_)
  have hP : va_P D vwCl [(b, .inr (2, [.ref sa, .null, .int (nI 0), .int (nI 0)])), (sa, .inl (d0, 624, .inl (fun _ => 0)))] H := hP
  have hD : va_D A [(b, .inr (2, [.ref sa, .null, .int (nI 0), .int (nI 0)])), (sa, .inl (d0, 624, .inl (fun _ => 0)))] := hD
  refine lv_aload_n hx hb dX2_init_13 rfl (lv_at hl 0 rfl) ?_
  refine lv_sipush (v := nI 1024) hx hb dX2_init_14 (by decide) ?_
  refine va_newa (atype := .int) (ty := .int) (N' := 1024) (a0 := (1024, .inl (fun _ => 0))) hx hb (hts _ q38) rfl hK hP hD hS hA (fun _ => rfl) (by decide) (by decide) (by decide) (Nat.le_of_ble_eq_true rfl) (Nat.le_of_ble_eq_true rfl) dX2_init_17 (fun ka d1 H hK hP hD hS => ?_)
  have ed : d1 = d0 := tw_one hK hK 1 0 rfl rfl
  rw [ed] at hP hD
  have hK := hK.sub (tys' := [(d0, .int)]) [0] rfl
  have hP : va_P D vwCl [(b, .inr (2, [.ref sa, .null, .int (nI 0), .int (nI 0)])), (sa, .inl (d0, 624, .inl (fun _ => 0))), (ka, .inl (d0, 1024, .inl (fun _ => 0)))] H := hP
  have hD : va_D A [(b, .inr (2, [.ref sa, .null, .int (nI 0), .int (nI 0)])), (sa, .inl (d0, 624, .inl (fun _ => 0))), (ka, .inl (d0, 1024, .inl (fun _ => 0)))] := hD
  refine va_putF (D := D) (ci := 2) (v := .ref ka) (ty := .array .int) (C := RX2) (T := TX2) (N := 4) hx hb hts in_X2 tyX2 tyX2_ok nmX2 hown hK hP hD hS 0 rfl rfl 1 (by decide) (hts _ q142) (fun _ h9 => h9) rfl hin rfl (by decide +kernel) rfl rfl (Nat.le_of_ble_eq_true rfl) dX2_init_19 (fun H locs hP hD hS => ?_)
  have hP : va_P D vwCl [(b, .inr (2, [.ref sa, .ref ka, .int (nI 0), .int (nI 0)])), (sa, .inl (d0, 624, .inl (fun _ => 0))), (ka, .inl (d0, 1024, .inl (fun _ => 0)))] H := hP
  have hD : va_D A [(b, .inr (2, [.ref sa, .ref ka, .int (nI 0), .int (nI 0)])), (sa, .inl (d0, 624, .inl (fun _ => 0))), (ka, .inl (d0, 1024, .inl (fun _ => 0)))] := hD
  refine lv_aload_n hx hb dX2_init_22 rfl (lv_at hl 0 rfl) ?_
  refine lv_iconst (v := nI 1) hx hb dX2_init_23 (by decide) ?_
  refine va_put (D := D) (ci := 2) (v := .int (nI 1)) (ty := .int) (C := RX2) (T := TX2) (N := 4) hx hb hts in_X2 tyX2 tyX2_ok nmX2 hown hK hP hD hS 0 rfl rfl 2 (by decide) (hts _ q143) (fun _ h9 => h9) rfl (by decide +kernel) rfl rfl (Nat.le_of_ble_eq_true rfl) dX2_init_24 (fun H locs hP hD hS => ?_)
  have hP : va_P D vwCl [(b, .inr (2, [.ref sa, .ref ka, .int (nI 1), .int (nI 0)])), (sa, .inl (d0, 624, .inl (fun _ => 0))), (ka, .inl (d0, 1024, .inl (fun _ => 0)))] H := hP
  have hD : va_D A [(b, .inr (2, [.ref sa, .ref ka, .int (nI 1), .int (nI 0)])), (sa, .inl (d0, 624, .inl (fun _ => 0))), (ka, .inl (d0, 1024, .inl (fun _ => 0)))] := hD
  refine lv_aload_n hx hb dX2_init_27 rfl (lv_at hl 0 rfl) ?_
  refine lv_sipush (v := nI 624) hx hb dX2_init_28 (by decide) ?_
  refine va_put (D := D) (ci := 2) (v := .int (nI 624)) (ty := .int) (C := RX2) (T := TX2) (N := 4) hx hb hts in_X2 tyX2 tyX2_ok nmX2 hown hK hP hD hS 0 rfl rfl 3 (by decide) (hts _ q144) (fun _ h9 => h9) rfl (by decide +kernel) rfl rfl (Nat.le_of_ble_eq_true rfl) dX2_init_31 (fun H locs hP hD hS => ?_)
  have hP : va_P D vwCl [(b, .inr (2, [.ref sa, .ref ka, .int (nI 1), .int (nI 624)])), (sa, .inl (d0, 624, .inl (fun _ => 0))), (ka, .inl (d0, 1024, .inl (fun _ => 0)))] H := hP
  have hD : va_D A [(b, .inr (2, [.ref sa, .ref ka, .int (nI 1), .int (nI 624)])), (sa, .inl (d0, 624, .inl (fun _ => 0))), (ka, .inl (d0, 1024, .inl (fun _ => 0)))] := hD
  refine lv_aload_n hx hb dX2_init_34 rfl (lv_at hl 0 rfl) ?_
  refine lv_sipush (v := 5489) hx hb dX2_init_35 (by decide) ?_
  refine tw_cv (As := [.int 5489]) (rest := []) (wr := []) (C := RX2) ⟨hx, hb, hml, hown, hts⟩ (m_rseed l D d0 b sa ka (fun _ => 0) (fun _ => 0) f1 (nI 624) 5489 1 hf1) (cwV 1 hts (lw_V q136 q137 q138 q9 q139) rfl rfl rfl (by decide +kernel) ⟨Nat.le_of_ble_eq_true rfl, Nat.le_of_ble_eq_true rfl⟩) hK hP hD hS hA [0, 1, 2] [] 2 0 rfl (by decide) rfl rfl (by decide) (by decide) rfl rfl rfl rfl hl.1 rfl (Nat.le_of_ble_eq_true rfl) dX2_init_38 ⟨Nat.le_of_ble_eq_true rfl, Nat.le_of_ble_eq_true rfl⟩ (fun H locs hP hD hS => ?_)
  have hP : va_P D vwCl [(b, .inr (2, [.ref sa, .ref ka, .int (nI 1), .int (nI 624)])), (sa, .inl (d0, 624, .inl f1)), (ka, .inl (d0, 1024, .inl (fun _ => 0)))] H := hP
  have hD : va_D A [(b, .inr (2, [.ref sa, .ref ka, .int (nI 1), .int (nI 624)])), (sa, .inl (d0, 624, .inl f1)), (ka, .inl (d0, 1024, .inl (fun _ => 0)))] := hD
  exact W.vret hx hb hr (fun t ht hW => ⟨⟨(sa, ka, d0), rfl, trivial, by rw [ht]; exact hP, va_K.moved hW.alike hK, hD⟩, hS.F ht⟩) hS.2.2 dX2_init_41
end
section
/-! THE CLAIM OUT OF ONE WALK OF THE LAW'S BODY. Your part is whole_start (and what it stands on); all else here is the same for every law, but numbers. -/
def R_law : String := "TwistedBitsLaw"
def lw_P (b : Addr) (xs : List Int32) (args : Array Value) (s : State) : Prop := args = #[.ref b] ∧ s.IntsAt b xs ∧ xs.length ≤ 384 ∧ (Jvm.Cond.and given_1 narrow_1).before args s = true
def lw_Q (_ : Array Value) (s : State) (o : Outcome) (t : State) : Prop := o = .returned (some (.int 1)) ∧ Framed s o t [] 600000 7290000
def lw_Z (below : List Frame) (a : Array Value) (s : State) : State → Prop := fun t => ∃ o, t.status = .running ∧ Ended t below o ∧ lw_Q a s o t
/-- the law's own end, with 1 on the stack, nothing written that was there before, its room as the claim has it -/
theorem lw_ret {p : Program} {l : Launch} {e : Env} {s : State} {m : MethodId} {below : List Frame} {meth : Method} {c : Code} {b : Nat} (hx : p.tables.exec = Jvm.exec) (hb : c.code = code) (hr : meth.sig.returnType = ret) (hlocks : meth.locks = false) {pc : Nat} {H : Heap} {ls : Array Slot} (hdg : decode code pc = .ok (.ireturn, 1)) : W p l e room_1 s m #[Value.ref b] below meth c H [] 600000 7290000 (lw_Z below #[Value.ref b] s) (F0 m pc ls [.int 1]) := by
  intro T hT X
  obtain ⟨fs, hret, hrun, hended, hW, hframe⟩ := X.leave (v := some (.int 1)) (hlocks := hlocks) (fun h => by rw [hr] at h; cases h)
  have hmeth' : T.vm.method? m = some meth := X.method'
  refine ⟨T.setFrames fs, ?_, .returned (some (.int 1)), hrun, hended, rfl, ⟨_, rfl⟩, hW, hframe⟩
  jvm_step X.here [X.here.top, hx, hb, hdg, hmeth', hr, ret, narrow_b1]
  (try refine ⟨rfl, ?_⟩); (try refine ⟨rfl, ?_⟩)
  first | (intro acts; rw [hret _ acts rfl rfl rfl]) | rw [hret _ _ rfl rfl rfl]
  exact Steps.refl _
/-- what holds at the law's entry: the machine, the code, the tables' words (any of lw_tbl by 'hts w (by decide +kernel)'), the script of L ints xs at the cell b, what the Statement gives of the start (any of its parts by flat_of_before) -/
def lw_At (p : Program) (s : State) (m : MethodId) (meth : Method) (c : Code) (b L : Nat) (xs : Nat → Int32) : Prop :=
  p.tables.exec = Jvm.exec ∧ c.code = code ∧ meth.sig.returnType = ret ∧ c.maxLocals = 4 ∧ s.vm.findClass R_law = some m.cls ∧ (∀ w ∈ lw_tbl, w.before #[Value.ref b] s = true) ∧ va_X b L xs s s.heap ∧ b < s.heap.size ∧ meth.locks = false ∧ (Jvm.Cond.and given_1 narrow_1).before #[Value.ref b] s = true
end
section
/-! THE LAW: its loop and its entry (by gen_law.py) -/
theorem tw_gt {L i : Nat} (hL : L ≤ 384) (hi : i ≤ 400) : nI L - nI 6 < nI i ↔ L < i + 6 := by
  rw [Int32.lt_iff_toInt_lt, pk_sub_toInt (by omega) (by omega), nI_toInt (by omega)]
  omega
theorem tw_s7 (x : Int32) : x &&& 7 = nI (x.toBitVec.toNat % 8) := pk_and x 3 (by decide)
theorem tw_cmp0 {x y : Int64} (h : x = y) : lg_cmp x y = 0 := by
  rw [h]
  simp [lg_cmp]
set_option maxHeartbeats 4000000 in
set_option maxRecDepth 100000 in
/-- THE LAW'S LOOP: at its head, with i ints read, the class and the reference agree -/
theorem law_loop {p : Program} {e : Env} {s : State} {m : MethodId} {below : List Frame} {meth : Method} {c : Code} (l : Launch) {D : va_G} {d0 : ClassId} {b L : Nat} {xs : Nat → Int32} (hL : L ≤ 384) (C0 : lw_At p s m meth c b L xs) (hK : va_K D vwCl [(d0, .int)] s) (b0 h r kq b1 sa ka : Nat) : ∀ (q i : Nat) (f g f' g' : Nat → Int32) (n a t : Nat) (H : Heap) (locs : List Loc) (ls : Array Slot), L < i + q → i ≤ 390 → 0 < n → n ≤ 1024 → (∀ j, j < n → g j = g' j) → tw_R f a f' t → va_P D vwCl [(b0, .inr (0, [.ref h, .ref kq, .int (nI n)])), (kq, .inl (d0, 1024, .inl g)), (h, .inr (1, [.ref r, .int (nI a), .int (nI (tw_nx a)), .int (nI (tw_fr a))])), (r, .inl (d0, 624, .inl f)), (b1, .inr (2, [.ref sa, .ref ka, .int (nI n), .int (nI t)])), (sa, .inl (d0, 624, .inl f')), (ka, .inl (d0, 1024, .inl g'))] H → va_D (fun q : Nat => s.heap.size ≤ q) [(b0, .inr (0, [.ref h, .ref kq, .int (nI n)])), (kq, .inl (d0, 1024, .inl g)), (h, .inr (1, [.ref r, .int (nI a), .int (nI (tw_nx a)), .int (nI (tw_fr a))])), (r, .inl (d0, 624, .inl f)), (b1, .inr (2, [.ref sa, .ref ka, .int (nI n), .int (nI t)])), (sa, .inl (d0, 624, .inl f')), (ka, .inl (d0, 1024, .inl g'))] → va_S (fun q : Nat => s.heap.size ≤ q) s.heap H locs → lv_has ls 4 [(0, .ref b), (1, .ref b0), (2, .ref b1), (3, .int (nI i))] → W p l e room_1 s m #[Value.ref b] below meth c H locs 7 3307 (lw_Z below #[Value.ref b] s) (F0 m 18 ls []) := by
  obtain ⟨hx, hb, hr, hml, hown, hts0, hX, hbl, hlocks, hgv⟩ := C0
  have hts : ∀ w ∈ lw_all, w.before #[Value.ref b] s = true := fun w h => hts0 w (lw_all_tbl h)
  have hA : ∀ q : Nat, s.heap.size ≤ q → (fun q : Nat => s.heap.size ≤ q) q := fun _ h => h
  have hbA : ¬ (fun q : Nat => s.heap.size ≤ q) b := Nat.not_le.mpr hbl
  have hown : s.vm.findClass "TwistedBitsLaw" = some m.cls := hown
  intro q
  induction q with
  | zero =>
    intro i f g f' g' n a t H locs ls hq hi hn1 hn2 hg hR hP hD hS hl
    refine lv_iload_n hx hb dL_law_18 rfl (lv_at hl 3 rfl) ?_
    refine lv_aload_n hx hb dL_law_19 rfl (lv_at hl 0 rfl) ?_
    refine va_slen hx hb hX hbl hbA hS dL_law_20 ?_
    refine tw_top (z := nI L) (rfl) ?_
    refine lv_bipush (v := nI 6) hx hb dL_law_21 (by decide) ?_
    refine lv_isub hx hb dL_law_23 ?_
    refine tw_top (z := nI L - nI 6) (rfl) ?_
    refine lv_icmp_gt (tgt := 273) hx hb dL_law_24 (by decide) (fun hc => ?_) (fun hc => absurd hc (fun z => z ((tw_gt hL (by omega)).mpr (by omega))))
    refine lv_iconst (v := 1) hx hb dL_law_273 (by decide) ?_
    refine va_forget (fun q hq => hS.2.2 q hq) ?_
    refine W.widen (k := 600000) (n := 7290000) (Nat.le_of_ble_eq_true rfl) (Nat.le_of_ble_eq_true rfl) ?_
    exact lw_ret hx hb hr hlocks dL_law_274
  | succ q ih =>
    intro i f g f' g' n a t H locs ls hq hi hn1 hn2 hg hR hP hD hS hl
    refine lv_iload_n hx hb dL_law_18 rfl (lv_at hl 3 rfl) ?_
    refine lv_aload_n hx hb dL_law_19 rfl (lv_at hl 0 rfl) ?_
    refine va_slen hx hb hX hbl hbA hS dL_law_20 ?_
    refine tw_top (z := nI L) (rfl) ?_
    refine lv_bipush (v := nI 6) hx hb dL_law_21 (by decide) ?_
    refine lv_isub hx hb dL_law_23 ?_
    refine tw_top (z := nI L - nI 6) (rfl) ?_
    refine lv_icmp_gt (tgt := 273) hx hb dL_law_24 (by decide) (fun hc => ?_) (fun hc => ?_)
    · refine lv_iconst (v := 1) hx hb dL_law_273 (by decide) ?_
      refine va_forget (fun q hq => hS.2.2 q hq) ?_
      refine W.widen (k := 600000) (n := 7290000) (Nat.le_of_ble_eq_true rfl) (Nat.le_of_ble_eq_true rfl) ?_
      exact lw_ret hx hb hr hlocks dL_law_274
    · have h6 : i + 6 ≤ L := Nat.le_of_not_lt (fun z => hc ((tw_gt hL (by omega)).mpr z))
      obtain ⟨ha, ht⟩ := tw_R_lt hR
      refine lv_aload_n hx hb dL_law_27 rfl (lv_at hl 0 rfl) ?_
      refine lv_iload_n hx hb dL_law_28 rfl (lv_at hl 3 rfl) ?_
      refine tw_sld hx hb hX hbl hbA hS (by omega) (by omega) dL_law_29 ?_
      refine lv_bipush (v := 7) hx hb dL_law_30 (by decide) ?_
      refine lv_iand hx hb dL_law_32 ?_
      obtain ⟨k, hk⟩ : ∃ k, k = (xs i).toBitVec.toNat % 8 := ⟨_, rfl⟩
      have hk8 : k < 8 := by rw [hk]; exact Nat.mod_lt _ (by decide)
      refine tw_top (z := nI k) (by rw [hk]; exact tw_s7 _) ?_
      clear hk
      rcases (show k = 0 ∨ k = 1 ∨ k = 2 ∨ k = 3 ∨ k = 4 ∨ k = 5 ∨ k = 6 ∨ k = 7 by omega) with rfl | rfl | rfl | rfl | rfl | rfl | rfl | rfl
      · refine lv_tableIn (off := 47) (tgt := 80) hx hb dL_law_33 (by decide) (by decide) (by decide) (by decide) ?_
        obtain ⟨f1, hf1⟩ : ∃ z, z = tw_seed f (xs (i + 1)) := ⟨_, rfl⟩
        have hf2 : f1 = tw_seed f' (xs (i + 1)) := hf1.trans (tw_seed_eq _ (tw_R_out hR))
        refine lv_aload_n hx hb dL_law_80 rfl (lv_at hl 1 rfl) ?_
        refine lv_aload_n hx hb dL_law_81 rfl (lv_at hl 0 rfl) ?_
        refine lv_iload_n hx hb dL_law_82 rfl (lv_at hl 3 rfl) ?_
        refine lv_iconst (v := nI 1) hx hb dL_law_83 (by decide) ?_
        refine lv_iadd hx hb dL_law_84 ?_
        refine tw_top (z := nI (i + 1)) (nI_add _ _) ?_
        refine tw_sld hx hb hX hbl hbA hS (by omega) (by omega) dL_law_85 ?_
        refine tw_cv (As := [.int (xs (i + 1))]) (rest := []) (wr := [(b1, .inr (2, [.ref sa, .ref ka, .int (nI n), .int (nI t)])), (sa, .inl (d0, 624, .inl f')), (ka, .inl (d0, 1024, .inl g'))]) (C := RX0) ⟨hx, hb, hml, hown, hts⟩ (m_xseed l D d0 b0 h r kq f g f1 (nI a) (nI (tw_nx a)) (nI (tw_fr a)) (xs (i + 1)) n hf1) (cwV 1 hts (lw_V q62 q63 q64 q7 q65) rfl rfl rfl (by decide +kernel) ⟨Nat.le_of_ble_eq_true rfl, Nat.le_of_ble_eq_true rfl⟩) hK hP hD hS hA [0, 1, 2, 3] [4, 5, 6] 0 0 rfl (by decide) rfl rfl (by decide) (by decide) rfl rfl rfl rfl hl.1 rfl (Nat.le_of_ble_eq_true rfl) dL_law_86 ⟨Nat.le_of_ble_eq_true rfl, Nat.le_of_ble_eq_true rfl⟩ (fun H locs hP hD hS => ?_)
        have hP : va_P D vwCl [(b1, .inr (2, [.ref sa, .ref ka, .int (nI n), .int (nI t)])), (sa, .inl (d0, 624, .inl f')), (ka, .inl (d0, 1024, .inl g')), (b0, .inr (0, [.ref h, .ref kq, .int (nI n)])), (kq, .inl (d0, 1024, .inl g)), (h, .inr (1, [.ref r, .int (nI 0), .int (nI 1), .int (nI 397)])), (r, .inl (d0, 624, .inl f1))] H := hP
        have hD : va_D (fun q : Nat => s.heap.size ≤ q) [(b1, .inr (2, [.ref sa, .ref ka, .int (nI n), .int (nI t)])), (sa, .inl (d0, 624, .inl f')), (ka, .inl (d0, 1024, .inl g')), (b0, .inr (0, [.ref h, .ref kq, .int (nI n)])), (kq, .inl (d0, 1024, .inl g)), (h, .inr (1, [.ref r, .int (nI 0), .int (nI 1), .int (nI 397)])), (r, .inl (d0, 624, .inl f1))] := hD
        refine lv_aload_n hx hb dL_law_89 rfl (lv_at hl 2 rfl) ?_
        refine lv_aload_n hx hb dL_law_90 rfl (lv_at hl 0 rfl) ?_
        refine lv_iload_n hx hb dL_law_91 rfl (lv_at hl 3 rfl) ?_
        refine lv_iconst (v := nI 1) hx hb dL_law_92 (by decide) ?_
        refine lv_iadd hx hb dL_law_93 ?_
        refine tw_top (z := nI (i + 1)) (nI_add _ _) ?_
        refine tw_sld hx hb hX hbl hbA hS (by omega) (by omega) dL_law_94 ?_
        refine tw_cv (As := [.int (xs (i + 1))]) (rest := []) (wr := [(b0, .inr (0, [.ref h, .ref kq, .int (nI n)])), (kq, .inl (d0, 1024, .inl g)), (h, .inr (1, [.ref r, .int (nI 0), .int (nI 1), .int (nI 397)])), (r, .inl (d0, 624, .inl f1))]) (C := RX2) ⟨hx, hb, hml, hown, hts⟩ (m_rseed l D d0 b1 sa ka f' g' f1 (nI t) (xs (i + 1)) n hf2) (cwV 1 hts (lw_V q154 q137 q138 q9 q139) rfl rfl rfl (by decide +kernel) ⟨Nat.le_of_ble_eq_true rfl, Nat.le_of_ble_eq_true rfl⟩) hK hP hD hS hA [0, 1, 2] [3, 4, 5, 6] 2 0 rfl (by decide) rfl rfl (by decide) (by decide) rfl rfl rfl rfl hl.1 rfl (Nat.le_of_ble_eq_true rfl) dL_law_95 ⟨Nat.le_of_ble_eq_true rfl, Nat.le_of_ble_eq_true rfl⟩ (fun H locs hP hD hS => ?_)
        have hP : va_P D vwCl [(b0, .inr (0, [.ref h, .ref kq, .int (nI n)])), (kq, .inl (d0, 1024, .inl g)), (h, .inr (1, [.ref r, .int (nI 0), .int (nI 1), .int (nI 397)])), (r, .inl (d0, 624, .inl f1)), (b1, .inr (2, [.ref sa, .ref ka, .int (nI n), .int (nI 624)])), (sa, .inl (d0, 624, .inl f1)), (ka, .inl (d0, 1024, .inl g'))] H := hP
        have hD : va_D (fun q : Nat => s.heap.size ≤ q) [(b0, .inr (0, [.ref h, .ref kq, .int (nI n)])), (kq, .inl (d0, 1024, .inl g)), (h, .inr (1, [.ref r, .int (nI 0), .int (nI 1), .int (nI 397)])), (r, .inl (d0, 624, .inl f1)), (b1, .inr (2, [.ref sa, .ref ka, .int (nI n), .int (nI 624)])), (sa, .inl (d0, 624, .inl f1)), (ka, .inl (d0, 1024, .inl g'))] := hD
        refine lv_goto (tgt := 267) hx hb dL_law_98 (by decide) ?_
        refine lv_iinc (v := nI (i + 6)) (lv' := [(3, .int (nI (i + 6))), (0, .ref b), (1, .ref b0), (2, .ref b1)]) hx hb dL_law_267 hl (k := 3) rfl (tw_inc6 _) (by decide) rfl (fun ls hl => ?_)
        refine lv_goto (tgt := 18) hx hb dL_law_270 (by decide) ?_
        exact ih (i + 6) f1 g f1 g' n 0 624 _ _ _ (by omega) (by omega) hn1 hn2 hg (tw_R_same f1) hP hD hS (lv_sub hl [1, 2, 3, 0] rfl)
      · refine lv_tableIn (off := 68) (tgt := 101) hx hb dL_law_33 (by decide) (by decide) (by decide) (by decide) ?_
        obtain ⟨n1, hn3⟩ : ∃ z, z = 1 + tw_lo (xs (i + 1)) := ⟨_, rfl⟩
        have hlo := tw_lo_lt (xs (i + 1))
        obtain ⟨g1, hg1⟩ : ∃ z, z = tw_z g' 1024 := ⟨_, rfl⟩
        refine lv_aload_n hx hb dL_law_101 rfl (lv_at hl 1 rfl) ?_
        refine lv_aload_n hx hb dL_law_102 rfl (lv_at hl 0 rfl) ?_
        refine lv_iload_n hx hb dL_law_103 rfl (lv_at hl 3 rfl) ?_
        refine lv_iconst (v := nI 1) hx hb dL_law_104 (by decide) ?_
        refine lv_iadd hx hb dL_law_105 ?_
        refine tw_top (z := nI (i + 1)) (nI_add _ _) ?_
        refine tw_sld hx hb hX hbl hbA hS (by omega) (by omega) dL_law_106 ?_
        refine tw_cv (As := [.int (xs (i + 1))]) (rest := []) (wr := [(b1, .inr (2, [.ref sa, .ref ka, .int (nI n), .int (nI t)])), (sa, .inl (d0, 624, .inl f')), (ka, .inl (d0, 1024, .inl g'))]) (C := RX0) ⟨hx, hb, hml, hown, hts⟩ (m_xwidth l D d0 b0 h r kq f g (nI a) (nI (tw_nx a)) (nI (tw_fr a)) (xs (i + 1)) n n1 hn3) (cwV 1 hts (lw_V q66 q67 q68 q7 q69) rfl rfl rfl (by decide +kernel) ⟨Nat.le_of_ble_eq_true rfl, Nat.le_of_ble_eq_true rfl⟩) hK hP hD hS hA [0, 1, 2, 3] [4, 5, 6] 0 0 rfl (by decide) rfl rfl (by decide) (by decide) rfl rfl rfl rfl hl.1 rfl (Nat.le_of_ble_eq_true rfl) dL_law_107 ⟨Nat.le_of_ble_eq_true rfl, Nat.le_of_ble_eq_true rfl⟩ (fun H locs hP hD hS => ?_)
        have hP : va_P D vwCl [(b1, .inr (2, [.ref sa, .ref ka, .int (nI n), .int (nI t)])), (sa, .inl (d0, 624, .inl f')), (ka, .inl (d0, 1024, .inl g')), (b0, .inr (0, [.ref h, .ref kq, .int (nI n1)])), (kq, .inl (d0, 1024, .inl (tw_z g n1))), (h, .inr (1, [.ref r, .int (nI a), .int (nI (tw_nx a)), .int (nI (tw_fr a))])), (r, .inl (d0, 624, .inl f))] H := hP
        have hD : va_D (fun q : Nat => s.heap.size ≤ q) [(b1, .inr (2, [.ref sa, .ref ka, .int (nI n), .int (nI t)])), (sa, .inl (d0, 624, .inl f')), (ka, .inl (d0, 1024, .inl g')), (b0, .inr (0, [.ref h, .ref kq, .int (nI n1)])), (kq, .inl (d0, 1024, .inl (tw_z g n1))), (h, .inr (1, [.ref r, .int (nI a), .int (nI (tw_nx a)), .int (nI (tw_fr a))])), (r, .inl (d0, 624, .inl f))] := hD
        refine lv_aload_n hx hb dL_law_110 rfl (lv_at hl 2 rfl) ?_
        refine lv_aload_n hx hb dL_law_111 rfl (lv_at hl 0 rfl) ?_
        refine lv_iload_n hx hb dL_law_112 rfl (lv_at hl 3 rfl) ?_
        refine lv_iconst (v := nI 1) hx hb dL_law_113 (by decide) ?_
        refine lv_iadd hx hb dL_law_114 ?_
        refine tw_top (z := nI (i + 1)) (nI_add _ _) ?_
        refine tw_sld hx hb hX hbl hbA hS (by omega) (by omega) dL_law_115 ?_
        refine tw_cv (As := [.int (xs (i + 1))]) (rest := []) (wr := [(b0, .inr (0, [.ref h, .ref kq, .int (nI n1)])), (kq, .inl (d0, 1024, .inl (tw_z g n1))), (h, .inr (1, [.ref r, .int (nI a), .int (nI (tw_nx a)), .int (nI (tw_fr a))])), (r, .inl (d0, 624, .inl f))]) (C := RX2) ⟨hx, hb, hml, hown, hts⟩ (m_rwidth l D d0 b1 sa ka f' g' g1 (nI t) (xs (i + 1)) n n1 hn3 hg1) (cwV 1 hts (lw_V q155 q156 q157 q9 q158) rfl rfl rfl (by decide +kernel) ⟨Nat.le_of_ble_eq_true rfl, Nat.le_of_ble_eq_true rfl⟩) hK hP hD hS hA [0, 1, 2] [3, 4, 5, 6] 2 0 rfl (by decide) rfl rfl (by decide) (by decide) rfl rfl rfl rfl hl.1 rfl (Nat.le_of_ble_eq_true rfl) dL_law_116 ⟨Nat.le_of_ble_eq_true rfl, Nat.le_of_ble_eq_true rfl⟩ (fun H locs hP hD hS => ?_)
        have hP : va_P D vwCl [(b0, .inr (0, [.ref h, .ref kq, .int (nI n1)])), (kq, .inl (d0, 1024, .inl (tw_z g n1))), (h, .inr (1, [.ref r, .int (nI a), .int (nI (tw_nx a)), .int (nI (tw_fr a))])), (r, .inl (d0, 624, .inl f)), (b1, .inr (2, [.ref sa, .ref ka, .int (nI n1), .int (nI t)])), (sa, .inl (d0, 624, .inl f')), (ka, .inl (d0, 1024, .inl g1))] H := hP
        have hD : va_D (fun q : Nat => s.heap.size ≤ q) [(b0, .inr (0, [.ref h, .ref kq, .int (nI n1)])), (kq, .inl (d0, 1024, .inl (tw_z g n1))), (h, .inr (1, [.ref r, .int (nI a), .int (nI (tw_nx a)), .int (nI (tw_fr a))])), (r, .inl (d0, 624, .inl f)), (b1, .inr (2, [.ref sa, .ref ka, .int (nI n1), .int (nI t)])), (sa, .inl (d0, 624, .inl f')), (ka, .inl (d0, 1024, .inl g1))] := hD
        refine lv_goto (tgt := 267) hx hb dL_law_119 (by decide) ?_
        refine lv_iinc (v := nI (i + 6)) (lv' := [(3, .int (nI (i + 6))), (0, .ref b), (1, .ref b0), (2, .ref b1)]) hx hb dL_law_267 hl (k := 3) rfl (tw_inc6 _) (by decide) rfl (fun ls hl => ?_)
        refine lv_goto (tgt := 18) hx hb dL_law_270 (by decide) ?_
        exact ih (i + 6) f (tw_z g n1) f' g1 n1 a t _ _ _ (by omega) (by omega) (by omega) (by omega) (fun j hj => by rw [tw_z_at g n1 j hj, hg1, tw_z_at g' 1024 j (by omega)]) hR hP hD hS (lv_sub hl [1, 2, 3, 0] rfl)
      · refine lv_tableIn (off := 89) (tgt := 122) hx hb dL_law_33 (by decide) (by decide) (by decide) (by decide) ?_
        obtain ⟨i0, hi0⟩ : ∃ z, z = tw_lo (xs (i + 1)) % n := ⟨_, rfl⟩
        have hin : i0 < n := by rw [hi0]; exact Nat.mod_lt _ hn1
        refine lv_aload_n hx hb dL_law_122 rfl (lv_at hl 1 rfl) ?_
        refine lv_aload_n hx hb dL_law_123 rfl (lv_at hl 0 rfl) ?_
        refine lv_iload_n hx hb dL_law_124 rfl (lv_at hl 3 rfl) ?_
        refine lv_iconst (v := nI 1) hx hb dL_law_125 (by decide) ?_
        refine lv_iadd hx hb dL_law_126 ?_
        refine tw_top (z := nI (i + 1)) (nI_add _ _) ?_
        refine tw_sld hx hb hX hbl hbA hS (by omega) (by omega) dL_law_127 ?_
        refine lv_aload_n hx hb dL_law_128 rfl (lv_at hl 0 rfl) ?_
        refine lv_iload_n hx hb dL_law_129 rfl (lv_at hl 3 rfl) ?_
        refine lv_iconst (v := nI 2) hx hb dL_law_130 (by decide) ?_
        refine lv_iadd hx hb dL_law_131 ?_
        refine tw_top (z := nI (i + 2)) (nI_add _ _) ?_
        refine tw_sld hx hb hX hbl hbA hS (by omega) (by omega) dL_law_132 ?_
        refine lv_aload_n hx hb dL_law_133 rfl (lv_at hl 0 rfl) ?_
        refine lv_iload_n hx hb dL_law_134 rfl (lv_at hl 3 rfl) ?_
        refine lv_iconst (v := nI 3) hx hb dL_law_135 (by decide) ?_
        refine lv_iadd hx hb dL_law_136 ?_
        refine tw_top (z := nI (i + 3)) (nI_add _ _) ?_
        refine tw_sld hx hb hX hbl hbA hS (by omega) (by omega) dL_law_137 ?_
        refine lv_aload_n hx hb dL_law_138 rfl (lv_at hl 0 rfl) ?_
        refine lv_iload_n hx hb dL_law_139 rfl (lv_at hl 3 rfl) ?_
        refine lv_iconst (v := nI 4) hx hb dL_law_140 (by decide) ?_
        refine lv_iadd hx hb dL_law_141 ?_
        refine tw_top (z := nI (i + 4)) (nI_add _ _) ?_
        refine tw_sld hx hb hX hbl hbA hS (by omega) (by omega) dL_law_142 ?_
        refine lv_aload_n hx hb dL_law_143 rfl (lv_at hl 0 rfl) ?_
        refine lv_iload_n hx hb dL_law_144 rfl (lv_at hl 3 rfl) ?_
        refine lv_iconst (v := nI 5) hx hb dL_law_145 (by decide) ?_
        refine lv_iadd hx hb dL_law_146 ?_
        refine tw_top (z := nI (i + 5)) (nI_add _ _) ?_
        refine tw_sld hx hb hX hbl hbA hS (by omega) (by omega) dL_law_147 ?_
        refine tw_cv (As := [.int (xs (i + 1)), .int (xs (i + 2)), .int (xs (i + 3)), .int (xs (i + 4)), .int (xs (i + 5))]) (rest := []) (wr := [(b1, .inr (2, [.ref sa, .ref ka, .int (nI n), .int (nI t)])), (sa, .inl (d0, 624, .inl f')), (ka, .inl (d0, 1024, .inl g'))]) (C := RX0) ⟨hx, hb, hml, hown, hts⟩ (m_xkey l D d0 b0 h r kq f g (nI a) (nI (tw_nx a)) (nI (tw_fr a)) (xs (i + 1)) (xs (i + 2)) (xs (i + 3)) (xs (i + 4)) (xs (i + 5)) n i0 hn1 hn2 hi0) (cwV 5 hts (lw_V q70 q71 q72 q7 q73) rfl rfl rfl (by decide +kernel) ⟨Nat.le_of_ble_eq_true rfl, Nat.le_of_ble_eq_true rfl⟩) hK hP hD hS hA [0, 1, 2, 3] [4, 5, 6] 0 0 rfl (by decide) rfl rfl (by decide) (by decide) rfl rfl rfl rfl hl.1 rfl (Nat.le_of_ble_eq_true rfl) dL_law_148 ⟨Nat.le_of_ble_eq_true rfl, Nat.le_of_ble_eq_true rfl⟩ (fun H locs hP hD hS => ?_)
        have hP : va_P D vwCl [(b1, .inr (2, [.ref sa, .ref ka, .int (nI n), .int (nI t)])), (sa, .inl (d0, 624, .inl f')), (ka, .inl (d0, 1024, .inl g')), (b0, .inr (0, [.ref h, .ref kq, .int (nI n)])), (kq, .inl (d0, 1024, .inl (tw_xk g n i0 (xs (i + 2)) (xs (i + 3)) (xs (i + 4)) (xs (i + 5))))), (h, .inr (1, [.ref r, .int (nI a), .int (nI (tw_nx a)), .int (nI (tw_fr a))])), (r, .inl (d0, 624, .inl f))] H := hP
        have hD : va_D (fun q : Nat => s.heap.size ≤ q) [(b1, .inr (2, [.ref sa, .ref ka, .int (nI n), .int (nI t)])), (sa, .inl (d0, 624, .inl f')), (ka, .inl (d0, 1024, .inl g')), (b0, .inr (0, [.ref h, .ref kq, .int (nI n)])), (kq, .inl (d0, 1024, .inl (tw_xk g n i0 (xs (i + 2)) (xs (i + 3)) (xs (i + 4)) (xs (i + 5))))), (h, .inr (1, [.ref r, .int (nI a), .int (nI (tw_nx a)), .int (nI (tw_fr a))])), (r, .inl (d0, 624, .inl f))] := hD
        refine lv_aload_n hx hb dL_law_151 rfl (lv_at hl 2 rfl) ?_
        refine lv_aload_n hx hb dL_law_152 rfl (lv_at hl 0 rfl) ?_
        refine lv_iload_n hx hb dL_law_153 rfl (lv_at hl 3 rfl) ?_
        refine lv_iconst (v := nI 1) hx hb dL_law_154 (by decide) ?_
        refine lv_iadd hx hb dL_law_155 ?_
        refine tw_top (z := nI (i + 1)) (nI_add _ _) ?_
        refine tw_sld hx hb hX hbl hbA hS (by omega) (by omega) dL_law_156 ?_
        refine lv_aload_n hx hb dL_law_157 rfl (lv_at hl 0 rfl) ?_
        refine lv_iload_n hx hb dL_law_158 rfl (lv_at hl 3 rfl) ?_
        refine lv_iconst (v := nI 2) hx hb dL_law_159 (by decide) ?_
        refine lv_iadd hx hb dL_law_160 ?_
        refine tw_top (z := nI (i + 2)) (nI_add _ _) ?_
        refine tw_sld hx hb hX hbl hbA hS (by omega) (by omega) dL_law_161 ?_
        refine lv_aload_n hx hb dL_law_162 rfl (lv_at hl 0 rfl) ?_
        refine lv_iload_n hx hb dL_law_163 rfl (lv_at hl 3 rfl) ?_
        refine lv_iconst (v := nI 3) hx hb dL_law_164 (by decide) ?_
        refine lv_iadd hx hb dL_law_165 ?_
        refine tw_top (z := nI (i + 3)) (nI_add _ _) ?_
        refine tw_sld hx hb hX hbl hbA hS (by omega) (by omega) dL_law_166 ?_
        refine lv_aload_n hx hb dL_law_167 rfl (lv_at hl 0 rfl) ?_
        refine lv_iload_n hx hb dL_law_168 rfl (lv_at hl 3 rfl) ?_
        refine lv_iconst (v := nI 4) hx hb dL_law_169 (by decide) ?_
        refine lv_iadd hx hb dL_law_170 ?_
        refine tw_top (z := nI (i + 4)) (nI_add _ _) ?_
        refine tw_sld hx hb hX hbl hbA hS (by omega) (by omega) dL_law_171 ?_
        refine lv_aload_n hx hb dL_law_172 rfl (lv_at hl 0 rfl) ?_
        refine lv_iload_n hx hb dL_law_173 rfl (lv_at hl 3 rfl) ?_
        refine lv_iconst (v := nI 5) hx hb dL_law_174 (by decide) ?_
        refine lv_iadd hx hb dL_law_175 ?_
        refine tw_top (z := nI (i + 5)) (nI_add _ _) ?_
        refine tw_sld hx hb hX hbl hbA hS (by omega) (by omega) dL_law_176 ?_
        refine tw_cv (As := [.int (xs (i + 1)), .int (xs (i + 2)), .int (xs (i + 3)), .int (xs (i + 4)), .int (xs (i + 5))]) (rest := []) (wr := [(b0, .inr (0, [.ref h, .ref kq, .int (nI n)])), (kq, .inl (d0, 1024, .inl (tw_xk g n i0 (xs (i + 2)) (xs (i + 3)) (xs (i + 4)) (xs (i + 5))))), (h, .inr (1, [.ref r, .int (nI a), .int (nI (tw_nx a)), .int (nI (tw_fr a))])), (r, .inl (d0, 624, .inl f))]) (C := RX2) ⟨hx, hb, hml, hown, hts⟩ (m_rkey l D d0 b1 sa ka f' g' (nI t) (xs (i + 1)) (xs (i + 2)) (xs (i + 3)) (xs (i + 4)) (xs (i + 5)) n i0 hn1 hn2 hi0) (cwV 5 hts (lw_V q159 q160 q161 q9 q162) rfl rfl rfl (by decide +kernel) ⟨Nat.le_of_ble_eq_true rfl, Nat.le_of_ble_eq_true rfl⟩) hK hP hD hS hA [0, 1, 2] [3, 4, 5, 6] 2 0 rfl (by decide) rfl rfl (by decide) (by decide) rfl rfl rfl rfl hl.1 rfl (Nat.le_of_ble_eq_true rfl) dL_law_177 ⟨Nat.le_of_ble_eq_true rfl, Nat.le_of_ble_eq_true rfl⟩ (fun H locs hP hD hS => ?_)
        have hP : va_P D vwCl [(b0, .inr (0, [.ref h, .ref kq, .int (nI n)])), (kq, .inl (d0, 1024, .inl (tw_xk g n i0 (xs (i + 2)) (xs (i + 3)) (xs (i + 4)) (xs (i + 5))))), (h, .inr (1, [.ref r, .int (nI a), .int (nI (tw_nx a)), .int (nI (tw_fr a))])), (r, .inl (d0, 624, .inl f)), (b1, .inr (2, [.ref sa, .ref ka, .int (nI n), .int (nI t)])), (sa, .inl (d0, 624, .inl f')), (ka, .inl (d0, 1024, .inl (tw_mk g' n i0 (xs (i + 2)) (xs (i + 3)) (xs (i + 4)) (xs (i + 5)))))] H := hP
        have hD : va_D (fun q : Nat => s.heap.size ≤ q) [(b0, .inr (0, [.ref h, .ref kq, .int (nI n)])), (kq, .inl (d0, 1024, .inl (tw_xk g n i0 (xs (i + 2)) (xs (i + 3)) (xs (i + 4)) (xs (i + 5))))), (h, .inr (1, [.ref r, .int (nI a), .int (nI (tw_nx a)), .int (nI (tw_fr a))])), (r, .inl (d0, 624, .inl f)), (b1, .inr (2, [.ref sa, .ref ka, .int (nI n), .int (nI t)])), (sa, .inl (d0, 624, .inl f')), (ka, .inl (d0, 1024, .inl (tw_mk g' n i0 (xs (i + 2)) (xs (i + 3)) (xs (i + 4)) (xs (i + 5)))))] := hD
        refine lv_goto (tgt := 267) hx hb dL_law_180 (by decide) ?_
        refine lv_iinc (v := nI (i + 6)) (lv' := [(3, .int (nI (i + 6))), (0, .ref b), (1, .ref b0), (2, .ref b1)]) hx hb dL_law_267 hl (k := 3) rfl (tw_inc6 _) (by decide) rfl (fun ls hl => ?_)
        refine lv_goto (tgt := 18) hx hb dL_law_270 (by decide) ?_
        exact ih (i + 6) f (tw_xk g n i0 (xs (i + 2)) (xs (i + 3)) (xs (i + 4)) (xs (i + 5))) f' (tw_mk g' n i0 (xs (i + 2)) (xs (i + 3)) (xs (i + 4)) (xs (i + 5))) n a t _ _ _ (by omega) (by omega) hn1 hn2 (tw_k_ag hg hin _ _ _ _) hR hP hD hS (lv_sub hl [1, 2, 3, 0] rfl)
      · refine lv_tableIn (off := 150) (tgt := 183) hx hb dL_law_33 (by decide) (by decide) (by decide) (by decide) ?_
        obtain ⟨f1, hf1⟩ : ∃ z, z = tw_keyed f g n := ⟨_, rfl⟩
        have hf2 : f1 = tw_keyed f' g' n := hf1.trans (tw_keyed_eq (tw_R_out hR) hg hn1)
        refine lv_aload_n hx hb dL_law_183 rfl (lv_at hl 1 rfl) ?_
        refine tw_cv (As := []) (rest := []) (wr := [(b1, .inr (2, [.ref sa, .ref ka, .int (nI n), .int (nI t)])), (sa, .inl (d0, 624, .inl f')), (ka, .inl (d0, 1024, .inl g'))]) (C := RX0) ⟨hx, hb, hml, hown, hts⟩ (m_xkeyed l D d0 b0 h r kq f g f1 (nI a) (nI (tw_nx a)) (nI (tw_fr a)) n hn1 hn2 hf1) (cwV 0 hts (lw_V q78 q79 q80 q7 q81) rfl rfl rfl (by decide +kernel) ⟨Nat.le_of_ble_eq_true rfl, Nat.le_of_ble_eq_true rfl⟩) hK hP hD hS hA [0, 1, 2, 3] [4, 5, 6] 0 0 rfl (by decide) rfl rfl (by decide) (by decide) rfl rfl rfl rfl hl.1 rfl (Nat.le_of_ble_eq_true rfl) dL_law_184 ⟨Nat.le_of_ble_eq_true rfl, Nat.le_of_ble_eq_true rfl⟩ (fun H locs hP hD hS => ?_)
        have hP : va_P D vwCl [(b1, .inr (2, [.ref sa, .ref ka, .int (nI n), .int (nI t)])), (sa, .inl (d0, 624, .inl f')), (ka, .inl (d0, 1024, .inl g')), (b0, .inr (0, [.ref h, .ref kq, .int (nI n)])), (kq, .inl (d0, 1024, .inl g)), (h, .inr (1, [.ref r, .int (nI 0), .int (nI 1), .int (nI 397)])), (r, .inl (d0, 624, .inl f1))] H := hP
        have hD : va_D (fun q : Nat => s.heap.size ≤ q) [(b1, .inr (2, [.ref sa, .ref ka, .int (nI n), .int (nI t)])), (sa, .inl (d0, 624, .inl f')), (ka, .inl (d0, 1024, .inl g')), (b0, .inr (0, [.ref h, .ref kq, .int (nI n)])), (kq, .inl (d0, 1024, .inl g)), (h, .inr (1, [.ref r, .int (nI 0), .int (nI 1), .int (nI 397)])), (r, .inl (d0, 624, .inl f1))] := hD
        refine lv_aload_n hx hb dL_law_187 rfl (lv_at hl 2 rfl) ?_
        refine tw_cv (As := []) (rest := []) (wr := [(b0, .inr (0, [.ref h, .ref kq, .int (nI n)])), (kq, .inl (d0, 1024, .inl g)), (h, .inr (1, [.ref r, .int (nI 0), .int (nI 1), .int (nI 397)])), (r, .inl (d0, 624, .inl f1))]) (C := RX2) ⟨hx, hb, hml, hown, hts⟩ (m_rkeyed l D d0 b1 sa ka f' g' f1 (nI t) n hn1 hn2 hf2) (cwV 0 hts (lw_V q163 q164 q165 q9 q166) rfl rfl rfl (by decide +kernel) ⟨Nat.le_of_ble_eq_true rfl, Nat.le_of_ble_eq_true rfl⟩) hK hP hD hS hA [0, 1, 2] [3, 4, 5, 6] 2 0 rfl (by decide) rfl rfl (by decide) (by decide) rfl rfl rfl rfl hl.1 rfl (Nat.le_of_ble_eq_true rfl) dL_law_188 ⟨Nat.le_of_ble_eq_true rfl, Nat.le_of_ble_eq_true rfl⟩ (fun H locs hP hD hS => ?_)
        have hP : va_P D vwCl [(b0, .inr (0, [.ref h, .ref kq, .int (nI n)])), (kq, .inl (d0, 1024, .inl g)), (h, .inr (1, [.ref r, .int (nI 0), .int (nI 1), .int (nI 397)])), (r, .inl (d0, 624, .inl f1)), (b1, .inr (2, [.ref sa, .ref ka, .int (nI n), .int (nI 624)])), (sa, .inl (d0, 624, .inl f1)), (ka, .inl (d0, 1024, .inl g'))] H := hP
        have hD : va_D (fun q : Nat => s.heap.size ≤ q) [(b0, .inr (0, [.ref h, .ref kq, .int (nI n)])), (kq, .inl (d0, 1024, .inl g)), (h, .inr (1, [.ref r, .int (nI 0), .int (nI 1), .int (nI 397)])), (r, .inl (d0, 624, .inl f1)), (b1, .inr (2, [.ref sa, .ref ka, .int (nI n), .int (nI 624)])), (sa, .inl (d0, 624, .inl f1)), (ka, .inl (d0, 1024, .inl g'))] := hD
        refine lv_goto (tgt := 267) hx hb dL_law_191 (by decide) ?_
        refine lv_iinc (v := nI (i + 6)) (lv' := [(3, .int (nI (i + 6))), (0, .ref b), (1, .ref b0), (2, .ref b1)]) hx hb dL_law_267 hl (k := 3) rfl (tw_inc6 _) (by decide) rfl (fun ls hl => ?_)
        refine lv_goto (tgt := 18) hx hb dL_law_270 (by decide) ?_
        exact ih (i + 6) f1 g f1 g' n 0 624 _ _ _ (by omega) (by omega) hn1 hn2 hg (tw_R_same f1) hP hD hS (lv_sub hl [1, 2, 3, 0] rfl)
      · refine lv_tableIn (off := 161) (tgt := 194) hx hb dL_law_33 (by decide) (by decide) (by decide) (by decide) ?_
        obtain ⟨h1, h2⟩ := tw_R_next hR
        refine lv_aload_n hx hb dL_law_194 rfl (lv_at hl 1 rfl) ?_
        refine lv_aload_n hx hb dL_law_195 rfl (lv_at hl 0 rfl) ?_
        refine lv_iload_n hx hb dL_law_196 rfl (lv_at hl 3 rfl) ?_
        refine lv_iconst (v := nI 1) hx hb dL_law_197 (by decide) ?_
        refine lv_iadd hx hb dL_law_198 ?_
        refine tw_top (z := nI (i + 1)) (nI_add _ _) ?_
        refine tw_sld hx hb hX hbl hbA hS (by omega) (by omega) dL_law_199 ?_
        refine tw_ci (As := [.int (xs (i + 1))]) (rest := []) (wr := [(b1, .inr (2, [.ref sa, .ref ka, .int (nI n), .int (nI t)])), (sa, .inl (d0, 624, .inl f')), (ka, .inl (d0, 1024, .inl g'))]) (C := RX0) ⟨hx, hb, hml, hown, hts⟩ (m_xbits l D d0 b0 h r kq f g (xs (i + 1)) n a ha) (cwV 1 hts (lw_V q98 q99 q100 q7 q101) rfl rfl rfl (by decide +kernel) ⟨Nat.le_of_ble_eq_true rfl, Nat.le_of_ble_eq_true rfl⟩) hK hP hD hS hA [0, 1, 2, 3] [4, 5, 6] 0 0 rfl (by decide) rfl rfl (by decide) (by decide) rfl rfl rfl rfl hl.1 rfl (Nat.le_of_ble_eq_true rfl) dL_law_200 ⟨Nat.le_of_ble_eq_true rfl, Nat.le_of_ble_eq_true rfl⟩ (fun H locs hP hD hS => ?_)
        have hP : va_P D vwCl [(b1, .inr (2, [.ref sa, .ref ka, .int (nI n), .int (nI t)])), (sa, .inl (d0, 624, .inl f')), (ka, .inl (d0, 1024, .inl g')), (b0, .inr (0, [.ref h, .ref kq, .int (nI n)])), (kq, .inl (d0, 1024, .inl g)), (h, .inr (1, [.ref r, .int (nI (tw_nx a)), .int (nI (tw_nx (tw_nx a))), .int (nI (tw_fr (tw_nx a)))])), (r, .inl (d0, 624, .inl (tw_tf f a)))] H := hP
        have hD : va_D (fun q : Nat => s.heap.size ≤ q) [(b1, .inr (2, [.ref sa, .ref ka, .int (nI n), .int (nI t)])), (sa, .inl (d0, 624, .inl f')), (ka, .inl (d0, 1024, .inl g')), (b0, .inr (0, [.ref h, .ref kq, .int (nI n)])), (kq, .inl (d0, 1024, .inl g)), (h, .inr (1, [.ref r, .int (nI (tw_nx a)), .int (nI (tw_nx (tw_nx a))), .int (nI (tw_fr (tw_nx a)))])), (r, .inl (d0, 624, .inl (tw_tf f a)))] := hD
        refine lv_aload_n hx hb dL_law_203 rfl (lv_at hl 2 rfl) ?_
        refine lv_aload_n hx hb dL_law_204 rfl (lv_at hl 0 rfl) ?_
        refine lv_iload_n hx hb dL_law_205 rfl (lv_at hl 3 rfl) ?_
        refine lv_iconst (v := nI 1) hx hb dL_law_206 (by decide) ?_
        refine lv_iadd hx hb dL_law_207 ?_
        refine tw_top (z := nI (i + 1)) (nI_add _ _) ?_
        refine tw_sld hx hb hX hbl hbA hS (by omega) (by omega) dL_law_208 ?_
        refine tw_ci (As := [.int (xs (i + 1))]) (rest := [.int (tw_bt (tw_tp (tw_xv f a)) (xs (i + 1)))]) (wr := [(b0, .inr (0, [.ref h, .ref kq, .int (nI n)])), (kq, .inl (d0, 1024, .inl g)), (h, .inr (1, [.ref r, .int (nI (tw_nx a)), .int (nI (tw_nx (tw_nx a))), .int (nI (tw_fr (tw_nx a)))])), (r, .inl (d0, 624, .inl (tw_tf f a)))]) (C := RX2) ⟨hx, hb, hml, hown, hts⟩ (m_rbits l D d0 b1 sa ka f' g' (xs (i + 1)) n t ht) (cwV 1 hts (lw_V q171 q172 q173 q9 q174) rfl rfl rfl (by decide +kernel) ⟨Nat.le_of_ble_eq_true rfl, Nat.le_of_ble_eq_true rfl⟩) hK hP hD hS hA [0, 1, 2] [3, 4, 5, 6] 2 0 rfl (by decide) rfl rfl (by decide) (by decide) rfl rfl rfl rfl hl.1 rfl (Nat.le_of_ble_eq_true rfl) dL_law_209 ⟨Nat.le_of_ble_eq_true rfl, Nat.le_of_ble_eq_true rfl⟩ (fun H locs hP hD hS => ?_)
        have hP : va_P D vwCl [(b0, .inr (0, [.ref h, .ref kq, .int (nI n)])), (kq, .inl (d0, 1024, .inl g)), (h, .inr (1, [.ref r, .int (nI (tw_nx a)), .int (nI (tw_nx (tw_nx a))), .int (nI (tw_fr (tw_nx a)))])), (r, .inl (d0, 624, .inl (tw_tf f a))), (b1, .inr (2, [.ref sa, .ref ka, .int (nI n), .int (nI (tw_mt t + 1))])), (sa, .inl (d0, 624, .inl (tw_mf f' t))), (ka, .inl (d0, 1024, .inl g'))] H := hP
        have hD : va_D (fun q : Nat => s.heap.size ≤ q) [(b0, .inr (0, [.ref h, .ref kq, .int (nI n)])), (kq, .inl (d0, 1024, .inl g)), (h, .inr (1, [.ref r, .int (nI (tw_nx a)), .int (nI (tw_nx (tw_nx a))), .int (nI (tw_fr (tw_nx a)))])), (r, .inl (d0, 624, .inl (tw_tf f a))), (b1, .inr (2, [.ref sa, .ref ka, .int (nI n), .int (nI (tw_mt t + 1))])), (sa, .inl (d0, 624, .inl (tw_mf f' t))), (ka, .inl (d0, 1024, .inl g'))] := hD
        refine lv_icmp_eq (tgt := 267) hx hb dL_law_212 (by decide) (fun he => ?_) (fun he => absurd he (fun z => z (by rw [h1])))
        refine lv_iinc (v := nI (i + 6)) (lv' := [(3, .int (nI (i + 6))), (0, .ref b), (1, .ref b0), (2, .ref b1)]) hx hb dL_law_267 hl (k := 3) rfl (tw_inc6 _) (by decide) rfl (fun ls hl => ?_)
        refine lv_goto (tgt := 18) hx hb dL_law_270 (by decide) ?_
        exact ih (i + 6) (tw_tf f a) g (tw_mf f' t) g' n (tw_nx a) (tw_mt t + 1) _ _ _ (by omega) (by omega) hn1 hn2 hg h2 hP hD hS (lv_sub hl [1, 2, 3, 0] rfl)
      · refine lv_tableIn (off := 184) (tgt := 217) hx hb dL_law_33 (by decide) (by decide) (by decide) (by decide) ?_
        obtain ⟨h1, h2⟩ := tw_R_next hR
        obtain ⟨h3, h4⟩ := tw_R_next h2
        refine lv_aload_n hx hb dL_law_217 rfl (lv_at hl 1 rfl) ?_
        refine tw_cl (As := []) (rest := []) (wr := [(b1, .inr (2, [.ref sa, .ref ka, .int (nI n), .int (nI t)])), (sa, .inl (d0, 624, .inl f')), (ka, .inl (d0, 1024, .inl g'))]) (C := RX0) ⟨hx, hb, hml, hown, hts⟩ (m_xwide l D d0 b0 h r kq f g n a ha) (cwV 0 hts (lw_V q117 q118 q119 q7 q120) rfl rfl rfl (by decide +kernel) ⟨Nat.le_of_ble_eq_true rfl, Nat.le_of_ble_eq_true rfl⟩) hK hP hD hS hA [0, 1, 2, 3] [4, 5, 6] 0 0 rfl (by decide) rfl rfl (by decide) (by decide) rfl rfl rfl rfl hl.1 rfl (Nat.le_of_ble_eq_true rfl) dL_law_218 ⟨Nat.le_of_ble_eq_true rfl, Nat.le_of_ble_eq_true rfl⟩ (fun H locs hP hD hS => ?_)
        have hP : va_P D vwCl [(b1, .inr (2, [.ref sa, .ref ka, .int (nI n), .int (nI t)])), (sa, .inl (d0, 624, .inl f')), (ka, .inl (d0, 1024, .inl g')), (b0, .inr (0, [.ref h, .ref kq, .int (nI n)])), (kq, .inl (d0, 1024, .inl g)), (h, .inr (1, [.ref r, .int (nI (tw_nx (tw_nx a))), .int (nI (tw_nx (tw_nx (tw_nx a)))), .int (nI (tw_fr (tw_nx (tw_nx a))))])), (r, .inl (d0, 624, .inl (tw_tf (tw_tf f a) (tw_nx a))))] H := hP
        have hD : va_D (fun q : Nat => s.heap.size ≤ q) [(b1, .inr (2, [.ref sa, .ref ka, .int (nI n), .int (nI t)])), (sa, .inl (d0, 624, .inl f')), (ka, .inl (d0, 1024, .inl g')), (b0, .inr (0, [.ref h, .ref kq, .int (nI n)])), (kq, .inl (d0, 1024, .inl g)), (h, .inr (1, [.ref r, .int (nI (tw_nx (tw_nx a))), .int (nI (tw_nx (tw_nx (tw_nx a)))), .int (nI (tw_fr (tw_nx (tw_nx a))))])), (r, .inl (d0, 624, .inl (tw_tf (tw_tf f a) (tw_nx a))))] := hD
        refine lv_aload_n hx hb dL_law_221 rfl (lv_at hl 2 rfl) ?_
        refine tw_cl (As := []) (rest := [.long (tw_wd (tw_tp (tw_xv f a)) (tw_tp (tw_xv (tw_tf f a) (tw_nx a))))]) (wr := [(b0, .inr (0, [.ref h, .ref kq, .int (nI n)])), (kq, .inl (d0, 1024, .inl g)), (h, .inr (1, [.ref r, .int (nI (tw_nx (tw_nx a))), .int (nI (tw_nx (tw_nx (tw_nx a)))), .int (nI (tw_fr (tw_nx (tw_nx a))))])), (r, .inl (d0, 624, .inl (tw_tf (tw_tf f a) (tw_nx a))))]) (C := RX2) ⟨hx, hb, hml, hown, hts⟩ (m_rwide l D d0 b1 sa ka f' g' n t ht) (cwV 0 hts (lw_V q183 q184 q185 q9 q186) rfl rfl rfl (by decide +kernel) ⟨Nat.le_of_ble_eq_true rfl, Nat.le_of_ble_eq_true rfl⟩) hK hP hD hS hA [0, 1, 2] [3, 4, 5, 6] 2 0 rfl (by decide) rfl rfl (by decide) (by decide) rfl rfl rfl rfl hl.1 rfl (Nat.le_of_ble_eq_true rfl) dL_law_222 ⟨Nat.le_of_ble_eq_true rfl, Nat.le_of_ble_eq_true rfl⟩ (fun H locs hP hD hS => ?_)
        have hP : va_P D vwCl [(b0, .inr (0, [.ref h, .ref kq, .int (nI n)])), (kq, .inl (d0, 1024, .inl g)), (h, .inr (1, [.ref r, .int (nI (tw_nx (tw_nx a))), .int (nI (tw_nx (tw_nx (tw_nx a)))), .int (nI (tw_fr (tw_nx (tw_nx a))))])), (r, .inl (d0, 624, .inl (tw_tf (tw_tf f a) (tw_nx a)))), (b1, .inr (2, [.ref sa, .ref ka, .int (nI n), .int (nI (tw_mt (tw_mt t + 1) + 1))])), (sa, .inl (d0, 624, .inl (tw_mf (tw_mf f' t) (tw_mt t + 1)))), (ka, .inl (d0, 1024, .inl g'))] H := hP
        have hD : va_D (fun q : Nat => s.heap.size ≤ q) [(b0, .inr (0, [.ref h, .ref kq, .int (nI n)])), (kq, .inl (d0, 1024, .inl g)), (h, .inr (1, [.ref r, .int (nI (tw_nx (tw_nx a))), .int (nI (tw_nx (tw_nx (tw_nx a)))), .int (nI (tw_fr (tw_nx (tw_nx a))))])), (r, .inl (d0, 624, .inl (tw_tf (tw_tf f a) (tw_nx a)))), (b1, .inr (2, [.ref sa, .ref ka, .int (nI n), .int (nI (tw_mt (tw_mt t + 1) + 1))])), (sa, .inl (d0, 624, .inl (tw_mf (tw_mf f' t) (tw_mt t + 1)))), (ka, .inl (d0, 1024, .inl g'))] := hD
        refine W.lcmp hx hb dL_law_225 ?_
        refine tw_top (z := 0) (tw_cmp0 (by rw [h1, h3])) ?_
        refine lv_if_eq (tgt := 267) hx hb dL_law_226 (by decide) (fun he => ?_) (fun he => absurd he (fun z => z rfl))
        refine lv_iinc (v := nI (i + 6)) (lv' := [(3, .int (nI (i + 6))), (0, .ref b), (1, .ref b0), (2, .ref b1)]) hx hb dL_law_267 hl (k := 3) rfl (tw_inc6 _) (by decide) rfl (fun ls hl => ?_)
        refine lv_goto (tgt := 18) hx hb dL_law_270 (by decide) ?_
        exact ih (i + 6) (tw_tf (tw_tf f a) (tw_nx a)) g (tw_mf (tw_mf f' t) (tw_mt t + 1)) g' n (tw_nx (tw_nx a)) (tw_mt (tw_mt t + 1) + 1) _ _ _ (by omega) (by omega) hn1 hn2 hg h4 hP hD hS (lv_sub hl [1, 2, 3, 0] rfl)
      · refine lv_tableIn (off := 198) (tgt := 231) hx hb dL_law_33 (by decide) (by decide) (by decide) (by decide) ?_
        obtain ⟨h1, h2⟩ := tw_R_next hR
        refine lv_aload_n hx hb dL_law_231 rfl (lv_at hl 1 rfl) ?_
        refine tw_ci (As := []) (rest := []) (wr := [(b1, .inr (2, [.ref sa, .ref ka, .int (nI n), .int (nI t)])), (sa, .inl (d0, 624, .inl f')), (ka, .inl (d0, 1024, .inl g'))]) (C := RX0) ⟨hx, hb, hml, hown, hts⟩ (m_xcoin l D d0 b0 h r kq f g n a ha) (cwV 0 hts (lw_V q122 q123 q124 q7 q125) rfl rfl rfl (by decide +kernel) ⟨Nat.le_of_ble_eq_true rfl, Nat.le_of_ble_eq_true rfl⟩) hK hP hD hS hA [0, 1, 2, 3] [4, 5, 6] 0 0 rfl (by decide) rfl rfl (by decide) (by decide) rfl rfl rfl rfl hl.1 rfl (Nat.le_of_ble_eq_true rfl) dL_law_232 ⟨Nat.le_of_ble_eq_true rfl, Nat.le_of_ble_eq_true rfl⟩ (fun H locs hP hD hS => ?_)
        have hP : va_P D vwCl [(b1, .inr (2, [.ref sa, .ref ka, .int (nI n), .int (nI t)])), (sa, .inl (d0, 624, .inl f')), (ka, .inl (d0, 1024, .inl g')), (b0, .inr (0, [.ref h, .ref kq, .int (nI n)])), (kq, .inl (d0, 1024, .inl g)), (h, .inr (1, [.ref r, .int (nI (tw_nx a)), .int (nI (tw_nx (tw_nx a))), .int (nI (tw_fr (tw_nx a)))])), (r, .inl (d0, 624, .inl (tw_tf f a)))] H := hP
        have hD : va_D (fun q : Nat => s.heap.size ≤ q) [(b1, .inr (2, [.ref sa, .ref ka, .int (nI n), .int (nI t)])), (sa, .inl (d0, 624, .inl f')), (ka, .inl (d0, 1024, .inl g')), (b0, .inr (0, [.ref h, .ref kq, .int (nI n)])), (kq, .inl (d0, 1024, .inl g)), (h, .inr (1, [.ref r, .int (nI (tw_nx a)), .int (nI (tw_nx (tw_nx a))), .int (nI (tw_fr (tw_nx a)))])), (r, .inl (d0, 624, .inl (tw_tf f a)))] := hD
        refine lv_aload_n hx hb dL_law_235 rfl (lv_at hl 2 rfl) ?_
        refine tw_ci (As := []) (rest := [.int (tw_xc (tw_tp (tw_xv f a)))]) (wr := [(b0, .inr (0, [.ref h, .ref kq, .int (nI n)])), (kq, .inl (d0, 1024, .inl g)), (h, .inr (1, [.ref r, .int (nI (tw_nx a)), .int (nI (tw_nx (tw_nx a))), .int (nI (tw_fr (tw_nx a)))])), (r, .inl (d0, 624, .inl (tw_tf f a)))]) (C := RX2) ⟨hx, hb, hml, hown, hts⟩ (m_rcoin l D d0 b1 sa ka f' g' n t ht) (cwV 0 hts (lw_V q188 q189 q190 q9 q191) rfl rfl rfl (by decide +kernel) ⟨Nat.le_of_ble_eq_true rfl, Nat.le_of_ble_eq_true rfl⟩) hK hP hD hS hA [0, 1, 2] [3, 4, 5, 6] 2 0 rfl (by decide) rfl rfl (by decide) (by decide) rfl rfl rfl rfl hl.1 rfl (Nat.le_of_ble_eq_true rfl) dL_law_236 ⟨Nat.le_of_ble_eq_true rfl, Nat.le_of_ble_eq_true rfl⟩ (fun H locs hP hD hS => ?_)
        have hP : va_P D vwCl [(b0, .inr (0, [.ref h, .ref kq, .int (nI n)])), (kq, .inl (d0, 1024, .inl g)), (h, .inr (1, [.ref r, .int (nI (tw_nx a)), .int (nI (tw_nx (tw_nx a))), .int (nI (tw_fr (tw_nx a)))])), (r, .inl (d0, 624, .inl (tw_tf f a))), (b1, .inr (2, [.ref sa, .ref ka, .int (nI n), .int (nI (tw_mt t + 1))])), (sa, .inl (d0, 624, .inl (tw_mf f' t))), (ka, .inl (d0, 1024, .inl g'))] H := hP
        have hD : va_D (fun q : Nat => s.heap.size ≤ q) [(b0, .inr (0, [.ref h, .ref kq, .int (nI n)])), (kq, .inl (d0, 1024, .inl g)), (h, .inr (1, [.ref r, .int (nI (tw_nx a)), .int (nI (tw_nx (tw_nx a))), .int (nI (tw_fr (tw_nx a)))])), (r, .inl (d0, 624, .inl (tw_tf f a))), (b1, .inr (2, [.ref sa, .ref ka, .int (nI n), .int (nI (tw_mt t + 1))])), (sa, .inl (d0, 624, .inl (tw_mf f' t))), (ka, .inl (d0, 1024, .inl g'))] := hD
        refine lv_icmp_eq (tgt := 267) hx hb dL_law_239 (by decide) (fun he => ?_) (fun he => absurd he (fun z => z (by rw [h1, tw_coin])))
        refine lv_iinc (v := nI (i + 6)) (lv' := [(3, .int (nI (i + 6))), (0, .ref b), (1, .ref b0), (2, .ref b1)]) hx hb dL_law_267 hl (k := 3) rfl (tw_inc6 _) (by decide) rfl (fun ls hl => ?_)
        refine lv_goto (tgt := 18) hx hb dL_law_270 (by decide) ?_
        exact ih (i + 6) (tw_tf f a) g (tw_mf f' t) g' n (tw_nx a) (tw_mt t + 1) _ _ _ (by omega) (by omega) hn1 hn2 hg h2 hP hD hS (lv_sub hl [1, 2, 3, 0] rfl)
      · refine lv_tableIn (off := 211) (tgt := 244) hx hb dL_law_33 (by decide) (by decide) (by decide) (by decide) ?_
        obtain ⟨PX, hPX⟩ : ∃ z, z = tw_xs (tw_lo (xs (i + 1))) f a 0 := ⟨_, rfl⟩
        obtain ⟨PM, hPM⟩ : ∃ z, z = tw_ms (tw_lo (xs (i + 1))) f' t 0 := ⟨_, rfl⟩
        have h12 := tw_R_skip (tw_lo (xs (i + 1))) f f' a t 0 hR
        rw [← hPX, ← hPM] at h12
        obtain ⟨h1, h2⟩ := h12
        refine lv_aload_n hx hb dL_law_244 rfl (lv_at hl 1 rfl) ?_
        refine lv_aload_n hx hb dL_law_245 rfl (lv_at hl 0 rfl) ?_
        refine lv_iload_n hx hb dL_law_246 rfl (lv_at hl 3 rfl) ?_
        refine lv_iconst (v := nI 1) hx hb dL_law_247 (by decide) ?_
        refine lv_iadd hx hb dL_law_248 ?_
        refine tw_top (z := nI (i + 1)) (nI_add _ _) ?_
        refine tw_sld hx hb hX hbl hbA hS (by omega) (by omega) dL_law_249 ?_
        refine tw_ci (As := [.int (xs (i + 1))]) (rest := []) (wr := [(b1, .inr (2, [.ref sa, .ref ka, .int (nI n), .int (nI t)])), (sa, .inl (d0, 624, .inl f')), (ka, .inl (d0, 1024, .inl g'))]) (C := RX0) ⟨hx, hb, hml, hown, hts⟩ (m_xskip l D d0 b0 h r kq f g (xs (i + 1)) n a ha PX hPX) (cwV 1 hts (lw_V q126 q127 q128 q7 q129) rfl rfl rfl (by decide +kernel) ⟨Nat.le_of_ble_eq_true rfl, Nat.le_of_ble_eq_true rfl⟩) hK hP hD hS hA [0, 1, 2, 3] [4, 5, 6] 0 0 rfl (by decide) rfl rfl (by decide) (by decide) rfl rfl rfl rfl hl.1 rfl (Nat.le_of_ble_eq_true rfl) dL_law_250 ⟨Nat.le_of_ble_eq_true rfl, Nat.le_of_ble_eq_true rfl⟩ (fun H locs hP hD hS => ?_)
        have hP : va_P D vwCl [(b1, .inr (2, [.ref sa, .ref ka, .int (nI n), .int (nI t)])), (sa, .inl (d0, 624, .inl f')), (ka, .inl (d0, 1024, .inl g')), (b0, .inr (0, [.ref h, .ref kq, .int (nI n)])), (kq, .inl (d0, 1024, .inl g)), (h, .inr (1, [.ref r, .int (nI PX.2.1), .int (nI (tw_nx PX.2.1)), .int (nI (tw_fr PX.2.1))])), (r, .inl (d0, 624, .inl PX.1))] H := hP
        have hD : va_D (fun q : Nat => s.heap.size ≤ q) [(b1, .inr (2, [.ref sa, .ref ka, .int (nI n), .int (nI t)])), (sa, .inl (d0, 624, .inl f')), (ka, .inl (d0, 1024, .inl g')), (b0, .inr (0, [.ref h, .ref kq, .int (nI n)])), (kq, .inl (d0, 1024, .inl g)), (h, .inr (1, [.ref r, .int (nI PX.2.1), .int (nI (tw_nx PX.2.1)), .int (nI (tw_fr PX.2.1))])), (r, .inl (d0, 624, .inl PX.1))] := hD
        refine lv_aload_n hx hb dL_law_253 rfl (lv_at hl 2 rfl) ?_
        refine lv_aload_n hx hb dL_law_254 rfl (lv_at hl 0 rfl) ?_
        refine lv_iload_n hx hb dL_law_255 rfl (lv_at hl 3 rfl) ?_
        refine lv_iconst (v := nI 1) hx hb dL_law_256 (by decide) ?_
        refine lv_iadd hx hb dL_law_257 ?_
        refine tw_top (z := nI (i + 1)) (nI_add _ _) ?_
        refine tw_sld hx hb hX hbl hbA hS (by omega) (by omega) dL_law_258 ?_
        refine tw_ci (As := [.int (xs (i + 1))]) (rest := [.int PX.2.2]) (wr := [(b0, .inr (0, [.ref h, .ref kq, .int (nI n)])), (kq, .inl (d0, 1024, .inl g)), (h, .inr (1, [.ref r, .int (nI PX.2.1), .int (nI (tw_nx PX.2.1)), .int (nI (tw_fr PX.2.1))])), (r, .inl (d0, 624, .inl PX.1))]) (C := RX2) ⟨hx, hb, hml, hown, hts⟩ (m_rskip l D d0 b1 sa ka f' g' (xs (i + 1)) n t ht PM hPM) (cwV 1 hts (lw_V q192 q193 q194 q9 q195) rfl rfl rfl (by decide +kernel) ⟨Nat.le_of_ble_eq_true rfl, Nat.le_of_ble_eq_true rfl⟩) hK hP hD hS hA [0, 1, 2] [3, 4, 5, 6] 2 0 rfl (by decide) rfl rfl (by decide) (by decide) rfl rfl rfl rfl hl.1 rfl (Nat.le_of_ble_eq_true rfl) dL_law_259 ⟨Nat.le_of_ble_eq_true rfl, Nat.le_of_ble_eq_true rfl⟩ (fun H locs hP hD hS => ?_)
        have hP : va_P D vwCl [(b0, .inr (0, [.ref h, .ref kq, .int (nI n)])), (kq, .inl (d0, 1024, .inl g)), (h, .inr (1, [.ref r, .int (nI PX.2.1), .int (nI (tw_nx PX.2.1)), .int (nI (tw_fr PX.2.1))])), (r, .inl (d0, 624, .inl PX.1)), (b1, .inr (2, [.ref sa, .ref ka, .int (nI n), .int (nI PM.2.1)])), (sa, .inl (d0, 624, .inl PM.1)), (ka, .inl (d0, 1024, .inl g'))] H := hP
        have hD : va_D (fun q : Nat => s.heap.size ≤ q) [(b0, .inr (0, [.ref h, .ref kq, .int (nI n)])), (kq, .inl (d0, 1024, .inl g)), (h, .inr (1, [.ref r, .int (nI PX.2.1), .int (nI (tw_nx PX.2.1)), .int (nI (tw_fr PX.2.1))])), (r, .inl (d0, 624, .inl PX.1)), (b1, .inr (2, [.ref sa, .ref ka, .int (nI n), .int (nI PM.2.1)])), (sa, .inl (d0, 624, .inl PM.1)), (ka, .inl (d0, 1024, .inl g'))] := hD
        refine lv_icmp_eq (tgt := 267) hx hb dL_law_262 (by decide) (fun he => ?_) (fun he => absurd he (fun z => z h1))
        refine lv_iinc (v := nI (i + 6)) (lv' := [(3, .int (nI (i + 6))), (0, .ref b), (1, .ref b0), (2, .ref b1)]) hx hb dL_law_267 hl (k := 3) rfl (tw_inc6 _) (by decide) rfl (fun ls hl => ?_)
        refine lv_goto (tgt := 18) hx hb dL_law_270 (by decide) ?_
        exact ih (i + 6) PX.1 g PM.1 g' n PX.2.1 PM.2.1 _ _ _ (by omega) (by omega) hn1 hn2 hg h2 hP hD hS (lv_sub hl [1, 2, 3, 0] rfl)
set_option maxHeartbeats 4000000 in
set_option maxRecDepth 100000 in
/-- THE LAW, from its entry -/
theorem whole_start {p : Program} {e : Env} {s : State} {m : MethodId} {below : List Frame} {meth : Method} {c : Code} (l : Launch) {b L : Nat} {xs : Nat → Int32} (hL : L ≤ 384) (C0 : lw_At p s m meth c b L xs) : W p l e room_1 s m #[Value.ref b] below meth c s.heap [] 0 0 (lw_Z below #[Value.ref b] s) (entryFrame m ([Value.ref b] : List Value).toArray 4) := by
  obtain ⟨hx, hb, hr, hml, hown, hts0, hX, hbl, hlocks, hgv⟩ := id C0
  have hts : ∀ w ∈ lw_all, w.before #[Value.ref b] s = true := fun w h => hts0 w (lw_all_tbl h)
  have hA : ∀ q : Nat, s.heap.size ≤ q → (fun q : Nat => s.heap.size ≤ q) q := fun _ h => h
  have hown : s.vm.findClass "TwistedBitsLaw" = some m.cls := hown
  obtain ⟨c0, iS0, hKn0⟩ := u_known (C := RX0) (T := TX0) (N := 3) (n := 3) hts in_X0 (hts _ q12)
  obtain ⟨c1, iS1, hKn1⟩ := u_known (C := RX1) (T := TX1) (N := 4) (n := 4) hts in_X1 (hts _ q20)
  obtain ⟨c2, iS2, hKn2⟩ := u_known (C := RX2) (T := TX2) (N := 4) (n := 4) hts in_X2 (hts _ q131)
  obtain ⟨D, hKc⟩ : ∃ D : va_G, ∀ (k : Nat) (q : vw_C), vwCl[k]? = some q → u_Kn s q.1 q.2.1 q.2.2 (D.1 k) (D.2 k) := by
    refine ⟨(fun k => if k = 0 then c0 else if k = 1 then c1 else c2, fun k => if k = 0 then iS0 else if k = 1 then iS1 else iS2), ?_⟩
    intro k q hq
    match k, hq with
    | 0, hq => cases hq; exact hKn0
    | 1, hq => cases hq; exact hKn1
    | 2, hq => cases hq; exact hKn2
    | k + 3, hq => simp [vwCl] at hq
  have hS : va_S (fun q : Nat => s.heap.size ≤ q) s.heap s.heap [] := va_S.rf
  have hK : va_K D vwCl [] s := ⟨hKc, fun k q h => by simp at h⟩
  have hP : va_P D vwCl [] s.heap := fun k q h => by simp at h
  have hD : va_D (fun q : Nat => s.heap.size ≤ q) [] := ⟨fun i j p q h => by simp at h, fun k q h => by simp at h⟩
  have hl := lv_entry ([.ref b]) (n := 4) (Nat.le_of_ble_eq_true rfl)
  rw [lg_entry_eq]
  generalize (lg_sl ([.ref b]) ++ List.replicate (4 - (lg_sl ([.ref b])).length) Slot.unset).toArray = ls at hl ⊢
  have hl : lv_has ls 4 [(0, .ref b)] := hl
  obtain ⟨f1, hf1⟩ : ∃ z, z = tw_seed (fun _ => 0) 5489 := ⟨_, rfl⟩
  have hNw : va_Nw (Cond.methodLinkNest RX0 9 yX1_init "TwistedBits") s := va_Nw.of rfl (hts0 _ q21)
  refine va_new (ci := 0) (fs := [.null, .null, .int (nI 0)]) (C := RX0) (T := TX0) (N := 3) hx hb hts in_X0 tyX0 tyX0_ok hown (hts _ q11) (hts _ q12) (hts _ q7) hK hP hD hS hA rfl (fun j hj => by rcases (show j = 0 ∨ j = 1 ∨ j = 2 by omega) with rfl | rfl | rfl <;> rfl) (Nat.le_of_ble_eq_true rfl) (Nat.le_of_ble_eq_true rfl) dL_law_0 (fun b0 H hP hD hS => ?_)
  have hP : va_P D vwCl [(b0, .inr (0, [.null, .null, .int (nI 0)]))] H := hP
  have hD : va_D (fun q : Nat => s.heap.size ≤ q) [(b0, .inr (0, [.null, .null, .int (nI 0)]))] := hD
  refine lv_dup hx hb dL_law_3 rfl ?_
  have hPc := hP.sub (ws' := [(b0, .inr (0, [.null, .null, .int (nI 0)]))]) [0] rfl
  have hDc := hD.sub (ws' := [(b0, .inr (0, [.null, .null, .int (nI 0)]))]) [0] (by decide) rfl
  have hFc := va_free (wc := [(b0, .inr (0, [.null, .null, .int (nI 0)]))]) hD hS hA [0] rfl
  refine va_callv (va_runI (As := []) (rest := [.ref b0]) ⟨hx, hb, hml, hown, hts⟩ (m_xinit l D b0 f1 hf1 H.size) (cwI 0 hts (lw_meth q15) rfl rfl rfl (hts _ q7) (hts _ q13) (hts _ q14) rfl (by decide +kernel) ⟨Nat.le_of_ble_eq_true rfl, Nat.le_of_ble_eq_true rfl⟩) ⟨fun a U g mk q => by obtain ⟨q0, q1, qP, qK, qD, qN⟩ := q; exact ⟨q0, q1, qP, va_K.moved (u := U) (U := U.calling g mk a) (Vm.Alike.refl U.vm) qK, qD, va_Nw.same rfl rfl qN⟩, fun U hU hW => ⟨rfl, by rw [hU], by rw [hU]; exact hPc, va_K.moved hW.alike hK, hDc.weaken (fun _ _ _ _ => trivial), va_Nw.warmM hW hNw⟩⟩ rfl rfl hl.1 rfl (lv_room (Nat.le_of_ble_eq_true rfl)) dL_law_4 ⟨Nat.le_of_ble_eq_true rfl, Nat.le_of_ble_eq_true rfl⟩) hS (fun q _ z => hFc q z) hFc (fun u t H1 locs ht hvm hw1 hB hz1 hk1 hS => ?_)
  obtain ⟨h, r, kq, d0⟩ := u
  obtain ⟨hP1, hK1, hD1⟩ := hB
  rw [ht] at hP1
  have hK := va_K.moved hvm.symm hK1
  obtain ⟨hP, hD⟩ := va_join (wr := []) (w1 := [(b0, .inr (0, [.ref h, .ref kq, .int (nI 1)])), (kq, .inl (d0, 1024, .inl (fun _ => 0))), (h, .inr (1, [.ref r, .int (nI 0), .int (nI 1), .int (nI 397)])), (r, .inl (d0, 624, .inl f1))]) hP hD [0] [] rfl rfl (by decide) (by decide) hk1 hFc hP1 hD1
  generalize H1 = H at hP hS ⊢
  have hP : va_P D vwCl [(b0, .inr (0, [.ref h, .ref kq, .int (nI 1)])), (kq, .inl (d0, 1024, .inl (fun _ => 0))), (h, .inr (1, [.ref r, .int (nI 0), .int (nI 1), .int (nI 397)])), (r, .inl (d0, 624, .inl f1))] H := hP
  have hD : va_D (fun q : Nat => s.heap.size ≤ q) [(b0, .inr (0, [.ref h, .ref kq, .int (nI 1)])), (kq, .inl (d0, 1024, .inl (fun _ => 0))), (h, .inr (1, [.ref r, .int (nI 0), .int (nI 1), .int (nI 397)])), (r, .inl (d0, 624, .inl f1))] := hD
  refine lv_astore_n (lv' := [(1, .ref b0), (0, .ref b)]) hx hb dL_law_7 rfl hl (by decide) rfl (fun ls hl => ?_)
  refine va_new (ci := 2) (fs := [.null, .null, .int (nI 0), .int (nI 0)]) (C := RX2) (T := TX2) (N := 4) hx hb hts in_X2 tyX2 tyX2_ok hown (hts _ q130) (hts _ q131) (hts _ q9) hK hP hD hS hA rfl (fun j hj => by rcases (show j = 0 ∨ j = 1 ∨ j = 2 ∨ j = 3 by omega) with rfl | rfl | rfl | rfl <;> rfl) (Nat.le_of_ble_eq_true rfl) (Nat.le_of_ble_eq_true rfl) dL_law_8 (fun b1 H hP hD hS => ?_)
  have hP : va_P D vwCl [(b0, .inr (0, [.ref h, .ref kq, .int (nI 1)])), (kq, .inl (d0, 1024, .inl (fun _ => 0))), (h, .inr (1, [.ref r, .int (nI 0), .int (nI 1), .int (nI 397)])), (r, .inl (d0, 624, .inl f1)), (b1, .inr (2, [.null, .null, .int (nI 0), .int (nI 0)]))] H := hP
  have hD : va_D (fun q : Nat => s.heap.size ≤ q) [(b0, .inr (0, [.ref h, .ref kq, .int (nI 1)])), (kq, .inl (d0, 1024, .inl (fun _ => 0))), (h, .inr (1, [.ref r, .int (nI 0), .int (nI 1), .int (nI 397)])), (r, .inl (d0, 624, .inl f1)), (b1, .inr (2, [.null, .null, .int (nI 0), .int (nI 0)]))] := hD
  refine lv_dup hx hb dL_law_11 rfl ?_
  have hPc := hP.sub (ws' := [(b1, .inr (2, [.null, .null, .int (nI 0), .int (nI 0)]))]) [4] rfl
  have hDc := hD.sub (ws' := [(b1, .inr (2, [.null, .null, .int (nI 0), .int (nI 0)]))]) [4] (by decide) rfl
  have hFc := va_free (wc := [(b1, .inr (2, [.null, .null, .int (nI 0), .int (nI 0)]))]) hD hS hA [4] rfl
  have hK0 := hK.sub (tys' := []) [] rfl
  refine va_callv (va_runI (As := []) (rest := [.ref b1]) ⟨hx, hb, hml, hown, hts⟩ (m_rinit l D b1 f1 hf1 H.size) (cwI 0 hts (lw_meth q134) rfl rfl rfl (hts _ q9) (hts _ q132) (hts _ q133) rfl (by decide +kernel) ⟨Nat.le_of_ble_eq_true rfl, Nat.le_of_ble_eq_true rfl⟩) ⟨fun a U g mk q => by obtain ⟨q0, q1, qP, qK, qD⟩ := q; exact ⟨q0, q1, qP, va_K.moved (u := U) (U := U.calling g mk a) (Vm.Alike.refl U.vm) qK, qD⟩, fun U hU hW => ⟨rfl, by rw [hU], by rw [hU]; exact hPc, va_K.moved hW.alike hK0, hDc.weaken (fun _ _ _ _ => trivial)⟩⟩ rfl rfl hl.1 rfl (lv_room (Nat.le_of_ble_eq_true rfl)) dL_law_12 ⟨Nat.le_of_ble_eq_true rfl, Nat.le_of_ble_eq_true rfl⟩) hS (fun q _ z => hFc q z) hFc (fun u t H1 locs ht hvm hw1 hB hz1 hk1 hS => ?_)
  obtain ⟨sa, ka, d1⟩ := u
  obtain ⟨hP1, hK1, hD1⟩ := hB
  rw [ht] at hP1
  have ed : d1 = d0 := tw_one (va_K.moved hvm.symm hK1) hK 0 0 rfl rfl
  rw [ed] at hP1 hD1
  obtain ⟨hP, hD⟩ := va_join (wr := [(b0, .inr (0, [.ref h, .ref kq, .int (nI 1)])), (kq, .inl (d0, 1024, .inl (fun _ => 0))), (h, .inr (1, [.ref r, .int (nI 0), .int (nI 1), .int (nI 397)])), (r, .inl (d0, 624, .inl f1))]) (w1 := [(b1, .inr (2, [.ref sa, .ref ka, .int (nI 1), .int (nI 624)])), (sa, .inl (d0, 624, .inl f1)), (ka, .inl (d0, 1024, .inl (fun _ => 0)))]) hP hD [4] [0, 1, 2, 3] rfl rfl (by decide) (by decide) hk1 hFc hP1 hD1
  generalize H1 = H at hP hS ⊢
  have hP : va_P D vwCl [(b0, .inr (0, [.ref h, .ref kq, .int (nI 1)])), (kq, .inl (d0, 1024, .inl (fun _ => 0))), (h, .inr (1, [.ref r, .int (nI 0), .int (nI 1), .int (nI 397)])), (r, .inl (d0, 624, .inl f1)), (b1, .inr (2, [.ref sa, .ref ka, .int (nI 1), .int (nI 624)])), (sa, .inl (d0, 624, .inl f1)), (ka, .inl (d0, 1024, .inl (fun _ => 0)))] H := hP
  have hD : va_D (fun q : Nat => s.heap.size ≤ q) [(b0, .inr (0, [.ref h, .ref kq, .int (nI 1)])), (kq, .inl (d0, 1024, .inl (fun _ => 0))), (h, .inr (1, [.ref r, .int (nI 0), .int (nI 1), .int (nI 397)])), (r, .inl (d0, 624, .inl f1)), (b1, .inr (2, [.ref sa, .ref ka, .int (nI 1), .int (nI 624)])), (sa, .inl (d0, 624, .inl f1)), (ka, .inl (d0, 1024, .inl (fun _ => 0)))] := hD
  refine lv_astore_n (lv' := [(2, .ref b1), (1, .ref b0), (0, .ref b)]) hx hb dL_law_15 rfl hl (by decide) rfl (fun ls hl => ?_)
  refine lv_iconst (v := nI 0) hx hb dL_law_16 (by decide) ?_
  refine lv_istore_n (lv' := [(3, .int (nI 0)), (2, .ref b1), (1, .ref b0), (0, .ref b)]) hx hb dL_law_17 rfl hl (by decide) rfl (fun ls hl => ?_)
  exact law_loop l hL C0 hK b0 h r kq b1 sa ka (L + 1) 0 f1 (fun _ => 0) f1 (fun _ => 0) 1 0 624 _ _ _ (by omega) (by omega) (by decide) (by decide) (fun _ _ => rfl) (tw_R_same f1) hP hD hS (lv_sub hl [3, 2, 1, 0] rfl)
end
section
set_option maxHeartbeats 4000000 in
theorem lw_walk (l : Launch) (b : Addr) (xs : List Int32) : MetFree l x (headSpec (Jvm.Cond.code x code maxLocals ret :: tables_1) room_1) (lw_P b xs) (fun _ _ _ _ _ => True) lw_Q := by
  refine MetFree.of_bodyS (code := code) (maxLocals := maxLocals) (ret := ret) (by decide) ?_ ?_
  · intro args s m h hn
    obtain ⟨meth, c, h1, h2, h3, h4, h5, h6, -, -⟩ := Cond.code_spec hn (atoms_spec (ws := Jvm.Cond.code x code maxLocals ret :: tables_1) h _ List.mem_cons_self)
    exact ⟨meth, c, h1, h2, h3, h4, h5, h6⟩
  · intro p e s m args below meth c s₁ B hml0 hP _
    obtain ⟨rfl, hx, hbd, hgv⟩ := hP
    obtain ⟨scr, harrAt, hlist, hof, hsmall⟩ := hx
    obtain ⟨hcb, hkn, -, -⟩ := State.arrayAt?_spec harrAt
    have hown : s.vm.findClass R_law = some m.cls := findClass_of_methodNamed B.named
    have hts0 : ∀ c ∈ (Jvm.Cond.code x code maxLocals ret :: tables_1), c.before #[Value.ref b] s = true := atoms_spec (ws := Jvm.Cond.code x code maxLocals ret :: tables_1) B.pre
    have hts : ∀ w ∈ lw_tbl, w.before #[Value.ref b] s = true := k2_hts_sels lw_privs (fun w hw => hts0 w (List.mem_cons_of_mem _ hw)) lw_privs_ok
    have hml : c.maxLocals = 4 := B.maxLocals_eq (hts0 _ List.mem_cons_self)
    have X₀ : Stand p l e room_1 s m #[Value.ref b] below meth c s₁ [] 0 0 := Stand.of_body B
    have hh0 : s₁.heap = s.heap := by rw [B.state]; rfl
    have hsz : scr.slots.size = xs.length := by rw [← Array.length_toList, hlist, List.length_map]
    have hval : ∀ j : Nat, j < xs.length → scr.slots[j]? = some (.int (xs.getD j 0)) := fun j hj => by
      rw [← Array.getElem?_toList, hlist]
      simp [hj]
    have hbl : b < s.heap.size := (Array.getElem?_eq_some_iff.mp hcb).1
    have hX : va_X b xs.length (fun j => xs.getD j 0) s s.heap := ⟨scr, hcb, hof, hkn, hsz, hval⟩
    have K : W p l e room_1 s m #[Value.ref b] below meth c s₁.heap [] 0 0 (lw_Z below #[Value.ref b] s) (entryFrame m ([Value.ref b] : List Value).toArray 4) := by
      rw [hh0]
      exact whole_start l hbd ⟨B.exec, B.bytes, B.returns, hml, hown, hts, hX, hbl, B.notSynchronized, hgv⟩
    obtain ⟨t, a1, o, b1, b2, b3⟩ := K s₁ rfl X₀
    exact ⟨t, o, a1, b1, b2, b3⟩
theorem lw_pre_spec {args : Array Value} {s : State} (h : (Jvm.Cond.and given_1 narrow_1).before args s = true) (hr : rest_1_c.before args s = true) : ∃ (b : Addr) (xs : List Int32), lw_P b xs args s := by
  have hs := flat_of_before _ h
  have hq := flat_of_before _ hr
  have hc : (Cond.count 1).before args s = true := hs _ (by decide +kernel)
  have harr : (Cond.arrayOf (.arg 0) .int).before args s = true := hs _ (by decide +kernel)
  have hle : (Cond.le (.length (.arg 0)) (.int 384)).before args s = true := hs _ (by decide +kernel)
  have hlen : (Cond.isInt (.length (.arg 0))).before args s = true := hq _ (by decide +kernel)
  have hall : (Cond.all (.arg 0) (.isInt (.elem (.arg 0) (.index 0)))).before args s = true := hq _ (by decide +kernel)
  obtain ⟨b, xs, hb, hx⟩ := State.ints_of_pre rfl harr hlen hall
  have hsm : xs.length < 2 ^ 31 := hx.choose_spec.2.2.2
  have hev : (Term.length (.arg 0)).eval args s none [] s = some (.int xs.length.toInt32) := hx.length_eval hb
  have hv := Cond.le_ints hev (show (Term.int 384).eval args s none [] s = some (.int 384) from rfl)
  have hd : xs.length.toInt32 ≤ 384 := by
    simpa [Cond.before, Cond.holds, hv] using hle
  have hN : xs.length ≤ 384 := (Int32.ofNat_le_ofNat hsm (by decide)).mp (show Int32.ofNat xs.length ≤ Int32.ofNat 384 from hd)
  exact ⟨b, xs, Cond.one_arg hc (show args[0]? = some (.ref b) from hb), hx, hN, h⟩
theorem lw_comes (l : Launch) : Comes l x (Jvm.Cond.code x code maxLocals ret :: tables_1) room_1 (fun tb e args s => Calls_1 tb e args s ∧ rest_1 tb e args s ∧ Pre_1 tb e args s)
    (fun _ _ args s o t => lw_Q args s o t) := by
  intro p e ha hc hk s m args below hf hfit hheap happ hpre
  obtain ⟨b, xs, hP⟩ := lw_pre_spec hpre.2.2 hpre.2.1
  obtain ⟨k, o, h1, h2, h3, hQ⟩ := lw_walk l b xs p e ha hc hk s m args below hf ((Spec.applies_iff_loose hf).mp happ).1 hP trivial
  exact ⟨k, o, h1, h2, h3, hQ⟩
theorem lw_frame {s t : State} {o : Outcome} {args : Array Value} (h : Framed s o t [] 600000 7290000) :
    Framed s o t (fieldLocs frame_1_writes args s ++ arrayLocs frame_1_arrays args s ++ staticLocs frame_1_statics s) 600000 7290000 := h
theorem lw_limb (L : Cond) (hL : ∀ (args : Array Value) (s t : State), L.after args s (.returned (some (.int 1))) t = true) :
    ArmFor flags0 classFile x code maxLocals ret World_1 tables_1 room_1 Calls_1 rest_1 Pre_1
      (fun tb e a s o t => postC L tb e a s o t ∧ Framed s o t (fieldLocs frame_1_writes a s ++ arrayLocs frame_1_arrays a s ++ staticLocs frame_1_statics s) 600000 7290000) := by
  intro l _ _ _ p e ha hc hk s m args below hf hfit hheap happ hpre
  obtain ⟨k, o, h1, h2, h3, rfl, hF⟩ := lw_comes l p e ha hc hk s m args below hf hfit hheap happ hpre
  exact ⟨k, _, h1, h2, h3, hL args s _, lw_frame hF⟩
theorem i_vc : Claimed_1_1 ∧ Claimed_1_2 := ⟨lw_limb limb_1_1 (fun args s t => by simp [limb_1_1, Cond.after, Cond.holds, Cond.value]), lw_limb limb_1_2 (fun args s t => Cond.after_iff.mpr (by
  first | (rw [show limb_1_2 = Cond.eq .result (.int 1) from rfl, Cond.eq_ints (x := 1) (y := 1) rfl rfl]; simp; done) | (simp [limb_1_2, Cond.value, Term.eval]; done)))⟩
end
