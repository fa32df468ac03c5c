section
-- ===== PART A: goes FIRST, ahead of the names: the tables' words, and 'selects' of the private methods out of them =====
/-- a private method of a class that the tables say can be made, by its rows of tables_1 -/
def lw_okq (q : MethodName × Nat) : Prop := (q.1.cls ≠ "java/lang/invoke/MethodHandle" ∧ q.1.cls ≠ "java/lang/invoke/VarHandle") ∧ Cond.instantiable q.1.cls q.2 ∈ tables_1 ∧ Cond.privateMethod q.1 ∈ tables_1 ∧ Cond.instanceMethod q.1 ∈ tables_1
set_option maxRecDepth 100000
theorem lw_p0 : lw_okq (⟨"TimerWheel", "isSet", "(I)Z"⟩, 9) := ⟨⟨by decide +kernel, by decide +kernel⟩, List.mem_of_getElem? (i := 4) rfl, List.mem_of_getElem? (i := 50) rfl, List.mem_of_getElem? (i := 51) rfl⟩
theorem lw_p1 : lw_okq (⟨"TimerWheel", "unplace", "(I)V"⟩, 9) := ⟨⟨by decide +kernel, by decide +kernel⟩, List.mem_of_getElem? (i := 4) rfl, List.mem_of_getElem? (i := 54) rfl, List.mem_of_getElem? (i := 55) rfl⟩
theorem lw_p2 : lw_okq (⟨"TimerWheel", "place", "(I)V"⟩, 9) := ⟨⟨by decide +kernel, by decide +kernel⟩, List.mem_of_getElem? (i := 4) rfl, List.mem_of_getElem? (i := 58) rfl, List.mem_of_getElem? (i := 59) rfl⟩
theorem lw_p3 : lw_okq (⟨"TimerWheel", "tick", "()I"⟩, 9) := ⟨⟨by decide +kernel, by decide +kernel⟩, List.mem_of_getElem? (i := 4) rfl, List.mem_of_getElem? (i := 70) rfl, List.mem_of_getElem? (i := 71) rfl⟩
theorem lw_p4 : lw_okq (⟨"TimerWheel", "moveDown", "(I)V"⟩, 9) := ⟨⟨by decide +kernel, by decide +kernel⟩, List.mem_of_getElem? (i := 4) rfl, List.mem_of_getElem? (i := 74) rfl, List.mem_of_getElem? (i := 75) rfl⟩
theorem lw_p5 : lw_okq (⟨"TimerWheel", "ring", "(I)V"⟩, 9) := ⟨⟨by decide +kernel, by decide +kernel⟩, List.mem_of_getElem? (i := 4) rfl, List.mem_of_getElem? (i := 78) rfl, List.mem_of_getElem? (i := 79) rfl⟩
theorem lw_p6 : lw_okq (⟨"TimerWheel", "isNoted", "(I)Z"⟩, 9) := ⟨⟨by decide +kernel, by decide +kernel⟩, List.mem_of_getElem? (i := 4) rfl, List.mem_of_getElem? (i := 114) rfl, List.mem_of_getElem? (i := 115) rfl⟩
theorem lw_p7 : lw_okq (⟨"TimerWheelModel", "is", "(I)Z"⟩, 7) := ⟨⟨by decide +kernel, by decide +kernel⟩, List.mem_of_getElem? (i := 130) rfl, List.mem_of_getElem? (i := 167) rfl, List.mem_of_getElem? (i := 168) rfl⟩
theorem lw_p8 : lw_okq (⟨"TimerWheelModel", "tick", "()I"⟩, 7) := ⟨⟨by decide +kernel, by decide +kernel⟩, List.mem_of_getElem? (i := 130) rfl, List.mem_of_getElem? (i := 175) rfl, List.mem_of_getElem? (i := 176) rfl⟩
theorem lw_p9 : lw_okq (⟨"TimerWheelModel", "ring", "(I)V"⟩, 7) := ⟨⟨by decide +kernel, by decide +kernel⟩, List.mem_of_getElem? (i := 130) rfl, List.mem_of_getElem? (i := 179) rfl, List.mem_of_getElem? (i := 180) rfl⟩
theorem lw_p10 : lw_okq (⟨"TimerWheelModel", "kept", "(I)Z"⟩, 7) := ⟨⟨by decide +kernel, by decide +kernel⟩, List.mem_of_getElem? (i := 130) rfl, List.mem_of_getElem? (i := 216) rfl, List.mem_of_getElem? (i := 217) rfl⟩
def lw_privs_1 : List (MethodName × Nat) := [(⟨"TimerWheel", "isSet", "(I)Z"⟩, 9), (⟨"TimerWheel", "unplace", "(I)V"⟩, 9), (⟨"TimerWheel", "place", "(I)V"⟩, 9), (⟨"TimerWheel", "tick", "()I"⟩, 9), (⟨"TimerWheel", "moveDown", "(I)V"⟩, 9), (⟨"TimerWheel", "ring", "(I)V"⟩, 9), (⟨"TimerWheel", "isNoted", "(I)Z"⟩, 9), (⟨"TimerWheelModel", "is", "(I)Z"⟩, 7), (⟨"TimerWheelModel", "tick", "()I"⟩, 7), (⟨"TimerWheelModel", "ring", "(I)V"⟩, 7), (⟨"TimerWheelModel", "kept", "(I)Z"⟩, 7)]
theorem lw_r1 : ∀ q ∈ lw_privs_1, lw_okq q := List.forall_mem_cons.mpr ⟨lw_p0, List.forall_mem_cons.mpr ⟨lw_p1, List.forall_mem_cons.mpr ⟨lw_p2, List.forall_mem_cons.mpr ⟨lw_p3, List.forall_mem_cons.mpr ⟨lw_p4, List.forall_mem_cons.mpr ⟨lw_p5, List.forall_mem_cons.mpr ⟨lw_p6, List.forall_mem_cons.mpr ⟨lw_p7, List.forall_mem_cons.mpr ⟨lw_p8, List.forall_mem_cons.mpr ⟨lw_p9, List.forall_mem_cons.mpr ⟨lw_p10, fun _ h => absurd h List.not_mem_nil⟩⟩⟩⟩⟩⟩⟩⟩⟩⟩⟩
def lw_privs : List (MethodName × Nat) := lw_privs_1
def lw_tbl : List Cond := k2_sels lw_privs ++ tables_1
theorem lw_privs_ok : ∀ q ∈ lw_privs, lw_okq q := lw_r1
-- ===== ONE list of words for every method: the tables' words that hold all through a run =====
def lw_all : List Cond := lw_tbl.filter goodWord
/-- a word of the tables by its place: claim/WORDS.tsv -/
theorem lw_w {w : Cond} (i : Nat) (h : lw_tbl[i]? = some w) (g : goodWord w = true) : w ∈ lw_all := List.mem_filter.mpr ⟨List.mem_of_getElem? h, g⟩
theorem lw_all_tbl {w : Cond} (h : w ∈ lw_all) : w ∈ lw_tbl := (List.mem_filter.mp h).1
theorem lw_self : GoodIn lw_all lw_all := fun w h => ⟨h, good_of_word (List.mem_filter.mp h).2⟩
/-- a class's field words, by their places -/
theorem lw_in (ws : List Cond) (ps : List Nat) (hp : ws = ps.filterMap (fun i => lw_tbl[i]?)) (hg : ws.all goodWord = true) : ∀ w ∈ ws, w ∈ lw_all := by
  intro w h
  have h1 := List.all_eq_true.mp hg w h
  rw [hp] at h
  obtain ⟨i, -, hi⟩ := List.mem_filterMap.mp h
  exact lw_w i hi h1
/-- the words of a contract for the method y with code b, L locals, answer r -/
abbrev ws_ (y : MethodName) (b : ByteArray) (L : Nat) (r : Option FieldType) : List Cond := Cond.code y b L r :: lw_all
theorem lw_meth {y : MethodName} {b : ByteArray} {L : Nat} {r : Option FieldType} (h : Cond.code y b L r ∈ lw_all) : GoodIn lw_all (ws_ y b L r) := by
  intro w hw
  rcases List.mem_cons.mp hw with e | e
  · rw [e]
    exact lw_self _ h
  · exact lw_self _ e
theorem lw_app {a c : List Cond} (ha : ∀ w ∈ a, w ∈ lw_all) (hc : GoodIn lw_all c) : GoodIn lw_all (a ++ c) := by
  intro w hw
  rcases List.mem_append.mp hw with e | e
  · exact lw_self w (ha w e)
  · exact hc w e
/-- what a call through an object asks: cwV n hts (lw_V ..) -/
theorem lw_V {own : String} {idx : Nat} {C : String} {y : MethodName} {b : ByteArray} {L : Nat} {r : Option FieldType} (h1 : Cond.methodLink own idx y ∈ lw_all) (h2 : Cond.instanceMethod y ∈ lw_all) (h3 : Cond.selects C y y ∈ lw_all) (h4 : Cond.initialized C ∈ lw_all) (h5 : Cond.code y b L r ∈ lw_all) : GoodIn lw_all (wsV own idx C y (ws_ y b L r)) := by
  refine lw_app ?_ (lw_meth h5)
  intro w hw
  simp only [List.mem_cons, List.not_mem_nil, or_false] at hw
  rcases hw with e | e | e | e
  · rw [e]; exact h1
  · rw [e]; exact h2
  · rw [e]; exact h3
  · rw [e]; exact h4
/-- what a static call asks: va_cwS n hts (lw_S ..) -/
theorem lw_S {own : String} {idx : Nat} {y : MethodName} {b : ByteArray} {L : Nat} {r : Option FieldType} (h1 : Cond.methodLink own idx y ∈ lw_all) (h2 : Cond.static y ∈ lw_all) (h3 : Cond.initialized y.cls ∈ lw_all) (h4 : Cond.code y b L r ∈ lw_all) : GoodIn lw_all (va_wsS own idx y (ws_ y b L r)) := by
  refine lw_app ?_ (lw_meth h4)
  intro w hw
  simp only [List.mem_cons, List.not_mem_nil, or_false] at hw
  rcases hw with e | e | e
  · rw [e]; exact h1
  · rw [e]; exact h2
  · rw [e]; exact h3
/-- the words of a contract for a method WITH HANDLERS (hh: its table) -/
abbrev wsW_ (y : MethodName) (b : ByteArray) (L : Nat) (r : Option FieldType) (hh : List (Nat × Nat × Nat × Nat)) : List Cond := Cond.codeWith y b L r hh :: lw_all
theorem lw_methW {y : MethodName} {b : ByteArray} {L : Nat} {r : Option FieldType} {hh : List (Nat × Nat × Nat × Nat)} (h : Cond.codeWith y b L r hh ∈ lw_all) : GoodIn lw_all (wsW_ y b L r hh) := by
  intro w hw
  rcases List.mem_cons.mp hw with e | e
  · rw [e]
    exact lw_self _ h
  · exact lw_self _ e
/-- any list of words by their places (lw_in), good -/
theorem lw_good {ws : List Cond} (h : ∀ w ∈ ws, w ∈ lw_all) : GoodIn lw_all ws := fun w hw => lw_self w (h w hw)
/-- what a call of a method with handlers asks: vx_cwVW n hts (lw_VW ..), vx_cwSW n hts (lw_SW ..) -/
theorem lw_VW {own : String} {idx : Nat} {C : String} {y : MethodName} {b : ByteArray} {L : Nat} {r : Option FieldType} {hh : List (Nat × Nat × Nat × Nat)} (h1 : Cond.methodLink own idx y ∈ lw_all) (h2 : Cond.instanceMethod y ∈ lw_all) (h3 : Cond.selects C y y ∈ lw_all) (h4 : Cond.initialized C ∈ lw_all) (h5 : Cond.codeWith y b L r hh ∈ lw_all) : GoodIn lw_all (wsV own idx C y (wsW_ y b L r hh)) := by
  refine lw_app ?_ (lw_methW h5)
  intro w hw
  simp only [List.mem_cons, List.not_mem_nil, or_false] at hw
  rcases hw with e | e | e | e
  · rw [e]; exact h1
  · rw [e]; exact h2
  · rw [e]; exact h3
  · rw [e]; exact h4
theorem lw_SW {own : String} {idx : Nat} {y : MethodName} {b : ByteArray} {L : Nat} {r : Option FieldType} {hh : List (Nat × Nat × Nat × Nat)} (h1 : Cond.methodLink own idx y ∈ lw_all) (h2 : Cond.static y ∈ lw_all) (h3 : Cond.initialized y.cls ∈ lw_all) (h4 : Cond.codeWith y b L r hh ∈ lw_all) : GoodIn lw_all (va_wsS own idx y (wsW_ y b L r hh)) := by
  refine lw_app ?_ (lw_methW h4)
  intro w hw
  simp only [List.mem_cons, List.not_mem_nil, or_false] at hw
  rcases hw with e | e | e
  · rw [e]; exact h1
  · rw [e]; exact h2
  · rw [e]; exact h3
/-- a word by its place in its run of the tables -/
theorem lw_at {r : List Cond} (hr : ∀ w ∈ r, w ∈ lw_tbl) {w : Cond} (i : Nat) (h : r[i]? = some w) : w ∈ lw_tbl := hr w (List.mem_of_getElem? h)
theorem lw_g {w : Cond} (h : w ∈ lw_tbl) (g : goodWord w = true) : w ∈ lw_all := List.mem_filter.mpr ⟨h, g⟩
theorem lw_ms : ∀ w ∈ k2_sels lw_privs, w ∈ lw_tbl := fun w h => show w ∈ k2_sels lw_privs ++ tables_1 from List.mem_append_left _ h
theorem lw_m0 : ∀ w ∈ tables_1, w ∈ lw_tbl := fun w h => show w ∈ k2_sels lw_privs ++ tables_1 from List.mem_append_right (k2_sels lw_privs) h
theorem qs0 : (Cond.selects "TimerWheel" ⟨"TimerWheel", "isSet", "(I)Z"⟩ ⟨"TimerWheel", "isSet", "(I)Z"⟩) ∈ lw_all := lw_g (lw_at lw_ms 0 rfl) rfl
theorem qs1 : (Cond.selects "TimerWheel" ⟨"TimerWheel", "unplace", "(I)V"⟩ ⟨"TimerWheel", "unplace", "(I)V"⟩) ∈ lw_all := lw_g (lw_at lw_ms 1 rfl) rfl
theorem qs2 : (Cond.selects "TimerWheel" ⟨"TimerWheel", "place", "(I)V"⟩ ⟨"TimerWheel", "place", "(I)V"⟩) ∈ lw_all := lw_g (lw_at lw_ms 2 rfl) rfl
theorem qs3 : (Cond.selects "TimerWheel" ⟨"TimerWheel", "tick", "()I"⟩ ⟨"TimerWheel", "tick", "()I"⟩) ∈ lw_all := lw_g (lw_at lw_ms 3 rfl) rfl
theorem qs4 : (Cond.selects "TimerWheel" ⟨"TimerWheel", "moveDown", "(I)V"⟩ ⟨"TimerWheel", "moveDown", "(I)V"⟩) ∈ lw_all := lw_g (lw_at lw_ms 4 rfl) rfl
theorem qs5 : (Cond.selects "TimerWheel" ⟨"TimerWheel", "ring", "(I)V"⟩ ⟨"TimerWheel", "ring", "(I)V"⟩) ∈ lw_all := lw_g (lw_at lw_ms 5 rfl) rfl
theorem qs6 : (Cond.selects "TimerWheel" ⟨"TimerWheel", "isNoted", "(I)Z"⟩ ⟨"TimerWheel", "isNoted", "(I)Z"⟩) ∈ lw_all := lw_g (lw_at lw_ms 6 rfl) rfl
theorem qs7 : (Cond.selects "TimerWheelModel" ⟨"TimerWheelModel", "is", "(I)Z"⟩ ⟨"TimerWheelModel", "is", "(I)Z"⟩) ∈ lw_all := lw_g (lw_at lw_ms 7 rfl) rfl
theorem qs8 : (Cond.selects "TimerWheelModel" ⟨"TimerWheelModel", "tick", "()I"⟩ ⟨"TimerWheelModel", "tick", "()I"⟩) ∈ lw_all := lw_g (lw_at lw_ms 8 rfl) rfl
theorem qs9 : (Cond.selects "TimerWheelModel" ⟨"TimerWheelModel", "ring", "(I)V"⟩ ⟨"TimerWheelModel", "ring", "(I)V"⟩) ∈ lw_all := lw_g (lw_at lw_ms 9 rfl) rfl
theorem qs10 : (Cond.selects "TimerWheelModel" ⟨"TimerWheelModel", "kept", "(I)Z"⟩ ⟨"TimerWheelModel", "kept", "(I)Z"⟩) ∈ lw_all := lw_g (lw_at lw_ms 10 rfl) rfl
/-! java/lang/Object -/
set_option maxRecDepth 100000
def RJ0 : String := "java/lang/Object"
abbrev cJ0_init : ByteArray := object_method_1_code
def yJ0_init : MethodName := ⟨RJ0, "<init>", "()V"⟩
theorem dJ0_init_0 : decode cJ0_init 0 = .ok (.return_, 1) := by decide +kernel
theorem q20 : (Jvm.Cond.instanceMethod ({ cls := "java/lang/Object", name := "<init>", desc := "()V" } : Jvm.MethodName)) ∈ lw_all := lw_g (lw_at lw_m0 9 rfl) rfl
theorem q21 : (Jvm.Cond.code ({ cls := "java/lang/Object", name := "<init>", desc := "()V" } : Jvm.MethodName) object_method_1_code (1 : Nat) (Option.none : Option Jvm.ClassFile.FieldType)) ∈ lw_all := lw_g (lw_at lw_m0 10 rfl) rfl
theorem q50 : (Jvm.Cond.arrayClass Jvm.ClassFile.FieldType.int) ∈ lw_all := lw_g (lw_at lw_m0 39 rfl) rfl
set_option maxRecDepth 100000
theorem q51 : (Jvm.Cond.arrayClass Jvm.ClassFile.FieldType.short) ∈ lw_all := lw_g (lw_at lw_m0 40 rfl) rfl
theorem q52 : (Jvm.Cond.arrayClass Jvm.ClassFile.FieldType.byte) ∈ lw_all := lw_g (lw_at lw_m0 41 rfl) rfl
theorem q168 : (Jvm.Cond.arrayClass Jvm.ClassFile.FieldType.boolean) ∈ lw_all := lw_g (lw_at lw_m0 157 rfl) rfl
theorem q11 : (Jvm.Cond.initialized "TimerWheelLaw") ∈ lw_all := lw_g (lw_at lw_m0 0 rfl) rfl
set_option maxRecDepth 100000
theorem q14 : (Jvm.Cond.classLink "TimerWheelLaw" (7 : Nat) "TimerWheel") ∈ lw_all := lw_g (lw_at lw_m0 3 rfl) rfl
theorem q16 : (Jvm.Cond.methodLink "TimerWheelLaw" (9 : Nat) ({ cls := "TimerWheel", name := "<init>", desc := "()V" } : Jvm.MethodName)) ∈ lw_all := lw_g (lw_at lw_m0 5 rfl) rfl
theorem q53 : (Jvm.Cond.methodLink "TimerWheelLaw" (13 : Nat) ({ cls := "TimerWheel", name := "set", desc := "(III)I" } : Jvm.MethodName)) ∈ lw_all := lw_g (lw_at lw_m0 42 rfl) rfl
theorem q72 : (Jvm.Cond.methodLink "TimerWheelLaw" (18 : Nat) ({ cls := "TimerWheel", name := "cancel", desc := "(I)I" } : Jvm.MethodName)) ∈ lw_all := lw_g (lw_at lw_m0 61 rfl) rfl
theorem q76 : (Jvm.Cond.methodLink "TimerWheelLaw" (23 : Nat) ({ cls := "TimerWheel", name := "pass", desc := "(I)I" } : Jvm.MethodName)) ∈ lw_all := lw_g (lw_at lw_m0 65 rfl) rfl
theorem q92 : (Jvm.Cond.methodLink "TimerWheelLaw" (27 : Nat) ({ cls := "TimerWheel", name := "toNext", desc := "()I" } : Jvm.MethodName)) ∈ lw_all := lw_g (lw_at lw_m0 81 rfl) rfl
theorem q96 : (Jvm.Cond.methodLink "TimerWheelLaw" (32 : Nat) ({ cls := "TimerWheel", name := "now", desc := "()I" } : Jvm.MethodName)) ∈ lw_all := lw_g (lw_at lw_m0 85 rfl) rfl
theorem q100 : (Jvm.Cond.methodLink "TimerWheelLaw" (36 : Nat) ({ cls := "TimerWheel", name := "timers", desc := "()I" } : Jvm.MethodName)) ∈ lw_all := lw_g (lw_at lw_m0 89 rfl) rfl
theorem q104 : (Jvm.Cond.methodLink "TimerWheelLaw" (40 : Nat) ({ cls := "TimerWheel", name := "left", desc := "(I)I" } : Jvm.MethodName)) ∈ lw_all := lw_g (lw_at lw_m0 93 rfl) rfl
theorem q108 : (Jvm.Cond.methodLink "TimerWheelLaw" (44 : Nat) ({ cls := "TimerWheel", name := "next", desc := "()I" } : Jvm.MethodName)) ∈ lw_all := lw_g (lw_at lw_m0 97 rfl) rfl
theorem q112 : (Jvm.Cond.methodLink "TimerWheelLaw" (48 : Nat) ({ cls := "TimerWheel", name := "within", desc := "(I)I" } : Jvm.MethodName)) ∈ lw_all := lw_g (lw_at lw_m0 101 rfl) rfl
theorem q116 : (Jvm.Cond.methodLink "TimerWheelLaw" (52 : Nat) ({ cls := "TimerWheel", name := "rings", desc := "()I" } : Jvm.MethodName)) ∈ lw_all := lw_g (lw_at lw_m0 105 rfl) rfl
theorem q120 : (Jvm.Cond.methodLink "TimerWheelLaw" (56 : Nat) ({ cls := "TimerWheel", name := "rung", desc := "(I)I" } : Jvm.MethodName)) ∈ lw_all := lw_g (lw_at lw_m0 109 rfl) rfl
theorem q128 : (Jvm.Cond.methodLink "TimerWheelLaw" (60 : Nat) ({ cls := "TimerWheel", name := "rungAt", desc := "(I)I" } : Jvm.MethodName)) ∈ lw_all := lw_g (lw_at lw_m0 117 rfl) rfl
theorem q132 : (Jvm.Cond.methodLink "TimerWheelLaw" (64 : Nat) ({ cls := "TimerWheel", name := "repeat", desc := "(II)Z" } : Jvm.MethodName)) ∈ lw_all := lw_g (lw_at lw_m0 121 rfl) rfl
theorem q136 : (Jvm.Cond.methodLink "TimerWheelLaw" (69 : Nat) ({ cls := "TimerWheel", name := "period", desc := "(I)I" } : Jvm.MethodName)) ∈ lw_all := lw_g (lw_at lw_m0 125 rfl) rfl
theorem q140 : (Jvm.Cond.classLink "TimerWheelLaw" (10 : Nat) "TimerWheelModel") ∈ lw_all := lw_g (lw_at lw_m0 129 rfl) rfl
theorem q142 : (Jvm.Cond.methodLink "TimerWheelLaw" (12 : Nat) ({ cls := "TimerWheelModel", name := "<init>", desc := "()V" } : Jvm.MethodName)) ∈ lw_all := lw_g (lw_at lw_m0 131 rfl) rfl
theorem q169 : (Jvm.Cond.methodLink "TimerWheelLaw" (17 : Nat) ({ cls := "TimerWheelModel", name := "set", desc := "(III)I" } : Jvm.MethodName)) ∈ lw_all := lw_g (lw_at lw_m0 158 rfl) rfl
theorem q173 : (Jvm.Cond.methodLink "TimerWheelLaw" (22 : Nat) ({ cls := "TimerWheelModel", name := "cancel", desc := "(I)I" } : Jvm.MethodName)) ∈ lw_all := lw_g (lw_at lw_m0 162 rfl) rfl
theorem q181 : (Jvm.Cond.methodLink "TimerWheelLaw" (26 : Nat) ({ cls := "TimerWheelModel", name := "pass", desc := "(I)I" } : Jvm.MethodName)) ∈ lw_all := lw_g (lw_at lw_m0 170 rfl) rfl
theorem q193 : (Jvm.Cond.methodLink "TimerWheelLaw" (31 : Nat) ({ cls := "TimerWheelModel", name := "toNext", desc := "()I" } : Jvm.MethodName)) ∈ lw_all := lw_g (lw_at lw_m0 182 rfl) rfl
theorem q201 : (Jvm.Cond.methodLink "TimerWheelLaw" (35 : Nat) ({ cls := "TimerWheelModel", name := "now", desc := "()I" } : Jvm.MethodName)) ∈ lw_all := lw_g (lw_at lw_m0 190 rfl) rfl
theorem q205 : (Jvm.Cond.methodLink "TimerWheelLaw" (39 : Nat) ({ cls := "TimerWheelModel", name := "timers", desc := "()I" } : Jvm.MethodName)) ∈ lw_all := lw_g (lw_at lw_m0 194 rfl) rfl
theorem q209 : (Jvm.Cond.methodLink "TimerWheelLaw" (43 : Nat) ({ cls := "TimerWheelModel", name := "left", desc := "(I)I" } : Jvm.MethodName)) ∈ lw_all := lw_g (lw_at lw_m0 198 rfl) rfl
theorem q213 : (Jvm.Cond.methodLink "TimerWheelLaw" (47 : Nat) ({ cls := "TimerWheelModel", name := "next", desc := "()I" } : Jvm.MethodName)) ∈ lw_all := lw_g (lw_at lw_m0 202 rfl) rfl
theorem q214 : (Jvm.Cond.methodLink "TimerWheelLaw" (51 : Nat) ({ cls := "TimerWheelModel", name := "within", desc := "(I)I" } : Jvm.MethodName)) ∈ lw_all := lw_g (lw_at lw_m0 203 rfl) rfl
theorem q218 : (Jvm.Cond.methodLink "TimerWheelLaw" (55 : Nat) ({ cls := "TimerWheelModel", name := "rings", desc := "()I" } : Jvm.MethodName)) ∈ lw_all := lw_g (lw_at lw_m0 207 rfl) rfl
theorem q222 : (Jvm.Cond.methodLink "TimerWheelLaw" (59 : Nat) ({ cls := "TimerWheelModel", name := "rung", desc := "(I)I" } : Jvm.MethodName)) ∈ lw_all := lw_g (lw_at lw_m0 211 rfl) rfl
theorem q230 : (Jvm.Cond.methodLink "TimerWheelLaw" (63 : Nat) ({ cls := "TimerWheelModel", name := "rungAt", desc := "(I)I" } : Jvm.MethodName)) ∈ lw_all := lw_g (lw_at lw_m0 219 rfl) rfl
theorem q234 : (Jvm.Cond.methodLink "TimerWheelLaw" (68 : Nat) ({ cls := "TimerWheelModel", name := "repeat", desc := "(II)Z" } : Jvm.MethodName)) ∈ lw_all := lw_g (lw_at lw_m0 223 rfl) rfl
theorem q238 : (Jvm.Cond.methodLink "TimerWheelLaw" (72 : Nat) ({ cls := "TimerWheelModel", name := "period", desc := "(I)I" } : Jvm.MethodName)) ∈ lw_all := lw_g (lw_at lw_m0 227 rfl) rfl
/-! ===== Int32 by its bits: bt x i ===== -/
def bt (x : Int32) (i : Nat) : Bool := x.toBitVec.getLsbD i
theorem b_ext {x y : Int32} (h : ∀ i, i < 32 → bt x i = bt y i) : x = y := Int32.toBitVec_inj.mp (BitVec.eq_of_getLsbD_eq (fun i hi => h i hi))
theorem b_or (x y : Int32) (i : Nat) : bt (x ||| y) i = (bt x i || bt y i) := by unfold bt; rw [Int32.toBitVec_or, BitVec.getLsbD_or]
theorem b_and (x y : Int32) (i : Nat) : bt (x &&& y) i = (bt x i && bt y i) := by unfold bt; rw [Int32.toBitVec_and, BitVec.getLsbD_and]
theorem b_xor (x y : Int32) (i : Nat) : bt (x ^^^ y) i = (bt x i ^^ bt y i) := by unfold bt; rw [Int32.toBitVec_xor, BitVec.getLsbD_xor]
theorem b_big {x : Int32} {i : Nat} (h : 32 ≤ i) : bt x i = false := BitVec.getLsbD_of_ge _ _ h
theorem b_255 (i : Nat) : bt 255 i = decide (i < 8) := by
  rcases Nat.lt_or_ge i 32 with h | h
  · exact (by decide +kernel : ∀ i, i < 32 → bt 255 i = decide (i < 8)) i h
  · rw [b_big h, decide_eq_false (by omega)]
theorem b_65535 (i : Nat) : bt 65535 i = decide (i < 16) := by
  rcases Nat.lt_or_ge i 32 with h | h
  · exact (by decide +kernel : ∀ i, i < 32 → bt 65535 i = decide (i < 16)) i h
  · rw [b_big h, decide_eq_false (by omega)]
theorem b_m1 : ∀ i, i < 32 → bt (-1) i = true := by decide +kernel
theorem b_0 (i : Nat) : bt 0 i = false := BitVec.getLsbD_zero
theorem s_l : ∀ n, n < 32 → ((nI n &&& 31).toBitVec.smod 32).toNat = n := by decide +kernel
theorem s_u : ∀ n, n < 32 → (((nI n).toUInt32 &&& Int32.toUInt32 31).toBitVec % 32).toNat = n := by decide +kernel
theorem b_shl (n : Nat) (hn : n < 32) (x : Int32) {i : Nat} (hi : i < 32) : bt (x <<< (nI n &&& 31)) i = (decide (n ≤ i) && bt x (i - n)) := by
  unfold bt
  rw [Int32.toBitVec_shiftLeft]
  show (x.toBitVec <<< ((nI n &&& 31).toBitVec.smod 32).toNat).getLsbD i = _
  rw [s_l n hn, BitVec.getLsbD_shiftLeft]
  rcases Nat.lt_or_ge i n with h | h
  · simp [h, Nat.not_le.mpr h]
  · simp [hi, h, Nat.not_lt.mpr h]
theorem b_ushr (n : Nat) (hn : n < 32) (x : Int32) (i : Nat) : bt ((x.toUInt32 >>> ((nI n).toUInt32 &&& Int32.toUInt32 31)).toInt32) i = bt x (n + i) := by
  show (x.toUInt32 >>> ((nI n).toUInt32 &&& Int32.toUInt32 31)).toBitVec.getLsbD i = x.toUInt32.toBitVec.getLsbD (n + i)
  rw [UInt32.toBitVec_shiftRight]
  show (x.toUInt32.toBitVec >>> (((nI n).toUInt32 &&& Int32.toUInt32 31).toBitVec % 32).toNat).getLsbD i = _
  rw [s_u n hn, BitVec.getLsbD_ushiftRight]
theorem b_sshr (n : Nat) (hn : n < 32) (x : Int32) {i : Nat} (hi : i < 32) : bt (x >>> (nI n &&& 31)) i = if n + i < 32 then bt x (n + i) else bt x 31 := by
  unfold bt
  rw [Int32.toBitVec_shiftRight]
  show (x.toBitVec.sshiftRight ((nI n &&& 31).toBitVec.smod 32).toNat).getLsbD i = _
  rw [s_l n hn, BitVec.getLsbD_sshiftRight, BitVec.msb_eq_getLsbD_last]
  simp [hi]
theorem b_shl8 (x : Int32) {i : Nat} (hi : i < 32) : bt (x <<< ((8 : Int32) &&& 31)) i = (decide (8 ≤ i) && bt x (i - 8)) := b_shl 8 (by omega) x hi
theorem b_shl16 (x : Int32) {i : Nat} (hi : i < 32) : bt (x <<< ((16 : Int32) &&& 31)) i = (decide (16 ≤ i) && bt x (i - 16)) := b_shl 16 (by omega) x hi
theorem b_shl24 (x : Int32) {i : Nat} (hi : i < 32) : bt (x <<< ((24 : Int32) &&& 31)) i = (decide (24 ≤ i) && bt x (i - 24)) := b_shl 24 (by omega) x hi
theorem b_sshr8 (x : Int32) {i : Nat} (hi : i < 32) : bt (x >>> ((8 : Int32) &&& 31)) i = if 8 + i < 32 then bt x (8 + i) else bt x 31 := b_sshr 8 (by omega) x hi
end
section
/-! TimerWheel -/
set_option maxRecDepth 100000
def RX0 : String := "TimerWheel"
def TX0 : u_T := fun k => match k with
  | 0 => ("TimerWheel", "time", "I", false)
  | 1 => ("TimerWheel", "setOnes", "I", false)
  | 2 => ("TimerWheel", "due", "[I", true)
  | 3 => ("TimerWheel", "periods", "[S", true)
  | 4 => ("TimerWheel", "wheel", "[I", true)
  | 5 => ("TimerWheel", "cellOf", "[B", true)
  | 6 => ("TimerWheel", "ringCount", "I", false)
  | 7 => ("TimerWheel", "row", "[B", true)
  | _ => ("TimerWheel", "rowAt", "[I", true)
def tyX0 : Nat → FieldType := fun k => match k with
  | 0 => .int
  | 1 => .int
  | 2 => .array .int
  | 3 => .array .short
  | 4 => .array .int
  | 5 => .array .byte
  | 6 => .int
  | 7 => .array .byte
  | _ => .array .int
abbrev wsX00 : List Cond := u_ws RX0 TX0 9
theorem nmX0 : ∀ a, a < 9 → ∀ b, b < 9 → a ≠ b → (TX0 a).2.1 ≠ (TX0 b).2.1 := by decide +kernel
theorem tyX0_ok : ∀ k, k < 9 → parseFieldDescriptor (TX0 k).2.2.1 = some (tyX0 k) := by decide +kernel
abbrev cX0_init : ByteArray := prog_1_method_1_code
def yX0_init : MethodName := ⟨RX0, "<init>", "()V"⟩
abbrev cX0_set : ByteArray := prog_1_method_9_code
def yX0_set : MethodName := ⟨RX0, "set", "(III)I"⟩
abbrev cX0_isPeriod : ByteArray := prog_1_method_3_code
def yX0_isPeriod : MethodName := ⟨RX0, "isPeriod", "(I)Z"⟩
abbrev cX0_isSet : ByteArray := prog_1_method_2_code
def yX0_isSet : MethodName := ⟨RX0, "isSet", "(I)Z"⟩
abbrev cX0_unplace : ByteArray := prog_1_method_5_code
def yX0_unplace : MethodName := ⟨RX0, "unplace", "(I)V"⟩
abbrev cX0_place : ByteArray := prog_1_method_4_code
def yX0_place : MethodName := ⟨RX0, "place", "(I)V"⟩
abbrev cX0_cancel : ByteArray := prog_1_method_10_code
def yX0_cancel : MethodName := ⟨RX0, "cancel", "(I)I"⟩
abbrev cX0_pass : ByteArray := prog_1_method_11_code
def yX0_pass : MethodName := ⟨RX0, "pass", "(I)I"⟩
abbrev cX0_tick : ByteArray := prog_1_method_7_code
def yX0_tick : MethodName := ⟨RX0, "tick", "()I"⟩
abbrev cX0_moveDown : ByteArray := prog_1_method_6_code
def yX0_moveDown : MethodName := ⟨RX0, "moveDown", "(I)V"⟩
abbrev cX0_ring : ByteArray := prog_1_method_8_code
def yX0_ring : MethodName := ⟨RX0, "ring", "(I)V"⟩
abbrev cX0_toNext : ByteArray := prog_1_method_12_code
def yX0_toNext : MethodName := ⟨RX0, "toNext", "()I"⟩
abbrev cX0_now : ByteArray := prog_1_method_13_code
def yX0_now : MethodName := ⟨RX0, "now", "()I"⟩
abbrev cX0_timers : ByteArray := prog_1_method_14_code
def yX0_timers : MethodName := ⟨RX0, "timers", "()I"⟩
abbrev cX0_left : ByteArray := prog_1_method_15_code
def yX0_left : MethodName := ⟨RX0, "left", "(I)I"⟩
abbrev cX0_next : ByteArray := prog_1_method_16_code
def yX0_next : MethodName := ⟨RX0, "next", "()I"⟩
abbrev cX0_within : ByteArray := prog_1_method_17_code
def yX0_within : MethodName := ⟨RX0, "within", "(I)I"⟩
abbrev cX0_rings : ByteArray := prog_1_method_18_code
def yX0_rings : MethodName := ⟨RX0, "rings", "()I"⟩
abbrev cX0_rung : ByteArray := prog_1_method_19_code
def yX0_rung : MethodName := ⟨RX0, "rung", "(I)I"⟩
abbrev cX0_isNoted : ByteArray := prog_1_method_21_code
def yX0_isNoted : MethodName := ⟨RX0, "isNoted", "(I)Z"⟩
abbrev cX0_rungAt : ByteArray := prog_1_method_20_code
def yX0_rungAt : MethodName := ⟨RX0, "rungAt", "(I)I"⟩
abbrev cX0_repeat : ByteArray := prog_1_method_22_code
def yX0_repeat : MethodName := ⟨RX0, "repeat", "(II)Z"⟩
abbrev cX0_period : ByteArray := prog_1_method_23_code
def yX0_period : MethodName := ⟨RX0, "period", "(I)I"⟩
theorem q12 : (Jvm.Cond.initialized "TimerWheel") ∈ lw_all := lw_g (lw_at lw_m0 1 rfl) rfl
theorem q15 : (Jvm.Cond.instantiable "TimerWheel" (9 : Nat)) ∈ lw_all := lw_g (lw_at lw_m0 4 rfl) rfl
theorem q17 : (Jvm.Cond.instanceMethod ({ cls := "TimerWheel", name := "<init>", desc := "()V" } : Jvm.MethodName)) ∈ lw_all := lw_g (lw_at lw_m0 6 rfl) rfl
theorem q18 : (Jvm.Cond.code ({ cls := "TimerWheel", name := "<init>", desc := "()V" } : Jvm.MethodName) prog_1_method_1_code (1 : Nat) (Option.none : Option Jvm.ClassFile.FieldType)) ∈ lw_all := lw_g (lw_at lw_m0 7 rfl) rfl
theorem q19 : (Jvm.Cond.methodLink "TimerWheel" (1 : Nat) ({ cls := "java/lang/Object", name := "<init>", desc := "()V" } : Jvm.MethodName)) ∈ lw_all := lw_g (lw_at lw_m0 8 rfl) rfl
theorem q22 : (Jvm.Cond.fieldLink "TimerWheel" (34 : Nat) "TimerWheel" "time" "I") ∈ lw_all := lw_g (lw_at lw_m0 11 rfl) rfl
theorem q23 : (Jvm.Cond.fieldLink "TimerWheel" (30 : Nat) "TimerWheel" "setOnes" "I") ∈ lw_all := lw_g (lw_at lw_m0 12 rfl) rfl
theorem q24 : (Jvm.Cond.fieldLink "TimerWheel" (7 : Nat) "TimerWheel" "due" "[I") ∈ lw_all := lw_g (lw_at lw_m0 13 rfl) rfl
theorem q25 : (Jvm.Cond.fieldLink "TimerWheel" (13 : Nat) "TimerWheel" "periods" "[S") ∈ lw_all := lw_g (lw_at lw_m0 14 rfl) rfl
theorem q26 : (Jvm.Cond.fieldLink "TimerWheel" (17 : Nat) "TimerWheel" "wheel" "[I") ∈ lw_all := lw_g (lw_at lw_m0 15 rfl) rfl
theorem q27 : (Jvm.Cond.fieldLink "TimerWheel" (20 : Nat) "TimerWheel" "cellOf" "[B") ∈ lw_all := lw_g (lw_at lw_m0 16 rfl) rfl
theorem q28 : (Jvm.Cond.fieldLink "TimerWheel" (47 : Nat) "TimerWheel" "ringCount" "I") ∈ lw_all := lw_g (lw_at lw_m0 17 rfl) rfl
theorem q29 : (Jvm.Cond.fieldLink "TimerWheel" (24 : Nat) "TimerWheel" "row" "[B") ∈ lw_all := lw_g (lw_at lw_m0 18 rfl) rfl
theorem q30 : (Jvm.Cond.fieldLink "TimerWheel" (27 : Nat) "TimerWheel" "rowAt" "[I") ∈ lw_all := lw_g (lw_at lw_m0 19 rfl) rfl
theorem q31 : (Jvm.Cond.lays "TimerWheel" "TimerWheel" "time" "I") ∈ lw_all := lw_g (lw_at lw_m0 20 rfl) rfl
theorem q32 : (Jvm.Cond.soleField "TimerWheel" "time") ∈ lw_all := lw_g (lw_at lw_m0 21 rfl) rfl
theorem q33 : (Jvm.Cond.lays "TimerWheel" "TimerWheel" "setOnes" "I") ∈ lw_all := lw_g (lw_at lw_m0 22 rfl) rfl
theorem q34 : (Jvm.Cond.soleField "TimerWheel" "setOnes") ∈ lw_all := lw_g (lw_at lw_m0 23 rfl) rfl
theorem q35 : (Jvm.Cond.laysFinal "TimerWheel" "TimerWheel" "due" "[I") ∈ lw_all := lw_g (lw_at lw_m0 24 rfl) rfl
theorem q36 : (Jvm.Cond.soleField "TimerWheel" "due") ∈ lw_all := lw_g (lw_at lw_m0 25 rfl) rfl
theorem q37 : (Jvm.Cond.laysFinal "TimerWheel" "TimerWheel" "periods" "[S") ∈ lw_all := lw_g (lw_at lw_m0 26 rfl) rfl
theorem q38 : (Jvm.Cond.soleField "TimerWheel" "periods") ∈ lw_all := lw_g (lw_at lw_m0 27 rfl) rfl
theorem q39 : (Jvm.Cond.laysFinal "TimerWheel" "TimerWheel" "wheel" "[I") ∈ lw_all := lw_g (lw_at lw_m0 28 rfl) rfl
theorem q40 : (Jvm.Cond.soleField "TimerWheel" "wheel") ∈ lw_all := lw_g (lw_at lw_m0 29 rfl) rfl
theorem q41 : (Jvm.Cond.laysFinal "TimerWheel" "TimerWheel" "cellOf" "[B") ∈ lw_all := lw_g (lw_at lw_m0 30 rfl) rfl
theorem q42 : (Jvm.Cond.soleField "TimerWheel" "cellOf") ∈ lw_all := lw_g (lw_at lw_m0 31 rfl) rfl
theorem q43 : (Jvm.Cond.lays "TimerWheel" "TimerWheel" "ringCount" "I") ∈ lw_all := lw_g (lw_at lw_m0 32 rfl) rfl
theorem q44 : (Jvm.Cond.soleField "TimerWheel" "ringCount") ∈ lw_all := lw_g (lw_at lw_m0 33 rfl) rfl
theorem q45 : (Jvm.Cond.laysFinal "TimerWheel" "TimerWheel" "row" "[B") ∈ lw_all := lw_g (lw_at lw_m0 34 rfl) rfl
theorem q46 : (Jvm.Cond.soleField "TimerWheel" "row") ∈ lw_all := lw_g (lw_at lw_m0 35 rfl) rfl
theorem q47 : (Jvm.Cond.laysFinal "TimerWheel" "TimerWheel" "rowAt" "[I") ∈ lw_all := lw_g (lw_at lw_m0 36 rfl) rfl
theorem q48 : (Jvm.Cond.soleField "TimerWheel" "rowAt") ∈ lw_all := lw_g (lw_at lw_m0 37 rfl) rfl
theorem q49 : (Jvm.Cond.superclass "TimerWheel" "java/lang/Object") ∈ lw_all := lw_g (lw_at lw_m0 38 rfl) rfl
theorem q54 : (Jvm.Cond.instanceMethod ({ cls := "TimerWheel", name := "set", desc := "(III)I" } : Jvm.MethodName)) ∈ lw_all := lw_g (lw_at lw_m0 43 rfl) rfl
theorem q55 : (Jvm.Cond.selects "TimerWheel" ({ cls := "TimerWheel", name := "set", desc := "(III)I" } : Jvm.MethodName) ({ cls := "TimerWheel", name := "set", desc := "(III)I" } : Jvm.MethodName)) ∈ lw_all := lw_g (lw_at lw_m0 44 rfl) rfl
theorem q56 : (Jvm.Cond.code ({ cls := "TimerWheel", name := "set", desc := "(III)I" } : Jvm.MethodName) prog_1_method_9_code (4 : Nat) (Option.some Jvm.ClassFile.FieldType.int)) ∈ lw_all := lw_g (lw_at lw_m0 45 rfl) rfl
theorem q57 : (Jvm.Cond.methodLink "TimerWheel" (50 : Nat) ({ cls := "TimerWheel", name := "isPeriod", desc := "(I)Z" } : Jvm.MethodName)) ∈ lw_all := lw_g (lw_at lw_m0 46 rfl) rfl
theorem q58 : (Jvm.Cond.static ({ cls := "TimerWheel", name := "isPeriod", desc := "(I)Z" } : Jvm.MethodName)) ∈ lw_all := lw_g (lw_at lw_m0 47 rfl) rfl
theorem q59 : (Jvm.Cond.code ({ cls := "TimerWheel", name := "isPeriod", desc := "(I)Z" } : Jvm.MethodName) prog_1_method_3_code (1 : Nat) (Option.some Jvm.ClassFile.FieldType.boolean)) ∈ lw_all := lw_g (lw_at lw_m0 48 rfl) rfl
theorem q60 : (Jvm.Cond.methodLink "TimerWheel" (54 : Nat) ({ cls := "TimerWheel", name := "isSet", desc := "(I)Z" } : Jvm.MethodName)) ∈ lw_all := lw_g (lw_at lw_m0 49 rfl) rfl
theorem q61 : (Jvm.Cond.privateMethod ({ cls := "TimerWheel", name := "isSet", desc := "(I)Z" } : Jvm.MethodName)) ∈ lw_tbl := lw_at lw_m0 50 rfl
theorem q62 : (Jvm.Cond.instanceMethod ({ cls := "TimerWheel", name := "isSet", desc := "(I)Z" } : Jvm.MethodName)) ∈ lw_all := lw_g (lw_at lw_m0 51 rfl) rfl
theorem q63 : (Jvm.Cond.code ({ cls := "TimerWheel", name := "isSet", desc := "(I)Z" } : Jvm.MethodName) prog_1_method_2_code (2 : Nat) (Option.some Jvm.ClassFile.FieldType.boolean)) ∈ lw_all := lw_g (lw_at lw_m0 52 rfl) rfl
theorem q64 : (Jvm.Cond.methodLink "TimerWheel" (57 : Nat) ({ cls := "TimerWheel", name := "unplace", desc := "(I)V" } : Jvm.MethodName)) ∈ lw_all := lw_g (lw_at lw_m0 53 rfl) rfl
theorem q65 : (Jvm.Cond.privateMethod ({ cls := "TimerWheel", name := "unplace", desc := "(I)V" } : Jvm.MethodName)) ∈ lw_tbl := lw_at lw_m0 54 rfl
theorem q66 : (Jvm.Cond.instanceMethod ({ cls := "TimerWheel", name := "unplace", desc := "(I)V" } : Jvm.MethodName)) ∈ lw_all := lw_g (lw_at lw_m0 55 rfl) rfl
theorem q67 : (Jvm.Cond.code ({ cls := "TimerWheel", name := "unplace", desc := "(I)V" } : Jvm.MethodName) prog_1_method_5_code (3 : Nat) (Option.none : Option Jvm.ClassFile.FieldType)) ∈ lw_all := lw_g (lw_at lw_m0 56 rfl) rfl
theorem q68 : (Jvm.Cond.methodLink "TimerWheel" (37 : Nat) ({ cls := "TimerWheel", name := "place", desc := "(I)V" } : Jvm.MethodName)) ∈ lw_all := lw_g (lw_at lw_m0 57 rfl) rfl
theorem q69 : (Jvm.Cond.privateMethod ({ cls := "TimerWheel", name := "place", desc := "(I)V" } : Jvm.MethodName)) ∈ lw_tbl := lw_at lw_m0 58 rfl
theorem q70 : (Jvm.Cond.instanceMethod ({ cls := "TimerWheel", name := "place", desc := "(I)V" } : Jvm.MethodName)) ∈ lw_all := lw_g (lw_at lw_m0 59 rfl) rfl
theorem q71 : (Jvm.Cond.code ({ cls := "TimerWheel", name := "place", desc := "(I)V" } : Jvm.MethodName) prog_1_method_4_code (4 : Nat) (Option.none : Option Jvm.ClassFile.FieldType)) ∈ lw_all := lw_g (lw_at lw_m0 60 rfl) rfl
theorem q73 : (Jvm.Cond.instanceMethod ({ cls := "TimerWheel", name := "cancel", desc := "(I)I" } : Jvm.MethodName)) ∈ lw_all := lw_g (lw_at lw_m0 62 rfl) rfl
theorem q74 : (Jvm.Cond.selects "TimerWheel" ({ cls := "TimerWheel", name := "cancel", desc := "(I)I" } : Jvm.MethodName) ({ cls := "TimerWheel", name := "cancel", desc := "(I)I" } : Jvm.MethodName)) ∈ lw_all := lw_g (lw_at lw_m0 63 rfl) rfl
theorem q75 : (Jvm.Cond.code ({ cls := "TimerWheel", name := "cancel", desc := "(I)I" } : Jvm.MethodName) prog_1_method_10_code (2 : Nat) (Option.some Jvm.ClassFile.FieldType.int)) ∈ lw_all := lw_g (lw_at lw_m0 64 rfl) rfl
theorem q77 : (Jvm.Cond.instanceMethod ({ cls := "TimerWheel", name := "pass", desc := "(I)I" } : Jvm.MethodName)) ∈ lw_all := lw_g (lw_at lw_m0 66 rfl) rfl
theorem q78 : (Jvm.Cond.selects "TimerWheel" ({ cls := "TimerWheel", name := "pass", desc := "(I)I" } : Jvm.MethodName) ({ cls := "TimerWheel", name := "pass", desc := "(I)I" } : Jvm.MethodName)) ∈ lw_all := lw_g (lw_at lw_m0 67 rfl) rfl
theorem q79 : (Jvm.Cond.code ({ cls := "TimerWheel", name := "pass", desc := "(I)I" } : Jvm.MethodName) prog_1_method_11_code (4 : Nat) (Option.some Jvm.ClassFile.FieldType.int)) ∈ lw_all := lw_g (lw_at lw_m0 68 rfl) rfl
theorem q80 : (Jvm.Cond.methodLink "TimerWheel" (60 : Nat) ({ cls := "TimerWheel", name := "tick", desc := "()I" } : Jvm.MethodName)) ∈ lw_all := lw_g (lw_at lw_m0 69 rfl) rfl
theorem q81 : (Jvm.Cond.privateMethod ({ cls := "TimerWheel", name := "tick", desc := "()I" } : Jvm.MethodName)) ∈ lw_tbl := lw_at lw_m0 70 rfl
theorem q82 : (Jvm.Cond.instanceMethod ({ cls := "TimerWheel", name := "tick", desc := "()I" } : Jvm.MethodName)) ∈ lw_all := lw_g (lw_at lw_m0 71 rfl) rfl
theorem q83 : (Jvm.Cond.code ({ cls := "TimerWheel", name := "tick", desc := "()I" } : Jvm.MethodName) prog_1_method_7_code (5 : Nat) (Option.some Jvm.ClassFile.FieldType.int)) ∈ lw_all := lw_g (lw_at lw_m0 72 rfl) rfl
theorem q84 : (Jvm.Cond.methodLink "TimerWheel" (41 : Nat) ({ cls := "TimerWheel", name := "moveDown", desc := "(I)V" } : Jvm.MethodName)) ∈ lw_all := lw_g (lw_at lw_m0 73 rfl) rfl
theorem q85 : (Jvm.Cond.privateMethod ({ cls := "TimerWheel", name := "moveDown", desc := "(I)V" } : Jvm.MethodName)) ∈ lw_tbl := lw_at lw_m0 74 rfl
theorem q86 : (Jvm.Cond.instanceMethod ({ cls := "TimerWheel", name := "moveDown", desc := "(I)V" } : Jvm.MethodName)) ∈ lw_all := lw_g (lw_at lw_m0 75 rfl) rfl
theorem q87 : (Jvm.Cond.code ({ cls := "TimerWheel", name := "moveDown", desc := "(I)V" } : Jvm.MethodName) prog_1_method_6_code (4 : Nat) (Option.none : Option Jvm.ClassFile.FieldType)) ∈ lw_all := lw_g (lw_at lw_m0 76 rfl) rfl
theorem q88 : (Jvm.Cond.methodLink "TimerWheel" (44 : Nat) ({ cls := "TimerWheel", name := "ring", desc := "(I)V" } : Jvm.MethodName)) ∈ lw_all := lw_g (lw_at lw_m0 77 rfl) rfl
theorem q89 : (Jvm.Cond.privateMethod ({ cls := "TimerWheel", name := "ring", desc := "(I)V" } : Jvm.MethodName)) ∈ lw_tbl := lw_at lw_m0 78 rfl
theorem q90 : (Jvm.Cond.instanceMethod ({ cls := "TimerWheel", name := "ring", desc := "(I)V" } : Jvm.MethodName)) ∈ lw_all := lw_g (lw_at lw_m0 79 rfl) rfl
theorem q91 : (Jvm.Cond.code ({ cls := "TimerWheel", name := "ring", desc := "(I)V" } : Jvm.MethodName) prog_1_method_8_code (3 : Nat) (Option.none : Option Jvm.ClassFile.FieldType)) ∈ lw_all := lw_g (lw_at lw_m0 80 rfl) rfl
theorem q93 : (Jvm.Cond.instanceMethod ({ cls := "TimerWheel", name := "toNext", desc := "()I" } : Jvm.MethodName)) ∈ lw_all := lw_g (lw_at lw_m0 82 rfl) rfl
theorem q94 : (Jvm.Cond.selects "TimerWheel" ({ cls := "TimerWheel", name := "toNext", desc := "()I" } : Jvm.MethodName) ({ cls := "TimerWheel", name := "toNext", desc := "()I" } : Jvm.MethodName)) ∈ lw_all := lw_g (lw_at lw_m0 83 rfl) rfl
theorem q95 : (Jvm.Cond.code ({ cls := "TimerWheel", name := "toNext", desc := "()I" } : Jvm.MethodName) prog_1_method_12_code (3 : Nat) (Option.some Jvm.ClassFile.FieldType.int)) ∈ lw_all := lw_g (lw_at lw_m0 84 rfl) rfl
theorem q97 : (Jvm.Cond.instanceMethod ({ cls := "TimerWheel", name := "now", desc := "()I" } : Jvm.MethodName)) ∈ lw_all := lw_g (lw_at lw_m0 86 rfl) rfl
theorem q98 : (Jvm.Cond.selects "TimerWheel" ({ cls := "TimerWheel", name := "now", desc := "()I" } : Jvm.MethodName) ({ cls := "TimerWheel", name := "now", desc := "()I" } : Jvm.MethodName)) ∈ lw_all := lw_g (lw_at lw_m0 87 rfl) rfl
theorem q99 : (Jvm.Cond.code ({ cls := "TimerWheel", name := "now", desc := "()I" } : Jvm.MethodName) prog_1_method_13_code (1 : Nat) (Option.some Jvm.ClassFile.FieldType.int)) ∈ lw_all := lw_g (lw_at lw_m0 88 rfl) rfl
theorem q101 : (Jvm.Cond.instanceMethod ({ cls := "TimerWheel", name := "timers", desc := "()I" } : Jvm.MethodName)) ∈ lw_all := lw_g (lw_at lw_m0 90 rfl) rfl
theorem q102 : (Jvm.Cond.selects "TimerWheel" ({ cls := "TimerWheel", name := "timers", desc := "()I" } : Jvm.MethodName) ({ cls := "TimerWheel", name := "timers", desc := "()I" } : Jvm.MethodName)) ∈ lw_all := lw_g (lw_at lw_m0 91 rfl) rfl
theorem q103 : (Jvm.Cond.code ({ cls := "TimerWheel", name := "timers", desc := "()I" } : Jvm.MethodName) prog_1_method_14_code (1 : Nat) (Option.some Jvm.ClassFile.FieldType.int)) ∈ lw_all := lw_g (lw_at lw_m0 92 rfl) rfl
theorem q105 : (Jvm.Cond.instanceMethod ({ cls := "TimerWheel", name := "left", desc := "(I)I" } : Jvm.MethodName)) ∈ lw_all := lw_g (lw_at lw_m0 94 rfl) rfl
theorem q106 : (Jvm.Cond.selects "TimerWheel" ({ cls := "TimerWheel", name := "left", desc := "(I)I" } : Jvm.MethodName) ({ cls := "TimerWheel", name := "left", desc := "(I)I" } : Jvm.MethodName)) ∈ lw_all := lw_g (lw_at lw_m0 95 rfl) rfl
theorem q107 : (Jvm.Cond.code ({ cls := "TimerWheel", name := "left", desc := "(I)I" } : Jvm.MethodName) prog_1_method_15_code (2 : Nat) (Option.some Jvm.ClassFile.FieldType.int)) ∈ lw_all := lw_g (lw_at lw_m0 96 rfl) rfl
theorem q109 : (Jvm.Cond.instanceMethod ({ cls := "TimerWheel", name := "next", desc := "()I" } : Jvm.MethodName)) ∈ lw_all := lw_g (lw_at lw_m0 98 rfl) rfl
theorem q110 : (Jvm.Cond.selects "TimerWheel" ({ cls := "TimerWheel", name := "next", desc := "()I" } : Jvm.MethodName) ({ cls := "TimerWheel", name := "next", desc := "()I" } : Jvm.MethodName)) ∈ lw_all := lw_g (lw_at lw_m0 99 rfl) rfl
theorem q111 : (Jvm.Cond.code ({ cls := "TimerWheel", name := "next", desc := "()I" } : Jvm.MethodName) prog_1_method_16_code (3 : Nat) (Option.some Jvm.ClassFile.FieldType.int)) ∈ lw_all := lw_g (lw_at lw_m0 100 rfl) rfl
theorem q113 : (Jvm.Cond.instanceMethod ({ cls := "TimerWheel", name := "within", desc := "(I)I" } : Jvm.MethodName)) ∈ lw_all := lw_g (lw_at lw_m0 102 rfl) rfl
theorem q114 : (Jvm.Cond.selects "TimerWheel" ({ cls := "TimerWheel", name := "within", desc := "(I)I" } : Jvm.MethodName) ({ cls := "TimerWheel", name := "within", desc := "(I)I" } : Jvm.MethodName)) ∈ lw_all := lw_g (lw_at lw_m0 103 rfl) rfl
theorem q115 : (Jvm.Cond.code ({ cls := "TimerWheel", name := "within", desc := "(I)I" } : Jvm.MethodName) prog_1_method_17_code (4 : Nat) (Option.some Jvm.ClassFile.FieldType.int)) ∈ lw_all := lw_g (lw_at lw_m0 104 rfl) rfl
theorem q117 : (Jvm.Cond.instanceMethod ({ cls := "TimerWheel", name := "rings", desc := "()I" } : Jvm.MethodName)) ∈ lw_all := lw_g (lw_at lw_m0 106 rfl) rfl
theorem q118 : (Jvm.Cond.selects "TimerWheel" ({ cls := "TimerWheel", name := "rings", desc := "()I" } : Jvm.MethodName) ({ cls := "TimerWheel", name := "rings", desc := "()I" } : Jvm.MethodName)) ∈ lw_all := lw_g (lw_at lw_m0 107 rfl) rfl
theorem q119 : (Jvm.Cond.code ({ cls := "TimerWheel", name := "rings", desc := "()I" } : Jvm.MethodName) prog_1_method_18_code (1 : Nat) (Option.some Jvm.ClassFile.FieldType.int)) ∈ lw_all := lw_g (lw_at lw_m0 108 rfl) rfl
theorem q121 : (Jvm.Cond.instanceMethod ({ cls := "TimerWheel", name := "rung", desc := "(I)I" } : Jvm.MethodName)) ∈ lw_all := lw_g (lw_at lw_m0 110 rfl) rfl
theorem q122 : (Jvm.Cond.selects "TimerWheel" ({ cls := "TimerWheel", name := "rung", desc := "(I)I" } : Jvm.MethodName) ({ cls := "TimerWheel", name := "rung", desc := "(I)I" } : Jvm.MethodName)) ∈ lw_all := lw_g (lw_at lw_m0 111 rfl) rfl
theorem q123 : (Jvm.Cond.code ({ cls := "TimerWheel", name := "rung", desc := "(I)I" } : Jvm.MethodName) prog_1_method_19_code (2 : Nat) (Option.some Jvm.ClassFile.FieldType.int)) ∈ lw_all := lw_g (lw_at lw_m0 112 rfl) rfl
theorem q124 : (Jvm.Cond.methodLink "TimerWheel" (64 : Nat) ({ cls := "TimerWheel", name := "isNoted", desc := "(I)Z" } : Jvm.MethodName)) ∈ lw_all := lw_g (lw_at lw_m0 113 rfl) rfl
theorem q125 : (Jvm.Cond.privateMethod ({ cls := "TimerWheel", name := "isNoted", desc := "(I)Z" } : Jvm.MethodName)) ∈ lw_tbl := lw_at lw_m0 114 rfl
theorem q126 : (Jvm.Cond.instanceMethod ({ cls := "TimerWheel", name := "isNoted", desc := "(I)Z" } : Jvm.MethodName)) ∈ lw_all := lw_g (lw_at lw_m0 115 rfl) rfl
theorem q127 : (Jvm.Cond.code ({ cls := "TimerWheel", name := "isNoted", desc := "(I)Z" } : Jvm.MethodName) prog_1_method_21_code (2 : Nat) (Option.some Jvm.ClassFile.FieldType.boolean)) ∈ lw_all := lw_g (lw_at lw_m0 116 rfl) rfl
theorem q129 : (Jvm.Cond.instanceMethod ({ cls := "TimerWheel", name := "rungAt", desc := "(I)I" } : Jvm.MethodName)) ∈ lw_all := lw_g (lw_at lw_m0 118 rfl) rfl
theorem q130 : (Jvm.Cond.selects "TimerWheel" ({ cls := "TimerWheel", name := "rungAt", desc := "(I)I" } : Jvm.MethodName) ({ cls := "TimerWheel", name := "rungAt", desc := "(I)I" } : Jvm.MethodName)) ∈ lw_all := lw_g (lw_at lw_m0 119 rfl) rfl
theorem q131 : (Jvm.Cond.code ({ cls := "TimerWheel", name := "rungAt", desc := "(I)I" } : Jvm.MethodName) prog_1_method_20_code (2 : Nat) (Option.some Jvm.ClassFile.FieldType.int)) ∈ lw_all := lw_g (lw_at lw_m0 120 rfl) rfl
theorem q133 : (Jvm.Cond.instanceMethod ({ cls := "TimerWheel", name := "repeat", desc := "(II)Z" } : Jvm.MethodName)) ∈ lw_all := lw_g (lw_at lw_m0 122 rfl) rfl
theorem q134 : (Jvm.Cond.selects "TimerWheel" ({ cls := "TimerWheel", name := "repeat", desc := "(II)Z" } : Jvm.MethodName) ({ cls := "TimerWheel", name := "repeat", desc := "(II)Z" } : Jvm.MethodName)) ∈ lw_all := lw_g (lw_at lw_m0 123 rfl) rfl
theorem q135 : (Jvm.Cond.code ({ cls := "TimerWheel", name := "repeat", desc := "(II)Z" } : Jvm.MethodName) prog_1_method_22_code (3 : Nat) (Option.some Jvm.ClassFile.FieldType.boolean)) ∈ lw_all := lw_g (lw_at lw_m0 124 rfl) rfl
theorem q137 : (Jvm.Cond.instanceMethod ({ cls := "TimerWheel", name := "period", desc := "(I)I" } : Jvm.MethodName)) ∈ lw_all := lw_g (lw_at lw_m0 126 rfl) rfl
theorem q138 : (Jvm.Cond.selects "TimerWheel" ({ cls := "TimerWheel", name := "period", desc := "(I)I" } : Jvm.MethodName) ({ cls := "TimerWheel", name := "period", desc := "(I)I" } : Jvm.MethodName)) ∈ lw_all := lw_g (lw_at lw_m0 127 rfl) rfl
theorem q139 : (Jvm.Cond.code ({ cls := "TimerWheel", name := "period", desc := "(I)I" } : Jvm.MethodName) prog_1_method_23_code (2 : Nat) (Option.some Jvm.ClassFile.FieldType.int)) ∈ lw_all := lw_g (lw_at lw_m0 128 rfl) rfl
theorem in_X0 : ∀ w ∈ wsX00, w ∈ lw_all := lw_in wsX00 [31, 33, 35, 37, 39, 41, 43, 45, 47] (by decide +kernel) (by decide +kernel)
theorem dX0_init_0 : decode cX0_init 0 = .ok (.aload_n 0, 1) := by decide +kernel
theorem dX0_init_1 : decode cX0_init 1 = .ok (.invokespecial 1, 3) := by decide +kernel
theorem dX0_init_4 : decode cX0_init 4 = .ok (.aload_n 0, 1) := by decide +kernel
theorem dX0_init_5 : decode cX0_init 5 = .ok (.bipush 16, 2) := by decide +kernel
theorem dX0_init_7 : decode cX0_init 7 = .ok (.newarray .int, 2) := by decide +kernel
theorem dX0_init_9 : decode cX0_init 9 = .ok (.putfield 7, 3) := by decide +kernel
theorem dX0_init_12 : decode cX0_init 12 = .ok (.aload_n 0, 1) := by decide +kernel
theorem dX0_init_13 : decode cX0_init 13 = .ok (.bipush 16, 2) := by decide +kernel
theorem dX0_init_15 : decode cX0_init 15 = .ok (.newarray .short, 2) := by decide +kernel
theorem dX0_init_17 : decode cX0_init 17 = .ok (.putfield 13, 3) := by decide +kernel
theorem dX0_init_20 : decode cX0_init 20 = .ok (.aload_n 0, 1) := by decide +kernel
theorem dX0_init_21 : decode cX0_init 21 = .ok (.bipush 24, 2) := by decide +kernel
theorem dX0_init_23 : decode cX0_init 23 = .ok (.newarray .int, 2) := by decide +kernel
theorem dX0_init_25 : decode cX0_init 25 = .ok (.putfield 17, 3) := by decide +kernel
theorem dX0_init_28 : decode cX0_init 28 = .ok (.aload_n 0, 1) := by decide +kernel
theorem dX0_init_29 : decode cX0_init 29 = .ok (.bipush 16, 2) := by decide +kernel
theorem dX0_init_31 : decode cX0_init 31 = .ok (.newarray .byte, 2) := by decide +kernel
theorem dX0_init_33 : decode cX0_init 33 = .ok (.putfield 20, 3) := by decide +kernel
theorem dX0_init_36 : decode cX0_init 36 = .ok (.aload_n 0, 1) := by decide +kernel
theorem dX0_init_37 : decode cX0_init 37 = .ok (.bipush 20, 2) := by decide +kernel
theorem dX0_init_39 : decode cX0_init 39 = .ok (.newarray .byte, 2) := by decide +kernel
theorem dX0_init_41 : decode cX0_init 41 = .ok (.putfield 24, 3) := by decide +kernel
theorem dX0_init_44 : decode cX0_init 44 = .ok (.aload_n 0, 1) := by decide +kernel
theorem dX0_init_45 : decode cX0_init 45 = .ok (.bipush 20, 2) := by decide +kernel
theorem dX0_init_47 : decode cX0_init 47 = .ok (.newarray .int, 2) := by decide +kernel
theorem dX0_init_49 : decode cX0_init 49 = .ok (.putfield 27, 3) := by decide +kernel
theorem dX0_init_52 : decode cX0_init 52 = .ok (.return_, 1) := by decide +kernel
theorem dX0_set_0 : decode cX0_set 0 = .ok (.iload_n 1, 1) := by decide +kernel
theorem dX0_set_1 : decode cX0_set 1 = .ok (.ifCond .lt 28, 3) := by decide +kernel
theorem dX0_set_4 : decode cX0_set 4 = .ok (.iload_n 1, 1) := by decide +kernel
theorem dX0_set_5 : decode cX0_set 5 = .ok (.bipush 16, 2) := by decide +kernel
theorem dX0_set_7 : decode cX0_set 7 = .ok (.if_icmp .ge 22, 3) := by decide +kernel
theorem dX0_set_10 : decode cX0_set 10 = .ok (.iload_n 2, 1) := by decide +kernel
theorem dX0_set_11 : decode cX0_set 11 = .ok (.iconst 1, 1) := by decide +kernel
theorem dX0_set_12 : decode cX0_set 12 = .ok (.if_icmp .lt 17, 3) := by decide +kernel
theorem dX0_set_15 : decode cX0_set 15 = .ok (.iload_n 2, 1) := by decide +kernel
theorem dX0_set_16 : decode cX0_set 16 = .ok (.sipush 500, 3) := by decide +kernel
theorem dX0_set_19 : decode cX0_set 19 = .ok (.if_icmp .gt 10, 3) := by decide +kernel
theorem dX0_set_22 : decode cX0_set 22 = .ok (.iload_n 3, 1) := by decide +kernel
theorem dX0_set_23 : decode cX0_set 23 = .ok (.invokestatic 50, 3) := by decide +kernel
theorem dX0_set_26 : decode cX0_set 26 = .ok (.ifCond .ne 5, 3) := by decide +kernel
theorem dX0_set_29 : decode cX0_set 29 = .ok (.iconst (-1), 1) := by decide +kernel
theorem dX0_set_30 : decode cX0_set 30 = .ok (.ireturn, 1) := by decide +kernel
theorem dX0_set_31 : decode cX0_set 31 = .ok (.aload_n 0, 1) := by decide +kernel
theorem dX0_set_32 : decode cX0_set 32 = .ok (.iload_n 1, 1) := by decide +kernel
theorem dX0_set_33 : decode cX0_set 33 = .ok (.invokevirtual 54, 3) := by decide +kernel
theorem dX0_set_36 : decode cX0_set 36 = .ok (.ifCond .eq 8, 3) := by decide +kernel
theorem dX0_set_39 : decode cX0_set 39 = .ok (.aload_n 0, 1) := by decide +kernel
theorem dX0_set_40 : decode cX0_set 40 = .ok (.iload_n 1, 1) := by decide +kernel
theorem dX0_set_41 : decode cX0_set 41 = .ok (.invokevirtual 57, 3) := by decide +kernel
theorem dX0_set_44 : decode cX0_set 44 = .ok (.aload_n 0, 1) := by decide +kernel
theorem dX0_set_45 : decode cX0_set 45 = .ok (.dup, 1) := by decide +kernel
theorem dX0_set_46 : decode cX0_set 46 = .ok (.getfield 30, 3) := by decide +kernel
theorem dX0_set_49 : decode cX0_set 49 = .ok (.iconst 1, 1) := by decide +kernel
theorem dX0_set_50 : decode cX0_set 50 = .ok (.iload_n 1, 1) := by decide +kernel
theorem dX0_set_51 : decode cX0_set 51 = .ok (.ishl, 1) := by decide +kernel
theorem dX0_set_52 : decode cX0_set 52 = .ok (.ior, 1) := by decide +kernel
theorem dX0_set_53 : decode cX0_set 53 = .ok (.putfield 30, 3) := by decide +kernel
theorem dX0_set_56 : decode cX0_set 56 = .ok (.aload_n 0, 1) := by decide +kernel
theorem dX0_set_57 : decode cX0_set 57 = .ok (.getfield 7, 3) := by decide +kernel
theorem dX0_set_60 : decode cX0_set 60 = .ok (.iload_n 1, 1) := by decide +kernel
theorem dX0_set_61 : decode cX0_set 61 = .ok (.aload_n 0, 1) := by decide +kernel
theorem dX0_set_62 : decode cX0_set 62 = .ok (.getfield 34, 3) := by decide +kernel
theorem dX0_set_65 : decode cX0_set 65 = .ok (.iload_n 2, 1) := by decide +kernel
theorem dX0_set_66 : decode cX0_set 66 = .ok (.iadd, 1) := by decide +kernel
theorem dX0_set_67 : decode cX0_set 67 = .ok (.iastore, 1) := by decide +kernel
theorem dX0_set_68 : decode cX0_set 68 = .ok (.aload_n 0, 1) := by decide +kernel
theorem dX0_set_69 : decode cX0_set 69 = .ok (.getfield 13, 3) := by decide +kernel
theorem dX0_set_72 : decode cX0_set 72 = .ok (.iload_n 1, 1) := by decide +kernel
theorem dX0_set_73 : decode cX0_set 73 = .ok (.iload_n 3, 1) := by decide +kernel
theorem dX0_set_74 : decode cX0_set 74 = .ok (.i2s, 1) := by decide +kernel
theorem dX0_set_75 : decode cX0_set 75 = .ok (.sastore, 1) := by decide +kernel
theorem dX0_set_76 : decode cX0_set 76 = .ok (.aload_n 0, 1) := by decide +kernel
theorem dX0_set_77 : decode cX0_set 77 = .ok (.iload_n 1, 1) := by decide +kernel
theorem dX0_set_78 : decode cX0_set 78 = .ok (.invokevirtual 37, 3) := by decide +kernel
theorem dX0_set_81 : decode cX0_set 81 = .ok (.aload_n 0, 1) := by decide +kernel
theorem dX0_set_82 : decode cX0_set 82 = .ok (.getfield 7, 3) := by decide +kernel
theorem dX0_set_85 : decode cX0_set 85 = .ok (.iload_n 1, 1) := by decide +kernel
theorem dX0_set_86 : decode cX0_set 86 = .ok (.iaload, 1) := by decide +kernel
theorem dX0_set_87 : decode cX0_set 87 = .ok (.ireturn, 1) := by decide +kernel
theorem dX0_isPeriod_0 : decode cX0_isPeriod 0 = .ok (.iload_n 0, 1) := by decide +kernel
theorem dX0_isPeriod_1 : decode cX0_isPeriod 1 = .ok (.ifCond .lt 14, 3) := by decide +kernel
theorem dX0_isPeriod_4 : decode cX0_isPeriod 4 = .ok (.iload_n 0, 1) := by decide +kernel
theorem dX0_isPeriod_5 : decode cX0_isPeriod 5 = .ok (.sipush 500, 3) := by decide +kernel
theorem dX0_isPeriod_8 : decode cX0_isPeriod 8 = .ok (.if_icmp .gt 7, 3) := by decide +kernel
theorem dX0_isPeriod_11 : decode cX0_isPeriod 11 = .ok (.iconst 1, 1) := by decide +kernel
theorem dX0_isPeriod_12 : decode cX0_isPeriod 12 = .ok (.goto 4, 3) := by decide +kernel
theorem dX0_isPeriod_15 : decode cX0_isPeriod 15 = .ok (.iconst 0, 1) := by decide +kernel
theorem dX0_isPeriod_16 : decode cX0_isPeriod 16 = .ok (.ireturn, 1) := by decide +kernel
theorem dX0_isSet_0 : decode cX0_isSet 0 = .ok (.iload_n 1, 1) := by decide +kernel
theorem dX0_isSet_1 : decode cX0_isSet 1 = .ok (.ifCond .lt 24, 3) := by decide +kernel
theorem dX0_isSet_4 : decode cX0_isSet 4 = .ok (.iload_n 1, 1) := by decide +kernel
theorem dX0_isSet_5 : decode cX0_isSet 5 = .ok (.bipush 16, 2) := by decide +kernel
theorem dX0_isSet_7 : decode cX0_isSet 7 = .ok (.if_icmp .ge 18, 3) := by decide +kernel
theorem dX0_isSet_10 : decode cX0_isSet 10 = .ok (.aload_n 0, 1) := by decide +kernel
theorem dX0_isSet_11 : decode cX0_isSet 11 = .ok (.getfield 30, 3) := by decide +kernel
theorem dX0_isSet_14 : decode cX0_isSet 14 = .ok (.iload_n 1, 1) := by decide +kernel
theorem dX0_isSet_15 : decode cX0_isSet 15 = .ok (.ishr, 1) := by decide +kernel
theorem dX0_isSet_16 : decode cX0_isSet 16 = .ok (.iconst 1, 1) := by decide +kernel
theorem dX0_isSet_17 : decode cX0_isSet 17 = .ok (.iand, 1) := by decide +kernel
theorem dX0_isSet_18 : decode cX0_isSet 18 = .ok (.ifCond .eq 7, 3) := by decide +kernel
theorem dX0_isSet_21 : decode cX0_isSet 21 = .ok (.iconst 1, 1) := by decide +kernel
theorem dX0_isSet_22 : decode cX0_isSet 22 = .ok (.goto 4, 3) := by decide +kernel
theorem dX0_isSet_25 : decode cX0_isSet 25 = .ok (.iconst 0, 1) := by decide +kernel
theorem dX0_isSet_26 : decode cX0_isSet 26 = .ok (.ireturn, 1) := by decide +kernel
theorem dX0_unplace_0 : decode cX0_unplace 0 = .ok (.aload_n 0, 1) := by decide +kernel
theorem dX0_unplace_1 : decode cX0_unplace 1 = .ok (.getfield 20, 3) := by decide +kernel
theorem dX0_unplace_4 : decode cX0_unplace 4 = .ok (.iload_n 1, 1) := by decide +kernel
theorem dX0_unplace_5 : decode cX0_unplace 5 = .ok (.baload, 1) := by decide +kernel
theorem dX0_unplace_6 : decode cX0_unplace 6 = .ok (.istore_n 2, 1) := by decide +kernel
theorem dX0_unplace_7 : decode cX0_unplace 7 = .ok (.aload_n 0, 1) := by decide +kernel
theorem dX0_unplace_8 : decode cX0_unplace 8 = .ok (.getfield 17, 3) := by decide +kernel
theorem dX0_unplace_11 : decode cX0_unplace 11 = .ok (.iload_n 2, 1) := by decide +kernel
theorem dX0_unplace_12 : decode cX0_unplace 12 = .ok (.dup2, 1) := by decide +kernel
theorem dX0_unplace_13 : decode cX0_unplace 13 = .ok (.iaload, 1) := by decide +kernel
theorem dX0_unplace_14 : decode cX0_unplace 14 = .ok (.iconst 1, 1) := by decide +kernel
theorem dX0_unplace_15 : decode cX0_unplace 15 = .ok (.iload_n 1, 1) := by decide +kernel
theorem dX0_unplace_16 : decode cX0_unplace 16 = .ok (.ishl, 1) := by decide +kernel
theorem dX0_unplace_17 : decode cX0_unplace 17 = .ok (.iconst (-1), 1) := by decide +kernel
theorem dX0_unplace_18 : decode cX0_unplace 18 = .ok (.ixor, 1) := by decide +kernel
theorem dX0_unplace_19 : decode cX0_unplace 19 = .ok (.iand, 1) := by decide +kernel
theorem dX0_unplace_20 : decode cX0_unplace 20 = .ok (.iastore, 1) := by decide +kernel
theorem dX0_unplace_21 : decode cX0_unplace 21 = .ok (.return_, 1) := by decide +kernel
theorem dX0_place_0 : decode cX0_place 0 = .ok (.aload_n 0, 1) := by decide +kernel
theorem dX0_place_1 : decode cX0_place 1 = .ok (.getfield 7, 3) := by decide +kernel
theorem dX0_place_4 : decode cX0_place 4 = .ok (.iload_n 1, 1) := by decide +kernel
theorem dX0_place_5 : decode cX0_place 5 = .ok (.iaload, 1) := by decide +kernel
theorem dX0_place_6 : decode cX0_place 6 = .ok (.aload_n 0, 1) := by decide +kernel
theorem dX0_place_7 : decode cX0_place 7 = .ok (.getfield 34, 3) := by decide +kernel
theorem dX0_place_10 : decode cX0_place 10 = .ok (.isub, 1) := by decide +kernel
theorem dX0_place_11 : decode cX0_place 11 = .ok (.istore_n 2, 1) := by decide +kernel
theorem dX0_place_12 : decode cX0_place 12 = .ok (.aload_n 0, 1) := by decide +kernel
theorem dX0_place_13 : decode cX0_place 13 = .ok (.getfield 7, 3) := by decide +kernel
theorem dX0_place_16 : decode cX0_place 16 = .ok (.iload_n 1, 1) := by decide +kernel
theorem dX0_place_17 : decode cX0_place 17 = .ok (.iaload, 1) := by decide +kernel
theorem dX0_place_18 : decode cX0_place 18 = .ok (.bipush 7, 2) := by decide +kernel
theorem dX0_place_20 : decode cX0_place 20 = .ok (.iand, 1) := by decide +kernel
theorem dX0_place_21 : decode cX0_place 21 = .ok (.istore_n 3, 1) := by decide +kernel
theorem dX0_place_22 : decode cX0_place 22 = .ok (.iload_n 2, 1) := by decide +kernel
theorem dX0_place_23 : decode cX0_place 23 = .ok (.bipush 64, 2) := by decide +kernel
theorem dX0_place_25 : decode cX0_place 25 = .ok (.if_icmp .lt 22, 3) := by decide +kernel
theorem dX0_place_28 : decode cX0_place 28 = .ok (.bipush 16, 2) := by decide +kernel
theorem dX0_place_30 : decode cX0_place 30 = .ok (.aload_n 0, 1) := by decide +kernel
theorem dX0_place_31 : decode cX0_place 31 = .ok (.getfield 7, 3) := by decide +kernel
theorem dX0_place_34 : decode cX0_place 34 = .ok (.iload_n 1, 1) := by decide +kernel
theorem dX0_place_35 : decode cX0_place 35 = .ok (.iaload, 1) := by decide +kernel
theorem dX0_place_36 : decode cX0_place 36 = .ok (.bipush 6, 2) := by decide +kernel
theorem dX0_place_38 : decode cX0_place 38 = .ok (.ishr, 1) := by decide +kernel
theorem dX0_place_39 : decode cX0_place 39 = .ok (.bipush 7, 2) := by decide +kernel
theorem dX0_place_41 : decode cX0_place 41 = .ok (.iand, 1) := by decide +kernel
theorem dX0_place_42 : decode cX0_place 42 = .ok (.iadd, 1) := by decide +kernel
theorem dX0_place_43 : decode cX0_place 43 = .ok (.istore_n 3, 1) := by decide +kernel
theorem dX0_place_44 : decode cX0_place 44 = .ok (.goto 24, 3) := by decide +kernel
theorem dX0_place_47 : decode cX0_place 47 = .ok (.iload_n 2, 1) := by decide +kernel
theorem dX0_place_48 : decode cX0_place 48 = .ok (.bipush 8, 2) := by decide +kernel
theorem dX0_place_50 : decode cX0_place 50 = .ok (.if_icmp .lt 18, 3) := by decide +kernel
theorem dX0_place_53 : decode cX0_place 53 = .ok (.bipush 8, 2) := by decide +kernel
theorem dX0_place_55 : decode cX0_place 55 = .ok (.aload_n 0, 1) := by decide +kernel
theorem dX0_place_56 : decode cX0_place 56 = .ok (.getfield 7, 3) := by decide +kernel
theorem dX0_place_59 : decode cX0_place 59 = .ok (.iload_n 1, 1) := by decide +kernel
theorem dX0_place_60 : decode cX0_place 60 = .ok (.iaload, 1) := by decide +kernel
theorem dX0_place_61 : decode cX0_place 61 = .ok (.iconst 3, 1) := by decide +kernel
theorem dX0_place_62 : decode cX0_place 62 = .ok (.ishr, 1) := by decide +kernel
theorem dX0_place_63 : decode cX0_place 63 = .ok (.bipush 7, 2) := by decide +kernel
theorem dX0_place_65 : decode cX0_place 65 = .ok (.iand, 1) := by decide +kernel
theorem dX0_place_66 : decode cX0_place 66 = .ok (.iadd, 1) := by decide +kernel
theorem dX0_place_67 : decode cX0_place 67 = .ok (.istore_n 3, 1) := by decide +kernel
theorem dX0_place_68 : decode cX0_place 68 = .ok (.aload_n 0, 1) := by decide +kernel
theorem dX0_place_69 : decode cX0_place 69 = .ok (.getfield 17, 3) := by decide +kernel
theorem dX0_place_72 : decode cX0_place 72 = .ok (.iload_n 3, 1) := by decide +kernel
theorem dX0_place_73 : decode cX0_place 73 = .ok (.dup2, 1) := by decide +kernel
theorem dX0_place_74 : decode cX0_place 74 = .ok (.iaload, 1) := by decide +kernel
theorem dX0_place_75 : decode cX0_place 75 = .ok (.iconst 1, 1) := by decide +kernel
theorem dX0_place_76 : decode cX0_place 76 = .ok (.iload_n 1, 1) := by decide +kernel
theorem dX0_place_77 : decode cX0_place 77 = .ok (.ishl, 1) := by decide +kernel
theorem dX0_place_78 : decode cX0_place 78 = .ok (.ior, 1) := by decide +kernel
theorem dX0_place_79 : decode cX0_place 79 = .ok (.iastore, 1) := by decide +kernel
theorem dX0_place_80 : decode cX0_place 80 = .ok (.aload_n 0, 1) := by decide +kernel
theorem dX0_place_81 : decode cX0_place 81 = .ok (.getfield 20, 3) := by decide +kernel
theorem dX0_place_84 : decode cX0_place 84 = .ok (.iload_n 1, 1) := by decide +kernel
theorem dX0_place_85 : decode cX0_place 85 = .ok (.iload_n 3, 1) := by decide +kernel
theorem dX0_place_86 : decode cX0_place 86 = .ok (.i2b, 1) := by decide +kernel
theorem dX0_place_87 : decode cX0_place 87 = .ok (.bastore, 1) := by decide +kernel
theorem dX0_place_88 : decode cX0_place 88 = .ok (.return_, 1) := by decide +kernel
theorem dX0_cancel_0 : decode cX0_cancel 0 = .ok (.aload_n 0, 1) := by decide +kernel
theorem dX0_cancel_1 : decode cX0_cancel 1 = .ok (.iload_n 1, 1) := by decide +kernel
theorem dX0_cancel_2 : decode cX0_cancel 2 = .ok (.invokevirtual 54, 3) := by decide +kernel
theorem dX0_cancel_5 : decode cX0_cancel 5 = .ok (.ifCond .ne 5, 3) := by decide +kernel
theorem dX0_cancel_8 : decode cX0_cancel 8 = .ok (.iconst (-1), 1) := by decide +kernel
theorem dX0_cancel_9 : decode cX0_cancel 9 = .ok (.ireturn, 1) := by decide +kernel
theorem dX0_cancel_10 : decode cX0_cancel 10 = .ok (.aload_n 0, 1) := by decide +kernel
theorem dX0_cancel_11 : decode cX0_cancel 11 = .ok (.iload_n 1, 1) := by decide +kernel
theorem dX0_cancel_12 : decode cX0_cancel 12 = .ok (.invokevirtual 57, 3) := by decide +kernel
theorem dX0_cancel_15 : decode cX0_cancel 15 = .ok (.aload_n 0, 1) := by decide +kernel
theorem dX0_cancel_16 : decode cX0_cancel 16 = .ok (.dup, 1) := by decide +kernel
theorem dX0_cancel_17 : decode cX0_cancel 17 = .ok (.getfield 30, 3) := by decide +kernel
theorem dX0_cancel_20 : decode cX0_cancel 20 = .ok (.iconst 1, 1) := by decide +kernel
theorem dX0_cancel_21 : decode cX0_cancel 21 = .ok (.iload_n 1, 1) := by decide +kernel
theorem dX0_cancel_22 : decode cX0_cancel 22 = .ok (.ishl, 1) := by decide +kernel
theorem dX0_cancel_23 : decode cX0_cancel 23 = .ok (.iconst (-1), 1) := by decide +kernel
end
section
set_option maxRecDepth 100000
theorem dX0_cancel_24 : decode cX0_cancel 24 = .ok (.ixor, 1) := by decide +kernel
theorem dX0_cancel_25 : decode cX0_cancel 25 = .ok (.iand, 1) := by decide +kernel
theorem dX0_cancel_26 : decode cX0_cancel 26 = .ok (.putfield 30, 3) := by decide +kernel
theorem dX0_cancel_29 : decode cX0_cancel 29 = .ok (.aload_n 0, 1) := by decide +kernel
theorem dX0_cancel_30 : decode cX0_cancel 30 = .ok (.getfield 7, 3) := by decide +kernel
theorem dX0_cancel_33 : decode cX0_cancel 33 = .ok (.iload_n 1, 1) := by decide +kernel
theorem dX0_cancel_34 : decode cX0_cancel 34 = .ok (.iaload, 1) := by decide +kernel
theorem dX0_cancel_35 : decode cX0_cancel 35 = .ok (.aload_n 0, 1) := by decide +kernel
theorem dX0_cancel_36 : decode cX0_cancel 36 = .ok (.getfield 34, 3) := by decide +kernel
theorem dX0_cancel_39 : decode cX0_cancel 39 = .ok (.isub, 1) := by decide +kernel
theorem dX0_cancel_40 : decode cX0_cancel 40 = .ok (.ireturn, 1) := by decide +kernel
theorem dX0_pass_0 : decode cX0_pass 0 = .ok (.iload_n 1, 1) := by decide +kernel
theorem dX0_pass_1 : decode cX0_pass 1 = .ok (.ifCond .lt 10, 3) := by decide +kernel
theorem dX0_pass_4 : decode cX0_pass 4 = .ok (.iload_n 1, 1) := by decide +kernel
theorem dX0_pass_5 : decode cX0_pass 5 = .ok (.sipush 1000, 3) := by decide +kernel
theorem dX0_pass_8 : decode cX0_pass 8 = .ok (.if_icmp .le 5, 3) := by decide +kernel
theorem dX0_pass_11 : decode cX0_pass 11 = .ok (.iconst (-1), 1) := by decide +kernel
theorem dX0_pass_12 : decode cX0_pass 12 = .ok (.ireturn, 1) := by decide +kernel
theorem dX0_pass_13 : decode cX0_pass 13 = .ok (.iconst 0, 1) := by decide +kernel
theorem dX0_pass_14 : decode cX0_pass 14 = .ok (.istore_n 2, 1) := by decide +kernel
theorem dX0_pass_15 : decode cX0_pass 15 = .ok (.iconst 0, 1) := by decide +kernel
theorem dX0_pass_16 : decode cX0_pass 16 = .ok (.istore_n 3, 1) := by decide +kernel
theorem dX0_pass_17 : decode cX0_pass 17 = .ok (.iload_n 3, 1) := by decide +kernel
theorem dX0_pass_18 : decode cX0_pass 18 = .ok (.iload_n 1, 1) := by decide +kernel
theorem dX0_pass_19 : decode cX0_pass 19 = .ok (.if_icmp .ge 16, 3) := by decide +kernel
theorem dX0_pass_22 : decode cX0_pass 22 = .ok (.iload_n 2, 1) := by decide +kernel
theorem dX0_pass_23 : decode cX0_pass 23 = .ok (.aload_n 0, 1) := by decide +kernel
theorem dX0_pass_24 : decode cX0_pass 24 = .ok (.invokevirtual 60, 3) := by decide +kernel
theorem dX0_pass_27 : decode cX0_pass 27 = .ok (.iadd, 1) := by decide +kernel
theorem dX0_pass_28 : decode cX0_pass 28 = .ok (.istore_n 2, 1) := by decide +kernel
theorem dX0_pass_29 : decode cX0_pass 29 = .ok (.iinc 3 1, 3) := by decide +kernel
theorem dX0_pass_32 : decode cX0_pass 32 = .ok (.goto (-15), 3) := by decide +kernel
theorem dX0_pass_35 : decode cX0_pass 35 = .ok (.iload_n 2, 1) := by decide +kernel
theorem dX0_pass_36 : decode cX0_pass 36 = .ok (.ireturn, 1) := by decide +kernel
theorem dX0_tick_0 : decode cX0_tick 0 = .ok (.aload_n 0, 1) := by decide +kernel
theorem dX0_tick_1 : decode cX0_tick 1 = .ok (.dup, 1) := by decide +kernel
theorem dX0_tick_2 : decode cX0_tick 2 = .ok (.getfield 34, 3) := by decide +kernel
theorem dX0_tick_5 : decode cX0_tick 5 = .ok (.iconst 1, 1) := by decide +kernel
theorem dX0_tick_6 : decode cX0_tick 6 = .ok (.iadd, 1) := by decide +kernel
theorem dX0_tick_7 : decode cX0_tick 7 = .ok (.putfield 34, 3) := by decide +kernel
theorem dX0_tick_10 : decode cX0_tick 10 = .ok (.aload_n 0, 1) := by decide +kernel
theorem dX0_tick_11 : decode cX0_tick 11 = .ok (.getfield 34, 3) := by decide +kernel
theorem dX0_tick_14 : decode cX0_tick 14 = .ok (.bipush 63, 2) := by decide +kernel
theorem dX0_tick_16 : decode cX0_tick 16 = .ok (.iand, 1) := by decide +kernel
theorem dX0_tick_17 : decode cX0_tick 17 = .ok (.ifCond .ne 20, 3) := by decide +kernel
theorem dX0_tick_20 : decode cX0_tick 20 = .ok (.aload_n 0, 1) := by decide +kernel
theorem dX0_tick_21 : decode cX0_tick 21 = .ok (.bipush 16, 2) := by decide +kernel
theorem dX0_tick_23 : decode cX0_tick 23 = .ok (.aload_n 0, 1) := by decide +kernel
theorem dX0_tick_24 : decode cX0_tick 24 = .ok (.getfield 34, 3) := by decide +kernel
theorem dX0_tick_27 : decode cX0_tick 27 = .ok (.bipush 6, 2) := by decide +kernel
theorem dX0_tick_29 : decode cX0_tick 29 = .ok (.ishr, 1) := by decide +kernel
theorem dX0_tick_30 : decode cX0_tick 30 = .ok (.bipush 7, 2) := by decide +kernel
theorem dX0_tick_32 : decode cX0_tick 32 = .ok (.iand, 1) := by decide +kernel
theorem dX0_tick_33 : decode cX0_tick 33 = .ok (.iadd, 1) := by decide +kernel
theorem dX0_tick_34 : decode cX0_tick 34 = .ok (.invokevirtual 41, 3) := by decide +kernel
theorem dX0_tick_37 : decode cX0_tick 37 = .ok (.aload_n 0, 1) := by decide +kernel
theorem dX0_tick_38 : decode cX0_tick 38 = .ok (.getfield 34, 3) := by decide +kernel
theorem dX0_tick_41 : decode cX0_tick 41 = .ok (.bipush 7, 2) := by decide +kernel
theorem dX0_tick_43 : decode cX0_tick 43 = .ok (.iand, 1) := by decide +kernel
theorem dX0_tick_44 : decode cX0_tick 44 = .ok (.ifCond .ne 19, 3) := by decide +kernel
theorem dX0_tick_47 : decode cX0_tick 47 = .ok (.aload_n 0, 1) := by decide +kernel
theorem dX0_tick_48 : decode cX0_tick 48 = .ok (.bipush 8, 2) := by decide +kernel
theorem dX0_tick_50 : decode cX0_tick 50 = .ok (.aload_n 0, 1) := by decide +kernel
theorem dX0_tick_51 : decode cX0_tick 51 = .ok (.getfield 34, 3) := by decide +kernel
theorem dX0_tick_54 : decode cX0_tick 54 = .ok (.iconst 3, 1) := by decide +kernel
theorem dX0_tick_55 : decode cX0_tick 55 = .ok (.ishr, 1) := by decide +kernel
theorem dX0_tick_56 : decode cX0_tick 56 = .ok (.bipush 7, 2) := by decide +kernel
theorem dX0_tick_58 : decode cX0_tick 58 = .ok (.iand, 1) := by decide +kernel
theorem dX0_tick_59 : decode cX0_tick 59 = .ok (.iadd, 1) := by decide +kernel
theorem dX0_tick_60 : decode cX0_tick 60 = .ok (.invokevirtual 41, 3) := by decide +kernel
theorem dX0_tick_63 : decode cX0_tick 63 = .ok (.aload_n 0, 1) := by decide +kernel
theorem dX0_tick_64 : decode cX0_tick 64 = .ok (.getfield 34, 3) := by decide +kernel
theorem dX0_tick_67 : decode cX0_tick 67 = .ok (.bipush 7, 2) := by decide +kernel
theorem dX0_tick_69 : decode cX0_tick 69 = .ok (.iand, 1) := by decide +kernel
theorem dX0_tick_70 : decode cX0_tick 70 = .ok (.istore_n 1, 1) := by decide +kernel
theorem dX0_tick_71 : decode cX0_tick 71 = .ok (.aload_n 0, 1) := by decide +kernel
theorem dX0_tick_72 : decode cX0_tick 72 = .ok (.getfield 17, 3) := by decide +kernel
theorem dX0_tick_75 : decode cX0_tick 75 = .ok (.iload_n 1, 1) := by decide +kernel
theorem dX0_tick_76 : decode cX0_tick 76 = .ok (.iaload, 1) := by decide +kernel
theorem dX0_tick_77 : decode cX0_tick 77 = .ok (.istore_n 2, 1) := by decide +kernel
theorem dX0_tick_78 : decode cX0_tick 78 = .ok (.aload_n 0, 1) := by decide +kernel
theorem dX0_tick_79 : decode cX0_tick 79 = .ok (.getfield 17, 3) := by decide +kernel
theorem dX0_tick_82 : decode cX0_tick 82 = .ok (.iload_n 1, 1) := by decide +kernel
theorem dX0_tick_83 : decode cX0_tick 83 = .ok (.iconst 0, 1) := by decide +kernel
theorem dX0_tick_84 : decode cX0_tick 84 = .ok (.iastore, 1) := by decide +kernel
theorem dX0_tick_85 : decode cX0_tick 85 = .ok (.iconst 0, 1) := by decide +kernel
theorem dX0_tick_86 : decode cX0_tick 86 = .ok (.istore_n 3, 1) := by decide +kernel
theorem dX0_tick_87 : decode cX0_tick 87 = .ok (.iconst 0, 1) := by decide +kernel
theorem dX0_tick_88 : decode cX0_tick 88 = .ok (.istore 4, 2) := by decide +kernel
theorem dX0_tick_90 : decode cX0_tick 90 = .ok (.iload 4, 2) := by decide +kernel
theorem dX0_tick_92 : decode cX0_tick 92 = .ok (.bipush 16, 2) := by decide +kernel
theorem dX0_tick_94 : decode cX0_tick 94 = .ok (.if_icmp .ge 27, 3) := by decide +kernel
theorem dX0_tick_97 : decode cX0_tick 97 = .ok (.iload_n 2, 1) := by decide +kernel
theorem dX0_tick_98 : decode cX0_tick 98 = .ok (.iload 4, 2) := by decide +kernel
theorem dX0_tick_100 : decode cX0_tick 100 = .ok (.ishr, 1) := by decide +kernel
theorem dX0_tick_101 : decode cX0_tick 101 = .ok (.iconst 1, 1) := by decide +kernel
theorem dX0_tick_102 : decode cX0_tick 102 = .ok (.iand, 1) := by decide +kernel
theorem dX0_tick_103 : decode cX0_tick 103 = .ok (.ifCond .eq 12, 3) := by decide +kernel
theorem dX0_tick_106 : decode cX0_tick 106 = .ok (.aload_n 0, 1) := by decide +kernel
theorem dX0_tick_107 : decode cX0_tick 107 = .ok (.iload 4, 2) := by decide +kernel
theorem dX0_tick_109 : decode cX0_tick 109 = .ok (.invokevirtual 44, 3) := by decide +kernel
theorem dX0_tick_112 : decode cX0_tick 112 = .ok (.iinc 3 1, 3) := by decide +kernel
theorem dX0_tick_115 : decode cX0_tick 115 = .ok (.iinc 4 1, 3) := by decide +kernel
theorem dX0_tick_118 : decode cX0_tick 118 = .ok (.goto (-28), 3) := by decide +kernel
theorem dX0_tick_121 : decode cX0_tick 121 = .ok (.iload_n 3, 1) := by decide +kernel
theorem dX0_tick_122 : decode cX0_tick 122 = .ok (.ireturn, 1) := by decide +kernel
theorem dX0_moveDown_0 : decode cX0_moveDown 0 = .ok (.aload_n 0, 1) := by decide +kernel
theorem dX0_moveDown_1 : decode cX0_moveDown 1 = .ok (.getfield 17, 3) := by decide +kernel
theorem dX0_moveDown_4 : decode cX0_moveDown 4 = .ok (.iload_n 1, 1) := by decide +kernel
theorem dX0_moveDown_5 : decode cX0_moveDown 5 = .ok (.iaload, 1) := by decide +kernel
theorem dX0_moveDown_6 : decode cX0_moveDown 6 = .ok (.istore_n 2, 1) := by decide +kernel
theorem dX0_moveDown_7 : decode cX0_moveDown 7 = .ok (.aload_n 0, 1) := by decide +kernel
theorem dX0_moveDown_8 : decode cX0_moveDown 8 = .ok (.getfield 17, 3) := by decide +kernel
theorem dX0_moveDown_11 : decode cX0_moveDown 11 = .ok (.iload_n 1, 1) := by decide +kernel
theorem dX0_moveDown_12 : decode cX0_moveDown 12 = .ok (.iconst 0, 1) := by decide +kernel
theorem dX0_moveDown_13 : decode cX0_moveDown 13 = .ok (.iastore, 1) := by decide +kernel
theorem dX0_moveDown_14 : decode cX0_moveDown 14 = .ok (.iconst 0, 1) := by decide +kernel
theorem dX0_moveDown_15 : decode cX0_moveDown 15 = .ok (.istore_n 3, 1) := by decide +kernel
theorem dX0_moveDown_16 : decode cX0_moveDown 16 = .ok (.iload_n 3, 1) := by decide +kernel
theorem dX0_moveDown_17 : decode cX0_moveDown 17 = .ok (.bipush 16, 2) := by decide +kernel
theorem dX0_moveDown_19 : decode cX0_moveDown 19 = .ok (.if_icmp .ge 22, 3) := by decide +kernel
theorem dX0_moveDown_22 : decode cX0_moveDown 22 = .ok (.iload_n 2, 1) := by decide +kernel
theorem dX0_moveDown_23 : decode cX0_moveDown 23 = .ok (.iload_n 3, 1) := by decide +kernel
theorem dX0_moveDown_24 : decode cX0_moveDown 24 = .ok (.ishr, 1) := by decide +kernel
theorem dX0_moveDown_25 : decode cX0_moveDown 25 = .ok (.iconst 1, 1) := by decide +kernel
theorem dX0_moveDown_26 : decode cX0_moveDown 26 = .ok (.iand, 1) := by decide +kernel
theorem dX0_moveDown_27 : decode cX0_moveDown 27 = .ok (.ifCond .eq 8, 3) := by decide +kernel
theorem dX0_moveDown_30 : decode cX0_moveDown 30 = .ok (.aload_n 0, 1) := by decide +kernel
theorem dX0_moveDown_31 : decode cX0_moveDown 31 = .ok (.iload_n 3, 1) := by decide +kernel
theorem dX0_moveDown_32 : decode cX0_moveDown 32 = .ok (.invokevirtual 37, 3) := by decide +kernel
theorem dX0_moveDown_35 : decode cX0_moveDown 35 = .ok (.iinc 3 1, 3) := by decide +kernel
theorem dX0_moveDown_38 : decode cX0_moveDown 38 = .ok (.goto (-22), 3) := by decide +kernel
theorem dX0_moveDown_41 : decode cX0_moveDown 41 = .ok (.return_, 1) := by decide +kernel
theorem dX0_ring_0 : decode cX0_ring 0 = .ok (.aload_n 0, 1) := by decide +kernel
theorem dX0_ring_1 : decode cX0_ring 1 = .ok (.getfield 47, 3) := by decide +kernel
theorem dX0_ring_4 : decode cX0_ring 4 = .ok (.bipush 20, 2) := by decide +kernel
theorem dX0_ring_6 : decode cX0_ring 6 = .ok (.irem, 1) := by decide +kernel
theorem dX0_ring_7 : decode cX0_ring 7 = .ok (.istore_n 2, 1) := by decide +kernel
theorem dX0_ring_8 : decode cX0_ring 8 = .ok (.aload_n 0, 1) := by decide +kernel
theorem dX0_ring_9 : decode cX0_ring 9 = .ok (.getfield 24, 3) := by decide +kernel
theorem dX0_ring_12 : decode cX0_ring 12 = .ok (.iload_n 2, 1) := by decide +kernel
theorem dX0_ring_13 : decode cX0_ring 13 = .ok (.iload_n 1, 1) := by decide +kernel
theorem dX0_ring_14 : decode cX0_ring 14 = .ok (.i2b, 1) := by decide +kernel
theorem dX0_ring_15 : decode cX0_ring 15 = .ok (.bastore, 1) := by decide +kernel
theorem dX0_ring_16 : decode cX0_ring 16 = .ok (.aload_n 0, 1) := by decide +kernel
theorem dX0_ring_17 : decode cX0_ring 17 = .ok (.getfield 27, 3) := by decide +kernel
theorem dX0_ring_20 : decode cX0_ring 20 = .ok (.iload_n 2, 1) := by decide +kernel
theorem dX0_ring_21 : decode cX0_ring 21 = .ok (.aload_n 0, 1) := by decide +kernel
theorem dX0_ring_22 : decode cX0_ring 22 = .ok (.getfield 34, 3) := by decide +kernel
theorem dX0_ring_25 : decode cX0_ring 25 = .ok (.iastore, 1) := by decide +kernel
theorem dX0_ring_26 : decode cX0_ring 26 = .ok (.aload_n 0, 1) := by decide +kernel
theorem dX0_ring_27 : decode cX0_ring 27 = .ok (.dup, 1) := by decide +kernel
theorem dX0_ring_28 : decode cX0_ring 28 = .ok (.getfield 47, 3) := by decide +kernel
theorem dX0_ring_31 : decode cX0_ring 31 = .ok (.iconst 1, 1) := by decide +kernel
theorem dX0_ring_32 : decode cX0_ring 32 = .ok (.iadd, 1) := by decide +kernel
theorem dX0_ring_33 : decode cX0_ring 33 = .ok (.putfield 47, 3) := by decide +kernel
theorem dX0_ring_36 : decode cX0_ring 36 = .ok (.aload_n 0, 1) := by decide +kernel
theorem dX0_ring_37 : decode cX0_ring 37 = .ok (.dup, 1) := by decide +kernel
theorem dX0_ring_38 : decode cX0_ring 38 = .ok (.getfield 30, 3) := by decide +kernel
theorem dX0_ring_41 : decode cX0_ring 41 = .ok (.iconst 1, 1) := by decide +kernel
theorem dX0_ring_42 : decode cX0_ring 42 = .ok (.iload_n 1, 1) := by decide +kernel
theorem dX0_ring_43 : decode cX0_ring 43 = .ok (.ishl, 1) := by decide +kernel
theorem dX0_ring_44 : decode cX0_ring 44 = .ok (.iconst (-1), 1) := by decide +kernel
theorem dX0_ring_45 : decode cX0_ring 45 = .ok (.ixor, 1) := by decide +kernel
theorem dX0_ring_46 : decode cX0_ring 46 = .ok (.iand, 1) := by decide +kernel
theorem dX0_ring_47 : decode cX0_ring 47 = .ok (.putfield 30, 3) := by decide +kernel
theorem dX0_ring_50 : decode cX0_ring 50 = .ok (.aload_n 0, 1) := by decide +kernel
theorem dX0_ring_51 : decode cX0_ring 51 = .ok (.getfield 13, 3) := by decide +kernel
theorem dX0_ring_54 : decode cX0_ring 54 = .ok (.iload_n 1, 1) := by decide +kernel
theorem dX0_ring_55 : decode cX0_ring 55 = .ok (.saload, 1) := by decide +kernel
theorem dX0_ring_56 : decode cX0_ring 56 = .ok (.ifCond .le 37, 3) := by decide +kernel
theorem dX0_ring_59 : decode cX0_ring 59 = .ok (.aload_n 0, 1) := by decide +kernel
theorem dX0_ring_60 : decode cX0_ring 60 = .ok (.dup, 1) := by decide +kernel
theorem dX0_ring_61 : decode cX0_ring 61 = .ok (.getfield 30, 3) := by decide +kernel
theorem dX0_ring_64 : decode cX0_ring 64 = .ok (.iconst 1, 1) := by decide +kernel
theorem dX0_ring_65 : decode cX0_ring 65 = .ok (.iload_n 1, 1) := by decide +kernel
theorem dX0_ring_66 : decode cX0_ring 66 = .ok (.ishl, 1) := by decide +kernel
theorem dX0_ring_67 : decode cX0_ring 67 = .ok (.ior, 1) := by decide +kernel
theorem dX0_ring_68 : decode cX0_ring 68 = .ok (.putfield 30, 3) := by decide +kernel
theorem dX0_ring_71 : decode cX0_ring 71 = .ok (.aload_n 0, 1) := by decide +kernel
theorem dX0_ring_72 : decode cX0_ring 72 = .ok (.getfield 7, 3) := by decide +kernel
theorem dX0_ring_75 : decode cX0_ring 75 = .ok (.iload_n 1, 1) := by decide +kernel
theorem dX0_ring_76 : decode cX0_ring 76 = .ok (.aload_n 0, 1) := by decide +kernel
theorem dX0_ring_77 : decode cX0_ring 77 = .ok (.getfield 34, 3) := by decide +kernel
theorem dX0_ring_80 : decode cX0_ring 80 = .ok (.aload_n 0, 1) := by decide +kernel
theorem dX0_ring_81 : decode cX0_ring 81 = .ok (.getfield 13, 3) := by decide +kernel
theorem dX0_ring_84 : decode cX0_ring 84 = .ok (.iload_n 1, 1) := by decide +kernel
theorem dX0_ring_85 : decode cX0_ring 85 = .ok (.saload, 1) := by decide +kernel
theorem dX0_ring_86 : decode cX0_ring 86 = .ok (.iadd, 1) := by decide +kernel
theorem dX0_ring_87 : decode cX0_ring 87 = .ok (.iastore, 1) := by decide +kernel
theorem dX0_ring_88 : decode cX0_ring 88 = .ok (.aload_n 0, 1) := by decide +kernel
theorem dX0_ring_89 : decode cX0_ring 89 = .ok (.iload_n 1, 1) := by decide +kernel
theorem dX0_ring_90 : decode cX0_ring 90 = .ok (.invokevirtual 37, 3) := by decide +kernel
theorem dX0_ring_93 : decode cX0_ring 93 = .ok (.return_, 1) := by decide +kernel
theorem dX0_toNext_0 : decode cX0_toNext 0 = .ok (.aload_n 0, 1) := by decide +kernel
theorem dX0_toNext_1 : decode cX0_toNext 1 = .ok (.getfield 30, 3) := by decide +kernel
theorem dX0_toNext_4 : decode cX0_toNext 4 = .ok (.ifCond .ne 6, 3) := by decide +kernel
theorem dX0_toNext_7 : decode cX0_toNext 7 = .ok (.bipush (-2), 2) := by decide +kernel
theorem dX0_toNext_9 : decode cX0_toNext 9 = .ok (.ireturn, 1) := by decide +kernel
theorem dX0_toNext_10 : decode cX0_toNext 10 = .ok (.iconst 0, 1) := by decide +kernel
end
section
set_option maxRecDepth 100000
theorem dX0_toNext_11 : decode cX0_toNext 11 = .ok (.istore_n 1, 1) := by decide +kernel
theorem dX0_toNext_12 : decode cX0_toNext 12 = .ok (.iconst 0, 1) := by decide +kernel
theorem dX0_toNext_13 : decode cX0_toNext 13 = .ok (.istore_n 2, 1) := by decide +kernel
theorem dX0_toNext_14 : decode cX0_toNext 14 = .ok (.iload_n 1, 1) := by decide +kernel
theorem dX0_toNext_15 : decode cX0_toNext 15 = .ok (.sipush 500, 3) := by decide +kernel
theorem dX0_toNext_18 : decode cX0_toNext 18 = .ok (.if_icmp .ge 18, 3) := by decide +kernel
theorem dX0_toNext_21 : decode cX0_toNext 21 = .ok (.iload_n 2, 1) := by decide +kernel
theorem dX0_toNext_22 : decode cX0_toNext 22 = .ok (.ifCond .ne 14, 3) := by decide +kernel
theorem dX0_toNext_25 : decode cX0_toNext 25 = .ok (.aload_n 0, 1) := by decide +kernel
theorem dX0_toNext_26 : decode cX0_toNext 26 = .ok (.invokevirtual 60, 3) := by decide +kernel
theorem dX0_toNext_29 : decode cX0_toNext 29 = .ok (.istore_n 2, 1) := by decide +kernel
theorem dX0_toNext_30 : decode cX0_toNext 30 = .ok (.iinc 1 1, 3) := by decide +kernel
theorem dX0_toNext_33 : decode cX0_toNext 33 = .ok (.goto (-19), 3) := by decide +kernel
theorem dX0_toNext_36 : decode cX0_toNext 36 = .ok (.iload_n 1, 1) := by decide +kernel
theorem dX0_toNext_37 : decode cX0_toNext 37 = .ok (.ireturn, 1) := by decide +kernel
theorem dX0_now_0 : decode cX0_now 0 = .ok (.aload_n 0, 1) := by decide +kernel
theorem dX0_now_1 : decode cX0_now 1 = .ok (.getfield 34, 3) := by decide +kernel
theorem dX0_now_4 : decode cX0_now 4 = .ok (.ireturn, 1) := by decide +kernel
theorem dX0_timers_0 : decode cX0_timers 0 = .ok (.aload_n 0, 1) := by decide +kernel
theorem dX0_timers_1 : decode cX0_timers 1 = .ok (.getfield 30, 3) := by decide +kernel
theorem dX0_timers_4 : decode cX0_timers 4 = .ok (.ireturn, 1) := by decide +kernel
theorem dX0_left_0 : decode cX0_left 0 = .ok (.aload_n 0, 1) := by decide +kernel
theorem dX0_left_1 : decode cX0_left 1 = .ok (.iload_n 1, 1) := by decide +kernel
theorem dX0_left_2 : decode cX0_left 2 = .ok (.invokevirtual 54, 3) := by decide +kernel
theorem dX0_left_5 : decode cX0_left 5 = .ok (.ifCond .eq 17, 3) := by decide +kernel
theorem dX0_left_8 : decode cX0_left 8 = .ok (.aload_n 0, 1) := by decide +kernel
theorem dX0_left_9 : decode cX0_left 9 = .ok (.getfield 7, 3) := by decide +kernel
theorem dX0_left_12 : decode cX0_left 12 = .ok (.iload_n 1, 1) := by decide +kernel
theorem dX0_left_13 : decode cX0_left 13 = .ok (.iaload, 1) := by decide +kernel
theorem dX0_left_14 : decode cX0_left 14 = .ok (.aload_n 0, 1) := by decide +kernel
theorem dX0_left_15 : decode cX0_left 15 = .ok (.getfield 34, 3) := by decide +kernel
theorem dX0_left_18 : decode cX0_left 18 = .ok (.isub, 1) := by decide +kernel
theorem dX0_left_19 : decode cX0_left 19 = .ok (.goto 4, 3) := by decide +kernel
theorem dX0_left_22 : decode cX0_left 22 = .ok (.iconst (-1), 1) := by decide +kernel
theorem dX0_left_23 : decode cX0_left 23 = .ok (.ireturn, 1) := by decide +kernel
theorem dX0_next_0 : decode cX0_next 0 = .ok (.bipush (-2), 2) := by decide +kernel
theorem dX0_next_2 : decode cX0_next 2 = .ok (.istore_n 1, 1) := by decide +kernel
theorem dX0_next_3 : decode cX0_next 3 = .ok (.bipush 15, 2) := by decide +kernel
theorem dX0_next_5 : decode cX0_next 5 = .ok (.istore_n 2, 1) := by decide +kernel
theorem dX0_next_6 : decode cX0_next 6 = .ok (.iload_n 2, 1) := by decide +kernel
theorem dX0_next_7 : decode cX0_next 7 = .ok (.ifCond .lt 38, 3) := by decide +kernel
theorem dX0_next_10 : decode cX0_next 10 = .ok (.aload_n 0, 1) := by decide +kernel
theorem dX0_next_11 : decode cX0_next 11 = .ok (.iload_n 2, 1) := by decide +kernel
theorem dX0_next_12 : decode cX0_next 12 = .ok (.invokevirtual 54, 3) := by decide +kernel
theorem dX0_next_15 : decode cX0_next 15 = .ok (.ifCond .eq 24, 3) := by decide +kernel
theorem dX0_next_18 : decode cX0_next 18 = .ok (.iload_n 1, 1) := by decide +kernel
theorem dX0_next_19 : decode cX0_next 19 = .ok (.ifCond .lt 18, 3) := by decide +kernel
theorem dX0_next_22 : decode cX0_next 22 = .ok (.aload_n 0, 1) := by decide +kernel
theorem dX0_next_23 : decode cX0_next 23 = .ok (.getfield 7, 3) := by decide +kernel
theorem dX0_next_26 : decode cX0_next 26 = .ok (.iload_n 2, 1) := by decide +kernel
theorem dX0_next_27 : decode cX0_next 27 = .ok (.iaload, 1) := by decide +kernel
theorem dX0_next_28 : decode cX0_next 28 = .ok (.aload_n 0, 1) := by decide +kernel
theorem dX0_next_29 : decode cX0_next 29 = .ok (.getfield 7, 3) := by decide +kernel
theorem dX0_next_32 : decode cX0_next 32 = .ok (.iload_n 1, 1) := by decide +kernel
theorem dX0_next_33 : decode cX0_next 33 = .ok (.iaload, 1) := by decide +kernel
theorem dX0_next_34 : decode cX0_next 34 = .ok (.if_icmp .gt 5, 3) := by decide +kernel
theorem dX0_next_37 : decode cX0_next 37 = .ok (.iload_n 2, 1) := by decide +kernel
theorem dX0_next_38 : decode cX0_next 38 = .ok (.istore_n 1, 1) := by decide +kernel
theorem dX0_next_39 : decode cX0_next 39 = .ok (.iinc 2 (-1), 3) := by decide +kernel
theorem dX0_next_42 : decode cX0_next 42 = .ok (.goto (-36), 3) := by decide +kernel
theorem dX0_next_45 : decode cX0_next 45 = .ok (.iload_n 1, 1) := by decide +kernel
theorem dX0_next_46 : decode cX0_next 46 = .ok (.ireturn, 1) := by decide +kernel
theorem dX0_within_0 : decode cX0_within 0 = .ok (.iconst 0, 1) := by decide +kernel
theorem dX0_within_1 : decode cX0_within 1 = .ok (.istore_n 2, 1) := by decide +kernel
theorem dX0_within_2 : decode cX0_within 2 = .ok (.iconst 0, 1) := by decide +kernel
theorem dX0_within_3 : decode cX0_within 3 = .ok (.istore_n 3, 1) := by decide +kernel
theorem dX0_within_4 : decode cX0_within 4 = .ok (.iload_n 3, 1) := by decide +kernel
theorem dX0_within_5 : decode cX0_within 5 = .ok (.bipush 16, 2) := by decide +kernel
theorem dX0_within_7 : decode cX0_within 7 = .ok (.if_icmp .ge 40, 3) := by decide +kernel
theorem dX0_within_10 : decode cX0_within 10 = .ok (.iload_n 2, 1) := by decide +kernel
theorem dX0_within_11 : decode cX0_within 11 = .ok (.aload_n 0, 1) := by decide +kernel
theorem dX0_within_12 : decode cX0_within 12 = .ok (.iload_n 3, 1) := by decide +kernel
theorem dX0_within_13 : decode cX0_within 13 = .ok (.invokevirtual 54, 3) := by decide +kernel
theorem dX0_within_16 : decode cX0_within 16 = .ok (.ifCond .eq 22, 3) := by decide +kernel
theorem dX0_within_19 : decode cX0_within 19 = .ok (.aload_n 0, 1) := by decide +kernel
theorem dX0_within_20 : decode cX0_within 20 = .ok (.getfield 7, 3) := by decide +kernel
theorem dX0_within_23 : decode cX0_within 23 = .ok (.iload_n 3, 1) := by decide +kernel
theorem dX0_within_24 : decode cX0_within 24 = .ok (.iaload, 1) := by decide +kernel
theorem dX0_within_25 : decode cX0_within 25 = .ok (.aload_n 0, 1) := by decide +kernel
theorem dX0_within_26 : decode cX0_within 26 = .ok (.getfield 34, 3) := by decide +kernel
theorem dX0_within_29 : decode cX0_within 29 = .ok (.isub, 1) := by decide +kernel
theorem dX0_within_30 : decode cX0_within 30 = .ok (.iload_n 1, 1) := by decide +kernel
theorem dX0_within_31 : decode cX0_within 31 = .ok (.if_icmp .gt 7, 3) := by decide +kernel
theorem dX0_within_34 : decode cX0_within 34 = .ok (.iconst 1, 1) := by decide +kernel
theorem dX0_within_35 : decode cX0_within 35 = .ok (.goto 4, 3) := by decide +kernel
theorem dX0_within_38 : decode cX0_within 38 = .ok (.iconst 0, 1) := by decide +kernel
theorem dX0_within_39 : decode cX0_within 39 = .ok (.iadd, 1) := by decide +kernel
theorem dX0_within_40 : decode cX0_within 40 = .ok (.istore_n 2, 1) := by decide +kernel
theorem dX0_within_41 : decode cX0_within 41 = .ok (.iinc 3 1, 3) := by decide +kernel
theorem dX0_within_44 : decode cX0_within 44 = .ok (.goto (-40), 3) := by decide +kernel
theorem dX0_within_47 : decode cX0_within 47 = .ok (.iload_n 2, 1) := by decide +kernel
theorem dX0_within_48 : decode cX0_within 48 = .ok (.ireturn, 1) := by decide +kernel
theorem dX0_rings_0 : decode cX0_rings 0 = .ok (.aload_n 0, 1) := by decide +kernel
theorem dX0_rings_1 : decode cX0_rings 1 = .ok (.getfield 47, 3) := by decide +kernel
theorem dX0_rings_4 : decode cX0_rings 4 = .ok (.ireturn, 1) := by decide +kernel
theorem dX0_rung_0 : decode cX0_rung 0 = .ok (.aload_n 0, 1) := by decide +kernel
theorem dX0_rung_1 : decode cX0_rung 1 = .ok (.iload_n 1, 1) := by decide +kernel
theorem dX0_rung_2 : decode cX0_rung 2 = .ok (.invokevirtual 64, 3) := by decide +kernel
theorem dX0_rung_5 : decode cX0_rung 5 = .ok (.ifCond .eq 22, 3) := by decide +kernel
theorem dX0_rung_8 : decode cX0_rung 8 = .ok (.aload_n 0, 1) := by decide +kernel
theorem dX0_rung_9 : decode cX0_rung 9 = .ok (.getfield 24, 3) := by decide +kernel
theorem dX0_rung_12 : decode cX0_rung 12 = .ok (.aload_n 0, 1) := by decide +kernel
theorem dX0_rung_13 : decode cX0_rung 13 = .ok (.getfield 47, 3) := by decide +kernel
theorem dX0_rung_16 : decode cX0_rung 16 = .ok (.iconst 1, 1) := by decide +kernel
theorem dX0_rung_17 : decode cX0_rung 17 = .ok (.isub, 1) := by decide +kernel
theorem dX0_rung_18 : decode cX0_rung 18 = .ok (.iload_n 1, 1) := by decide +kernel
theorem dX0_rung_19 : decode cX0_rung 19 = .ok (.isub, 1) := by decide +kernel
theorem dX0_rung_20 : decode cX0_rung 20 = .ok (.bipush 20, 2) := by decide +kernel
theorem dX0_rung_22 : decode cX0_rung 22 = .ok (.irem, 1) := by decide +kernel
theorem dX0_rung_23 : decode cX0_rung 23 = .ok (.baload, 1) := by decide +kernel
theorem dX0_rung_24 : decode cX0_rung 24 = .ok (.goto 5, 3) := by decide +kernel
theorem dX0_rung_27 : decode cX0_rung 27 = .ok (.bipush (-2), 2) := by decide +kernel
theorem dX0_rung_29 : decode cX0_rung 29 = .ok (.ireturn, 1) := by decide +kernel
theorem dX0_isNoted_0 : decode cX0_isNoted 0 = .ok (.iload_n 1, 1) := by decide +kernel
theorem dX0_isNoted_1 : decode cX0_isNoted 1 = .ok (.ifCond .lt 21, 3) := by decide +kernel
theorem dX0_isNoted_4 : decode cX0_isNoted 4 = .ok (.iload_n 1, 1) := by decide +kernel
theorem dX0_isNoted_5 : decode cX0_isNoted 5 = .ok (.bipush 20, 2) := by decide +kernel
theorem dX0_isNoted_7 : decode cX0_isNoted 7 = .ok (.if_icmp .ge 15, 3) := by decide +kernel
theorem dX0_isNoted_10 : decode cX0_isNoted 10 = .ok (.iload_n 1, 1) := by decide +kernel
theorem dX0_isNoted_11 : decode cX0_isNoted 11 = .ok (.aload_n 0, 1) := by decide +kernel
theorem dX0_isNoted_12 : decode cX0_isNoted 12 = .ok (.getfield 47, 3) := by decide +kernel
theorem dX0_isNoted_15 : decode cX0_isNoted 15 = .ok (.if_icmp .ge 7, 3) := by decide +kernel
theorem dX0_isNoted_18 : decode cX0_isNoted 18 = .ok (.iconst 1, 1) := by decide +kernel
theorem dX0_isNoted_19 : decode cX0_isNoted 19 = .ok (.goto 4, 3) := by decide +kernel
theorem dX0_isNoted_22 : decode cX0_isNoted 22 = .ok (.iconst 0, 1) := by decide +kernel
theorem dX0_isNoted_23 : decode cX0_isNoted 23 = .ok (.ireturn, 1) := by decide +kernel
theorem dX0_rungAt_0 : decode cX0_rungAt 0 = .ok (.aload_n 0, 1) := by decide +kernel
theorem dX0_rungAt_1 : decode cX0_rungAt 1 = .ok (.iload_n 1, 1) := by decide +kernel
theorem dX0_rungAt_2 : decode cX0_rungAt 2 = .ok (.invokevirtual 64, 3) := by decide +kernel
theorem dX0_rungAt_5 : decode cX0_rungAt 5 = .ok (.ifCond .eq 22, 3) := by decide +kernel
theorem dX0_rungAt_8 : decode cX0_rungAt 8 = .ok (.aload_n 0, 1) := by decide +kernel
theorem dX0_rungAt_9 : decode cX0_rungAt 9 = .ok (.getfield 27, 3) := by decide +kernel
theorem dX0_rungAt_12 : decode cX0_rungAt 12 = .ok (.aload_n 0, 1) := by decide +kernel
theorem dX0_rungAt_13 : decode cX0_rungAt 13 = .ok (.getfield 47, 3) := by decide +kernel
theorem dX0_rungAt_16 : decode cX0_rungAt 16 = .ok (.iconst 1, 1) := by decide +kernel
theorem dX0_rungAt_17 : decode cX0_rungAt 17 = .ok (.isub, 1) := by decide +kernel
theorem dX0_rungAt_18 : decode cX0_rungAt 18 = .ok (.iload_n 1, 1) := by decide +kernel
theorem dX0_rungAt_19 : decode cX0_rungAt 19 = .ok (.isub, 1) := by decide +kernel
theorem dX0_rungAt_20 : decode cX0_rungAt 20 = .ok (.bipush 20, 2) := by decide +kernel
theorem dX0_rungAt_22 : decode cX0_rungAt 22 = .ok (.irem, 1) := by decide +kernel
theorem dX0_rungAt_23 : decode cX0_rungAt 23 = .ok (.iaload, 1) := by decide +kernel
theorem dX0_rungAt_24 : decode cX0_rungAt 24 = .ok (.goto 5, 3) := by decide +kernel
theorem dX0_rungAt_27 : decode cX0_rungAt 27 = .ok (.bipush (-2), 2) := by decide +kernel
theorem dX0_rungAt_29 : decode cX0_rungAt 29 = .ok (.ireturn, 1) := by decide +kernel
theorem dX0_repeat_0 : decode cX0_repeat 0 = .ok (.aload_n 0, 1) := by decide +kernel
theorem dX0_repeat_1 : decode cX0_repeat 1 = .ok (.iload_n 1, 1) := by decide +kernel
theorem dX0_repeat_2 : decode cX0_repeat 2 = .ok (.invokevirtual 54, 3) := by decide +kernel
theorem dX0_repeat_5 : decode cX0_repeat 5 = .ok (.ifCond .eq 10, 3) := by decide +kernel
theorem dX0_repeat_8 : decode cX0_repeat 8 = .ok (.iload_n 2, 1) := by decide +kernel
theorem dX0_repeat_9 : decode cX0_repeat 9 = .ok (.invokestatic 50, 3) := by decide +kernel
theorem dX0_repeat_12 : decode cX0_repeat 12 = .ok (.ifCond .ne 5, 3) := by decide +kernel
theorem dX0_repeat_15 : decode cX0_repeat 15 = .ok (.iconst 0, 1) := by decide +kernel
theorem dX0_repeat_16 : decode cX0_repeat 16 = .ok (.ireturn, 1) := by decide +kernel
theorem dX0_repeat_17 : decode cX0_repeat 17 = .ok (.aload_n 0, 1) := by decide +kernel
theorem dX0_repeat_18 : decode cX0_repeat 18 = .ok (.getfield 13, 3) := by decide +kernel
theorem dX0_repeat_21 : decode cX0_repeat 21 = .ok (.iload_n 1, 1) := by decide +kernel
theorem dX0_repeat_22 : decode cX0_repeat 22 = .ok (.iload_n 2, 1) := by decide +kernel
theorem dX0_repeat_23 : decode cX0_repeat 23 = .ok (.i2s, 1) := by decide +kernel
theorem dX0_repeat_24 : decode cX0_repeat 24 = .ok (.sastore, 1) := by decide +kernel
theorem dX0_repeat_25 : decode cX0_repeat 25 = .ok (.iconst 1, 1) := by decide +kernel
theorem dX0_repeat_26 : decode cX0_repeat 26 = .ok (.ireturn, 1) := by decide +kernel
theorem dX0_period_0 : decode cX0_period 0 = .ok (.aload_n 0, 1) := by decide +kernel
theorem dX0_period_1 : decode cX0_period 1 = .ok (.iload_n 1, 1) := by decide +kernel
theorem dX0_period_2 : decode cX0_period 2 = .ok (.invokevirtual 54, 3) := by decide +kernel
theorem dX0_period_5 : decode cX0_period 5 = .ok (.ifCond .eq 12, 3) := by decide +kernel
theorem dX0_period_8 : decode cX0_period 8 = .ok (.aload_n 0, 1) := by decide +kernel
theorem dX0_period_9 : decode cX0_period 9 = .ok (.getfield 13, 3) := by decide +kernel
theorem dX0_period_12 : decode cX0_period 12 = .ok (.iload_n 1, 1) := by decide +kernel
theorem dX0_period_13 : decode cX0_period 13 = .ok (.saload, 1) := by decide +kernel
theorem dX0_period_14 : decode cX0_period 14 = .ok (.goto 4, 3) := by decide +kernel
theorem dX0_period_17 : decode cX0_period 17 = .ok (.iconst (-1), 1) := by decide +kernel
theorem dX0_period_18 : decode cX0_period 18 = .ok (.ireturn, 1) := by decide +kernel
end
section
/-! TimerWheelModel -/
set_option maxRecDepth 100000
def RX1 : String := "TimerWheelModel"
def TX1 : u_T := fun k => match k with
  | 0 => ("TimerWheelModel", "time", "I", false)
  | 1 => ("TimerWheelModel", "on", "[Z", false)
  | 2 => ("TimerWheelModel", "due", "[I", false)
  | 3 => ("TimerWheelModel", "periods", "[I", false)
  | 4 => ("TimerWheelModel", "rang", "I", false)
  | 5 => ("TimerWheelModel", "who", "[I", false)
  | _ => ("TimerWheelModel", "when", "[I", false)
def tyX1 : Nat → FieldType := fun k => match k with
  | 0 => .int
  | 1 => .array .boolean
  | 2 => .array .int
  | 3 => .array .int
  | 4 => .int
  | 5 => .array .int
  | _ => .array .int
abbrev wsX10 : List Cond := u_ws RX1 TX1 7
theorem nmX1 : ∀ a, a < 7 → ∀ b, b < 7 → a ≠ b → (TX1 a).2.1 ≠ (TX1 b).2.1 := by decide +kernel
theorem tyX1_ok : ∀ k, k < 7 → parseFieldDescriptor (TX1 k).2.2.1 = some (tyX1 k) := by decide +kernel
abbrev cX1_init : ByteArray := prog_3_method_1_code
def yX1_init : MethodName := ⟨RX1, "<init>", "()V"⟩
abbrev cX1_set : ByteArray := prog_3_method_3_code
def yX1_set : MethodName := ⟨RX1, "set", "(III)I"⟩
abbrev cX1_cancel : ByteArray := prog_3_method_4_code
def yX1_cancel : MethodName := ⟨RX1, "cancel", "(I)I"⟩
abbrev cX1_is : ByteArray := prog_3_method_2_code
def yX1_is : MethodName := ⟨RX1, "is", "(I)Z"⟩
abbrev cX1_pass : ByteArray := prog_3_method_7_code
def yX1_pass : MethodName := ⟨RX1, "pass", "(I)I"⟩
abbrev cX1_tick : ByteArray := prog_3_method_6_code
def yX1_tick : MethodName := ⟨RX1, "tick", "()I"⟩
abbrev cX1_ring : ByteArray := prog_3_method_5_code
def yX1_ring : MethodName := ⟨RX1, "ring", "(I)V"⟩
abbrev cX1_toNext : ByteArray := prog_3_method_8_code
def yX1_toNext : MethodName := ⟨RX1, "toNext", "()I"⟩
abbrev cX1_next : ByteArray := prog_3_method_12_code
def yX1_next : MethodName := ⟨RX1, "next", "()I"⟩
abbrev cX1_now : ByteArray := prog_3_method_9_code
def yX1_now : MethodName := ⟨RX1, "now", "()I"⟩
abbrev cX1_timers : ByteArray := prog_3_method_10_code
def yX1_timers : MethodName := ⟨RX1, "timers", "()I"⟩
abbrev cX1_left : ByteArray := prog_3_method_11_code
def yX1_left : MethodName := ⟨RX1, "left", "(I)I"⟩
abbrev cX1_within : ByteArray := prog_3_method_13_code
def yX1_within : MethodName := ⟨RX1, "within", "(I)I"⟩
abbrev cX1_rings : ByteArray := prog_3_method_14_code
def yX1_rings : MethodName := ⟨RX1, "rings", "()I"⟩
abbrev cX1_rung : ByteArray := prog_3_method_16_code
def yX1_rung : MethodName := ⟨RX1, "rung", "(I)I"⟩
abbrev cX1_kept : ByteArray := prog_3_method_15_code
def yX1_kept : MethodName := ⟨RX1, "kept", "(I)Z"⟩
abbrev cX1_rungAt : ByteArray := prog_3_method_17_code
def yX1_rungAt : MethodName := ⟨RX1, "rungAt", "(I)I"⟩
abbrev cX1_repeat : ByteArray := prog_3_method_18_code
def yX1_repeat : MethodName := ⟨RX1, "repeat", "(II)Z"⟩
abbrev cX1_period : ByteArray := prog_3_method_19_code
def yX1_period : MethodName := ⟨RX1, "period", "(I)I"⟩
theorem q13 : (Jvm.Cond.initialized "TimerWheelModel") ∈ lw_all := lw_g (lw_at lw_m0 2 rfl) rfl
theorem q141 : (Jvm.Cond.instantiable "TimerWheelModel" (7 : Nat)) ∈ lw_all := lw_g (lw_at lw_m0 130 rfl) rfl
theorem q143 : (Jvm.Cond.instanceMethod ({ cls := "TimerWheelModel", name := "<init>", desc := "()V" } : Jvm.MethodName)) ∈ lw_all := lw_g (lw_at lw_m0 132 rfl) rfl
theorem q144 : (Jvm.Cond.code ({ cls := "TimerWheelModel", name := "<init>", desc := "()V" } : Jvm.MethodName) prog_3_method_1_code (1 : Nat) (Option.none : Option Jvm.ClassFile.FieldType)) ∈ lw_all := lw_g (lw_at lw_m0 133 rfl) rfl
theorem q145 : (Jvm.Cond.methodLink "TimerWheelModel" (1 : Nat) ({ cls := "java/lang/Object", name := "<init>", desc := "()V" } : Jvm.MethodName)) ∈ lw_all := lw_g (lw_at lw_m0 134 rfl) rfl
theorem q146 : (Jvm.Cond.fieldLink "TimerWheelModel" (26 : Nat) "TimerWheelModel" "time" "I") ∈ lw_all := lw_g (lw_at lw_m0 135 rfl) rfl
theorem q147 : (Jvm.Cond.fieldLink "TimerWheelModel" (7 : Nat) "TimerWheelModel" "on" "[Z") ∈ lw_all := lw_g (lw_at lw_m0 136 rfl) rfl
theorem q148 : (Jvm.Cond.fieldLink "TimerWheelModel" (13 : Nat) "TimerWheelModel" "due" "[I") ∈ lw_all := lw_g (lw_at lw_m0 137 rfl) rfl
theorem q149 : (Jvm.Cond.fieldLink "TimerWheelModel" (17 : Nat) "TimerWheelModel" "periods" "[I") ∈ lw_all := lw_g (lw_at lw_m0 138 rfl) rfl
theorem q150 : (Jvm.Cond.fieldLink "TimerWheelModel" (34 : Nat) "TimerWheelModel" "rang" "I") ∈ lw_all := lw_g (lw_at lw_m0 139 rfl) rfl
theorem q151 : (Jvm.Cond.fieldLink "TimerWheelModel" (20 : Nat) "TimerWheelModel" "who" "[I") ∈ lw_all := lw_g (lw_at lw_m0 140 rfl) rfl
theorem q152 : (Jvm.Cond.fieldLink "TimerWheelModel" (23 : Nat) "TimerWheelModel" "when" "[I") ∈ lw_all := lw_g (lw_at lw_m0 141 rfl) rfl
theorem q153 : (Jvm.Cond.lays "TimerWheelModel" "TimerWheelModel" "time" "I") ∈ lw_all := lw_g (lw_at lw_m0 142 rfl) rfl
theorem q154 : (Jvm.Cond.soleField "TimerWheelModel" "time") ∈ lw_all := lw_g (lw_at lw_m0 143 rfl) rfl
theorem q155 : (Jvm.Cond.lays "TimerWheelModel" "TimerWheelModel" "on" "[Z") ∈ lw_all := lw_g (lw_at lw_m0 144 rfl) rfl
theorem q156 : (Jvm.Cond.soleField "TimerWheelModel" "on") ∈ lw_all := lw_g (lw_at lw_m0 145 rfl) rfl
theorem q157 : (Jvm.Cond.lays "TimerWheelModel" "TimerWheelModel" "due" "[I") ∈ lw_all := lw_g (lw_at lw_m0 146 rfl) rfl
theorem q158 : (Jvm.Cond.soleField "TimerWheelModel" "due") ∈ lw_all := lw_g (lw_at lw_m0 147 rfl) rfl
theorem q159 : (Jvm.Cond.lays "TimerWheelModel" "TimerWheelModel" "periods" "[I") ∈ lw_all := lw_g (lw_at lw_m0 148 rfl) rfl
theorem q160 : (Jvm.Cond.soleField "TimerWheelModel" "periods") ∈ lw_all := lw_g (lw_at lw_m0 149 rfl) rfl
theorem q161 : (Jvm.Cond.lays "TimerWheelModel" "TimerWheelModel" "rang" "I") ∈ lw_all := lw_g (lw_at lw_m0 150 rfl) rfl
theorem q162 : (Jvm.Cond.soleField "TimerWheelModel" "rang") ∈ lw_all := lw_g (lw_at lw_m0 151 rfl) rfl
theorem q163 : (Jvm.Cond.lays "TimerWheelModel" "TimerWheelModel" "who" "[I") ∈ lw_all := lw_g (lw_at lw_m0 152 rfl) rfl
theorem q164 : (Jvm.Cond.soleField "TimerWheelModel" "who") ∈ lw_all := lw_g (lw_at lw_m0 153 rfl) rfl
theorem q165 : (Jvm.Cond.lays "TimerWheelModel" "TimerWheelModel" "when" "[I") ∈ lw_all := lw_g (lw_at lw_m0 154 rfl) rfl
theorem q166 : (Jvm.Cond.soleField "TimerWheelModel" "when") ∈ lw_all := lw_g (lw_at lw_m0 155 rfl) rfl
theorem q167 : (Jvm.Cond.superclass "TimerWheelModel" "java/lang/Object") ∈ lw_all := lw_g (lw_at lw_m0 156 rfl) rfl
theorem q170 : (Jvm.Cond.instanceMethod ({ cls := "TimerWheelModel", name := "set", desc := "(III)I" } : Jvm.MethodName)) ∈ lw_all := lw_g (lw_at lw_m0 159 rfl) rfl
theorem q171 : (Jvm.Cond.selects "TimerWheelModel" ({ cls := "TimerWheelModel", name := "set", desc := "(III)I" } : Jvm.MethodName) ({ cls := "TimerWheelModel", name := "set", desc := "(III)I" } : Jvm.MethodName)) ∈ lw_all := lw_g (lw_at lw_m0 160 rfl) rfl
theorem q172 : (Jvm.Cond.code ({ cls := "TimerWheelModel", name := "set", desc := "(III)I" } : Jvm.MethodName) prog_3_method_3_code (4 : Nat) (Option.some Jvm.ClassFile.FieldType.int)) ∈ lw_all := lw_g (lw_at lw_m0 161 rfl) rfl
theorem q174 : (Jvm.Cond.instanceMethod ({ cls := "TimerWheelModel", name := "cancel", desc := "(I)I" } : Jvm.MethodName)) ∈ lw_all := lw_g (lw_at lw_m0 163 rfl) rfl
theorem q175 : (Jvm.Cond.selects "TimerWheelModel" ({ cls := "TimerWheelModel", name := "cancel", desc := "(I)I" } : Jvm.MethodName) ({ cls := "TimerWheelModel", name := "cancel", desc := "(I)I" } : Jvm.MethodName)) ∈ lw_all := lw_g (lw_at lw_m0 164 rfl) rfl
theorem q176 : (Jvm.Cond.code ({ cls := "TimerWheelModel", name := "cancel", desc := "(I)I" } : Jvm.MethodName) prog_3_method_4_code (2 : Nat) (Option.some Jvm.ClassFile.FieldType.int)) ∈ lw_all := lw_g (lw_at lw_m0 165 rfl) rfl
theorem q177 : (Jvm.Cond.methodLink "TimerWheelModel" (30 : Nat) ({ cls := "TimerWheelModel", name := "is", desc := "(I)Z" } : Jvm.MethodName)) ∈ lw_all := lw_g (lw_at lw_m0 166 rfl) rfl
theorem q178 : (Jvm.Cond.privateMethod ({ cls := "TimerWheelModel", name := "is", desc := "(I)Z" } : Jvm.MethodName)) ∈ lw_tbl := lw_at lw_m0 167 rfl
theorem q179 : (Jvm.Cond.instanceMethod ({ cls := "TimerWheelModel", name := "is", desc := "(I)Z" } : Jvm.MethodName)) ∈ lw_all := lw_g (lw_at lw_m0 168 rfl) rfl
theorem q180 : (Jvm.Cond.code ({ cls := "TimerWheelModel", name := "is", desc := "(I)Z" } : Jvm.MethodName) prog_3_method_2_code (2 : Nat) (Option.some Jvm.ClassFile.FieldType.boolean)) ∈ lw_all := lw_g (lw_at lw_m0 169 rfl) rfl
theorem q182 : (Jvm.Cond.instanceMethod ({ cls := "TimerWheelModel", name := "pass", desc := "(I)I" } : Jvm.MethodName)) ∈ lw_all := lw_g (lw_at lw_m0 171 rfl) rfl
theorem q183 : (Jvm.Cond.selects "TimerWheelModel" ({ cls := "TimerWheelModel", name := "pass", desc := "(I)I" } : Jvm.MethodName) ({ cls := "TimerWheelModel", name := "pass", desc := "(I)I" } : Jvm.MethodName)) ∈ lw_all := lw_g (lw_at lw_m0 172 rfl) rfl
theorem q184 : (Jvm.Cond.code ({ cls := "TimerWheelModel", name := "pass", desc := "(I)I" } : Jvm.MethodName) prog_3_method_7_code (4 : Nat) (Option.some Jvm.ClassFile.FieldType.int)) ∈ lw_all := lw_g (lw_at lw_m0 173 rfl) rfl
theorem q185 : (Jvm.Cond.methodLink "TimerWheelModel" (41 : Nat) ({ cls := "TimerWheelModel", name := "tick", desc := "()I" } : Jvm.MethodName)) ∈ lw_all := lw_g (lw_at lw_m0 174 rfl) rfl
theorem q186 : (Jvm.Cond.privateMethod ({ cls := "TimerWheelModel", name := "tick", desc := "()I" } : Jvm.MethodName)) ∈ lw_tbl := lw_at lw_m0 175 rfl
theorem q187 : (Jvm.Cond.instanceMethod ({ cls := "TimerWheelModel", name := "tick", desc := "()I" } : Jvm.MethodName)) ∈ lw_all := lw_g (lw_at lw_m0 176 rfl) rfl
theorem q188 : (Jvm.Cond.code ({ cls := "TimerWheelModel", name := "tick", desc := "()I" } : Jvm.MethodName) prog_3_method_6_code (3 : Nat) (Option.some Jvm.ClassFile.FieldType.int)) ∈ lw_all := lw_g (lw_at lw_m0 177 rfl) rfl
theorem q189 : (Jvm.Cond.methodLink "TimerWheelModel" (37 : Nat) ({ cls := "TimerWheelModel", name := "ring", desc := "(I)V" } : Jvm.MethodName)) ∈ lw_all := lw_g (lw_at lw_m0 178 rfl) rfl
theorem q190 : (Jvm.Cond.privateMethod ({ cls := "TimerWheelModel", name := "ring", desc := "(I)V" } : Jvm.MethodName)) ∈ lw_tbl := lw_at lw_m0 179 rfl
theorem q191 : (Jvm.Cond.instanceMethod ({ cls := "TimerWheelModel", name := "ring", desc := "(I)V" } : Jvm.MethodName)) ∈ lw_all := lw_g (lw_at lw_m0 180 rfl) rfl
theorem q192 : (Jvm.Cond.code ({ cls := "TimerWheelModel", name := "ring", desc := "(I)V" } : Jvm.MethodName) prog_3_method_5_code (3 : Nat) (Option.none : Option Jvm.ClassFile.FieldType)) ∈ lw_all := lw_g (lw_at lw_m0 181 rfl) rfl
theorem q194 : (Jvm.Cond.instanceMethod ({ cls := "TimerWheelModel", name := "toNext", desc := "()I" } : Jvm.MethodName)) ∈ lw_all := lw_g (lw_at lw_m0 183 rfl) rfl
theorem q195 : (Jvm.Cond.selects "TimerWheelModel" ({ cls := "TimerWheelModel", name := "toNext", desc := "()I" } : Jvm.MethodName) ({ cls := "TimerWheelModel", name := "toNext", desc := "()I" } : Jvm.MethodName)) ∈ lw_all := lw_g (lw_at lw_m0 184 rfl) rfl
theorem q196 : (Jvm.Cond.code ({ cls := "TimerWheelModel", name := "toNext", desc := "()I" } : Jvm.MethodName) prog_3_method_8_code (4 : Nat) (Option.some Jvm.ClassFile.FieldType.int)) ∈ lw_all := lw_g (lw_at lw_m0 185 rfl) rfl
theorem q197 : (Jvm.Cond.methodLink "TimerWheelModel" (45 : Nat) ({ cls := "TimerWheelModel", name := "next", desc := "()I" } : Jvm.MethodName)) ∈ lw_all := lw_g (lw_at lw_m0 186 rfl) rfl
theorem q198 : (Jvm.Cond.instanceMethod ({ cls := "TimerWheelModel", name := "next", desc := "()I" } : Jvm.MethodName)) ∈ lw_all := lw_g (lw_at lw_m0 187 rfl) rfl
theorem q199 : (Jvm.Cond.selects "TimerWheelModel" ({ cls := "TimerWheelModel", name := "next", desc := "()I" } : Jvm.MethodName) ({ cls := "TimerWheelModel", name := "next", desc := "()I" } : Jvm.MethodName)) ∈ lw_all := lw_g (lw_at lw_m0 188 rfl) rfl
theorem q200 : (Jvm.Cond.code ({ cls := "TimerWheelModel", name := "next", desc := "()I" } : Jvm.MethodName) prog_3_method_12_code (3 : Nat) (Option.some Jvm.ClassFile.FieldType.int)) ∈ lw_all := lw_g (lw_at lw_m0 189 rfl) rfl
theorem q202 : (Jvm.Cond.instanceMethod ({ cls := "TimerWheelModel", name := "now", desc := "()I" } : Jvm.MethodName)) ∈ lw_all := lw_g (lw_at lw_m0 191 rfl) rfl
theorem q203 : (Jvm.Cond.selects "TimerWheelModel" ({ cls := "TimerWheelModel", name := "now", desc := "()I" } : Jvm.MethodName) ({ cls := "TimerWheelModel", name := "now", desc := "()I" } : Jvm.MethodName)) ∈ lw_all := lw_g (lw_at lw_m0 192 rfl) rfl
theorem q204 : (Jvm.Cond.code ({ cls := "TimerWheelModel", name := "now", desc := "()I" } : Jvm.MethodName) prog_3_method_9_code (1 : Nat) (Option.some Jvm.ClassFile.FieldType.int)) ∈ lw_all := lw_g (lw_at lw_m0 193 rfl) rfl
theorem q206 : (Jvm.Cond.instanceMethod ({ cls := "TimerWheelModel", name := "timers", desc := "()I" } : Jvm.MethodName)) ∈ lw_all := lw_g (lw_at lw_m0 195 rfl) rfl
theorem q207 : (Jvm.Cond.selects "TimerWheelModel" ({ cls := "TimerWheelModel", name := "timers", desc := "()I" } : Jvm.MethodName) ({ cls := "TimerWheelModel", name := "timers", desc := "()I" } : Jvm.MethodName)) ∈ lw_all := lw_g (lw_at lw_m0 196 rfl) rfl
theorem q208 : (Jvm.Cond.code ({ cls := "TimerWheelModel", name := "timers", desc := "()I" } : Jvm.MethodName) prog_3_method_10_code (3 : Nat) (Option.some Jvm.ClassFile.FieldType.int)) ∈ lw_all := lw_g (lw_at lw_m0 197 rfl) rfl
theorem q210 : (Jvm.Cond.instanceMethod ({ cls := "TimerWheelModel", name := "left", desc := "(I)I" } : Jvm.MethodName)) ∈ lw_all := lw_g (lw_at lw_m0 199 rfl) rfl
theorem q211 : (Jvm.Cond.selects "TimerWheelModel" ({ cls := "TimerWheelModel", name := "left", desc := "(I)I" } : Jvm.MethodName) ({ cls := "TimerWheelModel", name := "left", desc := "(I)I" } : Jvm.MethodName)) ∈ lw_all := lw_g (lw_at lw_m0 200 rfl) rfl
theorem q212 : (Jvm.Cond.code ({ cls := "TimerWheelModel", name := "left", desc := "(I)I" } : Jvm.MethodName) prog_3_method_11_code (2 : Nat) (Option.some Jvm.ClassFile.FieldType.int)) ∈ lw_all := lw_g (lw_at lw_m0 201 rfl) rfl
theorem q215 : (Jvm.Cond.instanceMethod ({ cls := "TimerWheelModel", name := "within", desc := "(I)I" } : Jvm.MethodName)) ∈ lw_all := lw_g (lw_at lw_m0 204 rfl) rfl
theorem q216 : (Jvm.Cond.selects "TimerWheelModel" ({ cls := "TimerWheelModel", name := "within", desc := "(I)I" } : Jvm.MethodName) ({ cls := "TimerWheelModel", name := "within", desc := "(I)I" } : Jvm.MethodName)) ∈ lw_all := lw_g (lw_at lw_m0 205 rfl) rfl
theorem q217 : (Jvm.Cond.code ({ cls := "TimerWheelModel", name := "within", desc := "(I)I" } : Jvm.MethodName) prog_3_method_13_code (4 : Nat) (Option.some Jvm.ClassFile.FieldType.int)) ∈ lw_all := lw_g (lw_at lw_m0 206 rfl) rfl
theorem q219 : (Jvm.Cond.instanceMethod ({ cls := "TimerWheelModel", name := "rings", desc := "()I" } : Jvm.MethodName)) ∈ lw_all := lw_g (lw_at lw_m0 208 rfl) rfl
theorem q220 : (Jvm.Cond.selects "TimerWheelModel" ({ cls := "TimerWheelModel", name := "rings", desc := "()I" } : Jvm.MethodName) ({ cls := "TimerWheelModel", name := "rings", desc := "()I" } : Jvm.MethodName)) ∈ lw_all := lw_g (lw_at lw_m0 209 rfl) rfl
theorem q221 : (Jvm.Cond.code ({ cls := "TimerWheelModel", name := "rings", desc := "()I" } : Jvm.MethodName) prog_3_method_14_code (1 : Nat) (Option.some Jvm.ClassFile.FieldType.int)) ∈ lw_all := lw_g (lw_at lw_m0 210 rfl) rfl
theorem q223 : (Jvm.Cond.instanceMethod ({ cls := "TimerWheelModel", name := "rung", desc := "(I)I" } : Jvm.MethodName)) ∈ lw_all := lw_g (lw_at lw_m0 212 rfl) rfl
theorem q224 : (Jvm.Cond.selects "TimerWheelModel" ({ cls := "TimerWheelModel", name := "rung", desc := "(I)I" } : Jvm.MethodName) ({ cls := "TimerWheelModel", name := "rung", desc := "(I)I" } : Jvm.MethodName)) ∈ lw_all := lw_g (lw_at lw_m0 213 rfl) rfl
theorem q225 : (Jvm.Cond.code ({ cls := "TimerWheelModel", name := "rung", desc := "(I)I" } : Jvm.MethodName) prog_3_method_16_code (2 : Nat) (Option.some Jvm.ClassFile.FieldType.int)) ∈ lw_all := lw_g (lw_at lw_m0 214 rfl) rfl
theorem q226 : (Jvm.Cond.methodLink "TimerWheelModel" (48 : Nat) ({ cls := "TimerWheelModel", name := "kept", desc := "(I)Z" } : Jvm.MethodName)) ∈ lw_all := lw_g (lw_at lw_m0 215 rfl) rfl
theorem q227 : (Jvm.Cond.privateMethod ({ cls := "TimerWheelModel", name := "kept", desc := "(I)Z" } : Jvm.MethodName)) ∈ lw_tbl := lw_at lw_m0 216 rfl
theorem q228 : (Jvm.Cond.instanceMethod ({ cls := "TimerWheelModel", name := "kept", desc := "(I)Z" } : Jvm.MethodName)) ∈ lw_all := lw_g (lw_at lw_m0 217 rfl) rfl
theorem q229 : (Jvm.Cond.code ({ cls := "TimerWheelModel", name := "kept", desc := "(I)Z" } : Jvm.MethodName) prog_3_method_15_code (2 : Nat) (Option.some Jvm.ClassFile.FieldType.boolean)) ∈ lw_all := lw_g (lw_at lw_m0 218 rfl) rfl
theorem q231 : (Jvm.Cond.instanceMethod ({ cls := "TimerWheelModel", name := "rungAt", desc := "(I)I" } : Jvm.MethodName)) ∈ lw_all := lw_g (lw_at lw_m0 220 rfl) rfl
theorem q232 : (Jvm.Cond.selects "TimerWheelModel" ({ cls := "TimerWheelModel", name := "rungAt", desc := "(I)I" } : Jvm.MethodName) ({ cls := "TimerWheelModel", name := "rungAt", desc := "(I)I" } : Jvm.MethodName)) ∈ lw_all := lw_g (lw_at lw_m0 221 rfl) rfl
theorem q233 : (Jvm.Cond.code ({ cls := "TimerWheelModel", name := "rungAt", desc := "(I)I" } : Jvm.MethodName) prog_3_method_17_code (2 : Nat) (Option.some Jvm.ClassFile.FieldType.int)) ∈ lw_all := lw_g (lw_at lw_m0 222 rfl) rfl
theorem q235 : (Jvm.Cond.instanceMethod ({ cls := "TimerWheelModel", name := "repeat", desc := "(II)Z" } : Jvm.MethodName)) ∈ lw_all := lw_g (lw_at lw_m0 224 rfl) rfl
theorem q236 : (Jvm.Cond.selects "TimerWheelModel" ({ cls := "TimerWheelModel", name := "repeat", desc := "(II)Z" } : Jvm.MethodName) ({ cls := "TimerWheelModel", name := "repeat", desc := "(II)Z" } : Jvm.MethodName)) ∈ lw_all := lw_g (lw_at lw_m0 225 rfl) rfl
theorem q237 : (Jvm.Cond.code ({ cls := "TimerWheelModel", name := "repeat", desc := "(II)Z" } : Jvm.MethodName) prog_3_method_18_code (3 : Nat) (Option.some Jvm.ClassFile.FieldType.boolean)) ∈ lw_all := lw_g (lw_at lw_m0 226 rfl) rfl
theorem q239 : (Jvm.Cond.instanceMethod ({ cls := "TimerWheelModel", name := "period", desc := "(I)I" } : Jvm.MethodName)) ∈ lw_all := lw_g (lw_at lw_m0 228 rfl) rfl
theorem q240 : (Jvm.Cond.selects "TimerWheelModel" ({ cls := "TimerWheelModel", name := "period", desc := "(I)I" } : Jvm.MethodName) ({ cls := "TimerWheelModel", name := "period", desc := "(I)I" } : Jvm.MethodName)) ∈ lw_all := lw_g (lw_at lw_m0 229 rfl) rfl
theorem q241 : (Jvm.Cond.code ({ cls := "TimerWheelModel", name := "period", desc := "(I)I" } : Jvm.MethodName) prog_3_method_19_code (2 : Nat) (Option.some Jvm.ClassFile.FieldType.int)) ∈ lw_all := lw_g (lw_at lw_m0 230 rfl) rfl
theorem in_X1 : ∀ w ∈ wsX10, w ∈ lw_all := lw_in wsX10 [153, 155, 157, 159, 161, 163, 165] (by decide +kernel) (by decide +kernel)
theorem dX1_init_0 : decode cX1_init 0 = .ok (.aload_n 0, 1) := by decide +kernel
theorem dX1_init_1 : decode cX1_init 1 = .ok (.invokespecial 1, 3) := by decide +kernel
theorem dX1_init_4 : decode cX1_init 4 = .ok (.aload_n 0, 1) := by decide +kernel
theorem dX1_init_5 : decode cX1_init 5 = .ok (.bipush 16, 2) := by decide +kernel
theorem dX1_init_7 : decode cX1_init 7 = .ok (.newarray .boolean, 2) := by decide +kernel
theorem dX1_init_9 : decode cX1_init 9 = .ok (.putfield 7, 3) := by decide +kernel
theorem dX1_init_12 : decode cX1_init 12 = .ok (.aload_n 0, 1) := by decide +kernel
theorem dX1_init_13 : decode cX1_init 13 = .ok (.bipush 16, 2) := by decide +kernel
theorem dX1_init_15 : decode cX1_init 15 = .ok (.newarray .int, 2) := by decide +kernel
theorem dX1_init_17 : decode cX1_init 17 = .ok (.putfield 13, 3) := by decide +kernel
theorem dX1_init_20 : decode cX1_init 20 = .ok (.aload_n 0, 1) := by decide +kernel
theorem dX1_init_21 : decode cX1_init 21 = .ok (.bipush 16, 2) := by decide +kernel
theorem dX1_init_23 : decode cX1_init 23 = .ok (.newarray .int, 2) := by decide +kernel
theorem dX1_init_25 : decode cX1_init 25 = .ok (.putfield 17, 3) := by decide +kernel
theorem dX1_init_28 : decode cX1_init 28 = .ok (.aload_n 0, 1) := by decide +kernel
theorem dX1_init_29 : decode cX1_init 29 = .ok (.bipush 20, 2) := by decide +kernel
theorem dX1_init_31 : decode cX1_init 31 = .ok (.newarray .int, 2) := by decide +kernel
theorem dX1_init_33 : decode cX1_init 33 = .ok (.putfield 20, 3) := by decide +kernel
theorem dX1_init_36 : decode cX1_init 36 = .ok (.aload_n 0, 1) := by decide +kernel
theorem dX1_init_37 : decode cX1_init 37 = .ok (.bipush 20, 2) := by decide +kernel
theorem dX1_init_39 : decode cX1_init 39 = .ok (.newarray .int, 2) := by decide +kernel
theorem dX1_init_41 : decode cX1_init 41 = .ok (.putfield 23, 3) := by decide +kernel
theorem dX1_init_44 : decode cX1_init 44 = .ok (.return_, 1) := by decide +kernel
theorem dX1_set_0 : decode cX1_set 0 = .ok (.iload_n 1, 1) := by decide +kernel
theorem dX1_set_1 : decode cX1_set 1 = .ok (.ifCond .lt 32, 3) := by decide +kernel
theorem dX1_set_4 : decode cX1_set 4 = .ok (.iload_n 1, 1) := by decide +kernel
theorem dX1_set_5 : decode cX1_set 5 = .ok (.bipush 15, 2) := by decide +kernel
theorem dX1_set_7 : decode cX1_set 7 = .ok (.if_icmp .gt 26, 3) := by decide +kernel
theorem dX1_set_10 : decode cX1_set 10 = .ok (.iload_n 2, 1) := by decide +kernel
theorem dX1_set_11 : decode cX1_set 11 = .ok (.iconst 1, 1) := by decide +kernel
theorem dX1_set_12 : decode cX1_set 12 = .ok (.if_icmp .lt 21, 3) := by decide +kernel
theorem dX1_set_15 : decode cX1_set 15 = .ok (.iload_n 2, 1) := by decide +kernel
theorem dX1_set_16 : decode cX1_set 16 = .ok (.sipush 500, 3) := by decide +kernel
theorem dX1_set_19 : decode cX1_set 19 = .ok (.if_icmp .gt 14, 3) := by decide +kernel
theorem dX1_set_22 : decode cX1_set 22 = .ok (.iload_n 3, 1) := by decide +kernel
theorem dX1_set_23 : decode cX1_set 23 = .ok (.ifCond .lt 10, 3) := by decide +kernel
theorem dX1_set_26 : decode cX1_set 26 = .ok (.iload_n 3, 1) := by decide +kernel
theorem dX1_set_27 : decode cX1_set 27 = .ok (.sipush 500, 3) := by decide +kernel
theorem dX1_set_30 : decode cX1_set 30 = .ok (.if_icmp .le 5, 3) := by decide +kernel
theorem dX1_set_33 : decode cX1_set 33 = .ok (.iconst (-1), 1) := by decide +kernel
theorem dX1_set_34 : decode cX1_set 34 = .ok (.ireturn, 1) := by decide +kernel
theorem dX1_set_35 : decode cX1_set 35 = .ok (.aload_n 0, 1) := by decide +kernel
theorem dX1_set_36 : decode cX1_set 36 = .ok (.getfield 7, 3) := by decide +kernel
theorem dX1_set_39 : decode cX1_set 39 = .ok (.iload_n 1, 1) := by decide +kernel
theorem dX1_set_40 : decode cX1_set 40 = .ok (.iconst 1, 1) := by decide +kernel
theorem dX1_set_41 : decode cX1_set 41 = .ok (.bastore, 1) := by decide +kernel
theorem dX1_set_42 : decode cX1_set 42 = .ok (.aload_n 0, 1) := by decide +kernel
theorem dX1_set_43 : decode cX1_set 43 = .ok (.getfield 13, 3) := by decide +kernel
theorem dX1_set_46 : decode cX1_set 46 = .ok (.iload_n 1, 1) := by decide +kernel
theorem dX1_set_47 : decode cX1_set 47 = .ok (.aload_n 0, 1) := by decide +kernel
theorem dX1_set_48 : decode cX1_set 48 = .ok (.getfield 26, 3) := by decide +kernel
theorem dX1_set_51 : decode cX1_set 51 = .ok (.iload_n 2, 1) := by decide +kernel
theorem dX1_set_52 : decode cX1_set 52 = .ok (.iadd, 1) := by decide +kernel
theorem dX1_set_53 : decode cX1_set 53 = .ok (.iastore, 1) := by decide +kernel
theorem dX1_set_54 : decode cX1_set 54 = .ok (.aload_n 0, 1) := by decide +kernel
theorem dX1_set_55 : decode cX1_set 55 = .ok (.getfield 17, 3) := by decide +kernel
theorem dX1_set_58 : decode cX1_set 58 = .ok (.iload_n 1, 1) := by decide +kernel
theorem dX1_set_59 : decode cX1_set 59 = .ok (.iload_n 3, 1) := by decide +kernel
theorem dX1_set_60 : decode cX1_set 60 = .ok (.iastore, 1) := by decide +kernel
theorem dX1_set_61 : decode cX1_set 61 = .ok (.aload_n 0, 1) := by decide +kernel
theorem dX1_set_62 : decode cX1_set 62 = .ok (.getfield 13, 3) := by decide +kernel
theorem dX1_set_65 : decode cX1_set 65 = .ok (.iload_n 1, 1) := by decide +kernel
theorem dX1_set_66 : decode cX1_set 66 = .ok (.iaload, 1) := by decide +kernel
theorem dX1_set_67 : decode cX1_set 67 = .ok (.ireturn, 1) := by decide +kernel
theorem dX1_cancel_0 : decode cX1_cancel 0 = .ok (.aload_n 0, 1) := by decide +kernel
theorem dX1_cancel_1 : decode cX1_cancel 1 = .ok (.iload_n 1, 1) := by decide +kernel
theorem dX1_cancel_2 : decode cX1_cancel 2 = .ok (.invokevirtual 30, 3) := by decide +kernel
theorem dX1_cancel_5 : decode cX1_cancel 5 = .ok (.ifCond .ne 5, 3) := by decide +kernel
theorem dX1_cancel_8 : decode cX1_cancel 8 = .ok (.iconst (-1), 1) := by decide +kernel
theorem dX1_cancel_9 : decode cX1_cancel 9 = .ok (.ireturn, 1) := by decide +kernel
theorem dX1_cancel_10 : decode cX1_cancel 10 = .ok (.aload_n 0, 1) := by decide +kernel
theorem dX1_cancel_11 : decode cX1_cancel 11 = .ok (.getfield 7, 3) := by decide +kernel
theorem dX1_cancel_14 : decode cX1_cancel 14 = .ok (.iload_n 1, 1) := by decide +kernel
theorem dX1_cancel_15 : decode cX1_cancel 15 = .ok (.iconst 0, 1) := by decide +kernel
theorem dX1_cancel_16 : decode cX1_cancel 16 = .ok (.bastore, 1) := by decide +kernel
theorem dX1_cancel_17 : decode cX1_cancel 17 = .ok (.aload_n 0, 1) := by decide +kernel
theorem dX1_cancel_18 : decode cX1_cancel 18 = .ok (.getfield 13, 3) := by decide +kernel
theorem dX1_cancel_21 : decode cX1_cancel 21 = .ok (.iload_n 1, 1) := by decide +kernel
theorem dX1_cancel_22 : decode cX1_cancel 22 = .ok (.iaload, 1) := by decide +kernel
theorem dX1_cancel_23 : decode cX1_cancel 23 = .ok (.aload_n 0, 1) := by decide +kernel
theorem dX1_cancel_24 : decode cX1_cancel 24 = .ok (.getfield 26, 3) := by decide +kernel
theorem dX1_cancel_27 : decode cX1_cancel 27 = .ok (.isub, 1) := by decide +kernel
theorem dX1_cancel_28 : decode cX1_cancel 28 = .ok (.ireturn, 1) := by decide +kernel
theorem dX1_is_0 : decode cX1_is 0 = .ok (.iload_n 1, 1) := by decide +kernel
theorem dX1_is_1 : decode cX1_is 1 = .ok (.ifCond .lt 22, 3) := by decide +kernel
theorem dX1_is_4 : decode cX1_is 4 = .ok (.iload_n 1, 1) := by decide +kernel
theorem dX1_is_5 : decode cX1_is 5 = .ok (.bipush 15, 2) := by decide +kernel
theorem dX1_is_7 : decode cX1_is 7 = .ok (.if_icmp .gt 16, 3) := by decide +kernel
theorem dX1_is_10 : decode cX1_is 10 = .ok (.aload_n 0, 1) := by decide +kernel
theorem dX1_is_11 : decode cX1_is 11 = .ok (.getfield 7, 3) := by decide +kernel
theorem dX1_is_14 : decode cX1_is 14 = .ok (.iload_n 1, 1) := by decide +kernel
theorem dX1_is_15 : decode cX1_is 15 = .ok (.baload, 1) := by decide +kernel
theorem dX1_is_16 : decode cX1_is 16 = .ok (.ifCond .eq 7, 3) := by decide +kernel
theorem dX1_is_19 : decode cX1_is 19 = .ok (.iconst 1, 1) := by decide +kernel
theorem dX1_is_20 : decode cX1_is 20 = .ok (.goto 4, 3) := by decide +kernel
theorem dX1_is_23 : decode cX1_is 23 = .ok (.iconst 0, 1) := by decide +kernel
theorem dX1_is_24 : decode cX1_is 24 = .ok (.ireturn, 1) := by decide +kernel
theorem dX1_pass_0 : decode cX1_pass 0 = .ok (.iconst 0, 1) := by decide +kernel
theorem dX1_pass_1 : decode cX1_pass 1 = .ok (.istore_n 2, 1) := by decide +kernel
theorem dX1_pass_2 : decode cX1_pass 2 = .ok (.iconst 0, 1) := by decide +kernel
theorem dX1_pass_3 : decode cX1_pass 3 = .ok (.istore_n 3, 1) := by decide +kernel
theorem dX1_pass_4 : decode cX1_pass 4 = .ok (.iload_n 3, 1) := by decide +kernel
theorem dX1_pass_5 : decode cX1_pass 5 = .ok (.iload_n 1, 1) := by decide +kernel
theorem dX1_pass_6 : decode cX1_pass 6 = .ok (.if_icmp .ge 23, 3) := by decide +kernel
theorem dX1_pass_9 : decode cX1_pass 9 = .ok (.iload_n 1, 1) := by decide +kernel
theorem dX1_pass_10 : decode cX1_pass 10 = .ok (.sipush 1000, 3) := by decide +kernel
theorem dX1_pass_13 : decode cX1_pass 13 = .ok (.if_icmp .gt 16, 3) := by decide +kernel
theorem dX1_pass_16 : decode cX1_pass 16 = .ok (.iload_n 2, 1) := by decide +kernel
theorem dX1_pass_17 : decode cX1_pass 17 = .ok (.aload_n 0, 1) := by decide +kernel
theorem dX1_pass_18 : decode cX1_pass 18 = .ok (.invokevirtual 41, 3) := by decide +kernel
theorem dX1_pass_21 : decode cX1_pass 21 = .ok (.iadd, 1) := by decide +kernel
theorem dX1_pass_22 : decode cX1_pass 22 = .ok (.istore_n 2, 1) := by decide +kernel
theorem dX1_pass_23 : decode cX1_pass 23 = .ok (.iinc 3 1, 3) := by decide +kernel
theorem dX1_pass_26 : decode cX1_pass 26 = .ok (.goto (-22), 3) := by decide +kernel
theorem dX1_pass_29 : decode cX1_pass 29 = .ok (.iload_n 1, 1) := by decide +kernel
theorem dX1_pass_30 : decode cX1_pass 30 = .ok (.ifCond .lt 10, 3) := by decide +kernel
theorem dX1_pass_33 : decode cX1_pass 33 = .ok (.iload_n 1, 1) := by decide +kernel
theorem dX1_pass_34 : decode cX1_pass 34 = .ok (.sipush 1000, 3) := by decide +kernel
theorem dX1_pass_37 : decode cX1_pass 37 = .ok (.if_icmp .le 7, 3) := by decide +kernel
theorem dX1_pass_40 : decode cX1_pass 40 = .ok (.iconst (-1), 1) := by decide +kernel
theorem dX1_pass_41 : decode cX1_pass 41 = .ok (.goto 4, 3) := by decide +kernel
theorem dX1_pass_44 : decode cX1_pass 44 = .ok (.iload_n 2, 1) := by decide +kernel
theorem dX1_pass_45 : decode cX1_pass 45 = .ok (.ireturn, 1) := by decide +kernel
theorem dX1_tick_0 : decode cX1_tick 0 = .ok (.aload_n 0, 1) := by decide +kernel
theorem dX1_tick_1 : decode cX1_tick 1 = .ok (.dup, 1) := by decide +kernel
theorem dX1_tick_2 : decode cX1_tick 2 = .ok (.getfield 26, 3) := by decide +kernel
theorem dX1_tick_5 : decode cX1_tick 5 = .ok (.iconst 1, 1) := by decide +kernel
theorem dX1_tick_6 : decode cX1_tick 6 = .ok (.iadd, 1) := by decide +kernel
theorem dX1_tick_7 : decode cX1_tick 7 = .ok (.putfield 26, 3) := by decide +kernel
theorem dX1_tick_10 : decode cX1_tick 10 = .ok (.iconst 0, 1) := by decide +kernel
theorem dX1_tick_11 : decode cX1_tick 11 = .ok (.istore_n 1, 1) := by decide +kernel
theorem dX1_tick_12 : decode cX1_tick 12 = .ok (.iconst 0, 1) := by decide +kernel
theorem dX1_tick_13 : decode cX1_tick 13 = .ok (.istore_n 2, 1) := by decide +kernel
theorem dX1_tick_14 : decode cX1_tick 14 = .ok (.iload_n 2, 1) := by decide +kernel
theorem dX1_tick_15 : decode cX1_tick 15 = .ok (.bipush 16, 2) := by decide +kernel
theorem dX1_tick_17 : decode cX1_tick 17 = .ok (.if_icmp .ge 39, 3) := by decide +kernel
theorem dX1_tick_20 : decode cX1_tick 20 = .ok (.aload_n 0, 1) := by decide +kernel
theorem dX1_tick_21 : decode cX1_tick 21 = .ok (.getfield 7, 3) := by decide +kernel
theorem dX1_tick_24 : decode cX1_tick 24 = .ok (.iload_n 2, 1) := by decide +kernel
theorem dX1_tick_25 : decode cX1_tick 25 = .ok (.baload, 1) := by decide +kernel
theorem dX1_tick_26 : decode cX1_tick 26 = .ok (.ifCond .eq 24, 3) := by decide +kernel
theorem dX1_tick_29 : decode cX1_tick 29 = .ok (.aload_n 0, 1) := by decide +kernel
theorem dX1_tick_30 : decode cX1_tick 30 = .ok (.getfield 13, 3) := by decide +kernel
theorem dX1_tick_33 : decode cX1_tick 33 = .ok (.iload_n 2, 1) := by decide +kernel
theorem dX1_tick_34 : decode cX1_tick 34 = .ok (.iaload, 1) := by decide +kernel
theorem dX1_tick_35 : decode cX1_tick 35 = .ok (.aload_n 0, 1) := by decide +kernel
theorem dX1_tick_36 : decode cX1_tick 36 = .ok (.getfield 26, 3) := by decide +kernel
theorem dX1_tick_39 : decode cX1_tick 39 = .ok (.if_icmp .ne 11, 3) := by decide +kernel
theorem dX1_tick_42 : decode cX1_tick 42 = .ok (.aload_n 0, 1) := by decide +kernel
theorem dX1_tick_43 : decode cX1_tick 43 = .ok (.iload_n 2, 1) := by decide +kernel
end
section
set_option maxRecDepth 100000
theorem dX1_tick_44 : decode cX1_tick 44 = .ok (.invokevirtual 37, 3) := by decide +kernel
theorem dX1_tick_47 : decode cX1_tick 47 = .ok (.iinc 1 1, 3) := by decide +kernel
theorem dX1_tick_50 : decode cX1_tick 50 = .ok (.iinc 2 1, 3) := by decide +kernel
theorem dX1_tick_53 : decode cX1_tick 53 = .ok (.goto (-39), 3) := by decide +kernel
theorem dX1_tick_56 : decode cX1_tick 56 = .ok (.iload_n 1, 1) := by decide +kernel
theorem dX1_tick_57 : decode cX1_tick 57 = .ok (.ireturn, 1) := by decide +kernel
theorem dX1_ring_0 : decode cX1_ring 0 = .ok (.bipush 19, 2) := by decide +kernel
theorem dX1_ring_2 : decode cX1_ring 2 = .ok (.istore_n 2, 1) := by decide +kernel
theorem dX1_ring_3 : decode cX1_ring 3 = .ok (.iload_n 2, 1) := by decide +kernel
theorem dX1_ring_4 : decode cX1_ring 4 = .ok (.ifCond .le 37, 3) := by decide +kernel
theorem dX1_ring_7 : decode cX1_ring 7 = .ok (.aload_n 0, 1) := by decide +kernel
theorem dX1_ring_8 : decode cX1_ring 8 = .ok (.getfield 20, 3) := by decide +kernel
theorem dX1_ring_11 : decode cX1_ring 11 = .ok (.iload_n 2, 1) := by decide +kernel
theorem dX1_ring_12 : decode cX1_ring 12 = .ok (.aload_n 0, 1) := by decide +kernel
theorem dX1_ring_13 : decode cX1_ring 13 = .ok (.getfield 20, 3) := by decide +kernel
theorem dX1_ring_16 : decode cX1_ring 16 = .ok (.iload_n 2, 1) := by decide +kernel
theorem dX1_ring_17 : decode cX1_ring 17 = .ok (.iconst 1, 1) := by decide +kernel
theorem dX1_ring_18 : decode cX1_ring 18 = .ok (.isub, 1) := by decide +kernel
theorem dX1_ring_19 : decode cX1_ring 19 = .ok (.iaload, 1) := by decide +kernel
theorem dX1_ring_20 : decode cX1_ring 20 = .ok (.iastore, 1) := by decide +kernel
theorem dX1_ring_21 : decode cX1_ring 21 = .ok (.aload_n 0, 1) := by decide +kernel
theorem dX1_ring_22 : decode cX1_ring 22 = .ok (.getfield 23, 3) := by decide +kernel
theorem dX1_ring_25 : decode cX1_ring 25 = .ok (.iload_n 2, 1) := by decide +kernel
theorem dX1_ring_26 : decode cX1_ring 26 = .ok (.aload_n 0, 1) := by decide +kernel
theorem dX1_ring_27 : decode cX1_ring 27 = .ok (.getfield 23, 3) := by decide +kernel
theorem dX1_ring_30 : decode cX1_ring 30 = .ok (.iload_n 2, 1) := by decide +kernel
theorem dX1_ring_31 : decode cX1_ring 31 = .ok (.iconst 1, 1) := by decide +kernel
theorem dX1_ring_32 : decode cX1_ring 32 = .ok (.isub, 1) := by decide +kernel
theorem dX1_ring_33 : decode cX1_ring 33 = .ok (.iaload, 1) := by decide +kernel
theorem dX1_ring_34 : decode cX1_ring 34 = .ok (.iastore, 1) := by decide +kernel
theorem dX1_ring_35 : decode cX1_ring 35 = .ok (.iinc 2 (-1), 3) := by decide +kernel
theorem dX1_ring_38 : decode cX1_ring 38 = .ok (.goto (-35), 3) := by decide +kernel
theorem dX1_ring_41 : decode cX1_ring 41 = .ok (.aload_n 0, 1) := by decide +kernel
theorem dX1_ring_42 : decode cX1_ring 42 = .ok (.getfield 20, 3) := by decide +kernel
theorem dX1_ring_45 : decode cX1_ring 45 = .ok (.iconst 0, 1) := by decide +kernel
theorem dX1_ring_46 : decode cX1_ring 46 = .ok (.iload_n 1, 1) := by decide +kernel
theorem dX1_ring_47 : decode cX1_ring 47 = .ok (.iastore, 1) := by decide +kernel
theorem dX1_ring_48 : decode cX1_ring 48 = .ok (.aload_n 0, 1) := by decide +kernel
theorem dX1_ring_49 : decode cX1_ring 49 = .ok (.getfield 23, 3) := by decide +kernel
theorem dX1_ring_52 : decode cX1_ring 52 = .ok (.iconst 0, 1) := by decide +kernel
theorem dX1_ring_53 : decode cX1_ring 53 = .ok (.aload_n 0, 1) := by decide +kernel
theorem dX1_ring_54 : decode cX1_ring 54 = .ok (.getfield 26, 3) := by decide +kernel
theorem dX1_ring_57 : decode cX1_ring 57 = .ok (.iastore, 1) := by decide +kernel
theorem dX1_ring_58 : decode cX1_ring 58 = .ok (.aload_n 0, 1) := by decide +kernel
theorem dX1_ring_59 : decode cX1_ring 59 = .ok (.dup, 1) := by decide +kernel
theorem dX1_ring_60 : decode cX1_ring 60 = .ok (.getfield 34, 3) := by decide +kernel
theorem dX1_ring_63 : decode cX1_ring 63 = .ok (.iconst 1, 1) := by decide +kernel
theorem dX1_ring_64 : decode cX1_ring 64 = .ok (.iadd, 1) := by decide +kernel
theorem dX1_ring_65 : decode cX1_ring 65 = .ok (.putfield 34, 3) := by decide +kernel
theorem dX1_ring_68 : decode cX1_ring 68 = .ok (.aload_n 0, 1) := by decide +kernel
theorem dX1_ring_69 : decode cX1_ring 69 = .ok (.getfield 7, 3) := by decide +kernel
theorem dX1_ring_72 : decode cX1_ring 72 = .ok (.iload_n 1, 1) := by decide +kernel
theorem dX1_ring_73 : decode cX1_ring 73 = .ok (.aload_n 0, 1) := by decide +kernel
theorem dX1_ring_74 : decode cX1_ring 74 = .ok (.getfield 17, 3) := by decide +kernel
theorem dX1_ring_77 : decode cX1_ring 77 = .ok (.iload_n 1, 1) := by decide +kernel
theorem dX1_ring_78 : decode cX1_ring 78 = .ok (.iaload, 1) := by decide +kernel
theorem dX1_ring_79 : decode cX1_ring 79 = .ok (.ifCond .le 7, 3) := by decide +kernel
theorem dX1_ring_82 : decode cX1_ring 82 = .ok (.iconst 1, 1) := by decide +kernel
theorem dX1_ring_83 : decode cX1_ring 83 = .ok (.goto 4, 3) := by decide +kernel
theorem dX1_ring_86 : decode cX1_ring 86 = .ok (.iconst 0, 1) := by decide +kernel
theorem dX1_ring_87 : decode cX1_ring 87 = .ok (.bastore, 1) := by decide +kernel
theorem dX1_ring_88 : decode cX1_ring 88 = .ok (.aload_n 0, 1) := by decide +kernel
theorem dX1_ring_89 : decode cX1_ring 89 = .ok (.getfield 13, 3) := by decide +kernel
theorem dX1_ring_92 : decode cX1_ring 92 = .ok (.iload_n 1, 1) := by decide +kernel
theorem dX1_ring_93 : decode cX1_ring 93 = .ok (.aload_n 0, 1) := by decide +kernel
theorem dX1_ring_94 : decode cX1_ring 94 = .ok (.getfield 13, 3) := by decide +kernel
theorem dX1_ring_97 : decode cX1_ring 97 = .ok (.iload_n 1, 1) := by decide +kernel
theorem dX1_ring_98 : decode cX1_ring 98 = .ok (.iaload, 1) := by decide +kernel
theorem dX1_ring_99 : decode cX1_ring 99 = .ok (.aload_n 0, 1) := by decide +kernel
theorem dX1_ring_100 : decode cX1_ring 100 = .ok (.getfield 17, 3) := by decide +kernel
theorem dX1_ring_103 : decode cX1_ring 103 = .ok (.iload_n 1, 1) := by decide +kernel
theorem dX1_ring_104 : decode cX1_ring 104 = .ok (.iaload, 1) := by decide +kernel
theorem dX1_ring_105 : decode cX1_ring 105 = .ok (.iadd, 1) := by decide +kernel
theorem dX1_ring_106 : decode cX1_ring 106 = .ok (.iastore, 1) := by decide +kernel
theorem dX1_ring_107 : decode cX1_ring 107 = .ok (.return_, 1) := by decide +kernel
theorem dX1_toNext_0 : decode cX1_toNext 0 = .ok (.aload_n 0, 1) := by decide +kernel
theorem dX1_toNext_1 : decode cX1_toNext 1 = .ok (.invokevirtual 45, 3) := by decide +kernel
theorem dX1_toNext_4 : decode cX1_toNext 4 = .ok (.istore_n 1, 1) := by decide +kernel
theorem dX1_toNext_5 : decode cX1_toNext 5 = .ok (.iload_n 1, 1) := by decide +kernel
theorem dX1_toNext_6 : decode cX1_toNext 6 = .ok (.ifCond .ge 6, 3) := by decide +kernel
theorem dX1_toNext_9 : decode cX1_toNext 9 = .ok (.bipush (-2), 2) := by decide +kernel
theorem dX1_toNext_11 : decode cX1_toNext 11 = .ok (.ireturn, 1) := by decide +kernel
theorem dX1_toNext_12 : decode cX1_toNext 12 = .ok (.aload_n 0, 1) := by decide +kernel
theorem dX1_toNext_13 : decode cX1_toNext 13 = .ok (.getfield 13, 3) := by decide +kernel
theorem dX1_toNext_16 : decode cX1_toNext 16 = .ok (.iload_n 1, 1) := by decide +kernel
theorem dX1_toNext_17 : decode cX1_toNext 17 = .ok (.iaload, 1) := by decide +kernel
theorem dX1_toNext_18 : decode cX1_toNext 18 = .ok (.aload_n 0, 1) := by decide +kernel
theorem dX1_toNext_19 : decode cX1_toNext 19 = .ok (.getfield 26, 3) := by decide +kernel
theorem dX1_toNext_22 : decode cX1_toNext 22 = .ok (.isub, 1) := by decide +kernel
theorem dX1_toNext_23 : decode cX1_toNext 23 = .ok (.istore_n 2, 1) := by decide +kernel
theorem dX1_toNext_24 : decode cX1_toNext 24 = .ok (.iconst 0, 1) := by decide +kernel
theorem dX1_toNext_25 : decode cX1_toNext 25 = .ok (.istore_n 3, 1) := by decide +kernel
theorem dX1_toNext_26 : decode cX1_toNext 26 = .ok (.iload_n 3, 1) := by decide +kernel
theorem dX1_toNext_27 : decode cX1_toNext 27 = .ok (.iload_n 2, 1) := by decide +kernel
theorem dX1_toNext_28 : decode cX1_toNext 28 = .ok (.if_icmp .ge 14, 3) := by decide +kernel
theorem dX1_toNext_31 : decode cX1_toNext 31 = .ok (.aload_n 0, 1) := by decide +kernel
theorem dX1_toNext_32 : decode cX1_toNext 32 = .ok (.invokevirtual 41, 3) := by decide +kernel
theorem dX1_toNext_35 : decode cX1_toNext 35 = .ok (.pop, 1) := by decide +kernel
theorem dX1_toNext_36 : decode cX1_toNext 36 = .ok (.iinc 3 1, 3) := by decide +kernel
theorem dX1_toNext_39 : decode cX1_toNext 39 = .ok (.goto (-13), 3) := by decide +kernel
theorem dX1_toNext_42 : decode cX1_toNext 42 = .ok (.iload_n 2, 1) := by decide +kernel
theorem dX1_toNext_43 : decode cX1_toNext 43 = .ok (.ireturn, 1) := by decide +kernel
theorem dX1_next_0 : decode cX1_next 0 = .ok (.bipush (-2), 2) := by decide +kernel
theorem dX1_next_2 : decode cX1_next 2 = .ok (.istore_n 1, 1) := by decide +kernel
theorem dX1_next_3 : decode cX1_next 3 = .ok (.iconst 0, 1) := by decide +kernel
theorem dX1_next_4 : decode cX1_next 4 = .ok (.istore_n 2, 1) := by decide +kernel
theorem dX1_next_5 : decode cX1_next 5 = .ok (.iload_n 2, 1) := by decide +kernel
theorem dX1_next_6 : decode cX1_next 6 = .ok (.bipush 16, 2) := by decide +kernel
theorem dX1_next_8 : decode cX1_next 8 = .ok (.if_icmp .ge 43, 3) := by decide +kernel
theorem dX1_next_11 : decode cX1_next 11 = .ok (.aload_n 0, 1) := by decide +kernel
theorem dX1_next_12 : decode cX1_next 12 = .ok (.getfield 7, 3) := by decide +kernel
theorem dX1_next_15 : decode cX1_next 15 = .ok (.iload_n 2, 1) := by decide +kernel
theorem dX1_next_16 : decode cX1_next 16 = .ok (.baload, 1) := by decide +kernel
theorem dX1_next_17 : decode cX1_next 17 = .ok (.ifCond .eq 26, 3) := by decide +kernel
theorem dX1_next_20 : decode cX1_next 20 = .ok (.iload_n 1, 1) := by decide +kernel
theorem dX1_next_21 : decode cX1_next 21 = .ok (.ifCond .lt 18, 3) := by decide +kernel
theorem dX1_next_24 : decode cX1_next 24 = .ok (.aload_n 0, 1) := by decide +kernel
theorem dX1_next_25 : decode cX1_next 25 = .ok (.getfield 13, 3) := by decide +kernel
theorem dX1_next_28 : decode cX1_next 28 = .ok (.iload_n 2, 1) := by decide +kernel
theorem dX1_next_29 : decode cX1_next 29 = .ok (.iaload, 1) := by decide +kernel
theorem dX1_next_30 : decode cX1_next 30 = .ok (.aload_n 0, 1) := by decide +kernel
theorem dX1_next_31 : decode cX1_next 31 = .ok (.getfield 13, 3) := by decide +kernel
theorem dX1_next_34 : decode cX1_next 34 = .ok (.iload_n 1, 1) := by decide +kernel
theorem dX1_next_35 : decode cX1_next 35 = .ok (.iaload, 1) := by decide +kernel
theorem dX1_next_36 : decode cX1_next 36 = .ok (.if_icmp .ge 7, 3) := by decide +kernel
theorem dX1_next_39 : decode cX1_next 39 = .ok (.iload_n 2, 1) := by decide +kernel
theorem dX1_next_40 : decode cX1_next 40 = .ok (.goto 4, 3) := by decide +kernel
theorem dX1_next_43 : decode cX1_next 43 = .ok (.iload_n 1, 1) := by decide +kernel
theorem dX1_next_44 : decode cX1_next 44 = .ok (.istore_n 1, 1) := by decide +kernel
theorem dX1_next_45 : decode cX1_next 45 = .ok (.iinc 2 1, 3) := by decide +kernel
theorem dX1_next_48 : decode cX1_next 48 = .ok (.goto (-43), 3) := by decide +kernel
theorem dX1_next_51 : decode cX1_next 51 = .ok (.iload_n 1, 1) := by decide +kernel
theorem dX1_next_52 : decode cX1_next 52 = .ok (.ireturn, 1) := by decide +kernel
theorem dX1_now_0 : decode cX1_now 0 = .ok (.aload_n 0, 1) := by decide +kernel
theorem dX1_now_1 : decode cX1_now 1 = .ok (.getfield 26, 3) := by decide +kernel
theorem dX1_now_4 : decode cX1_now 4 = .ok (.ireturn, 1) := by decide +kernel
theorem dX1_timers_0 : decode cX1_timers 0 = .ok (.iconst 0, 1) := by decide +kernel
theorem dX1_timers_1 : decode cX1_timers 1 = .ok (.istore_n 1, 1) := by decide +kernel
theorem dX1_timers_2 : decode cX1_timers 2 = .ok (.iconst 0, 1) := by decide +kernel
theorem dX1_timers_3 : decode cX1_timers 3 = .ok (.istore_n 2, 1) := by decide +kernel
theorem dX1_timers_4 : decode cX1_timers 4 = .ok (.iload_n 2, 1) := by decide +kernel
theorem dX1_timers_5 : decode cX1_timers 5 = .ok (.bipush 16, 2) := by decide +kernel
theorem dX1_timers_7 : decode cX1_timers 7 = .ok (.if_icmp .ge 28, 3) := by decide +kernel
theorem dX1_timers_10 : decode cX1_timers 10 = .ok (.aload_n 0, 1) := by decide +kernel
theorem dX1_timers_11 : decode cX1_timers 11 = .ok (.getfield 7, 3) := by decide +kernel
theorem dX1_timers_14 : decode cX1_timers 14 = .ok (.iload_n 2, 1) := by decide +kernel
theorem dX1_timers_15 : decode cX1_timers 15 = .ok (.baload, 1) := by decide +kernel
theorem dX1_timers_16 : decode cX1_timers 16 = .ok (.ifCond .eq 11, 3) := by decide +kernel
theorem dX1_timers_19 : decode cX1_timers 19 = .ok (.iload_n 1, 1) := by decide +kernel
theorem dX1_timers_20 : decode cX1_timers 20 = .ok (.iconst 1, 1) := by decide +kernel
end
section
set_option maxRecDepth 100000
theorem dX1_timers_21 : decode cX1_timers 21 = .ok (.iload_n 2, 1) := by decide +kernel
theorem dX1_timers_22 : decode cX1_timers 22 = .ok (.ishl, 1) := by decide +kernel
theorem dX1_timers_23 : decode cX1_timers 23 = .ok (.ior, 1) := by decide +kernel
theorem dX1_timers_24 : decode cX1_timers 24 = .ok (.goto 4, 3) := by decide +kernel
theorem dX1_timers_27 : decode cX1_timers 27 = .ok (.iload_n 1, 1) := by decide +kernel
theorem dX1_timers_28 : decode cX1_timers 28 = .ok (.istore_n 1, 1) := by decide +kernel
theorem dX1_timers_29 : decode cX1_timers 29 = .ok (.iinc 2 1, 3) := by decide +kernel
theorem dX1_timers_32 : decode cX1_timers 32 = .ok (.goto (-28), 3) := by decide +kernel
theorem dX1_timers_35 : decode cX1_timers 35 = .ok (.iload_n 1, 1) := by decide +kernel
theorem dX1_timers_36 : decode cX1_timers 36 = .ok (.ireturn, 1) := by decide +kernel
theorem dX1_left_0 : decode cX1_left 0 = .ok (.aload_n 0, 1) := by decide +kernel
theorem dX1_left_1 : decode cX1_left 1 = .ok (.iload_n 1, 1) := by decide +kernel
theorem dX1_left_2 : decode cX1_left 2 = .ok (.invokevirtual 30, 3) := by decide +kernel
theorem dX1_left_5 : decode cX1_left 5 = .ok (.ifCond .eq 17, 3) := by decide +kernel
theorem dX1_left_8 : decode cX1_left 8 = .ok (.aload_n 0, 1) := by decide +kernel
theorem dX1_left_9 : decode cX1_left 9 = .ok (.getfield 13, 3) := by decide +kernel
theorem dX1_left_12 : decode cX1_left 12 = .ok (.iload_n 1, 1) := by decide +kernel
theorem dX1_left_13 : decode cX1_left 13 = .ok (.iaload, 1) := by decide +kernel
theorem dX1_left_14 : decode cX1_left 14 = .ok (.aload_n 0, 1) := by decide +kernel
theorem dX1_left_15 : decode cX1_left 15 = .ok (.getfield 26, 3) := by decide +kernel
theorem dX1_left_18 : decode cX1_left 18 = .ok (.isub, 1) := by decide +kernel
theorem dX1_left_19 : decode cX1_left 19 = .ok (.goto 4, 3) := by decide +kernel
theorem dX1_left_22 : decode cX1_left 22 = .ok (.iconst (-1), 1) := by decide +kernel
theorem dX1_left_23 : decode cX1_left 23 = .ok (.ireturn, 1) := by decide +kernel
theorem dX1_within_0 : decode cX1_within 0 = .ok (.iconst 0, 1) := by decide +kernel
theorem dX1_within_1 : decode cX1_within 1 = .ok (.istore_n 2, 1) := by decide +kernel
theorem dX1_within_2 : decode cX1_within 2 = .ok (.iconst 0, 1) := by decide +kernel
theorem dX1_within_3 : decode cX1_within 3 = .ok (.istore_n 3, 1) := by decide +kernel
theorem dX1_within_4 : decode cX1_within 4 = .ok (.iload_n 3, 1) := by decide +kernel
theorem dX1_within_5 : decode cX1_within 5 = .ok (.bipush 16, 2) := by decide +kernel
theorem dX1_within_7 : decode cX1_within 7 = .ok (.if_icmp .ge 41, 3) := by decide +kernel
theorem dX1_within_10 : decode cX1_within 10 = .ok (.aload_n 0, 1) := by decide +kernel
theorem dX1_within_11 : decode cX1_within 11 = .ok (.getfield 7, 3) := by decide +kernel
theorem dX1_within_14 : decode cX1_within 14 = .ok (.iload_n 3, 1) := by decide +kernel
theorem dX1_within_15 : decode cX1_within 15 = .ok (.baload, 1) := by decide +kernel
theorem dX1_within_16 : decode cX1_within 16 = .ok (.ifCond .eq 24, 3) := by decide +kernel
theorem dX1_within_19 : decode cX1_within 19 = .ok (.aload_n 0, 1) := by decide +kernel
theorem dX1_within_20 : decode cX1_within 20 = .ok (.getfield 13, 3) := by decide +kernel
theorem dX1_within_23 : decode cX1_within 23 = .ok (.iload_n 3, 1) := by decide +kernel
theorem dX1_within_24 : decode cX1_within 24 = .ok (.iaload, 1) := by decide +kernel
theorem dX1_within_25 : decode cX1_within 25 = .ok (.aload_n 0, 1) := by decide +kernel
theorem dX1_within_26 : decode cX1_within 26 = .ok (.getfield 26, 3) := by decide +kernel
theorem dX1_within_29 : decode cX1_within 29 = .ok (.isub, 1) := by decide +kernel
theorem dX1_within_30 : decode cX1_within 30 = .ok (.iload_n 1, 1) := by decide +kernel
theorem dX1_within_31 : decode cX1_within 31 = .ok (.if_icmp .gt 9, 3) := by decide +kernel
theorem dX1_within_34 : decode cX1_within 34 = .ok (.iload_n 2, 1) := by decide +kernel
theorem dX1_within_35 : decode cX1_within 35 = .ok (.iconst 1, 1) := by decide +kernel
theorem dX1_within_36 : decode cX1_within 36 = .ok (.iadd, 1) := by decide +kernel
theorem dX1_within_37 : decode cX1_within 37 = .ok (.goto 4, 3) := by decide +kernel
theorem dX1_within_40 : decode cX1_within 40 = .ok (.iload_n 2, 1) := by decide +kernel
theorem dX1_within_41 : decode cX1_within 41 = .ok (.istore_n 2, 1) := by decide +kernel
theorem dX1_within_42 : decode cX1_within 42 = .ok (.iinc 3 1, 3) := by decide +kernel
theorem dX1_within_45 : decode cX1_within 45 = .ok (.goto (-41), 3) := by decide +kernel
theorem dX1_within_48 : decode cX1_within 48 = .ok (.iload_n 2, 1) := by decide +kernel
theorem dX1_within_49 : decode cX1_within 49 = .ok (.ireturn, 1) := by decide +kernel
theorem dX1_rings_0 : decode cX1_rings 0 = .ok (.aload_n 0, 1) := by decide +kernel
theorem dX1_rings_1 : decode cX1_rings 1 = .ok (.getfield 34, 3) := by decide +kernel
theorem dX1_rings_4 : decode cX1_rings 4 = .ok (.ireturn, 1) := by decide +kernel
theorem dX1_rung_0 : decode cX1_rung 0 = .ok (.aload_n 0, 1) := by decide +kernel
theorem dX1_rung_1 : decode cX1_rung 1 = .ok (.iload_n 1, 1) := by decide +kernel
theorem dX1_rung_2 : decode cX1_rung 2 = .ok (.invokevirtual 48, 3) := by decide +kernel
theorem dX1_rung_5 : decode cX1_rung 5 = .ok (.ifCond .eq 12, 3) := by decide +kernel
theorem dX1_rung_8 : decode cX1_rung 8 = .ok (.aload_n 0, 1) := by decide +kernel
theorem dX1_rung_9 : decode cX1_rung 9 = .ok (.getfield 20, 3) := by decide +kernel
theorem dX1_rung_12 : decode cX1_rung 12 = .ok (.iload_n 1, 1) := by decide +kernel
theorem dX1_rung_13 : decode cX1_rung 13 = .ok (.iaload, 1) := by decide +kernel
theorem dX1_rung_14 : decode cX1_rung 14 = .ok (.goto 5, 3) := by decide +kernel
theorem dX1_rung_17 : decode cX1_rung 17 = .ok (.bipush (-2), 2) := by decide +kernel
theorem dX1_rung_19 : decode cX1_rung 19 = .ok (.ireturn, 1) := by decide +kernel
theorem dX1_kept_0 : decode cX1_kept 0 = .ok (.iload_n 1, 1) := by decide +kernel
theorem dX1_kept_1 : decode cX1_kept 1 = .ok (.ifCond .lt 21, 3) := by decide +kernel
theorem dX1_kept_4 : decode cX1_kept 4 = .ok (.iload_n 1, 1) := by decide +kernel
theorem dX1_kept_5 : decode cX1_kept 5 = .ok (.bipush 19, 2) := by decide +kernel
theorem dX1_kept_7 : decode cX1_kept 7 = .ok (.if_icmp .gt 15, 3) := by decide +kernel
theorem dX1_kept_10 : decode cX1_kept 10 = .ok (.iload_n 1, 1) := by decide +kernel
theorem dX1_kept_11 : decode cX1_kept 11 = .ok (.aload_n 0, 1) := by decide +kernel
theorem dX1_kept_12 : decode cX1_kept 12 = .ok (.getfield 34, 3) := by decide +kernel
theorem dX1_kept_15 : decode cX1_kept 15 = .ok (.if_icmp .ge 7, 3) := by decide +kernel
theorem dX1_kept_18 : decode cX1_kept 18 = .ok (.iconst 1, 1) := by decide +kernel
theorem dX1_kept_19 : decode cX1_kept 19 = .ok (.goto 4, 3) := by decide +kernel
theorem dX1_kept_22 : decode cX1_kept 22 = .ok (.iconst 0, 1) := by decide +kernel
theorem dX1_kept_23 : decode cX1_kept 23 = .ok (.ireturn, 1) := by decide +kernel
theorem dX1_rungAt_0 : decode cX1_rungAt 0 = .ok (.aload_n 0, 1) := by decide +kernel
theorem dX1_rungAt_1 : decode cX1_rungAt 1 = .ok (.iload_n 1, 1) := by decide +kernel
theorem dX1_rungAt_2 : decode cX1_rungAt 2 = .ok (.invokevirtual 48, 3) := by decide +kernel
theorem dX1_rungAt_5 : decode cX1_rungAt 5 = .ok (.ifCond .eq 12, 3) := by decide +kernel
theorem dX1_rungAt_8 : decode cX1_rungAt 8 = .ok (.aload_n 0, 1) := by decide +kernel
theorem dX1_rungAt_9 : decode cX1_rungAt 9 = .ok (.getfield 23, 3) := by decide +kernel
theorem dX1_rungAt_12 : decode cX1_rungAt 12 = .ok (.iload_n 1, 1) := by decide +kernel
theorem dX1_rungAt_13 : decode cX1_rungAt 13 = .ok (.iaload, 1) := by decide +kernel
theorem dX1_rungAt_14 : decode cX1_rungAt 14 = .ok (.goto 5, 3) := by decide +kernel
theorem dX1_rungAt_17 : decode cX1_rungAt 17 = .ok (.bipush (-2), 2) := by decide +kernel
theorem dX1_rungAt_19 : decode cX1_rungAt 19 = .ok (.ireturn, 1) := by decide +kernel
theorem dX1_repeat_0 : decode cX1_repeat 0 = .ok (.aload_n 0, 1) := by decide +kernel
theorem dX1_repeat_1 : decode cX1_repeat 1 = .ok (.iload_n 1, 1) := by decide +kernel
theorem dX1_repeat_2 : decode cX1_repeat 2 = .ok (.invokevirtual 30, 3) := by decide +kernel
theorem dX1_repeat_5 : decode cX1_repeat 5 = .ok (.ifCond .eq 14, 3) := by decide +kernel
theorem dX1_repeat_8 : decode cX1_repeat 8 = .ok (.iload_n 2, 1) := by decide +kernel
theorem dX1_repeat_9 : decode cX1_repeat 9 = .ok (.ifCond .lt 10, 3) := by decide +kernel
theorem dX1_repeat_12 : decode cX1_repeat 12 = .ok (.iload_n 2, 1) := by decide +kernel
theorem dX1_repeat_13 : decode cX1_repeat 13 = .ok (.sipush 500, 3) := by decide +kernel
theorem dX1_repeat_16 : decode cX1_repeat 16 = .ok (.if_icmp .le 5, 3) := by decide +kernel
theorem dX1_repeat_19 : decode cX1_repeat 19 = .ok (.iconst 0, 1) := by decide +kernel
theorem dX1_repeat_20 : decode cX1_repeat 20 = .ok (.ireturn, 1) := by decide +kernel
theorem dX1_repeat_21 : decode cX1_repeat 21 = .ok (.aload_n 0, 1) := by decide +kernel
theorem dX1_repeat_22 : decode cX1_repeat 22 = .ok (.getfield 17, 3) := by decide +kernel
theorem dX1_repeat_25 : decode cX1_repeat 25 = .ok (.iload_n 1, 1) := by decide +kernel
theorem dX1_repeat_26 : decode cX1_repeat 26 = .ok (.iload_n 2, 1) := by decide +kernel
theorem dX1_repeat_27 : decode cX1_repeat 27 = .ok (.iastore, 1) := by decide +kernel
theorem dX1_repeat_28 : decode cX1_repeat 28 = .ok (.iconst 1, 1) := by decide +kernel
theorem dX1_repeat_29 : decode cX1_repeat 29 = .ok (.ireturn, 1) := by decide +kernel
theorem dX1_period_0 : decode cX1_period 0 = .ok (.aload_n 0, 1) := by decide +kernel
theorem dX1_period_1 : decode cX1_period 1 = .ok (.iload_n 1, 1) := by decide +kernel
theorem dX1_period_2 : decode cX1_period 2 = .ok (.invokevirtual 30, 3) := by decide +kernel
theorem dX1_period_5 : decode cX1_period 5 = .ok (.ifCond .eq 12, 3) := by decide +kernel
theorem dX1_period_8 : decode cX1_period 8 = .ok (.aload_n 0, 1) := by decide +kernel
theorem dX1_period_9 : decode cX1_period 9 = .ok (.getfield 17, 3) := by decide +kernel
theorem dX1_period_12 : decode cX1_period 12 = .ok (.iload_n 1, 1) := by decide +kernel
theorem dX1_period_13 : decode cX1_period 13 = .ok (.iaload, 1) := by decide +kernel
theorem dX1_period_14 : decode cX1_period 14 = .ok (.goto 4, 3) := by decide +kernel
theorem dX1_period_17 : decode cX1_period 17 = .ok (.iconst (-1), 1) := by decide +kernel
theorem dX1_period_18 : decode cX1_period 18 = .ok (.ireturn, 1) := by decide +kernel
end
section
/-! the law's own entry -/
set_option maxRecDepth 100000
abbrev cL_law : ByteArray := code
theorem dL_law_0 : decode cL_law 0 = .ok (.new 7, 3) := by decide +kernel
theorem dL_law_3 : decode cL_law 3 = .ok (.dup, 1) := by decide +kernel
theorem dL_law_4 : decode cL_law 4 = .ok (.invokespecial 9, 3) := by decide +kernel
theorem dL_law_7 : decode cL_law 7 = .ok (.astore_n 1, 1) := by decide +kernel
theorem dL_law_8 : decode cL_law 8 = .ok (.new 10, 3) := by decide +kernel
theorem dL_law_11 : decode cL_law 11 = .ok (.dup, 1) := by decide +kernel
theorem dL_law_12 : decode cL_law 12 = .ok (.invokespecial 12, 3) := by decide +kernel
theorem dL_law_15 : decode cL_law 15 = .ok (.astore_n 2, 1) := by decide +kernel
theorem dL_law_16 : decode cL_law 16 = .ok (.iconst 0, 1) := by decide +kernel
theorem dL_law_17 : decode cL_law 17 = .ok (.istore_n 3, 1) := by decide +kernel
theorem dL_law_18 : decode cL_law 18 = .ok (.iload_n 3, 1) := by decide +kernel
theorem dL_law_19 : decode cL_law 19 = .ok (.aload_n 0, 1) := by decide +kernel
theorem dL_law_20 : decode cL_law 20 = .ok (.arraylength, 1) := by decide +kernel
theorem dL_law_21 : decode cL_law 21 = .ok (.iconst 4, 1) := by decide +kernel
theorem dL_law_22 : decode cL_law 22 = .ok (.isub, 1) := by decide +kernel
theorem dL_law_23 : decode cL_law 23 = .ok (.if_icmp .gt 389, 3) := by decide +kernel
theorem dL_law_26 : decode cL_law 26 = .ok (.aload_n 0, 1) := by decide +kernel
theorem dL_law_27 : decode cL_law 27 = .ok (.iload_n 3, 1) := by decide +kernel
theorem dL_law_28 : decode cL_law 28 = .ok (.iaload, 1) := by decide +kernel
theorem dL_law_29 : decode cL_law 29 = .ok (.bipush 15, 2) := by decide +kernel
theorem dL_law_31 : decode cL_law 31 = .ok (.iand, 1) := by decide +kernel
theorem dL_law_32 : decode cL_law 32 = .ok (.tableswitch 374 0 13 #[72, 115, 138, 161, 174, 187, 200, 223, 236, 259, 272, 295, 318, 351], 72) := by decide +kernel
theorem dL_law_104 : decode cL_law 104 = .ok (.aload_n 1, 1) := by decide +kernel
theorem dL_law_105 : decode cL_law 105 = .ok (.aload_n 0, 1) := by decide +kernel
theorem dL_law_106 : decode cL_law 106 = .ok (.iload_n 3, 1) := by decide +kernel
theorem dL_law_107 : decode cL_law 107 = .ok (.iconst 1, 1) := by decide +kernel
theorem dL_law_108 : decode cL_law 108 = .ok (.iadd, 1) := by decide +kernel
theorem dL_law_109 : decode cL_law 109 = .ok (.iaload, 1) := by decide +kernel
theorem dL_law_110 : decode cL_law 110 = .ok (.aload_n 0, 1) := by decide +kernel
theorem dL_law_111 : decode cL_law 111 = .ok (.iload_n 3, 1) := by decide +kernel
theorem dL_law_112 : decode cL_law 112 = .ok (.iconst 2, 1) := by decide +kernel
theorem dL_law_113 : decode cL_law 113 = .ok (.iadd, 1) := by decide +kernel
theorem dL_law_114 : decode cL_law 114 = .ok (.iaload, 1) := by decide +kernel
theorem dL_law_115 : decode cL_law 115 = .ok (.aload_n 0, 1) := by decide +kernel
theorem dL_law_116 : decode cL_law 116 = .ok (.iload_n 3, 1) := by decide +kernel
theorem dL_law_117 : decode cL_law 117 = .ok (.iconst 3, 1) := by decide +kernel
theorem dL_law_118 : decode cL_law 118 = .ok (.iadd, 1) := by decide +kernel
theorem dL_law_119 : decode cL_law 119 = .ok (.iaload, 1) := by decide +kernel
theorem dL_law_120 : decode cL_law 120 = .ok (.invokevirtual 13, 3) := by decide +kernel
theorem dL_law_123 : decode cL_law 123 = .ok (.aload_n 2, 1) := by decide +kernel
theorem dL_law_124 : decode cL_law 124 = .ok (.aload_n 0, 1) := by decide +kernel
theorem dL_law_125 : decode cL_law 125 = .ok (.iload_n 3, 1) := by decide +kernel
theorem dL_law_126 : decode cL_law 126 = .ok (.iconst 1, 1) := by decide +kernel
theorem dL_law_127 : decode cL_law 127 = .ok (.iadd, 1) := by decide +kernel
theorem dL_law_128 : decode cL_law 128 = .ok (.iaload, 1) := by decide +kernel
theorem dL_law_129 : decode cL_law 129 = .ok (.aload_n 0, 1) := by decide +kernel
theorem dL_law_130 : decode cL_law 130 = .ok (.iload_n 3, 1) := by decide +kernel
theorem dL_law_131 : decode cL_law 131 = .ok (.iconst 2, 1) := by decide +kernel
theorem dL_law_132 : decode cL_law 132 = .ok (.iadd, 1) := by decide +kernel
theorem dL_law_133 : decode cL_law 133 = .ok (.iaload, 1) := by decide +kernel
theorem dL_law_134 : decode cL_law 134 = .ok (.aload_n 0, 1) := by decide +kernel
theorem dL_law_135 : decode cL_law 135 = .ok (.iload_n 3, 1) := by decide +kernel
theorem dL_law_136 : decode cL_law 136 = .ok (.iconst 3, 1) := by decide +kernel
theorem dL_law_137 : decode cL_law 137 = .ok (.iadd, 1) := by decide +kernel
theorem dL_law_138 : decode cL_law 138 = .ok (.iaload, 1) := by decide +kernel
theorem dL_law_139 : decode cL_law 139 = .ok (.invokevirtual 17, 3) := by decide +kernel
theorem dL_law_142 : decode cL_law 142 = .ok (.if_icmp .eq 264, 3) := by decide +kernel
theorem dL_law_145 : decode cL_law 145 = .ok (.iconst 0, 1) := by decide +kernel
theorem dL_law_146 : decode cL_law 146 = .ok (.ireturn, 1) := by decide +kernel
theorem dL_law_147 : decode cL_law 147 = .ok (.aload_n 1, 1) := by decide +kernel
theorem dL_law_148 : decode cL_law 148 = .ok (.aload_n 0, 1) := by decide +kernel
theorem dL_law_149 : decode cL_law 149 = .ok (.iload_n 3, 1) := by decide +kernel
end
section
set_option maxRecDepth 100000
theorem dL_law_150 : decode cL_law 150 = .ok (.iconst 1, 1) := by decide +kernel
theorem dL_law_151 : decode cL_law 151 = .ok (.iadd, 1) := by decide +kernel
theorem dL_law_152 : decode cL_law 152 = .ok (.iaload, 1) := by decide +kernel
theorem dL_law_153 : decode cL_law 153 = .ok (.invokevirtual 18, 3) := by decide +kernel
theorem dL_law_156 : decode cL_law 156 = .ok (.aload_n 2, 1) := by decide +kernel
theorem dL_law_157 : decode cL_law 157 = .ok (.aload_n 0, 1) := by decide +kernel
theorem dL_law_158 : decode cL_law 158 = .ok (.iload_n 3, 1) := by decide +kernel
theorem dL_law_159 : decode cL_law 159 = .ok (.iconst 1, 1) := by decide +kernel
theorem dL_law_160 : decode cL_law 160 = .ok (.iadd, 1) := by decide +kernel
theorem dL_law_161 : decode cL_law 161 = .ok (.iaload, 1) := by decide +kernel
theorem dL_law_162 : decode cL_law 162 = .ok (.invokevirtual 22, 3) := by decide +kernel
theorem dL_law_165 : decode cL_law 165 = .ok (.if_icmp .eq 241, 3) := by decide +kernel
theorem dL_law_168 : decode cL_law 168 = .ok (.iconst 0, 1) := by decide +kernel
theorem dL_law_169 : decode cL_law 169 = .ok (.ireturn, 1) := by decide +kernel
theorem dL_law_170 : decode cL_law 170 = .ok (.aload_n 1, 1) := by decide +kernel
theorem dL_law_171 : decode cL_law 171 = .ok (.aload_n 0, 1) := by decide +kernel
theorem dL_law_172 : decode cL_law 172 = .ok (.iload_n 3, 1) := by decide +kernel
theorem dL_law_173 : decode cL_law 173 = .ok (.iconst 1, 1) := by decide +kernel
theorem dL_law_174 : decode cL_law 174 = .ok (.iadd, 1) := by decide +kernel
theorem dL_law_175 : decode cL_law 175 = .ok (.iaload, 1) := by decide +kernel
theorem dL_law_176 : decode cL_law 176 = .ok (.invokevirtual 23, 3) := by decide +kernel
theorem dL_law_179 : decode cL_law 179 = .ok (.aload_n 2, 1) := by decide +kernel
theorem dL_law_180 : decode cL_law 180 = .ok (.aload_n 0, 1) := by decide +kernel
theorem dL_law_181 : decode cL_law 181 = .ok (.iload_n 3, 1) := by decide +kernel
theorem dL_law_182 : decode cL_law 182 = .ok (.iconst 1, 1) := by decide +kernel
theorem dL_law_183 : decode cL_law 183 = .ok (.iadd, 1) := by decide +kernel
theorem dL_law_184 : decode cL_law 184 = .ok (.iaload, 1) := by decide +kernel
theorem dL_law_185 : decode cL_law 185 = .ok (.invokevirtual 26, 3) := by decide +kernel
theorem dL_law_188 : decode cL_law 188 = .ok (.if_icmp .eq 218, 3) := by decide +kernel
theorem dL_law_191 : decode cL_law 191 = .ok (.iconst 0, 1) := by decide +kernel
theorem dL_law_192 : decode cL_law 192 = .ok (.ireturn, 1) := by decide +kernel
theorem dL_law_193 : decode cL_law 193 = .ok (.aload_n 1, 1) := by decide +kernel
theorem dL_law_194 : decode cL_law 194 = .ok (.invokevirtual 27, 3) := by decide +kernel
theorem dL_law_197 : decode cL_law 197 = .ok (.aload_n 2, 1) := by decide +kernel
theorem dL_law_198 : decode cL_law 198 = .ok (.invokevirtual 31, 3) := by decide +kernel
theorem dL_law_201 : decode cL_law 201 = .ok (.if_icmp .eq 205, 3) := by decide +kernel
theorem dL_law_204 : decode cL_law 204 = .ok (.iconst 0, 1) := by decide +kernel
theorem dL_law_205 : decode cL_law 205 = .ok (.ireturn, 1) := by decide +kernel
theorem dL_law_206 : decode cL_law 206 = .ok (.aload_n 1, 1) := by decide +kernel
theorem dL_law_207 : decode cL_law 207 = .ok (.invokevirtual 32, 3) := by decide +kernel
theorem dL_law_210 : decode cL_law 210 = .ok (.aload_n 2, 1) := by decide +kernel
theorem dL_law_211 : decode cL_law 211 = .ok (.invokevirtual 35, 3) := by decide +kernel
theorem dL_law_214 : decode cL_law 214 = .ok (.if_icmp .eq 192, 3) := by decide +kernel
theorem dL_law_217 : decode cL_law 217 = .ok (.iconst 0, 1) := by decide +kernel
theorem dL_law_218 : decode cL_law 218 = .ok (.ireturn, 1) := by decide +kernel
theorem dL_law_219 : decode cL_law 219 = .ok (.aload_n 1, 1) := by decide +kernel
theorem dL_law_220 : decode cL_law 220 = .ok (.invokevirtual 36, 3) := by decide +kernel
theorem dL_law_223 : decode cL_law 223 = .ok (.aload_n 2, 1) := by decide +kernel
theorem dL_law_224 : decode cL_law 224 = .ok (.invokevirtual 39, 3) := by decide +kernel
theorem dL_law_227 : decode cL_law 227 = .ok (.if_icmp .eq 179, 3) := by decide +kernel
theorem dL_law_230 : decode cL_law 230 = .ok (.iconst 0, 1) := by decide +kernel
theorem dL_law_231 : decode cL_law 231 = .ok (.ireturn, 1) := by decide +kernel
theorem dL_law_232 : decode cL_law 232 = .ok (.aload_n 1, 1) := by decide +kernel
theorem dL_law_233 : decode cL_law 233 = .ok (.aload_n 0, 1) := by decide +kernel
theorem dL_law_234 : decode cL_law 234 = .ok (.iload_n 3, 1) := by decide +kernel
theorem dL_law_235 : decode cL_law 235 = .ok (.iconst 1, 1) := by decide +kernel
theorem dL_law_236 : decode cL_law 236 = .ok (.iadd, 1) := by decide +kernel
theorem dL_law_237 : decode cL_law 237 = .ok (.iaload, 1) := by decide +kernel
theorem dL_law_238 : decode cL_law 238 = .ok (.invokevirtual 40, 3) := by decide +kernel
theorem dL_law_241 : decode cL_law 241 = .ok (.aload_n 2, 1) := by decide +kernel
theorem dL_law_242 : decode cL_law 242 = .ok (.aload_n 0, 1) := by decide +kernel
theorem dL_law_243 : decode cL_law 243 = .ok (.iload_n 3, 1) := by decide +kernel
end
section
set_option maxRecDepth 100000
theorem dL_law_244 : decode cL_law 244 = .ok (.iconst 1, 1) := by decide +kernel
theorem dL_law_245 : decode cL_law 245 = .ok (.iadd, 1) := by decide +kernel
theorem dL_law_246 : decode cL_law 246 = .ok (.iaload, 1) := by decide +kernel
theorem dL_law_247 : decode cL_law 247 = .ok (.invokevirtual 43, 3) := by decide +kernel
theorem dL_law_250 : decode cL_law 250 = .ok (.if_icmp .eq 156, 3) := by decide +kernel
theorem dL_law_253 : decode cL_law 253 = .ok (.iconst 0, 1) := by decide +kernel
theorem dL_law_254 : decode cL_law 254 = .ok (.ireturn, 1) := by decide +kernel
theorem dL_law_255 : decode cL_law 255 = .ok (.aload_n 1, 1) := by decide +kernel
theorem dL_law_256 : decode cL_law 256 = .ok (.invokevirtual 44, 3) := by decide +kernel
theorem dL_law_259 : decode cL_law 259 = .ok (.aload_n 2, 1) := by decide +kernel
theorem dL_law_260 : decode cL_law 260 = .ok (.invokevirtual 47, 3) := by decide +kernel
theorem dL_law_263 : decode cL_law 263 = .ok (.if_icmp .eq 143, 3) := by decide +kernel
theorem dL_law_266 : decode cL_law 266 = .ok (.iconst 0, 1) := by decide +kernel
theorem dL_law_267 : decode cL_law 267 = .ok (.ireturn, 1) := by decide +kernel
theorem dL_law_268 : decode cL_law 268 = .ok (.aload_n 1, 1) := by decide +kernel
theorem dL_law_269 : decode cL_law 269 = .ok (.aload_n 0, 1) := by decide +kernel
theorem dL_law_270 : decode cL_law 270 = .ok (.iload_n 3, 1) := by decide +kernel
theorem dL_law_271 : decode cL_law 271 = .ok (.iconst 1, 1) := by decide +kernel
theorem dL_law_272 : decode cL_law 272 = .ok (.iadd, 1) := by decide +kernel
theorem dL_law_273 : decode cL_law 273 = .ok (.iaload, 1) := by decide +kernel
theorem dL_law_274 : decode cL_law 274 = .ok (.invokevirtual 48, 3) := by decide +kernel
theorem dL_law_277 : decode cL_law 277 = .ok (.aload_n 2, 1) := by decide +kernel
theorem dL_law_278 : decode cL_law 278 = .ok (.aload_n 0, 1) := by decide +kernel
theorem dL_law_279 : decode cL_law 279 = .ok (.iload_n 3, 1) := by decide +kernel
theorem dL_law_280 : decode cL_law 280 = .ok (.iconst 1, 1) := by decide +kernel
theorem dL_law_281 : decode cL_law 281 = .ok (.iadd, 1) := by decide +kernel
theorem dL_law_282 : decode cL_law 282 = .ok (.iaload, 1) := by decide +kernel
theorem dL_law_283 : decode cL_law 283 = .ok (.invokevirtual 51, 3) := by decide +kernel
theorem dL_law_286 : decode cL_law 286 = .ok (.if_icmp .eq 120, 3) := by decide +kernel
theorem dL_law_289 : decode cL_law 289 = .ok (.iconst 0, 1) := by decide +kernel
theorem dL_law_290 : decode cL_law 290 = .ok (.ireturn, 1) := by decide +kernel
theorem dL_law_291 : decode cL_law 291 = .ok (.aload_n 1, 1) := by decide +kernel
theorem dL_law_292 : decode cL_law 292 = .ok (.invokevirtual 52, 3) := by decide +kernel
theorem dL_law_295 : decode cL_law 295 = .ok (.aload_n 2, 1) := by decide +kernel
theorem dL_law_296 : decode cL_law 296 = .ok (.invokevirtual 55, 3) := by decide +kernel
theorem dL_law_299 : decode cL_law 299 = .ok (.if_icmp .eq 107, 3) := by decide +kernel
theorem dL_law_302 : decode cL_law 302 = .ok (.iconst 0, 1) := by decide +kernel
theorem dL_law_303 : decode cL_law 303 = .ok (.ireturn, 1) := by decide +kernel
theorem dL_law_304 : decode cL_law 304 = .ok (.aload_n 1, 1) := by decide +kernel
theorem dL_law_305 : decode cL_law 305 = .ok (.aload_n 0, 1) := by decide +kernel
theorem dL_law_306 : decode cL_law 306 = .ok (.iload_n 3, 1) := by decide +kernel
theorem dL_law_307 : decode cL_law 307 = .ok (.iconst 1, 1) := by decide +kernel
theorem dL_law_308 : decode cL_law 308 = .ok (.iadd, 1) := by decide +kernel
theorem dL_law_309 : decode cL_law 309 = .ok (.iaload, 1) := by decide +kernel
theorem dL_law_310 : decode cL_law 310 = .ok (.invokevirtual 56, 3) := by decide +kernel
theorem dL_law_313 : decode cL_law 313 = .ok (.aload_n 2, 1) := by decide +kernel
theorem dL_law_314 : decode cL_law 314 = .ok (.aload_n 0, 1) := by decide +kernel
theorem dL_law_315 : decode cL_law 315 = .ok (.iload_n 3, 1) := by decide +kernel
theorem dL_law_316 : decode cL_law 316 = .ok (.iconst 1, 1) := by decide +kernel
theorem dL_law_317 : decode cL_law 317 = .ok (.iadd, 1) := by decide +kernel
theorem dL_law_318 : decode cL_law 318 = .ok (.iaload, 1) := by decide +kernel
theorem dL_law_319 : decode cL_law 319 = .ok (.invokevirtual 59, 3) := by decide +kernel
theorem dL_law_322 : decode cL_law 322 = .ok (.if_icmp .eq 84, 3) := by decide +kernel
theorem dL_law_325 : decode cL_law 325 = .ok (.iconst 0, 1) := by decide +kernel
theorem dL_law_326 : decode cL_law 326 = .ok (.ireturn, 1) := by decide +kernel
theorem dL_law_327 : decode cL_law 327 = .ok (.aload_n 1, 1) := by decide +kernel
theorem dL_law_328 : decode cL_law 328 = .ok (.aload_n 0, 1) := by decide +kernel
theorem dL_law_329 : decode cL_law 329 = .ok (.iload_n 3, 1) := by decide +kernel
theorem dL_law_330 : decode cL_law 330 = .ok (.iconst 1, 1) := by decide +kernel
theorem dL_law_331 : decode cL_law 331 = .ok (.iadd, 1) := by decide +kernel
theorem dL_law_332 : decode cL_law 332 = .ok (.iaload, 1) := by decide +kernel
theorem dL_law_333 : decode cL_law 333 = .ok (.invokevirtual 60, 3) := by decide +kernel
end
section
set_option maxRecDepth 100000
theorem dL_law_336 : decode cL_law 336 = .ok (.aload_n 2, 1) := by decide +kernel
theorem dL_law_337 : decode cL_law 337 = .ok (.aload_n 0, 1) := by decide +kernel
theorem dL_law_338 : decode cL_law 338 = .ok (.iload_n 3, 1) := by decide +kernel
theorem dL_law_339 : decode cL_law 339 = .ok (.iconst 1, 1) := by decide +kernel
theorem dL_law_340 : decode cL_law 340 = .ok (.iadd, 1) := by decide +kernel
theorem dL_law_341 : decode cL_law 341 = .ok (.iaload, 1) := by decide +kernel
theorem dL_law_342 : decode cL_law 342 = .ok (.invokevirtual 63, 3) := by decide +kernel
theorem dL_law_345 : decode cL_law 345 = .ok (.if_icmp .eq 61, 3) := by decide +kernel
theorem dL_law_348 : decode cL_law 348 = .ok (.iconst 0, 1) := by decide +kernel
theorem dL_law_349 : decode cL_law 349 = .ok (.ireturn, 1) := by decide +kernel
theorem dL_law_350 : decode cL_law 350 = .ok (.aload_n 1, 1) := by decide +kernel
theorem dL_law_351 : decode cL_law 351 = .ok (.aload_n 0, 1) := by decide +kernel
theorem dL_law_352 : decode cL_law 352 = .ok (.iload_n 3, 1) := by decide +kernel
theorem dL_law_353 : decode cL_law 353 = .ok (.iconst 1, 1) := by decide +kernel
theorem dL_law_354 : decode cL_law 354 = .ok (.iadd, 1) := by decide +kernel
theorem dL_law_355 : decode cL_law 355 = .ok (.iaload, 1) := by decide +kernel
theorem dL_law_356 : decode cL_law 356 = .ok (.aload_n 0, 1) := by decide +kernel
theorem dL_law_357 : decode cL_law 357 = .ok (.iload_n 3, 1) := by decide +kernel
theorem dL_law_358 : decode cL_law 358 = .ok (.iconst 2, 1) := by decide +kernel
theorem dL_law_359 : decode cL_law 359 = .ok (.iadd, 1) := by decide +kernel
theorem dL_law_360 : decode cL_law 360 = .ok (.iaload, 1) := by decide +kernel
theorem dL_law_361 : decode cL_law 361 = .ok (.invokevirtual 64, 3) := by decide +kernel
theorem dL_law_364 : decode cL_law 364 = .ok (.aload_n 2, 1) := by decide +kernel
theorem dL_law_365 : decode cL_law 365 = .ok (.aload_n 0, 1) := by decide +kernel
theorem dL_law_366 : decode cL_law 366 = .ok (.iload_n 3, 1) := by decide +kernel
theorem dL_law_367 : decode cL_law 367 = .ok (.iconst 1, 1) := by decide +kernel
theorem dL_law_368 : decode cL_law 368 = .ok (.iadd, 1) := by decide +kernel
theorem dL_law_369 : decode cL_law 369 = .ok (.iaload, 1) := by decide +kernel
theorem dL_law_370 : decode cL_law 370 = .ok (.aload_n 0, 1) := by decide +kernel
theorem dL_law_371 : decode cL_law 371 = .ok (.iload_n 3, 1) := by decide +kernel
theorem dL_law_372 : decode cL_law 372 = .ok (.iconst 2, 1) := by decide +kernel
theorem dL_law_373 : decode cL_law 373 = .ok (.iadd, 1) := by decide +kernel
theorem dL_law_374 : decode cL_law 374 = .ok (.iaload, 1) := by decide +kernel
theorem dL_law_375 : decode cL_law 375 = .ok (.invokevirtual 68, 3) := by decide +kernel
theorem dL_law_378 : decode cL_law 378 = .ok (.if_icmp .eq 28, 3) := by decide +kernel
theorem dL_law_381 : decode cL_law 381 = .ok (.iconst 0, 1) := by decide +kernel
theorem dL_law_382 : decode cL_law 382 = .ok (.ireturn, 1) := by decide +kernel
theorem dL_law_383 : decode cL_law 383 = .ok (.aload_n 1, 1) := by decide +kernel
theorem dL_law_384 : decode cL_law 384 = .ok (.aload_n 0, 1) := by decide +kernel
theorem dL_law_385 : decode cL_law 385 = .ok (.iload_n 3, 1) := by decide +kernel
theorem dL_law_386 : decode cL_law 386 = .ok (.iconst 1, 1) := by decide +kernel
theorem dL_law_387 : decode cL_law 387 = .ok (.iadd, 1) := by decide +kernel
theorem dL_law_388 : decode cL_law 388 = .ok (.iaload, 1) := by decide +kernel
theorem dL_law_389 : decode cL_law 389 = .ok (.invokevirtual 69, 3) := by decide +kernel
theorem dL_law_392 : decode cL_law 392 = .ok (.aload_n 2, 1) := by decide +kernel
theorem dL_law_393 : decode cL_law 393 = .ok (.aload_n 0, 1) := by decide +kernel
theorem dL_law_394 : decode cL_law 394 = .ok (.iload_n 3, 1) := by decide +kernel
theorem dL_law_395 : decode cL_law 395 = .ok (.iconst 1, 1) := by decide +kernel
theorem dL_law_396 : decode cL_law 396 = .ok (.iadd, 1) := by decide +kernel
theorem dL_law_397 : decode cL_law 397 = .ok (.iaload, 1) := by decide +kernel
theorem dL_law_398 : decode cL_law 398 = .ok (.invokevirtual 72, 3) := by decide +kernel
theorem dL_law_401 : decode cL_law 401 = .ok (.if_icmp .eq 5, 3) := by decide +kernel
theorem dL_law_404 : decode cL_law 404 = .ok (.iconst 0, 1) := by decide +kernel
theorem dL_law_405 : decode cL_law 405 = .ok (.ireturn, 1) := by decide +kernel
theorem dL_law_406 : decode cL_law 406 = .ok (.iinc 3 4, 3) := by decide +kernel
theorem dL_law_409 : decode cL_law 409 = .ok (.goto (-391), 3) := by decide +kernel
theorem dL_law_412 : decode cL_law 412 = .ok (.iconst 1, 1) := by decide +kernel
theorem dL_law_413 : decode cL_law 413 = .ok (.ireturn, 1) := by decide +kernel
end
section
/-! THE STATES AND WHAT THE METHODS DO TO THEM, as plain functions. xS: TimerWheel's cells (time, setOnes, due, periods, wheel, cellOf, ringCount, row, rowAt); mS: TimerWheelModel's (time, on, due, periods, rang, who, when) -/
abbrev xS : Type := Nat × Int32 × (Nat → Int32) × (Nat → Int32) × (Nat → Int32) × (Nat → Int32) × Nat × (Nat → Int32) × (Nat → Int32)
abbrev tw_t (u : xS) : Nat := u.1
abbrev tw_so (u : xS) : Int32 := u.2.1
abbrev tw_du (u : xS) : Nat → Int32 := u.2.2.1
abbrev tw_pe (u : xS) : Nat → Int32 := u.2.2.2.1
abbrev tw_wh (u : xS) : Nat → Int32 := u.2.2.2.2.1
abbrev tw_co (u : xS) : Nat → Int32 := u.2.2.2.2.2.1
abbrev tw_rc (u : xS) : Nat := u.2.2.2.2.2.2.1
abbrev tw_ro (u : xS) : Nat → Int32 := u.2.2.2.2.2.2.2.1
abbrev tw_ra (u : xS) : Nat → Int32 := u.2.2.2.2.2.2.2.2
abbrev mS : Type := Nat × (Nat → Int32) × (Nat → Int32) × (Nat → Int32) × Nat × (Nat → Int32) × (Nat → Int32)
abbrev tm_t (u : mS) : Nat := u.1
abbrev tm_on (u : mS) : Nat → Int32 := u.2.1
abbrev tm_du (u : mS) : Nat → Int32 := u.2.2.1
abbrev tm_pe (u : mS) : Nat → Int32 := u.2.2.2.1
abbrev tm_rc (u : mS) : Nat := u.2.2.2.2.1
abbrev tm_wo (u : mS) : Nat → Int32 := u.2.2.2.2.2.1
abbrev tm_wn (u : mS) : Nat → Int32 := u.2.2.2.2.2.2
/-- 16 and 500, as names that do not unfold -/
noncomputable def t16 : Nat := Classical.choose (⟨16, rfl⟩ : ∃ n : Nat, n = 16)
theorem t16_eq : t16 = 16 := Classical.choose_spec (⟨16, rfl⟩ : ∃ n : Nat, n = 16)
noncomputable def t500 : Nat := Classical.choose (⟨500, rfl⟩ : ∃ n : Nat, n = 500)
theorem t500_eq : t500 = 500 := Classical.choose_spec (⟨500, rfl⟩ : ∃ n : Nat, n = 500)
/-- the one bit k -/
def tw_b (k : Nat) : Int32 := (1 : Int32) <<< (nI k &&& 31)
/-- where a timer due at d belongs at time t -/
def tw_cl (d t : Int32) : Nat := if d - t < 64 then (if d - t < 8 then d.toBitVec.toNat % 8 else 8 + (d >>> ((3 : Int32) &&& 31)).toBitVec.toNat % 8) else 16 + (d >>> ((6 : Int32) &&& 31)).toBitVec.toNat % 8
theorem tw_cl_lt (d t : Int32) : tw_cl d t < 24 := by
  unfold tw_cl
  split
  · split <;> omega
  · omega
def tw_place (u : xS) (k : Nat) : xS := (tw_t u, tw_so u, tw_du u, tw_pe u, upd (tw_wh u) (tw_cl (tw_du u k) (nI (tw_t u))) (tw_wh u (tw_cl (tw_du u k) (nI (tw_t u))) ||| tw_b k), upd (tw_co u) k (nI (tw_cl (tw_du u k) (nI (tw_t u)))), tw_rc u, tw_ro u, tw_ra u)
def tw_unplace (u : xS) (k : Nat) : xS := (tw_t u, tw_so u, tw_du u, tw_pe u, upd (tw_wh u) (tw_co u k).toNatClampNeg (tw_wh u (tw_co u k).toNatClampNeg &&& (tw_b k ^^^ (-1))), tw_co u, tw_rc u, tw_ro u, tw_ra u)
def tw_clr (u : xS) (c : Nat) : xS := (tw_t u, tw_so u, tw_du u, tw_pe u, upd (tw_wh u) c 0, tw_co u, tw_rc u, tw_ro u, tw_ra u)
def tw_mdL (z : Int32) (u : xS) : Nat → xS
  | 0 => u
  | i + 1 => if bt z i = true then tw_place (tw_mdL z u i) i else tw_mdL z u i
noncomputable def tw_md (u : xS) (c : Nat) : xS := tw_mdL (tw_wh u c) (tw_clr u c) t16
def tw_ring (u : xS) (k : Nat) : xS :=
  if tw_pe u k ≤ 0 then (tw_t u, tw_so u &&& (tw_b k ^^^ (-1)), tw_du u, tw_pe u, tw_wh u, tw_co u, tw_rc u + 1, upd (tw_ro u) (tw_rc u % 20) (nI k), upd (tw_ra u) (tw_rc u % 20) (nI (tw_t u)))
  else tw_place (tw_t u, (tw_so u &&& (tw_b k ^^^ (-1))) ||| tw_b k, upd (tw_du u) k (nI (tw_t u) + tw_pe u k), tw_pe u, tw_wh u, tw_co u, tw_rc u + 1, upd (tw_ro u) (tw_rc u % 20) (nI k), upd (tw_ra u) (tw_rc u % 20) (nI (tw_t u))) k
def tw_tkL (z : Int32) (u : xS) : Nat → xS × Nat
  | 0 => (u, 0)
  | i + 1 => if bt z i = true then (tw_ring (tw_tkL z u i).1 i, (tw_tkL z u i).2 + 1) else tw_tkL z u i
def tw_inc (u : xS) : xS := (tw_t u + 1, tw_so u, tw_du u, tw_pe u, tw_wh u, tw_co u, tw_rc u, tw_ro u, tw_ra u)
noncomputable def tw_tk1 (u : xS) : xS := if tw_t u % 64 = 0 then tw_md u (16 + tw_t u / 64 % 8) else u
noncomputable def tw_tk2 (u : xS) : xS := if tw_t u % 8 = 0 then tw_md u (8 + tw_t u / 8 % 8) else u
noncomputable def tw_tk3 (u : xS) : xS × Nat := tw_tkL (tw_wh u (tw_t u % 8)) (tw_clr u (tw_t u % 8)) t16
noncomputable def tw_tick (u : xS) : xS × Nat := tw_tk3 (tw_tk2 (tw_tk1 (tw_inc u)))
noncomputable def tw_tks (u : xS) : Nat → xS × Nat
  | 0 => (u, 0)
  | n + 1 => ((tw_tick (tw_tks u n).1).1, (tw_tks u n).2 + (tw_tick (tw_tks u n).1).2)
noncomputable def tw_pass (u : xS) (n : Int32) : xS × Int32 := if n < 0 ∨ 1000 < n then (u, -1) else ((tw_tks u n.toNatClampNeg).1, nI (tw_tks u n.toNatClampNeg).2)
noncomputable def tw_tnL : Nat → xS → xS × Nat
  | 0, u => (u, 0)
  | f + 1, u => if (tw_tick u).2 = 0 then ((tw_tnL f (tw_tick u).1).1, (tw_tnL f (tw_tick u).1).2 + 1) else ((tw_tick u).1, 1)
noncomputable def tw_toNext (u : xS) : xS × Int32 := if tw_so u = 0 then (u, -2) else ((tw_tnL t500 u).1, nI (tw_tnL t500 u).2)
def tw_is (u : xS) (k : Int32) : Bool := decide (¬ k < 0) && (decide (¬ 16 ≤ k) && bt (tw_so u) k.toNatClampNeg)
def tw_per (n : Int32) : Bool := decide (¬ n < 0) && decide (¬ 500 < n)
def tw_setN (u : xS) (k : Nat) (d p : Int32) : xS := tw_place (tw_t u, tw_so u ||| tw_b k, upd (tw_du u) k (nI (tw_t u) + d), upd (tw_pe u) k p, tw_wh u, tw_co u, tw_rc u, tw_ro u, tw_ra u) k
def tw_set (u : xS) (k d p : Int32) : xS × Int32 :=
  if k < 0 ∨ 16 ≤ k ∨ d < 1 ∨ 500 < d ∨ tw_per p = false then (u, -1)
  else (tw_setN (if tw_is u k = true then tw_unplace u k.toNatClampNeg else u) k.toNatClampNeg d p, nI (tw_t u) + d)
def tw_cancel (u : xS) (k : Int32) : xS × Int32 :=
  if tw_is u k = true then ((tw_t u, tw_so u &&& (tw_b k.toNatClampNeg ^^^ (-1)), tw_du u, tw_pe u, tw_wh (tw_unplace u k.toNatClampNeg), tw_co u, tw_rc u, tw_ro u, tw_ra u), tw_du u k.toNatClampNeg - nI (tw_t u)) else (u, -1)
def tw_left (u : xS) (k : Int32) : Int32 := if tw_is u k = true then tw_du u k.toNatClampNeg - nI (tw_t u) else -1
def tw_period (u : xS) (k : Int32) : Int32 := if tw_is u k = true then tw_pe u k.toNatClampNeg else -1
def tw_repeat (u : xS) (k p : Int32) : xS × Int32 := if tw_is u k = true ∧ tw_per p = true then ((tw_t u, tw_so u, tw_du u, upd (tw_pe u) k.toNatClampNeg p, tw_wh u, tw_co u, tw_rc u, tw_ro u, tw_ra u), 1) else (u, 0)
/-- an index or none, as the methods answer it -/
def tw_o : Option Nat → Int32
  | none => -2
  | some k => nI k
/-- next, after the places 15 .. 16 - j -/
def tw_nxL (u : xS) : Nat → Option Nat
  | 0 => none
  | j + 1 => if bt (tw_so u) (15 - j) = true then (match tw_nxL u j with
    | none => some (15 - j)
    | some b => if tw_du u b < tw_du u (15 - j) then some b else some (15 - j)) else tw_nxL u j
def tw_wiL (u : xS) (n : Int32) : Nat → Int32
  | 0 => 0
  | i + 1 => if bt (tw_so u) i = true ∧ ¬ n < tw_du u i - nI (tw_t u) then tw_wiL u n i + 1 else tw_wiL u n i
def tw_noted (rc : Nat) (i : Int32) : Bool := decide (¬ i < 0) && (decide (¬ 20 ≤ i) && decide (¬ nI rc ≤ i))
def tw_rung (u : xS) (i : Int32) : Int32 := if tw_noted (tw_rc u) i = true then tw_ro u ((tw_rc u - 1 - i.toNatClampNeg) % 20) else -2
def tw_rungAt (u : xS) (i : Int32) : Int32 := if tw_noted (tw_rc u) i = true then tw_ra u ((tw_rc u - 1 - i.toNatClampNeg) % 20) else -2
/-- the arrays who and when, moved on by n places from the end -/
def tm_sh (f : Nat → Int32) : Nat → (Nat → Int32)
  | 0 => f
  | n + 1 => upd (tm_sh f n) (19 - n) (tm_sh f n (18 - n))
def tm_ring (u : mS) (k : Nat) : mS := (tm_t u, upd (tm_on u) k (if tm_pe u k ≤ 0 then 0 else 1), upd (tm_du u) k (tm_du u k + tm_pe u k), tm_pe u, tm_rc u + 1, upd (tm_sh (tm_wo u) 19) 0 (nI k), upd (tm_sh (tm_wn u) 19) 0 (nI (tm_t u)))
def tm_tkL (u : mS) : Nat → mS × Nat
  | 0 => (u, 0)
  | i + 1 => if tm_on (tm_tkL u i).1 i = 0 then tm_tkL u i else if tm_du (tm_tkL u i).1 i = nI (tm_t (tm_tkL u i).1) then (tm_ring (tm_tkL u i).1 i, (tm_tkL u i).2 + 1) else tm_tkL u i
def tm_inc (u : mS) : mS := (tm_t u + 1, tm_on u, tm_du u, tm_pe u, tm_rc u, tm_wo u, tm_wn u)
noncomputable def tm_tick (u : mS) : mS × Nat := tm_tkL (tm_inc u) t16
noncomputable def tm_tks (u : mS) : Nat → mS × Nat
  | 0 => (u, 0)
  | n + 1 => ((tm_tick (tm_tks u n).1).1, (tm_tks u n).2 + (tm_tick (tm_tks u n).1).2)
noncomputable def tm_pass (u : mS) (n : Int32) : mS × Int32 := if n < 0 ∨ 1000 < n then (u, -1) else ((tm_tks u n.toNatClampNeg).1, nI (tm_tks u n.toNatClampNeg).2)
def tm_nxL (u : mS) : Nat → Option Nat
  | 0 => none
  | i + 1 => if tm_on u i = 0 then tm_nxL u i else (match tm_nxL u i with
    | none => some i
    | some b => if tm_du u b ≤ tm_du u i then some b else some i)
noncomputable def tm_toNext (u : mS) : mS × Int32 := match tm_nxL u t16 with
  | none => (u, -2)
  | some k => ((tm_tks u (tm_du u k - nI (tm_t u)).toNatClampNeg).1, tm_du u k - nI (tm_t u))
def tm_is (u : mS) (k : Int32) : Bool := decide (¬ k < 0) && (decide (¬ 15 < k) && decide (¬ tm_on u k.toNatClampNeg = 0))
def tm_set (u : mS) (k d p : Int32) : mS × Int32 :=
  if k < 0 ∨ 15 < k ∨ d < 1 ∨ 500 < d ∨ p < 0 ∨ 500 < p then (u, -1)
  else ((tm_t u, upd (tm_on u) k.toNatClampNeg 1, upd (tm_du u) k.toNatClampNeg (nI (tm_t u) + d), upd (tm_pe u) k.toNatClampNeg p, tm_rc u, tm_wo u, tm_wn u), nI (tm_t u) + d)
def tm_cancel (u : mS) (k : Int32) : mS × Int32 :=
  if tm_is u k = true then ((tm_t u, upd (tm_on u) k.toNatClampNeg 0, tm_du u, tm_pe u, tm_rc u, tm_wo u, tm_wn u), tm_du u k.toNatClampNeg - nI (tm_t u)) else (u, -1)
def tm_tiL (u : mS) : Nat → Int32
  | 0 => 0
  | i + 1 => if tm_on u i = 0 then tm_tiL u i else tm_tiL u i ||| tw_b i
def tm_left (u : mS) (k : Int32) : Int32 := if tm_is u k = true then tm_du u k.toNatClampNeg - nI (tm_t u) else -1
def tm_period (u : mS) (k : Int32) : Int32 := if tm_is u k = true then tm_pe u k.toNatClampNeg else -1
def tm_repeat (u : mS) (k p : Int32) : mS × Int32 := if tm_is u k = true ∧ ¬ p < 0 ∧ ¬ 500 < p then ((tm_t u, tm_on u, tm_du u, upd (tm_pe u) k.toNatClampNeg p, tm_rc u, tm_wo u, tm_wn u), 1) else (u, 0)
def tm_wiL (u : mS) (n : Int32) : Nat → Int32
  | 0 => 0
  | i + 1 => if tm_on u i = 0 then tm_wiL u n i else if n < tm_du u i - nI (tm_t u) then tm_wiL u n i else tm_wiL u n i + 1
def tm_kept (rc : Nat) (i : Int32) : Bool := decide (¬ i < 0) && (decide (¬ 19 < i) && decide (¬ nI rc ≤ i))
def tm_rung (u : mS) (i : Int32) : Int32 := if tm_kept (tm_rc u) i = true then tm_wo u i.toNatClampNeg else -2
def tm_rungAt (u : mS) (i : Int32) : Int32 := if tm_kept (tm_rc u) i = true then tm_wn u i.toNatClampNeg else -2
/-- the states that two fresh objects have -/
def tw_0 : xS := (0, 0, fun _ => 0, fun _ => 0, fun _ => 0, fun _ => 0, 0, fun _ => 0, fun _ => 0)
def tm_0 : mS := (0, fun _ => 0, fun _ => 0, fun _ => 0, 0, fun _ => 0, fun _ => 0)
/-! what the ticks do to the time and to the number of rings: needed by the walks -/
theorem tw_mdL_tm (z : Int32) (u : xS) : ∀ i, tw_t (tw_mdL z u i) = tw_t u ∧ tw_rc (tw_mdL z u i) = tw_rc u
  | 0 => ⟨rfl, rfl⟩
  | i + 1 => by
    obtain ⟨h1, h2⟩ := tw_mdL_tm z u i
    unfold tw_mdL
    split
    · exact ⟨h1, h2⟩
    · exact ⟨h1, h2⟩
theorem tw_md_t (u : xS) (c : Nat) : tw_t (tw_md u c) = tw_t u ∧ tw_rc (tw_md u c) = tw_rc u := tw_mdL_tm _ _ t16
theorem tw_ring_t (u : xS) (k : Nat) : tw_t (tw_ring u k) = tw_t u ∧ tw_rc (tw_ring u k) = tw_rc u + 1 := by
  unfold tw_ring
  split
  · exact ⟨rfl, rfl⟩
  · exact ⟨rfl, rfl⟩
theorem tw_tkL_t (z : Int32) (u : xS) : ∀ i, tw_t (tw_tkL z u i).1 = tw_t u ∧ tw_rc (tw_tkL z u i).1 = tw_rc u + (tw_tkL z u i).2 ∧ (tw_tkL z u i).2 ≤ i
  | 0 => ⟨rfl, rfl, Nat.le_refl _⟩
  | i + 1 => by
    obtain ⟨h1, h2, h3⟩ := tw_tkL_t z u i
    unfold tw_tkL
    split
    · obtain ⟨g1, g2⟩ := tw_ring_t (tw_tkL z u i).1 i
      exact ⟨g1.trans h1, by rw [g2, h2]; rfl, Nat.succ_le_succ h3⟩
    · exact ⟨h1, h2, Nat.le_succ_of_le h3⟩
theorem tw_tk1_t (u : xS) : tw_t (tw_tk1 u) = tw_t u ∧ tw_rc (tw_tk1 u) = tw_rc u := by
  unfold tw_tk1
  split
  · exact tw_md_t _ _
  · exact ⟨rfl, rfl⟩
theorem tw_tk2_t (u : xS) : tw_t (tw_tk2 u) = tw_t u ∧ tw_rc (tw_tk2 u) = tw_rc u := by
  unfold tw_tk2
  split
  · exact tw_md_t _ _
  · exact ⟨rfl, rfl⟩
theorem tw_tick_t (u : xS) : tw_t (tw_tick u).1 = tw_t u + 1 ∧ tw_rc (tw_tick u).1 = tw_rc u + (tw_tick u).2 ∧ (tw_tick u).2 ≤ 16 := by
  obtain ⟨a1, a2⟩ := tw_tk1_t (tw_inc u)
  obtain ⟨b1, b2⟩ := tw_tk2_t (tw_tk1 (tw_inc u))
  obtain ⟨c1, c2, c3⟩ := tw_tkL_t (tw_wh (tw_tk2 (tw_tk1 (tw_inc u))) (tw_t (tw_tk2 (tw_tk1 (tw_inc u))) % 8)) (tw_clr (tw_tk2 (tw_tk1 (tw_inc u))) (tw_t (tw_tk2 (tw_tk1 (tw_inc u))) % 8)) t16
  exact ⟨c1.trans (b1.trans a1), c2.trans (by show tw_rc (tw_tk2 (tw_tk1 (tw_inc u))) + _ = _; rw [b2, a2]; rfl), Nat.le_trans c3 (by rw [t16_eq]; exact Nat.le_refl _)⟩
theorem tw_tks_t (u : xS) : ∀ n, tw_t (tw_tks u n).1 = tw_t u + n ∧ tw_rc (tw_tks u n).1 = tw_rc u + (tw_tks u n).2 ∧ (tw_tks u n).2 ≤ 16 * n
  | 0 => ⟨rfl, rfl, Nat.le_refl _⟩
  | n + 1 => by
    obtain ⟨h1, h2, h3⟩ := tw_tks_t u n
    obtain ⟨g1, g2, g3⟩ := tw_tick_t (tw_tks u n).1
    refine ⟨g1.trans (by rw [h1]; omega), g2.trans (by rw [h2]; show _ = _ + ((tw_tks u n).2 + _); omega), ?_⟩
    show (tw_tks u n).2 + (tw_tick (tw_tks u n).1).2 ≤ _
    omega
theorem tm_tkL_t (u : mS) : ∀ i, tm_t (tm_tkL u i).1 = tm_t u ∧ tm_rc (tm_tkL u i).1 = tm_rc u + (tm_tkL u i).2 ∧ (tm_tkL u i).2 ≤ i
  | 0 => ⟨rfl, rfl, Nat.le_refl _⟩
  | i + 1 => by
    obtain ⟨h1, h2, h3⟩ := tm_tkL_t u i
    unfold tm_tkL
    split
    · exact ⟨h1, h2, Nat.le_succ_of_le h3⟩
    · split
      · exact ⟨h1, by show tm_rc (tm_tkL u i).1 + 1 = _; rw [h2]; rfl, Nat.succ_le_succ h3⟩
      · exact ⟨h1, h2, Nat.le_succ_of_le h3⟩
theorem tm_tick_t (u : mS) : tm_t (tm_tick u).1 = tm_t u + 1 ∧ tm_rc (tm_tick u).1 = tm_rc u + (tm_tick u).2 ∧ (tm_tick u).2 ≤ 16 := by
  have z := tm_tkL_t (tm_inc u) t16
  exact ⟨z.1, z.2.1, Nat.le_trans z.2.2 (by rw [t16_eq]; exact Nat.le_refl _)⟩
theorem tm_tks_t (u : mS) : ∀ n, tm_t (tm_tks u n).1 = tm_t u + n ∧ tm_rc (tm_tks u n).1 = tm_rc u + (tm_tks u n).2 ∧ (tm_tks u n).2 ≤ 16 * n
  | 0 => ⟨rfl, rfl, Nat.le_refl _⟩
  | n + 1 => by
    obtain ⟨h1, h2, h3⟩ := tm_tks_t u n
    obtain ⟨g1, g2, g3⟩ := tm_tick_t (tm_tks u n).1
    refine ⟨g1.trans (by rw [h1]; omega), g2.trans (by rw [h2]; show _ = _ + ((tm_tks u n).2 + _); omega), ?_⟩
    show (tm_tks u n).2 + (tm_tick (tm_tks u n).1).2 ≤ _
    omega
theorem tw_nxL_lt (u : xS) : ∀ j b, tw_nxL u j = some b → b < 16
  | 0, b, h => by simp [tw_nxL] at h
  | j + 1, b, h => by
    have ih := tw_nxL_lt u j
    unfold tw_nxL at h
    split at h
    · split at h
      · cases h; omega
      · next b0 hb0 =>
        split at h
        · cases h; exact ih _ hb0
        · cases h; omega
    · exact ih _ h
theorem tm_nxL_lt (u : mS) : ∀ j b, tm_nxL u j = some b → b < j
  | 0, b, h => by simp [tm_nxL] at h
  | j + 1, b, h => by
    have ih := tm_nxL_lt u j
    unfold tm_nxL at h
    split at h
    · exact Nat.lt_succ_of_lt (ih _ h)
    · split at h
      · cases h; omega
      · next b0 hb0 =>
        split at h
        · cases h; exact Nat.lt_succ_of_lt (ih _ hb0)
        · cases h; omega
/-! numbers -/
theorem tn_b8 : ∀ c, c < 24 → (nI c).toInt8.toInt32 = nI c := by decide +kernel
theorem tn_nb : ∀ c, c < 24 → vp_nar .byte (nI c) = nI c := by decide +kernel
theorem tn_s16 {n : Nat} (h : n ≤ 500) : (nI n).toInt16.toInt32 = nI n := (by decide +kernel : ∀ n, n < 501 → (nI n).toInt16.toInt32 = nI n) n (by omega)
theorem tn_ns {n : Nat} (h : n ≤ 500) : vp_nar .short (nI n) = nI n := tn_s16 h
theorem tn_tst (z : Int32) {k : Nat} (hk : k < 32) : (z >>> (nI k &&& 31)) &&& 1 = 0 ↔ bt z k = false := by
  have h1 : ∀ i, i < 32 → bt ((z >>> (nI k &&& 31)) &&& 1) i = (decide (i = 0) && bt z k) := by
    intro i hi
    rw [b_and, b_sshr k hk z hi]
    have e1 : bt 1 i = decide (i = 0) := (by decide +kernel : ∀ i, i < 32 → bt 1 i = decide (i = 0)) i hi
    rw [e1]
    by_cases h0 : i = 0
    · subst h0
      simp [hk]
    · simp [h0]
  constructor
  · intro h
    have h2 := h1 0 (by omega)
    rw [h, b_0] at h2
    simpa using h2.symm
  · intro h
    refine b_ext (fun i hi => ?_)
    rw [h1 i hi, h, b_0]
    simp
theorem tn_16 {k : Int32} (h0 : ¬ k < 0) (h1 : ¬ 16 ≤ k) : ∃ n : Nat, n < 16 ∧ k = nI n := by
  rcases pk_ix k (n := 16) (by omega) with h | h | h
  · exact absurd h h0
  · exact absurd h h1
  · exact h
theorem tn_15 {k : Int32} (h0 : ¬ k < 0) (h1 : ¬ 15 < k) : ∃ n : Nat, n < 16 ∧ k = nI n := by
  obtain ⟨j, hj, e⟩ := nI_of2 (M := 15) (n := 15) (by decide) h0 (Int32.not_lt.mp h1)
  exact ⟨j, by omega, e⟩
theorem tn_500 {p : Int32} (h0 : ¬ p < 0) (h1 : ¬ 500 < p) : ∃ n : Nat, n ≤ 500 ∧ p = nI n := nI_of2 (M := 500) (n := 500) (by decide) h0 (Int32.not_lt.mp h1)
theorem tn_1000 {p : Int32} (h0 : ¬ p < 0) (h1 : ¬ 1000 < p) : ∃ n : Nat, n ≤ 1000 ∧ p = nI n := nI_of2 (M := 1000) (n := 1000) (by decide) h0 (Int32.not_lt.mp h1)
theorem tn_and63 {t : Nat} (h : t < 2 ^ 31) : nI t &&& 63 = 0 ↔ t % 64 = 0 := by
  rw [pk_andN (by omega) 6 (by decide), ← nI_0]
  exact nI_eq (by omega) (by omega)
theorem tn_and7 {t : Nat} (h : t < 2 ^ 31) : nI t &&& 7 = nI (t % 8) := pk_andN (by omega) 3 (by decide)
theorem tn_and70 {t : Nat} (h : t < 2 ^ 31) : nI t &&& 7 = 0 ↔ t % 8 = 0 := by
  rw [tn_and7 h, ← nI_0]
  exact nI_eq (by omega) (by omega)
theorem tn_c16 {t : Nat} (h : t < 2 ^ 31) : (16 : Int32) + ((nI t >>> ((6 : Int32) &&& 31)) &&& 7) = nI (16 + t / 64 % 8) := by
  rw [pk_shrN h _ 6 (by decide), pk_andN (by omega) 3 (by decide)]
  exact nI_add 16 _
theorem tn_c8 {t : Nat} (h : t < 2 ^ 31) : (8 : Int32) + ((nI t >>> ((3 : Int32) &&& 31)) &&& 7) = nI (8 + t / 8 % 8) := by
  rw [pk_shrN h _ 3 (by decide), pk_andN (by omega) 3 (by decide)]
  exact nI_add 8 _
theorem tn_cl2 (d : Int32) : (16 : Int32) + ((d >>> ((6 : Int32) &&& 31)) &&& 7) = nI (16 + (d >>> ((6 : Int32) &&& 31)).toBitVec.toNat % 8) := by
  rw [pk_and (d >>> ((6 : Int32) &&& 31)) 3 (by decide)]
  exact nI_add 16 _
theorem tn_cl1 (d : Int32) : (8 : Int32) + ((d >>> ((3 : Int32) &&& 31)) &&& 7) = nI (8 + (d >>> ((3 : Int32) &&& 31)).toBitVec.toNat % 8) := by
  rw [pk_and (d >>> ((3 : Int32) &&& 31)) 3 (by decide)]
  exact nI_add 8 _
theorem tn_cl0 (d : Int32) : d &&& 7 = nI (d.toBitVec.toNat % 8) := pk_and d 3 (by decide)
theorem tn_rem {n : Nat} (h : n < 2 ^ 31) : nI n - nI n / 20 * 20 = nI (n % 20) := pk_rem (a := n) (d := 20) h (by omega) (by omega)
end
section
/-! the functions' values, case by case: what the walks' leaves quote -/
theorem tn_ite {b : Bool} {r : Int32} (h : r = if b = true then 1 else 0) : (¬ r = 0 → b = true) ∧ (r = 0 → b = false) := by
  subst h
  cases b
  · exact ⟨fun z => absurd rfl z, fun _ => rfl⟩
  · exact ⟨fun _ => rfl, fun z => absurd z (by decide)⟩
theorem tn_tst2 (z : Int32) {k : Int32} {n : Nat} (hn : n < 16) (ek : k = nI n) : (z >>> (k &&& 31)) &&& 1 = 0 ↔ bt z n = false := by
  subst ek
  exact tn_tst z (by omega)
theorem tn_bt {b : Bool} {P : Prop} (h : P ↔ b = false) (n : ¬ P) : b = true := by
  cases b
  · exact absurd (h.mpr rfl) n
  · rfl
theorem tw_per_f1 {n : Int32} (h : n < 0) : tw_per n = false := by
  unfold tw_per
  rw [decide_eq_false (fun z : ¬ n < 0 => z h)]
  rfl
theorem tw_per_f2 {n : Int32} (h : 500 < n) : tw_per n = false := by
  unfold tw_per
  rw [decide_eq_false (fun z : ¬ 500 < n => z h), Bool.and_false]
theorem tw_per_t {n : Int32} (h1 : ¬ n < 0) (h2 : ¬ 500 < n) : tw_per n = true := by
  unfold tw_per
  rw [decide_eq_true h1, decide_eq_true h2]
  rfl
theorem tw_per_i {n : Int32} (h : tw_per n = true) : ∃ j : Nat, j ≤ 500 ∧ n = nI j := by
  refine tn_500 (fun z => ?_) (fun z => ?_)
  · rw [tw_per_f1 z] at h; cases h
  · rw [tw_per_f2 z] at h; cases h
theorem tw_is_f1 (u : xS) {k : Int32} (h : k < 0) : tw_is u k = false := by
  unfold tw_is
  rw [decide_eq_false (fun z : ¬ k < 0 => z h)]
  rfl
theorem tw_is_f2 (u : xS) {k : Int32} (h : 16 ≤ k) : tw_is u k = false := by
  unfold tw_is
  rw [decide_eq_false (fun z : ¬ 16 ≤ k => z h), Bool.false_and, Bool.and_false]
theorem tw_is_nI (u : xS) {n : Nat} (h : n < 16) : tw_is u (nI n) = bt (tw_so u) n := by
  unfold tw_is
  rw [decide_eq_true (nI_pos (n := n) (by omega)), decide_eq_true (show ¬ (16 : Int32) ≤ nI n from nI_ge (a := n) (b := 16) h (by omega)), nI_clamp (by omega), Bool.true_and, Bool.true_and]
theorem tw_is_i {u : xS} {k : Int32} (h : tw_is u k = true) : ∃ n : Nat, n < 16 ∧ k = nI n ∧ bt (tw_so u) n = true := by
  obtain ⟨n, hn, e⟩ := tn_16 (k := k) (fun z => by rw [tw_is_f1 u z] at h; cases h) (fun z => by rw [tw_is_f2 u z] at h; cases h)
  refine ⟨n, hn, e, ?_⟩
  rw [e, tw_is_nI u hn] at h
  exact h
theorem tw_unplace_eq (u : xS) {k cn : Nat} (hcn : cn < 24) (e : tw_co u k = nI cn) : tw_unplace u k = (tw_t u, tw_so u, tw_du u, tw_pe u, upd (tw_wh u) cn (tw_wh u cn &&& (tw_b k ^^^ (-1))), tw_co u, tw_rc u, tw_ro u, tw_ra u) := by
  unfold tw_unplace
  rw [e, nI_clamp (by omega)]
theorem tw_place_eq (u : xS) {k cn : Nat} (e : tw_cl (tw_du u k) (nI (tw_t u)) = cn) : tw_place u k = (tw_t u, tw_so u, tw_du u, tw_pe u, upd (tw_wh u) cn (tw_wh u cn ||| tw_b k), upd (tw_co u) k (nI cn), tw_rc u, tw_ro u, tw_ra u) := by
  subst e
  rfl
theorem tw_mdL_n {z : Int32} {u : xS} {i : Nat} (h : bt z i = false) : tw_mdL z u (i + 1) = tw_mdL z u i := by
  rw [tw_mdL, if_neg (by rw [h]; decide)]
theorem tw_mdL_s {z : Int32} {u : xS} {i : Nat} (h : bt z i = true) : tw_mdL z u (i + 1) = tw_place (tw_mdL z u i) i := by
  rw [tw_mdL, if_pos h]
theorem tw_tkL_n {z : Int32} {u : xS} {i : Nat} (h : bt z i = false) : tw_tkL z u (i + 1) = tw_tkL z u i := by
  rw [tw_tkL, if_neg (by rw [h]; decide)]
theorem tw_tkL_s {z : Int32} {u : xS} {i : Nat} (h : bt z i = true) : tw_tkL z u (i + 1) = (tw_ring (tw_tkL z u i).1 i, (tw_tkL z u i).2 + 1) := by
  rw [tw_tkL, if_pos h]
theorem tw_ring_0 (u : xS) {k : Nat} (h : tw_pe u k ≤ 0) : tw_ring u k = (tw_t u, tw_so u &&& (tw_b k ^^^ (-1)), tw_du u, tw_pe u, tw_wh u, tw_co u, tw_rc u + 1, upd (tw_ro u) (tw_rc u % 20) (nI k), upd (tw_ra u) (tw_rc u % 20) (nI (tw_t u))) := if_pos h
theorem tw_ring_1 (u : xS) {k : Nat} (h : ¬ tw_pe u k ≤ 0) : tw_ring u k = tw_place (tw_t u, (tw_so u &&& (tw_b k ^^^ (-1))) ||| tw_b k, upd (tw_du u) k (nI (tw_t u) + tw_pe u k), tw_pe u, tw_wh u, tw_co u, tw_rc u + 1, upd (tw_ro u) (tw_rc u % 20) (nI k), upd (tw_ra u) (tw_rc u % 20) (nI (tw_t u))) k := if_neg h
theorem tw_tk1_0 {u : xS} (h : tw_t u % 64 = 0) : tw_tk1 u = tw_md u (16 + tw_t u / 64 % 8) := if_pos h
theorem tw_tk1_1 {u : xS} (h : ¬ tw_t u % 64 = 0) : tw_tk1 u = u := if_neg h
theorem tw_tk2_0 {u : xS} (h : tw_t u % 8 = 0) : tw_tk2 u = tw_md u (8 + tw_t u / 8 % 8) := if_pos h
theorem tw_tk2_1 {u : xS} (h : ¬ tw_t u % 8 = 0) : tw_tk2 u = u := if_neg h
theorem tw_tks_go {u v v' : xS} {i a q : Nat} (ev : (v, a) = tw_tks u i) (hw : (v', q) = tw_tick v) : (v', a + q) = tw_tks u (i + 1) := by
  show _ = ((tw_tick (tw_tks u i).1).1, (tw_tks u i).2 + (tw_tick (tw_tks u i).1).2)
  rw [← ev]
  show _ = ((tw_tick v).1, a + (tw_tick v).2)
  rw [← hw]
theorem tw_pass_bad (u : xS) {n : Int32} (h : n < 0 ∨ 1000 < n) : tw_pass u n = (u, -1) := if_pos h
theorem tw_pass_ok (u : xS) {n : Nat} (h : n ≤ 1000) : tw_pass u (nI n) = ((tw_tks u n).1, nI (tw_tks u n).2) := by
  unfold tw_pass
  rw [if_neg, nI_clamp (by omega)]
  rintro (z | z)
  · exact nI_pos (by omega) z
  · exact nI_nlt (a := 1000) (b := n) h (by omega) z
theorem tw_tnL_0 {f q : Nat} {v v' : xS} (hw : (v', q) = tw_tick v) (h : q = 0) : tw_tnL (f + 1) v = ((tw_tnL f v').1, (tw_tnL f v').2 + 1) := by
  rw [tw_tnL, ← hw, if_pos h]
theorem tw_tnL_1 {f q : Nat} {v v' : xS} (hw : (v', q) = tw_tick v) (h : ¬ q = 0) : tw_tnL (f + 1) v = (v', 1) := by
  rw [tw_tnL, ← hw, if_neg h]
theorem tw_toNext_0 (u : xS) (h : tw_so u = 0) : tw_toNext u = (u, -2) := if_pos h
theorem tw_toNext_1 (u : xS) (h : ¬ tw_so u = 0) : tw_toNext u = ((tw_tnL t500 u).1, nI (tw_tnL t500 u).2) := if_neg h
theorem tw_set_bad (u : xS) {k d p : Int32} (h : k < 0 ∨ 16 ≤ k ∨ d < 1 ∨ 500 < d ∨ tw_per p = false) : tw_set u k d p = (u, -1) := if_pos h
theorem tw_set_ok (u : xS) {n : Nat} {d p : Int32} (hn : n < 16) (h3 : ¬ d < 1) (h4 : ¬ 500 < d) (hp : tw_per p = true) : tw_set u (nI n) d p = (tw_setN (if tw_is u (nI n) = true then tw_unplace u n else u) n d p, nI (tw_t u) + d) := by
  unfold tw_set
  rw [if_neg, nI_clamp (by omega)]
  rintro (z | z | z | z | z)
  · exact nI_pos (by omega) z
  · exact nI_ge (a := n) (b := 16) hn (by omega) z
  · exact h3 z
  · exact h4 z
  · rw [hp] at z; cases z
theorem tw_cancel_f (u : xS) {k : Int32} (h : tw_is u k = false) : tw_cancel u k = (u, -1) := if_neg (by rw [h]; decide)
theorem tw_cancel_t (u : xS) {n : Nat} (hn : n < 16) (h : bt (tw_so u) n = true) : tw_cancel u (nI n) = ((tw_t u, tw_so u &&& (tw_b n ^^^ (-1)), tw_du u, tw_pe u, tw_wh (tw_unplace u n), tw_co u, tw_rc u, tw_ro u, tw_ra u), tw_du u n - nI (tw_t u)) := by
  unfold tw_cancel
  rw [if_pos (by rw [tw_is_nI u hn]; exact h), nI_clamp (by omega)]
theorem tw_left_f (u : xS) {k : Int32} (h : tw_is u k = false) : tw_left u k = -1 := if_neg (by rw [h]; decide)
theorem tw_left_t (u : xS) {n : Nat} (hn : n < 16) (h : bt (tw_so u) n = true) : tw_left u (nI n) = tw_du u n - nI (tw_t u) := by
  unfold tw_left
  rw [if_pos (by rw [tw_is_nI u hn]; exact h), nI_clamp (by omega)]
theorem tw_period_f (u : xS) {k : Int32} (h : tw_is u k = false) : tw_period u k = -1 := if_neg (by rw [h]; decide)
theorem tw_period_t (u : xS) {n : Nat} (hn : n < 16) (h : bt (tw_so u) n = true) : tw_period u (nI n) = tw_pe u n := by
  unfold tw_period
  rw [if_pos (by rw [tw_is_nI u hn]; exact h), nI_clamp (by omega)]
theorem tw_repeat_f1 (u : xS) {k p : Int32} (h : tw_is u k = false) : tw_repeat u k p = (u, 0) := if_neg (fun z => by rw [h] at z; cases z.1)
theorem tw_repeat_f2 (u : xS) {k p : Int32} (h : tw_per p = false) : tw_repeat u k p = (u, 0) := if_neg (fun z => by rw [h] at z; cases z.2)
theorem tw_repeat_t (u : xS) {n : Nat} {p : Int32} (hn : n < 16) (h : bt (tw_so u) n = true) (hp : tw_per p = true) : tw_repeat u (nI n) p = ((tw_t u, tw_so u, tw_du u, upd (tw_pe u) n p, tw_wh u, tw_co u, tw_rc u, tw_ro u, tw_ra u), 1) := by
  unfold tw_repeat
  rw [if_pos ⟨by rw [tw_is_nI u hn]; exact h, hp⟩, nI_clamp (by omega)]
def tw_kv : Nat → Int32
  | 0 => -1
  | r + 1 => nI r
theorem tw_kv_dec : ∀ r : Nat, nI r + (-1) = tw_kv r
  | 0 => by decide
  | r + 1 => pk_m1 r
theorem tw_nxL_n {u : xS} {j : Nat} (h : bt (tw_so u) (15 - j) = false) : tw_nxL u (j + 1) = tw_nxL u j := by
  rw [tw_nxL, if_neg (by rw [h]; decide)]
theorem tw_nxL_0 {u : xS} {j : Nat} (h : bt (tw_so u) (15 - j) = true) (e : none = tw_nxL u j) : tw_nxL u (j + 1) = some (15 - j) := by
  rw [tw_nxL, if_pos h, ← e]
theorem tw_nxL_k {u : xS} {j b : Nat} (h : bt (tw_so u) (15 - j) = true) (e : some b = tw_nxL u j) (hd : tw_du u b < tw_du u (15 - j)) : tw_nxL u (j + 1) = some b := by
  rw [tw_nxL, if_pos h, ← e]
  exact if_pos hd
theorem tw_nxL_c {u : xS} {j b : Nat} (h : bt (tw_so u) (15 - j) = true) (e : some b = tw_nxL u j) (hd : ¬ tw_du u b < tw_du u (15 - j)) : tw_nxL u (j + 1) = some (15 - j) := by
  rw [tw_nxL, if_pos h, ← e]
  exact if_neg hd
theorem tw_wiL_1 {u : xS} {n : Int32} {i : Nat} (h1 : bt (tw_so u) i = true) (h2 : ¬ n < tw_du u i - nI (tw_t u)) : tw_wiL u n (i + 1) = tw_wiL u n i + 1 := by
  rw [tw_wiL, if_pos ⟨h1, h2⟩]
theorem tw_wiL_0 {u : xS} {n : Int32} {i : Nat} (h1 : bt (tw_so u) i = false) : tw_wiL u n (i + 1) = tw_wiL u n i := by
  rw [tw_wiL, if_neg (fun z => by rw [h1] at z; cases z.1)]
theorem tw_wiL_2 {u : xS} {n : Int32} {i : Nat} (h2 : n < tw_du u i - nI (tw_t u)) : tw_wiL u n (i + 1) = tw_wiL u n i := by
  rw [tw_wiL, if_neg (fun z => z.2 h2)]
theorem tw_noted_f1 {rc : Nat} {i : Int32} (h : i < 0) : tw_noted rc i = false := by
  unfold tw_noted
  rw [decide_eq_false (fun z : ¬ i < 0 => z h)]
  rfl
theorem tw_noted_f2 {rc : Nat} {i : Int32} (h : 20 ≤ i) : tw_noted rc i = false := by
  unfold tw_noted
  rw [decide_eq_false (fun z : ¬ 20 ≤ i => z h), Bool.false_and, Bool.and_false]
theorem tw_noted_f3 {rc : Nat} {i : Int32} (h : nI rc ≤ i) : tw_noted rc i = false := by
  unfold tw_noted
  rw [decide_eq_false (fun z : ¬ nI rc ≤ i => z h), Bool.and_false, Bool.and_false]
theorem tw_noted_t {rc : Nat} {i : Int32} (h1 : ¬ i < 0) (h2 : ¬ 20 ≤ i) (h3 : ¬ nI rc ≤ i) : tw_noted rc i = true := by
  unfold tw_noted
  rw [decide_eq_true h1, decide_eq_true h2, decide_eq_true h3]
  rfl
theorem tw_noted_i {rc : Nat} {i : Int32} (hr : rc < 2 ^ 31) (h : tw_noted rc i = true) : ∃ n : Nat, n < 20 ∧ n < rc ∧ i = nI n := by
  have h1 : ¬ i < 0 := fun z => by rw [tw_noted_f1 z] at h; cases h
  have h2 : ¬ 20 ≤ i := fun z => by rw [tw_noted_f2 z] at h; cases h
  have h3 : ¬ nI rc ≤ i := fun z => by rw [tw_noted_f3 z] at h; cases h
  rcases pk_ix i (n := 20) (by omega) with z | z | ⟨n, hn, e⟩
  · exact absurd z h1
  · exact absurd z h2
  · refine ⟨n, hn, ?_, e⟩
    rcases Nat.lt_or_ge n rc with z | z
    · exact z
    · exact absurd (by rw [e]; exact nI_le z (by omega)) h3
theorem tw_rung_f (u : xS) {i : Int32} (h : tw_noted (tw_rc u) i = false) : tw_rung u i = -2 := if_neg (by rw [h]; decide)
theorem tw_rung_t (u : xS) {n : Nat} (hn : n < 20) (h : tw_noted (tw_rc u) (nI n) = true) : tw_rung u (nI n) = tw_ro u ((tw_rc u - 1 - n) % 20) := by
  unfold tw_rung
  rw [if_pos h, nI_clamp (by omega)]
theorem tw_rungAt_f (u : xS) {i : Int32} (h : tw_noted (tw_rc u) i = false) : tw_rungAt u i = -2 := if_neg (by rw [h]; decide)
theorem tw_rungAt_t (u : xS) {n : Nat} (hn : n < 20) (h : tw_noted (tw_rc u) (nI n) = true) : tw_rungAt u (nI n) = tw_ra u ((tw_rc u - 1 - n) % 20) := by
  unfold tw_rungAt
  rw [if_pos h, nI_clamp (by omega)]
/-! the model's -/
theorem tm_is_f1 (u : mS) {k : Int32} (h : k < 0) : tm_is u k = false := by
  unfold tm_is
  rw [decide_eq_false (fun z : ¬ k < 0 => z h)]
  rfl
theorem tm_is_f2 (u : mS) {k : Int32} (h : 15 < k) : tm_is u k = false := by
  unfold tm_is
  rw [decide_eq_false (fun z : ¬ 15 < k => z h), Bool.false_and, Bool.and_false]
theorem tm_is_nI (u : mS) {n : Nat} (h : n < 16) : tm_is u (nI n) = decide (¬ tm_on u n = 0) := by
  unfold tm_is
  rw [decide_eq_true (nI_pos (n := n) (by omega)), decide_eq_true (show ¬ (15 : Int32) < nI n from nI_nlt (a := 15) (b := n) (by omega) (by omega)), nI_clamp (by omega), Bool.true_and, Bool.true_and]
theorem tm_is_0 (u : mS) {n : Nat} (h : n < 16) (h0 : tm_on u n = 0) : tm_is u (nI n) = false := by
  rw [tm_is_nI u h, decide_eq_false (fun z => z h0)]
theorem tm_is_1 (u : mS) {n : Nat} (h : n < 16) (h0 : ¬ tm_on u n = 0) : tm_is u (nI n) = true := by
  rw [tm_is_nI u h, decide_eq_true h0]
theorem tm_is_i {u : mS} {k : Int32} (h : tm_is u k = true) : ∃ n : Nat, n < 16 ∧ k = nI n ∧ ¬ tm_on u n = 0 := by
  obtain ⟨n, hn, e⟩ := tn_15 (k := k) (fun z => by rw [tm_is_f1 u z] at h; cases h) (fun z => by rw [tm_is_f2 u z] at h; cases h)
  refine ⟨n, hn, e, ?_⟩
  rw [e, tm_is_nI u hn] at h
  exact of_decide_eq_true h
theorem tm_sh_go (f : Nat → Int32) {j r : Nat} (h : j + (r + 1) = 19) : tm_sh f (j + 1) = upd (tm_sh f j) (r + 1) (tm_sh f j r) := by
  show upd (tm_sh f j) (19 - j) (tm_sh f j (18 - j)) = _
  rw [show 19 - j = r + 1 by omega, show 18 - j = r by omega]
theorem tm_tkL_0 {u v : mS} {a i : Nat} (ev : (v, a) = tm_tkL u i) (h : tm_on v i = 0) : (v, a) = tm_tkL u (i + 1) := by
  rw [tm_tkL, ← ev, if_pos h]
theorem tm_tkL_1 {u v : mS} {a i : Nat} (ev : (v, a) = tm_tkL u i) (h : ¬ tm_du v i = nI (tm_t v)) : (v, a) = tm_tkL u (i + 1) := by
  rw [tm_tkL, ← ev, if_neg (show ¬ tm_du v i = nI (tm_t v) from h)]
  split <;> rfl
theorem tm_tkL_2 {u v v' : mS} {a i : Nat} (ev : (v, a) = tm_tkL u i) (h0 : ¬ tm_on v i = 0) (h : tm_du v i = nI (tm_t v)) (hw : v' = tm_ring v i) : (v', a + 1) = tm_tkL u (i + 1) := by
  rw [tm_tkL, ← ev, if_neg (show ¬ tm_on v i = 0 from h0), if_pos (show tm_du v i = nI (tm_t v) from h), hw]
theorem tm_tks_go {u v v' : mS} {i a q : Nat} (ev : (v, a) = tm_tks u i) (hw : (v', q) = tm_tick v) : (v', a + q) = tm_tks u (i + 1) := by
  show _ = ((tm_tick (tm_tks u i).1).1, (tm_tks u i).2 + (tm_tick (tm_tks u i).1).2)
  rw [← ev]
  show _ = ((tm_tick v).1, a + (tm_tick v).2)
  rw [← hw]
theorem tm_pass_bad (u : mS) {n : Int32} (h : n < 0 ∨ 1000 < n) : tm_pass u n = (u, -1) := if_pos h
theorem tm_pass_ok (u : mS) {n : Nat} (h : n ≤ 1000) : tm_pass u (nI n) = ((tm_tks u n).1, nI (tm_tks u n).2) := by
  unfold tm_pass
  rw [if_neg, nI_clamp (by omega)]
  rintro (z | z)
  · exact nI_pos (by omega) z
  · exact nI_nlt (a := 1000) (b := n) h (by omega) z
theorem tm_toNext_0 (u : mS) (h : none = tm_nxL u t16) : tm_toNext u = (u, -2) := by
  unfold tm_toNext
  rw [← h]
theorem tm_toNext_1 (u : mS) {k n : Nat} (h : some k = tm_nxL u t16) (hn : n < 2 ^ 31) (e : tm_du u k - nI (tm_t u) = nI n) : tm_toNext u = ((tm_tks u n).1, nI n) := by
  unfold tm_toNext
  rw [← h]
  show ((tm_tks u (tm_du u k - nI (tm_t u)).toNatClampNeg).1, tm_du u k - nI (tm_t u)) = _
  rw [e, nI_clamp hn]
theorem tm_set_bad (u : mS) {k d p : Int32} (h : k < 0 ∨ 15 < k ∨ d < 1 ∨ 500 < d ∨ p < 0 ∨ 500 < p) : tm_set u k d p = (u, -1) := if_pos h
theorem tm_set_ok (u : mS) {n : Nat} {d p : Int32} (hn : n < 16) (h3 : ¬ d < 1) (h4 : ¬ 500 < d) (h5 : ¬ p < 0) (h6 : ¬ 500 < p) : tm_set u (nI n) d p = ((tm_t u, upd (tm_on u) n 1, upd (tm_du u) n (nI (tm_t u) + d), upd (tm_pe u) n p, tm_rc u, tm_wo u, tm_wn u), nI (tm_t u) + d) := by
  unfold tm_set
  rw [if_neg, nI_clamp (by omega)]
  rintro (z | z | z | z | z | z)
  · exact nI_pos (by omega) z
  · exact nI_nlt (a := 15) (b := n) (by omega) (by omega) z
  · exact h3 z
  · exact h4 z
  · exact h5 z
  · exact h6 z
theorem tm_cancel_f (u : mS) {k : Int32} (h : tm_is u k = false) : tm_cancel u k = (u, -1) := if_neg (by rw [h]; decide)
theorem tm_cancel_t (u : mS) {n : Nat} (hn : n < 16) (h : ¬ tm_on u n = 0) : tm_cancel u (nI n) = ((tm_t u, upd (tm_on u) n 0, tm_du u, tm_pe u, tm_rc u, tm_wo u, tm_wn u), tm_du u n - nI (tm_t u)) := by
  unfold tm_cancel
  rw [if_pos (tm_is_1 u hn h), nI_clamp (by omega)]
theorem tm_left_f (u : mS) {k : Int32} (h : tm_is u k = false) : tm_left u k = -1 := if_neg (by rw [h]; decide)
theorem tm_left_t (u : mS) {n : Nat} (hn : n < 16) (h : ¬ tm_on u n = 0) : tm_left u (nI n) = tm_du u n - nI (tm_t u) := by
  unfold tm_left
  rw [if_pos (tm_is_1 u hn h), nI_clamp (by omega)]
theorem tm_period_f (u : mS) {k : Int32} (h : tm_is u k = false) : tm_period u k = -1 := if_neg (by rw [h]; decide)
theorem tm_period_t (u : mS) {n : Nat} (hn : n < 16) (h : ¬ tm_on u n = 0) : tm_period u (nI n) = tm_pe u n := by
  unfold tm_period
  rw [if_pos (tm_is_1 u hn h), nI_clamp (by omega)]
theorem tm_repeat_f1 (u : mS) {k p : Int32} (h : tm_is u k = false) : tm_repeat u k p = (u, 0) := if_neg (fun z => by rw [h] at z; cases z.1)
theorem tm_repeat_f2 (u : mS) {k p : Int32} (h : p < 0) : tm_repeat u k p = (u, 0) := if_neg (fun z => z.2.1 h)
theorem tm_repeat_f3 (u : mS) {k p : Int32} (h : 500 < p) : tm_repeat u k p = (u, 0) := if_neg (fun z => z.2.2 h)
theorem tm_repeat_t (u : mS) {n : Nat} {p : Int32} (hn : n < 16) (h : ¬ tm_on u n = 0) (h1 : ¬ p < 0) (h2 : ¬ 500 < p) : tm_repeat u (nI n) p = ((tm_t u, tm_on u, tm_du u, upd (tm_pe u) n p, tm_rc u, tm_wo u, tm_wn u), 1) := by
  unfold tm_repeat
  rw [if_pos ⟨tm_is_1 u hn h, h1, h2⟩, nI_clamp (by omega)]
theorem tm_nxL_n {u : mS} {i : Nat} (h : tm_on u i = 0) : tm_nxL u (i + 1) = tm_nxL u i := by
  rw [tm_nxL, if_pos h]
theorem tm_nxL_0 {u : mS} {i : Nat} (h : ¬ tm_on u i = 0) (e : none = tm_nxL u i) : tm_nxL u (i + 1) = some i := by
  rw [tm_nxL, if_neg h, ← e]
theorem tm_nxL_k {u : mS} {i b : Nat} (h : ¬ tm_on u i = 0) (e : some b = tm_nxL u i) (hd : tm_du u b ≤ tm_du u i) : tm_nxL u (i + 1) = some b := by
  rw [tm_nxL, if_neg h, ← e]
  exact if_pos hd
theorem tm_nxL_c {u : mS} {i b : Nat} (h : ¬ tm_on u i = 0) (e : some b = tm_nxL u i) (hd : ¬ tm_du u b ≤ tm_du u i) : tm_nxL u (i + 1) = some i := by
  rw [tm_nxL, if_neg h, ← e]
  exact if_neg hd
theorem tm_tiL_0 {u : mS} {i : Nat} (h : tm_on u i = 0) : tm_tiL u (i + 1) = tm_tiL u i := by
  rw [tm_tiL, if_pos h]
theorem tm_tiL_1 {u : mS} {i : Nat} (h : ¬ tm_on u i = 0) : tm_tiL u (i + 1) = tm_tiL u i ||| tw_b i := by
  rw [tm_tiL, if_neg h]
theorem tm_wiL_0 {u : mS} {n : Int32} {i : Nat} (h1 : tm_on u i = 0) : tm_wiL u n (i + 1) = tm_wiL u n i := by
  rw [tm_wiL, if_pos h1]
theorem tm_wiL_2 {u : mS} {n : Int32} {i : Nat} (h1 : ¬ tm_on u i = 0) (h2 : n < tm_du u i - nI (tm_t u)) : tm_wiL u n (i + 1) = tm_wiL u n i := by
  rw [tm_wiL, if_neg h1, if_pos h2]
theorem tm_wiL_1 {u : mS} {n : Int32} {i : Nat} (h1 : ¬ tm_on u i = 0) (h2 : ¬ n < tm_du u i - nI (tm_t u)) : tm_wiL u n (i + 1) = tm_wiL u n i + 1 := by
  rw [tm_wiL, if_neg h1, if_neg h2]
theorem tm_kept_f1 {rc : Nat} {i : Int32} (h : i < 0) : tm_kept rc i = false := by
  unfold tm_kept
  rw [decide_eq_false (fun z : ¬ i < 0 => z h)]
  rfl
theorem tm_kept_f2 {rc : Nat} {i : Int32} (h : 19 < i) : tm_kept rc i = false := by
  unfold tm_kept
  rw [decide_eq_false (fun z : ¬ 19 < i => z h), Bool.false_and, Bool.and_false]
theorem tm_kept_f3 {rc : Nat} {i : Int32} (h : nI rc ≤ i) : tm_kept rc i = false := by
  unfold tm_kept
  rw [decide_eq_false (fun z : ¬ nI rc ≤ i => z h), Bool.and_false, Bool.and_false]
theorem tm_kept_t {rc : Nat} {i : Int32} (h1 : ¬ i < 0) (h2 : ¬ 19 < i) (h3 : ¬ nI rc ≤ i) : tm_kept rc i = true := by
  unfold tm_kept
  rw [decide_eq_true h1, decide_eq_true h2, decide_eq_true h3]
  rfl
theorem tm_kept_i {rc : Nat} {i : Int32} (h : tm_kept rc i = true) : ∃ n : Nat, n < 20 ∧ i = nI n := by
  have h1 : ¬ i < 0 := fun z => by rw [tm_kept_f1 z] at h; cases h
  have h2 : ¬ 19 < i := fun z => by rw [tm_kept_f2 z] at h; cases h
  obtain ⟨j, hj, e⟩ := nI_of2 (M := 19) (n := 19) (by decide) h1 (Int32.not_lt.mp h2)
  exact ⟨j, by omega, e⟩
theorem tm_rung_f (u : mS) {i : Int32} (h : tm_kept (tm_rc u) i = false) : tm_rung u i = -2 := if_neg (by rw [h]; decide)
theorem tm_rung_t (u : mS) {n : Nat} (hn : n < 20) (h : tm_kept (tm_rc u) (nI n) = true) : tm_rung u (nI n) = tm_wo u n := by
  unfold tm_rung
  rw [if_pos h, nI_clamp (by omega)]
theorem tm_rungAt_f (u : mS) {i : Int32} (h : tm_kept (tm_rc u) i = false) : tm_rungAt u i = -2 := if_neg (by rw [h]; decide)
theorem tm_rungAt_t (u : mS) {n : Nat} (hn : n < 20) (h : tm_kept (tm_rc u) (nI n) = true) : tm_rungAt u (nI n) = tm_wn u n := by
  unfold tm_rungAt
  rw [if_pos h, nI_clamp (by omega)]
end
section
/-! ROWS OF THIS CLAIM: contracts over a world that is a function of a plain state; entry, calls, ends; arrays by Nat places -/
abbrev vwCl : List vw_C := [(RX0, TX0, 9), (RX1, TX1, 7)]
/-- TimerWheel's world: the object at h, its arrays at ad 0 .. 5 of array classes ca 0 .. 5 -/
abbrev wX (h : Nat) (ad : Nat → Nat) (ca : Nat → ClassId) (u : xS) : va_W := [(h, .inr (0, [.int (nI u.1), .int u.2.1, .ref (ad 0), .ref (ad 1), .ref (ad 2), .ref (ad 3), .int (nI u.2.2.2.2.2.2.1), .ref (ad 4), .ref (ad 5)])), (ad 0, .inl (ca 0, 16, .inl u.2.2.1)), (ad 1, .inl (ca 1, 16, .inl u.2.2.2.1)), (ad 2, .inl (ca 2, 24, .inl u.2.2.2.2.1)), (ad 3, .inl (ca 3, 16, .inl u.2.2.2.2.2.1)), (ad 4, .inl (ca 4, 20, .inl u.2.2.2.2.2.2.2.1)), (ad 5, .inl (ca 5, 20, .inl u.2.2.2.2.2.2.2.2))]
abbrev kX (ca : Nat → ClassId) : List (ClassId × FieldType) := [(ca 0, .int), (ca 1, .short), (ca 2, .int), (ca 3, .byte), (ca 4, .byte), (ca 5, .int)]
/-- TimerWheelModel's world -/
abbrev wM (h : Nat) (ad : Nat → Nat) (ca : Nat → ClassId) (u : mS) : va_W := [(h, .inr (1, [.int (nI u.1), .ref (ad 0), .ref (ad 1), .ref (ad 2), .int (nI u.2.2.2.2.1), .ref (ad 3), .ref (ad 4)])), (ad 0, .inl (ca 0, 16, .inl u.2.1)), (ad 1, .inl (ca 1, 16, .inl u.2.2.1)), (ad 2, .inl (ca 2, 16, .inl u.2.2.2.1)), (ad 3, .inl (ca 3, 20, .inl u.2.2.2.2.2.1)), (ad 4, .inl (ca 4, 20, .inl u.2.2.2.2.2.2))]
abbrev kM (ca : Nat → ClassId) : List (ClassId × FieldType) := [(ca 0, .boolean), (ca 1, .int), (ca 2, .int), (ca 3, .int), (ca 4, .int)]
def tr_Pc (D : va_G) (tys : List (ClassId × FieldType)) (w : va_W) (As : List Value) (sz : Nat) : Array Value → State → Prop := va_Pc As (fun U => U.heap.size = sz ∧ va_P D vwCl w U.heap ∧ va_K D vwCl tys U ∧ va_D (fun _ => True) w)
def tr_B {S : Type} (D : va_G) (tys : List (ClassId × FieldType)) (wf : S → va_W) (A : Nat → Prop) (u : S) (t : State) : Prop := va_P D vwCl (wf u) t.heap ∧ va_K D vwCl tys t ∧ va_D A (wf u)
/-- a contract: the method answers an int (or a boolean), makes no cell -/
def tr_Ci {S : Type} (l : Launch) (D : va_G) (tys : List (ClassId × FieldType)) (wf : S → va_W) (y : MethodName) (cb : ByteArray) (n : Nat) (rt : Option FieldType) (rm : Room) (As : List Value) (u : S) (post : Int32 → S → Prop) : Prop :=
  ∀ sz : Nat, Met l y (ws_ y cb n rt) rm (tr_Pc D tys (wf u) As sz) (va_Qi post (tr_B D tys wf (va_A (wf u) sz)) (va_A (wf u) sz)) 0 0 (va_A (wf u) sz)
/-- a contract: the method answers nothing, makes no cell -/
def tr_Cv {S : Type} (l : Launch) (D : va_G) (tys : List (ClassId × FieldType)) (wf : S → va_W) (y : MethodName) (cb : ByteArray) (n : Nat) (rm : Room) (As : List Value) (u : S) (post : S → Prop) : Prop :=
  ∀ sz : Nat, Met l y (ws_ y cb n none) rm (tr_Pc D tys (wf u) As sz) (va_Qv post (tr_B D tys wf (va_A (wf u) sz)) (va_A (wf u) sz)) 0 0 (va_A (wf u) sz)
/-- a contract: a static method of numbers -/
def tr_Cs (l : Launch) (y : MethodName) (cb : ByteArray) (n : Nat) (rt : Option FieldType) (rm : Room) (As : List Value) (post : Int32 → Prop) : Prop :=
  Met l y (ws_ y cb n rt) rm (va_Pc As (fun _ => True)) (va_Qi (fun (r : Int32) (_ : Unit) => post r) (fun _ _ => True) (fun _ => False)) 0 0 (fun _ => False)
/-- two worlds have no cell in common -/
def tr_ap (w1 w2 : va_W) : Prop := ∀ (i j : Nat) (p q : Nat × va_E), w1[i]? = some p → w2[j]? = some q → p.1 ≠ q.1
theorem tr_ap.sy {w1 w2 : va_W} (h : tr_ap w1 w2) : tr_ap w2 w1 := fun i j p q hp hq z => h j i q p hq hp z.symm
theorem tr_ap.nl {w : va_W} : tr_ap [] w := fun i j p q hp => by simp at hp
theorem tr_Pnl {D : va_G} {H : Heap} : va_P D vwCl [] H := fun k q h => by simp at h
section TRE
variable {S : Type} {l : Launch} {D : va_G} {tys : List (ClassId × FieldType)} {wf : S → va_W} {y : MethodName} {cb : ByteArray} {n : Nat} {rt : Option FieldType} {rm : Room} {As : List Value} {u : S}
theorem tr_enteri {post : Int32 → S → Prop} (hy : plainName y.cls = true) (hlen : (lg_sl As).length ≤ n)
    (body : ∀ (p : Program) (e : Env) (s : State) (m : MethodId) (below : List Frame) (meth : Method) (c : Code) (A : Nat → Prop) (ls : Array Slot), p.tables.exec = Jvm.exec → c.code = cb → meth.sig.returnType = rt → c.maxLocals = n → s.vm.findClass y.cls = some m.cls → (∀ w ∈ lw_all, w.before As.toArray s = true) → meth.locks = false → (∀ q : Nat, s.heap.size ≤ q → A q) → va_K D vwCl tys s → va_P D vwCl (wf u) s.heap → va_D A (wf u) → va_S A s.heap s.heap [] → lv_has ls n (lv_args 0 As) →
      W p l e rm s m As.toArray below meth c s.heap [] 0 0 (MQ below (va_Qi post (tr_B D tys wf A) A) As.toArray s 0 0 A) (F0 m 0 ls [])) : tr_Ci l D tys wf y cb n rt rm As u post := by
  intro sz
  refine Met.ofW (cc := cb) (maxL := n) (ret := rt) hy rfl ?_
  intro p e s m args below meth c s₁ B hml hv
  obtain ⟨rfl, hsz, hP, hK, hD0⟩ := hv
  have hts := atoms_spec (ws := ws_ y cb n rt) B.pre
  have hts : ∀ w ∈ lw_all, w.before _ s = true := fun w h => hts w (List.mem_cons_of_mem _ h)
  have hown : s.vm.findClass y.cls = some m.cls := findClass_of_methodNamed B.named
  subst hsz
  have hl := lv_entry As (n := n) hlen
  rw [lg_entry_eq]
  exact body p e s m below meth c _ _ B.exec B.bytes B.returns hml hown hts B.notSynchronized (fun q h => Or.inr h) hK hP (hD0.self (sz := s.heap.size)) va_S.rf hl
theorem tr_enterv {post : S → Prop} (hy : plainName y.cls = true) (hlen : (lg_sl As).length ≤ n)
    (body : ∀ (p : Program) (e : Env) (s : State) (m : MethodId) (below : List Frame) (meth : Method) (c : Code) (A : Nat → Prop) (ls : Array Slot), p.tables.exec = Jvm.exec → c.code = cb → meth.sig.returnType = none → c.maxLocals = n → s.vm.findClass y.cls = some m.cls → (∀ w ∈ lw_all, w.before As.toArray s = true) → meth.locks = false → (∀ q : Nat, s.heap.size ≤ q → A q) → va_K D vwCl tys s → va_P D vwCl (wf u) s.heap → va_D A (wf u) → va_S A s.heap s.heap [] → lv_has ls n (lv_args 0 As) →
      W p l e rm s m As.toArray below meth c s.heap [] 0 0 (MQ below (va_Qv post (tr_B D tys wf A) A) As.toArray s 0 0 A) (F0 m 0 ls [])) : tr_Cv l D tys wf y cb n rm As u post := by
  intro sz
  refine Met.ofW (cc := cb) (maxL := n) (ret := none) hy rfl ?_
  intro p e s m args below meth c s₁ B hml hv
  obtain ⟨rfl, hsz, hP, hK, hD0⟩ := hv
  have hts := atoms_spec (ws := ws_ y cb n none) B.pre
  have hts : ∀ w ∈ lw_all, w.before _ s = true := fun w h => hts w (List.mem_cons_of_mem _ h)
  have hown : s.vm.findClass y.cls = some m.cls := findClass_of_methodNamed B.named
  subst hsz
  have hl := lv_entry As (n := n) hlen
  rw [lg_entry_eq]
  exact body p e s m below meth c _ _ B.exec B.bytes B.returns hml hown hts B.notSynchronized (fun q h => Or.inr h) hK hP (hD0.self (sz := s.heap.size)) va_S.rf hl
theorem tr_enters {post : Int32 → Prop} (hy : plainName y.cls = true) (hlen : (lg_sl As).length ≤ n)
    (body : ∀ (p : Program) (e : Env) (s : State) (m : MethodId) (below : List Frame) (meth : Method) (c : Code) (ls : Array Slot), p.tables.exec = Jvm.exec → c.code = cb → meth.sig.returnType = rt → meth.locks = false → lv_has ls n (lv_args 0 As) →
      W p l e rm s m As.toArray below meth c s.heap [] 0 0 (MQ below (va_Qi (fun (r : Int32) (_ : Unit) => post r) (fun _ _ => True) (fun _ => False)) As.toArray s 0 0 (fun _ => False)) (F0 m 0 ls [])) : tr_Cs l y cb n rt rm As post := by
  refine Met.ofW (cc := cb) (maxL := n) (ret := rt) hy rfl ?_
  intro p e s m args below meth c s₁ B hml hv
  obtain ⟨rfl, -⟩ := hv
  have hl := lv_entry As (n := n) hlen
  rw [lg_entry_eq]
  exact body p e s m below meth c _ B.exec B.bytes B.returns B.notSynchronized hl
end TRE
section TRC
variable {p : Program} {l : Launch} {e : Env} {R : Room} {s : State} {m : MethodId} {args : Array Value} {below : List Frame} {meth : Method} {c : Code} {H : Heap} {locs : List Loc} {cells slots : Nat} {Q : State → Prop}
variable {cc : ByteArray} {pc : Nat} {ls : Array Slot} {rest st0 : List Value} {D : va_G} {A : Nat → Prop} {a : Nat} {tys : List (ClassId × FieldType)} {ws : va_W} {H0 : Heap}
variable {S : Type} {wf : S → va_W} {v : S} {wr : va_W} {y : MethodName} {cb : ByteArray} {n' : Nat} {rt : Option FieldType} {rm : Room} {As : List Value} {b ci k index nL : Nat} {q : vw_C} {fs : List Value} {own : String}
theorem tr_out {H1 : Heap} {w1 : va_W} (hPr : va_P D vwCl wr H) (hap : tr_ap wr (wf v)) (hk1 : ∀ z : Nat, z < H.size → ¬ va_A (wf v) H.size z → H1[z]? = H[z]?) (hD1 : va_D (va_A (wf v) H.size) w1) : va_P D vwCl wr H1 ∧ tr_ap wr w1 := by
  have hout : ∀ (i : Nat) (z : Nat × va_E), wr[i]? = some z → ¬ va_A (wf v) H.size z.1 := by
    intro i z hz h
    rcases h with ⟨j, e', h⟩ | h
    · exact hap i j z (z.1, e') hz h rfl
    · exact absurd ((hPr i z hz).lt) (Nat.not_lt.mpr h)
  exact ⟨hPr.kept (fun i z hz => hk1 z.1 ((hPr i z hz).lt) (hout i z hz)), fun i j z z' hz hz' hzz => hout i z hz (by rw [hzz]; exact hD1.2 j z' hz')⟩
theorem tr_fre (hD : va_D A (wf v)) (hS : va_S A H0 H locs) (hA : ∀ z : Nat, H0.size ≤ z → A z) : ∀ z, va_A (wf v) H.size z → A z := by
  intro z hz
  rcases hz with ⟨k, e, h⟩ | h
  · exact hD.2 k (z, e) h
  · exact hA z (Nat.le_trans hS.1 h)
/-- a call through the object at b, whose world is wf v; the rest wr of the caller's world stays -/
theorem tr_calli {post : Int32 → S → Prop} (hfix : CallFix p m c cc nL s args lw_all own) (hM : tr_Ci l D tys wf y cb n' rt rm (.ref b :: As) v post) (cw : CallW R s args own q.1 index y cb n' rt (ws_ y cb n' rt) rm 0 0 k)
    (hK : va_K D vwCl tys s) (hP : va_P D vwCl (wf v) H) (hPr : va_P D vwCl wr H) (hD : va_D A (wf v)) (hap : tr_ap wr (wf v)) (hS : va_S A H0 H locs) (hA : ∀ z : Nat, H0.size ≤ z → A z)
    (hc : vwCl[ci]? = some q) (he : (wf v)[0]? = some (b, .inr (ci, fs))) (hn : As.length = k) (hsz : ls.size = nL) (hst : st0 = As.reverse ++ .ref b :: rest) (hroom : (rest.map fun v => v.category).sum ≤ 8) (hdg : decode cc pc = .ok (.invokevirtual index, 3)) (hcap : cells ≤ R.cells ∧ slots ≤ R.slots)
    (kk : ∀ (r : Int32) (u : S) (H1 : Heap) (locs1 : List Loc), post r u → va_P D vwCl (wf u) H1 → va_P D vwCl wr H1 → va_D A (wf u) → tr_ap wr (wf u) → va_S A H0 H1 locs1 → W p l e R s m args below meth c H1 locs1 cells slots Q (F0 m (pc + 3) ls (.int r :: rest))) : W p l e R s m args below meth c H locs cells slots Q (F0 m pc ls st0) := by
  subst hst
  have hFc := tr_fre hD hS hA
  refine va_calli (va_runV (As := As) (rest := rest) hfix (hM H.size) cw ⟨fun a U g mk z => ?_, va_recv hK hP hc he, fun U hU hW => ⟨rfl, by rw [hU], by rw [hU]; exact hP, va_K.moved hW.alike hK, hD.weaken (fun _ _ _ _ => trivial)⟩⟩ rfl hn hsz rfl (lv_room hroom) hdg hcap) hS (fun z _ h => hFc z h) hFc (fun r u t H1 locs1 ht hvm hw hB hz1 hk1 hS1 => ?_)
  · obtain ⟨q0, q1, qP, qK, qD⟩ := z
    exact ⟨q0, q1, qP, va_K.moved (u := U) (U := U.calling g mk a) (Vm.Alike.refl U.vm) qK, qD⟩
  · obtain ⟨hP1, -, hD1⟩ := hB
    rw [ht] at hP1
    obtain ⟨h1, h2⟩ := tr_out hPr hap hk1 hD1
    exact kk r u H1 locs1 hw hP1 h1 (hD1.weaken (fun _ z _ h => hFc z.1 h)) h2 hS1
theorem tr_callv {post : S → Prop} (hfix : CallFix p m c cc nL s args lw_all own) (hM : tr_Cv l D tys wf y cb n' rm (.ref b :: As) v post) (cw : CallW R s args own q.1 index y cb n' none (ws_ y cb n' none) rm 0 0 k)
    (hK : va_K D vwCl tys s) (hP : va_P D vwCl (wf v) H) (hPr : va_P D vwCl wr H) (hD : va_D A (wf v)) (hap : tr_ap wr (wf v)) (hS : va_S A H0 H locs) (hA : ∀ z : Nat, H0.size ≤ z → A z)
    (hc : vwCl[ci]? = some q) (he : (wf v)[0]? = some (b, .inr (ci, fs))) (hn : As.length = k) (hsz : ls.size = nL) (hst : st0 = As.reverse ++ .ref b :: rest) (hroom : (rest.map fun v => v.category).sum ≤ 8) (hdg : decode cc pc = .ok (.invokevirtual index, 3)) (hcap : cells ≤ R.cells ∧ slots ≤ R.slots)
    (kk : ∀ (u : S) (H1 : Heap) (locs1 : List Loc), post u → va_P D vwCl (wf u) H1 → va_P D vwCl wr H1 → va_D A (wf u) → tr_ap wr (wf u) → va_S A H0 H1 locs1 → W p l e R s m args below meth c H1 locs1 cells slots Q (F0 m (pc + 3) ls rest)) : W p l e R s m args below meth c H locs cells slots Q (F0 m pc ls st0) := by
  subst hst
  have hFc := tr_fre hD hS hA
  refine va_callv (va_runV (As := As) (rest := rest) hfix (hM H.size) cw ⟨fun a U g mk z => ?_, va_recv hK hP hc he, fun U hU hW => ⟨rfl, by rw [hU], by rw [hU]; exact hP, va_K.moved hW.alike hK, hD.weaken (fun _ _ _ _ => trivial)⟩⟩ rfl hn hsz rfl (lv_room hroom) hdg hcap) hS (fun z _ h => hFc z h) hFc (fun u t H1 locs1 ht hvm hw hB hz1 hk1 hS1 => ?_)
  · obtain ⟨q0, q1, qP, qK, qD⟩ := z
    exact ⟨q0, q1, qP, va_K.moved (u := U) (U := U.calling g mk a) (Vm.Alike.refl U.vm) qK, qD⟩
  · obtain ⟨hP1, -, hD1⟩ := hB
    rw [ht] at hP1
    obtain ⟨h1, h2⟩ := tr_out hPr hap hk1 hD1
    exact kk u H1 locs1 hw hP1 h1 (hD1.weaken (fun _ z _ h => hFc z.1 h)) h2 hS1
/-- a static call of numbers: no cell changes -/
theorem tr_calls {post : Int32 → Prop} (hfix : CallFix p m c cc nL s args lw_all own) (hM : tr_Cs l y cb n' rt rm As post) (cw : CallB R s args own index y cb n' rt (ws_ y cb n' rt) rm 0 0 k ∧ (Cond.static y).before args s = true)
    (hP : va_P D vwCl ws H) (hS : va_S A H0 H locs) (hn : As.length = k) (hsz : ls.size = nL) (hst : st0 = As.reverse ++ rest) (hroom : (rest.map fun v => v.category).sum ≤ 8) (hdg : decode cc pc = .ok (.invokestatic index, 3)) (hcap : cells ≤ R.cells ∧ slots ≤ R.slots)
    (kk : ∀ (r : Int32) (H1 : Heap) (locs1 : List Loc), post r → va_P D vwCl ws H1 → va_S A H0 H1 locs1 → W p l e R s m args below meth c H1 locs1 cells slots Q (F0 m (pc + 3) ls (.int r :: rest))) : W p l e R s m args below meth c H locs cells slots Q (F0 m pc ls st0) := by
  subst hst
  refine va_calli (va_runS (As := As) (rest := rest) hfix hM cw ⟨fun a U g mk z => z, fun U hU hW => ⟨rfl, trivial⟩⟩ rfl hn hsz rfl (lv_room hroom) hdg hcap) hS (fun z _ h => h.elim) (fun z h => h.elim) (fun r u t H1 locs1 ht hvm hw hB hz1 hk1 hS1 => ?_)
  exact kk r H1 locs1 hw (hP.kept (fun i z hz => hk1 z.1 ((hP i z hz).lt) (fun h => h))) hS1
theorem tr_iret {post : Int32 → S → Prop} {u : S} {r : Int32} (hx : p.tables.exec = Jvm.exec) (hb : c.code = cc) (hr : meth.sig.returnType = some .int) (hlocks : meth.locks = false) (hdg : decode cc pc = .ok (.ireturn, 1)) (hP : va_P D vwCl (wf u) H) (hK : va_K D vwCl tys s) (hD : va_D A (wf u)) (hS : va_S A s.heap H locs) (hw : post r u) : W p l e R s m args below meth c H locs 0 0 (MQ below (va_Qi post (tr_B D tys wf A) A) args s 0 0 A) (F0 m pc ls [.int r]) :=
  W.iret (v := r) hx hb hr (fun t ht hW => ⟨⟨r, u, rfl, hw, by rw [ht]; exact hP, va_K.moved hW.alike hK, hD⟩, hS.F ht⟩) hS.2.2 hdg hlocks
theorem tr_zret {post : Int32 → S → Prop} {u : S} {r : Int32} (hx : p.tables.exec = Jvm.exec) (hb : c.code = cc) (hr : meth.sig.returnType = some .boolean) (hlocks : meth.locks = false) (hdg : decode cc pc = .ok (.ireturn, 1)) (hnr : narrow .boolean (.int r) = .int r) (hP : va_P D vwCl (wf u) H) (hK : va_K D vwCl tys s) (hD : va_D A (wf u)) (hS : va_S A s.heap H locs) (hw : post r u) : W p l e R s m args below meth c H locs 0 0 (MQ below (va_Qi post (tr_B D tys wf A) A) args s 0 0 A) (F0 m pc ls [.int r]) :=
  W.zret (v := r) hx hb hr hnr (fun t ht hW => ⟨⟨r, u, rfl, hw, by rw [ht]; exact hP, va_K.moved hW.alike hK, hD⟩, hS.F ht⟩) hS.2.2 hdg hlocks
theorem tr_vret {post : S → Prop} {u : S} (hx : p.tables.exec = Jvm.exec) (hb : c.code = cc) (hr : meth.sig.returnType = none) (hlocks : meth.locks = false) (hdg : decode cc pc = .ok (.return_, 1)) (hP : va_P D vwCl (wf u) H) (hK : va_K D vwCl tys s) (hD : va_D A (wf u)) (hS : va_S A s.heap H locs) (hw : post u) : W p l e R s m args below meth c H locs 0 0 (MQ below (va_Qv post (tr_B D tys wf A) A) args s 0 0 A) (F0 m pc ls []) :=
  W.vret hx hb hr (fun t ht hW => ⟨⟨u, rfl, hw, by rw [ht]; exact hP, va_K.moved hW.alike hK, hD⟩, hS.F ht⟩) hS.2.2 hdg hlocks
theorem tr_sret {post : Int32 → Prop} {r : Int32} (hx : p.tables.exec = Jvm.exec) (hb : c.code = cc) (hr : meth.sig.returnType = some .boolean) (hlocks : meth.locks = false) (hdg : decode cc pc = .ok (.ireturn, 1)) (hnr : narrow .boolean (.int r) = .int r) (hw : post r) : W p l e R s m args below meth c s.heap [] 0 0 (MQ below (va_Qi (fun (r : Int32) (_ : Unit) => post r) (fun _ _ => True) (fun _ => False)) args s 0 0 (fun _ => False)) (F0 m pc ls [.int r]) :=
  W.zret (v := r) hx hb hr hnr (fun t ht hW => ⟨⟨r, (), rfl, hw, trivial⟩, (va_S.rf (A := fun _ => False) (H0 := s.heap)).F ht⟩) (fun q h => by cases h) hdg hlocks
/-- the value on top, by an equal one -/
theorem tr_re {z z' : Int32} (h : z = z') (kk : W p l e R s m args below meth c H locs cells slots Q (F0 m pc ls (.int z' :: rest))) : W p l e R s m args below meth c H locs cells slots Q (F0 m pc ls (.int z :: rest)) := by
  rw [h]
  exact kk
theorem tr_iald (hexec : p.tables.exec = Jvm.exec) (hb : c.code = cc) (hK : va_K D vwCl tys s) (hP : va_P D vwCl ws H) (q0 t0 : Nat) {cA : ClassId} {n : Nat} {f : Nat → Int32} (ha : ws[q0]? = some (a, .inl (cA, n, .inl f))) (ht : tys[t0]? = some (cA, .int)) {i : Int32} {k : Nat} (hi : i = nI k) (hk : k < n) (hn : n < 2 ^ 31) (hdg : decode cc pc = .ok (.iaload, 1))
    (kk : W p l e R s m args below meth c H locs cells slots Q (F0 m (pc + 1) ls (.int (f k) :: rest))) : W p l e R s m args below meth c H locs cells slots Q (F0 m pc ls (.int i :: .ref a :: rest)) := by
  subst hi
  refine va_iald hexec hb hK hP q0 t0 ha ht (vp_in_nI hk hn) hdg ?_
  rw [nI_clamp (Nat.lt_trans hk hn)]
  exact kk
theorem tr_bald (hexec : p.tables.exec = Jvm.exec) (hb : c.code = cc) (hK : va_K D vwCl tys s) (hP : va_P D vwCl ws H) (q0 t0 : Nat) {cA : ClassId} {n : Nat} {f : Nat → Int32} (ha : ws[q0]? = some (a, .inl (cA, n, .inl f))) (ht : tys[t0]? = some (cA, .byte)) {i : Int32} {k : Nat} (hi : i = nI k) (hk : k < n) (hn : n < 2 ^ 31) (hdg : decode cc pc = .ok (.baload, 1))
    (kk : W p l e R s m args below meth c H locs cells slots Q (F0 m (pc + 1) ls (.int (f k) :: rest))) : W p l e R s m args below meth c H locs cells slots Q (F0 m pc ls (.int i :: .ref a :: rest)) := by
  subst hi
  refine va_bald hexec hb hK hP q0 t0 ha ht (vp_in_nI hk hn) hdg ?_
  rw [nI_clamp (Nat.lt_trans hk hn)]
  exact kk
theorem tr_sald (hexec : p.tables.exec = Jvm.exec) (hb : c.code = cc) (hK : va_K D vwCl tys s) (hP : va_P D vwCl ws H) (q0 t0 : Nat) {cA : ClassId} {n : Nat} {f : Nat → Int32} (ha : ws[q0]? = some (a, .inl (cA, n, .inl f))) (ht : tys[t0]? = some (cA, .short)) {i : Int32} {k : Nat} (hi : i = nI k) (hk : k < n) (hn : n < 2 ^ 31) (hdg : decode cc pc = .ok (.saload, 1))
    (kk : W p l e R s m args below meth c H locs cells slots Q (F0 m (pc + 1) ls (.int (f k) :: rest))) : W p l e R s m args below meth c H locs cells slots Q (F0 m pc ls (.int i :: .ref a :: rest)) := by
  subst hi
  refine va_sald hexec hb hK hP q0 t0 ha ht (vp_in_nI hk hn) hdg ?_
  rw [nI_clamp (Nat.lt_trans hk hn)]
  exact kk
theorem tr_zald (hexec : p.tables.exec = Jvm.exec) (hb : c.code = cc) (hK : va_K D vwCl tys s) (hP : va_P D vwCl ws H) (q0 t0 : Nat) {cA : ClassId} {n : Nat} {f : Nat → Int32} (ha : ws[q0]? = some (a, .inl (cA, n, .inl f))) (ht : tys[t0]? = some (cA, .boolean)) {i : Int32} {k : Nat} (hi : i = nI k) (hk : k < n) (hn : n < 2 ^ 31) (hdg : decode cc pc = .ok (.baload, 1))
    (kk : W p l e R s m args below meth c H locs cells slots Q (F0 m (pc + 1) ls (.int (f k) :: rest))) : W p l e R s m args below meth c H locs cells slots Q (F0 m pc ls (.int i :: .ref a :: rest)) := by
  subst hi
  refine va_zald hexec hb hK hP q0 t0 ha ht (vp_in_nI hk hn) hdg ?_
  rw [nI_clamp (Nat.lt_trans hk hn)]
  exact kk
theorem tr_iast (hexec : p.tables.exec = Jvm.exec) (hb : c.code = cc) (hK : va_K D vwCl tys s) (hP : va_P D vwCl ws H) (hD : va_D A ws) (hS : va_S A H0 H locs) (q0 t0 : Nat) {cA : ClassId} {n : Nat} {f : Nat → Int32} (ha : ws[q0]? = some (a, .inl (cA, n, .inl f))) (ht : tys[t0]? = some (cA, .int)) {i z : Int32} {k : Nat} (hi : i = nI k) (hk : k < n) (hn : n < 2 ^ 31) (hdg : decode cc pc = .ok (.iastore, 1))
    (kk : ∀ (H1 : Heap) (locs1 : List Loc), va_P D vwCl (ws.set q0 (a, .inl (cA, n, .inl (upd f k z)))) H1 → va_D A (ws.set q0 (a, .inl (cA, n, .inl (upd f k z)))) → va_S A H0 H1 locs1 → W p l e R s m args below meth c H1 locs1 cells slots Q (F0 m (pc + 1) ls rest)) : W p l e R s m args below meth c H locs cells slots Q (F0 m pc ls (.int z :: .int i :: .ref a :: rest)) := by
  subst hi
  refine va_iast hexec hb hK hP hD hS q0 t0 ha ht (vp_in_nI hk hn) hdg (fun H1 locs1 h1 h2 h3 => ?_)
  rw [nI_clamp (Nat.lt_trans hk hn)] at h1 h2
  exact kk H1 locs1 h1 h2 h3
theorem tr_bast (hexec : p.tables.exec = Jvm.exec) (hb : c.code = cc) (hK : va_K D vwCl tys s) (hP : va_P D vwCl ws H) (hD : va_D A ws) (hS : va_S A H0 H locs) (q0 t0 : Nat) {cA : ClassId} {n : Nat} {f : Nat → Int32} (ha : ws[q0]? = some (a, .inl (cA, n, .inl f))) (ht : tys[t0]? = some (cA, .byte)) {i z z' : Int32} {k : Nat} (hi : i = nI k) (hk : k < n) (hn : n < 2 ^ 31) (hz : vp_nar .byte z = z') (hdg : decode cc pc = .ok (.bastore, 1))
    (kk : ∀ (H1 : Heap) (locs1 : List Loc), va_P D vwCl (ws.set q0 (a, .inl (cA, n, .inl (upd f k z')))) H1 → va_D A (ws.set q0 (a, .inl (cA, n, .inl (upd f k z')))) → va_S A H0 H1 locs1 → W p l e R s m args below meth c H1 locs1 cells slots Q (F0 m (pc + 1) ls rest)) : W p l e R s m args below meth c H locs cells slots Q (F0 m pc ls (.int z :: .int i :: .ref a :: rest)) := by
  subst hi
  refine va_bast hexec hb hK hP hD hS q0 t0 ha ht (vp_in_nI hk hn) hdg (fun H1 locs1 h1 h2 h3 => ?_)
  rw [nI_clamp (Nat.lt_trans hk hn), hz] at h1 h2
  exact kk H1 locs1 h1 h2 h3
theorem tr_sast (hexec : p.tables.exec = Jvm.exec) (hb : c.code = cc) (hK : va_K D vwCl tys s) (hP : va_P D vwCl ws H) (hD : va_D A ws) (hS : va_S A H0 H locs) (q0 t0 : Nat) {cA : ClassId} {n : Nat} {f : Nat → Int32} (ha : ws[q0]? = some (a, .inl (cA, n, .inl f))) (ht : tys[t0]? = some (cA, .short)) {i z z' : Int32} {k : Nat} (hi : i = nI k) (hk : k < n) (hn : n < 2 ^ 31) (hz : vp_nar .short z = z') (hdg : decode cc pc = .ok (.sastore, 1))
    (kk : ∀ (H1 : Heap) (locs1 : List Loc), va_P D vwCl (ws.set q0 (a, .inl (cA, n, .inl (upd f k z')))) H1 → va_D A (ws.set q0 (a, .inl (cA, n, .inl (upd f k z')))) → va_S A H0 H1 locs1 → W p l e R s m args below meth c H1 locs1 cells slots Q (F0 m (pc + 1) ls rest)) : W p l e R s m args below meth c H locs cells slots Q (F0 m pc ls (.int z :: .int i :: .ref a :: rest)) := by
  subst hi
  refine va_sast hexec hb hK hP hD hS q0 t0 ha ht (vp_in_nI hk hn) hdg (fun H1 locs1 h1 h2 h3 => ?_)
  rw [nI_clamp (Nat.lt_trans hk hn), hz] at h1 h2
  exact kk H1 locs1 h1 h2 h3
theorem tr_zast (hexec : p.tables.exec = Jvm.exec) (hb : c.code = cc) (hK : va_K D vwCl tys s) (hP : va_P D vwCl ws H) (hD : va_D A ws) (hS : va_S A H0 H locs) (q0 t0 : Nat) {cA : ClassId} {n : Nat} {f : Nat → Int32} (ha : ws[q0]? = some (a, .inl (cA, n, .inl f))) (ht : tys[t0]? = some (cA, .boolean)) {i z z' : Int32} {k : Nat} (hi : i = nI k) (hk : k < n) (hn : n < 2 ^ 31) (hz : vp_nar .boolean z = z') (hdg : decode cc pc = .ok (.bastore, 1))
    (kk : ∀ (H1 : Heap) (locs1 : List Loc), va_P D vwCl (ws.set q0 (a, .inl (cA, n, .inl (upd f k z')))) H1 → va_D A (ws.set q0 (a, .inl (cA, n, .inl (upd f k z')))) → va_S A H0 H1 locs1 → W p l e R s m args below meth c H1 locs1 cells slots Q (F0 m (pc + 1) ls rest)) : W p l e R s m args below meth c H locs cells slots Q (F0 m pc ls (.int z :: .int i :: .ref a :: rest)) := by
  subst hi
  refine va_zast hexec hb hK hP hD hS q0 t0 ha ht (vp_in_nI hk hn) hdg (fun H1 locs1 h1 h2 h3 => ?_)
  rw [nI_clamp (Nat.lt_trans hk hn), hz] at h1 h2
  exact kk H1 locs1 h1 h2 h3
end TRC
end
section
/-! TimerWheel, its leaves: what each does to the state -/
set_option maxHeartbeats 4000000 in
set_option maxRecDepth 100000 in
theorem mX_isPeriod (l : Launch) (n : Int32) : tr_Cs l yX0_isPeriod cX0_isPeriod 1 (some .boolean) ({ frames := 0, cells := 0, slots := 0, locals := 0 }) [.int n] (fun r => r = if tw_per n = true then 1 else 0) := by
  refine tr_enters (by decide) (Nat.le_of_ble_eq_true rfl) ?_
  intro p e s m below meth c ls hx hb hr hlocks hl
  have hl : lv_has ls 1 [(0, .int n)] := hl
  refine lv_iload_n hx hb dX0_isPeriod_0 rfl (lv_at hl 0 rfl) ?_
  refine lv_if_lt (tgt := 15) hx hb dX0_isPeriod_1 (by decide) (fun c1 => ?_) (fun c1 => ?_)
  · refine lv_iconst (v := 0) hx hb dX0_isPeriod_15 (by decide) ?_
    exact tr_sret hx hb hr hlocks dX0_isPeriod_16 (by decide) (by rw [tw_per_f1 c1]; rfl)
  · refine lv_iload_n hx hb dX0_isPeriod_4 rfl (lv_at hl 0 rfl) ?_
    refine lv_sipush (v := 500) hx hb dX0_isPeriod_5 (by decide) ?_
    refine lv_icmp_gt (tgt := 15) hx hb dX0_isPeriod_8 (by decide) (fun c2 => ?_) (fun c2 => ?_)
    · refine lv_iconst (v := 0) hx hb dX0_isPeriod_15 (by decide) ?_
      exact tr_sret hx hb hr hlocks dX0_isPeriod_16 (by decide) (by rw [tw_per_f2 c2]; rfl)
    · refine lv_iconst (v := 1) hx hb dX0_isPeriod_11 (by decide) ?_
      refine lv_goto (tgt := 16) hx hb dX0_isPeriod_12 (by decide) ?_
      exact tr_sret hx hb hr hlocks dX0_isPeriod_16 (by decide) (by rw [tw_per_t c1 c2]; rfl)
set_option maxHeartbeats 4000000 in
set_option maxRecDepth 100000 in
theorem mX_isSet (l : Launch) (D : va_G) (h : Nat) (ad : Nat → Nat) (ca : Nat → ClassId) (u : xS) (k : Int32) : tr_Ci l D (kX ca) (wX h ad ca) yX0_isSet cX0_isSet 2 (some .boolean) ({ frames := 0, cells := 0, slots := 0, locals := 0 }) [.ref h, .int k] u (fun r v => v = u ∧ r = if tw_is u k = true then 1 else 0) := by
  obtain ⟨t, so, du, pe, wh, co, rc, ro, ra⟩ := u
  refine tr_enteri (by decide) (Nat.le_of_ble_eq_true rfl) ?_
  intro p e s m below meth c A ls hx hb hr hml hown hts hlocks hA hK hP hD hS hl
  have hown : s.vm.findClass RX0 = some m.cls := hown
  have hP : va_P D vwCl (wX h ad ca (t, so, du, pe, wh, co, rc, ro, ra)) s.heap := hP
  have hD : va_D A (wX h ad ca (t, so, du, pe, wh, co, rc, ro, ra)) := hD
  have hl : lv_has ls 2 [(0, .ref h), (1, .int k)] := hl
  refine lv_iload_n hx hb dX0_isSet_0 rfl (lv_at hl 1 rfl) ?_
  refine lv_if_lt (tgt := 25) hx hb dX0_isSet_1 (by decide) (fun c1 => ?_) (fun c1 => ?_)
  · refine lv_iconst (v := 0) hx hb dX0_isSet_25 (by decide) ?_
    exact tr_zret (u := (t, so, du, pe, wh, co, rc, ro, ra)) hx hb hr hlocks dX0_isSet_26 (by decide) hP hK hD hS (⟨rfl, by rw [tw_is_f1 _ c1]; rfl⟩)
  · refine lv_iload_n hx hb dX0_isSet_4 rfl (lv_at hl 1 rfl) ?_
    refine lv_bipush (v := 16) hx hb dX0_isSet_5 (by decide) ?_
    refine lv_icmp_ge (tgt := 25) hx hb dX0_isSet_7 (by decide) (fun c2 => ?_) (fun c2 => ?_)
    · refine lv_iconst (v := 0) hx hb dX0_isSet_25 (by decide) ?_
      exact tr_zret (u := (t, so, du, pe, wh, co, rc, ro, ra)) hx hb hr hlocks dX0_isSet_26 (by decide) hP hK hD hS (⟨rfl, by rw [tw_is_f2 _ c2]; rfl⟩)
    · obtain ⟨kn, hkn, ek⟩ := tn_16 c1 c2
      refine lv_aload_n hx hb dX0_isSet_10 rfl (lv_at hl 0 rfl) ?_
      refine va_get (D := D) (ci := 0) (v := .int so) (C := RX0) (T := TX0) (N := 9) hx hb hts in_X0 hown hK hP 0 rfl rfl 1 (by decide) (hts _ q23) (fun _ h9 => h9) rfl dX0_isSet_11 ?_
      refine lv_iload_n hx hb dX0_isSet_14 rfl (lv_at hl 1 rfl) ?_
      refine lv_ishr hx hb dX0_isSet_15 ?_
      refine lv_iconst (v := 1) hx hb dX0_isSet_16 (by decide) ?_
      refine lv_iand hx hb dX0_isSet_17 ?_
      refine lv_if_eq (tgt := 25) hx hb dX0_isSet_18 (by decide) (fun c3 => ?_) (fun c3 => ?_)
      · refine lv_iconst (v := 0) hx hb dX0_isSet_25 (by decide) ?_
        exact tr_zret (u := (t, so, du, pe, wh, co, rc, ro, ra)) hx hb hr hlocks dX0_isSet_26 (by decide) hP hK hD hS (⟨rfl, by rw [ek, tw_is_nI _ hkn, show bt (tw_so (t, so, du, pe, wh, co, rc, ro, ra)) kn = false from (tn_tst2 so hkn ek).mp c3]; rfl⟩)
      · refine lv_iconst (v := 1) hx hb dX0_isSet_21 (by decide) ?_
        refine lv_goto (tgt := 26) hx hb dX0_isSet_22 (by decide) ?_
        exact tr_zret (u := (t, so, du, pe, wh, co, rc, ro, ra)) hx hb hr hlocks dX0_isSet_26 (by decide) hP hK hD hS (⟨rfl, by rw [ek, tw_is_nI _ hkn, show bt (tw_so (t, so, du, pe, wh, co, rc, ro, ra)) kn = true from tn_bt (tn_tst2 so hkn ek) c3]; rfl⟩)
set_option maxHeartbeats 4000000 in
set_option maxRecDepth 100000 in
theorem mX_isNoted (l : Launch) (D : va_G) (h : Nat) (ad : Nat → Nat) (ca : Nat → ClassId) (u : xS) (i : Int32) : tr_Ci l D (kX ca) (wX h ad ca) yX0_isNoted cX0_isNoted 2 (some .boolean) ({ frames := 0, cells := 0, slots := 0, locals := 0 }) [.ref h, .int i] u (fun r v => v = u ∧ r = if tw_noted (tw_rc u) i = true then 1 else 0) := by
  obtain ⟨t, so, du, pe, wh, co, rc, ro, ra⟩ := u
  refine tr_enteri (by decide) (Nat.le_of_ble_eq_true rfl) ?_
  intro p e s m below meth c A ls hx hb hr hml hown hts hlocks hA hK hP hD hS hl
  have hown : s.vm.findClass RX0 = some m.cls := hown
  have hP : va_P D vwCl (wX h ad ca (t, so, du, pe, wh, co, rc, ro, ra)) s.heap := hP
  have hD : va_D A (wX h ad ca (t, so, du, pe, wh, co, rc, ro, ra)) := hD
  have hl : lv_has ls 2 [(0, .ref h), (1, .int i)] := hl
  refine lv_iload_n hx hb dX0_isNoted_0 rfl (lv_at hl 1 rfl) ?_
  refine lv_if_lt (tgt := 22) hx hb dX0_isNoted_1 (by decide) (fun c1 => ?_) (fun c1 => ?_)
  · refine lv_iconst (v := 0) hx hb dX0_isNoted_22 (by decide) ?_
    exact tr_zret (u := (t, so, du, pe, wh, co, rc, ro, ra)) hx hb hr hlocks dX0_isNoted_23 (by decide) hP hK hD hS (⟨rfl, by rw [tw_noted_f1 c1]; rfl⟩)
  · refine lv_iload_n hx hb dX0_isNoted_4 rfl (lv_at hl 1 rfl) ?_
    refine lv_bipush (v := 20) hx hb dX0_isNoted_5 (by decide) ?_
    refine lv_icmp_ge (tgt := 22) hx hb dX0_isNoted_7 (by decide) (fun c2 => ?_) (fun c2 => ?_)
    · refine lv_iconst (v := 0) hx hb dX0_isNoted_22 (by decide) ?_
      exact tr_zret (u := (t, so, du, pe, wh, co, rc, ro, ra)) hx hb hr hlocks dX0_isNoted_23 (by decide) hP hK hD hS (⟨rfl, by rw [tw_noted_f2 c2]; rfl⟩)
    · refine lv_iload_n hx hb dX0_isNoted_10 rfl (lv_at hl 1 rfl) ?_
      refine lv_aload_n hx hb dX0_isNoted_11 rfl (lv_at hl 0 rfl) ?_
      refine va_get (D := D) (ci := 0) (v := .int (nI rc)) (C := RX0) (T := TX0) (N := 9) hx hb hts in_X0 hown hK hP 0 rfl rfl 6 (by decide) (hts _ q28) (fun _ h9 => h9) rfl dX0_isNoted_12 ?_
      refine lv_icmp_ge (tgt := 22) hx hb dX0_isNoted_15 (by decide) (fun c3 => ?_) (fun c3 => ?_)
      · refine lv_iconst (v := 0) hx hb dX0_isNoted_22 (by decide) ?_
        exact tr_zret (u := (t, so, du, pe, wh, co, rc, ro, ra)) hx hb hr hlocks dX0_isNoted_23 (by decide) hP hK hD hS (⟨rfl, by rw [tw_noted_f3 c3]; rfl⟩)
      · refine lv_iconst (v := 1) hx hb dX0_isNoted_18 (by decide) ?_
        refine lv_goto (tgt := 23) hx hb dX0_isNoted_19 (by decide) ?_
        exact tr_zret (u := (t, so, du, pe, wh, co, rc, ro, ra)) hx hb hr hlocks dX0_isNoted_23 (by decide) hP hK hD hS (⟨rfl, by rw [tw_noted_t c1 c2 c3]; rfl⟩)
set_option maxHeartbeats 4000000 in
set_option maxRecDepth 100000 in
theorem mX_unplace (l : Launch) (D : va_G) (h : Nat) (ad : Nat → Nat) (ca : Nat → ClassId) (u : xS) (k : Nat) (hk : k < 16) (hc : ∃ cn : Nat, cn < 24 ∧ tw_co u k = nI cn) : tr_Cv l D (kX ca) (wX h ad ca) yX0_unplace cX0_unplace 3 ({ frames := 0, cells := 0, slots := 0, locals := 0 }) [.ref h, .int (nI k)] u (fun v => v = tw_unplace u k) := by
  obtain ⟨t, so, du, pe, wh, co, rc, ro, ra⟩ := u
  refine tr_enterv (by decide) (Nat.le_of_ble_eq_true rfl) ?_
  intro p e s m below meth c A ls hx hb hr hml hown hts hlocks hA hK hP hD hS hl
  have hown : s.vm.findClass RX0 = some m.cls := hown
  have hP : va_P D vwCl (wX h ad ca (t, so, du, pe, wh, co, rc, ro, ra)) s.heap := hP
  have hD : va_D A (wX h ad ca (t, so, du, pe, wh, co, rc, ro, ra)) := hD
  have hl : lv_has ls 3 [(0, .ref h), (1, .int (nI k))] := hl
  obtain ⟨cn, hcn, ecn⟩ := hc
  have ecn : co k = nI cn := ecn
  refine lv_aload_n hx hb dX0_unplace_0 rfl (lv_at hl 0 rfl) ?_
  refine va_get (D := D) (ci := 0) (v := .ref (ad 3)) (C := RX0) (T := TX0) (N := 9) hx hb hts in_X0 hown hK hP 0 rfl rfl 5 (by decide) (hts _ q27) (fun _ h9 => h9) rfl dX0_unplace_1 ?_
  refine lv_iload_n hx hb dX0_unplace_4 rfl (lv_at hl 1 rfl) ?_
  refine tr_bald (k := k) hx hb hK hP 4 3 rfl rfl rfl hk (by decide) dX0_unplace_5 ?_
  refine tr_re (z' := nI cn) ecn ?_
  refine lv_istore_n (lv' := [(2, .int (nI cn)), (0, .ref h), (1, .int (nI k))]) hx hb dX0_unplace_6 rfl hl (by decide) rfl (fun ls hl => ?_)
  refine lv_aload_n hx hb dX0_unplace_7 rfl (lv_at hl 1 rfl) ?_
  refine va_get (D := D) (ci := 0) (v := .ref (ad 2)) (C := RX0) (T := TX0) (N := 9) hx hb hts in_X0 hown hK hP 0 rfl rfl 4 (by decide) (hts _ q26) (fun _ h9 => h9) rfl dX0_unplace_8 ?_
  refine lv_iload_n hx hb dX0_unplace_11 rfl (lv_at hl 0 rfl) ?_
  refine lv_dup2_11 hx hb dX0_unplace_12 rfl rfl ?_
  refine tr_iald (k := cn) hx hb hK hP 3 2 rfl rfl rfl hcn (by decide) dX0_unplace_13 ?_
  refine lv_iconst (v := 1) hx hb dX0_unplace_14 (by decide) ?_
  refine lv_iload_n hx hb dX0_unplace_15 rfl (lv_at hl 2 rfl) ?_
  refine lv_ishl hx hb dX0_unplace_16 ?_
  refine tr_re (z' := tw_b k) rfl ?_
  refine lv_iconst (v := -1) hx hb dX0_unplace_17 (by decide) ?_
  refine lv_ixor hx hb dX0_unplace_18 ?_
  refine lv_iand hx hb dX0_unplace_19 ?_
  refine tr_iast (k := cn) hx hb hK hP hD hS 3 2 rfl rfl rfl hcn (by decide) dX0_unplace_20 (fun H locs hP hD hS => ?_)
  have hP : va_P D vwCl (wX h ad ca (t, so, du, pe, (upd wh cn ((wh cn) &&& ((tw_b k) ^^^ (-1)))), co, rc, ro, ra)) H := hP
  have hD : va_D A (wX h ad ca (t, so, du, pe, (upd wh cn ((wh cn) &&& ((tw_b k) ^^^ (-1)))), co, rc, ro, ra)) := hD
  exact tr_vret (u := (t, so, du, pe, (upd wh cn ((wh cn) &&& ((tw_b k) ^^^ (-1)))), co, rc, ro, ra)) hx hb hr hlocks dX0_unplace_21 hP hK hD hS ((tw_unplace_eq (t, so, du, pe, wh, co, rc, ro, ra) hcn ecn).symm)
set_option maxHeartbeats 4000000 in
set_option maxRecDepth 100000 in
theorem mX_place (l : Launch) (D : va_G) (h : Nat) (ad : Nat → Nat) (ca : Nat → ClassId) (u : xS) (k : Nat) (hk : k < 16) : tr_Cv l D (kX ca) (wX h ad ca) yX0_place cX0_place 4 ({ frames := 0, cells := 0, slots := 0, locals := 0 }) [.ref h, .int (nI k)] u (fun v => v = tw_place u k) := by
  obtain ⟨t, so, du, pe, wh, co, rc, ro, ra⟩ := u
  refine tr_enterv (by decide) (Nat.le_of_ble_eq_true rfl) ?_
  intro p e s m below meth c A ls hx hb hr hml hown hts hlocks hA hK hP hD hS hl
  have hown : s.vm.findClass RX0 = some m.cls := hown
  have hP : va_P D vwCl (wX h ad ca (t, so, du, pe, wh, co, rc, ro, ra)) s.heap := hP
  have hD : va_D A (wX h ad ca (t, so, du, pe, wh, co, rc, ro, ra)) := hD
  have hl : lv_has ls 4 [(0, .ref h), (1, .int (nI k))] := hl
  refine lv_aload_n hx hb dX0_place_0 rfl (lv_at hl 0 rfl) ?_
  refine va_get (D := D) (ci := 0) (v := .ref (ad 0)) (C := RX0) (T := TX0) (N := 9) hx hb hts in_X0 hown hK hP 0 rfl rfl 2 (by decide) (hts _ q24) (fun _ h9 => h9) rfl dX0_place_1 ?_
  refine lv_iload_n hx hb dX0_place_4 rfl (lv_at hl 1 rfl) ?_
  refine tr_iald (k := k) hx hb hK hP 1 0 rfl rfl rfl hk (by decide) dX0_place_5 ?_
  refine lv_aload_n hx hb dX0_place_6 rfl (lv_at hl 0 rfl) ?_
  refine va_get (D := D) (ci := 0) (v := .int (nI t)) (C := RX0) (T := TX0) (N := 9) hx hb hts in_X0 hown hK hP 0 rfl rfl 0 (by decide) (hts _ q22) (fun _ h9 => h9) rfl dX0_place_7 ?_
  refine lv_isub hx hb dX0_place_10 ?_
  refine lv_topi (fun aw eaw => ?_)
  refine lv_istore_n (lv' := [(2, .int aw), (0, .ref h), (1, .int (nI k))]) hx hb dX0_place_11 rfl hl (by decide) rfl (fun ls hl => ?_)
  refine lv_aload_n hx hb dX0_place_12 rfl (lv_at hl 1 rfl) ?_
  refine va_get (D := D) (ci := 0) (v := .ref (ad 0)) (C := RX0) (T := TX0) (N := 9) hx hb hts in_X0 hown hK hP 0 rfl rfl 2 (by decide) (hts _ q24) (fun _ h9 => h9) rfl dX0_place_13 ?_
  refine lv_iload_n hx hb dX0_place_16 rfl (lv_at hl 2 rfl) ?_
  refine tr_iald (k := k) hx hb hK hP 1 0 rfl rfl rfl hk (by decide) dX0_place_17 ?_
  refine lv_bipush (v := 7) hx hb dX0_place_18 (by decide) ?_
  refine lv_iand hx hb dX0_place_20 ?_
  obtain ⟨c0, ec0⟩ : ∃ z : Nat, z = (du k).toBitVec.toNat % 8 := ⟨_, rfl⟩
  refine tr_re (z' := nI c0) (by rw [ec0]; exact tn_cl0 (du k)) ?_
  refine lv_istore_n (lv' := [(3, .int (nI c0)), (2, .int aw), (0, .ref h), (1, .int (nI k))]) hx hb dX0_place_21 rfl hl (by decide) rfl (fun ls hl => ?_)
  refine lv_iload_n hx hb dX0_place_22 rfl (lv_at hl 1 rfl) ?_
  refine lv_bipush (v := 64) hx hb dX0_place_23 (by decide) ?_
  refine lv_icmp_lt (tgt := 47) hx hb dX0_place_25 (by decide) (fun h1 => ?_) (fun h1 => ?_)
  · refine lv_iload_n hx hb dX0_place_47 rfl (lv_at hl 1 rfl) ?_
    refine lv_bipush (v := 8) hx hb dX0_place_48 (by decide) ?_
    refine lv_icmp_lt (tgt := 68) hx hb dX0_place_50 (by decide) (fun h2 => ?_) (fun h2 => ?_)
    · have ecl : tw_cl (du k) (nI t) = c0 := by rw [tw_cl, if_pos (by rw [← eaw]; exact h1), if_pos (by rw [← eaw]; exact h2), ec0]
      have hcn : c0 < 24 := by rw [← ecl]; exact tw_cl_lt _ _
      refine lv_aload_n hx hb dX0_place_68 rfl (lv_at hl 2 rfl) ?_
      refine va_get (D := D) (ci := 0) (v := .ref (ad 2)) (C := RX0) (T := TX0) (N := 9) hx hb hts in_X0 hown hK hP 0 rfl rfl 4 (by decide) (hts _ q26) (fun _ h9 => h9) rfl dX0_place_69 ?_
      refine lv_iload_n hx hb dX0_place_72 rfl (lv_at hl 0 rfl) ?_
      refine lv_dup2_11 hx hb dX0_place_73 rfl rfl ?_
      refine tr_iald (k := c0) hx hb hK hP 3 2 rfl rfl rfl hcn (by decide) dX0_place_74 ?_
      refine lv_iconst (v := 1) hx hb dX0_place_75 (by decide) ?_
      refine lv_iload_n hx hb dX0_place_76 rfl (lv_at hl 3 rfl) ?_
      refine lv_ishl hx hb dX0_place_77 ?_
      refine tr_re (z' := tw_b k) rfl ?_
      refine lv_ior hx hb dX0_place_78 ?_
      refine tr_iast (k := c0) hx hb hK hP hD hS 3 2 rfl rfl rfl hcn (by decide) dX0_place_79 (fun H locs hP hD hS => ?_)
      have hP : va_P D vwCl (wX h ad ca (t, so, du, pe, (upd wh c0 ((wh c0) ||| (tw_b k))), co, rc, ro, ra)) H := hP
      have hD : va_D A (wX h ad ca (t, so, du, pe, (upd wh c0 ((wh c0) ||| (tw_b k))), co, rc, ro, ra)) := hD
      refine lv_aload_n hx hb dX0_place_80 rfl (lv_at hl 2 rfl) ?_
      refine va_get (D := D) (ci := 0) (v := .ref (ad 3)) (C := RX0) (T := TX0) (N := 9) hx hb hts in_X0 hown hK hP 0 rfl rfl 5 (by decide) (hts _ q27) (fun _ h9 => h9) rfl dX0_place_81 ?_
      refine lv_iload_n hx hb dX0_place_84 rfl (lv_at hl 3 rfl) ?_
      refine lv_iload_n hx hb dX0_place_85 rfl (lv_at hl 0 rfl) ?_
      refine lv_i2b (v := nI c0) hx hb dX0_place_86 (tn_b8 _ hcn) ?_
      refine tr_bast (k := k) (z' := nI c0) hx hb hK hP hD hS 4 3 rfl rfl rfl hk (by decide) (tn_nb _ hcn) dX0_place_87 (fun H locs hP hD hS => ?_)
      have hP : va_P D vwCl (wX h ad ca (t, so, du, pe, (upd wh c0 ((wh c0) ||| (tw_b k))), (upd co k (nI c0)), rc, ro, ra)) H := hP
      have hD : va_D A (wX h ad ca (t, so, du, pe, (upd wh c0 ((wh c0) ||| (tw_b k))), (upd co k (nI c0)), rc, ro, ra)) := hD
      exact tr_vret (u := (t, so, du, pe, (upd wh c0 ((wh c0) ||| (tw_b k))), (upd co k (nI c0)), rc, ro, ra)) hx hb hr hlocks dX0_place_88 hP hK hD hS ((tw_place_eq (t, so, du, pe, wh, co, rc, ro, ra) ecl).symm)
    · refine lv_bipush (v := 8) hx hb dX0_place_53 (by decide) ?_
      refine lv_aload_n hx hb dX0_place_55 rfl (lv_at hl 2 rfl) ?_
      refine va_get (D := D) (ci := 0) (v := .ref (ad 0)) (C := RX0) (T := TX0) (N := 9) hx hb hts in_X0 hown hK hP 0 rfl rfl 2 (by decide) (hts _ q24) (fun _ h9 => h9) rfl dX0_place_56 ?_
      refine lv_iload_n hx hb dX0_place_59 rfl (lv_at hl 3 rfl) ?_
      refine tr_iald (k := k) hx hb hK hP 1 0 rfl rfl rfl hk (by decide) dX0_place_60 ?_
      refine lv_iconst (v := 3) hx hb dX0_place_61 (by decide) ?_
      refine lv_ishr hx hb dX0_place_62 ?_
      refine lv_bipush (v := 7) hx hb dX0_place_63 (by decide) ?_
      refine lv_iand hx hb dX0_place_65 ?_
      refine lv_iadd hx hb dX0_place_66 ?_
      obtain ⟨c1, ec1⟩ : ∃ z : Nat, z = 8 + (du k >>> ((3 : Int32) &&& 31)).toBitVec.toNat % 8 := ⟨_, rfl⟩
      refine tr_re (z' := nI c1) (by rw [ec1]; exact tn_cl1 (du k)) ?_
      refine lv_istore_n (lv' := [(3, .int (nI c1)), (2, .int aw), (0, .ref h), (1, .int (nI k))]) hx hb dX0_place_67 rfl hl (by decide) rfl (fun ls hl => ?_)
      have ecl : tw_cl (du k) (nI t) = c1 := by rw [tw_cl, if_pos (by rw [← eaw]; exact h1), if_neg (by rw [← eaw]; exact h2), ec1]
      have hcn : c1 < 24 := by rw [← ecl]; exact tw_cl_lt _ _
      refine lv_aload_n hx hb dX0_place_68 rfl (lv_at hl 2 rfl) ?_
      refine va_get (D := D) (ci := 0) (v := .ref (ad 2)) (C := RX0) (T := TX0) (N := 9) hx hb hts in_X0 hown hK hP 0 rfl rfl 4 (by decide) (hts _ q26) (fun _ h9 => h9) rfl dX0_place_69 ?_
      refine lv_iload_n hx hb dX0_place_72 rfl (lv_at hl 0 rfl) ?_
      refine lv_dup2_11 hx hb dX0_place_73 rfl rfl ?_
      refine tr_iald (k := c1) hx hb hK hP 3 2 rfl rfl rfl hcn (by decide) dX0_place_74 ?_
      refine lv_iconst (v := 1) hx hb dX0_place_75 (by decide) ?_
      refine lv_iload_n hx hb dX0_place_76 rfl (lv_at hl 3 rfl) ?_
      refine lv_ishl hx hb dX0_place_77 ?_
      refine tr_re (z' := tw_b k) rfl ?_
      refine lv_ior hx hb dX0_place_78 ?_
      refine tr_iast (k := c1) hx hb hK hP hD hS 3 2 rfl rfl rfl hcn (by decide) dX0_place_79 (fun H locs hP hD hS => ?_)
      have hP : va_P D vwCl (wX h ad ca (t, so, du, pe, (upd wh c1 ((wh c1) ||| (tw_b k))), co, rc, ro, ra)) H := hP
      have hD : va_D A (wX h ad ca (t, so, du, pe, (upd wh c1 ((wh c1) ||| (tw_b k))), co, rc, ro, ra)) := hD
      refine lv_aload_n hx hb dX0_place_80 rfl (lv_at hl 2 rfl) ?_
      refine va_get (D := D) (ci := 0) (v := .ref (ad 3)) (C := RX0) (T := TX0) (N := 9) hx hb hts in_X0 hown hK hP 0 rfl rfl 5 (by decide) (hts _ q27) (fun _ h9 => h9) rfl dX0_place_81 ?_
      refine lv_iload_n hx hb dX0_place_84 rfl (lv_at hl 3 rfl) ?_
      refine lv_iload_n hx hb dX0_place_85 rfl (lv_at hl 0 rfl) ?_
      refine lv_i2b (v := nI c1) hx hb dX0_place_86 (tn_b8 _ hcn) ?_
      refine tr_bast (k := k) (z' := nI c1) hx hb hK hP hD hS 4 3 rfl rfl rfl hk (by decide) (tn_nb _ hcn) dX0_place_87 (fun H locs hP hD hS => ?_)
      have hP : va_P D vwCl (wX h ad ca (t, so, du, pe, (upd wh c1 ((wh c1) ||| (tw_b k))), (upd co k (nI c1)), rc, ro, ra)) H := hP
      have hD : va_D A (wX h ad ca (t, so, du, pe, (upd wh c1 ((wh c1) ||| (tw_b k))), (upd co k (nI c1)), rc, ro, ra)) := hD
      exact tr_vret (u := (t, so, du, pe, (upd wh c1 ((wh c1) ||| (tw_b k))), (upd co k (nI c1)), rc, ro, ra)) hx hb hr hlocks dX0_place_88 hP hK hD hS ((tw_place_eq (t, so, du, pe, wh, co, rc, ro, ra) ecl).symm)
  · refine lv_bipush (v := 16) hx hb dX0_place_28 (by decide) ?_
    refine lv_aload_n hx hb dX0_place_30 rfl (lv_at hl 2 rfl) ?_
    refine va_get (D := D) (ci := 0) (v := .ref (ad 0)) (C := RX0) (T := TX0) (N := 9) hx hb hts in_X0 hown hK hP 0 rfl rfl 2 (by decide) (hts _ q24) (fun _ h9 => h9) rfl dX0_place_31 ?_
    refine lv_iload_n hx hb dX0_place_34 rfl (lv_at hl 3 rfl) ?_
    refine tr_iald (k := k) hx hb hK hP 1 0 rfl rfl rfl hk (by decide) dX0_place_35 ?_
    refine lv_bipush (v := 6) hx hb dX0_place_36 (by decide) ?_
    refine lv_ishr hx hb dX0_place_38 ?_
    refine lv_bipush (v := 7) hx hb dX0_place_39 (by decide) ?_
    refine lv_iand hx hb dX0_place_41 ?_
    refine lv_iadd hx hb dX0_place_42 ?_
    obtain ⟨c2, ec2⟩ : ∃ z : Nat, z = 16 + (du k >>> ((6 : Int32) &&& 31)).toBitVec.toNat % 8 := ⟨_, rfl⟩
    refine tr_re (z' := nI c2) (by rw [ec2]; exact tn_cl2 (du k)) ?_
    refine lv_istore_n (lv' := [(3, .int (nI c2)), (2, .int aw), (0, .ref h), (1, .int (nI k))]) hx hb dX0_place_43 rfl hl (by decide) rfl (fun ls hl => ?_)
    refine lv_goto (tgt := 68) hx hb dX0_place_44 (by decide) ?_
    have ecl : tw_cl (du k) (nI t) = c2 := by rw [tw_cl, if_neg (by rw [← eaw]; exact h1), ec2]
    have hcn : c2 < 24 := by rw [← ecl]; exact tw_cl_lt _ _
    refine lv_aload_n hx hb dX0_place_68 rfl (lv_at hl 2 rfl) ?_
    refine va_get (D := D) (ci := 0) (v := .ref (ad 2)) (C := RX0) (T := TX0) (N := 9) hx hb hts in_X0 hown hK hP 0 rfl rfl 4 (by decide) (hts _ q26) (fun _ h9 => h9) rfl dX0_place_69 ?_
    refine lv_iload_n hx hb dX0_place_72 rfl (lv_at hl 0 rfl) ?_
    refine lv_dup2_11 hx hb dX0_place_73 rfl rfl ?_
    refine tr_iald (k := c2) hx hb hK hP 3 2 rfl rfl rfl hcn (by decide) dX0_place_74 ?_
    refine lv_iconst (v := 1) hx hb dX0_place_75 (by decide) ?_
    refine lv_iload_n hx hb dX0_place_76 rfl (lv_at hl 3 rfl) ?_
    refine lv_ishl hx hb dX0_place_77 ?_
    refine tr_re (z' := tw_b k) rfl ?_
    refine lv_ior hx hb dX0_place_78 ?_
    refine tr_iast (k := c2) hx hb hK hP hD hS 3 2 rfl rfl rfl hcn (by decide) dX0_place_79 (fun H locs hP hD hS => ?_)
    have hP : va_P D vwCl (wX h ad ca (t, so, du, pe, (upd wh c2 ((wh c2) ||| (tw_b k))), co, rc, ro, ra)) H := hP
    have hD : va_D A (wX h ad ca (t, so, du, pe, (upd wh c2 ((wh c2) ||| (tw_b k))), co, rc, ro, ra)) := hD
    refine lv_aload_n hx hb dX0_place_80 rfl (lv_at hl 2 rfl) ?_
    refine va_get (D := D) (ci := 0) (v := .ref (ad 3)) (C := RX0) (T := TX0) (N := 9) hx hb hts in_X0 hown hK hP 0 rfl rfl 5 (by decide) (hts _ q27) (fun _ h9 => h9) rfl dX0_place_81 ?_
    refine lv_iload_n hx hb dX0_place_84 rfl (lv_at hl 3 rfl) ?_
    refine lv_iload_n hx hb dX0_place_85 rfl (lv_at hl 0 rfl) ?_
    refine lv_i2b (v := nI c2) hx hb dX0_place_86 (tn_b8 _ hcn) ?_
    refine tr_bast (k := k) (z' := nI c2) hx hb hK hP hD hS 4 3 rfl rfl rfl hk (by decide) (tn_nb _ hcn) dX0_place_87 (fun H locs hP hD hS => ?_)
    have hP : va_P D vwCl (wX h ad ca (t, so, du, pe, (upd wh c2 ((wh c2) ||| (tw_b k))), (upd co k (nI c2)), rc, ro, ra)) H := hP
    have hD : va_D A (wX h ad ca (t, so, du, pe, (upd wh c2 ((wh c2) ||| (tw_b k))), (upd co k (nI c2)), rc, ro, ra)) := hD
    exact tr_vret (u := (t, so, du, pe, (upd wh c2 ((wh c2) ||| (tw_b k))), (upd co k (nI c2)), rc, ro, ra)) hx hb hr hlocks dX0_place_88 hP hK hD hS ((tw_place_eq (t, so, du, pe, wh, co, rc, ro, ra) ecl).symm)
set_option maxHeartbeats 4000000 in
set_option maxRecDepth 100000 in
theorem mX_moveDown (l : Launch) (D : va_G) (h : Nat) (ad : Nat → Nat) (ca : Nat → ClassId) (u : xS) (cn : Nat) (hcn : cn < 24) : tr_Cv l D (kX ca) (wX h ad ca) yX0_moveDown cX0_moveDown 4 ({ frames := 1, cells := 0, slots := 0, locals := 23 }) [.ref h, .int (nI cn)] u (fun v => v = tw_md u cn) := by
  obtain ⟨t, so, du, pe, wh, co, rc, ro, ra⟩ := u
  refine tr_enterv (by decide) (Nat.le_of_ble_eq_true rfl) ?_
  intro p e s m below meth c A ls hx hb hr hml hown hts hlocks hA hK hP hD hS hl
  have hown : s.vm.findClass RX0 = some m.cls := hown
  have hP : va_P D vwCl (wX h ad ca (t, so, du, pe, wh, co, rc, ro, ra)) s.heap := hP
  have hD : va_D A (wX h ad ca (t, so, du, pe, wh, co, rc, ro, ra)) := hD
  have hl : lv_has ls 4 [(0, .ref h), (1, .int (nI cn))] := hl
  refine lv_aload_n hx hb dX0_moveDown_0 rfl (lv_at hl 0 rfl) ?_
  refine va_get (D := D) (ci := 0) (v := .ref (ad 2)) (C := RX0) (T := TX0) (N := 9) hx hb hts in_X0 hown hK hP 0 rfl rfl 4 (by decide) (hts _ q26) (fun _ h9 => h9) rfl dX0_moveDown_1 ?_
  refine lv_iload_n hx hb dX0_moveDown_4 rfl (lv_at hl 1 rfl) ?_
  refine tr_iald (k := cn) hx hb hK hP 3 2 rfl rfl rfl hcn (by decide) dX0_moveDown_5 ?_
  refine lv_istore_n (lv' := [(2, .int (wh cn)), (0, .ref h), (1, .int (nI cn))]) hx hb dX0_moveDown_6 rfl hl (by decide) rfl (fun ls hl => ?_)
  refine lv_aload_n hx hb dX0_moveDown_7 rfl (lv_at hl 1 rfl) ?_
  refine va_get (D := D) (ci := 0) (v := .ref (ad 2)) (C := RX0) (T := TX0) (N := 9) hx hb hts in_X0 hown hK hP 0 rfl rfl 4 (by decide) (hts _ q26) (fun _ h9 => h9) rfl dX0_moveDown_8 ?_
  refine lv_iload_n hx hb dX0_moveDown_11 rfl (lv_at hl 2 rfl) ?_
  refine lv_iconst (v := 0) hx hb dX0_moveDown_12 (by decide) ?_
  refine tr_iast (k := cn) hx hb hK hP hD hS 3 2 rfl rfl rfl hcn (by decide) dX0_moveDown_13 (fun H locs hP hD hS => ?_)
  have hP : va_P D vwCl (wX h ad ca (t, so, du, pe, (upd wh cn 0), co, rc, ro, ra)) H := hP
  have hD : va_D A (wX h ad ca (t, so, du, pe, (upd wh cn 0), co, rc, ro, ra)) := hD
  refine lv_iconst (v := 0) hx hb dX0_moveDown_14 (by decide) ?_
  refine tr_re (z' := nI 0) nI_0.symm ?_
  refine lv_istore_n (lv' := [(3, .int (nI 0)), (2, .int (wh cn)), (0, .ref h), (1, .int (nI cn))]) hx hb dX0_moveDown_15 rfl hl (by decide) rfl (fun ls hl => ?_)
  have loop : ∀ (n : Nat) (i : Nat) (v : xS) (H : Heap) (locs : List Loc) (ls : Array Slot), i ≤ 16 → 17 ≤ i + n → v = tw_mdL (wh cn) (tw_clr (t, so, du, pe, wh, co, rc, ro, ra) cn) i → va_P D vwCl (wX h ad ca v) H → va_D A (wX h ad ca v) → va_S A s.heap H locs → lv_has ls 4 [(0, .ref h), (2, .int (wh cn)), (3, .int (nI i))] → W p l e ({ frames := 1, cells := 0, slots := 0, locals := 23 }) s m ([.ref h, .int (nI cn)] : List Value).toArray below meth c H locs 0 0 (MQ below (va_Qv (fun v => v = tw_md (t, so, du, pe, wh, co, rc, ro, ra) cn) (tr_B D (kX ca) (wX h ad ca) A) A) ([.ref h, .int (nI cn)] : List Value).toArray s 0 0 A) (F0 m 16 ls []) := by
    intro n
    induction n with
    | zero =>
      intro i v H locs ls h1 h2
      exact absurd h2 (by omega)
    | succ n ih =>
      intro i v H locs ls hi hin ev hP hD hS hl
      obtain ⟨t1, so1, du1, pe1, wh1, co1, rc1, ro1, ra1⟩ := v
      refine lv_iload_n hx hb dX0_moveDown_16 rfl (lv_at hl 2 rfl) ?_
      refine lv_bipush (v := 16) hx hb dX0_moveDown_17 (by decide) ?_
      refine lv_icmp_ge (tgt := 41) hx hb dX0_moveDown_19 (by decide) (fun c1 => ?_) (fun c1 => ?_)
      · have hi16 : i = t16 := by rw [t16_eq]; rcases Nat.lt_or_ge i 16 with z | z; exact absurd c1 (nI_ge (a := i) (b := 16) z (by omega)); omega
        exact tr_vret (u := (t1, so1, du1, pe1, wh1, co1, rc1, ro1, ra1)) hx hb hr hlocks dX0_moveDown_41 hP hK hD hS (by subst hi16; unfold tw_md; exact ev)
      · have hi16 : i < 16 := by rcases Nat.lt_or_ge i 16 with z | z; exact z; exact absurd (nI_le (a := 16) (b := i) z (by omega)) c1
        refine lv_iload_n hx hb dX0_moveDown_22 rfl (lv_at hl 1 rfl) ?_
        refine lv_iload_n hx hb dX0_moveDown_23 rfl (lv_at hl 2 rfl) ?_
        refine lv_ishr hx hb dX0_moveDown_24 ?_
        refine lv_iconst (v := 1) hx hb dX0_moveDown_25 (by decide) ?_
        refine lv_iand hx hb dX0_moveDown_26 ?_
        refine lv_if_eq (tgt := 35) hx hb dX0_moveDown_27 (by decide) (fun c2 => ?_) (fun c2 => ?_)
        · refine lv_iinc (v := nI (i + 1)) (lv' := [(3, .int (nI (i + 1))), (0, .ref h), (2, .int (wh cn))]) hx hb dX0_moveDown_35 hl (k := 2) rfl (nI_1 i) (by decide) rfl (fun ls hl => ?_)
          refine lv_goto (tgt := 16) hx hb dX0_moveDown_38 (by decide) ?_
          exact ih (i + 1) _ _ _ _ (by omega) (by omega) (by rw [tw_mdL_n ((tn_tst _ (by omega)).mp c2)]; exact ev) hP hD hS (lv_sub hl [1, 2, 0] rfl)
        · refine lv_aload_n hx hb dX0_moveDown_30 rfl (lv_at hl 0 rfl) ?_
          refine lv_iload_n hx hb dX0_moveDown_31 rfl (lv_at hl 2 rfl) ?_
          refine tr_callv (v := (t1, so1, du1, pe1, wh1, co1, rc1, ro1, ra1)) (wf := wX h ad ca) (wr := []) (As := [.int (nI i)]) (rest := []) (k := 1) (ci := 0) ⟨hx, hb, hml, hown, hts⟩ (mX_place l D h ad ca (t1, so1, du1, pe1, wh1, co1, rc1, ro1, ra1) i hi16) (cwV 1 hts (lw_V q68 q70 qs2 q12 q71) rfl rfl rfl (by decide +kernel) ⟨Nat.le_of_ble_eq_true rfl, Nat.le_of_ble_eq_true rfl⟩) hK hP tr_Pnl hD tr_ap.nl hS hA rfl rfl rfl hl.1 rfl (Nat.le_of_ble_eq_true rfl) dX0_moveDown_32 ⟨Nat.zero_le _, Nat.zero_le _⟩ (fun u H locs hw hP _ hD _ hS => ?_)
          obtain ⟨t2, so2, du2, pe2, wh2, co2, rc2, ro2, ra2⟩ := u
          have hP : va_P D vwCl (wX h ad ca (t2, so2, du2, pe2, wh2, co2, rc2, ro2, ra2)) H := hP
          have hD : va_D A (wX h ad ca (t2, so2, du2, pe2, wh2, co2, rc2, ro2, ra2)) := hD
          refine lv_iinc (v := nI (i + 1)) (lv' := [(3, .int (nI (i + 1))), (0, .ref h), (2, .int (wh cn))]) hx hb dX0_moveDown_35 hl (k := 2) rfl (nI_1 i) (by decide) rfl (fun ls hl => ?_)
          refine lv_goto (tgt := 16) hx hb dX0_moveDown_38 (by decide) ?_
          exact ih (i + 1) _ _ _ _ (by omega) (by omega) (by rw [tw_mdL_s (tn_bt (tn_tst _ (by omega)) c2), ← ev]; exact hw) hP hD hS (lv_sub hl [1, 2, 0] rfl)
  exact loop 17 0 _ _ _ _ (by omega) (by omega) rfl hP hD hS (lv_sub hl [2, 1, 0] rfl)
set_option maxHeartbeats 4000000 in
set_option maxRecDepth 100000 in
theorem mX_ring (l : Launch) (D : va_G) (h : Nat) (ad : Nat → Nat) (ca : Nat → ClassId) (u : xS) (k : Nat) (hk : k < 16) (hrc : tw_rc u < 2 ^ 30) : tr_Cv l D (kX ca) (wX h ad ca) yX0_ring cX0_ring 3 ({ frames := 1, cells := 0, slots := 0, locals := 23 }) [.ref h, .int (nI k)] u (fun v => v = tw_ring u k) := by
  obtain ⟨t, so, du, pe, wh, co, rc, ro, ra⟩ := u
  have hrc : rc < 2 ^ 30 := hrc
  refine tr_enterv (by decide) (Nat.le_of_ble_eq_true rfl) ?_
  intro p e s m below meth c A ls hx hb hr hml hown hts hlocks hA hK hP hD hS hl
  have hown : s.vm.findClass RX0 = some m.cls := hown
  have hP : va_P D vwCl (wX h ad ca (t, so, du, pe, wh, co, rc, ro, ra)) s.heap := hP
  have hD : va_D A (wX h ad ca (t, so, du, pe, wh, co, rc, ro, ra)) := hD
  have hl : lv_has ls 3 [(0, .ref h), (1, .int (nI k))] := hl
  refine lv_aload_n hx hb dX0_ring_0 rfl (lv_at hl 0 rfl) ?_
  refine va_get (D := D) (ci := 0) (v := .int (nI rc)) (C := RX0) (T := TX0) (N := 9) hx hb hts in_X0 hown hK hP 0 rfl rfl 6 (by decide) (hts _ q28) (fun _ h9 => h9) rfl dX0_ring_1 ?_
  refine lv_bipush (v := 20) hx hb dX0_ring_4 (by decide) ?_
  refine lv_irem hx hb dX0_ring_6 (by decide) ?_
  refine tr_re (z' := nI (rc % 20)) (tn_rem (by omega)) ?_
  refine lv_istore_n (lv' := [(2, .int (nI (rc % 20))), (0, .ref h), (1, .int (nI k))]) hx hb dX0_ring_7 rfl hl (by decide) rfl (fun ls hl => ?_)
  refine lv_aload_n hx hb dX0_ring_8 rfl (lv_at hl 1 rfl) ?_
  refine va_get (D := D) (ci := 0) (v := .ref (ad 4)) (C := RX0) (T := TX0) (N := 9) hx hb hts in_X0 hown hK hP 0 rfl rfl 7 (by decide) (hts _ q29) (fun _ h9 => h9) rfl dX0_ring_9 ?_
  refine lv_iload_n hx hb dX0_ring_12 rfl (lv_at hl 0 rfl) ?_
  refine lv_iload_n hx hb dX0_ring_13 rfl (lv_at hl 2 rfl) ?_
  refine lv_i2b (v := nI k) hx hb dX0_ring_14 (tn_b8 _ (by omega)) ?_
  refine tr_bast (k := (rc % 20)) (z' := nI k) hx hb hK hP hD hS 5 4 rfl rfl rfl (Nat.mod_lt _ (by decide)) (by decide) (tn_nb _ (by omega)) dX0_ring_15 (fun H locs hP hD hS => ?_)
  have hP : va_P D vwCl (wX h ad ca (t, so, du, pe, wh, co, rc, (upd ro (rc % 20) (nI k)), ra)) H := hP
  have hD : va_D A (wX h ad ca (t, so, du, pe, wh, co, rc, (upd ro (rc % 20) (nI k)), ra)) := hD
  refine lv_aload_n hx hb dX0_ring_16 rfl (lv_at hl 1 rfl) ?_
  refine va_get (D := D) (ci := 0) (v := .ref (ad 5)) (C := RX0) (T := TX0) (N := 9) hx hb hts in_X0 hown hK hP 0 rfl rfl 8 (by decide) (hts _ q30) (fun _ h9 => h9) rfl dX0_ring_17 ?_
  refine lv_iload_n hx hb dX0_ring_20 rfl (lv_at hl 0 rfl) ?_
  refine lv_aload_n hx hb dX0_ring_21 rfl (lv_at hl 1 rfl) ?_
  refine va_get (D := D) (ci := 0) (v := .int (nI t)) (C := RX0) (T := TX0) (N := 9) hx hb hts in_X0 hown hK hP 0 rfl rfl 0 (by decide) (hts _ q22) (fun _ h9 => h9) rfl dX0_ring_22 ?_
  refine tr_iast (k := (rc % 20)) hx hb hK hP hD hS 6 5 rfl rfl rfl (Nat.mod_lt _ (by decide)) (by decide) dX0_ring_25 (fun H locs hP hD hS => ?_)
  have hP : va_P D vwCl (wX h ad ca (t, so, du, pe, wh, co, rc, (upd ro (rc % 20) (nI k)), (upd ra (rc % 20) (nI t)))) H := hP
  have hD : va_D A (wX h ad ca (t, so, du, pe, wh, co, rc, (upd ro (rc % 20) (nI k)), (upd ra (rc % 20) (nI t)))) := hD
  refine lv_aload_n hx hb dX0_ring_26 rfl (lv_at hl 1 rfl) ?_
  refine lv_dup hx hb dX0_ring_27 rfl ?_
  refine va_get (D := D) (ci := 0) (v := .int (nI rc)) (C := RX0) (T := TX0) (N := 9) hx hb hts in_X0 hown hK hP 0 rfl rfl 6 (by decide) (hts _ q28) (fun _ h9 => h9) rfl dX0_ring_28 ?_
  refine lv_iconst (v := 1) hx hb dX0_ring_31 (by decide) ?_
  refine lv_iadd hx hb dX0_ring_32 ?_
  refine tr_re (z' := nI (rc + 1)) (nI_1 rc) ?_
  refine va_put (D := D) (ci := 0) (v := .int (nI (rc + 1))) (ty := .int) (C := RX0) (T := TX0) (N := 9) hx hb hts in_X0 tyX0 tyX0_ok nmX0 hown hK hP hD hS 0 rfl rfl 6 (by decide) (hts _ q28) (fun _ h9 => h9) rfl (by decide +kernel) rfl rfl (Nat.le_of_ble_eq_true rfl) dX0_ring_33 (fun H locs hP hD hS => ?_)
  have hP : va_P D vwCl (wX h ad ca (t, so, du, pe, wh, co, (rc + 1), (upd ro (rc % 20) (nI k)), (upd ra (rc % 20) (nI t)))) H := hP
  have hD : va_D A (wX h ad ca (t, so, du, pe, wh, co, (rc + 1), (upd ro (rc % 20) (nI k)), (upd ra (rc % 20) (nI t)))) := hD
  refine lv_aload_n hx hb dX0_ring_36 rfl (lv_at hl 1 rfl) ?_
  refine lv_dup hx hb dX0_ring_37 rfl ?_
  refine va_get (D := D) (ci := 0) (v := .int so) (C := RX0) (T := TX0) (N := 9) hx hb hts in_X0 hown hK hP 0 rfl rfl 1 (by decide) (hts _ q23) (fun _ h9 => h9) rfl dX0_ring_38 ?_
  refine lv_iconst (v := 1) hx hb dX0_ring_41 (by decide) ?_
  refine lv_iload_n hx hb dX0_ring_42 rfl (lv_at hl 2 rfl) ?_
  refine lv_ishl hx hb dX0_ring_43 ?_
  refine tr_re (z' := tw_b k) rfl ?_
  refine lv_iconst (v := -1) hx hb dX0_ring_44 (by decide) ?_
  refine lv_ixor hx hb dX0_ring_45 ?_
  refine lv_iand hx hb dX0_ring_46 ?_
  refine va_put (D := D) (ci := 0) (v := .int (so &&& ((tw_b k) ^^^ (-1)))) (ty := .int) (C := RX0) (T := TX0) (N := 9) hx hb hts in_X0 tyX0 tyX0_ok nmX0 hown hK hP hD hS 0 rfl rfl 1 (by decide) (hts _ q23) (fun _ h9 => h9) rfl (by decide +kernel) rfl rfl (Nat.le_of_ble_eq_true rfl) dX0_ring_47 (fun H locs hP hD hS => ?_)
  have hP : va_P D vwCl (wX h ad ca (t, (so &&& ((tw_b k) ^^^ (-1))), du, pe, wh, co, (rc + 1), (upd ro (rc % 20) (nI k)), (upd ra (rc % 20) (nI t)))) H := hP
  have hD : va_D A (wX h ad ca (t, (so &&& ((tw_b k) ^^^ (-1))), du, pe, wh, co, (rc + 1), (upd ro (rc % 20) (nI k)), (upd ra (rc % 20) (nI t)))) := hD
  refine lv_aload_n hx hb dX0_ring_50 rfl (lv_at hl 1 rfl) ?_
  refine va_get (D := D) (ci := 0) (v := .ref (ad 1)) (C := RX0) (T := TX0) (N := 9) hx hb hts in_X0 hown hK hP 0 rfl rfl 3 (by decide) (hts _ q25) (fun _ h9 => h9) rfl dX0_ring_51 ?_
  refine lv_iload_n hx hb dX0_ring_54 rfl (lv_at hl 2 rfl) ?_
  refine tr_sald (k := k) hx hb hK hP 2 1 rfl rfl rfl hk (by decide) dX0_ring_55 ?_
  refine lv_if_le (tgt := 93) hx hb dX0_ring_56 (by decide) (fun c1 => ?_) (fun c1 => ?_)
  · exact tr_vret (u := (t, (so &&& ((tw_b k) ^^^ (-1))), du, pe, wh, co, (rc + 1), (upd ro (rc % 20) (nI k)), (upd ra (rc % 20) (nI t)))) hx hb hr hlocks dX0_ring_93 hP hK hD hS ((tw_ring_0 (t, so, du, pe, wh, co, rc, ro, ra) c1).symm)
  · refine lv_aload_n hx hb dX0_ring_59 rfl (lv_at hl 1 rfl) ?_
    refine lv_dup hx hb dX0_ring_60 rfl ?_
    refine va_get (D := D) (ci := 0) (v := .int (so &&& ((tw_b k) ^^^ (-1)))) (C := RX0) (T := TX0) (N := 9) hx hb hts in_X0 hown hK hP 0 rfl rfl 1 (by decide) (hts _ q23) (fun _ h9 => h9) rfl dX0_ring_61 ?_
    refine lv_iconst (v := 1) hx hb dX0_ring_64 (by decide) ?_
    refine lv_iload_n hx hb dX0_ring_65 rfl (lv_at hl 2 rfl) ?_
    refine lv_ishl hx hb dX0_ring_66 ?_
    refine tr_re (z' := tw_b k) rfl ?_
    refine lv_ior hx hb dX0_ring_67 ?_
    refine va_put (D := D) (ci := 0) (v := .int ((so &&& ((tw_b k) ^^^ (-1))) ||| (tw_b k))) (ty := .int) (C := RX0) (T := TX0) (N := 9) hx hb hts in_X0 tyX0 tyX0_ok nmX0 hown hK hP hD hS 0 rfl rfl 1 (by decide) (hts _ q23) (fun _ h9 => h9) rfl (by decide +kernel) rfl rfl (Nat.le_of_ble_eq_true rfl) dX0_ring_68 (fun H locs hP hD hS => ?_)
    have hP : va_P D vwCl (wX h ad ca (t, ((so &&& ((tw_b k) ^^^ (-1))) ||| (tw_b k)), du, pe, wh, co, (rc + 1), (upd ro (rc % 20) (nI k)), (upd ra (rc % 20) (nI t)))) H := hP
    have hD : va_D A (wX h ad ca (t, ((so &&& ((tw_b k) ^^^ (-1))) ||| (tw_b k)), du, pe, wh, co, (rc + 1), (upd ro (rc % 20) (nI k)), (upd ra (rc % 20) (nI t)))) := hD
    refine lv_aload_n hx hb dX0_ring_71 rfl (lv_at hl 1 rfl) ?_
    refine va_get (D := D) (ci := 0) (v := .ref (ad 0)) (C := RX0) (T := TX0) (N := 9) hx hb hts in_X0 hown hK hP 0 rfl rfl 2 (by decide) (hts _ q24) (fun _ h9 => h9) rfl dX0_ring_72 ?_
    refine lv_iload_n hx hb dX0_ring_75 rfl (lv_at hl 2 rfl) ?_
    refine lv_aload_n hx hb dX0_ring_76 rfl (lv_at hl 1 rfl) ?_
    refine va_get (D := D) (ci := 0) (v := .int (nI t)) (C := RX0) (T := TX0) (N := 9) hx hb hts in_X0 hown hK hP 0 rfl rfl 0 (by decide) (hts _ q22) (fun _ h9 => h9) rfl dX0_ring_77 ?_
    refine lv_aload_n hx hb dX0_ring_80 rfl (lv_at hl 1 rfl) ?_
    refine va_get (D := D) (ci := 0) (v := .ref (ad 1)) (C := RX0) (T := TX0) (N := 9) hx hb hts in_X0 hown hK hP 0 rfl rfl 3 (by decide) (hts _ q25) (fun _ h9 => h9) rfl dX0_ring_81 ?_
    refine lv_iload_n hx hb dX0_ring_84 rfl (lv_at hl 2 rfl) ?_
    refine tr_sald (k := k) hx hb hK hP 2 1 rfl rfl rfl hk (by decide) dX0_ring_85 ?_
    refine lv_iadd hx hb dX0_ring_86 ?_
    refine tr_iast (k := k) hx hb hK hP hD hS 1 0 rfl rfl rfl hk (by decide) dX0_ring_87 (fun H locs hP hD hS => ?_)
    have hP : va_P D vwCl (wX h ad ca (t, ((so &&& ((tw_b k) ^^^ (-1))) ||| (tw_b k)), (upd du k (nI t + (pe k))), pe, wh, co, (rc + 1), (upd ro (rc % 20) (nI k)), (upd ra (rc % 20) (nI t)))) H := hP
    have hD : va_D A (wX h ad ca (t, ((so &&& ((tw_b k) ^^^ (-1))) ||| (tw_b k)), (upd du k (nI t + (pe k))), pe, wh, co, (rc + 1), (upd ro (rc % 20) (nI k)), (upd ra (rc % 20) (nI t)))) := hD
    refine lv_aload_n hx hb dX0_ring_88 rfl (lv_at hl 1 rfl) ?_
    refine lv_iload_n hx hb dX0_ring_89 rfl (lv_at hl 2 rfl) ?_
    refine tr_callv (v := (t, ((so &&& ((tw_b k) ^^^ (-1))) ||| (tw_b k)), (upd du k (nI t + (pe k))), pe, wh, co, (rc + 1), (upd ro (rc % 20) (nI k)), (upd ra (rc % 20) (nI t)))) (wf := wX h ad ca) (wr := []) (As := [.int (nI k)]) (rest := []) (k := 1) (ci := 0) ⟨hx, hb, hml, hown, hts⟩ (mX_place l D h ad ca (t, ((so &&& ((tw_b k) ^^^ (-1))) ||| (tw_b k)), (upd du k (nI t + (pe k))), pe, wh, co, (rc + 1), (upd ro (rc % 20) (nI k)), (upd ra (rc % 20) (nI t))) k hk) (cwV 1 hts (lw_V q68 q70 qs2 q12 q71) rfl rfl rfl (by decide +kernel) ⟨Nat.le_of_ble_eq_true rfl, Nat.le_of_ble_eq_true rfl⟩) hK hP tr_Pnl hD tr_ap.nl hS hA rfl rfl rfl hl.1 rfl (Nat.le_of_ble_eq_true rfl) dX0_ring_90 ⟨Nat.zero_le _, Nat.zero_le _⟩ (fun u H locs hw hP _ hD _ hS => ?_)
    obtain ⟨t1, so1, du1, pe1, wh1, co1, rc1, ro1, ra1⟩ := u
    have hP : va_P D vwCl (wX h ad ca (t1, so1, du1, pe1, wh1, co1, rc1, ro1, ra1)) H := hP
    have hD : va_D A (wX h ad ca (t1, so1, du1, pe1, wh1, co1, rc1, ro1, ra1)) := hD
    exact tr_vret (u := (t1, so1, du1, pe1, wh1, co1, rc1, ro1, ra1)) hx hb hr hlocks dX0_ring_93 hP hK hD hS (hw.trans (tw_ring_1 (t, so, du, pe, wh, co, rc, ro, ra) c1).symm)
end
section
/-! TimerWheel: tick, set, cancel, pass, toNext -/
set_option maxHeartbeats 4000000 in
set_option maxRecDepth 100000 in
theorem mX_tick (l : Launch) (D : va_G) (h : Nat) (ad : Nat → Nat) (ca : Nat → ClassId) (u : xS) (ht : tw_t u + 1 < 2 ^ 30) (hrc : tw_rc u + 16 < 2 ^ 30) : tr_Ci l D (kX ca) (wX h ad ca) yX0_tick cX0_tick 5 (some .int) ({ frames := 2, cells := 0, slots := 0, locals := 46 }) [.ref h] u (fun r v => ∃ q : Nat, (v, q) = tw_tick u ∧ r = nI q) := by
  obtain ⟨t, so, du, pe, wh, co, rc, ro, ra⟩ := u
  have ht : t + 1 < 2 ^ 30 := ht
  have hrc : rc + 16 < 2 ^ 30 := hrc
  refine tr_enteri (by decide) (Nat.le_of_ble_eq_true rfl) ?_
  intro p e s m below meth c A ls hx hb hr hml hown hts hlocks hA hK hP hD hS hl
  have hown : s.vm.findClass RX0 = some m.cls := hown
  have hP : va_P D vwCl (wX h ad ca (t, so, du, pe, wh, co, rc, ro, ra)) s.heap := hP
  have hD : va_D A (wX h ad ca (t, so, du, pe, wh, co, rc, ro, ra)) := hD
  have hl : lv_has ls 5 [(0, .ref h)] := hl
  refine lv_aload_n hx hb dX0_tick_0 rfl (lv_at hl 0 rfl) ?_
  refine lv_dup hx hb dX0_tick_1 rfl ?_
  refine va_get (D := D) (ci := 0) (v := .int (nI t)) (C := RX0) (T := TX0) (N := 9) hx hb hts in_X0 hown hK hP 0 rfl rfl 0 (by decide) (hts _ q22) (fun _ h9 => h9) rfl dX0_tick_2 ?_
  refine lv_iconst (v := 1) hx hb dX0_tick_5 (by decide) ?_
  refine lv_iadd hx hb dX0_tick_6 ?_
  refine tr_re (z' := nI (t + 1)) (nI_1 t) ?_
  refine va_put (D := D) (ci := 0) (v := .int (nI (t + 1))) (ty := .int) (C := RX0) (T := TX0) (N := 9) hx hb hts in_X0 tyX0 tyX0_ok nmX0 hown hK hP hD hS 0 rfl rfl 0 (by decide) (hts _ q22) (fun _ h9 => h9) rfl (by decide +kernel) rfl rfl (Nat.le_of_ble_eq_true rfl) dX0_tick_7 (fun H locs hP hD hS => ?_)
  have hP : va_P D vwCl (wX h ad ca ((t + 1), so, du, pe, wh, co, rc, ro, ra)) H := hP
  have hD : va_D A (wX h ad ca ((t + 1), so, du, pe, wh, co, rc, ro, ra)) := hD
  have step3 : ∀ (v : xS) (H : Heap) (locs : List Loc) (ls : Array Slot), v = tw_tk2 (tw_tk1 (tw_inc (t, so, du, pe, wh, co, rc, ro, ra))) → va_P D vwCl (wX h ad ca v) H → va_D A (wX h ad ca v) → va_S A s.heap H locs → lv_has ls 5 [(0, .ref h)] → W p l e ({ frames := 2, cells := 0, slots := 0, locals := 46 }) s m ([.ref h] : List Value).toArray below meth c H locs 0 0 (MQ below (va_Qi (fun r v => ∃ q : Nat, (v, q) = tw_tick (t, so, du, pe, wh, co, rc, ro, ra) ∧ r = nI q) (tr_B D (kX ca) (wX h ad ca) A) A) ([.ref h] : List Value).toArray s 0 0 A) (F0 m 63 ls []) := by
    intro v H locs ls ev hP hD hS hl
    obtain ⟨t3, so3, du3, pe3, wh3, co3, rc3, ro3, ra3⟩ := v
    obtain rfl : t3 = t + 1 := (congrArg tw_t ev).trans ((tw_tk2_t _).1.trans ((tw_tk1_t _).1.trans rfl))
    have erc : rc3 = rc := (congrArg tw_rc ev).trans ((tw_tk2_t _).2.trans ((tw_tk1_t _).2.trans rfl))
    refine lv_aload_n hx hb dX0_tick_63 rfl (lv_at hl 0 rfl) ?_
    refine va_get (D := D) (ci := 0) (v := .int (nI (t + 1))) (C := RX0) (T := TX0) (N := 9) hx hb hts in_X0 hown hK hP 0 rfl rfl 0 (by decide) (hts _ q22) (fun _ h9 => h9) rfl dX0_tick_64 ?_
    refine lv_bipush (v := 7) hx hb dX0_tick_67 (by decide) ?_
    refine lv_iand hx hb dX0_tick_69 ?_
    refine tr_re (z' := nI ((t + 1) % 8)) (tn_and7 (by omega)) ?_
    refine lv_istore_n (lv' := [(1, .int (nI ((t + 1) % 8))), (0, .ref h)]) hx hb dX0_tick_70 rfl hl (by decide) rfl (fun ls hl => ?_)
    refine lv_aload_n hx hb dX0_tick_71 rfl (lv_at hl 1 rfl) ?_
    refine va_get (D := D) (ci := 0) (v := .ref (ad 2)) (C := RX0) (T := TX0) (N := 9) hx hb hts in_X0 hown hK hP 0 rfl rfl 4 (by decide) (hts _ q26) (fun _ h9 => h9) rfl dX0_tick_72 ?_
    refine lv_iload_n hx hb dX0_tick_75 rfl (lv_at hl 0 rfl) ?_
    refine tr_iald (k := ((t + 1) % 8)) hx hb hK hP 3 2 rfl rfl rfl (Nat.lt_of_lt_of_le (Nat.mod_lt _ (by decide)) (by decide)) (by decide) dX0_tick_76 ?_
    refine lv_istore_n (lv' := [(2, .int (wh3 ((t + 1) % 8))), (1, .int (nI ((t + 1) % 8))), (0, .ref h)]) hx hb dX0_tick_77 rfl hl (by decide) rfl (fun ls hl => ?_)
    refine lv_aload_n hx hb dX0_tick_78 rfl (lv_at hl 2 rfl) ?_
    refine va_get (D := D) (ci := 0) (v := .ref (ad 2)) (C := RX0) (T := TX0) (N := 9) hx hb hts in_X0 hown hK hP 0 rfl rfl 4 (by decide) (hts _ q26) (fun _ h9 => h9) rfl dX0_tick_79 ?_
    refine lv_iload_n hx hb dX0_tick_82 rfl (lv_at hl 1 rfl) ?_
    refine lv_iconst (v := 0) hx hb dX0_tick_83 (by decide) ?_
    refine tr_iast (k := ((t + 1) % 8)) hx hb hK hP hD hS 3 2 rfl rfl rfl (Nat.lt_of_lt_of_le (Nat.mod_lt _ (by decide)) (by decide)) (by decide) dX0_tick_84 (fun H locs hP hD hS => ?_)
    have hP : va_P D vwCl (wX h ad ca ((t + 1), so3, du3, pe3, (upd wh3 ((t + 1) % 8) 0), co3, rc3, ro3, ra3)) H := hP
    have hD : va_D A (wX h ad ca ((t + 1), so3, du3, pe3, (upd wh3 ((t + 1) % 8) 0), co3, rc3, ro3, ra3)) := hD
    refine lv_iconst (v := 0) hx hb dX0_tick_85 (by decide) ?_
    refine tr_re (z' := nI 0) nI_0.symm ?_
    refine lv_istore_n (lv' := [(3, .int (nI 0)), (2, .int (wh3 ((t + 1) % 8))), (1, .int (nI ((t + 1) % 8))), (0, .ref h)]) hx hb dX0_tick_86 rfl hl (by decide) rfl (fun ls hl => ?_)
    refine lv_iconst (v := 0) hx hb dX0_tick_87 (by decide) ?_
    refine tr_re (z' := nI 0) nI_0.symm ?_
    refine lv_istore (lv' := [(4, .int (nI 0)), (3, .int (nI 0)), (2, .int (wh3 ((t + 1) % 8))), (1, .int (nI ((t + 1) % 8))), (0, .ref h)]) hx hb dX0_tick_88 hl (by decide) rfl (fun ls hl => ?_)
    have loop : ∀ (n i a : Nat) (v : xS) (H : Heap) (locs : List Loc) (ls : Array Slot), i ≤ 16 → 17 ≤ i + n → (v, a) = tw_tkL (wh3 ((t + 1) % 8)) (tw_clr ((t + 1), so3, du3, pe3, wh3, co3, rc3, ro3, ra3) ((t + 1) % 8)) i → va_P D vwCl (wX h ad ca v) H → va_D A (wX h ad ca v) → va_S A s.heap H locs → lv_has ls 5 [(0, .ref h), (2, .int (wh3 ((t + 1) % 8))), (3, .int (nI a)), (4, .int (nI i))] → W p l e ({ frames := 2, cells := 0, slots := 0, locals := 46 }) s m ([.ref h] : List Value).toArray below meth c H locs 0 0 (MQ below (va_Qi (fun r v => ∃ q : Nat, (v, q) = tw_tick (t, so, du, pe, wh, co, rc, ro, ra) ∧ r = nI q) (tr_B D (kX ca) (wX h ad ca) A) A) ([.ref h] : List Value).toArray s 0 0 A) (F0 m 90 ls []) := by
      intro n
      induction n with
      | zero =>
        intro i a v H locs ls h1 h2
        exact absurd h2 (by omega)
      | succ n ih =>
        intro i a v H locs ls hi hin ev4 hP hD hS hl
        obtain ⟨t4, so4, du4, pe4, wh4, co4, rc4, ro4, ra4⟩ := v
        have hb4 : rc4 = rc3 + a ∧ a ≤ i := by have z := tw_tkL_t (wh3 ((t + 1) % 8)) (tw_clr ((t + 1), so3, du3, pe3, wh3, co3, rc3, ro3, ra3) ((t + 1) % 8)) i; rw [← ev4] at z; exact z.2
        refine lv_iload hx hb dX0_tick_90 (lv_at hl 3 rfl) ?_
        refine lv_bipush (v := 16) hx hb dX0_tick_92 (by decide) ?_
        refine lv_icmp_ge (tgt := 121) hx hb dX0_tick_94 (by decide) (fun c1 => ?_) (fun c1 => ?_)
        · have hi16 : i = t16 := by rw [t16_eq]; rcases Nat.lt_or_ge i 16 with z | z; exact absurd c1 (nI_ge (a := i) (b := 16) z (by omega)); omega
          subst hi16
          refine lv_iload_n hx hb dX0_tick_121 rfl (lv_at hl 2 rfl) ?_
          have key : tw_tick (t, so, du, pe, wh, co, rc, ro, ra) = tw_tk3 ((t + 1), so3, du3, pe3, wh3, co3, rc3, ro3, ra3) := by unfold tw_tick; rw [← ev]
          exact tr_iret (u := (t4, so4, du4, pe4, wh4, co4, rc4, ro4, ra4)) hx hb hr hlocks dX0_tick_122 hP hK hD hS (⟨a, ev4.trans key.symm, rfl⟩)
        · have hi16 : i < 16 := by rcases Nat.lt_or_ge i 16 with z | z; exact z; exact absurd (nI_le (a := 16) (b := i) z (by omega)) c1
          refine lv_iload_n hx hb dX0_tick_97 rfl (lv_at hl 1 rfl) ?_
          refine lv_iload hx hb dX0_tick_98 (lv_at hl 3 rfl) ?_
          refine lv_ishr hx hb dX0_tick_100 ?_
          refine lv_iconst (v := 1) hx hb dX0_tick_101 (by decide) ?_
          refine lv_iand hx hb dX0_tick_102 ?_
          refine lv_if_eq (tgt := 115) hx hb dX0_tick_103 (by decide) (fun c2 => ?_) (fun c2 => ?_)
          · refine lv_iinc (v := nI (i + 1)) (lv' := [(4, .int (nI (i + 1))), (0, .ref h), (2, .int (wh3 ((t + 1) % 8))), (3, .int (nI a))]) hx hb dX0_tick_115 hl (k := 3) rfl (nI_1 i) (by decide) rfl (fun ls hl => ?_)
            refine lv_goto (tgt := 90) hx hb dX0_tick_118 (by decide) ?_
            exact ih (i + 1) a _ _ _ _ (by omega) (by omega) (by rw [tw_tkL_n ((tn_tst _ (by omega)).mp c2)]; exact ev4) hP hD hS (lv_sub hl [1, 2, 3, 0] rfl)
          · refine lv_aload_n hx hb dX0_tick_106 rfl (lv_at hl 0 rfl) ?_
            refine lv_iload hx hb dX0_tick_107 (lv_at hl 3 rfl) ?_
            refine tr_callv (v := (t4, so4, du4, pe4, wh4, co4, rc4, ro4, ra4)) (wf := wX h ad ca) (wr := []) (As := [.int (nI i)]) (rest := []) (k := 1) (ci := 0) ⟨hx, hb, hml, hown, hts⟩ (mX_ring l D h ad ca (t4, so4, du4, pe4, wh4, co4, rc4, ro4, ra4) i hi16 (show rc4 < 2 ^ 30 by omega)) (cwV 1 hts (lw_V q88 q90 qs5 q12 q91) rfl rfl rfl (by decide +kernel) ⟨Nat.le_of_ble_eq_true rfl, Nat.le_of_ble_eq_true rfl⟩) hK hP tr_Pnl hD tr_ap.nl hS hA rfl rfl rfl hl.1 rfl (Nat.le_of_ble_eq_true rfl) dX0_tick_109 ⟨Nat.zero_le _, Nat.zero_le _⟩ (fun u H locs hw hP _ hD _ hS => ?_)
            obtain ⟨t5, so5, du5, pe5, wh5, co5, rc5, ro5, ra5⟩ := u
            have hP : va_P D vwCl (wX h ad ca (t5, so5, du5, pe5, wh5, co5, rc5, ro5, ra5)) H := hP
            have hD : va_D A (wX h ad ca (t5, so5, du5, pe5, wh5, co5, rc5, ro5, ra5)) := hD
            refine lv_iinc (v := nI (a + 1)) (lv' := [(3, .int (nI (a + 1))), (0, .ref h), (2, .int (wh3 ((t + 1) % 8))), (4, .int (nI i))]) hx hb dX0_tick_112 hl (k := 2) rfl (nI_1 a) (by decide) rfl (fun ls hl => ?_)
            refine lv_iinc (v := nI (i + 1)) (lv' := [(4, .int (nI (i + 1))), (3, .int (nI (a + 1))), (0, .ref h), (2, .int (wh3 ((t + 1) % 8)))]) hx hb dX0_tick_115 hl (k := 3) rfl (nI_1 i) (by decide) rfl (fun ls hl => ?_)
            refine lv_goto (tgt := 90) hx hb dX0_tick_118 (by decide) ?_
            exact ih (i + 1) (a + 1) _ _ _ _ (by omega) (by omega) (by rw [tw_tkL_s (tn_bt (tn_tst _ (by omega)) c2), ← ev4]; exact congrArg (fun z => (z, a + 1)) hw) hP hD hS (lv_sub hl [2, 3, 1, 0] rfl)
    exact loop 17 0 0 _ _ _ _ (by omega) (by omega) rfl hP hD hS (lv_sub hl [4, 2, 1, 0] rfl)
  have step2 : ∀ (v : xS) (H : Heap) (locs : List Loc) (ls : Array Slot), v = tw_tk1 (tw_inc (t, so, du, pe, wh, co, rc, ro, ra)) → va_P D vwCl (wX h ad ca v) H → va_D A (wX h ad ca v) → va_S A s.heap H locs → lv_has ls 5 [(0, .ref h)] → W p l e ({ frames := 2, cells := 0, slots := 0, locals := 46 }) s m ([.ref h] : List Value).toArray below meth c H locs 0 0 (MQ below (va_Qi (fun r v => ∃ q : Nat, (v, q) = tw_tick (t, so, du, pe, wh, co, rc, ro, ra) ∧ r = nI q) (tr_B D (kX ca) (wX h ad ca) A) A) ([.ref h] : List Value).toArray s 0 0 A) (F0 m 37 ls []) := by
    intro v H locs ls ev hP hD hS hl
    obtain ⟨t2, so2, du2, pe2, wh2, co2, rc2, ro2, ra2⟩ := v
    obtain rfl : t2 = t + 1 := (congrArg tw_t ev).trans ((tw_tk1_t _).1.trans rfl)
    refine lv_aload_n hx hb dX0_tick_37 rfl (lv_at hl 0 rfl) ?_
    refine va_get (D := D) (ci := 0) (v := .int (nI (t + 1))) (C := RX0) (T := TX0) (N := 9) hx hb hts in_X0 hown hK hP 0 rfl rfl 0 (by decide) (hts _ q22) (fun _ h9 => h9) rfl dX0_tick_38 ?_
    refine lv_bipush (v := 7) hx hb dX0_tick_41 (by decide) ?_
    refine lv_iand hx hb dX0_tick_43 ?_
    refine lv_if_ne (tgt := 63) hx hb dX0_tick_44 (by decide) (fun c2 => ?_) (fun c2 => ?_)
    · exact step3 _ _ _ _ (by rw [← ev]; exact (tw_tk2_1 (u := ((t + 1), so2, du2, pe2, wh2, co2, rc2, ro2, ra2)) (fun z => c2 ((tn_and70 (t := t + 1) (by omega)).mpr z))).symm) hP hD hS hl
    · refine lv_aload_n hx hb dX0_tick_47 rfl (lv_at hl 0 rfl) ?_
      refine lv_bipush (v := 8) hx hb dX0_tick_48 (by decide) ?_
      refine lv_aload_n hx hb dX0_tick_50 rfl (lv_at hl 0 rfl) ?_
      refine va_get (D := D) (ci := 0) (v := .int (nI (t + 1))) (C := RX0) (T := TX0) (N := 9) hx hb hts in_X0 hown hK hP 0 rfl rfl 0 (by decide) (hts _ q22) (fun _ h9 => h9) rfl dX0_tick_51 ?_
      refine lv_iconst (v := 3) hx hb dX0_tick_54 (by decide) ?_
      refine lv_ishr hx hb dX0_tick_55 ?_
      refine lv_bipush (v := 7) hx hb dX0_tick_56 (by decide) ?_
      refine lv_iand hx hb dX0_tick_58 ?_
      refine lv_iadd hx hb dX0_tick_59 ?_
      refine tr_re (z' := nI (8 + (t + 1) / 8 % 8)) (tn_c8 (by omega)) ?_
      refine tr_callv (v := ((t + 1), so2, du2, pe2, wh2, co2, rc2, ro2, ra2)) (wf := wX h ad ca) (wr := []) (As := [.int (nI (8 + (t + 1) / 8 % 8))]) (rest := []) (k := 1) (ci := 0) ⟨hx, hb, hml, hown, hts⟩ (mX_moveDown l D h ad ca ((t + 1), so2, du2, pe2, wh2, co2, rc2, ro2, ra2) (8 + (t + 1) / 8 % 8) (by omega)) (cwV 1 hts (lw_V q84 q86 qs4 q12 q87) rfl rfl rfl (by decide +kernel) ⟨Nat.le_of_ble_eq_true rfl, Nat.le_of_ble_eq_true rfl⟩) hK hP tr_Pnl hD tr_ap.nl hS hA rfl rfl rfl hl.1 rfl (Nat.le_of_ble_eq_true rfl) dX0_tick_60 ⟨Nat.zero_le _, Nat.zero_le _⟩ (fun u H locs hw hP _ hD _ hS => ?_)
      obtain ⟨t6, so6, du6, pe6, wh6, co6, rc6, ro6, ra6⟩ := u
      have hP : va_P D vwCl (wX h ad ca (t6, so6, du6, pe6, wh6, co6, rc6, ro6, ra6)) H := hP
      have hD : va_D A (wX h ad ca (t6, so6, du6, pe6, wh6, co6, rc6, ro6, ra6)) := hD
      exact step3 _ _ _ _ (by rw [← ev]; exact hw.trans (tw_tk2_0 (u := ((t + 1), so2, du2, pe2, wh2, co2, rc2, ro2, ra2)) ((tn_and70 (t := t + 1) (by omega)).mp c2)).symm) hP hD hS hl
  refine lv_aload_n hx hb dX0_tick_10 rfl (lv_at hl 0 rfl) ?_
  refine va_get (D := D) (ci := 0) (v := .int (nI (t + 1))) (C := RX0) (T := TX0) (N := 9) hx hb hts in_X0 hown hK hP 0 rfl rfl 0 (by decide) (hts _ q22) (fun _ h9 => h9) rfl dX0_tick_11 ?_
  refine lv_bipush (v := 63) hx hb dX0_tick_14 (by decide) ?_
  refine lv_iand hx hb dX0_tick_16 ?_
  refine lv_if_ne (tgt := 37) hx hb dX0_tick_17 (by decide) (fun c1 => ?_) (fun c1 => ?_)
  · exact step2 _ _ _ _ (tw_tk1_1 (u := ((t + 1), so, du, pe, wh, co, rc, ro, ra)) (fun z => c1 ((tn_and63 (t := t + 1) (by omega)).mpr z))).symm hP hD hS hl
  · refine lv_aload_n hx hb dX0_tick_20 rfl (lv_at hl 0 rfl) ?_
    refine lv_bipush (v := 16) hx hb dX0_tick_21 (by decide) ?_
    refine lv_aload_n hx hb dX0_tick_23 rfl (lv_at hl 0 rfl) ?_
    refine va_get (D := D) (ci := 0) (v := .int (nI (t + 1))) (C := RX0) (T := TX0) (N := 9) hx hb hts in_X0 hown hK hP 0 rfl rfl 0 (by decide) (hts _ q22) (fun _ h9 => h9) rfl dX0_tick_24 ?_
    refine lv_bipush (v := 6) hx hb dX0_tick_27 (by decide) ?_
    refine lv_ishr hx hb dX0_tick_29 ?_
    refine lv_bipush (v := 7) hx hb dX0_tick_30 (by decide) ?_
    refine lv_iand hx hb dX0_tick_32 ?_
    refine lv_iadd hx hb dX0_tick_33 ?_
    refine tr_re (z' := nI (16 + (t + 1) / 64 % 8)) (tn_c16 (by omega)) ?_
    refine tr_callv (v := ((t + 1), so, du, pe, wh, co, rc, ro, ra)) (wf := wX h ad ca) (wr := []) (As := [.int (nI (16 + (t + 1) / 64 % 8))]) (rest := []) (k := 1) (ci := 0) ⟨hx, hb, hml, hown, hts⟩ (mX_moveDown l D h ad ca ((t + 1), so, du, pe, wh, co, rc, ro, ra) (16 + (t + 1) / 64 % 8) (by omega)) (cwV 1 hts (lw_V q84 q86 qs4 q12 q87) rfl rfl rfl (by decide +kernel) ⟨Nat.le_of_ble_eq_true rfl, Nat.le_of_ble_eq_true rfl⟩) hK hP tr_Pnl hD tr_ap.nl hS hA rfl rfl rfl hl.1 rfl (Nat.le_of_ble_eq_true rfl) dX0_tick_34 ⟨Nat.zero_le _, Nat.zero_le _⟩ (fun u H locs hw hP _ hD _ hS => ?_)
    obtain ⟨t6, so6, du6, pe6, wh6, co6, rc6, ro6, ra6⟩ := u
    have hP : va_P D vwCl (wX h ad ca (t6, so6, du6, pe6, wh6, co6, rc6, ro6, ra6)) H := hP
    have hD : va_D A (wX h ad ca (t6, so6, du6, pe6, wh6, co6, rc6, ro6, ra6)) := hD
    exact step2 _ _ _ _ (hw.trans (tw_tk1_0 (u := ((t + 1), so, du, pe, wh, co, rc, ro, ra)) ((tn_and63 (t := t + 1) (by omega)).mp c1)).symm) hP hD hS hl
set_option maxHeartbeats 4000000 in
set_option maxRecDepth 100000 in
theorem mX_set (l : Launch) (D : va_G) (h : Nat) (ad : Nat → Nat) (ca : Nat → ClassId) (u : xS) (k : Int32) (d : Int32) (pp : Int32) (hco : ∀ i, i < 16 → ∃ cn : Nat, cn < 24 ∧ tw_co u i = nI cn) : tr_Ci l D (kX ca) (wX h ad ca) yX0_set cX0_set 4 (some .int) ({ frames := 1, cells := 0, slots := 0, locals := 23 }) [.ref h, .int k, .int d, .int pp] u (fun r v => (v, r) = tw_set u k d pp) := by
  obtain ⟨t, so, du, pe, wh, co, rc, ro, ra⟩ := u
  refine tr_enteri (by decide) (Nat.le_of_ble_eq_true rfl) ?_
  intro p e s m below meth c A ls hx hb hr hml hown hts hlocks hA hK hP hD hS hl
  have hown : s.vm.findClass RX0 = some m.cls := hown
  have hP : va_P D vwCl (wX h ad ca (t, so, du, pe, wh, co, rc, ro, ra)) s.heap := hP
  have hD : va_D A (wX h ad ca (t, so, du, pe, wh, co, rc, ro, ra)) := hD
  have hl : lv_has ls 4 [(0, .ref h), (1, .int k), (2, .int d), (3, .int pp)] := hl
  refine lv_iload_n hx hb dX0_set_0 rfl (lv_at hl 1 rfl) ?_
  refine lv_if_lt (tgt := 29) hx hb dX0_set_1 (by decide) (fun c1 => ?_) (fun c1 => ?_)
  · refine lv_iconst (v := -1) hx hb dX0_set_29 (by decide) ?_
    exact tr_iret (u := (t, so, du, pe, wh, co, rc, ro, ra)) hx hb hr hlocks dX0_set_30 hP hK hD hS ((tw_set_bad (t, so, du, pe, wh, co, rc, ro, ra) (Or.inl c1)).symm)
  · refine lv_iload_n hx hb dX0_set_4 rfl (lv_at hl 1 rfl) ?_
    refine lv_bipush (v := 16) hx hb dX0_set_5 (by decide) ?_
    refine lv_icmp_ge (tgt := 29) hx hb dX0_set_7 (by decide) (fun c2 => ?_) (fun c2 => ?_)
    · refine lv_iconst (v := -1) hx hb dX0_set_29 (by decide) ?_
      exact tr_iret (u := (t, so, du, pe, wh, co, rc, ro, ra)) hx hb hr hlocks dX0_set_30 hP hK hD hS ((tw_set_bad (t, so, du, pe, wh, co, rc, ro, ra) (Or.inr (Or.inl c2))).symm)
    · refine lv_iload_n hx hb dX0_set_10 rfl (lv_at hl 2 rfl) ?_
      refine lv_iconst (v := 1) hx hb dX0_set_11 (by decide) ?_
      refine lv_icmp_lt (tgt := 29) hx hb dX0_set_12 (by decide) (fun c3 => ?_) (fun c3 => ?_)
      · refine lv_iconst (v := -1) hx hb dX0_set_29 (by decide) ?_
        exact tr_iret (u := (t, so, du, pe, wh, co, rc, ro, ra)) hx hb hr hlocks dX0_set_30 hP hK hD hS ((tw_set_bad (t, so, du, pe, wh, co, rc, ro, ra) (Or.inr (Or.inr (Or.inl c3)))).symm)
      · refine lv_iload_n hx hb dX0_set_15 rfl (lv_at hl 2 rfl) ?_
        refine lv_sipush (v := 500) hx hb dX0_set_16 (by decide) ?_
        refine lv_icmp_gt (tgt := 29) hx hb dX0_set_19 (by decide) (fun c4 => ?_) (fun c4 => ?_)
        · refine lv_iconst (v := -1) hx hb dX0_set_29 (by decide) ?_
          exact tr_iret (u := (t, so, du, pe, wh, co, rc, ro, ra)) hx hb hr hlocks dX0_set_30 hP hK hD hS ((tw_set_bad (t, so, du, pe, wh, co, rc, ro, ra) (Or.inr (Or.inr (Or.inr (Or.inl c4))))).symm)
        · refine lv_iload_n hx hb dX0_set_22 rfl (lv_at hl 3 rfl) ?_
          refine tr_calls (As := [.int pp]) (rest := []) (k := 1) ⟨hx, hb, hml, hown, hts⟩ (mX_isPeriod l pp) (va_cwS 1 hts (lw_S q57 q58 q12 q59) rfl rfl rfl (by decide +kernel) ⟨Nat.le_of_ble_eq_true rfl, Nat.le_of_ble_eq_true rfl⟩) hP hS rfl hl.1 rfl (Nat.le_of_ble_eq_true rfl) dX0_set_23 ⟨Nat.zero_le _, Nat.zero_le _⟩ (fun rp H locs hw hP hS => ?_)
          have hP : va_P D vwCl (wX h ad ca (t, so, du, pe, wh, co, rc, ro, ra)) H := hP
          have hD : va_D A (wX h ad ca (t, so, du, pe, wh, co, rc, ro, ra)) := hD
          have hpp := tn_ite hw
          refine lv_if_ne (tgt := 31) hx hb dX0_set_26 (by decide) (fun c5 => ?_) (fun c5 => ?_)
          · have hp := hpp.1 c5
            obtain ⟨kn, hkn, ek⟩ := tn_16 c1 c2
            obtain ⟨pn, hpn, ep⟩ := tw_per_i hp
            subst ek
            subst ep
            have tail : ∀ (v : xS) (H : Heap) (locs : List Loc) (ls : Array Slot), v = (if tw_is (t, so, du, pe, wh, co, rc, ro, ra) (nI kn) = true then tw_unplace (t, so, du, pe, wh, co, rc, ro, ra) kn else (t, so, du, pe, wh, co, rc, ro, ra)) → va_P D vwCl (wX h ad ca v) H → va_D A (wX h ad ca v) → va_S A s.heap H locs → lv_has ls 4 [(0, .ref h), (1, .int (nI kn)), (2, .int d), (3, .int (nI pn))] → W p l e ({ frames := 1, cells := 0, slots := 0, locals := 23 }) s m ([.ref h, .int (nI kn), .int d, .int (nI pn)] : List Value).toArray below meth c H locs 0 0 (MQ below (va_Qi (fun r v => (v, r) = tw_set (t, so, du, pe, wh, co, rc, ro, ra) (nI kn) d (nI pn)) (tr_B D (kX ca) (wX h ad ca) A) A) ([.ref h, .int (nI kn), .int d, .int (nI pn)] : List Value).toArray s 0 0 A) (F0 m 44 ls []) := by
              intro v H locs ls ev hP hD hS hl
              obtain ⟨t1, so1, du1, pe1, wh1, co1, rc1, ro1, ra1⟩ := v
              have e2 : t1 = t := (congrArg tw_t ev).trans (by split <;> rfl)
              refine lv_aload_n hx hb dX0_set_44 rfl (lv_at hl 0 rfl) ?_
              refine lv_dup hx hb dX0_set_45 rfl ?_
              refine va_get (D := D) (ci := 0) (v := .int so1) (C := RX0) (T := TX0) (N := 9) hx hb hts in_X0 hown hK hP 0 rfl rfl 1 (by decide) (hts _ q23) (fun _ h9 => h9) rfl dX0_set_46 ?_
              refine lv_iconst (v := 1) hx hb dX0_set_49 (by decide) ?_
              refine lv_iload_n hx hb dX0_set_50 rfl (lv_at hl 1 rfl) ?_
              refine lv_ishl hx hb dX0_set_51 ?_
              refine tr_re (z' := tw_b kn) rfl ?_
              refine lv_ior hx hb dX0_set_52 ?_
              refine va_put (D := D) (ci := 0) (v := .int (so1 ||| (tw_b kn))) (ty := .int) (C := RX0) (T := TX0) (N := 9) hx hb hts in_X0 tyX0 tyX0_ok nmX0 hown hK hP hD hS 0 rfl rfl 1 (by decide) (hts _ q23) (fun _ h9 => h9) rfl (by decide +kernel) rfl rfl (Nat.le_of_ble_eq_true rfl) dX0_set_53 (fun H locs hP hD hS => ?_)
              have hP : va_P D vwCl (wX h ad ca (t1, (so1 ||| (tw_b kn)), du1, pe1, wh1, co1, rc1, ro1, ra1)) H := hP
              have hD : va_D A (wX h ad ca (t1, (so1 ||| (tw_b kn)), du1, pe1, wh1, co1, rc1, ro1, ra1)) := hD
              refine lv_aload_n hx hb dX0_set_56 rfl (lv_at hl 0 rfl) ?_
              refine va_get (D := D) (ci := 0) (v := .ref (ad 0)) (C := RX0) (T := TX0) (N := 9) hx hb hts in_X0 hown hK hP 0 rfl rfl 2 (by decide) (hts _ q24) (fun _ h9 => h9) rfl dX0_set_57 ?_
              refine lv_iload_n hx hb dX0_set_60 rfl (lv_at hl 1 rfl) ?_
              refine lv_aload_n hx hb dX0_set_61 rfl (lv_at hl 0 rfl) ?_
              refine va_get (D := D) (ci := 0) (v := .int (nI t1)) (C := RX0) (T := TX0) (N := 9) hx hb hts in_X0 hown hK hP 0 rfl rfl 0 (by decide) (hts _ q22) (fun _ h9 => h9) rfl dX0_set_62 ?_
              refine lv_iload_n hx hb dX0_set_65 rfl (lv_at hl 2 rfl) ?_
              refine lv_iadd hx hb dX0_set_66 ?_
              refine tr_iast (k := kn) hx hb hK hP hD hS 1 0 rfl rfl rfl hkn (by decide) dX0_set_67 (fun H locs hP hD hS => ?_)
              have hP : va_P D vwCl (wX h ad ca (t1, (so1 ||| (tw_b kn)), (upd du1 kn (nI t1 + d)), pe1, wh1, co1, rc1, ro1, ra1)) H := hP
              have hD : va_D A (wX h ad ca (t1, (so1 ||| (tw_b kn)), (upd du1 kn (nI t1 + d)), pe1, wh1, co1, rc1, ro1, ra1)) := hD
              refine lv_aload_n hx hb dX0_set_68 rfl (lv_at hl 0 rfl) ?_
              refine va_get (D := D) (ci := 0) (v := .ref (ad 1)) (C := RX0) (T := TX0) (N := 9) hx hb hts in_X0 hown hK hP 0 rfl rfl 3 (by decide) (hts _ q25) (fun _ h9 => h9) rfl dX0_set_69 ?_
              refine lv_iload_n hx hb dX0_set_72 rfl (lv_at hl 1 rfl) ?_
              refine lv_iload_n hx hb dX0_set_73 rfl (lv_at hl 3 rfl) ?_
              refine lv_i2s (v := nI pn) hx hb dX0_set_74 (tn_s16 hpn) ?_
              refine tr_sast (k := kn) (z' := nI pn) hx hb hK hP hD hS 2 1 rfl rfl rfl hkn (by decide) (tn_ns hpn) dX0_set_75 (fun H locs hP hD hS => ?_)
              have hP : va_P D vwCl (wX h ad ca (t1, (so1 ||| (tw_b kn)), (upd du1 kn (nI t1 + d)), (upd pe1 kn (nI pn)), wh1, co1, rc1, ro1, ra1)) H := hP
              have hD : va_D A (wX h ad ca (t1, (so1 ||| (tw_b kn)), (upd du1 kn (nI t1 + d)), (upd pe1 kn (nI pn)), wh1, co1, rc1, ro1, ra1)) := hD
              refine lv_aload_n hx hb dX0_set_76 rfl (lv_at hl 0 rfl) ?_
              refine lv_iload_n hx hb dX0_set_77 rfl (lv_at hl 1 rfl) ?_
              refine tr_callv (v := (t1, (so1 ||| (tw_b kn)), (upd du1 kn (nI t1 + d)), (upd pe1 kn (nI pn)), wh1, co1, rc1, ro1, ra1)) (wf := wX h ad ca) (wr := []) (As := [.int (nI kn)]) (rest := []) (k := 1) (ci := 0) ⟨hx, hb, hml, hown, hts⟩ (mX_place l D h ad ca (t1, (so1 ||| (tw_b kn)), (upd du1 kn (nI t1 + d)), (upd pe1 kn (nI pn)), wh1, co1, rc1, ro1, ra1) kn hkn) (cwV 1 hts (lw_V q68 q70 qs2 q12 q71) rfl rfl rfl (by decide +kernel) ⟨Nat.le_of_ble_eq_true rfl, Nat.le_of_ble_eq_true rfl⟩) hK hP tr_Pnl hD tr_ap.nl hS hA rfl rfl rfl hl.1 rfl (Nat.le_of_ble_eq_true rfl) dX0_set_78 ⟨Nat.zero_le _, Nat.zero_le _⟩ (fun u H locs hw hP _ hD _ hS => ?_)
              obtain ⟨t2, so2, du2, pe2, wh2, co2, rc2, ro2, ra2⟩ := u
              have hP : va_P D vwCl (wX h ad ca (t2, so2, du2, pe2, wh2, co2, rc2, ro2, ra2)) H := hP
              have hD : va_D A (wX h ad ca (t2, so2, du2, pe2, wh2, co2, rc2, ro2, ra2)) := hD
              refine lv_aload_n hx hb dX0_set_81 rfl (lv_at hl 0 rfl) ?_
              refine va_get (D := D) (ci := 0) (v := .ref (ad 0)) (C := RX0) (T := TX0) (N := 9) hx hb hts in_X0 hown hK hP 0 rfl rfl 2 (by decide) (hts _ q24) (fun _ h9 => h9) rfl dX0_set_82 ?_
              refine lv_iload_n hx hb dX0_set_85 rfl (lv_at hl 1 rfl) ?_
              refine tr_iald (k := kn) hx hb hK hP 1 0 rfl rfl rfl hkn (by decide) dX0_set_86 ?_
              have e1 : du2 kn = nI t1 + d := (congrFun (congrArg tw_du hw) kn).trans pk_us
              exact tr_iret (u := (t2, so2, du2, pe2, wh2, co2, rc2, ro2, ra2)) hx hb hr hlocks dX0_set_87 hP hK hD hS (by rw [tw_set_ok _ hkn c3 c4 hp, ← ev]; exact Prod.ext hw (e1.trans (by rw [e2])))
            refine lv_aload_n hx hb dX0_set_31 rfl (lv_at hl 0 rfl) ?_
            refine lv_iload_n hx hb dX0_set_32 rfl (lv_at hl 1 rfl) ?_
            refine tr_calli (v := (t, so, du, pe, wh, co, rc, ro, ra)) (wf := wX h ad ca) (wr := []) (As := [.int (nI kn)]) (rest := []) (k := 1) (ci := 0) ⟨hx, hb, hml, hown, hts⟩ (mX_isSet l D h ad ca (t, so, du, pe, wh, co, rc, ro, ra) (nI kn)) (cwV 1 hts (lw_V q60 q62 qs0 q12 q63) rfl rfl rfl (by decide +kernel) ⟨Nat.le_of_ble_eq_true rfl, Nat.le_of_ble_eq_true rfl⟩) hK hP tr_Pnl hD tr_ap.nl hS hA rfl rfl rfl hl.1 rfl (Nat.le_of_ble_eq_true rfl) dX0_set_33 ⟨Nat.zero_le _, Nat.zero_le _⟩ (fun ri u H locs hw hP _ hD _ hS => ?_)
            obtain ⟨rfl, hw⟩ := hw
            have hP : va_P D vwCl (wX h ad ca (t, so, du, pe, wh, co, rc, ro, ra)) H := hP
            have hD : va_D A (wX h ad ca (t, so, du, pe, wh, co, rc, ro, ra)) := hD
            have hii := tn_ite hw
            refine lv_if_eq (tgt := 44) hx hb dX0_set_36 (by decide) (fun c6 => ?_) (fun c6 => ?_)
            · exact tail _ _ _ _ (by rw [if_neg (by rw [hii.2 c6]; decide)]) hP hD hS (lv_sub hl [0, 1, 2, 3] rfl)
            · refine lv_aload_n hx hb dX0_set_39 rfl (lv_at hl 0 rfl) ?_
              refine lv_iload_n hx hb dX0_set_40 rfl (lv_at hl 1 rfl) ?_
              refine tr_callv (v := (t, so, du, pe, wh, co, rc, ro, ra)) (wf := wX h ad ca) (wr := []) (As := [.int (nI kn)]) (rest := []) (k := 1) (ci := 0) ⟨hx, hb, hml, hown, hts⟩ (mX_unplace l D h ad ca (t, so, du, pe, wh, co, rc, ro, ra) kn hkn (hco kn hkn)) (cwV 1 hts (lw_V q64 q66 qs1 q12 q67) rfl rfl rfl (by decide +kernel) ⟨Nat.le_of_ble_eq_true rfl, Nat.le_of_ble_eq_true rfl⟩) hK hP tr_Pnl hD tr_ap.nl hS hA rfl rfl rfl hl.1 rfl (Nat.le_of_ble_eq_true rfl) dX0_set_41 ⟨Nat.zero_le _, Nat.zero_le _⟩ (fun u H locs hw hP _ hD _ hS => ?_)
              obtain ⟨t3, so3, du3, pe3, wh3, co3, rc3, ro3, ra3⟩ := u
              have hP : va_P D vwCl (wX h ad ca (t3, so3, du3, pe3, wh3, co3, rc3, ro3, ra3)) H := hP
              have hD : va_D A (wX h ad ca (t3, so3, du3, pe3, wh3, co3, rc3, ro3, ra3)) := hD
              exact tail _ _ _ _ (by rw [if_pos (hii.1 c6)]; exact hw) hP hD hS (lv_sub hl [0, 1, 2, 3] rfl)
          · refine lv_iconst (v := -1) hx hb dX0_set_29 (by decide) ?_
            exact tr_iret (u := (t, so, du, pe, wh, co, rc, ro, ra)) hx hb hr hlocks dX0_set_30 hP hK hD hS ((tw_set_bad (t, so, du, pe, wh, co, rc, ro, ra) (Or.inr (Or.inr (Or.inr (Or.inr (hpp.2 c5)))))).symm)
set_option maxHeartbeats 4000000 in
set_option maxRecDepth 100000 in
theorem mX_cancel (l : Launch) (D : va_G) (h : Nat) (ad : Nat → Nat) (ca : Nat → ClassId) (u : xS) (k : Int32) (hco : ∀ i, i < 16 → ∃ cn : Nat, cn < 24 ∧ tw_co u i = nI cn) : tr_Ci l D (kX ca) (wX h ad ca) yX0_cancel cX0_cancel 2 (some .int) ({ frames := 1, cells := 0, slots := 0, locals := 22 }) [.ref h, .int k] u (fun r v => (v, r) = tw_cancel u k) := by
  obtain ⟨t, so, du, pe, wh, co, rc, ro, ra⟩ := u
  refine tr_enteri (by decide) (Nat.le_of_ble_eq_true rfl) ?_
  intro p e s m below meth c A ls hx hb hr hml hown hts hlocks hA hK hP hD hS hl
  have hown : s.vm.findClass RX0 = some m.cls := hown
  have hP : va_P D vwCl (wX h ad ca (t, so, du, pe, wh, co, rc, ro, ra)) s.heap := hP
  have hD : va_D A (wX h ad ca (t, so, du, pe, wh, co, rc, ro, ra)) := hD
  have hl : lv_has ls 2 [(0, .ref h), (1, .int k)] := hl
  refine lv_aload_n hx hb dX0_cancel_0 rfl (lv_at hl 0 rfl) ?_
  refine lv_iload_n hx hb dX0_cancel_1 rfl (lv_at hl 1 rfl) ?_
  refine tr_calli (v := (t, so, du, pe, wh, co, rc, ro, ra)) (wf := wX h ad ca) (wr := []) (As := [.int k]) (rest := []) (k := 1) (ci := 0) ⟨hx, hb, hml, hown, hts⟩ (mX_isSet l D h ad ca (t, so, du, pe, wh, co, rc, ro, ra) k) (cwV 1 hts (lw_V q60 q62 qs0 q12 q63) rfl rfl rfl (by decide +kernel) ⟨Nat.le_of_ble_eq_true rfl, Nat.le_of_ble_eq_true rfl⟩) hK hP tr_Pnl hD tr_ap.nl hS hA rfl rfl rfl hl.1 rfl (Nat.le_of_ble_eq_true rfl) dX0_cancel_2 ⟨Nat.zero_le _, Nat.zero_le _⟩ (fun ri u H locs hw hP _ hD _ hS => ?_)
  obtain ⟨rfl, hw⟩ := hw
  have hP : va_P D vwCl (wX h ad ca (t, so, du, pe, wh, co, rc, ro, ra)) H := hP
  have hD : va_D A (wX h ad ca (t, so, du, pe, wh, co, rc, ro, ra)) := hD
  have hii := tn_ite hw
  refine lv_if_ne (tgt := 10) hx hb dX0_cancel_5 (by decide) (fun c1 => ?_) (fun c1 => ?_)
  · obtain ⟨kn, hkn, ek, hbt⟩ := tw_is_i (hii.1 c1)
    subst ek
    refine lv_aload_n hx hb dX0_cancel_10 rfl (lv_at hl 0 rfl) ?_
    refine lv_iload_n hx hb dX0_cancel_11 rfl (lv_at hl 1 rfl) ?_
    refine tr_callv (v := (t, so, du, pe, wh, co, rc, ro, ra)) (wf := wX h ad ca) (wr := []) (As := [.int (nI kn)]) (rest := []) (k := 1) (ci := 0) ⟨hx, hb, hml, hown, hts⟩ (mX_unplace l D h ad ca (t, so, du, pe, wh, co, rc, ro, ra) kn hkn (hco kn hkn)) (cwV 1 hts (lw_V q64 q66 qs1 q12 q67) rfl rfl rfl (by decide +kernel) ⟨Nat.le_of_ble_eq_true rfl, Nat.le_of_ble_eq_true rfl⟩) hK hP tr_Pnl hD tr_ap.nl hS hA rfl rfl rfl hl.1 rfl (Nat.le_of_ble_eq_true rfl) dX0_cancel_12 ⟨Nat.zero_le _, Nat.zero_le _⟩ (fun u H locs hw hP _ hD _ hS => ?_)
    subst hw
    have hP : va_P D vwCl (wX h ad ca (t, so, du, pe, (tw_wh (tw_unplace (t, so, du, pe, wh, co, rc, ro, ra) kn)), co, rc, ro, ra)) H := hP
    have hD : va_D A (wX h ad ca (t, so, du, pe, (tw_wh (tw_unplace (t, so, du, pe, wh, co, rc, ro, ra) kn)), co, rc, ro, ra)) := hD
    refine lv_aload_n hx hb dX0_cancel_15 rfl (lv_at hl 0 rfl) ?_
    refine lv_dup hx hb dX0_cancel_16 rfl ?_
    refine va_get (D := D) (ci := 0) (v := .int so) (C := RX0) (T := TX0) (N := 9) hx hb hts in_X0 hown hK hP 0 rfl rfl 1 (by decide) (hts _ q23) (fun _ h9 => h9) rfl dX0_cancel_17 ?_
    refine lv_iconst (v := 1) hx hb dX0_cancel_20 (by decide) ?_
    refine lv_iload_n hx hb dX0_cancel_21 rfl (lv_at hl 1 rfl) ?_
    refine lv_ishl hx hb dX0_cancel_22 ?_
    refine tr_re (z' := tw_b kn) rfl ?_
    refine lv_iconst (v := -1) hx hb dX0_cancel_23 (by decide) ?_
    refine lv_ixor hx hb dX0_cancel_24 ?_
    refine lv_iand hx hb dX0_cancel_25 ?_
    refine va_put (D := D) (ci := 0) (v := .int (so &&& ((tw_b kn) ^^^ (-1)))) (ty := .int) (C := RX0) (T := TX0) (N := 9) hx hb hts in_X0 tyX0 tyX0_ok nmX0 hown hK hP hD hS 0 rfl rfl 1 (by decide) (hts _ q23) (fun _ h9 => h9) rfl (by decide +kernel) rfl rfl (Nat.le_of_ble_eq_true rfl) dX0_cancel_26 (fun H locs hP hD hS => ?_)
    have hP : va_P D vwCl (wX h ad ca (t, (so &&& ((tw_b kn) ^^^ (-1))), du, pe, (tw_wh (tw_unplace (t, so, du, pe, wh, co, rc, ro, ra) kn)), co, rc, ro, ra)) H := hP
    have hD : va_D A (wX h ad ca (t, (so &&& ((tw_b kn) ^^^ (-1))), du, pe, (tw_wh (tw_unplace (t, so, du, pe, wh, co, rc, ro, ra) kn)), co, rc, ro, ra)) := hD
    refine lv_aload_n hx hb dX0_cancel_29 rfl (lv_at hl 0 rfl) ?_
    refine va_get (D := D) (ci := 0) (v := .ref (ad 0)) (C := RX0) (T := TX0) (N := 9) hx hb hts in_X0 hown hK hP 0 rfl rfl 2 (by decide) (hts _ q24) (fun _ h9 => h9) rfl dX0_cancel_30 ?_
    refine lv_iload_n hx hb dX0_cancel_33 rfl (lv_at hl 1 rfl) ?_
    refine tr_iald (k := kn) hx hb hK hP 1 0 rfl rfl rfl hkn (by decide) dX0_cancel_34 ?_
    refine lv_aload_n hx hb dX0_cancel_35 rfl (lv_at hl 0 rfl) ?_
    refine va_get (D := D) (ci := 0) (v := .int (nI t)) (C := RX0) (T := TX0) (N := 9) hx hb hts in_X0 hown hK hP 0 rfl rfl 0 (by decide) (hts _ q22) (fun _ h9 => h9) rfl dX0_cancel_36 ?_
    refine lv_isub hx hb dX0_cancel_39 ?_
    exact tr_iret (u := (t, (so &&& ((tw_b kn) ^^^ (-1))), du, pe, (tw_wh (tw_unplace (t, so, du, pe, wh, co, rc, ro, ra) kn)), co, rc, ro, ra)) hx hb hr hlocks dX0_cancel_40 hP hK hD hS ((tw_cancel_t (t, so, du, pe, wh, co, rc, ro, ra) hkn hbt).symm)
  · refine lv_iconst (v := -1) hx hb dX0_cancel_8 (by decide) ?_
    exact tr_iret (u := (t, so, du, pe, wh, co, rc, ro, ra)) hx hb hr hlocks dX0_cancel_9 hP hK hD hS ((tw_cancel_f (t, so, du, pe, wh, co, rc, ro, ra) (hii.2 c1)).symm)
set_option maxHeartbeats 4000000 in
set_option maxRecDepth 100000 in
theorem mX_pass (l : Launch) (D : va_G) (h : Nat) (ad : Nat → Nat) (ca : Nat → ClassId) (u : xS) (n : Int32) (ht : tw_t u + 1000 < 2 ^ 30) (hrc : tw_rc u + 16000 < 2 ^ 30) : tr_Ci l D (kX ca) (wX h ad ca) yX0_pass cX0_pass 4 (some .int) ({ frames := 3, cells := 0, slots := 0, locals := 70 }) [.ref h, .int n] u (fun r v => (v, r) = tw_pass u n) := by
  obtain ⟨t, so, du, pe, wh, co, rc, ro, ra⟩ := u
  have ht : t + 1000 < 2 ^ 30 := ht
  have hrc : rc + 16000 < 2 ^ 30 := hrc
  refine tr_enteri (by decide) (Nat.le_of_ble_eq_true rfl) ?_
  intro p e s m below meth c A ls hx hb hr hml hown hts hlocks hA hK hP hD hS hl
  have hown : s.vm.findClass RX0 = some m.cls := hown
  have hP : va_P D vwCl (wX h ad ca (t, so, du, pe, wh, co, rc, ro, ra)) s.heap := hP
  have hD : va_D A (wX h ad ca (t, so, du, pe, wh, co, rc, ro, ra)) := hD
  have hl : lv_has ls 4 [(0, .ref h), (1, .int n)] := hl
  refine lv_iload_n hx hb dX0_pass_0 rfl (lv_at hl 1 rfl) ?_
  refine lv_if_lt (tgt := 11) hx hb dX0_pass_1 (by decide) (fun c1 => ?_) (fun c1 => ?_)
  · refine lv_iconst (v := -1) hx hb dX0_pass_11 (by decide) ?_
    exact tr_iret (u := (t, so, du, pe, wh, co, rc, ro, ra)) hx hb hr hlocks dX0_pass_12 hP hK hD hS ((tw_pass_bad (t, so, du, pe, wh, co, rc, ro, ra) (Or.inl c1)).symm)
  · refine lv_iload_n hx hb dX0_pass_4 rfl (lv_at hl 1 rfl) ?_
    refine lv_sipush (v := 1000) hx hb dX0_pass_5 (by decide) ?_
    refine lv_icmp_le (tgt := 13) hx hb dX0_pass_8 (by decide) (fun c2 => ?_) (fun c2 => ?_)
    · obtain ⟨nn, hnn, en⟩ := tn_1000 c1 (Int32.not_lt.mpr c2)
      subst en
      refine lv_iconst (v := 0) hx hb dX0_pass_13 (by decide) ?_
      refine tr_re (z' := nI 0) nI_0.symm ?_
      refine lv_istore_n (lv' := [(2, .int (nI 0)), (0, .ref h), (1, .int (nI nn))]) hx hb dX0_pass_14 rfl hl (by decide) rfl (fun ls hl => ?_)
      refine lv_iconst (v := 0) hx hb dX0_pass_15 (by decide) ?_
      refine tr_re (z' := nI 0) nI_0.symm ?_
      refine lv_istore_n (lv' := [(3, .int (nI 0)), (2, .int (nI 0)), (0, .ref h), (1, .int (nI nn))]) hx hb dX0_pass_16 rfl hl (by decide) rfl (fun ls hl => ?_)
      have loop : ∀ (f i a : Nat) (v : xS) (H : Heap) (locs : List Loc) (ls : Array Slot), i ≤ nn → nn + 1 ≤ i + f → (v, a) = tw_tks (t, so, du, pe, wh, co, rc, ro, ra) i → va_P D vwCl (wX h ad ca v) H → va_D A (wX h ad ca v) → va_S A s.heap H locs → lv_has ls 4 [(0, .ref h), (1, .int (nI nn)), (2, .int (nI a)), (3, .int (nI i))] → W p l e ({ frames := 3, cells := 0, slots := 0, locals := 70 }) s m ([.ref h, .int (nI nn)] : List Value).toArray below meth c H locs 0 0 (MQ below (va_Qi (fun r v => (v, r) = tw_pass (t, so, du, pe, wh, co, rc, ro, ra) (nI nn)) (tr_B D (kX ca) (wX h ad ca) A) A) ([.ref h, .int (nI nn)] : List Value).toArray s 0 0 A) (F0 m 17 ls []) := by
        intro f
        induction f with
        | zero =>
          intro i a v H locs ls h1 h2
          exact absurd h2 (by omega)
        | succ f ih =>
          intro i a v H locs ls hi hin ev hP hD hS hl
          obtain ⟨t1, so1, du1, pe1, wh1, co1, rc1, ro1, ra1⟩ := v
          have hb1 : t1 = t + i ∧ rc1 = rc + a ∧ a ≤ 16 * i := by have z := tw_tks_t (t, so, du, pe, wh, co, rc, ro, ra) i; rw [← ev] at z; exact z
          refine lv_iload_n hx hb dX0_pass_17 rfl (lv_at hl 3 rfl) ?_
          refine lv_iload_n hx hb dX0_pass_18 rfl (lv_at hl 1 rfl) ?_
          refine lv_icmp_ge (tgt := 35) hx hb dX0_pass_19 (by decide) (fun c3 => ?_) (fun c3 => ?_)
          · have hi1 : i = nn := by rcases Nat.lt_or_ge i nn with z | z; exact absurd c3 (nI_ge (a := i) (b := nn) z (by omega)); omega
            subst hi1
            refine lv_iload_n hx hb dX0_pass_35 rfl (lv_at hl 2 rfl) ?_
            exact tr_iret (u := (t1, so1, du1, pe1, wh1, co1, rc1, ro1, ra1)) hx hb hr hlocks dX0_pass_36 hP hK hD hS (by rw [tw_pass_ok _ hnn, ← ev])
          · have hi1 : i < nn := by rcases Nat.lt_or_ge i nn with z | z; exact z; exact absurd (nI_le (a := nn) (b := i) z (by omega)) c3
            refine lv_iload_n hx hb dX0_pass_22 rfl (lv_at hl 2 rfl) ?_
            refine lv_aload_n hx hb dX0_pass_23 rfl (lv_at hl 0 rfl) ?_
            refine tr_calli (v := (t1, so1, du1, pe1, wh1, co1, rc1, ro1, ra1)) (wf := wX h ad ca) (wr := []) (As := []) (rest := [.int (nI a)]) (k := 0) (ci := 0) ⟨hx, hb, hml, hown, hts⟩ (mX_tick l D h ad ca (t1, so1, du1, pe1, wh1, co1, rc1, ro1, ra1) (show t1 + 1 < 2 ^ 30 by omega) (show rc1 + 16 < 2 ^ 30 by omega)) (cwV 0 hts (lw_V q80 q82 qs3 q12 q83) rfl rfl rfl (by decide +kernel) ⟨Nat.le_of_ble_eq_true rfl, Nat.le_of_ble_eq_true rfl⟩) hK hP tr_Pnl hD tr_ap.nl hS hA rfl rfl rfl hl.1 rfl (Nat.le_of_ble_eq_true rfl) dX0_pass_24 ⟨Nat.zero_le _, Nat.zero_le _⟩ (fun rt u H locs hw hP _ hD _ hS => ?_)
            obtain ⟨q, hw, rfl⟩ := hw
            obtain ⟨t2, so2, du2, pe2, wh2, co2, rc2, ro2, ra2⟩ := u
            have hP : va_P D vwCl (wX h ad ca (t2, so2, du2, pe2, wh2, co2, rc2, ro2, ra2)) H := hP
            have hD : va_D A (wX h ad ca (t2, so2, du2, pe2, wh2, co2, rc2, ro2, ra2)) := hD
            refine lv_iadd hx hb dX0_pass_27 ?_
            refine tr_re (z' := nI (a + q)) (nI_add a q) ?_
            refine lv_istore_n (lv' := [(2, .int (nI (a + q))), (0, .ref h), (1, .int (nI nn)), (3, .int (nI i))]) hx hb dX0_pass_28 rfl hl (by decide) rfl (fun ls hl => ?_)
            refine lv_iinc (v := nI (i + 1)) (lv' := [(3, .int (nI (i + 1))), (2, .int (nI (a + q))), (0, .ref h), (1, .int (nI nn))]) hx hb dX0_pass_29 hl (k := 3) rfl (nI_1 i) (by decide) rfl (fun ls hl => ?_)
            refine lv_goto (tgt := 17) hx hb dX0_pass_32 (by decide) ?_
            exact ih (i + 1) (a + q) _ _ _ _ (by omega) (by omega) (tw_tks_go ev hw) hP hD hS (lv_sub hl [2, 3, 1, 0] rfl)
      exact loop (nn + 1) 0 0 _ _ _ _ (by omega) (by omega) rfl hP hD hS (lv_sub hl [2, 3, 1, 0] rfl)
    · refine lv_iconst (v := -1) hx hb dX0_pass_11 (by decide) ?_
      exact tr_iret (u := (t, so, du, pe, wh, co, rc, ro, ra)) hx hb hr hlocks dX0_pass_12 hP hK hD hS ((tw_pass_bad (t, so, du, pe, wh, co, rc, ro, ra) (Or.inr (Int32.not_le.mp c2))).symm)
set_option maxHeartbeats 4000000 in
set_option maxRecDepth 100000 in
theorem mX_toNext (l : Launch) (D : va_G) (h : Nat) (ad : Nat → Nat) (ca : Nat → ClassId) (u : xS) (ht : tw_t u + 500 < 2 ^ 30) (hrc : tw_rc u + 8000 < 2 ^ 30) : tr_Ci l D (kX ca) (wX h ad ca) yX0_toNext cX0_toNext 3 (some .int) ({ frames := 3, cells := 0, slots := 0, locals := 70 }) [.ref h] u (fun r v => (v, r) = tw_toNext u) := by
  obtain ⟨t, so, du, pe, wh, co, rc, ro, ra⟩ := u
  have ht : t + 500 < 2 ^ 30 := ht
  have hrc : rc + 8000 < 2 ^ 30 := hrc
  refine tr_enteri (by decide) (Nat.le_of_ble_eq_true rfl) ?_
  intro p e s m below meth c A ls hx hb hr hml hown hts hlocks hA hK hP hD hS hl
  have hown : s.vm.findClass RX0 = some m.cls := hown
  have hP : va_P D vwCl (wX h ad ca (t, so, du, pe, wh, co, rc, ro, ra)) s.heap := hP
  have hD : va_D A (wX h ad ca (t, so, du, pe, wh, co, rc, ro, ra)) := hD
  have hl : lv_has ls 3 [(0, .ref h)] := hl
  refine lv_aload_n hx hb dX0_toNext_0 rfl (lv_at hl 0 rfl) ?_
  refine va_get (D := D) (ci := 0) (v := .int so) (C := RX0) (T := TX0) (N := 9) hx hb hts in_X0 hown hK hP 0 rfl rfl 1 (by decide) (hts _ q23) (fun _ h9 => h9) rfl dX0_toNext_1 ?_
  refine lv_if_ne (tgt := 10) hx hb dX0_toNext_4 (by decide) (fun c1 => ?_) (fun c1 => ?_)
  · generalize hR : tw_tnL t500 (t, so, du, pe, wh, co, rc, ro, ra) = R
    have hTN : tw_toNext (t, so, du, pe, wh, co, rc, ro, ra) = (R.1, nI R.2) := by rw [tw_toNext_1 (t, so, du, pe, wh, co, rc, ro, ra) c1, hR]
    refine lv_iconst (v := 0) hx hb dX0_toNext_10 (by decide) ?_
    refine tr_re (z' := nI 0) nI_0.symm ?_
    refine lv_istore_n (lv' := [(1, .int (nI 0)), (0, .ref h)]) hx hb dX0_toNext_11 rfl hl (by decide) rfl (fun ls hl => ?_)
    refine lv_iconst (v := 0) hx hb dX0_toNext_12 (by decide) ?_
    refine tr_re (z' := nI 0) nI_0.symm ?_
    refine lv_istore_n (lv' := [(2, .int (nI 0)), (1, .int (nI 0)), (0, .ref h)]) hx hb dX0_toNext_13 rfl hl (by decide) rfl (fun ls hl => ?_)
    have loop : ∀ (f j : Nat) (v : xS) (H : Heap) (locs : List Loc) (ls : Array Slot), j + f = 500 → tw_t v = t + j → tw_rc v ≤ rc + 16 * j → R = ((tw_tnL f v).1, j + (tw_tnL f v).2) → va_P D vwCl (wX h ad ca v) H → va_D A (wX h ad ca v) → va_S A s.heap H locs → lv_has ls 3 [(0, .ref h), (1, .int (nI j)), (2, .int (nI 0))] → W p l e ({ frames := 3, cells := 0, slots := 0, locals := 70 }) s m ([.ref h] : List Value).toArray below meth c H locs 0 0 (MQ below (va_Qi (fun r v => (v, r) = tw_toNext (t, so, du, pe, wh, co, rc, ro, ra)) (tr_B D (kX ca) (wX h ad ca) A) A) ([.ref h] : List Value).toArray s 0 0 A) (F0 m 14 ls []) := by
      intro f
      induction f with
      | zero =>
        intro j v H locs ls hj ht1 hr1 hE hP hD hS hl
        obtain ⟨t1, so1, du1, pe1, wh1, co1, rc1, ro1, ra1⟩ := v
        refine lv_iload_n hx hb dX0_toNext_14 rfl (lv_at hl 1 rfl) ?_
        refine lv_sipush (v := 500) hx hb dX0_toNext_15 (by decide) ?_
        refine lv_icmp_ge (tgt := 36) hx hb dX0_toNext_18 (by decide) (fun c2 => ?_) (fun c2 => absurd (nI_le (a := 500) (b := j) (by omega) (by omega)) c2)
        refine lv_iload_n hx hb dX0_toNext_36 rfl (lv_at hl 1 rfl) ?_
        exact tr_iret (u := (t1, so1, du1, pe1, wh1, co1, rc1, ro1, ra1)) hx hb hr hlocks dX0_toNext_37 hP hK hD hS (by rw [hTN, hE]; rfl)
      | succ f ih =>
        intro j v H locs ls hj ht1 hr1 hE hP hD hS hl
        obtain ⟨t1, so1, du1, pe1, wh1, co1, rc1, ro1, ra1⟩ := v
        have ht1 : t1 = t + j := ht1
        have hr1 : rc1 ≤ rc + 16 * j := hr1
        refine lv_iload_n hx hb dX0_toNext_14 rfl (lv_at hl 1 rfl) ?_
        refine lv_sipush (v := 500) hx hb dX0_toNext_15 (by decide) ?_
        refine lv_icmp_ge (tgt := 36) hx hb dX0_toNext_18 (by decide) (fun c2 => absurd c2 (nI_ge (a := j) (b := 500) (by omega) (by omega))) (fun c2 => ?_)
        refine lv_iload_n hx hb dX0_toNext_21 rfl (lv_at hl 2 rfl) ?_
        refine lv_if_ne (tgt := 36) hx hb dX0_toNext_22 (by decide) (fun c3 => absurd nI_0 c3) (fun c3 => ?_)
        refine lv_aload_n hx hb dX0_toNext_25 rfl (lv_at hl 0 rfl) ?_
        refine tr_calli (v := (t1, so1, du1, pe1, wh1, co1, rc1, ro1, ra1)) (wf := wX h ad ca) (wr := []) (As := []) (rest := []) (k := 0) (ci := 0) ⟨hx, hb, hml, hown, hts⟩ (mX_tick l D h ad ca (t1, so1, du1, pe1, wh1, co1, rc1, ro1, ra1) (show t1 + 1 < 2 ^ 30 by omega) (show rc1 + 16 < 2 ^ 30 by omega)) (cwV 0 hts (lw_V q80 q82 qs3 q12 q83) rfl rfl rfl (by decide +kernel) ⟨Nat.le_of_ble_eq_true rfl, Nat.le_of_ble_eq_true rfl⟩) hK hP tr_Pnl hD tr_ap.nl hS hA rfl rfl rfl hl.1 rfl (Nat.le_of_ble_eq_true rfl) dX0_toNext_26 ⟨Nat.zero_le _, Nat.zero_le _⟩ (fun rt u H locs hw hP _ hD _ hS => ?_)
        obtain ⟨q, hw, rfl⟩ := hw
        obtain ⟨t2, so2, du2, pe2, wh2, co2, rc2, ro2, ra2⟩ := u
        have hP : va_P D vwCl (wX h ad ca (t2, so2, du2, pe2, wh2, co2, rc2, ro2, ra2)) H := hP
        have hD : va_D A (wX h ad ca (t2, so2, du2, pe2, wh2, co2, rc2, ro2, ra2)) := hD
        have hb1 : t2 = t1 + 1 ∧ rc2 = rc1 + q ∧ q ≤ 16 := by have z := tw_tick_t (t1, so1, du1, pe1, wh1, co1, rc1, ro1, ra1); rw [← hw] at z; exact z
        refine lv_istore_n (lv' := [(2, .int (nI q)), (0, .ref h), (1, .int (nI j))]) hx hb dX0_toNext_29 rfl hl (by decide) rfl (fun ls hl => ?_)
        refine lv_iinc (v := nI (j + 1)) (lv' := [(1, .int (nI (j + 1))), (2, .int (nI q)), (0, .ref h)]) hx hb dX0_toNext_30 hl (k := 2) rfl (nI_1 j) (by decide) rfl (fun ls hl => ?_)
        refine lv_goto (tgt := 14) hx hb dX0_toNext_33 (by decide) ?_
        by_cases hq : q = 0
        · have e0 := tw_tnL_0 (f := f) hw hq
          subst hq
          exact ih (j + 1) _ _ _ _ (by omega) (show t2 = t + (j + 1) by omega) (show rc2 ≤ rc + 16 * (j + 1) by omega) (by rw [hE, e0]; show ((tw_tnL f (t2, so2, du2, pe2, wh2, co2, rc2, ro2, ra2)).1, j + ((tw_tnL f (t2, so2, du2, pe2, wh2, co2, rc2, ro2, ra2)).2 + 1)) = ((tw_tnL f (t2, so2, du2, pe2, wh2, co2, rc2, ro2, ra2)).1, j + 1 + (tw_tnL f (t2, so2, du2, pe2, wh2, co2, rc2, ro2, ra2)).2); rw [Nat.add_assoc j 1, Nat.add_comm 1]) hP hD hS (lv_sub hl [2, 0, 1] rfl)
        · have e1 := tw_tnL_1 (f := f) hw hq
          refine lv_iload_n hx hb dX0_toNext_14 rfl (lv_at hl 0 rfl) ?_
          refine lv_sipush (v := 500) hx hb dX0_toNext_15 (by decide) ?_
          refine lv_icmp_ge (tgt := 36) hx hb dX0_toNext_18 (by decide) (fun c4 => ?_) (fun c4 => ?_)
          · refine lv_iload_n hx hb dX0_toNext_36 rfl (lv_at hl 0 rfl) ?_
            exact tr_iret (u := (t2, so2, du2, pe2, wh2, co2, rc2, ro2, ra2)) hx hb hr hlocks dX0_toNext_37 hP hK hD hS (by rw [hTN, hE, e1])
          · refine lv_iload_n hx hb dX0_toNext_21 rfl (lv_at hl 1 rfl) ?_
            refine lv_if_ne (tgt := 36) hx hb dX0_toNext_22 (by decide) (fun c5 => ?_) (fun c5 => absurd c5 (fun z => hq ((nI_eq (by omega) (by omega)).mp (z.trans nI_0.symm))))
            refine lv_iload_n hx hb dX0_toNext_36 rfl (lv_at hl 0 rfl) ?_
            exact tr_iret (u := (t2, so2, du2, pe2, wh2, co2, rc2, ro2, ra2)) hx hb hr hlocks dX0_toNext_37 hP hK hD hS (by rw [hTN, hE, e1])
    exact loop t500 0 _ _ _ _ (by rw [t500_eq]) rfl (Nat.le_refl _) (by rw [hR, Nat.zero_add]) hP hD hS (lv_sub hl [2, 1, 0] rfl)
  · refine lv_bipush (v := -2) hx hb dX0_toNext_7 (by decide) ?_
    exact tr_iret (u := (t, so, du, pe, wh, co, rc, ro, ra)) hx hb hr hlocks dX0_toNext_9 hP hK hD hS ((tw_toNext_0 (t, so, du, pe, wh, co, rc, ro, ra) c1).symm)
end
section
/-! TimerWheel: what only looks, and repeat -/
set_option maxHeartbeats 4000000 in
set_option maxRecDepth 100000 in
theorem mX_now (l : Launch) (D : va_G) (h : Nat) (ad : Nat → Nat) (ca : Nat → ClassId) (u : xS) : tr_Ci l D (kX ca) (wX h ad ca) yX0_now cX0_now 1 (some .int) ({ frames := 0, cells := 0, slots := 0, locals := 0 }) [.ref h] u (fun r v => v = u ∧ r = nI (tw_t u)) := by
  obtain ⟨t, so, du, pe, wh, co, rc, ro, ra⟩ := u
  refine tr_enteri (by decide) (Nat.le_of_ble_eq_true rfl) ?_
  intro p e s m below meth c A ls hx hb hr hml hown hts hlocks hA hK hP hD hS hl
  have hown : s.vm.findClass RX0 = some m.cls := hown
  have hP : va_P D vwCl (wX h ad ca (t, so, du, pe, wh, co, rc, ro, ra)) s.heap := hP
  have hD : va_D A (wX h ad ca (t, so, du, pe, wh, co, rc, ro, ra)) := hD
  have hl : lv_has ls 1 [(0, .ref h)] := hl
  refine lv_aload_n hx hb dX0_now_0 rfl (lv_at hl 0 rfl) ?_
  refine va_get (D := D) (ci := 0) (v := .int (nI t)) (C := RX0) (T := TX0) (N := 9) hx hb hts in_X0 hown hK hP 0 rfl rfl 0 (by decide) (hts _ q22) (fun _ h9 => h9) rfl dX0_now_1 ?_
  exact tr_iret (u := (t, so, du, pe, wh, co, rc, ro, ra)) hx hb hr hlocks dX0_now_4 hP hK hD hS (⟨rfl, rfl⟩)
set_option maxHeartbeats 4000000 in
set_option maxRecDepth 100000 in
theorem mX_timers (l : Launch) (D : va_G) (h : Nat) (ad : Nat → Nat) (ca : Nat → ClassId) (u : xS) : tr_Ci l D (kX ca) (wX h ad ca) yX0_timers cX0_timers 1 (some .int) ({ frames := 0, cells := 0, slots := 0, locals := 0 }) [.ref h] u (fun r v => v = u ∧ r = tw_so u) := by
  obtain ⟨t, so, du, pe, wh, co, rc, ro, ra⟩ := u
  refine tr_enteri (by decide) (Nat.le_of_ble_eq_true rfl) ?_
  intro p e s m below meth c A ls hx hb hr hml hown hts hlocks hA hK hP hD hS hl
  have hown : s.vm.findClass RX0 = some m.cls := hown
  have hP : va_P D vwCl (wX h ad ca (t, so, du, pe, wh, co, rc, ro, ra)) s.heap := hP
  have hD : va_D A (wX h ad ca (t, so, du, pe, wh, co, rc, ro, ra)) := hD
  have hl : lv_has ls 1 [(0, .ref h)] := hl
  refine lv_aload_n hx hb dX0_timers_0 rfl (lv_at hl 0 rfl) ?_
  refine va_get (D := D) (ci := 0) (v := .int so) (C := RX0) (T := TX0) (N := 9) hx hb hts in_X0 hown hK hP 0 rfl rfl 1 (by decide) (hts _ q23) (fun _ h9 => h9) rfl dX0_timers_1 ?_
  exact tr_iret (u := (t, so, du, pe, wh, co, rc, ro, ra)) hx hb hr hlocks dX0_timers_4 hP hK hD hS (⟨rfl, rfl⟩)
set_option maxHeartbeats 4000000 in
set_option maxRecDepth 100000 in
theorem mX_rings (l : Launch) (D : va_G) (h : Nat) (ad : Nat → Nat) (ca : Nat → ClassId) (u : xS) : tr_Ci l D (kX ca) (wX h ad ca) yX0_rings cX0_rings 1 (some .int) ({ frames := 0, cells := 0, slots := 0, locals := 0 }) [.ref h] u (fun r v => v = u ∧ r = nI (tw_rc u)) := by
  obtain ⟨t, so, du, pe, wh, co, rc, ro, ra⟩ := u
  refine tr_enteri (by decide) (Nat.le_of_ble_eq_true rfl) ?_
  intro p e s m below meth c A ls hx hb hr hml hown hts hlocks hA hK hP hD hS hl
  have hown : s.vm.findClass RX0 = some m.cls := hown
  have hP : va_P D vwCl (wX h ad ca (t, so, du, pe, wh, co, rc, ro, ra)) s.heap := hP
  have hD : va_D A (wX h ad ca (t, so, du, pe, wh, co, rc, ro, ra)) := hD
  have hl : lv_has ls 1 [(0, .ref h)] := hl
  refine lv_aload_n hx hb dX0_rings_0 rfl (lv_at hl 0 rfl) ?_
  refine va_get (D := D) (ci := 0) (v := .int (nI rc)) (C := RX0) (T := TX0) (N := 9) hx hb hts in_X0 hown hK hP 0 rfl rfl 6 (by decide) (hts _ q28) (fun _ h9 => h9) rfl dX0_rings_1 ?_
  exact tr_iret (u := (t, so, du, pe, wh, co, rc, ro, ra)) hx hb hr hlocks dX0_rings_4 hP hK hD hS (⟨rfl, rfl⟩)
set_option maxHeartbeats 4000000 in
set_option maxRecDepth 100000 in
theorem mX_left (l : Launch) (D : va_G) (h : Nat) (ad : Nat → Nat) (ca : Nat → ClassId) (u : xS) (k : Int32) : tr_Ci l D (kX ca) (wX h ad ca) yX0_left cX0_left 2 (some .int) ({ frames := 1, cells := 0, slots := 0, locals := 21 }) [.ref h, .int k] u (fun r v => v = u ∧ r = tw_left u k) := by
  obtain ⟨t, so, du, pe, wh, co, rc, ro, ra⟩ := u
  refine tr_enteri (by decide) (Nat.le_of_ble_eq_true rfl) ?_
  intro p e s m below meth c A ls hx hb hr hml hown hts hlocks hA hK hP hD hS hl
  have hown : s.vm.findClass RX0 = some m.cls := hown
  have hP : va_P D vwCl (wX h ad ca (t, so, du, pe, wh, co, rc, ro, ra)) s.heap := hP
  have hD : va_D A (wX h ad ca (t, so, du, pe, wh, co, rc, ro, ra)) := hD
  have hl : lv_has ls 2 [(0, .ref h), (1, .int k)] := hl
  refine lv_aload_n hx hb dX0_left_0 rfl (lv_at hl 0 rfl) ?_
  refine lv_iload_n hx hb dX0_left_1 rfl (lv_at hl 1 rfl) ?_
  refine tr_calli (v := (t, so, du, pe, wh, co, rc, ro, ra)) (wf := wX h ad ca) (wr := []) (As := [.int k]) (rest := []) (k := 1) (ci := 0) ⟨hx, hb, hml, hown, hts⟩ (mX_isSet l D h ad ca (t, so, du, pe, wh, co, rc, ro, ra) k) (cwV 1 hts (lw_V q60 q62 qs0 q12 q63) rfl rfl rfl (by decide +kernel) ⟨Nat.le_of_ble_eq_true rfl, Nat.le_of_ble_eq_true rfl⟩) hK hP tr_Pnl hD tr_ap.nl hS hA rfl rfl rfl hl.1 rfl (Nat.le_of_ble_eq_true rfl) dX0_left_2 ⟨Nat.zero_le _, Nat.zero_le _⟩ (fun ri u H locs hw hP _ hD _ hS => ?_)
  obtain ⟨rfl, hw⟩ := hw
  have hP : va_P D vwCl (wX h ad ca (t, so, du, pe, wh, co, rc, ro, ra)) H := hP
  have hD : va_D A (wX h ad ca (t, so, du, pe, wh, co, rc, ro, ra)) := hD
  have hii := tn_ite hw
  refine lv_if_eq (tgt := 22) hx hb dX0_left_5 (by decide) (fun c1 => ?_) (fun c1 => ?_)
  · refine lv_iconst (v := -1) hx hb dX0_left_22 (by decide) ?_
    exact tr_iret (u := (t, so, du, pe, wh, co, rc, ro, ra)) hx hb hr hlocks dX0_left_23 hP hK hD hS (⟨rfl, (tw_left_f (t, so, du, pe, wh, co, rc, ro, ra) (hii.2 c1)).symm⟩)
  · obtain ⟨kn, hkn, ek, hbt⟩ := tw_is_i (hii.1 c1)
    subst ek
    refine lv_aload_n hx hb dX0_left_8 rfl (lv_at hl 0 rfl) ?_
    refine va_get (D := D) (ci := 0) (v := .ref (ad 0)) (C := RX0) (T := TX0) (N := 9) hx hb hts in_X0 hown hK hP 0 rfl rfl 2 (by decide) (hts _ q24) (fun _ h9 => h9) rfl dX0_left_9 ?_
    refine lv_iload_n hx hb dX0_left_12 rfl (lv_at hl 1 rfl) ?_
    refine tr_iald (k := kn) hx hb hK hP 1 0 rfl rfl rfl hkn (by decide) dX0_left_13 ?_
    refine lv_aload_n hx hb dX0_left_14 rfl (lv_at hl 0 rfl) ?_
    refine va_get (D := D) (ci := 0) (v := .int (nI t)) (C := RX0) (T := TX0) (N := 9) hx hb hts in_X0 hown hK hP 0 rfl rfl 0 (by decide) (hts _ q22) (fun _ h9 => h9) rfl dX0_left_15 ?_
    refine lv_isub hx hb dX0_left_18 ?_
    refine lv_goto (tgt := 23) hx hb dX0_left_19 (by decide) ?_
    exact tr_iret (u := (t, so, du, pe, wh, co, rc, ro, ra)) hx hb hr hlocks dX0_left_23 hP hK hD hS (⟨rfl, (tw_left_t (t, so, du, pe, wh, co, rc, ro, ra) hkn hbt).symm⟩)
set_option maxHeartbeats 4000000 in
set_option maxRecDepth 100000 in
theorem mX_period (l : Launch) (D : va_G) (h : Nat) (ad : Nat → Nat) (ca : Nat → ClassId) (u : xS) (k : Int32) : tr_Ci l D (kX ca) (wX h ad ca) yX0_period cX0_period 2 (some .int) ({ frames := 1, cells := 0, slots := 0, locals := 21 }) [.ref h, .int k] u (fun r v => v = u ∧ r = tw_period u k) := by
  obtain ⟨t, so, du, pe, wh, co, rc, ro, ra⟩ := u
  refine tr_enteri (by decide) (Nat.le_of_ble_eq_true rfl) ?_
  intro p e s m below meth c A ls hx hb hr hml hown hts hlocks hA hK hP hD hS hl
  have hown : s.vm.findClass RX0 = some m.cls := hown
  have hP : va_P D vwCl (wX h ad ca (t, so, du, pe, wh, co, rc, ro, ra)) s.heap := hP
  have hD : va_D A (wX h ad ca (t, so, du, pe, wh, co, rc, ro, ra)) := hD
  have hl : lv_has ls 2 [(0, .ref h), (1, .int k)] := hl
  refine lv_aload_n hx hb dX0_period_0 rfl (lv_at hl 0 rfl) ?_
  refine lv_iload_n hx hb dX0_period_1 rfl (lv_at hl 1 rfl) ?_
  refine tr_calli (v := (t, so, du, pe, wh, co, rc, ro, ra)) (wf := wX h ad ca) (wr := []) (As := [.int k]) (rest := []) (k := 1) (ci := 0) ⟨hx, hb, hml, hown, hts⟩ (mX_isSet l D h ad ca (t, so, du, pe, wh, co, rc, ro, ra) k) (cwV 1 hts (lw_V q60 q62 qs0 q12 q63) rfl rfl rfl (by decide +kernel) ⟨Nat.le_of_ble_eq_true rfl, Nat.le_of_ble_eq_true rfl⟩) hK hP tr_Pnl hD tr_ap.nl hS hA rfl rfl rfl hl.1 rfl (Nat.le_of_ble_eq_true rfl) dX0_period_2 ⟨Nat.zero_le _, Nat.zero_le _⟩ (fun ri u H locs hw hP _ hD _ hS => ?_)
  obtain ⟨rfl, hw⟩ := hw
  have hP : va_P D vwCl (wX h ad ca (t, so, du, pe, wh, co, rc, ro, ra)) H := hP
  have hD : va_D A (wX h ad ca (t, so, du, pe, wh, co, rc, ro, ra)) := hD
  have hii := tn_ite hw
  refine lv_if_eq (tgt := 17) hx hb dX0_period_5 (by decide) (fun c1 => ?_) (fun c1 => ?_)
  · refine lv_iconst (v := -1) hx hb dX0_period_17 (by decide) ?_
    exact tr_iret (u := (t, so, du, pe, wh, co, rc, ro, ra)) hx hb hr hlocks dX0_period_18 hP hK hD hS (⟨rfl, (tw_period_f (t, so, du, pe, wh, co, rc, ro, ra) (hii.2 c1)).symm⟩)
  · obtain ⟨kn, hkn, ek, hbt⟩ := tw_is_i (hii.1 c1)
    subst ek
    refine lv_aload_n hx hb dX0_period_8 rfl (lv_at hl 0 rfl) ?_
    refine va_get (D := D) (ci := 0) (v := .ref (ad 1)) (C := RX0) (T := TX0) (N := 9) hx hb hts in_X0 hown hK hP 0 rfl rfl 3 (by decide) (hts _ q25) (fun _ h9 => h9) rfl dX0_period_9 ?_
    refine lv_iload_n hx hb dX0_period_12 rfl (lv_at hl 1 rfl) ?_
    refine tr_sald (k := kn) hx hb hK hP 2 1 rfl rfl rfl hkn (by decide) dX0_period_13 ?_
    refine lv_goto (tgt := 18) hx hb dX0_period_14 (by decide) ?_
    exact tr_iret (u := (t, so, du, pe, wh, co, rc, ro, ra)) hx hb hr hlocks dX0_period_18 hP hK hD hS (⟨rfl, (tw_period_t (t, so, du, pe, wh, co, rc, ro, ra) hkn hbt).symm⟩)
set_option maxHeartbeats 4000000 in
set_option maxRecDepth 100000 in
theorem mX_repeat (l : Launch) (D : va_G) (h : Nat) (ad : Nat → Nat) (ca : Nat → ClassId) (u : xS) (k : Int32) (pp : Int32) : tr_Ci l D (kX ca) (wX h ad ca) yX0_repeat cX0_repeat 3 (some .boolean) ({ frames := 1, cells := 0, slots := 0, locals := 21 }) [.ref h, .int k, .int pp] u (fun r v => (v, r) = tw_repeat u k pp) := by
  obtain ⟨t, so, du, pe, wh, co, rc, ro, ra⟩ := u
  refine tr_enteri (by decide) (Nat.le_of_ble_eq_true rfl) ?_
  intro p e s m below meth c A ls hx hb hr hml hown hts hlocks hA hK hP hD hS hl
  have hown : s.vm.findClass RX0 = some m.cls := hown
  have hP : va_P D vwCl (wX h ad ca (t, so, du, pe, wh, co, rc, ro, ra)) s.heap := hP
  have hD : va_D A (wX h ad ca (t, so, du, pe, wh, co, rc, ro, ra)) := hD
  have hl : lv_has ls 3 [(0, .ref h), (1, .int k), (2, .int pp)] := hl
  refine lv_aload_n hx hb dX0_repeat_0 rfl (lv_at hl 0 rfl) ?_
  refine lv_iload_n hx hb dX0_repeat_1 rfl (lv_at hl 1 rfl) ?_
  refine tr_calli (v := (t, so, du, pe, wh, co, rc, ro, ra)) (wf := wX h ad ca) (wr := []) (As := [.int k]) (rest := []) (k := 1) (ci := 0) ⟨hx, hb, hml, hown, hts⟩ (mX_isSet l D h ad ca (t, so, du, pe, wh, co, rc, ro, ra) k) (cwV 1 hts (lw_V q60 q62 qs0 q12 q63) rfl rfl rfl (by decide +kernel) ⟨Nat.le_of_ble_eq_true rfl, Nat.le_of_ble_eq_true rfl⟩) hK hP tr_Pnl hD tr_ap.nl hS hA rfl rfl rfl hl.1 rfl (Nat.le_of_ble_eq_true rfl) dX0_repeat_2 ⟨Nat.zero_le _, Nat.zero_le _⟩ (fun ri u H locs hw hP _ hD _ hS => ?_)
  obtain ⟨rfl, hw⟩ := hw
  have hP : va_P D vwCl (wX h ad ca (t, so, du, pe, wh, co, rc, ro, ra)) H := hP
  have hD : va_D A (wX h ad ca (t, so, du, pe, wh, co, rc, ro, ra)) := hD
  have hii := tn_ite hw
  refine lv_if_eq (tgt := 15) hx hb dX0_repeat_5 (by decide) (fun c1 => ?_) (fun c1 => ?_)
  · refine lv_iconst (v := 0) hx hb dX0_repeat_15 (by decide) ?_
    exact tr_zret (u := (t, so, du, pe, wh, co, rc, ro, ra)) hx hb hr hlocks dX0_repeat_16 (by decide) hP hK hD hS ((tw_repeat_f1 (t, so, du, pe, wh, co, rc, ro, ra) (hii.2 c1)).symm)
  · refine lv_iload_n hx hb dX0_repeat_8 rfl (lv_at hl 2 rfl) ?_
    refine tr_calls (As := [.int pp]) (rest := []) (k := 1) ⟨hx, hb, hml, hown, hts⟩ (mX_isPeriod l pp) (va_cwS 1 hts (lw_S q57 q58 q12 q59) rfl rfl rfl (by decide +kernel) ⟨Nat.le_of_ble_eq_true rfl, Nat.le_of_ble_eq_true rfl⟩) hP hS rfl hl.1 rfl (Nat.le_of_ble_eq_true rfl) dX0_repeat_9 ⟨Nat.zero_le _, Nat.zero_le _⟩ (fun rp H locs hw hP hS => ?_)
    have hP : va_P D vwCl (wX h ad ca (t, so, du, pe, wh, co, rc, ro, ra)) H := hP
    have hD : va_D A (wX h ad ca (t, so, du, pe, wh, co, rc, ro, ra)) := hD
    have hpp := tn_ite hw
    refine lv_if_ne (tgt := 17) hx hb dX0_repeat_12 (by decide) (fun c2 => ?_) (fun c2 => ?_)
    · have hp := hpp.1 c2
      obtain ⟨kn, hkn, ek, hbt⟩ := tw_is_i (hii.1 c1)
      obtain ⟨pn, hpn, ep⟩ := tw_per_i hp
      subst ek
      subst ep
      refine lv_aload_n hx hb dX0_repeat_17 rfl (lv_at hl 0 rfl) ?_
      refine va_get (D := D) (ci := 0) (v := .ref (ad 1)) (C := RX0) (T := TX0) (N := 9) hx hb hts in_X0 hown hK hP 0 rfl rfl 3 (by decide) (hts _ q25) (fun _ h9 => h9) rfl dX0_repeat_18 ?_
      refine lv_iload_n hx hb dX0_repeat_21 rfl (lv_at hl 1 rfl) ?_
      refine lv_iload_n hx hb dX0_repeat_22 rfl (lv_at hl 2 rfl) ?_
      refine lv_i2s (v := nI pn) hx hb dX0_repeat_23 (tn_s16 hpn) ?_
      refine tr_sast (k := kn) (z' := nI pn) hx hb hK hP hD hS 2 1 rfl rfl rfl hkn (by decide) (tn_ns hpn) dX0_repeat_24 (fun H locs hP hD hS => ?_)
      have hP : va_P D vwCl (wX h ad ca (t, so, du, (upd pe kn (nI pn)), wh, co, rc, ro, ra)) H := hP
      have hD : va_D A (wX h ad ca (t, so, du, (upd pe kn (nI pn)), wh, co, rc, ro, ra)) := hD
      refine lv_iconst (v := 1) hx hb dX0_repeat_25 (by decide) ?_
      exact tr_zret (u := (t, so, du, (upd pe kn (nI pn)), wh, co, rc, ro, ra)) hx hb hr hlocks dX0_repeat_26 (by decide) hP hK hD hS ((tw_repeat_t (t, so, du, pe, wh, co, rc, ro, ra) hkn hbt hp).symm)
    · refine lv_iconst (v := 0) hx hb dX0_repeat_15 (by decide) ?_
      exact tr_zret (u := (t, so, du, pe, wh, co, rc, ro, ra)) hx hb hr hlocks dX0_repeat_16 (by decide) hP hK hD hS ((tw_repeat_f2 (t, so, du, pe, wh, co, rc, ro, ra) (hpp.2 c2)).symm)
set_option maxHeartbeats 4000000 in
set_option maxRecDepth 100000 in
theorem mX_rung (l : Launch) (D : va_G) (h : Nat) (ad : Nat → Nat) (ca : Nat → ClassId) (u : xS) (i : Int32) (hrc : tw_rc u < 2 ^ 30) : tr_Ci l D (kX ca) (wX h ad ca) yX0_rung cX0_rung 2 (some .int) ({ frames := 1, cells := 0, slots := 0, locals := 21 }) [.ref h, .int i] u (fun r v => v = u ∧ r = tw_rung u i) := by
  obtain ⟨t, so, du, pe, wh, co, rc, ro, ra⟩ := u
  have hrc : rc < 2 ^ 30 := hrc
  refine tr_enteri (by decide) (Nat.le_of_ble_eq_true rfl) ?_
  intro p e s m below meth c A ls hx hb hr hml hown hts hlocks hA hK hP hD hS hl
  have hown : s.vm.findClass RX0 = some m.cls := hown
  have hP : va_P D vwCl (wX h ad ca (t, so, du, pe, wh, co, rc, ro, ra)) s.heap := hP
  have hD : va_D A (wX h ad ca (t, so, du, pe, wh, co, rc, ro, ra)) := hD
  have hl : lv_has ls 2 [(0, .ref h), (1, .int i)] := hl
  refine lv_aload_n hx hb dX0_rung_0 rfl (lv_at hl 0 rfl) ?_
  refine lv_iload_n hx hb dX0_rung_1 rfl (lv_at hl 1 rfl) ?_
  refine tr_calli (v := (t, so, du, pe, wh, co, rc, ro, ra)) (wf := wX h ad ca) (wr := []) (As := [.int i]) (rest := []) (k := 1) (ci := 0) ⟨hx, hb, hml, hown, hts⟩ (mX_isNoted l D h ad ca (t, so, du, pe, wh, co, rc, ro, ra) i) (cwV 1 hts (lw_V q124 q126 qs6 q12 q127) rfl rfl rfl (by decide +kernel) ⟨Nat.le_of_ble_eq_true rfl, Nat.le_of_ble_eq_true rfl⟩) hK hP tr_Pnl hD tr_ap.nl hS hA rfl rfl rfl hl.1 rfl (Nat.le_of_ble_eq_true rfl) dX0_rung_2 ⟨Nat.zero_le _, Nat.zero_le _⟩ (fun ri u H locs hw hP _ hD _ hS => ?_)
  obtain ⟨rfl, hw⟩ := hw
  have hP : va_P D vwCl (wX h ad ca (t, so, du, pe, wh, co, rc, ro, ra)) H := hP
  have hD : va_D A (wX h ad ca (t, so, du, pe, wh, co, rc, ro, ra)) := hD
  have hii := tn_ite hw
  refine lv_if_eq (tgt := 27) hx hb dX0_rung_5 (by decide) (fun c1 => ?_) (fun c1 => ?_)
  · refine lv_bipush (v := -2) hx hb dX0_rung_27 (by decide) ?_
    exact tr_iret (u := (t, so, du, pe, wh, co, rc, ro, ra)) hx hb hr hlocks dX0_rung_29 hP hK hD hS (⟨rfl, (tw_rung_f (t, so, du, pe, wh, co, rc, ro, ra) (hii.2 c1)).symm⟩)
  · have hno : tw_noted rc i = true := hii.1 c1
    obtain ⟨n, hn, hnr, ei⟩ := tw_noted_i (by omega) hno
    subst ei
    refine lv_aload_n hx hb dX0_rung_8 rfl (lv_at hl 0 rfl) ?_
    refine va_get (D := D) (ci := 0) (v := .ref (ad 4)) (C := RX0) (T := TX0) (N := 9) hx hb hts in_X0 hown hK hP 0 rfl rfl 7 (by decide) (hts _ q29) (fun _ h9 => h9) rfl dX0_rung_9 ?_
    refine lv_aload_n hx hb dX0_rung_12 rfl (lv_at hl 0 rfl) ?_
    refine va_get (D := D) (ci := 0) (v := .int (nI rc)) (C := RX0) (T := TX0) (N := 9) hx hb hts in_X0 hown hK hP 0 rfl rfl 6 (by decide) (hts _ q28) (fun _ h9 => h9) rfl dX0_rung_13 ?_
    refine lv_iconst (v := 1) hx hb dX0_rung_16 (by decide) ?_
    refine lv_isub hx hb dX0_rung_17 ?_
    refine tr_re (z' := nI (rc - 1)) (pk_sub (a := rc) (b := 1) (by omega)) ?_
    refine lv_iload_n hx hb dX0_rung_18 rfl (lv_at hl 1 rfl) ?_
    refine lv_isub hx hb dX0_rung_19 ?_
    refine tr_re (z' := nI (rc - 1 - n)) (pk_sub (by omega)) ?_
    refine lv_bipush (v := 20) hx hb dX0_rung_20 (by decide) ?_
    refine lv_irem hx hb dX0_rung_22 (by decide) ?_
    refine tr_re (z' := nI ((rc - 1 - n) % 20)) (tn_rem (by omega)) ?_
    refine tr_bald (k := ((rc - 1 - n) % 20)) hx hb hK hP 5 4 rfl rfl rfl (Nat.mod_lt _ (by decide)) (by decide) dX0_rung_23 ?_
    refine lv_goto (tgt := 29) hx hb dX0_rung_24 (by decide) ?_
    exact tr_iret (u := (t, so, du, pe, wh, co, rc, ro, ra)) hx hb hr hlocks dX0_rung_29 hP hK hD hS (⟨rfl, (tw_rung_t (t, so, du, pe, wh, co, rc, ro, ra) hn hno).symm⟩)
set_option maxHeartbeats 4000000 in
set_option maxRecDepth 100000 in
theorem mX_rungAt (l : Launch) (D : va_G) (h : Nat) (ad : Nat → Nat) (ca : Nat → ClassId) (u : xS) (i : Int32) (hrc : tw_rc u < 2 ^ 30) : tr_Ci l D (kX ca) (wX h ad ca) yX0_rungAt cX0_rungAt 2 (some .int) ({ frames := 1, cells := 0, slots := 0, locals := 21 }) [.ref h, .int i] u (fun r v => v = u ∧ r = tw_rungAt u i) := by
  obtain ⟨t, so, du, pe, wh, co, rc, ro, ra⟩ := u
  have hrc : rc < 2 ^ 30 := hrc
  refine tr_enteri (by decide) (Nat.le_of_ble_eq_true rfl) ?_
  intro p e s m below meth c A ls hx hb hr hml hown hts hlocks hA hK hP hD hS hl
  have hown : s.vm.findClass RX0 = some m.cls := hown
  have hP : va_P D vwCl (wX h ad ca (t, so, du, pe, wh, co, rc, ro, ra)) s.heap := hP
  have hD : va_D A (wX h ad ca (t, so, du, pe, wh, co, rc, ro, ra)) := hD
  have hl : lv_has ls 2 [(0, .ref h), (1, .int i)] := hl
  refine lv_aload_n hx hb dX0_rungAt_0 rfl (lv_at hl 0 rfl) ?_
  refine lv_iload_n hx hb dX0_rungAt_1 rfl (lv_at hl 1 rfl) ?_
  refine tr_calli (v := (t, so, du, pe, wh, co, rc, ro, ra)) (wf := wX h ad ca) (wr := []) (As := [.int i]) (rest := []) (k := 1) (ci := 0) ⟨hx, hb, hml, hown, hts⟩ (mX_isNoted l D h ad ca (t, so, du, pe, wh, co, rc, ro, ra) i) (cwV 1 hts (lw_V q124 q126 qs6 q12 q127) rfl rfl rfl (by decide +kernel) ⟨Nat.le_of_ble_eq_true rfl, Nat.le_of_ble_eq_true rfl⟩) hK hP tr_Pnl hD tr_ap.nl hS hA rfl rfl rfl hl.1 rfl (Nat.le_of_ble_eq_true rfl) dX0_rungAt_2 ⟨Nat.zero_le _, Nat.zero_le _⟩ (fun ri u H locs hw hP _ hD _ hS => ?_)
  obtain ⟨rfl, hw⟩ := hw
  have hP : va_P D vwCl (wX h ad ca (t, so, du, pe, wh, co, rc, ro, ra)) H := hP
  have hD : va_D A (wX h ad ca (t, so, du, pe, wh, co, rc, ro, ra)) := hD
  have hii := tn_ite hw
  refine lv_if_eq (tgt := 27) hx hb dX0_rungAt_5 (by decide) (fun c1 => ?_) (fun c1 => ?_)
  · refine lv_bipush (v := -2) hx hb dX0_rungAt_27 (by decide) ?_
    exact tr_iret (u := (t, so, du, pe, wh, co, rc, ro, ra)) hx hb hr hlocks dX0_rungAt_29 hP hK hD hS (⟨rfl, (tw_rungAt_f (t, so, du, pe, wh, co, rc, ro, ra) (hii.2 c1)).symm⟩)
  · have hno : tw_noted rc i = true := hii.1 c1
    obtain ⟨n, hn, hnr, ei⟩ := tw_noted_i (by omega) hno
    subst ei
    refine lv_aload_n hx hb dX0_rungAt_8 rfl (lv_at hl 0 rfl) ?_
    refine va_get (D := D) (ci := 0) (v := .ref (ad 5)) (C := RX0) (T := TX0) (N := 9) hx hb hts in_X0 hown hK hP 0 rfl rfl 8 (by decide) (hts _ q30) (fun _ h9 => h9) rfl dX0_rungAt_9 ?_
    refine lv_aload_n hx hb dX0_rungAt_12 rfl (lv_at hl 0 rfl) ?_
    refine va_get (D := D) (ci := 0) (v := .int (nI rc)) (C := RX0) (T := TX0) (N := 9) hx hb hts in_X0 hown hK hP 0 rfl rfl 6 (by decide) (hts _ q28) (fun _ h9 => h9) rfl dX0_rungAt_13 ?_
    refine lv_iconst (v := 1) hx hb dX0_rungAt_16 (by decide) ?_
    refine lv_isub hx hb dX0_rungAt_17 ?_
    refine tr_re (z' := nI (rc - 1)) (pk_sub (a := rc) (b := 1) (by omega)) ?_
    refine lv_iload_n hx hb dX0_rungAt_18 rfl (lv_at hl 1 rfl) ?_
    refine lv_isub hx hb dX0_rungAt_19 ?_
    refine tr_re (z' := nI (rc - 1 - n)) (pk_sub (by omega)) ?_
    refine lv_bipush (v := 20) hx hb dX0_rungAt_20 (by decide) ?_
    refine lv_irem hx hb dX0_rungAt_22 (by decide) ?_
    refine tr_re (z' := nI ((rc - 1 - n) % 20)) (tn_rem (by omega)) ?_
    refine tr_iald (k := ((rc - 1 - n) % 20)) hx hb hK hP 6 5 rfl rfl rfl (Nat.mod_lt _ (by decide)) (by decide) dX0_rungAt_23 ?_
    refine lv_goto (tgt := 29) hx hb dX0_rungAt_24 (by decide) ?_
    exact tr_iret (u := (t, so, du, pe, wh, co, rc, ro, ra)) hx hb hr hlocks dX0_rungAt_29 hP hK hD hS (⟨rfl, (tw_rungAt_t (t, so, du, pe, wh, co, rc, ro, ra) hn hno).symm⟩)
set_option maxHeartbeats 4000000 in
set_option maxRecDepth 100000 in
theorem mX_within (l : Launch) (D : va_G) (h : Nat) (ad : Nat → Nat) (ca : Nat → ClassId) (u : xS) (n : Int32) : tr_Ci l D (kX ca) (wX h ad ca) yX0_within cX0_within 4 (some .int) ({ frames := 1, cells := 0, slots := 0, locals := 21 }) [.ref h, .int n] u (fun r v => v = u ∧ r = tw_wiL u n t16) := by
  obtain ⟨t, so, du, pe, wh, co, rc, ro, ra⟩ := u
  refine tr_enteri (by decide) (Nat.le_of_ble_eq_true rfl) ?_
  intro p e s m below meth c A ls hx hb hr hml hown hts hlocks hA hK hP hD hS hl
  have hown : s.vm.findClass RX0 = some m.cls := hown
  have hP : va_P D vwCl (wX h ad ca (t, so, du, pe, wh, co, rc, ro, ra)) s.heap := hP
  have hD : va_D A (wX h ad ca (t, so, du, pe, wh, co, rc, ro, ra)) := hD
  have hl : lv_has ls 4 [(0, .ref h), (1, .int n)] := hl
  refine lv_iconst (v := 0) hx hb dX0_within_0 (by decide) ?_
  refine lv_istore_n (lv' := [(2, .int 0), (0, .ref h), (1, .int n)]) hx hb dX0_within_1 rfl hl (by decide) rfl (fun ls hl => ?_)
  refine lv_iconst (v := 0) hx hb dX0_within_2 (by decide) ?_
  refine tr_re (z' := nI 0) nI_0.symm ?_
  refine lv_istore_n (lv' := [(3, .int (nI 0)), (2, .int 0), (0, .ref h), (1, .int n)]) hx hb dX0_within_3 rfl hl (by decide) rfl (fun ls hl => ?_)
  have loop : ∀ (f i : Nat) (v : xS) (H : Heap) (locs : List Loc) (ls : Array Slot), i ≤ 16 → 17 ≤ i + f → v = (t, so, du, pe, wh, co, rc, ro, ra) → va_P D vwCl (wX h ad ca v) H → va_D A (wX h ad ca v) → va_S A s.heap H locs → lv_has ls 4 [(0, .ref h), (1, .int n), (2, .int (tw_wiL (t, so, du, pe, wh, co, rc, ro, ra) n i)), (3, .int (nI i))] → W p l e ({ frames := 1, cells := 0, slots := 0, locals := 21 }) s m ([.ref h, .int n] : List Value).toArray below meth c H locs 0 0 (MQ below (va_Qi (fun r v => v = (t, so, du, pe, wh, co, rc, ro, ra) ∧ r = tw_wiL (t, so, du, pe, wh, co, rc, ro, ra) n t16) (tr_B D (kX ca) (wX h ad ca) A) A) ([.ref h, .int n] : List Value).toArray s 0 0 A) (F0 m 4 ls []) := by
    intro f
    induction f with
    | zero =>
      intro i v H locs ls h1 h2
      exact absurd h2 (by omega)
    | succ f ih =>
      intro i v H locs ls hi hin ev hP hD hS hl
      subst ev
      refine lv_iload_n hx hb dX0_within_4 rfl (lv_at hl 3 rfl) ?_
      refine lv_bipush (v := 16) hx hb dX0_within_5 (by decide) ?_
      refine lv_icmp_ge (tgt := 47) hx hb dX0_within_7 (by decide) (fun c1 => ?_) (fun c1 => ?_)
      · have hi16 : i = t16 := by rw [t16_eq]; rcases Nat.lt_or_ge i 16 with z | z; exact absurd c1 (nI_ge (a := i) (b := 16) z (by omega)); omega
        subst hi16
        refine lv_iload_n hx hb dX0_within_47 rfl (lv_at hl 2 rfl) ?_
        exact tr_iret (u := (t, so, du, pe, wh, co, rc, ro, ra)) hx hb hr hlocks dX0_within_48 hP hK hD hS (⟨rfl, rfl⟩)
      · have hi16 : i < 16 := by rcases Nat.lt_or_ge i 16 with z | z; exact z; exact absurd (nI_le (a := 16) (b := i) z (by omega)) c1
        refine lv_iload_n hx hb dX0_within_10 rfl (lv_at hl 2 rfl) ?_
        refine lv_aload_n hx hb dX0_within_11 rfl (lv_at hl 0 rfl) ?_
        refine lv_iload_n hx hb dX0_within_12 rfl (lv_at hl 3 rfl) ?_
        refine tr_calli (v := (t, so, du, pe, wh, co, rc, ro, ra)) (wf := wX h ad ca) (wr := []) (As := [.int (nI i)]) (rest := [.int (tw_wiL (t, so, du, pe, wh, co, rc, ro, ra) n i)]) (k := 1) (ci := 0) ⟨hx, hb, hml, hown, hts⟩ (mX_isSet l D h ad ca (t, so, du, pe, wh, co, rc, ro, ra) (nI i)) (cwV 1 hts (lw_V q60 q62 qs0 q12 q63) rfl rfl rfl (by decide +kernel) ⟨Nat.le_of_ble_eq_true rfl, Nat.le_of_ble_eq_true rfl⟩) hK hP tr_Pnl hD tr_ap.nl hS hA rfl rfl rfl hl.1 rfl (Nat.le_of_ble_eq_true rfl) dX0_within_13 ⟨Nat.zero_le _, Nat.zero_le _⟩ (fun ri u H locs hw hP _ hD _ hS => ?_)
        obtain ⟨rfl, hw⟩ := hw
        have hP : va_P D vwCl (wX h ad ca (t, so, du, pe, wh, co, rc, ro, ra)) H := hP
        have hD : va_D A (wX h ad ca (t, so, du, pe, wh, co, rc, ro, ra)) := hD
        have hii := tn_ite hw
        rw [tw_is_nI _ hi16] at hii
        refine lv_if_eq (tgt := 38) hx hb dX0_within_16 (by decide) (fun c2 => ?_) (fun c2 => ?_)
        · refine lv_iconst (v := 0) hx hb dX0_within_38 (by decide) ?_
          refine lv_iadd hx hb dX0_within_39 ?_
          refine tr_re (z' := tw_wiL (t, so, du, pe, wh, co, rc, ro, ra) n (i + 1)) (by rw [tw_wiL_0 (u := (t, so, du, pe, wh, co, rc, ro, ra)) (hii.2 c2)]; exact Int32.add_zero _) ?_
          refine lv_istore_n (lv' := [(2, .int (tw_wiL (t, so, du, pe, wh, co, rc, ro, ra) n (i + 1))), (0, .ref h), (1, .int n), (3, .int (nI i))]) hx hb dX0_within_40 rfl hl (by decide) rfl (fun ls hl => ?_)
          refine lv_iinc (v := nI (i + 1)) (lv' := [(3, .int (nI (i + 1))), (2, .int (tw_wiL (t, so, du, pe, wh, co, rc, ro, ra) n (i + 1))), (0, .ref h), (1, .int n)]) hx hb dX0_within_41 hl (k := 3) rfl (nI_1 i) (by decide) rfl (fun ls hl => ?_)
          refine lv_goto (tgt := 4) hx hb dX0_within_44 (by decide) ?_
          exact ih (i + 1) _ _ _ _ (by omega) (by omega) rfl hP hD hS (lv_sub hl [2, 3, 1, 0] rfl)
        · refine lv_aload_n hx hb dX0_within_19 rfl (lv_at hl 0 rfl) ?_
          refine va_get (D := D) (ci := 0) (v := .ref (ad 0)) (C := RX0) (T := TX0) (N := 9) hx hb hts in_X0 hown hK hP 0 rfl rfl 2 (by decide) (hts _ q24) (fun _ h9 => h9) rfl dX0_within_20 ?_
          refine lv_iload_n hx hb dX0_within_23 rfl (lv_at hl 3 rfl) ?_
          refine tr_iald (k := i) hx hb hK hP 1 0 rfl rfl rfl hi16 (by decide) dX0_within_24 ?_
          refine lv_aload_n hx hb dX0_within_25 rfl (lv_at hl 0 rfl) ?_
          refine va_get (D := D) (ci := 0) (v := .int (nI t)) (C := RX0) (T := TX0) (N := 9) hx hb hts in_X0 hown hK hP 0 rfl rfl 0 (by decide) (hts _ q22) (fun _ h9 => h9) rfl dX0_within_26 ?_
          refine lv_isub hx hb dX0_within_29 ?_
          refine lv_iload_n hx hb dX0_within_30 rfl (lv_at hl 1 rfl) ?_
          refine lv_icmp_gt (tgt := 38) hx hb dX0_within_31 (by decide) (fun c3 => ?_) (fun c3 => ?_)
          · refine lv_iconst (v := 0) hx hb dX0_within_38 (by decide) ?_
            refine lv_iadd hx hb dX0_within_39 ?_
            refine tr_re (z' := tw_wiL (t, so, du, pe, wh, co, rc, ro, ra) n (i + 1)) (by rw [tw_wiL_2 (u := (t, so, du, pe, wh, co, rc, ro, ra)) c3]; exact Int32.add_zero _) ?_
            refine lv_istore_n (lv' := [(2, .int (tw_wiL (t, so, du, pe, wh, co, rc, ro, ra) n (i + 1))), (0, .ref h), (1, .int n), (3, .int (nI i))]) hx hb dX0_within_40 rfl hl (by decide) rfl (fun ls hl => ?_)
            refine lv_iinc (v := nI (i + 1)) (lv' := [(3, .int (nI (i + 1))), (2, .int (tw_wiL (t, so, du, pe, wh, co, rc, ro, ra) n (i + 1))), (0, .ref h), (1, .int n)]) hx hb dX0_within_41 hl (k := 3) rfl (nI_1 i) (by decide) rfl (fun ls hl => ?_)
            refine lv_goto (tgt := 4) hx hb dX0_within_44 (by decide) ?_
            exact ih (i + 1) _ _ _ _ (by omega) (by omega) rfl hP hD hS (lv_sub hl [2, 3, 1, 0] rfl)
          · refine lv_iconst (v := 1) hx hb dX0_within_34 (by decide) ?_
            refine lv_goto (tgt := 39) hx hb dX0_within_35 (by decide) ?_
            refine lv_iadd hx hb dX0_within_39 ?_
            refine tr_re (z' := tw_wiL (t, so, du, pe, wh, co, rc, ro, ra) n (i + 1)) ((tw_wiL_1 (u := (t, so, du, pe, wh, co, rc, ro, ra)) (hii.1 c2) c3).symm) ?_
            refine lv_istore_n (lv' := [(2, .int (tw_wiL (t, so, du, pe, wh, co, rc, ro, ra) n (i + 1))), (0, .ref h), (1, .int n), (3, .int (nI i))]) hx hb dX0_within_40 rfl hl (by decide) rfl (fun ls hl => ?_)
            refine lv_iinc (v := nI (i + 1)) (lv' := [(3, .int (nI (i + 1))), (2, .int (tw_wiL (t, so, du, pe, wh, co, rc, ro, ra) n (i + 1))), (0, .ref h), (1, .int n)]) hx hb dX0_within_41 hl (k := 3) rfl (nI_1 i) (by decide) rfl (fun ls hl => ?_)
            refine lv_goto (tgt := 4) hx hb dX0_within_44 (by decide) ?_
            exact ih (i + 1) _ _ _ _ (by omega) (by omega) rfl hP hD hS (lv_sub hl [2, 3, 1, 0] rfl)
  exact loop 17 0 _ _ _ _ (by omega) (by omega) rfl hP hD hS (lv_sub hl [2, 3, 1, 0] rfl)
set_option maxHeartbeats 4000000 in
set_option maxRecDepth 100000 in
theorem mX_next (l : Launch) (D : va_G) (h : Nat) (ad : Nat → Nat) (ca : Nat → ClassId) (u : xS) : tr_Ci l D (kX ca) (wX h ad ca) yX0_next cX0_next 3 (some .int) ({ frames := 1, cells := 0, slots := 0, locals := 21 }) [.ref h] u (fun r v => v = u ∧ r = tw_o (tw_nxL u t16)) := by
  obtain ⟨t, so, du, pe, wh, co, rc, ro, ra⟩ := u
  refine tr_enteri (by decide) (Nat.le_of_ble_eq_true rfl) ?_
  intro p e s m below meth c A ls hx hb hr hml hown hts hlocks hA hK hP hD hS hl
  have hown : s.vm.findClass RX0 = some m.cls := hown
  have hP : va_P D vwCl (wX h ad ca (t, so, du, pe, wh, co, rc, ro, ra)) s.heap := hP
  have hD : va_D A (wX h ad ca (t, so, du, pe, wh, co, rc, ro, ra)) := hD
  have hl : lv_has ls 3 [(0, .ref h)] := hl
  refine lv_bipush (v := -2) hx hb dX0_next_0 (by decide) ?_
  refine lv_istore_n (lv' := [(1, .int (-2)), (0, .ref h)]) hx hb dX0_next_2 rfl hl (by decide) rfl (fun ls hl => ?_)
  refine lv_bipush (v := 15) hx hb dX0_next_3 (by decide) ?_
  refine lv_istore_n (lv' := [(2, .int 15), (1, .int (-2)), (0, .ref h)]) hx hb dX0_next_5 rfl hl (by decide) rfl (fun ls hl => ?_)
  have loop : ∀ (r j : Nat) (o : Option Nat) (v : xS) (H : Heap) (locs : List Loc) (ls : Array Slot), j + r = 16 → o = tw_nxL (t, so, du, pe, wh, co, rc, ro, ra) j → v = (t, so, du, pe, wh, co, rc, ro, ra) → va_P D vwCl (wX h ad ca v) H → va_D A (wX h ad ca v) → va_S A s.heap H locs → lv_has ls 3 [(0, .ref h), (1, .int (tw_o o)), (2, .int (tw_kv r))] → W p l e ({ frames := 1, cells := 0, slots := 0, locals := 21 }) s m ([.ref h] : List Value).toArray below meth c H locs 0 0 (MQ below (va_Qi (fun r v => v = (t, so, du, pe, wh, co, rc, ro, ra) ∧ r = tw_o (tw_nxL (t, so, du, pe, wh, co, rc, ro, ra) t16)) (tr_B D (kX ca) (wX h ad ca) A) A) ([.ref h] : List Value).toArray s 0 0 A) (F0 m 6 ls []) := by
    intro r
    induction r with
    | zero =>
      intro j o v H locs ls hj eo ev hP hD hS hl
      subst ev
      have hl : lv_has ls 3 [(0, .ref h), (1, .int (tw_o o)), (2, .int (-1))] := hl
      refine lv_iload_n hx hb dX0_next_6 rfl (lv_at hl 2 rfl) ?_
      refine lv_if_lt (tgt := 45) hx hb dX0_next_7 (by decide) (fun c1 => ?_) (fun c1 => absurd (by decide) c1)
      refine lv_iload_n hx hb dX0_next_45 rfl (lv_at hl 1 rfl) ?_
      obtain rfl : j = t16 := by rw [t16_eq]; omega
      exact tr_iret (u := (t, so, du, pe, wh, co, rc, ro, ra)) hx hb hr hlocks dX0_next_46 hP hK hD hS (⟨rfl, by rw [eo]⟩)
    | succ r ih =>
      intro j o v H locs ls hj eo ev hP hD hS hl
      subst ev
      have hl : lv_has ls 3 [(0, .ref h), (1, .int (tw_o o)), (2, .int (nI r))] := hl
      have hr16 : r < 16 := by omega
      have ej : 15 - j = r := by omega
      refine lv_iload_n hx hb dX0_next_6 rfl (lv_at hl 2 rfl) ?_
      refine lv_if_lt (tgt := 45) hx hb dX0_next_7 (by decide) (fun c1 => absurd c1 (nI_pos (by omega))) (fun c1 => ?_)
      refine lv_aload_n hx hb dX0_next_10 rfl (lv_at hl 0 rfl) ?_
      refine lv_iload_n hx hb dX0_next_11 rfl (lv_at hl 2 rfl) ?_
      refine tr_calli (v := (t, so, du, pe, wh, co, rc, ro, ra)) (wf := wX h ad ca) (wr := []) (As := [.int (nI r)]) (rest := []) (k := 1) (ci := 0) ⟨hx, hb, hml, hown, hts⟩ (mX_isSet l D h ad ca (t, so, du, pe, wh, co, rc, ro, ra) (nI r)) (cwV 1 hts (lw_V q60 q62 qs0 q12 q63) rfl rfl rfl (by decide +kernel) ⟨Nat.le_of_ble_eq_true rfl, Nat.le_of_ble_eq_true rfl⟩) hK hP tr_Pnl hD tr_ap.nl hS hA rfl rfl rfl hl.1 rfl (Nat.le_of_ble_eq_true rfl) dX0_next_12 ⟨Nat.zero_le _, Nat.zero_le _⟩ (fun ri u H locs hw hP _ hD _ hS => ?_)
      obtain ⟨rfl, hw⟩ := hw
      have hP : va_P D vwCl (wX h ad ca (t, so, du, pe, wh, co, rc, ro, ra)) H := hP
      have hD : va_D A (wX h ad ca (t, so, du, pe, wh, co, rc, ro, ra)) := hD
      have hii := tn_ite hw
      rw [tw_is_nI _ hr16, ← ej] at hii
      refine lv_if_eq (tgt := 39) hx hb dX0_next_15 (by decide) (fun c2 => ?_) (fun c2 => ?_)
      · refine lv_iinc (v := tw_kv r) (lv' := [(2, .int (tw_kv r)), (0, .ref h), (1, .int (tw_o o))]) hx hb dX0_next_39 hl (k := 2) rfl (tw_kv_dec r) (by decide) rfl (fun ls hl => ?_)
        refine lv_goto (tgt := 6) hx hb dX0_next_42 (by decide) ?_
        exact ih (j + 1) (o) _ _ _ _ (by omega) (eo.trans (tw_nxL_n (u := (t, so, du, pe, wh, co, rc, ro, ra)) (hii.2 c2)).symm) rfl hP hD hS (lv_sub hl [1, 2, 0] rfl)
      · cases o with
        | none =>
          have hl : lv_has ls 3 [(0, .ref h), (1, .int (-2)), (2, .int (nI r))] := hl
          refine lv_iload_n hx hb dX0_next_18 rfl (lv_at hl 1 rfl) ?_
          refine lv_if_lt (tgt := 37) hx hb dX0_next_19 (by decide) (fun c3 => ?_) (fun c3 => absurd (by decide) c3)
          refine lv_iload_n hx hb dX0_next_37 rfl (lv_at hl 2 rfl) ?_
          refine lv_istore_n (lv' := [(1, .int (nI r)), (0, .ref h), (2, .int (nI r))]) hx hb dX0_next_38 rfl hl (by decide) rfl (fun ls hl => ?_)
          refine lv_iinc (v := tw_kv r) (lv' := [(2, .int (tw_kv r)), (1, .int (nI r)), (0, .ref h)]) hx hb dX0_next_39 hl (k := 2) rfl (tw_kv_dec r) (by decide) rfl (fun ls hl => ?_)
          refine lv_goto (tgt := 6) hx hb dX0_next_42 (by decide) ?_
          exact ih (j + 1) (some r) _ _ _ _ (by omega) (by rw [tw_nxL_0 (u := (t, so, du, pe, wh, co, rc, ro, ra)) (hii.1 c2) eo, ej]) rfl hP hD hS (lv_sub hl [2, 1, 0] rfl)
        | some b =>
          have hl : lv_has ls 3 [(0, .ref h), (1, .int (nI b)), (2, .int (nI r))] := hl
          have hb16 := tw_nxL_lt _ _ _ eo.symm
          refine lv_iload_n hx hb dX0_next_18 rfl (lv_at hl 1 rfl) ?_
          refine lv_if_lt (tgt := 37) hx hb dX0_next_19 (by decide) (fun c3 => absurd c3 (nI_pos (by omega))) (fun c3 => ?_)
          refine lv_aload_n hx hb dX0_next_22 rfl (lv_at hl 0 rfl) ?_
          refine va_get (D := D) (ci := 0) (v := .ref (ad 0)) (C := RX0) (T := TX0) (N := 9) hx hb hts in_X0 hown hK hP 0 rfl rfl 2 (by decide) (hts _ q24) (fun _ h9 => h9) rfl dX0_next_23 ?_
          refine lv_iload_n hx hb dX0_next_26 rfl (lv_at hl 2 rfl) ?_
          refine tr_iald (k := r) hx hb hK hP 1 0 rfl rfl rfl hr16 (by decide) dX0_next_27 ?_
          refine lv_aload_n hx hb dX0_next_28 rfl (lv_at hl 0 rfl) ?_
          refine va_get (D := D) (ci := 0) (v := .ref (ad 0)) (C := RX0) (T := TX0) (N := 9) hx hb hts in_X0 hown hK hP 0 rfl rfl 2 (by decide) (hts _ q24) (fun _ h9 => h9) rfl dX0_next_29 ?_
          refine lv_iload_n hx hb dX0_next_32 rfl (lv_at hl 1 rfl) ?_
          refine tr_iald (k := b) hx hb hK hP 1 0 rfl rfl rfl hb16 (by decide) dX0_next_33 ?_
          refine lv_icmp_gt (tgt := 39) hx hb dX0_next_34 (by decide) (fun c4 => ?_) (fun c4 => ?_)
          · refine lv_iinc (v := tw_kv r) (lv' := [(2, .int (tw_kv r)), (0, .ref h), (1, .int (nI b))]) hx hb dX0_next_39 hl (k := 2) rfl (tw_kv_dec r) (by decide) rfl (fun ls hl => ?_)
            refine lv_goto (tgt := 6) hx hb dX0_next_42 (by decide) ?_
            exact ih (j + 1) (some b) _ _ _ _ (by omega) (by rw [tw_nxL_k (u := (t, so, du, pe, wh, co, rc, ro, ra)) (hii.1 c2) eo (by rw [ej]; exact c4)]) rfl hP hD hS (lv_sub hl [1, 2, 0] rfl)
          · refine lv_iload_n hx hb dX0_next_37 rfl (lv_at hl 2 rfl) ?_
            refine lv_istore_n (lv' := [(1, .int (nI r)), (0, .ref h), (2, .int (nI r))]) hx hb dX0_next_38 rfl hl (by decide) rfl (fun ls hl => ?_)
            refine lv_iinc (v := tw_kv r) (lv' := [(2, .int (tw_kv r)), (1, .int (nI r)), (0, .ref h)]) hx hb dX0_next_39 hl (k := 2) rfl (tw_kv_dec r) (by decide) rfl (fun ls hl => ?_)
            refine lv_goto (tgt := 6) hx hb dX0_next_42 (by decide) ?_
            exact ih (j + 1) (some r) _ _ _ _ (by omega) (by rw [tw_nxL_c (u := (t, so, du, pe, wh, co, rc, ro, ra)) (hii.1 c2) eo (by rw [ej]; exact c4), ej]) rfl hP hD hS (lv_sub hl [2, 1, 0] rfl)
  exact loop 16 0 none _ _ _ _ rfl rfl rfl hP hD hS (lv_sub hl [2, 1, 0] rfl)
end
section
/-! TimerWheelModel: the plain ones -/
set_option maxHeartbeats 4000000 in
set_option maxRecDepth 100000 in
theorem mM_is (l : Launch) (D : va_G) (h : Nat) (ad : Nat → Nat) (ca : Nat → ClassId) (u : mS) (k : Int32) : tr_Ci l D (kM ca) (wM h ad ca) yX1_is cX1_is 2 (some .boolean) ({ frames := 0, cells := 0, slots := 0, locals := 0 }) [.ref h, .int k] u (fun r v => v = u ∧ r = if tm_is u k = true then 1 else 0) := by
  obtain ⟨t, on, du, pe, rc, wo, wn⟩ := u
  refine tr_enteri (by decide) (Nat.le_of_ble_eq_true rfl) ?_
  intro p e s m below meth c A ls hx hb hr hml hown hts hlocks hA hK hP hD hS hl
  have hown : s.vm.findClass RX1 = some m.cls := hown
  have hP : va_P D vwCl (wM h ad ca (t, on, du, pe, rc, wo, wn)) s.heap := hP
  have hD : va_D A (wM h ad ca (t, on, du, pe, rc, wo, wn)) := hD
  have hl : lv_has ls 2 [(0, .ref h), (1, .int k)] := hl
  refine lv_iload_n hx hb dX1_is_0 rfl (lv_at hl 1 rfl) ?_
  refine lv_if_lt (tgt := 23) hx hb dX1_is_1 (by decide) (fun c1 => ?_) (fun c1 => ?_)
  · refine lv_iconst (v := 0) hx hb dX1_is_23 (by decide) ?_
    exact tr_zret (u := (t, on, du, pe, rc, wo, wn)) hx hb hr hlocks dX1_is_24 (by decide) hP hK hD hS (⟨rfl, by rw [tm_is_f1 _ c1]; rfl⟩)
  · refine lv_iload_n hx hb dX1_is_4 rfl (lv_at hl 1 rfl) ?_
    refine lv_bipush (v := 15) hx hb dX1_is_5 (by decide) ?_
    refine lv_icmp_gt (tgt := 23) hx hb dX1_is_7 (by decide) (fun c2 => ?_) (fun c2 => ?_)
    · refine lv_iconst (v := 0) hx hb dX1_is_23 (by decide) ?_
      exact tr_zret (u := (t, on, du, pe, rc, wo, wn)) hx hb hr hlocks dX1_is_24 (by decide) hP hK hD hS (⟨rfl, by rw [tm_is_f2 _ c2]; rfl⟩)
    · obtain ⟨kn, hkn, ek⟩ := tn_15 c1 c2
      refine lv_aload_n hx hb dX1_is_10 rfl (lv_at hl 0 rfl) ?_
      refine va_get (D := D) (ci := 1) (v := .ref (ad 0)) (C := RX1) (T := TX1) (N := 7) hx hb hts in_X1 hown hK hP 0 rfl rfl 1 (by decide) (hts _ q147) (fun _ h9 => h9) rfl dX1_is_11 ?_
      refine lv_iload_n hx hb dX1_is_14 rfl (lv_at hl 1 rfl) ?_
      refine tr_zald (k := kn) hx hb hK hP 1 0 rfl rfl ek hkn (by decide) dX1_is_15 ?_
      refine lv_if_eq (tgt := 23) hx hb dX1_is_16 (by decide) (fun c3 => ?_) (fun c3 => ?_)
      · refine lv_iconst (v := 0) hx hb dX1_is_23 (by decide) ?_
        exact tr_zret (u := (t, on, du, pe, rc, wo, wn)) hx hb hr hlocks dX1_is_24 (by decide) hP hK hD hS (⟨rfl, by rw [ek, tm_is_0 (t, on, du, pe, rc, wo, wn) hkn c3]; rfl⟩)
      · refine lv_iconst (v := 1) hx hb dX1_is_19 (by decide) ?_
        refine lv_goto (tgt := 24) hx hb dX1_is_20 (by decide) ?_
        exact tr_zret (u := (t, on, du, pe, rc, wo, wn)) hx hb hr hlocks dX1_is_24 (by decide) hP hK hD hS (⟨rfl, by rw [ek, tm_is_1 (t, on, du, pe, rc, wo, wn) hkn c3]; rfl⟩)
set_option maxHeartbeats 4000000 in
set_option maxRecDepth 100000 in
theorem mM_kept (l : Launch) (D : va_G) (h : Nat) (ad : Nat → Nat) (ca : Nat → ClassId) (u : mS) (i : Int32) : tr_Ci l D (kM ca) (wM h ad ca) yX1_kept cX1_kept 2 (some .boolean) ({ frames := 0, cells := 0, slots := 0, locals := 0 }) [.ref h, .int i] u (fun r v => v = u ∧ r = if tm_kept (tm_rc u) i = true then 1 else 0) := by
  obtain ⟨t, on, du, pe, rc, wo, wn⟩ := u
  refine tr_enteri (by decide) (Nat.le_of_ble_eq_true rfl) ?_
  intro p e s m below meth c A ls hx hb hr hml hown hts hlocks hA hK hP hD hS hl
  have hown : s.vm.findClass RX1 = some m.cls := hown
  have hP : va_P D vwCl (wM h ad ca (t, on, du, pe, rc, wo, wn)) s.heap := hP
  have hD : va_D A (wM h ad ca (t, on, du, pe, rc, wo, wn)) := hD
  have hl : lv_has ls 2 [(0, .ref h), (1, .int i)] := hl
  refine lv_iload_n hx hb dX1_kept_0 rfl (lv_at hl 1 rfl) ?_
  refine lv_if_lt (tgt := 22) hx hb dX1_kept_1 (by decide) (fun c1 => ?_) (fun c1 => ?_)
  · refine lv_iconst (v := 0) hx hb dX1_kept_22 (by decide) ?_
    exact tr_zret (u := (t, on, du, pe, rc, wo, wn)) hx hb hr hlocks dX1_kept_23 (by decide) hP hK hD hS (⟨rfl, by rw [tm_kept_f1 c1]; rfl⟩)
  · refine lv_iload_n hx hb dX1_kept_4 rfl (lv_at hl 1 rfl) ?_
    refine lv_bipush (v := 19) hx hb dX1_kept_5 (by decide) ?_
    refine lv_icmp_gt (tgt := 22) hx hb dX1_kept_7 (by decide) (fun c2 => ?_) (fun c2 => ?_)
    · refine lv_iconst (v := 0) hx hb dX1_kept_22 (by decide) ?_
      exact tr_zret (u := (t, on, du, pe, rc, wo, wn)) hx hb hr hlocks dX1_kept_23 (by decide) hP hK hD hS (⟨rfl, by rw [tm_kept_f2 c2]; rfl⟩)
    · refine lv_iload_n hx hb dX1_kept_10 rfl (lv_at hl 1 rfl) ?_
      refine lv_aload_n hx hb dX1_kept_11 rfl (lv_at hl 0 rfl) ?_
      refine va_get (D := D) (ci := 1) (v := .int (nI rc)) (C := RX1) (T := TX1) (N := 7) hx hb hts in_X1 hown hK hP 0 rfl rfl 4 (by decide) (hts _ q150) (fun _ h9 => h9) rfl dX1_kept_12 ?_
      refine lv_icmp_ge (tgt := 22) hx hb dX1_kept_15 (by decide) (fun c3 => ?_) (fun c3 => ?_)
      · refine lv_iconst (v := 0) hx hb dX1_kept_22 (by decide) ?_
        exact tr_zret (u := (t, on, du, pe, rc, wo, wn)) hx hb hr hlocks dX1_kept_23 (by decide) hP hK hD hS (⟨rfl, by rw [tm_kept_f3 c3]; rfl⟩)
      · refine lv_iconst (v := 1) hx hb dX1_kept_18 (by decide) ?_
        refine lv_goto (tgt := 23) hx hb dX1_kept_19 (by decide) ?_
        exact tr_zret (u := (t, on, du, pe, rc, wo, wn)) hx hb hr hlocks dX1_kept_23 (by decide) hP hK hD hS (⟨rfl, by rw [tm_kept_t c1 c2 c3]; rfl⟩)
set_option maxHeartbeats 4000000 in
set_option maxRecDepth 100000 in
theorem mM_set (l : Launch) (D : va_G) (h : Nat) (ad : Nat → Nat) (ca : Nat → ClassId) (u : mS) (k : Int32) (d : Int32) (pp : Int32) : tr_Ci l D (kM ca) (wM h ad ca) yX1_set cX1_set 4 (some .int) ({ frames := 0, cells := 0, slots := 0, locals := 0 }) [.ref h, .int k, .int d, .int pp] u (fun r v => (v, r) = tm_set u k d pp) := by
  obtain ⟨t, on, du, pe, rc, wo, wn⟩ := u
  refine tr_enteri (by decide) (Nat.le_of_ble_eq_true rfl) ?_
  intro p e s m below meth c A ls hx hb hr hml hown hts hlocks hA hK hP hD hS hl
  have hown : s.vm.findClass RX1 = some m.cls := hown
  have hP : va_P D vwCl (wM h ad ca (t, on, du, pe, rc, wo, wn)) s.heap := hP
  have hD : va_D A (wM h ad ca (t, on, du, pe, rc, wo, wn)) := hD
  have hl : lv_has ls 4 [(0, .ref h), (1, .int k), (2, .int d), (3, .int pp)] := hl
  refine lv_iload_n hx hb dX1_set_0 rfl (lv_at hl 1 rfl) ?_
  refine lv_if_lt (tgt := 33) hx hb dX1_set_1 (by decide) (fun c1 => ?_) (fun c1 => ?_)
  · refine lv_iconst (v := -1) hx hb dX1_set_33 (by decide) ?_
    exact tr_iret (u := (t, on, du, pe, rc, wo, wn)) hx hb hr hlocks dX1_set_34 hP hK hD hS ((tm_set_bad (t, on, du, pe, rc, wo, wn) (Or.inl c1)).symm)
  · refine lv_iload_n hx hb dX1_set_4 rfl (lv_at hl 1 rfl) ?_
    refine lv_bipush (v := 15) hx hb dX1_set_5 (by decide) ?_
    refine lv_icmp_gt (tgt := 33) hx hb dX1_set_7 (by decide) (fun c2 => ?_) (fun c2 => ?_)
    · refine lv_iconst (v := -1) hx hb dX1_set_33 (by decide) ?_
      exact tr_iret (u := (t, on, du, pe, rc, wo, wn)) hx hb hr hlocks dX1_set_34 hP hK hD hS ((tm_set_bad (t, on, du, pe, rc, wo, wn) (Or.inr (Or.inl c2))).symm)
    · refine lv_iload_n hx hb dX1_set_10 rfl (lv_at hl 2 rfl) ?_
      refine lv_iconst (v := 1) hx hb dX1_set_11 (by decide) ?_
      refine lv_icmp_lt (tgt := 33) hx hb dX1_set_12 (by decide) (fun c3 => ?_) (fun c3 => ?_)
      · refine lv_iconst (v := -1) hx hb dX1_set_33 (by decide) ?_
        exact tr_iret (u := (t, on, du, pe, rc, wo, wn)) hx hb hr hlocks dX1_set_34 hP hK hD hS ((tm_set_bad (t, on, du, pe, rc, wo, wn) (Or.inr (Or.inr (Or.inl c3)))).symm)
      · refine lv_iload_n hx hb dX1_set_15 rfl (lv_at hl 2 rfl) ?_
        refine lv_sipush (v := 500) hx hb dX1_set_16 (by decide) ?_
        refine lv_icmp_gt (tgt := 33) hx hb dX1_set_19 (by decide) (fun c4 => ?_) (fun c4 => ?_)
        · refine lv_iconst (v := -1) hx hb dX1_set_33 (by decide) ?_
          exact tr_iret (u := (t, on, du, pe, rc, wo, wn)) hx hb hr hlocks dX1_set_34 hP hK hD hS ((tm_set_bad (t, on, du, pe, rc, wo, wn) (Or.inr (Or.inr (Or.inr (Or.inl c4))))).symm)
        · refine lv_iload_n hx hb dX1_set_22 rfl (lv_at hl 3 rfl) ?_
          refine lv_if_lt (tgt := 33) hx hb dX1_set_23 (by decide) (fun c5 => ?_) (fun c5 => ?_)
          · refine lv_iconst (v := -1) hx hb dX1_set_33 (by decide) ?_
            exact tr_iret (u := (t, on, du, pe, rc, wo, wn)) hx hb hr hlocks dX1_set_34 hP hK hD hS ((tm_set_bad (t, on, du, pe, rc, wo, wn) (Or.inr (Or.inr (Or.inr (Or.inr (Or.inl c5)))))).symm)
          · refine lv_iload_n hx hb dX1_set_26 rfl (lv_at hl 3 rfl) ?_
            refine lv_sipush (v := 500) hx hb dX1_set_27 (by decide) ?_
            refine lv_icmp_le (tgt := 35) hx hb dX1_set_30 (by decide) (fun c6 => ?_) (fun c6 => ?_)
            · obtain ⟨kn, hkn, ek⟩ := tn_15 c1 c2
              subst ek
              refine lv_aload_n hx hb dX1_set_35 rfl (lv_at hl 0 rfl) ?_
              refine va_get (D := D) (ci := 1) (v := .ref (ad 0)) (C := RX1) (T := TX1) (N := 7) hx hb hts in_X1 hown hK hP 0 rfl rfl 1 (by decide) (hts _ q147) (fun _ h9 => h9) rfl dX1_set_36 ?_
              refine lv_iload_n hx hb dX1_set_39 rfl (lv_at hl 1 rfl) ?_
              refine lv_iconst (v := 1) hx hb dX1_set_40 (by decide) ?_
              refine tr_zast (k := kn) (z' := 1) hx hb hK hP hD hS 1 0 rfl rfl rfl hkn (by decide) rfl dX1_set_41 (fun H locs hP hD hS => ?_)
              have hP : va_P D vwCl (wM h ad ca (t, (upd on kn 1), du, pe, rc, wo, wn)) H := hP
              have hD : va_D A (wM h ad ca (t, (upd on kn 1), du, pe, rc, wo, wn)) := hD
              refine lv_aload_n hx hb dX1_set_42 rfl (lv_at hl 0 rfl) ?_
              refine va_get (D := D) (ci := 1) (v := .ref (ad 1)) (C := RX1) (T := TX1) (N := 7) hx hb hts in_X1 hown hK hP 0 rfl rfl 2 (by decide) (hts _ q148) (fun _ h9 => h9) rfl dX1_set_43 ?_
              refine lv_iload_n hx hb dX1_set_46 rfl (lv_at hl 1 rfl) ?_
              refine lv_aload_n hx hb dX1_set_47 rfl (lv_at hl 0 rfl) ?_
              refine va_get (D := D) (ci := 1) (v := .int (nI t)) (C := RX1) (T := TX1) (N := 7) hx hb hts in_X1 hown hK hP 0 rfl rfl 0 (by decide) (hts _ q146) (fun _ h9 => h9) rfl dX1_set_48 ?_
              refine lv_iload_n hx hb dX1_set_51 rfl (lv_at hl 2 rfl) ?_
              refine lv_iadd hx hb dX1_set_52 ?_
              refine tr_iast (k := kn) hx hb hK hP hD hS 2 1 rfl rfl rfl hkn (by decide) dX1_set_53 (fun H locs hP hD hS => ?_)
              have hP : va_P D vwCl (wM h ad ca (t, (upd on kn 1), (upd du kn (nI t + d)), pe, rc, wo, wn)) H := hP
              have hD : va_D A (wM h ad ca (t, (upd on kn 1), (upd du kn (nI t + d)), pe, rc, wo, wn)) := hD
              refine lv_aload_n hx hb dX1_set_54 rfl (lv_at hl 0 rfl) ?_
              refine va_get (D := D) (ci := 1) (v := .ref (ad 2)) (C := RX1) (T := TX1) (N := 7) hx hb hts in_X1 hown hK hP 0 rfl rfl 3 (by decide) (hts _ q149) (fun _ h9 => h9) rfl dX1_set_55 ?_
              refine lv_iload_n hx hb dX1_set_58 rfl (lv_at hl 1 rfl) ?_
              refine lv_iload_n hx hb dX1_set_59 rfl (lv_at hl 3 rfl) ?_
              refine tr_iast (k := kn) hx hb hK hP hD hS 3 2 rfl rfl rfl hkn (by decide) dX1_set_60 (fun H locs hP hD hS => ?_)
              have hP : va_P D vwCl (wM h ad ca (t, (upd on kn 1), (upd du kn (nI t + d)), (upd pe kn pp), rc, wo, wn)) H := hP
              have hD : va_D A (wM h ad ca (t, (upd on kn 1), (upd du kn (nI t + d)), (upd pe kn pp), rc, wo, wn)) := hD
              refine lv_aload_n hx hb dX1_set_61 rfl (lv_at hl 0 rfl) ?_
              refine va_get (D := D) (ci := 1) (v := .ref (ad 1)) (C := RX1) (T := TX1) (N := 7) hx hb hts in_X1 hown hK hP 0 rfl rfl 2 (by decide) (hts _ q148) (fun _ h9 => h9) rfl dX1_set_62 ?_
              refine lv_iload_n hx hb dX1_set_65 rfl (lv_at hl 1 rfl) ?_
              refine tr_iald (k := kn) hx hb hK hP 2 1 rfl rfl rfl hkn (by decide) dX1_set_66 ?_
              refine tr_re (z' := nI t + d) pk_us ?_
              exact tr_iret (u := (t, (upd on kn 1), (upd du kn (nI t + d)), (upd pe kn pp), rc, wo, wn)) hx hb hr hlocks dX1_set_67 hP hK hD hS ((tm_set_ok (t, on, du, pe, rc, wo, wn) hkn c3 c4 c5 (Int32.not_lt.mpr c6)).symm)
            · refine lv_iconst (v := -1) hx hb dX1_set_33 (by decide) ?_
              exact tr_iret (u := (t, on, du, pe, rc, wo, wn)) hx hb hr hlocks dX1_set_34 hP hK hD hS ((tm_set_bad (t, on, du, pe, rc, wo, wn) (Or.inr (Or.inr (Or.inr (Or.inr (Or.inr (Int32.not_le.mp c6))))))).symm)
set_option maxHeartbeats 4000000 in
set_option maxRecDepth 100000 in
theorem mM_cancel (l : Launch) (D : va_G) (h : Nat) (ad : Nat → Nat) (ca : Nat → ClassId) (u : mS) (k : Int32) : tr_Ci l D (kM ca) (wM h ad ca) yX1_cancel cX1_cancel 2 (some .int) ({ frames := 1, cells := 0, slots := 0, locals := 21 }) [.ref h, .int k] u (fun r v => (v, r) = tm_cancel u k) := by
  obtain ⟨t, on, du, pe, rc, wo, wn⟩ := u
  refine tr_enteri (by decide) (Nat.le_of_ble_eq_true rfl) ?_
  intro p e s m below meth c A ls hx hb hr hml hown hts hlocks hA hK hP hD hS hl
  have hown : s.vm.findClass RX1 = some m.cls := hown
  have hP : va_P D vwCl (wM h ad ca (t, on, du, pe, rc, wo, wn)) s.heap := hP
  have hD : va_D A (wM h ad ca (t, on, du, pe, rc, wo, wn)) := hD
  have hl : lv_has ls 2 [(0, .ref h), (1, .int k)] := hl
  refine lv_aload_n hx hb dX1_cancel_0 rfl (lv_at hl 0 rfl) ?_
  refine lv_iload_n hx hb dX1_cancel_1 rfl (lv_at hl 1 rfl) ?_
  refine tr_calli (v := (t, on, du, pe, rc, wo, wn)) (wf := wM h ad ca) (wr := []) (As := [.int k]) (rest := []) (k := 1) (ci := 1) ⟨hx, hb, hml, hown, hts⟩ (mM_is l D h ad ca (t, on, du, pe, rc, wo, wn) k) (cwV 1 hts (lw_V q177 q179 qs7 q13 q180) rfl rfl rfl (by decide +kernel) ⟨Nat.le_of_ble_eq_true rfl, Nat.le_of_ble_eq_true rfl⟩) hK hP tr_Pnl hD tr_ap.nl hS hA rfl rfl rfl hl.1 rfl (Nat.le_of_ble_eq_true rfl) dX1_cancel_2 ⟨Nat.zero_le _, Nat.zero_le _⟩ (fun ri u H locs hw hP _ hD _ hS => ?_)
  obtain ⟨rfl, hw⟩ := hw
  have hP : va_P D vwCl (wM h ad ca (t, on, du, pe, rc, wo, wn)) H := hP
  have hD : va_D A (wM h ad ca (t, on, du, pe, rc, wo, wn)) := hD
  have hii := tn_ite hw
  refine lv_if_ne (tgt := 10) hx hb dX1_cancel_5 (by decide) (fun c1 => ?_) (fun c1 => ?_)
  · obtain ⟨kn, hkn, ek, hon⟩ := tm_is_i (hii.1 c1)
    subst ek
    refine lv_aload_n hx hb dX1_cancel_10 rfl (lv_at hl 0 rfl) ?_
    refine va_get (D := D) (ci := 1) (v := .ref (ad 0)) (C := RX1) (T := TX1) (N := 7) hx hb hts in_X1 hown hK hP 0 rfl rfl 1 (by decide) (hts _ q147) (fun _ h9 => h9) rfl dX1_cancel_11 ?_
    refine lv_iload_n hx hb dX1_cancel_14 rfl (lv_at hl 1 rfl) ?_
    refine lv_iconst (v := 0) hx hb dX1_cancel_15 (by decide) ?_
    refine tr_zast (k := kn) (z' := 0) hx hb hK hP hD hS 1 0 rfl rfl rfl hkn (by decide) rfl dX1_cancel_16 (fun H locs hP hD hS => ?_)
    have hP : va_P D vwCl (wM h ad ca (t, (upd on kn 0), du, pe, rc, wo, wn)) H := hP
    have hD : va_D A (wM h ad ca (t, (upd on kn 0), du, pe, rc, wo, wn)) := hD
    refine lv_aload_n hx hb dX1_cancel_17 rfl (lv_at hl 0 rfl) ?_
    refine va_get (D := D) (ci := 1) (v := .ref (ad 1)) (C := RX1) (T := TX1) (N := 7) hx hb hts in_X1 hown hK hP 0 rfl rfl 2 (by decide) (hts _ q148) (fun _ h9 => h9) rfl dX1_cancel_18 ?_
    refine lv_iload_n hx hb dX1_cancel_21 rfl (lv_at hl 1 rfl) ?_
    refine tr_iald (k := kn) hx hb hK hP 2 1 rfl rfl rfl hkn (by decide) dX1_cancel_22 ?_
    refine lv_aload_n hx hb dX1_cancel_23 rfl (lv_at hl 0 rfl) ?_
    refine va_get (D := D) (ci := 1) (v := .int (nI t)) (C := RX1) (T := TX1) (N := 7) hx hb hts in_X1 hown hK hP 0 rfl rfl 0 (by decide) (hts _ q146) (fun _ h9 => h9) rfl dX1_cancel_24 ?_
    refine lv_isub hx hb dX1_cancel_27 ?_
    exact tr_iret (u := (t, (upd on kn 0), du, pe, rc, wo, wn)) hx hb hr hlocks dX1_cancel_28 hP hK hD hS ((tm_cancel_t (t, on, du, pe, rc, wo, wn) hkn hon).symm)
  · refine lv_iconst (v := -1) hx hb dX1_cancel_8 (by decide) ?_
    exact tr_iret (u := (t, on, du, pe, rc, wo, wn)) hx hb hr hlocks dX1_cancel_9 hP hK hD hS ((tm_cancel_f (t, on, du, pe, rc, wo, wn) (hii.2 c1)).symm)
set_option maxHeartbeats 4000000 in
set_option maxRecDepth 100000 in
theorem mM_left (l : Launch) (D : va_G) (h : Nat) (ad : Nat → Nat) (ca : Nat → ClassId) (u : mS) (k : Int32) : tr_Ci l D (kM ca) (wM h ad ca) yX1_left cX1_left 2 (some .int) ({ frames := 1, cells := 0, slots := 0, locals := 21 }) [.ref h, .int k] u (fun r v => v = u ∧ r = tm_left u k) := by
  obtain ⟨t, on, du, pe, rc, wo, wn⟩ := u
  refine tr_enteri (by decide) (Nat.le_of_ble_eq_true rfl) ?_
  intro p e s m below meth c A ls hx hb hr hml hown hts hlocks hA hK hP hD hS hl
  have hown : s.vm.findClass RX1 = some m.cls := hown
  have hP : va_P D vwCl (wM h ad ca (t, on, du, pe, rc, wo, wn)) s.heap := hP
  have hD : va_D A (wM h ad ca (t, on, du, pe, rc, wo, wn)) := hD
  have hl : lv_has ls 2 [(0, .ref h), (1, .int k)] := hl
  refine lv_aload_n hx hb dX1_left_0 rfl (lv_at hl 0 rfl) ?_
  refine lv_iload_n hx hb dX1_left_1 rfl (lv_at hl 1 rfl) ?_
  refine tr_calli (v := (t, on, du, pe, rc, wo, wn)) (wf := wM h ad ca) (wr := []) (As := [.int k]) (rest := []) (k := 1) (ci := 1) ⟨hx, hb, hml, hown, hts⟩ (mM_is l D h ad ca (t, on, du, pe, rc, wo, wn) k) (cwV 1 hts (lw_V q177 q179 qs7 q13 q180) rfl rfl rfl (by decide +kernel) ⟨Nat.le_of_ble_eq_true rfl, Nat.le_of_ble_eq_true rfl⟩) hK hP tr_Pnl hD tr_ap.nl hS hA rfl rfl rfl hl.1 rfl (Nat.le_of_ble_eq_true rfl) dX1_left_2 ⟨Nat.zero_le _, Nat.zero_le _⟩ (fun ri u H locs hw hP _ hD _ hS => ?_)
  obtain ⟨rfl, hw⟩ := hw
  have hP : va_P D vwCl (wM h ad ca (t, on, du, pe, rc, wo, wn)) H := hP
  have hD : va_D A (wM h ad ca (t, on, du, pe, rc, wo, wn)) := hD
  have hii := tn_ite hw
  refine lv_if_eq (tgt := 22) hx hb dX1_left_5 (by decide) (fun c1 => ?_) (fun c1 => ?_)
  · refine lv_iconst (v := -1) hx hb dX1_left_22 (by decide) ?_
    exact tr_iret (u := (t, on, du, pe, rc, wo, wn)) hx hb hr hlocks dX1_left_23 hP hK hD hS (⟨rfl, (tm_left_f (t, on, du, pe, rc, wo, wn) (hii.2 c1)).symm⟩)
  · obtain ⟨kn, hkn, ek, hon⟩ := tm_is_i (hii.1 c1)
    subst ek
    refine lv_aload_n hx hb dX1_left_8 rfl (lv_at hl 0 rfl) ?_
    refine va_get (D := D) (ci := 1) (v := .ref (ad 1)) (C := RX1) (T := TX1) (N := 7) hx hb hts in_X1 hown hK hP 0 rfl rfl 2 (by decide) (hts _ q148) (fun _ h9 => h9) rfl dX1_left_9 ?_
    refine lv_iload_n hx hb dX1_left_12 rfl (lv_at hl 1 rfl) ?_
    refine tr_iald (k := kn) hx hb hK hP 2 1 rfl rfl rfl hkn (by decide) dX1_left_13 ?_
    refine lv_aload_n hx hb dX1_left_14 rfl (lv_at hl 0 rfl) ?_
    refine va_get (D := D) (ci := 1) (v := .int (nI t)) (C := RX1) (T := TX1) (N := 7) hx hb hts in_X1 hown hK hP 0 rfl rfl 0 (by decide) (hts _ q146) (fun _ h9 => h9) rfl dX1_left_15 ?_
    refine lv_isub hx hb dX1_left_18 ?_
    refine lv_goto (tgt := 23) hx hb dX1_left_19 (by decide) ?_
    exact tr_iret (u := (t, on, du, pe, rc, wo, wn)) hx hb hr hlocks dX1_left_23 hP hK hD hS (⟨rfl, (tm_left_t (t, on, du, pe, rc, wo, wn) hkn hon).symm⟩)
set_option maxHeartbeats 4000000 in
set_option maxRecDepth 100000 in
theorem mM_period (l : Launch) (D : va_G) (h : Nat) (ad : Nat → Nat) (ca : Nat → ClassId) (u : mS) (k : Int32) : tr_Ci l D (kM ca) (wM h ad ca) yX1_period cX1_period 2 (some .int) ({ frames := 1, cells := 0, slots := 0, locals := 21 }) [.ref h, .int k] u (fun r v => v = u ∧ r = tm_period u k) := by
  obtain ⟨t, on, du, pe, rc, wo, wn⟩ := u
  refine tr_enteri (by decide) (Nat.le_of_ble_eq_true rfl) ?_
  intro p e s m below meth c A ls hx hb hr hml hown hts hlocks hA hK hP hD hS hl
  have hown : s.vm.findClass RX1 = some m.cls := hown
  have hP : va_P D vwCl (wM h ad ca (t, on, du, pe, rc, wo, wn)) s.heap := hP
  have hD : va_D A (wM h ad ca (t, on, du, pe, rc, wo, wn)) := hD
  have hl : lv_has ls 2 [(0, .ref h), (1, .int k)] := hl
  refine lv_aload_n hx hb dX1_period_0 rfl (lv_at hl 0 rfl) ?_
  refine lv_iload_n hx hb dX1_period_1 rfl (lv_at hl 1 rfl) ?_
  refine tr_calli (v := (t, on, du, pe, rc, wo, wn)) (wf := wM h ad ca) (wr := []) (As := [.int k]) (rest := []) (k := 1) (ci := 1) ⟨hx, hb, hml, hown, hts⟩ (mM_is l D h ad ca (t, on, du, pe, rc, wo, wn) k) (cwV 1 hts (lw_V q177 q179 qs7 q13 q180) rfl rfl rfl (by decide +kernel) ⟨Nat.le_of_ble_eq_true rfl, Nat.le_of_ble_eq_true rfl⟩) hK hP tr_Pnl hD tr_ap.nl hS hA rfl rfl rfl hl.1 rfl (Nat.le_of_ble_eq_true rfl) dX1_period_2 ⟨Nat.zero_le _, Nat.zero_le _⟩ (fun ri u H locs hw hP _ hD _ hS => ?_)
  obtain ⟨rfl, hw⟩ := hw
  have hP : va_P D vwCl (wM h ad ca (t, on, du, pe, rc, wo, wn)) H := hP
  have hD : va_D A (wM h ad ca (t, on, du, pe, rc, wo, wn)) := hD
  have hii := tn_ite hw
  refine lv_if_eq (tgt := 17) hx hb dX1_period_5 (by decide) (fun c1 => ?_) (fun c1 => ?_)
  · refine lv_iconst (v := -1) hx hb dX1_period_17 (by decide) ?_
    exact tr_iret (u := (t, on, du, pe, rc, wo, wn)) hx hb hr hlocks dX1_period_18 hP hK hD hS (⟨rfl, (tm_period_f (t, on, du, pe, rc, wo, wn) (hii.2 c1)).symm⟩)
  · obtain ⟨kn, hkn, ek, hon⟩ := tm_is_i (hii.1 c1)
    subst ek
    refine lv_aload_n hx hb dX1_period_8 rfl (lv_at hl 0 rfl) ?_
    refine va_get (D := D) (ci := 1) (v := .ref (ad 2)) (C := RX1) (T := TX1) (N := 7) hx hb hts in_X1 hown hK hP 0 rfl rfl 3 (by decide) (hts _ q149) (fun _ h9 => h9) rfl dX1_period_9 ?_
    refine lv_iload_n hx hb dX1_period_12 rfl (lv_at hl 1 rfl) ?_
    refine tr_iald (k := kn) hx hb hK hP 3 2 rfl rfl rfl hkn (by decide) dX1_period_13 ?_
    refine lv_goto (tgt := 18) hx hb dX1_period_14 (by decide) ?_
    exact tr_iret (u := (t, on, du, pe, rc, wo, wn)) hx hb hr hlocks dX1_period_18 hP hK hD hS (⟨rfl, (tm_period_t (t, on, du, pe, rc, wo, wn) hkn hon).symm⟩)
set_option maxHeartbeats 4000000 in
set_option maxRecDepth 100000 in
theorem mM_repeat (l : Launch) (D : va_G) (h : Nat) (ad : Nat → Nat) (ca : Nat → ClassId) (u : mS) (k : Int32) (pp : Int32) : tr_Ci l D (kM ca) (wM h ad ca) yX1_repeat cX1_repeat 3 (some .boolean) ({ frames := 1, cells := 0, slots := 0, locals := 21 }) [.ref h, .int k, .int pp] u (fun r v => (v, r) = tm_repeat u k pp) := by
  obtain ⟨t, on, du, pe, rc, wo, wn⟩ := u
  refine tr_enteri (by decide) (Nat.le_of_ble_eq_true rfl) ?_
  intro p e s m below meth c A ls hx hb hr hml hown hts hlocks hA hK hP hD hS hl
  have hown : s.vm.findClass RX1 = some m.cls := hown
  have hP : va_P D vwCl (wM h ad ca (t, on, du, pe, rc, wo, wn)) s.heap := hP
  have hD : va_D A (wM h ad ca (t, on, du, pe, rc, wo, wn)) := hD
  have hl : lv_has ls 3 [(0, .ref h), (1, .int k), (2, .int pp)] := hl
  refine lv_aload_n hx hb dX1_repeat_0 rfl (lv_at hl 0 rfl) ?_
  refine lv_iload_n hx hb dX1_repeat_1 rfl (lv_at hl 1 rfl) ?_
  refine tr_calli (v := (t, on, du, pe, rc, wo, wn)) (wf := wM h ad ca) (wr := []) (As := [.int k]) (rest := []) (k := 1) (ci := 1) ⟨hx, hb, hml, hown, hts⟩ (mM_is l D h ad ca (t, on, du, pe, rc, wo, wn) k) (cwV 1 hts (lw_V q177 q179 qs7 q13 q180) rfl rfl rfl (by decide +kernel) ⟨Nat.le_of_ble_eq_true rfl, Nat.le_of_ble_eq_true rfl⟩) hK hP tr_Pnl hD tr_ap.nl hS hA rfl rfl rfl hl.1 rfl (Nat.le_of_ble_eq_true rfl) dX1_repeat_2 ⟨Nat.zero_le _, Nat.zero_le _⟩ (fun ri u H locs hw hP _ hD _ hS => ?_)
  obtain ⟨rfl, hw⟩ := hw
  have hP : va_P D vwCl (wM h ad ca (t, on, du, pe, rc, wo, wn)) H := hP
  have hD : va_D A (wM h ad ca (t, on, du, pe, rc, wo, wn)) := hD
  have hii := tn_ite hw
  refine lv_if_eq (tgt := 19) hx hb dX1_repeat_5 (by decide) (fun c1 => ?_) (fun c1 => ?_)
  · refine lv_iconst (v := 0) hx hb dX1_repeat_19 (by decide) ?_
    exact tr_zret (u := (t, on, du, pe, rc, wo, wn)) hx hb hr hlocks dX1_repeat_20 (by decide) hP hK hD hS ((tm_repeat_f1 (t, on, du, pe, rc, wo, wn) (hii.2 c1)).symm)
  · refine lv_iload_n hx hb dX1_repeat_8 rfl (lv_at hl 2 rfl) ?_
    refine lv_if_lt (tgt := 19) hx hb dX1_repeat_9 (by decide) (fun c2 => ?_) (fun c2 => ?_)
    · refine lv_iconst (v := 0) hx hb dX1_repeat_19 (by decide) ?_
      exact tr_zret (u := (t, on, du, pe, rc, wo, wn)) hx hb hr hlocks dX1_repeat_20 (by decide) hP hK hD hS ((tm_repeat_f2 (t, on, du, pe, rc, wo, wn) c2).symm)
    · refine lv_iload_n hx hb dX1_repeat_12 rfl (lv_at hl 2 rfl) ?_
      refine lv_sipush (v := 500) hx hb dX1_repeat_13 (by decide) ?_
      refine lv_icmp_le (tgt := 21) hx hb dX1_repeat_16 (by decide) (fun c3 => ?_) (fun c3 => ?_)
      · obtain ⟨kn, hkn, ek, hon⟩ := tm_is_i (hii.1 c1)
        subst ek
        refine lv_aload_n hx hb dX1_repeat_21 rfl (lv_at hl 0 rfl) ?_
        refine va_get (D := D) (ci := 1) (v := .ref (ad 2)) (C := RX1) (T := TX1) (N := 7) hx hb hts in_X1 hown hK hP 0 rfl rfl 3 (by decide) (hts _ q149) (fun _ h9 => h9) rfl dX1_repeat_22 ?_
        refine lv_iload_n hx hb dX1_repeat_25 rfl (lv_at hl 1 rfl) ?_
        refine lv_iload_n hx hb dX1_repeat_26 rfl (lv_at hl 2 rfl) ?_
        refine tr_iast (k := kn) hx hb hK hP hD hS 3 2 rfl rfl rfl hkn (by decide) dX1_repeat_27 (fun H locs hP hD hS => ?_)
        have hP : va_P D vwCl (wM h ad ca (t, on, du, (upd pe kn pp), rc, wo, wn)) H := hP
        have hD : va_D A (wM h ad ca (t, on, du, (upd pe kn pp), rc, wo, wn)) := hD
        refine lv_iconst (v := 1) hx hb dX1_repeat_28 (by decide) ?_
        exact tr_zret (u := (t, on, du, (upd pe kn pp), rc, wo, wn)) hx hb hr hlocks dX1_repeat_29 (by decide) hP hK hD hS ((tm_repeat_t (t, on, du, pe, rc, wo, wn) hkn hon c2 (Int32.not_lt.mpr c3)).symm)
      · refine lv_iconst (v := 0) hx hb dX1_repeat_19 (by decide) ?_
        exact tr_zret (u := (t, on, du, pe, rc, wo, wn)) hx hb hr hlocks dX1_repeat_20 (by decide) hP hK hD hS ((tm_repeat_f3 (t, on, du, pe, rc, wo, wn) (Int32.not_le.mp c3)).symm)
set_option maxHeartbeats 4000000 in
set_option maxRecDepth 100000 in
theorem mM_now (l : Launch) (D : va_G) (h : Nat) (ad : Nat → Nat) (ca : Nat → ClassId) (u : mS) : tr_Ci l D (kM ca) (wM h ad ca) yX1_now cX1_now 1 (some .int) ({ frames := 0, cells := 0, slots := 0, locals := 0 }) [.ref h] u (fun r v => v = u ∧ r = nI (tm_t u)) := by
  obtain ⟨t, on, du, pe, rc, wo, wn⟩ := u
  refine tr_enteri (by decide) (Nat.le_of_ble_eq_true rfl) ?_
  intro p e s m below meth c A ls hx hb hr hml hown hts hlocks hA hK hP hD hS hl
  have hown : s.vm.findClass RX1 = some m.cls := hown
  have hP : va_P D vwCl (wM h ad ca (t, on, du, pe, rc, wo, wn)) s.heap := hP
  have hD : va_D A (wM h ad ca (t, on, du, pe, rc, wo, wn)) := hD
  have hl : lv_has ls 1 [(0, .ref h)] := hl
  refine lv_aload_n hx hb dX1_now_0 rfl (lv_at hl 0 rfl) ?_
  refine va_get (D := D) (ci := 1) (v := .int (nI t)) (C := RX1) (T := TX1) (N := 7) hx hb hts in_X1 hown hK hP 0 rfl rfl 0 (by decide) (hts _ q146) (fun _ h9 => h9) rfl dX1_now_1 ?_
  exact tr_iret (u := (t, on, du, pe, rc, wo, wn)) hx hb hr hlocks dX1_now_4 hP hK hD hS (⟨rfl, rfl⟩)
set_option maxHeartbeats 4000000 in
set_option maxRecDepth 100000 in
theorem mM_rings (l : Launch) (D : va_G) (h : Nat) (ad : Nat → Nat) (ca : Nat → ClassId) (u : mS) : tr_Ci l D (kM ca) (wM h ad ca) yX1_rings cX1_rings 1 (some .int) ({ frames := 0, cells := 0, slots := 0, locals := 0 }) [.ref h] u (fun r v => v = u ∧ r = nI (tm_rc u)) := by
  obtain ⟨t, on, du, pe, rc, wo, wn⟩ := u
  refine tr_enteri (by decide) (Nat.le_of_ble_eq_true rfl) ?_
  intro p e s m below meth c A ls hx hb hr hml hown hts hlocks hA hK hP hD hS hl
  have hown : s.vm.findClass RX1 = some m.cls := hown
  have hP : va_P D vwCl (wM h ad ca (t, on, du, pe, rc, wo, wn)) s.heap := hP
  have hD : va_D A (wM h ad ca (t, on, du, pe, rc, wo, wn)) := hD
  have hl : lv_has ls 1 [(0, .ref h)] := hl
  refine lv_aload_n hx hb dX1_rings_0 rfl (lv_at hl 0 rfl) ?_
  refine va_get (D := D) (ci := 1) (v := .int (nI rc)) (C := RX1) (T := TX1) (N := 7) hx hb hts in_X1 hown hK hP 0 rfl rfl 4 (by decide) (hts _ q150) (fun _ h9 => h9) rfl dX1_rings_1 ?_
  exact tr_iret (u := (t, on, du, pe, rc, wo, wn)) hx hb hr hlocks dX1_rings_4 hP hK hD hS (⟨rfl, rfl⟩)
set_option maxHeartbeats 4000000 in
set_option maxRecDepth 100000 in
theorem mM_rung (l : Launch) (D : va_G) (h : Nat) (ad : Nat → Nat) (ca : Nat → ClassId) (u : mS) (i : Int32) : tr_Ci l D (kM ca) (wM h ad ca) yX1_rung cX1_rung 2 (some .int) ({ frames := 1, cells := 0, slots := 0, locals := 21 }) [.ref h, .int i] u (fun r v => v = u ∧ r = tm_rung u i) := by
  obtain ⟨t, on, du, pe, rc, wo, wn⟩ := u
  refine tr_enteri (by decide) (Nat.le_of_ble_eq_true rfl) ?_
  intro p e s m below meth c A ls hx hb hr hml hown hts hlocks hA hK hP hD hS hl
  have hown : s.vm.findClass RX1 = some m.cls := hown
  have hP : va_P D vwCl (wM h ad ca (t, on, du, pe, rc, wo, wn)) s.heap := hP
  have hD : va_D A (wM h ad ca (t, on, du, pe, rc, wo, wn)) := hD
  have hl : lv_has ls 2 [(0, .ref h), (1, .int i)] := hl
  refine lv_aload_n hx hb dX1_rung_0 rfl (lv_at hl 0 rfl) ?_
  refine lv_iload_n hx hb dX1_rung_1 rfl (lv_at hl 1 rfl) ?_
  refine tr_calli (v := (t, on, du, pe, rc, wo, wn)) (wf := wM h ad ca) (wr := []) (As := [.int i]) (rest := []) (k := 1) (ci := 1) ⟨hx, hb, hml, hown, hts⟩ (mM_kept l D h ad ca (t, on, du, pe, rc, wo, wn) i) (cwV 1 hts (lw_V q226 q228 qs10 q13 q229) rfl rfl rfl (by decide +kernel) ⟨Nat.le_of_ble_eq_true rfl, Nat.le_of_ble_eq_true rfl⟩) hK hP tr_Pnl hD tr_ap.nl hS hA rfl rfl rfl hl.1 rfl (Nat.le_of_ble_eq_true rfl) dX1_rung_2 ⟨Nat.zero_le _, Nat.zero_le _⟩ (fun ri u H locs hw hP _ hD _ hS => ?_)
  obtain ⟨rfl, hw⟩ := hw
  have hP : va_P D vwCl (wM h ad ca (t, on, du, pe, rc, wo, wn)) H := hP
  have hD : va_D A (wM h ad ca (t, on, du, pe, rc, wo, wn)) := hD
  have hii := tn_ite hw
  refine lv_if_eq (tgt := 17) hx hb dX1_rung_5 (by decide) (fun c1 => ?_) (fun c1 => ?_)
  · refine lv_bipush (v := -2) hx hb dX1_rung_17 (by decide) ?_
    exact tr_iret (u := (t, on, du, pe, rc, wo, wn)) hx hb hr hlocks dX1_rung_19 hP hK hD hS (⟨rfl, (tm_rung_f (t, on, du, pe, rc, wo, wn) (hii.2 c1)).symm⟩)
  · have hno : tm_kept rc i = true := hii.1 c1
    obtain ⟨n, hn, ei⟩ := tm_kept_i hno
    subst ei
    refine lv_aload_n hx hb dX1_rung_8 rfl (lv_at hl 0 rfl) ?_
    refine va_get (D := D) (ci := 1) (v := .ref (ad 3)) (C := RX1) (T := TX1) (N := 7) hx hb hts in_X1 hown hK hP 0 rfl rfl 5 (by decide) (hts _ q151) (fun _ h9 => h9) rfl dX1_rung_9 ?_
    refine lv_iload_n hx hb dX1_rung_12 rfl (lv_at hl 1 rfl) ?_
    refine tr_iald (k := n) hx hb hK hP 4 3 rfl rfl rfl hn (by decide) dX1_rung_13 ?_
    refine lv_goto (tgt := 19) hx hb dX1_rung_14 (by decide) ?_
    exact tr_iret (u := (t, on, du, pe, rc, wo, wn)) hx hb hr hlocks dX1_rung_19 hP hK hD hS (⟨rfl, (tm_rung_t (t, on, du, pe, rc, wo, wn) hn hno).symm⟩)
set_option maxHeartbeats 4000000 in
set_option maxRecDepth 100000 in
theorem mM_rungAt (l : Launch) (D : va_G) (h : Nat) (ad : Nat → Nat) (ca : Nat → ClassId) (u : mS) (i : Int32) : tr_Ci l D (kM ca) (wM h ad ca) yX1_rungAt cX1_rungAt 2 (some .int) ({ frames := 1, cells := 0, slots := 0, locals := 21 }) [.ref h, .int i] u (fun r v => v = u ∧ r = tm_rungAt u i) := by
  obtain ⟨t, on, du, pe, rc, wo, wn⟩ := u
  refine tr_enteri (by decide) (Nat.le_of_ble_eq_true rfl) ?_
  intro p e s m below meth c A ls hx hb hr hml hown hts hlocks hA hK hP hD hS hl
  have hown : s.vm.findClass RX1 = some m.cls := hown
  have hP : va_P D vwCl (wM h ad ca (t, on, du, pe, rc, wo, wn)) s.heap := hP
  have hD : va_D A (wM h ad ca (t, on, du, pe, rc, wo, wn)) := hD
  have hl : lv_has ls 2 [(0, .ref h), (1, .int i)] := hl
  refine lv_aload_n hx hb dX1_rungAt_0 rfl (lv_at hl 0 rfl) ?_
  refine lv_iload_n hx hb dX1_rungAt_1 rfl (lv_at hl 1 rfl) ?_
  refine tr_calli (v := (t, on, du, pe, rc, wo, wn)) (wf := wM h ad ca) (wr := []) (As := [.int i]) (rest := []) (k := 1) (ci := 1) ⟨hx, hb, hml, hown, hts⟩ (mM_kept l D h ad ca (t, on, du, pe, rc, wo, wn) i) (cwV 1 hts (lw_V q226 q228 qs10 q13 q229) rfl rfl rfl (by decide +kernel) ⟨Nat.le_of_ble_eq_true rfl, Nat.le_of_ble_eq_true rfl⟩) hK hP tr_Pnl hD tr_ap.nl hS hA rfl rfl rfl hl.1 rfl (Nat.le_of_ble_eq_true rfl) dX1_rungAt_2 ⟨Nat.zero_le _, Nat.zero_le _⟩ (fun ri u H locs hw hP _ hD _ hS => ?_)
  obtain ⟨rfl, hw⟩ := hw
  have hP : va_P D vwCl (wM h ad ca (t, on, du, pe, rc, wo, wn)) H := hP
  have hD : va_D A (wM h ad ca (t, on, du, pe, rc, wo, wn)) := hD
  have hii := tn_ite hw
  refine lv_if_eq (tgt := 17) hx hb dX1_rungAt_5 (by decide) (fun c1 => ?_) (fun c1 => ?_)
  · refine lv_bipush (v := -2) hx hb dX1_rungAt_17 (by decide) ?_
    exact tr_iret (u := (t, on, du, pe, rc, wo, wn)) hx hb hr hlocks dX1_rungAt_19 hP hK hD hS (⟨rfl, (tm_rungAt_f (t, on, du, pe, rc, wo, wn) (hii.2 c1)).symm⟩)
  · have hno : tm_kept rc i = true := hii.1 c1
    obtain ⟨n, hn, ei⟩ := tm_kept_i hno
    subst ei
    refine lv_aload_n hx hb dX1_rungAt_8 rfl (lv_at hl 0 rfl) ?_
    refine va_get (D := D) (ci := 1) (v := .ref (ad 4)) (C := RX1) (T := TX1) (N := 7) hx hb hts in_X1 hown hK hP 0 rfl rfl 6 (by decide) (hts _ q152) (fun _ h9 => h9) rfl dX1_rungAt_9 ?_
    refine lv_iload_n hx hb dX1_rungAt_12 rfl (lv_at hl 1 rfl) ?_
    refine tr_iald (k := n) hx hb hK hP 5 4 rfl rfl rfl hn (by decide) dX1_rungAt_13 ?_
    refine lv_goto (tgt := 19) hx hb dX1_rungAt_14 (by decide) ?_
    exact tr_iret (u := (t, on, du, pe, rc, wo, wn)) hx hb hr hlocks dX1_rungAt_19 hP hK hD hS (⟨rfl, (tm_rungAt_t (t, on, du, pe, rc, wo, wn) hn hno).symm⟩)
end
section
/-! TimerWheelModel: its loops -/
set_option maxHeartbeats 4000000 in
set_option maxRecDepth 100000 in
theorem mM_ring (l : Launch) (D : va_G) (h : Nat) (ad : Nat → Nat) (ca : Nat → ClassId) (u : mS) (k : Nat) (hk : k < 16) : tr_Cv l D (kM ca) (wM h ad ca) yX1_ring cX1_ring 3 ({ frames := 0, cells := 0, slots := 0, locals := 0 }) [.ref h, .int (nI k)] u (fun v => v = tm_ring u k) := by
  obtain ⟨t, on, du, pe, rc, wo, wn⟩ := u
  refine tr_enterv (by decide) (Nat.le_of_ble_eq_true rfl) ?_
  intro p e s m below meth c A ls hx hb hr hml hown hts hlocks hA hK hP hD hS hl
  have hown : s.vm.findClass RX1 = some m.cls := hown
  have hP : va_P D vwCl (wM h ad ca (t, on, du, pe, rc, wo, wn)) s.heap := hP
  have hD : va_D A (wM h ad ca (t, on, du, pe, rc, wo, wn)) := hD
  have hl : lv_has ls 3 [(0, .ref h), (1, .int (nI k))] := hl
  refine lv_bipush (v := 19) hx hb dX1_ring_0 (by decide) ?_
  refine tr_re (z' := nI 19) rfl ?_
  refine lv_istore_n (lv' := [(2, .int (nI 19)), (0, .ref h), (1, .int (nI k))]) hx hb dX1_ring_2 rfl hl (by decide) rfl (fun ls hl => ?_)
  have loop : ∀ (r j : Nat) (wo1 wn1 : Nat → Int32) (H : Heap) (locs : List Loc) (ls : Array Slot), j + r = 19 → wo1 = tm_sh wo j → wn1 = tm_sh wn j → va_P D vwCl (wM h ad ca (t, on, du, pe, rc, wo1, wn1)) H → va_D A (wM h ad ca (t, on, du, pe, rc, wo1, wn1)) → va_S A s.heap H locs → lv_has ls 3 [(0, .ref h), (1, .int (nI k)), (2, .int (nI r))] → W p l e ({ frames := 0, cells := 0, slots := 0, locals := 0 }) s m ([.ref h, .int (nI k)] : List Value).toArray below meth c H locs 0 0 (MQ below (va_Qv (fun v => v = tm_ring (t, on, du, pe, rc, wo, wn) k) (tr_B D (kM ca) (wM h ad ca) A) A) ([.ref h, .int (nI k)] : List Value).toArray s 0 0 A) (F0 m 3 ls []) := by
    intro r
    induction r with
    | zero =>
      intro j wo1 wn1 H locs ls hj e1 e2 hP hD hS hl
      refine lv_iload_n hx hb dX1_ring_3 rfl (lv_at hl 2 rfl) ?_
      refine lv_if_le (tgt := 41) hx hb dX1_ring_4 (by decide) (fun c1 => ?_) (fun c1 => absurd (by decide) c1)
      refine lv_aload_n hx hb dX1_ring_41 rfl (lv_at hl 0 rfl) ?_
      refine va_get (D := D) (ci := 1) (v := .ref (ad 3)) (C := RX1) (T := TX1) (N := 7) hx hb hts in_X1 hown hK hP 0 rfl rfl 5 (by decide) (hts _ q151) (fun _ h9 => h9) rfl dX1_ring_42 ?_
      refine lv_iconst (v := 0) hx hb dX1_ring_45 (by decide) ?_
      refine lv_iload_n hx hb dX1_ring_46 rfl (lv_at hl 1 rfl) ?_
      refine tr_iast (k := 0) hx hb hK hP hD hS 4 3 rfl rfl rfl (by decide) (by decide) dX1_ring_47 (fun H locs hP hD hS => ?_)
      have hP : va_P D vwCl (wM h ad ca (t, on, du, pe, rc, (upd wo1 0 (nI k)), wn1)) H := hP
      have hD : va_D A (wM h ad ca (t, on, du, pe, rc, (upd wo1 0 (nI k)), wn1)) := hD
      refine lv_aload_n hx hb dX1_ring_48 rfl (lv_at hl 0 rfl) ?_
      refine va_get (D := D) (ci := 1) (v := .ref (ad 4)) (C := RX1) (T := TX1) (N := 7) hx hb hts in_X1 hown hK hP 0 rfl rfl 6 (by decide) (hts _ q152) (fun _ h9 => h9) rfl dX1_ring_49 ?_
      refine lv_iconst (v := 0) hx hb dX1_ring_52 (by decide) ?_
      refine lv_aload_n hx hb dX1_ring_53 rfl (lv_at hl 0 rfl) ?_
      refine va_get (D := D) (ci := 1) (v := .int (nI t)) (C := RX1) (T := TX1) (N := 7) hx hb hts in_X1 hown hK hP 0 rfl rfl 0 (by decide) (hts _ q146) (fun _ h9 => h9) rfl dX1_ring_54 ?_
      refine tr_iast (k := 0) hx hb hK hP hD hS 5 4 rfl rfl rfl (by decide) (by decide) dX1_ring_57 (fun H locs hP hD hS => ?_)
      have hP : va_P D vwCl (wM h ad ca (t, on, du, pe, rc, (upd wo1 0 (nI k)), (upd wn1 0 (nI t)))) H := hP
      have hD : va_D A (wM h ad ca (t, on, du, pe, rc, (upd wo1 0 (nI k)), (upd wn1 0 (nI t)))) := hD
      refine lv_aload_n hx hb dX1_ring_58 rfl (lv_at hl 0 rfl) ?_
      refine lv_dup hx hb dX1_ring_59 rfl ?_
      refine va_get (D := D) (ci := 1) (v := .int (nI rc)) (C := RX1) (T := TX1) (N := 7) hx hb hts in_X1 hown hK hP 0 rfl rfl 4 (by decide) (hts _ q150) (fun _ h9 => h9) rfl dX1_ring_60 ?_
      refine lv_iconst (v := 1) hx hb dX1_ring_63 (by decide) ?_
      refine lv_iadd hx hb dX1_ring_64 ?_
      refine tr_re (z' := nI (rc + 1)) (nI_1 rc) ?_
      refine va_put (D := D) (ci := 1) (v := .int (nI (rc + 1))) (ty := .int) (C := RX1) (T := TX1) (N := 7) hx hb hts in_X1 tyX1 tyX1_ok nmX1 hown hK hP hD hS 0 rfl rfl 4 (by decide) (hts _ q150) (fun _ h9 => h9) rfl (by decide +kernel) rfl rfl (Nat.le_of_ble_eq_true rfl) dX1_ring_65 (fun H locs hP hD hS => ?_)
      have hP : va_P D vwCl (wM h ad ca (t, on, du, pe, (rc + 1), (upd wo1 0 (nI k)), (upd wn1 0 (nI t)))) H := hP
      have hD : va_D A (wM h ad ca (t, on, du, pe, (rc + 1), (upd wo1 0 (nI k)), (upd wn1 0 (nI t)))) := hD
      refine lv_aload_n hx hb dX1_ring_68 rfl (lv_at hl 0 rfl) ?_
      refine va_get (D := D) (ci := 1) (v := .ref (ad 0)) (C := RX1) (T := TX1) (N := 7) hx hb hts in_X1 hown hK hP 0 rfl rfl 1 (by decide) (hts _ q147) (fun _ h9 => h9) rfl dX1_ring_69 ?_
      refine lv_iload_n hx hb dX1_ring_72 rfl (lv_at hl 1 rfl) ?_
      refine lv_aload_n hx hb dX1_ring_73 rfl (lv_at hl 0 rfl) ?_
      refine va_get (D := D) (ci := 1) (v := .ref (ad 2)) (C := RX1) (T := TX1) (N := 7) hx hb hts in_X1 hown hK hP 0 rfl rfl 3 (by decide) (hts _ q149) (fun _ h9 => h9) rfl dX1_ring_74 ?_
      refine lv_iload_n hx hb dX1_ring_77 rfl (lv_at hl 1 rfl) ?_
      refine tr_iald (k := k) hx hb hK hP 3 2 rfl rfl rfl hk (by decide) dX1_ring_78 ?_
      refine lv_if_le (tgt := 86) hx hb dX1_ring_79 (by decide) (fun c2 => ?_) (fun c2 => ?_)
      · refine lv_iconst (v := 0) hx hb dX1_ring_86 (by decide) ?_
        refine tr_zast (k := k) (z' := 0) hx hb hK hP hD hS 1 0 rfl rfl rfl hk (by decide) rfl dX1_ring_87 (fun H locs hP hD hS => ?_)
        have hP : va_P D vwCl (wM h ad ca (t, (upd on k 0), du, pe, (rc + 1), (upd wo1 0 (nI k)), (upd wn1 0 (nI t)))) H := hP
        have hD : va_D A (wM h ad ca (t, (upd on k 0), du, pe, (rc + 1), (upd wo1 0 (nI k)), (upd wn1 0 (nI t)))) := hD
        refine lv_aload_n hx hb dX1_ring_88 rfl (lv_at hl 0 rfl) ?_
        refine va_get (D := D) (ci := 1) (v := .ref (ad 1)) (C := RX1) (T := TX1) (N := 7) hx hb hts in_X1 hown hK hP 0 rfl rfl 2 (by decide) (hts _ q148) (fun _ h9 => h9) rfl dX1_ring_89 ?_
        refine lv_iload_n hx hb dX1_ring_92 rfl (lv_at hl 1 rfl) ?_
        refine lv_aload_n hx hb dX1_ring_93 rfl (lv_at hl 0 rfl) ?_
        refine va_get (D := D) (ci := 1) (v := .ref (ad 1)) (C := RX1) (T := TX1) (N := 7) hx hb hts in_X1 hown hK hP 0 rfl rfl 2 (by decide) (hts _ q148) (fun _ h9 => h9) rfl dX1_ring_94 ?_
        refine lv_iload_n hx hb dX1_ring_97 rfl (lv_at hl 1 rfl) ?_
        refine tr_iald (k := k) hx hb hK hP 2 1 rfl rfl rfl hk (by decide) dX1_ring_98 ?_
        refine lv_aload_n hx hb dX1_ring_99 rfl (lv_at hl 0 rfl) ?_
        refine va_get (D := D) (ci := 1) (v := .ref (ad 2)) (C := RX1) (T := TX1) (N := 7) hx hb hts in_X1 hown hK hP 0 rfl rfl 3 (by decide) (hts _ q149) (fun _ h9 => h9) rfl dX1_ring_100 ?_
        refine lv_iload_n hx hb dX1_ring_103 rfl (lv_at hl 1 rfl) ?_
        refine tr_iald (k := k) hx hb hK hP 3 2 rfl rfl rfl hk (by decide) dX1_ring_104 ?_
        refine lv_iadd hx hb dX1_ring_105 ?_
        refine tr_iast (k := k) hx hb hK hP hD hS 2 1 rfl rfl rfl hk (by decide) dX1_ring_106 (fun H locs hP hD hS => ?_)
        have hP : va_P D vwCl (wM h ad ca (t, (upd on k 0), (upd du k ((du k) + (pe k))), pe, (rc + 1), (upd wo1 0 (nI k)), (upd wn1 0 (nI t)))) H := hP
        have hD : va_D A (wM h ad ca (t, (upd on k 0), (upd du k ((du k) + (pe k))), pe, (rc + 1), (upd wo1 0 (nI k)), (upd wn1 0 (nI t)))) := hD
        obtain rfl : j = 19 := by omega
        exact tr_vret (u := (t, (upd on k 0), (upd du k ((du k) + (pe k))), pe, (rc + 1), (upd wo1 0 (nI k)), (upd wn1 0 (nI t)))) hx hb hr hlocks dX1_ring_107 hP hK hD hS (by rw [e1, e2]; unfold tm_ring; rw [if_pos (show tm_pe (t, on, du, pe, rc, wo, wn) k ≤ 0 from c2)])
      · refine lv_iconst (v := 1) hx hb dX1_ring_82 (by decide) ?_
        refine lv_goto (tgt := 87) hx hb dX1_ring_83 (by decide) ?_
        refine tr_zast (k := k) (z' := 1) hx hb hK hP hD hS 1 0 rfl rfl rfl hk (by decide) rfl dX1_ring_87 (fun H locs hP hD hS => ?_)
        have hP : va_P D vwCl (wM h ad ca (t, (upd on k 1), du, pe, (rc + 1), (upd wo1 0 (nI k)), (upd wn1 0 (nI t)))) H := hP
        have hD : va_D A (wM h ad ca (t, (upd on k 1), du, pe, (rc + 1), (upd wo1 0 (nI k)), (upd wn1 0 (nI t)))) := hD
        refine lv_aload_n hx hb dX1_ring_88 rfl (lv_at hl 0 rfl) ?_
        refine va_get (D := D) (ci := 1) (v := .ref (ad 1)) (C := RX1) (T := TX1) (N := 7) hx hb hts in_X1 hown hK hP 0 rfl rfl 2 (by decide) (hts _ q148) (fun _ h9 => h9) rfl dX1_ring_89 ?_
        refine lv_iload_n hx hb dX1_ring_92 rfl (lv_at hl 1 rfl) ?_
        refine lv_aload_n hx hb dX1_ring_93 rfl (lv_at hl 0 rfl) ?_
        refine va_get (D := D) (ci := 1) (v := .ref (ad 1)) (C := RX1) (T := TX1) (N := 7) hx hb hts in_X1 hown hK hP 0 rfl rfl 2 (by decide) (hts _ q148) (fun _ h9 => h9) rfl dX1_ring_94 ?_
        refine lv_iload_n hx hb dX1_ring_97 rfl (lv_at hl 1 rfl) ?_
        refine tr_iald (k := k) hx hb hK hP 2 1 rfl rfl rfl hk (by decide) dX1_ring_98 ?_
        refine lv_aload_n hx hb dX1_ring_99 rfl (lv_at hl 0 rfl) ?_
        refine va_get (D := D) (ci := 1) (v := .ref (ad 2)) (C := RX1) (T := TX1) (N := 7) hx hb hts in_X1 hown hK hP 0 rfl rfl 3 (by decide) (hts _ q149) (fun _ h9 => h9) rfl dX1_ring_100 ?_
        refine lv_iload_n hx hb dX1_ring_103 rfl (lv_at hl 1 rfl) ?_
        refine tr_iald (k := k) hx hb hK hP 3 2 rfl rfl rfl hk (by decide) dX1_ring_104 ?_
        refine lv_iadd hx hb dX1_ring_105 ?_
        refine tr_iast (k := k) hx hb hK hP hD hS 2 1 rfl rfl rfl hk (by decide) dX1_ring_106 (fun H locs hP hD hS => ?_)
        have hP : va_P D vwCl (wM h ad ca (t, (upd on k 1), (upd du k ((du k) + (pe k))), pe, (rc + 1), (upd wo1 0 (nI k)), (upd wn1 0 (nI t)))) H := hP
        have hD : va_D A (wM h ad ca (t, (upd on k 1), (upd du k ((du k) + (pe k))), pe, (rc + 1), (upd wo1 0 (nI k)), (upd wn1 0 (nI t)))) := hD
        obtain rfl : j = 19 := by omega
        exact tr_vret (u := (t, (upd on k 1), (upd du k ((du k) + (pe k))), pe, (rc + 1), (upd wo1 0 (nI k)), (upd wn1 0 (nI t)))) hx hb hr hlocks dX1_ring_107 hP hK hD hS (by rw [e1, e2]; unfold tm_ring; rw [if_neg (show ¬ tm_pe (t, on, du, pe, rc, wo, wn) k ≤ 0 from c2)])
    | succ r ih =>
      intro j wo1 wn1 H locs ls hj e1 e2 hP hD hS hl
      refine lv_iload_n hx hb dX1_ring_3 rfl (lv_at hl 2 rfl) ?_
      refine lv_if_le (tgt := 41) hx hb dX1_ring_4 (by decide) (fun c1 => absurd c1 (nI_nle (by omega) (by omega))) (fun c1 => ?_)
      refine lv_aload_n hx hb dX1_ring_7 rfl (lv_at hl 0 rfl) ?_
      refine va_get (D := D) (ci := 1) (v := .ref (ad 3)) (C := RX1) (T := TX1) (N := 7) hx hb hts in_X1 hown hK hP 0 rfl rfl 5 (by decide) (hts _ q151) (fun _ h9 => h9) rfl dX1_ring_8 ?_
      refine lv_iload_n hx hb dX1_ring_11 rfl (lv_at hl 2 rfl) ?_
      refine lv_aload_n hx hb dX1_ring_12 rfl (lv_at hl 0 rfl) ?_
      refine va_get (D := D) (ci := 1) (v := .ref (ad 3)) (C := RX1) (T := TX1) (N := 7) hx hb hts in_X1 hown hK hP 0 rfl rfl 5 (by decide) (hts _ q151) (fun _ h9 => h9) rfl dX1_ring_13 ?_
      refine lv_iload_n hx hb dX1_ring_16 rfl (lv_at hl 2 rfl) ?_
      refine lv_iconst (v := 1) hx hb dX1_ring_17 (by decide) ?_
      refine lv_isub hx hb dX1_ring_18 ?_
      refine tr_re (z' := nI r) (nI_pred r) ?_
      refine tr_iald (k := r) hx hb hK hP 4 3 rfl rfl rfl (by omega) (by decide) dX1_ring_19 ?_
      refine tr_iast (k := (r + 1)) hx hb hK hP hD hS 4 3 rfl rfl rfl (by omega) (by decide) dX1_ring_20 (fun H locs hP hD hS => ?_)
      have hP : va_P D vwCl (wM h ad ca (t, on, du, pe, rc, (upd wo1 (r + 1) (wo1 r)), wn1)) H := hP
      have hD : va_D A (wM h ad ca (t, on, du, pe, rc, (upd wo1 (r + 1) (wo1 r)), wn1)) := hD
      refine lv_aload_n hx hb dX1_ring_21 rfl (lv_at hl 0 rfl) ?_
      refine va_get (D := D) (ci := 1) (v := .ref (ad 4)) (C := RX1) (T := TX1) (N := 7) hx hb hts in_X1 hown hK hP 0 rfl rfl 6 (by decide) (hts _ q152) (fun _ h9 => h9) rfl dX1_ring_22 ?_
      refine lv_iload_n hx hb dX1_ring_25 rfl (lv_at hl 2 rfl) ?_
      refine lv_aload_n hx hb dX1_ring_26 rfl (lv_at hl 0 rfl) ?_
      refine va_get (D := D) (ci := 1) (v := .ref (ad 4)) (C := RX1) (T := TX1) (N := 7) hx hb hts in_X1 hown hK hP 0 rfl rfl 6 (by decide) (hts _ q152) (fun _ h9 => h9) rfl dX1_ring_27 ?_
      refine lv_iload_n hx hb dX1_ring_30 rfl (lv_at hl 2 rfl) ?_
      refine lv_iconst (v := 1) hx hb dX1_ring_31 (by decide) ?_
      refine lv_isub hx hb dX1_ring_32 ?_
      refine tr_re (z' := nI r) (nI_pred r) ?_
      refine tr_iald (k := r) hx hb hK hP 5 4 rfl rfl rfl (by omega) (by decide) dX1_ring_33 ?_
      refine tr_iast (k := (r + 1)) hx hb hK hP hD hS 5 4 rfl rfl rfl (by omega) (by decide) dX1_ring_34 (fun H locs hP hD hS => ?_)
      have hP : va_P D vwCl (wM h ad ca (t, on, du, pe, rc, (upd wo1 (r + 1) (wo1 r)), (upd wn1 (r + 1) (wn1 r)))) H := hP
      have hD : va_D A (wM h ad ca (t, on, du, pe, rc, (upd wo1 (r + 1) (wo1 r)), (upd wn1 (r + 1) (wn1 r)))) := hD
      refine lv_iinc (v := nI r) (lv' := [(2, .int (nI r)), (0, .ref h), (1, .int (nI k))]) hx hb dX1_ring_35 hl (k := 2) rfl (pk_m1 r) (by decide) rfl (fun ls hl => ?_)
      refine lv_goto (tgt := 3) hx hb dX1_ring_38 (by decide) ?_
      exact ih (j + 1) _ _ _ _ _ (by omega) (by rw [tm_sh_go wo hj, ← e1]) (by rw [tm_sh_go wn hj, ← e2]) hP hD hS (lv_sub hl [1, 2, 0] rfl)
  exact loop 19 0 wo wn _ _ _ rfl rfl rfl hP hD hS (lv_sub hl [1, 2, 0] rfl)
set_option maxHeartbeats 4000000 in
set_option maxRecDepth 100000 in
theorem mM_tick (l : Launch) (D : va_G) (h : Nat) (ad : Nat → Nat) (ca : Nat → ClassId) (u : mS) : tr_Ci l D (kM ca) (wM h ad ca) yX1_tick cX1_tick 3 (some .int) ({ frames := 1, cells := 0, slots := 0, locals := 22 }) [.ref h] u (fun r v => ∃ q : Nat, (v, q) = tm_tick u ∧ r = nI q) := by
  obtain ⟨t, on, du, pe, rc, wo, wn⟩ := u
  refine tr_enteri (by decide) (Nat.le_of_ble_eq_true rfl) ?_
  intro p e s m below meth c A ls hx hb hr hml hown hts hlocks hA hK hP hD hS hl
  have hown : s.vm.findClass RX1 = some m.cls := hown
  have hP : va_P D vwCl (wM h ad ca (t, on, du, pe, rc, wo, wn)) s.heap := hP
  have hD : va_D A (wM h ad ca (t, on, du, pe, rc, wo, wn)) := hD
  have hl : lv_has ls 3 [(0, .ref h)] := hl
  refine lv_aload_n hx hb dX1_tick_0 rfl (lv_at hl 0 rfl) ?_
  refine lv_dup hx hb dX1_tick_1 rfl ?_
  refine va_get (D := D) (ci := 1) (v := .int (nI t)) (C := RX1) (T := TX1) (N := 7) hx hb hts in_X1 hown hK hP 0 rfl rfl 0 (by decide) (hts _ q146) (fun _ h9 => h9) rfl dX1_tick_2 ?_
  refine lv_iconst (v := 1) hx hb dX1_tick_5 (by decide) ?_
  refine lv_iadd hx hb dX1_tick_6 ?_
  refine tr_re (z' := nI (t + 1)) (nI_1 t) ?_
  refine va_put (D := D) (ci := 1) (v := .int (nI (t + 1))) (ty := .int) (C := RX1) (T := TX1) (N := 7) hx hb hts in_X1 tyX1 tyX1_ok nmX1 hown hK hP hD hS 0 rfl rfl 0 (by decide) (hts _ q146) (fun _ h9 => h9) rfl (by decide +kernel) rfl rfl (Nat.le_of_ble_eq_true rfl) dX1_tick_7 (fun H locs hP hD hS => ?_)
  have hP : va_P D vwCl (wM h ad ca ((t + 1), on, du, pe, rc, wo, wn)) H := hP
  have hD : va_D A (wM h ad ca ((t + 1), on, du, pe, rc, wo, wn)) := hD
  refine lv_iconst (v := 0) hx hb dX1_tick_10 (by decide) ?_
  refine tr_re (z' := nI 0) nI_0.symm ?_
  refine lv_istore_n (lv' := [(1, .int (nI 0)), (0, .ref h)]) hx hb dX1_tick_11 rfl hl (by decide) rfl (fun ls hl => ?_)
  refine lv_iconst (v := 0) hx hb dX1_tick_12 (by decide) ?_
  refine tr_re (z' := nI 0) nI_0.symm ?_
  refine lv_istore_n (lv' := [(2, .int (nI 0)), (1, .int (nI 0)), (0, .ref h)]) hx hb dX1_tick_13 rfl hl (by decide) rfl (fun ls hl => ?_)
  have loop : ∀ (f i a : Nat) (v : mS) (H : Heap) (locs : List Loc) (ls : Array Slot), i ≤ 16 → 17 ≤ i + f → (v, a) = tm_tkL (tm_inc (t, on, du, pe, rc, wo, wn)) i → va_P D vwCl (wM h ad ca v) H → va_D A (wM h ad ca v) → va_S A s.heap H locs → lv_has ls 3 [(0, .ref h), (1, .int (nI a)), (2, .int (nI i))] → W p l e ({ frames := 1, cells := 0, slots := 0, locals := 22 }) s m ([.ref h] : List Value).toArray below meth c H locs 0 0 (MQ below (va_Qi (fun r v => ∃ q : Nat, (v, q) = tm_tick (t, on, du, pe, rc, wo, wn) ∧ r = nI q) (tr_B D (kM ca) (wM h ad ca) A) A) ([.ref h] : List Value).toArray s 0 0 A) (F0 m 14 ls []) := by
    intro f
    induction f with
    | zero =>
      intro i a v H locs ls h1 h2
      exact absurd h2 (by omega)
    | succ f ih =>
      intro i a v H locs ls hi hin ev hP hD hS hl
      obtain ⟨t1, on1, du1, pe1, rc1, wo1, wn1⟩ := v
      refine lv_iload_n hx hb dX1_tick_14 rfl (lv_at hl 2 rfl) ?_
      refine lv_bipush (v := 16) hx hb dX1_tick_15 (by decide) ?_
      refine lv_icmp_ge (tgt := 56) hx hb dX1_tick_17 (by decide) (fun c1 => ?_) (fun c1 => ?_)
      · have hi16 : i = t16 := by rw [t16_eq]; rcases Nat.lt_or_ge i 16 with z | z; exact absurd c1 (nI_ge (a := i) (b := 16) z (by omega)); omega
        subst hi16
        refine lv_iload_n hx hb dX1_tick_56 rfl (lv_at hl 1 rfl) ?_
        exact tr_iret (u := (t1, on1, du1, pe1, rc1, wo1, wn1)) hx hb hr hlocks dX1_tick_57 hP hK hD hS (⟨a, ev, rfl⟩)
      · have hi16 : i < 16 := by rcases Nat.lt_or_ge i 16 with z | z; exact z; exact absurd (nI_le (a := 16) (b := i) z (by omega)) c1
        refine lv_aload_n hx hb dX1_tick_20 rfl (lv_at hl 0 rfl) ?_
        refine va_get (D := D) (ci := 1) (v := .ref (ad 0)) (C := RX1) (T := TX1) (N := 7) hx hb hts in_X1 hown hK hP 0 rfl rfl 1 (by decide) (hts _ q147) (fun _ h9 => h9) rfl dX1_tick_21 ?_
        refine lv_iload_n hx hb dX1_tick_24 rfl (lv_at hl 2 rfl) ?_
        refine tr_zald (k := i) hx hb hK hP 1 0 rfl rfl rfl hi16 (by decide) dX1_tick_25 ?_
        refine lv_if_eq (tgt := 50) hx hb dX1_tick_26 (by decide) (fun c2 => ?_) (fun c2 => ?_)
        · refine lv_iinc (v := nI (i + 1)) (lv' := [(2, .int (nI (i + 1))), (0, .ref h), (1, .int (nI a))]) hx hb dX1_tick_50 hl (k := 2) rfl (nI_1 i) (by decide) rfl (fun ls hl => ?_)
          refine lv_goto (tgt := 14) hx hb dX1_tick_53 (by decide) ?_
          exact ih (i + 1) a _ _ _ _ (by omega) (by omega) (tm_tkL_0 ev c2) hP hD hS (lv_sub hl [1, 2, 0] rfl)
        · refine lv_aload_n hx hb dX1_tick_29 rfl (lv_at hl 0 rfl) ?_
          refine va_get (D := D) (ci := 1) (v := .ref (ad 1)) (C := RX1) (T := TX1) (N := 7) hx hb hts in_X1 hown hK hP 0 rfl rfl 2 (by decide) (hts _ q148) (fun _ h9 => h9) rfl dX1_tick_30 ?_
          refine lv_iload_n hx hb dX1_tick_33 rfl (lv_at hl 2 rfl) ?_
          refine tr_iald (k := i) hx hb hK hP 2 1 rfl rfl rfl hi16 (by decide) dX1_tick_34 ?_
          refine lv_aload_n hx hb dX1_tick_35 rfl (lv_at hl 0 rfl) ?_
          refine va_get (D := D) (ci := 1) (v := .int (nI t1)) (C := RX1) (T := TX1) (N := 7) hx hb hts in_X1 hown hK hP 0 rfl rfl 0 (by decide) (hts _ q146) (fun _ h9 => h9) rfl dX1_tick_36 ?_
          refine lv_icmp_ne (tgt := 50) hx hb dX1_tick_39 (by decide) (fun c3 => ?_) (fun c3 => ?_)
          · refine lv_iinc (v := nI (i + 1)) (lv' := [(2, .int (nI (i + 1))), (0, .ref h), (1, .int (nI a))]) hx hb dX1_tick_50 hl (k := 2) rfl (nI_1 i) (by decide) rfl (fun ls hl => ?_)
            refine lv_goto (tgt := 14) hx hb dX1_tick_53 (by decide) ?_
            exact ih (i + 1) a _ _ _ _ (by omega) (by omega) (tm_tkL_1 ev c3) hP hD hS (lv_sub hl [1, 2, 0] rfl)
          · refine lv_aload_n hx hb dX1_tick_42 rfl (lv_at hl 0 rfl) ?_
            refine lv_iload_n hx hb dX1_tick_43 rfl (lv_at hl 2 rfl) ?_
            refine tr_callv (v := (t1, on1, du1, pe1, rc1, wo1, wn1)) (wf := wM h ad ca) (wr := []) (As := [.int (nI i)]) (rest := []) (k := 1) (ci := 1) ⟨hx, hb, hml, hown, hts⟩ (mM_ring l D h ad ca (t1, on1, du1, pe1, rc1, wo1, wn1) i hi16) (cwV 1 hts (lw_V q189 q191 qs9 q13 q192) rfl rfl rfl (by decide +kernel) ⟨Nat.le_of_ble_eq_true rfl, Nat.le_of_ble_eq_true rfl⟩) hK hP tr_Pnl hD tr_ap.nl hS hA rfl rfl rfl hl.1 rfl (Nat.le_of_ble_eq_true rfl) dX1_tick_44 ⟨Nat.zero_le _, Nat.zero_le _⟩ (fun u H locs hw hP _ hD _ hS => ?_)
            obtain ⟨t2, on2, du2, pe2, rc2, wo2, wn2⟩ := u
            have hP : va_P D vwCl (wM h ad ca (t2, on2, du2, pe2, rc2, wo2, wn2)) H := hP
            have hD : va_D A (wM h ad ca (t2, on2, du2, pe2, rc2, wo2, wn2)) := hD
            refine lv_iinc (v := nI (a + 1)) (lv' := [(1, .int (nI (a + 1))), (0, .ref h), (2, .int (nI i))]) hx hb dX1_tick_47 hl (k := 1) rfl (nI_1 a) (by decide) rfl (fun ls hl => ?_)
            refine lv_iinc (v := nI (i + 1)) (lv' := [(2, .int (nI (i + 1))), (1, .int (nI (a + 1))), (0, .ref h)]) hx hb dX1_tick_50 hl (k := 2) rfl (nI_1 i) (by decide) rfl (fun ls hl => ?_)
            refine lv_goto (tgt := 14) hx hb dX1_tick_53 (by decide) ?_
            exact ih (i + 1) (a + 1) _ _ _ _ (by omega) (by omega) (tm_tkL_2 ev c2 c3 hw) hP hD hS (lv_sub hl [2, 1, 0] rfl)
  exact loop 17 0 0 _ _ _ _ (by omega) (by omega) rfl hP hD hS (lv_sub hl [2, 1, 0] rfl)
set_option maxHeartbeats 4000000 in
set_option maxRecDepth 100000 in
theorem mM_pass (l : Launch) (D : va_G) (h : Nat) (ad : Nat → Nat) (ca : Nat → ClassId) (u : mS) (n : Int32) : tr_Ci l D (kM ca) (wM h ad ca) yX1_pass cX1_pass 4 (some .int) ({ frames := 2, cells := 0, slots := 0, locals := 44 }) [.ref h, .int n] u (fun r v => (v, r) = tm_pass u n) := by
  obtain ⟨t, on, du, pe, rc, wo, wn⟩ := u
  refine tr_enteri (by decide) (Nat.le_of_ble_eq_true rfl) ?_
  intro p e s m below meth c A ls hx hb hr hml hown hts hlocks hA hK hP hD hS hl
  have hown : s.vm.findClass RX1 = some m.cls := hown
  have hP : va_P D vwCl (wM h ad ca (t, on, du, pe, rc, wo, wn)) s.heap := hP
  have hD : va_D A (wM h ad ca (t, on, du, pe, rc, wo, wn)) := hD
  have hl : lv_has ls 4 [(0, .ref h), (1, .int n)] := hl
  refine lv_iconst (v := 0) hx hb dX1_pass_0 (by decide) ?_
  refine tr_re (z' := nI 0) nI_0.symm ?_
  refine lv_istore_n (lv' := [(2, .int (nI 0)), (0, .ref h), (1, .int n)]) hx hb dX1_pass_1 rfl hl (by decide) rfl (fun ls hl => ?_)
  refine lv_iconst (v := 0) hx hb dX1_pass_2 (by decide) ?_
  refine tr_re (z' := nI 0) nI_0.symm ?_
  refine lv_istore_n (lv' := [(3, .int (nI 0)), (2, .int (nI 0)), (0, .ref h), (1, .int n)]) hx hb dX1_pass_3 rfl hl (by decide) rfl (fun ls hl => ?_)
  by_cases k1 : n < 0
  · refine lv_iload_n hx hb dX1_pass_4 rfl (lv_at hl 0 rfl) ?_
    refine lv_iload_n hx hb dX1_pass_5 rfl (lv_at hl 3 rfl) ?_
    refine lv_icmp_ge (tgt := 29) hx hb dX1_pass_6 (by decide) (fun c1 => ?_) (fun c1 => absurd (Int32.le_of_lt (Int32.lt_of_lt_of_le k1 (by decide))) c1)
    refine lv_iload_n hx hb dX1_pass_29 rfl (lv_at hl 3 rfl) ?_
    refine lv_if_lt (tgt := 40) hx hb dX1_pass_30 (by decide) (fun c2 => ?_) (fun c2 => absurd k1 c2)
    refine lv_iconst (v := -1) hx hb dX1_pass_40 (by decide) ?_
    refine lv_goto (tgt := 45) hx hb dX1_pass_41 (by decide) ?_
    exact tr_iret (u := (t, on, du, pe, rc, wo, wn)) hx hb hr hlocks dX1_pass_45 hP hK hD hS ((tm_pass_bad (t, on, du, pe, rc, wo, wn) (Or.inl k1)).symm)
  · by_cases k2 : 1000 < n
    · refine lv_iload_n hx hb dX1_pass_4 rfl (lv_at hl 0 rfl) ?_
      refine lv_iload_n hx hb dX1_pass_5 rfl (lv_at hl 3 rfl) ?_
      refine lv_icmp_ge (tgt := 29) hx hb dX1_pass_6 (by decide) (fun c1 => absurd (Int32.lt_of_lt_of_le k2 c1) (by decide)) (fun c1 => ?_)
      refine lv_iload_n hx hb dX1_pass_9 rfl (lv_at hl 3 rfl) ?_
      refine lv_sipush (v := 1000) hx hb dX1_pass_10 (by decide) ?_
      refine lv_icmp_gt (tgt := 29) hx hb dX1_pass_13 (by decide) (fun c2 => ?_) (fun c2 => absurd k2 c2)
      refine lv_iload_n hx hb dX1_pass_29 rfl (lv_at hl 3 rfl) ?_
      refine lv_if_lt (tgt := 40) hx hb dX1_pass_30 (by decide) (fun c3 => absurd c3 k1) (fun c3 => ?_)
      refine lv_iload_n hx hb dX1_pass_33 rfl (lv_at hl 3 rfl) ?_
      refine lv_sipush (v := 1000) hx hb dX1_pass_34 (by decide) ?_
      refine lv_icmp_le (tgt := 44) hx hb dX1_pass_37 (by decide) (fun c4 => absurd k2 (Int32.not_lt.mpr c4)) (fun c4 => ?_)
      refine lv_iconst (v := -1) hx hb dX1_pass_40 (by decide) ?_
      refine lv_goto (tgt := 45) hx hb dX1_pass_41 (by decide) ?_
      exact tr_iret (u := (t, on, du, pe, rc, wo, wn)) hx hb hr hlocks dX1_pass_45 hP hK hD hS ((tm_pass_bad (t, on, du, pe, rc, wo, wn) (Or.inr k2)).symm)
    · obtain ⟨nn, hnn, en⟩ := tn_1000 k1 k2
      subst en
      have loop : ∀ (f i a : Nat) (v : mS) (H : Heap) (locs : List Loc) (ls : Array Slot), i ≤ nn → nn + 1 ≤ i + f → (v, a) = tm_tks (t, on, du, pe, rc, wo, wn) i → va_P D vwCl (wM h ad ca v) H → va_D A (wM h ad ca v) → va_S A s.heap H locs → lv_has ls 4 [(0, .ref h), (1, .int (nI nn)), (2, .int (nI a)), (3, .int (nI i))] → W p l e ({ frames := 2, cells := 0, slots := 0, locals := 44 }) s m ([.ref h, .int (nI nn)] : List Value).toArray below meth c H locs 0 0 (MQ below (va_Qi (fun r v => (v, r) = tm_pass (t, on, du, pe, rc, wo, wn) (nI nn)) (tr_B D (kM ca) (wM h ad ca) A) A) ([.ref h, .int (nI nn)] : List Value).toArray s 0 0 A) (F0 m 4 ls []) := by
        intro f
        induction f with
        | zero =>
          intro i a v H locs ls h1 h2
          exact absurd h2 (by omega)
        | succ f ih =>
          intro i a v H locs ls hi hin ev hP hD hS hl
          obtain ⟨t1, on1, du1, pe1, rc1, wo1, wn1⟩ := v
          refine lv_iload_n hx hb dX1_pass_4 rfl (lv_at hl 3 rfl) ?_
          refine lv_iload_n hx hb dX1_pass_5 rfl (lv_at hl 1 rfl) ?_
          refine lv_icmp_ge (tgt := 29) hx hb dX1_pass_6 (by decide) (fun c3 => ?_) (fun c3 => ?_)
          · have hi1 : i = nn := by rcases Nat.lt_or_ge i nn with z | z; exact absurd c3 (nI_ge (a := i) (b := nn) z (by omega)); omega
            subst hi1
            refine lv_iload_n hx hb dX1_pass_29 rfl (lv_at hl 1 rfl) ?_
            refine lv_if_lt (tgt := 40) hx hb dX1_pass_30 (by decide) (fun c4 => absurd c4 k1) (fun c4 => ?_)
            refine lv_iload_n hx hb dX1_pass_33 rfl (lv_at hl 1 rfl) ?_
            refine lv_sipush (v := 1000) hx hb dX1_pass_34 (by decide) ?_
            refine lv_icmp_le (tgt := 44) hx hb dX1_pass_37 (by decide) (fun c5 => ?_) (fun c5 => absurd (Int32.not_lt.mp k2) c5)
            refine lv_iload_n hx hb dX1_pass_44 rfl (lv_at hl 2 rfl) ?_
            exact tr_iret (u := (t1, on1, du1, pe1, rc1, wo1, wn1)) hx hb hr hlocks dX1_pass_45 hP hK hD hS (by rw [tm_pass_ok _ hnn, ← ev])
          · have hi1 : i < nn := by rcases Nat.lt_or_ge i nn with z | z; exact z; exact absurd (nI_le (a := nn) (b := i) z (by omega)) c3
            refine lv_iload_n hx hb dX1_pass_9 rfl (lv_at hl 1 rfl) ?_
            refine lv_sipush (v := 1000) hx hb dX1_pass_10 (by decide) ?_
            refine lv_icmp_gt (tgt := 29) hx hb dX1_pass_13 (by decide) (fun c4 => absurd c4 k2) (fun c4 => ?_)
            refine lv_iload_n hx hb dX1_pass_16 rfl (lv_at hl 2 rfl) ?_
            refine lv_aload_n hx hb dX1_pass_17 rfl (lv_at hl 0 rfl) ?_
            refine tr_calli (v := (t1, on1, du1, pe1, rc1, wo1, wn1)) (wf := wM h ad ca) (wr := []) (As := []) (rest := [.int (nI a)]) (k := 0) (ci := 1) ⟨hx, hb, hml, hown, hts⟩ (mM_tick l D h ad ca (t1, on1, du1, pe1, rc1, wo1, wn1)) (cwV 0 hts (lw_V q185 q187 qs8 q13 q188) rfl rfl rfl (by decide +kernel) ⟨Nat.le_of_ble_eq_true rfl, Nat.le_of_ble_eq_true rfl⟩) hK hP tr_Pnl hD tr_ap.nl hS hA rfl rfl rfl hl.1 rfl (Nat.le_of_ble_eq_true rfl) dX1_pass_18 ⟨Nat.zero_le _, Nat.zero_le _⟩ (fun rt u H locs hw hP _ hD _ hS => ?_)
            obtain ⟨q, hw, rfl⟩ := hw
            obtain ⟨t2, on2, du2, pe2, rc2, wo2, wn2⟩ := u
            have hP : va_P D vwCl (wM h ad ca (t2, on2, du2, pe2, rc2, wo2, wn2)) H := hP
            have hD : va_D A (wM h ad ca (t2, on2, du2, pe2, rc2, wo2, wn2)) := hD
            refine lv_iadd hx hb dX1_pass_21 ?_
            refine tr_re (z' := nI (a + q)) (nI_add a q) ?_
            refine lv_istore_n (lv' := [(2, .int (nI (a + q))), (0, .ref h), (1, .int (nI nn)), (3, .int (nI i))]) hx hb dX1_pass_22 rfl hl (by decide) rfl (fun ls hl => ?_)
            refine lv_iinc (v := nI (i + 1)) (lv' := [(3, .int (nI (i + 1))), (2, .int (nI (a + q))), (0, .ref h), (1, .int (nI nn))]) hx hb dX1_pass_23 hl (k := 3) rfl (nI_1 i) (by decide) rfl (fun ls hl => ?_)
            refine lv_goto (tgt := 4) hx hb dX1_pass_26 (by decide) ?_
            exact ih (i + 1) (a + q) _ _ _ _ (by omega) (by omega) (tm_tks_go ev hw) hP hD hS (lv_sub hl [2, 3, 1, 0] rfl)
      exact loop (nn + 1) 0 0 _ _ _ _ (by omega) (by omega) rfl hP hD hS (lv_sub hl [2, 3, 1, 0] rfl)
set_option maxHeartbeats 4000000 in
set_option maxRecDepth 100000 in
theorem mM_timers (l : Launch) (D : va_G) (h : Nat) (ad : Nat → Nat) (ca : Nat → ClassId) (u : mS) : tr_Ci l D (kM ca) (wM h ad ca) yX1_timers cX1_timers 3 (some .int) ({ frames := 0, cells := 0, slots := 0, locals := 0 }) [.ref h] u (fun r v => v = u ∧ r = tm_tiL u t16) := by
  obtain ⟨t, on, du, pe, rc, wo, wn⟩ := u
  refine tr_enteri (by decide) (Nat.le_of_ble_eq_true rfl) ?_
  intro p e s m below meth c A ls hx hb hr hml hown hts hlocks hA hK hP hD hS hl
  have hown : s.vm.findClass RX1 = some m.cls := hown
  have hP : va_P D vwCl (wM h ad ca (t, on, du, pe, rc, wo, wn)) s.heap := hP
  have hD : va_D A (wM h ad ca (t, on, du, pe, rc, wo, wn)) := hD
  have hl : lv_has ls 3 [(0, .ref h)] := hl
  refine lv_iconst (v := 0) hx hb dX1_timers_0 (by decide) ?_
  refine lv_istore_n (lv' := [(1, .int 0), (0, .ref h)]) hx hb dX1_timers_1 rfl hl (by decide) rfl (fun ls hl => ?_)
  refine lv_iconst (v := 0) hx hb dX1_timers_2 (by decide) ?_
  refine tr_re (z' := nI 0) nI_0.symm ?_
  refine lv_istore_n (lv' := [(2, .int (nI 0)), (1, .int 0), (0, .ref h)]) hx hb dX1_timers_3 rfl hl (by decide) rfl (fun ls hl => ?_)
  have loop : ∀ (f i : Nat) (v : mS) (H : Heap) (locs : List Loc) (ls : Array Slot), i ≤ 16 → 17 ≤ i + f → v = (t, on, du, pe, rc, wo, wn) → va_P D vwCl (wM h ad ca v) H → va_D A (wM h ad ca v) → va_S A s.heap H locs → lv_has ls 3 [(0, .ref h), (1, .int (tm_tiL (t, on, du, pe, rc, wo, wn) i)), (2, .int (nI i))] → W p l e ({ frames := 0, cells := 0, slots := 0, locals := 0 }) s m ([.ref h] : List Value).toArray below meth c H locs 0 0 (MQ below (va_Qi (fun r v => v = (t, on, du, pe, rc, wo, wn) ∧ r = tm_tiL (t, on, du, pe, rc, wo, wn) t16) (tr_B D (kM ca) (wM h ad ca) A) A) ([.ref h] : List Value).toArray s 0 0 A) (F0 m 4 ls []) := by
    intro f
    induction f with
    | zero =>
      intro i v H locs ls h1 h2
      exact absurd h2 (by omega)
    | succ f ih =>
      intro i v H locs ls hi hin ev hP hD hS hl
      subst ev
      refine lv_iload_n hx hb dX1_timers_4 rfl (lv_at hl 2 rfl) ?_
      refine lv_bipush (v := 16) hx hb dX1_timers_5 (by decide) ?_
      refine lv_icmp_ge (tgt := 35) hx hb dX1_timers_7 (by decide) (fun c1 => ?_) (fun c1 => ?_)
      · have hi16 : i = t16 := by rw [t16_eq]; rcases Nat.lt_or_ge i 16 with z | z; exact absurd c1 (nI_ge (a := i) (b := 16) z (by omega)); omega
        subst hi16
        refine lv_iload_n hx hb dX1_timers_35 rfl (lv_at hl 1 rfl) ?_
        exact tr_iret (u := (t, on, du, pe, rc, wo, wn)) hx hb hr hlocks dX1_timers_36 hP hK hD hS (⟨rfl, rfl⟩)
      · have hi16 : i < 16 := by rcases Nat.lt_or_ge i 16 with z | z; exact z; exact absurd (nI_le (a := 16) (b := i) z (by omega)) c1
        refine lv_aload_n hx hb dX1_timers_10 rfl (lv_at hl 0 rfl) ?_
        refine va_get (D := D) (ci := 1) (v := .ref (ad 0)) (C := RX1) (T := TX1) (N := 7) hx hb hts in_X1 hown hK hP 0 rfl rfl 1 (by decide) (hts _ q147) (fun _ h9 => h9) rfl dX1_timers_11 ?_
        refine lv_iload_n hx hb dX1_timers_14 rfl (lv_at hl 2 rfl) ?_
        refine tr_zald (k := i) hx hb hK hP 1 0 rfl rfl rfl hi16 (by decide) dX1_timers_15 ?_
        refine lv_if_eq (tgt := 27) hx hb dX1_timers_16 (by decide) (fun c2 => ?_) (fun c2 => ?_)
        · refine lv_iload_n hx hb dX1_timers_27 rfl (lv_at hl 1 rfl) ?_
          refine tr_re (z' := tm_tiL (t, on, du, pe, rc, wo, wn) (i + 1)) ((tm_tiL_0 (u := (t, on, du, pe, rc, wo, wn)) c2).symm) ?_
          refine lv_istore_n (lv' := [(1, .int (tm_tiL (t, on, du, pe, rc, wo, wn) (i + 1))), (0, .ref h), (2, .int (nI i))]) hx hb dX1_timers_28 rfl hl (by decide) rfl (fun ls hl => ?_)
          refine lv_iinc (v := nI (i + 1)) (lv' := [(2, .int (nI (i + 1))), (1, .int (tm_tiL (t, on, du, pe, rc, wo, wn) (i + 1))), (0, .ref h)]) hx hb dX1_timers_29 hl (k := 2) rfl (nI_1 i) (by decide) rfl (fun ls hl => ?_)
          refine lv_goto (tgt := 4) hx hb dX1_timers_32 (by decide) ?_
          exact ih (i + 1) _ _ _ _ (by omega) (by omega) rfl hP hD hS (lv_sub hl [2, 1, 0] rfl)
        · refine lv_iload_n hx hb dX1_timers_19 rfl (lv_at hl 1 rfl) ?_
          refine lv_iconst (v := 1) hx hb dX1_timers_20 (by decide) ?_
          refine lv_iload_n hx hb dX1_timers_21 rfl (lv_at hl 2 rfl) ?_
          refine lv_ishl hx hb dX1_timers_22 ?_
          refine tr_re (z' := tw_b i) rfl ?_
          refine lv_ior hx hb dX1_timers_23 ?_
          refine lv_goto (tgt := 28) hx hb dX1_timers_24 (by decide) ?_
          refine tr_re (z' := tm_tiL (t, on, du, pe, rc, wo, wn) (i + 1)) ((tm_tiL_1 (u := (t, on, du, pe, rc, wo, wn)) c2).symm) ?_
          refine lv_istore_n (lv' := [(1, .int (tm_tiL (t, on, du, pe, rc, wo, wn) (i + 1))), (0, .ref h), (2, .int (nI i))]) hx hb dX1_timers_28 rfl hl (by decide) rfl (fun ls hl => ?_)
          refine lv_iinc (v := nI (i + 1)) (lv' := [(2, .int (nI (i + 1))), (1, .int (tm_tiL (t, on, du, pe, rc, wo, wn) (i + 1))), (0, .ref h)]) hx hb dX1_timers_29 hl (k := 2) rfl (nI_1 i) (by decide) rfl (fun ls hl => ?_)
          refine lv_goto (tgt := 4) hx hb dX1_timers_32 (by decide) ?_
          exact ih (i + 1) _ _ _ _ (by omega) (by omega) rfl hP hD hS (lv_sub hl [2, 1, 0] rfl)
  exact loop 17 0 _ _ _ _ (by omega) (by omega) rfl hP hD hS (lv_sub hl [2, 1, 0] rfl)
set_option maxHeartbeats 4000000 in
set_option maxRecDepth 100000 in
theorem mM_within (l : Launch) (D : va_G) (h : Nat) (ad : Nat → Nat) (ca : Nat → ClassId) (u : mS) (n : Int32) : tr_Ci l D (kM ca) (wM h ad ca) yX1_within cX1_within 4 (some .int) ({ frames := 0, cells := 0, slots := 0, locals := 0 }) [.ref h, .int n] u (fun r v => v = u ∧ r = tm_wiL u n t16) := by
  obtain ⟨t, on, du, pe, rc, wo, wn⟩ := u
  refine tr_enteri (by decide) (Nat.le_of_ble_eq_true rfl) ?_
  intro p e s m below meth c A ls hx hb hr hml hown hts hlocks hA hK hP hD hS hl
  have hown : s.vm.findClass RX1 = some m.cls := hown
  have hP : va_P D vwCl (wM h ad ca (t, on, du, pe, rc, wo, wn)) s.heap := hP
  have hD : va_D A (wM h ad ca (t, on, du, pe, rc, wo, wn)) := hD
  have hl : lv_has ls 4 [(0, .ref h), (1, .int n)] := hl
  refine lv_iconst (v := 0) hx hb dX1_within_0 (by decide) ?_
  refine lv_istore_n (lv' := [(2, .int 0), (0, .ref h), (1, .int n)]) hx hb dX1_within_1 rfl hl (by decide) rfl (fun ls hl => ?_)
  refine lv_iconst (v := 0) hx hb dX1_within_2 (by decide) ?_
  refine tr_re (z' := nI 0) nI_0.symm ?_
  refine lv_istore_n (lv' := [(3, .int (nI 0)), (2, .int 0), (0, .ref h), (1, .int n)]) hx hb dX1_within_3 rfl hl (by decide) rfl (fun ls hl => ?_)
  have loop : ∀ (f i : Nat) (v : mS) (H : Heap) (locs : List Loc) (ls : Array Slot), i ≤ 16 → 17 ≤ i + f → v = (t, on, du, pe, rc, wo, wn) → va_P D vwCl (wM h ad ca v) H → va_D A (wM h ad ca v) → va_S A s.heap H locs → lv_has ls 4 [(0, .ref h), (1, .int n), (2, .int (tm_wiL (t, on, du, pe, rc, wo, wn) n i)), (3, .int (nI i))] → W p l e ({ frames := 0, cells := 0, slots := 0, locals := 0 }) s m ([.ref h, .int n] : List Value).toArray below meth c H locs 0 0 (MQ below (va_Qi (fun r v => v = (t, on, du, pe, rc, wo, wn) ∧ r = tm_wiL (t, on, du, pe, rc, wo, wn) n t16) (tr_B D (kM ca) (wM h ad ca) A) A) ([.ref h, .int n] : List Value).toArray s 0 0 A) (F0 m 4 ls []) := by
    intro f
    induction f with
    | zero =>
      intro i v H locs ls h1 h2
      exact absurd h2 (by omega)
    | succ f ih =>
      intro i v H locs ls hi hin ev hP hD hS hl
      subst ev
      refine lv_iload_n hx hb dX1_within_4 rfl (lv_at hl 3 rfl) ?_
      refine lv_bipush (v := 16) hx hb dX1_within_5 (by decide) ?_
      refine lv_icmp_ge (tgt := 48) hx hb dX1_within_7 (by decide) (fun c1 => ?_) (fun c1 => ?_)
      · have hi16 : i = t16 := by rw [t16_eq]; rcases Nat.lt_or_ge i 16 with z | z; exact absurd c1 (nI_ge (a := i) (b := 16) z (by omega)); omega
        subst hi16
        refine lv_iload_n hx hb dX1_within_48 rfl (lv_at hl 2 rfl) ?_
        exact tr_iret (u := (t, on, du, pe, rc, wo, wn)) hx hb hr hlocks dX1_within_49 hP hK hD hS (⟨rfl, rfl⟩)
      · have hi16 : i < 16 := by rcases Nat.lt_or_ge i 16 with z | z; exact z; exact absurd (nI_le (a := 16) (b := i) z (by omega)) c1
        refine lv_aload_n hx hb dX1_within_10 rfl (lv_at hl 0 rfl) ?_
        refine va_get (D := D) (ci := 1) (v := .ref (ad 0)) (C := RX1) (T := TX1) (N := 7) hx hb hts in_X1 hown hK hP 0 rfl rfl 1 (by decide) (hts _ q147) (fun _ h9 => h9) rfl dX1_within_11 ?_
        refine lv_iload_n hx hb dX1_within_14 rfl (lv_at hl 3 rfl) ?_
        refine tr_zald (k := i) hx hb hK hP 1 0 rfl rfl rfl hi16 (by decide) dX1_within_15 ?_
        refine lv_if_eq (tgt := 40) hx hb dX1_within_16 (by decide) (fun c2 => ?_) (fun c2 => ?_)
        · refine lv_iload_n hx hb dX1_within_40 rfl (lv_at hl 2 rfl) ?_
          refine tr_re (z' := tm_wiL (t, on, du, pe, rc, wo, wn) n (i + 1)) ((tm_wiL_0 (u := (t, on, du, pe, rc, wo, wn)) c2).symm) ?_
          refine lv_istore_n (lv' := [(2, .int (tm_wiL (t, on, du, pe, rc, wo, wn) n (i + 1))), (0, .ref h), (1, .int n), (3, .int (nI i))]) hx hb dX1_within_41 rfl hl (by decide) rfl (fun ls hl => ?_)
          refine lv_iinc (v := nI (i + 1)) (lv' := [(3, .int (nI (i + 1))), (2, .int (tm_wiL (t, on, du, pe, rc, wo, wn) n (i + 1))), (0, .ref h), (1, .int n)]) hx hb dX1_within_42 hl (k := 3) rfl (nI_1 i) (by decide) rfl (fun ls hl => ?_)
          refine lv_goto (tgt := 4) hx hb dX1_within_45 (by decide) ?_
          exact ih (i + 1) _ _ _ _ (by omega) (by omega) rfl hP hD hS (lv_sub hl [2, 3, 1, 0] rfl)
        · refine lv_aload_n hx hb dX1_within_19 rfl (lv_at hl 0 rfl) ?_
          refine va_get (D := D) (ci := 1) (v := .ref (ad 1)) (C := RX1) (T := TX1) (N := 7) hx hb hts in_X1 hown hK hP 0 rfl rfl 2 (by decide) (hts _ q148) (fun _ h9 => h9) rfl dX1_within_20 ?_
          refine lv_iload_n hx hb dX1_within_23 rfl (lv_at hl 3 rfl) ?_
          refine tr_iald (k := i) hx hb hK hP 2 1 rfl rfl rfl hi16 (by decide) dX1_within_24 ?_
          refine lv_aload_n hx hb dX1_within_25 rfl (lv_at hl 0 rfl) ?_
          refine va_get (D := D) (ci := 1) (v := .int (nI t)) (C := RX1) (T := TX1) (N := 7) hx hb hts in_X1 hown hK hP 0 rfl rfl 0 (by decide) (hts _ q146) (fun _ h9 => h9) rfl dX1_within_26 ?_
          refine lv_isub hx hb dX1_within_29 ?_
          refine lv_iload_n hx hb dX1_within_30 rfl (lv_at hl 1 rfl) ?_
          refine lv_icmp_gt (tgt := 40) hx hb dX1_within_31 (by decide) (fun c3 => ?_) (fun c3 => ?_)
          · refine lv_iload_n hx hb dX1_within_40 rfl (lv_at hl 2 rfl) ?_
            refine tr_re (z' := tm_wiL (t, on, du, pe, rc, wo, wn) n (i + 1)) ((tm_wiL_2 (u := (t, on, du, pe, rc, wo, wn)) c2 c3).symm) ?_
            refine lv_istore_n (lv' := [(2, .int (tm_wiL (t, on, du, pe, rc, wo, wn) n (i + 1))), (0, .ref h), (1, .int n), (3, .int (nI i))]) hx hb dX1_within_41 rfl hl (by decide) rfl (fun ls hl => ?_)
            refine lv_iinc (v := nI (i + 1)) (lv' := [(3, .int (nI (i + 1))), (2, .int (tm_wiL (t, on, du, pe, rc, wo, wn) n (i + 1))), (0, .ref h), (1, .int n)]) hx hb dX1_within_42 hl (k := 3) rfl (nI_1 i) (by decide) rfl (fun ls hl => ?_)
            refine lv_goto (tgt := 4) hx hb dX1_within_45 (by decide) ?_
            exact ih (i + 1) _ _ _ _ (by omega) (by omega) rfl hP hD hS (lv_sub hl [2, 3, 1, 0] rfl)
          · refine lv_iload_n hx hb dX1_within_34 rfl (lv_at hl 2 rfl) ?_
            refine lv_iconst (v := 1) hx hb dX1_within_35 (by decide) ?_
            refine lv_iadd hx hb dX1_within_36 ?_
            refine lv_goto (tgt := 41) hx hb dX1_within_37 (by decide) ?_
            refine tr_re (z' := tm_wiL (t, on, du, pe, rc, wo, wn) n (i + 1)) ((tm_wiL_1 (u := (t, on, du, pe, rc, wo, wn)) c2 c3).symm) ?_
            refine lv_istore_n (lv' := [(2, .int (tm_wiL (t, on, du, pe, rc, wo, wn) n (i + 1))), (0, .ref h), (1, .int n), (3, .int (nI i))]) hx hb dX1_within_41 rfl hl (by decide) rfl (fun ls hl => ?_)
            refine lv_iinc (v := nI (i + 1)) (lv' := [(3, .int (nI (i + 1))), (2, .int (tm_wiL (t, on, du, pe, rc, wo, wn) n (i + 1))), (0, .ref h), (1, .int n)]) hx hb dX1_within_42 hl (k := 3) rfl (nI_1 i) (by decide) rfl (fun ls hl => ?_)
            refine lv_goto (tgt := 4) hx hb dX1_within_45 (by decide) ?_
            exact ih (i + 1) _ _ _ _ (by omega) (by omega) rfl hP hD hS (lv_sub hl [2, 3, 1, 0] rfl)
  exact loop 17 0 _ _ _ _ (by omega) (by omega) rfl hP hD hS (lv_sub hl [2, 3, 1, 0] rfl)
set_option maxHeartbeats 4000000 in
set_option maxRecDepth 100000 in
theorem mM_next (l : Launch) (D : va_G) (h : Nat) (ad : Nat → Nat) (ca : Nat → ClassId) (u : mS) : tr_Ci l D (kM ca) (wM h ad ca) yX1_next cX1_next 3 (some .int) ({ frames := 0, cells := 0, slots := 0, locals := 0 }) [.ref h] u (fun r v => v = u ∧ r = tw_o (tm_nxL u t16)) := by
  obtain ⟨t, on, du, pe, rc, wo, wn⟩ := u
  refine tr_enteri (by decide) (Nat.le_of_ble_eq_true rfl) ?_
  intro p e s m below meth c A ls hx hb hr hml hown hts hlocks hA hK hP hD hS hl
  have hown : s.vm.findClass RX1 = some m.cls := hown
  have hP : va_P D vwCl (wM h ad ca (t, on, du, pe, rc, wo, wn)) s.heap := hP
  have hD : va_D A (wM h ad ca (t, on, du, pe, rc, wo, wn)) := hD
  have hl : lv_has ls 3 [(0, .ref h)] := hl
  refine lv_bipush (v := -2) hx hb dX1_next_0 (by decide) ?_
  refine lv_istore_n (lv' := [(1, .int (-2)), (0, .ref h)]) hx hb dX1_next_2 rfl hl (by decide) rfl (fun ls hl => ?_)
  refine lv_iconst (v := 0) hx hb dX1_next_3 (by decide) ?_
  refine tr_re (z' := nI 0) nI_0.symm ?_
  refine lv_istore_n (lv' := [(2, .int (nI 0)), (1, .int (-2)), (0, .ref h)]) hx hb dX1_next_4 rfl hl (by decide) rfl (fun ls hl => ?_)
  have loop : ∀ (f i : Nat) (o : Option Nat) (v : mS) (H : Heap) (locs : List Loc) (ls : Array Slot), i ≤ 16 → 17 ≤ i + f → o = tm_nxL (t, on, du, pe, rc, wo, wn) i → v = (t, on, du, pe, rc, wo, wn) → va_P D vwCl (wM h ad ca v) H → va_D A (wM h ad ca v) → va_S A s.heap H locs → lv_has ls 3 [(0, .ref h), (1, .int (tw_o o)), (2, .int (nI i))] → W p l e ({ frames := 0, cells := 0, slots := 0, locals := 0 }) s m ([.ref h] : List Value).toArray below meth c H locs 0 0 (MQ below (va_Qi (fun r v => v = (t, on, du, pe, rc, wo, wn) ∧ r = tw_o (tm_nxL (t, on, du, pe, rc, wo, wn) t16)) (tr_B D (kM ca) (wM h ad ca) A) A) ([.ref h] : List Value).toArray s 0 0 A) (F0 m 5 ls []) := by
    intro f
    induction f with
    | zero =>
      intro i o v H locs ls h1 h2
      exact absurd h2 (by omega)
    | succ f ih =>
      intro i o v H locs ls hi hin eo ev hP hD hS hl
      subst ev
      refine lv_iload_n hx hb dX1_next_5 rfl (lv_at hl 2 rfl) ?_
      refine lv_bipush (v := 16) hx hb dX1_next_6 (by decide) ?_
      refine lv_icmp_ge (tgt := 51) hx hb dX1_next_8 (by decide) (fun c1 => ?_) (fun c1 => ?_)
      · have hi16 : i = t16 := by rw [t16_eq]; rcases Nat.lt_or_ge i 16 with z | z; exact absurd c1 (nI_ge (a := i) (b := 16) z (by omega)); omega
        subst hi16
        refine lv_iload_n hx hb dX1_next_51 rfl (lv_at hl 1 rfl) ?_
        exact tr_iret (u := (t, on, du, pe, rc, wo, wn)) hx hb hr hlocks dX1_next_52 hP hK hD hS (⟨rfl, by rw [eo]⟩)
      · have hi16 : i < 16 := by rcases Nat.lt_or_ge i 16 with z | z; exact z; exact absurd (nI_le (a := 16) (b := i) z (by omega)) c1
        refine lv_aload_n hx hb dX1_next_11 rfl (lv_at hl 0 rfl) ?_
        refine va_get (D := D) (ci := 1) (v := .ref (ad 0)) (C := RX1) (T := TX1) (N := 7) hx hb hts in_X1 hown hK hP 0 rfl rfl 1 (by decide) (hts _ q147) (fun _ h9 => h9) rfl dX1_next_12 ?_
        refine lv_iload_n hx hb dX1_next_15 rfl (lv_at hl 2 rfl) ?_
        refine tr_zald (k := i) hx hb hK hP 1 0 rfl rfl rfl hi16 (by decide) dX1_next_16 ?_
        refine lv_if_eq (tgt := 43) hx hb dX1_next_17 (by decide) (fun c2 => ?_) (fun c2 => ?_)
        · refine lv_iload_n hx hb dX1_next_43 rfl (lv_at hl 1 rfl) ?_
          refine lv_istore_n (lv' := [(1, .int (tw_o o)), (0, .ref h), (2, .int (nI i))]) hx hb dX1_next_44 rfl hl (by decide) rfl (fun ls hl => ?_)
          refine lv_iinc (v := nI (i + 1)) (lv' := [(2, .int (nI (i + 1))), (1, .int (tw_o o)), (0, .ref h)]) hx hb dX1_next_45 hl (k := 2) rfl (nI_1 i) (by decide) rfl (fun ls hl => ?_)
          refine lv_goto (tgt := 5) hx hb dX1_next_48 (by decide) ?_
          exact ih (i + 1) (o) _ _ _ _ (by omega) (by omega) (eo.trans (tm_nxL_n (u := (t, on, du, pe, rc, wo, wn)) c2).symm) rfl hP hD hS (lv_sub hl [2, 1, 0] rfl)
        · cases o with
          | none =>
            have hl : lv_has ls 3 [(0, .ref h), (1, .int (-2)), (2, .int (nI i))] := hl
            refine lv_iload_n hx hb dX1_next_20 rfl (lv_at hl 1 rfl) ?_
            refine lv_if_lt (tgt := 39) hx hb dX1_next_21 (by decide) (fun c3 => ?_) (fun c3 => absurd (by decide) c3)
            refine lv_iload_n hx hb dX1_next_39 rfl (lv_at hl 2 rfl) ?_
            refine lv_goto (tgt := 44) hx hb dX1_next_40 (by decide) ?_
            refine lv_istore_n (lv' := [(1, .int (nI i)), (0, .ref h), (2, .int (nI i))]) hx hb dX1_next_44 rfl hl (by decide) rfl (fun ls hl => ?_)
            refine lv_iinc (v := nI (i + 1)) (lv' := [(2, .int (nI (i + 1))), (1, .int (nI i)), (0, .ref h)]) hx hb dX1_next_45 hl (k := 2) rfl (nI_1 i) (by decide) rfl (fun ls hl => ?_)
            refine lv_goto (tgt := 5) hx hb dX1_next_48 (by decide) ?_
            exact ih (i + 1) (some i) _ _ _ _ (by omega) (by omega) (by rw [tm_nxL_0 (u := (t, on, du, pe, rc, wo, wn)) c2 eo]) rfl hP hD hS (lv_sub hl [2, 1, 0] rfl)
          | some b =>
            have hl : lv_has ls 3 [(0, .ref h), (1, .int (nI b)), (2, .int (nI i))] := hl
            have hb16 := Nat.lt_trans (tm_nxL_lt _ _ _ eo.symm) hi16
            refine lv_iload_n hx hb dX1_next_20 rfl (lv_at hl 1 rfl) ?_
            refine lv_if_lt (tgt := 39) hx hb dX1_next_21 (by decide) (fun c3 => absurd c3 (nI_pos (by omega))) (fun c3 => ?_)
            refine lv_aload_n hx hb dX1_next_24 rfl (lv_at hl 0 rfl) ?_
            refine va_get (D := D) (ci := 1) (v := .ref (ad 1)) (C := RX1) (T := TX1) (N := 7) hx hb hts in_X1 hown hK hP 0 rfl rfl 2 (by decide) (hts _ q148) (fun _ h9 => h9) rfl dX1_next_25 ?_
            refine lv_iload_n hx hb dX1_next_28 rfl (lv_at hl 2 rfl) ?_
            refine tr_iald (k := i) hx hb hK hP 2 1 rfl rfl rfl hi16 (by decide) dX1_next_29 ?_
            refine lv_aload_n hx hb dX1_next_30 rfl (lv_at hl 0 rfl) ?_
            refine va_get (D := D) (ci := 1) (v := .ref (ad 1)) (C := RX1) (T := TX1) (N := 7) hx hb hts in_X1 hown hK hP 0 rfl rfl 2 (by decide) (hts _ q148) (fun _ h9 => h9) rfl dX1_next_31 ?_
            refine lv_iload_n hx hb dX1_next_34 rfl (lv_at hl 1 rfl) ?_
            refine tr_iald (k := b) hx hb hK hP 2 1 rfl rfl rfl hb16 (by decide) dX1_next_35 ?_
            refine lv_icmp_ge (tgt := 43) hx hb dX1_next_36 (by decide) (fun c4 => ?_) (fun c4 => ?_)
            · refine lv_iload_n hx hb dX1_next_43 rfl (lv_at hl 1 rfl) ?_
              refine lv_istore_n (lv' := [(1, .int (nI b)), (0, .ref h), (2, .int (nI i))]) hx hb dX1_next_44 rfl hl (by decide) rfl (fun ls hl => ?_)
              refine lv_iinc (v := nI (i + 1)) (lv' := [(2, .int (nI (i + 1))), (1, .int (nI b)), (0, .ref h)]) hx hb dX1_next_45 hl (k := 2) rfl (nI_1 i) (by decide) rfl (fun ls hl => ?_)
              refine lv_goto (tgt := 5) hx hb dX1_next_48 (by decide) ?_
              exact ih (i + 1) (some b) _ _ _ _ (by omega) (by omega) (by rw [tm_nxL_k (u := (t, on, du, pe, rc, wo, wn)) c2 eo c4]) rfl hP hD hS (lv_sub hl [2, 1, 0] rfl)
            · refine lv_iload_n hx hb dX1_next_39 rfl (lv_at hl 2 rfl) ?_
              refine lv_goto (tgt := 44) hx hb dX1_next_40 (by decide) ?_
              refine lv_istore_n (lv' := [(1, .int (nI i)), (0, .ref h), (2, .int (nI i))]) hx hb dX1_next_44 rfl hl (by decide) rfl (fun ls hl => ?_)
              refine lv_iinc (v := nI (i + 1)) (lv' := [(2, .int (nI (i + 1))), (1, .int (nI i)), (0, .ref h)]) hx hb dX1_next_45 hl (k := 2) rfl (nI_1 i) (by decide) rfl (fun ls hl => ?_)
              refine lv_goto (tgt := 5) hx hb dX1_next_48 (by decide) ?_
              exact ih (i + 1) (some i) _ _ _ _ (by omega) (by omega) (by rw [tm_nxL_c (u := (t, on, du, pe, rc, wo, wn)) c2 eo c4]) rfl hP hD hS (lv_sub hl [2, 1, 0] rfl)
  exact loop 17 0 none _ _ _ _ (by omega) (by omega) rfl rfl hP hD hS (lv_sub hl [2, 1, 0] rfl)
set_option maxHeartbeats 4000000 in
set_option maxRecDepth 100000 in
theorem mM_toNext (l : Launch) (D : va_G) (h : Nat) (ad : Nat → Nat) (ca : Nat → ClassId) (u : mS) (hn : ∀ b, tm_nxL u t16 = some b → ∃ N : Nat, N ≤ 1000 ∧ tm_du u b - nI (tm_t u) = nI N) : tr_Ci l D (kM ca) (wM h ad ca) yX1_toNext cX1_toNext 4 (some .int) ({ frames := 2, cells := 0, slots := 0, locals := 44 }) [.ref h] u (fun r v => (v, r) = tm_toNext u) := by
  obtain ⟨t, on, du, pe, rc, wo, wn⟩ := u
  refine tr_enteri (by decide) (Nat.le_of_ble_eq_true rfl) ?_
  intro p e s m below meth c A ls hx hb hr hml hown hts hlocks hA hK hP hD hS hl
  have hown : s.vm.findClass RX1 = some m.cls := hown
  have hP : va_P D vwCl (wM h ad ca (t, on, du, pe, rc, wo, wn)) s.heap := hP
  have hD : va_D A (wM h ad ca (t, on, du, pe, rc, wo, wn)) := hD
  have hl : lv_has ls 4 [(0, .ref h)] := hl
  refine lv_aload_n hx hb dX1_toNext_0 rfl (lv_at hl 0 rfl) ?_
  refine tr_calli (v := (t, on, du, pe, rc, wo, wn)) (wf := wM h ad ca) (wr := []) (As := []) (rest := []) (k := 0) (ci := 1) ⟨hx, hb, hml, hown, hts⟩ (mM_next l D h ad ca (t, on, du, pe, rc, wo, wn)) (cwV 0 hts (lw_V q197 q198 q199 q13 q200) rfl rfl rfl (by decide +kernel) ⟨Nat.le_of_ble_eq_true rfl, Nat.le_of_ble_eq_true rfl⟩) hK hP tr_Pnl hD tr_ap.nl hS hA rfl rfl rfl hl.1 rfl (Nat.le_of_ble_eq_true rfl) dX1_toNext_1 ⟨Nat.zero_le _, Nat.zero_le _⟩ (fun rn u H locs hw hP _ hD _ hS => ?_)
  obtain ⟨rfl, hw⟩ := hw
  have hP : va_P D vwCl (wM h ad ca (t, on, du, pe, rc, wo, wn)) H := hP
  have hD : va_D A (wM h ad ca (t, on, du, pe, rc, wo, wn)) := hD
  cases ho : tm_nxL (t, on, du, pe, rc, wo, wn) t16 with
  | none =>
    rw [ho] at hw
    have hw : rn = -2 := hw
    subst hw
    refine lv_istore_n (lv' := [(1, .int (-2)), (0, .ref h)]) hx hb dX1_toNext_4 rfl hl (by decide) rfl (fun ls hl => ?_)
    refine lv_iload_n hx hb dX1_toNext_5 rfl (lv_at hl 0 rfl) ?_
    refine lv_if_ge (tgt := 12) hx hb dX1_toNext_6 (by decide) (fun c1 => absurd c1 (by decide)) (fun c1 => ?_)
    refine lv_bipush (v := -2) hx hb dX1_toNext_9 (by decide) ?_
    exact tr_iret (u := (t, on, du, pe, rc, wo, wn)) hx hb hr hlocks dX1_toNext_11 hP hK hD hS ((tm_toNext_0 (t, on, du, pe, rc, wo, wn) ho.symm).symm)
  | some b =>
    rw [ho] at hw
    have hw : rn = nI b := hw
    subst hw
    have hb16 : b < 16 := by have z := tm_nxL_lt _ _ _ ho; rw [t16_eq] at z; exact z
    obtain ⟨N, hN, eN⟩ := hn b ho
    have eN : du b - nI t = nI N := eN
    refine lv_istore_n (lv' := [(1, .int (nI b)), (0, .ref h)]) hx hb dX1_toNext_4 rfl hl (by decide) rfl (fun ls hl => ?_)
    refine lv_iload_n hx hb dX1_toNext_5 rfl (lv_at hl 0 rfl) ?_
    refine lv_if_ge (tgt := 12) hx hb dX1_toNext_6 (by decide) (fun c1 => ?_) (fun c1 => absurd (nI_pos' (by omega)) c1)
    refine lv_aload_n hx hb dX1_toNext_12 rfl (lv_at hl 1 rfl) ?_
    refine va_get (D := D) (ci := 1) (v := .ref (ad 1)) (C := RX1) (T := TX1) (N := 7) hx hb hts in_X1 hown hK hP 0 rfl rfl 2 (by decide) (hts _ q148) (fun _ h9 => h9) rfl dX1_toNext_13 ?_
    refine lv_iload_n hx hb dX1_toNext_16 rfl (lv_at hl 0 rfl) ?_
    refine tr_iald (k := b) hx hb hK hP 2 1 rfl rfl rfl hb16 (by decide) dX1_toNext_17 ?_
    refine lv_aload_n hx hb dX1_toNext_18 rfl (lv_at hl 1 rfl) ?_
    refine va_get (D := D) (ci := 1) (v := .int (nI t)) (C := RX1) (T := TX1) (N := 7) hx hb hts in_X1 hown hK hP 0 rfl rfl 0 (by decide) (hts _ q146) (fun _ h9 => h9) rfl dX1_toNext_19 ?_
    refine lv_isub hx hb dX1_toNext_22 ?_
    refine tr_re (z' := nI N) eN ?_
    refine lv_istore_n (lv' := [(2, .int (nI N)), (1, .int (nI b)), (0, .ref h)]) hx hb dX1_toNext_23 rfl hl (by decide) rfl (fun ls hl => ?_)
    refine lv_iconst (v := 0) hx hb dX1_toNext_24 (by decide) ?_
    refine tr_re (z' := nI 0) nI_0.symm ?_
    refine lv_istore_n (lv' := [(3, .int (nI 0)), (2, .int (nI N)), (1, .int (nI b)), (0, .ref h)]) hx hb dX1_toNext_25 rfl hl (by decide) rfl (fun ls hl => ?_)
    have loop : ∀ (f i a : Nat) (v : mS) (H : Heap) (locs : List Loc) (ls : Array Slot), i ≤ N → N + 1 ≤ i + f → (v, a) = tm_tks (t, on, du, pe, rc, wo, wn) i → va_P D vwCl (wM h ad ca v) H → va_D A (wM h ad ca v) → va_S A s.heap H locs → lv_has ls 4 [(0, .ref h), (2, .int (nI N)), (3, .int (nI i))] → W p l e ({ frames := 2, cells := 0, slots := 0, locals := 44 }) s m ([.ref h] : List Value).toArray below meth c H locs 0 0 (MQ below (va_Qi (fun r v => (v, r) = tm_toNext (t, on, du, pe, rc, wo, wn)) (tr_B D (kM ca) (wM h ad ca) A) A) ([.ref h] : List Value).toArray s 0 0 A) (F0 m 26 ls []) := by
      intro f
      induction f with
      | zero =>
        intro i a v H locs ls h1 h2
        exact absurd h2 (by omega)
      | succ f ih =>
        intro i a v H locs ls hi hin ev hP hD hS hl
        obtain ⟨t1, on1, du1, pe1, rc1, wo1, wn1⟩ := v
        refine lv_iload_n hx hb dX1_toNext_26 rfl (lv_at hl 2 rfl) ?_
        refine lv_iload_n hx hb dX1_toNext_27 rfl (lv_at hl 1 rfl) ?_
        refine lv_icmp_ge (tgt := 42) hx hb dX1_toNext_28 (by decide) (fun c3 => ?_) (fun c3 => ?_)
        · have hi1 : i = N := by rcases Nat.lt_or_ge i N with z | z; exact absurd c3 (nI_ge (a := i) (b := N) z (by omega)); omega
          subst hi1
          refine lv_iload_n hx hb dX1_toNext_42 rfl (lv_at hl 1 rfl) ?_
          exact tr_iret (u := (t1, on1, du1, pe1, rc1, wo1, wn1)) hx hb hr hlocks dX1_toNext_43 hP hK hD hS (by rw [tm_toNext_1 (t, on, du, pe, rc, wo, wn) ho.symm (by omega) eN, ← ev])
        · have hi1 : i < N := by rcases Nat.lt_or_ge i N with z | z; exact z; exact absurd (nI_le (a := N) (b := i) z (by omega)) c3
          refine lv_aload_n hx hb dX1_toNext_31 rfl (lv_at hl 0 rfl) ?_
          refine tr_calli (v := (t1, on1, du1, pe1, rc1, wo1, wn1)) (wf := wM h ad ca) (wr := []) (As := []) (rest := []) (k := 0) (ci := 1) ⟨hx, hb, hml, hown, hts⟩ (mM_tick l D h ad ca (t1, on1, du1, pe1, rc1, wo1, wn1)) (cwV 0 hts (lw_V q185 q187 qs8 q13 q188) rfl rfl rfl (by decide +kernel) ⟨Nat.le_of_ble_eq_true rfl, Nat.le_of_ble_eq_true rfl⟩) hK hP tr_Pnl hD tr_ap.nl hS hA rfl rfl rfl hl.1 rfl (Nat.le_of_ble_eq_true rfl) dX1_toNext_32 ⟨Nat.zero_le _, Nat.zero_le _⟩ (fun rt u H locs hw hP _ hD _ hS => ?_)
          obtain ⟨q, hw, rfl⟩ := hw
          obtain ⟨t2, on2, du2, pe2, rc2, wo2, wn2⟩ := u
          have hP : va_P D vwCl (wM h ad ca (t2, on2, du2, pe2, rc2, wo2, wn2)) H := hP
          have hD : va_D A (wM h ad ca (t2, on2, du2, pe2, rc2, wo2, wn2)) := hD
          refine lv_pop hx hb dX1_toNext_35 rfl ?_
          refine lv_iinc (v := nI (i + 1)) (lv' := [(3, .int (nI (i + 1))), (0, .ref h), (2, .int (nI N))]) hx hb dX1_toNext_36 hl (k := 2) rfl (nI_1 i) (by decide) rfl (fun ls hl => ?_)
          refine lv_goto (tgt := 26) hx hb dX1_toNext_39 (by decide) ?_
          exact ih (i + 1) (a + q) _ _ _ _ (by omega) (by omega) (tm_tks_go ev hw) hP hD hS (lv_sub hl [1, 2, 0] rfl)
    exact loop (N + 1) 0 0 _ _ _ _ (by omega) (by omega) rfl hP hD hS (lv_sub hl [3, 1, 0] rfl)
end
section
/-! THE PLAIN LAW, 1: bits, the wheel as a relation, place, unplace, moveDown -/
theorem tb_b : ∀ k, k < 32 → ∀ i, i < 32 → bt (tw_b k) i = decide (i = k) := by decide +kernel
theorem tb_or (z : Int32) {k i : Nat} (hk : k < 16) (hi : i < 32) : bt (z ||| tw_b k) i = (bt z i || decide (i = k)) := by
  rw [b_or, tb_b k (by omega) i hi]
theorem tb_clr (z : Int32) {k i : Nat} (hk : k < 16) (hi : i < 32) : bt (z &&& (tw_b k ^^^ (-1))) i = (bt z i && !decide (i = k)) := by
  rw [b_and, b_xor, tb_b k (by omega) i hi, b_m1 i hi, Bool.xor_true]
/-- the wheel's bits: timer k stands at the place co k, and only there, if P k -/
def tq_W (P : Nat → Bool) (co : Nat → Nat) (wh : Nat → Int32) : Prop := ∀ k, k < 16 → ∀ c, c < 24 → bt (wh c) k = (P k && decide (co k = c))
def tq_C (co : Nat → Nat) (cr : Nat → Int32) : Prop := ∀ k, k < 16 → co k < 24 ∧ cr k = nI (co k)
theorem tq_W.cg {P P' : Nat → Bool} {co co' : Nat → Nat} {wh : Nat → Int32} (h : tq_W P co wh) (hP : ∀ k, k < 16 → P k = P' k) (hc : ∀ k, k < 16 → P k = true → co k = co' k) : tq_W P' co' wh := by
  intro k hk c hcc
  rw [h k hk c hcc, ← hP k hk]
  cases hp : P k
  · rfl
  · rw [hc k hk hp]
theorem tq_C.cg {co co' : Nat → Nat} {cr : Nat → Int32} (h : tq_C co cr) (hc : ∀ k, k < 16 → co k = co' k) : tq_C co' cr := by
  intro k hk
  rw [← hc k hk]
  exact h k hk
/-- where a timer due at d belongs at time t -/
def tq_cl (d t : Nat) : Nat := if d < t + 64 then (if d < t + 8 then d % 8 else 8 + d / 8 % 8) else 16 + d / 64 % 8
theorem tq_cl_lt (d t : Nat) : tq_cl d t < 24 := by
  unfold tq_cl
  split
  · split <;> omega
  · omega
theorem tq_sub64 {d t : Nat} (hd : d < 2 ^ 30) (ht : t < 2 ^ 30) : nI d - nI t < 64 ↔ d < t + 64 := by
  rw [Int32.lt_iff_toInt_lt, pk_sub_toInt hd ht, show (64 : Int32).toInt = 64 from by decide]
  omega
theorem tq_sub8 {d t : Nat} (hd : d < 2 ^ 30) (ht : t < 2 ^ 30) : nI d - nI t < 8 ↔ d < t + 8 := by
  rw [Int32.lt_iff_toInt_lt, pk_sub_toInt hd ht, show (8 : Int32).toInt = 8 from by decide]
  omega
theorem tq_cl_eq {d t : Nat} (hd : d < 2 ^ 30) (ht : t < 2 ^ 30) : tw_cl (nI d) (nI t) = tq_cl d t := by
  have e3 : (nI d >>> ((3 : Int32) &&& 31)).toBitVec.toNat = d / 8 := by
    rw [pk_shrN (by omega) _ 3 (by decide), pk_tn (by omega)]
  have e6 : (nI d >>> ((6 : Int32) &&& 31)).toBitVec.toNat = d / 64 := by
    rw [pk_shrN (by omega) _ 6 (by decide), pk_tn (by omega)]
  unfold tw_cl tq_cl
  rw [e3, e6, pk_tn (show d < 2 ^ 32 by omega)]
  by_cases h1 : d < t + 64
  · rw [if_pos h1, if_pos ((tq_sub64 hd ht).mpr h1)]
    by_cases h2 : d < t + 8
    · rw [if_pos h2, if_pos ((tq_sub8 hd ht).mpr h2)]
    · rw [if_neg h2, if_neg (fun z => h2 ((tq_sub8 hd ht).mp z))]
  · rw [if_neg h1, if_neg (fun z => h1 ((tq_sub64 hd ht).mp z))]
theorem tq_place {u : xS} {k d : Nat} {P : Nat → Bool} {co : Nat → Nat} (hk : k < 16) (hW : tq_W P co (tw_wh u)) (hC : tq_C co (tw_co u)) (hd : tw_du u k = nI d) (hdb : d < 2 ^ 30) (ht : tw_t u < 2 ^ 30) (hP : P k = false) :
    tq_W (va_up P k true) (va_up co k (tq_cl d (tw_t u))) (tw_wh (tw_place u k)) ∧ tq_C (va_up co k (tq_cl d (tw_t u))) (tw_co (tw_place u k)) := by
  have e : tw_cl (tw_du u k) (nI (tw_t u)) = tq_cl d (tw_t u) := by rw [hd]; exact tq_cl_eq hdb ht
  rw [tw_place_eq u e]
  have hcl := tq_cl_lt d (tw_t u)
  generalize tq_cl d (tw_t u) = cn at hcl ⊢
  constructor
  · intro j hj c hc
    show bt (upd (tw_wh u) cn (tw_wh u cn ||| tw_b k) c) j = _
    by_cases hjk : j = k
    · subst hjk
      rw [va_up_self, va_up_self, Bool.true_and]
      by_cases hcc : c = cn
      · subst hcc
        rw [pk_us, tb_or _ hk (by omega)]
        simp
      · rw [pk_un hcc, hW j hj c hc, hP, Bool.false_and, decide_eq_false (fun z => hcc z.symm)]
    · rw [va_up_ne P true hjk, va_up_ne co cn hjk]
      by_cases hcc : c = cn
      · subst hcc
        rw [pk_us, tb_or _ hk (by omega), decide_eq_false hjk, Bool.or_false]
        exact hW j hj c hc
      · rw [pk_un hcc]
        exact hW j hj c hc
  · intro j hj
    show va_up co k cn j < 24 ∧ upd (tw_co u) k (nI cn) j = nI (va_up co k cn j)
    by_cases hjk : j = k
    · subst hjk
      rw [va_up_self, pk_us]
      exact ⟨hcl, rfl⟩
    · rw [va_up_ne co cn hjk, pk_un hjk]
      exact hC j hj
theorem tq_unplace {u : xS} {k : Nat} {P : Nat → Bool} {co : Nat → Nat} (hk : k < 16) (hW : tq_W P co (tw_wh u)) (hC : tq_C co (tw_co u)) : tq_W (va_up P k false) co (tw_wh (tw_unplace u k)) := by
  obtain ⟨hlt, e⟩ := hC k hk
  rw [tw_unplace_eq u hlt e]
  intro j hj c hc
  show bt (upd (tw_wh u) (co k) (tw_wh u (co k) &&& (tw_b k ^^^ (-1))) c) j = _
  by_cases hjk : j = k
  · subst hjk
    rw [va_up_self, Bool.false_and]
    by_cases hcc : c = co j
    · subst hcc
      rw [pk_us, tb_clr _ hk (by omega)]
      simp
    · rw [pk_un hcc, hW j hj c hc, decide_eq_false (fun z => hcc z.symm), Bool.and_false]
  · rw [va_up_ne P false hjk]
    by_cases hcc : c = co k
    · subst hcc
      rw [pk_us, tb_clr _ hk (by omega), decide_eq_false hjk, Bool.not_false, Bool.and_true]
      exact hW j hj _ hc
    · rw [pk_un hcc]
      exact hW j hj c hc
theorem tq_clr {u : xS} {c0 : Nat} {P : Nat → Bool} {co : Nat → Nat} (hW : tq_W P co (tw_wh u)) : tq_W (fun j => P j && !decide (co j = c0)) co (tw_wh (tw_clr u c0)) := by
  intro j hj c hc
  show bt (upd (tw_wh u) c0 0 c) j = ((P j && !decide (co j = c0)) && decide (co j = c))
  by_cases hcc : c = c0
  · subst hcc
    rw [pk_us, b_0]
    cases P j <;> by_cases h : co j = c <;> simp [h]
  · rw [pk_un hcc, hW j hj c hc]
    by_cases h : co j = c
    · rw [decide_eq_true h, decide_eq_false (fun z => hcc (h.symm.trans z))]
      simp
    · rw [decide_eq_false h]
      simp
/-- all of a state but the wheel and the timers' places -/
def tq_rest (u : xS) : Nat × Int32 × (Nat → Int32) × (Nat → Int32) × Nat × (Nat → Int32) × (Nat → Int32) := (tw_t u, tw_so u, tw_du u, tw_pe u, tw_rc u, tw_ro u, tw_ra u)
theorem tq_rest_i {u v : xS} (h : tq_rest u = tq_rest v) : tw_t u = tw_t v ∧ tw_so u = tw_so v ∧ tw_du u = tw_du v ∧ tw_pe u = tw_pe v ∧ tw_rc u = tw_rc v ∧ tw_ro u = tw_ro v ∧ tw_ra u = tw_ra v := by
  unfold tq_rest at h
  simp only [Prod.mk.injEq] at h
  exact h
theorem tq_rest_mdL (z : Int32) (u : xS) : ∀ i, tq_rest (tw_mdL z u i) = tq_rest u
  | 0 => rfl
  | i + 1 => by
    have ih := tq_rest_mdL z u i
    cases hb : bt z i
    · rw [tw_mdL_n hb]
      exact ih
    · rw [tw_mdL_s hb]
      exact ih
theorem tq_mdL {u : xS} {c0 : Nat} {P : Nat → Bool} {co d : Nat → Nat} (hc0 : c0 < 24) (hW : tq_W P co (tw_wh u)) (hC : tq_C co (tw_co u)) (hd : ∀ k, k < 16 → tw_du u k = nI (d k) ∧ d k < 2 ^ 30) (ht : tw_t u < 2 ^ 30) : ∀ i, i ≤ 16 →
    tq_W (fun j => P j && (!decide (co j = c0) || decide (j < i))) (fun j => if (P j = true ∧ co j = c0) ∧ j < i then tq_cl (d j) (tw_t u) else co j) (tw_wh (tw_mdL (tw_wh u c0) (tw_clr u c0) i)) ∧ tq_C (fun j => if (P j = true ∧ co j = c0) ∧ j < i then tq_cl (d j) (tw_t u) else co j) (tw_co (tw_mdL (tw_wh u c0) (tw_clr u c0) i))
  | 0, _ => by
    constructor
    · refine (tq_clr (c0 := c0) hW).cg (fun k _ => ?_) (fun k _ _ => ?_)
      · simp
      · exact (if_neg (fun z => Nat.not_lt_zero _ z.2)).symm
    · exact hC.cg (fun k _ => (if_neg (fun z => Nat.not_lt_zero _ z.2)).symm)
  | i + 1, hi => by
    obtain ⟨h1, h2⟩ := tq_mdL hc0 hW hC hd ht i (by omega)
    have hbit := hW i (by omega) c0 hc0
    by_cases hb : P i = true ∧ co i = c0
    · have hb1 : bt (tw_wh u c0) i = true := by rw [hbit, hb.1, decide_eq_true hb.2]; rfl
      obtain ⟨e1, e2, e3, -⟩ := tq_rest_i (tq_rest_mdL (tw_wh u c0) (tw_clr u c0) i)
      obtain ⟨g1, g2⟩ := tq_place (u := tw_mdL (tw_wh u c0) (tw_clr u c0) i) (k := i) (d := d i) (by omega) h1 h2 (by rw [e3]; exact (hd i (by omega)).1) (hd i (by omega)).2 (by rw [e1]; exact ht) (by simp [hb.2])
      rw [tw_mdL_s hb1]
      rw [show tw_t (tw_mdL (tw_wh u c0) (tw_clr u c0) i) = tw_t u from e1] at g1 g2
      have hco : ∀ j, va_up (fun j => if (P j = true ∧ co j = c0) ∧ j < i then tq_cl (d j) (tw_t u) else co j) i (tq_cl (d i) (tw_t u)) j = if (P j = true ∧ co j = c0) ∧ j < i + 1 then tq_cl (d j) (tw_t u) else co j := by
        intro j
        by_cases hj : j = i
        · subst hj
          rw [va_up_self, if_pos ⟨hb, by omega⟩]
        · rw [va_up_ne _ _ hj]
          by_cases hq : (P j = true ∧ co j = c0) ∧ j < i
          · rw [if_pos hq, if_pos ⟨hq.1, by omega⟩]
          · rw [if_neg hq, if_neg (fun z => hq ⟨z.1, by omega⟩)]
      refine ⟨g1.cg (fun j _ => ?_) (fun j _ _ => hco j), g2.cg (fun j _ => hco j)⟩
      by_cases hj : j = i
      · subst hj
        rw [va_up_self, hb.1]
        simp
      · rw [va_up_ne _ _ hj]
        by_cases hji : j < i
        · simp [hji, show j < i + 1 by omega]
        · simp [hji, show ¬ j < i + 1 by omega]
    · have hb0 : bt (tw_wh u c0) i = false := by
        rw [hbit]
        cases hp : P i
        · rfl
        · rw [decide_eq_false (fun z => hb ⟨hp, z⟩)]
          rfl
      rw [tw_mdL_n hb0]
      have hco : ∀ j, (if (P j = true ∧ co j = c0) ∧ j < i then tq_cl (d j) (tw_t u) else co j) = if (P j = true ∧ co j = c0) ∧ j < i + 1 then tq_cl (d j) (tw_t u) else co j := by
        intro j
        by_cases hq : (P j = true ∧ co j = c0) ∧ j < i
        · rw [if_pos hq, if_pos ⟨hq.1, by omega⟩]
        · rw [if_neg hq, if_neg (fun z => hq ⟨z.1, by
            rcases Nat.lt_or_ge j i with g | g
            · exact g
            · have : j = i := by omega
              subst this
              exact absurd z.1 hb⟩)]
      refine ⟨h1.cg (fun j _ => ?_) (fun j _ _ => hco j), h2.cg (fun j _ => hco j)⟩
      by_cases hj : j = i
      · subst hj
        cases hp : P j
        · simp
        · have : ¬ co j = c0 := fun z => hb ⟨hp, z⟩
          simp [this]
      · by_cases hji : j < i
        · simp [hji, show j < i + 1 by omega]
        · simp [hji, show ¬ j < i + 1 by omega]
/-- moveDown: the timers at the place c0 stand where their time puts them; all else is as it was -/
theorem tq_md {u : xS} {c0 : Nat} {P : Nat → Bool} {co d : Nat → Nat} (hc0 : c0 < 24) (hW : tq_W P co (tw_wh u)) (hC : tq_C co (tw_co u)) (hd : ∀ k, k < 16 → tw_du u k = nI (d k) ∧ d k < 2 ^ 30) (ht : tw_t u < 2 ^ 30) :
    tq_W P (fun j => if P j = true ∧ co j = c0 then tq_cl (d j) (tw_t u) else co j) (tw_wh (tw_md u c0)) ∧ tq_C (fun j => if P j = true ∧ co j = c0 then tq_cl (d j) (tw_t u) else co j) (tw_co (tw_md u c0)) ∧ tq_rest (tw_md u c0) = tq_rest u := by
  obtain ⟨h1, h2⟩ := tq_mdL hc0 hW hC hd ht t16 (by rw [t16_eq]; exact Nat.le_refl _)
  have hco : ∀ j, j < 16 → (if (P j = true ∧ co j = c0) ∧ j < t16 then tq_cl (d j) (tw_t u) else co j) = if P j = true ∧ co j = c0 then tq_cl (d j) (tw_t u) else co j := by
    intro j hj
    by_cases hq : P j = true ∧ co j = c0
    · rw [if_pos hq, if_pos ⟨hq, by rw [t16_eq]; exact hj⟩]
    · rw [if_neg hq, if_neg (fun z => hq z.1)]
  unfold tw_md
  refine ⟨h1.cg (fun j hj => ?_) (fun j hj _ => hco j hj), h2.cg hco, tq_rest_mdL _ _ _⟩
  rw [decide_eq_true (show j < t16 by rw [t16_eq]; exact hj), Bool.or_true, Bool.and_true]
end
section
/-! THE PLAIN LAW, 2: the relation between the two states; one tick -/
/-- timer due at d stands rightly at the place c, at time t (lo: t < d, or t ≤ d within a tick) -/
def tq_L (t d c : Nat) : Prop := (c < 8 ∧ c = d % 8 ∧ d < t + 8) ∨ (8 ≤ c ∧ c < 16 ∧ c = 8 + d / 8 % 8 ∧ t / 8 < d / 8 ∧ d / 8 ≤ t / 8 + 8) ∨ (16 ≤ c ∧ c = 16 + d / 64 % 8 ∧ t / 64 < d / 64 ∧ d / 64 ≤ t / 64 + 8)
def tq_V (t d c : Nat) : Prop := t < d ∧ d ≤ t + 500 ∧ tq_L t d c
theorem tq_L_cl {t d : Nat} (h2 : d ≤ t + 500) : tq_L t d (tq_cl d t) := by
  unfold tq_L tq_cl
  split
  · split
    · left; omega
    · right; left; omega
  · right; right; omega
/-- the first move: the wheel of sixty-fours -/
theorem tq_s1 {t d c c1 : Nat} (h : tq_V t d c) (e : c1 = if (t + 1) % 64 = 0 ∧ c = 16 + (t + 1) / 64 % 8 then tq_cl d (t + 1) else c) :
    (c1 < 8 ∧ c1 = d % 8 ∧ d < t + 9) ∨ (8 ≤ c1 ∧ c1 < 16 ∧ c1 = 8 + d / 8 % 8 ∧ t / 8 < d / 8 ∧ d / 8 ≤ t / 8 + 8) ∨ (16 ≤ c1 ∧ c1 = 16 + d / 64 % 8 ∧ (t + 1) / 64 < d / 64 ∧ d / 64 ≤ (t + 1) / 64 + 8) := by
  obtain ⟨h1, h2, h3⟩ := h
  unfold tq_L at h3
  by_cases hq : (t + 1) % 64 = 0 ∧ c = 16 + (t + 1) / 64 % 8
  · rw [if_pos hq] at e
    have hd : d / 64 = (t + 1) / 64 := by omega
    unfold tq_cl at e
    split at e
    · split at e
      · left; omega
      · right; left; omega
    · omega
  · rw [if_neg hq] at e
    subst e
    rcases h3 with z | z | z
    · left; omega
    · right; left; omega
    · right; right
      by_cases hm : (t + 1) % 64 = 0
      · have : ¬ c1 = 16 + (t + 1) / 64 % 8 := fun w => hq ⟨hm, w⟩
        omega
      · omega
/-- the second move: the wheel of eights; then the place tells who is due now -/
theorem tq_s2 {t d c c1 c2 : Nat} (h : tq_V t d c) (e1 : c1 = if (t + 1) % 64 = 0 ∧ c = 16 + (t + 1) / 64 % 8 then tq_cl d (t + 1) else c) (e2 : c2 = if (t + 1) % 8 = 0 ∧ c1 = 8 + (t + 1) / 8 % 8 then tq_cl d (t + 1) else c1) :
    tq_L (t + 1) d c2 ∧ (c2 = (t + 1) % 8 ↔ d = t + 1) := by
  have h1 := tq_s1 h e1
  obtain ⟨g1, g2, -⟩ := h
  by_cases hq : (t + 1) % 8 = 0 ∧ c1 = 8 + (t + 1) / 8 % 8
  · rw [if_pos hq] at e2
    have hd : d / 8 = (t + 1) / 8 := by omega
    have hc : c2 = d % 8 := by
      rw [e2]
      unfold tq_cl
      rw [if_pos (by omega), if_pos (by omega)]
    exact ⟨Or.inl (by omega), by omega⟩
  · rw [if_neg hq] at e2
    subst e2
    rcases h1 with z | z | z
    · exact ⟨Or.inl (by omega), by omega⟩
    · have hz : (t + 1) / 8 < d / 8 ∧ d / 8 ≤ (t + 1) / 8 + 8 := by
        by_cases hm : (t + 1) % 8 = 0
        · have : ¬ c2 = 8 + (t + 1) / 8 % 8 := fun w => hq ⟨hm, w⟩
          omega
        · omega
      exact ⟨Or.inr (Or.inl (by omega)), by omega⟩
    · exact ⟨Or.inr (Or.inr (by omega)), by omega⟩
/-- what the two states have in common -/
def tq_A (u : xS) (m : mS) (d p : Nat → Nat) : Prop :=
  tw_t u = tm_t m ∧ tw_rc u = tm_rc m ∧ (∀ k, k < 16 → tw_du u k = nI (d k) ∧ tm_du m k = nI (d k) ∧ d k ≤ tw_t u + 500) ∧ (∀ k, k < 16 → tw_pe u k = nI (p k) ∧ tm_pe m k = nI (p k) ∧ p k ≤ 500) ∧
  (∀ k, k < 16 → tm_on m k = if bt (tw_so u) k = true then 1 else 0) ∧ (∀ k, 16 ≤ k → k < 32 → bt (tw_so u) k = false) ∧
  (∀ i, i < 20 → i < tw_rc u → tw_ro u ((tw_rc u - 1 - i) % 20) = tm_wo m i ∧ tw_ra u ((tw_rc u - 1 - i) % 20) = tm_wn m i)
/-- the relation: the wheel holds just the timers that are set, each where it belongs -/
def tq_R (u : xS) (m : mS) : Prop := ∃ (d p co : Nat → Nat), tq_A u m d p ∧ tq_W (fun k => bt (tw_so u) k) co (tw_wh u) ∧ tq_C co (tw_co u) ∧ ∀ k, k < 16 → bt (tw_so u) k = true → tq_V (tw_t u) (d k) (co k)
theorem tq_A_rest {u v : xS} {m : mS} {d p : Nat → Nat} (h : tq_A u m d p) (e : tq_rest v = tq_rest u) : tq_A v m d p := by
  obtain ⟨e1, e2, e3, e4, e5, e6, e7⟩ := tq_rest_i e
  unfold tq_A
  rw [e1, e2, e3, e4, e5, e6, e7]
  exact h
/-- who and when, moved on by one -/
theorem tm_sh_at (f : Nat → Int32) : ∀ n, n ≤ 19 → ∀ i, i < 20 → tm_sh f n i = if 20 - n ≤ i then f (i - 1) else f i
  | 0, _, i, hi => by
    rw [if_neg (by omega)]
    rfl
  | n + 1, hn, i, hi => by
    have ih := tm_sh_at f n (by omega)
    show upd (tm_sh f n) (19 - n) (tm_sh f n (18 - n)) i = _
    by_cases h : i = 19 - n
    · subst h
      rw [pk_us, ih _ (by omega), if_neg (by omega), if_pos (by omega)]
      congr 1
      omega
    · rw [pk_un h, ih i hi]
      by_cases h2 : 20 - n ≤ i
      · rw [if_pos h2, if_pos (by omega)]
      · rw [if_neg h2, if_neg (by omega)]
theorem tm_sh_0 (f : Nat → Int32) (z : Int32) : upd (tm_sh f 19) 0 z 0 = z := pk_us
theorem tm_sh_s (f : Nat → Int32) (z : Int32) {i : Nat} (hi : i + 1 < 20) : upd (tm_sh f 19) 0 z (i + 1) = f i := by
  rw [pk_un (by omega), tm_sh_at f 19 (by omega) _ hi, if_pos (by omega)]
  rfl
theorem tq_log {f g : Nat → Int32} {rc : Nat} {z : Int32} (h : ∀ i, i < 20 → i < rc → f ((rc - 1 - i) % 20) = g i) : ∀ i, i < 20 → i < rc + 1 → upd f (rc % 20) z ((rc + 1 - 1 - i) % 20) = upd (tm_sh g 19) 0 z i := by
  intro i hi hr
  cases i with
  | zero =>
    rw [show (rc + 1 - 1 - 0) % 20 = rc % 20 from rfl, pk_us, tm_sh_0]
  | succ i =>
    rw [tm_sh_s g z hi, pk_un (by omega), ← h i (by omega) (by omega)]
    congr 2
    omega
/-- the relation in the midst of a tick's ring loop: the timers below i have been looked at -/
def tq_J (z : Int32) (T i : Nat) (u : xS) (m : mS) : Prop := ∃ (d p co : Nat → Nat), tq_A u m d p ∧ tw_t u = T ∧ tq_W (fun k => bt (tw_so u) k && (decide (k < i) || !decide (d k = T))) co (tw_wh u) ∧ tq_C co (tw_co u) ∧ (∀ k, k < 16 → bt (tw_so u) k = true → (k < i ∨ ¬ d k = T) → tq_V T (d k) (co k)) ∧ ∀ k, k < 16 → i ≤ k → bt z k = (bt (tw_so u) k && decide (d k = T))
theorem tq_nple {p : Nat} (h : p ≤ 500) : nI p ≤ 0 ↔ p = 0 := by
  rw [← nI_0]
  exact (nI_leI (by omega) (by omega)).trans (by omega)
/-- what both have in common, behind a ring -/
theorem tq_Ar {u : xS} {m : mS} {d p : Nat → Nat} {i T : Nat} {so' : Int32} {du' wh' co' : Nat → Int32} (hi : i < 16) (h : tq_A u m d p) (hT : tw_t u = T) (hd : d i = T)
    (hso : ∀ k, k < 32 → bt so' k = if k = i then decide (¬ p i = 0) else bt (tw_so u) k) (hdu : ∀ k, k < 16 → du' k = nI (va_up d i (T + p i) k)) :
    tq_A (tw_t u, so', du', tw_pe u, wh', co', tw_rc u + 1, upd (tw_ro u) (tw_rc u % 20) (nI i), upd (tw_ra u) (tw_rc u % 20) (nI (tw_t u))) (tm_ring m i) (va_up d i (T + p i)) p := by
  obtain ⟨a1, a2, a3, a4, a5, a6, a7⟩ := h
  refine ⟨a1, ?_, ?_, a4, ?_, ?_, ?_⟩
  · show tw_rc u + 1 = tm_rc m + 1
    rw [a2]
  · intro k hk
    refine ⟨hdu k hk, ?_, ?_⟩
    · show upd (tm_du m) i (tm_du m i + tm_pe m i) k = _
      by_cases hki : k = i
      · subst hki
        rw [pk_us, va_up_self, (a3 k hk).2.1, (a4 k hk).2.1, hd]
        exact nI_add _ _
      · rw [pk_un hki, va_up_ne _ _ hki]
        exact (a3 k hk).2.1
    · show va_up d i (T + p i) k ≤ tw_t u + 500
      by_cases hki : k = i
      · subst hki
        rw [va_up_self, hT]
        have := (a4 k hk).2.2
        omega
      · rw [va_up_ne _ _ hki]
        exact (a3 k hk).2.2
  · intro k hk
    show upd (tm_on m) i (if tm_pe m i ≤ 0 then 0 else 1) k = if bt so' k = true then 1 else 0
    rw [hso k (by omega)]
    by_cases hki : k = i
    · subst hki
      rw [pk_us, if_pos rfl, (a4 k hk).2.1]
      by_cases hp : p k = 0
      · rw [if_pos ((tq_nple (a4 k hk).2.2).mpr hp), decide_eq_false (fun z => z hp)]
        rfl
      · rw [if_neg (fun z => hp ((tq_nple (a4 k hk).2.2).mp z)), decide_eq_true hp]
        rfl
    · rw [pk_un hki, if_neg hki]
      exact a5 k hk
  · intro k h1 h2
    show bt so' k = false
    rw [hso k h2, if_neg (by omega)]
    exact a6 k h1 h2
  · intro j h1 h2
    refine ⟨?_, ?_⟩
    · show upd (tw_ro u) (tw_rc u % 20) (nI i) ((tw_rc u + 1 - 1 - j) % 20) = upd (tm_sh (tm_wo m) 19) 0 (nI i) j
      exact tq_log (fun i h1 h2 => (a7 i h1 h2).1) j h1 h2
    · show upd (tw_ra u) (tw_rc u % 20) (nI (tw_t u)) ((tw_rc u + 1 - 1 - j) % 20) = upd (tm_sh (tm_wn m) 19) 0 (nI (tm_t m)) j
      rw [← a1]
      exact tq_log (fun i h1 h2 => (a7 i h1 h2).2) j h1 h2
theorem tq_J_ring {z : Int32} {T i : Nat} {u : xS} {m : mS} (hi : i < 16) (hT : T + 500 < 2 ^ 30) (hJ : tq_J z T i u m) (hb : bt z i = true) : tm_on m i ≠ 0 ∧ tm_du m i = nI (tm_t m) ∧ tq_J z T (i + 1) (tw_ring u i) (tm_ring m i) := by
  obtain ⟨d, p, co, hA, ht, hW, hC, hV, hz⟩ := hJ
  have hA0 := hA
  obtain ⟨a1, a2, a3, a4, a5, a6, a7⟩ := hA0
  have hbi := hz i hi (Nat.le_refl _)
  rw [hb] at hbi
  have hon : bt (tw_so u) i = true := by
    cases h : bt (tw_so u) i
    · rw [h] at hbi; cases hbi
    · rfl
  have hd : d i = T := by
    rw [hon, Bool.true_and] at hbi
    exact of_decide_eq_true hbi.symm
  refine ⟨?_, ?_, ?_⟩
  · rw [a5 i hi, if_pos hon]; decide
  · rw [(a3 i hi).2.1, ← a1, ht, hd]
  · by_cases hp : p i = 0
    · rw [tw_ring_0 u (by rw [(a4 i hi).1]; exact (tq_nple (a4 i hi).2.2).mpr hp)]
      have hso : ∀ k, k < 32 → bt (tw_so u &&& (tw_b i ^^^ (-1))) k = if k = i then decide (¬ p i = 0) else bt (tw_so u) k := by
        intro k hk
        rw [tb_clr _ hi hk]
        by_cases hki : k = i
        · rw [if_pos hki, decide_eq_true hki, decide_eq_false (fun z => z hp)]
          simp
        · rw [if_neg hki, decide_eq_false hki]
          simp
      have hdu : ∀ k, k < 16 → tw_du u k = nI (va_up d i (T + p i) k) := by
        intro k hk
        by_cases hki : k = i
        · subst hki
          rw [va_up_self, hp, Nat.add_zero, ← hd]
          exact (a3 k hk).1
        · rw [va_up_ne _ _ hki]
          exact (a3 k hk).1
      have hdd : ∀ k, va_up d i (T + p i) k = d k := by
        intro k
        by_cases hki : k = i
        · subst hki
          rw [va_up_self, hp, Nat.add_zero, hd]
        · rw [va_up_ne _ _ hki]
      have hne : ∀ k, k < 16 → bt (tw_so u &&& (tw_b i ^^^ (-1))) k = true → ¬ k = i ∧ bt (tw_so u) k = true := by
        intro k hk h
        rw [hso k (by omega)] at h
        by_cases hki : k = i
        · rw [if_pos hki, decide_eq_false (fun z => z hp)] at h; cases h
        · rw [if_neg hki] at h
          exact ⟨hki, h⟩
      refine ⟨va_up d i (T + p i), p, co, tq_Ar hi hA ht hd hso hdu, ht, ?_, hC, ?_, ?_⟩
      · refine hW.cg (fun k hk => ?_) (fun k _ _ => rfl)
        show (bt (tw_so u) k && (decide (k < i) || !decide (d k = T))) = (bt (tw_so u &&& (tw_b i ^^^ (-1))) k && (decide (k < i + 1) || !decide (va_up d i (T + p i) k = T)))
        rw [hso k (by omega), hdd k]
        by_cases hki : k = i
        · subst hki
          rw [if_pos rfl, decide_eq_false (show ¬ ¬ p k = 0 from fun z => z hp), hd]
          simp
        · rw [if_neg hki]
          by_cases hlt : k < i
          · simp [hlt, show k < i + 1 by omega]
          · simp [hlt, show ¬ k < i + 1 by omega]
      · intro k hk h1 h2
        rw [hdd k] at h2 ⊢
        obtain ⟨hki, hk1⟩ := hne k hk h1
        exact hV k hk hk1 (h2.imp (fun z => by omega) (fun z => z))
      · intro k hk h1
        show bt z k = (bt (tw_so u &&& (tw_b i ^^^ (-1))) k && decide (va_up d i (T + p i) k = T))
        rw [hso k (by omega), if_neg (by omega), hdd k]
        exact hz k hk (by omega)
    · rw [tw_ring_1 u (by rw [(a4 i hi).1]; exact fun z => hp ((tq_nple (a4 i hi).2.2).mp z))]
      have hp5 := (a4 i hi).2.2
      have hso : ∀ k, k < 32 → bt ((tw_so u &&& (tw_b i ^^^ (-1))) ||| tw_b i) k = if k = i then decide (¬ p i = 0) else bt (tw_so u) k := by
        intro k hk
        rw [tb_or _ hi hk, tb_clr _ hi hk]
        by_cases hki : k = i
        · rw [if_pos hki, decide_eq_true hki, decide_eq_true hp]
          simp
        · rw [if_neg hki, decide_eq_false hki]
          simp
      have hso2 : ∀ k, k < 16 → bt ((tw_so u &&& (tw_b i ^^^ (-1))) ||| tw_b i) k = bt (tw_so u) k := by
        intro k hk
        rw [hso k (by omega)]
        by_cases hki : k = i
        · rw [if_pos hki, decide_eq_true hp, hki, hon]
        · rw [if_neg hki]
      have hdu : ∀ k, k < 16 → upd (tw_du u) i (nI (tw_t u) + tw_pe u i) k = nI (va_up d i (T + p i) k) := by
        intro k hk
        by_cases hki : k = i
        · subst hki
          rw [pk_us, va_up_self, ht, (a4 k hk).1]
          exact nI_add _ _
        · rw [pk_un hki, va_up_ne _ _ hki]
          exact (a3 k hk).1
      have hAr := tq_Ar (wh' := tw_wh u) (co' := tw_co u) hi hA ht hd hso hdu
      have hPl := tq_place (u := (tw_t u, (tw_so u &&& (tw_b i ^^^ (-1))) ||| tw_b i, upd (tw_du u) i (nI (tw_t u) + tw_pe u i), tw_pe u, tw_wh u, tw_co u, tw_rc u + 1, upd (tw_ro u) (tw_rc u % 20) (nI i), upd (tw_ra u) (tw_rc u % 20) (nI (tw_t u)))) (k := i) (d := T + p i) hi hW hC (by
        show upd (tw_du u) i (nI (tw_t u) + tw_pe u i) i = nI (T + p i)
        rw [hdu i hi, va_up_self]) (by omega) (by show tw_t u < 2 ^ 30; omega) (by simp [hd])
      obtain ⟨g1, g2⟩ := hPl
      refine ⟨va_up d i (T + p i), p, va_up co i (tq_cl (T + p i) (tw_t u)), tq_A_rest hAr rfl, ht, ?_, ?_, ?_, ?_⟩
      · refine g1.cg (fun k hk => ?_) (fun k _ _ => rfl)
        show _ = (bt ((tw_so u &&& (tw_b i ^^^ (-1))) ||| tw_b i) k && (decide (k < i + 1) || !decide (va_up d i (T + p i) k = T)))
        rw [hso2 k hk]
        by_cases hki : k = i
        · subst hki
          rw [va_up_self, hon]
          simp
        · rw [va_up_ne _ _ hki, va_up_ne _ _ hki]
          by_cases hlt : k < i
          · simp [hlt, show k < i + 1 by omega]
          · simp [hlt, show ¬ k < i + 1 by omega]
      · exact g2
      · intro k hk h1 h2
        have h1 : bt ((tw_so u &&& (tw_b i ^^^ (-1))) ||| tw_b i) k = true := h1
        rw [hso2 k hk] at h1
        by_cases hki : k = i
        · subst hki
          rw [va_up_self, va_up_self, ht]
          exact ⟨by omega, by omega, tq_L_cl (by omega)⟩
        · rw [va_up_ne _ _ hki] at h2
          rw [va_up_ne _ _ hki, va_up_ne _ _ hki]
          exact hV k hk h1 (h2.imp (fun z => by omega) (fun z => z))
      · intro k hk h1
        show bt z k = (bt ((tw_so u &&& (tw_b i ^^^ (-1))) ||| tw_b i) k && decide (va_up d i (T + p i) k = T))
        rw [hso2 k hk, va_up_ne _ _ (by omega)]
        exact hz k hk (by omega)
theorem tq_J_skip {z : Int32} {T i : Nat} {u : xS} {m : mS} (hi : i < 16) (hT : T + 500 < 2 ^ 30) (hJ : tq_J z T i u m) (hb : bt z i = false) : (tm_on m i = 0 ∨ ¬ tm_du m i = nI (tm_t m)) ∧ tq_J z T (i + 1) u m := by
  obtain ⟨d, p, co, hA, ht, hW, hC, hV, hz⟩ := hJ
  have hA0 := hA
  obtain ⟨a1, a2, a3, a4, a5, a6, a7⟩ := hA0
  have hbi := hz i hi (Nat.le_refl _)
  rw [hb] at hbi
  have hno : ¬ (bt (tw_so u) i = true ∧ d i = T) := by
    rintro ⟨h1, h2⟩
    rw [h1, decide_eq_true h2] at hbi
    cases hbi
  have h5 := (a3 i hi).2.2
  refine ⟨?_, d, p, co, hA, ht, ?_, hC, ?_, fun k hk h1 => hz k hk (by omega)⟩
  · cases h : bt (tw_so u) i
    · left
      rw [a5 i hi, h]
      rfl
    · right
      rw [(a3 i hi).2.1, ← a1, ht]
      intro q
      exact hno ⟨h, (nI_eq (by omega) (by omega)).mp q⟩
  · refine hW.cg (fun k hk => ?_) (fun k _ _ => rfl)
    by_cases hki : k = i
    · subst hki
      cases h : bt (tw_so u) k
      · rfl
      · have : ¬ d k = T := fun q => hno ⟨h, q⟩
        simp [this]
    · by_cases hlt : k < i
      · simp [hlt, show k < i + 1 by omega]
      · simp [hlt, show ¬ k < i + 1 by omega]
  · intro k hk h1 h2
    by_cases hki : k = i
    · subst hki
      exact hV k hk h1 (Or.inr (fun q => hno ⟨h1, q⟩))
    · exact hV k hk h1 (h2.imp (fun z => by omega) (fun z => z))
theorem tq_loop {z : Int32} {T : Nat} {u : xS} {m : mS} (hT : T + 500 < 2 ^ 30) (hJ : tq_J z T 0 u m) : ∀ i, i ≤ 16 → (tw_tkL z u i).2 = (tm_tkL m i).2 ∧ tq_J z T i (tw_tkL z u i).1 (tm_tkL m i).1
  | 0, _ => ⟨rfl, hJ⟩
  | i + 1, hi => by
    obtain ⟨h1, h2⟩ := tq_loop hT hJ i (by omega)
    cases hb : bt z i
    · obtain ⟨g1, g2⟩ := tq_J_skip (by omega) hT h2 hb
      rw [tw_tkL_n hb]
      have e : tm_tkL m i = tm_tkL m (i + 1) := by
        rcases g1 with g | g
        · exact tm_tkL_0 (v := (tm_tkL m i).1) (a := (tm_tkL m i).2) rfl g
        · exact tm_tkL_1 (v := (tm_tkL m i).1) (a := (tm_tkL m i).2) rfl g
      rw [← e]
      exact ⟨h1, g2⟩
    · obtain ⟨g1, g2, g3⟩ := tq_J_ring (by omega) hT h2 hb
      rw [tw_tkL_s hb, ← tm_tkL_2 (v := (tm_tkL m i).1) (a := (tm_tkL m i).2) rfl g1 g2 rfl]
      exact ⟨by rw [h1], g3⟩
/-- one tick: the relation goes on, and as many rang -/
theorem tq_tick {u : xS} {m : mS} (hR : tq_R u m) (ht : tw_t u + 501 < 2 ^ 30) : tq_R (tw_tick u).1 (tm_tick m).1 ∧ (tw_tick u).2 = (tm_tick m).2 := by
  obtain ⟨d, p, co, hA, hW, hC, hV⟩ := hR
  have hA0 := hA
  obtain ⟨a1, a2, a3, a4, a5, a6, a7⟩ := hA0
  -- the time goes on
  have hAi : tq_A (tw_inc u) (tm_inc m) d p := by
    refine ⟨by show tw_t u + 1 = tm_t m + 1; rw [a1], a2, fun k hk => ⟨(a3 k hk).1, (a3 k hk).2.1, ?_⟩, a4, a5, a6, a7⟩
    have := (a3 k hk).2.2
    show d k ≤ tw_t u + 1 + 500
    omega
  have hdd : ∀ k, k < 16 → tw_du (tw_inc u) k = nI (d k) ∧ d k < 2 ^ 30 := fun k hk => ⟨(a3 k hk).1, by have := (a3 k hk).2.2; omega⟩
  -- the first move
  have st1 : ∃ co1 : Nat → Nat, tq_W (fun k => bt (tw_so u) k) co1 (tw_wh (tw_tk1 (tw_inc u))) ∧ tq_C co1 (tw_co (tw_tk1 (tw_inc u))) ∧ tq_rest (tw_tk1 (tw_inc u)) = tq_rest (tw_inc u) ∧ ∀ k, k < 16 → bt (tw_so u) k = true → co1 k = if (tw_t u + 1) % 64 = 0 ∧ co k = 16 + (tw_t u + 1) / 64 % 8 then tq_cl (d k) (tw_t u + 1) else co k := by
    by_cases h : (tw_t u + 1) % 64 = 0
    · rw [tw_tk1_0 (u := tw_inc u) h]
      obtain ⟨g1, g2, g3⟩ := tq_md (u := tw_inc u) (c0 := 16 + tw_t (tw_inc u) / 64 % 8) (P := fun k => bt (tw_so u) k) (by omega) hW hC hdd (by show tw_t u + 1 < 2 ^ 30; omega)
      refine ⟨_, g1, g2, g3, fun k hk hb => ?_⟩
      show (if bt (tw_so u) k = true ∧ co k = 16 + (tw_t u + 1) / 64 % 8 then tq_cl (d k) (tw_t u + 1) else co k) = _
      by_cases hq : co k = 16 + (tw_t u + 1) / 64 % 8
      · rw [if_pos ⟨hb, hq⟩, if_pos ⟨h, hq⟩]
      · rw [if_neg (fun z => hq z.2), if_neg (fun z => hq z.2)]
    · rw [tw_tk1_1 (u := tw_inc u) h]
      exact ⟨co, hW, hC, rfl, fun k hk hb => (if_neg (fun z => h z.1)).symm⟩
  obtain ⟨co1, hW1, hC1, hr1, hc1⟩ := st1
  obtain ⟨e1, e2, e3, -⟩ := tq_rest_i hr1
  have et : tw_t (tw_tk1 (tw_inc u)) = tw_t u + 1 := e1
  -- the second move
  have st2 : ∃ co2 : Nat → Nat, tq_W (fun k => bt (tw_so u) k) co2 (tw_wh (tw_tk2 (tw_tk1 (tw_inc u)))) ∧ tq_C co2 (tw_co (tw_tk2 (tw_tk1 (tw_inc u)))) ∧ tq_rest (tw_tk2 (tw_tk1 (tw_inc u))) = tq_rest (tw_inc u) ∧ ∀ k, k < 16 → bt (tw_so u) k = true → co2 k = if (tw_t u + 1) % 8 = 0 ∧ co1 k = 8 + (tw_t u + 1) / 8 % 8 then tq_cl (d k) (tw_t u + 1) else co1 k := by
    by_cases h : (tw_t u + 1) % 8 = 0
    · rw [tw_tk2_0 (u := tw_tk1 (tw_inc u)) (by rw [et]; exact h)]
      obtain ⟨g1, g2, g3⟩ := tq_md (u := tw_tk1 (tw_inc u)) (c0 := 8 + tw_t (tw_tk1 (tw_inc u)) / 8 % 8) (P := fun k => bt (tw_so u) k) (d := d) (by omega) hW1 hC1 (fun k hk => by rw [e3]; exact hdd k hk) (by rw [et]; omega)
      refine ⟨_, g1, g2, g3.trans hr1, fun k hk hb => ?_⟩
      show (if bt (tw_so u) k = true ∧ co1 k = 8 + tw_t (tw_tk1 (tw_inc u)) / 8 % 8 then tq_cl (d k) (tw_t (tw_tk1 (tw_inc u))) else co1 k) = _
      rw [et]
      by_cases hq : co1 k = 8 + (tw_t u + 1) / 8 % 8
      · rw [if_pos ⟨hb, hq⟩, if_pos ⟨h, hq⟩]
      · rw [if_neg (fun z => hq z.2), if_neg (fun z => hq z.2)]
    · rw [tw_tk2_1 (u := tw_tk1 (tw_inc u)) (by rw [et]; exact h)]
      exact ⟨co1, hW1, hC1, hr1, fun k hk hb => (if_neg (fun z => h z.1)).symm⟩
  obtain ⟨co2, hW2, hC2, hr2, hc2⟩ := st2
  have key : ∀ k, k < 16 → bt (tw_so u) k = true → tq_L (tw_t u + 1) (d k) (co2 k) ∧ (co2 k = (tw_t u + 1) % 8 ↔ d k = tw_t u + 1) := fun k hk hb => tq_s2 (hV k hk hb) (hc1 k hk hb) (hc2 k hk hb)
  unfold tw_tick tm_tick tw_tk3
  generalize tw_tk2 (tw_tk1 (tw_inc u)) = v at hW2 hC2 hr2 ⊢
  obtain ⟨f1, f2, f3, f4, f5, f6, f7⟩ := tq_rest_i hr2
  have f1 : tw_t v = tw_t u + 1 := f1
  have f2 : tw_so v = tw_so u := f2
  rw [f1]
  have hz : ∀ k, k < 16 → bt (tw_wh v ((tw_t u + 1) % 8)) k = (bt (tw_so u) k && decide (d k = tw_t u + 1)) := by
    intro k hk
    rw [hW2 k hk _ (by omega)]
    show (bt (tw_so u) k && decide (co2 k = (tw_t u + 1) % 8)) = _
    cases hb : bt (tw_so u) k
    · rfl
    · rw [Bool.true_and, Bool.true_and]
      exact decide_eq_decide.mpr (key k hk hb).2
  have hJ : tq_J (tw_wh v ((tw_t u + 1) % 8)) (tw_t u + 1) 0 (tw_clr v ((tw_t u + 1) % 8)) (tm_inc m) := by
    refine ⟨d, p, co2, tq_A_rest hAi hr2, f1, ?_, hC2, ?_, ?_⟩
    · refine (tq_clr (c0 := (tw_t u + 1) % 8) hW2).cg (fun k hk => ?_) (fun k _ _ => rfl)
      show _ = (bt (tw_so v) k && (decide (k < 0) || !decide (d k = tw_t u + 1)))
      rw [f2]
      cases hb : bt (tw_so u) k
      · simp [hb]
      · rw [show decide (co2 k = (tw_t u + 1) % 8) = decide (d k = tw_t u + 1) from decide_eq_decide.mpr (key k hk hb).2]
        simp
    · intro k hk hb hq
      have hb : bt (tw_so v) k = true := hb
      rw [f2] at hb
      obtain ⟨g1, g2⟩ := key k hk hb
      obtain ⟨v1, v2, -⟩ := hV k hk hb
      have hq : ¬ d k = tw_t u + 1 := hq.elim (fun z => absurd z (Nat.not_lt_zero _)) (fun z => z)
      exact ⟨by omega, by omega, g1⟩
    · intro k hk _
      show _ = (bt (tw_so v) k && decide (d k = tw_t u + 1))
      rw [f2]
      exact hz k hk
  obtain ⟨h1, h2⟩ := tq_loop (by omega) hJ t16 (by rw [t16_eq]; exact Nat.le_refl _)
  refine ⟨?_, h1⟩
  obtain ⟨d', p', co', hA', ht', hW', hC', hV', -⟩ := h2
  refine ⟨d', p', co', hA', ?_, hC', ?_⟩
  · refine hW'.cg (fun k hk => ?_) (fun k _ _ => rfl)
    show (_ && (decide (k < t16) || _)) = _
    rw [decide_eq_true (show k < t16 by rw [t16_eq]; exact hk), Bool.true_or, Bool.and_true]
  · intro k hk hb
    rw [ht']
    exact hV' k hk hb (Or.inl (by rw [t16_eq]; exact hk))
end
section
/-! THE PLAIN LAW, 3: every call answers alike, and the relation goes on -/
theorem tq_0 : tq_R tw_0 tm_0 := by
  refine ⟨fun _ => 0, fun _ => 0, fun _ => 0, ⟨rfl, rfl, fun k hk => ⟨nI_0.symm, nI_0.symm, Nat.zero_le _⟩, fun k hk => ⟨nI_0.symm, nI_0.symm, Nat.zero_le _⟩, fun k hk => ?_, fun k _ _ => b_0 k, fun i _ h => absurd h (Nat.not_lt_zero i)⟩, fun k hk c hc => ?_, fun k hk => ⟨show 0 < 24 by decide, nI_0.symm⟩, fun k hk h => ?_⟩
  · show (0 : Int32) = if bt 0 k = true then 1 else 0
    rw [b_0]
    rfl
  · show bt 0 k = (bt 0 k && _)
    rw [b_0, Bool.false_and]
  · have h : bt 0 k = true := h
    rw [b_0] at h
    cases h
theorem tq_t {u : xS} {m : mS} (h : tq_R u m) : tw_t u = tm_t m ∧ tw_rc u = tm_rc m := by
  obtain ⟨d, p, co, hA, -⟩ := h
  exact ⟨hA.1, hA.2.1⟩
theorem tq_co {u : xS} {m : mS} (h : tq_R u m) : ∀ i, i < 16 → ∃ cn : Nat, cn < 24 ∧ tw_co u i = nI cn := by
  obtain ⟨d, p, co, hA, hW, hC, hV⟩ := h
  exact fun i hi => ⟨co i, hC i hi⟩
theorem tq_onI {u : xS} {m : mS} {d p : Nat → Nat} (h : tq_A u m d p) {k : Nat} (hk : k < 16) : (tm_on m k = 0 ↔ bt (tw_so u) k = false) ∧ (¬ tm_on m k = 0 ↔ bt (tw_so u) k = true) := by
  have a5 := h.2.2.2.2.1 k hk
  cases hb : bt (tw_so u) k
  · rw [hb] at a5
    have a5 : tm_on m k = 0 := a5
    exact ⟨⟨fun _ => rfl, fun _ => a5⟩, ⟨fun z => absurd a5 z, fun z => by cases z⟩⟩
  · rw [hb] at a5
    have a5 : tm_on m k = 1 := a5
    rw [a5]
    exact ⟨⟨fun z => absurd z (by decide), fun z => by cases z⟩, ⟨fun _ => rfl, fun _ => by decide⟩⟩
theorem tq_is {u : xS} {m : mS} (h : tq_R u m) (k : Int32) : tw_is u k = tm_is m k := by
  obtain ⟨d, p, co, hA, -⟩ := h
  rcases pk_ix k (n := 16) (by omega) with z | z | ⟨n, hn, e⟩
  · rw [tw_is_f1 u z, tm_is_f1 m z]
  · rw [tw_is_f2 u z, tm_is_f2 m (Int32.lt_of_lt_of_le (by decide : (15 : Int32) < nI 16) z)]
  · subst e
    obtain ⟨h1, h2⟩ := tq_onI hA hn
    cases hb : bt (tw_so u) n
    · rw [tw_is_nI u hn, hb, tm_is_0 m hn (h1.mpr hb)]
    · rw [tw_is_nI u hn, hb, tm_is_1 m hn (h2.mpr hb)]
theorem tq_left {u : xS} {m : mS} (h : tq_R u m) (k : Int32) : tw_left u k = tm_left m k := by
  have hi := tq_is h k
  obtain ⟨d, p, co, hA, -⟩ := h
  cases hb : tm_is m k
  · rw [tm_left_f m hb, tw_left_f u (hi.trans hb)]
  · obtain ⟨n, hn, e, ho⟩ := tm_is_i hb
    subst e
    rw [tm_left_t m hn ho, tw_left_t u hn ((tq_onI hA hn).2.mp ho), (hA.2.2.1 n hn).1, (hA.2.2.1 n hn).2.1, hA.1]
theorem tq_period {u : xS} {m : mS} (h : tq_R u m) (k : Int32) : tw_period u k = tm_period m k := by
  have hi := tq_is h k
  obtain ⟨d, p, co, hA, -⟩ := h
  cases hb : tm_is m k
  · rw [tm_period_f m hb, tw_period_f u (hi.trans hb)]
  · obtain ⟨n, hn, e, ho⟩ := tm_is_i hb
    subst e
    rw [tm_period_t m hn ho, tw_period_t u hn ((tq_onI hA hn).2.mp ho), (hA.2.2.2.1 n hn).1, (hA.2.2.2.1 n hn).2.1]
theorem tq_noted {rc : Nat} (i : Int32) : tw_noted rc i = tm_kept rc i := by
  unfold tw_noted tm_kept
  have : (¬ (20 : Int32) ≤ i) ↔ ¬ (19 : Int32) < i := by
    rw [Int32.le_iff_toInt_le, Int32.lt_iff_toInt_lt, show (20 : Int32).toInt = 20 from by decide, show (19 : Int32).toInt = 19 from by decide]
    omega
  rw [decide_eq_decide.mpr this]
theorem tq_rung {u : xS} {m : mS} (h : tq_R u m) (hr : tw_rc u < 2 ^ 30) (i : Int32) : tw_rung u i = tm_rung m i ∧ tw_rungAt u i = tm_rungAt m i := by
  obtain ⟨d, p, co, ⟨a1, a2, a3, a4, a5, a6, a7⟩, -⟩ := h
  cases hb : tw_noted (tw_rc u) i
  · have hk : tm_kept (tm_rc m) i = false := by rw [← a2, ← tq_noted]; exact hb
    rw [tw_rung_f u hb, tw_rungAt_f u hb, tm_rung_f m hk, tm_rungAt_f m hk]
    exact ⟨rfl, rfl⟩
  · have hk : tm_kept (tm_rc m) i = true := by rw [← a2, ← tq_noted]; exact hb
    obtain ⟨n, hn, hnr, e⟩ := tw_noted_i (by omega) hb
    subst e
    rw [tw_rung_t u hn hb, tw_rungAt_t u hn hb, tm_rung_t m hn hk, tm_rungAt_t m hn hk]
    exact a7 n hn hnr
theorem tq_within {u : xS} {m : mS} (h : tq_R u m) (n : Int32) : ∀ i, i ≤ 16 → tw_wiL u n i = tm_wiL m n i := by
  obtain ⟨d, p, co, hA, -⟩ := h
  intro i
  induction i with
  | zero => intro _; rfl
  | succ i ih =>
    intro hi
    have ih := ih (by omega)
    obtain ⟨h1, h2⟩ := tq_onI hA (k := i) (by omega)
    have e : tw_du u i - nI (tw_t u) = tm_du m i - nI (tm_t m) := by rw [(hA.2.2.1 i (by omega)).1, (hA.2.2.1 i (by omega)).2.1, hA.1]
    cases hb : bt (tw_so u) i
    · rw [tw_wiL_0 hb, tm_wiL_0 (h1.mpr hb)]
      exact ih
    · by_cases hq : n < tw_du u i - nI (tw_t u)
      · rw [tw_wiL_2 hq, tm_wiL_2 (h2.mpr hb) (by rw [← e]; exact hq)]
        exact ih
      · rw [tw_wiL_1 hb hq, tm_wiL_1 (h2.mpr hb) (by rw [← e]; exact hq), ih]
theorem tq_timers {u : xS} {m : mS} (h : tq_R u m) : tw_so u = tm_tiL m t16 := by
  obtain ⟨d, p, co, hA, -⟩ := h
  have key : ∀ i, i ≤ 16 → ∀ k, k < 32 → bt (tm_tiL m i) k = (decide (k < i) && bt (tw_so u) k) := by
    intro i
    induction i with
    | zero =>
      intro _ k hk
      show bt 0 k = _
      rw [b_0]
      simp
    | succ i ih =>
      intro hi k hk
      have ih := ih (by omega) k hk
      obtain ⟨h1, h2⟩ := tq_onI hA (k := i) (by omega)
      cases hb : bt (tw_so u) i
      · rw [tm_tiL_0 (h1.mpr hb), ih]
        by_cases hki : k = i
        · subst hki
          rw [hb, Bool.and_false, Bool.and_false]
        · rw [show decide (k < i) = decide (k < i + 1) from decide_eq_decide.mpr (by omega)]
      · rw [tm_tiL_1 (h2.mpr hb), tb_or _ (by omega) hk, ih]
        by_cases hki : k = i
        · subst hki
          rw [hb]
          simp
        · rw [decide_eq_false hki, Bool.or_false, show decide (k < i) = decide (k < i + 1) from decide_eq_decide.mpr (by omega)]
  refine b_ext (fun k hk => ?_)
  rw [t16_eq, key 16 (Nat.le_refl _) k hk]
  by_cases h16 : k < 16
  · rw [decide_eq_true h16, Bool.true_and]
  · rw [decide_eq_false h16, Bool.false_and]
    exact hA.2.2.2.2.2.1 k (by omega) hk
/-- the least timer with the least time, between lo and hi -/
def tq_best (on : Nat → Bool) (d : Nat → Nat) (lo hi : Nat) : Option Nat → Prop
  | none => ∀ k, lo ≤ k → k < hi → on k = false
  | some b => lo ≤ b ∧ b < hi ∧ on b = true ∧ ∀ k, lo ≤ k → k < hi → on k = true → d b < d k ∨ (d b = d k ∧ b ≤ k)
theorem tq_best_u {on : Nat → Bool} {d : Nat → Nat} {lo hi : Nat} {o1 o2 : Option Nat} (h1 : tq_best on d lo hi o1) (h2 : tq_best on d lo hi o2) : o1 = o2 := by
  cases o1 with
  | none =>
    cases o2 with
    | none => rfl
    | some b =>
      have := h1 b h2.1 h2.2.1
      rw [h2.2.2.1] at this
      cases this
  | some a =>
    cases o2 with
    | none =>
      have := h2 a h1.1 h1.2.1
      rw [h1.2.2.1] at this
      cases this
    | some b =>
      have g1 := h1.2.2.2 b h2.1 h2.2.1 h2.2.2.1
      have g2 := h2.2.2.2 a h1.1 h1.2.1 h1.2.2.1
      congr 1
      omega
theorem tq_bestX {u : xS} {m : mS} {d p : Nat → Nat} (hA : tq_A u m d p) (ht : tw_t u + 501 < 2 ^ 30) : ∀ j, j ≤ 16 → tq_best (fun k => bt (tw_so u) k) d (16 - j) 16 (tw_nxL u j) := by
  intro j
  induction j with
  | zero =>
    intro _ k h1 h2
    exact absurd h2 (by omega)
  | succ j ih =>
    intro hj
    have ih := ih (by omega)
    have hlt : ∀ b, b < 16 → (tw_du u b < tw_du u (15 - j) ↔ d b < d (15 - j)) := by
      intro b hb
      have g1 := (hA.2.2.1 b hb)
      have g2 := (hA.2.2.1 (15 - j) (by omega))
      rw [g1.1, g2.1]
      exact nI_ltI (by omega) (by omega)
    cases hb : bt (tw_so u) (15 - j)
    · rw [tw_nxL_n hb]
      cases ho : tw_nxL u j with
      | none =>
        rw [ho] at ih
        intro k h1 h2
        by_cases hk : k = 15 - j
        · rw [hk]; exact hb
        · exact ih k (by omega) h2
      | some b =>
        rw [ho] at ih
        refine ⟨by have := ih.1; omega, ih.2.1, ih.2.2.1, fun k h1 h2 h3 => ?_⟩
        by_cases hk : k = 15 - j
        · subst hk
          have h3 : bt (tw_so u) (15 - j) = true := h3
          rw [hb] at h3; cases h3
        · exact ih.2.2.2 k (by omega) h2 h3
    · cases ho : tw_nxL u j with
      | none =>
        rw [tw_nxL_0 hb ho.symm]
        rw [ho] at ih
        refine ⟨by omega, by omega, hb, fun k h1 h2 h3 => ?_⟩
        by_cases hk : k = 15 - j
        · subst hk; right; exact ⟨rfl, Nat.le_refl _⟩
        · have := ih k (by omega) h2
          rw [this] at h3; cases h3
      | some b =>
        rw [ho] at ih
        by_cases hd : d b < d (15 - j)
        · rw [tw_nxL_k hb ho.symm ((hlt b ih.2.1).mpr hd)]
          refine ⟨by have := ih.1; omega, ih.2.1, ih.2.2.1, fun k h1 h2 h3 => ?_⟩
          by_cases hk : k = 15 - j
          · subst hk; left; exact hd
          · exact ih.2.2.2 k (by omega) h2 h3
        · rw [tw_nxL_c hb ho.symm (fun z => hd ((hlt b ih.2.1).mp z))]
          refine ⟨by omega, by omega, hb, fun k h1 h2 h3 => ?_⟩
          by_cases hk : k = 15 - j
          · subst hk; right; exact ⟨rfl, Nat.le_refl _⟩
          · have := ih.2.2.2 k (by omega) h2 h3
            omega
theorem tq_bestM {u : xS} {m : mS} {d p : Nat → Nat} (hA : tq_A u m d p) (ht : tw_t u + 501 < 2 ^ 30) : ∀ i, i ≤ 16 → tq_best (fun k => bt (tw_so u) k) d 0 i (tm_nxL m i) := by
  intro i
  induction i with
  | zero =>
    intro _ k h1 h2
    exact absurd h2 (by omega)
  | succ i ih =>
    intro hi
    have ih := ih (by omega)
    have hle : ∀ b, b < 16 → (tm_du m b ≤ tm_du m i ↔ d b ≤ d i) := by
      intro b hb
      have g1 := (hA.2.2.1 b hb)
      have g2 := (hA.2.2.1 i (by omega))
      rw [g1.2.1, g2.2.1]
      exact nI_leI (by omega) (by omega)
    obtain ⟨q1, q2⟩ := tq_onI hA (k := i) (by omega)
    cases hb : bt (tw_so u) i
    · rw [tm_nxL_n (q1.mpr hb)]
      cases ho : tm_nxL m i with
      | none =>
        rw [ho] at ih
        intro k h1 h2
        by_cases hk : k = i
        · rw [hk]; exact hb
        · exact ih k h1 (by omega)
      | some b =>
        rw [ho] at ih
        refine ⟨ih.1, by have := ih.2.1; omega, ih.2.2.1, fun k h1 h2 h3 => ?_⟩
        by_cases hk : k = i
        · subst hk
          have h3 : bt (tw_so u) k = true := h3
          rw [hb] at h3; cases h3
        · exact ih.2.2.2 k h1 (by omega) h3
    · cases ho : tm_nxL m i with
      | none =>
        rw [tm_nxL_0 (q2.mpr hb) ho.symm]
        rw [ho] at ih
        refine ⟨by omega, by omega, hb, fun k h1 h2 h3 => ?_⟩
        by_cases hk : k = i
        · subst hk; right; exact ⟨rfl, Nat.le_refl _⟩
        · have := ih k h1 (by omega)
          rw [this] at h3; cases h3
      | some b =>
        rw [ho] at ih
        have hbi := ih.2.1
        by_cases hd : d b ≤ d i
        · rw [tm_nxL_k (q2.mpr hb) ho.symm ((hle b (by omega)).mpr hd)]
          refine ⟨ih.1, by omega, ih.2.2.1, fun k h1 h2 h3 => ?_⟩
          by_cases hk : k = i
          · subst hk; omega
          · exact ih.2.2.2 k h1 (by omega) h3
        · rw [tm_nxL_c (q2.mpr hb) ho.symm (fun z => hd ((hle b (by omega)).mp z))]
          refine ⟨by omega, by omega, hb, fun k h1 h2 h3 => ?_⟩
          by_cases hk : k = i
          · subst hk; right; exact ⟨rfl, Nat.le_refl _⟩
          · have := ih.2.2.2 k h1 (by omega) h3
            omega
theorem tq_next {u : xS} {m : mS} (h : tq_R u m) (ht : tw_t u + 501 < 2 ^ 30) : tw_nxL u t16 = tm_nxL m t16 := by
  obtain ⟨d, p, co, hA, -⟩ := h
  rw [t16_eq]
  exact tq_best_u (tq_bestX hA ht 16 (Nat.le_refl _)) (tq_bestM hA ht 16 (Nat.le_refl _))
theorem tq_tks {u : xS} {m : mS} (h : tq_R u m) : ∀ n, tw_t u + n + 501 < 2 ^ 30 → tq_R (tw_tks u n).1 (tm_tks m n).1 ∧ (tw_tks u n).2 = (tm_tks m n).2
  | 0, _ => ⟨h, rfl⟩
  | n + 1, hn => by
    obtain ⟨h1, h2⟩ := tq_tks h n (by omega)
    obtain ⟨g1, g2⟩ := tq_tick h1 (by rw [(tw_tks_t u n).1]; omega)
    refine ⟨g1, ?_⟩
    show (tw_tks u n).2 + (tw_tick (tw_tks u n).1).2 = (tm_tks m n).2 + (tm_tick (tm_tks m n).1).2
    rw [h2, g2]
theorem tq_pass {u : xS} {m : mS} (h : tq_R u m) (ht : tw_t u + 2000 < 2 ^ 30) (n : Int32) : (tw_pass u n).2 = (tm_pass m n).2 ∧ tq_R (tw_pass u n).1 (tm_pass m n).1 ∧ tm_t (tm_pass m n).1 ≤ tm_t m + 1000 ∧ tm_rc (tm_pass m n).1 ≤ tm_rc m + 16000 := by
  by_cases hb : n < 0 ∨ 1000 < n
  · rw [tw_pass_bad u hb, tm_pass_bad m hb]
    exact ⟨rfl, h, by show tm_t m ≤ _; omega, by show tm_rc m ≤ _; omega⟩
  · obtain ⟨nn, hnn, e⟩ := tn_1000 (p := n) (fun z => hb (Or.inl z)) (fun z => hb (Or.inr z))
    subst e
    rw [tw_pass_ok u hnn, tm_pass_ok m hnn]
    obtain ⟨h1, h2⟩ := tq_tks h nn (by omega)
    have hk := tm_tks_t m nn
    refine ⟨by show nI (tw_tks u nn).2 = nI (tm_tks m nn).2; rw [h2], h1, ?_, ?_⟩
    · show tm_t (tm_tks m nn).1 ≤ _
      omega
    · show tm_rc (tm_tks m nn).1 ≤ _
      omega
/-! toNext -/
theorem tm_tick_none {m : mS} (h : ∀ k, k < 16 → tm_on m k = 0 ∨ ¬ tm_du m k = nI (tm_t m + 1)) : tm_tick m = (tm_inc m, 0) := by
  have key : ∀ i, i ≤ 16 → (tm_inc m, 0) = tm_tkL (tm_inc m) i := by
    intro i
    induction i with
    | zero => intro _; rfl
    | succ i ih =>
      intro hi
      rcases h i (by omega) with g | g
      · exact tm_tkL_0 (ih (by omega)) g
      · exact tm_tkL_1 (ih (by omega)) g
  exact (key t16 (by rw [t16_eq]; exact Nat.le_refl _)).symm
theorem tm_tkL_step (u : mS) (i : Nat) : (tm_tkL u i).2 ≤ (tm_tkL u (i + 1)).2 ∧ ∀ k, ¬ k = i → tm_on (tm_tkL u (i + 1)).1 k = tm_on (tm_tkL u i).1 k ∧ tm_du (tm_tkL u (i + 1)).1 k = tm_du (tm_tkL u i).1 k := by
  by_cases h0 : tm_on (tm_tkL u i).1 i = 0
  · rw [← tm_tkL_0 (v := (tm_tkL u i).1) (a := (tm_tkL u i).2) rfl h0]
    exact ⟨Nat.le_refl _, fun k _ => ⟨rfl, rfl⟩⟩
  · by_cases h1 : tm_du (tm_tkL u i).1 i = nI (tm_t (tm_tkL u i).1)
    · rw [← tm_tkL_2 (v := (tm_tkL u i).1) (a := (tm_tkL u i).2) rfl h0 h1 rfl]
      exact ⟨Nat.le_succ _, fun k hk => ⟨pk_un hk, pk_un hk⟩⟩
    · rw [← tm_tkL_1 (v := (tm_tkL u i).1) (a := (tm_tkL u i).2) rfl h1]
      exact ⟨Nat.le_refl _, fun k _ => ⟨rfl, rfl⟩⟩
theorem tm_tkL_mono (u : mS) {i : Nat} : ∀ j, i ≤ j → (tm_tkL u i).2 ≤ (tm_tkL u j).2
  | 0, h => by
    have : i = 0 := by omega
    rw [this]
    exact Nat.le_refl _
  | j + 1, h => by
    by_cases hj : i = j + 1
    · rw [hj]
      exact Nat.le_refl _
    · exact Nat.le_trans (tm_tkL_mono u j (by omega)) (tm_tkL_step u j).1
theorem tm_tkL_keep (u : mS) {k : Nat} : ∀ i, i ≤ k → tm_on (tm_tkL u i).1 k = tm_on u k ∧ tm_du (tm_tkL u i).1 k = tm_du u k
  | 0, _ => ⟨rfl, rfl⟩
  | i + 1, h => by
    obtain ⟨h1, h2⟩ := tm_tkL_keep u (k := k) i (by omega)
    obtain ⟨g1, g2⟩ := (tm_tkL_step u i).2 k (by omega)
    exact ⟨g1.trans h1, g2.trans h2⟩
theorem tm_tick_some {m : mS} {k : Nat} (hk : k < 16) (h1 : ¬ tm_on m k = 0) (h2 : tm_du m k = nI (tm_t m + 1)) : ¬ (tm_tick m).2 = 0 := by
  obtain ⟨g1, g2⟩ := tm_tkL_keep (tm_inc m) k (Nat.le_refl k)
  have g3 := (tm_tkL_t (tm_inc m) k).1
  have e := tm_tkL_2 (u := tm_inc m) (v := (tm_tkL (tm_inc m) k).1) (a := (tm_tkL (tm_inc m) k).2) (i := k) rfl (by rw [g1]; exact h1) (by rw [g2, g3]; exact h2) rfl
  have hm := tm_tkL_mono (tm_inc m) (i := k + 1) t16 (by rw [t16_eq]; omega)
  rw [← e] at hm
  intro z
  have z : (tm_tkL (tm_inc m) t16).2 = 0 := z
  rw [z] at hm
  exact absurd hm (Nat.not_succ_le_zero _)
theorem tm_tks_sh (m : mS) : ∀ n, (tm_tks m (n + 1)).1 = (tm_tks (tm_tick m).1 n).1
  | 0 => rfl
  | n + 1 => by
    have ih := tm_tks_sh m n
    show (tm_tick (tm_tks m (n + 1)).1).1 = (tm_tick (tm_tks (tm_tick m).1 n).1).1
    rw [ih]
theorem tq_toN : ∀ (n f : Nat) (u : xS) (m : mS), tq_R u m → n + 1 ≤ f → tw_t u + n + 501 < 2 ^ 30 → (∃ k, k < 16 ∧ ¬ tm_on m k = 0 ∧ tm_du m k = nI (tm_t m + (n + 1))) → (∀ k, k < 16 → ¬ tm_on m k = 0 → ∃ e, tm_t m + (n + 1) ≤ e ∧ e < 2 ^ 30 ∧ tm_du m k = nI e) → (tw_tnL f u).2 = n + 1 ∧ tq_R (tw_tnL f u).1 (tm_tks m (n + 1)).1
  | _, 0, _, _, _, hf, _, _, _ => absurd hf (Nat.not_succ_le_zero _)
  | 0, f + 1, u, m, hR, hf, ht, ⟨k, hk, h1, h2⟩, h3 => by
    obtain ⟨g1, g2⟩ := tq_tick hR (by omega)
    have hne := tm_tick_some hk h1 h2
    rw [tw_tnL_1 (f := f) (v := u) (v' := (tw_tick u).1) (q := (tw_tick u).2) rfl (by rw [g2]; exact hne)]
    exact ⟨rfl, g1⟩
  | n + 1, f + 1, u, m, hR, hf, ht, ⟨k, hk, h1, h2⟩, h3 => by
    obtain ⟨g1, g2⟩ := tq_tick hR (by omega)
    have htt := (tq_t hR).1
    have hno := tm_tick_none (m := m) (fun j hj => by
      by_cases hz : tm_on m j = 0
      · exact Or.inl hz
      · right
        obtain ⟨e, e1, e2, e3⟩ := h3 j hj hz
        rw [e3]
        intro q
        have := (nI_eq (by omega) (by omega)).mp q
        omega)
    have hsh := tm_tks_sh m (n + 1)
    rw [hno] at g1 g2 hsh
    rw [tw_tnL_0 (f := f) (v := u) (v' := (tw_tick u).1) (q := (tw_tick u).2) rfl g2]
    have ih := tq_toN n f (tw_tick u).1 (tm_inc m) g1 (by omega) (by rw [(tw_tick_t u).1]; omega) ⟨k, hk, h1, by
      show tm_du m k = nI (tm_t m + 1 + (n + 1))
      rw [h2]
      congr 1
      omega⟩ (fun j hj hz => by
        obtain ⟨e, e1, e2, e3⟩ := h3 j hj hz
        exact ⟨e, by show tm_t m + 1 + (n + 1) ≤ e; omega, e2, e3⟩)
    rw [hsh]
    exact ⟨by show (tw_tnL f (tw_tick u).1).2 + 1 = _; rw [ih.1], ih.2⟩
theorem tq_nextN {u : xS} {m : mS} (h : tq_R u m) (ht : tw_t u + 501 < 2 ^ 30) {b : Nat} (ho : tm_nxL m t16 = some b) : ∃ n, n + 1 ≤ 500 ∧ tm_du m b - nI (tm_t m) = nI (n + 1) ∧ ¬ tm_on m b = 0 ∧ b < 16 ∧ tm_du m b = nI (tm_t m + (n + 1)) ∧ ∀ k, k < 16 → ¬ tm_on m k = 0 → ∃ e, tm_t m + (n + 1) ≤ e ∧ e < 2 ^ 30 ∧ tm_du m k = nI e := by
  obtain ⟨d, p, co, hA, hW, hC, hV⟩ := h
  have hB := tq_bestM hA ht 16 (Nat.le_refl _)
  rw [t16_eq] at ho
  rw [ho] at hB
  obtain ⟨-, hb, hon, hmin⟩ := hB
  obtain ⟨v1, v2, -⟩ := hV b hb hon
  have hdb := hA.2.2.1 b hb
  have h1 := hA.1
  refine ⟨d b - tw_t u - 1, by omega, ?_, (tq_onI hA hb).2.mpr hon, hb, ?_, ?_⟩
  · rw [hdb.2.1, ← h1, pk_sub (by omega)]
    congr 1
    omega
  · rw [hdb.2.1, ← h1]
    congr 1
    omega
  · intro k hk hz
    have hk1 := (tq_onI hA hk).2.mp hz
    have := hmin k (Nat.zero_le _) hk hk1
    have hdk := hA.2.2.1 k hk
    exact ⟨d k, by omega, by omega, hdk.2.1⟩
theorem tq_toNext {u : xS} {m : mS} (h : tq_R u m) (ht : tw_t u + 2000 < 2 ^ 30) : (tw_toNext u).2 = (tm_toNext m).2 ∧ tq_R (tw_toNext u).1 (tm_toNext m).1 ∧ tm_t (tm_toNext m).1 ≤ tm_t m + 1000 ∧ tm_rc (tm_toNext m).1 ≤ tm_rc m + 16000 := by
  cases ho : tm_nxL m t16 with
  | none =>
    have hso : tw_so u = 0 := by
      obtain ⟨d, p, co, hA, -⟩ := h
      have hB := tq_bestM hA (by omega) 16 (Nat.le_refl _)
      have ho' := ho
      rw [t16_eq] at ho'
      rw [ho'] at hB
      refine b_ext (fun k hk => ?_)
      rw [b_0]
      by_cases h16 : k < 16
      · exact hB k (Nat.zero_le _) h16
      · exact hA.2.2.2.2.2.1 k (by omega) hk
    rw [tm_toNext_0 m ho.symm, tw_toNext_0 u hso]
    exact ⟨rfl, h, by show tm_t m ≤ _; omega, by show tm_rc m ≤ _; omega⟩
  | some b =>
    obtain ⟨n, hn, e1, h1, hb, h2, h3⟩ := tq_nextN h (by omega) ho
    have hso : ¬ tw_so u = 0 := by
      obtain ⟨d, p, co, hA, -⟩ := h
      intro z
      have := (tq_onI hA hb).2.mp h1
      rw [z, b_0] at this
      cases this
    obtain ⟨g1, g2⟩ := tq_toN n t500 u m h (by rw [t500_eq]; exact hn) (by omega) ⟨b, hb, h1, h2⟩ h3
    have hk := tm_tks_t m (n + 1)
    rw [tm_toNext_1 m ho.symm (by omega) e1, tw_toNext_1 u hso]
    refine ⟨by show nI (tw_tnL t500 u).2 = _; rw [g1], g2, ?_, ?_⟩
    · show tm_t (tm_tks m (n + 1)).1 ≤ _
      omega
    · show tm_rc (tm_tks m (n + 1)).1 ≤ _
      omega
/-! set, cancel, repeat -/
theorem tq_unset {u : xS} {co : Nat → Nat} {k : Nat} (hk : k < 16) (hW : tq_W (fun k => bt (tw_so u) k) co (tw_wh u)) (hC : tq_C co (tw_co u)) : tq_rest (if tw_is u (nI k) = true then tw_unplace u k else u) = tq_rest u ∧ tw_co (if tw_is u (nI k) = true then tw_unplace u k else u) = tw_co u ∧ tq_W (va_up (fun k => bt (tw_so u) k) k false) co (tw_wh (if tw_is u (nI k) = true then tw_unplace u k else u)) := by
  rw [tw_is_nI u hk]
  cases hb : bt (tw_so u) k
  · rw [if_neg (by decide)]
    refine ⟨rfl, rfl, hW.cg (fun j hj => ?_) (fun _ _ _ => rfl)⟩
    by_cases hjk : j = k
    · subst hjk
      rw [va_up_self]
      exact hb
    · rw [va_up_ne _ _ hjk]
  · rw [if_pos rfl]
    exact ⟨rfl, rfl, tq_unplace hk hW hC⟩
theorem tq_set {u : xS} {m : mS} (h : tq_R u m) (ht : tw_t u + 2000 < 2 ^ 30) (k d p : Int32) : (tw_set u k d p).2 = (tm_set m k d p).2 ∧ tq_R (tw_set u k d p).1 (tm_set m k d p).1 ∧ tm_t (tm_set m k d p).1 ≤ tm_t m + 1000 ∧ tm_rc (tm_set m k d p).1 ≤ tm_rc m + 16000 := by
  by_cases hb : k < 0 ∨ 16 ≤ k ∨ d < 1 ∨ 500 < d ∨ tw_per p = false
  · have hb2 : k < 0 ∨ 15 < k ∨ d < 1 ∨ 500 < d ∨ p < 0 ∨ 500 < p := by
      rcases hb with z | z | z | z | z
      · exact Or.inl z
      · exact Or.inr (Or.inl (Int32.lt_of_lt_of_le (by decide : (15 : Int32) < 16) z))
      · exact Or.inr (Or.inr (Or.inl z))
      · exact Or.inr (Or.inr (Or.inr (Or.inl z)))
      · refine Or.inr (Or.inr (Or.inr (Or.inr ?_)))
        by_cases h1 : p < 0
        · exact Or.inl h1
        · by_cases h2 : 500 < p
          · exact Or.inr h2
          · rw [tw_per_t h1 h2] at z; cases z
    rw [tw_set_bad u hb, tm_set_bad m hb2]
    exact ⟨rfl, h, by show tm_t m ≤ _; omega, by show tm_rc m ≤ _; omega⟩
  · have hk0 : ¬ k < 0 := fun z => hb (Or.inl z)
    have hk1 : ¬ 16 ≤ k := fun z => hb (Or.inr (Or.inl z))
    have hd0 : ¬ d < 1 := fun z => hb (Or.inr (Or.inr (Or.inl z)))
    have hd1 : ¬ 500 < d := fun z => hb (Or.inr (Or.inr (Or.inr (Or.inl z))))
    have hp : tw_per p = true := by
      cases hq : tw_per p
      · exact absurd (Or.inr (Or.inr (Or.inr (Or.inr hq)))) hb
      · rfl
    have hp0 : ¬ p < 0 := fun z => by rw [tw_per_f1 z] at hp; cases hp
    have hp1 : ¬ 500 < p := fun z => by rw [tw_per_f2 z] at hp; cases hp
    obtain ⟨n, hn, ek⟩ := tn_16 hk0 hk1
    obtain ⟨q, hq, ep⟩ := tw_per_i hp
    obtain ⟨e, he, ed⟩ := tn_500 (p := d) (fun z => hd0 (Int32.lt_trans z (by decide))) hd1
    have he1 : 1 ≤ e := by
      rcases Nat.lt_or_ge e 1 with z | z
      · exact absurd (by rw [ed, show e = 0 by omega]; decide) hd0
      · exact z
    subst ek
    subst ep
    subst ed
    rw [tw_set_ok u hn hd0 hd1 hp, tm_set_ok m hn hd0 hd1 hp0 hp1]
    obtain ⟨D, P, co, hA, hW, hC, hV⟩ := h
    obtain ⟨a1, a2, a3, a4, a5, a6, a7⟩ := hA
    refine ⟨by show nI (tw_t u) + nI e = nI (tm_t m) + nI e; rw [a1], ?_, by show tm_t m ≤ _; omega, by show tm_rc m ≤ _; omega⟩
    obtain ⟨r1, r2, r3⟩ := tq_unset hn hW hC
    show tq_R (tw_setN (if tw_is u (nI n) = true then tw_unplace u n else u) n (nI e) (nI q)) _
    generalize (if tw_is u (nI n) = true then tw_unplace u n else u) = v at r1 r2 r3 ⊢
    obtain ⟨e1, e2, e3, e4, e5, e6, e7⟩ := tq_rest_i r1
    unfold tw_setN
    rw [e1, e2, e3, e4, e5, e6, e7, r2]
    have hso : ∀ j, j < 32 → bt (tw_so u ||| tw_b n) j = if j = n then true else bt (tw_so u) j := by
      intro j hj
      rw [tb_or _ hn hj]
      by_cases hjn : j = n
      · rw [if_pos hjn, decide_eq_true hjn, Bool.or_true]
      · rw [if_neg hjn, decide_eq_false hjn, Bool.or_false]
    have hdu : ∀ (f : Nat → Int32), (∀ j, j < 16 → f j = nI (D j)) → ∀ j, j < 16 → upd f n (nI (tw_t u) + nI e) j = nI (va_up D n (tw_t u + e) j) := by
      intro f hf j hj
      by_cases hjn : j = n
      · subst hjn
        rw [pk_us, va_up_self]
        exact nI_add _ _
      · rw [pk_un hjn, va_up_ne _ _ hjn]
        exact hf j hj
    have hpe : ∀ (f : Nat → Int32), (∀ j, j < 16 → f j = nI (P j)) → ∀ j, j < 16 → upd f n (nI q) j = nI (va_up P n q j) := by
      intro f hf j hj
      by_cases hjn : j = n
      · subst hjn
        rw [pk_us, va_up_self]
      · rw [pk_un hjn, va_up_ne _ _ hjn]
        exact hf j hj
    obtain ⟨g1, g2⟩ := tq_place (u := (tw_t u, tw_so u ||| tw_b n, upd (tw_du u) n (nI (tw_t u) + nI e), upd (tw_pe u) n (nI q), tw_wh v, tw_co u, tw_rc u, tw_ro u, tw_ra u)) (k := n) (d := tw_t u + e) hn r3 hC (by
      show upd (tw_du u) n (nI (tw_t u) + nI e) n = _
      rw [pk_us]
      exact nI_add _ _) (by omega) (by show tw_t u < 2 ^ 30; omega) (va_up_self _ _ _)
    refine ⟨va_up D n (tw_t u + e), va_up P n q, va_up co n (tq_cl (tw_t u + e) (tw_t u)), ⟨a1, a2, ?_, ?_, ?_, ?_, a7⟩, ?_, g2, ?_⟩
    · intro j hj
      refine ⟨hdu (tw_du u) (fun j hj => (a3 j hj).1) j hj, ?_, ?_⟩
      · show upd (tm_du m) n (nI (tm_t m) + nI e) j = _
        rw [← a1]
        exact hdu (tm_du m) (fun j hj => (a3 j hj).2.1) j hj
      · show va_up D n (tw_t u + e) j ≤ tw_t u + 500
        by_cases hjn : j = n
        · subst hjn
          rw [va_up_self]
          omega
        · rw [va_up_ne _ _ hjn]
          exact (a3 j hj).2.2
    · intro j hj
      refine ⟨hpe (tw_pe u) (fun j hj => (a4 j hj).1) j hj, hpe (tm_pe m) (fun j hj => (a4 j hj).2.1) j hj, ?_⟩
      by_cases hjn : j = n
      · subst hjn
        rw [va_up_self]
        exact hq
      · rw [va_up_ne _ _ hjn]
        exact (a4 j hj).2.2
    · intro j hj
      show upd (tm_on m) n 1 j = if bt (tw_so u ||| tw_b n) j = true then 1 else 0
      rw [hso j (by omega)]
      by_cases hjn : j = n
      · subst hjn
        rw [pk_us, if_pos rfl]
        rfl
      · rw [pk_un hjn, if_neg hjn]
        exact a5 j hj
    · intro j h1 h2
      show bt (tw_so u ||| tw_b n) j = false
      rw [hso j h2, if_neg (by omega)]
      exact a6 j h1 h2
    · refine g1.cg (fun j hj => ?_) (fun _ _ _ => rfl)
      show _ = bt (tw_so u ||| tw_b n) j
      rw [hso j (by omega)]
      by_cases hjn : j = n
      · subst hjn
        rw [va_up_self, if_pos rfl]
      · rw [va_up_ne _ _ hjn, va_up_ne _ _ hjn, if_neg hjn]
    · intro j hj hbj
      have hbj : bt (tw_so u ||| tw_b n) j = true := hbj
      show tq_V (tw_t u) (va_up D n (tw_t u + e) j) (va_up co n (tq_cl (tw_t u + e) (tw_t u)) j)
      by_cases hjn : j = n
      · subst hjn
        rw [va_up_self, va_up_self]
        exact ⟨by omega, by omega, tq_L_cl (by omega)⟩
      · rw [hso j (by omega), if_neg hjn] at hbj
        rw [va_up_ne _ _ hjn, va_up_ne _ _ hjn]
        exact hV j hj hbj
theorem tq_cancel {u : xS} {m : mS} (h : tq_R u m) (k : Int32) : (tw_cancel u k).2 = (tm_cancel m k).2 ∧ tq_R (tw_cancel u k).1 (tm_cancel m k).1 ∧ tm_t (tm_cancel m k).1 ≤ tm_t m + 1000 ∧ tm_rc (tm_cancel m k).1 ≤ tm_rc m + 16000 := by
  have hi := tq_is h k
  cases hb : tm_is m k
  · rw [tm_cancel_f m hb, tw_cancel_f u (hi.trans hb)]
    exact ⟨rfl, h, by show tm_t m ≤ _; omega, by show tm_rc m ≤ _; omega⟩
  · obtain ⟨n, hn, e, ho⟩ := tm_is_i hb
    subst e
    obtain ⟨d, p, co, hA, hW, hC, hV⟩ := h
    have hon := (tq_onI hA hn).2.mp ho
    obtain ⟨a1, a2, a3, a4, a5, a6, a7⟩ := hA
    rw [tm_cancel_t m hn ho, tw_cancel_t u hn hon]
    refine ⟨by show tw_du u n - nI (tw_t u) = tm_du m n - nI (tm_t m); rw [(a3 n hn).1, (a3 n hn).2.1, a1], ?_, by show tm_t m ≤ _; omega, by show tm_rc m ≤ _; omega⟩
    have hso : ∀ j, j < 32 → bt (tw_so u &&& (tw_b n ^^^ (-1))) j = if j = n then false else bt (tw_so u) j := by
      intro j hj
      rw [tb_clr _ hn hj]
      by_cases hjn : j = n
      · rw [if_pos hjn, decide_eq_true hjn]
        simp
      · rw [if_neg hjn, decide_eq_false hjn]
        simp
    refine ⟨d, p, co, ⟨a1, a2, a3, a4, ?_, ?_, a7⟩, ?_, hC, ?_⟩
    · intro j hj
      show upd (tm_on m) n 0 j = if bt (tw_so u &&& (tw_b n ^^^ (-1))) j = true then 1 else 0
      rw [hso j (by omega)]
      by_cases hjn : j = n
      · subst hjn
        rw [pk_us, if_pos rfl]
        rfl
      · rw [pk_un hjn, if_neg hjn]
        exact a5 j hj
    · intro j h1 h2
      show bt (tw_so u &&& (tw_b n ^^^ (-1))) j = false
      rw [hso j h2, if_neg (by omega)]
      exact a6 j h1 h2
    · refine (tq_unplace hn hW hC).cg (fun j hj => ?_) (fun _ _ _ => rfl)
      show _ = bt (tw_so u &&& (tw_b n ^^^ (-1))) j
      rw [hso j (by omega)]
      by_cases hjn : j = n
      · subst hjn
        rw [va_up_self, if_pos rfl]
      · rw [va_up_ne _ _ hjn, if_neg hjn]
    · intro j hj hbj
      have hbj : bt (tw_so u &&& (tw_b n ^^^ (-1))) j = true := hbj
      rw [hso j (by omega)] at hbj
      by_cases hjn : j = n
      · rw [if_pos hjn] at hbj; cases hbj
      · rw [if_neg hjn] at hbj
        exact hV j hj hbj
theorem tq_repeat {u : xS} {m : mS} (h : tq_R u m) (k p : Int32) : (tw_repeat u k p).2 = (tm_repeat m k p).2 ∧ tq_R (tw_repeat u k p).1 (tm_repeat m k p).1 ∧ tm_t (tm_repeat m k p).1 ≤ tm_t m + 1000 ∧ tm_rc (tm_repeat m k p).1 ≤ tm_rc m + 16000 := by
  have hi := tq_is h k
  cases hb : tm_is m k
  · rw [tm_repeat_f1 m hb, tw_repeat_f1 u (hi.trans hb)]
    exact ⟨rfl, h, by show tm_t m ≤ _; omega, by show tm_rc m ≤ _; omega⟩
  · by_cases h1 : p < 0
    · rw [tm_repeat_f2 m h1, tw_repeat_f2 u (tw_per_f1 h1)]
      exact ⟨rfl, h, by show tm_t m ≤ _; omega, by show tm_rc m ≤ _; omega⟩
    · by_cases h2 : 500 < p
      · rw [tm_repeat_f3 m h2, tw_repeat_f2 u (tw_per_f2 h2)]
        exact ⟨rfl, h, by show tm_t m ≤ _; omega, by show tm_rc m ≤ _; omega⟩
      · obtain ⟨n, hn, e, ho⟩ := tm_is_i hb
        subst e
        obtain ⟨q, hq, ep⟩ := tn_500 h1 h2
        subst ep
        obtain ⟨d, P, co, hA, hW, hC, hV⟩ := h
        have hon := (tq_onI hA hn).2.mp ho
        obtain ⟨a1, a2, a3, a4, a5, a6, a7⟩ := hA
        rw [tm_repeat_t m hn ho h1 h2, tw_repeat_t u hn hon (tw_per_t h1 h2)]
        have hpe : ∀ (f : Nat → Int32), (∀ j, j < 16 → f j = nI (P j)) → ∀ j, j < 16 → upd f n (nI q) j = nI (va_up P n q j) := by
          intro f hf j hj
          by_cases hjn : j = n
          · subst hjn
            rw [pk_us, va_up_self]
          · rw [pk_un hjn, va_up_ne _ _ hjn]
            exact hf j hj
        refine ⟨rfl, ⟨d, va_up P n q, co, ⟨a1, a2, a3, ?_, a5, a6, a7⟩, hW, hC, hV⟩, by show tm_t m ≤ _; omega, by show tm_rc m ≤ _; omega⟩
        intro j hj
        refine ⟨hpe (tw_pe u) (fun j hj => (a4 j hj).1) j hj, hpe (tm_pe m) (fun j hj => (a4 j hj).2.1) j hj, ?_⟩
        by_cases hjn : j = n
        · subst hjn
          rw [va_up_self]
          exact hq
        · rw [va_up_ne _ _ hjn]
          exact (a4 j hj).2.2
end
section
/-! the two constructors -/
set_option maxHeartbeats 4000000 in
set_option maxRecDepth 100000 in
/-- TimerWheel(): 6 arrays, all zero -/
theorem mX_init (l : Launch) (D : va_G) (h sz : Nat) : Met l yX0_init (ws_ yX0_init cX0_init 1 none) ({ frames := 1, cells := 6, slots := 112, locals := 12 }) (va_Pc [.ref h] (fun U => U.heap.size = sz ∧ va_P D vwCl [(h, .inr (0, [.int 0, .int 0, .null, .null, .null, .null, .int 0, .null, .null]))] U.heap ∧ va_K D vwCl [] U ∧ va_D (fun _ => True) [(h, .inr (0, [.int 0, .int 0, .null, .null, .null, .null, .int 0, .null, .null]))])) (va_Qv (fun _ : Unit => True) (fun _ t => ∃ (ad : Nat → Nat) (ca : Nat → ClassId), va_P D vwCl (wX h ad ca tw_0) t.heap ∧ va_K D vwCl (kX ca) t ∧ va_D (va_A [(h, .inr (0, [.int 0, .int 0, .null, .null, .null, .null, .int 0, .null, .null]))] sz) (wX h ad ca tw_0)) (va_A [(h, .inr (0, [.int 0, .int 0, .null, .null, .null, .null, .int 0, .null, .null]))] sz)) 6 112 (va_A [(h, .inr (0, [.int 0, .int 0, .null, .null, .null, .null, .int 0, .null, .null]))] sz) := by
  refine Met.ofW (cc := cX0_init) (maxL := 1) (ret := none) (by decide) rfl ?_
  intro p e s m args below meth c s₁ B hml hv
  obtain ⟨rfl, hsz, hP, hK, hD0⟩ := hv
  have hx := B.exec
  have hb := B.bytes
  have hr := B.returns
  have hts := atoms_spec (ws := ws_ yX0_init cX0_init 1 none) B.pre
  have hts : ∀ w ∈ lw_all, w.before _ s = true := fun w h => hts w (List.mem_cons_of_mem _ h)
  have hown : s.vm.findClass RX0 = some m.cls := findClass_of_methodNamed B.named
  have hlocks := B.notSynchronized
  have hin : meth.name = "<init>" := (name_of_methodNamed B.named B.method).1
  subst hsz
  have hD := hD0.self (sz := s.heap.size)
  generalize hAe : va_A [(h, .inr (0, [.int 0, .int 0, .null, .null, .null, .null, .int 0, .null, .null]))] s.heap.size = A at hD ⊢
  have hA : ∀ q : Nat, s.heap.size ≤ q → A q := fun q h => by rw [← hAe]; exact Or.inr h
  have hS : va_S A s.heap s.heap [] := va_S.rf
  have hP : va_P D vwCl [(h, .inr (0, [.int 0, .int 0, .null, .null, .null, .null, .int 0, .null, .null]))] s.heap := hP
  have hl := lv_entry ([.ref h]) (n := 1) (Nat.le_of_ble_eq_true rfl)
  rw [lg_entry_eq]
  generalize (lg_sl ([.ref h]) ++ List.replicate (1 - (lg_sl ([.ref h])).length) Slot.unset).toArray = ls at hl ⊢
  have hl : lv_has ls 1 [(0, .ref h)] := hl
  refine lv_aload_n hx hb dX0_init_0 rfl (lv_at hl 0 rfl) ?_
  refine W.objInit hx hb hown (hts _ q19) (hts _ q20) (hts _ q21) rfl (by rw [hml]; exact hl.1) rfl dX0_init_1 (Nat.le_of_ble_eq_true rfl) (Nat.le_of_ble_eq_true rfl) ?_
  refine W.eq (g2 := F0 m 4 ls []) rfl ?_
  refine lv_aload_n hx hb dX0_init_4 rfl (lv_at hl 0 rfl) ?_
  refine lv_bipush (v := 16) hx hb dX0_init_5 (by decide) ?_
  refine va_newa (D := D) (cl := vwCl) (N' := 16) (a0 := (16, .inl (fun _ => 0))) (atype := .int) (ty := .int) hx hb (hts _ q50) rfl hK hP hD hS hA (fun _ => rfl) (by decide) (by decide) (by decide) (Nat.le_of_ble_eq_true rfl) (Nat.le_of_ble_eq_true rfl) dX0_init_7 (fun q0 c0 H hK hP hD hS => ?_)
  have hK : va_K D vwCl [(c0, .int)] s := hK
  have hP : va_P D vwCl [(h, .inr (0, [.int 0, .int 0, .null, .null, .null, .null, .int 0, .null, .null])), (q0, .inl (c0, 16, .inl (fun _ => 0)))] H := hP
  have hD : va_D A [(h, .inr (0, [.int 0, .int 0, .null, .null, .null, .null, .int 0, .null, .null])), (q0, .inl (c0, 16, .inl (fun _ => 0)))] := hD
  refine W.widen (k := 1) (n := 16) (Nat.le_of_ble_eq_true rfl) (Nat.le_of_ble_eq_true rfl) ?_
  refine va_putF (D := D) (ci := 0) (v := .ref q0) (ty := .array .int) (C := RX0) (T := TX0) (N := 9) hx hb hts in_X0 tyX0 tyX0_ok nmX0 hown hK hP hD hS 0 rfl rfl 2 (by decide) (hts _ q24) (fun _ h9 => h9) rfl hin rfl (by decide +kernel) rfl rfl (Nat.le_of_ble_eq_true rfl) dX0_init_9 (fun H locs hP hD hS => ?_)
  have hP : va_P D vwCl [(h, .inr (0, [.int 0, .int 0, .ref q0, .null, .null, .null, .int 0, .null, .null])), (q0, .inl (c0, 16, .inl (fun _ => 0)))] H := hP
  have hD : va_D A [(h, .inr (0, [.int 0, .int 0, .ref q0, .null, .null, .null, .int 0, .null, .null])), (q0, .inl (c0, 16, .inl (fun _ => 0)))] := hD
  refine lv_aload_n hx hb dX0_init_12 rfl (lv_at hl 0 rfl) ?_
  refine lv_bipush (v := 16) hx hb dX0_init_13 (by decide) ?_
  refine va_newa (D := D) (cl := vwCl) (N' := 16) (a0 := (16, .inl (fun _ => 0))) (atype := .short) (ty := .short) hx hb (hts _ q51) rfl hK hP hD hS hA (fun _ => rfl) (by decide) (by decide) (by decide) (Nat.le_of_ble_eq_true rfl) (Nat.le_of_ble_eq_true rfl) dX0_init_15 (fun q1 c1 H hK hP hD hS => ?_)
  have hK : va_K D vwCl [(c0, .int), (c1, .short)] s := hK
  have hP : va_P D vwCl [(h, .inr (0, [.int 0, .int 0, .ref q0, .null, .null, .null, .int 0, .null, .null])), (q0, .inl (c0, 16, .inl (fun _ => 0))), (q1, .inl (c1, 16, .inl (fun _ => 0)))] H := hP
  have hD : va_D A [(h, .inr (0, [.int 0, .int 0, .ref q0, .null, .null, .null, .int 0, .null, .null])), (q0, .inl (c0, 16, .inl (fun _ => 0))), (q1, .inl (c1, 16, .inl (fun _ => 0)))] := hD
  refine W.widen (k := 2) (n := 32) (Nat.le_of_ble_eq_true rfl) (Nat.le_of_ble_eq_true rfl) ?_
  refine va_putF (D := D) (ci := 0) (v := .ref q1) (ty := .array .short) (C := RX0) (T := TX0) (N := 9) hx hb hts in_X0 tyX0 tyX0_ok nmX0 hown hK hP hD hS 0 rfl rfl 3 (by decide) (hts _ q25) (fun _ h9 => h9) rfl hin rfl (by decide +kernel) rfl rfl (Nat.le_of_ble_eq_true rfl) dX0_init_17 (fun H locs hP hD hS => ?_)
  have hP : va_P D vwCl [(h, .inr (0, [.int 0, .int 0, .ref q0, .ref q1, .null, .null, .int 0, .null, .null])), (q0, .inl (c0, 16, .inl (fun _ => 0))), (q1, .inl (c1, 16, .inl (fun _ => 0)))] H := hP
  have hD : va_D A [(h, .inr (0, [.int 0, .int 0, .ref q0, .ref q1, .null, .null, .int 0, .null, .null])), (q0, .inl (c0, 16, .inl (fun _ => 0))), (q1, .inl (c1, 16, .inl (fun _ => 0)))] := hD
  refine lv_aload_n hx hb dX0_init_20 rfl (lv_at hl 0 rfl) ?_
  refine lv_bipush (v := 24) hx hb dX0_init_21 (by decide) ?_
  refine va_newa (D := D) (cl := vwCl) (N' := 24) (a0 := (24, .inl (fun _ => 0))) (atype := .int) (ty := .int) hx hb (hts _ q50) rfl hK hP hD hS hA (fun _ => rfl) (by decide) (by decide) (by decide) (Nat.le_of_ble_eq_true rfl) (Nat.le_of_ble_eq_true rfl) dX0_init_23 (fun q2 c2 H hK hP hD hS => ?_)
  have hK : va_K D vwCl [(c0, .int), (c1, .short), (c2, .int)] s := hK
  have hP : va_P D vwCl [(h, .inr (0, [.int 0, .int 0, .ref q0, .ref q1, .null, .null, .int 0, .null, .null])), (q0, .inl (c0, 16, .inl (fun _ => 0))), (q1, .inl (c1, 16, .inl (fun _ => 0))), (q2, .inl (c2, 24, .inl (fun _ => 0)))] H := hP
  have hD : va_D A [(h, .inr (0, [.int 0, .int 0, .ref q0, .ref q1, .null, .null, .int 0, .null, .null])), (q0, .inl (c0, 16, .inl (fun _ => 0))), (q1, .inl (c1, 16, .inl (fun _ => 0))), (q2, .inl (c2, 24, .inl (fun _ => 0)))] := hD
  refine W.widen (k := 3) (n := 56) (Nat.le_of_ble_eq_true rfl) (Nat.le_of_ble_eq_true rfl) ?_
  refine va_putF (D := D) (ci := 0) (v := .ref q2) (ty := .array .int) (C := RX0) (T := TX0) (N := 9) hx hb hts in_X0 tyX0 tyX0_ok nmX0 hown hK hP hD hS 0 rfl rfl 4 (by decide) (hts _ q26) (fun _ h9 => h9) rfl hin rfl (by decide +kernel) rfl rfl (Nat.le_of_ble_eq_true rfl) dX0_init_25 (fun H locs hP hD hS => ?_)
  have hP : va_P D vwCl [(h, .inr (0, [.int 0, .int 0, .ref q0, .ref q1, .ref q2, .null, .int 0, .null, .null])), (q0, .inl (c0, 16, .inl (fun _ => 0))), (q1, .inl (c1, 16, .inl (fun _ => 0))), (q2, .inl (c2, 24, .inl (fun _ => 0)))] H := hP
  have hD : va_D A [(h, .inr (0, [.int 0, .int 0, .ref q0, .ref q1, .ref q2, .null, .int 0, .null, .null])), (q0, .inl (c0, 16, .inl (fun _ => 0))), (q1, .inl (c1, 16, .inl (fun _ => 0))), (q2, .inl (c2, 24, .inl (fun _ => 0)))] := hD
  refine lv_aload_n hx hb dX0_init_28 rfl (lv_at hl 0 rfl) ?_
  refine lv_bipush (v := 16) hx hb dX0_init_29 (by decide) ?_
  refine va_newa (D := D) (cl := vwCl) (N' := 16) (a0 := (16, .inl (fun _ => 0))) (atype := .byte) (ty := .byte) hx hb (hts _ q52) rfl hK hP hD hS hA (fun _ => rfl) (by decide) (by decide) (by decide) (Nat.le_of_ble_eq_true rfl) (Nat.le_of_ble_eq_true rfl) dX0_init_31 (fun q3 c3 H hK hP hD hS => ?_)
  have hK : va_K D vwCl [(c0, .int), (c1, .short), (c2, .int), (c3, .byte)] s := hK
  have hP : va_P D vwCl [(h, .inr (0, [.int 0, .int 0, .ref q0, .ref q1, .ref q2, .null, .int 0, .null, .null])), (q0, .inl (c0, 16, .inl (fun _ => 0))), (q1, .inl (c1, 16, .inl (fun _ => 0))), (q2, .inl (c2, 24, .inl (fun _ => 0))), (q3, .inl (c3, 16, .inl (fun _ => 0)))] H := hP
  have hD : va_D A [(h, .inr (0, [.int 0, .int 0, .ref q0, .ref q1, .ref q2, .null, .int 0, .null, .null])), (q0, .inl (c0, 16, .inl (fun _ => 0))), (q1, .inl (c1, 16, .inl (fun _ => 0))), (q2, .inl (c2, 24, .inl (fun _ => 0))), (q3, .inl (c3, 16, .inl (fun _ => 0)))] := hD
  refine W.widen (k := 4) (n := 72) (Nat.le_of_ble_eq_true rfl) (Nat.le_of_ble_eq_true rfl) ?_
  refine va_putF (D := D) (ci := 0) (v := .ref q3) (ty := .array .byte) (C := RX0) (T := TX0) (N := 9) hx hb hts in_X0 tyX0 tyX0_ok nmX0 hown hK hP hD hS 0 rfl rfl 5 (by decide) (hts _ q27) (fun _ h9 => h9) rfl hin rfl (by decide +kernel) rfl rfl (Nat.le_of_ble_eq_true rfl) dX0_init_33 (fun H locs hP hD hS => ?_)
  have hP : va_P D vwCl [(h, .inr (0, [.int 0, .int 0, .ref q0, .ref q1, .ref q2, .ref q3, .int 0, .null, .null])), (q0, .inl (c0, 16, .inl (fun _ => 0))), (q1, .inl (c1, 16, .inl (fun _ => 0))), (q2, .inl (c2, 24, .inl (fun _ => 0))), (q3, .inl (c3, 16, .inl (fun _ => 0)))] H := hP
  have hD : va_D A [(h, .inr (0, [.int 0, .int 0, .ref q0, .ref q1, .ref q2, .ref q3, .int 0, .null, .null])), (q0, .inl (c0, 16, .inl (fun _ => 0))), (q1, .inl (c1, 16, .inl (fun _ => 0))), (q2, .inl (c2, 24, .inl (fun _ => 0))), (q3, .inl (c3, 16, .inl (fun _ => 0)))] := hD
  refine lv_aload_n hx hb dX0_init_36 rfl (lv_at hl 0 rfl) ?_
  refine lv_bipush (v := 20) hx hb dX0_init_37 (by decide) ?_
  refine va_newa (D := D) (cl := vwCl) (N' := 20) (a0 := (20, .inl (fun _ => 0))) (atype := .byte) (ty := .byte) hx hb (hts _ q52) rfl hK hP hD hS hA (fun _ => rfl) (by decide) (by decide) (by decide) (Nat.le_of_ble_eq_true rfl) (Nat.le_of_ble_eq_true rfl) dX0_init_39 (fun q4 c4 H hK hP hD hS => ?_)
  have hK : va_K D vwCl [(c0, .int), (c1, .short), (c2, .int), (c3, .byte), (c4, .byte)] s := hK
  have hP : va_P D vwCl [(h, .inr (0, [.int 0, .int 0, .ref q0, .ref q1, .ref q2, .ref q3, .int 0, .null, .null])), (q0, .inl (c0, 16, .inl (fun _ => 0))), (q1, .inl (c1, 16, .inl (fun _ => 0))), (q2, .inl (c2, 24, .inl (fun _ => 0))), (q3, .inl (c3, 16, .inl (fun _ => 0))), (q4, .inl (c4, 20, .inl (fun _ => 0)))] H := hP
  have hD : va_D A [(h, .inr (0, [.int 0, .int 0, .ref q0, .ref q1, .ref q2, .ref q3, .int 0, .null, .null])), (q0, .inl (c0, 16, .inl (fun _ => 0))), (q1, .inl (c1, 16, .inl (fun _ => 0))), (q2, .inl (c2, 24, .inl (fun _ => 0))), (q3, .inl (c3, 16, .inl (fun _ => 0))), (q4, .inl (c4, 20, .inl (fun _ => 0)))] := hD
  refine W.widen (k := 5) (n := 92) (Nat.le_of_ble_eq_true rfl) (Nat.le_of_ble_eq_true rfl) ?_
  refine va_putF (D := D) (ci := 0) (v := .ref q4) (ty := .array .byte) (C := RX0) (T := TX0) (N := 9) hx hb hts in_X0 tyX0 tyX0_ok nmX0 hown hK hP hD hS 0 rfl rfl 7 (by decide) (hts _ q29) (fun _ h9 => h9) rfl hin rfl (by decide +kernel) rfl rfl (Nat.le_of_ble_eq_true rfl) dX0_init_41 (fun H locs hP hD hS => ?_)
  have hP : va_P D vwCl [(h, .inr (0, [.int 0, .int 0, .ref q0, .ref q1, .ref q2, .ref q3, .int 0, .ref q4, .null])), (q0, .inl (c0, 16, .inl (fun _ => 0))), (q1, .inl (c1, 16, .inl (fun _ => 0))), (q2, .inl (c2, 24, .inl (fun _ => 0))), (q3, .inl (c3, 16, .inl (fun _ => 0))), (q4, .inl (c4, 20, .inl (fun _ => 0)))] H := hP
  have hD : va_D A [(h, .inr (0, [.int 0, .int 0, .ref q0, .ref q1, .ref q2, .ref q3, .int 0, .ref q4, .null])), (q0, .inl (c0, 16, .inl (fun _ => 0))), (q1, .inl (c1, 16, .inl (fun _ => 0))), (q2, .inl (c2, 24, .inl (fun _ => 0))), (q3, .inl (c3, 16, .inl (fun _ => 0))), (q4, .inl (c4, 20, .inl (fun _ => 0)))] := hD
  refine lv_aload_n hx hb dX0_init_44 rfl (lv_at hl 0 rfl) ?_
  refine lv_bipush (v := 20) hx hb dX0_init_45 (by decide) ?_
  refine va_newa (D := D) (cl := vwCl) (N' := 20) (a0 := (20, .inl (fun _ => 0))) (atype := .int) (ty := .int) hx hb (hts _ q50) rfl hK hP hD hS hA (fun _ => rfl) (by decide) (by decide) (by decide) (Nat.le_of_ble_eq_true rfl) (Nat.le_of_ble_eq_true rfl) dX0_init_47 (fun q5 c5 H hK hP hD hS => ?_)
  have hK : va_K D vwCl [(c0, .int), (c1, .short), (c2, .int), (c3, .byte), (c4, .byte), (c5, .int)] s := hK
  have hP : va_P D vwCl [(h, .inr (0, [.int 0, .int 0, .ref q0, .ref q1, .ref q2, .ref q3, .int 0, .ref q4, .null])), (q0, .inl (c0, 16, .inl (fun _ => 0))), (q1, .inl (c1, 16, .inl (fun _ => 0))), (q2, .inl (c2, 24, .inl (fun _ => 0))), (q3, .inl (c3, 16, .inl (fun _ => 0))), (q4, .inl (c4, 20, .inl (fun _ => 0))), (q5, .inl (c5, 20, .inl (fun _ => 0)))] H := hP
  have hD : va_D A [(h, .inr (0, [.int 0, .int 0, .ref q0, .ref q1, .ref q2, .ref q3, .int 0, .ref q4, .null])), (q0, .inl (c0, 16, .inl (fun _ => 0))), (q1, .inl (c1, 16, .inl (fun _ => 0))), (q2, .inl (c2, 24, .inl (fun _ => 0))), (q3, .inl (c3, 16, .inl (fun _ => 0))), (q4, .inl (c4, 20, .inl (fun _ => 0))), (q5, .inl (c5, 20, .inl (fun _ => 0)))] := hD
  refine W.widen (k := 6) (n := 112) (Nat.le_of_ble_eq_true rfl) (Nat.le_of_ble_eq_true rfl) ?_
  refine va_putF (D := D) (ci := 0) (v := .ref q5) (ty := .array .int) (C := RX0) (T := TX0) (N := 9) hx hb hts in_X0 tyX0 tyX0_ok nmX0 hown hK hP hD hS 0 rfl rfl 8 (by decide) (hts _ q30) (fun _ h9 => h9) rfl hin rfl (by decide +kernel) rfl rfl (Nat.le_of_ble_eq_true rfl) dX0_init_49 (fun H locs hP hD hS => ?_)
  have hP : va_P D vwCl [(h, .inr (0, [.int 0, .int 0, .ref q0, .ref q1, .ref q2, .ref q3, .int 0, .ref q4, .ref q5])), (q0, .inl (c0, 16, .inl (fun _ => 0))), (q1, .inl (c1, 16, .inl (fun _ => 0))), (q2, .inl (c2, 24, .inl (fun _ => 0))), (q3, .inl (c3, 16, .inl (fun _ => 0))), (q4, .inl (c4, 20, .inl (fun _ => 0))), (q5, .inl (c5, 20, .inl (fun _ => 0)))] H := hP
  have hD : va_D A [(h, .inr (0, [.int 0, .int 0, .ref q0, .ref q1, .ref q2, .ref q3, .int 0, .ref q4, .ref q5])), (q0, .inl (c0, 16, .inl (fun _ => 0))), (q1, .inl (c1, 16, .inl (fun _ => 0))), (q2, .inl (c2, 24, .inl (fun _ => 0))), (q3, .inl (c3, 16, .inl (fun _ => 0))), (q4, .inl (c4, 20, .inl (fun _ => 0))), (q5, .inl (c5, 20, .inl (fun _ => 0)))] := hD
  have hP : va_P D vwCl (wX h (fun k => match k with | 0 => q0 | 1 => q1 | 2 => q2 | 3 => q3 | 4 => q4 | _ => q5) (fun k => match k with | 0 => c0 | 1 => c1 | 2 => c2 | 3 => c3 | 4 => c4 | _ => c5) tw_0) H := hP
  have hD : va_D A (wX h (fun k => match k with | 0 => q0 | 1 => q1 | 2 => q2 | 3 => q3 | 4 => q4 | _ => q5) (fun k => match k with | 0 => c0 | 1 => c1 | 2 => c2 | 3 => c3 | 4 => c4 | _ => c5) tw_0) := hD
  have hK : va_K D vwCl (kX (fun k => match k with | 0 => c0 | 1 => c1 | 2 => c2 | 3 => c3 | 4 => c4 | _ => c5)) s := hK
  exact W.vret hx hb hr (fun t ht hW => ⟨⟨(), rfl, trivial, _, _, by rw [ht]; exact hP, va_K.moved hW.alike hK, hD⟩, hS.F ht⟩) hS.2.2 dX0_init_52
set_option maxHeartbeats 4000000 in
set_option maxRecDepth 100000 in
/-- TimerWheelModel(): 5 arrays, all zero -/
theorem mM_init (l : Launch) (D : va_G) (h sz : Nat) : Met l yX1_init (ws_ yX1_init cX1_init 1 none) ({ frames := 1, cells := 5, slots := 88, locals := 12 }) (va_Pc [.ref h] (fun U => U.heap.size = sz ∧ va_P D vwCl [(h, .inr (1, [.int 0, .null, .null, .null, .int 0, .null, .null]))] U.heap ∧ va_K D vwCl [] U ∧ va_D (fun _ => True) [(h, .inr (1, [.int 0, .null, .null, .null, .int 0, .null, .null]))])) (va_Qv (fun _ : Unit => True) (fun _ t => ∃ (ad : Nat → Nat) (ca : Nat → ClassId), va_P D vwCl (wM h ad ca tm_0) t.heap ∧ va_K D vwCl (kM ca) t ∧ va_D (va_A [(h, .inr (1, [.int 0, .null, .null, .null, .int 0, .null, .null]))] sz) (wM h ad ca tm_0)) (va_A [(h, .inr (1, [.int 0, .null, .null, .null, .int 0, .null, .null]))] sz)) 5 88 (va_A [(h, .inr (1, [.int 0, .null, .null, .null, .int 0, .null, .null]))] sz) := by
  refine Met.ofW (cc := cX1_init) (maxL := 1) (ret := none) (by decide) rfl ?_
  intro p e s m args below meth c s₁ B hml hv
  obtain ⟨rfl, hsz, hP, hK, hD0⟩ := hv
  have hx := B.exec
  have hb := B.bytes
  have hr := B.returns
  have hts := atoms_spec (ws := ws_ yX1_init cX1_init 1 none) B.pre
  have hts : ∀ w ∈ lw_all, w.before _ s = true := fun w h => hts w (List.mem_cons_of_mem _ h)
  have hown : s.vm.findClass RX1 = some m.cls := findClass_of_methodNamed B.named
  have hlocks := B.notSynchronized
  have hin : meth.name = "<init>" := (name_of_methodNamed B.named B.method).1
  subst hsz
  have hD := hD0.self (sz := s.heap.size)
  generalize hAe : va_A [(h, .inr (1, [.int 0, .null, .null, .null, .int 0, .null, .null]))] s.heap.size = A at hD ⊢
  have hA : ∀ q : Nat, s.heap.size ≤ q → A q := fun q h => by rw [← hAe]; exact Or.inr h
  have hS : va_S A s.heap s.heap [] := va_S.rf
  have hP : va_P D vwCl [(h, .inr (1, [.int 0, .null, .null, .null, .int 0, .null, .null]))] s.heap := hP
  have hl := lv_entry ([.ref h]) (n := 1) (Nat.le_of_ble_eq_true rfl)
  rw [lg_entry_eq]
  generalize (lg_sl ([.ref h]) ++ List.replicate (1 - (lg_sl ([.ref h])).length) Slot.unset).toArray = ls at hl ⊢
  have hl : lv_has ls 1 [(0, .ref h)] := hl
  refine lv_aload_n hx hb dX1_init_0 rfl (lv_at hl 0 rfl) ?_
  refine W.objInit hx hb hown (hts _ q145) (hts _ q20) (hts _ q21) rfl (by rw [hml]; exact hl.1) rfl dX1_init_1 (Nat.le_of_ble_eq_true rfl) (Nat.le_of_ble_eq_true rfl) ?_
  refine W.eq (g2 := F0 m 4 ls []) rfl ?_
  refine lv_aload_n hx hb dX1_init_4 rfl (lv_at hl 0 rfl) ?_
  refine lv_bipush (v := 16) hx hb dX1_init_5 (by decide) ?_
  refine va_newa (D := D) (cl := vwCl) (N' := 16) (a0 := (16, .inl (fun _ => 0))) (atype := .boolean) (ty := .boolean) hx hb (hts _ q168) rfl hK hP hD hS hA (fun _ => rfl) (by decide) (by decide) (by decide) (Nat.le_of_ble_eq_true rfl) (Nat.le_of_ble_eq_true rfl) dX1_init_7 (fun q0 c0 H hK hP hD hS => ?_)
  have hK : va_K D vwCl [(c0, .boolean)] s := hK
  have hP : va_P D vwCl [(h, .inr (1, [.int 0, .null, .null, .null, .int 0, .null, .null])), (q0, .inl (c0, 16, .inl (fun _ => 0)))] H := hP
  have hD : va_D A [(h, .inr (1, [.int 0, .null, .null, .null, .int 0, .null, .null])), (q0, .inl (c0, 16, .inl (fun _ => 0)))] := hD
  refine W.widen (k := 1) (n := 16) (Nat.le_of_ble_eq_true rfl) (Nat.le_of_ble_eq_true rfl) ?_
  refine va_put (D := D) (ci := 1) (v := .ref q0) (ty := .array .boolean) (C := RX1) (T := TX1) (N := 7) hx hb hts in_X1 tyX1 tyX1_ok nmX1 hown hK hP hD hS 0 rfl rfl 1 (by decide) (hts _ q147) (fun _ h9 => h9) rfl (by decide +kernel) rfl rfl (Nat.le_of_ble_eq_true rfl) dX1_init_9 (fun H locs hP hD hS => ?_)
  have hP : va_P D vwCl [(h, .inr (1, [.int 0, .ref q0, .null, .null, .int 0, .null, .null])), (q0, .inl (c0, 16, .inl (fun _ => 0)))] H := hP
  have hD : va_D A [(h, .inr (1, [.int 0, .ref q0, .null, .null, .int 0, .null, .null])), (q0, .inl (c0, 16, .inl (fun _ => 0)))] := hD
  refine lv_aload_n hx hb dX1_init_12 rfl (lv_at hl 0 rfl) ?_
  refine lv_bipush (v := 16) hx hb dX1_init_13 (by decide) ?_
  refine va_newa (D := D) (cl := vwCl) (N' := 16) (a0 := (16, .inl (fun _ => 0))) (atype := .int) (ty := .int) hx hb (hts _ q50) rfl hK hP hD hS hA (fun _ => rfl) (by decide) (by decide) (by decide) (Nat.le_of_ble_eq_true rfl) (Nat.le_of_ble_eq_true rfl) dX1_init_15 (fun q1 c1 H hK hP hD hS => ?_)
  have hK : va_K D vwCl [(c0, .boolean), (c1, .int)] s := hK
  have hP : va_P D vwCl [(h, .inr (1, [.int 0, .ref q0, .null, .null, .int 0, .null, .null])), (q0, .inl (c0, 16, .inl (fun _ => 0))), (q1, .inl (c1, 16, .inl (fun _ => 0)))] H := hP
  have hD : va_D A [(h, .inr (1, [.int 0, .ref q0, .null, .null, .int 0, .null, .null])), (q0, .inl (c0, 16, .inl (fun _ => 0))), (q1, .inl (c1, 16, .inl (fun _ => 0)))] := hD
  refine W.widen (k := 2) (n := 32) (Nat.le_of_ble_eq_true rfl) (Nat.le_of_ble_eq_true rfl) ?_
  refine va_put (D := D) (ci := 1) (v := .ref q1) (ty := .array .int) (C := RX1) (T := TX1) (N := 7) hx hb hts in_X1 tyX1 tyX1_ok nmX1 hown hK hP hD hS 0 rfl rfl 2 (by decide) (hts _ q148) (fun _ h9 => h9) rfl (by decide +kernel) rfl rfl (Nat.le_of_ble_eq_true rfl) dX1_init_17 (fun H locs hP hD hS => ?_)
  have hP : va_P D vwCl [(h, .inr (1, [.int 0, .ref q0, .ref q1, .null, .int 0, .null, .null])), (q0, .inl (c0, 16, .inl (fun _ => 0))), (q1, .inl (c1, 16, .inl (fun _ => 0)))] H := hP
  have hD : va_D A [(h, .inr (1, [.int 0, .ref q0, .ref q1, .null, .int 0, .null, .null])), (q0, .inl (c0, 16, .inl (fun _ => 0))), (q1, .inl (c1, 16, .inl (fun _ => 0)))] := hD
  refine lv_aload_n hx hb dX1_init_20 rfl (lv_at hl 0 rfl) ?_
  refine lv_bipush (v := 16) hx hb dX1_init_21 (by decide) ?_
  refine va_newa (D := D) (cl := vwCl) (N' := 16) (a0 := (16, .inl (fun _ => 0))) (atype := .int) (ty := .int) hx hb (hts _ q50) rfl hK hP hD hS hA (fun _ => rfl) (by decide) (by decide) (by decide) (Nat.le_of_ble_eq_true rfl) (Nat.le_of_ble_eq_true rfl) dX1_init_23 (fun q2 c2 H hK hP hD hS => ?_)
  have hK : va_K D vwCl [(c0, .boolean), (c1, .int), (c2, .int)] s := hK
  have hP : va_P D vwCl [(h, .inr (1, [.int 0, .ref q0, .ref q1, .null, .int 0, .null, .null])), (q0, .inl (c0, 16, .inl (fun _ => 0))), (q1, .inl (c1, 16, .inl (fun _ => 0))), (q2, .inl (c2, 16, .inl (fun _ => 0)))] H := hP
  have hD : va_D A [(h, .inr (1, [.int 0, .ref q0, .ref q1, .null, .int 0, .null, .null])), (q0, .inl (c0, 16, .inl (fun _ => 0))), (q1, .inl (c1, 16, .inl (fun _ => 0))), (q2, .inl (c2, 16, .inl (fun _ => 0)))] := hD
  refine W.widen (k := 3) (n := 48) (Nat.le_of_ble_eq_true rfl) (Nat.le_of_ble_eq_true rfl) ?_
  refine va_put (D := D) (ci := 1) (v := .ref q2) (ty := .array .int) (C := RX1) (T := TX1) (N := 7) hx hb hts in_X1 tyX1 tyX1_ok nmX1 hown hK hP hD hS 0 rfl rfl 3 (by decide) (hts _ q149) (fun _ h9 => h9) rfl (by decide +kernel) rfl rfl (Nat.le_of_ble_eq_true rfl) dX1_init_25 (fun H locs hP hD hS => ?_)
  have hP : va_P D vwCl [(h, .inr (1, [.int 0, .ref q0, .ref q1, .ref q2, .int 0, .null, .null])), (q0, .inl (c0, 16, .inl (fun _ => 0))), (q1, .inl (c1, 16, .inl (fun _ => 0))), (q2, .inl (c2, 16, .inl (fun _ => 0)))] H := hP
  have hD : va_D A [(h, .inr (1, [.int 0, .ref q0, .ref q1, .ref q2, .int 0, .null, .null])), (q0, .inl (c0, 16, .inl (fun _ => 0))), (q1, .inl (c1, 16, .inl (fun _ => 0))), (q2, .inl (c2, 16, .inl (fun _ => 0)))] := hD
  refine lv_aload_n hx hb dX1_init_28 rfl (lv_at hl 0 rfl) ?_
  refine lv_bipush (v := 20) hx hb dX1_init_29 (by decide) ?_
  refine va_newa (D := D) (cl := vwCl) (N' := 20) (a0 := (20, .inl (fun _ => 0))) (atype := .int) (ty := .int) hx hb (hts _ q50) rfl hK hP hD hS hA (fun _ => rfl) (by decide) (by decide) (by decide) (Nat.le_of_ble_eq_true rfl) (Nat.le_of_ble_eq_true rfl) dX1_init_31 (fun q3 c3 H hK hP hD hS => ?_)
  have hK : va_K D vwCl [(c0, .boolean), (c1, .int), (c2, .int), (c3, .int)] s := hK
  have hP : va_P D vwCl [(h, .inr (1, [.int 0, .ref q0, .ref q1, .ref q2, .int 0, .null, .null])), (q0, .inl (c0, 16, .inl (fun _ => 0))), (q1, .inl (c1, 16, .inl (fun _ => 0))), (q2, .inl (c2, 16, .inl (fun _ => 0))), (q3, .inl (c3, 20, .inl (fun _ => 0)))] H := hP
  have hD : va_D A [(h, .inr (1, [.int 0, .ref q0, .ref q1, .ref q2, .int 0, .null, .null])), (q0, .inl (c0, 16, .inl (fun _ => 0))), (q1, .inl (c1, 16, .inl (fun _ => 0))), (q2, .inl (c2, 16, .inl (fun _ => 0))), (q3, .inl (c3, 20, .inl (fun _ => 0)))] := hD
  refine W.widen (k := 4) (n := 68) (Nat.le_of_ble_eq_true rfl) (Nat.le_of_ble_eq_true rfl) ?_
  refine va_put (D := D) (ci := 1) (v := .ref q3) (ty := .array .int) (C := RX1) (T := TX1) (N := 7) hx hb hts in_X1 tyX1 tyX1_ok nmX1 hown hK hP hD hS 0 rfl rfl 5 (by decide) (hts _ q151) (fun _ h9 => h9) rfl (by decide +kernel) rfl rfl (Nat.le_of_ble_eq_true rfl) dX1_init_33 (fun H locs hP hD hS => ?_)
  have hP : va_P D vwCl [(h, .inr (1, [.int 0, .ref q0, .ref q1, .ref q2, .int 0, .ref q3, .null])), (q0, .inl (c0, 16, .inl (fun _ => 0))), (q1, .inl (c1, 16, .inl (fun _ => 0))), (q2, .inl (c2, 16, .inl (fun _ => 0))), (q3, .inl (c3, 20, .inl (fun _ => 0)))] H := hP
  have hD : va_D A [(h, .inr (1, [.int 0, .ref q0, .ref q1, .ref q2, .int 0, .ref q3, .null])), (q0, .inl (c0, 16, .inl (fun _ => 0))), (q1, .inl (c1, 16, .inl (fun _ => 0))), (q2, .inl (c2, 16, .inl (fun _ => 0))), (q3, .inl (c3, 20, .inl (fun _ => 0)))] := hD
  refine lv_aload_n hx hb dX1_init_36 rfl (lv_at hl 0 rfl) ?_
  refine lv_bipush (v := 20) hx hb dX1_init_37 (by decide) ?_
  refine va_newa (D := D) (cl := vwCl) (N' := 20) (a0 := (20, .inl (fun _ => 0))) (atype := .int) (ty := .int) hx hb (hts _ q50) rfl hK hP hD hS hA (fun _ => rfl) (by decide) (by decide) (by decide) (Nat.le_of_ble_eq_true rfl) (Nat.le_of_ble_eq_true rfl) dX1_init_39 (fun q4 c4 H hK hP hD hS => ?_)
  have hK : va_K D vwCl [(c0, .boolean), (c1, .int), (c2, .int), (c3, .int), (c4, .int)] s := hK
  have hP : va_P D vwCl [(h, .inr (1, [.int 0, .ref q0, .ref q1, .ref q2, .int 0, .ref q3, .null])), (q0, .inl (c0, 16, .inl (fun _ => 0))), (q1, .inl (c1, 16, .inl (fun _ => 0))), (q2, .inl (c2, 16, .inl (fun _ => 0))), (q3, .inl (c3, 20, .inl (fun _ => 0))), (q4, .inl (c4, 20, .inl (fun _ => 0)))] H := hP
  have hD : va_D A [(h, .inr (1, [.int 0, .ref q0, .ref q1, .ref q2, .int 0, .ref q3, .null])), (q0, .inl (c0, 16, .inl (fun _ => 0))), (q1, .inl (c1, 16, .inl (fun _ => 0))), (q2, .inl (c2, 16, .inl (fun _ => 0))), (q3, .inl (c3, 20, .inl (fun _ => 0))), (q4, .inl (c4, 20, .inl (fun _ => 0)))] := hD
  refine W.widen (k := 5) (n := 88) (Nat.le_of_ble_eq_true rfl) (Nat.le_of_ble_eq_true rfl) ?_
  refine va_put (D := D) (ci := 1) (v := .ref q4) (ty := .array .int) (C := RX1) (T := TX1) (N := 7) hx hb hts in_X1 tyX1 tyX1_ok nmX1 hown hK hP hD hS 0 rfl rfl 6 (by decide) (hts _ q152) (fun _ h9 => h9) rfl (by decide +kernel) rfl rfl (Nat.le_of_ble_eq_true rfl) dX1_init_41 (fun H locs hP hD hS => ?_)
  have hP : va_P D vwCl [(h, .inr (1, [.int 0, .ref q0, .ref q1, .ref q2, .int 0, .ref q3, .ref q4])), (q0, .inl (c0, 16, .inl (fun _ => 0))), (q1, .inl (c1, 16, .inl (fun _ => 0))), (q2, .inl (c2, 16, .inl (fun _ => 0))), (q3, .inl (c3, 20, .inl (fun _ => 0))), (q4, .inl (c4, 20, .inl (fun _ => 0)))] H := hP
  have hD : va_D A [(h, .inr (1, [.int 0, .ref q0, .ref q1, .ref q2, .int 0, .ref q3, .ref q4])), (q0, .inl (c0, 16, .inl (fun _ => 0))), (q1, .inl (c1, 16, .inl (fun _ => 0))), (q2, .inl (c2, 16, .inl (fun _ => 0))), (q3, .inl (c3, 20, .inl (fun _ => 0))), (q4, .inl (c4, 20, .inl (fun _ => 0)))] := hD
  have hP : va_P D vwCl (wM h (fun k => match k with | 0 => q0 | 1 => q1 | 2 => q2 | 3 => q3 | _ => q4) (fun k => match k with | 0 => c0 | 1 => c1 | 2 => c2 | 3 => c3 | _ => c4) tm_0) H := hP
  have hD : va_D A (wM h (fun k => match k with | 0 => q0 | 1 => q1 | 2 => q2 | 3 => q3 | _ => q4) (fun k => match k with | 0 => c0 | 1 => c1 | 2 => c2 | 3 => c3 | _ => c4) tm_0) := hD
  have hK : va_K D vwCl (kM (fun k => match k with | 0 => c0 | 1 => c1 | 2 => c2 | 3 => c3 | _ => c4)) s := hK
  exact W.vret hx hb hr (fun t ht hW => ⟨⟨(), rfl, trivial, _, _, by rw [ht]; exact hP, va_K.moved hW.alike hK, hD⟩, hS.F ht⟩) hS.2.2 dX1_init_44
theorem tr_ap.of {A : Nat → Prop} {w1 w2 : va_W} (h : va_D A (w1 ++ w2)) : tr_ap w1 w2 := by
  intro i j p q hp hq z
  have hi := (List.getElem?_eq_some_iff.mp hp).1
  have := h.1 i (w1.length + j) p q (by rw [List.getElem?_append_left hi]; exact hp) (by rw [List.getElem?_append_right (by omega), Nat.add_sub_cancel_left]; exact hq) z
  omega
end
section
def R_law : String := "TimerWheelLaw"
def lw_P (b : Addr) (xs : List Int32) (args : Array Value) (s : State) : Prop := args = #[.ref b] ∧ s.IntsAt b xs ∧ xs.length ≤ 256 ∧ (Jvm.Cond.and given_1 narrow_1).before args s = true
def lw_Q (_ : Array Value) (s : State) (o : Outcome) (t : State) : Prop := o = .returned (some (.int 1)) ∧ Framed s o t [] 600000 7290000
def lw_Z (below : List Frame) (a : Array Value) (s : State) : State → Prop := fun t => ∃ o, t.status = .running ∧ Ended t below o ∧ lw_Q a s o t
/-- the law's own end, with 1 on the stack, nothing written that was there before, its room as the claim has it -/
theorem lw_ret {p : Program} {l : Launch} {e : Env} {s : State} {m : MethodId} {below : List Frame} {meth : Method} {c : Code} {b : Nat} (hx : p.tables.exec = Jvm.exec) (hb : c.code = code) (hr : meth.sig.returnType = ret) (hlocks : meth.locks = false) {pc : Nat} {H : Heap} {ls : Array Slot} (hdg : decode code pc = .ok (.ireturn, 1)) : W p l e room_1 s m #[Value.ref b] below meth c H [] 600000 7290000 (lw_Z below #[Value.ref b] s) (F0 m pc ls [.int 1]) := by
  intro T hT X
  obtain ⟨fs, hret, hrun, hended, hW, hframe⟩ := X.leave (v := some (.int 1)) (hlocks := hlocks) (fun h => by rw [hr] at h; cases h)
  have hmeth' : T.vm.method? m = some meth := X.method'
  refine ⟨T.setFrames fs, ?_, .returned (some (.int 1)), hrun, hended, rfl, ⟨_, rfl⟩, hW, hframe⟩
  jvm_step X.here [X.here.top, hx, hb, hdg, hmeth', hr, ret, narrow_b1]
  (try refine ⟨rfl, ?_⟩); (try refine ⟨rfl, ?_⟩)
  first | (intro acts; rw [hret _ acts rfl rfl rfl]) | rw [hret _ _ rfl rfl rfl]
  exact Steps.refl _
/-- what holds at the law's entry: the machine, the code, the tables' words (any of lw_tbl by 'hts w (by decide +kernel)'), the script of L ints xs at the cell b, what the Statement gives of the start (any of its parts by flat_of_before) -/
def lw_At (p : Program) (s : State) (m : MethodId) (meth : Method) (c : Code) (b L : Nat) (xs : Nat → Int32) : Prop :=
  p.tables.exec = Jvm.exec ∧ c.code = code ∧ meth.sig.returnType = ret ∧ c.maxLocals = 4 ∧ s.vm.findClass R_law = some m.cls ∧ (∀ w ∈ lw_tbl, w.before #[Value.ref b] s = true) ∧ va_X b L xs s s.heap ∧ b < s.heap.size ∧ meth.locks = false ∧ (Jvm.Cond.and given_1 narrow_1).before #[Value.ref b] s = true
end
section
set_option maxHeartbeats 4000000 in
set_option maxRecDepth 100000 in
theorem law_gt {L j : Nat} (hL : L ≤ 256) (hj : j ≤ 64) : nI L - 4 < nI (4 * j) ↔ L < 4 * j + 4 := by
  have e : (nI L - 4).toInt = (L : Int) - 4 := pk_sub_toInt (a := L) (b := 4) (by omega) (by omega)
  rw [Int32.lt_iff_toInt_lt, e, nI_toInt (by omega)]
  omega
set_option maxHeartbeats 40000000 in
set_option maxRecDepth 100000 in
/-- THE LAW'S LOOP: at its head, j calls made, the two objects stand in the relation -/
theorem law_loop {p : Program} {l : Launch} {e : Env} {s : State} {m : MethodId} {below : List Frame} {meth : Method} {c : Code} {D : va_G} {b L : Nat} {xs : Nat → Int32} (hL : L ≤ 256) (C0 : lw_At p s m meth c b L xs) (h1 : Nat) (ad1 : Nat → Nat) (ca1 : Nat → ClassId) (h2 : Nat) (ad2 : Nat → Nat) (ca2 : Nat → ClassId) (hKx : va_K D vwCl (kX ca1) s) (hKm : va_K D vwCl (kM ca2) s) : ∀ (n j : Nat) (u : xS) (mm : mS) (H : Heap) (locs : List Loc) (ls : Array Slot), j ≤ 64 → 65 ≤ j + n → tq_R u mm → tm_t mm ≤ 1000 * j → tm_rc mm ≤ 16000 * j → va_P D vwCl (wX h1 ad1 ca1 u) H → va_P D vwCl (wM h2 ad2 ca2 mm) H → va_D (fun q : Nat => s.heap.size ≤ q) (wX h1 ad1 ca1 u) → va_D (fun q : Nat => s.heap.size ≤ q) (wM h2 ad2 ca2 mm) → tr_ap (wM h2 ad2 ca2 mm) (wX h1 ad1 ca1 u) → va_S (fun q : Nat => s.heap.size ≤ q) s.heap H locs → lv_has ls 4 [(0, .ref b), (1, .ref h1), (2, .ref h2), (3, .int (nI (4 * j)))] → W p l e room_1 s m #[Value.ref b] below meth c H locs 13 216 (lw_Z below #[Value.ref b] s) (F0 m 18 ls []) := by
  obtain ⟨hx, hb, hr, hml, hown, hts0, hX, hbl, hlocks, hgv⟩ := C0
  have hts : ∀ w ∈ lw_all, w.before #[Value.ref b] s = true := fun w h => hts0 w (lw_all_tbl h)
  have hA : ∀ q : Nat, s.heap.size ≤ q → (fun q : Nat => s.heap.size ≤ q) q := fun _ h => h
  have hbA : ¬ (fun q : Nat => s.heap.size ≤ q) b := Nat.not_le.mpr hbl
  intro n
  induction n with
  | zero =>
    intro j u mm H locs ls h1 h2
    exact absurd h2 (by omega)
  | succ n ih =>
    intro j u mm H locs ls hj hjn hR htb hrb hPx hPm hDx hDm hap hS hl
    have ht1 : tw_t u ≤ 64000 := by rw [(tq_t hR).1]; omega
    have hr1 : tw_rc u ≤ 1024000 := by rw [(tq_t hR).2]; omega
    refine lv_iload_n hx hb dL_law_18 rfl (lv_at hl 3 rfl) ?_
    refine lv_aload_n hx hb dL_law_19 rfl (lv_at hl 0 rfl) ?_
    refine va_slen (A := (fun q : Nat => s.heap.size ≤ q)) hx hb hX hbl hbA hS dL_law_20 ?_
    refine lv_iconst (v := 4) hx hb dL_law_21 (by decide) ?_
    refine lv_isub hx hb dL_law_22 ?_
    refine lv_icmp_gt (tgt := 412) hx hb dL_law_23 (by decide) (fun c1 => ?_) (fun c1 => ?_)
    · refine lv_iconst (v := 1) hx hb dL_law_412 (by decide) ?_
      refine va_forget (fun q hq => hS.2.2 q hq) ?_
      refine W.widen (k := 600000) (n := 7290000) (Nat.le_of_ble_eq_true rfl) (Nat.le_of_ble_eq_true rfl) ?_
      exact lw_ret hx hb hr hlocks dL_law_413
    · have hlt : 4 * j + 4 ≤ L := by rcases Nat.lt_or_ge L (4 * j + 4) with z | z; exact absurd ((law_gt hL hj).mpr z) c1; exact z
      have cont : ∀ (u1 : xS) (m1 : mS) (H : Heap) (locs : List Loc) (ls : Array Slot), tq_R u1 m1 → tm_t m1 ≤ tm_t mm + 1000 → tm_rc m1 ≤ tm_rc mm + 16000 → va_P D vwCl (wX h1 ad1 ca1 u1) H → va_P D vwCl (wM h2 ad2 ca2 m1) H → va_D (fun q : Nat => s.heap.size ≤ q) (wX h1 ad1 ca1 u1) → va_D (fun q : Nat => s.heap.size ≤ q) (wM h2 ad2 ca2 m1) → tr_ap (wM h2 ad2 ca2 m1) (wX h1 ad1 ca1 u1) → va_S (fun q : Nat => s.heap.size ≤ q) s.heap H locs → lv_has ls 4 [(0, .ref b), (1, .ref h1), (2, .ref h2), (3, .int (nI (4 * j)))] → W p l e room_1 s m #[Value.ref b] below meth c H locs 13 216 (lw_Z below #[Value.ref b] s) (F0 m 406 ls []) := by
        intro u1 m1 H locs ls hR1 ht2 hr2 hPx hPm hDx hDm hap hS hl
        refine lv_iinc (v := nI (4 * (j + 1))) (lv' := [(3, .int (nI (4 * (j + 1)))), (0, .ref b), (1, .ref h1), (2, .ref h2)]) hx hb dL_law_406 hl (k := 3) rfl (nI_add (4 * j) 4) (by decide) rfl (fun ls hl => ?_)
        refine lv_goto (tgt := 18) hx hb dL_law_409 (by decide) ?_
        exact ih (j + 1) u1 m1 _ _ _ (by omega) (by omega) hR1 (by omega) (by omega) hPx hPm hDx hDm hap hS (lv_sub hl [1, 2, 3, 0] rfl)
      refine lv_aload_n hx hb dL_law_26 rfl (lv_at hl 0 rfl) ?_
      refine lv_iload_n hx hb dL_law_27 rfl (lv_at hl 3 rfl) ?_
      refine va_sld (A := (fun q : Nat => s.heap.size ≤ q)) hx hb hX hbl hbA hS (vp_in_nI (n := (4 * j)) (N := L) (by omega) (by omega)) dL_law_28 ?_
      refine lv_bipush (v := 15) hx hb dL_law_29 (by decide) ?_
      refine lv_iand hx hb dL_law_31 ?_
      obtain ⟨c0, hc0, ec0⟩ := pk_andE (xs (nI (4 * j)).toNatClampNeg) (m := 15) 4 (by decide)
      refine tr_re (z' := nI c0) ec0 ?_
      have hcs : c0 = 0 ∨ c0 = 1 ∨ c0 = 2 ∨ c0 = 3 ∨ c0 = 4 ∨ c0 = 5 ∨ c0 = 6 ∨ c0 = 7 ∨ c0 = 8 ∨ c0 = 9 ∨ c0 = 10 ∨ c0 = 11 ∨ c0 = 12 ∨ c0 = 13 ∨ c0 = 14 ∨ c0 = 15 := by omega
      rcases hcs with rfl | rfl | rfl | rfl | rfl | rfl | rfl | rfl | rfl | rfl | rfl | rfl | rfl | rfl | rfl | rfl
      · refine lv_tableIn (off := 72) (tgt := 104) hx hb dL_law_32 (by decide) (by decide) rfl (by decide) ?_
        refine lv_aload_n hx hb dL_law_104 rfl (lv_at hl 1 rfl) ?_
        refine lv_aload_n hx hb dL_law_105 rfl (lv_at hl 0 rfl) ?_
        refine lv_iload_n hx hb dL_law_106 rfl (lv_at hl 3 rfl) ?_
        refine lv_iconst (v := 1) hx hb dL_law_107 (by decide) ?_
        refine lv_iadd hx hb dL_law_108 ?_
        refine tr_re (z' := nI (4 * j + 1)) (nI_add (4 * j) 1) ?_
        refine va_sld (A := (fun q : Nat => s.heap.size ≤ q)) hx hb hX hbl hbA hS (vp_in_nI (n := (4 * j + 1)) (N := L) (by omega) (by omega)) dL_law_109 ?_
        refine lv_aload_n hx hb dL_law_110 rfl (lv_at hl 0 rfl) ?_
        refine lv_iload_n hx hb dL_law_111 rfl (lv_at hl 3 rfl) ?_
        refine lv_iconst (v := 2) hx hb dL_law_112 (by decide) ?_
        refine lv_iadd hx hb dL_law_113 ?_
        refine tr_re (z' := nI (4 * j + 2)) (nI_add (4 * j) 2) ?_
        refine va_sld (A := (fun q : Nat => s.heap.size ≤ q)) hx hb hX hbl hbA hS (vp_in_nI (n := (4 * j + 2)) (N := L) (by omega) (by omega)) dL_law_114 ?_
        refine lv_aload_n hx hb dL_law_115 rfl (lv_at hl 0 rfl) ?_
        refine lv_iload_n hx hb dL_law_116 rfl (lv_at hl 3 rfl) ?_
        refine lv_iconst (v := 3) hx hb dL_law_117 (by decide) ?_
        refine lv_iadd hx hb dL_law_118 ?_
        refine tr_re (z' := nI (4 * j + 3)) (nI_add (4 * j) 3) ?_
        refine va_sld (A := (fun q : Nat => s.heap.size ≤ q)) hx hb hX hbl hbA hS (vp_in_nI (n := (4 * j + 3)) (N := L) (by omega) (by omega)) dL_law_119 ?_
        refine tr_calli (v := u) (wf := wX h1 ad1 ca1) (wr := wM h2 ad2 ca2 mm) (As := [.int (xs (nI (4 * j + 1)).toNatClampNeg), .int (xs (nI (4 * j + 2)).toNatClampNeg), .int (xs (nI (4 * j + 3)).toNatClampNeg)]) (rest := []) (k := 3) (ci := 0) ⟨hx, hb, hml, hown, hts⟩ (mX_set l D h1 ad1 ca1 u (xs (nI (4 * j + 1)).toNatClampNeg) (xs (nI (4 * j + 2)).toNatClampNeg) (xs (nI (4 * j + 3)).toNatClampNeg) (tq_co hR)) (cwV 3 hts (lw_V q53 q54 q55 q12 q56) rfl rfl rfl (by decide +kernel) ⟨Nat.le_of_ble_eq_true rfl, Nat.le_of_ble_eq_true rfl⟩) hKx hPx hPm hDx hap hS hA rfl rfl rfl hl.1 rfl (Nat.le_of_ble_eq_true rfl) dL_law_120 ⟨Nat.le_of_ble_eq_true rfl, Nat.le_of_ble_eq_true rfl⟩ (fun r1 u1 H locs hwX hPx hPm hDx hap hS => ?_)
        refine lv_aload_n hx hb dL_law_123 rfl (lv_at hl 2 rfl) ?_
        refine lv_aload_n hx hb dL_law_124 rfl (lv_at hl 0 rfl) ?_
        refine lv_iload_n hx hb dL_law_125 rfl (lv_at hl 3 rfl) ?_
        refine lv_iconst (v := 1) hx hb dL_law_126 (by decide) ?_
        refine lv_iadd hx hb dL_law_127 ?_
        refine tr_re (z' := nI (4 * j + 1)) (nI_add (4 * j) 1) ?_
        refine va_sld (A := (fun q : Nat => s.heap.size ≤ q)) hx hb hX hbl hbA hS (vp_in_nI (n := (4 * j + 1)) (N := L) (by omega) (by omega)) dL_law_128 ?_
        refine lv_aload_n hx hb dL_law_129 rfl (lv_at hl 0 rfl) ?_
        refine lv_iload_n hx hb dL_law_130 rfl (lv_at hl 3 rfl) ?_
        refine lv_iconst (v := 2) hx hb dL_law_131 (by decide) ?_
        refine lv_iadd hx hb dL_law_132 ?_
        refine tr_re (z' := nI (4 * j + 2)) (nI_add (4 * j) 2) ?_
        refine va_sld (A := (fun q : Nat => s.heap.size ≤ q)) hx hb hX hbl hbA hS (vp_in_nI (n := (4 * j + 2)) (N := L) (by omega) (by omega)) dL_law_133 ?_
        refine lv_aload_n hx hb dL_law_134 rfl (lv_at hl 0 rfl) ?_
        refine lv_iload_n hx hb dL_law_135 rfl (lv_at hl 3 rfl) ?_
        refine lv_iconst (v := 3) hx hb dL_law_136 (by decide) ?_
        refine lv_iadd hx hb dL_law_137 ?_
        refine tr_re (z' := nI (4 * j + 3)) (nI_add (4 * j) 3) ?_
        refine va_sld (A := (fun q : Nat => s.heap.size ≤ q)) hx hb hX hbl hbA hS (vp_in_nI (n := (4 * j + 3)) (N := L) (by omega) (by omega)) dL_law_138 ?_
        refine tr_calli (v := mm) (wf := wM h2 ad2 ca2) (wr := wX h1 ad1 ca1 u1) (As := [.int (xs (nI (4 * j + 1)).toNatClampNeg), .int (xs (nI (4 * j + 2)).toNatClampNeg), .int (xs (nI (4 * j + 3)).toNatClampNeg)]) (rest := [.int r1]) (k := 3) (ci := 1) ⟨hx, hb, hml, hown, hts⟩ (mM_set l D h2 ad2 ca2 mm (xs (nI (4 * j + 1)).toNatClampNeg) (xs (nI (4 * j + 2)).toNatClampNeg) (xs (nI (4 * j + 3)).toNatClampNeg)) (cwV 3 hts (lw_V q169 q170 q171 q13 q172) rfl rfl rfl (by decide +kernel) ⟨Nat.le_of_ble_eq_true rfl, Nat.le_of_ble_eq_true rfl⟩) hKm hPm hPx hDm hap.sy hS hA rfl rfl rfl hl.1 rfl (Nat.le_of_ble_eq_true rfl) dL_law_139 ⟨Nat.le_of_ble_eq_true rfl, Nat.le_of_ble_eq_true rfl⟩ (fun r2 m1 H locs hwM hPm hPx hDm hap hS => ?_)
        obtain ⟨q1, q2, q3, q4⟩ := tq_set hR (by omega) (xs (nI (4 * j + 1)).toNatClampNeg) (xs (nI (4 * j + 2)).toNatClampNeg) (xs (nI (4 * j + 3)).toNatClampNeg)
        rw [← hwX, ← hwM] at q1 q2
        rw [← hwM] at q3 q4
        refine lv_icmp_eq (tgt := 406) hx hb dL_law_142 (by decide) (fun c2 => ?_) (fun c2 => absurd q1 c2)
        exact cont _ _ _ _ _ q2 q3 q4 hPx hPm hDx hDm hap.sy hS hl
      · refine lv_tableIn (off := 115) (tgt := 147) hx hb dL_law_32 (by decide) (by decide) rfl (by decide) ?_
        refine lv_aload_n hx hb dL_law_147 rfl (lv_at hl 1 rfl) ?_
        refine lv_aload_n hx hb dL_law_148 rfl (lv_at hl 0 rfl) ?_
        refine lv_iload_n hx hb dL_law_149 rfl (lv_at hl 3 rfl) ?_
        refine lv_iconst (v := 1) hx hb dL_law_150 (by decide) ?_
        refine lv_iadd hx hb dL_law_151 ?_
        refine tr_re (z' := nI (4 * j + 1)) (nI_add (4 * j) 1) ?_
        refine va_sld (A := (fun q : Nat => s.heap.size ≤ q)) hx hb hX hbl hbA hS (vp_in_nI (n := (4 * j + 1)) (N := L) (by omega) (by omega)) dL_law_152 ?_
        refine tr_calli (v := u) (wf := wX h1 ad1 ca1) (wr := wM h2 ad2 ca2 mm) (As := [.int (xs (nI (4 * j + 1)).toNatClampNeg)]) (rest := []) (k := 1) (ci := 0) ⟨hx, hb, hml, hown, hts⟩ (mX_cancel l D h1 ad1 ca1 u (xs (nI (4 * j + 1)).toNatClampNeg) (tq_co hR)) (cwV 1 hts (lw_V q72 q73 q74 q12 q75) rfl rfl rfl (by decide +kernel) ⟨Nat.le_of_ble_eq_true rfl, Nat.le_of_ble_eq_true rfl⟩) hKx hPx hPm hDx hap hS hA rfl rfl rfl hl.1 rfl (Nat.le_of_ble_eq_true rfl) dL_law_153 ⟨Nat.le_of_ble_eq_true rfl, Nat.le_of_ble_eq_true rfl⟩ (fun r1 u1 H locs hwX hPx hPm hDx hap hS => ?_)
        refine lv_aload_n hx hb dL_law_156 rfl (lv_at hl 2 rfl) ?_
        refine lv_aload_n hx hb dL_law_157 rfl (lv_at hl 0 rfl) ?_
        refine lv_iload_n hx hb dL_law_158 rfl (lv_at hl 3 rfl) ?_
        refine lv_iconst (v := 1) hx hb dL_law_159 (by decide) ?_
        refine lv_iadd hx hb dL_law_160 ?_
        refine tr_re (z' := nI (4 * j + 1)) (nI_add (4 * j) 1) ?_
        refine va_sld (A := (fun q : Nat => s.heap.size ≤ q)) hx hb hX hbl hbA hS (vp_in_nI (n := (4 * j + 1)) (N := L) (by omega) (by omega)) dL_law_161 ?_
        refine tr_calli (v := mm) (wf := wM h2 ad2 ca2) (wr := wX h1 ad1 ca1 u1) (As := [.int (xs (nI (4 * j + 1)).toNatClampNeg)]) (rest := [.int r1]) (k := 1) (ci := 1) ⟨hx, hb, hml, hown, hts⟩ (mM_cancel l D h2 ad2 ca2 mm (xs (nI (4 * j + 1)).toNatClampNeg)) (cwV 1 hts (lw_V q173 q174 q175 q13 q176) rfl rfl rfl (by decide +kernel) ⟨Nat.le_of_ble_eq_true rfl, Nat.le_of_ble_eq_true rfl⟩) hKm hPm hPx hDm hap.sy hS hA rfl rfl rfl hl.1 rfl (Nat.le_of_ble_eq_true rfl) dL_law_162 ⟨Nat.le_of_ble_eq_true rfl, Nat.le_of_ble_eq_true rfl⟩ (fun r2 m1 H locs hwM hPm hPx hDm hap hS => ?_)
        obtain ⟨q1, q2, q3, q4⟩ := tq_cancel hR (xs (nI (4 * j + 1)).toNatClampNeg)
        rw [← hwX, ← hwM] at q1 q2
        rw [← hwM] at q3 q4
        refine lv_icmp_eq (tgt := 406) hx hb dL_law_165 (by decide) (fun c2 => ?_) (fun c2 => absurd q1 c2)
        exact cont _ _ _ _ _ q2 q3 q4 hPx hPm hDx hDm hap.sy hS hl
      · refine lv_tableIn (off := 138) (tgt := 170) hx hb dL_law_32 (by decide) (by decide) rfl (by decide) ?_
        refine lv_aload_n hx hb dL_law_170 rfl (lv_at hl 1 rfl) ?_
        refine lv_aload_n hx hb dL_law_171 rfl (lv_at hl 0 rfl) ?_
        refine lv_iload_n hx hb dL_law_172 rfl (lv_at hl 3 rfl) ?_
        refine lv_iconst (v := 1) hx hb dL_law_173 (by decide) ?_
        refine lv_iadd hx hb dL_law_174 ?_
        refine tr_re (z' := nI (4 * j + 1)) (nI_add (4 * j) 1) ?_
        refine va_sld (A := (fun q : Nat => s.heap.size ≤ q)) hx hb hX hbl hbA hS (vp_in_nI (n := (4 * j + 1)) (N := L) (by omega) (by omega)) dL_law_175 ?_
        refine tr_calli (v := u) (wf := wX h1 ad1 ca1) (wr := wM h2 ad2 ca2 mm) (As := [.int (xs (nI (4 * j + 1)).toNatClampNeg)]) (rest := []) (k := 1) (ci := 0) ⟨hx, hb, hml, hown, hts⟩ (mX_pass l D h1 ad1 ca1 u (xs (nI (4 * j + 1)).toNatClampNeg) (by omega) (by omega)) (cwV 1 hts (lw_V q76 q77 q78 q12 q79) rfl rfl rfl (by decide +kernel) ⟨Nat.le_of_ble_eq_true rfl, Nat.le_of_ble_eq_true rfl⟩) hKx hPx hPm hDx hap hS hA rfl rfl rfl hl.1 rfl (Nat.le_of_ble_eq_true rfl) dL_law_176 ⟨Nat.le_of_ble_eq_true rfl, Nat.le_of_ble_eq_true rfl⟩ (fun r1 u1 H locs hwX hPx hPm hDx hap hS => ?_)
        refine lv_aload_n hx hb dL_law_179 rfl (lv_at hl 2 rfl) ?_
        refine lv_aload_n hx hb dL_law_180 rfl (lv_at hl 0 rfl) ?_
        refine lv_iload_n hx hb dL_law_181 rfl (lv_at hl 3 rfl) ?_
        refine lv_iconst (v := 1) hx hb dL_law_182 (by decide) ?_
        refine lv_iadd hx hb dL_law_183 ?_
        refine tr_re (z' := nI (4 * j + 1)) (nI_add (4 * j) 1) ?_
        refine va_sld (A := (fun q : Nat => s.heap.size ≤ q)) hx hb hX hbl hbA hS (vp_in_nI (n := (4 * j + 1)) (N := L) (by omega) (by omega)) dL_law_184 ?_
        refine tr_calli (v := mm) (wf := wM h2 ad2 ca2) (wr := wX h1 ad1 ca1 u1) (As := [.int (xs (nI (4 * j + 1)).toNatClampNeg)]) (rest := [.int r1]) (k := 1) (ci := 1) ⟨hx, hb, hml, hown, hts⟩ (mM_pass l D h2 ad2 ca2 mm (xs (nI (4 * j + 1)).toNatClampNeg)) (cwV 1 hts (lw_V q181 q182 q183 q13 q184) rfl rfl rfl (by decide +kernel) ⟨Nat.le_of_ble_eq_true rfl, Nat.le_of_ble_eq_true rfl⟩) hKm hPm hPx hDm hap.sy hS hA rfl rfl rfl hl.1 rfl (Nat.le_of_ble_eq_true rfl) dL_law_185 ⟨Nat.le_of_ble_eq_true rfl, Nat.le_of_ble_eq_true rfl⟩ (fun r2 m1 H locs hwM hPm hPx hDm hap hS => ?_)
        obtain ⟨q1, q2, q3, q4⟩ := tq_pass hR (by omega) (xs (nI (4 * j + 1)).toNatClampNeg)
        rw [← hwX, ← hwM] at q1 q2
        rw [← hwM] at q3 q4
        refine lv_icmp_eq (tgt := 406) hx hb dL_law_188 (by decide) (fun c2 => ?_) (fun c2 => absurd q1 c2)
        exact cont _ _ _ _ _ q2 q3 q4 hPx hPm hDx hDm hap.sy hS hl
      · refine lv_tableIn (off := 161) (tgt := 193) hx hb dL_law_32 (by decide) (by decide) rfl (by decide) ?_
        refine lv_aload_n hx hb dL_law_193 rfl (lv_at hl 1 rfl) ?_
        refine tr_calli (v := u) (wf := wX h1 ad1 ca1) (wr := wM h2 ad2 ca2 mm) (As := []) (rest := []) (k := 0) (ci := 0) ⟨hx, hb, hml, hown, hts⟩ (mX_toNext l D h1 ad1 ca1 u  (by omega) (by omega)) (cwV 0 hts (lw_V q92 q93 q94 q12 q95) rfl rfl rfl (by decide +kernel) ⟨Nat.le_of_ble_eq_true rfl, Nat.le_of_ble_eq_true rfl⟩) hKx hPx hPm hDx hap hS hA rfl rfl rfl hl.1 rfl (Nat.le_of_ble_eq_true rfl) dL_law_194 ⟨Nat.le_of_ble_eq_true rfl, Nat.le_of_ble_eq_true rfl⟩ (fun r1 u1 H locs hwX hPx hPm hDx hap hS => ?_)
        have hnx : ∀ b, tm_nxL mm t16 = some b → ∃ N : Nat, N ≤ 1000 ∧ tm_du mm b - nI (tm_t mm) = nI N := fun b hb => by obtain ⟨N, h1, h2, -⟩ := tq_nextN hR (by omega) hb; exact ⟨N + 1, by omega, h2⟩
        refine lv_aload_n hx hb dL_law_197 rfl (lv_at hl 2 rfl) ?_
        refine tr_calli (v := mm) (wf := wM h2 ad2 ca2) (wr := wX h1 ad1 ca1 u1) (As := []) (rest := [.int r1]) (k := 0) (ci := 1) ⟨hx, hb, hml, hown, hts⟩ (mM_toNext l D h2 ad2 ca2 mm  hnx) (cwV 0 hts (lw_V q193 q194 q195 q13 q196) rfl rfl rfl (by decide +kernel) ⟨Nat.le_of_ble_eq_true rfl, Nat.le_of_ble_eq_true rfl⟩) hKm hPm hPx hDm hap.sy hS hA rfl rfl rfl hl.1 rfl (Nat.le_of_ble_eq_true rfl) dL_law_198 ⟨Nat.le_of_ble_eq_true rfl, Nat.le_of_ble_eq_true rfl⟩ (fun r2 m1 H locs hwM hPm hPx hDm hap hS => ?_)
        obtain ⟨q1, q2, q3, q4⟩ := tq_toNext hR (by omega)
        rw [← hwX, ← hwM] at q1 q2
        rw [← hwM] at q3 q4
        refine lv_icmp_eq (tgt := 406) hx hb dL_law_201 (by decide) (fun c2 => ?_) (fun c2 => absurd q1 c2)
        exact cont _ _ _ _ _ q2 q3 q4 hPx hPm hDx hDm hap.sy hS hl
      · refine lv_tableIn (off := 174) (tgt := 206) hx hb dL_law_32 (by decide) (by decide) rfl (by decide) ?_
        refine lv_aload_n hx hb dL_law_206 rfl (lv_at hl 1 rfl) ?_
        refine tr_calli (v := u) (wf := wX h1 ad1 ca1) (wr := wM h2 ad2 ca2 mm) (As := []) (rest := []) (k := 0) (ci := 0) ⟨hx, hb, hml, hown, hts⟩ (mX_now l D h1 ad1 ca1 u) (cwV 0 hts (lw_V q96 q97 q98 q12 q99) rfl rfl rfl (by decide +kernel) ⟨Nat.le_of_ble_eq_true rfl, Nat.le_of_ble_eq_true rfl⟩) hKx hPx hPm hDx hap hS hA rfl rfl rfl hl.1 rfl (Nat.le_of_ble_eq_true rfl) dL_law_207 ⟨Nat.le_of_ble_eq_true rfl, Nat.le_of_ble_eq_true rfl⟩ (fun r1 u1 H locs hwX hPx hPm hDx hap hS => ?_)
        obtain ⟨eX, hwX⟩ := hwX
        rw [eX] at hPx hDx hap
        refine lv_aload_n hx hb dL_law_210 rfl (lv_at hl 2 rfl) ?_
        refine tr_calli (v := mm) (wf := wM h2 ad2 ca2) (wr := wX h1 ad1 ca1 u) (As := []) (rest := [.int r1]) (k := 0) (ci := 1) ⟨hx, hb, hml, hown, hts⟩ (mM_now l D h2 ad2 ca2 mm) (cwV 0 hts (lw_V q201 q202 q203 q13 q204) rfl rfl rfl (by decide +kernel) ⟨Nat.le_of_ble_eq_true rfl, Nat.le_of_ble_eq_true rfl⟩) hKm hPm hPx hDm hap.sy hS hA rfl rfl rfl hl.1 rfl (Nat.le_of_ble_eq_true rfl) dL_law_211 ⟨Nat.le_of_ble_eq_true rfl, Nat.le_of_ble_eq_true rfl⟩ (fun r2 m1 H locs hwM hPm hPx hDm hap hS => ?_)
        obtain ⟨eM, hwM⟩ := hwM
        rw [eM] at hPm hDm hap
        refine lv_icmp_eq (tgt := 406) hx hb dL_law_214 (by decide) (fun c2 => ?_) (fun c2 => absurd (hwX.trans ((congrArg nI (tq_t hR).1).trans hwM.symm)) c2)
        exact cont _ _ _ _ _ hR (by omega) (by omega) hPx hPm hDx hDm hap.sy hS hl
      · refine lv_tableIn (off := 187) (tgt := 219) hx hb dL_law_32 (by decide) (by decide) rfl (by decide) ?_
        refine lv_aload_n hx hb dL_law_219 rfl (lv_at hl 1 rfl) ?_
        refine tr_calli (v := u) (wf := wX h1 ad1 ca1) (wr := wM h2 ad2 ca2 mm) (As := []) (rest := []) (k := 0) (ci := 0) ⟨hx, hb, hml, hown, hts⟩ (mX_timers l D h1 ad1 ca1 u) (cwV 0 hts (lw_V q100 q101 q102 q12 q103) rfl rfl rfl (by decide +kernel) ⟨Nat.le_of_ble_eq_true rfl, Nat.le_of_ble_eq_true rfl⟩) hKx hPx hPm hDx hap hS hA rfl rfl rfl hl.1 rfl (Nat.le_of_ble_eq_true rfl) dL_law_220 ⟨Nat.le_of_ble_eq_true rfl, Nat.le_of_ble_eq_true rfl⟩ (fun r1 u1 H locs hwX hPx hPm hDx hap hS => ?_)
        obtain ⟨eX, hwX⟩ := hwX
        rw [eX] at hPx hDx hap
        refine lv_aload_n hx hb dL_law_223 rfl (lv_at hl 2 rfl) ?_
        refine tr_calli (v := mm) (wf := wM h2 ad2 ca2) (wr := wX h1 ad1 ca1 u) (As := []) (rest := [.int r1]) (k := 0) (ci := 1) ⟨hx, hb, hml, hown, hts⟩ (mM_timers l D h2 ad2 ca2 mm) (cwV 0 hts (lw_V q205 q206 q207 q13 q208) rfl rfl rfl (by decide +kernel) ⟨Nat.le_of_ble_eq_true rfl, Nat.le_of_ble_eq_true rfl⟩) hKm hPm hPx hDm hap.sy hS hA rfl rfl rfl hl.1 rfl (Nat.le_of_ble_eq_true rfl) dL_law_224 ⟨Nat.le_of_ble_eq_true rfl, Nat.le_of_ble_eq_true rfl⟩ (fun r2 m1 H locs hwM hPm hPx hDm hap hS => ?_)
        obtain ⟨eM, hwM⟩ := hwM
        rw [eM] at hPm hDm hap
        refine lv_icmp_eq (tgt := 406) hx hb dL_law_227 (by decide) (fun c2 => ?_) (fun c2 => absurd (hwX.trans ((tq_timers hR).trans hwM.symm)) c2)
        exact cont _ _ _ _ _ hR (by omega) (by omega) hPx hPm hDx hDm hap.sy hS hl
      · refine lv_tableIn (off := 200) (tgt := 232) hx hb dL_law_32 (by decide) (by decide) rfl (by decide) ?_
        refine lv_aload_n hx hb dL_law_232 rfl (lv_at hl 1 rfl) ?_
        refine lv_aload_n hx hb dL_law_233 rfl (lv_at hl 0 rfl) ?_
        refine lv_iload_n hx hb dL_law_234 rfl (lv_at hl 3 rfl) ?_
        refine lv_iconst (v := 1) hx hb dL_law_235 (by decide) ?_
        refine lv_iadd hx hb dL_law_236 ?_
        refine tr_re (z' := nI (4 * j + 1)) (nI_add (4 * j) 1) ?_
        refine va_sld (A := (fun q : Nat => s.heap.size ≤ q)) hx hb hX hbl hbA hS (vp_in_nI (n := (4 * j + 1)) (N := L) (by omega) (by omega)) dL_law_237 ?_
        refine tr_calli (v := u) (wf := wX h1 ad1 ca1) (wr := wM h2 ad2 ca2 mm) (As := [.int (xs (nI (4 * j + 1)).toNatClampNeg)]) (rest := []) (k := 1) (ci := 0) ⟨hx, hb, hml, hown, hts⟩ (mX_left l D h1 ad1 ca1 u (xs (nI (4 * j + 1)).toNatClampNeg)) (cwV 1 hts (lw_V q104 q105 q106 q12 q107) rfl rfl rfl (by decide +kernel) ⟨Nat.le_of_ble_eq_true rfl, Nat.le_of_ble_eq_true rfl⟩) hKx hPx hPm hDx hap hS hA rfl rfl rfl hl.1 rfl (Nat.le_of_ble_eq_true rfl) dL_law_238 ⟨Nat.le_of_ble_eq_true rfl, Nat.le_of_ble_eq_true rfl⟩ (fun r1 u1 H locs hwX hPx hPm hDx hap hS => ?_)
        obtain ⟨eX, hwX⟩ := hwX
        rw [eX] at hPx hDx hap
        refine lv_aload_n hx hb dL_law_241 rfl (lv_at hl 2 rfl) ?_
        refine lv_aload_n hx hb dL_law_242 rfl (lv_at hl 0 rfl) ?_
        refine lv_iload_n hx hb dL_law_243 rfl (lv_at hl 3 rfl) ?_
        refine lv_iconst (v := 1) hx hb dL_law_244 (by decide) ?_
        refine lv_iadd hx hb dL_law_245 ?_
        refine tr_re (z' := nI (4 * j + 1)) (nI_add (4 * j) 1) ?_
        refine va_sld (A := (fun q : Nat => s.heap.size ≤ q)) hx hb hX hbl hbA hS (vp_in_nI (n := (4 * j + 1)) (N := L) (by omega) (by omega)) dL_law_246 ?_
        refine tr_calli (v := mm) (wf := wM h2 ad2 ca2) (wr := wX h1 ad1 ca1 u) (As := [.int (xs (nI (4 * j + 1)).toNatClampNeg)]) (rest := [.int r1]) (k := 1) (ci := 1) ⟨hx, hb, hml, hown, hts⟩ (mM_left l D h2 ad2 ca2 mm (xs (nI (4 * j + 1)).toNatClampNeg)) (cwV 1 hts (lw_V q209 q210 q211 q13 q212) rfl rfl rfl (by decide +kernel) ⟨Nat.le_of_ble_eq_true rfl, Nat.le_of_ble_eq_true rfl⟩) hKm hPm hPx hDm hap.sy hS hA rfl rfl rfl hl.1 rfl (Nat.le_of_ble_eq_true rfl) dL_law_247 ⟨Nat.le_of_ble_eq_true rfl, Nat.le_of_ble_eq_true rfl⟩ (fun r2 m1 H locs hwM hPm hPx hDm hap hS => ?_)
        obtain ⟨eM, hwM⟩ := hwM
        rw [eM] at hPm hDm hap
        refine lv_icmp_eq (tgt := 406) hx hb dL_law_250 (by decide) (fun c2 => ?_) (fun c2 => absurd (hwX.trans ((tq_left hR (xs (nI (4 * j + 1)).toNatClampNeg)).trans hwM.symm)) c2)
        exact cont _ _ _ _ _ hR (by omega) (by omega) hPx hPm hDx hDm hap.sy hS hl
      · refine lv_tableIn (off := 223) (tgt := 255) hx hb dL_law_32 (by decide) (by decide) rfl (by decide) ?_
        refine lv_aload_n hx hb dL_law_255 rfl (lv_at hl 1 rfl) ?_
        refine tr_calli (v := u) (wf := wX h1 ad1 ca1) (wr := wM h2 ad2 ca2 mm) (As := []) (rest := []) (k := 0) (ci := 0) ⟨hx, hb, hml, hown, hts⟩ (mX_next l D h1 ad1 ca1 u) (cwV 0 hts (lw_V q108 q109 q110 q12 q111) rfl rfl rfl (by decide +kernel) ⟨Nat.le_of_ble_eq_true rfl, Nat.le_of_ble_eq_true rfl⟩) hKx hPx hPm hDx hap hS hA rfl rfl rfl hl.1 rfl (Nat.le_of_ble_eq_true rfl) dL_law_256 ⟨Nat.le_of_ble_eq_true rfl, Nat.le_of_ble_eq_true rfl⟩ (fun r1 u1 H locs hwX hPx hPm hDx hap hS => ?_)
        obtain ⟨eX, hwX⟩ := hwX
        rw [eX] at hPx hDx hap
        refine lv_aload_n hx hb dL_law_259 rfl (lv_at hl 2 rfl) ?_
        refine tr_calli (v := mm) (wf := wM h2 ad2 ca2) (wr := wX h1 ad1 ca1 u) (As := []) (rest := [.int r1]) (k := 0) (ci := 1) ⟨hx, hb, hml, hown, hts⟩ (mM_next l D h2 ad2 ca2 mm) (cwV 0 hts (lw_V q213 q198 q199 q13 q200) rfl rfl rfl (by decide +kernel) ⟨Nat.le_of_ble_eq_true rfl, Nat.le_of_ble_eq_true rfl⟩) hKm hPm hPx hDm hap.sy hS hA rfl rfl rfl hl.1 rfl (Nat.le_of_ble_eq_true rfl) dL_law_260 ⟨Nat.le_of_ble_eq_true rfl, Nat.le_of_ble_eq_true rfl⟩ (fun r2 m1 H locs hwM hPm hPx hDm hap hS => ?_)
        obtain ⟨eM, hwM⟩ := hwM
        rw [eM] at hPm hDm hap
        refine lv_icmp_eq (tgt := 406) hx hb dL_law_263 (by decide) (fun c2 => ?_) (fun c2 => absurd (hwX.trans ((congrArg tw_o (tq_next hR (by omega))).trans hwM.symm)) c2)
        exact cont _ _ _ _ _ hR (by omega) (by omega) hPx hPm hDx hDm hap.sy hS hl
      · refine lv_tableIn (off := 236) (tgt := 268) hx hb dL_law_32 (by decide) (by decide) rfl (by decide) ?_
        refine lv_aload_n hx hb dL_law_268 rfl (lv_at hl 1 rfl) ?_
        refine lv_aload_n hx hb dL_law_269 rfl (lv_at hl 0 rfl) ?_
        refine lv_iload_n hx hb dL_law_270 rfl (lv_at hl 3 rfl) ?_
        refine lv_iconst (v := 1) hx hb dL_law_271 (by decide) ?_
        refine lv_iadd hx hb dL_law_272 ?_
        refine tr_re (z' := nI (4 * j + 1)) (nI_add (4 * j) 1) ?_
        refine va_sld (A := (fun q : Nat => s.heap.size ≤ q)) hx hb hX hbl hbA hS (vp_in_nI (n := (4 * j + 1)) (N := L) (by omega) (by omega)) dL_law_273 ?_
        refine tr_calli (v := u) (wf := wX h1 ad1 ca1) (wr := wM h2 ad2 ca2 mm) (As := [.int (xs (nI (4 * j + 1)).toNatClampNeg)]) (rest := []) (k := 1) (ci := 0) ⟨hx, hb, hml, hown, hts⟩ (mX_within l D h1 ad1 ca1 u (xs (nI (4 * j + 1)).toNatClampNeg)) (cwV 1 hts (lw_V q112 q113 q114 q12 q115) rfl rfl rfl (by decide +kernel) ⟨Nat.le_of_ble_eq_true rfl, Nat.le_of_ble_eq_true rfl⟩) hKx hPx hPm hDx hap hS hA rfl rfl rfl hl.1 rfl (Nat.le_of_ble_eq_true rfl) dL_law_274 ⟨Nat.le_of_ble_eq_true rfl, Nat.le_of_ble_eq_true rfl⟩ (fun r1 u1 H locs hwX hPx hPm hDx hap hS => ?_)
        obtain ⟨eX, hwX⟩ := hwX
        rw [eX] at hPx hDx hap
        refine lv_aload_n hx hb dL_law_277 rfl (lv_at hl 2 rfl) ?_
        refine lv_aload_n hx hb dL_law_278 rfl (lv_at hl 0 rfl) ?_
        refine lv_iload_n hx hb dL_law_279 rfl (lv_at hl 3 rfl) ?_
        refine lv_iconst (v := 1) hx hb dL_law_280 (by decide) ?_
        refine lv_iadd hx hb dL_law_281 ?_
        refine tr_re (z' := nI (4 * j + 1)) (nI_add (4 * j) 1) ?_
        refine va_sld (A := (fun q : Nat => s.heap.size ≤ q)) hx hb hX hbl hbA hS (vp_in_nI (n := (4 * j + 1)) (N := L) (by omega) (by omega)) dL_law_282 ?_
        refine tr_calli (v := mm) (wf := wM h2 ad2 ca2) (wr := wX h1 ad1 ca1 u) (As := [.int (xs (nI (4 * j + 1)).toNatClampNeg)]) (rest := [.int r1]) (k := 1) (ci := 1) ⟨hx, hb, hml, hown, hts⟩ (mM_within l D h2 ad2 ca2 mm (xs (nI (4 * j + 1)).toNatClampNeg)) (cwV 1 hts (lw_V q214 q215 q216 q13 q217) rfl rfl rfl (by decide +kernel) ⟨Nat.le_of_ble_eq_true rfl, Nat.le_of_ble_eq_true rfl⟩) hKm hPm hPx hDm hap.sy hS hA rfl rfl rfl hl.1 rfl (Nat.le_of_ble_eq_true rfl) dL_law_283 ⟨Nat.le_of_ble_eq_true rfl, Nat.le_of_ble_eq_true rfl⟩ (fun r2 m1 H locs hwM hPm hPx hDm hap hS => ?_)
        obtain ⟨eM, hwM⟩ := hwM
        rw [eM] at hPm hDm hap
        refine lv_icmp_eq (tgt := 406) hx hb dL_law_286 (by decide) (fun c2 => ?_) (fun c2 => absurd (hwX.trans ((tq_within hR (xs (nI (4 * j + 1)).toNatClampNeg) t16 (by rw [t16_eq]; exact Nat.le_refl _)).trans hwM.symm)) c2)
        exact cont _ _ _ _ _ hR (by omega) (by omega) hPx hPm hDx hDm hap.sy hS hl
      · refine lv_tableIn (off := 259) (tgt := 291) hx hb dL_law_32 (by decide) (by decide) rfl (by decide) ?_
        refine lv_aload_n hx hb dL_law_291 rfl (lv_at hl 1 rfl) ?_
        refine tr_calli (v := u) (wf := wX h1 ad1 ca1) (wr := wM h2 ad2 ca2 mm) (As := []) (rest := []) (k := 0) (ci := 0) ⟨hx, hb, hml, hown, hts⟩ (mX_rings l D h1 ad1 ca1 u) (cwV 0 hts (lw_V q116 q117 q118 q12 q119) rfl rfl rfl (by decide +kernel) ⟨Nat.le_of_ble_eq_true rfl, Nat.le_of_ble_eq_true rfl⟩) hKx hPx hPm hDx hap hS hA rfl rfl rfl hl.1 rfl (Nat.le_of_ble_eq_true rfl) dL_law_292 ⟨Nat.le_of_ble_eq_true rfl, Nat.le_of_ble_eq_true rfl⟩ (fun r1 u1 H locs hwX hPx hPm hDx hap hS => ?_)
        obtain ⟨eX, hwX⟩ := hwX
        rw [eX] at hPx hDx hap
        refine lv_aload_n hx hb dL_law_295 rfl (lv_at hl 2 rfl) ?_
        refine tr_calli (v := mm) (wf := wM h2 ad2 ca2) (wr := wX h1 ad1 ca1 u) (As := []) (rest := [.int r1]) (k := 0) (ci := 1) ⟨hx, hb, hml, hown, hts⟩ (mM_rings l D h2 ad2 ca2 mm) (cwV 0 hts (lw_V q218 q219 q220 q13 q221) rfl rfl rfl (by decide +kernel) ⟨Nat.le_of_ble_eq_true rfl, Nat.le_of_ble_eq_true rfl⟩) hKm hPm hPx hDm hap.sy hS hA rfl rfl rfl hl.1 rfl (Nat.le_of_ble_eq_true rfl) dL_law_296 ⟨Nat.le_of_ble_eq_true rfl, Nat.le_of_ble_eq_true rfl⟩ (fun r2 m1 H locs hwM hPm hPx hDm hap hS => ?_)
        obtain ⟨eM, hwM⟩ := hwM
        rw [eM] at hPm hDm hap
        refine lv_icmp_eq (tgt := 406) hx hb dL_law_299 (by decide) (fun c2 => ?_) (fun c2 => absurd (hwX.trans ((congrArg nI (tq_t hR).2).trans hwM.symm)) c2)
        exact cont _ _ _ _ _ hR (by omega) (by omega) hPx hPm hDx hDm hap.sy hS hl
      · refine lv_tableIn (off := 272) (tgt := 304) hx hb dL_law_32 (by decide) (by decide) rfl (by decide) ?_
        refine lv_aload_n hx hb dL_law_304 rfl (lv_at hl 1 rfl) ?_
        refine lv_aload_n hx hb dL_law_305 rfl (lv_at hl 0 rfl) ?_
        refine lv_iload_n hx hb dL_law_306 rfl (lv_at hl 3 rfl) ?_
        refine lv_iconst (v := 1) hx hb dL_law_307 (by decide) ?_
        refine lv_iadd hx hb dL_law_308 ?_
        refine tr_re (z' := nI (4 * j + 1)) (nI_add (4 * j) 1) ?_
        refine va_sld (A := (fun q : Nat => s.heap.size ≤ q)) hx hb hX hbl hbA hS (vp_in_nI (n := (4 * j + 1)) (N := L) (by omega) (by omega)) dL_law_309 ?_
        refine tr_calli (v := u) (wf := wX h1 ad1 ca1) (wr := wM h2 ad2 ca2 mm) (As := [.int (xs (nI (4 * j + 1)).toNatClampNeg)]) (rest := []) (k := 1) (ci := 0) ⟨hx, hb, hml, hown, hts⟩ (mX_rung l D h1 ad1 ca1 u (xs (nI (4 * j + 1)).toNatClampNeg) (by omega)) (cwV 1 hts (lw_V q120 q121 q122 q12 q123) rfl rfl rfl (by decide +kernel) ⟨Nat.le_of_ble_eq_true rfl, Nat.le_of_ble_eq_true rfl⟩) hKx hPx hPm hDx hap hS hA rfl rfl rfl hl.1 rfl (Nat.le_of_ble_eq_true rfl) dL_law_310 ⟨Nat.le_of_ble_eq_true rfl, Nat.le_of_ble_eq_true rfl⟩ (fun r1 u1 H locs hwX hPx hPm hDx hap hS => ?_)
        obtain ⟨eX, hwX⟩ := hwX
        rw [eX] at hPx hDx hap
        refine lv_aload_n hx hb dL_law_313 rfl (lv_at hl 2 rfl) ?_
        refine lv_aload_n hx hb dL_law_314 rfl (lv_at hl 0 rfl) ?_
        refine lv_iload_n hx hb dL_law_315 rfl (lv_at hl 3 rfl) ?_
        refine lv_iconst (v := 1) hx hb dL_law_316 (by decide) ?_
        refine lv_iadd hx hb dL_law_317 ?_
        refine tr_re (z' := nI (4 * j + 1)) (nI_add (4 * j) 1) ?_
        refine va_sld (A := (fun q : Nat => s.heap.size ≤ q)) hx hb hX hbl hbA hS (vp_in_nI (n := (4 * j + 1)) (N := L) (by omega) (by omega)) dL_law_318 ?_
        refine tr_calli (v := mm) (wf := wM h2 ad2 ca2) (wr := wX h1 ad1 ca1 u) (As := [.int (xs (nI (4 * j + 1)).toNatClampNeg)]) (rest := [.int r1]) (k := 1) (ci := 1) ⟨hx, hb, hml, hown, hts⟩ (mM_rung l D h2 ad2 ca2 mm (xs (nI (4 * j + 1)).toNatClampNeg)) (cwV 1 hts (lw_V q222 q223 q224 q13 q225) rfl rfl rfl (by decide +kernel) ⟨Nat.le_of_ble_eq_true rfl, Nat.le_of_ble_eq_true rfl⟩) hKm hPm hPx hDm hap.sy hS hA rfl rfl rfl hl.1 rfl (Nat.le_of_ble_eq_true rfl) dL_law_319 ⟨Nat.le_of_ble_eq_true rfl, Nat.le_of_ble_eq_true rfl⟩ (fun r2 m1 H locs hwM hPm hPx hDm hap hS => ?_)
        obtain ⟨eM, hwM⟩ := hwM
        rw [eM] at hPm hDm hap
        refine lv_icmp_eq (tgt := 406) hx hb dL_law_322 (by decide) (fun c2 => ?_) (fun c2 => absurd (hwX.trans (((tq_rung hR (by omega) (xs (nI (4 * j + 1)).toNatClampNeg)).1).trans hwM.symm)) c2)
        exact cont _ _ _ _ _ hR (by omega) (by omega) hPx hPm hDx hDm hap.sy hS hl
      · refine lv_tableIn (off := 295) (tgt := 327) hx hb dL_law_32 (by decide) (by decide) rfl (by decide) ?_
        refine lv_aload_n hx hb dL_law_327 rfl (lv_at hl 1 rfl) ?_
        refine lv_aload_n hx hb dL_law_328 rfl (lv_at hl 0 rfl) ?_
        refine lv_iload_n hx hb dL_law_329 rfl (lv_at hl 3 rfl) ?_
        refine lv_iconst (v := 1) hx hb dL_law_330 (by decide) ?_
        refine lv_iadd hx hb dL_law_331 ?_
        refine tr_re (z' := nI (4 * j + 1)) (nI_add (4 * j) 1) ?_
        refine va_sld (A := (fun q : Nat => s.heap.size ≤ q)) hx hb hX hbl hbA hS (vp_in_nI (n := (4 * j + 1)) (N := L) (by omega) (by omega)) dL_law_332 ?_
        refine tr_calli (v := u) (wf := wX h1 ad1 ca1) (wr := wM h2 ad2 ca2 mm) (As := [.int (xs (nI (4 * j + 1)).toNatClampNeg)]) (rest := []) (k := 1) (ci := 0) ⟨hx, hb, hml, hown, hts⟩ (mX_rungAt l D h1 ad1 ca1 u (xs (nI (4 * j + 1)).toNatClampNeg) (by omega)) (cwV 1 hts (lw_V q128 q129 q130 q12 q131) rfl rfl rfl (by decide +kernel) ⟨Nat.le_of_ble_eq_true rfl, Nat.le_of_ble_eq_true rfl⟩) hKx hPx hPm hDx hap hS hA rfl rfl rfl hl.1 rfl (Nat.le_of_ble_eq_true rfl) dL_law_333 ⟨Nat.le_of_ble_eq_true rfl, Nat.le_of_ble_eq_true rfl⟩ (fun r1 u1 H locs hwX hPx hPm hDx hap hS => ?_)
        obtain ⟨eX, hwX⟩ := hwX
        rw [eX] at hPx hDx hap
        refine lv_aload_n hx hb dL_law_336 rfl (lv_at hl 2 rfl) ?_
        refine lv_aload_n hx hb dL_law_337 rfl (lv_at hl 0 rfl) ?_
        refine lv_iload_n hx hb dL_law_338 rfl (lv_at hl 3 rfl) ?_
        refine lv_iconst (v := 1) hx hb dL_law_339 (by decide) ?_
        refine lv_iadd hx hb dL_law_340 ?_
        refine tr_re (z' := nI (4 * j + 1)) (nI_add (4 * j) 1) ?_
        refine va_sld (A := (fun q : Nat => s.heap.size ≤ q)) hx hb hX hbl hbA hS (vp_in_nI (n := (4 * j + 1)) (N := L) (by omega) (by omega)) dL_law_341 ?_
        refine tr_calli (v := mm) (wf := wM h2 ad2 ca2) (wr := wX h1 ad1 ca1 u) (As := [.int (xs (nI (4 * j + 1)).toNatClampNeg)]) (rest := [.int r1]) (k := 1) (ci := 1) ⟨hx, hb, hml, hown, hts⟩ (mM_rungAt l D h2 ad2 ca2 mm (xs (nI (4 * j + 1)).toNatClampNeg)) (cwV 1 hts (lw_V q230 q231 q232 q13 q233) rfl rfl rfl (by decide +kernel) ⟨Nat.le_of_ble_eq_true rfl, Nat.le_of_ble_eq_true rfl⟩) hKm hPm hPx hDm hap.sy hS hA rfl rfl rfl hl.1 rfl (Nat.le_of_ble_eq_true rfl) dL_law_342 ⟨Nat.le_of_ble_eq_true rfl, Nat.le_of_ble_eq_true rfl⟩ (fun r2 m1 H locs hwM hPm hPx hDm hap hS => ?_)
        obtain ⟨eM, hwM⟩ := hwM
        rw [eM] at hPm hDm hap
        refine lv_icmp_eq (tgt := 406) hx hb dL_law_345 (by decide) (fun c2 => ?_) (fun c2 => absurd (hwX.trans (((tq_rung hR (by omega) (xs (nI (4 * j + 1)).toNatClampNeg)).2).trans hwM.symm)) c2)
        exact cont _ _ _ _ _ hR (by omega) (by omega) hPx hPm hDx hDm hap.sy hS hl
      · refine lv_tableIn (off := 318) (tgt := 350) hx hb dL_law_32 (by decide) (by decide) rfl (by decide) ?_
        refine lv_aload_n hx hb dL_law_350 rfl (lv_at hl 1 rfl) ?_
        refine lv_aload_n hx hb dL_law_351 rfl (lv_at hl 0 rfl) ?_
        refine lv_iload_n hx hb dL_law_352 rfl (lv_at hl 3 rfl) ?_
        refine lv_iconst (v := 1) hx hb dL_law_353 (by decide) ?_
        refine lv_iadd hx hb dL_law_354 ?_
        refine tr_re (z' := nI (4 * j + 1)) (nI_add (4 * j) 1) ?_
        refine va_sld (A := (fun q : Nat => s.heap.size ≤ q)) hx hb hX hbl hbA hS (vp_in_nI (n := (4 * j + 1)) (N := L) (by omega) (by omega)) dL_law_355 ?_
        refine lv_aload_n hx hb dL_law_356 rfl (lv_at hl 0 rfl) ?_
        refine lv_iload_n hx hb dL_law_357 rfl (lv_at hl 3 rfl) ?_
        refine lv_iconst (v := 2) hx hb dL_law_358 (by decide) ?_
        refine lv_iadd hx hb dL_law_359 ?_
        refine tr_re (z' := nI (4 * j + 2)) (nI_add (4 * j) 2) ?_
        refine va_sld (A := (fun q : Nat => s.heap.size ≤ q)) hx hb hX hbl hbA hS (vp_in_nI (n := (4 * j + 2)) (N := L) (by omega) (by omega)) dL_law_360 ?_
        refine tr_calli (v := u) (wf := wX h1 ad1 ca1) (wr := wM h2 ad2 ca2 mm) (As := [.int (xs (nI (4 * j + 1)).toNatClampNeg), .int (xs (nI (4 * j + 2)).toNatClampNeg)]) (rest := []) (k := 2) (ci := 0) ⟨hx, hb, hml, hown, hts⟩ (mX_repeat l D h1 ad1 ca1 u (xs (nI (4 * j + 1)).toNatClampNeg) (xs (nI (4 * j + 2)).toNatClampNeg)) (cwV 2 hts (lw_V q132 q133 q134 q12 q135) rfl rfl rfl (by decide +kernel) ⟨Nat.le_of_ble_eq_true rfl, Nat.le_of_ble_eq_true rfl⟩) hKx hPx hPm hDx hap hS hA rfl rfl rfl hl.1 rfl (Nat.le_of_ble_eq_true rfl) dL_law_361 ⟨Nat.le_of_ble_eq_true rfl, Nat.le_of_ble_eq_true rfl⟩ (fun r1 u1 H locs hwX hPx hPm hDx hap hS => ?_)
        refine lv_aload_n hx hb dL_law_364 rfl (lv_at hl 2 rfl) ?_
        refine lv_aload_n hx hb dL_law_365 rfl (lv_at hl 0 rfl) ?_
        refine lv_iload_n hx hb dL_law_366 rfl (lv_at hl 3 rfl) ?_
        refine lv_iconst (v := 1) hx hb dL_law_367 (by decide) ?_
        refine lv_iadd hx hb dL_law_368 ?_
        refine tr_re (z' := nI (4 * j + 1)) (nI_add (4 * j) 1) ?_
        refine va_sld (A := (fun q : Nat => s.heap.size ≤ q)) hx hb hX hbl hbA hS (vp_in_nI (n := (4 * j + 1)) (N := L) (by omega) (by omega)) dL_law_369 ?_
        refine lv_aload_n hx hb dL_law_370 rfl (lv_at hl 0 rfl) ?_
        refine lv_iload_n hx hb dL_law_371 rfl (lv_at hl 3 rfl) ?_
        refine lv_iconst (v := 2) hx hb dL_law_372 (by decide) ?_
        refine lv_iadd hx hb dL_law_373 ?_
        refine tr_re (z' := nI (4 * j + 2)) (nI_add (4 * j) 2) ?_
        refine va_sld (A := (fun q : Nat => s.heap.size ≤ q)) hx hb hX hbl hbA hS (vp_in_nI (n := (4 * j + 2)) (N := L) (by omega) (by omega)) dL_law_374 ?_
        refine tr_calli (v := mm) (wf := wM h2 ad2 ca2) (wr := wX h1 ad1 ca1 u1) (As := [.int (xs (nI (4 * j + 1)).toNatClampNeg), .int (xs (nI (4 * j + 2)).toNatClampNeg)]) (rest := [.int r1]) (k := 2) (ci := 1) ⟨hx, hb, hml, hown, hts⟩ (mM_repeat l D h2 ad2 ca2 mm (xs (nI (4 * j + 1)).toNatClampNeg) (xs (nI (4 * j + 2)).toNatClampNeg)) (cwV 2 hts (lw_V q234 q235 q236 q13 q237) rfl rfl rfl (by decide +kernel) ⟨Nat.le_of_ble_eq_true rfl, Nat.le_of_ble_eq_true rfl⟩) hKm hPm hPx hDm hap.sy hS hA rfl rfl rfl hl.1 rfl (Nat.le_of_ble_eq_true rfl) dL_law_375 ⟨Nat.le_of_ble_eq_true rfl, Nat.le_of_ble_eq_true rfl⟩ (fun r2 m1 H locs hwM hPm hPx hDm hap hS => ?_)
        obtain ⟨q1, q2, q3, q4⟩ := tq_repeat hR (xs (nI (4 * j + 1)).toNatClampNeg) (xs (nI (4 * j + 2)).toNatClampNeg)
        rw [← hwX, ← hwM] at q1 q2
        rw [← hwM] at q3 q4
        refine lv_icmp_eq (tgt := 406) hx hb dL_law_378 (by decide) (fun c2 => ?_) (fun c2 => absurd q1 c2)
        exact cont _ _ _ _ _ q2 q3 q4 hPx hPm hDx hDm hap.sy hS hl
      · refine lv_tableIn (off := 351) (tgt := 383) hx hb dL_law_32 (by decide) (by decide) rfl (by decide) ?_
        refine lv_aload_n hx hb dL_law_383 rfl (lv_at hl 1 rfl) ?_
        refine lv_aload_n hx hb dL_law_384 rfl (lv_at hl 0 rfl) ?_
        refine lv_iload_n hx hb dL_law_385 rfl (lv_at hl 3 rfl) ?_
        refine lv_iconst (v := 1) hx hb dL_law_386 (by decide) ?_
        refine lv_iadd hx hb dL_law_387 ?_
        refine tr_re (z' := nI (4 * j + 1)) (nI_add (4 * j) 1) ?_
        refine va_sld (A := (fun q : Nat => s.heap.size ≤ q)) hx hb hX hbl hbA hS (vp_in_nI (n := (4 * j + 1)) (N := L) (by omega) (by omega)) dL_law_388 ?_
        refine tr_calli (v := u) (wf := wX h1 ad1 ca1) (wr := wM h2 ad2 ca2 mm) (As := [.int (xs (nI (4 * j + 1)).toNatClampNeg)]) (rest := []) (k := 1) (ci := 0) ⟨hx, hb, hml, hown, hts⟩ (mX_period l D h1 ad1 ca1 u (xs (nI (4 * j + 1)).toNatClampNeg)) (cwV 1 hts (lw_V q136 q137 q138 q12 q139) rfl rfl rfl (by decide +kernel) ⟨Nat.le_of_ble_eq_true rfl, Nat.le_of_ble_eq_true rfl⟩) hKx hPx hPm hDx hap hS hA rfl rfl rfl hl.1 rfl (Nat.le_of_ble_eq_true rfl) dL_law_389 ⟨Nat.le_of_ble_eq_true rfl, Nat.le_of_ble_eq_true rfl⟩ (fun r1 u1 H locs hwX hPx hPm hDx hap hS => ?_)
        obtain ⟨eX, hwX⟩ := hwX
        rw [eX] at hPx hDx hap
        refine lv_aload_n hx hb dL_law_392 rfl (lv_at hl 2 rfl) ?_
        refine lv_aload_n hx hb dL_law_393 rfl (lv_at hl 0 rfl) ?_
        refine lv_iload_n hx hb dL_law_394 rfl (lv_at hl 3 rfl) ?_
        refine lv_iconst (v := 1) hx hb dL_law_395 (by decide) ?_
        refine lv_iadd hx hb dL_law_396 ?_
        refine tr_re (z' := nI (4 * j + 1)) (nI_add (4 * j) 1) ?_
        refine va_sld (A := (fun q : Nat => s.heap.size ≤ q)) hx hb hX hbl hbA hS (vp_in_nI (n := (4 * j + 1)) (N := L) (by omega) (by omega)) dL_law_397 ?_
        refine tr_calli (v := mm) (wf := wM h2 ad2 ca2) (wr := wX h1 ad1 ca1 u) (As := [.int (xs (nI (4 * j + 1)).toNatClampNeg)]) (rest := [.int r1]) (k := 1) (ci := 1) ⟨hx, hb, hml, hown, hts⟩ (mM_period l D h2 ad2 ca2 mm (xs (nI (4 * j + 1)).toNatClampNeg)) (cwV 1 hts (lw_V q238 q239 q240 q13 q241) rfl rfl rfl (by decide +kernel) ⟨Nat.le_of_ble_eq_true rfl, Nat.le_of_ble_eq_true rfl⟩) hKm hPm hPx hDm hap.sy hS hA rfl rfl rfl hl.1 rfl (Nat.le_of_ble_eq_true rfl) dL_law_398 ⟨Nat.le_of_ble_eq_true rfl, Nat.le_of_ble_eq_true rfl⟩ (fun r2 m1 H locs hwM hPm hPx hDm hap hS => ?_)
        obtain ⟨eM, hwM⟩ := hwM
        rw [eM] at hPm hDm hap
        refine lv_icmp_eq (tgt := 406) hx hb dL_law_401 (by decide) (fun c2 => ?_) (fun c2 => absurd (hwX.trans ((tq_period hR (xs (nI (4 * j + 1)).toNatClampNeg)).trans hwM.symm)) c2)
        exact cont _ _ _ _ _ hR (by omega) (by omega) hPx hPm hDx hDm hap.sy hS hl
      · refine lv_tableOut (tgt := 406) hx hb dL_law_32 (by decide) (by decide) ?_
        exact cont _ _ _ _ _ hR (by omega) (by omega) hPx hPm hDx hDm hap hS hl
      · refine lv_tableOut (tgt := 406) hx hb dL_law_32 (by decide) (by decide) ?_
        exact cont _ _ _ _ _ hR (by omega) (by omega) hPx hPm hDx hDm hap hS hl
end
section
set_option maxHeartbeats 4000000 in
set_option maxRecDepth 100000 in
/-- THE LAW, from its entry -/
theorem whole_start {p : Program} {e : Env} {s : State} {m : MethodId} {below : List Frame} {meth : Method} {c : Code} (l : Launch) {b L : Nat} {xs : Nat → Int32} (hL : L ≤ 256) (C0 : lw_At p s m meth c b L xs) : W p l e room_1 s m #[Value.ref b] below meth c s.heap [] 0 0 (lw_Z below #[Value.ref b] s) (entryFrame m ([Value.ref b] : List Value).toArray 4) := by
  obtain ⟨hx, hb, hr, hml, hown, hts0, hX, hbl, hlocks, hgv⟩ := id C0
  have hts : ∀ w ∈ lw_all, w.before #[Value.ref b] s = true := fun w h => hts0 w (lw_all_tbl h)
  have hA : ∀ q : Nat, s.heap.size ≤ q → (fun q : Nat => s.heap.size ≤ q) q := fun _ h => h
  obtain ⟨c0, iS0, hKn0⟩ := u_known (C := RX0) (T := TX0) (N := 9) (n := 9) hts in_X0 (hts _ q15)
  obtain ⟨c1, iS1, hKn1⟩ := u_known (C := RX1) (T := TX1) (N := 7) (n := 7) hts in_X1 (hts _ q141)
  obtain ⟨D, hKc⟩ : ∃ D : va_G, ∀ (k : Nat) (q : vw_C), vwCl[k]? = some q → u_Kn s q.1 q.2.1 q.2.2 (D.1 k) (D.2 k) := by
    refine ⟨(fun k => if k = 0 then c0 else c1, fun k => if k = 0 then iS0 else iS1), ?_⟩
    intro k q hq
    match k, hq with
    | 0, hq => cases hq; exact hKn0
    | 1, hq => cases hq; exact hKn1
    | k + 2, hq => simp [vwCl] at hq
  have hS : va_S (fun q : Nat => s.heap.size ≤ q) s.heap s.heap [] := va_S.rf
  have hK : va_K D vwCl [] s := ⟨hKc, fun k q h => by simp at h⟩
  have hP : va_P D vwCl [] s.heap := fun k q h => by simp at h
  have hD : va_D (fun q : Nat => s.heap.size ≤ q) [] := ⟨fun i j p q h => by simp at h, fun k q h => by simp at h⟩
  have hl := lv_entry ([.ref b]) (n := 4) (Nat.le_of_ble_eq_true rfl)
  rw [lg_entry_eq]
  generalize (lg_sl ([.ref b]) ++ List.replicate (4 - (lg_sl ([.ref b])).length) Slot.unset).toArray = ls at hl ⊢
  have hl : lv_has ls 4 [(0, .ref b)] := hl
  refine va_new (D := D) (cl := vwCl) (ci := 0) (fs := [.int 0, .int 0, .null, .null, .null, .null, .int 0, .null, .null]) (C := RX0) (T := TX0) (N := 9) hx hb hts in_X0 tyX0 tyX0_ok hown (hts _ q14) (hts _ q15) (hts _ q12) hK hP hD hS hA rfl (fun j hj => by rcases (show j = 0 ∨ j = 1 ∨ j = 2 ∨ j = 3 ∨ j = 4 ∨ j = 5 ∨ j = 6 ∨ j = 7 ∨ j = 8 by omega) with rfl | rfl | rfl | rfl | rfl | rfl | rfl | rfl | rfl <;> rfl) (Nat.le_of_ble_eq_true rfl) (Nat.le_of_ble_eq_true rfl) dL_law_0 (fun h1 H hP hD hS => ?_)
  have hP : va_P D vwCl ([(h1, .inr (0, [.int 0, .int 0, .null, .null, .null, .null, .int 0, .null, .null]))]) H := hP
  have hD : va_D (fun q : Nat => s.heap.size ≤ q) ([(h1, .inr (0, [.int 0, .int 0, .null, .null, .null, .null, .int 0, .null, .null]))]) := hD
  refine W.widen (k := 1) (n := 9) (Nat.le_of_ble_eq_true rfl) (Nat.le_of_ble_eq_true rfl) ?_
  refine lv_dup hx hb dL_law_3 rfl ?_
  have hPc := hP.sub (ws' := [(h1, .inr (0, [.int 0, .int 0, .null, .null, .null, .null, .int 0, .null, .null]))]) [0] rfl
  have hDc := hD.sub (ws' := [(h1, .inr (0, [.int 0, .int 0, .null, .null, .null, .null, .int 0, .null, .null]))]) [0] (by decide) rfl
  have hKc := hK.sub (tys' := []) [] rfl
  have hFc := va_free (wc := [(h1, .inr (0, [.int 0, .int 0, .null, .null, .null, .null, .int 0, .null, .null]))]) hD hS hA [0] rfl
  refine va_callv (va_runI (As := []) (rest := [.ref h1]) ⟨hx, hb, hml, hown, hts⟩ (mX_init l D h1 H.size) (cwI 0 hts (lw_meth q18) rfl rfl rfl (hts _ q12) (hts _ q16) (hts _ q17) rfl (by decide +kernel) ⟨Nat.le_of_ble_eq_true rfl, Nat.le_of_ble_eq_true rfl⟩) ⟨fun a U g mk q => by obtain ⟨q0, q1, qP, qK, qD⟩ := q; exact ⟨q0, q1, qP, va_K.moved (u := U) (U := U.calling g mk a) (Vm.Alike.refl U.vm) qK, qD⟩, fun U hU hW => ⟨rfl, by rw [hU], by rw [hU]; exact hPc, va_K.moved hW.alike hKc, hDc.weaken (fun _ _ _ _ => trivial)⟩⟩ rfl rfl hl.1 rfl (lv_room (Nat.le_of_ble_eq_true rfl)) dL_law_4 ⟨Nat.le_of_ble_eq_true rfl, Nat.le_of_ble_eq_true rfl⟩) hS (fun q _ h => hFc q h) hFc (fun u t H1 locs ht hvm hw hB hz1 hk1 hS => ?_)
  obtain ⟨ad1, ca1, hP1, hK1, hD1⟩ := hB
  rw [ht] at hP1
  have hKx : va_K D vwCl (kX ca1) s := va_K.moved hvm.symm hK1
  obtain ⟨hP, hD⟩ := va_join (wr := []) (w1 := wX h1 ad1 ca1 tw_0) hP hD [0] [] rfl rfl (by decide) (by decide) hk1 hFc hP1 hD1
  generalize H1 = H at hP hS ⊢
  have hP : va_P D vwCl (wX h1 ad1 ca1 tw_0) H := hP
  have hD : va_D (fun q : Nat => s.heap.size ≤ q) (wX h1 ad1 ca1 tw_0) := hD
  refine W.widen (k := 7) (n := 121) (Nat.le_of_ble_eq_true rfl) (Nat.le_of_ble_eq_true rfl) ?_
  refine lv_astore_n (lv' := [(1, .ref h1), (0, .ref b)]) hx hb dL_law_7 rfl hl (by decide) rfl (fun ls hl => ?_)
  refine va_new (D := D) (cl := vwCl) (ci := 1) (fs := [.int 0, .null, .null, .null, .int 0, .null, .null]) (C := RX1) (T := TX1) (N := 7) hx hb hts in_X1 tyX1 tyX1_ok hown (hts _ q140) (hts _ q141) (hts _ q13) hK hP hD hS hA rfl (fun j hj => by rcases (show j = 0 ∨ j = 1 ∨ j = 2 ∨ j = 3 ∨ j = 4 ∨ j = 5 ∨ j = 6 by omega) with rfl | rfl | rfl | rfl | rfl | rfl | rfl <;> rfl) (Nat.le_of_ble_eq_true rfl) (Nat.le_of_ble_eq_true rfl) dL_law_8 (fun h2 H hP hD hS => ?_)
  have hP : va_P D vwCl (wX h1 ad1 ca1 tw_0 ++ [(h2, .inr (1, [.int 0, .null, .null, .null, .int 0, .null, .null]))]) H := hP
  have hD : va_D (fun q : Nat => s.heap.size ≤ q) (wX h1 ad1 ca1 tw_0 ++ [(h2, .inr (1, [.int 0, .null, .null, .null, .int 0, .null, .null]))]) := hD
  refine W.widen (k := 8) (n := 128) (Nat.le_of_ble_eq_true rfl) (Nat.le_of_ble_eq_true rfl) ?_
  refine lv_dup hx hb dL_law_11 rfl ?_
  have hPc := hP.sub (ws' := [(h2, .inr (1, [.int 0, .null, .null, .null, .int 0, .null, .null]))]) [7] rfl
  have hDc := hD.sub (ws' := [(h2, .inr (1, [.int 0, .null, .null, .null, .int 0, .null, .null]))]) [7] (by decide) rfl
  have hKc := hK.sub (tys' := []) [] rfl
  have hFc := va_free (wc := [(h2, .inr (1, [.int 0, .null, .null, .null, .int 0, .null, .null]))]) hD hS hA [7] rfl
  refine va_callv (va_runI (As := []) (rest := [.ref h2]) ⟨hx, hb, hml, hown, hts⟩ (mM_init l D h2 H.size) (cwI 0 hts (lw_meth q144) rfl rfl rfl (hts _ q13) (hts _ q142) (hts _ q143) rfl (by decide +kernel) ⟨Nat.le_of_ble_eq_true rfl, Nat.le_of_ble_eq_true rfl⟩) ⟨fun a U g mk q => by obtain ⟨q0, q1, qP, qK, qD⟩ := q; exact ⟨q0, q1, qP, va_K.moved (u := U) (U := U.calling g mk a) (Vm.Alike.refl U.vm) qK, qD⟩, fun U hU hW => ⟨rfl, by rw [hU], by rw [hU]; exact hPc, va_K.moved hW.alike hKc, hDc.weaken (fun _ _ _ _ => trivial)⟩⟩ rfl rfl hl.1 rfl (lv_room (Nat.le_of_ble_eq_true rfl)) dL_law_12 ⟨Nat.le_of_ble_eq_true rfl, Nat.le_of_ble_eq_true rfl⟩) hS (fun q _ h => hFc q h) hFc (fun u t H1 locs ht hvm hw hB hz1 hk1 hS => ?_)
  obtain ⟨ad2, ca2, hP1, hK1, hD1⟩ := hB
  rw [ht] at hP1
  have hKm : va_K D vwCl (kM ca2) s := va_K.moved hvm.symm hK1
  obtain ⟨hP, hD⟩ := va_join (wr := wX h1 ad1 ca1 tw_0) (w1 := wM h2 ad2 ca2 tm_0) hP hD [7] [0, 1, 2, 3, 4, 5, 6] rfl rfl (by decide) (by decide) hk1 hFc hP1 hD1
  generalize H1 = H at hP hS ⊢
  have hP : va_P D vwCl (wX h1 ad1 ca1 tw_0 ++ wM h2 ad2 ca2 tm_0) H := hP
  have hD : va_D (fun q : Nat => s.heap.size ≤ q) (wX h1 ad1 ca1 tw_0 ++ wM h2 ad2 ca2 tm_0) := hD
  refine W.widen (k := 13) (n := 216) (Nat.le_of_ble_eq_true rfl) (Nat.le_of_ble_eq_true rfl) ?_
  refine lv_astore_n (lv' := [(2, .ref h2), (1, .ref h1), (0, .ref b)]) hx hb dL_law_15 rfl hl (by decide) rfl (fun ls hl => ?_)
  refine lv_iconst (v := 0) hx hb dL_law_16 (by decide) ?_
  refine tr_re (z' := nI 0) nI_0.symm ?_
  refine lv_istore_n (lv' := [(3, .int (nI 0)), (2, .ref h2), (1, .ref h1), (0, .ref b)]) hx hb dL_law_17 rfl hl (by decide) rfl (fun ls hl => ?_)
  exact law_loop hL C0 h1 ad1 ca1 h2 ad2 ca2 hKx hKm 65 0 tw_0 tm_0 _ _ _ (by omega) (by omega) tq_0 (Nat.zero_le _) (Nat.zero_le _) (hP.sub (ws' := wX h1 ad1 ca1 tw_0) [0, 1, 2, 3, 4, 5, 6] rfl) (hP.sub (ws' := wM h2 ad2 ca2 tm_0) [7, 8, 9, 10, 11, 12] rfl) (hD.sub (ws' := wX h1 ad1 ca1 tw_0) [0, 1, 2, 3, 4, 5, 6] (by decide) rfl) (hD.sub (ws' := wM h2 ad2 ca2 tm_0) [7, 8, 9, 10, 11, 12] (by decide) rfl) (tr_ap.of hD).sy hS (lv_sub hl [3, 2, 1, 0] rfl)
end
section
set_option maxHeartbeats 4000000 in
theorem lw_walk (l : Launch) (b : Addr) (xs : List Int32) : MetFree l x (headSpec (Jvm.Cond.code x code maxLocals ret :: tables_1) room_1) (lw_P b xs) (fun _ _ _ _ _ => True) lw_Q := by
  refine MetFree.of_bodyS (code := code) (maxLocals := maxLocals) (ret := ret) (by decide) ?_ ?_
  · intro args s m h hn
    obtain ⟨meth, c, h1, h2, h3, h4, h5, h6, -, -⟩ := Cond.code_spec hn (atoms_spec (ws := Jvm.Cond.code x code maxLocals ret :: tables_1) h _ List.mem_cons_self)
    exact ⟨meth, c, h1, h2, h3, h4, h5, h6⟩
  · intro p e s m args below meth c s₁ B hml0 hP _
    obtain ⟨rfl, hx, hbd, hgv⟩ := hP
    obtain ⟨scr, harrAt, hlist, hof, hsmall⟩ := hx
    obtain ⟨hcb, hkn, -, -⟩ := State.arrayAt?_spec harrAt
    have hown : s.vm.findClass R_law = some m.cls := findClass_of_methodNamed B.named
    have hts0 : ∀ c ∈ (Jvm.Cond.code x code maxLocals ret :: tables_1), c.before #[Value.ref b] s = true := atoms_spec (ws := Jvm.Cond.code x code maxLocals ret :: tables_1) B.pre
    have hts : ∀ w ∈ lw_tbl, w.before #[Value.ref b] s = true := k2_hts_sels lw_privs (fun w hw => hts0 w (List.mem_cons_of_mem _ hw)) lw_privs_ok
    have hml : c.maxLocals = 4 := B.maxLocals_eq (hts0 _ List.mem_cons_self)
    have X₀ : Stand p l e room_1 s m #[Value.ref b] below meth c s₁ [] 0 0 := Stand.of_body B
    have hh0 : s₁.heap = s.heap := by rw [B.state]; rfl
    have hsz : scr.slots.size = xs.length := by rw [← Array.length_toList, hlist, List.length_map]
    have hval : ∀ j : Nat, j < xs.length → scr.slots[j]? = some (.int (xs.getD j 0)) := fun j hj => by
      rw [← Array.getElem?_toList, hlist]
      simp [hj]
    have hbl : b < s.heap.size := (Array.getElem?_eq_some_iff.mp hcb).1
    have hX : va_X b xs.length (fun j => xs.getD j 0) s s.heap := ⟨scr, hcb, hof, hkn, hsz, hval⟩
    have K : W p l e room_1 s m #[Value.ref b] below meth c s₁.heap [] 0 0 (lw_Z below #[Value.ref b] s) (entryFrame m ([Value.ref b] : List Value).toArray 4) := by
      rw [hh0]
      exact whole_start l hbd ⟨B.exec, B.bytes, B.returns, hml, hown, hts, hX, hbl, B.notSynchronized, hgv⟩
    obtain ⟨t, a1, o, b1, b2, b3⟩ := K s₁ rfl X₀
    exact ⟨t, o, a1, b1, b2, b3⟩
theorem lw_pre_spec {args : Array Value} {s : State} (h : (Jvm.Cond.and given_1 narrow_1).before args s = true) (hr : rest_1_c.before args s = true) : ∃ (b : Addr) (xs : List Int32), lw_P b xs args s := by
  have hs := flat_of_before _ h
  have hq := flat_of_before _ hr
  have hc : (Cond.count 1).before args s = true := hs _ (by decide +kernel)
  have harr : (Cond.arrayOf (.arg 0) .int).before args s = true := hs _ (by decide +kernel)
  have hle : (Cond.le (.length (.arg 0)) (.int 256)).before args s = true := hs _ (by decide +kernel)
  have hlen : (Cond.isInt (.length (.arg 0))).before args s = true := hq _ (by decide +kernel)
  have hall : (Cond.all (.arg 0) (.isInt (.elem (.arg 0) (.index 0)))).before args s = true := hq _ (by decide +kernel)
  obtain ⟨b, xs, hb, hx⟩ := State.ints_of_pre rfl harr hlen hall
  have hsm : xs.length < 2 ^ 31 := hx.choose_spec.2.2.2
  have hev : (Term.length (.arg 0)).eval args s none [] s = some (.int xs.length.toInt32) := hx.length_eval hb
  have hv := Cond.le_ints hev (show (Term.int 256).eval args s none [] s = some (.int 256) from rfl)
  have hd : xs.length.toInt32 ≤ 256 := by
    simpa [Cond.before, Cond.holds, hv] using hle
  have hN : xs.length ≤ 256 := (Int32.ofNat_le_ofNat hsm (by decide)).mp (show Int32.ofNat xs.length ≤ Int32.ofNat 256 from hd)
  exact ⟨b, xs, Cond.one_arg hc (show args[0]? = some (.ref b) from hb), hx, hN, h⟩
theorem lw_comes (l : Launch) : Comes l x (Jvm.Cond.code x code maxLocals ret :: tables_1) room_1 (fun tb e args s => Calls_1 tb e args s ∧ rest_1 tb e args s ∧ Pre_1 tb e args s)
    (fun _ _ args s o t => lw_Q args s o t) := by
  intro p e ha hc hk s m args below hf hfit hheap happ hpre
  obtain ⟨b, xs, hP⟩ := lw_pre_spec hpre.2.2 hpre.2.1
  obtain ⟨k, o, h1, h2, h3, hQ⟩ := lw_walk l b xs p e ha hc hk s m args below hf ((Spec.applies_iff_loose hf).mp happ).1 hP trivial
  exact ⟨k, o, h1, h2, h3, hQ⟩
theorem lw_frame {s t : State} {o : Outcome} {args : Array Value} (h : Framed s o t [] 600000 7290000) :
    Framed s o t (fieldLocs frame_1_writes args s ++ arrayLocs frame_1_arrays args s ++ staticLocs frame_1_statics s) 600000 7290000 := h
theorem lw_limb (L : Cond) (hL : ∀ (args : Array Value) (s t : State), L.after args s (.returned (some (.int 1))) t = true) :
    ArmFor flags0 classFile x code maxLocals ret World_1 tables_1 room_1 Calls_1 rest_1 Pre_1
      (fun tb e a s o t => postC L tb e a s o t ∧ Framed s o t (fieldLocs frame_1_writes a s ++ arrayLocs frame_1_arrays a s ++ staticLocs frame_1_statics s) 600000 7290000) := by
  intro l _ _ _ p e ha hc hk s m args below hf hfit hheap happ hpre
  obtain ⟨k, o, h1, h2, h3, rfl, hF⟩ := lw_comes l p e ha hc hk s m args below hf hfit hheap happ hpre
  exact ⟨k, _, h1, h2, h3, hL args s _, lw_frame hF⟩
theorem i_vc : Claimed_1_1 ∧ Claimed_1_2 := ⟨lw_limb limb_1_1 (fun args s t => by simp [limb_1_1, Cond.after, Cond.holds, Cond.value]), lw_limb limb_1_2 (fun args s t => Cond.after_iff.mpr (by
  first | (rw [show limb_1_2 = Cond.eq .result (.int 1) from rfl, Cond.eq_ints (x := 1) (y := 1) rfl rfl]; simp; done) | (simp [limb_1_2, Cond.value, Term.eval]; done)))⟩
end
