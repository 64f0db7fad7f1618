section
/-- a private method of a class that the tables say can be made, by its rows of tables_1 -/
def lw_okq (q : MethodName × Nat) : Prop := (q.1.cls ≠ "java/lang/invoke/MethodHandle" ∧ q.1.cls ≠ "java/lang/invoke/VarHandle") ∧ Cond.instantiable q.1.cls q.2 ∈ tables_1 ∧ Cond.privateMethod q.1 ∈ tables_1 ∧ Cond.instanceMethod q.1 ∈ tables_1
set_option maxRecDepth 100000
theorem lw_p0 : lw_okq (⟨"CoercionDesk", "fail", "(I)I"⟩, 9) := ⟨⟨by decide +kernel, by decide +kernel⟩, List.mem_of_getElem? (i := 4) rfl, List.mem_of_getElem? (i := 71) rfl, List.mem_of_getElem? (i := 72) rfl⟩
theorem lw_p1 : lw_okq (⟨"CoercionDesk", "wrap", "(III)V"⟩, 9) := ⟨⟨by decide +kernel, by decide +kernel⟩, List.mem_of_getElem? (i := 4) rfl, List.mem_of_getElem? (i := 75) rfl, List.mem_of_getElem? (i := 76) rfl⟩
theorem lw_p2 : lw_okq (⟨"CoercionDesk", "demandFirst", "(II)V"⟩, 9) := ⟨⟨by decide +kernel, by decide +kernel⟩, List.mem_of_getElem? (i := 4) rfl, List.mem_of_getElem? (i := 79) rfl, List.mem_of_getElem? (i := 80) rfl⟩
theorem lw_p3 : lw_okq (⟨"CoercionDesk", "demandLast", "(II)V"⟩, 9) := ⟨⟨by decide +kernel, by decide +kernel⟩, List.mem_of_getElem? (i := 4) rfl, List.mem_of_getElem? (i := 83) rfl, List.mem_of_getElem? (i := 84) rfl⟩
theorem lw_p4 : lw_okq (⟨"CoercionDesk", "meet", "(II)I"⟩, 9) := ⟨⟨by decide +kernel, by decide +kernel⟩, List.mem_of_getElem? (i := 4) rfl, List.mem_of_getElem? (i := 103) rfl, List.mem_of_getElem? (i := 104) rfl⟩
theorem lw_p5 : lw_okq (⟨"CoercionDesk", "givenKind", "(I)I"⟩, 9) := ⟨⟨by decide +kernel, by decide +kernel⟩, List.mem_of_getElem? (i := 4) rfl, List.mem_of_getElem? (i := 107) rfl, List.mem_of_getElem? (i := 108) rfl⟩
theorem lw_p6 : lw_okq (⟨"CoercionDesk", "given", "(I)I"⟩, 9) := ⟨⟨by decide +kernel, by decide +kernel⟩, List.mem_of_getElem? (i := 4) rfl, List.mem_of_getElem? (i := 111) rfl, List.mem_of_getElem? (i := 112) rfl⟩
theorem lw_p7 : lw_okq (⟨"CoercionDeskModel", "own", "(I)I"⟩, 9) := ⟨⟨by decide +kernel, by decide +kernel⟩, List.mem_of_getElem? (i := 128) rfl, List.mem_of_getElem? (i := 167) rfl, List.mem_of_getElem? (i := 168) rfl⟩
theorem lw_p8 : lw_okq (⟨"CoercionDeskModel", "arrow", "(II)I"⟩, 9) := ⟨⟨by decide +kernel, by decide +kernel⟩, List.mem_of_getElem? (i := 128) rfl, List.mem_of_getElem? (i := 171) rfl, List.mem_of_getElem? (i := 172) rfl⟩
theorem lw_p9 : lw_okq (⟨"CoercionDeskModel", "isType", "(I)Z"⟩, 9) := ⟨⟨by decide +kernel, by decide +kernel⟩, List.mem_of_getElem? (i := 128) rfl, List.mem_of_getElem? (i := 183) rfl, List.mem_of_getElem? (i := 184) rfl⟩
theorem lw_p10 : lw_okq (⟨"CoercionDeskModel", "simple", "(II)Z"⟩, 9) := ⟨⟨by decide +kernel, by decide +kernel⟩, List.mem_of_getElem? (i := 128) rfl, List.mem_of_getElem? (i := 187) rfl, List.mem_of_getElem? (i := 188) rfl⟩
theorem lw_p11 : lw_okq (⟨"CoercionDeskModel", "from", "(I)I"⟩, 9) := ⟨⟨by decide +kernel, by decide +kernel⟩, List.mem_of_getElem? (i := 128) rfl, List.mem_of_getElem? (i := 191) rfl, List.mem_of_getElem? (i := 192) rfl⟩
theorem lw_p12 : lw_okq (⟨"CoercionDeskModel", "into", "(I)I"⟩, 9) := ⟨⟨by decide +kernel, by decide +kernel⟩, List.mem_of_getElem? (i := 128) rfl, List.mem_of_getElem? (i := 195) rfl, List.mem_of_getElem? (i := 196) rfl⟩
theorem lw_p13 : lw_okq (⟨"CoercionDeskModel", "wrap", "(III)V"⟩, 9) := ⟨⟨by decide +kernel, by decide +kernel⟩, List.mem_of_getElem? (i := 128) rfl, List.mem_of_getElem? (i := 199) rfl, List.mem_of_getElem? (i := 200) rfl⟩
def lw_privs_1 : List (MethodName × Nat) := [(⟨"CoercionDesk", "fail", "(I)I"⟩, 9), (⟨"CoercionDesk", "wrap", "(III)V"⟩, 9), (⟨"CoercionDesk", "demandFirst", "(II)V"⟩, 9), (⟨"CoercionDesk", "demandLast", "(II)V"⟩, 9), (⟨"CoercionDesk", "meet", "(II)I"⟩, 9), (⟨"CoercionDesk", "givenKind", "(I)I"⟩, 9), (⟨"CoercionDesk", "given", "(I)I"⟩, 9), (⟨"CoercionDeskModel", "own", "(I)I"⟩, 9), (⟨"CoercionDeskModel", "arrow", "(II)I"⟩, 9), (⟨"CoercionDeskModel", "isType", "(I)Z"⟩, 9), (⟨"CoercionDeskModel", "simple", "(II)Z"⟩, 9), (⟨"CoercionDeskModel", "from", "(I)I"⟩, 9), (⟨"CoercionDeskModel", "into", "(I)I"⟩, 9), (⟨"CoercionDeskModel", "wrap", "(III)V"⟩, 9)]
theorem lw_r1 : ∀ q ∈ lw_privs_1, lw_okq q := List.forall_mem_cons.mpr ⟨lw_p0, List.forall_mem_cons.mpr ⟨lw_p1, List.forall_mem_cons.mpr ⟨lw_p2, List.forall_mem_cons.mpr ⟨lw_p3, List.forall_mem_cons.mpr ⟨lw_p4, List.forall_mem_cons.mpr ⟨lw_p5, List.forall_mem_cons.mpr ⟨lw_p6, List.forall_mem_cons.mpr ⟨lw_p7, List.forall_mem_cons.mpr ⟨lw_p8, List.forall_mem_cons.mpr ⟨lw_p9, List.forall_mem_cons.mpr ⟨lw_p10, List.forall_mem_cons.mpr ⟨lw_p11, List.forall_mem_cons.mpr ⟨lw_p12, List.forall_mem_cons.mpr ⟨lw_p13, fun _ h => absurd h List.not_mem_nil⟩⟩⟩⟩⟩⟩⟩⟩⟩⟩⟩⟩⟩⟩
def lw_privs : List (MethodName × Nat) := lw_privs_1
def lw_tbl : List Cond := k2_sels lw_privs ++ tables_1
theorem lw_privs_ok : ∀ q ∈ lw_privs, lw_okq q := lw_r1
def lw_all : List Cond := lw_tbl.filter goodWord
/-- a word of the tables by its place: claim/WORDS.tsv -/
theorem lw_w {w : Cond} (i : Nat) (h : lw_tbl[i]? = some w) (g : goodWord w = true) : w ∈ lw_all := List.mem_filter.mpr ⟨List.mem_of_getElem? h, g⟩
theorem lw_all_tbl {w : Cond} (h : w ∈ lw_all) : w ∈ lw_tbl := (List.mem_filter.mp h).1
theorem lw_self : GoodIn lw_all lw_all := fun w h => ⟨h, good_of_word (List.mem_filter.mp h).2⟩
/-- a class's field words, by their places -/
theorem lw_in (ws : List Cond) (ps : List Nat) (hp : ws = ps.filterMap (fun i => lw_tbl[i]?)) (hg : ws.all goodWord = true) : ∀ w ∈ ws, w ∈ lw_all := by
  intro w h
  have h1 := List.all_eq_true.mp hg w h
  rw [hp] at h
  obtain ⟨i, -, hi⟩ := List.mem_filterMap.mp h
  exact lw_w i hi h1
/-- the words of a contract for the method y with code b, L locals, answer r -/
abbrev ws_ (y : MethodName) (b : ByteArray) (L : Nat) (r : Option FieldType) : List Cond := Cond.code y b L r :: lw_all
theorem lw_meth {y : MethodName} {b : ByteArray} {L : Nat} {r : Option FieldType} (h : Cond.code y b L r ∈ lw_all) : GoodIn lw_all (ws_ y b L r) := by
  intro w hw
  rcases List.mem_cons.mp hw with e | e
  · rw [e]
    exact lw_self _ h
  · exact lw_self _ e
theorem lw_app {a c : List Cond} (ha : ∀ w ∈ a, w ∈ lw_all) (hc : GoodIn lw_all c) : GoodIn lw_all (a ++ c) := by
  intro w hw
  rcases List.mem_append.mp hw with e | e
  · exact lw_self w (ha w e)
  · exact hc w e
/-- what a call through an object asks: cwV n hts (lw_V ..) -/
theorem lw_V {own : String} {idx : Nat} {C : String} {y : MethodName} {b : ByteArray} {L : Nat} {r : Option FieldType} (h1 : Cond.methodLink own idx y ∈ lw_all) (h2 : Cond.instanceMethod y ∈ lw_all) (h3 : Cond.selects C y y ∈ lw_all) (h4 : Cond.initialized C ∈ lw_all) (h5 : Cond.code y b L r ∈ lw_all) : GoodIn lw_all (wsV own idx C y (ws_ y b L r)) := by
  refine lw_app ?_ (lw_meth h5)
  intro w hw
  simp only [List.mem_cons, List.not_mem_nil, or_false] at hw
  rcases hw with e | e | e | e
  · rw [e]; exact h1
  · rw [e]; exact h2
  · rw [e]; exact h3
  · rw [e]; exact h4
/-- what a static call asks: va_cwS n hts (lw_S ..) -/
theorem lw_S {own : String} {idx : Nat} {y : MethodName} {b : ByteArray} {L : Nat} {r : Option FieldType} (h1 : Cond.methodLink own idx y ∈ lw_all) (h2 : Cond.static y ∈ lw_all) (h3 : Cond.initialized y.cls ∈ lw_all) (h4 : Cond.code y b L r ∈ lw_all) : GoodIn lw_all (va_wsS own idx y (ws_ y b L r)) := by
  refine lw_app ?_ (lw_meth h4)
  intro w hw
  simp only [List.mem_cons, List.not_mem_nil, or_false] at hw
  rcases hw with e | e | e
  · rw [e]; exact h1
  · rw [e]; exact h2
  · rw [e]; exact h3
/-- the words of a contract for a method WITH HANDLERS (hh: its table) -/
abbrev wsW_ (y : MethodName) (b : ByteArray) (L : Nat) (r : Option FieldType) (hh : List (Nat × Nat × Nat × Nat)) : List Cond := Cond.codeWith y b L r hh :: lw_all
theorem lw_methW {y : MethodName} {b : ByteArray} {L : Nat} {r : Option FieldType} {hh : List (Nat × Nat × Nat × Nat)} (h : Cond.codeWith y b L r hh ∈ lw_all) : GoodIn lw_all (wsW_ y b L r hh) := by
  intro w hw
  rcases List.mem_cons.mp hw with e | e
  · rw [e]
    exact lw_self _ h
  · exact lw_self _ e
/-- any list of words by their places (lw_in), good -/
theorem lw_good {ws : List Cond} (h : ∀ w ∈ ws, w ∈ lw_all) : GoodIn lw_all ws := fun w hw => lw_self w (h w hw)
/-- what a call of a method with handlers asks: vx_cwVW n hts (lw_VW ..), vx_cwSW n hts (lw_SW ..) -/
theorem lw_VW {own : String} {idx : Nat} {C : String} {y : MethodName} {b : ByteArray} {L : Nat} {r : Option FieldType} {hh : List (Nat × Nat × Nat × Nat)} (h1 : Cond.methodLink own idx y ∈ lw_all) (h2 : Cond.instanceMethod y ∈ lw_all) (h3 : Cond.selects C y y ∈ lw_all) (h4 : Cond.initialized C ∈ lw_all) (h5 : Cond.codeWith y b L r hh ∈ lw_all) : GoodIn lw_all (wsV own idx C y (wsW_ y b L r hh)) := by
  refine lw_app ?_ (lw_methW h5)
  intro w hw
  simp only [List.mem_cons, List.not_mem_nil, or_false] at hw
  rcases hw with e | e | e | e
  · rw [e]; exact h1
  · rw [e]; exact h2
  · rw [e]; exact h3
  · rw [e]; exact h4
theorem lw_SW {own : String} {idx : Nat} {y : MethodName} {b : ByteArray} {L : Nat} {r : Option FieldType} {hh : List (Nat × Nat × Nat × Nat)} (h1 : Cond.methodLink own idx y ∈ lw_all) (h2 : Cond.static y ∈ lw_all) (h3 : Cond.initialized y.cls ∈ lw_all) (h4 : Cond.codeWith y b L r hh ∈ lw_all) : GoodIn lw_all (va_wsS own idx y (wsW_ y b L r hh)) := by
  refine lw_app ?_ (lw_methW h4)
  intro w hw
  simp only [List.mem_cons, List.not_mem_nil, or_false] at hw
  rcases hw with e | e | e
  · rw [e]; exact h1
  · rw [e]; exact h2
  · rw [e]; exact h3
/-- a word by its place in its run of the tables -/
theorem lw_at {r : List Cond} (hr : ∀ w ∈ r, w ∈ lw_tbl) {w : Cond} (i : Nat) (h : r[i]? = some w) : w ∈ lw_tbl := hr w (List.mem_of_getElem? h)
theorem lw_g {w : Cond} (h : w ∈ lw_tbl) (g : goodWord w = true) : w ∈ lw_all := List.mem_filter.mpr ⟨h, g⟩
theorem lw_ms : ∀ w ∈ k2_sels lw_privs, w ∈ lw_tbl := fun w h => show w ∈ k2_sels lw_privs ++ tables_1 from List.mem_append_left _ h
theorem lw_m0 : ∀ w ∈ tables_1, w ∈ lw_tbl := fun w h => show w ∈ k2_sels lw_privs ++ tables_1 from List.mem_append_right (k2_sels lw_privs) h
theorem qs0 : (Cond.selects "CoercionDesk" ⟨"CoercionDesk", "fail", "(I)I"⟩ ⟨"CoercionDesk", "fail", "(I)I"⟩) ∈ lw_all := lw_g (lw_at lw_ms 0 rfl) rfl
theorem qs1 : (Cond.selects "CoercionDesk" ⟨"CoercionDesk", "wrap", "(III)V"⟩ ⟨"CoercionDesk", "wrap", "(III)V"⟩) ∈ lw_all := lw_g (lw_at lw_ms 1 rfl) rfl
theorem qs2 : (Cond.selects "CoercionDesk" ⟨"CoercionDesk", "demandFirst", "(II)V"⟩ ⟨"CoercionDesk", "demandFirst", "(II)V"⟩) ∈ lw_all := lw_g (lw_at lw_ms 2 rfl) rfl
theorem qs3 : (Cond.selects "CoercionDesk" ⟨"CoercionDesk", "demandLast", "(II)V"⟩ ⟨"CoercionDesk", "demandLast", "(II)V"⟩) ∈ lw_all := lw_g (lw_at lw_ms 3 rfl) rfl
theorem qs4 : (Cond.selects "CoercionDesk" ⟨"CoercionDesk", "meet", "(II)I"⟩ ⟨"CoercionDesk", "meet", "(II)I"⟩) ∈ lw_all := lw_g (lw_at lw_ms 4 rfl) rfl
theorem qs5 : (Cond.selects "CoercionDesk" ⟨"CoercionDesk", "givenKind", "(I)I"⟩ ⟨"CoercionDesk", "givenKind", "(I)I"⟩) ∈ lw_all := lw_g (lw_at lw_ms 5 rfl) rfl
theorem qs6 : (Cond.selects "CoercionDesk" ⟨"CoercionDesk", "given", "(I)I"⟩ ⟨"CoercionDesk", "given", "(I)I"⟩) ∈ lw_all := lw_g (lw_at lw_ms 6 rfl) rfl
theorem qs7 : (Cond.selects "CoercionDeskModel" ⟨"CoercionDeskModel", "own", "(I)I"⟩ ⟨"CoercionDeskModel", "own", "(I)I"⟩) ∈ lw_all := lw_g (lw_at lw_ms 7 rfl) rfl
theorem qs8 : (Cond.selects "CoercionDeskModel" ⟨"CoercionDeskModel", "arrow", "(II)I"⟩ ⟨"CoercionDeskModel", "arrow", "(II)I"⟩) ∈ lw_all := lw_g (lw_at lw_ms 8 rfl) rfl
theorem qs9 : (Cond.selects "CoercionDeskModel" ⟨"CoercionDeskModel", "isType", "(I)Z"⟩ ⟨"CoercionDeskModel", "isType", "(I)Z"⟩) ∈ lw_all := lw_g (lw_at lw_ms 9 rfl) rfl
theorem qs10 : (Cond.selects "CoercionDeskModel" ⟨"CoercionDeskModel", "simple", "(II)Z"⟩ ⟨"CoercionDeskModel", "simple", "(II)Z"⟩) ∈ lw_all := lw_g (lw_at lw_ms 10 rfl) rfl
theorem qs11 : (Cond.selects "CoercionDeskModel" ⟨"CoercionDeskModel", "from", "(I)I"⟩ ⟨"CoercionDeskModel", "from", "(I)I"⟩) ∈ lw_all := lw_g (lw_at lw_ms 11 rfl) rfl
theorem qs12 : (Cond.selects "CoercionDeskModel" ⟨"CoercionDeskModel", "into", "(I)I"⟩ ⟨"CoercionDeskModel", "into", "(I)I"⟩) ∈ lw_all := lw_g (lw_at lw_ms 12 rfl) rfl
theorem qs13 : (Cond.selects "CoercionDeskModel" ⟨"CoercionDeskModel", "wrap", "(III)V"⟩ ⟨"CoercionDeskModel", "wrap", "(III)V"⟩) ∈ lw_all := lw_g (lw_at lw_ms 13 rfl) rfl
end
section
/-! java/lang/Object -/
set_option maxRecDepth 100000
def RJ0 : String := "java/lang/Object"
abbrev cJ0_init : ByteArray := object_method_1_code
def yJ0_init : MethodName := ⟨RJ0, "<init>", "()V"⟩
theorem dJ0_init_0 : decode cJ0_init 0 = .ok (.return_, 1) := by decide +kernel
theorem q23 : (Jvm.Cond.instanceMethod ({ cls := "java/lang/Object", name := "<init>", desc := "()V" } : Jvm.MethodName)) ∈ lw_all := lw_g (lw_at lw_m0 9 rfl) rfl
theorem q24 : (Jvm.Cond.code ({ cls := "java/lang/Object", name := "<init>", desc := "()V" } : Jvm.MethodName) object_method_1_code (1 : Nat) (Option.none : Option Jvm.ClassFile.FieldType)) ∈ lw_all := lw_g (lw_at lw_m0 10 rfl) rfl
/-! CoercionDesk -/
set_option maxRecDepth 100000
def RX0 : String := "CoercionDesk"
def TX0 : u_T := fun k => match k with
  | 0 => ("CoercionDesk", "there", "Z", false)
  | 1 => ("CoercionDesk", "type", "I", false)
  | 2 => ("CoercionDesk", "kind", "I", false)
  | 3 => ("CoercionDesk", "raw", "I", false)
  | 4 => ("CoercionDesk", "wanted", "[B", true)
  | 5 => ("CoercionDesk", "blamed", "[B", true)
  | 6 => ("CoercionDesk", "called", "Z", false)
  | 7 => ("CoercionDesk", "resultKind", "I", false)
  | _ => ("CoercionDesk", "result", "I", false)
def tyX0 : Nat → FieldType := fun k => match k with
  | 0 => .boolean
  | 1 => .int
  | 2 => .int
  | 3 => .int
  | 4 => .array .byte
  | 5 => .array .byte
  | 6 => .boolean
  | 7 => .int
  | _ => .int
abbrev wsX00 : List Cond := u_ws RX0 TX0 9
theorem nmX0 : ∀ a, a < 9 → ∀ b, b < 9 → a ≠ b → (TX0 a).2.1 ≠ (TX0 b).2.1 := by decide +kernel
theorem tyX0_ok : ∀ k, k < 9 → parseFieldDescriptor (TX0 k).2.2.1 = some (tyX0 k) := by decide +kernel
abbrev cX0_init : ByteArray := prog_1_method_1_code
def yX0_init : MethodName := ⟨RX0, "<init>", "()V"⟩
theorem dX0_init_0 : decode cX0_init 0 = .ok (.aload_n 0, 1) := by decide +kernel
theorem dX0_init_1 : decode cX0_init 1 = .ok (.invokespecial 1, 3) := by decide +kernel
theorem dX0_init_4 : decode cX0_init 4 = .ok (.aload_n 0, 1) := by decide +kernel
theorem dX0_init_5 : decode cX0_init 5 = .ok (.iconst 4, 1) := by decide +kernel
theorem dX0_init_6 : decode cX0_init 6 = .ok (.newarray .byte, 2) := by decide +kernel
theorem dX0_init_8 : decode cX0_init 8 = .ok (.putfield 7, 3) := by decide +kernel
theorem dX0_init_11 : decode cX0_init 11 = .ok (.aload_n 0, 1) := by decide +kernel
theorem dX0_init_12 : decode cX0_init 12 = .ok (.iconst 4, 1) := by decide +kernel
theorem dX0_init_13 : decode cX0_init 13 = .ok (.newarray .byte, 2) := by decide +kernel
theorem dX0_init_15 : decode cX0_init 15 = .ok (.putfield 13, 3) := by decide +kernel
theorem dX0_init_18 : decode cX0_init 18 = .ok (.return_, 1) := by decide +kernel
abbrev cX0_set : ByteArray := prog_1_method_7_code
def yX0_set : MethodName := ⟨RX0, "set", "(II)I"⟩
theorem dX0_set_0 : decode cX0_set 0 = .ok (.iload_n 1, 1) := by decide +kernel
theorem dX0_set_1 : decode cX0_set 1 = .ok (.ifCond .eq 31, 3) := by decide +kernel
theorem dX0_set_4 : decode cX0_set 4 = .ok (.iload_n 1, 1) := by decide +kernel
theorem dX0_set_5 : decode cX0_set 5 = .ok (.iconst 1, 1) := by decide +kernel
theorem dX0_set_6 : decode cX0_set 6 = .ok (.if_icmp .ne 12, 3) := by decide +kernel
theorem dX0_set_9 : decode cX0_set 9 = .ok (.iload_n 2, 1) := by decide +kernel
theorem dX0_set_10 : decode cX0_set 10 = .ok (.ifCond .eq 22, 3) := by decide +kernel
theorem dX0_set_13 : decode cX0_set 13 = .ok (.iload_n 2, 1) := by decide +kernel
theorem dX0_set_14 : decode cX0_set 14 = .ok (.iconst 1, 1) := by decide +kernel
theorem dX0_set_15 : decode cX0_set 15 = .ok (.if_icmp .eq 17, 3) := by decide +kernel
theorem dX0_set_18 : decode cX0_set 18 = .ok (.iload_n 1, 1) := by decide +kernel
theorem dX0_set_19 : decode cX0_set 19 = .ok (.iconst 2, 1) := by decide +kernel
theorem dX0_set_20 : decode cX0_set 20 = .ok (.if_icmp .ne 16, 3) := by decide +kernel
theorem dX0_set_23 : decode cX0_set 23 = .ok (.iload_n 2, 1) := by decide +kernel
theorem dX0_set_24 : decode cX0_set 24 = .ok (.ifCond .lt 12, 3) := by decide +kernel
theorem dX0_set_27 : decode cX0_set 27 = .ok (.iload_n 2, 1) := by decide +kernel
theorem dX0_set_28 : decode cX0_set 28 = .ok (.iconst 5, 1) := by decide +kernel
theorem dX0_set_29 : decode cX0_set 29 = .ok (.if_icmp .gt 7, 3) := by decide +kernel
theorem dX0_set_32 : decode cX0_set 32 = .ok (.iconst 1, 1) := by decide +kernel
theorem dX0_set_33 : decode cX0_set 33 = .ok (.goto 4, 3) := by decide +kernel
theorem dX0_set_36 : decode cX0_set 36 = .ok (.iconst 0, 1) := by decide +kernel
theorem dX0_set_37 : decode cX0_set 37 = .ok (.istore_n 3, 1) := by decide +kernel
theorem dX0_set_38 : decode cX0_set 38 = .ok (.iload_n 3, 1) := by decide +kernel
theorem dX0_set_39 : decode cX0_set 39 = .ok (.ifCond .ne 6, 3) := by decide +kernel
theorem dX0_set_42 : decode cX0_set 42 = .ok (.bipush (-100), 2) := by decide +kernel
theorem dX0_set_44 : decode cX0_set 44 = .ok (.ireturn, 1) := by decide +kernel
theorem dX0_set_45 : decode cX0_set 45 = .ok (.aload_n 0, 1) := by decide +kernel
theorem dX0_set_46 : decode cX0_set 46 = .ok (.iconst 1, 1) := by decide +kernel
theorem dX0_set_47 : decode cX0_set 47 = .ok (.putfield 16, 3) := by decide +kernel
theorem dX0_set_50 : decode cX0_set 50 = .ok (.aload_n 0, 1) := by decide +kernel
theorem dX0_set_51 : decode cX0_set 51 = .ok (.iconst 0, 1) := by decide +kernel
theorem dX0_set_52 : decode cX0_set 52 = .ok (.putfield 20, 3) := by decide +kernel
theorem dX0_set_55 : decode cX0_set 55 = .ok (.aload_n 0, 1) := by decide +kernel
theorem dX0_set_56 : decode cX0_set 56 = .ok (.iload_n 1, 1) := by decide +kernel
theorem dX0_set_57 : decode cX0_set 57 = .ok (.putfield 23, 3) := by decide +kernel
theorem dX0_set_60 : decode cX0_set 60 = .ok (.aload_n 0, 1) := by decide +kernel
theorem dX0_set_61 : decode cX0_set 61 = .ok (.iload_n 2, 1) := by decide +kernel
theorem dX0_set_62 : decode cX0_set 62 = .ok (.putfield 27, 3) := by decide +kernel
theorem dX0_set_65 : decode cX0_set 65 = .ok (.aload_n 0, 1) := by decide +kernel
theorem dX0_set_66 : decode cX0_set 66 = .ok (.iload_n 1, 1) := by decide +kernel
theorem dX0_set_67 : decode cX0_set 67 = .ok (.iconst 2, 1) := by decide +kernel
theorem dX0_set_68 : decode cX0_set 68 = .ok (.if_icmp .ne 10, 3) := by decide +kernel
theorem dX0_set_71 : decode cX0_set 71 = .ok (.iload_n 2, 1) := by decide +kernel
theorem dX0_set_72 : decode cX0_set 72 = .ok (.invokestatic 30, 3) := by decide +kernel
theorem dX0_set_75 : decode cX0_set 75 = .ok (.goto 6, 3) := by decide +kernel
theorem dX0_set_78 : decode cX0_set 78 = .ok (.iload_n 1, 1) := by decide +kernel
theorem dX0_set_79 : decode cX0_set 79 = .ok (.iconst 1, 1) := by decide +kernel
theorem dX0_set_80 : decode cX0_set 80 = .ok (.iadd, 1) := by decide +kernel
theorem dX0_set_81 : decode cX0_set 81 = .ok (.putfield 34, 3) := by decide +kernel
theorem dX0_set_84 : decode cX0_set 84 = .ok (.iconst 0, 1) := by decide +kernel
theorem dX0_set_85 : decode cX0_set 85 = .ok (.istore 4, 2) := by decide +kernel
theorem dX0_set_87 : decode cX0_set 87 = .ok (.iload 4, 2) := by decide +kernel
theorem dX0_set_89 : decode cX0_set 89 = .ok (.iconst 4, 1) := by decide +kernel
theorem dX0_set_90 : decode cX0_set 90 = .ok (.if_icmp .ge 17, 3) := by decide +kernel
theorem dX0_set_93 : decode cX0_set 93 = .ok (.aload_n 0, 1) := by decide +kernel
theorem dX0_set_94 : decode cX0_set 94 = .ok (.getfield 7, 3) := by decide +kernel
theorem dX0_set_97 : decode cX0_set 97 = .ok (.iload 4, 2) := by decide +kernel
theorem dX0_set_99 : decode cX0_set 99 = .ok (.iconst 0, 1) := by decide +kernel
theorem dX0_set_100 : decode cX0_set 100 = .ok (.bastore, 1) := by decide +kernel
theorem dX0_set_101 : decode cX0_set 101 = .ok (.iinc 4 1, 3) := by decide +kernel
theorem dX0_set_104 : decode cX0_set 104 = .ok (.goto (-17), 3) := by decide +kernel
theorem dX0_set_107 : decode cX0_set 107 = .ok (.aload_n 0, 1) := by decide +kernel
theorem dX0_set_108 : decode cX0_set 108 = .ok (.getfield 34, 3) := by decide +kernel
theorem dX0_set_111 : decode cX0_set 111 = .ok (.ireturn, 1) := by decide +kernel
abbrev cX0_typeOfFunction : ByteArray := prog_1_method_9_code
def yX0_typeOfFunction : MethodName := ⟨RX0, "typeOfFunction", "(I)I"⟩
theorem dX0_typeOfFunction_0 : decode cX0_typeOfFunction 0 = .ok (.iload_n 0, 1) := by decide +kernel
theorem dX0_typeOfFunction_1 : decode cX0_typeOfFunction 1 = .ok (.ifCond .ne 6, 3) := by decide +kernel
theorem dX0_typeOfFunction_4 : decode cX0_typeOfFunction 4 = .ok (.bipush 7, 2) := by decide +kernel
theorem dX0_typeOfFunction_6 : decode cX0_typeOfFunction 6 = .ok (.ireturn, 1) := by decide +kernel
theorem dX0_typeOfFunction_7 : decode cX0_typeOfFunction 7 = .ok (.iload_n 0, 1) := by decide +kernel
theorem dX0_typeOfFunction_8 : decode cX0_typeOfFunction 8 = .ok (.iconst 1, 1) := by decide +kernel
theorem dX0_typeOfFunction_9 : decode cX0_typeOfFunction 9 = .ok (.if_icmp .ne 5, 3) := by decide +kernel
theorem dX0_typeOfFunction_12 : decode cX0_typeOfFunction 12 = .ok (.iconst 3, 1) := by decide +kernel
theorem dX0_typeOfFunction_13 : decode cX0_typeOfFunction 13 = .ok (.ireturn, 1) := by decide +kernel
theorem dX0_typeOfFunction_14 : decode cX0_typeOfFunction 14 = .ok (.iload_n 0, 1) := by decide +kernel
theorem dX0_typeOfFunction_15 : decode cX0_typeOfFunction 15 = .ok (.iconst 2, 1) := by decide +kernel
theorem dX0_typeOfFunction_16 : decode cX0_typeOfFunction 16 = .ok (.if_icmp .ne 6, 3) := by decide +kernel
theorem dX0_typeOfFunction_19 : decode cX0_typeOfFunction 19 = .ok (.bipush 11, 2) := by decide +kernel
theorem dX0_typeOfFunction_21 : decode cX0_typeOfFunction 21 = .ok (.ireturn, 1) := by decide +kernel
theorem dX0_typeOfFunction_22 : decode cX0_typeOfFunction 22 = .ok (.iload_n 0, 1) := by decide +kernel
theorem dX0_typeOfFunction_23 : decode cX0_typeOfFunction 23 = .ok (.iconst 3, 1) := by decide +kernel
theorem dX0_typeOfFunction_24 : decode cX0_typeOfFunction 24 = .ok (.if_icmp .ne 6, 3) := by decide +kernel
theorem dX0_typeOfFunction_27 : decode cX0_typeOfFunction 27 = .ok (.bipush 8, 2) := by decide +kernel
theorem dX0_typeOfFunction_29 : decode cX0_typeOfFunction 29 = .ok (.ireturn, 1) := by decide +kernel
theorem dX0_typeOfFunction_30 : decode cX0_typeOfFunction 30 = .ok (.iload_n 0, 1) := by decide +kernel
theorem dX0_typeOfFunction_31 : decode cX0_typeOfFunction 31 = .ok (.iconst 4, 1) := by decide +kernel
theorem dX0_typeOfFunction_32 : decode cX0_typeOfFunction 32 = .ok (.if_icmp .ne 7, 3) := by decide +kernel
theorem dX0_typeOfFunction_35 : decode cX0_typeOfFunction 35 = .ok (.iconst 4, 1) := by decide +kernel
theorem dX0_typeOfFunction_36 : decode cX0_typeOfFunction 36 = .ok (.goto 5, 3) := by decide +kernel
theorem dX0_typeOfFunction_39 : decode cX0_typeOfFunction 39 = .ok (.bipush 10, 2) := by decide +kernel
theorem dX0_typeOfFunction_41 : decode cX0_typeOfFunction 41 = .ok (.ireturn, 1) := by decide +kernel
abbrev cX0_cast : ByteArray := prog_1_method_8_code
def yX0_cast : MethodName := ⟨RX0, "cast", "(II)I"⟩
theorem dX0_cast_0 : decode cX0_cast 0 = .ok (.aload_n 0, 1) := by decide +kernel
theorem dX0_cast_1 : decode cX0_cast 1 = .ok (.getfield 16, 3) := by decide +kernel
theorem dX0_cast_4 : decode cX0_cast 4 = .ok (.ifCond .eq 33, 3) := by decide +kernel
theorem dX0_cast_7 : decode cX0_cast 7 = .ok (.iload_n 1, 1) := by decide +kernel
theorem dX0_cast_8 : decode cX0_cast 8 = .ok (.invokestatic 37, 3) := by decide +kernel
theorem dX0_cast_11 : decode cX0_cast 11 = .ok (.ifCond .eq 26, 3) := by decide +kernel
theorem dX0_cast_14 : decode cX0_cast 14 = .ok (.iload_n 2, 1) := by decide +kernel
theorem dX0_cast_15 : decode cX0_cast 15 = .ok (.iconst 1, 1) := by decide +kernel
theorem dX0_cast_16 : decode cX0_cast 16 = .ok (.if_icmp .lt 21, 3) := by decide +kernel
theorem dX0_cast_19 : decode cX0_cast 19 = .ok (.iload_n 2, 1) := by decide +kernel
theorem dX0_cast_20 : decode cX0_cast 20 = .ok (.bipush 9, 2) := by decide +kernel
theorem dX0_cast_22 : decode cX0_cast 22 = .ok (.if_icmp .gt 15, 3) := by decide +kernel
theorem dX0_cast_25 : decode cX0_cast 25 = .ok (.aload_n 0, 1) := by decide +kernel
theorem dX0_cast_26 : decode cX0_cast 26 = .ok (.aload_n 0, 1) := by decide +kernel
theorem dX0_cast_27 : decode cX0_cast 27 = .ok (.getfield 34, 3) := by decide +kernel
theorem dX0_cast_30 : decode cX0_cast 30 = .ok (.iload_n 1, 1) := by decide +kernel
theorem dX0_cast_31 : decode cX0_cast 31 = .ok (.invokevirtual 41, 3) := by decide +kernel
theorem dX0_cast_34 : decode cX0_cast 34 = .ok (.ifCond .ne 6, 3) := by decide +kernel
theorem dX0_cast_37 : decode cX0_cast 37 = .ok (.bipush (-100), 2) := by decide +kernel
theorem dX0_cast_39 : decode cX0_cast 39 = .ok (.ireturn, 1) := by decide +kernel
theorem dX0_cast_40 : decode cX0_cast 40 = .ok (.aload_n 0, 1) := by decide +kernel
theorem dX0_cast_41 : decode cX0_cast 41 = .ok (.getfield 34, 3) := by decide +kernel
theorem dX0_cast_44 : decode cX0_cast 44 = .ok (.istore_n 3, 1) := by decide +kernel
theorem dX0_cast_45 : decode cX0_cast 45 = .ok (.aload_n 0, 1) := by decide +kernel
theorem dX0_cast_46 : decode cX0_cast 46 = .ok (.iload_n 1, 1) := by decide +kernel
theorem dX0_cast_47 : decode cX0_cast 47 = .ok (.putfield 34, 3) := by decide +kernel
theorem dX0_cast_50 : decode cX0_cast 50 = .ok (.iload_n 3, 1) := by decide +kernel
theorem dX0_cast_51 : decode cX0_cast 51 = .ok (.iload_n 1, 1) := by decide +kernel
theorem dX0_cast_52 : decode cX0_cast 52 = .ok (.if_icmp .ne 5, 3) := by decide +kernel
theorem dX0_cast_55 : decode cX0_cast 55 = .ok (.iconst 0, 1) := by decide +kernel
theorem dX0_cast_56 : decode cX0_cast 56 = .ok (.ireturn, 1) := by decide +kernel
theorem dX0_cast_57 : decode cX0_cast 57 = .ok (.iload_n 3, 1) := by decide +kernel
theorem dX0_cast_58 : decode cX0_cast 58 = .ok (.ifCond .ne 30, 3) := by decide +kernel
theorem dX0_cast_61 : decode cX0_cast 61 = .ok (.iload_n 1, 1) := by decide +kernel
theorem dX0_cast_62 : decode cX0_cast 62 = .ok (.invokestatic 45, 3) := by decide +kernel
theorem dX0_cast_65 : decode cX0_cast 65 = .ok (.ifCond .ne 23, 3) := by decide +kernel
theorem dX0_cast_68 : decode cX0_cast 68 = .ok (.aload_n 0, 1) := by decide +kernel
theorem dX0_cast_69 : decode cX0_cast 69 = .ok (.getfield 23, 3) := by decide +kernel
theorem dX0_cast_72 : decode cX0_cast 72 = .ok (.iconst 1, 1) := by decide +kernel
theorem dX0_cast_73 : decode cX0_cast 73 = .ok (.iadd, 1) := by decide +kernel
theorem dX0_cast_74 : decode cX0_cast 74 = .ok (.iload_n 1, 1) := by decide +kernel
theorem dX0_cast_75 : decode cX0_cast 75 = .ok (.if_icmp .ne 7, 3) := by decide +kernel
theorem dX0_cast_78 : decode cX0_cast 78 = .ok (.iconst 0, 1) := by decide +kernel
theorem dX0_cast_79 : decode cX0_cast 79 = .ok (.goto 8, 3) := by decide +kernel
theorem dX0_cast_82 : decode cX0_cast 82 = .ok (.aload_n 0, 1) := by decide +kernel
theorem dX0_cast_83 : decode cX0_cast 83 = .ok (.iload_n 2, 1) := by decide +kernel
theorem dX0_cast_84 : decode cX0_cast 84 = .ok (.invokevirtual 48, 3) := by decide +kernel
theorem dX0_cast_87 : decode cX0_cast 87 = .ok (.ireturn, 1) := by decide +kernel
theorem dX0_cast_88 : decode cX0_cast 88 = .ok (.iload_n 3, 1) := by decide +kernel
theorem dX0_cast_89 : decode cX0_cast 89 = .ok (.ifCond .ne 17, 3) := by decide +kernel
theorem dX0_cast_92 : decode cX0_cast 92 = .ok (.aload_n 0, 1) := by decide +kernel
theorem dX0_cast_93 : decode cX0_cast 93 = .ok (.getfield 23, 3) := by decide +kernel
theorem dX0_cast_96 : decode cX0_cast 96 = .ok (.iconst 2, 1) := by decide +kernel
theorem dX0_cast_97 : decode cX0_cast 97 = .ok (.if_icmp .eq 9, 3) := by decide +kernel
theorem dX0_cast_100 : decode cX0_cast 100 = .ok (.aload_n 0, 1) := by decide +kernel
theorem dX0_cast_101 : decode cX0_cast 101 = .ok (.iload_n 2, 1) := by decide +kernel
theorem dX0_cast_102 : decode cX0_cast 102 = .ok (.invokevirtual 48, 3) := by decide +kernel
theorem dX0_cast_105 : decode cX0_cast 105 = .ok (.ireturn, 1) := by decide +kernel
theorem dX0_cast_106 : decode cX0_cast 106 = .ok (.iload_n 3, 1) := by decide +kernel
theorem dX0_cast_107 : decode cX0_cast 107 = .ok (.invokestatic 45, 3) := by decide +kernel
theorem dX0_cast_110 : decode cX0_cast 110 = .ok (.ifCond .ne 10, 3) := by decide +kernel
theorem dX0_cast_113 : decode cX0_cast 113 = .ok (.iload_n 1, 1) := by decide +kernel
theorem dX0_cast_114 : decode cX0_cast 114 = .ok (.invokestatic 45, 3) := by decide +kernel
theorem dX0_cast_117 : decode cX0_cast 117 = .ok (.ifCond .eq 26, 3) := by decide +kernel
theorem dX0_cast_120 : decode cX0_cast 120 = .ok (.aload_n 0, 1) := by decide +kernel
theorem dX0_cast_121 : decode cX0_cast 121 = .ok (.iload_n 3, 1) := by decide +kernel
theorem dX0_cast_122 : decode cX0_cast 122 = .ok (.ifCond .ne 7, 3) := by decide +kernel
theorem dX0_cast_125 : decode cX0_cast 125 = .ok (.iconst 3, 1) := by decide +kernel
theorem dX0_cast_126 : decode cX0_cast 126 = .ok (.goto 4, 3) := by decide +kernel
theorem dX0_cast_129 : decode cX0_cast 129 = .ok (.iload_n 3, 1) := by decide +kernel
theorem dX0_cast_130 : decode cX0_cast 130 = .ok (.iload_n 1, 1) := by decide +kernel
theorem dX0_cast_131 : decode cX0_cast 131 = .ok (.ifCond .ne 7, 3) := by decide +kernel
theorem dX0_cast_134 : decode cX0_cast 134 = .ok (.iconst 3, 1) := by decide +kernel
theorem dX0_cast_135 : decode cX0_cast 135 = .ok (.goto 4, 3) := by decide +kernel
theorem dX0_cast_138 : decode cX0_cast 138 = .ok (.iload_n 1, 1) := by decide +kernel
theorem dX0_cast_139 : decode cX0_cast 139 = .ok (.iload_n 2, 1) := by decide +kernel
theorem dX0_cast_140 : decode cX0_cast 140 = .ok (.invokevirtual 51, 3) := by decide +kernel
theorem dX0_cast_143 : decode cX0_cast 143 = .ok (.iconst 0, 1) := by decide +kernel
theorem dX0_cast_144 : decode cX0_cast 144 = .ok (.ireturn, 1) := by decide +kernel
abbrev cX0_isType : ByteArray := prog_1_method_2_code
def yX0_isType : MethodName := ⟨RX0, "isType", "(I)Z"⟩
theorem dX0_isType_0 : decode cX0_isType 0 = .ok (.iload_n 0, 1) := by decide +kernel
theorem dX0_isType_1 : decode cX0_isType 1 = .ok (.ifCond .lt 13, 3) := by decide +kernel
theorem dX0_isType_4 : decode cX0_isType 4 = .ok (.iload_n 0, 1) := by decide +kernel
theorem dX0_isType_5 : decode cX0_isType 5 = .ok (.bipush 12, 2) := by decide +kernel
theorem dX0_isType_7 : decode cX0_isType 7 = .ok (.if_icmp .ge 7, 3) := by decide +kernel
theorem dX0_isType_10 : decode cX0_isType 10 = .ok (.iconst 1, 1) := by decide +kernel
theorem dX0_isType_11 : decode cX0_isType 11 = .ok (.goto 4, 3) := by decide +kernel
theorem dX0_isType_14 : decode cX0_isType 14 = .ok (.iconst 0, 1) := by decide +kernel
theorem dX0_isType_15 : decode cX0_isType 15 = .ok (.ireturn, 1) := by decide +kernel
abbrev cX0_agree : ByteArray := prog_1_method_23_code
def yX0_agree : MethodName := ⟨RX0, "agree", "(II)Z"⟩
theorem dX0_agree_0 : decode cX0_agree 0 = .ok (.iload_n 1, 1) := by decide +kernel
theorem dX0_agree_1 : decode cX0_agree 1 = .ok (.invokestatic 37, 3) := by decide +kernel
theorem dX0_agree_4 : decode cX0_agree 4 = .ok (.ifCond .eq 10, 3) := by decide +kernel
theorem dX0_agree_7 : decode cX0_agree 7 = .ok (.iload_n 2, 1) := by decide +kernel
theorem dX0_agree_8 : decode cX0_agree 8 = .ok (.invokestatic 37, 3) := by decide +kernel
theorem dX0_agree_11 : decode cX0_agree 11 = .ok (.ifCond .ne 5, 3) := by decide +kernel
theorem dX0_agree_14 : decode cX0_agree 14 = .ok (.iconst 0, 1) := by decide +kernel
theorem dX0_agree_15 : decode cX0_agree 15 = .ok (.ireturn, 1) := by decide +kernel
theorem dX0_agree_16 : decode cX0_agree 16 = .ok (.iload_n 1, 1) := by decide +kernel
theorem dX0_agree_17 : decode cX0_agree 17 = .ok (.invokestatic 45, 3) := by decide +kernel
theorem dX0_agree_20 : decode cX0_agree 20 = .ok (.ifCond .eq 10, 3) := by decide +kernel
theorem dX0_agree_23 : decode cX0_agree 23 = .ok (.iload_n 2, 1) := by decide +kernel
theorem dX0_agree_24 : decode cX0_agree 24 = .ok (.invokestatic 45, 3) := by decide +kernel
theorem dX0_agree_27 : decode cX0_agree 27 = .ok (.ifCond .ne 9, 3) := by decide +kernel
theorem dX0_agree_30 : decode cX0_agree 30 = .ok (.iload_n 1, 1) := by decide +kernel
theorem dX0_agree_31 : decode cX0_agree 31 = .ok (.iload_n 2, 1) := by decide +kernel
theorem dX0_agree_32 : decode cX0_agree 32 = .ok (.invokestatic 84, 3) := by decide +kernel
theorem dX0_agree_35 : decode cX0_agree 35 = .ok (.ireturn, 1) := by decide +kernel
theorem dX0_agree_36 : decode cX0_agree 36 = .ok (.iload_n 1, 1) := by decide +kernel
theorem dX0_agree_37 : decode cX0_agree 37 = .ok (.invokestatic 55, 3) := by decide +kernel
theorem dX0_agree_40 : decode cX0_agree 40 = .ok (.istore_n 3, 1) := by decide +kernel
theorem dX0_agree_41 : decode cX0_agree 41 = .ok (.iload_n 1, 1) := by decide +kernel
theorem dX0_agree_42 : decode cX0_agree 42 = .ok (.invokestatic 62, 3) := by decide +kernel
theorem dX0_agree_45 : decode cX0_agree 45 = .ok (.istore 4, 2) := by decide +kernel
theorem dX0_agree_47 : decode cX0_agree 47 = .ok (.iload_n 3, 1) := by decide +kernel
theorem dX0_agree_48 : decode cX0_agree 48 = .ok (.iload_n 2, 1) := by decide +kernel
theorem dX0_agree_49 : decode cX0_agree 49 = .ok (.invokestatic 55, 3) := by decide +kernel
theorem dX0_agree_52 : decode cX0_agree 52 = .ok (.invokestatic 84, 3) := by decide +kernel
theorem dX0_agree_55 : decode cX0_agree 55 = .ok (.ifCond .eq 19, 3) := by decide +kernel
theorem dX0_agree_58 : decode cX0_agree 58 = .ok (.iload 4, 2) := by decide +kernel
theorem dX0_agree_60 : decode cX0_agree 60 = .ok (.iload_n 2, 1) := by decide +kernel
theorem dX0_agree_61 : decode cX0_agree 61 = .ok (.invokestatic 62, 3) := by decide +kernel
theorem dX0_agree_64 : decode cX0_agree 64 = .ok (.invokestatic 84, 3) := by decide +kernel
theorem dX0_agree_67 : decode cX0_agree 67 = .ok (.ifCond .eq 7, 3) := by decide +kernel
theorem dX0_agree_70 : decode cX0_agree 70 = .ok (.iconst 1, 1) := by decide +kernel
theorem dX0_agree_71 : decode cX0_agree 71 = .ok (.goto 4, 3) := by decide +kernel
theorem dX0_agree_74 : decode cX0_agree 74 = .ok (.iconst 0, 1) := by decide +kernel
theorem dX0_agree_75 : decode cX0_agree 75 = .ok (.ireturn, 1) := by decide +kernel
abbrev cX0_isFunction : ByteArray := prog_1_method_3_code
def yX0_isFunction : MethodName := ⟨RX0, "isFunction", "(I)Z"⟩
theorem dX0_isFunction_0 : decode cX0_isFunction 0 = .ok (.iload_n 0, 1) := by decide +kernel
theorem dX0_isFunction_1 : decode cX0_isFunction 1 = .ok (.iconst 3, 1) := by decide +kernel
theorem dX0_isFunction_2 : decode cX0_isFunction 2 = .ok (.if_icmp .lt 7, 3) := by decide +kernel
theorem dX0_isFunction_5 : decode cX0_isFunction 5 = .ok (.iconst 1, 1) := by decide +kernel
theorem dX0_isFunction_6 : decode cX0_isFunction 6 = .ok (.goto 4, 3) := by decide +kernel
theorem dX0_isFunction_9 : decode cX0_isFunction 9 = .ok (.iconst 0, 1) := by decide +kernel
theorem dX0_isFunction_10 : decode cX0_isFunction 10 = .ok (.ireturn, 1) := by decide +kernel
abbrev cX0_plainAgree : ByteArray := prog_1_method_6_code
def yX0_plainAgree : MethodName := ⟨RX0, "plainAgree", "(II)Z"⟩
theorem dX0_plainAgree_0 : decode cX0_plainAgree 0 = .ok (.iload_n 0, 1) := by decide +kernel
theorem dX0_plainAgree_1 : decode cX0_plainAgree 1 = .ok (.iload_n 1, 1) := by decide +kernel
theorem dX0_plainAgree_2 : decode cX0_plainAgree 2 = .ok (.if_icmp .eq 11, 3) := by decide +kernel
theorem dX0_plainAgree_5 : decode cX0_plainAgree 5 = .ok (.iload_n 0, 1) := by decide +kernel
theorem dX0_plainAgree_6 : decode cX0_plainAgree 6 = .ok (.ifCond .eq 7, 3) := by decide +kernel
theorem dX0_plainAgree_9 : decode cX0_plainAgree 9 = .ok (.iload_n 1, 1) := by decide +kernel
theorem dX0_plainAgree_10 : decode cX0_plainAgree 10 = .ok (.ifCond .ne 7, 3) := by decide +kernel
theorem dX0_plainAgree_13 : decode cX0_plainAgree 13 = .ok (.iconst 1, 1) := by decide +kernel
theorem dX0_plainAgree_14 : decode cX0_plainAgree 14 = .ok (.goto 4, 3) := by decide +kernel
theorem dX0_plainAgree_17 : decode cX0_plainAgree 17 = .ok (.iconst 0, 1) := by decide +kernel
theorem dX0_plainAgree_18 : decode cX0_plainAgree 18 = .ok (.ireturn, 1) := by decide +kernel
abbrev cX0_argumentOf : ByteArray := prog_1_method_4_code
def yX0_argumentOf : MethodName := ⟨RX0, "argumentOf", "(I)I"⟩
theorem dX0_argumentOf_0 : decode cX0_argumentOf 0 = .ok (.iload_n 0, 1) := by decide +kernel
theorem dX0_argumentOf_1 : decode cX0_argumentOf 1 = .ok (.iconst 3, 1) := by decide +kernel
theorem dX0_argumentOf_2 : decode cX0_argumentOf 2 = .ok (.isub, 1) := by decide +kernel
theorem dX0_argumentOf_3 : decode cX0_argumentOf 3 = .ok (.iconst 3, 1) := by decide +kernel
theorem dX0_argumentOf_4 : decode cX0_argumentOf 4 = .ok (.idiv, 1) := by decide +kernel
theorem dX0_argumentOf_5 : decode cX0_argumentOf 5 = .ok (.ireturn, 1) := by decide +kernel
abbrev cX0_resultOf : ByteArray := prog_1_method_5_code
def yX0_resultOf : MethodName := ⟨RX0, "resultOf", "(I)I"⟩
theorem dX0_resultOf_0 : decode cX0_resultOf 0 = .ok (.iload_n 0, 1) := by decide +kernel
theorem dX0_resultOf_1 : decode cX0_resultOf 1 = .ok (.iconst 3, 1) := by decide +kernel
theorem dX0_resultOf_2 : decode cX0_resultOf 2 = .ok (.isub, 1) := by decide +kernel
theorem dX0_resultOf_3 : decode cX0_resultOf 3 = .ok (.iconst 3, 1) := by decide +kernel
theorem dX0_resultOf_4 : decode cX0_resultOf 4 = .ok (.irem, 1) := by decide +kernel
theorem dX0_resultOf_5 : decode cX0_resultOf 5 = .ok (.ireturn, 1) := by decide +kernel
abbrev cX0_fail : ByteArray := prog_1_method_15_code
def yX0_fail : MethodName := ⟨RX0, "fail", "(I)I"⟩
theorem dX0_fail_0 : decode cX0_fail 0 = .ok (.aload_n 0, 1) := by decide +kernel
theorem dX0_fail_1 : decode cX0_fail 1 = .ok (.iconst 0, 1) := by decide +kernel
theorem dX0_fail_2 : decode cX0_fail 2 = .ok (.putfield 16, 3) := by decide +kernel
theorem dX0_fail_5 : decode cX0_fail 5 = .ok (.iload_n 1, 1) := by decide +kernel
theorem dX0_fail_6 : decode cX0_fail 6 = .ok (.ireturn, 1) := by decide +kernel
abbrev cX0_wrap : ByteArray := prog_1_method_16_code
def yX0_wrap : MethodName := ⟨RX0, "wrap", "(III)V"⟩
theorem dX0_wrap_0 : decode cX0_wrap 0 = .ok (.iload_n 1, 1) := by decide +kernel
theorem dX0_wrap_1 : decode cX0_wrap 1 = .ok (.invokestatic 55, 3) := by decide +kernel
theorem dX0_wrap_4 : decode cX0_wrap 4 = .ok (.istore 4, 2) := by decide +kernel
theorem dX0_wrap_6 : decode cX0_wrap 6 = .ok (.iload_n 2, 1) := by decide +kernel
theorem dX0_wrap_7 : decode cX0_wrap 7 = .ok (.invokestatic 55, 3) := by decide +kernel
theorem dX0_wrap_10 : decode cX0_wrap 10 = .ok (.ifCond .ne 16, 3) := by decide +kernel
theorem dX0_wrap_13 : decode cX0_wrap 13 = .ok (.iload 4, 2) := by decide +kernel
theorem dX0_wrap_15 : decode cX0_wrap 15 = .ok (.ifCond .eq 11, 3) := by decide +kernel
theorem dX0_wrap_18 : decode cX0_wrap 18 = .ok (.aload_n 0, 1) := by decide +kernel
theorem dX0_wrap_19 : decode cX0_wrap 19 = .ok (.iload 4, 2) := by decide +kernel
theorem dX0_wrap_21 : decode cX0_wrap 21 = .ok (.iload_n 3, 1) := by decide +kernel
theorem dX0_wrap_22 : decode cX0_wrap 22 = .ok (.ineg, 1) := by decide +kernel
theorem dX0_wrap_23 : decode cX0_wrap 23 = .ok (.invokevirtual 58, 3) := by decide +kernel
theorem dX0_wrap_26 : decode cX0_wrap 26 = .ok (.iload_n 2, 1) := by decide +kernel
theorem dX0_wrap_27 : decode cX0_wrap 27 = .ok (.invokestatic 62, 3) := by decide +kernel
theorem dX0_wrap_30 : decode cX0_wrap 30 = .ok (.istore 5, 2) := by decide +kernel
theorem dX0_wrap_32 : decode cX0_wrap 32 = .ok (.iload_n 1, 1) := by decide +kernel
theorem dX0_wrap_33 : decode cX0_wrap 33 = .ok (.invokestatic 62, 3) := by decide +kernel
theorem dX0_wrap_36 : decode cX0_wrap 36 = .ok (.ifCond .ne 15, 3) := by decide +kernel
theorem dX0_wrap_39 : decode cX0_wrap 39 = .ok (.iload 5, 2) := by decide +kernel
theorem dX0_wrap_41 : decode cX0_wrap 41 = .ok (.ifCond .eq 10, 3) := by decide +kernel
theorem dX0_wrap_44 : decode cX0_wrap 44 = .ok (.aload_n 0, 1) := by decide +kernel
theorem dX0_wrap_45 : decode cX0_wrap 45 = .ok (.iload 5, 2) := by decide +kernel
theorem dX0_wrap_47 : decode cX0_wrap 47 = .ok (.iload_n 3, 1) := by decide +kernel
theorem dX0_wrap_48 : decode cX0_wrap 48 = .ok (.invokevirtual 65, 3) := by decide +kernel
theorem dX0_wrap_51 : decode cX0_wrap 51 = .ok (.return_, 1) := by decide +kernel
abbrev cX0_demandFirst : ByteArray := prog_1_method_11_code
def yX0_demandFirst : MethodName := ⟨RX0, "demandFirst", "(II)V"⟩
theorem dX0_demandFirst_0 : decode cX0_demandFirst 0 = .ok (.aload_n 0, 1) := by decide +kernel
theorem dX0_demandFirst_1 : decode cX0_demandFirst 1 = .ok (.getfield 7, 3) := by decide +kernel
theorem dX0_demandFirst_4 : decode cX0_demandFirst 4 = .ok (.iconst 0, 1) := by decide +kernel
theorem dX0_demandFirst_5 : decode cX0_demandFirst 5 = .ok (.baload, 1) := by decide +kernel
theorem dX0_demandFirst_6 : decode cX0_demandFirst 6 = .ok (.ifCond .eq 37, 3) := by decide +kernel
theorem dX0_demandFirst_9 : decode cX0_demandFirst 9 = .ok (.aload_n 0, 1) := by decide +kernel
theorem dX0_demandFirst_10 : decode cX0_demandFirst 10 = .ok (.getfield 7, 3) := by decide +kernel
theorem dX0_demandFirst_13 : decode cX0_demandFirst 13 = .ok (.iconst 0, 1) := by decide +kernel
theorem dX0_demandFirst_14 : decode cX0_demandFirst 14 = .ok (.baload, 1) := by decide +kernel
theorem dX0_demandFirst_15 : decode cX0_demandFirst 15 = .ok (.iload_n 1, 1) := by decide +kernel
theorem dX0_demandFirst_16 : decode cX0_demandFirst 16 = .ok (.if_icmp .eq 27, 3) := by decide +kernel
theorem dX0_demandFirst_19 : decode cX0_demandFirst 19 = .ok (.aload_n 0, 1) := by decide +kernel
theorem dX0_demandFirst_20 : decode cX0_demandFirst 20 = .ok (.getfield 7, 3) := by decide +kernel
theorem dX0_demandFirst_23 : decode cX0_demandFirst 23 = .ok (.iconst 1, 1) := by decide +kernel
theorem dX0_demandFirst_24 : decode cX0_demandFirst 24 = .ok (.aload_n 0, 1) := by decide +kernel
theorem dX0_demandFirst_25 : decode cX0_demandFirst 25 = .ok (.getfield 7, 3) := by decide +kernel
theorem dX0_demandFirst_28 : decode cX0_demandFirst 28 = .ok (.iconst 0, 1) := by decide +kernel
theorem dX0_demandFirst_29 : decode cX0_demandFirst 29 = .ok (.baload, 1) := by decide +kernel
theorem dX0_demandFirst_30 : decode cX0_demandFirst 30 = .ok (.bastore, 1) := by decide +kernel
theorem dX0_demandFirst_31 : decode cX0_demandFirst 31 = .ok (.aload_n 0, 1) := by decide +kernel
theorem dX0_demandFirst_32 : decode cX0_demandFirst 32 = .ok (.getfield 13, 3) := by decide +kernel
theorem dX0_demandFirst_35 : decode cX0_demandFirst 35 = .ok (.iconst 1, 1) := by decide +kernel
theorem dX0_demandFirst_36 : decode cX0_demandFirst 36 = .ok (.aload_n 0, 1) := by decide +kernel
theorem dX0_demandFirst_37 : decode cX0_demandFirst 37 = .ok (.getfield 13, 3) := by decide +kernel
theorem dX0_demandFirst_40 : decode cX0_demandFirst 40 = .ok (.iconst 0, 1) := by decide +kernel
theorem dX0_demandFirst_41 : decode cX0_demandFirst 41 = .ok (.baload, 1) := by decide +kernel
theorem dX0_demandFirst_42 : decode cX0_demandFirst 42 = .ok (.bastore, 1) := by decide +kernel
theorem dX0_demandFirst_43 : decode cX0_demandFirst 43 = .ok (.aload_n 0, 1) := by decide +kernel
theorem dX0_demandFirst_44 : decode cX0_demandFirst 44 = .ok (.getfield 7, 3) := by decide +kernel
theorem dX0_demandFirst_47 : decode cX0_demandFirst 47 = .ok (.iconst 0, 1) := by decide +kernel
theorem dX0_demandFirst_48 : decode cX0_demandFirst 48 = .ok (.iload_n 1, 1) := by decide +kernel
theorem dX0_demandFirst_49 : decode cX0_demandFirst 49 = .ok (.i2b, 1) := by decide +kernel
theorem dX0_demandFirst_50 : decode cX0_demandFirst 50 = .ok (.bastore, 1) := by decide +kernel
theorem dX0_demandFirst_51 : decode cX0_demandFirst 51 = .ok (.aload_n 0, 1) := by decide +kernel
theorem dX0_demandFirst_52 : decode cX0_demandFirst 52 = .ok (.getfield 13, 3) := by decide +kernel
theorem dX0_demandFirst_55 : decode cX0_demandFirst 55 = .ok (.iconst 0, 1) := by decide +kernel
theorem dX0_demandFirst_56 : decode cX0_demandFirst 56 = .ok (.iload_n 2, 1) := by decide +kernel
theorem dX0_demandFirst_57 : decode cX0_demandFirst 57 = .ok (.i2b, 1) := by decide +kernel
theorem dX0_demandFirst_58 : decode cX0_demandFirst 58 = .ok (.bastore, 1) := by decide +kernel
theorem dX0_demandFirst_59 : decode cX0_demandFirst 59 = .ok (.return_, 1) := by decide +kernel
abbrev cX0_demandLast : ByteArray := prog_1_method_12_code
def yX0_demandLast : MethodName := ⟨RX0, "demandLast", "(II)V"⟩
theorem dX0_demandLast_0 : decode cX0_demandLast 0 = .ok (.aload_n 0, 1) := by decide +kernel
theorem dX0_demandLast_1 : decode cX0_demandLast 1 = .ok (.getfield 7, 3) := by decide +kernel
theorem dX0_demandLast_4 : decode cX0_demandLast 4 = .ok (.iconst 2, 1) := by decide +kernel
theorem dX0_demandLast_5 : decode cX0_demandLast 5 = .ok (.baload, 1) := by decide +kernel
theorem dX0_demandLast_6 : decode cX0_demandLast 6 = .ok (.ifCond .ne 22, 3) := by decide +kernel
theorem dX0_demandLast_9 : decode cX0_demandLast 9 = .ok (.aload_n 0, 1) := by decide +kernel
theorem dX0_demandLast_10 : decode cX0_demandLast 10 = .ok (.getfield 7, 3) := by decide +kernel
theorem dX0_demandLast_13 : decode cX0_demandLast 13 = .ok (.iconst 2, 1) := by decide +kernel
theorem dX0_demandLast_14 : decode cX0_demandLast 14 = .ok (.iload_n 1, 1) := by decide +kernel
theorem dX0_demandLast_15 : decode cX0_demandLast 15 = .ok (.i2b, 1) := by decide +kernel
theorem dX0_demandLast_16 : decode cX0_demandLast 16 = .ok (.bastore, 1) := by decide +kernel
theorem dX0_demandLast_17 : decode cX0_demandLast 17 = .ok (.aload_n 0, 1) := by decide +kernel
theorem dX0_demandLast_18 : decode cX0_demandLast 18 = .ok (.getfield 13, 3) := by decide +kernel
theorem dX0_demandLast_21 : decode cX0_demandLast 21 = .ok (.iconst 2, 1) := by decide +kernel
theorem dX0_demandLast_22 : decode cX0_demandLast 22 = .ok (.iload_n 2, 1) := by decide +kernel
theorem dX0_demandLast_23 : decode cX0_demandLast 23 = .ok (.i2b, 1) := by decide +kernel
theorem dX0_demandLast_24 : decode cX0_demandLast 24 = .ok (.bastore, 1) := by decide +kernel
theorem dX0_demandLast_25 : decode cX0_demandLast 25 = .ok (.goto 38, 3) := by decide +kernel
theorem dX0_demandLast_28 : decode cX0_demandLast 28 = .ok (.aload_n 0, 1) := by decide +kernel
theorem dX0_demandLast_29 : decode cX0_demandLast 29 = .ok (.getfield 7, 3) := by decide +kernel
theorem dX0_demandLast_32 : decode cX0_demandLast 32 = .ok (.iconst 2, 1) := by decide +kernel
theorem dX0_demandLast_33 : decode cX0_demandLast 33 = .ok (.baload, 1) := by decide +kernel
theorem dX0_demandLast_34 : decode cX0_demandLast 34 = .ok (.iload_n 1, 1) := by decide +kernel
theorem dX0_demandLast_35 : decode cX0_demandLast 35 = .ok (.if_icmp .eq 28, 3) := by decide +kernel
theorem dX0_demandLast_38 : decode cX0_demandLast 38 = .ok (.aload_n 0, 1) := by decide +kernel
theorem dX0_demandLast_39 : decode cX0_demandLast 39 = .ok (.getfield 7, 3) := by decide +kernel
theorem dX0_demandLast_42 : decode cX0_demandLast 42 = .ok (.iconst 3, 1) := by decide +kernel
theorem dX0_demandLast_43 : decode cX0_demandLast 43 = .ok (.baload, 1) := by decide +kernel
theorem dX0_demandLast_44 : decode cX0_demandLast 44 = .ok (.ifCond .ne 19, 3) := by decide +kernel
theorem dX0_demandLast_47 : decode cX0_demandLast 47 = .ok (.aload_n 0, 1) := by decide +kernel
theorem dX0_demandLast_48 : decode cX0_demandLast 48 = .ok (.getfield 7, 3) := by decide +kernel
theorem dX0_demandLast_51 : decode cX0_demandLast 51 = .ok (.iconst 3, 1) := by decide +kernel
theorem dX0_demandLast_52 : decode cX0_demandLast 52 = .ok (.iload_n 1, 1) := by decide +kernel
theorem dX0_demandLast_53 : decode cX0_demandLast 53 = .ok (.i2b, 1) := by decide +kernel
theorem dX0_demandLast_54 : decode cX0_demandLast 54 = .ok (.bastore, 1) := by decide +kernel
theorem dX0_demandLast_55 : decode cX0_demandLast 55 = .ok (.aload_n 0, 1) := by decide +kernel
theorem dX0_demandLast_56 : decode cX0_demandLast 56 = .ok (.getfield 13, 3) := by decide +kernel
theorem dX0_demandLast_59 : decode cX0_demandLast 59 = .ok (.iconst 3, 1) := by decide +kernel
theorem dX0_demandLast_60 : decode cX0_demandLast 60 = .ok (.iload_n 2, 1) := by decide +kernel
theorem dX0_demandLast_61 : decode cX0_demandLast 61 = .ok (.i2b, 1) := by decide +kernel
theorem dX0_demandLast_62 : decode cX0_demandLast 62 = .ok (.bastore, 1) := by decide +kernel
theorem dX0_demandLast_63 : decode cX0_demandLast 63 = .ok (.return_, 1) := by decide +kernel
abbrev cX0_type : ByteArray := prog_1_method_10_code
def yX0_type : MethodName := ⟨RX0, "type", "()I"⟩
theorem dX0_type_0 : decode cX0_type 0 = .ok (.aload_n 0, 1) := by decide +kernel
theorem dX0_type_1 : decode cX0_type 1 = .ok (.getfield 16, 3) := by decide +kernel
theorem dX0_type_4 : decode cX0_type 4 = .ok (.ifCond .eq 10, 3) := by decide +kernel
theorem dX0_type_7 : decode cX0_type 7 = .ok (.aload_n 0, 1) := by decide +kernel
theorem dX0_type_8 : decode cX0_type 8 = .ok (.getfield 34, 3) := by decide +kernel
theorem dX0_type_11 : decode cX0_type 11 = .ok (.goto 5, 3) := by decide +kernel
theorem dX0_type_14 : decode cX0_type 14 = .ok (.bipush (-100), 2) := by decide +kernel
theorem dX0_type_16 : decode cX0_type 16 = .ok (.ireturn, 1) := by decide +kernel
abbrev cX0_kind : ByteArray := prog_1_method_14_code
def yX0_kind : MethodName := ⟨RX0, "kind", "()I"⟩
theorem dX0_kind_0 : decode cX0_kind 0 = .ok (.aload_n 0, 1) := by decide +kernel
theorem dX0_kind_1 : decode cX0_kind 1 = .ok (.getfield 16, 3) := by decide +kernel
theorem dX0_kind_4 : decode cX0_kind 4 = .ok (.ifCond .eq 10, 3) := by decide +kernel
theorem dX0_kind_7 : decode cX0_kind 7 = .ok (.aload_n 0, 1) := by decide +kernel
theorem dX0_kind_8 : decode cX0_kind 8 = .ok (.getfield 23, 3) := by decide +kernel
theorem dX0_kind_11 : decode cX0_kind 11 = .ok (.goto 5, 3) := by decide +kernel
theorem dX0_kind_14 : decode cX0_kind 14 = .ok (.bipush (-100), 2) := by decide +kernel
theorem dX0_kind_16 : decode cX0_kind 16 = .ok (.ireturn, 1) := by decide +kernel
abbrev cX0_raw : ByteArray := prog_1_method_17_code
def yX0_raw : MethodName := ⟨RX0, "raw", "()I"⟩
theorem dX0_raw_0 : decode cX0_raw 0 = .ok (.aload_n 0, 1) := by decide +kernel
theorem dX0_raw_1 : decode cX0_raw 1 = .ok (.getfield 16, 3) := by decide +kernel
theorem dX0_raw_4 : decode cX0_raw 4 = .ok (.ifCond .eq 10, 3) := by decide +kernel
theorem dX0_raw_7 : decode cX0_raw 7 = .ok (.aload_n 0, 1) := by decide +kernel
theorem dX0_raw_8 : decode cX0_raw 8 = .ok (.getfield 27, 3) := by decide +kernel
theorem dX0_raw_11 : decode cX0_raw 11 = .ok (.goto 4, 3) := by decide +kernel
theorem dX0_raw_14 : decode cX0_raw 14 = .ok (.iconst 0, 1) := by decide +kernel
theorem dX0_raw_15 : decode cX0_raw 15 = .ok (.ireturn, 1) := by decide +kernel
abbrev cX0_call : ByteArray := prog_1_method_18_code
def yX0_call : MethodName := ⟨RX0, "call", "(II)I"⟩
theorem dX0_call_0 : decode cX0_call 0 = .ok (.iload_n 1, 1) := by decide +kernel
theorem dX0_call_1 : decode cX0_call 1 = .ok (.ifCond .eq 17, 3) := by decide +kernel
theorem dX0_call_4 : decode cX0_call 4 = .ok (.iload_n 1, 1) := by decide +kernel
theorem dX0_call_5 : decode cX0_call 5 = .ok (.iconst 1, 1) := by decide +kernel
theorem dX0_call_6 : decode cX0_call 6 = .ok (.if_icmp .ne 16, 3) := by decide +kernel
theorem dX0_call_9 : decode cX0_call 9 = .ok (.iload_n 2, 1) := by decide +kernel
theorem dX0_call_10 : decode cX0_call 10 = .ok (.ifCond .eq 8, 3) := by decide +kernel
theorem dX0_call_13 : decode cX0_call 13 = .ok (.iload_n 2, 1) := by decide +kernel
theorem dX0_call_14 : decode cX0_call 14 = .ok (.iconst 1, 1) := by decide +kernel
theorem dX0_call_15 : decode cX0_call 15 = .ok (.if_icmp .ne 7, 3) := by decide +kernel
theorem dX0_call_18 : decode cX0_call 18 = .ok (.iconst 1, 1) := by decide +kernel
theorem dX0_call_19 : decode cX0_call 19 = .ok (.goto 4, 3) := by decide +kernel
theorem dX0_call_22 : decode cX0_call 22 = .ok (.iconst 0, 1) := by decide +kernel
theorem dX0_call_23 : decode cX0_call 23 = .ok (.istore_n 3, 1) := by decide +kernel
theorem dX0_call_24 : decode cX0_call 24 = .ok (.aload_n 0, 1) := by decide +kernel
theorem dX0_call_25 : decode cX0_call 25 = .ok (.getfield 16, 3) := by decide +kernel
theorem dX0_call_28 : decode cX0_call 28 = .ok (.ifCond .eq 17, 3) := by decide +kernel
theorem dX0_call_31 : decode cX0_call 31 = .ok (.aload_n 0, 1) := by decide +kernel
theorem dX0_call_32 : decode cX0_call 32 = .ok (.getfield 34, 3) := by decide +kernel
theorem dX0_call_35 : decode cX0_call 35 = .ok (.invokestatic 45, 3) := by decide +kernel
theorem dX0_call_38 : decode cX0_call 38 = .ok (.ifCond .eq 7, 3) := by decide +kernel
theorem dX0_call_41 : decode cX0_call 41 = .ok (.iload_n 3, 1) := by decide +kernel
theorem dX0_call_42 : decode cX0_call 42 = .ok (.ifCond .ne 6, 3) := by decide +kernel
theorem dX0_call_45 : decode cX0_call 45 = .ok (.bipush (-100), 2) := by decide +kernel
theorem dX0_call_47 : decode cX0_call 47 = .ok (.ireturn, 1) := by decide +kernel
theorem dX0_call_48 : decode cX0_call 48 = .ok (.aload_n 0, 1) := by decide +kernel
theorem dX0_call_49 : decode cX0_call 49 = .ok (.getfield 34, 3) := by decide +kernel
theorem dX0_call_52 : decode cX0_call 52 = .ok (.invokestatic 55, 3) := by decide +kernel
theorem dX0_call_55 : decode cX0_call 55 = .ok (.istore 4, 2) := by decide +kernel
theorem dX0_call_57 : decode cX0_call 57 = .ok (.iload 4, 2) := by decide +kernel
theorem dX0_call_59 : decode cX0_call 59 = .ok (.ifCond .eq 14, 3) := by decide +kernel
theorem dX0_call_62 : decode cX0_call 62 = .ok (.iload 4, 2) := by decide +kernel
theorem dX0_call_64 : decode cX0_call 64 = .ok (.iload_n 1, 1) := by decide +kernel
theorem dX0_call_65 : decode cX0_call 65 = .ok (.iconst 1, 1) := by decide +kernel
theorem dX0_call_66 : decode cX0_call 66 = .ok (.iadd, 1) := by decide +kernel
theorem dX0_call_67 : decode cX0_call 67 = .ok (.if_icmp .eq 6, 3) := by decide +kernel
theorem dX0_call_70 : decode cX0_call 70 = .ok (.bipush (-100), 2) := by decide +kernel
theorem dX0_call_72 : decode cX0_call 72 = .ok (.ireturn, 1) := by decide +kernel
theorem dX0_call_73 : decode cX0_call 73 = .ok (.aload_n 0, 1) := by decide +kernel
theorem dX0_call_74 : decode cX0_call 74 = .ok (.iconst 0, 1) := by decide +kernel
theorem dX0_call_75 : decode cX0_call 75 = .ok (.iload_n 1, 1) := by decide +kernel
theorem dX0_call_76 : decode cX0_call 76 = .ok (.invokevirtual 68, 3) := by decide +kernel
theorem dX0_call_79 : decode cX0_call 79 = .ok (.istore 5, 2) := by decide +kernel
theorem dX0_call_81 : decode cX0_call 81 = .ok (.iload 5, 2) := by decide +kernel
theorem dX0_call_83 : decode cX0_call 83 = .ok (.ifCond .eq 6, 3) := by decide +kernel
theorem dX0_call_86 : decode cX0_call 86 = .ok (.iload 5, 2) := by decide +kernel
theorem dX0_call_88 : decode cX0_call 88 = .ok (.ireturn, 1) := by decide +kernel
theorem dX0_call_89 : decode cX0_call 89 = .ok (.aload_n 0, 1) := by decide +kernel
theorem dX0_call_90 : decode cX0_call 90 = .ok (.iload_n 1, 1) := by decide +kernel
theorem dX0_call_91 : decode cX0_call 91 = .ok (.invokevirtual 72, 3) := by decide +kernel
theorem dX0_call_94 : decode cX0_call 94 = .ok (.istore 6, 2) := by decide +kernel
theorem dX0_call_96 : decode cX0_call 96 = .ok (.aload_n 0, 1) := by decide +kernel
theorem dX0_call_97 : decode cX0_call 97 = .ok (.iconst 2, 1) := by decide +kernel
theorem dX0_call_98 : decode cX0_call 98 = .ok (.iload 6, 2) := by decide +kernel
theorem dX0_call_100 : decode cX0_call 100 = .ok (.invokevirtual 68, 3) := by decide +kernel
theorem dX0_call_103 : decode cX0_call 103 = .ok (.istore 5, 2) := by decide +kernel
theorem dX0_call_105 : decode cX0_call 105 = .ok (.iload 5, 2) := by decide +kernel
theorem dX0_call_107 : decode cX0_call 107 = .ok (.ifCond .ne 23, 3) := by decide +kernel
theorem dX0_call_110 : decode cX0_call 110 = .ok (.aload_n 0, 1) := by decide +kernel
theorem dX0_call_111 : decode cX0_call 111 = .ok (.iconst 1, 1) := by decide +kernel
theorem dX0_call_112 : decode cX0_call 112 = .ok (.putfield 20, 3) := by decide +kernel
theorem dX0_call_115 : decode cX0_call 115 = .ok (.aload_n 0, 1) := by decide +kernel
theorem dX0_call_116 : decode cX0_call 116 = .ok (.iload 6, 2) := by decide +kernel
theorem dX0_call_118 : decode cX0_call 118 = .ok (.putfield 75, 3) := by decide +kernel
theorem dX0_call_121 : decode cX0_call 121 = .ok (.aload_n 0, 1) := by decide +kernel
theorem dX0_call_122 : decode cX0_call 122 = .ok (.aload_n 0, 1) := by decide +kernel
theorem dX0_call_123 : decode cX0_call 123 = .ok (.iload_n 2, 1) := by decide +kernel
theorem dX0_call_124 : decode cX0_call 124 = .ok (.invokevirtual 78, 3) := by decide +kernel
theorem dX0_call_127 : decode cX0_call 127 = .ok (.putfield 81, 3) := by decide +kernel
theorem dX0_call_130 : decode cX0_call 130 = .ok (.iload 5, 2) := by decide +kernel
theorem dX0_call_132 : decode cX0_call 132 = .ok (.ireturn, 1) := by decide +kernel
abbrev cX0_meet : ByteArray := prog_1_method_13_code
def yX0_meet : MethodName := ⟨RX0, "meet", "(II)I"⟩
theorem dX0_meet_0 : decode cX0_meet 0 = .ok (.iload_n 2, 1) := by decide +kernel
theorem dX0_meet_1 : decode cX0_meet 1 = .ok (.iconst 1, 1) := by decide +kernel
theorem dX0_meet_2 : decode cX0_meet 2 = .ok (.iadd, 1) := by decide +kernel
theorem dX0_meet_3 : decode cX0_meet 3 = .ok (.istore_n 3, 1) := by decide +kernel
theorem dX0_meet_4 : decode cX0_meet 4 = .ok (.aload_n 0, 1) := by decide +kernel
theorem dX0_meet_5 : decode cX0_meet 5 = .ok (.getfield 7, 3) := by decide +kernel
theorem dX0_meet_8 : decode cX0_meet 8 = .ok (.iload_n 1, 1) := by decide +kernel
theorem dX0_meet_9 : decode cX0_meet 9 = .ok (.baload, 1) := by decide +kernel
theorem dX0_meet_10 : decode cX0_meet 10 = .ok (.ifCond .ne 5, 3) := by decide +kernel
theorem dX0_meet_13 : decode cX0_meet 13 = .ok (.iconst 0, 1) := by decide +kernel
theorem dX0_meet_14 : decode cX0_meet 14 = .ok (.ireturn, 1) := by decide +kernel
theorem dX0_meet_15 : decode cX0_meet 15 = .ok (.aload_n 0, 1) := by decide +kernel
theorem dX0_meet_16 : decode cX0_meet 16 = .ok (.getfield 7, 3) := by decide +kernel
theorem dX0_meet_19 : decode cX0_meet 19 = .ok (.iload_n 1, 1) := by decide +kernel
theorem dX0_meet_20 : decode cX0_meet 20 = .ok (.baload, 1) := by decide +kernel
theorem dX0_meet_21 : decode cX0_meet 21 = .ok (.iload_n 3, 1) := by decide +kernel
theorem dX0_meet_22 : decode cX0_meet 22 = .ok (.if_icmp .eq 10, 3) := by decide +kernel
theorem dX0_meet_25 : decode cX0_meet 25 = .ok (.aload_n 0, 1) := by decide +kernel
theorem dX0_meet_26 : decode cX0_meet 26 = .ok (.getfield 13, 3) := by decide +kernel
theorem dX0_meet_29 : decode cX0_meet 29 = .ok (.iload_n 1, 1) := by decide +kernel
theorem dX0_meet_30 : decode cX0_meet 30 = .ok (.baload, 1) := by decide +kernel
theorem dX0_meet_31 : decode cX0_meet 31 = .ok (.ireturn, 1) := by decide +kernel
theorem dX0_meet_32 : decode cX0_meet 32 = .ok (.aload_n 0, 1) := by decide +kernel
theorem dX0_meet_33 : decode cX0_meet 33 = .ok (.getfield 7, 3) := by decide +kernel
theorem dX0_meet_36 : decode cX0_meet 36 = .ok (.iload_n 1, 1) := by decide +kernel
theorem dX0_meet_37 : decode cX0_meet 37 = .ok (.iconst 1, 1) := by decide +kernel
theorem dX0_meet_38 : decode cX0_meet 38 = .ok (.iadd, 1) := by decide +kernel
theorem dX0_meet_39 : decode cX0_meet 39 = .ok (.baload, 1) := by decide +kernel
theorem dX0_meet_40 : decode cX0_meet 40 = .ok (.ifCond .eq 14, 3) := by decide +kernel
theorem dX0_meet_43 : decode cX0_meet 43 = .ok (.aload_n 0, 1) := by decide +kernel
theorem dX0_meet_44 : decode cX0_meet 44 = .ok (.getfield 13, 3) := by decide +kernel
theorem dX0_meet_47 : decode cX0_meet 47 = .ok (.iload_n 1, 1) := by decide +kernel
theorem dX0_meet_48 : decode cX0_meet 48 = .ok (.iconst 1, 1) := by decide +kernel
theorem dX0_meet_49 : decode cX0_meet 49 = .ok (.iadd, 1) := by decide +kernel
theorem dX0_meet_50 : decode cX0_meet 50 = .ok (.baload, 1) := by decide +kernel
theorem dX0_meet_51 : decode cX0_meet 51 = .ok (.goto 4, 3) := by decide +kernel
theorem dX0_meet_54 : decode cX0_meet 54 = .ok (.iconst 0, 1) := by decide +kernel
theorem dX0_meet_55 : decode cX0_meet 55 = .ok (.ireturn, 1) := by decide +kernel
abbrev cX0_givenKind : ByteArray := prog_1_method_20_code
def yX0_givenKind : MethodName := ⟨RX0, "givenKind", "(I)I"⟩
theorem dX0_givenKind_0 : decode cX0_givenKind 0 = .ok (.aload_n 0, 1) := by decide +kernel
theorem dX0_givenKind_1 : decode cX0_givenKind 1 = .ok (.getfield 27, 3) := by decide +kernel
theorem dX0_givenKind_4 : decode cX0_givenKind 4 = .ok (.iconst 1, 1) := by decide +kernel
theorem dX0_givenKind_5 : decode cX0_givenKind 5 = .ok (.if_icmp .ne 5, 3) := by decide +kernel
theorem dX0_givenKind_8 : decode cX0_givenKind 8 = .ok (.iload_n 1, 1) := by decide +kernel
theorem dX0_givenKind_9 : decode cX0_givenKind 9 = .ok (.ireturn, 1) := by decide +kernel
theorem dX0_givenKind_10 : decode cX0_givenKind 10 = .ok (.aload_n 0, 1) := by decide +kernel
theorem dX0_givenKind_11 : decode cX0_givenKind 11 = .ok (.getfield 27, 3) := by decide +kernel
theorem dX0_givenKind_14 : decode cX0_givenKind 14 = .ok (.iconst 2, 1) := by decide +kernel
theorem dX0_givenKind_15 : decode cX0_givenKind 15 = .ok (.if_icmp .eq 11, 3) := by decide +kernel
theorem dX0_givenKind_18 : decode cX0_givenKind 18 = .ok (.aload_n 0, 1) := by decide +kernel
theorem dX0_givenKind_19 : decode cX0_givenKind 19 = .ok (.getfield 27, 3) := by decide +kernel
theorem dX0_givenKind_22 : decode cX0_givenKind 22 = .ok (.iconst 3, 1) := by decide +kernel
theorem dX0_givenKind_23 : decode cX0_givenKind 23 = .ok (.if_icmp .ne 7, 3) := by decide +kernel
theorem dX0_givenKind_26 : decode cX0_givenKind 26 = .ok (.iconst 1, 1) := by decide +kernel
theorem dX0_givenKind_27 : decode cX0_givenKind 27 = .ok (.goto 4, 3) := by decide +kernel
theorem dX0_givenKind_30 : decode cX0_givenKind 30 = .ok (.iconst 0, 1) := by decide +kernel
theorem dX0_givenKind_31 : decode cX0_givenKind 31 = .ok (.ireturn, 1) := by decide +kernel
abbrev cX0_given : ByteArray := prog_1_method_21_code
def yX0_given : MethodName := ⟨RX0, "given", "(I)I"⟩
theorem dX0_given_0 : decode cX0_given 0 = .ok (.aload_n 0, 1) := by decide +kernel
theorem dX0_given_1 : decode cX0_given 1 = .ok (.getfield 27, 3) := by decide +kernel
theorem dX0_given_4 : decode cX0_given 4 = .ok (.ifCond .ne 7, 3) := by decide +kernel
theorem dX0_given_7 : decode cX0_given 7 = .ok (.iload_n 1, 1) := by decide +kernel
theorem dX0_given_8 : decode cX0_given 8 = .ok (.iconst 1, 1) := by decide +kernel
theorem dX0_given_9 : decode cX0_given 9 = .ok (.iadd, 1) := by decide +kernel
theorem dX0_given_10 : decode cX0_given 10 = .ok (.ireturn, 1) := by decide +kernel
theorem dX0_given_11 : decode cX0_given 11 = .ok (.aload_n 0, 1) := by decide +kernel
theorem dX0_given_12 : decode cX0_given 12 = .ok (.getfield 27, 3) := by decide +kernel
theorem dX0_given_15 : decode cX0_given 15 = .ok (.iconst 2, 1) := by decide +kernel
theorem dX0_given_16 : decode cX0_given 16 = .ok (.if_icmp .ne 7, 3) := by decide +kernel
theorem dX0_given_19 : decode cX0_given 19 = .ok (.iconst 1, 1) := by decide +kernel
theorem dX0_given_20 : decode cX0_given 20 = .ok (.iload_n 1, 1) := by decide +kernel
theorem dX0_given_21 : decode cX0_given 21 = .ok (.isub, 1) := by decide +kernel
theorem dX0_given_22 : decode cX0_given 22 = .ok (.ireturn, 1) := by decide +kernel
theorem dX0_given_23 : decode cX0_given 23 = .ok (.aload_n 0, 1) := by decide +kernel
theorem dX0_given_24 : decode cX0_given 24 = .ok (.getfield 27, 3) := by decide +kernel
theorem dX0_given_27 : decode cX0_given 27 = .ok (.iconst 3, 1) := by decide +kernel
theorem dX0_given_28 : decode cX0_given 28 = .ok (.if_icmp .ne 13, 3) := by decide +kernel
theorem dX0_given_31 : decode cX0_given 31 = .ok (.iload_n 1, 1) := by decide +kernel
theorem dX0_given_32 : decode cX0_given 32 = .ok (.ifCond .le 7, 3) := by decide +kernel
theorem dX0_given_35 : decode cX0_given 35 = .ok (.iconst 1, 1) := by decide +kernel
theorem dX0_given_36 : decode cX0_given 36 = .ok (.goto 4, 3) := by decide +kernel
theorem dX0_given_39 : decode cX0_given 39 = .ok (.iconst 0, 1) := by decide +kernel
theorem dX0_given_40 : decode cX0_given 40 = .ok (.ireturn, 1) := by decide +kernel
theorem dX0_given_41 : decode cX0_given 41 = .ok (.aload_n 0, 1) := by decide +kernel
theorem dX0_given_42 : decode cX0_given 42 = .ok (.getfield 27, 3) := by decide +kernel
theorem dX0_given_45 : decode cX0_given 45 = .ok (.iconst 4, 1) := by decide +kernel
theorem dX0_given_46 : decode cX0_given 46 = .ok (.if_icmp .ne 8, 3) := by decide +kernel
theorem dX0_given_49 : decode cX0_given 49 = .ok (.bipush 7, 2) := by decide +kernel
theorem dX0_given_51 : decode cX0_given 51 = .ok (.goto 4, 3) := by decide +kernel
theorem dX0_given_54 : decode cX0_given 54 = .ok (.iload_n 1, 1) := by decide +kernel
theorem dX0_given_55 : decode cX0_given 55 = .ok (.ireturn, 1) := by decide +kernel
abbrev cX0_resultKind : ByteArray := prog_1_method_19_code
def yX0_resultKind : MethodName := ⟨RX0, "resultKind", "()I"⟩
theorem dX0_resultKind_0 : decode cX0_resultKind 0 = .ok (.aload_n 0, 1) := by decide +kernel
theorem dX0_resultKind_1 : decode cX0_resultKind 1 = .ok (.getfield 20, 3) := by decide +kernel
theorem dX0_resultKind_4 : decode cX0_resultKind 4 = .ok (.ifCond .eq 10, 3) := by decide +kernel
theorem dX0_resultKind_7 : decode cX0_resultKind 7 = .ok (.aload_n 0, 1) := by decide +kernel
theorem dX0_resultKind_8 : decode cX0_resultKind 8 = .ok (.getfield 75, 3) := by decide +kernel
theorem dX0_resultKind_11 : decode cX0_resultKind 11 = .ok (.goto 5, 3) := by decide +kernel
theorem dX0_resultKind_14 : decode cX0_resultKind 14 = .ok (.bipush (-100), 2) := by decide +kernel
theorem dX0_resultKind_16 : decode cX0_resultKind 16 = .ok (.ireturn, 1) := by decide +kernel
abbrev cX0_result : ByteArray := prog_1_method_22_code
def yX0_result : MethodName := ⟨RX0, "result", "()I"⟩
theorem dX0_result_0 : decode cX0_result 0 = .ok (.aload_n 0, 1) := by decide +kernel
theorem dX0_result_1 : decode cX0_result 1 = .ok (.getfield 20, 3) := by decide +kernel
theorem dX0_result_4 : decode cX0_result 4 = .ok (.ifCond .eq 10, 3) := by decide +kernel
theorem dX0_result_7 : decode cX0_result 7 = .ok (.aload_n 0, 1) := by decide +kernel
theorem dX0_result_8 : decode cX0_result 8 = .ok (.getfield 81, 3) := by decide +kernel
theorem dX0_result_11 : decode cX0_result 11 = .ok (.goto 4, 3) := by decide +kernel
theorem dX0_result_14 : decode cX0_result 14 = .ok (.iconst 0, 1) := by decide +kernel
theorem dX0_result_15 : decode cX0_result 15 = .ok (.ireturn, 1) := by decide +kernel
abbrev cX0_agreeing : ByteArray := prog_1_method_24_code
def yX0_agreeing : MethodName := ⟨RX0, "agreeing", "(I)I"⟩
theorem dX0_agreeing_0 : decode cX0_agreeing 0 = .ok (.iload_n 1, 1) := by decide +kernel
theorem dX0_agreeing_1 : decode cX0_agreeing 1 = .ok (.invokestatic 37, 3) := by decide +kernel
theorem dX0_agreeing_4 : decode cX0_agreeing 4 = .ok (.ifCond .ne 6, 3) := by decide +kernel
theorem dX0_agreeing_7 : decode cX0_agreeing 7 = .ok (.bipush (-100), 2) := by decide +kernel
theorem dX0_agreeing_9 : decode cX0_agreeing 9 = .ok (.ireturn, 1) := by decide +kernel
theorem dX0_agreeing_10 : decode cX0_agreeing 10 = .ok (.iconst 0, 1) := by decide +kernel
theorem dX0_agreeing_11 : decode cX0_agreeing 11 = .ok (.istore_n 2, 1) := by decide +kernel
theorem dX0_agreeing_12 : decode cX0_agreeing 12 = .ok (.iconst 0, 1) := by decide +kernel
theorem dX0_agreeing_13 : decode cX0_agreeing 13 = .ok (.istore_n 3, 1) := by decide +kernel
theorem dX0_agreeing_14 : decode cX0_agreeing 14 = .ok (.iload_n 3, 1) := by decide +kernel
theorem dX0_agreeing_15 : decode cX0_agreeing 15 = .ok (.bipush 12, 2) := by decide +kernel
theorem dX0_agreeing_17 : decode cX0_agreeing 17 = .ok (.if_icmp .ge 26, 3) := by decide +kernel
theorem dX0_agreeing_20 : decode cX0_agreeing 20 = .ok (.iload_n 2, 1) := by decide +kernel
theorem dX0_agreeing_21 : decode cX0_agreeing 21 = .ok (.aload_n 0, 1) := by decide +kernel
theorem dX0_agreeing_22 : decode cX0_agreeing 22 = .ok (.iload_n 3, 1) := by decide +kernel
theorem dX0_agreeing_23 : decode cX0_agreeing 23 = .ok (.iload_n 1, 1) := by decide +kernel
theorem dX0_agreeing_24 : decode cX0_agreeing 24 = .ok (.invokevirtual 41, 3) := by decide +kernel
theorem dX0_agreeing_27 : decode cX0_agreeing 27 = .ok (.ifCond .eq 7, 3) := by decide +kernel
theorem dX0_agreeing_30 : decode cX0_agreeing 30 = .ok (.iconst 1, 1) := by decide +kernel
theorem dX0_agreeing_31 : decode cX0_agreeing 31 = .ok (.goto 4, 3) := by decide +kernel
theorem dX0_agreeing_34 : decode cX0_agreeing 34 = .ok (.iconst 0, 1) := by decide +kernel
theorem dX0_agreeing_35 : decode cX0_agreeing 35 = .ok (.iadd, 1) := by decide +kernel
theorem dX0_agreeing_36 : decode cX0_agreeing 36 = .ok (.istore_n 2, 1) := by decide +kernel
theorem dX0_agreeing_37 : decode cX0_agreeing 37 = .ok (.iinc 3 1, 3) := by decide +kernel
theorem dX0_agreeing_40 : decode cX0_agreeing 40 = .ok (.goto (-26), 3) := by decide +kernel
theorem dX0_agreeing_43 : decode cX0_agreeing 43 = .ok (.iload_n 2, 1) := by decide +kernel
theorem dX0_agreeing_44 : decode cX0_agreeing 44 = .ok (.ireturn, 1) := by decide +kernel
theorem q15 : (Jvm.Cond.initialized "CoercionDesk") ∈ lw_all := lw_g (lw_at lw_m0 1 rfl) rfl
theorem q18 : (Jvm.Cond.instantiable "CoercionDesk" (9 : Nat)) ∈ lw_all := lw_g (lw_at lw_m0 4 rfl) rfl
theorem q20 : (Jvm.Cond.instanceMethod ({ cls := "CoercionDesk", name := "<init>", desc := "()V" } : Jvm.MethodName)) ∈ lw_all := lw_g (lw_at lw_m0 6 rfl) rfl
theorem q21 : (Jvm.Cond.code ({ cls := "CoercionDesk", name := "<init>", desc := "()V" } : Jvm.MethodName) prog_1_method_1_code (1 : Nat) (Option.none : Option Jvm.ClassFile.FieldType)) ∈ lw_all := lw_g (lw_at lw_m0 7 rfl) rfl
theorem q22 : (Jvm.Cond.methodLink "CoercionDesk" (1 : Nat) ({ cls := "java/lang/Object", name := "<init>", desc := "()V" } : Jvm.MethodName)) ∈ lw_all := lw_g (lw_at lw_m0 8 rfl) rfl
theorem q25 : (Jvm.Cond.fieldLink "CoercionDesk" (16 : Nat) "CoercionDesk" "there" "Z") ∈ lw_all := lw_g (lw_at lw_m0 11 rfl) rfl
theorem q26 : (Jvm.Cond.fieldLink "CoercionDesk" (34 : Nat) "CoercionDesk" "type" "I") ∈ lw_all := lw_g (lw_at lw_m0 12 rfl) rfl
theorem q27 : (Jvm.Cond.fieldLink "CoercionDesk" (23 : Nat) "CoercionDesk" "kind" "I") ∈ lw_all := lw_g (lw_at lw_m0 13 rfl) rfl
theorem q28 : (Jvm.Cond.fieldLink "CoercionDesk" (27 : Nat) "CoercionDesk" "raw" "I") ∈ lw_all := lw_g (lw_at lw_m0 14 rfl) rfl
theorem q29 : (Jvm.Cond.fieldLink "CoercionDesk" (7 : Nat) "CoercionDesk" "wanted" "[B") ∈ lw_all := lw_g (lw_at lw_m0 15 rfl) rfl
theorem q30 : (Jvm.Cond.fieldLink "CoercionDesk" (13 : Nat) "CoercionDesk" "blamed" "[B") ∈ lw_all := lw_g (lw_at lw_m0 16 rfl) rfl
theorem q31 : (Jvm.Cond.fieldLink "CoercionDesk" (20 : Nat) "CoercionDesk" "called" "Z") ∈ lw_all := lw_g (lw_at lw_m0 17 rfl) rfl
theorem q32 : (Jvm.Cond.fieldLink "CoercionDesk" (75 : Nat) "CoercionDesk" "resultKind" "I") ∈ lw_all := lw_g (lw_at lw_m0 18 rfl) rfl
theorem q33 : (Jvm.Cond.fieldLink "CoercionDesk" (81 : Nat) "CoercionDesk" "result" "I") ∈ lw_all := lw_g (lw_at lw_m0 19 rfl) rfl
theorem q34 : (Jvm.Cond.lays "CoercionDesk" "CoercionDesk" "there" "Z") ∈ lw_all := lw_g (lw_at lw_m0 20 rfl) rfl
theorem q35 : (Jvm.Cond.soleField "CoercionDesk" "there") ∈ lw_all := lw_g (lw_at lw_m0 21 rfl) rfl
theorem q36 : (Jvm.Cond.lays "CoercionDesk" "CoercionDesk" "type" "I") ∈ lw_all := lw_g (lw_at lw_m0 22 rfl) rfl
theorem q37 : (Jvm.Cond.soleField "CoercionDesk" "type") ∈ lw_all := lw_g (lw_at lw_m0 23 rfl) rfl
theorem q38 : (Jvm.Cond.lays "CoercionDesk" "CoercionDesk" "kind" "I") ∈ lw_all := lw_g (lw_at lw_m0 24 rfl) rfl
theorem q39 : (Jvm.Cond.soleField "CoercionDesk" "kind") ∈ lw_all := lw_g (lw_at lw_m0 25 rfl) rfl
theorem q40 : (Jvm.Cond.lays "CoercionDesk" "CoercionDesk" "raw" "I") ∈ lw_all := lw_g (lw_at lw_m0 26 rfl) rfl
theorem q41 : (Jvm.Cond.soleField "CoercionDesk" "raw") ∈ lw_all := lw_g (lw_at lw_m0 27 rfl) rfl
theorem q42 : (Jvm.Cond.laysFinal "CoercionDesk" "CoercionDesk" "wanted" "[B") ∈ lw_all := lw_g (lw_at lw_m0 28 rfl) rfl
theorem q43 : (Jvm.Cond.soleField "CoercionDesk" "wanted") ∈ lw_all := lw_g (lw_at lw_m0 29 rfl) rfl
theorem q44 : (Jvm.Cond.laysFinal "CoercionDesk" "CoercionDesk" "blamed" "[B") ∈ lw_all := lw_g (lw_at lw_m0 30 rfl) rfl
theorem q45 : (Jvm.Cond.soleField "CoercionDesk" "blamed") ∈ lw_all := lw_g (lw_at lw_m0 31 rfl) rfl
theorem q46 : (Jvm.Cond.lays "CoercionDesk" "CoercionDesk" "called" "Z") ∈ lw_all := lw_g (lw_at lw_m0 32 rfl) rfl
theorem q47 : (Jvm.Cond.soleField "CoercionDesk" "called") ∈ lw_all := lw_g (lw_at lw_m0 33 rfl) rfl
theorem q48 : (Jvm.Cond.lays "CoercionDesk" "CoercionDesk" "resultKind" "I") ∈ lw_all := lw_g (lw_at lw_m0 34 rfl) rfl
theorem q49 : (Jvm.Cond.soleField "CoercionDesk" "resultKind") ∈ lw_all := lw_g (lw_at lw_m0 35 rfl) rfl
theorem q50 : (Jvm.Cond.lays "CoercionDesk" "CoercionDesk" "result" "I") ∈ lw_all := lw_g (lw_at lw_m0 36 rfl) rfl
theorem q51 : (Jvm.Cond.soleField "CoercionDesk" "result") ∈ lw_all := lw_g (lw_at lw_m0 37 rfl) rfl
theorem q52 : (Jvm.Cond.superclass "CoercionDesk" "java/lang/Object") ∈ lw_all := lw_g (lw_at lw_m0 38 rfl) rfl
theorem q55 : (Jvm.Cond.instanceMethod ({ cls := "CoercionDesk", name := "set", desc := "(II)I" } : Jvm.MethodName)) ∈ lw_all := lw_g (lw_at lw_m0 41 rfl) rfl
theorem q56 : (Jvm.Cond.selects "CoercionDesk" ({ cls := "CoercionDesk", name := "set", desc := "(II)I" } : Jvm.MethodName) ({ cls := "CoercionDesk", name := "set", desc := "(II)I" } : Jvm.MethodName)) ∈ lw_all := lw_g (lw_at lw_m0 42 rfl) rfl
theorem q57 : (Jvm.Cond.code ({ cls := "CoercionDesk", name := "set", desc := "(II)I" } : Jvm.MethodName) prog_1_method_7_code (5 : Nat) (Option.some Jvm.ClassFile.FieldType.int)) ∈ lw_all := lw_g (lw_at lw_m0 43 rfl) rfl
theorem q58 : (Jvm.Cond.methodLink "CoercionDesk" (30 : Nat) ({ cls := "CoercionDesk", name := "typeOfFunction", desc := "(I)I" } : Jvm.MethodName)) ∈ lw_all := lw_g (lw_at lw_m0 44 rfl) rfl
theorem q59 : (Jvm.Cond.static ({ cls := "CoercionDesk", name := "typeOfFunction", desc := "(I)I" } : Jvm.MethodName)) ∈ lw_all := lw_g (lw_at lw_m0 45 rfl) rfl
theorem q60 : (Jvm.Cond.code ({ cls := "CoercionDesk", name := "typeOfFunction", desc := "(I)I" } : Jvm.MethodName) prog_1_method_9_code (1 : Nat) (Option.some Jvm.ClassFile.FieldType.int)) ∈ lw_all := lw_g (lw_at lw_m0 46 rfl) rfl
theorem q62 : (Jvm.Cond.instanceMethod ({ cls := "CoercionDesk", name := "cast", desc := "(II)I" } : Jvm.MethodName)) ∈ lw_all := lw_g (lw_at lw_m0 48 rfl) rfl
theorem q63 : (Jvm.Cond.selects "CoercionDesk" ({ cls := "CoercionDesk", name := "cast", desc := "(II)I" } : Jvm.MethodName) ({ cls := "CoercionDesk", name := "cast", desc := "(II)I" } : Jvm.MethodName)) ∈ lw_all := lw_g (lw_at lw_m0 49 rfl) rfl
theorem q64 : (Jvm.Cond.code ({ cls := "CoercionDesk", name := "cast", desc := "(II)I" } : Jvm.MethodName) prog_1_method_8_code (4 : Nat) (Option.some Jvm.ClassFile.FieldType.int)) ∈ lw_all := lw_g (lw_at lw_m0 50 rfl) rfl
theorem q65 : (Jvm.Cond.methodLink "CoercionDesk" (37 : Nat) ({ cls := "CoercionDesk", name := "isType", desc := "(I)Z" } : Jvm.MethodName)) ∈ lw_all := lw_g (lw_at lw_m0 51 rfl) rfl
theorem q66 : (Jvm.Cond.static ({ cls := "CoercionDesk", name := "isType", desc := "(I)Z" } : Jvm.MethodName)) ∈ lw_all := lw_g (lw_at lw_m0 52 rfl) rfl
theorem q67 : (Jvm.Cond.code ({ cls := "CoercionDesk", name := "isType", desc := "(I)Z" } : Jvm.MethodName) prog_1_method_2_code (1 : Nat) (Option.some Jvm.ClassFile.FieldType.boolean)) ∈ lw_all := lw_g (lw_at lw_m0 53 rfl) rfl
theorem q68 : (Jvm.Cond.methodLink "CoercionDesk" (41 : Nat) ({ cls := "CoercionDesk", name := "agree", desc := "(II)Z" } : Jvm.MethodName)) ∈ lw_all := lw_g (lw_at lw_m0 54 rfl) rfl
theorem q69 : (Jvm.Cond.instanceMethod ({ cls := "CoercionDesk", name := "agree", desc := "(II)Z" } : Jvm.MethodName)) ∈ lw_all := lw_g (lw_at lw_m0 55 rfl) rfl
theorem q70 : (Jvm.Cond.selects "CoercionDesk" ({ cls := "CoercionDesk", name := "agree", desc := "(II)Z" } : Jvm.MethodName) ({ cls := "CoercionDesk", name := "agree", desc := "(II)Z" } : Jvm.MethodName)) ∈ lw_all := lw_g (lw_at lw_m0 56 rfl) rfl
theorem q71 : (Jvm.Cond.code ({ cls := "CoercionDesk", name := "agree", desc := "(II)Z" } : Jvm.MethodName) prog_1_method_23_code (5 : Nat) (Option.some Jvm.ClassFile.FieldType.boolean)) ∈ lw_all := lw_g (lw_at lw_m0 57 rfl) rfl
theorem q72 : (Jvm.Cond.methodLink "CoercionDesk" (45 : Nat) ({ cls := "CoercionDesk", name := "isFunction", desc := "(I)Z" } : Jvm.MethodName)) ∈ lw_all := lw_g (lw_at lw_m0 58 rfl) rfl
theorem q73 : (Jvm.Cond.static ({ cls := "CoercionDesk", name := "isFunction", desc := "(I)Z" } : Jvm.MethodName)) ∈ lw_all := lw_g (lw_at lw_m0 59 rfl) rfl
theorem q74 : (Jvm.Cond.code ({ cls := "CoercionDesk", name := "isFunction", desc := "(I)Z" } : Jvm.MethodName) prog_1_method_3_code (1 : Nat) (Option.some Jvm.ClassFile.FieldType.boolean)) ∈ lw_all := lw_g (lw_at lw_m0 60 rfl) rfl
theorem q75 : (Jvm.Cond.methodLink "CoercionDesk" (84 : Nat) ({ cls := "CoercionDesk", name := "plainAgree", desc := "(II)Z" } : Jvm.MethodName)) ∈ lw_all := lw_g (lw_at lw_m0 61 rfl) rfl
theorem q76 : (Jvm.Cond.static ({ cls := "CoercionDesk", name := "plainAgree", desc := "(II)Z" } : Jvm.MethodName)) ∈ lw_all := lw_g (lw_at lw_m0 62 rfl) rfl
theorem q77 : (Jvm.Cond.code ({ cls := "CoercionDesk", name := "plainAgree", desc := "(II)Z" } : Jvm.MethodName) prog_1_method_6_code (2 : Nat) (Option.some Jvm.ClassFile.FieldType.boolean)) ∈ lw_all := lw_g (lw_at lw_m0 63 rfl) rfl
theorem q78 : (Jvm.Cond.methodLink "CoercionDesk" (55 : Nat) ({ cls := "CoercionDesk", name := "argumentOf", desc := "(I)I" } : Jvm.MethodName)) ∈ lw_all := lw_g (lw_at lw_m0 64 rfl) rfl
theorem q79 : (Jvm.Cond.static ({ cls := "CoercionDesk", name := "argumentOf", desc := "(I)I" } : Jvm.MethodName)) ∈ lw_all := lw_g (lw_at lw_m0 65 rfl) rfl
theorem q80 : (Jvm.Cond.code ({ cls := "CoercionDesk", name := "argumentOf", desc := "(I)I" } : Jvm.MethodName) prog_1_method_4_code (1 : Nat) (Option.some Jvm.ClassFile.FieldType.int)) ∈ lw_all := lw_g (lw_at lw_m0 66 rfl) rfl
theorem q81 : (Jvm.Cond.methodLink "CoercionDesk" (62 : Nat) ({ cls := "CoercionDesk", name := "resultOf", desc := "(I)I" } : Jvm.MethodName)) ∈ lw_all := lw_g (lw_at lw_m0 67 rfl) rfl
theorem q82 : (Jvm.Cond.static ({ cls := "CoercionDesk", name := "resultOf", desc := "(I)I" } : Jvm.MethodName)) ∈ lw_all := lw_g (lw_at lw_m0 68 rfl) rfl
theorem q83 : (Jvm.Cond.code ({ cls := "CoercionDesk", name := "resultOf", desc := "(I)I" } : Jvm.MethodName) prog_1_method_5_code (1 : Nat) (Option.some Jvm.ClassFile.FieldType.int)) ∈ lw_all := lw_g (lw_at lw_m0 69 rfl) rfl
theorem q84 : (Jvm.Cond.methodLink "CoercionDesk" (48 : Nat) ({ cls := "CoercionDesk", name := "fail", desc := "(I)I" } : Jvm.MethodName)) ∈ lw_all := lw_g (lw_at lw_m0 70 rfl) rfl
theorem q85 : (Jvm.Cond.privateMethod ({ cls := "CoercionDesk", name := "fail", desc := "(I)I" } : Jvm.MethodName)) ∈ lw_tbl := lw_at lw_m0 71 rfl
theorem q86 : (Jvm.Cond.instanceMethod ({ cls := "CoercionDesk", name := "fail", desc := "(I)I" } : Jvm.MethodName)) ∈ lw_all := lw_g (lw_at lw_m0 72 rfl) rfl
theorem q87 : (Jvm.Cond.code ({ cls := "CoercionDesk", name := "fail", desc := "(I)I" } : Jvm.MethodName) prog_1_method_15_code (2 : Nat) (Option.some Jvm.ClassFile.FieldType.int)) ∈ lw_all := lw_g (lw_at lw_m0 73 rfl) rfl
theorem q88 : (Jvm.Cond.methodLink "CoercionDesk" (51 : Nat) ({ cls := "CoercionDesk", name := "wrap", desc := "(III)V" } : Jvm.MethodName)) ∈ lw_all := lw_g (lw_at lw_m0 74 rfl) rfl
theorem q89 : (Jvm.Cond.privateMethod ({ cls := "CoercionDesk", name := "wrap", desc := "(III)V" } : Jvm.MethodName)) ∈ lw_tbl := lw_at lw_m0 75 rfl
theorem q90 : (Jvm.Cond.instanceMethod ({ cls := "CoercionDesk", name := "wrap", desc := "(III)V" } : Jvm.MethodName)) ∈ lw_all := lw_g (lw_at lw_m0 76 rfl) rfl
theorem q91 : (Jvm.Cond.code ({ cls := "CoercionDesk", name := "wrap", desc := "(III)V" } : Jvm.MethodName) prog_1_method_16_code (6 : Nat) (Option.none : Option Jvm.ClassFile.FieldType)) ∈ lw_all := lw_g (lw_at lw_m0 77 rfl) rfl
theorem q92 : (Jvm.Cond.methodLink "CoercionDesk" (58 : Nat) ({ cls := "CoercionDesk", name := "demandFirst", desc := "(II)V" } : Jvm.MethodName)) ∈ lw_all := lw_g (lw_at lw_m0 78 rfl) rfl
theorem q93 : (Jvm.Cond.privateMethod ({ cls := "CoercionDesk", name := "demandFirst", desc := "(II)V" } : Jvm.MethodName)) ∈ lw_tbl := lw_at lw_m0 79 rfl
theorem q94 : (Jvm.Cond.instanceMethod ({ cls := "CoercionDesk", name := "demandFirst", desc := "(II)V" } : Jvm.MethodName)) ∈ lw_all := lw_g (lw_at lw_m0 80 rfl) rfl
theorem q95 : (Jvm.Cond.code ({ cls := "CoercionDesk", name := "demandFirst", desc := "(II)V" } : Jvm.MethodName) prog_1_method_11_code (3 : Nat) (Option.none : Option Jvm.ClassFile.FieldType)) ∈ lw_all := lw_g (lw_at lw_m0 81 rfl) rfl
theorem q96 : (Jvm.Cond.methodLink "CoercionDesk" (65 : Nat) ({ cls := "CoercionDesk", name := "demandLast", desc := "(II)V" } : Jvm.MethodName)) ∈ lw_all := lw_g (lw_at lw_m0 82 rfl) rfl
theorem q97 : (Jvm.Cond.privateMethod ({ cls := "CoercionDesk", name := "demandLast", desc := "(II)V" } : Jvm.MethodName)) ∈ lw_tbl := lw_at lw_m0 83 rfl
theorem q98 : (Jvm.Cond.instanceMethod ({ cls := "CoercionDesk", name := "demandLast", desc := "(II)V" } : Jvm.MethodName)) ∈ lw_all := lw_g (lw_at lw_m0 84 rfl) rfl
theorem q99 : (Jvm.Cond.code ({ cls := "CoercionDesk", name := "demandLast", desc := "(II)V" } : Jvm.MethodName) prog_1_method_12_code (3 : Nat) (Option.none : Option Jvm.ClassFile.FieldType)) ∈ lw_all := lw_g (lw_at lw_m0 85 rfl) rfl
theorem q101 : (Jvm.Cond.instanceMethod ({ cls := "CoercionDesk", name := "type", desc := "()I" } : Jvm.MethodName)) ∈ lw_all := lw_g (lw_at lw_m0 87 rfl) rfl
theorem q102 : (Jvm.Cond.selects "CoercionDesk" ({ cls := "CoercionDesk", name := "type", desc := "()I" } : Jvm.MethodName) ({ cls := "CoercionDesk", name := "type", desc := "()I" } : Jvm.MethodName)) ∈ lw_all := lw_g (lw_at lw_m0 88 rfl) rfl
theorem q103 : (Jvm.Cond.code ({ cls := "CoercionDesk", name := "type", desc := "()I" } : Jvm.MethodName) prog_1_method_10_code (1 : Nat) (Option.some Jvm.ClassFile.FieldType.int)) ∈ lw_all := lw_g (lw_at lw_m0 89 rfl) rfl
theorem q105 : (Jvm.Cond.instanceMethod ({ cls := "CoercionDesk", name := "kind", desc := "()I" } : Jvm.MethodName)) ∈ lw_all := lw_g (lw_at lw_m0 91 rfl) rfl
theorem q106 : (Jvm.Cond.selects "CoercionDesk" ({ cls := "CoercionDesk", name := "kind", desc := "()I" } : Jvm.MethodName) ({ cls := "CoercionDesk", name := "kind", desc := "()I" } : Jvm.MethodName)) ∈ lw_all := lw_g (lw_at lw_m0 92 rfl) rfl
theorem q107 : (Jvm.Cond.code ({ cls := "CoercionDesk", name := "kind", desc := "()I" } : Jvm.MethodName) prog_1_method_14_code (1 : Nat) (Option.some Jvm.ClassFile.FieldType.int)) ∈ lw_all := lw_g (lw_at lw_m0 93 rfl) rfl
theorem q109 : (Jvm.Cond.instanceMethod ({ cls := "CoercionDesk", name := "raw", desc := "()I" } : Jvm.MethodName)) ∈ lw_all := lw_g (lw_at lw_m0 95 rfl) rfl
theorem q110 : (Jvm.Cond.selects "CoercionDesk" ({ cls := "CoercionDesk", name := "raw", desc := "()I" } : Jvm.MethodName) ({ cls := "CoercionDesk", name := "raw", desc := "()I" } : Jvm.MethodName)) ∈ lw_all := lw_g (lw_at lw_m0 96 rfl) rfl
theorem q111 : (Jvm.Cond.code ({ cls := "CoercionDesk", name := "raw", desc := "()I" } : Jvm.MethodName) prog_1_method_17_code (1 : Nat) (Option.some Jvm.ClassFile.FieldType.int)) ∈ lw_all := lw_g (lw_at lw_m0 97 rfl) rfl
theorem q113 : (Jvm.Cond.instanceMethod ({ cls := "CoercionDesk", name := "call", desc := "(II)I" } : Jvm.MethodName)) ∈ lw_all := lw_g (lw_at lw_m0 99 rfl) rfl
theorem q114 : (Jvm.Cond.selects "CoercionDesk" ({ cls := "CoercionDesk", name := "call", desc := "(II)I" } : Jvm.MethodName) ({ cls := "CoercionDesk", name := "call", desc := "(II)I" } : Jvm.MethodName)) ∈ lw_all := lw_g (lw_at lw_m0 100 rfl) rfl
theorem q115 : (Jvm.Cond.code ({ cls := "CoercionDesk", name := "call", desc := "(II)I" } : Jvm.MethodName) prog_1_method_18_code (7 : Nat) (Option.some Jvm.ClassFile.FieldType.int)) ∈ lw_all := lw_g (lw_at lw_m0 101 rfl) rfl
theorem q116 : (Jvm.Cond.methodLink "CoercionDesk" (68 : Nat) ({ cls := "CoercionDesk", name := "meet", desc := "(II)I" } : Jvm.MethodName)) ∈ lw_all := lw_g (lw_at lw_m0 102 rfl) rfl
theorem q117 : (Jvm.Cond.privateMethod ({ cls := "CoercionDesk", name := "meet", desc := "(II)I" } : Jvm.MethodName)) ∈ lw_tbl := lw_at lw_m0 103 rfl
theorem q118 : (Jvm.Cond.instanceMethod ({ cls := "CoercionDesk", name := "meet", desc := "(II)I" } : Jvm.MethodName)) ∈ lw_all := lw_g (lw_at lw_m0 104 rfl) rfl
theorem q119 : (Jvm.Cond.code ({ cls := "CoercionDesk", name := "meet", desc := "(II)I" } : Jvm.MethodName) prog_1_method_13_code (4 : Nat) (Option.some Jvm.ClassFile.FieldType.int)) ∈ lw_all := lw_g (lw_at lw_m0 105 rfl) rfl
theorem q120 : (Jvm.Cond.methodLink "CoercionDesk" (72 : Nat) ({ cls := "CoercionDesk", name := "givenKind", desc := "(I)I" } : Jvm.MethodName)) ∈ lw_all := lw_g (lw_at lw_m0 106 rfl) rfl
theorem q121 : (Jvm.Cond.privateMethod ({ cls := "CoercionDesk", name := "givenKind", desc := "(I)I" } : Jvm.MethodName)) ∈ lw_tbl := lw_at lw_m0 107 rfl
theorem q122 : (Jvm.Cond.instanceMethod ({ cls := "CoercionDesk", name := "givenKind", desc := "(I)I" } : Jvm.MethodName)) ∈ lw_all := lw_g (lw_at lw_m0 108 rfl) rfl
theorem q123 : (Jvm.Cond.code ({ cls := "CoercionDesk", name := "givenKind", desc := "(I)I" } : Jvm.MethodName) prog_1_method_20_code (2 : Nat) (Option.some Jvm.ClassFile.FieldType.int)) ∈ lw_all := lw_g (lw_at lw_m0 109 rfl) rfl
theorem q124 : (Jvm.Cond.methodLink "CoercionDesk" (78 : Nat) ({ cls := "CoercionDesk", name := "given", desc := "(I)I" } : Jvm.MethodName)) ∈ lw_all := lw_g (lw_at lw_m0 110 rfl) rfl
theorem q125 : (Jvm.Cond.privateMethod ({ cls := "CoercionDesk", name := "given", desc := "(I)I" } : Jvm.MethodName)) ∈ lw_tbl := lw_at lw_m0 111 rfl
theorem q126 : (Jvm.Cond.instanceMethod ({ cls := "CoercionDesk", name := "given", desc := "(I)I" } : Jvm.MethodName)) ∈ lw_all := lw_g (lw_at lw_m0 112 rfl) rfl
theorem q127 : (Jvm.Cond.code ({ cls := "CoercionDesk", name := "given", desc := "(I)I" } : Jvm.MethodName) prog_1_method_21_code (2 : Nat) (Option.some Jvm.ClassFile.FieldType.int)) ∈ lw_all := lw_g (lw_at lw_m0 113 rfl) rfl
theorem q129 : (Jvm.Cond.instanceMethod ({ cls := "CoercionDesk", name := "resultKind", desc := "()I" } : Jvm.MethodName)) ∈ lw_all := lw_g (lw_at lw_m0 115 rfl) rfl
theorem q130 : (Jvm.Cond.selects "CoercionDesk" ({ cls := "CoercionDesk", name := "resultKind", desc := "()I" } : Jvm.MethodName) ({ cls := "CoercionDesk", name := "resultKind", desc := "()I" } : Jvm.MethodName)) ∈ lw_all := lw_g (lw_at lw_m0 116 rfl) rfl
theorem q131 : (Jvm.Cond.code ({ cls := "CoercionDesk", name := "resultKind", desc := "()I" } : Jvm.MethodName) prog_1_method_19_code (1 : Nat) (Option.some Jvm.ClassFile.FieldType.int)) ∈ lw_all := lw_g (lw_at lw_m0 117 rfl) rfl
theorem q133 : (Jvm.Cond.instanceMethod ({ cls := "CoercionDesk", name := "result", desc := "()I" } : Jvm.MethodName)) ∈ lw_all := lw_g (lw_at lw_m0 119 rfl) rfl
theorem q134 : (Jvm.Cond.selects "CoercionDesk" ({ cls := "CoercionDesk", name := "result", desc := "()I" } : Jvm.MethodName) ({ cls := "CoercionDesk", name := "result", desc := "()I" } : Jvm.MethodName)) ∈ lw_all := lw_g (lw_at lw_m0 120 rfl) rfl
theorem q135 : (Jvm.Cond.code ({ cls := "CoercionDesk", name := "result", desc := "()I" } : Jvm.MethodName) prog_1_method_22_code (1 : Nat) (Option.some Jvm.ClassFile.FieldType.int)) ∈ lw_all := lw_g (lw_at lw_m0 121 rfl) rfl
theorem q138 : (Jvm.Cond.instanceMethod ({ cls := "CoercionDesk", name := "agreeing", desc := "(I)I" } : Jvm.MethodName)) ∈ lw_all := lw_g (lw_at lw_m0 124 rfl) rfl
theorem q139 : (Jvm.Cond.selects "CoercionDesk" ({ cls := "CoercionDesk", name := "agreeing", desc := "(I)I" } : Jvm.MethodName) ({ cls := "CoercionDesk", name := "agreeing", desc := "(I)I" } : Jvm.MethodName)) ∈ lw_all := lw_g (lw_at lw_m0 125 rfl) rfl
theorem q140 : (Jvm.Cond.code ({ cls := "CoercionDesk", name := "agreeing", desc := "(I)I" } : Jvm.MethodName) prog_1_method_24_code (4 : Nat) (Option.some Jvm.ClassFile.FieldType.int)) ∈ lw_all := lw_g (lw_at lw_m0 126 rfl) rfl
theorem in_X0 : ∀ w ∈ wsX00, w ∈ lw_all := lw_in wsX00 [34, 36, 38, 40, 42, 44, 46, 48, 50] (by decide +kernel) (by decide +kernel)
end
section
/-! CoercionDeskModel -/
set_option maxRecDepth 100000
def RX1 : String := "CoercionDeskModel"
def TX1 : u_T := fun k => match k with
  | 0 => ("CoercionDeskModel", "some", "Z", false)
  | 1 => ("CoercionDeskModel", "sort", "I", false)
  | 2 => ("CoercionDeskModel", "value", "I", false)
  | 3 => ("CoercionDeskModel", "typed", "I", false)
  | 4 => ("CoercionDeskModel", "argument", "[I", false)
  | 5 => ("CoercionDeskModel", "outcome", "[I", false)
  | 6 => ("CoercionDeskModel", "called", "Z", false)
  | 7 => ("CoercionDeskModel", "kindOfResult", "I", false)
  | _ => ("CoercionDeskModel", "lastResult", "I", false)
def tyX1 : Nat → FieldType := fun k => match k with
  | 0 => .boolean
  | 1 => .int
  | 2 => .int
  | 3 => .int
  | 4 => .array .int
  | 5 => .array .int
  | 6 => .boolean
  | 7 => .int
  | _ => .int
abbrev wsX10 : List Cond := u_ws RX1 TX1 9
theorem nmX1 : ∀ a, a < 9 → ∀ b, b < 9 → a ≠ b → (TX1 a).2.1 ≠ (TX1 b).2.1 := by decide +kernel
theorem tyX1_ok : ∀ k, k < 9 → parseFieldDescriptor (TX1 k).2.2.1 = some (tyX1 k) := by decide +kernel
abbrev cX1_init : ByteArray := prog_3_method_1_code
def yX1_init : MethodName := ⟨RX1, "<init>", "()V"⟩
theorem dX1_init_0 : decode cX1_init 0 = .ok (.aload_n 0, 1) := by decide +kernel
theorem dX1_init_1 : decode cX1_init 1 = .ok (.invokespecial 1, 3) := by decide +kernel
theorem dX1_init_4 : decode cX1_init 4 = .ok (.aload_n 0, 1) := by decide +kernel
theorem dX1_init_5 : decode cX1_init 5 = .ok (.iconst 2, 1) := by decide +kernel
theorem dX1_init_6 : decode cX1_init 6 = .ok (.newarray .int, 2) := by decide +kernel
theorem dX1_init_8 : decode cX1_init 8 = .ok (.putfield 7, 3) := by decide +kernel
theorem dX1_init_11 : decode cX1_init 11 = .ok (.aload_n 0, 1) := by decide +kernel
theorem dX1_init_12 : decode cX1_init 12 = .ok (.iconst 2, 1) := by decide +kernel
theorem dX1_init_13 : decode cX1_init 13 = .ok (.newarray .int, 2) := by decide +kernel
theorem dX1_init_15 : decode cX1_init 15 = .ok (.putfield 13, 3) := by decide +kernel
theorem dX1_init_18 : decode cX1_init 18 = .ok (.return_, 1) := by decide +kernel
abbrev cX1_set : ByteArray := prog_3_method_6_code
def yX1_set : MethodName := ⟨RX1, "set", "(II)I"⟩
theorem dX1_set_0 : decode cX1_set 0 = .ok (.iload_n 1, 1) := by decide +kernel
theorem dX1_set_1 : decode cX1_set 1 = .ok (.ifCond .eq 31, 3) := by decide +kernel
theorem dX1_set_4 : decode cX1_set 4 = .ok (.iload_n 1, 1) := by decide +kernel
theorem dX1_set_5 : decode cX1_set 5 = .ok (.iconst 1, 1) := by decide +kernel
theorem dX1_set_6 : decode cX1_set 6 = .ok (.if_icmp .ne 12, 3) := by decide +kernel
theorem dX1_set_9 : decode cX1_set 9 = .ok (.iload_n 2, 1) := by decide +kernel
theorem dX1_set_10 : decode cX1_set 10 = .ok (.ifCond .eq 22, 3) := by decide +kernel
theorem dX1_set_13 : decode cX1_set 13 = .ok (.iload_n 2, 1) := by decide +kernel
theorem dX1_set_14 : decode cX1_set 14 = .ok (.iconst 1, 1) := by decide +kernel
theorem dX1_set_15 : decode cX1_set 15 = .ok (.if_icmp .eq 17, 3) := by decide +kernel
theorem dX1_set_18 : decode cX1_set 18 = .ok (.iload_n 1, 1) := by decide +kernel
theorem dX1_set_19 : decode cX1_set 19 = .ok (.iconst 2, 1) := by decide +kernel
theorem dX1_set_20 : decode cX1_set 20 = .ok (.if_icmp .ne 16, 3) := by decide +kernel
theorem dX1_set_23 : decode cX1_set 23 = .ok (.iload_n 2, 1) := by decide +kernel
theorem dX1_set_24 : decode cX1_set 24 = .ok (.ifCond .lt 12, 3) := by decide +kernel
theorem dX1_set_27 : decode cX1_set 27 = .ok (.iload_n 2, 1) := by decide +kernel
theorem dX1_set_28 : decode cX1_set 28 = .ok (.iconst 5, 1) := by decide +kernel
theorem dX1_set_29 : decode cX1_set 29 = .ok (.if_icmp .gt 7, 3) := by decide +kernel
theorem dX1_set_32 : decode cX1_set 32 = .ok (.iconst 1, 1) := by decide +kernel
theorem dX1_set_33 : decode cX1_set 33 = .ok (.goto 4, 3) := by decide +kernel
theorem dX1_set_36 : decode cX1_set 36 = .ok (.iconst 0, 1) := by decide +kernel
theorem dX1_set_37 : decode cX1_set 37 = .ok (.istore_n 3, 1) := by decide +kernel
theorem dX1_set_38 : decode cX1_set 38 = .ok (.iload_n 3, 1) := by decide +kernel
theorem dX1_set_39 : decode cX1_set 39 = .ok (.ifCond .ne 6, 3) := by decide +kernel
theorem dX1_set_42 : decode cX1_set 42 = .ok (.bipush (-100), 2) := by decide +kernel
theorem dX1_set_44 : decode cX1_set 44 = .ok (.ireturn, 1) := by decide +kernel
theorem dX1_set_45 : decode cX1_set 45 = .ok (.aload_n 0, 1) := by decide +kernel
theorem dX1_set_46 : decode cX1_set 46 = .ok (.iconst 1, 1) := by decide +kernel
theorem dX1_set_47 : decode cX1_set 47 = .ok (.putfield 20, 3) := by decide +kernel
theorem dX1_set_50 : decode cX1_set 50 = .ok (.aload_n 0, 1) := by decide +kernel
theorem dX1_set_51 : decode cX1_set 51 = .ok (.iload_n 1, 1) := by decide +kernel
theorem dX1_set_52 : decode cX1_set 52 = .ok (.putfield 24, 3) := by decide +kernel
theorem dX1_set_55 : decode cX1_set 55 = .ok (.aload_n 0, 1) := by decide +kernel
theorem dX1_set_56 : decode cX1_set 56 = .ok (.iload_n 2, 1) := by decide +kernel
theorem dX1_set_57 : decode cX1_set 57 = .ok (.putfield 28, 3) := by decide +kernel
theorem dX1_set_60 : decode cX1_set 60 = .ok (.aload_n 0, 1) := by decide +kernel
theorem dX1_set_61 : decode cX1_set 61 = .ok (.iload_n 1, 1) := by decide +kernel
theorem dX1_set_62 : decode cX1_set 62 = .ok (.ifCond .ne 7, 3) := by decide +kernel
theorem dX1_set_65 : decode cX1_set 65 = .ok (.iconst 1, 1) := by decide +kernel
theorem dX1_set_66 : decode cX1_set 66 = .ok (.goto 17, 3) := by decide +kernel
theorem dX1_set_69 : decode cX1_set 69 = .ok (.iload_n 1, 1) := by decide +kernel
theorem dX1_set_70 : decode cX1_set 70 = .ok (.iconst 1, 1) := by decide +kernel
theorem dX1_set_71 : decode cX1_set 71 = .ok (.if_icmp .ne 7, 3) := by decide +kernel
theorem dX1_set_74 : decode cX1_set 74 = .ok (.iconst 2, 1) := by decide +kernel
theorem dX1_set_75 : decode cX1_set 75 = .ok (.goto 8, 3) := by decide +kernel
theorem dX1_set_78 : decode cX1_set 78 = .ok (.aload_n 0, 1) := by decide +kernel
theorem dX1_set_79 : decode cX1_set 79 = .ok (.iload_n 2, 1) := by decide +kernel
theorem dX1_set_80 : decode cX1_set 80 = .ok (.invokevirtual 31, 3) := by decide +kernel
theorem dX1_set_83 : decode cX1_set 83 = .ok (.putfield 35, 3) := by decide +kernel
theorem dX1_set_86 : decode cX1_set 86 = .ok (.iconst 0, 1) := by decide +kernel
theorem dX1_set_87 : decode cX1_set 87 = .ok (.istore 4, 2) := by decide +kernel
theorem dX1_set_89 : decode cX1_set 89 = .ok (.iload 4, 2) := by decide +kernel
theorem dX1_set_91 : decode cX1_set 91 = .ok (.iconst 2, 1) := by decide +kernel
theorem dX1_set_92 : decode cX1_set 92 = .ok (.if_icmp .ge 25, 3) := by decide +kernel
theorem dX1_set_95 : decode cX1_set 95 = .ok (.aload_n 0, 1) := by decide +kernel
theorem dX1_set_96 : decode cX1_set 96 = .ok (.getfield 7, 3) := by decide +kernel
theorem dX1_set_99 : decode cX1_set 99 = .ok (.iload 4, 2) := by decide +kernel
theorem dX1_set_101 : decode cX1_set 101 = .ok (.iconst 0, 1) := by decide +kernel
theorem dX1_set_102 : decode cX1_set 102 = .ok (.iastore, 1) := by decide +kernel
theorem dX1_set_103 : decode cX1_set 103 = .ok (.aload_n 0, 1) := by decide +kernel
theorem dX1_set_104 : decode cX1_set 104 = .ok (.getfield 13, 3) := by decide +kernel
theorem dX1_set_107 : decode cX1_set 107 = .ok (.iload 4, 2) := by decide +kernel
theorem dX1_set_109 : decode cX1_set 109 = .ok (.iconst 0, 1) := by decide +kernel
theorem dX1_set_110 : decode cX1_set 110 = .ok (.iastore, 1) := by decide +kernel
theorem dX1_set_111 : decode cX1_set 111 = .ok (.iinc 4 1, 3) := by decide +kernel
theorem dX1_set_114 : decode cX1_set 114 = .ok (.goto (-25), 3) := by decide +kernel
theorem dX1_set_117 : decode cX1_set 117 = .ok (.aload_n 0, 1) := by decide +kernel
theorem dX1_set_118 : decode cX1_set 118 = .ok (.iconst 0, 1) := by decide +kernel
theorem dX1_set_119 : decode cX1_set 119 = .ok (.putfield 38, 3) := by decide +kernel
theorem dX1_set_122 : decode cX1_set 122 = .ok (.aload_n 0, 1) := by decide +kernel
theorem dX1_set_123 : decode cX1_set 123 = .ok (.getfield 35, 3) := by decide +kernel
theorem dX1_set_126 : decode cX1_set 126 = .ok (.ireturn, 1) := by decide +kernel
abbrev cX1_own : ByteArray := prog_3_method_2_code
def yX1_own : MethodName := ⟨RX1, "own", "(I)I"⟩
theorem dX1_own_0 : decode cX1_own 0 = .ok (.iload_n 1, 1) := by decide +kernel
theorem dX1_own_1 : decode cX1_own 1 = .ok (.ifCond .ne 12, 3) := by decide +kernel
theorem dX1_own_4 : decode cX1_own 4 = .ok (.aload_n 0, 1) := by decide +kernel
theorem dX1_own_5 : decode cX1_own 5 = .ok (.iconst 1, 1) := by decide +kernel
theorem dX1_own_6 : decode cX1_own 6 = .ok (.iconst 1, 1) := by decide +kernel
theorem dX1_own_7 : decode cX1_own 7 = .ok (.invokevirtual 16, 3) := by decide +kernel
theorem dX1_own_10 : decode cX1_own 10 = .ok (.goto 65, 3) := by decide +kernel
theorem dX1_own_13 : decode cX1_own 13 = .ok (.iload_n 1, 1) := by decide +kernel
theorem dX1_own_14 : decode cX1_own 14 = .ok (.iconst 1, 1) := by decide +kernel
theorem dX1_own_15 : decode cX1_own 15 = .ok (.if_icmp .ne 12, 3) := by decide +kernel
theorem dX1_own_18 : decode cX1_own 18 = .ok (.aload_n 0, 1) := by decide +kernel
theorem dX1_own_19 : decode cX1_own 19 = .ok (.iconst 0, 1) := by decide +kernel
theorem dX1_own_20 : decode cX1_own 20 = .ok (.iconst 0, 1) := by decide +kernel
theorem dX1_own_21 : decode cX1_own 21 = .ok (.invokevirtual 16, 3) := by decide +kernel
theorem dX1_own_24 : decode cX1_own 24 = .ok (.goto 51, 3) := by decide +kernel
theorem dX1_own_27 : decode cX1_own 27 = .ok (.iload_n 1, 1) := by decide +kernel
theorem dX1_own_28 : decode cX1_own 28 = .ok (.iconst 2, 1) := by decide +kernel
theorem dX1_own_29 : decode cX1_own 29 = .ok (.if_icmp .ne 12, 3) := by decide +kernel
theorem dX1_own_32 : decode cX1_own 32 = .ok (.aload_n 0, 1) := by decide +kernel
theorem dX1_own_33 : decode cX1_own 33 = .ok (.iconst 2, 1) := by decide +kernel
theorem dX1_own_34 : decode cX1_own 34 = .ok (.iconst 2, 1) := by decide +kernel
theorem dX1_own_35 : decode cX1_own 35 = .ok (.invokevirtual 16, 3) := by decide +kernel
theorem dX1_own_38 : decode cX1_own 38 = .ok (.goto 37, 3) := by decide +kernel
theorem dX1_own_41 : decode cX1_own 41 = .ok (.iload_n 1, 1) := by decide +kernel
theorem dX1_own_42 : decode cX1_own 42 = .ok (.iconst 3, 1) := by decide +kernel
theorem dX1_own_43 : decode cX1_own 43 = .ok (.if_icmp .ne 12, 3) := by decide +kernel
theorem dX1_own_46 : decode cX1_own 46 = .ok (.aload_n 0, 1) := by decide +kernel
theorem dX1_own_47 : decode cX1_own 47 = .ok (.iconst 1, 1) := by decide +kernel
theorem dX1_own_48 : decode cX1_own 48 = .ok (.iconst 2, 1) := by decide +kernel
theorem dX1_own_49 : decode cX1_own 49 = .ok (.invokevirtual 16, 3) := by decide +kernel
theorem dX1_own_52 : decode cX1_own 52 = .ok (.goto 23, 3) := by decide +kernel
theorem dX1_own_55 : decode cX1_own 55 = .ok (.iload_n 1, 1) := by decide +kernel
theorem dX1_own_56 : decode cX1_own 56 = .ok (.iconst 4, 1) := by decide +kernel
theorem dX1_own_57 : decode cX1_own 57 = .ok (.if_icmp .ne 12, 3) := by decide +kernel
theorem dX1_own_60 : decode cX1_own 60 = .ok (.aload_n 0, 1) := by decide +kernel
theorem dX1_own_61 : decode cX1_own 61 = .ok (.iconst 0, 1) := by decide +kernel
theorem dX1_own_62 : decode cX1_own 62 = .ok (.iconst 1, 1) := by decide +kernel
theorem dX1_own_63 : decode cX1_own 63 = .ok (.invokevirtual 16, 3) := by decide +kernel
theorem dX1_own_66 : decode cX1_own 66 = .ok (.goto 9, 3) := by decide +kernel
theorem dX1_own_69 : decode cX1_own 69 = .ok (.aload_n 0, 1) := by decide +kernel
theorem dX1_own_70 : decode cX1_own 70 = .ok (.iconst 2, 1) := by decide +kernel
theorem dX1_own_71 : decode cX1_own 71 = .ok (.iconst 1, 1) := by decide +kernel
theorem dX1_own_72 : decode cX1_own 72 = .ok (.invokevirtual 16, 3) := by decide +kernel
theorem dX1_own_75 : decode cX1_own 75 = .ok (.ireturn, 1) := by decide +kernel
abbrev cX1_arrow : ByteArray := prog_3_method_3_code
def yX1_arrow : MethodName := ⟨RX1, "arrow", "(II)I"⟩
theorem dX1_arrow_0 : decode cX1_arrow 0 = .ok (.iconst 3, 1) := by decide +kernel
theorem dX1_arrow_1 : decode cX1_arrow 1 = .ok (.iconst 3, 1) := by decide +kernel
theorem dX1_arrow_2 : decode cX1_arrow 2 = .ok (.iload_n 1, 1) := by decide +kernel
theorem dX1_arrow_3 : decode cX1_arrow 3 = .ok (.imul, 1) := by decide +kernel
theorem dX1_arrow_4 : decode cX1_arrow 4 = .ok (.iadd, 1) := by decide +kernel
theorem dX1_arrow_5 : decode cX1_arrow 5 = .ok (.iload_n 2, 1) := by decide +kernel
theorem dX1_arrow_6 : decode cX1_arrow 6 = .ok (.iadd, 1) := by decide +kernel
theorem dX1_arrow_7 : decode cX1_arrow 7 = .ok (.ireturn, 1) := by decide +kernel
abbrev cX1_cast : ByteArray := prog_3_method_8_code
def yX1_cast : MethodName := ⟨RX1, "cast", "(II)I"⟩
theorem dX1_cast_0 : decode cX1_cast 0 = .ok (.aload_n 0, 1) := by decide +kernel
theorem dX1_cast_1 : decode cX1_cast 1 = .ok (.getfield 20, 3) := by decide +kernel
theorem dX1_cast_4 : decode cX1_cast 4 = .ok (.ifCond .eq 26, 3) := by decide +kernel
theorem dX1_cast_7 : decode cX1_cast 7 = .ok (.iload_n 2, 1) := by decide +kernel
theorem dX1_cast_8 : decode cX1_cast 8 = .ok (.iconst 1, 1) := by decide +kernel
theorem dX1_cast_9 : decode cX1_cast 9 = .ok (.if_icmp .lt 21, 3) := by decide +kernel
theorem dX1_cast_12 : decode cX1_cast 12 = .ok (.iload_n 2, 1) := by decide +kernel
theorem dX1_cast_13 : decode cX1_cast 13 = .ok (.bipush 9, 2) := by decide +kernel
theorem dX1_cast_15 : decode cX1_cast 15 = .ok (.if_icmp .gt 15, 3) := by decide +kernel
theorem dX1_cast_18 : decode cX1_cast 18 = .ok (.aload_n 0, 1) := by decide +kernel
theorem dX1_cast_19 : decode cX1_cast 19 = .ok (.aload_n 0, 1) := by decide +kernel
theorem dX1_cast_20 : decode cX1_cast 20 = .ok (.getfield 35, 3) := by decide +kernel
theorem dX1_cast_23 : decode cX1_cast 23 = .ok (.iload_n 1, 1) := by decide +kernel
theorem dX1_cast_24 : decode cX1_cast 24 = .ok (.invokevirtual 47, 3) := by decide +kernel
theorem dX1_cast_27 : decode cX1_cast 27 = .ok (.ifCond .ne 6, 3) := by decide +kernel
theorem dX1_cast_30 : decode cX1_cast 30 = .ok (.bipush (-100), 2) := by decide +kernel
theorem dX1_cast_32 : decode cX1_cast 32 = .ok (.ireturn, 1) := by decide +kernel
theorem dX1_cast_33 : decode cX1_cast 33 = .ok (.aload_n 0, 1) := by decide +kernel
theorem dX1_cast_34 : decode cX1_cast 34 = .ok (.getfield 35, 3) := by decide +kernel
theorem dX1_cast_37 : decode cX1_cast 37 = .ok (.ifCond .ne 45, 3) := by decide +kernel
theorem dX1_cast_40 : decode cX1_cast 40 = .ok (.iload_n 1, 1) := by decide +kernel
theorem dX1_cast_41 : decode cX1_cast 41 = .ok (.iconst 1, 1) := by decide +kernel
theorem dX1_cast_42 : decode cX1_cast 42 = .ok (.if_icmp .ne 10, 3) := by decide +kernel
theorem dX1_cast_45 : decode cX1_cast 45 = .ok (.aload_n 0, 1) := by decide +kernel
theorem dX1_cast_46 : decode cX1_cast 46 = .ok (.getfield 24, 3) := by decide +kernel
theorem dX1_cast_49 : decode cX1_cast 49 = .ok (.ifCond .ne 29, 3) := by decide +kernel
theorem dX1_cast_52 : decode cX1_cast 52 = .ok (.iload_n 1, 1) := by decide +kernel
theorem dX1_cast_53 : decode cX1_cast 53 = .ok (.iconst 2, 1) := by decide +kernel
theorem dX1_cast_54 : decode cX1_cast 54 = .ok (.if_icmp .ne 11, 3) := by decide +kernel
theorem dX1_cast_57 : decode cX1_cast 57 = .ok (.aload_n 0, 1) := by decide +kernel
theorem dX1_cast_58 : decode cX1_cast 58 = .ok (.getfield 24, 3) := by decide +kernel
theorem dX1_cast_61 : decode cX1_cast 61 = .ok (.iconst 1, 1) := by decide +kernel
theorem dX1_cast_62 : decode cX1_cast 62 = .ok (.if_icmp .ne 16, 3) := by decide +kernel
theorem dX1_cast_65 : decode cX1_cast 65 = .ok (.iload_n 1, 1) := by decide +kernel
theorem dX1_cast_66 : decode cX1_cast 66 = .ok (.iconst 3, 1) := by decide +kernel
theorem dX1_cast_67 : decode cX1_cast 67 = .ok (.if_icmp .lt 15, 3) := by decide +kernel
theorem dX1_cast_70 : decode cX1_cast 70 = .ok (.aload_n 0, 1) := by decide +kernel
theorem dX1_cast_71 : decode cX1_cast 71 = .ok (.getfield 24, 3) := by decide +kernel
theorem dX1_cast_74 : decode cX1_cast 74 = .ok (.iconst 2, 1) := by decide +kernel
theorem dX1_cast_75 : decode cX1_cast 75 = .ok (.if_icmp .eq 7, 3) := by decide +kernel
theorem dX1_cast_78 : decode cX1_cast 78 = .ok (.iconst 1, 1) := by decide +kernel
theorem dX1_cast_79 : decode cX1_cast 79 = .ok (.goto 4, 3) := by decide +kernel
theorem dX1_cast_82 : decode cX1_cast 82 = .ok (.iconst 0, 1) := by decide +kernel
theorem dX1_cast_83 : decode cX1_cast 83 = .ok (.istore_n 3, 1) := by decide +kernel
theorem dX1_cast_84 : decode cX1_cast 84 = .ok (.iload_n 3, 1) := by decide +kernel
theorem dX1_cast_85 : decode cX1_cast 85 = .ok (.ifCond .eq 10, 3) := by decide +kernel
theorem dX1_cast_88 : decode cX1_cast 88 = .ok (.aload_n 0, 1) := by decide +kernel
theorem dX1_cast_89 : decode cX1_cast 89 = .ok (.iconst 0, 1) := by decide +kernel
theorem dX1_cast_90 : decode cX1_cast 90 = .ok (.putfield 20, 3) := by decide +kernel
theorem dX1_cast_93 : decode cX1_cast 93 = .ok (.iload_n 2, 1) := by decide +kernel
theorem dX1_cast_94 : decode cX1_cast 94 = .ok (.ireturn, 1) := by decide +kernel
theorem dX1_cast_95 : decode cX1_cast 95 = .ok (.aload_n 0, 1) := by decide +kernel
theorem dX1_cast_96 : decode cX1_cast 96 = .ok (.getfield 35, 3) := by decide +kernel
theorem dX1_cast_99 : decode cX1_cast 99 = .ok (.ifCond .ne 17, 3) := by decide +kernel
theorem dX1_cast_102 : decode cX1_cast 102 = .ok (.iload_n 1, 1) := by decide +kernel
theorem dX1_cast_103 : decode cX1_cast 103 = .ok (.iconst 3, 1) := by decide +kernel
theorem dX1_cast_104 : decode cX1_cast 104 = .ok (.if_icmp .lt 12, 3) := by decide +kernel
theorem dX1_cast_107 : decode cX1_cast 107 = .ok (.aload_n 0, 1) := by decide +kernel
theorem dX1_cast_108 : decode cX1_cast 108 = .ok (.iconst 0, 1) := by decide +kernel
theorem dX1_cast_109 : decode cX1_cast 109 = .ok (.iconst 0, 1) := by decide +kernel
theorem dX1_cast_110 : decode cX1_cast 110 = .ok (.invokevirtual 16, 3) := by decide +kernel
theorem dX1_cast_113 : decode cX1_cast 113 = .ok (.goto 7, 3) := by decide +kernel
theorem dX1_cast_116 : decode cX1_cast 116 = .ok (.aload_n 0, 1) := by decide +kernel
theorem dX1_cast_117 : decode cX1_cast 117 = .ok (.getfield 35, 3) := by decide +kernel
theorem dX1_cast_120 : decode cX1_cast 120 = .ok (.istore 4, 2) := by decide +kernel
theorem dX1_cast_122 : decode cX1_cast 122 = .ok (.aload_n 0, 1) := by decide +kernel
theorem dX1_cast_123 : decode cX1_cast 123 = .ok (.getfield 35, 3) := by decide +kernel
theorem dX1_cast_126 : decode cX1_cast 126 = .ok (.iconst 3, 1) := by decide +kernel
theorem dX1_cast_127 : decode cX1_cast 127 = .ok (.if_icmp .lt 16, 3) := by decide +kernel
theorem dX1_cast_130 : decode cX1_cast 130 = .ok (.iload_n 1, 1) := by decide +kernel
theorem dX1_cast_131 : decode cX1_cast 131 = .ok (.ifCond .ne 12, 3) := by decide +kernel
theorem dX1_cast_134 : decode cX1_cast 134 = .ok (.aload_n 0, 1) := by decide +kernel
theorem dX1_cast_135 : decode cX1_cast 135 = .ok (.iconst 0, 1) := by decide +kernel
theorem dX1_cast_136 : decode cX1_cast 136 = .ok (.iconst 0, 1) := by decide +kernel
theorem dX1_cast_137 : decode cX1_cast 137 = .ok (.invokevirtual 16, 3) := by decide +kernel
theorem dX1_cast_140 : decode cX1_cast 140 = .ok (.goto 4, 3) := by decide +kernel
theorem dX1_cast_143 : decode cX1_cast 143 = .ok (.iload_n 1, 1) := by decide +kernel
theorem dX1_cast_144 : decode cX1_cast 144 = .ok (.istore 5, 2) := by decide +kernel
theorem dX1_cast_146 : decode cX1_cast 146 = .ok (.iload 4, 2) := by decide +kernel
theorem dX1_cast_148 : decode cX1_cast 148 = .ok (.iconst 3, 1) := by decide +kernel
theorem dX1_cast_149 : decode cX1_cast 149 = .ok (.if_icmp .lt 18, 3) := by decide +kernel
theorem dX1_cast_152 : decode cX1_cast 152 = .ok (.iload 5, 2) := by decide +kernel
theorem dX1_cast_154 : decode cX1_cast 154 = .ok (.iconst 3, 1) := by decide +kernel
theorem dX1_cast_155 : decode cX1_cast 155 = .ok (.if_icmp .lt 12, 3) := by decide +kernel
theorem dX1_cast_158 : decode cX1_cast 158 = .ok (.aload_n 0, 1) := by decide +kernel
theorem dX1_cast_159 : decode cX1_cast 159 = .ok (.iload 4, 2) := by decide +kernel
theorem dX1_cast_161 : decode cX1_cast 161 = .ok (.iload 5, 2) := by decide +kernel
theorem dX1_cast_163 : decode cX1_cast 163 = .ok (.iload_n 2, 1) := by decide +kernel
theorem dX1_cast_164 : decode cX1_cast 164 = .ok (.invokevirtual 51, 3) := by decide +kernel
theorem dX1_cast_167 : decode cX1_cast 167 = .ok (.aload_n 0, 1) := by decide +kernel
theorem dX1_cast_168 : decode cX1_cast 168 = .ok (.iload_n 1, 1) := by decide +kernel
theorem dX1_cast_169 : decode cX1_cast 169 = .ok (.putfield 35, 3) := by decide +kernel
theorem dX1_cast_172 : decode cX1_cast 172 = .ok (.iconst 0, 1) := by decide +kernel
theorem dX1_cast_173 : decode cX1_cast 173 = .ok (.ireturn, 1) := by decide +kernel
abbrev cX1_agree : ByteArray := prog_3_method_17_code
def yX1_agree : MethodName := ⟨RX1, "agree", "(II)Z"⟩
theorem dX1_agree_0 : decode cX1_agree 0 = .ok (.aload_n 0, 1) := by decide +kernel
theorem dX1_agree_1 : decode cX1_agree 1 = .ok (.iload_n 1, 1) := by decide +kernel
theorem dX1_agree_2 : decode cX1_agree 2 = .ok (.invokevirtual 61, 3) := by decide +kernel
theorem dX1_agree_5 : decode cX1_agree 5 = .ok (.ifCond .eq 11, 3) := by decide +kernel
theorem dX1_agree_8 : decode cX1_agree 8 = .ok (.aload_n 0, 1) := by decide +kernel
theorem dX1_agree_9 : decode cX1_agree 9 = .ok (.iload_n 2, 1) := by decide +kernel
theorem dX1_agree_10 : decode cX1_agree 10 = .ok (.invokevirtual 61, 3) := by decide +kernel
theorem dX1_agree_13 : decode cX1_agree 13 = .ok (.ifCond .ne 5, 3) := by decide +kernel
theorem dX1_agree_16 : decode cX1_agree 16 = .ok (.iconst 0, 1) := by decide +kernel
theorem dX1_agree_17 : decode cX1_agree 17 = .ok (.ireturn, 1) := by decide +kernel
theorem dX1_agree_18 : decode cX1_agree 18 = .ok (.aload_n 0, 1) := by decide +kernel
theorem dX1_agree_19 : decode cX1_agree 19 = .ok (.iload_n 1, 1) := by decide +kernel
theorem dX1_agree_20 : decode cX1_agree 20 = .ok (.iload_n 2, 1) := by decide +kernel
theorem dX1_agree_21 : decode cX1_agree 21 = .ok (.invokevirtual 65, 3) := by decide +kernel
theorem dX1_agree_24 : decode cX1_agree 24 = .ok (.ifCond .ne 47, 3) := by decide +kernel
theorem dX1_agree_27 : decode cX1_agree 27 = .ok (.iload_n 1, 1) := by decide +kernel
theorem dX1_agree_28 : decode cX1_agree 28 = .ok (.iconst 3, 1) := by decide +kernel
theorem dX1_agree_29 : decode cX1_agree 29 = .ok (.if_icmp .lt 46, 3) := by decide +kernel
theorem dX1_agree_32 : decode cX1_agree 32 = .ok (.iload_n 2, 1) := by decide +kernel
theorem dX1_agree_33 : decode cX1_agree 33 = .ok (.iconst 3, 1) := by decide +kernel
theorem dX1_agree_34 : decode cX1_agree 34 = .ok (.if_icmp .lt 41, 3) := by decide +kernel
theorem dX1_agree_37 : decode cX1_agree 37 = .ok (.aload_n 0, 1) := by decide +kernel
theorem dX1_agree_38 : decode cX1_agree 38 = .ok (.aload_n 0, 1) := by decide +kernel
theorem dX1_agree_39 : decode cX1_agree 39 = .ok (.iload_n 1, 1) := by decide +kernel
theorem dX1_agree_40 : decode cX1_agree 40 = .ok (.invokevirtual 41, 3) := by decide +kernel
theorem dX1_agree_43 : decode cX1_agree 43 = .ok (.aload_n 0, 1) := by decide +kernel
theorem dX1_agree_44 : decode cX1_agree 44 = .ok (.iload_n 2, 1) := by decide +kernel
theorem dX1_agree_45 : decode cX1_agree 45 = .ok (.invokevirtual 41, 3) := by decide +kernel
theorem dX1_agree_48 : decode cX1_agree 48 = .ok (.invokevirtual 65, 3) := by decide +kernel
theorem dX1_agree_51 : decode cX1_agree 51 = .ok (.ifCond .eq 24, 3) := by decide +kernel
theorem dX1_agree_54 : decode cX1_agree 54 = .ok (.aload_n 0, 1) := by decide +kernel
theorem dX1_agree_55 : decode cX1_agree 55 = .ok (.aload_n 0, 1) := by decide +kernel
theorem dX1_agree_56 : decode cX1_agree 56 = .ok (.iload_n 1, 1) := by decide +kernel
theorem dX1_agree_57 : decode cX1_agree 57 = .ok (.invokevirtual 44, 3) := by decide +kernel
theorem dX1_agree_60 : decode cX1_agree 60 = .ok (.aload_n 0, 1) := by decide +kernel
theorem dX1_agree_61 : decode cX1_agree 61 = .ok (.iload_n 2, 1) := by decide +kernel
theorem dX1_agree_62 : decode cX1_agree 62 = .ok (.invokevirtual 44, 3) := by decide +kernel
theorem dX1_agree_65 : decode cX1_agree 65 = .ok (.invokevirtual 65, 3) := by decide +kernel
theorem dX1_agree_68 : decode cX1_agree 68 = .ok (.ifCond .eq 7, 3) := by decide +kernel
theorem dX1_agree_71 : decode cX1_agree 71 = .ok (.iconst 1, 1) := by decide +kernel
theorem dX1_agree_72 : decode cX1_agree 72 = .ok (.goto 4, 3) := by decide +kernel
theorem dX1_agree_75 : decode cX1_agree 75 = .ok (.iconst 0, 1) := by decide +kernel
theorem dX1_agree_76 : decode cX1_agree 76 = .ok (.ireturn, 1) := by decide +kernel
abbrev cX1_isType : ByteArray := prog_3_method_15_code
def yX1_isType : MethodName := ⟨RX1, "isType", "(I)Z"⟩
theorem dX1_isType_0 : decode cX1_isType 0 = .ok (.iload_n 1, 1) := by decide +kernel
theorem dX1_isType_1 : decode cX1_isType 1 = .ok (.ifCond .lt 13, 3) := by decide +kernel
theorem dX1_isType_4 : decode cX1_isType 4 = .ok (.iload_n 1, 1) := by decide +kernel
theorem dX1_isType_5 : decode cX1_isType 5 = .ok (.bipush 11, 2) := by decide +kernel
theorem dX1_isType_7 : decode cX1_isType 7 = .ok (.if_icmp .gt 7, 3) := by decide +kernel
theorem dX1_isType_10 : decode cX1_isType 10 = .ok (.iconst 1, 1) := by decide +kernel
theorem dX1_isType_11 : decode cX1_isType 11 = .ok (.goto 4, 3) := by decide +kernel
theorem dX1_isType_14 : decode cX1_isType 14 = .ok (.iconst 0, 1) := by decide +kernel
theorem dX1_isType_15 : decode cX1_isType 15 = .ok (.ireturn, 1) := by decide +kernel
abbrev cX1_simple : ByteArray := prog_3_method_16_code
def yX1_simple : MethodName := ⟨RX1, "simple", "(II)Z"⟩
theorem dX1_simple_0 : decode cX1_simple 0 = .ok (.iload_n 1, 1) := by decide +kernel
theorem dX1_simple_1 : decode cX1_simple 1 = .ok (.iload_n 2, 1) := by decide +kernel
theorem dX1_simple_2 : decode cX1_simple 2 = .ok (.if_icmp .eq 11, 3) := by decide +kernel
theorem dX1_simple_5 : decode cX1_simple 5 = .ok (.iload_n 1, 1) := by decide +kernel
theorem dX1_simple_6 : decode cX1_simple 6 = .ok (.ifCond .eq 7, 3) := by decide +kernel
theorem dX1_simple_9 : decode cX1_simple 9 = .ok (.iload_n 2, 1) := by decide +kernel
theorem dX1_simple_10 : decode cX1_simple 10 = .ok (.ifCond .ne 7, 3) := by decide +kernel
theorem dX1_simple_13 : decode cX1_simple 13 = .ok (.iconst 1, 1) := by decide +kernel
theorem dX1_simple_14 : decode cX1_simple 14 = .ok (.goto 4, 3) := by decide +kernel
theorem dX1_simple_17 : decode cX1_simple 17 = .ok (.iconst 0, 1) := by decide +kernel
theorem dX1_simple_18 : decode cX1_simple 18 = .ok (.ireturn, 1) := by decide +kernel
abbrev cX1_from : ByteArray := prog_3_method_4_code
def yX1_from : MethodName := ⟨RX1, "from", "(I)I"⟩
theorem dX1_from_0 : decode cX1_from 0 = .ok (.iload_n 1, 1) := by decide +kernel
theorem dX1_from_1 : decode cX1_from 1 = .ok (.iconst 3, 1) := by decide +kernel
theorem dX1_from_2 : decode cX1_from 2 = .ok (.isub, 1) := by decide +kernel
theorem dX1_from_3 : decode cX1_from 3 = .ok (.iconst 3, 1) := by decide +kernel
theorem dX1_from_4 : decode cX1_from 4 = .ok (.idiv, 1) := by decide +kernel
theorem dX1_from_5 : decode cX1_from 5 = .ok (.ireturn, 1) := by decide +kernel
abbrev cX1_into : ByteArray := prog_3_method_5_code
def yX1_into : MethodName := ⟨RX1, "into", "(I)I"⟩
theorem dX1_into_0 : decode cX1_into 0 = .ok (.iload_n 1, 1) := by decide +kernel
theorem dX1_into_1 : decode cX1_into 1 = .ok (.iconst 3, 1) := by decide +kernel
theorem dX1_into_2 : decode cX1_into 2 = .ok (.isub, 1) := by decide +kernel
theorem dX1_into_3 : decode cX1_into 3 = .ok (.iconst 3, 1) := by decide +kernel
theorem dX1_into_4 : decode cX1_into 4 = .ok (.irem, 1) := by decide +kernel
theorem dX1_into_5 : decode cX1_into 5 = .ok (.ireturn, 1) := by decide +kernel
abbrev cX1_wrap : ByteArray := prog_3_method_7_code
def yX1_wrap : MethodName := ⟨RX1, "wrap", "(III)V"⟩
theorem dX1_wrap_0 : decode cX1_wrap 0 = .ok (.aload_n 0, 1) := by decide +kernel
theorem dX1_wrap_1 : decode cX1_wrap 1 = .ok (.iload_n 2, 1) := by decide +kernel
theorem dX1_wrap_2 : decode cX1_wrap 2 = .ok (.invokevirtual 41, 3) := by decide +kernel
theorem dX1_wrap_5 : decode cX1_wrap 5 = .ok (.ifCond .ne 11, 3) := by decide +kernel
theorem dX1_wrap_8 : decode cX1_wrap 8 = .ok (.aload_n 0, 1) := by decide +kernel
theorem dX1_wrap_9 : decode cX1_wrap 9 = .ok (.iload_n 1, 1) := by decide +kernel
theorem dX1_wrap_10 : decode cX1_wrap 10 = .ok (.invokevirtual 41, 3) := by decide +kernel
theorem dX1_wrap_13 : decode cX1_wrap 13 = .ok (.goto 4, 3) := by decide +kernel
theorem dX1_wrap_16 : decode cX1_wrap 16 = .ok (.iconst 0, 1) := by decide +kernel
theorem dX1_wrap_17 : decode cX1_wrap 17 = .ok (.istore 4, 2) := by decide +kernel
theorem dX1_wrap_19 : decode cX1_wrap 19 = .ok (.aload_n 0, 1) := by decide +kernel
theorem dX1_wrap_20 : decode cX1_wrap 20 = .ok (.iload_n 1, 1) := by decide +kernel
theorem dX1_wrap_21 : decode cX1_wrap 21 = .ok (.invokevirtual 44, 3) := by decide +kernel
theorem dX1_wrap_24 : decode cX1_wrap 24 = .ok (.ifCond .ne 11, 3) := by decide +kernel
theorem dX1_wrap_27 : decode cX1_wrap 27 = .ok (.aload_n 0, 1) := by decide +kernel
theorem dX1_wrap_28 : decode cX1_wrap 28 = .ok (.iload_n 2, 1) := by decide +kernel
theorem dX1_wrap_29 : decode cX1_wrap 29 = .ok (.invokevirtual 44, 3) := by decide +kernel
theorem dX1_wrap_32 : decode cX1_wrap 32 = .ok (.goto 4, 3) := by decide +kernel
theorem dX1_wrap_35 : decode cX1_wrap 35 = .ok (.iconst 0, 1) := by decide +kernel
theorem dX1_wrap_36 : decode cX1_wrap 36 = .ok (.istore 5, 2) := by decide +kernel
theorem dX1_wrap_38 : decode cX1_wrap 38 = .ok (.iconst 0, 1) := by decide +kernel
theorem dX1_wrap_39 : decode cX1_wrap 39 = .ok (.istore 6, 2) := by decide +kernel
theorem dX1_wrap_41 : decode cX1_wrap 41 = .ok (.iload 6, 2) := by decide +kernel
theorem dX1_wrap_43 : decode cX1_wrap 43 = .ok (.iconst 2, 1) := by decide +kernel
theorem dX1_wrap_44 : decode cX1_wrap 44 = .ok (.if_icmp .ge 83, 3) := by decide +kernel
theorem dX1_wrap_47 : decode cX1_wrap 47 = .ok (.aload_n 0, 1) := by decide +kernel
theorem dX1_wrap_48 : decode cX1_wrap 48 = .ok (.getfield 7, 3) := by decide +kernel
theorem dX1_wrap_51 : decode cX1_wrap 51 = .ok (.iload 6, 2) := by decide +kernel
theorem dX1_wrap_53 : decode cX1_wrap 53 = .ok (.iload 4, 2) := by decide +kernel
theorem dX1_wrap_55 : decode cX1_wrap 55 = .ok (.ifCond .le 16, 3) := by decide +kernel
theorem dX1_wrap_58 : decode cX1_wrap 58 = .ok (.iload 4, 2) := by decide +kernel
theorem dX1_wrap_60 : decode cX1_wrap 60 = .ok (.iload 6, 2) := by decide +kernel
theorem dX1_wrap_62 : decode cX1_wrap 62 = .ok (.iconst 1, 1) := by decide +kernel
theorem dX1_wrap_63 : decode cX1_wrap 63 = .ok (.iadd, 1) := by decide +kernel
theorem dX1_wrap_64 : decode cX1_wrap 64 = .ok (.if_icmp .eq 7, 3) := by decide +kernel
theorem dX1_wrap_67 : decode cX1_wrap 67 = .ok (.iload_n 3, 1) := by decide +kernel
theorem dX1_wrap_68 : decode cX1_wrap 68 = .ok (.goto 10, 3) := by decide +kernel
theorem dX1_wrap_71 : decode cX1_wrap 71 = .ok (.aload_n 0, 1) := by decide +kernel
theorem dX1_wrap_72 : decode cX1_wrap 72 = .ok (.getfield 7, 3) := by decide +kernel
theorem dX1_wrap_75 : decode cX1_wrap 75 = .ok (.iload 6, 2) := by decide +kernel
theorem dX1_wrap_77 : decode cX1_wrap 77 = .ok (.iaload, 1) := by decide +kernel
theorem dX1_wrap_78 : decode cX1_wrap 78 = .ok (.iastore, 1) := by decide +kernel
theorem dX1_wrap_79 : decode cX1_wrap 79 = .ok (.aload_n 0, 1) := by decide +kernel
theorem dX1_wrap_80 : decode cX1_wrap 80 = .ok (.getfield 13, 3) := by decide +kernel
theorem dX1_wrap_83 : decode cX1_wrap 83 = .ok (.iload 6, 2) := by decide +kernel
theorem dX1_wrap_85 : decode cX1_wrap 85 = .ok (.iload 5, 2) := by decide +kernel
theorem dX1_wrap_87 : decode cX1_wrap 87 = .ok (.ifCond .le 26, 3) := by decide +kernel
theorem dX1_wrap_90 : decode cX1_wrap 90 = .ok (.iload 5, 2) := by decide +kernel
theorem dX1_wrap_92 : decode cX1_wrap 92 = .ok (.iload 6, 2) := by decide +kernel
theorem dX1_wrap_94 : decode cX1_wrap 94 = .ok (.iconst 1, 1) := by decide +kernel
theorem dX1_wrap_95 : decode cX1_wrap 95 = .ok (.iadd, 1) := by decide +kernel
theorem dX1_wrap_96 : decode cX1_wrap 96 = .ok (.if_icmp .eq 17, 3) := by decide +kernel
theorem dX1_wrap_99 : decode cX1_wrap 99 = .ok (.aload_n 0, 1) := by decide +kernel
theorem dX1_wrap_100 : decode cX1_wrap 100 = .ok (.getfield 13, 3) := by decide +kernel
theorem dX1_wrap_103 : decode cX1_wrap 103 = .ok (.iload 6, 2) := by decide +kernel
theorem dX1_wrap_105 : decode cX1_wrap 105 = .ok (.iaload, 1) := by decide +kernel
theorem dX1_wrap_106 : decode cX1_wrap 106 = .ok (.ifCond .ne 7, 3) := by decide +kernel
theorem dX1_wrap_109 : decode cX1_wrap 109 = .ok (.iload_n 3, 1) := by decide +kernel
theorem dX1_wrap_110 : decode cX1_wrap 110 = .ok (.goto 10, 3) := by decide +kernel
theorem dX1_wrap_113 : decode cX1_wrap 113 = .ok (.aload_n 0, 1) := by decide +kernel
theorem dX1_wrap_114 : decode cX1_wrap 114 = .ok (.getfield 13, 3) := by decide +kernel
theorem dX1_wrap_117 : decode cX1_wrap 117 = .ok (.iload 6, 2) := by decide +kernel
theorem dX1_wrap_119 : decode cX1_wrap 119 = .ok (.iaload, 1) := by decide +kernel
theorem dX1_wrap_120 : decode cX1_wrap 120 = .ok (.iastore, 1) := by decide +kernel
theorem dX1_wrap_121 : decode cX1_wrap 121 = .ok (.iinc 6 1, 3) := by decide +kernel
theorem dX1_wrap_124 : decode cX1_wrap 124 = .ok (.goto (-83), 3) := by decide +kernel
theorem dX1_wrap_127 : decode cX1_wrap 127 = .ok (.return_, 1) := by decide +kernel
abbrev cX1_type : ByteArray := prog_3_method_9_code
def yX1_type : MethodName := ⟨RX1, "type", "()I"⟩
theorem dX1_type_0 : decode cX1_type 0 = .ok (.aload_n 0, 1) := by decide +kernel
theorem dX1_type_1 : decode cX1_type 1 = .ok (.getfield 20, 3) := by decide +kernel
theorem dX1_type_4 : decode cX1_type 4 = .ok (.ifCond .eq 10, 3) := by decide +kernel
theorem dX1_type_7 : decode cX1_type 7 = .ok (.aload_n 0, 1) := by decide +kernel
theorem dX1_type_8 : decode cX1_type 8 = .ok (.getfield 35, 3) := by decide +kernel
theorem dX1_type_11 : decode cX1_type 11 = .ok (.goto 5, 3) := by decide +kernel
theorem dX1_type_14 : decode cX1_type 14 = .ok (.bipush (-100), 2) := by decide +kernel
theorem dX1_type_16 : decode cX1_type 16 = .ok (.ireturn, 1) := by decide +kernel
abbrev cX1_kind : ByteArray := prog_3_method_10_code
def yX1_kind : MethodName := ⟨RX1, "kind", "()I"⟩
theorem dX1_kind_0 : decode cX1_kind 0 = .ok (.aload_n 0, 1) := by decide +kernel
theorem dX1_kind_1 : decode cX1_kind 1 = .ok (.getfield 20, 3) := by decide +kernel
theorem dX1_kind_4 : decode cX1_kind 4 = .ok (.ifCond .eq 10, 3) := by decide +kernel
theorem dX1_kind_7 : decode cX1_kind 7 = .ok (.aload_n 0, 1) := by decide +kernel
theorem dX1_kind_8 : decode cX1_kind 8 = .ok (.getfield 24, 3) := by decide +kernel
theorem dX1_kind_11 : decode cX1_kind 11 = .ok (.goto 5, 3) := by decide +kernel
theorem dX1_kind_14 : decode cX1_kind 14 = .ok (.bipush (-100), 2) := by decide +kernel
theorem dX1_kind_16 : decode cX1_kind 16 = .ok (.ireturn, 1) := by decide +kernel
abbrev cX1_raw : ByteArray := prog_3_method_11_code
def yX1_raw : MethodName := ⟨RX1, "raw", "()I"⟩
theorem dX1_raw_0 : decode cX1_raw 0 = .ok (.aload_n 0, 1) := by decide +kernel
theorem dX1_raw_1 : decode cX1_raw 1 = .ok (.getfield 20, 3) := by decide +kernel
theorem dX1_raw_4 : decode cX1_raw 4 = .ok (.ifCond .eq 10, 3) := by decide +kernel
theorem dX1_raw_7 : decode cX1_raw 7 = .ok (.aload_n 0, 1) := by decide +kernel
theorem dX1_raw_8 : decode cX1_raw 8 = .ok (.getfield 28, 3) := by decide +kernel
theorem dX1_raw_11 : decode cX1_raw 11 = .ok (.goto 4, 3) := by decide +kernel
theorem dX1_raw_14 : decode cX1_raw 14 = .ok (.iconst 0, 1) := by decide +kernel
theorem dX1_raw_15 : decode cX1_raw 15 = .ok (.ireturn, 1) := by decide +kernel
abbrev cX1_call : ByteArray := prog_3_method_12_code
def yX1_call : MethodName := ⟨RX1, "call", "(II)I"⟩
theorem dX1_call_0 : decode cX1_call 0 = .ok (.iload_n 1, 1) := by decide +kernel
theorem dX1_call_1 : decode cX1_call 1 = .ok (.ifCond .eq 17, 3) := by decide +kernel
theorem dX1_call_4 : decode cX1_call 4 = .ok (.iload_n 1, 1) := by decide +kernel
theorem dX1_call_5 : decode cX1_call 5 = .ok (.iconst 1, 1) := by decide +kernel
theorem dX1_call_6 : decode cX1_call 6 = .ok (.if_icmp .ne 16, 3) := by decide +kernel
theorem dX1_call_9 : decode cX1_call 9 = .ok (.iload_n 2, 1) := by decide +kernel
theorem dX1_call_10 : decode cX1_call 10 = .ok (.ifCond .eq 8, 3) := by decide +kernel
theorem dX1_call_13 : decode cX1_call 13 = .ok (.iload_n 2, 1) := by decide +kernel
theorem dX1_call_14 : decode cX1_call 14 = .ok (.iconst 1, 1) := by decide +kernel
theorem dX1_call_15 : decode cX1_call 15 = .ok (.if_icmp .ne 7, 3) := by decide +kernel
theorem dX1_call_18 : decode cX1_call 18 = .ok (.iconst 1, 1) := by decide +kernel
theorem dX1_call_19 : decode cX1_call 19 = .ok (.goto 4, 3) := by decide +kernel
theorem dX1_call_22 : decode cX1_call 22 = .ok (.iconst 0, 1) := by decide +kernel
theorem dX1_call_23 : decode cX1_call 23 = .ok (.istore_n 3, 1) := by decide +kernel
theorem dX1_call_24 : decode cX1_call 24 = .ok (.aload_n 0, 1) := by decide +kernel
theorem dX1_call_25 : decode cX1_call 25 = .ok (.getfield 20, 3) := by decide +kernel
theorem dX1_call_28 : decode cX1_call 28 = .ok (.ifCond .eq 40, 3) := by decide +kernel
theorem dX1_call_31 : decode cX1_call 31 = .ok (.aload_n 0, 1) := by decide +kernel
theorem dX1_call_32 : decode cX1_call 32 = .ok (.getfield 35, 3) := by decide +kernel
theorem dX1_call_35 : decode cX1_call 35 = .ok (.iconst 3, 1) := by decide +kernel
theorem dX1_call_36 : decode cX1_call 36 = .ok (.if_icmp .lt 32, 3) := by decide +kernel
theorem dX1_call_39 : decode cX1_call 39 = .ok (.iload_n 3, 1) := by decide +kernel
theorem dX1_call_40 : decode cX1_call 40 = .ok (.ifCond .eq 28, 3) := by decide +kernel
theorem dX1_call_43 : decode cX1_call 43 = .ok (.aload_n 0, 1) := by decide +kernel
theorem dX1_call_44 : decode cX1_call 44 = .ok (.aload_n 0, 1) := by decide +kernel
theorem dX1_call_45 : decode cX1_call 45 = .ok (.getfield 35, 3) := by decide +kernel
theorem dX1_call_48 : decode cX1_call 48 = .ok (.invokevirtual 41, 3) := by decide +kernel
theorem dX1_call_51 : decode cX1_call 51 = .ok (.ifCond .eq 20, 3) := by decide +kernel
theorem dX1_call_54 : decode cX1_call 54 = .ok (.aload_n 0, 1) := by decide +kernel
theorem dX1_call_55 : decode cX1_call 55 = .ok (.aload_n 0, 1) := by decide +kernel
theorem dX1_call_56 : decode cX1_call 56 = .ok (.getfield 35, 3) := by decide +kernel
theorem dX1_call_59 : decode cX1_call 59 = .ok (.invokevirtual 41, 3) := by decide +kernel
theorem dX1_call_62 : decode cX1_call 62 = .ok (.iload_n 1, 1) := by decide +kernel
theorem dX1_call_63 : decode cX1_call 63 = .ok (.iconst 1, 1) := by decide +kernel
theorem dX1_call_64 : decode cX1_call 64 = .ok (.iadd, 1) := by decide +kernel
theorem dX1_call_65 : decode cX1_call 65 = .ok (.if_icmp .eq 6, 3) := by decide +kernel
theorem dX1_call_68 : decode cX1_call 68 = .ok (.bipush (-100), 2) := by decide +kernel
theorem dX1_call_70 : decode cX1_call 70 = .ok (.ireturn, 1) := by decide +kernel
theorem dX1_call_71 : decode cX1_call 71 = .ok (.aload_n 0, 1) := by decide +kernel
theorem dX1_call_72 : decode cX1_call 72 = .ok (.getfield 7, 3) := by decide +kernel
theorem dX1_call_75 : decode cX1_call 75 = .ok (.iload_n 1, 1) := by decide +kernel
theorem dX1_call_76 : decode cX1_call 76 = .ok (.iaload, 1) := by decide +kernel
theorem dX1_call_77 : decode cX1_call 77 = .ok (.ifCond .le 11, 3) := by decide +kernel
theorem dX1_call_80 : decode cX1_call 80 = .ok (.aload_n 0, 1) := by decide +kernel
theorem dX1_call_81 : decode cX1_call 81 = .ok (.getfield 7, 3) := by decide +kernel
theorem dX1_call_84 : decode cX1_call 84 = .ok (.iload_n 1, 1) := by decide +kernel
theorem dX1_call_85 : decode cX1_call 85 = .ok (.iaload, 1) := by decide +kernel
theorem dX1_call_86 : decode cX1_call 86 = .ok (.ineg, 1) := by decide +kernel
theorem dX1_call_87 : decode cX1_call 87 = .ok (.ireturn, 1) := by decide +kernel
theorem dX1_call_88 : decode cX1_call 88 = .ok (.aload_n 0, 1) := by decide +kernel
theorem dX1_call_89 : decode cX1_call 89 = .ok (.getfield 28, 3) := by decide +kernel
theorem dX1_call_92 : decode cX1_call 92 = .ok (.iconst 1, 1) := by decide +kernel
theorem dX1_call_93 : decode cX1_call 93 = .ok (.if_icmp .ne 7, 3) := by decide +kernel
theorem dX1_call_96 : decode cX1_call 96 = .ok (.iload_n 1, 1) := by decide +kernel
theorem dX1_call_97 : decode cX1_call 97 = .ok (.goto 24, 3) := by decide +kernel
theorem dX1_call_100 : decode cX1_call 100 = .ok (.aload_n 0, 1) := by decide +kernel
theorem dX1_call_101 : decode cX1_call 101 = .ok (.getfield 28, 3) := by decide +kernel
theorem dX1_call_104 : decode cX1_call 104 = .ok (.iconst 2, 1) := by decide +kernel
theorem dX1_call_105 : decode cX1_call 105 = .ok (.if_icmp .eq 11, 3) := by decide +kernel
theorem dX1_call_108 : decode cX1_call 108 = .ok (.aload_n 0, 1) := by decide +kernel
theorem dX1_call_109 : decode cX1_call 109 = .ok (.getfield 28, 3) := by decide +kernel
theorem dX1_call_112 : decode cX1_call 112 = .ok (.iconst 3, 1) := by decide +kernel
theorem dX1_call_113 : decode cX1_call 113 = .ok (.if_icmp .ne 7, 3) := by decide +kernel
theorem dX1_call_116 : decode cX1_call 116 = .ok (.iconst 1, 1) := by decide +kernel
theorem dX1_call_117 : decode cX1_call 117 = .ok (.goto 4, 3) := by decide +kernel
theorem dX1_call_120 : decode cX1_call 120 = .ok (.iconst 0, 1) := by decide +kernel
theorem dX1_call_121 : decode cX1_call 121 = .ok (.istore 4, 2) := by decide +kernel
theorem dX1_call_123 : decode cX1_call 123 = .ok (.aload_n 0, 1) := by decide +kernel
theorem dX1_call_124 : decode cX1_call 124 = .ok (.getfield 28, 3) := by decide +kernel
theorem dX1_call_127 : decode cX1_call 127 = .ok (.ifCond .ne 9, 3) := by decide +kernel
theorem dX1_call_130 : decode cX1_call 130 = .ok (.iload_n 2, 1) := by decide +kernel
theorem dX1_call_131 : decode cX1_call 131 = .ok (.iconst 1, 1) := by decide +kernel
theorem dX1_call_132 : decode cX1_call 132 = .ok (.iadd, 1) := by decide +kernel
theorem dX1_call_133 : decode cX1_call 133 = .ok (.goto 59, 3) := by decide +kernel
theorem dX1_call_136 : decode cX1_call 136 = .ok (.aload_n 0, 1) := by decide +kernel
theorem dX1_call_137 : decode cX1_call 137 = .ok (.getfield 28, 3) := by decide +kernel
theorem dX1_call_140 : decode cX1_call 140 = .ok (.iconst 1, 1) := by decide +kernel
theorem dX1_call_141 : decode cX1_call 141 = .ok (.if_icmp .eq 11, 3) := by decide +kernel
theorem dX1_call_144 : decode cX1_call 144 = .ok (.aload_n 0, 1) := by decide +kernel
theorem dX1_call_145 : decode cX1_call 145 = .ok (.getfield 28, 3) := by decide +kernel
theorem dX1_call_148 : decode cX1_call 148 = .ok (.iconst 5, 1) := by decide +kernel
theorem dX1_call_149 : decode cX1_call 149 = .ok (.if_icmp .ne 7, 3) := by decide +kernel
theorem dX1_call_152 : decode cX1_call 152 = .ok (.iload_n 2, 1) := by decide +kernel
theorem dX1_call_153 : decode cX1_call 153 = .ok (.goto 39, 3) := by decide +kernel
theorem dX1_call_156 : decode cX1_call 156 = .ok (.aload_n 0, 1) := by decide +kernel
theorem dX1_call_157 : decode cX1_call 157 = .ok (.getfield 28, 3) := by decide +kernel
theorem dX1_call_160 : decode cX1_call 160 = .ok (.iconst 2, 1) := by decide +kernel
theorem dX1_call_161 : decode cX1_call 161 = .ok (.if_icmp .ne 9, 3) := by decide +kernel
theorem dX1_call_164 : decode cX1_call 164 = .ok (.iconst 1, 1) := by decide +kernel
theorem dX1_call_165 : decode cX1_call 165 = .ok (.iload_n 2, 1) := by decide +kernel
theorem dX1_call_166 : decode cX1_call 166 = .ok (.isub, 1) := by decide +kernel
theorem dX1_call_167 : decode cX1_call 167 = .ok (.goto 25, 3) := by decide +kernel
theorem dX1_call_170 : decode cX1_call 170 = .ok (.aload_n 0, 1) := by decide +kernel
theorem dX1_call_171 : decode cX1_call 171 = .ok (.getfield 28, 3) := by decide +kernel
theorem dX1_call_174 : decode cX1_call 174 = .ok (.iconst 3, 1) := by decide +kernel
theorem dX1_call_175 : decode cX1_call 175 = .ok (.if_icmp .ne 15, 3) := by decide +kernel
theorem dX1_call_178 : decode cX1_call 178 = .ok (.iload_n 2, 1) := by decide +kernel
theorem dX1_call_179 : decode cX1_call 179 = .ok (.ifCond .le 7, 3) := by decide +kernel
theorem dX1_call_182 : decode cX1_call 182 = .ok (.iconst 1, 1) := by decide +kernel
theorem dX1_call_183 : decode cX1_call 183 = .ok (.goto 9, 3) := by decide +kernel
theorem dX1_call_186 : decode cX1_call 186 = .ok (.iconst 0, 1) := by decide +kernel
theorem dX1_call_187 : decode cX1_call 187 = .ok (.goto 5, 3) := by decide +kernel
theorem dX1_call_190 : decode cX1_call 190 = .ok (.bipush 7, 2) := by decide +kernel
theorem dX1_call_192 : decode cX1_call 192 = .ok (.istore 5, 2) := by decide +kernel
theorem dX1_call_194 : decode cX1_call 194 = .ok (.aload_n 0, 1) := by decide +kernel
theorem dX1_call_195 : decode cX1_call 195 = .ok (.getfield 13, 3) := by decide +kernel
theorem dX1_call_198 : decode cX1_call 198 = .ok (.iload 4, 2) := by decide +kernel
theorem dX1_call_200 : decode cX1_call 200 = .ok (.iaload, 1) := by decide +kernel
theorem dX1_call_201 : decode cX1_call 201 = .ok (.ifCond .le 11, 3) := by decide +kernel
theorem dX1_call_204 : decode cX1_call 204 = .ok (.aload_n 0, 1) := by decide +kernel
theorem dX1_call_205 : decode cX1_call 205 = .ok (.getfield 13, 3) := by decide +kernel
theorem dX1_call_208 : decode cX1_call 208 = .ok (.iload 4, 2) := by decide +kernel
theorem dX1_call_210 : decode cX1_call 210 = .ok (.iaload, 1) := by decide +kernel
theorem dX1_call_211 : decode cX1_call 211 = .ok (.ireturn, 1) := by decide +kernel
theorem dX1_call_212 : decode cX1_call 212 = .ok (.aload_n 0, 1) := by decide +kernel
theorem dX1_call_213 : decode cX1_call 213 = .ok (.iconst 1, 1) := by decide +kernel
theorem dX1_call_214 : decode cX1_call 214 = .ok (.putfield 38, 3) := by decide +kernel
theorem dX1_call_217 : decode cX1_call 217 = .ok (.aload_n 0, 1) := by decide +kernel
theorem dX1_call_218 : decode cX1_call 218 = .ok (.iload 4, 2) := by decide +kernel
theorem dX1_call_220 : decode cX1_call 220 = .ok (.putfield 55, 3) := by decide +kernel
theorem dX1_call_223 : decode cX1_call 223 = .ok (.aload_n 0, 1) := by decide +kernel
theorem dX1_call_224 : decode cX1_call 224 = .ok (.iload 5, 2) := by decide +kernel
theorem dX1_call_226 : decode cX1_call 226 = .ok (.putfield 58, 3) := by decide +kernel
theorem dX1_call_229 : decode cX1_call 229 = .ok (.iconst 0, 1) := by decide +kernel
theorem dX1_call_230 : decode cX1_call 230 = .ok (.ireturn, 1) := by decide +kernel
abbrev cX1_resultKind : ByteArray := prog_3_method_13_code
def yX1_resultKind : MethodName := ⟨RX1, "resultKind", "()I"⟩
theorem dX1_resultKind_0 : decode cX1_resultKind 0 = .ok (.aload_n 0, 1) := by decide +kernel
theorem dX1_resultKind_1 : decode cX1_resultKind 1 = .ok (.getfield 38, 3) := by decide +kernel
theorem dX1_resultKind_4 : decode cX1_resultKind 4 = .ok (.ifCond .eq 10, 3) := by decide +kernel
theorem dX1_resultKind_7 : decode cX1_resultKind 7 = .ok (.aload_n 0, 1) := by decide +kernel
theorem dX1_resultKind_8 : decode cX1_resultKind 8 = .ok (.getfield 55, 3) := by decide +kernel
theorem dX1_resultKind_11 : decode cX1_resultKind 11 = .ok (.goto 5, 3) := by decide +kernel
theorem dX1_resultKind_14 : decode cX1_resultKind 14 = .ok (.bipush (-100), 2) := by decide +kernel
theorem dX1_resultKind_16 : decode cX1_resultKind 16 = .ok (.ireturn, 1) := by decide +kernel
abbrev cX1_result : ByteArray := prog_3_method_14_code
def yX1_result : MethodName := ⟨RX1, "result", "()I"⟩
theorem dX1_result_0 : decode cX1_result 0 = .ok (.aload_n 0, 1) := by decide +kernel
theorem dX1_result_1 : decode cX1_result 1 = .ok (.getfield 38, 3) := by decide +kernel
theorem dX1_result_4 : decode cX1_result 4 = .ok (.ifCond .eq 10, 3) := by decide +kernel
theorem dX1_result_7 : decode cX1_result 7 = .ok (.aload_n 0, 1) := by decide +kernel
theorem dX1_result_8 : decode cX1_result 8 = .ok (.getfield 58, 3) := by decide +kernel
theorem dX1_result_11 : decode cX1_result 11 = .ok (.goto 4, 3) := by decide +kernel
theorem dX1_result_14 : decode cX1_result 14 = .ok (.iconst 0, 1) := by decide +kernel
theorem dX1_result_15 : decode cX1_result 15 = .ok (.ireturn, 1) := by decide +kernel
abbrev cX1_agreeing : ByteArray := prog_3_method_18_code
def yX1_agreeing : MethodName := ⟨RX1, "agreeing", "(I)I"⟩
theorem dX1_agreeing_0 : decode cX1_agreeing 0 = .ok (.iconst 0, 1) := by decide +kernel
theorem dX1_agreeing_1 : decode cX1_agreeing 1 = .ok (.istore_n 2, 1) := by decide +kernel
theorem dX1_agreeing_2 : decode cX1_agreeing 2 = .ok (.iconst 0, 1) := by decide +kernel
theorem dX1_agreeing_3 : decode cX1_agreeing 3 = .ok (.istore_n 3, 1) := by decide +kernel
theorem dX1_agreeing_4 : decode cX1_agreeing 4 = .ok (.iload_n 3, 1) := by decide +kernel
theorem dX1_agreeing_5 : decode cX1_agreeing 5 = .ok (.bipush 12, 2) := by decide +kernel
theorem dX1_agreeing_7 : decode cX1_agreeing 7 = .ok (.if_icmp .ge 26, 3) := by decide +kernel
theorem dX1_agreeing_10 : decode cX1_agreeing 10 = .ok (.aload_n 0, 1) := by decide +kernel
theorem dX1_agreeing_11 : decode cX1_agreeing 11 = .ok (.iload_n 3, 1) := by decide +kernel
theorem dX1_agreeing_12 : decode cX1_agreeing 12 = .ok (.iload_n 1, 1) := by decide +kernel
theorem dX1_agreeing_13 : decode cX1_agreeing 13 = .ok (.invokevirtual 47, 3) := by decide +kernel
theorem dX1_agreeing_16 : decode cX1_agreeing 16 = .ok (.ifCond .eq 9, 3) := by decide +kernel
theorem dX1_agreeing_19 : decode cX1_agreeing 19 = .ok (.iload_n 2, 1) := by decide +kernel
theorem dX1_agreeing_20 : decode cX1_agreeing 20 = .ok (.iconst 1, 1) := by decide +kernel
theorem dX1_agreeing_21 : decode cX1_agreeing 21 = .ok (.iadd, 1) := by decide +kernel
theorem dX1_agreeing_22 : decode cX1_agreeing 22 = .ok (.goto 4, 3) := by decide +kernel
theorem dX1_agreeing_25 : decode cX1_agreeing 25 = .ok (.iload_n 2, 1) := by decide +kernel
theorem dX1_agreeing_26 : decode cX1_agreeing 26 = .ok (.istore_n 2, 1) := by decide +kernel
theorem dX1_agreeing_27 : decode cX1_agreeing 27 = .ok (.iinc 3 1, 3) := by decide +kernel
theorem dX1_agreeing_30 : decode cX1_agreeing 30 = .ok (.goto (-26), 3) := by decide +kernel
theorem dX1_agreeing_33 : decode cX1_agreeing 33 = .ok (.aload_n 0, 1) := by decide +kernel
theorem dX1_agreeing_34 : decode cX1_agreeing 34 = .ok (.iload_n 1, 1) := by decide +kernel
theorem dX1_agreeing_35 : decode cX1_agreeing 35 = .ok (.invokevirtual 61, 3) := by decide +kernel
theorem dX1_agreeing_38 : decode cX1_agreeing 38 = .ok (.ifCond .eq 7, 3) := by decide +kernel
theorem dX1_agreeing_41 : decode cX1_agreeing 41 = .ok (.iload_n 2, 1) := by decide +kernel
theorem dX1_agreeing_42 : decode cX1_agreeing 42 = .ok (.goto 5, 3) := by decide +kernel
theorem dX1_agreeing_45 : decode cX1_agreeing 45 = .ok (.bipush (-100), 2) := by decide +kernel
theorem dX1_agreeing_47 : decode cX1_agreeing 47 = .ok (.ireturn, 1) := by decide +kernel
theorem q16 : (Jvm.Cond.initialized "CoercionDeskModel") ∈ lw_all := lw_g (lw_at lw_m0 2 rfl) rfl
theorem q142 : (Jvm.Cond.instantiable "CoercionDeskModel" (9 : Nat)) ∈ lw_all := lw_g (lw_at lw_m0 128 rfl) rfl
theorem q144 : (Jvm.Cond.instanceMethod ({ cls := "CoercionDeskModel", name := "<init>", desc := "()V" } : Jvm.MethodName)) ∈ lw_all := lw_g (lw_at lw_m0 130 rfl) rfl
theorem q145 : (Jvm.Cond.code ({ cls := "CoercionDeskModel", name := "<init>", desc := "()V" } : Jvm.MethodName) prog_3_method_1_code (1 : Nat) (Option.none : Option Jvm.ClassFile.FieldType)) ∈ lw_all := lw_g (lw_at lw_m0 131 rfl) rfl
theorem q146 : (Jvm.Cond.methodLink "CoercionDeskModel" (1 : Nat) ({ cls := "java/lang/Object", name := "<init>", desc := "()V" } : Jvm.MethodName)) ∈ lw_all := lw_g (lw_at lw_m0 132 rfl) rfl
theorem q147 : (Jvm.Cond.fieldLink "CoercionDeskModel" (20 : Nat) "CoercionDeskModel" "some" "Z") ∈ lw_all := lw_g (lw_at lw_m0 133 rfl) rfl
theorem q148 : (Jvm.Cond.fieldLink "CoercionDeskModel" (24 : Nat) "CoercionDeskModel" "sort" "I") ∈ lw_all := lw_g (lw_at lw_m0 134 rfl) rfl
theorem q149 : (Jvm.Cond.fieldLink "CoercionDeskModel" (28 : Nat) "CoercionDeskModel" "value" "I") ∈ lw_all := lw_g (lw_at lw_m0 135 rfl) rfl
theorem q150 : (Jvm.Cond.fieldLink "CoercionDeskModel" (35 : Nat) "CoercionDeskModel" "typed" "I") ∈ lw_all := lw_g (lw_at lw_m0 136 rfl) rfl
theorem q151 : (Jvm.Cond.fieldLink "CoercionDeskModel" (7 : Nat) "CoercionDeskModel" "argument" "[I") ∈ lw_all := lw_g (lw_at lw_m0 137 rfl) rfl
theorem q152 : (Jvm.Cond.fieldLink "CoercionDeskModel" (13 : Nat) "CoercionDeskModel" "outcome" "[I") ∈ lw_all := lw_g (lw_at lw_m0 138 rfl) rfl
theorem q153 : (Jvm.Cond.fieldLink "CoercionDeskModel" (38 : Nat) "CoercionDeskModel" "called" "Z") ∈ lw_all := lw_g (lw_at lw_m0 139 rfl) rfl
theorem q154 : (Jvm.Cond.fieldLink "CoercionDeskModel" (55 : Nat) "CoercionDeskModel" "kindOfResult" "I") ∈ lw_all := lw_g (lw_at lw_m0 140 rfl) rfl
theorem q155 : (Jvm.Cond.fieldLink "CoercionDeskModel" (58 : Nat) "CoercionDeskModel" "lastResult" "I") ∈ lw_all := lw_g (lw_at lw_m0 141 rfl) rfl
theorem q156 : (Jvm.Cond.lays "CoercionDeskModel" "CoercionDeskModel" "some" "Z") ∈ lw_all := lw_g (lw_at lw_m0 142 rfl) rfl
theorem q157 : (Jvm.Cond.soleField "CoercionDeskModel" "some") ∈ lw_all := lw_g (lw_at lw_m0 143 rfl) rfl
theorem q158 : (Jvm.Cond.lays "CoercionDeskModel" "CoercionDeskModel" "sort" "I") ∈ lw_all := lw_g (lw_at lw_m0 144 rfl) rfl
theorem q159 : (Jvm.Cond.soleField "CoercionDeskModel" "sort") ∈ lw_all := lw_g (lw_at lw_m0 145 rfl) rfl
theorem q160 : (Jvm.Cond.lays "CoercionDeskModel" "CoercionDeskModel" "value" "I") ∈ lw_all := lw_g (lw_at lw_m0 146 rfl) rfl
theorem q161 : (Jvm.Cond.soleField "CoercionDeskModel" "value") ∈ lw_all := lw_g (lw_at lw_m0 147 rfl) rfl
theorem q162 : (Jvm.Cond.lays "CoercionDeskModel" "CoercionDeskModel" "typed" "I") ∈ lw_all := lw_g (lw_at lw_m0 148 rfl) rfl
theorem q163 : (Jvm.Cond.soleField "CoercionDeskModel" "typed") ∈ lw_all := lw_g (lw_at lw_m0 149 rfl) rfl
theorem q164 : (Jvm.Cond.lays "CoercionDeskModel" "CoercionDeskModel" "argument" "[I") ∈ lw_all := lw_g (lw_at lw_m0 150 rfl) rfl
theorem q165 : (Jvm.Cond.soleField "CoercionDeskModel" "argument") ∈ lw_all := lw_g (lw_at lw_m0 151 rfl) rfl
theorem q166 : (Jvm.Cond.lays "CoercionDeskModel" "CoercionDeskModel" "outcome" "[I") ∈ lw_all := lw_g (lw_at lw_m0 152 rfl) rfl
theorem q167 : (Jvm.Cond.soleField "CoercionDeskModel" "outcome") ∈ lw_all := lw_g (lw_at lw_m0 153 rfl) rfl
theorem q168 : (Jvm.Cond.lays "CoercionDeskModel" "CoercionDeskModel" "called" "Z") ∈ lw_all := lw_g (lw_at lw_m0 154 rfl) rfl
theorem q169 : (Jvm.Cond.soleField "CoercionDeskModel" "called") ∈ lw_all := lw_g (lw_at lw_m0 155 rfl) rfl
theorem q170 : (Jvm.Cond.lays "CoercionDeskModel" "CoercionDeskModel" "kindOfResult" "I") ∈ lw_all := lw_g (lw_at lw_m0 156 rfl) rfl
theorem q171 : (Jvm.Cond.soleField "CoercionDeskModel" "kindOfResult") ∈ lw_all := lw_g (lw_at lw_m0 157 rfl) rfl
theorem q172 : (Jvm.Cond.lays "CoercionDeskModel" "CoercionDeskModel" "lastResult" "I") ∈ lw_all := lw_g (lw_at lw_m0 158 rfl) rfl
theorem q173 : (Jvm.Cond.soleField "CoercionDeskModel" "lastResult") ∈ lw_all := lw_g (lw_at lw_m0 159 rfl) rfl
theorem q174 : (Jvm.Cond.superclass "CoercionDeskModel" "java/lang/Object") ∈ lw_all := lw_g (lw_at lw_m0 160 rfl) rfl
theorem q177 : (Jvm.Cond.instanceMethod ({ cls := "CoercionDeskModel", name := "set", desc := "(II)I" } : Jvm.MethodName)) ∈ lw_all := lw_g (lw_at lw_m0 163 rfl) rfl
theorem q178 : (Jvm.Cond.selects "CoercionDeskModel" ({ cls := "CoercionDeskModel", name := "set", desc := "(II)I" } : Jvm.MethodName) ({ cls := "CoercionDeskModel", name := "set", desc := "(II)I" } : Jvm.MethodName)) ∈ lw_all := lw_g (lw_at lw_m0 164 rfl) rfl
theorem q179 : (Jvm.Cond.code ({ cls := "CoercionDeskModel", name := "set", desc := "(II)I" } : Jvm.MethodName) prog_3_method_6_code (5 : Nat) (Option.some Jvm.ClassFile.FieldType.int)) ∈ lw_all := lw_g (lw_at lw_m0 165 rfl) rfl
theorem q180 : (Jvm.Cond.methodLink "CoercionDeskModel" (31 : Nat) ({ cls := "CoercionDeskModel", name := "own", desc := "(I)I" } : Jvm.MethodName)) ∈ lw_all := lw_g (lw_at lw_m0 166 rfl) rfl
theorem q181 : (Jvm.Cond.privateMethod ({ cls := "CoercionDeskModel", name := "own", desc := "(I)I" } : Jvm.MethodName)) ∈ lw_tbl := lw_at lw_m0 167 rfl
theorem q182 : (Jvm.Cond.instanceMethod ({ cls := "CoercionDeskModel", name := "own", desc := "(I)I" } : Jvm.MethodName)) ∈ lw_all := lw_g (lw_at lw_m0 168 rfl) rfl
theorem q183 : (Jvm.Cond.code ({ cls := "CoercionDeskModel", name := "own", desc := "(I)I" } : Jvm.MethodName) prog_3_method_2_code (2 : Nat) (Option.some Jvm.ClassFile.FieldType.int)) ∈ lw_all := lw_g (lw_at lw_m0 169 rfl) rfl
theorem q184 : (Jvm.Cond.methodLink "CoercionDeskModel" (16 : Nat) ({ cls := "CoercionDeskModel", name := "arrow", desc := "(II)I" } : Jvm.MethodName)) ∈ lw_all := lw_g (lw_at lw_m0 170 rfl) rfl
theorem q185 : (Jvm.Cond.privateMethod ({ cls := "CoercionDeskModel", name := "arrow", desc := "(II)I" } : Jvm.MethodName)) ∈ lw_tbl := lw_at lw_m0 171 rfl
theorem q186 : (Jvm.Cond.instanceMethod ({ cls := "CoercionDeskModel", name := "arrow", desc := "(II)I" } : Jvm.MethodName)) ∈ lw_all := lw_g (lw_at lw_m0 172 rfl) rfl
theorem q187 : (Jvm.Cond.code ({ cls := "CoercionDeskModel", name := "arrow", desc := "(II)I" } : Jvm.MethodName) prog_3_method_3_code (3 : Nat) (Option.some Jvm.ClassFile.FieldType.int)) ∈ lw_all := lw_g (lw_at lw_m0 173 rfl) rfl
theorem q189 : (Jvm.Cond.instanceMethod ({ cls := "CoercionDeskModel", name := "cast", desc := "(II)I" } : Jvm.MethodName)) ∈ lw_all := lw_g (lw_at lw_m0 175 rfl) rfl
theorem q190 : (Jvm.Cond.selects "CoercionDeskModel" ({ cls := "CoercionDeskModel", name := "cast", desc := "(II)I" } : Jvm.MethodName) ({ cls := "CoercionDeskModel", name := "cast", desc := "(II)I" } : Jvm.MethodName)) ∈ lw_all := lw_g (lw_at lw_m0 176 rfl) rfl
theorem q191 : (Jvm.Cond.code ({ cls := "CoercionDeskModel", name := "cast", desc := "(II)I" } : Jvm.MethodName) prog_3_method_8_code (6 : Nat) (Option.some Jvm.ClassFile.FieldType.int)) ∈ lw_all := lw_g (lw_at lw_m0 177 rfl) rfl
theorem q192 : (Jvm.Cond.methodLink "CoercionDeskModel" (47 : Nat) ({ cls := "CoercionDeskModel", name := "agree", desc := "(II)Z" } : Jvm.MethodName)) ∈ lw_all := lw_g (lw_at lw_m0 178 rfl) rfl
theorem q193 : (Jvm.Cond.instanceMethod ({ cls := "CoercionDeskModel", name := "agree", desc := "(II)Z" } : Jvm.MethodName)) ∈ lw_all := lw_g (lw_at lw_m0 179 rfl) rfl
theorem q194 : (Jvm.Cond.selects "CoercionDeskModel" ({ cls := "CoercionDeskModel", name := "agree", desc := "(II)Z" } : Jvm.MethodName) ({ cls := "CoercionDeskModel", name := "agree", desc := "(II)Z" } : Jvm.MethodName)) ∈ lw_all := lw_g (lw_at lw_m0 180 rfl) rfl
theorem q195 : (Jvm.Cond.code ({ cls := "CoercionDeskModel", name := "agree", desc := "(II)Z" } : Jvm.MethodName) prog_3_method_17_code (3 : Nat) (Option.some Jvm.ClassFile.FieldType.boolean)) ∈ lw_all := lw_g (lw_at lw_m0 181 rfl) rfl
theorem q196 : (Jvm.Cond.methodLink "CoercionDeskModel" (61 : Nat) ({ cls := "CoercionDeskModel", name := "isType", desc := "(I)Z" } : Jvm.MethodName)) ∈ lw_all := lw_g (lw_at lw_m0 182 rfl) rfl
theorem q197 : (Jvm.Cond.privateMethod ({ cls := "CoercionDeskModel", name := "isType", desc := "(I)Z" } : Jvm.MethodName)) ∈ lw_tbl := lw_at lw_m0 183 rfl
theorem q198 : (Jvm.Cond.instanceMethod ({ cls := "CoercionDeskModel", name := "isType", desc := "(I)Z" } : Jvm.MethodName)) ∈ lw_all := lw_g (lw_at lw_m0 184 rfl) rfl
theorem q199 : (Jvm.Cond.code ({ cls := "CoercionDeskModel", name := "isType", desc := "(I)Z" } : Jvm.MethodName) prog_3_method_15_code (2 : Nat) (Option.some Jvm.ClassFile.FieldType.boolean)) ∈ lw_all := lw_g (lw_at lw_m0 185 rfl) rfl
theorem q200 : (Jvm.Cond.methodLink "CoercionDeskModel" (65 : Nat) ({ cls := "CoercionDeskModel", name := "simple", desc := "(II)Z" } : Jvm.MethodName)) ∈ lw_all := lw_g (lw_at lw_m0 186 rfl) rfl
theorem q201 : (Jvm.Cond.privateMethod ({ cls := "CoercionDeskModel", name := "simple", desc := "(II)Z" } : Jvm.MethodName)) ∈ lw_tbl := lw_at lw_m0 187 rfl
theorem q202 : (Jvm.Cond.instanceMethod ({ cls := "CoercionDeskModel", name := "simple", desc := "(II)Z" } : Jvm.MethodName)) ∈ lw_all := lw_g (lw_at lw_m0 188 rfl) rfl
theorem q203 : (Jvm.Cond.code ({ cls := "CoercionDeskModel", name := "simple", desc := "(II)Z" } : Jvm.MethodName) prog_3_method_16_code (3 : Nat) (Option.some Jvm.ClassFile.FieldType.boolean)) ∈ lw_all := lw_g (lw_at lw_m0 189 rfl) rfl
theorem q204 : (Jvm.Cond.methodLink "CoercionDeskModel" (41 : Nat) ({ cls := "CoercionDeskModel", name := "from", desc := "(I)I" } : Jvm.MethodName)) ∈ lw_all := lw_g (lw_at lw_m0 190 rfl) rfl
theorem q205 : (Jvm.Cond.privateMethod ({ cls := "CoercionDeskModel", name := "from", desc := "(I)I" } : Jvm.MethodName)) ∈ lw_tbl := lw_at lw_m0 191 rfl
theorem q206 : (Jvm.Cond.instanceMethod ({ cls := "CoercionDeskModel", name := "from", desc := "(I)I" } : Jvm.MethodName)) ∈ lw_all := lw_g (lw_at lw_m0 192 rfl) rfl
theorem q207 : (Jvm.Cond.code ({ cls := "CoercionDeskModel", name := "from", desc := "(I)I" } : Jvm.MethodName) prog_3_method_4_code (2 : Nat) (Option.some Jvm.ClassFile.FieldType.int)) ∈ lw_all := lw_g (lw_at lw_m0 193 rfl) rfl
theorem q208 : (Jvm.Cond.methodLink "CoercionDeskModel" (44 : Nat) ({ cls := "CoercionDeskModel", name := "into", desc := "(I)I" } : Jvm.MethodName)) ∈ lw_all := lw_g (lw_at lw_m0 194 rfl) rfl
theorem q209 : (Jvm.Cond.privateMethod ({ cls := "CoercionDeskModel", name := "into", desc := "(I)I" } : Jvm.MethodName)) ∈ lw_tbl := lw_at lw_m0 195 rfl
theorem q210 : (Jvm.Cond.instanceMethod ({ cls := "CoercionDeskModel", name := "into", desc := "(I)I" } : Jvm.MethodName)) ∈ lw_all := lw_g (lw_at lw_m0 196 rfl) rfl
theorem q211 : (Jvm.Cond.code ({ cls := "CoercionDeskModel", name := "into", desc := "(I)I" } : Jvm.MethodName) prog_3_method_5_code (2 : Nat) (Option.some Jvm.ClassFile.FieldType.int)) ∈ lw_all := lw_g (lw_at lw_m0 197 rfl) rfl
theorem q212 : (Jvm.Cond.methodLink "CoercionDeskModel" (51 : Nat) ({ cls := "CoercionDeskModel", name := "wrap", desc := "(III)V" } : Jvm.MethodName)) ∈ lw_all := lw_g (lw_at lw_m0 198 rfl) rfl
theorem q213 : (Jvm.Cond.privateMethod ({ cls := "CoercionDeskModel", name := "wrap", desc := "(III)V" } : Jvm.MethodName)) ∈ lw_tbl := lw_at lw_m0 199 rfl
theorem q214 : (Jvm.Cond.instanceMethod ({ cls := "CoercionDeskModel", name := "wrap", desc := "(III)V" } : Jvm.MethodName)) ∈ lw_all := lw_g (lw_at lw_m0 200 rfl) rfl
theorem q215 : (Jvm.Cond.code ({ cls := "CoercionDeskModel", name := "wrap", desc := "(III)V" } : Jvm.MethodName) prog_3_method_7_code (7 : Nat) (Option.none : Option Jvm.ClassFile.FieldType)) ∈ lw_all := lw_g (lw_at lw_m0 201 rfl) rfl
theorem q217 : (Jvm.Cond.instanceMethod ({ cls := "CoercionDeskModel", name := "type", desc := "()I" } : Jvm.MethodName)) ∈ lw_all := lw_g (lw_at lw_m0 203 rfl) rfl
theorem q218 : (Jvm.Cond.selects "CoercionDeskModel" ({ cls := "CoercionDeskModel", name := "type", desc := "()I" } : Jvm.MethodName) ({ cls := "CoercionDeskModel", name := "type", desc := "()I" } : Jvm.MethodName)) ∈ lw_all := lw_g (lw_at lw_m0 204 rfl) rfl
theorem q219 : (Jvm.Cond.code ({ cls := "CoercionDeskModel", name := "type", desc := "()I" } : Jvm.MethodName) prog_3_method_9_code (1 : Nat) (Option.some Jvm.ClassFile.FieldType.int)) ∈ lw_all := lw_g (lw_at lw_m0 205 rfl) rfl
theorem q221 : (Jvm.Cond.instanceMethod ({ cls := "CoercionDeskModel", name := "kind", desc := "()I" } : Jvm.MethodName)) ∈ lw_all := lw_g (lw_at lw_m0 207 rfl) rfl
theorem q222 : (Jvm.Cond.selects "CoercionDeskModel" ({ cls := "CoercionDeskModel", name := "kind", desc := "()I" } : Jvm.MethodName) ({ cls := "CoercionDeskModel", name := "kind", desc := "()I" } : Jvm.MethodName)) ∈ lw_all := lw_g (lw_at lw_m0 208 rfl) rfl
theorem q223 : (Jvm.Cond.code ({ cls := "CoercionDeskModel", name := "kind", desc := "()I" } : Jvm.MethodName) prog_3_method_10_code (1 : Nat) (Option.some Jvm.ClassFile.FieldType.int)) ∈ lw_all := lw_g (lw_at lw_m0 209 rfl) rfl
theorem q225 : (Jvm.Cond.instanceMethod ({ cls := "CoercionDeskModel", name := "raw", desc := "()I" } : Jvm.MethodName)) ∈ lw_all := lw_g (lw_at lw_m0 211 rfl) rfl
theorem q226 : (Jvm.Cond.selects "CoercionDeskModel" ({ cls := "CoercionDeskModel", name := "raw", desc := "()I" } : Jvm.MethodName) ({ cls := "CoercionDeskModel", name := "raw", desc := "()I" } : Jvm.MethodName)) ∈ lw_all := lw_g (lw_at lw_m0 212 rfl) rfl
theorem q227 : (Jvm.Cond.code ({ cls := "CoercionDeskModel", name := "raw", desc := "()I" } : Jvm.MethodName) prog_3_method_11_code (1 : Nat) (Option.some Jvm.ClassFile.FieldType.int)) ∈ lw_all := lw_g (lw_at lw_m0 213 rfl) rfl
theorem q229 : (Jvm.Cond.instanceMethod ({ cls := "CoercionDeskModel", name := "call", desc := "(II)I" } : Jvm.MethodName)) ∈ lw_all := lw_g (lw_at lw_m0 215 rfl) rfl
theorem q230 : (Jvm.Cond.selects "CoercionDeskModel" ({ cls := "CoercionDeskModel", name := "call", desc := "(II)I" } : Jvm.MethodName) ({ cls := "CoercionDeskModel", name := "call", desc := "(II)I" } : Jvm.MethodName)) ∈ lw_all := lw_g (lw_at lw_m0 216 rfl) rfl
theorem q231 : (Jvm.Cond.code ({ cls := "CoercionDeskModel", name := "call", desc := "(II)I" } : Jvm.MethodName) prog_3_method_12_code (6 : Nat) (Option.some Jvm.ClassFile.FieldType.int)) ∈ lw_all := lw_g (lw_at lw_m0 217 rfl) rfl
theorem q233 : (Jvm.Cond.instanceMethod ({ cls := "CoercionDeskModel", name := "resultKind", desc := "()I" } : Jvm.MethodName)) ∈ lw_all := lw_g (lw_at lw_m0 219 rfl) rfl
theorem q234 : (Jvm.Cond.selects "CoercionDeskModel" ({ cls := "CoercionDeskModel", name := "resultKind", desc := "()I" } : Jvm.MethodName) ({ cls := "CoercionDeskModel", name := "resultKind", desc := "()I" } : Jvm.MethodName)) ∈ lw_all := lw_g (lw_at lw_m0 220 rfl) rfl
theorem q235 : (Jvm.Cond.code ({ cls := "CoercionDeskModel", name := "resultKind", desc := "()I" } : Jvm.MethodName) prog_3_method_13_code (1 : Nat) (Option.some Jvm.ClassFile.FieldType.int)) ∈ lw_all := lw_g (lw_at lw_m0 221 rfl) rfl
theorem q237 : (Jvm.Cond.instanceMethod ({ cls := "CoercionDeskModel", name := "result", desc := "()I" } : Jvm.MethodName)) ∈ lw_all := lw_g (lw_at lw_m0 223 rfl) rfl
theorem q238 : (Jvm.Cond.selects "CoercionDeskModel" ({ cls := "CoercionDeskModel", name := "result", desc := "()I" } : Jvm.MethodName) ({ cls := "CoercionDeskModel", name := "result", desc := "()I" } : Jvm.MethodName)) ∈ lw_all := lw_g (lw_at lw_m0 224 rfl) rfl
theorem q239 : (Jvm.Cond.code ({ cls := "CoercionDeskModel", name := "result", desc := "()I" } : Jvm.MethodName) prog_3_method_14_code (1 : Nat) (Option.some Jvm.ClassFile.FieldType.int)) ∈ lw_all := lw_g (lw_at lw_m0 225 rfl) rfl
theorem q242 : (Jvm.Cond.instanceMethod ({ cls := "CoercionDeskModel", name := "agreeing", desc := "(I)I" } : Jvm.MethodName)) ∈ lw_all := lw_g (lw_at lw_m0 228 rfl) rfl
theorem q243 : (Jvm.Cond.selects "CoercionDeskModel" ({ cls := "CoercionDeskModel", name := "agreeing", desc := "(I)I" } : Jvm.MethodName) ({ cls := "CoercionDeskModel", name := "agreeing", desc := "(I)I" } : Jvm.MethodName)) ∈ lw_all := lw_g (lw_at lw_m0 229 rfl) rfl
theorem q244 : (Jvm.Cond.code ({ cls := "CoercionDeskModel", name := "agreeing", desc := "(I)I" } : Jvm.MethodName) prog_3_method_18_code (4 : Nat) (Option.some Jvm.ClassFile.FieldType.int)) ∈ lw_all := lw_g (lw_at lw_m0 230 rfl) rfl
theorem in_X1 : ∀ w ∈ wsX10, w ∈ lw_all := lw_in wsX10 [156, 158, 160, 162, 164, 166, 168, 170, 172] (by decide +kernel) (by decide +kernel)
theorem q53 : (Jvm.Cond.arrayClass Jvm.ClassFile.FieldType.byte) ∈ lw_all := lw_g (lw_at lw_m0 39 rfl) rfl
set_option maxRecDepth 100000
theorem q175 : (Jvm.Cond.arrayClass Jvm.ClassFile.FieldType.int) ∈ lw_all := lw_g (lw_at lw_m0 161 rfl) rfl
end
section
/-! the law's own entry -/
set_option maxRecDepth 100000
abbrev cL_law : ByteArray := code
theorem dL_law_0 : decode cL_law 0 = .ok (.new 7, 3) := by decide +kernel
theorem dL_law_3 : decode cL_law 3 = .ok (.dup, 1) := by decide +kernel
theorem dL_law_4 : decode cL_law 4 = .ok (.invokespecial 9, 3) := by decide +kernel
theorem dL_law_7 : decode cL_law 7 = .ok (.astore_n 1, 1) := by decide +kernel
theorem dL_law_8 : decode cL_law 8 = .ok (.new 10, 3) := by decide +kernel
theorem dL_law_11 : decode cL_law 11 = .ok (.dup, 1) := by decide +kernel
theorem dL_law_12 : decode cL_law 12 = .ok (.invokespecial 12, 3) := by decide +kernel
theorem dL_law_15 : decode cL_law 15 = .ok (.astore_n 2, 1) := by decide +kernel
theorem dL_law_16 : decode cL_law 16 = .ok (.iconst 0, 1) := by decide +kernel
theorem dL_law_17 : decode cL_law 17 = .ok (.istore_n 3, 1) := by decide +kernel
theorem dL_law_18 : decode cL_law 18 = .ok (.iload_n 3, 1) := by decide +kernel
theorem dL_law_19 : decode cL_law 19 = .ok (.aload_n 0, 1) := by decide +kernel
theorem dL_law_20 : decode cL_law 20 = .ok (.arraylength, 1) := by decide +kernel
theorem dL_law_21 : decode cL_law 21 = .ok (.iconst 3, 1) := by decide +kernel
theorem dL_law_22 : decode cL_law 22 = .ok (.isub, 1) := by decide +kernel
theorem dL_law_23 : decode cL_law 23 = .ok (.if_icmp .gt 291, 3) := by decide +kernel
theorem dL_law_26 : decode cL_law 26 = .ok (.aload_n 0, 1) := by decide +kernel
theorem dL_law_27 : decode cL_law 27 = .ok (.iload_n 3, 1) := by decide +kernel
theorem dL_law_28 : decode cL_law 28 = .ok (.iaload, 1) := by decide +kernel
theorem dL_law_29 : decode cL_law 29 = .ok (.bipush 15, 2) := by decide +kernel
theorem dL_law_31 : decode cL_law 31 = .ok (.iand, 1) := by decide +kernel
theorem dL_law_32 : decode cL_law 32 = .ok (.tableswitch 276 0 9 #[56, 89, 122, 135, 148, 161, 194, 207, 220, 253], 56) := by decide +kernel
theorem dL_law_88 : decode cL_law 88 = .ok (.aload_n 1, 1) := by decide +kernel
theorem dL_law_89 : decode cL_law 89 = .ok (.aload_n 0, 1) := by decide +kernel
theorem dL_law_90 : decode cL_law 90 = .ok (.iload_n 3, 1) := by decide +kernel
theorem dL_law_91 : decode cL_law 91 = .ok (.iconst 1, 1) := by decide +kernel
theorem dL_law_92 : decode cL_law 92 = .ok (.iadd, 1) := by decide +kernel
theorem dL_law_93 : decode cL_law 93 = .ok (.iaload, 1) := by decide +kernel
theorem dL_law_94 : decode cL_law 94 = .ok (.aload_n 0, 1) := by decide +kernel
theorem dL_law_95 : decode cL_law 95 = .ok (.iload_n 3, 1) := by decide +kernel
theorem dL_law_96 : decode cL_law 96 = .ok (.iconst 2, 1) := by decide +kernel
theorem dL_law_97 : decode cL_law 97 = .ok (.iadd, 1) := by decide +kernel
theorem dL_law_98 : decode cL_law 98 = .ok (.iaload, 1) := by decide +kernel
theorem dL_law_99 : decode cL_law 99 = .ok (.invokevirtual 13, 3) := by decide +kernel
theorem dL_law_102 : decode cL_law 102 = .ok (.aload_n 2, 1) := by decide +kernel
theorem dL_law_103 : decode cL_law 103 = .ok (.aload_n 0, 1) := by decide +kernel
theorem dL_law_104 : decode cL_law 104 = .ok (.iload_n 3, 1) := by decide +kernel
theorem dL_law_105 : decode cL_law 105 = .ok (.iconst 1, 1) := by decide +kernel
theorem dL_law_106 : decode cL_law 106 = .ok (.iadd, 1) := by decide +kernel
theorem dL_law_107 : decode cL_law 107 = .ok (.iaload, 1) := by decide +kernel
theorem dL_law_108 : decode cL_law 108 = .ok (.aload_n 0, 1) := by decide +kernel
theorem dL_law_109 : decode cL_law 109 = .ok (.iload_n 3, 1) := by decide +kernel
theorem dL_law_110 : decode cL_law 110 = .ok (.iconst 2, 1) := by decide +kernel
theorem dL_law_111 : decode cL_law 111 = .ok (.iadd, 1) := by decide +kernel
theorem dL_law_112 : decode cL_law 112 = .ok (.iaload, 1) := by decide +kernel
theorem dL_law_113 : decode cL_law 113 = .ok (.invokevirtual 17, 3) := by decide +kernel
theorem dL_law_116 : decode cL_law 116 = .ok (.if_icmp .eq 192, 3) := by decide +kernel
theorem dL_law_119 : decode cL_law 119 = .ok (.iconst 0, 1) := by decide +kernel
theorem dL_law_120 : decode cL_law 120 = .ok (.ireturn, 1) := by decide +kernel
theorem dL_law_121 : decode cL_law 121 = .ok (.aload_n 1, 1) := by decide +kernel
theorem dL_law_122 : decode cL_law 122 = .ok (.aload_n 0, 1) := by decide +kernel
theorem dL_law_123 : decode cL_law 123 = .ok (.iload_n 3, 1) := by decide +kernel
theorem dL_law_124 : decode cL_law 124 = .ok (.iconst 1, 1) := by decide +kernel
theorem dL_law_125 : decode cL_law 125 = .ok (.iadd, 1) := by decide +kernel
theorem dL_law_126 : decode cL_law 126 = .ok (.iaload, 1) := by decide +kernel
theorem dL_law_127 : decode cL_law 127 = .ok (.aload_n 0, 1) := by decide +kernel
theorem dL_law_128 : decode cL_law 128 = .ok (.iload_n 3, 1) := by decide +kernel
theorem dL_law_129 : decode cL_law 129 = .ok (.iconst 2, 1) := by decide +kernel
theorem dL_law_130 : decode cL_law 130 = .ok (.iadd, 1) := by decide +kernel
theorem dL_law_131 : decode cL_law 131 = .ok (.iaload, 1) := by decide +kernel
theorem dL_law_132 : decode cL_law 132 = .ok (.invokevirtual 18, 3) := by decide +kernel
theorem dL_law_135 : decode cL_law 135 = .ok (.aload_n 2, 1) := by decide +kernel
theorem dL_law_136 : decode cL_law 136 = .ok (.aload_n 0, 1) := by decide +kernel
theorem dL_law_137 : decode cL_law 137 = .ok (.iload_n 3, 1) := by decide +kernel
theorem dL_law_138 : decode cL_law 138 = .ok (.iconst 1, 1) := by decide +kernel
theorem dL_law_139 : decode cL_law 139 = .ok (.iadd, 1) := by decide +kernel
theorem dL_law_140 : decode cL_law 140 = .ok (.iaload, 1) := by decide +kernel
theorem dL_law_141 : decode cL_law 141 = .ok (.aload_n 0, 1) := by decide +kernel
theorem dL_law_142 : decode cL_law 142 = .ok (.iload_n 3, 1) := by decide +kernel
theorem dL_law_143 : decode cL_law 143 = .ok (.iconst 2, 1) := by decide +kernel
theorem dL_law_144 : decode cL_law 144 = .ok (.iadd, 1) := by decide +kernel
theorem dL_law_145 : decode cL_law 145 = .ok (.iaload, 1) := by decide +kernel
theorem dL_law_146 : decode cL_law 146 = .ok (.invokevirtual 21, 3) := by decide +kernel
theorem dL_law_149 : decode cL_law 149 = .ok (.if_icmp .eq 159, 3) := by decide +kernel
theorem dL_law_152 : decode cL_law 152 = .ok (.iconst 0, 1) := by decide +kernel
theorem dL_law_153 : decode cL_law 153 = .ok (.ireturn, 1) := by decide +kernel
theorem dL_law_154 : decode cL_law 154 = .ok (.aload_n 1, 1) := by decide +kernel
theorem dL_law_155 : decode cL_law 155 = .ok (.invokevirtual 22, 3) := by decide +kernel
theorem dL_law_158 : decode cL_law 158 = .ok (.aload_n 2, 1) := by decide +kernel
theorem dL_law_159 : decode cL_law 159 = .ok (.invokevirtual 26, 3) := by decide +kernel
theorem dL_law_162 : decode cL_law 162 = .ok (.if_icmp .eq 146, 3) := by decide +kernel
theorem dL_law_165 : decode cL_law 165 = .ok (.iconst 0, 1) := by decide +kernel
theorem dL_law_166 : decode cL_law 166 = .ok (.ireturn, 1) := by decide +kernel
theorem dL_law_167 : decode cL_law 167 = .ok (.aload_n 1, 1) := by decide +kernel
theorem dL_law_168 : decode cL_law 168 = .ok (.invokevirtual 27, 3) := by decide +kernel
theorem dL_law_171 : decode cL_law 171 = .ok (.aload_n 2, 1) := by decide +kernel
theorem dL_law_172 : decode cL_law 172 = .ok (.invokevirtual 30, 3) := by decide +kernel
theorem dL_law_175 : decode cL_law 175 = .ok (.if_icmp .eq 133, 3) := by decide +kernel
theorem dL_law_178 : decode cL_law 178 = .ok (.iconst 0, 1) := by decide +kernel
theorem dL_law_179 : decode cL_law 179 = .ok (.ireturn, 1) := by decide +kernel
theorem dL_law_180 : decode cL_law 180 = .ok (.aload_n 1, 1) := by decide +kernel
theorem dL_law_181 : decode cL_law 181 = .ok (.invokevirtual 31, 3) := by decide +kernel
theorem dL_law_184 : decode cL_law 184 = .ok (.aload_n 2, 1) := by decide +kernel
theorem dL_law_185 : decode cL_law 185 = .ok (.invokevirtual 34, 3) := by decide +kernel
theorem dL_law_188 : decode cL_law 188 = .ok (.if_icmp .eq 120, 3) := by decide +kernel
theorem dL_law_191 : decode cL_law 191 = .ok (.iconst 0, 1) := by decide +kernel
theorem dL_law_192 : decode cL_law 192 = .ok (.ireturn, 1) := by decide +kernel
theorem dL_law_193 : decode cL_law 193 = .ok (.aload_n 1, 1) := by decide +kernel
theorem dL_law_194 : decode cL_law 194 = .ok (.aload_n 0, 1) := by decide +kernel
theorem dL_law_195 : decode cL_law 195 = .ok (.iload_n 3, 1) := by decide +kernel
theorem dL_law_196 : decode cL_law 196 = .ok (.iconst 1, 1) := by decide +kernel
theorem dL_law_197 : decode cL_law 197 = .ok (.iadd, 1) := by decide +kernel
theorem dL_law_198 : decode cL_law 198 = .ok (.iaload, 1) := by decide +kernel
theorem dL_law_199 : decode cL_law 199 = .ok (.aload_n 0, 1) := by decide +kernel
theorem dL_law_200 : decode cL_law 200 = .ok (.iload_n 3, 1) := by decide +kernel
theorem dL_law_201 : decode cL_law 201 = .ok (.iconst 2, 1) := by decide +kernel
theorem dL_law_202 : decode cL_law 202 = .ok (.iadd, 1) := by decide +kernel
theorem dL_law_203 : decode cL_law 203 = .ok (.iaload, 1) := by decide +kernel
theorem dL_law_204 : decode cL_law 204 = .ok (.invokevirtual 35, 3) := by decide +kernel
theorem dL_law_207 : decode cL_law 207 = .ok (.aload_n 2, 1) := by decide +kernel
theorem dL_law_208 : decode cL_law 208 = .ok (.aload_n 0, 1) := by decide +kernel
theorem dL_law_209 : decode cL_law 209 = .ok (.iload_n 3, 1) := by decide +kernel
theorem dL_law_210 : decode cL_law 210 = .ok (.iconst 1, 1) := by decide +kernel
theorem dL_law_211 : decode cL_law 211 = .ok (.iadd, 1) := by decide +kernel
theorem dL_law_212 : decode cL_law 212 = .ok (.iaload, 1) := by decide +kernel
theorem dL_law_213 : decode cL_law 213 = .ok (.aload_n 0, 1) := by decide +kernel
theorem dL_law_214 : decode cL_law 214 = .ok (.iload_n 3, 1) := by decide +kernel
theorem dL_law_215 : decode cL_law 215 = .ok (.iconst 2, 1) := by decide +kernel
theorem dL_law_216 : decode cL_law 216 = .ok (.iadd, 1) := by decide +kernel
theorem dL_law_217 : decode cL_law 217 = .ok (.iaload, 1) := by decide +kernel
theorem dL_law_218 : decode cL_law 218 = .ok (.invokevirtual 38, 3) := by decide +kernel
theorem dL_law_221 : decode cL_law 221 = .ok (.if_icmp .eq 87, 3) := by decide +kernel
theorem dL_law_224 : decode cL_law 224 = .ok (.iconst 0, 1) := by decide +kernel
theorem dL_law_225 : decode cL_law 225 = .ok (.ireturn, 1) := by decide +kernel
theorem dL_law_226 : decode cL_law 226 = .ok (.aload_n 1, 1) := by decide +kernel
theorem dL_law_227 : decode cL_law 227 = .ok (.invokevirtual 39, 3) := by decide +kernel
theorem dL_law_230 : decode cL_law 230 = .ok (.aload_n 2, 1) := by decide +kernel
theorem dL_law_231 : decode cL_law 231 = .ok (.invokevirtual 42, 3) := by decide +kernel
theorem dL_law_234 : decode cL_law 234 = .ok (.if_icmp .eq 74, 3) := by decide +kernel
theorem dL_law_237 : decode cL_law 237 = .ok (.iconst 0, 1) := by decide +kernel
theorem dL_law_238 : decode cL_law 238 = .ok (.ireturn, 1) := by decide +kernel
theorem dL_law_239 : decode cL_law 239 = .ok (.aload_n 1, 1) := by decide +kernel
theorem dL_law_240 : decode cL_law 240 = .ok (.invokevirtual 43, 3) := by decide +kernel
theorem dL_law_243 : decode cL_law 243 = .ok (.aload_n 2, 1) := by decide +kernel
theorem dL_law_244 : decode cL_law 244 = .ok (.invokevirtual 46, 3) := by decide +kernel
theorem dL_law_247 : decode cL_law 247 = .ok (.if_icmp .eq 61, 3) := by decide +kernel
theorem dL_law_250 : decode cL_law 250 = .ok (.iconst 0, 1) := by decide +kernel
theorem dL_law_251 : decode cL_law 251 = .ok (.ireturn, 1) := by decide +kernel
theorem dL_law_252 : decode cL_law 252 = .ok (.aload_n 1, 1) := by decide +kernel
theorem dL_law_253 : decode cL_law 253 = .ok (.aload_n 0, 1) := by decide +kernel
theorem dL_law_254 : decode cL_law 254 = .ok (.iload_n 3, 1) := by decide +kernel
theorem dL_law_255 : decode cL_law 255 = .ok (.iconst 1, 1) := by decide +kernel
theorem dL_law_256 : decode cL_law 256 = .ok (.iadd, 1) := by decide +kernel
theorem dL_law_257 : decode cL_law 257 = .ok (.iaload, 1) := by decide +kernel
theorem dL_law_258 : decode cL_law 258 = .ok (.aload_n 0, 1) := by decide +kernel
theorem dL_law_259 : decode cL_law 259 = .ok (.iload_n 3, 1) := by decide +kernel
theorem dL_law_260 : decode cL_law 260 = .ok (.iconst 2, 1) := by decide +kernel
theorem dL_law_261 : decode cL_law 261 = .ok (.iadd, 1) := by decide +kernel
theorem dL_law_262 : decode cL_law 262 = .ok (.iaload, 1) := by decide +kernel
theorem dL_law_263 : decode cL_law 263 = .ok (.invokevirtual 47, 3) := by decide +kernel
theorem dL_law_266 : decode cL_law 266 = .ok (.aload_n 2, 1) := by decide +kernel
theorem dL_law_267 : decode cL_law 267 = .ok (.aload_n 0, 1) := by decide +kernel
theorem dL_law_268 : decode cL_law 268 = .ok (.iload_n 3, 1) := by decide +kernel
theorem dL_law_269 : decode cL_law 269 = .ok (.iconst 1, 1) := by decide +kernel
theorem dL_law_270 : decode cL_law 270 = .ok (.iadd, 1) := by decide +kernel
theorem dL_law_271 : decode cL_law 271 = .ok (.iaload, 1) := by decide +kernel
theorem dL_law_272 : decode cL_law 272 = .ok (.aload_n 0, 1) := by decide +kernel
theorem dL_law_273 : decode cL_law 273 = .ok (.iload_n 3, 1) := by decide +kernel
theorem dL_law_274 : decode cL_law 274 = .ok (.iconst 2, 1) := by decide +kernel
theorem dL_law_275 : decode cL_law 275 = .ok (.iadd, 1) := by decide +kernel
theorem dL_law_276 : decode cL_law 276 = .ok (.iaload, 1) := by decide +kernel
theorem dL_law_277 : decode cL_law 277 = .ok (.invokevirtual 51, 3) := by decide +kernel
theorem dL_law_280 : decode cL_law 280 = .ok (.if_icmp .eq 28, 3) := by decide +kernel
theorem dL_law_283 : decode cL_law 283 = .ok (.iconst 0, 1) := by decide +kernel
theorem dL_law_284 : decode cL_law 284 = .ok (.ireturn, 1) := by decide +kernel
theorem dL_law_285 : decode cL_law 285 = .ok (.aload_n 1, 1) := by decide +kernel
theorem dL_law_286 : decode cL_law 286 = .ok (.aload_n 0, 1) := by decide +kernel
theorem dL_law_287 : decode cL_law 287 = .ok (.iload_n 3, 1) := by decide +kernel
theorem dL_law_288 : decode cL_law 288 = .ok (.iconst 1, 1) := by decide +kernel
theorem dL_law_289 : decode cL_law 289 = .ok (.iadd, 1) := by decide +kernel
theorem dL_law_290 : decode cL_law 290 = .ok (.iaload, 1) := by decide +kernel
theorem dL_law_291 : decode cL_law 291 = .ok (.invokevirtual 52, 3) := by decide +kernel
theorem dL_law_294 : decode cL_law 294 = .ok (.aload_n 2, 1) := by decide +kernel
theorem dL_law_295 : decode cL_law 295 = .ok (.aload_n 0, 1) := by decide +kernel
theorem dL_law_296 : decode cL_law 296 = .ok (.iload_n 3, 1) := by decide +kernel
theorem dL_law_297 : decode cL_law 297 = .ok (.iconst 1, 1) := by decide +kernel
theorem dL_law_298 : decode cL_law 298 = .ok (.iadd, 1) := by decide +kernel
theorem dL_law_299 : decode cL_law 299 = .ok (.iaload, 1) := by decide +kernel
theorem dL_law_300 : decode cL_law 300 = .ok (.invokevirtual 56, 3) := by decide +kernel
theorem dL_law_303 : decode cL_law 303 = .ok (.if_icmp .eq 5, 3) := by decide +kernel
theorem dL_law_306 : decode cL_law 306 = .ok (.iconst 0, 1) := by decide +kernel
theorem dL_law_307 : decode cL_law 307 = .ok (.ireturn, 1) := by decide +kernel
theorem dL_law_308 : decode cL_law 308 = .ok (.iinc 3 3, 3) := by decide +kernel
theorem dL_law_311 : decode cL_law 311 = .ok (.goto (-293), 3) := by decide +kernel
theorem dL_law_314 : decode cL_law 314 = .ok (.iconst 1, 1) := by decide +kernel
theorem dL_law_315 : decode cL_law 315 = .ok (.ireturn, 1) := by decide +kernel
theorem q14 : (Jvm.Cond.initialized "CoercionDeskLaw") ∈ lw_all := lw_g (lw_at lw_m0 0 rfl) rfl
set_option maxRecDepth 100000
theorem q17 : (Jvm.Cond.classLink "CoercionDeskLaw" (7 : Nat) "CoercionDesk") ∈ lw_all := lw_g (lw_at lw_m0 3 rfl) rfl
theorem q19 : (Jvm.Cond.methodLink "CoercionDeskLaw" (9 : Nat) ({ cls := "CoercionDesk", name := "<init>", desc := "()V" } : Jvm.MethodName)) ∈ lw_all := lw_g (lw_at lw_m0 5 rfl) rfl
theorem q54 : (Jvm.Cond.methodLink "CoercionDeskLaw" (13 : Nat) ({ cls := "CoercionDesk", name := "set", desc := "(II)I" } : Jvm.MethodName)) ∈ lw_all := lw_g (lw_at lw_m0 40 rfl) rfl
theorem q61 : (Jvm.Cond.methodLink "CoercionDeskLaw" (18 : Nat) ({ cls := "CoercionDesk", name := "cast", desc := "(II)I" } : Jvm.MethodName)) ∈ lw_all := lw_g (lw_at lw_m0 47 rfl) rfl
theorem q100 : (Jvm.Cond.methodLink "CoercionDeskLaw" (22 : Nat) ({ cls := "CoercionDesk", name := "type", desc := "()I" } : Jvm.MethodName)) ∈ lw_all := lw_g (lw_at lw_m0 86 rfl) rfl
theorem q104 : (Jvm.Cond.methodLink "CoercionDeskLaw" (27 : Nat) ({ cls := "CoercionDesk", name := "kind", desc := "()I" } : Jvm.MethodName)) ∈ lw_all := lw_g (lw_at lw_m0 90 rfl) rfl
theorem q108 : (Jvm.Cond.methodLink "CoercionDeskLaw" (31 : Nat) ({ cls := "CoercionDesk", name := "raw", desc := "()I" } : Jvm.MethodName)) ∈ lw_all := lw_g (lw_at lw_m0 94 rfl) rfl
theorem q112 : (Jvm.Cond.methodLink "CoercionDeskLaw" (35 : Nat) ({ cls := "CoercionDesk", name := "call", desc := "(II)I" } : Jvm.MethodName)) ∈ lw_all := lw_g (lw_at lw_m0 98 rfl) rfl
theorem q128 : (Jvm.Cond.methodLink "CoercionDeskLaw" (39 : Nat) ({ cls := "CoercionDesk", name := "resultKind", desc := "()I" } : Jvm.MethodName)) ∈ lw_all := lw_g (lw_at lw_m0 114 rfl) rfl
theorem q132 : (Jvm.Cond.methodLink "CoercionDeskLaw" (43 : Nat) ({ cls := "CoercionDesk", name := "result", desc := "()I" } : Jvm.MethodName)) ∈ lw_all := lw_g (lw_at lw_m0 118 rfl) rfl
theorem q136 : (Jvm.Cond.methodLink "CoercionDeskLaw" (47 : Nat) ({ cls := "CoercionDesk", name := "agree", desc := "(II)Z" } : Jvm.MethodName)) ∈ lw_all := lw_g (lw_at lw_m0 122 rfl) rfl
theorem q137 : (Jvm.Cond.methodLink "CoercionDeskLaw" (52 : Nat) ({ cls := "CoercionDesk", name := "agreeing", desc := "(I)I" } : Jvm.MethodName)) ∈ lw_all := lw_g (lw_at lw_m0 123 rfl) rfl
theorem q141 : (Jvm.Cond.classLink "CoercionDeskLaw" (10 : Nat) "CoercionDeskModel") ∈ lw_all := lw_g (lw_at lw_m0 127 rfl) rfl
theorem q143 : (Jvm.Cond.methodLink "CoercionDeskLaw" (12 : Nat) ({ cls := "CoercionDeskModel", name := "<init>", desc := "()V" } : Jvm.MethodName)) ∈ lw_all := lw_g (lw_at lw_m0 129 rfl) rfl
theorem q176 : (Jvm.Cond.methodLink "CoercionDeskLaw" (17 : Nat) ({ cls := "CoercionDeskModel", name := "set", desc := "(II)I" } : Jvm.MethodName)) ∈ lw_all := lw_g (lw_at lw_m0 162 rfl) rfl
theorem q188 : (Jvm.Cond.methodLink "CoercionDeskLaw" (21 : Nat) ({ cls := "CoercionDeskModel", name := "cast", desc := "(II)I" } : Jvm.MethodName)) ∈ lw_all := lw_g (lw_at lw_m0 174 rfl) rfl
theorem q216 : (Jvm.Cond.methodLink "CoercionDeskLaw" (26 : Nat) ({ cls := "CoercionDeskModel", name := "type", desc := "()I" } : Jvm.MethodName)) ∈ lw_all := lw_g (lw_at lw_m0 202 rfl) rfl
theorem q220 : (Jvm.Cond.methodLink "CoercionDeskLaw" (30 : Nat) ({ cls := "CoercionDeskModel", name := "kind", desc := "()I" } : Jvm.MethodName)) ∈ lw_all := lw_g (lw_at lw_m0 206 rfl) rfl
theorem q224 : (Jvm.Cond.methodLink "CoercionDeskLaw" (34 : Nat) ({ cls := "CoercionDeskModel", name := "raw", desc := "()I" } : Jvm.MethodName)) ∈ lw_all := lw_g (lw_at lw_m0 210 rfl) rfl
theorem q228 : (Jvm.Cond.methodLink "CoercionDeskLaw" (38 : Nat) ({ cls := "CoercionDeskModel", name := "call", desc := "(II)I" } : Jvm.MethodName)) ∈ lw_all := lw_g (lw_at lw_m0 214 rfl) rfl
theorem q232 : (Jvm.Cond.methodLink "CoercionDeskLaw" (42 : Nat) ({ cls := "CoercionDeskModel", name := "resultKind", desc := "()I" } : Jvm.MethodName)) ∈ lw_all := lw_g (lw_at lw_m0 218 rfl) rfl
theorem q236 : (Jvm.Cond.methodLink "CoercionDeskLaw" (46 : Nat) ({ cls := "CoercionDeskModel", name := "result", desc := "()I" } : Jvm.MethodName)) ∈ lw_all := lw_g (lw_at lw_m0 222 rfl) rfl
theorem q240 : (Jvm.Cond.methodLink "CoercionDeskLaw" (51 : Nat) ({ cls := "CoercionDeskModel", name := "agree", desc := "(II)Z" } : Jvm.MethodName)) ∈ lw_all := lw_g (lw_at lw_m0 226 rfl) rfl
theorem q241 : (Jvm.Cond.methodLink "CoercionDeskLaw" (56 : Nat) ({ cls := "CoercionDeskModel", name := "agreeing", desc := "(I)I" } : Jvm.MethodName)) ∈ lw_all := lw_g (lw_at lw_m0 227 rfl) rfl
end
section
/-! rules of our own for the walk: a cut, another name for the top, calls that leave the heap alone, calls that change the cells of their own world -/
section XW
variable {p : Program} {l : Launch} {e : Env} {R : Room} {s : State} {m : MethodId} {args : Array Value} {below : List Frame} {meth : Method} {c : Code} {H : Heap} {locs : List Loc} {cells slots : Nat} {Q : State → Prop}
variable {pc : Nat} {ls : Array Slot} {rest st0 : List Value}
theorem xw_cut {g g2 : JFrame} (K : W p l e R s m args below meth c H locs cells slots Q g2) (h : W p l e R s m args below meth c H locs cells slots Q g2 → W p l e R s m args below meth c H locs cells slots Q g) : W p l e R s m args below meth c H locs cells slots Q g := h K
theorem xw_top {u v : Int32} (h : u = v) (k : W p l e R s m args below meth c H locs cells slots Q (F0 m pc ls (.int v :: rest))) : W p l e R s m args below meth c H locs cells slots Q (F0 m pc ls (.int u :: rest)) := by
  rw [h]
  exact k
/-- a method that answers v and leaves the heap as it was -/
def xw_Q (v : Int32) : Array Value → State → Outcome → State → Prop := fun _ st oc t => oc = .returned (some (.int v)) ∧ t.heap = st.heap
theorem xw_q {v w : Int32} {a : Array Value} {st t : State} (h : w = v) (ht : t.heap = st.heap) : xw_Q v a st (.returned (some (.int w))) t := ⟨by rw [h], ht⟩
theorem xw_run {v : Int32} {a : Array Value} (hr : va_Run p l e R s m args below meth c H locs cells slots 0 0 (F0 m pc ls st0) rest (xw_Q v a) (fun _ => False)) (kk : W p l e R s m args below meth c H locs cells slots Q (F0 m (pc + 3) ls (.int v :: rest))) : W p l e R s m args below meth c H locs cells slots Q (F0 m pc ls st0) := by
  intro T hT X
  obtain ⟨v', st₀, t, T', L, h0, X', hL, e1, e2, ⟨hv, hh⟩, st⟩ := hr T hT X
  cases hv
  have hLn : L = [] := List.eq_nil_iff_forall_not_mem.mpr (fun q hq => hL q hq)
  subst hLn
  rw [List.append_nil] at X'
  obtain ⟨t2, a1, b1⟩ := kk T' (by rw [e1, hh, h0]) X'
  exact ⟨t2, st t2 a1, b1⟩
/-- the addresses of a world -/
def xw_ad (ws : va_W) : Nat → Prop := fun q => ∃ (k : Nat) (e : va_E), ws[k]? = some (q, e)
theorem xw_D_self {ws : va_W} {A : Nat → Prop} (h : va_D A ws) : va_D (xw_ad ws) ws := ⟨h.1, fun k q hk => ⟨k, q.2, hk⟩⟩
/-- a method that answers rv and leaves its world as w1, all else as it was -/
def xw_M (D : va_G) (cl : List vw_C) (rv : Option Value) (w1 : va_W) (A : Nat → Prop) : Array Value → State → Outcome → State → Prop := fun _ st oc t => oc = .returned rv ∧ va_P D cl w1 t.heap ∧ va_F A st t
theorem xw_m {D : va_G} {cl : List vw_C} {w1 : va_W} {A : Nat → Prop} {v w : Int32} {a : Array Value} {st t : State} {H : Heap} {locs : List Loc} (h : w = v) (hP : va_P D cl w1 H) (hS : va_S A st.heap H locs) (ht : t.heap = H) : xw_M D cl (some (.int v)) w1 A a st (.returned (some (.int w))) t := ⟨by rw [h], by rw [ht]; exact hP, hS.F ht⟩
theorem xw_mv {D : va_G} {cl : List vw_C} {w1 : va_W} {A : Nat → Prop} {a : Array Value} {st t : State} {H : Heap} {locs : List Loc} (hP : va_P D cl w1 H) (hS : va_S A st.heap H locs) (ht : t.heap = H) : xw_M D cl none w1 A a st (.returned none) t := ⟨rfl, by rw [ht]; exact hP, hS.F ht⟩
theorem xw_P_mem {D : va_G} {cl : List vw_C} {ws : va_W} {H : Heap} : va_P D cl ws H ↔ ∀ q ∈ ws, va_at D cl q H := ⟨fun h q hq => by
  obtain ⟨k, hk⟩ := List.getElem?_of_mem hq
  exact h k q hk, fun h k q hk => h q (List.mem_of_getElem? hk)⟩
theorem xw_D_same {A : Nat → Prop} {ws ws' : va_W} (h : ws'.map Prod.fst = ws.map Prod.fst) (hD : va_D A ws) : va_D A ws' := by
  have key : ∀ (k : Nat) (q : Nat × va_E), ws'[k]? = some q → ∃ q', ws[k]? = some q' ∧ q'.1 = q.1 := by
    intro k q hk
    have h1 : (ws'.map Prod.fst)[k]? = some q.1 := by rw [List.getElem?_map, hk]; rfl
    rw [h, List.getElem?_map] at h1
    cases hi : ws[k]? with
    | none => rw [hi] at h1; cases h1
    | some q' => rw [hi] at h1; exact ⟨q', rfl, Option.some.inj h1⟩
  refine ⟨fun i j u w hu hw huw => ?_, fun k q hk => ?_⟩
  · obtain ⟨u', h1, h2⟩ := key i u hu
    obtain ⟨w', h3, h4⟩ := key j w hw
    exact hD.1 i j u' w' h1 h3 (by rw [h2, h4, huw])
  · obtain ⟨q', h1, h2⟩ := key k q hk
    rw [← h2]
    exact hD.2 k q' h1
theorem xw_mid {wa wc wb : va_W} {j : Nat} {r : Nat × va_E} (hj : wc[j]? = some r) : (wa ++ (wc ++ wb))[wa.length + j]? = some r := by
  have hjl : j < wc.length := (List.getElem?_eq_some_iff.mp hj).1
  rw [List.getElem?_append_right (by omega), Nat.add_sub_cancel_left, List.getElem?_append_left hjl]
  exact hj
theorem xw_apart {A : Nat → Prop} {wa wc wb : va_W} (hD : va_D A (wa ++ (wc ++ wb))) {q r : Nat × va_E} (hq : q ∈ wa ∨ q ∈ wb) (hr : r ∈ wc) : q.1 ≠ r.1 := by
  obtain ⟨j, hj⟩ := List.getElem?_of_mem hr
  have hjl : j < wc.length := (List.getElem?_eq_some_iff.mp hj).1
  have h1 : (wa ++ (wc ++ wb))[wa.length + j]? = some r := xw_mid hj
  intro heq
  rcases hq with hq | hq
  · obtain ⟨i, hi⟩ := List.getElem?_of_mem hq
    have hil : i < wa.length := (List.getElem?_eq_some_iff.mp hi).1
    have h2 : (wa ++ (wc ++ wb))[i]? = some q := by rw [List.getElem?_append_left hil]; exact hi
    have := hD.1 _ _ _ _ h2 h1 heq
    omega
  · obtain ⟨i, hi⟩ := List.getElem?_of_mem hq
    have h2 : (wa ++ (wc ++ wb))[wa.length + (wc.length + i)]? = some q := by
      rw [List.getElem?_append_right (by omega), Nat.add_sub_cancel_left, List.getElem?_append_right (by omega), Nat.add_sub_cancel_left]
      exact hi
    have := hD.1 _ _ _ _ h2 h1 heq
    omega
theorem xw_P_mid {D : va_G} {cl : List vw_C} {wa wc wb : va_W} {H : Heap} (h : va_P D cl (wa ++ (wc ++ wb)) H) : va_P D cl wc H := fun _ q hk => h _ q (xw_mid hk)
theorem xw_D_mid {A : Nat → Prop} {wa wc wb : va_W} (h : va_D A (wa ++ (wc ++ wb))) : va_D (fun _ => True) wc := ⟨fun i j u w hu hw huw => by
  have := h.1 _ _ u w (xw_mid hu) (xw_mid hw) huw
  omega, fun _ _ _ => trivial⟩
theorem xw_mrun {D : va_G} {cl : List vw_C} {rv : Option Value} {a : Array Value} {A : Nat → Prop} {H0 : Heap} {wa wc wb w1 : va_W} (hr : va_Run p l e R s m args below meth c H locs cells slots 0 0 (F0 m pc ls st0) rest (xw_M D cl rv w1 (xw_ad wc) a) (xw_ad wc)) (hP : va_P D cl (wa ++ (wc ++ wb)) H) (hD : va_D A (wa ++ (wc ++ wb))) (hS : va_S A H0 H locs) (hsame : w1.map Prod.fst = wc.map Prod.fst)
    (kk : ∀ (H1 : Heap) (locs1 : List Loc), va_P D cl (wa ++ (w1 ++ wb)) H1 → va_D A (wa ++ (w1 ++ wb)) → va_S A H0 H1 locs1 → W p l e R s m args below meth c H1 locs1 cells slots Q (F0 m (pc + 3) ls (rv.toList ++ rest))) : W p l e R s m args below meth c H locs cells slots Q (F0 m pc ls st0) := by
  intro T hT X
  obtain ⟨v', st₀, t, T', L, h0, X', hL, e1, e2, ⟨hv, hP1, hz, hk⟩, st⟩ := hr T hT X
  cases hv
  rw [h0] at hz hk
  have hin : ∀ q, xw_ad wc q → A q := by
    rintro q ⟨k, e', h⟩
    exact hD.2 _ _ (xw_mid h)
  have hkeep : ∀ q : Nat × va_E, (q ∈ wa ∨ q ∈ wb) → va_at D cl q T'.heap := by
    intro q hq
    have hm : q ∈ wa ++ (wc ++ wb) := by
      rcases hq with h | h
      · exact List.mem_append_left _ h
      · exact List.mem_append_right _ (List.mem_append_right _ h)
    have hat := xw_P_mem.mp hP q hm
    refine hat.kept ?_
    rw [e1]
    refine hk q.1 hat.lt ?_
    rintro ⟨k, e', h⟩
    exact xw_apart hD hq (List.mem_of_getElem? h) rfl
  have hPn : va_P D cl (wa ++ (w1 ++ wb)) T'.heap := by
    refine xw_P_mem.mpr (fun q hq => ?_)
    rcases List.mem_append.mp hq with h | h
    · exact hkeep q (Or.inl h)
    · rcases List.mem_append.mp h with h | h
      · rw [e1]
        exact xw_P_mem.mp hP1 q h
      · exact hkeep q (Or.inr h)
  have hDn : va_D A (wa ++ (w1 ++ wb)) := xw_D_same (by simp only [List.map_append, hsame]) hD
  have hSn : va_S A H0 T'.heap (locs ++ L) := by
    refine ⟨Nat.le_trans hS.1 (by rw [e1]; exact hz), fun q h1 h2 => ?_, fun q hq => ?_⟩
    · rw [e1, hk q (Nat.lt_of_lt_of_le h1 hS.1) (fun z => h2 (hin q z))]
      exact hS.2.1 q h1 h2
    · rcases List.mem_append.mp hq with h | h
      · exact hS.2.2 q h
      · exact hin _ (hL q h)
  obtain ⟨t2, a1, b1⟩ := kk T'.heap (locs ++ L) hPn hDn hSn T' rfl X'
  exact ⟨t2, st t2 a1, b1⟩
/-- what a reading and what a writing method finds at its start -/
abbrev xw_Rd (D : va_G) (cl : List vw_C) (ws : va_W) (tys : List (ClassId × FieldType)) : State → Prop := fun U => va_P D cl ws U.heap ∧ va_K D cl tys U
abbrev xw_Wr (D : va_G) (cl : List vw_C) (ws : va_W) (tys : List (ClassId × FieldType)) : State → Prop := fun U => va_P D cl ws U.heap ∧ va_K D cl tys U ∧ va_D (fun _ => True) ws
theorem xw_blindS {av : List Value} : FrameBlind (va_Pc av (fun _ => True)) := fun _ _ _ _ q => ⟨q.1, trivial⟩
theorem xw_blindR {av : List Value} {D : va_G} {cl : List vw_C} {ws : va_W} {tys : List (ClassId × FieldType)} : FrameBlind (va_Pc av (xw_Rd D cl ws tys)) := fun a U g mk q => ⟨q.1, q.2.1, va_K.moved (u := U) (U := U.calling g mk a) (Vm.Alike.refl U.vm) q.2.2⟩
theorem xw_blindW {av : List Value} {D : va_G} {cl : List vw_C} {ws : va_W} {tys : List (ClassId × FieldType)} : FrameBlind (va_Pc av (xw_Wr D cl ws tys)) := fun a U g mk q => ⟨q.1, q.2.1, va_K.moved (u := U) (U := U.calling g mk a) (Vm.Alike.refl U.vm) q.2.2.1, q.2.2.2⟩
variable {y : MethodName} {bytes cc : ByteArray} {maxL nL n index : Nat} {ret : Option FieldType} {ws : List Cond} {rm : Room} {Ts : List Cond} {own C : String} {b : Addr} {As : List Value}
theorem xw_S {v : Int32} (S : CallFix p m c cc nL s args Ts own) (hM : Met l y ws rm (va_Pc As (fun _ => True)) (xw_Q v) 0 0 (fun _ => False)) (cw : CallB R s args own index y bytes maxL ret ws rm 0 0 n ∧ (Cond.static y).before args s = true) (hn : As.length = n) (hsize : ls.size = nL) (hstack : st0 = As.reverse ++ rest) (hW : (rest.map fun v => v.category).sum ≤ 8) (hdg : decode cc pc = .ok (.invokestatic index, 3)) (hf : cells ≤ R.cells ∧ slots ≤ R.slots)
    (kk : W p l e R s m args below meth c H locs cells slots Q (F0 m (pc + 3) ls (.int v :: rest))) : W p l e R s m args below meth c H locs cells slots Q (F0 m pc ls st0) :=
  xw_run (va_runS S hM cw ⟨xw_blindS, fun _ _ _ => ⟨rfl, trivial⟩⟩ rfl hn hsize hstack (lv_room hW) hdg hf) kk
theorem xw_V {v : Int32} {D : va_G} {cl : List vw_C} {tys : List (ClassId × FieldType)} {w0 : va_W} {ci N : Nat} {T : u_T} {fs : List Value} (S : CallFix p m c cc nL s args Ts own) (hM : Met l y ws rm (va_Pc (.ref b :: As) (xw_Rd D cl w0 tys)) (xw_Q v) 0 0 (fun _ => False)) (cw : CallW R s args own C index y bytes maxL ret ws rm 0 0 n) (hK : va_K D cl tys s) (hP : va_P D cl w0 H) (q0 : Nat) (hc : cl[ci]? = some (C, T, N)) (he : w0[q0]? = some (b, .inr (ci, fs))) (hn : As.length = n) (hsize : ls.size = nL) (hstack : st0 = As.reverse ++ .ref b :: rest) (hW : (rest.map fun v => v.category).sum ≤ 8) (hdg : decode cc pc = .ok (.invokevirtual index, 3)) (hf : cells ≤ R.cells ∧ slots ≤ R.slots)
    (kk : W p l e R s m args below meth c H locs cells slots Q (F0 m (pc + 3) ls (.int v :: rest))) : W p l e R s m args below meth c H locs cells slots Q (F0 m pc ls st0) :=
  xw_run (va_runV S hM cw ⟨xw_blindR, va_recv hK hP hc he, fun U hU hW => ⟨rfl, by rw [hU]; exact hP, va_K.moved hW.alike hK⟩⟩ rfl hn hsize hstack (lv_room hW) hdg hf) kk
theorem xw_U {rv : Option Value} {D : va_G} {cl : List vw_C} {tys : List (ClassId × FieldType)} {A : Nat → Prop} {H0 : Heap} {wc w1 : va_W} {ci N : Nat} {T : u_T} {fs : List Value} (S : CallFix p m c cc nL s args Ts own) (hM : Met l y ws rm (va_Pc (.ref b :: As) (xw_Wr D cl wc tys)) (xw_M D cl rv w1 (xw_ad wc)) 0 0 (xw_ad wc)) (cw : CallW R s args own C index y bytes maxL ret ws rm 0 0 n) (wa wb : va_W) (hK : va_K D cl tys s) (hP : va_P D cl (wa ++ (wc ++ wb)) H) (hD : va_D A (wa ++ (wc ++ wb))) (hS : va_S A H0 H locs) (hsame : w1.map Prod.fst = wc.map Prod.fst) (q0 : Nat) (hc : cl[ci]? = some (C, T, N)) (he : wc[q0]? = some (b, .inr (ci, fs))) (hn : As.length = n) (hsize : ls.size = nL) (hstack : st0 = As.reverse ++ .ref b :: rest) (hW : (rest.map fun v => v.category).sum ≤ 8) (hdg : decode cc pc = .ok (.invokevirtual index, 3)) (hf : cells ≤ R.cells ∧ slots ≤ R.slots)
    (kk : ∀ (H1 : Heap) (locs1 : List Loc), va_P D cl (wa ++ (w1 ++ wb)) H1 → va_D A (wa ++ (w1 ++ wb)) → va_S A H0 H1 locs1 → W p l e R s m args below meth c H1 locs1 cells slots Q (F0 m (pc + 3) ls (rv.toList ++ rest))) : W p l e R s m args below meth c H locs cells slots Q (F0 m pc ls st0) :=
  xw_mrun (va_runV S hM cw ⟨xw_blindW, va_recv hK (xw_P_mid hP) hc he, fun U hU hW => ⟨rfl, by rw [hU]; exact xw_P_mid hP, va_K.moved hW.alike hK, xw_D_mid hD⟩⟩ rfl hn hsize hstack (lv_room hW) hdg hf) hP hD hS hsame kk
end XW
/-! worlds and what the methods compute -/
abbrev vwCl : List vw_C := [(RX0, TX0, 9), (RX1, TX1, 9)]
/-- desk: there, type, kind, raw, called, resultKind, result, wanted, blamed; reference: some, sort, value, typed, called, kindOfResult, lastResult, argument, outcome -/
abbrev xd_T : Type := Int32 × Int32 × Int32 × Int32 × Int32 × Int32 × Int32 × (Nat → Int32) × (Nat → Int32)
abbrev xd_W (h w b : Nat) (cw cb : ClassId) (σ : xd_T) : va_W := [(h, .inr (0, [.int σ.1, .int σ.2.1, .int σ.2.2.1, .int σ.2.2.2.1, .ref w, .ref b, .int σ.2.2.2.2.1, .int σ.2.2.2.2.2.1, .int σ.2.2.2.2.2.2.1])), (w, .inl (cw, 4, .inl σ.2.2.2.2.2.2.2.1)), (b, .inl (cb, 4, .inl σ.2.2.2.2.2.2.2.2))]
abbrev xm_W (h w b : Nat) (cw cb : ClassId) (σ : xd_T) : va_W := [(h, .inr (1, [.int σ.1, .int σ.2.1, .int σ.2.2.1, .int σ.2.2.2.1, .ref w, .ref b, .int σ.2.2.2.2.1, .int σ.2.2.2.2.2.1, .int σ.2.2.2.2.2.2.1])), (w, .inl (cw, 2, .inl σ.2.2.2.2.2.2.2.1)), (b, .inl (cb, 2, .inl σ.2.2.2.2.2.2.2.2))]
theorem xi_40 : vp_in 0 4 := by unfold vp_in; decide
theorem xi_41 : vp_in 1 4 := by unfold vp_in; decide
theorem xi_42 : vp_in 2 4 := by unfold vp_in; decide
theorem xi_43 : vp_in 3 4 := by unfold vp_in; decide
theorem xi_401 : vp_in (0 + 1) 4 := by unfold vp_in; decide
theorem xi_421 : vp_in (2 + 1) 4 := by unfold vp_in; decide
theorem xi_20 : vp_in 0 2 := by unfold vp_in; decide
theorem xi_21 : vp_in 1 2 := by unfold vp_in; decide
def xd_isType (t : Int32) : Int32 := if t < 0 then 0 else if 12 ≤ t then 0 else 1
def xd_isFun (t : Int32) : Int32 := if t < 3 then 0 else 1
def xd_arg (t : Int32) : Int32 := (t - 3) / 3
def xd_res (t : Int32) : Int32 := t - 3 - (t - 3) / 3 * 3
def xd_plain (a b : Int32) : Int32 := if a = b then 1 else if a = 0 then 1 else if b = 0 then 1 else 0
def xd_tof (n : Int32) : Int32 := if n = 0 then 7 else if n = 1 then 3 else if n = 2 then 11 else if n = 3 then 8 else if n = 4 then 4 else 10
def xd_good2 (k n : Int32) : Int32 := if k = 2 then (if n < 0 then 0 else if 5 < n then 0 else 1) else 0
def xd_good (k n : Int32) : Int32 := if k = 0 then 1 else if k = 1 then (if n = 0 then 1 else if n = 1 then 1 else xd_good2 k n) else xd_good2 k n
def xd_stype (k n : Int32) : Int32 := if k = 2 then xd_tof n else k + 1
def xd_setR (k n : Int32) : Int32 := if xd_good k n = 0 then -100 else xd_stype k n
def xd_setS (σ : xd_T) (k n : Int32) : xd_T := if xd_good k n = 0 then σ else (1, xd_stype k n, k, n, 0, σ.2.2.2.2.2.1, σ.2.2.2.2.2.2.1, upd (upd (upd (upd σ.2.2.2.2.2.2.2.1 0 0) 1 0) 2 0) 3 0, σ.2.2.2.2.2.2.2.2)
def xd_n8 (u : Int32) : Int32 := vp_nar .byte u
def xd_nb (u : Int32) : Int32 := vp_nar .byte u.toInt8.toInt32
def xd_dfW (want : Int32) (w : Nat → Int32) : Nat → Int32 := if w 0 = 0 then upd w 0 (xd_nb want) else if w 0 = want then upd w 0 (xd_nb want) else upd (upd w 1 (xd_n8 (w 0))) 0 (xd_nb want)
def xd_dfB (want lab : Int32) (w b : Nat → Int32) : Nat → Int32 := if w 0 = 0 then upd b 0 (xd_nb lab) else if w 0 = want then upd b 0 (xd_nb lab) else upd (upd b 1 (xd_n8 (b 0))) 0 (xd_nb lab)
def xd_dlW (want : Int32) (w : Nat → Int32) : Nat → Int32 := if w 2 = 0 then upd w 2 (xd_nb want) else if w 2 = want then w else if w 3 = 0 then upd w 3 (xd_nb want) else w
def xd_dlB (want lab : Int32) (w b : Nat → Int32) : Nat → Int32 := if w 2 = 0 then upd b 2 (xd_nb lab) else if w 2 = want then b else if w 3 = 0 then upd b 3 (xd_nb lab) else b
def xd_dfS (σ : xd_T) (want lab : Int32) : xd_T := (σ.1, σ.2.1, σ.2.2.1, σ.2.2.2.1, σ.2.2.2.2.1, σ.2.2.2.2.2.1, σ.2.2.2.2.2.2.1, xd_dfW want σ.2.2.2.2.2.2.2.1, xd_dfB want lab σ.2.2.2.2.2.2.2.1 σ.2.2.2.2.2.2.2.2)
def xd_dlS (σ : xd_T) (want lab : Int32) : xd_T := (σ.1, σ.2.1, σ.2.2.1, σ.2.2.2.1, σ.2.2.2.2.1, σ.2.2.2.2.2.1, σ.2.2.2.2.2.2.1, xd_dlW want σ.2.2.2.2.2.2.2.1, xd_dlB want lab σ.2.2.2.2.2.2.2.1 σ.2.2.2.2.2.2.2.2)
def xd_wr1 (σ : xd_T) (u t lab : Int32) : xd_T := if xd_arg t = 0 then (if xd_arg u = 0 then σ else xd_dfS σ (xd_arg u) (-lab)) else σ
def xd_wrS (σ : xd_T) (u t lab : Int32) : xd_T := if xd_res u = 0 then (if xd_res t = 0 then xd_wr1 σ u t lab else xd_dlS (xd_wr1 σ u t lab) (xd_res t) lab) else xd_wr1 σ u t lab
def xd_flS (σ : xd_T) : xd_T := (0, σ.2.1, σ.2.2.1, σ.2.2.2.1, σ.2.2.2.2.1, σ.2.2.2.2.2.1, σ.2.2.2.2.2.2.1, σ.2.2.2.2.2.2.2.1, σ.2.2.2.2.2.2.2.2)
def xd_tyS (σ : xd_T) (t : Int32) : xd_T := (σ.1, t, σ.2.2.1, σ.2.2.2.1, σ.2.2.2.2.1, σ.2.2.2.2.2.1, σ.2.2.2.2.2.2.1, σ.2.2.2.2.2.2.2.1, σ.2.2.2.2.2.2.2.2)
def xd_agree (u t : Int32) : Int32 := if xd_isType u = 0 then 0 else if xd_isType t = 0 then 0 else if xd_isFun u = 0 then xd_plain u t else if xd_isFun t = 0 then xd_plain u t else if xd_plain (xd_arg u) (xd_arg t) = 0 then 0 else if xd_plain (xd_res u) (xd_res t) = 0 then 0 else 1
def xd_bit (u : Int32) : Int32 := if u = 0 then 0 else 1
def xd_agN (t : Int32) : Nat → Int32
  | 0 => 0
  | k + 1 => xd_agN t k + xd_bit (xd_agree (nI k) t)
def xd_agreeing (t : Int32) : Int32 := if xd_isType t = 0 then -100 else xd_agN t 12
def xd_or3 (u : Int32) : Int32 := if u = 0 then 3 else u
def xd_castR (σ : xd_T) (t lab : Int32) : Int32 := if σ.1 = 0 then -100 else if xd_isType t = 0 then -100 else if lab < 1 then -100 else if 9 < lab then -100 else if xd_agree σ.2.1 t = 0 then -100 else if σ.2.1 = t then 0 else if σ.2.1 = 0 then (if xd_isFun t = 0 then (if σ.2.2.1 + 1 = t then 0 else lab) else if σ.2.2.1 = 2 then 0 else lab) else 0
def xd_cast3 (σ : xd_T) (t lab : Int32) : xd_T := if xd_isFun σ.2.1 = 0 then (if xd_isFun t = 0 then xd_tyS σ t else xd_wrS (xd_tyS σ t) (xd_or3 σ.2.1) (xd_or3 t) lab) else xd_wrS (xd_tyS σ t) (xd_or3 σ.2.1) (xd_or3 t) lab
def xd_castS (σ : xd_T) (t lab : Int32) : xd_T := if σ.1 = 0 then σ else if xd_isType t = 0 then σ else if lab < 1 then σ else if 9 < lab then σ else if xd_agree σ.2.1 t = 0 then σ else if σ.2.1 = t then xd_tyS σ t else if σ.2.1 = 0 then (if xd_isFun t = 0 then (if σ.2.2.1 + 1 = t then xd_tyS σ t else xd_flS (xd_tyS σ t)) else if σ.2.2.1 = 2 then xd_cast3 σ t lab else xd_flS (xd_tyS σ t)) else xd_cast3 σ t lab
def xd_argOk (k n : Int32) : Int32 := if k = 0 then 1 else if k = 1 then (if n = 0 then 1 else if n = 1 then 1 else 0) else 0
def xd_meet (w b : Nat → Int32) (f k : Int32) : Int32 := if w f.toNatClampNeg = 0 then 0 else if w f.toNatClampNeg = k + 1 then (if w (f + 1).toNatClampNeg = 0 then 0 else b (f + 1).toNatClampNeg) else b f.toNatClampNeg
def xd_gk (ra k : Int32) : Int32 := if ra = 1 then k else if ra = 2 then 1 else if ra = 3 then 1 else 0
def xd_given (ra n : Int32) : Int32 := if ra = 0 then n + 1 else if ra = 2 then 1 - n else if ra = 3 then (if n ≤ 0 then 0 else 1) else if ra = 4 then 7 else n
def xd_callX (σ : xd_T) (k : Int32) : Int32 := if xd_meet σ.2.2.2.2.2.2.2.1 σ.2.2.2.2.2.2.2.2 0 k = 0 then xd_meet σ.2.2.2.2.2.2.2.1 σ.2.2.2.2.2.2.2.2 2 (xd_gk σ.2.2.2.1 k) else xd_meet σ.2.2.2.2.2.2.2.1 σ.2.2.2.2.2.2.2.2 0 k
def xd_callR (σ : xd_T) (k n : Int32) : Int32 := if σ.1 = 0 then -100 else if xd_isFun σ.2.1 = 0 then -100 else if xd_argOk k n = 0 then -100 else if xd_arg σ.2.1 = 0 then xd_callX σ k else if xd_arg σ.2.1 = k + 1 then xd_callX σ k else -100
def xd_callY (σ : xd_T) (k n : Int32) : xd_T := if xd_meet σ.2.2.2.2.2.2.2.1 σ.2.2.2.2.2.2.2.2 0 k = 0 then (if xd_meet σ.2.2.2.2.2.2.2.1 σ.2.2.2.2.2.2.2.2 2 (xd_gk σ.2.2.2.1 k) = 0 then (σ.1, σ.2.1, σ.2.2.1, σ.2.2.2.1, 1, xd_gk σ.2.2.2.1 k, xd_given σ.2.2.2.1 n, σ.2.2.2.2.2.2.2.1, σ.2.2.2.2.2.2.2.2) else σ) else σ
def xd_callS (σ : xd_T) (k n : Int32) : xd_T := if σ.1 = 0 then σ else if xd_isFun σ.2.1 = 0 then σ else if xd_argOk k n = 0 then σ else if xd_arg σ.2.1 = 0 then xd_callY σ k n else if xd_arg σ.2.1 = k + 1 then xd_callY σ k n else σ
/-- a look at a cell: b when th is 0, else v -/
def xd_look (th v b : Int32) : Int32 := if th = 0 then b else v
def xm_arrow (a b : Int32) : Int32 := 3 + 3 * a + b
def xm_own (f : Int32) : Int32 := if f = 0 then xm_arrow 1 1 else if f = 1 then xm_arrow 0 0 else if f = 2 then xm_arrow 2 2 else if f = 3 then xm_arrow 1 2 else if f = 4 then xm_arrow 0 1 else xm_arrow 2 1
def xm_stype (k n : Int32) : Int32 := if k = 0 then 1 else if k = 1 then 2 else xm_own n
def xm_setR (k n : Int32) : Int32 := if xd_good k n = 0 then -100 else xm_stype k n
def xm_setS (σ : xd_T) (k n : Int32) : xd_T := if xd_good k n = 0 then σ else (1, k, n, xm_stype k n, 0, σ.2.2.2.2.2.1, σ.2.2.2.2.2.2.1, upd (upd σ.2.2.2.2.2.2.2.1 0 0) 1 0, upd (upd σ.2.2.2.2.2.2.2.2 0 0) 1 0)
def xm_isType (t : Int32) : Int32 := if t < 0 then 0 else if 11 < t then 0 else 1
def xm_agree (u t : Int32) : Int32 := if xm_isType u = 0 then 0 else if xm_isType t = 0 then 0 else if xd_plain u t = 0 then (if u < 3 then 0 else if t < 3 then 0 else if xd_plain (xd_arg u) (xd_arg t) = 0 then 0 else if xd_plain (xd_res u) (xd_res t) = 0 then 0 else 1) else 1
def xm_inc (a n : Int32) : Int32 := if a = 0 then n else n + 1
def xm_agN (t : Int32) : Nat → Int32
  | 0 => 0
  | k + 1 => xm_inc (xm_agree (nI k) t) (xm_agN t k)
def xm_agreeing (t : Int32) : Int32 := if xm_isType t = 0 then -100 else xm_agN t 12
def xm_asked (u t : Int32) : Int32 := if xd_arg t = 0 then xd_arg u else 0
def xm_giv (u t : Int32) : Int32 := if xd_res u = 0 then xd_res t else 0
def xm_av (ak k lab old : Int32) : Int32 := if ak ≤ 0 then old else if ak = k + 1 then old else lab
def xm_ov (gi k lab old : Int32) : Int32 := if gi ≤ 0 then old else if gi = k + 1 then old else if old = 0 then lab else old
def xm_wrS (σ : xd_T) (u t lab : Int32) : xd_T := (σ.1, σ.2.1, σ.2.2.1, σ.2.2.2.1, σ.2.2.2.2.1, σ.2.2.2.2.2.1, σ.2.2.2.2.2.2.1, upd (upd σ.2.2.2.2.2.2.2.1 0 (xm_av (xm_asked u t) 0 lab (σ.2.2.2.2.2.2.2.1 0))) 1 (xm_av (xm_asked u t) 1 lab (σ.2.2.2.2.2.2.2.1 1)), upd (upd σ.2.2.2.2.2.2.2.2 0 (xm_ov (xm_giv u t) 0 lab (σ.2.2.2.2.2.2.2.2 0))) 1 (xm_ov (xm_giv u t) 1 lab (σ.2.2.2.2.2.2.2.2 1)))
def xm_f3 (so t : Int32) : Int32 := if t < 3 then 0 else if so = 2 then 0 else 1
def xm_f2 (so t : Int32) : Int32 := if t = 2 then (if so = 1 then xm_f3 so t else 1) else xm_f3 so t
def xm_fails (td so t : Int32) : Int32 := if td = 0 then (if t = 1 then (if so = 0 then xm_f2 so t else 1) else xm_f2 so t) else 0
def xm_s (td t : Int32) : Int32 := if td = 0 then (if t < 3 then td else xm_arrow 0 0) else td
def xm_to (td t : Int32) : Int32 := if td < 3 then t else if t = 0 then xm_arrow 0 0 else t
def xm_cw (σ : xd_T) (t lab : Int32) : xd_T := if xm_s σ.2.2.2.1 t < 3 then σ else if xm_to σ.2.2.2.1 t < 3 then σ else xm_wrS σ (xm_s σ.2.2.2.1 t) (xm_to σ.2.2.2.1 t) lab
def xm_tyS (σ : xd_T) (t : Int32) : xd_T := (σ.1, σ.2.1, σ.2.2.1, t, σ.2.2.2.2.1, σ.2.2.2.2.2.1, σ.2.2.2.2.2.2.1, σ.2.2.2.2.2.2.2.1, σ.2.2.2.2.2.2.2.2)
def xm_castR (σ : xd_T) (t lab : Int32) : Int32 := if σ.1 = 0 then -100 else if lab < 1 then -100 else if 9 < lab then -100 else if xm_agree σ.2.2.2.1 t = 0 then -100 else if xm_fails σ.2.2.2.1 σ.2.1 t = 0 then 0 else lab
def xm_castS (σ : xd_T) (t lab : Int32) : xd_T := if σ.1 = 0 then σ else if lab < 1 then σ else if 9 < lab then σ else if xm_agree σ.2.2.2.1 t = 0 then σ else if xm_fails σ.2.2.2.1 σ.2.1 t = 0 then xm_tyS (xm_cw σ t lab) t else xd_flS σ
def xm_made (va n : Int32) : Int32 := if va = 0 then n + 1 else if va = 1 then n else if va = 5 then n else if va = 2 then 1 - n else if va = 3 then (if n ≤ 0 then 0 else 1) else 7
def xm_callX (σ : xd_T) (k : Int32) : Int32 := if σ.2.2.2.2.2.2.2.1 k.toNatClampNeg ≤ 0 then (if σ.2.2.2.2.2.2.2.2 (xd_gk σ.2.2.1 k).toNatClampNeg ≤ 0 then 0 else σ.2.2.2.2.2.2.2.2 (xd_gk σ.2.2.1 k).toNatClampNeg) else -σ.2.2.2.2.2.2.2.1 k.toNatClampNeg
def xm_callR (σ : xd_T) (k n : Int32) : Int32 := if σ.1 = 0 then -100 else if σ.2.2.2.1 < 3 then -100 else if xd_argOk k n = 0 then -100 else if xd_arg σ.2.2.2.1 = 0 then xm_callX σ k else if xd_arg σ.2.2.2.1 = k + 1 then xm_callX σ k else -100
def xm_callY (σ : xd_T) (k n : Int32) : xd_T := if σ.2.2.2.2.2.2.2.1 k.toNatClampNeg ≤ 0 then (if σ.2.2.2.2.2.2.2.2 (xd_gk σ.2.2.1 k).toNatClampNeg ≤ 0 then (σ.1, σ.2.1, σ.2.2.1, σ.2.2.2.1, 1, xd_gk σ.2.2.1 k, xm_made σ.2.2.1 n, σ.2.2.2.2.2.2.2.1, σ.2.2.2.2.2.2.2.2) else σ) else σ
def xm_callS (σ : xd_T) (k n : Int32) : xd_T := if σ.1 = 0 then σ else if σ.2.2.2.1 < 3 then σ else if xd_argOk k n = 0 then σ else if xd_arg σ.2.2.2.1 = 0 then xm_callY σ k n else if xd_arg σ.2.2.2.1 = k + 1 then xm_callY σ k n else σ
theorem xd_plain_nar (a b : Int32) : narrow .boolean (.int (xd_plain a b)) = .int (xd_plain a b) := by
  unfold xd_plain
  by_cases h1 : a = b
  · rw [if_pos h1]; rfl
  · by_cases h2 : a = 0
    · rw [if_neg h1, if_pos h2]; rfl
    · by_cases h3 : b = 0
      · rw [if_neg h1, if_neg h2, if_pos h3]; rfl
      · rw [if_neg h1, if_neg h2, if_neg h3]; rfl
theorem xd_argOk_in {k n : Int32} (h : ¬ xd_argOk k n = 0) : vp_in k 2 := by
  unfold xd_argOk at h
  by_cases h0 : k = 0
  · rw [h0]; exact xi_20
  · by_cases h1 : k = 1
    · rw [h1]; exact xi_21
    · rw [if_neg h0, if_neg h1] at h
      exact absurd rfl h
theorem xd_gk_in {ra k : Int32} (h : vp_in k 2) : vp_in (xd_gk ra k) 2 := by
  unfold xd_gk
  by_cases h1 : ra = 1
  · rw [if_pos h1]; exact h
  · by_cases h2 : ra = 2
    · rw [if_neg h1, if_pos h2]; exact xi_21
    · by_cases h3 : ra = 3
      · rw [if_neg h1, if_neg h2, if_pos h3]; exact xi_21
      · rw [if_neg h1, if_neg h2, if_neg h3]; exact xi_20
end
section
abbrev wsX0_isType : List Cond := ws_ yX0_isType cX0_isType 1 (some .boolean)
theorem hdX0_isType : yX0_isType.cls ≠ "java/lang/invoke/MethodHandle" ∧ yX0_isType.cls ≠ "java/lang/invoke/VarHandle" ∧ (parseMethodDescriptor yX0_isType.desc).map (fun d => d.parameters.length) = some 1 := by decide +kernel
set_option maxHeartbeats 4000000 in
set_option maxRecDepth 100000 in
theorem metX0_isType (l : Launch) (p0 : Int32) : Met l yX0_isType wsX0_isType ({ frames := 0, cells := 0, slots := 0, locals := 0 }) (va_Pc [.int p0] (fun _ => True)) (xw_Q (xd_isType p0)) 0 0 (fun _ => False) := by
  refine Met.ofW (cc := cX0_isType) (maxL := 1) (ret := (some .boolean)) (by decide) rfl ?_
  intro p e s m args below meth c s₁ B hml hv
  obtain ⟨rfl, -⟩ := hv
  have hx := B.exec
  have hb := B.bytes
  have hr := B.returns
  have hts := atoms_spec (ws := wsX0_isType) B.pre
  have hts : ∀ w ∈ lw_all, w.before _ s = true := fun w h => hts w (List.mem_cons_of_mem _ h)
  have hown : s.vm.findClass RX0 = some m.cls := findClass_of_methodNamed B.named
  have hlocks := B.notSynchronized
  have hl := lv_entry ([.int p0]) (n := 1) (Nat.le_of_ble_eq_true rfl)
  rw [lg_entry_eq]
  generalize (lg_sl ([.int p0]) ++ List.replicate (1 - (lg_sl ([.int p0])).length) Slot.unset).toArray = ls at hl ⊢
  have hl : lv_has ls 1 [(0, .int p0)] := hl
  refine lv_iload_n hx hb dX0_isType_0 rfl (lv_at hl 0 rfl) ?_
  refine lv_if_lt (tgt := 14) hx hb dX0_isType_1 (by decide) (fun c_1 => ?_) (fun c_1 => ?_)
  · skip
    refine lv_iconst (v := 0) hx hb dX0_isType_14 (by decide) ?_
    exact W.zret hx hb hr rfl (fun t ht _ => xw_q (by simp only [xd_isType, if_pos c_1]) ht) (fun _ h => absurd h List.not_mem_nil) dX0_isType_15
  · skip
    refine lv_iload_n hx hb dX0_isType_4 rfl (lv_at hl 0 rfl) ?_
    refine lv_bipush (v := 12) hx hb dX0_isType_5 (by decide) ?_
    refine lv_icmp_ge (tgt := 14) hx hb dX0_isType_7 (by decide) (fun c_2 => ?_) (fun c_2 => ?_)
    · skip
      refine lv_iconst (v := 0) hx hb dX0_isType_14 (by decide) ?_
      exact W.zret hx hb hr rfl (fun t ht _ => xw_q (by simp only [xd_isType, if_neg c_1, if_pos c_2]) ht) (fun _ h => absurd h List.not_mem_nil) dX0_isType_15
    · skip
      refine lv_iconst (v := 1) hx hb dX0_isType_10 (by decide) ?_
      refine lv_goto (tgt := 15) hx hb dX0_isType_11 (by decide) ?_
      exact W.zret hx hb hr rfl (fun t ht _ => xw_q (by simp only [xd_isType, if_neg c_1, if_neg c_2]) ht) (fun _ h => absurd h List.not_mem_nil) dX0_isType_15
abbrev wsX0_isFunction : List Cond := ws_ yX0_isFunction cX0_isFunction 1 (some .boolean)
theorem hdX0_isFunction : yX0_isFunction.cls ≠ "java/lang/invoke/MethodHandle" ∧ yX0_isFunction.cls ≠ "java/lang/invoke/VarHandle" ∧ (parseMethodDescriptor yX0_isFunction.desc).map (fun d => d.parameters.length) = some 1 := by decide +kernel
set_option maxHeartbeats 4000000 in
set_option maxRecDepth 100000 in
theorem metX0_isFunction (l : Launch) (p0 : Int32) : Met l yX0_isFunction wsX0_isFunction ({ frames := 0, cells := 0, slots := 0, locals := 0 }) (va_Pc [.int p0] (fun _ => True)) (xw_Q (xd_isFun p0)) 0 0 (fun _ => False) := by
  refine Met.ofW (cc := cX0_isFunction) (maxL := 1) (ret := (some .boolean)) (by decide) rfl ?_
  intro p e s m args below meth c s₁ B hml hv
  obtain ⟨rfl, -⟩ := hv
  have hx := B.exec
  have hb := B.bytes
  have hr := B.returns
  have hts := atoms_spec (ws := wsX0_isFunction) B.pre
  have hts : ∀ w ∈ lw_all, w.before _ s = true := fun w h => hts w (List.mem_cons_of_mem _ h)
  have hown : s.vm.findClass RX0 = some m.cls := findClass_of_methodNamed B.named
  have hlocks := B.notSynchronized
  have hl := lv_entry ([.int p0]) (n := 1) (Nat.le_of_ble_eq_true rfl)
  rw [lg_entry_eq]
  generalize (lg_sl ([.int p0]) ++ List.replicate (1 - (lg_sl ([.int p0])).length) Slot.unset).toArray = ls at hl ⊢
  have hl : lv_has ls 1 [(0, .int p0)] := hl
  refine lv_iload_n hx hb dX0_isFunction_0 rfl (lv_at hl 0 rfl) ?_
  refine lv_iconst (v := 3) hx hb dX0_isFunction_1 (by decide) ?_
  refine lv_icmp_lt (tgt := 9) hx hb dX0_isFunction_2 (by decide) (fun c_1 => ?_) (fun c_1 => ?_)
  · skip
    refine lv_iconst (v := 0) hx hb dX0_isFunction_9 (by decide) ?_
    exact W.zret hx hb hr rfl (fun t ht _ => xw_q (by simp only [xd_isFun, if_pos c_1]) ht) (fun _ h => absurd h List.not_mem_nil) dX0_isFunction_10
  · skip
    refine lv_iconst (v := 1) hx hb dX0_isFunction_5 (by decide) ?_
    refine lv_goto (tgt := 10) hx hb dX0_isFunction_6 (by decide) ?_
    exact W.zret hx hb hr rfl (fun t ht _ => xw_q (by simp only [xd_isFun, if_neg c_1]) ht) (fun _ h => absurd h List.not_mem_nil) dX0_isFunction_10
abbrev wsX0_argumentOf : List Cond := ws_ yX0_argumentOf cX0_argumentOf 1 (some .int)
theorem hdX0_argumentOf : yX0_argumentOf.cls ≠ "java/lang/invoke/MethodHandle" ∧ yX0_argumentOf.cls ≠ "java/lang/invoke/VarHandle" ∧ (parseMethodDescriptor yX0_argumentOf.desc).map (fun d => d.parameters.length) = some 1 := by decide +kernel
set_option maxHeartbeats 4000000 in
set_option maxRecDepth 100000 in
theorem metX0_argumentOf (l : Launch) (p0 : Int32) : Met l yX0_argumentOf wsX0_argumentOf ({ frames := 0, cells := 0, slots := 0, locals := 0 }) (va_Pc [.int p0] (fun _ => True)) (xw_Q (xd_arg p0)) 0 0 (fun _ => False) := by
  refine Met.ofW (cc := cX0_argumentOf) (maxL := 1) (ret := (some .int)) (by decide) rfl ?_
  intro p e s m args below meth c s₁ B hml hv
  obtain ⟨rfl, -⟩ := hv
  have hx := B.exec
  have hb := B.bytes
  have hr := B.returns
  have hts := atoms_spec (ws := wsX0_argumentOf) B.pre
  have hts : ∀ w ∈ lw_all, w.before _ s = true := fun w h => hts w (List.mem_cons_of_mem _ h)
  have hown : s.vm.findClass RX0 = some m.cls := findClass_of_methodNamed B.named
  have hlocks := B.notSynchronized
  have hl := lv_entry ([.int p0]) (n := 1) (Nat.le_of_ble_eq_true rfl)
  rw [lg_entry_eq]
  generalize (lg_sl ([.int p0]) ++ List.replicate (1 - (lg_sl ([.int p0])).length) Slot.unset).toArray = ls at hl ⊢
  have hl : lv_has ls 1 [(0, .int p0)] := hl
  refine lv_iload_n hx hb dX0_argumentOf_0 rfl (lv_at hl 0 rfl) ?_
  refine lv_iconst (v := 3) hx hb dX0_argumentOf_1 (by decide) ?_
  refine lv_isub hx hb dX0_argumentOf_2 ?_
  refine lv_iconst (v := 3) hx hb dX0_argumentOf_3 (by decide) ?_
  refine lv_idiv hx hb dX0_argumentOf_4 (by decide) ?_
  exact W.iret hx hb hr (fun t ht _ => xw_q (by simp only [xd_arg]) ht) (fun _ h => absurd h List.not_mem_nil) dX0_argumentOf_5
abbrev wsX0_resultOf : List Cond := ws_ yX0_resultOf cX0_resultOf 1 (some .int)
theorem hdX0_resultOf : yX0_resultOf.cls ≠ "java/lang/invoke/MethodHandle" ∧ yX0_resultOf.cls ≠ "java/lang/invoke/VarHandle" ∧ (parseMethodDescriptor yX0_resultOf.desc).map (fun d => d.parameters.length) = some 1 := by decide +kernel
set_option maxHeartbeats 4000000 in
set_option maxRecDepth 100000 in
theorem metX0_resultOf (l : Launch) (p0 : Int32) : Met l yX0_resultOf wsX0_resultOf ({ frames := 0, cells := 0, slots := 0, locals := 0 }) (va_Pc [.int p0] (fun _ => True)) (xw_Q (xd_res p0)) 0 0 (fun _ => False) := by
  refine Met.ofW (cc := cX0_resultOf) (maxL := 1) (ret := (some .int)) (by decide) rfl ?_
  intro p e s m args below meth c s₁ B hml hv
  obtain ⟨rfl, -⟩ := hv
  have hx := B.exec
  have hb := B.bytes
  have hr := B.returns
  have hts := atoms_spec (ws := wsX0_resultOf) B.pre
  have hts : ∀ w ∈ lw_all, w.before _ s = true := fun w h => hts w (List.mem_cons_of_mem _ h)
  have hown : s.vm.findClass RX0 = some m.cls := findClass_of_methodNamed B.named
  have hlocks := B.notSynchronized
  have hl := lv_entry ([.int p0]) (n := 1) (Nat.le_of_ble_eq_true rfl)
  rw [lg_entry_eq]
  generalize (lg_sl ([.int p0]) ++ List.replicate (1 - (lg_sl ([.int p0])).length) Slot.unset).toArray = ls at hl ⊢
  have hl : lv_has ls 1 [(0, .int p0)] := hl
  refine lv_iload_n hx hb dX0_resultOf_0 rfl (lv_at hl 0 rfl) ?_
  refine lv_iconst (v := 3) hx hb dX0_resultOf_1 (by decide) ?_
  refine lv_isub hx hb dX0_resultOf_2 ?_
  refine lv_iconst (v := 3) hx hb dX0_resultOf_3 (by decide) ?_
  refine lv_irem hx hb dX0_resultOf_4 (by decide) ?_
  exact W.iret hx hb hr (fun t ht _ => xw_q (by simp only [xd_res]) ht) (fun _ h => absurd h List.not_mem_nil) dX0_resultOf_5
abbrev wsX0_plainAgree : List Cond := ws_ yX0_plainAgree cX0_plainAgree 2 (some .boolean)
theorem hdX0_plainAgree : yX0_plainAgree.cls ≠ "java/lang/invoke/MethodHandle" ∧ yX0_plainAgree.cls ≠ "java/lang/invoke/VarHandle" ∧ (parseMethodDescriptor yX0_plainAgree.desc).map (fun d => d.parameters.length) = some 2 := by decide +kernel
set_option maxHeartbeats 4000000 in
set_option maxRecDepth 100000 in
theorem metX0_plainAgree (l : Launch) (p0 p1 : Int32) : Met l yX0_plainAgree wsX0_plainAgree ({ frames := 0, cells := 0, slots := 0, locals := 0 }) (va_Pc [.int p0, .int p1] (fun _ => True)) (xw_Q (xd_plain p0 p1)) 0 0 (fun _ => False) := by
  refine Met.ofW (cc := cX0_plainAgree) (maxL := 2) (ret := (some .boolean)) (by decide) rfl ?_
  intro p e s m args below meth c s₁ B hml hv
  obtain ⟨rfl, -⟩ := hv
  have hx := B.exec
  have hb := B.bytes
  have hr := B.returns
  have hts := atoms_spec (ws := wsX0_plainAgree) B.pre
  have hts : ∀ w ∈ lw_all, w.before _ s = true := fun w h => hts w (List.mem_cons_of_mem _ h)
  have hown : s.vm.findClass RX0 = some m.cls := findClass_of_methodNamed B.named
  have hlocks := B.notSynchronized
  have hl := lv_entry ([.int p0, .int p1]) (n := 2) (Nat.le_of_ble_eq_true rfl)
  rw [lg_entry_eq]
  generalize (lg_sl ([.int p0, .int p1]) ++ List.replicate (2 - (lg_sl ([.int p0, .int p1])).length) Slot.unset).toArray = ls at hl ⊢
  have hl : lv_has ls 2 [(0, .int p0), (1, .int p1)] := hl
  refine lv_iload_n hx hb dX0_plainAgree_0 rfl (lv_at hl 0 rfl) ?_
  refine lv_iload_n hx hb dX0_plainAgree_1 rfl (lv_at hl 1 rfl) ?_
  refine lv_icmp_eq (tgt := 13) hx hb dX0_plainAgree_2 (by decide) (fun c_1 => ?_) (fun c_1 => ?_)
  · skip
    refine lv_iconst (v := 1) hx hb dX0_plainAgree_13 (by decide) ?_
    refine lv_goto (tgt := 18) hx hb dX0_plainAgree_14 (by decide) ?_
    exact W.zret hx hb hr rfl (fun t ht _ => xw_q (by simp only [xd_plain, if_pos c_1]) ht) (fun _ h => absurd h List.not_mem_nil) dX0_plainAgree_18
  · skip
    refine lv_iload_n hx hb dX0_plainAgree_5 rfl (lv_at hl 0 rfl) ?_
    refine lv_if_eq (tgt := 13) hx hb dX0_plainAgree_6 (by decide) (fun c_2 => ?_) (fun c_2 => ?_)
    · skip
      refine lv_iconst (v := 1) hx hb dX0_plainAgree_13 (by decide) ?_
      refine lv_goto (tgt := 18) hx hb dX0_plainAgree_14 (by decide) ?_
      exact W.zret hx hb hr rfl (fun t ht _ => xw_q (by simp only [xd_plain, if_neg c_1, if_pos c_2]) ht) (fun _ h => absurd h List.not_mem_nil) dX0_plainAgree_18
    · skip
      refine lv_iload_n hx hb dX0_plainAgree_9 rfl (lv_at hl 1 rfl) ?_
      refine lv_if_ne (tgt := 17) hx hb dX0_plainAgree_10 (by decide) (fun c_3 => ?_) (fun c_3 => ?_)
      · skip
        refine lv_iconst (v := 0) hx hb dX0_plainAgree_17 (by decide) ?_
        exact W.zret hx hb hr rfl (fun t ht _ => xw_q (by simp only [xd_plain, if_neg c_1, if_neg c_2, if_neg c_3]) ht) (fun _ h => absurd h List.not_mem_nil) dX0_plainAgree_18
      · skip
        refine lv_iconst (v := 1) hx hb dX0_plainAgree_13 (by decide) ?_
        refine lv_goto (tgt := 18) hx hb dX0_plainAgree_14 (by decide) ?_
        exact W.zret hx hb hr rfl (fun t ht _ => xw_q (by simp only [xd_plain, if_neg c_1, if_neg c_2, if_pos c_3]) ht) (fun _ h => absurd h List.not_mem_nil) dX0_plainAgree_18
abbrev wsX0_typeOfFunction : List Cond := ws_ yX0_typeOfFunction cX0_typeOfFunction 1 (some .int)
theorem hdX0_typeOfFunction : yX0_typeOfFunction.cls ≠ "java/lang/invoke/MethodHandle" ∧ yX0_typeOfFunction.cls ≠ "java/lang/invoke/VarHandle" ∧ (parseMethodDescriptor yX0_typeOfFunction.desc).map (fun d => d.parameters.length) = some 1 := by decide +kernel
set_option maxHeartbeats 4000000 in
set_option maxRecDepth 100000 in
theorem metX0_typeOfFunction (l : Launch) (p0 : Int32) : Met l yX0_typeOfFunction wsX0_typeOfFunction ({ frames := 0, cells := 0, slots := 0, locals := 0 }) (va_Pc [.int p0] (fun _ => True)) (xw_Q (xd_tof p0)) 0 0 (fun _ => False) := by
  refine Met.ofW (cc := cX0_typeOfFunction) (maxL := 1) (ret := (some .int)) (by decide) rfl ?_
  intro p e s m args below meth c s₁ B hml hv
  obtain ⟨rfl, -⟩ := hv
  have hx := B.exec
  have hb := B.bytes
  have hr := B.returns
  have hts := atoms_spec (ws := wsX0_typeOfFunction) B.pre
  have hts : ∀ w ∈ lw_all, w.before _ s = true := fun w h => hts w (List.mem_cons_of_mem _ h)
  have hown : s.vm.findClass RX0 = some m.cls := findClass_of_methodNamed B.named
  have hlocks := B.notSynchronized
  have hl := lv_entry ([.int p0]) (n := 1) (Nat.le_of_ble_eq_true rfl)
  rw [lg_entry_eq]
  generalize (lg_sl ([.int p0]) ++ List.replicate (1 - (lg_sl ([.int p0])).length) Slot.unset).toArray = ls at hl ⊢
  have hl : lv_has ls 1 [(0, .int p0)] := hl
  refine lv_iload_n hx hb dX0_typeOfFunction_0 rfl (lv_at hl 0 rfl) ?_
  refine lv_if_ne (tgt := 7) hx hb dX0_typeOfFunction_1 (by decide) (fun c_1 => ?_) (fun c_1 => ?_)
  · skip
    refine lv_iload_n hx hb dX0_typeOfFunction_7 rfl (lv_at hl 0 rfl) ?_
    refine lv_iconst (v := 1) hx hb dX0_typeOfFunction_8 (by decide) ?_
    refine lv_icmp_ne (tgt := 14) hx hb dX0_typeOfFunction_9 (by decide) (fun c_2 => ?_) (fun c_2 => ?_)
    · skip
      refine lv_iload_n hx hb dX0_typeOfFunction_14 rfl (lv_at hl 0 rfl) ?_
      refine lv_iconst (v := 2) hx hb dX0_typeOfFunction_15 (by decide) ?_
      refine lv_icmp_ne (tgt := 22) hx hb dX0_typeOfFunction_16 (by decide) (fun c_3 => ?_) (fun c_3 => ?_)
      · skip
        refine lv_iload_n hx hb dX0_typeOfFunction_22 rfl (lv_at hl 0 rfl) ?_
        refine lv_iconst (v := 3) hx hb dX0_typeOfFunction_23 (by decide) ?_
        refine lv_icmp_ne (tgt := 30) hx hb dX0_typeOfFunction_24 (by decide) (fun c_4 => ?_) (fun c_4 => ?_)
        · skip
          refine lv_iload_n hx hb dX0_typeOfFunction_30 rfl (lv_at hl 0 rfl) ?_
          refine lv_iconst (v := 4) hx hb dX0_typeOfFunction_31 (by decide) ?_
          refine lv_icmp_ne (tgt := 39) hx hb dX0_typeOfFunction_32 (by decide) (fun c_5 => ?_) (fun c_5 => ?_)
          · skip
            refine lv_bipush (v := 10) hx hb dX0_typeOfFunction_39 (by decide) ?_
            exact W.iret hx hb hr (fun t ht _ => xw_q (by simp only [xd_tof, if_neg c_1, if_neg c_2, if_neg c_3, if_neg c_4, if_neg c_5]) ht) (fun _ h => absurd h List.not_mem_nil) dX0_typeOfFunction_41
          · skip
            refine lv_iconst (v := 4) hx hb dX0_typeOfFunction_35 (by decide) ?_
            refine lv_goto (tgt := 41) hx hb dX0_typeOfFunction_36 (by decide) ?_
            exact W.iret hx hb hr (fun t ht _ => xw_q (by simp only [xd_tof, if_neg c_1, if_neg c_2, if_neg c_3, if_neg c_4, if_pos c_5]) ht) (fun _ h => absurd h List.not_mem_nil) dX0_typeOfFunction_41
        · skip
          refine lv_bipush (v := 8) hx hb dX0_typeOfFunction_27 (by decide) ?_
          exact W.iret hx hb hr (fun t ht _ => xw_q (by simp only [xd_tof, if_neg c_1, if_neg c_2, if_neg c_3, if_pos c_4]) ht) (fun _ h => absurd h List.not_mem_nil) dX0_typeOfFunction_29
      · skip
        refine lv_bipush (v := 11) hx hb dX0_typeOfFunction_19 (by decide) ?_
        exact W.iret hx hb hr (fun t ht _ => xw_q (by simp only [xd_tof, if_neg c_1, if_neg c_2, if_pos c_3]) ht) (fun _ h => absurd h List.not_mem_nil) dX0_typeOfFunction_21
    · skip
      refine lv_iconst (v := 3) hx hb dX0_typeOfFunction_12 (by decide) ?_
      exact W.iret hx hb hr (fun t ht _ => xw_q (by simp only [xd_tof, if_neg c_1, if_pos c_2]) ht) (fun _ h => absurd h List.not_mem_nil) dX0_typeOfFunction_13
  · skip
    refine lv_bipush (v := 7) hx hb dX0_typeOfFunction_4 (by decide) ?_
    exact W.iret hx hb hr (fun t ht _ => xw_q (by simp only [xd_tof, if_pos c_1]) ht) (fun _ h => absurd h List.not_mem_nil) dX0_typeOfFunction_6
abbrev wsX0_type : List Cond := ws_ yX0_type cX0_type 1 (some .int)
theorem hdX0_type : yX0_type.cls = RX0 ∧ yX0_type.cls ≠ "java/lang/invoke/MethodHandle" ∧ yX0_type.cls ≠ "java/lang/invoke/VarHandle" ∧ (parseMethodDescriptor yX0_type.desc).map (fun d => d.parameters.length) = some 0 := by decide +kernel
set_option maxHeartbeats 4000000 in
set_option maxRecDepth 100000 in
theorem metX0_type (l : Launch) (dC : Nat → ClassId) (dI : Nat → Nat → Nat) (h0 h1 h2 : Nat) (k1 k2 : ClassId) (σ : xd_T) : Met l yX0_type wsX0_type ({ frames := 0, cells := 0, slots := 0, locals := 0 }) (va_Pc [.ref h0] (xw_Rd (dC, dI) vwCl (xd_W h0 h1 h2 k1 k2 σ) [(k1, .byte), (k2, .byte)])) (xw_Q (xd_look σ.1 σ.2.1 (-100))) 0 0 (fun _ => False) := by
  refine Met.ofW (cc := cX0_type) (maxL := 1) (ret := (some .int)) (by decide) rfl ?_
  intro p e s m args below meth c s₁ B hml hv
  obtain ⟨rfl, hP, hK⟩ := hv
  have hx := B.exec
  have hb := B.bytes
  have hr := B.returns
  have hts := atoms_spec (ws := wsX0_type) B.pre
  have hts : ∀ w ∈ lw_all, w.before _ s = true := fun w h => hts w (List.mem_cons_of_mem _ h)
  have hown : s.vm.findClass RX0 = some m.cls := findClass_of_methodNamed B.named
  have hlocks := B.notSynchronized
  have hP : va_P (dC, dI) vwCl [(h0, .inr (0, [.int σ.1, .int σ.2.1, .int σ.2.2.1, .int σ.2.2.2.1, .ref h1, .ref h2, .int σ.2.2.2.2.1, .int σ.2.2.2.2.2.1, .int σ.2.2.2.2.2.2.1])), (h1, .inl (k1, 4, .inl σ.2.2.2.2.2.2.2.1)), (h2, .inl (k2, 4, .inl σ.2.2.2.2.2.2.2.2))] s.heap := hP
  have hl := lv_entry ([.ref h0]) (n := 1) (Nat.le_of_ble_eq_true rfl)
  rw [lg_entry_eq]
  generalize (lg_sl ([.ref h0]) ++ List.replicate (1 - (lg_sl ([.ref h0])).length) Slot.unset).toArray = ls at hl ⊢
  have hl : lv_has ls 1 [(0, .ref h0)] := hl
  refine lv_aload_n hx hb dX0_type_0 rfl (lv_at hl 0 rfl) ?_
  refine va_get (D := (dC, dI)) (ci := 0) (v := .int σ.1) (C := RX0) (T := TX0) (N := 9) hx hb hts in_X0 hown hK hP 0 rfl rfl 0 (by decide) (hts _ q25) (fun _ h9 => h9) rfl dX0_type_1 ?_
  refine lv_if_eq (tgt := 14) hx hb dX0_type_4 (by decide) (fun c_1 => ?_) (fun c_1 => ?_)
  · skip
    refine lv_bipush (v := (-100)) hx hb dX0_type_14 (by decide) ?_
    exact W.iret hx hb hr (fun t ht _ => xw_q (by simp only [xd_look, if_pos c_1]) ht) (fun _ h => absurd h List.not_mem_nil) dX0_type_16
  · skip
    refine lv_aload_n hx hb dX0_type_7 rfl (lv_at hl 0 rfl) ?_
    refine va_get (D := (dC, dI)) (ci := 0) (v := .int σ.2.1) (C := RX0) (T := TX0) (N := 9) hx hb hts in_X0 hown hK hP 0 rfl rfl 1 (by decide) (hts _ q26) (fun _ h9 => h9) rfl dX0_type_8 ?_
    refine lv_goto (tgt := 16) hx hb dX0_type_11 (by decide) ?_
    exact W.iret hx hb hr (fun t ht _ => xw_q (by simp only [xd_look, if_neg c_1]) ht) (fun _ h => absurd h List.not_mem_nil) dX0_type_16
abbrev wsX0_kind : List Cond := ws_ yX0_kind cX0_kind 1 (some .int)
theorem hdX0_kind : yX0_kind.cls = RX0 ∧ yX0_kind.cls ≠ "java/lang/invoke/MethodHandle" ∧ yX0_kind.cls ≠ "java/lang/invoke/VarHandle" ∧ (parseMethodDescriptor yX0_kind.desc).map (fun d => d.parameters.length) = some 0 := by decide +kernel
set_option maxHeartbeats 4000000 in
set_option maxRecDepth 100000 in
theorem metX0_kind (l : Launch) (dC : Nat → ClassId) (dI : Nat → Nat → Nat) (h0 h1 h2 : Nat) (k1 k2 : ClassId) (σ : xd_T) : Met l yX0_kind wsX0_kind ({ frames := 0, cells := 0, slots := 0, locals := 0 }) (va_Pc [.ref h0] (xw_Rd (dC, dI) vwCl (xd_W h0 h1 h2 k1 k2 σ) [(k1, .byte), (k2, .byte)])) (xw_Q (xd_look σ.1 σ.2.2.1 (-100))) 0 0 (fun _ => False) := by
  refine Met.ofW (cc := cX0_kind) (maxL := 1) (ret := (some .int)) (by decide) rfl ?_
  intro p e s m args below meth c s₁ B hml hv
  obtain ⟨rfl, hP, hK⟩ := hv
  have hx := B.exec
  have hb := B.bytes
  have hr := B.returns
  have hts := atoms_spec (ws := wsX0_kind) B.pre
  have hts : ∀ w ∈ lw_all, w.before _ s = true := fun w h => hts w (List.mem_cons_of_mem _ h)
  have hown : s.vm.findClass RX0 = some m.cls := findClass_of_methodNamed B.named
  have hlocks := B.notSynchronized
  have hP : va_P (dC, dI) vwCl [(h0, .inr (0, [.int σ.1, .int σ.2.1, .int σ.2.2.1, .int σ.2.2.2.1, .ref h1, .ref h2, .int σ.2.2.2.2.1, .int σ.2.2.2.2.2.1, .int σ.2.2.2.2.2.2.1])), (h1, .inl (k1, 4, .inl σ.2.2.2.2.2.2.2.1)), (h2, .inl (k2, 4, .inl σ.2.2.2.2.2.2.2.2))] s.heap := hP
  have hl := lv_entry ([.ref h0]) (n := 1) (Nat.le_of_ble_eq_true rfl)
  rw [lg_entry_eq]
  generalize (lg_sl ([.ref h0]) ++ List.replicate (1 - (lg_sl ([.ref h0])).length) Slot.unset).toArray = ls at hl ⊢
  have hl : lv_has ls 1 [(0, .ref h0)] := hl
  refine lv_aload_n hx hb dX0_kind_0 rfl (lv_at hl 0 rfl) ?_
  refine va_get (D := (dC, dI)) (ci := 0) (v := .int σ.1) (C := RX0) (T := TX0) (N := 9) hx hb hts in_X0 hown hK hP 0 rfl rfl 0 (by decide) (hts _ q25) (fun _ h9 => h9) rfl dX0_kind_1 ?_
  refine lv_if_eq (tgt := 14) hx hb dX0_kind_4 (by decide) (fun c_1 => ?_) (fun c_1 => ?_)
  · skip
    refine lv_bipush (v := (-100)) hx hb dX0_kind_14 (by decide) ?_
    exact W.iret hx hb hr (fun t ht _ => xw_q (by simp only [xd_look, if_pos c_1]) ht) (fun _ h => absurd h List.not_mem_nil) dX0_kind_16
  · skip
    refine lv_aload_n hx hb dX0_kind_7 rfl (lv_at hl 0 rfl) ?_
    refine va_get (D := (dC, dI)) (ci := 0) (v := .int σ.2.2.1) (C := RX0) (T := TX0) (N := 9) hx hb hts in_X0 hown hK hP 0 rfl rfl 2 (by decide) (hts _ q27) (fun _ h9 => h9) rfl dX0_kind_8 ?_
    refine lv_goto (tgt := 16) hx hb dX0_kind_11 (by decide) ?_
    exact W.iret hx hb hr (fun t ht _ => xw_q (by simp only [xd_look, if_neg c_1]) ht) (fun _ h => absurd h List.not_mem_nil) dX0_kind_16
abbrev wsX0_raw : List Cond := ws_ yX0_raw cX0_raw 1 (some .int)
theorem hdX0_raw : yX0_raw.cls = RX0 ∧ yX0_raw.cls ≠ "java/lang/invoke/MethodHandle" ∧ yX0_raw.cls ≠ "java/lang/invoke/VarHandle" ∧ (parseMethodDescriptor yX0_raw.desc).map (fun d => d.parameters.length) = some 0 := by decide +kernel
set_option maxHeartbeats 4000000 in
set_option maxRecDepth 100000 in
theorem metX0_raw (l : Launch) (dC : Nat → ClassId) (dI : Nat → Nat → Nat) (h0 h1 h2 : Nat) (k1 k2 : ClassId) (σ : xd_T) : Met l yX0_raw wsX0_raw ({ frames := 0, cells := 0, slots := 0, locals := 0 }) (va_Pc [.ref h0] (xw_Rd (dC, dI) vwCl (xd_W h0 h1 h2 k1 k2 σ) [(k1, .byte), (k2, .byte)])) (xw_Q (xd_look σ.1 σ.2.2.2.1 0)) 0 0 (fun _ => False) := by
  refine Met.ofW (cc := cX0_raw) (maxL := 1) (ret := (some .int)) (by decide) rfl ?_
  intro p e s m args below meth c s₁ B hml hv
  obtain ⟨rfl, hP, hK⟩ := hv
  have hx := B.exec
  have hb := B.bytes
  have hr := B.returns
  have hts := atoms_spec (ws := wsX0_raw) B.pre
  have hts : ∀ w ∈ lw_all, w.before _ s = true := fun w h => hts w (List.mem_cons_of_mem _ h)
  have hown : s.vm.findClass RX0 = some m.cls := findClass_of_methodNamed B.named
  have hlocks := B.notSynchronized
  have hP : va_P (dC, dI) vwCl [(h0, .inr (0, [.int σ.1, .int σ.2.1, .int σ.2.2.1, .int σ.2.2.2.1, .ref h1, .ref h2, .int σ.2.2.2.2.1, .int σ.2.2.2.2.2.1, .int σ.2.2.2.2.2.2.1])), (h1, .inl (k1, 4, .inl σ.2.2.2.2.2.2.2.1)), (h2, .inl (k2, 4, .inl σ.2.2.2.2.2.2.2.2))] s.heap := hP
  have hl := lv_entry ([.ref h0]) (n := 1) (Nat.le_of_ble_eq_true rfl)
  rw [lg_entry_eq]
  generalize (lg_sl ([.ref h0]) ++ List.replicate (1 - (lg_sl ([.ref h0])).length) Slot.unset).toArray = ls at hl ⊢
  have hl : lv_has ls 1 [(0, .ref h0)] := hl
  refine lv_aload_n hx hb dX0_raw_0 rfl (lv_at hl 0 rfl) ?_
  refine va_get (D := (dC, dI)) (ci := 0) (v := .int σ.1) (C := RX0) (T := TX0) (N := 9) hx hb hts in_X0 hown hK hP 0 rfl rfl 0 (by decide) (hts _ q25) (fun _ h9 => h9) rfl dX0_raw_1 ?_
  refine lv_if_eq (tgt := 14) hx hb dX0_raw_4 (by decide) (fun c_1 => ?_) (fun c_1 => ?_)
  · skip
    refine lv_iconst (v := 0) hx hb dX0_raw_14 (by decide) ?_
    exact W.iret hx hb hr (fun t ht _ => xw_q (by simp only [xd_look, if_pos c_1]) ht) (fun _ h => absurd h List.not_mem_nil) dX0_raw_15
  · skip
    refine lv_aload_n hx hb dX0_raw_7 rfl (lv_at hl 0 rfl) ?_
    refine va_get (D := (dC, dI)) (ci := 0) (v := .int σ.2.2.2.1) (C := RX0) (T := TX0) (N := 9) hx hb hts in_X0 hown hK hP 0 rfl rfl 3 (by decide) (hts _ q28) (fun _ h9 => h9) rfl dX0_raw_8 ?_
    refine lv_goto (tgt := 15) hx hb dX0_raw_11 (by decide) ?_
    exact W.iret hx hb hr (fun t ht _ => xw_q (by simp only [xd_look, if_neg c_1]) ht) (fun _ h => absurd h List.not_mem_nil) dX0_raw_15
abbrev wsX0_resultKind : List Cond := ws_ yX0_resultKind cX0_resultKind 1 (some .int)
theorem hdX0_resultKind : yX0_resultKind.cls = RX0 ∧ yX0_resultKind.cls ≠ "java/lang/invoke/MethodHandle" ∧ yX0_resultKind.cls ≠ "java/lang/invoke/VarHandle" ∧ (parseMethodDescriptor yX0_resultKind.desc).map (fun d => d.parameters.length) = some 0 := by decide +kernel
set_option maxHeartbeats 4000000 in
set_option maxRecDepth 100000 in
theorem metX0_resultKind (l : Launch) (dC : Nat → ClassId) (dI : Nat → Nat → Nat) (h0 h1 h2 : Nat) (k1 k2 : ClassId) (σ : xd_T) : Met l yX0_resultKind wsX0_resultKind ({ frames := 0, cells := 0, slots := 0, locals := 0 }) (va_Pc [.ref h0] (xw_Rd (dC, dI) vwCl (xd_W h0 h1 h2 k1 k2 σ) [(k1, .byte), (k2, .byte)])) (xw_Q (xd_look σ.2.2.2.2.1 σ.2.2.2.2.2.1 (-100))) 0 0 (fun _ => False) := by
  refine Met.ofW (cc := cX0_resultKind) (maxL := 1) (ret := (some .int)) (by decide) rfl ?_
  intro p e s m args below meth c s₁ B hml hv
  obtain ⟨rfl, hP, hK⟩ := hv
  have hx := B.exec
  have hb := B.bytes
  have hr := B.returns
  have hts := atoms_spec (ws := wsX0_resultKind) B.pre
  have hts : ∀ w ∈ lw_all, w.before _ s = true := fun w h => hts w (List.mem_cons_of_mem _ h)
  have hown : s.vm.findClass RX0 = some m.cls := findClass_of_methodNamed B.named
  have hlocks := B.notSynchronized
  have hP : va_P (dC, dI) vwCl [(h0, .inr (0, [.int σ.1, .int σ.2.1, .int σ.2.2.1, .int σ.2.2.2.1, .ref h1, .ref h2, .int σ.2.2.2.2.1, .int σ.2.2.2.2.2.1, .int σ.2.2.2.2.2.2.1])), (h1, .inl (k1, 4, .inl σ.2.2.2.2.2.2.2.1)), (h2, .inl (k2, 4, .inl σ.2.2.2.2.2.2.2.2))] s.heap := hP
  have hl := lv_entry ([.ref h0]) (n := 1) (Nat.le_of_ble_eq_true rfl)
  rw [lg_entry_eq]
  generalize (lg_sl ([.ref h0]) ++ List.replicate (1 - (lg_sl ([.ref h0])).length) Slot.unset).toArray = ls at hl ⊢
  have hl : lv_has ls 1 [(0, .ref h0)] := hl
  refine lv_aload_n hx hb dX0_resultKind_0 rfl (lv_at hl 0 rfl) ?_
  refine va_get (D := (dC, dI)) (ci := 0) (v := .int σ.2.2.2.2.1) (C := RX0) (T := TX0) (N := 9) hx hb hts in_X0 hown hK hP 0 rfl rfl 6 (by decide) (hts _ q31) (fun _ h9 => h9) rfl dX0_resultKind_1 ?_
  refine lv_if_eq (tgt := 14) hx hb dX0_resultKind_4 (by decide) (fun c_1 => ?_) (fun c_1 => ?_)
  · skip
    refine lv_bipush (v := (-100)) hx hb dX0_resultKind_14 (by decide) ?_
    exact W.iret hx hb hr (fun t ht _ => xw_q (by simp only [xd_look, if_pos c_1]) ht) (fun _ h => absurd h List.not_mem_nil) dX0_resultKind_16
  · skip
    refine lv_aload_n hx hb dX0_resultKind_7 rfl (lv_at hl 0 rfl) ?_
    refine va_get (D := (dC, dI)) (ci := 0) (v := .int σ.2.2.2.2.2.1) (C := RX0) (T := TX0) (N := 9) hx hb hts in_X0 hown hK hP 0 rfl rfl 7 (by decide) (hts _ q32) (fun _ h9 => h9) rfl dX0_resultKind_8 ?_
    refine lv_goto (tgt := 16) hx hb dX0_resultKind_11 (by decide) ?_
    exact W.iret hx hb hr (fun t ht _ => xw_q (by simp only [xd_look, if_neg c_1]) ht) (fun _ h => absurd h List.not_mem_nil) dX0_resultKind_16
abbrev wsX0_result : List Cond := ws_ yX0_result cX0_result 1 (some .int)
theorem hdX0_result : yX0_result.cls = RX0 ∧ yX0_result.cls ≠ "java/lang/invoke/MethodHandle" ∧ yX0_result.cls ≠ "java/lang/invoke/VarHandle" ∧ (parseMethodDescriptor yX0_result.desc).map (fun d => d.parameters.length) = some 0 := by decide +kernel
set_option maxHeartbeats 4000000 in
set_option maxRecDepth 100000 in
theorem metX0_result (l : Launch) (dC : Nat → ClassId) (dI : Nat → Nat → Nat) (h0 h1 h2 : Nat) (k1 k2 : ClassId) (σ : xd_T) : Met l yX0_result wsX0_result ({ frames := 0, cells := 0, slots := 0, locals := 0 }) (va_Pc [.ref h0] (xw_Rd (dC, dI) vwCl (xd_W h0 h1 h2 k1 k2 σ) [(k1, .byte), (k2, .byte)])) (xw_Q (xd_look σ.2.2.2.2.1 σ.2.2.2.2.2.2.1 0)) 0 0 (fun _ => False) := by
  refine Met.ofW (cc := cX0_result) (maxL := 1) (ret := (some .int)) (by decide) rfl ?_
  intro p e s m args below meth c s₁ B hml hv
  obtain ⟨rfl, hP, hK⟩ := hv
  have hx := B.exec
  have hb := B.bytes
  have hr := B.returns
  have hts := atoms_spec (ws := wsX0_result) B.pre
  have hts : ∀ w ∈ lw_all, w.before _ s = true := fun w h => hts w (List.mem_cons_of_mem _ h)
  have hown : s.vm.findClass RX0 = some m.cls := findClass_of_methodNamed B.named
  have hlocks := B.notSynchronized
  have hP : va_P (dC, dI) vwCl [(h0, .inr (0, [.int σ.1, .int σ.2.1, .int σ.2.2.1, .int σ.2.2.2.1, .ref h1, .ref h2, .int σ.2.2.2.2.1, .int σ.2.2.2.2.2.1, .int σ.2.2.2.2.2.2.1])), (h1, .inl (k1, 4, .inl σ.2.2.2.2.2.2.2.1)), (h2, .inl (k2, 4, .inl σ.2.2.2.2.2.2.2.2))] s.heap := hP
  have hl := lv_entry ([.ref h0]) (n := 1) (Nat.le_of_ble_eq_true rfl)
  rw [lg_entry_eq]
  generalize (lg_sl ([.ref h0]) ++ List.replicate (1 - (lg_sl ([.ref h0])).length) Slot.unset).toArray = ls at hl ⊢
  have hl : lv_has ls 1 [(0, .ref h0)] := hl
  refine lv_aload_n hx hb dX0_result_0 rfl (lv_at hl 0 rfl) ?_
  refine va_get (D := (dC, dI)) (ci := 0) (v := .int σ.2.2.2.2.1) (C := RX0) (T := TX0) (N := 9) hx hb hts in_X0 hown hK hP 0 rfl rfl 6 (by decide) (hts _ q31) (fun _ h9 => h9) rfl dX0_result_1 ?_
  refine lv_if_eq (tgt := 14) hx hb dX0_result_4 (by decide) (fun c_1 => ?_) (fun c_1 => ?_)
  · skip
    refine lv_iconst (v := 0) hx hb dX0_result_14 (by decide) ?_
    exact W.iret hx hb hr (fun t ht _ => xw_q (by simp only [xd_look, if_pos c_1]) ht) (fun _ h => absurd h List.not_mem_nil) dX0_result_15
  · skip
    refine lv_aload_n hx hb dX0_result_7 rfl (lv_at hl 0 rfl) ?_
    refine va_get (D := (dC, dI)) (ci := 0) (v := .int σ.2.2.2.2.2.2.1) (C := RX0) (T := TX0) (N := 9) hx hb hts in_X0 hown hK hP 0 rfl rfl 8 (by decide) (hts _ q33) (fun _ h9 => h9) rfl dX0_result_8 ?_
    refine lv_goto (tgt := 15) hx hb dX0_result_11 (by decide) ?_
    exact W.iret hx hb hr (fun t ht _ => xw_q (by simp only [xd_look, if_neg c_1]) ht) (fun _ h => absurd h List.not_mem_nil) dX0_result_15
abbrev wsX0_meet : List Cond := ws_ yX0_meet cX0_meet 4 (some .int)
theorem hdX0_meet : yX0_meet.cls = RX0 ∧ yX0_meet.cls ≠ "java/lang/invoke/MethodHandle" ∧ yX0_meet.cls ≠ "java/lang/invoke/VarHandle" ∧ (parseMethodDescriptor yX0_meet.desc).map (fun d => d.parameters.length) = some 2 := by decide +kernel
set_option maxHeartbeats 4000000 in
set_option maxRecDepth 100000 in
theorem metX0_meet (l : Launch) (dC : Nat → ClassId) (dI : Nat → Nat → Nat) (h0 h1 h2 : Nat) (k1 k2 : ClassId) (σ : xd_T) (p0 p1 : Int32) (i0 : vp_in p0 4) (i1 : vp_in (p0 + 1) 4) : Met l yX0_meet wsX0_meet ({ frames := 0, cells := 0, slots := 0, locals := 0 }) (va_Pc [.ref h0, .int p0, .int p1] (xw_Rd (dC, dI) vwCl (xd_W h0 h1 h2 k1 k2 σ) [(k1, .byte), (k2, .byte)])) (xw_Q (xd_meet σ.2.2.2.2.2.2.2.1 σ.2.2.2.2.2.2.2.2 p0 p1)) 0 0 (fun _ => False) := by
  refine Met.ofW (cc := cX0_meet) (maxL := 4) (ret := (some .int)) (by decide) rfl ?_
  intro p e s m args below meth c s₁ B hml hv
  obtain ⟨rfl, hP, hK⟩ := hv
  have hx := B.exec
  have hb := B.bytes
  have hr := B.returns
  have hts := atoms_spec (ws := wsX0_meet) B.pre
  have hts : ∀ w ∈ lw_all, w.before _ s = true := fun w h => hts w (List.mem_cons_of_mem _ h)
  have hown : s.vm.findClass RX0 = some m.cls := findClass_of_methodNamed B.named
  have hlocks := B.notSynchronized
  have hP : va_P (dC, dI) vwCl [(h0, .inr (0, [.int σ.1, .int σ.2.1, .int σ.2.2.1, .int σ.2.2.2.1, .ref h1, .ref h2, .int σ.2.2.2.2.1, .int σ.2.2.2.2.2.1, .int σ.2.2.2.2.2.2.1])), (h1, .inl (k1, 4, .inl σ.2.2.2.2.2.2.2.1)), (h2, .inl (k2, 4, .inl σ.2.2.2.2.2.2.2.2))] s.heap := hP
  have hl := lv_entry ([.ref h0, .int p0, .int p1]) (n := 4) (Nat.le_of_ble_eq_true rfl)
  rw [lg_entry_eq]
  generalize (lg_sl ([.ref h0, .int p0, .int p1]) ++ List.replicate (4 - (lg_sl ([.ref h0, .int p0, .int p1])).length) Slot.unset).toArray = ls at hl ⊢
  have hl : lv_has ls 4 [(0, .ref h0), (1, .int p0), (2, .int p1)] := hl
  refine lv_iload_n hx hb dX0_meet_0 rfl (lv_at hl 2 rfl) ?_
  refine lv_iconst (v := 1) hx hb dX0_meet_1 (by decide) ?_
  refine lv_iadd hx hb dX0_meet_2 ?_
  refine lv_istore_n (lv' := [(3, .int (p1 + 1)), (0, .ref h0), (1, .int p0), (2, .int p1)]) hx hb dX0_meet_3 rfl hl (by decide) rfl (fun ls hl => ?_)
  refine lv_aload_n hx hb dX0_meet_4 rfl (lv_at hl 1 rfl) ?_
  refine va_get (D := (dC, dI)) (ci := 0) (v := .ref h1) (C := RX0) (T := TX0) (N := 9) hx hb hts in_X0 hown hK hP 0 rfl rfl 4 (by decide) (hts _ q29) (fun _ h9 => h9) rfl dX0_meet_5 ?_
  refine lv_iload_n hx hb dX0_meet_8 rfl (lv_at hl 2 rfl) ?_
  refine va_bald hx hb hK hP 1 0 rfl rfl i0 dX0_meet_9 ?_
  refine xw_top (v := σ.2.2.2.2.2.2.2.1 p0.toNatClampNeg) rfl ?_
  refine lv_if_ne (tgt := 15) hx hb dX0_meet_10 (by decide) (fun c_1 => ?_) (fun c_1 => ?_)
  · skip
    refine lv_aload_n hx hb dX0_meet_15 rfl (lv_at hl 1 rfl) ?_
    refine va_get (D := (dC, dI)) (ci := 0) (v := .ref h1) (C := RX0) (T := TX0) (N := 9) hx hb hts in_X0 hown hK hP 0 rfl rfl 4 (by decide) (hts _ q29) (fun _ h9 => h9) rfl dX0_meet_16 ?_
    refine lv_iload_n hx hb dX0_meet_19 rfl (lv_at hl 2 rfl) ?_
    refine va_bald hx hb hK hP 1 0 rfl rfl i0 dX0_meet_20 ?_
    refine xw_top (v := σ.2.2.2.2.2.2.2.1 p0.toNatClampNeg) rfl ?_
    refine lv_iload_n hx hb dX0_meet_21 rfl (lv_at hl 0 rfl) ?_
    refine lv_icmp_eq (tgt := 32) hx hb dX0_meet_22 (by decide) (fun c_2 => ?_) (fun c_2 => ?_)
    · skip
      refine lv_aload_n hx hb dX0_meet_32 rfl (lv_at hl 1 rfl) ?_
      refine va_get (D := (dC, dI)) (ci := 0) (v := .ref h1) (C := RX0) (T := TX0) (N := 9) hx hb hts in_X0 hown hK hP 0 rfl rfl 4 (by decide) (hts _ q29) (fun _ h9 => h9) rfl dX0_meet_33 ?_
      refine lv_iload_n hx hb dX0_meet_36 rfl (lv_at hl 2 rfl) ?_
      refine lv_iconst (v := 1) hx hb dX0_meet_37 (by decide) ?_
      refine lv_iadd hx hb dX0_meet_38 ?_
      refine va_bald hx hb hK hP 1 0 rfl rfl i1 dX0_meet_39 ?_
      refine xw_top (v := σ.2.2.2.2.2.2.2.1 ((p0 + 1).toNatClampNeg)) rfl ?_
      refine lv_if_eq (tgt := 54) hx hb dX0_meet_40 (by decide) (fun c_3 => ?_) (fun c_3 => ?_)
      · skip
        refine lv_iconst (v := 0) hx hb dX0_meet_54 (by decide) ?_
        exact W.iret hx hb hr (fun t ht _ => xw_q (by simp only [xd_meet, if_neg c_1, if_pos c_2, if_pos c_3]) ht) (fun _ h => absurd h List.not_mem_nil) dX0_meet_55
      · skip
        refine lv_aload_n hx hb dX0_meet_43 rfl (lv_at hl 1 rfl) ?_
        refine va_get (D := (dC, dI)) (ci := 0) (v := .ref h2) (C := RX0) (T := TX0) (N := 9) hx hb hts in_X0 hown hK hP 0 rfl rfl 5 (by decide) (hts _ q30) (fun _ h9 => h9) rfl dX0_meet_44 ?_
        refine lv_iload_n hx hb dX0_meet_47 rfl (lv_at hl 2 rfl) ?_
        refine lv_iconst (v := 1) hx hb dX0_meet_48 (by decide) ?_
        refine lv_iadd hx hb dX0_meet_49 ?_
        refine va_bald hx hb hK hP 2 1 rfl rfl i1 dX0_meet_50 ?_
        refine xw_top (v := σ.2.2.2.2.2.2.2.2 ((p0 + 1).toNatClampNeg)) rfl ?_
        refine lv_goto (tgt := 55) hx hb dX0_meet_51 (by decide) ?_
        exact W.iret hx hb hr (fun t ht _ => xw_q (by simp only [xd_meet, if_neg c_1, if_pos c_2, if_neg c_3]) ht) (fun _ h => absurd h List.not_mem_nil) dX0_meet_55
    · skip
      refine lv_aload_n hx hb dX0_meet_25 rfl (lv_at hl 1 rfl) ?_
      refine va_get (D := (dC, dI)) (ci := 0) (v := .ref h2) (C := RX0) (T := TX0) (N := 9) hx hb hts in_X0 hown hK hP 0 rfl rfl 5 (by decide) (hts _ q30) (fun _ h9 => h9) rfl dX0_meet_26 ?_
      refine lv_iload_n hx hb dX0_meet_29 rfl (lv_at hl 2 rfl) ?_
      refine va_bald hx hb hK hP 2 1 rfl rfl i0 dX0_meet_30 ?_
      refine xw_top (v := σ.2.2.2.2.2.2.2.2 p0.toNatClampNeg) rfl ?_
      exact W.iret hx hb hr (fun t ht _ => xw_q (by simp only [xd_meet, if_neg c_1, if_neg c_2]) ht) (fun _ h => absurd h List.not_mem_nil) dX0_meet_31
  · skip
    refine lv_iconst (v := 0) hx hb dX0_meet_13 (by decide) ?_
    exact W.iret hx hb hr (fun t ht _ => xw_q (by simp only [xd_meet, if_pos c_1]) ht) (fun _ h => absurd h List.not_mem_nil) dX0_meet_14
abbrev wsX0_givenKind : List Cond := ws_ yX0_givenKind cX0_givenKind 2 (some .int)
theorem hdX0_givenKind : yX0_givenKind.cls = RX0 ∧ yX0_givenKind.cls ≠ "java/lang/invoke/MethodHandle" ∧ yX0_givenKind.cls ≠ "java/lang/invoke/VarHandle" ∧ (parseMethodDescriptor yX0_givenKind.desc).map (fun d => d.parameters.length) = some 1 := by decide +kernel
set_option maxHeartbeats 4000000 in
set_option maxRecDepth 100000 in
theorem metX0_givenKind (l : Launch) (dC : Nat → ClassId) (dI : Nat → Nat → Nat) (h0 h1 h2 : Nat) (k1 k2 : ClassId) (σ : xd_T) (p0 : Int32) : Met l yX0_givenKind wsX0_givenKind ({ frames := 0, cells := 0, slots := 0, locals := 0 }) (va_Pc [.ref h0, .int p0] (xw_Rd (dC, dI) vwCl (xd_W h0 h1 h2 k1 k2 σ) [(k1, .byte), (k2, .byte)])) (xw_Q (xd_gk σ.2.2.2.1 p0)) 0 0 (fun _ => False) := by
  refine Met.ofW (cc := cX0_givenKind) (maxL := 2) (ret := (some .int)) (by decide) rfl ?_
  intro p e s m args below meth c s₁ B hml hv
  obtain ⟨rfl, hP, hK⟩ := hv
  have hx := B.exec
  have hb := B.bytes
  have hr := B.returns
  have hts := atoms_spec (ws := wsX0_givenKind) B.pre
  have hts : ∀ w ∈ lw_all, w.before _ s = true := fun w h => hts w (List.mem_cons_of_mem _ h)
  have hown : s.vm.findClass RX0 = some m.cls := findClass_of_methodNamed B.named
  have hlocks := B.notSynchronized
  have hP : va_P (dC, dI) vwCl [(h0, .inr (0, [.int σ.1, .int σ.2.1, .int σ.2.2.1, .int σ.2.2.2.1, .ref h1, .ref h2, .int σ.2.2.2.2.1, .int σ.2.2.2.2.2.1, .int σ.2.2.2.2.2.2.1])), (h1, .inl (k1, 4, .inl σ.2.2.2.2.2.2.2.1)), (h2, .inl (k2, 4, .inl σ.2.2.2.2.2.2.2.2))] s.heap := hP
  have hl := lv_entry ([.ref h0, .int p0]) (n := 2) (Nat.le_of_ble_eq_true rfl)
  rw [lg_entry_eq]
  generalize (lg_sl ([.ref h0, .int p0]) ++ List.replicate (2 - (lg_sl ([.ref h0, .int p0])).length) Slot.unset).toArray = ls at hl ⊢
  have hl : lv_has ls 2 [(0, .ref h0), (1, .int p0)] := hl
  refine lv_aload_n hx hb dX0_givenKind_0 rfl (lv_at hl 0 rfl) ?_
  refine va_get (D := (dC, dI)) (ci := 0) (v := .int σ.2.2.2.1) (C := RX0) (T := TX0) (N := 9) hx hb hts in_X0 hown hK hP 0 rfl rfl 3 (by decide) (hts _ q28) (fun _ h9 => h9) rfl dX0_givenKind_1 ?_
  refine lv_iconst (v := 1) hx hb dX0_givenKind_4 (by decide) ?_
  refine lv_icmp_ne (tgt := 10) hx hb dX0_givenKind_5 (by decide) (fun c_1 => ?_) (fun c_1 => ?_)
  · skip
    refine lv_aload_n hx hb dX0_givenKind_10 rfl (lv_at hl 0 rfl) ?_
    refine va_get (D := (dC, dI)) (ci := 0) (v := .int σ.2.2.2.1) (C := RX0) (T := TX0) (N := 9) hx hb hts in_X0 hown hK hP 0 rfl rfl 3 (by decide) (hts _ q28) (fun _ h9 => h9) rfl dX0_givenKind_11 ?_
    refine lv_iconst (v := 2) hx hb dX0_givenKind_14 (by decide) ?_
    refine lv_icmp_eq (tgt := 26) hx hb dX0_givenKind_15 (by decide) (fun c_2 => ?_) (fun c_2 => ?_)
    · skip
      refine lv_iconst (v := 1) hx hb dX0_givenKind_26 (by decide) ?_
      refine lv_goto (tgt := 31) hx hb dX0_givenKind_27 (by decide) ?_
      exact W.iret hx hb hr (fun t ht _ => xw_q (by simp only [xd_gk, if_neg c_1, if_pos c_2]) ht) (fun _ h => absurd h List.not_mem_nil) dX0_givenKind_31
    · skip
      refine lv_aload_n hx hb dX0_givenKind_18 rfl (lv_at hl 0 rfl) ?_
      refine va_get (D := (dC, dI)) (ci := 0) (v := .int σ.2.2.2.1) (C := RX0) (T := TX0) (N := 9) hx hb hts in_X0 hown hK hP 0 rfl rfl 3 (by decide) (hts _ q28) (fun _ h9 => h9) rfl dX0_givenKind_19 ?_
      refine lv_iconst (v := 3) hx hb dX0_givenKind_22 (by decide) ?_
      refine lv_icmp_ne (tgt := 30) hx hb dX0_givenKind_23 (by decide) (fun c_3 => ?_) (fun c_3 => ?_)
      · skip
        refine lv_iconst (v := 0) hx hb dX0_givenKind_30 (by decide) ?_
        exact W.iret hx hb hr (fun t ht _ => xw_q (by simp only [xd_gk, if_neg c_1, if_neg c_2, if_neg c_3]) ht) (fun _ h => absurd h List.not_mem_nil) dX0_givenKind_31
      · skip
        refine lv_iconst (v := 1) hx hb dX0_givenKind_26 (by decide) ?_
        refine lv_goto (tgt := 31) hx hb dX0_givenKind_27 (by decide) ?_
        exact W.iret hx hb hr (fun t ht _ => xw_q (by simp only [xd_gk, if_neg c_1, if_neg c_2, if_pos c_3]) ht) (fun _ h => absurd h List.not_mem_nil) dX0_givenKind_31
  · skip
    refine lv_iload_n hx hb dX0_givenKind_8 rfl (lv_at hl 1 rfl) ?_
    exact W.iret hx hb hr (fun t ht _ => xw_q (by simp only [xd_gk, if_pos c_1]) ht) (fun _ h => absurd h List.not_mem_nil) dX0_givenKind_9
abbrev wsX0_given : List Cond := ws_ yX0_given cX0_given 2 (some .int)
theorem hdX0_given : yX0_given.cls = RX0 ∧ yX0_given.cls ≠ "java/lang/invoke/MethodHandle" ∧ yX0_given.cls ≠ "java/lang/invoke/VarHandle" ∧ (parseMethodDescriptor yX0_given.desc).map (fun d => d.parameters.length) = some 1 := by decide +kernel
set_option maxHeartbeats 4000000 in
set_option maxRecDepth 100000 in
theorem metX0_given (l : Launch) (dC : Nat → ClassId) (dI : Nat → Nat → Nat) (h0 h1 h2 : Nat) (k1 k2 : ClassId) (σ : xd_T) (p0 : Int32) : Met l yX0_given wsX0_given ({ frames := 0, cells := 0, slots := 0, locals := 0 }) (va_Pc [.ref h0, .int p0] (xw_Rd (dC, dI) vwCl (xd_W h0 h1 h2 k1 k2 σ) [(k1, .byte), (k2, .byte)])) (xw_Q (xd_given σ.2.2.2.1 p0)) 0 0 (fun _ => False) := by
  refine Met.ofW (cc := cX0_given) (maxL := 2) (ret := (some .int)) (by decide) rfl ?_
  intro p e s m args below meth c s₁ B hml hv
  obtain ⟨rfl, hP, hK⟩ := hv
  have hx := B.exec
  have hb := B.bytes
  have hr := B.returns
  have hts := atoms_spec (ws := wsX0_given) B.pre
  have hts : ∀ w ∈ lw_all, w.before _ s = true := fun w h => hts w (List.mem_cons_of_mem _ h)
  have hown : s.vm.findClass RX0 = some m.cls := findClass_of_methodNamed B.named
  have hlocks := B.notSynchronized
  have hP : va_P (dC, dI) vwCl [(h0, .inr (0, [.int σ.1, .int σ.2.1, .int σ.2.2.1, .int σ.2.2.2.1, .ref h1, .ref h2, .int σ.2.2.2.2.1, .int σ.2.2.2.2.2.1, .int σ.2.2.2.2.2.2.1])), (h1, .inl (k1, 4, .inl σ.2.2.2.2.2.2.2.1)), (h2, .inl (k2, 4, .inl σ.2.2.2.2.2.2.2.2))] s.heap := hP
  have hl := lv_entry ([.ref h0, .int p0]) (n := 2) (Nat.le_of_ble_eq_true rfl)
  rw [lg_entry_eq]
  generalize (lg_sl ([.ref h0, .int p0]) ++ List.replicate (2 - (lg_sl ([.ref h0, .int p0])).length) Slot.unset).toArray = ls at hl ⊢
  have hl : lv_has ls 2 [(0, .ref h0), (1, .int p0)] := hl
  refine lv_aload_n hx hb dX0_given_0 rfl (lv_at hl 0 rfl) ?_
  refine va_get (D := (dC, dI)) (ci := 0) (v := .int σ.2.2.2.1) (C := RX0) (T := TX0) (N := 9) hx hb hts in_X0 hown hK hP 0 rfl rfl 3 (by decide) (hts _ q28) (fun _ h9 => h9) rfl dX0_given_1 ?_
  refine lv_if_ne (tgt := 11) hx hb dX0_given_4 (by decide) (fun c_1 => ?_) (fun c_1 => ?_)
  · skip
    refine lv_aload_n hx hb dX0_given_11 rfl (lv_at hl 0 rfl) ?_
    refine va_get (D := (dC, dI)) (ci := 0) (v := .int σ.2.2.2.1) (C := RX0) (T := TX0) (N := 9) hx hb hts in_X0 hown hK hP 0 rfl rfl 3 (by decide) (hts _ q28) (fun _ h9 => h9) rfl dX0_given_12 ?_
    refine lv_iconst (v := 2) hx hb dX0_given_15 (by decide) ?_
    refine lv_icmp_ne (tgt := 23) hx hb dX0_given_16 (by decide) (fun c_2 => ?_) (fun c_2 => ?_)
    · skip
      refine lv_aload_n hx hb dX0_given_23 rfl (lv_at hl 0 rfl) ?_
      refine va_get (D := (dC, dI)) (ci := 0) (v := .int σ.2.2.2.1) (C := RX0) (T := TX0) (N := 9) hx hb hts in_X0 hown hK hP 0 rfl rfl 3 (by decide) (hts _ q28) (fun _ h9 => h9) rfl dX0_given_24 ?_
      refine lv_iconst (v := 3) hx hb dX0_given_27 (by decide) ?_
      refine lv_icmp_ne (tgt := 41) hx hb dX0_given_28 (by decide) (fun c_3 => ?_) (fun c_3 => ?_)
      · skip
        refine lv_aload_n hx hb dX0_given_41 rfl (lv_at hl 0 rfl) ?_
        refine va_get (D := (dC, dI)) (ci := 0) (v := .int σ.2.2.2.1) (C := RX0) (T := TX0) (N := 9) hx hb hts in_X0 hown hK hP 0 rfl rfl 3 (by decide) (hts _ q28) (fun _ h9 => h9) rfl dX0_given_42 ?_
        refine lv_iconst (v := 4) hx hb dX0_given_45 (by decide) ?_
        refine lv_icmp_ne (tgt := 54) hx hb dX0_given_46 (by decide) (fun c_4 => ?_) (fun c_4 => ?_)
        · skip
          refine lv_iload_n hx hb dX0_given_54 rfl (lv_at hl 1 rfl) ?_
          exact W.iret hx hb hr (fun t ht _ => xw_q (by simp only [xd_given, if_neg c_1, if_neg c_2, if_neg c_3, if_neg c_4]) ht) (fun _ h => absurd h List.not_mem_nil) dX0_given_55
        · skip
          refine lv_bipush (v := 7) hx hb dX0_given_49 (by decide) ?_
          refine lv_goto (tgt := 55) hx hb dX0_given_51 (by decide) ?_
          exact W.iret hx hb hr (fun t ht _ => xw_q (by simp only [xd_given, if_neg c_1, if_neg c_2, if_neg c_3, if_pos c_4]) ht) (fun _ h => absurd h List.not_mem_nil) dX0_given_55
      · skip
        refine lv_iload_n hx hb dX0_given_31 rfl (lv_at hl 1 rfl) ?_
        refine lv_if_le (tgt := 39) hx hb dX0_given_32 (by decide) (fun c_5 => ?_) (fun c_5 => ?_)
        · skip
          refine lv_iconst (v := 0) hx hb dX0_given_39 (by decide) ?_
          exact W.iret hx hb hr (fun t ht _ => xw_q (by simp only [xd_given, if_neg c_1, if_neg c_2, if_pos c_3, if_pos c_5]) ht) (fun _ h => absurd h List.not_mem_nil) dX0_given_40
        · skip
          refine lv_iconst (v := 1) hx hb dX0_given_35 (by decide) ?_
          refine lv_goto (tgt := 40) hx hb dX0_given_36 (by decide) ?_
          exact W.iret hx hb hr (fun t ht _ => xw_q (by simp only [xd_given, if_neg c_1, if_neg c_2, if_pos c_3, if_neg c_5]) ht) (fun _ h => absurd h List.not_mem_nil) dX0_given_40
    · skip
      refine lv_iconst (v := 1) hx hb dX0_given_19 (by decide) ?_
      refine lv_iload_n hx hb dX0_given_20 rfl (lv_at hl 1 rfl) ?_
      refine lv_isub hx hb dX0_given_21 ?_
      exact W.iret hx hb hr (fun t ht _ => xw_q (by simp only [xd_given, if_neg c_1, if_pos c_2]) ht) (fun _ h => absurd h List.not_mem_nil) dX0_given_22
  · skip
    refine lv_iload_n hx hb dX0_given_7 rfl (lv_at hl 1 rfl) ?_
    refine lv_iconst (v := 1) hx hb dX0_given_8 (by decide) ?_
    refine lv_iadd hx hb dX0_given_9 ?_
    exact W.iret hx hb hr (fun t ht _ => xw_q (by simp only [xd_given, if_pos c_1]) ht) (fun _ h => absurd h List.not_mem_nil) dX0_given_10
abbrev wsX0_agree : List Cond := ws_ yX0_agree cX0_agree 5 (some .boolean)
theorem hdX0_agree : yX0_agree.cls = RX0 ∧ yX0_agree.cls ≠ "java/lang/invoke/MethodHandle" ∧ yX0_agree.cls ≠ "java/lang/invoke/VarHandle" ∧ (parseMethodDescriptor yX0_agree.desc).map (fun d => d.parameters.length) = some 2 := by decide +kernel
set_option maxHeartbeats 4000000 in
set_option maxRecDepth 100000 in
theorem metX0_agree (l : Launch) (dC : Nat → ClassId) (dI : Nat → Nat → Nat) (h0 h1 h2 : Nat) (k1 k2 : ClassId) (σ : xd_T) (p0 p1 : Int32) : Met l yX0_agree wsX0_agree ({ frames := 1, cells := 0, slots := 0, locals := 21 }) (va_Pc [.ref h0, .int p0, .int p1] (xw_Rd (dC, dI) vwCl (xd_W h0 h1 h2 k1 k2 σ) [(k1, .byte), (k2, .byte)])) (xw_Q (xd_agree p0 p1)) 0 0 (fun _ => False) := by
  refine Met.ofW (cc := cX0_agree) (maxL := 5) (ret := (some .boolean)) (by decide) rfl ?_
  intro p e s m args below meth c s₁ B hml hv
  obtain ⟨rfl, hP, hK⟩ := hv
  have hx := B.exec
  have hb := B.bytes
  have hr := B.returns
  have hts := atoms_spec (ws := wsX0_agree) B.pre
  have hts : ∀ w ∈ lw_all, w.before _ s = true := fun w h => hts w (List.mem_cons_of_mem _ h)
  have hown : s.vm.findClass RX0 = some m.cls := findClass_of_methodNamed B.named
  have hlocks := B.notSynchronized
  have hP : va_P (dC, dI) vwCl [(h0, .inr (0, [.int σ.1, .int σ.2.1, .int σ.2.2.1, .int σ.2.2.2.1, .ref h1, .ref h2, .int σ.2.2.2.2.1, .int σ.2.2.2.2.2.1, .int σ.2.2.2.2.2.2.1])), (h1, .inl (k1, 4, .inl σ.2.2.2.2.2.2.2.1)), (h2, .inl (k2, 4, .inl σ.2.2.2.2.2.2.2.2))] s.heap := hP
  have hl := lv_entry ([.ref h0, .int p0, .int p1]) (n := 5) (Nat.le_of_ble_eq_true rfl)
  rw [lg_entry_eq]
  generalize (lg_sl ([.ref h0, .int p0, .int p1]) ++ List.replicate (5 - (lg_sl ([.ref h0, .int p0, .int p1])).length) Slot.unset).toArray = ls at hl ⊢
  have hl : lv_has ls 5 [(0, .ref h0), (1, .int p0), (2, .int p1)] := hl
  refine lv_iload_n hx hb dX0_agree_0 rfl (lv_at hl 1 rfl) ?_
  refine xw_S (v := xd_isType p0) (As := [.int p0]) (rest := []) ⟨hx, hb, hml, hown, hts⟩ (metX0_isType l p0) (va_cwS 1 hts (lw_S q65 q66 q15 q67) rfl rfl rfl hdX0_isType ⟨Nat.le_of_ble_eq_true rfl, Nat.le_of_ble_eq_true rfl⟩) rfl hl.1 rfl (Nat.le_of_ble_eq_true rfl) dX0_agree_1 ⟨Nat.zero_le _, Nat.zero_le _⟩ ?_
  refine lv_if_eq (tgt := 14) hx hb dX0_agree_4 (by decide) (fun c_1 => ?_) (fun c_1 => ?_)
  · skip
    refine lv_iconst (v := 0) hx hb dX0_agree_14 (by decide) ?_
    exact W.zret hx hb hr rfl (fun t ht _ => xw_q (by simp only [xd_agree, if_pos c_1]) ht) (fun _ h => absurd h List.not_mem_nil) dX0_agree_15
  · skip
    refine lv_iload_n hx hb dX0_agree_7 rfl (lv_at hl 2 rfl) ?_
    refine xw_S (v := xd_isType p1) (As := [.int p1]) (rest := []) ⟨hx, hb, hml, hown, hts⟩ (metX0_isType l p1) (va_cwS 1 hts (lw_S q65 q66 q15 q67) rfl rfl rfl hdX0_isType ⟨Nat.le_of_ble_eq_true rfl, Nat.le_of_ble_eq_true rfl⟩) rfl hl.1 rfl (Nat.le_of_ble_eq_true rfl) dX0_agree_8 ⟨Nat.zero_le _, Nat.zero_le _⟩ ?_
    refine lv_if_ne (tgt := 16) hx hb dX0_agree_11 (by decide) (fun c_2 => ?_) (fun c_2 => ?_)
    · skip
      refine lv_iload_n hx hb dX0_agree_16 rfl (lv_at hl 1 rfl) ?_
      refine xw_S (v := xd_isFun p0) (As := [.int p0]) (rest := []) ⟨hx, hb, hml, hown, hts⟩ (metX0_isFunction l p0) (va_cwS 1 hts (lw_S q72 q73 q15 q74) rfl rfl rfl hdX0_isFunction ⟨Nat.le_of_ble_eq_true rfl, Nat.le_of_ble_eq_true rfl⟩) rfl hl.1 rfl (Nat.le_of_ble_eq_true rfl) dX0_agree_17 ⟨Nat.zero_le _, Nat.zero_le _⟩ ?_
      refine lv_if_eq (tgt := 30) hx hb dX0_agree_20 (by decide) (fun c_3 => ?_) (fun c_3 => ?_)
      · skip
        refine lv_iload_n hx hb dX0_agree_30 rfl (lv_at hl 1 rfl) ?_
        refine lv_iload_n hx hb dX0_agree_31 rfl (lv_at hl 2 rfl) ?_
        refine xw_S (v := xd_plain p0 p1) (As := [.int p0, .int p1]) (rest := []) ⟨hx, hb, hml, hown, hts⟩ (metX0_plainAgree l p0 p1) (va_cwS 2 hts (lw_S q75 q76 q15 q77) rfl rfl rfl hdX0_plainAgree ⟨Nat.le_of_ble_eq_true rfl, Nat.le_of_ble_eq_true rfl⟩) rfl hl.1 rfl (Nat.le_of_ble_eq_true rfl) dX0_agree_32 ⟨Nat.zero_le _, Nat.zero_le _⟩ ?_
        exact W.zret hx hb hr (xd_plain_nar _ _) (fun t ht _ => xw_q (by simp only [xd_agree, if_neg c_1, if_neg c_2, if_pos c_3]) ht) (fun _ h => absurd h List.not_mem_nil) dX0_agree_35
      · skip
        refine lv_iload_n hx hb dX0_agree_23 rfl (lv_at hl 2 rfl) ?_
        refine xw_S (v := xd_isFun p1) (As := [.int p1]) (rest := []) ⟨hx, hb, hml, hown, hts⟩ (metX0_isFunction l p1) (va_cwS 1 hts (lw_S q72 q73 q15 q74) rfl rfl rfl hdX0_isFunction ⟨Nat.le_of_ble_eq_true rfl, Nat.le_of_ble_eq_true rfl⟩) rfl hl.1 rfl (Nat.le_of_ble_eq_true rfl) dX0_agree_24 ⟨Nat.zero_le _, Nat.zero_le _⟩ ?_
        refine lv_if_ne (tgt := 36) hx hb dX0_agree_27 (by decide) (fun c_4 => ?_) (fun c_4 => ?_)
        · skip
          refine lv_iload_n hx hb dX0_agree_36 rfl (lv_at hl 1 rfl) ?_
          refine xw_S (v := xd_arg p0) (As := [.int p0]) (rest := []) ⟨hx, hb, hml, hown, hts⟩ (metX0_argumentOf l p0) (va_cwS 1 hts (lw_S q78 q79 q15 q80) rfl rfl rfl hdX0_argumentOf ⟨Nat.le_of_ble_eq_true rfl, Nat.le_of_ble_eq_true rfl⟩) rfl hl.1 rfl (Nat.le_of_ble_eq_true rfl) dX0_agree_37 ⟨Nat.zero_le _, Nat.zero_le _⟩ ?_
          refine lv_istore_n (lv' := [(3, .int (xd_arg p0)), (0, .ref h0), (1, .int p0), (2, .int p1)]) hx hb dX0_agree_40 rfl hl (by decide) rfl (fun ls hl => ?_)
          refine lv_iload_n hx hb dX0_agree_41 rfl (lv_at hl 2 rfl) ?_
          refine xw_S (v := xd_res p0) (As := [.int p0]) (rest := []) ⟨hx, hb, hml, hown, hts⟩ (metX0_resultOf l p0) (va_cwS 1 hts (lw_S q81 q82 q15 q83) rfl rfl rfl hdX0_resultOf ⟨Nat.le_of_ble_eq_true rfl, Nat.le_of_ble_eq_true rfl⟩) rfl hl.1 rfl (Nat.le_of_ble_eq_true rfl) dX0_agree_42 ⟨Nat.zero_le _, Nat.zero_le _⟩ ?_
          refine lv_istore (lv' := [(4, .int (xd_res p0)), (3, .int (xd_arg p0)), (0, .ref h0), (1, .int p0), (2, .int p1)]) hx hb dX0_agree_45 hl (by decide) rfl (fun ls hl => ?_)
          refine lv_iload_n hx hb dX0_agree_47 rfl (lv_at hl 1 rfl) ?_
          refine lv_iload_n hx hb dX0_agree_48 rfl (lv_at hl 4 rfl) ?_
          refine xw_S (v := xd_arg p1) (As := [.int p1]) (rest := [.int (xd_arg p0)]) ⟨hx, hb, hml, hown, hts⟩ (metX0_argumentOf l p1) (va_cwS 1 hts (lw_S q78 q79 q15 q80) rfl rfl rfl hdX0_argumentOf ⟨Nat.le_of_ble_eq_true rfl, Nat.le_of_ble_eq_true rfl⟩) rfl hl.1 rfl (Nat.le_of_ble_eq_true rfl) dX0_agree_49 ⟨Nat.zero_le _, Nat.zero_le _⟩ ?_
          refine xw_S (v := xd_plain (xd_arg p0) (xd_arg p1)) (As := [.int (xd_arg p0), .int (xd_arg p1)]) (rest := []) ⟨hx, hb, hml, hown, hts⟩ (metX0_plainAgree l (xd_arg p0) (xd_arg p1)) (va_cwS 2 hts (lw_S q75 q76 q15 q77) rfl rfl rfl hdX0_plainAgree ⟨Nat.le_of_ble_eq_true rfl, Nat.le_of_ble_eq_true rfl⟩) rfl hl.1 rfl (Nat.le_of_ble_eq_true rfl) dX0_agree_52 ⟨Nat.zero_le _, Nat.zero_le _⟩ ?_
          refine lv_if_eq (tgt := 74) hx hb dX0_agree_55 (by decide) (fun c_5 => ?_) (fun c_5 => ?_)
          · skip
            refine lv_iconst (v := 0) hx hb dX0_agree_74 (by decide) ?_
            exact W.zret hx hb hr rfl (fun t ht _ => xw_q (by simp only [xd_agree, if_neg c_1, if_neg c_2, if_neg c_3, if_neg c_4, if_pos c_5]) ht) (fun _ h => absurd h List.not_mem_nil) dX0_agree_75
          · skip
            refine lv_iload hx hb dX0_agree_58 (lv_at hl 0 rfl) ?_
            refine lv_iload_n hx hb dX0_agree_60 rfl (lv_at hl 4 rfl) ?_
            refine xw_S (v := xd_res p1) (As := [.int p1]) (rest := [.int (xd_res p0)]) ⟨hx, hb, hml, hown, hts⟩ (metX0_resultOf l p1) (va_cwS 1 hts (lw_S q81 q82 q15 q83) rfl rfl rfl hdX0_resultOf ⟨Nat.le_of_ble_eq_true rfl, Nat.le_of_ble_eq_true rfl⟩) rfl hl.1 rfl (Nat.le_of_ble_eq_true rfl) dX0_agree_61 ⟨Nat.zero_le _, Nat.zero_le _⟩ ?_
            refine xw_S (v := xd_plain (xd_res p0) (xd_res p1)) (As := [.int (xd_res p0), .int (xd_res p1)]) (rest := []) ⟨hx, hb, hml, hown, hts⟩ (metX0_plainAgree l (xd_res p0) (xd_res p1)) (va_cwS 2 hts (lw_S q75 q76 q15 q77) rfl rfl rfl hdX0_plainAgree ⟨Nat.le_of_ble_eq_true rfl, Nat.le_of_ble_eq_true rfl⟩) rfl hl.1 rfl (Nat.le_of_ble_eq_true rfl) dX0_agree_64 ⟨Nat.zero_le _, Nat.zero_le _⟩ ?_
            refine lv_if_eq (tgt := 74) hx hb dX0_agree_67 (by decide) (fun c_6 => ?_) (fun c_6 => ?_)
            · skip
              refine lv_iconst (v := 0) hx hb dX0_agree_74 (by decide) ?_
              exact W.zret hx hb hr rfl (fun t ht _ => xw_q (by simp only [xd_agree, if_neg c_1, if_neg c_2, if_neg c_3, if_neg c_4, if_neg c_5, if_pos c_6]) ht) (fun _ h => absurd h List.not_mem_nil) dX0_agree_75
            · skip
              refine lv_iconst (v := 1) hx hb dX0_agree_70 (by decide) ?_
              refine lv_goto (tgt := 75) hx hb dX0_agree_71 (by decide) ?_
              exact W.zret hx hb hr rfl (fun t ht _ => xw_q (by simp only [xd_agree, if_neg c_1, if_neg c_2, if_neg c_3, if_neg c_4, if_neg c_5, if_neg c_6]) ht) (fun _ h => absurd h List.not_mem_nil) dX0_agree_75
        · skip
          refine lv_iload_n hx hb dX0_agree_30 rfl (lv_at hl 1 rfl) ?_
          refine lv_iload_n hx hb dX0_agree_31 rfl (lv_at hl 2 rfl) ?_
          refine xw_S (v := xd_plain p0 p1) (As := [.int p0, .int p1]) (rest := []) ⟨hx, hb, hml, hown, hts⟩ (metX0_plainAgree l p0 p1) (va_cwS 2 hts (lw_S q75 q76 q15 q77) rfl rfl rfl hdX0_plainAgree ⟨Nat.le_of_ble_eq_true rfl, Nat.le_of_ble_eq_true rfl⟩) rfl hl.1 rfl (Nat.le_of_ble_eq_true rfl) dX0_agree_32 ⟨Nat.zero_le _, Nat.zero_le _⟩ ?_
          exact W.zret hx hb hr (xd_plain_nar _ _) (fun t ht _ => xw_q (by simp only [xd_agree, if_neg c_1, if_neg c_2, if_neg c_3, if_pos c_4]) ht) (fun _ h => absurd h List.not_mem_nil) dX0_agree_35
    · skip
      refine lv_iconst (v := 0) hx hb dX0_agree_14 (by decide) ?_
      exact W.zret hx hb hr rfl (fun t ht _ => xw_q (by simp only [xd_agree, if_neg c_1, if_pos c_2]) ht) (fun _ h => absurd h List.not_mem_nil) dX0_agree_15
end
section
abbrev wsX0_agreeing : List Cond := ws_ yX0_agreeing cX0_agreeing 4 (some .int)
theorem hdX0_agreeing : yX0_agreeing.cls = RX0 ∧ yX0_agreeing.cls ≠ "java/lang/invoke/MethodHandle" ∧ yX0_agreeing.cls ≠ "java/lang/invoke/VarHandle" ∧ (parseMethodDescriptor yX0_agreeing.desc).map (fun d => d.parameters.length) = some 1 := by decide +kernel
set_option maxHeartbeats 4000000 in
set_option maxRecDepth 100000 in
theorem metX0_agreeing (l : Launch) (dC : Nat → ClassId) (dI : Nat → Nat → Nat) (h0 h1 h2 : Nat) (k1 k2 : ClassId) (σ : xd_T) (p0 : Int32) : Met l yX0_agreeing wsX0_agreeing ({ frames := 2, cells := 0, slots := 0, locals := 45 }) (va_Pc [.ref h0, .int p0] (xw_Rd (dC, dI) vwCl (xd_W h0 h1 h2 k1 k2 σ) [(k1, .byte), (k2, .byte)])) (xw_Q (xd_agreeing p0)) 0 0 (fun _ => False) := by
  refine Met.ofW (cc := cX0_agreeing) (maxL := 4) (ret := (some .int)) (by decide) rfl ?_
  intro p e s m args below meth c s₁ B hml hv
  obtain ⟨rfl, hP, hK⟩ := hv
  have hx := B.exec
  have hb := B.bytes
  have hr := B.returns
  have hts := atoms_spec (ws := wsX0_agreeing) B.pre
  have hts : ∀ w ∈ lw_all, w.before _ s = true := fun w h => hts w (List.mem_cons_of_mem _ h)
  have hown : s.vm.findClass RX0 = some m.cls := findClass_of_methodNamed B.named
  have hlocks := B.notSynchronized
  have hP : va_P (dC, dI) vwCl [(h0, .inr (0, [.int σ.1, .int σ.2.1, .int σ.2.2.1, .int σ.2.2.2.1, .ref h1, .ref h2, .int σ.2.2.2.2.1, .int σ.2.2.2.2.2.1, .int σ.2.2.2.2.2.2.1])), (h1, .inl (k1, 4, .inl σ.2.2.2.2.2.2.2.1)), (h2, .inl (k2, 4, .inl σ.2.2.2.2.2.2.2.2))] s.heap := hP
  have hl := lv_entry ([.ref h0, .int p0]) (n := 4) (Nat.le_of_ble_eq_true rfl)
  rw [lg_entry_eq]
  generalize (lg_sl ([.ref h0, .int p0]) ++ List.replicate (4 - (lg_sl ([.ref h0, .int p0])).length) Slot.unset).toArray = ls at hl ⊢
  have hl : lv_has ls 4 [(0, .ref h0), (1, .int p0)] := hl
  refine lv_iload_n hx hb dX0_agreeing_0 rfl (lv_at hl 1 rfl) ?_
  refine xw_S (v := xd_isType p0) (As := [.int p0]) (rest := []) ⟨hx, hb, hml, hown, hts⟩ (metX0_isType l p0) (va_cwS 1 hts (lw_S q65 q66 q15 q67) rfl rfl rfl hdX0_isType ⟨Nat.le_of_ble_eq_true rfl, Nat.le_of_ble_eq_true rfl⟩) rfl hl.1 rfl (Nat.le_of_ble_eq_true rfl) dX0_agreeing_1 ⟨Nat.zero_le _, Nat.zero_le _⟩ ?_
  refine lv_if_ne (tgt := 10) hx hb dX0_agreeing_4 (by decide) (fun c_1 => ?_) (fun c_1 => ?_)
  · skip
    refine lv_iconst (v := 0) hx hb dX0_agreeing_10 (by decide) ?_
    refine lv_istore_n (lv' := [(2, .int 0), (0, .ref h0), (1, .int p0)]) hx hb dX0_agreeing_11 rfl hl (by decide) rfl (fun ls hl => ?_)
    refine lv_iconst (v := 0) hx hb dX0_agreeing_12 (by decide) ?_
    refine lv_istore_n (lv' := [(3, .int 0), (2, .int 0), (0, .ref h0), (1, .int p0)]) hx hb dX0_agreeing_13 rfl hl (by decide) rfl (fun ls hl => ?_)
    refine lv_iload_n hx hb dX0_agreeing_14 rfl (lv_at hl 0 rfl) ?_
    refine lv_bipush (v := 12) hx hb dX0_agreeing_15 (by decide) ?_
    refine lv_icmp_ge (tgt := 43) hx hb dX0_agreeing_17 (by decide) (fun c_2 => absurd c_2 (by decide)) (fun _ => ?_)
    refine lv_iload_n hx hb dX0_agreeing_20 rfl (lv_at hl 1 rfl) ?_
    refine lv_aload_n hx hb dX0_agreeing_21 rfl (lv_at hl 2 rfl) ?_
    refine lv_iload_n hx hb dX0_agreeing_22 rfl (lv_at hl 0 rfl) ?_
    refine lv_iload_n hx hb dX0_agreeing_23 rfl (lv_at hl 3 rfl) ?_
    refine xw_V (v := xd_agree 0 p0) (As := [.int 0, .int p0]) (rest := [.int 0]) (ci := 0) ⟨hx, hb, hml, hown, hts⟩ (metX0_agree l dC dI h0 h1 h2 k1 k2 σ 0 p0) (cwV 2 hts (lw_V q68 q69 q70 q15 q71) rfl rfl rfl hdX0_agree ⟨Nat.le_of_ble_eq_true rfl, Nat.le_of_ble_eq_true rfl⟩) hK hP 0 rfl rfl rfl hl.1 rfl (Nat.le_of_ble_eq_true rfl) dX0_agreeing_24 ⟨Nat.zero_le _, Nat.zero_le _⟩ ?_
    refine xw_cut (g2 := F0 m 35 ls [.int (xd_bit (xd_agree 0 p0)), .int 0]) ?_ (fun K_35 => ?_)
    · skip
      refine lv_iadd hx hb dX0_agreeing_35 ?_
      refine xw_top (v := xd_agN p0 1) rfl ?_
      refine lv_istore_n (lv' := [(2, .int (xd_agN p0 1)), (3, .int 0), (0, .ref h0), (1, .int p0)]) hx hb dX0_agreeing_36 rfl hl (by decide) rfl (fun ls hl => ?_)
      refine lv_iinc (v := 1) (lv' := [(3, .int 1), (2, .int (xd_agN p0 1)), (0, .ref h0), (1, .int p0)]) hx hb dX0_agreeing_37 hl (k := 1) rfl (by decide) (by decide) rfl (fun ls hl => ?_)
      refine lv_goto (tgt := 14) hx hb dX0_agreeing_40 (by decide) ?_
      refine lv_iload_n hx hb dX0_agreeing_14 rfl (lv_at hl 0 rfl) ?_
      refine lv_bipush (v := 12) hx hb dX0_agreeing_15 (by decide) ?_
      refine lv_icmp_ge (tgt := 43) hx hb dX0_agreeing_17 (by decide) (fun c_3 => absurd c_3 (by decide)) (fun _ => ?_)
      refine lv_iload_n hx hb dX0_agreeing_20 rfl (lv_at hl 1 rfl) ?_
      refine lv_aload_n hx hb dX0_agreeing_21 rfl (lv_at hl 2 rfl) ?_
      refine lv_iload_n hx hb dX0_agreeing_22 rfl (lv_at hl 0 rfl) ?_
      refine lv_iload_n hx hb dX0_agreeing_23 rfl (lv_at hl 3 rfl) ?_
      refine xw_V (v := xd_agree 1 p0) (As := [.int 1, .int p0]) (rest := [.int (xd_agN p0 1)]) (ci := 0) ⟨hx, hb, hml, hown, hts⟩ (metX0_agree l dC dI h0 h1 h2 k1 k2 σ 1 p0) (cwV 2 hts (lw_V q68 q69 q70 q15 q71) rfl rfl rfl hdX0_agree ⟨Nat.le_of_ble_eq_true rfl, Nat.le_of_ble_eq_true rfl⟩) hK hP 0 rfl rfl rfl hl.1 rfl (Nat.le_of_ble_eq_true rfl) dX0_agreeing_24 ⟨Nat.zero_le _, Nat.zero_le _⟩ ?_
      refine xw_cut (g2 := F0 m 35 ls [.int (xd_bit (xd_agree 1 p0)), .int (xd_agN p0 1)]) ?_ (fun K_35 => ?_)
      · skip
        refine lv_iadd hx hb dX0_agreeing_35 ?_
        refine xw_top (v := xd_agN p0 2) rfl ?_
        refine lv_istore_n (lv' := [(2, .int (xd_agN p0 2)), (3, .int 1), (0, .ref h0), (1, .int p0)]) hx hb dX0_agreeing_36 rfl hl (by decide) rfl (fun ls hl => ?_)
        refine lv_iinc (v := 2) (lv' := [(3, .int 2), (2, .int (xd_agN p0 2)), (0, .ref h0), (1, .int p0)]) hx hb dX0_agreeing_37 hl (k := 1) rfl (by decide) (by decide) rfl (fun ls hl => ?_)
        refine lv_goto (tgt := 14) hx hb dX0_agreeing_40 (by decide) ?_
        refine lv_iload_n hx hb dX0_agreeing_14 rfl (lv_at hl 0 rfl) ?_
        refine lv_bipush (v := 12) hx hb dX0_agreeing_15 (by decide) ?_
        refine lv_icmp_ge (tgt := 43) hx hb dX0_agreeing_17 (by decide) (fun c_4 => absurd c_4 (by decide)) (fun _ => ?_)
        refine lv_iload_n hx hb dX0_agreeing_20 rfl (lv_at hl 1 rfl) ?_
        refine lv_aload_n hx hb dX0_agreeing_21 rfl (lv_at hl 2 rfl) ?_
        refine lv_iload_n hx hb dX0_agreeing_22 rfl (lv_at hl 0 rfl) ?_
        refine lv_iload_n hx hb dX0_agreeing_23 rfl (lv_at hl 3 rfl) ?_
        refine xw_V (v := xd_agree 2 p0) (As := [.int 2, .int p0]) (rest := [.int (xd_agN p0 2)]) (ci := 0) ⟨hx, hb, hml, hown, hts⟩ (metX0_agree l dC dI h0 h1 h2 k1 k2 σ 2 p0) (cwV 2 hts (lw_V q68 q69 q70 q15 q71) rfl rfl rfl hdX0_agree ⟨Nat.le_of_ble_eq_true rfl, Nat.le_of_ble_eq_true rfl⟩) hK hP 0 rfl rfl rfl hl.1 rfl (Nat.le_of_ble_eq_true rfl) dX0_agreeing_24 ⟨Nat.zero_le _, Nat.zero_le _⟩ ?_
        refine xw_cut (g2 := F0 m 35 ls [.int (xd_bit (xd_agree 2 p0)), .int (xd_agN p0 2)]) ?_ (fun K_35 => ?_)
        · skip
          refine lv_iadd hx hb dX0_agreeing_35 ?_
          refine xw_top (v := xd_agN p0 3) rfl ?_
          refine lv_istore_n (lv' := [(2, .int (xd_agN p0 3)), (3, .int 2), (0, .ref h0), (1, .int p0)]) hx hb dX0_agreeing_36 rfl hl (by decide) rfl (fun ls hl => ?_)
          refine lv_iinc (v := 3) (lv' := [(3, .int 3), (2, .int (xd_agN p0 3)), (0, .ref h0), (1, .int p0)]) hx hb dX0_agreeing_37 hl (k := 1) rfl (by decide) (by decide) rfl (fun ls hl => ?_)
          refine lv_goto (tgt := 14) hx hb dX0_agreeing_40 (by decide) ?_
          refine lv_iload_n hx hb dX0_agreeing_14 rfl (lv_at hl 0 rfl) ?_
          refine lv_bipush (v := 12) hx hb dX0_agreeing_15 (by decide) ?_
          refine lv_icmp_ge (tgt := 43) hx hb dX0_agreeing_17 (by decide) (fun c_5 => absurd c_5 (by decide)) (fun _ => ?_)
          refine lv_iload_n hx hb dX0_agreeing_20 rfl (lv_at hl 1 rfl) ?_
          refine lv_aload_n hx hb dX0_agreeing_21 rfl (lv_at hl 2 rfl) ?_
          refine lv_iload_n hx hb dX0_agreeing_22 rfl (lv_at hl 0 rfl) ?_
          refine lv_iload_n hx hb dX0_agreeing_23 rfl (lv_at hl 3 rfl) ?_
          refine xw_V (v := xd_agree 3 p0) (As := [.int 3, .int p0]) (rest := [.int (xd_agN p0 3)]) (ci := 0) ⟨hx, hb, hml, hown, hts⟩ (metX0_agree l dC dI h0 h1 h2 k1 k2 σ 3 p0) (cwV 2 hts (lw_V q68 q69 q70 q15 q71) rfl rfl rfl hdX0_agree ⟨Nat.le_of_ble_eq_true rfl, Nat.le_of_ble_eq_true rfl⟩) hK hP 0 rfl rfl rfl hl.1 rfl (Nat.le_of_ble_eq_true rfl) dX0_agreeing_24 ⟨Nat.zero_le _, Nat.zero_le _⟩ ?_
          refine xw_cut (g2 := F0 m 35 ls [.int (xd_bit (xd_agree 3 p0)), .int (xd_agN p0 3)]) ?_ (fun K_35 => ?_)
          · skip
            refine lv_iadd hx hb dX0_agreeing_35 ?_
            refine xw_top (v := xd_agN p0 4) rfl ?_
            refine lv_istore_n (lv' := [(2, .int (xd_agN p0 4)), (3, .int 3), (0, .ref h0), (1, .int p0)]) hx hb dX0_agreeing_36 rfl hl (by decide) rfl (fun ls hl => ?_)
            refine lv_iinc (v := 4) (lv' := [(3, .int 4), (2, .int (xd_agN p0 4)), (0, .ref h0), (1, .int p0)]) hx hb dX0_agreeing_37 hl (k := 1) rfl (by decide) (by decide) rfl (fun ls hl => ?_)
            refine lv_goto (tgt := 14) hx hb dX0_agreeing_40 (by decide) ?_
            refine lv_iload_n hx hb dX0_agreeing_14 rfl (lv_at hl 0 rfl) ?_
            refine lv_bipush (v := 12) hx hb dX0_agreeing_15 (by decide) ?_
            refine lv_icmp_ge (tgt := 43) hx hb dX0_agreeing_17 (by decide) (fun c_6 => absurd c_6 (by decide)) (fun _ => ?_)
            refine lv_iload_n hx hb dX0_agreeing_20 rfl (lv_at hl 1 rfl) ?_
            refine lv_aload_n hx hb dX0_agreeing_21 rfl (lv_at hl 2 rfl) ?_
            refine lv_iload_n hx hb dX0_agreeing_22 rfl (lv_at hl 0 rfl) ?_
            refine lv_iload_n hx hb dX0_agreeing_23 rfl (lv_at hl 3 rfl) ?_
            refine xw_V (v := xd_agree 4 p0) (As := [.int 4, .int p0]) (rest := [.int (xd_agN p0 4)]) (ci := 0) ⟨hx, hb, hml, hown, hts⟩ (metX0_agree l dC dI h0 h1 h2 k1 k2 σ 4 p0) (cwV 2 hts (lw_V q68 q69 q70 q15 q71) rfl rfl rfl hdX0_agree ⟨Nat.le_of_ble_eq_true rfl, Nat.le_of_ble_eq_true rfl⟩) hK hP 0 rfl rfl rfl hl.1 rfl (Nat.le_of_ble_eq_true rfl) dX0_agreeing_24 ⟨Nat.zero_le _, Nat.zero_le _⟩ ?_
            refine xw_cut (g2 := F0 m 35 ls [.int (xd_bit (xd_agree 4 p0)), .int (xd_agN p0 4)]) ?_ (fun K_35 => ?_)
            · skip
              refine lv_iadd hx hb dX0_agreeing_35 ?_
              refine xw_top (v := xd_agN p0 5) rfl ?_
              refine lv_istore_n (lv' := [(2, .int (xd_agN p0 5)), (3, .int 4), (0, .ref h0), (1, .int p0)]) hx hb dX0_agreeing_36 rfl hl (by decide) rfl (fun ls hl => ?_)
              refine lv_iinc (v := 5) (lv' := [(3, .int 5), (2, .int (xd_agN p0 5)), (0, .ref h0), (1, .int p0)]) hx hb dX0_agreeing_37 hl (k := 1) rfl (by decide) (by decide) rfl (fun ls hl => ?_)
              refine lv_goto (tgt := 14) hx hb dX0_agreeing_40 (by decide) ?_
              refine lv_iload_n hx hb dX0_agreeing_14 rfl (lv_at hl 0 rfl) ?_
              refine lv_bipush (v := 12) hx hb dX0_agreeing_15 (by decide) ?_
              refine lv_icmp_ge (tgt := 43) hx hb dX0_agreeing_17 (by decide) (fun c_7 => absurd c_7 (by decide)) (fun _ => ?_)
              refine lv_iload_n hx hb dX0_agreeing_20 rfl (lv_at hl 1 rfl) ?_
              refine lv_aload_n hx hb dX0_agreeing_21 rfl (lv_at hl 2 rfl) ?_
              refine lv_iload_n hx hb dX0_agreeing_22 rfl (lv_at hl 0 rfl) ?_
              refine lv_iload_n hx hb dX0_agreeing_23 rfl (lv_at hl 3 rfl) ?_
              refine xw_V (v := xd_agree 5 p0) (As := [.int 5, .int p0]) (rest := [.int (xd_agN p0 5)]) (ci := 0) ⟨hx, hb, hml, hown, hts⟩ (metX0_agree l dC dI h0 h1 h2 k1 k2 σ 5 p0) (cwV 2 hts (lw_V q68 q69 q70 q15 q71) rfl rfl rfl hdX0_agree ⟨Nat.le_of_ble_eq_true rfl, Nat.le_of_ble_eq_true rfl⟩) hK hP 0 rfl rfl rfl hl.1 rfl (Nat.le_of_ble_eq_true rfl) dX0_agreeing_24 ⟨Nat.zero_le _, Nat.zero_le _⟩ ?_
              refine xw_cut (g2 := F0 m 35 ls [.int (xd_bit (xd_agree 5 p0)), .int (xd_agN p0 5)]) ?_ (fun K_35 => ?_)
              · skip
                refine lv_iadd hx hb dX0_agreeing_35 ?_
                refine xw_top (v := xd_agN p0 6) rfl ?_
                refine lv_istore_n (lv' := [(2, .int (xd_agN p0 6)), (3, .int 5), (0, .ref h0), (1, .int p0)]) hx hb dX0_agreeing_36 rfl hl (by decide) rfl (fun ls hl => ?_)
                refine lv_iinc (v := 6) (lv' := [(3, .int 6), (2, .int (xd_agN p0 6)), (0, .ref h0), (1, .int p0)]) hx hb dX0_agreeing_37 hl (k := 1) rfl (by decide) (by decide) rfl (fun ls hl => ?_)
                refine lv_goto (tgt := 14) hx hb dX0_agreeing_40 (by decide) ?_
                refine lv_iload_n hx hb dX0_agreeing_14 rfl (lv_at hl 0 rfl) ?_
                refine lv_bipush (v := 12) hx hb dX0_agreeing_15 (by decide) ?_
                refine lv_icmp_ge (tgt := 43) hx hb dX0_agreeing_17 (by decide) (fun c_8 => absurd c_8 (by decide)) (fun _ => ?_)
                refine lv_iload_n hx hb dX0_agreeing_20 rfl (lv_at hl 1 rfl) ?_
                refine lv_aload_n hx hb dX0_agreeing_21 rfl (lv_at hl 2 rfl) ?_
                refine lv_iload_n hx hb dX0_agreeing_22 rfl (lv_at hl 0 rfl) ?_
                refine lv_iload_n hx hb dX0_agreeing_23 rfl (lv_at hl 3 rfl) ?_
                refine xw_V (v := xd_agree 6 p0) (As := [.int 6, .int p0]) (rest := [.int (xd_agN p0 6)]) (ci := 0) ⟨hx, hb, hml, hown, hts⟩ (metX0_agree l dC dI h0 h1 h2 k1 k2 σ 6 p0) (cwV 2 hts (lw_V q68 q69 q70 q15 q71) rfl rfl rfl hdX0_agree ⟨Nat.le_of_ble_eq_true rfl, Nat.le_of_ble_eq_true rfl⟩) hK hP 0 rfl rfl rfl hl.1 rfl (Nat.le_of_ble_eq_true rfl) dX0_agreeing_24 ⟨Nat.zero_le _, Nat.zero_le _⟩ ?_
                refine xw_cut (g2 := F0 m 35 ls [.int (xd_bit (xd_agree 6 p0)), .int (xd_agN p0 6)]) ?_ (fun K_35 => ?_)
                · skip
                  refine lv_iadd hx hb dX0_agreeing_35 ?_
                  refine xw_top (v := xd_agN p0 7) rfl ?_
                  refine lv_istore_n (lv' := [(2, .int (xd_agN p0 7)), (3, .int 6), (0, .ref h0), (1, .int p0)]) hx hb dX0_agreeing_36 rfl hl (by decide) rfl (fun ls hl => ?_)
                  refine lv_iinc (v := 7) (lv' := [(3, .int 7), (2, .int (xd_agN p0 7)), (0, .ref h0), (1, .int p0)]) hx hb dX0_agreeing_37 hl (k := 1) rfl (by decide) (by decide) rfl (fun ls hl => ?_)
                  refine lv_goto (tgt := 14) hx hb dX0_agreeing_40 (by decide) ?_
                  refine lv_iload_n hx hb dX0_agreeing_14 rfl (lv_at hl 0 rfl) ?_
                  refine lv_bipush (v := 12) hx hb dX0_agreeing_15 (by decide) ?_
                  refine lv_icmp_ge (tgt := 43) hx hb dX0_agreeing_17 (by decide) (fun c_9 => absurd c_9 (by decide)) (fun _ => ?_)
                  refine lv_iload_n hx hb dX0_agreeing_20 rfl (lv_at hl 1 rfl) ?_
                  refine lv_aload_n hx hb dX0_agreeing_21 rfl (lv_at hl 2 rfl) ?_
                  refine lv_iload_n hx hb dX0_agreeing_22 rfl (lv_at hl 0 rfl) ?_
                  refine lv_iload_n hx hb dX0_agreeing_23 rfl (lv_at hl 3 rfl) ?_
                  refine xw_V (v := xd_agree 7 p0) (As := [.int 7, .int p0]) (rest := [.int (xd_agN p0 7)]) (ci := 0) ⟨hx, hb, hml, hown, hts⟩ (metX0_agree l dC dI h0 h1 h2 k1 k2 σ 7 p0) (cwV 2 hts (lw_V q68 q69 q70 q15 q71) rfl rfl rfl hdX0_agree ⟨Nat.le_of_ble_eq_true rfl, Nat.le_of_ble_eq_true rfl⟩) hK hP 0 rfl rfl rfl hl.1 rfl (Nat.le_of_ble_eq_true rfl) dX0_agreeing_24 ⟨Nat.zero_le _, Nat.zero_le _⟩ ?_
                  refine xw_cut (g2 := F0 m 35 ls [.int (xd_bit (xd_agree 7 p0)), .int (xd_agN p0 7)]) ?_ (fun K_35 => ?_)
                  · skip
                    refine lv_iadd hx hb dX0_agreeing_35 ?_
                    refine xw_top (v := xd_agN p0 8) rfl ?_
                    refine lv_istore_n (lv' := [(2, .int (xd_agN p0 8)), (3, .int 7), (0, .ref h0), (1, .int p0)]) hx hb dX0_agreeing_36 rfl hl (by decide) rfl (fun ls hl => ?_)
                    refine lv_iinc (v := 8) (lv' := [(3, .int 8), (2, .int (xd_agN p0 8)), (0, .ref h0), (1, .int p0)]) hx hb dX0_agreeing_37 hl (k := 1) rfl (by decide) (by decide) rfl (fun ls hl => ?_)
                    refine lv_goto (tgt := 14) hx hb dX0_agreeing_40 (by decide) ?_
                    refine lv_iload_n hx hb dX0_agreeing_14 rfl (lv_at hl 0 rfl) ?_
                    refine lv_bipush (v := 12) hx hb dX0_agreeing_15 (by decide) ?_
                    refine lv_icmp_ge (tgt := 43) hx hb dX0_agreeing_17 (by decide) (fun c_10 => absurd c_10 (by decide)) (fun _ => ?_)
                    refine lv_iload_n hx hb dX0_agreeing_20 rfl (lv_at hl 1 rfl) ?_
                    refine lv_aload_n hx hb dX0_agreeing_21 rfl (lv_at hl 2 rfl) ?_
                    refine lv_iload_n hx hb dX0_agreeing_22 rfl (lv_at hl 0 rfl) ?_
                    refine lv_iload_n hx hb dX0_agreeing_23 rfl (lv_at hl 3 rfl) ?_
                    refine xw_V (v := xd_agree 8 p0) (As := [.int 8, .int p0]) (rest := [.int (xd_agN p0 8)]) (ci := 0) ⟨hx, hb, hml, hown, hts⟩ (metX0_agree l dC dI h0 h1 h2 k1 k2 σ 8 p0) (cwV 2 hts (lw_V q68 q69 q70 q15 q71) rfl rfl rfl hdX0_agree ⟨Nat.le_of_ble_eq_true rfl, Nat.le_of_ble_eq_true rfl⟩) hK hP 0 rfl rfl rfl hl.1 rfl (Nat.le_of_ble_eq_true rfl) dX0_agreeing_24 ⟨Nat.zero_le _, Nat.zero_le _⟩ ?_
                    refine xw_cut (g2 := F0 m 35 ls [.int (xd_bit (xd_agree 8 p0)), .int (xd_agN p0 8)]) ?_ (fun K_35 => ?_)
                    · skip
                      refine lv_iadd hx hb dX0_agreeing_35 ?_
                      refine xw_top (v := xd_agN p0 9) rfl ?_
                      refine lv_istore_n (lv' := [(2, .int (xd_agN p0 9)), (3, .int 8), (0, .ref h0), (1, .int p0)]) hx hb dX0_agreeing_36 rfl hl (by decide) rfl (fun ls hl => ?_)
                      refine lv_iinc (v := 9) (lv' := [(3, .int 9), (2, .int (xd_agN p0 9)), (0, .ref h0), (1, .int p0)]) hx hb dX0_agreeing_37 hl (k := 1) rfl (by decide) (by decide) rfl (fun ls hl => ?_)
                      refine lv_goto (tgt := 14) hx hb dX0_agreeing_40 (by decide) ?_
                      refine lv_iload_n hx hb dX0_agreeing_14 rfl (lv_at hl 0 rfl) ?_
                      refine lv_bipush (v := 12) hx hb dX0_agreeing_15 (by decide) ?_
                      refine lv_icmp_ge (tgt := 43) hx hb dX0_agreeing_17 (by decide) (fun c_11 => absurd c_11 (by decide)) (fun _ => ?_)
                      refine lv_iload_n hx hb dX0_agreeing_20 rfl (lv_at hl 1 rfl) ?_
                      refine lv_aload_n hx hb dX0_agreeing_21 rfl (lv_at hl 2 rfl) ?_
                      refine lv_iload_n hx hb dX0_agreeing_22 rfl (lv_at hl 0 rfl) ?_
                      refine lv_iload_n hx hb dX0_agreeing_23 rfl (lv_at hl 3 rfl) ?_
                      refine xw_V (v := xd_agree 9 p0) (As := [.int 9, .int p0]) (rest := [.int (xd_agN p0 9)]) (ci := 0) ⟨hx, hb, hml, hown, hts⟩ (metX0_agree l dC dI h0 h1 h2 k1 k2 σ 9 p0) (cwV 2 hts (lw_V q68 q69 q70 q15 q71) rfl rfl rfl hdX0_agree ⟨Nat.le_of_ble_eq_true rfl, Nat.le_of_ble_eq_true rfl⟩) hK hP 0 rfl rfl rfl hl.1 rfl (Nat.le_of_ble_eq_true rfl) dX0_agreeing_24 ⟨Nat.zero_le _, Nat.zero_le _⟩ ?_
                      refine xw_cut (g2 := F0 m 35 ls [.int (xd_bit (xd_agree 9 p0)), .int (xd_agN p0 9)]) ?_ (fun K_35 => ?_)
                      · skip
                        refine lv_iadd hx hb dX0_agreeing_35 ?_
                        refine xw_top (v := xd_agN p0 10) rfl ?_
                        refine lv_istore_n (lv' := [(2, .int (xd_agN p0 10)), (3, .int 9), (0, .ref h0), (1, .int p0)]) hx hb dX0_agreeing_36 rfl hl (by decide) rfl (fun ls hl => ?_)
                        refine lv_iinc (v := 10) (lv' := [(3, .int 10), (2, .int (xd_agN p0 10)), (0, .ref h0), (1, .int p0)]) hx hb dX0_agreeing_37 hl (k := 1) rfl (by decide) (by decide) rfl (fun ls hl => ?_)
                        refine lv_goto (tgt := 14) hx hb dX0_agreeing_40 (by decide) ?_
                        refine lv_iload_n hx hb dX0_agreeing_14 rfl (lv_at hl 0 rfl) ?_
                        refine lv_bipush (v := 12) hx hb dX0_agreeing_15 (by decide) ?_
                        refine lv_icmp_ge (tgt := 43) hx hb dX0_agreeing_17 (by decide) (fun c_12 => absurd c_12 (by decide)) (fun _ => ?_)
                        refine lv_iload_n hx hb dX0_agreeing_20 rfl (lv_at hl 1 rfl) ?_
                        refine lv_aload_n hx hb dX0_agreeing_21 rfl (lv_at hl 2 rfl) ?_
                        refine lv_iload_n hx hb dX0_agreeing_22 rfl (lv_at hl 0 rfl) ?_
                        refine lv_iload_n hx hb dX0_agreeing_23 rfl (lv_at hl 3 rfl) ?_
                        refine xw_V (v := xd_agree 10 p0) (As := [.int 10, .int p0]) (rest := [.int (xd_agN p0 10)]) (ci := 0) ⟨hx, hb, hml, hown, hts⟩ (metX0_agree l dC dI h0 h1 h2 k1 k2 σ 10 p0) (cwV 2 hts (lw_V q68 q69 q70 q15 q71) rfl rfl rfl hdX0_agree ⟨Nat.le_of_ble_eq_true rfl, Nat.le_of_ble_eq_true rfl⟩) hK hP 0 rfl rfl rfl hl.1 rfl (Nat.le_of_ble_eq_true rfl) dX0_agreeing_24 ⟨Nat.zero_le _, Nat.zero_le _⟩ ?_
                        refine xw_cut (g2 := F0 m 35 ls [.int (xd_bit (xd_agree 10 p0)), .int (xd_agN p0 10)]) ?_ (fun K_35 => ?_)
                        · skip
                          refine lv_iadd hx hb dX0_agreeing_35 ?_
                          refine xw_top (v := xd_agN p0 11) rfl ?_
                          refine lv_istore_n (lv' := [(2, .int (xd_agN p0 11)), (3, .int 10), (0, .ref h0), (1, .int p0)]) hx hb dX0_agreeing_36 rfl hl (by decide) rfl (fun ls hl => ?_)
                          refine lv_iinc (v := 11) (lv' := [(3, .int 11), (2, .int (xd_agN p0 11)), (0, .ref h0), (1, .int p0)]) hx hb dX0_agreeing_37 hl (k := 1) rfl (by decide) (by decide) rfl (fun ls hl => ?_)
                          refine lv_goto (tgt := 14) hx hb dX0_agreeing_40 (by decide) ?_
                          refine lv_iload_n hx hb dX0_agreeing_14 rfl (lv_at hl 0 rfl) ?_
                          refine lv_bipush (v := 12) hx hb dX0_agreeing_15 (by decide) ?_
                          refine lv_icmp_ge (tgt := 43) hx hb dX0_agreeing_17 (by decide) (fun c_13 => absurd c_13 (by decide)) (fun _ => ?_)
                          refine lv_iload_n hx hb dX0_agreeing_20 rfl (lv_at hl 1 rfl) ?_
                          refine lv_aload_n hx hb dX0_agreeing_21 rfl (lv_at hl 2 rfl) ?_
                          refine lv_iload_n hx hb dX0_agreeing_22 rfl (lv_at hl 0 rfl) ?_
                          refine lv_iload_n hx hb dX0_agreeing_23 rfl (lv_at hl 3 rfl) ?_
                          refine xw_V (v := xd_agree 11 p0) (As := [.int 11, .int p0]) (rest := [.int (xd_agN p0 11)]) (ci := 0) ⟨hx, hb, hml, hown, hts⟩ (metX0_agree l dC dI h0 h1 h2 k1 k2 σ 11 p0) (cwV 2 hts (lw_V q68 q69 q70 q15 q71) rfl rfl rfl hdX0_agree ⟨Nat.le_of_ble_eq_true rfl, Nat.le_of_ble_eq_true rfl⟩) hK hP 0 rfl rfl rfl hl.1 rfl (Nat.le_of_ble_eq_true rfl) dX0_agreeing_24 ⟨Nat.zero_le _, Nat.zero_le _⟩ ?_
                          refine xw_cut (g2 := F0 m 35 ls [.int (xd_bit (xd_agree 11 p0)), .int (xd_agN p0 11)]) ?_ (fun K_35 => ?_)
                          · skip
                            refine lv_iadd hx hb dX0_agreeing_35 ?_
                            refine xw_top (v := xd_agN p0 12) rfl ?_
                            refine lv_istore_n (lv' := [(2, .int (xd_agN p0 12)), (3, .int 11), (0, .ref h0), (1, .int p0)]) hx hb dX0_agreeing_36 rfl hl (by decide) rfl (fun ls hl => ?_)
                            refine lv_iinc (v := 12) (lv' := [(3, .int 12), (2, .int (xd_agN p0 12)), (0, .ref h0), (1, .int p0)]) hx hb dX0_agreeing_37 hl (k := 1) rfl (by decide) (by decide) rfl (fun ls hl => ?_)
                            refine lv_goto (tgt := 14) hx hb dX0_agreeing_40 (by decide) ?_
                            refine lv_iload_n hx hb dX0_agreeing_14 rfl (lv_at hl 0 rfl) ?_
                            refine lv_bipush (v := 12) hx hb dX0_agreeing_15 (by decide) ?_
                            refine lv_icmp_ge (tgt := 43) hx hb dX0_agreeing_17 (by decide) (fun _ => ?_) (fun c_14 => absurd c_14 (by decide))
                            refine lv_iload_n hx hb dX0_agreeing_43 rfl (lv_at hl 1 rfl) ?_
                            exact W.iret hx hb hr (fun t ht _ => xw_q (by simp only [xd_agreeing, if_neg c_1]) ht) (fun _ h => absurd h List.not_mem_nil) dX0_agreeing_44
                          · skip
                            refine lv_if_eq (tgt := 34) hx hb dX0_agreeing_27 (by decide) (fun c_15 => ?_) (fun c_15 => ?_)
                            · skip
                              refine lv_iconst (v := 0) hx hb dX0_agreeing_34 (by decide) ?_
                              exact xw_top (by simp only [xd_bit, if_neg c_1, if_pos c_15]) K_35
                            · skip
                              refine lv_iconst (v := 1) hx hb dX0_agreeing_30 (by decide) ?_
                              refine lv_goto (tgt := 35) hx hb dX0_agreeing_31 (by decide) ?_
                              exact xw_top (by simp only [xd_bit, if_neg c_1, if_neg c_15]) K_35
                        · skip
                          refine lv_if_eq (tgt := 34) hx hb dX0_agreeing_27 (by decide) (fun c_16 => ?_) (fun c_16 => ?_)
                          · skip
                            refine lv_iconst (v := 0) hx hb dX0_agreeing_34 (by decide) ?_
                            exact xw_top (by simp only [xd_bit, if_neg c_1, if_pos c_16]) K_35
                          · skip
                            refine lv_iconst (v := 1) hx hb dX0_agreeing_30 (by decide) ?_
                            refine lv_goto (tgt := 35) hx hb dX0_agreeing_31 (by decide) ?_
                            exact xw_top (by simp only [xd_bit, if_neg c_1, if_neg c_16]) K_35
                      · skip
                        refine lv_if_eq (tgt := 34) hx hb dX0_agreeing_27 (by decide) (fun c_17 => ?_) (fun c_17 => ?_)
                        · skip
                          refine lv_iconst (v := 0) hx hb dX0_agreeing_34 (by decide) ?_
                          exact xw_top (by simp only [xd_bit, if_neg c_1, if_pos c_17]) K_35
                        · skip
                          refine lv_iconst (v := 1) hx hb dX0_agreeing_30 (by decide) ?_
                          refine lv_goto (tgt := 35) hx hb dX0_agreeing_31 (by decide) ?_
                          exact xw_top (by simp only [xd_bit, if_neg c_1, if_neg c_17]) K_35
                    · skip
                      refine lv_if_eq (tgt := 34) hx hb dX0_agreeing_27 (by decide) (fun c_18 => ?_) (fun c_18 => ?_)
                      · skip
                        refine lv_iconst (v := 0) hx hb dX0_agreeing_34 (by decide) ?_
                        exact xw_top (by simp only [xd_bit, if_neg c_1, if_pos c_18]) K_35
                      · skip
                        refine lv_iconst (v := 1) hx hb dX0_agreeing_30 (by decide) ?_
                        refine lv_goto (tgt := 35) hx hb dX0_agreeing_31 (by decide) ?_
                        exact xw_top (by simp only [xd_bit, if_neg c_1, if_neg c_18]) K_35
                  · skip
                    refine lv_if_eq (tgt := 34) hx hb dX0_agreeing_27 (by decide) (fun c_19 => ?_) (fun c_19 => ?_)
                    · skip
                      refine lv_iconst (v := 0) hx hb dX0_agreeing_34 (by decide) ?_
                      exact xw_top (by simp only [xd_bit, if_neg c_1, if_pos c_19]) K_35
                    · skip
                      refine lv_iconst (v := 1) hx hb dX0_agreeing_30 (by decide) ?_
                      refine lv_goto (tgt := 35) hx hb dX0_agreeing_31 (by decide) ?_
                      exact xw_top (by simp only [xd_bit, if_neg c_1, if_neg c_19]) K_35
                · skip
                  refine lv_if_eq (tgt := 34) hx hb dX0_agreeing_27 (by decide) (fun c_20 => ?_) (fun c_20 => ?_)
                  · skip
                    refine lv_iconst (v := 0) hx hb dX0_agreeing_34 (by decide) ?_
                    exact xw_top (by simp only [xd_bit, if_neg c_1, if_pos c_20]) K_35
                  · skip
                    refine lv_iconst (v := 1) hx hb dX0_agreeing_30 (by decide) ?_
                    refine lv_goto (tgt := 35) hx hb dX0_agreeing_31 (by decide) ?_
                    exact xw_top (by simp only [xd_bit, if_neg c_1, if_neg c_20]) K_35
              · skip
                refine lv_if_eq (tgt := 34) hx hb dX0_agreeing_27 (by decide) (fun c_21 => ?_) (fun c_21 => ?_)
                · skip
                  refine lv_iconst (v := 0) hx hb dX0_agreeing_34 (by decide) ?_
                  exact xw_top (by simp only [xd_bit, if_neg c_1, if_pos c_21]) K_35
                · skip
                  refine lv_iconst (v := 1) hx hb dX0_agreeing_30 (by decide) ?_
                  refine lv_goto (tgt := 35) hx hb dX0_agreeing_31 (by decide) ?_
                  exact xw_top (by simp only [xd_bit, if_neg c_1, if_neg c_21]) K_35
            · skip
              refine lv_if_eq (tgt := 34) hx hb dX0_agreeing_27 (by decide) (fun c_22 => ?_) (fun c_22 => ?_)
              · skip
                refine lv_iconst (v := 0) hx hb dX0_agreeing_34 (by decide) ?_
                exact xw_top (by simp only [xd_bit, if_neg c_1, if_pos c_22]) K_35
              · skip
                refine lv_iconst (v := 1) hx hb dX0_agreeing_30 (by decide) ?_
                refine lv_goto (tgt := 35) hx hb dX0_agreeing_31 (by decide) ?_
                exact xw_top (by simp only [xd_bit, if_neg c_1, if_neg c_22]) K_35
          · skip
            refine lv_if_eq (tgt := 34) hx hb dX0_agreeing_27 (by decide) (fun c_23 => ?_) (fun c_23 => ?_)
            · skip
              refine lv_iconst (v := 0) hx hb dX0_agreeing_34 (by decide) ?_
              exact xw_top (by simp only [xd_bit, if_neg c_1, if_pos c_23]) K_35
            · skip
              refine lv_iconst (v := 1) hx hb dX0_agreeing_30 (by decide) ?_
              refine lv_goto (tgt := 35) hx hb dX0_agreeing_31 (by decide) ?_
              exact xw_top (by simp only [xd_bit, if_neg c_1, if_neg c_23]) K_35
        · skip
          refine lv_if_eq (tgt := 34) hx hb dX0_agreeing_27 (by decide) (fun c_24 => ?_) (fun c_24 => ?_)
          · skip
            refine lv_iconst (v := 0) hx hb dX0_agreeing_34 (by decide) ?_
            exact xw_top (by simp only [xd_bit, if_neg c_1, if_pos c_24]) K_35
          · skip
            refine lv_iconst (v := 1) hx hb dX0_agreeing_30 (by decide) ?_
            refine lv_goto (tgt := 35) hx hb dX0_agreeing_31 (by decide) ?_
            exact xw_top (by simp only [xd_bit, if_neg c_1, if_neg c_24]) K_35
      · skip
        refine lv_if_eq (tgt := 34) hx hb dX0_agreeing_27 (by decide) (fun c_25 => ?_) (fun c_25 => ?_)
        · skip
          refine lv_iconst (v := 0) hx hb dX0_agreeing_34 (by decide) ?_
          exact xw_top (by simp only [xd_bit, if_neg c_1, if_pos c_25]) K_35
        · skip
          refine lv_iconst (v := 1) hx hb dX0_agreeing_30 (by decide) ?_
          refine lv_goto (tgt := 35) hx hb dX0_agreeing_31 (by decide) ?_
          exact xw_top (by simp only [xd_bit, if_neg c_1, if_neg c_25]) K_35
    · skip
      refine lv_if_eq (tgt := 34) hx hb dX0_agreeing_27 (by decide) (fun c_26 => ?_) (fun c_26 => ?_)
      · skip
        refine lv_iconst (v := 0) hx hb dX0_agreeing_34 (by decide) ?_
        exact xw_top (by simp only [xd_bit, if_neg c_1, if_pos c_26]) K_35
      · skip
        refine lv_iconst (v := 1) hx hb dX0_agreeing_30 (by decide) ?_
        refine lv_goto (tgt := 35) hx hb dX0_agreeing_31 (by decide) ?_
        exact xw_top (by simp only [xd_bit, if_neg c_1, if_neg c_26]) K_35
  · skip
    refine lv_bipush (v := (-100)) hx hb dX0_agreeing_7 (by decide) ?_
    exact W.iret hx hb hr (fun t ht _ => xw_q (by simp only [xd_agreeing, if_pos c_1]) ht) (fun _ h => absurd h List.not_mem_nil) dX0_agreeing_9
abbrev wsX0_set : List Cond := ws_ yX0_set cX0_set 5 (some .int)
theorem hdX0_set : yX0_set.cls = RX0 ∧ yX0_set.cls ≠ "java/lang/invoke/MethodHandle" ∧ yX0_set.cls ≠ "java/lang/invoke/VarHandle" ∧ (parseMethodDescriptor yX0_set.desc).map (fun d => d.parameters.length) = some 2 := by decide +kernel
set_option maxHeartbeats 4000000 in
set_option maxRecDepth 100000 in
theorem metX0_set (l : Launch) (dC : Nat → ClassId) (dI : Nat → Nat → Nat) (h0 h1 h2 : Nat) (k1 k2 : ClassId) (σ : xd_T) (p0 p1 : Int32) : Met l yX0_set wsX0_set ({ frames := 1, cells := 0, slots := 0, locals := 20 }) (va_Pc [.ref h0, .int p0, .int p1] (xw_Wr (dC, dI) vwCl (xd_W h0 h1 h2 k1 k2 σ) [(k1, .byte), (k2, .byte)])) (xw_M (dC, dI) vwCl (some (.int (xd_setR p0 p1))) (xd_W h0 h1 h2 k1 k2 (xd_setS σ p0 p1)) (xw_ad (xd_W h0 h1 h2 k1 k2 σ))) 0 0 (xw_ad (xd_W h0 h1 h2 k1 k2 σ)) := by
  refine Met.ofW (cc := cX0_set) (maxL := 5) (ret := (some .int)) (by decide) rfl ?_
  intro p e s m args below meth c s₁ B hml hv
  obtain ⟨rfl, hP, hK, hD0⟩ := hv
  have hx := B.exec
  have hb := B.bytes
  have hr := B.returns
  have hts := atoms_spec (ws := wsX0_set) B.pre
  have hts : ∀ w ∈ lw_all, w.before _ s = true := fun w h => hts w (List.mem_cons_of_mem _ h)
  have hown : s.vm.findClass RX0 = some m.cls := findClass_of_methodNamed B.named
  have hlocks := B.notSynchronized
  have hD := xw_D_self hD0
  generalize xw_ad (xd_W h0 h1 h2 k1 k2 σ) = A at hD ⊢
  have hS : va_S A s.heap s.heap [] := va_S.rf
  have hP : va_P (dC, dI) vwCl [(h0, .inr (0, [.int σ.1, .int σ.2.1, .int σ.2.2.1, .int σ.2.2.2.1, .ref h1, .ref h2, .int σ.2.2.2.2.1, .int σ.2.2.2.2.2.1, .int σ.2.2.2.2.2.2.1])), (h1, .inl (k1, 4, .inl σ.2.2.2.2.2.2.2.1)), (h2, .inl (k2, 4, .inl σ.2.2.2.2.2.2.2.2))] s.heap := hP
  have hD : va_D A [(h0, .inr (0, [.int σ.1, .int σ.2.1, .int σ.2.2.1, .int σ.2.2.2.1, .ref h1, .ref h2, .int σ.2.2.2.2.1, .int σ.2.2.2.2.2.1, .int σ.2.2.2.2.2.2.1])), (h1, .inl (k1, 4, .inl σ.2.2.2.2.2.2.2.1)), (h2, .inl (k2, 4, .inl σ.2.2.2.2.2.2.2.2))] := hD
  have hl := lv_entry ([.ref h0, .int p0, .int p1]) (n := 5) (Nat.le_of_ble_eq_true rfl)
  rw [lg_entry_eq]
  generalize (lg_sl ([.ref h0, .int p0, .int p1]) ++ List.replicate (5 - (lg_sl ([.ref h0, .int p0, .int p1])).length) Slot.unset).toArray = ls at hl ⊢
  have hl : lv_has ls 5 [(0, .ref h0), (1, .int p0), (2, .int p1)] := hl
  refine xw_cut (g2 := F0 m 37 ls [.int (xd_good p0 p1)]) ?_ (fun K_37 => ?_)
  · skip
    refine lv_istore_n (lv' := [(3, .int (xd_good p0 p1)), (0, .ref h0), (1, .int p0), (2, .int p1)]) hx hb dX0_set_37 rfl hl (by decide) rfl (fun ls hl => ?_)
    refine lv_iload_n hx hb dX0_set_38 rfl (lv_at hl 0 rfl) ?_
    refine lv_if_ne (tgt := 45) hx hb dX0_set_39 (by decide) (fun c_1 => ?_) (fun c_1 => ?_)
    · skip
      refine lv_aload_n hx hb dX0_set_45 rfl (lv_at hl 1 rfl) ?_
      refine lv_iconst (v := 1) hx hb dX0_set_46 (by decide) ?_
      refine va_put (D := (dC, dI)) (ci := 0) (v := .int 1) (ty := .boolean) (C := RX0) (T := TX0) (N := 9) hx hb hts in_X0 tyX0 tyX0_ok nmX0 hown hK hP hD hS 0 rfl rfl 0 (by decide) (hts _ q25) (fun _ h9 => h9) rfl (by decide +kernel) rfl rfl (Nat.le_of_ble_eq_true rfl) dX0_set_47 (fun H locs hP hD hS => ?_)
      have hP : va_P (dC, dI) vwCl [(h0, .inr (0, [.int 1, .int σ.2.1, .int σ.2.2.1, .int σ.2.2.2.1, .ref h1, .ref h2, .int σ.2.2.2.2.1, .int σ.2.2.2.2.2.1, .int σ.2.2.2.2.2.2.1])), (h1, .inl (k1, 4, .inl σ.2.2.2.2.2.2.2.1)), (h2, .inl (k2, 4, .inl σ.2.2.2.2.2.2.2.2))] H := hP
      have hD : va_D A [(h0, .inr (0, [.int 1, .int σ.2.1, .int σ.2.2.1, .int σ.2.2.2.1, .ref h1, .ref h2, .int σ.2.2.2.2.1, .int σ.2.2.2.2.2.1, .int σ.2.2.2.2.2.2.1])), (h1, .inl (k1, 4, .inl σ.2.2.2.2.2.2.2.1)), (h2, .inl (k2, 4, .inl σ.2.2.2.2.2.2.2.2))] := hD
      refine lv_aload_n hx hb dX0_set_50 rfl (lv_at hl 1 rfl) ?_
      refine lv_iconst (v := 0) hx hb dX0_set_51 (by decide) ?_
      refine va_put (D := (dC, dI)) (ci := 0) (v := .int 0) (ty := .boolean) (C := RX0) (T := TX0) (N := 9) hx hb hts in_X0 tyX0 tyX0_ok nmX0 hown hK hP hD hS 0 rfl rfl 6 (by decide) (hts _ q31) (fun _ h9 => h9) rfl (by decide +kernel) rfl rfl (Nat.le_of_ble_eq_true rfl) dX0_set_52 (fun H locs hP hD hS => ?_)
      have hP : va_P (dC, dI) vwCl [(h0, .inr (0, [.int 1, .int σ.2.1, .int σ.2.2.1, .int σ.2.2.2.1, .ref h1, .ref h2, .int 0, .int σ.2.2.2.2.2.1, .int σ.2.2.2.2.2.2.1])), (h1, .inl (k1, 4, .inl σ.2.2.2.2.2.2.2.1)), (h2, .inl (k2, 4, .inl σ.2.2.2.2.2.2.2.2))] H := hP
      have hD : va_D A [(h0, .inr (0, [.int 1, .int σ.2.1, .int σ.2.2.1, .int σ.2.2.2.1, .ref h1, .ref h2, .int 0, .int σ.2.2.2.2.2.1, .int σ.2.2.2.2.2.2.1])), (h1, .inl (k1, 4, .inl σ.2.2.2.2.2.2.2.1)), (h2, .inl (k2, 4, .inl σ.2.2.2.2.2.2.2.2))] := hD
      refine lv_aload_n hx hb dX0_set_55 rfl (lv_at hl 1 rfl) ?_
      refine lv_iload_n hx hb dX0_set_56 rfl (lv_at hl 2 rfl) ?_
      refine va_put (D := (dC, dI)) (ci := 0) (v := .int p0) (ty := .int) (C := RX0) (T := TX0) (N := 9) hx hb hts in_X0 tyX0 tyX0_ok nmX0 hown hK hP hD hS 0 rfl rfl 2 (by decide) (hts _ q27) (fun _ h9 => h9) rfl (by decide +kernel) rfl rfl (Nat.le_of_ble_eq_true rfl) dX0_set_57 (fun H locs hP hD hS => ?_)
      have hP : va_P (dC, dI) vwCl [(h0, .inr (0, [.int 1, .int σ.2.1, .int p0, .int σ.2.2.2.1, .ref h1, .ref h2, .int 0, .int σ.2.2.2.2.2.1, .int σ.2.2.2.2.2.2.1])), (h1, .inl (k1, 4, .inl σ.2.2.2.2.2.2.2.1)), (h2, .inl (k2, 4, .inl σ.2.2.2.2.2.2.2.2))] H := hP
      have hD : va_D A [(h0, .inr (0, [.int 1, .int σ.2.1, .int p0, .int σ.2.2.2.1, .ref h1, .ref h2, .int 0, .int σ.2.2.2.2.2.1, .int σ.2.2.2.2.2.2.1])), (h1, .inl (k1, 4, .inl σ.2.2.2.2.2.2.2.1)), (h2, .inl (k2, 4, .inl σ.2.2.2.2.2.2.2.2))] := hD
      refine lv_aload_n hx hb dX0_set_60 rfl (lv_at hl 1 rfl) ?_
      refine lv_iload_n hx hb dX0_set_61 rfl (lv_at hl 3 rfl) ?_
      refine va_put (D := (dC, dI)) (ci := 0) (v := .int p1) (ty := .int) (C := RX0) (T := TX0) (N := 9) hx hb hts in_X0 tyX0 tyX0_ok nmX0 hown hK hP hD hS 0 rfl rfl 3 (by decide) (hts _ q28) (fun _ h9 => h9) rfl (by decide +kernel) rfl rfl (Nat.le_of_ble_eq_true rfl) dX0_set_62 (fun H locs hP hD hS => ?_)
      have hP : va_P (dC, dI) vwCl [(h0, .inr (0, [.int 1, .int σ.2.1, .int p0, .int p1, .ref h1, .ref h2, .int 0, .int σ.2.2.2.2.2.1, .int σ.2.2.2.2.2.2.1])), (h1, .inl (k1, 4, .inl σ.2.2.2.2.2.2.2.1)), (h2, .inl (k2, 4, .inl σ.2.2.2.2.2.2.2.2))] H := hP
      have hD : va_D A [(h0, .inr (0, [.int 1, .int σ.2.1, .int p0, .int p1, .ref h1, .ref h2, .int 0, .int σ.2.2.2.2.2.1, .int σ.2.2.2.2.2.2.1])), (h1, .inl (k1, 4, .inl σ.2.2.2.2.2.2.2.1)), (h2, .inl (k2, 4, .inl σ.2.2.2.2.2.2.2.2))] := hD
      refine lv_aload_n hx hb dX0_set_65 rfl (lv_at hl 1 rfl) ?_
      refine xw_cut (g2 := F0 m 81 ls [.int (xd_stype p0 p1), .ref h0]) ?_ (fun K_81 => ?_)
      · skip
        refine va_put (D := (dC, dI)) (ci := 0) (v := .int (xd_stype p0 p1)) (ty := .int) (C := RX0) (T := TX0) (N := 9) hx hb hts in_X0 tyX0 tyX0_ok nmX0 hown hK hP hD hS 0 rfl rfl 1 (by decide) (hts _ q26) (fun _ h9 => h9) rfl (by decide +kernel) rfl rfl (Nat.le_of_ble_eq_true rfl) dX0_set_81 (fun H locs hP hD hS => ?_)
        have hP : va_P (dC, dI) vwCl [(h0, .inr (0, [.int 1, .int (xd_stype p0 p1), .int p0, .int p1, .ref h1, .ref h2, .int 0, .int σ.2.2.2.2.2.1, .int σ.2.2.2.2.2.2.1])), (h1, .inl (k1, 4, .inl σ.2.2.2.2.2.2.2.1)), (h2, .inl (k2, 4, .inl σ.2.2.2.2.2.2.2.2))] H := hP
        have hD : va_D A [(h0, .inr (0, [.int 1, .int (xd_stype p0 p1), .int p0, .int p1, .ref h1, .ref h2, .int 0, .int σ.2.2.2.2.2.1, .int σ.2.2.2.2.2.2.1])), (h1, .inl (k1, 4, .inl σ.2.2.2.2.2.2.2.1)), (h2, .inl (k2, 4, .inl σ.2.2.2.2.2.2.2.2))] := hD
        refine lv_iconst (v := 0) hx hb dX0_set_84 (by decide) ?_
        refine lv_istore (lv' := [(4, .int 0), (3, .int (xd_good p0 p1)), (0, .ref h0), (1, .int p0), (2, .int p1)]) hx hb dX0_set_85 hl (by decide) rfl (fun ls hl => ?_)
        refine lv_iload hx hb dX0_set_87 (lv_at hl 0 rfl) ?_
        refine lv_iconst (v := 4) hx hb dX0_set_89 (by decide) ?_
        refine lv_icmp_ge (tgt := 107) hx hb dX0_set_90 (by decide) (fun c_2 => absurd c_2 (by decide)) (fun _ => ?_)
        refine lv_aload_n hx hb dX0_set_93 rfl (lv_at hl 2 rfl) ?_
        refine va_get (D := (dC, dI)) (ci := 0) (v := .ref h1) (C := RX0) (T := TX0) (N := 9) hx hb hts in_X0 hown hK hP 0 rfl rfl 4 (by decide) (hts _ q29) (fun _ h9 => h9) rfl dX0_set_94 ?_
        refine lv_iload hx hb dX0_set_97 (lv_at hl 0 rfl) ?_
        refine lv_iconst (v := 0) hx hb dX0_set_99 (by decide) ?_
        refine va_bast hx hb hK hP hD hS 1 0 rfl rfl xi_40 dX0_set_100 (fun H locs hP hD hS => ?_)
        have hP : va_P (dC, dI) vwCl [(h0, .inr (0, [.int 1, .int (xd_stype p0 p1), .int p0, .int p1, .ref h1, .ref h2, .int 0, .int σ.2.2.2.2.2.1, .int σ.2.2.2.2.2.2.1])), (h1, .inl (k1, 4, .inl (upd σ.2.2.2.2.2.2.2.1 0 0))), (h2, .inl (k2, 4, .inl σ.2.2.2.2.2.2.2.2))] H := hP
        have hD : va_D A [(h0, .inr (0, [.int 1, .int (xd_stype p0 p1), .int p0, .int p1, .ref h1, .ref h2, .int 0, .int σ.2.2.2.2.2.1, .int σ.2.2.2.2.2.2.1])), (h1, .inl (k1, 4, .inl (upd σ.2.2.2.2.2.2.2.1 0 0))), (h2, .inl (k2, 4, .inl σ.2.2.2.2.2.2.2.2))] := hD
        refine lv_iinc (v := 1) (lv' := [(4, .int 1), (3, .int (xd_good p0 p1)), (0, .ref h0), (1, .int p0), (2, .int p1)]) hx hb dX0_set_101 hl (k := 0) rfl (by decide) (by decide) rfl (fun ls hl => ?_)
        refine lv_goto (tgt := 87) hx hb dX0_set_104 (by decide) ?_
        refine lv_iload hx hb dX0_set_87 (lv_at hl 0 rfl) ?_
        refine lv_iconst (v := 4) hx hb dX0_set_89 (by decide) ?_
        refine lv_icmp_ge (tgt := 107) hx hb dX0_set_90 (by decide) (fun c_3 => absurd c_3 (by decide)) (fun _ => ?_)
        refine lv_aload_n hx hb dX0_set_93 rfl (lv_at hl 2 rfl) ?_
        refine va_get (D := (dC, dI)) (ci := 0) (v := .ref h1) (C := RX0) (T := TX0) (N := 9) hx hb hts in_X0 hown hK hP 0 rfl rfl 4 (by decide) (hts _ q29) (fun _ h9 => h9) rfl dX0_set_94 ?_
        refine lv_iload hx hb dX0_set_97 (lv_at hl 0 rfl) ?_
        refine lv_iconst (v := 0) hx hb dX0_set_99 (by decide) ?_
        refine va_bast hx hb hK hP hD hS 1 0 rfl rfl xi_41 dX0_set_100 (fun H locs hP hD hS => ?_)
        have hP : va_P (dC, dI) vwCl [(h0, .inr (0, [.int 1, .int (xd_stype p0 p1), .int p0, .int p1, .ref h1, .ref h2, .int 0, .int σ.2.2.2.2.2.1, .int σ.2.2.2.2.2.2.1])), (h1, .inl (k1, 4, .inl (upd (upd σ.2.2.2.2.2.2.2.1 0 0) 1 0))), (h2, .inl (k2, 4, .inl σ.2.2.2.2.2.2.2.2))] H := hP
        have hD : va_D A [(h0, .inr (0, [.int 1, .int (xd_stype p0 p1), .int p0, .int p1, .ref h1, .ref h2, .int 0, .int σ.2.2.2.2.2.1, .int σ.2.2.2.2.2.2.1])), (h1, .inl (k1, 4, .inl (upd (upd σ.2.2.2.2.2.2.2.1 0 0) 1 0))), (h2, .inl (k2, 4, .inl σ.2.2.2.2.2.2.2.2))] := hD
        refine lv_iinc (v := 2) (lv' := [(4, .int 2), (3, .int (xd_good p0 p1)), (0, .ref h0), (1, .int p0), (2, .int p1)]) hx hb dX0_set_101 hl (k := 0) rfl (by decide) (by decide) rfl (fun ls hl => ?_)
        refine lv_goto (tgt := 87) hx hb dX0_set_104 (by decide) ?_
        refine lv_iload hx hb dX0_set_87 (lv_at hl 0 rfl) ?_
        refine lv_iconst (v := 4) hx hb dX0_set_89 (by decide) ?_
        refine lv_icmp_ge (tgt := 107) hx hb dX0_set_90 (by decide) (fun c_4 => absurd c_4 (by decide)) (fun _ => ?_)
        refine lv_aload_n hx hb dX0_set_93 rfl (lv_at hl 2 rfl) ?_
        refine va_get (D := (dC, dI)) (ci := 0) (v := .ref h1) (C := RX0) (T := TX0) (N := 9) hx hb hts in_X0 hown hK hP 0 rfl rfl 4 (by decide) (hts _ q29) (fun _ h9 => h9) rfl dX0_set_94 ?_
        refine lv_iload hx hb dX0_set_97 (lv_at hl 0 rfl) ?_
        refine lv_iconst (v := 0) hx hb dX0_set_99 (by decide) ?_
        refine va_bast hx hb hK hP hD hS 1 0 rfl rfl xi_42 dX0_set_100 (fun H locs hP hD hS => ?_)
        have hP : va_P (dC, dI) vwCl [(h0, .inr (0, [.int 1, .int (xd_stype p0 p1), .int p0, .int p1, .ref h1, .ref h2, .int 0, .int σ.2.2.2.2.2.1, .int σ.2.2.2.2.2.2.1])), (h1, .inl (k1, 4, .inl (upd (upd (upd σ.2.2.2.2.2.2.2.1 0 0) 1 0) 2 0))), (h2, .inl (k2, 4, .inl σ.2.2.2.2.2.2.2.2))] H := hP
        have hD : va_D A [(h0, .inr (0, [.int 1, .int (xd_stype p0 p1), .int p0, .int p1, .ref h1, .ref h2, .int 0, .int σ.2.2.2.2.2.1, .int σ.2.2.2.2.2.2.1])), (h1, .inl (k1, 4, .inl (upd (upd (upd σ.2.2.2.2.2.2.2.1 0 0) 1 0) 2 0))), (h2, .inl (k2, 4, .inl σ.2.2.2.2.2.2.2.2))] := hD
        refine lv_iinc (v := 3) (lv' := [(4, .int 3), (3, .int (xd_good p0 p1)), (0, .ref h0), (1, .int p0), (2, .int p1)]) hx hb dX0_set_101 hl (k := 0) rfl (by decide) (by decide) rfl (fun ls hl => ?_)
        refine lv_goto (tgt := 87) hx hb dX0_set_104 (by decide) ?_
        refine lv_iload hx hb dX0_set_87 (lv_at hl 0 rfl) ?_
        refine lv_iconst (v := 4) hx hb dX0_set_89 (by decide) ?_
        refine lv_icmp_ge (tgt := 107) hx hb dX0_set_90 (by decide) (fun c_5 => absurd c_5 (by decide)) (fun _ => ?_)
        refine lv_aload_n hx hb dX0_set_93 rfl (lv_at hl 2 rfl) ?_
        refine va_get (D := (dC, dI)) (ci := 0) (v := .ref h1) (C := RX0) (T := TX0) (N := 9) hx hb hts in_X0 hown hK hP 0 rfl rfl 4 (by decide) (hts _ q29) (fun _ h9 => h9) rfl dX0_set_94 ?_
        refine lv_iload hx hb dX0_set_97 (lv_at hl 0 rfl) ?_
        refine lv_iconst (v := 0) hx hb dX0_set_99 (by decide) ?_
        refine va_bast hx hb hK hP hD hS 1 0 rfl rfl xi_43 dX0_set_100 (fun H locs hP hD hS => ?_)
        have hP : va_P (dC, dI) vwCl [(h0, .inr (0, [.int 1, .int (xd_stype p0 p1), .int p0, .int p1, .ref h1, .ref h2, .int 0, .int σ.2.2.2.2.2.1, .int σ.2.2.2.2.2.2.1])), (h1, .inl (k1, 4, .inl (upd (upd (upd (upd σ.2.2.2.2.2.2.2.1 0 0) 1 0) 2 0) 3 0))), (h2, .inl (k2, 4, .inl σ.2.2.2.2.2.2.2.2))] H := hP
        have hD : va_D A [(h0, .inr (0, [.int 1, .int (xd_stype p0 p1), .int p0, .int p1, .ref h1, .ref h2, .int 0, .int σ.2.2.2.2.2.1, .int σ.2.2.2.2.2.2.1])), (h1, .inl (k1, 4, .inl (upd (upd (upd (upd σ.2.2.2.2.2.2.2.1 0 0) 1 0) 2 0) 3 0))), (h2, .inl (k2, 4, .inl σ.2.2.2.2.2.2.2.2))] := hD
        refine lv_iinc (v := 4) (lv' := [(4, .int 4), (3, .int (xd_good p0 p1)), (0, .ref h0), (1, .int p0), (2, .int p1)]) hx hb dX0_set_101 hl (k := 0) rfl (by decide) (by decide) rfl (fun ls hl => ?_)
        refine lv_goto (tgt := 87) hx hb dX0_set_104 (by decide) ?_
        refine lv_iload hx hb dX0_set_87 (lv_at hl 0 rfl) ?_
        refine lv_iconst (v := 4) hx hb dX0_set_89 (by decide) ?_
        refine lv_icmp_ge (tgt := 107) hx hb dX0_set_90 (by decide) (fun _ => ?_) (fun c_6 => absurd c_6 (by decide))
        refine lv_aload_n hx hb dX0_set_107 rfl (lv_at hl 2 rfl) ?_
        refine va_get (D := (dC, dI)) (ci := 0) (v := .int (xd_stype p0 p1)) (C := RX0) (T := TX0) (N := 9) hx hb hts in_X0 hown hK hP 0 rfl rfl 1 (by decide) (hts _ q26) (fun _ h9 => h9) rfl dX0_set_108 ?_
        have hP9 : va_P (dC, dI) vwCl (xd_W h0 h1 h2 k1 k2 (xd_setS σ p0 p1)) H := by
          rw [show xd_setS σ p0 p1 = (1, xd_stype p0 p1, p0, p1, 0, σ.2.2.2.2.2.1, σ.2.2.2.2.2.2.1, upd (upd (upd (upd σ.2.2.2.2.2.2.2.1 0 0) 1 0) 2 0) 3 0, σ.2.2.2.2.2.2.2.2) from by simp only [xd_setR, xd_setS, if_neg c_1]]
          exact hP
        exact W.iret hx hb hr (fun t ht _ => xw_m (by simp only [xd_setR, xd_setS, if_neg c_1]) hP9 hS ht) hS.2.2 dX0_set_111
      · skip
        refine lv_iload_n hx hb dX0_set_66 rfl (lv_at hl 2 rfl) ?_
        refine lv_iconst (v := 2) hx hb dX0_set_67 (by decide) ?_
        refine lv_icmp_ne (tgt := 78) hx hb dX0_set_68 (by decide) (fun c_7 => ?_) (fun c_7 => ?_)
        · skip
          refine lv_iload_n hx hb dX0_set_78 rfl (lv_at hl 2 rfl) ?_
          refine lv_iconst (v := 1) hx hb dX0_set_79 (by decide) ?_
          refine lv_iadd hx hb dX0_set_80 ?_
          exact xw_top (by simp only [xd_stype, if_neg c_1, if_neg c_7]) K_81
        · skip
          refine lv_iload_n hx hb dX0_set_71 rfl (lv_at hl 3 rfl) ?_
          refine xw_S (v := xd_tof p1) (As := [.int p1]) (rest := [.ref h0]) ⟨hx, hb, hml, hown, hts⟩ (metX0_typeOfFunction l p1) (va_cwS 1 hts (lw_S q58 q59 q15 q60) rfl rfl rfl hdX0_typeOfFunction ⟨Nat.le_of_ble_eq_true rfl, Nat.le_of_ble_eq_true rfl⟩) rfl hl.1 rfl (Nat.le_of_ble_eq_true rfl) dX0_set_72 ⟨Nat.zero_le _, Nat.zero_le _⟩ ?_
          refine lv_goto (tgt := 81) hx hb dX0_set_75 (by decide) ?_
          exact xw_top (by simp only [xd_stype, if_neg c_1, if_pos c_7]) K_81
    · skip
      refine lv_bipush (v := (-100)) hx hb dX0_set_42 (by decide) ?_
      have hP9 : va_P (dC, dI) vwCl (xd_W h0 h1 h2 k1 k2 (xd_setS σ p0 p1)) s.heap := by
        rw [show xd_setS σ p0 p1 = σ from by simp only [xd_setR, xd_setS, if_pos c_1]]
        exact hP
      exact W.iret hx hb hr (fun t ht _ => xw_m (by simp only [xd_setR, xd_setS, if_pos c_1]) hP9 hS ht) hS.2.2 dX0_set_44
  · skip
    refine lv_iload_n hx hb dX0_set_0 rfl (lv_at hl 1 rfl) ?_
    refine lv_if_eq (tgt := 32) hx hb dX0_set_1 (by decide) (fun c_8 => ?_) (fun c_8 => ?_)
    · skip
      refine lv_iconst (v := 1) hx hb dX0_set_32 (by decide) ?_
      refine lv_goto (tgt := 37) hx hb dX0_set_33 (by decide) ?_
      exact xw_top (by simp only [xd_good, xd_good2, if_pos c_8]) K_37
    · skip
      refine lv_iload_n hx hb dX0_set_4 rfl (lv_at hl 1 rfl) ?_
      refine lv_iconst (v := 1) hx hb dX0_set_5 (by decide) ?_
      refine lv_icmp_ne (tgt := 18) hx hb dX0_set_6 (by decide) (fun c_9 => ?_) (fun c_9 => ?_)
      · skip
        refine lv_iload_n hx hb dX0_set_18 rfl (lv_at hl 1 rfl) ?_
        refine lv_iconst (v := 2) hx hb dX0_set_19 (by decide) ?_
        refine lv_icmp_ne (tgt := 36) hx hb dX0_set_20 (by decide) (fun c_10 => ?_) (fun c_10 => ?_)
        · skip
          refine lv_iconst (v := 0) hx hb dX0_set_36 (by decide) ?_
          exact xw_top (by simp only [xd_good, xd_good2, if_neg c_8, if_neg c_9, if_neg c_10]) K_37
        · skip
          refine lv_iload_n hx hb dX0_set_23 rfl (lv_at hl 2 rfl) ?_
          refine lv_if_lt (tgt := 36) hx hb dX0_set_24 (by decide) (fun c_11 => ?_) (fun c_11 => ?_)
          · skip
            refine lv_iconst (v := 0) hx hb dX0_set_36 (by decide) ?_
            exact xw_top (by simp only [xd_good, xd_good2, if_neg c_8, if_neg c_9, if_pos c_10, if_pos c_11]) K_37
          · skip
            refine lv_iload_n hx hb dX0_set_27 rfl (lv_at hl 2 rfl) ?_
            refine lv_iconst (v := 5) hx hb dX0_set_28 (by decide) ?_
            refine lv_icmp_gt (tgt := 36) hx hb dX0_set_29 (by decide) (fun c_12 => ?_) (fun c_12 => ?_)
            · skip
              refine lv_iconst (v := 0) hx hb dX0_set_36 (by decide) ?_
              exact xw_top (by simp only [xd_good, xd_good2, if_neg c_8, if_neg c_9, if_pos c_10, if_neg c_11, if_pos c_12]) K_37
            · skip
              refine lv_iconst (v := 1) hx hb dX0_set_32 (by decide) ?_
              refine lv_goto (tgt := 37) hx hb dX0_set_33 (by decide) ?_
              exact xw_top (by simp only [xd_good, xd_good2, if_neg c_8, if_neg c_9, if_pos c_10, if_neg c_11, if_neg c_12]) K_37
      · skip
        refine lv_iload_n hx hb dX0_set_9 rfl (lv_at hl 2 rfl) ?_
        refine lv_if_eq (tgt := 32) hx hb dX0_set_10 (by decide) (fun c_13 => ?_) (fun c_13 => ?_)
        · skip
          refine lv_iconst (v := 1) hx hb dX0_set_32 (by decide) ?_
          refine lv_goto (tgt := 37) hx hb dX0_set_33 (by decide) ?_
          exact xw_top (by simp only [xd_good, xd_good2, if_neg c_8, if_pos c_9, if_pos c_13]) K_37
        · skip
          refine lv_iload_n hx hb dX0_set_13 rfl (lv_at hl 2 rfl) ?_
          refine lv_iconst (v := 1) hx hb dX0_set_14 (by decide) ?_
          refine lv_icmp_eq (tgt := 32) hx hb dX0_set_15 (by decide) (fun c_14 => ?_) (fun c_14 => ?_)
          · skip
            refine lv_iconst (v := 1) hx hb dX0_set_32 (by decide) ?_
            refine lv_goto (tgt := 37) hx hb dX0_set_33 (by decide) ?_
            exact xw_top (by simp only [xd_good, xd_good2, if_neg c_8, if_pos c_9, if_neg c_13, if_pos c_14]) K_37
          · skip
            refine lv_iload_n hx hb dX0_set_18 rfl (lv_at hl 1 rfl) ?_
            refine lv_iconst (v := 2) hx hb dX0_set_19 (by decide) ?_
            refine lv_icmp_ne (tgt := 36) hx hb dX0_set_20 (by decide) (fun c_15 => ?_) (fun c_15 => ?_)
            · skip
              refine lv_iconst (v := 0) hx hb dX0_set_36 (by decide) ?_
              exact xw_top (by simp only [xd_good, xd_good2, if_neg c_8, if_pos c_9, if_neg c_13, if_neg c_14, if_neg c_15]) K_37
            · skip
              refine lv_iload_n hx hb dX0_set_23 rfl (lv_at hl 2 rfl) ?_
              refine lv_if_lt (tgt := 36) hx hb dX0_set_24 (by decide) (fun c_16 => ?_) (fun c_16 => ?_)
              · skip
                refine lv_iconst (v := 0) hx hb dX0_set_36 (by decide) ?_
                exact xw_top (by simp only [xd_good, xd_good2, if_neg c_8, if_pos c_9, if_neg c_13, if_neg c_14, if_pos c_15, if_pos c_16]) K_37
              · skip
                refine lv_iload_n hx hb dX0_set_27 rfl (lv_at hl 2 rfl) ?_
                refine lv_iconst (v := 5) hx hb dX0_set_28 (by decide) ?_
                refine lv_icmp_gt (tgt := 36) hx hb dX0_set_29 (by decide) (fun c_17 => ?_) (fun c_17 => ?_)
                · skip
                  refine lv_iconst (v := 0) hx hb dX0_set_36 (by decide) ?_
                  exact xw_top (by simp only [xd_good, xd_good2, if_neg c_8, if_pos c_9, if_neg c_13, if_neg c_14, if_pos c_15, if_neg c_16, if_pos c_17]) K_37
                · skip
                  refine lv_iconst (v := 1) hx hb dX0_set_32 (by decide) ?_
                  refine lv_goto (tgt := 37) hx hb dX0_set_33 (by decide) ?_
                  exact xw_top (by simp only [xd_good, xd_good2, if_neg c_8, if_pos c_9, if_neg c_13, if_neg c_14, if_pos c_15, if_neg c_16, if_neg c_17]) K_37
abbrev wsX0_fail : List Cond := ws_ yX0_fail cX0_fail 2 (some .int)
theorem hdX0_fail : yX0_fail.cls = RX0 ∧ yX0_fail.cls ≠ "java/lang/invoke/MethodHandle" ∧ yX0_fail.cls ≠ "java/lang/invoke/VarHandle" ∧ (parseMethodDescriptor yX0_fail.desc).map (fun d => d.parameters.length) = some 1 := by decide +kernel
set_option maxHeartbeats 4000000 in
set_option maxRecDepth 100000 in
theorem metX0_fail (l : Launch) (dC : Nat → ClassId) (dI : Nat → Nat → Nat) (h0 h1 h2 : Nat) (k1 k2 : ClassId) (σ : xd_T) (p0 : Int32) : Met l yX0_fail wsX0_fail ({ frames := 0, cells := 0, slots := 0, locals := 0 }) (va_Pc [.ref h0, .int p0] (xw_Wr (dC, dI) vwCl (xd_W h0 h1 h2 k1 k2 σ) [(k1, .byte), (k2, .byte)])) (xw_M (dC, dI) vwCl (some (.int (p0))) (xd_W h0 h1 h2 k1 k2 (xd_flS σ)) (xw_ad (xd_W h0 h1 h2 k1 k2 σ))) 0 0 (xw_ad (xd_W h0 h1 h2 k1 k2 σ)) := by
  refine Met.ofW (cc := cX0_fail) (maxL := 2) (ret := (some .int)) (by decide) rfl ?_
  intro p e s m args below meth c s₁ B hml hv
  obtain ⟨rfl, hP, hK, hD0⟩ := hv
  have hx := B.exec
  have hb := B.bytes
  have hr := B.returns
  have hts := atoms_spec (ws := wsX0_fail) B.pre
  have hts : ∀ w ∈ lw_all, w.before _ s = true := fun w h => hts w (List.mem_cons_of_mem _ h)
  have hown : s.vm.findClass RX0 = some m.cls := findClass_of_methodNamed B.named
  have hlocks := B.notSynchronized
  have hD := xw_D_self hD0
  generalize xw_ad (xd_W h0 h1 h2 k1 k2 σ) = A at hD ⊢
  have hS : va_S A s.heap s.heap [] := va_S.rf
  have hP : va_P (dC, dI) vwCl [(h0, .inr (0, [.int σ.1, .int σ.2.1, .int σ.2.2.1, .int σ.2.2.2.1, .ref h1, .ref h2, .int σ.2.2.2.2.1, .int σ.2.2.2.2.2.1, .int σ.2.2.2.2.2.2.1])), (h1, .inl (k1, 4, .inl σ.2.2.2.2.2.2.2.1)), (h2, .inl (k2, 4, .inl σ.2.2.2.2.2.2.2.2))] s.heap := hP
  have hD : va_D A [(h0, .inr (0, [.int σ.1, .int σ.2.1, .int σ.2.2.1, .int σ.2.2.2.1, .ref h1, .ref h2, .int σ.2.2.2.2.1, .int σ.2.2.2.2.2.1, .int σ.2.2.2.2.2.2.1])), (h1, .inl (k1, 4, .inl σ.2.2.2.2.2.2.2.1)), (h2, .inl (k2, 4, .inl σ.2.2.2.2.2.2.2.2))] := hD
  have hl := lv_entry ([.ref h0, .int p0]) (n := 2) (Nat.le_of_ble_eq_true rfl)
  rw [lg_entry_eq]
  generalize (lg_sl ([.ref h0, .int p0]) ++ List.replicate (2 - (lg_sl ([.ref h0, .int p0])).length) Slot.unset).toArray = ls at hl ⊢
  have hl : lv_has ls 2 [(0, .ref h0), (1, .int p0)] := hl
  refine lv_aload_n hx hb dX0_fail_0 rfl (lv_at hl 0 rfl) ?_
  refine lv_iconst (v := 0) hx hb dX0_fail_1 (by decide) ?_
  refine va_put (D := (dC, dI)) (ci := 0) (v := .int 0) (ty := .boolean) (C := RX0) (T := TX0) (N := 9) hx hb hts in_X0 tyX0 tyX0_ok nmX0 hown hK hP hD hS 0 rfl rfl 0 (by decide) (hts _ q25) (fun _ h9 => h9) rfl (by decide +kernel) rfl rfl (Nat.le_of_ble_eq_true rfl) dX0_fail_2 (fun H locs hP hD hS => ?_)
  have hP : va_P (dC, dI) vwCl [(h0, .inr (0, [.int 0, .int σ.2.1, .int σ.2.2.1, .int σ.2.2.2.1, .ref h1, .ref h2, .int σ.2.2.2.2.1, .int σ.2.2.2.2.2.1, .int σ.2.2.2.2.2.2.1])), (h1, .inl (k1, 4, .inl σ.2.2.2.2.2.2.2.1)), (h2, .inl (k2, 4, .inl σ.2.2.2.2.2.2.2.2))] H := hP
  have hD : va_D A [(h0, .inr (0, [.int 0, .int σ.2.1, .int σ.2.2.1, .int σ.2.2.2.1, .ref h1, .ref h2, .int σ.2.2.2.2.1, .int σ.2.2.2.2.2.1, .int σ.2.2.2.2.2.2.1])), (h1, .inl (k1, 4, .inl σ.2.2.2.2.2.2.2.1)), (h2, .inl (k2, 4, .inl σ.2.2.2.2.2.2.2.2))] := hD
  refine lv_iload_n hx hb dX0_fail_5 rfl (lv_at hl 1 rfl) ?_
  have hP9 : va_P (dC, dI) vwCl (xd_W h0 h1 h2 k1 k2 (xd_flS σ)) H := by
    rw [show xd_flS σ = (0, σ.2.1, σ.2.2.1, σ.2.2.2.1, σ.2.2.2.2.1, σ.2.2.2.2.2.1, σ.2.2.2.2.2.2.1, σ.2.2.2.2.2.2.2.1, σ.2.2.2.2.2.2.2.2) from by simp only [xd_flS]]
    exact hP
  exact W.iret hx hb hr (fun t ht _ => xw_m (rfl) hP9 hS ht) hS.2.2 dX0_fail_6
abbrev wsX0_demandFirst : List Cond := ws_ yX0_demandFirst cX0_demandFirst 3 none
theorem hdX0_demandFirst : yX0_demandFirst.cls = RX0 ∧ yX0_demandFirst.cls ≠ "java/lang/invoke/MethodHandle" ∧ yX0_demandFirst.cls ≠ "java/lang/invoke/VarHandle" ∧ (parseMethodDescriptor yX0_demandFirst.desc).map (fun d => d.parameters.length) = some 2 := by decide +kernel
set_option maxHeartbeats 4000000 in
set_option maxRecDepth 100000 in
theorem metX0_demandFirst (l : Launch) (dC : Nat → ClassId) (dI : Nat → Nat → Nat) (h0 h1 h2 : Nat) (k1 k2 : ClassId) (σ : xd_T) (p0 p1 : Int32) : Met l yX0_demandFirst wsX0_demandFirst ({ frames := 0, cells := 0, slots := 0, locals := 0 }) (va_Pc [.ref h0, .int p0, .int p1] (xw_Wr (dC, dI) vwCl (xd_W h0 h1 h2 k1 k2 σ) [(k1, .byte), (k2, .byte)])) (xw_M (dC, dI) vwCl none (xd_W h0 h1 h2 k1 k2 (xd_dfS σ p0 p1)) (xw_ad (xd_W h0 h1 h2 k1 k2 σ))) 0 0 (xw_ad (xd_W h0 h1 h2 k1 k2 σ)) := by
  refine Met.ofW (cc := cX0_demandFirst) (maxL := 3) (ret := none) (by decide) rfl ?_
  intro p e s m args below meth c s₁ B hml hv
  obtain ⟨rfl, hP, hK, hD0⟩ := hv
  have hx := B.exec
  have hb := B.bytes
  have hr := B.returns
  have hts := atoms_spec (ws := wsX0_demandFirst) B.pre
  have hts : ∀ w ∈ lw_all, w.before _ s = true := fun w h => hts w (List.mem_cons_of_mem _ h)
  have hown : s.vm.findClass RX0 = some m.cls := findClass_of_methodNamed B.named
  have hlocks := B.notSynchronized
  have hD := xw_D_self hD0
  generalize xw_ad (xd_W h0 h1 h2 k1 k2 σ) = A at hD ⊢
  have hS : va_S A s.heap s.heap [] := va_S.rf
  have hP : va_P (dC, dI) vwCl [(h0, .inr (0, [.int σ.1, .int σ.2.1, .int σ.2.2.1, .int σ.2.2.2.1, .ref h1, .ref h2, .int σ.2.2.2.2.1, .int σ.2.2.2.2.2.1, .int σ.2.2.2.2.2.2.1])), (h1, .inl (k1, 4, .inl σ.2.2.2.2.2.2.2.1)), (h2, .inl (k2, 4, .inl σ.2.2.2.2.2.2.2.2))] s.heap := hP
  have hD : va_D A [(h0, .inr (0, [.int σ.1, .int σ.2.1, .int σ.2.2.1, .int σ.2.2.2.1, .ref h1, .ref h2, .int σ.2.2.2.2.1, .int σ.2.2.2.2.2.1, .int σ.2.2.2.2.2.2.1])), (h1, .inl (k1, 4, .inl σ.2.2.2.2.2.2.2.1)), (h2, .inl (k2, 4, .inl σ.2.2.2.2.2.2.2.2))] := hD
  have hl := lv_entry ([.ref h0, .int p0, .int p1]) (n := 3) (Nat.le_of_ble_eq_true rfl)
  rw [lg_entry_eq]
  generalize (lg_sl ([.ref h0, .int p0, .int p1]) ++ List.replicate (3 - (lg_sl ([.ref h0, .int p0, .int p1])).length) Slot.unset).toArray = ls at hl ⊢
  have hl : lv_has ls 3 [(0, .ref h0), (1, .int p0), (2, .int p1)] := hl
  refine lv_aload_n hx hb dX0_demandFirst_0 rfl (lv_at hl 0 rfl) ?_
  refine va_get (D := (dC, dI)) (ci := 0) (v := .ref h1) (C := RX0) (T := TX0) (N := 9) hx hb hts in_X0 hown hK hP 0 rfl rfl 4 (by decide) (hts _ q29) (fun _ h9 => h9) rfl dX0_demandFirst_1 ?_
  refine lv_iconst (v := 0) hx hb dX0_demandFirst_4 (by decide) ?_
  refine va_bald hx hb hK hP 1 0 rfl rfl xi_40 dX0_demandFirst_5 ?_
  refine xw_top (v := σ.2.2.2.2.2.2.2.1 0) rfl ?_
  refine lv_if_eq (tgt := 43) hx hb dX0_demandFirst_6 (by decide) (fun c_1 => ?_) (fun c_1 => ?_)
  · skip
    refine lv_aload_n hx hb dX0_demandFirst_43 rfl (lv_at hl 0 rfl) ?_
    refine va_get (D := (dC, dI)) (ci := 0) (v := .ref h1) (C := RX0) (T := TX0) (N := 9) hx hb hts in_X0 hown hK hP 0 rfl rfl 4 (by decide) (hts _ q29) (fun _ h9 => h9) rfl dX0_demandFirst_44 ?_
    refine lv_iconst (v := 0) hx hb dX0_demandFirst_47 (by decide) ?_
    refine lv_iload_n hx hb dX0_demandFirst_48 rfl (lv_at hl 1 rfl) ?_
    refine lv_i2b (v := p0.toInt8.toInt32) hx hb dX0_demandFirst_49 rfl ?_
    refine va_bast hx hb hK hP hD hS 1 0 rfl rfl xi_40 dX0_demandFirst_50 (fun H locs hP hD hS => ?_)
    have hP : va_P (dC, dI) vwCl [(h0, .inr (0, [.int σ.1, .int σ.2.1, .int σ.2.2.1, .int σ.2.2.2.1, .ref h1, .ref h2, .int σ.2.2.2.2.1, .int σ.2.2.2.2.2.1, .int σ.2.2.2.2.2.2.1])), (h1, .inl (k1, 4, .inl (upd σ.2.2.2.2.2.2.2.1 0 (xd_nb p0)))), (h2, .inl (k2, 4, .inl σ.2.2.2.2.2.2.2.2))] H := hP
    have hD : va_D A [(h0, .inr (0, [.int σ.1, .int σ.2.1, .int σ.2.2.1, .int σ.2.2.2.1, .ref h1, .ref h2, .int σ.2.2.2.2.1, .int σ.2.2.2.2.2.1, .int σ.2.2.2.2.2.2.1])), (h1, .inl (k1, 4, .inl (upd σ.2.2.2.2.2.2.2.1 0 (xd_nb p0)))), (h2, .inl (k2, 4, .inl σ.2.2.2.2.2.2.2.2))] := hD
    refine lv_aload_n hx hb dX0_demandFirst_51 rfl (lv_at hl 0 rfl) ?_
    refine va_get (D := (dC, dI)) (ci := 0) (v := .ref h2) (C := RX0) (T := TX0) (N := 9) hx hb hts in_X0 hown hK hP 0 rfl rfl 5 (by decide) (hts _ q30) (fun _ h9 => h9) rfl dX0_demandFirst_52 ?_
    refine lv_iconst (v := 0) hx hb dX0_demandFirst_55 (by decide) ?_
    refine lv_iload_n hx hb dX0_demandFirst_56 rfl (lv_at hl 2 rfl) ?_
    refine lv_i2b (v := p1.toInt8.toInt32) hx hb dX0_demandFirst_57 rfl ?_
    refine va_bast hx hb hK hP hD hS 2 1 rfl rfl xi_40 dX0_demandFirst_58 (fun H locs hP hD hS => ?_)
    have hP : va_P (dC, dI) vwCl [(h0, .inr (0, [.int σ.1, .int σ.2.1, .int σ.2.2.1, .int σ.2.2.2.1, .ref h1, .ref h2, .int σ.2.2.2.2.1, .int σ.2.2.2.2.2.1, .int σ.2.2.2.2.2.2.1])), (h1, .inl (k1, 4, .inl (upd σ.2.2.2.2.2.2.2.1 0 (xd_nb p0)))), (h2, .inl (k2, 4, .inl (upd σ.2.2.2.2.2.2.2.2 0 (xd_nb p1))))] H := hP
    have hD : va_D A [(h0, .inr (0, [.int σ.1, .int σ.2.1, .int σ.2.2.1, .int σ.2.2.2.1, .ref h1, .ref h2, .int σ.2.2.2.2.1, .int σ.2.2.2.2.2.1, .int σ.2.2.2.2.2.2.1])), (h1, .inl (k1, 4, .inl (upd σ.2.2.2.2.2.2.2.1 0 (xd_nb p0)))), (h2, .inl (k2, 4, .inl (upd σ.2.2.2.2.2.2.2.2 0 (xd_nb p1))))] := hD
    have hP9 : va_P (dC, dI) vwCl (xd_W h0 h1 h2 k1 k2 (xd_dfS σ p0 p1)) H := by
      rw [show xd_dfS σ p0 p1 = (σ.1, σ.2.1, σ.2.2.1, σ.2.2.2.1, σ.2.2.2.2.1, σ.2.2.2.2.2.1, σ.2.2.2.2.2.2.1, upd σ.2.2.2.2.2.2.2.1 0 (xd_nb p0), upd σ.2.2.2.2.2.2.2.2 0 (xd_nb p1)) from by simp only [xd_dfS, xd_dfW, xd_dfB, if_pos c_1]]
      exact hP
    exact W.vret hx hb hr (fun t ht _ => xw_mv hP9 hS ht) hS.2.2 dX0_demandFirst_59
  · skip
    refine lv_aload_n hx hb dX0_demandFirst_9 rfl (lv_at hl 0 rfl) ?_
    refine va_get (D := (dC, dI)) (ci := 0) (v := .ref h1) (C := RX0) (T := TX0) (N := 9) hx hb hts in_X0 hown hK hP 0 rfl rfl 4 (by decide) (hts _ q29) (fun _ h9 => h9) rfl dX0_demandFirst_10 ?_
    refine lv_iconst (v := 0) hx hb dX0_demandFirst_13 (by decide) ?_
    refine va_bald hx hb hK hP 1 0 rfl rfl xi_40 dX0_demandFirst_14 ?_
    refine xw_top (v := σ.2.2.2.2.2.2.2.1 0) rfl ?_
    refine lv_iload_n hx hb dX0_demandFirst_15 rfl (lv_at hl 1 rfl) ?_
    refine lv_icmp_eq (tgt := 43) hx hb dX0_demandFirst_16 (by decide) (fun c_2 => ?_) (fun c_2 => ?_)
    · skip
      refine lv_aload_n hx hb dX0_demandFirst_43 rfl (lv_at hl 0 rfl) ?_
      refine va_get (D := (dC, dI)) (ci := 0) (v := .ref h1) (C := RX0) (T := TX0) (N := 9) hx hb hts in_X0 hown hK hP 0 rfl rfl 4 (by decide) (hts _ q29) (fun _ h9 => h9) rfl dX0_demandFirst_44 ?_
      refine lv_iconst (v := 0) hx hb dX0_demandFirst_47 (by decide) ?_
      refine lv_iload_n hx hb dX0_demandFirst_48 rfl (lv_at hl 1 rfl) ?_
      refine lv_i2b (v := p0.toInt8.toInt32) hx hb dX0_demandFirst_49 rfl ?_
      refine va_bast hx hb hK hP hD hS 1 0 rfl rfl xi_40 dX0_demandFirst_50 (fun H locs hP hD hS => ?_)
      have hP : va_P (dC, dI) vwCl [(h0, .inr (0, [.int σ.1, .int σ.2.1, .int σ.2.2.1, .int σ.2.2.2.1, .ref h1, .ref h2, .int σ.2.2.2.2.1, .int σ.2.2.2.2.2.1, .int σ.2.2.2.2.2.2.1])), (h1, .inl (k1, 4, .inl (upd σ.2.2.2.2.2.2.2.1 0 (xd_nb p0)))), (h2, .inl (k2, 4, .inl σ.2.2.2.2.2.2.2.2))] H := hP
      have hD : va_D A [(h0, .inr (0, [.int σ.1, .int σ.2.1, .int σ.2.2.1, .int σ.2.2.2.1, .ref h1, .ref h2, .int σ.2.2.2.2.1, .int σ.2.2.2.2.2.1, .int σ.2.2.2.2.2.2.1])), (h1, .inl (k1, 4, .inl (upd σ.2.2.2.2.2.2.2.1 0 (xd_nb p0)))), (h2, .inl (k2, 4, .inl σ.2.2.2.2.2.2.2.2))] := hD
      refine lv_aload_n hx hb dX0_demandFirst_51 rfl (lv_at hl 0 rfl) ?_
      refine va_get (D := (dC, dI)) (ci := 0) (v := .ref h2) (C := RX0) (T := TX0) (N := 9) hx hb hts in_X0 hown hK hP 0 rfl rfl 5 (by decide) (hts _ q30) (fun _ h9 => h9) rfl dX0_demandFirst_52 ?_
      refine lv_iconst (v := 0) hx hb dX0_demandFirst_55 (by decide) ?_
      refine lv_iload_n hx hb dX0_demandFirst_56 rfl (lv_at hl 2 rfl) ?_
      refine lv_i2b (v := p1.toInt8.toInt32) hx hb dX0_demandFirst_57 rfl ?_
      refine va_bast hx hb hK hP hD hS 2 1 rfl rfl xi_40 dX0_demandFirst_58 (fun H locs hP hD hS => ?_)
      have hP : va_P (dC, dI) vwCl [(h0, .inr (0, [.int σ.1, .int σ.2.1, .int σ.2.2.1, .int σ.2.2.2.1, .ref h1, .ref h2, .int σ.2.2.2.2.1, .int σ.2.2.2.2.2.1, .int σ.2.2.2.2.2.2.1])), (h1, .inl (k1, 4, .inl (upd σ.2.2.2.2.2.2.2.1 0 (xd_nb p0)))), (h2, .inl (k2, 4, .inl (upd σ.2.2.2.2.2.2.2.2 0 (xd_nb p1))))] H := hP
      have hD : va_D A [(h0, .inr (0, [.int σ.1, .int σ.2.1, .int σ.2.2.1, .int σ.2.2.2.1, .ref h1, .ref h2, .int σ.2.2.2.2.1, .int σ.2.2.2.2.2.1, .int σ.2.2.2.2.2.2.1])), (h1, .inl (k1, 4, .inl (upd σ.2.2.2.2.2.2.2.1 0 (xd_nb p0)))), (h2, .inl (k2, 4, .inl (upd σ.2.2.2.2.2.2.2.2 0 (xd_nb p1))))] := hD
      have hP9 : va_P (dC, dI) vwCl (xd_W h0 h1 h2 k1 k2 (xd_dfS σ p0 p1)) H := by
        rw [show xd_dfS σ p0 p1 = (σ.1, σ.2.1, σ.2.2.1, σ.2.2.2.1, σ.2.2.2.2.1, σ.2.2.2.2.2.1, σ.2.2.2.2.2.2.1, upd σ.2.2.2.2.2.2.2.1 0 (xd_nb p0), upd σ.2.2.2.2.2.2.2.2 0 (xd_nb p1)) from by simp only [xd_dfS, xd_dfW, xd_dfB, if_neg c_1, if_pos c_2]]
        exact hP
      exact W.vret hx hb hr (fun t ht _ => xw_mv hP9 hS ht) hS.2.2 dX0_demandFirst_59
    · skip
      refine lv_aload_n hx hb dX0_demandFirst_19 rfl (lv_at hl 0 rfl) ?_
      refine va_get (D := (dC, dI)) (ci := 0) (v := .ref h1) (C := RX0) (T := TX0) (N := 9) hx hb hts in_X0 hown hK hP 0 rfl rfl 4 (by decide) (hts _ q29) (fun _ h9 => h9) rfl dX0_demandFirst_20 ?_
      refine lv_iconst (v := 1) hx hb dX0_demandFirst_23 (by decide) ?_
      refine lv_aload_n hx hb dX0_demandFirst_24 rfl (lv_at hl 0 rfl) ?_
      refine va_get (D := (dC, dI)) (ci := 0) (v := .ref h1) (C := RX0) (T := TX0) (N := 9) hx hb hts in_X0 hown hK hP 0 rfl rfl 4 (by decide) (hts _ q29) (fun _ h9 => h9) rfl dX0_demandFirst_25 ?_
      refine lv_iconst (v := 0) hx hb dX0_demandFirst_28 (by decide) ?_
      refine va_bald hx hb hK hP 1 0 rfl rfl xi_40 dX0_demandFirst_29 ?_
      refine xw_top (v := σ.2.2.2.2.2.2.2.1 0) rfl ?_
      refine va_bast hx hb hK hP hD hS 1 0 rfl rfl xi_41 dX0_demandFirst_30 (fun H locs hP hD hS => ?_)
      have hP : va_P (dC, dI) vwCl [(h0, .inr (0, [.int σ.1, .int σ.2.1, .int σ.2.2.1, .int σ.2.2.2.1, .ref h1, .ref h2, .int σ.2.2.2.2.1, .int σ.2.2.2.2.2.1, .int σ.2.2.2.2.2.2.1])), (h1, .inl (k1, 4, .inl (upd σ.2.2.2.2.2.2.2.1 1 (xd_n8 (σ.2.2.2.2.2.2.2.1 0))))), (h2, .inl (k2, 4, .inl σ.2.2.2.2.2.2.2.2))] H := hP
      have hD : va_D A [(h0, .inr (0, [.int σ.1, .int σ.2.1, .int σ.2.2.1, .int σ.2.2.2.1, .ref h1, .ref h2, .int σ.2.2.2.2.1, .int σ.2.2.2.2.2.1, .int σ.2.2.2.2.2.2.1])), (h1, .inl (k1, 4, .inl (upd σ.2.2.2.2.2.2.2.1 1 (xd_n8 (σ.2.2.2.2.2.2.2.1 0))))), (h2, .inl (k2, 4, .inl σ.2.2.2.2.2.2.2.2))] := hD
      refine lv_aload_n hx hb dX0_demandFirst_31 rfl (lv_at hl 0 rfl) ?_
      refine va_get (D := (dC, dI)) (ci := 0) (v := .ref h2) (C := RX0) (T := TX0) (N := 9) hx hb hts in_X0 hown hK hP 0 rfl rfl 5 (by decide) (hts _ q30) (fun _ h9 => h9) rfl dX0_demandFirst_32 ?_
      refine lv_iconst (v := 1) hx hb dX0_demandFirst_35 (by decide) ?_
      refine lv_aload_n hx hb dX0_demandFirst_36 rfl (lv_at hl 0 rfl) ?_
      refine va_get (D := (dC, dI)) (ci := 0) (v := .ref h2) (C := RX0) (T := TX0) (N := 9) hx hb hts in_X0 hown hK hP 0 rfl rfl 5 (by decide) (hts _ q30) (fun _ h9 => h9) rfl dX0_demandFirst_37 ?_
      refine lv_iconst (v := 0) hx hb dX0_demandFirst_40 (by decide) ?_
      refine va_bald hx hb hK hP 2 1 rfl rfl xi_40 dX0_demandFirst_41 ?_
      refine xw_top (v := σ.2.2.2.2.2.2.2.2 0) rfl ?_
      refine va_bast hx hb hK hP hD hS 2 1 rfl rfl xi_41 dX0_demandFirst_42 (fun H locs hP hD hS => ?_)
      have hP : va_P (dC, dI) vwCl [(h0, .inr (0, [.int σ.1, .int σ.2.1, .int σ.2.2.1, .int σ.2.2.2.1, .ref h1, .ref h2, .int σ.2.2.2.2.1, .int σ.2.2.2.2.2.1, .int σ.2.2.2.2.2.2.1])), (h1, .inl (k1, 4, .inl (upd σ.2.2.2.2.2.2.2.1 1 (xd_n8 (σ.2.2.2.2.2.2.2.1 0))))), (h2, .inl (k2, 4, .inl (upd σ.2.2.2.2.2.2.2.2 1 (xd_n8 (σ.2.2.2.2.2.2.2.2 0)))))] H := hP
      have hD : va_D A [(h0, .inr (0, [.int σ.1, .int σ.2.1, .int σ.2.2.1, .int σ.2.2.2.1, .ref h1, .ref h2, .int σ.2.2.2.2.1, .int σ.2.2.2.2.2.1, .int σ.2.2.2.2.2.2.1])), (h1, .inl (k1, 4, .inl (upd σ.2.2.2.2.2.2.2.1 1 (xd_n8 (σ.2.2.2.2.2.2.2.1 0))))), (h2, .inl (k2, 4, .inl (upd σ.2.2.2.2.2.2.2.2 1 (xd_n8 (σ.2.2.2.2.2.2.2.2 0)))))] := hD
      refine lv_aload_n hx hb dX0_demandFirst_43 rfl (lv_at hl 0 rfl) ?_
      refine va_get (D := (dC, dI)) (ci := 0) (v := .ref h1) (C := RX0) (T := TX0) (N := 9) hx hb hts in_X0 hown hK hP 0 rfl rfl 4 (by decide) (hts _ q29) (fun _ h9 => h9) rfl dX0_demandFirst_44 ?_
      refine lv_iconst (v := 0) hx hb dX0_demandFirst_47 (by decide) ?_
      refine lv_iload_n hx hb dX0_demandFirst_48 rfl (lv_at hl 1 rfl) ?_
      refine lv_i2b (v := p0.toInt8.toInt32) hx hb dX0_demandFirst_49 rfl ?_
      refine va_bast hx hb hK hP hD hS 1 0 rfl rfl xi_40 dX0_demandFirst_50 (fun H locs hP hD hS => ?_)
      have hP : va_P (dC, dI) vwCl [(h0, .inr (0, [.int σ.1, .int σ.2.1, .int σ.2.2.1, .int σ.2.2.2.1, .ref h1, .ref h2, .int σ.2.2.2.2.1, .int σ.2.2.2.2.2.1, .int σ.2.2.2.2.2.2.1])), (h1, .inl (k1, 4, .inl (upd (upd σ.2.2.2.2.2.2.2.1 1 (xd_n8 (σ.2.2.2.2.2.2.2.1 0))) 0 (xd_nb p0)))), (h2, .inl (k2, 4, .inl (upd σ.2.2.2.2.2.2.2.2 1 (xd_n8 (σ.2.2.2.2.2.2.2.2 0)))))] H := hP
      have hD : va_D A [(h0, .inr (0, [.int σ.1, .int σ.2.1, .int σ.2.2.1, .int σ.2.2.2.1, .ref h1, .ref h2, .int σ.2.2.2.2.1, .int σ.2.2.2.2.2.1, .int σ.2.2.2.2.2.2.1])), (h1, .inl (k1, 4, .inl (upd (upd σ.2.2.2.2.2.2.2.1 1 (xd_n8 (σ.2.2.2.2.2.2.2.1 0))) 0 (xd_nb p0)))), (h2, .inl (k2, 4, .inl (upd σ.2.2.2.2.2.2.2.2 1 (xd_n8 (σ.2.2.2.2.2.2.2.2 0)))))] := hD
      refine lv_aload_n hx hb dX0_demandFirst_51 rfl (lv_at hl 0 rfl) ?_
      refine va_get (D := (dC, dI)) (ci := 0) (v := .ref h2) (C := RX0) (T := TX0) (N := 9) hx hb hts in_X0 hown hK hP 0 rfl rfl 5 (by decide) (hts _ q30) (fun _ h9 => h9) rfl dX0_demandFirst_52 ?_
      refine lv_iconst (v := 0) hx hb dX0_demandFirst_55 (by decide) ?_
      refine lv_iload_n hx hb dX0_demandFirst_56 rfl (lv_at hl 2 rfl) ?_
      refine lv_i2b (v := p1.toInt8.toInt32) hx hb dX0_demandFirst_57 rfl ?_
      refine va_bast hx hb hK hP hD hS 2 1 rfl rfl xi_40 dX0_demandFirst_58 (fun H locs hP hD hS => ?_)
      have hP : va_P (dC, dI) vwCl [(h0, .inr (0, [.int σ.1, .int σ.2.1, .int σ.2.2.1, .int σ.2.2.2.1, .ref h1, .ref h2, .int σ.2.2.2.2.1, .int σ.2.2.2.2.2.1, .int σ.2.2.2.2.2.2.1])), (h1, .inl (k1, 4, .inl (upd (upd σ.2.2.2.2.2.2.2.1 1 (xd_n8 (σ.2.2.2.2.2.2.2.1 0))) 0 (xd_nb p0)))), (h2, .inl (k2, 4, .inl (upd (upd σ.2.2.2.2.2.2.2.2 1 (xd_n8 (σ.2.2.2.2.2.2.2.2 0))) 0 (xd_nb p1))))] H := hP
      have hD : va_D A [(h0, .inr (0, [.int σ.1, .int σ.2.1, .int σ.2.2.1, .int σ.2.2.2.1, .ref h1, .ref h2, .int σ.2.2.2.2.1, .int σ.2.2.2.2.2.1, .int σ.2.2.2.2.2.2.1])), (h1, .inl (k1, 4, .inl (upd (upd σ.2.2.2.2.2.2.2.1 1 (xd_n8 (σ.2.2.2.2.2.2.2.1 0))) 0 (xd_nb p0)))), (h2, .inl (k2, 4, .inl (upd (upd σ.2.2.2.2.2.2.2.2 1 (xd_n8 (σ.2.2.2.2.2.2.2.2 0))) 0 (xd_nb p1))))] := hD
      have hP9 : va_P (dC, dI) vwCl (xd_W h0 h1 h2 k1 k2 (xd_dfS σ p0 p1)) H := by
        rw [show xd_dfS σ p0 p1 = (σ.1, σ.2.1, σ.2.2.1, σ.2.2.2.1, σ.2.2.2.2.1, σ.2.2.2.2.2.1, σ.2.2.2.2.2.2.1, upd (upd σ.2.2.2.2.2.2.2.1 1 (xd_n8 (σ.2.2.2.2.2.2.2.1 0))) 0 (xd_nb p0), upd (upd σ.2.2.2.2.2.2.2.2 1 (xd_n8 (σ.2.2.2.2.2.2.2.2 0))) 0 (xd_nb p1)) from by simp only [xd_dfS, xd_dfW, xd_dfB, if_neg c_1, if_neg c_2]]
        exact hP
      exact W.vret hx hb hr (fun t ht _ => xw_mv hP9 hS ht) hS.2.2 dX0_demandFirst_59
abbrev wsX0_demandLast : List Cond := ws_ yX0_demandLast cX0_demandLast 3 none
theorem hdX0_demandLast : yX0_demandLast.cls = RX0 ∧ yX0_demandLast.cls ≠ "java/lang/invoke/MethodHandle" ∧ yX0_demandLast.cls ≠ "java/lang/invoke/VarHandle" ∧ (parseMethodDescriptor yX0_demandLast.desc).map (fun d => d.parameters.length) = some 2 := by decide +kernel
set_option maxHeartbeats 4000000 in
set_option maxRecDepth 100000 in
theorem metX0_demandLast (l : Launch) (dC : Nat → ClassId) (dI : Nat → Nat → Nat) (h0 h1 h2 : Nat) (k1 k2 : ClassId) (σ : xd_T) (p0 p1 : Int32) : Met l yX0_demandLast wsX0_demandLast ({ frames := 0, cells := 0, slots := 0, locals := 0 }) (va_Pc [.ref h0, .int p0, .int p1] (xw_Wr (dC, dI) vwCl (xd_W h0 h1 h2 k1 k2 σ) [(k1, .byte), (k2, .byte)])) (xw_M (dC, dI) vwCl none (xd_W h0 h1 h2 k1 k2 (xd_dlS σ p0 p1)) (xw_ad (xd_W h0 h1 h2 k1 k2 σ))) 0 0 (xw_ad (xd_W h0 h1 h2 k1 k2 σ)) := by
  refine Met.ofW (cc := cX0_demandLast) (maxL := 3) (ret := none) (by decide) rfl ?_
  intro p e s m args below meth c s₁ B hml hv
  obtain ⟨rfl, hP, hK, hD0⟩ := hv
  have hx := B.exec
  have hb := B.bytes
  have hr := B.returns
  have hts := atoms_spec (ws := wsX0_demandLast) B.pre
  have hts : ∀ w ∈ lw_all, w.before _ s = true := fun w h => hts w (List.mem_cons_of_mem _ h)
  have hown : s.vm.findClass RX0 = some m.cls := findClass_of_methodNamed B.named
  have hlocks := B.notSynchronized
  have hD := xw_D_self hD0
  generalize xw_ad (xd_W h0 h1 h2 k1 k2 σ) = A at hD ⊢
  have hS : va_S A s.heap s.heap [] := va_S.rf
  have hP : va_P (dC, dI) vwCl [(h0, .inr (0, [.int σ.1, .int σ.2.1, .int σ.2.2.1, .int σ.2.2.2.1, .ref h1, .ref h2, .int σ.2.2.2.2.1, .int σ.2.2.2.2.2.1, .int σ.2.2.2.2.2.2.1])), (h1, .inl (k1, 4, .inl σ.2.2.2.2.2.2.2.1)), (h2, .inl (k2, 4, .inl σ.2.2.2.2.2.2.2.2))] s.heap := hP
  have hD : va_D A [(h0, .inr (0, [.int σ.1, .int σ.2.1, .int σ.2.2.1, .int σ.2.2.2.1, .ref h1, .ref h2, .int σ.2.2.2.2.1, .int σ.2.2.2.2.2.1, .int σ.2.2.2.2.2.2.1])), (h1, .inl (k1, 4, .inl σ.2.2.2.2.2.2.2.1)), (h2, .inl (k2, 4, .inl σ.2.2.2.2.2.2.2.2))] := hD
  have hl := lv_entry ([.ref h0, .int p0, .int p1]) (n := 3) (Nat.le_of_ble_eq_true rfl)
  rw [lg_entry_eq]
  generalize (lg_sl ([.ref h0, .int p0, .int p1]) ++ List.replicate (3 - (lg_sl ([.ref h0, .int p0, .int p1])).length) Slot.unset).toArray = ls at hl ⊢
  have hl : lv_has ls 3 [(0, .ref h0), (1, .int p0), (2, .int p1)] := hl
  refine lv_aload_n hx hb dX0_demandLast_0 rfl (lv_at hl 0 rfl) ?_
  refine va_get (D := (dC, dI)) (ci := 0) (v := .ref h1) (C := RX0) (T := TX0) (N := 9) hx hb hts in_X0 hown hK hP 0 rfl rfl 4 (by decide) (hts _ q29) (fun _ h9 => h9) rfl dX0_demandLast_1 ?_
  refine lv_iconst (v := 2) hx hb dX0_demandLast_4 (by decide) ?_
  refine va_bald hx hb hK hP 1 0 rfl rfl xi_42 dX0_demandLast_5 ?_
  refine xw_top (v := σ.2.2.2.2.2.2.2.1 2) rfl ?_
  refine lv_if_ne (tgt := 28) hx hb dX0_demandLast_6 (by decide) (fun c_1 => ?_) (fun c_1 => ?_)
  · skip
    refine lv_aload_n hx hb dX0_demandLast_28 rfl (lv_at hl 0 rfl) ?_
    refine va_get (D := (dC, dI)) (ci := 0) (v := .ref h1) (C := RX0) (T := TX0) (N := 9) hx hb hts in_X0 hown hK hP 0 rfl rfl 4 (by decide) (hts _ q29) (fun _ h9 => h9) rfl dX0_demandLast_29 ?_
    refine lv_iconst (v := 2) hx hb dX0_demandLast_32 (by decide) ?_
    refine va_bald hx hb hK hP 1 0 rfl rfl xi_42 dX0_demandLast_33 ?_
    refine xw_top (v := σ.2.2.2.2.2.2.2.1 2) rfl ?_
    refine lv_iload_n hx hb dX0_demandLast_34 rfl (lv_at hl 1 rfl) ?_
    refine lv_icmp_eq (tgt := 63) hx hb dX0_demandLast_35 (by decide) (fun c_2 => ?_) (fun c_2 => ?_)
    · skip
      have hP9 : va_P (dC, dI) vwCl (xd_W h0 h1 h2 k1 k2 (xd_dlS σ p0 p1)) s.heap := by
        rw [show xd_dlS σ p0 p1 = σ from by simp only [xd_dlS, xd_dlW, xd_dlB, if_neg c_1, if_pos c_2]]
        exact hP
      exact W.vret hx hb hr (fun t ht _ => xw_mv hP9 hS ht) hS.2.2 dX0_demandLast_63
    · skip
      refine lv_aload_n hx hb dX0_demandLast_38 rfl (lv_at hl 0 rfl) ?_
      refine va_get (D := (dC, dI)) (ci := 0) (v := .ref h1) (C := RX0) (T := TX0) (N := 9) hx hb hts in_X0 hown hK hP 0 rfl rfl 4 (by decide) (hts _ q29) (fun _ h9 => h9) rfl dX0_demandLast_39 ?_
      refine lv_iconst (v := 3) hx hb dX0_demandLast_42 (by decide) ?_
      refine va_bald hx hb hK hP 1 0 rfl rfl xi_43 dX0_demandLast_43 ?_
      refine xw_top (v := σ.2.2.2.2.2.2.2.1 3) rfl ?_
      refine lv_if_ne (tgt := 63) hx hb dX0_demandLast_44 (by decide) (fun c_3 => ?_) (fun c_3 => ?_)
      · skip
        have hP9 : va_P (dC, dI) vwCl (xd_W h0 h1 h2 k1 k2 (xd_dlS σ p0 p1)) s.heap := by
          rw [show xd_dlS σ p0 p1 = σ from by simp only [xd_dlS, xd_dlW, xd_dlB, if_neg c_1, if_neg c_2, if_neg c_3]]
          exact hP
        exact W.vret hx hb hr (fun t ht _ => xw_mv hP9 hS ht) hS.2.2 dX0_demandLast_63
      · skip
        refine lv_aload_n hx hb dX0_demandLast_47 rfl (lv_at hl 0 rfl) ?_
        refine va_get (D := (dC, dI)) (ci := 0) (v := .ref h1) (C := RX0) (T := TX0) (N := 9) hx hb hts in_X0 hown hK hP 0 rfl rfl 4 (by decide) (hts _ q29) (fun _ h9 => h9) rfl dX0_demandLast_48 ?_
        refine lv_iconst (v := 3) hx hb dX0_demandLast_51 (by decide) ?_
        refine lv_iload_n hx hb dX0_demandLast_52 rfl (lv_at hl 1 rfl) ?_
        refine lv_i2b (v := p0.toInt8.toInt32) hx hb dX0_demandLast_53 rfl ?_
        refine va_bast hx hb hK hP hD hS 1 0 rfl rfl xi_43 dX0_demandLast_54 (fun H locs hP hD hS => ?_)
        have hP : va_P (dC, dI) vwCl [(h0, .inr (0, [.int σ.1, .int σ.2.1, .int σ.2.2.1, .int σ.2.2.2.1, .ref h1, .ref h2, .int σ.2.2.2.2.1, .int σ.2.2.2.2.2.1, .int σ.2.2.2.2.2.2.1])), (h1, .inl (k1, 4, .inl (upd σ.2.2.2.2.2.2.2.1 3 (xd_nb p0)))), (h2, .inl (k2, 4, .inl σ.2.2.2.2.2.2.2.2))] H := hP
        have hD : va_D A [(h0, .inr (0, [.int σ.1, .int σ.2.1, .int σ.2.2.1, .int σ.2.2.2.1, .ref h1, .ref h2, .int σ.2.2.2.2.1, .int σ.2.2.2.2.2.1, .int σ.2.2.2.2.2.2.1])), (h1, .inl (k1, 4, .inl (upd σ.2.2.2.2.2.2.2.1 3 (xd_nb p0)))), (h2, .inl (k2, 4, .inl σ.2.2.2.2.2.2.2.2))] := hD
        refine lv_aload_n hx hb dX0_demandLast_55 rfl (lv_at hl 0 rfl) ?_
        refine va_get (D := (dC, dI)) (ci := 0) (v := .ref h2) (C := RX0) (T := TX0) (N := 9) hx hb hts in_X0 hown hK hP 0 rfl rfl 5 (by decide) (hts _ q30) (fun _ h9 => h9) rfl dX0_demandLast_56 ?_
        refine lv_iconst (v := 3) hx hb dX0_demandLast_59 (by decide) ?_
        refine lv_iload_n hx hb dX0_demandLast_60 rfl (lv_at hl 2 rfl) ?_
        refine lv_i2b (v := p1.toInt8.toInt32) hx hb dX0_demandLast_61 rfl ?_
        refine va_bast hx hb hK hP hD hS 2 1 rfl rfl xi_43 dX0_demandLast_62 (fun H locs hP hD hS => ?_)
        have hP : va_P (dC, dI) vwCl [(h0, .inr (0, [.int σ.1, .int σ.2.1, .int σ.2.2.1, .int σ.2.2.2.1, .ref h1, .ref h2, .int σ.2.2.2.2.1, .int σ.2.2.2.2.2.1, .int σ.2.2.2.2.2.2.1])), (h1, .inl (k1, 4, .inl (upd σ.2.2.2.2.2.2.2.1 3 (xd_nb p0)))), (h2, .inl (k2, 4, .inl (upd σ.2.2.2.2.2.2.2.2 3 (xd_nb p1))))] H := hP
        have hD : va_D A [(h0, .inr (0, [.int σ.1, .int σ.2.1, .int σ.2.2.1, .int σ.2.2.2.1, .ref h1, .ref h2, .int σ.2.2.2.2.1, .int σ.2.2.2.2.2.1, .int σ.2.2.2.2.2.2.1])), (h1, .inl (k1, 4, .inl (upd σ.2.2.2.2.2.2.2.1 3 (xd_nb p0)))), (h2, .inl (k2, 4, .inl (upd σ.2.2.2.2.2.2.2.2 3 (xd_nb p1))))] := hD
        have hP9 : va_P (dC, dI) vwCl (xd_W h0 h1 h2 k1 k2 (xd_dlS σ p0 p1)) H := by
          rw [show xd_dlS σ p0 p1 = (σ.1, σ.2.1, σ.2.2.1, σ.2.2.2.1, σ.2.2.2.2.1, σ.2.2.2.2.2.1, σ.2.2.2.2.2.2.1, upd σ.2.2.2.2.2.2.2.1 3 (xd_nb p0), upd σ.2.2.2.2.2.2.2.2 3 (xd_nb p1)) from by simp only [xd_dlS, xd_dlW, xd_dlB, if_neg c_1, if_neg c_2, if_pos c_3]]
          exact hP
        exact W.vret hx hb hr (fun t ht _ => xw_mv hP9 hS ht) hS.2.2 dX0_demandLast_63
  · skip
    refine lv_aload_n hx hb dX0_demandLast_9 rfl (lv_at hl 0 rfl) ?_
    refine va_get (D := (dC, dI)) (ci := 0) (v := .ref h1) (C := RX0) (T := TX0) (N := 9) hx hb hts in_X0 hown hK hP 0 rfl rfl 4 (by decide) (hts _ q29) (fun _ h9 => h9) rfl dX0_demandLast_10 ?_
    refine lv_iconst (v := 2) hx hb dX0_demandLast_13 (by decide) ?_
    refine lv_iload_n hx hb dX0_demandLast_14 rfl (lv_at hl 1 rfl) ?_
    refine lv_i2b (v := p0.toInt8.toInt32) hx hb dX0_demandLast_15 rfl ?_
    refine va_bast hx hb hK hP hD hS 1 0 rfl rfl xi_42 dX0_demandLast_16 (fun H locs hP hD hS => ?_)
    have hP : va_P (dC, dI) vwCl [(h0, .inr (0, [.int σ.1, .int σ.2.1, .int σ.2.2.1, .int σ.2.2.2.1, .ref h1, .ref h2, .int σ.2.2.2.2.1, .int σ.2.2.2.2.2.1, .int σ.2.2.2.2.2.2.1])), (h1, .inl (k1, 4, .inl (upd σ.2.2.2.2.2.2.2.1 2 (xd_nb p0)))), (h2, .inl (k2, 4, .inl σ.2.2.2.2.2.2.2.2))] H := hP
    have hD : va_D A [(h0, .inr (0, [.int σ.1, .int σ.2.1, .int σ.2.2.1, .int σ.2.2.2.1, .ref h1, .ref h2, .int σ.2.2.2.2.1, .int σ.2.2.2.2.2.1, .int σ.2.2.2.2.2.2.1])), (h1, .inl (k1, 4, .inl (upd σ.2.2.2.2.2.2.2.1 2 (xd_nb p0)))), (h2, .inl (k2, 4, .inl σ.2.2.2.2.2.2.2.2))] := hD
    refine lv_aload_n hx hb dX0_demandLast_17 rfl (lv_at hl 0 rfl) ?_
    refine va_get (D := (dC, dI)) (ci := 0) (v := .ref h2) (C := RX0) (T := TX0) (N := 9) hx hb hts in_X0 hown hK hP 0 rfl rfl 5 (by decide) (hts _ q30) (fun _ h9 => h9) rfl dX0_demandLast_18 ?_
    refine lv_iconst (v := 2) hx hb dX0_demandLast_21 (by decide) ?_
    refine lv_iload_n hx hb dX0_demandLast_22 rfl (lv_at hl 2 rfl) ?_
    refine lv_i2b (v := p1.toInt8.toInt32) hx hb dX0_demandLast_23 rfl ?_
    refine va_bast hx hb hK hP hD hS 2 1 rfl rfl xi_42 dX0_demandLast_24 (fun H locs hP hD hS => ?_)
    have hP : va_P (dC, dI) vwCl [(h0, .inr (0, [.int σ.1, .int σ.2.1, .int σ.2.2.1, .int σ.2.2.2.1, .ref h1, .ref h2, .int σ.2.2.2.2.1, .int σ.2.2.2.2.2.1, .int σ.2.2.2.2.2.2.1])), (h1, .inl (k1, 4, .inl (upd σ.2.2.2.2.2.2.2.1 2 (xd_nb p0)))), (h2, .inl (k2, 4, .inl (upd σ.2.2.2.2.2.2.2.2 2 (xd_nb p1))))] H := hP
    have hD : va_D A [(h0, .inr (0, [.int σ.1, .int σ.2.1, .int σ.2.2.1, .int σ.2.2.2.1, .ref h1, .ref h2, .int σ.2.2.2.2.1, .int σ.2.2.2.2.2.1, .int σ.2.2.2.2.2.2.1])), (h1, .inl (k1, 4, .inl (upd σ.2.2.2.2.2.2.2.1 2 (xd_nb p0)))), (h2, .inl (k2, 4, .inl (upd σ.2.2.2.2.2.2.2.2 2 (xd_nb p1))))] := hD
    refine lv_goto (tgt := 63) hx hb dX0_demandLast_25 (by decide) ?_
    have hP9 : va_P (dC, dI) vwCl (xd_W h0 h1 h2 k1 k2 (xd_dlS σ p0 p1)) H := by
      rw [show xd_dlS σ p0 p1 = (σ.1, σ.2.1, σ.2.2.1, σ.2.2.2.1, σ.2.2.2.2.1, σ.2.2.2.2.2.1, σ.2.2.2.2.2.2.1, upd σ.2.2.2.2.2.2.2.1 2 (xd_nb p0), upd σ.2.2.2.2.2.2.2.2 2 (xd_nb p1)) from by simp only [xd_dlS, xd_dlW, xd_dlB, if_pos c_1]]
      exact hP
    exact W.vret hx hb hr (fun t ht _ => xw_mv hP9 hS ht) hS.2.2 dX0_demandLast_63
end
section
abbrev wsX0_wrap : List Cond := ws_ yX0_wrap cX0_wrap 6 none
theorem hdX0_wrap : yX0_wrap.cls = RX0 ∧ yX0_wrap.cls ≠ "java/lang/invoke/MethodHandle" ∧ yX0_wrap.cls ≠ "java/lang/invoke/VarHandle" ∧ (parseMethodDescriptor yX0_wrap.desc).map (fun d => d.parameters.length) = some 3 := by decide +kernel
set_option maxHeartbeats 4000000 in
set_option maxRecDepth 100000 in
theorem metX0_wrap (l : Launch) (dC : Nat → ClassId) (dI : Nat → Nat → Nat) (h0 h1 h2 : Nat) (k1 k2 : ClassId) (σ : xd_T) (p0 p1 p2 : Int32) : Met l yX0_wrap wsX0_wrap ({ frames := 1, cells := 0, slots := 0, locals := 22 }) (va_Pc [.ref h0, .int p0, .int p1, .int p2] (xw_Wr (dC, dI) vwCl (xd_W h0 h1 h2 k1 k2 σ) [(k1, .byte), (k2, .byte)])) (xw_M (dC, dI) vwCl none (xd_W h0 h1 h2 k1 k2 (xd_wrS σ p0 p1 p2)) (xw_ad (xd_W h0 h1 h2 k1 k2 σ))) 0 0 (xw_ad (xd_W h0 h1 h2 k1 k2 σ)) := by
  refine Met.ofW (cc := cX0_wrap) (maxL := 6) (ret := none) (by decide) rfl ?_
  intro p e s m args below meth c s₁ B hml hv
  obtain ⟨rfl, hP, hK, hD0⟩ := hv
  have hx := B.exec
  have hb := B.bytes
  have hr := B.returns
  have hts := atoms_spec (ws := wsX0_wrap) B.pre
  have hts : ∀ w ∈ lw_all, w.before _ s = true := fun w h => hts w (List.mem_cons_of_mem _ h)
  have hown : s.vm.findClass RX0 = some m.cls := findClass_of_methodNamed B.named
  have hlocks := B.notSynchronized
  have hD := xw_D_self hD0
  generalize xw_ad (xd_W h0 h1 h2 k1 k2 σ) = A at hD ⊢
  have hS : va_S A s.heap s.heap [] := va_S.rf
  have hP : va_P (dC, dI) vwCl [(h0, .inr (0, [.int σ.1, .int σ.2.1, .int σ.2.2.1, .int σ.2.2.2.1, .ref h1, .ref h2, .int σ.2.2.2.2.1, .int σ.2.2.2.2.2.1, .int σ.2.2.2.2.2.2.1])), (h1, .inl (k1, 4, .inl σ.2.2.2.2.2.2.2.1)), (h2, .inl (k2, 4, .inl σ.2.2.2.2.2.2.2.2))] s.heap := hP
  have hD : va_D A [(h0, .inr (0, [.int σ.1, .int σ.2.1, .int σ.2.2.1, .int σ.2.2.2.1, .ref h1, .ref h2, .int σ.2.2.2.2.1, .int σ.2.2.2.2.2.1, .int σ.2.2.2.2.2.2.1])), (h1, .inl (k1, 4, .inl σ.2.2.2.2.2.2.2.1)), (h2, .inl (k2, 4, .inl σ.2.2.2.2.2.2.2.2))] := hD
  have hl := lv_entry ([.ref h0, .int p0, .int p1, .int p2]) (n := 6) (Nat.le_of_ble_eq_true rfl)
  rw [lg_entry_eq]
  generalize (lg_sl ([.ref h0, .int p0, .int p1, .int p2]) ++ List.replicate (6 - (lg_sl ([.ref h0, .int p0, .int p1, .int p2])).length) Slot.unset).toArray = ls at hl ⊢
  have hl : lv_has ls 6 [(0, .ref h0), (1, .int p0), (2, .int p1), (3, .int p2)] := hl
  refine lv_iload_n hx hb dX0_wrap_0 rfl (lv_at hl 1 rfl) ?_
  refine xw_S (v := xd_arg p0) (As := [.int p0]) (rest := []) ⟨hx, hb, hml, hown, hts⟩ (metX0_argumentOf l p0) (va_cwS 1 hts (lw_S q78 q79 q15 q80) rfl rfl rfl hdX0_argumentOf ⟨Nat.le_of_ble_eq_true rfl, Nat.le_of_ble_eq_true rfl⟩) rfl hl.1 rfl (Nat.le_of_ble_eq_true rfl) dX0_wrap_1 ⟨Nat.zero_le _, Nat.zero_le _⟩ ?_
  refine lv_istore (lv' := [(4, .int (xd_arg p0)), (0, .ref h0), (1, .int p0), (2, .int p1), (3, .int p2)]) hx hb dX0_wrap_4 hl (by decide) rfl (fun ls hl => ?_)
  refine lv_iload_n hx hb dX0_wrap_6 rfl (lv_at hl 3 rfl) ?_
  refine xw_S (v := xd_arg p1) (As := [.int p1]) (rest := []) ⟨hx, hb, hml, hown, hts⟩ (metX0_argumentOf l p1) (va_cwS 1 hts (lw_S q78 q79 q15 q80) rfl rfl rfl hdX0_argumentOf ⟨Nat.le_of_ble_eq_true rfl, Nat.le_of_ble_eq_true rfl⟩) rfl hl.1 rfl (Nat.le_of_ble_eq_true rfl) dX0_wrap_7 ⟨Nat.zero_le _, Nat.zero_le _⟩ ?_
  refine lv_if_ne (tgt := 26) hx hb dX0_wrap_10 (by decide) (fun c_1 => ?_) (fun c_1 => ?_)
  · skip
    refine lv_iload_n hx hb dX0_wrap_26 rfl (lv_at hl 3 rfl) ?_
    refine xw_S (v := xd_res p1) (As := [.int p1]) (rest := []) ⟨hx, hb, hml, hown, hts⟩ (metX0_resultOf l p1) (va_cwS 1 hts (lw_S q81 q82 q15 q83) rfl rfl rfl hdX0_resultOf ⟨Nat.le_of_ble_eq_true rfl, Nat.le_of_ble_eq_true rfl⟩) rfl hl.1 rfl (Nat.le_of_ble_eq_true rfl) dX0_wrap_27 ⟨Nat.zero_le _, Nat.zero_le _⟩ ?_
    refine lv_istore (lv' := [(5, .int (xd_res p1)), (4, .int (xd_arg p0)), (0, .ref h0), (1, .int p0), (2, .int p1), (3, .int p2)]) hx hb dX0_wrap_30 hl (by decide) rfl (fun ls hl => ?_)
    refine lv_iload_n hx hb dX0_wrap_32 rfl (lv_at hl 3 rfl) ?_
    refine xw_S (v := xd_res p0) (As := [.int p0]) (rest := []) ⟨hx, hb, hml, hown, hts⟩ (metX0_resultOf l p0) (va_cwS 1 hts (lw_S q81 q82 q15 q83) rfl rfl rfl hdX0_resultOf ⟨Nat.le_of_ble_eq_true rfl, Nat.le_of_ble_eq_true rfl⟩) rfl hl.1 rfl (Nat.le_of_ble_eq_true rfl) dX0_wrap_33 ⟨Nat.zero_le _, Nat.zero_le _⟩ ?_
    refine lv_if_ne (tgt := 51) hx hb dX0_wrap_36 (by decide) (fun c_2 => ?_) (fun c_2 => ?_)
    · skip
      have hP9 : va_P (dC, dI) vwCl (xd_W h0 h1 h2 k1 k2 (xd_wrS σ p0 p1 p2)) s.heap := by
        rw [show xd_wrS σ p0 p1 p2 = σ from by simp only [xd_wrS, xd_wr1, if_neg c_1, if_neg c_2]]
        exact hP
      exact W.vret hx hb hr (fun t ht _ => xw_mv hP9 hS ht) hS.2.2 dX0_wrap_51
    · skip
      refine lv_iload hx hb dX0_wrap_39 (lv_at hl 0 rfl) ?_
      refine lv_if_eq (tgt := 51) hx hb dX0_wrap_41 (by decide) (fun c_3 => ?_) (fun c_3 => ?_)
      · skip
        have hP9 : va_P (dC, dI) vwCl (xd_W h0 h1 h2 k1 k2 (xd_wrS σ p0 p1 p2)) s.heap := by
          rw [show xd_wrS σ p0 p1 p2 = σ from by simp only [xd_wrS, xd_wr1, if_neg c_1, if_pos c_2, if_pos c_3]]
          exact hP
        exact W.vret hx hb hr (fun t ht _ => xw_mv hP9 hS ht) hS.2.2 dX0_wrap_51
      · skip
        refine lv_aload_n hx hb dX0_wrap_44 rfl (lv_at hl 2 rfl) ?_
        refine lv_iload hx hb dX0_wrap_45 (lv_at hl 0 rfl) ?_
        refine lv_iload_n hx hb dX0_wrap_47 rfl (lv_at hl 5 rfl) ?_
        refine xw_U (rv := none) (As := [.int (xd_res p1), .int p2]) (rest := []) (ci := 0) ⟨hx, hb, hml, hown, hts⟩ (metX0_demandLast l dC dI h0 h1 h2 k1 k2 σ (xd_res p1) p2) (cwV 2 hts (lw_V q96 q98 qs3 q15 q99) rfl rfl rfl hdX0_demandLast ⟨Nat.le_of_ble_eq_true rfl, Nat.le_of_ble_eq_true rfl⟩) [] [] hK hP hD hS rfl 0 rfl rfl rfl hl.1 rfl (Nat.le_of_ble_eq_true rfl) dX0_wrap_48 ⟨Nat.zero_le _, Nat.zero_le _⟩ (fun H locs hP hD hS => ?_)
        obtain ⟨τ4, e_4⟩ : ∃ τ : xd_T, τ = xd_dlS σ (xd_res p1) p2 := ⟨_, rfl⟩
        have hP : va_P (dC, dI) vwCl (xd_W h0 h1 h2 k1 k2 τ4) H := by rw [e_4]; exact hP
        have hD : va_D A (xd_W h0 h1 h2 k1 k2 τ4) := by rw [e_4]; exact hD
        have hP : va_P (dC, dI) vwCl [(h0, .inr (0, [.int τ4.1, .int τ4.2.1, .int τ4.2.2.1, .int τ4.2.2.2.1, .ref h1, .ref h2, .int τ4.2.2.2.2.1, .int τ4.2.2.2.2.2.1, .int τ4.2.2.2.2.2.2.1])), (h1, .inl (k1, 4, .inl τ4.2.2.2.2.2.2.2.1)), (h2, .inl (k2, 4, .inl τ4.2.2.2.2.2.2.2.2))] H := hP
        have hD : va_D A [(h0, .inr (0, [.int τ4.1, .int τ4.2.1, .int τ4.2.2.1, .int τ4.2.2.2.1, .ref h1, .ref h2, .int τ4.2.2.2.2.1, .int τ4.2.2.2.2.2.1, .int τ4.2.2.2.2.2.2.1])), (h1, .inl (k1, 4, .inl τ4.2.2.2.2.2.2.2.1)), (h2, .inl (k2, 4, .inl τ4.2.2.2.2.2.2.2.2))] := hD
        refine W.eq (g2 := F0 m 51 ls []) rfl ?_
        have hP9 : va_P (dC, dI) vwCl (xd_W h0 h1 h2 k1 k2 (xd_wrS σ p0 p1 p2)) H := by
          rw [show xd_wrS σ p0 p1 p2 = τ4 from by simp only [xd_wrS, xd_wr1, if_neg c_1, if_pos c_2, if_neg c_3, e_4]]
          exact hP
        exact W.vret hx hb hr (fun t ht _ => xw_mv hP9 hS ht) hS.2.2 dX0_wrap_51
  · skip
    refine lv_iload hx hb dX0_wrap_13 (lv_at hl 0 rfl) ?_
    refine lv_if_eq (tgt := 26) hx hb dX0_wrap_15 (by decide) (fun c_5 => ?_) (fun c_5 => ?_)
    · skip
      refine lv_iload_n hx hb dX0_wrap_26 rfl (lv_at hl 3 rfl) ?_
      refine xw_S (v := xd_res p1) (As := [.int p1]) (rest := []) ⟨hx, hb, hml, hown, hts⟩ (metX0_resultOf l p1) (va_cwS 1 hts (lw_S q81 q82 q15 q83) rfl rfl rfl hdX0_resultOf ⟨Nat.le_of_ble_eq_true rfl, Nat.le_of_ble_eq_true rfl⟩) rfl hl.1 rfl (Nat.le_of_ble_eq_true rfl) dX0_wrap_27 ⟨Nat.zero_le _, Nat.zero_le _⟩ ?_
      refine lv_istore (lv' := [(5, .int (xd_res p1)), (4, .int (xd_arg p0)), (0, .ref h0), (1, .int p0), (2, .int p1), (3, .int p2)]) hx hb dX0_wrap_30 hl (by decide) rfl (fun ls hl => ?_)
      refine lv_iload_n hx hb dX0_wrap_32 rfl (lv_at hl 3 rfl) ?_
      refine xw_S (v := xd_res p0) (As := [.int p0]) (rest := []) ⟨hx, hb, hml, hown, hts⟩ (metX0_resultOf l p0) (va_cwS 1 hts (lw_S q81 q82 q15 q83) rfl rfl rfl hdX0_resultOf ⟨Nat.le_of_ble_eq_true rfl, Nat.le_of_ble_eq_true rfl⟩) rfl hl.1 rfl (Nat.le_of_ble_eq_true rfl) dX0_wrap_33 ⟨Nat.zero_le _, Nat.zero_le _⟩ ?_
      refine lv_if_ne (tgt := 51) hx hb dX0_wrap_36 (by decide) (fun c_6 => ?_) (fun c_6 => ?_)
      · skip
        have hP9 : va_P (dC, dI) vwCl (xd_W h0 h1 h2 k1 k2 (xd_wrS σ p0 p1 p2)) s.heap := by
          rw [show xd_wrS σ p0 p1 p2 = σ from by simp only [xd_wrS, xd_wr1, if_pos c_1, if_pos c_5, if_neg c_6]]
          exact hP
        exact W.vret hx hb hr (fun t ht _ => xw_mv hP9 hS ht) hS.2.2 dX0_wrap_51
      · skip
        refine lv_iload hx hb dX0_wrap_39 (lv_at hl 0 rfl) ?_
        refine lv_if_eq (tgt := 51) hx hb dX0_wrap_41 (by decide) (fun c_7 => ?_) (fun c_7 => ?_)
        · skip
          have hP9 : va_P (dC, dI) vwCl (xd_W h0 h1 h2 k1 k2 (xd_wrS σ p0 p1 p2)) s.heap := by
            rw [show xd_wrS σ p0 p1 p2 = σ from by simp only [xd_wrS, xd_wr1, if_pos c_1, if_pos c_5, if_pos c_6, if_pos c_7]]
            exact hP
          exact W.vret hx hb hr (fun t ht _ => xw_mv hP9 hS ht) hS.2.2 dX0_wrap_51
        · skip
          refine lv_aload_n hx hb dX0_wrap_44 rfl (lv_at hl 2 rfl) ?_
          refine lv_iload hx hb dX0_wrap_45 (lv_at hl 0 rfl) ?_
          refine lv_iload_n hx hb dX0_wrap_47 rfl (lv_at hl 5 rfl) ?_
          refine xw_U (rv := none) (As := [.int (xd_res p1), .int p2]) (rest := []) (ci := 0) ⟨hx, hb, hml, hown, hts⟩ (metX0_demandLast l dC dI h0 h1 h2 k1 k2 σ (xd_res p1) p2) (cwV 2 hts (lw_V q96 q98 qs3 q15 q99) rfl rfl rfl hdX0_demandLast ⟨Nat.le_of_ble_eq_true rfl, Nat.le_of_ble_eq_true rfl⟩) [] [] hK hP hD hS rfl 0 rfl rfl rfl hl.1 rfl (Nat.le_of_ble_eq_true rfl) dX0_wrap_48 ⟨Nat.zero_le _, Nat.zero_le _⟩ (fun H locs hP hD hS => ?_)
          obtain ⟨τ8, e_8⟩ : ∃ τ : xd_T, τ = xd_dlS σ (xd_res p1) p2 := ⟨_, rfl⟩
          have hP : va_P (dC, dI) vwCl (xd_W h0 h1 h2 k1 k2 τ8) H := by rw [e_8]; exact hP
          have hD : va_D A (xd_W h0 h1 h2 k1 k2 τ8) := by rw [e_8]; exact hD
          have hP : va_P (dC, dI) vwCl [(h0, .inr (0, [.int τ8.1, .int τ8.2.1, .int τ8.2.2.1, .int τ8.2.2.2.1, .ref h1, .ref h2, .int τ8.2.2.2.2.1, .int τ8.2.2.2.2.2.1, .int τ8.2.2.2.2.2.2.1])), (h1, .inl (k1, 4, .inl τ8.2.2.2.2.2.2.2.1)), (h2, .inl (k2, 4, .inl τ8.2.2.2.2.2.2.2.2))] H := hP
          have hD : va_D A [(h0, .inr (0, [.int τ8.1, .int τ8.2.1, .int τ8.2.2.1, .int τ8.2.2.2.1, .ref h1, .ref h2, .int τ8.2.2.2.2.1, .int τ8.2.2.2.2.2.1, .int τ8.2.2.2.2.2.2.1])), (h1, .inl (k1, 4, .inl τ8.2.2.2.2.2.2.2.1)), (h2, .inl (k2, 4, .inl τ8.2.2.2.2.2.2.2.2))] := hD
          refine W.eq (g2 := F0 m 51 ls []) rfl ?_
          have hP9 : va_P (dC, dI) vwCl (xd_W h0 h1 h2 k1 k2 (xd_wrS σ p0 p1 p2)) H := by
            rw [show xd_wrS σ p0 p1 p2 = τ8 from by simp only [xd_wrS, xd_wr1, if_pos c_1, if_pos c_5, if_pos c_6, if_neg c_7, e_8]]
            exact hP
          exact W.vret hx hb hr (fun t ht _ => xw_mv hP9 hS ht) hS.2.2 dX0_wrap_51
    · skip
      refine lv_aload_n hx hb dX0_wrap_18 rfl (lv_at hl 1 rfl) ?_
      refine lv_iload hx hb dX0_wrap_19 (lv_at hl 0 rfl) ?_
      refine lv_iload_n hx hb dX0_wrap_21 rfl (lv_at hl 4 rfl) ?_
      refine lv_ineg hx hb dX0_wrap_22 ?_
      refine xw_U (rv := none) (As := [.int (xd_arg p0), .int (-p2)]) (rest := []) (ci := 0) ⟨hx, hb, hml, hown, hts⟩ (metX0_demandFirst l dC dI h0 h1 h2 k1 k2 σ (xd_arg p0) (-p2)) (cwV 2 hts (lw_V q92 q94 qs2 q15 q95) rfl rfl rfl hdX0_demandFirst ⟨Nat.le_of_ble_eq_true rfl, Nat.le_of_ble_eq_true rfl⟩) [] [] hK hP hD hS rfl 0 rfl rfl rfl hl.1 rfl (Nat.le_of_ble_eq_true rfl) dX0_wrap_23 ⟨Nat.zero_le _, Nat.zero_le _⟩ (fun H locs hP hD hS => ?_)
      obtain ⟨τ9, e_9⟩ : ∃ τ : xd_T, τ = xd_dfS σ (xd_arg p0) (-p2) := ⟨_, rfl⟩
      have hP : va_P (dC, dI) vwCl (xd_W h0 h1 h2 k1 k2 τ9) H := by rw [e_9]; exact hP
      have hD : va_D A (xd_W h0 h1 h2 k1 k2 τ9) := by rw [e_9]; exact hD
      have hP : va_P (dC, dI) vwCl [(h0, .inr (0, [.int τ9.1, .int τ9.2.1, .int τ9.2.2.1, .int τ9.2.2.2.1, .ref h1, .ref h2, .int τ9.2.2.2.2.1, .int τ9.2.2.2.2.2.1, .int τ9.2.2.2.2.2.2.1])), (h1, .inl (k1, 4, .inl τ9.2.2.2.2.2.2.2.1)), (h2, .inl (k2, 4, .inl τ9.2.2.2.2.2.2.2.2))] H := hP
      have hD : va_D A [(h0, .inr (0, [.int τ9.1, .int τ9.2.1, .int τ9.2.2.1, .int τ9.2.2.2.1, .ref h1, .ref h2, .int τ9.2.2.2.2.1, .int τ9.2.2.2.2.2.1, .int τ9.2.2.2.2.2.2.1])), (h1, .inl (k1, 4, .inl τ9.2.2.2.2.2.2.2.1)), (h2, .inl (k2, 4, .inl τ9.2.2.2.2.2.2.2.2))] := hD
      refine W.eq (g2 := F0 m 26 ls []) rfl ?_
      refine lv_iload_n hx hb dX0_wrap_26 rfl (lv_at hl 3 rfl) ?_
      refine xw_S (v := xd_res p1) (As := [.int p1]) (rest := []) ⟨hx, hb, hml, hown, hts⟩ (metX0_resultOf l p1) (va_cwS 1 hts (lw_S q81 q82 q15 q83) rfl rfl rfl hdX0_resultOf ⟨Nat.le_of_ble_eq_true rfl, Nat.le_of_ble_eq_true rfl⟩) rfl hl.1 rfl (Nat.le_of_ble_eq_true rfl) dX0_wrap_27 ⟨Nat.zero_le _, Nat.zero_le _⟩ ?_
      refine lv_istore (lv' := [(5, .int (xd_res p1)), (4, .int (xd_arg p0)), (0, .ref h0), (1, .int p0), (2, .int p1), (3, .int p2)]) hx hb dX0_wrap_30 hl (by decide) rfl (fun ls hl => ?_)
      refine lv_iload_n hx hb dX0_wrap_32 rfl (lv_at hl 3 rfl) ?_
      refine xw_S (v := xd_res p0) (As := [.int p0]) (rest := []) ⟨hx, hb, hml, hown, hts⟩ (metX0_resultOf l p0) (va_cwS 1 hts (lw_S q81 q82 q15 q83) rfl rfl rfl hdX0_resultOf ⟨Nat.le_of_ble_eq_true rfl, Nat.le_of_ble_eq_true rfl⟩) rfl hl.1 rfl (Nat.le_of_ble_eq_true rfl) dX0_wrap_33 ⟨Nat.zero_le _, Nat.zero_le _⟩ ?_
      refine lv_if_ne (tgt := 51) hx hb dX0_wrap_36 (by decide) (fun c_10 => ?_) (fun c_10 => ?_)
      · skip
        have hP9 : va_P (dC, dI) vwCl (xd_W h0 h1 h2 k1 k2 (xd_wrS σ p0 p1 p2)) H := by
          rw [show xd_wrS σ p0 p1 p2 = τ9 from by simp only [xd_wrS, xd_wr1, if_pos c_1, if_neg c_5, e_9, if_neg c_10]]
          exact hP
        exact W.vret hx hb hr (fun t ht _ => xw_mv hP9 hS ht) hS.2.2 dX0_wrap_51
      · skip
        refine lv_iload hx hb dX0_wrap_39 (lv_at hl 0 rfl) ?_
        refine lv_if_eq (tgt := 51) hx hb dX0_wrap_41 (by decide) (fun c_11 => ?_) (fun c_11 => ?_)
        · skip
          have hP9 : va_P (dC, dI) vwCl (xd_W h0 h1 h2 k1 k2 (xd_wrS σ p0 p1 p2)) H := by
            rw [show xd_wrS σ p0 p1 p2 = τ9 from by simp only [xd_wrS, xd_wr1, if_pos c_1, if_neg c_5, e_9, if_pos c_10, if_pos c_11]]
            exact hP
          exact W.vret hx hb hr (fun t ht _ => xw_mv hP9 hS ht) hS.2.2 dX0_wrap_51
        · skip
          refine lv_aload_n hx hb dX0_wrap_44 rfl (lv_at hl 2 rfl) ?_
          refine lv_iload hx hb dX0_wrap_45 (lv_at hl 0 rfl) ?_
          refine lv_iload_n hx hb dX0_wrap_47 rfl (lv_at hl 5 rfl) ?_
          refine xw_U (rv := none) (As := [.int (xd_res p1), .int p2]) (rest := []) (ci := 0) ⟨hx, hb, hml, hown, hts⟩ (metX0_demandLast l dC dI h0 h1 h2 k1 k2 τ9 (xd_res p1) p2) (cwV 2 hts (lw_V q96 q98 qs3 q15 q99) rfl rfl rfl hdX0_demandLast ⟨Nat.le_of_ble_eq_true rfl, Nat.le_of_ble_eq_true rfl⟩) [] [] hK hP hD hS rfl 0 rfl rfl rfl hl.1 rfl (Nat.le_of_ble_eq_true rfl) dX0_wrap_48 ⟨Nat.zero_le _, Nat.zero_le _⟩ (fun H locs hP hD hS => ?_)
          obtain ⟨τ12, e_12⟩ : ∃ τ : xd_T, τ = xd_dlS τ9 (xd_res p1) p2 := ⟨_, rfl⟩
          have hP : va_P (dC, dI) vwCl (xd_W h0 h1 h2 k1 k2 τ12) H := by rw [e_12]; exact hP
          have hD : va_D A (xd_W h0 h1 h2 k1 k2 τ12) := by rw [e_12]; exact hD
          have hP : va_P (dC, dI) vwCl [(h0, .inr (0, [.int τ12.1, .int τ12.2.1, .int τ12.2.2.1, .int τ12.2.2.2.1, .ref h1, .ref h2, .int τ12.2.2.2.2.1, .int τ12.2.2.2.2.2.1, .int τ12.2.2.2.2.2.2.1])), (h1, .inl (k1, 4, .inl τ12.2.2.2.2.2.2.2.1)), (h2, .inl (k2, 4, .inl τ12.2.2.2.2.2.2.2.2))] H := hP
          have hD : va_D A [(h0, .inr (0, [.int τ12.1, .int τ12.2.1, .int τ12.2.2.1, .int τ12.2.2.2.1, .ref h1, .ref h2, .int τ12.2.2.2.2.1, .int τ12.2.2.2.2.2.1, .int τ12.2.2.2.2.2.2.1])), (h1, .inl (k1, 4, .inl τ12.2.2.2.2.2.2.2.1)), (h2, .inl (k2, 4, .inl τ12.2.2.2.2.2.2.2.2))] := hD
          refine W.eq (g2 := F0 m 51 ls []) rfl ?_
          have hP9 : va_P (dC, dI) vwCl (xd_W h0 h1 h2 k1 k2 (xd_wrS σ p0 p1 p2)) H := by
            rw [show xd_wrS σ p0 p1 p2 = τ12 from by simp only [xd_wrS, xd_wr1, if_pos c_1, if_neg c_5, e_9, if_pos c_10, if_neg c_11, e_12]]
            exact hP
          exact W.vret hx hb hr (fun t ht _ => xw_mv hP9 hS ht) hS.2.2 dX0_wrap_51
abbrev wsX0_cast : List Cond := ws_ yX0_cast cX0_cast 4 (some .int)
theorem hdX0_cast : yX0_cast.cls = RX0 ∧ yX0_cast.cls ≠ "java/lang/invoke/MethodHandle" ∧ yX0_cast.cls ≠ "java/lang/invoke/VarHandle" ∧ (parseMethodDescriptor yX0_cast.desc).map (fun d => d.parameters.length) = some 2 := by decide +kernel
set_option maxHeartbeats 4000000 in
set_option maxRecDepth 100000 in
theorem metX0_cast (l : Launch) (dC : Nat → ClassId) (dI : Nat → Nat → Nat) (h0 h1 h2 : Nat) (k1 k2 : ClassId) (σ : xd_T) (p0 p1 : Int32) : Met l yX0_cast wsX0_cast ({ frames := 2, cells := 0, slots := 0, locals := 47 }) (va_Pc [.ref h0, .int p0, .int p1] (xw_Wr (dC, dI) vwCl (xd_W h0 h1 h2 k1 k2 σ) [(k1, .byte), (k2, .byte)])) (xw_M (dC, dI) vwCl (some (.int (xd_castR σ p0 p1))) (xd_W h0 h1 h2 k1 k2 (xd_castS σ p0 p1)) (xw_ad (xd_W h0 h1 h2 k1 k2 σ))) 0 0 (xw_ad (xd_W h0 h1 h2 k1 k2 σ)) := by
  refine Met.ofW (cc := cX0_cast) (maxL := 4) (ret := (some .int)) (by decide) rfl ?_
  intro p e s m args below meth c s₁ B hml hv
  obtain ⟨rfl, hP, hK, hD0⟩ := hv
  have hx := B.exec
  have hb := B.bytes
  have hr := B.returns
  have hts := atoms_spec (ws := wsX0_cast) B.pre
  have hts : ∀ w ∈ lw_all, w.before _ s = true := fun w h => hts w (List.mem_cons_of_mem _ h)
  have hown : s.vm.findClass RX0 = some m.cls := findClass_of_methodNamed B.named
  have hlocks := B.notSynchronized
  have hD := xw_D_self hD0
  generalize xw_ad (xd_W h0 h1 h2 k1 k2 σ) = A at hD ⊢
  have hS : va_S A s.heap s.heap [] := va_S.rf
  have hP : va_P (dC, dI) vwCl [(h0, .inr (0, [.int σ.1, .int σ.2.1, .int σ.2.2.1, .int σ.2.2.2.1, .ref h1, .ref h2, .int σ.2.2.2.2.1, .int σ.2.2.2.2.2.1, .int σ.2.2.2.2.2.2.1])), (h1, .inl (k1, 4, .inl σ.2.2.2.2.2.2.2.1)), (h2, .inl (k2, 4, .inl σ.2.2.2.2.2.2.2.2))] s.heap := hP
  have hD : va_D A [(h0, .inr (0, [.int σ.1, .int σ.2.1, .int σ.2.2.1, .int σ.2.2.2.1, .ref h1, .ref h2, .int σ.2.2.2.2.1, .int σ.2.2.2.2.2.1, .int σ.2.2.2.2.2.2.1])), (h1, .inl (k1, 4, .inl σ.2.2.2.2.2.2.2.1)), (h2, .inl (k2, 4, .inl σ.2.2.2.2.2.2.2.2))] := hD
  have hl := lv_entry ([.ref h0, .int p0, .int p1]) (n := 4) (Nat.le_of_ble_eq_true rfl)
  rw [lg_entry_eq]
  generalize (lg_sl ([.ref h0, .int p0, .int p1]) ++ List.replicate (4 - (lg_sl ([.ref h0, .int p0, .int p1])).length) Slot.unset).toArray = ls at hl ⊢
  have hl : lv_has ls 4 [(0, .ref h0), (1, .int p0), (2, .int p1)] := hl
  refine lv_aload_n hx hb dX0_cast_0 rfl (lv_at hl 0 rfl) ?_
  refine va_get (D := (dC, dI)) (ci := 0) (v := .int σ.1) (C := RX0) (T := TX0) (N := 9) hx hb hts in_X0 hown hK hP 0 rfl rfl 0 (by decide) (hts _ q25) (fun _ h9 => h9) rfl dX0_cast_1 ?_
  refine lv_if_eq (tgt := 37) hx hb dX0_cast_4 (by decide) (fun c_1 => ?_) (fun c_1 => ?_)
  · skip
    refine lv_bipush (v := (-100)) hx hb dX0_cast_37 (by decide) ?_
    have hP9 : va_P (dC, dI) vwCl (xd_W h0 h1 h2 k1 k2 (xd_castS σ p0 p1)) s.heap := by
      rw [show xd_castS σ p0 p1 = σ from by simp only [xd_castR, xd_castS, xd_cast3, xd_tyS, if_pos c_1]]
      exact hP
    exact W.iret hx hb hr (fun t ht _ => xw_m (by simp only [xd_castR, xd_castS, xd_cast3, xd_tyS, if_pos c_1]) hP9 hS ht) hS.2.2 dX0_cast_39
  · skip
    refine lv_iload_n hx hb dX0_cast_7 rfl (lv_at hl 1 rfl) ?_
    refine xw_S (v := xd_isType p0) (As := [.int p0]) (rest := []) ⟨hx, hb, hml, hown, hts⟩ (metX0_isType l p0) (va_cwS 1 hts (lw_S q65 q66 q15 q67) rfl rfl rfl hdX0_isType ⟨Nat.le_of_ble_eq_true rfl, Nat.le_of_ble_eq_true rfl⟩) rfl hl.1 rfl (Nat.le_of_ble_eq_true rfl) dX0_cast_8 ⟨Nat.zero_le _, Nat.zero_le _⟩ ?_
    refine lv_if_eq (tgt := 37) hx hb dX0_cast_11 (by decide) (fun c_2 => ?_) (fun c_2 => ?_)
    · skip
      refine lv_bipush (v := (-100)) hx hb dX0_cast_37 (by decide) ?_
      have hP9 : va_P (dC, dI) vwCl (xd_W h0 h1 h2 k1 k2 (xd_castS σ p0 p1)) s.heap := by
        rw [show xd_castS σ p0 p1 = σ from by simp only [xd_castR, xd_castS, xd_cast3, xd_tyS, if_neg c_1, if_pos c_2]]
        exact hP
      exact W.iret hx hb hr (fun t ht _ => xw_m (by simp only [xd_castR, xd_castS, xd_cast3, xd_tyS, if_neg c_1, if_pos c_2]) hP9 hS ht) hS.2.2 dX0_cast_39
    · skip
      refine lv_iload_n hx hb dX0_cast_14 rfl (lv_at hl 2 rfl) ?_
      refine lv_iconst (v := 1) hx hb dX0_cast_15 (by decide) ?_
      refine lv_icmp_lt (tgt := 37) hx hb dX0_cast_16 (by decide) (fun c_3 => ?_) (fun c_3 => ?_)
      · skip
        refine lv_bipush (v := (-100)) hx hb dX0_cast_37 (by decide) ?_
        have hP9 : va_P (dC, dI) vwCl (xd_W h0 h1 h2 k1 k2 (xd_castS σ p0 p1)) s.heap := by
          rw [show xd_castS σ p0 p1 = σ from by simp only [xd_castR, xd_castS, xd_cast3, xd_tyS, if_neg c_1, if_neg c_2, if_pos c_3]]
          exact hP
        exact W.iret hx hb hr (fun t ht _ => xw_m (by simp only [xd_castR, xd_castS, xd_cast3, xd_tyS, if_neg c_1, if_neg c_2, if_pos c_3]) hP9 hS ht) hS.2.2 dX0_cast_39
      · skip
        refine lv_iload_n hx hb dX0_cast_19 rfl (lv_at hl 2 rfl) ?_
        refine lv_bipush (v := 9) hx hb dX0_cast_20 (by decide) ?_
        refine lv_icmp_gt (tgt := 37) hx hb dX0_cast_22 (by decide) (fun c_4 => ?_) (fun c_4 => ?_)
        · skip
          refine lv_bipush (v := (-100)) hx hb dX0_cast_37 (by decide) ?_
          have hP9 : va_P (dC, dI) vwCl (xd_W h0 h1 h2 k1 k2 (xd_castS σ p0 p1)) s.heap := by
            rw [show xd_castS σ p0 p1 = σ from by simp only [xd_castR, xd_castS, xd_cast3, xd_tyS, if_neg c_1, if_neg c_2, if_neg c_3, if_pos c_4]]
            exact hP
          exact W.iret hx hb hr (fun t ht _ => xw_m (by simp only [xd_castR, xd_castS, xd_cast3, xd_tyS, if_neg c_1, if_neg c_2, if_neg c_3, if_pos c_4]) hP9 hS ht) hS.2.2 dX0_cast_39
        · skip
          refine lv_aload_n hx hb dX0_cast_25 rfl (lv_at hl 0 rfl) ?_
          refine lv_aload_n hx hb dX0_cast_26 rfl (lv_at hl 0 rfl) ?_
          refine va_get (D := (dC, dI)) (ci := 0) (v := .int σ.2.1) (C := RX0) (T := TX0) (N := 9) hx hb hts in_X0 hown hK hP 0 rfl rfl 1 (by decide) (hts _ q26) (fun _ h9 => h9) rfl dX0_cast_27 ?_
          refine lv_iload_n hx hb dX0_cast_30 rfl (lv_at hl 1 rfl) ?_
          refine xw_V (v := xd_agree σ.2.1 p0) (As := [.int σ.2.1, .int p0]) (rest := []) (ci := 0) ⟨hx, hb, hml, hown, hts⟩ (metX0_agree l dC dI h0 h1 h2 k1 k2 σ σ.2.1 p0) (cwV 2 hts (lw_V q68 q69 q70 q15 q71) rfl rfl rfl hdX0_agree ⟨Nat.le_of_ble_eq_true rfl, Nat.le_of_ble_eq_true rfl⟩) hK hP 0 rfl rfl rfl hl.1 rfl (Nat.le_of_ble_eq_true rfl) dX0_cast_31 ⟨Nat.zero_le _, Nat.zero_le _⟩ ?_
          refine lv_if_ne (tgt := 40) hx hb dX0_cast_34 (by decide) (fun c_5 => ?_) (fun c_5 => ?_)
          · skip
            refine lv_aload_n hx hb dX0_cast_40 rfl (lv_at hl 0 rfl) ?_
            refine va_get (D := (dC, dI)) (ci := 0) (v := .int σ.2.1) (C := RX0) (T := TX0) (N := 9) hx hb hts in_X0 hown hK hP 0 rfl rfl 1 (by decide) (hts _ q26) (fun _ h9 => h9) rfl dX0_cast_41 ?_
            refine lv_istore_n (lv' := [(3, .int σ.2.1), (0, .ref h0), (1, .int p0), (2, .int p1)]) hx hb dX0_cast_44 rfl hl (by decide) rfl (fun ls hl => ?_)
            refine lv_aload_n hx hb dX0_cast_45 rfl (lv_at hl 1 rfl) ?_
            refine lv_iload_n hx hb dX0_cast_46 rfl (lv_at hl 2 rfl) ?_
            refine va_put (D := (dC, dI)) (ci := 0) (v := .int p0) (ty := .int) (C := RX0) (T := TX0) (N := 9) hx hb hts in_X0 tyX0 tyX0_ok nmX0 hown hK hP hD hS 0 rfl rfl 1 (by decide) (hts _ q26) (fun _ h9 => h9) rfl (by decide +kernel) rfl rfl (Nat.le_of_ble_eq_true rfl) dX0_cast_47 (fun H locs hP hD hS => ?_)
            have hP : va_P (dC, dI) vwCl [(h0, .inr (0, [.int σ.1, .int p0, .int σ.2.2.1, .int σ.2.2.2.1, .ref h1, .ref h2, .int σ.2.2.2.2.1, .int σ.2.2.2.2.2.1, .int σ.2.2.2.2.2.2.1])), (h1, .inl (k1, 4, .inl σ.2.2.2.2.2.2.2.1)), (h2, .inl (k2, 4, .inl σ.2.2.2.2.2.2.2.2))] H := hP
            have hD : va_D A [(h0, .inr (0, [.int σ.1, .int p0, .int σ.2.2.1, .int σ.2.2.2.1, .ref h1, .ref h2, .int σ.2.2.2.2.1, .int σ.2.2.2.2.2.1, .int σ.2.2.2.2.2.2.1])), (h1, .inl (k1, 4, .inl σ.2.2.2.2.2.2.2.1)), (h2, .inl (k2, 4, .inl σ.2.2.2.2.2.2.2.2))] := hD
            refine lv_iload_n hx hb dX0_cast_50 rfl (lv_at hl 0 rfl) ?_
            refine lv_iload_n hx hb dX0_cast_51 rfl (lv_at hl 2 rfl) ?_
            refine lv_icmp_ne (tgt := 57) hx hb dX0_cast_52 (by decide) (fun c_6 => ?_) (fun c_6 => ?_)
            · skip
              refine lv_iload_n hx hb dX0_cast_57 rfl (lv_at hl 0 rfl) ?_
              refine lv_if_ne (tgt := 88) hx hb dX0_cast_58 (by decide) (fun c_7 => ?_) (fun c_7 => ?_)
              · skip
                refine lv_iload_n hx hb dX0_cast_88 rfl (lv_at hl 0 rfl) ?_
                refine lv_if_ne (tgt := 106) hx hb dX0_cast_89 (by decide) (fun _ => ?_) (fun c_8 => absurd c_8 c_7)
                refine lv_iload_n hx hb dX0_cast_106 rfl (lv_at hl 0 rfl) ?_
                refine xw_S (v := xd_isFun σ.2.1) (As := [.int σ.2.1]) (rest := []) ⟨hx, hb, hml, hown, hts⟩ (metX0_isFunction l σ.2.1) (va_cwS 1 hts (lw_S q72 q73 q15 q74) rfl rfl rfl hdX0_isFunction ⟨Nat.le_of_ble_eq_true rfl, Nat.le_of_ble_eq_true rfl⟩) rfl hl.1 rfl (Nat.le_of_ble_eq_true rfl) dX0_cast_107 ⟨Nat.zero_le _, Nat.zero_le _⟩ ?_
                refine lv_if_ne (tgt := 120) hx hb dX0_cast_110 (by decide) (fun c_9 => ?_) (fun c_9 => ?_)
                · skip
                  refine lv_aload_n hx hb dX0_cast_120 rfl (lv_at hl 1 rfl) ?_
                  refine xw_cut (g2 := F0 m 130 ls [.int (xd_or3 σ.2.1), .ref h0]) ?_ (fun K_130 => ?_)
                  · skip
                    refine xw_cut (g2 := F0 m 139 ls [.int (xd_or3 p0), .int (xd_or3 σ.2.1), .ref h0]) ?_ (fun K_139 => ?_)
                    · skip
                      refine lv_iload_n hx hb dX0_cast_139 rfl (lv_at hl 3 rfl) ?_
                      refine xw_U (rv := none) (As := [.int (xd_or3 σ.2.1), .int (xd_or3 p0), .int p1]) (rest := []) (ci := 0) ⟨hx, hb, hml, hown, hts⟩ (metX0_wrap l dC dI h0 h1 h2 k1 k2 (σ.1, p0, σ.2.2.1, σ.2.2.2.1, σ.2.2.2.2.1, σ.2.2.2.2.2.1, σ.2.2.2.2.2.2.1, σ.2.2.2.2.2.2.2.1, σ.2.2.2.2.2.2.2.2) (xd_or3 σ.2.1) (xd_or3 p0) p1) (cwV 3 hts (lw_V q88 q90 qs1 q15 q91) rfl rfl rfl hdX0_wrap ⟨Nat.le_of_ble_eq_true rfl, Nat.le_of_ble_eq_true rfl⟩) [] [] hK hP hD hS rfl 0 rfl rfl rfl hl.1 rfl (Nat.le_of_ble_eq_true rfl) dX0_cast_140 ⟨Nat.zero_le _, Nat.zero_le _⟩ (fun H locs hP hD hS => ?_)
                      obtain ⟨τ10, e_10⟩ : ∃ τ : xd_T, τ = xd_wrS ((σ.1, p0, σ.2.2.1, σ.2.2.2.1, σ.2.2.2.2.1, σ.2.2.2.2.2.1, σ.2.2.2.2.2.2.1, σ.2.2.2.2.2.2.2.1, σ.2.2.2.2.2.2.2.2)) (xd_or3 σ.2.1) (xd_or3 p0) p1 := ⟨_, rfl⟩
                      have hP : va_P (dC, dI) vwCl (xd_W h0 h1 h2 k1 k2 τ10) H := by rw [e_10]; exact hP
                      have hD : va_D A (xd_W h0 h1 h2 k1 k2 τ10) := by rw [e_10]; exact hD
                      have hP : va_P (dC, dI) vwCl [(h0, .inr (0, [.int τ10.1, .int τ10.2.1, .int τ10.2.2.1, .int τ10.2.2.2.1, .ref h1, .ref h2, .int τ10.2.2.2.2.1, .int τ10.2.2.2.2.2.1, .int τ10.2.2.2.2.2.2.1])), (h1, .inl (k1, 4, .inl τ10.2.2.2.2.2.2.2.1)), (h2, .inl (k2, 4, .inl τ10.2.2.2.2.2.2.2.2))] H := hP
                      have hD : va_D A [(h0, .inr (0, [.int τ10.1, .int τ10.2.1, .int τ10.2.2.1, .int τ10.2.2.2.1, .ref h1, .ref h2, .int τ10.2.2.2.2.1, .int τ10.2.2.2.2.2.1, .int τ10.2.2.2.2.2.2.1])), (h1, .inl (k1, 4, .inl τ10.2.2.2.2.2.2.2.1)), (h2, .inl (k2, 4, .inl τ10.2.2.2.2.2.2.2.2))] := hD
                      refine W.eq (g2 := F0 m 143 ls []) rfl ?_
                      refine lv_iconst (v := 0) hx hb dX0_cast_143 (by decide) ?_
                      have hP9 : va_P (dC, dI) vwCl (xd_W h0 h1 h2 k1 k2 (xd_castS σ p0 p1)) H := by
                        rw [show xd_castS σ p0 p1 = τ10 from by simp only [xd_castR, xd_castS, xd_cast3, xd_tyS, if_neg c_1, if_neg c_2, if_neg c_3, if_neg c_4, if_neg c_5, if_neg c_6, if_neg c_7, if_neg c_9, e_10]]
                        exact hP
                      exact W.iret hx hb hr (fun t ht _ => xw_m (by simp only [xd_castR, xd_castS, xd_cast3, xd_tyS, if_neg c_1, if_neg c_2, if_neg c_3, if_neg c_4, if_neg c_5, if_neg c_6, if_neg c_7, if_neg c_9, e_10]) hP9 hS ht) hS.2.2 dX0_cast_144
                    · skip
                      refine lv_iload_n hx hb dX0_cast_130 rfl (lv_at hl 2 rfl) ?_
                      refine lv_if_ne (tgt := 138) hx hb dX0_cast_131 (by decide) (fun c_11 => ?_) (fun c_11 => ?_)
                      · skip
                        refine lv_iload_n hx hb dX0_cast_138 rfl (lv_at hl 2 rfl) ?_
                        exact xw_top (by simp only [xd_or3, if_neg c_1, if_neg c_2, if_neg c_3, if_neg c_4, if_neg c_5, if_neg c_6, if_neg c_7, if_neg c_9, if_neg c_11]) K_139
                      · skip
                        refine lv_iconst (v := 3) hx hb dX0_cast_134 (by decide) ?_
                        refine lv_goto (tgt := 139) hx hb dX0_cast_135 (by decide) ?_
                        exact xw_top (by simp only [xd_or3, if_neg c_1, if_neg c_2, if_neg c_3, if_neg c_4, if_neg c_5, if_neg c_6, if_neg c_7, if_neg c_9, if_pos c_11]) K_139
                  · skip
                    refine lv_iload_n hx hb dX0_cast_121 rfl (lv_at hl 0 rfl) ?_
                    refine lv_if_ne (tgt := 129) hx hb dX0_cast_122 (by decide) (fun _ => ?_) (fun c_12 => absurd c_12 c_7)
                    refine lv_iload_n hx hb dX0_cast_129 rfl (lv_at hl 0 rfl) ?_
                    exact xw_top (by simp only [xd_or3, if_neg c_1, if_neg c_2, if_neg c_3, if_neg c_4, if_neg c_5, if_neg c_6, if_neg c_7, if_neg c_9]) K_130
                · skip
                  refine lv_iload_n hx hb dX0_cast_113 rfl (lv_at hl 2 rfl) ?_
                  refine xw_S (v := xd_isFun p0) (As := [.int p0]) (rest := []) ⟨hx, hb, hml, hown, hts⟩ (metX0_isFunction l p0) (va_cwS 1 hts (lw_S q72 q73 q15 q74) rfl rfl rfl hdX0_isFunction ⟨Nat.le_of_ble_eq_true rfl, Nat.le_of_ble_eq_true rfl⟩) rfl hl.1 rfl (Nat.le_of_ble_eq_true rfl) dX0_cast_114 ⟨Nat.zero_le _, Nat.zero_le _⟩ ?_
                  refine lv_if_eq (tgt := 143) hx hb dX0_cast_117 (by decide) (fun c_13 => ?_) (fun c_13 => ?_)
                  · skip
                    refine lv_iconst (v := 0) hx hb dX0_cast_143 (by decide) ?_
                    have hP9 : va_P (dC, dI) vwCl (xd_W h0 h1 h2 k1 k2 (xd_castS σ p0 p1)) H := by
                      rw [show xd_castS σ p0 p1 = (σ.1, p0, σ.2.2.1, σ.2.2.2.1, σ.2.2.2.2.1, σ.2.2.2.2.2.1, σ.2.2.2.2.2.2.1, σ.2.2.2.2.2.2.2.1, σ.2.2.2.2.2.2.2.2) from by simp only [xd_castR, xd_castS, xd_cast3, xd_tyS, if_neg c_1, if_neg c_2, if_neg c_3, if_neg c_4, if_neg c_5, if_neg c_6, if_neg c_7, if_pos c_9, if_pos c_13]]
                      exact hP
                    exact W.iret hx hb hr (fun t ht _ => xw_m (by simp only [xd_castR, xd_castS, xd_cast3, xd_tyS, if_neg c_1, if_neg c_2, if_neg c_3, if_neg c_4, if_neg c_5, if_neg c_6, if_neg c_7, if_pos c_9, if_pos c_13]) hP9 hS ht) hS.2.2 dX0_cast_144
                  · skip
                    refine lv_aload_n hx hb dX0_cast_120 rfl (lv_at hl 1 rfl) ?_
                    refine xw_cut (g2 := F0 m 130 ls [.int (xd_or3 σ.2.1), .ref h0]) ?_ (fun K_130 => ?_)
                    · skip
                      refine xw_cut (g2 := F0 m 139 ls [.int (xd_or3 p0), .int (xd_or3 σ.2.1), .ref h0]) ?_ (fun K_139 => ?_)
                      · skip
                        refine lv_iload_n hx hb dX0_cast_139 rfl (lv_at hl 3 rfl) ?_
                        refine xw_U (rv := none) (As := [.int (xd_or3 σ.2.1), .int (xd_or3 p0), .int p1]) (rest := []) (ci := 0) ⟨hx, hb, hml, hown, hts⟩ (metX0_wrap l dC dI h0 h1 h2 k1 k2 (σ.1, p0, σ.2.2.1, σ.2.2.2.1, σ.2.2.2.2.1, σ.2.2.2.2.2.1, σ.2.2.2.2.2.2.1, σ.2.2.2.2.2.2.2.1, σ.2.2.2.2.2.2.2.2) (xd_or3 σ.2.1) (xd_or3 p0) p1) (cwV 3 hts (lw_V q88 q90 qs1 q15 q91) rfl rfl rfl hdX0_wrap ⟨Nat.le_of_ble_eq_true rfl, Nat.le_of_ble_eq_true rfl⟩) [] [] hK hP hD hS rfl 0 rfl rfl rfl hl.1 rfl (Nat.le_of_ble_eq_true rfl) dX0_cast_140 ⟨Nat.zero_le _, Nat.zero_le _⟩ (fun H locs hP hD hS => ?_)
                        obtain ⟨τ14, e_14⟩ : ∃ τ : xd_T, τ = xd_wrS ((σ.1, p0, σ.2.2.1, σ.2.2.2.1, σ.2.2.2.2.1, σ.2.2.2.2.2.1, σ.2.2.2.2.2.2.1, σ.2.2.2.2.2.2.2.1, σ.2.2.2.2.2.2.2.2)) (xd_or3 σ.2.1) (xd_or3 p0) p1 := ⟨_, rfl⟩
                        have hP : va_P (dC, dI) vwCl (xd_W h0 h1 h2 k1 k2 τ14) H := by rw [e_14]; exact hP
                        have hD : va_D A (xd_W h0 h1 h2 k1 k2 τ14) := by rw [e_14]; exact hD
                        have hP : va_P (dC, dI) vwCl [(h0, .inr (0, [.int τ14.1, .int τ14.2.1, .int τ14.2.2.1, .int τ14.2.2.2.1, .ref h1, .ref h2, .int τ14.2.2.2.2.1, .int τ14.2.2.2.2.2.1, .int τ14.2.2.2.2.2.2.1])), (h1, .inl (k1, 4, .inl τ14.2.2.2.2.2.2.2.1)), (h2, .inl (k2, 4, .inl τ14.2.2.2.2.2.2.2.2))] H := hP
                        have hD : va_D A [(h0, .inr (0, [.int τ14.1, .int τ14.2.1, .int τ14.2.2.1, .int τ14.2.2.2.1, .ref h1, .ref h2, .int τ14.2.2.2.2.1, .int τ14.2.2.2.2.2.1, .int τ14.2.2.2.2.2.2.1])), (h1, .inl (k1, 4, .inl τ14.2.2.2.2.2.2.2.1)), (h2, .inl (k2, 4, .inl τ14.2.2.2.2.2.2.2.2))] := hD
                        refine W.eq (g2 := F0 m 143 ls []) rfl ?_
                        refine lv_iconst (v := 0) hx hb dX0_cast_143 (by decide) ?_
                        have hP9 : va_P (dC, dI) vwCl (xd_W h0 h1 h2 k1 k2 (xd_castS σ p0 p1)) H := by
                          rw [show xd_castS σ p0 p1 = τ14 from by simp only [xd_castR, xd_castS, xd_cast3, xd_tyS, if_neg c_1, if_neg c_2, if_neg c_3, if_neg c_4, if_neg c_5, if_neg c_6, if_neg c_7, if_pos c_9, if_neg c_13, e_14]]
                          exact hP
                        exact W.iret hx hb hr (fun t ht _ => xw_m (by simp only [xd_castR, xd_castS, xd_cast3, xd_tyS, if_neg c_1, if_neg c_2, if_neg c_3, if_neg c_4, if_neg c_5, if_neg c_6, if_neg c_7, if_pos c_9, if_neg c_13, e_14]) hP9 hS ht) hS.2.2 dX0_cast_144
                      · skip
                        refine lv_iload_n hx hb dX0_cast_130 rfl (lv_at hl 2 rfl) ?_
                        refine lv_if_ne (tgt := 138) hx hb dX0_cast_131 (by decide) (fun c_15 => ?_) (fun c_15 => ?_)
                        · skip
                          refine lv_iload_n hx hb dX0_cast_138 rfl (lv_at hl 2 rfl) ?_
                          exact xw_top (by simp only [xd_or3, if_neg c_1, if_neg c_2, if_neg c_3, if_neg c_4, if_neg c_5, if_neg c_6, if_neg c_7, if_pos c_9, if_neg c_13, if_neg c_15]) K_139
                        · skip
                          refine lv_iconst (v := 3) hx hb dX0_cast_134 (by decide) ?_
                          refine lv_goto (tgt := 139) hx hb dX0_cast_135 (by decide) ?_
                          exact xw_top (by simp only [xd_or3, if_neg c_1, if_neg c_2, if_neg c_3, if_neg c_4, if_neg c_5, if_neg c_6, if_neg c_7, if_pos c_9, if_neg c_13, if_pos c_15]) K_139
                    · skip
                      refine lv_iload_n hx hb dX0_cast_121 rfl (lv_at hl 0 rfl) ?_
                      refine lv_if_ne (tgt := 129) hx hb dX0_cast_122 (by decide) (fun _ => ?_) (fun c_16 => absurd c_16 c_7)
                      refine lv_iload_n hx hb dX0_cast_129 rfl (lv_at hl 0 rfl) ?_
                      exact xw_top (by simp only [xd_or3, if_neg c_1, if_neg c_2, if_neg c_3, if_neg c_4, if_neg c_5, if_neg c_6, if_neg c_7, if_pos c_9, if_neg c_13]) K_130
              · skip
                refine lv_iload_n hx hb dX0_cast_61 rfl (lv_at hl 2 rfl) ?_
                refine xw_S (v := xd_isFun p0) (As := [.int p0]) (rest := []) ⟨hx, hb, hml, hown, hts⟩ (metX0_isFunction l p0) (va_cwS 1 hts (lw_S q72 q73 q15 q74) rfl rfl rfl hdX0_isFunction ⟨Nat.le_of_ble_eq_true rfl, Nat.le_of_ble_eq_true rfl⟩) rfl hl.1 rfl (Nat.le_of_ble_eq_true rfl) dX0_cast_62 ⟨Nat.zero_le _, Nat.zero_le _⟩ ?_
                refine lv_if_ne (tgt := 88) hx hb dX0_cast_65 (by decide) (fun c_17 => ?_) (fun c_17 => ?_)
                · skip
                  refine lv_iload_n hx hb dX0_cast_88 rfl (lv_at hl 0 rfl) ?_
                  refine lv_if_ne (tgt := 106) hx hb dX0_cast_89 (by decide) (fun c_18 => absurd c_7 c_18) (fun _ => ?_)
                  refine lv_aload_n hx hb dX0_cast_92 rfl (lv_at hl 1 rfl) ?_
                  refine va_get (D := (dC, dI)) (ci := 0) (v := .int σ.2.2.1) (C := RX0) (T := TX0) (N := 9) hx hb hts in_X0 hown hK hP 0 rfl rfl 2 (by decide) (hts _ q27) (fun _ h9 => h9) rfl dX0_cast_93 ?_
                  refine lv_iconst (v := 2) hx hb dX0_cast_96 (by decide) ?_
                  refine lv_icmp_eq (tgt := 106) hx hb dX0_cast_97 (by decide) (fun c_19 => ?_) (fun c_19 => ?_)
                  · skip
                    refine lv_iload_n hx hb dX0_cast_106 rfl (lv_at hl 0 rfl) ?_
                    refine xw_S (v := xd_isFun σ.2.1) (As := [.int σ.2.1]) (rest := []) ⟨hx, hb, hml, hown, hts⟩ (metX0_isFunction l σ.2.1) (va_cwS 1 hts (lw_S q72 q73 q15 q74) rfl rfl rfl hdX0_isFunction ⟨Nat.le_of_ble_eq_true rfl, Nat.le_of_ble_eq_true rfl⟩) rfl hl.1 rfl (Nat.le_of_ble_eq_true rfl) dX0_cast_107 ⟨Nat.zero_le _, Nat.zero_le _⟩ ?_
                    refine lv_if_ne (tgt := 120) hx hb dX0_cast_110 (by decide) (fun c_20 => ?_) (fun c_20 => ?_)
                    · skip
                      refine lv_aload_n hx hb dX0_cast_120 rfl (lv_at hl 1 rfl) ?_
                      refine xw_cut (g2 := F0 m 130 ls [.int (xd_or3 σ.2.1), .ref h0]) ?_ (fun K_130 => ?_)
                      · skip
                        refine xw_cut (g2 := F0 m 139 ls [.int (xd_or3 p0), .int (xd_or3 σ.2.1), .ref h0]) ?_ (fun K_139 => ?_)
                        · skip
                          refine lv_iload_n hx hb dX0_cast_139 rfl (lv_at hl 3 rfl) ?_
                          refine xw_U (rv := none) (As := [.int (xd_or3 σ.2.1), .int (xd_or3 p0), .int p1]) (rest := []) (ci := 0) ⟨hx, hb, hml, hown, hts⟩ (metX0_wrap l dC dI h0 h1 h2 k1 k2 (σ.1, p0, σ.2.2.1, σ.2.2.2.1, σ.2.2.2.2.1, σ.2.2.2.2.2.1, σ.2.2.2.2.2.2.1, σ.2.2.2.2.2.2.2.1, σ.2.2.2.2.2.2.2.2) (xd_or3 σ.2.1) (xd_or3 p0) p1) (cwV 3 hts (lw_V q88 q90 qs1 q15 q91) rfl rfl rfl hdX0_wrap ⟨Nat.le_of_ble_eq_true rfl, Nat.le_of_ble_eq_true rfl⟩) [] [] hK hP hD hS rfl 0 rfl rfl rfl hl.1 rfl (Nat.le_of_ble_eq_true rfl) dX0_cast_140 ⟨Nat.zero_le _, Nat.zero_le _⟩ (fun H locs hP hD hS => ?_)
                          obtain ⟨τ21, e_21⟩ : ∃ τ : xd_T, τ = xd_wrS ((σ.1, p0, σ.2.2.1, σ.2.2.2.1, σ.2.2.2.2.1, σ.2.2.2.2.2.1, σ.2.2.2.2.2.2.1, σ.2.2.2.2.2.2.2.1, σ.2.2.2.2.2.2.2.2)) (xd_or3 σ.2.1) (xd_or3 p0) p1 := ⟨_, rfl⟩
                          have hP : va_P (dC, dI) vwCl (xd_W h0 h1 h2 k1 k2 τ21) H := by rw [e_21]; exact hP
                          have hD : va_D A (xd_W h0 h1 h2 k1 k2 τ21) := by rw [e_21]; exact hD
                          have hP : va_P (dC, dI) vwCl [(h0, .inr (0, [.int τ21.1, .int τ21.2.1, .int τ21.2.2.1, .int τ21.2.2.2.1, .ref h1, .ref h2, .int τ21.2.2.2.2.1, .int τ21.2.2.2.2.2.1, .int τ21.2.2.2.2.2.2.1])), (h1, .inl (k1, 4, .inl τ21.2.2.2.2.2.2.2.1)), (h2, .inl (k2, 4, .inl τ21.2.2.2.2.2.2.2.2))] H := hP
                          have hD : va_D A [(h0, .inr (0, [.int τ21.1, .int τ21.2.1, .int τ21.2.2.1, .int τ21.2.2.2.1, .ref h1, .ref h2, .int τ21.2.2.2.2.1, .int τ21.2.2.2.2.2.1, .int τ21.2.2.2.2.2.2.1])), (h1, .inl (k1, 4, .inl τ21.2.2.2.2.2.2.2.1)), (h2, .inl (k2, 4, .inl τ21.2.2.2.2.2.2.2.2))] := hD
                          refine W.eq (g2 := F0 m 143 ls []) rfl ?_
                          refine lv_iconst (v := 0) hx hb dX0_cast_143 (by decide) ?_
                          have hP9 : va_P (dC, dI) vwCl (xd_W h0 h1 h2 k1 k2 (xd_castS σ p0 p1)) H := by
                            rw [show xd_castS σ p0 p1 = τ21 from by simp only [xd_castR, xd_castS, xd_cast3, xd_tyS, if_neg c_1, if_neg c_2, if_neg c_3, if_neg c_4, if_neg c_5, if_neg c_6, if_pos c_7, if_neg c_17, if_pos c_19, if_neg c_20, e_21]]
                            exact hP
                          exact W.iret hx hb hr (fun t ht _ => xw_m (by simp only [xd_castR, xd_castS, xd_cast3, xd_tyS, if_neg c_1, if_neg c_2, if_neg c_3, if_neg c_4, if_neg c_5, if_neg c_6, if_pos c_7, if_neg c_17, if_pos c_19, if_neg c_20, e_21]) hP9 hS ht) hS.2.2 dX0_cast_144
                        · skip
                          refine lv_iload_n hx hb dX0_cast_130 rfl (lv_at hl 2 rfl) ?_
                          refine lv_if_ne (tgt := 138) hx hb dX0_cast_131 (by decide) (fun c_22 => ?_) (fun c_22 => ?_)
                          · skip
                            refine lv_iload_n hx hb dX0_cast_138 rfl (lv_at hl 2 rfl) ?_
                            exact xw_top (by simp only [xd_or3, if_neg c_1, if_neg c_2, if_neg c_3, if_neg c_4, if_neg c_5, if_neg c_6, if_pos c_7, if_neg c_17, if_pos c_19, if_neg c_20, if_neg c_22]) K_139
                          · skip
                            refine lv_iconst (v := 3) hx hb dX0_cast_134 (by decide) ?_
                            refine lv_goto (tgt := 139) hx hb dX0_cast_135 (by decide) ?_
                            exact xw_top (by simp only [xd_or3, if_neg c_1, if_neg c_2, if_neg c_3, if_neg c_4, if_neg c_5, if_neg c_6, if_pos c_7, if_neg c_17, if_pos c_19, if_neg c_20, if_pos c_22]) K_139
                      · skip
                        refine lv_iload_n hx hb dX0_cast_121 rfl (lv_at hl 0 rfl) ?_
                        refine lv_if_ne (tgt := 129) hx hb dX0_cast_122 (by decide) (fun c_23 => absurd c_7 c_23) (fun _ => ?_)
                        refine lv_iconst (v := 3) hx hb dX0_cast_125 (by decide) ?_
                        refine lv_goto (tgt := 130) hx hb dX0_cast_126 (by decide) ?_
                        exact xw_top (by simp only [xd_or3, if_neg c_1, if_neg c_2, if_neg c_3, if_neg c_4, if_neg c_5, if_neg c_6, if_pos c_7, if_neg c_17, if_pos c_19, if_neg c_20]) K_130
                    · skip
                      refine lv_iload_n hx hb dX0_cast_113 rfl (lv_at hl 2 rfl) ?_
                      refine xw_S (v := xd_isFun p0) (As := [.int p0]) (rest := []) ⟨hx, hb, hml, hown, hts⟩ (metX0_isFunction l p0) (va_cwS 1 hts (lw_S q72 q73 q15 q74) rfl rfl rfl hdX0_isFunction ⟨Nat.le_of_ble_eq_true rfl, Nat.le_of_ble_eq_true rfl⟩) rfl hl.1 rfl (Nat.le_of_ble_eq_true rfl) dX0_cast_114 ⟨Nat.zero_le _, Nat.zero_le _⟩ ?_
                      refine lv_if_eq (tgt := 143) hx hb dX0_cast_117 (by decide) (fun c_24 => absurd c_24 c_17) (fun _ => ?_)
                      refine lv_aload_n hx hb dX0_cast_120 rfl (lv_at hl 1 rfl) ?_
                      refine xw_cut (g2 := F0 m 130 ls [.int (xd_or3 σ.2.1), .ref h0]) ?_ (fun K_130 => ?_)
                      · skip
                        refine xw_cut (g2 := F0 m 139 ls [.int (xd_or3 p0), .int (xd_or3 σ.2.1), .ref h0]) ?_ (fun K_139 => ?_)
                        · skip
                          refine lv_iload_n hx hb dX0_cast_139 rfl (lv_at hl 3 rfl) ?_
                          refine xw_U (rv := none) (As := [.int (xd_or3 σ.2.1), .int (xd_or3 p0), .int p1]) (rest := []) (ci := 0) ⟨hx, hb, hml, hown, hts⟩ (metX0_wrap l dC dI h0 h1 h2 k1 k2 (σ.1, p0, σ.2.2.1, σ.2.2.2.1, σ.2.2.2.2.1, σ.2.2.2.2.2.1, σ.2.2.2.2.2.2.1, σ.2.2.2.2.2.2.2.1, σ.2.2.2.2.2.2.2.2) (xd_or3 σ.2.1) (xd_or3 p0) p1) (cwV 3 hts (lw_V q88 q90 qs1 q15 q91) rfl rfl rfl hdX0_wrap ⟨Nat.le_of_ble_eq_true rfl, Nat.le_of_ble_eq_true rfl⟩) [] [] hK hP hD hS rfl 0 rfl rfl rfl hl.1 rfl (Nat.le_of_ble_eq_true rfl) dX0_cast_140 ⟨Nat.zero_le _, Nat.zero_le _⟩ (fun H locs hP hD hS => ?_)
                          obtain ⟨τ25, e_25⟩ : ∃ τ : xd_T, τ = xd_wrS ((σ.1, p0, σ.2.2.1, σ.2.2.2.1, σ.2.2.2.2.1, σ.2.2.2.2.2.1, σ.2.2.2.2.2.2.1, σ.2.2.2.2.2.2.2.1, σ.2.2.2.2.2.2.2.2)) (xd_or3 σ.2.1) (xd_or3 p0) p1 := ⟨_, rfl⟩
                          have hP : va_P (dC, dI) vwCl (xd_W h0 h1 h2 k1 k2 τ25) H := by rw [e_25]; exact hP
                          have hD : va_D A (xd_W h0 h1 h2 k1 k2 τ25) := by rw [e_25]; exact hD
                          have hP : va_P (dC, dI) vwCl [(h0, .inr (0, [.int τ25.1, .int τ25.2.1, .int τ25.2.2.1, .int τ25.2.2.2.1, .ref h1, .ref h2, .int τ25.2.2.2.2.1, .int τ25.2.2.2.2.2.1, .int τ25.2.2.2.2.2.2.1])), (h1, .inl (k1, 4, .inl τ25.2.2.2.2.2.2.2.1)), (h2, .inl (k2, 4, .inl τ25.2.2.2.2.2.2.2.2))] H := hP
                          have hD : va_D A [(h0, .inr (0, [.int τ25.1, .int τ25.2.1, .int τ25.2.2.1, .int τ25.2.2.2.1, .ref h1, .ref h2, .int τ25.2.2.2.2.1, .int τ25.2.2.2.2.2.1, .int τ25.2.2.2.2.2.2.1])), (h1, .inl (k1, 4, .inl τ25.2.2.2.2.2.2.2.1)), (h2, .inl (k2, 4, .inl τ25.2.2.2.2.2.2.2.2))] := hD
                          refine W.eq (g2 := F0 m 143 ls []) rfl ?_
                          refine lv_iconst (v := 0) hx hb dX0_cast_143 (by decide) ?_
                          have hP9 : va_P (dC, dI) vwCl (xd_W h0 h1 h2 k1 k2 (xd_castS σ p0 p1)) H := by
                            rw [show xd_castS σ p0 p1 = τ25 from by simp only [xd_castR, xd_castS, xd_cast3, xd_tyS, if_neg c_1, if_neg c_2, if_neg c_3, if_neg c_4, if_neg c_5, if_neg c_6, if_pos c_7, if_neg c_17, if_pos c_19, if_pos c_20, e_25]]
                            exact hP
                          exact W.iret hx hb hr (fun t ht _ => xw_m (by simp only [xd_castR, xd_castS, xd_cast3, xd_tyS, if_neg c_1, if_neg c_2, if_neg c_3, if_neg c_4, if_neg c_5, if_neg c_6, if_pos c_7, if_neg c_17, if_pos c_19, if_pos c_20, e_25]) hP9 hS ht) hS.2.2 dX0_cast_144
                        · skip
                          refine lv_iload_n hx hb dX0_cast_130 rfl (lv_at hl 2 rfl) ?_
                          refine lv_if_ne (tgt := 138) hx hb dX0_cast_131 (by decide) (fun c_26 => ?_) (fun c_26 => ?_)
                          · skip
                            refine lv_iload_n hx hb dX0_cast_138 rfl (lv_at hl 2 rfl) ?_
                            exact xw_top (by simp only [xd_or3, if_neg c_1, if_neg c_2, if_neg c_3, if_neg c_4, if_neg c_5, if_neg c_6, if_pos c_7, if_neg c_17, if_pos c_19, if_pos c_20, if_neg c_26]) K_139
                          · skip
                            refine lv_iconst (v := 3) hx hb dX0_cast_134 (by decide) ?_
                            refine lv_goto (tgt := 139) hx hb dX0_cast_135 (by decide) ?_
                            exact xw_top (by simp only [xd_or3, if_neg c_1, if_neg c_2, if_neg c_3, if_neg c_4, if_neg c_5, if_neg c_6, if_pos c_7, if_neg c_17, if_pos c_19, if_pos c_20, if_pos c_26]) K_139
                      · skip
                        refine lv_iload_n hx hb dX0_cast_121 rfl (lv_at hl 0 rfl) ?_
                        refine lv_if_ne (tgt := 129) hx hb dX0_cast_122 (by decide) (fun c_27 => absurd c_7 c_27) (fun _ => ?_)
                        refine lv_iconst (v := 3) hx hb dX0_cast_125 (by decide) ?_
                        refine lv_goto (tgt := 130) hx hb dX0_cast_126 (by decide) ?_
                        exact xw_top (by simp only [xd_or3, if_neg c_1, if_neg c_2, if_neg c_3, if_neg c_4, if_neg c_5, if_neg c_6, if_pos c_7, if_neg c_17, if_pos c_19, if_pos c_20]) K_130
                  · skip
                    refine lv_aload_n hx hb dX0_cast_100 rfl (lv_at hl 1 rfl) ?_
                    refine lv_iload_n hx hb dX0_cast_101 rfl (lv_at hl 3 rfl) ?_
                    refine xw_U (rv := (some (.int p1))) (As := [.int p1]) (rest := []) (ci := 0) ⟨hx, hb, hml, hown, hts⟩ (metX0_fail l dC dI h0 h1 h2 k1 k2 (σ.1, p0, σ.2.2.1, σ.2.2.2.1, σ.2.2.2.2.1, σ.2.2.2.2.2.1, σ.2.2.2.2.2.2.1, σ.2.2.2.2.2.2.2.1, σ.2.2.2.2.2.2.2.2) p1) (cwV 1 hts (lw_V q84 q86 qs0 q15 q87) rfl rfl rfl hdX0_fail ⟨Nat.le_of_ble_eq_true rfl, Nat.le_of_ble_eq_true rfl⟩) [] [] hK hP hD hS rfl 0 rfl rfl rfl hl.1 rfl (Nat.le_of_ble_eq_true rfl) dX0_cast_102 ⟨Nat.zero_le _, Nat.zero_le _⟩ (fun H locs hP hD hS => ?_)
                    obtain ⟨τ28, e_28⟩ : ∃ τ : xd_T, τ = xd_flS ((σ.1, p0, σ.2.2.1, σ.2.2.2.1, σ.2.2.2.2.1, σ.2.2.2.2.2.1, σ.2.2.2.2.2.2.1, σ.2.2.2.2.2.2.2.1, σ.2.2.2.2.2.2.2.2)) := ⟨_, rfl⟩
                    have hP : va_P (dC, dI) vwCl (xd_W h0 h1 h2 k1 k2 τ28) H := by rw [e_28]; exact hP
                    have hD : va_D A (xd_W h0 h1 h2 k1 k2 τ28) := by rw [e_28]; exact hD
                    have hP : va_P (dC, dI) vwCl [(h0, .inr (0, [.int τ28.1, .int τ28.2.1, .int τ28.2.2.1, .int τ28.2.2.2.1, .ref h1, .ref h2, .int τ28.2.2.2.2.1, .int τ28.2.2.2.2.2.1, .int τ28.2.2.2.2.2.2.1])), (h1, .inl (k1, 4, .inl τ28.2.2.2.2.2.2.2.1)), (h2, .inl (k2, 4, .inl τ28.2.2.2.2.2.2.2.2))] H := hP
                    have hD : va_D A [(h0, .inr (0, [.int τ28.1, .int τ28.2.1, .int τ28.2.2.1, .int τ28.2.2.2.1, .ref h1, .ref h2, .int τ28.2.2.2.2.1, .int τ28.2.2.2.2.2.1, .int τ28.2.2.2.2.2.2.1])), (h1, .inl (k1, 4, .inl τ28.2.2.2.2.2.2.2.1)), (h2, .inl (k2, 4, .inl τ28.2.2.2.2.2.2.2.2))] := hD
                    refine W.eq (g2 := F0 m 105 ls [.int p1]) rfl ?_
                    have hP9 : va_P (dC, dI) vwCl (xd_W h0 h1 h2 k1 k2 (xd_castS σ p0 p1)) H := by
                      rw [show xd_castS σ p0 p1 = τ28 from by simp only [xd_castR, xd_castS, xd_cast3, xd_tyS, if_neg c_1, if_neg c_2, if_neg c_3, if_neg c_4, if_neg c_5, if_neg c_6, if_pos c_7, if_neg c_17, if_neg c_19, e_28]]
                      exact hP
                    exact W.iret hx hb hr (fun t ht _ => xw_m (by simp only [xd_castR, xd_castS, xd_cast3, xd_tyS, if_neg c_1, if_neg c_2, if_neg c_3, if_neg c_4, if_neg c_5, if_neg c_6, if_pos c_7, if_neg c_17, if_neg c_19, e_28]) hP9 hS ht) hS.2.2 dX0_cast_105
                · skip
                  refine lv_aload_n hx hb dX0_cast_68 rfl (lv_at hl 1 rfl) ?_
                  refine va_get (D := (dC, dI)) (ci := 0) (v := .int σ.2.2.1) (C := RX0) (T := TX0) (N := 9) hx hb hts in_X0 hown hK hP 0 rfl rfl 2 (by decide) (hts _ q27) (fun _ h9 => h9) rfl dX0_cast_69 ?_
                  refine lv_iconst (v := 1) hx hb dX0_cast_72 (by decide) ?_
                  refine lv_iadd hx hb dX0_cast_73 ?_
                  refine lv_iload_n hx hb dX0_cast_74 rfl (lv_at hl 2 rfl) ?_
                  refine lv_icmp_ne (tgt := 82) hx hb dX0_cast_75 (by decide) (fun c_29 => ?_) (fun c_29 => ?_)
                  · skip
                    refine lv_aload_n hx hb dX0_cast_82 rfl (lv_at hl 1 rfl) ?_
                    refine lv_iload_n hx hb dX0_cast_83 rfl (lv_at hl 3 rfl) ?_
                    refine xw_U (rv := (some (.int p1))) (As := [.int p1]) (rest := []) (ci := 0) ⟨hx, hb, hml, hown, hts⟩ (metX0_fail l dC dI h0 h1 h2 k1 k2 (σ.1, p0, σ.2.2.1, σ.2.2.2.1, σ.2.2.2.2.1, σ.2.2.2.2.2.1, σ.2.2.2.2.2.2.1, σ.2.2.2.2.2.2.2.1, σ.2.2.2.2.2.2.2.2) p1) (cwV 1 hts (lw_V q84 q86 qs0 q15 q87) rfl rfl rfl hdX0_fail ⟨Nat.le_of_ble_eq_true rfl, Nat.le_of_ble_eq_true rfl⟩) [] [] hK hP hD hS rfl 0 rfl rfl rfl hl.1 rfl (Nat.le_of_ble_eq_true rfl) dX0_cast_84 ⟨Nat.zero_le _, Nat.zero_le _⟩ (fun H locs hP hD hS => ?_)
                    obtain ⟨τ30, e_30⟩ : ∃ τ : xd_T, τ = xd_flS ((σ.1, p0, σ.2.2.1, σ.2.2.2.1, σ.2.2.2.2.1, σ.2.2.2.2.2.1, σ.2.2.2.2.2.2.1, σ.2.2.2.2.2.2.2.1, σ.2.2.2.2.2.2.2.2)) := ⟨_, rfl⟩
                    have hP : va_P (dC, dI) vwCl (xd_W h0 h1 h2 k1 k2 τ30) H := by rw [e_30]; exact hP
                    have hD : va_D A (xd_W h0 h1 h2 k1 k2 τ30) := by rw [e_30]; exact hD
                    have hP : va_P (dC, dI) vwCl [(h0, .inr (0, [.int τ30.1, .int τ30.2.1, .int τ30.2.2.1, .int τ30.2.2.2.1, .ref h1, .ref h2, .int τ30.2.2.2.2.1, .int τ30.2.2.2.2.2.1, .int τ30.2.2.2.2.2.2.1])), (h1, .inl (k1, 4, .inl τ30.2.2.2.2.2.2.2.1)), (h2, .inl (k2, 4, .inl τ30.2.2.2.2.2.2.2.2))] H := hP
                    have hD : va_D A [(h0, .inr (0, [.int τ30.1, .int τ30.2.1, .int τ30.2.2.1, .int τ30.2.2.2.1, .ref h1, .ref h2, .int τ30.2.2.2.2.1, .int τ30.2.2.2.2.2.1, .int τ30.2.2.2.2.2.2.1])), (h1, .inl (k1, 4, .inl τ30.2.2.2.2.2.2.2.1)), (h2, .inl (k2, 4, .inl τ30.2.2.2.2.2.2.2.2))] := hD
                    refine W.eq (g2 := F0 m 87 ls [.int p1]) rfl ?_
                    have hP9 : va_P (dC, dI) vwCl (xd_W h0 h1 h2 k1 k2 (xd_castS σ p0 p1)) H := by
                      rw [show xd_castS σ p0 p1 = τ30 from by simp only [xd_castR, xd_castS, xd_cast3, xd_tyS, if_neg c_1, if_neg c_2, if_neg c_3, if_neg c_4, if_neg c_5, if_neg c_6, if_pos c_7, if_pos c_17, if_neg c_29, e_30]]
                      exact hP
                    exact W.iret hx hb hr (fun t ht _ => xw_m (by simp only [xd_castR, xd_castS, xd_cast3, xd_tyS, if_neg c_1, if_neg c_2, if_neg c_3, if_neg c_4, if_neg c_5, if_neg c_6, if_pos c_7, if_pos c_17, if_neg c_29, e_30]) hP9 hS ht) hS.2.2 dX0_cast_87
                  · skip
                    refine lv_iconst (v := 0) hx hb dX0_cast_78 (by decide) ?_
                    refine lv_goto (tgt := 87) hx hb dX0_cast_79 (by decide) ?_
                    have hP9 : va_P (dC, dI) vwCl (xd_W h0 h1 h2 k1 k2 (xd_castS σ p0 p1)) H := by
                      rw [show xd_castS σ p0 p1 = (σ.1, p0, σ.2.2.1, σ.2.2.2.1, σ.2.2.2.2.1, σ.2.2.2.2.2.1, σ.2.2.2.2.2.2.1, σ.2.2.2.2.2.2.2.1, σ.2.2.2.2.2.2.2.2) from by simp only [xd_castR, xd_castS, xd_cast3, xd_tyS, if_neg c_1, if_neg c_2, if_neg c_3, if_neg c_4, if_neg c_5, if_neg c_6, if_pos c_7, if_pos c_17, if_pos c_29]]
                      exact hP
                    exact W.iret hx hb hr (fun t ht _ => xw_m (by simp only [xd_castR, xd_castS, xd_cast3, xd_tyS, if_neg c_1, if_neg c_2, if_neg c_3, if_neg c_4, if_neg c_5, if_neg c_6, if_pos c_7, if_pos c_17, if_pos c_29]) hP9 hS ht) hS.2.2 dX0_cast_87
            · skip
              refine lv_iconst (v := 0) hx hb dX0_cast_55 (by decide) ?_
              have hP9 : va_P (dC, dI) vwCl (xd_W h0 h1 h2 k1 k2 (xd_castS σ p0 p1)) H := by
                rw [show xd_castS σ p0 p1 = (σ.1, p0, σ.2.2.1, σ.2.2.2.1, σ.2.2.2.2.1, σ.2.2.2.2.2.1, σ.2.2.2.2.2.2.1, σ.2.2.2.2.2.2.2.1, σ.2.2.2.2.2.2.2.2) from by simp only [xd_castR, xd_castS, xd_cast3, xd_tyS, if_neg c_1, if_neg c_2, if_neg c_3, if_neg c_4, if_neg c_5, if_pos c_6]]
                exact hP
              exact W.iret hx hb hr (fun t ht _ => xw_m (by simp only [xd_castR, xd_castS, xd_cast3, xd_tyS, if_neg c_1, if_neg c_2, if_neg c_3, if_neg c_4, if_neg c_5, if_pos c_6]) hP9 hS ht) hS.2.2 dX0_cast_56
          · skip
            refine lv_bipush (v := (-100)) hx hb dX0_cast_37 (by decide) ?_
            have hP9 : va_P (dC, dI) vwCl (xd_W h0 h1 h2 k1 k2 (xd_castS σ p0 p1)) s.heap := by
              rw [show xd_castS σ p0 p1 = σ from by simp only [xd_castR, xd_castS, xd_cast3, xd_tyS, if_neg c_1, if_neg c_2, if_neg c_3, if_neg c_4, if_pos c_5]]
              exact hP
            exact W.iret hx hb hr (fun t ht _ => xw_m (by simp only [xd_castR, xd_castS, xd_cast3, xd_tyS, if_neg c_1, if_neg c_2, if_neg c_3, if_neg c_4, if_pos c_5]) hP9 hS ht) hS.2.2 dX0_cast_39
abbrev wsX0_call : List Cond := ws_ yX0_call cX0_call 7 (some .int)
theorem hdX0_call : yX0_call.cls = RX0 ∧ yX0_call.cls ≠ "java/lang/invoke/MethodHandle" ∧ yX0_call.cls ≠ "java/lang/invoke/VarHandle" ∧ (parseMethodDescriptor yX0_call.desc).map (fun d => d.parameters.length) = some 2 := by decide +kernel
set_option maxHeartbeats 4000000 in
set_option maxRecDepth 100000 in
theorem metX0_call (l : Launch) (dC : Nat → ClassId) (dI : Nat → Nat → Nat) (h0 h1 h2 : Nat) (k1 k2 : ClassId) (σ : xd_T) (p0 p1 : Int32) : Met l yX0_call wsX0_call ({ frames := 1, cells := 0, slots := 0, locals := 23 }) (va_Pc [.ref h0, .int p0, .int p1] (xw_Wr (dC, dI) vwCl (xd_W h0 h1 h2 k1 k2 σ) [(k1, .byte), (k2, .byte)])) (xw_M (dC, dI) vwCl (some (.int (xd_callR σ p0 p1))) (xd_W h0 h1 h2 k1 k2 (xd_callS σ p0 p1)) (xw_ad (xd_W h0 h1 h2 k1 k2 σ))) 0 0 (xw_ad (xd_W h0 h1 h2 k1 k2 σ)) := by
  refine Met.ofW (cc := cX0_call) (maxL := 7) (ret := (some .int)) (by decide) rfl ?_
  intro p e s m args below meth c s₁ B hml hv
  obtain ⟨rfl, hP, hK, hD0⟩ := hv
  have hx := B.exec
  have hb := B.bytes
  have hr := B.returns
  have hts := atoms_spec (ws := wsX0_call) B.pre
  have hts : ∀ w ∈ lw_all, w.before _ s = true := fun w h => hts w (List.mem_cons_of_mem _ h)
  have hown : s.vm.findClass RX0 = some m.cls := findClass_of_methodNamed B.named
  have hlocks := B.notSynchronized
  have hD := xw_D_self hD0
  generalize xw_ad (xd_W h0 h1 h2 k1 k2 σ) = A at hD ⊢
  have hS : va_S A s.heap s.heap [] := va_S.rf
  have hP : va_P (dC, dI) vwCl [(h0, .inr (0, [.int σ.1, .int σ.2.1, .int σ.2.2.1, .int σ.2.2.2.1, .ref h1, .ref h2, .int σ.2.2.2.2.1, .int σ.2.2.2.2.2.1, .int σ.2.2.2.2.2.2.1])), (h1, .inl (k1, 4, .inl σ.2.2.2.2.2.2.2.1)), (h2, .inl (k2, 4, .inl σ.2.2.2.2.2.2.2.2))] s.heap := hP
  have hD : va_D A [(h0, .inr (0, [.int σ.1, .int σ.2.1, .int σ.2.2.1, .int σ.2.2.2.1, .ref h1, .ref h2, .int σ.2.2.2.2.1, .int σ.2.2.2.2.2.1, .int σ.2.2.2.2.2.2.1])), (h1, .inl (k1, 4, .inl σ.2.2.2.2.2.2.2.1)), (h2, .inl (k2, 4, .inl σ.2.2.2.2.2.2.2.2))] := hD
  have hl := lv_entry ([.ref h0, .int p0, .int p1]) (n := 7) (Nat.le_of_ble_eq_true rfl)
  rw [lg_entry_eq]
  generalize (lg_sl ([.ref h0, .int p0, .int p1]) ++ List.replicate (7 - (lg_sl ([.ref h0, .int p0, .int p1])).length) Slot.unset).toArray = ls at hl ⊢
  have hl : lv_has ls 7 [(0, .ref h0), (1, .int p0), (2, .int p1)] := hl
  refine xw_cut (g2 := F0 m 23 ls [.int (xd_argOk p0 p1)]) ?_ (fun K_23 => ?_)
  · skip
    refine lv_istore_n (lv' := [(3, .int (xd_argOk p0 p1)), (0, .ref h0), (1, .int p0), (2, .int p1)]) hx hb dX0_call_23 rfl hl (by decide) rfl (fun ls hl => ?_)
    refine lv_aload_n hx hb dX0_call_24 rfl (lv_at hl 1 rfl) ?_
    refine va_get (D := (dC, dI)) (ci := 0) (v := .int σ.1) (C := RX0) (T := TX0) (N := 9) hx hb hts in_X0 hown hK hP 0 rfl rfl 0 (by decide) (hts _ q25) (fun _ h9 => h9) rfl dX0_call_25 ?_
    refine lv_if_eq (tgt := 45) hx hb dX0_call_28 (by decide) (fun c_1 => ?_) (fun c_1 => ?_)
    · skip
      refine lv_bipush (v := (-100)) hx hb dX0_call_45 (by decide) ?_
      have hP9 : va_P (dC, dI) vwCl (xd_W h0 h1 h2 k1 k2 (xd_callS σ p0 p1)) s.heap := by
        rw [show xd_callS σ p0 p1 = σ from by simp only [xd_callR, xd_callS, xd_callX, xd_callY, if_pos c_1]]
        exact hP
      exact W.iret hx hb hr (fun t ht _ => xw_m (by simp only [xd_callR, xd_callS, xd_callX, xd_callY, if_pos c_1]) hP9 hS ht) hS.2.2 dX0_call_47
    · skip
      refine lv_aload_n hx hb dX0_call_31 rfl (lv_at hl 1 rfl) ?_
      refine va_get (D := (dC, dI)) (ci := 0) (v := .int σ.2.1) (C := RX0) (T := TX0) (N := 9) hx hb hts in_X0 hown hK hP 0 rfl rfl 1 (by decide) (hts _ q26) (fun _ h9 => h9) rfl dX0_call_32 ?_
      refine xw_S (v := xd_isFun σ.2.1) (As := [.int σ.2.1]) (rest := []) ⟨hx, hb, hml, hown, hts⟩ (metX0_isFunction l σ.2.1) (va_cwS 1 hts (lw_S q72 q73 q15 q74) rfl rfl rfl hdX0_isFunction ⟨Nat.le_of_ble_eq_true rfl, Nat.le_of_ble_eq_true rfl⟩) rfl hl.1 rfl (Nat.le_of_ble_eq_true rfl) dX0_call_35 ⟨Nat.zero_le _, Nat.zero_le _⟩ ?_
      refine lv_if_eq (tgt := 45) hx hb dX0_call_38 (by decide) (fun c_2 => ?_) (fun c_2 => ?_)
      · skip
        refine lv_bipush (v := (-100)) hx hb dX0_call_45 (by decide) ?_
        have hP9 : va_P (dC, dI) vwCl (xd_W h0 h1 h2 k1 k2 (xd_callS σ p0 p1)) s.heap := by
          rw [show xd_callS σ p0 p1 = σ from by simp only [xd_callR, xd_callS, xd_callX, xd_callY, if_neg c_1, if_pos c_2]]
          exact hP
        exact W.iret hx hb hr (fun t ht _ => xw_m (by simp only [xd_callR, xd_callS, xd_callX, xd_callY, if_neg c_1, if_pos c_2]) hP9 hS ht) hS.2.2 dX0_call_47
      · skip
        refine lv_iload_n hx hb dX0_call_41 rfl (lv_at hl 0 rfl) ?_
        refine lv_if_ne (tgt := 48) hx hb dX0_call_42 (by decide) (fun c_3 => ?_) (fun c_3 => ?_)
        · skip
          refine lv_aload_n hx hb dX0_call_48 rfl (lv_at hl 1 rfl) ?_
          refine va_get (D := (dC, dI)) (ci := 0) (v := .int σ.2.1) (C := RX0) (T := TX0) (N := 9) hx hb hts in_X0 hown hK hP 0 rfl rfl 1 (by decide) (hts _ q26) (fun _ h9 => h9) rfl dX0_call_49 ?_
          refine xw_S (v := xd_arg σ.2.1) (As := [.int σ.2.1]) (rest := []) ⟨hx, hb, hml, hown, hts⟩ (metX0_argumentOf l σ.2.1) (va_cwS 1 hts (lw_S q78 q79 q15 q80) rfl rfl rfl hdX0_argumentOf ⟨Nat.le_of_ble_eq_true rfl, Nat.le_of_ble_eq_true rfl⟩) rfl hl.1 rfl (Nat.le_of_ble_eq_true rfl) dX0_call_52 ⟨Nat.zero_le _, Nat.zero_le _⟩ ?_
          refine lv_istore (lv' := [(4, .int (xd_arg σ.2.1)), (3, .int (xd_argOk p0 p1)), (0, .ref h0), (1, .int p0), (2, .int p1)]) hx hb dX0_call_55 hl (by decide) rfl (fun ls hl => ?_)
          refine lv_iload hx hb dX0_call_57 (lv_at hl 0 rfl) ?_
          refine lv_if_eq (tgt := 73) hx hb dX0_call_59 (by decide) (fun c_4 => ?_) (fun c_4 => ?_)
          · skip
            refine lv_aload_n hx hb dX0_call_73 rfl (lv_at hl 2 rfl) ?_
            refine lv_iconst (v := 0) hx hb dX0_call_74 (by decide) ?_
            refine lv_iload_n hx hb dX0_call_75 rfl (lv_at hl 3 rfl) ?_
            refine xw_V (v := xd_meet σ.2.2.2.2.2.2.2.1 σ.2.2.2.2.2.2.2.2 0 p0) (As := [.int 0, .int p0]) (rest := []) (ci := 0) ⟨hx, hb, hml, hown, hts⟩ (metX0_meet l dC dI h0 h1 h2 k1 k2 σ 0 p0 xi_40 xi_401) (cwV 2 hts (lw_V q116 q118 qs4 q15 q119) rfl rfl rfl hdX0_meet ⟨Nat.le_of_ble_eq_true rfl, Nat.le_of_ble_eq_true rfl⟩) hK hP 0 rfl rfl rfl hl.1 rfl (Nat.le_of_ble_eq_true rfl) dX0_call_76 ⟨Nat.zero_le _, Nat.zero_le _⟩ ?_
            refine lv_istore (lv' := [(5, .int (xd_meet σ.2.2.2.2.2.2.2.1 σ.2.2.2.2.2.2.2.2 0 p0)), (4, .int (xd_arg σ.2.1)), (3, .int (xd_argOk p0 p1)), (0, .ref h0), (1, .int p0), (2, .int p1)]) hx hb dX0_call_79 hl (by decide) rfl (fun ls hl => ?_)
            refine lv_iload hx hb dX0_call_81 (lv_at hl 0 rfl) ?_
            refine lv_if_eq (tgt := 89) hx hb dX0_call_83 (by decide) (fun c_5 => ?_) (fun c_5 => ?_)
            · skip
              refine lv_aload_n hx hb dX0_call_89 rfl (lv_at hl 3 rfl) ?_
              refine lv_iload_n hx hb dX0_call_90 rfl (lv_at hl 4 rfl) ?_
              refine xw_V (v := xd_gk σ.2.2.2.1 p0) (As := [.int p0]) (rest := []) (ci := 0) ⟨hx, hb, hml, hown, hts⟩ (metX0_givenKind l dC dI h0 h1 h2 k1 k2 σ p0) (cwV 1 hts (lw_V q120 q122 qs5 q15 q123) rfl rfl rfl hdX0_givenKind ⟨Nat.le_of_ble_eq_true rfl, Nat.le_of_ble_eq_true rfl⟩) hK hP 0 rfl rfl rfl hl.1 rfl (Nat.le_of_ble_eq_true rfl) dX0_call_91 ⟨Nat.zero_le _, Nat.zero_le _⟩ ?_
              refine lv_istore (lv' := [(6, .int (xd_gk σ.2.2.2.1 p0)), (5, .int (xd_meet σ.2.2.2.2.2.2.2.1 σ.2.2.2.2.2.2.2.2 0 p0)), (4, .int (xd_arg σ.2.1)), (3, .int (xd_argOk p0 p1)), (0, .ref h0), (1, .int p0), (2, .int p1)]) hx hb dX0_call_94 hl (by decide) rfl (fun ls hl => ?_)
              refine lv_aload_n hx hb dX0_call_96 rfl (lv_at hl 4 rfl) ?_
              refine lv_iconst (v := 2) hx hb dX0_call_97 (by decide) ?_
              refine lv_iload hx hb dX0_call_98 (lv_at hl 0 rfl) ?_
              refine xw_V (v := xd_meet σ.2.2.2.2.2.2.2.1 σ.2.2.2.2.2.2.2.2 2 (xd_gk σ.2.2.2.1 p0)) (As := [.int 2, .int (xd_gk σ.2.2.2.1 p0)]) (rest := []) (ci := 0) ⟨hx, hb, hml, hown, hts⟩ (metX0_meet l dC dI h0 h1 h2 k1 k2 σ 2 (xd_gk σ.2.2.2.1 p0) xi_42 xi_421) (cwV 2 hts (lw_V q116 q118 qs4 q15 q119) rfl rfl rfl hdX0_meet ⟨Nat.le_of_ble_eq_true rfl, Nat.le_of_ble_eq_true rfl⟩) hK hP 0 rfl rfl rfl hl.1 rfl (Nat.le_of_ble_eq_true rfl) dX0_call_100 ⟨Nat.zero_le _, Nat.zero_le _⟩ ?_
              refine lv_istore (lv' := [(5, .int (xd_meet σ.2.2.2.2.2.2.2.1 σ.2.2.2.2.2.2.2.2 2 (xd_gk σ.2.2.2.1 p0))), (6, .int (xd_gk σ.2.2.2.1 p0)), (4, .int (xd_arg σ.2.1)), (3, .int (xd_argOk p0 p1)), (0, .ref h0), (1, .int p0), (2, .int p1)]) hx hb dX0_call_103 hl (by decide) rfl (fun ls hl => ?_)
              refine lv_iload hx hb dX0_call_105 (lv_at hl 0 rfl) ?_
              refine lv_if_ne (tgt := 130) hx hb dX0_call_107 (by decide) (fun c_6 => ?_) (fun c_6 => ?_)
              · skip
                refine lv_iload hx hb dX0_call_130 (lv_at hl 0 rfl) ?_
                have hP9 : va_P (dC, dI) vwCl (xd_W h0 h1 h2 k1 k2 (xd_callS σ p0 p1)) s.heap := by
                  rw [show xd_callS σ p0 p1 = σ from by simp only [xd_callR, xd_callS, xd_callX, xd_callY, if_neg c_1, if_neg c_2, if_neg c_3, if_pos c_4, if_pos c_5, if_neg c_6]]
                  exact hP
                exact W.iret hx hb hr (fun t ht _ => xw_m (by simp only [xd_callR, xd_callS, xd_callX, xd_callY, if_neg c_1, if_neg c_2, if_neg c_3, if_pos c_4, if_pos c_5, if_neg c_6]) hP9 hS ht) hS.2.2 dX0_call_132
              · skip
                refine lv_aload_n hx hb dX0_call_110 rfl (lv_at hl 4 rfl) ?_
                refine lv_iconst (v := 1) hx hb dX0_call_111 (by decide) ?_
                refine va_put (D := (dC, dI)) (ci := 0) (v := .int 1) (ty := .boolean) (C := RX0) (T := TX0) (N := 9) hx hb hts in_X0 tyX0 tyX0_ok nmX0 hown hK hP hD hS 0 rfl rfl 6 (by decide) (hts _ q31) (fun _ h9 => h9) rfl (by decide +kernel) rfl rfl (Nat.le_of_ble_eq_true rfl) dX0_call_112 (fun H locs hP hD hS => ?_)
                have hP : va_P (dC, dI) vwCl [(h0, .inr (0, [.int σ.1, .int σ.2.1, .int σ.2.2.1, .int σ.2.2.2.1, .ref h1, .ref h2, .int 1, .int σ.2.2.2.2.2.1, .int σ.2.2.2.2.2.2.1])), (h1, .inl (k1, 4, .inl σ.2.2.2.2.2.2.2.1)), (h2, .inl (k2, 4, .inl σ.2.2.2.2.2.2.2.2))] H := hP
                have hD : va_D A [(h0, .inr (0, [.int σ.1, .int σ.2.1, .int σ.2.2.1, .int σ.2.2.2.1, .ref h1, .ref h2, .int 1, .int σ.2.2.2.2.2.1, .int σ.2.2.2.2.2.2.1])), (h1, .inl (k1, 4, .inl σ.2.2.2.2.2.2.2.1)), (h2, .inl (k2, 4, .inl σ.2.2.2.2.2.2.2.2))] := hD
                refine lv_aload_n hx hb dX0_call_115 rfl (lv_at hl 4 rfl) ?_
                refine lv_iload hx hb dX0_call_116 (lv_at hl 1 rfl) ?_
                refine va_put (D := (dC, dI)) (ci := 0) (v := .int (xd_gk σ.2.2.2.1 p0)) (ty := .int) (C := RX0) (T := TX0) (N := 9) hx hb hts in_X0 tyX0 tyX0_ok nmX0 hown hK hP hD hS 0 rfl rfl 7 (by decide) (hts _ q32) (fun _ h9 => h9) rfl (by decide +kernel) rfl rfl (Nat.le_of_ble_eq_true rfl) dX0_call_118 (fun H locs hP hD hS => ?_)
                have hP : va_P (dC, dI) vwCl [(h0, .inr (0, [.int σ.1, .int σ.2.1, .int σ.2.2.1, .int σ.2.2.2.1, .ref h1, .ref h2, .int 1, .int (xd_gk σ.2.2.2.1 p0), .int σ.2.2.2.2.2.2.1])), (h1, .inl (k1, 4, .inl σ.2.2.2.2.2.2.2.1)), (h2, .inl (k2, 4, .inl σ.2.2.2.2.2.2.2.2))] H := hP
                have hD : va_D A [(h0, .inr (0, [.int σ.1, .int σ.2.1, .int σ.2.2.1, .int σ.2.2.2.1, .ref h1, .ref h2, .int 1, .int (xd_gk σ.2.2.2.1 p0), .int σ.2.2.2.2.2.2.1])), (h1, .inl (k1, 4, .inl σ.2.2.2.2.2.2.2.1)), (h2, .inl (k2, 4, .inl σ.2.2.2.2.2.2.2.2))] := hD
                refine lv_aload_n hx hb dX0_call_121 rfl (lv_at hl 4 rfl) ?_
                refine lv_aload_n hx hb dX0_call_122 rfl (lv_at hl 4 rfl) ?_
                refine lv_iload_n hx hb dX0_call_123 rfl (lv_at hl 6 rfl) ?_
                refine xw_V (v := xd_given σ.2.2.2.1 p1) (As := [.int p1]) (rest := [.ref h0]) (ci := 0) ⟨hx, hb, hml, hown, hts⟩ (metX0_given l dC dI h0 h1 h2 k1 k2 (σ.1, σ.2.1, σ.2.2.1, σ.2.2.2.1, 1, xd_gk σ.2.2.2.1 p0, σ.2.2.2.2.2.2.1, σ.2.2.2.2.2.2.2.1, σ.2.2.2.2.2.2.2.2) p1) (cwV 1 hts (lw_V q124 q126 qs6 q15 q127) rfl rfl rfl hdX0_given ⟨Nat.le_of_ble_eq_true rfl, Nat.le_of_ble_eq_true rfl⟩) hK hP 0 rfl rfl rfl hl.1 rfl (Nat.le_of_ble_eq_true rfl) dX0_call_124 ⟨Nat.zero_le _, Nat.zero_le _⟩ ?_
                refine va_put (D := (dC, dI)) (ci := 0) (v := .int (xd_given σ.2.2.2.1 p1)) (ty := .int) (C := RX0) (T := TX0) (N := 9) hx hb hts in_X0 tyX0 tyX0_ok nmX0 hown hK hP hD hS 0 rfl rfl 8 (by decide) (hts _ q33) (fun _ h9 => h9) rfl (by decide +kernel) rfl rfl (Nat.le_of_ble_eq_true rfl) dX0_call_127 (fun H locs hP hD hS => ?_)
                have hP : va_P (dC, dI) vwCl [(h0, .inr (0, [.int σ.1, .int σ.2.1, .int σ.2.2.1, .int σ.2.2.2.1, .ref h1, .ref h2, .int 1, .int (xd_gk σ.2.2.2.1 p0), .int (xd_given σ.2.2.2.1 p1)])), (h1, .inl (k1, 4, .inl σ.2.2.2.2.2.2.2.1)), (h2, .inl (k2, 4, .inl σ.2.2.2.2.2.2.2.2))] H := hP
                have hD : va_D A [(h0, .inr (0, [.int σ.1, .int σ.2.1, .int σ.2.2.1, .int σ.2.2.2.1, .ref h1, .ref h2, .int 1, .int (xd_gk σ.2.2.2.1 p0), .int (xd_given σ.2.2.2.1 p1)])), (h1, .inl (k1, 4, .inl σ.2.2.2.2.2.2.2.1)), (h2, .inl (k2, 4, .inl σ.2.2.2.2.2.2.2.2))] := hD
                refine lv_iload hx hb dX0_call_130 (lv_at hl 0 rfl) ?_
                have hP9 : va_P (dC, dI) vwCl (xd_W h0 h1 h2 k1 k2 (xd_callS σ p0 p1)) H := by
                  rw [show xd_callS σ p0 p1 = (σ.1, σ.2.1, σ.2.2.1, σ.2.2.2.1, 1, xd_gk σ.2.2.2.1 p0, xd_given σ.2.2.2.1 p1, σ.2.2.2.2.2.2.2.1, σ.2.2.2.2.2.2.2.2) from by simp only [xd_callR, xd_callS, xd_callX, xd_callY, if_neg c_1, if_neg c_2, if_neg c_3, if_pos c_4, if_pos c_5, if_pos c_6]]
                  exact hP
                exact W.iret hx hb hr (fun t ht _ => xw_m (by simp only [xd_callR, xd_callS, xd_callX, xd_callY, if_neg c_1, if_neg c_2, if_neg c_3, if_pos c_4, if_pos c_5, if_pos c_6]) hP9 hS ht) hS.2.2 dX0_call_132
            · skip
              refine lv_iload hx hb dX0_call_86 (lv_at hl 0 rfl) ?_
              have hP9 : va_P (dC, dI) vwCl (xd_W h0 h1 h2 k1 k2 (xd_callS σ p0 p1)) s.heap := by
                rw [show xd_callS σ p0 p1 = σ from by simp only [xd_callR, xd_callS, xd_callX, xd_callY, if_neg c_1, if_neg c_2, if_neg c_3, if_pos c_4, if_neg c_5]]
                exact hP
              exact W.iret hx hb hr (fun t ht _ => xw_m (by simp only [xd_callR, xd_callS, xd_callX, xd_callY, if_neg c_1, if_neg c_2, if_neg c_3, if_pos c_4, if_neg c_5]) hP9 hS ht) hS.2.2 dX0_call_88
          · skip
            refine lv_iload hx hb dX0_call_62 (lv_at hl 0 rfl) ?_
            refine lv_iload_n hx hb dX0_call_64 rfl (lv_at hl 3 rfl) ?_
            refine lv_iconst (v := 1) hx hb dX0_call_65 (by decide) ?_
            refine lv_iadd hx hb dX0_call_66 ?_
            refine lv_icmp_eq (tgt := 73) hx hb dX0_call_67 (by decide) (fun c_7 => ?_) (fun c_7 => ?_)
            · skip
              refine lv_aload_n hx hb dX0_call_73 rfl (lv_at hl 2 rfl) ?_
              refine lv_iconst (v := 0) hx hb dX0_call_74 (by decide) ?_
              refine lv_iload_n hx hb dX0_call_75 rfl (lv_at hl 3 rfl) ?_
              refine xw_V (v := xd_meet σ.2.2.2.2.2.2.2.1 σ.2.2.2.2.2.2.2.2 0 p0) (As := [.int 0, .int p0]) (rest := []) (ci := 0) ⟨hx, hb, hml, hown, hts⟩ (metX0_meet l dC dI h0 h1 h2 k1 k2 σ 0 p0 xi_40 xi_401) (cwV 2 hts (lw_V q116 q118 qs4 q15 q119) rfl rfl rfl hdX0_meet ⟨Nat.le_of_ble_eq_true rfl, Nat.le_of_ble_eq_true rfl⟩) hK hP 0 rfl rfl rfl hl.1 rfl (Nat.le_of_ble_eq_true rfl) dX0_call_76 ⟨Nat.zero_le _, Nat.zero_le _⟩ ?_
              refine lv_istore (lv' := [(5, .int (xd_meet σ.2.2.2.2.2.2.2.1 σ.2.2.2.2.2.2.2.2 0 p0)), (4, .int (xd_arg σ.2.1)), (3, .int (xd_argOk p0 p1)), (0, .ref h0), (1, .int p0), (2, .int p1)]) hx hb dX0_call_79 hl (by decide) rfl (fun ls hl => ?_)
              refine lv_iload hx hb dX0_call_81 (lv_at hl 0 rfl) ?_
              refine lv_if_eq (tgt := 89) hx hb dX0_call_83 (by decide) (fun c_8 => ?_) (fun c_8 => ?_)
              · skip
                refine lv_aload_n hx hb dX0_call_89 rfl (lv_at hl 3 rfl) ?_
                refine lv_iload_n hx hb dX0_call_90 rfl (lv_at hl 4 rfl) ?_
                refine xw_V (v := xd_gk σ.2.2.2.1 p0) (As := [.int p0]) (rest := []) (ci := 0) ⟨hx, hb, hml, hown, hts⟩ (metX0_givenKind l dC dI h0 h1 h2 k1 k2 σ p0) (cwV 1 hts (lw_V q120 q122 qs5 q15 q123) rfl rfl rfl hdX0_givenKind ⟨Nat.le_of_ble_eq_true rfl, Nat.le_of_ble_eq_true rfl⟩) hK hP 0 rfl rfl rfl hl.1 rfl (Nat.le_of_ble_eq_true rfl) dX0_call_91 ⟨Nat.zero_le _, Nat.zero_le _⟩ ?_
                refine lv_istore (lv' := [(6, .int (xd_gk σ.2.2.2.1 p0)), (5, .int (xd_meet σ.2.2.2.2.2.2.2.1 σ.2.2.2.2.2.2.2.2 0 p0)), (4, .int (xd_arg σ.2.1)), (3, .int (xd_argOk p0 p1)), (0, .ref h0), (1, .int p0), (2, .int p1)]) hx hb dX0_call_94 hl (by decide) rfl (fun ls hl => ?_)
                refine lv_aload_n hx hb dX0_call_96 rfl (lv_at hl 4 rfl) ?_
                refine lv_iconst (v := 2) hx hb dX0_call_97 (by decide) ?_
                refine lv_iload hx hb dX0_call_98 (lv_at hl 0 rfl) ?_
                refine xw_V (v := xd_meet σ.2.2.2.2.2.2.2.1 σ.2.2.2.2.2.2.2.2 2 (xd_gk σ.2.2.2.1 p0)) (As := [.int 2, .int (xd_gk σ.2.2.2.1 p0)]) (rest := []) (ci := 0) ⟨hx, hb, hml, hown, hts⟩ (metX0_meet l dC dI h0 h1 h2 k1 k2 σ 2 (xd_gk σ.2.2.2.1 p0) xi_42 xi_421) (cwV 2 hts (lw_V q116 q118 qs4 q15 q119) rfl rfl rfl hdX0_meet ⟨Nat.le_of_ble_eq_true rfl, Nat.le_of_ble_eq_true rfl⟩) hK hP 0 rfl rfl rfl hl.1 rfl (Nat.le_of_ble_eq_true rfl) dX0_call_100 ⟨Nat.zero_le _, Nat.zero_le _⟩ ?_
                refine lv_istore (lv' := [(5, .int (xd_meet σ.2.2.2.2.2.2.2.1 σ.2.2.2.2.2.2.2.2 2 (xd_gk σ.2.2.2.1 p0))), (6, .int (xd_gk σ.2.2.2.1 p0)), (4, .int (xd_arg σ.2.1)), (3, .int (xd_argOk p0 p1)), (0, .ref h0), (1, .int p0), (2, .int p1)]) hx hb dX0_call_103 hl (by decide) rfl (fun ls hl => ?_)
                refine lv_iload hx hb dX0_call_105 (lv_at hl 0 rfl) ?_
                refine lv_if_ne (tgt := 130) hx hb dX0_call_107 (by decide) (fun c_9 => ?_) (fun c_9 => ?_)
                · skip
                  refine lv_iload hx hb dX0_call_130 (lv_at hl 0 rfl) ?_
                  have hP9 : va_P (dC, dI) vwCl (xd_W h0 h1 h2 k1 k2 (xd_callS σ p0 p1)) s.heap := by
                    rw [show xd_callS σ p0 p1 = σ from by simp only [xd_callR, xd_callS, xd_callX, xd_callY, if_neg c_1, if_neg c_2, if_neg c_3, if_neg c_4, if_pos c_7, if_pos c_8, if_neg c_9]]
                    exact hP
                  exact W.iret hx hb hr (fun t ht _ => xw_m (by simp only [xd_callR, xd_callS, xd_callX, xd_callY, if_neg c_1, if_neg c_2, if_neg c_3, if_neg c_4, if_pos c_7, if_pos c_8, if_neg c_9]) hP9 hS ht) hS.2.2 dX0_call_132
                · skip
                  refine lv_aload_n hx hb dX0_call_110 rfl (lv_at hl 4 rfl) ?_
                  refine lv_iconst (v := 1) hx hb dX0_call_111 (by decide) ?_
                  refine va_put (D := (dC, dI)) (ci := 0) (v := .int 1) (ty := .boolean) (C := RX0) (T := TX0) (N := 9) hx hb hts in_X0 tyX0 tyX0_ok nmX0 hown hK hP hD hS 0 rfl rfl 6 (by decide) (hts _ q31) (fun _ h9 => h9) rfl (by decide +kernel) rfl rfl (Nat.le_of_ble_eq_true rfl) dX0_call_112 (fun H locs hP hD hS => ?_)
                  have hP : va_P (dC, dI) vwCl [(h0, .inr (0, [.int σ.1, .int σ.2.1, .int σ.2.2.1, .int σ.2.2.2.1, .ref h1, .ref h2, .int 1, .int σ.2.2.2.2.2.1, .int σ.2.2.2.2.2.2.1])), (h1, .inl (k1, 4, .inl σ.2.2.2.2.2.2.2.1)), (h2, .inl (k2, 4, .inl σ.2.2.2.2.2.2.2.2))] H := hP
                  have hD : va_D A [(h0, .inr (0, [.int σ.1, .int σ.2.1, .int σ.2.2.1, .int σ.2.2.2.1, .ref h1, .ref h2, .int 1, .int σ.2.2.2.2.2.1, .int σ.2.2.2.2.2.2.1])), (h1, .inl (k1, 4, .inl σ.2.2.2.2.2.2.2.1)), (h2, .inl (k2, 4, .inl σ.2.2.2.2.2.2.2.2))] := hD
                  refine lv_aload_n hx hb dX0_call_115 rfl (lv_at hl 4 rfl) ?_
                  refine lv_iload hx hb dX0_call_116 (lv_at hl 1 rfl) ?_
                  refine va_put (D := (dC, dI)) (ci := 0) (v := .int (xd_gk σ.2.2.2.1 p0)) (ty := .int) (C := RX0) (T := TX0) (N := 9) hx hb hts in_X0 tyX0 tyX0_ok nmX0 hown hK hP hD hS 0 rfl rfl 7 (by decide) (hts _ q32) (fun _ h9 => h9) rfl (by decide +kernel) rfl rfl (Nat.le_of_ble_eq_true rfl) dX0_call_118 (fun H locs hP hD hS => ?_)
                  have hP : va_P (dC, dI) vwCl [(h0, .inr (0, [.int σ.1, .int σ.2.1, .int σ.2.2.1, .int σ.2.2.2.1, .ref h1, .ref h2, .int 1, .int (xd_gk σ.2.2.2.1 p0), .int σ.2.2.2.2.2.2.1])), (h1, .inl (k1, 4, .inl σ.2.2.2.2.2.2.2.1)), (h2, .inl (k2, 4, .inl σ.2.2.2.2.2.2.2.2))] H := hP
                  have hD : va_D A [(h0, .inr (0, [.int σ.1, .int σ.2.1, .int σ.2.2.1, .int σ.2.2.2.1, .ref h1, .ref h2, .int 1, .int (xd_gk σ.2.2.2.1 p0), .int σ.2.2.2.2.2.2.1])), (h1, .inl (k1, 4, .inl σ.2.2.2.2.2.2.2.1)), (h2, .inl (k2, 4, .inl σ.2.2.2.2.2.2.2.2))] := hD
                  refine lv_aload_n hx hb dX0_call_121 rfl (lv_at hl 4 rfl) ?_
                  refine lv_aload_n hx hb dX0_call_122 rfl (lv_at hl 4 rfl) ?_
                  refine lv_iload_n hx hb dX0_call_123 rfl (lv_at hl 6 rfl) ?_
                  refine xw_V (v := xd_given σ.2.2.2.1 p1) (As := [.int p1]) (rest := [.ref h0]) (ci := 0) ⟨hx, hb, hml, hown, hts⟩ (metX0_given l dC dI h0 h1 h2 k1 k2 (σ.1, σ.2.1, σ.2.2.1, σ.2.2.2.1, 1, xd_gk σ.2.2.2.1 p0, σ.2.2.2.2.2.2.1, σ.2.2.2.2.2.2.2.1, σ.2.2.2.2.2.2.2.2) p1) (cwV 1 hts (lw_V q124 q126 qs6 q15 q127) rfl rfl rfl hdX0_given ⟨Nat.le_of_ble_eq_true rfl, Nat.le_of_ble_eq_true rfl⟩) hK hP 0 rfl rfl rfl hl.1 rfl (Nat.le_of_ble_eq_true rfl) dX0_call_124 ⟨Nat.zero_le _, Nat.zero_le _⟩ ?_
                  refine va_put (D := (dC, dI)) (ci := 0) (v := .int (xd_given σ.2.2.2.1 p1)) (ty := .int) (C := RX0) (T := TX0) (N := 9) hx hb hts in_X0 tyX0 tyX0_ok nmX0 hown hK hP hD hS 0 rfl rfl 8 (by decide) (hts _ q33) (fun _ h9 => h9) rfl (by decide +kernel) rfl rfl (Nat.le_of_ble_eq_true rfl) dX0_call_127 (fun H locs hP hD hS => ?_)
                  have hP : va_P (dC, dI) vwCl [(h0, .inr (0, [.int σ.1, .int σ.2.1, .int σ.2.2.1, .int σ.2.2.2.1, .ref h1, .ref h2, .int 1, .int (xd_gk σ.2.2.2.1 p0), .int (xd_given σ.2.2.2.1 p1)])), (h1, .inl (k1, 4, .inl σ.2.2.2.2.2.2.2.1)), (h2, .inl (k2, 4, .inl σ.2.2.2.2.2.2.2.2))] H := hP
                  have hD : va_D A [(h0, .inr (0, [.int σ.1, .int σ.2.1, .int σ.2.2.1, .int σ.2.2.2.1, .ref h1, .ref h2, .int 1, .int (xd_gk σ.2.2.2.1 p0), .int (xd_given σ.2.2.2.1 p1)])), (h1, .inl (k1, 4, .inl σ.2.2.2.2.2.2.2.1)), (h2, .inl (k2, 4, .inl σ.2.2.2.2.2.2.2.2))] := hD
                  refine lv_iload hx hb dX0_call_130 (lv_at hl 0 rfl) ?_
                  have hP9 : va_P (dC, dI) vwCl (xd_W h0 h1 h2 k1 k2 (xd_callS σ p0 p1)) H := by
                    rw [show xd_callS σ p0 p1 = (σ.1, σ.2.1, σ.2.2.1, σ.2.2.2.1, 1, xd_gk σ.2.2.2.1 p0, xd_given σ.2.2.2.1 p1, σ.2.2.2.2.2.2.2.1, σ.2.2.2.2.2.2.2.2) from by simp only [xd_callR, xd_callS, xd_callX, xd_callY, if_neg c_1, if_neg c_2, if_neg c_3, if_neg c_4, if_pos c_7, if_pos c_8, if_pos c_9]]
                    exact hP
                  exact W.iret hx hb hr (fun t ht _ => xw_m (by simp only [xd_callR, xd_callS, xd_callX, xd_callY, if_neg c_1, if_neg c_2, if_neg c_3, if_neg c_4, if_pos c_7, if_pos c_8, if_pos c_9]) hP9 hS ht) hS.2.2 dX0_call_132
              · skip
                refine lv_iload hx hb dX0_call_86 (lv_at hl 0 rfl) ?_
                have hP9 : va_P (dC, dI) vwCl (xd_W h0 h1 h2 k1 k2 (xd_callS σ p0 p1)) s.heap := by
                  rw [show xd_callS σ p0 p1 = σ from by simp only [xd_callR, xd_callS, xd_callX, xd_callY, if_neg c_1, if_neg c_2, if_neg c_3, if_neg c_4, if_pos c_7, if_neg c_8]]
                  exact hP
                exact W.iret hx hb hr (fun t ht _ => xw_m (by simp only [xd_callR, xd_callS, xd_callX, xd_callY, if_neg c_1, if_neg c_2, if_neg c_3, if_neg c_4, if_pos c_7, if_neg c_8]) hP9 hS ht) hS.2.2 dX0_call_88
            · skip
              refine lv_bipush (v := (-100)) hx hb dX0_call_70 (by decide) ?_
              have hP9 : va_P (dC, dI) vwCl (xd_W h0 h1 h2 k1 k2 (xd_callS σ p0 p1)) s.heap := by
                rw [show xd_callS σ p0 p1 = σ from by simp only [xd_callR, xd_callS, xd_callX, xd_callY, if_neg c_1, if_neg c_2, if_neg c_3, if_neg c_4, if_neg c_7]]
                exact hP
              exact W.iret hx hb hr (fun t ht _ => xw_m (by simp only [xd_callR, xd_callS, xd_callX, xd_callY, if_neg c_1, if_neg c_2, if_neg c_3, if_neg c_4, if_neg c_7]) hP9 hS ht) hS.2.2 dX0_call_72
        · skip
          refine lv_bipush (v := (-100)) hx hb dX0_call_45 (by decide) ?_
          have hP9 : va_P (dC, dI) vwCl (xd_W h0 h1 h2 k1 k2 (xd_callS σ p0 p1)) s.heap := by
            rw [show xd_callS σ p0 p1 = σ from by simp only [xd_callR, xd_callS, xd_callX, xd_callY, if_neg c_1, if_neg c_2, if_pos c_3]]
            exact hP
          exact W.iret hx hb hr (fun t ht _ => xw_m (by simp only [xd_callR, xd_callS, xd_callX, xd_callY, if_neg c_1, if_neg c_2, if_pos c_3]) hP9 hS ht) hS.2.2 dX0_call_47
  · skip
    refine lv_iload_n hx hb dX0_call_0 rfl (lv_at hl 1 rfl) ?_
    refine lv_if_eq (tgt := 18) hx hb dX0_call_1 (by decide) (fun c_10 => ?_) (fun c_10 => ?_)
    · skip
      refine lv_iconst (v := 1) hx hb dX0_call_18 (by decide) ?_
      refine lv_goto (tgt := 23) hx hb dX0_call_19 (by decide) ?_
      exact xw_top (by simp only [xd_argOk, if_pos c_10]) K_23
    · skip
      refine lv_iload_n hx hb dX0_call_4 rfl (lv_at hl 1 rfl) ?_
      refine lv_iconst (v := 1) hx hb dX0_call_5 (by decide) ?_
      refine lv_icmp_ne (tgt := 22) hx hb dX0_call_6 (by decide) (fun c_11 => ?_) (fun c_11 => ?_)
      · skip
        refine lv_iconst (v := 0) hx hb dX0_call_22 (by decide) ?_
        exact xw_top (by simp only [xd_argOk, if_neg c_10, if_neg c_11]) K_23
      · skip
        refine lv_iload_n hx hb dX0_call_9 rfl (lv_at hl 2 rfl) ?_
        refine lv_if_eq (tgt := 18) hx hb dX0_call_10 (by decide) (fun c_12 => ?_) (fun c_12 => ?_)
        · skip
          refine lv_iconst (v := 1) hx hb dX0_call_18 (by decide) ?_
          refine lv_goto (tgt := 23) hx hb dX0_call_19 (by decide) ?_
          exact xw_top (by simp only [xd_argOk, if_neg c_10, if_pos c_11, if_pos c_12]) K_23
        · skip
          refine lv_iload_n hx hb dX0_call_13 rfl (lv_at hl 2 rfl) ?_
          refine lv_iconst (v := 1) hx hb dX0_call_14 (by decide) ?_
          refine lv_icmp_ne (tgt := 22) hx hb dX0_call_15 (by decide) (fun c_13 => ?_) (fun c_13 => ?_)
          · skip
            refine lv_iconst (v := 0) hx hb dX0_call_22 (by decide) ?_
            exact xw_top (by simp only [xd_argOk, if_neg c_10, if_pos c_11, if_neg c_12, if_neg c_13]) K_23
          · skip
            refine lv_iconst (v := 1) hx hb dX0_call_18 (by decide) ?_
            refine lv_goto (tgt := 23) hx hb dX0_call_19 (by decide) ?_
            exact xw_top (by simp only [xd_argOk, if_neg c_10, if_pos c_11, if_neg c_12, if_pos c_13]) K_23
end
section
abbrev wsX1_arrow : List Cond := ws_ yX1_arrow cX1_arrow 3 (some .int)
theorem hdX1_arrow : yX1_arrow.cls = RX1 ∧ yX1_arrow.cls ≠ "java/lang/invoke/MethodHandle" ∧ yX1_arrow.cls ≠ "java/lang/invoke/VarHandle" ∧ (parseMethodDescriptor yX1_arrow.desc).map (fun d => d.parameters.length) = some 2 := by decide +kernel
set_option maxHeartbeats 4000000 in
set_option maxRecDepth 100000 in
theorem metX1_arrow (l : Launch) (dC : Nat → ClassId) (dI : Nat → Nat → Nat) (h0 h1 h2 : Nat) (k1 k2 : ClassId) (σ : xd_T) (p0 p1 : Int32) : Met l yX1_arrow wsX1_arrow ({ frames := 0, cells := 0, slots := 0, locals := 0 }) (va_Pc [.ref h0, .int p0, .int p1] (xw_Rd (dC, dI) vwCl (xm_W h0 h1 h2 k1 k2 σ) [(k1, .int), (k2, .int)])) (xw_Q (xm_arrow p0 p1)) 0 0 (fun _ => False) := by
  refine Met.ofW (cc := cX1_arrow) (maxL := 3) (ret := (some .int)) (by decide) rfl ?_
  intro p e s m args below meth c s₁ B hml hv
  obtain ⟨rfl, hP, hK⟩ := hv
  have hx := B.exec
  have hb := B.bytes
  have hr := B.returns
  have hts := atoms_spec (ws := wsX1_arrow) B.pre
  have hts : ∀ w ∈ lw_all, w.before _ s = true := fun w h => hts w (List.mem_cons_of_mem _ h)
  have hown : s.vm.findClass RX1 = some m.cls := findClass_of_methodNamed B.named
  have hlocks := B.notSynchronized
  have hP : va_P (dC, dI) vwCl [(h0, .inr (1, [.int σ.1, .int σ.2.1, .int σ.2.2.1, .int σ.2.2.2.1, .ref h1, .ref h2, .int σ.2.2.2.2.1, .int σ.2.2.2.2.2.1, .int σ.2.2.2.2.2.2.1])), (h1, .inl (k1, 2, .inl σ.2.2.2.2.2.2.2.1)), (h2, .inl (k2, 2, .inl σ.2.2.2.2.2.2.2.2))] s.heap := hP
  have hl := lv_entry ([.ref h0, .int p0, .int p1]) (n := 3) (Nat.le_of_ble_eq_true rfl)
  rw [lg_entry_eq]
  generalize (lg_sl ([.ref h0, .int p0, .int p1]) ++ List.replicate (3 - (lg_sl ([.ref h0, .int p0, .int p1])).length) Slot.unset).toArray = ls at hl ⊢
  have hl : lv_has ls 3 [(0, .ref h0), (1, .int p0), (2, .int p1)] := hl
  refine lv_iconst (v := 3) hx hb dX1_arrow_0 (by decide) ?_
  refine lv_iconst (v := 3) hx hb dX1_arrow_1 (by decide) ?_
  refine lv_iload_n hx hb dX1_arrow_2 rfl (lv_at hl 1 rfl) ?_
  refine lv_imul hx hb dX1_arrow_3 ?_
  refine lv_iadd hx hb dX1_arrow_4 ?_
  refine lv_iload_n hx hb dX1_arrow_5 rfl (lv_at hl 2 rfl) ?_
  refine lv_iadd hx hb dX1_arrow_6 ?_
  exact W.iret hx hb hr (fun t ht _ => xw_q (by simp only [xm_arrow]) ht) (fun _ h => absurd h List.not_mem_nil) dX1_arrow_7
abbrev wsX1_from : List Cond := ws_ yX1_from cX1_from 2 (some .int)
theorem hdX1_from : yX1_from.cls = RX1 ∧ yX1_from.cls ≠ "java/lang/invoke/MethodHandle" ∧ yX1_from.cls ≠ "java/lang/invoke/VarHandle" ∧ (parseMethodDescriptor yX1_from.desc).map (fun d => d.parameters.length) = some 1 := by decide +kernel
set_option maxHeartbeats 4000000 in
set_option maxRecDepth 100000 in
theorem metX1_from (l : Launch) (dC : Nat → ClassId) (dI : Nat → Nat → Nat) (h0 h1 h2 : Nat) (k1 k2 : ClassId) (σ : xd_T) (p0 : Int32) : Met l yX1_from wsX1_from ({ frames := 0, cells := 0, slots := 0, locals := 0 }) (va_Pc [.ref h0, .int p0] (xw_Rd (dC, dI) vwCl (xm_W h0 h1 h2 k1 k2 σ) [(k1, .int), (k2, .int)])) (xw_Q (xd_arg p0)) 0 0 (fun _ => False) := by
  refine Met.ofW (cc := cX1_from) (maxL := 2) (ret := (some .int)) (by decide) rfl ?_
  intro p e s m args below meth c s₁ B hml hv
  obtain ⟨rfl, hP, hK⟩ := hv
  have hx := B.exec
  have hb := B.bytes
  have hr := B.returns
  have hts := atoms_spec (ws := wsX1_from) B.pre
  have hts : ∀ w ∈ lw_all, w.before _ s = true := fun w h => hts w (List.mem_cons_of_mem _ h)
  have hown : s.vm.findClass RX1 = some m.cls := findClass_of_methodNamed B.named
  have hlocks := B.notSynchronized
  have hP : va_P (dC, dI) vwCl [(h0, .inr (1, [.int σ.1, .int σ.2.1, .int σ.2.2.1, .int σ.2.2.2.1, .ref h1, .ref h2, .int σ.2.2.2.2.1, .int σ.2.2.2.2.2.1, .int σ.2.2.2.2.2.2.1])), (h1, .inl (k1, 2, .inl σ.2.2.2.2.2.2.2.1)), (h2, .inl (k2, 2, .inl σ.2.2.2.2.2.2.2.2))] s.heap := hP
  have hl := lv_entry ([.ref h0, .int p0]) (n := 2) (Nat.le_of_ble_eq_true rfl)
  rw [lg_entry_eq]
  generalize (lg_sl ([.ref h0, .int p0]) ++ List.replicate (2 - (lg_sl ([.ref h0, .int p0])).length) Slot.unset).toArray = ls at hl ⊢
  have hl : lv_has ls 2 [(0, .ref h0), (1, .int p0)] := hl
  refine lv_iload_n hx hb dX1_from_0 rfl (lv_at hl 1 rfl) ?_
  refine lv_iconst (v := 3) hx hb dX1_from_1 (by decide) ?_
  refine lv_isub hx hb dX1_from_2 ?_
  refine lv_iconst (v := 3) hx hb dX1_from_3 (by decide) ?_
  refine lv_idiv hx hb dX1_from_4 (by decide) ?_
  exact W.iret hx hb hr (fun t ht _ => xw_q (by simp only [xd_arg]) ht) (fun _ h => absurd h List.not_mem_nil) dX1_from_5
abbrev wsX1_into : List Cond := ws_ yX1_into cX1_into 2 (some .int)
theorem hdX1_into : yX1_into.cls = RX1 ∧ yX1_into.cls ≠ "java/lang/invoke/MethodHandle" ∧ yX1_into.cls ≠ "java/lang/invoke/VarHandle" ∧ (parseMethodDescriptor yX1_into.desc).map (fun d => d.parameters.length) = some 1 := by decide +kernel
set_option maxHeartbeats 4000000 in
set_option maxRecDepth 100000 in
theorem metX1_into (l : Launch) (dC : Nat → ClassId) (dI : Nat → Nat → Nat) (h0 h1 h2 : Nat) (k1 k2 : ClassId) (σ : xd_T) (p0 : Int32) : Met l yX1_into wsX1_into ({ frames := 0, cells := 0, slots := 0, locals := 0 }) (va_Pc [.ref h0, .int p0] (xw_Rd (dC, dI) vwCl (xm_W h0 h1 h2 k1 k2 σ) [(k1, .int), (k2, .int)])) (xw_Q (xd_res p0)) 0 0 (fun _ => False) := by
  refine Met.ofW (cc := cX1_into) (maxL := 2) (ret := (some .int)) (by decide) rfl ?_
  intro p e s m args below meth c s₁ B hml hv
  obtain ⟨rfl, hP, hK⟩ := hv
  have hx := B.exec
  have hb := B.bytes
  have hr := B.returns
  have hts := atoms_spec (ws := wsX1_into) B.pre
  have hts : ∀ w ∈ lw_all, w.before _ s = true := fun w h => hts w (List.mem_cons_of_mem _ h)
  have hown : s.vm.findClass RX1 = some m.cls := findClass_of_methodNamed B.named
  have hlocks := B.notSynchronized
  have hP : va_P (dC, dI) vwCl [(h0, .inr (1, [.int σ.1, .int σ.2.1, .int σ.2.2.1, .int σ.2.2.2.1, .ref h1, .ref h2, .int σ.2.2.2.2.1, .int σ.2.2.2.2.2.1, .int σ.2.2.2.2.2.2.1])), (h1, .inl (k1, 2, .inl σ.2.2.2.2.2.2.2.1)), (h2, .inl (k2, 2, .inl σ.2.2.2.2.2.2.2.2))] s.heap := hP
  have hl := lv_entry ([.ref h0, .int p0]) (n := 2) (Nat.le_of_ble_eq_true rfl)
  rw [lg_entry_eq]
  generalize (lg_sl ([.ref h0, .int p0]) ++ List.replicate (2 - (lg_sl ([.ref h0, .int p0])).length) Slot.unset).toArray = ls at hl ⊢
  have hl : lv_has ls 2 [(0, .ref h0), (1, .int p0)] := hl
  refine lv_iload_n hx hb dX1_into_0 rfl (lv_at hl 1 rfl) ?_
  refine lv_iconst (v := 3) hx hb dX1_into_1 (by decide) ?_
  refine lv_isub hx hb dX1_into_2 ?_
  refine lv_iconst (v := 3) hx hb dX1_into_3 (by decide) ?_
  refine lv_irem hx hb dX1_into_4 (by decide) ?_
  exact W.iret hx hb hr (fun t ht _ => xw_q (by simp only [xd_res]) ht) (fun _ h => absurd h List.not_mem_nil) dX1_into_5
abbrev wsX1_isType : List Cond := ws_ yX1_isType cX1_isType 2 (some .boolean)
theorem hdX1_isType : yX1_isType.cls = RX1 ∧ yX1_isType.cls ≠ "java/lang/invoke/MethodHandle" ∧ yX1_isType.cls ≠ "java/lang/invoke/VarHandle" ∧ (parseMethodDescriptor yX1_isType.desc).map (fun d => d.parameters.length) = some 1 := by decide +kernel
set_option maxHeartbeats 4000000 in
set_option maxRecDepth 100000 in
theorem metX1_isType (l : Launch) (dC : Nat → ClassId) (dI : Nat → Nat → Nat) (h0 h1 h2 : Nat) (k1 k2 : ClassId) (σ : xd_T) (p0 : Int32) : Met l yX1_isType wsX1_isType ({ frames := 0, cells := 0, slots := 0, locals := 0 }) (va_Pc [.ref h0, .int p0] (xw_Rd (dC, dI) vwCl (xm_W h0 h1 h2 k1 k2 σ) [(k1, .int), (k2, .int)])) (xw_Q (xm_isType p0)) 0 0 (fun _ => False) := by
  refine Met.ofW (cc := cX1_isType) (maxL := 2) (ret := (some .boolean)) (by decide) rfl ?_
  intro p e s m args below meth c s₁ B hml hv
  obtain ⟨rfl, hP, hK⟩ := hv
  have hx := B.exec
  have hb := B.bytes
  have hr := B.returns
  have hts := atoms_spec (ws := wsX1_isType) B.pre
  have hts : ∀ w ∈ lw_all, w.before _ s = true := fun w h => hts w (List.mem_cons_of_mem _ h)
  have hown : s.vm.findClass RX1 = some m.cls := findClass_of_methodNamed B.named
  have hlocks := B.notSynchronized
  have hP : va_P (dC, dI) vwCl [(h0, .inr (1, [.int σ.1, .int σ.2.1, .int σ.2.2.1, .int σ.2.2.2.1, .ref h1, .ref h2, .int σ.2.2.2.2.1, .int σ.2.2.2.2.2.1, .int σ.2.2.2.2.2.2.1])), (h1, .inl (k1, 2, .inl σ.2.2.2.2.2.2.2.1)), (h2, .inl (k2, 2, .inl σ.2.2.2.2.2.2.2.2))] s.heap := hP
  have hl := lv_entry ([.ref h0, .int p0]) (n := 2) (Nat.le_of_ble_eq_true rfl)
  rw [lg_entry_eq]
  generalize (lg_sl ([.ref h0, .int p0]) ++ List.replicate (2 - (lg_sl ([.ref h0, .int p0])).length) Slot.unset).toArray = ls at hl ⊢
  have hl : lv_has ls 2 [(0, .ref h0), (1, .int p0)] := hl
  refine lv_iload_n hx hb dX1_isType_0 rfl (lv_at hl 1 rfl) ?_
  refine lv_if_lt (tgt := 14) hx hb dX1_isType_1 (by decide) (fun c_1 => ?_) (fun c_1 => ?_)
  · skip
    refine lv_iconst (v := 0) hx hb dX1_isType_14 (by decide) ?_
    exact W.zret hx hb hr rfl (fun t ht _ => xw_q (by simp only [xm_isType, if_pos c_1]) ht) (fun _ h => absurd h List.not_mem_nil) dX1_isType_15
  · skip
    refine lv_iload_n hx hb dX1_isType_4 rfl (lv_at hl 1 rfl) ?_
    refine lv_bipush (v := 11) hx hb dX1_isType_5 (by decide) ?_
    refine lv_icmp_gt (tgt := 14) hx hb dX1_isType_7 (by decide) (fun c_2 => ?_) (fun c_2 => ?_)
    · skip
      refine lv_iconst (v := 0) hx hb dX1_isType_14 (by decide) ?_
      exact W.zret hx hb hr rfl (fun t ht _ => xw_q (by simp only [xm_isType, if_neg c_1, if_pos c_2]) ht) (fun _ h => absurd h List.not_mem_nil) dX1_isType_15
    · skip
      refine lv_iconst (v := 1) hx hb dX1_isType_10 (by decide) ?_
      refine lv_goto (tgt := 15) hx hb dX1_isType_11 (by decide) ?_
      exact W.zret hx hb hr rfl (fun t ht _ => xw_q (by simp only [xm_isType, if_neg c_1, if_neg c_2]) ht) (fun _ h => absurd h List.not_mem_nil) dX1_isType_15
abbrev wsX1_simple : List Cond := ws_ yX1_simple cX1_simple 3 (some .boolean)
theorem hdX1_simple : yX1_simple.cls = RX1 ∧ yX1_simple.cls ≠ "java/lang/invoke/MethodHandle" ∧ yX1_simple.cls ≠ "java/lang/invoke/VarHandle" ∧ (parseMethodDescriptor yX1_simple.desc).map (fun d => d.parameters.length) = some 2 := by decide +kernel
set_option maxHeartbeats 4000000 in
set_option maxRecDepth 100000 in
theorem metX1_simple (l : Launch) (dC : Nat → ClassId) (dI : Nat → Nat → Nat) (h0 h1 h2 : Nat) (k1 k2 : ClassId) (σ : xd_T) (p0 p1 : Int32) : Met l yX1_simple wsX1_simple ({ frames := 0, cells := 0, slots := 0, locals := 0 }) (va_Pc [.ref h0, .int p0, .int p1] (xw_Rd (dC, dI) vwCl (xm_W h0 h1 h2 k1 k2 σ) [(k1, .int), (k2, .int)])) (xw_Q (xd_plain p0 p1)) 0 0 (fun _ => False) := by
  refine Met.ofW (cc := cX1_simple) (maxL := 3) (ret := (some .boolean)) (by decide) rfl ?_
  intro p e s m args below meth c s₁ B hml hv
  obtain ⟨rfl, hP, hK⟩ := hv
  have hx := B.exec
  have hb := B.bytes
  have hr := B.returns
  have hts := atoms_spec (ws := wsX1_simple) B.pre
  have hts : ∀ w ∈ lw_all, w.before _ s = true := fun w h => hts w (List.mem_cons_of_mem _ h)
  have hown : s.vm.findClass RX1 = some m.cls := findClass_of_methodNamed B.named
  have hlocks := B.notSynchronized
  have hP : va_P (dC, dI) vwCl [(h0, .inr (1, [.int σ.1, .int σ.2.1, .int σ.2.2.1, .int σ.2.2.2.1, .ref h1, .ref h2, .int σ.2.2.2.2.1, .int σ.2.2.2.2.2.1, .int σ.2.2.2.2.2.2.1])), (h1, .inl (k1, 2, .inl σ.2.2.2.2.2.2.2.1)), (h2, .inl (k2, 2, .inl σ.2.2.2.2.2.2.2.2))] s.heap := hP
  have hl := lv_entry ([.ref h0, .int p0, .int p1]) (n := 3) (Nat.le_of_ble_eq_true rfl)
  rw [lg_entry_eq]
  generalize (lg_sl ([.ref h0, .int p0, .int p1]) ++ List.replicate (3 - (lg_sl ([.ref h0, .int p0, .int p1])).length) Slot.unset).toArray = ls at hl ⊢
  have hl : lv_has ls 3 [(0, .ref h0), (1, .int p0), (2, .int p1)] := hl
  refine lv_iload_n hx hb dX1_simple_0 rfl (lv_at hl 1 rfl) ?_
  refine lv_iload_n hx hb dX1_simple_1 rfl (lv_at hl 2 rfl) ?_
  refine lv_icmp_eq (tgt := 13) hx hb dX1_simple_2 (by decide) (fun c_1 => ?_) (fun c_1 => ?_)
  · skip
    refine lv_iconst (v := 1) hx hb dX1_simple_13 (by decide) ?_
    refine lv_goto (tgt := 18) hx hb dX1_simple_14 (by decide) ?_
    exact W.zret hx hb hr rfl (fun t ht _ => xw_q (by simp only [xd_plain, if_pos c_1]) ht) (fun _ h => absurd h List.not_mem_nil) dX1_simple_18
  · skip
    refine lv_iload_n hx hb dX1_simple_5 rfl (lv_at hl 1 rfl) ?_
    refine lv_if_eq (tgt := 13) hx hb dX1_simple_6 (by decide) (fun c_2 => ?_) (fun c_2 => ?_)
    · skip
      refine lv_iconst (v := 1) hx hb dX1_simple_13 (by decide) ?_
      refine lv_goto (tgt := 18) hx hb dX1_simple_14 (by decide) ?_
      exact W.zret hx hb hr rfl (fun t ht _ => xw_q (by simp only [xd_plain, if_neg c_1, if_pos c_2]) ht) (fun _ h => absurd h List.not_mem_nil) dX1_simple_18
    · skip
      refine lv_iload_n hx hb dX1_simple_9 rfl (lv_at hl 2 rfl) ?_
      refine lv_if_ne (tgt := 17) hx hb dX1_simple_10 (by decide) (fun c_3 => ?_) (fun c_3 => ?_)
      · skip
        refine lv_iconst (v := 0) hx hb dX1_simple_17 (by decide) ?_
        exact W.zret hx hb hr rfl (fun t ht _ => xw_q (by simp only [xd_plain, if_neg c_1, if_neg c_2, if_neg c_3]) ht) (fun _ h => absurd h List.not_mem_nil) dX1_simple_18
      · skip
        refine lv_iconst (v := 1) hx hb dX1_simple_13 (by decide) ?_
        refine lv_goto (tgt := 18) hx hb dX1_simple_14 (by decide) ?_
        exact W.zret hx hb hr rfl (fun t ht _ => xw_q (by simp only [xd_plain, if_neg c_1, if_neg c_2, if_pos c_3]) ht) (fun _ h => absurd h List.not_mem_nil) dX1_simple_18
abbrev wsX1_own : List Cond := ws_ yX1_own cX1_own 2 (some .int)
theorem hdX1_own : yX1_own.cls = RX1 ∧ yX1_own.cls ≠ "java/lang/invoke/MethodHandle" ∧ yX1_own.cls ≠ "java/lang/invoke/VarHandle" ∧ (parseMethodDescriptor yX1_own.desc).map (fun d => d.parameters.length) = some 1 := by decide +kernel
set_option maxHeartbeats 4000000 in
set_option maxRecDepth 100000 in
theorem metX1_own (l : Launch) (dC : Nat → ClassId) (dI : Nat → Nat → Nat) (h0 h1 h2 : Nat) (k1 k2 : ClassId) (σ : xd_T) (p0 : Int32) : Met l yX1_own wsX1_own ({ frames := 1, cells := 0, slots := 0, locals := 22 }) (va_Pc [.ref h0, .int p0] (xw_Rd (dC, dI) vwCl (xm_W h0 h1 h2 k1 k2 σ) [(k1, .int), (k2, .int)])) (xw_Q (xm_own p0)) 0 0 (fun _ => False) := by
  refine Met.ofW (cc := cX1_own) (maxL := 2) (ret := (some .int)) (by decide) rfl ?_
  intro p e s m args below meth c s₁ B hml hv
  obtain ⟨rfl, hP, hK⟩ := hv
  have hx := B.exec
  have hb := B.bytes
  have hr := B.returns
  have hts := atoms_spec (ws := wsX1_own) B.pre
  have hts : ∀ w ∈ lw_all, w.before _ s = true := fun w h => hts w (List.mem_cons_of_mem _ h)
  have hown : s.vm.findClass RX1 = some m.cls := findClass_of_methodNamed B.named
  have hlocks := B.notSynchronized
  have hP : va_P (dC, dI) vwCl [(h0, .inr (1, [.int σ.1, .int σ.2.1, .int σ.2.2.1, .int σ.2.2.2.1, .ref h1, .ref h2, .int σ.2.2.2.2.1, .int σ.2.2.2.2.2.1, .int σ.2.2.2.2.2.2.1])), (h1, .inl (k1, 2, .inl σ.2.2.2.2.2.2.2.1)), (h2, .inl (k2, 2, .inl σ.2.2.2.2.2.2.2.2))] s.heap := hP
  have hl := lv_entry ([.ref h0, .int p0]) (n := 2) (Nat.le_of_ble_eq_true rfl)
  rw [lg_entry_eq]
  generalize (lg_sl ([.ref h0, .int p0]) ++ List.replicate (2 - (lg_sl ([.ref h0, .int p0])).length) Slot.unset).toArray = ls at hl ⊢
  have hl : lv_has ls 2 [(0, .ref h0), (1, .int p0)] := hl
  refine lv_iload_n hx hb dX1_own_0 rfl (lv_at hl 1 rfl) ?_
  refine lv_if_ne (tgt := 13) hx hb dX1_own_1 (by decide) (fun c_1 => ?_) (fun c_1 => ?_)
  · skip
    refine lv_iload_n hx hb dX1_own_13 rfl (lv_at hl 1 rfl) ?_
    refine lv_iconst (v := 1) hx hb dX1_own_14 (by decide) ?_
    refine lv_icmp_ne (tgt := 27) hx hb dX1_own_15 (by decide) (fun c_2 => ?_) (fun c_2 => ?_)
    · skip
      refine lv_iload_n hx hb dX1_own_27 rfl (lv_at hl 1 rfl) ?_
      refine lv_iconst (v := 2) hx hb dX1_own_28 (by decide) ?_
      refine lv_icmp_ne (tgt := 41) hx hb dX1_own_29 (by decide) (fun c_3 => ?_) (fun c_3 => ?_)
      · skip
        refine lv_iload_n hx hb dX1_own_41 rfl (lv_at hl 1 rfl) ?_
        refine lv_iconst (v := 3) hx hb dX1_own_42 (by decide) ?_
        refine lv_icmp_ne (tgt := 55) hx hb dX1_own_43 (by decide) (fun c_4 => ?_) (fun c_4 => ?_)
        · skip
          refine lv_iload_n hx hb dX1_own_55 rfl (lv_at hl 1 rfl) ?_
          refine lv_iconst (v := 4) hx hb dX1_own_56 (by decide) ?_
          refine lv_icmp_ne (tgt := 69) hx hb dX1_own_57 (by decide) (fun c_5 => ?_) (fun c_5 => ?_)
          · skip
            refine lv_aload_n hx hb dX1_own_69 rfl (lv_at hl 0 rfl) ?_
            refine lv_iconst (v := 2) hx hb dX1_own_70 (by decide) ?_
            refine lv_iconst (v := 1) hx hb dX1_own_71 (by decide) ?_
            refine xw_V (v := xm_arrow 2 1) (As := [.int 2, .int 1]) (rest := []) (ci := 1) ⟨hx, hb, hml, hown, hts⟩ (metX1_arrow l dC dI h0 h1 h2 k1 k2 σ 2 1) (cwV 2 hts (lw_V q184 q186 qs8 q16 q187) rfl rfl rfl hdX1_arrow ⟨Nat.le_of_ble_eq_true rfl, Nat.le_of_ble_eq_true rfl⟩) hK hP 0 rfl rfl rfl hl.1 rfl (Nat.le_of_ble_eq_true rfl) dX1_own_72 ⟨Nat.zero_le _, Nat.zero_le _⟩ ?_
            exact W.iret hx hb hr (fun t ht _ => xw_q (by simp only [xm_own, if_neg c_1, if_neg c_2, if_neg c_3, if_neg c_4, if_neg c_5]) ht) (fun _ h => absurd h List.not_mem_nil) dX1_own_75
          · skip
            refine lv_aload_n hx hb dX1_own_60 rfl (lv_at hl 0 rfl) ?_
            refine lv_iconst (v := 0) hx hb dX1_own_61 (by decide) ?_
            refine lv_iconst (v := 1) hx hb dX1_own_62 (by decide) ?_
            refine xw_V (v := xm_arrow 0 1) (As := [.int 0, .int 1]) (rest := []) (ci := 1) ⟨hx, hb, hml, hown, hts⟩ (metX1_arrow l dC dI h0 h1 h2 k1 k2 σ 0 1) (cwV 2 hts (lw_V q184 q186 qs8 q16 q187) rfl rfl rfl hdX1_arrow ⟨Nat.le_of_ble_eq_true rfl, Nat.le_of_ble_eq_true rfl⟩) hK hP 0 rfl rfl rfl hl.1 rfl (Nat.le_of_ble_eq_true rfl) dX1_own_63 ⟨Nat.zero_le _, Nat.zero_le _⟩ ?_
            refine lv_goto (tgt := 75) hx hb dX1_own_66 (by decide) ?_
            exact W.iret hx hb hr (fun t ht _ => xw_q (by simp only [xm_own, if_neg c_1, if_neg c_2, if_neg c_3, if_neg c_4, if_pos c_5]) ht) (fun _ h => absurd h List.not_mem_nil) dX1_own_75
        · skip
          refine lv_aload_n hx hb dX1_own_46 rfl (lv_at hl 0 rfl) ?_
          refine lv_iconst (v := 1) hx hb dX1_own_47 (by decide) ?_
          refine lv_iconst (v := 2) hx hb dX1_own_48 (by decide) ?_
          refine xw_V (v := xm_arrow 1 2) (As := [.int 1, .int 2]) (rest := []) (ci := 1) ⟨hx, hb, hml, hown, hts⟩ (metX1_arrow l dC dI h0 h1 h2 k1 k2 σ 1 2) (cwV 2 hts (lw_V q184 q186 qs8 q16 q187) rfl rfl rfl hdX1_arrow ⟨Nat.le_of_ble_eq_true rfl, Nat.le_of_ble_eq_true rfl⟩) hK hP 0 rfl rfl rfl hl.1 rfl (Nat.le_of_ble_eq_true rfl) dX1_own_49 ⟨Nat.zero_le _, Nat.zero_le _⟩ ?_
          refine lv_goto (tgt := 75) hx hb dX1_own_52 (by decide) ?_
          exact W.iret hx hb hr (fun t ht _ => xw_q (by simp only [xm_own, if_neg c_1, if_neg c_2, if_neg c_3, if_pos c_4]) ht) (fun _ h => absurd h List.not_mem_nil) dX1_own_75
      · skip
        refine lv_aload_n hx hb dX1_own_32 rfl (lv_at hl 0 rfl) ?_
        refine lv_iconst (v := 2) hx hb dX1_own_33 (by decide) ?_
        refine lv_iconst (v := 2) hx hb dX1_own_34 (by decide) ?_
        refine xw_V (v := xm_arrow 2 2) (As := [.int 2, .int 2]) (rest := []) (ci := 1) ⟨hx, hb, hml, hown, hts⟩ (metX1_arrow l dC dI h0 h1 h2 k1 k2 σ 2 2) (cwV 2 hts (lw_V q184 q186 qs8 q16 q187) rfl rfl rfl hdX1_arrow ⟨Nat.le_of_ble_eq_true rfl, Nat.le_of_ble_eq_true rfl⟩) hK hP 0 rfl rfl rfl hl.1 rfl (Nat.le_of_ble_eq_true rfl) dX1_own_35 ⟨Nat.zero_le _, Nat.zero_le _⟩ ?_
        refine lv_goto (tgt := 75) hx hb dX1_own_38 (by decide) ?_
        exact W.iret hx hb hr (fun t ht _ => xw_q (by simp only [xm_own, if_neg c_1, if_neg c_2, if_pos c_3]) ht) (fun _ h => absurd h List.not_mem_nil) dX1_own_75
    · skip
      refine lv_aload_n hx hb dX1_own_18 rfl (lv_at hl 0 rfl) ?_
      refine lv_iconst (v := 0) hx hb dX1_own_19 (by decide) ?_
      refine lv_iconst (v := 0) hx hb dX1_own_20 (by decide) ?_
      refine xw_V (v := xm_arrow 0 0) (As := [.int 0, .int 0]) (rest := []) (ci := 1) ⟨hx, hb, hml, hown, hts⟩ (metX1_arrow l dC dI h0 h1 h2 k1 k2 σ 0 0) (cwV 2 hts (lw_V q184 q186 qs8 q16 q187) rfl rfl rfl hdX1_arrow ⟨Nat.le_of_ble_eq_true rfl, Nat.le_of_ble_eq_true rfl⟩) hK hP 0 rfl rfl rfl hl.1 rfl (Nat.le_of_ble_eq_true rfl) dX1_own_21 ⟨Nat.zero_le _, Nat.zero_le _⟩ ?_
      refine lv_goto (tgt := 75) hx hb dX1_own_24 (by decide) ?_
      exact W.iret hx hb hr (fun t ht _ => xw_q (by simp only [xm_own, if_neg c_1, if_pos c_2]) ht) (fun _ h => absurd h List.not_mem_nil) dX1_own_75
  · skip
    refine lv_aload_n hx hb dX1_own_4 rfl (lv_at hl 0 rfl) ?_
    refine lv_iconst (v := 1) hx hb dX1_own_5 (by decide) ?_
    refine lv_iconst (v := 1) hx hb dX1_own_6 (by decide) ?_
    refine xw_V (v := xm_arrow 1 1) (As := [.int 1, .int 1]) (rest := []) (ci := 1) ⟨hx, hb, hml, hown, hts⟩ (metX1_arrow l dC dI h0 h1 h2 k1 k2 σ 1 1) (cwV 2 hts (lw_V q184 q186 qs8 q16 q187) rfl rfl rfl hdX1_arrow ⟨Nat.le_of_ble_eq_true rfl, Nat.le_of_ble_eq_true rfl⟩) hK hP 0 rfl rfl rfl hl.1 rfl (Nat.le_of_ble_eq_true rfl) dX1_own_7 ⟨Nat.zero_le _, Nat.zero_le _⟩ ?_
    refine lv_goto (tgt := 75) hx hb dX1_own_10 (by decide) ?_
    exact W.iret hx hb hr (fun t ht _ => xw_q (by simp only [xm_own, if_pos c_1]) ht) (fun _ h => absurd h List.not_mem_nil) dX1_own_75
abbrev wsX1_type : List Cond := ws_ yX1_type cX1_type 1 (some .int)
theorem hdX1_type : yX1_type.cls = RX1 ∧ yX1_type.cls ≠ "java/lang/invoke/MethodHandle" ∧ yX1_type.cls ≠ "java/lang/invoke/VarHandle" ∧ (parseMethodDescriptor yX1_type.desc).map (fun d => d.parameters.length) = some 0 := by decide +kernel
set_option maxHeartbeats 4000000 in
set_option maxRecDepth 100000 in
theorem metX1_type (l : Launch) (dC : Nat → ClassId) (dI : Nat → Nat → Nat) (h0 h1 h2 : Nat) (k1 k2 : ClassId) (σ : xd_T) : Met l yX1_type wsX1_type ({ frames := 0, cells := 0, slots := 0, locals := 0 }) (va_Pc [.ref h0] (xw_Rd (dC, dI) vwCl (xm_W h0 h1 h2 k1 k2 σ) [(k1, .int), (k2, .int)])) (xw_Q (xd_look σ.1 σ.2.2.2.1 (-100))) 0 0 (fun _ => False) := by
  refine Met.ofW (cc := cX1_type) (maxL := 1) (ret := (some .int)) (by decide) rfl ?_
  intro p e s m args below meth c s₁ B hml hv
  obtain ⟨rfl, hP, hK⟩ := hv
  have hx := B.exec
  have hb := B.bytes
  have hr := B.returns
  have hts := atoms_spec (ws := wsX1_type) B.pre
  have hts : ∀ w ∈ lw_all, w.before _ s = true := fun w h => hts w (List.mem_cons_of_mem _ h)
  have hown : s.vm.findClass RX1 = some m.cls := findClass_of_methodNamed B.named
  have hlocks := B.notSynchronized
  have hP : va_P (dC, dI) vwCl [(h0, .inr (1, [.int σ.1, .int σ.2.1, .int σ.2.2.1, .int σ.2.2.2.1, .ref h1, .ref h2, .int σ.2.2.2.2.1, .int σ.2.2.2.2.2.1, .int σ.2.2.2.2.2.2.1])), (h1, .inl (k1, 2, .inl σ.2.2.2.2.2.2.2.1)), (h2, .inl (k2, 2, .inl σ.2.2.2.2.2.2.2.2))] s.heap := hP
  have hl := lv_entry ([.ref h0]) (n := 1) (Nat.le_of_ble_eq_true rfl)
  rw [lg_entry_eq]
  generalize (lg_sl ([.ref h0]) ++ List.replicate (1 - (lg_sl ([.ref h0])).length) Slot.unset).toArray = ls at hl ⊢
  have hl : lv_has ls 1 [(0, .ref h0)] := hl
  refine lv_aload_n hx hb dX1_type_0 rfl (lv_at hl 0 rfl) ?_
  refine va_get (D := (dC, dI)) (ci := 1) (v := .int σ.1) (C := RX1) (T := TX1) (N := 9) hx hb hts in_X1 hown hK hP 0 rfl rfl 0 (by decide) (hts _ q147) (fun _ h9 => h9) rfl dX1_type_1 ?_
  refine lv_if_eq (tgt := 14) hx hb dX1_type_4 (by decide) (fun c_1 => ?_) (fun c_1 => ?_)
  · skip
    refine lv_bipush (v := (-100)) hx hb dX1_type_14 (by decide) ?_
    exact W.iret hx hb hr (fun t ht _ => xw_q (by simp only [xd_look, if_pos c_1]) ht) (fun _ h => absurd h List.not_mem_nil) dX1_type_16
  · skip
    refine lv_aload_n hx hb dX1_type_7 rfl (lv_at hl 0 rfl) ?_
    refine va_get (D := (dC, dI)) (ci := 1) (v := .int σ.2.2.2.1) (C := RX1) (T := TX1) (N := 9) hx hb hts in_X1 hown hK hP 0 rfl rfl 3 (by decide) (hts _ q150) (fun _ h9 => h9) rfl dX1_type_8 ?_
    refine lv_goto (tgt := 16) hx hb dX1_type_11 (by decide) ?_
    exact W.iret hx hb hr (fun t ht _ => xw_q (by simp only [xd_look, if_neg c_1]) ht) (fun _ h => absurd h List.not_mem_nil) dX1_type_16
abbrev wsX1_kind : List Cond := ws_ yX1_kind cX1_kind 1 (some .int)
theorem hdX1_kind : yX1_kind.cls = RX1 ∧ yX1_kind.cls ≠ "java/lang/invoke/MethodHandle" ∧ yX1_kind.cls ≠ "java/lang/invoke/VarHandle" ∧ (parseMethodDescriptor yX1_kind.desc).map (fun d => d.parameters.length) = some 0 := by decide +kernel
set_option maxHeartbeats 4000000 in
set_option maxRecDepth 100000 in
theorem metX1_kind (l : Launch) (dC : Nat → ClassId) (dI : Nat → Nat → Nat) (h0 h1 h2 : Nat) (k1 k2 : ClassId) (σ : xd_T) : Met l yX1_kind wsX1_kind ({ frames := 0, cells := 0, slots := 0, locals := 0 }) (va_Pc [.ref h0] (xw_Rd (dC, dI) vwCl (xm_W h0 h1 h2 k1 k2 σ) [(k1, .int), (k2, .int)])) (xw_Q (xd_look σ.1 σ.2.1 (-100))) 0 0 (fun _ => False) := by
  refine Met.ofW (cc := cX1_kind) (maxL := 1) (ret := (some .int)) (by decide) rfl ?_
  intro p e s m args below meth c s₁ B hml hv
  obtain ⟨rfl, hP, hK⟩ := hv
  have hx := B.exec
  have hb := B.bytes
  have hr := B.returns
  have hts := atoms_spec (ws := wsX1_kind) B.pre
  have hts : ∀ w ∈ lw_all, w.before _ s = true := fun w h => hts w (List.mem_cons_of_mem _ h)
  have hown : s.vm.findClass RX1 = some m.cls := findClass_of_methodNamed B.named
  have hlocks := B.notSynchronized
  have hP : va_P (dC, dI) vwCl [(h0, .inr (1, [.int σ.1, .int σ.2.1, .int σ.2.2.1, .int σ.2.2.2.1, .ref h1, .ref h2, .int σ.2.2.2.2.1, .int σ.2.2.2.2.2.1, .int σ.2.2.2.2.2.2.1])), (h1, .inl (k1, 2, .inl σ.2.2.2.2.2.2.2.1)), (h2, .inl (k2, 2, .inl σ.2.2.2.2.2.2.2.2))] s.heap := hP
  have hl := lv_entry ([.ref h0]) (n := 1) (Nat.le_of_ble_eq_true rfl)
  rw [lg_entry_eq]
  generalize (lg_sl ([.ref h0]) ++ List.replicate (1 - (lg_sl ([.ref h0])).length) Slot.unset).toArray = ls at hl ⊢
  have hl : lv_has ls 1 [(0, .ref h0)] := hl
  refine lv_aload_n hx hb dX1_kind_0 rfl (lv_at hl 0 rfl) ?_
  refine va_get (D := (dC, dI)) (ci := 1) (v := .int σ.1) (C := RX1) (T := TX1) (N := 9) hx hb hts in_X1 hown hK hP 0 rfl rfl 0 (by decide) (hts _ q147) (fun _ h9 => h9) rfl dX1_kind_1 ?_
  refine lv_if_eq (tgt := 14) hx hb dX1_kind_4 (by decide) (fun c_1 => ?_) (fun c_1 => ?_)
  · skip
    refine lv_bipush (v := (-100)) hx hb dX1_kind_14 (by decide) ?_
    exact W.iret hx hb hr (fun t ht _ => xw_q (by simp only [xd_look, if_pos c_1]) ht) (fun _ h => absurd h List.not_mem_nil) dX1_kind_16
  · skip
    refine lv_aload_n hx hb dX1_kind_7 rfl (lv_at hl 0 rfl) ?_
    refine va_get (D := (dC, dI)) (ci := 1) (v := .int σ.2.1) (C := RX1) (T := TX1) (N := 9) hx hb hts in_X1 hown hK hP 0 rfl rfl 1 (by decide) (hts _ q148) (fun _ h9 => h9) rfl dX1_kind_8 ?_
    refine lv_goto (tgt := 16) hx hb dX1_kind_11 (by decide) ?_
    exact W.iret hx hb hr (fun t ht _ => xw_q (by simp only [xd_look, if_neg c_1]) ht) (fun _ h => absurd h List.not_mem_nil) dX1_kind_16
abbrev wsX1_raw : List Cond := ws_ yX1_raw cX1_raw 1 (some .int)
theorem hdX1_raw : yX1_raw.cls = RX1 ∧ yX1_raw.cls ≠ "java/lang/invoke/MethodHandle" ∧ yX1_raw.cls ≠ "java/lang/invoke/VarHandle" ∧ (parseMethodDescriptor yX1_raw.desc).map (fun d => d.parameters.length) = some 0 := by decide +kernel
set_option maxHeartbeats 4000000 in
set_option maxRecDepth 100000 in
theorem metX1_raw (l : Launch) (dC : Nat → ClassId) (dI : Nat → Nat → Nat) (h0 h1 h2 : Nat) (k1 k2 : ClassId) (σ : xd_T) : Met l yX1_raw wsX1_raw ({ frames := 0, cells := 0, slots := 0, locals := 0 }) (va_Pc [.ref h0] (xw_Rd (dC, dI) vwCl (xm_W h0 h1 h2 k1 k2 σ) [(k1, .int), (k2, .int)])) (xw_Q (xd_look σ.1 σ.2.2.1 0)) 0 0 (fun _ => False) := by
  refine Met.ofW (cc := cX1_raw) (maxL := 1) (ret := (some .int)) (by decide) rfl ?_
  intro p e s m args below meth c s₁ B hml hv
  obtain ⟨rfl, hP, hK⟩ := hv
  have hx := B.exec
  have hb := B.bytes
  have hr := B.returns
  have hts := atoms_spec (ws := wsX1_raw) B.pre
  have hts : ∀ w ∈ lw_all, w.before _ s = true := fun w h => hts w (List.mem_cons_of_mem _ h)
  have hown : s.vm.findClass RX1 = some m.cls := findClass_of_methodNamed B.named
  have hlocks := B.notSynchronized
  have hP : va_P (dC, dI) vwCl [(h0, .inr (1, [.int σ.1, .int σ.2.1, .int σ.2.2.1, .int σ.2.2.2.1, .ref h1, .ref h2, .int σ.2.2.2.2.1, .int σ.2.2.2.2.2.1, .int σ.2.2.2.2.2.2.1])), (h1, .inl (k1, 2, .inl σ.2.2.2.2.2.2.2.1)), (h2, .inl (k2, 2, .inl σ.2.2.2.2.2.2.2.2))] s.heap := hP
  have hl := lv_entry ([.ref h0]) (n := 1) (Nat.le_of_ble_eq_true rfl)
  rw [lg_entry_eq]
  generalize (lg_sl ([.ref h0]) ++ List.replicate (1 - (lg_sl ([.ref h0])).length) Slot.unset).toArray = ls at hl ⊢
  have hl : lv_has ls 1 [(0, .ref h0)] := hl
  refine lv_aload_n hx hb dX1_raw_0 rfl (lv_at hl 0 rfl) ?_
  refine va_get (D := (dC, dI)) (ci := 1) (v := .int σ.1) (C := RX1) (T := TX1) (N := 9) hx hb hts in_X1 hown hK hP 0 rfl rfl 0 (by decide) (hts _ q147) (fun _ h9 => h9) rfl dX1_raw_1 ?_
  refine lv_if_eq (tgt := 14) hx hb dX1_raw_4 (by decide) (fun c_1 => ?_) (fun c_1 => ?_)
  · skip
    refine lv_iconst (v := 0) hx hb dX1_raw_14 (by decide) ?_
    exact W.iret hx hb hr (fun t ht _ => xw_q (by simp only [xd_look, if_pos c_1]) ht) (fun _ h => absurd h List.not_mem_nil) dX1_raw_15
  · skip
    refine lv_aload_n hx hb dX1_raw_7 rfl (lv_at hl 0 rfl) ?_
    refine va_get (D := (dC, dI)) (ci := 1) (v := .int σ.2.2.1) (C := RX1) (T := TX1) (N := 9) hx hb hts in_X1 hown hK hP 0 rfl rfl 2 (by decide) (hts _ q149) (fun _ h9 => h9) rfl dX1_raw_8 ?_
    refine lv_goto (tgt := 15) hx hb dX1_raw_11 (by decide) ?_
    exact W.iret hx hb hr (fun t ht _ => xw_q (by simp only [xd_look, if_neg c_1]) ht) (fun _ h => absurd h List.not_mem_nil) dX1_raw_15
abbrev wsX1_resultKind : List Cond := ws_ yX1_resultKind cX1_resultKind 1 (some .int)
theorem hdX1_resultKind : yX1_resultKind.cls = RX1 ∧ yX1_resultKind.cls ≠ "java/lang/invoke/MethodHandle" ∧ yX1_resultKind.cls ≠ "java/lang/invoke/VarHandle" ∧ (parseMethodDescriptor yX1_resultKind.desc).map (fun d => d.parameters.length) = some 0 := by decide +kernel
set_option maxHeartbeats 4000000 in
set_option maxRecDepth 100000 in
theorem metX1_resultKind (l : Launch) (dC : Nat → ClassId) (dI : Nat → Nat → Nat) (h0 h1 h2 : Nat) (k1 k2 : ClassId) (σ : xd_T) : Met l yX1_resultKind wsX1_resultKind ({ frames := 0, cells := 0, slots := 0, locals := 0 }) (va_Pc [.ref h0] (xw_Rd (dC, dI) vwCl (xm_W h0 h1 h2 k1 k2 σ) [(k1, .int), (k2, .int)])) (xw_Q (xd_look σ.2.2.2.2.1 σ.2.2.2.2.2.1 (-100))) 0 0 (fun _ => False) := by
  refine Met.ofW (cc := cX1_resultKind) (maxL := 1) (ret := (some .int)) (by decide) rfl ?_
  intro p e s m args below meth c s₁ B hml hv
  obtain ⟨rfl, hP, hK⟩ := hv
  have hx := B.exec
  have hb := B.bytes
  have hr := B.returns
  have hts := atoms_spec (ws := wsX1_resultKind) B.pre
  have hts : ∀ w ∈ lw_all, w.before _ s = true := fun w h => hts w (List.mem_cons_of_mem _ h)
  have hown : s.vm.findClass RX1 = some m.cls := findClass_of_methodNamed B.named
  have hlocks := B.notSynchronized
  have hP : va_P (dC, dI) vwCl [(h0, .inr (1, [.int σ.1, .int σ.2.1, .int σ.2.2.1, .int σ.2.2.2.1, .ref h1, .ref h2, .int σ.2.2.2.2.1, .int σ.2.2.2.2.2.1, .int σ.2.2.2.2.2.2.1])), (h1, .inl (k1, 2, .inl σ.2.2.2.2.2.2.2.1)), (h2, .inl (k2, 2, .inl σ.2.2.2.2.2.2.2.2))] s.heap := hP
  have hl := lv_entry ([.ref h0]) (n := 1) (Nat.le_of_ble_eq_true rfl)
  rw [lg_entry_eq]
  generalize (lg_sl ([.ref h0]) ++ List.replicate (1 - (lg_sl ([.ref h0])).length) Slot.unset).toArray = ls at hl ⊢
  have hl : lv_has ls 1 [(0, .ref h0)] := hl
  refine lv_aload_n hx hb dX1_resultKind_0 rfl (lv_at hl 0 rfl) ?_
  refine va_get (D := (dC, dI)) (ci := 1) (v := .int σ.2.2.2.2.1) (C := RX1) (T := TX1) (N := 9) hx hb hts in_X1 hown hK hP 0 rfl rfl 6 (by decide) (hts _ q153) (fun _ h9 => h9) rfl dX1_resultKind_1 ?_
  refine lv_if_eq (tgt := 14) hx hb dX1_resultKind_4 (by decide) (fun c_1 => ?_) (fun c_1 => ?_)
  · skip
    refine lv_bipush (v := (-100)) hx hb dX1_resultKind_14 (by decide) ?_
    exact W.iret hx hb hr (fun t ht _ => xw_q (by simp only [xd_look, if_pos c_1]) ht) (fun _ h => absurd h List.not_mem_nil) dX1_resultKind_16
  · skip
    refine lv_aload_n hx hb dX1_resultKind_7 rfl (lv_at hl 0 rfl) ?_
    refine va_get (D := (dC, dI)) (ci := 1) (v := .int σ.2.2.2.2.2.1) (C := RX1) (T := TX1) (N := 9) hx hb hts in_X1 hown hK hP 0 rfl rfl 7 (by decide) (hts _ q154) (fun _ h9 => h9) rfl dX1_resultKind_8 ?_
    refine lv_goto (tgt := 16) hx hb dX1_resultKind_11 (by decide) ?_
    exact W.iret hx hb hr (fun t ht _ => xw_q (by simp only [xd_look, if_neg c_1]) ht) (fun _ h => absurd h List.not_mem_nil) dX1_resultKind_16
abbrev wsX1_result : List Cond := ws_ yX1_result cX1_result 1 (some .int)
theorem hdX1_result : yX1_result.cls = RX1 ∧ yX1_result.cls ≠ "java/lang/invoke/MethodHandle" ∧ yX1_result.cls ≠ "java/lang/invoke/VarHandle" ∧ (parseMethodDescriptor yX1_result.desc).map (fun d => d.parameters.length) = some 0 := by decide +kernel
set_option maxHeartbeats 4000000 in
set_option maxRecDepth 100000 in
theorem metX1_result (l : Launch) (dC : Nat → ClassId) (dI : Nat → Nat → Nat) (h0 h1 h2 : Nat) (k1 k2 : ClassId) (σ : xd_T) : Met l yX1_result wsX1_result ({ frames := 0, cells := 0, slots := 0, locals := 0 }) (va_Pc [.ref h0] (xw_Rd (dC, dI) vwCl (xm_W h0 h1 h2 k1 k2 σ) [(k1, .int), (k2, .int)])) (xw_Q (xd_look σ.2.2.2.2.1 σ.2.2.2.2.2.2.1 0)) 0 0 (fun _ => False) := by
  refine Met.ofW (cc := cX1_result) (maxL := 1) (ret := (some .int)) (by decide) rfl ?_
  intro p e s m args below meth c s₁ B hml hv
  obtain ⟨rfl, hP, hK⟩ := hv
  have hx := B.exec
  have hb := B.bytes
  have hr := B.returns
  have hts := atoms_spec (ws := wsX1_result) B.pre
  have hts : ∀ w ∈ lw_all, w.before _ s = true := fun w h => hts w (List.mem_cons_of_mem _ h)
  have hown : s.vm.findClass RX1 = some m.cls := findClass_of_methodNamed B.named
  have hlocks := B.notSynchronized
  have hP : va_P (dC, dI) vwCl [(h0, .inr (1, [.int σ.1, .int σ.2.1, .int σ.2.2.1, .int σ.2.2.2.1, .ref h1, .ref h2, .int σ.2.2.2.2.1, .int σ.2.2.2.2.2.1, .int σ.2.2.2.2.2.2.1])), (h1, .inl (k1, 2, .inl σ.2.2.2.2.2.2.2.1)), (h2, .inl (k2, 2, .inl σ.2.2.2.2.2.2.2.2))] s.heap := hP
  have hl := lv_entry ([.ref h0]) (n := 1) (Nat.le_of_ble_eq_true rfl)
  rw [lg_entry_eq]
  generalize (lg_sl ([.ref h0]) ++ List.replicate (1 - (lg_sl ([.ref h0])).length) Slot.unset).toArray = ls at hl ⊢
  have hl : lv_has ls 1 [(0, .ref h0)] := hl
  refine lv_aload_n hx hb dX1_result_0 rfl (lv_at hl 0 rfl) ?_
  refine va_get (D := (dC, dI)) (ci := 1) (v := .int σ.2.2.2.2.1) (C := RX1) (T := TX1) (N := 9) hx hb hts in_X1 hown hK hP 0 rfl rfl 6 (by decide) (hts _ q153) (fun _ h9 => h9) rfl dX1_result_1 ?_
  refine lv_if_eq (tgt := 14) hx hb dX1_result_4 (by decide) (fun c_1 => ?_) (fun c_1 => ?_)
  · skip
    refine lv_iconst (v := 0) hx hb dX1_result_14 (by decide) ?_
    exact W.iret hx hb hr (fun t ht _ => xw_q (by simp only [xd_look, if_pos c_1]) ht) (fun _ h => absurd h List.not_mem_nil) dX1_result_15
  · skip
    refine lv_aload_n hx hb dX1_result_7 rfl (lv_at hl 0 rfl) ?_
    refine va_get (D := (dC, dI)) (ci := 1) (v := .int σ.2.2.2.2.2.2.1) (C := RX1) (T := TX1) (N := 9) hx hb hts in_X1 hown hK hP 0 rfl rfl 8 (by decide) (hts _ q155) (fun _ h9 => h9) rfl dX1_result_8 ?_
    refine lv_goto (tgt := 15) hx hb dX1_result_11 (by decide) ?_
    exact W.iret hx hb hr (fun t ht _ => xw_q (by simp only [xd_look, if_neg c_1]) ht) (fun _ h => absurd h List.not_mem_nil) dX1_result_15
abbrev wsX1_agree : List Cond := ws_ yX1_agree cX1_agree 3 (some .boolean)
theorem hdX1_agree : yX1_agree.cls = RX1 ∧ yX1_agree.cls ≠ "java/lang/invoke/MethodHandle" ∧ yX1_agree.cls ≠ "java/lang/invoke/VarHandle" ∧ (parseMethodDescriptor yX1_agree.desc).map (fun d => d.parameters.length) = some 2 := by decide +kernel
set_option maxHeartbeats 4000000 in
set_option maxRecDepth 100000 in
theorem metX1_agree (l : Launch) (dC : Nat → ClassId) (dI : Nat → Nat → Nat) (h0 h1 h2 : Nat) (k1 k2 : ClassId) (σ : xd_T) (p0 p1 : Int32) : Met l yX1_agree wsX1_agree ({ frames := 1, cells := 0, slots := 0, locals := 22 }) (va_Pc [.ref h0, .int p0, .int p1] (xw_Rd (dC, dI) vwCl (xm_W h0 h1 h2 k1 k2 σ) [(k1, .int), (k2, .int)])) (xw_Q (xm_agree p0 p1)) 0 0 (fun _ => False) := by
  refine Met.ofW (cc := cX1_agree) (maxL := 3) (ret := (some .boolean)) (by decide) rfl ?_
  intro p e s m args below meth c s₁ B hml hv
  obtain ⟨rfl, hP, hK⟩ := hv
  have hx := B.exec
  have hb := B.bytes
  have hr := B.returns
  have hts := atoms_spec (ws := wsX1_agree) B.pre
  have hts : ∀ w ∈ lw_all, w.before _ s = true := fun w h => hts w (List.mem_cons_of_mem _ h)
  have hown : s.vm.findClass RX1 = some m.cls := findClass_of_methodNamed B.named
  have hlocks := B.notSynchronized
  have hP : va_P (dC, dI) vwCl [(h0, .inr (1, [.int σ.1, .int σ.2.1, .int σ.2.2.1, .int σ.2.2.2.1, .ref h1, .ref h2, .int σ.2.2.2.2.1, .int σ.2.2.2.2.2.1, .int σ.2.2.2.2.2.2.1])), (h1, .inl (k1, 2, .inl σ.2.2.2.2.2.2.2.1)), (h2, .inl (k2, 2, .inl σ.2.2.2.2.2.2.2.2))] s.heap := hP
  have hl := lv_entry ([.ref h0, .int p0, .int p1]) (n := 3) (Nat.le_of_ble_eq_true rfl)
  rw [lg_entry_eq]
  generalize (lg_sl ([.ref h0, .int p0, .int p1]) ++ List.replicate (3 - (lg_sl ([.ref h0, .int p0, .int p1])).length) Slot.unset).toArray = ls at hl ⊢
  have hl : lv_has ls 3 [(0, .ref h0), (1, .int p0), (2, .int p1)] := hl
  refine lv_aload_n hx hb dX1_agree_0 rfl (lv_at hl 0 rfl) ?_
  refine lv_iload_n hx hb dX1_agree_1 rfl (lv_at hl 1 rfl) ?_
  refine xw_V (v := xm_isType p0) (As := [.int p0]) (rest := []) (ci := 1) ⟨hx, hb, hml, hown, hts⟩ (metX1_isType l dC dI h0 h1 h2 k1 k2 σ p0) (cwV 1 hts (lw_V q196 q198 qs9 q16 q199) rfl rfl rfl hdX1_isType ⟨Nat.le_of_ble_eq_true rfl, Nat.le_of_ble_eq_true rfl⟩) hK hP 0 rfl rfl rfl hl.1 rfl (Nat.le_of_ble_eq_true rfl) dX1_agree_2 ⟨Nat.zero_le _, Nat.zero_le _⟩ ?_
  refine lv_if_eq (tgt := 16) hx hb dX1_agree_5 (by decide) (fun c_1 => ?_) (fun c_1 => ?_)
  · skip
    refine lv_iconst (v := 0) hx hb dX1_agree_16 (by decide) ?_
    exact W.zret hx hb hr rfl (fun t ht _ => xw_q (by simp only [xm_agree, if_pos c_1]) ht) (fun _ h => absurd h List.not_mem_nil) dX1_agree_17
  · skip
    refine lv_aload_n hx hb dX1_agree_8 rfl (lv_at hl 0 rfl) ?_
    refine lv_iload_n hx hb dX1_agree_9 rfl (lv_at hl 2 rfl) ?_
    refine xw_V (v := xm_isType p1) (As := [.int p1]) (rest := []) (ci := 1) ⟨hx, hb, hml, hown, hts⟩ (metX1_isType l dC dI h0 h1 h2 k1 k2 σ p1) (cwV 1 hts (lw_V q196 q198 qs9 q16 q199) rfl rfl rfl hdX1_isType ⟨Nat.le_of_ble_eq_true rfl, Nat.le_of_ble_eq_true rfl⟩) hK hP 0 rfl rfl rfl hl.1 rfl (Nat.le_of_ble_eq_true rfl) dX1_agree_10 ⟨Nat.zero_le _, Nat.zero_le _⟩ ?_
    refine lv_if_ne (tgt := 18) hx hb dX1_agree_13 (by decide) (fun c_2 => ?_) (fun c_2 => ?_)
    · skip
      refine lv_aload_n hx hb dX1_agree_18 rfl (lv_at hl 0 rfl) ?_
      refine lv_iload_n hx hb dX1_agree_19 rfl (lv_at hl 1 rfl) ?_
      refine lv_iload_n hx hb dX1_agree_20 rfl (lv_at hl 2 rfl) ?_
      refine xw_V (v := xd_plain p0 p1) (As := [.int p0, .int p1]) (rest := []) (ci := 1) ⟨hx, hb, hml, hown, hts⟩ (metX1_simple l dC dI h0 h1 h2 k1 k2 σ p0 p1) (cwV 2 hts (lw_V q200 q202 qs10 q16 q203) rfl rfl rfl hdX1_simple ⟨Nat.le_of_ble_eq_true rfl, Nat.le_of_ble_eq_true rfl⟩) hK hP 0 rfl rfl rfl hl.1 rfl (Nat.le_of_ble_eq_true rfl) dX1_agree_21 ⟨Nat.zero_le _, Nat.zero_le _⟩ ?_
      refine lv_if_ne (tgt := 71) hx hb dX1_agree_24 (by decide) (fun c_3 => ?_) (fun c_3 => ?_)
      · skip
        refine lv_iconst (v := 1) hx hb dX1_agree_71 (by decide) ?_
        refine lv_goto (tgt := 76) hx hb dX1_agree_72 (by decide) ?_
        exact W.zret hx hb hr rfl (fun t ht _ => xw_q (by simp only [xm_agree, if_neg c_1, if_neg c_2, if_neg c_3]) ht) (fun _ h => absurd h List.not_mem_nil) dX1_agree_76
      · skip
        refine lv_iload_n hx hb dX1_agree_27 rfl (lv_at hl 1 rfl) ?_
        refine lv_iconst (v := 3) hx hb dX1_agree_28 (by decide) ?_
        refine lv_icmp_lt (tgt := 75) hx hb dX1_agree_29 (by decide) (fun c_4 => ?_) (fun c_4 => ?_)
        · skip
          refine lv_iconst (v := 0) hx hb dX1_agree_75 (by decide) ?_
          exact W.zret hx hb hr rfl (fun t ht _ => xw_q (by simp only [xm_agree, if_neg c_1, if_neg c_2, if_pos c_3, if_pos c_4]) ht) (fun _ h => absurd h List.not_mem_nil) dX1_agree_76
        · skip
          refine lv_iload_n hx hb dX1_agree_32 rfl (lv_at hl 2 rfl) ?_
          refine lv_iconst (v := 3) hx hb dX1_agree_33 (by decide) ?_
          refine lv_icmp_lt (tgt := 75) hx hb dX1_agree_34 (by decide) (fun c_5 => ?_) (fun c_5 => ?_)
          · skip
            refine lv_iconst (v := 0) hx hb dX1_agree_75 (by decide) ?_
            exact W.zret hx hb hr rfl (fun t ht _ => xw_q (by simp only [xm_agree, if_neg c_1, if_neg c_2, if_pos c_3, if_neg c_4, if_pos c_5]) ht) (fun _ h => absurd h List.not_mem_nil) dX1_agree_76
          · skip
            refine lv_aload_n hx hb dX1_agree_37 rfl (lv_at hl 0 rfl) ?_
            refine lv_aload_n hx hb dX1_agree_38 rfl (lv_at hl 0 rfl) ?_
            refine lv_iload_n hx hb dX1_agree_39 rfl (lv_at hl 1 rfl) ?_
            refine xw_V (v := xd_arg p0) (As := [.int p0]) (rest := [.ref h0]) (ci := 1) ⟨hx, hb, hml, hown, hts⟩ (metX1_from l dC dI h0 h1 h2 k1 k2 σ p0) (cwV 1 hts (lw_V q204 q206 qs11 q16 q207) rfl rfl rfl hdX1_from ⟨Nat.le_of_ble_eq_true rfl, Nat.le_of_ble_eq_true rfl⟩) hK hP 0 rfl rfl rfl hl.1 rfl (Nat.le_of_ble_eq_true rfl) dX1_agree_40 ⟨Nat.zero_le _, Nat.zero_le _⟩ ?_
            refine lv_aload_n hx hb dX1_agree_43 rfl (lv_at hl 0 rfl) ?_
            refine lv_iload_n hx hb dX1_agree_44 rfl (lv_at hl 2 rfl) ?_
            refine xw_V (v := xd_arg p1) (As := [.int p1]) (rest := [.int (xd_arg p0), .ref h0]) (ci := 1) ⟨hx, hb, hml, hown, hts⟩ (metX1_from l dC dI h0 h1 h2 k1 k2 σ p1) (cwV 1 hts (lw_V q204 q206 qs11 q16 q207) rfl rfl rfl hdX1_from ⟨Nat.le_of_ble_eq_true rfl, Nat.le_of_ble_eq_true rfl⟩) hK hP 0 rfl rfl rfl hl.1 rfl (Nat.le_of_ble_eq_true rfl) dX1_agree_45 ⟨Nat.zero_le _, Nat.zero_le _⟩ ?_
            refine xw_V (v := xd_plain (xd_arg p0) (xd_arg p1)) (As := [.int (xd_arg p0), .int (xd_arg p1)]) (rest := []) (ci := 1) ⟨hx, hb, hml, hown, hts⟩ (metX1_simple l dC dI h0 h1 h2 k1 k2 σ (xd_arg p0) (xd_arg p1)) (cwV 2 hts (lw_V q200 q202 qs10 q16 q203) rfl rfl rfl hdX1_simple ⟨Nat.le_of_ble_eq_true rfl, Nat.le_of_ble_eq_true rfl⟩) hK hP 0 rfl rfl rfl hl.1 rfl (Nat.le_of_ble_eq_true rfl) dX1_agree_48 ⟨Nat.zero_le _, Nat.zero_le _⟩ ?_
            refine lv_if_eq (tgt := 75) hx hb dX1_agree_51 (by decide) (fun c_6 => ?_) (fun c_6 => ?_)
            · skip
              refine lv_iconst (v := 0) hx hb dX1_agree_75 (by decide) ?_
              exact W.zret hx hb hr rfl (fun t ht _ => xw_q (by simp only [xm_agree, if_neg c_1, if_neg c_2, if_pos c_3, if_neg c_4, if_neg c_5, if_pos c_6]) ht) (fun _ h => absurd h List.not_mem_nil) dX1_agree_76
            · skip
              refine lv_aload_n hx hb dX1_agree_54 rfl (lv_at hl 0 rfl) ?_
              refine lv_aload_n hx hb dX1_agree_55 rfl (lv_at hl 0 rfl) ?_
              refine lv_iload_n hx hb dX1_agree_56 rfl (lv_at hl 1 rfl) ?_
              refine xw_V (v := xd_res p0) (As := [.int p0]) (rest := [.ref h0]) (ci := 1) ⟨hx, hb, hml, hown, hts⟩ (metX1_into l dC dI h0 h1 h2 k1 k2 σ p0) (cwV 1 hts (lw_V q208 q210 qs12 q16 q211) rfl rfl rfl hdX1_into ⟨Nat.le_of_ble_eq_true rfl, Nat.le_of_ble_eq_true rfl⟩) hK hP 0 rfl rfl rfl hl.1 rfl (Nat.le_of_ble_eq_true rfl) dX1_agree_57 ⟨Nat.zero_le _, Nat.zero_le _⟩ ?_
              refine lv_aload_n hx hb dX1_agree_60 rfl (lv_at hl 0 rfl) ?_
              refine lv_iload_n hx hb dX1_agree_61 rfl (lv_at hl 2 rfl) ?_
              refine xw_V (v := xd_res p1) (As := [.int p1]) (rest := [.int (xd_res p0), .ref h0]) (ci := 1) ⟨hx, hb, hml, hown, hts⟩ (metX1_into l dC dI h0 h1 h2 k1 k2 σ p1) (cwV 1 hts (lw_V q208 q210 qs12 q16 q211) rfl rfl rfl hdX1_into ⟨Nat.le_of_ble_eq_true rfl, Nat.le_of_ble_eq_true rfl⟩) hK hP 0 rfl rfl rfl hl.1 rfl (Nat.le_of_ble_eq_true rfl) dX1_agree_62 ⟨Nat.zero_le _, Nat.zero_le _⟩ ?_
              refine xw_V (v := xd_plain (xd_res p0) (xd_res p1)) (As := [.int (xd_res p0), .int (xd_res p1)]) (rest := []) (ci := 1) ⟨hx, hb, hml, hown, hts⟩ (metX1_simple l dC dI h0 h1 h2 k1 k2 σ (xd_res p0) (xd_res p1)) (cwV 2 hts (lw_V q200 q202 qs10 q16 q203) rfl rfl rfl hdX1_simple ⟨Nat.le_of_ble_eq_true rfl, Nat.le_of_ble_eq_true rfl⟩) hK hP 0 rfl rfl rfl hl.1 rfl (Nat.le_of_ble_eq_true rfl) dX1_agree_65 ⟨Nat.zero_le _, Nat.zero_le _⟩ ?_
              refine lv_if_eq (tgt := 75) hx hb dX1_agree_68 (by decide) (fun c_7 => ?_) (fun c_7 => ?_)
              · skip
                refine lv_iconst (v := 0) hx hb dX1_agree_75 (by decide) ?_
                exact W.zret hx hb hr rfl (fun t ht _ => xw_q (by simp only [xm_agree, if_neg c_1, if_neg c_2, if_pos c_3, if_neg c_4, if_neg c_5, if_neg c_6, if_pos c_7]) ht) (fun _ h => absurd h List.not_mem_nil) dX1_agree_76
              · skip
                refine lv_iconst (v := 1) hx hb dX1_agree_71 (by decide) ?_
                refine lv_goto (tgt := 76) hx hb dX1_agree_72 (by decide) ?_
                exact W.zret hx hb hr rfl (fun t ht _ => xw_q (by simp only [xm_agree, if_neg c_1, if_neg c_2, if_pos c_3, if_neg c_4, if_neg c_5, if_neg c_6, if_neg c_7]) ht) (fun _ h => absurd h List.not_mem_nil) dX1_agree_76
    · skip
      refine lv_iconst (v := 0) hx hb dX1_agree_16 (by decide) ?_
      exact W.zret hx hb hr rfl (fun t ht _ => xw_q (by simp only [xm_agree, if_neg c_1, if_pos c_2]) ht) (fun _ h => absurd h List.not_mem_nil) dX1_agree_17
abbrev wsX1_agreeing : List Cond := ws_ yX1_agreeing cX1_agreeing 4 (some .int)
theorem hdX1_agreeing : yX1_agreeing.cls = RX1 ∧ yX1_agreeing.cls ≠ "java/lang/invoke/MethodHandle" ∧ yX1_agreeing.cls ≠ "java/lang/invoke/VarHandle" ∧ (parseMethodDescriptor yX1_agreeing.desc).map (fun d => d.parameters.length) = some 1 := by decide +kernel
set_option maxHeartbeats 4000000 in
set_option maxRecDepth 100000 in
theorem metX1_agreeing (l : Launch) (dC : Nat → ClassId) (dI : Nat → Nat → Nat) (h0 h1 h2 : Nat) (k1 k2 : ClassId) (σ : xd_T) (p0 : Int32) : Met l yX1_agreeing wsX1_agreeing ({ frames := 2, cells := 0, slots := 0, locals := 44 }) (va_Pc [.ref h0, .int p0] (xw_Rd (dC, dI) vwCl (xm_W h0 h1 h2 k1 k2 σ) [(k1, .int), (k2, .int)])) (xw_Q (xm_agreeing p0)) 0 0 (fun _ => False) := by
  refine Met.ofW (cc := cX1_agreeing) (maxL := 4) (ret := (some .int)) (by decide) rfl ?_
  intro p e s m args below meth c s₁ B hml hv
  obtain ⟨rfl, hP, hK⟩ := hv
  have hx := B.exec
  have hb := B.bytes
  have hr := B.returns
  have hts := atoms_spec (ws := wsX1_agreeing) B.pre
  have hts : ∀ w ∈ lw_all, w.before _ s = true := fun w h => hts w (List.mem_cons_of_mem _ h)
  have hown : s.vm.findClass RX1 = some m.cls := findClass_of_methodNamed B.named
  have hlocks := B.notSynchronized
  have hP : va_P (dC, dI) vwCl [(h0, .inr (1, [.int σ.1, .int σ.2.1, .int σ.2.2.1, .int σ.2.2.2.1, .ref h1, .ref h2, .int σ.2.2.2.2.1, .int σ.2.2.2.2.2.1, .int σ.2.2.2.2.2.2.1])), (h1, .inl (k1, 2, .inl σ.2.2.2.2.2.2.2.1)), (h2, .inl (k2, 2, .inl σ.2.2.2.2.2.2.2.2))] s.heap := hP
  have hl := lv_entry ([.ref h0, .int p0]) (n := 4) (Nat.le_of_ble_eq_true rfl)
  rw [lg_entry_eq]
  generalize (lg_sl ([.ref h0, .int p0]) ++ List.replicate (4 - (lg_sl ([.ref h0, .int p0])).length) Slot.unset).toArray = ls at hl ⊢
  have hl : lv_has ls 4 [(0, .ref h0), (1, .int p0)] := hl
  refine lv_iconst (v := 0) hx hb dX1_agreeing_0 (by decide) ?_
  refine lv_istore_n (lv' := [(2, .int 0), (0, .ref h0), (1, .int p0)]) hx hb dX1_agreeing_1 rfl hl (by decide) rfl (fun ls hl => ?_)
  refine lv_iconst (v := 0) hx hb dX1_agreeing_2 (by decide) ?_
  refine lv_istore_n (lv' := [(3, .int 0), (2, .int 0), (0, .ref h0), (1, .int p0)]) hx hb dX1_agreeing_3 rfl hl (by decide) rfl (fun ls hl => ?_)
  refine lv_iload_n hx hb dX1_agreeing_4 rfl (lv_at hl 0 rfl) ?_
  refine lv_bipush (v := 12) hx hb dX1_agreeing_5 (by decide) ?_
  refine lv_icmp_ge (tgt := 33) hx hb dX1_agreeing_7 (by decide) (fun c_1 => absurd c_1 (by decide)) (fun _ => ?_)
  refine lv_aload_n hx hb dX1_agreeing_10 rfl (lv_at hl 2 rfl) ?_
  refine lv_iload_n hx hb dX1_agreeing_11 rfl (lv_at hl 0 rfl) ?_
  refine lv_iload_n hx hb dX1_agreeing_12 rfl (lv_at hl 3 rfl) ?_
  refine xw_V (v := xm_agree 0 p0) (As := [.int 0, .int p0]) (rest := []) (ci := 1) ⟨hx, hb, hml, hown, hts⟩ (metX1_agree l dC dI h0 h1 h2 k1 k2 σ 0 p0) (cwV 2 hts (lw_V q192 q193 q194 q16 q195) rfl rfl rfl hdX1_agree ⟨Nat.le_of_ble_eq_true rfl, Nat.le_of_ble_eq_true rfl⟩) hK hP 0 rfl rfl rfl hl.1 rfl (Nat.le_of_ble_eq_true rfl) dX1_agreeing_13 ⟨Nat.zero_le _, Nat.zero_le _⟩ ?_
  refine xw_cut (g2 := F0 m 26 ls [.int (xm_inc (xm_agree 0 p0) (0))]) ?_ (fun K_26 => ?_)
  · skip
    refine xw_top (v := xm_agN p0 1) rfl ?_
    refine lv_istore_n (lv' := [(2, .int (xm_agN p0 1)), (3, .int 0), (0, .ref h0), (1, .int p0)]) hx hb dX1_agreeing_26 rfl hl (by decide) rfl (fun ls hl => ?_)
    refine lv_iinc (v := 1) (lv' := [(3, .int 1), (2, .int (xm_agN p0 1)), (0, .ref h0), (1, .int p0)]) hx hb dX1_agreeing_27 hl (k := 1) rfl (by decide) (by decide) rfl (fun ls hl => ?_)
    refine lv_goto (tgt := 4) hx hb dX1_agreeing_30 (by decide) ?_
    refine lv_iload_n hx hb dX1_agreeing_4 rfl (lv_at hl 0 rfl) ?_
    refine lv_bipush (v := 12) hx hb dX1_agreeing_5 (by decide) ?_
    refine lv_icmp_ge (tgt := 33) hx hb dX1_agreeing_7 (by decide) (fun c_2 => absurd c_2 (by decide)) (fun _ => ?_)
    refine lv_aload_n hx hb dX1_agreeing_10 rfl (lv_at hl 2 rfl) ?_
    refine lv_iload_n hx hb dX1_agreeing_11 rfl (lv_at hl 0 rfl) ?_
    refine lv_iload_n hx hb dX1_agreeing_12 rfl (lv_at hl 3 rfl) ?_
    refine xw_V (v := xm_agree 1 p0) (As := [.int 1, .int p0]) (rest := []) (ci := 1) ⟨hx, hb, hml, hown, hts⟩ (metX1_agree l dC dI h0 h1 h2 k1 k2 σ 1 p0) (cwV 2 hts (lw_V q192 q193 q194 q16 q195) rfl rfl rfl hdX1_agree ⟨Nat.le_of_ble_eq_true rfl, Nat.le_of_ble_eq_true rfl⟩) hK hP 0 rfl rfl rfl hl.1 rfl (Nat.le_of_ble_eq_true rfl) dX1_agreeing_13 ⟨Nat.zero_le _, Nat.zero_le _⟩ ?_
    refine xw_cut (g2 := F0 m 26 ls [.int (xm_inc (xm_agree 1 p0) (xm_agN p0 1))]) ?_ (fun K_26 => ?_)
    · skip
      refine xw_top (v := xm_agN p0 2) rfl ?_
      refine lv_istore_n (lv' := [(2, .int (xm_agN p0 2)), (3, .int 1), (0, .ref h0), (1, .int p0)]) hx hb dX1_agreeing_26 rfl hl (by decide) rfl (fun ls hl => ?_)
      refine lv_iinc (v := 2) (lv' := [(3, .int 2), (2, .int (xm_agN p0 2)), (0, .ref h0), (1, .int p0)]) hx hb dX1_agreeing_27 hl (k := 1) rfl (by decide) (by decide) rfl (fun ls hl => ?_)
      refine lv_goto (tgt := 4) hx hb dX1_agreeing_30 (by decide) ?_
      refine lv_iload_n hx hb dX1_agreeing_4 rfl (lv_at hl 0 rfl) ?_
      refine lv_bipush (v := 12) hx hb dX1_agreeing_5 (by decide) ?_
      refine lv_icmp_ge (tgt := 33) hx hb dX1_agreeing_7 (by decide) (fun c_3 => absurd c_3 (by decide)) (fun _ => ?_)
      refine lv_aload_n hx hb dX1_agreeing_10 rfl (lv_at hl 2 rfl) ?_
      refine lv_iload_n hx hb dX1_agreeing_11 rfl (lv_at hl 0 rfl) ?_
      refine lv_iload_n hx hb dX1_agreeing_12 rfl (lv_at hl 3 rfl) ?_
      refine xw_V (v := xm_agree 2 p0) (As := [.int 2, .int p0]) (rest := []) (ci := 1) ⟨hx, hb, hml, hown, hts⟩ (metX1_agree l dC dI h0 h1 h2 k1 k2 σ 2 p0) (cwV 2 hts (lw_V q192 q193 q194 q16 q195) rfl rfl rfl hdX1_agree ⟨Nat.le_of_ble_eq_true rfl, Nat.le_of_ble_eq_true rfl⟩) hK hP 0 rfl rfl rfl hl.1 rfl (Nat.le_of_ble_eq_true rfl) dX1_agreeing_13 ⟨Nat.zero_le _, Nat.zero_le _⟩ ?_
      refine xw_cut (g2 := F0 m 26 ls [.int (xm_inc (xm_agree 2 p0) (xm_agN p0 2))]) ?_ (fun K_26 => ?_)
      · skip
        refine xw_top (v := xm_agN p0 3) rfl ?_
        refine lv_istore_n (lv' := [(2, .int (xm_agN p0 3)), (3, .int 2), (0, .ref h0), (1, .int p0)]) hx hb dX1_agreeing_26 rfl hl (by decide) rfl (fun ls hl => ?_)
        refine lv_iinc (v := 3) (lv' := [(3, .int 3), (2, .int (xm_agN p0 3)), (0, .ref h0), (1, .int p0)]) hx hb dX1_agreeing_27 hl (k := 1) rfl (by decide) (by decide) rfl (fun ls hl => ?_)
        refine lv_goto (tgt := 4) hx hb dX1_agreeing_30 (by decide) ?_
        refine lv_iload_n hx hb dX1_agreeing_4 rfl (lv_at hl 0 rfl) ?_
        refine lv_bipush (v := 12) hx hb dX1_agreeing_5 (by decide) ?_
        refine lv_icmp_ge (tgt := 33) hx hb dX1_agreeing_7 (by decide) (fun c_4 => absurd c_4 (by decide)) (fun _ => ?_)
        refine lv_aload_n hx hb dX1_agreeing_10 rfl (lv_at hl 2 rfl) ?_
        refine lv_iload_n hx hb dX1_agreeing_11 rfl (lv_at hl 0 rfl) ?_
        refine lv_iload_n hx hb dX1_agreeing_12 rfl (lv_at hl 3 rfl) ?_
        refine xw_V (v := xm_agree 3 p0) (As := [.int 3, .int p0]) (rest := []) (ci := 1) ⟨hx, hb, hml, hown, hts⟩ (metX1_agree l dC dI h0 h1 h2 k1 k2 σ 3 p0) (cwV 2 hts (lw_V q192 q193 q194 q16 q195) rfl rfl rfl hdX1_agree ⟨Nat.le_of_ble_eq_true rfl, Nat.le_of_ble_eq_true rfl⟩) hK hP 0 rfl rfl rfl hl.1 rfl (Nat.le_of_ble_eq_true rfl) dX1_agreeing_13 ⟨Nat.zero_le _, Nat.zero_le _⟩ ?_
        refine xw_cut (g2 := F0 m 26 ls [.int (xm_inc (xm_agree 3 p0) (xm_agN p0 3))]) ?_ (fun K_26 => ?_)
        · skip
          refine xw_top (v := xm_agN p0 4) rfl ?_
          refine lv_istore_n (lv' := [(2, .int (xm_agN p0 4)), (3, .int 3), (0, .ref h0), (1, .int p0)]) hx hb dX1_agreeing_26 rfl hl (by decide) rfl (fun ls hl => ?_)
          refine lv_iinc (v := 4) (lv' := [(3, .int 4), (2, .int (xm_agN p0 4)), (0, .ref h0), (1, .int p0)]) hx hb dX1_agreeing_27 hl (k := 1) rfl (by decide) (by decide) rfl (fun ls hl => ?_)
          refine lv_goto (tgt := 4) hx hb dX1_agreeing_30 (by decide) ?_
          refine lv_iload_n hx hb dX1_agreeing_4 rfl (lv_at hl 0 rfl) ?_
          refine lv_bipush (v := 12) hx hb dX1_agreeing_5 (by decide) ?_
          refine lv_icmp_ge (tgt := 33) hx hb dX1_agreeing_7 (by decide) (fun c_5 => absurd c_5 (by decide)) (fun _ => ?_)
          refine lv_aload_n hx hb dX1_agreeing_10 rfl (lv_at hl 2 rfl) ?_
          refine lv_iload_n hx hb dX1_agreeing_11 rfl (lv_at hl 0 rfl) ?_
          refine lv_iload_n hx hb dX1_agreeing_12 rfl (lv_at hl 3 rfl) ?_
          refine xw_V (v := xm_agree 4 p0) (As := [.int 4, .int p0]) (rest := []) (ci := 1) ⟨hx, hb, hml, hown, hts⟩ (metX1_agree l dC dI h0 h1 h2 k1 k2 σ 4 p0) (cwV 2 hts (lw_V q192 q193 q194 q16 q195) rfl rfl rfl hdX1_agree ⟨Nat.le_of_ble_eq_true rfl, Nat.le_of_ble_eq_true rfl⟩) hK hP 0 rfl rfl rfl hl.1 rfl (Nat.le_of_ble_eq_true rfl) dX1_agreeing_13 ⟨Nat.zero_le _, Nat.zero_le _⟩ ?_
          refine xw_cut (g2 := F0 m 26 ls [.int (xm_inc (xm_agree 4 p0) (xm_agN p0 4))]) ?_ (fun K_26 => ?_)
          · skip
            refine xw_top (v := xm_agN p0 5) rfl ?_
            refine lv_istore_n (lv' := [(2, .int (xm_agN p0 5)), (3, .int 4), (0, .ref h0), (1, .int p0)]) hx hb dX1_agreeing_26 rfl hl (by decide) rfl (fun ls hl => ?_)
            refine lv_iinc (v := 5) (lv' := [(3, .int 5), (2, .int (xm_agN p0 5)), (0, .ref h0), (1, .int p0)]) hx hb dX1_agreeing_27 hl (k := 1) rfl (by decide) (by decide) rfl (fun ls hl => ?_)
            refine lv_goto (tgt := 4) hx hb dX1_agreeing_30 (by decide) ?_
            refine lv_iload_n hx hb dX1_agreeing_4 rfl (lv_at hl 0 rfl) ?_
            refine lv_bipush (v := 12) hx hb dX1_agreeing_5 (by decide) ?_
            refine lv_icmp_ge (tgt := 33) hx hb dX1_agreeing_7 (by decide) (fun c_6 => absurd c_6 (by decide)) (fun _ => ?_)
            refine lv_aload_n hx hb dX1_agreeing_10 rfl (lv_at hl 2 rfl) ?_
            refine lv_iload_n hx hb dX1_agreeing_11 rfl (lv_at hl 0 rfl) ?_
            refine lv_iload_n hx hb dX1_agreeing_12 rfl (lv_at hl 3 rfl) ?_
            refine xw_V (v := xm_agree 5 p0) (As := [.int 5, .int p0]) (rest := []) (ci := 1) ⟨hx, hb, hml, hown, hts⟩ (metX1_agree l dC dI h0 h1 h2 k1 k2 σ 5 p0) (cwV 2 hts (lw_V q192 q193 q194 q16 q195) rfl rfl rfl hdX1_agree ⟨Nat.le_of_ble_eq_true rfl, Nat.le_of_ble_eq_true rfl⟩) hK hP 0 rfl rfl rfl hl.1 rfl (Nat.le_of_ble_eq_true rfl) dX1_agreeing_13 ⟨Nat.zero_le _, Nat.zero_le _⟩ ?_
            refine xw_cut (g2 := F0 m 26 ls [.int (xm_inc (xm_agree 5 p0) (xm_agN p0 5))]) ?_ (fun K_26 => ?_)
            · skip
              refine xw_top (v := xm_agN p0 6) rfl ?_
              refine lv_istore_n (lv' := [(2, .int (xm_agN p0 6)), (3, .int 5), (0, .ref h0), (1, .int p0)]) hx hb dX1_agreeing_26 rfl hl (by decide) rfl (fun ls hl => ?_)
              refine lv_iinc (v := 6) (lv' := [(3, .int 6), (2, .int (xm_agN p0 6)), (0, .ref h0), (1, .int p0)]) hx hb dX1_agreeing_27 hl (k := 1) rfl (by decide) (by decide) rfl (fun ls hl => ?_)
              refine lv_goto (tgt := 4) hx hb dX1_agreeing_30 (by decide) ?_
              refine lv_iload_n hx hb dX1_agreeing_4 rfl (lv_at hl 0 rfl) ?_
              refine lv_bipush (v := 12) hx hb dX1_agreeing_5 (by decide) ?_
              refine lv_icmp_ge (tgt := 33) hx hb dX1_agreeing_7 (by decide) (fun c_7 => absurd c_7 (by decide)) (fun _ => ?_)
              refine lv_aload_n hx hb dX1_agreeing_10 rfl (lv_at hl 2 rfl) ?_
              refine lv_iload_n hx hb dX1_agreeing_11 rfl (lv_at hl 0 rfl) ?_
              refine lv_iload_n hx hb dX1_agreeing_12 rfl (lv_at hl 3 rfl) ?_
              refine xw_V (v := xm_agree 6 p0) (As := [.int 6, .int p0]) (rest := []) (ci := 1) ⟨hx, hb, hml, hown, hts⟩ (metX1_agree l dC dI h0 h1 h2 k1 k2 σ 6 p0) (cwV 2 hts (lw_V q192 q193 q194 q16 q195) rfl rfl rfl hdX1_agree ⟨Nat.le_of_ble_eq_true rfl, Nat.le_of_ble_eq_true rfl⟩) hK hP 0 rfl rfl rfl hl.1 rfl (Nat.le_of_ble_eq_true rfl) dX1_agreeing_13 ⟨Nat.zero_le _, Nat.zero_le _⟩ ?_
              refine xw_cut (g2 := F0 m 26 ls [.int (xm_inc (xm_agree 6 p0) (xm_agN p0 6))]) ?_ (fun K_26 => ?_)
              · skip
                refine xw_top (v := xm_agN p0 7) rfl ?_
                refine lv_istore_n (lv' := [(2, .int (xm_agN p0 7)), (3, .int 6), (0, .ref h0), (1, .int p0)]) hx hb dX1_agreeing_26 rfl hl (by decide) rfl (fun ls hl => ?_)
                refine lv_iinc (v := 7) (lv' := [(3, .int 7), (2, .int (xm_agN p0 7)), (0, .ref h0), (1, .int p0)]) hx hb dX1_agreeing_27 hl (k := 1) rfl (by decide) (by decide) rfl (fun ls hl => ?_)
                refine lv_goto (tgt := 4) hx hb dX1_agreeing_30 (by decide) ?_
                refine lv_iload_n hx hb dX1_agreeing_4 rfl (lv_at hl 0 rfl) ?_
                refine lv_bipush (v := 12) hx hb dX1_agreeing_5 (by decide) ?_
                refine lv_icmp_ge (tgt := 33) hx hb dX1_agreeing_7 (by decide) (fun c_8 => absurd c_8 (by decide)) (fun _ => ?_)
                refine lv_aload_n hx hb dX1_agreeing_10 rfl (lv_at hl 2 rfl) ?_
                refine lv_iload_n hx hb dX1_agreeing_11 rfl (lv_at hl 0 rfl) ?_
                refine lv_iload_n hx hb dX1_agreeing_12 rfl (lv_at hl 3 rfl) ?_
                refine xw_V (v := xm_agree 7 p0) (As := [.int 7, .int p0]) (rest := []) (ci := 1) ⟨hx, hb, hml, hown, hts⟩ (metX1_agree l dC dI h0 h1 h2 k1 k2 σ 7 p0) (cwV 2 hts (lw_V q192 q193 q194 q16 q195) rfl rfl rfl hdX1_agree ⟨Nat.le_of_ble_eq_true rfl, Nat.le_of_ble_eq_true rfl⟩) hK hP 0 rfl rfl rfl hl.1 rfl (Nat.le_of_ble_eq_true rfl) dX1_agreeing_13 ⟨Nat.zero_le _, Nat.zero_le _⟩ ?_
                refine xw_cut (g2 := F0 m 26 ls [.int (xm_inc (xm_agree 7 p0) (xm_agN p0 7))]) ?_ (fun K_26 => ?_)
                · skip
                  refine xw_top (v := xm_agN p0 8) rfl ?_
                  refine lv_istore_n (lv' := [(2, .int (xm_agN p0 8)), (3, .int 7), (0, .ref h0), (1, .int p0)]) hx hb dX1_agreeing_26 rfl hl (by decide) rfl (fun ls hl => ?_)
                  refine lv_iinc (v := 8) (lv' := [(3, .int 8), (2, .int (xm_agN p0 8)), (0, .ref h0), (1, .int p0)]) hx hb dX1_agreeing_27 hl (k := 1) rfl (by decide) (by decide) rfl (fun ls hl => ?_)
                  refine lv_goto (tgt := 4) hx hb dX1_agreeing_30 (by decide) ?_
                  refine lv_iload_n hx hb dX1_agreeing_4 rfl (lv_at hl 0 rfl) ?_
                  refine lv_bipush (v := 12) hx hb dX1_agreeing_5 (by decide) ?_
                  refine lv_icmp_ge (tgt := 33) hx hb dX1_agreeing_7 (by decide) (fun c_9 => absurd c_9 (by decide)) (fun _ => ?_)
                  refine lv_aload_n hx hb dX1_agreeing_10 rfl (lv_at hl 2 rfl) ?_
                  refine lv_iload_n hx hb dX1_agreeing_11 rfl (lv_at hl 0 rfl) ?_
                  refine lv_iload_n hx hb dX1_agreeing_12 rfl (lv_at hl 3 rfl) ?_
                  refine xw_V (v := xm_agree 8 p0) (As := [.int 8, .int p0]) (rest := []) (ci := 1) ⟨hx, hb, hml, hown, hts⟩ (metX1_agree l dC dI h0 h1 h2 k1 k2 σ 8 p0) (cwV 2 hts (lw_V q192 q193 q194 q16 q195) rfl rfl rfl hdX1_agree ⟨Nat.le_of_ble_eq_true rfl, Nat.le_of_ble_eq_true rfl⟩) hK hP 0 rfl rfl rfl hl.1 rfl (Nat.le_of_ble_eq_true rfl) dX1_agreeing_13 ⟨Nat.zero_le _, Nat.zero_le _⟩ ?_
                  refine xw_cut (g2 := F0 m 26 ls [.int (xm_inc (xm_agree 8 p0) (xm_agN p0 8))]) ?_ (fun K_26 => ?_)
                  · skip
                    refine xw_top (v := xm_agN p0 9) rfl ?_
                    refine lv_istore_n (lv' := [(2, .int (xm_agN p0 9)), (3, .int 8), (0, .ref h0), (1, .int p0)]) hx hb dX1_agreeing_26 rfl hl (by decide) rfl (fun ls hl => ?_)
                    refine lv_iinc (v := 9) (lv' := [(3, .int 9), (2, .int (xm_agN p0 9)), (0, .ref h0), (1, .int p0)]) hx hb dX1_agreeing_27 hl (k := 1) rfl (by decide) (by decide) rfl (fun ls hl => ?_)
                    refine lv_goto (tgt := 4) hx hb dX1_agreeing_30 (by decide) ?_
                    refine lv_iload_n hx hb dX1_agreeing_4 rfl (lv_at hl 0 rfl) ?_
                    refine lv_bipush (v := 12) hx hb dX1_agreeing_5 (by decide) ?_
                    refine lv_icmp_ge (tgt := 33) hx hb dX1_agreeing_7 (by decide) (fun c_10 => absurd c_10 (by decide)) (fun _ => ?_)
                    refine lv_aload_n hx hb dX1_agreeing_10 rfl (lv_at hl 2 rfl) ?_
                    refine lv_iload_n hx hb dX1_agreeing_11 rfl (lv_at hl 0 rfl) ?_
                    refine lv_iload_n hx hb dX1_agreeing_12 rfl (lv_at hl 3 rfl) ?_
                    refine xw_V (v := xm_agree 9 p0) (As := [.int 9, .int p0]) (rest := []) (ci := 1) ⟨hx, hb, hml, hown, hts⟩ (metX1_agree l dC dI h0 h1 h2 k1 k2 σ 9 p0) (cwV 2 hts (lw_V q192 q193 q194 q16 q195) rfl rfl rfl hdX1_agree ⟨Nat.le_of_ble_eq_true rfl, Nat.le_of_ble_eq_true rfl⟩) hK hP 0 rfl rfl rfl hl.1 rfl (Nat.le_of_ble_eq_true rfl) dX1_agreeing_13 ⟨Nat.zero_le _, Nat.zero_le _⟩ ?_
                    refine xw_cut (g2 := F0 m 26 ls [.int (xm_inc (xm_agree 9 p0) (xm_agN p0 9))]) ?_ (fun K_26 => ?_)
                    · skip
                      refine xw_top (v := xm_agN p0 10) rfl ?_
                      refine lv_istore_n (lv' := [(2, .int (xm_agN p0 10)), (3, .int 9), (0, .ref h0), (1, .int p0)]) hx hb dX1_agreeing_26 rfl hl (by decide) rfl (fun ls hl => ?_)
                      refine lv_iinc (v := 10) (lv' := [(3, .int 10), (2, .int (xm_agN p0 10)), (0, .ref h0), (1, .int p0)]) hx hb dX1_agreeing_27 hl (k := 1) rfl (by decide) (by decide) rfl (fun ls hl => ?_)
                      refine lv_goto (tgt := 4) hx hb dX1_agreeing_30 (by decide) ?_
                      refine lv_iload_n hx hb dX1_agreeing_4 rfl (lv_at hl 0 rfl) ?_
                      refine lv_bipush (v := 12) hx hb dX1_agreeing_5 (by decide) ?_
                      refine lv_icmp_ge (tgt := 33) hx hb dX1_agreeing_7 (by decide) (fun c_11 => absurd c_11 (by decide)) (fun _ => ?_)
                      refine lv_aload_n hx hb dX1_agreeing_10 rfl (lv_at hl 2 rfl) ?_
                      refine lv_iload_n hx hb dX1_agreeing_11 rfl (lv_at hl 0 rfl) ?_
                      refine lv_iload_n hx hb dX1_agreeing_12 rfl (lv_at hl 3 rfl) ?_
                      refine xw_V (v := xm_agree 10 p0) (As := [.int 10, .int p0]) (rest := []) (ci := 1) ⟨hx, hb, hml, hown, hts⟩ (metX1_agree l dC dI h0 h1 h2 k1 k2 σ 10 p0) (cwV 2 hts (lw_V q192 q193 q194 q16 q195) rfl rfl rfl hdX1_agree ⟨Nat.le_of_ble_eq_true rfl, Nat.le_of_ble_eq_true rfl⟩) hK hP 0 rfl rfl rfl hl.1 rfl (Nat.le_of_ble_eq_true rfl) dX1_agreeing_13 ⟨Nat.zero_le _, Nat.zero_le _⟩ ?_
                      refine xw_cut (g2 := F0 m 26 ls [.int (xm_inc (xm_agree 10 p0) (xm_agN p0 10))]) ?_ (fun K_26 => ?_)
                      · skip
                        refine xw_top (v := xm_agN p0 11) rfl ?_
                        refine lv_istore_n (lv' := [(2, .int (xm_agN p0 11)), (3, .int 10), (0, .ref h0), (1, .int p0)]) hx hb dX1_agreeing_26 rfl hl (by decide) rfl (fun ls hl => ?_)
                        refine lv_iinc (v := 11) (lv' := [(3, .int 11), (2, .int (xm_agN p0 11)), (0, .ref h0), (1, .int p0)]) hx hb dX1_agreeing_27 hl (k := 1) rfl (by decide) (by decide) rfl (fun ls hl => ?_)
                        refine lv_goto (tgt := 4) hx hb dX1_agreeing_30 (by decide) ?_
                        refine lv_iload_n hx hb dX1_agreeing_4 rfl (lv_at hl 0 rfl) ?_
                        refine lv_bipush (v := 12) hx hb dX1_agreeing_5 (by decide) ?_
                        refine lv_icmp_ge (tgt := 33) hx hb dX1_agreeing_7 (by decide) (fun c_12 => absurd c_12 (by decide)) (fun _ => ?_)
                        refine lv_aload_n hx hb dX1_agreeing_10 rfl (lv_at hl 2 rfl) ?_
                        refine lv_iload_n hx hb dX1_agreeing_11 rfl (lv_at hl 0 rfl) ?_
                        refine lv_iload_n hx hb dX1_agreeing_12 rfl (lv_at hl 3 rfl) ?_
                        refine xw_V (v := xm_agree 11 p0) (As := [.int 11, .int p0]) (rest := []) (ci := 1) ⟨hx, hb, hml, hown, hts⟩ (metX1_agree l dC dI h0 h1 h2 k1 k2 σ 11 p0) (cwV 2 hts (lw_V q192 q193 q194 q16 q195) rfl rfl rfl hdX1_agree ⟨Nat.le_of_ble_eq_true rfl, Nat.le_of_ble_eq_true rfl⟩) hK hP 0 rfl rfl rfl hl.1 rfl (Nat.le_of_ble_eq_true rfl) dX1_agreeing_13 ⟨Nat.zero_le _, Nat.zero_le _⟩ ?_
                        refine xw_cut (g2 := F0 m 26 ls [.int (xm_inc (xm_agree 11 p0) (xm_agN p0 11))]) ?_ (fun K_26 => ?_)
                        · skip
                          refine xw_top (v := xm_agN p0 12) rfl ?_
                          refine lv_istore_n (lv' := [(2, .int (xm_agN p0 12)), (3, .int 11), (0, .ref h0), (1, .int p0)]) hx hb dX1_agreeing_26 rfl hl (by decide) rfl (fun ls hl => ?_)
                          refine lv_iinc (v := 12) (lv' := [(3, .int 12), (2, .int (xm_agN p0 12)), (0, .ref h0), (1, .int p0)]) hx hb dX1_agreeing_27 hl (k := 1) rfl (by decide) (by decide) rfl (fun ls hl => ?_)
                          refine lv_goto (tgt := 4) hx hb dX1_agreeing_30 (by decide) ?_
                          refine lv_iload_n hx hb dX1_agreeing_4 rfl (lv_at hl 0 rfl) ?_
                          refine lv_bipush (v := 12) hx hb dX1_agreeing_5 (by decide) ?_
                          refine lv_icmp_ge (tgt := 33) hx hb dX1_agreeing_7 (by decide) (fun _ => ?_) (fun c_13 => absurd c_13 (by decide))
                          refine lv_aload_n hx hb dX1_agreeing_33 rfl (lv_at hl 2 rfl) ?_
                          refine lv_iload_n hx hb dX1_agreeing_34 rfl (lv_at hl 3 rfl) ?_
                          refine xw_V (v := xm_isType p0) (As := [.int p0]) (rest := []) (ci := 1) ⟨hx, hb, hml, hown, hts⟩ (metX1_isType l dC dI h0 h1 h2 k1 k2 σ p0) (cwV 1 hts (lw_V q196 q198 qs9 q16 q199) rfl rfl rfl hdX1_isType ⟨Nat.le_of_ble_eq_true rfl, Nat.le_of_ble_eq_true rfl⟩) hK hP 0 rfl rfl rfl hl.1 rfl (Nat.le_of_ble_eq_true rfl) dX1_agreeing_35 ⟨Nat.zero_le _, Nat.zero_le _⟩ ?_
                          refine lv_if_eq (tgt := 45) hx hb dX1_agreeing_38 (by decide) (fun c_14 => ?_) (fun c_14 => ?_)
                          · skip
                            refine lv_bipush (v := (-100)) hx hb dX1_agreeing_45 (by decide) ?_
                            exact W.iret hx hb hr (fun t ht _ => xw_q (by simp only [xm_agreeing, if_pos c_14]) ht) (fun _ h => absurd h List.not_mem_nil) dX1_agreeing_47
                          · skip
                            refine lv_iload_n hx hb dX1_agreeing_41 rfl (lv_at hl 1 rfl) ?_
                            refine lv_goto (tgt := 47) hx hb dX1_agreeing_42 (by decide) ?_
                            exact W.iret hx hb hr (fun t ht _ => xw_q (by simp only [xm_agreeing, if_neg c_14]) ht) (fun _ h => absurd h List.not_mem_nil) dX1_agreeing_47
                        · skip
                          refine lv_if_eq (tgt := 25) hx hb dX1_agreeing_16 (by decide) (fun c_15 => ?_) (fun c_15 => ?_)
                          · skip
                            refine lv_iload_n hx hb dX1_agreeing_25 rfl (lv_at hl 1 rfl) ?_
                            exact xw_top (by simp only [xm_inc, if_pos c_15]) K_26
                          · skip
                            refine lv_iload_n hx hb dX1_agreeing_19 rfl (lv_at hl 1 rfl) ?_
                            refine lv_iconst (v := 1) hx hb dX1_agreeing_20 (by decide) ?_
                            refine lv_iadd hx hb dX1_agreeing_21 ?_
                            refine lv_goto (tgt := 26) hx hb dX1_agreeing_22 (by decide) ?_
                            exact xw_top (by simp only [xm_inc, if_neg c_15]) K_26
                      · skip
                        refine lv_if_eq (tgt := 25) hx hb dX1_agreeing_16 (by decide) (fun c_16 => ?_) (fun c_16 => ?_)
                        · skip
                          refine lv_iload_n hx hb dX1_agreeing_25 rfl (lv_at hl 1 rfl) ?_
                          exact xw_top (by simp only [xm_inc, if_pos c_16]) K_26
                        · skip
                          refine lv_iload_n hx hb dX1_agreeing_19 rfl (lv_at hl 1 rfl) ?_
                          refine lv_iconst (v := 1) hx hb dX1_agreeing_20 (by decide) ?_
                          refine lv_iadd hx hb dX1_agreeing_21 ?_
                          refine lv_goto (tgt := 26) hx hb dX1_agreeing_22 (by decide) ?_
                          exact xw_top (by simp only [xm_inc, if_neg c_16]) K_26
                    · skip
                      refine lv_if_eq (tgt := 25) hx hb dX1_agreeing_16 (by decide) (fun c_17 => ?_) (fun c_17 => ?_)
                      · skip
                        refine lv_iload_n hx hb dX1_agreeing_25 rfl (lv_at hl 1 rfl) ?_
                        exact xw_top (by simp only [xm_inc, if_pos c_17]) K_26
                      · skip
                        refine lv_iload_n hx hb dX1_agreeing_19 rfl (lv_at hl 1 rfl) ?_
                        refine lv_iconst (v := 1) hx hb dX1_agreeing_20 (by decide) ?_
                        refine lv_iadd hx hb dX1_agreeing_21 ?_
                        refine lv_goto (tgt := 26) hx hb dX1_agreeing_22 (by decide) ?_
                        exact xw_top (by simp only [xm_inc, if_neg c_17]) K_26
                  · skip
                    refine lv_if_eq (tgt := 25) hx hb dX1_agreeing_16 (by decide) (fun c_18 => ?_) (fun c_18 => ?_)
                    · skip
                      refine lv_iload_n hx hb dX1_agreeing_25 rfl (lv_at hl 1 rfl) ?_
                      exact xw_top (by simp only [xm_inc, if_pos c_18]) K_26
                    · skip
                      refine lv_iload_n hx hb dX1_agreeing_19 rfl (lv_at hl 1 rfl) ?_
                      refine lv_iconst (v := 1) hx hb dX1_agreeing_20 (by decide) ?_
                      refine lv_iadd hx hb dX1_agreeing_21 ?_
                      refine lv_goto (tgt := 26) hx hb dX1_agreeing_22 (by decide) ?_
                      exact xw_top (by simp only [xm_inc, if_neg c_18]) K_26
                · skip
                  refine lv_if_eq (tgt := 25) hx hb dX1_agreeing_16 (by decide) (fun c_19 => ?_) (fun c_19 => ?_)
                  · skip
                    refine lv_iload_n hx hb dX1_agreeing_25 rfl (lv_at hl 1 rfl) ?_
                    exact xw_top (by simp only [xm_inc, if_pos c_19]) K_26
                  · skip
                    refine lv_iload_n hx hb dX1_agreeing_19 rfl (lv_at hl 1 rfl) ?_
                    refine lv_iconst (v := 1) hx hb dX1_agreeing_20 (by decide) ?_
                    refine lv_iadd hx hb dX1_agreeing_21 ?_
                    refine lv_goto (tgt := 26) hx hb dX1_agreeing_22 (by decide) ?_
                    exact xw_top (by simp only [xm_inc, if_neg c_19]) K_26
              · skip
                refine lv_if_eq (tgt := 25) hx hb dX1_agreeing_16 (by decide) (fun c_20 => ?_) (fun c_20 => ?_)
                · skip
                  refine lv_iload_n hx hb dX1_agreeing_25 rfl (lv_at hl 1 rfl) ?_
                  exact xw_top (by simp only [xm_inc, if_pos c_20]) K_26
                · skip
                  refine lv_iload_n hx hb dX1_agreeing_19 rfl (lv_at hl 1 rfl) ?_
                  refine lv_iconst (v := 1) hx hb dX1_agreeing_20 (by decide) ?_
                  refine lv_iadd hx hb dX1_agreeing_21 ?_
                  refine lv_goto (tgt := 26) hx hb dX1_agreeing_22 (by decide) ?_
                  exact xw_top (by simp only [xm_inc, if_neg c_20]) K_26
            · skip
              refine lv_if_eq (tgt := 25) hx hb dX1_agreeing_16 (by decide) (fun c_21 => ?_) (fun c_21 => ?_)
              · skip
                refine lv_iload_n hx hb dX1_agreeing_25 rfl (lv_at hl 1 rfl) ?_
                exact xw_top (by simp only [xm_inc, if_pos c_21]) K_26
              · skip
                refine lv_iload_n hx hb dX1_agreeing_19 rfl (lv_at hl 1 rfl) ?_
                refine lv_iconst (v := 1) hx hb dX1_agreeing_20 (by decide) ?_
                refine lv_iadd hx hb dX1_agreeing_21 ?_
                refine lv_goto (tgt := 26) hx hb dX1_agreeing_22 (by decide) ?_
                exact xw_top (by simp only [xm_inc, if_neg c_21]) K_26
          · skip
            refine lv_if_eq (tgt := 25) hx hb dX1_agreeing_16 (by decide) (fun c_22 => ?_) (fun c_22 => ?_)
            · skip
              refine lv_iload_n hx hb dX1_agreeing_25 rfl (lv_at hl 1 rfl) ?_
              exact xw_top (by simp only [xm_inc, if_pos c_22]) K_26
            · skip
              refine lv_iload_n hx hb dX1_agreeing_19 rfl (lv_at hl 1 rfl) ?_
              refine lv_iconst (v := 1) hx hb dX1_agreeing_20 (by decide) ?_
              refine lv_iadd hx hb dX1_agreeing_21 ?_
              refine lv_goto (tgt := 26) hx hb dX1_agreeing_22 (by decide) ?_
              exact xw_top (by simp only [xm_inc, if_neg c_22]) K_26
        · skip
          refine lv_if_eq (tgt := 25) hx hb dX1_agreeing_16 (by decide) (fun c_23 => ?_) (fun c_23 => ?_)
          · skip
            refine lv_iload_n hx hb dX1_agreeing_25 rfl (lv_at hl 1 rfl) ?_
            exact xw_top (by simp only [xm_inc, if_pos c_23]) K_26
          · skip
            refine lv_iload_n hx hb dX1_agreeing_19 rfl (lv_at hl 1 rfl) ?_
            refine lv_iconst (v := 1) hx hb dX1_agreeing_20 (by decide) ?_
            refine lv_iadd hx hb dX1_agreeing_21 ?_
            refine lv_goto (tgt := 26) hx hb dX1_agreeing_22 (by decide) ?_
            exact xw_top (by simp only [xm_inc, if_neg c_23]) K_26
      · skip
        refine lv_if_eq (tgt := 25) hx hb dX1_agreeing_16 (by decide) (fun c_24 => ?_) (fun c_24 => ?_)
        · skip
          refine lv_iload_n hx hb dX1_agreeing_25 rfl (lv_at hl 1 rfl) ?_
          exact xw_top (by simp only [xm_inc, if_pos c_24]) K_26
        · skip
          refine lv_iload_n hx hb dX1_agreeing_19 rfl (lv_at hl 1 rfl) ?_
          refine lv_iconst (v := 1) hx hb dX1_agreeing_20 (by decide) ?_
          refine lv_iadd hx hb dX1_agreeing_21 ?_
          refine lv_goto (tgt := 26) hx hb dX1_agreeing_22 (by decide) ?_
          exact xw_top (by simp only [xm_inc, if_neg c_24]) K_26
    · skip
      refine lv_if_eq (tgt := 25) hx hb dX1_agreeing_16 (by decide) (fun c_25 => ?_) (fun c_25 => ?_)
      · skip
        refine lv_iload_n hx hb dX1_agreeing_25 rfl (lv_at hl 1 rfl) ?_
        exact xw_top (by simp only [xm_inc, if_pos c_25]) K_26
      · skip
        refine lv_iload_n hx hb dX1_agreeing_19 rfl (lv_at hl 1 rfl) ?_
        refine lv_iconst (v := 1) hx hb dX1_agreeing_20 (by decide) ?_
        refine lv_iadd hx hb dX1_agreeing_21 ?_
        refine lv_goto (tgt := 26) hx hb dX1_agreeing_22 (by decide) ?_
        exact xw_top (by simp only [xm_inc, if_neg c_25]) K_26
  · skip
    refine lv_if_eq (tgt := 25) hx hb dX1_agreeing_16 (by decide) (fun c_26 => ?_) (fun c_26 => ?_)
    · skip
      refine lv_iload_n hx hb dX1_agreeing_25 rfl (lv_at hl 1 rfl) ?_
      exact xw_top (by simp only [xm_inc, if_pos c_26]) K_26
    · skip
      refine lv_iload_n hx hb dX1_agreeing_19 rfl (lv_at hl 1 rfl) ?_
      refine lv_iconst (v := 1) hx hb dX1_agreeing_20 (by decide) ?_
      refine lv_iadd hx hb dX1_agreeing_21 ?_
      refine lv_goto (tgt := 26) hx hb dX1_agreeing_22 (by decide) ?_
      exact xw_top (by simp only [xm_inc, if_neg c_26]) K_26
end
section
abbrev wsX1_set : List Cond := ws_ yX1_set cX1_set 5 (some .int)
theorem hdX1_set : yX1_set.cls = RX1 ∧ yX1_set.cls ≠ "java/lang/invoke/MethodHandle" ∧ yX1_set.cls ≠ "java/lang/invoke/VarHandle" ∧ (parseMethodDescriptor yX1_set.desc).map (fun d => d.parameters.length) = some 2 := by decide +kernel
set_option maxHeartbeats 4000000 in
set_option maxRecDepth 100000 in
theorem metX1_set (l : Launch) (dC : Nat → ClassId) (dI : Nat → Nat → Nat) (h0 h1 h2 : Nat) (k1 k2 : ClassId) (σ : xd_T) (p0 p1 : Int32) : Met l yX1_set wsX1_set ({ frames := 2, cells := 0, slots := 0, locals := 43 }) (va_Pc [.ref h0, .int p0, .int p1] (xw_Wr (dC, dI) vwCl (xm_W h0 h1 h2 k1 k2 σ) [(k1, .int), (k2, .int)])) (xw_M (dC, dI) vwCl (some (.int (xm_setR p0 p1))) (xm_W h0 h1 h2 k1 k2 (xm_setS σ p0 p1)) (xw_ad (xm_W h0 h1 h2 k1 k2 σ))) 0 0 (xw_ad (xm_W h0 h1 h2 k1 k2 σ)) := by
  refine Met.ofW (cc := cX1_set) (maxL := 5) (ret := (some .int)) (by decide) rfl ?_
  intro p e s m args below meth c s₁ B hml hv
  obtain ⟨rfl, hP, hK, hD0⟩ := hv
  have hx := B.exec
  have hb := B.bytes
  have hr := B.returns
  have hts := atoms_spec (ws := wsX1_set) B.pre
  have hts : ∀ w ∈ lw_all, w.before _ s = true := fun w h => hts w (List.mem_cons_of_mem _ h)
  have hown : s.vm.findClass RX1 = some m.cls := findClass_of_methodNamed B.named
  have hlocks := B.notSynchronized
  have hD := xw_D_self hD0
  generalize xw_ad (xm_W h0 h1 h2 k1 k2 σ) = A at hD ⊢
  have hS : va_S A s.heap s.heap [] := va_S.rf
  have hP : va_P (dC, dI) vwCl [(h0, .inr (1, [.int σ.1, .int σ.2.1, .int σ.2.2.1, .int σ.2.2.2.1, .ref h1, .ref h2, .int σ.2.2.2.2.1, .int σ.2.2.2.2.2.1, .int σ.2.2.2.2.2.2.1])), (h1, .inl (k1, 2, .inl σ.2.2.2.2.2.2.2.1)), (h2, .inl (k2, 2, .inl σ.2.2.2.2.2.2.2.2))] s.heap := hP
  have hD : va_D A [(h0, .inr (1, [.int σ.1, .int σ.2.1, .int σ.2.2.1, .int σ.2.2.2.1, .ref h1, .ref h2, .int σ.2.2.2.2.1, .int σ.2.2.2.2.2.1, .int σ.2.2.2.2.2.2.1])), (h1, .inl (k1, 2, .inl σ.2.2.2.2.2.2.2.1)), (h2, .inl (k2, 2, .inl σ.2.2.2.2.2.2.2.2))] := hD
  have hl := lv_entry ([.ref h0, .int p0, .int p1]) (n := 5) (Nat.le_of_ble_eq_true rfl)
  rw [lg_entry_eq]
  generalize (lg_sl ([.ref h0, .int p0, .int p1]) ++ List.replicate (5 - (lg_sl ([.ref h0, .int p0, .int p1])).length) Slot.unset).toArray = ls at hl ⊢
  have hl : lv_has ls 5 [(0, .ref h0), (1, .int p0), (2, .int p1)] := hl
  refine xw_cut (g2 := F0 m 37 ls [.int (xd_good p0 p1)]) ?_ (fun K_37 => ?_)
  · skip
    refine lv_istore_n (lv' := [(3, .int (xd_good p0 p1)), (0, .ref h0), (1, .int p0), (2, .int p1)]) hx hb dX1_set_37 rfl hl (by decide) rfl (fun ls hl => ?_)
    refine lv_iload_n hx hb dX1_set_38 rfl (lv_at hl 0 rfl) ?_
    refine lv_if_ne (tgt := 45) hx hb dX1_set_39 (by decide) (fun c_1 => ?_) (fun c_1 => ?_)
    · skip
      refine lv_aload_n hx hb dX1_set_45 rfl (lv_at hl 1 rfl) ?_
      refine lv_iconst (v := 1) hx hb dX1_set_46 (by decide) ?_
      refine va_put (D := (dC, dI)) (ci := 1) (v := .int 1) (ty := .boolean) (C := RX1) (T := TX1) (N := 9) hx hb hts in_X1 tyX1 tyX1_ok nmX1 hown hK hP hD hS 0 rfl rfl 0 (by decide) (hts _ q147) (fun _ h9 => h9) rfl (by decide +kernel) rfl rfl (Nat.le_of_ble_eq_true rfl) dX1_set_47 (fun H locs hP hD hS => ?_)
      have hP : va_P (dC, dI) vwCl [(h0, .inr (1, [.int 1, .int σ.2.1, .int σ.2.2.1, .int σ.2.2.2.1, .ref h1, .ref h2, .int σ.2.2.2.2.1, .int σ.2.2.2.2.2.1, .int σ.2.2.2.2.2.2.1])), (h1, .inl (k1, 2, .inl σ.2.2.2.2.2.2.2.1)), (h2, .inl (k2, 2, .inl σ.2.2.2.2.2.2.2.2))] H := hP
      have hD : va_D A [(h0, .inr (1, [.int 1, .int σ.2.1, .int σ.2.2.1, .int σ.2.2.2.1, .ref h1, .ref h2, .int σ.2.2.2.2.1, .int σ.2.2.2.2.2.1, .int σ.2.2.2.2.2.2.1])), (h1, .inl (k1, 2, .inl σ.2.2.2.2.2.2.2.1)), (h2, .inl (k2, 2, .inl σ.2.2.2.2.2.2.2.2))] := hD
      refine lv_aload_n hx hb dX1_set_50 rfl (lv_at hl 1 rfl) ?_
      refine lv_iload_n hx hb dX1_set_51 rfl (lv_at hl 2 rfl) ?_
      refine va_put (D := (dC, dI)) (ci := 1) (v := .int p0) (ty := .int) (C := RX1) (T := TX1) (N := 9) hx hb hts in_X1 tyX1 tyX1_ok nmX1 hown hK hP hD hS 0 rfl rfl 1 (by decide) (hts _ q148) (fun _ h9 => h9) rfl (by decide +kernel) rfl rfl (Nat.le_of_ble_eq_true rfl) dX1_set_52 (fun H locs hP hD hS => ?_)
      have hP : va_P (dC, dI) vwCl [(h0, .inr (1, [.int 1, .int p0, .int σ.2.2.1, .int σ.2.2.2.1, .ref h1, .ref h2, .int σ.2.2.2.2.1, .int σ.2.2.2.2.2.1, .int σ.2.2.2.2.2.2.1])), (h1, .inl (k1, 2, .inl σ.2.2.2.2.2.2.2.1)), (h2, .inl (k2, 2, .inl σ.2.2.2.2.2.2.2.2))] H := hP
      have hD : va_D A [(h0, .inr (1, [.int 1, .int p0, .int σ.2.2.1, .int σ.2.2.2.1, .ref h1, .ref h2, .int σ.2.2.2.2.1, .int σ.2.2.2.2.2.1, .int σ.2.2.2.2.2.2.1])), (h1, .inl (k1, 2, .inl σ.2.2.2.2.2.2.2.1)), (h2, .inl (k2, 2, .inl σ.2.2.2.2.2.2.2.2))] := hD
      refine lv_aload_n hx hb dX1_set_55 rfl (lv_at hl 1 rfl) ?_
      refine lv_iload_n hx hb dX1_set_56 rfl (lv_at hl 3 rfl) ?_
      refine va_put (D := (dC, dI)) (ci := 1) (v := .int p1) (ty := .int) (C := RX1) (T := TX1) (N := 9) hx hb hts in_X1 tyX1 tyX1_ok nmX1 hown hK hP hD hS 0 rfl rfl 2 (by decide) (hts _ q149) (fun _ h9 => h9) rfl (by decide +kernel) rfl rfl (Nat.le_of_ble_eq_true rfl) dX1_set_57 (fun H locs hP hD hS => ?_)
      have hP : va_P (dC, dI) vwCl [(h0, .inr (1, [.int 1, .int p0, .int p1, .int σ.2.2.2.1, .ref h1, .ref h2, .int σ.2.2.2.2.1, .int σ.2.2.2.2.2.1, .int σ.2.2.2.2.2.2.1])), (h1, .inl (k1, 2, .inl σ.2.2.2.2.2.2.2.1)), (h2, .inl (k2, 2, .inl σ.2.2.2.2.2.2.2.2))] H := hP
      have hD : va_D A [(h0, .inr (1, [.int 1, .int p0, .int p1, .int σ.2.2.2.1, .ref h1, .ref h2, .int σ.2.2.2.2.1, .int σ.2.2.2.2.2.1, .int σ.2.2.2.2.2.2.1])), (h1, .inl (k1, 2, .inl σ.2.2.2.2.2.2.2.1)), (h2, .inl (k2, 2, .inl σ.2.2.2.2.2.2.2.2))] := hD
      refine lv_aload_n hx hb dX1_set_60 rfl (lv_at hl 1 rfl) ?_
      refine xw_cut (g2 := F0 m 83 ls [.int (xm_stype p0 p1), .ref h0]) ?_ (fun K_83 => ?_)
      · skip
        refine va_put (D := (dC, dI)) (ci := 1) (v := .int (xm_stype p0 p1)) (ty := .int) (C := RX1) (T := TX1) (N := 9) hx hb hts in_X1 tyX1 tyX1_ok nmX1 hown hK hP hD hS 0 rfl rfl 3 (by decide) (hts _ q150) (fun _ h9 => h9) rfl (by decide +kernel) rfl rfl (Nat.le_of_ble_eq_true rfl) dX1_set_83 (fun H locs hP hD hS => ?_)
        have hP : va_P (dC, dI) vwCl [(h0, .inr (1, [.int 1, .int p0, .int p1, .int (xm_stype p0 p1), .ref h1, .ref h2, .int σ.2.2.2.2.1, .int σ.2.2.2.2.2.1, .int σ.2.2.2.2.2.2.1])), (h1, .inl (k1, 2, .inl σ.2.2.2.2.2.2.2.1)), (h2, .inl (k2, 2, .inl σ.2.2.2.2.2.2.2.2))] H := hP
        have hD : va_D A [(h0, .inr (1, [.int 1, .int p0, .int p1, .int (xm_stype p0 p1), .ref h1, .ref h2, .int σ.2.2.2.2.1, .int σ.2.2.2.2.2.1, .int σ.2.2.2.2.2.2.1])), (h1, .inl (k1, 2, .inl σ.2.2.2.2.2.2.2.1)), (h2, .inl (k2, 2, .inl σ.2.2.2.2.2.2.2.2))] := hD
        refine lv_iconst (v := 0) hx hb dX1_set_86 (by decide) ?_
        refine lv_istore (lv' := [(4, .int 0), (3, .int (xd_good p0 p1)), (0, .ref h0), (1, .int p0), (2, .int p1)]) hx hb dX1_set_87 hl (by decide) rfl (fun ls hl => ?_)
        refine lv_iload hx hb dX1_set_89 (lv_at hl 0 rfl) ?_
        refine lv_iconst (v := 2) hx hb dX1_set_91 (by decide) ?_
        refine lv_icmp_ge (tgt := 117) hx hb dX1_set_92 (by decide) (fun c_2 => absurd c_2 (by decide)) (fun _ => ?_)
        refine lv_aload_n hx hb dX1_set_95 rfl (lv_at hl 2 rfl) ?_
        refine va_get (D := (dC, dI)) (ci := 1) (v := .ref h1) (C := RX1) (T := TX1) (N := 9) hx hb hts in_X1 hown hK hP 0 rfl rfl 4 (by decide) (hts _ q151) (fun _ h9 => h9) rfl dX1_set_96 ?_
        refine lv_iload hx hb dX1_set_99 (lv_at hl 0 rfl) ?_
        refine lv_iconst (v := 0) hx hb dX1_set_101 (by decide) ?_
        refine va_iast hx hb hK hP hD hS 1 0 rfl rfl xi_20 dX1_set_102 (fun H locs hP hD hS => ?_)
        have hP : va_P (dC, dI) vwCl [(h0, .inr (1, [.int 1, .int p0, .int p1, .int (xm_stype p0 p1), .ref h1, .ref h2, .int σ.2.2.2.2.1, .int σ.2.2.2.2.2.1, .int σ.2.2.2.2.2.2.1])), (h1, .inl (k1, 2, .inl (upd σ.2.2.2.2.2.2.2.1 0 0))), (h2, .inl (k2, 2, .inl σ.2.2.2.2.2.2.2.2))] H := hP
        have hD : va_D A [(h0, .inr (1, [.int 1, .int p0, .int p1, .int (xm_stype p0 p1), .ref h1, .ref h2, .int σ.2.2.2.2.1, .int σ.2.2.2.2.2.1, .int σ.2.2.2.2.2.2.1])), (h1, .inl (k1, 2, .inl (upd σ.2.2.2.2.2.2.2.1 0 0))), (h2, .inl (k2, 2, .inl σ.2.2.2.2.2.2.2.2))] := hD
        refine lv_aload_n hx hb dX1_set_103 rfl (lv_at hl 2 rfl) ?_
        refine va_get (D := (dC, dI)) (ci := 1) (v := .ref h2) (C := RX1) (T := TX1) (N := 9) hx hb hts in_X1 hown hK hP 0 rfl rfl 5 (by decide) (hts _ q152) (fun _ h9 => h9) rfl dX1_set_104 ?_
        refine lv_iload hx hb dX1_set_107 (lv_at hl 0 rfl) ?_
        refine lv_iconst (v := 0) hx hb dX1_set_109 (by decide) ?_
        refine va_iast hx hb hK hP hD hS 2 1 rfl rfl xi_20 dX1_set_110 (fun H locs hP hD hS => ?_)
        have hP : va_P (dC, dI) vwCl [(h0, .inr (1, [.int 1, .int p0, .int p1, .int (xm_stype p0 p1), .ref h1, .ref h2, .int σ.2.2.2.2.1, .int σ.2.2.2.2.2.1, .int σ.2.2.2.2.2.2.1])), (h1, .inl (k1, 2, .inl (upd σ.2.2.2.2.2.2.2.1 0 0))), (h2, .inl (k2, 2, .inl (upd σ.2.2.2.2.2.2.2.2 0 0)))] H := hP
        have hD : va_D A [(h0, .inr (1, [.int 1, .int p0, .int p1, .int (xm_stype p0 p1), .ref h1, .ref h2, .int σ.2.2.2.2.1, .int σ.2.2.2.2.2.1, .int σ.2.2.2.2.2.2.1])), (h1, .inl (k1, 2, .inl (upd σ.2.2.2.2.2.2.2.1 0 0))), (h2, .inl (k2, 2, .inl (upd σ.2.2.2.2.2.2.2.2 0 0)))] := hD
        refine lv_iinc (v := 1) (lv' := [(4, .int 1), (3, .int (xd_good p0 p1)), (0, .ref h0), (1, .int p0), (2, .int p1)]) hx hb dX1_set_111 hl (k := 0) rfl (by decide) (by decide) rfl (fun ls hl => ?_)
        refine lv_goto (tgt := 89) hx hb dX1_set_114 (by decide) ?_
        refine lv_iload hx hb dX1_set_89 (lv_at hl 0 rfl) ?_
        refine lv_iconst (v := 2) hx hb dX1_set_91 (by decide) ?_
        refine lv_icmp_ge (tgt := 117) hx hb dX1_set_92 (by decide) (fun c_3 => absurd c_3 (by decide)) (fun _ => ?_)
        refine lv_aload_n hx hb dX1_set_95 rfl (lv_at hl 2 rfl) ?_
        refine va_get (D := (dC, dI)) (ci := 1) (v := .ref h1) (C := RX1) (T := TX1) (N := 9) hx hb hts in_X1 hown hK hP 0 rfl rfl 4 (by decide) (hts _ q151) (fun _ h9 => h9) rfl dX1_set_96 ?_
        refine lv_iload hx hb dX1_set_99 (lv_at hl 0 rfl) ?_
        refine lv_iconst (v := 0) hx hb dX1_set_101 (by decide) ?_
        refine va_iast hx hb hK hP hD hS 1 0 rfl rfl xi_21 dX1_set_102 (fun H locs hP hD hS => ?_)
        have hP : va_P (dC, dI) vwCl [(h0, .inr (1, [.int 1, .int p0, .int p1, .int (xm_stype p0 p1), .ref h1, .ref h2, .int σ.2.2.2.2.1, .int σ.2.2.2.2.2.1, .int σ.2.2.2.2.2.2.1])), (h1, .inl (k1, 2, .inl (upd (upd σ.2.2.2.2.2.2.2.1 0 0) 1 0))), (h2, .inl (k2, 2, .inl (upd σ.2.2.2.2.2.2.2.2 0 0)))] H := hP
        have hD : va_D A [(h0, .inr (1, [.int 1, .int p0, .int p1, .int (xm_stype p0 p1), .ref h1, .ref h2, .int σ.2.2.2.2.1, .int σ.2.2.2.2.2.1, .int σ.2.2.2.2.2.2.1])), (h1, .inl (k1, 2, .inl (upd (upd σ.2.2.2.2.2.2.2.1 0 0) 1 0))), (h2, .inl (k2, 2, .inl (upd σ.2.2.2.2.2.2.2.2 0 0)))] := hD
        refine lv_aload_n hx hb dX1_set_103 rfl (lv_at hl 2 rfl) ?_
        refine va_get (D := (dC, dI)) (ci := 1) (v := .ref h2) (C := RX1) (T := TX1) (N := 9) hx hb hts in_X1 hown hK hP 0 rfl rfl 5 (by decide) (hts _ q152) (fun _ h9 => h9) rfl dX1_set_104 ?_
        refine lv_iload hx hb dX1_set_107 (lv_at hl 0 rfl) ?_
        refine lv_iconst (v := 0) hx hb dX1_set_109 (by decide) ?_
        refine va_iast hx hb hK hP hD hS 2 1 rfl rfl xi_21 dX1_set_110 (fun H locs hP hD hS => ?_)
        have hP : va_P (dC, dI) vwCl [(h0, .inr (1, [.int 1, .int p0, .int p1, .int (xm_stype p0 p1), .ref h1, .ref h2, .int σ.2.2.2.2.1, .int σ.2.2.2.2.2.1, .int σ.2.2.2.2.2.2.1])), (h1, .inl (k1, 2, .inl (upd (upd σ.2.2.2.2.2.2.2.1 0 0) 1 0))), (h2, .inl (k2, 2, .inl (upd (upd σ.2.2.2.2.2.2.2.2 0 0) 1 0)))] H := hP
        have hD : va_D A [(h0, .inr (1, [.int 1, .int p0, .int p1, .int (xm_stype p0 p1), .ref h1, .ref h2, .int σ.2.2.2.2.1, .int σ.2.2.2.2.2.1, .int σ.2.2.2.2.2.2.1])), (h1, .inl (k1, 2, .inl (upd (upd σ.2.2.2.2.2.2.2.1 0 0) 1 0))), (h2, .inl (k2, 2, .inl (upd (upd σ.2.2.2.2.2.2.2.2 0 0) 1 0)))] := hD
        refine lv_iinc (v := 2) (lv' := [(4, .int 2), (3, .int (xd_good p0 p1)), (0, .ref h0), (1, .int p0), (2, .int p1)]) hx hb dX1_set_111 hl (k := 0) rfl (by decide) (by decide) rfl (fun ls hl => ?_)
        refine lv_goto (tgt := 89) hx hb dX1_set_114 (by decide) ?_
        refine lv_iload hx hb dX1_set_89 (lv_at hl 0 rfl) ?_
        refine lv_iconst (v := 2) hx hb dX1_set_91 (by decide) ?_
        refine lv_icmp_ge (tgt := 117) hx hb dX1_set_92 (by decide) (fun _ => ?_) (fun c_4 => absurd c_4 (by decide))
        refine lv_aload_n hx hb dX1_set_117 rfl (lv_at hl 2 rfl) ?_
        refine lv_iconst (v := 0) hx hb dX1_set_118 (by decide) ?_
        refine va_put (D := (dC, dI)) (ci := 1) (v := .int 0) (ty := .boolean) (C := RX1) (T := TX1) (N := 9) hx hb hts in_X1 tyX1 tyX1_ok nmX1 hown hK hP hD hS 0 rfl rfl 6 (by decide) (hts _ q153) (fun _ h9 => h9) rfl (by decide +kernel) rfl rfl (Nat.le_of_ble_eq_true rfl) dX1_set_119 (fun H locs hP hD hS => ?_)
        have hP : va_P (dC, dI) vwCl [(h0, .inr (1, [.int 1, .int p0, .int p1, .int (xm_stype p0 p1), .ref h1, .ref h2, .int 0, .int σ.2.2.2.2.2.1, .int σ.2.2.2.2.2.2.1])), (h1, .inl (k1, 2, .inl (upd (upd σ.2.2.2.2.2.2.2.1 0 0) 1 0))), (h2, .inl (k2, 2, .inl (upd (upd σ.2.2.2.2.2.2.2.2 0 0) 1 0)))] H := hP
        have hD : va_D A [(h0, .inr (1, [.int 1, .int p0, .int p1, .int (xm_stype p0 p1), .ref h1, .ref h2, .int 0, .int σ.2.2.2.2.2.1, .int σ.2.2.2.2.2.2.1])), (h1, .inl (k1, 2, .inl (upd (upd σ.2.2.2.2.2.2.2.1 0 0) 1 0))), (h2, .inl (k2, 2, .inl (upd (upd σ.2.2.2.2.2.2.2.2 0 0) 1 0)))] := hD
        refine lv_aload_n hx hb dX1_set_122 rfl (lv_at hl 2 rfl) ?_
        refine va_get (D := (dC, dI)) (ci := 1) (v := .int (xm_stype p0 p1)) (C := RX1) (T := TX1) (N := 9) hx hb hts in_X1 hown hK hP 0 rfl rfl 3 (by decide) (hts _ q150) (fun _ h9 => h9) rfl dX1_set_123 ?_
        have hP9 : va_P (dC, dI) vwCl (xm_W h0 h1 h2 k1 k2 (xm_setS σ p0 p1)) H := by
          rw [show xm_setS σ p0 p1 = (1, p0, p1, xm_stype p0 p1, 0, σ.2.2.2.2.2.1, σ.2.2.2.2.2.2.1, upd (upd σ.2.2.2.2.2.2.2.1 0 0) 1 0, upd (upd σ.2.2.2.2.2.2.2.2 0 0) 1 0) from by simp only [xm_setR, xm_setS, if_neg c_1]]
          exact hP
        exact W.iret hx hb hr (fun t ht _ => xw_m (by simp only [xm_setR, xm_setS, if_neg c_1]) hP9 hS ht) hS.2.2 dX1_set_126
      · skip
        refine lv_iload_n hx hb dX1_set_61 rfl (lv_at hl 2 rfl) ?_
        refine lv_if_ne (tgt := 69) hx hb dX1_set_62 (by decide) (fun c_5 => ?_) (fun c_5 => ?_)
        · skip
          refine lv_iload_n hx hb dX1_set_69 rfl (lv_at hl 2 rfl) ?_
          refine lv_iconst (v := 1) hx hb dX1_set_70 (by decide) ?_
          refine lv_icmp_ne (tgt := 78) hx hb dX1_set_71 (by decide) (fun c_6 => ?_) (fun c_6 => ?_)
          · skip
            refine lv_aload_n hx hb dX1_set_78 rfl (lv_at hl 1 rfl) ?_
            refine lv_iload_n hx hb dX1_set_79 rfl (lv_at hl 3 rfl) ?_
            refine xw_V (v := xm_own p1) (As := [.int p1]) (rest := [.ref h0]) (ci := 1) ⟨hx, hb, hml, hown, hts⟩ (metX1_own l dC dI h0 h1 h2 k1 k2 (1, p0, p1, σ.2.2.2.1, σ.2.2.2.2.1, σ.2.2.2.2.2.1, σ.2.2.2.2.2.2.1, σ.2.2.2.2.2.2.2.1, σ.2.2.2.2.2.2.2.2) p1) (cwV 1 hts (lw_V q180 q182 qs7 q16 q183) rfl rfl rfl hdX1_own ⟨Nat.le_of_ble_eq_true rfl, Nat.le_of_ble_eq_true rfl⟩) hK hP 0 rfl rfl rfl hl.1 rfl (Nat.le_of_ble_eq_true rfl) dX1_set_80 ⟨Nat.zero_le _, Nat.zero_le _⟩ ?_
            exact xw_top (by simp only [xm_stype, if_neg c_1, if_neg c_5, if_neg c_6]) K_83
          · skip
            refine lv_iconst (v := 2) hx hb dX1_set_74 (by decide) ?_
            refine lv_goto (tgt := 83) hx hb dX1_set_75 (by decide) ?_
            exact xw_top (by simp only [xm_stype, if_neg c_1, if_neg c_5, if_pos c_6]) K_83
        · skip
          refine lv_iconst (v := 1) hx hb dX1_set_65 (by decide) ?_
          refine lv_goto (tgt := 83) hx hb dX1_set_66 (by decide) ?_
          exact xw_top (by simp only [xm_stype, if_neg c_1, if_pos c_5]) K_83
    · skip
      refine lv_bipush (v := (-100)) hx hb dX1_set_42 (by decide) ?_
      have hP9 : va_P (dC, dI) vwCl (xm_W h0 h1 h2 k1 k2 (xm_setS σ p0 p1)) s.heap := by
        rw [show xm_setS σ p0 p1 = σ from by simp only [xm_setR, xm_setS, if_pos c_1]]
        exact hP
      exact W.iret hx hb hr (fun t ht _ => xw_m (by simp only [xm_setR, xm_setS, if_pos c_1]) hP9 hS ht) hS.2.2 dX1_set_44
  · skip
    refine lv_iload_n hx hb dX1_set_0 rfl (lv_at hl 1 rfl) ?_
    refine lv_if_eq (tgt := 32) hx hb dX1_set_1 (by decide) (fun c_7 => ?_) (fun c_7 => ?_)
    · skip
      refine lv_iconst (v := 1) hx hb dX1_set_32 (by decide) ?_
      refine lv_goto (tgt := 37) hx hb dX1_set_33 (by decide) ?_
      exact xw_top (by simp only [xd_good, xd_good2, if_pos c_7]) K_37
    · skip
      refine lv_iload_n hx hb dX1_set_4 rfl (lv_at hl 1 rfl) ?_
      refine lv_iconst (v := 1) hx hb dX1_set_5 (by decide) ?_
      refine lv_icmp_ne (tgt := 18) hx hb dX1_set_6 (by decide) (fun c_8 => ?_) (fun c_8 => ?_)
      · skip
        refine lv_iload_n hx hb dX1_set_18 rfl (lv_at hl 1 rfl) ?_
        refine lv_iconst (v := 2) hx hb dX1_set_19 (by decide) ?_
        refine lv_icmp_ne (tgt := 36) hx hb dX1_set_20 (by decide) (fun c_9 => ?_) (fun c_9 => ?_)
        · skip
          refine lv_iconst (v := 0) hx hb dX1_set_36 (by decide) ?_
          exact xw_top (by simp only [xd_good, xd_good2, if_neg c_7, if_neg c_8, if_neg c_9]) K_37
        · skip
          refine lv_iload_n hx hb dX1_set_23 rfl (lv_at hl 2 rfl) ?_
          refine lv_if_lt (tgt := 36) hx hb dX1_set_24 (by decide) (fun c_10 => ?_) (fun c_10 => ?_)
          · skip
            refine lv_iconst (v := 0) hx hb dX1_set_36 (by decide) ?_
            exact xw_top (by simp only [xd_good, xd_good2, if_neg c_7, if_neg c_8, if_pos c_9, if_pos c_10]) K_37
          · skip
            refine lv_iload_n hx hb dX1_set_27 rfl (lv_at hl 2 rfl) ?_
            refine lv_iconst (v := 5) hx hb dX1_set_28 (by decide) ?_
            refine lv_icmp_gt (tgt := 36) hx hb dX1_set_29 (by decide) (fun c_11 => ?_) (fun c_11 => ?_)
            · skip
              refine lv_iconst (v := 0) hx hb dX1_set_36 (by decide) ?_
              exact xw_top (by simp only [xd_good, xd_good2, if_neg c_7, if_neg c_8, if_pos c_9, if_neg c_10, if_pos c_11]) K_37
            · skip
              refine lv_iconst (v := 1) hx hb dX1_set_32 (by decide) ?_
              refine lv_goto (tgt := 37) hx hb dX1_set_33 (by decide) ?_
              exact xw_top (by simp only [xd_good, xd_good2, if_neg c_7, if_neg c_8, if_pos c_9, if_neg c_10, if_neg c_11]) K_37
      · skip
        refine lv_iload_n hx hb dX1_set_9 rfl (lv_at hl 2 rfl) ?_
        refine lv_if_eq (tgt := 32) hx hb dX1_set_10 (by decide) (fun c_12 => ?_) (fun c_12 => ?_)
        · skip
          refine lv_iconst (v := 1) hx hb dX1_set_32 (by decide) ?_
          refine lv_goto (tgt := 37) hx hb dX1_set_33 (by decide) ?_
          exact xw_top (by simp only [xd_good, xd_good2, if_neg c_7, if_pos c_8, if_pos c_12]) K_37
        · skip
          refine lv_iload_n hx hb dX1_set_13 rfl (lv_at hl 2 rfl) ?_
          refine lv_iconst (v := 1) hx hb dX1_set_14 (by decide) ?_
          refine lv_icmp_eq (tgt := 32) hx hb dX1_set_15 (by decide) (fun c_13 => ?_) (fun c_13 => ?_)
          · skip
            refine lv_iconst (v := 1) hx hb dX1_set_32 (by decide) ?_
            refine lv_goto (tgt := 37) hx hb dX1_set_33 (by decide) ?_
            exact xw_top (by simp only [xd_good, xd_good2, if_neg c_7, if_pos c_8, if_neg c_12, if_pos c_13]) K_37
          · skip
            refine lv_iload_n hx hb dX1_set_18 rfl (lv_at hl 1 rfl) ?_
            refine lv_iconst (v := 2) hx hb dX1_set_19 (by decide) ?_
            refine lv_icmp_ne (tgt := 36) hx hb dX1_set_20 (by decide) (fun c_14 => ?_) (fun c_14 => ?_)
            · skip
              refine lv_iconst (v := 0) hx hb dX1_set_36 (by decide) ?_
              exact xw_top (by simp only [xd_good, xd_good2, if_neg c_7, if_pos c_8, if_neg c_12, if_neg c_13, if_neg c_14]) K_37
            · skip
              refine lv_iload_n hx hb dX1_set_23 rfl (lv_at hl 2 rfl) ?_
              refine lv_if_lt (tgt := 36) hx hb dX1_set_24 (by decide) (fun c_15 => ?_) (fun c_15 => ?_)
              · skip
                refine lv_iconst (v := 0) hx hb dX1_set_36 (by decide) ?_
                exact xw_top (by simp only [xd_good, xd_good2, if_neg c_7, if_pos c_8, if_neg c_12, if_neg c_13, if_pos c_14, if_pos c_15]) K_37
              · skip
                refine lv_iload_n hx hb dX1_set_27 rfl (lv_at hl 2 rfl) ?_
                refine lv_iconst (v := 5) hx hb dX1_set_28 (by decide) ?_
                refine lv_icmp_gt (tgt := 36) hx hb dX1_set_29 (by decide) (fun c_16 => ?_) (fun c_16 => ?_)
                · skip
                  refine lv_iconst (v := 0) hx hb dX1_set_36 (by decide) ?_
                  exact xw_top (by simp only [xd_good, xd_good2, if_neg c_7, if_pos c_8, if_neg c_12, if_neg c_13, if_pos c_14, if_neg c_15, if_pos c_16]) K_37
                · skip
                  refine lv_iconst (v := 1) hx hb dX1_set_32 (by decide) ?_
                  refine lv_goto (tgt := 37) hx hb dX1_set_33 (by decide) ?_
                  exact xw_top (by simp only [xd_good, xd_good2, if_neg c_7, if_pos c_8, if_neg c_12, if_neg c_13, if_pos c_14, if_neg c_15, if_neg c_16]) K_37
abbrev wsX1_wrap : List Cond := ws_ yX1_wrap cX1_wrap 7 none
theorem hdX1_wrap : yX1_wrap.cls = RX1 ∧ yX1_wrap.cls ≠ "java/lang/invoke/MethodHandle" ∧ yX1_wrap.cls ≠ "java/lang/invoke/VarHandle" ∧ (parseMethodDescriptor yX1_wrap.desc).map (fun d => d.parameters.length) = some 3 := by decide +kernel
set_option maxHeartbeats 4000000 in
set_option maxRecDepth 100000 in
theorem metX1_wrap (l : Launch) (dC : Nat → ClassId) (dI : Nat → Nat → Nat) (h0 h1 h2 : Nat) (k1 k2 : ClassId) (σ : xd_T) (p0 p1 p2 : Int32) : Met l yX1_wrap wsX1_wrap ({ frames := 1, cells := 0, slots := 0, locals := 21 }) (va_Pc [.ref h0, .int p0, .int p1, .int p2] (xw_Wr (dC, dI) vwCl (xm_W h0 h1 h2 k1 k2 σ) [(k1, .int), (k2, .int)])) (xw_M (dC, dI) vwCl none (xm_W h0 h1 h2 k1 k2 (xm_wrS σ p0 p1 p2)) (xw_ad (xm_W h0 h1 h2 k1 k2 σ))) 0 0 (xw_ad (xm_W h0 h1 h2 k1 k2 σ)) := by
  refine Met.ofW (cc := cX1_wrap) (maxL := 7) (ret := none) (by decide) rfl ?_
  intro p e s m args below meth c s₁ B hml hv
  obtain ⟨rfl, hP, hK, hD0⟩ := hv
  have hx := B.exec
  have hb := B.bytes
  have hr := B.returns
  have hts := atoms_spec (ws := wsX1_wrap) B.pre
  have hts : ∀ w ∈ lw_all, w.before _ s = true := fun w h => hts w (List.mem_cons_of_mem _ h)
  have hown : s.vm.findClass RX1 = some m.cls := findClass_of_methodNamed B.named
  have hlocks := B.notSynchronized
  have hD := xw_D_self hD0
  generalize xw_ad (xm_W h0 h1 h2 k1 k2 σ) = A at hD ⊢
  have hS : va_S A s.heap s.heap [] := va_S.rf
  have hP : va_P (dC, dI) vwCl [(h0, .inr (1, [.int σ.1, .int σ.2.1, .int σ.2.2.1, .int σ.2.2.2.1, .ref h1, .ref h2, .int σ.2.2.2.2.1, .int σ.2.2.2.2.2.1, .int σ.2.2.2.2.2.2.1])), (h1, .inl (k1, 2, .inl σ.2.2.2.2.2.2.2.1)), (h2, .inl (k2, 2, .inl σ.2.2.2.2.2.2.2.2))] s.heap := hP
  have hD : va_D A [(h0, .inr (1, [.int σ.1, .int σ.2.1, .int σ.2.2.1, .int σ.2.2.2.1, .ref h1, .ref h2, .int σ.2.2.2.2.1, .int σ.2.2.2.2.2.1, .int σ.2.2.2.2.2.2.1])), (h1, .inl (k1, 2, .inl σ.2.2.2.2.2.2.2.1)), (h2, .inl (k2, 2, .inl σ.2.2.2.2.2.2.2.2))] := hD
  have hl := lv_entry ([.ref h0, .int p0, .int p1, .int p2]) (n := 7) (Nat.le_of_ble_eq_true rfl)
  rw [lg_entry_eq]
  generalize (lg_sl ([.ref h0, .int p0, .int p1, .int p2]) ++ List.replicate (7 - (lg_sl ([.ref h0, .int p0, .int p1, .int p2])).length) Slot.unset).toArray = ls at hl ⊢
  have hl : lv_has ls 7 [(0, .ref h0), (1, .int p0), (2, .int p1), (3, .int p2)] := hl
  refine xw_cut (g2 := F0 m 17 ls [.int (xm_asked p0 p1)]) ?_ (fun K_17 => ?_)
  · skip
    refine lv_istore (lv' := [(4, .int (xm_asked p0 p1)), (0, .ref h0), (1, .int p0), (2, .int p1), (3, .int p2)]) hx hb dX1_wrap_17 hl (by decide) rfl (fun ls hl => ?_)
    refine xw_cut (g2 := F0 m 36 ls [.int (xm_giv p0 p1)]) ?_ (fun K_36 => ?_)
    · skip
      refine lv_istore (lv' := [(5, .int (xm_giv p0 p1)), (4, .int (xm_asked p0 p1)), (0, .ref h0), (1, .int p0), (2, .int p1), (3, .int p2)]) hx hb dX1_wrap_36 hl (by decide) rfl (fun ls hl => ?_)
      refine lv_iconst (v := 0) hx hb dX1_wrap_38 (by decide) ?_
      refine lv_istore (lv' := [(6, .int 0), (5, .int (xm_giv p0 p1)), (4, .int (xm_asked p0 p1)), (0, .ref h0), (1, .int p0), (2, .int p1), (3, .int p2)]) hx hb dX1_wrap_39 hl (by decide) rfl (fun ls hl => ?_)
      refine lv_iload hx hb dX1_wrap_41 (lv_at hl 0 rfl) ?_
      refine lv_iconst (v := 2) hx hb dX1_wrap_43 (by decide) ?_
      refine lv_icmp_ge (tgt := 127) hx hb dX1_wrap_44 (by decide) (fun c_1 => absurd c_1 (by decide)) (fun _ => ?_)
      refine lv_aload_n hx hb dX1_wrap_47 rfl (lv_at hl 3 rfl) ?_
      refine va_get (D := (dC, dI)) (ci := 1) (v := .ref h1) (C := RX1) (T := TX1) (N := 9) hx hb hts in_X1 hown hK hP 0 rfl rfl 4 (by decide) (hts _ q151) (fun _ h9 => h9) rfl dX1_wrap_48 ?_
      refine lv_iload hx hb dX1_wrap_51 (lv_at hl 0 rfl) ?_
      refine xw_cut (g2 := F0 m 78 ls [.int (xm_av (xm_asked p0 p1) 0 p2 (σ.2.2.2.2.2.2.2.1 0)), .int 0, .ref h1]) ?_ (fun K_78 => ?_)
      · skip
        refine va_iast hx hb hK hP hD hS 1 0 rfl rfl xi_20 dX1_wrap_78 (fun H locs hP hD hS => ?_)
        have hP : va_P (dC, dI) vwCl [(h0, .inr (1, [.int σ.1, .int σ.2.1, .int σ.2.2.1, .int σ.2.2.2.1, .ref h1, .ref h2, .int σ.2.2.2.2.1, .int σ.2.2.2.2.2.1, .int σ.2.2.2.2.2.2.1])), (h1, .inl (k1, 2, .inl (upd σ.2.2.2.2.2.2.2.1 0 (xm_av (xm_asked p0 p1) 0 p2 (σ.2.2.2.2.2.2.2.1 0))))), (h2, .inl (k2, 2, .inl σ.2.2.2.2.2.2.2.2))] H := hP
        have hD : va_D A [(h0, .inr (1, [.int σ.1, .int σ.2.1, .int σ.2.2.1, .int σ.2.2.2.1, .ref h1, .ref h2, .int σ.2.2.2.2.1, .int σ.2.2.2.2.2.1, .int σ.2.2.2.2.2.2.1])), (h1, .inl (k1, 2, .inl (upd σ.2.2.2.2.2.2.2.1 0 (xm_av (xm_asked p0 p1) 0 p2 (σ.2.2.2.2.2.2.2.1 0))))), (h2, .inl (k2, 2, .inl σ.2.2.2.2.2.2.2.2))] := hD
        refine lv_aload_n hx hb dX1_wrap_79 rfl (lv_at hl 3 rfl) ?_
        refine va_get (D := (dC, dI)) (ci := 1) (v := .ref h2) (C := RX1) (T := TX1) (N := 9) hx hb hts in_X1 hown hK hP 0 rfl rfl 5 (by decide) (hts _ q152) (fun _ h9 => h9) rfl dX1_wrap_80 ?_
        refine lv_iload hx hb dX1_wrap_83 (lv_at hl 0 rfl) ?_
        refine xw_cut (g2 := F0 m 120 ls [.int (xm_ov (xm_giv p0 p1) 0 p2 (σ.2.2.2.2.2.2.2.2 0)), .int 0, .ref h2]) ?_ (fun K_120 => ?_)
        · skip
          refine va_iast hx hb hK hP hD hS 2 1 rfl rfl xi_20 dX1_wrap_120 (fun H locs hP hD hS => ?_)
          have hP : va_P (dC, dI) vwCl [(h0, .inr (1, [.int σ.1, .int σ.2.1, .int σ.2.2.1, .int σ.2.2.2.1, .ref h1, .ref h2, .int σ.2.2.2.2.1, .int σ.2.2.2.2.2.1, .int σ.2.2.2.2.2.2.1])), (h1, .inl (k1, 2, .inl (upd σ.2.2.2.2.2.2.2.1 0 (xm_av (xm_asked p0 p1) 0 p2 (σ.2.2.2.2.2.2.2.1 0))))), (h2, .inl (k2, 2, .inl (upd σ.2.2.2.2.2.2.2.2 0 (xm_ov (xm_giv p0 p1) 0 p2 (σ.2.2.2.2.2.2.2.2 0)))))] H := hP
          have hD : va_D A [(h0, .inr (1, [.int σ.1, .int σ.2.1, .int σ.2.2.1, .int σ.2.2.2.1, .ref h1, .ref h2, .int σ.2.2.2.2.1, .int σ.2.2.2.2.2.1, .int σ.2.2.2.2.2.2.1])), (h1, .inl (k1, 2, .inl (upd σ.2.2.2.2.2.2.2.1 0 (xm_av (xm_asked p0 p1) 0 p2 (σ.2.2.2.2.2.2.2.1 0))))), (h2, .inl (k2, 2, .inl (upd σ.2.2.2.2.2.2.2.2 0 (xm_ov (xm_giv p0 p1) 0 p2 (σ.2.2.2.2.2.2.2.2 0)))))] := hD
          refine lv_iinc (v := 1) (lv' := [(6, .int 1), (5, .int (xm_giv p0 p1)), (4, .int (xm_asked p0 p1)), (0, .ref h0), (1, .int p0), (2, .int p1), (3, .int p2)]) hx hb dX1_wrap_121 hl (k := 0) rfl (by decide) (by decide) rfl (fun ls hl => ?_)
          refine lv_goto (tgt := 41) hx hb dX1_wrap_124 (by decide) ?_
          refine lv_iload hx hb dX1_wrap_41 (lv_at hl 0 rfl) ?_
          refine lv_iconst (v := 2) hx hb dX1_wrap_43 (by decide) ?_
          refine lv_icmp_ge (tgt := 127) hx hb dX1_wrap_44 (by decide) (fun c_2 => absurd c_2 (by decide)) (fun _ => ?_)
          refine lv_aload_n hx hb dX1_wrap_47 rfl (lv_at hl 3 rfl) ?_
          refine va_get (D := (dC, dI)) (ci := 1) (v := .ref h1) (C := RX1) (T := TX1) (N := 9) hx hb hts in_X1 hown hK hP 0 rfl rfl 4 (by decide) (hts _ q151) (fun _ h9 => h9) rfl dX1_wrap_48 ?_
          refine lv_iload hx hb dX1_wrap_51 (lv_at hl 0 rfl) ?_
          refine xw_cut (g2 := F0 m 78 ls [.int (xm_av (xm_asked p0 p1) 1 p2 (σ.2.2.2.2.2.2.2.1 1)), .int 1, .ref h1]) ?_ (fun K_78 => ?_)
          · skip
            refine va_iast hx hb hK hP hD hS 1 0 rfl rfl xi_21 dX1_wrap_78 (fun H locs hP hD hS => ?_)
            have hP : va_P (dC, dI) vwCl [(h0, .inr (1, [.int σ.1, .int σ.2.1, .int σ.2.2.1, .int σ.2.2.2.1, .ref h1, .ref h2, .int σ.2.2.2.2.1, .int σ.2.2.2.2.2.1, .int σ.2.2.2.2.2.2.1])), (h1, .inl (k1, 2, .inl (upd (upd σ.2.2.2.2.2.2.2.1 0 (xm_av (xm_asked p0 p1) 0 p2 (σ.2.2.2.2.2.2.2.1 0))) 1 (xm_av (xm_asked p0 p1) 1 p2 (σ.2.2.2.2.2.2.2.1 1))))), (h2, .inl (k2, 2, .inl (upd σ.2.2.2.2.2.2.2.2 0 (xm_ov (xm_giv p0 p1) 0 p2 (σ.2.2.2.2.2.2.2.2 0)))))] H := hP
            have hD : va_D A [(h0, .inr (1, [.int σ.1, .int σ.2.1, .int σ.2.2.1, .int σ.2.2.2.1, .ref h1, .ref h2, .int σ.2.2.2.2.1, .int σ.2.2.2.2.2.1, .int σ.2.2.2.2.2.2.1])), (h1, .inl (k1, 2, .inl (upd (upd σ.2.2.2.2.2.2.2.1 0 (xm_av (xm_asked p0 p1) 0 p2 (σ.2.2.2.2.2.2.2.1 0))) 1 (xm_av (xm_asked p0 p1) 1 p2 (σ.2.2.2.2.2.2.2.1 1))))), (h2, .inl (k2, 2, .inl (upd σ.2.2.2.2.2.2.2.2 0 (xm_ov (xm_giv p0 p1) 0 p2 (σ.2.2.2.2.2.2.2.2 0)))))] := hD
            refine lv_aload_n hx hb dX1_wrap_79 rfl (lv_at hl 3 rfl) ?_
            refine va_get (D := (dC, dI)) (ci := 1) (v := .ref h2) (C := RX1) (T := TX1) (N := 9) hx hb hts in_X1 hown hK hP 0 rfl rfl 5 (by decide) (hts _ q152) (fun _ h9 => h9) rfl dX1_wrap_80 ?_
            refine lv_iload hx hb dX1_wrap_83 (lv_at hl 0 rfl) ?_
            refine xw_cut (g2 := F0 m 120 ls [.int (xm_ov (xm_giv p0 p1) 1 p2 (σ.2.2.2.2.2.2.2.2 1)), .int 1, .ref h2]) ?_ (fun K_120 => ?_)
            · skip
              refine va_iast hx hb hK hP hD hS 2 1 rfl rfl xi_21 dX1_wrap_120 (fun H locs hP hD hS => ?_)
              have hP : va_P (dC, dI) vwCl [(h0, .inr (1, [.int σ.1, .int σ.2.1, .int σ.2.2.1, .int σ.2.2.2.1, .ref h1, .ref h2, .int σ.2.2.2.2.1, .int σ.2.2.2.2.2.1, .int σ.2.2.2.2.2.2.1])), (h1, .inl (k1, 2, .inl (upd (upd σ.2.2.2.2.2.2.2.1 0 (xm_av (xm_asked p0 p1) 0 p2 (σ.2.2.2.2.2.2.2.1 0))) 1 (xm_av (xm_asked p0 p1) 1 p2 (σ.2.2.2.2.2.2.2.1 1))))), (h2, .inl (k2, 2, .inl (upd (upd σ.2.2.2.2.2.2.2.2 0 (xm_ov (xm_giv p0 p1) 0 p2 (σ.2.2.2.2.2.2.2.2 0))) 1 (xm_ov (xm_giv p0 p1) 1 p2 (σ.2.2.2.2.2.2.2.2 1)))))] H := hP
              have hD : va_D A [(h0, .inr (1, [.int σ.1, .int σ.2.1, .int σ.2.2.1, .int σ.2.2.2.1, .ref h1, .ref h2, .int σ.2.2.2.2.1, .int σ.2.2.2.2.2.1, .int σ.2.2.2.2.2.2.1])), (h1, .inl (k1, 2, .inl (upd (upd σ.2.2.2.2.2.2.2.1 0 (xm_av (xm_asked p0 p1) 0 p2 (σ.2.2.2.2.2.2.2.1 0))) 1 (xm_av (xm_asked p0 p1) 1 p2 (σ.2.2.2.2.2.2.2.1 1))))), (h2, .inl (k2, 2, .inl (upd (upd σ.2.2.2.2.2.2.2.2 0 (xm_ov (xm_giv p0 p1) 0 p2 (σ.2.2.2.2.2.2.2.2 0))) 1 (xm_ov (xm_giv p0 p1) 1 p2 (σ.2.2.2.2.2.2.2.2 1)))))] := hD
              refine lv_iinc (v := 2) (lv' := [(6, .int 2), (5, .int (xm_giv p0 p1)), (4, .int (xm_asked p0 p1)), (0, .ref h0), (1, .int p0), (2, .int p1), (3, .int p2)]) hx hb dX1_wrap_121 hl (k := 0) rfl (by decide) (by decide) rfl (fun ls hl => ?_)
              refine lv_goto (tgt := 41) hx hb dX1_wrap_124 (by decide) ?_
              refine lv_iload hx hb dX1_wrap_41 (lv_at hl 0 rfl) ?_
              refine lv_iconst (v := 2) hx hb dX1_wrap_43 (by decide) ?_
              refine lv_icmp_ge (tgt := 127) hx hb dX1_wrap_44 (by decide) (fun _ => ?_) (fun c_3 => absurd c_3 (by decide))
              have hP9 : va_P (dC, dI) vwCl (xm_W h0 h1 h2 k1 k2 (xm_wrS σ p0 p1 p2)) H := by
                rw [show xm_wrS σ p0 p1 p2 = (σ.1, σ.2.1, σ.2.2.1, σ.2.2.2.1, σ.2.2.2.2.1, σ.2.2.2.2.2.1, σ.2.2.2.2.2.2.1, upd (upd σ.2.2.2.2.2.2.2.1 0 (xm_av (xm_asked p0 p1) 0 p2 (σ.2.2.2.2.2.2.2.1 0))) 1 (xm_av (xm_asked p0 p1) 1 p2 (σ.2.2.2.2.2.2.2.1 1)), upd (upd σ.2.2.2.2.2.2.2.2 0 (xm_ov (xm_giv p0 p1) 0 p2 (σ.2.2.2.2.2.2.2.2 0))) 1 (xm_ov (xm_giv p0 p1) 1 p2 (σ.2.2.2.2.2.2.2.2 1))) from by simp only [xm_wrS]]
                exact hP
              exact W.vret hx hb hr (fun t ht _ => xw_mv hP9 hS ht) hS.2.2 dX1_wrap_127
            · skip
              refine lv_iload hx hb dX1_wrap_85 (lv_at hl 1 rfl) ?_
              refine lv_if_le (tgt := 113) hx hb dX1_wrap_87 (by decide) (fun c_4 => ?_) (fun c_4 => ?_)
              · skip
                refine lv_aload_n hx hb dX1_wrap_113 rfl (lv_at hl 3 rfl) ?_
                refine va_get (D := (dC, dI)) (ci := 1) (v := .ref h2) (C := RX1) (T := TX1) (N := 9) hx hb hts in_X1 hown hK hP 0 rfl rfl 5 (by decide) (hts _ q152) (fun _ h9 => h9) rfl dX1_wrap_114 ?_
                refine lv_iload hx hb dX1_wrap_117 (lv_at hl 0 rfl) ?_
                refine va_iald hx hb hK hP 2 1 rfl rfl xi_21 dX1_wrap_119 ?_
                refine xw_top (v := σ.2.2.2.2.2.2.2.2 1) rfl ?_
                exact xw_top (by simp only [xm_ov, if_pos c_4]) K_120
              · skip
                refine lv_iload hx hb dX1_wrap_90 (lv_at hl 1 rfl) ?_
                refine lv_iload hx hb dX1_wrap_92 (lv_at hl 0 rfl) ?_
                refine lv_iconst (v := 1) hx hb dX1_wrap_94 (by decide) ?_
                refine lv_iadd hx hb dX1_wrap_95 ?_
                refine lv_icmp_eq (tgt := 113) hx hb dX1_wrap_96 (by decide) (fun c_5 => ?_) (fun c_5 => ?_)
                · skip
                  refine lv_aload_n hx hb dX1_wrap_113 rfl (lv_at hl 3 rfl) ?_
                  refine va_get (D := (dC, dI)) (ci := 1) (v := .ref h2) (C := RX1) (T := TX1) (N := 9) hx hb hts in_X1 hown hK hP 0 rfl rfl 5 (by decide) (hts _ q152) (fun _ h9 => h9) rfl dX1_wrap_114 ?_
                  refine lv_iload hx hb dX1_wrap_117 (lv_at hl 0 rfl) ?_
                  refine va_iald hx hb hK hP 2 1 rfl rfl xi_21 dX1_wrap_119 ?_
                  refine xw_top (v := σ.2.2.2.2.2.2.2.2 1) rfl ?_
                  exact xw_top (by simp only [xm_ov, if_neg c_4, if_pos c_5]) K_120
                · skip
                  refine lv_aload_n hx hb dX1_wrap_99 rfl (lv_at hl 3 rfl) ?_
                  refine va_get (D := (dC, dI)) (ci := 1) (v := .ref h2) (C := RX1) (T := TX1) (N := 9) hx hb hts in_X1 hown hK hP 0 rfl rfl 5 (by decide) (hts _ q152) (fun _ h9 => h9) rfl dX1_wrap_100 ?_
                  refine lv_iload hx hb dX1_wrap_103 (lv_at hl 0 rfl) ?_
                  refine va_iald hx hb hK hP 2 1 rfl rfl xi_21 dX1_wrap_105 ?_
                  refine xw_top (v := σ.2.2.2.2.2.2.2.2 1) rfl ?_
                  refine lv_if_ne (tgt := 113) hx hb dX1_wrap_106 (by decide) (fun c_6 => ?_) (fun c_6 => ?_)
                  · skip
                    refine lv_aload_n hx hb dX1_wrap_113 rfl (lv_at hl 3 rfl) ?_
                    refine va_get (D := (dC, dI)) (ci := 1) (v := .ref h2) (C := RX1) (T := TX1) (N := 9) hx hb hts in_X1 hown hK hP 0 rfl rfl 5 (by decide) (hts _ q152) (fun _ h9 => h9) rfl dX1_wrap_114 ?_
                    refine lv_iload hx hb dX1_wrap_117 (lv_at hl 0 rfl) ?_
                    refine va_iald hx hb hK hP 2 1 rfl rfl xi_21 dX1_wrap_119 ?_
                    refine xw_top (v := σ.2.2.2.2.2.2.2.2 1) rfl ?_
                    exact xw_top (by simp only [xm_ov, if_neg c_4, if_neg c_5, if_neg c_6]) K_120
                  · skip
                    refine lv_iload_n hx hb dX1_wrap_109 rfl (lv_at hl 6 rfl) ?_
                    refine lv_goto (tgt := 120) hx hb dX1_wrap_110 (by decide) ?_
                    exact xw_top (by simp only [xm_ov, if_neg c_4, if_neg c_5, if_pos c_6]) K_120
          · skip
            refine lv_iload hx hb dX1_wrap_53 (lv_at hl 2 rfl) ?_
            refine lv_if_le (tgt := 71) hx hb dX1_wrap_55 (by decide) (fun c_7 => ?_) (fun c_7 => ?_)
            · skip
              refine lv_aload_n hx hb dX1_wrap_71 rfl (lv_at hl 3 rfl) ?_
              refine va_get (D := (dC, dI)) (ci := 1) (v := .ref h1) (C := RX1) (T := TX1) (N := 9) hx hb hts in_X1 hown hK hP 0 rfl rfl 4 (by decide) (hts _ q151) (fun _ h9 => h9) rfl dX1_wrap_72 ?_
              refine lv_iload hx hb dX1_wrap_75 (lv_at hl 0 rfl) ?_
              refine va_iald hx hb hK hP 1 0 rfl rfl xi_21 dX1_wrap_77 ?_
              refine xw_top (v := σ.2.2.2.2.2.2.2.1 1) rfl ?_
              exact xw_top (by simp only [xm_av, if_pos c_7]) K_78
            · skip
              refine lv_iload hx hb dX1_wrap_58 (lv_at hl 2 rfl) ?_
              refine lv_iload hx hb dX1_wrap_60 (lv_at hl 0 rfl) ?_
              refine lv_iconst (v := 1) hx hb dX1_wrap_62 (by decide) ?_
              refine lv_iadd hx hb dX1_wrap_63 ?_
              refine lv_icmp_eq (tgt := 71) hx hb dX1_wrap_64 (by decide) (fun c_8 => ?_) (fun c_8 => ?_)
              · skip
                refine lv_aload_n hx hb dX1_wrap_71 rfl (lv_at hl 3 rfl) ?_
                refine va_get (D := (dC, dI)) (ci := 1) (v := .ref h1) (C := RX1) (T := TX1) (N := 9) hx hb hts in_X1 hown hK hP 0 rfl rfl 4 (by decide) (hts _ q151) (fun _ h9 => h9) rfl dX1_wrap_72 ?_
                refine lv_iload hx hb dX1_wrap_75 (lv_at hl 0 rfl) ?_
                refine va_iald hx hb hK hP 1 0 rfl rfl xi_21 dX1_wrap_77 ?_
                refine xw_top (v := σ.2.2.2.2.2.2.2.1 1) rfl ?_
                exact xw_top (by simp only [xm_av, if_neg c_7, if_pos c_8]) K_78
              · skip
                refine lv_iload_n hx hb dX1_wrap_67 rfl (lv_at hl 6 rfl) ?_
                refine lv_goto (tgt := 78) hx hb dX1_wrap_68 (by decide) ?_
                exact xw_top (by simp only [xm_av, if_neg c_7, if_neg c_8]) K_78
        · skip
          refine lv_iload hx hb dX1_wrap_85 (lv_at hl 1 rfl) ?_
          refine lv_if_le (tgt := 113) hx hb dX1_wrap_87 (by decide) (fun c_9 => ?_) (fun c_9 => ?_)
          · skip
            refine lv_aload_n hx hb dX1_wrap_113 rfl (lv_at hl 3 rfl) ?_
            refine va_get (D := (dC, dI)) (ci := 1) (v := .ref h2) (C := RX1) (T := TX1) (N := 9) hx hb hts in_X1 hown hK hP 0 rfl rfl 5 (by decide) (hts _ q152) (fun _ h9 => h9) rfl dX1_wrap_114 ?_
            refine lv_iload hx hb dX1_wrap_117 (lv_at hl 0 rfl) ?_
            refine va_iald hx hb hK hP 2 1 rfl rfl xi_20 dX1_wrap_119 ?_
            refine xw_top (v := σ.2.2.2.2.2.2.2.2 0) rfl ?_
            exact xw_top (by simp only [xm_ov, if_pos c_9]) K_120
          · skip
            refine lv_iload hx hb dX1_wrap_90 (lv_at hl 1 rfl) ?_
            refine lv_iload hx hb dX1_wrap_92 (lv_at hl 0 rfl) ?_
            refine lv_iconst (v := 1) hx hb dX1_wrap_94 (by decide) ?_
            refine lv_iadd hx hb dX1_wrap_95 ?_
            refine lv_icmp_eq (tgt := 113) hx hb dX1_wrap_96 (by decide) (fun c_10 => ?_) (fun c_10 => ?_)
            · skip
              refine lv_aload_n hx hb dX1_wrap_113 rfl (lv_at hl 3 rfl) ?_
              refine va_get (D := (dC, dI)) (ci := 1) (v := .ref h2) (C := RX1) (T := TX1) (N := 9) hx hb hts in_X1 hown hK hP 0 rfl rfl 5 (by decide) (hts _ q152) (fun _ h9 => h9) rfl dX1_wrap_114 ?_
              refine lv_iload hx hb dX1_wrap_117 (lv_at hl 0 rfl) ?_
              refine va_iald hx hb hK hP 2 1 rfl rfl xi_20 dX1_wrap_119 ?_
              refine xw_top (v := σ.2.2.2.2.2.2.2.2 0) rfl ?_
              exact xw_top (by simp only [xm_ov, if_neg c_9, if_pos c_10]) K_120
            · skip
              refine lv_aload_n hx hb dX1_wrap_99 rfl (lv_at hl 3 rfl) ?_
              refine va_get (D := (dC, dI)) (ci := 1) (v := .ref h2) (C := RX1) (T := TX1) (N := 9) hx hb hts in_X1 hown hK hP 0 rfl rfl 5 (by decide) (hts _ q152) (fun _ h9 => h9) rfl dX1_wrap_100 ?_
              refine lv_iload hx hb dX1_wrap_103 (lv_at hl 0 rfl) ?_
              refine va_iald hx hb hK hP 2 1 rfl rfl xi_20 dX1_wrap_105 ?_
              refine xw_top (v := σ.2.2.2.2.2.2.2.2 0) rfl ?_
              refine lv_if_ne (tgt := 113) hx hb dX1_wrap_106 (by decide) (fun c_11 => ?_) (fun c_11 => ?_)
              · skip
                refine lv_aload_n hx hb dX1_wrap_113 rfl (lv_at hl 3 rfl) ?_
                refine va_get (D := (dC, dI)) (ci := 1) (v := .ref h2) (C := RX1) (T := TX1) (N := 9) hx hb hts in_X1 hown hK hP 0 rfl rfl 5 (by decide) (hts _ q152) (fun _ h9 => h9) rfl dX1_wrap_114 ?_
                refine lv_iload hx hb dX1_wrap_117 (lv_at hl 0 rfl) ?_
                refine va_iald hx hb hK hP 2 1 rfl rfl xi_20 dX1_wrap_119 ?_
                refine xw_top (v := σ.2.2.2.2.2.2.2.2 0) rfl ?_
                exact xw_top (by simp only [xm_ov, if_neg c_9, if_neg c_10, if_neg c_11]) K_120
              · skip
                refine lv_iload_n hx hb dX1_wrap_109 rfl (lv_at hl 6 rfl) ?_
                refine lv_goto (tgt := 120) hx hb dX1_wrap_110 (by decide) ?_
                exact xw_top (by simp only [xm_ov, if_neg c_9, if_neg c_10, if_pos c_11]) K_120
      · skip
        refine lv_iload hx hb dX1_wrap_53 (lv_at hl 2 rfl) ?_
        refine lv_if_le (tgt := 71) hx hb dX1_wrap_55 (by decide) (fun c_12 => ?_) (fun c_12 => ?_)
        · skip
          refine lv_aload_n hx hb dX1_wrap_71 rfl (lv_at hl 3 rfl) ?_
          refine va_get (D := (dC, dI)) (ci := 1) (v := .ref h1) (C := RX1) (T := TX1) (N := 9) hx hb hts in_X1 hown hK hP 0 rfl rfl 4 (by decide) (hts _ q151) (fun _ h9 => h9) rfl dX1_wrap_72 ?_
          refine lv_iload hx hb dX1_wrap_75 (lv_at hl 0 rfl) ?_
          refine va_iald hx hb hK hP 1 0 rfl rfl xi_20 dX1_wrap_77 ?_
          refine xw_top (v := σ.2.2.2.2.2.2.2.1 0) rfl ?_
          exact xw_top (by simp only [xm_av, if_pos c_12]) K_78
        · skip
          refine lv_iload hx hb dX1_wrap_58 (lv_at hl 2 rfl) ?_
          refine lv_iload hx hb dX1_wrap_60 (lv_at hl 0 rfl) ?_
          refine lv_iconst (v := 1) hx hb dX1_wrap_62 (by decide) ?_
          refine lv_iadd hx hb dX1_wrap_63 ?_
          refine lv_icmp_eq (tgt := 71) hx hb dX1_wrap_64 (by decide) (fun c_13 => ?_) (fun c_13 => ?_)
          · skip
            refine lv_aload_n hx hb dX1_wrap_71 rfl (lv_at hl 3 rfl) ?_
            refine va_get (D := (dC, dI)) (ci := 1) (v := .ref h1) (C := RX1) (T := TX1) (N := 9) hx hb hts in_X1 hown hK hP 0 rfl rfl 4 (by decide) (hts _ q151) (fun _ h9 => h9) rfl dX1_wrap_72 ?_
            refine lv_iload hx hb dX1_wrap_75 (lv_at hl 0 rfl) ?_
            refine va_iald hx hb hK hP 1 0 rfl rfl xi_20 dX1_wrap_77 ?_
            refine xw_top (v := σ.2.2.2.2.2.2.2.1 0) rfl ?_
            exact xw_top (by simp only [xm_av, if_neg c_12, if_pos c_13]) K_78
          · skip
            refine lv_iload_n hx hb dX1_wrap_67 rfl (lv_at hl 6 rfl) ?_
            refine lv_goto (tgt := 78) hx hb dX1_wrap_68 (by decide) ?_
            exact xw_top (by simp only [xm_av, if_neg c_12, if_neg c_13]) K_78
    · skip
      refine lv_aload_n hx hb dX1_wrap_19 rfl (lv_at hl 1 rfl) ?_
      refine lv_iload_n hx hb dX1_wrap_20 rfl (lv_at hl 2 rfl) ?_
      refine xw_V (v := xd_res p0) (As := [.int p0]) (rest := []) (ci := 1) ⟨hx, hb, hml, hown, hts⟩ (metX1_into l dC dI h0 h1 h2 k1 k2 σ p0) (cwV 1 hts (lw_V q208 q210 qs12 q16 q211) rfl rfl rfl hdX1_into ⟨Nat.le_of_ble_eq_true rfl, Nat.le_of_ble_eq_true rfl⟩) hK hP 0 rfl rfl rfl hl.1 rfl (Nat.le_of_ble_eq_true rfl) dX1_wrap_21 ⟨Nat.zero_le _, Nat.zero_le _⟩ ?_
      refine lv_if_ne (tgt := 35) hx hb dX1_wrap_24 (by decide) (fun c_14 => ?_) (fun c_14 => ?_)
      · skip
        refine lv_iconst (v := 0) hx hb dX1_wrap_35 (by decide) ?_
        exact xw_top (by simp only [xm_giv, if_neg c_14]) K_36
      · skip
        refine lv_aload_n hx hb dX1_wrap_27 rfl (lv_at hl 1 rfl) ?_
        refine lv_iload_n hx hb dX1_wrap_28 rfl (lv_at hl 3 rfl) ?_
        refine xw_V (v := xd_res p1) (As := [.int p1]) (rest := []) (ci := 1) ⟨hx, hb, hml, hown, hts⟩ (metX1_into l dC dI h0 h1 h2 k1 k2 σ p1) (cwV 1 hts (lw_V q208 q210 qs12 q16 q211) rfl rfl rfl hdX1_into ⟨Nat.le_of_ble_eq_true rfl, Nat.le_of_ble_eq_true rfl⟩) hK hP 0 rfl rfl rfl hl.1 rfl (Nat.le_of_ble_eq_true rfl) dX1_wrap_29 ⟨Nat.zero_le _, Nat.zero_le _⟩ ?_
        refine lv_goto (tgt := 36) hx hb dX1_wrap_32 (by decide) ?_
        exact xw_top (by simp only [xm_giv, if_pos c_14]) K_36
  · skip
    refine lv_aload_n hx hb dX1_wrap_0 rfl (lv_at hl 0 rfl) ?_
    refine lv_iload_n hx hb dX1_wrap_1 rfl (lv_at hl 2 rfl) ?_
    refine xw_V (v := xd_arg p1) (As := [.int p1]) (rest := []) (ci := 1) ⟨hx, hb, hml, hown, hts⟩ (metX1_from l dC dI h0 h1 h2 k1 k2 σ p1) (cwV 1 hts (lw_V q204 q206 qs11 q16 q207) rfl rfl rfl hdX1_from ⟨Nat.le_of_ble_eq_true rfl, Nat.le_of_ble_eq_true rfl⟩) hK hP 0 rfl rfl rfl hl.1 rfl (Nat.le_of_ble_eq_true rfl) dX1_wrap_2 ⟨Nat.zero_le _, Nat.zero_le _⟩ ?_
    refine lv_if_ne (tgt := 16) hx hb dX1_wrap_5 (by decide) (fun c_15 => ?_) (fun c_15 => ?_)
    · skip
      refine lv_iconst (v := 0) hx hb dX1_wrap_16 (by decide) ?_
      exact xw_top (by simp only [xm_asked, if_neg c_15]) K_17
    · skip
      refine lv_aload_n hx hb dX1_wrap_8 rfl (lv_at hl 0 rfl) ?_
      refine lv_iload_n hx hb dX1_wrap_9 rfl (lv_at hl 1 rfl) ?_
      refine xw_V (v := xd_arg p0) (As := [.int p0]) (rest := []) (ci := 1) ⟨hx, hb, hml, hown, hts⟩ (metX1_from l dC dI h0 h1 h2 k1 k2 σ p0) (cwV 1 hts (lw_V q204 q206 qs11 q16 q207) rfl rfl rfl hdX1_from ⟨Nat.le_of_ble_eq_true rfl, Nat.le_of_ble_eq_true rfl⟩) hK hP 0 rfl rfl rfl hl.1 rfl (Nat.le_of_ble_eq_true rfl) dX1_wrap_10 ⟨Nat.zero_le _, Nat.zero_le _⟩ ?_
      refine lv_goto (tgt := 17) hx hb dX1_wrap_13 (by decide) ?_
      exact xw_top (by simp only [xm_asked, if_pos c_15]) K_17
abbrev wsX1_cast : List Cond := ws_ yX1_cast cX1_cast 6 (some .int)
theorem hdX1_cast : yX1_cast.cls = RX1 ∧ yX1_cast.cls ≠ "java/lang/invoke/MethodHandle" ∧ yX1_cast.cls ≠ "java/lang/invoke/VarHandle" ∧ (parseMethodDescriptor yX1_cast.desc).map (fun d => d.parameters.length) = some 2 := by decide +kernel
set_option maxHeartbeats 4000000 in
set_option maxRecDepth 100000 in
theorem metX1_cast (l : Launch) (dC : Nat → ClassId) (dI : Nat → Nat → Nat) (h0 h1 h2 : Nat) (k1 k2 : ClassId) (σ : xd_T) (p0 p1 : Int32) : Met l yX1_cast wsX1_cast ({ frames := 2, cells := 0, slots := 0, locals := 47 }) (va_Pc [.ref h0, .int p0, .int p1] (xw_Wr (dC, dI) vwCl (xm_W h0 h1 h2 k1 k2 σ) [(k1, .int), (k2, .int)])) (xw_M (dC, dI) vwCl (some (.int (xm_castR σ p0 p1))) (xm_W h0 h1 h2 k1 k2 (xm_castS σ p0 p1)) (xw_ad (xm_W h0 h1 h2 k1 k2 σ))) 0 0 (xw_ad (xm_W h0 h1 h2 k1 k2 σ)) := by
  refine Met.ofW (cc := cX1_cast) (maxL := 6) (ret := (some .int)) (by decide) rfl ?_
  intro p e s m args below meth c s₁ B hml hv
  obtain ⟨rfl, hP, hK, hD0⟩ := hv
  have hx := B.exec
  have hb := B.bytes
  have hr := B.returns
  have hts := atoms_spec (ws := wsX1_cast) B.pre
  have hts : ∀ w ∈ lw_all, w.before _ s = true := fun w h => hts w (List.mem_cons_of_mem _ h)
  have hown : s.vm.findClass RX1 = some m.cls := findClass_of_methodNamed B.named
  have hlocks := B.notSynchronized
  have hD := xw_D_self hD0
  generalize xw_ad (xm_W h0 h1 h2 k1 k2 σ) = A at hD ⊢
  have hS : va_S A s.heap s.heap [] := va_S.rf
  have hP : va_P (dC, dI) vwCl [(h0, .inr (1, [.int σ.1, .int σ.2.1, .int σ.2.2.1, .int σ.2.2.2.1, .ref h1, .ref h2, .int σ.2.2.2.2.1, .int σ.2.2.2.2.2.1, .int σ.2.2.2.2.2.2.1])), (h1, .inl (k1, 2, .inl σ.2.2.2.2.2.2.2.1)), (h2, .inl (k2, 2, .inl σ.2.2.2.2.2.2.2.2))] s.heap := hP
  have hD : va_D A [(h0, .inr (1, [.int σ.1, .int σ.2.1, .int σ.2.2.1, .int σ.2.2.2.1, .ref h1, .ref h2, .int σ.2.2.2.2.1, .int σ.2.2.2.2.2.1, .int σ.2.2.2.2.2.2.1])), (h1, .inl (k1, 2, .inl σ.2.2.2.2.2.2.2.1)), (h2, .inl (k2, 2, .inl σ.2.2.2.2.2.2.2.2))] := hD
  have hl := lv_entry ([.ref h0, .int p0, .int p1]) (n := 6) (Nat.le_of_ble_eq_true rfl)
  rw [lg_entry_eq]
  generalize (lg_sl ([.ref h0, .int p0, .int p1]) ++ List.replicate (6 - (lg_sl ([.ref h0, .int p0, .int p1])).length) Slot.unset).toArray = ls at hl ⊢
  have hl : lv_has ls 6 [(0, .ref h0), (1, .int p0), (2, .int p1)] := hl
  refine lv_aload_n hx hb dX1_cast_0 rfl (lv_at hl 0 rfl) ?_
  refine va_get (D := (dC, dI)) (ci := 1) (v := .int σ.1) (C := RX1) (T := TX1) (N := 9) hx hb hts in_X1 hown hK hP 0 rfl rfl 0 (by decide) (hts _ q147) (fun _ h9 => h9) rfl dX1_cast_1 ?_
  refine lv_if_eq (tgt := 30) hx hb dX1_cast_4 (by decide) (fun c_1 => ?_) (fun c_1 => ?_)
  · skip
    refine lv_bipush (v := (-100)) hx hb dX1_cast_30 (by decide) ?_
    have hP9 : va_P (dC, dI) vwCl (xm_W h0 h1 h2 k1 k2 (xm_castS σ p0 p1)) s.heap := by
      rw [show xm_castS σ p0 p1 = σ from by simp only [xm_castR, xm_castS, xm_cw, xm_tyS, xd_flS, if_pos c_1]]
      exact hP
    exact W.iret hx hb hr (fun t ht _ => xw_m (by simp only [xm_castR, xm_castS, xm_cw, xm_tyS, xd_flS, if_pos c_1]) hP9 hS ht) hS.2.2 dX1_cast_32
  · skip
    refine lv_iload_n hx hb dX1_cast_7 rfl (lv_at hl 2 rfl) ?_
    refine lv_iconst (v := 1) hx hb dX1_cast_8 (by decide) ?_
    refine lv_icmp_lt (tgt := 30) hx hb dX1_cast_9 (by decide) (fun c_2 => ?_) (fun c_2 => ?_)
    · skip
      refine lv_bipush (v := (-100)) hx hb dX1_cast_30 (by decide) ?_
      have hP9 : va_P (dC, dI) vwCl (xm_W h0 h1 h2 k1 k2 (xm_castS σ p0 p1)) s.heap := by
        rw [show xm_castS σ p0 p1 = σ from by simp only [xm_castR, xm_castS, xm_cw, xm_tyS, xd_flS, if_neg c_1, if_pos c_2]]
        exact hP
      exact W.iret hx hb hr (fun t ht _ => xw_m (by simp only [xm_castR, xm_castS, xm_cw, xm_tyS, xd_flS, if_neg c_1, if_pos c_2]) hP9 hS ht) hS.2.2 dX1_cast_32
    · skip
      refine lv_iload_n hx hb dX1_cast_12 rfl (lv_at hl 2 rfl) ?_
      refine lv_bipush (v := 9) hx hb dX1_cast_13 (by decide) ?_
      refine lv_icmp_gt (tgt := 30) hx hb dX1_cast_15 (by decide) (fun c_3 => ?_) (fun c_3 => ?_)
      · skip
        refine lv_bipush (v := (-100)) hx hb dX1_cast_30 (by decide) ?_
        have hP9 : va_P (dC, dI) vwCl (xm_W h0 h1 h2 k1 k2 (xm_castS σ p0 p1)) s.heap := by
          rw [show xm_castS σ p0 p1 = σ from by simp only [xm_castR, xm_castS, xm_cw, xm_tyS, xd_flS, if_neg c_1, if_neg c_2, if_pos c_3]]
          exact hP
        exact W.iret hx hb hr (fun t ht _ => xw_m (by simp only [xm_castR, xm_castS, xm_cw, xm_tyS, xd_flS, if_neg c_1, if_neg c_2, if_pos c_3]) hP9 hS ht) hS.2.2 dX1_cast_32
      · skip
        refine lv_aload_n hx hb dX1_cast_18 rfl (lv_at hl 0 rfl) ?_
        refine lv_aload_n hx hb dX1_cast_19 rfl (lv_at hl 0 rfl) ?_
        refine va_get (D := (dC, dI)) (ci := 1) (v := .int σ.2.2.2.1) (C := RX1) (T := TX1) (N := 9) hx hb hts in_X1 hown hK hP 0 rfl rfl 3 (by decide) (hts _ q150) (fun _ h9 => h9) rfl dX1_cast_20 ?_
        refine lv_iload_n hx hb dX1_cast_23 rfl (lv_at hl 1 rfl) ?_
        refine xw_V (v := xm_agree σ.2.2.2.1 p0) (As := [.int σ.2.2.2.1, .int p0]) (rest := []) (ci := 1) ⟨hx, hb, hml, hown, hts⟩ (metX1_agree l dC dI h0 h1 h2 k1 k2 σ σ.2.2.2.1 p0) (cwV 2 hts (lw_V q192 q193 q194 q16 q195) rfl rfl rfl hdX1_agree ⟨Nat.le_of_ble_eq_true rfl, Nat.le_of_ble_eq_true rfl⟩) hK hP 0 rfl rfl rfl hl.1 rfl (Nat.le_of_ble_eq_true rfl) dX1_cast_24 ⟨Nat.zero_le _, Nat.zero_le _⟩ ?_
        refine lv_if_ne (tgt := 33) hx hb dX1_cast_27 (by decide) (fun c_4 => ?_) (fun c_4 => ?_)
        · skip
          refine xw_cut (g2 := F0 m 83 ls [.int (xm_fails σ.2.2.2.1 σ.2.1 p0)]) ?_ (fun K_83 => ?_)
          · skip
            refine lv_istore_n (lv' := [(3, .int (xm_fails σ.2.2.2.1 σ.2.1 p0)), (0, .ref h0), (1, .int p0), (2, .int p1)]) hx hb dX1_cast_83 rfl hl (by decide) rfl (fun ls hl => ?_)
            refine lv_iload_n hx hb dX1_cast_84 rfl (lv_at hl 0 rfl) ?_
            refine lv_if_eq (tgt := 95) hx hb dX1_cast_85 (by decide) (fun c_5 => ?_) (fun c_5 => ?_)
            · skip
              refine xw_cut (g2 := F0 m 120 ls [.int (xm_s σ.2.2.2.1 p0)]) ?_ (fun K_120 => ?_)
              · skip
                refine lv_istore (lv' := [(4, .int (xm_s σ.2.2.2.1 p0)), (3, .int (xm_fails σ.2.2.2.1 σ.2.1 p0)), (0, .ref h0), (1, .int p0), (2, .int p1)]) hx hb dX1_cast_120 hl (by decide) rfl (fun ls hl => ?_)
                refine xw_cut (g2 := F0 m 144 ls [.int (xm_to σ.2.2.2.1 p0)]) ?_ (fun K_144 => ?_)
                · skip
                  refine lv_istore (lv' := [(5, .int (xm_to σ.2.2.2.1 p0)), (4, .int (xm_s σ.2.2.2.1 p0)), (3, .int (xm_fails σ.2.2.2.1 σ.2.1 p0)), (0, .ref h0), (1, .int p0), (2, .int p1)]) hx hb dX1_cast_144 hl (by decide) rfl (fun ls hl => ?_)
                  refine lv_iload hx hb dX1_cast_146 (lv_at hl 1 rfl) ?_
                  refine lv_iconst (v := 3) hx hb dX1_cast_148 (by decide) ?_
                  refine lv_icmp_lt (tgt := 167) hx hb dX1_cast_149 (by decide) (fun c_6 => ?_) (fun c_6 => ?_)
                  · skip
                    refine lv_aload_n hx hb dX1_cast_167 rfl (lv_at hl 3 rfl) ?_
                    refine lv_iload_n hx hb dX1_cast_168 rfl (lv_at hl 4 rfl) ?_
                    refine va_put (D := (dC, dI)) (ci := 1) (v := .int p0) (ty := .int) (C := RX1) (T := TX1) (N := 9) hx hb hts in_X1 tyX1 tyX1_ok nmX1 hown hK hP hD hS 0 rfl rfl 3 (by decide) (hts _ q150) (fun _ h9 => h9) rfl (by decide +kernel) rfl rfl (Nat.le_of_ble_eq_true rfl) dX1_cast_169 (fun H locs hP hD hS => ?_)
                    have hP : va_P (dC, dI) vwCl [(h0, .inr (1, [.int σ.1, .int σ.2.1, .int σ.2.2.1, .int p0, .ref h1, .ref h2, .int σ.2.2.2.2.1, .int σ.2.2.2.2.2.1, .int σ.2.2.2.2.2.2.1])), (h1, .inl (k1, 2, .inl σ.2.2.2.2.2.2.2.1)), (h2, .inl (k2, 2, .inl σ.2.2.2.2.2.2.2.2))] H := hP
                    have hD : va_D A [(h0, .inr (1, [.int σ.1, .int σ.2.1, .int σ.2.2.1, .int p0, .ref h1, .ref h2, .int σ.2.2.2.2.1, .int σ.2.2.2.2.2.1, .int σ.2.2.2.2.2.2.1])), (h1, .inl (k1, 2, .inl σ.2.2.2.2.2.2.2.1)), (h2, .inl (k2, 2, .inl σ.2.2.2.2.2.2.2.2))] := hD
                    refine lv_iconst (v := 0) hx hb dX1_cast_172 (by decide) ?_
                    have hP9 : va_P (dC, dI) vwCl (xm_W h0 h1 h2 k1 k2 (xm_castS σ p0 p1)) H := by
                      rw [show xm_castS σ p0 p1 = (σ.1, σ.2.1, σ.2.2.1, p0, σ.2.2.2.2.1, σ.2.2.2.2.2.1, σ.2.2.2.2.2.2.1, σ.2.2.2.2.2.2.2.1, σ.2.2.2.2.2.2.2.2) from by simp only [xm_castR, xm_castS, xm_cw, xm_tyS, xd_flS, if_neg c_1, if_neg c_2, if_neg c_3, if_neg c_4, if_pos c_5, if_pos c_6]]
                      exact hP
                    exact W.iret hx hb hr (fun t ht _ => xw_m (by simp only [xm_castR, xm_castS, xm_cw, xm_tyS, xd_flS, if_neg c_1, if_neg c_2, if_neg c_3, if_neg c_4, if_pos c_5, if_pos c_6]) hP9 hS ht) hS.2.2 dX1_cast_173
                  · skip
                    refine lv_iload hx hb dX1_cast_152 (lv_at hl 0 rfl) ?_
                    refine lv_iconst (v := 3) hx hb dX1_cast_154 (by decide) ?_
                    refine lv_icmp_lt (tgt := 167) hx hb dX1_cast_155 (by decide) (fun c_7 => ?_) (fun c_7 => ?_)
                    · skip
                      refine lv_aload_n hx hb dX1_cast_167 rfl (lv_at hl 3 rfl) ?_
                      refine lv_iload_n hx hb dX1_cast_168 rfl (lv_at hl 4 rfl) ?_
                      refine va_put (D := (dC, dI)) (ci := 1) (v := .int p0) (ty := .int) (C := RX1) (T := TX1) (N := 9) hx hb hts in_X1 tyX1 tyX1_ok nmX1 hown hK hP hD hS 0 rfl rfl 3 (by decide) (hts _ q150) (fun _ h9 => h9) rfl (by decide +kernel) rfl rfl (Nat.le_of_ble_eq_true rfl) dX1_cast_169 (fun H locs hP hD hS => ?_)
                      have hP : va_P (dC, dI) vwCl [(h0, .inr (1, [.int σ.1, .int σ.2.1, .int σ.2.2.1, .int p0, .ref h1, .ref h2, .int σ.2.2.2.2.1, .int σ.2.2.2.2.2.1, .int σ.2.2.2.2.2.2.1])), (h1, .inl (k1, 2, .inl σ.2.2.2.2.2.2.2.1)), (h2, .inl (k2, 2, .inl σ.2.2.2.2.2.2.2.2))] H := hP
                      have hD : va_D A [(h0, .inr (1, [.int σ.1, .int σ.2.1, .int σ.2.2.1, .int p0, .ref h1, .ref h2, .int σ.2.2.2.2.1, .int σ.2.2.2.2.2.1, .int σ.2.2.2.2.2.2.1])), (h1, .inl (k1, 2, .inl σ.2.2.2.2.2.2.2.1)), (h2, .inl (k2, 2, .inl σ.2.2.2.2.2.2.2.2))] := hD
                      refine lv_iconst (v := 0) hx hb dX1_cast_172 (by decide) ?_
                      have hP9 : va_P (dC, dI) vwCl (xm_W h0 h1 h2 k1 k2 (xm_castS σ p0 p1)) H := by
                        rw [show xm_castS σ p0 p1 = (σ.1, σ.2.1, σ.2.2.1, p0, σ.2.2.2.2.1, σ.2.2.2.2.2.1, σ.2.2.2.2.2.2.1, σ.2.2.2.2.2.2.2.1, σ.2.2.2.2.2.2.2.2) from by simp only [xm_castR, xm_castS, xm_cw, xm_tyS, xd_flS, if_neg c_1, if_neg c_2, if_neg c_3, if_neg c_4, if_pos c_5, if_neg c_6, if_pos c_7]]
                        exact hP
                      exact W.iret hx hb hr (fun t ht _ => xw_m (by simp only [xm_castR, xm_castS, xm_cw, xm_tyS, xd_flS, if_neg c_1, if_neg c_2, if_neg c_3, if_neg c_4, if_pos c_5, if_neg c_6, if_pos c_7]) hP9 hS ht) hS.2.2 dX1_cast_173
                    · skip
                      refine lv_aload_n hx hb dX1_cast_158 rfl (lv_at hl 3 rfl) ?_
                      refine lv_iload hx hb dX1_cast_159 (lv_at hl 1 rfl) ?_
                      refine lv_iload hx hb dX1_cast_161 (lv_at hl 0 rfl) ?_
                      refine lv_iload_n hx hb dX1_cast_163 rfl (lv_at hl 5 rfl) ?_
                      refine xw_U (rv := none) (As := [.int (xm_s σ.2.2.2.1 p0), .int (xm_to σ.2.2.2.1 p0), .int p1]) (rest := []) (ci := 1) ⟨hx, hb, hml, hown, hts⟩ (metX1_wrap l dC dI h0 h1 h2 k1 k2 σ (xm_s σ.2.2.2.1 p0) (xm_to σ.2.2.2.1 p0) p1) (cwV 3 hts (lw_V q212 q214 qs13 q16 q215) rfl rfl rfl hdX1_wrap ⟨Nat.le_of_ble_eq_true rfl, Nat.le_of_ble_eq_true rfl⟩) [] [] hK hP hD hS rfl 0 rfl rfl rfl hl.1 rfl (Nat.le_of_ble_eq_true rfl) dX1_cast_164 ⟨Nat.zero_le _, Nat.zero_le _⟩ (fun H locs hP hD hS => ?_)
                      obtain ⟨τ8, e_8⟩ : ∃ τ : xd_T, τ = xm_wrS σ (xm_s σ.2.2.2.1 p0) (xm_to σ.2.2.2.1 p0) p1 := ⟨_, rfl⟩
                      have hP : va_P (dC, dI) vwCl (xm_W h0 h1 h2 k1 k2 τ8) H := by rw [e_8]; exact hP
                      have hD : va_D A (xm_W h0 h1 h2 k1 k2 τ8) := by rw [e_8]; exact hD
                      have hP : va_P (dC, dI) vwCl [(h0, .inr (1, [.int τ8.1, .int τ8.2.1, .int τ8.2.2.1, .int τ8.2.2.2.1, .ref h1, .ref h2, .int τ8.2.2.2.2.1, .int τ8.2.2.2.2.2.1, .int τ8.2.2.2.2.2.2.1])), (h1, .inl (k1, 2, .inl τ8.2.2.2.2.2.2.2.1)), (h2, .inl (k2, 2, .inl τ8.2.2.2.2.2.2.2.2))] H := hP
                      have hD : va_D A [(h0, .inr (1, [.int τ8.1, .int τ8.2.1, .int τ8.2.2.1, .int τ8.2.2.2.1, .ref h1, .ref h2, .int τ8.2.2.2.2.1, .int τ8.2.2.2.2.2.1, .int τ8.2.2.2.2.2.2.1])), (h1, .inl (k1, 2, .inl τ8.2.2.2.2.2.2.2.1)), (h2, .inl (k2, 2, .inl τ8.2.2.2.2.2.2.2.2))] := hD
                      refine W.eq (g2 := F0 m 167 ls []) rfl ?_
                      refine lv_aload_n hx hb dX1_cast_167 rfl (lv_at hl 3 rfl) ?_
                      refine lv_iload_n hx hb dX1_cast_168 rfl (lv_at hl 4 rfl) ?_
                      refine va_put (D := (dC, dI)) (ci := 1) (v := .int p0) (ty := .int) (C := RX1) (T := TX1) (N := 9) hx hb hts in_X1 tyX1 tyX1_ok nmX1 hown hK hP hD hS 0 rfl rfl 3 (by decide) (hts _ q150) (fun _ h9 => h9) rfl (by decide +kernel) rfl rfl (Nat.le_of_ble_eq_true rfl) dX1_cast_169 (fun H locs hP hD hS => ?_)
                      have hP : va_P (dC, dI) vwCl [(h0, .inr (1, [.int τ8.1, .int τ8.2.1, .int τ8.2.2.1, .int p0, .ref h1, .ref h2, .int τ8.2.2.2.2.1, .int τ8.2.2.2.2.2.1, .int τ8.2.2.2.2.2.2.1])), (h1, .inl (k1, 2, .inl τ8.2.2.2.2.2.2.2.1)), (h2, .inl (k2, 2, .inl τ8.2.2.2.2.2.2.2.2))] H := hP
                      have hD : va_D A [(h0, .inr (1, [.int τ8.1, .int τ8.2.1, .int τ8.2.2.1, .int p0, .ref h1, .ref h2, .int τ8.2.2.2.2.1, .int τ8.2.2.2.2.2.1, .int τ8.2.2.2.2.2.2.1])), (h1, .inl (k1, 2, .inl τ8.2.2.2.2.2.2.2.1)), (h2, .inl (k2, 2, .inl τ8.2.2.2.2.2.2.2.2))] := hD
                      refine lv_iconst (v := 0) hx hb dX1_cast_172 (by decide) ?_
                      have hP9 : va_P (dC, dI) vwCl (xm_W h0 h1 h2 k1 k2 (xm_castS σ p0 p1)) H := by
                        rw [show xm_castS σ p0 p1 = (τ8.1, τ8.2.1, τ8.2.2.1, p0, τ8.2.2.2.2.1, τ8.2.2.2.2.2.1, τ8.2.2.2.2.2.2.1, τ8.2.2.2.2.2.2.2.1, τ8.2.2.2.2.2.2.2.2) from by simp only [xm_castR, xm_castS, xm_cw, xm_tyS, xd_flS, if_neg c_1, if_neg c_2, if_neg c_3, if_neg c_4, if_pos c_5, if_neg c_6, if_neg c_7, e_8]]
                        exact hP
                      exact W.iret hx hb hr (fun t ht _ => xw_m (by simp only [xm_castR, xm_castS, xm_cw, xm_tyS, xd_flS, if_neg c_1, if_neg c_2, if_neg c_3, if_neg c_4, if_pos c_5, if_neg c_6, if_neg c_7, e_8]) hP9 hS ht) hS.2.2 dX1_cast_173
                · skip
                  refine lv_aload_n hx hb dX1_cast_122 rfl (lv_at hl 2 rfl) ?_
                  refine va_get (D := (dC, dI)) (ci := 1) (v := .int σ.2.2.2.1) (C := RX1) (T := TX1) (N := 9) hx hb hts in_X1 hown hK hP 0 rfl rfl 3 (by decide) (hts _ q150) (fun _ h9 => h9) rfl dX1_cast_123 ?_
                  refine lv_iconst (v := 3) hx hb dX1_cast_126 (by decide) ?_
                  refine lv_icmp_lt (tgt := 143) hx hb dX1_cast_127 (by decide) (fun c_9 => ?_) (fun c_9 => ?_)
                  · skip
                    refine lv_iload_n hx hb dX1_cast_143 rfl (lv_at hl 3 rfl) ?_
                    exact xw_top (by simp only [xm_to, if_neg c_1, if_neg c_2, if_neg c_3, if_neg c_4, if_pos c_5, if_pos c_9]) K_144
                  · skip
                    refine lv_iload_n hx hb dX1_cast_130 rfl (lv_at hl 3 rfl) ?_
                    refine lv_if_ne (tgt := 143) hx hb dX1_cast_131 (by decide) (fun c_10 => ?_) (fun c_10 => ?_)
                    · skip
                      refine lv_iload_n hx hb dX1_cast_143 rfl (lv_at hl 3 rfl) ?_
                      exact xw_top (by simp only [xm_to, if_neg c_1, if_neg c_2, if_neg c_3, if_neg c_4, if_pos c_5, if_neg c_9, if_neg c_10]) K_144
                    · skip
                      refine lv_aload_n hx hb dX1_cast_134 rfl (lv_at hl 2 rfl) ?_
                      refine lv_iconst (v := 0) hx hb dX1_cast_135 (by decide) ?_
                      refine lv_iconst (v := 0) hx hb dX1_cast_136 (by decide) ?_
                      refine xw_V (v := xm_arrow 0 0) (As := [.int 0, .int 0]) (rest := []) (ci := 1) ⟨hx, hb, hml, hown, hts⟩ (metX1_arrow l dC dI h0 h1 h2 k1 k2 σ 0 0) (cwV 2 hts (lw_V q184 q186 qs8 q16 q187) rfl rfl rfl hdX1_arrow ⟨Nat.le_of_ble_eq_true rfl, Nat.le_of_ble_eq_true rfl⟩) hK hP 0 rfl rfl rfl hl.1 rfl (Nat.le_of_ble_eq_true rfl) dX1_cast_137 ⟨Nat.zero_le _, Nat.zero_le _⟩ ?_
                      refine lv_goto (tgt := 144) hx hb dX1_cast_140 (by decide) ?_
                      exact xw_top (by simp only [xm_to, if_neg c_1, if_neg c_2, if_neg c_3, if_neg c_4, if_pos c_5, if_neg c_9, if_pos c_10]) K_144
              · skip
                refine lv_aload_n hx hb dX1_cast_95 rfl (lv_at hl 1 rfl) ?_
                refine va_get (D := (dC, dI)) (ci := 1) (v := .int σ.2.2.2.1) (C := RX1) (T := TX1) (N := 9) hx hb hts in_X1 hown hK hP 0 rfl rfl 3 (by decide) (hts _ q150) (fun _ h9 => h9) rfl dX1_cast_96 ?_
                refine lv_if_ne (tgt := 116) hx hb dX1_cast_99 (by decide) (fun c_11 => ?_) (fun c_11 => ?_)
                · skip
                  refine lv_aload_n hx hb dX1_cast_116 rfl (lv_at hl 1 rfl) ?_
                  refine va_get (D := (dC, dI)) (ci := 1) (v := .int σ.2.2.2.1) (C := RX1) (T := TX1) (N := 9) hx hb hts in_X1 hown hK hP 0 rfl rfl 3 (by decide) (hts _ q150) (fun _ h9 => h9) rfl dX1_cast_117 ?_
                  exact xw_top (by simp only [xm_s, if_neg c_1, if_neg c_2, if_neg c_3, if_neg c_4, if_pos c_5, if_neg c_11]) K_120
                · skip
                  refine lv_iload_n hx hb dX1_cast_102 rfl (lv_at hl 2 rfl) ?_
                  refine lv_iconst (v := 3) hx hb dX1_cast_103 (by decide) ?_
                  refine lv_icmp_lt (tgt := 116) hx hb dX1_cast_104 (by decide) (fun c_12 => ?_) (fun c_12 => ?_)
                  · skip
                    refine lv_aload_n hx hb dX1_cast_116 rfl (lv_at hl 1 rfl) ?_
                    refine va_get (D := (dC, dI)) (ci := 1) (v := .int σ.2.2.2.1) (C := RX1) (T := TX1) (N := 9) hx hb hts in_X1 hown hK hP 0 rfl rfl 3 (by decide) (hts _ q150) (fun _ h9 => h9) rfl dX1_cast_117 ?_
                    exact xw_top (by simp only [xm_s, if_neg c_1, if_neg c_2, if_neg c_3, if_neg c_4, if_pos c_5, if_pos c_11, if_pos c_12]) K_120
                  · skip
                    refine lv_aload_n hx hb dX1_cast_107 rfl (lv_at hl 1 rfl) ?_
                    refine lv_iconst (v := 0) hx hb dX1_cast_108 (by decide) ?_
                    refine lv_iconst (v := 0) hx hb dX1_cast_109 (by decide) ?_
                    refine xw_V (v := xm_arrow 0 0) (As := [.int 0, .int 0]) (rest := []) (ci := 1) ⟨hx, hb, hml, hown, hts⟩ (metX1_arrow l dC dI h0 h1 h2 k1 k2 σ 0 0) (cwV 2 hts (lw_V q184 q186 qs8 q16 q187) rfl rfl rfl hdX1_arrow ⟨Nat.le_of_ble_eq_true rfl, Nat.le_of_ble_eq_true rfl⟩) hK hP 0 rfl rfl rfl hl.1 rfl (Nat.le_of_ble_eq_true rfl) dX1_cast_110 ⟨Nat.zero_le _, Nat.zero_le _⟩ ?_
                    refine lv_goto (tgt := 120) hx hb dX1_cast_113 (by decide) ?_
                    exact xw_top (by simp only [xm_s, if_neg c_1, if_neg c_2, if_neg c_3, if_neg c_4, if_pos c_5, if_pos c_11, if_neg c_12]) K_120
            · skip
              refine lv_aload_n hx hb dX1_cast_88 rfl (lv_at hl 1 rfl) ?_
              refine lv_iconst (v := 0) hx hb dX1_cast_89 (by decide) ?_
              refine va_put (D := (dC, dI)) (ci := 1) (v := .int 0) (ty := .boolean) (C := RX1) (T := TX1) (N := 9) hx hb hts in_X1 tyX1 tyX1_ok nmX1 hown hK hP hD hS 0 rfl rfl 0 (by decide) (hts _ q147) (fun _ h9 => h9) rfl (by decide +kernel) rfl rfl (Nat.le_of_ble_eq_true rfl) dX1_cast_90 (fun H locs hP hD hS => ?_)
              have hP : va_P (dC, dI) vwCl [(h0, .inr (1, [.int 0, .int σ.2.1, .int σ.2.2.1, .int σ.2.2.2.1, .ref h1, .ref h2, .int σ.2.2.2.2.1, .int σ.2.2.2.2.2.1, .int σ.2.2.2.2.2.2.1])), (h1, .inl (k1, 2, .inl σ.2.2.2.2.2.2.2.1)), (h2, .inl (k2, 2, .inl σ.2.2.2.2.2.2.2.2))] H := hP
              have hD : va_D A [(h0, .inr (1, [.int 0, .int σ.2.1, .int σ.2.2.1, .int σ.2.2.2.1, .ref h1, .ref h2, .int σ.2.2.2.2.1, .int σ.2.2.2.2.2.1, .int σ.2.2.2.2.2.2.1])), (h1, .inl (k1, 2, .inl σ.2.2.2.2.2.2.2.1)), (h2, .inl (k2, 2, .inl σ.2.2.2.2.2.2.2.2))] := hD
              refine lv_iload_n hx hb dX1_cast_93 rfl (lv_at hl 3 rfl) ?_
              have hP9 : va_P (dC, dI) vwCl (xm_W h0 h1 h2 k1 k2 (xm_castS σ p0 p1)) H := by
                rw [show xm_castS σ p0 p1 = (0, σ.2.1, σ.2.2.1, σ.2.2.2.1, σ.2.2.2.2.1, σ.2.2.2.2.2.1, σ.2.2.2.2.2.2.1, σ.2.2.2.2.2.2.2.1, σ.2.2.2.2.2.2.2.2) from by simp only [xm_castR, xm_castS, xm_cw, xm_tyS, xd_flS, if_neg c_1, if_neg c_2, if_neg c_3, if_neg c_4, if_neg c_5]]
                exact hP
              exact W.iret hx hb hr (fun t ht _ => xw_m (by simp only [xm_castR, xm_castS, xm_cw, xm_tyS, xd_flS, if_neg c_1, if_neg c_2, if_neg c_3, if_neg c_4, if_neg c_5]) hP9 hS ht) hS.2.2 dX1_cast_94
          · skip
            refine lv_aload_n hx hb dX1_cast_33 rfl (lv_at hl 0 rfl) ?_
            refine va_get (D := (dC, dI)) (ci := 1) (v := .int σ.2.2.2.1) (C := RX1) (T := TX1) (N := 9) hx hb hts in_X1 hown hK hP 0 rfl rfl 3 (by decide) (hts _ q150) (fun _ h9 => h9) rfl dX1_cast_34 ?_
            refine lv_if_ne (tgt := 82) hx hb dX1_cast_37 (by decide) (fun c_13 => ?_) (fun c_13 => ?_)
            · skip
              refine lv_iconst (v := 0) hx hb dX1_cast_82 (by decide) ?_
              exact xw_top (by simp only [xm_fails, xm_f2, xm_f3, if_neg c_1, if_neg c_2, if_neg c_3, if_neg c_4, if_neg c_13]) K_83
            · skip
              refine lv_iload_n hx hb dX1_cast_40 rfl (lv_at hl 1 rfl) ?_
              refine lv_iconst (v := 1) hx hb dX1_cast_41 (by decide) ?_
              refine lv_icmp_ne (tgt := 52) hx hb dX1_cast_42 (by decide) (fun c_14 => ?_) (fun c_14 => ?_)
              · skip
                refine lv_iload_n hx hb dX1_cast_52 rfl (lv_at hl 1 rfl) ?_
                refine lv_iconst (v := 2) hx hb dX1_cast_53 (by decide) ?_
                refine lv_icmp_ne (tgt := 65) hx hb dX1_cast_54 (by decide) (fun c_15 => ?_) (fun c_15 => ?_)
                · skip
                  refine lv_iload_n hx hb dX1_cast_65 rfl (lv_at hl 1 rfl) ?_
                  refine lv_iconst (v := 3) hx hb dX1_cast_66 (by decide) ?_
                  refine lv_icmp_lt (tgt := 82) hx hb dX1_cast_67 (by decide) (fun c_16 => ?_) (fun c_16 => ?_)
                  · skip
                    refine lv_iconst (v := 0) hx hb dX1_cast_82 (by decide) ?_
                    exact xw_top (by simp only [xm_fails, xm_f2, xm_f3, if_neg c_1, if_neg c_2, if_neg c_3, if_neg c_4, if_pos c_13, if_neg c_14, if_neg c_15, if_pos c_16]) K_83
                  · skip
                    refine lv_aload_n hx hb dX1_cast_70 rfl (lv_at hl 0 rfl) ?_
                    refine va_get (D := (dC, dI)) (ci := 1) (v := .int σ.2.1) (C := RX1) (T := TX1) (N := 9) hx hb hts in_X1 hown hK hP 0 rfl rfl 1 (by decide) (hts _ q148) (fun _ h9 => h9) rfl dX1_cast_71 ?_
                    refine lv_iconst (v := 2) hx hb dX1_cast_74 (by decide) ?_
                    refine lv_icmp_eq (tgt := 82) hx hb dX1_cast_75 (by decide) (fun c_17 => ?_) (fun c_17 => ?_)
                    · skip
                      refine lv_iconst (v := 0) hx hb dX1_cast_82 (by decide) ?_
                      exact xw_top (by simp only [xm_fails, xm_f2, xm_f3, if_neg c_1, if_neg c_2, if_neg c_3, if_neg c_4, if_pos c_13, if_neg c_14, if_neg c_15, if_neg c_16, if_pos c_17]) K_83
                    · skip
                      refine lv_iconst (v := 1) hx hb dX1_cast_78 (by decide) ?_
                      refine lv_goto (tgt := 83) hx hb dX1_cast_79 (by decide) ?_
                      exact xw_top (by simp only [xm_fails, xm_f2, xm_f3, if_neg c_1, if_neg c_2, if_neg c_3, if_neg c_4, if_pos c_13, if_neg c_14, if_neg c_15, if_neg c_16, if_neg c_17]) K_83
                · skip
                  refine lv_aload_n hx hb dX1_cast_57 rfl (lv_at hl 0 rfl) ?_
                  refine va_get (D := (dC, dI)) (ci := 1) (v := .int σ.2.1) (C := RX1) (T := TX1) (N := 9) hx hb hts in_X1 hown hK hP 0 rfl rfl 1 (by decide) (hts _ q148) (fun _ h9 => h9) rfl dX1_cast_58 ?_
                  refine lv_iconst (v := 1) hx hb dX1_cast_61 (by decide) ?_
                  refine lv_icmp_ne (tgt := 78) hx hb dX1_cast_62 (by decide) (fun c_18 => ?_) (fun c_18 => ?_)
                  · skip
                    refine lv_iconst (v := 1) hx hb dX1_cast_78 (by decide) ?_
                    refine lv_goto (tgt := 83) hx hb dX1_cast_79 (by decide) ?_
                    exact xw_top (by simp only [xm_fails, xm_f2, xm_f3, if_neg c_1, if_neg c_2, if_neg c_3, if_neg c_4, if_pos c_13, if_neg c_14, if_pos c_15, if_neg c_18]) K_83
                  · skip
                    refine lv_iload_n hx hb dX1_cast_65 rfl (lv_at hl 1 rfl) ?_
                    refine lv_iconst (v := 3) hx hb dX1_cast_66 (by decide) ?_
                    refine lv_icmp_lt (tgt := 82) hx hb dX1_cast_67 (by decide) (fun c_19 => ?_) (fun c_19 => ?_)
                    · skip
                      refine lv_iconst (v := 0) hx hb dX1_cast_82 (by decide) ?_
                      exact xw_top (by simp only [xm_fails, xm_f2, xm_f3, if_neg c_1, if_neg c_2, if_neg c_3, if_neg c_4, if_pos c_13, if_neg c_14, if_pos c_15, if_pos c_18, if_pos c_19]) K_83
                    · skip
                      refine lv_aload_n hx hb dX1_cast_70 rfl (lv_at hl 0 rfl) ?_
                      refine va_get (D := (dC, dI)) (ci := 1) (v := .int σ.2.1) (C := RX1) (T := TX1) (N := 9) hx hb hts in_X1 hown hK hP 0 rfl rfl 1 (by decide) (hts _ q148) (fun _ h9 => h9) rfl dX1_cast_71 ?_
                      refine lv_iconst (v := 2) hx hb dX1_cast_74 (by decide) ?_
                      refine lv_icmp_eq (tgt := 82) hx hb dX1_cast_75 (by decide) (fun c_20 => ?_) (fun c_20 => ?_)
                      · skip
                        refine lv_iconst (v := 0) hx hb dX1_cast_82 (by decide) ?_
                        exact xw_top (by simp only [xm_fails, xm_f2, xm_f3, if_neg c_1, if_neg c_2, if_neg c_3, if_neg c_4, if_pos c_13, if_neg c_14, if_pos c_15, if_pos c_18, if_neg c_19, if_pos c_20]) K_83
                      · skip
                        refine lv_iconst (v := 1) hx hb dX1_cast_78 (by decide) ?_
                        refine lv_goto (tgt := 83) hx hb dX1_cast_79 (by decide) ?_
                        exact xw_top (by simp only [xm_fails, xm_f2, xm_f3, if_neg c_1, if_neg c_2, if_neg c_3, if_neg c_4, if_pos c_13, if_neg c_14, if_pos c_15, if_pos c_18, if_neg c_19, if_neg c_20]) K_83
              · skip
                refine lv_aload_n hx hb dX1_cast_45 rfl (lv_at hl 0 rfl) ?_
                refine va_get (D := (dC, dI)) (ci := 1) (v := .int σ.2.1) (C := RX1) (T := TX1) (N := 9) hx hb hts in_X1 hown hK hP 0 rfl rfl 1 (by decide) (hts _ q148) (fun _ h9 => h9) rfl dX1_cast_46 ?_
                refine lv_if_ne (tgt := 78) hx hb dX1_cast_49 (by decide) (fun c_21 => ?_) (fun c_21 => ?_)
                · skip
                  refine lv_iconst (v := 1) hx hb dX1_cast_78 (by decide) ?_
                  refine lv_goto (tgt := 83) hx hb dX1_cast_79 (by decide) ?_
                  exact xw_top (by simp only [xm_fails, xm_f2, xm_f3, if_neg c_1, if_neg c_2, if_neg c_3, if_neg c_4, if_pos c_13, if_pos c_14, if_neg c_21]) K_83
                · skip
                  refine lv_iload_n hx hb dX1_cast_52 rfl (lv_at hl 1 rfl) ?_
                  refine lv_iconst (v := 2) hx hb dX1_cast_53 (by decide) ?_
                  refine lv_icmp_ne (tgt := 65) hx hb dX1_cast_54 (by decide) (fun c_22 => ?_) (fun c_22 => ?_)
                  · skip
                    refine lv_iload_n hx hb dX1_cast_65 rfl (lv_at hl 1 rfl) ?_
                    refine lv_iconst (v := 3) hx hb dX1_cast_66 (by decide) ?_
                    refine lv_icmp_lt (tgt := 82) hx hb dX1_cast_67 (by decide) (fun c_23 => ?_) (fun c_23 => ?_)
                    · skip
                      refine lv_iconst (v := 0) hx hb dX1_cast_82 (by decide) ?_
                      exact xw_top (by simp only [xm_fails, xm_f2, xm_f3, if_neg c_1, if_neg c_2, if_neg c_3, if_neg c_4, if_pos c_13, if_pos c_14, if_pos c_21, if_neg c_22, if_pos c_23]) K_83
                    · skip
                      refine lv_aload_n hx hb dX1_cast_70 rfl (lv_at hl 0 rfl) ?_
                      refine va_get (D := (dC, dI)) (ci := 1) (v := .int σ.2.1) (C := RX1) (T := TX1) (N := 9) hx hb hts in_X1 hown hK hP 0 rfl rfl 1 (by decide) (hts _ q148) (fun _ h9 => h9) rfl dX1_cast_71 ?_
                      refine lv_iconst (v := 2) hx hb dX1_cast_74 (by decide) ?_
                      refine lv_icmp_eq (tgt := 82) hx hb dX1_cast_75 (by decide) (fun c_24 => ?_) (fun c_24 => ?_)
                      · skip
                        refine lv_iconst (v := 0) hx hb dX1_cast_82 (by decide) ?_
                        exact xw_top (by simp only [xm_fails, xm_f2, xm_f3, if_neg c_1, if_neg c_2, if_neg c_3, if_neg c_4, if_pos c_13, if_pos c_14, if_pos c_21, if_neg c_22, if_neg c_23, if_pos c_24]) K_83
                      · skip
                        refine lv_iconst (v := 1) hx hb dX1_cast_78 (by decide) ?_
                        refine lv_goto (tgt := 83) hx hb dX1_cast_79 (by decide) ?_
                        exact xw_top (by simp only [xm_fails, xm_f2, xm_f3, if_neg c_1, if_neg c_2, if_neg c_3, if_neg c_4, if_pos c_13, if_pos c_14, if_pos c_21, if_neg c_22, if_neg c_23, if_neg c_24]) K_83
                  · skip
                    refine lv_aload_n hx hb dX1_cast_57 rfl (lv_at hl 0 rfl) ?_
                    refine va_get (D := (dC, dI)) (ci := 1) (v := .int σ.2.1) (C := RX1) (T := TX1) (N := 9) hx hb hts in_X1 hown hK hP 0 rfl rfl 1 (by decide) (hts _ q148) (fun _ h9 => h9) rfl dX1_cast_58 ?_
                    refine lv_iconst (v := 1) hx hb dX1_cast_61 (by decide) ?_
                    refine lv_icmp_ne (tgt := 78) hx hb dX1_cast_62 (by decide) (fun c_25 => ?_) (fun c_25 => ?_)
                    · skip
                      refine lv_iconst (v := 1) hx hb dX1_cast_78 (by decide) ?_
                      refine lv_goto (tgt := 83) hx hb dX1_cast_79 (by decide) ?_
                      exact xw_top (by simp only [xm_fails, xm_f2, xm_f3, if_neg c_1, if_neg c_2, if_neg c_3, if_neg c_4, if_pos c_13, if_pos c_14, if_pos c_21, if_pos c_22, if_neg c_25]) K_83
                    · skip
                      refine lv_iload_n hx hb dX1_cast_65 rfl (lv_at hl 1 rfl) ?_
                      refine lv_iconst (v := 3) hx hb dX1_cast_66 (by decide) ?_
                      refine lv_icmp_lt (tgt := 82) hx hb dX1_cast_67 (by decide) (fun c_26 => ?_) (fun c_26 => ?_)
                      · skip
                        refine lv_iconst (v := 0) hx hb dX1_cast_82 (by decide) ?_
                        exact xw_top (by simp only [xm_fails, xm_f2, xm_f3, if_neg c_1, if_neg c_2, if_neg c_3, if_neg c_4, if_pos c_13, if_pos c_14, if_pos c_21, if_pos c_22, if_pos c_25, if_pos c_26]) K_83
                      · skip
                        refine lv_aload_n hx hb dX1_cast_70 rfl (lv_at hl 0 rfl) ?_
                        refine va_get (D := (dC, dI)) (ci := 1) (v := .int σ.2.1) (C := RX1) (T := TX1) (N := 9) hx hb hts in_X1 hown hK hP 0 rfl rfl 1 (by decide) (hts _ q148) (fun _ h9 => h9) rfl dX1_cast_71 ?_
                        refine lv_iconst (v := 2) hx hb dX1_cast_74 (by decide) ?_
                        refine lv_icmp_eq (tgt := 82) hx hb dX1_cast_75 (by decide) (fun c_27 => ?_) (fun c_27 => ?_)
                        · skip
                          refine lv_iconst (v := 0) hx hb dX1_cast_82 (by decide) ?_
                          exact xw_top (by simp only [xm_fails, xm_f2, xm_f3, if_neg c_1, if_neg c_2, if_neg c_3, if_neg c_4, if_pos c_13, if_pos c_14, if_pos c_21, if_pos c_22, if_pos c_25, if_neg c_26, if_pos c_27]) K_83
                        · skip
                          refine lv_iconst (v := 1) hx hb dX1_cast_78 (by decide) ?_
                          refine lv_goto (tgt := 83) hx hb dX1_cast_79 (by decide) ?_
                          exact xw_top (by simp only [xm_fails, xm_f2, xm_f3, if_neg c_1, if_neg c_2, if_neg c_3, if_neg c_4, if_pos c_13, if_pos c_14, if_pos c_21, if_pos c_22, if_pos c_25, if_neg c_26, if_neg c_27]) K_83
        · skip
          refine lv_bipush (v := (-100)) hx hb dX1_cast_30 (by decide) ?_
          have hP9 : va_P (dC, dI) vwCl (xm_W h0 h1 h2 k1 k2 (xm_castS σ p0 p1)) s.heap := by
            rw [show xm_castS σ p0 p1 = σ from by simp only [xm_castR, xm_castS, xm_cw, xm_tyS, xd_flS, if_neg c_1, if_neg c_2, if_neg c_3, if_pos c_4]]
            exact hP
          exact W.iret hx hb hr (fun t ht _ => xw_m (by simp only [xm_castR, xm_castS, xm_cw, xm_tyS, xd_flS, if_neg c_1, if_neg c_2, if_neg c_3, if_pos c_4]) hP9 hS ht) hS.2.2 dX1_cast_32
abbrev wsX1_call : List Cond := ws_ yX1_call cX1_call 6 (some .int)
theorem hdX1_call : yX1_call.cls = RX1 ∧ yX1_call.cls ≠ "java/lang/invoke/MethodHandle" ∧ yX1_call.cls ≠ "java/lang/invoke/VarHandle" ∧ (parseMethodDescriptor yX1_call.desc).map (fun d => d.parameters.length) = some 2 := by decide +kernel
set_option maxHeartbeats 4000000 in
set_option maxRecDepth 100000 in
theorem metX1_call (l : Launch) (dC : Nat → ClassId) (dI : Nat → Nat → Nat) (h0 h1 h2 : Nat) (k1 k2 : ClassId) (σ : xd_T) (p0 p1 : Int32) : Met l yX1_call wsX1_call ({ frames := 1, cells := 0, slots := 0, locals := 21 }) (va_Pc [.ref h0, .int p0, .int p1] (xw_Wr (dC, dI) vwCl (xm_W h0 h1 h2 k1 k2 σ) [(k1, .int), (k2, .int)])) (xw_M (dC, dI) vwCl (some (.int (xm_callR σ p0 p1))) (xm_W h0 h1 h2 k1 k2 (xm_callS σ p0 p1)) (xw_ad (xm_W h0 h1 h2 k1 k2 σ))) 0 0 (xw_ad (xm_W h0 h1 h2 k1 k2 σ)) := by
  refine Met.ofW (cc := cX1_call) (maxL := 6) (ret := (some .int)) (by decide) rfl ?_
  intro p e s m args below meth c s₁ B hml hv
  obtain ⟨rfl, hP, hK, hD0⟩ := hv
  have hx := B.exec
  have hb := B.bytes
  have hr := B.returns
  have hts := atoms_spec (ws := wsX1_call) B.pre
  have hts : ∀ w ∈ lw_all, w.before _ s = true := fun w h => hts w (List.mem_cons_of_mem _ h)
  have hown : s.vm.findClass RX1 = some m.cls := findClass_of_methodNamed B.named
  have hlocks := B.notSynchronized
  have hD := xw_D_self hD0
  generalize xw_ad (xm_W h0 h1 h2 k1 k2 σ) = A at hD ⊢
  have hS : va_S A s.heap s.heap [] := va_S.rf
  have hP : va_P (dC, dI) vwCl [(h0, .inr (1, [.int σ.1, .int σ.2.1, .int σ.2.2.1, .int σ.2.2.2.1, .ref h1, .ref h2, .int σ.2.2.2.2.1, .int σ.2.2.2.2.2.1, .int σ.2.2.2.2.2.2.1])), (h1, .inl (k1, 2, .inl σ.2.2.2.2.2.2.2.1)), (h2, .inl (k2, 2, .inl σ.2.2.2.2.2.2.2.2))] s.heap := hP
  have hD : va_D A [(h0, .inr (1, [.int σ.1, .int σ.2.1, .int σ.2.2.1, .int σ.2.2.2.1, .ref h1, .ref h2, .int σ.2.2.2.2.1, .int σ.2.2.2.2.2.1, .int σ.2.2.2.2.2.2.1])), (h1, .inl (k1, 2, .inl σ.2.2.2.2.2.2.2.1)), (h2, .inl (k2, 2, .inl σ.2.2.2.2.2.2.2.2))] := hD
  have hl := lv_entry ([.ref h0, .int p0, .int p1]) (n := 6) (Nat.le_of_ble_eq_true rfl)
  rw [lg_entry_eq]
  generalize (lg_sl ([.ref h0, .int p0, .int p1]) ++ List.replicate (6 - (lg_sl ([.ref h0, .int p0, .int p1])).length) Slot.unset).toArray = ls at hl ⊢
  have hl : lv_has ls 6 [(0, .ref h0), (1, .int p0), (2, .int p1)] := hl
  refine xw_cut (g2 := F0 m 23 ls [.int (xd_argOk p0 p1)]) ?_ (fun K_23 => ?_)
  · skip
    refine lv_istore_n (lv' := [(3, .int (xd_argOk p0 p1)), (0, .ref h0), (1, .int p0), (2, .int p1)]) hx hb dX1_call_23 rfl hl (by decide) rfl (fun ls hl => ?_)
    refine lv_aload_n hx hb dX1_call_24 rfl (lv_at hl 1 rfl) ?_
    refine va_get (D := (dC, dI)) (ci := 1) (v := .int σ.1) (C := RX1) (T := TX1) (N := 9) hx hb hts in_X1 hown hK hP 0 rfl rfl 0 (by decide) (hts _ q147) (fun _ h9 => h9) rfl dX1_call_25 ?_
    refine lv_if_eq (tgt := 68) hx hb dX1_call_28 (by decide) (fun c_1 => ?_) (fun c_1 => ?_)
    · skip
      refine lv_bipush (v := (-100)) hx hb dX1_call_68 (by decide) ?_
      have hP9 : va_P (dC, dI) vwCl (xm_W h0 h1 h2 k1 k2 (xm_callS σ p0 p1)) s.heap := by
        rw [show xm_callS σ p0 p1 = σ from by simp only [xm_callR, xm_callS, xm_callX, xm_callY, if_pos c_1]]
        exact hP
      exact W.iret hx hb hr (fun t ht _ => xw_m (by simp only [xm_callR, xm_callS, xm_callX, xm_callY, if_pos c_1]) hP9 hS ht) hS.2.2 dX1_call_70
    · skip
      refine lv_aload_n hx hb dX1_call_31 rfl (lv_at hl 1 rfl) ?_
      refine va_get (D := (dC, dI)) (ci := 1) (v := .int σ.2.2.2.1) (C := RX1) (T := TX1) (N := 9) hx hb hts in_X1 hown hK hP 0 rfl rfl 3 (by decide) (hts _ q150) (fun _ h9 => h9) rfl dX1_call_32 ?_
      refine lv_iconst (v := 3) hx hb dX1_call_35 (by decide) ?_
      refine lv_icmp_lt (tgt := 68) hx hb dX1_call_36 (by decide) (fun c_2 => ?_) (fun c_2 => ?_)
      · skip
        refine lv_bipush (v := (-100)) hx hb dX1_call_68 (by decide) ?_
        have hP9 : va_P (dC, dI) vwCl (xm_W h0 h1 h2 k1 k2 (xm_callS σ p0 p1)) s.heap := by
          rw [show xm_callS σ p0 p1 = σ from by simp only [xm_callR, xm_callS, xm_callX, xm_callY, if_neg c_1, if_pos c_2]]
          exact hP
        exact W.iret hx hb hr (fun t ht _ => xw_m (by simp only [xm_callR, xm_callS, xm_callX, xm_callY, if_neg c_1, if_pos c_2]) hP9 hS ht) hS.2.2 dX1_call_70
      · skip
        refine lv_iload_n hx hb dX1_call_39 rfl (lv_at hl 0 rfl) ?_
        refine lv_if_eq (tgt := 68) hx hb dX1_call_40 (by decide) (fun c_3 => ?_) (fun c_3 => ?_)
        · skip
          refine lv_bipush (v := (-100)) hx hb dX1_call_68 (by decide) ?_
          have hP9 : va_P (dC, dI) vwCl (xm_W h0 h1 h2 k1 k2 (xm_callS σ p0 p1)) s.heap := by
            rw [show xm_callS σ p0 p1 = σ from by simp only [xm_callR, xm_callS, xm_callX, xm_callY, if_neg c_1, if_neg c_2, if_pos c_3]]
            exact hP
          exact W.iret hx hb hr (fun t ht _ => xw_m (by simp only [xm_callR, xm_callS, xm_callX, xm_callY, if_neg c_1, if_neg c_2, if_pos c_3]) hP9 hS ht) hS.2.2 dX1_call_70
        · skip
          refine lv_aload_n hx hb dX1_call_43 rfl (lv_at hl 1 rfl) ?_
          refine lv_aload_n hx hb dX1_call_44 rfl (lv_at hl 1 rfl) ?_
          refine va_get (D := (dC, dI)) (ci := 1) (v := .int σ.2.2.2.1) (C := RX1) (T := TX1) (N := 9) hx hb hts in_X1 hown hK hP 0 rfl rfl 3 (by decide) (hts _ q150) (fun _ h9 => h9) rfl dX1_call_45 ?_
          refine xw_V (v := xd_arg σ.2.2.2.1) (As := [.int σ.2.2.2.1]) (rest := []) (ci := 1) ⟨hx, hb, hml, hown, hts⟩ (metX1_from l dC dI h0 h1 h2 k1 k2 σ σ.2.2.2.1) (cwV 1 hts (lw_V q204 q206 qs11 q16 q207) rfl rfl rfl hdX1_from ⟨Nat.le_of_ble_eq_true rfl, Nat.le_of_ble_eq_true rfl⟩) hK hP 0 rfl rfl rfl hl.1 rfl (Nat.le_of_ble_eq_true rfl) dX1_call_48 ⟨Nat.zero_le _, Nat.zero_le _⟩ ?_
          refine lv_if_eq (tgt := 71) hx hb dX1_call_51 (by decide) (fun c_4 => ?_) (fun c_4 => ?_)
          · skip
            refine lv_aload_n hx hb dX1_call_71 rfl (lv_at hl 1 rfl) ?_
            refine va_get (D := (dC, dI)) (ci := 1) (v := .ref h1) (C := RX1) (T := TX1) (N := 9) hx hb hts in_X1 hown hK hP 0 rfl rfl 4 (by decide) (hts _ q151) (fun _ h9 => h9) rfl dX1_call_72 ?_
            refine lv_iload_n hx hb dX1_call_75 rfl (lv_at hl 2 rfl) ?_
            refine va_iald hx hb hK hP 1 0 rfl rfl (xd_argOk_in c_3) dX1_call_76 ?_
            refine xw_top (v := σ.2.2.2.2.2.2.2.1 p0.toNatClampNeg) rfl ?_
            refine lv_if_le (tgt := 88) hx hb dX1_call_77 (by decide) (fun c_5 => ?_) (fun c_5 => ?_)
            · skip
              refine xw_cut (g2 := F0 m 121 ls [.int (xd_gk σ.2.2.1 p0)]) ?_ (fun K_121 => ?_)
              · skip
                refine lv_istore (lv' := [(4, .int (xd_gk σ.2.2.1 p0)), (3, .int (xd_argOk p0 p1)), (0, .ref h0), (1, .int p0), (2, .int p1)]) hx hb dX1_call_121 hl (by decide) rfl (fun ls hl => ?_)
                refine xw_cut (g2 := F0 m 192 ls [.int (xm_made σ.2.2.1 p1)]) ?_ (fun K_192 => ?_)
                · skip
                  refine lv_istore (lv' := [(5, .int (xm_made σ.2.2.1 p1)), (4, .int (xd_gk σ.2.2.1 p0)), (3, .int (xd_argOk p0 p1)), (0, .ref h0), (1, .int p0), (2, .int p1)]) hx hb dX1_call_192 hl (by decide) rfl (fun ls hl => ?_)
                  refine lv_aload_n hx hb dX1_call_194 rfl (lv_at hl 3 rfl) ?_
                  refine va_get (D := (dC, dI)) (ci := 1) (v := .ref h2) (C := RX1) (T := TX1) (N := 9) hx hb hts in_X1 hown hK hP 0 rfl rfl 5 (by decide) (hts _ q152) (fun _ h9 => h9) rfl dX1_call_195 ?_
                  refine lv_iload hx hb dX1_call_198 (lv_at hl 1 rfl) ?_
                  refine va_iald hx hb hK hP 2 1 rfl rfl (xd_gk_in (xd_argOk_in c_3)) dX1_call_200 ?_
                  refine xw_top (v := σ.2.2.2.2.2.2.2.2 ((xd_gk σ.2.2.1 p0).toNatClampNeg)) rfl ?_
                  refine lv_if_le (tgt := 212) hx hb dX1_call_201 (by decide) (fun c_6 => ?_) (fun c_6 => ?_)
                  · skip
                    refine lv_aload_n hx hb dX1_call_212 rfl (lv_at hl 3 rfl) ?_
                    refine lv_iconst (v := 1) hx hb dX1_call_213 (by decide) ?_
                    refine va_put (D := (dC, dI)) (ci := 1) (v := .int 1) (ty := .boolean) (C := RX1) (T := TX1) (N := 9) hx hb hts in_X1 tyX1 tyX1_ok nmX1 hown hK hP hD hS 0 rfl rfl 6 (by decide) (hts _ q153) (fun _ h9 => h9) rfl (by decide +kernel) rfl rfl (Nat.le_of_ble_eq_true rfl) dX1_call_214 (fun H locs hP hD hS => ?_)
                    have hP : va_P (dC, dI) vwCl [(h0, .inr (1, [.int σ.1, .int σ.2.1, .int σ.2.2.1, .int σ.2.2.2.1, .ref h1, .ref h2, .int 1, .int σ.2.2.2.2.2.1, .int σ.2.2.2.2.2.2.1])), (h1, .inl (k1, 2, .inl σ.2.2.2.2.2.2.2.1)), (h2, .inl (k2, 2, .inl σ.2.2.2.2.2.2.2.2))] H := hP
                    have hD : va_D A [(h0, .inr (1, [.int σ.1, .int σ.2.1, .int σ.2.2.1, .int σ.2.2.2.1, .ref h1, .ref h2, .int 1, .int σ.2.2.2.2.2.1, .int σ.2.2.2.2.2.2.1])), (h1, .inl (k1, 2, .inl σ.2.2.2.2.2.2.2.1)), (h2, .inl (k2, 2, .inl σ.2.2.2.2.2.2.2.2))] := hD
                    refine lv_aload_n hx hb dX1_call_217 rfl (lv_at hl 3 rfl) ?_
                    refine lv_iload hx hb dX1_call_218 (lv_at hl 1 rfl) ?_
                    refine va_put (D := (dC, dI)) (ci := 1) (v := .int (xd_gk σ.2.2.1 p0)) (ty := .int) (C := RX1) (T := TX1) (N := 9) hx hb hts in_X1 tyX1 tyX1_ok nmX1 hown hK hP hD hS 0 rfl rfl 7 (by decide) (hts _ q154) (fun _ h9 => h9) rfl (by decide +kernel) rfl rfl (Nat.le_of_ble_eq_true rfl) dX1_call_220 (fun H locs hP hD hS => ?_)
                    have hP : va_P (dC, dI) vwCl [(h0, .inr (1, [.int σ.1, .int σ.2.1, .int σ.2.2.1, .int σ.2.2.2.1, .ref h1, .ref h2, .int 1, .int (xd_gk σ.2.2.1 p0), .int σ.2.2.2.2.2.2.1])), (h1, .inl (k1, 2, .inl σ.2.2.2.2.2.2.2.1)), (h2, .inl (k2, 2, .inl σ.2.2.2.2.2.2.2.2))] H := hP
                    have hD : va_D A [(h0, .inr (1, [.int σ.1, .int σ.2.1, .int σ.2.2.1, .int σ.2.2.2.1, .ref h1, .ref h2, .int 1, .int (xd_gk σ.2.2.1 p0), .int σ.2.2.2.2.2.2.1])), (h1, .inl (k1, 2, .inl σ.2.2.2.2.2.2.2.1)), (h2, .inl (k2, 2, .inl σ.2.2.2.2.2.2.2.2))] := hD
                    refine lv_aload_n hx hb dX1_call_223 rfl (lv_at hl 3 rfl) ?_
                    refine lv_iload hx hb dX1_call_224 (lv_at hl 0 rfl) ?_
                    refine va_put (D := (dC, dI)) (ci := 1) (v := .int (xm_made σ.2.2.1 p1)) (ty := .int) (C := RX1) (T := TX1) (N := 9) hx hb hts in_X1 tyX1 tyX1_ok nmX1 hown hK hP hD hS 0 rfl rfl 8 (by decide) (hts _ q155) (fun _ h9 => h9) rfl (by decide +kernel) rfl rfl (Nat.le_of_ble_eq_true rfl) dX1_call_226 (fun H locs hP hD hS => ?_)
                    have hP : va_P (dC, dI) vwCl [(h0, .inr (1, [.int σ.1, .int σ.2.1, .int σ.2.2.1, .int σ.2.2.2.1, .ref h1, .ref h2, .int 1, .int (xd_gk σ.2.2.1 p0), .int (xm_made σ.2.2.1 p1)])), (h1, .inl (k1, 2, .inl σ.2.2.2.2.2.2.2.1)), (h2, .inl (k2, 2, .inl σ.2.2.2.2.2.2.2.2))] H := hP
                    have hD : va_D A [(h0, .inr (1, [.int σ.1, .int σ.2.1, .int σ.2.2.1, .int σ.2.2.2.1, .ref h1, .ref h2, .int 1, .int (xd_gk σ.2.2.1 p0), .int (xm_made σ.2.2.1 p1)])), (h1, .inl (k1, 2, .inl σ.2.2.2.2.2.2.2.1)), (h2, .inl (k2, 2, .inl σ.2.2.2.2.2.2.2.2))] := hD
                    refine lv_iconst (v := 0) hx hb dX1_call_229 (by decide) ?_
                    have hP9 : va_P (dC, dI) vwCl (xm_W h0 h1 h2 k1 k2 (xm_callS σ p0 p1)) H := by
                      rw [show xm_callS σ p0 p1 = (σ.1, σ.2.1, σ.2.2.1, σ.2.2.2.1, 1, xd_gk σ.2.2.1 p0, xm_made σ.2.2.1 p1, σ.2.2.2.2.2.2.2.1, σ.2.2.2.2.2.2.2.2) from by simp only [xm_callR, xm_callS, xm_callX, xm_callY, if_neg c_1, if_neg c_2, if_neg c_3, if_pos c_4, if_pos c_5, if_pos c_6]]
                      exact hP
                    exact W.iret hx hb hr (fun t ht _ => xw_m (by simp only [xm_callR, xm_callS, xm_callX, xm_callY, if_neg c_1, if_neg c_2, if_neg c_3, if_pos c_4, if_pos c_5, if_pos c_6]) hP9 hS ht) hS.2.2 dX1_call_230
                  · skip
                    refine lv_aload_n hx hb dX1_call_204 rfl (lv_at hl 3 rfl) ?_
                    refine va_get (D := (dC, dI)) (ci := 1) (v := .ref h2) (C := RX1) (T := TX1) (N := 9) hx hb hts in_X1 hown hK hP 0 rfl rfl 5 (by decide) (hts _ q152) (fun _ h9 => h9) rfl dX1_call_205 ?_
                    refine lv_iload hx hb dX1_call_208 (lv_at hl 1 rfl) ?_
                    refine va_iald hx hb hK hP 2 1 rfl rfl (xd_gk_in (xd_argOk_in c_3)) dX1_call_210 ?_
                    refine xw_top (v := σ.2.2.2.2.2.2.2.2 ((xd_gk σ.2.2.1 p0).toNatClampNeg)) rfl ?_
                    have hP9 : va_P (dC, dI) vwCl (xm_W h0 h1 h2 k1 k2 (xm_callS σ p0 p1)) s.heap := by
                      rw [show xm_callS σ p0 p1 = σ from by simp only [xm_callR, xm_callS, xm_callX, xm_callY, if_neg c_1, if_neg c_2, if_neg c_3, if_pos c_4, if_pos c_5, if_neg c_6]]
                      exact hP
                    exact W.iret hx hb hr (fun t ht _ => xw_m (by simp only [xm_callR, xm_callS, xm_callX, xm_callY, if_neg c_1, if_neg c_2, if_neg c_3, if_pos c_4, if_pos c_5, if_neg c_6]) hP9 hS ht) hS.2.2 dX1_call_211
                · skip
                  refine lv_aload_n hx hb dX1_call_123 rfl (lv_at hl 2 rfl) ?_
                  refine va_get (D := (dC, dI)) (ci := 1) (v := .int σ.2.2.1) (C := RX1) (T := TX1) (N := 9) hx hb hts in_X1 hown hK hP 0 rfl rfl 2 (by decide) (hts _ q149) (fun _ h9 => h9) rfl dX1_call_124 ?_
                  refine lv_if_ne (tgt := 136) hx hb dX1_call_127 (by decide) (fun c_7 => ?_) (fun c_7 => ?_)
                  · skip
                    refine lv_aload_n hx hb dX1_call_136 rfl (lv_at hl 2 rfl) ?_
                    refine va_get (D := (dC, dI)) (ci := 1) (v := .int σ.2.2.1) (C := RX1) (T := TX1) (N := 9) hx hb hts in_X1 hown hK hP 0 rfl rfl 2 (by decide) (hts _ q149) (fun _ h9 => h9) rfl dX1_call_137 ?_
                    refine lv_iconst (v := 1) hx hb dX1_call_140 (by decide) ?_
                    refine lv_icmp_eq (tgt := 152) hx hb dX1_call_141 (by decide) (fun c_8 => ?_) (fun c_8 => ?_)
                    · skip
                      refine lv_iload_n hx hb dX1_call_152 rfl (lv_at hl 4 rfl) ?_
                      refine lv_goto (tgt := 192) hx hb dX1_call_153 (by decide) ?_
                      exact xw_top (by simp only [xm_made, if_neg c_1, if_neg c_2, if_neg c_3, if_pos c_4, if_pos c_5, if_neg c_7, if_pos c_8]) K_192
                    · skip
                      refine lv_aload_n hx hb dX1_call_144 rfl (lv_at hl 2 rfl) ?_
                      refine va_get (D := (dC, dI)) (ci := 1) (v := .int σ.2.2.1) (C := RX1) (T := TX1) (N := 9) hx hb hts in_X1 hown hK hP 0 rfl rfl 2 (by decide) (hts _ q149) (fun _ h9 => h9) rfl dX1_call_145 ?_
                      refine lv_iconst (v := 5) hx hb dX1_call_148 (by decide) ?_
                      refine lv_icmp_ne (tgt := 156) hx hb dX1_call_149 (by decide) (fun c_9 => ?_) (fun c_9 => ?_)
                      · skip
                        refine lv_aload_n hx hb dX1_call_156 rfl (lv_at hl 2 rfl) ?_
                        refine va_get (D := (dC, dI)) (ci := 1) (v := .int σ.2.2.1) (C := RX1) (T := TX1) (N := 9) hx hb hts in_X1 hown hK hP 0 rfl rfl 2 (by decide) (hts _ q149) (fun _ h9 => h9) rfl dX1_call_157 ?_
                        refine lv_iconst (v := 2) hx hb dX1_call_160 (by decide) ?_
                        refine lv_icmp_ne (tgt := 170) hx hb dX1_call_161 (by decide) (fun c_10 => ?_) (fun c_10 => ?_)
                        · skip
                          refine lv_aload_n hx hb dX1_call_170 rfl (lv_at hl 2 rfl) ?_
                          refine va_get (D := (dC, dI)) (ci := 1) (v := .int σ.2.2.1) (C := RX1) (T := TX1) (N := 9) hx hb hts in_X1 hown hK hP 0 rfl rfl 2 (by decide) (hts _ q149) (fun _ h9 => h9) rfl dX1_call_171 ?_
                          refine lv_iconst (v := 3) hx hb dX1_call_174 (by decide) ?_
                          refine lv_icmp_ne (tgt := 190) hx hb dX1_call_175 (by decide) (fun c_11 => ?_) (fun c_11 => ?_)
                          · skip
                            refine lv_bipush (v := 7) hx hb dX1_call_190 (by decide) ?_
                            exact xw_top (by simp only [xm_made, if_neg c_1, if_neg c_2, if_neg c_3, if_pos c_4, if_pos c_5, if_neg c_7, if_neg c_8, if_neg c_9, if_neg c_10, if_neg c_11]) K_192
                          · skip
                            refine lv_iload_n hx hb dX1_call_178 rfl (lv_at hl 4 rfl) ?_
                            refine lv_if_le (tgt := 186) hx hb dX1_call_179 (by decide) (fun c_12 => ?_) (fun c_12 => ?_)
                            · skip
                              refine lv_iconst (v := 0) hx hb dX1_call_186 (by decide) ?_
                              refine lv_goto (tgt := 192) hx hb dX1_call_187 (by decide) ?_
                              exact xw_top (by simp only [xm_made, if_neg c_1, if_neg c_2, if_neg c_3, if_pos c_4, if_pos c_5, if_neg c_7, if_neg c_8, if_neg c_9, if_neg c_10, if_pos c_11, if_pos c_12]) K_192
                            · skip
                              refine lv_iconst (v := 1) hx hb dX1_call_182 (by decide) ?_
                              refine lv_goto (tgt := 192) hx hb dX1_call_183 (by decide) ?_
                              exact xw_top (by simp only [xm_made, if_neg c_1, if_neg c_2, if_neg c_3, if_pos c_4, if_pos c_5, if_neg c_7, if_neg c_8, if_neg c_9, if_neg c_10, if_pos c_11, if_neg c_12]) K_192
                        · skip
                          refine lv_iconst (v := 1) hx hb dX1_call_164 (by decide) ?_
                          refine lv_iload_n hx hb dX1_call_165 rfl (lv_at hl 4 rfl) ?_
                          refine lv_isub hx hb dX1_call_166 ?_
                          refine lv_goto (tgt := 192) hx hb dX1_call_167 (by decide) ?_
                          exact xw_top (by simp only [xm_made, if_neg c_1, if_neg c_2, if_neg c_3, if_pos c_4, if_pos c_5, if_neg c_7, if_neg c_8, if_neg c_9, if_pos c_10]) K_192
                      · skip
                        refine lv_iload_n hx hb dX1_call_152 rfl (lv_at hl 4 rfl) ?_
                        refine lv_goto (tgt := 192) hx hb dX1_call_153 (by decide) ?_
                        exact xw_top (by simp only [xm_made, if_neg c_1, if_neg c_2, if_neg c_3, if_pos c_4, if_pos c_5, if_neg c_7, if_neg c_8, if_pos c_9]) K_192
                  · skip
                    refine lv_iload_n hx hb dX1_call_130 rfl (lv_at hl 4 rfl) ?_
                    refine lv_iconst (v := 1) hx hb dX1_call_131 (by decide) ?_
                    refine lv_iadd hx hb dX1_call_132 ?_
                    refine lv_goto (tgt := 192) hx hb dX1_call_133 (by decide) ?_
                    exact xw_top (by simp only [xm_made, if_neg c_1, if_neg c_2, if_neg c_3, if_pos c_4, if_pos c_5, if_pos c_7]) K_192
              · skip
                refine lv_aload_n hx hb dX1_call_88 rfl (lv_at hl 1 rfl) ?_
                refine va_get (D := (dC, dI)) (ci := 1) (v := .int σ.2.2.1) (C := RX1) (T := TX1) (N := 9) hx hb hts in_X1 hown hK hP 0 rfl rfl 2 (by decide) (hts _ q149) (fun _ h9 => h9) rfl dX1_call_89 ?_
                refine lv_iconst (v := 1) hx hb dX1_call_92 (by decide) ?_
                refine lv_icmp_ne (tgt := 100) hx hb dX1_call_93 (by decide) (fun c_13 => ?_) (fun c_13 => ?_)
                · skip
                  refine lv_aload_n hx hb dX1_call_100 rfl (lv_at hl 1 rfl) ?_
                  refine va_get (D := (dC, dI)) (ci := 1) (v := .int σ.2.2.1) (C := RX1) (T := TX1) (N := 9) hx hb hts in_X1 hown hK hP 0 rfl rfl 2 (by decide) (hts _ q149) (fun _ h9 => h9) rfl dX1_call_101 ?_
                  refine lv_iconst (v := 2) hx hb dX1_call_104 (by decide) ?_
                  refine lv_icmp_eq (tgt := 116) hx hb dX1_call_105 (by decide) (fun c_14 => ?_) (fun c_14 => ?_)
                  · skip
                    refine lv_iconst (v := 1) hx hb dX1_call_116 (by decide) ?_
                    refine lv_goto (tgt := 121) hx hb dX1_call_117 (by decide) ?_
                    exact xw_top (by simp only [xd_gk, if_neg c_1, if_neg c_2, if_neg c_3, if_pos c_4, if_pos c_5, if_neg c_13, if_pos c_14]) K_121
                  · skip
                    refine lv_aload_n hx hb dX1_call_108 rfl (lv_at hl 1 rfl) ?_
                    refine va_get (D := (dC, dI)) (ci := 1) (v := .int σ.2.2.1) (C := RX1) (T := TX1) (N := 9) hx hb hts in_X1 hown hK hP 0 rfl rfl 2 (by decide) (hts _ q149) (fun _ h9 => h9) rfl dX1_call_109 ?_
                    refine lv_iconst (v := 3) hx hb dX1_call_112 (by decide) ?_
                    refine lv_icmp_ne (tgt := 120) hx hb dX1_call_113 (by decide) (fun c_15 => ?_) (fun c_15 => ?_)
                    · skip
                      refine lv_iconst (v := 0) hx hb dX1_call_120 (by decide) ?_
                      exact xw_top (by simp only [xd_gk, if_neg c_1, if_neg c_2, if_neg c_3, if_pos c_4, if_pos c_5, if_neg c_13, if_neg c_14, if_neg c_15]) K_121
                    · skip
                      refine lv_iconst (v := 1) hx hb dX1_call_116 (by decide) ?_
                      refine lv_goto (tgt := 121) hx hb dX1_call_117 (by decide) ?_
                      exact xw_top (by simp only [xd_gk, if_neg c_1, if_neg c_2, if_neg c_3, if_pos c_4, if_pos c_5, if_neg c_13, if_neg c_14, if_pos c_15]) K_121
                · skip
                  refine lv_iload_n hx hb dX1_call_96 rfl (lv_at hl 2 rfl) ?_
                  refine lv_goto (tgt := 121) hx hb dX1_call_97 (by decide) ?_
                  exact xw_top (by simp only [xd_gk, if_neg c_1, if_neg c_2, if_neg c_3, if_pos c_4, if_pos c_5, if_pos c_13]) K_121
            · skip
              refine lv_aload_n hx hb dX1_call_80 rfl (lv_at hl 1 rfl) ?_
              refine va_get (D := (dC, dI)) (ci := 1) (v := .ref h1) (C := RX1) (T := TX1) (N := 9) hx hb hts in_X1 hown hK hP 0 rfl rfl 4 (by decide) (hts _ q151) (fun _ h9 => h9) rfl dX1_call_81 ?_
              refine lv_iload_n hx hb dX1_call_84 rfl (lv_at hl 2 rfl) ?_
              refine va_iald hx hb hK hP 1 0 rfl rfl (xd_argOk_in c_3) dX1_call_85 ?_
              refine xw_top (v := σ.2.2.2.2.2.2.2.1 p0.toNatClampNeg) rfl ?_
              refine lv_ineg hx hb dX1_call_86 ?_
              have hP9 : va_P (dC, dI) vwCl (xm_W h0 h1 h2 k1 k2 (xm_callS σ p0 p1)) s.heap := by
                rw [show xm_callS σ p0 p1 = σ from by simp only [xm_callR, xm_callS, xm_callX, xm_callY, if_neg c_1, if_neg c_2, if_neg c_3, if_pos c_4, if_neg c_5]]
                exact hP
              exact W.iret hx hb hr (fun t ht _ => xw_m (by simp only [xm_callR, xm_callS, xm_callX, xm_callY, if_neg c_1, if_neg c_2, if_neg c_3, if_pos c_4, if_neg c_5]) hP9 hS ht) hS.2.2 dX1_call_87
          · skip
            refine lv_aload_n hx hb dX1_call_54 rfl (lv_at hl 1 rfl) ?_
            refine lv_aload_n hx hb dX1_call_55 rfl (lv_at hl 1 rfl) ?_
            refine va_get (D := (dC, dI)) (ci := 1) (v := .int σ.2.2.2.1) (C := RX1) (T := TX1) (N := 9) hx hb hts in_X1 hown hK hP 0 rfl rfl 3 (by decide) (hts _ q150) (fun _ h9 => h9) rfl dX1_call_56 ?_
            refine xw_V (v := xd_arg σ.2.2.2.1) (As := [.int σ.2.2.2.1]) (rest := []) (ci := 1) ⟨hx, hb, hml, hown, hts⟩ (metX1_from l dC dI h0 h1 h2 k1 k2 σ σ.2.2.2.1) (cwV 1 hts (lw_V q204 q206 qs11 q16 q207) rfl rfl rfl hdX1_from ⟨Nat.le_of_ble_eq_true rfl, Nat.le_of_ble_eq_true rfl⟩) hK hP 0 rfl rfl rfl hl.1 rfl (Nat.le_of_ble_eq_true rfl) dX1_call_59 ⟨Nat.zero_le _, Nat.zero_le _⟩ ?_
            refine lv_iload_n hx hb dX1_call_62 rfl (lv_at hl 2 rfl) ?_
            refine lv_iconst (v := 1) hx hb dX1_call_63 (by decide) ?_
            refine lv_iadd hx hb dX1_call_64 ?_
            refine lv_icmp_eq (tgt := 71) hx hb dX1_call_65 (by decide) (fun c_16 => ?_) (fun c_16 => ?_)
            · skip
              refine lv_aload_n hx hb dX1_call_71 rfl (lv_at hl 1 rfl) ?_
              refine va_get (D := (dC, dI)) (ci := 1) (v := .ref h1) (C := RX1) (T := TX1) (N := 9) hx hb hts in_X1 hown hK hP 0 rfl rfl 4 (by decide) (hts _ q151) (fun _ h9 => h9) rfl dX1_call_72 ?_
              refine lv_iload_n hx hb dX1_call_75 rfl (lv_at hl 2 rfl) ?_
              refine va_iald hx hb hK hP 1 0 rfl rfl (xd_argOk_in c_3) dX1_call_76 ?_
              refine xw_top (v := σ.2.2.2.2.2.2.2.1 p0.toNatClampNeg) rfl ?_
              refine lv_if_le (tgt := 88) hx hb dX1_call_77 (by decide) (fun c_17 => ?_) (fun c_17 => ?_)
              · skip
                refine xw_cut (g2 := F0 m 121 ls [.int (xd_gk σ.2.2.1 p0)]) ?_ (fun K_121 => ?_)
                · skip
                  refine lv_istore (lv' := [(4, .int (xd_gk σ.2.2.1 p0)), (3, .int (xd_argOk p0 p1)), (0, .ref h0), (1, .int p0), (2, .int p1)]) hx hb dX1_call_121 hl (by decide) rfl (fun ls hl => ?_)
                  refine xw_cut (g2 := F0 m 192 ls [.int (xm_made σ.2.2.1 p1)]) ?_ (fun K_192 => ?_)
                  · skip
                    refine lv_istore (lv' := [(5, .int (xm_made σ.2.2.1 p1)), (4, .int (xd_gk σ.2.2.1 p0)), (3, .int (xd_argOk p0 p1)), (0, .ref h0), (1, .int p0), (2, .int p1)]) hx hb dX1_call_192 hl (by decide) rfl (fun ls hl => ?_)
                    refine lv_aload_n hx hb dX1_call_194 rfl (lv_at hl 3 rfl) ?_
                    refine va_get (D := (dC, dI)) (ci := 1) (v := .ref h2) (C := RX1) (T := TX1) (N := 9) hx hb hts in_X1 hown hK hP 0 rfl rfl 5 (by decide) (hts _ q152) (fun _ h9 => h9) rfl dX1_call_195 ?_
                    refine lv_iload hx hb dX1_call_198 (lv_at hl 1 rfl) ?_
                    refine va_iald hx hb hK hP 2 1 rfl rfl (xd_gk_in (xd_argOk_in c_3)) dX1_call_200 ?_
                    refine xw_top (v := σ.2.2.2.2.2.2.2.2 ((xd_gk σ.2.2.1 p0).toNatClampNeg)) rfl ?_
                    refine lv_if_le (tgt := 212) hx hb dX1_call_201 (by decide) (fun c_18 => ?_) (fun c_18 => ?_)
                    · skip
                      refine lv_aload_n hx hb dX1_call_212 rfl (lv_at hl 3 rfl) ?_
                      refine lv_iconst (v := 1) hx hb dX1_call_213 (by decide) ?_
                      refine va_put (D := (dC, dI)) (ci := 1) (v := .int 1) (ty := .boolean) (C := RX1) (T := TX1) (N := 9) hx hb hts in_X1 tyX1 tyX1_ok nmX1 hown hK hP hD hS 0 rfl rfl 6 (by decide) (hts _ q153) (fun _ h9 => h9) rfl (by decide +kernel) rfl rfl (Nat.le_of_ble_eq_true rfl) dX1_call_214 (fun H locs hP hD hS => ?_)
                      have hP : va_P (dC, dI) vwCl [(h0, .inr (1, [.int σ.1, .int σ.2.1, .int σ.2.2.1, .int σ.2.2.2.1, .ref h1, .ref h2, .int 1, .int σ.2.2.2.2.2.1, .int σ.2.2.2.2.2.2.1])), (h1, .inl (k1, 2, .inl σ.2.2.2.2.2.2.2.1)), (h2, .inl (k2, 2, .inl σ.2.2.2.2.2.2.2.2))] H := hP
                      have hD : va_D A [(h0, .inr (1, [.int σ.1, .int σ.2.1, .int σ.2.2.1, .int σ.2.2.2.1, .ref h1, .ref h2, .int 1, .int σ.2.2.2.2.2.1, .int σ.2.2.2.2.2.2.1])), (h1, .inl (k1, 2, .inl σ.2.2.2.2.2.2.2.1)), (h2, .inl (k2, 2, .inl σ.2.2.2.2.2.2.2.2))] := hD
                      refine lv_aload_n hx hb dX1_call_217 rfl (lv_at hl 3 rfl) ?_
                      refine lv_iload hx hb dX1_call_218 (lv_at hl 1 rfl) ?_
                      refine va_put (D := (dC, dI)) (ci := 1) (v := .int (xd_gk σ.2.2.1 p0)) (ty := .int) (C := RX1) (T := TX1) (N := 9) hx hb hts in_X1 tyX1 tyX1_ok nmX1 hown hK hP hD hS 0 rfl rfl 7 (by decide) (hts _ q154) (fun _ h9 => h9) rfl (by decide +kernel) rfl rfl (Nat.le_of_ble_eq_true rfl) dX1_call_220 (fun H locs hP hD hS => ?_)
                      have hP : va_P (dC, dI) vwCl [(h0, .inr (1, [.int σ.1, .int σ.2.1, .int σ.2.2.1, .int σ.2.2.2.1, .ref h1, .ref h2, .int 1, .int (xd_gk σ.2.2.1 p0), .int σ.2.2.2.2.2.2.1])), (h1, .inl (k1, 2, .inl σ.2.2.2.2.2.2.2.1)), (h2, .inl (k2, 2, .inl σ.2.2.2.2.2.2.2.2))] H := hP
                      have hD : va_D A [(h0, .inr (1, [.int σ.1, .int σ.2.1, .int σ.2.2.1, .int σ.2.2.2.1, .ref h1, .ref h2, .int 1, .int (xd_gk σ.2.2.1 p0), .int σ.2.2.2.2.2.2.1])), (h1, .inl (k1, 2, .inl σ.2.2.2.2.2.2.2.1)), (h2, .inl (k2, 2, .inl σ.2.2.2.2.2.2.2.2))] := hD
                      refine lv_aload_n hx hb dX1_call_223 rfl (lv_at hl 3 rfl) ?_
                      refine lv_iload hx hb dX1_call_224 (lv_at hl 0 rfl) ?_
                      refine va_put (D := (dC, dI)) (ci := 1) (v := .int (xm_made σ.2.2.1 p1)) (ty := .int) (C := RX1) (T := TX1) (N := 9) hx hb hts in_X1 tyX1 tyX1_ok nmX1 hown hK hP hD hS 0 rfl rfl 8 (by decide) (hts _ q155) (fun _ h9 => h9) rfl (by decide +kernel) rfl rfl (Nat.le_of_ble_eq_true rfl) dX1_call_226 (fun H locs hP hD hS => ?_)
                      have hP : va_P (dC, dI) vwCl [(h0, .inr (1, [.int σ.1, .int σ.2.1, .int σ.2.2.1, .int σ.2.2.2.1, .ref h1, .ref h2, .int 1, .int (xd_gk σ.2.2.1 p0), .int (xm_made σ.2.2.1 p1)])), (h1, .inl (k1, 2, .inl σ.2.2.2.2.2.2.2.1)), (h2, .inl (k2, 2, .inl σ.2.2.2.2.2.2.2.2))] H := hP
                      have hD : va_D A [(h0, .inr (1, [.int σ.1, .int σ.2.1, .int σ.2.2.1, .int σ.2.2.2.1, .ref h1, .ref h2, .int 1, .int (xd_gk σ.2.2.1 p0), .int (xm_made σ.2.2.1 p1)])), (h1, .inl (k1, 2, .inl σ.2.2.2.2.2.2.2.1)), (h2, .inl (k2, 2, .inl σ.2.2.2.2.2.2.2.2))] := hD
                      refine lv_iconst (v := 0) hx hb dX1_call_229 (by decide) ?_
                      have hP9 : va_P (dC, dI) vwCl (xm_W h0 h1 h2 k1 k2 (xm_callS σ p0 p1)) H := by
                        rw [show xm_callS σ p0 p1 = (σ.1, σ.2.1, σ.2.2.1, σ.2.2.2.1, 1, xd_gk σ.2.2.1 p0, xm_made σ.2.2.1 p1, σ.2.2.2.2.2.2.2.1, σ.2.2.2.2.2.2.2.2) from by simp only [xm_callR, xm_callS, xm_callX, xm_callY, if_neg c_1, if_neg c_2, if_neg c_3, if_neg c_4, if_pos c_16, if_pos c_17, if_pos c_18]]
                        exact hP
                      exact W.iret hx hb hr (fun t ht _ => xw_m (by simp only [xm_callR, xm_callS, xm_callX, xm_callY, if_neg c_1, if_neg c_2, if_neg c_3, if_neg c_4, if_pos c_16, if_pos c_17, if_pos c_18]) hP9 hS ht) hS.2.2 dX1_call_230
                    · skip
                      refine lv_aload_n hx hb dX1_call_204 rfl (lv_at hl 3 rfl) ?_
                      refine va_get (D := (dC, dI)) (ci := 1) (v := .ref h2) (C := RX1) (T := TX1) (N := 9) hx hb hts in_X1 hown hK hP 0 rfl rfl 5 (by decide) (hts _ q152) (fun _ h9 => h9) rfl dX1_call_205 ?_
                      refine lv_iload hx hb dX1_call_208 (lv_at hl 1 rfl) ?_
                      refine va_iald hx hb hK hP 2 1 rfl rfl (xd_gk_in (xd_argOk_in c_3)) dX1_call_210 ?_
                      refine xw_top (v := σ.2.2.2.2.2.2.2.2 ((xd_gk σ.2.2.1 p0).toNatClampNeg)) rfl ?_
                      have hP9 : va_P (dC, dI) vwCl (xm_W h0 h1 h2 k1 k2 (xm_callS σ p0 p1)) s.heap := by
                        rw [show xm_callS σ p0 p1 = σ from by simp only [xm_callR, xm_callS, xm_callX, xm_callY, if_neg c_1, if_neg c_2, if_neg c_3, if_neg c_4, if_pos c_16, if_pos c_17, if_neg c_18]]
                        exact hP
                      exact W.iret hx hb hr (fun t ht _ => xw_m (by simp only [xm_callR, xm_callS, xm_callX, xm_callY, if_neg c_1, if_neg c_2, if_neg c_3, if_neg c_4, if_pos c_16, if_pos c_17, if_neg c_18]) hP9 hS ht) hS.2.2 dX1_call_211
                  · skip
                    refine lv_aload_n hx hb dX1_call_123 rfl (lv_at hl 2 rfl) ?_
                    refine va_get (D := (dC, dI)) (ci := 1) (v := .int σ.2.2.1) (C := RX1) (T := TX1) (N := 9) hx hb hts in_X1 hown hK hP 0 rfl rfl 2 (by decide) (hts _ q149) (fun _ h9 => h9) rfl dX1_call_124 ?_
                    refine lv_if_ne (tgt := 136) hx hb dX1_call_127 (by decide) (fun c_19 => ?_) (fun c_19 => ?_)
                    · skip
                      refine lv_aload_n hx hb dX1_call_136 rfl (lv_at hl 2 rfl) ?_
                      refine va_get (D := (dC, dI)) (ci := 1) (v := .int σ.2.2.1) (C := RX1) (T := TX1) (N := 9) hx hb hts in_X1 hown hK hP 0 rfl rfl 2 (by decide) (hts _ q149) (fun _ h9 => h9) rfl dX1_call_137 ?_
                      refine lv_iconst (v := 1) hx hb dX1_call_140 (by decide) ?_
                      refine lv_icmp_eq (tgt := 152) hx hb dX1_call_141 (by decide) (fun c_20 => ?_) (fun c_20 => ?_)
                      · skip
                        refine lv_iload_n hx hb dX1_call_152 rfl (lv_at hl 4 rfl) ?_
                        refine lv_goto (tgt := 192) hx hb dX1_call_153 (by decide) ?_
                        exact xw_top (by simp only [xm_made, if_neg c_1, if_neg c_2, if_neg c_3, if_neg c_4, if_pos c_16, if_pos c_17, if_neg c_19, if_pos c_20]) K_192
                      · skip
                        refine lv_aload_n hx hb dX1_call_144 rfl (lv_at hl 2 rfl) ?_
                        refine va_get (D := (dC, dI)) (ci := 1) (v := .int σ.2.2.1) (C := RX1) (T := TX1) (N := 9) hx hb hts in_X1 hown hK hP 0 rfl rfl 2 (by decide) (hts _ q149) (fun _ h9 => h9) rfl dX1_call_145 ?_
                        refine lv_iconst (v := 5) hx hb dX1_call_148 (by decide) ?_
                        refine lv_icmp_ne (tgt := 156) hx hb dX1_call_149 (by decide) (fun c_21 => ?_) (fun c_21 => ?_)
                        · skip
                          refine lv_aload_n hx hb dX1_call_156 rfl (lv_at hl 2 rfl) ?_
                          refine va_get (D := (dC, dI)) (ci := 1) (v := .int σ.2.2.1) (C := RX1) (T := TX1) (N := 9) hx hb hts in_X1 hown hK hP 0 rfl rfl 2 (by decide) (hts _ q149) (fun _ h9 => h9) rfl dX1_call_157 ?_
                          refine lv_iconst (v := 2) hx hb dX1_call_160 (by decide) ?_
                          refine lv_icmp_ne (tgt := 170) hx hb dX1_call_161 (by decide) (fun c_22 => ?_) (fun c_22 => ?_)
                          · skip
                            refine lv_aload_n hx hb dX1_call_170 rfl (lv_at hl 2 rfl) ?_
                            refine va_get (D := (dC, dI)) (ci := 1) (v := .int σ.2.2.1) (C := RX1) (T := TX1) (N := 9) hx hb hts in_X1 hown hK hP 0 rfl rfl 2 (by decide) (hts _ q149) (fun _ h9 => h9) rfl dX1_call_171 ?_
                            refine lv_iconst (v := 3) hx hb dX1_call_174 (by decide) ?_
                            refine lv_icmp_ne (tgt := 190) hx hb dX1_call_175 (by decide) (fun c_23 => ?_) (fun c_23 => ?_)
                            · skip
                              refine lv_bipush (v := 7) hx hb dX1_call_190 (by decide) ?_
                              exact xw_top (by simp only [xm_made, if_neg c_1, if_neg c_2, if_neg c_3, if_neg c_4, if_pos c_16, if_pos c_17, if_neg c_19, if_neg c_20, if_neg c_21, if_neg c_22, if_neg c_23]) K_192
                            · skip
                              refine lv_iload_n hx hb dX1_call_178 rfl (lv_at hl 4 rfl) ?_
                              refine lv_if_le (tgt := 186) hx hb dX1_call_179 (by decide) (fun c_24 => ?_) (fun c_24 => ?_)
                              · skip
                                refine lv_iconst (v := 0) hx hb dX1_call_186 (by decide) ?_
                                refine lv_goto (tgt := 192) hx hb dX1_call_187 (by decide) ?_
                                exact xw_top (by simp only [xm_made, if_neg c_1, if_neg c_2, if_neg c_3, if_neg c_4, if_pos c_16, if_pos c_17, if_neg c_19, if_neg c_20, if_neg c_21, if_neg c_22, if_pos c_23, if_pos c_24]) K_192
                              · skip
                                refine lv_iconst (v := 1) hx hb dX1_call_182 (by decide) ?_
                                refine lv_goto (tgt := 192) hx hb dX1_call_183 (by decide) ?_
                                exact xw_top (by simp only [xm_made, if_neg c_1, if_neg c_2, if_neg c_3, if_neg c_4, if_pos c_16, if_pos c_17, if_neg c_19, if_neg c_20, if_neg c_21, if_neg c_22, if_pos c_23, if_neg c_24]) K_192
                          · skip
                            refine lv_iconst (v := 1) hx hb dX1_call_164 (by decide) ?_
                            refine lv_iload_n hx hb dX1_call_165 rfl (lv_at hl 4 rfl) ?_
                            refine lv_isub hx hb dX1_call_166 ?_
                            refine lv_goto (tgt := 192) hx hb dX1_call_167 (by decide) ?_
                            exact xw_top (by simp only [xm_made, if_neg c_1, if_neg c_2, if_neg c_3, if_neg c_4, if_pos c_16, if_pos c_17, if_neg c_19, if_neg c_20, if_neg c_21, if_pos c_22]) K_192
                        · skip
                          refine lv_iload_n hx hb dX1_call_152 rfl (lv_at hl 4 rfl) ?_
                          refine lv_goto (tgt := 192) hx hb dX1_call_153 (by decide) ?_
                          exact xw_top (by simp only [xm_made, if_neg c_1, if_neg c_2, if_neg c_3, if_neg c_4, if_pos c_16, if_pos c_17, if_neg c_19, if_neg c_20, if_pos c_21]) K_192
                    · skip
                      refine lv_iload_n hx hb dX1_call_130 rfl (lv_at hl 4 rfl) ?_
                      refine lv_iconst (v := 1) hx hb dX1_call_131 (by decide) ?_
                      refine lv_iadd hx hb dX1_call_132 ?_
                      refine lv_goto (tgt := 192) hx hb dX1_call_133 (by decide) ?_
                      exact xw_top (by simp only [xm_made, if_neg c_1, if_neg c_2, if_neg c_3, if_neg c_4, if_pos c_16, if_pos c_17, if_pos c_19]) K_192
                · skip
                  refine lv_aload_n hx hb dX1_call_88 rfl (lv_at hl 1 rfl) ?_
                  refine va_get (D := (dC, dI)) (ci := 1) (v := .int σ.2.2.1) (C := RX1) (T := TX1) (N := 9) hx hb hts in_X1 hown hK hP 0 rfl rfl 2 (by decide) (hts _ q149) (fun _ h9 => h9) rfl dX1_call_89 ?_
                  refine lv_iconst (v := 1) hx hb dX1_call_92 (by decide) ?_
                  refine lv_icmp_ne (tgt := 100) hx hb dX1_call_93 (by decide) (fun c_25 => ?_) (fun c_25 => ?_)
                  · skip
                    refine lv_aload_n hx hb dX1_call_100 rfl (lv_at hl 1 rfl) ?_
                    refine va_get (D := (dC, dI)) (ci := 1) (v := .int σ.2.2.1) (C := RX1) (T := TX1) (N := 9) hx hb hts in_X1 hown hK hP 0 rfl rfl 2 (by decide) (hts _ q149) (fun _ h9 => h9) rfl dX1_call_101 ?_
                    refine lv_iconst (v := 2) hx hb dX1_call_104 (by decide) ?_
                    refine lv_icmp_eq (tgt := 116) hx hb dX1_call_105 (by decide) (fun c_26 => ?_) (fun c_26 => ?_)
                    · skip
                      refine lv_iconst (v := 1) hx hb dX1_call_116 (by decide) ?_
                      refine lv_goto (tgt := 121) hx hb dX1_call_117 (by decide) ?_
                      exact xw_top (by simp only [xd_gk, if_neg c_1, if_neg c_2, if_neg c_3, if_neg c_4, if_pos c_16, if_pos c_17, if_neg c_25, if_pos c_26]) K_121
                    · skip
                      refine lv_aload_n hx hb dX1_call_108 rfl (lv_at hl 1 rfl) ?_
                      refine va_get (D := (dC, dI)) (ci := 1) (v := .int σ.2.2.1) (C := RX1) (T := TX1) (N := 9) hx hb hts in_X1 hown hK hP 0 rfl rfl 2 (by decide) (hts _ q149) (fun _ h9 => h9) rfl dX1_call_109 ?_
                      refine lv_iconst (v := 3) hx hb dX1_call_112 (by decide) ?_
                      refine lv_icmp_ne (tgt := 120) hx hb dX1_call_113 (by decide) (fun c_27 => ?_) (fun c_27 => ?_)
                      · skip
                        refine lv_iconst (v := 0) hx hb dX1_call_120 (by decide) ?_
                        exact xw_top (by simp only [xd_gk, if_neg c_1, if_neg c_2, if_neg c_3, if_neg c_4, if_pos c_16, if_pos c_17, if_neg c_25, if_neg c_26, if_neg c_27]) K_121
                      · skip
                        refine lv_iconst (v := 1) hx hb dX1_call_116 (by decide) ?_
                        refine lv_goto (tgt := 121) hx hb dX1_call_117 (by decide) ?_
                        exact xw_top (by simp only [xd_gk, if_neg c_1, if_neg c_2, if_neg c_3, if_neg c_4, if_pos c_16, if_pos c_17, if_neg c_25, if_neg c_26, if_pos c_27]) K_121
                  · skip
                    refine lv_iload_n hx hb dX1_call_96 rfl (lv_at hl 2 rfl) ?_
                    refine lv_goto (tgt := 121) hx hb dX1_call_97 (by decide) ?_
                    exact xw_top (by simp only [xd_gk, if_neg c_1, if_neg c_2, if_neg c_3, if_neg c_4, if_pos c_16, if_pos c_17, if_pos c_25]) K_121
              · skip
                refine lv_aload_n hx hb dX1_call_80 rfl (lv_at hl 1 rfl) ?_
                refine va_get (D := (dC, dI)) (ci := 1) (v := .ref h1) (C := RX1) (T := TX1) (N := 9) hx hb hts in_X1 hown hK hP 0 rfl rfl 4 (by decide) (hts _ q151) (fun _ h9 => h9) rfl dX1_call_81 ?_
                refine lv_iload_n hx hb dX1_call_84 rfl (lv_at hl 2 rfl) ?_
                refine va_iald hx hb hK hP 1 0 rfl rfl (xd_argOk_in c_3) dX1_call_85 ?_
                refine xw_top (v := σ.2.2.2.2.2.2.2.1 p0.toNatClampNeg) rfl ?_
                refine lv_ineg hx hb dX1_call_86 ?_
                have hP9 : va_P (dC, dI) vwCl (xm_W h0 h1 h2 k1 k2 (xm_callS σ p0 p1)) s.heap := by
                  rw [show xm_callS σ p0 p1 = σ from by simp only [xm_callR, xm_callS, xm_callX, xm_callY, if_neg c_1, if_neg c_2, if_neg c_3, if_neg c_4, if_pos c_16, if_neg c_17]]
                  exact hP
                exact W.iret hx hb hr (fun t ht _ => xw_m (by simp only [xm_callR, xm_callS, xm_callX, xm_callY, if_neg c_1, if_neg c_2, if_neg c_3, if_neg c_4, if_pos c_16, if_neg c_17]) hP9 hS ht) hS.2.2 dX1_call_87
            · skip
              refine lv_bipush (v := (-100)) hx hb dX1_call_68 (by decide) ?_
              have hP9 : va_P (dC, dI) vwCl (xm_W h0 h1 h2 k1 k2 (xm_callS σ p0 p1)) s.heap := by
                rw [show xm_callS σ p0 p1 = σ from by simp only [xm_callR, xm_callS, xm_callX, xm_callY, if_neg c_1, if_neg c_2, if_neg c_3, if_neg c_4, if_neg c_16]]
                exact hP
              exact W.iret hx hb hr (fun t ht _ => xw_m (by simp only [xm_callR, xm_callS, xm_callX, xm_callY, if_neg c_1, if_neg c_2, if_neg c_3, if_neg c_4, if_neg c_16]) hP9 hS ht) hS.2.2 dX1_call_70
  · skip
    refine lv_iload_n hx hb dX1_call_0 rfl (lv_at hl 1 rfl) ?_
    refine lv_if_eq (tgt := 18) hx hb dX1_call_1 (by decide) (fun c_28 => ?_) (fun c_28 => ?_)
    · skip
      refine lv_iconst (v := 1) hx hb dX1_call_18 (by decide) ?_
      refine lv_goto (tgt := 23) hx hb dX1_call_19 (by decide) ?_
      exact xw_top (by simp only [xd_argOk, if_pos c_28]) K_23
    · skip
      refine lv_iload_n hx hb dX1_call_4 rfl (lv_at hl 1 rfl) ?_
      refine lv_iconst (v := 1) hx hb dX1_call_5 (by decide) ?_
      refine lv_icmp_ne (tgt := 22) hx hb dX1_call_6 (by decide) (fun c_29 => ?_) (fun c_29 => ?_)
      · skip
        refine lv_iconst (v := 0) hx hb dX1_call_22 (by decide) ?_
        exact xw_top (by simp only [xd_argOk, if_neg c_28, if_neg c_29]) K_23
      · skip
        refine lv_iload_n hx hb dX1_call_9 rfl (lv_at hl 2 rfl) ?_
        refine lv_if_eq (tgt := 18) hx hb dX1_call_10 (by decide) (fun c_30 => ?_) (fun c_30 => ?_)
        · skip
          refine lv_iconst (v := 1) hx hb dX1_call_18 (by decide) ?_
          refine lv_goto (tgt := 23) hx hb dX1_call_19 (by decide) ?_
          exact xw_top (by simp only [xd_argOk, if_neg c_28, if_pos c_29, if_pos c_30]) K_23
        · skip
          refine lv_iload_n hx hb dX1_call_13 rfl (lv_at hl 2 rfl) ?_
          refine lv_iconst (v := 1) hx hb dX1_call_14 (by decide) ?_
          refine lv_icmp_ne (tgt := 22) hx hb dX1_call_15 (by decide) (fun c_31 => ?_) (fun c_31 => ?_)
          · skip
            refine lv_iconst (v := 0) hx hb dX1_call_22 (by decide) ?_
            exact xw_top (by simp only [xd_argOk, if_neg c_28, if_pos c_29, if_neg c_30, if_neg c_31]) K_23
          · skip
            refine lv_iconst (v := 1) hx hb dX1_call_18 (by decide) ?_
            refine lv_goto (tgt := 23) hx hb dX1_call_19 (by decide) ?_
            exact xw_top (by simp only [xd_argOk, if_neg c_28, if_pos c_29, if_neg c_30, if_pos c_31]) K_23
end
section
/-! the plain law: the two states, side by side -/
def xl_lab (u : Int32) : Prop := ¬ u < 1 ∧ ¬ 9 < u
/-- demands on the argument: kinds w0 w1 with labels b0 b1 (opposite), against the labels a0 (a number is blamed), a1 (a truth is blamed) -/
def xl_arg (w0 b0 w1 b1 a0 a1 : Int32) : Prop :=
  (w0 = 0 ∧ w1 = 0 ∧ a0 = 0 ∧ a1 = 0) ∨
  (w0 = 1 ∧ b0 = -a1 ∧ xl_lab a1 ∧ ((w1 = 0 ∧ a0 = 0) ∨ (w1 = 2 ∧ b1 = -a0 ∧ xl_lab a0))) ∨
  (w0 = 2 ∧ b0 = -a0 ∧ xl_lab a0 ∧ ((w1 = 0 ∧ a1 = 0) ∨ (w1 = 1 ∧ b1 = -a1 ∧ xl_lab a1)))
/-- demands on the result -/
def xl_out (w0 b0 w1 b1 a0 a1 : Int32) : Prop :=
  (w0 = 0 ∧ w1 = 0 ∧ a0 = 0 ∧ a1 = 0) ∨
  (w0 = 1 ∧ b0 = a1 ∧ xl_lab a1 ∧ ((w1 = 0 ∧ a0 = 0) ∨ (w1 = 2 ∧ b1 = a0 ∧ xl_lab a0))) ∨
  (w0 = 2 ∧ b0 = a0 ∧ xl_lab a0 ∧ ((w1 = 0 ∧ a1 = 0) ∨ (w1 = 1 ∧ b1 = a1 ∧ xl_lab a1)))
/-- kept values: type, kind, raw of the desk against typed, sort, value -/
def xl_kept (ty ki ra td sr va : Int32) : Prop := ty = td ∧ ki = sr ∧ ra = va ∧ (∃ j : Nat, j < 12 ∧ ty = nI j) ∧ (¬ ty < 3 → ki = 2) ∧ (ki = 2 → ∃ j : Nat, j < 6 ∧ ra = nI j)
def xl_Inv (σ μ : xd_T) : Prop :=
  σ.1 = μ.1 ∧ σ.2.2.2.2.1 = μ.2.2.2.2.1 ∧ σ.2.2.2.2.2.1 = μ.2.2.2.2.2.1 ∧ σ.2.2.2.2.2.2.1 = μ.2.2.2.2.2.2.1 ∧
  (¬ σ.1 = 0 → xl_kept σ.2.1 σ.2.2.1 σ.2.2.2.1 μ.2.2.2.1 μ.2.1 μ.2.2.1) ∧
  xl_arg (σ.2.2.2.2.2.2.2.1 0) (σ.2.2.2.2.2.2.2.2 0) (σ.2.2.2.2.2.2.2.1 1) (σ.2.2.2.2.2.2.2.2 1) (μ.2.2.2.2.2.2.2.1 0) (μ.2.2.2.2.2.2.2.1 1) ∧
  xl_out (σ.2.2.2.2.2.2.2.1 2) (σ.2.2.2.2.2.2.2.2 2) (σ.2.2.2.2.2.2.2.1 3) (σ.2.2.2.2.2.2.2.2 3) (μ.2.2.2.2.2.2.2.2 0) (μ.2.2.2.2.2.2.2.2 1)
-- labels
theorem xl_labs : ∀ j, j < 10 → 0 < j → xd_nb (nI j) = nI j ∧ xd_nb (-(nI j)) = -(nI j) ∧ xd_n8 (-(nI j)) = -(nI j) ∧ ¬ nI j ≤ 0 ∧ ¬ -(nI j) = 0 ∧ ¬ nI j = 0 := by decide +kernel
theorem xl_lab_f {u : Int32} (h : xl_lab u) : xd_nb u = u ∧ xd_nb (-u) = -u ∧ xd_n8 (-u) = -u ∧ ¬ u ≤ 0 ∧ ¬ -u = 0 ∧ ¬ u = 0 := by
  rcases pk_ix u (n := 10) (by decide) with h1 | h1 | ⟨j, hj, e⟩
  · exact absurd (Int32.lt_trans h1 (by decide : (0 : Int32) < 1)) h.1
  · exact absurd (Int32.lt_of_lt_of_le (by decide : (9 : Int32) < nI 10) h1) h.2
  · rcases Nat.eq_zero_or_pos j with hz | hz
    · subst hz
      exact absurd (by rw [e]; decide) h.1
    · rw [e]
      exact xl_labs j hj hz
-- types
theorem xl_tys : ∀ j, j < 12 → xd_isType (nI j) = 1 ∧ xm_isType (nI j) = 1 := by decide +kernel
theorem xl_ty (t : Int32) : (xd_isType t = 0 ∧ xm_isType t = 0) ∨ ∃ j : Nat, j < 12 ∧ t = nI j := by
  rcases pk_ix t (n := 12) (by decide) with h | h | h
  · left
    unfold xd_isType xm_isType
    rw [if_pos h, if_pos h]
    exact ⟨rfl, rfl⟩
  · left
    have h12 : (12 : Int32) ≤ t := h
    have h11 : (11 : Int32) < t := Int32.lt_of_lt_of_le (by decide : (11 : Int32) < 12) h12
    unfold xd_isType xm_isType
    by_cases h0 : t < 0
    · rw [if_pos h0, if_pos h0]
      exact ⟨rfl, rfl⟩
    · rw [if_neg h0, if_neg h0, if_pos h12, if_pos h11]
      exact ⟨rfl, rfl⟩
  · exact Or.inr h
theorem xl_isType (t : Int32) : xd_isType t = xm_isType t := by
  rcases xl_ty t with ⟨h1, h2⟩ | ⟨j, hj, rfl⟩
  · rw [h1, h2]
  · rw [(xl_tys j hj).1, (xl_tys j hj).2]
theorem xl_agrees : ∀ i, i < 12 → ∀ j, j < 12 → xd_agree (nI i) (nI j) = xm_agree (nI i) (nI j) := by decide +kernel
theorem xl_agree (u t : Int32) : xd_agree u t = xm_agree u t := by
  rcases xl_ty u with ⟨h1, h2⟩ | ⟨i, hi, rfl⟩
  · unfold xd_agree xm_agree
    rw [if_pos h1, if_pos h2]
  · rcases xl_ty t with ⟨h1, h2⟩ | ⟨j, hj, rfl⟩
    · unfold xd_agree xm_agree
      rw [if_pos h1, if_pos h2]
      simp
    · exact xl_agrees i hi j hj
theorem xl_agN (t : Int32) (k : Nat) : xd_agN t k = xm_agN t k := by
  induction k with
  | zero => rfl
  | succ k ih =>
    show xd_agN t k + xd_bit (xd_agree (nI k) t) = xm_inc (xm_agree (nI k) t) (xm_agN t k)
    rw [ih, xl_agree]
    unfold xd_bit xm_inc
    by_cases h : xm_agree (nI k) t = 0
    · rw [if_pos h, if_pos h, Int32.add_zero]
    · rw [if_neg h, if_neg h]
theorem xl_agreeing (t : Int32) : xd_agreeing t = xm_agreeing t := by
  unfold xd_agreeing xm_agreeing
  rw [xl_isType, xl_agN]
-- looks
theorem xl_look {σ μ : xd_T} (h : xl_Inv σ μ) :
    xd_look σ.1 σ.2.1 (-100) = xd_look μ.1 μ.2.2.2.1 (-100) ∧ xd_look σ.1 σ.2.2.1 (-100) = xd_look μ.1 μ.2.1 (-100) ∧ xd_look σ.1 σ.2.2.2.1 0 = xd_look μ.1 μ.2.2.1 0 ∧
    xd_look σ.2.2.2.2.1 σ.2.2.2.2.2.1 (-100) = xd_look μ.2.2.2.2.1 μ.2.2.2.2.2.1 (-100) ∧ xd_look σ.2.2.2.2.1 σ.2.2.2.2.2.2.1 0 = xd_look μ.2.2.2.2.1 μ.2.2.2.2.2.2.1 0 := by
  obtain ⟨h1, h2, h3, h4, h5, -, -⟩ := h
  unfold xd_look
  rw [← h1, h2, h3, h4]
  by_cases h0 : σ.1 = 0
  · rw [if_pos h0, if_pos h0, if_pos h0, if_pos h0, if_pos h0, if_pos h0]
    exact ⟨rfl, rfl, rfl, rfl, rfl⟩
  · obtain ⟨e1, e2, e3, -⟩ := h5 h0
    rw [e1, e2, e3]
    exact ⟨rfl, rfl, rfl, rfl, rfl⟩
-- set
theorem xl_own (n : Int32) : xd_tof n = xm_own n := by
  unfold xd_tof xm_own
  by_cases h0 : n = 0
  · rw [if_pos h0, if_pos h0]; decide
  by_cases h1 : n = 1
  · rw [if_neg h0, if_neg h0, if_pos h1, if_pos h1]; decide
  by_cases h2 : n = 2
  · rw [if_neg h0, if_neg h0, if_neg h1, if_neg h1, if_pos h2, if_pos h2]; decide
  by_cases h3 : n = 3
  · rw [if_neg h0, if_neg h0, if_neg h1, if_neg h1, if_neg h2, if_neg h2, if_pos h3, if_pos h3]; decide
  by_cases h4 : n = 4
  · rw [if_neg h0, if_neg h0, if_neg h1, if_neg h1, if_neg h2, if_neg h2, if_neg h3, if_neg h3, if_pos h4, if_pos h4]; decide
  · rw [if_neg h0, if_neg h0, if_neg h1, if_neg h1, if_neg h2, if_neg h2, if_neg h3, if_neg h3, if_neg h4, if_neg h4]; decide
theorem xl_tofs : ∀ j, j < 6 → ∃ i, i < 12 ∧ xd_tof (nI j) = nI i := by decide +kernel
theorem xl_good {k n : Int32} (h : ¬ xd_good k n = 0) : k = 0 ∨ k = 1 ∨ (k = 2 ∧ ∃ j : Nat, j < 6 ∧ n = nI j) := by
  by_cases h0 : k = 0
  · exact Or.inl h0
  by_cases h1 : k = 1
  · exact Or.inr (Or.inl h1)
  refine Or.inr (Or.inr ?_)
  unfold xd_good at h
  rw [if_neg h0, if_neg h1] at h
  unfold xd_good2 at h
  by_cases h2 : k = 2
  · refine ⟨h2, ?_⟩
    rw [if_pos h2] at h
    rcases pk_ix n (n := 6) (by decide) with h3 | h3 | h3
    · rw [if_pos h3] at h
      exact absurd rfl h
    · have h6 : (5 : Int32) < n := Int32.lt_of_lt_of_le (by decide : (5 : Int32) < nI 6) h3
      by_cases h4 : n < 0
      · rw [if_pos h4] at h
        exact absurd rfl h
      · rw [if_neg h4, if_pos h6] at h
        exact absurd rfl h
    · exact h3
  · rw [if_neg h2] at h
    exact absurd rfl h
theorem xl_stype {k n : Int32} (h : ¬ xd_good k n = 0) : xd_stype k n = xm_stype k n ∧ (∃ j : Nat, j < 12 ∧ xd_stype k n = nI j) ∧ (¬ xd_stype k n < 3 → k = 2) ∧ (k = 2 → ∃ j : Nat, j < 6 ∧ n = nI j) := by
  unfold xd_stype xm_stype
  rcases xl_good h with rfl | rfl | ⟨rfl, j, hj, rfl⟩
  · rw [if_neg (by decide : ¬ (0 : Int32) = 2), if_pos (rfl : (0 : Int32) = 0)]
    exact ⟨by decide, ⟨1, by decide, by decide⟩, fun h9 => absurd (by decide) h9, fun h9 => absurd h9 (by decide)⟩
  · rw [if_neg (by decide : ¬ (1 : Int32) = 2), if_neg (by decide : ¬ (1 : Int32) = 0), if_pos (rfl : (1 : Int32) = 1)]
    exact ⟨by decide, ⟨2, by decide, by decide⟩, fun h9 => absurd (by decide) h9, fun h9 => absurd h9 (by decide)⟩
  · rw [if_pos rfl, if_neg (by decide), if_neg (by decide)]
    exact ⟨xl_own _, xl_tofs j hj, fun _ => rfl, fun _ => ⟨j, hj, rfl⟩⟩
theorem xl_set {σ μ : xd_T} (h : xl_Inv σ μ) (k n : Int32) : xd_setR k n = xm_setR k n ∧ xl_Inv (xd_setS σ k n) (xm_setS μ k n) := by
  unfold xd_setR xm_setR xd_setS xm_setS
  by_cases h0 : xd_good k n = 0
  · rw [if_pos h0, if_pos h0, if_pos h0, if_pos h0]
    exact ⟨rfl, h⟩
  · rw [if_neg h0, if_neg h0, if_neg h0, if_neg h0]
    obtain ⟨e1, e2, e3, e4⟩ := xl_stype h0
    refine ⟨e1, rfl, rfl, h.2.2.1, h.2.2.2.1, fun _ => ⟨e1, rfl, rfl, e2, e3, e4⟩, Or.inl ⟨rfl, rfl, rfl, rfl⟩, Or.inl ⟨rfl, rfl, rfl, rfl⟩⟩
-- demands
theorem xl_av10 (l o : Int32) : xm_av 1 0 l o = o := by unfold xm_av; rw [if_neg (by decide), if_pos (by decide)]
theorem xl_av11 (l o : Int32) : xm_av 1 1 l o = l := by unfold xm_av; rw [if_neg (by decide), if_neg (by decide)]
theorem xl_av20 (l o : Int32) : xm_av 2 0 l o = l := by unfold xm_av; rw [if_neg (by decide), if_neg (by decide)]
theorem xl_av21 (l o : Int32) : xm_av 2 1 l o = o := by unfold xm_av; rw [if_neg (by decide), if_pos (by decide)]
theorem xl_av0 (k l o : Int32) : xm_av 0 k l o = o := by unfold xm_av; rw [if_pos (by decide)]
theorem xl_ov10 (l o : Int32) : xm_ov 1 0 l o = o := by unfold xm_ov; rw [if_neg (by decide), if_pos (by decide)]
theorem xl_ov11 (l o : Int32) : xm_ov 1 1 l o = if o = 0 then l else o := by unfold xm_ov; rw [if_neg (by decide), if_neg (by decide)]
theorem xl_ov20 (l o : Int32) : xm_ov 2 0 l o = if o = 0 then l else o := by unfold xm_ov; rw [if_neg (by decide), if_neg (by decide)]
theorem xl_ov21 (l o : Int32) : xm_ov 2 1 l o = o := by unfold xm_ov; rw [if_neg (by decide), if_pos (by decide)]
theorem xl_ov0 (k l o : Int32) : xm_ov 0 k l o = o := by unfold xm_ov; rw [if_pos (by decide)]
theorem xl_nb1 : xd_nb 1 = 1 := by decide +kernel
theorem xl_nb2 : xd_nb 2 = 2 := by decide +kernel
theorem xl_n81 : xd_n8 1 = 1 := by decide +kernel
theorem xl_n82 : xd_n8 2 = 2 := by decide +kernel
theorem xl_dfW0 (v : Int32) (w : Nat → Int32) : xd_dfW v w 0 = xd_nb v := by
  unfold xd_dfW
  split
  · rfl
  · split <;> rfl
theorem xl_dfB0 (v l : Int32) (w b : Nat → Int32) : xd_dfB v l w b 0 = xd_nb l := by
  unfold xd_dfB
  split
  · rfl
  · split <;> rfl
theorem xl_dfW1 (v : Int32) (w : Nat → Int32) : xd_dfW v w 1 = if w 0 = 0 then w 1 else if w 0 = v then w 1 else xd_n8 (w 0) := by
  unfold xd_dfW
  split
  · rfl
  · split <;> rfl
theorem xl_dfB1 (v l : Int32) (w b : Nat → Int32) : xd_dfB v l w b 1 = if w 0 = 0 then b 1 else if w 0 = v then b 1 else xd_n8 (b 0) := by
  unfold xd_dfB
  split
  · rfl
  · split <;> rfl
theorem xl_dfW_hi (v : Int32) (w : Nat → Int32) : xd_dfW v w 2 = w 2 ∧ xd_dfW v w 3 = w 3 := by
  unfold xd_dfW
  split
  · exact ⟨rfl, rfl⟩
  · split <;> exact ⟨rfl, rfl⟩
theorem xl_dfB_hi (v l : Int32) (w b : Nat → Int32) : xd_dfB v l w b 2 = b 2 ∧ xd_dfB v l w b 3 = b 3 := by
  unfold xd_dfB
  split
  · exact ⟨rfl, rfl⟩
  · split <;> exact ⟨rfl, rfl⟩
theorem xl_dlW_lo (v : Int32) (w : Nat → Int32) : xd_dlW v w 0 = w 0 ∧ xd_dlW v w 1 = w 1 := by
  unfold xd_dlW
  split
  · exact ⟨rfl, rfl⟩
  · split
    · exact ⟨rfl, rfl⟩
    · split <;> exact ⟨rfl, rfl⟩
theorem xl_dlB_lo (v l : Int32) (w b : Nat → Int32) : xd_dlB v l w b 0 = b 0 ∧ xd_dlB v l w b 1 = b 1 := by
  unfold xd_dlB
  split
  · exact ⟨rfl, rfl⟩
  · split
    · exact ⟨rfl, rfl⟩
    · split <;> exact ⟨rfl, rfl⟩
theorem xl_dlW2 (v : Int32) (w : Nat → Int32) : xd_dlW v w 2 = if w 2 = 0 then xd_nb v else w 2 := by
  unfold xd_dlW
  split
  · rfl
  · split
    · rfl
    · split <;> rfl
theorem xl_dlB2 (v l : Int32) (w b : Nat → Int32) : xd_dlB v l w b 2 = if w 2 = 0 then xd_nb l else b 2 := by
  unfold xd_dlB
  split
  · rfl
  · split
    · rfl
    · split <;> rfl
theorem xl_dlW3 (v : Int32) (w : Nat → Int32) : xd_dlW v w 3 = if w 2 = 0 then w 3 else if w 2 = v then w 3 else if w 3 = 0 then xd_nb v else w 3 := by
  unfold xd_dlW
  split
  · rfl
  · split
    · rfl
    · split <;> rfl
theorem xl_dlB3 (v l : Int32) (w b : Nat → Int32) : xd_dlB v l w b 3 = if w 2 = 0 then b 3 else if w 2 = v then b 3 else if w 3 = 0 then xd_nb l else b 3 := by
  unfold xd_dlB
  split
  · rfl
  · split
    · rfl
    · split <;> rfl
theorem xl_df {w b : Nat → Int32} {a0 a1 v l : Int32} (h : xl_arg (w 0) (b 0) (w 1) (b 1) a0 a1) (hv : v = 1 ∨ v = 2) (hl : xl_lab l) :
    xl_arg (xd_dfW v w 0) (xd_dfB v (-l) w b 0) (xd_dfW v w 1) (xd_dfB v (-l) w b 1) (xm_av v 0 l a0) (xm_av v 1 l a1) := by
  have hn := (xl_lab_f hl).2.1
  rw [xl_dfW0, xl_dfB0, xl_dfW1, xl_dfB1, hn]
  rcases hv with rfl | rfl
  · rw [xl_av10, xl_av11, xl_nb1]
    rcases h with ⟨h1, h2, h3, h4⟩ | ⟨h1, h2, h3, h4⟩ | ⟨h1, h2, h3, h4⟩
    · rw [if_pos h1, if_pos h1]
      exact Or.inr (Or.inl ⟨rfl, rfl, hl, Or.inl ⟨h2, h3⟩⟩)
    · rw [if_neg (by rw [h1]; decide), if_pos h1, if_neg (by rw [h1]; decide), if_pos h1]
      exact Or.inr (Or.inl ⟨rfl, rfl, hl, h4⟩)
    · rw [if_neg (by rw [h1]; decide), if_neg (by rw [h1]; decide), if_neg (by rw [h1]; decide), if_neg (by rw [h1]; decide), h1, h2, xl_n82, (xl_lab_f h3).2.2.1]
      exact Or.inr (Or.inl ⟨rfl, rfl, hl, Or.inr ⟨rfl, rfl, h3⟩⟩)
  · rw [xl_av20, xl_av21, xl_nb2]
    rcases h with ⟨h1, h2, h3, h4⟩ | ⟨h1, h2, h3, h4⟩ | ⟨h1, h2, h3, h4⟩
    · rw [if_pos h1, if_pos h1]
      exact Or.inr (Or.inr ⟨rfl, rfl, hl, Or.inl ⟨h2, h4⟩⟩)
    · rw [if_neg (by rw [h1]; decide), if_neg (by rw [h1]; decide), if_neg (by rw [h1]; decide), if_neg (by rw [h1]; decide), h1, h2, xl_n81, (xl_lab_f h3).2.2.1]
      exact Or.inr (Or.inr ⟨rfl, rfl, hl, Or.inr ⟨rfl, rfl, h3⟩⟩)
    · rw [if_neg (by rw [h1]; decide), if_pos h1, if_neg (by rw [h1]; decide), if_pos h1]
      exact Or.inr (Or.inr ⟨rfl, rfl, hl, h4⟩)
theorem xl_dl {w b : Nat → Int32} {a0 a1 v l : Int32} (h : xl_out (w 2) (b 2) (w 3) (b 3) a0 a1) (hv : v = 1 ∨ v = 2) (hl : xl_lab l) :
    xl_out (xd_dlW v w 2) (xd_dlB v l w b 2) (xd_dlW v w 3) (xd_dlB v l w b 3) (xm_ov v 0 l a0) (xm_ov v 1 l a1) := by
  have hn := (xl_lab_f hl).1
  rw [xl_dlW2, xl_dlB2, xl_dlW3, xl_dlB3, hn]
  rcases hv with rfl | rfl
  · rw [xl_ov10, xl_ov11, xl_nb1]
    rcases h with ⟨h1, h2, h3, h4⟩ | ⟨h1, h2, h3, h4⟩ | ⟨h1, h2, h3, h4⟩
    · rw [if_pos h1, if_pos h1, if_pos h1, if_pos h1, if_pos h4]
      exact Or.inr (Or.inl ⟨rfl, rfl, hl, Or.inl ⟨h2, h3⟩⟩)
    · have h0 : ¬ w 2 = 0 := by rw [h1]; decide
      rw [if_neg h0, if_neg h0, if_neg h0, if_neg h0, if_pos h1, if_pos h1, if_neg (xl_lab_f h3).2.2.2.2.2]
      exact Or.inr (Or.inl ⟨h1, h2, h3, h4⟩)
    · have h0 : ¬ w 2 = 0 := by rw [h1]; decide
      have h9 : ¬ w 2 = 1 := by rw [h1]; decide
      rw [if_neg h0, if_neg h0, if_neg h0, if_neg h0, if_neg h9, if_neg h9]
      rcases h4 with ⟨h4, h5⟩ | ⟨h4, h5, h6⟩
      · rw [if_pos h4, if_pos h4, if_pos h5]
        exact Or.inr (Or.inr ⟨h1, h2, h3, Or.inr ⟨rfl, rfl, hl⟩⟩)
      · have h8 : ¬ w 3 = 0 := by rw [h4]; decide
        rw [if_neg h8, if_neg h8, if_neg (xl_lab_f h6).2.2.2.2.2]
        exact Or.inr (Or.inr ⟨h1, h2, h3, Or.inr ⟨h4, h5, h6⟩⟩)
  · rw [xl_ov20, xl_ov21, xl_nb2]
    rcases h with ⟨h1, h2, h3, h4⟩ | ⟨h1, h2, h3, h4⟩ | ⟨h1, h2, h3, h4⟩
    · rw [if_pos h1, if_pos h1, if_pos h1, if_pos h1, if_pos h3]
      exact Or.inr (Or.inr ⟨rfl, rfl, hl, Or.inl ⟨h2, h4⟩⟩)
    · have h0 : ¬ w 2 = 0 := by rw [h1]; decide
      have h9 : ¬ w 2 = 2 := by rw [h1]; decide
      rw [if_neg h0, if_neg h0, if_neg h0, if_neg h0, if_neg h9, if_neg h9]
      rcases h4 with ⟨h4, h5⟩ | ⟨h4, h5, h6⟩
      · rw [if_pos h4, if_pos h4, if_pos h5]
        exact Or.inr (Or.inl ⟨h1, h2, h3, Or.inr ⟨rfl, rfl, hl⟩⟩)
      · have h8 : ¬ w 3 = 0 := by rw [h4]; decide
        rw [if_neg h8, if_neg h8, if_neg (xl_lab_f h6).2.2.2.2.2]
        exact Or.inr (Or.inl ⟨h1, h2, h3, Or.inr ⟨h4, h5, h6⟩⟩)
    · have h0 : ¬ w 2 = 0 := by rw [h1]; decide
      rw [if_neg h0, if_neg h0, if_neg h0, if_neg h0, if_pos h1, if_pos h1, if_neg (xl_lab_f h3).2.2.2.2.2]
      exact Or.inr (Or.inr ⟨h1, h2, h3, h4⟩)
end
section
/-! the plain law, second half: casts and calls -/
theorem xl_wr1a {σ : xd_T} {a0 a1 u t l : Int32} (ha : xl_arg (σ.2.2.2.2.2.2.2.1 0) (σ.2.2.2.2.2.2.2.2 0) (σ.2.2.2.2.2.2.2.1 1) (σ.2.2.2.2.2.2.2.2 1) a0 a1) (hu : xd_arg u = 0 ∨ xd_arg u = 1 ∨ xd_arg u = 2) (hl : xl_lab l) :
    xl_arg ((xd_wr1 σ u t l).2.2.2.2.2.2.2.1 0) ((xd_wr1 σ u t l).2.2.2.2.2.2.2.2 0) ((xd_wr1 σ u t l).2.2.2.2.2.2.2.1 1) ((xd_wr1 σ u t l).2.2.2.2.2.2.2.2 1) (xm_av (xm_asked u t) 0 l a0) (xm_av (xm_asked u t) 1 l a1) := by
  unfold xd_wr1 xm_asked
  by_cases ht : xd_arg t = 0
  · rw [if_pos ht, if_pos ht]
    by_cases hu0 : xd_arg u = 0
    · rw [if_pos hu0, hu0, xl_av0, xl_av0]
      exact ha
    · rw [if_neg hu0]
      refine xl_df ha ?_ hl
      rcases hu with h | h
      · exact absurd h hu0
      · exact h
  · rw [if_neg ht, if_neg ht, xl_av0, xl_av0]
    exact ha
theorem xl_wr1o (σ : xd_T) (u t l : Int32) : (xd_wr1 σ u t l).2.2.2.2.2.2.2.1 2 = σ.2.2.2.2.2.2.2.1 2 ∧ (xd_wr1 σ u t l).2.2.2.2.2.2.2.1 3 = σ.2.2.2.2.2.2.2.1 3 ∧ (xd_wr1 σ u t l).2.2.2.2.2.2.2.2 2 = σ.2.2.2.2.2.2.2.2 2 ∧ (xd_wr1 σ u t l).2.2.2.2.2.2.2.2 3 = σ.2.2.2.2.2.2.2.2 3 := by
  unfold xd_wr1
  by_cases ht : xd_arg t = 0
  · rw [if_pos ht]
    by_cases hu0 : xd_arg u = 0
    · rw [if_pos hu0]
      exact ⟨rfl, rfl, rfl, rfl⟩
    · rw [if_neg hu0]
      exact ⟨(xl_dfW_hi _ _).1, (xl_dfW_hi _ _).2, (xl_dfB_hi _ _ _ _).1, (xl_dfB_hi _ _ _ _).2⟩
  · rw [if_neg ht]
    exact ⟨rfl, rfl, rfl, rfl⟩
theorem xl_wr1f (σ : xd_T) (u t l : Int32) : (xd_wr1 σ u t l).1 = σ.1 ∧ (xd_wr1 σ u t l).2.1 = σ.2.1 ∧ (xd_wr1 σ u t l).2.2.1 = σ.2.2.1 ∧ (xd_wr1 σ u t l).2.2.2.1 = σ.2.2.2.1 ∧ (xd_wr1 σ u t l).2.2.2.2.1 = σ.2.2.2.2.1 ∧ (xd_wr1 σ u t l).2.2.2.2.2.1 = σ.2.2.2.2.2.1 ∧ (xd_wr1 σ u t l).2.2.2.2.2.2.1 = σ.2.2.2.2.2.2.1 := by
  unfold xd_wr1
  by_cases ht : xd_arg t = 0
  · rw [if_pos ht]
    by_cases hu0 : xd_arg u = 0
    · rw [if_pos hu0]
      exact ⟨rfl, rfl, rfl, rfl, rfl, rfl, rfl⟩
    · rw [if_neg hu0]
      exact ⟨rfl, rfl, rfl, rfl, rfl, rfl, rfl⟩
  · rw [if_neg ht]
    exact ⟨rfl, rfl, rfl, rfl, rfl, rfl, rfl⟩
theorem xl_wrf (σ : xd_T) (u t l : Int32) : (xd_wrS σ u t l).1 = σ.1 ∧ (xd_wrS σ u t l).2.1 = σ.2.1 ∧ (xd_wrS σ u t l).2.2.1 = σ.2.2.1 ∧ (xd_wrS σ u t l).2.2.2.1 = σ.2.2.2.1 ∧ (xd_wrS σ u t l).2.2.2.2.1 = σ.2.2.2.2.1 ∧ (xd_wrS σ u t l).2.2.2.2.2.1 = σ.2.2.2.2.2.1 ∧ (xd_wrS σ u t l).2.2.2.2.2.2.1 = σ.2.2.2.2.2.2.1 := by
  unfold xd_wrS
  by_cases hr : xd_res u = 0
  · rw [if_pos hr]
    by_cases ht : xd_res t = 0
    · rw [if_pos ht]
      exact xl_wr1f σ u t l
    · rw [if_neg ht]
      exact xl_wr1f σ u t l
  · rw [if_neg hr]
    exact xl_wr1f σ u t l
theorem xl_wr {σ μ : xd_T} {u t l : Int32} (ha : xl_arg (σ.2.2.2.2.2.2.2.1 0) (σ.2.2.2.2.2.2.2.2 0) (σ.2.2.2.2.2.2.2.1 1) (σ.2.2.2.2.2.2.2.2 1) (μ.2.2.2.2.2.2.2.1 0) (μ.2.2.2.2.2.2.2.1 1)) (ho : xl_out (σ.2.2.2.2.2.2.2.1 2) (σ.2.2.2.2.2.2.2.2 2) (σ.2.2.2.2.2.2.2.1 3) (σ.2.2.2.2.2.2.2.2 3) (μ.2.2.2.2.2.2.2.2 0) (μ.2.2.2.2.2.2.2.2 1))
    (hu : xd_arg u = 0 ∨ xd_arg u = 1 ∨ xd_arg u = 2) (ht : xd_res t = 0 ∨ xd_res t = 1 ∨ xd_res t = 2) (hl : xl_lab l) :
    xl_arg ((xd_wrS σ u t l).2.2.2.2.2.2.2.1 0) ((xd_wrS σ u t l).2.2.2.2.2.2.2.2 0) ((xd_wrS σ u t l).2.2.2.2.2.2.2.1 1) ((xd_wrS σ u t l).2.2.2.2.2.2.2.2 1) ((xm_wrS μ u t l).2.2.2.2.2.2.2.1 0) ((xm_wrS μ u t l).2.2.2.2.2.2.2.1 1) ∧
    xl_out ((xd_wrS σ u t l).2.2.2.2.2.2.2.1 2) ((xd_wrS σ u t l).2.2.2.2.2.2.2.2 2) ((xd_wrS σ u t l).2.2.2.2.2.2.2.1 3) ((xd_wrS σ u t l).2.2.2.2.2.2.2.2 3) ((xm_wrS μ u t l).2.2.2.2.2.2.2.2 0) ((xm_wrS μ u t l).2.2.2.2.2.2.2.2 1) := by
  have h1 := xl_wr1a (t := t) ha hu hl
  have h2 : xl_out ((xd_wr1 σ u t l).2.2.2.2.2.2.2.1 2) ((xd_wr1 σ u t l).2.2.2.2.2.2.2.2 2) ((xd_wr1 σ u t l).2.2.2.2.2.2.2.1 3) ((xd_wr1 σ u t l).2.2.2.2.2.2.2.2 3) (μ.2.2.2.2.2.2.2.2 0) (μ.2.2.2.2.2.2.2.2 1) := by
    obtain ⟨q1, q2, q3, q4⟩ := xl_wr1o σ u t l
    rw [q1, q2, q3, q4]
    exact ho
  show xl_arg ((xd_wrS σ u t l).2.2.2.2.2.2.2.1 0) ((xd_wrS σ u t l).2.2.2.2.2.2.2.2 0) ((xd_wrS σ u t l).2.2.2.2.2.2.2.1 1) ((xd_wrS σ u t l).2.2.2.2.2.2.2.2 1) (xm_av (xm_asked u t) 0 l (μ.2.2.2.2.2.2.2.1 0)) (xm_av (xm_asked u t) 1 l (μ.2.2.2.2.2.2.2.1 1)) ∧
    xl_out ((xd_wrS σ u t l).2.2.2.2.2.2.2.1 2) ((xd_wrS σ u t l).2.2.2.2.2.2.2.2 2) ((xd_wrS σ u t l).2.2.2.2.2.2.2.1 3) ((xd_wrS σ u t l).2.2.2.2.2.2.2.2 3) (xm_ov (xm_giv u t) 0 l (μ.2.2.2.2.2.2.2.2 0)) (xm_ov (xm_giv u t) 1 l (μ.2.2.2.2.2.2.2.2 1))
  unfold xd_wrS xm_giv
  by_cases hr : xd_res u = 0
  · rw [if_pos hr, if_pos hr]
    by_cases ht0 : xd_res t = 0
    · rw [if_pos ht0, ht0, xl_ov0, xl_ov0]
      exact ⟨h1, h2⟩
    · rw [if_neg ht0]
      refine ⟨?_, ?_⟩
      · have e1 := xl_dlW_lo (xd_res t) (xd_wr1 σ u t l).2.2.2.2.2.2.2.1
        have e2 := xl_dlB_lo (xd_res t) l (xd_wr1 σ u t l).2.2.2.2.2.2.2.1 (xd_wr1 σ u t l).2.2.2.2.2.2.2.2
        show xl_arg (xd_dlW (xd_res t) (xd_wr1 σ u t l).2.2.2.2.2.2.2.1 0) (xd_dlB (xd_res t) l (xd_wr1 σ u t l).2.2.2.2.2.2.2.1 (xd_wr1 σ u t l).2.2.2.2.2.2.2.2 0) (xd_dlW (xd_res t) (xd_wr1 σ u t l).2.2.2.2.2.2.2.1 1) (xd_dlB (xd_res t) l (xd_wr1 σ u t l).2.2.2.2.2.2.2.1 (xd_wr1 σ u t l).2.2.2.2.2.2.2.2 1) _ _
        rw [e1.1, e1.2, e2.1, e2.2]
        exact h1
      · refine xl_dl h2 ?_ hl
        rcases ht with h | h
        · exact absurd h ht0
        · exact h
  · rw [if_neg hr, if_neg hr, xl_ov0, xl_ov0]
    exact ⟨h1, h2⟩
theorem xl_wr_same (σ : xd_T) (t l : Int32) : xd_wrS σ t t l = σ := by
  have h1 : xd_wr1 σ t t l = σ := by
    unfold xd_wr1
    by_cases h : xd_arg t = 0
    · rw [if_pos h, if_pos h]
    · rw [if_neg h]
  unfold xd_wrS
  rw [h1]
  by_cases h : xd_res t = 0
  · rw [if_pos h, if_pos h]
  · rw [if_neg h]
-- finite tables over the twelve types
def xl_C (i j : Nat) : Bool := i == j || i == 0 || j == 0 || (Nat.ble 3 i && Nat.ble 3 j)
theorem xl_cases0 : ∀ i, i < 12 → ∀ j, j < 12 → ¬ xm_agree (nI i) (nI j) = 0 → xl_C i j = true := by decide +kernel
theorem xl_cases {i j : Nat} (hi : i < 12) (hj : j < 12) (h : ¬ xm_agree (nI i) (nI j) = 0) : i = j ∨ (i = 0 ∧ j = 1) ∨ (i = 0 ∧ j = 2) ∨ (i = 0 ∧ 3 ≤ j) ∨ (j = 0 ∧ i ≠ 0 ∧ i < 3) ∨ (j = 0 ∧ 3 ≤ i) ∨ (3 ≤ i ∧ 3 ≤ j ∧ i ≠ j) := by
  have h1 := xl_cases0 i hi j hj h
  simp only [xl_C, Bool.or_eq_true, Bool.and_eq_true, beq_iff_eq, Nat.ble_eq] at h1
  omega
theorem xl_a3 : ∀ j, j < 12 → 3 ≤ j → (xd_arg (nI j) = 0 ∨ xd_arg (nI j) = 1 ∨ xd_arg (nI j) = 2) ∧ (xd_res (nI j) = 0 ∨ xd_res (nI j) = 1 ∨ xd_res (nI j) = 2) := by decide +kernel
theorem xl_f3 : ∀ j, j < 12 → 3 ≤ j → xd_or3 (nI j) = nI j ∧ ¬ xd_isFun (nI j) = 0 ∧ ¬ nI j < 3 ∧ ¬ nI j = 0 ∧ ¬ nI j = 1 ∧ ¬ nI j = 2 := by decide +kernel
theorem xl_fsame (so : Int32) : ∀ i, i < 12 → xm_fails (nI i) so (nI i) = 0 := by
  intro i hi
  unfold xm_fails
  by_cases h : nI i = 0
  · rw [h, if_pos rfl, if_neg (by decide)]
    unfold xm_f2 xm_f3
    rw [if_neg (by decide), if_pos (by decide)]
  · rw [if_neg h]
theorem xl_fne (so t : Int32) {td : Int32} (h : ¬ td = 0) : xm_fails td so t = 0 := by
  unfold xm_fails
  rw [if_neg h]
theorem xl_closeT {σ μ : xd_T} {t : Int32} (h : xl_Inv σ μ) (hk : xl_kept t σ.2.2.1 σ.2.2.2.1 t μ.2.1 μ.2.2.1) : xl_Inv (xd_tyS σ t) (xm_tyS μ t) :=
  ⟨h.1, h.2.1, h.2.2.1, h.2.2.2.1, fun _ => hk, h.2.2.2.2.2.1, h.2.2.2.2.2.2⟩
theorem xl_closeF {σ μ : xd_T} {t : Int32} (h : xl_Inv σ μ) : xl_Inv (xd_flS (xd_tyS σ t)) (xd_flS μ) :=
  ⟨rfl, h.2.1, h.2.2.1, h.2.2.2.1, fun h9 => absurd rfl h9, h.2.2.2.2.2.1, h.2.2.2.2.2.2⟩
theorem xl_closeW {σ μ : xd_T} {t u t' l : Int32} (h : xl_Inv σ μ) (hk : xl_kept t σ.2.2.1 σ.2.2.2.1 t μ.2.1 μ.2.2.1) (hu : xd_arg u = 0 ∨ xd_arg u = 1 ∨ xd_arg u = 2) (ht : xd_res t' = 0 ∨ xd_res t' = 1 ∨ xd_res t' = 2) (hl : xl_lab l) : xl_Inv (xd_wrS (xd_tyS σ t) u t' l) (xm_tyS (xm_wrS μ u t' l) t) := by
  obtain ⟨q1, q2, q3, q4, q5, q6, q7⟩ := xl_wrf (xd_tyS σ t) u t' l
  obtain ⟨r1, r2⟩ := xl_wr (σ := xd_tyS σ t) (μ := μ) h.2.2.2.2.2.1 h.2.2.2.2.2.2 hu ht hl
  refine ⟨?_, ?_, ?_, ?_, ?_, r1, r2⟩
  · rw [q1]; exact h.1
  · rw [q5]; exact h.2.1
  · rw [q6]; exact h.2.2.1
  · rw [q7]; exact h.2.2.2.1
  · intro _
    rw [q2, q3, q4]
    exact hk
theorem xl_cw {μ : xd_T} {f t l : Int32} (e : f = μ.2.2.2.1) : xm_cw μ t l = if xm_s f t < 3 then μ else if xm_to f t < 3 then μ else xm_wrS μ (xm_s f t) (xm_to f t) l := by
  unfold xm_cw
  rw [e]
theorem xl_s0 {t : Int32} (h : ¬ t < 3) : xm_s 0 t = 3 := by
  unfold xm_s
  rw [if_pos rfl, if_neg h]
  decide
theorem xl_s0' {t : Int32} (h : t < 3) : xm_s 0 t = 0 := by
  unfold xm_s
  rw [if_pos rfl, if_pos h]
theorem xl_s1 {f : Int32} (t : Int32) (h : ¬ f = 0) : xm_s f t = f := by
  unfold xm_s
  rw [if_neg h]
theorem xl_to0 {f : Int32} (t : Int32) (h : f < 3) : xm_to f t = t := by
  unfold xm_to
  rw [if_pos h]
theorem xl_to1 {f : Int32} (h : ¬ f < 3) : xm_to f 0 = 3 := by
  unfold xm_to
  rw [if_neg h, if_pos rfl]
  decide
theorem xl_to2 {f t : Int32} (h : ¬ f < 3) (ht : ¬ t = 0) : xm_to f t = t := by
  unfold xm_to
  rw [if_neg h, if_neg ht]
theorem xl_p1 {k : Int32} : k + 1 = 1 ↔ k = 0 := by
  constructor
  · intro h
    grind
  · intro h
    rw [h]
    decide
theorem xl_p2 {k : Int32} : k + 1 = 2 ↔ k = 1 := by
  constructor
  · intro h
    grind
  · intro h
    rw [h]
    decide
theorem xl_fa {k : Int32} : xm_fails 0 k 1 = if k = 0 then 0 else 1 := by
  unfold xm_fails xm_f2 xm_f3
  rw [if_pos (rfl : (0 : Int32) = 0), if_pos (rfl : (1 : Int32) = 1), if_neg (by decide : ¬ (1 : Int32) = 2), if_pos (by decide : (1 : Int32) < 3)]
theorem xl_fb {k : Int32} : xm_fails 0 k 2 = if k = 1 then 0 else 1 := by
  unfold xm_fails xm_f2 xm_f3
  rw [if_pos (rfl : (0 : Int32) = 0), if_neg (by decide : ¬ (2 : Int32) = 1), if_pos (rfl : (2 : Int32) = 2), if_pos (by decide : (2 : Int32) < 3)]
theorem xl_fc {k t : Int32} (h1 : ¬ t = 1) (h2 : ¬ t = 2) (h3 : ¬ t < 3) : xm_fails 0 k t = if k = 2 then 0 else 1 := by
  unfold xm_fails xm_f2 xm_f3
  rw [if_pos rfl, if_neg h1, if_neg h2, if_neg h3]
theorem xl_core {σ μ : xd_T} {t l : Int32} {i j : Nat} (h : xl_Inv σ μ) (c0 : ¬ σ.1 = 0) (hi : i < 12) (hj : j < 12) (ei : σ.2.1 = nI i) (ej : t = nI j) (hl : xl_lab l) (ha : ¬ xm_agree σ.2.1 t = 0) :
    (if σ.2.1 = t then (0 : Int32) else if σ.2.1 = 0 then (if xd_isFun t = 0 then (if σ.2.2.1 + 1 = t then 0 else l) else if σ.2.2.1 = 2 then 0 else l) else 0) = (if xm_fails σ.2.1 σ.2.2.1 t = 0 then 0 else l) ∧
    xl_Inv (if σ.2.1 = t then xd_tyS σ t else if σ.2.1 = 0 then (if xd_isFun t = 0 then (if σ.2.2.1 + 1 = t then xd_tyS σ t else xd_flS (xd_tyS σ t)) else if σ.2.2.1 = 2 then xd_cast3 σ t l else xd_flS (xd_tyS σ t)) else xd_cast3 σ t l)
      (if xm_fails σ.2.1 σ.2.2.1 t = 0 then xm_tyS (xm_cw μ t l) t else xd_flS μ) := by
  obtain ⟨e1, e2, e3, -, e5, e6⟩ := h.2.2.2.2.1 c0
  have hcw := xl_cw (t := t) (l := l) e1
  have kept : (¬ t < 3 → σ.2.2.1 = 2) → xl_kept t σ.2.2.1 σ.2.2.2.1 t μ.2.1 μ.2.2.1 := fun q => ⟨rfl, e2, e3, ⟨j, hj, ej⟩, q, e6⟩
  rw [ei, ej] at ha
  rcases xl_cases hi hj ha with rfl | ⟨rfl, rfl⟩ | ⟨rfl, rfl⟩ | ⟨rfl, h3⟩ | ⟨rfl, h0, h3⟩ | ⟨rfl, h3⟩ | ⟨h3, h4, h5⟩
  · -- the same type
    have hft : σ.2.1 = t := by rw [ei, ej]
    have hz : xm_fails σ.2.1 σ.2.2.1 t = 0 := by rw [ei, ej]; exact xl_fsame _ i hi
    rw [if_pos hft, if_pos hft, if_pos hz, if_pos hz, hcw]
    refine ⟨rfl, ?_⟩
    have hk := kept (fun q => e5 (by rw [hft]; exact q))
    by_cases h3 : σ.2.1 < 3
    · have hs : xm_s σ.2.1 t < 3 := by
        rw [← hft]
        by_cases hz : σ.2.1 = 0
        · rw [hz, xl_s0' (by decide)]
          decide
        · rw [xl_s1 _ hz]
          exact h3
      rw [if_pos hs]
      exact xl_closeT h hk
    · have hz : ¬ σ.2.1 = 0 := fun q => h3 (by rw [q]; decide)
      have h3t : ¬ t < 3 := by rw [← hft]; exact h3
      have hi3 : 3 ≤ i := by
        rcases Nat.lt_or_ge i 3 with q | q
        · exact absurd (by rw [ei]; exact nI_lt q (by decide)) h3
        · exact q
      rw [xl_s1 _ hz, xl_to2 h3 (by rw [← hft]; exact hz), if_neg h3, if_neg h3t, hft]
      have := xl_closeW (u := t) (t' := t) h hk (by rw [ej]; exact (xl_a3 i hi hi3).1) (by rw [ej]; exact (xl_a3 i hi hi3).2) hl
      rw [xl_wr_same] at this
      exact this
  · -- any to a number
    have f0 : σ.2.1 = 0 := ei
    have t1 : t = 1 := ej
    subst t1
    have hn : ¬ (0 : Int32) = 1 := by decide
    have hz : (0 : Int32) = 0 := rfl
    have hf : xd_isFun 1 = 0 := by decide
    rw [f0, if_neg hn, if_neg hn, if_pos hz, if_pos hz, if_pos hf, if_pos hf, xl_fa, hcw]
    by_cases hk0 : σ.2.2.1 = 0
    · rw [if_pos (xl_p1.mpr hk0), if_pos (xl_p1.mpr hk0), if_pos hk0, if_pos hz, if_pos hz, f0, xl_s0' (by decide), if_pos (by decide : (0 : Int32) < 3)]
      exact ⟨rfl, xl_closeT h (kept (fun q => absurd (by decide) q))⟩
    · rw [if_neg (fun q => hk0 (xl_p1.mp q)), if_neg (fun q => hk0 (xl_p1.mp q)), if_neg hk0, if_neg (by decide : ¬ (1 : Int32) = 0), if_neg (by decide : ¬ (1 : Int32) = 0)]
      exact ⟨rfl, xl_closeF h⟩
  · -- any to a truth
    have f0 : σ.2.1 = 0 := ei
    have t1 : t = 2 := ej
    subst t1
    have hn : ¬ (0 : Int32) = 2 := by decide
    have hz : (0 : Int32) = 0 := rfl
    have hf : xd_isFun 2 = 0 := by decide
    rw [f0, if_neg hn, if_neg hn, if_pos hz, if_pos hz, if_pos hf, if_pos hf, xl_fb, hcw]
    by_cases hk0 : σ.2.2.1 = 1
    · rw [if_pos (xl_p2.mpr hk0), if_pos (xl_p2.mpr hk0), if_pos hk0, if_pos hz, if_pos hz, f0, xl_s0' (by decide), if_pos (by decide : (0 : Int32) < 3)]
      exact ⟨rfl, xl_closeT h (kept (fun q => absurd (by decide) q))⟩
    · rw [if_neg (fun q => hk0 (xl_p2.mp q)), if_neg (fun q => hk0 (xl_p2.mp q)), if_neg hk0, if_neg (by decide : ¬ (1 : Int32) = 0), if_neg (by decide : ¬ (1 : Int32) = 0)]
      exact ⟨rfl, xl_closeF h⟩
  · -- any to a function
    have f0 : σ.2.1 = 0 := ei
    obtain ⟨g1, g2, g3, g4, g5, g6⟩ := xl_f3 j hj h3
    rw [← ej] at g1 g2 g3 g4 g5 g6
    have hc3 : xd_cast3 σ t l = xd_wrS (xd_tyS σ t) 3 t l := by
      unfold xd_cast3
      rw [f0, if_pos (by decide : xd_isFun 0 = 0), if_neg g2, g1, show xd_or3 0 = 3 from by decide]
    have hn : ¬ (0 : Int32) = t := fun q => g4 q.symm
    have hz : (0 : Int32) = 0 := rfl
    rw [hc3, f0, if_neg hn, if_neg hn, if_pos hz, if_pos hz, if_neg g2, if_neg g2, xl_fc g5 g6 g3, hcw, f0, xl_s0 g3, xl_to0 t (by decide), if_neg (by decide : ¬ (3 : Int32) < 3), if_neg g3]
    by_cases hk0 : σ.2.2.1 = 2
    · rw [if_pos hk0, if_pos hk0, if_pos hk0, if_pos hz, if_pos hz]
      exact ⟨rfl, xl_closeW h (kept (fun _ => hk0)) (by decide) (by rw [ej]; exact (xl_a3 j hj h3).2) hl⟩
    · rw [if_neg hk0, if_neg hk0, if_neg hk0, if_neg (by decide : ¬ (1 : Int32) = 0), if_neg (by decide : ¬ (1 : Int32) = 0)]
      exact ⟨rfl, xl_closeF h⟩
  · -- a number or truth to any
    have t0 : t = 0 := ej
    subst t0
    have f0 : ¬ σ.2.1 = 0 := by
      rw [ei]
      intro q
      exact h0 ((nI_eq (by omega) (by decide)).mp (show nI i = nI 0 from q))
    have f3 : σ.2.1 < 3 := by rw [ei]; exact nI_lt h3 (by decide)
    have hc3 : xd_cast3 σ 0 l = xd_tyS σ 0 := by
      unfold xd_cast3
      rw [if_pos (show xd_isFun σ.2.1 = 0 by unfold xd_isFun; rw [if_pos f3]), if_pos (by decide : xd_isFun 0 = 0)]
    rw [hc3, if_neg f0, if_neg f0, if_neg f0, if_neg f0, if_pos (xl_fne _ _ f0), if_pos (xl_fne _ _ f0), hcw, xl_s1 _ f0, if_pos f3]
    exact ⟨rfl, xl_closeT h (kept (fun q => absurd (by decide) q))⟩
  · -- a function to any
    have t0 : t = 0 := ej
    subst t0
    obtain ⟨g1, g2, g3, g4, g5, g6⟩ := xl_f3 i hi h3
    rw [← ei] at g1 g2 g3 g4 g5 g6
    have hc3 : xd_cast3 σ 0 l = xd_wrS (xd_tyS σ 0) σ.2.1 3 l := by
      unfold xd_cast3
      rw [if_neg g2, g1, show xd_or3 0 = 3 from by decide]
    rw [hc3, if_neg g4, if_neg g4, if_neg g4, if_neg g4, if_pos (xl_fne _ _ g4), if_pos (xl_fne _ _ g4), hcw, xl_s1 _ g4, xl_to1 g3, if_neg g3, if_neg (by decide : ¬ (3 : Int32) < 3)]
    exact ⟨rfl, xl_closeW h (kept (fun q => absurd (by decide) q)) (by rw [ei]; exact (xl_a3 i hi h3).1) (by decide) hl⟩
  · -- a function to another
    obtain ⟨g1, g2, g3, g4, g5, g6⟩ := xl_f3 i hi h3
    rw [← ei] at g1 g2 g3 g4 g5 g6
    obtain ⟨k1, k2, k3, k4, k5, k6⟩ := xl_f3 j hj h4
    rw [← ej] at k1 k2 k3 k4 k5 k6
    have hne : ¬ σ.2.1 = t := by
      rw [ei, ej]
      intro q
      exact h5 ((nI_eq (by omega) (by omega)).mp q)
    have hc3 : xd_cast3 σ t l = xd_wrS (xd_tyS σ t) σ.2.1 t l := by
      unfold xd_cast3
      rw [if_neg g2, g1, k1]
    rw [hc3, if_neg hne, if_neg hne, if_neg g4, if_neg g4, if_pos (xl_fne _ _ g4), if_pos (xl_fne _ _ g4), hcw, xl_s1 _ g4, xl_to2 g3 k4, if_neg g3, if_neg k3]
    exact ⟨rfl, xl_closeW h (kept (fun _ => e5 g3)) (by rw [ei]; exact (xl_a3 i hi h3).1) (by rw [ej]; exact (xl_a3 j hj h4).2) hl⟩
theorem xl_cast {σ μ : xd_T} (h : xl_Inv σ μ) (t l : Int32) : xd_castR σ t l = xm_castR μ t l ∧ xl_Inv (xd_castS σ t l) (xm_castS μ t l) := by
  unfold xd_castR xm_castR xd_castS xm_castS
  have h1 := h.1
  by_cases c0 : σ.1 = 0
  · have c0' : μ.1 = 0 := by rw [← h1]; exact c0
    rw [if_pos c0, if_pos c0', if_pos c0, if_pos c0']
    exact ⟨rfl, h⟩
  have c0' : ¬ μ.1 = 0 := by rw [← h1]; exact c0
  rw [if_neg c0, if_neg c0', if_neg c0, if_neg c0']
  obtain ⟨e1, e2, e3, ⟨i, hi, ei⟩, e5, e6⟩ := h.2.2.2.2.1 c0
  rw [← e1, ← e2]
  rcases xl_ty t with ⟨t1, t2⟩ | ⟨j, hj, ej⟩
  · have ha : xm_agree σ.2.1 t = 0 := by
      unfold xm_agree
      rw [if_pos t2]
      simp
    rw [if_pos t1, if_pos t1]
    by_cases c1 : l < 1
    · rw [if_pos c1, if_pos c1]
      exact ⟨rfl, h⟩
    by_cases c2 : 9 < l
    · rw [if_neg c1, if_neg c1, if_pos c2, if_pos c2]
      exact ⟨rfl, h⟩
    rw [if_neg c1, if_neg c1, if_neg c2, if_neg c2, if_pos ha, if_pos ha]
    exact ⟨rfl, h⟩
  · have t1 : ¬ xd_isType t = 0 := by rw [ej, (xl_tys j hj).1]; decide
    rw [if_neg t1, if_neg t1]
    by_cases c1 : l < 1
    · rw [if_pos c1, if_pos c1, if_pos c1, if_pos c1]
      exact ⟨rfl, h⟩
    rw [if_neg c1, if_neg c1, if_neg c1, if_neg c1]
    by_cases c2 : 9 < l
    · rw [if_pos c2, if_pos c2, if_pos c2, if_pos c2]
      exact ⟨rfl, h⟩
    rw [if_neg c2, if_neg c2, if_neg c2, if_neg c2, xl_agree]
    by_cases c3 : xm_agree σ.2.1 t = 0
    · rw [if_pos c3, if_pos c3, if_pos c3, if_pos c3]
      exact ⟨rfl, h⟩
    rw [if_neg c3, if_neg c3, if_neg c3, if_neg c3]
    exact xl_core h c0 hi hj ei ej ⟨c1, c2⟩ c3
-- calls
theorem xl_meetA {w b : Nat → Int32} {a0 a1 : Int32} (h : xl_arg (w 0) (b 0) (w 1) (b 1) a0 a1) : xd_meet w b 0 0 = -a0 ∧ xd_meet w b 0 1 = -a1 := by
  show (if w 0 = 0 then 0 else if w 0 = 0 + 1 then (if w 1 = 0 then 0 else b 1) else b 0) = -a0 ∧ (if w 0 = 0 then 0 else if w 0 = 1 + 1 then (if w 1 = 0 then 0 else b 1) else b 0) = -a1
  rcases h with ⟨h1, h2, h3, h4⟩ | ⟨h1, h2, h3, h4⟩ | ⟨h1, h2, h3, h4⟩
  · rw [if_pos h1, if_pos h1, h3, h4]
    decide
  · rw [h1, if_neg (by decide : ¬ (1 : Int32) = 0), if_pos (by decide : (1 : Int32) = 0 + 1), if_neg (by decide : ¬ (1 : Int32) = 0), if_neg (by decide : ¬ (1 : Int32) = 1 + 1), h2]
    refine ⟨?_, rfl⟩
    rcases h4 with ⟨h4, h5⟩ | ⟨h4, h5, -⟩
    · rw [if_pos h4, h5]
      decide
    · rw [if_neg (show ¬ w 1 = 0 by rw [h4]; decide), h5]
  · rw [h1, if_neg (by decide : ¬ (2 : Int32) = 0), if_neg (by decide : ¬ (2 : Int32) = 0 + 1), if_neg (by decide : ¬ (2 : Int32) = 0), if_pos (by decide : (2 : Int32) = 1 + 1), h2]
    refine ⟨rfl, ?_⟩
    rcases h4 with ⟨h4, h5⟩ | ⟨h4, h5, -⟩
    · rw [if_pos h4, h5]
      decide
    · rw [if_neg (show ¬ w 1 = 0 by rw [h4]; decide), h5]
theorem xl_meetO {w b : Nat → Int32} {a0 a1 : Int32} (h : xl_out (w 2) (b 2) (w 3) (b 3) a0 a1) : xd_meet w b 2 0 = a0 ∧ xd_meet w b 2 1 = a1 := by
  show (if w 2 = 0 then 0 else if w 2 = 0 + 1 then (if w 3 = 0 then 0 else b 3) else b 2) = a0 ∧ (if w 2 = 0 then 0 else if w 2 = 1 + 1 then (if w 3 = 0 then 0 else b 3) else b 2) = a1
  rcases h with ⟨h1, h2, h3, h4⟩ | ⟨h1, h2, h3, h4⟩ | ⟨h1, h2, h3, h4⟩
  · rw [if_pos h1, if_pos h1, h3, h4]
    exact ⟨rfl, rfl⟩
  · rw [h1, if_neg (by decide : ¬ (1 : Int32) = 0), if_pos (by decide : (1 : Int32) = 0 + 1), if_neg (by decide : ¬ (1 : Int32) = 0), if_neg (by decide : ¬ (1 : Int32) = 1 + 1), h2]
    refine ⟨?_, rfl⟩
    rcases h4 with ⟨h4, h5⟩ | ⟨h4, h5, -⟩
    · rw [if_pos h4, h5]
    · rw [if_neg (show ¬ w 3 = 0 by rw [h4]; decide), h5]
  · rw [h1, if_neg (by decide : ¬ (2 : Int32) = 0), if_neg (by decide : ¬ (2 : Int32) = 0 + 1), if_neg (by decide : ¬ (2 : Int32) = 0), if_pos (by decide : (2 : Int32) = 1 + 1), h2]
    refine ⟨rfl, ?_⟩
    rcases h4 with ⟨h4, h5⟩ | ⟨h4, h5, -⟩
    · rw [if_pos h4, h5]
    · rw [if_neg (show ¬ w 3 = 0 by rw [h4]; decide), h5]
theorem xl_labA {w0 b0 w1 b1 a0 a1 : Int32} (h : xl_arg w0 b0 w1 b1 a0 a1) : (a0 = 0 ∨ xl_lab a0) ∧ (a1 = 0 ∨ xl_lab a1) := by
  rcases h with ⟨h1, h2, h3, h4⟩ | ⟨h1, h2, h3, h4⟩ | ⟨h1, h2, h3, h4⟩
  · exact ⟨Or.inl h3, Or.inl h4⟩
  · rcases h4 with ⟨h4, h5⟩ | ⟨h4, h5, h6⟩
    · exact ⟨Or.inl h5, Or.inr h3⟩
    · exact ⟨Or.inr h6, Or.inr h3⟩
  · rcases h4 with ⟨h4, h5⟩ | ⟨h4, h5, h6⟩
    · exact ⟨Or.inr h3, Or.inl h5⟩
    · exact ⟨Or.inr h3, Or.inr h6⟩
theorem xl_labO {w0 b0 w1 b1 a0 a1 : Int32} (h : xl_out w0 b0 w1 b1 a0 a1) : (a0 = 0 ∨ xl_lab a0) ∧ (a1 = 0 ∨ xl_lab a1) := by
  rcases h with ⟨h1, h2, h3, h4⟩ | ⟨h1, h2, h3, h4⟩ | ⟨h1, h2, h3, h4⟩
  · exact ⟨Or.inl h3, Or.inl h4⟩
  · rcases h4 with ⟨h4, h5⟩ | ⟨h4, h5, h6⟩
    · exact ⟨Or.inl h5, Or.inr h3⟩
    · exact ⟨Or.inr h6, Or.inr h3⟩
  · rcases h4 with ⟨h4, h5⟩ | ⟨h4, h5, h6⟩
    · exact ⟨Or.inr h3, Or.inl h5⟩
    · exact ⟨Or.inr h3, Or.inr h6⟩
theorem xl_gk01 {ra k : Int32} (h : k = 0 ∨ k = 1) : xd_gk ra k = 0 ∨ xd_gk ra k = 1 := by
  unfold xd_gk
  by_cases h1 : ra = 1
  · rw [if_pos h1]; exact h
  · rw [if_neg h1]
    by_cases h2 : ra = 2
    · rw [if_pos h2]; exact Or.inr rfl
    · rw [if_neg h2]
      by_cases h3 : ra = 3
      · rw [if_pos h3]; exact Or.inr rfl
      · rw [if_neg h3]; exact Or.inl rfl
theorem xl_ok01 {k n : Int32} (h : ¬ xd_argOk k n = 0) : k = 0 ∨ k = 1 := by
  unfold xd_argOk at h
  by_cases h0 : k = 0
  · exact Or.inl h0
  · by_cases h1 : k = 1
    · exact Or.inr h1
    · rw [if_neg h0, if_neg h1] at h
      exact absurd rfl h
theorem xl_giv (n : Int32) : ∀ r, r < 6 → xd_given (nI r) n = xm_made (nI r) n := by
  intro r hr
  unfold xd_given xm_made
  rcases (show r = 0 ∨ r = 1 ∨ r = 2 ∨ r = 3 ∨ r = 4 ∨ r = 5 by omega) with rfl | rfl | rfl | rfl | rfl | rfl
  · simp only [if_pos (by decide : nI 0 = 0)]
  · simp only [if_neg (by decide : ¬ nI 1 = 0), if_neg (by decide : ¬ nI 1 = 2), if_neg (by decide : ¬ nI 1 = 3), if_neg (by decide : ¬ nI 1 = 4), if_pos (by decide : nI 1 = 1)]
  · simp only [if_neg (by decide : ¬ nI 2 = 0), if_neg (by decide : ¬ nI 2 = 1), if_pos (by decide : nI 2 = 2), if_neg (by decide : ¬ nI 2 = 5)]
  · simp only [if_neg (by decide : ¬ nI 3 = 0), if_neg (by decide : ¬ nI 3 = 1), if_neg (by decide : ¬ nI 3 = 2), if_pos (by decide : nI 3 = 3), if_neg (by decide : ¬ nI 3 = 5)]
  · simp only [if_neg (by decide : ¬ nI 4 = 0), if_neg (by decide : ¬ nI 4 = 1), if_neg (by decide : ¬ nI 4 = 2), if_neg (by decide : ¬ nI 4 = 3), if_pos (by decide : nI 4 = 4), if_neg (by decide : ¬ nI 4 = 5)]
  · simp only [if_neg (by decide : ¬ nI 5 = 0), if_neg (by decide : ¬ nI 5 = 1), if_neg (by decide : ¬ nI 5 = 2), if_neg (by decide : ¬ nI 5 = 3), if_neg (by decide : ¬ nI 5 = 4), if_pos (by decide : nI 5 = 5)]
/-- the heart of a call: a blames the argument, o the result -/
theorem xl_callc {a o : Int32} (ha : a = 0 ∨ xl_lab a) (ho : o = 0 ∨ xl_lab o) {σ σ' μ μ' : xd_T} (h : xl_Inv σ μ) (h' : xl_Inv σ' μ') :
    (if -a = 0 then o else -a) = (if a ≤ 0 then (if o ≤ 0 then 0 else o) else -a) ∧ xl_Inv (if -a = 0 then (if o = 0 then σ' else σ) else σ) (if a ≤ 0 then (if o ≤ 0 then μ' else μ) else μ) := by
  rcases ha with rfl | ha
  · have z1 : -(0 : Int32) = 0 := by decide
    have z2 : (0 : Int32) ≤ 0 := by decide
    rw [if_pos z1, if_pos z2, if_pos z1, if_pos z2]
    rcases ho with rfl | ho
    · rw [if_pos z2, if_pos (rfl : (0 : Int32) = 0), if_pos z2]
      exact ⟨rfl, h'⟩
    · obtain ⟨-, -, -, o1, -, o2⟩ := xl_lab_f ho
      rw [if_neg o1, if_neg o2, if_neg o1]
      exact ⟨rfl, h⟩
  · obtain ⟨-, -, -, a1, a2, -⟩ := xl_lab_f ha
    rw [if_neg a2, if_neg a1, if_neg a2, if_neg a1]
    exact ⟨rfl, h⟩
theorem xl_call {σ μ : xd_T} (h : xl_Inv σ μ) (k n : Int32) : xd_callR σ k n = xm_callR μ k n ∧ xl_Inv (xd_callS σ k n) (xm_callS μ k n) := by
  unfold xd_callR xm_callR xd_callS xm_callS
  have h1 := h.1
  by_cases c0 : σ.1 = 0
  · have c0' : μ.1 = 0 := by rw [← h1]; exact c0
    rw [if_pos c0, if_pos c0', if_pos c0, if_pos c0']
    exact ⟨rfl, h⟩
  have c0' : ¬ μ.1 = 0 := by rw [← h1]; exact c0
  rw [if_neg c0, if_neg c0', if_neg c0, if_neg c0']
  have hk := h.2.2.2.2.1 c0
  obtain ⟨e1, e2, e3, -, e5, e6⟩ := id hk
  rw [← e1]
  by_cases f3 : σ.2.1 < 3
  · have hf : xd_isFun σ.2.1 = 0 := by unfold xd_isFun; rw [if_pos f3]
    rw [if_pos f3, if_pos f3, if_pos hf, if_pos hf]
    exact ⟨rfl, h⟩
  have hf : ¬ xd_isFun σ.2.1 = 0 := by unfold xd_isFun; rw [if_neg f3]; decide
  rw [if_neg f3, if_neg f3, if_neg hf, if_neg hf]
  by_cases c1 : xd_argOk k n = 0
  · rw [if_pos c1, if_pos c1, if_pos c1, if_pos c1]
    exact ⟨rfl, h⟩
  rw [if_neg c1, if_neg c1, if_neg c1, if_neg c1]
  have key : xd_callX σ k = xm_callX μ k ∧ xl_Inv (xd_callY σ k n) (xm_callY μ k n) := by
    obtain ⟨r, hr, er⟩ := e6 (e5 f3)
    have k01 := xl_ok01 c1
    have mA := xl_meetA h.2.2.2.2.2.1
    have mO := xl_meetO h.2.2.2.2.2.2
    have lA := xl_labA h.2.2.2.2.2.1
    have lO := xl_labO h.2.2.2.2.2.2
    have g01 := xl_gk01 (ra := σ.2.2.2.1) k01
    have hg : xd_given σ.2.2.2.1 n = xm_made μ.2.2.1 n := by rw [← e3, er]; exact xl_giv n r hr
    unfold xd_callX xm_callX xd_callY xm_callY
    rw [← e3, hg, ← e3]
    have hA : xd_meet σ.2.2.2.2.2.2.2.1 σ.2.2.2.2.2.2.2.2 0 k = -(μ.2.2.2.2.2.2.2.1 k.toNatClampNeg) ∧ (μ.2.2.2.2.2.2.2.1 k.toNatClampNeg = 0 ∨ xl_lab (μ.2.2.2.2.2.2.2.1 k.toNatClampNeg)) := by
      rcases k01 with rfl | rfl
      · exact ⟨mA.1, lA.1⟩
      · exact ⟨mA.2, lA.2⟩
    have hO : xd_meet σ.2.2.2.2.2.2.2.1 σ.2.2.2.2.2.2.2.2 2 (xd_gk σ.2.2.2.1 k) = μ.2.2.2.2.2.2.2.2 (xd_gk σ.2.2.2.1 k).toNatClampNeg ∧ (μ.2.2.2.2.2.2.2.2 (xd_gk σ.2.2.2.1 k).toNatClampNeg = 0 ∨ xl_lab (μ.2.2.2.2.2.2.2.2 (xd_gk σ.2.2.2.1 k).toNatClampNeg)) := by
      rcases g01 with e | e
      · rw [e]; exact ⟨mO.1, lO.1⟩
      · rw [e]; exact ⟨mO.2, lO.2⟩
    rw [hA.1, hO.1]
    refine xl_callc hA.2 hO.2 h ?_
    exact ⟨h1, rfl, rfl, rfl, fun _ => ⟨e1, e2, rfl, hk.2.2.2.1, e5, e6⟩, h.2.2.2.2.2.1, h.2.2.2.2.2.2⟩
  by_cases c2 : xd_arg σ.2.1 = 0
  · rw [if_pos c2, if_pos c2, if_pos c2, if_pos c2]
    exact key
  rw [if_neg c2, if_neg c2, if_neg c2, if_neg c2]
  by_cases c3 : xd_arg σ.2.1 = k + 1
  · rw [if_pos c3, if_pos c3, if_pos c3, if_pos c3]
    exact key
  · rw [if_neg c3, if_neg c3, if_neg c3, if_neg c3]
    exact ⟨rfl, h⟩
/-- at the start -/
abbrev xd_0 : xd_T := (0, 0, 0, 0, 0, 0, 0, fun _ => 0, fun _ => 0)
theorem xl_0 : xl_Inv xd_0 xd_0 := ⟨rfl, rfl, rfl, rfl, fun h => absurd rfl h, Or.inl ⟨rfl, rfl, rfl, rfl⟩, Or.inl ⟨rfl, rfl, rfl, rfl⟩⟩
end
section
/-! the two constructors -/
abbrev wsX0_init : List Cond := ws_ yX0_init cX0_init 1 none
abbrev wsX1_init : List Cond := ws_ yX1_init cX1_init 1 none
/-- a desk, a reference just made by 'new' -/
abbrev xd_new (h : Nat) : va_W := [(h, .inr (0, [.int 0, .int 0, .int 0, .int 0, .null, .null, .int 0, .int 0, .int 0]))]
abbrev xm_new (h : Nat) : va_W := [(h, .inr (1, [.int 0, .int 0, .int 0, .int 0, .null, .null, .int 0, .int 0, .int 0]))]
abbrev xd_B (dC : Nat → ClassId) (dI : Nat → Nat → Nat) (A : Nat → Prop) (h0 : Nat) (_ : Unit) (t : State) : Prop := ∃ (q1 q2 : Nat) (k1 k2 : ClassId), va_P (dC, dI) vwCl (xd_W h0 q1 q2 k1 k2 xd_0) t.heap ∧ va_K (dC, dI) vwCl [(k1, .byte), (k2, .byte)] t ∧ va_D A (xd_W h0 q1 q2 k1 k2 xd_0)
abbrev xm_B (dC : Nat → ClassId) (dI : Nat → Nat → Nat) (A : Nat → Prop) (h0 : Nat) (_ : Unit) (t : State) : Prop := ∃ (q1 q2 : Nat) (k1 k2 : ClassId), va_P (dC, dI) vwCl (xm_W h0 q1 q2 k1 k2 xd_0) t.heap ∧ va_K (dC, dI) vwCl [(k1, .int), (k2, .int)] t ∧ va_D A (xm_W h0 q1 q2 k1 k2 xd_0)
set_option maxHeartbeats 4000000 in
set_option maxRecDepth 100000 in
theorem metX0_init (l : Launch) (dC : Nat → ClassId) (dI : Nat → Nat → Nat) (h0 : Nat) (sz : Nat) : Met l yX0_init wsX0_init ({ frames := 1, cells := 2, slots := 8, locals := 12 }) (va_Pc [.ref h0] (fun U => U.heap.size = sz ∧ va_P (dC, dI) vwCl (xd_new h0) U.heap ∧ va_K (dC, dI) vwCl [] U ∧ va_D (fun _ => True) (xd_new h0))) (va_Qv (fun _ : Unit => True) (xd_B dC dI (va_A (xd_new h0) sz) h0) (va_A (xd_new h0) sz)) 2 8 (va_A (xd_new h0) sz) := by
  refine Met.ofW (cc := cX0_init) (maxL := 1) (ret := none) (by decide) rfl ?_
  intro p e s m args below meth c s₁ B hml hv
  obtain ⟨rfl, hsz, hP, hK, hD0⟩ := hv
  have hx := B.exec
  have hb := B.bytes
  have hr := B.returns
  have hts := atoms_spec (ws := wsX0_init) B.pre
  have hts : ∀ w ∈ lw_all, w.before _ s = true := fun w h => hts w (List.mem_cons_of_mem _ h)
  have hown : s.vm.findClass RX0 = some m.cls := findClass_of_methodNamed B.named
  have hlocks := B.notSynchronized
  have hin : meth.name = "<init>" := (name_of_methodNamed B.named B.method).1
  subst hsz
  have hD := hD0.self (sz := s.heap.size)
  generalize hAe : va_A (xd_new h0) s.heap.size = A at hD ⊢
  have hA : ∀ q : Nat, s.heap.size ≤ q → A q := fun q h => by rw [← hAe]; exact Or.inr h
  have hS : va_S A s.heap s.heap [] := va_S.rf
  have hl := lv_entry ([.ref h0]) (n := 1) (Nat.le_of_ble_eq_true rfl)
  rw [lg_entry_eq]
  generalize (lg_sl ([.ref h0]) ++ List.replicate (1 - (lg_sl ([.ref h0])).length) Slot.unset).toArray = ls at hl ⊢
  have hl : lv_has ls 1 [(0, .ref h0)] := hl
  refine lv_aload_n hx hb dX0_init_0 rfl (lv_at hl 0 rfl) ?_
  refine W.objInit hx hb hown (hts _ q22) (hts _ q23) (hts _ q24) rfl (by rw [hml]; exact hl.1) rfl dX0_init_1 (Nat.le_of_ble_eq_true rfl) (Nat.le_of_ble_eq_true rfl) ?_
  refine W.eq (g2 := F0 m 4 ls []) rfl ?_
  refine lv_aload_n hx hb dX0_init_4 rfl (lv_at hl 0 rfl) ?_
  refine lv_iconst (v := 4) hx hb dX0_init_5 (by decide) ?_
  refine va_newa (atype := .byte) (ty := .byte) (N' := 4) (a0 := (4, .inl (fun _ => 0))) hx hb (hts _ q53) rfl hK hP hD hS hA (fun _ => rfl) (by decide) (by decide) (by decide) (Nat.le_of_ble_eq_true rfl) (Nat.le_of_ble_eq_true rfl) dX0_init_6 (fun q1 k1 H hK hP hD hS => ?_)
  refine va_putF (D := (dC, dI)) (ci := 0) (v := .ref q1) (ty := .array .byte) (C := RX0) (T := TX0) (N := 9) hx hb hts in_X0 tyX0 tyX0_ok nmX0 hown hK hP hD hS 0 rfl rfl 4 (by decide) (hts _ q29) (fun _ h9 => h9) rfl hin rfl (by decide +kernel) rfl rfl (Nat.le_of_ble_eq_true rfl) dX0_init_8 (fun H locs hP hD hS => ?_)
  refine lv_aload_n hx hb dX0_init_11 rfl (lv_at hl 0 rfl) ?_
  refine lv_iconst (v := 4) hx hb dX0_init_12 (by decide) ?_
  refine va_newa (atype := .byte) (ty := .byte) (N' := 4) (a0 := (4, .inl (fun _ => 0))) hx hb (hts _ q53) rfl hK hP hD hS hA (fun _ => rfl) (by decide) (by decide) (by decide) (Nat.le_of_ble_eq_true rfl) (Nat.le_of_ble_eq_true rfl) dX0_init_13 (fun q2 k2 H hK hP hD hS => ?_)
  refine va_putF (D := (dC, dI)) (ci := 0) (v := .ref q2) (ty := .array .byte) (C := RX0) (T := TX0) (N := 9) hx hb hts in_X0 tyX0 tyX0_ok nmX0 hown hK hP hD hS 0 rfl rfl 5 (by decide) (hts _ q30) (fun _ h9 => h9) rfl hin rfl (by decide +kernel) rfl rfl (Nat.le_of_ble_eq_true rfl) dX0_init_15 (fun H locs hP hD hS => ?_)
  have hP9 : va_P (dC, dI) vwCl (xd_W h0 q1 q2 k1 k2 xd_0) H := hP
  have hD9 : va_D A (xd_W h0 q1 q2 k1 k2 xd_0) := hD
  have hK9 : va_K (dC, dI) vwCl [(k1, .byte), (k2, .byte)] s := hK
  refine W.widen (k := 2) (n := 8) (Nat.le_of_ble_eq_true rfl) (Nat.le_of_ble_eq_true rfl) ?_
  exact W.vret hx hb hr (fun t ht hW => ⟨⟨(), rfl, trivial, q1, q2, k1, k2, by rw [ht]; exact hP9, va_K.moved hW.alike hK9, hD9⟩, hS.F ht⟩) hS.2.2 dX0_init_18
set_option maxHeartbeats 4000000 in
set_option maxRecDepth 100000 in
theorem metX1_init (l : Launch) (dC : Nat → ClassId) (dI : Nat → Nat → Nat) (h0 : Nat) (sz : Nat) : Met l yX1_init wsX1_init ({ frames := 1, cells := 2, slots := 4, locals := 12 }) (va_Pc [.ref h0] (fun U => U.heap.size = sz ∧ va_P (dC, dI) vwCl (xm_new h0) U.heap ∧ va_K (dC, dI) vwCl [] U ∧ va_D (fun _ => True) (xm_new h0))) (va_Qv (fun _ : Unit => True) (xm_B dC dI (va_A (xm_new h0) sz) h0) (va_A (xm_new h0) sz)) 2 4 (va_A (xm_new h0) sz) := by
  refine Met.ofW (cc := cX1_init) (maxL := 1) (ret := none) (by decide) rfl ?_
  intro p e s m args below meth c s₁ B hml hv
  obtain ⟨rfl, hsz, hP, hK, hD0⟩ := hv
  have hx := B.exec
  have hb := B.bytes
  have hr := B.returns
  have hts := atoms_spec (ws := wsX1_init) B.pre
  have hts : ∀ w ∈ lw_all, w.before _ s = true := fun w h => hts w (List.mem_cons_of_mem _ h)
  have hown : s.vm.findClass RX1 = some m.cls := findClass_of_methodNamed B.named
  have hlocks := B.notSynchronized
  subst hsz
  have hD := hD0.self (sz := s.heap.size)
  generalize hAe : va_A (xm_new h0) s.heap.size = A at hD ⊢
  have hA : ∀ q : Nat, s.heap.size ≤ q → A q := fun q h => by rw [← hAe]; exact Or.inr h
  have hS : va_S A s.heap s.heap [] := va_S.rf
  have hl := lv_entry ([.ref h0]) (n := 1) (Nat.le_of_ble_eq_true rfl)
  rw [lg_entry_eq]
  generalize (lg_sl ([.ref h0]) ++ List.replicate (1 - (lg_sl ([.ref h0])).length) Slot.unset).toArray = ls at hl ⊢
  have hl : lv_has ls 1 [(0, .ref h0)] := hl
  refine lv_aload_n hx hb dX1_init_0 rfl (lv_at hl 0 rfl) ?_
  refine W.objInit hx hb hown (hts _ q146) (hts _ q23) (hts _ q24) rfl (by rw [hml]; exact hl.1) rfl dX1_init_1 (Nat.le_of_ble_eq_true rfl) (Nat.le_of_ble_eq_true rfl) ?_
  refine W.eq (g2 := F0 m 4 ls []) rfl ?_
  refine lv_aload_n hx hb dX1_init_4 rfl (lv_at hl 0 rfl) ?_
  refine lv_iconst (v := 2) hx hb dX1_init_5 (by decide) ?_
  refine va_newa (atype := .int) (ty := .int) (N' := 2) (a0 := (2, .inl (fun _ => 0))) hx hb (hts _ q175) rfl hK hP hD hS hA (fun _ => rfl) (by decide) (by decide) (by decide) (Nat.le_of_ble_eq_true rfl) (Nat.le_of_ble_eq_true rfl) dX1_init_6 (fun q1 k1 H hK hP hD hS => ?_)
  refine va_put (D := (dC, dI)) (ci := 1) (v := .ref q1) (ty := .array .int) (C := RX1) (T := TX1) (N := 9) hx hb hts in_X1 tyX1 tyX1_ok nmX1 hown hK hP hD hS 0 rfl rfl 4 (by decide) (hts _ q151) (fun _ h9 => h9) rfl (by decide +kernel) rfl rfl (Nat.le_of_ble_eq_true rfl) dX1_init_8 (fun H locs hP hD hS => ?_)
  refine lv_aload_n hx hb dX1_init_11 rfl (lv_at hl 0 rfl) ?_
  refine lv_iconst (v := 2) hx hb dX1_init_12 (by decide) ?_
  refine va_newa (atype := .int) (ty := .int) (N' := 2) (a0 := (2, .inl (fun _ => 0))) hx hb (hts _ q175) rfl hK hP hD hS hA (fun _ => rfl) (by decide) (by decide) (by decide) (Nat.le_of_ble_eq_true rfl) (Nat.le_of_ble_eq_true rfl) dX1_init_13 (fun q2 k2 H hK hP hD hS => ?_)
  refine va_put (D := (dC, dI)) (ci := 1) (v := .ref q2) (ty := .array .int) (C := RX1) (T := TX1) (N := 9) hx hb hts in_X1 tyX1 tyX1_ok nmX1 hown hK hP hD hS 0 rfl rfl 5 (by decide) (hts _ q152) (fun _ h9 => h9) rfl (by decide +kernel) rfl rfl (Nat.le_of_ble_eq_true rfl) dX1_init_15 (fun H locs hP hD hS => ?_)
  have hP9 : va_P (dC, dI) vwCl (xm_W h0 q1 q2 k1 k2 xd_0) H := hP
  have hD9 : va_D A (xm_W h0 q1 q2 k1 k2 xd_0) := hD
  have hK9 : va_K (dC, dI) vwCl [(k1, .int), (k2, .int)] s := hK
  refine W.widen (k := 2) (n := 4) (Nat.le_of_ble_eq_true rfl) (Nat.le_of_ble_eq_true rfl) ?_
  exact W.vret hx hb hr (fun t ht hW => ⟨⟨(), rfl, trivial, q1, q2, k1, k2, by rw [ht]; exact hP9, va_K.moved hW.alike hK9, hD9⟩, hS.F ht⟩) hS.2.2 dX1_init_18
end
section
/-! THE CLAIM OUT OF ONE WALK OF THE LAW'S BODY. Your part is whole_start (and what it stands on); all else here is the same for every law, but numbers. -/
def R_law : String := "CoercionDeskLaw"
def lw_P (b : Addr) (xs : List Int32) (args : Array Value) (s : State) : Prop := args = #[.ref b] ∧ s.IntsAt b xs ∧ xs.length ≤ 192 ∧ (Jvm.Cond.and given_1 narrow_1).before args s = true
def lw_Q (_ : Array Value) (s : State) (o : Outcome) (t : State) : Prop := o = .returned (some (.int 1)) ∧ Framed s o t [] 600000 7290000
def lw_Z (below : List Frame) (a : Array Value) (s : State) : State → Prop := fun t => ∃ o, t.status = .running ∧ Ended t below o ∧ lw_Q a s o t
/-- the law's own end, with 1 on the stack, nothing written that was there before, its room as the claim has it -/
theorem lw_ret {p : Program} {l : Launch} {e : Env} {s : State} {m : MethodId} {below : List Frame} {meth : Method} {c : Code} {b : Nat} (hx : p.tables.exec = Jvm.exec) (hb : c.code = code) (hr : meth.sig.returnType = ret) (hlocks : meth.locks = false) {pc : Nat} {H : Heap} {ls : Array Slot} (hdg : decode code pc = .ok (.ireturn, 1)) : W p l e room_1 s m #[Value.ref b] below meth c H [] 600000 7290000 (lw_Z below #[Value.ref b] s) (F0 m pc ls [.int 1]) := by
  intro T hT X
  obtain ⟨fs, hret, hrun, hended, hW, hframe⟩ := X.leave (v := some (.int 1)) (hlocks := hlocks) (fun h => by rw [hr] at h; cases h)
  have hmeth' : T.vm.method? m = some meth := X.method'
  refine ⟨T.setFrames fs, ?_, .returned (some (.int 1)), hrun, hended, rfl, ⟨_, rfl⟩, hW, hframe⟩
  jvm_step X.here [X.here.top, hx, hb, hdg, hmeth', hr, ret, narrow_b1]
  (try refine ⟨rfl, ?_⟩); (try refine ⟨rfl, ?_⟩)
  first | (intro acts; rw [hret _ acts rfl rfl rfl]) | rw [hret _ _ rfl rfl rfl]
  exact Steps.refl _
/-- what holds at the law's entry: the machine, the code, the tables' words (any of lw_tbl by 'hts w (by decide +kernel)'), the script of L ints xs at the cell b, what the Statement gives of the start (any of its parts by flat_of_before) -/
def lw_At (p : Program) (s : State) (m : MethodId) (meth : Method) (c : Code) (b L : Nat) (xs : Nat → Int32) : Prop :=
  p.tables.exec = Jvm.exec ∧ c.code = code ∧ meth.sig.returnType = ret ∧ c.maxLocals = 4 ∧ s.vm.findClass R_law = some m.cls ∧ (∀ w ∈ lw_tbl, w.before #[Value.ref b] s = true) ∧ va_X b L xs s s.heap ∧ b < s.heap.size ∧ meth.locks = false ∧ (Jvm.Cond.and given_1 narrow_1).before #[Value.ref b] s = true
end
section
/-! the law: its loop, its entry -/
theorem xl_test {L i : Nat} (hL : L ≤ 192) (hi : i ≤ L) : nI L - 3 < nI i ↔ L < i + 3 := by
  rw [Int32.lt_iff_toInt_lt, show (3 : Int32) = nI 3 from rfl, pk_sub_toInt (by omega) (by omega), nI_toInt (by omega)]
  omega
set_option maxHeartbeats 4000000 in
set_option maxRecDepth 100000 in
/-- the loop at its head: i ints are read, the two states are side by side -/
theorem law_loop {p : Program} {e : Env} {s : State} {m : MethodId} {below : List Frame} {meth : Method} {c : Code} {l : Launch} {b L : Nat} {xs : Nat → Int32} (hL : L ≤ 192) (C0 : lw_At p s m meth c b L xs) {dC : Nat → ClassId} {dI : Nat → Nat → Nat} (h0 h1 h2 g0 g1 g2 : Nat) (k1 k2 j1 j2 : ClassId) (hK : va_K (dC, dI) vwCl [(k1, .byte), (k2, .byte), (j1, .int), (j2, .int)] s) :
    ∀ (n i : Nat) (x3 : Int32) (σ μ : xd_T), i ≤ L → L + 1 ≤ i + n → x3 = nI i → xl_Inv σ μ → ∀ (H : Heap) (locs : List Loc), va_P (dC, dI) vwCl (xd_W h0 h1 h2 k1 k2 σ ++ xm_W g0 g1 g2 j1 j2 μ) H → va_D (fun q : Nat => s.heap.size ≤ q) (xd_W h0 h1 h2 k1 k2 σ ++ xm_W g0 g1 g2 j1 j2 μ) → va_S (fun q : Nat => s.heap.size ≤ q) s.heap H locs → ∀ (ls : Array Slot), lv_has ls 4 [(0, .ref b), (1, .ref h0), (2, .ref g0), (3, .int x3)] → W p l e room_1 s m #[Value.ref b] below meth c H locs 6 30 (lw_Z below #[Value.ref b] s) (F0 m 18 ls []) := by
  obtain ⟨hx, hb, hr, hml, hown, hts0, hX, hbl, hlocks, hgv⟩ := id C0
  have hts : ∀ w ∈ lw_all, w.before #[Value.ref b] s = true := fun w h => hts0 w (lw_all_tbl h)
  have hbA : ¬ (fun q : Nat => s.heap.size ≤ q) b := Nat.not_le.mpr hbl
  have hKd := hK.sub (tys' := [(k1, .byte), (k2, .byte)]) [0, 1] rfl
  have hKm := hK.sub (tys' := [(j1, .int), (j2, .int)]) [2, 3] rfl
  intro n
  induction n with
  | zero =>
    intro i x3 σ μ q1 q2
    exact absurd q2 (by omega)
  | succ n ih =>
    intro i x3 σ μ hi hin ex3 hI H locs hP hD hS ls hl
    refine lv_iload_n hx hb dL_law_18 rfl (lv_at hl 3 rfl) ?_
    refine lv_aload_n hx hb dL_law_19 rfl (lv_at hl 0 rfl) ?_
    refine va_slen hx hb hX hbl hbA hS dL_law_20 ?_
    refine lv_iconst (v := 3) hx hb dL_law_21 (by decide) ?_
    refine lv_isub hx hb dL_law_22 ?_
    refine lv_icmp_gt (tgt := 314) hx hb dL_law_23 (by decide) (fun c_1 => ?_) (fun c_1 => ?_)
    · refine lv_iconst (v := 1) hx hb dL_law_314 (by decide) ?_
      refine va_forget hS.2.2 ?_
      refine W.widen (k := 600000) (n := 7290000) (Nat.le_of_ble_eq_true rfl) (Nat.le_of_ble_eq_true rfl) ?_
      exact lw_ret hx hb hr hlocks dL_law_315
    · have hlt : i + 3 ≤ L := by
        rcases Nat.lt_or_ge L (i + 3) with q | q
        · exact absurd (by rw [ex3]; exact (xl_test hL hi).mpr q) c_1
        · exact q
      have v0 : vp_in x3 L := by rw [ex3]; exact vp_in_nI (by omega) (by omega)
      have v1 : vp_in (x3 + 1) L := by rw [ex3, nI_1]; exact vp_in_nI (by omega) (by omega)
      have v2 : vp_in (x3 + 2) L := by rw [ex3, show nI i + 2 = nI (i + 2) from nI_add i 2]; exact vp_in_nI (by omega) (by omega)
      obtain ⟨u1, eu1⟩ : ∃ y : Int32, y = xs (x3 + 1).toNatClampNeg := ⟨_, rfl⟩
      obtain ⟨u2, eu2⟩ : ∃ y : Int32, y = xs (x3 + 2).toNatClampNeg := ⟨_, rfl⟩
      have K : ∀ (σ μ : xd_T) (H : Heap) (locs : List Loc), xl_Inv σ μ → va_P (dC, dI) vwCl (xd_W h0 h1 h2 k1 k2 σ ++ xm_W g0 g1 g2 j1 j2 μ) H → va_D (fun q : Nat => s.heap.size ≤ q) (xd_W h0 h1 h2 k1 k2 σ ++ xm_W g0 g1 g2 j1 j2 μ) → va_S (fun q : Nat => s.heap.size ≤ q) s.heap H locs → W p l e room_1 s m #[Value.ref b] below meth c H locs 6 30 (lw_Z below #[Value.ref b] s) (F0 m 308 ls []) := by
        intro σ μ H locs hI hP hD hS
        obtain ⟨x9, ex9⟩ : ∃ y : Int32, y = x3 + 3 := ⟨_, rfl⟩
        refine lv_iinc (v := x9) (lv' := [(3, .int x9), (0, .ref b), (1, .ref h0), (2, .ref g0)]) hx hb dL_law_308 hl (k := 3) rfl (by rw [ex9]; rfl) (by decide) rfl (fun ls hl => ?_)
        refine lv_goto (tgt := 18) hx hb dL_law_311 (by decide) ?_
        exact ih (i + 3) x9 σ μ hlt (by omega) (by rw [ex9, ex3]; exact nI_add i 3) hI H locs hP hD hS ls (lv_sub hl [1, 2, 3, 0] rfl)
      refine lv_aload_n hx hb dL_law_26 rfl (lv_at hl 0 rfl) ?_
      refine lv_iload_n hx hb dL_law_27 rfl (lv_at hl 3 rfl) ?_
      refine va_sld hx hb hX hbl hbA hS v0 dL_law_28 ?_
      refine lv_bipush (v := 15) hx hb dL_law_29 (by decide) ?_
      refine lv_iand hx hb dL_law_31 ?_
      obtain ⟨j, hj, ej⟩ := pk_andE (xs x3.toNatClampNeg) (m := 15) 4 (by decide)
      have hj : j < 16 := hj
      refine xw_top ej ?_
      rcases (show j = 0 ∨ j = 1 ∨ j = 2 ∨ j = 3 ∨ j = 4 ∨ j = 5 ∨ j = 6 ∨ j = 7 ∨ j = 8 ∨ j = 9 ∨ 10 ≤ j by omega) with rfl | rfl | rfl | rfl | rfl | rfl | rfl | rfl | rfl | rfl | hj10
      · refine lv_tableIn (off := 56) (tgt := 88) hx hb dL_law_32 (by decide) (by decide) rfl (by decide) ?_
        refine lv_aload_n hx hb dL_law_88 rfl (lv_at hl 1 rfl) ?_
        refine lv_aload_n hx hb dL_law_89 rfl (lv_at hl 0 rfl) ?_
        refine lv_iload_n hx hb dL_law_90 rfl (lv_at hl 3 rfl) ?_
        refine lv_iconst (v := 1) hx hb dL_law_91 (by decide) ?_
        refine lv_iadd hx hb dL_law_92 ?_
        refine va_sld hx hb hX hbl hbA hS v1 dL_law_93 ?_
        refine xw_top eu1.symm ?_
        refine lv_aload_n hx hb dL_law_94 rfl (lv_at hl 0 rfl) ?_
        refine lv_iload_n hx hb dL_law_95 rfl (lv_at hl 3 rfl) ?_
        refine lv_iconst (v := 2) hx hb dL_law_96 (by decide) ?_
        refine lv_iadd hx hb dL_law_97 ?_
        refine va_sld hx hb hX hbl hbA hS v2 dL_law_98 ?_
        refine xw_top eu2.symm ?_
        refine xw_U (rv := some (.int (xd_setR u1 u2))) (As := [.int u1, .int u2]) (rest := []) (ci := 0) ⟨hx, hb, hml, hown, hts⟩ (metX0_set l dC dI h0 h1 h2 k1 k2 σ u1 u2) (cwV 2 hts (lw_V q54 q55 q56 q15 q57) rfl rfl rfl hdX0_set ⟨Nat.le_of_ble_eq_true rfl, Nat.le_of_ble_eq_true rfl⟩) [] (xm_W g0 g1 g2 j1 j2 μ) hKd hP hD hS rfl 0 rfl rfl rfl hl.1 rfl (Nat.le_of_ble_eq_true rfl) dL_law_99 ⟨Nat.le_of_ble_eq_true rfl, Nat.le_of_ble_eq_true rfl⟩ (fun H locs hP hD hS => ?_)
        refine W.eq (g2 := F0 m 102 ls [.int (xd_setR u1 u2)]) rfl ?_
        refine lv_aload_n hx hb dL_law_102 rfl (lv_at hl 2 rfl) ?_
        refine lv_aload_n hx hb dL_law_103 rfl (lv_at hl 0 rfl) ?_
        refine lv_iload_n hx hb dL_law_104 rfl (lv_at hl 3 rfl) ?_
        refine lv_iconst (v := 1) hx hb dL_law_105 (by decide) ?_
        refine lv_iadd hx hb dL_law_106 ?_
        refine va_sld hx hb hX hbl hbA hS v1 dL_law_107 ?_
        refine xw_top eu1.symm ?_
        refine lv_aload_n hx hb dL_law_108 rfl (lv_at hl 0 rfl) ?_
        refine lv_iload_n hx hb dL_law_109 rfl (lv_at hl 3 rfl) ?_
        refine lv_iconst (v := 2) hx hb dL_law_110 (by decide) ?_
        refine lv_iadd hx hb dL_law_111 ?_
        refine va_sld hx hb hX hbl hbA hS v2 dL_law_112 ?_
        refine xw_top eu2.symm ?_
        refine xw_U (rv := some (.int (xm_setR u1 u2))) (As := [.int u1, .int u2]) (rest := [.int (xd_setR u1 u2)]) (ci := 1) ⟨hx, hb, hml, hown, hts⟩ (metX1_set l dC dI g0 g1 g2 j1 j2 μ u1 u2) (cwV 2 hts (lw_V q176 q177 q178 q16 q179) rfl rfl rfl hdX1_set ⟨Nat.le_of_ble_eq_true rfl, Nat.le_of_ble_eq_true rfl⟩) (xd_W h0 h1 h2 k1 k2 (xd_setS σ u1 u2)) [] hKm hP hD hS rfl 0 rfl rfl rfl hl.1 rfl (Nat.le_of_ble_eq_true rfl) dL_law_113 ⟨Nat.le_of_ble_eq_true rfl, Nat.le_of_ble_eq_true rfl⟩ (fun H locs hP hD hS => ?_)
        refine W.eq (g2 := F0 m 116 ls [.int (xm_setR u1 u2), .int (xd_setR u1 u2)]) rfl ?_
        refine lv_icmp_eq (tgt := 308) hx hb dL_law_116 (by decide) (fun _ => ?_) (fun c_2 => absurd ((xl_set hI u1 u2).1) c_2)
        exact K (xd_setS σ u1 u2) (xm_setS μ u1 u2) H locs (xl_set hI u1 u2).2 hP hD hS
      · refine lv_tableIn (off := 89) (tgt := 121) hx hb dL_law_32 (by decide) (by decide) rfl (by decide) ?_
        refine lv_aload_n hx hb dL_law_121 rfl (lv_at hl 1 rfl) ?_
        refine lv_aload_n hx hb dL_law_122 rfl (lv_at hl 0 rfl) ?_
        refine lv_iload_n hx hb dL_law_123 rfl (lv_at hl 3 rfl) ?_
        refine lv_iconst (v := 1) hx hb dL_law_124 (by decide) ?_
        refine lv_iadd hx hb dL_law_125 ?_
        refine va_sld hx hb hX hbl hbA hS v1 dL_law_126 ?_
        refine xw_top eu1.symm ?_
        refine lv_aload_n hx hb dL_law_127 rfl (lv_at hl 0 rfl) ?_
        refine lv_iload_n hx hb dL_law_128 rfl (lv_at hl 3 rfl) ?_
        refine lv_iconst (v := 2) hx hb dL_law_129 (by decide) ?_
        refine lv_iadd hx hb dL_law_130 ?_
        refine va_sld hx hb hX hbl hbA hS v2 dL_law_131 ?_
        refine xw_top eu2.symm ?_
        refine xw_U (rv := some (.int (xd_castR σ u1 u2))) (As := [.int u1, .int u2]) (rest := []) (ci := 0) ⟨hx, hb, hml, hown, hts⟩ (metX0_cast l dC dI h0 h1 h2 k1 k2 σ u1 u2) (cwV 2 hts (lw_V q61 q62 q63 q15 q64) rfl rfl rfl hdX0_cast ⟨Nat.le_of_ble_eq_true rfl, Nat.le_of_ble_eq_true rfl⟩) [] (xm_W g0 g1 g2 j1 j2 μ) hKd hP hD hS rfl 0 rfl rfl rfl hl.1 rfl (Nat.le_of_ble_eq_true rfl) dL_law_132 ⟨Nat.le_of_ble_eq_true rfl, Nat.le_of_ble_eq_true rfl⟩ (fun H locs hP hD hS => ?_)
        refine W.eq (g2 := F0 m 135 ls [.int (xd_castR σ u1 u2)]) rfl ?_
        refine lv_aload_n hx hb dL_law_135 rfl (lv_at hl 2 rfl) ?_
        refine lv_aload_n hx hb dL_law_136 rfl (lv_at hl 0 rfl) ?_
        refine lv_iload_n hx hb dL_law_137 rfl (lv_at hl 3 rfl) ?_
        refine lv_iconst (v := 1) hx hb dL_law_138 (by decide) ?_
        refine lv_iadd hx hb dL_law_139 ?_
        refine va_sld hx hb hX hbl hbA hS v1 dL_law_140 ?_
        refine xw_top eu1.symm ?_
        refine lv_aload_n hx hb dL_law_141 rfl (lv_at hl 0 rfl) ?_
        refine lv_iload_n hx hb dL_law_142 rfl (lv_at hl 3 rfl) ?_
        refine lv_iconst (v := 2) hx hb dL_law_143 (by decide) ?_
        refine lv_iadd hx hb dL_law_144 ?_
        refine va_sld hx hb hX hbl hbA hS v2 dL_law_145 ?_
        refine xw_top eu2.symm ?_
        refine xw_U (rv := some (.int (xm_castR μ u1 u2))) (As := [.int u1, .int u2]) (rest := [.int (xd_castR σ u1 u2)]) (ci := 1) ⟨hx, hb, hml, hown, hts⟩ (metX1_cast l dC dI g0 g1 g2 j1 j2 μ u1 u2) (cwV 2 hts (lw_V q188 q189 q190 q16 q191) rfl rfl rfl hdX1_cast ⟨Nat.le_of_ble_eq_true rfl, Nat.le_of_ble_eq_true rfl⟩) (xd_W h0 h1 h2 k1 k2 (xd_castS σ u1 u2)) [] hKm hP hD hS rfl 0 rfl rfl rfl hl.1 rfl (Nat.le_of_ble_eq_true rfl) dL_law_146 ⟨Nat.le_of_ble_eq_true rfl, Nat.le_of_ble_eq_true rfl⟩ (fun H locs hP hD hS => ?_)
        refine W.eq (g2 := F0 m 149 ls [.int (xm_castR μ u1 u2), .int (xd_castR σ u1 u2)]) rfl ?_
        refine lv_icmp_eq (tgt := 308) hx hb dL_law_149 (by decide) (fun _ => ?_) (fun c_2 => absurd ((xl_cast hI u1 u2).1) c_2)
        exact K (xd_castS σ u1 u2) (xm_castS μ u1 u2) H locs (xl_cast hI u1 u2).2 hP hD hS
      · refine lv_tableIn (off := 122) (tgt := 154) hx hb dL_law_32 (by decide) (by decide) rfl (by decide) ?_
        refine lv_aload_n hx hb dL_law_154 rfl (lv_at hl 1 rfl) ?_
        have hPd : va_P (dC, dI) vwCl (xd_W h0 h1 h2 k1 k2 σ) H := hP.sub [0, 1, 2] rfl
        refine xw_V (v := xd_look σ.1 σ.2.1 (-100)) (As := []) (rest := []) (ci := 0) ⟨hx, hb, hml, hown, hts⟩ (metX0_type l dC dI h0 h1 h2 k1 k2 σ) (cwV 0 hts (lw_V q100 q101 q102 q15 q103) rfl rfl rfl hdX0_type ⟨Nat.le_of_ble_eq_true rfl, Nat.le_of_ble_eq_true rfl⟩) hKd hPd 0 rfl rfl rfl hl.1 rfl (Nat.le_of_ble_eq_true rfl) dL_law_155 ⟨Nat.le_of_ble_eq_true rfl, Nat.le_of_ble_eq_true rfl⟩ ?_
        refine lv_aload_n hx hb dL_law_158 rfl (lv_at hl 2 rfl) ?_
        have hPm : va_P (dC, dI) vwCl (xm_W g0 g1 g2 j1 j2 μ) H := hP.sub [3, 4, 5] rfl
        refine xw_V (v := xd_look μ.1 μ.2.2.2.1 (-100)) (As := []) (rest := [.int (xd_look σ.1 σ.2.1 (-100))]) (ci := 1) ⟨hx, hb, hml, hown, hts⟩ (metX1_type l dC dI g0 g1 g2 j1 j2 μ) (cwV 0 hts (lw_V q216 q217 q218 q16 q219) rfl rfl rfl hdX1_type ⟨Nat.le_of_ble_eq_true rfl, Nat.le_of_ble_eq_true rfl⟩) hKm hPm 0 rfl rfl rfl hl.1 rfl (Nat.le_of_ble_eq_true rfl) dL_law_159 ⟨Nat.le_of_ble_eq_true rfl, Nat.le_of_ble_eq_true rfl⟩ ?_
        refine lv_icmp_eq (tgt := 308) hx hb dL_law_162 (by decide) (fun _ => ?_) (fun c_2 => absurd ((xl_look hI).1) c_2)
        exact K σ μ H locs hI hP hD hS
      · refine lv_tableIn (off := 135) (tgt := 167) hx hb dL_law_32 (by decide) (by decide) rfl (by decide) ?_
        refine lv_aload_n hx hb dL_law_167 rfl (lv_at hl 1 rfl) ?_
        have hPd : va_P (dC, dI) vwCl (xd_W h0 h1 h2 k1 k2 σ) H := hP.sub [0, 1, 2] rfl
        refine xw_V (v := xd_look σ.1 σ.2.2.1 (-100)) (As := []) (rest := []) (ci := 0) ⟨hx, hb, hml, hown, hts⟩ (metX0_kind l dC dI h0 h1 h2 k1 k2 σ) (cwV 0 hts (lw_V q104 q105 q106 q15 q107) rfl rfl rfl hdX0_kind ⟨Nat.le_of_ble_eq_true rfl, Nat.le_of_ble_eq_true rfl⟩) hKd hPd 0 rfl rfl rfl hl.1 rfl (Nat.le_of_ble_eq_true rfl) dL_law_168 ⟨Nat.le_of_ble_eq_true rfl, Nat.le_of_ble_eq_true rfl⟩ ?_
        refine lv_aload_n hx hb dL_law_171 rfl (lv_at hl 2 rfl) ?_
        have hPm : va_P (dC, dI) vwCl (xm_W g0 g1 g2 j1 j2 μ) H := hP.sub [3, 4, 5] rfl
        refine xw_V (v := xd_look μ.1 μ.2.1 (-100)) (As := []) (rest := [.int (xd_look σ.1 σ.2.2.1 (-100))]) (ci := 1) ⟨hx, hb, hml, hown, hts⟩ (metX1_kind l dC dI g0 g1 g2 j1 j2 μ) (cwV 0 hts (lw_V q220 q221 q222 q16 q223) rfl rfl rfl hdX1_kind ⟨Nat.le_of_ble_eq_true rfl, Nat.le_of_ble_eq_true rfl⟩) hKm hPm 0 rfl rfl rfl hl.1 rfl (Nat.le_of_ble_eq_true rfl) dL_law_172 ⟨Nat.le_of_ble_eq_true rfl, Nat.le_of_ble_eq_true rfl⟩ ?_
        refine lv_icmp_eq (tgt := 308) hx hb dL_law_175 (by decide) (fun _ => ?_) (fun c_2 => absurd ((xl_look hI).2.1) c_2)
        exact K σ μ H locs hI hP hD hS
      · refine lv_tableIn (off := 148) (tgt := 180) hx hb dL_law_32 (by decide) (by decide) rfl (by decide) ?_
        refine lv_aload_n hx hb dL_law_180 rfl (lv_at hl 1 rfl) ?_
        have hPd : va_P (dC, dI) vwCl (xd_W h0 h1 h2 k1 k2 σ) H := hP.sub [0, 1, 2] rfl
        refine xw_V (v := xd_look σ.1 σ.2.2.2.1 0) (As := []) (rest := []) (ci := 0) ⟨hx, hb, hml, hown, hts⟩ (metX0_raw l dC dI h0 h1 h2 k1 k2 σ) (cwV 0 hts (lw_V q108 q109 q110 q15 q111) rfl rfl rfl hdX0_raw ⟨Nat.le_of_ble_eq_true rfl, Nat.le_of_ble_eq_true rfl⟩) hKd hPd 0 rfl rfl rfl hl.1 rfl (Nat.le_of_ble_eq_true rfl) dL_law_181 ⟨Nat.le_of_ble_eq_true rfl, Nat.le_of_ble_eq_true rfl⟩ ?_
        refine lv_aload_n hx hb dL_law_184 rfl (lv_at hl 2 rfl) ?_
        have hPm : va_P (dC, dI) vwCl (xm_W g0 g1 g2 j1 j2 μ) H := hP.sub [3, 4, 5] rfl
        refine xw_V (v := xd_look μ.1 μ.2.2.1 0) (As := []) (rest := [.int (xd_look σ.1 σ.2.2.2.1 0)]) (ci := 1) ⟨hx, hb, hml, hown, hts⟩ (metX1_raw l dC dI g0 g1 g2 j1 j2 μ) (cwV 0 hts (lw_V q224 q225 q226 q16 q227) rfl rfl rfl hdX1_raw ⟨Nat.le_of_ble_eq_true rfl, Nat.le_of_ble_eq_true rfl⟩) hKm hPm 0 rfl rfl rfl hl.1 rfl (Nat.le_of_ble_eq_true rfl) dL_law_185 ⟨Nat.le_of_ble_eq_true rfl, Nat.le_of_ble_eq_true rfl⟩ ?_
        refine lv_icmp_eq (tgt := 308) hx hb dL_law_188 (by decide) (fun _ => ?_) (fun c_2 => absurd ((xl_look hI).2.2.1) c_2)
        exact K σ μ H locs hI hP hD hS
      · refine lv_tableIn (off := 161) (tgt := 193) hx hb dL_law_32 (by decide) (by decide) rfl (by decide) ?_
        refine lv_aload_n hx hb dL_law_193 rfl (lv_at hl 1 rfl) ?_
        refine lv_aload_n hx hb dL_law_194 rfl (lv_at hl 0 rfl) ?_
        refine lv_iload_n hx hb dL_law_195 rfl (lv_at hl 3 rfl) ?_
        refine lv_iconst (v := 1) hx hb dL_law_196 (by decide) ?_
        refine lv_iadd hx hb dL_law_197 ?_
        refine va_sld hx hb hX hbl hbA hS v1 dL_law_198 ?_
        refine xw_top eu1.symm ?_
        refine lv_aload_n hx hb dL_law_199 rfl (lv_at hl 0 rfl) ?_
        refine lv_iload_n hx hb dL_law_200 rfl (lv_at hl 3 rfl) ?_
        refine lv_iconst (v := 2) hx hb dL_law_201 (by decide) ?_
        refine lv_iadd hx hb dL_law_202 ?_
        refine va_sld hx hb hX hbl hbA hS v2 dL_law_203 ?_
        refine xw_top eu2.symm ?_
        refine xw_U (rv := some (.int (xd_callR σ u1 u2))) (As := [.int u1, .int u2]) (rest := []) (ci := 0) ⟨hx, hb, hml, hown, hts⟩ (metX0_call l dC dI h0 h1 h2 k1 k2 σ u1 u2) (cwV 2 hts (lw_V q112 q113 q114 q15 q115) rfl rfl rfl hdX0_call ⟨Nat.le_of_ble_eq_true rfl, Nat.le_of_ble_eq_true rfl⟩) [] (xm_W g0 g1 g2 j1 j2 μ) hKd hP hD hS rfl 0 rfl rfl rfl hl.1 rfl (Nat.le_of_ble_eq_true rfl) dL_law_204 ⟨Nat.le_of_ble_eq_true rfl, Nat.le_of_ble_eq_true rfl⟩ (fun H locs hP hD hS => ?_)
        refine W.eq (g2 := F0 m 207 ls [.int (xd_callR σ u1 u2)]) rfl ?_
        refine lv_aload_n hx hb dL_law_207 rfl (lv_at hl 2 rfl) ?_
        refine lv_aload_n hx hb dL_law_208 rfl (lv_at hl 0 rfl) ?_
        refine lv_iload_n hx hb dL_law_209 rfl (lv_at hl 3 rfl) ?_
        refine lv_iconst (v := 1) hx hb dL_law_210 (by decide) ?_
        refine lv_iadd hx hb dL_law_211 ?_
        refine va_sld hx hb hX hbl hbA hS v1 dL_law_212 ?_
        refine xw_top eu1.symm ?_
        refine lv_aload_n hx hb dL_law_213 rfl (lv_at hl 0 rfl) ?_
        refine lv_iload_n hx hb dL_law_214 rfl (lv_at hl 3 rfl) ?_
        refine lv_iconst (v := 2) hx hb dL_law_215 (by decide) ?_
        refine lv_iadd hx hb dL_law_216 ?_
        refine va_sld hx hb hX hbl hbA hS v2 dL_law_217 ?_
        refine xw_top eu2.symm ?_
        refine xw_U (rv := some (.int (xm_callR μ u1 u2))) (As := [.int u1, .int u2]) (rest := [.int (xd_callR σ u1 u2)]) (ci := 1) ⟨hx, hb, hml, hown, hts⟩ (metX1_call l dC dI g0 g1 g2 j1 j2 μ u1 u2) (cwV 2 hts (lw_V q228 q229 q230 q16 q231) rfl rfl rfl hdX1_call ⟨Nat.le_of_ble_eq_true rfl, Nat.le_of_ble_eq_true rfl⟩) (xd_W h0 h1 h2 k1 k2 (xd_callS σ u1 u2)) [] hKm hP hD hS rfl 0 rfl rfl rfl hl.1 rfl (Nat.le_of_ble_eq_true rfl) dL_law_218 ⟨Nat.le_of_ble_eq_true rfl, Nat.le_of_ble_eq_true rfl⟩ (fun H locs hP hD hS => ?_)
        refine W.eq (g2 := F0 m 221 ls [.int (xm_callR μ u1 u2), .int (xd_callR σ u1 u2)]) rfl ?_
        refine lv_icmp_eq (tgt := 308) hx hb dL_law_221 (by decide) (fun _ => ?_) (fun c_2 => absurd ((xl_call hI u1 u2).1) c_2)
        exact K (xd_callS σ u1 u2) (xm_callS μ u1 u2) H locs (xl_call hI u1 u2).2 hP hD hS
      · refine lv_tableIn (off := 194) (tgt := 226) hx hb dL_law_32 (by decide) (by decide) rfl (by decide) ?_
        refine lv_aload_n hx hb dL_law_226 rfl (lv_at hl 1 rfl) ?_
        have hPd : va_P (dC, dI) vwCl (xd_W h0 h1 h2 k1 k2 σ) H := hP.sub [0, 1, 2] rfl
        refine xw_V (v := xd_look σ.2.2.2.2.1 σ.2.2.2.2.2.1 (-100)) (As := []) (rest := []) (ci := 0) ⟨hx, hb, hml, hown, hts⟩ (metX0_resultKind l dC dI h0 h1 h2 k1 k2 σ) (cwV 0 hts (lw_V q128 q129 q130 q15 q131) rfl rfl rfl hdX0_resultKind ⟨Nat.le_of_ble_eq_true rfl, Nat.le_of_ble_eq_true rfl⟩) hKd hPd 0 rfl rfl rfl hl.1 rfl (Nat.le_of_ble_eq_true rfl) dL_law_227 ⟨Nat.le_of_ble_eq_true rfl, Nat.le_of_ble_eq_true rfl⟩ ?_
        refine lv_aload_n hx hb dL_law_230 rfl (lv_at hl 2 rfl) ?_
        have hPm : va_P (dC, dI) vwCl (xm_W g0 g1 g2 j1 j2 μ) H := hP.sub [3, 4, 5] rfl
        refine xw_V (v := xd_look μ.2.2.2.2.1 μ.2.2.2.2.2.1 (-100)) (As := []) (rest := [.int (xd_look σ.2.2.2.2.1 σ.2.2.2.2.2.1 (-100))]) (ci := 1) ⟨hx, hb, hml, hown, hts⟩ (metX1_resultKind l dC dI g0 g1 g2 j1 j2 μ) (cwV 0 hts (lw_V q232 q233 q234 q16 q235) rfl rfl rfl hdX1_resultKind ⟨Nat.le_of_ble_eq_true rfl, Nat.le_of_ble_eq_true rfl⟩) hKm hPm 0 rfl rfl rfl hl.1 rfl (Nat.le_of_ble_eq_true rfl) dL_law_231 ⟨Nat.le_of_ble_eq_true rfl, Nat.le_of_ble_eq_true rfl⟩ ?_
        refine lv_icmp_eq (tgt := 308) hx hb dL_law_234 (by decide) (fun _ => ?_) (fun c_2 => absurd ((xl_look hI).2.2.2.1) c_2)
        exact K σ μ H locs hI hP hD hS
      · refine lv_tableIn (off := 207) (tgt := 239) hx hb dL_law_32 (by decide) (by decide) rfl (by decide) ?_
        refine lv_aload_n hx hb dL_law_239 rfl (lv_at hl 1 rfl) ?_
        have hPd : va_P (dC, dI) vwCl (xd_W h0 h1 h2 k1 k2 σ) H := hP.sub [0, 1, 2] rfl
        refine xw_V (v := xd_look σ.2.2.2.2.1 σ.2.2.2.2.2.2.1 0) (As := []) (rest := []) (ci := 0) ⟨hx, hb, hml, hown, hts⟩ (metX0_result l dC dI h0 h1 h2 k1 k2 σ) (cwV 0 hts (lw_V q132 q133 q134 q15 q135) rfl rfl rfl hdX0_result ⟨Nat.le_of_ble_eq_true rfl, Nat.le_of_ble_eq_true rfl⟩) hKd hPd 0 rfl rfl rfl hl.1 rfl (Nat.le_of_ble_eq_true rfl) dL_law_240 ⟨Nat.le_of_ble_eq_true rfl, Nat.le_of_ble_eq_true rfl⟩ ?_
        refine lv_aload_n hx hb dL_law_243 rfl (lv_at hl 2 rfl) ?_
        have hPm : va_P (dC, dI) vwCl (xm_W g0 g1 g2 j1 j2 μ) H := hP.sub [3, 4, 5] rfl
        refine xw_V (v := xd_look μ.2.2.2.2.1 μ.2.2.2.2.2.2.1 0) (As := []) (rest := [.int (xd_look σ.2.2.2.2.1 σ.2.2.2.2.2.2.1 0)]) (ci := 1) ⟨hx, hb, hml, hown, hts⟩ (metX1_result l dC dI g0 g1 g2 j1 j2 μ) (cwV 0 hts (lw_V q236 q237 q238 q16 q239) rfl rfl rfl hdX1_result ⟨Nat.le_of_ble_eq_true rfl, Nat.le_of_ble_eq_true rfl⟩) hKm hPm 0 rfl rfl rfl hl.1 rfl (Nat.le_of_ble_eq_true rfl) dL_law_244 ⟨Nat.le_of_ble_eq_true rfl, Nat.le_of_ble_eq_true rfl⟩ ?_
        refine lv_icmp_eq (tgt := 308) hx hb dL_law_247 (by decide) (fun _ => ?_) (fun c_2 => absurd ((xl_look hI).2.2.2.2) c_2)
        exact K σ μ H locs hI hP hD hS
      · refine lv_tableIn (off := 220) (tgt := 252) hx hb dL_law_32 (by decide) (by decide) rfl (by decide) ?_
        refine lv_aload_n hx hb dL_law_252 rfl (lv_at hl 1 rfl) ?_
        refine lv_aload_n hx hb dL_law_253 rfl (lv_at hl 0 rfl) ?_
        refine lv_iload_n hx hb dL_law_254 rfl (lv_at hl 3 rfl) ?_
        refine lv_iconst (v := 1) hx hb dL_law_255 (by decide) ?_
        refine lv_iadd hx hb dL_law_256 ?_
        refine va_sld hx hb hX hbl hbA hS v1 dL_law_257 ?_
        refine xw_top eu1.symm ?_
        refine lv_aload_n hx hb dL_law_258 rfl (lv_at hl 0 rfl) ?_
        refine lv_iload_n hx hb dL_law_259 rfl (lv_at hl 3 rfl) ?_
        refine lv_iconst (v := 2) hx hb dL_law_260 (by decide) ?_
        refine lv_iadd hx hb dL_law_261 ?_
        refine va_sld hx hb hX hbl hbA hS v2 dL_law_262 ?_
        refine xw_top eu2.symm ?_
        have hPd : va_P (dC, dI) vwCl (xd_W h0 h1 h2 k1 k2 σ) H := hP.sub [0, 1, 2] rfl
        refine xw_V (v := xd_agree u1 u2) (As := [.int u1, .int u2]) (rest := []) (ci := 0) ⟨hx, hb, hml, hown, hts⟩ (metX0_agree l dC dI h0 h1 h2 k1 k2 σ u1 u2) (cwV 2 hts (lw_V q136 q69 q70 q15 q71) rfl rfl rfl hdX0_agree ⟨Nat.le_of_ble_eq_true rfl, Nat.le_of_ble_eq_true rfl⟩) hKd hPd 0 rfl rfl rfl hl.1 rfl (Nat.le_of_ble_eq_true rfl) dL_law_263 ⟨Nat.le_of_ble_eq_true rfl, Nat.le_of_ble_eq_true rfl⟩ ?_
        refine lv_aload_n hx hb dL_law_266 rfl (lv_at hl 2 rfl) ?_
        refine lv_aload_n hx hb dL_law_267 rfl (lv_at hl 0 rfl) ?_
        refine lv_iload_n hx hb dL_law_268 rfl (lv_at hl 3 rfl) ?_
        refine lv_iconst (v := 1) hx hb dL_law_269 (by decide) ?_
        refine lv_iadd hx hb dL_law_270 ?_
        refine va_sld hx hb hX hbl hbA hS v1 dL_law_271 ?_
        refine xw_top eu1.symm ?_
        refine lv_aload_n hx hb dL_law_272 rfl (lv_at hl 0 rfl) ?_
        refine lv_iload_n hx hb dL_law_273 rfl (lv_at hl 3 rfl) ?_
        refine lv_iconst (v := 2) hx hb dL_law_274 (by decide) ?_
        refine lv_iadd hx hb dL_law_275 ?_
        refine va_sld hx hb hX hbl hbA hS v2 dL_law_276 ?_
        refine xw_top eu2.symm ?_
        have hPm : va_P (dC, dI) vwCl (xm_W g0 g1 g2 j1 j2 μ) H := hP.sub [3, 4, 5] rfl
        refine xw_V (v := xm_agree u1 u2) (As := [.int u1, .int u2]) (rest := [.int (xd_agree u1 u2)]) (ci := 1) ⟨hx, hb, hml, hown, hts⟩ (metX1_agree l dC dI g0 g1 g2 j1 j2 μ u1 u2) (cwV 2 hts (lw_V q240 q193 q194 q16 q195) rfl rfl rfl hdX1_agree ⟨Nat.le_of_ble_eq_true rfl, Nat.le_of_ble_eq_true rfl⟩) hKm hPm 0 rfl rfl rfl hl.1 rfl (Nat.le_of_ble_eq_true rfl) dL_law_277 ⟨Nat.le_of_ble_eq_true rfl, Nat.le_of_ble_eq_true rfl⟩ ?_
        refine lv_icmp_eq (tgt := 308) hx hb dL_law_280 (by decide) (fun _ => ?_) (fun c_2 => absurd (xl_agree u1 u2) c_2)
        exact K σ μ H locs hI hP hD hS
      · refine lv_tableIn (off := 253) (tgt := 285) hx hb dL_law_32 (by decide) (by decide) rfl (by decide) ?_
        refine lv_aload_n hx hb dL_law_285 rfl (lv_at hl 1 rfl) ?_
        refine lv_aload_n hx hb dL_law_286 rfl (lv_at hl 0 rfl) ?_
        refine lv_iload_n hx hb dL_law_287 rfl (lv_at hl 3 rfl) ?_
        refine lv_iconst (v := 1) hx hb dL_law_288 (by decide) ?_
        refine lv_iadd hx hb dL_law_289 ?_
        refine va_sld hx hb hX hbl hbA hS v1 dL_law_290 ?_
        refine xw_top eu1.symm ?_
        have hPd : va_P (dC, dI) vwCl (xd_W h0 h1 h2 k1 k2 σ) H := hP.sub [0, 1, 2] rfl
        refine xw_V (v := xd_agreeing u1) (As := [.int u1]) (rest := []) (ci := 0) ⟨hx, hb, hml, hown, hts⟩ (metX0_agreeing l dC dI h0 h1 h2 k1 k2 σ u1) (cwV 1 hts (lw_V q137 q138 q139 q15 q140) rfl rfl rfl hdX0_agreeing ⟨Nat.le_of_ble_eq_true rfl, Nat.le_of_ble_eq_true rfl⟩) hKd hPd 0 rfl rfl rfl hl.1 rfl (Nat.le_of_ble_eq_true rfl) dL_law_291 ⟨Nat.le_of_ble_eq_true rfl, Nat.le_of_ble_eq_true rfl⟩ ?_
        refine lv_aload_n hx hb dL_law_294 rfl (lv_at hl 2 rfl) ?_
        refine lv_aload_n hx hb dL_law_295 rfl (lv_at hl 0 rfl) ?_
        refine lv_iload_n hx hb dL_law_296 rfl (lv_at hl 3 rfl) ?_
        refine lv_iconst (v := 1) hx hb dL_law_297 (by decide) ?_
        refine lv_iadd hx hb dL_law_298 ?_
        refine va_sld hx hb hX hbl hbA hS v1 dL_law_299 ?_
        refine xw_top eu1.symm ?_
        have hPm : va_P (dC, dI) vwCl (xm_W g0 g1 g2 j1 j2 μ) H := hP.sub [3, 4, 5] rfl
        refine xw_V (v := xm_agreeing u1) (As := [.int u1]) (rest := [.int (xd_agreeing u1)]) (ci := 1) ⟨hx, hb, hml, hown, hts⟩ (metX1_agreeing l dC dI g0 g1 g2 j1 j2 μ u1) (cwV 1 hts (lw_V q241 q242 q243 q16 q244) rfl rfl rfl hdX1_agreeing ⟨Nat.le_of_ble_eq_true rfl, Nat.le_of_ble_eq_true rfl⟩) hKm hPm 0 rfl rfl rfl hl.1 rfl (Nat.le_of_ble_eq_true rfl) dL_law_300 ⟨Nat.le_of_ble_eq_true rfl, Nat.le_of_ble_eq_true rfl⟩ ?_
        refine lv_icmp_eq (tgt := 308) hx hb dL_law_303 (by decide) (fun _ => ?_) (fun c_2 => absurd (xl_agreeing u1) c_2)
        exact K σ μ H locs hI hP hD hS
      · refine lv_tableOut (tgt := 308) hx hb dL_law_32 (Or.inr (by rw [nI_toInt (by omega)]; omega)) (by decide) ?_
        exact K σ μ H locs hI hP hD hS
set_option maxHeartbeats 4000000 in
set_option maxRecDepth 100000 in
/-- the law, from its entry -/
theorem whole_start {p : Program} {e : Env} {s : State} {m : MethodId} {below : List Frame} {meth : Method} {c : Code} (l : Launch) {b L : Nat} {xs : Nat → Int32} (hL : L ≤ 192) (C0 : lw_At p s m meth c b L xs) : W p l e room_1 s m #[Value.ref b] below meth c s.heap [] 0 0 (lw_Z below #[Value.ref b] s) (entryFrame m ([Value.ref b] : List Value).toArray 4) := by
  obtain ⟨hx, hb, hr, hml, hown, hts0, hX, hbl, hlocks, hgv⟩ := id C0
  have hts : ∀ w ∈ lw_all, w.before #[Value.ref b] s = true := fun w h => hts0 w (lw_all_tbl h)
  have hA : ∀ q : Nat, s.heap.size ≤ q → (fun q : Nat => s.heap.size ≤ q) q := fun _ h => h
  obtain ⟨c0, iS0, hKn0⟩ := u_known (C := RX0) (T := TX0) (N := 9) (n := 9) hts in_X0 (hts _ q18)
  obtain ⟨c1, iS1, hKn1⟩ := u_known (C := RX1) (T := TX1) (N := 9) (n := 9) hts in_X1 (hts _ q142)
  obtain ⟨dC, dI, hKc⟩ : ∃ (dC : Nat → ClassId) (dI : Nat → Nat → Nat), ∀ (k : Nat) (q : vw_C), vwCl[k]? = some q → u_Kn s q.1 q.2.1 q.2.2 (dC k) (dI k) := by
    refine ⟨fun k => if k = 0 then c0 else c1, fun k => if k = 0 then iS0 else iS1, ?_⟩
    intro k q hq
    match k, hq with
    | 0, hq => cases hq; exact hKn0
    | 1, hq => cases hq; exact hKn1
    | k + 2, hq => simp [vwCl] at hq
  have hS : va_S (fun q : Nat => s.heap.size ≤ q) s.heap s.heap [] := va_S.rf
  have hK : va_K (dC, dI) vwCl [] s := ⟨hKc, fun k q h => by simp at h⟩
  have hP : va_P (dC, dI) vwCl [] s.heap := fun k q h => by simp at h
  have hD : va_D (fun q : Nat => s.heap.size ≤ q) [] := ⟨fun i j p q h => by simp at h, fun k q h => by simp at h⟩
  have hl := lv_entry ([.ref b]) (n := 4) (Nat.le_of_ble_eq_true rfl)
  rw [lg_entry_eq]
  generalize (lg_sl ([.ref b]) ++ List.replicate (4 - (lg_sl ([.ref b])).length) Slot.unset).toArray = ls at hl ⊢
  have hl : lv_has ls 4 [(0, .ref b)] := hl
  refine va_new (ci := 0) (fs := [.int 0, .int 0, .int 0, .int 0, .null, .null, .int 0, .int 0, .int 0]) (C := RX0) (T := TX0) (N := 9) hx hb hts in_X0 tyX0 tyX0_ok hown (hts _ q17) (hts _ q18) (hts _ q15) hK hP hD hS hA rfl (fun j hj => by rcases (show j = 0 ∨ j = 1 ∨ j = 2 ∨ j = 3 ∨ j = 4 ∨ j = 5 ∨ j = 6 ∨ j = 7 ∨ j = 8 by omega) with rfl | rfl | rfl | rfl | rfl | rfl | rfl | rfl | rfl <;> rfl) (Nat.le_of_ble_eq_true rfl) (Nat.le_of_ble_eq_true rfl) dL_law_0 (fun h0 H hP hD hS => ?_)
  have hP : va_P (dC, dI) vwCl (xd_new h0) H := hP
  have hD : va_D (fun q : Nat => s.heap.size ≤ q) (xd_new h0) := hD
  refine W.widen (k := 1) (n := 9) (Nat.le_of_ble_eq_true rfl) (Nat.le_of_ble_eq_true rfl) ?_
  refine lv_dup hx hb dL_law_3 rfl ?_
  have hPc := hP.sub (ws' := xd_new h0) [0] rfl
  have hDc := hD.sub (ws' := xd_new h0) [0] (by decide) rfl
  have hKc := hK.sub (tys' := []) [] rfl
  have hFc := va_free (wc := xd_new h0) hD hS hA [0] rfl
  refine va_callv (va_runI (As := []) (rest := [.ref h0]) ⟨hx, hb, hml, hown, hts⟩ (metX0_init l dC dI h0 H.size) (cwI 0 hts (lw_meth q21) rfl rfl rfl (hts _ q15) (hts _ q19) (hts _ q20) rfl (by decide +kernel) ⟨Nat.le_of_ble_eq_true rfl, Nat.le_of_ble_eq_true rfl⟩) ⟨fun a U g mk q => by obtain ⟨q0, q1, qP, qK, qD⟩ := q; exact ⟨q0, q1, qP, va_K.moved (u := U) (U := U.calling g mk a) (Vm.Alike.refl U.vm) qK, qD⟩, fun U hU hW => ⟨rfl, by rw [hU], by rw [hU]; exact hPc, va_K.moved hW.alike hKc, hDc.weaken (fun _ _ _ _ => trivial)⟩⟩ rfl rfl hl.1 rfl (lv_room (Nat.le_of_ble_eq_true rfl)) dL_law_4 ⟨Nat.le_of_ble_eq_true rfl, Nat.le_of_ble_eq_true rfl⟩) hS (fun q _ h => hFc q h) hFc (fun u t H1 locs ht hvm hw1 hB hz1 hk1 hS => ?_)
  obtain ⟨h1, h2, k1, k2, hP1, hK1, hD1⟩ := hB
  rw [ht] at hP1
  have hK1 := va_K.moved hvm.symm hK1
  obtain ⟨hP, hD⟩ := va_join (wr := []) (w1 := xd_W h0 h1 h2 k1 k2 xd_0) hP hD [0] [] rfl rfl (by decide) (by decide) hk1 hFc hP1 hD1
  have hK := (hK.sub (tys' := []) [] rfl).app hK1
  generalize H1 = H at hP hS ⊢
  have hP : va_P (dC, dI) vwCl (xd_W h0 h1 h2 k1 k2 xd_0) H := hP
  have hD : va_D (fun q : Nat => s.heap.size ≤ q) (xd_W h0 h1 h2 k1 k2 xd_0) := hD
  have hK : va_K (dC, dI) vwCl [(k1, .byte), (k2, .byte)] s := hK
  refine W.widen (k := 3) (n := 17) (Nat.le_of_ble_eq_true rfl) (Nat.le_of_ble_eq_true rfl) ?_
  refine lv_astore_n (lv' := [(1, .ref h0), (0, .ref b)]) hx hb dL_law_7 rfl hl (by decide) rfl (fun ls hl => ?_)
  refine va_new (ci := 1) (fs := [.int 0, .int 0, .int 0, .int 0, .null, .null, .int 0, .int 0, .int 0]) (C := RX1) (T := TX1) (N := 9) hx hb hts in_X1 tyX1 tyX1_ok hown (hts _ q141) (hts _ q142) (hts _ q16) hK hP hD hS hA rfl (fun j hj => by rcases (show j = 0 ∨ j = 1 ∨ j = 2 ∨ j = 3 ∨ j = 4 ∨ j = 5 ∨ j = 6 ∨ j = 7 ∨ j = 8 by omega) with rfl | rfl | rfl | rfl | rfl | rfl | rfl | rfl | rfl <;> rfl) (Nat.le_of_ble_eq_true rfl) (Nat.le_of_ble_eq_true rfl) dL_law_8 (fun g0 H hP hD hS => ?_)
  have hP : va_P (dC, dI) vwCl (xd_W h0 h1 h2 k1 k2 xd_0 ++ xm_new g0) H := hP
  have hD : va_D (fun q : Nat => s.heap.size ≤ q) (xd_W h0 h1 h2 k1 k2 xd_0 ++ xm_new g0) := hD
  refine W.widen (k := 4) (n := 26) (Nat.le_of_ble_eq_true rfl) (Nat.le_of_ble_eq_true rfl) ?_
  refine lv_dup hx hb dL_law_11 rfl ?_
  have hPc := hP.sub (ws' := xm_new g0) [3] rfl
  have hDc := hD.sub (ws' := xm_new g0) [3] (by decide) rfl
  have hKc := hK.sub (tys' := []) [] rfl
  have hFc := va_free (wc := xm_new g0) hD hS hA [3] rfl
  refine va_callv (va_runI (As := []) (rest := [.ref g0]) ⟨hx, hb, hml, hown, hts⟩ (metX1_init l dC dI g0 H.size) (cwI 0 hts (lw_meth q145) rfl rfl rfl (hts _ q16) (hts _ q143) (hts _ q144) rfl (by decide +kernel) ⟨Nat.le_of_ble_eq_true rfl, Nat.le_of_ble_eq_true rfl⟩) ⟨fun a U g mk q => by obtain ⟨q0, q1, qP, qK, qD⟩ := q; exact ⟨q0, q1, qP, va_K.moved (u := U) (U := U.calling g mk a) (Vm.Alike.refl U.vm) qK, qD⟩, fun U hU hW => ⟨rfl, by rw [hU], by rw [hU]; exact hPc, va_K.moved hW.alike hKc, hDc.weaken (fun _ _ _ _ => trivial)⟩⟩ rfl rfl hl.1 rfl (lv_room (Nat.le_of_ble_eq_true rfl)) dL_law_12 ⟨Nat.le_of_ble_eq_true rfl, Nat.le_of_ble_eq_true rfl⟩) hS (fun q _ h => hFc q h) hFc (fun u t H1 locs ht hvm hw1 hB hz1 hk1 hS => ?_)
  obtain ⟨g1, g2, j1, j2, hP1, hK1, hD1⟩ := hB
  rw [ht] at hP1
  have hK1 := va_K.moved hvm.symm hK1
  obtain ⟨hP, hD⟩ := va_join (wr := xd_W h0 h1 h2 k1 k2 xd_0) (w1 := xm_W g0 g1 g2 j1 j2 xd_0) hP hD [3] [0, 1, 2] rfl rfl (by decide) (by decide) hk1 hFc hP1 hD1
  have hK := (hK.sub (tys' := [(k1, .byte), (k2, .byte)]) [0, 1] rfl).app hK1
  generalize H1 = H at hP hS ⊢
  refine W.widen (k := 6) (n := 30) (Nat.le_of_ble_eq_true rfl) (Nat.le_of_ble_eq_true rfl) ?_
  refine lv_astore_n (lv' := [(2, .ref g0), (1, .ref h0), (0, .ref b)]) hx hb dL_law_15 rfl hl (by decide) rfl (fun ls hl => ?_)
  refine lv_iconst (v := 0) hx hb dL_law_16 (by decide) ?_
  refine lv_istore_n (lv' := [(3, .int 0), (2, .ref g0), (1, .ref h0), (0, .ref b)]) hx hb dL_law_17 rfl hl (by decide) rfl (fun ls hl => ?_)
  exact law_loop hL C0 h0 h1 h2 g0 g1 g2 k1 k2 j1 j2 hK (L + 1) 0 0 xd_0 xd_0 (Nat.zero_le L) (by omega) nI_0.symm xl_0 H locs hP hD hS ls (lv_sub hl [3, 2, 1, 0] rfl)
end
section
set_option maxHeartbeats 4000000 in
theorem lw_walk (l : Launch) (b : Addr) (xs : List Int32) : MetFree l x (headSpec (Jvm.Cond.code x code maxLocals ret :: tables_1) room_1) (lw_P b xs) (fun _ _ _ _ _ => True) lw_Q := by
  refine MetFree.of_bodyS (code := code) (maxLocals := maxLocals) (ret := ret) (by decide) ?_ ?_
  · intro args s m h hn
    obtain ⟨meth, c, h1, h2, h3, h4, h5, h6, -, -⟩ := Cond.code_spec hn (atoms_spec (ws := Jvm.Cond.code x code maxLocals ret :: tables_1) h _ List.mem_cons_self)
    exact ⟨meth, c, h1, h2, h3, h4, h5, h6⟩
  · intro p e s m args below meth c s₁ B hml0 hP _
    obtain ⟨rfl, hx, hbd, hgv⟩ := hP
    obtain ⟨scr, harrAt, hlist, hof, hsmall⟩ := hx
    obtain ⟨hcb, hkn, -, -⟩ := State.arrayAt?_spec harrAt
    have hown : s.vm.findClass R_law = some m.cls := findClass_of_methodNamed B.named
    have hts0 : ∀ c ∈ (Jvm.Cond.code x code maxLocals ret :: tables_1), c.before #[Value.ref b] s = true := atoms_spec (ws := Jvm.Cond.code x code maxLocals ret :: tables_1) B.pre
    have hts : ∀ w ∈ lw_tbl, w.before #[Value.ref b] s = true := k2_hts_sels lw_privs (fun w hw => hts0 w (List.mem_cons_of_mem _ hw)) lw_privs_ok
    have hml : c.maxLocals = 4 := B.maxLocals_eq (hts0 _ List.mem_cons_self)
    have X₀ : Stand p l e room_1 s m #[Value.ref b] below meth c s₁ [] 0 0 := Stand.of_body B
    have hh0 : s₁.heap = s.heap := by rw [B.state]; rfl
    have hsz : scr.slots.size = xs.length := by rw [← Array.length_toList, hlist, List.length_map]
    have hval : ∀ j : Nat, j < xs.length → scr.slots[j]? = some (.int (xs.getD j 0)) := fun j hj => by
      rw [← Array.getElem?_toList, hlist]
      simp [hj]
    have hbl : b < s.heap.size := (Array.getElem?_eq_some_iff.mp hcb).1
    have hX : va_X b xs.length (fun j => xs.getD j 0) s s.heap := ⟨scr, hcb, hof, hkn, hsz, hval⟩
    have K : W p l e room_1 s m #[Value.ref b] below meth c s₁.heap [] 0 0 (lw_Z below #[Value.ref b] s) (entryFrame m ([Value.ref b] : List Value).toArray 4) := by
      rw [hh0]
      exact whole_start l hbd ⟨B.exec, B.bytes, B.returns, hml, hown, hts, hX, hbl, B.notSynchronized, hgv⟩
    obtain ⟨t, a1, o, b1, b2, b3⟩ := K s₁ rfl X₀
    exact ⟨t, o, a1, b1, b2, b3⟩
theorem lw_pre_spec {args : Array Value} {s : State} (h : (Jvm.Cond.and given_1 narrow_1).before args s = true) (hr : rest_1_c.before args s = true) : ∃ (b : Addr) (xs : List Int32), lw_P b xs args s := by
  have hs := flat_of_before _ h
  have hq := flat_of_before _ hr
  have hc : (Cond.count 1).before args s = true := hs _ (by decide +kernel)
  have harr : (Cond.arrayOf (.arg 0) .int).before args s = true := hs _ (by decide +kernel)
  have hle : (Cond.le (.length (.arg 0)) (.int 192)).before args s = true := hs _ (by decide +kernel)
  have hlen : (Cond.isInt (.length (.arg 0))).before args s = true := hq _ (by decide +kernel)
  have hall : (Cond.all (.arg 0) (.isInt (.elem (.arg 0) (.index 0)))).before args s = true := hq _ (by decide +kernel)
  obtain ⟨b, xs, hb, hx⟩ := State.ints_of_pre rfl harr hlen hall
  have hsm : xs.length < 2 ^ 31 := hx.choose_spec.2.2.2
  have hev : (Term.length (.arg 0)).eval args s none [] s = some (.int xs.length.toInt32) := hx.length_eval hb
  have hv := Cond.le_ints hev (show (Term.int 192).eval args s none [] s = some (.int 192) from rfl)
  have hd : xs.length.toInt32 ≤ 192 := by
    simpa [Cond.before, Cond.holds, hv] using hle
  have hN : xs.length ≤ 192 := (Int32.ofNat_le_ofNat hsm (by decide)).mp (show Int32.ofNat xs.length ≤ Int32.ofNat 192 from hd)
  exact ⟨b, xs, Cond.one_arg hc (show args[0]? = some (.ref b) from hb), hx, hN, h⟩
theorem lw_comes (l : Launch) : Comes l x (Jvm.Cond.code x code maxLocals ret :: tables_1) room_1 (fun tb e args s => Calls_1 tb e args s ∧ rest_1 tb e args s ∧ Pre_1 tb e args s)
    (fun _ _ args s o t => lw_Q args s o t) := by
  intro p e ha hc hk s m args below hf hfit hheap happ hpre
  obtain ⟨b, xs, hP⟩ := lw_pre_spec hpre.2.2 hpre.2.1
  obtain ⟨k, o, h1, h2, h3, hQ⟩ := lw_walk l b xs p e ha hc hk s m args below hf ((Spec.applies_iff_loose hf).mp happ).1 hP trivial
  exact ⟨k, o, h1, h2, h3, hQ⟩
theorem lw_frame {s t : State} {o : Outcome} {args : Array Value} (h : Framed s o t [] 600000 7290000) :
    Framed s o t (fieldLocs frame_1_writes args s ++ arrayLocs frame_1_arrays args s ++ staticLocs frame_1_statics s) 600000 7290000 := h
theorem lw_limb (L : Cond) (hL : ∀ (args : Array Value) (s t : State), L.after args s (.returned (some (.int 1))) t = true) :
    ArmFor flags0 classFile x code maxLocals ret World_1 tables_1 room_1 Calls_1 rest_1 Pre_1
      (fun tb e a s o t => postC L tb e a s o t ∧ Framed s o t (fieldLocs frame_1_writes a s ++ arrayLocs frame_1_arrays a s ++ staticLocs frame_1_statics s) 600000 7290000) := by
  intro l _ _ _ p e ha hc hk s m args below hf hfit hheap happ hpre
  obtain ⟨k, o, h1, h2, h3, rfl, hF⟩ := lw_comes l p e ha hc hk s m args below hf hfit hheap happ hpre
  exact ⟨k, _, h1, h2, h3, hL args s _, lw_frame hF⟩
theorem i_vc : Claimed_1_1 ∧ Claimed_1_2 := ⟨lw_limb limb_1_1 (fun args s t => by simp [limb_1_1, Cond.after, Cond.holds, Cond.value]), lw_limb limb_1_2 (fun args s t => Cond.after_iff.mpr (by
  first | (rw [show limb_1_2 = Cond.eq .result (.int 1) from rfl, Cond.eq_ints (x := 1) (y := 1) rfl rfl]; simp; done) | (simp [limb_1_2, Cond.value, Term.eval]; done)))⟩
end
