section
-- ===== PART A: goes FIRST, ahead of the names: the tables' words, and 'selects' of the private methods out of them =====
/-- a private method of a class that the tables say can be made, by its rows of tables_1 -/
def lw_okq (q : MethodName × Nat) : Prop := (q.1.cls ≠ "java/lang/invoke/MethodHandle" ∧ q.1.cls ≠ "java/lang/invoke/VarHandle") ∧ Cond.instantiable q.1.cls q.2 ∈ tables_1 ∧ Cond.privateMethod q.1 ∈ tables_1 ∧ Cond.instanceMethod q.1 ∈ tables_1
set_option maxRecDepth 100000
theorem lw_p0 : lw_okq (⟨"FountainDesk", "has", "(I)Z"⟩, 9) := ⟨⟨by decide +kernel, by decide +kernel⟩, List.mem_of_getElem? (i := 4) rfl, List.mem_of_getElem? (i := 48) rfl, List.mem_of_getElem? (i := 49) rfl⟩
theorem lw_p1 : lw_okq (⟨"FountainDesk", "learn", "()V"⟩, 9) := ⟨⟨by decide +kernel, by decide +kernel⟩, List.mem_of_getElem? (i := 4) rfl, List.mem_of_getElem? (i := 52) rfl, List.mem_of_getElem? (i := 53) rfl⟩
theorem lw_p2 : lw_okq (⟨"FountainDesk", "build", "(I)V"⟩, 9) := ⟨⟨by decide +kernel, by decide +kernel⟩, List.mem_of_getElem? (i := 4) rfl, List.mem_of_getElem? (i := 56) rfl, List.mem_of_getElem? (i := 57) rfl⟩
theorem lw_p3 : lw_okq (⟨"FountainDesk", "clearRows", "()V"⟩, 9) := ⟨⟨by decide +kernel, by decide +kernel⟩, List.mem_of_getElem? (i := 4) rfl, List.mem_of_getElem? (i := 60) rfl, List.mem_of_getElem? (i := 61) rfl⟩
theorem lw_p4 : lw_okq (⟨"FountainDesk", "include", "(II)V"⟩, 9) := ⟨⟨by decide +kernel, by decide +kernel⟩, List.mem_of_getElem? (i := 4) rfl, List.mem_of_getElem? (i := 64) rfl, List.mem_of_getElem? (i := 65) rfl⟩
theorem lw_p5 : lw_okq (⟨"FountainDesk", "reduce", "(II)V"⟩, 9) := ⟨⟨by decide +kernel, by decide +kernel⟩, List.mem_of_getElem? (i := 4) rfl, List.mem_of_getElem? (i := 68) rfl, List.mem_of_getElem? (i := 69) rfl⟩
theorem lw_p6 : lw_okq (⟨"FountainDesk", "singles", "()I"⟩, 9) := ⟨⟨by decide +kernel, by decide +kernel⟩, List.mem_of_getElem? (i := 4) rfl, List.mem_of_getElem? (i := 87) rfl, List.mem_of_getElem? (i := 88) rfl⟩
theorem lw_p7 : lw_okq (⟨"FountainDesk", "rankOf", "(I)I"⟩, 9) := ⟨⟨by decide +kernel, by decide +kernel⟩, List.mem_of_getElem? (i := 4) rfl, List.mem_of_getElem? (i := 111) rfl, List.mem_of_getElem? (i := 112) rfl⟩
theorem lw_p8 : lw_okq (⟨"FountainDesk", "countWith", "(I)I"⟩, 9) := ⟨⟨by decide +kernel, by decide +kernel⟩, List.mem_of_getElem? (i := 4) rfl, List.mem_of_getElem? (i := 123) rfl, List.mem_of_getElem? (i := 124) rfl⟩
theorem lw_p9 : lw_okq (⟨"FountainDeskModel", "pieces", "(I)Z"⟩, 4) := ⟨⟨by decide +kernel, by decide +kernel⟩, List.mem_of_getElem? (i := 140) rfl, List.mem_of_getElem? (i := 165) rfl, List.mem_of_getElem? (i := 166) rfl⟩
theorem lw_p10 : lw_okq (⟨"FountainDeskModel", "number", "(I)Z"⟩, 4) := ⟨⟨by decide +kernel, by decide +kernel⟩, List.mem_of_getElem? (i := 140) rfl, List.mem_of_getElem? (i := 169) rfl, List.mem_of_getElem? (i := 170) rfl⟩
theorem lw_p11 : lw_okq (⟨"FountainDeskModel", "work", "(I)V"⟩, 4) := ⟨⟨by decide +kernel, by decide +kernel⟩, List.mem_of_getElem? (i := 140) rfl, List.mem_of_getElem? (i := 173) rfl, List.mem_of_getElem? (i := 174) rfl⟩
theorem lw_p12 : lw_okq (⟨"FountainDeskModel", "size", "()I"⟩, 4) := ⟨⟨by decide +kernel, by decide +kernel⟩, List.mem_of_getElem? (i := 140) rfl, List.mem_of_getElem? (i := 201) rfl, List.mem_of_getElem? (i := 202) rfl⟩
theorem lw_p13 : lw_okq (⟨"FountainDeskModel", "with", "(I)I"⟩, 4) := ⟨⟨by decide +kernel, by decide +kernel⟩, List.mem_of_getElem? (i := 140) rfl, List.mem_of_getElem? (i := 221) rfl, List.mem_of_getElem? (i := 222) rfl⟩
def lw_privs_1 : List (MethodName × Nat) := [(⟨"FountainDesk", "has", "(I)Z"⟩, 9), (⟨"FountainDesk", "learn", "()V"⟩, 9), (⟨"FountainDesk", "build", "(I)V"⟩, 9), (⟨"FountainDesk", "clearRows", "()V"⟩, 9), (⟨"FountainDesk", "include", "(II)V"⟩, 9), (⟨"FountainDesk", "reduce", "(II)V"⟩, 9), (⟨"FountainDesk", "singles", "()I"⟩, 9), (⟨"FountainDesk", "rankOf", "(I)I"⟩, 9), (⟨"FountainDesk", "countWith", "(I)I"⟩, 9), (⟨"FountainDeskModel", "pieces", "(I)Z"⟩, 4), (⟨"FountainDeskModel", "number", "(I)Z"⟩, 4), (⟨"FountainDeskModel", "work", "(I)V"⟩, 4), (⟨"FountainDeskModel", "size", "()I"⟩, 4), (⟨"FountainDeskModel", "with", "(I)I"⟩, 4)]
theorem lw_r1 : ∀ q ∈ lw_privs_1, lw_okq q := List.forall_mem_cons.mpr ⟨lw_p0, List.forall_mem_cons.mpr ⟨lw_p1, List.forall_mem_cons.mpr ⟨lw_p2, List.forall_mem_cons.mpr ⟨lw_p3, List.forall_mem_cons.mpr ⟨lw_p4, List.forall_mem_cons.mpr ⟨lw_p5, List.forall_mem_cons.mpr ⟨lw_p6, List.forall_mem_cons.mpr ⟨lw_p7, List.forall_mem_cons.mpr ⟨lw_p8, List.forall_mem_cons.mpr ⟨lw_p9, List.forall_mem_cons.mpr ⟨lw_p10, List.forall_mem_cons.mpr ⟨lw_p11, List.forall_mem_cons.mpr ⟨lw_p12, List.forall_mem_cons.mpr ⟨lw_p13, fun _ h => absurd h List.not_mem_nil⟩⟩⟩⟩⟩⟩⟩⟩⟩⟩⟩⟩⟩⟩
def lw_privs : List (MethodName × Nat) := lw_privs_1
def lw_tbl : List Cond := k2_sels lw_privs ++ tables_1
theorem lw_privs_ok : ∀ q ∈ lw_privs, lw_okq q := lw_r1
-- ===== ONE list of words for every method: the tables' words that hold all through a run =====
def lw_all : List Cond := lw_tbl.filter goodWord
/-- a word of the tables by its place: claim/WORDS.tsv -/
theorem lw_w {w : Cond} (i : Nat) (h : lw_tbl[i]? = some w) (g : goodWord w = true) : w ∈ lw_all := List.mem_filter.mpr ⟨List.mem_of_getElem? h, g⟩
theorem lw_all_tbl {w : Cond} (h : w ∈ lw_all) : w ∈ lw_tbl := (List.mem_filter.mp h).1
theorem lw_self : GoodIn lw_all lw_all := fun w h => ⟨h, good_of_word (List.mem_filter.mp h).2⟩
/-- a class's field words, by their places -/
theorem lw_in (ws : List Cond) (ps : List Nat) (hp : ws = ps.filterMap (fun i => lw_tbl[i]?)) (hg : ws.all goodWord = true) : ∀ w ∈ ws, w ∈ lw_all := by
  intro w h
  have h1 := List.all_eq_true.mp hg w h
  rw [hp] at h
  obtain ⟨i, -, hi⟩ := List.mem_filterMap.mp h
  exact lw_w i hi h1
/-- the words of a contract for the method y with code b, L locals, answer r -/
abbrev ws_ (y : MethodName) (b : ByteArray) (L : Nat) (r : Option FieldType) : List Cond := Cond.code y b L r :: lw_all
theorem lw_meth {y : MethodName} {b : ByteArray} {L : Nat} {r : Option FieldType} (h : Cond.code y b L r ∈ lw_all) : GoodIn lw_all (ws_ y b L r) := by
  intro w hw
  rcases List.mem_cons.mp hw with e | e
  · rw [e]
    exact lw_self _ h
  · exact lw_self _ e
theorem lw_app {a c : List Cond} (ha : ∀ w ∈ a, w ∈ lw_all) (hc : GoodIn lw_all c) : GoodIn lw_all (a ++ c) := by
  intro w hw
  rcases List.mem_append.mp hw with e | e
  · exact lw_self w (ha w e)
  · exact hc w e
/-- what a call through an object asks: cwV n hts (lw_V ..) -/
theorem lw_V {own : String} {idx : Nat} {C : String} {y : MethodName} {b : ByteArray} {L : Nat} {r : Option FieldType} (h1 : Cond.methodLink own idx y ∈ lw_all) (h2 : Cond.instanceMethod y ∈ lw_all) (h3 : Cond.selects C y y ∈ lw_all) (h4 : Cond.initialized C ∈ lw_all) (h5 : Cond.code y b L r ∈ lw_all) : GoodIn lw_all (wsV own idx C y (ws_ y b L r)) := by
  refine lw_app ?_ (lw_meth h5)
  intro w hw
  simp only [List.mem_cons, List.not_mem_nil, or_false] at hw
  rcases hw with e | e | e | e
  · rw [e]; exact h1
  · rw [e]; exact h2
  · rw [e]; exact h3
  · rw [e]; exact h4
/-- what a static call asks: va_cwS n hts (lw_S ..) -/
theorem lw_S {own : String} {idx : Nat} {y : MethodName} {b : ByteArray} {L : Nat} {r : Option FieldType} (h1 : Cond.methodLink own idx y ∈ lw_all) (h2 : Cond.static y ∈ lw_all) (h3 : Cond.initialized y.cls ∈ lw_all) (h4 : Cond.code y b L r ∈ lw_all) : GoodIn lw_all (va_wsS own idx y (ws_ y b L r)) := by
  refine lw_app ?_ (lw_meth h4)
  intro w hw
  simp only [List.mem_cons, List.not_mem_nil, or_false] at hw
  rcases hw with e | e | e
  · rw [e]; exact h1
  · rw [e]; exact h2
  · rw [e]; exact h3
/-- the words of a contract for a method WITH HANDLERS (hh: its table) -/
abbrev wsW_ (y : MethodName) (b : ByteArray) (L : Nat) (r : Option FieldType) (hh : List (Nat × Nat × Nat × Nat)) : List Cond := Cond.codeWith y b L r hh :: lw_all
theorem lw_methW {y : MethodName} {b : ByteArray} {L : Nat} {r : Option FieldType} {hh : List (Nat × Nat × Nat × Nat)} (h : Cond.codeWith y b L r hh ∈ lw_all) : GoodIn lw_all (wsW_ y b L r hh) := by
  intro w hw
  rcases List.mem_cons.mp hw with e | e
  · rw [e]
    exact lw_self _ h
  · exact lw_self _ e
/-- any list of words by their places (lw_in), good -/
theorem lw_good {ws : List Cond} (h : ∀ w ∈ ws, w ∈ lw_all) : GoodIn lw_all ws := fun w hw => lw_self w (h w hw)
/-- what a call of a method with handlers asks: vx_cwVW n hts (lw_VW ..), vx_cwSW n hts (lw_SW ..) -/
theorem lw_VW {own : String} {idx : Nat} {C : String} {y : MethodName} {b : ByteArray} {L : Nat} {r : Option FieldType} {hh : List (Nat × Nat × Nat × Nat)} (h1 : Cond.methodLink own idx y ∈ lw_all) (h2 : Cond.instanceMethod y ∈ lw_all) (h3 : Cond.selects C y y ∈ lw_all) (h4 : Cond.initialized C ∈ lw_all) (h5 : Cond.codeWith y b L r hh ∈ lw_all) : GoodIn lw_all (wsV own idx C y (wsW_ y b L r hh)) := by
  refine lw_app ?_ (lw_methW h5)
  intro w hw
  simp only [List.mem_cons, List.not_mem_nil, or_false] at hw
  rcases hw with e | e | e | e
  · rw [e]; exact h1
  · rw [e]; exact h2
  · rw [e]; exact h3
  · rw [e]; exact h4
theorem lw_SW {own : String} {idx : Nat} {y : MethodName} {b : ByteArray} {L : Nat} {r : Option FieldType} {hh : List (Nat × Nat × Nat × Nat)} (h1 : Cond.methodLink own idx y ∈ lw_all) (h2 : Cond.static y ∈ lw_all) (h3 : Cond.initialized y.cls ∈ lw_all) (h4 : Cond.codeWith y b L r hh ∈ lw_all) : GoodIn lw_all (va_wsS own idx y (wsW_ y b L r hh)) := by
  refine lw_app ?_ (lw_methW h4)
  intro w hw
  simp only [List.mem_cons, List.not_mem_nil, or_false] at hw
  rcases hw with e | e | e
  · rw [e]; exact h1
  · rw [e]; exact h2
  · rw [e]; exact h3
/-- a word by its place in its run of the tables -/
theorem lw_at {r : List Cond} (hr : ∀ w ∈ r, w ∈ lw_tbl) {w : Cond} (i : Nat) (h : r[i]? = some w) : w ∈ lw_tbl := hr w (List.mem_of_getElem? h)
theorem lw_g {w : Cond} (h : w ∈ lw_tbl) (g : goodWord w = true) : w ∈ lw_all := List.mem_filter.mpr ⟨h, g⟩
theorem lw_ms : ∀ w ∈ k2_sels lw_privs, w ∈ lw_tbl := fun w h => show w ∈ k2_sels lw_privs ++ tables_1 from List.mem_append_left _ h
theorem lw_m0 : ∀ w ∈ tables_1, w ∈ lw_tbl := fun w h => show w ∈ k2_sels lw_privs ++ tables_1 from List.mem_append_right (k2_sels lw_privs) h
theorem qs0 : (Cond.selects "FountainDesk" ⟨"FountainDesk", "has", "(I)Z"⟩ ⟨"FountainDesk", "has", "(I)Z"⟩) ∈ lw_all := lw_g (lw_at lw_ms 0 rfl) rfl
theorem qs1 : (Cond.selects "FountainDesk" ⟨"FountainDesk", "learn", "()V"⟩ ⟨"FountainDesk", "learn", "()V"⟩) ∈ lw_all := lw_g (lw_at lw_ms 1 rfl) rfl
theorem qs2 : (Cond.selects "FountainDesk" ⟨"FountainDesk", "build", "(I)V"⟩ ⟨"FountainDesk", "build", "(I)V"⟩) ∈ lw_all := lw_g (lw_at lw_ms 2 rfl) rfl
theorem qs3 : (Cond.selects "FountainDesk" ⟨"FountainDesk", "clearRows", "()V"⟩ ⟨"FountainDesk", "clearRows", "()V"⟩) ∈ lw_all := lw_g (lw_at lw_ms 3 rfl) rfl
theorem qs4 : (Cond.selects "FountainDesk" ⟨"FountainDesk", "include", "(II)V"⟩ ⟨"FountainDesk", "include", "(II)V"⟩) ∈ lw_all := lw_g (lw_at lw_ms 4 rfl) rfl
theorem qs5 : (Cond.selects "FountainDesk" ⟨"FountainDesk", "reduce", "(II)V"⟩ ⟨"FountainDesk", "reduce", "(II)V"⟩) ∈ lw_all := lw_g (lw_at lw_ms 5 rfl) rfl
theorem qs6 : (Cond.selects "FountainDesk" ⟨"FountainDesk", "singles", "()I"⟩ ⟨"FountainDesk", "singles", "()I"⟩) ∈ lw_all := lw_g (lw_at lw_ms 6 rfl) rfl
theorem qs7 : (Cond.selects "FountainDesk" ⟨"FountainDesk", "rankOf", "(I)I"⟩ ⟨"FountainDesk", "rankOf", "(I)I"⟩) ∈ lw_all := lw_g (lw_at lw_ms 7 rfl) rfl
theorem qs8 : (Cond.selects "FountainDesk" ⟨"FountainDesk", "countWith", "(I)I"⟩ ⟨"FountainDesk", "countWith", "(I)I"⟩) ∈ lw_all := lw_g (lw_at lw_ms 8 rfl) rfl
theorem qs9 : (Cond.selects "FountainDeskModel" ⟨"FountainDeskModel", "pieces", "(I)Z"⟩ ⟨"FountainDeskModel", "pieces", "(I)Z"⟩) ∈ lw_all := lw_g (lw_at lw_ms 9 rfl) rfl
theorem qs10 : (Cond.selects "FountainDeskModel" ⟨"FountainDeskModel", "number", "(I)Z"⟩ ⟨"FountainDeskModel", "number", "(I)Z"⟩) ∈ lw_all := lw_g (lw_at lw_ms 10 rfl) rfl
theorem qs11 : (Cond.selects "FountainDeskModel" ⟨"FountainDeskModel", "work", "(I)V"⟩ ⟨"FountainDeskModel", "work", "(I)V"⟩) ∈ lw_all := lw_g (lw_at lw_ms 11 rfl) rfl
theorem qs12 : (Cond.selects "FountainDeskModel" ⟨"FountainDeskModel", "size", "()I"⟩ ⟨"FountainDeskModel", "size", "()I"⟩) ∈ lw_all := lw_g (lw_at lw_ms 12 rfl) rfl
theorem qs13 : (Cond.selects "FountainDeskModel" ⟨"FountainDeskModel", "with", "(I)I"⟩ ⟨"FountainDeskModel", "with", "(I)I"⟩) ∈ lw_all := lw_g (lw_at lw_ms 13 rfl) rfl
end
section
/-! FountainDesk -/
set_option maxRecDepth 100000
def RX0 : String := "FountainDesk"
def TX0 : u_T := fun k => match k with
  | 0 => ("FountainDesk", "present", "I", false)
  | 1 => ("FountainDesk", "sets", "[S", true)
  | 2 => ("FountainDesk", "values", "[S", true)
  | 3 => ("FountainDesk", "known", "Z", false)
  | 4 => ("FountainDesk", "rows", "[S", true)
  | 5 => ("FountainDesk", "rowValues", "[S", true)
  | 6 => ("FountainDesk", "rank", "I", false)
  | 7 => ("FountainDesk", "leftSet", "I", false)
  | _ => ("FountainDesk", "leftValue", "I", false)
def tyX0 : Nat → FieldType := fun k => match k with
  | 0 => .int
  | 1 => .array .short
  | 2 => .array .short
  | 3 => .boolean
  | 4 => .array .short
  | 5 => .array .short
  | 6 => .int
  | 7 => .int
  | _ => .int
abbrev wsX00 : List Cond := u_ws RX0 TX0 9
theorem nmX0 : ∀ a, a < 9 → ∀ b, b < 9 → a ≠ b → (TX0 a).2.1 ≠ (TX0 b).2.1 := by decide +kernel
theorem tyX0_ok : ∀ k, k < 9 → parseFieldDescriptor (TX0 k).2.2.1 = some (tyX0 k) := by decide +kernel
abbrev cX0_init : ByteArray := prog_1_method_1_code
def yX0_init : MethodName := ⟨RX0, "<init>", "()V"⟩
theorem dX0_init_0 : decode cX0_init 0 = .ok (.aload_n 0, 1) := by decide +kernel
theorem dX0_init_1 : decode cX0_init 1 = .ok (.invokespecial 1, 3) := by decide +kernel
theorem dX0_init_4 : decode cX0_init 4 = .ok (.aload_n 0, 1) := by decide +kernel
theorem dX0_init_5 : decode cX0_init 5 = .ok (.bipush 10, 2) := by decide +kernel
theorem dX0_init_7 : decode cX0_init 7 = .ok (.newarray .short, 2) := by decide +kernel
theorem dX0_init_9 : decode cX0_init 9 = .ok (.putfield 7, 3) := by decide +kernel
theorem dX0_init_12 : decode cX0_init 12 = .ok (.aload_n 0, 1) := by decide +kernel
theorem dX0_init_13 : decode cX0_init 13 = .ok (.bipush 10, 2) := by decide +kernel
theorem dX0_init_15 : decode cX0_init 15 = .ok (.newarray .short, 2) := by decide +kernel
theorem dX0_init_17 : decode cX0_init 17 = .ok (.putfield 13, 3) := by decide +kernel
theorem dX0_init_20 : decode cX0_init 20 = .ok (.aload_n 0, 1) := by decide +kernel
theorem dX0_init_21 : decode cX0_init 21 = .ok (.bipush 8, 2) := by decide +kernel
theorem dX0_init_23 : decode cX0_init 23 = .ok (.newarray .short, 2) := by decide +kernel
theorem dX0_init_25 : decode cX0_init 25 = .ok (.putfield 16, 3) := by decide +kernel
theorem dX0_init_28 : decode cX0_init 28 = .ok (.aload_n 0, 1) := by decide +kernel
theorem dX0_init_29 : decode cX0_init 29 = .ok (.bipush 8, 2) := by decide +kernel
theorem dX0_init_31 : decode cX0_init 31 = .ok (.newarray .short, 2) := by decide +kernel
theorem dX0_init_33 : decode cX0_init 33 = .ok (.putfield 19, 3) := by decide +kernel
theorem dX0_init_36 : decode cX0_init 36 = .ok (.return_, 1) := by decide +kernel
abbrev cX0_take : ByteArray := prog_1_method_10_code
def yX0_take : MethodName := ⟨RX0, "take", "(II)I"⟩
theorem dX0_take_0 : decode cX0_take 0 = .ok (.iload_n 1, 1) := by decide +kernel
theorem dX0_take_1 : decode cX0_take 1 = .ok (.invokestatic 57, 3) := by decide +kernel
theorem dX0_take_4 : decode cX0_take 4 = .ok (.ifCond .eq 14, 3) := by decide +kernel
theorem dX0_take_7 : decode cX0_take 7 = .ok (.iload_n 2, 1) := by decide +kernel
theorem dX0_take_8 : decode cX0_take 8 = .ok (.ifCond .lt 10, 3) := by decide +kernel
theorem dX0_take_11 : decode cX0_take 11 = .ok (.iload_n 2, 1) := by decide +kernel
theorem dX0_take_12 : decode cX0_take 12 = .ok (.sipush 255, 3) := by decide +kernel
theorem dX0_take_15 : decode cX0_take 15 = .ok (.if_icmp .le 5, 3) := by decide +kernel
theorem dX0_take_18 : decode cX0_take 18 = .ok (.iconst (-1), 1) := by decide +kernel
theorem dX0_take_19 : decode cX0_take 19 = .ok (.ireturn, 1) := by decide +kernel
theorem dX0_take_20 : decode cX0_take 20 = .ok (.iconst 0, 1) := by decide +kernel
theorem dX0_take_21 : decode cX0_take 21 = .ok (.istore_n 3, 1) := by decide +kernel
theorem dX0_take_22 : decode cX0_take 22 = .ok (.iload_n 3, 1) := by decide +kernel
theorem dX0_take_23 : decode cX0_take 23 = .ok (.bipush 10, 2) := by decide +kernel
theorem dX0_take_25 : decode cX0_take 25 = .ok (.if_icmp .ge 17, 3) := by decide +kernel
theorem dX0_take_28 : decode cX0_take 28 = .ok (.aload_n 0, 1) := by decide +kernel
theorem dX0_take_29 : decode cX0_take 29 = .ok (.iload_n 3, 1) := by decide +kernel
theorem dX0_take_30 : decode cX0_take 30 = .ok (.invokevirtual 61, 3) := by decide +kernel
theorem dX0_take_33 : decode cX0_take 33 = .ok (.ifCond .eq 9, 3) := by decide +kernel
theorem dX0_take_36 : decode cX0_take 36 = .ok (.iinc 3 1, 3) := by decide +kernel
theorem dX0_take_39 : decode cX0_take 39 = .ok (.goto (-17), 3) := by decide +kernel
theorem dX0_take_42 : decode cX0_take 42 = .ok (.iload_n 3, 1) := by decide +kernel
theorem dX0_take_43 : decode cX0_take 43 = .ok (.bipush 10, 2) := by decide +kernel
theorem dX0_take_45 : decode cX0_take 45 = .ok (.if_icmp .ne 6, 3) := by decide +kernel
theorem dX0_take_48 : decode cX0_take 48 = .ok (.bipush (-2), 2) := by decide +kernel
theorem dX0_take_50 : decode cX0_take 50 = .ok (.ireturn, 1) := by decide +kernel
theorem dX0_take_51 : decode cX0_take 51 = .ok (.aload_n 0, 1) := by decide +kernel
theorem dX0_take_52 : decode cX0_take 52 = .ok (.invokevirtual 64, 3) := by decide +kernel
theorem dX0_take_55 : decode cX0_take 55 = .ok (.aload_n 0, 1) := by decide +kernel
theorem dX0_take_56 : decode cX0_take 56 = .ok (.iload_n 1, 1) := by decide +kernel
theorem dX0_take_57 : decode cX0_take 57 = .ok (.iload_n 2, 1) := by decide +kernel
theorem dX0_take_58 : decode cX0_take 58 = .ok (.invokevirtual 35, 3) := by decide +kernel
theorem dX0_take_61 : decode cX0_take 61 = .ok (.aload_n 0, 1) := by decide +kernel
theorem dX0_take_62 : decode cX0_take 62 = .ok (.getfield 29, 3) := by decide +kernel
theorem dX0_take_65 : decode cX0_take 65 = .ok (.ifCond .ne 13, 3) := by decide +kernel
theorem dX0_take_68 : decode cX0_take 68 = .ok (.aload_n 0, 1) := by decide +kernel
theorem dX0_take_69 : decode cX0_take 69 = .ok (.getfield 32, 3) := by decide +kernel
theorem dX0_take_72 : decode cX0_take 72 = .ok (.ifCond .eq 6, 3) := by decide +kernel
theorem dX0_take_75 : decode cX0_take 75 = .ok (.bipush (-3), 2) := by decide +kernel
theorem dX0_take_77 : decode cX0_take 77 = .ok (.ireturn, 1) := by decide +kernel
theorem dX0_take_78 : decode cX0_take 78 = .ok (.aload_n 0, 1) := by decide +kernel
theorem dX0_take_79 : decode cX0_take 79 = .ok (.dup, 1) := by decide +kernel
theorem dX0_take_80 : decode cX0_take 80 = .ok (.getfield 22, 3) := by decide +kernel
theorem dX0_take_83 : decode cX0_take 83 = .ok (.iconst 1, 1) := by decide +kernel
theorem dX0_take_84 : decode cX0_take 84 = .ok (.iload_n 3, 1) := by decide +kernel
theorem dX0_take_85 : decode cX0_take 85 = .ok (.ishl, 1) := by decide +kernel
theorem dX0_take_86 : decode cX0_take 86 = .ok (.ior, 1) := by decide +kernel
theorem dX0_take_87 : decode cX0_take 87 = .ok (.putfield 22, 3) := by decide +kernel
theorem dX0_take_90 : decode cX0_take 90 = .ok (.aload_n 0, 1) := by decide +kernel
theorem dX0_take_91 : decode cX0_take 91 = .ok (.getfield 7, 3) := by decide +kernel
theorem dX0_take_94 : decode cX0_take 94 = .ok (.iload_n 3, 1) := by decide +kernel
theorem dX0_take_95 : decode cX0_take 95 = .ok (.iload_n 1, 1) := by decide +kernel
theorem dX0_take_96 : decode cX0_take 96 = .ok (.i2s, 1) := by decide +kernel
theorem dX0_take_97 : decode cX0_take 97 = .ok (.sastore, 1) := by decide +kernel
theorem dX0_take_98 : decode cX0_take 98 = .ok (.aload_n 0, 1) := by decide +kernel
theorem dX0_take_99 : decode cX0_take 99 = .ok (.getfield 13, 3) := by decide +kernel
theorem dX0_take_102 : decode cX0_take 102 = .ok (.iload_n 3, 1) := by decide +kernel
theorem dX0_take_103 : decode cX0_take 103 = .ok (.iload_n 2, 1) := by decide +kernel
theorem dX0_take_104 : decode cX0_take 104 = .ok (.i2s, 1) := by decide +kernel
theorem dX0_take_105 : decode cX0_take 105 = .ok (.sastore, 1) := by decide +kernel
theorem dX0_take_106 : decode cX0_take 106 = .ok (.aload_n 0, 1) := by decide +kernel
theorem dX0_take_107 : decode cX0_take 107 = .ok (.iload_n 1, 1) := by decide +kernel
theorem dX0_take_108 : decode cX0_take 108 = .ok (.iload_n 2, 1) := by decide +kernel
theorem dX0_take_109 : decode cX0_take 109 = .ok (.invokevirtual 46, 3) := by decide +kernel
theorem dX0_take_112 : decode cX0_take 112 = .ok (.iload_n 3, 1) := by decide +kernel
theorem dX0_take_113 : decode cX0_take 113 = .ok (.ireturn, 1) := by decide +kernel
abbrev cX0_isSet : ByteArray := prog_1_method_9_code
def yX0_isSet : MethodName := ⟨RX0, "isSet", "(I)Z"⟩
theorem dX0_isSet_0 : decode cX0_isSet 0 = .ok (.iload_n 0, 1) := by decide +kernel
theorem dX0_isSet_1 : decode cX0_isSet 1 = .ok (.iconst 1, 1) := by decide +kernel
theorem dX0_isSet_2 : decode cX0_isSet 2 = .ok (.if_icmp .lt 14, 3) := by decide +kernel
theorem dX0_isSet_5 : decode cX0_isSet 5 = .ok (.iload_n 0, 1) := by decide +kernel
theorem dX0_isSet_6 : decode cX0_isSet 6 = .ok (.sipush 255, 3) := by decide +kernel
theorem dX0_isSet_9 : decode cX0_isSet 9 = .ok (.if_icmp .gt 7, 3) := by decide +kernel
theorem dX0_isSet_12 : decode cX0_isSet 12 = .ok (.iconst 1, 1) := by decide +kernel
theorem dX0_isSet_13 : decode cX0_isSet 13 = .ok (.goto 4, 3) := by decide +kernel
theorem dX0_isSet_16 : decode cX0_isSet 16 = .ok (.iconst 0, 1) := by decide +kernel
theorem dX0_isSet_17 : decode cX0_isSet 17 = .ok (.ireturn, 1) := by decide +kernel
abbrev cX0_has : ByteArray := prog_1_method_2_code
def yX0_has : MethodName := ⟨RX0, "has", "(I)Z"⟩
theorem dX0_has_0 : decode cX0_has 0 = .ok (.iload_n 1, 1) := by decide +kernel
theorem dX0_has_1 : decode cX0_has 1 = .ok (.ifCond .lt 24, 3) := by decide +kernel
theorem dX0_has_4 : decode cX0_has 4 = .ok (.iload_n 1, 1) := by decide +kernel
theorem dX0_has_5 : decode cX0_has 5 = .ok (.bipush 10, 2) := by decide +kernel
theorem dX0_has_7 : decode cX0_has 7 = .ok (.if_icmp .ge 18, 3) := by decide +kernel
theorem dX0_has_10 : decode cX0_has 10 = .ok (.aload_n 0, 1) := by decide +kernel
theorem dX0_has_11 : decode cX0_has 11 = .ok (.getfield 22, 3) := by decide +kernel
theorem dX0_has_14 : decode cX0_has 14 = .ok (.iload_n 1, 1) := by decide +kernel
theorem dX0_has_15 : decode cX0_has 15 = .ok (.ishr, 1) := by decide +kernel
theorem dX0_has_16 : decode cX0_has 16 = .ok (.iconst 1, 1) := by decide +kernel
theorem dX0_has_17 : decode cX0_has 17 = .ok (.iand, 1) := by decide +kernel
theorem dX0_has_18 : decode cX0_has 18 = .ok (.ifCond .eq 7, 3) := by decide +kernel
theorem dX0_has_21 : decode cX0_has 21 = .ok (.iconst 1, 1) := by decide +kernel
theorem dX0_has_22 : decode cX0_has 22 = .ok (.goto 4, 3) := by decide +kernel
theorem dX0_has_25 : decode cX0_has 25 = .ok (.iconst 0, 1) := by decide +kernel
theorem dX0_has_26 : decode cX0_has 26 = .ok (.ireturn, 1) := by decide +kernel
abbrev cX0_learn : ByteArray := prog_1_method_8_code
def yX0_learn : MethodName := ⟨RX0, "learn", "()V"⟩
theorem dX0_learn_0 : decode cX0_learn 0 = .ok (.aload_n 0, 1) := by decide +kernel
theorem dX0_learn_1 : decode cX0_learn 1 = .ok (.getfield 49, 3) := by decide +kernel
theorem dX0_learn_4 : decode cX0_learn 4 = .ok (.ifCond .ne 16, 3) := by decide +kernel
theorem dX0_learn_7 : decode cX0_learn 7 = .ok (.aload_n 0, 1) := by decide +kernel
theorem dX0_learn_8 : decode cX0_learn 8 = .ok (.iconst 1, 1) := by decide +kernel
theorem dX0_learn_9 : decode cX0_learn 9 = .ok (.putfield 49, 3) := by decide +kernel
theorem dX0_learn_12 : decode cX0_learn 12 = .ok (.aload_n 0, 1) := by decide +kernel
theorem dX0_learn_13 : decode cX0_learn 13 = .ok (.aload_n 0, 1) := by decide +kernel
theorem dX0_learn_14 : decode cX0_learn 14 = .ok (.getfield 22, 3) := by decide +kernel
theorem dX0_learn_17 : decode cX0_learn 17 = .ok (.invokevirtual 53, 3) := by decide +kernel
theorem dX0_learn_20 : decode cX0_learn 20 = .ok (.return_, 1) := by decide +kernel
abbrev cX0_build : ByteArray := prog_1_method_7_code
def yX0_build : MethodName := ⟨RX0, "build", "(I)V"⟩
theorem dX0_build_0 : decode cX0_build 0 = .ok (.aload_n 0, 1) := by decide +kernel
theorem dX0_build_1 : decode cX0_build 1 = .ok (.invokevirtual 43, 3) := by decide +kernel
theorem dX0_build_4 : decode cX0_build 4 = .ok (.iconst 0, 1) := by decide +kernel
theorem dX0_build_5 : decode cX0_build 5 = .ok (.istore_n 2, 1) := by decide +kernel
theorem dX0_build_6 : decode cX0_build 6 = .ok (.iload_n 2, 1) := by decide +kernel
theorem dX0_build_7 : decode cX0_build 7 = .ok (.bipush 10, 2) := by decide +kernel
theorem dX0_build_9 : decode cX0_build 9 = .ok (.if_icmp .ge 33, 3) := by decide +kernel
theorem dX0_build_12 : decode cX0_build 12 = .ok (.iload_n 1, 1) := by decide +kernel
theorem dX0_build_13 : decode cX0_build 13 = .ok (.iload_n 2, 1) := by decide +kernel
theorem dX0_build_14 : decode cX0_build 14 = .ok (.ishr, 1) := by decide +kernel
theorem dX0_build_15 : decode cX0_build 15 = .ok (.iconst 1, 1) := by decide +kernel
theorem dX0_build_16 : decode cX0_build 16 = .ok (.iand, 1) := by decide +kernel
theorem dX0_build_17 : decode cX0_build 17 = .ok (.ifCond .eq 19, 3) := by decide +kernel
theorem dX0_build_20 : decode cX0_build 20 = .ok (.aload_n 0, 1) := by decide +kernel
theorem dX0_build_21 : decode cX0_build 21 = .ok (.aload_n 0, 1) := by decide +kernel
theorem dX0_build_22 : decode cX0_build 22 = .ok (.getfield 7, 3) := by decide +kernel
theorem dX0_build_25 : decode cX0_build 25 = .ok (.iload_n 2, 1) := by decide +kernel
theorem dX0_build_26 : decode cX0_build 26 = .ok (.saload, 1) := by decide +kernel
theorem dX0_build_27 : decode cX0_build 27 = .ok (.aload_n 0, 1) := by decide +kernel
theorem dX0_build_28 : decode cX0_build 28 = .ok (.getfield 13, 3) := by decide +kernel
theorem dX0_build_31 : decode cX0_build 31 = .ok (.iload_n 2, 1) := by decide +kernel
theorem dX0_build_32 : decode cX0_build 32 = .ok (.saload, 1) := by decide +kernel
theorem dX0_build_33 : decode cX0_build 33 = .ok (.invokevirtual 46, 3) := by decide +kernel
theorem dX0_build_36 : decode cX0_build 36 = .ok (.iinc 2 1, 3) := by decide +kernel
theorem dX0_build_39 : decode cX0_build 39 = .ok (.goto (-33), 3) := by decide +kernel
theorem dX0_build_42 : decode cX0_build 42 = .ok (.return_, 1) := by decide +kernel
abbrev cX0_clearRows : ByteArray := prog_1_method_4_code
def yX0_clearRows : MethodName := ⟨RX0, "clearRows", "()V"⟩
theorem dX0_clearRows_0 : decode cX0_clearRows 0 = .ok (.iconst 0, 1) := by decide +kernel
theorem dX0_clearRows_1 : decode cX0_clearRows 1 = .ok (.istore_n 1, 1) := by decide +kernel
theorem dX0_clearRows_2 : decode cX0_clearRows 2 = .ok (.iload_n 1, 1) := by decide +kernel
theorem dX0_clearRows_3 : decode cX0_clearRows 3 = .ok (.bipush 8, 2) := by decide +kernel
theorem dX0_clearRows_5 : decode cX0_clearRows 5 = .ok (.if_icmp .ge 23, 3) := by decide +kernel
theorem dX0_clearRows_8 : decode cX0_clearRows 8 = .ok (.aload_n 0, 1) := by decide +kernel
theorem dX0_clearRows_9 : decode cX0_clearRows 9 = .ok (.getfield 16, 3) := by decide +kernel
theorem dX0_clearRows_12 : decode cX0_clearRows 12 = .ok (.iload_n 1, 1) := by decide +kernel
theorem dX0_clearRows_13 : decode cX0_clearRows 13 = .ok (.iconst 0, 1) := by decide +kernel
theorem dX0_clearRows_14 : decode cX0_clearRows 14 = .ok (.sastore, 1) := by decide +kernel
theorem dX0_clearRows_15 : decode cX0_clearRows 15 = .ok (.aload_n 0, 1) := by decide +kernel
theorem dX0_clearRows_16 : decode cX0_clearRows 16 = .ok (.getfield 19, 3) := by decide +kernel
theorem dX0_clearRows_19 : decode cX0_clearRows 19 = .ok (.iload_n 1, 1) := by decide +kernel
theorem dX0_clearRows_20 : decode cX0_clearRows 20 = .ok (.iconst 0, 1) := by decide +kernel
theorem dX0_clearRows_21 : decode cX0_clearRows 21 = .ok (.sastore, 1) := by decide +kernel
theorem dX0_clearRows_22 : decode cX0_clearRows 22 = .ok (.iinc 1 1, 3) := by decide +kernel
theorem dX0_clearRows_25 : decode cX0_clearRows 25 = .ok (.goto (-23), 3) := by decide +kernel
theorem dX0_clearRows_28 : decode cX0_clearRows 28 = .ok (.aload_n 0, 1) := by decide +kernel
theorem dX0_clearRows_29 : decode cX0_clearRows 29 = .ok (.iconst 0, 1) := by decide +kernel
theorem dX0_clearRows_30 : decode cX0_clearRows 30 = .ok (.putfield 26, 3) := by decide +kernel
theorem dX0_clearRows_33 : decode cX0_clearRows 33 = .ok (.return_, 1) := by decide +kernel
abbrev cX0_include : ByteArray := prog_1_method_6_code
def yX0_include : MethodName := ⟨RX0, "include", "(II)V"⟩
theorem dX0_include_0 : decode cX0_include 0 = .ok (.aload_n 0, 1) := by decide +kernel
theorem dX0_include_1 : decode cX0_include 1 = .ok (.iload_n 1, 1) := by decide +kernel
theorem dX0_include_2 : decode cX0_include 2 = .ok (.iload_n 2, 1) := by decide +kernel
theorem dX0_include_3 : decode cX0_include 3 = .ok (.invokevirtual 35, 3) := by decide +kernel
theorem dX0_include_6 : decode cX0_include 6 = .ok (.aload_n 0, 1) := by decide +kernel
theorem dX0_include_7 : decode cX0_include 7 = .ok (.getfield 29, 3) := by decide +kernel
theorem dX0_include_10 : decode cX0_include 10 = .ok (.ifCond .ne 4, 3) := by decide +kernel
theorem dX0_include_13 : decode cX0_include 13 = .ok (.return_, 1) := by decide +kernel
theorem dX0_include_14 : decode cX0_include 14 = .ok (.aload_n 0, 1) := by decide +kernel
theorem dX0_include_15 : decode cX0_include 15 = .ok (.getfield 29, 3) := by decide +kernel
theorem dX0_include_18 : decode cX0_include 18 = .ok (.invokestatic 39, 3) := by decide +kernel
theorem dX0_include_21 : decode cX0_include 21 = .ok (.istore_n 3, 1) := by decide +kernel
theorem dX0_include_22 : decode cX0_include 22 = .ok (.iconst 0, 1) := by decide +kernel
theorem dX0_include_23 : decode cX0_include 23 = .ok (.istore 4, 2) := by decide +kernel
theorem dX0_include_25 : decode cX0_include 25 = .ok (.iload 4, 2) := by decide +kernel
theorem dX0_include_27 : decode cX0_include 27 = .ok (.bipush 8, 2) := by decide +kernel
theorem dX0_include_29 : decode cX0_include 29 = .ok (.if_icmp .ge 63, 3) := by decide +kernel
theorem dX0_include_32 : decode cX0_include 32 = .ok (.aload_n 0, 1) := by decide +kernel
theorem dX0_include_33 : decode cX0_include 33 = .ok (.getfield 16, 3) := by decide +kernel
theorem dX0_include_36 : decode cX0_include 36 = .ok (.iload 4, 2) := by decide +kernel
theorem dX0_include_38 : decode cX0_include 38 = .ok (.saload, 1) := by decide +kernel
theorem dX0_include_39 : decode cX0_include 39 = .ok (.iload_n 3, 1) := by decide +kernel
theorem dX0_include_40 : decode cX0_include 40 = .ok (.ishr, 1) := by decide +kernel
theorem dX0_include_41 : decode cX0_include 41 = .ok (.iconst 1, 1) := by decide +kernel
theorem dX0_include_42 : decode cX0_include 42 = .ok (.iand, 1) := by decide +kernel
theorem dX0_include_43 : decode cX0_include 43 = .ok (.ifCond .eq 43, 3) := by decide +kernel
theorem dX0_include_46 : decode cX0_include 46 = .ok (.aload_n 0, 1) := by decide +kernel
theorem dX0_include_47 : decode cX0_include 47 = .ok (.getfield 16, 3) := by decide +kernel
theorem dX0_include_50 : decode cX0_include 50 = .ok (.iload 4, 2) := by decide +kernel
theorem dX0_include_52 : decode cX0_include 52 = .ok (.aload_n 0, 1) := by decide +kernel
theorem dX0_include_53 : decode cX0_include 53 = .ok (.getfield 16, 3) := by decide +kernel
theorem dX0_include_56 : decode cX0_include 56 = .ok (.iload 4, 2) := by decide +kernel
theorem dX0_include_58 : decode cX0_include 58 = .ok (.saload, 1) := by decide +kernel
theorem dX0_include_59 : decode cX0_include 59 = .ok (.aload_n 0, 1) := by decide +kernel
theorem dX0_include_60 : decode cX0_include 60 = .ok (.getfield 29, 3) := by decide +kernel
theorem dX0_include_63 : decode cX0_include 63 = .ok (.ixor, 1) := by decide +kernel
theorem dX0_include_64 : decode cX0_include 64 = .ok (.i2s, 1) := by decide +kernel
theorem dX0_include_65 : decode cX0_include 65 = .ok (.sastore, 1) := by decide +kernel
theorem dX0_include_66 : decode cX0_include 66 = .ok (.aload_n 0, 1) := by decide +kernel
theorem dX0_include_67 : decode cX0_include 67 = .ok (.getfield 19, 3) := by decide +kernel
theorem dX0_include_70 : decode cX0_include 70 = .ok (.iload 4, 2) := by decide +kernel
theorem dX0_include_72 : decode cX0_include 72 = .ok (.aload_n 0, 1) := by decide +kernel
theorem dX0_include_73 : decode cX0_include 73 = .ok (.getfield 19, 3) := by decide +kernel
theorem dX0_include_76 : decode cX0_include 76 = .ok (.iload 4, 2) := by decide +kernel
theorem dX0_include_78 : decode cX0_include 78 = .ok (.saload, 1) := by decide +kernel
theorem dX0_include_79 : decode cX0_include 79 = .ok (.aload_n 0, 1) := by decide +kernel
theorem dX0_include_80 : decode cX0_include 80 = .ok (.getfield 32, 3) := by decide +kernel
theorem dX0_include_83 : decode cX0_include 83 = .ok (.ixor, 1) := by decide +kernel
theorem dX0_include_84 : decode cX0_include 84 = .ok (.i2s, 1) := by decide +kernel
theorem dX0_include_85 : decode cX0_include 85 = .ok (.sastore, 1) := by decide +kernel
theorem dX0_include_86 : decode cX0_include 86 = .ok (.iinc 4 1, 3) := by decide +kernel
theorem dX0_include_89 : decode cX0_include 89 = .ok (.goto (-64), 3) := by decide +kernel
theorem dX0_include_92 : decode cX0_include 92 = .ok (.aload_n 0, 1) := by decide +kernel
theorem dX0_include_93 : decode cX0_include 93 = .ok (.getfield 16, 3) := by decide +kernel
theorem dX0_include_96 : decode cX0_include 96 = .ok (.iload_n 3, 1) := by decide +kernel
theorem dX0_include_97 : decode cX0_include 97 = .ok (.aload_n 0, 1) := by decide +kernel
theorem dX0_include_98 : decode cX0_include 98 = .ok (.getfield 29, 3) := by decide +kernel
theorem dX0_include_101 : decode cX0_include 101 = .ok (.i2s, 1) := by decide +kernel
theorem dX0_include_102 : decode cX0_include 102 = .ok (.sastore, 1) := by decide +kernel
theorem dX0_include_103 : decode cX0_include 103 = .ok (.aload_n 0, 1) := by decide +kernel
theorem dX0_include_104 : decode cX0_include 104 = .ok (.getfield 19, 3) := by decide +kernel
theorem dX0_include_107 : decode cX0_include 107 = .ok (.iload_n 3, 1) := by decide +kernel
theorem dX0_include_108 : decode cX0_include 108 = .ok (.aload_n 0, 1) := by decide +kernel
theorem dX0_include_109 : decode cX0_include 109 = .ok (.getfield 32, 3) := by decide +kernel
theorem dX0_include_112 : decode cX0_include 112 = .ok (.i2s, 1) := by decide +kernel
theorem dX0_include_113 : decode cX0_include 113 = .ok (.sastore, 1) := by decide +kernel
theorem dX0_include_114 : decode cX0_include 114 = .ok (.aload_n 0, 1) := by decide +kernel
theorem dX0_include_115 : decode cX0_include 115 = .ok (.dup, 1) := by decide +kernel
theorem dX0_include_116 : decode cX0_include 116 = .ok (.getfield 26, 3) := by decide +kernel
theorem dX0_include_119 : decode cX0_include 119 = .ok (.iconst 1, 1) := by decide +kernel
theorem dX0_include_120 : decode cX0_include 120 = .ok (.iadd, 1) := by decide +kernel
theorem dX0_include_121 : decode cX0_include 121 = .ok (.putfield 26, 3) := by decide +kernel
theorem dX0_include_124 : decode cX0_include 124 = .ok (.return_, 1) := by decide +kernel
abbrev cX0_reduce : ByteArray := prog_1_method_5_code
def yX0_reduce : MethodName := ⟨RX0, "reduce", "(II)V"⟩
theorem dX0_reduce_0 : decode cX0_reduce 0 = .ok (.aload_n 0, 1) := by decide +kernel
theorem dX0_reduce_1 : decode cX0_reduce 1 = .ok (.iload_n 1, 1) := by decide +kernel
theorem dX0_reduce_2 : decode cX0_reduce 2 = .ok (.putfield 29, 3) := by decide +kernel
theorem dX0_reduce_5 : decode cX0_reduce 5 = .ok (.aload_n 0, 1) := by decide +kernel
theorem dX0_reduce_6 : decode cX0_reduce 6 = .ok (.iload_n 2, 1) := by decide +kernel
theorem dX0_reduce_7 : decode cX0_reduce 7 = .ok (.putfield 32, 3) := by decide +kernel
theorem dX0_reduce_10 : decode cX0_reduce 10 = .ok (.bipush 7, 2) := by decide +kernel
theorem dX0_reduce_12 : decode cX0_reduce 12 = .ok (.istore_n 3, 1) := by decide +kernel
theorem dX0_reduce_13 : decode cX0_reduce 13 = .ok (.iload_n 3, 1) := by decide +kernel
theorem dX0_reduce_14 : decode cX0_reduce 14 = .ok (.ifCond .lt 59, 3) := by decide +kernel
theorem dX0_reduce_17 : decode cX0_reduce 17 = .ok (.aload_n 0, 1) := by decide +kernel
theorem dX0_reduce_18 : decode cX0_reduce 18 = .ok (.getfield 29, 3) := by decide +kernel
theorem dX0_reduce_21 : decode cX0_reduce 21 = .ok (.iload_n 3, 1) := by decide +kernel
theorem dX0_reduce_22 : decode cX0_reduce 22 = .ok (.ishr, 1) := by decide +kernel
theorem dX0_reduce_23 : decode cX0_reduce 23 = .ok (.iconst 1, 1) := by decide +kernel
theorem dX0_reduce_24 : decode cX0_reduce 24 = .ok (.iand, 1) := by decide +kernel
theorem dX0_reduce_25 : decode cX0_reduce 25 = .ok (.ifCond .eq 42, 3) := by decide +kernel
theorem dX0_reduce_28 : decode cX0_reduce 28 = .ok (.aload_n 0, 1) := by decide +kernel
theorem dX0_reduce_29 : decode cX0_reduce 29 = .ok (.getfield 16, 3) := by decide +kernel
theorem dX0_reduce_32 : decode cX0_reduce 32 = .ok (.iload_n 3, 1) := by decide +kernel
theorem dX0_reduce_33 : decode cX0_reduce 33 = .ok (.saload, 1) := by decide +kernel
theorem dX0_reduce_34 : decode cX0_reduce 34 = .ok (.ifCond .eq 33, 3) := by decide +kernel
theorem dX0_reduce_37 : decode cX0_reduce 37 = .ok (.aload_n 0, 1) := by decide +kernel
theorem dX0_reduce_38 : decode cX0_reduce 38 = .ok (.dup, 1) := by decide +kernel
theorem dX0_reduce_39 : decode cX0_reduce 39 = .ok (.getfield 29, 3) := by decide +kernel
theorem dX0_reduce_42 : decode cX0_reduce 42 = .ok (.aload_n 0, 1) := by decide +kernel
theorem dX0_reduce_43 : decode cX0_reduce 43 = .ok (.getfield 16, 3) := by decide +kernel
theorem dX0_reduce_46 : decode cX0_reduce 46 = .ok (.iload_n 3, 1) := by decide +kernel
theorem dX0_reduce_47 : decode cX0_reduce 47 = .ok (.saload, 1) := by decide +kernel
theorem dX0_reduce_48 : decode cX0_reduce 48 = .ok (.ixor, 1) := by decide +kernel
theorem dX0_reduce_49 : decode cX0_reduce 49 = .ok (.putfield 29, 3) := by decide +kernel
theorem dX0_reduce_52 : decode cX0_reduce 52 = .ok (.aload_n 0, 1) := by decide +kernel
theorem dX0_reduce_53 : decode cX0_reduce 53 = .ok (.dup, 1) := by decide +kernel
theorem dX0_reduce_54 : decode cX0_reduce 54 = .ok (.getfield 32, 3) := by decide +kernel
theorem dX0_reduce_57 : decode cX0_reduce 57 = .ok (.aload_n 0, 1) := by decide +kernel
theorem dX0_reduce_58 : decode cX0_reduce 58 = .ok (.getfield 19, 3) := by decide +kernel
theorem dX0_reduce_61 : decode cX0_reduce 61 = .ok (.iload_n 3, 1) := by decide +kernel
theorem dX0_reduce_62 : decode cX0_reduce 62 = .ok (.saload, 1) := by decide +kernel
theorem dX0_reduce_63 : decode cX0_reduce 63 = .ok (.ixor, 1) := by decide +kernel
theorem dX0_reduce_64 : decode cX0_reduce 64 = .ok (.putfield 32, 3) := by decide +kernel
theorem dX0_reduce_67 : decode cX0_reduce 67 = .ok (.iinc 3 (-1), 3) := by decide +kernel
theorem dX0_reduce_70 : decode cX0_reduce 70 = .ok (.goto (-57), 3) := by decide +kernel
theorem dX0_reduce_73 : decode cX0_reduce 73 = .ok (.return_, 1) := by decide +kernel
abbrev cX0_leader : ByteArray := prog_1_method_3_code
def yX0_leader : MethodName := ⟨RX0, "leader", "(I)I"⟩
theorem dX0_leader_0 : decode cX0_leader 0 = .ok (.bipush 7, 2) := by decide +kernel
theorem dX0_leader_2 : decode cX0_leader 2 = .ok (.istore_n 1, 1) := by decide +kernel
theorem dX0_leader_3 : decode cX0_leader 3 = .ok (.iload_n 1, 1) := by decide +kernel
theorem dX0_leader_4 : decode cX0_leader 4 = .ok (.ifCond .le 17, 3) := by decide +kernel
theorem dX0_leader_7 : decode cX0_leader 7 = .ok (.iload_n 0, 1) := by decide +kernel
theorem dX0_leader_8 : decode cX0_leader 8 = .ok (.iload_n 1, 1) := by decide +kernel
theorem dX0_leader_9 : decode cX0_leader 9 = .ok (.ishr, 1) := by decide +kernel
theorem dX0_leader_10 : decode cX0_leader 10 = .ok (.iconst 1, 1) := by decide +kernel
theorem dX0_leader_11 : decode cX0_leader 11 = .ok (.iand, 1) := by decide +kernel
theorem dX0_leader_12 : decode cX0_leader 12 = .ok (.ifCond .ne 9, 3) := by decide +kernel
theorem dX0_leader_15 : decode cX0_leader 15 = .ok (.iinc 1 (-1), 3) := by decide +kernel
theorem dX0_leader_18 : decode cX0_leader 18 = .ok (.goto (-15), 3) := by decide +kernel
theorem dX0_leader_21 : decode cX0_leader 21 = .ok (.iload_n 1, 1) := by decide +kernel
theorem dX0_leader_22 : decode cX0_leader 22 = .ok (.ireturn, 1) := by decide +kernel
abbrev cX0_drop : ByteArray := prog_1_method_11_code
def yX0_drop : MethodName := ⟨RX0, "drop", "(I)Z"⟩
theorem dX0_drop_0 : decode cX0_drop 0 = .ok (.aload_n 0, 1) := by decide +kernel
theorem dX0_drop_1 : decode cX0_drop 1 = .ok (.iload_n 1, 1) := by decide +kernel
theorem dX0_drop_2 : decode cX0_drop 2 = .ok (.invokevirtual 61, 3) := by decide +kernel
theorem dX0_drop_5 : decode cX0_drop 5 = .ok (.ifCond .ne 5, 3) := by decide +kernel
theorem dX0_drop_8 : decode cX0_drop 8 = .ok (.iconst 0, 1) := by decide +kernel
theorem dX0_drop_9 : decode cX0_drop 9 = .ok (.ireturn, 1) := by decide +kernel
theorem dX0_drop_10 : decode cX0_drop 10 = .ok (.aload_n 0, 1) := by decide +kernel
theorem dX0_drop_11 : decode cX0_drop 11 = .ok (.dup, 1) := by decide +kernel
theorem dX0_drop_12 : decode cX0_drop 12 = .ok (.getfield 22, 3) := by decide +kernel
theorem dX0_drop_15 : decode cX0_drop 15 = .ok (.iconst 1, 1) := by decide +kernel
theorem dX0_drop_16 : decode cX0_drop 16 = .ok (.iload_n 1, 1) := by decide +kernel
theorem dX0_drop_17 : decode cX0_drop 17 = .ok (.ishl, 1) := by decide +kernel
theorem dX0_drop_18 : decode cX0_drop 18 = .ok (.iconst (-1), 1) := by decide +kernel
theorem dX0_drop_19 : decode cX0_drop 19 = .ok (.ixor, 1) := by decide +kernel
theorem dX0_drop_20 : decode cX0_drop 20 = .ok (.iand, 1) := by decide +kernel
theorem dX0_drop_21 : decode cX0_drop 21 = .ok (.putfield 22, 3) := by decide +kernel
theorem dX0_drop_24 : decode cX0_drop 24 = .ok (.aload_n 0, 1) := by decide +kernel
theorem dX0_drop_25 : decode cX0_drop 25 = .ok (.iconst 0, 1) := by decide +kernel
theorem dX0_drop_26 : decode cX0_drop 26 = .ok (.putfield 49, 3) := by decide +kernel
theorem dX0_drop_29 : decode cX0_drop 29 = .ok (.iconst 1, 1) := by decide +kernel
theorem dX0_drop_30 : decode cX0_drop 30 = .ok (.ireturn, 1) := by decide +kernel
abbrev cX0_drops : ByteArray := prog_1_method_12_code
def yX0_drops : MethodName := ⟨RX0, "drops", "()I"⟩
theorem dX0_drops_0 : decode cX0_drops 0 = .ok (.aload_n 0, 1) := by decide +kernel
theorem dX0_drops_1 : decode cX0_drops 1 = .ok (.getfield 22, 3) := by decide +kernel
theorem dX0_drops_4 : decode cX0_drops 4 = .ok (.ireturn, 1) := by decide +kernel
end
section
set_option maxRecDepth 100000
abbrev cX0_known : ByteArray := prog_1_method_15_code
def yX0_known : MethodName := ⟨RX0, "known", "()I"⟩
theorem dX0_known_0 : decode cX0_known 0 = .ok (.aload_n 0, 1) := by decide +kernel
theorem dX0_known_1 : decode cX0_known 1 = .ok (.invokevirtual 64, 3) := by decide +kernel
theorem dX0_known_4 : decode cX0_known 4 = .ok (.aload_n 0, 1) := by decide +kernel
theorem dX0_known_5 : decode cX0_known 5 = .ok (.invokevirtual 67, 3) := by decide +kernel
theorem dX0_known_8 : decode cX0_known 8 = .ok (.ireturn, 1) := by decide +kernel
abbrev cX0_singles : ByteArray := prog_1_method_13_code
def yX0_singles : MethodName := ⟨RX0, "singles", "()I"⟩
theorem dX0_singles_0 : decode cX0_singles 0 = .ok (.iconst 0, 1) := by decide +kernel
theorem dX0_singles_1 : decode cX0_singles 1 = .ok (.istore_n 1, 1) := by decide +kernel
theorem dX0_singles_2 : decode cX0_singles 2 = .ok (.iconst 0, 1) := by decide +kernel
theorem dX0_singles_3 : decode cX0_singles 3 = .ok (.istore_n 2, 1) := by decide +kernel
theorem dX0_singles_4 : decode cX0_singles 4 = .ok (.iload_n 2, 1) := by decide +kernel
theorem dX0_singles_5 : decode cX0_singles 5 = .ok (.bipush 8, 2) := by decide +kernel
theorem dX0_singles_7 : decode cX0_singles 7 = .ok (.if_icmp .ge 31, 3) := by decide +kernel
theorem dX0_singles_10 : decode cX0_singles 10 = .ok (.iload_n 1, 1) := by decide +kernel
theorem dX0_singles_11 : decode cX0_singles 11 = .ok (.aload_n 0, 1) := by decide +kernel
theorem dX0_singles_12 : decode cX0_singles 12 = .ok (.getfield 16, 3) := by decide +kernel
theorem dX0_singles_15 : decode cX0_singles 15 = .ok (.iload_n 2, 1) := by decide +kernel
theorem dX0_singles_16 : decode cX0_singles 16 = .ok (.saload, 1) := by decide +kernel
theorem dX0_singles_17 : decode cX0_singles 17 = .ok (.iconst 1, 1) := by decide +kernel
theorem dX0_singles_18 : decode cX0_singles 18 = .ok (.iload_n 2, 1) := by decide +kernel
theorem dX0_singles_19 : decode cX0_singles 19 = .ok (.ishl, 1) := by decide +kernel
theorem dX0_singles_20 : decode cX0_singles 20 = .ok (.if_icmp .ne 9, 3) := by decide +kernel
theorem dX0_singles_23 : decode cX0_singles 23 = .ok (.iconst 1, 1) := by decide +kernel
theorem dX0_singles_24 : decode cX0_singles 24 = .ok (.iload_n 2, 1) := by decide +kernel
theorem dX0_singles_25 : decode cX0_singles 25 = .ok (.ishl, 1) := by decide +kernel
theorem dX0_singles_26 : decode cX0_singles 26 = .ok (.goto 4, 3) := by decide +kernel
theorem dX0_singles_29 : decode cX0_singles 29 = .ok (.iconst 0, 1) := by decide +kernel
theorem dX0_singles_30 : decode cX0_singles 30 = .ok (.ior, 1) := by decide +kernel
theorem dX0_singles_31 : decode cX0_singles 31 = .ok (.istore_n 1, 1) := by decide +kernel
theorem dX0_singles_32 : decode cX0_singles 32 = .ok (.iinc 2 1, 3) := by decide +kernel
theorem dX0_singles_35 : decode cX0_singles 35 = .ok (.goto (-31), 3) := by decide +kernel
theorem dX0_singles_38 : decode cX0_singles 38 = .ok (.iload_n 1, 1) := by decide +kernel
theorem dX0_singles_39 : decode cX0_singles 39 = .ok (.ireturn, 1) := by decide +kernel
abbrev cX0_piece : ByteArray := prog_1_method_16_code
def yX0_piece : MethodName := ⟨RX0, "piece", "(I)I"⟩
theorem dX0_piece_0 : decode cX0_piece 0 = .ok (.iload_n 1, 1) := by decide +kernel
theorem dX0_piece_1 : decode cX0_piece 1 = .ok (.ifCond .lt 9, 3) := by decide +kernel
theorem dX0_piece_4 : decode cX0_piece 4 = .ok (.iload_n 1, 1) := by decide +kernel
theorem dX0_piece_5 : decode cX0_piece 5 = .ok (.bipush 8, 2) := by decide +kernel
theorem dX0_piece_7 : decode cX0_piece 7 = .ok (.if_icmp .lt 5, 3) := by decide +kernel
theorem dX0_piece_10 : decode cX0_piece 10 = .ok (.iconst (-1), 1) := by decide +kernel
theorem dX0_piece_11 : decode cX0_piece 11 = .ok (.ireturn, 1) := by decide +kernel
theorem dX0_piece_12 : decode cX0_piece 12 = .ok (.aload_n 0, 1) := by decide +kernel
theorem dX0_piece_13 : decode cX0_piece 13 = .ok (.invokevirtual 64, 3) := by decide +kernel
theorem dX0_piece_16 : decode cX0_piece 16 = .ok (.aload_n 0, 1) := by decide +kernel
theorem dX0_piece_17 : decode cX0_piece 17 = .ok (.getfield 16, 3) := by decide +kernel
theorem dX0_piece_20 : decode cX0_piece 20 = .ok (.iload_n 1, 1) := by decide +kernel
theorem dX0_piece_21 : decode cX0_piece 21 = .ok (.saload, 1) := by decide +kernel
theorem dX0_piece_22 : decode cX0_piece 22 = .ok (.iconst 1, 1) := by decide +kernel
theorem dX0_piece_23 : decode cX0_piece 23 = .ok (.iload_n 1, 1) := by decide +kernel
theorem dX0_piece_24 : decode cX0_piece 24 = .ok (.ishl, 1) := by decide +kernel
theorem dX0_piece_25 : decode cX0_piece 25 = .ok (.if_icmp .ne 12, 3) := by decide +kernel
theorem dX0_piece_28 : decode cX0_piece 28 = .ok (.aload_n 0, 1) := by decide +kernel
theorem dX0_piece_29 : decode cX0_piece 29 = .ok (.getfield 19, 3) := by decide +kernel
theorem dX0_piece_32 : decode cX0_piece 32 = .ok (.iload_n 1, 1) := by decide +kernel
theorem dX0_piece_33 : decode cX0_piece 33 = .ok (.saload, 1) := by decide +kernel
theorem dX0_piece_34 : decode cX0_piece 34 = .ok (.goto 4, 3) := by decide +kernel
theorem dX0_piece_37 : decode cX0_piece 37 = .ok (.iconst (-1), 1) := by decide +kernel
theorem dX0_piece_38 : decode cX0_piece 38 = .ok (.ireturn, 1) := by decide +kernel
abbrev cX0_sum : ByteArray := prog_1_method_17_code
def yX0_sum : MethodName := ⟨RX0, "sum", "(I)I"⟩
theorem dX0_sum_0 : decode cX0_sum 0 = .ok (.iload_n 1, 1) := by decide +kernel
theorem dX0_sum_1 : decode cX0_sum 1 = .ok (.ifCond .lt 10, 3) := by decide +kernel
theorem dX0_sum_4 : decode cX0_sum 4 = .ok (.iload_n 1, 1) := by decide +kernel
theorem dX0_sum_5 : decode cX0_sum 5 = .ok (.sipush 255, 3) := by decide +kernel
theorem dX0_sum_8 : decode cX0_sum 8 = .ok (.if_icmp .le 5, 3) := by decide +kernel
theorem dX0_sum_11 : decode cX0_sum 11 = .ok (.iconst (-1), 1) := by decide +kernel
theorem dX0_sum_12 : decode cX0_sum 12 = .ok (.ireturn, 1) := by decide +kernel
theorem dX0_sum_13 : decode cX0_sum 13 = .ok (.aload_n 0, 1) := by decide +kernel
theorem dX0_sum_14 : decode cX0_sum 14 = .ok (.invokevirtual 64, 3) := by decide +kernel
theorem dX0_sum_17 : decode cX0_sum 17 = .ok (.aload_n 0, 1) := by decide +kernel
theorem dX0_sum_18 : decode cX0_sum 18 = .ok (.iload_n 1, 1) := by decide +kernel
theorem dX0_sum_19 : decode cX0_sum 19 = .ok (.iconst 0, 1) := by decide +kernel
theorem dX0_sum_20 : decode cX0_sum 20 = .ok (.invokevirtual 35, 3) := by decide +kernel
theorem dX0_sum_23 : decode cX0_sum 23 = .ok (.aload_n 0, 1) := by decide +kernel
theorem dX0_sum_24 : decode cX0_sum 24 = .ok (.getfield 29, 3) := by decide +kernel
theorem dX0_sum_27 : decode cX0_sum 27 = .ok (.ifCond .ne 10, 3) := by decide +kernel
theorem dX0_sum_30 : decode cX0_sum 30 = .ok (.aload_n 0, 1) := by decide +kernel
theorem dX0_sum_31 : decode cX0_sum 31 = .ok (.getfield 32, 3) := by decide +kernel
theorem dX0_sum_34 : decode cX0_sum 34 = .ok (.goto 4, 3) := by decide +kernel
theorem dX0_sum_37 : decode cX0_sum 37 = .ok (.iconst (-1), 1) := by decide +kernel
theorem dX0_sum_38 : decode cX0_sum 38 = .ok (.ireturn, 1) := by decide +kernel
abbrev cX0_missing : ByteArray := prog_1_method_18_code
def yX0_missing : MethodName := ⟨RX0, "missing", "()I"⟩
theorem dX0_missing_0 : decode cX0_missing 0 = .ok (.aload_n 0, 1) := by decide +kernel
theorem dX0_missing_1 : decode cX0_missing 1 = .ok (.invokevirtual 64, 3) := by decide +kernel
theorem dX0_missing_4 : decode cX0_missing 4 = .ok (.bipush 8, 2) := by decide +kernel
theorem dX0_missing_6 : decode cX0_missing 6 = .ok (.aload_n 0, 1) := by decide +kernel
theorem dX0_missing_7 : decode cX0_missing 7 = .ok (.getfield 26, 3) := by decide +kernel
theorem dX0_missing_10 : decode cX0_missing 10 = .ok (.isub, 1) := by decide +kernel
theorem dX0_missing_11 : decode cX0_missing 11 = .ok (.ireturn, 1) := by decide +kernel
abbrev cX0_idle : ByteArray := prog_1_method_19_code
def yX0_idle : MethodName := ⟨RX0, "idle", "(I)Z"⟩
theorem dX0_idle_0 : decode cX0_idle 0 = .ok (.aload_n 0, 1) := by decide +kernel
theorem dX0_idle_1 : decode cX0_idle 1 = .ok (.iload_n 1, 1) := by decide +kernel
theorem dX0_idle_2 : decode cX0_idle 2 = .ok (.invokevirtual 61, 3) := by decide +kernel
theorem dX0_idle_5 : decode cX0_idle 5 = .ok (.ifCond .eq 24, 3) := by decide +kernel
theorem dX0_idle_8 : decode cX0_idle 8 = .ok (.aload_n 0, 1) := by decide +kernel
theorem dX0_idle_9 : decode cX0_idle 9 = .ok (.aload_n 0, 1) := by decide +kernel
theorem dX0_idle_10 : decode cX0_idle 10 = .ok (.getfield 22, 3) := by decide +kernel
theorem dX0_idle_13 : decode cX0_idle 13 = .ok (.iconst 1, 1) := by decide +kernel
theorem dX0_idle_14 : decode cX0_idle 14 = .ok (.iload_n 1, 1) := by decide +kernel
theorem dX0_idle_15 : decode cX0_idle 15 = .ok (.ishl, 1) := by decide +kernel
theorem dX0_idle_16 : decode cX0_idle 16 = .ok (.iconst (-1), 1) := by decide +kernel
theorem dX0_idle_17 : decode cX0_idle 17 = .ok (.ixor, 1) := by decide +kernel
theorem dX0_idle_18 : decode cX0_idle 18 = .ok (.iand, 1) := by decide +kernel
theorem dX0_idle_19 : decode cX0_idle 19 = .ok (.invokevirtual 71, 3) := by decide +kernel
theorem dX0_idle_22 : decode cX0_idle 22 = .ok (.ifCond .eq 7, 3) := by decide +kernel
theorem dX0_idle_25 : decode cX0_idle 25 = .ok (.iconst 1, 1) := by decide +kernel
theorem dX0_idle_26 : decode cX0_idle 26 = .ok (.goto 4, 3) := by decide +kernel
theorem dX0_idle_29 : decode cX0_idle 29 = .ok (.iconst 0, 1) := by decide +kernel
theorem dX0_idle_30 : decode cX0_idle 30 = .ok (.ireturn, 1) := by decide +kernel
abbrev cX0_enough : ByteArray := prog_1_method_26_code
def yX0_enough : MethodName := ⟨RX0, "enough", "(I)Z"⟩
theorem dX0_enough_0 : decode cX0_enough 0 = .ok (.aload_n 0, 1) := by decide +kernel
theorem dX0_enough_1 : decode cX0_enough 1 = .ok (.aload_n 0, 1) := by decide +kernel
theorem dX0_enough_2 : decode cX0_enough 2 = .ok (.getfield 22, 3) := by decide +kernel
theorem dX0_enough_5 : decode cX0_enough 5 = .ok (.invokevirtual 83, 3) := by decide +kernel
theorem dX0_enough_8 : decode cX0_enough 8 = .ok (.istore_n 2, 1) := by decide +kernel
theorem dX0_enough_9 : decode cX0_enough 9 = .ok (.aload_n 0, 1) := by decide +kernel
theorem dX0_enough_10 : decode cX0_enough 10 = .ok (.iload_n 1, 1) := by decide +kernel
theorem dX0_enough_11 : decode cX0_enough 11 = .ok (.invokevirtual 83, 3) := by decide +kernel
theorem dX0_enough_14 : decode cX0_enough 14 = .ok (.iload_n 2, 1) := by decide +kernel
theorem dX0_enough_15 : decode cX0_enough 15 = .ok (.if_icmp .ne 7, 3) := by decide +kernel
theorem dX0_enough_18 : decode cX0_enough 18 = .ok (.iconst 1, 1) := by decide +kernel
theorem dX0_enough_19 : decode cX0_enough 19 = .ok (.goto 4, 3) := by decide +kernel
theorem dX0_enough_22 : decode cX0_enough 22 = .ok (.iconst 0, 1) := by decide +kernel
theorem dX0_enough_23 : decode cX0_enough 23 = .ok (.ireturn, 1) := by decide +kernel
abbrev cX0_rankOf : ByteArray := prog_1_method_21_code
def yX0_rankOf : MethodName := ⟨RX0, "rankOf", "(I)I"⟩
theorem dX0_rankOf_0 : decode cX0_rankOf 0 = .ok (.aload_n 0, 1) := by decide +kernel
theorem dX0_rankOf_1 : decode cX0_rankOf 1 = .ok (.iconst 0, 1) := by decide +kernel
theorem dX0_rankOf_2 : decode cX0_rankOf 2 = .ok (.putfield 49, 3) := by decide +kernel
theorem dX0_rankOf_5 : decode cX0_rankOf 5 = .ok (.aload_n 0, 1) := by decide +kernel
theorem dX0_rankOf_6 : decode cX0_rankOf 6 = .ok (.iload_n 1, 1) := by decide +kernel
theorem dX0_rankOf_7 : decode cX0_rankOf 7 = .ok (.aload_n 0, 1) := by decide +kernel
theorem dX0_rankOf_8 : decode cX0_rankOf 8 = .ok (.getfield 22, 3) := by decide +kernel
theorem dX0_rankOf_11 : decode cX0_rankOf 11 = .ok (.iand, 1) := by decide +kernel
theorem dX0_rankOf_12 : decode cX0_rankOf 12 = .ok (.invokevirtual 53, 3) := by decide +kernel
theorem dX0_rankOf_15 : decode cX0_rankOf 15 = .ok (.aload_n 0, 1) := by decide +kernel
theorem dX0_rankOf_16 : decode cX0_rankOf 16 = .ok (.getfield 26, 3) := by decide +kernel
theorem dX0_rankOf_19 : decode cX0_rankOf 19 = .ok (.ireturn, 1) := by decide +kernel
abbrev cX0_knownSums : ByteArray := prog_1_method_20_code
def yX0_knownSums : MethodName := ⟨RX0, "knownSums", "()I"⟩
theorem dX0_knownSums_0 : decode cX0_knownSums 0 = .ok (.aload_n 0, 1) := by decide +kernel
theorem dX0_knownSums_1 : decode cX0_knownSums 1 = .ok (.invokevirtual 64, 3) := by decide +kernel
theorem dX0_knownSums_4 : decode cX0_knownSums 4 = .ok (.iconst 1, 1) := by decide +kernel
theorem dX0_knownSums_5 : decode cX0_knownSums 5 = .ok (.aload_n 0, 1) := by decide +kernel
theorem dX0_knownSums_6 : decode cX0_knownSums 6 = .ok (.getfield 26, 3) := by decide +kernel
theorem dX0_knownSums_9 : decode cX0_knownSums 9 = .ok (.ishl, 1) := by decide +kernel
theorem dX0_knownSums_10 : decode cX0_knownSums 10 = .ok (.iconst 1, 1) := by decide +kernel
theorem dX0_knownSums_11 : decode cX0_knownSums 11 = .ok (.isub, 1) := by decide +kernel
theorem dX0_knownSums_12 : decode cX0_knownSums 12 = .ok (.ireturn, 1) := by decide +kernel
abbrev cX0_knownWith : ByteArray := prog_1_method_22_code
def yX0_knownWith : MethodName := ⟨RX0, "knownWith", "(I)I"⟩
theorem dX0_knownWith_0 : decode cX0_knownWith 0 = .ok (.iload_n 1, 1) := by decide +kernel
theorem dX0_knownWith_1 : decode cX0_knownWith 1 = .ok (.invokestatic 57, 3) := by decide +kernel
theorem dX0_knownWith_4 : decode cX0_knownWith 4 = .ok (.ifCond .eq 11, 3) := by decide +kernel
theorem dX0_knownWith_7 : decode cX0_knownWith 7 = .ok (.aload_n 0, 1) := by decide +kernel
theorem dX0_knownWith_8 : decode cX0_knownWith 8 = .ok (.iload_n 1, 1) := by decide +kernel
theorem dX0_knownWith_9 : decode cX0_knownWith 9 = .ok (.invokevirtual 74, 3) := by decide +kernel
theorem dX0_knownWith_12 : decode cX0_knownWith 12 = .ok (.goto 4, 3) := by decide +kernel
theorem dX0_knownWith_15 : decode cX0_knownWith 15 = .ok (.iconst (-1), 1) := by decide +kernel
theorem dX0_knownWith_16 : decode cX0_knownWith 16 = .ok (.ireturn, 1) := by decide +kernel
abbrev cX0_countWith : ByteArray := prog_1_method_24_code
def yX0_countWith : MethodName := ⟨RX0, "countWith", "(I)I"⟩
theorem dX0_countWith_0 : decode cX0_countWith 0 = .ok (.aload_n 0, 1) := by decide +kernel
theorem dX0_countWith_1 : decode cX0_countWith 1 = .ok (.iconst 0, 1) := by decide +kernel
theorem dX0_countWith_2 : decode cX0_countWith 2 = .ok (.putfield 49, 3) := by decide +kernel
theorem dX0_countWith_5 : decode cX0_countWith 5 = .ok (.aload_n 0, 1) := by decide +kernel
theorem dX0_countWith_6 : decode cX0_countWith 6 = .ok (.aload_n 0, 1) := by decide +kernel
theorem dX0_countWith_7 : decode cX0_countWith 7 = .ok (.getfield 22, 3) := by decide +kernel
theorem dX0_countWith_10 : decode cX0_countWith 10 = .ok (.invokevirtual 53, 3) := by decide +kernel
theorem dX0_countWith_13 : decode cX0_countWith 13 = .ok (.aload_n 0, 1) := by decide +kernel
theorem dX0_countWith_14 : decode cX0_countWith 14 = .ok (.iload_n 1, 1) := by decide +kernel
theorem dX0_countWith_15 : decode cX0_countWith 15 = .ok (.iconst 0, 1) := by decide +kernel
theorem dX0_countWith_16 : decode cX0_countWith 16 = .ok (.invokevirtual 46, 3) := by decide +kernel
theorem dX0_countWith_19 : decode cX0_countWith 19 = .ok (.aload_n 0, 1) := by decide +kernel
theorem dX0_countWith_20 : decode cX0_countWith 20 = .ok (.invokevirtual 67, 3) := by decide +kernel
theorem dX0_countWith_23 : decode cX0_countWith 23 = .ok (.istore_n 2, 1) := by decide +kernel
theorem dX0_countWith_24 : decode cX0_countWith 24 = .ok (.iload_n 2, 1) := by decide +kernel
theorem dX0_countWith_25 : decode cX0_countWith 25 = .ok (.invokestatic 77, 3) := by decide +kernel
theorem dX0_countWith_28 : decode cX0_countWith 28 = .ok (.ireturn, 1) := by decide +kernel
abbrev cX0_ones : ByteArray := prog_1_method_14_code
def yX0_ones : MethodName := ⟨RX0, "ones", "(I)I"⟩
theorem dX0_ones_0 : decode cX0_ones 0 = .ok (.iconst 0, 1) := by decide +kernel
theorem dX0_ones_1 : decode cX0_ones 1 = .ok (.istore_n 1, 1) := by decide +kernel
theorem dX0_ones_2 : decode cX0_ones 2 = .ok (.iconst 0, 1) := by decide +kernel
theorem dX0_ones_3 : decode cX0_ones 3 = .ok (.istore_n 2, 1) := by decide +kernel
theorem dX0_ones_4 : decode cX0_ones 4 = .ok (.iload_n 2, 1) := by decide +kernel
theorem dX0_ones_5 : decode cX0_ones 5 = .ok (.bipush 8, 2) := by decide +kernel
theorem dX0_ones_7 : decode cX0_ones 7 = .ok (.if_icmp .ge 17, 3) := by decide +kernel
theorem dX0_ones_10 : decode cX0_ones 10 = .ok (.iload_n 1, 1) := by decide +kernel
theorem dX0_ones_11 : decode cX0_ones 11 = .ok (.iload_n 0, 1) := by decide +kernel
theorem dX0_ones_12 : decode cX0_ones 12 = .ok (.iload_n 2, 1) := by decide +kernel
theorem dX0_ones_13 : decode cX0_ones 13 = .ok (.ishr, 1) := by decide +kernel
theorem dX0_ones_14 : decode cX0_ones 14 = .ok (.iconst 1, 1) := by decide +kernel
theorem dX0_ones_15 : decode cX0_ones 15 = .ok (.iand, 1) := by decide +kernel
theorem dX0_ones_16 : decode cX0_ones 16 = .ok (.iadd, 1) := by decide +kernel
theorem dX0_ones_17 : decode cX0_ones 17 = .ok (.istore_n 1, 1) := by decide +kernel
theorem dX0_ones_18 : decode cX0_ones 18 = .ok (.iinc 2 1, 3) := by decide +kernel
theorem dX0_ones_21 : decode cX0_ones 21 = .ok (.goto (-17), 3) := by decide +kernel
theorem dX0_ones_24 : decode cX0_ones 24 = .ok (.iload_n 1, 1) := by decide +kernel
theorem dX0_ones_25 : decode cX0_ones 25 = .ok (.ireturn, 1) := by decide +kernel
abbrev cX0_bestSet : ByteArray := prog_1_method_23_code
def yX0_bestSet : MethodName := ⟨RX0, "bestSet", "()I"⟩
theorem dX0_bestSet_0 : decode cX0_bestSet 0 = .ok (.iconst 1, 1) := by decide +kernel
theorem dX0_bestSet_1 : decode cX0_bestSet 1 = .ok (.istore_n 1, 1) := by decide +kernel
theorem dX0_bestSet_2 : decode cX0_bestSet 2 = .ok (.iconst (-1), 1) := by decide +kernel
theorem dX0_bestSet_3 : decode cX0_bestSet 3 = .ok (.istore_n 2, 1) := by decide +kernel
theorem dX0_bestSet_4 : decode cX0_bestSet 4 = .ok (.iconst 1, 1) := by decide +kernel
theorem dX0_bestSet_5 : decode cX0_bestSet 5 = .ok (.istore_n 3, 1) := by decide +kernel
theorem dX0_bestSet_6 : decode cX0_bestSet 6 = .ok (.iload_n 3, 1) := by decide +kernel
theorem dX0_bestSet_7 : decode cX0_bestSet 7 = .ok (.sipush 255, 3) := by decide +kernel
theorem dX0_bestSet_10 : decode cX0_bestSet 10 = .ok (.if_icmp .gt 27, 3) := by decide +kernel
theorem dX0_bestSet_13 : decode cX0_bestSet 13 = .ok (.aload_n 0, 1) := by decide +kernel
theorem dX0_bestSet_14 : decode cX0_bestSet 14 = .ok (.iload_n 3, 1) := by decide +kernel
theorem dX0_bestSet_15 : decode cX0_bestSet 15 = .ok (.invokevirtual 74, 3) := by decide +kernel
theorem dX0_bestSet_18 : decode cX0_bestSet 18 = .ok (.istore 4, 2) := by decide +kernel
theorem dX0_bestSet_20 : decode cX0_bestSet 20 = .ok (.iload 4, 2) := by decide +kernel
theorem dX0_bestSet_22 : decode cX0_bestSet 22 = .ok (.iload_n 2, 1) := by decide +kernel
theorem dX0_bestSet_23 : decode cX0_bestSet 23 = .ok (.if_icmp .le 8, 3) := by decide +kernel
theorem dX0_bestSet_26 : decode cX0_bestSet 26 = .ok (.iload 4, 2) := by decide +kernel
theorem dX0_bestSet_28 : decode cX0_bestSet 28 = .ok (.istore_n 2, 1) := by decide +kernel
theorem dX0_bestSet_29 : decode cX0_bestSet 29 = .ok (.iload_n 3, 1) := by decide +kernel
theorem dX0_bestSet_30 : decode cX0_bestSet 30 = .ok (.istore_n 1, 1) := by decide +kernel
theorem dX0_bestSet_31 : decode cX0_bestSet 31 = .ok (.iinc 3 1, 3) := by decide +kernel
theorem dX0_bestSet_34 : decode cX0_bestSet 34 = .ok (.goto (-28), 3) := by decide +kernel
theorem dX0_bestSet_37 : decode cX0_bestSet 37 = .ok (.iload_n 1, 1) := by decide +kernel
theorem dX0_bestSet_38 : decode cX0_bestSet 38 = .ok (.ireturn, 1) := by decide +kernel
abbrev cX0_possible : ByteArray := prog_1_method_25_code
def yX0_possible : MethodName := ⟨RX0, "possible", "(II)Z"⟩
theorem dX0_possible_0 : decode cX0_possible 0 = .ok (.iload_n 1, 1) := by decide +kernel
theorem dX0_possible_1 : decode cX0_possible 1 = .ok (.ifCond .lt 20, 3) := by decide +kernel
theorem dX0_possible_4 : decode cX0_possible 4 = .ok (.iload_n 1, 1) := by decide +kernel
theorem dX0_possible_5 : decode cX0_possible 5 = .ok (.bipush 8, 2) := by decide +kernel
theorem dX0_possible_7 : decode cX0_possible 7 = .ok (.if_icmp .ge 14, 3) := by decide +kernel
theorem dX0_possible_10 : decode cX0_possible 10 = .ok (.iload_n 2, 1) := by decide +kernel
theorem dX0_possible_11 : decode cX0_possible 11 = .ok (.ifCond .lt 10, 3) := by decide +kernel
theorem dX0_possible_14 : decode cX0_possible 14 = .ok (.iload_n 2, 1) := by decide +kernel
theorem dX0_possible_15 : decode cX0_possible 15 = .ok (.sipush 255, 3) := by decide +kernel
theorem dX0_possible_18 : decode cX0_possible 18 = .ok (.if_icmp .le 5, 3) := by decide +kernel
theorem dX0_possible_21 : decode cX0_possible 21 = .ok (.iconst 0, 1) := by decide +kernel
theorem dX0_possible_22 : decode cX0_possible 22 = .ok (.ireturn, 1) := by decide +kernel
theorem dX0_possible_23 : decode cX0_possible 23 = .ok (.aload_n 0, 1) := by decide +kernel
theorem dX0_possible_24 : decode cX0_possible 24 = .ok (.iload_n 1, 1) := by decide +kernel
theorem dX0_possible_25 : decode cX0_possible 25 = .ok (.invokevirtual 80, 3) := by decide +kernel
theorem dX0_possible_28 : decode cX0_possible 28 = .ok (.istore_n 3, 1) := by decide +kernel
theorem dX0_possible_29 : decode cX0_possible 29 = .ok (.iload_n 3, 1) := by decide +kernel
theorem dX0_possible_30 : decode cX0_possible 30 = .ok (.ifCond .lt 8, 3) := by decide +kernel
theorem dX0_possible_33 : decode cX0_possible 33 = .ok (.iload_n 3, 1) := by decide +kernel
theorem dX0_possible_34 : decode cX0_possible 34 = .ok (.iload_n 2, 1) := by decide +kernel
theorem dX0_possible_35 : decode cX0_possible 35 = .ok (.if_icmp .ne 7, 3) := by decide +kernel
theorem dX0_possible_38 : decode cX0_possible 38 = .ok (.iconst 1, 1) := by decide +kernel
theorem dX0_possible_39 : decode cX0_possible 39 = .ok (.goto 4, 3) := by decide +kernel
theorem dX0_possible_42 : decode cX0_possible 42 = .ok (.iconst 0, 1) := by decide +kernel
theorem dX0_possible_43 : decode cX0_possible 43 = .ok (.ireturn, 1) := by decide +kernel
theorem q15 : (Jvm.Cond.initialized "FountainDesk") ∈ lw_all := lw_g (lw_at lw_m0 1 rfl) rfl
theorem q18 : (Jvm.Cond.instantiable "FountainDesk" (9 : Nat)) ∈ lw_all := lw_g (lw_at lw_m0 4 rfl) rfl
theorem q20 : (Jvm.Cond.instanceMethod ({ cls := "FountainDesk", name := "<init>", desc := "()V" } : Jvm.MethodName)) ∈ lw_all := lw_g (lw_at lw_m0 6 rfl) rfl
theorem q21 : (Jvm.Cond.code ({ cls := "FountainDesk", name := "<init>", desc := "()V" } : Jvm.MethodName) prog_1_method_1_code (1 : Nat) (Option.none : Option Jvm.ClassFile.FieldType)) ∈ lw_all := lw_g (lw_at lw_m0 7 rfl) rfl
theorem q22 : (Jvm.Cond.methodLink "FountainDesk" (1 : Nat) ({ cls := "java/lang/Object", name := "<init>", desc := "()V" } : Jvm.MethodName)) ∈ lw_all := lw_g (lw_at lw_m0 8 rfl) rfl
theorem q25 : (Jvm.Cond.fieldLink "FountainDesk" (22 : Nat) "FountainDesk" "present" "I") ∈ lw_all := lw_g (lw_at lw_m0 11 rfl) rfl
theorem q26 : (Jvm.Cond.fieldLink "FountainDesk" (7 : Nat) "FountainDesk" "sets" "[S") ∈ lw_all := lw_g (lw_at lw_m0 12 rfl) rfl
theorem q27 : (Jvm.Cond.fieldLink "FountainDesk" (13 : Nat) "FountainDesk" "values" "[S") ∈ lw_all := lw_g (lw_at lw_m0 13 rfl) rfl
theorem q28 : (Jvm.Cond.fieldLink "FountainDesk" (49 : Nat) "FountainDesk" "known" "Z") ∈ lw_all := lw_g (lw_at lw_m0 14 rfl) rfl
theorem q29 : (Jvm.Cond.fieldLink "FountainDesk" (16 : Nat) "FountainDesk" "rows" "[S") ∈ lw_all := lw_g (lw_at lw_m0 15 rfl) rfl
theorem q30 : (Jvm.Cond.fieldLink "FountainDesk" (19 : Nat) "FountainDesk" "rowValues" "[S") ∈ lw_all := lw_g (lw_at lw_m0 16 rfl) rfl
theorem q31 : (Jvm.Cond.fieldLink "FountainDesk" (26 : Nat) "FountainDesk" "rank" "I") ∈ lw_all := lw_g (lw_at lw_m0 17 rfl) rfl
theorem q32 : (Jvm.Cond.fieldLink "FountainDesk" (29 : Nat) "FountainDesk" "leftSet" "I") ∈ lw_all := lw_g (lw_at lw_m0 18 rfl) rfl
theorem q33 : (Jvm.Cond.fieldLink "FountainDesk" (32 : Nat) "FountainDesk" "leftValue" "I") ∈ lw_all := lw_g (lw_at lw_m0 19 rfl) rfl
theorem q34 : (Jvm.Cond.lays "FountainDesk" "FountainDesk" "present" "I") ∈ lw_all := lw_g (lw_at lw_m0 20 rfl) rfl
theorem q35 : (Jvm.Cond.soleField "FountainDesk" "present") ∈ lw_all := lw_g (lw_at lw_m0 21 rfl) rfl
theorem q36 : (Jvm.Cond.laysFinal "FountainDesk" "FountainDesk" "sets" "[S") ∈ lw_all := lw_g (lw_at lw_m0 22 rfl) rfl
theorem q37 : (Jvm.Cond.soleField "FountainDesk" "sets") ∈ lw_all := lw_g (lw_at lw_m0 23 rfl) rfl
theorem q38 : (Jvm.Cond.laysFinal "FountainDesk" "FountainDesk" "values" "[S") ∈ lw_all := lw_g (lw_at lw_m0 24 rfl) rfl
theorem q39 : (Jvm.Cond.soleField "FountainDesk" "values") ∈ lw_all := lw_g (lw_at lw_m0 25 rfl) rfl
theorem q40 : (Jvm.Cond.lays "FountainDesk" "FountainDesk" "known" "Z") ∈ lw_all := lw_g (lw_at lw_m0 26 rfl) rfl
theorem q41 : (Jvm.Cond.soleField "FountainDesk" "known") ∈ lw_all := lw_g (lw_at lw_m0 27 rfl) rfl
theorem q42 : (Jvm.Cond.laysFinal "FountainDesk" "FountainDesk" "rows" "[S") ∈ lw_all := lw_g (lw_at lw_m0 28 rfl) rfl
theorem q43 : (Jvm.Cond.soleField "FountainDesk" "rows") ∈ lw_all := lw_g (lw_at lw_m0 29 rfl) rfl
theorem q44 : (Jvm.Cond.laysFinal "FountainDesk" "FountainDesk" "rowValues" "[S") ∈ lw_all := lw_g (lw_at lw_m0 30 rfl) rfl
theorem q45 : (Jvm.Cond.soleField "FountainDesk" "rowValues") ∈ lw_all := lw_g (lw_at lw_m0 31 rfl) rfl
theorem q46 : (Jvm.Cond.lays "FountainDesk" "FountainDesk" "rank" "I") ∈ lw_all := lw_g (lw_at lw_m0 32 rfl) rfl
theorem q47 : (Jvm.Cond.soleField "FountainDesk" "rank") ∈ lw_all := lw_g (lw_at lw_m0 33 rfl) rfl
theorem q48 : (Jvm.Cond.lays "FountainDesk" "FountainDesk" "leftSet" "I") ∈ lw_all := lw_g (lw_at lw_m0 34 rfl) rfl
theorem q49 : (Jvm.Cond.soleField "FountainDesk" "leftSet") ∈ lw_all := lw_g (lw_at lw_m0 35 rfl) rfl
theorem q50 : (Jvm.Cond.lays "FountainDesk" "FountainDesk" "leftValue" "I") ∈ lw_all := lw_g (lw_at lw_m0 36 rfl) rfl
theorem q51 : (Jvm.Cond.soleField "FountainDesk" "leftValue") ∈ lw_all := lw_g (lw_at lw_m0 37 rfl) rfl
theorem q52 : (Jvm.Cond.superclass "FountainDesk" "java/lang/Object") ∈ lw_all := lw_g (lw_at lw_m0 38 rfl) rfl
theorem q55 : (Jvm.Cond.instanceMethod ({ cls := "FountainDesk", name := "take", desc := "(II)I" } : Jvm.MethodName)) ∈ lw_all := lw_g (lw_at lw_m0 41 rfl) rfl
theorem q56 : (Jvm.Cond.selects "FountainDesk" ({ cls := "FountainDesk", name := "take", desc := "(II)I" } : Jvm.MethodName) ({ cls := "FountainDesk", name := "take", desc := "(II)I" } : Jvm.MethodName)) ∈ lw_all := lw_g (lw_at lw_m0 42 rfl) rfl
theorem q57 : (Jvm.Cond.code ({ cls := "FountainDesk", name := "take", desc := "(II)I" } : Jvm.MethodName) prog_1_method_10_code (4 : Nat) (Option.some Jvm.ClassFile.FieldType.int)) ∈ lw_all := lw_g (lw_at lw_m0 43 rfl) rfl
theorem q58 : (Jvm.Cond.methodLink "FountainDesk" (57 : Nat) ({ cls := "FountainDesk", name := "isSet", desc := "(I)Z" } : Jvm.MethodName)) ∈ lw_all := lw_g (lw_at lw_m0 44 rfl) rfl
theorem q59 : (Jvm.Cond.static ({ cls := "FountainDesk", name := "isSet", desc := "(I)Z" } : Jvm.MethodName)) ∈ lw_all := lw_g (lw_at lw_m0 45 rfl) rfl
theorem q60 : (Jvm.Cond.code ({ cls := "FountainDesk", name := "isSet", desc := "(I)Z" } : Jvm.MethodName) prog_1_method_9_code (1 : Nat) (Option.some Jvm.ClassFile.FieldType.boolean)) ∈ lw_all := lw_g (lw_at lw_m0 46 rfl) rfl
theorem q61 : (Jvm.Cond.methodLink "FountainDesk" (61 : Nat) ({ cls := "FountainDesk", name := "has", desc := "(I)Z" } : Jvm.MethodName)) ∈ lw_all := lw_g (lw_at lw_m0 47 rfl) rfl
theorem q62 : (Jvm.Cond.privateMethod ({ cls := "FountainDesk", name := "has", desc := "(I)Z" } : Jvm.MethodName)) ∈ lw_tbl := lw_at lw_m0 48 rfl
theorem q63 : (Jvm.Cond.instanceMethod ({ cls := "FountainDesk", name := "has", desc := "(I)Z" } : Jvm.MethodName)) ∈ lw_all := lw_g (lw_at lw_m0 49 rfl) rfl
theorem q64 : (Jvm.Cond.code ({ cls := "FountainDesk", name := "has", desc := "(I)Z" } : Jvm.MethodName) prog_1_method_2_code (2 : Nat) (Option.some Jvm.ClassFile.FieldType.boolean)) ∈ lw_all := lw_g (lw_at lw_m0 50 rfl) rfl
theorem q65 : (Jvm.Cond.methodLink "FountainDesk" (64 : Nat) ({ cls := "FountainDesk", name := "learn", desc := "()V" } : Jvm.MethodName)) ∈ lw_all := lw_g (lw_at lw_m0 51 rfl) rfl
theorem q66 : (Jvm.Cond.privateMethod ({ cls := "FountainDesk", name := "learn", desc := "()V" } : Jvm.MethodName)) ∈ lw_tbl := lw_at lw_m0 52 rfl
theorem q67 : (Jvm.Cond.instanceMethod ({ cls := "FountainDesk", name := "learn", desc := "()V" } : Jvm.MethodName)) ∈ lw_all := lw_g (lw_at lw_m0 53 rfl) rfl
theorem q68 : (Jvm.Cond.code ({ cls := "FountainDesk", name := "learn", desc := "()V" } : Jvm.MethodName) prog_1_method_8_code (1 : Nat) (Option.none : Option Jvm.ClassFile.FieldType)) ∈ lw_all := lw_g (lw_at lw_m0 54 rfl) rfl
theorem q69 : (Jvm.Cond.methodLink "FountainDesk" (53 : Nat) ({ cls := "FountainDesk", name := "build", desc := "(I)V" } : Jvm.MethodName)) ∈ lw_all := lw_g (lw_at lw_m0 55 rfl) rfl
theorem q70 : (Jvm.Cond.privateMethod ({ cls := "FountainDesk", name := "build", desc := "(I)V" } : Jvm.MethodName)) ∈ lw_tbl := lw_at lw_m0 56 rfl
theorem q71 : (Jvm.Cond.instanceMethod ({ cls := "FountainDesk", name := "build", desc := "(I)V" } : Jvm.MethodName)) ∈ lw_all := lw_g (lw_at lw_m0 57 rfl) rfl
theorem q72 : (Jvm.Cond.code ({ cls := "FountainDesk", name := "build", desc := "(I)V" } : Jvm.MethodName) prog_1_method_7_code (3 : Nat) (Option.none : Option Jvm.ClassFile.FieldType)) ∈ lw_all := lw_g (lw_at lw_m0 58 rfl) rfl
theorem q73 : (Jvm.Cond.methodLink "FountainDesk" (43 : Nat) ({ cls := "FountainDesk", name := "clearRows", desc := "()V" } : Jvm.MethodName)) ∈ lw_all := lw_g (lw_at lw_m0 59 rfl) rfl
theorem q74 : (Jvm.Cond.privateMethod ({ cls := "FountainDesk", name := "clearRows", desc := "()V" } : Jvm.MethodName)) ∈ lw_tbl := lw_at lw_m0 60 rfl
theorem q75 : (Jvm.Cond.instanceMethod ({ cls := "FountainDesk", name := "clearRows", desc := "()V" } : Jvm.MethodName)) ∈ lw_all := lw_g (lw_at lw_m0 61 rfl) rfl
theorem q76 : (Jvm.Cond.code ({ cls := "FountainDesk", name := "clearRows", desc := "()V" } : Jvm.MethodName) prog_1_method_4_code (2 : Nat) (Option.none : Option Jvm.ClassFile.FieldType)) ∈ lw_all := lw_g (lw_at lw_m0 62 rfl) rfl
theorem q77 : (Jvm.Cond.methodLink "FountainDesk" (46 : Nat) ({ cls := "FountainDesk", name := "include", desc := "(II)V" } : Jvm.MethodName)) ∈ lw_all := lw_g (lw_at lw_m0 63 rfl) rfl
theorem q78 : (Jvm.Cond.privateMethod ({ cls := "FountainDesk", name := "include", desc := "(II)V" } : Jvm.MethodName)) ∈ lw_tbl := lw_at lw_m0 64 rfl
theorem q79 : (Jvm.Cond.instanceMethod ({ cls := "FountainDesk", name := "include", desc := "(II)V" } : Jvm.MethodName)) ∈ lw_all := lw_g (lw_at lw_m0 65 rfl) rfl
theorem q80 : (Jvm.Cond.code ({ cls := "FountainDesk", name := "include", desc := "(II)V" } : Jvm.MethodName) prog_1_method_6_code (5 : Nat) (Option.none : Option Jvm.ClassFile.FieldType)) ∈ lw_all := lw_g (lw_at lw_m0 66 rfl) rfl
theorem q81 : (Jvm.Cond.methodLink "FountainDesk" (35 : Nat) ({ cls := "FountainDesk", name := "reduce", desc := "(II)V" } : Jvm.MethodName)) ∈ lw_all := lw_g (lw_at lw_m0 67 rfl) rfl
theorem q82 : (Jvm.Cond.privateMethod ({ cls := "FountainDesk", name := "reduce", desc := "(II)V" } : Jvm.MethodName)) ∈ lw_tbl := lw_at lw_m0 68 rfl
theorem q83 : (Jvm.Cond.instanceMethod ({ cls := "FountainDesk", name := "reduce", desc := "(II)V" } : Jvm.MethodName)) ∈ lw_all := lw_g (lw_at lw_m0 69 rfl) rfl
theorem q84 : (Jvm.Cond.code ({ cls := "FountainDesk", name := "reduce", desc := "(II)V" } : Jvm.MethodName) prog_1_method_5_code (4 : Nat) (Option.none : Option Jvm.ClassFile.FieldType)) ∈ lw_all := lw_g (lw_at lw_m0 70 rfl) rfl
theorem q85 : (Jvm.Cond.methodLink "FountainDesk" (39 : Nat) ({ cls := "FountainDesk", name := "leader", desc := "(I)I" } : Jvm.MethodName)) ∈ lw_all := lw_g (lw_at lw_m0 71 rfl) rfl
theorem q86 : (Jvm.Cond.static ({ cls := "FountainDesk", name := "leader", desc := "(I)I" } : Jvm.MethodName)) ∈ lw_all := lw_g (lw_at lw_m0 72 rfl) rfl
theorem q87 : (Jvm.Cond.code ({ cls := "FountainDesk", name := "leader", desc := "(I)I" } : Jvm.MethodName) prog_1_method_3_code (2 : Nat) (Option.some Jvm.ClassFile.FieldType.int)) ∈ lw_all := lw_g (lw_at lw_m0 73 rfl) rfl
theorem q89 : (Jvm.Cond.instanceMethod ({ cls := "FountainDesk", name := "drop", desc := "(I)Z" } : Jvm.MethodName)) ∈ lw_all := lw_g (lw_at lw_m0 75 rfl) rfl
theorem q90 : (Jvm.Cond.selects "FountainDesk" ({ cls := "FountainDesk", name := "drop", desc := "(I)Z" } : Jvm.MethodName) ({ cls := "FountainDesk", name := "drop", desc := "(I)Z" } : Jvm.MethodName)) ∈ lw_all := lw_g (lw_at lw_m0 76 rfl) rfl
theorem q91 : (Jvm.Cond.code ({ cls := "FountainDesk", name := "drop", desc := "(I)Z" } : Jvm.MethodName) prog_1_method_11_code (2 : Nat) (Option.some Jvm.ClassFile.FieldType.boolean)) ∈ lw_all := lw_g (lw_at lw_m0 77 rfl) rfl
theorem q93 : (Jvm.Cond.instanceMethod ({ cls := "FountainDesk", name := "drops", desc := "()I" } : Jvm.MethodName)) ∈ lw_all := lw_g (lw_at lw_m0 79 rfl) rfl
theorem q94 : (Jvm.Cond.selects "FountainDesk" ({ cls := "FountainDesk", name := "drops", desc := "()I" } : Jvm.MethodName) ({ cls := "FountainDesk", name := "drops", desc := "()I" } : Jvm.MethodName)) ∈ lw_all := lw_g (lw_at lw_m0 80 rfl) rfl
theorem q95 : (Jvm.Cond.code ({ cls := "FountainDesk", name := "drops", desc := "()I" } : Jvm.MethodName) prog_1_method_12_code (1 : Nat) (Option.some Jvm.ClassFile.FieldType.int)) ∈ lw_all := lw_g (lw_at lw_m0 81 rfl) rfl
theorem q97 : (Jvm.Cond.instanceMethod ({ cls := "FountainDesk", name := "known", desc := "()I" } : Jvm.MethodName)) ∈ lw_all := lw_g (lw_at lw_m0 83 rfl) rfl
theorem q98 : (Jvm.Cond.selects "FountainDesk" ({ cls := "FountainDesk", name := "known", desc := "()I" } : Jvm.MethodName) ({ cls := "FountainDesk", name := "known", desc := "()I" } : Jvm.MethodName)) ∈ lw_all := lw_g (lw_at lw_m0 84 rfl) rfl
theorem q99 : (Jvm.Cond.code ({ cls := "FountainDesk", name := "known", desc := "()I" } : Jvm.MethodName) prog_1_method_15_code (1 : Nat) (Option.some Jvm.ClassFile.FieldType.int)) ∈ lw_all := lw_g (lw_at lw_m0 85 rfl) rfl
theorem q100 : (Jvm.Cond.methodLink "FountainDesk" (67 : Nat) ({ cls := "FountainDesk", name := "singles", desc := "()I" } : Jvm.MethodName)) ∈ lw_all := lw_g (lw_at lw_m0 86 rfl) rfl
theorem q101 : (Jvm.Cond.privateMethod ({ cls := "FountainDesk", name := "singles", desc := "()I" } : Jvm.MethodName)) ∈ lw_tbl := lw_at lw_m0 87 rfl
theorem q102 : (Jvm.Cond.instanceMethod ({ cls := "FountainDesk", name := "singles", desc := "()I" } : Jvm.MethodName)) ∈ lw_all := lw_g (lw_at lw_m0 88 rfl) rfl
theorem q103 : (Jvm.Cond.code ({ cls := "FountainDesk", name := "singles", desc := "()I" } : Jvm.MethodName) prog_1_method_13_code (3 : Nat) (Option.some Jvm.ClassFile.FieldType.int)) ∈ lw_all := lw_g (lw_at lw_m0 89 rfl) rfl
theorem q105 : (Jvm.Cond.instanceMethod ({ cls := "FountainDesk", name := "piece", desc := "(I)I" } : Jvm.MethodName)) ∈ lw_all := lw_g (lw_at lw_m0 91 rfl) rfl
theorem q106 : (Jvm.Cond.selects "FountainDesk" ({ cls := "FountainDesk", name := "piece", desc := "(I)I" } : Jvm.MethodName) ({ cls := "FountainDesk", name := "piece", desc := "(I)I" } : Jvm.MethodName)) ∈ lw_all := lw_g (lw_at lw_m0 92 rfl) rfl
theorem q107 : (Jvm.Cond.code ({ cls := "FountainDesk", name := "piece", desc := "(I)I" } : Jvm.MethodName) prog_1_method_16_code (2 : Nat) (Option.some Jvm.ClassFile.FieldType.int)) ∈ lw_all := lw_g (lw_at lw_m0 93 rfl) rfl
theorem q109 : (Jvm.Cond.instanceMethod ({ cls := "FountainDesk", name := "sum", desc := "(I)I" } : Jvm.MethodName)) ∈ lw_all := lw_g (lw_at lw_m0 95 rfl) rfl
theorem q110 : (Jvm.Cond.selects "FountainDesk" ({ cls := "FountainDesk", name := "sum", desc := "(I)I" } : Jvm.MethodName) ({ cls := "FountainDesk", name := "sum", desc := "(I)I" } : Jvm.MethodName)) ∈ lw_all := lw_g (lw_at lw_m0 96 rfl) rfl
theorem q111 : (Jvm.Cond.code ({ cls := "FountainDesk", name := "sum", desc := "(I)I" } : Jvm.MethodName) prog_1_method_17_code (2 : Nat) (Option.some Jvm.ClassFile.FieldType.int)) ∈ lw_all := lw_g (lw_at lw_m0 97 rfl) rfl
theorem q113 : (Jvm.Cond.instanceMethod ({ cls := "FountainDesk", name := "missing", desc := "()I" } : Jvm.MethodName)) ∈ lw_all := lw_g (lw_at lw_m0 99 rfl) rfl
theorem q114 : (Jvm.Cond.selects "FountainDesk" ({ cls := "FountainDesk", name := "missing", desc := "()I" } : Jvm.MethodName) ({ cls := "FountainDesk", name := "missing", desc := "()I" } : Jvm.MethodName)) ∈ lw_all := lw_g (lw_at lw_m0 100 rfl) rfl
theorem q115 : (Jvm.Cond.code ({ cls := "FountainDesk", name := "missing", desc := "()I" } : Jvm.MethodName) prog_1_method_18_code (1 : Nat) (Option.some Jvm.ClassFile.FieldType.int)) ∈ lw_all := lw_g (lw_at lw_m0 101 rfl) rfl
theorem q117 : (Jvm.Cond.instanceMethod ({ cls := "FountainDesk", name := "idle", desc := "(I)Z" } : Jvm.MethodName)) ∈ lw_all := lw_g (lw_at lw_m0 103 rfl) rfl
theorem q118 : (Jvm.Cond.selects "FountainDesk" ({ cls := "FountainDesk", name := "idle", desc := "(I)Z" } : Jvm.MethodName) ({ cls := "FountainDesk", name := "idle", desc := "(I)Z" } : Jvm.MethodName)) ∈ lw_all := lw_g (lw_at lw_m0 104 rfl) rfl
theorem q119 : (Jvm.Cond.code ({ cls := "FountainDesk", name := "idle", desc := "(I)Z" } : Jvm.MethodName) prog_1_method_19_code (2 : Nat) (Option.some Jvm.ClassFile.FieldType.boolean)) ∈ lw_all := lw_g (lw_at lw_m0 105 rfl) rfl
theorem q120 : (Jvm.Cond.methodLink "FountainDesk" (71 : Nat) ({ cls := "FountainDesk", name := "enough", desc := "(I)Z" } : Jvm.MethodName)) ∈ lw_all := lw_g (lw_at lw_m0 106 rfl) rfl
theorem q121 : (Jvm.Cond.instanceMethod ({ cls := "FountainDesk", name := "enough", desc := "(I)Z" } : Jvm.MethodName)) ∈ lw_all := lw_g (lw_at lw_m0 107 rfl) rfl
theorem q122 : (Jvm.Cond.selects "FountainDesk" ({ cls := "FountainDesk", name := "enough", desc := "(I)Z" } : Jvm.MethodName) ({ cls := "FountainDesk", name := "enough", desc := "(I)Z" } : Jvm.MethodName)) ∈ lw_all := lw_g (lw_at lw_m0 108 rfl) rfl
theorem q123 : (Jvm.Cond.code ({ cls := "FountainDesk", name := "enough", desc := "(I)Z" } : Jvm.MethodName) prog_1_method_26_code (3 : Nat) (Option.some Jvm.ClassFile.FieldType.boolean)) ∈ lw_all := lw_g (lw_at lw_m0 109 rfl) rfl
theorem q124 : (Jvm.Cond.methodLink "FountainDesk" (83 : Nat) ({ cls := "FountainDesk", name := "rankOf", desc := "(I)I" } : Jvm.MethodName)) ∈ lw_all := lw_g (lw_at lw_m0 110 rfl) rfl
theorem q125 : (Jvm.Cond.privateMethod ({ cls := "FountainDesk", name := "rankOf", desc := "(I)I" } : Jvm.MethodName)) ∈ lw_tbl := lw_at lw_m0 111 rfl
theorem q126 : (Jvm.Cond.instanceMethod ({ cls := "FountainDesk", name := "rankOf", desc := "(I)I" } : Jvm.MethodName)) ∈ lw_all := lw_g (lw_at lw_m0 112 rfl) rfl
theorem q127 : (Jvm.Cond.code ({ cls := "FountainDesk", name := "rankOf", desc := "(I)I" } : Jvm.MethodName) prog_1_method_21_code (2 : Nat) (Option.some Jvm.ClassFile.FieldType.int)) ∈ lw_all := lw_g (lw_at lw_m0 113 rfl) rfl
theorem q129 : (Jvm.Cond.instanceMethod ({ cls := "FountainDesk", name := "knownSums", desc := "()I" } : Jvm.MethodName)) ∈ lw_all := lw_g (lw_at lw_m0 115 rfl) rfl
theorem q130 : (Jvm.Cond.selects "FountainDesk" ({ cls := "FountainDesk", name := "knownSums", desc := "()I" } : Jvm.MethodName) ({ cls := "FountainDesk", name := "knownSums", desc := "()I" } : Jvm.MethodName)) ∈ lw_all := lw_g (lw_at lw_m0 116 rfl) rfl
theorem q131 : (Jvm.Cond.code ({ cls := "FountainDesk", name := "knownSums", desc := "()I" } : Jvm.MethodName) prog_1_method_20_code (1 : Nat) (Option.some Jvm.ClassFile.FieldType.int)) ∈ lw_all := lw_g (lw_at lw_m0 117 rfl) rfl
theorem q133 : (Jvm.Cond.instanceMethod ({ cls := "FountainDesk", name := "knownWith", desc := "(I)I" } : Jvm.MethodName)) ∈ lw_all := lw_g (lw_at lw_m0 119 rfl) rfl
theorem q134 : (Jvm.Cond.selects "FountainDesk" ({ cls := "FountainDesk", name := "knownWith", desc := "(I)I" } : Jvm.MethodName) ({ cls := "FountainDesk", name := "knownWith", desc := "(I)I" } : Jvm.MethodName)) ∈ lw_all := lw_g (lw_at lw_m0 120 rfl) rfl
theorem q135 : (Jvm.Cond.code ({ cls := "FountainDesk", name := "knownWith", desc := "(I)I" } : Jvm.MethodName) prog_1_method_22_code (2 : Nat) (Option.some Jvm.ClassFile.FieldType.int)) ∈ lw_all := lw_g (lw_at lw_m0 121 rfl) rfl
theorem q136 : (Jvm.Cond.methodLink "FountainDesk" (74 : Nat) ({ cls := "FountainDesk", name := "countWith", desc := "(I)I" } : Jvm.MethodName)) ∈ lw_all := lw_g (lw_at lw_m0 122 rfl) rfl
theorem q137 : (Jvm.Cond.privateMethod ({ cls := "FountainDesk", name := "countWith", desc := "(I)I" } : Jvm.MethodName)) ∈ lw_tbl := lw_at lw_m0 123 rfl
theorem q138 : (Jvm.Cond.instanceMethod ({ cls := "FountainDesk", name := "countWith", desc := "(I)I" } : Jvm.MethodName)) ∈ lw_all := lw_g (lw_at lw_m0 124 rfl) rfl
theorem q139 : (Jvm.Cond.code ({ cls := "FountainDesk", name := "countWith", desc := "(I)I" } : Jvm.MethodName) prog_1_method_24_code (3 : Nat) (Option.some Jvm.ClassFile.FieldType.int)) ∈ lw_all := lw_g (lw_at lw_m0 125 rfl) rfl
theorem q140 : (Jvm.Cond.methodLink "FountainDesk" (77 : Nat) ({ cls := "FountainDesk", name := "ones", desc := "(I)I" } : Jvm.MethodName)) ∈ lw_all := lw_g (lw_at lw_m0 126 rfl) rfl
theorem q141 : (Jvm.Cond.static ({ cls := "FountainDesk", name := "ones", desc := "(I)I" } : Jvm.MethodName)) ∈ lw_all := lw_g (lw_at lw_m0 127 rfl) rfl
theorem q142 : (Jvm.Cond.code ({ cls := "FountainDesk", name := "ones", desc := "(I)I" } : Jvm.MethodName) prog_1_method_14_code (3 : Nat) (Option.some Jvm.ClassFile.FieldType.int)) ∈ lw_all := lw_g (lw_at lw_m0 128 rfl) rfl
theorem q144 : (Jvm.Cond.instanceMethod ({ cls := "FountainDesk", name := "bestSet", desc := "()I" } : Jvm.MethodName)) ∈ lw_all := lw_g (lw_at lw_m0 130 rfl) rfl
theorem q145 : (Jvm.Cond.selects "FountainDesk" ({ cls := "FountainDesk", name := "bestSet", desc := "()I" } : Jvm.MethodName) ({ cls := "FountainDesk", name := "bestSet", desc := "()I" } : Jvm.MethodName)) ∈ lw_all := lw_g (lw_at lw_m0 131 rfl) rfl
theorem q146 : (Jvm.Cond.code ({ cls := "FountainDesk", name := "bestSet", desc := "()I" } : Jvm.MethodName) prog_1_method_23_code (5 : Nat) (Option.some Jvm.ClassFile.FieldType.int)) ∈ lw_all := lw_g (lw_at lw_m0 132 rfl) rfl
theorem q148 : (Jvm.Cond.instanceMethod ({ cls := "FountainDesk", name := "possible", desc := "(II)Z" } : Jvm.MethodName)) ∈ lw_all := lw_g (lw_at lw_m0 134 rfl) rfl
theorem q149 : (Jvm.Cond.selects "FountainDesk" ({ cls := "FountainDesk", name := "possible", desc := "(II)Z" } : Jvm.MethodName) ({ cls := "FountainDesk", name := "possible", desc := "(II)Z" } : Jvm.MethodName)) ∈ lw_all := lw_g (lw_at lw_m0 135 rfl) rfl
theorem q150 : (Jvm.Cond.code ({ cls := "FountainDesk", name := "possible", desc := "(II)Z" } : Jvm.MethodName) prog_1_method_25_code (4 : Nat) (Option.some Jvm.ClassFile.FieldType.boolean)) ∈ lw_all := lw_g (lw_at lw_m0 136 rfl) rfl
theorem q151 : (Jvm.Cond.methodLink "FountainDesk" (80 : Nat) ({ cls := "FountainDesk", name := "piece", desc := "(I)I" } : Jvm.MethodName)) ∈ lw_all := lw_g (lw_at lw_m0 137 rfl) rfl
theorem in_X0 : ∀ w ∈ wsX00, w ∈ lw_all := lw_in wsX00 [34, 36, 38, 40, 42, 44, 46, 48, 50] (by decide +kernel) (by decide +kernel)
end
section
/-! FountainDeskModel -/
set_option maxRecDepth 100000
def RX1 : String := "FountainDeskModel"
def TX1 : u_T := fun k => match k with
  | 0 => ("FountainDeskModel", "there", "[Z", false)
  | 1 => ("FountainDeskModel", "sets", "[I", false)
  | 2 => ("FountainDeskModel", "values", "[I", false)
  | _ => ("FountainDeskModel", "table", "[I", false)
def tyX1 : Nat → FieldType := fun k => match k with
  | 0 => .array .boolean
  | 1 => .array .int
  | 2 => .array .int
  | _ => .array .int
abbrev wsX10 : List Cond := u_ws RX1 TX1 4
theorem nmX1 : ∀ a, a < 4 → ∀ b, b < 4 → a ≠ b → (TX1 a).2.1 ≠ (TX1 b).2.1 := by decide +kernel
theorem tyX1_ok : ∀ k, k < 4 → parseFieldDescriptor (TX1 k).2.2.1 = some (tyX1 k) := by decide +kernel
abbrev cX1_init : ByteArray := prog_3_method_1_code
def yX1_init : MethodName := ⟨RX1, "<init>", "()V"⟩
theorem dX1_init_0 : decode cX1_init 0 = .ok (.aload_n 0, 1) := by decide +kernel
theorem dX1_init_1 : decode cX1_init 1 = .ok (.invokespecial 1, 3) := by decide +kernel
theorem dX1_init_4 : decode cX1_init 4 = .ok (.aload_n 0, 1) := by decide +kernel
theorem dX1_init_5 : decode cX1_init 5 = .ok (.bipush 10, 2) := by decide +kernel
theorem dX1_init_7 : decode cX1_init 7 = .ok (.newarray .boolean, 2) := by decide +kernel
theorem dX1_init_9 : decode cX1_init 9 = .ok (.putfield 7, 3) := by decide +kernel
theorem dX1_init_12 : decode cX1_init 12 = .ok (.aload_n 0, 1) := by decide +kernel
theorem dX1_init_13 : decode cX1_init 13 = .ok (.bipush 10, 2) := by decide +kernel
theorem dX1_init_15 : decode cX1_init 15 = .ok (.newarray .int, 2) := by decide +kernel
theorem dX1_init_17 : decode cX1_init 17 = .ok (.putfield 13, 3) := by decide +kernel
theorem dX1_init_20 : decode cX1_init 20 = .ok (.aload_n 0, 1) := by decide +kernel
theorem dX1_init_21 : decode cX1_init 21 = .ok (.bipush 10, 2) := by decide +kernel
theorem dX1_init_23 : decode cX1_init 23 = .ok (.newarray .int, 2) := by decide +kernel
theorem dX1_init_25 : decode cX1_init 25 = .ok (.putfield 17, 3) := by decide +kernel
theorem dX1_init_28 : decode cX1_init 28 = .ok (.aload_n 0, 1) := by decide +kernel
theorem dX1_init_29 : decode cX1_init 29 = .ok (.sipush 256, 3) := by decide +kernel
theorem dX1_init_32 : decode cX1_init 32 = .ok (.newarray .int, 2) := by decide +kernel
theorem dX1_init_34 : decode cX1_init 34 = .ok (.putfield 20, 3) := by decide +kernel
theorem dX1_init_37 : decode cX1_init 37 = .ok (.return_, 1) := by decide +kernel
abbrev cX1_take : ByteArray := prog_3_method_5_code
def yX1_take : MethodName := ⟨RX1, "take", "(II)I"⟩
theorem dX1_take_0 : decode cX1_take 0 = .ok (.aload_n 0, 1) := by decide +kernel
theorem dX1_take_1 : decode cX1_take 1 = .ok (.iload_n 1, 1) := by decide +kernel
theorem dX1_take_2 : decode cX1_take 2 = .ok (.invokevirtual 23, 3) := by decide +kernel
theorem dX1_take_5 : decode cX1_take 5 = .ok (.ifCond .eq 11, 3) := by decide +kernel
theorem dX1_take_8 : decode cX1_take 8 = .ok (.aload_n 0, 1) := by decide +kernel
theorem dX1_take_9 : decode cX1_take 9 = .ok (.iload_n 2, 1) := by decide +kernel
theorem dX1_take_10 : decode cX1_take 10 = .ok (.invokevirtual 27, 3) := by decide +kernel
theorem dX1_take_13 : decode cX1_take 13 = .ok (.ifCond .ne 5, 3) := by decide +kernel
theorem dX1_take_16 : decode cX1_take 16 = .ok (.iconst (-1), 1) := by decide +kernel
theorem dX1_take_17 : decode cX1_take 17 = .ok (.ireturn, 1) := by decide +kernel
theorem dX1_take_18 : decode cX1_take 18 = .ok (.aload_n 0, 1) := by decide +kernel
theorem dX1_take_19 : decode cX1_take 19 = .ok (.sipush 1023, 3) := by decide +kernel
theorem dX1_take_22 : decode cX1_take 22 = .ok (.invokevirtual 30, 3) := by decide +kernel
theorem dX1_take_25 : decode cX1_take 25 = .ok (.iconst 0, 1) := by decide +kernel
theorem dX1_take_26 : decode cX1_take 26 = .ok (.istore_n 3, 1) := by decide +kernel
theorem dX1_take_27 : decode cX1_take 27 = .ok (.iload_n 3, 1) := by decide +kernel
theorem dX1_take_28 : decode cX1_take 28 = .ok (.bipush 10, 2) := by decide +kernel
theorem dX1_take_30 : decode cX1_take 30 = .ok (.if_icmp .ge 63, 3) := by decide +kernel
theorem dX1_take_33 : decode cX1_take 33 = .ok (.aload_n 0, 1) := by decide +kernel
theorem dX1_take_34 : decode cX1_take 34 = .ok (.getfield 7, 3) := by decide +kernel
theorem dX1_take_37 : decode cX1_take 37 = .ok (.iload_n 3, 1) := by decide +kernel
theorem dX1_take_38 : decode cX1_take 38 = .ok (.baload, 1) := by decide +kernel
theorem dX1_take_39 : decode cX1_take 39 = .ok (.ifCond .ne 48, 3) := by decide +kernel
theorem dX1_take_42 : decode cX1_take 42 = .ok (.aload_n 0, 1) := by decide +kernel
theorem dX1_take_43 : decode cX1_take 43 = .ok (.getfield 20, 3) := by decide +kernel
theorem dX1_take_46 : decode cX1_take 46 = .ok (.iload_n 1, 1) := by decide +kernel
theorem dX1_take_47 : decode cX1_take 47 = .ok (.iaload, 1) := by decide +kernel
theorem dX1_take_48 : decode cX1_take 48 = .ok (.ifCond .lt 16, 3) := by decide +kernel
theorem dX1_take_51 : decode cX1_take 51 = .ok (.aload_n 0, 1) := by decide +kernel
theorem dX1_take_52 : decode cX1_take 52 = .ok (.getfield 20, 3) := by decide +kernel
theorem dX1_take_55 : decode cX1_take 55 = .ok (.iload_n 1, 1) := by decide +kernel
theorem dX1_take_56 : decode cX1_take 56 = .ok (.iaload, 1) := by decide +kernel
theorem dX1_take_57 : decode cX1_take 57 = .ok (.iload_n 2, 1) := by decide +kernel
theorem dX1_take_58 : decode cX1_take 58 = .ok (.if_icmp .eq 6, 3) := by decide +kernel
theorem dX1_take_61 : decode cX1_take 61 = .ok (.bipush (-3), 2) := by decide +kernel
theorem dX1_take_63 : decode cX1_take 63 = .ok (.ireturn, 1) := by decide +kernel
theorem dX1_take_64 : decode cX1_take 64 = .ok (.aload_n 0, 1) := by decide +kernel
theorem dX1_take_65 : decode cX1_take 65 = .ok (.getfield 7, 3) := by decide +kernel
theorem dX1_take_68 : decode cX1_take 68 = .ok (.iload_n 3, 1) := by decide +kernel
theorem dX1_take_69 : decode cX1_take 69 = .ok (.iconst 1, 1) := by decide +kernel
theorem dX1_take_70 : decode cX1_take 70 = .ok (.bastore, 1) := by decide +kernel
theorem dX1_take_71 : decode cX1_take 71 = .ok (.aload_n 0, 1) := by decide +kernel
theorem dX1_take_72 : decode cX1_take 72 = .ok (.getfield 13, 3) := by decide +kernel
theorem dX1_take_75 : decode cX1_take 75 = .ok (.iload_n 3, 1) := by decide +kernel
theorem dX1_take_76 : decode cX1_take 76 = .ok (.iload_n 1, 1) := by decide +kernel
theorem dX1_take_77 : decode cX1_take 77 = .ok (.iastore, 1) := by decide +kernel
theorem dX1_take_78 : decode cX1_take 78 = .ok (.aload_n 0, 1) := by decide +kernel
theorem dX1_take_79 : decode cX1_take 79 = .ok (.getfield 17, 3) := by decide +kernel
theorem dX1_take_82 : decode cX1_take 82 = .ok (.iload_n 3, 1) := by decide +kernel
theorem dX1_take_83 : decode cX1_take 83 = .ok (.iload_n 2, 1) := by decide +kernel
theorem dX1_take_84 : decode cX1_take 84 = .ok (.iastore, 1) := by decide +kernel
theorem dX1_take_85 : decode cX1_take 85 = .ok (.iload_n 3, 1) := by decide +kernel
theorem dX1_take_86 : decode cX1_take 86 = .ok (.ireturn, 1) := by decide +kernel
theorem dX1_take_87 : decode cX1_take 87 = .ok (.iinc 3 1, 3) := by decide +kernel
theorem dX1_take_90 : decode cX1_take 90 = .ok (.goto (-63), 3) := by decide +kernel
theorem dX1_take_93 : decode cX1_take 93 = .ok (.bipush (-2), 2) := by decide +kernel
theorem dX1_take_95 : decode cX1_take 95 = .ok (.ireturn, 1) := by decide +kernel
abbrev cX1_pieces : ByteArray := prog_3_method_3_code
def yX1_pieces : MethodName := ⟨RX1, "pieces", "(I)Z"⟩
theorem dX1_pieces_0 : decode cX1_pieces 0 = .ok (.iload_n 1, 1) := by decide +kernel
theorem dX1_pieces_1 : decode cX1_pieces 1 = .ok (.iconst 1, 1) := by decide +kernel
theorem dX1_pieces_2 : decode cX1_pieces 2 = .ok (.if_icmp .lt 14, 3) := by decide +kernel
theorem dX1_pieces_5 : decode cX1_pieces 5 = .ok (.iload_n 1, 1) := by decide +kernel
theorem dX1_pieces_6 : decode cX1_pieces 6 = .ok (.sipush 255, 3) := by decide +kernel
theorem dX1_pieces_9 : decode cX1_pieces 9 = .ok (.if_icmp .gt 7, 3) := by decide +kernel
theorem dX1_pieces_12 : decode cX1_pieces 12 = .ok (.iconst 1, 1) := by decide +kernel
theorem dX1_pieces_13 : decode cX1_pieces 13 = .ok (.goto 4, 3) := by decide +kernel
theorem dX1_pieces_16 : decode cX1_pieces 16 = .ok (.iconst 0, 1) := by decide +kernel
theorem dX1_pieces_17 : decode cX1_pieces 17 = .ok (.ireturn, 1) := by decide +kernel
abbrev cX1_number : ByteArray := prog_3_method_4_code
def yX1_number : MethodName := ⟨RX1, "number", "(I)Z"⟩
theorem dX1_number_0 : decode cX1_number 0 = .ok (.iload_n 1, 1) := by decide +kernel
theorem dX1_number_1 : decode cX1_number 1 = .ok (.ifCond .lt 14, 3) := by decide +kernel
theorem dX1_number_4 : decode cX1_number 4 = .ok (.iload_n 1, 1) := by decide +kernel
theorem dX1_number_5 : decode cX1_number 5 = .ok (.sipush 255, 3) := by decide +kernel
theorem dX1_number_8 : decode cX1_number 8 = .ok (.if_icmp .gt 7, 3) := by decide +kernel
theorem dX1_number_11 : decode cX1_number 11 = .ok (.iconst 1, 1) := by decide +kernel
theorem dX1_number_12 : decode cX1_number 12 = .ok (.goto 4, 3) := by decide +kernel
theorem dX1_number_15 : decode cX1_number 15 = .ok (.iconst 0, 1) := by decide +kernel
theorem dX1_number_16 : decode cX1_number 16 = .ok (.ireturn, 1) := by decide +kernel
abbrev cX1_work : ByteArray := prog_3_method_2_code
def yX1_work : MethodName := ⟨RX1, "work", "(I)V"⟩
theorem dX1_work_0 : decode cX1_work 0 = .ok (.iconst 0, 1) := by decide +kernel
theorem dX1_work_1 : decode cX1_work 1 = .ok (.istore_n 2, 1) := by decide +kernel
theorem dX1_work_2 : decode cX1_work 2 = .ok (.iload_n 2, 1) := by decide +kernel
theorem dX1_work_3 : decode cX1_work 3 = .ok (.sipush 256, 3) := by decide +kernel
theorem dX1_work_6 : decode cX1_work 6 = .ok (.if_icmp .ge 16, 3) := by decide +kernel
theorem dX1_work_9 : decode cX1_work 9 = .ok (.aload_n 0, 1) := by decide +kernel
theorem dX1_work_10 : decode cX1_work 10 = .ok (.getfield 20, 3) := by decide +kernel
theorem dX1_work_13 : decode cX1_work 13 = .ok (.iload_n 2, 1) := by decide +kernel
theorem dX1_work_14 : decode cX1_work 14 = .ok (.iconst (-1), 1) := by decide +kernel
theorem dX1_work_15 : decode cX1_work 15 = .ok (.iastore, 1) := by decide +kernel
theorem dX1_work_16 : decode cX1_work 16 = .ok (.iinc 2 1, 3) := by decide +kernel
theorem dX1_work_19 : decode cX1_work 19 = .ok (.goto (-17), 3) := by decide +kernel
theorem dX1_work_22 : decode cX1_work 22 = .ok (.iconst 0, 1) := by decide +kernel
theorem dX1_work_23 : decode cX1_work 23 = .ok (.istore_n 2, 1) := by decide +kernel
theorem dX1_work_24 : decode cX1_work 24 = .ok (.iload_n 2, 1) := by decide +kernel
theorem dX1_work_25 : decode cX1_work 25 = .ok (.sipush 1024, 3) := by decide +kernel
theorem dX1_work_28 : decode cX1_work 28 = .ok (.if_icmp .ge 143, 3) := by decide +kernel
theorem dX1_work_31 : decode cX1_work 31 = .ok (.iconst 0, 1) := by decide +kernel
theorem dX1_work_32 : decode cX1_work 32 = .ok (.istore_n 3, 1) := by decide +kernel
theorem dX1_work_33 : decode cX1_work 33 = .ok (.iconst 0, 1) := by decide +kernel
theorem dX1_work_34 : decode cX1_work 34 = .ok (.istore 4, 2) := by decide +kernel
theorem dX1_work_36 : decode cX1_work 36 = .ok (.iload_n 2, 1) := by decide +kernel
theorem dX1_work_37 : decode cX1_work 37 = .ok (.iload_n 1, 1) := by decide +kernel
theorem dX1_work_38 : decode cX1_work 38 = .ok (.iconst (-1), 1) := by decide +kernel
theorem dX1_work_39 : decode cX1_work 39 = .ok (.ixor, 1) := by decide +kernel
theorem dX1_work_40 : decode cX1_work 40 = .ok (.iand, 1) := by decide +kernel
theorem dX1_work_41 : decode cX1_work 41 = .ok (.ifCond .ne 7, 3) := by decide +kernel
theorem dX1_work_44 : decode cX1_work 44 = .ok (.iconst 1, 1) := by decide +kernel
theorem dX1_work_45 : decode cX1_work 45 = .ok (.goto 4, 3) := by decide +kernel
theorem dX1_work_48 : decode cX1_work 48 = .ok (.iconst 0, 1) := by decide +kernel
theorem dX1_work_49 : decode cX1_work 49 = .ok (.istore 5, 2) := by decide +kernel
theorem dX1_work_51 : decode cX1_work 51 = .ok (.iconst 0, 1) := by decide +kernel
theorem dX1_work_52 : decode cX1_work 52 = .ok (.istore 6, 2) := by decide +kernel
theorem dX1_work_54 : decode cX1_work 54 = .ok (.iload 6, 2) := by decide +kernel
theorem dX1_work_56 : decode cX1_work 56 = .ok (.bipush 10, 2) := by decide +kernel
theorem dX1_work_58 : decode cX1_work 58 = .ok (.if_icmp .ge 94, 3) := by decide +kernel
theorem dX1_work_61 : decode cX1_work 61 = .ok (.iload_n 2, 1) := by decide +kernel
theorem dX1_work_62 : decode cX1_work 62 = .ok (.iload 6, 2) := by decide +kernel
theorem dX1_work_64 : decode cX1_work 64 = .ok (.ishr, 1) := by decide +kernel
theorem dX1_work_65 : decode cX1_work 65 = .ok (.iconst 1, 1) := by decide +kernel
theorem dX1_work_66 : decode cX1_work 66 = .ok (.iand, 1) := by decide +kernel
theorem dX1_work_67 : decode cX1_work 67 = .ok (.iconst 1, 1) := by decide +kernel
theorem dX1_work_68 : decode cX1_work 68 = .ok (.if_icmp .ne 7, 3) := by decide +kernel
theorem dX1_work_71 : decode cX1_work 71 = .ok (.iconst 1, 1) := by decide +kernel
theorem dX1_work_72 : decode cX1_work 72 = .ok (.goto 4, 3) := by decide +kernel
theorem dX1_work_75 : decode cX1_work 75 = .ok (.iconst 0, 1) := by decide +kernel
theorem dX1_work_76 : decode cX1_work 76 = .ok (.istore 7, 2) := by decide +kernel
theorem dX1_work_78 : decode cX1_work 78 = .ok (.iload 5, 2) := by decide +kernel
theorem dX1_work_80 : decode cX1_work 80 = .ok (.ifCond .eq 22, 3) := by decide +kernel
theorem dX1_work_83 : decode cX1_work 83 = .ok (.iload 7, 2) := by decide +kernel
theorem dX1_work_85 : decode cX1_work 85 = .ok (.ifCond .eq 13, 3) := by decide +kernel
theorem dX1_work_88 : decode cX1_work 88 = .ok (.aload_n 0, 1) := by decide +kernel
theorem dX1_work_89 : decode cX1_work 89 = .ok (.getfield 7, 3) := by decide +kernel
theorem dX1_work_92 : decode cX1_work 92 = .ok (.iload 6, 2) := by decide +kernel
theorem dX1_work_94 : decode cX1_work 94 = .ok (.baload, 1) := by decide +kernel
theorem dX1_work_95 : decode cX1_work 95 = .ok (.ifCond .eq 7, 3) := by decide +kernel
theorem dX1_work_98 : decode cX1_work 98 = .ok (.iconst 1, 1) := by decide +kernel
theorem dX1_work_99 : decode cX1_work 99 = .ok (.goto 4, 3) := by decide +kernel
theorem dX1_work_102 : decode cX1_work 102 = .ok (.iconst 0, 1) := by decide +kernel
theorem dX1_work_103 : decode cX1_work 103 = .ok (.istore 5, 2) := by decide +kernel
theorem dX1_work_105 : decode cX1_work 105 = .ok (.iload 7, 2) := by decide +kernel
theorem dX1_work_107 : decode cX1_work 107 = .ok (.ifCond .eq 15, 3) := by decide +kernel
theorem dX1_work_110 : decode cX1_work 110 = .ok (.iload_n 3, 1) := by decide +kernel
theorem dX1_work_111 : decode cX1_work 111 = .ok (.aload_n 0, 1) := by decide +kernel
theorem dX1_work_112 : decode cX1_work 112 = .ok (.getfield 13, 3) := by decide +kernel
theorem dX1_work_115 : decode cX1_work 115 = .ok (.iload 6, 2) := by decide +kernel
theorem dX1_work_117 : decode cX1_work 117 = .ok (.iaload, 1) := by decide +kernel
theorem dX1_work_118 : decode cX1_work 118 = .ok (.ixor, 1) := by decide +kernel
theorem dX1_work_119 : decode cX1_work 119 = .ok (.goto 4, 3) := by decide +kernel
theorem dX1_work_122 : decode cX1_work 122 = .ok (.iload_n 3, 1) := by decide +kernel
theorem dX1_work_123 : decode cX1_work 123 = .ok (.istore_n 3, 1) := by decide +kernel
theorem dX1_work_124 : decode cX1_work 124 = .ok (.iload 7, 2) := by decide +kernel
theorem dX1_work_126 : decode cX1_work 126 = .ok (.ifCond .eq 16, 3) := by decide +kernel
theorem dX1_work_129 : decode cX1_work 129 = .ok (.iload 4, 2) := by decide +kernel
theorem dX1_work_131 : decode cX1_work 131 = .ok (.aload_n 0, 1) := by decide +kernel
theorem dX1_work_132 : decode cX1_work 132 = .ok (.getfield 17, 3) := by decide +kernel
theorem dX1_work_135 : decode cX1_work 135 = .ok (.iload 6, 2) := by decide +kernel
theorem dX1_work_137 : decode cX1_work 137 = .ok (.iaload, 1) := by decide +kernel
theorem dX1_work_138 : decode cX1_work 138 = .ok (.ixor, 1) := by decide +kernel
theorem dX1_work_139 : decode cX1_work 139 = .ok (.goto 5, 3) := by decide +kernel
theorem dX1_work_142 : decode cX1_work 142 = .ok (.iload 4, 2) := by decide +kernel
theorem dX1_work_144 : decode cX1_work 144 = .ok (.istore 4, 2) := by decide +kernel
theorem dX1_work_146 : decode cX1_work 146 = .ok (.iinc 6 1, 3) := by decide +kernel
theorem dX1_work_149 : decode cX1_work 149 = .ok (.goto (-95), 3) := by decide +kernel
theorem dX1_work_152 : decode cX1_work 152 = .ok (.iload 5, 2) := by decide +kernel
theorem dX1_work_154 : decode cX1_work 154 = .ok (.ifCond .eq 11, 3) := by decide +kernel
theorem dX1_work_157 : decode cX1_work 157 = .ok (.aload_n 0, 1) := by decide +kernel
theorem dX1_work_158 : decode cX1_work 158 = .ok (.getfield 20, 3) := by decide +kernel
theorem dX1_work_161 : decode cX1_work 161 = .ok (.iload_n 3, 1) := by decide +kernel
theorem dX1_work_162 : decode cX1_work 162 = .ok (.iload 4, 2) := by decide +kernel
theorem dX1_work_164 : decode cX1_work 164 = .ok (.iastore, 1) := by decide +kernel
theorem dX1_work_165 : decode cX1_work 165 = .ok (.iinc 2 1, 3) := by decide +kernel
theorem dX1_work_168 : decode cX1_work 168 = .ok (.goto (-144), 3) := by decide +kernel
theorem dX1_work_171 : decode cX1_work 171 = .ok (.return_, 1) := by decide +kernel
abbrev cX1_drop : ByteArray := prog_3_method_6_code
def yX1_drop : MethodName := ⟨RX1, "drop", "(I)Z"⟩
theorem dX1_drop_0 : decode cX1_drop 0 = .ok (.iload_n 1, 1) := by decide +kernel
theorem dX1_drop_1 : decode cX1_drop 1 = .ok (.ifCond .lt 18, 3) := by decide +kernel
theorem dX1_drop_4 : decode cX1_drop 4 = .ok (.iload_n 1, 1) := by decide +kernel
theorem dX1_drop_5 : decode cX1_drop 5 = .ok (.bipush 9, 2) := by decide +kernel
theorem dX1_drop_7 : decode cX1_drop 7 = .ok (.if_icmp .gt 12, 3) := by decide +kernel
theorem dX1_drop_10 : decode cX1_drop 10 = .ok (.aload_n 0, 1) := by decide +kernel
theorem dX1_drop_11 : decode cX1_drop 11 = .ok (.getfield 7, 3) := by decide +kernel
theorem dX1_drop_14 : decode cX1_drop 14 = .ok (.iload_n 1, 1) := by decide +kernel
theorem dX1_drop_15 : decode cX1_drop 15 = .ok (.baload, 1) := by decide +kernel
theorem dX1_drop_16 : decode cX1_drop 16 = .ok (.ifCond .ne 5, 3) := by decide +kernel
theorem dX1_drop_19 : decode cX1_drop 19 = .ok (.iconst 0, 1) := by decide +kernel
theorem dX1_drop_20 : decode cX1_drop 20 = .ok (.ireturn, 1) := by decide +kernel
theorem dX1_drop_21 : decode cX1_drop 21 = .ok (.aload_n 0, 1) := by decide +kernel
theorem dX1_drop_22 : decode cX1_drop 22 = .ok (.getfield 7, 3) := by decide +kernel
theorem dX1_drop_25 : decode cX1_drop 25 = .ok (.iload_n 1, 1) := by decide +kernel
theorem dX1_drop_26 : decode cX1_drop 26 = .ok (.iconst 0, 1) := by decide +kernel
theorem dX1_drop_27 : decode cX1_drop 27 = .ok (.bastore, 1) := by decide +kernel
theorem dX1_drop_28 : decode cX1_drop 28 = .ok (.iconst 1, 1) := by decide +kernel
theorem dX1_drop_29 : decode cX1_drop 29 = .ok (.ireturn, 1) := by decide +kernel
abbrev cX1_drops : ByteArray := prog_3_method_7_code
def yX1_drops : MethodName := ⟨RX1, "drops", "()I"⟩
theorem dX1_drops_0 : decode cX1_drops 0 = .ok (.iconst 0, 1) := by decide +kernel
theorem dX1_drops_1 : decode cX1_drops 1 = .ok (.istore_n 1, 1) := by decide +kernel
theorem dX1_drops_2 : decode cX1_drops 2 = .ok (.iconst 0, 1) := by decide +kernel
theorem dX1_drops_3 : decode cX1_drops 3 = .ok (.istore_n 2, 1) := by decide +kernel
theorem dX1_drops_4 : decode cX1_drops 4 = .ok (.iload_n 2, 1) := by decide +kernel
theorem dX1_drops_5 : decode cX1_drops 5 = .ok (.bipush 10, 2) := by decide +kernel
theorem dX1_drops_7 : decode cX1_drops 7 = .ok (.if_icmp .ge 28, 3) := by decide +kernel
theorem dX1_drops_10 : decode cX1_drops 10 = .ok (.aload_n 0, 1) := by decide +kernel
theorem dX1_drops_11 : decode cX1_drops 11 = .ok (.getfield 7, 3) := by decide +kernel
theorem dX1_drops_14 : decode cX1_drops 14 = .ok (.iload_n 2, 1) := by decide +kernel
theorem dX1_drops_15 : decode cX1_drops 15 = .ok (.baload, 1) := by decide +kernel
theorem dX1_drops_16 : decode cX1_drops 16 = .ok (.ifCond .eq 11, 3) := by decide +kernel
theorem dX1_drops_19 : decode cX1_drops 19 = .ok (.iload_n 1, 1) := by decide +kernel
theorem dX1_drops_20 : decode cX1_drops 20 = .ok (.iconst 1, 1) := by decide +kernel
theorem dX1_drops_21 : decode cX1_drops 21 = .ok (.iload_n 2, 1) := by decide +kernel
theorem dX1_drops_22 : decode cX1_drops 22 = .ok (.ishl, 1) := by decide +kernel
theorem dX1_drops_23 : decode cX1_drops 23 = .ok (.ior, 1) := by decide +kernel
theorem dX1_drops_24 : decode cX1_drops 24 = .ok (.goto 4, 3) := by decide +kernel
theorem dX1_drops_27 : decode cX1_drops 27 = .ok (.iload_n 1, 1) := by decide +kernel
theorem dX1_drops_28 : decode cX1_drops 28 = .ok (.istore_n 1, 1) := by decide +kernel
theorem dX1_drops_29 : decode cX1_drops 29 = .ok (.iinc 2 1, 3) := by decide +kernel
theorem dX1_drops_32 : decode cX1_drops 32 = .ok (.goto (-28), 3) := by decide +kernel
theorem dX1_drops_35 : decode cX1_drops 35 = .ok (.iload_n 1, 1) := by decide +kernel
theorem dX1_drops_36 : decode cX1_drops 36 = .ok (.ireturn, 1) := by decide +kernel
abbrev cX1_known : ByteArray := prog_3_method_8_code
def yX1_known : MethodName := ⟨RX1, "known", "()I"⟩
theorem dX1_known_0 : decode cX1_known 0 = .ok (.aload_n 0, 1) := by decide +kernel
theorem dX1_known_1 : decode cX1_known 1 = .ok (.sipush 1023, 3) := by decide +kernel
theorem dX1_known_4 : decode cX1_known 4 = .ok (.invokevirtual 30, 3) := by decide +kernel
theorem dX1_known_7 : decode cX1_known 7 = .ok (.iconst 0, 1) := by decide +kernel
theorem dX1_known_8 : decode cX1_known 8 = .ok (.istore_n 1, 1) := by decide +kernel
theorem dX1_known_9 : decode cX1_known 9 = .ok (.iconst 0, 1) := by decide +kernel
theorem dX1_known_10 : decode cX1_known 10 = .ok (.istore_n 2, 1) := by decide +kernel
theorem dX1_known_11 : decode cX1_known 11 = .ok (.iload_n 2, 1) := by decide +kernel
theorem dX1_known_12 : decode cX1_known 12 = .ok (.bipush 8, 2) := by decide +kernel
theorem dX1_known_14 : decode cX1_known 14 = .ok (.if_icmp .ge 30, 3) := by decide +kernel
theorem dX1_known_17 : decode cX1_known 17 = .ok (.aload_n 0, 1) := by decide +kernel
theorem dX1_known_18 : decode cX1_known 18 = .ok (.getfield 20, 3) := by decide +kernel
theorem dX1_known_21 : decode cX1_known 21 = .ok (.iconst 1, 1) := by decide +kernel
theorem dX1_known_22 : decode cX1_known 22 = .ok (.iload_n 2, 1) := by decide +kernel
theorem dX1_known_23 : decode cX1_known 23 = .ok (.ishl, 1) := by decide +kernel
theorem dX1_known_24 : decode cX1_known 24 = .ok (.iaload, 1) := by decide +kernel
theorem dX1_known_25 : decode cX1_known 25 = .ok (.ifCond .lt 11, 3) := by decide +kernel
theorem dX1_known_28 : decode cX1_known 28 = .ok (.iload_n 1, 1) := by decide +kernel
theorem dX1_known_29 : decode cX1_known 29 = .ok (.iconst 1, 1) := by decide +kernel
theorem dX1_known_30 : decode cX1_known 30 = .ok (.iload_n 2, 1) := by decide +kernel
theorem dX1_known_31 : decode cX1_known 31 = .ok (.ishl, 1) := by decide +kernel
theorem dX1_known_32 : decode cX1_known 32 = .ok (.ior, 1) := by decide +kernel
theorem dX1_known_33 : decode cX1_known 33 = .ok (.goto 4, 3) := by decide +kernel
theorem dX1_known_36 : decode cX1_known 36 = .ok (.iload_n 1, 1) := by decide +kernel
theorem dX1_known_37 : decode cX1_known 37 = .ok (.istore_n 1, 1) := by decide +kernel
theorem dX1_known_38 : decode cX1_known 38 = .ok (.iinc 2 1, 3) := by decide +kernel
theorem dX1_known_41 : decode cX1_known 41 = .ok (.goto (-30), 3) := by decide +kernel
theorem dX1_known_44 : decode cX1_known 44 = .ok (.iload_n 1, 1) := by decide +kernel
theorem dX1_known_45 : decode cX1_known 45 = .ok (.ireturn, 1) := by decide +kernel
abbrev cX1_piece : ByteArray := prog_3_method_9_code
def yX1_piece : MethodName := ⟨RX1, "piece", "(I)I"⟩
theorem dX1_piece_0 : decode cX1_piece 0 = .ok (.aload_n 0, 1) := by decide +kernel
theorem dX1_piece_1 : decode cX1_piece 1 = .ok (.sipush 1023, 3) := by decide +kernel
theorem dX1_piece_4 : decode cX1_piece 4 = .ok (.invokevirtual 30, 3) := by decide +kernel
theorem dX1_piece_7 : decode cX1_piece 7 = .ok (.iload_n 1, 1) := by decide +kernel
theorem dX1_piece_8 : decode cX1_piece 8 = .ok (.ifCond .lt 20, 3) := by decide +kernel
theorem dX1_piece_11 : decode cX1_piece 11 = .ok (.iload_n 1, 1) := by decide +kernel
theorem dX1_piece_12 : decode cX1_piece 12 = .ok (.bipush 7, 2) := by decide +kernel
theorem dX1_piece_14 : decode cX1_piece 14 = .ok (.if_icmp .gt 14, 3) := by decide +kernel
theorem dX1_piece_17 : decode cX1_piece 17 = .ok (.aload_n 0, 1) := by decide +kernel
theorem dX1_piece_18 : decode cX1_piece 18 = .ok (.getfield 20, 3) := by decide +kernel
theorem dX1_piece_21 : decode cX1_piece 21 = .ok (.iconst 1, 1) := by decide +kernel
theorem dX1_piece_22 : decode cX1_piece 22 = .ok (.iload_n 1, 1) := by decide +kernel
theorem dX1_piece_23 : decode cX1_piece 23 = .ok (.ishl, 1) := by decide +kernel
theorem dX1_piece_24 : decode cX1_piece 24 = .ok (.iaload, 1) := by decide +kernel
theorem dX1_piece_25 : decode cX1_piece 25 = .ok (.goto 4, 3) := by decide +kernel
theorem dX1_piece_28 : decode cX1_piece 28 = .ok (.iconst (-1), 1) := by decide +kernel
theorem dX1_piece_29 : decode cX1_piece 29 = .ok (.ireturn, 1) := by decide +kernel
abbrev cX1_sum : ByteArray := prog_3_method_10_code
def yX1_sum : MethodName := ⟨RX1, "sum", "(I)I"⟩
theorem dX1_sum_0 : decode cX1_sum 0 = .ok (.aload_n 0, 1) := by decide +kernel
theorem dX1_sum_1 : decode cX1_sum 1 = .ok (.sipush 1023, 3) := by decide +kernel
theorem dX1_sum_4 : decode cX1_sum 4 = .ok (.invokevirtual 30, 3) := by decide +kernel
theorem dX1_sum_7 : decode cX1_sum 7 = .ok (.iload_n 1, 1) := by decide +kernel
theorem dX1_sum_8 : decode cX1_sum 8 = .ok (.ifCond .lt 19, 3) := by decide +kernel
theorem dX1_sum_11 : decode cX1_sum 11 = .ok (.iload_n 1, 1) := by decide +kernel
theorem dX1_sum_12 : decode cX1_sum 12 = .ok (.sipush 255, 3) := by decide +kernel
theorem dX1_sum_15 : decode cX1_sum 15 = .ok (.if_icmp .gt 12, 3) := by decide +kernel
theorem dX1_sum_18 : decode cX1_sum 18 = .ok (.aload_n 0, 1) := by decide +kernel
theorem dX1_sum_19 : decode cX1_sum 19 = .ok (.getfield 20, 3) := by decide +kernel
theorem dX1_sum_22 : decode cX1_sum 22 = .ok (.iload_n 1, 1) := by decide +kernel
theorem dX1_sum_23 : decode cX1_sum 23 = .ok (.iaload, 1) := by decide +kernel
theorem dX1_sum_24 : decode cX1_sum 24 = .ok (.goto 4, 3) := by decide +kernel
theorem dX1_sum_27 : decode cX1_sum 27 = .ok (.iconst (-1), 1) := by decide +kernel
theorem dX1_sum_28 : decode cX1_sum 28 = .ok (.ireturn, 1) := by decide +kernel
abbrev cX1_missing : ByteArray := prog_3_method_12_code
def yX1_missing : MethodName := ⟨RX1, "missing", "()I"⟩
theorem dX1_missing_0 : decode cX1_missing 0 = .ok (.aload_n 0, 1) := by decide +kernel
theorem dX1_missing_1 : decode cX1_missing 1 = .ok (.sipush 1023, 3) := by decide +kernel
theorem dX1_missing_4 : decode cX1_missing 4 = .ok (.invokevirtual 30, 3) := by decide +kernel
theorem dX1_missing_7 : decode cX1_missing 7 = .ok (.aload_n 0, 1) := by decide +kernel
theorem dX1_missing_8 : decode cX1_missing 8 = .ok (.invokevirtual 34, 3) := by decide +kernel
theorem dX1_missing_11 : decode cX1_missing 11 = .ok (.istore_n 1, 1) := by decide +kernel
theorem dX1_missing_12 : decode cX1_missing 12 = .ok (.iconst 0, 1) := by decide +kernel
theorem dX1_missing_13 : decode cX1_missing 13 = .ok (.istore_n 2, 1) := by decide +kernel
theorem dX1_missing_14 : decode cX1_missing 14 = .ok (.iload_n 1, 1) := by decide +kernel
theorem dX1_missing_15 : decode cX1_missing 15 = .ok (.iload_n 2, 1) := by decide +kernel
theorem dX1_missing_16 : decode cX1_missing 16 = .ok (.ishl, 1) := by decide +kernel
theorem dX1_missing_17 : decode cX1_missing 17 = .ok (.sipush 256, 3) := by decide +kernel
theorem dX1_missing_20 : decode cX1_missing 20 = .ok (.if_icmp .ge 15, 3) := by decide +kernel
theorem dX1_missing_23 : decode cX1_missing 23 = .ok (.iload_n 2, 1) := by decide +kernel
theorem dX1_missing_24 : decode cX1_missing 24 = .ok (.bipush 8, 2) := by decide +kernel
theorem dX1_missing_26 : decode cX1_missing 26 = .ok (.if_icmp .ge 9, 3) := by decide +kernel
theorem dX1_missing_29 : decode cX1_missing 29 = .ok (.iinc 2 1, 3) := by decide +kernel
theorem dX1_missing_32 : decode cX1_missing 32 = .ok (.goto (-18), 3) := by decide +kernel
theorem dX1_missing_35 : decode cX1_missing 35 = .ok (.iload_n 2, 1) := by decide +kernel
theorem dX1_missing_36 : decode cX1_missing 36 = .ok (.ireturn, 1) := by decide +kernel
abbrev cX1_size : ByteArray := prog_3_method_11_code
def yX1_size : MethodName := ⟨RX1, "size", "()I"⟩
theorem dX1_size_0 : decode cX1_size 0 = .ok (.iconst 0, 1) := by decide +kernel
theorem dX1_size_1 : decode cX1_size 1 = .ok (.istore_n 1, 1) := by decide +kernel
theorem dX1_size_2 : decode cX1_size 2 = .ok (.iconst 0, 1) := by decide +kernel
theorem dX1_size_3 : decode cX1_size 3 = .ok (.istore_n 2, 1) := by decide +kernel
theorem dX1_size_4 : decode cX1_size 4 = .ok (.iload_n 2, 1) := by decide +kernel
theorem dX1_size_5 : decode cX1_size 5 = .ok (.sipush 256, 3) := by decide +kernel
theorem dX1_size_8 : decode cX1_size 8 = .ok (.if_icmp .ge 26, 3) := by decide +kernel
theorem dX1_size_11 : decode cX1_size 11 = .ok (.aload_n 0, 1) := by decide +kernel
theorem dX1_size_12 : decode cX1_size 12 = .ok (.getfield 20, 3) := by decide +kernel
theorem dX1_size_15 : decode cX1_size 15 = .ok (.iload_n 2, 1) := by decide +kernel
theorem dX1_size_16 : decode cX1_size 16 = .ok (.iaload, 1) := by decide +kernel
theorem dX1_size_17 : decode cX1_size 17 = .ok (.ifCond .lt 9, 3) := by decide +kernel
theorem dX1_size_20 : decode cX1_size 20 = .ok (.iload_n 1, 1) := by decide +kernel
theorem dX1_size_21 : decode cX1_size 21 = .ok (.iconst 1, 1) := by decide +kernel
theorem dX1_size_22 : decode cX1_size 22 = .ok (.iadd, 1) := by decide +kernel
theorem dX1_size_23 : decode cX1_size 23 = .ok (.goto 4, 3) := by decide +kernel
theorem dX1_size_26 : decode cX1_size 26 = .ok (.iload_n 1, 1) := by decide +kernel
theorem dX1_size_27 : decode cX1_size 27 = .ok (.istore_n 1, 1) := by decide +kernel
theorem dX1_size_28 : decode cX1_size 28 = .ok (.iinc 2 1, 3) := by decide +kernel
theorem dX1_size_31 : decode cX1_size 31 = .ok (.goto (-27), 3) := by decide +kernel
theorem dX1_size_34 : decode cX1_size 34 = .ok (.iload_n 1, 1) := by decide +kernel
theorem dX1_size_35 : decode cX1_size 35 = .ok (.ireturn, 1) := by decide +kernel
abbrev cX1_idle : ByteArray := prog_3_method_13_code
def yX1_idle : MethodName := ⟨RX1, "idle", "(I)Z"⟩
theorem dX1_idle_0 : decode cX1_idle 0 = .ok (.iload_n 1, 1) := by decide +kernel
theorem dX1_idle_1 : decode cX1_idle 1 = .ok (.ifCond .lt 18, 3) := by decide +kernel
theorem dX1_idle_4 : decode cX1_idle 4 = .ok (.iload_n 1, 1) := by decide +kernel
theorem dX1_idle_5 : decode cX1_idle 5 = .ok (.bipush 9, 2) := by decide +kernel
theorem dX1_idle_7 : decode cX1_idle 7 = .ok (.if_icmp .gt 12, 3) := by decide +kernel
theorem dX1_idle_10 : decode cX1_idle 10 = .ok (.aload_n 0, 1) := by decide +kernel
theorem dX1_idle_11 : decode cX1_idle 11 = .ok (.getfield 7, 3) := by decide +kernel
theorem dX1_idle_14 : decode cX1_idle 14 = .ok (.iload_n 1, 1) := by decide +kernel
theorem dX1_idle_15 : decode cX1_idle 15 = .ok (.baload, 1) := by decide +kernel
theorem dX1_idle_16 : decode cX1_idle 16 = .ok (.ifCond .ne 5, 3) := by decide +kernel
theorem dX1_idle_19 : decode cX1_idle 19 = .ok (.iconst 0, 1) := by decide +kernel
theorem dX1_idle_20 : decode cX1_idle 20 = .ok (.ireturn, 1) := by decide +kernel
theorem dX1_idle_21 : decode cX1_idle 21 = .ok (.aload_n 0, 1) := by decide +kernel
theorem dX1_idle_22 : decode cX1_idle 22 = .ok (.sipush 1023, 3) := by decide +kernel
theorem dX1_idle_25 : decode cX1_idle 25 = .ok (.iconst 1, 1) := by decide +kernel
theorem dX1_idle_26 : decode cX1_idle 26 = .ok (.iload_n 1, 1) := by decide +kernel
theorem dX1_idle_27 : decode cX1_idle 27 = .ok (.ishl, 1) := by decide +kernel
theorem dX1_idle_28 : decode cX1_idle 28 = .ok (.iconst (-1), 1) := by decide +kernel
theorem dX1_idle_29 : decode cX1_idle 29 = .ok (.ixor, 1) := by decide +kernel
theorem dX1_idle_30 : decode cX1_idle 30 = .ok (.iand, 1) := by decide +kernel
theorem dX1_idle_31 : decode cX1_idle 31 = .ok (.invokevirtual 38, 3) := by decide +kernel
theorem dX1_idle_34 : decode cX1_idle 34 = .ok (.ireturn, 1) := by decide +kernel
abbrev cX1_enough : ByteArray := prog_3_method_19_code
def yX1_enough : MethodName := ⟨RX1, "enough", "(I)Z"⟩
theorem dX1_enough_0 : decode cX1_enough 0 = .ok (.aload_n 0, 1) := by decide +kernel
theorem dX1_enough_1 : decode cX1_enough 1 = .ok (.sipush 1023, 3) := by decide +kernel
theorem dX1_enough_4 : decode cX1_enough 4 = .ok (.invokevirtual 30, 3) := by decide +kernel
theorem dX1_enough_7 : decode cX1_enough 7 = .ok (.aload_n 0, 1) := by decide +kernel
theorem dX1_enough_8 : decode cX1_enough 8 = .ok (.invokevirtual 34, 3) := by decide +kernel
theorem dX1_enough_11 : decode cX1_enough 11 = .ok (.istore_n 2, 1) := by decide +kernel
theorem dX1_enough_12 : decode cX1_enough 12 = .ok (.aload_n 0, 1) := by decide +kernel
theorem dX1_enough_13 : decode cX1_enough 13 = .ok (.iload_n 1, 1) := by decide +kernel
theorem dX1_enough_14 : decode cX1_enough 14 = .ok (.invokevirtual 30, 3) := by decide +kernel
theorem dX1_enough_17 : decode cX1_enough 17 = .ok (.aload_n 0, 1) := by decide +kernel
theorem dX1_enough_18 : decode cX1_enough 18 = .ok (.invokevirtual 34, 3) := by decide +kernel
theorem dX1_enough_21 : decode cX1_enough 21 = .ok (.iload_n 2, 1) := by decide +kernel
theorem dX1_enough_22 : decode cX1_enough 22 = .ok (.if_icmp .ne 7, 3) := by decide +kernel
theorem dX1_enough_25 : decode cX1_enough 25 = .ok (.iconst 1, 1) := by decide +kernel
theorem dX1_enough_26 : decode cX1_enough 26 = .ok (.goto 4, 3) := by decide +kernel
theorem dX1_enough_29 : decode cX1_enough 29 = .ok (.iconst 0, 1) := by decide +kernel
theorem dX1_enough_30 : decode cX1_enough 30 = .ok (.ireturn, 1) := by decide +kernel
abbrev cX1_knownSums : ByteArray := prog_3_method_14_code
def yX1_knownSums : MethodName := ⟨RX1, "knownSums", "()I"⟩
theorem dX1_knownSums_0 : decode cX1_knownSums 0 = .ok (.aload_n 0, 1) := by decide +kernel
theorem dX1_knownSums_1 : decode cX1_knownSums 1 = .ok (.sipush 1023, 3) := by decide +kernel
theorem dX1_knownSums_4 : decode cX1_knownSums 4 = .ok (.invokevirtual 30, 3) := by decide +kernel
theorem dX1_knownSums_7 : decode cX1_knownSums 7 = .ok (.aload_n 0, 1) := by decide +kernel
theorem dX1_knownSums_8 : decode cX1_knownSums 8 = .ok (.invokevirtual 34, 3) := by decide +kernel
theorem dX1_knownSums_11 : decode cX1_knownSums 11 = .ok (.iconst 1, 1) := by decide +kernel
theorem dX1_knownSums_12 : decode cX1_knownSums 12 = .ok (.isub, 1) := by decide +kernel
theorem dX1_knownSums_13 : decode cX1_knownSums 13 = .ok (.ireturn, 1) := by decide +kernel
abbrev cX1_knownWith : ByteArray := prog_3_method_15_code
def yX1_knownWith : MethodName := ⟨RX1, "knownWith", "(I)I"⟩
theorem dX1_knownWith_0 : decode cX1_knownWith 0 = .ok (.aload_n 0, 1) := by decide +kernel
theorem dX1_knownWith_1 : decode cX1_knownWith 1 = .ok (.iload_n 1, 1) := by decide +kernel
theorem dX1_knownWith_2 : decode cX1_knownWith 2 = .ok (.invokevirtual 23, 3) := by decide +kernel
theorem dX1_knownWith_5 : decode cX1_knownWith 5 = .ok (.ifCond .ne 5, 3) := by decide +kernel
theorem dX1_knownWith_8 : decode cX1_knownWith 8 = .ok (.iconst (-1), 1) := by decide +kernel
theorem dX1_knownWith_9 : decode cX1_knownWith 9 = .ok (.ireturn, 1) := by decide +kernel
theorem dX1_knownWith_10 : decode cX1_knownWith 10 = .ok (.aload_n 0, 1) := by decide +kernel
theorem dX1_knownWith_11 : decode cX1_knownWith 11 = .ok (.sipush 1023, 3) := by decide +kernel
theorem dX1_knownWith_14 : decode cX1_knownWith 14 = .ok (.invokevirtual 30, 3) := by decide +kernel
theorem dX1_knownWith_17 : decode cX1_knownWith 17 = .ok (.aload_n 0, 1) := by decide +kernel
theorem dX1_knownWith_18 : decode cX1_knownWith 18 = .ok (.iload_n 1, 1) := by decide +kernel
theorem dX1_knownWith_19 : decode cX1_knownWith 19 = .ok (.invokevirtual 41, 3) := by decide +kernel
theorem dX1_knownWith_22 : decode cX1_knownWith 22 = .ok (.ireturn, 1) := by decide +kernel
abbrev cX1_with : ByteArray := prog_3_method_16_code
def yX1_with : MethodName := ⟨RX1, "with", "(I)I"⟩
theorem dX1_with_0 : decode cX1_with 0 = .ok (.iconst 0, 1) := by decide +kernel
theorem dX1_with_1 : decode cX1_with 1 = .ok (.istore_n 2, 1) := by decide +kernel
theorem dX1_with_2 : decode cX1_with 2 = .ok (.iconst 0, 1) := by decide +kernel
theorem dX1_with_3 : decode cX1_with 3 = .ok (.istore_n 3, 1) := by decide +kernel
theorem dX1_with_4 : decode cX1_with 4 = .ok (.iload_n 3, 1) := by decide +kernel
theorem dX1_with_5 : decode cX1_with 5 = .ok (.bipush 8, 2) := by decide +kernel
theorem dX1_with_7 : decode cX1_with 7 = .ok (.if_icmp .ge 41, 3) := by decide +kernel
theorem dX1_with_10 : decode cX1_with 10 = .ok (.aload_n 0, 1) := by decide +kernel
theorem dX1_with_11 : decode cX1_with 11 = .ok (.getfield 20, 3) := by decide +kernel
theorem dX1_with_14 : decode cX1_with 14 = .ok (.iconst 1, 1) := by decide +kernel
theorem dX1_with_15 : decode cX1_with 15 = .ok (.iload_n 3, 1) := by decide +kernel
theorem dX1_with_16 : decode cX1_with 16 = .ok (.ishl, 1) := by decide +kernel
theorem dX1_with_17 : decode cX1_with 17 = .ok (.iaload, 1) := by decide +kernel
theorem dX1_with_18 : decode cX1_with 18 = .ok (.ifCond .ge 16, 3) := by decide +kernel
theorem dX1_with_21 : decode cX1_with 21 = .ok (.aload_n 0, 1) := by decide +kernel
theorem dX1_with_22 : decode cX1_with 22 = .ok (.getfield 20, 3) := by decide +kernel
theorem dX1_with_25 : decode cX1_with 25 = .ok (.iconst 1, 1) := by decide +kernel
theorem dX1_with_26 : decode cX1_with 26 = .ok (.iload_n 3, 1) := by decide +kernel
theorem dX1_with_27 : decode cX1_with 27 = .ok (.ishl, 1) := by decide +kernel
theorem dX1_with_28 : decode cX1_with 28 = .ok (.iload_n 1, 1) := by decide +kernel
theorem dX1_with_29 : decode cX1_with 29 = .ok (.ixor, 1) := by decide +kernel
theorem dX1_with_30 : decode cX1_with 30 = .ok (.iaload, 1) := by decide +kernel
theorem dX1_with_31 : decode cX1_with 31 = .ok (.ifCond .lt 9, 3) := by decide +kernel
theorem dX1_with_34 : decode cX1_with 34 = .ok (.iload_n 2, 1) := by decide +kernel
theorem dX1_with_35 : decode cX1_with 35 = .ok (.iconst 1, 1) := by decide +kernel
theorem dX1_with_36 : decode cX1_with 36 = .ok (.iadd, 1) := by decide +kernel
theorem dX1_with_37 : decode cX1_with 37 = .ok (.goto 4, 3) := by decide +kernel
theorem dX1_with_40 : decode cX1_with 40 = .ok (.iload_n 2, 1) := by decide +kernel
theorem dX1_with_41 : decode cX1_with 41 = .ok (.istore_n 2, 1) := by decide +kernel
theorem dX1_with_42 : decode cX1_with 42 = .ok (.iinc 3 1, 3) := by decide +kernel
theorem dX1_with_45 : decode cX1_with 45 = .ok (.goto (-41), 3) := by decide +kernel
theorem dX1_with_48 : decode cX1_with 48 = .ok (.iload_n 2, 1) := by decide +kernel
theorem dX1_with_49 : decode cX1_with 49 = .ok (.ireturn, 1) := by decide +kernel
abbrev cX1_bestSet : ByteArray := prog_3_method_17_code
def yX1_bestSet : MethodName := ⟨RX1, "bestSet", "()I"⟩
theorem dX1_bestSet_0 : decode cX1_bestSet 0 = .ok (.aload_n 0, 1) := by decide +kernel
theorem dX1_bestSet_1 : decode cX1_bestSet 1 = .ok (.sipush 1023, 3) := by decide +kernel
theorem dX1_bestSet_4 : decode cX1_bestSet 4 = .ok (.invokevirtual 30, 3) := by decide +kernel
theorem dX1_bestSet_7 : decode cX1_bestSet 7 = .ok (.iconst 1, 1) := by decide +kernel
theorem dX1_bestSet_8 : decode cX1_bestSet 8 = .ok (.istore_n 1, 1) := by decide +kernel
theorem dX1_bestSet_9 : decode cX1_bestSet 9 = .ok (.iconst 2, 1) := by decide +kernel
theorem dX1_bestSet_10 : decode cX1_bestSet 10 = .ok (.istore_n 2, 1) := by decide +kernel
theorem dX1_bestSet_11 : decode cX1_bestSet 11 = .ok (.iload_n 2, 1) := by decide +kernel
theorem dX1_bestSet_12 : decode cX1_bestSet 12 = .ok (.sipush 256, 3) := by decide +kernel
theorem dX1_bestSet_15 : decode cX1_bestSet 15 = .ok (.if_icmp .ge 28, 3) := by decide +kernel
theorem dX1_bestSet_18 : decode cX1_bestSet 18 = .ok (.aload_n 0, 1) := by decide +kernel
theorem dX1_bestSet_19 : decode cX1_bestSet 19 = .ok (.iload_n 2, 1) := by decide +kernel
theorem dX1_bestSet_20 : decode cX1_bestSet 20 = .ok (.invokevirtual 41, 3) := by decide +kernel
theorem dX1_bestSet_23 : decode cX1_bestSet 23 = .ok (.aload_n 0, 1) := by decide +kernel
theorem dX1_bestSet_24 : decode cX1_bestSet 24 = .ok (.iload_n 1, 1) := by decide +kernel
theorem dX1_bestSet_25 : decode cX1_bestSet 25 = .ok (.invokevirtual 41, 3) := by decide +kernel
theorem dX1_bestSet_28 : decode cX1_bestSet 28 = .ok (.if_icmp .le 7, 3) := by decide +kernel
theorem dX1_bestSet_31 : decode cX1_bestSet 31 = .ok (.iload_n 2, 1) := by decide +kernel
theorem dX1_bestSet_32 : decode cX1_bestSet 32 = .ok (.goto 4, 3) := by decide +kernel
theorem dX1_bestSet_35 : decode cX1_bestSet 35 = .ok (.iload_n 1, 1) := by decide +kernel
theorem dX1_bestSet_36 : decode cX1_bestSet 36 = .ok (.istore_n 1, 1) := by decide +kernel
theorem dX1_bestSet_37 : decode cX1_bestSet 37 = .ok (.iinc 2 1, 3) := by decide +kernel
theorem dX1_bestSet_40 : decode cX1_bestSet 40 = .ok (.goto (-29), 3) := by decide +kernel
theorem dX1_bestSet_43 : decode cX1_bestSet 43 = .ok (.iload_n 1, 1) := by decide +kernel
theorem dX1_bestSet_44 : decode cX1_bestSet 44 = .ok (.ireturn, 1) := by decide +kernel
abbrev cX1_possible : ByteArray := prog_3_method_18_code
def yX1_possible : MethodName := ⟨RX1, "possible", "(II)Z"⟩
theorem dX1_possible_0 : decode cX1_possible 0 = .ok (.iload_n 1, 1) := by decide +kernel
theorem dX1_possible_1 : decode cX1_possible 1 = .ok (.ifCond .lt 17, 3) := by decide +kernel
theorem dX1_possible_4 : decode cX1_possible 4 = .ok (.iload_n 1, 1) := by decide +kernel
theorem dX1_possible_5 : decode cX1_possible 5 = .ok (.bipush 7, 2) := by decide +kernel
theorem dX1_possible_7 : decode cX1_possible 7 = .ok (.if_icmp .gt 11, 3) := by decide +kernel
theorem dX1_possible_10 : decode cX1_possible 10 = .ok (.aload_n 0, 1) := by decide +kernel
theorem dX1_possible_11 : decode cX1_possible 11 = .ok (.iload_n 2, 1) := by decide +kernel
theorem dX1_possible_12 : decode cX1_possible 12 = .ok (.invokevirtual 27, 3) := by decide +kernel
theorem dX1_possible_15 : decode cX1_possible 15 = .ok (.ifCond .ne 5, 3) := by decide +kernel
theorem dX1_possible_18 : decode cX1_possible 18 = .ok (.iconst 0, 1) := by decide +kernel
theorem dX1_possible_19 : decode cX1_possible 19 = .ok (.ireturn, 1) := by decide +kernel
theorem dX1_possible_20 : decode cX1_possible 20 = .ok (.aload_n 0, 1) := by decide +kernel
theorem dX1_possible_21 : decode cX1_possible 21 = .ok (.iload_n 1, 1) := by decide +kernel
theorem dX1_possible_22 : decode cX1_possible 22 = .ok (.invokevirtual 45, 3) := by decide +kernel
theorem dX1_possible_25 : decode cX1_possible 25 = .ok (.istore_n 3, 1) := by decide +kernel
theorem dX1_possible_26 : decode cX1_possible 26 = .ok (.iload_n 3, 1) := by decide +kernel
theorem dX1_possible_27 : decode cX1_possible 27 = .ok (.ifCond .lt 8, 3) := by decide +kernel
theorem dX1_possible_30 : decode cX1_possible 30 = .ok (.iload_n 3, 1) := by decide +kernel
theorem dX1_possible_31 : decode cX1_possible 31 = .ok (.iload_n 2, 1) := by decide +kernel
theorem dX1_possible_32 : decode cX1_possible 32 = .ok (.if_icmp .ne 7, 3) := by decide +kernel
theorem dX1_possible_35 : decode cX1_possible 35 = .ok (.iconst 1, 1) := by decide +kernel
theorem dX1_possible_36 : decode cX1_possible 36 = .ok (.goto 4, 3) := by decide +kernel
theorem dX1_possible_39 : decode cX1_possible 39 = .ok (.iconst 0, 1) := by decide +kernel
theorem dX1_possible_40 : decode cX1_possible 40 = .ok (.ireturn, 1) := by decide +kernel
theorem q16 : (Jvm.Cond.initialized "FountainDeskModel") ∈ lw_all := lw_g (lw_at lw_m0 2 rfl) rfl
theorem q154 : (Jvm.Cond.instantiable "FountainDeskModel" (4 : Nat)) ∈ lw_all := lw_g (lw_at lw_m0 140 rfl) rfl
theorem q156 : (Jvm.Cond.instanceMethod ({ cls := "FountainDeskModel", name := "<init>", desc := "()V" } : Jvm.MethodName)) ∈ lw_all := lw_g (lw_at lw_m0 142 rfl) rfl
theorem q157 : (Jvm.Cond.code ({ cls := "FountainDeskModel", name := "<init>", desc := "()V" } : Jvm.MethodName) prog_3_method_1_code (1 : Nat) (Option.none : Option Jvm.ClassFile.FieldType)) ∈ lw_all := lw_g (lw_at lw_m0 143 rfl) rfl
theorem q158 : (Jvm.Cond.methodLink "FountainDeskModel" (1 : Nat) ({ cls := "java/lang/Object", name := "<init>", desc := "()V" } : Jvm.MethodName)) ∈ lw_all := lw_g (lw_at lw_m0 144 rfl) rfl
theorem q159 : (Jvm.Cond.fieldLink "FountainDeskModel" (7 : Nat) "FountainDeskModel" "there" "[Z") ∈ lw_all := lw_g (lw_at lw_m0 145 rfl) rfl
theorem q160 : (Jvm.Cond.fieldLink "FountainDeskModel" (13 : Nat) "FountainDeskModel" "sets" "[I") ∈ lw_all := lw_g (lw_at lw_m0 146 rfl) rfl
theorem q161 : (Jvm.Cond.fieldLink "FountainDeskModel" (17 : Nat) "FountainDeskModel" "values" "[I") ∈ lw_all := lw_g (lw_at lw_m0 147 rfl) rfl
theorem q162 : (Jvm.Cond.fieldLink "FountainDeskModel" (20 : Nat) "FountainDeskModel" "table" "[I") ∈ lw_all := lw_g (lw_at lw_m0 148 rfl) rfl
theorem q163 : (Jvm.Cond.lays "FountainDeskModel" "FountainDeskModel" "there" "[Z") ∈ lw_all := lw_g (lw_at lw_m0 149 rfl) rfl
theorem q164 : (Jvm.Cond.soleField "FountainDeskModel" "there") ∈ lw_all := lw_g (lw_at lw_m0 150 rfl) rfl
theorem q165 : (Jvm.Cond.lays "FountainDeskModel" "FountainDeskModel" "sets" "[I") ∈ lw_all := lw_g (lw_at lw_m0 151 rfl) rfl
theorem q166 : (Jvm.Cond.soleField "FountainDeskModel" "sets") ∈ lw_all := lw_g (lw_at lw_m0 152 rfl) rfl
theorem q167 : (Jvm.Cond.lays "FountainDeskModel" "FountainDeskModel" "values" "[I") ∈ lw_all := lw_g (lw_at lw_m0 153 rfl) rfl
theorem q168 : (Jvm.Cond.soleField "FountainDeskModel" "values") ∈ lw_all := lw_g (lw_at lw_m0 154 rfl) rfl
theorem q169 : (Jvm.Cond.lays "FountainDeskModel" "FountainDeskModel" "table" "[I") ∈ lw_all := lw_g (lw_at lw_m0 155 rfl) rfl
theorem q170 : (Jvm.Cond.soleField "FountainDeskModel" "table") ∈ lw_all := lw_g (lw_at lw_m0 156 rfl) rfl
theorem q171 : (Jvm.Cond.superclass "FountainDeskModel" "java/lang/Object") ∈ lw_all := lw_g (lw_at lw_m0 157 rfl) rfl
theorem q175 : (Jvm.Cond.instanceMethod ({ cls := "FountainDeskModel", name := "take", desc := "(II)I" } : Jvm.MethodName)) ∈ lw_all := lw_g (lw_at lw_m0 161 rfl) rfl
theorem q176 : (Jvm.Cond.selects "FountainDeskModel" ({ cls := "FountainDeskModel", name := "take", desc := "(II)I" } : Jvm.MethodName) ({ cls := "FountainDeskModel", name := "take", desc := "(II)I" } : Jvm.MethodName)) ∈ lw_all := lw_g (lw_at lw_m0 162 rfl) rfl
theorem q177 : (Jvm.Cond.code ({ cls := "FountainDeskModel", name := "take", desc := "(II)I" } : Jvm.MethodName) prog_3_method_5_code (4 : Nat) (Option.some Jvm.ClassFile.FieldType.int)) ∈ lw_all := lw_g (lw_at lw_m0 163 rfl) rfl
theorem q178 : (Jvm.Cond.methodLink "FountainDeskModel" (23 : Nat) ({ cls := "FountainDeskModel", name := "pieces", desc := "(I)Z" } : Jvm.MethodName)) ∈ lw_all := lw_g (lw_at lw_m0 164 rfl) rfl
theorem q179 : (Jvm.Cond.privateMethod ({ cls := "FountainDeskModel", name := "pieces", desc := "(I)Z" } : Jvm.MethodName)) ∈ lw_tbl := lw_at lw_m0 165 rfl
theorem q180 : (Jvm.Cond.instanceMethod ({ cls := "FountainDeskModel", name := "pieces", desc := "(I)Z" } : Jvm.MethodName)) ∈ lw_all := lw_g (lw_at lw_m0 166 rfl) rfl
theorem q181 : (Jvm.Cond.code ({ cls := "FountainDeskModel", name := "pieces", desc := "(I)Z" } : Jvm.MethodName) prog_3_method_3_code (2 : Nat) (Option.some Jvm.ClassFile.FieldType.boolean)) ∈ lw_all := lw_g (lw_at lw_m0 167 rfl) rfl
theorem q182 : (Jvm.Cond.methodLink "FountainDeskModel" (27 : Nat) ({ cls := "FountainDeskModel", name := "number", desc := "(I)Z" } : Jvm.MethodName)) ∈ lw_all := lw_g (lw_at lw_m0 168 rfl) rfl
theorem q183 : (Jvm.Cond.privateMethod ({ cls := "FountainDeskModel", name := "number", desc := "(I)Z" } : Jvm.MethodName)) ∈ lw_tbl := lw_at lw_m0 169 rfl
theorem q184 : (Jvm.Cond.instanceMethod ({ cls := "FountainDeskModel", name := "number", desc := "(I)Z" } : Jvm.MethodName)) ∈ lw_all := lw_g (lw_at lw_m0 170 rfl) rfl
theorem q185 : (Jvm.Cond.code ({ cls := "FountainDeskModel", name := "number", desc := "(I)Z" } : Jvm.MethodName) prog_3_method_4_code (2 : Nat) (Option.some Jvm.ClassFile.FieldType.boolean)) ∈ lw_all := lw_g (lw_at lw_m0 171 rfl) rfl
theorem q186 : (Jvm.Cond.methodLink "FountainDeskModel" (30 : Nat) ({ cls := "FountainDeskModel", name := "work", desc := "(I)V" } : Jvm.MethodName)) ∈ lw_all := lw_g (lw_at lw_m0 172 rfl) rfl
theorem q187 : (Jvm.Cond.privateMethod ({ cls := "FountainDeskModel", name := "work", desc := "(I)V" } : Jvm.MethodName)) ∈ lw_tbl := lw_at lw_m0 173 rfl
theorem q188 : (Jvm.Cond.instanceMethod ({ cls := "FountainDeskModel", name := "work", desc := "(I)V" } : Jvm.MethodName)) ∈ lw_all := lw_g (lw_at lw_m0 174 rfl) rfl
theorem q189 : (Jvm.Cond.code ({ cls := "FountainDeskModel", name := "work", desc := "(I)V" } : Jvm.MethodName) prog_3_method_2_code (8 : Nat) (Option.none : Option Jvm.ClassFile.FieldType)) ∈ lw_all := lw_g (lw_at lw_m0 175 rfl) rfl
theorem q191 : (Jvm.Cond.instanceMethod ({ cls := "FountainDeskModel", name := "drop", desc := "(I)Z" } : Jvm.MethodName)) ∈ lw_all := lw_g (lw_at lw_m0 177 rfl) rfl
theorem q192 : (Jvm.Cond.selects "FountainDeskModel" ({ cls := "FountainDeskModel", name := "drop", desc := "(I)Z" } : Jvm.MethodName) ({ cls := "FountainDeskModel", name := "drop", desc := "(I)Z" } : Jvm.MethodName)) ∈ lw_all := lw_g (lw_at lw_m0 178 rfl) rfl
theorem q193 : (Jvm.Cond.code ({ cls := "FountainDeskModel", name := "drop", desc := "(I)Z" } : Jvm.MethodName) prog_3_method_6_code (2 : Nat) (Option.some Jvm.ClassFile.FieldType.boolean)) ∈ lw_all := lw_g (lw_at lw_m0 179 rfl) rfl
theorem q195 : (Jvm.Cond.instanceMethod ({ cls := "FountainDeskModel", name := "drops", desc := "()I" } : Jvm.MethodName)) ∈ lw_all := lw_g (lw_at lw_m0 181 rfl) rfl
theorem q196 : (Jvm.Cond.selects "FountainDeskModel" ({ cls := "FountainDeskModel", name := "drops", desc := "()I" } : Jvm.MethodName) ({ cls := "FountainDeskModel", name := "drops", desc := "()I" } : Jvm.MethodName)) ∈ lw_all := lw_g (lw_at lw_m0 182 rfl) rfl
theorem q197 : (Jvm.Cond.code ({ cls := "FountainDeskModel", name := "drops", desc := "()I" } : Jvm.MethodName) prog_3_method_7_code (3 : Nat) (Option.some Jvm.ClassFile.FieldType.int)) ∈ lw_all := lw_g (lw_at lw_m0 183 rfl) rfl
theorem q199 : (Jvm.Cond.instanceMethod ({ cls := "FountainDeskModel", name := "known", desc := "()I" } : Jvm.MethodName)) ∈ lw_all := lw_g (lw_at lw_m0 185 rfl) rfl
theorem q200 : (Jvm.Cond.selects "FountainDeskModel" ({ cls := "FountainDeskModel", name := "known", desc := "()I" } : Jvm.MethodName) ({ cls := "FountainDeskModel", name := "known", desc := "()I" } : Jvm.MethodName)) ∈ lw_all := lw_g (lw_at lw_m0 186 rfl) rfl
theorem q201 : (Jvm.Cond.code ({ cls := "FountainDeskModel", name := "known", desc := "()I" } : Jvm.MethodName) prog_3_method_8_code (3 : Nat) (Option.some Jvm.ClassFile.FieldType.int)) ∈ lw_all := lw_g (lw_at lw_m0 187 rfl) rfl
theorem q203 : (Jvm.Cond.instanceMethod ({ cls := "FountainDeskModel", name := "piece", desc := "(I)I" } : Jvm.MethodName)) ∈ lw_all := lw_g (lw_at lw_m0 189 rfl) rfl
theorem q204 : (Jvm.Cond.selects "FountainDeskModel" ({ cls := "FountainDeskModel", name := "piece", desc := "(I)I" } : Jvm.MethodName) ({ cls := "FountainDeskModel", name := "piece", desc := "(I)I" } : Jvm.MethodName)) ∈ lw_all := lw_g (lw_at lw_m0 190 rfl) rfl
theorem q205 : (Jvm.Cond.code ({ cls := "FountainDeskModel", name := "piece", desc := "(I)I" } : Jvm.MethodName) prog_3_method_9_code (2 : Nat) (Option.some Jvm.ClassFile.FieldType.int)) ∈ lw_all := lw_g (lw_at lw_m0 191 rfl) rfl
theorem q207 : (Jvm.Cond.instanceMethod ({ cls := "FountainDeskModel", name := "sum", desc := "(I)I" } : Jvm.MethodName)) ∈ lw_all := lw_g (lw_at lw_m0 193 rfl) rfl
theorem q208 : (Jvm.Cond.selects "FountainDeskModel" ({ cls := "FountainDeskModel", name := "sum", desc := "(I)I" } : Jvm.MethodName) ({ cls := "FountainDeskModel", name := "sum", desc := "(I)I" } : Jvm.MethodName)) ∈ lw_all := lw_g (lw_at lw_m0 194 rfl) rfl
theorem q209 : (Jvm.Cond.code ({ cls := "FountainDeskModel", name := "sum", desc := "(I)I" } : Jvm.MethodName) prog_3_method_10_code (2 : Nat) (Option.some Jvm.ClassFile.FieldType.int)) ∈ lw_all := lw_g (lw_at lw_m0 195 rfl) rfl
theorem q211 : (Jvm.Cond.instanceMethod ({ cls := "FountainDeskModel", name := "missing", desc := "()I" } : Jvm.MethodName)) ∈ lw_all := lw_g (lw_at lw_m0 197 rfl) rfl
theorem q212 : (Jvm.Cond.selects "FountainDeskModel" ({ cls := "FountainDeskModel", name := "missing", desc := "()I" } : Jvm.MethodName) ({ cls := "FountainDeskModel", name := "missing", desc := "()I" } : Jvm.MethodName)) ∈ lw_all := lw_g (lw_at lw_m0 198 rfl) rfl
theorem q213 : (Jvm.Cond.code ({ cls := "FountainDeskModel", name := "missing", desc := "()I" } : Jvm.MethodName) prog_3_method_12_code (3 : Nat) (Option.some Jvm.ClassFile.FieldType.int)) ∈ lw_all := lw_g (lw_at lw_m0 199 rfl) rfl
theorem q214 : (Jvm.Cond.methodLink "FountainDeskModel" (34 : Nat) ({ cls := "FountainDeskModel", name := "size", desc := "()I" } : Jvm.MethodName)) ∈ lw_all := lw_g (lw_at lw_m0 200 rfl) rfl
theorem q215 : (Jvm.Cond.privateMethod ({ cls := "FountainDeskModel", name := "size", desc := "()I" } : Jvm.MethodName)) ∈ lw_tbl := lw_at lw_m0 201 rfl
theorem q216 : (Jvm.Cond.instanceMethod ({ cls := "FountainDeskModel", name := "size", desc := "()I" } : Jvm.MethodName)) ∈ lw_all := lw_g (lw_at lw_m0 202 rfl) rfl
theorem q217 : (Jvm.Cond.code ({ cls := "FountainDeskModel", name := "size", desc := "()I" } : Jvm.MethodName) prog_3_method_11_code (3 : Nat) (Option.some Jvm.ClassFile.FieldType.int)) ∈ lw_all := lw_g (lw_at lw_m0 203 rfl) rfl
theorem q219 : (Jvm.Cond.instanceMethod ({ cls := "FountainDeskModel", name := "idle", desc := "(I)Z" } : Jvm.MethodName)) ∈ lw_all := lw_g (lw_at lw_m0 205 rfl) rfl
theorem q220 : (Jvm.Cond.selects "FountainDeskModel" ({ cls := "FountainDeskModel", name := "idle", desc := "(I)Z" } : Jvm.MethodName) ({ cls := "FountainDeskModel", name := "idle", desc := "(I)Z" } : Jvm.MethodName)) ∈ lw_all := lw_g (lw_at lw_m0 206 rfl) rfl
theorem q221 : (Jvm.Cond.code ({ cls := "FountainDeskModel", name := "idle", desc := "(I)Z" } : Jvm.MethodName) prog_3_method_13_code (2 : Nat) (Option.some Jvm.ClassFile.FieldType.boolean)) ∈ lw_all := lw_g (lw_at lw_m0 207 rfl) rfl
theorem q222 : (Jvm.Cond.methodLink "FountainDeskModel" (38 : Nat) ({ cls := "FountainDeskModel", name := "enough", desc := "(I)Z" } : Jvm.MethodName)) ∈ lw_all := lw_g (lw_at lw_m0 208 rfl) rfl
theorem q223 : (Jvm.Cond.instanceMethod ({ cls := "FountainDeskModel", name := "enough", desc := "(I)Z" } : Jvm.MethodName)) ∈ lw_all := lw_g (lw_at lw_m0 209 rfl) rfl
theorem q224 : (Jvm.Cond.selects "FountainDeskModel" ({ cls := "FountainDeskModel", name := "enough", desc := "(I)Z" } : Jvm.MethodName) ({ cls := "FountainDeskModel", name := "enough", desc := "(I)Z" } : Jvm.MethodName)) ∈ lw_all := lw_g (lw_at lw_m0 210 rfl) rfl
theorem q225 : (Jvm.Cond.code ({ cls := "FountainDeskModel", name := "enough", desc := "(I)Z" } : Jvm.MethodName) prog_3_method_19_code (3 : Nat) (Option.some Jvm.ClassFile.FieldType.boolean)) ∈ lw_all := lw_g (lw_at lw_m0 211 rfl) rfl
theorem q227 : (Jvm.Cond.instanceMethod ({ cls := "FountainDeskModel", name := "knownSums", desc := "()I" } : Jvm.MethodName)) ∈ lw_all := lw_g (lw_at lw_m0 213 rfl) rfl
theorem q228 : (Jvm.Cond.selects "FountainDeskModel" ({ cls := "FountainDeskModel", name := "knownSums", desc := "()I" } : Jvm.MethodName) ({ cls := "FountainDeskModel", name := "knownSums", desc := "()I" } : Jvm.MethodName)) ∈ lw_all := lw_g (lw_at lw_m0 214 rfl) rfl
theorem q229 : (Jvm.Cond.code ({ cls := "FountainDeskModel", name := "knownSums", desc := "()I" } : Jvm.MethodName) prog_3_method_14_code (1 : Nat) (Option.some Jvm.ClassFile.FieldType.int)) ∈ lw_all := lw_g (lw_at lw_m0 215 rfl) rfl
theorem q231 : (Jvm.Cond.instanceMethod ({ cls := "FountainDeskModel", name := "knownWith", desc := "(I)I" } : Jvm.MethodName)) ∈ lw_all := lw_g (lw_at lw_m0 217 rfl) rfl
theorem q232 : (Jvm.Cond.selects "FountainDeskModel" ({ cls := "FountainDeskModel", name := "knownWith", desc := "(I)I" } : Jvm.MethodName) ({ cls := "FountainDeskModel", name := "knownWith", desc := "(I)I" } : Jvm.MethodName)) ∈ lw_all := lw_g (lw_at lw_m0 218 rfl) rfl
theorem q233 : (Jvm.Cond.code ({ cls := "FountainDeskModel", name := "knownWith", desc := "(I)I" } : Jvm.MethodName) prog_3_method_15_code (2 : Nat) (Option.some Jvm.ClassFile.FieldType.int)) ∈ lw_all := lw_g (lw_at lw_m0 219 rfl) rfl
theorem q234 : (Jvm.Cond.methodLink "FountainDeskModel" (41 : Nat) ({ cls := "FountainDeskModel", name := "with", desc := "(I)I" } : Jvm.MethodName)) ∈ lw_all := lw_g (lw_at lw_m0 220 rfl) rfl
theorem q235 : (Jvm.Cond.privateMethod ({ cls := "FountainDeskModel", name := "with", desc := "(I)I" } : Jvm.MethodName)) ∈ lw_tbl := lw_at lw_m0 221 rfl
theorem q236 : (Jvm.Cond.instanceMethod ({ cls := "FountainDeskModel", name := "with", desc := "(I)I" } : Jvm.MethodName)) ∈ lw_all := lw_g (lw_at lw_m0 222 rfl) rfl
theorem q237 : (Jvm.Cond.code ({ cls := "FountainDeskModel", name := "with", desc := "(I)I" } : Jvm.MethodName) prog_3_method_16_code (4 : Nat) (Option.some Jvm.ClassFile.FieldType.int)) ∈ lw_all := lw_g (lw_at lw_m0 223 rfl) rfl
theorem q239 : (Jvm.Cond.instanceMethod ({ cls := "FountainDeskModel", name := "bestSet", desc := "()I" } : Jvm.MethodName)) ∈ lw_all := lw_g (lw_at lw_m0 225 rfl) rfl
theorem q240 : (Jvm.Cond.selects "FountainDeskModel" ({ cls := "FountainDeskModel", name := "bestSet", desc := "()I" } : Jvm.MethodName) ({ cls := "FountainDeskModel", name := "bestSet", desc := "()I" } : Jvm.MethodName)) ∈ lw_all := lw_g (lw_at lw_m0 226 rfl) rfl
theorem q241 : (Jvm.Cond.code ({ cls := "FountainDeskModel", name := "bestSet", desc := "()I" } : Jvm.MethodName) prog_3_method_17_code (3 : Nat) (Option.some Jvm.ClassFile.FieldType.int)) ∈ lw_all := lw_g (lw_at lw_m0 227 rfl) rfl
theorem q243 : (Jvm.Cond.instanceMethod ({ cls := "FountainDeskModel", name := "possible", desc := "(II)Z" } : Jvm.MethodName)) ∈ lw_all := lw_g (lw_at lw_m0 229 rfl) rfl
theorem q244 : (Jvm.Cond.selects "FountainDeskModel" ({ cls := "FountainDeskModel", name := "possible", desc := "(II)Z" } : Jvm.MethodName) ({ cls := "FountainDeskModel", name := "possible", desc := "(II)Z" } : Jvm.MethodName)) ∈ lw_all := lw_g (lw_at lw_m0 230 rfl) rfl
theorem q245 : (Jvm.Cond.code ({ cls := "FountainDeskModel", name := "possible", desc := "(II)Z" } : Jvm.MethodName) prog_3_method_18_code (4 : Nat) (Option.some Jvm.ClassFile.FieldType.boolean)) ∈ lw_all := lw_g (lw_at lw_m0 231 rfl) rfl
theorem q246 : (Jvm.Cond.methodLink "FountainDeskModel" (45 : Nat) ({ cls := "FountainDeskModel", name := "piece", desc := "(I)I" } : Jvm.MethodName)) ∈ lw_all := lw_g (lw_at lw_m0 232 rfl) rfl
theorem in_X1 : ∀ w ∈ wsX10, w ∈ lw_all := lw_in wsX10 [163, 165, 167, 169] (by decide +kernel) (by decide +kernel)
end
section
/-! the law's own entry -/
set_option maxRecDepth 100000
abbrev cL_law : ByteArray := code
theorem dL_law_0 : decode cL_law 0 = .ok (.new 7, 3) := by decide +kernel
theorem dL_law_3 : decode cL_law 3 = .ok (.dup, 1) := by decide +kernel
theorem dL_law_4 : decode cL_law 4 = .ok (.invokespecial 9, 3) := by decide +kernel
theorem dL_law_7 : decode cL_law 7 = .ok (.astore_n 1, 1) := by decide +kernel
theorem dL_law_8 : decode cL_law 8 = .ok (.new 10, 3) := by decide +kernel
theorem dL_law_11 : decode cL_law 11 = .ok (.dup, 1) := by decide +kernel
theorem dL_law_12 : decode cL_law 12 = .ok (.invokespecial 12, 3) := by decide +kernel
theorem dL_law_15 : decode cL_law 15 = .ok (.astore_n 2, 1) := by decide +kernel
theorem dL_law_16 : decode cL_law 16 = .ok (.iconst 0, 1) := by decide +kernel
theorem dL_law_17 : decode cL_law 17 = .ok (.istore_n 3, 1) := by decide +kernel
theorem dL_law_18 : decode cL_law 18 = .ok (.iload_n 3, 1) := by decide +kernel
theorem dL_law_19 : decode cL_law 19 = .ok (.aload_n 0, 1) := by decide +kernel
theorem dL_law_20 : decode cL_law 20 = .ok (.arraylength, 1) := by decide +kernel
theorem dL_law_21 : decode cL_law 21 = .ok (.iconst 3, 1) := by decide +kernel
theorem dL_law_22 : decode cL_law 22 = .ok (.isub, 1) := by decide +kernel
theorem dL_law_23 : decode cL_law 23 = .ok (.if_icmp .gt 352, 3) := by decide +kernel
theorem dL_law_26 : decode cL_law 26 = .ok (.aload_n 0, 1) := by decide +kernel
theorem dL_law_27 : decode cL_law 27 = .ok (.iload_n 3, 1) := by decide +kernel
theorem dL_law_28 : decode cL_law 28 = .ok (.iaload, 1) := by decide +kernel
theorem dL_law_29 : decode cL_law 29 = .ok (.bipush 15, 2) := by decide +kernel
theorem dL_law_31 : decode cL_law 31 = .ok (.iand, 1) := by decide +kernel
theorem dL_law_32 : decode cL_law 32 = .ok (.tableswitch 337 0 12 #[68, 101, 124, 137, 150, 173, 196, 209, 232, 245, 268, 281, 314], 68) := by decide +kernel
theorem dL_law_100 : decode cL_law 100 = .ok (.aload_n 1, 1) := by decide +kernel
theorem dL_law_101 : decode cL_law 101 = .ok (.aload_n 0, 1) := by decide +kernel
theorem dL_law_102 : decode cL_law 102 = .ok (.iload_n 3, 1) := by decide +kernel
theorem dL_law_103 : decode cL_law 103 = .ok (.iconst 1, 1) := by decide +kernel
theorem dL_law_104 : decode cL_law 104 = .ok (.iadd, 1) := by decide +kernel
theorem dL_law_105 : decode cL_law 105 = .ok (.iaload, 1) := by decide +kernel
theorem dL_law_106 : decode cL_law 106 = .ok (.aload_n 0, 1) := by decide +kernel
theorem dL_law_107 : decode cL_law 107 = .ok (.iload_n 3, 1) := by decide +kernel
theorem dL_law_108 : decode cL_law 108 = .ok (.iconst 2, 1) := by decide +kernel
theorem dL_law_109 : decode cL_law 109 = .ok (.iadd, 1) := by decide +kernel
theorem dL_law_110 : decode cL_law 110 = .ok (.iaload, 1) := by decide +kernel
theorem dL_law_111 : decode cL_law 111 = .ok (.invokevirtual 13, 3) := by decide +kernel
theorem dL_law_114 : decode cL_law 114 = .ok (.aload_n 2, 1) := by decide +kernel
theorem dL_law_115 : decode cL_law 115 = .ok (.aload_n 0, 1) := by decide +kernel
theorem dL_law_116 : decode cL_law 116 = .ok (.iload_n 3, 1) := by decide +kernel
theorem dL_law_117 : decode cL_law 117 = .ok (.iconst 1, 1) := by decide +kernel
theorem dL_law_118 : decode cL_law 118 = .ok (.iadd, 1) := by decide +kernel
theorem dL_law_119 : decode cL_law 119 = .ok (.iaload, 1) := by decide +kernel
theorem dL_law_120 : decode cL_law 120 = .ok (.aload_n 0, 1) := by decide +kernel
theorem dL_law_121 : decode cL_law 121 = .ok (.iload_n 3, 1) := by decide +kernel
theorem dL_law_122 : decode cL_law 122 = .ok (.iconst 2, 1) := by decide +kernel
theorem dL_law_123 : decode cL_law 123 = .ok (.iadd, 1) := by decide +kernel
theorem dL_law_124 : decode cL_law 124 = .ok (.iaload, 1) := by decide +kernel
theorem dL_law_125 : decode cL_law 125 = .ok (.invokevirtual 17, 3) := by decide +kernel
theorem dL_law_128 : decode cL_law 128 = .ok (.if_icmp .eq 241, 3) := by decide +kernel
theorem dL_law_131 : decode cL_law 131 = .ok (.iconst 0, 1) := by decide +kernel
theorem dL_law_132 : decode cL_law 132 = .ok (.ireturn, 1) := by decide +kernel
theorem dL_law_133 : decode cL_law 133 = .ok (.aload_n 1, 1) := by decide +kernel
theorem dL_law_134 : decode cL_law 134 = .ok (.aload_n 0, 1) := by decide +kernel
theorem dL_law_135 : decode cL_law 135 = .ok (.iload_n 3, 1) := by decide +kernel
theorem dL_law_136 : decode cL_law 136 = .ok (.iconst 1, 1) := by decide +kernel
theorem dL_law_137 : decode cL_law 137 = .ok (.iadd, 1) := by decide +kernel
theorem dL_law_138 : decode cL_law 138 = .ok (.iaload, 1) := by decide +kernel
theorem dL_law_139 : decode cL_law 139 = .ok (.invokevirtual 18, 3) := by decide +kernel
theorem dL_law_142 : decode cL_law 142 = .ok (.aload_n 2, 1) := by decide +kernel
theorem dL_law_143 : decode cL_law 143 = .ok (.aload_n 0, 1) := by decide +kernel
theorem dL_law_144 : decode cL_law 144 = .ok (.iload_n 3, 1) := by decide +kernel
theorem dL_law_145 : decode cL_law 145 = .ok (.iconst 1, 1) := by decide +kernel
theorem dL_law_146 : decode cL_law 146 = .ok (.iadd, 1) := by decide +kernel
theorem dL_law_147 : decode cL_law 147 = .ok (.iaload, 1) := by decide +kernel
theorem dL_law_148 : decode cL_law 148 = .ok (.invokevirtual 22, 3) := by decide +kernel
theorem dL_law_151 : decode cL_law 151 = .ok (.if_icmp .eq 218, 3) := by decide +kernel
theorem dL_law_154 : decode cL_law 154 = .ok (.iconst 0, 1) := by decide +kernel
theorem dL_law_155 : decode cL_law 155 = .ok (.ireturn, 1) := by decide +kernel
theorem dL_law_156 : decode cL_law 156 = .ok (.aload_n 1, 1) := by decide +kernel
theorem dL_law_157 : decode cL_law 157 = .ok (.invokevirtual 23, 3) := by decide +kernel
theorem dL_law_160 : decode cL_law 160 = .ok (.aload_n 2, 1) := by decide +kernel
theorem dL_law_161 : decode cL_law 161 = .ok (.invokevirtual 27, 3) := by decide +kernel
theorem dL_law_164 : decode cL_law 164 = .ok (.if_icmp .eq 205, 3) := by decide +kernel
theorem dL_law_167 : decode cL_law 167 = .ok (.iconst 0, 1) := by decide +kernel
theorem dL_law_168 : decode cL_law 168 = .ok (.ireturn, 1) := by decide +kernel
theorem dL_law_169 : decode cL_law 169 = .ok (.aload_n 1, 1) := by decide +kernel
theorem dL_law_170 : decode cL_law 170 = .ok (.invokevirtual 28, 3) := by decide +kernel
theorem dL_law_173 : decode cL_law 173 = .ok (.aload_n 2, 1) := by decide +kernel
theorem dL_law_174 : decode cL_law 174 = .ok (.invokevirtual 31, 3) := by decide +kernel
theorem dL_law_177 : decode cL_law 177 = .ok (.if_icmp .eq 192, 3) := by decide +kernel
theorem dL_law_180 : decode cL_law 180 = .ok (.iconst 0, 1) := by decide +kernel
theorem dL_law_181 : decode cL_law 181 = .ok (.ireturn, 1) := by decide +kernel
theorem dL_law_182 : decode cL_law 182 = .ok (.aload_n 1, 1) := by decide +kernel
theorem dL_law_183 : decode cL_law 183 = .ok (.aload_n 0, 1) := by decide +kernel
theorem dL_law_184 : decode cL_law 184 = .ok (.iload_n 3, 1) := by decide +kernel
theorem dL_law_185 : decode cL_law 185 = .ok (.iconst 1, 1) := by decide +kernel
theorem dL_law_186 : decode cL_law 186 = .ok (.iadd, 1) := by decide +kernel
theorem dL_law_187 : decode cL_law 187 = .ok (.iaload, 1) := by decide +kernel
theorem dL_law_188 : decode cL_law 188 = .ok (.invokevirtual 32, 3) := by decide +kernel
theorem dL_law_191 : decode cL_law 191 = .ok (.aload_n 2, 1) := by decide +kernel
theorem dL_law_192 : decode cL_law 192 = .ok (.aload_n 0, 1) := by decide +kernel
theorem dL_law_193 : decode cL_law 193 = .ok (.iload_n 3, 1) := by decide +kernel
theorem dL_law_194 : decode cL_law 194 = .ok (.iconst 1, 1) := by decide +kernel
theorem dL_law_195 : decode cL_law 195 = .ok (.iadd, 1) := by decide +kernel
theorem dL_law_196 : decode cL_law 196 = .ok (.iaload, 1) := by decide +kernel
theorem dL_law_197 : decode cL_law 197 = .ok (.invokevirtual 36, 3) := by decide +kernel
theorem dL_law_200 : decode cL_law 200 = .ok (.if_icmp .eq 169, 3) := by decide +kernel
theorem dL_law_203 : decode cL_law 203 = .ok (.iconst 0, 1) := by decide +kernel
theorem dL_law_204 : decode cL_law 204 = .ok (.ireturn, 1) := by decide +kernel
theorem dL_law_205 : decode cL_law 205 = .ok (.aload_n 1, 1) := by decide +kernel
theorem dL_law_206 : decode cL_law 206 = .ok (.aload_n 0, 1) := by decide +kernel
theorem dL_law_207 : decode cL_law 207 = .ok (.iload_n 3, 1) := by decide +kernel
theorem dL_law_208 : decode cL_law 208 = .ok (.iconst 1, 1) := by decide +kernel
theorem dL_law_209 : decode cL_law 209 = .ok (.iadd, 1) := by decide +kernel
theorem dL_law_210 : decode cL_law 210 = .ok (.iaload, 1) := by decide +kernel
theorem dL_law_211 : decode cL_law 211 = .ok (.invokevirtual 37, 3) := by decide +kernel
theorem dL_law_214 : decode cL_law 214 = .ok (.aload_n 2, 1) := by decide +kernel
theorem dL_law_215 : decode cL_law 215 = .ok (.aload_n 0, 1) := by decide +kernel
theorem dL_law_216 : decode cL_law 216 = .ok (.iload_n 3, 1) := by decide +kernel
theorem dL_law_217 : decode cL_law 217 = .ok (.iconst 1, 1) := by decide +kernel
theorem dL_law_218 : decode cL_law 218 = .ok (.iadd, 1) := by decide +kernel
theorem dL_law_219 : decode cL_law 219 = .ok (.iaload, 1) := by decide +kernel
theorem dL_law_220 : decode cL_law 220 = .ok (.invokevirtual 40, 3) := by decide +kernel
theorem dL_law_223 : decode cL_law 223 = .ok (.if_icmp .eq 146, 3) := by decide +kernel
theorem dL_law_226 : decode cL_law 226 = .ok (.iconst 0, 1) := by decide +kernel
theorem dL_law_227 : decode cL_law 227 = .ok (.ireturn, 1) := by decide +kernel
theorem dL_law_228 : decode cL_law 228 = .ok (.aload_n 1, 1) := by decide +kernel
theorem dL_law_229 : decode cL_law 229 = .ok (.invokevirtual 41, 3) := by decide +kernel
theorem dL_law_232 : decode cL_law 232 = .ok (.aload_n 2, 1) := by decide +kernel
theorem dL_law_233 : decode cL_law 233 = .ok (.invokevirtual 44, 3) := by decide +kernel
theorem dL_law_236 : decode cL_law 236 = .ok (.if_icmp .eq 133, 3) := by decide +kernel
theorem dL_law_239 : decode cL_law 239 = .ok (.iconst 0, 1) := by decide +kernel
theorem dL_law_240 : decode cL_law 240 = .ok (.ireturn, 1) := by decide +kernel
theorem dL_law_241 : decode cL_law 241 = .ok (.aload_n 1, 1) := by decide +kernel
theorem dL_law_242 : decode cL_law 242 = .ok (.aload_n 0, 1) := by decide +kernel
theorem dL_law_243 : decode cL_law 243 = .ok (.iload_n 3, 1) := by decide +kernel
theorem dL_law_244 : decode cL_law 244 = .ok (.iconst 1, 1) := by decide +kernel
theorem dL_law_245 : decode cL_law 245 = .ok (.iadd, 1) := by decide +kernel
theorem dL_law_246 : decode cL_law 246 = .ok (.iaload, 1) := by decide +kernel
theorem dL_law_247 : decode cL_law 247 = .ok (.invokevirtual 45, 3) := by decide +kernel
theorem dL_law_250 : decode cL_law 250 = .ok (.aload_n 2, 1) := by decide +kernel
theorem dL_law_251 : decode cL_law 251 = .ok (.aload_n 0, 1) := by decide +kernel
theorem dL_law_252 : decode cL_law 252 = .ok (.iload_n 3, 1) := by decide +kernel
theorem dL_law_253 : decode cL_law 253 = .ok (.iconst 1, 1) := by decide +kernel
theorem dL_law_254 : decode cL_law 254 = .ok (.iadd, 1) := by decide +kernel
theorem dL_law_255 : decode cL_law 255 = .ok (.iaload, 1) := by decide +kernel
theorem dL_law_256 : decode cL_law 256 = .ok (.invokevirtual 48, 3) := by decide +kernel
theorem dL_law_259 : decode cL_law 259 = .ok (.if_icmp .eq 110, 3) := by decide +kernel
theorem dL_law_262 : decode cL_law 262 = .ok (.iconst 0, 1) := by decide +kernel
theorem dL_law_263 : decode cL_law 263 = .ok (.ireturn, 1) := by decide +kernel
theorem dL_law_264 : decode cL_law 264 = .ok (.aload_n 1, 1) := by decide +kernel
theorem dL_law_265 : decode cL_law 265 = .ok (.invokevirtual 49, 3) := by decide +kernel
theorem dL_law_268 : decode cL_law 268 = .ok (.aload_n 2, 1) := by decide +kernel
theorem dL_law_269 : decode cL_law 269 = .ok (.invokevirtual 52, 3) := by decide +kernel
theorem dL_law_272 : decode cL_law 272 = .ok (.if_icmp .eq 97, 3) := by decide +kernel
theorem dL_law_275 : decode cL_law 275 = .ok (.iconst 0, 1) := by decide +kernel
theorem dL_law_276 : decode cL_law 276 = .ok (.ireturn, 1) := by decide +kernel
theorem dL_law_277 : decode cL_law 277 = .ok (.aload_n 1, 1) := by decide +kernel
theorem dL_law_278 : decode cL_law 278 = .ok (.aload_n 0, 1) := by decide +kernel
theorem dL_law_279 : decode cL_law 279 = .ok (.iload_n 3, 1) := by decide +kernel
theorem dL_law_280 : decode cL_law 280 = .ok (.iconst 1, 1) := by decide +kernel
theorem dL_law_281 : decode cL_law 281 = .ok (.iadd, 1) := by decide +kernel
theorem dL_law_282 : decode cL_law 282 = .ok (.iaload, 1) := by decide +kernel
theorem dL_law_283 : decode cL_law 283 = .ok (.invokevirtual 53, 3) := by decide +kernel
theorem dL_law_286 : decode cL_law 286 = .ok (.aload_n 2, 1) := by decide +kernel
theorem dL_law_287 : decode cL_law 287 = .ok (.aload_n 0, 1) := by decide +kernel
theorem dL_law_288 : decode cL_law 288 = .ok (.iload_n 3, 1) := by decide +kernel
theorem dL_law_289 : decode cL_law 289 = .ok (.iconst 1, 1) := by decide +kernel
theorem dL_law_290 : decode cL_law 290 = .ok (.iadd, 1) := by decide +kernel
theorem dL_law_291 : decode cL_law 291 = .ok (.iaload, 1) := by decide +kernel
theorem dL_law_292 : decode cL_law 292 = .ok (.invokevirtual 56, 3) := by decide +kernel
theorem dL_law_295 : decode cL_law 295 = .ok (.if_icmp .eq 74, 3) := by decide +kernel
theorem dL_law_298 : decode cL_law 298 = .ok (.iconst 0, 1) := by decide +kernel
theorem dL_law_299 : decode cL_law 299 = .ok (.ireturn, 1) := by decide +kernel
theorem dL_law_300 : decode cL_law 300 = .ok (.aload_n 1, 1) := by decide +kernel
theorem dL_law_301 : decode cL_law 301 = .ok (.invokevirtual 57, 3) := by decide +kernel
theorem dL_law_304 : decode cL_law 304 = .ok (.aload_n 2, 1) := by decide +kernel
theorem dL_law_305 : decode cL_law 305 = .ok (.invokevirtual 60, 3) := by decide +kernel
theorem dL_law_308 : decode cL_law 308 = .ok (.if_icmp .eq 61, 3) := by decide +kernel
theorem dL_law_311 : decode cL_law 311 = .ok (.iconst 0, 1) := by decide +kernel
theorem dL_law_312 : decode cL_law 312 = .ok (.ireturn, 1) := by decide +kernel
theorem dL_law_313 : decode cL_law 313 = .ok (.aload_n 1, 1) := by decide +kernel
theorem dL_law_314 : decode cL_law 314 = .ok (.aload_n 0, 1) := by decide +kernel
theorem dL_law_315 : decode cL_law 315 = .ok (.iload_n 3, 1) := by decide +kernel
theorem dL_law_316 : decode cL_law 316 = .ok (.iconst 1, 1) := by decide +kernel
theorem dL_law_317 : decode cL_law 317 = .ok (.iadd, 1) := by decide +kernel
theorem dL_law_318 : decode cL_law 318 = .ok (.iaload, 1) := by decide +kernel
theorem dL_law_319 : decode cL_law 319 = .ok (.aload_n 0, 1) := by decide +kernel
theorem dL_law_320 : decode cL_law 320 = .ok (.iload_n 3, 1) := by decide +kernel
theorem dL_law_321 : decode cL_law 321 = .ok (.iconst 2, 1) := by decide +kernel
theorem dL_law_322 : decode cL_law 322 = .ok (.iadd, 1) := by decide +kernel
theorem dL_law_323 : decode cL_law 323 = .ok (.iaload, 1) := by decide +kernel
theorem dL_law_324 : decode cL_law 324 = .ok (.invokevirtual 61, 3) := by decide +kernel
theorem dL_law_327 : decode cL_law 327 = .ok (.aload_n 2, 1) := by decide +kernel
theorem dL_law_328 : decode cL_law 328 = .ok (.aload_n 0, 1) := by decide +kernel
theorem dL_law_329 : decode cL_law 329 = .ok (.iload_n 3, 1) := by decide +kernel
theorem dL_law_330 : decode cL_law 330 = .ok (.iconst 1, 1) := by decide +kernel
theorem dL_law_331 : decode cL_law 331 = .ok (.iadd, 1) := by decide +kernel
theorem dL_law_332 : decode cL_law 332 = .ok (.iaload, 1) := by decide +kernel
theorem dL_law_333 : decode cL_law 333 = .ok (.aload_n 0, 1) := by decide +kernel
theorem dL_law_334 : decode cL_law 334 = .ok (.iload_n 3, 1) := by decide +kernel
theorem dL_law_335 : decode cL_law 335 = .ok (.iconst 2, 1) := by decide +kernel
theorem dL_law_336 : decode cL_law 336 = .ok (.iadd, 1) := by decide +kernel
theorem dL_law_337 : decode cL_law 337 = .ok (.iaload, 1) := by decide +kernel
theorem dL_law_338 : decode cL_law 338 = .ok (.invokevirtual 65, 3) := by decide +kernel
theorem dL_law_341 : decode cL_law 341 = .ok (.if_icmp .eq 28, 3) := by decide +kernel
theorem dL_law_344 : decode cL_law 344 = .ok (.iconst 0, 1) := by decide +kernel
theorem dL_law_345 : decode cL_law 345 = .ok (.ireturn, 1) := by decide +kernel
theorem dL_law_346 : decode cL_law 346 = .ok (.aload_n 1, 1) := by decide +kernel
theorem dL_law_347 : decode cL_law 347 = .ok (.aload_n 0, 1) := by decide +kernel
theorem dL_law_348 : decode cL_law 348 = .ok (.iload_n 3, 1) := by decide +kernel
theorem dL_law_349 : decode cL_law 349 = .ok (.iconst 1, 1) := by decide +kernel
theorem dL_law_350 : decode cL_law 350 = .ok (.iadd, 1) := by decide +kernel
theorem dL_law_351 : decode cL_law 351 = .ok (.iaload, 1) := by decide +kernel
theorem dL_law_352 : decode cL_law 352 = .ok (.invokevirtual 66, 3) := by decide +kernel
theorem dL_law_355 : decode cL_law 355 = .ok (.aload_n 2, 1) := by decide +kernel
theorem dL_law_356 : decode cL_law 356 = .ok (.aload_n 0, 1) := by decide +kernel
theorem dL_law_357 : decode cL_law 357 = .ok (.iload_n 3, 1) := by decide +kernel
theorem dL_law_358 : decode cL_law 358 = .ok (.iconst 1, 1) := by decide +kernel
theorem dL_law_359 : decode cL_law 359 = .ok (.iadd, 1) := by decide +kernel
theorem dL_law_360 : decode cL_law 360 = .ok (.iaload, 1) := by decide +kernel
theorem dL_law_361 : decode cL_law 361 = .ok (.invokevirtual 69, 3) := by decide +kernel
theorem dL_law_364 : decode cL_law 364 = .ok (.if_icmp .eq 5, 3) := by decide +kernel
theorem dL_law_367 : decode cL_law 367 = .ok (.iconst 0, 1) := by decide +kernel
theorem dL_law_368 : decode cL_law 368 = .ok (.ireturn, 1) := by decide +kernel
theorem dL_law_369 : decode cL_law 369 = .ok (.iinc 3 3, 3) := by decide +kernel
theorem dL_law_372 : decode cL_law 372 = .ok (.goto (-354), 3) := by decide +kernel
theorem dL_law_375 : decode cL_law 375 = .ok (.iconst 1, 1) := by decide +kernel
theorem dL_law_376 : decode cL_law 376 = .ok (.ireturn, 1) := by decide +kernel
theorem q14 : (Jvm.Cond.initialized "FountainDeskLaw") ∈ lw_all := lw_g (lw_at lw_m0 0 rfl) rfl
set_option maxRecDepth 100000
theorem q17 : (Jvm.Cond.classLink "FountainDeskLaw" (7 : Nat) "FountainDesk") ∈ lw_all := lw_g (lw_at lw_m0 3 rfl) rfl
theorem q19 : (Jvm.Cond.methodLink "FountainDeskLaw" (9 : Nat) ({ cls := "FountainDesk", name := "<init>", desc := "()V" } : Jvm.MethodName)) ∈ lw_all := lw_g (lw_at lw_m0 5 rfl) rfl
theorem q54 : (Jvm.Cond.methodLink "FountainDeskLaw" (13 : Nat) ({ cls := "FountainDesk", name := "take", desc := "(II)I" } : Jvm.MethodName)) ∈ lw_all := lw_g (lw_at lw_m0 40 rfl) rfl
theorem q88 : (Jvm.Cond.methodLink "FountainDeskLaw" (18 : Nat) ({ cls := "FountainDesk", name := "drop", desc := "(I)Z" } : Jvm.MethodName)) ∈ lw_all := lw_g (lw_at lw_m0 74 rfl) rfl
theorem q92 : (Jvm.Cond.methodLink "FountainDeskLaw" (23 : Nat) ({ cls := "FountainDesk", name := "drops", desc := "()I" } : Jvm.MethodName)) ∈ lw_all := lw_g (lw_at lw_m0 78 rfl) rfl
theorem q96 : (Jvm.Cond.methodLink "FountainDeskLaw" (28 : Nat) ({ cls := "FountainDesk", name := "known", desc := "()I" } : Jvm.MethodName)) ∈ lw_all := lw_g (lw_at lw_m0 82 rfl) rfl
theorem q104 : (Jvm.Cond.methodLink "FountainDeskLaw" (32 : Nat) ({ cls := "FountainDesk", name := "piece", desc := "(I)I" } : Jvm.MethodName)) ∈ lw_all := lw_g (lw_at lw_m0 90 rfl) rfl
theorem q108 : (Jvm.Cond.methodLink "FountainDeskLaw" (37 : Nat) ({ cls := "FountainDesk", name := "sum", desc := "(I)I" } : Jvm.MethodName)) ∈ lw_all := lw_g (lw_at lw_m0 94 rfl) rfl
theorem q112 : (Jvm.Cond.methodLink "FountainDeskLaw" (41 : Nat) ({ cls := "FountainDesk", name := "missing", desc := "()I" } : Jvm.MethodName)) ∈ lw_all := lw_g (lw_at lw_m0 98 rfl) rfl
theorem q116 : (Jvm.Cond.methodLink "FountainDeskLaw" (45 : Nat) ({ cls := "FountainDesk", name := "idle", desc := "(I)Z" } : Jvm.MethodName)) ∈ lw_all := lw_g (lw_at lw_m0 102 rfl) rfl
theorem q128 : (Jvm.Cond.methodLink "FountainDeskLaw" (49 : Nat) ({ cls := "FountainDesk", name := "knownSums", desc := "()I" } : Jvm.MethodName)) ∈ lw_all := lw_g (lw_at lw_m0 114 rfl) rfl
theorem q132 : (Jvm.Cond.methodLink "FountainDeskLaw" (53 : Nat) ({ cls := "FountainDesk", name := "knownWith", desc := "(I)I" } : Jvm.MethodName)) ∈ lw_all := lw_g (lw_at lw_m0 118 rfl) rfl
theorem q143 : (Jvm.Cond.methodLink "FountainDeskLaw" (57 : Nat) ({ cls := "FountainDesk", name := "bestSet", desc := "()I" } : Jvm.MethodName)) ∈ lw_all := lw_g (lw_at lw_m0 129 rfl) rfl
theorem q147 : (Jvm.Cond.methodLink "FountainDeskLaw" (61 : Nat) ({ cls := "FountainDesk", name := "possible", desc := "(II)Z" } : Jvm.MethodName)) ∈ lw_all := lw_g (lw_at lw_m0 133 rfl) rfl
theorem q152 : (Jvm.Cond.methodLink "FountainDeskLaw" (66 : Nat) ({ cls := "FountainDesk", name := "enough", desc := "(I)Z" } : Jvm.MethodName)) ∈ lw_all := lw_g (lw_at lw_m0 138 rfl) rfl
theorem q153 : (Jvm.Cond.classLink "FountainDeskLaw" (10 : Nat) "FountainDeskModel") ∈ lw_all := lw_g (lw_at lw_m0 139 rfl) rfl
theorem q155 : (Jvm.Cond.methodLink "FountainDeskLaw" (12 : Nat) ({ cls := "FountainDeskModel", name := "<init>", desc := "()V" } : Jvm.MethodName)) ∈ lw_all := lw_g (lw_at lw_m0 141 rfl) rfl
theorem q174 : (Jvm.Cond.methodLink "FountainDeskLaw" (17 : Nat) ({ cls := "FountainDeskModel", name := "take", desc := "(II)I" } : Jvm.MethodName)) ∈ lw_all := lw_g (lw_at lw_m0 160 rfl) rfl
theorem q190 : (Jvm.Cond.methodLink "FountainDeskLaw" (22 : Nat) ({ cls := "FountainDeskModel", name := "drop", desc := "(I)Z" } : Jvm.MethodName)) ∈ lw_all := lw_g (lw_at lw_m0 176 rfl) rfl
theorem q194 : (Jvm.Cond.methodLink "FountainDeskLaw" (27 : Nat) ({ cls := "FountainDeskModel", name := "drops", desc := "()I" } : Jvm.MethodName)) ∈ lw_all := lw_g (lw_at lw_m0 180 rfl) rfl
theorem q198 : (Jvm.Cond.methodLink "FountainDeskLaw" (31 : Nat) ({ cls := "FountainDeskModel", name := "known", desc := "()I" } : Jvm.MethodName)) ∈ lw_all := lw_g (lw_at lw_m0 184 rfl) rfl
theorem q202 : (Jvm.Cond.methodLink "FountainDeskLaw" (36 : Nat) ({ cls := "FountainDeskModel", name := "piece", desc := "(I)I" } : Jvm.MethodName)) ∈ lw_all := lw_g (lw_at lw_m0 188 rfl) rfl
theorem q206 : (Jvm.Cond.methodLink "FountainDeskLaw" (40 : Nat) ({ cls := "FountainDeskModel", name := "sum", desc := "(I)I" } : Jvm.MethodName)) ∈ lw_all := lw_g (lw_at lw_m0 192 rfl) rfl
theorem q210 : (Jvm.Cond.methodLink "FountainDeskLaw" (44 : Nat) ({ cls := "FountainDeskModel", name := "missing", desc := "()I" } : Jvm.MethodName)) ∈ lw_all := lw_g (lw_at lw_m0 196 rfl) rfl
theorem q218 : (Jvm.Cond.methodLink "FountainDeskLaw" (48 : Nat) ({ cls := "FountainDeskModel", name := "idle", desc := "(I)Z" } : Jvm.MethodName)) ∈ lw_all := lw_g (lw_at lw_m0 204 rfl) rfl
theorem q226 : (Jvm.Cond.methodLink "FountainDeskLaw" (52 : Nat) ({ cls := "FountainDeskModel", name := "knownSums", desc := "()I" } : Jvm.MethodName)) ∈ lw_all := lw_g (lw_at lw_m0 212 rfl) rfl
theorem q230 : (Jvm.Cond.methodLink "FountainDeskLaw" (56 : Nat) ({ cls := "FountainDeskModel", name := "knownWith", desc := "(I)I" } : Jvm.MethodName)) ∈ lw_all := lw_g (lw_at lw_m0 216 rfl) rfl
theorem q238 : (Jvm.Cond.methodLink "FountainDeskLaw" (60 : Nat) ({ cls := "FountainDeskModel", name := "bestSet", desc := "()I" } : Jvm.MethodName)) ∈ lw_all := lw_g (lw_at lw_m0 224 rfl) rfl
theorem q242 : (Jvm.Cond.methodLink "FountainDeskLaw" (65 : Nat) ({ cls := "FountainDeskModel", name := "possible", desc := "(II)Z" } : Jvm.MethodName)) ∈ lw_all := lw_g (lw_at lw_m0 228 rfl) rfl
theorem q247 : (Jvm.Cond.methodLink "FountainDeskLaw" (69 : Nat) ({ cls := "FountainDeskModel", name := "enough", desc := "(I)Z" } : Jvm.MethodName)) ∈ lw_all := lw_g (lw_at lw_m0 233 rfl) rfl
theorem q53 : (Jvm.Cond.arrayClass Jvm.ClassFile.FieldType.short) ∈ lw_all := lw_g (lw_at lw_m0 39 rfl) rfl
theorem q172 : (Jvm.Cond.arrayClass Jvm.ClassFile.FieldType.boolean) ∈ lw_all := lw_g (lw_at lw_m0 158 rfl) rfl
theorem q173 : (Jvm.Cond.arrayClass Jvm.ClassFile.FieldType.int) ∈ lw_all := lw_g (lw_at lw_m0 159 rfl) rfl
/-! java/lang/Object -/
set_option maxRecDepth 100000
def RJ0 : String := "java/lang/Object"
abbrev cJ0_init : ByteArray := object_method_1_code
def yJ0_init : MethodName := ⟨RJ0, "<init>", "()V"⟩
theorem dJ0_init_0 : decode cJ0_init 0 = .ok (.return_, 1) := by decide +kernel
theorem q23 : (Jvm.Cond.instanceMethod ({ cls := "java/lang/Object", name := "<init>", desc := "()V" } : Jvm.MethodName)) ∈ lw_all := lw_g (lw_at lw_m0 9 rfl) rfl
theorem q24 : (Jvm.Cond.code ({ cls := "java/lang/Object", name := "<init>", desc := "()V" } : Jvm.MethodName) object_method_1_code (1 : Nat) (Option.none : Option Jvm.ClassFile.FieldType)) ∈ lw_all := lw_g (lw_at lw_m0 10 rfl) rfl
end
section
/-! THE PLAIN LAW (no program in sight): sums of rows over GF(2), as numbers under exclusive or -/
/-- the exclusive or of those f j, j < n, whose bit stands in a -/
def pu_cb (f : Nat → Nat) : Nat → Nat → Nat
  | 0, _ => 0
  | n + 1, a => pu_cb f n a ^^^ (if a.testBit n = true then f n else 0)
/-- what sums (set, value) the first k drops make, those of the mask m alone -/
def pu_sp (m : Nat) (S V : Nat → Nat) : Nat → Nat → Nat → Prop
  | 0, s, v => s = 0 ∧ v = 0
  | k + 1, s, v => pu_sp m S V k s v ∨ (m.testBit k = true ∧ pu_sp m S V k (s ^^^ S k) (v ^^^ V k))
def pu_up (f : Nat → Nat) (k x : Nat) : Nat → Nat := fun j => if j = k then x else f j
theorem pu_xx (a b : Nat) : a ^^^ (a ^^^ b) = b := by rw [← Nat.xor_assoc, Nat.xor_self, Nat.zero_xor]
theorem pu_xy (a b : Nat) : (a ^^^ b) ^^^ b = a := by rw [Nat.xor_assoc, Nat.xor_self, Nat.xor_zero]
theorem pu_mv {x y z : Nat} : x ^^^ y = z ↔ x = z ^^^ y := by
  constructor
  · intro h
    rw [← h, pu_xy]
  · intro h
    rw [h, pu_xy]
theorem pu_x0 {x y : Nat} : x ^^^ y = 0 ↔ x = y := by
  rw [pu_mv, Nat.zero_xor]
theorem pu_can {x y z : Nat} : x ^^^ z = y ^^^ z ↔ x = y := by
  rw [pu_mv, pu_xy]
theorem pu_lt8 {a b : Nat} (ha : a < 256) (hb : b < 256) : a ^^^ b < 256 := Nat.xor_lt_two_pow (n := 8) ha hb
theorem pu_cb_xor (f : Nat → Nat) (n a b : Nat) : pu_cb f n (a ^^^ b) = pu_cb f n a ^^^ pu_cb f n b := by
  induction n with
  | zero => simp [pu_cb]
  | succ n ih =>
    have h4 : ∀ p q r t : Nat, (p ^^^ q) ^^^ (r ^^^ t) = (p ^^^ r) ^^^ (q ^^^ t) := by intro p q r t; ac_rfl
    simp only [pu_cb, ih, Nat.testBit_xor]
    rw [h4]
    congr 1
    cases a.testBit n <;> cases b.testBit n <;> simp
theorem pu_cb_lt {f : Nat → Nat} {n : Nat} (a : Nat) (h : ∀ j, j < n → f j < 256) : pu_cb f n a < 256 := by
  induction n with
  | zero => simp [pu_cb]
  | succ n ih =>
    have h1 := ih (fun j hj => h j (by omega))
    have h2 := h n (by omega)
    show pu_cb f n a ^^^ _ < 256
    refine pu_lt8 h1 ?_
    split <;> omega
theorem pu_cb_congr {f g : Nat → Nat} {n a b : Nat} (h : ∀ j, j < n → f j = g j) (hb : ∀ j, j < n → a.testBit j = b.testBit j) : pu_cb f n a = pu_cb g n b := by
  induction n with
  | zero => rfl
  | succ n ih => simp only [pu_cb, ih (fun j hj => h j (by omega)) (fun j hj => hb j (by omega)), h n (by omega), hb n (by omega)]
theorem pu_cb_zero {f : Nat → Nat} {n : Nat} (a : Nat) (h : ∀ j, j < n → f j = 0) : pu_cb f n a = 0 := by
  induction n with
  | zero => rfl
  | succ n ih => simp [pu_cb, ih (fun j hj => h j (by omega)), h n (by omega)]
/-- a single bit picks its row -/
theorem pu_cb_pow {f : Nat → Nat} {n i : Nat} : pu_cb f n (2 ^ i) = if i < n then f i else 0 := by
  induction n with
  | zero => simp [pu_cb]
  | succ n ih =>
    simp only [pu_cb, ih, Nat.testBit_two_pow]
    by_cases h : i = n
    · subst h; simp
    · by_cases h2 : i < n
      · simp [h, h2, Nat.lt_succ_of_lt h2]
      · have h3 : ¬ i < n + 1 := by omega
        simp [h, h2, h3]
/-- the rows: a pivot's bit stands in its own row alone -/
def pu_RR (R X : Nat → Nat) : Prop := (∀ j, j < 8 → R j < 256 ∧ X j < 256) ∧ (∀ j, j < 8 → R j = 0 → X j = 0) ∧ ∀ i j, i < 8 → j < 8 → R i ≠ 0 → (R j).testBit i = decide (i = j)
theorem pu_RR0 {R X : Nat → Nat} (h : ∀ j, j < 8 → R j = 0 ∧ X j = 0) : pu_RR R X := by
  refine ⟨fun j hj => ?_, fun j hj _ => (h j hj).2, fun i j hi _ h0 => absurd (h i hi).1 h0⟩
  obtain ⟨h1, h2⟩ := h j hj
  rw [h1, h2]
  exact ⟨by decide, by decide⟩
/-- a pivot's bit of a sum of rows is that of the number -/
theorem pu_piv {R X : Nat → Nat} (h : pu_RR R X) {p : Nat} (hp : p < 8) (h0 : R p ≠ 0) (a : Nat) : ∀ n, n ≤ 8 → (pu_cb R n a).testBit p = (decide (p < n) && a.testBit p) := by
  intro n
  induction n with
  | zero => intro _; simp [pu_cb]
  | succ n ih =>
    intro hn
    have hr := h.2.2 p n hp (by omega) h0
    simp only [pu_cb, Nat.testBit_xor, ih (by omega)]
    by_cases hpn : p = n
    · subst hpn
      cases ha : a.testBit p <;> simp [hr]
    · have e : decide (p < n + 1) = decide (p < n) := by
        by_cases q : p < n
        · simp [q, Nat.lt_succ_of_lt q]
        · have q2 : ¬ p < n + 1 := by omega
          simp [q, q2]
      rw [e]
      cases ha : a.testBit n <;> simp [hr, hpn]
theorem pu_piv8 {R X : Nat → Nat} (h : pu_RR R X) {p : Nat} (hp : p < 8) (h0 : R p ≠ 0) (a : Nat) : (a ^^^ pu_cb R 8 a).testBit p = false := by
  rw [Nat.testBit_xor, pu_piv h hp h0 a 8 (Nat.le_refl 8)]
  simp [hp]
/-- the same sum from the top bit down -/
def pu_dn (f : Nat → Nat) (a : Nat) : Nat → Nat
  | 0 => 0
  | n + 1 => pu_dn f a n ^^^ (if a.testBit (7 - n) = true then f (7 - n) else 0)
theorem pu_dn8 (f : Nat → Nat) (a : Nat) : pu_dn f a 8 = pu_cb f 8 a := by
  simp only [pu_dn, pu_cb, Nat.zero_xor, Nat.sub_zero, Nat.reduceSub]
  ac_rfl
theorem pu_dn_piv {R X : Nat → Nat} (h : pu_RR R X) {p : Nat} (hp : p < 8) (h0 : R p ≠ 0) (a : Nat) : ∀ n, n ≤ 7 - p → (pu_dn R a n).testBit p = false := by
  intro n
  induction n with
  | zero => intro _; simp [pu_dn]
  | succ n ih =>
    intro hn
    have hr := h.2.2 p (7 - n) hp (by omega) h0
    have hne : ¬ p = 7 - n := by omega
    simp only [pu_dn, Nat.testBit_xor, ih (by omega)]
    cases ha : a.testBit (7 - n) <;> simp [hr, hne]
/-- one round of reduce: the row is taken -/
theorem pu_red1 {R X : Nat → Nat} (h : pu_RR R X) {a b n i : Nat} (hn : n < 8) (hi : i = 7 - n) (h1 : (a ^^^ pu_dn R a n).testBit i = true) (h0 : R i ≠ 0) :
    a ^^^ pu_dn R a (n + 1) = (a ^^^ pu_dn R a n) ^^^ R i ∧ b ^^^ pu_dn X a (n + 1) = (b ^^^ pu_dn X a n) ^^^ X i := by
  subst hi
  have hd := pu_dn_piv h (p := 7 - n) (by omega) h0 a n (by omega)
  rw [Nat.testBit_xor, hd, Bool.xor_false] at h1
  simp only [pu_dn, h1, if_true, Nat.xor_assoc]
  exact ⟨trivial, trivial⟩
theorem pu_red0 {R X : Nat → Nat} (h : pu_RR R X) {a b n i : Nat} (hn : n < 8) (hi : i = 7 - n) (h1 : (a ^^^ pu_dn R a n).testBit i = false ∨ R i = 0) :
    a ^^^ pu_dn R a (n + 1) = a ^^^ pu_dn R a n ∧ b ^^^ pu_dn X a (n + 1) = b ^^^ pu_dn X a n := by
  subst hi
  by_cases h0 : R (7 - n) = 0
  · have hx := h.2.1 (7 - n) (by omega) h0
    simp [pu_dn, h0, hx]
  · have h1 := h1.resolve_right h0
    have hd := pu_dn_piv h (p := 7 - n) (by omega) h0 a n (by omega)
    rw [Nat.testBit_xor, hd, Bool.xor_false] at h1
    simp [pu_dn, h1]
/-- a row l of leading bit i is put in, its value w -/
def pu_inc (R X : Nat → Nat) (l w i : Nat) (R' X' : Nat → Nat) : Prop := ∀ j, j < 8 → R' j = (if j = i then l else if (R j).testBit i = true then R j ^^^ l else R j) ∧ X' j = (if j = i then w else if (R j).testBit i = true then X j ^^^ w else X j)
theorem pu_inc_cb {R F F' : Nat → Nat} {x i : Nat} (hi : i < 8) (hR : R i = 0) (hF : F i = 0) (h : ∀ j, j < 8 → F' j = (if j = i then x else if (R j).testBit i = true then F j ^^^ x else F j)) (s : Nat) :
    ∀ n, n ≤ 8 → pu_cb F' n s = pu_cb F n s ^^^ (if ((pu_cb R n s).testBit i ^^ (s.testBit i && decide (i < n))) = true then x else 0) := by
  intro n
  induction n with
  | zero => intro _; simp [pu_cb]
  | succ n ih =>
    intro hn
    have hf := h n (by omega)
    simp only [pu_cb, ih (by omega), Nat.testBit_xor]
    by_cases hni : n = i
    · subst hni
      rw [if_pos rfl] at hf
      rw [hf, hF, hR]
      cases hs : s.testBit n <;> cases hb : (pu_cb R n s).testBit n <;> simp [Nat.xor_assoc]
    · rw [if_neg hni] at hf
      have e : decide (i < n + 1) = decide (i < n) := by
        by_cases q : i < n
        · simp [q, Nat.lt_succ_of_lt q]
        · have q2 : ¬ i < n + 1 := by omega
          simp [q, q2]
      rw [e, hf]
      cases hs : s.testBit n
      · simp
      · simp only [if_true]
        generalize (s.testBit i && decide (i < n)) = B
        generalize (pu_cb R n s).testBit i = C
        generalize (R n).testBit i = D
        have h3 : ∀ p q r : Nat, (p ^^^ r) ^^^ (q ^^^ r) = p ^^^ q := by
          intro p q r
          rw [show (p ^^^ r) ^^^ (q ^^^ r) = (p ^^^ q) ^^^ (r ^^^ r) by ac_rfl, Nat.xor_self, Nat.xor_zero]
        have h5 : ∀ p q r : Nat, (p ^^^ r) ^^^ q = (p ^^^ q) ^^^ r := by
          intro p q r
          ac_rfl
        cases D <;> cases B <;> cases C <;> simp [h3, h5, Nat.xor_assoc] <;> ac_rfl
/-- all that a new row brings -/
theorem pu_inc_all {R X R' X' : Nat → Nat} {a b i : Nat} (h : pu_RR R X) (ha : a < 256) (hb : b < 256) (hi : i < 8) (hl : (a ^^^ pu_cb R 8 a).testBit i = true) (hj : pu_inc R X (a ^^^ pu_cb R 8 a) (b ^^^ pu_cb X 8 a) i R' X') :
    pu_RR R' X' ∧ ∀ s, pu_cb R' 8 s = pu_cb R 8 s ^^^ (if (s ^^^ pu_cb R 8 s).testBit i = true then a ^^^ pu_cb R 8 a else 0) ∧ pu_cb X' 8 s = pu_cb X 8 s ^^^ (if (s ^^^ pu_cb R 8 s).testBit i = true then b ^^^ pu_cb X 8 a else 0) := by
  have hll : a ^^^ pu_cb R 8 a < 256 := pu_lt8 ha (pu_cb_lt a (fun j hj => (h.1 j hj).1))
  have hww : b ^^^ pu_cb X 8 a < 256 := pu_lt8 hb (pu_cb_lt a (fun j hj => (h.1 j hj).2))
  have hpv : ∀ p, p < 8 → R p ≠ 0 → (a ^^^ pu_cb R 8 a).testBit p = false := fun p hp h0 => pu_piv8 h hp h0 a
  have hRi : R i = 0 := by
    by_cases q : R i = 0
    · exact q
    · have := hpv i hi q
      rw [hl] at this
      cases this
  have hXi : X i = 0 := h.2.1 i hi hRi
  have hcR := fun s => pu_inc_cb hi hRi hRi (fun j hj8 => (hj j hj8).1) s 8 (Nat.le_refl 8)
  have hcX := fun s => pu_inc_cb hi hRi hXi (fun j hj8 => (hj j hj8).2) s 8 (Nat.le_refl 8)
  generalize a ^^^ pu_cb R 8 a = L at *
  generalize b ^^^ pu_cb X 8 a = W at *
  have hL0 : L ≠ 0 := by
    intro q
    rw [q, Nat.zero_testBit] at hl
    cases hl
  refine ⟨⟨fun j hj8 => ?_, fun j hj8 h0 => ?_, fun p j hp hj8 h0 => ?_⟩, fun s => ⟨?_, ?_⟩⟩
  · obtain ⟨e1, e2⟩ := hj j hj8
    obtain ⟨b1, b2⟩ := h.1 j hj8
    rw [e1, e2]
    refine ⟨?_, ?_⟩
    · split
      · exact hll
      · split
        · exact pu_lt8 b1 hll
        · exact b1
    · split
      · exact hww
      · split
        · exact pu_lt8 b2 hww
        · exact b2
  · obtain ⟨e1, e2⟩ := hj j hj8
    rw [e1] at h0
    rw [e2]
    by_cases q : j = i
    · rw [if_pos q] at h0
      exact absurd h0 hL0
    · rw [if_neg q] at h0 ⊢
      by_cases q2 : (R j).testBit i = true
      · rw [if_pos q2, pu_x0] at h0
        have hj0 : R j ≠ 0 := by
          intro z
          rw [z, Nat.zero_testBit] at q2
          cases q2
        have h1 := hpv j hj8 hj0
        have h2 := h.2.2 j j hj8 hj8 hj0
        rw [h0, h1] at h2
        simp at h2
      · rw [if_neg q2] at h0 ⊢
        exact h.2.1 j hj8 h0
  · obtain ⟨e1, -⟩ := hj j hj8
    obtain ⟨f1, -⟩ := hj p hp
    rw [e1]
    by_cases q : p = i
    · subst q
      by_cases q2 : j = p
      · rw [if_pos q2, hl, q2]
        simp
      · rw [if_neg q2]
        have q3 : ¬ p = j := fun z => q2 z.symm
        by_cases q4 : (R j).testBit p = true
        · rw [if_pos q4, Nat.testBit_xor, q4, hl]
          simp [q3]
        · rw [if_neg q4]
          simp only [Bool.not_eq_true] at q4
          simp [q3, q4]
    · have hp0 : R p ≠ 0 := by
        intro z
        rw [f1, if_neg q, z] at h0
        simp at h0
      have hlp := hpv p hp hp0
      have hr := h.2.2 p j hp hj8 hp0
      by_cases q2 : j = i
      · rw [if_pos q2, hlp]
        have q3 : ¬ p = j := fun z => q (z.trans q2)
        simp [q3]
      · rw [if_neg q2]
        split
        · rw [Nat.testBit_xor, hlp, hr, Bool.xor_false]
        · exact hr
  · rw [hcR s, Nat.testBit_xor]
    simp [hi, Bool.xor_comm]
  · rw [hcX s, Nat.testBit_xor]
    simp [hi, Bool.xor_comm]
end
section
/-! THE PLAIN LAW, second part: what the rows say of the sums of the drops; counts -/
/-- the number of n' < n with f -/
def pu_ct (f : Nat → Bool) : Nat → Nat
  | 0 => 0
  | n + 1 => pu_ct f n + (f n).toNat
theorem pu_ct_congr {f g : Nat → Bool} {n : Nat} (h : ∀ j, j < n → f j = g j) : pu_ct f n = pu_ct g n := by
  induction n with
  | zero => rfl
  | succ n ih => simp only [pu_ct, ih (fun j hj => h j (by omega)), h n (by omega)]
theorem pu_ct_le (f : Nat → Bool) (n : Nat) : pu_ct f n ≤ n := by
  induction n with
  | zero => exact Nat.le_refl 0
  | succ n ih =>
    have : (f n).toNat ≤ 1 := Bool.toNat_le (f n)
    simp only [pu_ct]
    omega
theorem pu_ct_add (f : Nat → Bool) (m k : Nat) : pu_ct f (m + k) = pu_ct f m + pu_ct (fun s => f (m + s)) k := by
  induction k with
  | zero => rfl
  | succ k ih =>
    show pu_ct f (m + k) + (f (m + k)).toNat = pu_ct f m + (pu_ct (fun s => f (m + s)) k + (f (m + k)).toNat)
    rw [ih]
    omega
theorem pu_ct_or {f g : Nat → Bool} {n : Nat} (h : ∀ j, j < n → (f j && g j) = false) : pu_ct (fun s => f s || g s) n = pu_ct f n + pu_ct g n := by
  induction n with
  | zero => rfl
  | succ n ih =>
    have h1 := h n (by omega)
    simp only [pu_ct, ih (fun j hj => h j (by omega))]
    cases hf : f n <;> cases hg : g n <;> simp [hf, hg] at h1 ⊢ <;> omega
theorem pu_px {n s : Nat} (h : s < 2 ^ n) : 2 ^ n + s = 2 ^ n ^^^ s := by
  apply Nat.eq_of_testBit_eq
  intro j
  rw [Nat.testBit_xor, Nat.testBit_two_pow]
  rcases Nat.lt_trichotomy j n with q | q | q
  · rw [Nat.testBit_two_pow_add_gt q]
    have : ¬ n = j := by omega
    simp [this]
  · subst q
    rw [Nat.testBit_two_pow_add_eq]
    simp
  · have hs : s < 2 ^ j := Nat.lt_trans h (Nat.pow_lt_pow_right (by decide) q)
    have h2 : 2 ^ n + s < 2 ^ j := by
      have : 2 ^ (n + 1) ≤ 2 ^ j := Nat.pow_le_pow_right (by decide) q
      rw [Nat.pow_succ] at this
      omega
    rw [Nat.testBit_lt_two_pow hs, Nat.testBit_lt_two_pow h2]
    have : ¬ n = j := by omega
    simp [this]
theorem pu_ct_xor : ∀ (n a : Nat) (f : Nat → Bool), a < 2 ^ n → pu_ct (fun s => f (s ^^^ a)) (2 ^ n) = pu_ct f (2 ^ n) := by
  intro n
  induction n with
  | zero =>
    intro a f ha
    have : a = 0 := by simpa using ha
    subst this
    simp
  | succ n ih =>
    intro a f ha
    have e : 2 ^ (n + 1) = 2 ^ n + 2 ^ n := by rw [Nat.pow_succ]; omega
    rw [e, pu_ct_add, pu_ct_add]
    by_cases hlt : a < 2 ^ n
    · rw [ih a f hlt]
      congr 1
      rw [← ih a (fun s => f (2 ^ n + s)) hlt]
      refine pu_ct_congr (fun j hj => ?_)
      show f ((2 ^ n + j) ^^^ a) = f (2 ^ n + (j ^^^ a))
      rw [pu_px hj, pu_px (Nat.xor_lt_two_pow hj hlt), Nat.xor_assoc]
    · obtain ⟨a', rfl⟩ : ∃ a', a = 2 ^ n + a' := ⟨a - 2 ^ n, by omega⟩
      have ha' : a' < 2 ^ n := by omega
      rw [Nat.add_comm (pu_ct f (2 ^ n))]
      congr 1
      · rw [← ih a' (fun s => f (2 ^ n + s)) ha']
        refine pu_ct_congr (fun j hj => ?_)
        show f (j ^^^ (2 ^ n + a')) = f (2 ^ n + (j ^^^ a'))
        rw [pu_px ha', pu_px (Nat.xor_lt_two_pow hj ha')]
        congr 1
        ac_rfl
      · rw [← ih a' f ha']
        refine pu_ct_congr (fun j hj => ?_)
        show f ((2 ^ n + j) ^^^ (2 ^ n + a')) = f (j ^^^ a')
        rw [pu_px ha', pu_px hj]
        congr 1
        rw [show (2 ^ n ^^^ j) ^^^ (2 ^ n ^^^ a') = (2 ^ n ^^^ 2 ^ n) ^^^ (j ^^^ a') by ac_rfl, Nat.xor_self, Nat.zero_xor]
/-- the rows stand for the sums P, and there are as many as the rank says -/
def pu_good (R X : Nat → Nat) (rk : Nat) (P : Nat → Nat → Prop) : Prop := pu_RR R X ∧ (∀ s v, P s v ↔ (pu_cb R 8 s = s ∧ pu_cb X 8 s = v)) ∧ pu_ct (fun s => decide (pu_cb R 8 s = s)) 256 = 2 ^ rk
theorem pu_good_congr {R X : Nat → Nat} {rk : Nat} {P P' : Nat → Nat → Prop} (h : pu_good R X rk P) (e : ∀ s v, P' s v ↔ P s v) : pu_good R X rk P' := ⟨h.1, fun s v => (e s v).trans (h.2.1 s v), h.2.2⟩
theorem pu_good_rk {R X : Nat → Nat} {rk : Nat} {P : Nat → Nat → Prop} (h : pu_good R X rk P) : rk ≤ 8 := by
  have h1 := pu_ct_le (fun s => decide (pu_cb R 8 s = s)) 256
  rw [h.2.2] at h1
  exact (Nat.pow_le_pow_iff_right (a := 2) (by decide)).mp (show 2 ^ rk ≤ 2 ^ 8 from h1)
theorem pu_good0 {R X : Nat → Nat} {m : Nat} {S V : Nat → Nat} (h : ∀ j, j < 8 → R j = 0 ∧ X j = 0) : pu_good R X 0 (pu_sp m S V 0) := by
  have hR : ∀ s, pu_cb R 8 s = 0 := fun s => pu_cb_zero s (fun j hj => (h j hj).1)
  have hX : ∀ s, pu_cb X 8 s = 0 := fun s => pu_cb_zero s (fun j hj => (h j hj).2)
  refine ⟨pu_RR0 h, fun s v => ?_, ?_⟩
  · rw [hR, hX]
    show s = 0 ∧ v = 0 ↔ 0 = s ∧ 0 = v
    exact ⟨fun q => ⟨q.1.symm, q.2.symm⟩, fun q => ⟨q.1.symm, q.2.symm⟩⟩
  · rw [pu_ct_congr (g := fun s => decide (0 = s)) (fun j _ => by rw [hR])]
    decide +kernel
/-- include, by what it leaves of its drop -/
def pu_incl (R X : Nat → Nat) (rk a b : Nat) (R' X' : Nat → Nat) (rk' : Nat) : Prop :=
  (a ^^^ pu_cb R 8 a = 0 ∧ R' = R ∧ X' = X ∧ rk' = rk) ∨ (a ^^^ pu_cb R 8 a ≠ 0 ∧ rk' = rk + 1 ∧ ∃ i, i < 8 ∧ (a ^^^ pu_cb R 8 a).testBit i = true ∧ pu_inc R X (a ^^^ pu_cb R 8 a) (b ^^^ pu_cb X 8 a) i R' X')
theorem pu_incl_RR {R X R' X' : Nat → Nat} {rk rk' a b : Nat} (h : pu_RR R X) (ha : a < 256) (hb : b < 256) (hi : pu_incl R X rk a b R' X' rk') : pu_RR R' X' := by
  rcases hi with ⟨-, rfl, rfl, -⟩ | ⟨-, -, i, h1, h2, h3⟩
  · exact h
  · exact (pu_inc_all h ha hb h1 h2 h3).1
/-- the sets that are sums behind include -/
theorem pu_incl_set {R X R' X' : Nat → Nat} {rk rk' a b : Nat} (h : pu_RR R X) (ha : a < 256) (hb : b < 256) (hi : pu_incl R X rk a b R' X' rk') (s : Nat) : pu_cb R' 8 s = s ↔ (pu_cb R 8 s = s ∨ pu_cb R 8 (s ^^^ a) = s ^^^ a) := by
  rcases hi with ⟨h0, rfl, rfl, -⟩ | ⟨-, -, i, h1, h2, h3⟩
  · rw [pu_x0] at h0
    rw [pu_cb_xor, ← h0, pu_can]
    exact ⟨Or.inl, fun q => q.elim id id⟩
  · obtain ⟨-, hs⟩ := pu_inc_all h ha hb h1 h2 h3
    rw [(hs s).1, pu_cb_xor]
    by_cases q : (s ^^^ pu_cb R 8 s).testBit i = true
    · rw [if_pos q]
      have n1 : ¬ pu_cb R 8 s = s := by
        intro z
        rw [z, Nat.xor_self, Nat.zero_testBit] at q
        cases q
      have e1 : (pu_cb R 8 s ^^^ pu_cb R 8 a = s ^^^ a) ↔ (pu_cb R 8 s ^^^ (a ^^^ pu_cb R 8 a) = s) := by
        rw [show pu_cb R 8 s ^^^ (a ^^^ pu_cb R 8 a) = (pu_cb R 8 s ^^^ pu_cb R 8 a) ^^^ a by ac_rfl]
        exact pu_mv.symm
      rw [e1]
      exact ⟨Or.inr, fun z => z.elim (fun y => absurd y n1) id⟩
    · rw [if_neg q, Nat.xor_zero]
      constructor
      · exact Or.inl
      · rintro (z | z)
        · exact z
        · exfalso
          apply q
          have z2 : s ^^^ pu_cb R 8 s = a ^^^ pu_cb R 8 a := by
            rw [pu_mv] at z
            rw [z]
            rw [show s ^^^ (s ^^^ a ^^^ pu_cb R 8 a) = s ^^^ (s ^^^ (a ^^^ pu_cb R 8 a)) by ac_rfl, pu_xx]
          rw [z2]
          exact h2
theorem pu_incl_good {R X R' X' : Nat → Nat} {rk rk' a b : Nat} {P : Nat → Nat → Prop} (h : pu_good R X rk P) (ha : a < 256) (hb : b < 256) (hi : pu_incl R X rk a b R' X' rk') (hc : a ^^^ pu_cb R 8 a = 0 → b ^^^ pu_cb X 8 a = 0) :
    pu_good R' X' rk' (fun s v => P s v ∨ P (s ^^^ a) (v ^^^ b)) := by
  obtain ⟨hR, hP, hN⟩ := h
  have hset := pu_incl_set hR ha hb hi
  rcases hi with ⟨h0, rfl, rfl, rfl⟩ | ⟨hl0, rfl, i, h1, h2, h3⟩
  · have hw := hc h0
    rw [pu_x0] at h0 hw
    refine ⟨hR, fun s v => ?_, hN⟩
    show P s v ∨ P (s ^^^ a) (v ^^^ b) ↔ _
    rw [hP, hP, pu_cb_xor, pu_cb_xor, ← h0, ← hw, pu_can, pu_can]
    exact ⟨fun q => q.elim id id, Or.inl⟩
  · obtain ⟨hR', hs⟩ := pu_inc_all hR ha hb h1 h2 h3
    refine ⟨hR', fun s v => ?_, ?_⟩
    · show P s v ∨ P (s ^^^ a) (v ^^^ b) ↔ _
      rw [hP, hP, pu_cb_xor, pu_cb_xor, (hs s).1, (hs s).2]
      by_cases q : (s ^^^ pu_cb R 8 s).testBit i = true
      · rw [if_pos q, if_pos q]
        have n1 : ¬ pu_cb R 8 s = s := by
          intro z
          rw [z, Nat.xor_self, Nat.zero_testBit] at q
          cases q
        have e1 : (pu_cb R 8 s ^^^ pu_cb R 8 a = s ^^^ a) ↔ (pu_cb R 8 s ^^^ (a ^^^ pu_cb R 8 a) = s) := by
          rw [show pu_cb R 8 s ^^^ (a ^^^ pu_cb R 8 a) = (pu_cb R 8 s ^^^ pu_cb R 8 a) ^^^ a by ac_rfl]
          exact pu_mv.symm
        have e2 : (pu_cb X 8 s ^^^ pu_cb X 8 a = v ^^^ b) ↔ (pu_cb X 8 s ^^^ (b ^^^ pu_cb X 8 a) = v) := by
          rw [show pu_cb X 8 s ^^^ (b ^^^ pu_cb X 8 a) = (pu_cb X 8 s ^^^ pu_cb X 8 a) ^^^ b by ac_rfl]
          exact pu_mv.symm
        rw [e1, e2]
        exact ⟨fun z => z.elim (fun y => absurd y.1 n1) id, Or.inr⟩
      · rw [if_neg q, if_neg q, Nat.xor_zero, Nat.xor_zero]
        constructor
        · rintro (z | ⟨z, -⟩)
          · exact z
          · exfalso
            apply q
            have z2 : s ^^^ pu_cb R 8 s = a ^^^ pu_cb R 8 a := by
              rw [pu_mv] at z
              rw [z]
              rw [show s ^^^ (s ^^^ a ^^^ pu_cb R 8 a) = s ^^^ (s ^^^ (a ^^^ pu_cb R 8 a)) by ac_rfl, pu_xx]
            rw [z2]
            exact h2
        · exact Or.inl
    · have e : pu_ct (fun s => decide (pu_cb R' 8 s = s)) 256 = pu_ct (fun s => (fun z => decide (pu_cb R 8 z = z)) s || (fun z => decide (pu_cb R 8 z = z)) (s ^^^ a)) 256 := by
        refine pu_ct_congr (fun j _ => ?_)
        show decide (pu_cb R' 8 j = j) = (decide (pu_cb R 8 j = j) || decide (pu_cb R 8 (j ^^^ a) = j ^^^ a))
        rw [← Bool.decide_or]
        exact decide_eq_decide.mpr (hset j)
      rw [e, pu_ct_or (g := fun s => (fun z => decide (pu_cb R 8 z = z)) (s ^^^ a))]
      · have e2 := pu_ct_xor 8 a (fun z => decide (pu_cb R 8 z = z)) ha
        have e3 : pu_ct (fun s => (fun z => decide (pu_cb R 8 z = z)) (s ^^^ a)) 256 = pu_ct (fun z => decide (pu_cb R 8 z = z)) 256 := e2
        rw [e3, hN, Nat.pow_succ]
        omega
      · intro j _
        show (decide (pu_cb R 8 j = j) && decide (pu_cb R 8 (j ^^^ a) = j ^^^ a)) = false
        by_cases q1 : pu_cb R 8 j = j
        · by_cases q2 : pu_cb R 8 (j ^^^ a) = j ^^^ a
          · exfalso
            rw [pu_cb_xor, q1] at q2
            have q3 : pu_cb R 8 a = a := by
              have := congrArg (fun z => j ^^^ z) q2
              simpa [pu_xx] using this
            exact hl0 (by rw [q3, Nat.xor_self])
          · simp [q2]
        · simp [q1]
/-- kept drops don't contradict -/
def pu_con (m : Nat) (S V : Nat → Nat) : Prop := ∀ s v v', pu_sp m S V 10 s v → pu_sp m S V 10 s v' → v = v'
theorem pu_sp_up {m : Nat} {S V : Nat → Nat} {j k : Nat} (h : j ≤ k) {s v : Nat} (hs : pu_sp m S V j s v) : pu_sp m S V k s v := by
  induction h with
  | refl => exact hs
  | step _ ih => exact Or.inl ih
theorem pu_sp_mono {m m' : Nat} {S V : Nat → Nat} (hm : ∀ j, m.testBit j = true → m'.testBit j = true) : ∀ (k s v : Nat), pu_sp m S V k s v → pu_sp m' S V k s v := by
  intro k
  induction k with
  | zero => exact fun s v h => h
  | succ k ih =>
    rintro s v (h | ⟨h1, h2⟩)
    · exact Or.inl (ih s v h)
    · exact Or.inr ⟨hm k h1, ih _ _ h2⟩
theorem pu_con_sub {m m' : Nat} {S V : Nat → Nat} (hm : ∀ j, m.testBit j = true → m'.testBit j = true) (h : pu_con m' S V) : pu_con m S V := fun s v v' h1 h2 => h s v v' (pu_sp_mono hm 10 s v h1) (pu_sp_mono hm 10 s v' h2)
theorem pu_good_con {R X : Nat → Nat} {rk m : Nat} {S V : Nat → Nat} (h : pu_good R X rk (pu_sp m S V 10)) : pu_con m S V := fun s v v' h1 h2 => ((h.2.1 s v).mp h1).2.symm.trans ((h.2.1 s v').mp h2).2
/-- one round of build, the drop taken -/
theorem pu_build1 {R X R' X' : Nat → Nat} {rk rk' m k : Nat} {S V : Nat → Nat} (hk : k < 10) (hB : ∀ j, j < 10 → S j < 256 ∧ V j < 256) (hC : pu_con m S V) (h : pu_good R X rk (pu_sp m S V k)) (hm : m.testBit k = true) (hi : pu_incl R X rk (S k) (V k) R' X' rk') : pu_good R' X' rk' (pu_sp m S V (k + 1)) := by
  refine pu_good_congr (pu_incl_good h (hB k hk).1 (hB k hk).2 hi (fun h0 => ?_)) (fun s v => ?_)
  · have hP : ∀ s v, pu_sp m S V k s v ↔ (pu_cb R 8 s = s ∧ pu_cb X 8 s = v) := h.2.1
    rw [pu_x0] at h0
    rw [pu_x0]
    have h1 : pu_sp m S V (k + 1) (S k) (V k) := by
      refine Or.inr ⟨hm, ?_⟩
      rw [Nat.xor_self, Nat.xor_self, hP]
      have z : ∀ f : Nat → Nat, pu_cb f 8 0 = 0 := fun f => by
        have := pu_cb_xor f 8 0 0
        rw [Nat.xor_self, Nat.xor_self] at this
        exact this
      exact ⟨z R, z X⟩
    have h2 : pu_sp m S V k (S k) (pu_cb X 8 (S k)) := (hP _ _).mpr ⟨h0.symm, rfl⟩
    exact hC _ _ _ (pu_sp_up (by omega) h1) (pu_sp_up (by omega) h2)
  · show _ ∨ _ ↔ _ ∨ _
    rw [hm]
    simp
theorem pu_build0 {R X : Nat → Nat} {rk m k : Nat} {S V : Nat → Nat} (h : pu_good R X rk (pu_sp m S V k)) (hm : m.testBit k = false) : pu_good R X rk (pu_sp m S V (k + 1)) := by
  refine pu_good_congr h (fun s v => ?_)
  show _ ∨ _ ↔ _
  rw [hm]
  simp
/-- a drop put into a free place -/
theorem pu_sp_add {m k a b : Nat} {S V : Nat → Nat} (hm : m.testBit k = false) : ∀ (n s v : Nat), pu_sp (m ||| 2 ^ k) (pu_up S k a) (pu_up V k b) n s v ↔ (pu_sp m S V n s v ∨ (k < n ∧ pu_sp m S V n (s ^^^ a) (v ^^^ b))) := by
  intro n
  induction n with
  | zero =>
    intro s v
    show _ ∧ _ ↔ (_ ∧ _) ∨ _
    simp
  | succ n ih =>
    intro s v
    show _ ∨ _ ↔ (_ ∨ _) ∨ (_ ∧ (_ ∨ _))
    rw [ih, ih]
    by_cases hkn : k = n
    · subst hkn
      have e1 : (m ||| 2 ^ k).testBit k = true := by simp [Nat.testBit_or, Nat.testBit_two_pow]
      have e2 : pu_up S k a k = a := by simp [pu_up]
      have e3 : pu_up V k b k = b := by simp [pu_up]
      rw [e1, e2, e3, hm]
      simp
    · have e1 : (m ||| 2 ^ k).testBit n = m.testBit n := by simp [Nat.testBit_or, Nat.testBit_two_pow, hkn]
      have hnk : ¬ n = k := fun z => hkn z.symm
      have e2 : pu_up S k a n = S n := by simp [pu_up, hnk]
      have e3 : pu_up V k b n = V n := by simp [pu_up, hnk]
      have e4 : s ^^^ S n ^^^ a = s ^^^ a ^^^ S n := by ac_rfl
      have e5 : v ^^^ V n ^^^ b = v ^^^ b ^^^ V n := by ac_rfl
      have e6 : k < n + 1 ↔ k < n := by omega
      rw [e1, e2, e3, e4, e5, e6]
      grind
/-- the same sums by the codes of the sets of drops -/
theorem pu_sp_code {m : Nat} {S V : Nat → Nat} : ∀ (n s v : Nat), pu_sp m S V n s v ↔ ∃ c, c < 2 ^ n ∧ (∀ j, j < n → c.testBit j = true → m.testBit j = true) ∧ pu_cb S n c = s ∧ pu_cb V n c = v := by
  intro n
  induction n with
  | zero =>
    intro s v
    constructor
    · rintro ⟨rfl, rfl⟩
      exact ⟨0, by decide, fun j hj => by omega, rfl, rfl⟩
    · rintro ⟨c, -, -, h1, h2⟩
      exact ⟨h1.symm, h2.symm⟩
  | succ n ih =>
    intro s v
    have e : 2 ^ (n + 1) = 2 ^ n + 2 ^ n := by rw [Nat.pow_succ]; omega
    have low : ∀ (f : Nat → Nat) (c : Nat), c < 2 ^ n → pu_cb f (n + 1) c = pu_cb f n c := by
      intro f c hc
      simp [pu_cb, Nat.testBit_lt_two_pow hc]
    have high : ∀ (f : Nat → Nat) (c : Nat), c < 2 ^ n → pu_cb f (n + 1) (2 ^ n + c) = pu_cb f n c ^^^ f n := by
      intro f c hc
      have e1 : (2 ^ n + c).testBit n = true := by
        rw [Nat.testBit_two_pow_add_eq, Nat.testBit_lt_two_pow hc]
        rfl
      have e2 : pu_cb f n (2 ^ n + c) = pu_cb f n c := pu_cb_congr (fun _ _ => rfl) (fun j hj => Nat.testBit_two_pow_add_gt hj c)
      simp only [pu_cb, e1, e2, if_true]
    show (_ ∨ _) ↔ _
    rw [ih, ih]
    constructor
    · rintro (⟨c, h1, h2, h3, h4⟩ | ⟨hm, c, h1, h2, h3, h4⟩)
      · refine ⟨c, by omega, fun j hj hb => ?_, by rw [low S c h1, h3], by rw [low V c h1, h4]⟩
        by_cases q : j < n
        · exact h2 j q hb
        · have : j = n := by omega
          subst this
          rw [Nat.testBit_lt_two_pow h1] at hb
          cases hb
      · refine ⟨2 ^ n + c, by omega, fun j hj hb => ?_, by rw [high S c h1, h3, pu_xy], by rw [high V c h1, h4, pu_xy]⟩
        by_cases q : j < n
        · rw [Nat.testBit_two_pow_add_gt q] at hb
          exact h2 j q hb
        · have : j = n := by omega
          subst this
          exact hm
    · rintro ⟨c, h1, h2, h3, h4⟩
      by_cases q : c < 2 ^ n
      · exact Or.inl ⟨c, q, fun j hj hb => h2 j (by omega) hb, by rw [← h3, low S c q], by rw [← h4, low V c q]⟩
      · obtain ⟨c', rfl⟩ : ∃ c', c = 2 ^ n + c' := ⟨c - 2 ^ n, by omega⟩
        have hc' : c' < 2 ^ n := by omega
        refine Or.inr ⟨h2 n (by omega) ?_, c', hc', fun j hj hb => h2 j (by omega) ?_, ?_, ?_⟩
        · rw [Nat.testBit_two_pow_add_eq, Nat.testBit_lt_two_pow hc']
          rfl
        · rw [Nat.testBit_two_pow_add_gt hj]
          exact hb
        · rw [← h3, high S c' hc', pu_xy]
        · rw [← h4, high V c' hc', pu_xy]
end
section
/-! WHAT BOTH SIDES ANSWER, in the numbers of Java: one value for each question -/
/-- the value of the sum s, -1 when it isn't known -/
noncomputable def pu_vb (m : Nat) (S V : Nat → Nat) (s : Nat) : Int32 := @dite Int32 (∃ v, pu_sp m S V 10 s v) (Classical.propDecidable _) (fun h => nI (Classical.choose h)) (fun _ => -1)
theorem pu_vb_pos {m s v : Nat} {S V : Nat → Nat} (hC : pu_con m S V) (h : pu_sp m S V 10 s v) : pu_vb m S V s = nI v := by
  have hx : ∃ v, pu_sp m S V 10 s v := ⟨v, h⟩
  unfold pu_vb
  rw [dif_pos hx, hC s _ v (Classical.choose_spec hx) h]
theorem pu_vb_neg {m s : Nat} {S V : Nat → Nat} (h : ∀ v, ¬ pu_sp m S V 10 s v) : pu_vb m S V s = -1 := by
  unfold pu_vb
  rw [dif_neg (fun q => q.elim h)]
noncomputable def pu_kb (m : Nat) (S V : Nat → Nat) (s : Nat) : Bool := decide (0 ≤ pu_vb m S V s)
def pu_tab (m : Nat) (S V : Nat → Nat) (T : Nat → Int32) : Prop := ∀ s, s < 256 → (T s = -1 ∧ ∀ v, ¬ pu_sp m S V 10 s v) ∨ ∃ v, T s = nI v ∧ pu_sp m S V 10 s v
theorem pu_tab_vb {m s : Nat} {S V : Nat → Nat} {T : Nat → Int32} (hC : pu_con m S V) (h : pu_tab m S V T) (hs : s < 256) : T s = pu_vb m S V s := by
  rcases h s hs with ⟨h1, h2⟩ | ⟨v, h1, h2⟩
  · rw [h1, pu_vb_neg h2]
  · rw [h1, pu_vb_pos hC h2]
theorem pu_good_vb {R X : Nat → Nat} {rk m : Nat} {S V : Nat → Nat} (h : pu_good R X rk (pu_sp m S V 10)) (s : Nat) : pu_vb m S V s = if pu_cb R 8 s = s then nI (pu_cb X 8 s) else -1 := by
  by_cases q : pu_cb R 8 s = s
  · rw [if_pos q, pu_vb_pos (pu_good_con h) ((h.2.1 s _).mpr ⟨q, rfl⟩)]
  · rw [if_neg q, pu_vb_neg (fun v z => q ((h.2.1 s v).mp z).1)]
theorem pu_good_kb {R X : Nat → Nat} {rk m : Nat} {S V : Nat → Nat} (h : pu_good R X rk (pu_sp m S V 10)) (s : Nat) : pu_kb m S V s = decide (pu_cb R 8 s = s) := by
  unfold pu_kb
  rw [pu_good_vb h]
  by_cases q : pu_cb R 8 s = s
  · have h1 : pu_cb X 8 s < 256 := pu_cb_lt s (fun j hj => (h.1.1 j hj).2)
    rw [if_pos q, decide_eq_true q, decide_eq_true (nI_pos' (by omega))]
  · rw [if_neg q, decide_eq_false q]
    decide
theorem pu_good_ct {R X : Nat → Nat} {rk m : Nat} {S V : Nat → Nat} (h : pu_good R X rk (pu_sp m S V 10)) : pu_ct (pu_kb m S V) 256 = 2 ^ rk := by
  rw [← h.2.2]
  exact pu_ct_congr (fun j _ => pu_good_kb h j)
theorem pu_ct_eq {f g : Nat → Bool} {a b : Nat} (hf : pu_ct f 256 = 2 ^ a) (hg : pu_ct g 256 = 2 ^ b) : pu_ct f 256 = pu_ct g 256 ↔ a = b := by
  rw [hf, hg]
  exact ⟨fun h => Nat.le_antisymm ((Nat.pow_le_pow_iff_right (a := 2) (by decide)).mp (Nat.le_of_eq h)) ((Nat.pow_le_pow_iff_right (a := 2) (by decide)).mp (Nat.le_of_eq h.symm)), fun h => by rw [h]⟩
/-- the numbers i < n with f, as a mask -/
def pu_mk (f : Nat → Bool) : Nat → Nat
  | 0 => 0
  | n + 1 => pu_mk f n ||| (if f n = true then 2 ^ n else 0)
theorem pu_mk_congr {f g : Nat → Bool} {n : Nat} (h : ∀ j, j < n → f j = g j) : pu_mk f n = pu_mk g n := by
  induction n with
  | zero => rfl
  | succ n ih => simp only [pu_mk, ih (fun j hj => h j (by omega)), h n (by omega)]
theorem pu_mk_bit (f : Nat → Bool) (n i : Nat) : (pu_mk f n).testBit i = (decide (i < n) && f i) := by
  induction n with
  | zero => simp [pu_mk]
  | succ n ih =>
    simp only [pu_mk, Nat.testBit_or, ih]
    by_cases q : i = n
    · subst q
      cases hf : f i <;> simp
    · have q2 : ¬ n = i := fun z => q z.symm
      have e : decide (i < n + 1) = decide (i < n) := by
        by_cases q3 : i < n
        · simp [q3, Nat.lt_succ_of_lt q3]
        · have q4 : ¬ i < n + 1 := by omega
          simp [q3, q4]
      rw [e]
      cases hf : f n <;> simp [q2, Nat.testBit_two_pow]
theorem pu_mk_lt (f : Nat → Bool) (n : Nat) : pu_mk f n < 2 ^ n := by
  induction n with
  | zero => exact Nat.zero_lt_one
  | succ n ih =>
    have h1 : pu_mk f n < 2 ^ (n + 1) := Nat.lt_trans ih (Nat.pow_lt_pow_right (by decide) (Nat.lt_succ_self n))
    refine Nat.or_lt_two_pow h1 ?_
    split
    · exact Nat.pow_lt_pow_right (by decide) (Nat.lt_succ_self n)
    · exact Nat.two_pow_pos _
theorem pu_mk_id {pr : Nat} (h : pr < 1024) : pu_mk (fun j => pr.testBit j) 10 = pr := by
  apply Nat.eq_of_testBit_eq
  intro i
  rw [pu_mk_bit]
  by_cases q : i < 10
  · simp [q]
  · have h2 : pr < 2 ^ i := Nat.lt_of_lt_of_le h (Nat.pow_le_pow_right (n := 2) (by decide) (by omega : 10 ≤ i))
    rw [Nat.testBit_lt_two_pow h2]
    simp [q]
/-- how many pieces would be known with the set a besides -/
noncomputable def pu_wt (m : Nat) (S V : Nat → Nat) (a : Nat) : Nat := pu_ct (fun i => pu_kb m S V (2 ^ i) || pu_kb m S V (2 ^ i ^^^ a)) 8
theorem pu_wt_le (m : Nat) (S V : Nat → Nat) (a : Nat) : pu_wt m S V a ≤ 8 := pu_ct_le _ _
/-- the first best of the sets 1 .. n + 1 -/
def pu_bst (g : Nat → Nat) : Nat → Nat
  | 0 => 1
  | n + 1 => if g (pu_bst g n) < g (n + 2) then n + 2 else pu_bst g n
theorem pu_bst_in (g : Nat → Nat) (n : Nat) : 1 ≤ pu_bst g n ∧ pu_bst g n ≤ n + 1 := by
  induction n with
  | zero => exact ⟨Nat.le_refl 1, Nat.le_refl 1⟩
  | succ n ih =>
    simp only [pu_bst]
    split <;> omega
/-- the singles of the rows behind countWith -/
theorem pu_count {R X R' X' : Nat → Nat} {rk rk' m a b : Nat} {S V : Nat → Nat} (h : pu_good R X rk (pu_sp m S V 10)) (ha : a < 256) (hb : b < 256) (hi : pu_incl R X rk a b R' X' rk') : pu_ct (fun i => (pu_mk (fun i => decide (R' i = 2 ^ i)) 8).testBit i) 8 = pu_wt m S V a := by
  refine pu_ct_congr (fun i h8 => ?_)
  rw [pu_mk_bit]
  have e : pu_cb R' 8 (2 ^ i) = R' i := by rw [pu_cb_pow, if_pos h8]
  have hs := pu_incl_set h.1 ha hb hi (2 ^ i)
  rw [e] at hs
  have hd : decide (R' i = 2 ^ i) = (decide (pu_cb R 8 (2 ^ i) = 2 ^ i) || decide (pu_cb R 8 (2 ^ i ^^^ a) = 2 ^ i ^^^ a)) := by
    rw [← Bool.decide_or]
    exact decide_eq_decide.mpr hs
  rw [pu_good_kb h, pu_good_kb h, hd]
  simp [h8]
theorem pu_single {R X : Nat → Nat} {rk m : Nat} {S V : Nat → Nat} (h : pu_good R X rk (pu_sp m S V 10)) {i : Nat} (h8 : i < 8) : pu_kb m S V (2 ^ i) = decide (R i = 2 ^ i) ∧ pu_vb m S V (2 ^ i) = if R i = 2 ^ i then nI (X i) else -1 := by
  have e : pu_cb R 8 (2 ^ i) = R i := by rw [pu_cb_pow, if_pos h8]
  have e2 : pu_cb X 8 (2 ^ i) = X i := by rw [pu_cb_pow, if_pos h8]
  have h1 := pu_good_kb h (2 ^ i)
  have h2 := pu_good_vb h (2 ^ i)
  rw [e] at h1 h2
  rw [e2] at h2
  exact ⟨h1, h2⟩
/-- the first free place from k on, of n -/
def pu_ff (pr : Nat) : Nat → Nat → Nat
  | 0, k => k
  | n + 1, k => if pr.testBit k = true then pu_ff pr n (k + 1) else k
theorem pu_ff_t {pr k : Nat} (hk : k < 10) (h : pr.testBit k = true) : pu_ff pr (10 - k) k = pu_ff pr (10 - (k + 1)) (k + 1) := by
  rw [show 10 - k = (10 - (k + 1)) + 1 by omega]
  simp only [pu_ff]
  rw [if_pos h]
theorem pu_ff_f {pr k : Nat} (hk : k < 10) (h : pr.testBit k = false) : pu_ff pr (10 - k) k = k := by
  rw [show 10 - k = (10 - (k + 1)) + 1 by omega]
  simp only [pu_ff]
  rw [if_neg (by rw [h]; decide)]
theorem pu_ff_free {pr : Nat} : ∀ (n k : Nat), pu_ff pr n k < n + k → pr.testBit (pu_ff pr n k) = false := by
  intro n
  induction n with
  | zero => intro k h; simp [pu_ff] at h
  | succ n ih =>
    intro k h
    simp only [pu_ff] at h ⊢
    by_cases q : pr.testBit k = true
    · rw [if_pos q] at h ⊢
      exact ih (k + 1) (by omega)
    · rw [if_neg q]
      simpa using q
noncomputable def pu_tk (pr : Nat) (S V : Nat → Nat) (x y : Int32) : Int32 × Nat × (Nat → Nat) × (Nat → Nat) :=
  if (1 ≤ x ∧ x ≤ 255) ∧ (0 ≤ y ∧ y ≤ 255) then
    if pu_ff pr 10 0 = 10 then (-2, pr, S, V)
    else if 0 ≤ pu_vb pr S V x.toNatClampNeg ∧ pu_vb pr S V x.toNatClampNeg ≠ y then (-3, pr, S, V)
    else (nI (pu_ff pr 10 0), pr ||| 2 ^ pu_ff pr 10 0, pu_up S (pu_ff pr 10 0) x.toNatClampNeg, pu_up V (pu_ff pr 10 0) y.toNatClampNeg)
  else (-1, pr, S, V)
theorem pu_tk_bad {pr : Nat} {S V : Nat → Nat} {x y : Int32} (h : ¬ ((1 ≤ x ∧ x ≤ 255) ∧ (0 ≤ y ∧ y ≤ 255))) : pu_tk pr S V x y = (-1, pr, S, V) := if_neg h
theorem pu_in1 {a : Nat} (h1 : 1 ≤ a) (h2 : a < 256) : 1 ≤ nI a ∧ nI a ≤ 255 := ⟨nI_le (a := 1) (b := a) h1 (by omega), nI_le (a := a) (b := 255) (by omega) (by omega)⟩
theorem pu_in0 {a : Nat} (h2 : a < 256) : 0 ≤ nI a ∧ nI a ≤ 255 := ⟨nI_le (a := 0) (b := a) (by omega) (by omega), nI_le (a := a) (b := 255) (by omega) (by omega)⟩
theorem pu_of1 {x : Int32} (h1 : 1 ≤ x) (h2 : x ≤ 255) : ∃ a : Nat, 1 ≤ a ∧ a < 256 ∧ x = nI a := by
  have h1' : (1 : Int32).toInt ≤ x.toInt := Int32.le_iff_toInt_le.mp h1
  have e1 : (1 : Int32).toInt = 1 := by decide
  have e0 : (0 : Int32).toInt = 0 := by decide
  have h0 : ¬ x < 0 := by
    intro q
    have := Int32.lt_iff_toInt_lt.mp q
    omega
  obtain ⟨a, ha, rfl⟩ := nI_of2 (n := 255) (M := 255) (by decide) h0 h2
  refine ⟨a, ?_, by omega, rfl⟩
  rw [nI_toInt (by omega)] at h1'
  omega
theorem pu_of0 {x : Int32} (h1 : 0 ≤ x) (h2 : x ≤ 255) : ∃ a : Nat, a < 256 ∧ x = nI a := by
  have h1' : (0 : Int32).toInt ≤ x.toInt := Int32.le_iff_toInt_le.mp h1
  have e0 : (0 : Int32).toInt = 0 := by decide
  have h0 : ¬ x < 0 := by
    intro q
    have := Int32.lt_iff_toInt_lt.mp q
    omega
  obtain ⟨a, ha, rfl⟩ := nI_of2 (n := 255) (M := 255) (by decide) h0 h2
  exact ⟨a, by omega, rfl⟩
theorem pu_lt_of {x y : Int32} (h : ¬ x < y) : y ≤ x := by
  rw [Int32.le_iff_toInt_le]
  rw [Int32.lt_iff_toInt_lt] at h
  omega
theorem pu_le_of {x y : Int32} (h : ¬ x ≤ y) : y < x := by
  rw [Int32.lt_iff_toInt_lt]
  rw [Int32.le_iff_toInt_le] at h
  omega
theorem pu_nlt {x y : Int32} (h : x ≤ y) : ¬ y < x := by
  rw [Int32.lt_iff_toInt_lt]
  rw [Int32.le_iff_toInt_le] at h
  omega
theorem pu_nle {x y : Int32} (h : x < y) : ¬ y ≤ x := by
  rw [Int32.le_iff_toInt_le]
  rw [Int32.lt_iff_toInt_lt] at h
  omega
/-- an index below n -/
theorem pu_ofn {x N : Int32} {n : Nat} (hN : N = nI n) (hn : n < 2 ^ 31) (h1 : ¬ x < 0) (h2 : x < N) : ∃ a : Nat, a < n ∧ x = nI a := by
  subst hN
  obtain ⟨a, ha, rfl⟩ := nI_of h1
  exact ⟨a, (nI_ltI ha hn).mp h2, rfl⟩
theorem pu_tk_full {pr a b : Nat} {S V : Nat → Nat} (h1 : 1 ≤ a) (h2 : a < 256) (h3 : b < 256) (hk : pu_ff pr 10 0 = 10) : pu_tk pr S V (nI a) (nI b) = (-2, pr, S, V) := by
  unfold pu_tk
  rw [if_pos ⟨pu_in1 h1 h2, pu_in0 h3⟩, if_pos hk]
theorem pu_tk_ref {pr a b : Nat} {S V : Nat → Nat} (h1 : 1 ≤ a) (h2 : a < 256) (h3 : b < 256) (hk : pu_ff pr 10 0 ≠ 10) (hv : 0 ≤ pu_vb pr S V a) (hn : pu_vb pr S V a ≠ nI b) : pu_tk pr S V (nI a) (nI b) = (-3, pr, S, V) := by
  unfold pu_tk
  rw [if_pos ⟨pu_in1 h1 h2, pu_in0 h3⟩, if_neg hk, nI_clamp (by omega), if_pos ⟨hv, hn⟩]
theorem pu_tk_ok {pr a b k : Nat} {S V : Nat → Nat} (h1 : 1 ≤ a) (h2 : a < 256) (h3 : b < 256) (hk : pu_ff pr 10 0 = k) (hk2 : k < 10) (hv : ¬ (0 ≤ pu_vb pr S V a ∧ pu_vb pr S V a ≠ nI b)) : pu_tk pr S V (nI a) (nI b) = (nI k, pr ||| 2 ^ k, pu_up S k a, pu_up V k b) := by
  unfold pu_tk
  rw [if_pos ⟨pu_in1 h1 h2, pu_in0 h3⟩, hk, if_neg (by omega), nI_clamp (by omega), if_neg hv, nI_clamp (by omega)]
/-- the kept drops, as both sides hold them -/
def pu_inv (pr : Nat) (S V : Nat → Nat) : Prop := pr < 1024 ∧ (∀ j, j < 10 → S j < 256 ∧ V j < 256) ∧ pu_con pr S V
/-- the desk's rows, when it says that they are known -/
def pu_dk (pr : Nat) (S V : Nat → Nat) (kn : Nat) (R X : Nat → Nat) (rk : Nat) : Prop := pu_inv pr S V ∧ kn ≤ 1 ∧ (kn = 1 → pu_good R X rk (pu_sp pr S V 10))
def pu_has (pr : Nat) (k : Int32) : Bool := decide (0 ≤ k) && (decide (k < 10) && pr.testBit k.toNatClampNeg)
theorem pu_has_nI {pr j : Nat} (h : j < 10) : pu_has pr (nI j) = pr.testBit j := by
  unfold pu_has
  rw [nI_clamp (by omega), decide_eq_true (nI_pos' (by omega)), decide_eq_true (show nI j < 10 from nI_lt (b := 10) h (by omega))]
  rfl
theorem pu_has_lo {pr : Nat} {k : Int32} (h : k < 0) : pu_has pr k = false := by
  unfold pu_has
  rw [decide_eq_false (pu_nle h)]
  rfl
theorem pu_has_hi {pr : Nat} {k : Int32} (h : 10 ≤ k) : pu_has pr k = false := by
  unfold pu_has
  rw [decide_eq_false (pu_nlt h)]
  simp
/-- bits of a Java int -/
def pu_ib (x : Int32) : Nat := x.toBitVec.toNat
theorem pu_nI_ib (x : Int32) : nI (pu_ib x) = x := by
  apply Int32.toBitVec_inj.1
  show BitVec.ofNat 32 x.toBitVec.toNat = x.toBitVec
  simp
theorem pu_ib_nI {n : Nat} (h : n < 2 ^ 32) : pu_ib (nI n) = n := pk_tn h
theorem pu_bext {x y : Int32} (h : ∀ i, i < 32 → (pu_ib x).testBit i = (pu_ib y).testBit i) : x = y := Int32.toBitVec_inj.mp (BitVec.eq_of_getLsbD_eq (fun i hi => h i hi))
theorem pu_ib_and (x y : Int32) : pu_ib (x &&& y) = pu_ib x &&& pu_ib y := by
  show (x &&& y).toBitVec.toNat = _
  rw [Int32.toBitVec_and, BitVec.toNat_and]
  rfl
theorem pu_ib_xor (x y : Int32) : pu_ib (x ^^^ y) = pu_ib x ^^^ pu_ib y := by
  show (x ^^^ y).toBitVec.toNat = _
  rw [Int32.toBitVec_xor, BitVec.toNat_xor]
  rfl
theorem pu_ib_m1 : ∀ i, i < 32 → (pu_ib (-1)).testBit i = true := by decide +kernel
theorem nx_and (a b : Nat) : nI a &&& nI b = nI (a &&& b) := by
  apply Int32.toBitVec_inj.1
  show BitVec.ofNat 32 a &&& BitVec.ofNat 32 b = BitVec.ofNat 32 (a &&& b)
  apply BitVec.eq_of_getLsbD_eq
  intro i hi
  simp [hi]
theorem nx_xor (a b : Nat) : nI a ^^^ nI b = nI (a ^^^ b) := by
  apply Int32.toBitVec_inj.1
  show BitVec.ofNat 32 a ^^^ BitVec.ofNat 32 b = BitVec.ofNat 32 (a ^^^ b)
  apply BitVec.eq_of_getLsbD_eq
  intro i hi
  simp [hi]
theorem nx_or (a b : Nat) : nI a ||| nI b = nI (a ||| b) := by
  apply Int32.toBitVec_inj.1
  show BitVec.ofNat 32 a ||| BitVec.ofNat 32 b = BitVec.ofNat 32 (a ||| b)
  apply BitVec.eq_of_getLsbD_eq
  intro i hi
  simp [hi]
theorem nx_sl : ∀ n, n < 32 → ((nI n &&& 31).toBitVec.smod 32).toNat = n := by decide +kernel
theorem nx_bit {a k : Nat} (ha : a < 2 ^ 31) (hk : k < 32) : (nI a >>> (nI k &&& 31)) &&& nI 1 = nI (a.testBit k).toNat := by
  rw [pk_shrN ha _ k (nx_sl k hk), nx_and]
  congr 1
  rw [Nat.and_one_is_mod, Nat.testBit_eq_decide_div_mod_eq]
  have : a / 2 ^ k % 2 < 2 := Nat.mod_lt _ (by decide)
  rcases (show a / 2 ^ k % 2 = 0 ∨ a / 2 ^ k % 2 = 1 by omega) with q | q <;> rw [q] <;> rfl
theorem nx_shl {a k : Nat} (hk : k < 32) (h : a * 2 ^ k < 2 ^ 32) : nI a <<< (nI k &&& 31) = nI (a * 2 ^ k) := pk_shlN _ k (nx_sl k hk) h
theorem nx_shl1 {k : Nat} (hk : k < 31) : nI 1 <<< (nI k &&& 31) = nI (2 ^ k) := by
  have : 2 ^ k < 2 ^ 32 := Nat.pow_lt_pow_right (by decide) (by omega)
  rw [nx_shl (by omega) (by omega), Nat.one_mul]
/-- a bit taken out -/
theorem nx_clr {a k : Nat} (ha : a < 2 ^ 32) (hk : k < 31) (hb : a.testBit k = true) : nI a &&& (nI (2 ^ k) ^^^ (-1)) = nI (a ^^^ 2 ^ k) := by
  have h2 : 2 ^ k < 2 ^ 32 := Nat.pow_lt_pow_right (by decide) (by omega)
  apply pu_bext
  intro i hi
  rw [pu_ib_and, pu_ib_xor, pu_ib_nI ha, pu_ib_nI h2, pu_ib_nI (Nat.xor_lt_two_pow ha h2), Nat.testBit_and, Nat.testBit_xor, Nat.testBit_xor, pu_ib_m1 i hi, Nat.testBit_two_pow]
  by_cases q : k = i
  · subst q
    rw [hb]
    simp
  · simp [q]
theorem nx_mask (pr : Nat) (x : Int32) : x &&& nI pr = nI (pr &&& pu_ib x) := by
  rw [show x &&& nI pr = nI (pu_ib x) &&& nI pr by rw [pu_nI_ib], nx_and, Nat.and_comm]
theorem nx_mask_lt {pr : Nat} (h : pr < 1024) (x : Int32) : pr &&& pu_ib x < 1024 := Nat.lt_of_le_of_lt Nat.and_le_left h
theorem nx_mask_sub {pr : Nat} (x : Int32) : ∀ j, (pr &&& pu_ib x).testBit j = true → pr.testBit j = true := by
  intro j h
  rw [Nat.testBit_and] at h
  simp only [Bool.and_eq_true] at h
  exact h.1
theorem nx_self {pr : Nat} (h : pr < 1024) : pr &&& pu_ib (nI pr) = pr := by rw [pu_ib_nI (by omega), Nat.and_self]
theorem nx_1023 {pr : Nat} (h : pr < 1024) : pr &&& pu_ib (nI 1023) = pr := by
  rw [pu_ib_nI (by decide), show (1023 : Nat) = 2 ^ 10 - 1 from rfl, Nat.and_two_pow_sub_one_eq_mod]
  exact Nat.mod_eq_of_lt h
/-- idle: both masks leave the one drop out -/
theorem nx_idle1 {pr k : Nat} (h : pr < 1024) (hk : k < 10) (hb : pr.testBit k = true) : pr &&& pu_ib (nI (pr ^^^ 2 ^ k)) = pr ^^^ 2 ^ k := by
  have h2 : 2 ^ k < 2 ^ 32 := Nat.pow_lt_pow_right (by decide) (by omega)
  rw [pu_ib_nI (Nat.xor_lt_two_pow (by omega) h2)]
  apply Nat.eq_of_testBit_eq
  intro i
  rw [Nat.testBit_and, Nat.testBit_xor, Nat.testBit_two_pow]
  by_cases q : k = i
  · subst q
    rw [hb]
    simp
  · simp [q]
theorem nx_idle2 {pr k : Nat} (h : pr < 1024) (hk : k < 10) (hb : pr.testBit k = true) : pr &&& pu_ib (nI (1023 ^^^ 2 ^ k)) = pr ^^^ 2 ^ k := by
  have h2 : 2 ^ k < 2 ^ 32 := Nat.pow_lt_pow_right (by decide) (by omega)
  rw [pu_ib_nI (Nat.xor_lt_two_pow (by decide) h2)]
  apply Nat.eq_of_testBit_eq
  intro i
  rw [Nat.testBit_and, Nat.testBit_xor, Nat.testBit_xor, Nat.testBit_two_pow]
  by_cases q : k = i
  · subst q
    rw [hb, show (1023 : Nat) = 2 ^ 10 - 1 from rfl, Nat.testBit_two_pow_sub_one]
    simp [hk]
  · by_cases q2 : i < 10
    · rw [show (1023 : Nat) = 2 ^ 10 - 1 from rfl, Nat.testBit_two_pow_sub_one]
      simp [q, q2]
    · have h3 : pr < 2 ^ i := Nat.lt_of_lt_of_le h (Nat.pow_le_pow_right (n := 2) (by decide) (by omega : 10 ≤ i))
      rw [Nat.testBit_lt_two_pow h3]
      simp [q]
/-- the model's test that a code lies within the mask -/
theorem nx_within {c : Nat} (hc : c < 1024) (x : Int32) : nI c &&& (x ^^^ (-1)) = 0 ↔ ∀ j, j < 10 → c.testBit j = true → (pu_ib x).testBit j = true := by
  have key : ∀ i, i < 32 → (pu_ib (nI c &&& (x ^^^ (-1)))).testBit i = (c.testBit i && !(pu_ib x).testBit i) := by
    intro i hi
    rw [pu_ib_and, pu_ib_xor, pu_ib_nI (by omega), Nat.testBit_and, Nat.testBit_xor, pu_ib_m1 i hi, Bool.xor_true]
  have h0 : ∀ i, (pu_ib 0).testBit i = false := fun i => by
    show (0 : Nat).testBit i = false
    exact Nat.zero_testBit i
  constructor
  · intro h j hj hb
    have h1 := key j (by omega)
    rw [h, h0, hb] at h1
    cases q : (pu_ib x).testBit j
    · rw [q] at h1
      cases h1
    · rfl
  · intro h
    apply pu_bext
    intro i hi
    rw [key i hi, h0]
    by_cases q : i < 10
    · cases hb : c.testBit i
      · rfl
      · rw [h i q hb]
        rfl
    · have h3 : c < 2 ^ i := Nat.lt_of_lt_of_le hc (Nat.pow_le_pow_right (n := 2) (by decide) (by omega : 10 ≤ i))
      rw [Nat.testBit_lt_two_pow h3]
      rfl
/-- the model's table when the codes below c are done -/
def pu_wk (m c : Nat) (S V : Nat → Nat) (T : Nat → Int32) : Prop := ∀ s, s < 256 → (T s = -1 ∧ ∀ d, d < c → (∀ j, j < 10 → d.testBit j = true → m.testBit j = true) → pu_cb S 10 d ≠ s) ∨ ∃ d, d < c ∧ (∀ j, j < 10 → d.testBit j = true → m.testBit j = true) ∧ pu_cb S 10 d = s ∧ T s = nI (pu_cb V 10 d)
theorem pu_wk0 {m : Nat} {S V : Nat → Nat} {T : Nat → Int32} (h : ∀ s, s < 256 → T s = -1) : pu_wk m 0 S V T := fun s hs => Or.inl ⟨h s hs, fun d hd => by omega⟩
theorem pu_wk1 {m c : Nat} {S V : Nat → Nat} {T : Nat → Int32} (h : pu_wk m c S V T) (hv : ∀ j, j < 10 → c.testBit j = true → m.testBit j = true) : pu_wk m (c + 1) S V (upd T (pu_cb S 10 c) (nI (pu_cb V 10 c))) := by
  intro s hs
  by_cases q : s = pu_cb S 10 c
  · refine Or.inr ⟨c, by omega, hv, q.symm, ?_⟩
    rw [q, pk_us]
  · rw [pk_un q]
    rcases h s hs with ⟨h1, h2⟩ | ⟨d, h1, h2, h3, h4⟩
    · refine Or.inl ⟨h1, fun d hd hdv => ?_⟩
      by_cases q2 : d = c
      · rw [q2]
        exact fun z => q z.symm
      · exact h2 d (by omega) hdv
    · exact Or.inr ⟨d, by omega, h2, h3, h4⟩
theorem pu_wkn {m c : Nat} {S V : Nat → Nat} {T : Nat → Int32} (h : pu_wk m c S V T) (hv : ¬ ∀ j, j < 10 → c.testBit j = true → m.testBit j = true) : pu_wk m (c + 1) S V T := by
  intro s hs
  rcases h s hs with ⟨h1, h2⟩ | ⟨d, h1, h2, h3, h4⟩
  · refine Or.inl ⟨h1, fun d hd hdv => ?_⟩
    by_cases q2 : d = c
    · subst q2
      exact absurd hdv hv
    · exact h2 d (by omega) hdv
  · exact Or.inr ⟨d, by omega, h2, h3, h4⟩
theorem pu_wk_tab {m : Nat} {S V : Nat → Nat} {T : Nat → Int32} (h : pu_wk m 1024 S V T) : pu_tab m S V T := by
  intro s hs
  rcases h s hs with ⟨h1, h2⟩ | ⟨d, h1, h2, h3, h4⟩
  · refine Or.inl ⟨h1, fun v hv => ?_⟩
    obtain ⟨c, c1, c2, c3, -⟩ := (pu_sp_code 10 s v).mp hv
    exact h2 c c1 c2 c3
  · exact Or.inr ⟨_, h4, (pu_sp_code 10 s _).mpr ⟨d, h1, h2, h3, rfl⟩⟩
noncomputable def pu_en (pr m : Nat) (S V : Nat → Nat) : Bool := decide (pu_ct (pu_kb pr S V) 256 = pu_ct (pu_kb m S V) 256)
noncomputable def pu_pc (pr : Nat) (S V : Nat → Nat) (x : Int32) : Int32 := if 0 ≤ x ∧ x < 8 then pu_vb pr S V (2 ^ x.toNatClampNeg) else -1
noncomputable def pu_sm (pr : Nat) (S V : Nat → Nat) (x : Int32) : Int32 := if 0 ≤ x ∧ x ≤ 255 then pu_vb pr S V x.toNatClampNeg else -1
noncomputable def pu_kw (pr : Nat) (S V : Nat → Nat) (x : Int32) : Int32 := if 1 ≤ x ∧ x ≤ 255 then nI (pu_wt pr S V x.toNatClampNeg) else -1
noncomputable def pu_po (pr : Nat) (S V : Nat → Nat) (x y : Int32) : Bool := decide (((0 ≤ x ∧ x < 8) ∧ (0 ≤ y ∧ y ≤ 255)) ∧ (pu_pc pr S V x < 0 ∨ pu_pc pr S V x = y))
noncomputable def pu_id (pr : Nat) (S V : Nat → Nat) (x : Int32) : Bool := pu_has pr x && pu_en pr (pr ^^^ 2 ^ x.toNatClampNeg) S V
def pu_dr (pr : Nat) (x : Int32) : Int32 × Nat := if pu_has pr x = true then (1, pr ^^^ 2 ^ x.toNatClampNeg) else (0, pr)
theorem pu_pc_in {pr i : Nat} {S V : Nat → Nat} (h : i < 8) : pu_pc pr S V (nI i) = pu_vb pr S V (2 ^ i) := by
  unfold pu_pc
  rw [if_pos ⟨nI_pos' (by omega), show nI i < 8 from nI_lt (b := 8) h (by decide)⟩, nI_clamp (by omega)]
theorem pu_sm_in {pr a : Nat} {S V : Nat → Nat} (h : a < 256) : pu_sm pr S V (nI a) = pu_vb pr S V a := by
  unfold pu_sm
  rw [if_pos (pu_in0 h), nI_clamp (by omega)]
theorem pu_kw_in {pr a : Nat} {S V : Nat → Nat} (h1 : 1 ≤ a) (h : a < 256) : pu_kw pr S V (nI a) = nI (pu_wt pr S V a) := by
  unfold pu_kw
  rw [if_pos (pu_in1 h1 h), nI_clamp (by omega)]
theorem pu_has_of {pr : Nat} {x : Int32} (h : pu_has pr x = true) : ∃ k : Nat, k < 10 ∧ x = nI k ∧ pr.testBit k = true := by
  unfold pu_has at h
  simp only [Bool.and_eq_true, decide_eq_true_eq] at h
  obtain ⟨h1, h2, h3⟩ := h
  obtain ⟨k, hk, rfl⟩ := pu_ofn (n := 10) (N := 10) rfl (by decide) (pu_nlt h1) h2
  refine ⟨k, hk, rfl, ?_⟩
  rw [nI_clamp (by omega)] at h3
  exact h3
theorem pu_dr_t {pr k : Nat} (hk : k < 10) (h : pr.testBit k = true) : pu_dr pr (nI k) = (1, pr ^^^ 2 ^ k) := by
  unfold pu_dr
  rw [pu_has_nI hk, if_pos h, nI_clamp (by omega)]
theorem pu_dr_f {pr : Nat} {x : Int32} (h : pu_has pr x = false) : pu_dr pr x = (0, pr) := by
  unfold pu_dr
  rw [if_neg (by rw [h]; decide)]
theorem pu_id_t {pr k : Nat} {S V : Nat → Nat} (hk : k < 10) (h : pr.testBit k = true) : pu_id pr S V (nI k) = pu_en pr (pr ^^^ 2 ^ k) S V := by
  unfold pu_id
  rw [pu_has_nI hk, h, nI_clamp (by omega)]
  rfl
theorem pu_id_f {pr : Nat} {S V : Nat → Nat} {x : Int32} (h : pu_has pr x = false) : pu_id pr S V x = false := by
  unfold pu_id
  rw [h]
  rfl
/-- rounds of the desk's loops -/
theorem pu_dn_lt {R : Nat → Nat} (a : Nat) (h : ∀ j, j < 8 → R j < 256) : ∀ n, n ≤ 8 → pu_dn R a n < 256 := by
  intro n
  induction n with
  | zero => intro _; exact (by decide : (0 : Nat) < 256)
  | succ n ih =>
    intro hn
    have h2 := h (7 - n) (by omega)
    refine pu_lt8 (ih (by omega)) ?_
    split <;> omega
theorem pu_red_t {R X : Nat → Nat} (h : pu_RR R X) {a b q lf lw : Nat} (hq : q < 8) (e1 : lf = a ^^^ pu_dn R a (8 - (q + 1))) (e2 : lw = b ^^^ pu_dn X a (8 - (q + 1))) (h1 : lf.testBit q = true) (h0 : R q ≠ 0) : lf ^^^ R q = a ^^^ pu_dn R a (8 - q) ∧ lw ^^^ X q = b ^^^ pu_dn X a (8 - q) := by
  subst e1; subst e2
  obtain ⟨z1, z2⟩ := pu_red1 (b := b) h (n := 8 - (q + 1)) (i := q) (by omega) (by omega) h1 h0
  rw [show 8 - q = 8 - (q + 1) + 1 by omega, z1, z2]
  exact ⟨rfl, rfl⟩
theorem pu_red_f {R X : Nat → Nat} (h : pu_RR R X) {a b q lf lw : Nat} (hq : q < 8) (e1 : lf = a ^^^ pu_dn R a (8 - (q + 1))) (e2 : lw = b ^^^ pu_dn X a (8 - (q + 1))) (h1 : lf.testBit q = false ∨ R q = 0) : lf = a ^^^ pu_dn R a (8 - q) ∧ lw = b ^^^ pu_dn X a (8 - q) := by
  subst e1; subst e2
  obtain ⟨z1, z2⟩ := pu_red0 (b := b) h (n := 8 - (q + 1)) (i := q) (by omega) (by omega) h1
  rw [show 8 - q = 8 - (q + 1) + 1 by omega, z1, z2]
  exact ⟨rfl, rfl⟩
theorem pu_lead {a : Nat} (ha : a < 256) (hz : a ≠ 0) (h : ∀ j, 0 < j → j < 8 → a.testBit j = false) : a.testBit 0 = true := by
  by_cases q : a.testBit 0 = true
  · exact q
  · exfalso
    apply hz
    apply Nat.eq_of_testBit_eq
    intro j
    rw [Nat.zero_testBit]
    by_cases q0 : j = 0
    · subst q0
      simpa using q
    · by_cases q8 : j < 8
      · exact h j (by omega) q8
      · exact Nat.testBit_lt_two_pow (Nat.lt_of_lt_of_le ha (Nat.pow_le_pow_right (n := 2) (by decide) (by omega : 8 ≤ j)))
theorem pu_up_zero {R X : Nat → Nat} {k : Nat} (h : ∀ j, j < k → R j = 0 ∧ X j = 0) : ∀ j, j < k + 1 → pu_up R k 0 j = 0 ∧ pu_up X k 0 j = 0 := by
  intro j hj
  unfold pu_up
  by_cases q : j = k
  · rw [if_pos q, if_pos q]
    exact ⟨rfl, rfl⟩
  · rw [if_neg q, if_neg q]
    exact h j (by omega)
def pu_part (R X R1 X1 : Nat → Nat) (l w i j : Nat) : Prop := ∀ t, t < 8 → R1 t = (if t < j ∧ (R t).testBit i = true then R t ^^^ l else R t) ∧ X1 t = (if t < j ∧ (R t).testBit i = true then X t ^^^ w else X t)
theorem pu_part0 {R X : Nat → Nat} {l w i : Nat} : pu_part R X R X l w i 0 := by
  intro t _
  rw [if_neg (by omega), if_neg (by omega)]
  exact ⟨rfl, rfl⟩
theorem pu_part_at {R X R1 X1 : Nat → Nat} {l w i j : Nat} (h : pu_part R X R1 X1 l w i j) (hj : j < 8) : R1 j = R j ∧ X1 j = X j := by
  obtain ⟨h1, h2⟩ := h j hj
  rw [if_neg (by omega)] at h1 h2
  exact ⟨h1, h2⟩
theorem pu_part_f {R X R1 X1 : Nat → Nat} {l w i j : Nat} (h : pu_part R X R1 X1 l w i j) (hj : j < 8) (hb : (R1 j).testBit i = false) : pu_part R X R1 X1 l w i (j + 1) := by
  intro t ht
  obtain ⟨h1, h2⟩ := h t ht
  rw [(pu_part_at h hj).1] at hb
  have e : (t < j + 1 ∧ (R t).testBit i = true) ↔ (t < j ∧ (R t).testBit i = true) := by
    constructor
    · rintro ⟨a1, a2⟩
      refine ⟨?_, a2⟩
      by_cases q : t = j
      · rw [q, hb] at a2
        cases a2
      · omega
    · rintro ⟨a1, a2⟩
      exact ⟨by omega, a2⟩
  rw [h1, h2]
  simp only [e]
  exact ⟨trivial, trivial⟩
theorem pu_part_t {R X R1 X1 : Nat → Nat} {l w i j : Nat} (h : pu_part R X R1 X1 l w i j) (hj : j < 8) (hb : (R1 j).testBit i = true) : pu_part R X (pu_up R1 j (R1 j ^^^ l)) (pu_up X1 j (X1 j ^^^ w)) l w i (j + 1) := by
  obtain ⟨g1, g2⟩ := pu_part_at h hj
  intro t ht
  obtain ⟨h1, h2⟩ := h t ht
  unfold pu_up
  by_cases q : t = j
  · subst q
    rw [if_pos rfl, if_pos rfl, g1, g2]
    rw [g1] at hb
    rw [if_pos ⟨Nat.lt_succ_self t, hb⟩, if_pos ⟨Nat.lt_succ_self t, hb⟩]
    exact ⟨rfl, rfl⟩
  · have e : (t < j + 1 ∧ (R t).testBit i = true) ↔ (t < j ∧ (R t).testBit i = true) := by
      constructor
      · rintro ⟨a1, a2⟩
        exact ⟨by omega, a2⟩
      · rintro ⟨a1, a2⟩
        exact ⟨by omega, a2⟩
    rw [if_neg q, if_neg q, h1, h2]
    simp only [e]
    exact ⟨trivial, trivial⟩
theorem pu_part_end {R X R1 X1 : Nat → Nat} {l w i j : Nat} (hj : 8 ≤ j) (h : pu_part R X R1 X1 l w i j) : pu_inc R X l w i (pu_up R1 i l) (pu_up X1 i w) := by
  intro t ht
  obtain ⟨h1, h2⟩ := h t ht
  unfold pu_up
  have hl : t < j := by omega
  by_cases q : t = i
  · rw [if_pos q, if_pos q, if_pos q, if_pos q]
    exact ⟨rfl, rfl⟩
  · rw [if_neg q, if_neg q, if_neg q, if_neg q, h1, h2]
    simp only [hl, true_and]
theorem pu_refuse {R X : Nat → Nat} {rk m a b : Nat} {S V : Nat → Nat} (h : pu_good R X rk (pu_sp m S V 10)) (hb : b < 256) (h0 : a ^^^ pu_cb R 8 a = 0) (h1 : b ^^^ pu_cb X 8 a ≠ 0) : 0 ≤ pu_vb m S V a ∧ pu_vb m S V a ≠ nI b := by
  have hx : pu_cb X 8 a < 256 := pu_cb_lt a (fun j hj => (h.1.1 j hj).2)
  rw [pu_x0] at h0
  rw [pu_good_vb h, if_pos h0.symm]
  refine ⟨nI_pos' (by omega), fun z => h1 ?_⟩
  rw [pu_x0]
  exact ((nI_eq (by omega) (by omega)).mp z).symm
theorem pu_accept {R X : Nat → Nat} {rk m a b : Nat} {S V : Nat → Nat} (h : pu_good R X rk (pu_sp m S V 10)) (h0 : a ^^^ pu_cb R 8 a ≠ 0 ∨ b ^^^ pu_cb X 8 a = 0) : ¬ (0 ≤ pu_vb m S V a ∧ pu_vb m S V a ≠ nI b) := by
  rw [pu_good_vb h]
  rintro ⟨z1, z2⟩
  by_cases q : pu_cb R 8 a = a
  · rw [if_pos q] at z2
    rcases h0 with y | y
    · exact y (by rw [q, Nat.xor_self])
    · rw [pu_x0] at y
      exact z2 (by rw [y])
  · rw [if_neg q] at z1
    exact absurd z1 (by decide)
theorem pu_dk_take {R X R' X' : Nat → Nat} {pr rk rk' k a b : Nat} {S V : Nat → Nat} (hI : pu_inv pr S V) (h : pu_good R X rk (pu_sp pr S V 10)) (ha : a < 256) (hb : b < 256) (hk : k < 10) (hf : pr.testBit k = false) (hi : pu_incl R X rk a b R' X' rk') (hc : a ^^^ pu_cb R 8 a = 0 → b ^^^ pu_cb X 8 a = 0) : pu_dk (pr ||| 2 ^ k) (pu_up S k a) (pu_up V k b) 1 R' X' rk' := by
  have hg : pu_good R' X' rk' (pu_sp (pr ||| 2 ^ k) (pu_up S k a) (pu_up V k b) 10) := by
    refine pu_good_congr (pu_incl_good h ha hb hi hc) (fun s v => ?_)
    rw [pu_sp_add hf]
    simp [hk]
  refine ⟨⟨?_, fun j hj => ?_, pu_good_con hg⟩, Nat.le_refl 1, fun _ => hg⟩
  · exact Nat.or_lt_two_pow (n := 10) hI.1 (Nat.pow_lt_pow_right (by decide) hk)
  · unfold pu_up
    obtain ⟨h1, h2⟩ := hI.2.1 j hj
    split
    · exact ⟨ha, hb⟩
    · exact ⟨h1, h2⟩
theorem pu_inv_drop {pr k : Nat} {S V : Nat → Nat} (hI : pu_inv pr S V) (hk : k < 10) (hf : pr.testBit k = true) : pu_inv (pr ^^^ 2 ^ k) S V := by
  refine ⟨Nat.xor_lt_two_pow (n := 10) hI.1 (Nat.pow_lt_pow_right (by decide) hk), hI.2.1, pu_con_sub (fun j hj => ?_) hI.2.2⟩
  rw [Nat.testBit_xor, Nat.testBit_two_pow] at hj
  by_cases q : k = j
  · rw [← q]; exact hf
  · simpa [q] using hj
theorem pu_mk_t {f : Nat → Bool} {n : Nat} (h : f n = true) : nI (pu_mk f n) ||| nI (2 ^ n) = nI (pu_mk f (n + 1)) := by
  rw [nx_or]
  simp only [pu_mk]
  rw [if_pos h]
theorem pu_mk_f {f : Nat → Bool} {n : Nat} (h : f n = false) : nI (pu_mk f n) ||| nI 0 = nI (pu_mk f (n + 1)) := by
  rw [nx_or]
  simp only [pu_mk]
  rw [if_neg (by rw [h]; decide)]
theorem pu_mk_fn {f : Nat → Bool} {n : Nat} (h : f n = false) : pu_mk f (n + 1) = pu_mk f n := by
  simp only [pu_mk]
  rw [if_neg (by rw [h]; decide), Nat.or_zero]
theorem pu_ct_t {f : Nat → Bool} {n : Nat} (h : f n = true) : pu_ct f (n + 1) = pu_ct f n + 1 := by
  simp only [pu_ct, h]
  rfl
theorem pu_ct_f {f : Nat → Bool} {n : Nat} (h : f n = false) : pu_ct f (n + 1) = pu_ct f n := by
  simp only [pu_ct, h]
  rfl
def pu_mo (g : Nat → Nat) : Nat → Int32
  | 0 => -1
  | n + 1 => nI (g (pu_bst g n))
theorem pu_bs_le {g : Nat → Nat} (hg : ∀ a, g a ≤ 8) {k : Nat} (h : nI (g (k + 1)) ≤ pu_mo g k) : pu_bst g k = pu_bst g (k - 1) ∧ pu_mo g (k + 1) = pu_mo g k := by
  cases k with
  | zero =>
    exfalso
    have h1 := hg (0 + 1)
    have h2 : 0 ≤ nI (g (0 + 1)) := nI_pos' (by omega)
    have h3 : nI (g (0 + 1)) ≤ -1 := h
    rw [Int32.le_iff_toInt_le] at h2 h3
    have e0 : (0 : Int32).toInt = 0 := by decide
    have e1 : (-1 : Int32).toInt = -1 := by decide
    omega
  | succ t =>
    have h1 : g (t + 2) ≤ 8 := hg (t + 2)
    have h2 := hg (pu_bst g t)
    have h3 : g (t + 2) ≤ g (pu_bst g t) := (nI_leI (by omega) (by omega)).mp h
    have e : pu_bst g (t + 1) = pu_bst g t := by
      simp only [pu_bst]
      rw [if_neg (by omega)]
    refine ⟨e, ?_⟩
    show nI (g (pu_bst g (t + 1))) = nI (g (pu_bst g t))
    rw [e]
theorem pu_bs_gt {g : Nat → Nat} (hg : ∀ a, g a ≤ 8) {k : Nat} (h : ¬ nI (g (k + 1)) ≤ pu_mo g k) : pu_bst g k = k + 1 := by
  cases k with
  | zero => rfl
  | succ t =>
    have h1 : g (t + 2) ≤ 8 := hg (t + 2)
    have h2 := hg (pu_bst g t)
    have h3 : ¬ g (t + 2) ≤ g (pu_bst g t) := fun z => h (nI_le z (by omega))
    simp only [pu_bst]
    rw [if_pos (by omega)]
def fd_pre : Nat → Int32
  | 0 => -1
  | n + 1 => nI n
theorem fd_pre_m1 (q : Nat) : nI q + (-1) = fd_pre q := by
  cases q with
  | zero => decide
  | succ q => exact pk_m1 q
theorem pu_dk0 {pr rk : Nat} {S V R X : Nat → Nat} (h : pu_inv pr S V) : pu_dk pr S V 0 R X rk := ⟨h, Nat.zero_le 1, fun z => absurd z (by decide)⟩
end
section
/-! ROWS OF MY OWN over the kit's: ints on the stack as nI of naturals, branches over naturals, arrays of naturals, calls and returns over one form of contract, a loop's rule -/
abbrev vwCl : List vw_C := [(RX0, TX0, 9), (RX1, TX1, 4)]
/-- the array classes: short[], boolean[], int[] -/
abbrev fd_ty (dS dZ dN : ClassId) : List (ClassId × FieldType) := [(dS, .short), (dZ, .boolean), (dN, .int)]
/-- room for k calls, one within another -/
abbrev fd_rm (k : Nat) : Room := { frames := k, cells := 0, slots := 0, locals := 27 * k }
abbrev fd_Pre (G : va_G) (tys : List (ClassId × FieldType)) (w : va_W) (sz : Nat) : State → Prop := fun U => U.heap.size = sz ∧ va_P G vwCl w U.heap ∧ va_K G vwCl tys U ∧ va_D (fun _ => True) w
abbrev fd_B (G : va_G) (tys : List (ClassId × FieldType)) (A : Nat → Prop) (w : va_W) (t : State) : Prop := va_P G vwCl w t.heap ∧ va_K G vwCl tys t ∧ va_D A w
/-- a contract of a method that answers an int: its cells w at the start, w' u at the end, no cell made -/
abbrev fd_MI (l : Launch) (y : MethodName) (ws0 : List Cond) (k : Nat) (G : va_G) (tys : List (ClassId × FieldType)) (av : List Value) (w : va_W) (sz : Nat) {S : Type} (post : Int32 → S → Prop) (w' : S → va_W) : Prop :=
  Met l y ws0 (fd_rm k) (va_Pc av (fd_Pre G tys w sz)) (va_Qi post (fun u t => fd_B G tys (va_A w sz) (w' u) t) (va_A w sz)) 0 0 (va_A w sz)
/-- the same of a method that answers nothing -/
abbrev fd_MV (l : Launch) (y : MethodName) (ws0 : List Cond) (k : Nat) (G : va_G) (tys : List (ClassId × FieldType)) (av : List Value) (w : va_W) (sz : Nat) {S : Type} (post : S → Prop) (w' : S → va_W) : Prop :=
  Met l y ws0 (fd_rm k) (va_Pc av (fd_Pre G tys w sz)) (va_Qv post (fun u t => fd_B G tys (va_A w sz) (w' u) t) (va_A w sz)) 0 0 (va_A w sz)
section FD
variable {p : Program} {l : Launch} {e : Env} {R : Room} {s : State} {m : MethodId} {args : Array Value} {below : List Frame} {meth : Method} {c : Code} {H : Heap} {locs : List Loc} {cells slots : Nat} {Q : State → Prop} {cc : ByteArray} {pc : Nat} {ls : Array Slot} {rest : List Value}
theorem fd_top {x y : Int32} (h : x = y) (k : W p l e R s m args below meth c H locs cells slots Q (F0 m pc ls (.int y :: rest))) : W p l e R s m args below meth c H locs cells slots Q (F0 m pc ls (.int x :: rest)) := by
  rw [h]; exact k
theorem fd_if_eq (hexec : p.tables.exec = Jvm.exec) (hb : c.code = cc) {a : Nat} {off : Int} {tgt : Nat} (hdg : decode cc pc = .ok (.ifCond .eq off, 3)) (ht : (pc : Int) + off = (tgt : Int)) (ha : a < 2 ^ 31)
    (kt : a = 0 → W p l e R s m args below meth c H locs cells slots Q (F0 m tgt ls rest)) (kf : a ≠ 0 → W p l e R s m args below meth c H locs cells slots Q (F0 m (pc + 3) ls rest)) : W p l e R s m args below meth c H locs cells slots Q (F0 m pc ls (.int (nI a) :: rest)) :=
  lv_if_eq hexec hb hdg ht (fun h => kt ((nI_eq ha (by decide)).mp (h.trans nI_0.symm))) (fun h => kf (fun z => h (by rw [z]; exact nI_0)))
theorem fd_if_ne (hexec : p.tables.exec = Jvm.exec) (hb : c.code = cc) {a : Nat} {off : Int} {tgt : Nat} (hdg : decode cc pc = .ok (.ifCond .ne off, 3)) (ht : (pc : Int) + off = (tgt : Int)) (ha : a < 2 ^ 31)
    (kt : a ≠ 0 → W p l e R s m args below meth c H locs cells slots Q (F0 m tgt ls rest)) (kf : a = 0 → W p l e R s m args below meth c H locs cells slots Q (F0 m (pc + 3) ls rest)) : W p l e R s m args below meth c H locs cells slots Q (F0 m pc ls (.int (nI a) :: rest)) :=
  lv_if_ne hexec hb hdg ht (fun h => kt (fun z => h (by rw [z]; exact nI_0))) (fun h => kf ((nI_eq ha (by decide)).mp (h.trans nI_0.symm)))
theorem fd_if_le (hexec : p.tables.exec = Jvm.exec) (hb : c.code = cc) {a : Nat} {off : Int} {tgt : Nat} (hdg : decode cc pc = .ok (.ifCond .le off, 3)) (ht : (pc : Int) + off = (tgt : Int)) (ha : a < 2 ^ 31)
    (kt : a = 0 → W p l e R s m args below meth c H locs cells slots Q (F0 m tgt ls rest)) (kf : 0 < a → W p l e R s m args below meth c H locs cells slots Q (F0 m (pc + 3) ls rest)) : W p l e R s m args below meth c H locs cells slots Q (F0 m pc ls (.int (nI a) :: rest)) :=
  lv_if_le hexec hb hdg ht (fun h => kt (Nat.le_zero.mp ((nI_leI ha (by decide)).mp (show nI a ≤ nI 0 from h)))) (fun h => kf (Nat.pos_of_ne_zero (fun z => h (by rw [z]; decide))))
theorem fd_bit_eq (hexec : p.tables.exec = Jvm.exec) (hb : c.code = cc) {b : Bool} {off : Int} {tgt : Nat} (hdg : decode cc pc = .ok (.ifCond .eq off, 3)) (ht : (pc : Int) + off = (tgt : Int))
    (kt : b = false → W p l e R s m args below meth c H locs cells slots Q (F0 m tgt ls rest)) (kf : b = true → W p l e R s m args below meth c H locs cells slots Q (F0 m (pc + 3) ls rest)) : W p l e R s m args below meth c H locs cells slots Q (F0 m pc ls (.int (nI b.toNat) :: rest)) := by
  cases b
  · exact lv_if_eq hexec hb hdg ht (fun _ => kt rfl) (fun h => absurd (by decide) h)
  · exact lv_if_eq hexec hb hdg ht (fun h => absurd h (by decide)) (fun _ => kf rfl)
theorem fd_bit_ne (hexec : p.tables.exec = Jvm.exec) (hb : c.code = cc) {b : Bool} {off : Int} {tgt : Nat} (hdg : decode cc pc = .ok (.ifCond .ne off, 3)) (ht : (pc : Int) + off = (tgt : Int))
    (kt : b = true → W p l e R s m args below meth c H locs cells slots Q (F0 m tgt ls rest)) (kf : b = false → W p l e R s m args below meth c H locs cells slots Q (F0 m (pc + 3) ls rest)) : W p l e R s m args below meth c H locs cells slots Q (F0 m pc ls (.int (nI b.toNat) :: rest)) := by
  cases b
  · exact lv_if_ne hexec hb hdg ht (fun h => absurd (by decide) h) (fun _ => kf rfl)
  · exact lv_if_ne hexec hb hdg ht (fun _ => kt rfl) (fun h => absurd h (by decide))
theorem fd_icmp_ge (hexec : p.tables.exec = Jvm.exec) (hb : c.code = cc) {x y : Nat} {off : Int} {tgt : Nat} (hdg : decode cc pc = .ok (.if_icmp .ge off, 3)) (ht : (pc : Int) + off = (tgt : Int)) (hx : x < 2 ^ 31) (hy : y < 2 ^ 31)
    (kt : y ≤ x → W p l e R s m args below meth c H locs cells slots Q (F0 m tgt ls rest)) (kf : x < y → W p l e R s m args below meth c H locs cells slots Q (F0 m (pc + 3) ls rest)) : W p l e R s m args below meth c H locs cells slots Q (F0 m pc ls (.int (nI y) :: .int (nI x) :: rest)) :=
  lv_icmp_ge hexec hb hdg ht (fun h => kt ((nI_leI hy hx).mp h)) (fun h => kf (Nat.not_le.mp (fun z => h (nI_le z hx))))
theorem fd_icmp_lt (hexec : p.tables.exec = Jvm.exec) (hb : c.code = cc) {x y : Nat} {off : Int} {tgt : Nat} (hdg : decode cc pc = .ok (.if_icmp .lt off, 3)) (ht : (pc : Int) + off = (tgt : Int)) (hx : x < 2 ^ 31) (hy : y < 2 ^ 31)
    (kt : x < y → W p l e R s m args below meth c H locs cells slots Q (F0 m tgt ls rest)) (kf : y ≤ x → W p l e R s m args below meth c H locs cells slots Q (F0 m (pc + 3) ls rest)) : W p l e R s m args below meth c H locs cells slots Q (F0 m pc ls (.int (nI y) :: .int (nI x) :: rest)) :=
  lv_icmp_lt hexec hb hdg ht (fun h => kt ((nI_ltI hx hy).mp h)) (fun h => kf (Nat.not_lt.mp (fun z => h (nI_lt z hy))))
theorem fd_icmp_gt (hexec : p.tables.exec = Jvm.exec) (hb : c.code = cc) {x y : Nat} {off : Int} {tgt : Nat} (hdg : decode cc pc = .ok (.if_icmp .gt off, 3)) (ht : (pc : Int) + off = (tgt : Int)) (hx : x < 2 ^ 31) (hy : y < 2 ^ 31)
    (kt : y < x → W p l e R s m args below meth c H locs cells slots Q (F0 m tgt ls rest)) (kf : x ≤ y → W p l e R s m args below meth c H locs cells slots Q (F0 m (pc + 3) ls rest)) : W p l e R s m args below meth c H locs cells slots Q (F0 m pc ls (.int (nI y) :: .int (nI x) :: rest)) :=
  lv_icmp_gt hexec hb hdg ht (fun h => kt ((nI_ltI hy hx).mp h)) (fun h => kf (Nat.not_lt.mp (fun z => h (nI_lt z hx))))
theorem fd_icmp_le (hexec : p.tables.exec = Jvm.exec) (hb : c.code = cc) {x y : Nat} {off : Int} {tgt : Nat} (hdg : decode cc pc = .ok (.if_icmp .le off, 3)) (ht : (pc : Int) + off = (tgt : Int)) (hx : x < 2 ^ 31) (hy : y < 2 ^ 31)
    (kt : x ≤ y → W p l e R s m args below meth c H locs cells slots Q (F0 m tgt ls rest)) (kf : y < x → W p l e R s m args below meth c H locs cells slots Q (F0 m (pc + 3) ls rest)) : W p l e R s m args below meth c H locs cells slots Q (F0 m pc ls (.int (nI y) :: .int (nI x) :: rest)) :=
  lv_icmp_le hexec hb hdg ht (fun h => kt ((nI_leI hx hy).mp h)) (fun h => kf (Nat.not_le.mp (fun z => h (nI_le z hy))))
theorem fd_icmp_ne (hexec : p.tables.exec = Jvm.exec) (hb : c.code = cc) {x y : Nat} {off : Int} {tgt : Nat} (hdg : decode cc pc = .ok (.if_icmp .ne off, 3)) (ht : (pc : Int) + off = (tgt : Int)) (hx : x < 2 ^ 31) (hy : y < 2 ^ 31)
    (kt : x ≠ y → W p l e R s m args below meth c H locs cells slots Q (F0 m tgt ls rest)) (kf : x = y → W p l e R s m args below meth c H locs cells slots Q (F0 m (pc + 3) ls rest)) : W p l e R s m args below meth c H locs cells slots Q (F0 m pc ls (.int (nI y) :: .int (nI x) :: rest)) :=
  lv_icmp_ne hexec hb hdg ht (fun h => kt (fun z => h (by rw [z]))) (fun h => kf ((nI_eq hx hy).mp h))
theorem fd_icmp_eq (hexec : p.tables.exec = Jvm.exec) (hb : c.code = cc) {x y : Nat} {off : Int} {tgt : Nat} (hdg : decode cc pc = .ok (.if_icmp .eq off, 3)) (ht : (pc : Int) + off = (tgt : Int)) (hx : x < 2 ^ 31) (hy : y < 2 ^ 31)
    (kt : x = y → W p l e R s m args below meth c H locs cells slots Q (F0 m tgt ls rest)) (kf : x ≠ y → W p l e R s m args below meth c H locs cells slots Q (F0 m (pc + 3) ls rest)) : W p l e R s m args below meth c H locs cells slots Q (F0 m pc ls (.int (nI y) :: .int (nI x) :: rest)) :=
  lv_icmp_eq hexec hb hdg ht (fun h => kt ((nI_eq hx hy).mp h)) (fun h => kf (fun z => h (by rw [z])))
/-- a loop: the measure n falls -/
theorem fd_loop (I : Nat → Heap → List Loc → Array Slot → Prop) (n0 : Nat) (h0 : I n0 H locs ls)
    (hs : ∀ (n : Nat) (H : Heap) (locs : List Loc) (ls : Array Slot), I n H locs ls → (∀ (n' : Nat) (H : Heap) (locs : List Loc) (ls : Array Slot), n' < n → I n' H locs ls → W p l e R s m args below meth c H locs cells slots Q (F0 m pc ls [])) → W p l e R s m args below meth c H locs cells slots Q (F0 m pc ls [])) :
    W p l e R s m args below meth c H locs cells slots Q (F0 m pc ls []) := by
  have key : ∀ (k n : Nat) (H : Heap) (locs : List Loc) (ls : Array Slot), n < k → I n H locs ls → W p l e R s m args below meth c H locs cells slots Q (F0 m pc ls []) := by
    intro k
    induction k with
    | zero => intro n _ _ _ h; exact absurd h (Nat.not_lt_zero n)
    | succ k ih =>
      intro n H locs ls hn hI
      exact hs n H locs ls hI (fun n' H' locs' ls' h' hI' => ih n' H' locs' ls' (by omega) hI')
  exact key (n0 + 1) n0 H locs ls (Nat.lt_succ_self n0) h0
variable {G : va_G} {cl : List vw_C} {A : Nat → Prop} {a : Nat} {tys : List (ClassId × FieldType)} {ws : va_W} {H0 : Heap}
-- loads out of arrays of naturals
theorem fd_sald (hexec : p.tables.exec = Jvm.exec) (hb : c.code = cc) (hK : va_K G cl tys s) (hP : va_P G cl ws H) (q0 t0 : Nat) {cA : ClassId} {n : Nat} (F : Nat → Nat) (ha : ws[q0]? = some (a, .inl (cA, n, .inl (fun j => nI (F j))))) (ht : tys[t0]? = some (cA, .short)) {i : Nat} (hi : i < n) (hn : n < 2 ^ 31) (hdg : decode cc pc = .ok (.saload, 1))
    (kk : W p l e R s m args below meth c H locs cells slots Q (F0 m (pc + 1) ls (.int (nI (F i)) :: rest))) : W p l e R s m args below meth c H locs cells slots Q (F0 m pc ls (.int (nI i) :: .ref a :: rest)) := by
  refine va_sald hexec hb hK hP q0 t0 ha ht (vp_in_nI hi hn) hdg ?_
  rw [nI_clamp (Nat.lt_trans hi hn)]
  exact kk
theorem fd_iald (hexec : p.tables.exec = Jvm.exec) (hb : c.code = cc) (hK : va_K G cl tys s) (hP : va_P G cl ws H) (q0 t0 : Nat) {cA : ClassId} {n : Nat} (F : Nat → Nat) (ha : ws[q0]? = some (a, .inl (cA, n, .inl (fun j => nI (F j))))) (ht : tys[t0]? = some (cA, .int)) {i : Nat} (hi : i < n) (hn : n < 2 ^ 31) (hdg : decode cc pc = .ok (.iaload, 1))
    (kk : W p l e R s m args below meth c H locs cells slots Q (F0 m (pc + 1) ls (.int (nI (F i)) :: rest))) : W p l e R s m args below meth c H locs cells slots Q (F0 m pc ls (.int (nI i) :: .ref a :: rest)) := by
  refine va_iald hexec hb hK hP q0 t0 ha ht (vp_in_nI hi hn) hdg ?_
  rw [nI_clamp (Nat.lt_trans hi hn)]
  exact kk
theorem fd_tald (hexec : p.tables.exec = Jvm.exec) (hb : c.code = cc) (hK : va_K G cl tys s) (hP : va_P G cl ws H) (q0 t0 : Nat) {cA : ClassId} {n : Nat} (F : Nat → Int32) (ha : ws[q0]? = some (a, .inl (cA, n, .inl F))) (ht : tys[t0]? = some (cA, .int)) {i : Nat} (hi : i < n) (hn : n < 2 ^ 31) (hdg : decode cc pc = .ok (.iaload, 1))
    (kk : W p l e R s m args below meth c H locs cells slots Q (F0 m (pc + 1) ls (.int (F i) :: rest))) : W p l e R s m args below meth c H locs cells slots Q (F0 m pc ls (.int (nI i) :: .ref a :: rest)) := by
  refine va_iald hexec hb hK hP q0 t0 ha ht (vp_in_nI hi hn) hdg ?_
  rw [nI_clamp (Nat.lt_trans hi hn)]
  exact kk
theorem fd_zald (hexec : p.tables.exec = Jvm.exec) (hb : c.code = cc) (hK : va_K G cl tys s) (hP : va_P G cl ws H) (q0 t0 : Nat) {cA : ClassId} {n : Nat} (pr : Nat) (ha : ws[q0]? = some (a, .inl (cA, n, .inl (fun j => nI (pr.testBit j).toNat)))) (ht : tys[t0]? = some (cA, .boolean)) {i : Nat} (hi : i < n) (hn : n < 2 ^ 31) (hdg : decode cc pc = .ok (.baload, 1))
    (kk : W p l e R s m args below meth c H locs cells slots Q (F0 m (pc + 1) ls (.int (nI (pr.testBit i).toNat) :: rest))) : W p l e R s m args below meth c H locs cells slots Q (F0 m pc ls (.int (nI i) :: .ref a :: rest)) := by
  refine va_zald hexec hb hK hP q0 t0 ha ht (vp_in_nI hi hn) hdg ?_
  rw [nI_clamp (Nat.lt_trans hi hn)]
  exact kk
theorem fd_upd (F : Nat → Nat) (i x : Nat) : upd (fun j => nI (F j)) i (nI x) = fun j => nI (pu_up F i x j) := by
  funext j
  unfold upd pu_up
  by_cases h : j = i
  · rw [if_pos h, if_pos h]
  · rw [if_neg h, if_neg h]
theorem fd_short : ∀ x, x < 256 → vp_nar .short (nI x) = nI x := by decide +kernel
theorem fd_short2 : ∀ x, x < 256 → (nI x).toInt16.toInt32 = nI x := by decide +kernel
-- stores
theorem fd_sast (hexec : p.tables.exec = Jvm.exec) (hb : c.code = cc) (hK : va_K G cl tys s) (hP : va_P G cl ws H) (hD : va_D A ws) (hS : va_S A H0 H locs) (q0 t0 : Nat) {cA : ClassId} {n : Nat} (F : Nat → Nat) (ha : ws[q0]? = some (a, .inl (cA, n, .inl (fun j => nI (F j))))) (ht : tys[t0]? = some (cA, .short)) {i x : Nat} (hi : i < n) (hn : n < 2 ^ 31) (hx : x < 256) (hdg : decode cc pc = .ok (.sastore, 1))
    (kk : ∀ (H1 : Heap) (locs1 : List Loc), va_P G cl (ws.set q0 (a, .inl (cA, n, .inl (fun j => nI (pu_up F i x j))))) H1 → va_D A (ws.set q0 (a, .inl (cA, n, .inl (fun j => nI (pu_up F i x j))))) → va_S A H0 H1 locs1 → W p l e R s m args below meth c H1 locs1 cells slots Q (F0 m (pc + 1) ls rest)) : W p l e R s m args below meth c H locs cells slots Q (F0 m pc ls (.int (nI x) :: .int (nI i) :: .ref a :: rest)) := by
  refine va_sast hexec hb hK hP hD hS q0 t0 ha ht (vp_in_nI hi hn) hdg (fun H1 locs1 h1 h2 h3 => ?_)
  rw [nI_clamp (Nat.lt_trans hi hn), fd_short x hx, fd_upd] at h1 h2
  exact kk H1 locs1 h1 h2 h3
theorem fd_iast (hexec : p.tables.exec = Jvm.exec) (hb : c.code = cc) (hK : va_K G cl tys s) (hP : va_P G cl ws H) (hD : va_D A ws) (hS : va_S A H0 H locs) (q0 t0 : Nat) {cA : ClassId} {n : Nat} (F : Nat → Nat) (ha : ws[q0]? = some (a, .inl (cA, n, .inl (fun j => nI (F j))))) (ht : tys[t0]? = some (cA, .int)) {i x : Nat} (hi : i < n) (hn : n < 2 ^ 31) (hdg : decode cc pc = .ok (.iastore, 1))
    (kk : ∀ (H1 : Heap) (locs1 : List Loc), va_P G cl (ws.set q0 (a, .inl (cA, n, .inl (fun j => nI (pu_up F i x j))))) H1 → va_D A (ws.set q0 (a, .inl (cA, n, .inl (fun j => nI (pu_up F i x j))))) → va_S A H0 H1 locs1 → W p l e R s m args below meth c H1 locs1 cells slots Q (F0 m (pc + 1) ls rest)) : W p l e R s m args below meth c H locs cells slots Q (F0 m pc ls (.int (nI x) :: .int (nI i) :: .ref a :: rest)) := by
  refine va_iast hexec hb hK hP hD hS q0 t0 ha ht (vp_in_nI hi hn) hdg (fun H1 locs1 h1 h2 h3 => ?_)
  rw [nI_clamp (Nat.lt_trans hi hn), fd_upd] at h1 h2
  exact kk H1 locs1 h1 h2 h3
theorem fd_tast (hexec : p.tables.exec = Jvm.exec) (hb : c.code = cc) (hK : va_K G cl tys s) (hP : va_P G cl ws H) (hD : va_D A ws) (hS : va_S A H0 H locs) (q0 t0 : Nat) {cA : ClassId} {n : Nat} (F : Nat → Int32) (ha : ws[q0]? = some (a, .inl (cA, n, .inl F))) (ht : tys[t0]? = some (cA, .int)) {i : Nat} {x : Int32} (hi : i < n) (hn : n < 2 ^ 31) (hdg : decode cc pc = .ok (.iastore, 1))
    (kk : ∀ (H1 : Heap) (locs1 : List Loc), va_P G cl (ws.set q0 (a, .inl (cA, n, .inl (upd F i x)))) H1 → va_D A (ws.set q0 (a, .inl (cA, n, .inl (upd F i x)))) → va_S A H0 H1 locs1 → W p l e R s m args below meth c H1 locs1 cells slots Q (F0 m (pc + 1) ls rest)) : W p l e R s m args below meth c H locs cells slots Q (F0 m pc ls (.int x :: .int (nI i) :: .ref a :: rest)) := by
  refine va_iast hexec hb hK hP hD hS q0 t0 ha ht (vp_in_nI hi hn) hdg (fun H1 locs1 h1 h2 h3 => ?_)
  rw [nI_clamp (Nat.lt_trans hi hn)] at h1 h2
  exact kk H1 locs1 h1 h2 h3
theorem fd_there1 (pr i : Nat) : upd (fun j => nI (pr.testBit j).toNat) i (vp_nar .boolean (nI 1)) = fun j => nI ((pr ||| 2 ^ i).testBit j).toNat := by
  funext j
  unfold upd
  rw [Nat.testBit_or, Nat.testBit_two_pow]
  by_cases h : j = i
  · rw [if_pos h, h]
    simp
    decide
  · have h2 : ¬ i = j := fun z => h z.symm
    rw [if_neg h]
    simp [h2]
theorem fd_there0 (pr i : Nat) (h1 : pr.testBit i = true) : upd (fun j => nI (pr.testBit j).toNat) i (vp_nar .boolean (nI 0)) = fun j => nI ((pr ^^^ 2 ^ i).testBit j).toNat := by
  funext j
  unfold upd
  rw [Nat.testBit_xor, Nat.testBit_two_pow]
  by_cases h : j = i
  · rw [if_pos h, h, h1]
    simp
    decide
  · have h2 : ¬ i = j := fun z => h z.symm
    rw [if_neg h]
    simp [h2]
theorem fd_zast (hexec : p.tables.exec = Jvm.exec) (hb : c.code = cc) (hK : va_K G cl tys s) (hP : va_P G cl ws H) (hD : va_D A ws) (hS : va_S A H0 H locs) (q0 t0 : Nat) {cA : ClassId} {n : Nat} (F F' : Nat → Int32) (ha : ws[q0]? = some (a, .inl (cA, n, .inl F))) (ht : tys[t0]? = some (cA, .boolean)) {i : Nat} {x : Int32} (hi : i < n) (hn : n < 2 ^ 31) (hF : upd F i (vp_nar .boolean x) = F') (hdg : decode cc pc = .ok (.bastore, 1))
    (kk : ∀ (H1 : Heap) (locs1 : List Loc), va_P G cl (ws.set q0 (a, .inl (cA, n, .inl F'))) H1 → va_D A (ws.set q0 (a, .inl (cA, n, .inl F'))) → va_S A H0 H1 locs1 → W p l e R s m args below meth c H1 locs1 cells slots Q (F0 m (pc + 1) ls rest)) : W p l e R s m args below meth c H locs cells slots Q (F0 m pc ls (.int x :: .int (nI i) :: .ref a :: rest)) := by
  refine va_zast hexec hb hK hP hD hS q0 t0 ha ht (vp_in_nI hi hn) hdg (fun H1 locs1 h1 h2 h3 => ?_)
  rw [nI_clamp (Nat.lt_trans hi hn), hF] at h1 h2
  exact kk H1 locs1 h1 h2 h3
-- returns
theorem fd_iret {S : Type} {post : Int32 → S → Prop} {w' : S → va_W} (hexec : p.tables.exec = Jvm.exec) (hb : c.code = cc) (hr : meth.sig.returnType = some .int) (hlocks : meth.locks = false) (hK : va_K G vwCl tys s) (hS : va_S A s.heap H locs) {v : Int32} (u : S) (hP : va_P G vwCl (w' u) H) (hD : va_D A (w' u)) (hdg : decode cc pc = .ok (.ireturn, 1)) (hq : post v u) :
    W p l e R s m args below meth c H locs cells slots (MQ below (va_Qi post (fun u t => fd_B G tys A (w' u) t) A) args s cells slots A) (F0 m pc ls [.int v]) :=
  W.iret (v := v) hexec hb hr (fun t ht hW => ⟨⟨v, u, rfl, hq, by rw [ht]; exact hP, va_K.moved hW.alike hK, hD⟩, hS.F ht⟩) hS.2.2 hdg hlocks
theorem fd_zret {S : Type} {post : Int32 → S → Prop} {w' : S → va_W} (hexec : p.tables.exec = Jvm.exec) (hb : c.code = cc) (hr : meth.sig.returnType = some .boolean) (hlocks : meth.locks = false) (hK : va_K G vwCl tys s) (hS : va_S A s.heap H locs) {v : Int32} (hv : narrow .boolean (.int v) = .int v) (u : S) (hP : va_P G vwCl (w' u) H) (hD : va_D A (w' u)) (hdg : decode cc pc = .ok (.ireturn, 1)) (hq : post v u) :
    W p l e R s m args below meth c H locs cells slots (MQ below (va_Qi post (fun u t => fd_B G tys A (w' u) t) A) args s cells slots A) (F0 m pc ls [.int v]) :=
  W.zret (v := v) hexec hb hr hv (fun t ht hW => ⟨⟨v, u, rfl, hq, by rw [ht]; exact hP, va_K.moved hW.alike hK, hD⟩, hS.F ht⟩) hS.2.2 hdg hlocks
theorem fd_vret {S : Type} {post : S → Prop} {w' : S → va_W} (hexec : p.tables.exec = Jvm.exec) (hb : c.code = cc) (hr : meth.sig.returnType = none) (hlocks : meth.locks = false) (hK : va_K G vwCl tys s) (hS : va_S A s.heap H locs) (u : S) (hP : va_P G vwCl (w' u) H) (hD : va_D A (w' u)) (hdg : decode cc pc = .ok (.return_, 1)) (hq : post u) :
    W p l e R s m args below meth c H locs cells slots (MQ below (va_Qv post (fun u t => fd_B G tys A (w' u) t) A) args s cells slots A) (F0 m pc ls []) :=
  W.vret hexec hb hr (fun t ht hW => ⟨⟨u, rfl, hq, by rw [ht]; exact hP, va_K.moved hW.alike hK, hD⟩, hS.F ht⟩) hS.2.2 hdg hlocks
-- calls
variable {nL index n maxL kr : Nat} {y : MethodName} {bytes : ByteArray} {ret0 : Option FieldType} {ws0 : List Cond} {Ts : List Cond} {own C : String} {b : Addr} {As : List Value} {st0 : List Value} {wc wr : va_W}
theorem fd_blind {av : List Value} {w : va_W} {sz : Nat} : FrameBlind (va_Pc av (fd_Pre G tys w sz)) := by
  intro a U g mk q
  obtain ⟨q0, q1, qP, qK, qD⟩ := q
  exact ⟨q0, q1, qP, va_K.moved (u := U) (U := U.calling g mk a) (Vm.Alike.refl U.vm) qK, qD⟩
theorem fd_cI {S : Type} {post : Int32 → S → Prop} {w' : S → va_W} (C0 : CallFix p m c cc nL s args Ts own) (hM : fd_MI l y ws0 kr G tys (.ref b :: As) wc H.size post w') (cw : CallW R s args own C index y bytes maxL ret0 ws0 (fd_rm kr) 0 0 n)
    (hrv : ∃ cell : Cell, H[b]? = some cell ∧ cell.vm.isStatics = false ∧ s.vm.findClass C = some cell.cls) (hK : va_K G vwCl tys s) (hP : va_P G vwCl ws H) (hD : va_D A ws) (hS : va_S A s.heap H locs) (hA : ∀ q, s.heap.size ≤ q → A q)
    (isC isR : List Nat) (hC : isC.map (fun i => ws[i]?) = wc.map some) (hR : isR.map (fun i => ws[i]?) = wr.map some) (hnC : va_nd isC = true) (hnR : va_nd isR = true) (hdis : ∀ i ∈ isR, i ∉ isC)
    (hn : As.length = n) (hsize : ls.size = nL) (hst : st0 = As.reverse ++ .ref b :: rest) (hW : (rest.map fun v => v.category).sum ≤ 8) (hdg : decode cc pc = .ok (.invokevirtual index, 3)) (hf : cells ≤ R.cells ∧ slots ≤ R.slots)
    (kk : ∀ (r : Int32) (u : S) (H1 : Heap) (locs1 : List Loc), post r u → va_P G vwCl (wr ++ w' u) H1 → va_D A (wr ++ w' u) → va_S A s.heap H1 locs1 → W p l e R s m args below meth c H1 locs1 cells slots Q (F0 m (pc + 3) ls (.int r :: rest))) : W p l e R s m args below meth c H locs cells slots Q (F0 m pc ls st0) := by
  have hDc : va_D A wc := hD.sub isC hnC hC
  have hPc : va_P G vwCl wc H := by
    intro k q hq
    have h1 : (isC.map (fun i => ws[i]?))[k]? = some (some q) := by rw [hC, List.getElem?_map, hq]; rfl
    rw [List.getElem?_map] at h1
    cases hi : isC[k]? with
    | none => rw [hi] at h1; cases h1
    | some i => rw [hi] at h1; exact hP i q (Option.some.inj h1)
  have hFc := va_free (wc := wc) hD hS hA isC hC
  subst hst
  refine va_calli (va_runV (As := As) (rest := rest) C0 hM cw ⟨fd_blind, hrv, fun U hU hW => ⟨rfl, by rw [hU], by rw [hU]; exact hPc, va_K.moved hW.alike hK, hDc.weaken (fun _ _ _ _ => trivial)⟩⟩ rfl hn hsize rfl (lv_room hW) hdg hf) hS (fun q _ h => hFc q h) hFc (fun r u t H1 locs1 ht hvm hw1 hB hz1 hk1 hS1 => ?_)
  obtain ⟨hP1, hK1, hD1⟩ := hB
  rw [ht] at hP1
  obtain ⟨hP2, hD2⟩ := va_join (wr := wr) (w1 := w' u) hP hD isC isR hC hR hnR hdis hk1 hFc hP1 hD1
  exact kk r u H1 locs1 hw1 hP2 hD2 hS1
theorem fd_cV {S : Type} {post : S → Prop} {w' : S → va_W} (C0 : CallFix p m c cc nL s args Ts own) (hM : fd_MV l y ws0 kr G tys (.ref b :: As) wc H.size post w') (cw : CallW R s args own C index y bytes maxL ret0 ws0 (fd_rm kr) 0 0 n)
    (hrv : ∃ cell : Cell, H[b]? = some cell ∧ cell.vm.isStatics = false ∧ s.vm.findClass C = some cell.cls) (hK : va_K G vwCl tys s) (hP : va_P G vwCl ws H) (hD : va_D A ws) (hS : va_S A s.heap H locs) (hA : ∀ q, s.heap.size ≤ q → A q)
    (isC isR : List Nat) (hC : isC.map (fun i => ws[i]?) = wc.map some) (hR : isR.map (fun i => ws[i]?) = wr.map some) (hnC : va_nd isC = true) (hnR : va_nd isR = true) (hdis : ∀ i ∈ isR, i ∉ isC)
    (hn : As.length = n) (hsize : ls.size = nL) (hst : st0 = As.reverse ++ .ref b :: rest) (hW : (rest.map fun v => v.category).sum ≤ 8) (hdg : decode cc pc = .ok (.invokevirtual index, 3)) (hf : cells ≤ R.cells ∧ slots ≤ R.slots)
    (kk : ∀ (u : S) (H1 : Heap) (locs1 : List Loc), post u → va_P G vwCl (wr ++ w' u) H1 → va_D A (wr ++ w' u) → va_S A s.heap H1 locs1 → W p l e R s m args below meth c H1 locs1 cells slots Q (F0 m (pc + 3) ls rest)) : W p l e R s m args below meth c H locs cells slots Q (F0 m pc ls st0) := by
  have hDc : va_D A wc := hD.sub isC hnC hC
  have hPc : va_P G vwCl wc H := by
    intro k q hq
    have h1 : (isC.map (fun i => ws[i]?))[k]? = some (some q) := by rw [hC, List.getElem?_map, hq]; rfl
    rw [List.getElem?_map] at h1
    cases hi : isC[k]? with
    | none => rw [hi] at h1; cases h1
    | some i => rw [hi] at h1; exact hP i q (Option.some.inj h1)
  have hFc := va_free (wc := wc) hD hS hA isC hC
  subst hst
  refine va_callv (va_runV (As := As) (rest := rest) C0 hM cw ⟨fd_blind, hrv, fun U hU hW => ⟨rfl, by rw [hU], by rw [hU]; exact hPc, va_K.moved hW.alike hK, hDc.weaken (fun _ _ _ _ => trivial)⟩⟩ rfl hn hsize rfl (lv_room hW) hdg hf) hS (fun q _ h => hFc q h) hFc (fun u t H1 locs1 ht hvm hw1 hB hz1 hk1 hS1 => ?_)
  obtain ⟨hP1, hK1, hD1⟩ := hB
  rw [ht] at hP1
  obtain ⟨hP2, hD2⟩ := va_join (wr := wr) (w1 := w' u) hP hD isC isR hC hR hnR hdis hk1 hFc hP1 hD1
  exact kk u H1 locs1 hw1 hP2 hD2 hS1
/-- a static method that sees no cell -/
theorem fd_cS {post : Int32 → Unit → Prop} (C0 : CallFix p m c cc nL s args Ts own) (hM : fd_MI l y ws0 kr G tys As [] H.size post (fun _ => [])) (cw : CallB R s args own index y bytes maxL ret0 ws0 (fd_rm kr) 0 0 n ∧ (Cond.static y).before args s = true)
    (hK : va_K G vwCl tys s) (hP : va_P G vwCl ws H) (hD : va_D A ws) (hS : va_S A s.heap H locs) (hA : ∀ q, s.heap.size ≤ q → A q)
    (hn : As.length = n) (hsize : ls.size = nL) (hst : st0 = As.reverse ++ rest) (hW : (rest.map fun v => v.category).sum ≤ 8) (hdg : decode cc pc = .ok (.invokestatic index, 3)) (hf : cells ≤ R.cells ∧ slots ≤ R.slots)
    (kk : ∀ (r : Int32) (H1 : Heap) (locs1 : List Loc), post r () → va_P G vwCl ws H1 → va_S A s.heap H1 locs1 → W p l e R s m args below meth c H1 locs1 cells slots Q (F0 m (pc + 3) ls (.int r :: rest))) : W p l e R s m args below meth c H locs cells slots Q (F0 m pc ls st0) := by
  have hFc := va_free (wc := []) hD hS hA [] rfl
  subst hst
  refine va_calli (va_runS (As := As) (rest := rest) C0 hM cw ⟨fd_blind, fun U hU hW => ⟨rfl, by rw [hU], fun k q h => by simp at h, va_K.moved hW.alike hK, ⟨fun i j p q h => by simp at h, fun k q h => by simp at h⟩⟩⟩ rfl hn hsize rfl (lv_room hW) hdg hf) hS (fun q _ h => hFc q h) hFc (fun r u t H1 locs1 ht hvm hw1 hB hz1 hk1 hS1 => ?_)
  refine kk r H1 locs1 hw1 (hP.kept (fun k q hq => ?_)) hS1
  have hlt := (hP k q hq).lt
  refine hk1 q.1 hlt (fun z => ?_)
  rcases z with ⟨k2, e2, z⟩ | z
  · simp at z
  · omega
end FD
/-- the desk's cells -/
abbrev wD (h0 h1 h2 h3 h4 : Nat) (dS : ClassId) (pr : Nat) (S V : Nat → Nat) (kn : Nat) (R X : Nat → Nat) (rk lf lw : Nat) : va_W := [(h0, .inr (0, [.int (nI pr), .ref h1, .ref h2, .int (nI kn), .ref h3, .ref h4, .int (nI rk), .int (nI lf), .int (nI lw)])), (h1, .inl (dS, 10, .inl (fun j => nI (S j)))), (h2, .inl (dS, 10, .inl (fun j => nI (V j)))), (h3, .inl (dS, 8, .inl (fun j => nI (R j)))), (h4, .inl (dS, 8, .inl (fun j => nI (X j))))]
/-- the model's cells -/
abbrev wM (h0 h1 h2 h3 h4 : Nat) (dZ dN : ClassId) (pr : Nat) (S V : Nat → Nat) (T : Nat → Int32) : va_W := [(h0, .inr (1, [.ref h1, .ref h2, .ref h3, .ref h4])), (h1, .inl (dZ, 10, .inl (fun j => nI (pr.testBit j).toNat))), (h2, .inl (dN, 10, .inl (fun j => nI (S j)))), (h3, .inl (dN, 10, .inl (fun j => nI (V j)))), (h4, .inl (dN, 256, .inl T))]
end
section
set_option maxHeartbeats 4000000 in
set_option maxRecDepth 100000 in
/-- isSet(x) -/
theorem cD_isSet (l : Launch) (dC : Nat → ClassId) (dI : Nat → Nat → Nat) (dS dZ dN : ClassId) (sz : Nat) (a0 : Int32) : fd_MI l yX0_isSet (ws_ yX0_isSet cX0_isSet 1 (some .boolean)) 0 (dC, dI) (fd_ty dS dZ dN) [.int a0] ([]) sz (fun r (_ : Unit) => r = nI (decide (1 ≤ a0 ∧ a0 ≤ 255)).toNat) (fun _ => []) := by
  refine Met.ofW (cc := cX0_isSet) (maxL := 1) (ret := (some .boolean)) (by decide) rfl ?_
  intro p e s m args below meth c s₁ B hml hv
  obtain ⟨rfl, hsz, hP, hK, hD0⟩ := hv
  have hx := B.exec
  have hb := B.bytes
  have hr := B.returns
  have hts := atoms_spec (ws := ws_ yX0_isSet cX0_isSet 1 (some .boolean)) B.pre
  have hts : ∀ w ∈ lw_all, w.before _ s = true := fun w h => hts w (List.mem_cons_of_mem _ h)
  have hown : s.vm.findClass RX0 = some m.cls := findClass_of_methodNamed B.named
  have hlocks := B.notSynchronized
  subst hsz
  have hD := hD0.self (sz := s.heap.size)
  generalize hAe : va_A ([]) s.heap.size = A at hD ⊢
  have hA : ∀ q : Nat, s.heap.size ≤ q → A q := fun q h => by rw [← hAe]; exact Or.inr h
  have hS : va_S A s.heap s.heap [] := va_S.rf
  have hP : va_P (dC, dI) vwCl ([]) s.heap := hP
  have hl := lv_entry ([.int a0]) (n := 1) (Nat.le_of_ble_eq_true rfl)
  rw [lg_entry_eq]
  generalize (lg_sl ([.int a0]) ++ List.replicate (1 - (lg_sl ([.int a0])).length) Slot.unset).toArray = ls at hl ⊢
  have hl : lv_has ls 1 [(0, .int a0)] := hl
  refine lv_iload_n hx hb dX0_isSet_0 rfl (lv_at hl 0 rfl) ?_
  refine lv_iconst (v := nI 1) hx hb dX0_isSet_1 (by decide) ?_
  refine lv_icmp_lt (tgt := 16) hx hb dX0_isSet_2 (by decide) (fun (c_2 : a0 < 1) => ?_) (fun (c_2 : ¬ a0 < 1) => ?_)
  · refine lv_iconst (v := nI 0) hx hb dX0_isSet_16 (by decide) ?_
    exact fd_zret hx hb hr hlocks hK hS (v := nI 0) (rfl) () hP hD dX0_isSet_17 (by rw [decide_eq_false (fun z => pu_nle c_2 z.1)]; rfl)
  · refine lv_iload_n hx hb dX0_isSet_5 rfl (lv_at hl 0 rfl) ?_
    refine lv_sipush (v := nI 255) hx hb dX0_isSet_6 (by decide) ?_
    refine lv_icmp_gt (tgt := 16) hx hb dX0_isSet_9 (by decide) (fun (c_9 : 255 < a0) => ?_) (fun (c_9 : ¬ 255 < a0) => ?_)
    · refine lv_iconst (v := nI 0) hx hb dX0_isSet_16 (by decide) ?_
      exact fd_zret hx hb hr hlocks hK hS (v := nI 0) (rfl) () hP hD dX0_isSet_17 (by rw [decide_eq_false (fun z => pu_nle c_9 z.2)]; rfl)
    · refine lv_iconst (v := nI 1) hx hb dX0_isSet_12 (by decide) ?_
      refine lv_goto (tgt := 17) hx hb dX0_isSet_13 (by decide) ?_
      exact fd_zret hx hb hr hlocks hK hS (v := nI 1) (rfl) () hP hD dX0_isSet_17 (by rw [decide_eq_true (⟨pu_lt_of c_2, pu_lt_of c_9⟩ : 1 ≤ a0 ∧ a0 ≤ 255)]; rfl)
set_option maxHeartbeats 4000000 in
set_option maxRecDepth 100000 in
/-- has(k) -/
theorem cD_has (l : Launch) (dC : Nat → ClassId) (dI : Nat → Nat → Nat) (dS dZ dN : ClassId) (h0 h1 h2 h3 h4 sz pr : Nat) (S V : Nat → Nat) (kn : Nat) (R X : Nat → Nat) (rk lf lw : Nat) (a0 : Int32) (hpr : pr < 1024) : fd_MI l yX0_has (ws_ yX0_has cX0_has 2 (some .boolean)) 0 (dC, dI) (fd_ty dS dZ dN) [.ref h0, .int a0] (wD h0 h1 h2 h3 h4 dS pr S V kn R X rk lf lw) sz (fun r (_ : Unit) => r = nI (pu_has pr a0).toNat) (fun _ => wD h0 h1 h2 h3 h4 dS pr S V kn R X rk lf lw) := by
  refine Met.ofW (cc := cX0_has) (maxL := 2) (ret := (some .boolean)) (by decide) rfl ?_
  intro p e s m args below meth c s₁ B hml hv
  obtain ⟨rfl, hsz, hP, hK, hD0⟩ := hv
  have hx := B.exec
  have hb := B.bytes
  have hr := B.returns
  have hts := atoms_spec (ws := ws_ yX0_has cX0_has 2 (some .boolean)) B.pre
  have hts : ∀ w ∈ lw_all, w.before _ s = true := fun w h => hts w (List.mem_cons_of_mem _ h)
  have hown : s.vm.findClass RX0 = some m.cls := findClass_of_methodNamed B.named
  have hlocks := B.notSynchronized
  subst hsz
  have hD := hD0.self (sz := s.heap.size)
  generalize hAe : va_A (wD h0 h1 h2 h3 h4 dS pr S V kn R X rk lf lw) s.heap.size = A at hD ⊢
  have hA : ∀ q : Nat, s.heap.size ≤ q → A q := fun q h => by rw [← hAe]; exact Or.inr h
  have hS : va_S A s.heap s.heap [] := va_S.rf
  have hP : va_P (dC, dI) vwCl (wD h0 h1 h2 h3 h4 dS pr S V kn R X rk lf lw) s.heap := hP
  have hl := lv_entry ([.ref h0, .int a0]) (n := 2) (Nat.le_of_ble_eq_true rfl)
  rw [lg_entry_eq]
  generalize (lg_sl ([.ref h0, .int a0]) ++ List.replicate (2 - (lg_sl ([.ref h0, .int a0])).length) Slot.unset).toArray = ls at hl ⊢
  have hl : lv_has ls 2 [(0, .ref h0), (1, .int a0)] := hl
  refine lv_iload_n hx hb dX0_has_0 rfl (lv_at hl 1 rfl) ?_
  refine lv_if_lt (tgt := 25) hx hb dX0_has_1 (by decide) (fun c_1 => ?_) (fun c_1 => ?_)
  · refine lv_iconst (v := nI 0) hx hb dX0_has_25 (by decide) ?_
    exact fd_zret hx hb hr hlocks hK hS (v := nI 0) (rfl) () hP hD dX0_has_26 (by rw [pu_has_lo c_1]; rfl)
  · refine lv_iload_n hx hb dX0_has_4 rfl (lv_at hl 1 rfl) ?_
    refine lv_bipush (v := nI 10) hx hb dX0_has_5 (by decide) ?_
    refine lv_icmp_ge (tgt := 25) hx hb dX0_has_7 (by decide) (fun (c_7 : 10 ≤ a0) => ?_) (fun (c_7 : ¬ 10 ≤ a0) => ?_)
    · refine lv_iconst (v := nI 0) hx hb dX0_has_25 (by decide) ?_
      exact fd_zret hx hb hr hlocks hK hS (v := nI 0) (rfl) () hP hD dX0_has_26 (by rw [pu_has_hi c_7]; rfl)
    · obtain ⟨j, hj, rfl⟩ := pu_ofn (n := 10) (N := 10) rfl (by decide) c_1 (pu_le_of c_7)
      refine lv_aload_n hx hb dX0_has_10 rfl (lv_at hl 0 rfl) ?_
      refine va_get (D := (dC, dI)) (ci := 0) (v := .int (nI pr)) (C := RX0) (T := TX0) (N := 9) hx hb hts in_X0 hown hK hP 0 rfl rfl 0 (by decide) (hts _ q25) (fun _ h9 => h9) rfl dX0_has_11 ?_
      refine lv_iload_n hx hb dX0_has_14 rfl (lv_at hl 1 rfl) ?_
      refine lv_ishr hx hb dX0_has_15 ?_
      refine lv_iconst (v := nI 1) hx hb dX0_has_16 (by decide) ?_
      refine lv_iand hx hb dX0_has_17 ?_
      refine fd_top (y := nI (pr.testBit j).toNat) (nx_bit (by omega) (by omega)) ?_
      refine fd_bit_eq (tgt := 25) hx hb dX0_has_18 (by decide) (fun c_18 => ?_) (fun c_18 => ?_)
      · refine lv_iconst (v := nI 0) hx hb dX0_has_25 (by decide) ?_
        exact fd_zret hx hb hr hlocks hK hS (v := nI 0) (rfl) () hP hD dX0_has_26 (by rw [pu_has_nI hj, c_18]; rfl)
      · refine lv_iconst (v := nI 1) hx hb dX0_has_21 (by decide) ?_
        refine lv_goto (tgt := 26) hx hb dX0_has_22 (by decide) ?_
        exact fd_zret hx hb hr hlocks hK hS (v := nI 1) (rfl) () hP hD dX0_has_26 (by rw [pu_has_nI hj, c_18]; rfl)
set_option maxHeartbeats 4000000 in
set_option maxRecDepth 100000 in
/-- leader(set): a bit of it -/
theorem cD_leader (l : Launch) (dC : Nat → ClassId) (dI : Nat → Nat → Nat) (dS dZ dN : ClassId) (sz a : Nat) (ha : a < 256) (hz : a ≠ 0) : fd_MI l yX0_leader (ws_ yX0_leader cX0_leader 2 (some .int)) 0 (dC, dI) (fd_ty dS dZ dN) [.int (nI a)] ([]) sz (fun r (_ : Unit) => ∃ i, i < 8 ∧ r = nI i ∧ a.testBit i = true) (fun _ => []) := by
  refine Met.ofW (cc := cX0_leader) (maxL := 2) (ret := (some .int)) (by decide) rfl ?_
  intro p e s m args below meth c s₁ B hml hv
  obtain ⟨rfl, hsz, hP, hK, hD0⟩ := hv
  have hx := B.exec
  have hb := B.bytes
  have hr := B.returns
  have hts := atoms_spec (ws := ws_ yX0_leader cX0_leader 2 (some .int)) B.pre
  have hts : ∀ w ∈ lw_all, w.before _ s = true := fun w h => hts w (List.mem_cons_of_mem _ h)
  have hown : s.vm.findClass RX0 = some m.cls := findClass_of_methodNamed B.named
  have hlocks := B.notSynchronized
  subst hsz
  have hD := hD0.self (sz := s.heap.size)
  generalize hAe : va_A ([]) s.heap.size = A at hD ⊢
  have hA : ∀ q : Nat, s.heap.size ≤ q → A q := fun q h => by rw [← hAe]; exact Or.inr h
  have hS : va_S A s.heap s.heap [] := va_S.rf
  have hP : va_P (dC, dI) vwCl ([]) s.heap := hP
  have hl := lv_entry ([.int (nI a)]) (n := 2) (Nat.le_of_ble_eq_true rfl)
  rw [lg_entry_eq]
  generalize (lg_sl ([.int (nI a)]) ++ List.replicate (2 - (lg_sl ([.int (nI a)])).length) Slot.unset).toArray = ls at hl ⊢
  have hl : lv_has ls 2 [(0, .int (nI a))] := hl
  refine lv_bipush (v := nI 7) hx hb dX0_leader_0 (by decide) ?_
  refine lv_istore_n (lv' := [(1, .int (nI 7)), (0, .int (nI a))]) hx hb dX0_leader_2 rfl hl (by decide) rfl (fun ls hl => ?_)
  refine fd_loop (fun n H locs ls => ∃ (i : Nat), n = i ∧ (i ≤ 7) ∧ (∀ j, i < j → j < 8 → a.testBit j = false) ∧ va_P (dC, dI) vwCl ([]) H ∧ va_D A ([]) ∧ va_S A s.heap H locs ∧ lv_has ls 2 [(0, .int (nI a)), (1, .int (nI i))]) _ ⟨7, rfl, (Nat.le_refl 7), (fun j h1 h2 => by omega), hP, hD, hS, lv_sub hl [1, 0] rfl⟩ ?_
  rintro n H locs ls ⟨i, hms, hi, hI, hP, hD, hS, hl⟩ ih
  refine lv_iload_n hx hb dX0_leader_3 rfl (lv_at hl 1 rfl) ?_
  refine fd_if_le (tgt := 21) hx hb dX0_leader_4 (by decide) (by omega) (fun c_4 => ?_) (fun c_4 => ?_)
  · refine lv_iload_n hx hb dX0_leader_21 rfl (lv_at hl 1 rfl) ?_
    exact fd_iret hx hb hr hlocks hK hS (v := nI i) () hP hD dX0_leader_22 (⟨i, by omega, rfl, by subst c_4; exact pu_lead ha hz (fun j h1 h2 => hI j h1 h2)⟩)
  · refine lv_iload_n hx hb dX0_leader_7 rfl (lv_at hl 0 rfl) ?_
    refine lv_iload_n hx hb dX0_leader_8 rfl (lv_at hl 1 rfl) ?_
    refine lv_ishr hx hb dX0_leader_9 ?_
    refine lv_iconst (v := nI 1) hx hb dX0_leader_10 (by decide) ?_
    refine lv_iand hx hb dX0_leader_11 ?_
    refine fd_top (y := nI (a.testBit i).toNat) (nx_bit (by omega) (by omega)) ?_
    refine fd_bit_ne (tgt := 21) hx hb dX0_leader_12 (by decide) (fun c_12 => ?_) (fun c_12 => ?_)
    · refine lv_iload_n hx hb dX0_leader_21 rfl (lv_at hl 1 rfl) ?_
      exact fd_iret hx hb hr hlocks hK hS (v := nI i) () hP hD dX0_leader_22 (⟨i, by omega, rfl, c_12⟩)
    · refine lv_iinc (v := nI (i - 1)) (lv' := [(1, .int (nI (i - 1))), (0, .int (nI a))]) hx hb dX0_leader_15 hl (k := 1) rfl (sb_m1 c_4) (by decide) rfl (fun ls hl => ?_)
      refine lv_goto (tgt := 3) hx hb dX0_leader_18 (by decide) ?_
      exact ih _ _ _ _ (by omega) ⟨i - 1, rfl, (by omega), (fun j h1 h2 => by rcases Nat.lt_or_ge i j with q | q; exact hI j q h2; rw [show j = i by omega]; exact c_12), hP, hD, hS, lv_sub hl [1, 0] rfl⟩
set_option maxHeartbeats 4000000 in
set_option maxRecDepth 100000 in
/-- clearRows() -/
theorem cD_clearRows (l : Launch) (dC : Nat → ClassId) (dI : Nat → Nat → Nat) (dS dZ dN : ClassId) (h0 h1 h2 h3 h4 sz pr : Nat) (S V : Nat → Nat) (kn : Nat) (R X : Nat → Nat) (rk lf lw : Nat) : fd_MV l yX0_clearRows (ws_ yX0_clearRows cX0_clearRows 2 none) 0 (dC, dI) (fd_ty dS dZ dN) [.ref h0] (wD h0 h1 h2 h3 h4 dS pr S V kn R X rk lf lw) sz (fun (u : (Nat → Nat) × (Nat → Nat)) => ∀ j, j < 8 → u.1 j = 0 ∧ u.2 j = 0) (fun u => wD h0 h1 h2 h3 h4 dS pr S V kn u.1 u.2 0 lf lw) := by
  refine Met.ofW (cc := cX0_clearRows) (maxL := 2) (ret := none) (by decide) rfl ?_
  intro p e s m args below meth c s₁ B hml hv
  obtain ⟨rfl, hsz, hP, hK, hD0⟩ := hv
  have hx := B.exec
  have hb := B.bytes
  have hr := B.returns
  have hts := atoms_spec (ws := ws_ yX0_clearRows cX0_clearRows 2 none) B.pre
  have hts : ∀ w ∈ lw_all, w.before _ s = true := fun w h => hts w (List.mem_cons_of_mem _ h)
  have hown : s.vm.findClass RX0 = some m.cls := findClass_of_methodNamed B.named
  have hlocks := B.notSynchronized
  subst hsz
  have hD := hD0.self (sz := s.heap.size)
  generalize hAe : va_A (wD h0 h1 h2 h3 h4 dS pr S V kn R X rk lf lw) s.heap.size = A at hD ⊢
  have hA : ∀ q : Nat, s.heap.size ≤ q → A q := fun q h => by rw [← hAe]; exact Or.inr h
  have hS : va_S A s.heap s.heap [] := va_S.rf
  have hP : va_P (dC, dI) vwCl (wD h0 h1 h2 h3 h4 dS pr S V kn R X rk lf lw) s.heap := hP
  have hl := lv_entry ([.ref h0]) (n := 2) (Nat.le_of_ble_eq_true rfl)
  rw [lg_entry_eq]
  generalize (lg_sl ([.ref h0]) ++ List.replicate (2 - (lg_sl ([.ref h0])).length) Slot.unset).toArray = ls at hl ⊢
  have hl : lv_has ls 2 [(0, .ref h0)] := hl
  refine lv_iconst (v := nI 0) hx hb dX0_clearRows_0 (by decide) ?_
  refine lv_istore_n (lv' := [(1, .int (nI 0)), (0, .ref h0)]) hx hb dX0_clearRows_1 rfl hl (by decide) rfl (fun ls hl => ?_)
  refine fd_loop (fun n H locs ls => ∃ (k : Nat) (R1 : Nat → Nat) (X1 : Nat → Nat), n = 8 - k ∧ (k ≤ 8) ∧ (∀ j, j < k → R1 j = 0 ∧ X1 j = 0) ∧ va_P (dC, dI) vwCl (wD h0 h1 h2 h3 h4 dS pr S V kn R1 X1 rk lf lw) H ∧ va_D A (wD h0 h1 h2 h3 h4 dS pr S V kn R1 X1 rk lf lw) ∧ va_S A s.heap H locs ∧ lv_has ls 2 [(0, .ref h0), (1, .int (nI k))]) _ ⟨0, R, X, rfl, (by omega), (fun j hj => by omega), hP, hD, hS, lv_sub hl [1, 0] rfl⟩ ?_
  rintro n H locs ls ⟨k, R1, X1, hms, hk, hz, hP, hD, hS, hl⟩ ih
  refine lv_iload_n hx hb dX0_clearRows_2 rfl (lv_at hl 1 rfl) ?_
  refine lv_bipush (v := nI 8) hx hb dX0_clearRows_3 (by decide) ?_
  refine fd_icmp_ge (tgt := 28) hx hb dX0_clearRows_5 (by decide) (by omega) (by omega) (fun c_5 => ?_) (fun c_5 => ?_)
  · refine lv_aload_n hx hb dX0_clearRows_28 rfl (lv_at hl 0 rfl) ?_
    refine lv_iconst (v := nI 0) hx hb dX0_clearRows_29 (by decide) ?_
    refine va_put (D := (dC, dI)) (ci := 0) (v := .int (nI 0)) (ty := .int) (C := RX0) (T := TX0) (N := 9) hx hb hts in_X0 tyX0 tyX0_ok nmX0 hown hK hP hD hS 0 rfl rfl 6 (by decide) (hts _ q31) (fun _ h9 => h9) rfl (by decide +kernel) rfl rfl (Nat.le_of_ble_eq_true rfl) dX0_clearRows_30 (fun H locs hP hD hS => ?_)
    have hP : va_P (dC, dI) vwCl (wD h0 h1 h2 h3 h4 dS pr S V kn R1 X1 0 lf lw) H := hP
    have hD : va_D A (wD h0 h1 h2 h3 h4 dS pr S V kn R1 X1 0 lf lw) := hD
    exact fd_vret hx hb hr hlocks hK hS (R1, X1) hP hD dX0_clearRows_33 (fun j hj => hz j (by omega))
  · refine lv_aload_n hx hb dX0_clearRows_8 rfl (lv_at hl 0 rfl) ?_
    refine va_get (D := (dC, dI)) (ci := 0) (v := .ref h3) (C := RX0) (T := TX0) (N := 9) hx hb hts in_X0 hown hK hP 0 rfl rfl 4 (by decide) (hts _ q29) (fun _ h9 => h9) rfl dX0_clearRows_9 ?_
    refine lv_iload_n hx hb dX0_clearRows_12 rfl (lv_at hl 1 rfl) ?_
    refine lv_iconst (v := nI 0) hx hb dX0_clearRows_13 (by decide) ?_
    refine fd_sast hx hb hK hP hD hS 3 0 R1 rfl rfl (i := k) (x := 0) (by omega) (by decide) (by decide) dX0_clearRows_14 (fun H locs hP hD hS => ?_)
    have hP : va_P (dC, dI) vwCl (wD h0 h1 h2 h3 h4 dS pr S V kn (pu_up R1 k 0) X1 rk lf lw) H := hP
    have hD : va_D A (wD h0 h1 h2 h3 h4 dS pr S V kn (pu_up R1 k 0) X1 rk lf lw) := hD
    refine lv_aload_n hx hb dX0_clearRows_15 rfl (lv_at hl 0 rfl) ?_
    refine va_get (D := (dC, dI)) (ci := 0) (v := .ref h4) (C := RX0) (T := TX0) (N := 9) hx hb hts in_X0 hown hK hP 0 rfl rfl 5 (by decide) (hts _ q30) (fun _ h9 => h9) rfl dX0_clearRows_16 ?_
    refine lv_iload_n hx hb dX0_clearRows_19 rfl (lv_at hl 1 rfl) ?_
    refine lv_iconst (v := nI 0) hx hb dX0_clearRows_20 (by decide) ?_
    refine fd_sast hx hb hK hP hD hS 4 0 X1 rfl rfl (i := k) (x := 0) (by omega) (by decide) (by decide) dX0_clearRows_21 (fun H locs hP hD hS => ?_)
    have hP : va_P (dC, dI) vwCl (wD h0 h1 h2 h3 h4 dS pr S V kn (pu_up R1 k 0) (pu_up X1 k 0) rk lf lw) H := hP
    have hD : va_D A (wD h0 h1 h2 h3 h4 dS pr S V kn (pu_up R1 k 0) (pu_up X1 k 0) rk lf lw) := hD
    refine lv_iinc (v := nI (k + 1)) (lv' := [(1, .int (nI (k + 1))), (0, .ref h0)]) hx hb dX0_clearRows_22 hl (k := 1) rfl (nI_1 _) (by decide) rfl (fun ls hl => ?_)
    refine lv_goto (tgt := 2) hx hb dX0_clearRows_25 (by decide) ?_
    exact ih _ _ _ _ (by omega) ⟨k + 1, pu_up R1 k 0, pu_up X1 k 0, rfl, (by omega), (pu_up_zero hz), hP, hD, hS, lv_sub hl [1, 0] rfl⟩
set_option maxHeartbeats 4000000 in
set_option maxRecDepth 100000 in
/-- singles() -/
theorem cD_singles (l : Launch) (dC : Nat → ClassId) (dI : Nat → Nat → Nat) (dS dZ dN : ClassId) (h0 h1 h2 h3 h4 sz pr : Nat) (S V : Nat → Nat) (kn : Nat) (R X : Nat → Nat) (rk lf lw : Nat) (hB : ∀ j, j < 8 → R j < 256) : fd_MI l yX0_singles (ws_ yX0_singles cX0_singles 3 (some .int)) 0 (dC, dI) (fd_ty dS dZ dN) [.ref h0] (wD h0 h1 h2 h3 h4 dS pr S V kn R X rk lf lw) sz (fun r (_ : Unit) => r = nI (pu_mk (fun i => decide (R i = 2 ^ i)) 8)) (fun _ => wD h0 h1 h2 h3 h4 dS pr S V kn R X rk lf lw) := by
  refine Met.ofW (cc := cX0_singles) (maxL := 3) (ret := (some .int)) (by decide) rfl ?_
  intro p e s m args below meth c s₁ B hml hv
  obtain ⟨rfl, hsz, hP, hK, hD0⟩ := hv
  have hx := B.exec
  have hb := B.bytes
  have hr := B.returns
  have hts := atoms_spec (ws := ws_ yX0_singles cX0_singles 3 (some .int)) B.pre
  have hts : ∀ w ∈ lw_all, w.before _ s = true := fun w h => hts w (List.mem_cons_of_mem _ h)
  have hown : s.vm.findClass RX0 = some m.cls := findClass_of_methodNamed B.named
  have hlocks := B.notSynchronized
  subst hsz
  have hD := hD0.self (sz := s.heap.size)
  generalize hAe : va_A (wD h0 h1 h2 h3 h4 dS pr S V kn R X rk lf lw) s.heap.size = A at hD ⊢
  have hA : ∀ q : Nat, s.heap.size ≤ q → A q := fun q h => by rw [← hAe]; exact Or.inr h
  have hS : va_S A s.heap s.heap [] := va_S.rf
  have hP : va_P (dC, dI) vwCl (wD h0 h1 h2 h3 h4 dS pr S V kn R X rk lf lw) s.heap := hP
  have hl := lv_entry ([.ref h0]) (n := 3) (Nat.le_of_ble_eq_true rfl)
  rw [lg_entry_eq]
  generalize (lg_sl ([.ref h0]) ++ List.replicate (3 - (lg_sl ([.ref h0])).length) Slot.unset).toArray = ls at hl ⊢
  have hl : lv_has ls 3 [(0, .ref h0)] := hl
  refine lv_iconst (v := nI 0) hx hb dX0_singles_0 (by decide) ?_
  refine lv_istore_n (lv' := [(1, .int (nI 0)), (0, .ref h0)]) hx hb dX0_singles_1 rfl hl (by decide) rfl (fun ls hl => ?_)
  refine lv_iconst (v := nI 0) hx hb dX0_singles_2 (by decide) ?_
  refine lv_istore_n (lv' := [(2, .int (nI 0)), (1, .int (nI 0)), (0, .ref h0)]) hx hb dX0_singles_3 rfl hl (by decide) rfl (fun ls hl => ?_)
  refine fd_loop (fun n H locs ls => ∃ (k : Nat), n = 8 - k ∧ (k ≤ 8) ∧ va_P (dC, dI) vwCl (wD h0 h1 h2 h3 h4 dS pr S V kn R X rk lf lw) H ∧ va_D A (wD h0 h1 h2 h3 h4 dS pr S V kn R X rk lf lw) ∧ va_S A s.heap H locs ∧ lv_has ls 3 [(0, .ref h0), (1, .int (nI (pu_mk (fun i => decide (R i = 2 ^ i)) k))), (2, .int (nI k))]) _ ⟨0, rfl, (by omega), hP, hD, hS, lv_sub hl [2, 1, 0] rfl⟩ ?_
  rintro n H locs ls ⟨k, hms, hk, hP, hD, hS, hl⟩ ih
  refine lv_iload_n hx hb dX0_singles_4 rfl (lv_at hl 2 rfl) ?_
  refine lv_bipush (v := nI 8) hx hb dX0_singles_5 (by decide) ?_
  refine fd_icmp_ge (tgt := 38) hx hb dX0_singles_7 (by decide) (by omega) (by omega) (fun c_7 => ?_) (fun c_7 => ?_)
  · refine lv_iload_n hx hb dX0_singles_38 rfl (lv_at hl 1 rfl) ?_
    exact fd_iret hx hb hr hlocks hK hS (v := nI (pu_mk (fun i => decide (R i = 2 ^ i)) k)) () hP hD dX0_singles_39 (by rw [show k = 8 by omega])
  · have hp2 : 2 ^ k < 2 ^ 31 := Nat.pow_lt_pow_right (by decide) (by omega)
    have hp3 : R k < 256 := hB k c_7
    refine lv_iload_n hx hb dX0_singles_10 rfl (lv_at hl 1 rfl) ?_
    refine lv_aload_n hx hb dX0_singles_11 rfl (lv_at hl 0 rfl) ?_
    refine va_get (D := (dC, dI)) (ci := 0) (v := .ref h3) (C := RX0) (T := TX0) (N := 9) hx hb hts in_X0 hown hK hP 0 rfl rfl 4 (by decide) (hts _ q29) (fun _ h9 => h9) rfl dX0_singles_12 ?_
    refine lv_iload_n hx hb dX0_singles_15 rfl (lv_at hl 2 rfl) ?_
    refine fd_sald hx hb hK hP 3 0 R rfl rfl (i := k) (by omega) (by decide) dX0_singles_16 ?_
    refine lv_iconst (v := nI 1) hx hb dX0_singles_17 (by decide) ?_
    refine lv_iload_n hx hb dX0_singles_18 rfl (lv_at hl 2 rfl) ?_
    refine lv_ishl hx hb dX0_singles_19 ?_
    refine fd_top (y := nI (2 ^ k)) (nx_shl1 (by omega)) ?_
    refine fd_icmp_ne (tgt := 29) hx hb dX0_singles_20 (by decide) (by omega) (by omega) (fun c_20 => ?_) (fun c_20 => ?_)
    · refine lv_iconst (v := nI 0) hx hb dX0_singles_29 (by decide) ?_
      refine lv_ior hx hb dX0_singles_30 ?_
      refine fd_top (y := nI (pu_mk (fun i => decide (R i = 2 ^ i)) (k + 1))) (pu_mk_f (f := (fun i => decide (R i = 2 ^ i))) (decide_eq_false c_20)) ?_
      refine lv_istore_n (lv' := [(1, .int (nI (pu_mk (fun i => decide (R i = 2 ^ i)) (k + 1)))), (0, .ref h0), (2, .int (nI k))]) hx hb dX0_singles_31 rfl hl (by decide) rfl (fun ls hl => ?_)
      refine lv_iinc (v := nI (k + 1)) (lv' := [(2, .int (nI (k + 1))), (1, .int (nI (pu_mk (fun i => decide (R i = 2 ^ i)) (k + 1)))), (0, .ref h0)]) hx hb dX0_singles_32 hl (k := 2) rfl (nI_1 _) (by decide) rfl (fun ls hl => ?_)
      refine lv_goto (tgt := 4) hx hb dX0_singles_35 (by decide) ?_
      exact ih _ _ _ _ (by omega) ⟨k + 1, rfl, (by omega), hP, hD, hS, lv_sub hl [2, 1, 0] rfl⟩
    · refine lv_iconst (v := nI 1) hx hb dX0_singles_23 (by decide) ?_
      refine lv_iload_n hx hb dX0_singles_24 rfl (lv_at hl 2 rfl) ?_
      refine lv_ishl hx hb dX0_singles_25 ?_
      refine fd_top (y := nI (2 ^ k)) (nx_shl1 (by omega)) ?_
      refine lv_goto (tgt := 30) hx hb dX0_singles_26 (by decide) ?_
      refine lv_ior hx hb dX0_singles_30 ?_
      refine fd_top (y := nI (pu_mk (fun i => decide (R i = 2 ^ i)) (k + 1))) (pu_mk_t (f := (fun i => decide (R i = 2 ^ i))) (decide_eq_true c_20)) ?_
      refine lv_istore_n (lv' := [(1, .int (nI (pu_mk (fun i => decide (R i = 2 ^ i)) (k + 1)))), (0, .ref h0), (2, .int (nI k))]) hx hb dX0_singles_31 rfl hl (by decide) rfl (fun ls hl => ?_)
      refine lv_iinc (v := nI (k + 1)) (lv' := [(2, .int (nI (k + 1))), (1, .int (nI (pu_mk (fun i => decide (R i = 2 ^ i)) (k + 1)))), (0, .ref h0)]) hx hb dX0_singles_32 hl (k := 2) rfl (nI_1 _) (by decide) rfl (fun ls hl => ?_)
      refine lv_goto (tgt := 4) hx hb dX0_singles_35 (by decide) ?_
      exact ih _ _ _ _ (by omega) ⟨k + 1, rfl, (by omega), hP, hD, hS, lv_sub hl [2, 1, 0] rfl⟩
set_option maxHeartbeats 4000000 in
set_option maxRecDepth 100000 in
/-- ones(set) -/
theorem cD_ones (l : Launch) (dC : Nat → ClassId) (dI : Nat → Nat → Nat) (dS dZ dN : ClassId) (sz a : Nat) (ha : a < 256) : fd_MI l yX0_ones (ws_ yX0_ones cX0_ones 3 (some .int)) 0 (dC, dI) (fd_ty dS dZ dN) [.int (nI a)] ([]) sz (fun r (_ : Unit) => r = nI (pu_ct (fun i => a.testBit i) 8)) (fun _ => []) := by
  refine Met.ofW (cc := cX0_ones) (maxL := 3) (ret := (some .int)) (by decide) rfl ?_
  intro p e s m args below meth c s₁ B hml hv
  obtain ⟨rfl, hsz, hP, hK, hD0⟩ := hv
  have hx := B.exec
  have hb := B.bytes
  have hr := B.returns
  have hts := atoms_spec (ws := ws_ yX0_ones cX0_ones 3 (some .int)) B.pre
  have hts : ∀ w ∈ lw_all, w.before _ s = true := fun w h => hts w (List.mem_cons_of_mem _ h)
  have hown : s.vm.findClass RX0 = some m.cls := findClass_of_methodNamed B.named
  have hlocks := B.notSynchronized
  subst hsz
  have hD := hD0.self (sz := s.heap.size)
  generalize hAe : va_A ([]) s.heap.size = A at hD ⊢
  have hA : ∀ q : Nat, s.heap.size ≤ q → A q := fun q h => by rw [← hAe]; exact Or.inr h
  have hS : va_S A s.heap s.heap [] := va_S.rf
  have hP : va_P (dC, dI) vwCl ([]) s.heap := hP
  have hl := lv_entry ([.int (nI a)]) (n := 3) (Nat.le_of_ble_eq_true rfl)
  rw [lg_entry_eq]
  generalize (lg_sl ([.int (nI a)]) ++ List.replicate (3 - (lg_sl ([.int (nI a)])).length) Slot.unset).toArray = ls at hl ⊢
  have hl : lv_has ls 3 [(0, .int (nI a))] := hl
  refine lv_iconst (v := nI 0) hx hb dX0_ones_0 (by decide) ?_
  refine lv_istore_n (lv' := [(1, .int (nI 0)), (0, .int (nI a))]) hx hb dX0_ones_1 rfl hl (by decide) rfl (fun ls hl => ?_)
  refine lv_iconst (v := nI 0) hx hb dX0_ones_2 (by decide) ?_
  refine lv_istore_n (lv' := [(2, .int (nI 0)), (1, .int (nI 0)), (0, .int (nI a))]) hx hb dX0_ones_3 rfl hl (by decide) rfl (fun ls hl => ?_)
  refine fd_loop (fun n H locs ls => ∃ (k : Nat), n = 8 - k ∧ (k ≤ 8) ∧ va_P (dC, dI) vwCl ([]) H ∧ va_D A ([]) ∧ va_S A s.heap H locs ∧ lv_has ls 3 [(0, .int (nI a)), (1, .int (nI (pu_ct (fun i => a.testBit i) k))), (2, .int (nI k))]) _ ⟨0, rfl, (by omega), hP, hD, hS, lv_sub hl [2, 1, 0] rfl⟩ ?_
  rintro n H locs ls ⟨k, hms, hk, hP, hD, hS, hl⟩ ih
  refine lv_iload_n hx hb dX0_ones_4 rfl (lv_at hl 2 rfl) ?_
  refine lv_bipush (v := nI 8) hx hb dX0_ones_5 (by decide) ?_
  refine fd_icmp_ge (tgt := 24) hx hb dX0_ones_7 (by decide) (by omega) (by omega) (fun c_7 => ?_) (fun c_7 => ?_)
  · refine lv_iload_n hx hb dX0_ones_24 rfl (lv_at hl 1 rfl) ?_
    exact fd_iret hx hb hr hlocks hK hS (v := nI (pu_ct (fun i => a.testBit i) k)) () hP hD dX0_ones_25 (by rw [show k = 8 by omega])
  · refine lv_iload_n hx hb dX0_ones_10 rfl (lv_at hl 1 rfl) ?_
    refine lv_iload_n hx hb dX0_ones_11 rfl (lv_at hl 0 rfl) ?_
    refine lv_iload_n hx hb dX0_ones_12 rfl (lv_at hl 2 rfl) ?_
    refine lv_ishr hx hb dX0_ones_13 ?_
    refine lv_iconst (v := nI 1) hx hb dX0_ones_14 (by decide) ?_
    refine lv_iand hx hb dX0_ones_15 ?_
    refine fd_top (y := nI (a.testBit k).toNat) (nx_bit (by omega) (by omega)) ?_
    refine lv_iadd hx hb dX0_ones_16 ?_
    refine fd_top (y := nI (pu_ct (fun i => a.testBit i) (k + 1))) (nI_add _ _) ?_
    refine lv_istore_n (lv' := [(1, .int (nI (pu_ct (fun i => a.testBit i) (k + 1)))), (0, .int (nI a)), (2, .int (nI k))]) hx hb dX0_ones_17 rfl hl (by decide) rfl (fun ls hl => ?_)
    refine lv_iinc (v := nI (k + 1)) (lv' := [(2, .int (nI (k + 1))), (1, .int (nI (pu_ct (fun i => a.testBit i) (k + 1)))), (0, .int (nI a))]) hx hb dX0_ones_18 hl (k := 2) rfl (nI_1 _) (by decide) rfl (fun ls hl => ?_)
    refine lv_goto (tgt := 4) hx hb dX0_ones_21 (by decide) ?_
    exact ih _ _ _ _ (by omega) ⟨k + 1, rfl, (by omega), hP, hD, hS, lv_sub hl [2, 1, 0] rfl⟩
end
section
set_option maxHeartbeats 4000000 in
set_option maxRecDepth 100000 in
/-- reduce(set, value) -/
theorem cD_reduce (l : Launch) (dC : Nat → ClassId) (dI : Nat → Nat → Nat) (dS dZ dN : ClassId) (h0 h1 h2 h3 h4 sz pr : Nat) (S V : Nat → Nat) (kn : Nat) (R X : Nat → Nat) (rk lf lw : Nat) (a b : Nat) (ha : a < 256) (hb0 : b < 256) (hR : pu_RR R X) : fd_MV l yX0_reduce (ws_ yX0_reduce cX0_reduce 4 none) 0 (dC, dI) (fd_ty dS dZ dN) [.ref h0, .int (nI a), .int (nI b)] (wD h0 h1 h2 h3 h4 dS pr S V kn R X rk lf lw) sz (fun (_ : Unit) => True) (fun _ => wD h0 h1 h2 h3 h4 dS pr S V kn R X rk (a ^^^ pu_cb R 8 a) (b ^^^ pu_cb X 8 a)) := by
  refine Met.ofW (cc := cX0_reduce) (maxL := 4) (ret := none) (by decide) rfl ?_
  intro p e s m args below meth c s₁ B hml hv
  obtain ⟨rfl, hsz, hP, hK, hD0⟩ := hv
  have hx := B.exec
  have hb := B.bytes
  have hr := B.returns
  have hts := atoms_spec (ws := ws_ yX0_reduce cX0_reduce 4 none) B.pre
  have hts : ∀ w ∈ lw_all, w.before _ s = true := fun w h => hts w (List.mem_cons_of_mem _ h)
  have hown : s.vm.findClass RX0 = some m.cls := findClass_of_methodNamed B.named
  have hlocks := B.notSynchronized
  subst hsz
  have hD := hD0.self (sz := s.heap.size)
  generalize hAe : va_A (wD h0 h1 h2 h3 h4 dS pr S V kn R X rk lf lw) s.heap.size = A at hD ⊢
  have hA : ∀ q : Nat, s.heap.size ≤ q → A q := fun q h => by rw [← hAe]; exact Or.inr h
  have hS : va_S A s.heap s.heap [] := va_S.rf
  have hP : va_P (dC, dI) vwCl (wD h0 h1 h2 h3 h4 dS pr S V kn R X rk lf lw) s.heap := hP
  have hl := lv_entry ([.ref h0, .int (nI a), .int (nI b)]) (n := 4) (Nat.le_of_ble_eq_true rfl)
  rw [lg_entry_eq]
  generalize (lg_sl ([.ref h0, .int (nI a), .int (nI b)]) ++ List.replicate (4 - (lg_sl ([.ref h0, .int (nI a), .int (nI b)])).length) Slot.unset).toArray = ls at hl ⊢
  have hl : lv_has ls 4 [(0, .ref h0), (1, .int (nI a)), (2, .int (nI b))] := hl
  refine lv_aload_n hx hb dX0_reduce_0 rfl (lv_at hl 0 rfl) ?_
  refine lv_iload_n hx hb dX0_reduce_1 rfl (lv_at hl 1 rfl) ?_
  refine va_put (D := (dC, dI)) (ci := 0) (v := .int (nI a)) (ty := .int) (C := RX0) (T := TX0) (N := 9) hx hb hts in_X0 tyX0 tyX0_ok nmX0 hown hK hP hD hS 0 rfl rfl 7 (by decide) (hts _ q32) (fun _ h9 => h9) rfl (by decide +kernel) rfl rfl (Nat.le_of_ble_eq_true rfl) dX0_reduce_2 (fun H locs hP hD hS => ?_)
  have hP : va_P (dC, dI) vwCl (wD h0 h1 h2 h3 h4 dS pr S V kn R X rk a lw) H := hP
  have hD : va_D A (wD h0 h1 h2 h3 h4 dS pr S V kn R X rk a lw) := hD
  refine lv_aload_n hx hb dX0_reduce_5 rfl (lv_at hl 0 rfl) ?_
  refine lv_iload_n hx hb dX0_reduce_6 rfl (lv_at hl 2 rfl) ?_
  refine va_put (D := (dC, dI)) (ci := 0) (v := .int (nI b)) (ty := .int) (C := RX0) (T := TX0) (N := 9) hx hb hts in_X0 tyX0 tyX0_ok nmX0 hown hK hP hD hS 0 rfl rfl 8 (by decide) (hts _ q33) (fun _ h9 => h9) rfl (by decide +kernel) rfl rfl (Nat.le_of_ble_eq_true rfl) dX0_reduce_7 (fun H locs hP hD hS => ?_)
  have hP : va_P (dC, dI) vwCl (wD h0 h1 h2 h3 h4 dS pr S V kn R X rk a b) H := hP
  have hD : va_D A (wD h0 h1 h2 h3 h4 dS pr S V kn R X rk a b) := hD
  refine lv_bipush (v := nI 7) hx hb dX0_reduce_10 (by decide) ?_
  refine lv_istore_n (lv' := [(3, .int (nI 7)), (0, .ref h0), (1, .int (nI a)), (2, .int (nI b))]) hx hb dX0_reduce_12 rfl hl (by decide) rfl (fun ls hl => ?_)
  refine fd_loop (fun n H locs ls => ∃ (q : Nat) (lf1 : Nat) (lw1 : Nat), n = q ∧ (q ≤ 8) ∧ (lf1 = a ^^^ pu_dn R a (8 - q)) ∧ (lw1 = b ^^^ pu_dn X a (8 - q)) ∧ (lf1 < 256) ∧ (lw1 < 256) ∧ va_P (dC, dI) vwCl (wD h0 h1 h2 h3 h4 dS pr S V kn R X rk lf1 lw1) H ∧ va_D A (wD h0 h1 h2 h3 h4 dS pr S V kn R X rk lf1 lw1) ∧ va_S A s.heap H locs ∧ lv_has ls 4 [(0, .ref h0), (1, .int (nI a)), (2, .int (nI b)), (3, .int (fd_pre q))]) _ ⟨8, a, b, rfl, (Nat.le_refl 8), (Nat.xor_zero a).symm, (Nat.xor_zero b).symm, ha, hb0, hP, hD, hS, lv_sub hl [1, 2, 3, 0] rfl⟩ ?_
  rintro n H locs ls ⟨q, lf1, lw1, hms, hq, e1, e2, bf, bw, hP, hD, hS, hl⟩ ih
  rcases q with _ | q
  · refine lv_iload_n hx hb dX0_reduce_13 rfl (lv_at hl 3 rfl) ?_
    refine lv_if_lt (tgt := 73) hx hb dX0_reduce_14 (by decide) (fun _ => ?_) (fun h => absurd (by decide) h)
    obtain rfl : lf1 = a ^^^ pu_cb R 8 a := by rw [e1]; exact congrArg _ (pu_dn8 R a)
    obtain rfl : lw1 = b ^^^ pu_cb X 8 a := by rw [e2]; exact congrArg _ (pu_dn8 X a)
    exact fd_vret hx hb hr hlocks hK hS () hP hD dX0_reduce_73 (trivial)
  · refine lv_iload_n hx hb dX0_reduce_13 rfl (lv_at hl 3 rfl) ?_
    refine lv_if_lt (tgt := 73) hx hb dX0_reduce_14 (by decide) (fun h => absurd h (nI_pos (by omega))) (fun _ => ?_)
    have hRq := (hR.1 q (by omega)).1
    have hXq := (hR.1 q (by omega)).2
    refine lv_aload_n hx hb dX0_reduce_17 rfl (lv_at hl 0 rfl) ?_
    refine va_get (D := (dC, dI)) (ci := 0) (v := .int (nI lf1)) (C := RX0) (T := TX0) (N := 9) hx hb hts in_X0 hown hK hP 0 rfl rfl 7 (by decide) (hts _ q32) (fun _ h9 => h9) rfl dX0_reduce_18 ?_
    refine lv_iload_n hx hb dX0_reduce_21 rfl (lv_at hl 3 rfl) ?_
    refine lv_ishr hx hb dX0_reduce_22 ?_
    refine lv_iconst (v := nI 1) hx hb dX0_reduce_23 (by decide) ?_
    refine lv_iand hx hb dX0_reduce_24 ?_
    refine fd_top (y := nI (lf1.testBit q).toNat) (nx_bit (by omega) (by omega)) ?_
    refine fd_bit_eq (tgt := 67) hx hb dX0_reduce_25 (by decide) (fun c_25 => ?_) (fun c_25 => ?_)
    · refine lv_iinc (v := fd_pre q) (lv' := [(3, .int (fd_pre q)), (0, .ref h0), (1, .int (nI a)), (2, .int (nI b))]) hx hb dX0_reduce_67 hl (k := 3) rfl (fd_pre_m1 q) (by decide) rfl (fun ls hl => ?_)
      refine lv_goto (tgt := 13) hx hb dX0_reduce_70 (by decide) ?_
      obtain ⟨z1, z2⟩ := pu_red_f hR (by omega) e1 e2 (Or.inl c_25)
      exact ih _ _ _ _ (by omega) ⟨q, lf1, lw1, rfl, (by omega), z1, z2, bf, bw, hP, hD, hS, lv_sub hl [1, 2, 3, 0] rfl⟩
    · refine lv_aload_n hx hb dX0_reduce_28 rfl (lv_at hl 0 rfl) ?_
      refine va_get (D := (dC, dI)) (ci := 0) (v := .ref h3) (C := RX0) (T := TX0) (N := 9) hx hb hts in_X0 hown hK hP 0 rfl rfl 4 (by decide) (hts _ q29) (fun _ h9 => h9) rfl dX0_reduce_29 ?_
      refine lv_iload_n hx hb dX0_reduce_32 rfl (lv_at hl 3 rfl) ?_
      refine fd_sald hx hb hK hP 3 0 R rfl rfl (i := q) (by omega) (by decide) dX0_reduce_33 ?_
      refine fd_if_eq (tgt := 67) hx hb dX0_reduce_34 (by decide) (by omega) (fun c_34 => ?_) (fun c_34 => ?_)
      · refine lv_iinc (v := fd_pre q) (lv' := [(3, .int (fd_pre q)), (0, .ref h0), (1, .int (nI a)), (2, .int (nI b))]) hx hb dX0_reduce_67 hl (k := 3) rfl (fd_pre_m1 q) (by decide) rfl (fun ls hl => ?_)
        refine lv_goto (tgt := 13) hx hb dX0_reduce_70 (by decide) ?_
        obtain ⟨z1, z2⟩ := pu_red_f hR (by omega) e1 e2 (Or.inr c_34)
        exact ih _ _ _ _ (by omega) ⟨q, lf1, lw1, rfl, (by omega), z1, z2, bf, bw, hP, hD, hS, lv_sub hl [1, 2, 3, 0] rfl⟩
      · refine lv_aload_n hx hb dX0_reduce_37 rfl (lv_at hl 0 rfl) ?_
        refine lv_dup hx hb dX0_reduce_38 rfl ?_
        refine va_get (D := (dC, dI)) (ci := 0) (v := .int (nI lf1)) (C := RX0) (T := TX0) (N := 9) hx hb hts in_X0 hown hK hP 0 rfl rfl 7 (by decide) (hts _ q32) (fun _ h9 => h9) rfl dX0_reduce_39 ?_
        refine lv_aload_n hx hb dX0_reduce_42 rfl (lv_at hl 0 rfl) ?_
        refine va_get (D := (dC, dI)) (ci := 0) (v := .ref h3) (C := RX0) (T := TX0) (N := 9) hx hb hts in_X0 hown hK hP 0 rfl rfl 4 (by decide) (hts _ q29) (fun _ h9 => h9) rfl dX0_reduce_43 ?_
        refine lv_iload_n hx hb dX0_reduce_46 rfl (lv_at hl 3 rfl) ?_
        refine fd_sald hx hb hK hP 3 0 R rfl rfl (i := q) (by omega) (by decide) dX0_reduce_47 ?_
        refine lv_ixor hx hb dX0_reduce_48 ?_
        refine fd_top (y := nI (lf1 ^^^ (R q))) (nx_xor _ _) ?_
        refine va_put (D := (dC, dI)) (ci := 0) (v := .int (nI (lf1 ^^^ (R q)))) (ty := .int) (C := RX0) (T := TX0) (N := 9) hx hb hts in_X0 tyX0 tyX0_ok nmX0 hown hK hP hD hS 0 rfl rfl 7 (by decide) (hts _ q32) (fun _ h9 => h9) rfl (by decide +kernel) rfl rfl (Nat.le_of_ble_eq_true rfl) dX0_reduce_49 (fun H locs hP hD hS => ?_)
        have hP : va_P (dC, dI) vwCl (wD h0 h1 h2 h3 h4 dS pr S V kn R X rk (lf1 ^^^ (R q)) lw1) H := hP
        have hD : va_D A (wD h0 h1 h2 h3 h4 dS pr S V kn R X rk (lf1 ^^^ (R q)) lw1) := hD
        refine lv_aload_n hx hb dX0_reduce_52 rfl (lv_at hl 0 rfl) ?_
        refine lv_dup hx hb dX0_reduce_53 rfl ?_
        refine va_get (D := (dC, dI)) (ci := 0) (v := .int (nI lw1)) (C := RX0) (T := TX0) (N := 9) hx hb hts in_X0 hown hK hP 0 rfl rfl 8 (by decide) (hts _ q33) (fun _ h9 => h9) rfl dX0_reduce_54 ?_
        refine lv_aload_n hx hb dX0_reduce_57 rfl (lv_at hl 0 rfl) ?_
        refine va_get (D := (dC, dI)) (ci := 0) (v := .ref h4) (C := RX0) (T := TX0) (N := 9) hx hb hts in_X0 hown hK hP 0 rfl rfl 5 (by decide) (hts _ q30) (fun _ h9 => h9) rfl dX0_reduce_58 ?_
        refine lv_iload_n hx hb dX0_reduce_61 rfl (lv_at hl 3 rfl) ?_
        refine fd_sald hx hb hK hP 4 0 X rfl rfl (i := q) (by omega) (by decide) dX0_reduce_62 ?_
        refine lv_ixor hx hb dX0_reduce_63 ?_
        refine fd_top (y := nI (lw1 ^^^ (X q))) (nx_xor _ _) ?_
        refine va_put (D := (dC, dI)) (ci := 0) (v := .int (nI (lw1 ^^^ (X q)))) (ty := .int) (C := RX0) (T := TX0) (N := 9) hx hb hts in_X0 tyX0 tyX0_ok nmX0 hown hK hP hD hS 0 rfl rfl 8 (by decide) (hts _ q33) (fun _ h9 => h9) rfl (by decide +kernel) rfl rfl (Nat.le_of_ble_eq_true rfl) dX0_reduce_64 (fun H locs hP hD hS => ?_)
        have hP : va_P (dC, dI) vwCl (wD h0 h1 h2 h3 h4 dS pr S V kn R X rk (lf1 ^^^ (R q)) (lw1 ^^^ (X q))) H := hP
        have hD : va_D A (wD h0 h1 h2 h3 h4 dS pr S V kn R X rk (lf1 ^^^ (R q)) (lw1 ^^^ (X q))) := hD
        refine lv_iinc (v := fd_pre q) (lv' := [(3, .int (fd_pre q)), (0, .ref h0), (1, .int (nI a)), (2, .int (nI b))]) hx hb dX0_reduce_67 hl (k := 3) rfl (fd_pre_m1 q) (by decide) rfl (fun ls hl => ?_)
        refine lv_goto (tgt := 13) hx hb dX0_reduce_70 (by decide) ?_
        obtain ⟨z1, z2⟩ := pu_red_t hR (by omega) e1 e2 c_25 c_34
        exact ih _ _ _ _ (by omega) ⟨q, lf1 ^^^ (R q), lw1 ^^^ (X q), rfl, (by omega), z1, z2, (pu_lt8 bf hRq), (pu_lt8 bw hXq), hP, hD, hS, lv_sub hl [1, 2, 3, 0] rfl⟩
end
section
set_option maxHeartbeats 4000000 in
set_option maxRecDepth 100000 in
/-- include(set, value) -/
theorem cD_include (l : Launch) (dC : Nat → ClassId) (dI : Nat → Nat → Nat) (dS dZ dN : ClassId) (h0 h1 h2 h3 h4 sz pr : Nat) (S V : Nat → Nat) (kn : Nat) (R X : Nat → Nat) (rk lf lw : Nat) (a b : Nat) (ha : a < 256) (hb0 : b < 256) (hR : pu_RR R X) : fd_MV l yX0_include (ws_ yX0_include cX0_include 5 none) 1 (dC, dI) (fd_ty dS dZ dN) [.ref h0, .int (nI a), .int (nI b)] (wD h0 h1 h2 h3 h4 dS pr S V kn R X rk lf lw) sz (fun (u : (Nat → Nat) × (Nat → Nat) × Nat × Nat × Nat) => pu_incl R X rk a b u.1 u.2.1 u.2.2.1) (fun (u : (Nat → Nat) × (Nat → Nat) × Nat × Nat × Nat) => wD h0 h1 h2 h3 h4 dS pr S V kn u.1 u.2.1 u.2.2.1 u.2.2.2.1 u.2.2.2.2) := by
  refine Met.ofW (cc := cX0_include) (maxL := 5) (ret := none) (by decide) rfl ?_
  intro p e s m args below meth c s₁ B hml hv
  obtain ⟨rfl, hsz, hP, hK, hD0⟩ := hv
  have hx := B.exec
  have hb := B.bytes
  have hr := B.returns
  have hts := atoms_spec (ws := ws_ yX0_include cX0_include 5 none) B.pre
  have hts : ∀ w ∈ lw_all, w.before _ s = true := fun w h => hts w (List.mem_cons_of_mem _ h)
  have hown : s.vm.findClass RX0 = some m.cls := findClass_of_methodNamed B.named
  have hlocks := B.notSynchronized
  subst hsz
  have hD := hD0.self (sz := s.heap.size)
  generalize hAe : va_A (wD h0 h1 h2 h3 h4 dS pr S V kn R X rk lf lw) s.heap.size = A at hD ⊢
  have hA : ∀ q : Nat, s.heap.size ≤ q → A q := fun q h => by rw [← hAe]; exact Or.inr h
  have hS : va_S A s.heap s.heap [] := va_S.rf
  have hP : va_P (dC, dI) vwCl (wD h0 h1 h2 h3 h4 dS pr S V kn R X rk lf lw) s.heap := hP
  have hl := lv_entry ([.ref h0, .int (nI a), .int (nI b)]) (n := 5) (Nat.le_of_ble_eq_true rfl)
  rw [lg_entry_eq]
  generalize (lg_sl ([.ref h0, .int (nI a), .int (nI b)]) ++ List.replicate (5 - (lg_sl ([.ref h0, .int (nI a), .int (nI b)])).length) Slot.unset).toArray = ls at hl ⊢
  have hl : lv_has ls 5 [(0, .ref h0), (1, .int (nI a)), (2, .int (nI b))] := hl
  refine lv_aload_n hx hb dX0_include_0 rfl (lv_at hl 0 rfl) ?_
  refine lv_iload_n hx hb dX0_include_1 rfl (lv_at hl 1 rfl) ?_
  refine lv_iload_n hx hb dX0_include_2 rfl (lv_at hl 2 rfl) ?_
  refine fd_cV (As := [.int (nI a), .int (nI b)]) (rest := []) (wc := wD h0 h1 h2 h3 h4 dS pr S V kn R X rk lf lw) (wr := []) ⟨hx, hb, hml, hown, hts⟩ (cD_reduce l dC dI dS dZ dN h0 h1 h2 h3 h4 _ pr S V kn R X rk lf lw a b ha hb0 hR) (cwV 2 hts (lw_V q81 q83 qs5 q15 q84) rfl rfl rfl (by decide +kernel) ⟨Nat.le_of_ble_eq_true rfl, Nat.le_of_ble_eq_true rfl⟩) (va_recv hK hP (ci := 0) (q0 := 0) rfl rfl) hK hP hD hS hA [0, 1, 2, 3, 4] [] rfl rfl rfl rfl (by decide) rfl hl.1 rfl (Nat.le_of_ble_eq_true rfl) dX0_include_3 ⟨Nat.zero_le _, Nat.zero_le _⟩ (fun u H locs hw hP hD hS => ?_)
  have hP : va_P (dC, dI) vwCl (wD h0 h1 h2 h3 h4 dS pr S V kn R X rk (a ^^^ pu_cb R 8 a) (b ^^^ pu_cb X 8 a)) H := hP
  have hD : va_D A (wD h0 h1 h2 h3 h4 dS pr S V kn R X rk (a ^^^ pu_cb R 8 a) (b ^^^ pu_cb X 8 a)) := hD
  have hlf : a ^^^ pu_cb R 8 a < 256 := pu_lt8 ha (pu_cb_lt a (fun j hj => (hR.1 j hj).1))
  have hlw : b ^^^ pu_cb X 8 a < 256 := pu_lt8 hb0 (pu_cb_lt a (fun j hj => (hR.1 j hj).2))
  obtain ⟨lf1, elf⟩ : ∃ z, z = a ^^^ pu_cb R 8 a := ⟨_, rfl⟩
  obtain ⟨lw1, elw⟩ : ∃ z, z = b ^^^ pu_cb X 8 a := ⟨_, rfl⟩
  rw [← elf] at hP hD hlf
  rw [← elw] at hP hD hlw
  refine lv_aload_n hx hb dX0_include_6 rfl (lv_at hl 0 rfl) ?_
  refine va_get (D := (dC, dI)) (ci := 0) (v := .int (nI lf1)) (C := RX0) (T := TX0) (N := 9) hx hb hts in_X0 hown hK hP 0 rfl rfl 7 (by decide) (hts _ q32) (fun _ h9 => h9) rfl dX0_include_7 ?_
  refine fd_if_ne (tgt := 14) hx hb dX0_include_10 (by decide) (by omega) (fun c_10 => ?_) (fun c_10 => ?_)
  · refine lv_aload_n hx hb dX0_include_14 rfl (lv_at hl 0 rfl) ?_
    refine va_get (D := (dC, dI)) (ci := 0) (v := .int (nI lf1)) (C := RX0) (T := TX0) (N := 9) hx hb hts in_X0 hown hK hP 0 rfl rfl 7 (by decide) (hts _ q32) (fun _ h9 => h9) rfl dX0_include_15 ?_
    refine fd_cS (As := [.int (nI lf1)]) (rest := []) ⟨hx, hb, hml, hown, hts⟩ (cD_leader l dC dI dS dZ dN _ lf1 hlf c_10) (va_cwS 1 hts (lw_S q85 q86 q15 q87) rfl rfl rfl (by decide +kernel) ⟨Nat.le_of_ble_eq_true rfl, Nat.le_of_ble_eq_true rfl⟩) hK hP hD hS hA rfl hl.1 rfl (Nat.le_of_ble_eq_true rfl) dX0_include_18 ⟨Nat.zero_le _, Nat.zero_le _⟩ (fun r H locs hw hP hS => ?_)
    obtain ⟨i, hi, rfl, hbit⟩ := hw
    refine lv_istore_n (lv' := [(3, .int (nI i)), (0, .ref h0), (1, .int (nI a)), (2, .int (nI b))]) hx hb dX0_include_21 rfl hl (by decide) rfl (fun ls hl => ?_)
    refine lv_iconst (v := nI 0) hx hb dX0_include_22 (by decide) ?_
    refine lv_istore (lv' := [(4, .int (nI 0)), (3, .int (nI i)), (0, .ref h0), (1, .int (nI a)), (2, .int (nI b))]) hx hb dX0_include_23 hl (by decide) rfl (fun ls hl => ?_)
    refine fd_loop (fun n H locs ls => ∃ (j : Nat) (R1 : Nat → Nat) (X1 : Nat → Nat), n = 8 - j ∧ (j ≤ 8) ∧ (pu_part R X R1 X1 lf1 lw1 i j) ∧ va_P (dC, dI) vwCl (wD h0 h1 h2 h3 h4 dS pr S V kn R1 X1 rk lf1 lw1) H ∧ va_D A (wD h0 h1 h2 h3 h4 dS pr S V kn R1 X1 rk lf1 lw1) ∧ va_S A s.heap H locs ∧ lv_has ls 5 [(0, .ref h0), (3, .int (nI i)), (4, .int (nI j))]) _ ⟨0, R, X, rfl, (by omega), pu_part0, hP, hD, hS, lv_sub hl [2, 1, 0] rfl⟩ ?_
    rintro n H locs ls ⟨j, R1, X1, hms, hj, hI, hP, hD, hS, hl⟩ ih
    refine lv_iload hx hb dX0_include_25 (lv_at hl 2 rfl) ?_
    refine lv_bipush (v := nI 8) hx hb dX0_include_27 (by decide) ?_
    refine fd_icmp_ge (tgt := 92) hx hb dX0_include_29 (by decide) (by omega) (by omega) (fun c_29 => ?_) (fun c_29 => ?_)
    · refine lv_aload_n hx hb dX0_include_92 rfl (lv_at hl 0 rfl) ?_
      refine va_get (D := (dC, dI)) (ci := 0) (v := .ref h3) (C := RX0) (T := TX0) (N := 9) hx hb hts in_X0 hown hK hP 0 rfl rfl 4 (by decide) (hts _ q29) (fun _ h9 => h9) rfl dX0_include_93 ?_
      refine lv_iload_n hx hb dX0_include_96 rfl (lv_at hl 1 rfl) ?_
      refine lv_aload_n hx hb dX0_include_97 rfl (lv_at hl 0 rfl) ?_
      refine va_get (D := (dC, dI)) (ci := 0) (v := .int (nI lf1)) (C := RX0) (T := TX0) (N := 9) hx hb hts in_X0 hown hK hP 0 rfl rfl 7 (by decide) (hts _ q32) (fun _ h9 => h9) rfl dX0_include_98 ?_
      refine lv_i2s (v := nI lf1) hx hb dX0_include_101 (fd_short2 _ (by omega)) ?_
      refine fd_sast hx hb hK hP hD hS 3 0 R1 rfl rfl (i := i) (x := lf1) (by omega) (by decide) (by omega) dX0_include_102 (fun H locs hP hD hS => ?_)
      have hP : va_P (dC, dI) vwCl (wD h0 h1 h2 h3 h4 dS pr S V kn (pu_up R1 i lf1) X1 rk lf1 lw1) H := hP
      have hD : va_D A (wD h0 h1 h2 h3 h4 dS pr S V kn (pu_up R1 i lf1) X1 rk lf1 lw1) := hD
      refine lv_aload_n hx hb dX0_include_103 rfl (lv_at hl 0 rfl) ?_
      refine va_get (D := (dC, dI)) (ci := 0) (v := .ref h4) (C := RX0) (T := TX0) (N := 9) hx hb hts in_X0 hown hK hP 0 rfl rfl 5 (by decide) (hts _ q30) (fun _ h9 => h9) rfl dX0_include_104 ?_
      refine lv_iload_n hx hb dX0_include_107 rfl (lv_at hl 1 rfl) ?_
      refine lv_aload_n hx hb dX0_include_108 rfl (lv_at hl 0 rfl) ?_
      refine va_get (D := (dC, dI)) (ci := 0) (v := .int (nI lw1)) (C := RX0) (T := TX0) (N := 9) hx hb hts in_X0 hown hK hP 0 rfl rfl 8 (by decide) (hts _ q33) (fun _ h9 => h9) rfl dX0_include_109 ?_
      refine lv_i2s (v := nI lw1) hx hb dX0_include_112 (fd_short2 _ (by omega)) ?_
      refine fd_sast hx hb hK hP hD hS 4 0 X1 rfl rfl (i := i) (x := lw1) (by omega) (by decide) (by omega) dX0_include_113 (fun H locs hP hD hS => ?_)
      have hP : va_P (dC, dI) vwCl (wD h0 h1 h2 h3 h4 dS pr S V kn (pu_up R1 i lf1) (pu_up X1 i lw1) rk lf1 lw1) H := hP
      have hD : va_D A (wD h0 h1 h2 h3 h4 dS pr S V kn (pu_up R1 i lf1) (pu_up X1 i lw1) rk lf1 lw1) := hD
      refine lv_aload_n hx hb dX0_include_114 rfl (lv_at hl 0 rfl) ?_
      refine lv_dup hx hb dX0_include_115 rfl ?_
      refine va_get (D := (dC, dI)) (ci := 0) (v := .int (nI rk)) (C := RX0) (T := TX0) (N := 9) hx hb hts in_X0 hown hK hP 0 rfl rfl 6 (by decide) (hts _ q31) (fun _ h9 => h9) rfl dX0_include_116 ?_
      refine lv_iconst (v := nI 1) hx hb dX0_include_119 (by decide) ?_
      refine lv_iadd hx hb dX0_include_120 ?_
      refine fd_top (y := nI (rk + 1)) (nI_add _ _) ?_
      refine va_put (D := (dC, dI)) (ci := 0) (v := .int (nI (rk + 1))) (ty := .int) (C := RX0) (T := TX0) (N := 9) hx hb hts in_X0 tyX0 tyX0_ok nmX0 hown hK hP hD hS 0 rfl rfl 6 (by decide) (hts _ q31) (fun _ h9 => h9) rfl (by decide +kernel) rfl rfl (Nat.le_of_ble_eq_true rfl) dX0_include_121 (fun H locs hP hD hS => ?_)
      have hP : va_P (dC, dI) vwCl (wD h0 h1 h2 h3 h4 dS pr S V kn (pu_up R1 i lf1) (pu_up X1 i lw1) (rk + 1) lf1 lw1) H := hP
      have hD : va_D A (wD h0 h1 h2 h3 h4 dS pr S V kn (pu_up R1 i lf1) (pu_up X1 i lw1) (rk + 1) lf1 lw1) := hD
      exact fd_vret hx hb hr hlocks hK hS (pu_up R1 i lf1, pu_up X1 i lw1, rk + 1, lf1, lw1) hP hD dX0_include_124 (Or.inr ⟨by rw [← elf]; exact c_10, rfl, i, hi, by rw [← elf]; exact hbit, by rw [← elf, ← elw]; exact pu_part_end c_29 hI⟩)
    · obtain ⟨hRj, hXj⟩ := pu_part_at hI c_29
      have hb1 : R1 j < 256 := by rw [hRj]; exact (hR.1 j c_29).1
      have hb2 : X1 j < 256 := by rw [hXj]; exact (hR.1 j c_29).2
      have hb3 : R1 j ^^^ lf1 < 256 := pu_lt8 hb1 hlf
      have hb4 : X1 j ^^^ lw1 < 256 := pu_lt8 hb2 hlw
      refine lv_aload_n hx hb dX0_include_32 rfl (lv_at hl 0 rfl) ?_
      refine va_get (D := (dC, dI)) (ci := 0) (v := .ref h3) (C := RX0) (T := TX0) (N := 9) hx hb hts in_X0 hown hK hP 0 rfl rfl 4 (by decide) (hts _ q29) (fun _ h9 => h9) rfl dX0_include_33 ?_
      refine lv_iload hx hb dX0_include_36 (lv_at hl 2 rfl) ?_
      refine fd_sald hx hb hK hP 3 0 R1 rfl rfl (i := j) (by omega) (by decide) dX0_include_38 ?_
      refine lv_iload_n hx hb dX0_include_39 rfl (lv_at hl 1 rfl) ?_
      refine lv_ishr hx hb dX0_include_40 ?_
      refine lv_iconst (v := nI 1) hx hb dX0_include_41 (by decide) ?_
      refine lv_iand hx hb dX0_include_42 ?_
      refine fd_top (y := nI ((R1 j).testBit i).toNat) (nx_bit (by omega) (by omega)) ?_
      refine fd_bit_eq (tgt := 86) hx hb dX0_include_43 (by decide) (fun c_43 => ?_) (fun c_43 => ?_)
      · refine lv_iinc (v := nI (j + 1)) (lv' := [(4, .int (nI (j + 1))), (0, .ref h0), (3, .int (nI i))]) hx hb dX0_include_86 hl (k := 2) rfl (nI_1 _) (by decide) rfl (fun ls hl => ?_)
        refine lv_goto (tgt := 25) hx hb dX0_include_89 (by decide) ?_
        exact ih _ _ _ _ (by omega) ⟨j + 1, R1, X1, rfl, (by omega), (pu_part_f hI c_29 c_43), hP, hD, hS, lv_sub hl [1, 2, 0] rfl⟩
      · refine lv_aload_n hx hb dX0_include_46 rfl (lv_at hl 0 rfl) ?_
        refine va_get (D := (dC, dI)) (ci := 0) (v := .ref h3) (C := RX0) (T := TX0) (N := 9) hx hb hts in_X0 hown hK hP 0 rfl rfl 4 (by decide) (hts _ q29) (fun _ h9 => h9) rfl dX0_include_47 ?_
        refine lv_iload hx hb dX0_include_50 (lv_at hl 2 rfl) ?_
        refine lv_aload_n hx hb dX0_include_52 rfl (lv_at hl 0 rfl) ?_
        refine va_get (D := (dC, dI)) (ci := 0) (v := .ref h3) (C := RX0) (T := TX0) (N := 9) hx hb hts in_X0 hown hK hP 0 rfl rfl 4 (by decide) (hts _ q29) (fun _ h9 => h9) rfl dX0_include_53 ?_
        refine lv_iload hx hb dX0_include_56 (lv_at hl 2 rfl) ?_
        refine fd_sald hx hb hK hP 3 0 R1 rfl rfl (i := j) (by omega) (by decide) dX0_include_58 ?_
        refine lv_aload_n hx hb dX0_include_59 rfl (lv_at hl 0 rfl) ?_
        refine va_get (D := (dC, dI)) (ci := 0) (v := .int (nI lf1)) (C := RX0) (T := TX0) (N := 9) hx hb hts in_X0 hown hK hP 0 rfl rfl 7 (by decide) (hts _ q32) (fun _ h9 => h9) rfl dX0_include_60 ?_
        refine lv_ixor hx hb dX0_include_63 ?_
        refine fd_top (y := nI ((R1 j) ^^^ lf1)) (nx_xor _ _) ?_
        refine lv_i2s (v := nI ((R1 j) ^^^ lf1)) hx hb dX0_include_64 (fd_short2 _ (by omega)) ?_
        refine fd_sast hx hb hK hP hD hS 3 0 R1 rfl rfl (i := j) (x := ((R1 j) ^^^ lf1)) (by omega) (by decide) (by omega) dX0_include_65 (fun H locs hP hD hS => ?_)
        have hP : va_P (dC, dI) vwCl (wD h0 h1 h2 h3 h4 dS pr S V kn (pu_up R1 j ((R1 j) ^^^ lf1)) X1 rk lf1 lw1) H := hP
        have hD : va_D A (wD h0 h1 h2 h3 h4 dS pr S V kn (pu_up R1 j ((R1 j) ^^^ lf1)) X1 rk lf1 lw1) := hD
        refine lv_aload_n hx hb dX0_include_66 rfl (lv_at hl 0 rfl) ?_
        refine va_get (D := (dC, dI)) (ci := 0) (v := .ref h4) (C := RX0) (T := TX0) (N := 9) hx hb hts in_X0 hown hK hP 0 rfl rfl 5 (by decide) (hts _ q30) (fun _ h9 => h9) rfl dX0_include_67 ?_
        refine lv_iload hx hb dX0_include_70 (lv_at hl 2 rfl) ?_
        refine lv_aload_n hx hb dX0_include_72 rfl (lv_at hl 0 rfl) ?_
        refine va_get (D := (dC, dI)) (ci := 0) (v := .ref h4) (C := RX0) (T := TX0) (N := 9) hx hb hts in_X0 hown hK hP 0 rfl rfl 5 (by decide) (hts _ q30) (fun _ h9 => h9) rfl dX0_include_73 ?_
        refine lv_iload hx hb dX0_include_76 (lv_at hl 2 rfl) ?_
        refine fd_sald hx hb hK hP 4 0 X1 rfl rfl (i := j) (by omega) (by decide) dX0_include_78 ?_
        refine lv_aload_n hx hb dX0_include_79 rfl (lv_at hl 0 rfl) ?_
        refine va_get (D := (dC, dI)) (ci := 0) (v := .int (nI lw1)) (C := RX0) (T := TX0) (N := 9) hx hb hts in_X0 hown hK hP 0 rfl rfl 8 (by decide) (hts _ q33) (fun _ h9 => h9) rfl dX0_include_80 ?_
        refine lv_ixor hx hb dX0_include_83 ?_
        refine fd_top (y := nI ((X1 j) ^^^ lw1)) (nx_xor _ _) ?_
        refine lv_i2s (v := nI ((X1 j) ^^^ lw1)) hx hb dX0_include_84 (fd_short2 _ (by omega)) ?_
        refine fd_sast hx hb hK hP hD hS 4 0 X1 rfl rfl (i := j) (x := ((X1 j) ^^^ lw1)) (by omega) (by decide) (by omega) dX0_include_85 (fun H locs hP hD hS => ?_)
        have hP : va_P (dC, dI) vwCl (wD h0 h1 h2 h3 h4 dS pr S V kn (pu_up R1 j ((R1 j) ^^^ lf1)) (pu_up X1 j ((X1 j) ^^^ lw1)) rk lf1 lw1) H := hP
        have hD : va_D A (wD h0 h1 h2 h3 h4 dS pr S V kn (pu_up R1 j ((R1 j) ^^^ lf1)) (pu_up X1 j ((X1 j) ^^^ lw1)) rk lf1 lw1) := hD
        refine lv_iinc (v := nI (j + 1)) (lv' := [(4, .int (nI (j + 1))), (0, .ref h0), (3, .int (nI i))]) hx hb dX0_include_86 hl (k := 2) rfl (nI_1 _) (by decide) rfl (fun ls hl => ?_)
        refine lv_goto (tgt := 25) hx hb dX0_include_89 (by decide) ?_
        exact ih _ _ _ _ (by omega) ⟨j + 1, pu_up R1 j ((R1 j) ^^^ lf1), pu_up X1 j ((X1 j) ^^^ lw1), rfl, (by omega), (pu_part_t hI c_29 c_43), hP, hD, hS, lv_sub hl [1, 2, 0] rfl⟩
  · exact fd_vret hx hb hr hlocks hK hS (R, X, rk, lf1, lw1) hP hD dX0_include_13 (Or.inl ⟨by rw [← elf]; exact c_10, rfl, rfl, rfl⟩)
set_option maxHeartbeats 4000000 in
set_option maxRecDepth 100000 in
/-- build(some) -/
theorem cD_build (l : Launch) (dC : Nat → ClassId) (dI : Nat → Nat → Nat) (dS dZ dN : ClassId) (h0 h1 h2 h3 h4 sz pr : Nat) (S V : Nat → Nat) (kn : Nat) (R X : Nat → Nat) (rk lf lw : Nat) (mm : Nat) (hm : mm < 1024) (hB : ∀ j, j < 10 → S j < 256 ∧ V j < 256) (hC : pu_con mm S V) : fd_MV l yX0_build (ws_ yX0_build cX0_build 3 none) 2 (dC, dI) (fd_ty dS dZ dN) [.ref h0, .int (nI mm)] (wD h0 h1 h2 h3 h4 dS pr S V kn R X rk lf lw) sz (fun (u : (Nat → Nat) × (Nat → Nat) × Nat × Nat × Nat) => pu_good u.1 u.2.1 u.2.2.1 (pu_sp mm S V 10)) (fun (u : (Nat → Nat) × (Nat → Nat) × Nat × Nat × Nat) => wD h0 h1 h2 h3 h4 dS pr S V kn u.1 u.2.1 u.2.2.1 u.2.2.2.1 u.2.2.2.2) := by
  refine Met.ofW (cc := cX0_build) (maxL := 3) (ret := none) (by decide) rfl ?_
  intro p e s m args below meth c s₁ B hml hv
  obtain ⟨rfl, hsz, hP, hK, hD0⟩ := hv
  have hx := B.exec
  have hb := B.bytes
  have hr := B.returns
  have hts := atoms_spec (ws := ws_ yX0_build cX0_build 3 none) B.pre
  have hts : ∀ w ∈ lw_all, w.before _ s = true := fun w h => hts w (List.mem_cons_of_mem _ h)
  have hown : s.vm.findClass RX0 = some m.cls := findClass_of_methodNamed B.named
  have hlocks := B.notSynchronized
  subst hsz
  have hD := hD0.self (sz := s.heap.size)
  generalize hAe : va_A (wD h0 h1 h2 h3 h4 dS pr S V kn R X rk lf lw) s.heap.size = A at hD ⊢
  have hA : ∀ q : Nat, s.heap.size ≤ q → A q := fun q h => by rw [← hAe]; exact Or.inr h
  have hS : va_S A s.heap s.heap [] := va_S.rf
  have hP : va_P (dC, dI) vwCl (wD h0 h1 h2 h3 h4 dS pr S V kn R X rk lf lw) s.heap := hP
  have hl := lv_entry ([.ref h0, .int (nI mm)]) (n := 3) (Nat.le_of_ble_eq_true rfl)
  rw [lg_entry_eq]
  generalize (lg_sl ([.ref h0, .int (nI mm)]) ++ List.replicate (3 - (lg_sl ([.ref h0, .int (nI mm)])).length) Slot.unset).toArray = ls at hl ⊢
  have hl : lv_has ls 3 [(0, .ref h0), (1, .int (nI mm))] := hl
  refine lv_aload_n hx hb dX0_build_0 rfl (lv_at hl 0 rfl) ?_
  refine fd_cV (As := []) (rest := []) (wc := wD h0 h1 h2 h3 h4 dS pr S V kn R X rk lf lw) (wr := []) ⟨hx, hb, hml, hown, hts⟩ (cD_clearRows l dC dI dS dZ dN h0 h1 h2 h3 h4 _ pr S V kn R X rk lf lw) (cwV 0 hts (lw_V q73 q75 qs3 q15 q76) rfl rfl rfl (by decide +kernel) ⟨Nat.le_of_ble_eq_true rfl, Nat.le_of_ble_eq_true rfl⟩) (va_recv hK hP (ci := 0) (q0 := 0) rfl rfl) hK hP hD hS hA [0, 1, 2, 3, 4] [] rfl rfl rfl rfl (by decide) rfl hl.1 rfl (Nat.le_of_ble_eq_true rfl) dX0_build_1 ⟨Nat.zero_le _, Nat.zero_le _⟩ (fun u H locs hw hP hD hS => ?_)
  obtain ⟨R0, X0⟩ := u
  try dsimp only at hw
  have hP : va_P (dC, dI) vwCl (wD h0 h1 h2 h3 h4 dS pr S V kn R0 X0 0 lf lw) H := hP
  have hD : va_D A (wD h0 h1 h2 h3 h4 dS pr S V kn R0 X0 0 lf lw) := hD
  refine lv_iconst (v := nI 0) hx hb dX0_build_4 (by decide) ?_
  refine lv_istore_n (lv' := [(2, .int (nI 0)), (0, .ref h0), (1, .int (nI mm))]) hx hb dX0_build_5 rfl hl (by decide) rfl (fun ls hl => ?_)
  refine fd_loop (fun n H locs ls => ∃ (k : Nat) (R1 : Nat → Nat) (X1 : Nat → Nat) (rk1 : Nat) (lf1 : Nat) (lw1 : Nat), n = 10 - k ∧ (k ≤ 10) ∧ (pu_good R1 X1 rk1 (pu_sp mm S V k)) ∧ va_P (dC, dI) vwCl (wD h0 h1 h2 h3 h4 dS pr S V kn R1 X1 rk1 lf1 lw1) H ∧ va_D A (wD h0 h1 h2 h3 h4 dS pr S V kn R1 X1 rk1 lf1 lw1) ∧ va_S A s.heap H locs ∧ lv_has ls 3 [(0, .ref h0), (1, .int (nI mm)), (2, .int (nI k))]) _ ⟨0, R0, X0, 0, lf, lw, rfl, (by omega), (pu_good0 hw), hP, hD, hS, lv_sub hl [1, 2, 0] rfl⟩ ?_
  rintro n H locs ls ⟨k, R1, X1, rk1, lf1, lw1, hms, hk, hG, hP, hD, hS, hl⟩ ih
  refine lv_iload_n hx hb dX0_build_6 rfl (lv_at hl 2 rfl) ?_
  refine lv_bipush (v := nI 10) hx hb dX0_build_7 (by decide) ?_
  refine fd_icmp_ge (tgt := 42) hx hb dX0_build_9 (by decide) (by omega) (by omega) (fun c_9 => ?_) (fun c_9 => ?_)
  · exact fd_vret hx hb hr hlocks hK hS (R1, X1, rk1, lf1, lw1) hP hD dX0_build_42 (by rw [show k = 10 by omega] at hG; exact hG)
  · refine lv_iload_n hx hb dX0_build_12 rfl (lv_at hl 1 rfl) ?_
    refine lv_iload_n hx hb dX0_build_13 rfl (lv_at hl 2 rfl) ?_
    refine lv_ishr hx hb dX0_build_14 ?_
    refine lv_iconst (v := nI 1) hx hb dX0_build_15 (by decide) ?_
    refine lv_iand hx hb dX0_build_16 ?_
    refine fd_top (y := nI (mm.testBit k).toNat) (nx_bit (by omega) (by omega)) ?_
    refine fd_bit_eq (tgt := 36) hx hb dX0_build_17 (by decide) (fun c_17 => ?_) (fun c_17 => ?_)
    · refine lv_iinc (v := nI (k + 1)) (lv' := [(2, .int (nI (k + 1))), (0, .ref h0), (1, .int (nI mm))]) hx hb dX0_build_36 hl (k := 2) rfl (nI_1 _) (by decide) rfl (fun ls hl => ?_)
      refine lv_goto (tgt := 6) hx hb dX0_build_39 (by decide) ?_
      exact ih _ _ _ _ (by omega) ⟨k + 1, R1, X1, rk1, lf1, lw1, rfl, (by omega), (pu_build0 hG c_17), hP, hD, hS, lv_sub hl [1, 2, 0] rfl⟩
    · refine lv_aload_n hx hb dX0_build_20 rfl (lv_at hl 0 rfl) ?_
      refine lv_aload_n hx hb dX0_build_21 rfl (lv_at hl 0 rfl) ?_
      refine va_get (D := (dC, dI)) (ci := 0) (v := .ref h1) (C := RX0) (T := TX0) (N := 9) hx hb hts in_X0 hown hK hP 0 rfl rfl 1 (by decide) (hts _ q26) (fun _ h9 => h9) rfl dX0_build_22 ?_
      refine lv_iload_n hx hb dX0_build_25 rfl (lv_at hl 2 rfl) ?_
      refine fd_sald hx hb hK hP 1 0 S rfl rfl (i := k) (by omega) (by decide) dX0_build_26 ?_
      refine lv_aload_n hx hb dX0_build_27 rfl (lv_at hl 0 rfl) ?_
      refine va_get (D := (dC, dI)) (ci := 0) (v := .ref h2) (C := RX0) (T := TX0) (N := 9) hx hb hts in_X0 hown hK hP 0 rfl rfl 2 (by decide) (hts _ q27) (fun _ h9 => h9) rfl dX0_build_28 ?_
      refine lv_iload_n hx hb dX0_build_31 rfl (lv_at hl 2 rfl) ?_
      refine fd_sald hx hb hK hP 2 0 V rfl rfl (i := k) (by omega) (by decide) dX0_build_32 ?_
      refine fd_cV (As := [.int (nI (S k)), .int (nI (V k))]) (rest := []) (wc := wD h0 h1 h2 h3 h4 dS pr S V kn R1 X1 rk1 lf1 lw1) (wr := []) ⟨hx, hb, hml, hown, hts⟩ (cD_include l dC dI dS dZ dN h0 h1 h2 h3 h4 _ pr S V kn R1 X1 rk1 lf1 lw1 (S k) (V k) (hB k c_9).1 (hB k c_9).2 hG.1) (cwV 2 hts (lw_V q77 q79 qs4 q15 q80) rfl rfl rfl (by decide +kernel) ⟨Nat.le_of_ble_eq_true rfl, Nat.le_of_ble_eq_true rfl⟩) (va_recv hK hP (ci := 0) (q0 := 0) rfl rfl) hK hP hD hS hA [0, 1, 2, 3, 4] [] rfl rfl rfl rfl (by decide) rfl hl.1 rfl (Nat.le_of_ble_eq_true rfl) dX0_build_33 ⟨Nat.zero_le _, Nat.zero_le _⟩ (fun u H locs hw hP hD hS => ?_)
      obtain ⟨R2, X2, rk2, lf2, lw2⟩ := u
      try dsimp only at hw
      have hP : va_P (dC, dI) vwCl (wD h0 h1 h2 h3 h4 dS pr S V kn R2 X2 rk2 lf2 lw2) H := hP
      have hD : va_D A (wD h0 h1 h2 h3 h4 dS pr S V kn R2 X2 rk2 lf2 lw2) := hD
      refine lv_iinc (v := nI (k + 1)) (lv' := [(2, .int (nI (k + 1))), (0, .ref h0), (1, .int (nI mm))]) hx hb dX0_build_36 hl (k := 2) rfl (nI_1 _) (by decide) rfl (fun ls hl => ?_)
      refine lv_goto (tgt := 6) hx hb dX0_build_39 (by decide) ?_
      exact ih _ _ _ _ (by omega) ⟨k + 1, R2, X2, rk2, lf2, lw2, rfl, (by omega), (pu_build1 c_9 hB hC hG c_17 hw), hP, hD, hS, lv_sub hl [1, 2, 0] rfl⟩
set_option maxHeartbeats 4000000 in
set_option maxRecDepth 100000 in
/-- learn() -/
theorem cD_learn (l : Launch) (dC : Nat → ClassId) (dI : Nat → Nat → Nat) (dS dZ dN : ClassId) (h0 h1 h2 h3 h4 sz pr : Nat) (S V : Nat → Nat) (kn : Nat) (R X : Nat → Nat) (rk lf lw : Nat) (hI : pu_dk pr S V kn R X rk) : fd_MV l yX0_learn (ws_ yX0_learn cX0_learn 1 none) 3 (dC, dI) (fd_ty dS dZ dN) [.ref h0] (wD h0 h1 h2 h3 h4 dS pr S V kn R X rk lf lw) sz (fun (u : (Nat → Nat) × (Nat → Nat) × Nat × Nat × Nat) => pu_good u.1 u.2.1 u.2.2.1 (pu_sp pr S V 10)) (fun (u : (Nat → Nat) × (Nat → Nat) × Nat × Nat × Nat) => wD h0 h1 h2 h3 h4 dS pr S V 1 u.1 u.2.1 u.2.2.1 u.2.2.2.1 u.2.2.2.2) := by
  refine Met.ofW (cc := cX0_learn) (maxL := 1) (ret := none) (by decide) rfl ?_
  intro p e s m args below meth c s₁ B hml hv
  obtain ⟨rfl, hsz, hP, hK, hD0⟩ := hv
  have hx := B.exec
  have hb := B.bytes
  have hr := B.returns
  have hts := atoms_spec (ws := ws_ yX0_learn cX0_learn 1 none) B.pre
  have hts : ∀ w ∈ lw_all, w.before _ s = true := fun w h => hts w (List.mem_cons_of_mem _ h)
  have hown : s.vm.findClass RX0 = some m.cls := findClass_of_methodNamed B.named
  have hlocks := B.notSynchronized
  subst hsz
  have hD := hD0.self (sz := s.heap.size)
  generalize hAe : va_A (wD h0 h1 h2 h3 h4 dS pr S V kn R X rk lf lw) s.heap.size = A at hD ⊢
  have hA : ∀ q : Nat, s.heap.size ≤ q → A q := fun q h => by rw [← hAe]; exact Or.inr h
  have hS : va_S A s.heap s.heap [] := va_S.rf
  have hP : va_P (dC, dI) vwCl (wD h0 h1 h2 h3 h4 dS pr S V kn R X rk lf lw) s.heap := hP
  have hl := lv_entry ([.ref h0]) (n := 1) (Nat.le_of_ble_eq_true rfl)
  rw [lg_entry_eq]
  generalize (lg_sl ([.ref h0]) ++ List.replicate (1 - (lg_sl ([.ref h0])).length) Slot.unset).toArray = ls at hl ⊢
  have hl : lv_has ls 1 [(0, .ref h0)] := hl
  have hkn := hI.2.1
  refine lv_aload_n hx hb dX0_learn_0 rfl (lv_at hl 0 rfl) ?_
  refine va_get (D := (dC, dI)) (ci := 0) (v := .int (nI kn)) (C := RX0) (T := TX0) (N := 9) hx hb hts in_X0 hown hK hP 0 rfl rfl 3 (by decide) (hts _ q28) (fun _ h9 => h9) rfl dX0_learn_1 ?_
  refine fd_if_ne (tgt := 20) hx hb dX0_learn_4 (by decide) (by omega) (fun c_4 => ?_) (fun c_4 => ?_)
  · obtain rfl : kn = 1 := by omega
    exact fd_vret hx hb hr hlocks hK hS (R, X, rk, lf, lw) hP hD dX0_learn_20 (hI.2.2 rfl)
  · refine lv_aload_n hx hb dX0_learn_7 rfl (lv_at hl 0 rfl) ?_
    refine lv_iconst (v := nI 1) hx hb dX0_learn_8 (by decide) ?_
    refine va_put (D := (dC, dI)) (ci := 0) (v := .int (nI 1)) (ty := .boolean) (C := RX0) (T := TX0) (N := 9) hx hb hts in_X0 tyX0 tyX0_ok nmX0 hown hK hP hD hS 0 rfl rfl 3 (by decide) (hts _ q28) (fun _ h9 => h9) rfl (by decide +kernel) rfl rfl (Nat.le_of_ble_eq_true rfl) dX0_learn_9 (fun H locs hP hD hS => ?_)
    have hP : va_P (dC, dI) vwCl (wD h0 h1 h2 h3 h4 dS pr S V 1 R X rk lf lw) H := hP
    have hD : va_D A (wD h0 h1 h2 h3 h4 dS pr S V 1 R X rk lf lw) := hD
    refine lv_aload_n hx hb dX0_learn_12 rfl (lv_at hl 0 rfl) ?_
    refine lv_aload_n hx hb dX0_learn_13 rfl (lv_at hl 0 rfl) ?_
    refine va_get (D := (dC, dI)) (ci := 0) (v := .int (nI pr)) (C := RX0) (T := TX0) (N := 9) hx hb hts in_X0 hown hK hP 0 rfl rfl 0 (by decide) (hts _ q25) (fun _ h9 => h9) rfl dX0_learn_14 ?_
    refine fd_cV (As := [.int (nI pr)]) (rest := []) (wc := wD h0 h1 h2 h3 h4 dS pr S V 1 R X rk lf lw) (wr := []) ⟨hx, hb, hml, hown, hts⟩ (cD_build l dC dI dS dZ dN h0 h1 h2 h3 h4 _ pr S V 1 R X rk lf lw pr hI.1.1 hI.1.2.1 hI.1.2.2) (cwV 1 hts (lw_V q69 q71 qs2 q15 q72) rfl rfl rfl (by decide +kernel) ⟨Nat.le_of_ble_eq_true rfl, Nat.le_of_ble_eq_true rfl⟩) (va_recv hK hP (ci := 0) (q0 := 0) rfl rfl) hK hP hD hS hA [0, 1, 2, 3, 4] [] rfl rfl rfl rfl (by decide) rfl hl.1 rfl (Nat.le_of_ble_eq_true rfl) dX0_learn_17 ⟨Nat.zero_le _, Nat.zero_le _⟩ (fun u H locs hw hP hD hS => ?_)
    obtain ⟨R1, X1, rk1, lf1, lw1⟩ := u
    try dsimp only at hw
    have hP : va_P (dC, dI) vwCl (wD h0 h1 h2 h3 h4 dS pr S V 1 R1 X1 rk1 lf1 lw1) H := hP
    have hD : va_D A (wD h0 h1 h2 h3 h4 dS pr S V 1 R1 X1 rk1 lf1 lw1) := hD
    exact fd_vret hx hb hr hlocks hK hS (R1, X1, rk1, lf1, lw1) hP hD dX0_learn_20 (hw)
end
section
set_option maxHeartbeats 4000000 in
set_option maxRecDepth 100000 in
/-- known() -/
theorem cD_known (l : Launch) (dC : Nat → ClassId) (dI : Nat → Nat → Nat) (dS dZ dN : ClassId) (h0 h1 h2 h3 h4 sz pr : Nat) (S V : Nat → Nat) (kn : Nat) (R X : Nat → Nat) (rk lf lw : Nat) (hI : pu_dk pr S V kn R X rk) : fd_MI l yX0_known (ws_ yX0_known cX0_known 1 (some .int)) 4 (dC, dI) (fd_ty dS dZ dN) [.ref h0] (wD h0 h1 h2 h3 h4 dS pr S V kn R X rk lf lw) sz (fun r (u : Nat × (Nat → Nat) × (Nat → Nat) × Nat × Nat × Nat) => r = nI (pu_mk (fun i => pu_kb pr S V (2 ^ i)) 8) ∧ pu_dk pr S V u.1 u.2.1 u.2.2.1 u.2.2.2.1) (fun (u : Nat × (Nat → Nat) × (Nat → Nat) × Nat × Nat × Nat) => wD h0 h1 h2 h3 h4 dS pr S V u.1 u.2.1 u.2.2.1 u.2.2.2.1 u.2.2.2.2.1 u.2.2.2.2.2) := by
  refine Met.ofW (cc := cX0_known) (maxL := 1) (ret := (some .int)) (by decide) rfl ?_
  intro p e s m args below meth c s₁ B hml hv
  obtain ⟨rfl, hsz, hP, hK, hD0⟩ := hv
  have hx := B.exec
  have hb := B.bytes
  have hr := B.returns
  have hts := atoms_spec (ws := ws_ yX0_known cX0_known 1 (some .int)) B.pre
  have hts : ∀ w ∈ lw_all, w.before _ s = true := fun w h => hts w (List.mem_cons_of_mem _ h)
  have hown : s.vm.findClass RX0 = some m.cls := findClass_of_methodNamed B.named
  have hlocks := B.notSynchronized
  subst hsz
  have hD := hD0.self (sz := s.heap.size)
  generalize hAe : va_A (wD h0 h1 h2 h3 h4 dS pr S V kn R X rk lf lw) s.heap.size = A at hD ⊢
  have hA : ∀ q : Nat, s.heap.size ≤ q → A q := fun q h => by rw [← hAe]; exact Or.inr h
  have hS : va_S A s.heap s.heap [] := va_S.rf
  have hP : va_P (dC, dI) vwCl (wD h0 h1 h2 h3 h4 dS pr S V kn R X rk lf lw) s.heap := hP
  have hl := lv_entry ([.ref h0]) (n := 1) (Nat.le_of_ble_eq_true rfl)
  rw [lg_entry_eq]
  generalize (lg_sl ([.ref h0]) ++ List.replicate (1 - (lg_sl ([.ref h0])).length) Slot.unset).toArray = ls at hl ⊢
  have hl : lv_has ls 1 [(0, .ref h0)] := hl
  refine lv_aload_n hx hb dX0_known_0 rfl (lv_at hl 0 rfl) ?_
  refine fd_cV (As := []) (rest := []) (wc := wD h0 h1 h2 h3 h4 dS pr S V kn R X rk lf lw) (wr := []) ⟨hx, hb, hml, hown, hts⟩ (cD_learn l dC dI dS dZ dN h0 h1 h2 h3 h4 _ pr S V kn R X rk lf lw hI) (cwV 0 hts (lw_V q65 q67 qs1 q15 q68) rfl rfl rfl (by decide +kernel) ⟨Nat.le_of_ble_eq_true rfl, Nat.le_of_ble_eq_true rfl⟩) (va_recv hK hP (ci := 0) (q0 := 0) rfl rfl) hK hP hD hS hA [0, 1, 2, 3, 4] [] rfl rfl rfl rfl (by decide) rfl hl.1 rfl (Nat.le_of_ble_eq_true rfl) dX0_known_1 ⟨Nat.zero_le _, Nat.zero_le _⟩ (fun u H locs hw hP hD hS => ?_)
  obtain ⟨R1, X1, rk1, lf1, lw1⟩ := u
  try dsimp only at hw
  have hP : va_P (dC, dI) vwCl (wD h0 h1 h2 h3 h4 dS pr S V 1 R1 X1 rk1 lf1 lw1) H := hP
  have hD : va_D A (wD h0 h1 h2 h3 h4 dS pr S V 1 R1 X1 rk1 lf1 lw1) := hD
  have hG := hw
  refine lv_aload_n hx hb dX0_known_4 rfl (lv_at hl 0 rfl) ?_
  refine fd_cI (As := []) (rest := []) (wc := wD h0 h1 h2 h3 h4 dS pr S V 1 R1 X1 rk1 lf1 lw1) (wr := []) ⟨hx, hb, hml, hown, hts⟩ (cD_singles l dC dI dS dZ dN h0 h1 h2 h3 h4 _ pr S V 1 R1 X1 rk1 lf1 lw1 (fun j hj => (hG.1.1 j hj).1)) (cwV 0 hts (lw_V q100 q102 qs6 q15 q103) rfl rfl rfl (by decide +kernel) ⟨Nat.le_of_ble_eq_true rfl, Nat.le_of_ble_eq_true rfl⟩) (va_recv hK hP (ci := 0) (q0 := 0) rfl rfl) hK hP hD hS hA [0, 1, 2, 3, 4] [] rfl rfl rfl rfl (by decide) rfl hl.1 rfl (Nat.le_of_ble_eq_true rfl) dX0_known_5 ⟨Nat.zero_le _, Nat.zero_le _⟩ (fun r u H locs hw hP hD hS => ?_)
  have hP : va_P (dC, dI) vwCl (wD h0 h1 h2 h3 h4 dS pr S V 1 R1 X1 rk1 lf1 lw1) H := hP
  have hD : va_D A (wD h0 h1 h2 h3 h4 dS pr S V 1 R1 X1 rk1 lf1 lw1) := hD
  exact fd_iret hx hb hr hlocks hK hS (v := r) (1, R1, X1, rk1, lf1, lw1) hP hD dX0_known_8 (⟨by rw [hw]; exact congrArg nI (pu_mk_congr (fun j hj => (pu_single hG hj).1.symm)), ⟨hI.1, Nat.le_refl 1, fun _ => hG⟩⟩)
set_option maxHeartbeats 4000000 in
set_option maxRecDepth 100000 in
/-- piece(i) -/
theorem cD_piece (l : Launch) (dC : Nat → ClassId) (dI : Nat → Nat → Nat) (dS dZ dN : ClassId) (h0 h1 h2 h3 h4 sz pr : Nat) (S V : Nat → Nat) (kn : Nat) (R X : Nat → Nat) (rk lf lw : Nat) (hI : pu_dk pr S V kn R X rk) (a0 : Int32) : fd_MI l yX0_piece (ws_ yX0_piece cX0_piece 2 (some .int)) 4 (dC, dI) (fd_ty dS dZ dN) [.ref h0, .int a0] (wD h0 h1 h2 h3 h4 dS pr S V kn R X rk lf lw) sz (fun r (u : Nat × (Nat → Nat) × (Nat → Nat) × Nat × Nat × Nat) => r = pu_pc pr S V a0 ∧ pu_dk pr S V u.1 u.2.1 u.2.2.1 u.2.2.2.1) (fun (u : Nat × (Nat → Nat) × (Nat → Nat) × Nat × Nat × Nat) => wD h0 h1 h2 h3 h4 dS pr S V u.1 u.2.1 u.2.2.1 u.2.2.2.1 u.2.2.2.2.1 u.2.2.2.2.2) := by
  refine Met.ofW (cc := cX0_piece) (maxL := 2) (ret := (some .int)) (by decide) rfl ?_
  intro p e s m args below meth c s₁ B hml hv
  obtain ⟨rfl, hsz, hP, hK, hD0⟩ := hv
  have hx := B.exec
  have hb := B.bytes
  have hr := B.returns
  have hts := atoms_spec (ws := ws_ yX0_piece cX0_piece 2 (some .int)) B.pre
  have hts : ∀ w ∈ lw_all, w.before _ s = true := fun w h => hts w (List.mem_cons_of_mem _ h)
  have hown : s.vm.findClass RX0 = some m.cls := findClass_of_methodNamed B.named
  have hlocks := B.notSynchronized
  subst hsz
  have hD := hD0.self (sz := s.heap.size)
  generalize hAe : va_A (wD h0 h1 h2 h3 h4 dS pr S V kn R X rk lf lw) s.heap.size = A at hD ⊢
  have hA : ∀ q : Nat, s.heap.size ≤ q → A q := fun q h => by rw [← hAe]; exact Or.inr h
  have hS : va_S A s.heap s.heap [] := va_S.rf
  have hP : va_P (dC, dI) vwCl (wD h0 h1 h2 h3 h4 dS pr S V kn R X rk lf lw) s.heap := hP
  have hl := lv_entry ([.ref h0, .int a0]) (n := 2) (Nat.le_of_ble_eq_true rfl)
  rw [lg_entry_eq]
  generalize (lg_sl ([.ref h0, .int a0]) ++ List.replicate (2 - (lg_sl ([.ref h0, .int a0])).length) Slot.unset).toArray = ls at hl ⊢
  have hl : lv_has ls 2 [(0, .ref h0), (1, .int a0)] := hl
  refine lv_iload_n hx hb dX0_piece_0 rfl (lv_at hl 1 rfl) ?_
  refine lv_if_lt (tgt := 10) hx hb dX0_piece_1 (by decide) (fun c_1 => ?_) (fun c_1 => ?_)
  · refine lv_iconst (v := (-1)) hx hb dX0_piece_10 (by decide) ?_
    exact fd_iret hx hb hr hlocks hK hS (v := (-1)) (kn, R, X, rk, lf, lw) hP hD dX0_piece_11 (⟨by unfold pu_pc; rw [if_neg (fun z => pu_nle c_1 z.1)], hI⟩)
  · refine lv_iload_n hx hb dX0_piece_4 rfl (lv_at hl 1 rfl) ?_
    refine lv_bipush (v := nI 8) hx hb dX0_piece_5 (by decide) ?_
    refine lv_icmp_lt (tgt := 12) hx hb dX0_piece_7 (by decide) (fun (c_7 : a0 < 8) => ?_) (fun (c_7 : ¬ a0 < 8) => ?_)
    · obtain ⟨i, hi, rfl⟩ := pu_ofn (n := 8) (N := 8) rfl (by decide) c_1 c_7
      have hp2 : 2 ^ i < 2 ^ 31 := Nat.pow_lt_pow_right (by decide) (by omega)
      refine lv_aload_n hx hb dX0_piece_12 rfl (lv_at hl 0 rfl) ?_
      refine fd_cV (As := []) (rest := []) (wc := wD h0 h1 h2 h3 h4 dS pr S V kn R X rk lf lw) (wr := []) ⟨hx, hb, hml, hown, hts⟩ (cD_learn l dC dI dS dZ dN h0 h1 h2 h3 h4 _ pr S V kn R X rk lf lw hI) (cwV 0 hts (lw_V q65 q67 qs1 q15 q68) rfl rfl rfl (by decide +kernel) ⟨Nat.le_of_ble_eq_true rfl, Nat.le_of_ble_eq_true rfl⟩) (va_recv hK hP (ci := 0) (q0 := 0) rfl rfl) hK hP hD hS hA [0, 1, 2, 3, 4] [] rfl rfl rfl rfl (by decide) rfl hl.1 rfl (Nat.le_of_ble_eq_true rfl) dX0_piece_13 ⟨Nat.zero_le _, Nat.zero_le _⟩ (fun u H locs hw hP hD hS => ?_)
      obtain ⟨R1, X1, rk1, lf1, lw1⟩ := u
      try dsimp only at hw
      have hP : va_P (dC, dI) vwCl (wD h0 h1 h2 h3 h4 dS pr S V 1 R1 X1 rk1 lf1 lw1) H := hP
      have hD : va_D A (wD h0 h1 h2 h3 h4 dS pr S V 1 R1 X1 rk1 lf1 lw1) := hD
      have hG := hw
      have hp3 := (hG.1.1 i hi).1
      refine lv_aload_n hx hb dX0_piece_16 rfl (lv_at hl 0 rfl) ?_
      refine va_get (D := (dC, dI)) (ci := 0) (v := .ref h3) (C := RX0) (T := TX0) (N := 9) hx hb hts in_X0 hown hK hP 0 rfl rfl 4 (by decide) (hts _ q29) (fun _ h9 => h9) rfl dX0_piece_17 ?_
      refine lv_iload_n hx hb dX0_piece_20 rfl (lv_at hl 1 rfl) ?_
      refine fd_sald hx hb hK hP 3 0 R1 rfl rfl (i := i) (by omega) (by decide) dX0_piece_21 ?_
      refine lv_iconst (v := nI 1) hx hb dX0_piece_22 (by decide) ?_
      refine lv_iload_n hx hb dX0_piece_23 rfl (lv_at hl 1 rfl) ?_
      refine lv_ishl hx hb dX0_piece_24 ?_
      refine fd_top (y := nI (2 ^ i)) (nx_shl1 (by omega)) ?_
      refine fd_icmp_ne (tgt := 37) hx hb dX0_piece_25 (by decide) (by omega) (by omega) (fun c_25 => ?_) (fun c_25 => ?_)
      · refine lv_iconst (v := (-1)) hx hb dX0_piece_37 (by decide) ?_
        exact fd_iret hx hb hr hlocks hK hS (v := (-1)) (1, R1, X1, rk1, lf1, lw1) hP hD dX0_piece_38 (⟨by rw [pu_pc_in hi, (pu_single hG hi).2, if_neg c_25], ⟨hI.1, Nat.le_refl 1, fun _ => hG⟩⟩)
      · refine lv_aload_n hx hb dX0_piece_28 rfl (lv_at hl 0 rfl) ?_
        refine va_get (D := (dC, dI)) (ci := 0) (v := .ref h4) (C := RX0) (T := TX0) (N := 9) hx hb hts in_X0 hown hK hP 0 rfl rfl 5 (by decide) (hts _ q30) (fun _ h9 => h9) rfl dX0_piece_29 ?_
        refine lv_iload_n hx hb dX0_piece_32 rfl (lv_at hl 1 rfl) ?_
        refine fd_sald hx hb hK hP 4 0 X1 rfl rfl (i := i) (by omega) (by decide) dX0_piece_33 ?_
        refine lv_goto (tgt := 38) hx hb dX0_piece_34 (by decide) ?_
        exact fd_iret hx hb hr hlocks hK hS (v := nI (X1 i)) (1, R1, X1, rk1, lf1, lw1) hP hD dX0_piece_38 (⟨by rw [pu_pc_in hi, (pu_single hG hi).2, if_pos c_25], ⟨hI.1, Nat.le_refl 1, fun _ => hG⟩⟩)
    · refine lv_iconst (v := (-1)) hx hb dX0_piece_10 (by decide) ?_
      exact fd_iret hx hb hr hlocks hK hS (v := (-1)) (kn, R, X, rk, lf, lw) hP hD dX0_piece_11 (⟨by unfold pu_pc; rw [if_neg (fun z => c_7 z.2)], hI⟩)
set_option maxHeartbeats 4000000 in
set_option maxRecDepth 100000 in
/-- sum(set) -/
theorem cD_sum (l : Launch) (dC : Nat → ClassId) (dI : Nat → Nat → Nat) (dS dZ dN : ClassId) (h0 h1 h2 h3 h4 sz pr : Nat) (S V : Nat → Nat) (kn : Nat) (R X : Nat → Nat) (rk lf lw : Nat) (hI : pu_dk pr S V kn R X rk) (a0 : Int32) : fd_MI l yX0_sum (ws_ yX0_sum cX0_sum 2 (some .int)) 4 (dC, dI) (fd_ty dS dZ dN) [.ref h0, .int a0] (wD h0 h1 h2 h3 h4 dS pr S V kn R X rk lf lw) sz (fun r (u : Nat × (Nat → Nat) × (Nat → Nat) × Nat × Nat × Nat) => r = pu_sm pr S V a0 ∧ pu_dk pr S V u.1 u.2.1 u.2.2.1 u.2.2.2.1) (fun (u : Nat × (Nat → Nat) × (Nat → Nat) × Nat × Nat × Nat) => wD h0 h1 h2 h3 h4 dS pr S V u.1 u.2.1 u.2.2.1 u.2.2.2.1 u.2.2.2.2.1 u.2.2.2.2.2) := by
  refine Met.ofW (cc := cX0_sum) (maxL := 2) (ret := (some .int)) (by decide) rfl ?_
  intro p e s m args below meth c s₁ B hml hv
  obtain ⟨rfl, hsz, hP, hK, hD0⟩ := hv
  have hx := B.exec
  have hb := B.bytes
  have hr := B.returns
  have hts := atoms_spec (ws := ws_ yX0_sum cX0_sum 2 (some .int)) B.pre
  have hts : ∀ w ∈ lw_all, w.before _ s = true := fun w h => hts w (List.mem_cons_of_mem _ h)
  have hown : s.vm.findClass RX0 = some m.cls := findClass_of_methodNamed B.named
  have hlocks := B.notSynchronized
  subst hsz
  have hD := hD0.self (sz := s.heap.size)
  generalize hAe : va_A (wD h0 h1 h2 h3 h4 dS pr S V kn R X rk lf lw) s.heap.size = A at hD ⊢
  have hA : ∀ q : Nat, s.heap.size ≤ q → A q := fun q h => by rw [← hAe]; exact Or.inr h
  have hS : va_S A s.heap s.heap [] := va_S.rf
  have hP : va_P (dC, dI) vwCl (wD h0 h1 h2 h3 h4 dS pr S V kn R X rk lf lw) s.heap := hP
  have hl := lv_entry ([.ref h0, .int a0]) (n := 2) (Nat.le_of_ble_eq_true rfl)
  rw [lg_entry_eq]
  generalize (lg_sl ([.ref h0, .int a0]) ++ List.replicate (2 - (lg_sl ([.ref h0, .int a0])).length) Slot.unset).toArray = ls at hl ⊢
  have hl : lv_has ls 2 [(0, .ref h0), (1, .int a0)] := hl
  refine lv_iload_n hx hb dX0_sum_0 rfl (lv_at hl 1 rfl) ?_
  refine lv_if_lt (tgt := 11) hx hb dX0_sum_1 (by decide) (fun c_1 => ?_) (fun c_1 => ?_)
  · refine lv_iconst (v := (-1)) hx hb dX0_sum_11 (by decide) ?_
    exact fd_iret hx hb hr hlocks hK hS (v := (-1)) (kn, R, X, rk, lf, lw) hP hD dX0_sum_12 (⟨by unfold pu_sm; rw [if_neg (fun z => pu_nle c_1 z.1)], hI⟩)
  · refine lv_iload_n hx hb dX0_sum_4 rfl (lv_at hl 1 rfl) ?_
    refine lv_sipush (v := nI 255) hx hb dX0_sum_5 (by decide) ?_
    refine lv_icmp_le (tgt := 13) hx hb dX0_sum_8 (by decide) (fun (c_8 : a0 ≤ 255) => ?_) (fun (c_8 : ¬ a0 ≤ 255) => ?_)
    · obtain ⟨a, ha, rfl⟩ := pu_of0 (pu_lt_of c_1) c_8
      refine lv_aload_n hx hb dX0_sum_13 rfl (lv_at hl 0 rfl) ?_
      refine fd_cV (As := []) (rest := []) (wc := wD h0 h1 h2 h3 h4 dS pr S V kn R X rk lf lw) (wr := []) ⟨hx, hb, hml, hown, hts⟩ (cD_learn l dC dI dS dZ dN h0 h1 h2 h3 h4 _ pr S V kn R X rk lf lw hI) (cwV 0 hts (lw_V q65 q67 qs1 q15 q68) rfl rfl rfl (by decide +kernel) ⟨Nat.le_of_ble_eq_true rfl, Nat.le_of_ble_eq_true rfl⟩) (va_recv hK hP (ci := 0) (q0 := 0) rfl rfl) hK hP hD hS hA [0, 1, 2, 3, 4] [] rfl rfl rfl rfl (by decide) rfl hl.1 rfl (Nat.le_of_ble_eq_true rfl) dX0_sum_14 ⟨Nat.zero_le _, Nat.zero_le _⟩ (fun u H locs hw hP hD hS => ?_)
      obtain ⟨R1, X1, rk1, lf1, lw1⟩ := u
      try dsimp only at hw
      have hP : va_P (dC, dI) vwCl (wD h0 h1 h2 h3 h4 dS pr S V 1 R1 X1 rk1 lf1 lw1) H := hP
      have hD : va_D A (wD h0 h1 h2 h3 h4 dS pr S V 1 R1 X1 rk1 lf1 lw1) := hD
      have hG := hw
      refine lv_aload_n hx hb dX0_sum_17 rfl (lv_at hl 0 rfl) ?_
      refine lv_iload_n hx hb dX0_sum_18 rfl (lv_at hl 1 rfl) ?_
      refine lv_iconst (v := nI 0) hx hb dX0_sum_19 (by decide) ?_
      refine fd_cV (As := [.int (nI a), .int (nI 0)]) (rest := []) (wc := wD h0 h1 h2 h3 h4 dS pr S V 1 R1 X1 rk1 lf1 lw1) (wr := []) ⟨hx, hb, hml, hown, hts⟩ (cD_reduce l dC dI dS dZ dN h0 h1 h2 h3 h4 _ pr S V 1 R1 X1 rk1 lf1 lw1 a 0 ha (by decide) hG.1) (cwV 2 hts (lw_V q81 q83 qs5 q15 q84) rfl rfl rfl (by decide +kernel) ⟨Nat.le_of_ble_eq_true rfl, Nat.le_of_ble_eq_true rfl⟩) (va_recv hK hP (ci := 0) (q0 := 0) rfl rfl) hK hP hD hS hA [0, 1, 2, 3, 4] [] rfl rfl rfl rfl (by decide) rfl hl.1 rfl (Nat.le_of_ble_eq_true rfl) dX0_sum_20 ⟨Nat.zero_le _, Nat.zero_le _⟩ (fun u H locs hw hP hD hS => ?_)
      have hP : va_P (dC, dI) vwCl (wD h0 h1 h2 h3 h4 dS pr S V 1 R1 X1 rk1 (a ^^^ pu_cb R1 8 a) (0 ^^^ pu_cb X1 8 a)) H := hP
      have hD : va_D A (wD h0 h1 h2 h3 h4 dS pr S V 1 R1 X1 rk1 (a ^^^ pu_cb R1 8 a) (0 ^^^ pu_cb X1 8 a)) := hD
      have hlf : a ^^^ pu_cb R1 8 a < 256 := pu_lt8 ha (pu_cb_lt a (fun j hj => (hG.1.1 j hj).1))
      have hlw : 0 ^^^ pu_cb X1 8 a < 256 := pu_lt8 (by decide) (pu_cb_lt a (fun j hj => (hG.1.1 j hj).2))
      obtain ⟨lf2, elf⟩ : ∃ z, z = a ^^^ pu_cb R1 8 a := ⟨_, rfl⟩
      obtain ⟨lw2, elw⟩ : ∃ z, z = 0 ^^^ pu_cb X1 8 a := ⟨_, rfl⟩
      rw [← elf] at hP hD hlf
      rw [← elw] at hP hD hlw
      refine lv_aload_n hx hb dX0_sum_23 rfl (lv_at hl 0 rfl) ?_
      refine va_get (D := (dC, dI)) (ci := 0) (v := .int (nI lf2)) (C := RX0) (T := TX0) (N := 9) hx hb hts in_X0 hown hK hP 0 rfl rfl 7 (by decide) (hts _ q32) (fun _ h9 => h9) rfl dX0_sum_24 ?_
      refine fd_if_ne (tgt := 37) hx hb dX0_sum_27 (by decide) (by omega) (fun c_27 => ?_) (fun c_27 => ?_)
      · refine lv_iconst (v := (-1)) hx hb dX0_sum_37 (by decide) ?_
        exact fd_iret hx hb hr hlocks hK hS (v := (-1)) (1, R1, X1, rk1, lf2, lw2) hP hD dX0_sum_38 (⟨by rw [pu_sm_in ha, pu_good_vb hG, if_neg (fun z => c_27 (by rw [elf, z, Nat.xor_self]))], ⟨hI.1, Nat.le_refl 1, fun _ => hG⟩⟩)
      · refine lv_aload_n hx hb dX0_sum_30 rfl (lv_at hl 0 rfl) ?_
        refine va_get (D := (dC, dI)) (ci := 0) (v := .int (nI lw2)) (C := RX0) (T := TX0) (N := 9) hx hb hts in_X0 hown hK hP 0 rfl rfl 8 (by decide) (hts _ q33) (fun _ h9 => h9) rfl dX0_sum_31 ?_
        refine lv_goto (tgt := 38) hx hb dX0_sum_34 (by decide) ?_
        exact fd_iret hx hb hr hlocks hK hS (v := nI lw2) (1, R1, X1, rk1, lf2, lw2) hP hD dX0_sum_38 (⟨by rw [pu_sm_in ha, pu_good_vb hG, if_pos (pu_x0.mp (elf.symm.trans c_27)).symm, elw, Nat.zero_xor], ⟨hI.1, Nat.le_refl 1, fun _ => hG⟩⟩)
    · refine lv_iconst (v := (-1)) hx hb dX0_sum_11 (by decide) ?_
      exact fd_iret hx hb hr hlocks hK hS (v := (-1)) (kn, R, X, rk, lf, lw) hP hD dX0_sum_12 (⟨by unfold pu_sm; rw [if_neg (fun z => c_8 z.2)], hI⟩)
set_option maxHeartbeats 4000000 in
set_option maxRecDepth 100000 in
/-- missing() -/
theorem cD_missing (l : Launch) (dC : Nat → ClassId) (dI : Nat → Nat → Nat) (dS dZ dN : ClassId) (h0 h1 h2 h3 h4 sz pr : Nat) (S V : Nat → Nat) (kn : Nat) (R X : Nat → Nat) (rk lf lw : Nat) (hI : pu_dk pr S V kn R X rk) : fd_MI l yX0_missing (ws_ yX0_missing cX0_missing 1 (some .int)) 4 (dC, dI) (fd_ty dS dZ dN) [.ref h0] (wD h0 h1 h2 h3 h4 dS pr S V kn R X rk lf lw) sz (fun r (u : Nat × (Nat → Nat) × (Nat → Nat) × Nat × Nat × Nat) => (∃ k, pu_ct (pu_kb pr S V) 256 = 2 ^ k ∧ k ≤ 8 ∧ r = nI (8 - k)) ∧ pu_dk pr S V u.1 u.2.1 u.2.2.1 u.2.2.2.1) (fun (u : Nat × (Nat → Nat) × (Nat → Nat) × Nat × Nat × Nat) => wD h0 h1 h2 h3 h4 dS pr S V u.1 u.2.1 u.2.2.1 u.2.2.2.1 u.2.2.2.2.1 u.2.2.2.2.2) := by
  refine Met.ofW (cc := cX0_missing) (maxL := 1) (ret := (some .int)) (by decide) rfl ?_
  intro p e s m args below meth c s₁ B hml hv
  obtain ⟨rfl, hsz, hP, hK, hD0⟩ := hv
  have hx := B.exec
  have hb := B.bytes
  have hr := B.returns
  have hts := atoms_spec (ws := ws_ yX0_missing cX0_missing 1 (some .int)) B.pre
  have hts : ∀ w ∈ lw_all, w.before _ s = true := fun w h => hts w (List.mem_cons_of_mem _ h)
  have hown : s.vm.findClass RX0 = some m.cls := findClass_of_methodNamed B.named
  have hlocks := B.notSynchronized
  subst hsz
  have hD := hD0.self (sz := s.heap.size)
  generalize hAe : va_A (wD h0 h1 h2 h3 h4 dS pr S V kn R X rk lf lw) s.heap.size = A at hD ⊢
  have hA : ∀ q : Nat, s.heap.size ≤ q → A q := fun q h => by rw [← hAe]; exact Or.inr h
  have hS : va_S A s.heap s.heap [] := va_S.rf
  have hP : va_P (dC, dI) vwCl (wD h0 h1 h2 h3 h4 dS pr S V kn R X rk lf lw) s.heap := hP
  have hl := lv_entry ([.ref h0]) (n := 1) (Nat.le_of_ble_eq_true rfl)
  rw [lg_entry_eq]
  generalize (lg_sl ([.ref h0]) ++ List.replicate (1 - (lg_sl ([.ref h0])).length) Slot.unset).toArray = ls at hl ⊢
  have hl : lv_has ls 1 [(0, .ref h0)] := hl
  refine lv_aload_n hx hb dX0_missing_0 rfl (lv_at hl 0 rfl) ?_
  refine fd_cV (As := []) (rest := []) (wc := wD h0 h1 h2 h3 h4 dS pr S V kn R X rk lf lw) (wr := []) ⟨hx, hb, hml, hown, hts⟩ (cD_learn l dC dI dS dZ dN h0 h1 h2 h3 h4 _ pr S V kn R X rk lf lw hI) (cwV 0 hts (lw_V q65 q67 qs1 q15 q68) rfl rfl rfl (by decide +kernel) ⟨Nat.le_of_ble_eq_true rfl, Nat.le_of_ble_eq_true rfl⟩) (va_recv hK hP (ci := 0) (q0 := 0) rfl rfl) hK hP hD hS hA [0, 1, 2, 3, 4] [] rfl rfl rfl rfl (by decide) rfl hl.1 rfl (Nat.le_of_ble_eq_true rfl) dX0_missing_1 ⟨Nat.zero_le _, Nat.zero_le _⟩ (fun u H locs hw hP hD hS => ?_)
  obtain ⟨R1, X1, rk1, lf1, lw1⟩ := u
  try dsimp only at hw
  have hP : va_P (dC, dI) vwCl (wD h0 h1 h2 h3 h4 dS pr S V 1 R1 X1 rk1 lf1 lw1) H := hP
  have hD : va_D A (wD h0 h1 h2 h3 h4 dS pr S V 1 R1 X1 rk1 lf1 lw1) := hD
  have hG := hw
  have hrk := pu_good_rk hG
  refine lv_bipush (v := nI 8) hx hb dX0_missing_4 (by decide) ?_
  refine lv_aload_n hx hb dX0_missing_6 rfl (lv_at hl 0 rfl) ?_
  refine va_get (D := (dC, dI)) (ci := 0) (v := .int (nI rk1)) (C := RX0) (T := TX0) (N := 9) hx hb hts in_X0 hown hK hP 0 rfl rfl 6 (by decide) (hts _ q31) (fun _ h9 => h9) rfl dX0_missing_7 ?_
  refine lv_isub hx hb dX0_missing_10 ?_
  refine fd_top (y := nI (8 - rk1)) (pk_sub (by omega)) ?_
  exact fd_iret hx hb hr hlocks hK hS (v := nI (8 - rk1)) (1, R1, X1, rk1, lf1, lw1) hP hD dX0_missing_11 (⟨⟨rk1, pu_good_ct hG, hrk, rfl⟩, ⟨hI.1, Nat.le_refl 1, fun _ => hG⟩⟩)
set_option maxHeartbeats 4000000 in
set_option maxRecDepth 100000 in
/-- knownSums() -/
theorem cD_knownSums (l : Launch) (dC : Nat → ClassId) (dI : Nat → Nat → Nat) (dS dZ dN : ClassId) (h0 h1 h2 h3 h4 sz pr : Nat) (S V : Nat → Nat) (kn : Nat) (R X : Nat → Nat) (rk lf lw : Nat) (hI : pu_dk pr S V kn R X rk) : fd_MI l yX0_knownSums (ws_ yX0_knownSums cX0_knownSums 1 (some .int)) 4 (dC, dI) (fd_ty dS dZ dN) [.ref h0] (wD h0 h1 h2 h3 h4 dS pr S V kn R X rk lf lw) sz (fun r (u : Nat × (Nat → Nat) × (Nat → Nat) × Nat × Nat × Nat) => r = nI (pu_ct (pu_kb pr S V) 256 - 1) ∧ pu_dk pr S V u.1 u.2.1 u.2.2.1 u.2.2.2.1) (fun (u : Nat × (Nat → Nat) × (Nat → Nat) × Nat × Nat × Nat) => wD h0 h1 h2 h3 h4 dS pr S V u.1 u.2.1 u.2.2.1 u.2.2.2.1 u.2.2.2.2.1 u.2.2.2.2.2) := by
  refine Met.ofW (cc := cX0_knownSums) (maxL := 1) (ret := (some .int)) (by decide) rfl ?_
  intro p e s m args below meth c s₁ B hml hv
  obtain ⟨rfl, hsz, hP, hK, hD0⟩ := hv
  have hx := B.exec
  have hb := B.bytes
  have hr := B.returns
  have hts := atoms_spec (ws := ws_ yX0_knownSums cX0_knownSums 1 (some .int)) B.pre
  have hts : ∀ w ∈ lw_all, w.before _ s = true := fun w h => hts w (List.mem_cons_of_mem _ h)
  have hown : s.vm.findClass RX0 = some m.cls := findClass_of_methodNamed B.named
  have hlocks := B.notSynchronized
  subst hsz
  have hD := hD0.self (sz := s.heap.size)
  generalize hAe : va_A (wD h0 h1 h2 h3 h4 dS pr S V kn R X rk lf lw) s.heap.size = A at hD ⊢
  have hA : ∀ q : Nat, s.heap.size ≤ q → A q := fun q h => by rw [← hAe]; exact Or.inr h
  have hS : va_S A s.heap s.heap [] := va_S.rf
  have hP : va_P (dC, dI) vwCl (wD h0 h1 h2 h3 h4 dS pr S V kn R X rk lf lw) s.heap := hP
  have hl := lv_entry ([.ref h0]) (n := 1) (Nat.le_of_ble_eq_true rfl)
  rw [lg_entry_eq]
  generalize (lg_sl ([.ref h0]) ++ List.replicate (1 - (lg_sl ([.ref h0])).length) Slot.unset).toArray = ls at hl ⊢
  have hl : lv_has ls 1 [(0, .ref h0)] := hl
  refine lv_aload_n hx hb dX0_knownSums_0 rfl (lv_at hl 0 rfl) ?_
  refine fd_cV (As := []) (rest := []) (wc := wD h0 h1 h2 h3 h4 dS pr S V kn R X rk lf lw) (wr := []) ⟨hx, hb, hml, hown, hts⟩ (cD_learn l dC dI dS dZ dN h0 h1 h2 h3 h4 _ pr S V kn R X rk lf lw hI) (cwV 0 hts (lw_V q65 q67 qs1 q15 q68) rfl rfl rfl (by decide +kernel) ⟨Nat.le_of_ble_eq_true rfl, Nat.le_of_ble_eq_true rfl⟩) (va_recv hK hP (ci := 0) (q0 := 0) rfl rfl) hK hP hD hS hA [0, 1, 2, 3, 4] [] rfl rfl rfl rfl (by decide) rfl hl.1 rfl (Nat.le_of_ble_eq_true rfl) dX0_knownSums_1 ⟨Nat.zero_le _, Nat.zero_le _⟩ (fun u H locs hw hP hD hS => ?_)
  obtain ⟨R1, X1, rk1, lf1, lw1⟩ := u
  try dsimp only at hw
  have hP : va_P (dC, dI) vwCl (wD h0 h1 h2 h3 h4 dS pr S V 1 R1 X1 rk1 lf1 lw1) H := hP
  have hD : va_D A (wD h0 h1 h2 h3 h4 dS pr S V 1 R1 X1 rk1 lf1 lw1) := hD
  have hG := hw
  have hrk := pu_good_rk hG
  refine lv_iconst (v := nI 1) hx hb dX0_knownSums_4 (by decide) ?_
  refine lv_aload_n hx hb dX0_knownSums_5 rfl (lv_at hl 0 rfl) ?_
  refine va_get (D := (dC, dI)) (ci := 0) (v := .int (nI rk1)) (C := RX0) (T := TX0) (N := 9) hx hb hts in_X0 hown hK hP 0 rfl rfl 6 (by decide) (hts _ q31) (fun _ h9 => h9) rfl dX0_knownSums_6 ?_
  refine lv_ishl hx hb dX0_knownSums_9 ?_
  refine fd_top (y := nI (2 ^ rk1)) (nx_shl1 (by omega)) ?_
  refine lv_iconst (v := nI 1) hx hb dX0_knownSums_10 (by decide) ?_
  refine lv_isub hx hb dX0_knownSums_11 ?_
  refine fd_top (y := nI ((2 ^ rk1) - 1)) (pk_sub Nat.one_le_two_pow) ?_
  exact fd_iret hx hb hr hlocks hK hS (v := nI ((2 ^ rk1) - 1)) (1, R1, X1, rk1, lf1, lw1) hP hD dX0_knownSums_12 (⟨by rw [pu_good_ct hG], ⟨hI.1, Nat.le_refl 1, fun _ => hG⟩⟩)
set_option maxHeartbeats 4000000 in
set_option maxRecDepth 100000 in
/-- drops() -/
theorem cD_drops (l : Launch) (dC : Nat → ClassId) (dI : Nat → Nat → Nat) (dS dZ dN : ClassId) (h0 h1 h2 h3 h4 sz pr : Nat) (S V : Nat → Nat) (kn : Nat) (R X : Nat → Nat) (rk lf lw : Nat) : fd_MI l yX0_drops (ws_ yX0_drops cX0_drops 1 (some .int)) 0 (dC, dI) (fd_ty dS dZ dN) [.ref h0] (wD h0 h1 h2 h3 h4 dS pr S V kn R X rk lf lw) sz (fun r (_ : Unit) => r = nI pr) (fun _ => wD h0 h1 h2 h3 h4 dS pr S V kn R X rk lf lw) := by
  refine Met.ofW (cc := cX0_drops) (maxL := 1) (ret := (some .int)) (by decide) rfl ?_
  intro p e s m args below meth c s₁ B hml hv
  obtain ⟨rfl, hsz, hP, hK, hD0⟩ := hv
  have hx := B.exec
  have hb := B.bytes
  have hr := B.returns
  have hts := atoms_spec (ws := ws_ yX0_drops cX0_drops 1 (some .int)) B.pre
  have hts : ∀ w ∈ lw_all, w.before _ s = true := fun w h => hts w (List.mem_cons_of_mem _ h)
  have hown : s.vm.findClass RX0 = some m.cls := findClass_of_methodNamed B.named
  have hlocks := B.notSynchronized
  subst hsz
  have hD := hD0.self (sz := s.heap.size)
  generalize hAe : va_A (wD h0 h1 h2 h3 h4 dS pr S V kn R X rk lf lw) s.heap.size = A at hD ⊢
  have hA : ∀ q : Nat, s.heap.size ≤ q → A q := fun q h => by rw [← hAe]; exact Or.inr h
  have hS : va_S A s.heap s.heap [] := va_S.rf
  have hP : va_P (dC, dI) vwCl (wD h0 h1 h2 h3 h4 dS pr S V kn R X rk lf lw) s.heap := hP
  have hl := lv_entry ([.ref h0]) (n := 1) (Nat.le_of_ble_eq_true rfl)
  rw [lg_entry_eq]
  generalize (lg_sl ([.ref h0]) ++ List.replicate (1 - (lg_sl ([.ref h0])).length) Slot.unset).toArray = ls at hl ⊢
  have hl : lv_has ls 1 [(0, .ref h0)] := hl
  refine lv_aload_n hx hb dX0_drops_0 rfl (lv_at hl 0 rfl) ?_
  refine va_get (D := (dC, dI)) (ci := 0) (v := .int (nI pr)) (C := RX0) (T := TX0) (N := 9) hx hb hts in_X0 hown hK hP 0 rfl rfl 0 (by decide) (hts _ q25) (fun _ h9 => h9) rfl dX0_drops_1 ?_
  exact fd_iret hx hb hr hlocks hK hS (v := nI pr) () hP hD dX0_drops_4 (rfl)
set_option maxHeartbeats 4000000 in
set_option maxRecDepth 100000 in
/-- drop(k) -/
theorem cD_drop (l : Launch) (dC : Nat → ClassId) (dI : Nat → Nat → Nat) (dS dZ dN : ClassId) (h0 h1 h2 h3 h4 sz pr : Nat) (S V : Nat → Nat) (kn : Nat) (R X : Nat → Nat) (rk lf lw : Nat) (hI : pu_dk pr S V kn R X rk) (a0 : Int32) : fd_MI l yX0_drop (ws_ yX0_drop cX0_drop 2 (some .boolean)) 1 (dC, dI) (fd_ty dS dZ dN) [.ref h0, .int a0] (wD h0 h1 h2 h3 h4 dS pr S V kn R X rk lf lw) sz (fun r (u : Nat × Nat) => (r, u.1) = pu_dr pr a0 ∧ pu_dk u.1 S V u.2 R X rk) (fun (u : Nat × Nat) => wD h0 h1 h2 h3 h4 dS u.1 S V u.2 R X rk lf lw) := by
  refine Met.ofW (cc := cX0_drop) (maxL := 2) (ret := (some .boolean)) (by decide) rfl ?_
  intro p e s m args below meth c s₁ B hml hv
  obtain ⟨rfl, hsz, hP, hK, hD0⟩ := hv
  have hx := B.exec
  have hb := B.bytes
  have hr := B.returns
  have hts := atoms_spec (ws := ws_ yX0_drop cX0_drop 2 (some .boolean)) B.pre
  have hts : ∀ w ∈ lw_all, w.before _ s = true := fun w h => hts w (List.mem_cons_of_mem _ h)
  have hown : s.vm.findClass RX0 = some m.cls := findClass_of_methodNamed B.named
  have hlocks := B.notSynchronized
  subst hsz
  have hD := hD0.self (sz := s.heap.size)
  generalize hAe : va_A (wD h0 h1 h2 h3 h4 dS pr S V kn R X rk lf lw) s.heap.size = A at hD ⊢
  have hA : ∀ q : Nat, s.heap.size ≤ q → A q := fun q h => by rw [← hAe]; exact Or.inr h
  have hS : va_S A s.heap s.heap [] := va_S.rf
  have hP : va_P (dC, dI) vwCl (wD h0 h1 h2 h3 h4 dS pr S V kn R X rk lf lw) s.heap := hP
  have hl := lv_entry ([.ref h0, .int a0]) (n := 2) (Nat.le_of_ble_eq_true rfl)
  rw [lg_entry_eq]
  generalize (lg_sl ([.ref h0, .int a0]) ++ List.replicate (2 - (lg_sl ([.ref h0, .int a0])).length) Slot.unset).toArray = ls at hl ⊢
  have hl : lv_has ls 2 [(0, .ref h0), (1, .int a0)] := hl
  refine lv_aload_n hx hb dX0_drop_0 rfl (lv_at hl 0 rfl) ?_
  refine lv_iload_n hx hb dX0_drop_1 rfl (lv_at hl 1 rfl) ?_
  refine fd_cI (As := [.int a0]) (rest := []) (wc := wD h0 h1 h2 h3 h4 dS pr S V kn R X rk lf lw) (wr := []) ⟨hx, hb, hml, hown, hts⟩ (cD_has l dC dI dS dZ dN h0 h1 h2 h3 h4 _ pr S V kn R X rk lf lw a0 hI.1.1) (cwV 1 hts (lw_V q61 q63 qs0 q15 q64) rfl rfl rfl (by decide +kernel) ⟨Nat.le_of_ble_eq_true rfl, Nat.le_of_ble_eq_true rfl⟩) (va_recv hK hP (ci := 0) (q0 := 0) rfl rfl) hK hP hD hS hA [0, 1, 2, 3, 4] [] rfl rfl rfl rfl (by decide) rfl hl.1 rfl (Nat.le_of_ble_eq_true rfl) dX0_drop_2 ⟨Nat.zero_le _, Nat.zero_le _⟩ (fun r u H locs hw hP hD hS => ?_)
  have hP : va_P (dC, dI) vwCl (wD h0 h1 h2 h3 h4 dS pr S V kn R X rk lf lw) H := hP
  have hD : va_D A (wD h0 h1 h2 h3 h4 dS pr S V kn R X rk lf lw) := hD
  subst hw
  refine fd_bit_ne (tgt := 10) hx hb dX0_drop_5 (by decide) (fun c_5 => ?_) (fun c_5 => ?_)
  · obtain ⟨k, hk, rfl, hkb⟩ := pu_has_of c_5
    have hpr := hI.1.1
    refine lv_aload_n hx hb dX0_drop_10 rfl (lv_at hl 0 rfl) ?_
    refine lv_dup hx hb dX0_drop_11 rfl ?_
    refine va_get (D := (dC, dI)) (ci := 0) (v := .int (nI pr)) (C := RX0) (T := TX0) (N := 9) hx hb hts in_X0 hown hK hP 0 rfl rfl 0 (by decide) (hts _ q25) (fun _ h9 => h9) rfl dX0_drop_12 ?_
    refine lv_iconst (v := nI 1) hx hb dX0_drop_15 (by decide) ?_
    refine lv_iload_n hx hb dX0_drop_16 rfl (lv_at hl 1 rfl) ?_
    refine lv_ishl hx hb dX0_drop_17 ?_
    refine fd_top (y := nI (2 ^ k)) (nx_shl1 (by omega)) ?_
    refine lv_iconst (v := (-1)) hx hb dX0_drop_18 (by decide) ?_
    refine lv_ixor hx hb dX0_drop_19 ?_
    refine lv_iand hx hb dX0_drop_20 ?_
    refine fd_top (y := nI (pr ^^^ 2 ^ k)) (nx_clr (by omega) (by omega) hkb) ?_
    refine va_put (D := (dC, dI)) (ci := 0) (v := .int (nI (pr ^^^ 2 ^ k))) (ty := .int) (C := RX0) (T := TX0) (N := 9) hx hb hts in_X0 tyX0 tyX0_ok nmX0 hown hK hP hD hS 0 rfl rfl 0 (by decide) (hts _ q25) (fun _ h9 => h9) rfl (by decide +kernel) rfl rfl (Nat.le_of_ble_eq_true rfl) dX0_drop_21 (fun H locs hP hD hS => ?_)
    have hP : va_P (dC, dI) vwCl (wD h0 h1 h2 h3 h4 dS (pr ^^^ 2 ^ k) S V kn R X rk lf lw) H := hP
    have hD : va_D A (wD h0 h1 h2 h3 h4 dS (pr ^^^ 2 ^ k) S V kn R X rk lf lw) := hD
    refine lv_aload_n hx hb dX0_drop_24 rfl (lv_at hl 0 rfl) ?_
    refine lv_iconst (v := nI 0) hx hb dX0_drop_25 (by decide) ?_
    refine va_put (D := (dC, dI)) (ci := 0) (v := .int (nI 0)) (ty := .boolean) (C := RX0) (T := TX0) (N := 9) hx hb hts in_X0 tyX0 tyX0_ok nmX0 hown hK hP hD hS 0 rfl rfl 3 (by decide) (hts _ q28) (fun _ h9 => h9) rfl (by decide +kernel) rfl rfl (Nat.le_of_ble_eq_true rfl) dX0_drop_26 (fun H locs hP hD hS => ?_)
    have hP : va_P (dC, dI) vwCl (wD h0 h1 h2 h3 h4 dS (pr ^^^ 2 ^ k) S V 0 R X rk lf lw) H := hP
    have hD : va_D A (wD h0 h1 h2 h3 h4 dS (pr ^^^ 2 ^ k) S V 0 R X rk lf lw) := hD
    refine lv_iconst (v := nI 1) hx hb dX0_drop_29 (by decide) ?_
    exact fd_zret hx hb hr hlocks hK hS (v := nI 1) (rfl) (pr ^^^ 2 ^ k, 0) hP hD dX0_drop_30 (⟨by rw [pu_dr_t hk hkb]; rfl, pu_dk0 (pu_inv_drop hI.1 hk hkb)⟩)
  · refine lv_iconst (v := nI 0) hx hb dX0_drop_8 (by decide) ?_
    exact fd_zret hx hb hr hlocks hK hS (v := nI 0) (rfl) (pr, kn) hP hD dX0_drop_9 (⟨by rw [pu_dr_f c_5]; rfl, hI⟩)
set_option maxHeartbeats 4000000 in
set_option maxRecDepth 100000 in
/-- rankOf(some) -/
theorem cD_rankOf (l : Launch) (dC : Nat → ClassId) (dI : Nat → Nat → Nat) (dS dZ dN : ClassId) (h0 h1 h2 h3 h4 sz pr : Nat) (S V : Nat → Nat) (kn : Nat) (R X : Nat → Nat) (rk lf lw : Nat) (hI : pu_dk pr S V kn R X rk) (a0 : Int32) : fd_MI l yX0_rankOf (ws_ yX0_rankOf cX0_rankOf 2 (some .int)) 3 (dC, dI) (fd_ty dS dZ dN) [.ref h0, .int a0] (wD h0 h1 h2 h3 h4 dS pr S V kn R X rk lf lw) sz (fun r (u : Nat × (Nat → Nat) × (Nat → Nat) × Nat × Nat × Nat) => (∃ k, pu_ct (pu_kb (pr &&& pu_ib a0) S V) 256 = 2 ^ k ∧ k ≤ 8 ∧ r = nI k) ∧ pu_dk pr S V u.1 u.2.1 u.2.2.1 u.2.2.2.1) (fun (u : Nat × (Nat → Nat) × (Nat → Nat) × Nat × Nat × Nat) => wD h0 h1 h2 h3 h4 dS pr S V u.1 u.2.1 u.2.2.1 u.2.2.2.1 u.2.2.2.2.1 u.2.2.2.2.2) := by
  refine Met.ofW (cc := cX0_rankOf) (maxL := 2) (ret := (some .int)) (by decide) rfl ?_
  intro p e s m args below meth c s₁ B hml hv
  obtain ⟨rfl, hsz, hP, hK, hD0⟩ := hv
  have hx := B.exec
  have hb := B.bytes
  have hr := B.returns
  have hts := atoms_spec (ws := ws_ yX0_rankOf cX0_rankOf 2 (some .int)) B.pre
  have hts : ∀ w ∈ lw_all, w.before _ s = true := fun w h => hts w (List.mem_cons_of_mem _ h)
  have hown : s.vm.findClass RX0 = some m.cls := findClass_of_methodNamed B.named
  have hlocks := B.notSynchronized
  subst hsz
  have hD := hD0.self (sz := s.heap.size)
  generalize hAe : va_A (wD h0 h1 h2 h3 h4 dS pr S V kn R X rk lf lw) s.heap.size = A at hD ⊢
  have hA : ∀ q : Nat, s.heap.size ≤ q → A q := fun q h => by rw [← hAe]; exact Or.inr h
  have hS : va_S A s.heap s.heap [] := va_S.rf
  have hP : va_P (dC, dI) vwCl (wD h0 h1 h2 h3 h4 dS pr S V kn R X rk lf lw) s.heap := hP
  have hl := lv_entry ([.ref h0, .int a0]) (n := 2) (Nat.le_of_ble_eq_true rfl)
  rw [lg_entry_eq]
  generalize (lg_sl ([.ref h0, .int a0]) ++ List.replicate (2 - (lg_sl ([.ref h0, .int a0])).length) Slot.unset).toArray = ls at hl ⊢
  have hl : lv_has ls 2 [(0, .ref h0), (1, .int a0)] := hl
  refine lv_aload_n hx hb dX0_rankOf_0 rfl (lv_at hl 0 rfl) ?_
  refine lv_iconst (v := nI 0) hx hb dX0_rankOf_1 (by decide) ?_
  refine va_put (D := (dC, dI)) (ci := 0) (v := .int (nI 0)) (ty := .boolean) (C := RX0) (T := TX0) (N := 9) hx hb hts in_X0 tyX0 tyX0_ok nmX0 hown hK hP hD hS 0 rfl rfl 3 (by decide) (hts _ q28) (fun _ h9 => h9) rfl (by decide +kernel) rfl rfl (Nat.le_of_ble_eq_true rfl) dX0_rankOf_2 (fun H locs hP hD hS => ?_)
  have hP : va_P (dC, dI) vwCl (wD h0 h1 h2 h3 h4 dS pr S V 0 R X rk lf lw) H := hP
  have hD : va_D A (wD h0 h1 h2 h3 h4 dS pr S V 0 R X rk lf lw) := hD
  refine lv_aload_n hx hb dX0_rankOf_5 rfl (lv_at hl 0 rfl) ?_
  refine lv_iload_n hx hb dX0_rankOf_6 rfl (lv_at hl 1 rfl) ?_
  refine lv_aload_n hx hb dX0_rankOf_7 rfl (lv_at hl 0 rfl) ?_
  refine va_get (D := (dC, dI)) (ci := 0) (v := .int (nI pr)) (C := RX0) (T := TX0) (N := 9) hx hb hts in_X0 hown hK hP 0 rfl rfl 0 (by decide) (hts _ q25) (fun _ h9 => h9) rfl dX0_rankOf_8 ?_
  refine lv_iand hx hb dX0_rankOf_11 ?_
  refine fd_top (y := nI (pr &&& pu_ib a0)) (nx_mask pr a0) ?_
  refine fd_cV (As := [.int (nI (pr &&& pu_ib a0))]) (rest := []) (wc := wD h0 h1 h2 h3 h4 dS pr S V 0 R X rk lf lw) (wr := []) ⟨hx, hb, hml, hown, hts⟩ (cD_build l dC dI dS dZ dN h0 h1 h2 h3 h4 _ pr S V 0 R X rk lf lw (pr &&& pu_ib a0) (nx_mask_lt hI.1.1 a0) hI.1.2.1 (pu_con_sub (nx_mask_sub a0) hI.1.2.2)) (cwV 1 hts (lw_V q69 q71 qs2 q15 q72) rfl rfl rfl (by decide +kernel) ⟨Nat.le_of_ble_eq_true rfl, Nat.le_of_ble_eq_true rfl⟩) (va_recv hK hP (ci := 0) (q0 := 0) rfl rfl) hK hP hD hS hA [0, 1, 2, 3, 4] [] rfl rfl rfl rfl (by decide) rfl hl.1 rfl (Nat.le_of_ble_eq_true rfl) dX0_rankOf_12 ⟨Nat.zero_le _, Nat.zero_le _⟩ (fun u H locs hw hP hD hS => ?_)
  obtain ⟨R1, X1, rk1, lf1, lw1⟩ := u
  try dsimp only at hw
  have hP : va_P (dC, dI) vwCl (wD h0 h1 h2 h3 h4 dS pr S V 0 R1 X1 rk1 lf1 lw1) H := hP
  have hD : va_D A (wD h0 h1 h2 h3 h4 dS pr S V 0 R1 X1 rk1 lf1 lw1) := hD
  have hG := hw
  refine lv_aload_n hx hb dX0_rankOf_15 rfl (lv_at hl 0 rfl) ?_
  refine va_get (D := (dC, dI)) (ci := 0) (v := .int (nI rk1)) (C := RX0) (T := TX0) (N := 9) hx hb hts in_X0 hown hK hP 0 rfl rfl 6 (by decide) (hts _ q31) (fun _ h9 => h9) rfl dX0_rankOf_16 ?_
  exact fd_iret hx hb hr hlocks hK hS (v := nI rk1) (0, R1, X1, rk1, lf1, lw1) hP hD dX0_rankOf_19 (⟨⟨rk1, pu_good_ct hG, pu_good_rk hG, rfl⟩, pu_dk0 hI.1⟩)
set_option maxHeartbeats 4000000 in
set_option maxRecDepth 100000 in
/-- enough(set) -/
theorem cD_enough (l : Launch) (dC : Nat → ClassId) (dI : Nat → Nat → Nat) (dS dZ dN : ClassId) (h0 h1 h2 h3 h4 sz pr : Nat) (S V : Nat → Nat) (kn : Nat) (R X : Nat → Nat) (rk lf lw : Nat) (hI : pu_dk pr S V kn R X rk) (a0 : Int32) : fd_MI l yX0_enough (ws_ yX0_enough cX0_enough 3 (some .boolean)) 4 (dC, dI) (fd_ty dS dZ dN) [.ref h0, .int a0] (wD h0 h1 h2 h3 h4 dS pr S V kn R X rk lf lw) sz (fun r (u : Nat × (Nat → Nat) × (Nat → Nat) × Nat × Nat × Nat) => r = nI (pu_en pr (pr &&& pu_ib a0) S V).toNat ∧ pu_dk pr S V u.1 u.2.1 u.2.2.1 u.2.2.2.1) (fun (u : Nat × (Nat → Nat) × (Nat → Nat) × Nat × Nat × Nat) => wD h0 h1 h2 h3 h4 dS pr S V u.1 u.2.1 u.2.2.1 u.2.2.2.1 u.2.2.2.2.1 u.2.2.2.2.2) := by
  refine Met.ofW (cc := cX0_enough) (maxL := 3) (ret := (some .boolean)) (by decide) rfl ?_
  intro p e s m args below meth c s₁ B hml hv
  obtain ⟨rfl, hsz, hP, hK, hD0⟩ := hv
  have hx := B.exec
  have hb := B.bytes
  have hr := B.returns
  have hts := atoms_spec (ws := ws_ yX0_enough cX0_enough 3 (some .boolean)) B.pre
  have hts : ∀ w ∈ lw_all, w.before _ s = true := fun w h => hts w (List.mem_cons_of_mem _ h)
  have hown : s.vm.findClass RX0 = some m.cls := findClass_of_methodNamed B.named
  have hlocks := B.notSynchronized
  subst hsz
  have hD := hD0.self (sz := s.heap.size)
  generalize hAe : va_A (wD h0 h1 h2 h3 h4 dS pr S V kn R X rk lf lw) s.heap.size = A at hD ⊢
  have hA : ∀ q : Nat, s.heap.size ≤ q → A q := fun q h => by rw [← hAe]; exact Or.inr h
  have hS : va_S A s.heap s.heap [] := va_S.rf
  have hP : va_P (dC, dI) vwCl (wD h0 h1 h2 h3 h4 dS pr S V kn R X rk lf lw) s.heap := hP
  have hl := lv_entry ([.ref h0, .int a0]) (n := 3) (Nat.le_of_ble_eq_true rfl)
  rw [lg_entry_eq]
  generalize (lg_sl ([.ref h0, .int a0]) ++ List.replicate (3 - (lg_sl ([.ref h0, .int a0])).length) Slot.unset).toArray = ls at hl ⊢
  have hl : lv_has ls 3 [(0, .ref h0), (1, .int a0)] := hl
  refine lv_aload_n hx hb dX0_enough_0 rfl (lv_at hl 0 rfl) ?_
  refine lv_aload_n hx hb dX0_enough_1 rfl (lv_at hl 0 rfl) ?_
  refine va_get (D := (dC, dI)) (ci := 0) (v := .int (nI pr)) (C := RX0) (T := TX0) (N := 9) hx hb hts in_X0 hown hK hP 0 rfl rfl 0 (by decide) (hts _ q25) (fun _ h9 => h9) rfl dX0_enough_2 ?_
  refine fd_cI (As := [.int (nI pr)]) (rest := []) (wc := wD h0 h1 h2 h3 h4 dS pr S V kn R X rk lf lw) (wr := []) ⟨hx, hb, hml, hown, hts⟩ (cD_rankOf l dC dI dS dZ dN h0 h1 h2 h3 h4 _ pr S V kn R X rk lf lw hI (nI pr)) (cwV 1 hts (lw_V q124 q126 qs7 q15 q127) rfl rfl rfl (by decide +kernel) ⟨Nat.le_of_ble_eq_true rfl, Nat.le_of_ble_eq_true rfl⟩) (va_recv hK hP (ci := 0) (q0 := 0) rfl rfl) hK hP hD hS hA [0, 1, 2, 3, 4] [] rfl rfl rfl rfl (by decide) rfl hl.1 rfl (Nat.le_of_ble_eq_true rfl) dX0_enough_5 ⟨Nat.zero_le _, Nat.zero_le _⟩ (fun r u H locs hw hP hD hS => ?_)
  obtain ⟨kn1, R1, X1, rk1, lf1, lw1⟩ := u
  try dsimp only at hw
  have hP : va_P (dC, dI) vwCl (wD h0 h1 h2 h3 h4 dS pr S V kn1 R1 X1 rk1 lf1 lw1) H := hP
  have hD : va_D A (wD h0 h1 h2 h3 h4 dS pr S V kn1 R1 X1 rk1 lf1 lw1) := hD
  obtain ⟨⟨k1, hk1, hk2, rfl⟩, hI⟩ := hw
  rw [nx_self hI.1.1] at hk1
  refine lv_istore_n (lv' := [(2, .int (nI k1)), (0, .ref h0), (1, .int a0)]) hx hb dX0_enough_8 rfl hl (by decide) rfl (fun ls hl => ?_)
  refine lv_aload_n hx hb dX0_enough_9 rfl (lv_at hl 1 rfl) ?_
  refine lv_iload_n hx hb dX0_enough_10 rfl (lv_at hl 2 rfl) ?_
  refine fd_cI (As := [.int a0]) (rest := []) (wc := wD h0 h1 h2 h3 h4 dS pr S V kn1 R1 X1 rk1 lf1 lw1) (wr := []) ⟨hx, hb, hml, hown, hts⟩ (cD_rankOf l dC dI dS dZ dN h0 h1 h2 h3 h4 _ pr S V kn1 R1 X1 rk1 lf1 lw1 hI a0) (cwV 1 hts (lw_V q124 q126 qs7 q15 q127) rfl rfl rfl (by decide +kernel) ⟨Nat.le_of_ble_eq_true rfl, Nat.le_of_ble_eq_true rfl⟩) (va_recv hK hP (ci := 0) (q0 := 0) rfl rfl) hK hP hD hS hA [0, 1, 2, 3, 4] [] rfl rfl rfl rfl (by decide) rfl hl.1 rfl (Nat.le_of_ble_eq_true rfl) dX0_enough_11 ⟨Nat.zero_le _, Nat.zero_le _⟩ (fun r u H locs hw hP hD hS => ?_)
  obtain ⟨kn2, R2, X2, rk2, lf2, lw2⟩ := u
  try dsimp only at hw
  have hP : va_P (dC, dI) vwCl (wD h0 h1 h2 h3 h4 dS pr S V kn2 R2 X2 rk2 lf2 lw2) H := hP
  have hD : va_D A (wD h0 h1 h2 h3 h4 dS pr S V kn2 R2 X2 rk2 lf2 lw2) := hD
  obtain ⟨⟨k2, hk3, hk4, rfl⟩, hI⟩ := hw
  refine lv_iload_n hx hb dX0_enough_14 rfl (lv_at hl 0 rfl) ?_
  refine fd_icmp_ne (tgt := 22) hx hb dX0_enough_15 (by decide) (by omega) (by omega) (fun c_15 => ?_) (fun c_15 => ?_)
  · refine lv_iconst (v := nI 0) hx hb dX0_enough_22 (by decide) ?_
    exact fd_zret hx hb hr hlocks hK hS (v := nI 0) (rfl) (kn2, R2, X2, rk2, lf2, lw2) hP hD dX0_enough_23 (⟨by unfold pu_en; rw [decide_eq_false (fun z => c_15 ((pu_ct_eq hk1 hk3).mp z).symm)]; rfl, hI⟩)
  · refine lv_iconst (v := nI 1) hx hb dX0_enough_18 (by decide) ?_
    refine lv_goto (tgt := 23) hx hb dX0_enough_19 (by decide) ?_
    exact fd_zret hx hb hr hlocks hK hS (v := nI 1) (rfl) (kn2, R2, X2, rk2, lf2, lw2) hP hD dX0_enough_23 (⟨by unfold pu_en; rw [decide_eq_true ((pu_ct_eq hk1 hk3).mpr c_15.symm)]; rfl, hI⟩)
set_option maxHeartbeats 4000000 in
set_option maxRecDepth 100000 in
/-- idle(k) -/
theorem cD_idle (l : Launch) (dC : Nat → ClassId) (dI : Nat → Nat → Nat) (dS dZ dN : ClassId) (h0 h1 h2 h3 h4 sz pr : Nat) (S V : Nat → Nat) (kn : Nat) (R X : Nat → Nat) (rk lf lw : Nat) (hI : pu_dk pr S V kn R X rk) (a0 : Int32) : fd_MI l yX0_idle (ws_ yX0_idle cX0_idle 2 (some .boolean)) 5 (dC, dI) (fd_ty dS dZ dN) [.ref h0, .int a0] (wD h0 h1 h2 h3 h4 dS pr S V kn R X rk lf lw) sz (fun r (u : Nat × (Nat → Nat) × (Nat → Nat) × Nat × Nat × Nat) => r = nI (pu_id pr S V a0).toNat ∧ pu_dk pr S V u.1 u.2.1 u.2.2.1 u.2.2.2.1) (fun (u : Nat × (Nat → Nat) × (Nat → Nat) × Nat × Nat × Nat) => wD h0 h1 h2 h3 h4 dS pr S V u.1 u.2.1 u.2.2.1 u.2.2.2.1 u.2.2.2.2.1 u.2.2.2.2.2) := by
  refine Met.ofW (cc := cX0_idle) (maxL := 2) (ret := (some .boolean)) (by decide) rfl ?_
  intro p e s m args below meth c s₁ B hml hv
  obtain ⟨rfl, hsz, hP, hK, hD0⟩ := hv
  have hx := B.exec
  have hb := B.bytes
  have hr := B.returns
  have hts := atoms_spec (ws := ws_ yX0_idle cX0_idle 2 (some .boolean)) B.pre
  have hts : ∀ w ∈ lw_all, w.before _ s = true := fun w h => hts w (List.mem_cons_of_mem _ h)
  have hown : s.vm.findClass RX0 = some m.cls := findClass_of_methodNamed B.named
  have hlocks := B.notSynchronized
  subst hsz
  have hD := hD0.self (sz := s.heap.size)
  generalize hAe : va_A (wD h0 h1 h2 h3 h4 dS pr S V kn R X rk lf lw) s.heap.size = A at hD ⊢
  have hA : ∀ q : Nat, s.heap.size ≤ q → A q := fun q h => by rw [← hAe]; exact Or.inr h
  have hS : va_S A s.heap s.heap [] := va_S.rf
  have hP : va_P (dC, dI) vwCl (wD h0 h1 h2 h3 h4 dS pr S V kn R X rk lf lw) s.heap := hP
  have hl := lv_entry ([.ref h0, .int a0]) (n := 2) (Nat.le_of_ble_eq_true rfl)
  rw [lg_entry_eq]
  generalize (lg_sl ([.ref h0, .int a0]) ++ List.replicate (2 - (lg_sl ([.ref h0, .int a0])).length) Slot.unset).toArray = ls at hl ⊢
  have hl : lv_has ls 2 [(0, .ref h0), (1, .int a0)] := hl
  refine lv_aload_n hx hb dX0_idle_0 rfl (lv_at hl 0 rfl) ?_
  refine lv_iload_n hx hb dX0_idle_1 rfl (lv_at hl 1 rfl) ?_
  refine fd_cI (As := [.int a0]) (rest := []) (wc := wD h0 h1 h2 h3 h4 dS pr S V kn R X rk lf lw) (wr := []) ⟨hx, hb, hml, hown, hts⟩ (cD_has l dC dI dS dZ dN h0 h1 h2 h3 h4 _ pr S V kn R X rk lf lw a0 hI.1.1) (cwV 1 hts (lw_V q61 q63 qs0 q15 q64) rfl rfl rfl (by decide +kernel) ⟨Nat.le_of_ble_eq_true rfl, Nat.le_of_ble_eq_true rfl⟩) (va_recv hK hP (ci := 0) (q0 := 0) rfl rfl) hK hP hD hS hA [0, 1, 2, 3, 4] [] rfl rfl rfl rfl (by decide) rfl hl.1 rfl (Nat.le_of_ble_eq_true rfl) dX0_idle_2 ⟨Nat.zero_le _, Nat.zero_le _⟩ (fun r u H locs hw hP hD hS => ?_)
  have hP : va_P (dC, dI) vwCl (wD h0 h1 h2 h3 h4 dS pr S V kn R X rk lf lw) H := hP
  have hD : va_D A (wD h0 h1 h2 h3 h4 dS pr S V kn R X rk lf lw) := hD
  subst hw
  refine fd_bit_eq (tgt := 29) hx hb dX0_idle_5 (by decide) (fun c_5 => ?_) (fun c_5 => ?_)
  · refine lv_iconst (v := nI 0) hx hb dX0_idle_29 (by decide) ?_
    exact fd_zret hx hb hr hlocks hK hS (v := nI 0) (rfl) (kn, R, X, rk, lf, lw) hP hD dX0_idle_30 (⟨by rw [pu_id_f c_5]; rfl, hI⟩)
  · obtain ⟨k, hk, rfl, hkb⟩ := pu_has_of c_5
    have hpr := hI.1.1
    refine lv_aload_n hx hb dX0_idle_8 rfl (lv_at hl 0 rfl) ?_
    refine lv_aload_n hx hb dX0_idle_9 rfl (lv_at hl 0 rfl) ?_
    refine va_get (D := (dC, dI)) (ci := 0) (v := .int (nI pr)) (C := RX0) (T := TX0) (N := 9) hx hb hts in_X0 hown hK hP 0 rfl rfl 0 (by decide) (hts _ q25) (fun _ h9 => h9) rfl dX0_idle_10 ?_
    refine lv_iconst (v := nI 1) hx hb dX0_idle_13 (by decide) ?_
    refine lv_iload_n hx hb dX0_idle_14 rfl (lv_at hl 1 rfl) ?_
    refine lv_ishl hx hb dX0_idle_15 ?_
    refine fd_top (y := nI (2 ^ k)) (nx_shl1 (by omega)) ?_
    refine lv_iconst (v := (-1)) hx hb dX0_idle_16 (by decide) ?_
    refine lv_ixor hx hb dX0_idle_17 ?_
    refine lv_iand hx hb dX0_idle_18 ?_
    refine fd_top (y := nI (pr ^^^ 2 ^ k)) (nx_clr (by omega) (by omega) hkb) ?_
    refine fd_cI (As := [.int (nI (pr ^^^ 2 ^ k))]) (rest := []) (wc := wD h0 h1 h2 h3 h4 dS pr S V kn R X rk lf lw) (wr := []) ⟨hx, hb, hml, hown, hts⟩ (cD_enough l dC dI dS dZ dN h0 h1 h2 h3 h4 _ pr S V kn R X rk lf lw hI (nI (pr ^^^ 2 ^ k))) (cwV 1 hts (lw_V q120 q121 q122 q15 q123) rfl rfl rfl (by decide +kernel) ⟨Nat.le_of_ble_eq_true rfl, Nat.le_of_ble_eq_true rfl⟩) (va_recv hK hP (ci := 0) (q0 := 0) rfl rfl) hK hP hD hS hA [0, 1, 2, 3, 4] [] rfl rfl rfl rfl (by decide) rfl hl.1 rfl (Nat.le_of_ble_eq_true rfl) dX0_idle_19 ⟨Nat.zero_le _, Nat.zero_le _⟩ (fun r u H locs hw hP hD hS => ?_)
    obtain ⟨kn1, R1, X1, rk1, lf1, lw1⟩ := u
    try dsimp only at hw
    have hP : va_P (dC, dI) vwCl (wD h0 h1 h2 h3 h4 dS pr S V kn1 R1 X1 rk1 lf1 lw1) H := hP
    have hD : va_D A (wD h0 h1 h2 h3 h4 dS pr S V kn1 R1 X1 rk1 lf1 lw1) := hD
    obtain ⟨rfl, hI⟩ := hw
    rw [nx_idle1 hpr hk hkb]
    refine fd_bit_eq (tgt := 29) hx hb dX0_idle_22 (by decide) (fun c_22 => ?_) (fun c_22 => ?_)
    · refine lv_iconst (v := nI 0) hx hb dX0_idle_29 (by decide) ?_
      exact fd_zret hx hb hr hlocks hK hS (v := nI 0) (rfl) (kn1, R1, X1, rk1, lf1, lw1) hP hD dX0_idle_30 (⟨by rw [pu_id_t hk hkb, c_22]; rfl, hI⟩)
    · refine lv_iconst (v := nI 1) hx hb dX0_idle_25 (by decide) ?_
      refine lv_goto (tgt := 30) hx hb dX0_idle_26 (by decide) ?_
      exact fd_zret hx hb hr hlocks hK hS (v := nI 1) (rfl) (kn1, R1, X1, rk1, lf1, lw1) hP hD dX0_idle_30 (⟨by rw [pu_id_t hk hkb, c_22]; rfl, hI⟩)
end
section
set_option maxHeartbeats 4000000 in
set_option maxRecDepth 100000 in
/-- countWith(set) -/
theorem cD_countWith (l : Launch) (dC : Nat → ClassId) (dI : Nat → Nat → Nat) (dS dZ dN : ClassId) (h0 h1 h2 h3 h4 sz pr : Nat) (S V : Nat → Nat) (kn : Nat) (R X : Nat → Nat) (rk lf lw : Nat) (hI : pu_dk pr S V kn R X rk) (a : Nat) (ha : a < 256) : fd_MI l yX0_countWith (ws_ yX0_countWith cX0_countWith 3 (some .int)) 3 (dC, dI) (fd_ty dS dZ dN) [.ref h0, .int (nI a)] (wD h0 h1 h2 h3 h4 dS pr S V kn R X rk lf lw) sz (fun r (u : Nat × (Nat → Nat) × (Nat → Nat) × Nat × Nat × Nat) => r = nI (pu_wt pr S V a) ∧ pu_dk pr S V u.1 u.2.1 u.2.2.1 u.2.2.2.1) (fun (u : Nat × (Nat → Nat) × (Nat → Nat) × Nat × Nat × Nat) => wD h0 h1 h2 h3 h4 dS pr S V u.1 u.2.1 u.2.2.1 u.2.2.2.1 u.2.2.2.2.1 u.2.2.2.2.2) := by
  refine Met.ofW (cc := cX0_countWith) (maxL := 3) (ret := (some .int)) (by decide) rfl ?_
  intro p e s m args below meth c s₁ B hml hv
  obtain ⟨rfl, hsz, hP, hK, hD0⟩ := hv
  have hx := B.exec
  have hb := B.bytes
  have hr := B.returns
  have hts := atoms_spec (ws := ws_ yX0_countWith cX0_countWith 3 (some .int)) B.pre
  have hts : ∀ w ∈ lw_all, w.before _ s = true := fun w h => hts w (List.mem_cons_of_mem _ h)
  have hown : s.vm.findClass RX0 = some m.cls := findClass_of_methodNamed B.named
  have hlocks := B.notSynchronized
  subst hsz
  have hD := hD0.self (sz := s.heap.size)
  generalize hAe : va_A (wD h0 h1 h2 h3 h4 dS pr S V kn R X rk lf lw) s.heap.size = A at hD ⊢
  have hA : ∀ q : Nat, s.heap.size ≤ q → A q := fun q h => by rw [← hAe]; exact Or.inr h
  have hS : va_S A s.heap s.heap [] := va_S.rf
  have hP : va_P (dC, dI) vwCl (wD h0 h1 h2 h3 h4 dS pr S V kn R X rk lf lw) s.heap := hP
  have hl := lv_entry ([.ref h0, .int (nI a)]) (n := 3) (Nat.le_of_ble_eq_true rfl)
  rw [lg_entry_eq]
  generalize (lg_sl ([.ref h0, .int (nI a)]) ++ List.replicate (3 - (lg_sl ([.ref h0, .int (nI a)])).length) Slot.unset).toArray = ls at hl ⊢
  have hl : lv_has ls 3 [(0, .ref h0), (1, .int (nI a))] := hl
  refine lv_aload_n hx hb dX0_countWith_0 rfl (lv_at hl 0 rfl) ?_
  refine lv_iconst (v := nI 0) hx hb dX0_countWith_1 (by decide) ?_
  refine va_put (D := (dC, dI)) (ci := 0) (v := .int (nI 0)) (ty := .boolean) (C := RX0) (T := TX0) (N := 9) hx hb hts in_X0 tyX0 tyX0_ok nmX0 hown hK hP hD hS 0 rfl rfl 3 (by decide) (hts _ q28) (fun _ h9 => h9) rfl (by decide +kernel) rfl rfl (Nat.le_of_ble_eq_true rfl) dX0_countWith_2 (fun H locs hP hD hS => ?_)
  have hP : va_P (dC, dI) vwCl (wD h0 h1 h2 h3 h4 dS pr S V 0 R X rk lf lw) H := hP
  have hD : va_D A (wD h0 h1 h2 h3 h4 dS pr S V 0 R X rk lf lw) := hD
  refine lv_aload_n hx hb dX0_countWith_5 rfl (lv_at hl 0 rfl) ?_
  refine lv_aload_n hx hb dX0_countWith_6 rfl (lv_at hl 0 rfl) ?_
  refine va_get (D := (dC, dI)) (ci := 0) (v := .int (nI pr)) (C := RX0) (T := TX0) (N := 9) hx hb hts in_X0 hown hK hP 0 rfl rfl 0 (by decide) (hts _ q25) (fun _ h9 => h9) rfl dX0_countWith_7 ?_
  refine fd_cV (As := [.int (nI pr)]) (rest := []) (wc := wD h0 h1 h2 h3 h4 dS pr S V 0 R X rk lf lw) (wr := []) ⟨hx, hb, hml, hown, hts⟩ (cD_build l dC dI dS dZ dN h0 h1 h2 h3 h4 _ pr S V 0 R X rk lf lw pr hI.1.1 hI.1.2.1 hI.1.2.2) (cwV 1 hts (lw_V q69 q71 qs2 q15 q72) rfl rfl rfl (by decide +kernel) ⟨Nat.le_of_ble_eq_true rfl, Nat.le_of_ble_eq_true rfl⟩) (va_recv hK hP (ci := 0) (q0 := 0) rfl rfl) hK hP hD hS hA [0, 1, 2, 3, 4] [] rfl rfl rfl rfl (by decide) rfl hl.1 rfl (Nat.le_of_ble_eq_true rfl) dX0_countWith_10 ⟨Nat.zero_le _, Nat.zero_le _⟩ (fun u H locs hw hP hD hS => ?_)
  obtain ⟨R1, X1, rk1, lf1, lw1⟩ := u
  try dsimp only at hw
  have hP : va_P (dC, dI) vwCl (wD h0 h1 h2 h3 h4 dS pr S V 0 R1 X1 rk1 lf1 lw1) H := hP
  have hD : va_D A (wD h0 h1 h2 h3 h4 dS pr S V 0 R1 X1 rk1 lf1 lw1) := hD
  have hG := hw
  refine lv_aload_n hx hb dX0_countWith_13 rfl (lv_at hl 0 rfl) ?_
  refine lv_iload_n hx hb dX0_countWith_14 rfl (lv_at hl 1 rfl) ?_
  refine lv_iconst (v := nI 0) hx hb dX0_countWith_15 (by decide) ?_
  refine fd_cV (As := [.int (nI a), .int (nI 0)]) (rest := []) (wc := wD h0 h1 h2 h3 h4 dS pr S V 0 R1 X1 rk1 lf1 lw1) (wr := []) ⟨hx, hb, hml, hown, hts⟩ (cD_include l dC dI dS dZ dN h0 h1 h2 h3 h4 _ pr S V 0 R1 X1 rk1 lf1 lw1 a 0 ha (by decide) hG.1) (cwV 2 hts (lw_V q77 q79 qs4 q15 q80) rfl rfl rfl (by decide +kernel) ⟨Nat.le_of_ble_eq_true rfl, Nat.le_of_ble_eq_true rfl⟩) (va_recv hK hP (ci := 0) (q0 := 0) rfl rfl) hK hP hD hS hA [0, 1, 2, 3, 4] [] rfl rfl rfl rfl (by decide) rfl hl.1 rfl (Nat.le_of_ble_eq_true rfl) dX0_countWith_16 ⟨Nat.zero_le _, Nat.zero_le _⟩ (fun u H locs hw hP hD hS => ?_)
  obtain ⟨R2, X2, rk2, lf2, lw2⟩ := u
  try dsimp only at hw
  have hP : va_P (dC, dI) vwCl (wD h0 h1 h2 h3 h4 dS pr S V 0 R2 X2 rk2 lf2 lw2) H := hP
  have hD : va_D A (wD h0 h1 h2 h3 h4 dS pr S V 0 R2 X2 rk2 lf2 lw2) := hD
  have hi := hw
  have hR2 := pu_incl_RR hG.1 ha (by decide) hi
  refine lv_aload_n hx hb dX0_countWith_19 rfl (lv_at hl 0 rfl) ?_
  refine fd_cI (As := []) (rest := []) (wc := wD h0 h1 h2 h3 h4 dS pr S V 0 R2 X2 rk2 lf2 lw2) (wr := []) ⟨hx, hb, hml, hown, hts⟩ (cD_singles l dC dI dS dZ dN h0 h1 h2 h3 h4 _ pr S V 0 R2 X2 rk2 lf2 lw2 (fun j hj => (hR2.1 j hj).1)) (cwV 0 hts (lw_V q100 q102 qs6 q15 q103) rfl rfl rfl (by decide +kernel) ⟨Nat.le_of_ble_eq_true rfl, Nat.le_of_ble_eq_true rfl⟩) (va_recv hK hP (ci := 0) (q0 := 0) rfl rfl) hK hP hD hS hA [0, 1, 2, 3, 4] [] rfl rfl rfl rfl (by decide) rfl hl.1 rfl (Nat.le_of_ble_eq_true rfl) dX0_countWith_20 ⟨Nat.zero_le _, Nat.zero_le _⟩ (fun r u H locs hw hP hD hS => ?_)
  have hP : va_P (dC, dI) vwCl (wD h0 h1 h2 h3 h4 dS pr S V 0 R2 X2 rk2 lf2 lw2) H := hP
  have hD : va_D A (wD h0 h1 h2 h3 h4 dS pr S V 0 R2 X2 rk2 lf2 lw2) := hD
  subst hw
  refine lv_istore_n (lv' := [(2, .int (nI (pu_mk (fun i => decide (R2 i = 2 ^ i)) 8))), (0, .ref h0), (1, .int (nI a))]) hx hb dX0_countWith_23 rfl hl (by decide) rfl (fun ls hl => ?_)
  refine lv_iload_n hx hb dX0_countWith_24 rfl (lv_at hl 0 rfl) ?_
  refine fd_cS (As := [.int (nI (pu_mk (fun i => decide (R2 i = 2 ^ i)) 8))]) (rest := []) ⟨hx, hb, hml, hown, hts⟩ (cD_ones l dC dI dS dZ dN _ (pu_mk (fun i => decide (R2 i = 2 ^ i)) 8) (pu_mk_lt _ 8)) (va_cwS 1 hts (lw_S q140 q141 q15 q142) rfl rfl rfl (by decide +kernel) ⟨Nat.le_of_ble_eq_true rfl, Nat.le_of_ble_eq_true rfl⟩) hK hP hD hS hA rfl hl.1 rfl (Nat.le_of_ble_eq_true rfl) dX0_countWith_25 ⟨Nat.zero_le _, Nat.zero_le _⟩ (fun r H locs hw hP hS => ?_)
  exact fd_iret hx hb hr hlocks hK hS (v := r) (0, R2, X2, rk2, lf2, lw2) hP hD dX0_countWith_28 (⟨by rw [hw, pu_count hG ha (by decide) hi], pu_dk0 hI.1⟩)
set_option maxHeartbeats 4000000 in
set_option maxRecDepth 100000 in
/-- knownWith(set) -/
theorem cD_knownWith (l : Launch) (dC : Nat → ClassId) (dI : Nat → Nat → Nat) (dS dZ dN : ClassId) (h0 h1 h2 h3 h4 sz pr : Nat) (S V : Nat → Nat) (kn : Nat) (R X : Nat → Nat) (rk lf lw : Nat) (hI : pu_dk pr S V kn R X rk) (a0 : Int32) : fd_MI l yX0_knownWith (ws_ yX0_knownWith cX0_knownWith 2 (some .int)) 4 (dC, dI) (fd_ty dS dZ dN) [.ref h0, .int a0] (wD h0 h1 h2 h3 h4 dS pr S V kn R X rk lf lw) sz (fun r (u : Nat × (Nat → Nat) × (Nat → Nat) × Nat × Nat × Nat) => r = pu_kw pr S V a0 ∧ pu_dk pr S V u.1 u.2.1 u.2.2.1 u.2.2.2.1) (fun (u : Nat × (Nat → Nat) × (Nat → Nat) × Nat × Nat × Nat) => wD h0 h1 h2 h3 h4 dS pr S V u.1 u.2.1 u.2.2.1 u.2.2.2.1 u.2.2.2.2.1 u.2.2.2.2.2) := by
  refine Met.ofW (cc := cX0_knownWith) (maxL := 2) (ret := (some .int)) (by decide) rfl ?_
  intro p e s m args below meth c s₁ B hml hv
  obtain ⟨rfl, hsz, hP, hK, hD0⟩ := hv
  have hx := B.exec
  have hb := B.bytes
  have hr := B.returns
  have hts := atoms_spec (ws := ws_ yX0_knownWith cX0_knownWith 2 (some .int)) B.pre
  have hts : ∀ w ∈ lw_all, w.before _ s = true := fun w h => hts w (List.mem_cons_of_mem _ h)
  have hown : s.vm.findClass RX0 = some m.cls := findClass_of_methodNamed B.named
  have hlocks := B.notSynchronized
  subst hsz
  have hD := hD0.self (sz := s.heap.size)
  generalize hAe : va_A (wD h0 h1 h2 h3 h4 dS pr S V kn R X rk lf lw) s.heap.size = A at hD ⊢
  have hA : ∀ q : Nat, s.heap.size ≤ q → A q := fun q h => by rw [← hAe]; exact Or.inr h
  have hS : va_S A s.heap s.heap [] := va_S.rf
  have hP : va_P (dC, dI) vwCl (wD h0 h1 h2 h3 h4 dS pr S V kn R X rk lf lw) s.heap := hP
  have hl := lv_entry ([.ref h0, .int a0]) (n := 2) (Nat.le_of_ble_eq_true rfl)
  rw [lg_entry_eq]
  generalize (lg_sl ([.ref h0, .int a0]) ++ List.replicate (2 - (lg_sl ([.ref h0, .int a0])).length) Slot.unset).toArray = ls at hl ⊢
  have hl : lv_has ls 2 [(0, .ref h0), (1, .int a0)] := hl
  refine lv_iload_n hx hb dX0_knownWith_0 rfl (lv_at hl 1 rfl) ?_
  refine fd_cS (As := [.int a0]) (rest := []) ⟨hx, hb, hml, hown, hts⟩ (cD_isSet l dC dI dS dZ dN _ a0) (va_cwS 1 hts (lw_S q58 q59 q15 q60) rfl rfl rfl (by decide +kernel) ⟨Nat.le_of_ble_eq_true rfl, Nat.le_of_ble_eq_true rfl⟩) hK hP hD hS hA rfl hl.1 rfl (Nat.le_of_ble_eq_true rfl) dX0_knownWith_1 ⟨Nat.zero_le _, Nat.zero_le _⟩ (fun r H locs hw hP hS => ?_)
  subst hw
  refine fd_bit_eq (tgt := 15) hx hb dX0_knownWith_4 (by decide) (fun c_4 => ?_) (fun c_4 => ?_)
  · refine lv_iconst (v := (-1)) hx hb dX0_knownWith_15 (by decide) ?_
    exact fd_iret hx hb hr hlocks hK hS (v := (-1)) (kn, R, X, rk, lf, lw) hP hD dX0_knownWith_16 (⟨by unfold pu_kw; rw [if_neg (of_decide_eq_false c_4)], hI⟩)
  · obtain ⟨a, ha1, ha, rfl⟩ := pu_of1 (of_decide_eq_true c_4).1 (of_decide_eq_true c_4).2
    refine lv_aload_n hx hb dX0_knownWith_7 rfl (lv_at hl 0 rfl) ?_
    refine lv_iload_n hx hb dX0_knownWith_8 rfl (lv_at hl 1 rfl) ?_
    refine fd_cI (As := [.int (nI a)]) (rest := []) (wc := wD h0 h1 h2 h3 h4 dS pr S V kn R X rk lf lw) (wr := []) ⟨hx, hb, hml, hown, hts⟩ (cD_countWith l dC dI dS dZ dN h0 h1 h2 h3 h4 _ pr S V kn R X rk lf lw hI a ha) (cwV 1 hts (lw_V q136 q138 qs8 q15 q139) rfl rfl rfl (by decide +kernel) ⟨Nat.le_of_ble_eq_true rfl, Nat.le_of_ble_eq_true rfl⟩) (va_recv hK hP (ci := 0) (q0 := 0) rfl rfl) hK hP hD hS hA [0, 1, 2, 3, 4] [] rfl rfl rfl rfl (by decide) rfl hl.1 rfl (Nat.le_of_ble_eq_true rfl) dX0_knownWith_9 ⟨Nat.zero_le _, Nat.zero_le _⟩ (fun r u H locs hw hP hD hS => ?_)
    obtain ⟨kn1, R1, X1, rk1, lf1, lw1⟩ := u
    try dsimp only at hw
    have hP : va_P (dC, dI) vwCl (wD h0 h1 h2 h3 h4 dS pr S V kn1 R1 X1 rk1 lf1 lw1) H := hP
    have hD : va_D A (wD h0 h1 h2 h3 h4 dS pr S V kn1 R1 X1 rk1 lf1 lw1) := hD
    obtain ⟨hw, hI⟩ := hw
    refine lv_goto (tgt := 16) hx hb dX0_knownWith_12 (by decide) ?_
    exact fd_iret hx hb hr hlocks hK hS (v := r) (kn1, R1, X1, rk1, lf1, lw1) hP hD dX0_knownWith_16 (⟨by rw [pu_kw_in ha1 ha, hw], hI⟩)
set_option maxHeartbeats 4000000 in
set_option maxRecDepth 100000 in
/-- bestSet() -/
theorem cD_bestSet (l : Launch) (dC : Nat → ClassId) (dI : Nat → Nat → Nat) (dS dZ dN : ClassId) (h0 h1 h2 h3 h4 sz pr : Nat) (S V : Nat → Nat) (kn : Nat) (R X : Nat → Nat) (rk lf lw : Nat) (hI : pu_dk pr S V kn R X rk) : fd_MI l yX0_bestSet (ws_ yX0_bestSet cX0_bestSet 5 (some .int)) 4 (dC, dI) (fd_ty dS dZ dN) [.ref h0] (wD h0 h1 h2 h3 h4 dS pr S V kn R X rk lf lw) sz (fun r (u : Nat × (Nat → Nat) × (Nat → Nat) × Nat × Nat × Nat) => r = nI (pu_bst (pu_wt pr S V) 254) ∧ pu_dk pr S V u.1 u.2.1 u.2.2.1 u.2.2.2.1) (fun (u : Nat × (Nat → Nat) × (Nat → Nat) × Nat × Nat × Nat) => wD h0 h1 h2 h3 h4 dS pr S V u.1 u.2.1 u.2.2.1 u.2.2.2.1 u.2.2.2.2.1 u.2.2.2.2.2) := by
  refine Met.ofW (cc := cX0_bestSet) (maxL := 5) (ret := (some .int)) (by decide) rfl ?_
  intro p e s m args below meth c s₁ B hml hv
  obtain ⟨rfl, hsz, hP, hK, hD0⟩ := hv
  have hx := B.exec
  have hb := B.bytes
  have hr := B.returns
  have hts := atoms_spec (ws := ws_ yX0_bestSet cX0_bestSet 5 (some .int)) B.pre
  have hts : ∀ w ∈ lw_all, w.before _ s = true := fun w h => hts w (List.mem_cons_of_mem _ h)
  have hown : s.vm.findClass RX0 = some m.cls := findClass_of_methodNamed B.named
  have hlocks := B.notSynchronized
  subst hsz
  have hD := hD0.self (sz := s.heap.size)
  generalize hAe : va_A (wD h0 h1 h2 h3 h4 dS pr S V kn R X rk lf lw) s.heap.size = A at hD ⊢
  have hA : ∀ q : Nat, s.heap.size ≤ q → A q := fun q h => by rw [← hAe]; exact Or.inr h
  have hS : va_S A s.heap s.heap [] := va_S.rf
  have hP : va_P (dC, dI) vwCl (wD h0 h1 h2 h3 h4 dS pr S V kn R X rk lf lw) s.heap := hP
  have hl := lv_entry ([.ref h0]) (n := 5) (Nat.le_of_ble_eq_true rfl)
  rw [lg_entry_eq]
  generalize (lg_sl ([.ref h0]) ++ List.replicate (5 - (lg_sl ([.ref h0])).length) Slot.unset).toArray = ls at hl ⊢
  have hl : lv_has ls 5 [(0, .ref h0)] := hl
  refine lv_iconst (v := nI 1) hx hb dX0_bestSet_0 (by decide) ?_
  refine lv_istore_n (lv' := [(1, .int (nI 1)), (0, .ref h0)]) hx hb dX0_bestSet_1 rfl hl (by decide) rfl (fun ls hl => ?_)
  refine lv_iconst (v := (-1)) hx hb dX0_bestSet_2 (by decide) ?_
  refine lv_istore_n (lv' := [(2, .int (-1)), (1, .int (nI 1)), (0, .ref h0)]) hx hb dX0_bestSet_3 rfl hl (by decide) rfl (fun ls hl => ?_)
  refine lv_iconst (v := nI 1) hx hb dX0_bestSet_4 (by decide) ?_
  refine lv_istore_n (lv' := [(3, .int (nI 1)), (2, .int (-1)), (1, .int (nI 1)), (0, .ref h0)]) hx hb dX0_bestSet_5 rfl hl (by decide) rfl (fun ls hl => ?_)
  refine fd_loop (fun n H locs ls => ∃ (k : Nat) (bs : Nat) (mo : Int32) (kn1 : Nat) (R1 : Nat → Nat) (X1 : Nat → Nat) (rk1 : Nat) (lf1 : Nat) (lw1 : Nat), n = 255 - k ∧ (k ≤ 255) ∧ (bs = pu_bst (pu_wt pr S V) (k - 1)) ∧ (mo = pu_mo (pu_wt pr S V) k) ∧ (pu_dk pr S V kn1 R1 X1 rk1) ∧ va_P (dC, dI) vwCl (wD h0 h1 h2 h3 h4 dS pr S V kn1 R1 X1 rk1 lf1 lw1) H ∧ va_D A (wD h0 h1 h2 h3 h4 dS pr S V kn1 R1 X1 rk1 lf1 lw1) ∧ va_S A s.heap H locs ∧ lv_has ls 5 [(0, .ref h0), (1, .int (nI bs)), (2, .int mo), (3, .int (nI (k + 1)))]) _ ⟨0, 1, (-1), kn, R, X, rk, lf, lw, rfl, (by omega), rfl, rfl, hI, hP, hD, hS, lv_sub hl [3, 2, 1, 0] rfl⟩ ?_
  rintro n H locs ls ⟨k, bs, mo, kn1, R1, X1, rk1, lf1, lw1, hms, hk, eb, em, hI, hP, hD, hS, hl⟩ ih
  refine lv_iload_n hx hb dX0_bestSet_6 rfl (lv_at hl 3 rfl) ?_
  refine lv_sipush (v := nI 255) hx hb dX0_bestSet_7 (by decide) ?_
  refine fd_icmp_gt (tgt := 37) hx hb dX0_bestSet_10 (by decide) (by omega) (by omega) (fun c_10 => ?_) (fun c_10 => ?_)
  · refine lv_iload_n hx hb dX0_bestSet_37 rfl (lv_at hl 1 rfl) ?_
    exact fd_iret hx hb hr hlocks hK hS (v := nI bs) (kn1, R1, X1, rk1, lf1, lw1) hP hD dX0_bestSet_38 (⟨by rw [eb, show k = 255 by omega], hI⟩)
  · refine lv_aload_n hx hb dX0_bestSet_13 rfl (lv_at hl 0 rfl) ?_
    refine lv_iload_n hx hb dX0_bestSet_14 rfl (lv_at hl 3 rfl) ?_
    refine fd_cI (As := [.int (nI (k + 1))]) (rest := []) (wc := wD h0 h1 h2 h3 h4 dS pr S V kn1 R1 X1 rk1 lf1 lw1) (wr := []) ⟨hx, hb, hml, hown, hts⟩ (cD_countWith l dC dI dS dZ dN h0 h1 h2 h3 h4 _ pr S V kn1 R1 X1 rk1 lf1 lw1 hI (k + 1) (by omega)) (cwV 1 hts (lw_V q136 q138 qs8 q15 q139) rfl rfl rfl (by decide +kernel) ⟨Nat.le_of_ble_eq_true rfl, Nat.le_of_ble_eq_true rfl⟩) (va_recv hK hP (ci := 0) (q0 := 0) rfl rfl) hK hP hD hS hA [0, 1, 2, 3, 4] [] rfl rfl rfl rfl (by decide) rfl hl.1 rfl (Nat.le_of_ble_eq_true rfl) dX0_bestSet_15 ⟨Nat.zero_le _, Nat.zero_le _⟩ (fun r u H locs hw hP hD hS => ?_)
    obtain ⟨kn2, R2, X2, rk2, lf2, lw2⟩ := u
    try dsimp only at hw
    have hP : va_P (dC, dI) vwCl (wD h0 h1 h2 h3 h4 dS pr S V kn2 R2 X2 rk2 lf2 lw2) H := hP
    have hD : va_D A (wD h0 h1 h2 h3 h4 dS pr S V kn2 R2 X2 rk2 lf2 lw2) := hD
    obtain ⟨rfl, hI⟩ := hw
    have hg := pu_wt_le pr S V
    refine lv_istore (lv' := [(4, .int (nI (pu_wt pr S V (k + 1)))), (0, .ref h0), (1, .int (nI bs)), (2, .int mo), (3, .int (nI (k + 1)))]) hx hb dX0_bestSet_18 hl (by decide) rfl (fun ls hl => ?_)
    refine lv_iload hx hb dX0_bestSet_20 (lv_at hl 0 rfl) ?_
    refine lv_iload_n hx hb dX0_bestSet_22 rfl (lv_at hl 3 rfl) ?_
    refine lv_icmp_le (tgt := 31) hx hb dX0_bestSet_23 (by decide) (fun (c_23 : (nI (pu_wt pr S V (k + 1))) ≤ mo) => ?_) (fun (c_23 : ¬ (nI (pu_wt pr S V (k + 1))) ≤ mo) => ?_)
    · refine lv_iinc (v := nI ((k + 1) + 1)) (lv' := [(3, .int (nI ((k + 1) + 1))), (4, .int (nI (pu_wt pr S V (k + 1)))), (0, .ref h0), (1, .int (nI bs)), (2, .int mo)]) hx hb dX0_bestSet_31 hl (k := 4) rfl (nI_1 _) (by decide) rfl (fun ls hl => ?_)
      refine lv_goto (tgt := 6) hx hb dX0_bestSet_34 (by decide) ?_
      obtain ⟨z1, z2⟩ := pu_bs_le hg (k := k) (by rw [← em]; exact c_23)
      exact ih _ _ _ _ (by omega) ⟨k + 1, bs, mo, kn2, R2, X2, rk2, lf2, lw2, rfl, (by omega), (eb.trans z1.symm), (em.trans z2.symm), hI, hP, hD, hS, lv_sub hl [2, 3, 4, 0] rfl⟩
    · refine lv_iload hx hb dX0_bestSet_26 (lv_at hl 0 rfl) ?_
      refine lv_istore_n (lv' := [(2, .int (nI (pu_wt pr S V (k + 1)))), (4, .int (nI (pu_wt pr S V (k + 1)))), (0, .ref h0), (1, .int (nI bs)), (3, .int (nI (k + 1)))]) hx hb dX0_bestSet_28 rfl hl (by decide) rfl (fun ls hl => ?_)
      refine lv_iload_n hx hb dX0_bestSet_29 rfl (lv_at hl 4 rfl) ?_
      refine lv_istore_n (lv' := [(1, .int (nI (k + 1))), (2, .int (nI (pu_wt pr S V (k + 1)))), (4, .int (nI (pu_wt pr S V (k + 1)))), (0, .ref h0), (3, .int (nI (k + 1)))]) hx hb dX0_bestSet_30 rfl hl (by decide) rfl (fun ls hl => ?_)
      refine lv_iinc (v := nI ((k + 1) + 1)) (lv' := [(3, .int (nI ((k + 1) + 1))), (1, .int (nI (k + 1))), (2, .int (nI (pu_wt pr S V (k + 1)))), (4, .int (nI (pu_wt pr S V (k + 1)))), (0, .ref h0)]) hx hb dX0_bestSet_31 hl (k := 4) rfl (nI_1 _) (by decide) rfl (fun ls hl => ?_)
      refine lv_goto (tgt := 6) hx hb dX0_bestSet_34 (by decide) ?_
      have z1 := pu_bs_gt hg (k := k) (by rw [← em]; exact c_23)
      exact ih _ _ _ _ (by omega) ⟨k + 1, k + 1, nI (pu_wt pr S V (k + 1)), kn2, R2, X2, rk2, lf2, lw2, rfl, (by omega), z1.symm, (by show _ = nI (pu_wt pr S V (pu_bst (pu_wt pr S V) k)); rw [z1]), hI, hP, hD, hS, lv_sub hl [4, 1, 2, 0] rfl⟩
set_option maxHeartbeats 4000000 in
set_option maxRecDepth 100000 in
/-- possible(i, v) -/
theorem cD_possible (l : Launch) (dC : Nat → ClassId) (dI : Nat → Nat → Nat) (dS dZ dN : ClassId) (h0 h1 h2 h3 h4 sz pr : Nat) (S V : Nat → Nat) (kn : Nat) (R X : Nat → Nat) (rk lf lw : Nat) (hI : pu_dk pr S V kn R X rk) (a0 b0 : Int32) : fd_MI l yX0_possible (ws_ yX0_possible cX0_possible 4 (some .boolean)) 5 (dC, dI) (fd_ty dS dZ dN) [.ref h0, .int a0, .int b0] (wD h0 h1 h2 h3 h4 dS pr S V kn R X rk lf lw) sz (fun r (u : Nat × (Nat → Nat) × (Nat → Nat) × Nat × Nat × Nat) => r = nI (pu_po pr S V a0 b0).toNat ∧ pu_dk pr S V u.1 u.2.1 u.2.2.1 u.2.2.2.1) (fun (u : Nat × (Nat → Nat) × (Nat → Nat) × Nat × Nat × Nat) => wD h0 h1 h2 h3 h4 dS pr S V u.1 u.2.1 u.2.2.1 u.2.2.2.1 u.2.2.2.2.1 u.2.2.2.2.2) := by
  refine Met.ofW (cc := cX0_possible) (maxL := 4) (ret := (some .boolean)) (by decide) rfl ?_
  intro p e s m args below meth c s₁ B hml hv
  obtain ⟨rfl, hsz, hP, hK, hD0⟩ := hv
  have hx := B.exec
  have hb := B.bytes
  have hr := B.returns
  have hts := atoms_spec (ws := ws_ yX0_possible cX0_possible 4 (some .boolean)) B.pre
  have hts : ∀ w ∈ lw_all, w.before _ s = true := fun w h => hts w (List.mem_cons_of_mem _ h)
  have hown : s.vm.findClass RX0 = some m.cls := findClass_of_methodNamed B.named
  have hlocks := B.notSynchronized
  subst hsz
  have hD := hD0.self (sz := s.heap.size)
  generalize hAe : va_A (wD h0 h1 h2 h3 h4 dS pr S V kn R X rk lf lw) s.heap.size = A at hD ⊢
  have hA : ∀ q : Nat, s.heap.size ≤ q → A q := fun q h => by rw [← hAe]; exact Or.inr h
  have hS : va_S A s.heap s.heap [] := va_S.rf
  have hP : va_P (dC, dI) vwCl (wD h0 h1 h2 h3 h4 dS pr S V kn R X rk lf lw) s.heap := hP
  have hl := lv_entry ([.ref h0, .int a0, .int b0]) (n := 4) (Nat.le_of_ble_eq_true rfl)
  rw [lg_entry_eq]
  generalize (lg_sl ([.ref h0, .int a0, .int b0]) ++ List.replicate (4 - (lg_sl ([.ref h0, .int a0, .int b0])).length) Slot.unset).toArray = ls at hl ⊢
  have hl : lv_has ls 4 [(0, .ref h0), (1, .int a0), (2, .int b0)] := hl
  refine lv_iload_n hx hb dX0_possible_0 rfl (lv_at hl 1 rfl) ?_
  refine lv_if_lt (tgt := 21) hx hb dX0_possible_1 (by decide) (fun c_1 => ?_) (fun c_1 => ?_)
  · refine lv_iconst (v := nI 0) hx hb dX0_possible_21 (by decide) ?_
    exact fd_zret hx hb hr hlocks hK hS (v := nI 0) (rfl) (kn, R, X, rk, lf, lw) hP hD dX0_possible_22 (⟨by unfold pu_po; rw [decide_eq_false (fun z => pu_nle c_1 z.1.1.1)]; rfl, hI⟩)
  · refine lv_iload_n hx hb dX0_possible_4 rfl (lv_at hl 1 rfl) ?_
    refine lv_bipush (v := nI 8) hx hb dX0_possible_5 (by decide) ?_
    refine lv_icmp_ge (tgt := 21) hx hb dX0_possible_7 (by decide) (fun (c_7 : 8 ≤ a0) => ?_) (fun (c_7 : ¬ 8 ≤ a0) => ?_)
    · refine lv_iconst (v := nI 0) hx hb dX0_possible_21 (by decide) ?_
      exact fd_zret hx hb hr hlocks hK hS (v := nI 0) (rfl) (kn, R, X, rk, lf, lw) hP hD dX0_possible_22 (⟨by unfold pu_po; rw [decide_eq_false (fun z => pu_nle z.1.1.2 c_7)]; rfl, hI⟩)
    · refine lv_iload_n hx hb dX0_possible_10 rfl (lv_at hl 2 rfl) ?_
      refine lv_if_lt (tgt := 21) hx hb dX0_possible_11 (by decide) (fun c_11 => ?_) (fun c_11 => ?_)
      · refine lv_iconst (v := nI 0) hx hb dX0_possible_21 (by decide) ?_
        exact fd_zret hx hb hr hlocks hK hS (v := nI 0) (rfl) (kn, R, X, rk, lf, lw) hP hD dX0_possible_22 (⟨by unfold pu_po; rw [decide_eq_false (fun z => pu_nle c_11 z.1.2.1)]; rfl, hI⟩)
      · refine lv_iload_n hx hb dX0_possible_14 rfl (lv_at hl 2 rfl) ?_
        refine lv_sipush (v := nI 255) hx hb dX0_possible_15 (by decide) ?_
        refine lv_icmp_le (tgt := 23) hx hb dX0_possible_18 (by decide) (fun (c_18 : b0 ≤ 255) => ?_) (fun (c_18 : ¬ b0 ≤ 255) => ?_)
        · refine lv_aload_n hx hb dX0_possible_23 rfl (lv_at hl 0 rfl) ?_
          refine lv_iload_n hx hb dX0_possible_24 rfl (lv_at hl 1 rfl) ?_
          refine fd_cI (As := [.int a0]) (rest := []) (wc := wD h0 h1 h2 h3 h4 dS pr S V kn R X rk lf lw) (wr := []) ⟨hx, hb, hml, hown, hts⟩ (cD_piece l dC dI dS dZ dN h0 h1 h2 h3 h4 _ pr S V kn R X rk lf lw hI a0) (cwV 1 hts (lw_V q151 q105 q106 q15 q107) rfl rfl rfl (by decide +kernel) ⟨Nat.le_of_ble_eq_true rfl, Nat.le_of_ble_eq_true rfl⟩) (va_recv hK hP (ci := 0) (q0 := 0) rfl rfl) hK hP hD hS hA [0, 1, 2, 3, 4] [] rfl rfl rfl rfl (by decide) rfl hl.1 rfl (Nat.le_of_ble_eq_true rfl) dX0_possible_25 ⟨Nat.zero_le _, Nat.zero_le _⟩ (fun r u H locs hw hP hD hS => ?_)
          obtain ⟨kn1, R1, X1, rk1, lf1, lw1⟩ := u
          try dsimp only at hw
          have hP : va_P (dC, dI) vwCl (wD h0 h1 h2 h3 h4 dS pr S V kn1 R1 X1 rk1 lf1 lw1) H := hP
          have hD : va_D A (wD h0 h1 h2 h3 h4 dS pr S V kn1 R1 X1 rk1 lf1 lw1) := hD
          obtain ⟨rfl, hI⟩ := hw
          refine lv_istore_n (lv' := [(3, .int (pu_pc pr S V a0)), (0, .ref h0), (1, .int a0), (2, .int b0)]) hx hb dX0_possible_28 rfl hl (by decide) rfl (fun ls hl => ?_)
          refine lv_iload_n hx hb dX0_possible_29 rfl (lv_at hl 0 rfl) ?_
          refine lv_if_lt (tgt := 38) hx hb dX0_possible_30 (by decide) (fun c_30 => ?_) (fun c_30 => ?_)
          · refine lv_iconst (v := nI 1) hx hb dX0_possible_38 (by decide) ?_
            refine lv_goto (tgt := 43) hx hb dX0_possible_39 (by decide) ?_
            exact fd_zret hx hb hr hlocks hK hS (v := nI 1) (rfl) (kn1, R1, X1, rk1, lf1, lw1) hP hD dX0_possible_43 (⟨by unfold pu_po; rw [decide_eq_true (⟨⟨⟨pu_lt_of c_1, pu_le_of c_7⟩, pu_lt_of c_11, c_18⟩, Or.inl c_30⟩ : ((0 ≤ a0 ∧ a0 < 8) ∧ (0 ≤ b0 ∧ b0 ≤ 255)) ∧ _)]; rfl, hI⟩)
          · refine lv_iload_n hx hb dX0_possible_33 rfl (lv_at hl 0 rfl) ?_
            refine lv_iload_n hx hb dX0_possible_34 rfl (lv_at hl 3 rfl) ?_
            refine lv_icmp_ne (tgt := 42) hx hb dX0_possible_35 (by decide) (fun (c_35 : ¬ (pu_pc pr S V a0) = b0) => ?_) (fun (c_35 : (pu_pc pr S V a0) = b0) => ?_)
            · refine lv_iconst (v := nI 0) hx hb dX0_possible_42 (by decide) ?_
              exact fd_zret hx hb hr hlocks hK hS (v := nI 0) (rfl) (kn1, R1, X1, rk1, lf1, lw1) hP hD dX0_possible_43 (⟨by unfold pu_po; rw [decide_eq_false (fun z => z.2.elim c_30 c_35)]; rfl, hI⟩)
            · refine lv_iconst (v := nI 1) hx hb dX0_possible_38 (by decide) ?_
              refine lv_goto (tgt := 43) hx hb dX0_possible_39 (by decide) ?_
              exact fd_zret hx hb hr hlocks hK hS (v := nI 1) (rfl) (kn1, R1, X1, rk1, lf1, lw1) hP hD dX0_possible_43 (⟨by unfold pu_po; rw [decide_eq_true (⟨⟨⟨pu_lt_of c_1, pu_le_of c_7⟩, pu_lt_of c_11, c_18⟩, Or.inr c_35⟩ : ((0 ≤ a0 ∧ a0 < 8) ∧ (0 ≤ b0 ∧ b0 ≤ 255)) ∧ _)]; rfl, hI⟩)
        · refine lv_iconst (v := nI 0) hx hb dX0_possible_21 (by decide) ?_
          exact fd_zret hx hb hr hlocks hK hS (v := nI 0) (rfl) (kn, R, X, rk, lf, lw) hP hD dX0_possible_22 (⟨by unfold pu_po; rw [decide_eq_false (fun z => c_18 z.1.2.2)]; rfl, hI⟩)
end
section
set_option maxHeartbeats 4000000 in
set_option maxRecDepth 100000 in
/-- take(set, value) -/
theorem cD_take (l : Launch) (dC : Nat → ClassId) (dI : Nat → Nat → Nat) (dS dZ dN : ClassId) (h0 h1 h2 h3 h4 sz pr : Nat) (S V : Nat → Nat) (kn : Nat) (R X : Nat → Nat) (rk lf lw : Nat) (hI : pu_dk pr S V kn R X rk) (a0 b0 : Int32) : fd_MI l yX0_take (ws_ yX0_take cX0_take 4 (some .int)) 4 (dC, dI) (fd_ty dS dZ dN) [.ref h0, .int a0, .int b0] (wD h0 h1 h2 h3 h4 dS pr S V kn R X rk lf lw) sz (fun r (u : Nat × (Nat → Nat) × (Nat → Nat) × Nat × (Nat → Nat) × (Nat → Nat) × Nat × Nat × Nat) => (r, u.1, u.2.1, u.2.2.1) = pu_tk pr S V a0 b0 ∧ pu_dk u.1 u.2.1 u.2.2.1 u.2.2.2.1 u.2.2.2.2.1 u.2.2.2.2.2.1 u.2.2.2.2.2.2.1) (fun (u : Nat × (Nat → Nat) × (Nat → Nat) × Nat × (Nat → Nat) × (Nat → Nat) × Nat × Nat × Nat) => wD h0 h1 h2 h3 h4 dS u.1 u.2.1 u.2.2.1 u.2.2.2.1 u.2.2.2.2.1 u.2.2.2.2.2.1 u.2.2.2.2.2.2.1 u.2.2.2.2.2.2.2.1 u.2.2.2.2.2.2.2.2) := by
  refine Met.ofW (cc := cX0_take) (maxL := 4) (ret := (some .int)) (by decide) rfl ?_
  intro p e s m args below meth c s₁ B hml hv
  obtain ⟨rfl, hsz, hP, hK, hD0⟩ := hv
  have hx := B.exec
  have hb := B.bytes
  have hr := B.returns
  have hts := atoms_spec (ws := ws_ yX0_take cX0_take 4 (some .int)) B.pre
  have hts : ∀ w ∈ lw_all, w.before _ s = true := fun w h => hts w (List.mem_cons_of_mem _ h)
  have hown : s.vm.findClass RX0 = some m.cls := findClass_of_methodNamed B.named
  have hlocks := B.notSynchronized
  subst hsz
  have hD := hD0.self (sz := s.heap.size)
  generalize hAe : va_A (wD h0 h1 h2 h3 h4 dS pr S V kn R X rk lf lw) s.heap.size = A at hD ⊢
  have hA : ∀ q : Nat, s.heap.size ≤ q → A q := fun q h => by rw [← hAe]; exact Or.inr h
  have hS : va_S A s.heap s.heap [] := va_S.rf
  have hP : va_P (dC, dI) vwCl (wD h0 h1 h2 h3 h4 dS pr S V kn R X rk lf lw) s.heap := hP
  have hl := lv_entry ([.ref h0, .int a0, .int b0]) (n := 4) (Nat.le_of_ble_eq_true rfl)
  rw [lg_entry_eq]
  generalize (lg_sl ([.ref h0, .int a0, .int b0]) ++ List.replicate (4 - (lg_sl ([.ref h0, .int a0, .int b0])).length) Slot.unset).toArray = ls at hl ⊢
  have hl : lv_has ls 4 [(0, .ref h0), (1, .int a0), (2, .int b0)] := hl
  refine lv_iload_n hx hb dX0_take_0 rfl (lv_at hl 1 rfl) ?_
  refine fd_cS (As := [.int a0]) (rest := []) ⟨hx, hb, hml, hown, hts⟩ (cD_isSet l dC dI dS dZ dN _ a0) (va_cwS 1 hts (lw_S q58 q59 q15 q60) rfl rfl rfl (by decide +kernel) ⟨Nat.le_of_ble_eq_true rfl, Nat.le_of_ble_eq_true rfl⟩) hK hP hD hS hA rfl hl.1 rfl (Nat.le_of_ble_eq_true rfl) dX0_take_1 ⟨Nat.zero_le _, Nat.zero_le _⟩ (fun r H locs hw hP hS => ?_)
  subst hw
  refine fd_bit_eq (tgt := 18) hx hb dX0_take_4 (by decide) (fun c_4 => ?_) (fun c_4 => ?_)
  · refine lv_iconst (v := (-1)) hx hb dX0_take_18 (by decide) ?_
    exact fd_iret hx hb hr hlocks hK hS (v := (-1)) (pr, S, V, kn, R, X, rk, lf, lw) hP hD dX0_take_19 (⟨by rw [pu_tk_bad (fun z => of_decide_eq_false c_4 z.1)], hI⟩)
  · refine lv_iload_n hx hb dX0_take_7 rfl (lv_at hl 2 rfl) ?_
    refine lv_if_lt (tgt := 18) hx hb dX0_take_8 (by decide) (fun c_8 => ?_) (fun c_8 => ?_)
    · refine lv_iconst (v := (-1)) hx hb dX0_take_18 (by decide) ?_
      exact fd_iret hx hb hr hlocks hK hS (v := (-1)) (pr, S, V, kn, R, X, rk, lf, lw) hP hD dX0_take_19 (⟨by rw [pu_tk_bad (fun z => pu_nle c_8 z.2.1)], hI⟩)
    · refine lv_iload_n hx hb dX0_take_11 rfl (lv_at hl 2 rfl) ?_
      refine lv_sipush (v := nI 255) hx hb dX0_take_12 (by decide) ?_
      refine lv_icmp_le (tgt := 20) hx hb dX0_take_15 (by decide) (fun (c_15 : b0 ≤ 255) => ?_) (fun (c_15 : ¬ b0 ≤ 255) => ?_)
      · obtain ⟨a, ha1, ha, rfl⟩ := pu_of1 (of_decide_eq_true c_4).1 (of_decide_eq_true c_4).2
        obtain ⟨b, hb2, rfl⟩ := pu_of0 (pu_lt_of c_8) c_15
        refine lv_iconst (v := nI 0) hx hb dX0_take_20 (by decide) ?_
        refine lv_istore_n (lv' := [(3, .int (nI 0)), (0, .ref h0), (1, .int (nI a)), (2, .int (nI b))]) hx hb dX0_take_21 rfl hl (by decide) rfl (fun ls hl => ?_)
        refine fd_loop (fun n H locs ls => ∃ (k : Nat), n = 10 - k ∧ (k ≤ 10) ∧ (pu_ff pr 10 0 = pu_ff pr (10 - k) k) ∧ va_P (dC, dI) vwCl (wD h0 h1 h2 h3 h4 dS pr S V kn R X rk lf lw) H ∧ va_D A (wD h0 h1 h2 h3 h4 dS pr S V kn R X rk lf lw) ∧ va_S A s.heap H locs ∧ lv_has ls 4 [(0, .ref h0), (1, .int (nI a)), (2, .int (nI b)), (3, .int (nI k))]) _ ⟨0, rfl, (by omega), rfl, hP, hD, hS, lv_sub hl [1, 2, 3, 0] rfl⟩ ?_
        rintro n H locs ls ⟨k, hms, hk, hk2, hP, hD, hS, hl⟩ ih
        refine lv_iload_n hx hb dX0_take_22 rfl (lv_at hl 3 rfl) ?_
        refine lv_bipush (v := nI 10) hx hb dX0_take_23 (by decide) ?_
        refine fd_icmp_ge (tgt := 42) hx hb dX0_take_25 (by decide) (by omega) (by omega) (fun c_25 => ?_) (fun c_25 => ?_)
        · refine lv_iload_n hx hb dX0_take_42 rfl (lv_at hl 3 rfl) ?_
          refine lv_bipush (v := nI 10) hx hb dX0_take_43 (by decide) ?_
          refine fd_icmp_ne (tgt := 51) hx hb dX0_take_45 (by decide) (by omega) (by omega) (fun c_45 => ?_) (fun c_45 => ?_)
          · exact absurd (by omega) c_45
          · refine lv_bipush (v := (-2)) hx hb dX0_take_48 (by decide) ?_
            exact fd_iret hx hb hr hlocks hK hS (v := (-2)) (pr, S, V, kn, R, X, rk, lf, lw) hP hD dX0_take_50 (⟨by rw [pu_tk_full ha1 ha hb2 (by rw [hk2, c_45]; rfl)], hI⟩)
        · refine lv_aload_n hx hb dX0_take_28 rfl (lv_at hl 0 rfl) ?_
          refine lv_iload_n hx hb dX0_take_29 rfl (lv_at hl 3 rfl) ?_
          refine fd_cI (As := [.int (nI k)]) (rest := []) (wc := wD h0 h1 h2 h3 h4 dS pr S V kn R X rk lf lw) (wr := []) ⟨hx, hb, hml, hown, hts⟩ (cD_has l dC dI dS dZ dN h0 h1 h2 h3 h4 _ pr S V kn R X rk lf lw (nI k) hI.1.1) (cwV 1 hts (lw_V q61 q63 qs0 q15 q64) rfl rfl rfl (by decide +kernel) ⟨Nat.le_of_ble_eq_true rfl, Nat.le_of_ble_eq_true rfl⟩) (va_recv hK hP (ci := 0) (q0 := 0) rfl rfl) hK hP hD hS hA [0, 1, 2, 3, 4] [] rfl rfl rfl rfl (by decide) rfl hl.1 rfl (Nat.le_of_ble_eq_true rfl) dX0_take_30 ⟨Nat.zero_le _, Nat.zero_le _⟩ (fun r u H locs hw hP hD hS => ?_)
          have hP : va_P (dC, dI) vwCl (wD h0 h1 h2 h3 h4 dS pr S V kn R X rk lf lw) H := hP
          have hD : va_D A (wD h0 h1 h2 h3 h4 dS pr S V kn R X rk lf lw) := hD
          subst hw
          refine fd_bit_eq (tgt := 42) hx hb dX0_take_33 (by decide) (fun c_33 => ?_) (fun c_33 => ?_)
          · refine lv_iload_n hx hb dX0_take_42 rfl (lv_at hl 3 rfl) ?_
            refine lv_bipush (v := nI 10) hx hb dX0_take_43 (by decide) ?_
            refine fd_icmp_ne (tgt := 51) hx hb dX0_take_45 (by decide) (by omega) (by omega) (fun c_45 => ?_) (fun c_45 => ?_)
            · have hfr : pr.testBit k = false := by rw [← pu_has_nI c_25]; exact c_33
              have hff : pu_ff pr 10 0 = k := hk2.trans (pu_ff_f c_25 hfr)
              refine lv_aload_n hx hb dX0_take_51 rfl (lv_at hl 0 rfl) ?_
              refine fd_cV (As := []) (rest := []) (wc := wD h0 h1 h2 h3 h4 dS pr S V kn R X rk lf lw) (wr := []) ⟨hx, hb, hml, hown, hts⟩ (cD_learn l dC dI dS dZ dN h0 h1 h2 h3 h4 _ pr S V kn R X rk lf lw hI) (cwV 0 hts (lw_V q65 q67 qs1 q15 q68) rfl rfl rfl (by decide +kernel) ⟨Nat.le_of_ble_eq_true rfl, Nat.le_of_ble_eq_true rfl⟩) (va_recv hK hP (ci := 0) (q0 := 0) rfl rfl) hK hP hD hS hA [0, 1, 2, 3, 4] [] rfl rfl rfl rfl (by decide) rfl hl.1 rfl (Nat.le_of_ble_eq_true rfl) dX0_take_52 ⟨Nat.zero_le _, Nat.zero_le _⟩ (fun u H locs hw hP hD hS => ?_)
              obtain ⟨R1, X1, rk1, lf1, lw1⟩ := u
              try dsimp only at hw
              have hP : va_P (dC, dI) vwCl (wD h0 h1 h2 h3 h4 dS pr S V 1 R1 X1 rk1 lf1 lw1) H := hP
              have hD : va_D A (wD h0 h1 h2 h3 h4 dS pr S V 1 R1 X1 rk1 lf1 lw1) := hD
              have hG := hw
              refine lv_aload_n hx hb dX0_take_55 rfl (lv_at hl 0 rfl) ?_
              refine lv_iload_n hx hb dX0_take_56 rfl (lv_at hl 1 rfl) ?_
              refine lv_iload_n hx hb dX0_take_57 rfl (lv_at hl 2 rfl) ?_
              refine fd_cV (As := [.int (nI a), .int (nI b)]) (rest := []) (wc := wD h0 h1 h2 h3 h4 dS pr S V 1 R1 X1 rk1 lf1 lw1) (wr := []) ⟨hx, hb, hml, hown, hts⟩ (cD_reduce l dC dI dS dZ dN h0 h1 h2 h3 h4 _ pr S V 1 R1 X1 rk1 lf1 lw1 a b ha hb2 hG.1) (cwV 2 hts (lw_V q81 q83 qs5 q15 q84) rfl rfl rfl (by decide +kernel) ⟨Nat.le_of_ble_eq_true rfl, Nat.le_of_ble_eq_true rfl⟩) (va_recv hK hP (ci := 0) (q0 := 0) rfl rfl) hK hP hD hS hA [0, 1, 2, 3, 4] [] rfl rfl rfl rfl (by decide) rfl hl.1 rfl (Nat.le_of_ble_eq_true rfl) dX0_take_58 ⟨Nat.zero_le _, Nat.zero_le _⟩ (fun u H locs hw hP hD hS => ?_)
              have hP : va_P (dC, dI) vwCl (wD h0 h1 h2 h3 h4 dS pr S V 1 R1 X1 rk1 (a ^^^ pu_cb R1 8 a) (b ^^^ pu_cb X1 8 a)) H := hP
              have hD : va_D A (wD h0 h1 h2 h3 h4 dS pr S V 1 R1 X1 rk1 (a ^^^ pu_cb R1 8 a) (b ^^^ pu_cb X1 8 a)) := hD
              have hlf : a ^^^ pu_cb R1 8 a < 256 := pu_lt8 ha (pu_cb_lt a (fun j hj => (hG.1.1 j hj).1))
              have hlw : b ^^^ pu_cb X1 8 a < 256 := pu_lt8 hb2 (pu_cb_lt a (fun j hj => (hG.1.1 j hj).2))
              obtain ⟨lf2, elf⟩ : ∃ z, z = a ^^^ pu_cb R1 8 a := ⟨_, rfl⟩
              obtain ⟨lw2, elw⟩ : ∃ z, z = b ^^^ pu_cb X1 8 a := ⟨_, rfl⟩
              rw [← elf] at hP hD hlf
              rw [← elw] at hP hD hlw
              refine lv_aload_n hx hb dX0_take_61 rfl (lv_at hl 0 rfl) ?_
              refine va_get (D := (dC, dI)) (ci := 0) (v := .int (nI lf2)) (C := RX0) (T := TX0) (N := 9) hx hb hts in_X0 hown hK hP 0 rfl rfl 7 (by decide) (hts _ q32) (fun _ h9 => h9) rfl dX0_take_62 ?_
              refine fd_if_ne (tgt := 78) hx hb dX0_take_65 (by decide) (by omega) (fun c_65 => ?_) (fun c_65 => ?_)
              · refine lv_aload_n hx hb dX0_take_78 rfl (lv_at hl 0 rfl) ?_
                refine lv_dup hx hb dX0_take_79 rfl ?_
                refine va_get (D := (dC, dI)) (ci := 0) (v := .int (nI pr)) (C := RX0) (T := TX0) (N := 9) hx hb hts in_X0 hown hK hP 0 rfl rfl 0 (by decide) (hts _ q25) (fun _ h9 => h9) rfl dX0_take_80 ?_
                refine lv_iconst (v := nI 1) hx hb dX0_take_83 (by decide) ?_
                refine lv_iload_n hx hb dX0_take_84 rfl (lv_at hl 3 rfl) ?_
                refine lv_ishl hx hb dX0_take_85 ?_
                refine fd_top (y := nI (2 ^ k)) (nx_shl1 (by omega)) ?_
                refine lv_ior hx hb dX0_take_86 ?_
                refine fd_top (y := nI (pr ||| (2 ^ k))) (nx_or _ _) ?_
                refine va_put (D := (dC, dI)) (ci := 0) (v := .int (nI (pr ||| (2 ^ k)))) (ty := .int) (C := RX0) (T := TX0) (N := 9) hx hb hts in_X0 tyX0 tyX0_ok nmX0 hown hK hP hD hS 0 rfl rfl 0 (by decide) (hts _ q25) (fun _ h9 => h9) rfl (by decide +kernel) rfl rfl (Nat.le_of_ble_eq_true rfl) dX0_take_87 (fun H locs hP hD hS => ?_)
                have hP : va_P (dC, dI) vwCl (wD h0 h1 h2 h3 h4 dS (pr ||| (2 ^ k)) S V 1 R1 X1 rk1 lf2 lw2) H := hP
                have hD : va_D A (wD h0 h1 h2 h3 h4 dS (pr ||| (2 ^ k)) S V 1 R1 X1 rk1 lf2 lw2) := hD
                refine lv_aload_n hx hb dX0_take_90 rfl (lv_at hl 0 rfl) ?_
                refine va_get (D := (dC, dI)) (ci := 0) (v := .ref h1) (C := RX0) (T := TX0) (N := 9) hx hb hts in_X0 hown hK hP 0 rfl rfl 1 (by decide) (hts _ q26) (fun _ h9 => h9) rfl dX0_take_91 ?_
                refine lv_iload_n hx hb dX0_take_94 rfl (lv_at hl 3 rfl) ?_
                refine lv_iload_n hx hb dX0_take_95 rfl (lv_at hl 1 rfl) ?_
                refine lv_i2s (v := nI a) hx hb dX0_take_96 (fd_short2 _ (by omega)) ?_
                refine fd_sast hx hb hK hP hD hS 1 0 S rfl rfl (i := k) (x := a) (by omega) (by decide) (by omega) dX0_take_97 (fun H locs hP hD hS => ?_)
                have hP : va_P (dC, dI) vwCl (wD h0 h1 h2 h3 h4 dS (pr ||| (2 ^ k)) (pu_up S k a) V 1 R1 X1 rk1 lf2 lw2) H := hP
                have hD : va_D A (wD h0 h1 h2 h3 h4 dS (pr ||| (2 ^ k)) (pu_up S k a) V 1 R1 X1 rk1 lf2 lw2) := hD
                refine lv_aload_n hx hb dX0_take_98 rfl (lv_at hl 0 rfl) ?_
                refine va_get (D := (dC, dI)) (ci := 0) (v := .ref h2) (C := RX0) (T := TX0) (N := 9) hx hb hts in_X0 hown hK hP 0 rfl rfl 2 (by decide) (hts _ q27) (fun _ h9 => h9) rfl dX0_take_99 ?_
                refine lv_iload_n hx hb dX0_take_102 rfl (lv_at hl 3 rfl) ?_
                refine lv_iload_n hx hb dX0_take_103 rfl (lv_at hl 2 rfl) ?_
                refine lv_i2s (v := nI b) hx hb dX0_take_104 (fd_short2 _ (by omega)) ?_
                refine fd_sast hx hb hK hP hD hS 2 0 V rfl rfl (i := k) (x := b) (by omega) (by decide) (by omega) dX0_take_105 (fun H locs hP hD hS => ?_)
                have hP : va_P (dC, dI) vwCl (wD h0 h1 h2 h3 h4 dS (pr ||| (2 ^ k)) (pu_up S k a) (pu_up V k b) 1 R1 X1 rk1 lf2 lw2) H := hP
                have hD : va_D A (wD h0 h1 h2 h3 h4 dS (pr ||| (2 ^ k)) (pu_up S k a) (pu_up V k b) 1 R1 X1 rk1 lf2 lw2) := hD
                refine lv_aload_n hx hb dX0_take_106 rfl (lv_at hl 0 rfl) ?_
                refine lv_iload_n hx hb dX0_take_107 rfl (lv_at hl 1 rfl) ?_
                refine lv_iload_n hx hb dX0_take_108 rfl (lv_at hl 2 rfl) ?_
                refine fd_cV (As := [.int (nI a), .int (nI b)]) (rest := []) (wc := wD h0 h1 h2 h3 h4 dS (pr ||| (2 ^ k)) (pu_up S k a) (pu_up V k b) 1 R1 X1 rk1 lf2 lw2) (wr := []) ⟨hx, hb, hml, hown, hts⟩ (cD_include l dC dI dS dZ dN h0 h1 h2 h3 h4 _ (pr ||| (2 ^ k)) (pu_up S k a) (pu_up V k b) 1 R1 X1 rk1 lf2 lw2 a b ha hb2 hG.1) (cwV 2 hts (lw_V q77 q79 qs4 q15 q80) rfl rfl rfl (by decide +kernel) ⟨Nat.le_of_ble_eq_true rfl, Nat.le_of_ble_eq_true rfl⟩) (va_recv hK hP (ci := 0) (q0 := 0) rfl rfl) hK hP hD hS hA [0, 1, 2, 3, 4] [] rfl rfl rfl rfl (by decide) rfl hl.1 rfl (Nat.le_of_ble_eq_true rfl) dX0_take_109 ⟨Nat.zero_le _, Nat.zero_le _⟩ (fun u H locs hw hP hD hS => ?_)
                obtain ⟨R3, X3, rk3, lf3, lw3⟩ := u
                try dsimp only at hw
                have hP : va_P (dC, dI) vwCl (wD h0 h1 h2 h3 h4 dS (pr ||| (2 ^ k)) (pu_up S k a) (pu_up V k b) 1 R3 X3 rk3 lf3 lw3) H := hP
                have hD : va_D A (wD h0 h1 h2 h3 h4 dS (pr ||| (2 ^ k)) (pu_up S k a) (pu_up V k b) 1 R3 X3 rk3 lf3 lw3) := hD
                have hi := hw
                refine lv_iload_n hx hb dX0_take_112 rfl (lv_at hl 3 rfl) ?_
                exact fd_iret hx hb hr hlocks hK hS (v := nI k) (pr ||| (2 ^ k), pu_up S k a, pu_up V k b, 1, R3, X3, rk3, lf3, lw3) hP hD dX0_take_113 (⟨(pu_tk_ok ha1 ha hb2 hff c_25 (pu_accept hG (Or.inl (fun z => c_65 (elf.trans z))))).symm, pu_dk_take hI.1 hG ha hb2 c_25 hfr hi (fun z => absurd (elf.trans z) c_65)⟩)
              · refine lv_aload_n hx hb dX0_take_68 rfl (lv_at hl 0 rfl) ?_
                refine va_get (D := (dC, dI)) (ci := 0) (v := .int (nI lw2)) (C := RX0) (T := TX0) (N := 9) hx hb hts in_X0 hown hK hP 0 rfl rfl 8 (by decide) (hts _ q33) (fun _ h9 => h9) rfl dX0_take_69 ?_
                refine fd_if_eq (tgt := 78) hx hb dX0_take_72 (by decide) (by omega) (fun c_72 => ?_) (fun c_72 => ?_)
                · refine lv_aload_n hx hb dX0_take_78 rfl (lv_at hl 0 rfl) ?_
                  refine lv_dup hx hb dX0_take_79 rfl ?_
                  refine va_get (D := (dC, dI)) (ci := 0) (v := .int (nI pr)) (C := RX0) (T := TX0) (N := 9) hx hb hts in_X0 hown hK hP 0 rfl rfl 0 (by decide) (hts _ q25) (fun _ h9 => h9) rfl dX0_take_80 ?_
                  refine lv_iconst (v := nI 1) hx hb dX0_take_83 (by decide) ?_
                  refine lv_iload_n hx hb dX0_take_84 rfl (lv_at hl 3 rfl) ?_
                  refine lv_ishl hx hb dX0_take_85 ?_
                  refine fd_top (y := nI (2 ^ k)) (nx_shl1 (by omega)) ?_
                  refine lv_ior hx hb dX0_take_86 ?_
                  refine fd_top (y := nI (pr ||| (2 ^ k))) (nx_or _ _) ?_
                  refine va_put (D := (dC, dI)) (ci := 0) (v := .int (nI (pr ||| (2 ^ k)))) (ty := .int) (C := RX0) (T := TX0) (N := 9) hx hb hts in_X0 tyX0 tyX0_ok nmX0 hown hK hP hD hS 0 rfl rfl 0 (by decide) (hts _ q25) (fun _ h9 => h9) rfl (by decide +kernel) rfl rfl (Nat.le_of_ble_eq_true rfl) dX0_take_87 (fun H locs hP hD hS => ?_)
                  have hP : va_P (dC, dI) vwCl (wD h0 h1 h2 h3 h4 dS (pr ||| (2 ^ k)) S V 1 R1 X1 rk1 lf2 lw2) H := hP
                  have hD : va_D A (wD h0 h1 h2 h3 h4 dS (pr ||| (2 ^ k)) S V 1 R1 X1 rk1 lf2 lw2) := hD
                  refine lv_aload_n hx hb dX0_take_90 rfl (lv_at hl 0 rfl) ?_
                  refine va_get (D := (dC, dI)) (ci := 0) (v := .ref h1) (C := RX0) (T := TX0) (N := 9) hx hb hts in_X0 hown hK hP 0 rfl rfl 1 (by decide) (hts _ q26) (fun _ h9 => h9) rfl dX0_take_91 ?_
                  refine lv_iload_n hx hb dX0_take_94 rfl (lv_at hl 3 rfl) ?_
                  refine lv_iload_n hx hb dX0_take_95 rfl (lv_at hl 1 rfl) ?_
                  refine lv_i2s (v := nI a) hx hb dX0_take_96 (fd_short2 _ (by omega)) ?_
                  refine fd_sast hx hb hK hP hD hS 1 0 S rfl rfl (i := k) (x := a) (by omega) (by decide) (by omega) dX0_take_97 (fun H locs hP hD hS => ?_)
                  have hP : va_P (dC, dI) vwCl (wD h0 h1 h2 h3 h4 dS (pr ||| (2 ^ k)) (pu_up S k a) V 1 R1 X1 rk1 lf2 lw2) H := hP
                  have hD : va_D A (wD h0 h1 h2 h3 h4 dS (pr ||| (2 ^ k)) (pu_up S k a) V 1 R1 X1 rk1 lf2 lw2) := hD
                  refine lv_aload_n hx hb dX0_take_98 rfl (lv_at hl 0 rfl) ?_
                  refine va_get (D := (dC, dI)) (ci := 0) (v := .ref h2) (C := RX0) (T := TX0) (N := 9) hx hb hts in_X0 hown hK hP 0 rfl rfl 2 (by decide) (hts _ q27) (fun _ h9 => h9) rfl dX0_take_99 ?_
                  refine lv_iload_n hx hb dX0_take_102 rfl (lv_at hl 3 rfl) ?_
                  refine lv_iload_n hx hb dX0_take_103 rfl (lv_at hl 2 rfl) ?_
                  refine lv_i2s (v := nI b) hx hb dX0_take_104 (fd_short2 _ (by omega)) ?_
                  refine fd_sast hx hb hK hP hD hS 2 0 V rfl rfl (i := k) (x := b) (by omega) (by decide) (by omega) dX0_take_105 (fun H locs hP hD hS => ?_)
                  have hP : va_P (dC, dI) vwCl (wD h0 h1 h2 h3 h4 dS (pr ||| (2 ^ k)) (pu_up S k a) (pu_up V k b) 1 R1 X1 rk1 lf2 lw2) H := hP
                  have hD : va_D A (wD h0 h1 h2 h3 h4 dS (pr ||| (2 ^ k)) (pu_up S k a) (pu_up V k b) 1 R1 X1 rk1 lf2 lw2) := hD
                  refine lv_aload_n hx hb dX0_take_106 rfl (lv_at hl 0 rfl) ?_
                  refine lv_iload_n hx hb dX0_take_107 rfl (lv_at hl 1 rfl) ?_
                  refine lv_iload_n hx hb dX0_take_108 rfl (lv_at hl 2 rfl) ?_
                  refine fd_cV (As := [.int (nI a), .int (nI b)]) (rest := []) (wc := wD h0 h1 h2 h3 h4 dS (pr ||| (2 ^ k)) (pu_up S k a) (pu_up V k b) 1 R1 X1 rk1 lf2 lw2) (wr := []) ⟨hx, hb, hml, hown, hts⟩ (cD_include l dC dI dS dZ dN h0 h1 h2 h3 h4 _ (pr ||| (2 ^ k)) (pu_up S k a) (pu_up V k b) 1 R1 X1 rk1 lf2 lw2 a b ha hb2 hG.1) (cwV 2 hts (lw_V q77 q79 qs4 q15 q80) rfl rfl rfl (by decide +kernel) ⟨Nat.le_of_ble_eq_true rfl, Nat.le_of_ble_eq_true rfl⟩) (va_recv hK hP (ci := 0) (q0 := 0) rfl rfl) hK hP hD hS hA [0, 1, 2, 3, 4] [] rfl rfl rfl rfl (by decide) rfl hl.1 rfl (Nat.le_of_ble_eq_true rfl) dX0_take_109 ⟨Nat.zero_le _, Nat.zero_le _⟩ (fun u H locs hw hP hD hS => ?_)
                  obtain ⟨R3, X3, rk3, lf3, lw3⟩ := u
                  try dsimp only at hw
                  have hP : va_P (dC, dI) vwCl (wD h0 h1 h2 h3 h4 dS (pr ||| (2 ^ k)) (pu_up S k a) (pu_up V k b) 1 R3 X3 rk3 lf3 lw3) H := hP
                  have hD : va_D A (wD h0 h1 h2 h3 h4 dS (pr ||| (2 ^ k)) (pu_up S k a) (pu_up V k b) 1 R3 X3 rk3 lf3 lw3) := hD
                  have hi := hw
                  refine lv_iload_n hx hb dX0_take_112 rfl (lv_at hl 3 rfl) ?_
                  exact fd_iret hx hb hr hlocks hK hS (v := nI k) (pr ||| (2 ^ k), pu_up S k a, pu_up V k b, 1, R3, X3, rk3, lf3, lw3) hP hD dX0_take_113 (⟨(pu_tk_ok ha1 ha hb2 hff c_25 (pu_accept hG (Or.inr (elw.symm.trans c_72)))).symm, pu_dk_take hI.1 hG ha hb2 c_25 hfr hi (fun _ => elw.symm.trans c_72)⟩)
                · refine lv_bipush (v := (-3)) hx hb dX0_take_75 (by decide) ?_
                  exact fd_iret hx hb hr hlocks hK hS (v := (-3)) (pr, S, V, 1, R1, X1, rk1, lf2, lw2) hP hD dX0_take_77 (⟨by rw [pu_tk_ref ha1 ha hb2 (by omega) (pu_refuse hG hb2 (elf.symm.trans c_65) (fun z => c_72 (elw.trans z))).1 (pu_refuse hG hb2 (elf.symm.trans c_65) (fun z => c_72 (elw.trans z))).2], ⟨hI.1, Nat.le_refl 1, fun _ => hG⟩⟩)
            · exact absurd c_45 (by omega)
          · refine lv_iinc (v := nI (k + 1)) (lv' := [(3, .int (nI (k + 1))), (0, .ref h0), (1, .int (nI a)), (2, .int (nI b))]) hx hb dX0_take_36 hl (k := 3) rfl (nI_1 _) (by decide) rfl (fun ls hl => ?_)
            refine lv_goto (tgt := 22) hx hb dX0_take_39 (by decide) ?_
            exact ih _ _ _ _ (by omega) ⟨k + 1, rfl, (by omega), (hk2.trans (pu_ff_t c_25 (by rw [← pu_has_nI c_25]; exact c_33))), hP, hD, hS, lv_sub hl [1, 2, 3, 0] rfl⟩
      · refine lv_iconst (v := (-1)) hx hb dX0_take_18 (by decide) ?_
        exact fd_iret hx hb hr hlocks hK hS (v := (-1)) (pr, S, V, kn, R, X, rk, lf, lw) hP hD dX0_take_19 (⟨by rw [pu_tk_bad (fun z => c_15 z.2.2)], hI⟩)
end
section
/-! what the model's walks want -/
theorem fd_bn {b : Bool} (h : ¬ nI b.toNat = 1) : b = false := by
  cases b
  · rfl
  · exact absurd (by decide) h
theorem fd_by {b : Bool} (h : nI b.toNat = 1) : b = true := by
  cases b
  · exact absurd h (by decide)
  · rfl
theorem fd_nz (b : Bool) : narrow .boolean (.int (nI b.toNat)) = .int (nI b.toNat) := by
  cases b <;> rfl
theorem pu_neg1 {T : Nat → Int32} {k : Nat} (h : ∀ j, j < k → T j = -1) : ∀ j, j < k + 1 → upd T k (-1) j = -1 := by
  intro j hj
  by_cases q : j = k
  · rw [q, pk_us]
  · rw [pk_un q]
    exact h j (by omega)
theorem pu_cb_t {f : Nat → Nat} {k q : Nat} (h : q.testBit k = true) : pu_cb f (k + 1) q = pu_cb f k q ^^^ f k := by
  simp only [pu_cb]
  rw [if_pos h]
theorem pu_cb_f {f : Nat → Nat} {k q : Nat} (h : q.testBit k = false) : pu_cb f (k + 1) q = pu_cb f k q := by
  simp only [pu_cb]
  rw [if_neg (by rw [h]; decide), Nat.xor_zero]
theorem pu_valid {pr q x : Nat} : ((∀ j, j < 10 → q.testBit j = true → x.testBit j = true) ∧ ∀ j, j < 10 → q.testBit j = true → pr.testBit j = true) ↔ ∀ j, j < 10 → q.testBit j = true → (pr &&& x).testBit j = true := by
  constructor
  · rintro ⟨h1, h2⟩ j hj hb
    rw [Nat.testBit_and, h1 j hj hb, h2 j hj hb]
    rfl
  · intro h
    refine ⟨fun j hj hb => ?_, fun j hj hb => ?_⟩
    · have := h j hj hb
      rw [Nat.testBit_and] at this
      simp only [Bool.and_eq_true] at this
      exact this.2
    · have := h j hj hb
      rw [Nat.testBit_and] at this
      simp only [Bool.and_eq_true] at this
      exact this.1
theorem pu_ok0 {k q x pr : Nat} {ok : Bool} (hok : ok = true ↔ ((∀ j, j < 10 → q.testBit j = true → x.testBit j = true) ∧ ∀ j, j < k → q.testBit j = true → pr.testBit j = true)) (h : ok = false ∨ (q.testBit k = true ∧ pr.testBit k = false)) : false = true ↔ ((∀ j, j < 10 → q.testBit j = true → x.testBit j = true) ∧ ∀ j, j < k + 1 → q.testBit j = true → pr.testBit j = true) := by
  constructor
  · intro z
    cases z
  · rintro ⟨z1, z2⟩
    rcases h with h | ⟨h1, h2⟩
    · have := hok.mpr ⟨z1, fun j hj => z2 j (by omega)⟩
      rw [h] at this
      exact this
    · have := z2 k (by omega) h1
      rw [h2] at this
      exact this
theorem pu_ok1 {k q x pr : Nat} {ok : Bool} (hok : ok = true ↔ ((∀ j, j < 10 → q.testBit j = true → x.testBit j = true) ∧ ∀ j, j < k → q.testBit j = true → pr.testBit j = true)) (h0 : ok = true) (h : q.testBit k = false ∨ pr.testBit k = true) : true = true ↔ ((∀ j, j < 10 → q.testBit j = true → x.testBit j = true) ∧ ∀ j, j < k + 1 → q.testBit j = true → pr.testBit j = true) := by
  obtain ⟨z1, z2⟩ := hok.mp h0
  refine ⟨fun _ => ⟨z1, fun j hj hb => ?_⟩, fun _ => rfl⟩
  by_cases q1 : j = k
  · subst q1
    rcases h with h | h
    · rw [h] at hb
      cases hb
    · exact h
  · exact z2 j (by omega) hb
theorem pu_gt9 {x : Int32} (h : 9 < x) : 10 ≤ x := by
  rw [Int32.lt_iff_toInt_lt] at h
  rw [Int32.le_iff_toInt_le]
  have e1 : (9 : Int32).toInt = 9 := by decide
  have e2 : (10 : Int32).toInt = 10 := by decide
  omega
theorem pu_gt7 {x : Int32} (h : 7 < x) : ¬ x < 8 := by
  rw [Int32.lt_iff_toInt_lt] at h
  rw [Int32.lt_iff_toInt_lt]
  have e1 : (7 : Int32).toInt = 7 := by decide
  have e2 : (8 : Int32).toInt = 8 := by decide
  omega
theorem pu_ct_pos {f : Nat → Bool} (h : f 0 = true) : ∀ n, 1 ≤ pu_ct f (n + 1) := by
  intro n
  induction n with
  | zero => simp [pu_ct, h]
  | succ n ih =>
    show 1 ≤ pu_ct f (n + 1) + _
    omega
theorem pu_kb_0 {m : Nat} {S V : Nat → Nat} (hC : pu_con m S V) : pu_kb m S V 0 = true := by
  have h : pu_sp m S V 10 0 0 := pu_sp_up (j := 0) (Nat.zero_le 10) ⟨rfl, rfl⟩
  unfold pu_kb
  rw [pu_vb_pos hC h]
  decide
theorem pu_tab_kb {m s : Nat} {S V : Nat → Nat} {T : Nat → Int32} (hC : pu_con m S V) (h : pu_tab m S V T) (hs : s < 256) : decide (0 ≤ T s) = pu_kb m S V s := by
  unfold pu_kb
  rw [pu_tab_vb hC h hs]
theorem pu_size_kb {m : Nat} {S V : Nat → Nat} {T : Nat → Int32} (hC : pu_con m S V) (h : pu_tab m S V T) : pu_ct (fun j => decide (0 ≤ T j)) 256 = pu_ct (pu_kb m S V) 256 := pu_ct_congr (fun _ hj => pu_tab_kb hC h hj)
theorem pu_with_wt {m a : Nat} {S V : Nat → Nat} {T : Nat → Int32} (hC : pu_con m S V) (h : pu_tab m S V T) (ha : a < 256) : pu_ct (fun i => decide (0 ≤ T (2 ^ i)) || decide (0 ≤ T (2 ^ i ^^^ a))) 8 = pu_wt m S V a := by
  refine pu_ct_congr (fun i hi => ?_)
  have h8 : 2 ^ i < 2 ^ 8 := Nat.pow_lt_pow_right (by decide) hi
  rw [pu_tab_kb hC h h8, pu_tab_kb hC h (pu_lt8 h8 ha)]
theorem nx_1023b : ∀ k, k < 10 → (1023 : Nat).testBit k = true := by decide
theorem pu_pow8 {i : Nat} (hi : i < 8) : 2 ^ i < 256 := show 2 ^ i < 2 ^ 8 from Nat.pow_lt_pow_right (by decide) hi
theorem pu_miss {a b : Nat} (h : 256 ≤ 2 ^ a * 2 ^ b) : 8 ≤ a + b := by
  rw [← Nat.pow_add] at h
  exact (Nat.pow_le_pow_iff_right (a := 2) (by decide)).mp (show 2 ^ 8 ≤ 2 ^ (a + b) from h)
theorem pu_miss2 {a b : Nat} (h : 2 ^ a * 2 ^ b < 256) : a + b < 8 := by
  rw [← Nat.pow_add] at h
  exact (Nat.pow_lt_pow_iff_right (a := 2) (by decide)).mp (show 2 ^ (a + b) < 2 ^ 8 from h)
theorem pu_miss3 {a b : Nat} (h : a + b ≤ 8) : 2 ^ a * 2 ^ b < 2 ^ 31 := by
  rw [← Nat.pow_add]
  exact Nat.pow_lt_pow_right (by decide) (by omega)
theorem pu_le8 {x : Int32} (h : ¬ 7 < x) : x < 8 := by
  rw [Int32.lt_iff_toInt_lt] at h
  rw [Int32.lt_iff_toInt_lt]
  have e1 : (7 : Int32).toInt = 7 := by decide
  have e2 : (8 : Int32).toInt = 8 := by decide
  omega
end
section
set_option maxHeartbeats 4000000 in
set_option maxRecDepth 100000 in
/-- pieces -/
theorem cM_pieces (l : Launch) (dC : Nat → ClassId) (dI : Nat → Nat → Nat) (dS dZ dN : ClassId) (h0 sz : Nat) (a0 : Int32) : fd_MI l yX1_pieces (ws_ yX1_pieces cX1_pieces 2 (some .boolean)) 0 (dC, dI) (fd_ty dS dZ dN) [.ref h0, .int a0] ([]) sz (fun r (_ : Unit) => r = nI (decide (1 ≤ a0 ∧ a0 ≤ 255)).toNat) (fun _ => []) := by
  refine Met.ofW (cc := cX1_pieces) (maxL := 2) (ret := (some .boolean)) (by decide) rfl ?_
  intro p e s m args below meth c s₁ B hml hv
  obtain ⟨rfl, hsz, hP, hK, hD0⟩ := hv
  have hx := B.exec
  have hb := B.bytes
  have hr := B.returns
  have hts := atoms_spec (ws := ws_ yX1_pieces cX1_pieces 2 (some .boolean)) B.pre
  have hts : ∀ w ∈ lw_all, w.before _ s = true := fun w h => hts w (List.mem_cons_of_mem _ h)
  have hown : s.vm.findClass RX1 = some m.cls := findClass_of_methodNamed B.named
  have hlocks := B.notSynchronized
  subst hsz
  have hD := hD0.self (sz := s.heap.size)
  generalize hAe : va_A ([]) s.heap.size = A at hD ⊢
  have hA : ∀ q : Nat, s.heap.size ≤ q → A q := fun q h => by rw [← hAe]; exact Or.inr h
  have hS : va_S A s.heap s.heap [] := va_S.rf
  have hP : va_P (dC, dI) vwCl ([]) s.heap := hP
  have hl := lv_entry ([.ref h0, .int a0]) (n := 2) (Nat.le_of_ble_eq_true rfl)
  rw [lg_entry_eq]
  generalize (lg_sl ([.ref h0, .int a0]) ++ List.replicate (2 - (lg_sl ([.ref h0, .int a0])).length) Slot.unset).toArray = ls at hl ⊢
  have hl : lv_has ls 2 [(0, .ref h0), (1, .int a0)] := hl
  refine lv_iload_n hx hb dX1_pieces_0 rfl (lv_at hl 1 rfl) ?_
  refine lv_iconst (v := nI 1) hx hb dX1_pieces_1 (by decide) ?_
  refine lv_icmp_lt (tgt := 16) hx hb dX1_pieces_2 (by decide) (fun (c_2 : a0 < 1) => ?_) (fun (c_2 : ¬ a0 < 1) => ?_)
  · refine lv_iconst (v := nI 0) hx hb dX1_pieces_16 (by decide) ?_
    exact fd_zret hx hb hr hlocks hK hS (v := nI 0) (rfl) () hP hD dX1_pieces_17 (by rw [decide_eq_false (fun z => pu_nle c_2 z.1)]; rfl)
  · refine lv_iload_n hx hb dX1_pieces_5 rfl (lv_at hl 1 rfl) ?_
    refine lv_sipush (v := nI 255) hx hb dX1_pieces_6 (by decide) ?_
    refine lv_icmp_gt (tgt := 16) hx hb dX1_pieces_9 (by decide) (fun (c_9 : 255 < a0) => ?_) (fun (c_9 : ¬ 255 < a0) => ?_)
    · refine lv_iconst (v := nI 0) hx hb dX1_pieces_16 (by decide) ?_
      exact fd_zret hx hb hr hlocks hK hS (v := nI 0) (rfl) () hP hD dX1_pieces_17 (by rw [decide_eq_false (fun z => pu_nle c_9 z.2)]; rfl)
    · refine lv_iconst (v := nI 1) hx hb dX1_pieces_12 (by decide) ?_
      refine lv_goto (tgt := 17) hx hb dX1_pieces_13 (by decide) ?_
      exact fd_zret hx hb hr hlocks hK hS (v := nI 1) (rfl) () hP hD dX1_pieces_17 (by rw [decide_eq_true (⟨pu_lt_of c_2, pu_lt_of c_9⟩ : 1 ≤ a0 ∧ a0 ≤ 255)]; rfl)
set_option maxHeartbeats 4000000 in
set_option maxRecDepth 100000 in
/-- number -/
theorem cM_number (l : Launch) (dC : Nat → ClassId) (dI : Nat → Nat → Nat) (dS dZ dN : ClassId) (h0 sz : Nat) (a0 : Int32) : fd_MI l yX1_number (ws_ yX1_number cX1_number 2 (some .boolean)) 0 (dC, dI) (fd_ty dS dZ dN) [.ref h0, .int a0] ([]) sz (fun r (_ : Unit) => r = nI (decide (0 ≤ a0 ∧ a0 ≤ 255)).toNat) (fun _ => []) := by
  refine Met.ofW (cc := cX1_number) (maxL := 2) (ret := (some .boolean)) (by decide) rfl ?_
  intro p e s m args below meth c s₁ B hml hv
  obtain ⟨rfl, hsz, hP, hK, hD0⟩ := hv
  have hx := B.exec
  have hb := B.bytes
  have hr := B.returns
  have hts := atoms_spec (ws := ws_ yX1_number cX1_number 2 (some .boolean)) B.pre
  have hts : ∀ w ∈ lw_all, w.before _ s = true := fun w h => hts w (List.mem_cons_of_mem _ h)
  have hown : s.vm.findClass RX1 = some m.cls := findClass_of_methodNamed B.named
  have hlocks := B.notSynchronized
  subst hsz
  have hD := hD0.self (sz := s.heap.size)
  generalize hAe : va_A ([]) s.heap.size = A at hD ⊢
  have hA : ∀ q : Nat, s.heap.size ≤ q → A q := fun q h => by rw [← hAe]; exact Or.inr h
  have hS : va_S A s.heap s.heap [] := va_S.rf
  have hP : va_P (dC, dI) vwCl ([]) s.heap := hP
  have hl := lv_entry ([.ref h0, .int a0]) (n := 2) (Nat.le_of_ble_eq_true rfl)
  rw [lg_entry_eq]
  generalize (lg_sl ([.ref h0, .int a0]) ++ List.replicate (2 - (lg_sl ([.ref h0, .int a0])).length) Slot.unset).toArray = ls at hl ⊢
  have hl : lv_has ls 2 [(0, .ref h0), (1, .int a0)] := hl
  refine lv_iload_n hx hb dX1_number_0 rfl (lv_at hl 1 rfl) ?_
  refine lv_if_lt (tgt := 15) hx hb dX1_number_1 (by decide) (fun c_1 => ?_) (fun c_1 => ?_)
  · refine lv_iconst (v := nI 0) hx hb dX1_number_15 (by decide) ?_
    exact fd_zret hx hb hr hlocks hK hS (v := nI 0) (rfl) () hP hD dX1_number_16 (by rw [decide_eq_false (fun z => pu_nle c_1 z.1)]; rfl)
  · refine lv_iload_n hx hb dX1_number_4 rfl (lv_at hl 1 rfl) ?_
    refine lv_sipush (v := nI 255) hx hb dX1_number_5 (by decide) ?_
    refine lv_icmp_gt (tgt := 15) hx hb dX1_number_8 (by decide) (fun (c_8 : 255 < a0) => ?_) (fun (c_8 : ¬ 255 < a0) => ?_)
    · refine lv_iconst (v := nI 0) hx hb dX1_number_15 (by decide) ?_
      exact fd_zret hx hb hr hlocks hK hS (v := nI 0) (rfl) () hP hD dX1_number_16 (by rw [decide_eq_false (fun z => pu_nle c_8 z.2)]; rfl)
    · refine lv_iconst (v := nI 1) hx hb dX1_number_11 (by decide) ?_
      refine lv_goto (tgt := 16) hx hb dX1_number_12 (by decide) ?_
      exact fd_zret hx hb hr hlocks hK hS (v := nI 1) (rfl) () hP hD dX1_number_16 (by rw [decide_eq_true (⟨pu_lt_of c_1, pu_lt_of c_8⟩ : 0 ≤ a0 ∧ a0 ≤ 255)]; rfl)
set_option maxHeartbeats 4000000 in
set_option maxRecDepth 100000 in
/-- size() -/
theorem cM_size (l : Launch) (dC : Nat → ClassId) (dI : Nat → Nat → Nat) (dS dZ dN : ClassId) (h0 h1 h2 h3 h4 sz pr : Nat) (S V : Nat → Nat) (T : Nat → Int32) : fd_MI l yX1_size (ws_ yX1_size cX1_size 3 (some .int)) 0 (dC, dI) (fd_ty dS dZ dN) [.ref h0] (wM h0 h1 h2 h3 h4 dZ dN pr S V T) sz (fun r (_ : Unit) => r = nI (pu_ct (fun j => decide (0 ≤ T j)) 256)) (fun _ => wM h0 h1 h2 h3 h4 dZ dN pr S V T) := by
  refine Met.ofW (cc := cX1_size) (maxL := 3) (ret := (some .int)) (by decide) rfl ?_
  intro p e s m args below meth c s₁ B hml hv
  obtain ⟨rfl, hsz, hP, hK, hD0⟩ := hv
  have hx := B.exec
  have hb := B.bytes
  have hr := B.returns
  have hts := atoms_spec (ws := ws_ yX1_size cX1_size 3 (some .int)) B.pre
  have hts : ∀ w ∈ lw_all, w.before _ s = true := fun w h => hts w (List.mem_cons_of_mem _ h)
  have hown : s.vm.findClass RX1 = some m.cls := findClass_of_methodNamed B.named
  have hlocks := B.notSynchronized
  subst hsz
  have hD := hD0.self (sz := s.heap.size)
  generalize hAe : va_A (wM h0 h1 h2 h3 h4 dZ dN pr S V T) s.heap.size = A at hD ⊢
  have hA : ∀ q : Nat, s.heap.size ≤ q → A q := fun q h => by rw [← hAe]; exact Or.inr h
  have hS : va_S A s.heap s.heap [] := va_S.rf
  have hP : va_P (dC, dI) vwCl (wM h0 h1 h2 h3 h4 dZ dN pr S V T) s.heap := hP
  have hl := lv_entry ([.ref h0]) (n := 3) (Nat.le_of_ble_eq_true rfl)
  rw [lg_entry_eq]
  generalize (lg_sl ([.ref h0]) ++ List.replicate (3 - (lg_sl ([.ref h0])).length) Slot.unset).toArray = ls at hl ⊢
  have hl : lv_has ls 3 [(0, .ref h0)] := hl
  refine lv_iconst (v := nI 0) hx hb dX1_size_0 (by decide) ?_
  refine lv_istore_n (lv' := [(1, .int (nI 0)), (0, .ref h0)]) hx hb dX1_size_1 rfl hl (by decide) rfl (fun ls hl => ?_)
  refine lv_iconst (v := nI 0) hx hb dX1_size_2 (by decide) ?_
  refine lv_istore_n (lv' := [(2, .int (nI 0)), (1, .int (nI 0)), (0, .ref h0)]) hx hb dX1_size_3 rfl hl (by decide) rfl (fun ls hl => ?_)
  refine fd_loop (fun n H locs ls => ∃ (k : Nat) (v : Nat), n = 256 - k ∧ (k ≤ 256) ∧ (v = pu_ct (fun j => decide (0 ≤ T j)) k) ∧ va_P (dC, dI) vwCl (wM h0 h1 h2 h3 h4 dZ dN pr S V T) H ∧ va_D A (wM h0 h1 h2 h3 h4 dZ dN pr S V T) ∧ va_S A s.heap H locs ∧ lv_has ls 3 [(0, .ref h0), (1, .int (nI v)), (2, .int (nI k))]) _ ⟨0, 0, rfl, (by omega), rfl, hP, hD, hS, lv_sub hl [2, 1, 0] rfl⟩ ?_
  rintro n H locs ls ⟨k, v, hms, hk, ev, hP, hD, hS, hl⟩ ih
  refine lv_iload_n hx hb dX1_size_4 rfl (lv_at hl 2 rfl) ?_
  refine lv_sipush (v := nI 256) hx hb dX1_size_5 (by decide) ?_
  refine fd_icmp_ge (tgt := 34) hx hb dX1_size_8 (by decide) (by omega) (by omega) (fun c_8 => ?_) (fun c_8 => ?_)
  · refine lv_iload_n hx hb dX1_size_34 rfl (lv_at hl 1 rfl) ?_
    exact fd_iret hx hb hr hlocks hK hS (v := nI v) () hP hD dX1_size_35 (by rw [ev, show k = 256 by omega])
  · refine lv_aload_n hx hb dX1_size_11 rfl (lv_at hl 0 rfl) ?_
    refine va_get (D := (dC, dI)) (ci := 1) (v := .ref h4) (C := RX1) (T := TX1) (N := 4) hx hb hts in_X1 hown hK hP 0 rfl rfl 3 (by decide) (hts _ q162) (fun _ h9 => h9) rfl dX1_size_12 ?_
    refine lv_iload_n hx hb dX1_size_15 rfl (lv_at hl 2 rfl) ?_
    refine fd_tald hx hb hK hP 4 2 T rfl rfl (i := k) (by omega) (by decide) dX1_size_16 ?_
    refine lv_if_lt (tgt := 26) hx hb dX1_size_17 (by decide) (fun c_17 => ?_) (fun c_17 => ?_)
    · refine lv_iload_n hx hb dX1_size_26 rfl (lv_at hl 1 rfl) ?_
      refine lv_istore_n (lv' := [(1, .int (nI v)), (0, .ref h0), (2, .int (nI k))]) hx hb dX1_size_27 rfl hl (by decide) rfl (fun ls hl => ?_)
      refine lv_iinc (v := nI (k + 1)) (lv' := [(2, .int (nI (k + 1))), (1, .int (nI v)), (0, .ref h0)]) hx hb dX1_size_28 hl (k := 2) rfl (nI_1 _) (by decide) rfl (fun ls hl => ?_)
      refine lv_goto (tgt := 4) hx hb dX1_size_31 (by decide) ?_
      exact ih _ _ _ _ (by omega) ⟨k + 1, v, rfl, (by omega), (ev.trans (pu_ct_f (f := (fun j => decide (0 ≤ T j))) (decide_eq_false (pu_nle c_17))).symm), hP, hD, hS, lv_sub hl [2, 1, 0] rfl⟩
    · refine lv_iload_n hx hb dX1_size_20 rfl (lv_at hl 1 rfl) ?_
      refine lv_iconst (v := nI 1) hx hb dX1_size_21 (by decide) ?_
      refine lv_iadd hx hb dX1_size_22 ?_
      refine fd_top (y := nI (v + 1)) (nI_add _ _) ?_
      refine lv_goto (tgt := 27) hx hb dX1_size_23 (by decide) ?_
      refine lv_istore_n (lv' := [(1, .int (nI (v + 1))), (0, .ref h0), (2, .int (nI k))]) hx hb dX1_size_27 rfl hl (by decide) rfl (fun ls hl => ?_)
      refine lv_iinc (v := nI (k + 1)) (lv' := [(2, .int (nI (k + 1))), (1, .int (nI (v + 1))), (0, .ref h0)]) hx hb dX1_size_28 hl (k := 2) rfl (nI_1 _) (by decide) rfl (fun ls hl => ?_)
      refine lv_goto (tgt := 4) hx hb dX1_size_31 (by decide) ?_
      exact ih _ _ _ _ (by omega) ⟨k + 1, v + 1, rfl, (by omega), (by rw [ev, pu_ct_t (f := (fun j => decide (0 ≤ T j))) (decide_eq_true (pu_lt_of c_17))]), hP, hD, hS, lv_sub hl [2, 1, 0] rfl⟩
set_option maxHeartbeats 4000000 in
set_option maxRecDepth 100000 in
/-- with(set) -/
theorem cM_with (l : Launch) (dC : Nat → ClassId) (dI : Nat → Nat → Nat) (dS dZ dN : ClassId) (h0 h1 h2 h3 h4 sz pr : Nat) (S V : Nat → Nat) (T : Nat → Int32) (a : Nat) (ha : a < 256) : fd_MI l yX1_with (ws_ yX1_with cX1_with 4 (some .int)) 0 (dC, dI) (fd_ty dS dZ dN) [.ref h0, .int (nI a)] (wM h0 h1 h2 h3 h4 dZ dN pr S V T) sz (fun r (_ : Unit) => r = nI (pu_ct (fun i => decide (0 ≤ T (2 ^ i)) || decide (0 ≤ T (2 ^ i ^^^ a))) 8)) (fun _ => wM h0 h1 h2 h3 h4 dZ dN pr S V T) := by
  refine Met.ofW (cc := cX1_with) (maxL := 4) (ret := (some .int)) (by decide) rfl ?_
  intro p e s m args below meth c s₁ B hml hv
  obtain ⟨rfl, hsz, hP, hK, hD0⟩ := hv
  have hx := B.exec
  have hb := B.bytes
  have hr := B.returns
  have hts := atoms_spec (ws := ws_ yX1_with cX1_with 4 (some .int)) B.pre
  have hts : ∀ w ∈ lw_all, w.before _ s = true := fun w h => hts w (List.mem_cons_of_mem _ h)
  have hown : s.vm.findClass RX1 = some m.cls := findClass_of_methodNamed B.named
  have hlocks := B.notSynchronized
  subst hsz
  have hD := hD0.self (sz := s.heap.size)
  generalize hAe : va_A (wM h0 h1 h2 h3 h4 dZ dN pr S V T) s.heap.size = A at hD ⊢
  have hA : ∀ q : Nat, s.heap.size ≤ q → A q := fun q h => by rw [← hAe]; exact Or.inr h
  have hS : va_S A s.heap s.heap [] := va_S.rf
  have hP : va_P (dC, dI) vwCl (wM h0 h1 h2 h3 h4 dZ dN pr S V T) s.heap := hP
  have hl := lv_entry ([.ref h0, .int (nI a)]) (n := 4) (Nat.le_of_ble_eq_true rfl)
  rw [lg_entry_eq]
  generalize (lg_sl ([.ref h0, .int (nI a)]) ++ List.replicate (4 - (lg_sl ([.ref h0, .int (nI a)])).length) Slot.unset).toArray = ls at hl ⊢
  have hl : lv_has ls 4 [(0, .ref h0), (1, .int (nI a))] := hl
  refine lv_iconst (v := nI 0) hx hb dX1_with_0 (by decide) ?_
  refine lv_istore_n (lv' := [(2, .int (nI 0)), (0, .ref h0), (1, .int (nI a))]) hx hb dX1_with_1 rfl hl (by decide) rfl (fun ls hl => ?_)
  refine lv_iconst (v := nI 0) hx hb dX1_with_2 (by decide) ?_
  refine lv_istore_n (lv' := [(3, .int (nI 0)), (2, .int (nI 0)), (0, .ref h0), (1, .int (nI a))]) hx hb dX1_with_3 rfl hl (by decide) rfl (fun ls hl => ?_)
  refine fd_loop (fun n H locs ls => ∃ (k : Nat) (v : Nat), n = 8 - k ∧ (k ≤ 8) ∧ (v = pu_ct (fun i => decide (0 ≤ T (2 ^ i)) || decide (0 ≤ T (2 ^ i ^^^ a))) k) ∧ va_P (dC, dI) vwCl (wM h0 h1 h2 h3 h4 dZ dN pr S V T) H ∧ va_D A (wM h0 h1 h2 h3 h4 dZ dN pr S V T) ∧ va_S A s.heap H locs ∧ lv_has ls 4 [(0, .ref h0), (1, .int (nI a)), (2, .int (nI v)), (3, .int (nI k))]) _ ⟨0, 0, rfl, (by omega), rfl, hP, hD, hS, lv_sub hl [2, 3, 1, 0] rfl⟩ ?_
  rintro n H locs ls ⟨k, v, hms, hk, ev, hP, hD, hS, hl⟩ ih
  refine lv_iload_n hx hb dX1_with_4 rfl (lv_at hl 3 rfl) ?_
  refine lv_bipush (v := nI 8) hx hb dX1_with_5 (by decide) ?_
  refine fd_icmp_ge (tgt := 48) hx hb dX1_with_7 (by decide) (by omega) (by omega) (fun c_7 => ?_) (fun c_7 => ?_)
  · refine lv_iload_n hx hb dX1_with_48 rfl (lv_at hl 2 rfl) ?_
    exact fd_iret hx hb hr hlocks hK hS (v := nI v) () hP hD dX1_with_49 (by rw [ev, show k = 8 by omega])
  · have hp8 := pu_pow8 c_7
    have hp9 := pu_lt8 hp8 ha
    refine lv_aload_n hx hb dX1_with_10 rfl (lv_at hl 0 rfl) ?_
    refine va_get (D := (dC, dI)) (ci := 1) (v := .ref h4) (C := RX1) (T := TX1) (N := 4) hx hb hts in_X1 hown hK hP 0 rfl rfl 3 (by decide) (hts _ q162) (fun _ h9 => h9) rfl dX1_with_11 ?_
    refine lv_iconst (v := nI 1) hx hb dX1_with_14 (by decide) ?_
    refine lv_iload_n hx hb dX1_with_15 rfl (lv_at hl 3 rfl) ?_
    refine lv_ishl hx hb dX1_with_16 ?_
    refine fd_top (y := nI (2 ^ k)) (nx_shl1 (by omega)) ?_
    refine fd_tald hx hb hK hP 4 2 T rfl rfl (i := (2 ^ k)) (by omega) (by decide) dX1_with_17 ?_
    refine lv_if_ge (tgt := 34) hx hb dX1_with_18 (by decide) (fun c_18 => ?_) (fun c_18 => ?_)
    · refine lv_iload_n hx hb dX1_with_34 rfl (lv_at hl 2 rfl) ?_
      refine lv_iconst (v := nI 1) hx hb dX1_with_35 (by decide) ?_
      refine lv_iadd hx hb dX1_with_36 ?_
      refine fd_top (y := nI (v + 1)) (nI_add _ _) ?_
      refine lv_goto (tgt := 41) hx hb dX1_with_37 (by decide) ?_
      refine lv_istore_n (lv' := [(2, .int (nI (v + 1))), (0, .ref h0), (1, .int (nI a)), (3, .int (nI k))]) hx hb dX1_with_41 rfl hl (by decide) rfl (fun ls hl => ?_)
      refine lv_iinc (v := nI (k + 1)) (lv' := [(3, .int (nI (k + 1))), (2, .int (nI (v + 1))), (0, .ref h0), (1, .int (nI a))]) hx hb dX1_with_42 hl (k := 3) rfl (nI_1 _) (by decide) rfl (fun ls hl => ?_)
      refine lv_goto (tgt := 4) hx hb dX1_with_45 (by decide) ?_
      exact ih _ _ _ _ (by omega) ⟨k + 1, v + 1, rfl, (by omega), (by rw [ev, pu_ct_t (f := (fun i => decide (0 ≤ T (2 ^ i)) || decide (0 ≤ T (2 ^ i ^^^ a)))) (by show (decide _ || decide _) = true; rw [decide_eq_true c_18]; rfl)]), hP, hD, hS, lv_sub hl [2, 3, 1, 0] rfl⟩
    · refine lv_aload_n hx hb dX1_with_21 rfl (lv_at hl 0 rfl) ?_
      refine va_get (D := (dC, dI)) (ci := 1) (v := .ref h4) (C := RX1) (T := TX1) (N := 4) hx hb hts in_X1 hown hK hP 0 rfl rfl 3 (by decide) (hts _ q162) (fun _ h9 => h9) rfl dX1_with_22 ?_
      refine lv_iconst (v := nI 1) hx hb dX1_with_25 (by decide) ?_
      refine lv_iload_n hx hb dX1_with_26 rfl (lv_at hl 3 rfl) ?_
      refine lv_ishl hx hb dX1_with_27 ?_
      refine fd_top (y := nI (2 ^ k)) (nx_shl1 (by omega)) ?_
      refine lv_iload_n hx hb dX1_with_28 rfl (lv_at hl 1 rfl) ?_
      refine lv_ixor hx hb dX1_with_29 ?_
      refine fd_top (y := nI ((2 ^ k) ^^^ a)) (nx_xor _ _) ?_
      refine fd_tald hx hb hK hP 4 2 T rfl rfl (i := ((2 ^ k) ^^^ a)) (by omega) (by decide) dX1_with_30 ?_
      refine lv_if_lt (tgt := 40) hx hb dX1_with_31 (by decide) (fun c_31 => ?_) (fun c_31 => ?_)
      · refine lv_iload_n hx hb dX1_with_40 rfl (lv_at hl 2 rfl) ?_
        refine lv_istore_n (lv' := [(2, .int (nI v)), (0, .ref h0), (1, .int (nI a)), (3, .int (nI k))]) hx hb dX1_with_41 rfl hl (by decide) rfl (fun ls hl => ?_)
        refine lv_iinc (v := nI (k + 1)) (lv' := [(3, .int (nI (k + 1))), (2, .int (nI v)), (0, .ref h0), (1, .int (nI a))]) hx hb dX1_with_42 hl (k := 3) rfl (nI_1 _) (by decide) rfl (fun ls hl => ?_)
        refine lv_goto (tgt := 4) hx hb dX1_with_45 (by decide) ?_
        exact ih _ _ _ _ (by omega) ⟨k + 1, v, rfl, (by omega), (by rw [ev, pu_ct_f (f := (fun i => decide (0 ≤ T (2 ^ i)) || decide (0 ≤ T (2 ^ i ^^^ a)))) (by show (decide _ || decide _) = false; rw [decide_eq_false c_18, decide_eq_false (pu_nle c_31)]; rfl)]), hP, hD, hS, lv_sub hl [2, 3, 1, 0] rfl⟩
      · refine lv_iload_n hx hb dX1_with_34 rfl (lv_at hl 2 rfl) ?_
        refine lv_iconst (v := nI 1) hx hb dX1_with_35 (by decide) ?_
        refine lv_iadd hx hb dX1_with_36 ?_
        refine fd_top (y := nI (v + 1)) (nI_add _ _) ?_
        refine lv_goto (tgt := 41) hx hb dX1_with_37 (by decide) ?_
        refine lv_istore_n (lv' := [(2, .int (nI (v + 1))), (0, .ref h0), (1, .int (nI a)), (3, .int (nI k))]) hx hb dX1_with_41 rfl hl (by decide) rfl (fun ls hl => ?_)
        refine lv_iinc (v := nI (k + 1)) (lv' := [(3, .int (nI (k + 1))), (2, .int (nI (v + 1))), (0, .ref h0), (1, .int (nI a))]) hx hb dX1_with_42 hl (k := 3) rfl (nI_1 _) (by decide) rfl (fun ls hl => ?_)
        refine lv_goto (tgt := 4) hx hb dX1_with_45 (by decide) ?_
        exact ih _ _ _ _ (by omega) ⟨k + 1, v + 1, rfl, (by omega), (by rw [ev, pu_ct_t (f := (fun i => decide (0 ≤ T (2 ^ i)) || decide (0 ≤ T (2 ^ i ^^^ a)))) (by show (decide _ || decide _) = true; rw [decide_eq_true (pu_lt_of c_31), Bool.or_true])]), hP, hD, hS, lv_sub hl [2, 3, 1, 0] rfl⟩
set_option maxHeartbeats 4000000 in
set_option maxRecDepth 100000 in
/-- drops() -/
theorem cM_drops (l : Launch) (dC : Nat → ClassId) (dI : Nat → Nat → Nat) (dS dZ dN : ClassId) (h0 h1 h2 h3 h4 sz pr : Nat) (S V : Nat → Nat) (T : Nat → Int32) (hpr : pr < 1024) : fd_MI l yX1_drops (ws_ yX1_drops cX1_drops 3 (some .int)) 0 (dC, dI) (fd_ty dS dZ dN) [.ref h0] (wM h0 h1 h2 h3 h4 dZ dN pr S V T) sz (fun r (_ : Unit) => r = nI pr) (fun _ => wM h0 h1 h2 h3 h4 dZ dN pr S V T) := by
  refine Met.ofW (cc := cX1_drops) (maxL := 3) (ret := (some .int)) (by decide) rfl ?_
  intro p e s m args below meth c s₁ B hml hv
  obtain ⟨rfl, hsz, hP, hK, hD0⟩ := hv
  have hx := B.exec
  have hb := B.bytes
  have hr := B.returns
  have hts := atoms_spec (ws := ws_ yX1_drops cX1_drops 3 (some .int)) B.pre
  have hts : ∀ w ∈ lw_all, w.before _ s = true := fun w h => hts w (List.mem_cons_of_mem _ h)
  have hown : s.vm.findClass RX1 = some m.cls := findClass_of_methodNamed B.named
  have hlocks := B.notSynchronized
  subst hsz
  have hD := hD0.self (sz := s.heap.size)
  generalize hAe : va_A (wM h0 h1 h2 h3 h4 dZ dN pr S V T) s.heap.size = A at hD ⊢
  have hA : ∀ q : Nat, s.heap.size ≤ q → A q := fun q h => by rw [← hAe]; exact Or.inr h
  have hS : va_S A s.heap s.heap [] := va_S.rf
  have hP : va_P (dC, dI) vwCl (wM h0 h1 h2 h3 h4 dZ dN pr S V T) s.heap := hP
  have hl := lv_entry ([.ref h0]) (n := 3) (Nat.le_of_ble_eq_true rfl)
  rw [lg_entry_eq]
  generalize (lg_sl ([.ref h0]) ++ List.replicate (3 - (lg_sl ([.ref h0])).length) Slot.unset).toArray = ls at hl ⊢
  have hl : lv_has ls 3 [(0, .ref h0)] := hl
  refine lv_iconst (v := nI 0) hx hb dX1_drops_0 (by decide) ?_
  refine lv_istore_n (lv' := [(1, .int (nI 0)), (0, .ref h0)]) hx hb dX1_drops_1 rfl hl (by decide) rfl (fun ls hl => ?_)
  refine lv_iconst (v := nI 0) hx hb dX1_drops_2 (by decide) ?_
  refine lv_istore_n (lv' := [(2, .int (nI 0)), (1, .int (nI 0)), (0, .ref h0)]) hx hb dX1_drops_3 rfl hl (by decide) rfl (fun ls hl => ?_)
  refine fd_loop (fun n H locs ls => ∃ (k : Nat) (v : Nat), n = 10 - k ∧ (k ≤ 10) ∧ (v = pu_mk (fun j => pr.testBit j) k) ∧ va_P (dC, dI) vwCl (wM h0 h1 h2 h3 h4 dZ dN pr S V T) H ∧ va_D A (wM h0 h1 h2 h3 h4 dZ dN pr S V T) ∧ va_S A s.heap H locs ∧ lv_has ls 3 [(0, .ref h0), (1, .int (nI v)), (2, .int (nI k))]) _ ⟨0, 0, rfl, (by omega), rfl, hP, hD, hS, lv_sub hl [2, 1, 0] rfl⟩ ?_
  rintro n H locs ls ⟨k, v, hms, hk, ev, hP, hD, hS, hl⟩ ih
  refine lv_iload_n hx hb dX1_drops_4 rfl (lv_at hl 2 rfl) ?_
  refine lv_bipush (v := nI 10) hx hb dX1_drops_5 (by decide) ?_
  refine fd_icmp_ge (tgt := 35) hx hb dX1_drops_7 (by decide) (by omega) (by omega) (fun c_7 => ?_) (fun c_7 => ?_)
  · refine lv_iload_n hx hb dX1_drops_35 rfl (lv_at hl 1 rfl) ?_
    exact fd_iret hx hb hr hlocks hK hS (v := nI v) () hP hD dX1_drops_36 (by rw [ev, show k = 10 by omega, pu_mk_id hpr])
  · refine lv_aload_n hx hb dX1_drops_10 rfl (lv_at hl 0 rfl) ?_
    refine va_get (D := (dC, dI)) (ci := 1) (v := .ref h1) (C := RX1) (T := TX1) (N := 4) hx hb hts in_X1 hown hK hP 0 rfl rfl 0 (by decide) (hts _ q159) (fun _ h9 => h9) rfl dX1_drops_11 ?_
    refine lv_iload_n hx hb dX1_drops_14 rfl (lv_at hl 2 rfl) ?_
    refine fd_zald hx hb hK hP 1 1 pr rfl rfl (i := k) (by omega) (by decide) dX1_drops_15 ?_
    refine fd_bit_eq (tgt := 27) hx hb dX1_drops_16 (by decide) (fun c_16 => ?_) (fun c_16 => ?_)
    · refine lv_iload_n hx hb dX1_drops_27 rfl (lv_at hl 1 rfl) ?_
      refine lv_istore_n (lv' := [(1, .int (nI v)), (0, .ref h0), (2, .int (nI k))]) hx hb dX1_drops_28 rfl hl (by decide) rfl (fun ls hl => ?_)
      refine lv_iinc (v := nI (k + 1)) (lv' := [(2, .int (nI (k + 1))), (1, .int (nI v)), (0, .ref h0)]) hx hb dX1_drops_29 hl (k := 2) rfl (nI_1 _) (by decide) rfl (fun ls hl => ?_)
      refine lv_goto (tgt := 4) hx hb dX1_drops_32 (by decide) ?_
      exact ih _ _ _ _ (by omega) ⟨k + 1, v, rfl, (by omega), (ev.trans (pu_mk_fn (f := (fun j => pr.testBit j)) c_16).symm), hP, hD, hS, lv_sub hl [2, 1, 0] rfl⟩
    · refine lv_iload_n hx hb dX1_drops_19 rfl (lv_at hl 1 rfl) ?_
      refine lv_iconst (v := nI 1) hx hb dX1_drops_20 (by decide) ?_
      refine lv_iload_n hx hb dX1_drops_21 rfl (lv_at hl 2 rfl) ?_
      refine lv_ishl hx hb dX1_drops_22 ?_
      refine fd_top (y := nI (2 ^ k)) (nx_shl1 (by omega)) ?_
      refine lv_ior hx hb dX1_drops_23 ?_
      refine fd_top (y := nI (v ||| (2 ^ k))) (nx_or _ _) ?_
      refine lv_goto (tgt := 28) hx hb dX1_drops_24 (by decide) ?_
      refine lv_istore_n (lv' := [(1, .int (nI (v ||| (2 ^ k)))), (0, .ref h0), (2, .int (nI k))]) hx hb dX1_drops_28 rfl hl (by decide) rfl (fun ls hl => ?_)
      refine lv_iinc (v := nI (k + 1)) (lv' := [(2, .int (nI (k + 1))), (1, .int (nI (v ||| (2 ^ k)))), (0, .ref h0)]) hx hb dX1_drops_29 hl (k := 2) rfl (nI_1 _) (by decide) rfl (fun ls hl => ?_)
      refine lv_goto (tgt := 4) hx hb dX1_drops_32 (by decide) ?_
      exact ih _ _ _ _ (by omega) ⟨k + 1, v ||| 2 ^ k, rfl, (by omega), (by rw [ev]; simp only [pu_mk]; rw [if_pos c_16]), hP, hD, hS, lv_sub hl [2, 1, 0] rfl⟩
set_option maxHeartbeats 4000000 in
set_option maxRecDepth 100000 in
/-- drop(k) -/
theorem cM_drop (l : Launch) (dC : Nat → ClassId) (dI : Nat → Nat → Nat) (dS dZ dN : ClassId) (h0 h1 h2 h3 h4 sz pr : Nat) (S V : Nat → Nat) (T : Nat → Int32) (a0 : Int32) : fd_MI l yX1_drop (ws_ yX1_drop cX1_drop 2 (some .boolean)) 0 (dC, dI) (fd_ty dS dZ dN) [.ref h0, .int a0] (wM h0 h1 h2 h3 h4 dZ dN pr S V T) sz (fun r (u : Nat) => (r, u) = pu_dr pr a0) (fun (u : Nat) => wM h0 h1 h2 h3 h4 dZ dN u S V T) := by
  refine Met.ofW (cc := cX1_drop) (maxL := 2) (ret := (some .boolean)) (by decide) rfl ?_
  intro p e s m args below meth c s₁ B hml hv
  obtain ⟨rfl, hsz, hP, hK, hD0⟩ := hv
  have hx := B.exec
  have hb := B.bytes
  have hr := B.returns
  have hts := atoms_spec (ws := ws_ yX1_drop cX1_drop 2 (some .boolean)) B.pre
  have hts : ∀ w ∈ lw_all, w.before _ s = true := fun w h => hts w (List.mem_cons_of_mem _ h)
  have hown : s.vm.findClass RX1 = some m.cls := findClass_of_methodNamed B.named
  have hlocks := B.notSynchronized
  subst hsz
  have hD := hD0.self (sz := s.heap.size)
  generalize hAe : va_A (wM h0 h1 h2 h3 h4 dZ dN pr S V T) s.heap.size = A at hD ⊢
  have hA : ∀ q : Nat, s.heap.size ≤ q → A q := fun q h => by rw [← hAe]; exact Or.inr h
  have hS : va_S A s.heap s.heap [] := va_S.rf
  have hP : va_P (dC, dI) vwCl (wM h0 h1 h2 h3 h4 dZ dN pr S V T) s.heap := hP
  have hl := lv_entry ([.ref h0, .int a0]) (n := 2) (Nat.le_of_ble_eq_true rfl)
  rw [lg_entry_eq]
  generalize (lg_sl ([.ref h0, .int a0]) ++ List.replicate (2 - (lg_sl ([.ref h0, .int a0])).length) Slot.unset).toArray = ls at hl ⊢
  have hl : lv_has ls 2 [(0, .ref h0), (1, .int a0)] := hl
  refine lv_iload_n hx hb dX1_drop_0 rfl (lv_at hl 1 rfl) ?_
  refine lv_if_lt (tgt := 19) hx hb dX1_drop_1 (by decide) (fun c_1 => ?_) (fun c_1 => ?_)
  · refine lv_iconst (v := nI 0) hx hb dX1_drop_19 (by decide) ?_
    exact fd_zret hx hb hr hlocks hK hS (v := nI 0) (rfl) pr hP hD dX1_drop_20 (by rw [pu_dr_f (pu_has_lo c_1)]; rfl)
  · refine lv_iload_n hx hb dX1_drop_4 rfl (lv_at hl 1 rfl) ?_
    refine lv_bipush (v := nI 9) hx hb dX1_drop_5 (by decide) ?_
    refine lv_icmp_gt (tgt := 19) hx hb dX1_drop_7 (by decide) (fun (c_7 : 9 < a0) => ?_) (fun (c_7 : ¬ 9 < a0) => ?_)
    · refine lv_iconst (v := nI 0) hx hb dX1_drop_19 (by decide) ?_
      exact fd_zret hx hb hr hlocks hK hS (v := nI 0) (rfl) pr hP hD dX1_drop_20 (by rw [pu_dr_f (pu_has_hi (pu_gt9 c_7))]; rfl)
    · obtain ⟨k, hk, rfl⟩ := nI_of2 (n := 9) (M := 9) (by decide) c_1 (pu_lt_of c_7)
      refine lv_aload_n hx hb dX1_drop_10 rfl (lv_at hl 0 rfl) ?_
      refine va_get (D := (dC, dI)) (ci := 1) (v := .ref h1) (C := RX1) (T := TX1) (N := 4) hx hb hts in_X1 hown hK hP 0 rfl rfl 0 (by decide) (hts _ q159) (fun _ h9 => h9) rfl dX1_drop_11 ?_
      refine lv_iload_n hx hb dX1_drop_14 rfl (lv_at hl 1 rfl) ?_
      refine fd_zald hx hb hK hP 1 1 pr rfl rfl (i := k) (by omega) (by decide) dX1_drop_15 ?_
      refine fd_bit_ne (tgt := 21) hx hb dX1_drop_16 (by decide) (fun c_16 => ?_) (fun c_16 => ?_)
      · refine lv_aload_n hx hb dX1_drop_21 rfl (lv_at hl 0 rfl) ?_
        refine va_get (D := (dC, dI)) (ci := 1) (v := .ref h1) (C := RX1) (T := TX1) (N := 4) hx hb hts in_X1 hown hK hP 0 rfl rfl 0 (by decide) (hts _ q159) (fun _ h9 => h9) rfl dX1_drop_22 ?_
        refine lv_iload_n hx hb dX1_drop_25 rfl (lv_at hl 1 rfl) ?_
        refine lv_iconst (v := nI 0) hx hb dX1_drop_26 (by decide) ?_
        refine fd_zast hx hb hK hP hD hS 1 1 (fun j => nI (pr.testBit j).toNat) (fun j => nI ((pr ^^^ 2 ^ k).testBit j).toNat) rfl rfl (i := k) (by omega) (by decide) (fd_there0 pr k c_16) dX1_drop_27 (fun H locs hP hD hS => ?_)
        have hP : va_P (dC, dI) vwCl (wM h0 h1 h2 h3 h4 dZ dN (pr ^^^ 2 ^ k) S V T) H := hP
        have hD : va_D A (wM h0 h1 h2 h3 h4 dZ dN (pr ^^^ 2 ^ k) S V T) := hD
        refine lv_iconst (v := nI 1) hx hb dX1_drop_28 (by decide) ?_
        exact fd_zret hx hb hr hlocks hK hS (v := nI 1) (rfl) (pr ^^^ 2 ^ k) hP hD dX1_drop_29 (by rw [pu_dr_t (by omega) c_16]; rfl)
      · refine lv_iconst (v := nI 0) hx hb dX1_drop_19 (by decide) ?_
        exact fd_zret hx hb hr hlocks hK hS (v := nI 0) (rfl) pr hP hD dX1_drop_20 (by rw [pu_dr_f ((pu_has_nI (by omega)).trans c_16)]; rfl)
end
section
set_option maxHeartbeats 4000000 in
set_option maxRecDepth 100000 in
/-- work(some) -/
theorem cM_work (l : Launch) (dC : Nat → ClassId) (dI : Nat → Nat → Nat) (dS dZ dN : ClassId) (h0 h1 h2 h3 h4 sz pr : Nat) (S V : Nat → Nat) (T : Nat → Int32) (hB : ∀ j, j < 10 → S j < 256 ∧ V j < 256) (a0 : Int32) : fd_MV l yX1_work (ws_ yX1_work cX1_work 8 none) 0 (dC, dI) (fd_ty dS dZ dN) [.ref h0, .int a0] (wM h0 h1 h2 h3 h4 dZ dN pr S V T) sz (fun (u : Nat → Int32) => pu_tab (pr &&& pu_ib a0) S V u) (fun (u : Nat → Int32) => wM h0 h1 h2 h3 h4 dZ dN pr S V u) := by
  refine Met.ofW (cc := cX1_work) (maxL := 8) (ret := none) (by decide) rfl ?_
  intro p e s m args below meth c s₁ B hml hv
  obtain ⟨rfl, hsz, hP, hK, hD0⟩ := hv
  have hx := B.exec
  have hb := B.bytes
  have hr := B.returns
  have hts := atoms_spec (ws := ws_ yX1_work cX1_work 8 none) B.pre
  have hts : ∀ w ∈ lw_all, w.before _ s = true := fun w h => hts w (List.mem_cons_of_mem _ h)
  have hown : s.vm.findClass RX1 = some m.cls := findClass_of_methodNamed B.named
  have hlocks := B.notSynchronized
  subst hsz
  have hD := hD0.self (sz := s.heap.size)
  generalize hAe : va_A (wM h0 h1 h2 h3 h4 dZ dN pr S V T) s.heap.size = A at hD ⊢
  have hA : ∀ q : Nat, s.heap.size ≤ q → A q := fun q h => by rw [← hAe]; exact Or.inr h
  have hS : va_S A s.heap s.heap [] := va_S.rf
  have hP : va_P (dC, dI) vwCl (wM h0 h1 h2 h3 h4 dZ dN pr S V T) s.heap := hP
  have hl := lv_entry ([.ref h0, .int a0]) (n := 8) (Nat.le_of_ble_eq_true rfl)
  rw [lg_entry_eq]
  generalize (lg_sl ([.ref h0, .int a0]) ++ List.replicate (8 - (lg_sl ([.ref h0, .int a0])).length) Slot.unset).toArray = ls at hl ⊢
  have hl : lv_has ls 8 [(0, .ref h0), (1, .int a0)] := hl
  refine lv_iconst (v := nI 0) hx hb dX1_work_0 (by decide) ?_
  refine lv_istore_n (lv' := [(2, .int (nI 0)), (0, .ref h0), (1, .int a0)]) hx hb dX1_work_1 rfl hl (by decide) rfl (fun ls hl => ?_)
  refine fd_loop (fun n H locs ls => ∃ (k : Nat) (T1 : Nat → Int32), n = 256 - k ∧ (k ≤ 256) ∧ (∀ j, j < k → T1 j = -1) ∧ va_P (dC, dI) vwCl (wM h0 h1 h2 h3 h4 dZ dN pr S V T1) H ∧ va_D A (wM h0 h1 h2 h3 h4 dZ dN pr S V T1) ∧ va_S A s.heap H locs ∧ lv_has ls 8 [(0, .ref h0), (1, .int a0), (2, .int (nI k))]) _ ⟨0, T, rfl, (by omega), (fun j hj => absurd hj (Nat.not_lt_zero j)), hP, hD, hS, lv_sub hl [1, 2, 0] rfl⟩ ?_
  rintro n H locs ls ⟨k, T1, hms, hk, hz, hP, hD, hS, hl⟩ ih
  refine lv_iload_n hx hb dX1_work_2 rfl (lv_at hl 2 rfl) ?_
  refine lv_sipush (v := nI 256) hx hb dX1_work_3 (by decide) ?_
  refine fd_icmp_ge (tgt := 22) hx hb dX1_work_6 (by decide) (by omega) (by omega) (fun c_6 => ?_) (fun c_6 => ?_)
  · refine lv_iconst (v := nI 0) hx hb dX1_work_22 (by decide) ?_
    refine lv_istore_n (lv' := [(2, .int (nI 0)), (0, .ref h0), (1, .int a0)]) hx hb dX1_work_23 rfl hl (by decide) rfl (fun ls hl => ?_)
    refine fd_loop (fun n H locs ls => ∃ (q : Nat) (T1 : Nat → Int32), n = 1024 - q ∧ (q ≤ 1024) ∧ (pu_wk (pr &&& pu_ib a0) q S V T1) ∧ va_P (dC, dI) vwCl (wM h0 h1 h2 h3 h4 dZ dN pr S V T1) H ∧ va_D A (wM h0 h1 h2 h3 h4 dZ dN pr S V T1) ∧ va_S A s.heap H locs ∧ lv_has ls 8 [(0, .ref h0), (1, .int a0), (2, .int (nI q))]) _ ⟨0, T1, rfl, (by omega), (pu_wk0 (fun j hj => hz j (by omega))), hP, hD, hS, lv_sub hl [1, 2, 0] rfl⟩ ?_
    rintro n H locs ls ⟨q, T1, hms, hq, hW, hP, hD, hS, hl⟩ ih2
    refine lv_iload_n hx hb dX1_work_24 rfl (lv_at hl 2 rfl) ?_
    refine lv_sipush (v := nI 1024) hx hb dX1_work_25 (by decide) ?_
    refine fd_icmp_ge (tgt := 171) hx hb dX1_work_28 (by decide) (by omega) (by omega) (fun c_28 => ?_) (fun c_28 => ?_)
    · exact fd_vret hx hb hr hlocks hK hS T1 hP hD dX1_work_171 (by rw [show q = 1024 by omega] at hW; exact pu_wk_tab hW)
    · refine lv_iconst (v := nI 0) hx hb dX1_work_31 (by decide) ?_
      refine lv_istore_n (lv' := [(3, .int (nI 0)), (0, .ref h0), (1, .int a0), (2, .int (nI q))]) hx hb dX1_work_32 rfl hl (by decide) rfl (fun ls hl => ?_)
      refine lv_iconst (v := nI 0) hx hb dX1_work_33 (by decide) ?_
      refine lv_istore (lv' := [(4, .int (nI 0)), (3, .int (nI 0)), (0, .ref h0), (1, .int a0), (2, .int (nI q))]) hx hb dX1_work_34 hl (by decide) rfl (fun ls hl => ?_)
      refine lv_iload_n hx hb dX1_work_36 rfl (lv_at hl 4 rfl) ?_
      refine lv_iload_n hx hb dX1_work_37 rfl (lv_at hl 3 rfl) ?_
      refine lv_iconst (v := (-1)) hx hb dX1_work_38 (by decide) ?_
      refine lv_ixor hx hb dX1_work_39 ?_
      refine lv_iand hx hb dX1_work_40 ?_
      refine lv_if_ne (tgt := 48) hx hb dX1_work_41 (by decide) (fun c_41 => ?_) (fun c_41 => ?_)
      · refine lv_iconst (v := nI 0) hx hb dX1_work_48 (by decide) ?_
        refine lv_istore (lv' := [(5, .int (nI 0)), (4, .int (nI 0)), (3, .int (nI 0)), (0, .ref h0), (1, .int a0), (2, .int (nI q))]) hx hb dX1_work_49 hl (by decide) rfl (fun ls hl => ?_)
        refine lv_iconst (v := nI 0) hx hb dX1_work_51 (by decide) ?_
        refine lv_istore (lv' := [(6, .int (nI 0)), (5, .int (nI 0)), (4, .int (nI 0)), (3, .int (nI 0)), (0, .ref h0), (1, .int a0), (2, .int (nI q))]) hx hb dX1_work_52 hl (by decide) rfl (fun ls hl => ?_)
        refine fd_loop (fun n H locs ls => ∃ (k : Nat) (st : Nat) (vl : Nat) (ok : Bool), n = 10 - k ∧ (k ≤ 10) ∧ (st = pu_cb S k q) ∧ (vl = pu_cb V k q) ∧ (ok = true ↔ ((∀ j, j < 10 → q.testBit j = true → (pu_ib a0).testBit j = true) ∧ ∀ j, j < k → q.testBit j = true → pr.testBit j = true)) ∧ va_P (dC, dI) vwCl (wM h0 h1 h2 h3 h4 dZ dN pr S V T1) H ∧ va_D A (wM h0 h1 h2 h3 h4 dZ dN pr S V T1) ∧ va_S A s.heap H locs ∧ lv_has ls 8 [(0, .ref h0), (1, .int a0), (2, .int (nI q)), (3, .int (nI st)), (4, .int (nI vl)), (5, .int (nI ok.toNat)), (6, .int (nI k))]) _ ⟨0, 0, 0, false, rfl, (by omega), rfl, rfl, ⟨fun z => (by cases z), fun z => absurd ((nx_within (by omega) a0).mpr z.1) c_41⟩, hP, hD, hS, lv_sub hl [4, 5, 6, 3, 2, 1, 0] rfl⟩ ?_
        rintro n H locs ls ⟨k, st, vl, ok, hms, hk, est, evl, hok, hP, hD, hS, hl⟩ ih3
        refine lv_iload hx hb dX1_work_54 (lv_at hl 6 rfl) ?_
        refine lv_bipush (v := nI 10) hx hb dX1_work_56 (by decide) ?_
        refine fd_icmp_ge (tgt := 152) hx hb dX1_work_58 (by decide) (by omega) (by omega) (fun c_58 => ?_) (fun c_58 => ?_)
        · obtain rfl : k = 10 := by omega
          subst est
          subst evl
          have hst : pu_cb S 10 q < 256 := pu_cb_lt q (fun j hj => (hB j hj).1)
          refine lv_iload hx hb dX1_work_152 (lv_at hl 5 rfl) ?_
          refine fd_bit_eq (tgt := 165) hx hb dX1_work_154 (by decide) (fun c_154 => ?_) (fun c_154 => ?_)
          · refine lv_iinc (v := nI (q + 1)) (lv' := [(2, .int (nI (q + 1))), (0, .ref h0), (1, .int a0), (3, .int (nI (pu_cb S 10 q))), (4, .int (nI (pu_cb V 10 q))), (5, .int (nI ok.toNat)), (6, .int (nI 10))]) hx hb dX1_work_165 hl (k := 2) rfl (nI_1 _) (by decide) rfl (fun ls hl => ?_)
            refine lv_goto (tgt := 24) hx hb dX1_work_168 (by decide) ?_
            exact ih2 _ _ _ _ (by omega) ⟨q + 1, T1, rfl, (by omega), (pu_wkn hW (fun z => by have := hok.mpr (pu_valid.mpr z); rw [c_154] at this; cases this)), hP, hD, hS, lv_sub hl [1, 2, 0] rfl⟩
          · refine lv_aload_n hx hb dX1_work_157 rfl (lv_at hl 0 rfl) ?_
            refine va_get (D := (dC, dI)) (ci := 1) (v := .ref h4) (C := RX1) (T := TX1) (N := 4) hx hb hts in_X1 hown hK hP 0 rfl rfl 3 (by decide) (hts _ q162) (fun _ h9 => h9) rfl dX1_work_158 ?_
            refine lv_iload_n hx hb dX1_work_161 rfl (lv_at hl 3 rfl) ?_
            refine lv_iload hx hb dX1_work_162 (lv_at hl 4 rfl) ?_
            refine fd_tast hx hb hK hP hD hS 4 2 T1 rfl rfl (i := (pu_cb S 10 q)) (x := (nI (pu_cb V 10 q))) (by omega) (by decide) dX1_work_164 (fun H locs hP hD hS => ?_)
            have hP : va_P (dC, dI) vwCl (wM h0 h1 h2 h3 h4 dZ dN pr S V (upd T1 (pu_cb S 10 q) (nI (pu_cb V 10 q)))) H := hP
            have hD : va_D A (wM h0 h1 h2 h3 h4 dZ dN pr S V (upd T1 (pu_cb S 10 q) (nI (pu_cb V 10 q)))) := hD
            refine lv_iinc (v := nI (q + 1)) (lv' := [(2, .int (nI (q + 1))), (0, .ref h0), (1, .int a0), (3, .int (nI (pu_cb S 10 q))), (4, .int (nI (pu_cb V 10 q))), (5, .int (nI ok.toNat)), (6, .int (nI 10))]) hx hb dX1_work_165 hl (k := 2) rfl (nI_1 _) (by decide) rfl (fun ls hl => ?_)
            refine lv_goto (tgt := 24) hx hb dX1_work_168 (by decide) ?_
            exact ih2 _ _ _ _ (by omega) ⟨q + 1, upd T1 (pu_cb S 10 q) (nI (pu_cb V 10 q)), rfl, (by omega), (pu_wk1 hW (pu_valid.mp (hok.mp c_154))), hP, hD, hS, lv_sub hl [1, 2, 0] rfl⟩
        · refine lv_iload_n hx hb dX1_work_61 rfl (lv_at hl 2 rfl) ?_
          refine lv_iload hx hb dX1_work_62 (lv_at hl 6 rfl) ?_
          refine lv_ishr hx hb dX1_work_64 ?_
          refine lv_iconst (v := nI 1) hx hb dX1_work_65 (by decide) ?_
          refine lv_iand hx hb dX1_work_66 ?_
          refine fd_top (y := nI (q.testBit k).toNat) (nx_bit (by omega) (by omega)) ?_
          refine lv_iconst (v := nI 1) hx hb dX1_work_67 (by decide) ?_
          refine lv_icmp_ne (tgt := 75) hx hb dX1_work_68 (by decide) (fun (c_68 : ¬ (nI (q.testBit k).toNat) = 1) => ?_) (fun (c_68 : (nI (q.testBit k).toNat) = 1) => ?_)
          · have c_68 : q.testBit k = false := fd_bn c_68
            refine lv_iconst (v := nI 0) hx hb dX1_work_75 (by decide) ?_
            refine lv_istore (lv' := [(7, .int (nI 0)), (0, .ref h0), (1, .int a0), (2, .int (nI q)), (3, .int (nI st)), (4, .int (nI vl)), (5, .int (nI ok.toNat)), (6, .int (nI k))]) hx hb dX1_work_76 hl (by decide) rfl (fun ls hl => ?_)
            refine lv_iload hx hb dX1_work_78 (lv_at hl 6 rfl) ?_
            refine fd_bit_eq (tgt := 102) hx hb dX1_work_80 (by decide) (fun c_80 => ?_) (fun c_80 => ?_)
            · refine lv_iconst (v := nI 0) hx hb dX1_work_102 (by decide) ?_
              refine lv_istore (lv' := [(5, .int (nI 0)), (7, .int (nI 0)), (0, .ref h0), (1, .int a0), (2, .int (nI q)), (3, .int (nI st)), (4, .int (nI vl)), (6, .int (nI k))]) hx hb dX1_work_103 hl (by decide) rfl (fun ls hl => ?_)
              refine lv_iload hx hb dX1_work_105 (lv_at hl 1 rfl) ?_
              refine lv_if_eq (tgt := 122) hx hb dX1_work_107 (by decide) (fun _ => ?_) (fun h => absurd (by decide) h)
              refine lv_iload_n hx hb dX1_work_122 rfl (lv_at hl 5 rfl) ?_
              refine lv_istore_n (lv' := [(3, .int (nI st)), (5, .int (nI 0)), (7, .int (nI 0)), (0, .ref h0), (1, .int a0), (2, .int (nI q)), (4, .int (nI vl)), (6, .int (nI k))]) hx hb dX1_work_123 rfl hl (by decide) rfl (fun ls hl => ?_)
              refine lv_iload hx hb dX1_work_124 (lv_at hl 2 rfl) ?_
              refine lv_if_eq (tgt := 142) hx hb dX1_work_126 (by decide) (fun _ => ?_) (fun h => absurd (by decide) h)
              refine lv_iload hx hb dX1_work_142 (lv_at hl 6 rfl) ?_
              refine lv_istore (lv' := [(4, .int (nI vl)), (3, .int (nI st)), (5, .int (nI 0)), (7, .int (nI 0)), (0, .ref h0), (1, .int a0), (2, .int (nI q)), (6, .int (nI k))]) hx hb dX1_work_144 hl (by decide) rfl (fun ls hl => ?_)
              refine lv_iinc (v := nI (k + 1)) (lv' := [(6, .int (nI (k + 1))), (4, .int (nI vl)), (3, .int (nI st)), (5, .int (nI 0)), (7, .int (nI 0)), (0, .ref h0), (1, .int a0), (2, .int (nI q))]) hx hb dX1_work_146 hl (k := 7) rfl (nI_1 _) (by decide) rfl (fun ls hl => ?_)
              refine lv_goto (tgt := 54) hx hb dX1_work_149 (by decide) ?_
              exact ih3 _ _ _ _ (by omega) ⟨k + 1, st, vl, false, rfl, (by omega), (by rw [est, pu_cb_f c_68]), (by rw [evl, pu_cb_f c_68]), (pu_ok0 hok (Or.inl c_80)), hP, hD, hS, lv_sub hl [5, 6, 7, 2, 1, 3, 0] rfl⟩
            · refine lv_iload hx hb dX1_work_83 (lv_at hl 0 rfl) ?_
              refine lv_if_eq (tgt := 98) hx hb dX1_work_85 (by decide) (fun _ => ?_) (fun h => absurd (by decide) h)
              refine lv_iconst (v := nI 1) hx hb dX1_work_98 (by decide) ?_
              refine lv_goto (tgt := 103) hx hb dX1_work_99 (by decide) ?_
              refine lv_istore (lv' := [(5, .int (nI 1)), (7, .int (nI 0)), (0, .ref h0), (1, .int a0), (2, .int (nI q)), (3, .int (nI st)), (4, .int (nI vl)), (6, .int (nI k))]) hx hb dX1_work_103 hl (by decide) rfl (fun ls hl => ?_)
              refine lv_iload hx hb dX1_work_105 (lv_at hl 1 rfl) ?_
              refine lv_if_eq (tgt := 122) hx hb dX1_work_107 (by decide) (fun _ => ?_) (fun h => absurd (by decide) h)
              refine lv_iload_n hx hb dX1_work_122 rfl (lv_at hl 5 rfl) ?_
              refine lv_istore_n (lv' := [(3, .int (nI st)), (5, .int (nI 1)), (7, .int (nI 0)), (0, .ref h0), (1, .int a0), (2, .int (nI q)), (4, .int (nI vl)), (6, .int (nI k))]) hx hb dX1_work_123 rfl hl (by decide) rfl (fun ls hl => ?_)
              refine lv_iload hx hb dX1_work_124 (lv_at hl 2 rfl) ?_
              refine lv_if_eq (tgt := 142) hx hb dX1_work_126 (by decide) (fun _ => ?_) (fun h => absurd (by decide) h)
              refine lv_iload hx hb dX1_work_142 (lv_at hl 6 rfl) ?_
              refine lv_istore (lv' := [(4, .int (nI vl)), (3, .int (nI st)), (5, .int (nI 1)), (7, .int (nI 0)), (0, .ref h0), (1, .int a0), (2, .int (nI q)), (6, .int (nI k))]) hx hb dX1_work_144 hl (by decide) rfl (fun ls hl => ?_)
              refine lv_iinc (v := nI (k + 1)) (lv' := [(6, .int (nI (k + 1))), (4, .int (nI vl)), (3, .int (nI st)), (5, .int (nI 1)), (7, .int (nI 0)), (0, .ref h0), (1, .int a0), (2, .int (nI q))]) hx hb dX1_work_146 hl (k := 7) rfl (nI_1 _) (by decide) rfl (fun ls hl => ?_)
              refine lv_goto (tgt := 54) hx hb dX1_work_149 (by decide) ?_
              exact ih3 _ _ _ _ (by omega) ⟨k + 1, st, vl, true, rfl, (by omega), (by rw [est, pu_cb_f c_68]), (by rw [evl, pu_cb_f c_68]), (pu_ok1 hok c_80 (Or.inl c_68)), hP, hD, hS, lv_sub hl [5, 6, 7, 2, 1, 3, 0] rfl⟩
          · have c_68 : q.testBit k = true := fd_by c_68
            refine lv_iconst (v := nI 1) hx hb dX1_work_71 (by decide) ?_
            refine lv_goto (tgt := 76) hx hb dX1_work_72 (by decide) ?_
            refine lv_istore (lv' := [(7, .int (nI 1)), (0, .ref h0), (1, .int a0), (2, .int (nI q)), (3, .int (nI st)), (4, .int (nI vl)), (5, .int (nI ok.toNat)), (6, .int (nI k))]) hx hb dX1_work_76 hl (by decide) rfl (fun ls hl => ?_)
            refine lv_iload hx hb dX1_work_78 (lv_at hl 6 rfl) ?_
            refine fd_bit_eq (tgt := 102) hx hb dX1_work_80 (by decide) (fun c_80 => ?_) (fun c_80 => ?_)
            · refine lv_iconst (v := nI 0) hx hb dX1_work_102 (by decide) ?_
              refine lv_istore (lv' := [(5, .int (nI 0)), (7, .int (nI 1)), (0, .ref h0), (1, .int a0), (2, .int (nI q)), (3, .int (nI st)), (4, .int (nI vl)), (6, .int (nI k))]) hx hb dX1_work_103 hl (by decide) rfl (fun ls hl => ?_)
              refine lv_iload hx hb dX1_work_105 (lv_at hl 1 rfl) ?_
              refine lv_if_eq (tgt := 122) hx hb dX1_work_107 (by decide) (fun h => absurd h (by decide)) (fun _ => ?_)
              refine lv_iload_n hx hb dX1_work_110 rfl (lv_at hl 5 rfl) ?_
              refine lv_aload_n hx hb dX1_work_111 rfl (lv_at hl 2 rfl) ?_
              refine va_get (D := (dC, dI)) (ci := 1) (v := .ref h2) (C := RX1) (T := TX1) (N := 4) hx hb hts in_X1 hown hK hP 0 rfl rfl 1 (by decide) (hts _ q160) (fun _ h9 => h9) rfl dX1_work_112 ?_
              refine lv_iload hx hb dX1_work_115 (lv_at hl 7 rfl) ?_
              refine fd_iald hx hb hK hP 2 2 S rfl rfl (i := k) (by omega) (by decide) dX1_work_117 ?_
              refine lv_ixor hx hb dX1_work_118 ?_
              refine fd_top (y := nI (st ^^^ (S k))) (nx_xor _ _) ?_
              refine lv_goto (tgt := 123) hx hb dX1_work_119 (by decide) ?_
              refine lv_istore_n (lv' := [(3, .int (nI (st ^^^ (S k)))), (5, .int (nI 0)), (7, .int (nI 1)), (0, .ref h0), (1, .int a0), (2, .int (nI q)), (4, .int (nI vl)), (6, .int (nI k))]) hx hb dX1_work_123 rfl hl (by decide) rfl (fun ls hl => ?_)
              refine lv_iload hx hb dX1_work_124 (lv_at hl 2 rfl) ?_
              refine lv_if_eq (tgt := 142) hx hb dX1_work_126 (by decide) (fun h => absurd h (by decide)) (fun _ => ?_)
              refine lv_iload hx hb dX1_work_129 (lv_at hl 6 rfl) ?_
              refine lv_aload_n hx hb dX1_work_131 rfl (lv_at hl 3 rfl) ?_
              refine va_get (D := (dC, dI)) (ci := 1) (v := .ref h3) (C := RX1) (T := TX1) (N := 4) hx hb hts in_X1 hown hK hP 0 rfl rfl 2 (by decide) (hts _ q161) (fun _ h9 => h9) rfl dX1_work_132 ?_
              refine lv_iload hx hb dX1_work_135 (lv_at hl 7 rfl) ?_
              refine fd_iald hx hb hK hP 3 2 V rfl rfl (i := k) (by omega) (by decide) dX1_work_137 ?_
              refine lv_ixor hx hb dX1_work_138 ?_
              refine fd_top (y := nI (vl ^^^ (V k))) (nx_xor _ _) ?_
              refine lv_goto (tgt := 144) hx hb dX1_work_139 (by decide) ?_
              refine lv_istore (lv' := [(4, .int (nI (vl ^^^ (V k)))), (3, .int (nI (st ^^^ (S k)))), (5, .int (nI 0)), (7, .int (nI 1)), (0, .ref h0), (1, .int a0), (2, .int (nI q)), (6, .int (nI k))]) hx hb dX1_work_144 hl (by decide) rfl (fun ls hl => ?_)
              refine lv_iinc (v := nI (k + 1)) (lv' := [(6, .int (nI (k + 1))), (4, .int (nI (vl ^^^ (V k)))), (3, .int (nI (st ^^^ (S k)))), (5, .int (nI 0)), (7, .int (nI 1)), (0, .ref h0), (1, .int a0), (2, .int (nI q))]) hx hb dX1_work_146 hl (k := 7) rfl (nI_1 _) (by decide) rfl (fun ls hl => ?_)
              refine lv_goto (tgt := 54) hx hb dX1_work_149 (by decide) ?_
              exact ih3 _ _ _ _ (by omega) ⟨k + 1, st ^^^ S k, vl ^^^ V k, false, rfl, (by omega), (by rw [est, pu_cb_t c_68]), (by rw [evl, pu_cb_t c_68]), (pu_ok0 hok (Or.inl c_80)), hP, hD, hS, lv_sub hl [5, 6, 7, 2, 1, 3, 0] rfl⟩
            · refine lv_iload hx hb dX1_work_83 (lv_at hl 0 rfl) ?_
              refine lv_if_eq (tgt := 98) hx hb dX1_work_85 (by decide) (fun h => absurd h (by decide)) (fun _ => ?_)
              refine lv_aload_n hx hb dX1_work_88 rfl (lv_at hl 1 rfl) ?_
              refine va_get (D := (dC, dI)) (ci := 1) (v := .ref h1) (C := RX1) (T := TX1) (N := 4) hx hb hts in_X1 hown hK hP 0 rfl rfl 0 (by decide) (hts _ q159) (fun _ h9 => h9) rfl dX1_work_89 ?_
              refine lv_iload hx hb dX1_work_92 (lv_at hl 7 rfl) ?_
              refine fd_zald hx hb hK hP 1 1 pr rfl rfl (i := k) (by omega) (by decide) dX1_work_94 ?_
              refine fd_bit_eq (tgt := 102) hx hb dX1_work_95 (by decide) (fun c_95 => ?_) (fun c_95 => ?_)
              · refine lv_iconst (v := nI 0) hx hb dX1_work_102 (by decide) ?_
                refine lv_istore (lv' := [(5, .int (nI 0)), (7, .int (nI 1)), (0, .ref h0), (1, .int a0), (2, .int (nI q)), (3, .int (nI st)), (4, .int (nI vl)), (6, .int (nI k))]) hx hb dX1_work_103 hl (by decide) rfl (fun ls hl => ?_)
                refine lv_iload hx hb dX1_work_105 (lv_at hl 1 rfl) ?_
                refine lv_if_eq (tgt := 122) hx hb dX1_work_107 (by decide) (fun h => absurd h (by decide)) (fun _ => ?_)
                refine lv_iload_n hx hb dX1_work_110 rfl (lv_at hl 5 rfl) ?_
                refine lv_aload_n hx hb dX1_work_111 rfl (lv_at hl 2 rfl) ?_
                refine va_get (D := (dC, dI)) (ci := 1) (v := .ref h2) (C := RX1) (T := TX1) (N := 4) hx hb hts in_X1 hown hK hP 0 rfl rfl 1 (by decide) (hts _ q160) (fun _ h9 => h9) rfl dX1_work_112 ?_
                refine lv_iload hx hb dX1_work_115 (lv_at hl 7 rfl) ?_
                refine fd_iald hx hb hK hP 2 2 S rfl rfl (i := k) (by omega) (by decide) dX1_work_117 ?_
                refine lv_ixor hx hb dX1_work_118 ?_
                refine fd_top (y := nI (st ^^^ (S k))) (nx_xor _ _) ?_
                refine lv_goto (tgt := 123) hx hb dX1_work_119 (by decide) ?_
                refine lv_istore_n (lv' := [(3, .int (nI (st ^^^ (S k)))), (5, .int (nI 0)), (7, .int (nI 1)), (0, .ref h0), (1, .int a0), (2, .int (nI q)), (4, .int (nI vl)), (6, .int (nI k))]) hx hb dX1_work_123 rfl hl (by decide) rfl (fun ls hl => ?_)
                refine lv_iload hx hb dX1_work_124 (lv_at hl 2 rfl) ?_
                refine lv_if_eq (tgt := 142) hx hb dX1_work_126 (by decide) (fun h => absurd h (by decide)) (fun _ => ?_)
                refine lv_iload hx hb dX1_work_129 (lv_at hl 6 rfl) ?_
                refine lv_aload_n hx hb dX1_work_131 rfl (lv_at hl 3 rfl) ?_
                refine va_get (D := (dC, dI)) (ci := 1) (v := .ref h3) (C := RX1) (T := TX1) (N := 4) hx hb hts in_X1 hown hK hP 0 rfl rfl 2 (by decide) (hts _ q161) (fun _ h9 => h9) rfl dX1_work_132 ?_
                refine lv_iload hx hb dX1_work_135 (lv_at hl 7 rfl) ?_
                refine fd_iald hx hb hK hP 3 2 V rfl rfl (i := k) (by omega) (by decide) dX1_work_137 ?_
                refine lv_ixor hx hb dX1_work_138 ?_
                refine fd_top (y := nI (vl ^^^ (V k))) (nx_xor _ _) ?_
                refine lv_goto (tgt := 144) hx hb dX1_work_139 (by decide) ?_
                refine lv_istore (lv' := [(4, .int (nI (vl ^^^ (V k)))), (3, .int (nI (st ^^^ (S k)))), (5, .int (nI 0)), (7, .int (nI 1)), (0, .ref h0), (1, .int a0), (2, .int (nI q)), (6, .int (nI k))]) hx hb dX1_work_144 hl (by decide) rfl (fun ls hl => ?_)
                refine lv_iinc (v := nI (k + 1)) (lv' := [(6, .int (nI (k + 1))), (4, .int (nI (vl ^^^ (V k)))), (3, .int (nI (st ^^^ (S k)))), (5, .int (nI 0)), (7, .int (nI 1)), (0, .ref h0), (1, .int a0), (2, .int (nI q))]) hx hb dX1_work_146 hl (k := 7) rfl (nI_1 _) (by decide) rfl (fun ls hl => ?_)
                refine lv_goto (tgt := 54) hx hb dX1_work_149 (by decide) ?_
                exact ih3 _ _ _ _ (by omega) ⟨k + 1, st ^^^ S k, vl ^^^ V k, false, rfl, (by omega), (by rw [est, pu_cb_t c_68]), (by rw [evl, pu_cb_t c_68]), (pu_ok0 hok (Or.inr ⟨c_68, c_95⟩)), hP, hD, hS, lv_sub hl [5, 6, 7, 2, 1, 3, 0] rfl⟩
              · refine lv_iconst (v := nI 1) hx hb dX1_work_98 (by decide) ?_
                refine lv_goto (tgt := 103) hx hb dX1_work_99 (by decide) ?_
                refine lv_istore (lv' := [(5, .int (nI 1)), (7, .int (nI 1)), (0, .ref h0), (1, .int a0), (2, .int (nI q)), (3, .int (nI st)), (4, .int (nI vl)), (6, .int (nI k))]) hx hb dX1_work_103 hl (by decide) rfl (fun ls hl => ?_)
                refine lv_iload hx hb dX1_work_105 (lv_at hl 1 rfl) ?_
                refine lv_if_eq (tgt := 122) hx hb dX1_work_107 (by decide) (fun h => absurd h (by decide)) (fun _ => ?_)
                refine lv_iload_n hx hb dX1_work_110 rfl (lv_at hl 5 rfl) ?_
                refine lv_aload_n hx hb dX1_work_111 rfl (lv_at hl 2 rfl) ?_
                refine va_get (D := (dC, dI)) (ci := 1) (v := .ref h2) (C := RX1) (T := TX1) (N := 4) hx hb hts in_X1 hown hK hP 0 rfl rfl 1 (by decide) (hts _ q160) (fun _ h9 => h9) rfl dX1_work_112 ?_
                refine lv_iload hx hb dX1_work_115 (lv_at hl 7 rfl) ?_
                refine fd_iald hx hb hK hP 2 2 S rfl rfl (i := k) (by omega) (by decide) dX1_work_117 ?_
                refine lv_ixor hx hb dX1_work_118 ?_
                refine fd_top (y := nI (st ^^^ (S k))) (nx_xor _ _) ?_
                refine lv_goto (tgt := 123) hx hb dX1_work_119 (by decide) ?_
                refine lv_istore_n (lv' := [(3, .int (nI (st ^^^ (S k)))), (5, .int (nI 1)), (7, .int (nI 1)), (0, .ref h0), (1, .int a0), (2, .int (nI q)), (4, .int (nI vl)), (6, .int (nI k))]) hx hb dX1_work_123 rfl hl (by decide) rfl (fun ls hl => ?_)
                refine lv_iload hx hb dX1_work_124 (lv_at hl 2 rfl) ?_
                refine lv_if_eq (tgt := 142) hx hb dX1_work_126 (by decide) (fun h => absurd h (by decide)) (fun _ => ?_)
                refine lv_iload hx hb dX1_work_129 (lv_at hl 6 rfl) ?_
                refine lv_aload_n hx hb dX1_work_131 rfl (lv_at hl 3 rfl) ?_
                refine va_get (D := (dC, dI)) (ci := 1) (v := .ref h3) (C := RX1) (T := TX1) (N := 4) hx hb hts in_X1 hown hK hP 0 rfl rfl 2 (by decide) (hts _ q161) (fun _ h9 => h9) rfl dX1_work_132 ?_
                refine lv_iload hx hb dX1_work_135 (lv_at hl 7 rfl) ?_
                refine fd_iald hx hb hK hP 3 2 V rfl rfl (i := k) (by omega) (by decide) dX1_work_137 ?_
                refine lv_ixor hx hb dX1_work_138 ?_
                refine fd_top (y := nI (vl ^^^ (V k))) (nx_xor _ _) ?_
                refine lv_goto (tgt := 144) hx hb dX1_work_139 (by decide) ?_
                refine lv_istore (lv' := [(4, .int (nI (vl ^^^ (V k)))), (3, .int (nI (st ^^^ (S k)))), (5, .int (nI 1)), (7, .int (nI 1)), (0, .ref h0), (1, .int a0), (2, .int (nI q)), (6, .int (nI k))]) hx hb dX1_work_144 hl (by decide) rfl (fun ls hl => ?_)
                refine lv_iinc (v := nI (k + 1)) (lv' := [(6, .int (nI (k + 1))), (4, .int (nI (vl ^^^ (V k)))), (3, .int (nI (st ^^^ (S k)))), (5, .int (nI 1)), (7, .int (nI 1)), (0, .ref h0), (1, .int a0), (2, .int (nI q))]) hx hb dX1_work_146 hl (k := 7) rfl (nI_1 _) (by decide) rfl (fun ls hl => ?_)
                refine lv_goto (tgt := 54) hx hb dX1_work_149 (by decide) ?_
                exact ih3 _ _ _ _ (by omega) ⟨k + 1, st ^^^ S k, vl ^^^ V k, true, rfl, (by omega), (by rw [est, pu_cb_t c_68]), (by rw [evl, pu_cb_t c_68]), (pu_ok1 hok c_80 (Or.inr c_95)), hP, hD, hS, lv_sub hl [5, 6, 7, 2, 1, 3, 0] rfl⟩
      · refine lv_iconst (v := nI 1) hx hb dX1_work_44 (by decide) ?_
        refine lv_goto (tgt := 49) hx hb dX1_work_45 (by decide) ?_
        refine lv_istore (lv' := [(5, .int (nI 1)), (4, .int (nI 0)), (3, .int (nI 0)), (0, .ref h0), (1, .int a0), (2, .int (nI q))]) hx hb dX1_work_49 hl (by decide) rfl (fun ls hl => ?_)
        refine lv_iconst (v := nI 0) hx hb dX1_work_51 (by decide) ?_
        refine lv_istore (lv' := [(6, .int (nI 0)), (5, .int (nI 1)), (4, .int (nI 0)), (3, .int (nI 0)), (0, .ref h0), (1, .int a0), (2, .int (nI q))]) hx hb dX1_work_52 hl (by decide) rfl (fun ls hl => ?_)
        refine fd_loop (fun n H locs ls => ∃ (k : Nat) (st : Nat) (vl : Nat) (ok : Bool), n = 10 - k ∧ (k ≤ 10) ∧ (st = pu_cb S k q) ∧ (vl = pu_cb V k q) ∧ (ok = true ↔ ((∀ j, j < 10 → q.testBit j = true → (pu_ib a0).testBit j = true) ∧ ∀ j, j < k → q.testBit j = true → pr.testBit j = true)) ∧ va_P (dC, dI) vwCl (wM h0 h1 h2 h3 h4 dZ dN pr S V T1) H ∧ va_D A (wM h0 h1 h2 h3 h4 dZ dN pr S V T1) ∧ va_S A s.heap H locs ∧ lv_has ls 8 [(0, .ref h0), (1, .int a0), (2, .int (nI q)), (3, .int (nI st)), (4, .int (nI vl)), (5, .int (nI ok.toNat)), (6, .int (nI k))]) _ ⟨0, 0, 0, true, rfl, (by omega), rfl, rfl, ⟨fun _ => ⟨(nx_within (by omega) a0).mp c_41, fun j hj => absurd hj (Nat.not_lt_zero j)⟩, fun _ => rfl⟩, hP, hD, hS, lv_sub hl [4, 5, 6, 3, 2, 1, 0] rfl⟩ ?_
        rintro n H locs ls ⟨k, st, vl, ok, hms, hk, est, evl, hok, hP, hD, hS, hl⟩ ih3
        refine lv_iload hx hb dX1_work_54 (lv_at hl 6 rfl) ?_
        refine lv_bipush (v := nI 10) hx hb dX1_work_56 (by decide) ?_
        refine fd_icmp_ge (tgt := 152) hx hb dX1_work_58 (by decide) (by omega) (by omega) (fun c_58 => ?_) (fun c_58 => ?_)
        · obtain rfl : k = 10 := by omega
          subst est
          subst evl
          have hst : pu_cb S 10 q < 256 := pu_cb_lt q (fun j hj => (hB j hj).1)
          refine lv_iload hx hb dX1_work_152 (lv_at hl 5 rfl) ?_
          refine fd_bit_eq (tgt := 165) hx hb dX1_work_154 (by decide) (fun c_154 => ?_) (fun c_154 => ?_)
          · refine lv_iinc (v := nI (q + 1)) (lv' := [(2, .int (nI (q + 1))), (0, .ref h0), (1, .int a0), (3, .int (nI (pu_cb S 10 q))), (4, .int (nI (pu_cb V 10 q))), (5, .int (nI ok.toNat)), (6, .int (nI 10))]) hx hb dX1_work_165 hl (k := 2) rfl (nI_1 _) (by decide) rfl (fun ls hl => ?_)
            refine lv_goto (tgt := 24) hx hb dX1_work_168 (by decide) ?_
            exact ih2 _ _ _ _ (by omega) ⟨q + 1, T1, rfl, (by omega), (pu_wkn hW (fun z => by have := hok.mpr (pu_valid.mpr z); rw [c_154] at this; cases this)), hP, hD, hS, lv_sub hl [1, 2, 0] rfl⟩
          · refine lv_aload_n hx hb dX1_work_157 rfl (lv_at hl 0 rfl) ?_
            refine va_get (D := (dC, dI)) (ci := 1) (v := .ref h4) (C := RX1) (T := TX1) (N := 4) hx hb hts in_X1 hown hK hP 0 rfl rfl 3 (by decide) (hts _ q162) (fun _ h9 => h9) rfl dX1_work_158 ?_
            refine lv_iload_n hx hb dX1_work_161 rfl (lv_at hl 3 rfl) ?_
            refine lv_iload hx hb dX1_work_162 (lv_at hl 4 rfl) ?_
            refine fd_tast hx hb hK hP hD hS 4 2 T1 rfl rfl (i := (pu_cb S 10 q)) (x := (nI (pu_cb V 10 q))) (by omega) (by decide) dX1_work_164 (fun H locs hP hD hS => ?_)
            have hP : va_P (dC, dI) vwCl (wM h0 h1 h2 h3 h4 dZ dN pr S V (upd T1 (pu_cb S 10 q) (nI (pu_cb V 10 q)))) H := hP
            have hD : va_D A (wM h0 h1 h2 h3 h4 dZ dN pr S V (upd T1 (pu_cb S 10 q) (nI (pu_cb V 10 q)))) := hD
            refine lv_iinc (v := nI (q + 1)) (lv' := [(2, .int (nI (q + 1))), (0, .ref h0), (1, .int a0), (3, .int (nI (pu_cb S 10 q))), (4, .int (nI (pu_cb V 10 q))), (5, .int (nI ok.toNat)), (6, .int (nI 10))]) hx hb dX1_work_165 hl (k := 2) rfl (nI_1 _) (by decide) rfl (fun ls hl => ?_)
            refine lv_goto (tgt := 24) hx hb dX1_work_168 (by decide) ?_
            exact ih2 _ _ _ _ (by omega) ⟨q + 1, upd T1 (pu_cb S 10 q) (nI (pu_cb V 10 q)), rfl, (by omega), (pu_wk1 hW (pu_valid.mp (hok.mp c_154))), hP, hD, hS, lv_sub hl [1, 2, 0] rfl⟩
        · refine lv_iload_n hx hb dX1_work_61 rfl (lv_at hl 2 rfl) ?_
          refine lv_iload hx hb dX1_work_62 (lv_at hl 6 rfl) ?_
          refine lv_ishr hx hb dX1_work_64 ?_
          refine lv_iconst (v := nI 1) hx hb dX1_work_65 (by decide) ?_
          refine lv_iand hx hb dX1_work_66 ?_
          refine fd_top (y := nI (q.testBit k).toNat) (nx_bit (by omega) (by omega)) ?_
          refine lv_iconst (v := nI 1) hx hb dX1_work_67 (by decide) ?_
          refine lv_icmp_ne (tgt := 75) hx hb dX1_work_68 (by decide) (fun (c_68 : ¬ (nI (q.testBit k).toNat) = 1) => ?_) (fun (c_68 : (nI (q.testBit k).toNat) = 1) => ?_)
          · have c_68 : q.testBit k = false := fd_bn c_68
            refine lv_iconst (v := nI 0) hx hb dX1_work_75 (by decide) ?_
            refine lv_istore (lv' := [(7, .int (nI 0)), (0, .ref h0), (1, .int a0), (2, .int (nI q)), (3, .int (nI st)), (4, .int (nI vl)), (5, .int (nI ok.toNat)), (6, .int (nI k))]) hx hb dX1_work_76 hl (by decide) rfl (fun ls hl => ?_)
            refine lv_iload hx hb dX1_work_78 (lv_at hl 6 rfl) ?_
            refine fd_bit_eq (tgt := 102) hx hb dX1_work_80 (by decide) (fun c_80 => ?_) (fun c_80 => ?_)
            · refine lv_iconst (v := nI 0) hx hb dX1_work_102 (by decide) ?_
              refine lv_istore (lv' := [(5, .int (nI 0)), (7, .int (nI 0)), (0, .ref h0), (1, .int a0), (2, .int (nI q)), (3, .int (nI st)), (4, .int (nI vl)), (6, .int (nI k))]) hx hb dX1_work_103 hl (by decide) rfl (fun ls hl => ?_)
              refine lv_iload hx hb dX1_work_105 (lv_at hl 1 rfl) ?_
              refine lv_if_eq (tgt := 122) hx hb dX1_work_107 (by decide) (fun _ => ?_) (fun h => absurd (by decide) h)
              refine lv_iload_n hx hb dX1_work_122 rfl (lv_at hl 5 rfl) ?_
              refine lv_istore_n (lv' := [(3, .int (nI st)), (5, .int (nI 0)), (7, .int (nI 0)), (0, .ref h0), (1, .int a0), (2, .int (nI q)), (4, .int (nI vl)), (6, .int (nI k))]) hx hb dX1_work_123 rfl hl (by decide) rfl (fun ls hl => ?_)
              refine lv_iload hx hb dX1_work_124 (lv_at hl 2 rfl) ?_
              refine lv_if_eq (tgt := 142) hx hb dX1_work_126 (by decide) (fun _ => ?_) (fun h => absurd (by decide) h)
              refine lv_iload hx hb dX1_work_142 (lv_at hl 6 rfl) ?_
              refine lv_istore (lv' := [(4, .int (nI vl)), (3, .int (nI st)), (5, .int (nI 0)), (7, .int (nI 0)), (0, .ref h0), (1, .int a0), (2, .int (nI q)), (6, .int (nI k))]) hx hb dX1_work_144 hl (by decide) rfl (fun ls hl => ?_)
              refine lv_iinc (v := nI (k + 1)) (lv' := [(6, .int (nI (k + 1))), (4, .int (nI vl)), (3, .int (nI st)), (5, .int (nI 0)), (7, .int (nI 0)), (0, .ref h0), (1, .int a0), (2, .int (nI q))]) hx hb dX1_work_146 hl (k := 7) rfl (nI_1 _) (by decide) rfl (fun ls hl => ?_)
              refine lv_goto (tgt := 54) hx hb dX1_work_149 (by decide) ?_
              exact ih3 _ _ _ _ (by omega) ⟨k + 1, st, vl, false, rfl, (by omega), (by rw [est, pu_cb_f c_68]), (by rw [evl, pu_cb_f c_68]), (pu_ok0 hok (Or.inl c_80)), hP, hD, hS, lv_sub hl [5, 6, 7, 2, 1, 3, 0] rfl⟩
            · refine lv_iload hx hb dX1_work_83 (lv_at hl 0 rfl) ?_
              refine lv_if_eq (tgt := 98) hx hb dX1_work_85 (by decide) (fun _ => ?_) (fun h => absurd (by decide) h)
              refine lv_iconst (v := nI 1) hx hb dX1_work_98 (by decide) ?_
              refine lv_goto (tgt := 103) hx hb dX1_work_99 (by decide) ?_
              refine lv_istore (lv' := [(5, .int (nI 1)), (7, .int (nI 0)), (0, .ref h0), (1, .int a0), (2, .int (nI q)), (3, .int (nI st)), (4, .int (nI vl)), (6, .int (nI k))]) hx hb dX1_work_103 hl (by decide) rfl (fun ls hl => ?_)
              refine lv_iload hx hb dX1_work_105 (lv_at hl 1 rfl) ?_
              refine lv_if_eq (tgt := 122) hx hb dX1_work_107 (by decide) (fun _ => ?_) (fun h => absurd (by decide) h)
              refine lv_iload_n hx hb dX1_work_122 rfl (lv_at hl 5 rfl) ?_
              refine lv_istore_n (lv' := [(3, .int (nI st)), (5, .int (nI 1)), (7, .int (nI 0)), (0, .ref h0), (1, .int a0), (2, .int (nI q)), (4, .int (nI vl)), (6, .int (nI k))]) hx hb dX1_work_123 rfl hl (by decide) rfl (fun ls hl => ?_)
              refine lv_iload hx hb dX1_work_124 (lv_at hl 2 rfl) ?_
              refine lv_if_eq (tgt := 142) hx hb dX1_work_126 (by decide) (fun _ => ?_) (fun h => absurd (by decide) h)
              refine lv_iload hx hb dX1_work_142 (lv_at hl 6 rfl) ?_
              refine lv_istore (lv' := [(4, .int (nI vl)), (3, .int (nI st)), (5, .int (nI 1)), (7, .int (nI 0)), (0, .ref h0), (1, .int a0), (2, .int (nI q)), (6, .int (nI k))]) hx hb dX1_work_144 hl (by decide) rfl (fun ls hl => ?_)
              refine lv_iinc (v := nI (k + 1)) (lv' := [(6, .int (nI (k + 1))), (4, .int (nI vl)), (3, .int (nI st)), (5, .int (nI 1)), (7, .int (nI 0)), (0, .ref h0), (1, .int a0), (2, .int (nI q))]) hx hb dX1_work_146 hl (k := 7) rfl (nI_1 _) (by decide) rfl (fun ls hl => ?_)
              refine lv_goto (tgt := 54) hx hb dX1_work_149 (by decide) ?_
              exact ih3 _ _ _ _ (by omega) ⟨k + 1, st, vl, true, rfl, (by omega), (by rw [est, pu_cb_f c_68]), (by rw [evl, pu_cb_f c_68]), (pu_ok1 hok c_80 (Or.inl c_68)), hP, hD, hS, lv_sub hl [5, 6, 7, 2, 1, 3, 0] rfl⟩
          · have c_68 : q.testBit k = true := fd_by c_68
            refine lv_iconst (v := nI 1) hx hb dX1_work_71 (by decide) ?_
            refine lv_goto (tgt := 76) hx hb dX1_work_72 (by decide) ?_
            refine lv_istore (lv' := [(7, .int (nI 1)), (0, .ref h0), (1, .int a0), (2, .int (nI q)), (3, .int (nI st)), (4, .int (nI vl)), (5, .int (nI ok.toNat)), (6, .int (nI k))]) hx hb dX1_work_76 hl (by decide) rfl (fun ls hl => ?_)
            refine lv_iload hx hb dX1_work_78 (lv_at hl 6 rfl) ?_
            refine fd_bit_eq (tgt := 102) hx hb dX1_work_80 (by decide) (fun c_80 => ?_) (fun c_80 => ?_)
            · refine lv_iconst (v := nI 0) hx hb dX1_work_102 (by decide) ?_
              refine lv_istore (lv' := [(5, .int (nI 0)), (7, .int (nI 1)), (0, .ref h0), (1, .int a0), (2, .int (nI q)), (3, .int (nI st)), (4, .int (nI vl)), (6, .int (nI k))]) hx hb dX1_work_103 hl (by decide) rfl (fun ls hl => ?_)
              refine lv_iload hx hb dX1_work_105 (lv_at hl 1 rfl) ?_
              refine lv_if_eq (tgt := 122) hx hb dX1_work_107 (by decide) (fun h => absurd h (by decide)) (fun _ => ?_)
              refine lv_iload_n hx hb dX1_work_110 rfl (lv_at hl 5 rfl) ?_
              refine lv_aload_n hx hb dX1_work_111 rfl (lv_at hl 2 rfl) ?_
              refine va_get (D := (dC, dI)) (ci := 1) (v := .ref h2) (C := RX1) (T := TX1) (N := 4) hx hb hts in_X1 hown hK hP 0 rfl rfl 1 (by decide) (hts _ q160) (fun _ h9 => h9) rfl dX1_work_112 ?_
              refine lv_iload hx hb dX1_work_115 (lv_at hl 7 rfl) ?_
              refine fd_iald hx hb hK hP 2 2 S rfl rfl (i := k) (by omega) (by decide) dX1_work_117 ?_
              refine lv_ixor hx hb dX1_work_118 ?_
              refine fd_top (y := nI (st ^^^ (S k))) (nx_xor _ _) ?_
              refine lv_goto (tgt := 123) hx hb dX1_work_119 (by decide) ?_
              refine lv_istore_n (lv' := [(3, .int (nI (st ^^^ (S k)))), (5, .int (nI 0)), (7, .int (nI 1)), (0, .ref h0), (1, .int a0), (2, .int (nI q)), (4, .int (nI vl)), (6, .int (nI k))]) hx hb dX1_work_123 rfl hl (by decide) rfl (fun ls hl => ?_)
              refine lv_iload hx hb dX1_work_124 (lv_at hl 2 rfl) ?_
              refine lv_if_eq (tgt := 142) hx hb dX1_work_126 (by decide) (fun h => absurd h (by decide)) (fun _ => ?_)
              refine lv_iload hx hb dX1_work_129 (lv_at hl 6 rfl) ?_
              refine lv_aload_n hx hb dX1_work_131 rfl (lv_at hl 3 rfl) ?_
              refine va_get (D := (dC, dI)) (ci := 1) (v := .ref h3) (C := RX1) (T := TX1) (N := 4) hx hb hts in_X1 hown hK hP 0 rfl rfl 2 (by decide) (hts _ q161) (fun _ h9 => h9) rfl dX1_work_132 ?_
              refine lv_iload hx hb dX1_work_135 (lv_at hl 7 rfl) ?_
              refine fd_iald hx hb hK hP 3 2 V rfl rfl (i := k) (by omega) (by decide) dX1_work_137 ?_
              refine lv_ixor hx hb dX1_work_138 ?_
              refine fd_top (y := nI (vl ^^^ (V k))) (nx_xor _ _) ?_
              refine lv_goto (tgt := 144) hx hb dX1_work_139 (by decide) ?_
              refine lv_istore (lv' := [(4, .int (nI (vl ^^^ (V k)))), (3, .int (nI (st ^^^ (S k)))), (5, .int (nI 0)), (7, .int (nI 1)), (0, .ref h0), (1, .int a0), (2, .int (nI q)), (6, .int (nI k))]) hx hb dX1_work_144 hl (by decide) rfl (fun ls hl => ?_)
              refine lv_iinc (v := nI (k + 1)) (lv' := [(6, .int (nI (k + 1))), (4, .int (nI (vl ^^^ (V k)))), (3, .int (nI (st ^^^ (S k)))), (5, .int (nI 0)), (7, .int (nI 1)), (0, .ref h0), (1, .int a0), (2, .int (nI q))]) hx hb dX1_work_146 hl (k := 7) rfl (nI_1 _) (by decide) rfl (fun ls hl => ?_)
              refine lv_goto (tgt := 54) hx hb dX1_work_149 (by decide) ?_
              exact ih3 _ _ _ _ (by omega) ⟨k + 1, st ^^^ S k, vl ^^^ V k, false, rfl, (by omega), (by rw [est, pu_cb_t c_68]), (by rw [evl, pu_cb_t c_68]), (pu_ok0 hok (Or.inl c_80)), hP, hD, hS, lv_sub hl [5, 6, 7, 2, 1, 3, 0] rfl⟩
            · refine lv_iload hx hb dX1_work_83 (lv_at hl 0 rfl) ?_
              refine lv_if_eq (tgt := 98) hx hb dX1_work_85 (by decide) (fun h => absurd h (by decide)) (fun _ => ?_)
              refine lv_aload_n hx hb dX1_work_88 rfl (lv_at hl 1 rfl) ?_
              refine va_get (D := (dC, dI)) (ci := 1) (v := .ref h1) (C := RX1) (T := TX1) (N := 4) hx hb hts in_X1 hown hK hP 0 rfl rfl 0 (by decide) (hts _ q159) (fun _ h9 => h9) rfl dX1_work_89 ?_
              refine lv_iload hx hb dX1_work_92 (lv_at hl 7 rfl) ?_
              refine fd_zald hx hb hK hP 1 1 pr rfl rfl (i := k) (by omega) (by decide) dX1_work_94 ?_
              refine fd_bit_eq (tgt := 102) hx hb dX1_work_95 (by decide) (fun c_95 => ?_) (fun c_95 => ?_)
              · refine lv_iconst (v := nI 0) hx hb dX1_work_102 (by decide) ?_
                refine lv_istore (lv' := [(5, .int (nI 0)), (7, .int (nI 1)), (0, .ref h0), (1, .int a0), (2, .int (nI q)), (3, .int (nI st)), (4, .int (nI vl)), (6, .int (nI k))]) hx hb dX1_work_103 hl (by decide) rfl (fun ls hl => ?_)
                refine lv_iload hx hb dX1_work_105 (lv_at hl 1 rfl) ?_
                refine lv_if_eq (tgt := 122) hx hb dX1_work_107 (by decide) (fun h => absurd h (by decide)) (fun _ => ?_)
                refine lv_iload_n hx hb dX1_work_110 rfl (lv_at hl 5 rfl) ?_
                refine lv_aload_n hx hb dX1_work_111 rfl (lv_at hl 2 rfl) ?_
                refine va_get (D := (dC, dI)) (ci := 1) (v := .ref h2) (C := RX1) (T := TX1) (N := 4) hx hb hts in_X1 hown hK hP 0 rfl rfl 1 (by decide) (hts _ q160) (fun _ h9 => h9) rfl dX1_work_112 ?_
                refine lv_iload hx hb dX1_work_115 (lv_at hl 7 rfl) ?_
                refine fd_iald hx hb hK hP 2 2 S rfl rfl (i := k) (by omega) (by decide) dX1_work_117 ?_
                refine lv_ixor hx hb dX1_work_118 ?_
                refine fd_top (y := nI (st ^^^ (S k))) (nx_xor _ _) ?_
                refine lv_goto (tgt := 123) hx hb dX1_work_119 (by decide) ?_
                refine lv_istore_n (lv' := [(3, .int (nI (st ^^^ (S k)))), (5, .int (nI 0)), (7, .int (nI 1)), (0, .ref h0), (1, .int a0), (2, .int (nI q)), (4, .int (nI vl)), (6, .int (nI k))]) hx hb dX1_work_123 rfl hl (by decide) rfl (fun ls hl => ?_)
                refine lv_iload hx hb dX1_work_124 (lv_at hl 2 rfl) ?_
                refine lv_if_eq (tgt := 142) hx hb dX1_work_126 (by decide) (fun h => absurd h (by decide)) (fun _ => ?_)
                refine lv_iload hx hb dX1_work_129 (lv_at hl 6 rfl) ?_
                refine lv_aload_n hx hb dX1_work_131 rfl (lv_at hl 3 rfl) ?_
                refine va_get (D := (dC, dI)) (ci := 1) (v := .ref h3) (C := RX1) (T := TX1) (N := 4) hx hb hts in_X1 hown hK hP 0 rfl rfl 2 (by decide) (hts _ q161) (fun _ h9 => h9) rfl dX1_work_132 ?_
                refine lv_iload hx hb dX1_work_135 (lv_at hl 7 rfl) ?_
                refine fd_iald hx hb hK hP 3 2 V rfl rfl (i := k) (by omega) (by decide) dX1_work_137 ?_
                refine lv_ixor hx hb dX1_work_138 ?_
                refine fd_top (y := nI (vl ^^^ (V k))) (nx_xor _ _) ?_
                refine lv_goto (tgt := 144) hx hb dX1_work_139 (by decide) ?_
                refine lv_istore (lv' := [(4, .int (nI (vl ^^^ (V k)))), (3, .int (nI (st ^^^ (S k)))), (5, .int (nI 0)), (7, .int (nI 1)), (0, .ref h0), (1, .int a0), (2, .int (nI q)), (6, .int (nI k))]) hx hb dX1_work_144 hl (by decide) rfl (fun ls hl => ?_)
                refine lv_iinc (v := nI (k + 1)) (lv' := [(6, .int (nI (k + 1))), (4, .int (nI (vl ^^^ (V k)))), (3, .int (nI (st ^^^ (S k)))), (5, .int (nI 0)), (7, .int (nI 1)), (0, .ref h0), (1, .int a0), (2, .int (nI q))]) hx hb dX1_work_146 hl (k := 7) rfl (nI_1 _) (by decide) rfl (fun ls hl => ?_)
                refine lv_goto (tgt := 54) hx hb dX1_work_149 (by decide) ?_
                exact ih3 _ _ _ _ (by omega) ⟨k + 1, st ^^^ S k, vl ^^^ V k, false, rfl, (by omega), (by rw [est, pu_cb_t c_68]), (by rw [evl, pu_cb_t c_68]), (pu_ok0 hok (Or.inr ⟨c_68, c_95⟩)), hP, hD, hS, lv_sub hl [5, 6, 7, 2, 1, 3, 0] rfl⟩
              · refine lv_iconst (v := nI 1) hx hb dX1_work_98 (by decide) ?_
                refine lv_goto (tgt := 103) hx hb dX1_work_99 (by decide) ?_
                refine lv_istore (lv' := [(5, .int (nI 1)), (7, .int (nI 1)), (0, .ref h0), (1, .int a0), (2, .int (nI q)), (3, .int (nI st)), (4, .int (nI vl)), (6, .int (nI k))]) hx hb dX1_work_103 hl (by decide) rfl (fun ls hl => ?_)
                refine lv_iload hx hb dX1_work_105 (lv_at hl 1 rfl) ?_
                refine lv_if_eq (tgt := 122) hx hb dX1_work_107 (by decide) (fun h => absurd h (by decide)) (fun _ => ?_)
                refine lv_iload_n hx hb dX1_work_110 rfl (lv_at hl 5 rfl) ?_
                refine lv_aload_n hx hb dX1_work_111 rfl (lv_at hl 2 rfl) ?_
                refine va_get (D := (dC, dI)) (ci := 1) (v := .ref h2) (C := RX1) (T := TX1) (N := 4) hx hb hts in_X1 hown hK hP 0 rfl rfl 1 (by decide) (hts _ q160) (fun _ h9 => h9) rfl dX1_work_112 ?_
                refine lv_iload hx hb dX1_work_115 (lv_at hl 7 rfl) ?_
                refine fd_iald hx hb hK hP 2 2 S rfl rfl (i := k) (by omega) (by decide) dX1_work_117 ?_
                refine lv_ixor hx hb dX1_work_118 ?_
                refine fd_top (y := nI (st ^^^ (S k))) (nx_xor _ _) ?_
                refine lv_goto (tgt := 123) hx hb dX1_work_119 (by decide) ?_
                refine lv_istore_n (lv' := [(3, .int (nI (st ^^^ (S k)))), (5, .int (nI 1)), (7, .int (nI 1)), (0, .ref h0), (1, .int a0), (2, .int (nI q)), (4, .int (nI vl)), (6, .int (nI k))]) hx hb dX1_work_123 rfl hl (by decide) rfl (fun ls hl => ?_)
                refine lv_iload hx hb dX1_work_124 (lv_at hl 2 rfl) ?_
                refine lv_if_eq (tgt := 142) hx hb dX1_work_126 (by decide) (fun h => absurd h (by decide)) (fun _ => ?_)
                refine lv_iload hx hb dX1_work_129 (lv_at hl 6 rfl) ?_
                refine lv_aload_n hx hb dX1_work_131 rfl (lv_at hl 3 rfl) ?_
                refine va_get (D := (dC, dI)) (ci := 1) (v := .ref h3) (C := RX1) (T := TX1) (N := 4) hx hb hts in_X1 hown hK hP 0 rfl rfl 2 (by decide) (hts _ q161) (fun _ h9 => h9) rfl dX1_work_132 ?_
                refine lv_iload hx hb dX1_work_135 (lv_at hl 7 rfl) ?_
                refine fd_iald hx hb hK hP 3 2 V rfl rfl (i := k) (by omega) (by decide) dX1_work_137 ?_
                refine lv_ixor hx hb dX1_work_138 ?_
                refine fd_top (y := nI (vl ^^^ (V k))) (nx_xor _ _) ?_
                refine lv_goto (tgt := 144) hx hb dX1_work_139 (by decide) ?_
                refine lv_istore (lv' := [(4, .int (nI (vl ^^^ (V k)))), (3, .int (nI (st ^^^ (S k)))), (5, .int (nI 1)), (7, .int (nI 1)), (0, .ref h0), (1, .int a0), (2, .int (nI q)), (6, .int (nI k))]) hx hb dX1_work_144 hl (by decide) rfl (fun ls hl => ?_)
                refine lv_iinc (v := nI (k + 1)) (lv' := [(6, .int (nI (k + 1))), (4, .int (nI (vl ^^^ (V k)))), (3, .int (nI (st ^^^ (S k)))), (5, .int (nI 1)), (7, .int (nI 1)), (0, .ref h0), (1, .int a0), (2, .int (nI q))]) hx hb dX1_work_146 hl (k := 7) rfl (nI_1 _) (by decide) rfl (fun ls hl => ?_)
                refine lv_goto (tgt := 54) hx hb dX1_work_149 (by decide) ?_
                exact ih3 _ _ _ _ (by omega) ⟨k + 1, st ^^^ S k, vl ^^^ V k, true, rfl, (by omega), (by rw [est, pu_cb_t c_68]), (by rw [evl, pu_cb_t c_68]), (pu_ok1 hok c_80 (Or.inr c_95)), hP, hD, hS, lv_sub hl [5, 6, 7, 2, 1, 3, 0] rfl⟩
  · refine lv_aload_n hx hb dX1_work_9 rfl (lv_at hl 0 rfl) ?_
    refine va_get (D := (dC, dI)) (ci := 1) (v := .ref h4) (C := RX1) (T := TX1) (N := 4) hx hb hts in_X1 hown hK hP 0 rfl rfl 3 (by decide) (hts _ q162) (fun _ h9 => h9) rfl dX1_work_10 ?_
    refine lv_iload_n hx hb dX1_work_13 rfl (lv_at hl 2 rfl) ?_
    refine lv_iconst (v := (-1)) hx hb dX1_work_14 (by decide) ?_
    refine fd_tast hx hb hK hP hD hS 4 2 T1 rfl rfl (i := k) (x := (-1)) (by omega) (by decide) dX1_work_15 (fun H locs hP hD hS => ?_)
    have hP : va_P (dC, dI) vwCl (wM h0 h1 h2 h3 h4 dZ dN pr S V (upd T1 k (-1))) H := hP
    have hD : va_D A (wM h0 h1 h2 h3 h4 dZ dN pr S V (upd T1 k (-1))) := hD
    refine lv_iinc (v := nI (k + 1)) (lv' := [(2, .int (nI (k + 1))), (0, .ref h0), (1, .int a0)]) hx hb dX1_work_16 hl (k := 2) rfl (nI_1 _) (by decide) rfl (fun ls hl => ?_)
    refine lv_goto (tgt := 2) hx hb dX1_work_19 (by decide) ?_
    exact ih _ _ _ _ (by omega) ⟨k + 1, upd T1 k (-1), rfl, (by omega), (pu_neg1 hz), hP, hD, hS, lv_sub hl [1, 2, 0] rfl⟩
end
section
set_option maxHeartbeats 4000000 in
set_option maxRecDepth 100000 in
/-- known() -/
theorem cM_known (l : Launch) (dC : Nat → ClassId) (dI : Nat → Nat → Nat) (dS dZ dN : ClassId) (h0 h1 h2 h3 h4 sz pr : Nat) (S V : Nat → Nat) (T : Nat → Int32) (hI : pu_inv pr S V) : fd_MI l yX1_known (ws_ yX1_known cX1_known 3 (some .int)) 1 (dC, dI) (fd_ty dS dZ dN) [.ref h0] (wM h0 h1 h2 h3 h4 dZ dN pr S V T) sz (fun r (u : Nat → Int32) => r = nI (pu_mk (fun i => pu_kb pr S V (2 ^ i)) 8)) (fun (u : Nat → Int32) => wM h0 h1 h2 h3 h4 dZ dN pr S V u) := by
  refine Met.ofW (cc := cX1_known) (maxL := 3) (ret := (some .int)) (by decide) rfl ?_
  intro p e s m args below meth c s₁ B hml hv
  obtain ⟨rfl, hsz, hP, hK, hD0⟩ := hv
  have hx := B.exec
  have hb := B.bytes
  have hr := B.returns
  have hts := atoms_spec (ws := ws_ yX1_known cX1_known 3 (some .int)) B.pre
  have hts : ∀ w ∈ lw_all, w.before _ s = true := fun w h => hts w (List.mem_cons_of_mem _ h)
  have hown : s.vm.findClass RX1 = some m.cls := findClass_of_methodNamed B.named
  have hlocks := B.notSynchronized
  subst hsz
  have hD := hD0.self (sz := s.heap.size)
  generalize hAe : va_A (wM h0 h1 h2 h3 h4 dZ dN pr S V T) s.heap.size = A at hD ⊢
  have hA : ∀ q : Nat, s.heap.size ≤ q → A q := fun q h => by rw [← hAe]; exact Or.inr h
  have hS : va_S A s.heap s.heap [] := va_S.rf
  have hP : va_P (dC, dI) vwCl (wM h0 h1 h2 h3 h4 dZ dN pr S V T) s.heap := hP
  have hl := lv_entry ([.ref h0]) (n := 3) (Nat.le_of_ble_eq_true rfl)
  rw [lg_entry_eq]
  generalize (lg_sl ([.ref h0]) ++ List.replicate (3 - (lg_sl ([.ref h0])).length) Slot.unset).toArray = ls at hl ⊢
  have hl : lv_has ls 3 [(0, .ref h0)] := hl
  refine lv_aload_n hx hb dX1_known_0 rfl (lv_at hl 0 rfl) ?_
  refine lv_sipush (v := nI 1023) hx hb dX1_known_1 (by decide) ?_
  refine fd_cV (As := [.int (nI 1023)]) (rest := []) (wc := wM h0 h1 h2 h3 h4 dZ dN pr S V T) (wr := []) ⟨hx, hb, hml, hown, hts⟩ (cM_work l dC dI dS dZ dN h0 h1 h2 h3 h4 _ pr S V T hI.2.1 (nI 1023)) (cwV 1 hts (lw_V q186 q188 qs11 q16 q189) rfl rfl rfl (by decide +kernel) ⟨Nat.le_of_ble_eq_true rfl, Nat.le_of_ble_eq_true rfl⟩) (va_recv hK hP (ci := 1) (q0 := 0) rfl rfl) hK hP hD hS hA [0, 1, 2, 3, 4] [] rfl rfl rfl rfl (by decide) rfl hl.1 rfl (Nat.le_of_ble_eq_true rfl) dX1_known_4 ⟨Nat.zero_le _, Nat.zero_le _⟩ (fun u H locs hw hP hD hS => ?_)
  have hP : va_P (dC, dI) vwCl (wM h0 h1 h2 h3 h4 dZ dN pr S V u) H := hP
  have hD : va_D A (wM h0 h1 h2 h3 h4 dZ dN pr S V u) := hD
  obtain ⟨T1, rfl⟩ : ∃ z, z = u := ⟨_, rfl⟩
  have hT := hw
  rw [nx_1023 hI.1] at hT
  refine lv_iconst (v := nI 0) hx hb dX1_known_7 (by decide) ?_
  refine lv_istore_n (lv' := [(1, .int (nI 0)), (0, .ref h0)]) hx hb dX1_known_8 rfl hl (by decide) rfl (fun ls hl => ?_)
  refine lv_iconst (v := nI 0) hx hb dX1_known_9 (by decide) ?_
  refine lv_istore_n (lv' := [(2, .int (nI 0)), (1, .int (nI 0)), (0, .ref h0)]) hx hb dX1_known_10 rfl hl (by decide) rfl (fun ls hl => ?_)
  refine fd_loop (fun n H locs ls => ∃ (k : Nat) (v : Nat), n = 8 - k ∧ (k ≤ 8) ∧ (v = pu_mk (fun i => pu_kb pr S V (2 ^ i)) k) ∧ va_P (dC, dI) vwCl (wM h0 h1 h2 h3 h4 dZ dN pr S V T1) H ∧ va_D A (wM h0 h1 h2 h3 h4 dZ dN pr S V T1) ∧ va_S A s.heap H locs ∧ lv_has ls 3 [(0, .ref h0), (1, .int (nI v)), (2, .int (nI k))]) _ ⟨0, 0, rfl, (by omega), rfl, hP, hD, hS, lv_sub hl [2, 1, 0] rfl⟩ ?_
  rintro n H locs ls ⟨k, v, hms, hk, ev, hP, hD, hS, hl⟩ ih
  refine lv_iload_n hx hb dX1_known_11 rfl (lv_at hl 2 rfl) ?_
  refine lv_bipush (v := nI 8) hx hb dX1_known_12 (by decide) ?_
  refine fd_icmp_ge (tgt := 44) hx hb dX1_known_14 (by decide) (by omega) (by omega) (fun c_14 => ?_) (fun c_14 => ?_)
  · refine lv_iload_n hx hb dX1_known_44 rfl (lv_at hl 1 rfl) ?_
    exact fd_iret hx hb hr hlocks hK hS (v := nI v) T1 hP hD dX1_known_45 (by rw [ev, show k = 8 by omega])
  · have hp8 := pu_pow8 c_14
    have hkb := pu_tab_kb hI.2.2 hT hp8
    refine lv_aload_n hx hb dX1_known_17 rfl (lv_at hl 0 rfl) ?_
    refine va_get (D := (dC, dI)) (ci := 1) (v := .ref h4) (C := RX1) (T := TX1) (N := 4) hx hb hts in_X1 hown hK hP 0 rfl rfl 3 (by decide) (hts _ q162) (fun _ h9 => h9) rfl dX1_known_18 ?_
    refine lv_iconst (v := nI 1) hx hb dX1_known_21 (by decide) ?_
    refine lv_iload_n hx hb dX1_known_22 rfl (lv_at hl 2 rfl) ?_
    refine lv_ishl hx hb dX1_known_23 ?_
    refine fd_top (y := nI (2 ^ k)) (nx_shl1 (by omega)) ?_
    refine fd_tald hx hb hK hP 4 2 T1 rfl rfl (i := (2 ^ k)) (by omega) (by decide) dX1_known_24 ?_
    refine lv_if_lt (tgt := 36) hx hb dX1_known_25 (by decide) (fun c_25 => ?_) (fun c_25 => ?_)
    · refine lv_iload_n hx hb dX1_known_36 rfl (lv_at hl 1 rfl) ?_
      refine lv_istore_n (lv' := [(1, .int (nI v)), (0, .ref h0), (2, .int (nI k))]) hx hb dX1_known_37 rfl hl (by decide) rfl (fun ls hl => ?_)
      refine lv_iinc (v := nI (k + 1)) (lv' := [(2, .int (nI (k + 1))), (1, .int (nI v)), (0, .ref h0)]) hx hb dX1_known_38 hl (k := 2) rfl (nI_1 _) (by decide) rfl (fun ls hl => ?_)
      refine lv_goto (tgt := 11) hx hb dX1_known_41 (by decide) ?_
      exact ih _ _ _ _ (by omega) ⟨k + 1, v, rfl, (by omega), (ev.trans (pu_mk_fn (f := (fun i => pu_kb pr S V (2 ^ i))) (hkb.symm.trans (decide_eq_false (pu_nle c_25)))).symm), hP, hD, hS, lv_sub hl [2, 1, 0] rfl⟩
    · refine lv_iload_n hx hb dX1_known_28 rfl (lv_at hl 1 rfl) ?_
      refine lv_iconst (v := nI 1) hx hb dX1_known_29 (by decide) ?_
      refine lv_iload_n hx hb dX1_known_30 rfl (lv_at hl 2 rfl) ?_
      refine lv_ishl hx hb dX1_known_31 ?_
      refine fd_top (y := nI (2 ^ k)) (nx_shl1 (by omega)) ?_
      refine lv_ior hx hb dX1_known_32 ?_
      refine fd_top (y := nI (v ||| (2 ^ k))) (nx_or _ _) ?_
      refine lv_goto (tgt := 37) hx hb dX1_known_33 (by decide) ?_
      refine lv_istore_n (lv' := [(1, .int (nI (v ||| (2 ^ k)))), (0, .ref h0), (2, .int (nI k))]) hx hb dX1_known_37 rfl hl (by decide) rfl (fun ls hl => ?_)
      refine lv_iinc (v := nI (k + 1)) (lv' := [(2, .int (nI (k + 1))), (1, .int (nI (v ||| (2 ^ k)))), (0, .ref h0)]) hx hb dX1_known_38 hl (k := 2) rfl (nI_1 _) (by decide) rfl (fun ls hl => ?_)
      refine lv_goto (tgt := 11) hx hb dX1_known_41 (by decide) ?_
      exact ih _ _ _ _ (by omega) ⟨k + 1, v ||| 2 ^ k, rfl, (by omega), (by rw [ev]; simp only [pu_mk]; rw [if_pos (hkb.symm.trans (decide_eq_true (pu_lt_of c_25)))]), hP, hD, hS, lv_sub hl [2, 1, 0] rfl⟩
set_option maxHeartbeats 4000000 in
set_option maxRecDepth 100000 in
/-- piece(i) -/
theorem cM_piece (l : Launch) (dC : Nat → ClassId) (dI : Nat → Nat → Nat) (dS dZ dN : ClassId) (h0 h1 h2 h3 h4 sz pr : Nat) (S V : Nat → Nat) (T : Nat → Int32) (hI : pu_inv pr S V) (a0 : Int32) : fd_MI l yX1_piece (ws_ yX1_piece cX1_piece 2 (some .int)) 1 (dC, dI) (fd_ty dS dZ dN) [.ref h0, .int a0] (wM h0 h1 h2 h3 h4 dZ dN pr S V T) sz (fun r (u : Nat → Int32) => r = pu_pc pr S V a0) (fun (u : Nat → Int32) => wM h0 h1 h2 h3 h4 dZ dN pr S V u) := by
  refine Met.ofW (cc := cX1_piece) (maxL := 2) (ret := (some .int)) (by decide) rfl ?_
  intro p e s m args below meth c s₁ B hml hv
  obtain ⟨rfl, hsz, hP, hK, hD0⟩ := hv
  have hx := B.exec
  have hb := B.bytes
  have hr := B.returns
  have hts := atoms_spec (ws := ws_ yX1_piece cX1_piece 2 (some .int)) B.pre
  have hts : ∀ w ∈ lw_all, w.before _ s = true := fun w h => hts w (List.mem_cons_of_mem _ h)
  have hown : s.vm.findClass RX1 = some m.cls := findClass_of_methodNamed B.named
  have hlocks := B.notSynchronized
  subst hsz
  have hD := hD0.self (sz := s.heap.size)
  generalize hAe : va_A (wM h0 h1 h2 h3 h4 dZ dN pr S V T) s.heap.size = A at hD ⊢
  have hA : ∀ q : Nat, s.heap.size ≤ q → A q := fun q h => by rw [← hAe]; exact Or.inr h
  have hS : va_S A s.heap s.heap [] := va_S.rf
  have hP : va_P (dC, dI) vwCl (wM h0 h1 h2 h3 h4 dZ dN pr S V T) s.heap := hP
  have hl := lv_entry ([.ref h0, .int a0]) (n := 2) (Nat.le_of_ble_eq_true rfl)
  rw [lg_entry_eq]
  generalize (lg_sl ([.ref h0, .int a0]) ++ List.replicate (2 - (lg_sl ([.ref h0, .int a0])).length) Slot.unset).toArray = ls at hl ⊢
  have hl : lv_has ls 2 [(0, .ref h0), (1, .int a0)] := hl
  refine lv_aload_n hx hb dX1_piece_0 rfl (lv_at hl 0 rfl) ?_
  refine lv_sipush (v := nI 1023) hx hb dX1_piece_1 (by decide) ?_
  refine fd_cV (As := [.int (nI 1023)]) (rest := []) (wc := wM h0 h1 h2 h3 h4 dZ dN pr S V T) (wr := []) ⟨hx, hb, hml, hown, hts⟩ (cM_work l dC dI dS dZ dN h0 h1 h2 h3 h4 _ pr S V T hI.2.1 (nI 1023)) (cwV 1 hts (lw_V q186 q188 qs11 q16 q189) rfl rfl rfl (by decide +kernel) ⟨Nat.le_of_ble_eq_true rfl, Nat.le_of_ble_eq_true rfl⟩) (va_recv hK hP (ci := 1) (q0 := 0) rfl rfl) hK hP hD hS hA [0, 1, 2, 3, 4] [] rfl rfl rfl rfl (by decide) rfl hl.1 rfl (Nat.le_of_ble_eq_true rfl) dX1_piece_4 ⟨Nat.zero_le _, Nat.zero_le _⟩ (fun u H locs hw hP hD hS => ?_)
  have hP : va_P (dC, dI) vwCl (wM h0 h1 h2 h3 h4 dZ dN pr S V u) H := hP
  have hD : va_D A (wM h0 h1 h2 h3 h4 dZ dN pr S V u) := hD
  obtain ⟨T1, rfl⟩ : ∃ z, z = u := ⟨_, rfl⟩
  have hT := hw
  rw [nx_1023 hI.1] at hT
  refine lv_iload_n hx hb dX1_piece_7 rfl (lv_at hl 1 rfl) ?_
  refine lv_if_lt (tgt := 28) hx hb dX1_piece_8 (by decide) (fun c_8 => ?_) (fun c_8 => ?_)
  · refine lv_iconst (v := (-1)) hx hb dX1_piece_28 (by decide) ?_
    exact fd_iret hx hb hr hlocks hK hS (v := (-1)) T1 hP hD dX1_piece_29 (by unfold pu_pc; rw [if_neg (fun z => pu_nle c_8 z.1)])
  · refine lv_iload_n hx hb dX1_piece_11 rfl (lv_at hl 1 rfl) ?_
    refine lv_bipush (v := nI 7) hx hb dX1_piece_12 (by decide) ?_
    refine lv_icmp_gt (tgt := 28) hx hb dX1_piece_14 (by decide) (fun (c_14 : 7 < a0) => ?_) (fun (c_14 : ¬ 7 < a0) => ?_)
    · refine lv_iconst (v := (-1)) hx hb dX1_piece_28 (by decide) ?_
      exact fd_iret hx hb hr hlocks hK hS (v := (-1)) T1 hP hD dX1_piece_29 (by unfold pu_pc; rw [if_neg (fun z => pu_gt7 c_14 z.2)])
    · obtain ⟨i, hi, rfl⟩ := nI_of2 (n := 7) (M := 7) (by decide) c_8 (pu_lt_of c_14)
      have hp8 : 2 ^ i < 256 := pu_pow8 (by omega)
      refine lv_aload_n hx hb dX1_piece_17 rfl (lv_at hl 0 rfl) ?_
      refine va_get (D := (dC, dI)) (ci := 1) (v := .ref h4) (C := RX1) (T := TX1) (N := 4) hx hb hts in_X1 hown hK hP 0 rfl rfl 3 (by decide) (hts _ q162) (fun _ h9 => h9) rfl dX1_piece_18 ?_
      refine lv_iconst (v := nI 1) hx hb dX1_piece_21 (by decide) ?_
      refine lv_iload_n hx hb dX1_piece_22 rfl (lv_at hl 1 rfl) ?_
      refine lv_ishl hx hb dX1_piece_23 ?_
      refine fd_top (y := nI (2 ^ i)) (nx_shl1 (by omega)) ?_
      refine fd_tald hx hb hK hP 4 2 T1 rfl rfl (i := (2 ^ i)) (by omega) (by decide) dX1_piece_24 ?_
      refine lv_goto (tgt := 29) hx hb dX1_piece_25 (by decide) ?_
      exact fd_iret hx hb hr hlocks hK hS (v := T1 (2 ^ i)) T1 hP hD dX1_piece_29 (by rw [pu_pc_in (by omega), pu_tab_vb hI.2.2 hT hp8])
set_option maxHeartbeats 4000000 in
set_option maxRecDepth 100000 in
/-- sum(set) -/
theorem cM_sum (l : Launch) (dC : Nat → ClassId) (dI : Nat → Nat → Nat) (dS dZ dN : ClassId) (h0 h1 h2 h3 h4 sz pr : Nat) (S V : Nat → Nat) (T : Nat → Int32) (hI : pu_inv pr S V) (a0 : Int32) : fd_MI l yX1_sum (ws_ yX1_sum cX1_sum 2 (some .int)) 1 (dC, dI) (fd_ty dS dZ dN) [.ref h0, .int a0] (wM h0 h1 h2 h3 h4 dZ dN pr S V T) sz (fun r (u : Nat → Int32) => r = pu_sm pr S V a0) (fun (u : Nat → Int32) => wM h0 h1 h2 h3 h4 dZ dN pr S V u) := by
  refine Met.ofW (cc := cX1_sum) (maxL := 2) (ret := (some .int)) (by decide) rfl ?_
  intro p e s m args below meth c s₁ B hml hv
  obtain ⟨rfl, hsz, hP, hK, hD0⟩ := hv
  have hx := B.exec
  have hb := B.bytes
  have hr := B.returns
  have hts := atoms_spec (ws := ws_ yX1_sum cX1_sum 2 (some .int)) B.pre
  have hts : ∀ w ∈ lw_all, w.before _ s = true := fun w h => hts w (List.mem_cons_of_mem _ h)
  have hown : s.vm.findClass RX1 = some m.cls := findClass_of_methodNamed B.named
  have hlocks := B.notSynchronized
  subst hsz
  have hD := hD0.self (sz := s.heap.size)
  generalize hAe : va_A (wM h0 h1 h2 h3 h4 dZ dN pr S V T) s.heap.size = A at hD ⊢
  have hA : ∀ q : Nat, s.heap.size ≤ q → A q := fun q h => by rw [← hAe]; exact Or.inr h
  have hS : va_S A s.heap s.heap [] := va_S.rf
  have hP : va_P (dC, dI) vwCl (wM h0 h1 h2 h3 h4 dZ dN pr S V T) s.heap := hP
  have hl := lv_entry ([.ref h0, .int a0]) (n := 2) (Nat.le_of_ble_eq_true rfl)
  rw [lg_entry_eq]
  generalize (lg_sl ([.ref h0, .int a0]) ++ List.replicate (2 - (lg_sl ([.ref h0, .int a0])).length) Slot.unset).toArray = ls at hl ⊢
  have hl : lv_has ls 2 [(0, .ref h0), (1, .int a0)] := hl
  refine lv_aload_n hx hb dX1_sum_0 rfl (lv_at hl 0 rfl) ?_
  refine lv_sipush (v := nI 1023) hx hb dX1_sum_1 (by decide) ?_
  refine fd_cV (As := [.int (nI 1023)]) (rest := []) (wc := wM h0 h1 h2 h3 h4 dZ dN pr S V T) (wr := []) ⟨hx, hb, hml, hown, hts⟩ (cM_work l dC dI dS dZ dN h0 h1 h2 h3 h4 _ pr S V T hI.2.1 (nI 1023)) (cwV 1 hts (lw_V q186 q188 qs11 q16 q189) rfl rfl rfl (by decide +kernel) ⟨Nat.le_of_ble_eq_true rfl, Nat.le_of_ble_eq_true rfl⟩) (va_recv hK hP (ci := 1) (q0 := 0) rfl rfl) hK hP hD hS hA [0, 1, 2, 3, 4] [] rfl rfl rfl rfl (by decide) rfl hl.1 rfl (Nat.le_of_ble_eq_true rfl) dX1_sum_4 ⟨Nat.zero_le _, Nat.zero_le _⟩ (fun u H locs hw hP hD hS => ?_)
  have hP : va_P (dC, dI) vwCl (wM h0 h1 h2 h3 h4 dZ dN pr S V u) H := hP
  have hD : va_D A (wM h0 h1 h2 h3 h4 dZ dN pr S V u) := hD
  obtain ⟨T1, rfl⟩ : ∃ z, z = u := ⟨_, rfl⟩
  have hT := hw
  rw [nx_1023 hI.1] at hT
  refine lv_iload_n hx hb dX1_sum_7 rfl (lv_at hl 1 rfl) ?_
  refine lv_if_lt (tgt := 27) hx hb dX1_sum_8 (by decide) (fun c_8 => ?_) (fun c_8 => ?_)
  · refine lv_iconst (v := (-1)) hx hb dX1_sum_27 (by decide) ?_
    exact fd_iret hx hb hr hlocks hK hS (v := (-1)) T1 hP hD dX1_sum_28 (by unfold pu_sm; rw [if_neg (fun z => pu_nle c_8 z.1)])
  · refine lv_iload_n hx hb dX1_sum_11 rfl (lv_at hl 1 rfl) ?_
    refine lv_sipush (v := nI 255) hx hb dX1_sum_12 (by decide) ?_
    refine lv_icmp_gt (tgt := 27) hx hb dX1_sum_15 (by decide) (fun (c_15 : 255 < a0) => ?_) (fun (c_15 : ¬ 255 < a0) => ?_)
    · refine lv_iconst (v := (-1)) hx hb dX1_sum_27 (by decide) ?_
      exact fd_iret hx hb hr hlocks hK hS (v := (-1)) T1 hP hD dX1_sum_28 (by unfold pu_sm; rw [if_neg (fun z => pu_nle c_15 z.2)])
    · obtain ⟨a, ha, rfl⟩ := pu_of0 (pu_lt_of c_8) (pu_lt_of c_15)
      refine lv_aload_n hx hb dX1_sum_18 rfl (lv_at hl 0 rfl) ?_
      refine va_get (D := (dC, dI)) (ci := 1) (v := .ref h4) (C := RX1) (T := TX1) (N := 4) hx hb hts in_X1 hown hK hP 0 rfl rfl 3 (by decide) (hts _ q162) (fun _ h9 => h9) rfl dX1_sum_19 ?_
      refine lv_iload_n hx hb dX1_sum_22 rfl (lv_at hl 1 rfl) ?_
      refine fd_tald hx hb hK hP 4 2 T1 rfl rfl (i := a) (by omega) (by decide) dX1_sum_23 ?_
      refine lv_goto (tgt := 28) hx hb dX1_sum_24 (by decide) ?_
      exact fd_iret hx hb hr hlocks hK hS (v := T1 a) T1 hP hD dX1_sum_28 (by rw [pu_sm_in ha, pu_tab_vb hI.2.2 hT ha])
set_option maxHeartbeats 4000000 in
set_option maxRecDepth 100000 in
/-- missing() -/
theorem cM_missing (l : Launch) (dC : Nat → ClassId) (dI : Nat → Nat → Nat) (dS dZ dN : ClassId) (h0 h1 h2 h3 h4 sz pr : Nat) (S V : Nat → Nat) (T : Nat → Int32) (hI : pu_inv pr S V) (kk : Nat) (hkk : pu_ct (pu_kb pr S V) 256 = 2 ^ kk) (hk8 : kk ≤ 8) : fd_MI l yX1_missing (ws_ yX1_missing cX1_missing 3 (some .int)) 1 (dC, dI) (fd_ty dS dZ dN) [.ref h0] (wM h0 h1 h2 h3 h4 dZ dN pr S V T) sz (fun r (u : Nat → Int32) => r = nI (8 - kk)) (fun (u : Nat → Int32) => wM h0 h1 h2 h3 h4 dZ dN pr S V u) := by
  refine Met.ofW (cc := cX1_missing) (maxL := 3) (ret := (some .int)) (by decide) rfl ?_
  intro p e s m args below meth c s₁ B hml hv
  obtain ⟨rfl, hsz, hP, hK, hD0⟩ := hv
  have hx := B.exec
  have hb := B.bytes
  have hr := B.returns
  have hts := atoms_spec (ws := ws_ yX1_missing cX1_missing 3 (some .int)) B.pre
  have hts : ∀ w ∈ lw_all, w.before _ s = true := fun w h => hts w (List.mem_cons_of_mem _ h)
  have hown : s.vm.findClass RX1 = some m.cls := findClass_of_methodNamed B.named
  have hlocks := B.notSynchronized
  subst hsz
  have hD := hD0.self (sz := s.heap.size)
  generalize hAe : va_A (wM h0 h1 h2 h3 h4 dZ dN pr S V T) s.heap.size = A at hD ⊢
  have hA : ∀ q : Nat, s.heap.size ≤ q → A q := fun q h => by rw [← hAe]; exact Or.inr h
  have hS : va_S A s.heap s.heap [] := va_S.rf
  have hP : va_P (dC, dI) vwCl (wM h0 h1 h2 h3 h4 dZ dN pr S V T) s.heap := hP
  have hl := lv_entry ([.ref h0]) (n := 3) (Nat.le_of_ble_eq_true rfl)
  rw [lg_entry_eq]
  generalize (lg_sl ([.ref h0]) ++ List.replicate (3 - (lg_sl ([.ref h0])).length) Slot.unset).toArray = ls at hl ⊢
  have hl : lv_has ls 3 [(0, .ref h0)] := hl
  refine lv_aload_n hx hb dX1_missing_0 rfl (lv_at hl 0 rfl) ?_
  refine lv_sipush (v := nI 1023) hx hb dX1_missing_1 (by decide) ?_
  refine fd_cV (As := [.int (nI 1023)]) (rest := []) (wc := wM h0 h1 h2 h3 h4 dZ dN pr S V T) (wr := []) ⟨hx, hb, hml, hown, hts⟩ (cM_work l dC dI dS dZ dN h0 h1 h2 h3 h4 _ pr S V T hI.2.1 (nI 1023)) (cwV 1 hts (lw_V q186 q188 qs11 q16 q189) rfl rfl rfl (by decide +kernel) ⟨Nat.le_of_ble_eq_true rfl, Nat.le_of_ble_eq_true rfl⟩) (va_recv hK hP (ci := 1) (q0 := 0) rfl rfl) hK hP hD hS hA [0, 1, 2, 3, 4] [] rfl rfl rfl rfl (by decide) rfl hl.1 rfl (Nat.le_of_ble_eq_true rfl) dX1_missing_4 ⟨Nat.zero_le _, Nat.zero_le _⟩ (fun u H locs hw hP hD hS => ?_)
  have hP : va_P (dC, dI) vwCl (wM h0 h1 h2 h3 h4 dZ dN pr S V u) H := hP
  have hD : va_D A (wM h0 h1 h2 h3 h4 dZ dN pr S V u) := hD
  obtain ⟨T1, rfl⟩ : ∃ z, z = u := ⟨_, rfl⟩
  have hT := hw
  rw [nx_1023 hI.1] at hT
  refine lv_aload_n hx hb dX1_missing_7 rfl (lv_at hl 0 rfl) ?_
  refine fd_cI (As := []) (rest := []) (wc := wM h0 h1 h2 h3 h4 dZ dN pr S V T1) (wr := []) ⟨hx, hb, hml, hown, hts⟩ (cM_size l dC dI dS dZ dN h0 h1 h2 h3 h4 _ pr S V T1) (cwV 0 hts (lw_V q214 q216 qs12 q16 q217) rfl rfl rfl (by decide +kernel) ⟨Nat.le_of_ble_eq_true rfl, Nat.le_of_ble_eq_true rfl⟩) (va_recv hK hP (ci := 1) (q0 := 0) rfl rfl) hK hP hD hS hA [0, 1, 2, 3, 4] [] rfl rfl rfl rfl (by decide) rfl hl.1 rfl (Nat.le_of_ble_eq_true rfl) dX1_missing_8 ⟨Nat.zero_le _, Nat.zero_le _⟩ (fun r u H locs hw hP hD hS => ?_)
  have hP : va_P (dC, dI) vwCl (wM h0 h1 h2 h3 h4 dZ dN pr S V T1) H := hP
  have hD : va_D A (wM h0 h1 h2 h3 h4 dZ dN pr S V T1) := hD
  rw [pu_size_kb hI.2.2 hT, hkk] at hw
  subst hw
  refine lv_istore_n (lv' := [(1, .int (nI (2 ^ kk))), (0, .ref h0)]) hx hb dX1_missing_11 rfl hl (by decide) rfl (fun ls hl => ?_)
  refine lv_iconst (v := nI 0) hx hb dX1_missing_12 (by decide) ?_
  refine lv_istore_n (lv' := [(2, .int (nI 0)), (1, .int (nI (2 ^ kk))), (0, .ref h0)]) hx hb dX1_missing_13 rfl hl (by decide) rfl (fun ls hl => ?_)
  refine fd_loop (fun n H locs ls => ∃ (mr : Nat), n = 8 - mr ∧ (mr ≤ 8 - kk) ∧ va_P (dC, dI) vwCl (wM h0 h1 h2 h3 h4 dZ dN pr S V T1) H ∧ va_D A (wM h0 h1 h2 h3 h4 dZ dN pr S V T1) ∧ va_S A s.heap H locs ∧ lv_has ls 3 [(0, .ref h0), (1, .int (nI (2 ^ kk))), (2, .int (nI mr))]) _ ⟨0, rfl, (Nat.zero_le _), hP, hD, hS, lv_sub hl [2, 1, 0] rfl⟩ ?_
  rintro n H locs ls ⟨mr, hms, hmr, hP, hD, hS, hl⟩ ih
  have hp3 := pu_miss3 (a := kk) (b := mr) (by omega)
  refine lv_iload_n hx hb dX1_missing_14 rfl (lv_at hl 1 rfl) ?_
  refine lv_iload_n hx hb dX1_missing_15 rfl (lv_at hl 2 rfl) ?_
  refine lv_ishl hx hb dX1_missing_16 ?_
  refine fd_top (y := nI (2 ^ kk * 2 ^ mr)) (nx_shl (by omega) (by omega)) ?_
  refine lv_sipush (v := nI 256) hx hb dX1_missing_17 (by decide) ?_
  refine fd_icmp_ge (tgt := 35) hx hb dX1_missing_20 (by decide) (by omega) (by omega) (fun c_20 => ?_) (fun c_20 => ?_)
  · refine lv_iload_n hx hb dX1_missing_35 rfl (lv_at hl 2 rfl) ?_
    exact fd_iret hx hb hr hlocks hK hS (v := nI mr) T1 hP hD dX1_missing_36 (by rw [show mr = 8 - kk by have := pu_miss c_20; omega])
  · refine lv_iload_n hx hb dX1_missing_23 rfl (lv_at hl 2 rfl) ?_
    refine lv_bipush (v := nI 8) hx hb dX1_missing_24 (by decide) ?_
    refine fd_icmp_ge (tgt := 35) hx hb dX1_missing_26 (by decide) (by omega) (by omega) (fun c_26 => ?_) (fun c_26 => ?_)
    · exact absurd c_26 (by have := pu_miss2 c_20; omega)
    · refine lv_iinc (v := nI (mr + 1)) (lv' := [(2, .int (nI (mr + 1))), (0, .ref h0), (1, .int (nI (2 ^ kk)))]) hx hb dX1_missing_29 hl (k := 2) rfl (nI_1 _) (by decide) rfl (fun ls hl => ?_)
      refine lv_goto (tgt := 14) hx hb dX1_missing_32 (by decide) ?_
      exact ih _ _ _ _ (by omega) ⟨mr + 1, rfl, (by have := pu_miss2 c_20; omega), hP, hD, hS, lv_sub hl [1, 2, 0] rfl⟩
set_option maxHeartbeats 4000000 in
set_option maxRecDepth 100000 in
/-- enough(set) -/
theorem cM_enough (l : Launch) (dC : Nat → ClassId) (dI : Nat → Nat → Nat) (dS dZ dN : ClassId) (h0 h1 h2 h3 h4 sz pr : Nat) (S V : Nat → Nat) (T : Nat → Int32) (hI : pu_inv pr S V) (a0 : Int32) : fd_MI l yX1_enough (ws_ yX1_enough cX1_enough 3 (some .boolean)) 1 (dC, dI) (fd_ty dS dZ dN) [.ref h0, .int a0] (wM h0 h1 h2 h3 h4 dZ dN pr S V T) sz (fun r (u : Nat → Int32) => r = nI (pu_en pr (pr &&& pu_ib a0) S V).toNat) (fun (u : Nat → Int32) => wM h0 h1 h2 h3 h4 dZ dN pr S V u) := by
  refine Met.ofW (cc := cX1_enough) (maxL := 3) (ret := (some .boolean)) (by decide) rfl ?_
  intro p e s m args below meth c s₁ B hml hv
  obtain ⟨rfl, hsz, hP, hK, hD0⟩ := hv
  have hx := B.exec
  have hb := B.bytes
  have hr := B.returns
  have hts := atoms_spec (ws := ws_ yX1_enough cX1_enough 3 (some .boolean)) B.pre
  have hts : ∀ w ∈ lw_all, w.before _ s = true := fun w h => hts w (List.mem_cons_of_mem _ h)
  have hown : s.vm.findClass RX1 = some m.cls := findClass_of_methodNamed B.named
  have hlocks := B.notSynchronized
  subst hsz
  have hD := hD0.self (sz := s.heap.size)
  generalize hAe : va_A (wM h0 h1 h2 h3 h4 dZ dN pr S V T) s.heap.size = A at hD ⊢
  have hA : ∀ q : Nat, s.heap.size ≤ q → A q := fun q h => by rw [← hAe]; exact Or.inr h
  have hS : va_S A s.heap s.heap [] := va_S.rf
  have hP : va_P (dC, dI) vwCl (wM h0 h1 h2 h3 h4 dZ dN pr S V T) s.heap := hP
  have hl := lv_entry ([.ref h0, .int a0]) (n := 3) (Nat.le_of_ble_eq_true rfl)
  rw [lg_entry_eq]
  generalize (lg_sl ([.ref h0, .int a0]) ++ List.replicate (3 - (lg_sl ([.ref h0, .int a0])).length) Slot.unset).toArray = ls at hl ⊢
  have hl : lv_has ls 3 [(0, .ref h0), (1, .int a0)] := hl
  refine lv_aload_n hx hb dX1_enough_0 rfl (lv_at hl 0 rfl) ?_
  refine lv_sipush (v := nI 1023) hx hb dX1_enough_1 (by decide) ?_
  refine fd_cV (As := [.int (nI 1023)]) (rest := []) (wc := wM h0 h1 h2 h3 h4 dZ dN pr S V T) (wr := []) ⟨hx, hb, hml, hown, hts⟩ (cM_work l dC dI dS dZ dN h0 h1 h2 h3 h4 _ pr S V T hI.2.1 (nI 1023)) (cwV 1 hts (lw_V q186 q188 qs11 q16 q189) rfl rfl rfl (by decide +kernel) ⟨Nat.le_of_ble_eq_true rfl, Nat.le_of_ble_eq_true rfl⟩) (va_recv hK hP (ci := 1) (q0 := 0) rfl rfl) hK hP hD hS hA [0, 1, 2, 3, 4] [] rfl rfl rfl rfl (by decide) rfl hl.1 rfl (Nat.le_of_ble_eq_true rfl) dX1_enough_4 ⟨Nat.zero_le _, Nat.zero_le _⟩ (fun u H locs hw hP hD hS => ?_)
  have hP : va_P (dC, dI) vwCl (wM h0 h1 h2 h3 h4 dZ dN pr S V u) H := hP
  have hD : va_D A (wM h0 h1 h2 h3 h4 dZ dN pr S V u) := hD
  obtain ⟨T1, rfl⟩ : ∃ z, z = u := ⟨_, rfl⟩
  have hT := hw
  rw [nx_1023 hI.1] at hT
  refine lv_aload_n hx hb dX1_enough_7 rfl (lv_at hl 0 rfl) ?_
  refine fd_cI (As := []) (rest := []) (wc := wM h0 h1 h2 h3 h4 dZ dN pr S V T1) (wr := []) ⟨hx, hb, hml, hown, hts⟩ (cM_size l dC dI dS dZ dN h0 h1 h2 h3 h4 _ pr S V T1) (cwV 0 hts (lw_V q214 q216 qs12 q16 q217) rfl rfl rfl (by decide +kernel) ⟨Nat.le_of_ble_eq_true rfl, Nat.le_of_ble_eq_true rfl⟩) (va_recv hK hP (ci := 1) (q0 := 0) rfl rfl) hK hP hD hS hA [0, 1, 2, 3, 4] [] rfl rfl rfl rfl (by decide) rfl hl.1 rfl (Nat.le_of_ble_eq_true rfl) dX1_enough_8 ⟨Nat.zero_le _, Nat.zero_le _⟩ (fun r u H locs hw hP hD hS => ?_)
  have hP : va_P (dC, dI) vwCl (wM h0 h1 h2 h3 h4 dZ dN pr S V T1) H := hP
  have hD : va_D A (wM h0 h1 h2 h3 h4 dZ dN pr S V T1) := hD
  rw [pu_size_kb hI.2.2 hT] at hw
  subst hw
  refine lv_istore_n (lv' := [(2, .int (nI (pu_ct (pu_kb pr S V) 256))), (0, .ref h0), (1, .int a0)]) hx hb dX1_enough_11 rfl hl (by decide) rfl (fun ls hl => ?_)
  refine lv_aload_n hx hb dX1_enough_12 rfl (lv_at hl 1 rfl) ?_
  refine lv_iload_n hx hb dX1_enough_13 rfl (lv_at hl 2 rfl) ?_
  refine fd_cV (As := [.int a0]) (rest := []) (wc := wM h0 h1 h2 h3 h4 dZ dN pr S V T1) (wr := []) ⟨hx, hb, hml, hown, hts⟩ (cM_work l dC dI dS dZ dN h0 h1 h2 h3 h4 _ pr S V T1 hI.2.1 a0) (cwV 1 hts (lw_V q186 q188 qs11 q16 q189) rfl rfl rfl (by decide +kernel) ⟨Nat.le_of_ble_eq_true rfl, Nat.le_of_ble_eq_true rfl⟩) (va_recv hK hP (ci := 1) (q0 := 0) rfl rfl) hK hP hD hS hA [0, 1, 2, 3, 4] [] rfl rfl rfl rfl (by decide) rfl hl.1 rfl (Nat.le_of_ble_eq_true rfl) dX1_enough_14 ⟨Nat.zero_le _, Nat.zero_le _⟩ (fun u H locs hw hP hD hS => ?_)
  have hP : va_P (dC, dI) vwCl (wM h0 h1 h2 h3 h4 dZ dN pr S V u) H := hP
  have hD : va_D A (wM h0 h1 h2 h3 h4 dZ dN pr S V u) := hD
  obtain ⟨T2, rfl⟩ : ∃ z, z = u := ⟨_, rfl⟩
  have hT2 := hw
  refine lv_aload_n hx hb dX1_enough_17 rfl (lv_at hl 1 rfl) ?_
  refine fd_cI (As := []) (rest := []) (wc := wM h0 h1 h2 h3 h4 dZ dN pr S V T2) (wr := []) ⟨hx, hb, hml, hown, hts⟩ (cM_size l dC dI dS dZ dN h0 h1 h2 h3 h4 _ pr S V T2) (cwV 0 hts (lw_V q214 q216 qs12 q16 q217) rfl rfl rfl (by decide +kernel) ⟨Nat.le_of_ble_eq_true rfl, Nat.le_of_ble_eq_true rfl⟩) (va_recv hK hP (ci := 1) (q0 := 0) rfl rfl) hK hP hD hS hA [0, 1, 2, 3, 4] [] rfl rfl rfl rfl (by decide) rfl hl.1 rfl (Nat.le_of_ble_eq_true rfl) dX1_enough_18 ⟨Nat.zero_le _, Nat.zero_le _⟩ (fun r u H locs hw hP hD hS => ?_)
  have hP : va_P (dC, dI) vwCl (wM h0 h1 h2 h3 h4 dZ dN pr S V T2) H := hP
  have hD : va_D A (wM h0 h1 h2 h3 h4 dZ dN pr S V T2) := hD
  rw [pu_size_kb (pu_con_sub (nx_mask_sub a0) hI.2.2) hT2] at hw
  subst hw
  have hl1 := pu_ct_le (pu_kb pr S V) 256
  have hl2 := pu_ct_le (pu_kb (pr &&& pu_ib a0) S V) 256
  refine lv_iload_n hx hb dX1_enough_21 rfl (lv_at hl 0 rfl) ?_
  refine fd_icmp_ne (tgt := 29) hx hb dX1_enough_22 (by decide) (by omega) (by omega) (fun c_22 => ?_) (fun c_22 => ?_)
  · refine lv_iconst (v := nI 0) hx hb dX1_enough_29 (by decide) ?_
    exact fd_zret hx hb hr hlocks hK hS (v := nI 0) (rfl) T2 hP hD dX1_enough_30 (by unfold pu_en; rw [decide_eq_false (fun z => c_22 z.symm)]; rfl)
  · refine lv_iconst (v := nI 1) hx hb dX1_enough_25 (by decide) ?_
    refine lv_goto (tgt := 30) hx hb dX1_enough_26 (by decide) ?_
    exact fd_zret hx hb hr hlocks hK hS (v := nI 1) (rfl) T2 hP hD dX1_enough_30 (by unfold pu_en; rw [decide_eq_true c_22.symm]; rfl)
set_option maxHeartbeats 4000000 in
set_option maxRecDepth 100000 in
/-- idle(k) -/
theorem cM_idle (l : Launch) (dC : Nat → ClassId) (dI : Nat → Nat → Nat) (dS dZ dN : ClassId) (h0 h1 h2 h3 h4 sz pr : Nat) (S V : Nat → Nat) (T : Nat → Int32) (hI : pu_inv pr S V) (a0 : Int32) : fd_MI l yX1_idle (ws_ yX1_idle cX1_idle 2 (some .boolean)) 2 (dC, dI) (fd_ty dS dZ dN) [.ref h0, .int a0] (wM h0 h1 h2 h3 h4 dZ dN pr S V T) sz (fun r (u : Nat → Int32) => r = nI (pu_id pr S V a0).toNat) (fun (u : Nat → Int32) => wM h0 h1 h2 h3 h4 dZ dN pr S V u) := by
  refine Met.ofW (cc := cX1_idle) (maxL := 2) (ret := (some .boolean)) (by decide) rfl ?_
  intro p e s m args below meth c s₁ B hml hv
  obtain ⟨rfl, hsz, hP, hK, hD0⟩ := hv
  have hx := B.exec
  have hb := B.bytes
  have hr := B.returns
  have hts := atoms_spec (ws := ws_ yX1_idle cX1_idle 2 (some .boolean)) B.pre
  have hts : ∀ w ∈ lw_all, w.before _ s = true := fun w h => hts w (List.mem_cons_of_mem _ h)
  have hown : s.vm.findClass RX1 = some m.cls := findClass_of_methodNamed B.named
  have hlocks := B.notSynchronized
  subst hsz
  have hD := hD0.self (sz := s.heap.size)
  generalize hAe : va_A (wM h0 h1 h2 h3 h4 dZ dN pr S V T) s.heap.size = A at hD ⊢
  have hA : ∀ q : Nat, s.heap.size ≤ q → A q := fun q h => by rw [← hAe]; exact Or.inr h
  have hS : va_S A s.heap s.heap [] := va_S.rf
  have hP : va_P (dC, dI) vwCl (wM h0 h1 h2 h3 h4 dZ dN pr S V T) s.heap := hP
  have hl := lv_entry ([.ref h0, .int a0]) (n := 2) (Nat.le_of_ble_eq_true rfl)
  rw [lg_entry_eq]
  generalize (lg_sl ([.ref h0, .int a0]) ++ List.replicate (2 - (lg_sl ([.ref h0, .int a0])).length) Slot.unset).toArray = ls at hl ⊢
  have hl : lv_has ls 2 [(0, .ref h0), (1, .int a0)] := hl
  refine lv_iload_n hx hb dX1_idle_0 rfl (lv_at hl 1 rfl) ?_
  refine lv_if_lt (tgt := 19) hx hb dX1_idle_1 (by decide) (fun c_1 => ?_) (fun c_1 => ?_)
  · refine lv_iconst (v := nI 0) hx hb dX1_idle_19 (by decide) ?_
    exact fd_zret hx hb hr hlocks hK hS (v := nI 0) (rfl) T hP hD dX1_idle_20 (by rw [pu_id_f (pu_has_lo c_1)]; rfl)
  · refine lv_iload_n hx hb dX1_idle_4 rfl (lv_at hl 1 rfl) ?_
    refine lv_bipush (v := nI 9) hx hb dX1_idle_5 (by decide) ?_
    refine lv_icmp_gt (tgt := 19) hx hb dX1_idle_7 (by decide) (fun (c_7 : 9 < a0) => ?_) (fun (c_7 : ¬ 9 < a0) => ?_)
    · refine lv_iconst (v := nI 0) hx hb dX1_idle_19 (by decide) ?_
      exact fd_zret hx hb hr hlocks hK hS (v := nI 0) (rfl) T hP hD dX1_idle_20 (by rw [pu_id_f (pu_has_hi (pu_gt9 c_7))]; rfl)
    · obtain ⟨k, hk, rfl⟩ := nI_of2 (n := 9) (M := 9) (by decide) c_1 (pu_lt_of c_7)
      refine lv_aload_n hx hb dX1_idle_10 rfl (lv_at hl 0 rfl) ?_
      refine va_get (D := (dC, dI)) (ci := 1) (v := .ref h1) (C := RX1) (T := TX1) (N := 4) hx hb hts in_X1 hown hK hP 0 rfl rfl 0 (by decide) (hts _ q159) (fun _ h9 => h9) rfl dX1_idle_11 ?_
      refine lv_iload_n hx hb dX1_idle_14 rfl (lv_at hl 1 rfl) ?_
      refine fd_zald hx hb hK hP 1 1 pr rfl rfl (i := k) (by omega) (by decide) dX1_idle_15 ?_
      refine fd_bit_ne (tgt := 21) hx hb dX1_idle_16 (by decide) (fun c_16 => ?_) (fun c_16 => ?_)
      · refine lv_aload_n hx hb dX1_idle_21 rfl (lv_at hl 0 rfl) ?_
        refine lv_sipush (v := nI 1023) hx hb dX1_idle_22 (by decide) ?_
        refine lv_iconst (v := nI 1) hx hb dX1_idle_25 (by decide) ?_
        refine lv_iload_n hx hb dX1_idle_26 rfl (lv_at hl 1 rfl) ?_
        refine lv_ishl hx hb dX1_idle_27 ?_
        refine fd_top (y := nI (2 ^ k)) (nx_shl1 (by omega)) ?_
        refine lv_iconst (v := (-1)) hx hb dX1_idle_28 (by decide) ?_
        refine lv_ixor hx hb dX1_idle_29 ?_
        refine lv_iand hx hb dX1_idle_30 ?_
        refine fd_top (y := nI (1023 ^^^ 2 ^ k)) (nx_clr (by decide) (by omega) (nx_1023b k (by omega))) ?_
        refine fd_cI (As := [.int (nI (1023 ^^^ 2 ^ k))]) (rest := []) (wc := wM h0 h1 h2 h3 h4 dZ dN pr S V T) (wr := []) ⟨hx, hb, hml, hown, hts⟩ (cM_enough l dC dI dS dZ dN h0 h1 h2 h3 h4 _ pr S V T hI (nI (1023 ^^^ 2 ^ k))) (cwV 1 hts (lw_V q222 q223 q224 q16 q225) rfl rfl rfl (by decide +kernel) ⟨Nat.le_of_ble_eq_true rfl, Nat.le_of_ble_eq_true rfl⟩) (va_recv hK hP (ci := 1) (q0 := 0) rfl rfl) hK hP hD hS hA [0, 1, 2, 3, 4] [] rfl rfl rfl rfl (by decide) rfl hl.1 rfl (Nat.le_of_ble_eq_true rfl) dX1_idle_31 ⟨Nat.zero_le _, Nat.zero_le _⟩ (fun r u H locs hw hP hD hS => ?_)
        have hP : va_P (dC, dI) vwCl (wM h0 h1 h2 h3 h4 dZ dN pr S V u) H := hP
        have hD : va_D A (wM h0 h1 h2 h3 h4 dZ dN pr S V u) := hD
        rw [nx_idle2 hI.1 (by omega) c_16] at hw
        subst hw
        exact fd_zret hx hb hr hlocks hK hS (v := nI (pu_en pr (pr ^^^ 2 ^ k) S V).toNat) (fd_nz _) u hP hD dX1_idle_34 (by rw [pu_id_t (by omega) c_16])
      · refine lv_iconst (v := nI 0) hx hb dX1_idle_19 (by decide) ?_
        exact fd_zret hx hb hr hlocks hK hS (v := nI 0) (rfl) T hP hD dX1_idle_20 (by rw [pu_id_f ((pu_has_nI (by omega)).trans c_16)]; rfl)
end
section
set_option maxHeartbeats 4000000 in
set_option maxRecDepth 100000 in
/-- knownSums() -/
theorem cM_knownSums (l : Launch) (dC : Nat → ClassId) (dI : Nat → Nat → Nat) (dS dZ dN : ClassId) (h0 h1 h2 h3 h4 sz pr : Nat) (S V : Nat → Nat) (T : Nat → Int32) (hI : pu_inv pr S V) : fd_MI l yX1_knownSums (ws_ yX1_knownSums cX1_knownSums 1 (some .int)) 1 (dC, dI) (fd_ty dS dZ dN) [.ref h0] (wM h0 h1 h2 h3 h4 dZ dN pr S V T) sz (fun r (u : Nat → Int32) => r = nI (pu_ct (pu_kb pr S V) 256 - 1)) (fun (u : Nat → Int32) => wM h0 h1 h2 h3 h4 dZ dN pr S V u) := by
  refine Met.ofW (cc := cX1_knownSums) (maxL := 1) (ret := (some .int)) (by decide) rfl ?_
  intro p e s m args below meth c s₁ B hml hv
  obtain ⟨rfl, hsz, hP, hK, hD0⟩ := hv
  have hx := B.exec
  have hb := B.bytes
  have hr := B.returns
  have hts := atoms_spec (ws := ws_ yX1_knownSums cX1_knownSums 1 (some .int)) B.pre
  have hts : ∀ w ∈ lw_all, w.before _ s = true := fun w h => hts w (List.mem_cons_of_mem _ h)
  have hown : s.vm.findClass RX1 = some m.cls := findClass_of_methodNamed B.named
  have hlocks := B.notSynchronized
  subst hsz
  have hD := hD0.self (sz := s.heap.size)
  generalize hAe : va_A (wM h0 h1 h2 h3 h4 dZ dN pr S V T) s.heap.size = A at hD ⊢
  have hA : ∀ q : Nat, s.heap.size ≤ q → A q := fun q h => by rw [← hAe]; exact Or.inr h
  have hS : va_S A s.heap s.heap [] := va_S.rf
  have hP : va_P (dC, dI) vwCl (wM h0 h1 h2 h3 h4 dZ dN pr S V T) s.heap := hP
  have hl := lv_entry ([.ref h0]) (n := 1) (Nat.le_of_ble_eq_true rfl)
  rw [lg_entry_eq]
  generalize (lg_sl ([.ref h0]) ++ List.replicate (1 - (lg_sl ([.ref h0])).length) Slot.unset).toArray = ls at hl ⊢
  have hl : lv_has ls 1 [(0, .ref h0)] := hl
  refine lv_aload_n hx hb dX1_knownSums_0 rfl (lv_at hl 0 rfl) ?_
  refine lv_sipush (v := nI 1023) hx hb dX1_knownSums_1 (by decide) ?_
  refine fd_cV (As := [.int (nI 1023)]) (rest := []) (wc := wM h0 h1 h2 h3 h4 dZ dN pr S V T) (wr := []) ⟨hx, hb, hml, hown, hts⟩ (cM_work l dC dI dS dZ dN h0 h1 h2 h3 h4 _ pr S V T hI.2.1 (nI 1023)) (cwV 1 hts (lw_V q186 q188 qs11 q16 q189) rfl rfl rfl (by decide +kernel) ⟨Nat.le_of_ble_eq_true rfl, Nat.le_of_ble_eq_true rfl⟩) (va_recv hK hP (ci := 1) (q0 := 0) rfl rfl) hK hP hD hS hA [0, 1, 2, 3, 4] [] rfl rfl rfl rfl (by decide) rfl hl.1 rfl (Nat.le_of_ble_eq_true rfl) dX1_knownSums_4 ⟨Nat.zero_le _, Nat.zero_le _⟩ (fun u H locs hw hP hD hS => ?_)
  have hP : va_P (dC, dI) vwCl (wM h0 h1 h2 h3 h4 dZ dN pr S V u) H := hP
  have hD : va_D A (wM h0 h1 h2 h3 h4 dZ dN pr S V u) := hD
  obtain ⟨T1, rfl⟩ : ∃ z, z = u := ⟨_, rfl⟩
  have hT := hw
  rw [nx_1023 hI.1] at hT
  refine lv_aload_n hx hb dX1_knownSums_7 rfl (lv_at hl 0 rfl) ?_
  refine fd_cI (As := []) (rest := []) (wc := wM h0 h1 h2 h3 h4 dZ dN pr S V T1) (wr := []) ⟨hx, hb, hml, hown, hts⟩ (cM_size l dC dI dS dZ dN h0 h1 h2 h3 h4 _ pr S V T1) (cwV 0 hts (lw_V q214 q216 qs12 q16 q217) rfl rfl rfl (by decide +kernel) ⟨Nat.le_of_ble_eq_true rfl, Nat.le_of_ble_eq_true rfl⟩) (va_recv hK hP (ci := 1) (q0 := 0) rfl rfl) hK hP hD hS hA [0, 1, 2, 3, 4] [] rfl rfl rfl rfl (by decide) rfl hl.1 rfl (Nat.le_of_ble_eq_true rfl) dX1_knownSums_8 ⟨Nat.zero_le _, Nat.zero_le _⟩ (fun r u H locs hw hP hD hS => ?_)
  have hP : va_P (dC, dI) vwCl (wM h0 h1 h2 h3 h4 dZ dN pr S V T1) H := hP
  have hD : va_D A (wM h0 h1 h2 h3 h4 dZ dN pr S V T1) := hD
  rw [pu_size_kb hI.2.2 hT] at hw
  subst hw
  refine lv_iconst (v := nI 1) hx hb dX1_knownSums_11 (by decide) ?_
  refine lv_isub hx hb dX1_knownSums_12 ?_
  refine fd_top (y := nI ((pu_ct (pu_kb pr S V) 256) - 1)) (pk_sub (pu_ct_pos (pu_kb_0 hI.2.2) 255)) ?_
  exact fd_iret hx hb hr hlocks hK hS (v := nI ((pu_ct (pu_kb pr S V) 256) - 1)) T1 hP hD dX1_knownSums_13 (rfl)
set_option maxHeartbeats 4000000 in
set_option maxRecDepth 100000 in
/-- knownWith(set) -/
theorem cM_knownWith (l : Launch) (dC : Nat → ClassId) (dI : Nat → Nat → Nat) (dS dZ dN : ClassId) (h0 h1 h2 h3 h4 sz pr : Nat) (S V : Nat → Nat) (T : Nat → Int32) (hI : pu_inv pr S V) (a0 : Int32) : fd_MI l yX1_knownWith (ws_ yX1_knownWith cX1_knownWith 2 (some .int)) 1 (dC, dI) (fd_ty dS dZ dN) [.ref h0, .int a0] (wM h0 h1 h2 h3 h4 dZ dN pr S V T) sz (fun r (u : Nat → Int32) => r = pu_kw pr S V a0) (fun (u : Nat → Int32) => wM h0 h1 h2 h3 h4 dZ dN pr S V u) := by
  refine Met.ofW (cc := cX1_knownWith) (maxL := 2) (ret := (some .int)) (by decide) rfl ?_
  intro p e s m args below meth c s₁ B hml hv
  obtain ⟨rfl, hsz, hP, hK, hD0⟩ := hv
  have hx := B.exec
  have hb := B.bytes
  have hr := B.returns
  have hts := atoms_spec (ws := ws_ yX1_knownWith cX1_knownWith 2 (some .int)) B.pre
  have hts : ∀ w ∈ lw_all, w.before _ s = true := fun w h => hts w (List.mem_cons_of_mem _ h)
  have hown : s.vm.findClass RX1 = some m.cls := findClass_of_methodNamed B.named
  have hlocks := B.notSynchronized
  subst hsz
  have hD := hD0.self (sz := s.heap.size)
  generalize hAe : va_A (wM h0 h1 h2 h3 h4 dZ dN pr S V T) s.heap.size = A at hD ⊢
  have hA : ∀ q : Nat, s.heap.size ≤ q → A q := fun q h => by rw [← hAe]; exact Or.inr h
  have hS : va_S A s.heap s.heap [] := va_S.rf
  have hP : va_P (dC, dI) vwCl (wM h0 h1 h2 h3 h4 dZ dN pr S V T) s.heap := hP
  have hl := lv_entry ([.ref h0, .int a0]) (n := 2) (Nat.le_of_ble_eq_true rfl)
  rw [lg_entry_eq]
  generalize (lg_sl ([.ref h0, .int a0]) ++ List.replicate (2 - (lg_sl ([.ref h0, .int a0])).length) Slot.unset).toArray = ls at hl ⊢
  have hl : lv_has ls 2 [(0, .ref h0), (1, .int a0)] := hl
  refine lv_aload_n hx hb dX1_knownWith_0 rfl (lv_at hl 0 rfl) ?_
  refine lv_iload_n hx hb dX1_knownWith_1 rfl (lv_at hl 1 rfl) ?_
  refine fd_cI (As := [.int a0]) (rest := []) (wc := []) (wr := wM h0 h1 h2 h3 h4 dZ dN pr S V T) ⟨hx, hb, hml, hown, hts⟩ (cM_pieces l dC dI dS dZ dN h0 _ a0) (cwV 1 hts (lw_V q178 q180 qs9 q16 q181) rfl rfl rfl (by decide +kernel) ⟨Nat.le_of_ble_eq_true rfl, Nat.le_of_ble_eq_true rfl⟩) (va_recv hK hP (ci := 1) (q0 := 0) rfl rfl) hK hP hD hS hA [] [0, 1, 2, 3, 4] rfl rfl rfl rfl (by decide) rfl hl.1 rfl (Nat.le_of_ble_eq_true rfl) dX1_knownWith_2 ⟨Nat.zero_le _, Nat.zero_le _⟩ (fun r u H locs hw hP hD hS => ?_)
  have hP : va_P (dC, dI) vwCl (wM h0 h1 h2 h3 h4 dZ dN pr S V T) H := hP
  have hD : va_D A (wM h0 h1 h2 h3 h4 dZ dN pr S V T) := hD
  subst hw
  refine fd_bit_ne (tgt := 10) hx hb dX1_knownWith_5 (by decide) (fun c_5 => ?_) (fun c_5 => ?_)
  · obtain ⟨a, ha1, ha, rfl⟩ := pu_of1 (of_decide_eq_true c_5).1 (of_decide_eq_true c_5).2
    refine lv_aload_n hx hb dX1_knownWith_10 rfl (lv_at hl 0 rfl) ?_
    refine lv_sipush (v := nI 1023) hx hb dX1_knownWith_11 (by decide) ?_
    refine fd_cV (As := [.int (nI 1023)]) (rest := []) (wc := wM h0 h1 h2 h3 h4 dZ dN pr S V T) (wr := []) ⟨hx, hb, hml, hown, hts⟩ (cM_work l dC dI dS dZ dN h0 h1 h2 h3 h4 _ pr S V T hI.2.1 (nI 1023)) (cwV 1 hts (lw_V q186 q188 qs11 q16 q189) rfl rfl rfl (by decide +kernel) ⟨Nat.le_of_ble_eq_true rfl, Nat.le_of_ble_eq_true rfl⟩) (va_recv hK hP (ci := 1) (q0 := 0) rfl rfl) hK hP hD hS hA [0, 1, 2, 3, 4] [] rfl rfl rfl rfl (by decide) rfl hl.1 rfl (Nat.le_of_ble_eq_true rfl) dX1_knownWith_14 ⟨Nat.zero_le _, Nat.zero_le _⟩ (fun u H locs hw hP hD hS => ?_)
    have hP : va_P (dC, dI) vwCl (wM h0 h1 h2 h3 h4 dZ dN pr S V u) H := hP
    have hD : va_D A (wM h0 h1 h2 h3 h4 dZ dN pr S V u) := hD
    obtain ⟨T1, rfl⟩ : ∃ z, z = u := ⟨_, rfl⟩
    have hT := hw
    rw [nx_1023 hI.1] at hT
    refine lv_aload_n hx hb dX1_knownWith_17 rfl (lv_at hl 0 rfl) ?_
    refine lv_iload_n hx hb dX1_knownWith_18 rfl (lv_at hl 1 rfl) ?_
    refine fd_cI (As := [.int (nI a)]) (rest := []) (wc := wM h0 h1 h2 h3 h4 dZ dN pr S V T1) (wr := []) ⟨hx, hb, hml, hown, hts⟩ (cM_with l dC dI dS dZ dN h0 h1 h2 h3 h4 _ pr S V T1 a ha) (cwV 1 hts (lw_V q234 q236 qs13 q16 q237) rfl rfl rfl (by decide +kernel) ⟨Nat.le_of_ble_eq_true rfl, Nat.le_of_ble_eq_true rfl⟩) (va_recv hK hP (ci := 1) (q0 := 0) rfl rfl) hK hP hD hS hA [0, 1, 2, 3, 4] [] rfl rfl rfl rfl (by decide) rfl hl.1 rfl (Nat.le_of_ble_eq_true rfl) dX1_knownWith_19 ⟨Nat.zero_le _, Nat.zero_le _⟩ (fun r u H locs hw hP hD hS => ?_)
    have hP : va_P (dC, dI) vwCl (wM h0 h1 h2 h3 h4 dZ dN pr S V T1) H := hP
    have hD : va_D A (wM h0 h1 h2 h3 h4 dZ dN pr S V T1) := hD
    rw [pu_with_wt hI.2.2 hT ha] at hw
    subst hw
    exact fd_iret hx hb hr hlocks hK hS (v := nI (pu_wt pr S V a)) T1 hP hD dX1_knownWith_22 (by rw [pu_kw_in ha1 ha])
  · refine lv_iconst (v := (-1)) hx hb dX1_knownWith_8 (by decide) ?_
    exact fd_iret hx hb hr hlocks hK hS (v := (-1)) T hP hD dX1_knownWith_9 (by unfold pu_kw; rw [if_neg (of_decide_eq_false c_5)])
set_option maxHeartbeats 4000000 in
set_option maxRecDepth 100000 in
/-- bestSet() -/
theorem cM_bestSet (l : Launch) (dC : Nat → ClassId) (dI : Nat → Nat → Nat) (dS dZ dN : ClassId) (h0 h1 h2 h3 h4 sz pr : Nat) (S V : Nat → Nat) (T : Nat → Int32) (hI : pu_inv pr S V) : fd_MI l yX1_bestSet (ws_ yX1_bestSet cX1_bestSet 3 (some .int)) 1 (dC, dI) (fd_ty dS dZ dN) [.ref h0] (wM h0 h1 h2 h3 h4 dZ dN pr S V T) sz (fun r (u : Nat → Int32) => r = nI (pu_bst (pu_wt pr S V) 254)) (fun (u : Nat → Int32) => wM h0 h1 h2 h3 h4 dZ dN pr S V u) := by
  refine Met.ofW (cc := cX1_bestSet) (maxL := 3) (ret := (some .int)) (by decide) rfl ?_
  intro p e s m args below meth c s₁ B hml hv
  obtain ⟨rfl, hsz, hP, hK, hD0⟩ := hv
  have hx := B.exec
  have hb := B.bytes
  have hr := B.returns
  have hts := atoms_spec (ws := ws_ yX1_bestSet cX1_bestSet 3 (some .int)) B.pre
  have hts : ∀ w ∈ lw_all, w.before _ s = true := fun w h => hts w (List.mem_cons_of_mem _ h)
  have hown : s.vm.findClass RX1 = some m.cls := findClass_of_methodNamed B.named
  have hlocks := B.notSynchronized
  subst hsz
  have hD := hD0.self (sz := s.heap.size)
  generalize hAe : va_A (wM h0 h1 h2 h3 h4 dZ dN pr S V T) s.heap.size = A at hD ⊢
  have hA : ∀ q : Nat, s.heap.size ≤ q → A q := fun q h => by rw [← hAe]; exact Or.inr h
  have hS : va_S A s.heap s.heap [] := va_S.rf
  have hP : va_P (dC, dI) vwCl (wM h0 h1 h2 h3 h4 dZ dN pr S V T) s.heap := hP
  have hl := lv_entry ([.ref h0]) (n := 3) (Nat.le_of_ble_eq_true rfl)
  rw [lg_entry_eq]
  generalize (lg_sl ([.ref h0]) ++ List.replicate (3 - (lg_sl ([.ref h0])).length) Slot.unset).toArray = ls at hl ⊢
  have hl : lv_has ls 3 [(0, .ref h0)] := hl
  refine lv_aload_n hx hb dX1_bestSet_0 rfl (lv_at hl 0 rfl) ?_
  refine lv_sipush (v := nI 1023) hx hb dX1_bestSet_1 (by decide) ?_
  refine fd_cV (As := [.int (nI 1023)]) (rest := []) (wc := wM h0 h1 h2 h3 h4 dZ dN pr S V T) (wr := []) ⟨hx, hb, hml, hown, hts⟩ (cM_work l dC dI dS dZ dN h0 h1 h2 h3 h4 _ pr S V T hI.2.1 (nI 1023)) (cwV 1 hts (lw_V q186 q188 qs11 q16 q189) rfl rfl rfl (by decide +kernel) ⟨Nat.le_of_ble_eq_true rfl, Nat.le_of_ble_eq_true rfl⟩) (va_recv hK hP (ci := 1) (q0 := 0) rfl rfl) hK hP hD hS hA [0, 1, 2, 3, 4] [] rfl rfl rfl rfl (by decide) rfl hl.1 rfl (Nat.le_of_ble_eq_true rfl) dX1_bestSet_4 ⟨Nat.zero_le _, Nat.zero_le _⟩ (fun u H locs hw hP hD hS => ?_)
  have hP : va_P (dC, dI) vwCl (wM h0 h1 h2 h3 h4 dZ dN pr S V u) H := hP
  have hD : va_D A (wM h0 h1 h2 h3 h4 dZ dN pr S V u) := hD
  obtain ⟨T1, rfl⟩ : ∃ z, z = u := ⟨_, rfl⟩
  have hT := hw
  rw [nx_1023 hI.1] at hT
  refine lv_iconst (v := nI 1) hx hb dX1_bestSet_7 (by decide) ?_
  refine lv_istore_n (lv' := [(1, .int (nI 1)), (0, .ref h0)]) hx hb dX1_bestSet_8 rfl hl (by decide) rfl (fun ls hl => ?_)
  refine lv_iconst (v := nI 2) hx hb dX1_bestSet_9 (by decide) ?_
  refine lv_istore_n (lv' := [(2, .int (nI 2)), (1, .int (nI 1)), (0, .ref h0)]) hx hb dX1_bestSet_10 rfl hl (by decide) rfl (fun ls hl => ?_)
  refine fd_loop (fun n H locs ls => ∃ (k : Nat) (bs : Nat), n = 254 - k ∧ (k ≤ 254) ∧ (bs = pu_bst (pu_wt pr S V) k) ∧ va_P (dC, dI) vwCl (wM h0 h1 h2 h3 h4 dZ dN pr S V T1) H ∧ va_D A (wM h0 h1 h2 h3 h4 dZ dN pr S V T1) ∧ va_S A s.heap H locs ∧ lv_has ls 3 [(0, .ref h0), (1, .int (nI bs)), (2, .int (nI (k + 2)))]) _ ⟨0, 1, rfl, (by omega), rfl, hP, hD, hS, lv_sub hl [2, 1, 0] rfl⟩ ?_
  rintro n H locs ls ⟨k, bs, hms, hk, eb, hP, hD, hS, hl⟩ ih
  refine lv_iload_n hx hb dX1_bestSet_11 rfl (lv_at hl 2 rfl) ?_
  refine lv_sipush (v := nI 256) hx hb dX1_bestSet_12 (by decide) ?_
  refine fd_icmp_ge (tgt := 43) hx hb dX1_bestSet_15 (by decide) (by omega) (by omega) (fun c_15 => ?_) (fun c_15 => ?_)
  · refine lv_iload_n hx hb dX1_bestSet_43 rfl (lv_at hl 1 rfl) ?_
    exact fd_iret hx hb hr hlocks hK hS (v := nI bs) T1 hP hD dX1_bestSet_44 (by rw [eb, show k = 254 by omega])
  · have hbi := pu_bst_in (pu_wt pr S V) k
    have hbs : bs < 256 := by omega
    have hg1 := pu_wt_le pr S V (k + 2)
    have hg2 := pu_wt_le pr S V bs
    refine lv_aload_n hx hb dX1_bestSet_18 rfl (lv_at hl 0 rfl) ?_
    refine lv_iload_n hx hb dX1_bestSet_19 rfl (lv_at hl 2 rfl) ?_
    refine fd_cI (As := [.int (nI (k + 2))]) (rest := []) (wc := wM h0 h1 h2 h3 h4 dZ dN pr S V T1) (wr := []) ⟨hx, hb, hml, hown, hts⟩ (cM_with l dC dI dS dZ dN h0 h1 h2 h3 h4 _ pr S V T1 (k + 2) (by omega)) (cwV 1 hts (lw_V q234 q236 qs13 q16 q237) rfl rfl rfl (by decide +kernel) ⟨Nat.le_of_ble_eq_true rfl, Nat.le_of_ble_eq_true rfl⟩) (va_recv hK hP (ci := 1) (q0 := 0) rfl rfl) hK hP hD hS hA [0, 1, 2, 3, 4] [] rfl rfl rfl rfl (by decide) rfl hl.1 rfl (Nat.le_of_ble_eq_true rfl) dX1_bestSet_20 ⟨Nat.zero_le _, Nat.zero_le _⟩ (fun r u H locs hw hP hD hS => ?_)
    have hP : va_P (dC, dI) vwCl (wM h0 h1 h2 h3 h4 dZ dN pr S V T1) H := hP
    have hD : va_D A (wM h0 h1 h2 h3 h4 dZ dN pr S V T1) := hD
    rw [pu_with_wt hI.2.2 hT (by omega)] at hw
    subst hw
    refine lv_aload_n hx hb dX1_bestSet_23 rfl (lv_at hl 0 rfl) ?_
    refine lv_iload_n hx hb dX1_bestSet_24 rfl (lv_at hl 1 rfl) ?_
    refine fd_cI (As := [.int (nI bs)]) (rest := [.int (nI (pu_wt pr S V (k + 2)))]) (wc := wM h0 h1 h2 h3 h4 dZ dN pr S V T1) (wr := []) ⟨hx, hb, hml, hown, hts⟩ (cM_with l dC dI dS dZ dN h0 h1 h2 h3 h4 _ pr S V T1 bs hbs) (cwV 1 hts (lw_V q234 q236 qs13 q16 q237) rfl rfl rfl (by decide +kernel) ⟨Nat.le_of_ble_eq_true rfl, Nat.le_of_ble_eq_true rfl⟩) (va_recv hK hP (ci := 1) (q0 := 0) rfl rfl) hK hP hD hS hA [0, 1, 2, 3, 4] [] rfl rfl rfl rfl (by decide) rfl hl.1 rfl (Nat.le_of_ble_eq_true rfl) dX1_bestSet_25 ⟨Nat.zero_le _, Nat.zero_le _⟩ (fun r u H locs hw hP hD hS => ?_)
    have hP : va_P (dC, dI) vwCl (wM h0 h1 h2 h3 h4 dZ dN pr S V T1) H := hP
    have hD : va_D A (wM h0 h1 h2 h3 h4 dZ dN pr S V T1) := hD
    rw [pu_with_wt hI.2.2 hT hbs] at hw
    subst hw
    refine fd_icmp_le (tgt := 35) hx hb dX1_bestSet_28 (by decide) (by omega) (by omega) (fun c_28 => ?_) (fun c_28 => ?_)
    · refine lv_iload_n hx hb dX1_bestSet_35 rfl (lv_at hl 1 rfl) ?_
      refine lv_istore_n (lv' := [(1, .int (nI bs)), (0, .ref h0), (2, .int (nI (k + 2)))]) hx hb dX1_bestSet_36 rfl hl (by decide) rfl (fun ls hl => ?_)
      refine lv_iinc (v := nI (k + 1 + 2)) (lv' := [(2, .int (nI (k + 1 + 2))), (1, .int (nI bs)), (0, .ref h0)]) hx hb dX1_bestSet_37 hl (k := 2) rfl (nI_1 _) (by decide) rfl (fun ls hl => ?_)
      refine lv_goto (tgt := 11) hx hb dX1_bestSet_40 (by decide) ?_
      exact ih _ _ _ _ (by omega) ⟨k + 1, bs, rfl, (by omega), (by simp only [pu_bst]; rw [if_neg (by rw [← eb]; omega)]; exact eb), hP, hD, hS, lv_sub hl [2, 1, 0] rfl⟩
    · refine lv_iload_n hx hb dX1_bestSet_31 rfl (lv_at hl 2 rfl) ?_
      refine lv_goto (tgt := 36) hx hb dX1_bestSet_32 (by decide) ?_
      refine lv_istore_n (lv' := [(1, .int (nI (k + 2))), (0, .ref h0), (2, .int (nI (k + 2)))]) hx hb dX1_bestSet_36 rfl hl (by decide) rfl (fun ls hl => ?_)
      refine lv_iinc (v := nI (k + 1 + 2)) (lv' := [(2, .int (nI (k + 1 + 2))), (1, .int (nI (k + 2))), (0, .ref h0)]) hx hb dX1_bestSet_37 hl (k := 2) rfl (nI_1 _) (by decide) rfl (fun ls hl => ?_)
      refine lv_goto (tgt := 11) hx hb dX1_bestSet_40 (by decide) ?_
      exact ih _ _ _ _ (by omega) ⟨k + 1, k + 2, rfl, (by omega), (by simp only [pu_bst]; rw [if_pos (by rw [← eb]; omega)]), hP, hD, hS, lv_sub hl [2, 1, 0] rfl⟩
set_option maxHeartbeats 4000000 in
set_option maxRecDepth 100000 in
/-- possible(i, v) -/
theorem cM_possible (l : Launch) (dC : Nat → ClassId) (dI : Nat → Nat → Nat) (dS dZ dN : ClassId) (h0 h1 h2 h3 h4 sz pr : Nat) (S V : Nat → Nat) (T : Nat → Int32) (hI : pu_inv pr S V) (a0 b0 : Int32) : fd_MI l yX1_possible (ws_ yX1_possible cX1_possible 4 (some .boolean)) 2 (dC, dI) (fd_ty dS dZ dN) [.ref h0, .int a0, .int b0] (wM h0 h1 h2 h3 h4 dZ dN pr S V T) sz (fun r (u : Nat → Int32) => r = nI (pu_po pr S V a0 b0).toNat) (fun (u : Nat → Int32) => wM h0 h1 h2 h3 h4 dZ dN pr S V u) := by
  refine Met.ofW (cc := cX1_possible) (maxL := 4) (ret := (some .boolean)) (by decide) rfl ?_
  intro p e s m args below meth c s₁ B hml hv
  obtain ⟨rfl, hsz, hP, hK, hD0⟩ := hv
  have hx := B.exec
  have hb := B.bytes
  have hr := B.returns
  have hts := atoms_spec (ws := ws_ yX1_possible cX1_possible 4 (some .boolean)) B.pre
  have hts : ∀ w ∈ lw_all, w.before _ s = true := fun w h => hts w (List.mem_cons_of_mem _ h)
  have hown : s.vm.findClass RX1 = some m.cls := findClass_of_methodNamed B.named
  have hlocks := B.notSynchronized
  subst hsz
  have hD := hD0.self (sz := s.heap.size)
  generalize hAe : va_A (wM h0 h1 h2 h3 h4 dZ dN pr S V T) s.heap.size = A at hD ⊢
  have hA : ∀ q : Nat, s.heap.size ≤ q → A q := fun q h => by rw [← hAe]; exact Or.inr h
  have hS : va_S A s.heap s.heap [] := va_S.rf
  have hP : va_P (dC, dI) vwCl (wM h0 h1 h2 h3 h4 dZ dN pr S V T) s.heap := hP
  have hl := lv_entry ([.ref h0, .int a0, .int b0]) (n := 4) (Nat.le_of_ble_eq_true rfl)
  rw [lg_entry_eq]
  generalize (lg_sl ([.ref h0, .int a0, .int b0]) ++ List.replicate (4 - (lg_sl ([.ref h0, .int a0, .int b0])).length) Slot.unset).toArray = ls at hl ⊢
  have hl : lv_has ls 4 [(0, .ref h0), (1, .int a0), (2, .int b0)] := hl
  refine lv_iload_n hx hb dX1_possible_0 rfl (lv_at hl 1 rfl) ?_
  refine lv_if_lt (tgt := 18) hx hb dX1_possible_1 (by decide) (fun c_1 => ?_) (fun c_1 => ?_)
  · refine lv_iconst (v := nI 0) hx hb dX1_possible_18 (by decide) ?_
    exact fd_zret hx hb hr hlocks hK hS (v := nI 0) (rfl) T hP hD dX1_possible_19 (by unfold pu_po; rw [decide_eq_false (fun z => pu_nle c_1 z.1.1.1)]; rfl)
  · refine lv_iload_n hx hb dX1_possible_4 rfl (lv_at hl 1 rfl) ?_
    refine lv_bipush (v := nI 7) hx hb dX1_possible_5 (by decide) ?_
    refine lv_icmp_gt (tgt := 18) hx hb dX1_possible_7 (by decide) (fun (c_7 : 7 < a0) => ?_) (fun (c_7 : ¬ 7 < a0) => ?_)
    · refine lv_iconst (v := nI 0) hx hb dX1_possible_18 (by decide) ?_
      exact fd_zret hx hb hr hlocks hK hS (v := nI 0) (rfl) T hP hD dX1_possible_19 (by unfold pu_po; rw [decide_eq_false (fun z => pu_gt7 c_7 z.1.1.2)]; rfl)
    · refine lv_aload_n hx hb dX1_possible_10 rfl (lv_at hl 0 rfl) ?_
      refine lv_iload_n hx hb dX1_possible_11 rfl (lv_at hl 2 rfl) ?_
      refine fd_cI (As := [.int b0]) (rest := []) (wc := []) (wr := wM h0 h1 h2 h3 h4 dZ dN pr S V T) ⟨hx, hb, hml, hown, hts⟩ (cM_number l dC dI dS dZ dN h0 _ b0) (cwV 1 hts (lw_V q182 q184 qs10 q16 q185) rfl rfl rfl (by decide +kernel) ⟨Nat.le_of_ble_eq_true rfl, Nat.le_of_ble_eq_true rfl⟩) (va_recv hK hP (ci := 1) (q0 := 0) rfl rfl) hK hP hD hS hA [] [0, 1, 2, 3, 4] rfl rfl rfl rfl (by decide) rfl hl.1 rfl (Nat.le_of_ble_eq_true rfl) dX1_possible_12 ⟨Nat.zero_le _, Nat.zero_le _⟩ (fun r u H locs hw hP hD hS => ?_)
      have hP : va_P (dC, dI) vwCl (wM h0 h1 h2 h3 h4 dZ dN pr S V T) H := hP
      have hD : va_D A (wM h0 h1 h2 h3 h4 dZ dN pr S V T) := hD
      subst hw
      refine fd_bit_ne (tgt := 20) hx hb dX1_possible_15 (by decide) (fun c_15 => ?_) (fun c_15 => ?_)
      · refine lv_aload_n hx hb dX1_possible_20 rfl (lv_at hl 0 rfl) ?_
        refine lv_iload_n hx hb dX1_possible_21 rfl (lv_at hl 1 rfl) ?_
        refine fd_cI (As := [.int a0]) (rest := []) (wc := wM h0 h1 h2 h3 h4 dZ dN pr S V T) (wr := []) ⟨hx, hb, hml, hown, hts⟩ (cM_piece l dC dI dS dZ dN h0 h1 h2 h3 h4 _ pr S V T hI a0) (cwV 1 hts (lw_V q246 q203 q204 q16 q205) rfl rfl rfl (by decide +kernel) ⟨Nat.le_of_ble_eq_true rfl, Nat.le_of_ble_eq_true rfl⟩) (va_recv hK hP (ci := 1) (q0 := 0) rfl rfl) hK hP hD hS hA [0, 1, 2, 3, 4] [] rfl rfl rfl rfl (by decide) rfl hl.1 rfl (Nat.le_of_ble_eq_true rfl) dX1_possible_22 ⟨Nat.zero_le _, Nat.zero_le _⟩ (fun r u H locs hw hP hD hS => ?_)
        have hP : va_P (dC, dI) vwCl (wM h0 h1 h2 h3 h4 dZ dN pr S V u) H := hP
        have hD : va_D A (wM h0 h1 h2 h3 h4 dZ dN pr S V u) := hD
        subst hw
        refine lv_istore_n (lv' := [(3, .int (pu_pc pr S V a0)), (0, .ref h0), (1, .int a0), (2, .int b0)]) hx hb dX1_possible_25 rfl hl (by decide) rfl (fun ls hl => ?_)
        refine lv_iload_n hx hb dX1_possible_26 rfl (lv_at hl 0 rfl) ?_
        refine lv_if_lt (tgt := 35) hx hb dX1_possible_27 (by decide) (fun c_27 => ?_) (fun c_27 => ?_)
        · refine lv_iconst (v := nI 1) hx hb dX1_possible_35 (by decide) ?_
          refine lv_goto (tgt := 40) hx hb dX1_possible_36 (by decide) ?_
          exact fd_zret hx hb hr hlocks hK hS (v := nI 1) (rfl) u hP hD dX1_possible_40 (by unfold pu_po; rw [decide_eq_true (⟨⟨⟨pu_lt_of c_1, pu_le8 c_7⟩, of_decide_eq_true c_15⟩, Or.inl c_27⟩ : ((0 ≤ a0 ∧ a0 < 8) ∧ (0 ≤ b0 ∧ b0 ≤ 255)) ∧ _)]; rfl)
        · refine lv_iload_n hx hb dX1_possible_30 rfl (lv_at hl 0 rfl) ?_
          refine lv_iload_n hx hb dX1_possible_31 rfl (lv_at hl 3 rfl) ?_
          refine lv_icmp_ne (tgt := 39) hx hb dX1_possible_32 (by decide) (fun (c_32 : ¬ (pu_pc pr S V a0) = b0) => ?_) (fun (c_32 : (pu_pc pr S V a0) = b0) => ?_)
          · refine lv_iconst (v := nI 0) hx hb dX1_possible_39 (by decide) ?_
            exact fd_zret hx hb hr hlocks hK hS (v := nI 0) (rfl) u hP hD dX1_possible_40 (by unfold pu_po; rw [decide_eq_false (fun z => z.2.elim c_27 c_32)]; rfl)
          · refine lv_iconst (v := nI 1) hx hb dX1_possible_35 (by decide) ?_
            refine lv_goto (tgt := 40) hx hb dX1_possible_36 (by decide) ?_
            exact fd_zret hx hb hr hlocks hK hS (v := nI 1) (rfl) u hP hD dX1_possible_40 (by unfold pu_po; rw [decide_eq_true (⟨⟨⟨pu_lt_of c_1, pu_le8 c_7⟩, of_decide_eq_true c_15⟩, Or.inr c_32⟩ : ((0 ≤ a0 ∧ a0 < 8) ∧ (0 ≤ b0 ∧ b0 ≤ 255)) ∧ _)]; rfl)
      · refine lv_iconst (v := nI 0) hx hb dX1_possible_18 (by decide) ?_
        exact fd_zret hx hb hr hlocks hK hS (v := nI 0) (rfl) T hP hD dX1_possible_19 (by unfold pu_po; rw [decide_eq_false (fun z => of_decide_eq_false c_15 z.1.2)]; rfl)
end
section
set_option maxHeartbeats 4000000 in
set_option maxRecDepth 100000 in
/-- take(set, value) -/
theorem cM_take (l : Launch) (dC : Nat → ClassId) (dI : Nat → Nat → Nat) (dS dZ dN : ClassId) (h0 h1 h2 h3 h4 sz pr : Nat) (S V : Nat → Nat) (T : Nat → Int32) (hI : pu_inv pr S V) (a0 b0 : Int32) : fd_MI l yX1_take (ws_ yX1_take cX1_take 4 (some .int)) 1 (dC, dI) (fd_ty dS dZ dN) [.ref h0, .int a0, .int b0] (wM h0 h1 h2 h3 h4 dZ dN pr S V T) sz (fun r (u : Nat × (Nat → Nat) × (Nat → Nat) × (Nat → Int32)) => (r, u.1, u.2.1, u.2.2.1) = pu_tk pr S V a0 b0) (fun (u : Nat × (Nat → Nat) × (Nat → Nat) × (Nat → Int32)) => wM h0 h1 h2 h3 h4 dZ dN u.1 u.2.1 u.2.2.1 u.2.2.2) := by
  refine Met.ofW (cc := cX1_take) (maxL := 4) (ret := (some .int)) (by decide) rfl ?_
  intro p e s m args below meth c s₁ B hml hv
  obtain ⟨rfl, hsz, hP, hK, hD0⟩ := hv
  have hx := B.exec
  have hb := B.bytes
  have hr := B.returns
  have hts := atoms_spec (ws := ws_ yX1_take cX1_take 4 (some .int)) B.pre
  have hts : ∀ w ∈ lw_all, w.before _ s = true := fun w h => hts w (List.mem_cons_of_mem _ h)
  have hown : s.vm.findClass RX1 = some m.cls := findClass_of_methodNamed B.named
  have hlocks := B.notSynchronized
  subst hsz
  have hD := hD0.self (sz := s.heap.size)
  generalize hAe : va_A (wM h0 h1 h2 h3 h4 dZ dN pr S V T) s.heap.size = A at hD ⊢
  have hA : ∀ q : Nat, s.heap.size ≤ q → A q := fun q h => by rw [← hAe]; exact Or.inr h
  have hS : va_S A s.heap s.heap [] := va_S.rf
  have hP : va_P (dC, dI) vwCl (wM h0 h1 h2 h3 h4 dZ dN pr S V T) s.heap := hP
  have hl := lv_entry ([.ref h0, .int a0, .int b0]) (n := 4) (Nat.le_of_ble_eq_true rfl)
  rw [lg_entry_eq]
  generalize (lg_sl ([.ref h0, .int a0, .int b0]) ++ List.replicate (4 - (lg_sl ([.ref h0, .int a0, .int b0])).length) Slot.unset).toArray = ls at hl ⊢
  have hl : lv_has ls 4 [(0, .ref h0), (1, .int a0), (2, .int b0)] := hl
  refine lv_aload_n hx hb dX1_take_0 rfl (lv_at hl 0 rfl) ?_
  refine lv_iload_n hx hb dX1_take_1 rfl (lv_at hl 1 rfl) ?_
  refine fd_cI (As := [.int a0]) (rest := []) (wc := []) (wr := wM h0 h1 h2 h3 h4 dZ dN pr S V T) ⟨hx, hb, hml, hown, hts⟩ (cM_pieces l dC dI dS dZ dN h0 _ a0) (cwV 1 hts (lw_V q178 q180 qs9 q16 q181) rfl rfl rfl (by decide +kernel) ⟨Nat.le_of_ble_eq_true rfl, Nat.le_of_ble_eq_true rfl⟩) (va_recv hK hP (ci := 1) (q0 := 0) rfl rfl) hK hP hD hS hA [] [0, 1, 2, 3, 4] rfl rfl rfl rfl (by decide) rfl hl.1 rfl (Nat.le_of_ble_eq_true rfl) dX1_take_2 ⟨Nat.zero_le _, Nat.zero_le _⟩ (fun r u H locs hw hP hD hS => ?_)
  have hP : va_P (dC, dI) vwCl (wM h0 h1 h2 h3 h4 dZ dN pr S V T) H := hP
  have hD : va_D A (wM h0 h1 h2 h3 h4 dZ dN pr S V T) := hD
  subst hw
  refine fd_bit_eq (tgt := 16) hx hb dX1_take_5 (by decide) (fun c_5 => ?_) (fun c_5 => ?_)
  · refine lv_iconst (v := (-1)) hx hb dX1_take_16 (by decide) ?_
    exact fd_iret hx hb hr hlocks hK hS (v := (-1)) (pr, S, V, T) hP hD dX1_take_17 (by rw [pu_tk_bad (fun z => of_decide_eq_false c_5 z.1)])
  · refine lv_aload_n hx hb dX1_take_8 rfl (lv_at hl 0 rfl) ?_
    refine lv_iload_n hx hb dX1_take_9 rfl (lv_at hl 2 rfl) ?_
    refine fd_cI (As := [.int b0]) (rest := []) (wc := []) (wr := wM h0 h1 h2 h3 h4 dZ dN pr S V T) ⟨hx, hb, hml, hown, hts⟩ (cM_number l dC dI dS dZ dN h0 _ b0) (cwV 1 hts (lw_V q182 q184 qs10 q16 q185) rfl rfl rfl (by decide +kernel) ⟨Nat.le_of_ble_eq_true rfl, Nat.le_of_ble_eq_true rfl⟩) (va_recv hK hP (ci := 1) (q0 := 0) rfl rfl) hK hP hD hS hA [] [0, 1, 2, 3, 4] rfl rfl rfl rfl (by decide) rfl hl.1 rfl (Nat.le_of_ble_eq_true rfl) dX1_take_10 ⟨Nat.zero_le _, Nat.zero_le _⟩ (fun r u H locs hw hP hD hS => ?_)
    have hP : va_P (dC, dI) vwCl (wM h0 h1 h2 h3 h4 dZ dN pr S V T) H := hP
    have hD : va_D A (wM h0 h1 h2 h3 h4 dZ dN pr S V T) := hD
    subst hw
    refine fd_bit_ne (tgt := 18) hx hb dX1_take_13 (by decide) (fun c_13 => ?_) (fun c_13 => ?_)
    · obtain ⟨a, ha1, ha, rfl⟩ := pu_of1 (of_decide_eq_true c_5).1 (of_decide_eq_true c_5).2
      obtain ⟨b, hb2, rfl⟩ := pu_of0 (of_decide_eq_true c_13).1 (of_decide_eq_true c_13).2
      refine lv_aload_n hx hb dX1_take_18 rfl (lv_at hl 0 rfl) ?_
      refine lv_sipush (v := nI 1023) hx hb dX1_take_19 (by decide) ?_
      refine fd_cV (As := [.int (nI 1023)]) (rest := []) (wc := wM h0 h1 h2 h3 h4 dZ dN pr S V T) (wr := []) ⟨hx, hb, hml, hown, hts⟩ (cM_work l dC dI dS dZ dN h0 h1 h2 h3 h4 _ pr S V T hI.2.1 (nI 1023)) (cwV 1 hts (lw_V q186 q188 qs11 q16 q189) rfl rfl rfl (by decide +kernel) ⟨Nat.le_of_ble_eq_true rfl, Nat.le_of_ble_eq_true rfl⟩) (va_recv hK hP (ci := 1) (q0 := 0) rfl rfl) hK hP hD hS hA [0, 1, 2, 3, 4] [] rfl rfl rfl rfl (by decide) rfl hl.1 rfl (Nat.le_of_ble_eq_true rfl) dX1_take_22 ⟨Nat.zero_le _, Nat.zero_le _⟩ (fun u H locs hw hP hD hS => ?_)
      have hP : va_P (dC, dI) vwCl (wM h0 h1 h2 h3 h4 dZ dN pr S V u) H := hP
      have hD : va_D A (wM h0 h1 h2 h3 h4 dZ dN pr S V u) := hD
      obtain ⟨T1, rfl⟩ : ∃ z, z = u := ⟨_, rfl⟩
      have hT := hw
      rw [nx_1023 hI.1] at hT
      have hv := pu_tab_vb hI.2.2 hT ha
      refine lv_iconst (v := nI 0) hx hb dX1_take_25 (by decide) ?_
      refine lv_istore_n (lv' := [(3, .int (nI 0)), (0, .ref h0), (1, .int (nI a)), (2, .int (nI b))]) hx hb dX1_take_26 rfl hl (by decide) rfl (fun ls hl => ?_)
      refine fd_loop (fun n H locs ls => ∃ (k : Nat), n = 10 - k ∧ (k ≤ 10) ∧ (pu_ff pr 10 0 = pu_ff pr (10 - k) k) ∧ va_P (dC, dI) vwCl (wM h0 h1 h2 h3 h4 dZ dN pr S V T1) H ∧ va_D A (wM h0 h1 h2 h3 h4 dZ dN pr S V T1) ∧ va_S A s.heap H locs ∧ lv_has ls 4 [(0, .ref h0), (1, .int (nI a)), (2, .int (nI b)), (3, .int (nI k))]) _ ⟨0, rfl, (by omega), rfl, hP, hD, hS, lv_sub hl [1, 2, 3, 0] rfl⟩ ?_
      rintro n H locs ls ⟨k, hms, hk, hk2, hP, hD, hS, hl⟩ ih
      refine lv_iload_n hx hb dX1_take_27 rfl (lv_at hl 3 rfl) ?_
      refine lv_bipush (v := nI 10) hx hb dX1_take_28 (by decide) ?_
      refine fd_icmp_ge (tgt := 93) hx hb dX1_take_30 (by decide) (by omega) (by omega) (fun c_30 => ?_) (fun c_30 => ?_)
      · refine lv_bipush (v := (-2)) hx hb dX1_take_93 (by decide) ?_
        exact fd_iret hx hb hr hlocks hK hS (v := (-2)) (pr, S, V, T1) hP hD dX1_take_95 (by rw [pu_tk_full ha1 ha hb2 (by rw [hk2, show k = 10 by omega]; rfl)])
      · refine lv_aload_n hx hb dX1_take_33 rfl (lv_at hl 0 rfl) ?_
        refine va_get (D := (dC, dI)) (ci := 1) (v := .ref h1) (C := RX1) (T := TX1) (N := 4) hx hb hts in_X1 hown hK hP 0 rfl rfl 0 (by decide) (hts _ q159) (fun _ h9 => h9) rfl dX1_take_34 ?_
        refine lv_iload_n hx hb dX1_take_37 rfl (lv_at hl 3 rfl) ?_
        refine fd_zald hx hb hK hP 1 1 pr rfl rfl (i := k) (by omega) (by decide) dX1_take_38 ?_
        refine fd_bit_ne (tgt := 87) hx hb dX1_take_39 (by decide) (fun c_39 => ?_) (fun c_39 => ?_)
        · refine lv_iinc (v := nI (k + 1)) (lv' := [(3, .int (nI (k + 1))), (0, .ref h0), (1, .int (nI a)), (2, .int (nI b))]) hx hb dX1_take_87 hl (k := 3) rfl (nI_1 _) (by decide) rfl (fun ls hl => ?_)
          refine lv_goto (tgt := 27) hx hb dX1_take_90 (by decide) ?_
          exact ih _ _ _ _ (by omega) ⟨k + 1, rfl, (by omega), (hk2.trans (pu_ff_t c_30 c_39)), hP, hD, hS, lv_sub hl [1, 2, 3, 0] rfl⟩
        · have hff : pu_ff pr 10 0 = k := hk2.trans (pu_ff_f c_30 c_39)
          refine lv_aload_n hx hb dX1_take_42 rfl (lv_at hl 0 rfl) ?_
          refine va_get (D := (dC, dI)) (ci := 1) (v := .ref h4) (C := RX1) (T := TX1) (N := 4) hx hb hts in_X1 hown hK hP 0 rfl rfl 3 (by decide) (hts _ q162) (fun _ h9 => h9) rfl dX1_take_43 ?_
          refine lv_iload_n hx hb dX1_take_46 rfl (lv_at hl 1 rfl) ?_
          refine fd_tald hx hb hK hP 4 2 T1 rfl rfl (i := a) (by omega) (by decide) dX1_take_47 ?_
          refine lv_if_lt (tgt := 64) hx hb dX1_take_48 (by decide) (fun c_48 => ?_) (fun c_48 => ?_)
          · refine lv_aload_n hx hb dX1_take_64 rfl (lv_at hl 0 rfl) ?_
            refine va_get (D := (dC, dI)) (ci := 1) (v := .ref h1) (C := RX1) (T := TX1) (N := 4) hx hb hts in_X1 hown hK hP 0 rfl rfl 0 (by decide) (hts _ q159) (fun _ h9 => h9) rfl dX1_take_65 ?_
            refine lv_iload_n hx hb dX1_take_68 rfl (lv_at hl 3 rfl) ?_
            refine lv_iconst (v := nI 1) hx hb dX1_take_69 (by decide) ?_
            refine fd_zast hx hb hK hP hD hS 1 1 (fun j => nI (pr.testBit j).toNat) (fun j => nI ((pr ||| 2 ^ k).testBit j).toNat) rfl rfl (i := k) (by omega) (by decide) (fd_there1 pr k) dX1_take_70 (fun H locs hP hD hS => ?_)
            have hP : va_P (dC, dI) vwCl (wM h0 h1 h2 h3 h4 dZ dN (pr ||| 2 ^ k) S V T1) H := hP
            have hD : va_D A (wM h0 h1 h2 h3 h4 dZ dN (pr ||| 2 ^ k) S V T1) := hD
            refine lv_aload_n hx hb dX1_take_71 rfl (lv_at hl 0 rfl) ?_
            refine va_get (D := (dC, dI)) (ci := 1) (v := .ref h2) (C := RX1) (T := TX1) (N := 4) hx hb hts in_X1 hown hK hP 0 rfl rfl 1 (by decide) (hts _ q160) (fun _ h9 => h9) rfl dX1_take_72 ?_
            refine lv_iload_n hx hb dX1_take_75 rfl (lv_at hl 3 rfl) ?_
            refine lv_iload_n hx hb dX1_take_76 rfl (lv_at hl 1 rfl) ?_
            refine fd_iast hx hb hK hP hD hS 2 2 S rfl rfl (i := k) (x := a) (by omega) (by decide) dX1_take_77 (fun H locs hP hD hS => ?_)
            have hP : va_P (dC, dI) vwCl (wM h0 h1 h2 h3 h4 dZ dN (pr ||| 2 ^ k) (pu_up S k a) V T1) H := hP
            have hD : va_D A (wM h0 h1 h2 h3 h4 dZ dN (pr ||| 2 ^ k) (pu_up S k a) V T1) := hD
            refine lv_aload_n hx hb dX1_take_78 rfl (lv_at hl 0 rfl) ?_
            refine va_get (D := (dC, dI)) (ci := 1) (v := .ref h3) (C := RX1) (T := TX1) (N := 4) hx hb hts in_X1 hown hK hP 0 rfl rfl 2 (by decide) (hts _ q161) (fun _ h9 => h9) rfl dX1_take_79 ?_
            refine lv_iload_n hx hb dX1_take_82 rfl (lv_at hl 3 rfl) ?_
            refine lv_iload_n hx hb dX1_take_83 rfl (lv_at hl 2 rfl) ?_
            refine fd_iast hx hb hK hP hD hS 3 2 V rfl rfl (i := k) (x := b) (by omega) (by decide) dX1_take_84 (fun H locs hP hD hS => ?_)
            have hP : va_P (dC, dI) vwCl (wM h0 h1 h2 h3 h4 dZ dN (pr ||| 2 ^ k) (pu_up S k a) (pu_up V k b) T1) H := hP
            have hD : va_D A (wM h0 h1 h2 h3 h4 dZ dN (pr ||| 2 ^ k) (pu_up S k a) (pu_up V k b) T1) := hD
            refine lv_iload_n hx hb dX1_take_85 rfl (lv_at hl 3 rfl) ?_
            exact fd_iret hx hb hr hlocks hK hS (v := nI k) (pr ||| 2 ^ k, pu_up S k a, pu_up V k b, T1) hP hD dX1_take_86 ((pu_tk_ok ha1 ha hb2 hff c_30 (fun z => pu_nle c_48 (by rw [hv]; exact z.1))).symm)
          · refine lv_aload_n hx hb dX1_take_51 rfl (lv_at hl 0 rfl) ?_
            refine va_get (D := (dC, dI)) (ci := 1) (v := .ref h4) (C := RX1) (T := TX1) (N := 4) hx hb hts in_X1 hown hK hP 0 rfl rfl 3 (by decide) (hts _ q162) (fun _ h9 => h9) rfl dX1_take_52 ?_
            refine lv_iload_n hx hb dX1_take_55 rfl (lv_at hl 1 rfl) ?_
            refine fd_tald hx hb hK hP 4 2 T1 rfl rfl (i := a) (by omega) (by decide) dX1_take_56 ?_
            refine lv_iload_n hx hb dX1_take_57 rfl (lv_at hl 2 rfl) ?_
            refine lv_icmp_eq (tgt := 64) hx hb dX1_take_58 (by decide) (fun (c_58 : (T1 a) = (nI b)) => ?_) (fun (c_58 : ¬ (T1 a) = (nI b)) => ?_)
            · refine lv_aload_n hx hb dX1_take_64 rfl (lv_at hl 0 rfl) ?_
              refine va_get (D := (dC, dI)) (ci := 1) (v := .ref h1) (C := RX1) (T := TX1) (N := 4) hx hb hts in_X1 hown hK hP 0 rfl rfl 0 (by decide) (hts _ q159) (fun _ h9 => h9) rfl dX1_take_65 ?_
              refine lv_iload_n hx hb dX1_take_68 rfl (lv_at hl 3 rfl) ?_
              refine lv_iconst (v := nI 1) hx hb dX1_take_69 (by decide) ?_
              refine fd_zast hx hb hK hP hD hS 1 1 (fun j => nI (pr.testBit j).toNat) (fun j => nI ((pr ||| 2 ^ k).testBit j).toNat) rfl rfl (i := k) (by omega) (by decide) (fd_there1 pr k) dX1_take_70 (fun H locs hP hD hS => ?_)
              have hP : va_P (dC, dI) vwCl (wM h0 h1 h2 h3 h4 dZ dN (pr ||| 2 ^ k) S V T1) H := hP
              have hD : va_D A (wM h0 h1 h2 h3 h4 dZ dN (pr ||| 2 ^ k) S V T1) := hD
              refine lv_aload_n hx hb dX1_take_71 rfl (lv_at hl 0 rfl) ?_
              refine va_get (D := (dC, dI)) (ci := 1) (v := .ref h2) (C := RX1) (T := TX1) (N := 4) hx hb hts in_X1 hown hK hP 0 rfl rfl 1 (by decide) (hts _ q160) (fun _ h9 => h9) rfl dX1_take_72 ?_
              refine lv_iload_n hx hb dX1_take_75 rfl (lv_at hl 3 rfl) ?_
              refine lv_iload_n hx hb dX1_take_76 rfl (lv_at hl 1 rfl) ?_
              refine fd_iast hx hb hK hP hD hS 2 2 S rfl rfl (i := k) (x := a) (by omega) (by decide) dX1_take_77 (fun H locs hP hD hS => ?_)
              have hP : va_P (dC, dI) vwCl (wM h0 h1 h2 h3 h4 dZ dN (pr ||| 2 ^ k) (pu_up S k a) V T1) H := hP
              have hD : va_D A (wM h0 h1 h2 h3 h4 dZ dN (pr ||| 2 ^ k) (pu_up S k a) V T1) := hD
              refine lv_aload_n hx hb dX1_take_78 rfl (lv_at hl 0 rfl) ?_
              refine va_get (D := (dC, dI)) (ci := 1) (v := .ref h3) (C := RX1) (T := TX1) (N := 4) hx hb hts in_X1 hown hK hP 0 rfl rfl 2 (by decide) (hts _ q161) (fun _ h9 => h9) rfl dX1_take_79 ?_
              refine lv_iload_n hx hb dX1_take_82 rfl (lv_at hl 3 rfl) ?_
              refine lv_iload_n hx hb dX1_take_83 rfl (lv_at hl 2 rfl) ?_
              refine fd_iast hx hb hK hP hD hS 3 2 V rfl rfl (i := k) (x := b) (by omega) (by decide) dX1_take_84 (fun H locs hP hD hS => ?_)
              have hP : va_P (dC, dI) vwCl (wM h0 h1 h2 h3 h4 dZ dN (pr ||| 2 ^ k) (pu_up S k a) (pu_up V k b) T1) H := hP
              have hD : va_D A (wM h0 h1 h2 h3 h4 dZ dN (pr ||| 2 ^ k) (pu_up S k a) (pu_up V k b) T1) := hD
              refine lv_iload_n hx hb dX1_take_85 rfl (lv_at hl 3 rfl) ?_
              exact fd_iret hx hb hr hlocks hK hS (v := nI k) (pr ||| 2 ^ k, pu_up S k a, pu_up V k b, T1) hP hD dX1_take_86 ((pu_tk_ok ha1 ha hb2 hff c_30 (fun z => z.2 (hv.symm.trans c_58))).symm)
            · refine lv_bipush (v := (-3)) hx hb dX1_take_61 (by decide) ?_
              exact fd_iret hx hb hr hlocks hK hS (v := (-3)) (pr, S, V, T1) hP hD dX1_take_63 (by rw [pu_tk_ref ha1 ha hb2 (by omega) (by rw [← hv]; exact pu_lt_of c_48) (by rw [← hv]; exact c_58)])
    · refine lv_iconst (v := (-1)) hx hb dX1_take_16 (by decide) ?_
      exact fd_iret hx hb hr hlocks hK hS (v := (-1)) (pr, S, V, T) hP hD dX1_take_17 (by rw [pu_tk_bad (fun z => of_decide_eq_false c_13 z.2)])
end
section
theorem fd_z0 : (fun j : Nat => Value.int (nI ((0 : Nat).testBit j).toNat)) = fun _ => defaultValue .boolean := by
  funext j
  rw [Nat.zero_testBit]
  rfl
set_option maxHeartbeats 4000000 in
set_option maxRecDepth 100000 in
/-- the constructor: four new arrays of zeros -/
theorem cD_init (l : Launch) (dC : Nat → ClassId) (dI : Nat → Nat → Nat) (h0 sz : Nat) : Met l yX0_init (ws_ yX0_init cX0_init 1 none) ({ frames := 1, cells := 4, slots := 36, locals := 12 }) (va_Pc [.ref h0] (fun U => U.heap.size = sz ∧ va_P (dC, dI) vwCl [(h0, .inr (0, [.int 0, .null, .null, .int 0, .null, .null, .int 0, .int 0, .int 0]))] U.heap ∧ va_K (dC, dI) vwCl [] U ∧ va_D (fun _ => True) [(h0, .inr (0, [.int 0, .null, .null, .int 0, .null, .null, .int 0, .int 0, .int 0]))])) (va_Qv (fun (_ : ClassId × Nat × Nat × Nat × Nat) => True) (fun (u : ClassId × Nat × Nat × Nat × Nat) t => va_P (dC, dI) vwCl (wD h0 u.2.1 u.2.2.1 u.2.2.2.1 u.2.2.2.2 u.1 0 (fun _ => 0) (fun _ => 0) 0 (fun _ => 0) (fun _ => 0) 0 0 0) t.heap ∧ va_K (dC, dI) vwCl [(u.1, .short)] t ∧ va_D (va_A [(h0, .inr (0, [.int 0, .null, .null, .int 0, .null, .null, .int 0, .int 0, .int 0]))] sz) (wD h0 u.2.1 u.2.2.1 u.2.2.2.1 u.2.2.2.2 u.1 0 (fun _ => 0) (fun _ => 0) 0 (fun _ => 0) (fun _ => 0) 0 0 0)) (va_A [(h0, .inr (0, [.int 0, .null, .null, .int 0, .null, .null, .int 0, .int 0, .int 0]))] sz)) 4 36 (va_A [(h0, .inr (0, [.int 0, .null, .null, .int 0, .null, .null, .int 0, .int 0, .int 0]))] sz) := by
  refine Met.ofW (cc := cX0_init) (maxL := 1) (ret := none) (by decide) rfl ?_
  intro p e s m args below meth c s₁ B hml hv
  obtain ⟨rfl, hsz, hP, hK, hD0⟩ := hv
  have hx := B.exec
  have hb := B.bytes
  have hr := B.returns
  have hts := atoms_spec (ws := ws_ yX0_init cX0_init 1 none) B.pre
  have hts : ∀ w ∈ lw_all, w.before _ s = true := fun w h => hts w (List.mem_cons_of_mem _ h)
  have hown : s.vm.findClass RX0 = some m.cls := findClass_of_methodNamed B.named
  have hlocks := B.notSynchronized
  have hin : meth.name = "<init>" := (name_of_methodNamed B.named B.method).1
  subst hsz
  have hD := hD0.self (sz := s.heap.size)
  generalize hAe : va_A [(h0, .inr (0, [.int 0, .null, .null, .int 0, .null, .null, .int 0, .int 0, .int 0]))] s.heap.size = A at hD ⊢
  have hA : ∀ q : Nat, s.heap.size ≤ q → A q := fun q h => by rw [← hAe]; exact Or.inr h
  have hS : va_S A s.heap s.heap [] := va_S.rf
  have hP : va_P (dC, dI) vwCl [(h0, .inr (0, [.int 0, .null, .null, .int 0, .null, .null, .int 0, .int 0, .int 0]))] s.heap := hP
  have hl := lv_entry ([.ref h0]) (n := 1) (Nat.le_of_ble_eq_true rfl)
  rw [lg_entry_eq]
  generalize (lg_sl ([.ref h0]) ++ List.replicate (1 - (lg_sl ([.ref h0])).length) Slot.unset).toArray = ls at hl ⊢
  have hl : lv_has ls 1 [(0, .ref h0)] := hl
  refine lv_aload_n hx hb dX0_init_0 rfl (lv_at hl 0 rfl) ?_
  refine W.objInit hx hb hown (hts _ q22) (hts _ q23) (hts _ q24) rfl (by rw [hml]; exact hl.1) rfl dX0_init_1 (Nat.le_of_ble_eq_true rfl) (Nat.le_of_ble_eq_true rfl) ?_
  refine W.eq (g2 := F0 m 4 ls []) rfl ?_
  refine lv_aload_n hx hb dX0_init_4 rfl (lv_at hl 0 rfl) ?_
  refine lv_bipush (v := nI 10) hx hb dX0_init_5 (by decide) ?_
  refine va_newa (atype := .short) (ty := .short) (N' := 10) (a0 := (10, .inl (fun _ => 0))) hx hb (hts _ q53) rfl hK hP hD hS hA (fun _ => rfl) (nI_pos (by decide)) (nI_clamp (by decide)) (by decide) (Nat.le_of_ble_eq_true rfl) (Nat.le_of_ble_eq_true rfl) dX0_init_7 (fun h1 c1 H hK hP hD hS => ?_)
  refine W.widen (k := 1) (n := 10) (by omega) (by omega) ?_
  have hP : va_P (dC, dI) vwCl [(h0, .inr (0, [.int 0, .null, .null, .int 0, .null, .null, .int 0, .int 0, .int 0])), (h1, .inl (c1, (10, .inl (fun _ => 0))))] H := hP
  have hD : va_D A [(h0, .inr (0, [.int 0, .null, .null, .int 0, .null, .null, .int 0, .int 0, .int 0])), (h1, .inl (c1, (10, .inl (fun _ => 0))))] := hD
  refine va_putF (D := (dC, dI)) (ci := 0) (v := .ref h1) (ty := .array .short) (C := RX0) (T := TX0) (N := 9) hx hb hts in_X0 tyX0 tyX0_ok nmX0 hown hK hP hD hS 0 rfl rfl 1 (by decide) (hts _ q26) (fun _ h9 => h9) rfl hin rfl (by decide +kernel) rfl rfl (Nat.le_of_ble_eq_true rfl) dX0_init_9 (fun H locs hP hD hS => ?_)
  have hP : va_P (dC, dI) vwCl [(h0, .inr (0, [.int 0, .ref h1, .null, .int 0, .null, .null, .int 0, .int 0, .int 0])), (h1, .inl (c1, (10, .inl (fun _ => 0))))] H := hP
  have hD : va_D A [(h0, .inr (0, [.int 0, .ref h1, .null, .int 0, .null, .null, .int 0, .int 0, .int 0])), (h1, .inl (c1, (10, .inl (fun _ => 0))))] := hD
  refine lv_aload_n hx hb dX0_init_12 rfl (lv_at hl 0 rfl) ?_
  refine lv_bipush (v := nI 10) hx hb dX0_init_13 (by decide) ?_
  refine va_newa (atype := .short) (ty := .short) (N' := 10) (a0 := (10, .inl (fun _ => 0))) hx hb (hts _ q53) rfl hK hP hD hS hA (fun _ => rfl) (nI_pos (by decide)) (nI_clamp (by decide)) (by decide) (Nat.le_of_ble_eq_true rfl) (Nat.le_of_ble_eq_true rfl) dX0_init_15 (fun h2 c2 H hK hP hD hS => ?_)
  refine W.widen (k := 2) (n := 20) (by omega) (by omega) ?_
  have hP : va_P (dC, dI) vwCl [(h0, .inr (0, [.int 0, .ref h1, .null, .int 0, .null, .null, .int 0, .int 0, .int 0])), (h1, .inl (c1, (10, .inl (fun _ => 0)))), (h2, .inl (c2, (10, .inl (fun _ => 0))))] H := hP
  have hD : va_D A [(h0, .inr (0, [.int 0, .ref h1, .null, .int 0, .null, .null, .int 0, .int 0, .int 0])), (h1, .inl (c1, (10, .inl (fun _ => 0)))), (h2, .inl (c2, (10, .inl (fun _ => 0))))] := hD
  refine va_putF (D := (dC, dI)) (ci := 0) (v := .ref h2) (ty := .array .short) (C := RX0) (T := TX0) (N := 9) hx hb hts in_X0 tyX0 tyX0_ok nmX0 hown hK hP hD hS 0 rfl rfl 2 (by decide) (hts _ q27) (fun _ h9 => h9) rfl hin rfl (by decide +kernel) rfl rfl (Nat.le_of_ble_eq_true rfl) dX0_init_17 (fun H locs hP hD hS => ?_)
  have hP : va_P (dC, dI) vwCl [(h0, .inr (0, [.int 0, .ref h1, .ref h2, .int 0, .null, .null, .int 0, .int 0, .int 0])), (h1, .inl (c1, (10, .inl (fun _ => 0)))), (h2, .inl (c2, (10, .inl (fun _ => 0))))] H := hP
  have hD : va_D A [(h0, .inr (0, [.int 0, .ref h1, .ref h2, .int 0, .null, .null, .int 0, .int 0, .int 0])), (h1, .inl (c1, (10, .inl (fun _ => 0)))), (h2, .inl (c2, (10, .inl (fun _ => 0))))] := hD
  refine lv_aload_n hx hb dX0_init_20 rfl (lv_at hl 0 rfl) ?_
  refine lv_bipush (v := nI 8) hx hb dX0_init_21 (by decide) ?_
  refine va_newa (atype := .short) (ty := .short) (N' := 8) (a0 := (8, .inl (fun _ => 0))) hx hb (hts _ q53) rfl hK hP hD hS hA (fun _ => rfl) (nI_pos (by decide)) (nI_clamp (by decide)) (by decide) (Nat.le_of_ble_eq_true rfl) (Nat.le_of_ble_eq_true rfl) dX0_init_23 (fun h3 c3 H hK hP hD hS => ?_)
  refine W.widen (k := 3) (n := 28) (by omega) (by omega) ?_
  have hP : va_P (dC, dI) vwCl [(h0, .inr (0, [.int 0, .ref h1, .ref h2, .int 0, .null, .null, .int 0, .int 0, .int 0])), (h1, .inl (c1, (10, .inl (fun _ => 0)))), (h2, .inl (c2, (10, .inl (fun _ => 0)))), (h3, .inl (c3, (8, .inl (fun _ => 0))))] H := hP
  have hD : va_D A [(h0, .inr (0, [.int 0, .ref h1, .ref h2, .int 0, .null, .null, .int 0, .int 0, .int 0])), (h1, .inl (c1, (10, .inl (fun _ => 0)))), (h2, .inl (c2, (10, .inl (fun _ => 0)))), (h3, .inl (c3, (8, .inl (fun _ => 0))))] := hD
  refine va_putF (D := (dC, dI)) (ci := 0) (v := .ref h3) (ty := .array .short) (C := RX0) (T := TX0) (N := 9) hx hb hts in_X0 tyX0 tyX0_ok nmX0 hown hK hP hD hS 0 rfl rfl 4 (by decide) (hts _ q29) (fun _ h9 => h9) rfl hin rfl (by decide +kernel) rfl rfl (Nat.le_of_ble_eq_true rfl) dX0_init_25 (fun H locs hP hD hS => ?_)
  have hP : va_P (dC, dI) vwCl [(h0, .inr (0, [.int 0, .ref h1, .ref h2, .int 0, .ref h3, .null, .int 0, .int 0, .int 0])), (h1, .inl (c1, (10, .inl (fun _ => 0)))), (h2, .inl (c2, (10, .inl (fun _ => 0)))), (h3, .inl (c3, (8, .inl (fun _ => 0))))] H := hP
  have hD : va_D A [(h0, .inr (0, [.int 0, .ref h1, .ref h2, .int 0, .ref h3, .null, .int 0, .int 0, .int 0])), (h1, .inl (c1, (10, .inl (fun _ => 0)))), (h2, .inl (c2, (10, .inl (fun _ => 0)))), (h3, .inl (c3, (8, .inl (fun _ => 0))))] := hD
  refine lv_aload_n hx hb dX0_init_28 rfl (lv_at hl 0 rfl) ?_
  refine lv_bipush (v := nI 8) hx hb dX0_init_29 (by decide) ?_
  refine va_newa (atype := .short) (ty := .short) (N' := 8) (a0 := (8, .inl (fun _ => 0))) hx hb (hts _ q53) rfl hK hP hD hS hA (fun _ => rfl) (nI_pos (by decide)) (nI_clamp (by decide)) (by decide) (Nat.le_of_ble_eq_true rfl) (Nat.le_of_ble_eq_true rfl) dX0_init_31 (fun h4 c4 H hK hP hD hS => ?_)
  refine W.widen (k := 4) (n := 36) (by omega) (by omega) ?_
  have hP : va_P (dC, dI) vwCl [(h0, .inr (0, [.int 0, .ref h1, .ref h2, .int 0, .ref h3, .null, .int 0, .int 0, .int 0])), (h1, .inl (c1, (10, .inl (fun _ => 0)))), (h2, .inl (c2, (10, .inl (fun _ => 0)))), (h3, .inl (c3, (8, .inl (fun _ => 0)))), (h4, .inl (c4, (8, .inl (fun _ => 0))))] H := hP
  have hD : va_D A [(h0, .inr (0, [.int 0, .ref h1, .ref h2, .int 0, .ref h3, .null, .int 0, .int 0, .int 0])), (h1, .inl (c1, (10, .inl (fun _ => 0)))), (h2, .inl (c2, (10, .inl (fun _ => 0)))), (h3, .inl (c3, (8, .inl (fun _ => 0)))), (h4, .inl (c4, (8, .inl (fun _ => 0))))] := hD
  refine va_putF (D := (dC, dI)) (ci := 0) (v := .ref h4) (ty := .array .short) (C := RX0) (T := TX0) (N := 9) hx hb hts in_X0 tyX0 tyX0_ok nmX0 hown hK hP hD hS 0 rfl rfl 5 (by decide) (hts _ q30) (fun _ h9 => h9) rfl hin rfl (by decide +kernel) rfl rfl (Nat.le_of_ble_eq_true rfl) dX0_init_33 (fun H locs hP hD hS => ?_)
  have hP : va_P (dC, dI) vwCl [(h0, .inr (0, [.int 0, .ref h1, .ref h2, .int 0, .ref h3, .ref h4, .int 0, .int 0, .int 0])), (h1, .inl (c1, (10, .inl (fun _ => 0)))), (h2, .inl (c2, (10, .inl (fun _ => 0)))), (h3, .inl (c3, (8, .inl (fun _ => 0)))), (h4, .inl (c4, (8, .inl (fun _ => 0))))] H := hP
  have hD : va_D A [(h0, .inr (0, [.int 0, .ref h1, .ref h2, .int 0, .ref h3, .ref h4, .int 0, .int 0, .int 0])), (h1, .inl (c1, (10, .inl (fun _ => 0)))), (h2, .inl (c2, (10, .inl (fun _ => 0)))), (h3, .inl (c3, (8, .inl (fun _ => 0)))), (h4, .inl (c4, (8, .inl (fun _ => 0))))] := hD
  have k1 : s.vm.findClass ("[" ++ FieldType.toString .short) = some c1 := (hK.2 0 _ rfl).2
  have k2 : s.vm.findClass ("[" ++ FieldType.toString .short) = some c2 := (hK.2 1 _ rfl).2
  have k3 : s.vm.findClass ("[" ++ FieldType.toString .short) = some c3 := (hK.2 2 _ rfl).2
  have k4 : s.vm.findClass ("[" ++ FieldType.toString .short) = some c4 := (hK.2 3 _ rfl).2
  obtain rfl : c1 = c2 := Option.some.inj (k1.symm.trans k2)
  obtain rfl : c1 = c3 := Option.some.inj (k1.symm.trans k3)
  obtain rfl : c1 = c4 := Option.some.inj (k1.symm.trans k4)
  have hK9 := hK.sub (tys' := [(c1, .short)]) [0] rfl
  exact W.vret hx hb hr (fun t ht hW => ⟨⟨(c1, h1, h2, h3, h4), rfl, trivial, by rw [ht]; exact hP, va_K.moved hW.alike hK9, hD⟩, hS.F ht⟩) hS.2.2 dX0_init_36
set_option maxHeartbeats 4000000 in
set_option maxRecDepth 100000 in
/-- the constructor: four new arrays of zeros -/
theorem cM_init (l : Launch) (dC : Nat → ClassId) (dI : Nat → Nat → Nat) (h0 sz : Nat) : Met l yX1_init (ws_ yX1_init cX1_init 1 none) ({ frames := 1, cells := 4, slots := 286, locals := 12 }) (va_Pc [.ref h0] (fun U => U.heap.size = sz ∧ va_P (dC, dI) vwCl [(h0, .inr (1, [.null, .null, .null, .null]))] U.heap ∧ va_K (dC, dI) vwCl [] U ∧ va_D (fun _ => True) [(h0, .inr (1, [.null, .null, .null, .null]))])) (va_Qv (fun (_ : ClassId × ClassId × Nat × Nat × Nat × Nat) => True) (fun (u : ClassId × ClassId × Nat × Nat × Nat × Nat) t => va_P (dC, dI) vwCl (wM h0 u.2.2.1 u.2.2.2.1 u.2.2.2.2.1 u.2.2.2.2.2 u.1 u.2.1 0 (fun _ => 0) (fun _ => 0) (fun _ => 0)) t.heap ∧ va_K (dC, dI) vwCl [(u.1, .boolean), (u.2.1, .int)] t ∧ va_D (va_A [(h0, .inr (1, [.null, .null, .null, .null]))] sz) (wM h0 u.2.2.1 u.2.2.2.1 u.2.2.2.2.1 u.2.2.2.2.2 u.1 u.2.1 0 (fun _ => 0) (fun _ => 0) (fun _ => 0))) (va_A [(h0, .inr (1, [.null, .null, .null, .null]))] sz)) 4 286 (va_A [(h0, .inr (1, [.null, .null, .null, .null]))] sz) := by
  refine Met.ofW (cc := cX1_init) (maxL := 1) (ret := none) (by decide) rfl ?_
  intro p e s m args below meth c s₁ B hml hv
  obtain ⟨rfl, hsz, hP, hK, hD0⟩ := hv
  have hx := B.exec
  have hb := B.bytes
  have hr := B.returns
  have hts := atoms_spec (ws := ws_ yX1_init cX1_init 1 none) B.pre
  have hts : ∀ w ∈ lw_all, w.before _ s = true := fun w h => hts w (List.mem_cons_of_mem _ h)
  have hown : s.vm.findClass RX1 = some m.cls := findClass_of_methodNamed B.named
  have hlocks := B.notSynchronized
  have hin : meth.name = "<init>" := (name_of_methodNamed B.named B.method).1
  subst hsz
  have hD := hD0.self (sz := s.heap.size)
  generalize hAe : va_A [(h0, .inr (1, [.null, .null, .null, .null]))] s.heap.size = A at hD ⊢
  have hA : ∀ q : Nat, s.heap.size ≤ q → A q := fun q h => by rw [← hAe]; exact Or.inr h
  have hS : va_S A s.heap s.heap [] := va_S.rf
  have hP : va_P (dC, dI) vwCl [(h0, .inr (1, [.null, .null, .null, .null]))] s.heap := hP
  have hl := lv_entry ([.ref h0]) (n := 1) (Nat.le_of_ble_eq_true rfl)
  rw [lg_entry_eq]
  generalize (lg_sl ([.ref h0]) ++ List.replicate (1 - (lg_sl ([.ref h0])).length) Slot.unset).toArray = ls at hl ⊢
  have hl : lv_has ls 1 [(0, .ref h0)] := hl
  refine lv_aload_n hx hb dX1_init_0 rfl (lv_at hl 0 rfl) ?_
  refine W.objInit hx hb hown (hts _ q158) (hts _ q23) (hts _ q24) rfl (by rw [hml]; exact hl.1) rfl dX1_init_1 (Nat.le_of_ble_eq_true rfl) (Nat.le_of_ble_eq_true rfl) ?_
  refine W.eq (g2 := F0 m 4 ls []) rfl ?_
  refine lv_aload_n hx hb dX1_init_4 rfl (lv_at hl 0 rfl) ?_
  refine lv_bipush (v := nI 10) hx hb dX1_init_5 (by decide) ?_
  refine va_newa (atype := .boolean) (ty := .boolean) (N' := 10) (a0 := (10, .inl (fun j => nI ((0 : Nat).testBit j).toNat))) hx hb (hts _ q172) rfl hK hP hD hS hA (fun cA => congrArg (arrV cA 10) fd_z0) (nI_pos (by decide)) (nI_clamp (by decide)) (by decide) (Nat.le_of_ble_eq_true rfl) (Nat.le_of_ble_eq_true rfl) dX1_init_7 (fun h1 c1 H hK hP hD hS => ?_)
  refine W.widen (k := 1) (n := 10) (by omega) (by omega) ?_
  have hP : va_P (dC, dI) vwCl [(h0, .inr (1, [.null, .null, .null, .null])), (h1, .inl (c1, (10, .inl (fun j => nI ((0 : Nat).testBit j).toNat))))] H := hP
  have hD : va_D A [(h0, .inr (1, [.null, .null, .null, .null])), (h1, .inl (c1, (10, .inl (fun j => nI ((0 : Nat).testBit j).toNat))))] := hD
  refine va_put (D := (dC, dI)) (ci := 1) (v := .ref h1) (ty := .array .boolean) (C := RX1) (T := TX1) (N := 4) hx hb hts in_X1 tyX1 tyX1_ok nmX1 hown hK hP hD hS 0 rfl rfl 0 (by decide) (hts _ q159) (fun _ h9 => h9) rfl (by decide +kernel) rfl rfl (Nat.le_of_ble_eq_true rfl) dX1_init_9 (fun H locs hP hD hS => ?_)
  have hP : va_P (dC, dI) vwCl [(h0, .inr (1, [.ref h1, .null, .null, .null])), (h1, .inl (c1, (10, .inl (fun j => nI ((0 : Nat).testBit j).toNat))))] H := hP
  have hD : va_D A [(h0, .inr (1, [.ref h1, .null, .null, .null])), (h1, .inl (c1, (10, .inl (fun j => nI ((0 : Nat).testBit j).toNat))))] := hD
  refine lv_aload_n hx hb dX1_init_12 rfl (lv_at hl 0 rfl) ?_
  refine lv_bipush (v := nI 10) hx hb dX1_init_13 (by decide) ?_
  refine va_newa (atype := .int) (ty := .int) (N' := 10) (a0 := (10, .inl (fun _ => 0))) hx hb (hts _ q173) rfl hK hP hD hS hA (fun _ => rfl) (nI_pos (by decide)) (nI_clamp (by decide)) (by decide) (Nat.le_of_ble_eq_true rfl) (Nat.le_of_ble_eq_true rfl) dX1_init_15 (fun h2 c2 H hK hP hD hS => ?_)
  refine W.widen (k := 2) (n := 20) (by omega) (by omega) ?_
  have hP : va_P (dC, dI) vwCl [(h0, .inr (1, [.ref h1, .null, .null, .null])), (h1, .inl (c1, (10, .inl (fun j => nI ((0 : Nat).testBit j).toNat)))), (h2, .inl (c2, (10, .inl (fun _ => 0))))] H := hP
  have hD : va_D A [(h0, .inr (1, [.ref h1, .null, .null, .null])), (h1, .inl (c1, (10, .inl (fun j => nI ((0 : Nat).testBit j).toNat)))), (h2, .inl (c2, (10, .inl (fun _ => 0))))] := hD
  refine va_put (D := (dC, dI)) (ci := 1) (v := .ref h2) (ty := .array .int) (C := RX1) (T := TX1) (N := 4) hx hb hts in_X1 tyX1 tyX1_ok nmX1 hown hK hP hD hS 0 rfl rfl 1 (by decide) (hts _ q160) (fun _ h9 => h9) rfl (by decide +kernel) rfl rfl (Nat.le_of_ble_eq_true rfl) dX1_init_17 (fun H locs hP hD hS => ?_)
  have hP : va_P (dC, dI) vwCl [(h0, .inr (1, [.ref h1, .ref h2, .null, .null])), (h1, .inl (c1, (10, .inl (fun j => nI ((0 : Nat).testBit j).toNat)))), (h2, .inl (c2, (10, .inl (fun _ => 0))))] H := hP
  have hD : va_D A [(h0, .inr (1, [.ref h1, .ref h2, .null, .null])), (h1, .inl (c1, (10, .inl (fun j => nI ((0 : Nat).testBit j).toNat)))), (h2, .inl (c2, (10, .inl (fun _ => 0))))] := hD
  refine lv_aload_n hx hb dX1_init_20 rfl (lv_at hl 0 rfl) ?_
  refine lv_bipush (v := nI 10) hx hb dX1_init_21 (by decide) ?_
  refine va_newa (atype := .int) (ty := .int) (N' := 10) (a0 := (10, .inl (fun _ => 0))) hx hb (hts _ q173) rfl hK hP hD hS hA (fun _ => rfl) (nI_pos (by decide)) (nI_clamp (by decide)) (by decide) (Nat.le_of_ble_eq_true rfl) (Nat.le_of_ble_eq_true rfl) dX1_init_23 (fun h3 c3 H hK hP hD hS => ?_)
  refine W.widen (k := 3) (n := 30) (by omega) (by omega) ?_
  have hP : va_P (dC, dI) vwCl [(h0, .inr (1, [.ref h1, .ref h2, .null, .null])), (h1, .inl (c1, (10, .inl (fun j => nI ((0 : Nat).testBit j).toNat)))), (h2, .inl (c2, (10, .inl (fun _ => 0)))), (h3, .inl (c3, (10, .inl (fun _ => 0))))] H := hP
  have hD : va_D A [(h0, .inr (1, [.ref h1, .ref h2, .null, .null])), (h1, .inl (c1, (10, .inl (fun j => nI ((0 : Nat).testBit j).toNat)))), (h2, .inl (c2, (10, .inl (fun _ => 0)))), (h3, .inl (c3, (10, .inl (fun _ => 0))))] := hD
  refine va_put (D := (dC, dI)) (ci := 1) (v := .ref h3) (ty := .array .int) (C := RX1) (T := TX1) (N := 4) hx hb hts in_X1 tyX1 tyX1_ok nmX1 hown hK hP hD hS 0 rfl rfl 2 (by decide) (hts _ q161) (fun _ h9 => h9) rfl (by decide +kernel) rfl rfl (Nat.le_of_ble_eq_true rfl) dX1_init_25 (fun H locs hP hD hS => ?_)
  have hP : va_P (dC, dI) vwCl [(h0, .inr (1, [.ref h1, .ref h2, .ref h3, .null])), (h1, .inl (c1, (10, .inl (fun j => nI ((0 : Nat).testBit j).toNat)))), (h2, .inl (c2, (10, .inl (fun _ => 0)))), (h3, .inl (c3, (10, .inl (fun _ => 0))))] H := hP
  have hD : va_D A [(h0, .inr (1, [.ref h1, .ref h2, .ref h3, .null])), (h1, .inl (c1, (10, .inl (fun j => nI ((0 : Nat).testBit j).toNat)))), (h2, .inl (c2, (10, .inl (fun _ => 0)))), (h3, .inl (c3, (10, .inl (fun _ => 0))))] := hD
  refine lv_aload_n hx hb dX1_init_28 rfl (lv_at hl 0 rfl) ?_
  refine lv_sipush (v := nI 256) hx hb dX1_init_29 (by decide) ?_
  refine va_newa (atype := .int) (ty := .int) (N' := 256) (a0 := (256, .inl (fun _ => 0))) hx hb (hts _ q173) rfl hK hP hD hS hA (fun _ => rfl) (nI_pos (by decide)) (nI_clamp (by decide)) (by decide) (Nat.le_of_ble_eq_true rfl) (Nat.le_of_ble_eq_true rfl) dX1_init_32 (fun h4 c4 H hK hP hD hS => ?_)
  refine W.widen (k := 4) (n := 286) (by omega) (by omega) ?_
  have hP : va_P (dC, dI) vwCl [(h0, .inr (1, [.ref h1, .ref h2, .ref h3, .null])), (h1, .inl (c1, (10, .inl (fun j => nI ((0 : Nat).testBit j).toNat)))), (h2, .inl (c2, (10, .inl (fun _ => 0)))), (h3, .inl (c3, (10, .inl (fun _ => 0)))), (h4, .inl (c4, (256, .inl (fun _ => 0))))] H := hP
  have hD : va_D A [(h0, .inr (1, [.ref h1, .ref h2, .ref h3, .null])), (h1, .inl (c1, (10, .inl (fun j => nI ((0 : Nat).testBit j).toNat)))), (h2, .inl (c2, (10, .inl (fun _ => 0)))), (h3, .inl (c3, (10, .inl (fun _ => 0)))), (h4, .inl (c4, (256, .inl (fun _ => 0))))] := hD
  refine va_put (D := (dC, dI)) (ci := 1) (v := .ref h4) (ty := .array .int) (C := RX1) (T := TX1) (N := 4) hx hb hts in_X1 tyX1 tyX1_ok nmX1 hown hK hP hD hS 0 rfl rfl 3 (by decide) (hts _ q162) (fun _ h9 => h9) rfl (by decide +kernel) rfl rfl (Nat.le_of_ble_eq_true rfl) dX1_init_34 (fun H locs hP hD hS => ?_)
  have hP : va_P (dC, dI) vwCl [(h0, .inr (1, [.ref h1, .ref h2, .ref h3, .ref h4])), (h1, .inl (c1, (10, .inl (fun j => nI ((0 : Nat).testBit j).toNat)))), (h2, .inl (c2, (10, .inl (fun _ => 0)))), (h3, .inl (c3, (10, .inl (fun _ => 0)))), (h4, .inl (c4, (256, .inl (fun _ => 0))))] H := hP
  have hD : va_D A [(h0, .inr (1, [.ref h1, .ref h2, .ref h3, .ref h4])), (h1, .inl (c1, (10, .inl (fun j => nI ((0 : Nat).testBit j).toNat)))), (h2, .inl (c2, (10, .inl (fun _ => 0)))), (h3, .inl (c3, (10, .inl (fun _ => 0)))), (h4, .inl (c4, (256, .inl (fun _ => 0))))] := hD
  have k1 : s.vm.findClass ("[" ++ FieldType.toString .boolean) = some c1 := (hK.2 0 _ rfl).2
  have k2 : s.vm.findClass ("[" ++ FieldType.toString .int) = some c2 := (hK.2 1 _ rfl).2
  have k3 : s.vm.findClass ("[" ++ FieldType.toString .int) = some c3 := (hK.2 2 _ rfl).2
  have k4 : s.vm.findClass ("[" ++ FieldType.toString .int) = some c4 := (hK.2 3 _ rfl).2
  obtain rfl : c2 = c3 := Option.some.inj (k2.symm.trans k3)
  obtain rfl : c2 = c4 := Option.some.inj (k2.symm.trans k4)
  have hK9 := hK.sub (tys' := [(c1, .boolean), (c2, .int)]) [0, 1] rfl
  exact W.vret hx hb hr (fun t ht hW => ⟨⟨(c1, c2, h1, h2, h3, h4), rfl, trivial, by rw [ht]; exact hP, va_K.moved hW.alike hK9, hD⟩, hS.F ht⟩) hS.2.2 dX1_init_37
end
section
/-! THE CLAIM OUT OF ONE WALK OF THE LAW'S BODY. Your part is whole_start (and what it stands on); all else here is the same for every law, but numbers. -/
def R_law : String := "FountainDeskLaw"
def lw_P (b : Addr) (xs : List Int32) (args : Array Value) (s : State) : Prop := args = #[.ref b] ∧ s.IntsAt b xs ∧ xs.length ≤ 192 ∧ (Jvm.Cond.and given_1 narrow_1).before args s = true
def lw_Q (_ : Array Value) (s : State) (o : Outcome) (t : State) : Prop := o = .returned (some (.int 1)) ∧ Framed s o t [] 600000 7290000
def lw_Z (below : List Frame) (a : Array Value) (s : State) : State → Prop := fun t => ∃ o, t.status = .running ∧ Ended t below o ∧ lw_Q a s o t
/-- the law's own end, with 1 on the stack, nothing written that was there before, its room as the claim has it -/
theorem lw_ret {p : Program} {l : Launch} {e : Env} {s : State} {m : MethodId} {below : List Frame} {meth : Method} {c : Code} {b : Nat} (hx : p.tables.exec = Jvm.exec) (hb : c.code = code) (hr : meth.sig.returnType = ret) (hlocks : meth.locks = false) {pc : Nat} {H : Heap} {ls : Array Slot} (hdg : decode code pc = .ok (.ireturn, 1)) : W p l e room_1 s m #[Value.ref b] below meth c H [] 600000 7290000 (lw_Z below #[Value.ref b] s) (F0 m pc ls [.int 1]) := by
  intro T hT X
  obtain ⟨fs, hret, hrun, hended, hW, hframe⟩ := X.leave (v := some (.int 1)) (hlocks := hlocks) (fun h => by rw [hr] at h; cases h)
  have hmeth' : T.vm.method? m = some meth := X.method'
  refine ⟨T.setFrames fs, ?_, .returned (some (.int 1)), hrun, hended, rfl, ⟨_, rfl⟩, hW, hframe⟩
  jvm_step X.here [X.here.top, hx, hb, hdg, hmeth', hr, ret, narrow_b1]
  (try refine ⟨rfl, ?_⟩); (try refine ⟨rfl, ?_⟩)
  first | (intro acts; rw [hret _ acts rfl rfl rfl]) | rw [hret _ _ rfl rfl rfl]
  exact Steps.refl _
/-- what holds at the law's entry: the machine, the code, the tables' words (any of lw_tbl by 'hts w (by decide +kernel)'), the script of L ints xs at the cell b, what the Statement gives of the start (any of its parts by flat_of_before) -/
def lw_At (p : Program) (s : State) (m : MethodId) (meth : Method) (c : Code) (b L : Nat) (xs : Nat → Int32) : Prop :=
  p.tables.exec = Jvm.exec ∧ c.code = code ∧ meth.sig.returnType = ret ∧ c.maxLocals = 4 ∧ s.vm.findClass R_law = some m.cls ∧ (∀ w ∈ lw_tbl, w.before #[Value.ref b] s = true) ∧ va_X b L xs s s.heap ∧ b < s.heap.size ∧ meth.locks = false ∧ (Jvm.Cond.and given_1 narrow_1).before #[Value.ref b] s = true
theorem law_idx {i L : Nat} (hi : i < 2 ^ 30) (hL : L < 2 ^ 30) (h : ¬ (nI L - nI 3) < nI i) : i + 3 ≤ L := by
  rw [Int32.lt_iff_toInt_lt, pk_sub_toInt hL (by decide), nI_toInt (by omega)] at h
  omega
section FDL
variable {p : Program} {l : Launch} {e : Env} {R : Room} {s : State} {m : MethodId} {args : Array Value} {below : List Frame} {meth : Method} {c : Code} {H H0 : Heap} {locs : List Loc} {cells slots : Nat} {Q : State → Prop} {cc : ByteArray} {pc : Nat} {ls : Array Slot} {rest : List Value} {A : Nat → Prop}
theorem fd_sld (hexec : p.tables.exec = Jvm.exec) (hb : c.code = cc) {b L : Nat} {xs : Nat → Int32} (hX : va_X b L xs s H0) (hbl : b < H0.size) (hbA : ¬ A b) (hS : va_S A H0 H locs) {i : Nat} (hi : i < L) (hL : L < 2 ^ 31) (hdg : decode cc pc = .ok (.iaload, 1))
    (kk : W p l e R s m args below meth c H locs cells slots Q (F0 m (pc + 1) ls (.int (xs i) :: rest))) : W p l e R s m args below meth c H locs cells slots Q (F0 m pc ls (.int (nI i) :: .ref b :: rest)) := by
  refine va_sld hexec hb hX hbl hbA hS (vp_in_nI hi hL) hdg ?_
  rw [nI_clamp (Nat.lt_trans hi hL)]
  exact kk
end FDL
/-- at the loop's head, and at the end of each case: desk and model hold the same drops -/
def law_I (s : State) (dC : Nat → ClassId) (dI : Nat → Nat → Nat) (dS dZ dN : ClassId) (h0 h1 h2 h3 h4 g0 g1 g2 g3 g4 b i : Nat) (H : Heap) (locs : List Loc) (ls : Array Slot) : Prop := ∃ (pr : Nat) (S V : Nat → Nat) (kn : Nat) (R X : Nat → Nat) (rk lf lw : Nat) (T : Nat → Int32), pu_dk pr S V kn R X rk ∧ va_P (dC, dI) vwCl (wD h0 h1 h2 h3 h4 dS pr S V kn R X rk lf lw ++ wM g0 g1 g2 g3 g4 dZ dN pr S V T) H ∧ va_D (fun q : Nat => s.heap.size ≤ q) (wD h0 h1 h2 h3 h4 dS pr S V kn R X rk lf lw ++ wM g0 g1 g2 g3 g4 dZ dN pr S V T) ∧ va_S (fun q : Nat => s.heap.size ≤ q) s.heap H locs ∧ lv_has ls 4 [(0, .ref b), (1, .ref h0), (2, .ref g0), (3, .int (nI i))]
theorem pu_sp0 {S V : Nat → Nat} : ∀ (k s v : Nat), pu_sp 0 S V k s v → s = 0 ∧ v = 0 := by
  intro k
  induction k with
  | zero => exact fun s v h => h
  | succ k ih =>
    rintro s v (h | ⟨h, -⟩)
    · exact ih s v h
    · rw [Nat.zero_testBit] at h
      cases h
theorem pu_inv0 : pu_inv 0 (fun _ => 0) (fun _ => 0) := ⟨by decide, fun _ _ => ⟨(by decide : (0 : Nat) < 256), (by decide : (0 : Nat) < 256)⟩, fun s v v2 h1 h2 => (pu_sp0 10 s v h1).2.trans (pu_sp0 10 s v2 h2).2.symm⟩
end
section
set_option maxHeartbeats 4000000 in
set_option maxRecDepth 100000 in
/-- the law's case take -/
theorem law_take {p : Program} {e : Env} {s : State} {m : MethodId} {below : List Frame} {meth : Method} {c : Code} {l : Launch} {b L : Nat} {xs : Nat → Int32} {dC : Nat → ClassId} {dI : Nat → Nat → Nat} {dS dZ dN : ClassId} {h0 h1 h2 h3 h4 g0 g1 g2 g3 g4 i : Nat} {H : Heap} {locs : List Loc} {ls : Array Slot} (C0 : lw_At p s m meth c b L xs) (hK : va_K (dC, dI) vwCl (fd_ty dS dZ dN) s) (hL : L ≤ 192) (hi : i + 3 ≤ L) (hI : law_I s dC dI dS dZ dN h0 h1 h2 h3 h4 g0 g1 g2 g3 g4 b i H locs ls) (kk : ∀ (H : Heap) (locs : List Loc) (ls : Array Slot), law_I s dC dI dS dZ dN h0 h1 h2 h3 h4 g0 g1 g2 g3 g4 b i H locs ls → W p l e room_1 s m #[Value.ref b] below meth c H locs 10 335 (lw_Z below #[Value.ref b] s) (F0 m 369 ls [])) : W p l e room_1 s m #[Value.ref b] below meth c H locs 10 335 (lw_Z below #[Value.ref b] s) (F0 m 100 ls []) := by
  obtain ⟨pr, S, V, kn, R, X, rk, lf, lw, T, hI, hP, hD, hS, hl⟩ := hI
  have hI0 := hI
  obtain ⟨hx, hb, hr, hml, hown, hts0, hX, hbl, hlocks, hgv⟩ := id C0
  have hts : ∀ w ∈ lw_all, w.before #[Value.ref b] s = true := fun w h => hts0 w (lw_all_tbl h)
  have hA : ∀ q : Nat, s.heap.size ≤ q → (fun q : Nat => s.heap.size ≤ q) q := fun _ h => h
  have hbA : ¬ (fun q : Nat => s.heap.size ≤ q) b := Nat.not_le.mpr hbl
  refine lv_aload_n hx hb dL_law_100 rfl (lv_at hl 1 rfl) ?_
  refine lv_aload_n hx hb dL_law_101 rfl (lv_at hl 0 rfl) ?_
  refine lv_iload_n hx hb dL_law_102 rfl (lv_at hl 3 rfl) ?_
  refine lv_iconst (v := nI 1) hx hb dL_law_103 (by decide) ?_
  refine lv_iadd hx hb dL_law_104 ?_
  refine fd_top (y := nI (i + 1)) (nI_add _ _) ?_
  refine fd_sld hx hb hX hbl hbA hS (i := i + 1) (by omega) (by omega) dL_law_105 ?_
  refine lv_aload_n hx hb dL_law_106 rfl (lv_at hl 0 rfl) ?_
  refine lv_iload_n hx hb dL_law_107 rfl (lv_at hl 3 rfl) ?_
  refine lv_iconst (v := nI 2) hx hb dL_law_108 (by decide) ?_
  refine lv_iadd hx hb dL_law_109 ?_
  refine fd_top (y := nI (i + 2)) (nI_add _ _) ?_
  refine fd_sld hx hb hX hbl hbA hS (i := i + 2) (by omega) (by omega) dL_law_110 ?_
  refine fd_cI (As := [.int (xs (i + 1)), .int (xs (i + 2))]) (rest := []) (wc := wD h0 h1 h2 h3 h4 dS pr S V kn R X rk lf lw) (wr := wM g0 g1 g2 g3 g4 dZ dN pr S V T) ⟨hx, hb, hml, hown, hts⟩ (cD_take l dC dI dS dZ dN h0 h1 h2 h3 h4 _ pr S V kn R X rk lf lw hI (xs (i + 1)) (xs (i + 2))) (cwV 2 hts (lw_V q54 q55 q56 q15 q57) rfl rfl rfl (by decide +kernel) ⟨Nat.le_of_ble_eq_true rfl, Nat.le_of_ble_eq_true rfl⟩) (va_recv hK hP (ci := 0) (q0 := 0) rfl rfl) hK hP hD hS hA [0, 1, 2, 3, 4] [5, 6, 7, 8, 9] rfl rfl rfl rfl (by decide) rfl hl.1 rfl (Nat.le_of_ble_eq_true rfl) dL_law_111 ⟨Nat.le_of_ble_eq_true rfl, Nat.le_of_ble_eq_true rfl⟩ (fun r1 u H locs hw1 hP hD hS => ?_)
  obtain ⟨pr1, S1, V1, kn1, R1, X1, rk1, lf1, lw1⟩ := u
  try dsimp only at hw1
  have hP := hP.sub (ws' := wD h0 h1 h2 h3 h4 dS pr1 S1 V1 kn1 R1 X1 rk1 lf1 lw1 ++ wM g0 g1 g2 g3 g4 dZ dN pr S V T) [5, 6, 7, 8, 9, 0, 1, 2, 3, 4] rfl
  have hD := hD.sub (ws' := wD h0 h1 h2 h3 h4 dS pr1 S1 V1 kn1 R1 X1 rk1 lf1 lw1 ++ wM g0 g1 g2 g3 g4 dZ dN pr S V T) [5, 6, 7, 8, 9, 0, 1, 2, 3, 4] (by decide) rfl
  obtain ⟨hw1, hI⟩ := hw1
  refine lv_aload_n hx hb dL_law_114 rfl (lv_at hl 2 rfl) ?_
  refine lv_aload_n hx hb dL_law_115 rfl (lv_at hl 0 rfl) ?_
  refine lv_iload_n hx hb dL_law_116 rfl (lv_at hl 3 rfl) ?_
  refine lv_iconst (v := nI 1) hx hb dL_law_117 (by decide) ?_
  refine lv_iadd hx hb dL_law_118 ?_
  refine fd_top (y := nI (i + 1)) (nI_add _ _) ?_
  refine fd_sld hx hb hX hbl hbA hS (i := i + 1) (by omega) (by omega) dL_law_119 ?_
  refine lv_aload_n hx hb dL_law_120 rfl (lv_at hl 0 rfl) ?_
  refine lv_iload_n hx hb dL_law_121 rfl (lv_at hl 3 rfl) ?_
  refine lv_iconst (v := nI 2) hx hb dL_law_122 (by decide) ?_
  refine lv_iadd hx hb dL_law_123 ?_
  refine fd_top (y := nI (i + 2)) (nI_add _ _) ?_
  refine fd_sld hx hb hX hbl hbA hS (i := i + 2) (by omega) (by omega) dL_law_124 ?_
  refine fd_cI (As := [.int (xs (i + 1)), .int (xs (i + 2))]) (rest := [.int r1]) (wc := wM g0 g1 g2 g3 g4 dZ dN pr S V T) (wr := wD h0 h1 h2 h3 h4 dS pr1 S1 V1 kn1 R1 X1 rk1 lf1 lw1) ⟨hx, hb, hml, hown, hts⟩ (cM_take l dC dI dS dZ dN g0 g1 g2 g3 g4 _ pr S V T hI0.1 (xs (i + 1)) (xs (i + 2))) (cwV 2 hts (lw_V q174 q175 q176 q16 q177) rfl rfl rfl (by decide +kernel) ⟨Nat.le_of_ble_eq_true rfl, Nat.le_of_ble_eq_true rfl⟩) (va_recv hK hP (ci := 1) (q0 := 5) rfl rfl) hK hP hD hS hA [5, 6, 7, 8, 9] [0, 1, 2, 3, 4] rfl rfl rfl rfl (by decide) rfl hl.1 rfl (Nat.le_of_ble_eq_true rfl) dL_law_125 ⟨Nat.le_of_ble_eq_true rfl, Nat.le_of_ble_eq_true rfl⟩ (fun r2 u H locs hw2 hP hD hS => ?_)
  obtain ⟨pr2, S2, V2, T2⟩ := u
  try dsimp only at hw2
  have hP : va_P (dC, dI) vwCl (wD h0 h1 h2 h3 h4 dS pr1 S1 V1 kn1 R1 X1 rk1 lf1 lw1 ++ wM g0 g1 g2 g3 g4 dZ dN pr2 S2 V2 T2) H := hP
  have hD : va_D (fun q : Nat => s.heap.size ≤ q) (wD h0 h1 h2 h3 h4 dS pr1 S1 V1 kn1 R1 X1 rk1 lf1 lw1 ++ wM g0 g1 g2 g3 g4 dZ dN pr2 S2 V2 T2) := hD
  have hq := hw1.trans hw2.symm
  simp only [Prod.mk.injEq] at hq
  obtain ⟨hr, rfl, rfl, rfl⟩ := hq
  refine lv_icmp_eq (tgt := 369) hx hb dL_law_128 (by decide) (fun _ => ?_) (fun h => absurd hr h)
  exact kk _ _ _ ⟨pr1, S1, V1, kn1, R1, X1, rk1, lf1, lw1, T2, hI, hP, hD, hS, hl⟩
set_option maxHeartbeats 4000000 in
set_option maxRecDepth 100000 in
/-- the law's case drop -/
theorem law_drop {p : Program} {e : Env} {s : State} {m : MethodId} {below : List Frame} {meth : Method} {c : Code} {l : Launch} {b L : Nat} {xs : Nat → Int32} {dC : Nat → ClassId} {dI : Nat → Nat → Nat} {dS dZ dN : ClassId} {h0 h1 h2 h3 h4 g0 g1 g2 g3 g4 i : Nat} {H : Heap} {locs : List Loc} {ls : Array Slot} (C0 : lw_At p s m meth c b L xs) (hK : va_K (dC, dI) vwCl (fd_ty dS dZ dN) s) (hL : L ≤ 192) (hi : i + 3 ≤ L) (hI : law_I s dC dI dS dZ dN h0 h1 h2 h3 h4 g0 g1 g2 g3 g4 b i H locs ls) (kk : ∀ (H : Heap) (locs : List Loc) (ls : Array Slot), law_I s dC dI dS dZ dN h0 h1 h2 h3 h4 g0 g1 g2 g3 g4 b i H locs ls → W p l e room_1 s m #[Value.ref b] below meth c H locs 10 335 (lw_Z below #[Value.ref b] s) (F0 m 369 ls [])) : W p l e room_1 s m #[Value.ref b] below meth c H locs 10 335 (lw_Z below #[Value.ref b] s) (F0 m 133 ls []) := by
  obtain ⟨pr, S, V, kn, R, X, rk, lf, lw, T, hI, hP, hD, hS, hl⟩ := hI
  have hI0 := hI
  obtain ⟨hx, hb, hr, hml, hown, hts0, hX, hbl, hlocks, hgv⟩ := id C0
  have hts : ∀ w ∈ lw_all, w.before #[Value.ref b] s = true := fun w h => hts0 w (lw_all_tbl h)
  have hA : ∀ q : Nat, s.heap.size ≤ q → (fun q : Nat => s.heap.size ≤ q) q := fun _ h => h
  have hbA : ¬ (fun q : Nat => s.heap.size ≤ q) b := Nat.not_le.mpr hbl
  refine lv_aload_n hx hb dL_law_133 rfl (lv_at hl 1 rfl) ?_
  refine lv_aload_n hx hb dL_law_134 rfl (lv_at hl 0 rfl) ?_
  refine lv_iload_n hx hb dL_law_135 rfl (lv_at hl 3 rfl) ?_
  refine lv_iconst (v := nI 1) hx hb dL_law_136 (by decide) ?_
  refine lv_iadd hx hb dL_law_137 ?_
  refine fd_top (y := nI (i + 1)) (nI_add _ _) ?_
  refine fd_sld hx hb hX hbl hbA hS (i := i + 1) (by omega) (by omega) dL_law_138 ?_
  refine fd_cI (As := [.int (xs (i + 1))]) (rest := []) (wc := wD h0 h1 h2 h3 h4 dS pr S V kn R X rk lf lw) (wr := wM g0 g1 g2 g3 g4 dZ dN pr S V T) ⟨hx, hb, hml, hown, hts⟩ (cD_drop l dC dI dS dZ dN h0 h1 h2 h3 h4 _ pr S V kn R X rk lf lw hI (xs (i + 1))) (cwV 1 hts (lw_V q88 q89 q90 q15 q91) rfl rfl rfl (by decide +kernel) ⟨Nat.le_of_ble_eq_true rfl, Nat.le_of_ble_eq_true rfl⟩) (va_recv hK hP (ci := 0) (q0 := 0) rfl rfl) hK hP hD hS hA [0, 1, 2, 3, 4] [5, 6, 7, 8, 9] rfl rfl rfl rfl (by decide) rfl hl.1 rfl (Nat.le_of_ble_eq_true rfl) dL_law_139 ⟨Nat.le_of_ble_eq_true rfl, Nat.le_of_ble_eq_true rfl⟩ (fun r1 u H locs hw1 hP hD hS => ?_)
  obtain ⟨pr1, kn1⟩ := u
  try dsimp only at hw1
  have hP := hP.sub (ws' := wD h0 h1 h2 h3 h4 dS pr1 S V kn1 R X rk lf lw ++ wM g0 g1 g2 g3 g4 dZ dN pr S V T) [5, 6, 7, 8, 9, 0, 1, 2, 3, 4] rfl
  have hD := hD.sub (ws' := wD h0 h1 h2 h3 h4 dS pr1 S V kn1 R X rk lf lw ++ wM g0 g1 g2 g3 g4 dZ dN pr S V T) [5, 6, 7, 8, 9, 0, 1, 2, 3, 4] (by decide) rfl
  obtain ⟨hw1, hI⟩ := hw1
  refine lv_aload_n hx hb dL_law_142 rfl (lv_at hl 2 rfl) ?_
  refine lv_aload_n hx hb dL_law_143 rfl (lv_at hl 0 rfl) ?_
  refine lv_iload_n hx hb dL_law_144 rfl (lv_at hl 3 rfl) ?_
  refine lv_iconst (v := nI 1) hx hb dL_law_145 (by decide) ?_
  refine lv_iadd hx hb dL_law_146 ?_
  refine fd_top (y := nI (i + 1)) (nI_add _ _) ?_
  refine fd_sld hx hb hX hbl hbA hS (i := i + 1) (by omega) (by omega) dL_law_147 ?_
  refine fd_cI (As := [.int (xs (i + 1))]) (rest := [.int r1]) (wc := wM g0 g1 g2 g3 g4 dZ dN pr S V T) (wr := wD h0 h1 h2 h3 h4 dS pr1 S V kn1 R X rk lf lw) ⟨hx, hb, hml, hown, hts⟩ (cM_drop l dC dI dS dZ dN g0 g1 g2 g3 g4 _ pr S V T  (xs (i + 1))) (cwV 1 hts (lw_V q190 q191 q192 q16 q193) rfl rfl rfl (by decide +kernel) ⟨Nat.le_of_ble_eq_true rfl, Nat.le_of_ble_eq_true rfl⟩) (va_recv hK hP (ci := 1) (q0 := 5) rfl rfl) hK hP hD hS hA [5, 6, 7, 8, 9] [0, 1, 2, 3, 4] rfl rfl rfl rfl (by decide) rfl hl.1 rfl (Nat.le_of_ble_eq_true rfl) dL_law_148 ⟨Nat.le_of_ble_eq_true rfl, Nat.le_of_ble_eq_true rfl⟩ (fun r2 u H locs hw2 hP hD hS => ?_)
  obtain ⟨pr2, rfl⟩ : ∃ z, z = u := ⟨_, rfl⟩
  have hP : va_P (dC, dI) vwCl (wD h0 h1 h2 h3 h4 dS pr1 S V kn1 R X rk lf lw ++ wM g0 g1 g2 g3 g4 dZ dN pr2 S V T) H := hP
  have hD : va_D (fun q : Nat => s.heap.size ≤ q) (wD h0 h1 h2 h3 h4 dS pr1 S V kn1 R X rk lf lw ++ wM g0 g1 g2 g3 g4 dZ dN pr2 S V T) := hD
  have hq := hw1.trans hw2.symm
  simp only [Prod.mk.injEq] at hq
  obtain ⟨hr, rfl⟩ := hq
  refine lv_icmp_eq (tgt := 369) hx hb dL_law_151 (by decide) (fun _ => ?_) (fun h => absurd hr h)
  exact kk _ _ _ ⟨pr1, S, V, kn1, R, X, rk, lf, lw, T, hI, hP, hD, hS, hl⟩
set_option maxHeartbeats 4000000 in
set_option maxRecDepth 100000 in
/-- the law's case drops -/
theorem law_drops {p : Program} {e : Env} {s : State} {m : MethodId} {below : List Frame} {meth : Method} {c : Code} {l : Launch} {b L : Nat} {xs : Nat → Int32} {dC : Nat → ClassId} {dI : Nat → Nat → Nat} {dS dZ dN : ClassId} {h0 h1 h2 h3 h4 g0 g1 g2 g3 g4 i : Nat} {H : Heap} {locs : List Loc} {ls : Array Slot} (C0 : lw_At p s m meth c b L xs) (hK : va_K (dC, dI) vwCl (fd_ty dS dZ dN) s) (hL : L ≤ 192) (hi : i + 3 ≤ L) (hI : law_I s dC dI dS dZ dN h0 h1 h2 h3 h4 g0 g1 g2 g3 g4 b i H locs ls) (kk : ∀ (H : Heap) (locs : List Loc) (ls : Array Slot), law_I s dC dI dS dZ dN h0 h1 h2 h3 h4 g0 g1 g2 g3 g4 b i H locs ls → W p l e room_1 s m #[Value.ref b] below meth c H locs 10 335 (lw_Z below #[Value.ref b] s) (F0 m 369 ls [])) : W p l e room_1 s m #[Value.ref b] below meth c H locs 10 335 (lw_Z below #[Value.ref b] s) (F0 m 156 ls []) := by
  obtain ⟨pr, S, V, kn, R, X, rk, lf, lw, T, hI, hP, hD, hS, hl⟩ := hI
  have hI0 := hI
  obtain ⟨hx, hb, hr, hml, hown, hts0, hX, hbl, hlocks, hgv⟩ := id C0
  have hts : ∀ w ∈ lw_all, w.before #[Value.ref b] s = true := fun w h => hts0 w (lw_all_tbl h)
  have hA : ∀ q : Nat, s.heap.size ≤ q → (fun q : Nat => s.heap.size ≤ q) q := fun _ h => h
  have hbA : ¬ (fun q : Nat => s.heap.size ≤ q) b := Nat.not_le.mpr hbl
  refine lv_aload_n hx hb dL_law_156 rfl (lv_at hl 1 rfl) ?_
  refine fd_cI (As := []) (rest := []) (wc := wD h0 h1 h2 h3 h4 dS pr S V kn R X rk lf lw) (wr := wM g0 g1 g2 g3 g4 dZ dN pr S V T) ⟨hx, hb, hml, hown, hts⟩ (cD_drops l dC dI dS dZ dN h0 h1 h2 h3 h4 _ pr S V kn R X rk lf lw  ) (cwV 0 hts (lw_V q92 q93 q94 q15 q95) rfl rfl rfl (by decide +kernel) ⟨Nat.le_of_ble_eq_true rfl, Nat.le_of_ble_eq_true rfl⟩) (va_recv hK hP (ci := 0) (q0 := 0) rfl rfl) hK hP hD hS hA [0, 1, 2, 3, 4] [5, 6, 7, 8, 9] rfl rfl rfl rfl (by decide) rfl hl.1 rfl (Nat.le_of_ble_eq_true rfl) dL_law_157 ⟨Nat.le_of_ble_eq_true rfl, Nat.le_of_ble_eq_true rfl⟩ (fun r1 u H locs hw1 hP hD hS => ?_)
  have hP := hP.sub (ws' := wD h0 h1 h2 h3 h4 dS pr S V kn R X rk lf lw ++ wM g0 g1 g2 g3 g4 dZ dN pr S V T) [5, 6, 7, 8, 9, 0, 1, 2, 3, 4] rfl
  have hD := hD.sub (ws' := wD h0 h1 h2 h3 h4 dS pr S V kn R X rk lf lw ++ wM g0 g1 g2 g3 g4 dZ dN pr S V T) [5, 6, 7, 8, 9, 0, 1, 2, 3, 4] (by decide) rfl
  refine lv_aload_n hx hb dL_law_160 rfl (lv_at hl 2 rfl) ?_
  refine fd_cI (As := []) (rest := [.int r1]) (wc := wM g0 g1 g2 g3 g4 dZ dN pr S V T) (wr := wD h0 h1 h2 h3 h4 dS pr S V kn R X rk lf lw) ⟨hx, hb, hml, hown, hts⟩ (cM_drops l dC dI dS dZ dN g0 g1 g2 g3 g4 _ pr S V T hI.1.1 ) (cwV 0 hts (lw_V q194 q195 q196 q16 q197) rfl rfl rfl (by decide +kernel) ⟨Nat.le_of_ble_eq_true rfl, Nat.le_of_ble_eq_true rfl⟩) (va_recv hK hP (ci := 1) (q0 := 5) rfl rfl) hK hP hD hS hA [5, 6, 7, 8, 9] [0, 1, 2, 3, 4] rfl rfl rfl rfl (by decide) rfl hl.1 rfl (Nat.le_of_ble_eq_true rfl) dL_law_161 ⟨Nat.le_of_ble_eq_true rfl, Nat.le_of_ble_eq_true rfl⟩ (fun r2 u H locs hw2 hP hD hS => ?_)
  have hP : va_P (dC, dI) vwCl (wD h0 h1 h2 h3 h4 dS pr S V kn R X rk lf lw ++ wM g0 g1 g2 g3 g4 dZ dN pr S V T) H := hP
  have hD : va_D (fun q : Nat => s.heap.size ≤ q) (wD h0 h1 h2 h3 h4 dS pr S V kn R X rk lf lw ++ wM g0 g1 g2 g3 g4 dZ dN pr S V T) := hD
  refine lv_icmp_eq (tgt := 369) hx hb dL_law_164 (by decide) (fun _ => ?_) (fun h => absurd (hw1.trans hw2.symm) h)
  exact kk _ _ _ ⟨pr, S, V, kn, R, X, rk, lf, lw, T, hI, hP, hD, hS, hl⟩
set_option maxHeartbeats 4000000 in
set_option maxRecDepth 100000 in
/-- the law's case known -/
theorem law_known {p : Program} {e : Env} {s : State} {m : MethodId} {below : List Frame} {meth : Method} {c : Code} {l : Launch} {b L : Nat} {xs : Nat → Int32} {dC : Nat → ClassId} {dI : Nat → Nat → Nat} {dS dZ dN : ClassId} {h0 h1 h2 h3 h4 g0 g1 g2 g3 g4 i : Nat} {H : Heap} {locs : List Loc} {ls : Array Slot} (C0 : lw_At p s m meth c b L xs) (hK : va_K (dC, dI) vwCl (fd_ty dS dZ dN) s) (hL : L ≤ 192) (hi : i + 3 ≤ L) (hI : law_I s dC dI dS dZ dN h0 h1 h2 h3 h4 g0 g1 g2 g3 g4 b i H locs ls) (kk : ∀ (H : Heap) (locs : List Loc) (ls : Array Slot), law_I s dC dI dS dZ dN h0 h1 h2 h3 h4 g0 g1 g2 g3 g4 b i H locs ls → W p l e room_1 s m #[Value.ref b] below meth c H locs 10 335 (lw_Z below #[Value.ref b] s) (F0 m 369 ls [])) : W p l e room_1 s m #[Value.ref b] below meth c H locs 10 335 (lw_Z below #[Value.ref b] s) (F0 m 169 ls []) := by
  obtain ⟨pr, S, V, kn, R, X, rk, lf, lw, T, hI, hP, hD, hS, hl⟩ := hI
  have hI0 := hI
  obtain ⟨hx, hb, hr, hml, hown, hts0, hX, hbl, hlocks, hgv⟩ := id C0
  have hts : ∀ w ∈ lw_all, w.before #[Value.ref b] s = true := fun w h => hts0 w (lw_all_tbl h)
  have hA : ∀ q : Nat, s.heap.size ≤ q → (fun q : Nat => s.heap.size ≤ q) q := fun _ h => h
  have hbA : ¬ (fun q : Nat => s.heap.size ≤ q) b := Nat.not_le.mpr hbl
  refine lv_aload_n hx hb dL_law_169 rfl (lv_at hl 1 rfl) ?_
  refine fd_cI (As := []) (rest := []) (wc := wD h0 h1 h2 h3 h4 dS pr S V kn R X rk lf lw) (wr := wM g0 g1 g2 g3 g4 dZ dN pr S V T) ⟨hx, hb, hml, hown, hts⟩ (cD_known l dC dI dS dZ dN h0 h1 h2 h3 h4 _ pr S V kn R X rk lf lw hI ) (cwV 0 hts (lw_V q96 q97 q98 q15 q99) rfl rfl rfl (by decide +kernel) ⟨Nat.le_of_ble_eq_true rfl, Nat.le_of_ble_eq_true rfl⟩) (va_recv hK hP (ci := 0) (q0 := 0) rfl rfl) hK hP hD hS hA [0, 1, 2, 3, 4] [5, 6, 7, 8, 9] rfl rfl rfl rfl (by decide) rfl hl.1 rfl (Nat.le_of_ble_eq_true rfl) dL_law_170 ⟨Nat.le_of_ble_eq_true rfl, Nat.le_of_ble_eq_true rfl⟩ (fun r1 u H locs hw1 hP hD hS => ?_)
  obtain ⟨kn1, R1, X1, rk1, lf1, lw1⟩ := u
  try dsimp only at hw1
  have hP := hP.sub (ws' := wD h0 h1 h2 h3 h4 dS pr S V kn1 R1 X1 rk1 lf1 lw1 ++ wM g0 g1 g2 g3 g4 dZ dN pr S V T) [5, 6, 7, 8, 9, 0, 1, 2, 3, 4] rfl
  have hD := hD.sub (ws' := wD h0 h1 h2 h3 h4 dS pr S V kn1 R1 X1 rk1 lf1 lw1 ++ wM g0 g1 g2 g3 g4 dZ dN pr S V T) [5, 6, 7, 8, 9, 0, 1, 2, 3, 4] (by decide) rfl
  obtain ⟨hw1, hI⟩ := hw1
  refine lv_aload_n hx hb dL_law_173 rfl (lv_at hl 2 rfl) ?_
  refine fd_cI (As := []) (rest := [.int r1]) (wc := wM g0 g1 g2 g3 g4 dZ dN pr S V T) (wr := wD h0 h1 h2 h3 h4 dS pr S V kn1 R1 X1 rk1 lf1 lw1) ⟨hx, hb, hml, hown, hts⟩ (cM_known l dC dI dS dZ dN g0 g1 g2 g3 g4 _ pr S V T hI.1 ) (cwV 0 hts (lw_V q198 q199 q200 q16 q201) rfl rfl rfl (by decide +kernel) ⟨Nat.le_of_ble_eq_true rfl, Nat.le_of_ble_eq_true rfl⟩) (va_recv hK hP (ci := 1) (q0 := 5) rfl rfl) hK hP hD hS hA [5, 6, 7, 8, 9] [0, 1, 2, 3, 4] rfl rfl rfl rfl (by decide) rfl hl.1 rfl (Nat.le_of_ble_eq_true rfl) dL_law_174 ⟨Nat.le_of_ble_eq_true rfl, Nat.le_of_ble_eq_true rfl⟩ (fun r2 u H locs hw2 hP hD hS => ?_)
  obtain ⟨T2, rfl⟩ : ∃ z, z = u := ⟨_, rfl⟩
  have hP : va_P (dC, dI) vwCl (wD h0 h1 h2 h3 h4 dS pr S V kn1 R1 X1 rk1 lf1 lw1 ++ wM g0 g1 g2 g3 g4 dZ dN pr S V T2) H := hP
  have hD : va_D (fun q : Nat => s.heap.size ≤ q) (wD h0 h1 h2 h3 h4 dS pr S V kn1 R1 X1 rk1 lf1 lw1 ++ wM g0 g1 g2 g3 g4 dZ dN pr S V T2) := hD
  refine lv_icmp_eq (tgt := 369) hx hb dL_law_177 (by decide) (fun _ => ?_) (fun h => absurd (hw1.trans hw2.symm) h)
  exact kk _ _ _ ⟨pr, S, V, kn1, R1, X1, rk1, lf1, lw1, T2, hI, hP, hD, hS, hl⟩
set_option maxHeartbeats 4000000 in
set_option maxRecDepth 100000 in
/-- the law's case piece -/
theorem law_piece {p : Program} {e : Env} {s : State} {m : MethodId} {below : List Frame} {meth : Method} {c : Code} {l : Launch} {b L : Nat} {xs : Nat → Int32} {dC : Nat → ClassId} {dI : Nat → Nat → Nat} {dS dZ dN : ClassId} {h0 h1 h2 h3 h4 g0 g1 g2 g3 g4 i : Nat} {H : Heap} {locs : List Loc} {ls : Array Slot} (C0 : lw_At p s m meth c b L xs) (hK : va_K (dC, dI) vwCl (fd_ty dS dZ dN) s) (hL : L ≤ 192) (hi : i + 3 ≤ L) (hI : law_I s dC dI dS dZ dN h0 h1 h2 h3 h4 g0 g1 g2 g3 g4 b i H locs ls) (kk : ∀ (H : Heap) (locs : List Loc) (ls : Array Slot), law_I s dC dI dS dZ dN h0 h1 h2 h3 h4 g0 g1 g2 g3 g4 b i H locs ls → W p l e room_1 s m #[Value.ref b] below meth c H locs 10 335 (lw_Z below #[Value.ref b] s) (F0 m 369 ls [])) : W p l e room_1 s m #[Value.ref b] below meth c H locs 10 335 (lw_Z below #[Value.ref b] s) (F0 m 182 ls []) := by
  obtain ⟨pr, S, V, kn, R, X, rk, lf, lw, T, hI, hP, hD, hS, hl⟩ := hI
  have hI0 := hI
  obtain ⟨hx, hb, hr, hml, hown, hts0, hX, hbl, hlocks, hgv⟩ := id C0
  have hts : ∀ w ∈ lw_all, w.before #[Value.ref b] s = true := fun w h => hts0 w (lw_all_tbl h)
  have hA : ∀ q : Nat, s.heap.size ≤ q → (fun q : Nat => s.heap.size ≤ q) q := fun _ h => h
  have hbA : ¬ (fun q : Nat => s.heap.size ≤ q) b := Nat.not_le.mpr hbl
  refine lv_aload_n hx hb dL_law_182 rfl (lv_at hl 1 rfl) ?_
  refine lv_aload_n hx hb dL_law_183 rfl (lv_at hl 0 rfl) ?_
  refine lv_iload_n hx hb dL_law_184 rfl (lv_at hl 3 rfl) ?_
  refine lv_iconst (v := nI 1) hx hb dL_law_185 (by decide) ?_
  refine lv_iadd hx hb dL_law_186 ?_
  refine fd_top (y := nI (i + 1)) (nI_add _ _) ?_
  refine fd_sld hx hb hX hbl hbA hS (i := i + 1) (by omega) (by omega) dL_law_187 ?_
  refine fd_cI (As := [.int (xs (i + 1))]) (rest := []) (wc := wD h0 h1 h2 h3 h4 dS pr S V kn R X rk lf lw) (wr := wM g0 g1 g2 g3 g4 dZ dN pr S V T) ⟨hx, hb, hml, hown, hts⟩ (cD_piece l dC dI dS dZ dN h0 h1 h2 h3 h4 _ pr S V kn R X rk lf lw hI (xs (i + 1))) (cwV 1 hts (lw_V q104 q105 q106 q15 q107) rfl rfl rfl (by decide +kernel) ⟨Nat.le_of_ble_eq_true rfl, Nat.le_of_ble_eq_true rfl⟩) (va_recv hK hP (ci := 0) (q0 := 0) rfl rfl) hK hP hD hS hA [0, 1, 2, 3, 4] [5, 6, 7, 8, 9] rfl rfl rfl rfl (by decide) rfl hl.1 rfl (Nat.le_of_ble_eq_true rfl) dL_law_188 ⟨Nat.le_of_ble_eq_true rfl, Nat.le_of_ble_eq_true rfl⟩ (fun r1 u H locs hw1 hP hD hS => ?_)
  obtain ⟨kn1, R1, X1, rk1, lf1, lw1⟩ := u
  try dsimp only at hw1
  have hP := hP.sub (ws' := wD h0 h1 h2 h3 h4 dS pr S V kn1 R1 X1 rk1 lf1 lw1 ++ wM g0 g1 g2 g3 g4 dZ dN pr S V T) [5, 6, 7, 8, 9, 0, 1, 2, 3, 4] rfl
  have hD := hD.sub (ws' := wD h0 h1 h2 h3 h4 dS pr S V kn1 R1 X1 rk1 lf1 lw1 ++ wM g0 g1 g2 g3 g4 dZ dN pr S V T) [5, 6, 7, 8, 9, 0, 1, 2, 3, 4] (by decide) rfl
  obtain ⟨hw1, hI⟩ := hw1
  refine lv_aload_n hx hb dL_law_191 rfl (lv_at hl 2 rfl) ?_
  refine lv_aload_n hx hb dL_law_192 rfl (lv_at hl 0 rfl) ?_
  refine lv_iload_n hx hb dL_law_193 rfl (lv_at hl 3 rfl) ?_
  refine lv_iconst (v := nI 1) hx hb dL_law_194 (by decide) ?_
  refine lv_iadd hx hb dL_law_195 ?_
  refine fd_top (y := nI (i + 1)) (nI_add _ _) ?_
  refine fd_sld hx hb hX hbl hbA hS (i := i + 1) (by omega) (by omega) dL_law_196 ?_
  refine fd_cI (As := [.int (xs (i + 1))]) (rest := [.int r1]) (wc := wM g0 g1 g2 g3 g4 dZ dN pr S V T) (wr := wD h0 h1 h2 h3 h4 dS pr S V kn1 R1 X1 rk1 lf1 lw1) ⟨hx, hb, hml, hown, hts⟩ (cM_piece l dC dI dS dZ dN g0 g1 g2 g3 g4 _ pr S V T hI.1 (xs (i + 1))) (cwV 1 hts (lw_V q202 q203 q204 q16 q205) rfl rfl rfl (by decide +kernel) ⟨Nat.le_of_ble_eq_true rfl, Nat.le_of_ble_eq_true rfl⟩) (va_recv hK hP (ci := 1) (q0 := 5) rfl rfl) hK hP hD hS hA [5, 6, 7, 8, 9] [0, 1, 2, 3, 4] rfl rfl rfl rfl (by decide) rfl hl.1 rfl (Nat.le_of_ble_eq_true rfl) dL_law_197 ⟨Nat.le_of_ble_eq_true rfl, Nat.le_of_ble_eq_true rfl⟩ (fun r2 u H locs hw2 hP hD hS => ?_)
  obtain ⟨T2, rfl⟩ : ∃ z, z = u := ⟨_, rfl⟩
  have hP : va_P (dC, dI) vwCl (wD h0 h1 h2 h3 h4 dS pr S V kn1 R1 X1 rk1 lf1 lw1 ++ wM g0 g1 g2 g3 g4 dZ dN pr S V T2) H := hP
  have hD : va_D (fun q : Nat => s.heap.size ≤ q) (wD h0 h1 h2 h3 h4 dS pr S V kn1 R1 X1 rk1 lf1 lw1 ++ wM g0 g1 g2 g3 g4 dZ dN pr S V T2) := hD
  refine lv_icmp_eq (tgt := 369) hx hb dL_law_200 (by decide) (fun _ => ?_) (fun h => absurd (hw1.trans hw2.symm) h)
  exact kk _ _ _ ⟨pr, S, V, kn1, R1, X1, rk1, lf1, lw1, T2, hI, hP, hD, hS, hl⟩
set_option maxHeartbeats 4000000 in
set_option maxRecDepth 100000 in
/-- the law's case sum -/
theorem law_sum {p : Program} {e : Env} {s : State} {m : MethodId} {below : List Frame} {meth : Method} {c : Code} {l : Launch} {b L : Nat} {xs : Nat → Int32} {dC : Nat → ClassId} {dI : Nat → Nat → Nat} {dS dZ dN : ClassId} {h0 h1 h2 h3 h4 g0 g1 g2 g3 g4 i : Nat} {H : Heap} {locs : List Loc} {ls : Array Slot} (C0 : lw_At p s m meth c b L xs) (hK : va_K (dC, dI) vwCl (fd_ty dS dZ dN) s) (hL : L ≤ 192) (hi : i + 3 ≤ L) (hI : law_I s dC dI dS dZ dN h0 h1 h2 h3 h4 g0 g1 g2 g3 g4 b i H locs ls) (kk : ∀ (H : Heap) (locs : List Loc) (ls : Array Slot), law_I s dC dI dS dZ dN h0 h1 h2 h3 h4 g0 g1 g2 g3 g4 b i H locs ls → W p l e room_1 s m #[Value.ref b] below meth c H locs 10 335 (lw_Z below #[Value.ref b] s) (F0 m 369 ls [])) : W p l e room_1 s m #[Value.ref b] below meth c H locs 10 335 (lw_Z below #[Value.ref b] s) (F0 m 205 ls []) := by
  obtain ⟨pr, S, V, kn, R, X, rk, lf, lw, T, hI, hP, hD, hS, hl⟩ := hI
  have hI0 := hI
  obtain ⟨hx, hb, hr, hml, hown, hts0, hX, hbl, hlocks, hgv⟩ := id C0
  have hts : ∀ w ∈ lw_all, w.before #[Value.ref b] s = true := fun w h => hts0 w (lw_all_tbl h)
  have hA : ∀ q : Nat, s.heap.size ≤ q → (fun q : Nat => s.heap.size ≤ q) q := fun _ h => h
  have hbA : ¬ (fun q : Nat => s.heap.size ≤ q) b := Nat.not_le.mpr hbl
  refine lv_aload_n hx hb dL_law_205 rfl (lv_at hl 1 rfl) ?_
  refine lv_aload_n hx hb dL_law_206 rfl (lv_at hl 0 rfl) ?_
  refine lv_iload_n hx hb dL_law_207 rfl (lv_at hl 3 rfl) ?_
  refine lv_iconst (v := nI 1) hx hb dL_law_208 (by decide) ?_
  refine lv_iadd hx hb dL_law_209 ?_
  refine fd_top (y := nI (i + 1)) (nI_add _ _) ?_
  refine fd_sld hx hb hX hbl hbA hS (i := i + 1) (by omega) (by omega) dL_law_210 ?_
  refine fd_cI (As := [.int (xs (i + 1))]) (rest := []) (wc := wD h0 h1 h2 h3 h4 dS pr S V kn R X rk lf lw) (wr := wM g0 g1 g2 g3 g4 dZ dN pr S V T) ⟨hx, hb, hml, hown, hts⟩ (cD_sum l dC dI dS dZ dN h0 h1 h2 h3 h4 _ pr S V kn R X rk lf lw hI (xs (i + 1))) (cwV 1 hts (lw_V q108 q109 q110 q15 q111) rfl rfl rfl (by decide +kernel) ⟨Nat.le_of_ble_eq_true rfl, Nat.le_of_ble_eq_true rfl⟩) (va_recv hK hP (ci := 0) (q0 := 0) rfl rfl) hK hP hD hS hA [0, 1, 2, 3, 4] [5, 6, 7, 8, 9] rfl rfl rfl rfl (by decide) rfl hl.1 rfl (Nat.le_of_ble_eq_true rfl) dL_law_211 ⟨Nat.le_of_ble_eq_true rfl, Nat.le_of_ble_eq_true rfl⟩ (fun r1 u H locs hw1 hP hD hS => ?_)
  obtain ⟨kn1, R1, X1, rk1, lf1, lw1⟩ := u
  try dsimp only at hw1
  have hP := hP.sub (ws' := wD h0 h1 h2 h3 h4 dS pr S V kn1 R1 X1 rk1 lf1 lw1 ++ wM g0 g1 g2 g3 g4 dZ dN pr S V T) [5, 6, 7, 8, 9, 0, 1, 2, 3, 4] rfl
  have hD := hD.sub (ws' := wD h0 h1 h2 h3 h4 dS pr S V kn1 R1 X1 rk1 lf1 lw1 ++ wM g0 g1 g2 g3 g4 dZ dN pr S V T) [5, 6, 7, 8, 9, 0, 1, 2, 3, 4] (by decide) rfl
  obtain ⟨hw1, hI⟩ := hw1
  refine lv_aload_n hx hb dL_law_214 rfl (lv_at hl 2 rfl) ?_
  refine lv_aload_n hx hb dL_law_215 rfl (lv_at hl 0 rfl) ?_
  refine lv_iload_n hx hb dL_law_216 rfl (lv_at hl 3 rfl) ?_
  refine lv_iconst (v := nI 1) hx hb dL_law_217 (by decide) ?_
  refine lv_iadd hx hb dL_law_218 ?_
  refine fd_top (y := nI (i + 1)) (nI_add _ _) ?_
  refine fd_sld hx hb hX hbl hbA hS (i := i + 1) (by omega) (by omega) dL_law_219 ?_
  refine fd_cI (As := [.int (xs (i + 1))]) (rest := [.int r1]) (wc := wM g0 g1 g2 g3 g4 dZ dN pr S V T) (wr := wD h0 h1 h2 h3 h4 dS pr S V kn1 R1 X1 rk1 lf1 lw1) ⟨hx, hb, hml, hown, hts⟩ (cM_sum l dC dI dS dZ dN g0 g1 g2 g3 g4 _ pr S V T hI.1 (xs (i + 1))) (cwV 1 hts (lw_V q206 q207 q208 q16 q209) rfl rfl rfl (by decide +kernel) ⟨Nat.le_of_ble_eq_true rfl, Nat.le_of_ble_eq_true rfl⟩) (va_recv hK hP (ci := 1) (q0 := 5) rfl rfl) hK hP hD hS hA [5, 6, 7, 8, 9] [0, 1, 2, 3, 4] rfl rfl rfl rfl (by decide) rfl hl.1 rfl (Nat.le_of_ble_eq_true rfl) dL_law_220 ⟨Nat.le_of_ble_eq_true rfl, Nat.le_of_ble_eq_true rfl⟩ (fun r2 u H locs hw2 hP hD hS => ?_)
  obtain ⟨T2, rfl⟩ : ∃ z, z = u := ⟨_, rfl⟩
  have hP : va_P (dC, dI) vwCl (wD h0 h1 h2 h3 h4 dS pr S V kn1 R1 X1 rk1 lf1 lw1 ++ wM g0 g1 g2 g3 g4 dZ dN pr S V T2) H := hP
  have hD : va_D (fun q : Nat => s.heap.size ≤ q) (wD h0 h1 h2 h3 h4 dS pr S V kn1 R1 X1 rk1 lf1 lw1 ++ wM g0 g1 g2 g3 g4 dZ dN pr S V T2) := hD
  refine lv_icmp_eq (tgt := 369) hx hb dL_law_223 (by decide) (fun _ => ?_) (fun h => absurd (hw1.trans hw2.symm) h)
  exact kk _ _ _ ⟨pr, S, V, kn1, R1, X1, rk1, lf1, lw1, T2, hI, hP, hD, hS, hl⟩
set_option maxHeartbeats 4000000 in
set_option maxRecDepth 100000 in
/-- the law's case missing -/
theorem law_missing {p : Program} {e : Env} {s : State} {m : MethodId} {below : List Frame} {meth : Method} {c : Code} {l : Launch} {b L : Nat} {xs : Nat → Int32} {dC : Nat → ClassId} {dI : Nat → Nat → Nat} {dS dZ dN : ClassId} {h0 h1 h2 h3 h4 g0 g1 g2 g3 g4 i : Nat} {H : Heap} {locs : List Loc} {ls : Array Slot} (C0 : lw_At p s m meth c b L xs) (hK : va_K (dC, dI) vwCl (fd_ty dS dZ dN) s) (hL : L ≤ 192) (hi : i + 3 ≤ L) (hI : law_I s dC dI dS dZ dN h0 h1 h2 h3 h4 g0 g1 g2 g3 g4 b i H locs ls) (kk : ∀ (H : Heap) (locs : List Loc) (ls : Array Slot), law_I s dC dI dS dZ dN h0 h1 h2 h3 h4 g0 g1 g2 g3 g4 b i H locs ls → W p l e room_1 s m #[Value.ref b] below meth c H locs 10 335 (lw_Z below #[Value.ref b] s) (F0 m 369 ls [])) : W p l e room_1 s m #[Value.ref b] below meth c H locs 10 335 (lw_Z below #[Value.ref b] s) (F0 m 228 ls []) := by
  obtain ⟨pr, S, V, kn, R, X, rk, lf, lw, T, hI, hP, hD, hS, hl⟩ := hI
  have hI0 := hI
  obtain ⟨hx, hb, hr, hml, hown, hts0, hX, hbl, hlocks, hgv⟩ := id C0
  have hts : ∀ w ∈ lw_all, w.before #[Value.ref b] s = true := fun w h => hts0 w (lw_all_tbl h)
  have hA : ∀ q : Nat, s.heap.size ≤ q → (fun q : Nat => s.heap.size ≤ q) q := fun _ h => h
  have hbA : ¬ (fun q : Nat => s.heap.size ≤ q) b := Nat.not_le.mpr hbl
  refine lv_aload_n hx hb dL_law_228 rfl (lv_at hl 1 rfl) ?_
  refine fd_cI (As := []) (rest := []) (wc := wD h0 h1 h2 h3 h4 dS pr S V kn R X rk lf lw) (wr := wM g0 g1 g2 g3 g4 dZ dN pr S V T) ⟨hx, hb, hml, hown, hts⟩ (cD_missing l dC dI dS dZ dN h0 h1 h2 h3 h4 _ pr S V kn R X rk lf lw hI ) (cwV 0 hts (lw_V q112 q113 q114 q15 q115) rfl rfl rfl (by decide +kernel) ⟨Nat.le_of_ble_eq_true rfl, Nat.le_of_ble_eq_true rfl⟩) (va_recv hK hP (ci := 0) (q0 := 0) rfl rfl) hK hP hD hS hA [0, 1, 2, 3, 4] [5, 6, 7, 8, 9] rfl rfl rfl rfl (by decide) rfl hl.1 rfl (Nat.le_of_ble_eq_true rfl) dL_law_229 ⟨Nat.le_of_ble_eq_true rfl, Nat.le_of_ble_eq_true rfl⟩ (fun r1 u H locs hw1 hP hD hS => ?_)
  obtain ⟨kn1, R1, X1, rk1, lf1, lw1⟩ := u
  try dsimp only at hw1
  have hP := hP.sub (ws' := wD h0 h1 h2 h3 h4 dS pr S V kn1 R1 X1 rk1 lf1 lw1 ++ wM g0 g1 g2 g3 g4 dZ dN pr S V T) [5, 6, 7, 8, 9, 0, 1, 2, 3, 4] rfl
  have hD := hD.sub (ws' := wD h0 h1 h2 h3 h4 dS pr S V kn1 R1 X1 rk1 lf1 lw1 ++ wM g0 g1 g2 g3 g4 dZ dN pr S V T) [5, 6, 7, 8, 9, 0, 1, 2, 3, 4] (by decide) rfl
  obtain ⟨⟨kk2, hkk, hk8, hw1⟩, hI⟩ := hw1
  refine lv_aload_n hx hb dL_law_232 rfl (lv_at hl 2 rfl) ?_
  refine fd_cI (As := []) (rest := [.int r1]) (wc := wM g0 g1 g2 g3 g4 dZ dN pr S V T) (wr := wD h0 h1 h2 h3 h4 dS pr S V kn1 R1 X1 rk1 lf1 lw1) ⟨hx, hb, hml, hown, hts⟩ (cM_missing l dC dI dS dZ dN g0 g1 g2 g3 g4 _ pr S V T hI.1 kk2 hkk hk8 ) (cwV 0 hts (lw_V q210 q211 q212 q16 q213) rfl rfl rfl (by decide +kernel) ⟨Nat.le_of_ble_eq_true rfl, Nat.le_of_ble_eq_true rfl⟩) (va_recv hK hP (ci := 1) (q0 := 5) rfl rfl) hK hP hD hS hA [5, 6, 7, 8, 9] [0, 1, 2, 3, 4] rfl rfl rfl rfl (by decide) rfl hl.1 rfl (Nat.le_of_ble_eq_true rfl) dL_law_233 ⟨Nat.le_of_ble_eq_true rfl, Nat.le_of_ble_eq_true rfl⟩ (fun r2 u H locs hw2 hP hD hS => ?_)
  obtain ⟨T2, rfl⟩ : ∃ z, z = u := ⟨_, rfl⟩
  have hP : va_P (dC, dI) vwCl (wD h0 h1 h2 h3 h4 dS pr S V kn1 R1 X1 rk1 lf1 lw1 ++ wM g0 g1 g2 g3 g4 dZ dN pr S V T2) H := hP
  have hD : va_D (fun q : Nat => s.heap.size ≤ q) (wD h0 h1 h2 h3 h4 dS pr S V kn1 R1 X1 rk1 lf1 lw1 ++ wM g0 g1 g2 g3 g4 dZ dN pr S V T2) := hD
  refine lv_icmp_eq (tgt := 369) hx hb dL_law_236 (by decide) (fun _ => ?_) (fun h => absurd (hw1.trans hw2.symm) h)
  exact kk _ _ _ ⟨pr, S, V, kn1, R1, X1, rk1, lf1, lw1, T2, hI, hP, hD, hS, hl⟩
set_option maxHeartbeats 4000000 in
set_option maxRecDepth 100000 in
/-- the law's case idle -/
theorem law_idle {p : Program} {e : Env} {s : State} {m : MethodId} {below : List Frame} {meth : Method} {c : Code} {l : Launch} {b L : Nat} {xs : Nat → Int32} {dC : Nat → ClassId} {dI : Nat → Nat → Nat} {dS dZ dN : ClassId} {h0 h1 h2 h3 h4 g0 g1 g2 g3 g4 i : Nat} {H : Heap} {locs : List Loc} {ls : Array Slot} (C0 : lw_At p s m meth c b L xs) (hK : va_K (dC, dI) vwCl (fd_ty dS dZ dN) s) (hL : L ≤ 192) (hi : i + 3 ≤ L) (hI : law_I s dC dI dS dZ dN h0 h1 h2 h3 h4 g0 g1 g2 g3 g4 b i H locs ls) (kk : ∀ (H : Heap) (locs : List Loc) (ls : Array Slot), law_I s dC dI dS dZ dN h0 h1 h2 h3 h4 g0 g1 g2 g3 g4 b i H locs ls → W p l e room_1 s m #[Value.ref b] below meth c H locs 10 335 (lw_Z below #[Value.ref b] s) (F0 m 369 ls [])) : W p l e room_1 s m #[Value.ref b] below meth c H locs 10 335 (lw_Z below #[Value.ref b] s) (F0 m 241 ls []) := by
  obtain ⟨pr, S, V, kn, R, X, rk, lf, lw, T, hI, hP, hD, hS, hl⟩ := hI
  have hI0 := hI
  obtain ⟨hx, hb, hr, hml, hown, hts0, hX, hbl, hlocks, hgv⟩ := id C0
  have hts : ∀ w ∈ lw_all, w.before #[Value.ref b] s = true := fun w h => hts0 w (lw_all_tbl h)
  have hA : ∀ q : Nat, s.heap.size ≤ q → (fun q : Nat => s.heap.size ≤ q) q := fun _ h => h
  have hbA : ¬ (fun q : Nat => s.heap.size ≤ q) b := Nat.not_le.mpr hbl
  refine lv_aload_n hx hb dL_law_241 rfl (lv_at hl 1 rfl) ?_
  refine lv_aload_n hx hb dL_law_242 rfl (lv_at hl 0 rfl) ?_
  refine lv_iload_n hx hb dL_law_243 rfl (lv_at hl 3 rfl) ?_
  refine lv_iconst (v := nI 1) hx hb dL_law_244 (by decide) ?_
  refine lv_iadd hx hb dL_law_245 ?_
  refine fd_top (y := nI (i + 1)) (nI_add _ _) ?_
  refine fd_sld hx hb hX hbl hbA hS (i := i + 1) (by omega) (by omega) dL_law_246 ?_
  refine fd_cI (As := [.int (xs (i + 1))]) (rest := []) (wc := wD h0 h1 h2 h3 h4 dS pr S V kn R X rk lf lw) (wr := wM g0 g1 g2 g3 g4 dZ dN pr S V T) ⟨hx, hb, hml, hown, hts⟩ (cD_idle l dC dI dS dZ dN h0 h1 h2 h3 h4 _ pr S V kn R X rk lf lw hI (xs (i + 1))) (cwV 1 hts (lw_V q116 q117 q118 q15 q119) rfl rfl rfl (by decide +kernel) ⟨Nat.le_of_ble_eq_true rfl, Nat.le_of_ble_eq_true rfl⟩) (va_recv hK hP (ci := 0) (q0 := 0) rfl rfl) hK hP hD hS hA [0, 1, 2, 3, 4] [5, 6, 7, 8, 9] rfl rfl rfl rfl (by decide) rfl hl.1 rfl (Nat.le_of_ble_eq_true rfl) dL_law_247 ⟨Nat.le_of_ble_eq_true rfl, Nat.le_of_ble_eq_true rfl⟩ (fun r1 u H locs hw1 hP hD hS => ?_)
  obtain ⟨kn1, R1, X1, rk1, lf1, lw1⟩ := u
  try dsimp only at hw1
  have hP := hP.sub (ws' := wD h0 h1 h2 h3 h4 dS pr S V kn1 R1 X1 rk1 lf1 lw1 ++ wM g0 g1 g2 g3 g4 dZ dN pr S V T) [5, 6, 7, 8, 9, 0, 1, 2, 3, 4] rfl
  have hD := hD.sub (ws' := wD h0 h1 h2 h3 h4 dS pr S V kn1 R1 X1 rk1 lf1 lw1 ++ wM g0 g1 g2 g3 g4 dZ dN pr S V T) [5, 6, 7, 8, 9, 0, 1, 2, 3, 4] (by decide) rfl
  obtain ⟨hw1, hI⟩ := hw1
  refine lv_aload_n hx hb dL_law_250 rfl (lv_at hl 2 rfl) ?_
  refine lv_aload_n hx hb dL_law_251 rfl (lv_at hl 0 rfl) ?_
  refine lv_iload_n hx hb dL_law_252 rfl (lv_at hl 3 rfl) ?_
  refine lv_iconst (v := nI 1) hx hb dL_law_253 (by decide) ?_
  refine lv_iadd hx hb dL_law_254 ?_
  refine fd_top (y := nI (i + 1)) (nI_add _ _) ?_
  refine fd_sld hx hb hX hbl hbA hS (i := i + 1) (by omega) (by omega) dL_law_255 ?_
  refine fd_cI (As := [.int (xs (i + 1))]) (rest := [.int r1]) (wc := wM g0 g1 g2 g3 g4 dZ dN pr S V T) (wr := wD h0 h1 h2 h3 h4 dS pr S V kn1 R1 X1 rk1 lf1 lw1) ⟨hx, hb, hml, hown, hts⟩ (cM_idle l dC dI dS dZ dN g0 g1 g2 g3 g4 _ pr S V T hI.1 (xs (i + 1))) (cwV 1 hts (lw_V q218 q219 q220 q16 q221) rfl rfl rfl (by decide +kernel) ⟨Nat.le_of_ble_eq_true rfl, Nat.le_of_ble_eq_true rfl⟩) (va_recv hK hP (ci := 1) (q0 := 5) rfl rfl) hK hP hD hS hA [5, 6, 7, 8, 9] [0, 1, 2, 3, 4] rfl rfl rfl rfl (by decide) rfl hl.1 rfl (Nat.le_of_ble_eq_true rfl) dL_law_256 ⟨Nat.le_of_ble_eq_true rfl, Nat.le_of_ble_eq_true rfl⟩ (fun r2 u H locs hw2 hP hD hS => ?_)
  obtain ⟨T2, rfl⟩ : ∃ z, z = u := ⟨_, rfl⟩
  have hP : va_P (dC, dI) vwCl (wD h0 h1 h2 h3 h4 dS pr S V kn1 R1 X1 rk1 lf1 lw1 ++ wM g0 g1 g2 g3 g4 dZ dN pr S V T2) H := hP
  have hD : va_D (fun q : Nat => s.heap.size ≤ q) (wD h0 h1 h2 h3 h4 dS pr S V kn1 R1 X1 rk1 lf1 lw1 ++ wM g0 g1 g2 g3 g4 dZ dN pr S V T2) := hD
  refine lv_icmp_eq (tgt := 369) hx hb dL_law_259 (by decide) (fun _ => ?_) (fun h => absurd (hw1.trans hw2.symm) h)
  exact kk _ _ _ ⟨pr, S, V, kn1, R1, X1, rk1, lf1, lw1, T2, hI, hP, hD, hS, hl⟩
set_option maxHeartbeats 4000000 in
set_option maxRecDepth 100000 in
/-- the law's case knownSums -/
theorem law_knownSums {p : Program} {e : Env} {s : State} {m : MethodId} {below : List Frame} {meth : Method} {c : Code} {l : Launch} {b L : Nat} {xs : Nat → Int32} {dC : Nat → ClassId} {dI : Nat → Nat → Nat} {dS dZ dN : ClassId} {h0 h1 h2 h3 h4 g0 g1 g2 g3 g4 i : Nat} {H : Heap} {locs : List Loc} {ls : Array Slot} (C0 : lw_At p s m meth c b L xs) (hK : va_K (dC, dI) vwCl (fd_ty dS dZ dN) s) (hL : L ≤ 192) (hi : i + 3 ≤ L) (hI : law_I s dC dI dS dZ dN h0 h1 h2 h3 h4 g0 g1 g2 g3 g4 b i H locs ls) (kk : ∀ (H : Heap) (locs : List Loc) (ls : Array Slot), law_I s dC dI dS dZ dN h0 h1 h2 h3 h4 g0 g1 g2 g3 g4 b i H locs ls → W p l e room_1 s m #[Value.ref b] below meth c H locs 10 335 (lw_Z below #[Value.ref b] s) (F0 m 369 ls [])) : W p l e room_1 s m #[Value.ref b] below meth c H locs 10 335 (lw_Z below #[Value.ref b] s) (F0 m 264 ls []) := by
  obtain ⟨pr, S, V, kn, R, X, rk, lf, lw, T, hI, hP, hD, hS, hl⟩ := hI
  have hI0 := hI
  obtain ⟨hx, hb, hr, hml, hown, hts0, hX, hbl, hlocks, hgv⟩ := id C0
  have hts : ∀ w ∈ lw_all, w.before #[Value.ref b] s = true := fun w h => hts0 w (lw_all_tbl h)
  have hA : ∀ q : Nat, s.heap.size ≤ q → (fun q : Nat => s.heap.size ≤ q) q := fun _ h => h
  have hbA : ¬ (fun q : Nat => s.heap.size ≤ q) b := Nat.not_le.mpr hbl
  refine lv_aload_n hx hb dL_law_264 rfl (lv_at hl 1 rfl) ?_
  refine fd_cI (As := []) (rest := []) (wc := wD h0 h1 h2 h3 h4 dS pr S V kn R X rk lf lw) (wr := wM g0 g1 g2 g3 g4 dZ dN pr S V T) ⟨hx, hb, hml, hown, hts⟩ (cD_knownSums l dC dI dS dZ dN h0 h1 h2 h3 h4 _ pr S V kn R X rk lf lw hI ) (cwV 0 hts (lw_V q128 q129 q130 q15 q131) rfl rfl rfl (by decide +kernel) ⟨Nat.le_of_ble_eq_true rfl, Nat.le_of_ble_eq_true rfl⟩) (va_recv hK hP (ci := 0) (q0 := 0) rfl rfl) hK hP hD hS hA [0, 1, 2, 3, 4] [5, 6, 7, 8, 9] rfl rfl rfl rfl (by decide) rfl hl.1 rfl (Nat.le_of_ble_eq_true rfl) dL_law_265 ⟨Nat.le_of_ble_eq_true rfl, Nat.le_of_ble_eq_true rfl⟩ (fun r1 u H locs hw1 hP hD hS => ?_)
  obtain ⟨kn1, R1, X1, rk1, lf1, lw1⟩ := u
  try dsimp only at hw1
  have hP := hP.sub (ws' := wD h0 h1 h2 h3 h4 dS pr S V kn1 R1 X1 rk1 lf1 lw1 ++ wM g0 g1 g2 g3 g4 dZ dN pr S V T) [5, 6, 7, 8, 9, 0, 1, 2, 3, 4] rfl
  have hD := hD.sub (ws' := wD h0 h1 h2 h3 h4 dS pr S V kn1 R1 X1 rk1 lf1 lw1 ++ wM g0 g1 g2 g3 g4 dZ dN pr S V T) [5, 6, 7, 8, 9, 0, 1, 2, 3, 4] (by decide) rfl
  obtain ⟨hw1, hI⟩ := hw1
  refine lv_aload_n hx hb dL_law_268 rfl (lv_at hl 2 rfl) ?_
  refine fd_cI (As := []) (rest := [.int r1]) (wc := wM g0 g1 g2 g3 g4 dZ dN pr S V T) (wr := wD h0 h1 h2 h3 h4 dS pr S V kn1 R1 X1 rk1 lf1 lw1) ⟨hx, hb, hml, hown, hts⟩ (cM_knownSums l dC dI dS dZ dN g0 g1 g2 g3 g4 _ pr S V T hI.1 ) (cwV 0 hts (lw_V q226 q227 q228 q16 q229) rfl rfl rfl (by decide +kernel) ⟨Nat.le_of_ble_eq_true rfl, Nat.le_of_ble_eq_true rfl⟩) (va_recv hK hP (ci := 1) (q0 := 5) rfl rfl) hK hP hD hS hA [5, 6, 7, 8, 9] [0, 1, 2, 3, 4] rfl rfl rfl rfl (by decide) rfl hl.1 rfl (Nat.le_of_ble_eq_true rfl) dL_law_269 ⟨Nat.le_of_ble_eq_true rfl, Nat.le_of_ble_eq_true rfl⟩ (fun r2 u H locs hw2 hP hD hS => ?_)
  obtain ⟨T2, rfl⟩ : ∃ z, z = u := ⟨_, rfl⟩
  have hP : va_P (dC, dI) vwCl (wD h0 h1 h2 h3 h4 dS pr S V kn1 R1 X1 rk1 lf1 lw1 ++ wM g0 g1 g2 g3 g4 dZ dN pr S V T2) H := hP
  have hD : va_D (fun q : Nat => s.heap.size ≤ q) (wD h0 h1 h2 h3 h4 dS pr S V kn1 R1 X1 rk1 lf1 lw1 ++ wM g0 g1 g2 g3 g4 dZ dN pr S V T2) := hD
  refine lv_icmp_eq (tgt := 369) hx hb dL_law_272 (by decide) (fun _ => ?_) (fun h => absurd (hw1.trans hw2.symm) h)
  exact kk _ _ _ ⟨pr, S, V, kn1, R1, X1, rk1, lf1, lw1, T2, hI, hP, hD, hS, hl⟩
set_option maxHeartbeats 4000000 in
set_option maxRecDepth 100000 in
/-- the law's case knownWith -/
theorem law_knownWith {p : Program} {e : Env} {s : State} {m : MethodId} {below : List Frame} {meth : Method} {c : Code} {l : Launch} {b L : Nat} {xs : Nat → Int32} {dC : Nat → ClassId} {dI : Nat → Nat → Nat} {dS dZ dN : ClassId} {h0 h1 h2 h3 h4 g0 g1 g2 g3 g4 i : Nat} {H : Heap} {locs : List Loc} {ls : Array Slot} (C0 : lw_At p s m meth c b L xs) (hK : va_K (dC, dI) vwCl (fd_ty dS dZ dN) s) (hL : L ≤ 192) (hi : i + 3 ≤ L) (hI : law_I s dC dI dS dZ dN h0 h1 h2 h3 h4 g0 g1 g2 g3 g4 b i H locs ls) (kk : ∀ (H : Heap) (locs : List Loc) (ls : Array Slot), law_I s dC dI dS dZ dN h0 h1 h2 h3 h4 g0 g1 g2 g3 g4 b i H locs ls → W p l e room_1 s m #[Value.ref b] below meth c H locs 10 335 (lw_Z below #[Value.ref b] s) (F0 m 369 ls [])) : W p l e room_1 s m #[Value.ref b] below meth c H locs 10 335 (lw_Z below #[Value.ref b] s) (F0 m 277 ls []) := by
  obtain ⟨pr, S, V, kn, R, X, rk, lf, lw, T, hI, hP, hD, hS, hl⟩ := hI
  have hI0 := hI
  obtain ⟨hx, hb, hr, hml, hown, hts0, hX, hbl, hlocks, hgv⟩ := id C0
  have hts : ∀ w ∈ lw_all, w.before #[Value.ref b] s = true := fun w h => hts0 w (lw_all_tbl h)
  have hA : ∀ q : Nat, s.heap.size ≤ q → (fun q : Nat => s.heap.size ≤ q) q := fun _ h => h
  have hbA : ¬ (fun q : Nat => s.heap.size ≤ q) b := Nat.not_le.mpr hbl
  refine lv_aload_n hx hb dL_law_277 rfl (lv_at hl 1 rfl) ?_
  refine lv_aload_n hx hb dL_law_278 rfl (lv_at hl 0 rfl) ?_
  refine lv_iload_n hx hb dL_law_279 rfl (lv_at hl 3 rfl) ?_
  refine lv_iconst (v := nI 1) hx hb dL_law_280 (by decide) ?_
  refine lv_iadd hx hb dL_law_281 ?_
  refine fd_top (y := nI (i + 1)) (nI_add _ _) ?_
  refine fd_sld hx hb hX hbl hbA hS (i := i + 1) (by omega) (by omega) dL_law_282 ?_
  refine fd_cI (As := [.int (xs (i + 1))]) (rest := []) (wc := wD h0 h1 h2 h3 h4 dS pr S V kn R X rk lf lw) (wr := wM g0 g1 g2 g3 g4 dZ dN pr S V T) ⟨hx, hb, hml, hown, hts⟩ (cD_knownWith l dC dI dS dZ dN h0 h1 h2 h3 h4 _ pr S V kn R X rk lf lw hI (xs (i + 1))) (cwV 1 hts (lw_V q132 q133 q134 q15 q135) rfl rfl rfl (by decide +kernel) ⟨Nat.le_of_ble_eq_true rfl, Nat.le_of_ble_eq_true rfl⟩) (va_recv hK hP (ci := 0) (q0 := 0) rfl rfl) hK hP hD hS hA [0, 1, 2, 3, 4] [5, 6, 7, 8, 9] rfl rfl rfl rfl (by decide) rfl hl.1 rfl (Nat.le_of_ble_eq_true rfl) dL_law_283 ⟨Nat.le_of_ble_eq_true rfl, Nat.le_of_ble_eq_true rfl⟩ (fun r1 u H locs hw1 hP hD hS => ?_)
  obtain ⟨kn1, R1, X1, rk1, lf1, lw1⟩ := u
  try dsimp only at hw1
  have hP := hP.sub (ws' := wD h0 h1 h2 h3 h4 dS pr S V kn1 R1 X1 rk1 lf1 lw1 ++ wM g0 g1 g2 g3 g4 dZ dN pr S V T) [5, 6, 7, 8, 9, 0, 1, 2, 3, 4] rfl
  have hD := hD.sub (ws' := wD h0 h1 h2 h3 h4 dS pr S V kn1 R1 X1 rk1 lf1 lw1 ++ wM g0 g1 g2 g3 g4 dZ dN pr S V T) [5, 6, 7, 8, 9, 0, 1, 2, 3, 4] (by decide) rfl
  obtain ⟨hw1, hI⟩ := hw1
  refine lv_aload_n hx hb dL_law_286 rfl (lv_at hl 2 rfl) ?_
  refine lv_aload_n hx hb dL_law_287 rfl (lv_at hl 0 rfl) ?_
  refine lv_iload_n hx hb dL_law_288 rfl (lv_at hl 3 rfl) ?_
  refine lv_iconst (v := nI 1) hx hb dL_law_289 (by decide) ?_
  refine lv_iadd hx hb dL_law_290 ?_
  refine fd_top (y := nI (i + 1)) (nI_add _ _) ?_
  refine fd_sld hx hb hX hbl hbA hS (i := i + 1) (by omega) (by omega) dL_law_291 ?_
  refine fd_cI (As := [.int (xs (i + 1))]) (rest := [.int r1]) (wc := wM g0 g1 g2 g3 g4 dZ dN pr S V T) (wr := wD h0 h1 h2 h3 h4 dS pr S V kn1 R1 X1 rk1 lf1 lw1) ⟨hx, hb, hml, hown, hts⟩ (cM_knownWith l dC dI dS dZ dN g0 g1 g2 g3 g4 _ pr S V T hI.1 (xs (i + 1))) (cwV 1 hts (lw_V q230 q231 q232 q16 q233) rfl rfl rfl (by decide +kernel) ⟨Nat.le_of_ble_eq_true rfl, Nat.le_of_ble_eq_true rfl⟩) (va_recv hK hP (ci := 1) (q0 := 5) rfl rfl) hK hP hD hS hA [5, 6, 7, 8, 9] [0, 1, 2, 3, 4] rfl rfl rfl rfl (by decide) rfl hl.1 rfl (Nat.le_of_ble_eq_true rfl) dL_law_292 ⟨Nat.le_of_ble_eq_true rfl, Nat.le_of_ble_eq_true rfl⟩ (fun r2 u H locs hw2 hP hD hS => ?_)
  obtain ⟨T2, rfl⟩ : ∃ z, z = u := ⟨_, rfl⟩
  have hP : va_P (dC, dI) vwCl (wD h0 h1 h2 h3 h4 dS pr S V kn1 R1 X1 rk1 lf1 lw1 ++ wM g0 g1 g2 g3 g4 dZ dN pr S V T2) H := hP
  have hD : va_D (fun q : Nat => s.heap.size ≤ q) (wD h0 h1 h2 h3 h4 dS pr S V kn1 R1 X1 rk1 lf1 lw1 ++ wM g0 g1 g2 g3 g4 dZ dN pr S V T2) := hD
  refine lv_icmp_eq (tgt := 369) hx hb dL_law_295 (by decide) (fun _ => ?_) (fun h => absurd (hw1.trans hw2.symm) h)
  exact kk _ _ _ ⟨pr, S, V, kn1, R1, X1, rk1, lf1, lw1, T2, hI, hP, hD, hS, hl⟩
set_option maxHeartbeats 4000000 in
set_option maxRecDepth 100000 in
/-- the law's case bestSet -/
theorem law_bestSet {p : Program} {e : Env} {s : State} {m : MethodId} {below : List Frame} {meth : Method} {c : Code} {l : Launch} {b L : Nat} {xs : Nat → Int32} {dC : Nat → ClassId} {dI : Nat → Nat → Nat} {dS dZ dN : ClassId} {h0 h1 h2 h3 h4 g0 g1 g2 g3 g4 i : Nat} {H : Heap} {locs : List Loc} {ls : Array Slot} (C0 : lw_At p s m meth c b L xs) (hK : va_K (dC, dI) vwCl (fd_ty dS dZ dN) s) (hL : L ≤ 192) (hi : i + 3 ≤ L) (hI : law_I s dC dI dS dZ dN h0 h1 h2 h3 h4 g0 g1 g2 g3 g4 b i H locs ls) (kk : ∀ (H : Heap) (locs : List Loc) (ls : Array Slot), law_I s dC dI dS dZ dN h0 h1 h2 h3 h4 g0 g1 g2 g3 g4 b i H locs ls → W p l e room_1 s m #[Value.ref b] below meth c H locs 10 335 (lw_Z below #[Value.ref b] s) (F0 m 369 ls [])) : W p l e room_1 s m #[Value.ref b] below meth c H locs 10 335 (lw_Z below #[Value.ref b] s) (F0 m 300 ls []) := by
  obtain ⟨pr, S, V, kn, R, X, rk, lf, lw, T, hI, hP, hD, hS, hl⟩ := hI
  have hI0 := hI
  obtain ⟨hx, hb, hr, hml, hown, hts0, hX, hbl, hlocks, hgv⟩ := id C0
  have hts : ∀ w ∈ lw_all, w.before #[Value.ref b] s = true := fun w h => hts0 w (lw_all_tbl h)
  have hA : ∀ q : Nat, s.heap.size ≤ q → (fun q : Nat => s.heap.size ≤ q) q := fun _ h => h
  have hbA : ¬ (fun q : Nat => s.heap.size ≤ q) b := Nat.not_le.mpr hbl
  refine lv_aload_n hx hb dL_law_300 rfl (lv_at hl 1 rfl) ?_
  refine fd_cI (As := []) (rest := []) (wc := wD h0 h1 h2 h3 h4 dS pr S V kn R X rk lf lw) (wr := wM g0 g1 g2 g3 g4 dZ dN pr S V T) ⟨hx, hb, hml, hown, hts⟩ (cD_bestSet l dC dI dS dZ dN h0 h1 h2 h3 h4 _ pr S V kn R X rk lf lw hI ) (cwV 0 hts (lw_V q143 q144 q145 q15 q146) rfl rfl rfl (by decide +kernel) ⟨Nat.le_of_ble_eq_true rfl, Nat.le_of_ble_eq_true rfl⟩) (va_recv hK hP (ci := 0) (q0 := 0) rfl rfl) hK hP hD hS hA [0, 1, 2, 3, 4] [5, 6, 7, 8, 9] rfl rfl rfl rfl (by decide) rfl hl.1 rfl (Nat.le_of_ble_eq_true rfl) dL_law_301 ⟨Nat.le_of_ble_eq_true rfl, Nat.le_of_ble_eq_true rfl⟩ (fun r1 u H locs hw1 hP hD hS => ?_)
  obtain ⟨kn1, R1, X1, rk1, lf1, lw1⟩ := u
  try dsimp only at hw1
  have hP := hP.sub (ws' := wD h0 h1 h2 h3 h4 dS pr S V kn1 R1 X1 rk1 lf1 lw1 ++ wM g0 g1 g2 g3 g4 dZ dN pr S V T) [5, 6, 7, 8, 9, 0, 1, 2, 3, 4] rfl
  have hD := hD.sub (ws' := wD h0 h1 h2 h3 h4 dS pr S V kn1 R1 X1 rk1 lf1 lw1 ++ wM g0 g1 g2 g3 g4 dZ dN pr S V T) [5, 6, 7, 8, 9, 0, 1, 2, 3, 4] (by decide) rfl
  obtain ⟨hw1, hI⟩ := hw1
  refine lv_aload_n hx hb dL_law_304 rfl (lv_at hl 2 rfl) ?_
  refine fd_cI (As := []) (rest := [.int r1]) (wc := wM g0 g1 g2 g3 g4 dZ dN pr S V T) (wr := wD h0 h1 h2 h3 h4 dS pr S V kn1 R1 X1 rk1 lf1 lw1) ⟨hx, hb, hml, hown, hts⟩ (cM_bestSet l dC dI dS dZ dN g0 g1 g2 g3 g4 _ pr S V T hI.1 ) (cwV 0 hts (lw_V q238 q239 q240 q16 q241) rfl rfl rfl (by decide +kernel) ⟨Nat.le_of_ble_eq_true rfl, Nat.le_of_ble_eq_true rfl⟩) (va_recv hK hP (ci := 1) (q0 := 5) rfl rfl) hK hP hD hS hA [5, 6, 7, 8, 9] [0, 1, 2, 3, 4] rfl rfl rfl rfl (by decide) rfl hl.1 rfl (Nat.le_of_ble_eq_true rfl) dL_law_305 ⟨Nat.le_of_ble_eq_true rfl, Nat.le_of_ble_eq_true rfl⟩ (fun r2 u H locs hw2 hP hD hS => ?_)
  obtain ⟨T2, rfl⟩ : ∃ z, z = u := ⟨_, rfl⟩
  have hP : va_P (dC, dI) vwCl (wD h0 h1 h2 h3 h4 dS pr S V kn1 R1 X1 rk1 lf1 lw1 ++ wM g0 g1 g2 g3 g4 dZ dN pr S V T2) H := hP
  have hD : va_D (fun q : Nat => s.heap.size ≤ q) (wD h0 h1 h2 h3 h4 dS pr S V kn1 R1 X1 rk1 lf1 lw1 ++ wM g0 g1 g2 g3 g4 dZ dN pr S V T2) := hD
  refine lv_icmp_eq (tgt := 369) hx hb dL_law_308 (by decide) (fun _ => ?_) (fun h => absurd (hw1.trans hw2.symm) h)
  exact kk _ _ _ ⟨pr, S, V, kn1, R1, X1, rk1, lf1, lw1, T2, hI, hP, hD, hS, hl⟩
set_option maxHeartbeats 4000000 in
set_option maxRecDepth 100000 in
/-- the law's case possible -/
theorem law_possible {p : Program} {e : Env} {s : State} {m : MethodId} {below : List Frame} {meth : Method} {c : Code} {l : Launch} {b L : Nat} {xs : Nat → Int32} {dC : Nat → ClassId} {dI : Nat → Nat → Nat} {dS dZ dN : ClassId} {h0 h1 h2 h3 h4 g0 g1 g2 g3 g4 i : Nat} {H : Heap} {locs : List Loc} {ls : Array Slot} (C0 : lw_At p s m meth c b L xs) (hK : va_K (dC, dI) vwCl (fd_ty dS dZ dN) s) (hL : L ≤ 192) (hi : i + 3 ≤ L) (hI : law_I s dC dI dS dZ dN h0 h1 h2 h3 h4 g0 g1 g2 g3 g4 b i H locs ls) (kk : ∀ (H : Heap) (locs : List Loc) (ls : Array Slot), law_I s dC dI dS dZ dN h0 h1 h2 h3 h4 g0 g1 g2 g3 g4 b i H locs ls → W p l e room_1 s m #[Value.ref b] below meth c H locs 10 335 (lw_Z below #[Value.ref b] s) (F0 m 369 ls [])) : W p l e room_1 s m #[Value.ref b] below meth c H locs 10 335 (lw_Z below #[Value.ref b] s) (F0 m 313 ls []) := by
  obtain ⟨pr, S, V, kn, R, X, rk, lf, lw, T, hI, hP, hD, hS, hl⟩ := hI
  have hI0 := hI
  obtain ⟨hx, hb, hr, hml, hown, hts0, hX, hbl, hlocks, hgv⟩ := id C0
  have hts : ∀ w ∈ lw_all, w.before #[Value.ref b] s = true := fun w h => hts0 w (lw_all_tbl h)
  have hA : ∀ q : Nat, s.heap.size ≤ q → (fun q : Nat => s.heap.size ≤ q) q := fun _ h => h
  have hbA : ¬ (fun q : Nat => s.heap.size ≤ q) b := Nat.not_le.mpr hbl
  refine lv_aload_n hx hb dL_law_313 rfl (lv_at hl 1 rfl) ?_
  refine lv_aload_n hx hb dL_law_314 rfl (lv_at hl 0 rfl) ?_
  refine lv_iload_n hx hb dL_law_315 rfl (lv_at hl 3 rfl) ?_
  refine lv_iconst (v := nI 1) hx hb dL_law_316 (by decide) ?_
  refine lv_iadd hx hb dL_law_317 ?_
  refine fd_top (y := nI (i + 1)) (nI_add _ _) ?_
  refine fd_sld hx hb hX hbl hbA hS (i := i + 1) (by omega) (by omega) dL_law_318 ?_
  refine lv_aload_n hx hb dL_law_319 rfl (lv_at hl 0 rfl) ?_
  refine lv_iload_n hx hb dL_law_320 rfl (lv_at hl 3 rfl) ?_
  refine lv_iconst (v := nI 2) hx hb dL_law_321 (by decide) ?_
  refine lv_iadd hx hb dL_law_322 ?_
  refine fd_top (y := nI (i + 2)) (nI_add _ _) ?_
  refine fd_sld hx hb hX hbl hbA hS (i := i + 2) (by omega) (by omega) dL_law_323 ?_
  refine fd_cI (As := [.int (xs (i + 1)), .int (xs (i + 2))]) (rest := []) (wc := wD h0 h1 h2 h3 h4 dS pr S V kn R X rk lf lw) (wr := wM g0 g1 g2 g3 g4 dZ dN pr S V T) ⟨hx, hb, hml, hown, hts⟩ (cD_possible l dC dI dS dZ dN h0 h1 h2 h3 h4 _ pr S V kn R X rk lf lw hI (xs (i + 1)) (xs (i + 2))) (cwV 2 hts (lw_V q147 q148 q149 q15 q150) rfl rfl rfl (by decide +kernel) ⟨Nat.le_of_ble_eq_true rfl, Nat.le_of_ble_eq_true rfl⟩) (va_recv hK hP (ci := 0) (q0 := 0) rfl rfl) hK hP hD hS hA [0, 1, 2, 3, 4] [5, 6, 7, 8, 9] rfl rfl rfl rfl (by decide) rfl hl.1 rfl (Nat.le_of_ble_eq_true rfl) dL_law_324 ⟨Nat.le_of_ble_eq_true rfl, Nat.le_of_ble_eq_true rfl⟩ (fun r1 u H locs hw1 hP hD hS => ?_)
  obtain ⟨kn1, R1, X1, rk1, lf1, lw1⟩ := u
  try dsimp only at hw1
  have hP := hP.sub (ws' := wD h0 h1 h2 h3 h4 dS pr S V kn1 R1 X1 rk1 lf1 lw1 ++ wM g0 g1 g2 g3 g4 dZ dN pr S V T) [5, 6, 7, 8, 9, 0, 1, 2, 3, 4] rfl
  have hD := hD.sub (ws' := wD h0 h1 h2 h3 h4 dS pr S V kn1 R1 X1 rk1 lf1 lw1 ++ wM g0 g1 g2 g3 g4 dZ dN pr S V T) [5, 6, 7, 8, 9, 0, 1, 2, 3, 4] (by decide) rfl
  obtain ⟨hw1, hI⟩ := hw1
  refine lv_aload_n hx hb dL_law_327 rfl (lv_at hl 2 rfl) ?_
  refine lv_aload_n hx hb dL_law_328 rfl (lv_at hl 0 rfl) ?_
  refine lv_iload_n hx hb dL_law_329 rfl (lv_at hl 3 rfl) ?_
  refine lv_iconst (v := nI 1) hx hb dL_law_330 (by decide) ?_
  refine lv_iadd hx hb dL_law_331 ?_
  refine fd_top (y := nI (i + 1)) (nI_add _ _) ?_
  refine fd_sld hx hb hX hbl hbA hS (i := i + 1) (by omega) (by omega) dL_law_332 ?_
  refine lv_aload_n hx hb dL_law_333 rfl (lv_at hl 0 rfl) ?_
  refine lv_iload_n hx hb dL_law_334 rfl (lv_at hl 3 rfl) ?_
  refine lv_iconst (v := nI 2) hx hb dL_law_335 (by decide) ?_
  refine lv_iadd hx hb dL_law_336 ?_
  refine fd_top (y := nI (i + 2)) (nI_add _ _) ?_
  refine fd_sld hx hb hX hbl hbA hS (i := i + 2) (by omega) (by omega) dL_law_337 ?_
  refine fd_cI (As := [.int (xs (i + 1)), .int (xs (i + 2))]) (rest := [.int r1]) (wc := wM g0 g1 g2 g3 g4 dZ dN pr S V T) (wr := wD h0 h1 h2 h3 h4 dS pr S V kn1 R1 X1 rk1 lf1 lw1) ⟨hx, hb, hml, hown, hts⟩ (cM_possible l dC dI dS dZ dN g0 g1 g2 g3 g4 _ pr S V T hI.1 (xs (i + 1)) (xs (i + 2))) (cwV 2 hts (lw_V q242 q243 q244 q16 q245) rfl rfl rfl (by decide +kernel) ⟨Nat.le_of_ble_eq_true rfl, Nat.le_of_ble_eq_true rfl⟩) (va_recv hK hP (ci := 1) (q0 := 5) rfl rfl) hK hP hD hS hA [5, 6, 7, 8, 9] [0, 1, 2, 3, 4] rfl rfl rfl rfl (by decide) rfl hl.1 rfl (Nat.le_of_ble_eq_true rfl) dL_law_338 ⟨Nat.le_of_ble_eq_true rfl, Nat.le_of_ble_eq_true rfl⟩ (fun r2 u H locs hw2 hP hD hS => ?_)
  obtain ⟨T2, rfl⟩ : ∃ z, z = u := ⟨_, rfl⟩
  have hP : va_P (dC, dI) vwCl (wD h0 h1 h2 h3 h4 dS pr S V kn1 R1 X1 rk1 lf1 lw1 ++ wM g0 g1 g2 g3 g4 dZ dN pr S V T2) H := hP
  have hD : va_D (fun q : Nat => s.heap.size ≤ q) (wD h0 h1 h2 h3 h4 dS pr S V kn1 R1 X1 rk1 lf1 lw1 ++ wM g0 g1 g2 g3 g4 dZ dN pr S V T2) := hD
  refine lv_icmp_eq (tgt := 369) hx hb dL_law_341 (by decide) (fun _ => ?_) (fun h => absurd (hw1.trans hw2.symm) h)
  exact kk _ _ _ ⟨pr, S, V, kn1, R1, X1, rk1, lf1, lw1, T2, hI, hP, hD, hS, hl⟩
set_option maxHeartbeats 4000000 in
set_option maxRecDepth 100000 in
/-- the law's case enough -/
theorem law_enough {p : Program} {e : Env} {s : State} {m : MethodId} {below : List Frame} {meth : Method} {c : Code} {l : Launch} {b L : Nat} {xs : Nat → Int32} {dC : Nat → ClassId} {dI : Nat → Nat → Nat} {dS dZ dN : ClassId} {h0 h1 h2 h3 h4 g0 g1 g2 g3 g4 i : Nat} {H : Heap} {locs : List Loc} {ls : Array Slot} (C0 : lw_At p s m meth c b L xs) (hK : va_K (dC, dI) vwCl (fd_ty dS dZ dN) s) (hL : L ≤ 192) (hi : i + 3 ≤ L) (hI : law_I s dC dI dS dZ dN h0 h1 h2 h3 h4 g0 g1 g2 g3 g4 b i H locs ls) (kk : ∀ (H : Heap) (locs : List Loc) (ls : Array Slot), law_I s dC dI dS dZ dN h0 h1 h2 h3 h4 g0 g1 g2 g3 g4 b i H locs ls → W p l e room_1 s m #[Value.ref b] below meth c H locs 10 335 (lw_Z below #[Value.ref b] s) (F0 m 369 ls [])) : W p l e room_1 s m #[Value.ref b] below meth c H locs 10 335 (lw_Z below #[Value.ref b] s) (F0 m 346 ls []) := by
  obtain ⟨pr, S, V, kn, R, X, rk, lf, lw, T, hI, hP, hD, hS, hl⟩ := hI
  have hI0 := hI
  obtain ⟨hx, hb, hr, hml, hown, hts0, hX, hbl, hlocks, hgv⟩ := id C0
  have hts : ∀ w ∈ lw_all, w.before #[Value.ref b] s = true := fun w h => hts0 w (lw_all_tbl h)
  have hA : ∀ q : Nat, s.heap.size ≤ q → (fun q : Nat => s.heap.size ≤ q) q := fun _ h => h
  have hbA : ¬ (fun q : Nat => s.heap.size ≤ q) b := Nat.not_le.mpr hbl
  refine lv_aload_n hx hb dL_law_346 rfl (lv_at hl 1 rfl) ?_
  refine lv_aload_n hx hb dL_law_347 rfl (lv_at hl 0 rfl) ?_
  refine lv_iload_n hx hb dL_law_348 rfl (lv_at hl 3 rfl) ?_
  refine lv_iconst (v := nI 1) hx hb dL_law_349 (by decide) ?_
  refine lv_iadd hx hb dL_law_350 ?_
  refine fd_top (y := nI (i + 1)) (nI_add _ _) ?_
  refine fd_sld hx hb hX hbl hbA hS (i := i + 1) (by omega) (by omega) dL_law_351 ?_
  refine fd_cI (As := [.int (xs (i + 1))]) (rest := []) (wc := wD h0 h1 h2 h3 h4 dS pr S V kn R X rk lf lw) (wr := wM g0 g1 g2 g3 g4 dZ dN pr S V T) ⟨hx, hb, hml, hown, hts⟩ (cD_enough l dC dI dS dZ dN h0 h1 h2 h3 h4 _ pr S V kn R X rk lf lw hI (xs (i + 1))) (cwV 1 hts (lw_V q152 q121 q122 q15 q123) rfl rfl rfl (by decide +kernel) ⟨Nat.le_of_ble_eq_true rfl, Nat.le_of_ble_eq_true rfl⟩) (va_recv hK hP (ci := 0) (q0 := 0) rfl rfl) hK hP hD hS hA [0, 1, 2, 3, 4] [5, 6, 7, 8, 9] rfl rfl rfl rfl (by decide) rfl hl.1 rfl (Nat.le_of_ble_eq_true rfl) dL_law_352 ⟨Nat.le_of_ble_eq_true rfl, Nat.le_of_ble_eq_true rfl⟩ (fun r1 u H locs hw1 hP hD hS => ?_)
  obtain ⟨kn1, R1, X1, rk1, lf1, lw1⟩ := u
  try dsimp only at hw1
  have hP := hP.sub (ws' := wD h0 h1 h2 h3 h4 dS pr S V kn1 R1 X1 rk1 lf1 lw1 ++ wM g0 g1 g2 g3 g4 dZ dN pr S V T) [5, 6, 7, 8, 9, 0, 1, 2, 3, 4] rfl
  have hD := hD.sub (ws' := wD h0 h1 h2 h3 h4 dS pr S V kn1 R1 X1 rk1 lf1 lw1 ++ wM g0 g1 g2 g3 g4 dZ dN pr S V T) [5, 6, 7, 8, 9, 0, 1, 2, 3, 4] (by decide) rfl
  obtain ⟨hw1, hI⟩ := hw1
  refine lv_aload_n hx hb dL_law_355 rfl (lv_at hl 2 rfl) ?_
  refine lv_aload_n hx hb dL_law_356 rfl (lv_at hl 0 rfl) ?_
  refine lv_iload_n hx hb dL_law_357 rfl (lv_at hl 3 rfl) ?_
  refine lv_iconst (v := nI 1) hx hb dL_law_358 (by decide) ?_
  refine lv_iadd hx hb dL_law_359 ?_
  refine fd_top (y := nI (i + 1)) (nI_add _ _) ?_
  refine fd_sld hx hb hX hbl hbA hS (i := i + 1) (by omega) (by omega) dL_law_360 ?_
  refine fd_cI (As := [.int (xs (i + 1))]) (rest := [.int r1]) (wc := wM g0 g1 g2 g3 g4 dZ dN pr S V T) (wr := wD h0 h1 h2 h3 h4 dS pr S V kn1 R1 X1 rk1 lf1 lw1) ⟨hx, hb, hml, hown, hts⟩ (cM_enough l dC dI dS dZ dN g0 g1 g2 g3 g4 _ pr S V T hI.1 (xs (i + 1))) (cwV 1 hts (lw_V q247 q223 q224 q16 q225) rfl rfl rfl (by decide +kernel) ⟨Nat.le_of_ble_eq_true rfl, Nat.le_of_ble_eq_true rfl⟩) (va_recv hK hP (ci := 1) (q0 := 5) rfl rfl) hK hP hD hS hA [5, 6, 7, 8, 9] [0, 1, 2, 3, 4] rfl rfl rfl rfl (by decide) rfl hl.1 rfl (Nat.le_of_ble_eq_true rfl) dL_law_361 ⟨Nat.le_of_ble_eq_true rfl, Nat.le_of_ble_eq_true rfl⟩ (fun r2 u H locs hw2 hP hD hS => ?_)
  obtain ⟨T2, rfl⟩ : ∃ z, z = u := ⟨_, rfl⟩
  have hP : va_P (dC, dI) vwCl (wD h0 h1 h2 h3 h4 dS pr S V kn1 R1 X1 rk1 lf1 lw1 ++ wM g0 g1 g2 g3 g4 dZ dN pr S V T2) H := hP
  have hD : va_D (fun q : Nat => s.heap.size ≤ q) (wD h0 h1 h2 h3 h4 dS pr S V kn1 R1 X1 rk1 lf1 lw1 ++ wM g0 g1 g2 g3 g4 dZ dN pr S V T2) := hD
  refine lv_icmp_eq (tgt := 369) hx hb dL_law_364 (by decide) (fun _ => ?_) (fun h => absurd (hw1.trans hw2.symm) h)
  exact kk _ _ _ ⟨pr, S, V, kn1, R1, X1, rk1, lf1, lw1, T2, hI, hP, hD, hS, hl⟩
end
section
set_option maxHeartbeats 4000000 in
set_option maxRecDepth 100000 in
/-- the law's loop, from its head -/
theorem law_loop {p : Program} {e : Env} {s : State} {m : MethodId} {below : List Frame} {meth : Method} {c : Code} {l : Launch} {b L : Nat} {xs : Nat → Int32} {dC : Nat → ClassId} {dI : Nat → Nat → Nat} {dS dZ dN : ClassId} {h0 h1 h2 h3 h4 g0 g1 g2 g3 g4 i : Nat} {H : Heap} {locs : List Loc} {ls : Array Slot} (C0 : lw_At p s m meth c b L xs) (hK : va_K (dC, dI) vwCl (fd_ty dS dZ dN) s) (hL : L ≤ 192) (hiL : i ≤ L + 3) (hI : law_I s dC dI dS dZ dN h0 h1 h2 h3 h4 g0 g1 g2 g3 g4 b i H locs ls) : W p l e room_1 s m #[Value.ref b] below meth c H locs 10 335 (lw_Z below #[Value.ref b] s) (F0 m 18 ls []) := by
  obtain ⟨hx, hb, hr, hml, hown, hts0, hX, hbl, hlocks, hgv⟩ := id C0
  have hts : ∀ w ∈ lw_all, w.before #[Value.ref b] s = true := fun w h => hts0 w (lw_all_tbl h)
  have hA : ∀ q : Nat, s.heap.size ≤ q → (fun q : Nat => s.heap.size ≤ q) q := fun _ h => h
  have hbA : ¬ (fun q : Nat => s.heap.size ≤ q) b := Nat.not_le.mpr hbl
  refine fd_loop (fun n H locs ls => ∃ j : Nat, n = L + 3 - j ∧ j ≤ L + 3 ∧ law_I s dC dI dS dZ dN h0 h1 h2 h3 h4 g0 g1 g2 g3 g4 b j H locs ls) _ ⟨i, rfl, hiL, hI⟩ ?_
  rintro n H locs ls ⟨i, hms, hiL, hI⟩ ih
  have hI2 := hI
  obtain ⟨pr, S, V, kn, R, X, rk, lf, lw, T, hdk, hP, hD, hS, hl⟩ := hI2
  refine lv_iload_n hx hb dL_law_18 rfl (lv_at hl 3 rfl) ?_
  refine lv_aload_n hx hb dL_law_19 rfl (lv_at hl 0 rfl) ?_
  refine va_slen hx hb hX hbl hbA hS dL_law_20 ?_
  refine lv_iconst (v := nI 3) hx hb dL_law_21 (by decide) ?_
  refine lv_isub hx hb dL_law_22 ?_
  refine lv_icmp_gt (tgt := 375) hx hb dL_law_23 (by decide) (fun c_23 => ?_) (fun (c_23 : ¬ (nI L - nI 3) < nI i) => ?_)
  · refine lv_iconst (v := 1) hx hb dL_law_375 (by decide) ?_
    refine va_forget (fun q hq => hS.2.2 q hq) ?_
    refine W.widen (k := 600000) (n := 7290000) (Nat.le_of_ble_eq_true rfl) (Nat.le_of_ble_eq_true rfl) ?_
    exact lw_ret hx hb hr hlocks dL_law_376
  have hi := law_idx (by omega) (by omega) c_23
  have fin : ∀ (H : Heap) (locs : List Loc) (ls : Array Slot), law_I s dC dI dS dZ dN h0 h1 h2 h3 h4 g0 g1 g2 g3 g4 b i H locs ls → W p l e room_1 s m #[Value.ref b] below meth c H locs 10 335 (lw_Z below #[Value.ref b] s) (F0 m 369 ls []) := by
    rintro H locs ls ⟨pr, S, V, kn, R, X, rk, lf, lw, T, hdk, hP, hD, hS, hl⟩
    refine lv_iinc (v := nI (i + 3)) (lv' := [(3, .int (nI (i + 3))), (0, .ref b), (1, .ref h0), (2, .ref g0)]) hx hb dL_law_369 hl (k := 3) rfl (nI_add i 3) (by decide) rfl (fun ls hl => ?_)
    refine lv_goto (tgt := 18) hx hb dL_law_372 (by decide) ?_
    exact ih _ _ _ _ (by omega) ⟨i + 3, rfl, by omega, pr, S, V, kn, R, X, rk, lf, lw, T, hdk, hP, hD, hS, lv_sub hl [1, 2, 3, 0] rfl⟩
  refine lv_aload_n hx hb dL_law_26 rfl (lv_at hl 0 rfl) ?_
  refine lv_iload_n hx hb dL_law_27 rfl (lv_at hl 3 rfl) ?_
  refine fd_sld hx hb hX hbl hbA hS (i := i) (by omega) (by omega) dL_law_28 ?_
  refine lv_bipush (v := nI 15) hx hb dL_law_29 (by decide) ?_
  refine lv_iand hx hb dL_law_31 ?_
  obtain ⟨j, hj, ej⟩ := pk_andE (xs i) (m := nI 15) 4 (by decide)
  refine fd_top (y := nI j) ej ?_
  clear ej
  rcases (show j = 0 ∨ j = 1 ∨ j = 2 ∨ j = 3 ∨ j = 4 ∨ j = 5 ∨ j = 6 ∨ j = 7 ∨ j = 8 ∨ j = 9 ∨ j = 10 ∨ j = 11 ∨ j = 12 ∨ 13 ≤ j by omega) with rfl | rfl | rfl | rfl | rfl | rfl | rfl | rfl | rfl | rfl | rfl | rfl | rfl | h13
  · refine lv_tableIn (off := 68) (tgt := 100) hx hb dL_law_32 (by decide) (by decide) (by decide) (by decide) ?_
    exact law_take C0 hK hL hi ⟨pr, S, V, kn, R, X, rk, lf, lw, T, hdk, hP, hD, hS, hl⟩ fin
  · refine lv_tableIn (off := 101) (tgt := 133) hx hb dL_law_32 (by decide) (by decide) (by decide) (by decide) ?_
    exact law_drop C0 hK hL hi ⟨pr, S, V, kn, R, X, rk, lf, lw, T, hdk, hP, hD, hS, hl⟩ fin
  · refine lv_tableIn (off := 124) (tgt := 156) hx hb dL_law_32 (by decide) (by decide) (by decide) (by decide) ?_
    exact law_drops C0 hK hL hi ⟨pr, S, V, kn, R, X, rk, lf, lw, T, hdk, hP, hD, hS, hl⟩ fin
  · refine lv_tableIn (off := 137) (tgt := 169) hx hb dL_law_32 (by decide) (by decide) (by decide) (by decide) ?_
    exact law_known C0 hK hL hi ⟨pr, S, V, kn, R, X, rk, lf, lw, T, hdk, hP, hD, hS, hl⟩ fin
  · refine lv_tableIn (off := 150) (tgt := 182) hx hb dL_law_32 (by decide) (by decide) (by decide) (by decide) ?_
    exact law_piece C0 hK hL hi ⟨pr, S, V, kn, R, X, rk, lf, lw, T, hdk, hP, hD, hS, hl⟩ fin
  · refine lv_tableIn (off := 173) (tgt := 205) hx hb dL_law_32 (by decide) (by decide) (by decide) (by decide) ?_
    exact law_sum C0 hK hL hi ⟨pr, S, V, kn, R, X, rk, lf, lw, T, hdk, hP, hD, hS, hl⟩ fin
  · refine lv_tableIn (off := 196) (tgt := 228) hx hb dL_law_32 (by decide) (by decide) (by decide) (by decide) ?_
    exact law_missing C0 hK hL hi ⟨pr, S, V, kn, R, X, rk, lf, lw, T, hdk, hP, hD, hS, hl⟩ fin
  · refine lv_tableIn (off := 209) (tgt := 241) hx hb dL_law_32 (by decide) (by decide) (by decide) (by decide) ?_
    exact law_idle C0 hK hL hi ⟨pr, S, V, kn, R, X, rk, lf, lw, T, hdk, hP, hD, hS, hl⟩ fin
  · refine lv_tableIn (off := 232) (tgt := 264) hx hb dL_law_32 (by decide) (by decide) (by decide) (by decide) ?_
    exact law_knownSums C0 hK hL hi ⟨pr, S, V, kn, R, X, rk, lf, lw, T, hdk, hP, hD, hS, hl⟩ fin
  · refine lv_tableIn (off := 245) (tgt := 277) hx hb dL_law_32 (by decide) (by decide) (by decide) (by decide) ?_
    exact law_knownWith C0 hK hL hi ⟨pr, S, V, kn, R, X, rk, lf, lw, T, hdk, hP, hD, hS, hl⟩ fin
  · refine lv_tableIn (off := 268) (tgt := 300) hx hb dL_law_32 (by decide) (by decide) (by decide) (by decide) ?_
    exact law_bestSet C0 hK hL hi ⟨pr, S, V, kn, R, X, rk, lf, lw, T, hdk, hP, hD, hS, hl⟩ fin
  · refine lv_tableIn (off := 281) (tgt := 313) hx hb dL_law_32 (by decide) (by decide) (by decide) (by decide) ?_
    exact law_possible C0 hK hL hi ⟨pr, S, V, kn, R, X, rk, lf, lw, T, hdk, hP, hD, hS, hl⟩ fin
  · refine lv_tableIn (off := 314) (tgt := 346) hx hb dL_law_32 (by decide) (by decide) (by decide) (by decide) ?_
    exact law_enough C0 hK hL hi ⟨pr, S, V, kn, R, X, rk, lf, lw, T, hdk, hP, hD, hS, hl⟩ fin
  · refine lv_tableOut (tgt := 369) hx hb dL_law_32 (Or.inr (by rw [nI_toInt (by omega)]; omega)) (by decide) ?_
    exact fin _ _ _ ⟨pr, S, V, kn, R, X, rk, lf, lw, T, hdk, hP, hD, hS, hl⟩
set_option maxHeartbeats 4000000 in
set_option maxRecDepth 100000 in
/-- THE LAW, from its entry -/
theorem whole_start {p : Program} {e : Env} {s : State} {m : MethodId} {below : List Frame} {meth : Method} {c : Code} (l : Launch) {b L : Nat} {xs : Nat → Int32} (hL : L ≤ 192) (C0 : lw_At p s m meth c b L xs) : W p l e room_1 s m #[Value.ref b] below meth c s.heap [] 0 0 (lw_Z below #[Value.ref b] s) (entryFrame m ([Value.ref b] : List Value).toArray 4) := by
  obtain ⟨hx, hb, hr, hml, hown, hts0, hX, hbl, hlocks, hgv⟩ := id C0
  have hts : ∀ w ∈ lw_all, w.before #[Value.ref b] s = true := fun w h => hts0 w (lw_all_tbl h)
  have hA : ∀ q : Nat, s.heap.size ≤ q → (fun q : Nat => s.heap.size ≤ q) q := fun _ h => h
  have hbA : ¬ (fun q : Nat => s.heap.size ≤ q) b := Nat.not_le.mpr hbl
  obtain ⟨c0, iS0, hKn0⟩ := u_known (C := RX0) (T := TX0) (N := 9) (n := 9) hts0 (fun w h => lw_all_tbl (in_X0 w h)) (hts _ q18)
  obtain ⟨c1, iS1, hKn1⟩ := u_known (C := RX1) (T := TX1) (N := 4) (n := 4) hts0 (fun w h => lw_all_tbl (in_X1 w h)) (hts _ q154)
  obtain ⟨dC, dI, hKc⟩ : ∃ (dC : Nat → ClassId) (dI : Nat → Nat → Nat), ∀ (k : Nat) (q : vw_C), vwCl[k]? = some q → u_Kn s q.1 q.2.1 q.2.2 (dC k) (dI k) := by
    refine ⟨fun k => if k = 0 then c0 else c1, fun k => if k = 0 then iS0 else iS1, ?_⟩
    intro k q hq
    match k, hq with
    | 0, hq => cases hq; exact hKn0
    | 1, hq => cases hq; exact hKn1
    | k + 2, hq => simp [vwCl] at hq
  have hS : va_S (fun q : Nat => s.heap.size ≤ q) s.heap s.heap [] := va_S.rf
  have hK : va_K (dC, dI) vwCl [] s := ⟨hKc, fun k q h => by simp at h⟩
  have hP : va_P (dC, dI) vwCl [] s.heap := fun k q h => by simp at h
  have hD : va_D (fun q : Nat => s.heap.size ≤ q) [] := ⟨fun i j p q h => by simp at h, fun k q h => by simp at h⟩
  have hl := lv_entry ([.ref b]) (n := 4) (Nat.le_of_ble_eq_true rfl)
  rw [lg_entry_eq]
  generalize (lg_sl ([.ref b]) ++ List.replicate (4 - (lg_sl ([.ref b])).length) Slot.unset).toArray = ls at hl ⊢
  have hl : lv_has ls 4 [(0, .ref b)] := hl
  refine va_new (ci := 0) (fs := [.int 0, .null, .null, .int 0, .null, .null, .int 0, .int 0, .int 0]) (C := RX0) (T := TX0) (N := 9) hx hb hts in_X0 tyX0 tyX0_ok hown (hts _ q17) (hts _ q18) (hts _ q15) hK hP hD hS hA rfl (fun j hj => by rcases (show j = 0 ∨ j = 1 ∨ j = 2 ∨ j = 3 ∨ j = 4 ∨ j = 5 ∨ j = 6 ∨ j = 7 ∨ j = 8 by omega) with rfl | rfl | rfl | rfl | rfl | rfl | rfl | rfl | rfl <;> rfl) (Nat.le_of_ble_eq_true rfl) (Nat.le_of_ble_eq_true rfl) dL_law_0 (fun h0 H hP hD hS => ?_)
  have hP : va_P (dC, dI) vwCl [(h0, .inr (0, [.int 0, .null, .null, .int 0, .null, .null, .int 0, .int 0, .int 0]))] H := hP
  have hD : va_D (fun q : Nat => s.heap.size ≤ q) [(h0, .inr (0, [.int 0, .null, .null, .int 0, .null, .null, .int 0, .int 0, .int 0]))] := hD
  refine W.widen (k := 1) (n := 9) (by omega) (by omega) ?_
  refine lv_dup hx hb dL_law_3 rfl ?_
  have hFc := va_free (wc := [(h0, .inr (0, [.int 0, .null, .null, .int 0, .null, .null, .int 0, .int 0, .int 0]))]) hD hS hA [0] rfl
  refine va_callv (va_runI (As := []) (rest := [.ref h0]) ⟨hx, hb, hml, hown, hts⟩ (cD_init l dC dI h0 H.size) (cwI 0 hts (lw_meth q21) rfl rfl rfl (hts _ q15) (hts _ q19) (hts _ q20) rfl (by decide +kernel) ⟨Nat.le_of_ble_eq_true rfl, Nat.le_of_ble_eq_true rfl⟩) ⟨fun a U g mk q => by obtain ⟨q0, q1, qP, qK, qD⟩ := q; exact ⟨q0, q1, qP, va_K.moved (u := U) (U := U.calling g mk a) (Vm.Alike.refl U.vm) qK, qD⟩, fun U hU hW => ⟨rfl, by rw [hU], by rw [hU]; exact hP, va_K.moved hW.alike hK, hD.weaken (fun _ _ _ _ => trivial)⟩⟩ rfl rfl hl.1 rfl (lv_room (Nat.le_of_ble_eq_true rfl)) dL_law_4 ⟨Nat.le_of_ble_eq_true rfl, Nat.le_of_ble_eq_true rfl⟩) hS (fun q _ h => hFc q h) hFc (fun u t H1 locs ht hvm hw hB hz1 hk1 hS => ?_)
  obtain ⟨dS, h1, h2, h3, h4⟩ := u
  obtain ⟨hP1, hK1, hD1⟩ := hB
  rw [ht] at hP1
  have hK1 := va_K.moved hvm.symm hK1
  obtain ⟨hP, hD⟩ := va_join (wr := []) (w1 := wD h0 h1 h2 h3 h4 dS 0 (fun _ => 0) (fun _ => 0) 0 (fun _ => 0) (fun _ => 0) 0 0 0) hP hD [0] [] rfl rfl (by decide) (by decide) hk1 hFc hP1 hD1
  have hK : va_K (dC, dI) vwCl [(dS, .short)] s := hK1
  generalize H1 = H at hP hS ⊢
  have hP : va_P (dC, dI) vwCl (wD h0 h1 h2 h3 h4 dS 0 (fun _ => 0) (fun _ => 0) 0 (fun _ => 0) (fun _ => 0) 0 0 0) H := hP
  have hD : va_D (fun q : Nat => s.heap.size ≤ q) (wD h0 h1 h2 h3 h4 dS 0 (fun _ => 0) (fun _ => 0) 0 (fun _ => 0) (fun _ => 0) 0 0 0) := hD
  refine W.widen (k := 5) (n := 45) (by omega) (by omega) ?_
  refine lv_astore_n (lv' := [(1, .ref h0), (0, .ref b)]) hx hb dL_law_7 rfl hl (by decide) rfl (fun ls hl => ?_)
  refine va_new (ci := 1) (fs := [.null, .null, .null, .null]) (C := RX1) (T := TX1) (N := 4) hx hb hts in_X1 tyX1 tyX1_ok hown (hts _ q153) (hts _ q154) (hts _ q16) hK hP hD hS hA rfl (fun j hj => by rcases (show j = 0 ∨ j = 1 ∨ j = 2 ∨ j = 3 by omega) with rfl | rfl | rfl | rfl <;> rfl) (Nat.le_of_ble_eq_true rfl) (Nat.le_of_ble_eq_true rfl) dL_law_8 (fun g0 H hP hD hS => ?_)
  have hP : va_P (dC, dI) vwCl (wD h0 h1 h2 h3 h4 dS 0 (fun _ => 0) (fun _ => 0) 0 (fun _ => 0) (fun _ => 0) 0 0 0 ++ [(g0, .inr (1, [.null, .null, .null, .null]))]) H := hP
  have hD : va_D (fun q : Nat => s.heap.size ≤ q) (wD h0 h1 h2 h3 h4 dS 0 (fun _ => 0) (fun _ => 0) 0 (fun _ => 0) (fun _ => 0) 0 0 0 ++ [(g0, .inr (1, [.null, .null, .null, .null]))]) := hD
  refine W.widen (k := 6) (n := 49) (by omega) (by omega) ?_
  refine lv_dup hx hb dL_law_11 rfl ?_
  have hPc := hP.sub (ws' := [(g0, .inr (1, [.null, .null, .null, .null]))]) [5] rfl
  have hDc := hD.sub (ws' := [(g0, .inr (1, [.null, .null, .null, .null]))]) [5] (by decide) rfl
  have hKc := hK.sub (tys' := []) [] rfl
  have hFc := va_free (wc := [(g0, .inr (1, [.null, .null, .null, .null]))]) hD hS hA [5] rfl
  refine va_callv (va_runI (As := []) (rest := [.ref g0]) ⟨hx, hb, hml, hown, hts⟩ (cM_init l dC dI g0 H.size) (cwI 0 hts (lw_meth q157) rfl rfl rfl (hts _ q16) (hts _ q155) (hts _ q156) rfl (by decide +kernel) ⟨Nat.le_of_ble_eq_true rfl, Nat.le_of_ble_eq_true rfl⟩) ⟨fun a U g mk q => by obtain ⟨q0, q1, qP, qK, qD⟩ := q; exact ⟨q0, q1, qP, va_K.moved (u := U) (U := U.calling g mk a) (Vm.Alike.refl U.vm) qK, qD⟩, fun U hU hW => ⟨rfl, by rw [hU], by rw [hU]; exact hPc, va_K.moved hW.alike hKc, hDc.weaken (fun _ _ _ _ => trivial)⟩⟩ rfl rfl hl.1 rfl (lv_room (Nat.le_of_ble_eq_true rfl)) dL_law_12 ⟨Nat.le_of_ble_eq_true rfl, Nat.le_of_ble_eq_true rfl⟩) hS (fun q _ h => hFc q h) hFc (fun u t H1 locs ht hvm hw hB hz1 hk1 hS => ?_)
  obtain ⟨dZ, dN, g1, g2, g3, g4⟩ := u
  obtain ⟨hP1, hK1, hD1⟩ := hB
  rw [ht] at hP1
  have hK1 := va_K.moved hvm.symm hK1
  obtain ⟨hP, hD⟩ := va_join (wr := wD h0 h1 h2 h3 h4 dS 0 (fun _ => 0) (fun _ => 0) 0 (fun _ => 0) (fun _ => 0) 0 0 0) (w1 := wM g0 g1 g2 g3 g4 dZ dN 0 (fun _ => 0) (fun _ => 0) (fun _ => 0)) hP hD [5] [0, 1, 2, 3, 4] rfl rfl (by decide) (by decide) hk1 hFc hP1 hD1
  have hK : va_K (dC, dI) vwCl (fd_ty dS dZ dN) s := hK.app hK1
  generalize H1 = H at hP hS ⊢
  have hP : va_P (dC, dI) vwCl (wD h0 h1 h2 h3 h4 dS 0 (fun _ => 0) (fun _ => 0) 0 (fun _ => 0) (fun _ => 0) 0 0 0 ++ wM g0 g1 g2 g3 g4 dZ dN 0 (fun _ => 0) (fun _ => 0) (fun _ => 0)) H := hP
  have hD : va_D (fun q : Nat => s.heap.size ≤ q) (wD h0 h1 h2 h3 h4 dS 0 (fun _ => 0) (fun _ => 0) 0 (fun _ => 0) (fun _ => 0) 0 0 0 ++ wM g0 g1 g2 g3 g4 dZ dN 0 (fun _ => 0) (fun _ => 0) (fun _ => 0)) := hD
  refine W.widen (k := 10) (n := 335) (by omega) (by omega) ?_
  refine lv_astore_n (lv' := [(2, .ref g0), (1, .ref h0), (0, .ref b)]) hx hb dL_law_15 rfl hl (by decide) rfl (fun ls hl => ?_)
  refine lv_iconst (v := nI 0) hx hb dL_law_16 (by decide) ?_
  refine lv_istore_n (lv' := [(3, .int (nI 0)), (2, .ref g0), (1, .ref h0), (0, .ref b)]) hx hb dL_law_17 rfl hl (by decide) rfl (fun ls hl => ?_)
  exact law_loop C0 hK hL (Nat.zero_le _) ⟨0, (fun _ => 0), (fun _ => 0), 0, (fun _ => 0), (fun _ => 0), 0, 0, 0, (fun _ => 0), pu_dk0 pu_inv0, hP, hD, hS, lv_sub hl [3, 2, 1, 0] rfl⟩
end
section
set_option maxHeartbeats 4000000 in
theorem lw_walk (l : Launch) (b : Addr) (xs : List Int32) : MetFree l x (headSpec (Jvm.Cond.code x code maxLocals ret :: tables_1) room_1) (lw_P b xs) (fun _ _ _ _ _ => True) lw_Q := by
  refine MetFree.of_bodyS (code := code) (maxLocals := maxLocals) (ret := ret) (by decide) ?_ ?_
  · intro args s m h hn
    obtain ⟨meth, c, h1, h2, h3, h4, h5, h6, -, -⟩ := Cond.code_spec hn (atoms_spec (ws := Jvm.Cond.code x code maxLocals ret :: tables_1) h _ List.mem_cons_self)
    exact ⟨meth, c, h1, h2, h3, h4, h5, h6⟩
  · intro p e s m args below meth c s₁ B hml0 hP _
    obtain ⟨rfl, hx, hbd, hgv⟩ := hP
    obtain ⟨scr, harrAt, hlist, hof, hsmall⟩ := hx
    obtain ⟨hcb, hkn, -, -⟩ := State.arrayAt?_spec harrAt
    have hown : s.vm.findClass R_law = some m.cls := findClass_of_methodNamed B.named
    have hts0 : ∀ c ∈ (Jvm.Cond.code x code maxLocals ret :: tables_1), c.before #[Value.ref b] s = true := atoms_spec (ws := Jvm.Cond.code x code maxLocals ret :: tables_1) B.pre
    have hts : ∀ w ∈ lw_tbl, w.before #[Value.ref b] s = true := k2_hts_sels lw_privs (fun w hw => hts0 w (List.mem_cons_of_mem _ hw)) lw_privs_ok
    have hml : c.maxLocals = 4 := B.maxLocals_eq (hts0 _ List.mem_cons_self)
    have X₀ : Stand p l e room_1 s m #[Value.ref b] below meth c s₁ [] 0 0 := Stand.of_body B
    have hh0 : s₁.heap = s.heap := by rw [B.state]; rfl
    have hsz : scr.slots.size = xs.length := by rw [← Array.length_toList, hlist, List.length_map]
    have hval : ∀ j : Nat, j < xs.length → scr.slots[j]? = some (.int (xs.getD j 0)) := fun j hj => by
      rw [← Array.getElem?_toList, hlist]
      simp [hj]
    have hbl : b < s.heap.size := (Array.getElem?_eq_some_iff.mp hcb).1
    have hX : va_X b xs.length (fun j => xs.getD j 0) s s.heap := ⟨scr, hcb, hof, hkn, hsz, hval⟩
    have K : W p l e room_1 s m #[Value.ref b] below meth c s₁.heap [] 0 0 (lw_Z below #[Value.ref b] s) (entryFrame m ([Value.ref b] : List Value).toArray 4) := by
      rw [hh0]
      exact whole_start l hbd ⟨B.exec, B.bytes, B.returns, hml, hown, hts, hX, hbl, B.notSynchronized, hgv⟩
    obtain ⟨t, a1, o, b1, b2, b3⟩ := K s₁ rfl X₀
    exact ⟨t, o, a1, b1, b2, b3⟩
theorem lw_pre_spec {args : Array Value} {s : State} (h : (Jvm.Cond.and given_1 narrow_1).before args s = true) (hr : rest_1_c.before args s = true) : ∃ (b : Addr) (xs : List Int32), lw_P b xs args s := by
  have hs := flat_of_before _ h
  have hq := flat_of_before _ hr
  have hc : (Cond.count 1).before args s = true := hs _ (by decide +kernel)
  have harr : (Cond.arrayOf (.arg 0) .int).before args s = true := hs _ (by decide +kernel)
  have hle : (Cond.le (.length (.arg 0)) (.int 192)).before args s = true := hs _ (by decide +kernel)
  have hlen : (Cond.isInt (.length (.arg 0))).before args s = true := hq _ (by decide +kernel)
  have hall : (Cond.all (.arg 0) (.isInt (.elem (.arg 0) (.index 0)))).before args s = true := hq _ (by decide +kernel)
  obtain ⟨b, xs, hb, hx⟩ := State.ints_of_pre rfl harr hlen hall
  have hsm : xs.length < 2 ^ 31 := hx.choose_spec.2.2.2
  have hev : (Term.length (.arg 0)).eval args s none [] s = some (.int xs.length.toInt32) := hx.length_eval hb
  have hv := Cond.le_ints hev (show (Term.int 192).eval args s none [] s = some (.int 192) from rfl)
  have hd : xs.length.toInt32 ≤ 192 := by
    simpa [Cond.before, Cond.holds, hv] using hle
  have hN : xs.length ≤ 192 := (Int32.ofNat_le_ofNat hsm (by decide)).mp (show Int32.ofNat xs.length ≤ Int32.ofNat 192 from hd)
  exact ⟨b, xs, Cond.one_arg hc (show args[0]? = some (.ref b) from hb), hx, hN, h⟩
theorem lw_comes (l : Launch) : Comes l x (Jvm.Cond.code x code maxLocals ret :: tables_1) room_1 (fun tb e args s => Calls_1 tb e args s ∧ rest_1 tb e args s ∧ Pre_1 tb e args s)
    (fun _ _ args s o t => lw_Q args s o t) := by
  intro p e ha hc hk s m args below hf hfit hheap happ hpre
  obtain ⟨b, xs, hP⟩ := lw_pre_spec hpre.2.2 hpre.2.1
  obtain ⟨k, o, h1, h2, h3, hQ⟩ := lw_walk l b xs p e ha hc hk s m args below hf ((Spec.applies_iff_loose hf).mp happ).1 hP trivial
  exact ⟨k, o, h1, h2, h3, hQ⟩
theorem lw_frame {s t : State} {o : Outcome} {args : Array Value} (h : Framed s o t [] 600000 7290000) :
    Framed s o t (fieldLocs frame_1_writes args s ++ arrayLocs frame_1_arrays args s ++ staticLocs frame_1_statics s) 600000 7290000 := h
theorem lw_limb (L : Cond) (hL : ∀ (args : Array Value) (s t : State), L.after args s (.returned (some (.int 1))) t = true) :
    ArmFor flags0 classFile x code maxLocals ret World_1 tables_1 room_1 Calls_1 rest_1 Pre_1
      (fun tb e a s o t => postC L tb e a s o t ∧ Framed s o t (fieldLocs frame_1_writes a s ++ arrayLocs frame_1_arrays a s ++ staticLocs frame_1_statics s) 600000 7290000) := by
  intro l _ _ _ p e ha hc hk s m args below hf hfit hheap happ hpre
  obtain ⟨k, o, h1, h2, h3, rfl, hF⟩ := lw_comes l p e ha hc hk s m args below hf hfit hheap happ hpre
  exact ⟨k, _, h1, h2, h3, hL args s _, lw_frame hF⟩
theorem i_vc : Claimed_1_1 ∧ Claimed_1_2 := ⟨lw_limb limb_1_1 (fun args s t => by simp [limb_1_1, Cond.after, Cond.holds, Cond.value]), lw_limb limb_1_2 (fun args s t => Cond.after_iff.mpr (by
  first | (rw [show limb_1_2 = Cond.eq .result (.int 1) from rfl, Cond.eq_ints (x := 1) (y := 1) rfl rfl]; simp; done) | (simp [limb_1_2, Cond.value, Term.eval]; done)))⟩
end
